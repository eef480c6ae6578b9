/-! WhelkFleetModel -/
set_option maxRecDepth 100000
def RX4 : String := "WhelkFleetModel"
def TX4 : u_T := fun k => match k with
  | 0 => ("WhelkFleetModel", "g", "[I", true)
  | 1 => ("WhelkFleetModel", "before", "[I", true)
  | 2 => ("WhelkFleetModel", "history", "[I", true)
  | 3 => ("WhelkFleetModel", "changes", "I", false)
  | 4 => ("WhelkFleetModel", "saved", "[I", true)
  | 5 => ("WhelkFleetModel", "hasSaved", "Z", false)
  | 6 => ("WhelkFleetModel", "aside", "[I", true)
  | 7 => ("WhelkFleetModel", "input", "[C", true)
  | 8 => ("WhelkFleetModel", "typed", "I", false)
  | 9 => ("WhelkFleetModel", "errorAt", "I", false)
  | 10 => ("WhelkFleetModel", "why", "[I", true)
  | 11 => ("WhelkFleetModel", "isRefusal", "Z", false)
  | 12 => ("WhelkFleetModel", "line", "[C", true)
  | 13 => ("WhelkFleetModel", "lined", "I", false)
  | 14 => ("WhelkFleetModel", "thrown", "I", false)
  | 15 => ("WhelkFleetModel", "place", "I", false)
  | 16 => ("WhelkFleetModel", "isWrong", "Z", false)
  | _ => ("WhelkFleetModel", "told", "[I", true)
def tyX4 : Nat → FieldType := fun k => match k with
  | 0 => .array .int
  | 1 => .array .int
  | 2 => .array .int
  | 3 => .int
  | 4 => .array .int
  | 5 => .boolean
  | 6 => .array .int
  | 7 => .array .char
  | 8 => .int
  | 9 => .int
  | 10 => .array .int
  | 11 => .boolean
  | 12 => .array .char
  | 13 => .int
  | 14 => .int
  | 15 => .int
  | 16 => .boolean
  | _ => .array .int
abbrev wsX40 : List Cond := u_ws RX4 TX4 18
set_option maxRecDepth 100000 in
theorem nmX4 : ∀ a, a < 18 → ∀ b, b < 18 → a ≠ b → (TX4 a).2.1 ≠ (TX4 b).2.1 := by decide +kernel
set_option maxRecDepth 100000 in
theorem tyX4_ok : ∀ k, k < 18 → parseFieldDescriptor (TX4 k).2.2.1 = some (tyX4 k) := by decide +kernel
abbrev cX4_init : ByteArray := prog_19_method_1_code
def yX4_init : MethodName := ⟨RX4, "<init>", "()V"⟩
def dkwX4_init_7 : List UInt8 := [96, 16, 20, 79, 132, 1, 1, 167, 255, 237, 177]
abbrev dktX4_init_7 : List UInt8 := dkwX4_init_7 ++ []
def dkwX4_init_6 : List UInt8 := [96, 16, 60, 79, 132, 1, 1, 167, 255, 205, 3, 60, 27, 6, 162, 0, 20, 42, 180, 0, 7, 16, 21, 27]
abbrev dktX4_init_6 : List UInt8 := dkwX4_init_6 ++ dktX4_init_7
def dkwX4_init_5 : List UInt8 := [180, 0, 7, 6, 6, 27, 104, 96, 4, 96, 17, 0, 150, 79, 42, 180, 0, 7, 6, 6, 27, 104, 96, 5]
abbrev dktX4_init_5 : List UInt8 := dkwX4_init_5 ++ dktX4_init_6
def dkwX4_init_4 : List UInt8 := [4, 79, 3, 60, 27, 16, 6, 162, 0, 51, 42, 180, 0, 7, 6, 6, 27, 104, 96, 17, 0, 200, 79, 42]
abbrev dktX4_init_4 : List UInt8 := dkwX4_init_4 ++ dktX4_init_5
def dkwX4_init_3 : List UInt8 := [181, 0, 36, 42, 17, 0, 240, 188, 10, 181, 0, 39, 42, 180, 0, 7, 4, 5, 79, 42, 180, 0, 7, 5]
abbrev dktX4_init_3 : List UInt8 := dkwX4_init_3 ++ dktX4_init_4
def dkwX4_init_2 : List UInt8 := [188, 5, 181, 0, 25, 42, 2, 181, 0, 29, 42, 16, 6, 188, 10, 181, 0, 33, 42, 16, 60, 188, 5]
abbrev dktX4_init_2 : List UInt8 := dkwX4_init_2 ++ dktX4_init_3
def dkwX4_init_1 : List UInt8 := [188, 10, 181, 0, 16, 42, 16, 112, 188, 10, 181, 0, 19, 42, 16, 112, 188, 10, 181, 0, 22, 42, 16, 60]
abbrev dktX4_init_1 : List UInt8 := dkwX4_init_1 ++ dktX4_init_2
def dkwX4_init_0 : List UInt8 := [42, 183, 0, 1, 42, 16, 112, 188, 10, 181, 0, 7, 42, 16, 112, 188, 10, 181, 0, 13, 42, 17, 3, 128]
abbrev dktX4_init_0 : List UInt8 := dkwX4_init_0 ++ dktX4_init_1
theorem dksX4_init_0 : cX4_init.data.toList.drop 0 = dktX4_init_0 := by decide +kernel
theorem dksX4_init_1 : cX4_init.data.toList.drop 24 = dktX4_init_1 := dk_seg dksX4_init_0 24 rfl rfl
theorem dksX4_init_2 : cX4_init.data.toList.drop 48 = dktX4_init_2 := dk_seg dksX4_init_1 24 rfl rfl
theorem dksX4_init_3 : cX4_init.data.toList.drop 71 = dktX4_init_3 := dk_seg dksX4_init_2 23 rfl rfl
theorem dksX4_init_4 : cX4_init.data.toList.drop 95 = dktX4_init_4 := dk_seg dksX4_init_3 24 rfl rfl
theorem dksX4_init_5 : cX4_init.data.toList.drop 119 = dktX4_init_5 := dk_seg dksX4_init_4 24 rfl rfl
theorem dksX4_init_6 : cX4_init.data.toList.drop 143 = dktX4_init_6 := dk_seg dksX4_init_5 24 rfl rfl
theorem dksX4_init_7 : cX4_init.data.toList.drop 167 = dktX4_init_7 := dk_seg dksX4_init_6 24 rfl rfl
theorem dX4_init_0 : decode cX4_init 0 = .ok (.aload_n 0, 1) := dk_42 (dk_at dksX4_init_0 0 rfl rfl)
theorem dX4_init_1 : decode cX4_init 1 = .ok (.invokespecial 1, 3) := dk_183 0 1 (dk_at dksX4_init_0 1 rfl rfl)
theorem dX4_init_4 : decode cX4_init 4 = .ok (.aload_n 0, 1) := dk_42 (dk_at dksX4_init_0 4 rfl rfl)
theorem dX4_init_5 : decode cX4_init 5 = .ok (.bipush 112, 2) := dk_16 112 (dk_at dksX4_init_0 5 rfl rfl)
theorem dX4_init_7 : decode cX4_init 7 = .ok (.newarray .int, 2) := dk_188_10 (dk_at dksX4_init_0 7 rfl rfl)
theorem dX4_init_9 : decode cX4_init 9 = .ok (.putfield 7, 3) := dk_181 0 7 (dk_at dksX4_init_0 9 rfl rfl)
theorem dX4_init_12 : decode cX4_init 12 = .ok (.aload_n 0, 1) := dk_42 (dk_at dksX4_init_0 12 rfl rfl)
theorem dX4_init_13 : decode cX4_init 13 = .ok (.bipush 112, 2) := dk_16 112 (dk_at dksX4_init_0 13 rfl rfl)
theorem dX4_init_15 : decode cX4_init 15 = .ok (.newarray .int, 2) := dk_188_10 (dk_at dksX4_init_0 15 rfl rfl)
theorem dX4_init_17 : decode cX4_init 17 = .ok (.putfield 13, 3) := dk_181 0 13 (dk_at dksX4_init_0 17 rfl rfl)
theorem dX4_init_20 : decode cX4_init 20 = .ok (.aload_n 0, 1) := dk_42 (dk_at dksX4_init_0 20 rfl rfl)
theorem dX4_init_21 : decode cX4_init 21 = .ok (.sipush 896, 3) := dk_17 3 128 (dk_at dksX4_init_0 21 rfl rfl)
theorem dX4_init_24 : decode cX4_init 24 = .ok (.newarray .int, 2) := dk_188_10 (dk_at dksX4_init_1 0 rfl rfl)
theorem dX4_init_26 : decode cX4_init 26 = .ok (.putfield 16, 3) := dk_181 0 16 (dk_at dksX4_init_1 2 rfl rfl)
theorem dX4_init_29 : decode cX4_init 29 = .ok (.aload_n 0, 1) := dk_42 (dk_at dksX4_init_1 5 rfl rfl)
theorem dX4_init_30 : decode cX4_init 30 = .ok (.bipush 112, 2) := dk_16 112 (dk_at dksX4_init_1 6 rfl rfl)
theorem dX4_init_32 : decode cX4_init 32 = .ok (.newarray .int, 2) := dk_188_10 (dk_at dksX4_init_1 8 rfl rfl)
theorem dX4_init_34 : decode cX4_init 34 = .ok (.putfield 19, 3) := dk_181 0 19 (dk_at dksX4_init_1 10 rfl rfl)
theorem dX4_init_37 : decode cX4_init 37 = .ok (.aload_n 0, 1) := dk_42 (dk_at dksX4_init_1 13 rfl rfl)
theorem dX4_init_38 : decode cX4_init 38 = .ok (.bipush 112, 2) := dk_16 112 (dk_at dksX4_init_1 14 rfl rfl)
theorem dX4_init_40 : decode cX4_init 40 = .ok (.newarray .int, 2) := dk_188_10 (dk_at dksX4_init_1 16 rfl rfl)
theorem dX4_init_42 : decode cX4_init 42 = .ok (.putfield 22, 3) := dk_181 0 22 (dk_at dksX4_init_1 18 rfl rfl)
theorem dX4_init_45 : decode cX4_init 45 = .ok (.aload_n 0, 1) := dk_42 (dk_at dksX4_init_1 21 rfl rfl)
theorem dX4_init_46 : decode cX4_init 46 = .ok (.bipush 60, 2) := dk_16 60 (dk_at dksX4_init_1 22 rfl rfl)
theorem dX4_init_48 : decode cX4_init 48 = .ok (.newarray .char, 2) := dk_188_5 (dk_at dksX4_init_2 0 rfl rfl)
theorem dX4_init_50 : decode cX4_init 50 = .ok (.putfield 25, 3) := dk_181 0 25 (dk_at dksX4_init_2 2 rfl rfl)
theorem dX4_init_53 : decode cX4_init 53 = .ok (.aload_n 0, 1) := dk_42 (dk_at dksX4_init_2 5 rfl rfl)
theorem dX4_init_54 : decode cX4_init 54 = .ok (.iconst (-1), 1) := dk_2 (dk_at dksX4_init_2 6 rfl rfl)
theorem dX4_init_55 : decode cX4_init 55 = .ok (.putfield 29, 3) := dk_181 0 29 (dk_at dksX4_init_2 7 rfl rfl)
theorem dX4_init_58 : decode cX4_init 58 = .ok (.aload_n 0, 1) := dk_42 (dk_at dksX4_init_2 10 rfl rfl)
theorem dX4_init_59 : decode cX4_init 59 = .ok (.bipush 6, 2) := dk_16 6 (dk_at dksX4_init_2 11 rfl rfl)
theorem dX4_init_61 : decode cX4_init 61 = .ok (.newarray .int, 2) := dk_188_10 (dk_at dksX4_init_2 13 rfl rfl)
theorem dX4_init_63 : decode cX4_init 63 = .ok (.putfield 33, 3) := dk_181 0 33 (dk_at dksX4_init_2 15 rfl rfl)
theorem dX4_init_66 : decode cX4_init 66 = .ok (.aload_n 0, 1) := dk_42 (dk_at dksX4_init_2 18 rfl rfl)
theorem dX4_init_67 : decode cX4_init 67 = .ok (.bipush 60, 2) := dk_16 60 (dk_at dksX4_init_2 19 rfl rfl)
theorem dX4_init_69 : decode cX4_init 69 = .ok (.newarray .char, 2) := dk_188_5 (dk_at dksX4_init_2 21 rfl rfl)
theorem dX4_init_71 : decode cX4_init 71 = .ok (.putfield 36, 3) := dk_181 0 36 (dk_at dksX4_init_3 0 rfl rfl)
theorem dX4_init_74 : decode cX4_init 74 = .ok (.aload_n 0, 1) := dk_42 (dk_at dksX4_init_3 3 rfl rfl)
theorem dX4_init_75 : decode cX4_init 75 = .ok (.sipush 240, 3) := dk_17 0 240 (dk_at dksX4_init_3 4 rfl rfl)
theorem dX4_init_78 : decode cX4_init 78 = .ok (.newarray .int, 2) := dk_188_10 (dk_at dksX4_init_3 7 rfl rfl)
theorem dX4_init_80 : decode cX4_init 80 = .ok (.putfield 39, 3) := dk_181 0 39 (dk_at dksX4_init_3 9 rfl rfl)
theorem dX4_init_83 : decode cX4_init 83 = .ok (.aload_n 0, 1) := dk_42 (dk_at dksX4_init_3 12 rfl rfl)
theorem dX4_init_84 : decode cX4_init 84 = .ok (.getfield 7, 3) := dk_180 0 7 (dk_at dksX4_init_3 13 rfl rfl)
theorem dX4_init_87 : decode cX4_init 87 = .ok (.iconst 1, 1) := dk_4 (dk_at dksX4_init_3 16 rfl rfl)
theorem dX4_init_88 : decode cX4_init 88 = .ok (.iconst 2, 1) := dk_5 (dk_at dksX4_init_3 17 rfl rfl)
theorem dX4_init_89 : decode cX4_init 89 = .ok (.iastore, 1) := dk_79 (dk_at dksX4_init_3 18 rfl rfl)
theorem dX4_init_90 : decode cX4_init 90 = .ok (.aload_n 0, 1) := dk_42 (dk_at dksX4_init_3 19 rfl rfl)
theorem dX4_init_91 : decode cX4_init 91 = .ok (.getfield 7, 3) := dk_180 0 7 (dk_at dksX4_init_3 20 rfl rfl)
theorem dX4_init_94 : decode cX4_init 94 = .ok (.iconst 2, 1) := dk_5 (dk_at dksX4_init_3 23 rfl rfl)
theorem dX4_init_95 : decode cX4_init 95 = .ok (.iconst 1, 1) := dk_4 (dk_at dksX4_init_4 0 rfl rfl)
theorem dX4_init_96 : decode cX4_init 96 = .ok (.iastore, 1) := dk_79 (dk_at dksX4_init_4 1 rfl rfl)
theorem dX4_init_97 : decode cX4_init 97 = .ok (.iconst 0, 1) := dk_3 (dk_at dksX4_init_4 2 rfl rfl)
theorem dX4_init_98 : decode cX4_init 98 = .ok (.istore_n 1, 1) := dk_60 (dk_at dksX4_init_4 3 rfl rfl)
theorem dX4_init_99 : decode cX4_init 99 = .ok (.iload_n 1, 1) := dk_27 (dk_at dksX4_init_4 4 rfl rfl)
theorem dX4_init_100 : decode cX4_init 100 = .ok (.bipush 6, 2) := dk_16 6 (dk_at dksX4_init_4 5 rfl rfl)
theorem dX4_init_102 : decode cX4_init 102 = .ok (.if_icmp .ge 51, 3) := dk_162 0 51 (dk_at dksX4_init_4 7 rfl rfl)
theorem dX4_init_105 : decode cX4_init 105 = .ok (.aload_n 0, 1) := dk_42 (dk_at dksX4_init_4 10 rfl rfl)
theorem dX4_init_106 : decode cX4_init 106 = .ok (.getfield 7, 3) := dk_180 0 7 (dk_at dksX4_init_4 11 rfl rfl)
theorem dX4_init_109 : decode cX4_init 109 = .ok (.iconst 3, 1) := dk_6 (dk_at dksX4_init_4 14 rfl rfl)
theorem dX4_init_110 : decode cX4_init 110 = .ok (.iconst 3, 1) := dk_6 (dk_at dksX4_init_4 15 rfl rfl)
theorem dX4_init_111 : decode cX4_init 111 = .ok (.iload_n 1, 1) := dk_27 (dk_at dksX4_init_4 16 rfl rfl)
theorem dX4_init_112 : decode cX4_init 112 = .ok (.imul, 1) := dk_104 (dk_at dksX4_init_4 17 rfl rfl)
theorem dX4_init_113 : decode cX4_init 113 = .ok (.iadd, 1) := dk_96 (dk_at dksX4_init_4 18 rfl rfl)
theorem dX4_init_114 : decode cX4_init 114 = .ok (.sipush 200, 3) := dk_17 0 200 (dk_at dksX4_init_4 19 rfl rfl)
theorem dX4_init_117 : decode cX4_init 117 = .ok (.iastore, 1) := dk_79 (dk_at dksX4_init_4 22 rfl rfl)
theorem dX4_init_118 : decode cX4_init 118 = .ok (.aload_n 0, 1) := dk_42 (dk_at dksX4_init_4 23 rfl rfl)
theorem dX4_init_119 : decode cX4_init 119 = .ok (.getfield 7, 3) := dk_180 0 7 (dk_at dksX4_init_5 0 rfl rfl)
theorem dX4_init_122 : decode cX4_init 122 = .ok (.iconst 3, 1) := dk_6 (dk_at dksX4_init_5 3 rfl rfl)
theorem dX4_init_123 : decode cX4_init 123 = .ok (.iconst 3, 1) := dk_6 (dk_at dksX4_init_5 4 rfl rfl)
theorem dX4_init_124 : decode cX4_init 124 = .ok (.iload_n 1, 1) := dk_27 (dk_at dksX4_init_5 5 rfl rfl)
theorem dX4_init_125 : decode cX4_init 125 = .ok (.imul, 1) := dk_104 (dk_at dksX4_init_5 6 rfl rfl)
theorem dX4_init_126 : decode cX4_init 126 = .ok (.iadd, 1) := dk_96 (dk_at dksX4_init_5 7 rfl rfl)
theorem dX4_init_127 : decode cX4_init 127 = .ok (.iconst 1, 1) := dk_4 (dk_at dksX4_init_5 8 rfl rfl)
theorem dX4_init_128 : decode cX4_init 128 = .ok (.iadd, 1) := dk_96 (dk_at dksX4_init_5 9 rfl rfl)
theorem dX4_init_129 : decode cX4_init 129 = .ok (.sipush 150, 3) := dk_17 0 150 (dk_at dksX4_init_5 10 rfl rfl)
theorem dX4_init_132 : decode cX4_init 132 = .ok (.iastore, 1) := dk_79 (dk_at dksX4_init_5 13 rfl rfl)
theorem dX4_init_133 : decode cX4_init 133 = .ok (.aload_n 0, 1) := dk_42 (dk_at dksX4_init_5 14 rfl rfl)
theorem dX4_init_134 : decode cX4_init 134 = .ok (.getfield 7, 3) := dk_180 0 7 (dk_at dksX4_init_5 15 rfl rfl)
theorem dX4_init_137 : decode cX4_init 137 = .ok (.iconst 3, 1) := dk_6 (dk_at dksX4_init_5 18 rfl rfl)
theorem dX4_init_138 : decode cX4_init 138 = .ok (.iconst 3, 1) := dk_6 (dk_at dksX4_init_5 19 rfl rfl)
theorem dX4_init_139 : decode cX4_init 139 = .ok (.iload_n 1, 1) := dk_27 (dk_at dksX4_init_5 20 rfl rfl)
theorem dX4_init_140 : decode cX4_init 140 = .ok (.imul, 1) := dk_104 (dk_at dksX4_init_5 21 rfl rfl)
theorem dX4_init_141 : decode cX4_init 141 = .ok (.iadd, 1) := dk_96 (dk_at dksX4_init_5 22 rfl rfl)
theorem dX4_init_142 : decode cX4_init 142 = .ok (.iconst 2, 1) := dk_5 (dk_at dksX4_init_5 23 rfl rfl)
theorem dX4_init_143 : decode cX4_init 143 = .ok (.iadd, 1) := dk_96 (dk_at dksX4_init_6 0 rfl rfl)
theorem dX4_init_144 : decode cX4_init 144 = .ok (.bipush 60, 2) := dk_16 60 (dk_at dksX4_init_6 1 rfl rfl)
theorem dX4_init_146 : decode cX4_init 146 = .ok (.iastore, 1) := dk_79 (dk_at dksX4_init_6 3 rfl rfl)
theorem dX4_init_147 : decode cX4_init 147 = .ok (.iinc 1 1, 3) := dk_132 1 1 (dk_at dksX4_init_6 4 rfl rfl)
theorem dX4_init_150 : decode cX4_init 150 = .ok (.goto (-51), 3) := dk_167 255 205 (dk_at dksX4_init_6 7 rfl rfl)
theorem dX4_init_153 : decode cX4_init 153 = .ok (.iconst 0, 1) := dk_3 (dk_at dksX4_init_6 10 rfl rfl)
theorem dX4_init_154 : decode cX4_init 154 = .ok (.istore_n 1, 1) := dk_60 (dk_at dksX4_init_6 11 rfl rfl)
theorem dX4_init_155 : decode cX4_init 155 = .ok (.iload_n 1, 1) := dk_27 (dk_at dksX4_init_6 12 rfl rfl)
theorem dX4_init_156 : decode cX4_init 156 = .ok (.iconst 3, 1) := dk_6 (dk_at dksX4_init_6 13 rfl rfl)
theorem dX4_init_157 : decode cX4_init 157 = .ok (.if_icmp .ge 20, 3) := dk_162 0 20 (dk_at dksX4_init_6 14 rfl rfl)
theorem dX4_init_160 : decode cX4_init 160 = .ok (.aload_n 0, 1) := dk_42 (dk_at dksX4_init_6 17 rfl rfl)
theorem dX4_init_161 : decode cX4_init 161 = .ok (.getfield 7, 3) := dk_180 0 7 (dk_at dksX4_init_6 18 rfl rfl)
theorem dX4_init_164 : decode cX4_init 164 = .ok (.bipush 21, 2) := dk_16 21 (dk_at dksX4_init_6 21 rfl rfl)
theorem dX4_init_166 : decode cX4_init 166 = .ok (.iload_n 1, 1) := dk_27 (dk_at dksX4_init_6 23 rfl rfl)
theorem dX4_init_167 : decode cX4_init 167 = .ok (.iadd, 1) := dk_96 (dk_at dksX4_init_7 0 rfl rfl)
theorem dX4_init_168 : decode cX4_init 168 = .ok (.bipush 20, 2) := dk_16 20 (dk_at dksX4_init_7 1 rfl rfl)
theorem dX4_init_170 : decode cX4_init 170 = .ok (.iastore, 1) := dk_79 (dk_at dksX4_init_7 3 rfl rfl)
theorem dX4_init_171 : decode cX4_init 171 = .ok (.iinc 1 1, 3) := dk_132 1 1 (dk_at dksX4_init_7 4 rfl rfl)
theorem dX4_init_174 : decode cX4_init 174 = .ok (.goto (-19), 3) := dk_167 255 237 (dk_at dksX4_init_7 7 rfl rfl)
theorem dX4_init_177 : decode cX4_init 177 = .ok (.return_, 1) := dk_177 (dk_at dksX4_init_7 10 rfl rfl)
abbrev cX4_thrown : ByteArray := prog_19_method_2_code
def yX4_thrown : MethodName := ⟨RX4, "thrown", "()I"⟩
theorem dX4_thrown_0 : decode cX4_thrown 0 = .ok (.aload_n 0, 1) := by decide +kernel
theorem dX4_thrown_1 : decode cX4_thrown 1 = .ok (.getfield 42, 3) := by decide +kernel
theorem dX4_thrown_4 : decode cX4_thrown 4 = .ok (.ireturn, 1) := by decide +kernel
abbrev cX4_whelks : ByteArray := prog_19_method_14_code
def yX4_whelks : MethodName := ⟨RX4, "whelks", "(II)I"⟩
def dkwX4_whelks_1 : List UInt8 := [180, 0, 7, 6, 6, 27, 104, 96, 28, 96, 46, 182, 0, 75, 167, 0, 8, 42, 5, 182, 0, 68, 172]
abbrev dktX4_whelks_1 : List UInt8 := dkwX4_whelks_1 ++ []
def dkwX4_whelks_0 : List UInt8 := [27, 184, 0, 64, 154, 0, 9, 42, 4, 182, 0, 68, 172, 28, 184, 0, 72, 153, 0, 22, 42, 42]
abbrev dktX4_whelks_0 : List UInt8 := dkwX4_whelks_0 ++ dktX4_whelks_1
theorem dksX4_whelks_0 : cX4_whelks.data.toList.drop 0 = dktX4_whelks_0 := by decide +kernel
theorem dksX4_whelks_1 : cX4_whelks.data.toList.drop 22 = dktX4_whelks_1 := dk_seg dksX4_whelks_0 22 rfl rfl
theorem dX4_whelks_0 : decode cX4_whelks 0 = .ok (.iload_n 1, 1) := dk_27 (dk_at dksX4_whelks_0 0 rfl rfl)
theorem dX4_whelks_1 : decode cX4_whelks 1 = .ok (.invokestatic 64, 3) := dk_184 0 64 (dk_at dksX4_whelks_0 1 rfl rfl)
theorem dX4_whelks_4 : decode cX4_whelks 4 = .ok (.ifCond .ne 9, 3) := dk_154 0 9 (dk_at dksX4_whelks_0 4 rfl rfl)
theorem dX4_whelks_7 : decode cX4_whelks 7 = .ok (.aload_n 0, 1) := dk_42 (dk_at dksX4_whelks_0 7 rfl rfl)
theorem dX4_whelks_8 : decode cX4_whelks 8 = .ok (.iconst 1, 1) := dk_4 (dk_at dksX4_whelks_0 8 rfl rfl)
theorem dX4_whelks_9 : decode cX4_whelks 9 = .ok (.invokevirtual 68, 3) := dk_182 0 68 (dk_at dksX4_whelks_0 9 rfl rfl)
theorem dX4_whelks_12 : decode cX4_whelks 12 = .ok (.ireturn, 1) := dk_172 (dk_at dksX4_whelks_0 12 rfl rfl)
theorem dX4_whelks_13 : decode cX4_whelks 13 = .ok (.iload_n 2, 1) := dk_28 (dk_at dksX4_whelks_0 13 rfl rfl)
theorem dX4_whelks_14 : decode cX4_whelks 14 = .ok (.invokestatic 72, 3) := dk_184 0 72 (dk_at dksX4_whelks_0 14 rfl rfl)
theorem dX4_whelks_17 : decode cX4_whelks 17 = .ok (.ifCond .eq 22, 3) := dk_153 0 22 (dk_at dksX4_whelks_0 17 rfl rfl)
theorem dX4_whelks_20 : decode cX4_whelks 20 = .ok (.aload_n 0, 1) := dk_42 (dk_at dksX4_whelks_0 20 rfl rfl)
theorem dX4_whelks_21 : decode cX4_whelks 21 = .ok (.aload_n 0, 1) := dk_42 (dk_at dksX4_whelks_0 21 rfl rfl)
theorem dX4_whelks_22 : decode cX4_whelks 22 = .ok (.getfield 7, 3) := dk_180 0 7 (dk_at dksX4_whelks_1 0 rfl rfl)
theorem dX4_whelks_25 : decode cX4_whelks 25 = .ok (.iconst 3, 1) := dk_6 (dk_at dksX4_whelks_1 3 rfl rfl)
theorem dX4_whelks_26 : decode cX4_whelks 26 = .ok (.iconst 3, 1) := dk_6 (dk_at dksX4_whelks_1 4 rfl rfl)
theorem dX4_whelks_27 : decode cX4_whelks 27 = .ok (.iload_n 1, 1) := dk_27 (dk_at dksX4_whelks_1 5 rfl rfl)
theorem dX4_whelks_28 : decode cX4_whelks 28 = .ok (.imul, 1) := dk_104 (dk_at dksX4_whelks_1 6 rfl rfl)
theorem dX4_whelks_29 : decode cX4_whelks 29 = .ok (.iadd, 1) := dk_96 (dk_at dksX4_whelks_1 7 rfl rfl)
theorem dX4_whelks_30 : decode cX4_whelks 30 = .ok (.iload_n 2, 1) := dk_28 (dk_at dksX4_whelks_1 8 rfl rfl)
theorem dX4_whelks_31 : decode cX4_whelks 31 = .ok (.iadd, 1) := dk_96 (dk_at dksX4_whelks_1 9 rfl rfl)
theorem dX4_whelks_32 : decode cX4_whelks 32 = .ok (.iaload, 1) := dk_46 (dk_at dksX4_whelks_1 10 rfl rfl)
theorem dX4_whelks_33 : decode cX4_whelks 33 = .ok (.invokevirtual 75, 3) := dk_182 0 75 (dk_at dksX4_whelks_1 11 rfl rfl)
theorem dX4_whelks_36 : decode cX4_whelks 36 = .ok (.goto 8, 3) := dk_167 0 8 (dk_at dksX4_whelks_1 14 rfl rfl)
theorem dX4_whelks_39 : decode cX4_whelks 39 = .ok (.aload_n 0, 1) := dk_42 (dk_at dksX4_whelks_1 17 rfl rfl)
theorem dX4_whelks_40 : decode cX4_whelks 40 = .ok (.iconst 2, 1) := dk_5 (dk_at dksX4_whelks_1 18 rfl rfl)
theorem dX4_whelks_41 : decode cX4_whelks 41 = .ok (.invokevirtual 68, 3) := dk_182 0 68 (dk_at dksX4_whelks_1 19 rfl rfl)
theorem dX4_whelks_44 : decode cX4_whelks 44 = .ok (.ireturn, 1) := dk_172 (dk_at dksX4_whelks_1 22 rfl rfl)
abbrev cX4_isGround : ByteArray := prog_19_method_12_code
def yX4_isGround : MethodName := ⟨RX4, "isGround", "(I)Z"⟩
def dkwX4_isGround_0 : List UInt8 := [26, 3, 8, 184, 0, 60, 172]
abbrev dktX4_isGround_0 : List UInt8 := dkwX4_isGround_0 ++ []
theorem dksX4_isGround_0 : cX4_isGround.data.toList.drop 0 = dktX4_isGround_0 := by decide +kernel
theorem dX4_isGround_0 : decode cX4_isGround 0 = .ok (.iload_n 0, 1) := dk_26 (dk_at dksX4_isGround_0 0 rfl rfl)
theorem dX4_isGround_1 : decode cX4_isGround 1 = .ok (.iconst 0, 1) := dk_3 (dk_at dksX4_isGround_0 1 rfl rfl)
theorem dX4_isGround_2 : decode cX4_isGround 2 = .ok (.iconst 5, 1) := dk_8 (dk_at dksX4_isGround_0 2 rfl rfl)
theorem dX4_isGround_3 : decode cX4_isGround 3 = .ok (.invokestatic 60, 3) := dk_184 0 60 (dk_at dksX4_isGround_0 3 rfl rfl)
theorem dX4_isGround_6 : decode cX4_isGround 6 = .ok (.ireturn, 1) := dk_172 (dk_at dksX4_isGround_0 6 rfl rfl)
abbrev cX4_in : ByteArray := prog_19_method_3_code
def yX4_in : MethodName := ⟨RX4, "in", "(III)Z"⟩
def dkwX4_in_0 : List UInt8 := [26, 27, 161, 0, 12, 26, 28, 163, 0, 7, 4, 167, 0, 4, 3, 172]
abbrev dktX4_in_0 : List UInt8 := dkwX4_in_0 ++ []
theorem dksX4_in_0 : cX4_in.data.toList.drop 0 = dktX4_in_0 := by decide +kernel
theorem dX4_in_0 : decode cX4_in 0 = .ok (.iload_n 0, 1) := dk_26 (dk_at dksX4_in_0 0 rfl rfl)
theorem dX4_in_1 : decode cX4_in 1 = .ok (.iload_n 1, 1) := dk_27 (dk_at dksX4_in_0 1 rfl rfl)
theorem dX4_in_2 : decode cX4_in 2 = .ok (.if_icmp .lt 12, 3) := dk_161 0 12 (dk_at dksX4_in_0 2 rfl rfl)
theorem dX4_in_5 : decode cX4_in 5 = .ok (.iload_n 0, 1) := dk_26 (dk_at dksX4_in_0 5 rfl rfl)
theorem dX4_in_6 : decode cX4_in 6 = .ok (.iload_n 2, 1) := dk_28 (dk_at dksX4_in_0 6 rfl rfl)
theorem dX4_in_7 : decode cX4_in 7 = .ok (.if_icmp .gt 7, 3) := dk_163 0 7 (dk_at dksX4_in_0 7 rfl rfl)
theorem dX4_in_10 : decode cX4_in 10 = .ok (.iconst 1, 1) := dk_4 (dk_at dksX4_in_0 10 rfl rfl)
theorem dX4_in_11 : decode cX4_in 11 = .ok (.goto 4, 3) := dk_167 0 4 (dk_at dksX4_in_0 11 rfl rfl)
theorem dX4_in_14 : decode cX4_in 14 = .ok (.iconst 0, 1) := dk_3 (dk_at dksX4_in_0 14 rfl rfl)
theorem dX4_in_15 : decode cX4_in 15 = .ok (.ireturn, 1) := dk_172 (dk_at dksX4_in_0 15 rfl rfl)
abbrev cX4_fails : ByteArray := prog_19_method_5_code
def yX4_fails : MethodName := ⟨RX4, "fails", "(I)I"⟩
def dkwX4_fails_0 : List UInt8 := [42, 27, 181, 0, 42, 42, 3, 181, 0, 45, 3, 172]
abbrev dktX4_fails_0 : List UInt8 := dkwX4_fails_0 ++ []
theorem dksX4_fails_0 : cX4_fails.data.toList.drop 0 = dktX4_fails_0 := by decide +kernel
theorem dX4_fails_0 : decode cX4_fails 0 = .ok (.aload_n 0, 1) := dk_42 (dk_at dksX4_fails_0 0 rfl rfl)
theorem dX4_fails_1 : decode cX4_fails 1 = .ok (.iload_n 1, 1) := dk_27 (dk_at dksX4_fails_0 1 rfl rfl)
theorem dX4_fails_2 : decode cX4_fails 2 = .ok (.putfield 42, 3) := dk_181 0 42 (dk_at dksX4_fails_0 2 rfl rfl)
theorem dX4_fails_5 : decode cX4_fails 5 = .ok (.aload_n 0, 1) := dk_42 (dk_at dksX4_fails_0 5 rfl rfl)
theorem dX4_fails_6 : decode cX4_fails 6 = .ok (.iconst 0, 1) := dk_3 (dk_at dksX4_fails_0 6 rfl rfl)
theorem dX4_fails_7 : decode cX4_fails 7 = .ok (.putfield 45, 3) := dk_181 0 45 (dk_at dksX4_fails_0 7 rfl rfl)
theorem dX4_fails_10 : decode cX4_fails 10 = .ok (.iconst 0, 1) := dk_3 (dk_at dksX4_fails_0 10 rfl rfl)
theorem dX4_fails_11 : decode cX4_fails 11 = .ok (.ireturn, 1) := dk_172 (dk_at dksX4_fails_0 11 rfl rfl)
abbrev cX4_isSize : ByteArray := prog_19_method_13_code
def yX4_isSize : MethodName := ⟨RX4, "isSize", "(I)Z"⟩
def dkwX4_isSize_0 : List UInt8 := [26, 3, 5, 184, 0, 60, 172]
abbrev dktX4_isSize_0 : List UInt8 := dkwX4_isSize_0 ++ []
theorem dksX4_isSize_0 : cX4_isSize.data.toList.drop 0 = dktX4_isSize_0 := by decide +kernel
theorem dX4_isSize_0 : decode cX4_isSize 0 = .ok (.iload_n 0, 1) := dk_26 (dk_at dksX4_isSize_0 0 rfl rfl)
theorem dX4_isSize_1 : decode cX4_isSize 1 = .ok (.iconst 0, 1) := dk_3 (dk_at dksX4_isSize_0 1 rfl rfl)
theorem dX4_isSize_2 : decode cX4_isSize 2 = .ok (.iconst 2, 1) := dk_5 (dk_at dksX4_isSize_0 2 rfl rfl)
theorem dX4_isSize_3 : decode cX4_isSize 3 = .ok (.invokestatic 60, 3) := dk_184 0 60 (dk_at dksX4_isSize_0 3 rfl rfl)
theorem dX4_isSize_6 : decode cX4_isSize 6 = .ok (.ireturn, 1) := dk_172 (dk_at dksX4_isSize_0 6 rfl rfl)
abbrev cX4_done : ByteArray := prog_19_method_4_code
def yX4_done : MethodName := ⟨RX4, "done", "(I)I"⟩
def dkwX4_done_0 : List UInt8 := [42, 3, 181, 0, 42, 27, 172]
abbrev dktX4_done_0 : List UInt8 := dkwX4_done_0 ++ []
theorem dksX4_done_0 : cX4_done.data.toList.drop 0 = dktX4_done_0 := by decide +kernel
theorem dX4_done_0 : decode cX4_done 0 = .ok (.aload_n 0, 1) := dk_42 (dk_at dksX4_done_0 0 rfl rfl)
theorem dX4_done_1 : decode cX4_done 1 = .ok (.iconst 0, 1) := dk_3 (dk_at dksX4_done_0 1 rfl rfl)
theorem dX4_done_2 : decode cX4_done 2 = .ok (.putfield 42, 3) := dk_181 0 42 (dk_at dksX4_done_0 2 rfl rfl)
theorem dX4_done_5 : decode cX4_done 5 = .ok (.iload_n 1, 1) := dk_27 (dk_at dksX4_done_0 5 rfl rfl)
theorem dX4_done_6 : decode cX4_done 6 = .ok (.ireturn, 1) := dk_172 (dk_at dksX4_done_0 6 rfl rfl)
abbrev cX4_stock : ByteArray := prog_19_method_15_code
def yX4_stock : MethodName := ⟨RX4, "stock", "(III)I"⟩
def dkwX4_stock_3 : List UInt8 := [21, 5, 182, 0, 75, 182, 0, 81, 172]
abbrev dktX4_stock_3 : List UInt8 := dkwX4_stock_3 ++ []
def dkwX4_stock_2 : List UInt8 := [28, 96, 54, 4, 42, 180, 0, 7, 21, 4, 46, 54, 5, 42, 180, 0, 7, 21, 4, 29, 79, 42, 42]
abbrev dktX4_stock_2 : List UInt8 := dkwX4_stock_2 ++ dktX4_stock_3
def dkwX4_stock_1 : List UInt8 := [17, 3, 231, 184, 0, 60, 154, 0, 9, 42, 5, 182, 0, 68, 172, 42, 182, 0, 78, 6, 6, 27, 104, 96]
abbrev dktX4_stock_1 : List UInt8 := dkwX4_stock_1 ++ dktX4_stock_2
def dkwX4_stock_0 : List UInt8 := [27, 184, 0, 64, 154, 0, 9, 42, 4, 182, 0, 68, 172, 28, 184, 0, 72, 153, 0, 14, 29, 3]
abbrev dktX4_stock_0 : List UInt8 := dkwX4_stock_0 ++ dktX4_stock_1
theorem dksX4_stock_0 : cX4_stock.data.toList.drop 0 = dktX4_stock_0 := by decide +kernel
theorem dksX4_stock_1 : cX4_stock.data.toList.drop 22 = dktX4_stock_1 := dk_seg dksX4_stock_0 22 rfl rfl
theorem dksX4_stock_2 : cX4_stock.data.toList.drop 46 = dktX4_stock_2 := dk_seg dksX4_stock_1 24 rfl rfl
theorem dksX4_stock_3 : cX4_stock.data.toList.drop 69 = dktX4_stock_3 := dk_seg dksX4_stock_2 23 rfl rfl
theorem dX4_stock_0 : decode cX4_stock 0 = .ok (.iload_n 1, 1) := dk_27 (dk_at dksX4_stock_0 0 rfl rfl)
theorem dX4_stock_1 : decode cX4_stock 1 = .ok (.invokestatic 64, 3) := dk_184 0 64 (dk_at dksX4_stock_0 1 rfl rfl)
theorem dX4_stock_4 : decode cX4_stock 4 = .ok (.ifCond .ne 9, 3) := dk_154 0 9 (dk_at dksX4_stock_0 4 rfl rfl)
theorem dX4_stock_7 : decode cX4_stock 7 = .ok (.aload_n 0, 1) := dk_42 (dk_at dksX4_stock_0 7 rfl rfl)
theorem dX4_stock_8 : decode cX4_stock 8 = .ok (.iconst 1, 1) := dk_4 (dk_at dksX4_stock_0 8 rfl rfl)
theorem dX4_stock_9 : decode cX4_stock 9 = .ok (.invokevirtual 68, 3) := dk_182 0 68 (dk_at dksX4_stock_0 9 rfl rfl)
theorem dX4_stock_12 : decode cX4_stock 12 = .ok (.ireturn, 1) := dk_172 (dk_at dksX4_stock_0 12 rfl rfl)
theorem dX4_stock_13 : decode cX4_stock 13 = .ok (.iload_n 2, 1) := dk_28 (dk_at dksX4_stock_0 13 rfl rfl)
theorem dX4_stock_14 : decode cX4_stock 14 = .ok (.invokestatic 72, 3) := dk_184 0 72 (dk_at dksX4_stock_0 14 rfl rfl)
theorem dX4_stock_17 : decode cX4_stock 17 = .ok (.ifCond .eq 14, 3) := dk_153 0 14 (dk_at dksX4_stock_0 17 rfl rfl)
theorem dX4_stock_20 : decode cX4_stock 20 = .ok (.iload_n 3, 1) := dk_29 (dk_at dksX4_stock_0 20 rfl rfl)
theorem dX4_stock_21 : decode cX4_stock 21 = .ok (.iconst 0, 1) := dk_3 (dk_at dksX4_stock_0 21 rfl rfl)
theorem dX4_stock_22 : decode cX4_stock 22 = .ok (.sipush 999, 3) := dk_17 3 231 (dk_at dksX4_stock_1 0 rfl rfl)
theorem dX4_stock_25 : decode cX4_stock 25 = .ok (.invokestatic 60, 3) := dk_184 0 60 (dk_at dksX4_stock_1 3 rfl rfl)
theorem dX4_stock_28 : decode cX4_stock 28 = .ok (.ifCond .ne 9, 3) := dk_154 0 9 (dk_at dksX4_stock_1 6 rfl rfl)
theorem dX4_stock_31 : decode cX4_stock 31 = .ok (.aload_n 0, 1) := dk_42 (dk_at dksX4_stock_1 9 rfl rfl)
theorem dX4_stock_32 : decode cX4_stock 32 = .ok (.iconst 2, 1) := dk_5 (dk_at dksX4_stock_1 10 rfl rfl)
theorem dX4_stock_33 : decode cX4_stock 33 = .ok (.invokevirtual 68, 3) := dk_182 0 68 (dk_at dksX4_stock_1 11 rfl rfl)
theorem dX4_stock_36 : decode cX4_stock 36 = .ok (.ireturn, 1) := dk_172 (dk_at dksX4_stock_1 14 rfl rfl)
theorem dX4_stock_37 : decode cX4_stock 37 = .ok (.aload_n 0, 1) := dk_42 (dk_at dksX4_stock_1 15 rfl rfl)
theorem dX4_stock_38 : decode cX4_stock 38 = .ok (.invokevirtual 78, 3) := dk_182 0 78 (dk_at dksX4_stock_1 16 rfl rfl)
theorem dX4_stock_41 : decode cX4_stock 41 = .ok (.iconst 3, 1) := dk_6 (dk_at dksX4_stock_1 19 rfl rfl)
theorem dX4_stock_42 : decode cX4_stock 42 = .ok (.iconst 3, 1) := dk_6 (dk_at dksX4_stock_1 20 rfl rfl)
theorem dX4_stock_43 : decode cX4_stock 43 = .ok (.iload_n 1, 1) := dk_27 (dk_at dksX4_stock_1 21 rfl rfl)
theorem dX4_stock_44 : decode cX4_stock 44 = .ok (.imul, 1) := dk_104 (dk_at dksX4_stock_1 22 rfl rfl)
theorem dX4_stock_45 : decode cX4_stock 45 = .ok (.iadd, 1) := dk_96 (dk_at dksX4_stock_1 23 rfl rfl)
theorem dX4_stock_46 : decode cX4_stock 46 = .ok (.iload_n 2, 1) := dk_28 (dk_at dksX4_stock_2 0 rfl rfl)
theorem dX4_stock_47 : decode cX4_stock 47 = .ok (.iadd, 1) := dk_96 (dk_at dksX4_stock_2 1 rfl rfl)
theorem dX4_stock_48 : decode cX4_stock 48 = .ok (.istore 4, 2) := dk_54 4 (dk_at dksX4_stock_2 2 rfl rfl)
theorem dX4_stock_50 : decode cX4_stock 50 = .ok (.aload_n 0, 1) := dk_42 (dk_at dksX4_stock_2 4 rfl rfl)
theorem dX4_stock_51 : decode cX4_stock 51 = .ok (.getfield 7, 3) := dk_180 0 7 (dk_at dksX4_stock_2 5 rfl rfl)
theorem dX4_stock_54 : decode cX4_stock 54 = .ok (.iload 4, 2) := dk_21 4 (dk_at dksX4_stock_2 8 rfl rfl)
theorem dX4_stock_56 : decode cX4_stock 56 = .ok (.iaload, 1) := dk_46 (dk_at dksX4_stock_2 10 rfl rfl)
theorem dX4_stock_57 : decode cX4_stock 57 = .ok (.istore 5, 2) := dk_54 5 (dk_at dksX4_stock_2 11 rfl rfl)
theorem dX4_stock_59 : decode cX4_stock 59 = .ok (.aload_n 0, 1) := dk_42 (dk_at dksX4_stock_2 13 rfl rfl)
theorem dX4_stock_60 : decode cX4_stock 60 = .ok (.getfield 7, 3) := dk_180 0 7 (dk_at dksX4_stock_2 14 rfl rfl)
theorem dX4_stock_63 : decode cX4_stock 63 = .ok (.iload 4, 2) := dk_21 4 (dk_at dksX4_stock_2 17 rfl rfl)
theorem dX4_stock_65 : decode cX4_stock 65 = .ok (.iload_n 3, 1) := dk_29 (dk_at dksX4_stock_2 19 rfl rfl)
theorem dX4_stock_66 : decode cX4_stock 66 = .ok (.iastore, 1) := dk_79 (dk_at dksX4_stock_2 20 rfl rfl)
theorem dX4_stock_67 : decode cX4_stock 67 = .ok (.aload_n 0, 1) := dk_42 (dk_at dksX4_stock_2 21 rfl rfl)
theorem dX4_stock_68 : decode cX4_stock 68 = .ok (.aload_n 0, 1) := dk_42 (dk_at dksX4_stock_2 22 rfl rfl)
theorem dX4_stock_69 : decode cX4_stock 69 = .ok (.iload 5, 2) := dk_21 5 (dk_at dksX4_stock_3 0 rfl rfl)
theorem dX4_stock_71 : decode cX4_stock 71 = .ok (.invokevirtual 75, 3) := dk_182 0 75 (dk_at dksX4_stock_3 2 rfl rfl)
theorem dX4_stock_74 : decode cX4_stock 74 = .ok (.invokevirtual 81, 3) := dk_182 0 81 (dk_at dksX4_stock_3 5 rfl rfl)
theorem dX4_stock_77 : decode cX4_stock 77 = .ok (.ireturn, 1) := dk_172 (dk_at dksX4_stock_3 8 rfl rfl)
abbrev cX4_looksBack : ByteArray := prog_19_method_9_code
def yX4_looksBack : MethodName := ⟨RX4, "looksBack", "()V"⟩
def dkwX4_looksBack_0 : List UInt8 := [42, 180, 0, 7, 3, 42, 180, 0, 13, 3, 184, 0, 53, 177]
abbrev dktX4_looksBack_0 : List UInt8 := dkwX4_looksBack_0 ++ []
theorem dksX4_looksBack_0 : cX4_looksBack.data.toList.drop 0 = dktX4_looksBack_0 := by decide +kernel
theorem dX4_looksBack_0 : decode cX4_looksBack 0 = .ok (.aload_n 0, 1) := dk_42 (dk_at dksX4_looksBack_0 0 rfl rfl)
theorem dX4_looksBack_1 : decode cX4_looksBack 1 = .ok (.getfield 7, 3) := dk_180 0 7 (dk_at dksX4_looksBack_0 1 rfl rfl)
theorem dX4_looksBack_4 : decode cX4_looksBack 4 = .ok (.iconst 0, 1) := dk_3 (dk_at dksX4_looksBack_0 4 rfl rfl)
theorem dX4_looksBack_5 : decode cX4_looksBack 5 = .ok (.aload_n 0, 1) := dk_42 (dk_at dksX4_looksBack_0 5 rfl rfl)
theorem dX4_looksBack_6 : decode cX4_looksBack 6 = .ok (.getfield 13, 3) := dk_180 0 13 (dk_at dksX4_looksBack_0 6 rfl rfl)
theorem dX4_looksBack_9 : decode cX4_looksBack 9 = .ok (.iconst 0, 1) := dk_3 (dk_at dksX4_looksBack_0 9 rfl rfl)
theorem dX4_looksBack_10 : decode cX4_looksBack 10 = .ok (.invokestatic 53, 3) := dk_184 0 53 (dk_at dksX4_looksBack_0 10 rfl rfl)
theorem dX4_looksBack_13 : decode cX4_looksBack 13 = .ok (.return_, 1) := dk_177 (dk_at dksX4_looksBack_0 13 rfl rfl)
abbrev cX4_copy : ByteArray := prog_19_method_8_code
def yX4_copy : MethodName := ⟨RX4, "copy", "([II[II)V"⟩
def dkwX4_copy_1 : List UInt8 := [132, 4, 1, 167, 255, 234, 177]
abbrev dktX4_copy_1 : List UInt8 := dkwX4_copy_1 ++ []
def dkwX4_copy_0 : List UInt8 := [3, 54, 4, 21, 4, 16, 112, 162, 0, 21, 44, 29, 21, 4, 96, 42, 27, 21, 4, 96, 46, 79]
abbrev dktX4_copy_0 : List UInt8 := dkwX4_copy_0 ++ dktX4_copy_1
theorem dksX4_copy_0 : cX4_copy.data.toList.drop 0 = dktX4_copy_0 := by decide +kernel
theorem dksX4_copy_1 : cX4_copy.data.toList.drop 22 = dktX4_copy_1 := dk_seg dksX4_copy_0 22 rfl rfl
theorem dX4_copy_0 : decode cX4_copy 0 = .ok (.iconst 0, 1) := dk_3 (dk_at dksX4_copy_0 0 rfl rfl)
theorem dX4_copy_1 : decode cX4_copy 1 = .ok (.istore 4, 2) := dk_54 4 (dk_at dksX4_copy_0 1 rfl rfl)
theorem dX4_copy_3 : decode cX4_copy 3 = .ok (.iload 4, 2) := dk_21 4 (dk_at dksX4_copy_0 3 rfl rfl)
theorem dX4_copy_5 : decode cX4_copy 5 = .ok (.bipush 112, 2) := dk_16 112 (dk_at dksX4_copy_0 5 rfl rfl)
theorem dX4_copy_7 : decode cX4_copy 7 = .ok (.if_icmp .ge 21, 3) := dk_162 0 21 (dk_at dksX4_copy_0 7 rfl rfl)
theorem dX4_copy_10 : decode cX4_copy 10 = .ok (.aload_n 2, 1) := dk_44 (dk_at dksX4_copy_0 10 rfl rfl)
theorem dX4_copy_11 : decode cX4_copy 11 = .ok (.iload_n 3, 1) := dk_29 (dk_at dksX4_copy_0 11 rfl rfl)
theorem dX4_copy_12 : decode cX4_copy 12 = .ok (.iload 4, 2) := dk_21 4 (dk_at dksX4_copy_0 12 rfl rfl)
theorem dX4_copy_14 : decode cX4_copy 14 = .ok (.iadd, 1) := dk_96 (dk_at dksX4_copy_0 14 rfl rfl)
theorem dX4_copy_15 : decode cX4_copy 15 = .ok (.aload_n 0, 1) := dk_42 (dk_at dksX4_copy_0 15 rfl rfl)
theorem dX4_copy_16 : decode cX4_copy 16 = .ok (.iload_n 1, 1) := dk_27 (dk_at dksX4_copy_0 16 rfl rfl)
theorem dX4_copy_17 : decode cX4_copy 17 = .ok (.iload 4, 2) := dk_21 4 (dk_at dksX4_copy_0 17 rfl rfl)
theorem dX4_copy_19 : decode cX4_copy 19 = .ok (.iadd, 1) := dk_96 (dk_at dksX4_copy_0 19 rfl rfl)
theorem dX4_copy_20 : decode cX4_copy 20 = .ok (.iaload, 1) := dk_46 (dk_at dksX4_copy_0 20 rfl rfl)
theorem dX4_copy_21 : decode cX4_copy 21 = .ok (.iastore, 1) := dk_79 (dk_at dksX4_copy_0 21 rfl rfl)
theorem dX4_copy_22 : decode cX4_copy 22 = .ok (.iinc 4 1, 3) := dk_132 4 1 (dk_at dksX4_copy_1 0 rfl rfl)
theorem dX4_copy_25 : decode cX4_copy 25 = .ok (.goto (-22), 3) := dk_167 255 234 (dk_at dksX4_copy_1 3 rfl rfl)
theorem dX4_copy_28 : decode cX4_copy 28 = .ok (.return_, 1) := dk_177 (dk_at dksX4_copy_1 6 rfl rfl)
abbrev cX4_kept : ByteArray := prog_19_method_10_code
def yX4_kept : MethodName := ⟨RX4, "kept", "(I)I"⟩
def dkwX4_kept_4 : List UInt8 := [180, 0, 57, 4, 96, 181, 0, 57, 27, 172]
abbrev dktX4_kept_4 : List UInt8 := dkwX4_kept_4 ++ []
def dkwX4_kept_3 : List UInt8 := [181, 0, 57, 42, 180, 0, 13, 3, 42, 180, 0, 16, 42, 180, 0, 57, 16, 112, 104, 184, 0, 53, 42, 89]
abbrev dktX4_kept_3 : List UInt8 := dkwX4_kept_3 ++ dktX4_kept_4
def dkwX4_kept_2 : List UInt8 := [180, 0, 16, 28, 16, 112, 96, 46, 79, 132, 2, 1, 167, 255, 231, 42, 89, 180, 0, 57, 4, 100]
abbrev dktX4_kept_2 : List UInt8 := dkwX4_kept_2 ++ dktX4_kept_3
def dkwX4_kept_1 : List UInt8 := [180, 0, 57, 16, 8, 160, 0, 43, 3, 61, 28, 17, 3, 16, 162, 0, 24, 42, 180, 0, 16, 28, 42]
abbrev dktX4_kept_1 : List UInt8 := dkwX4_kept_1 ++ dktX4_kept_2
def dkwX4_kept_0 : List UInt8 := [42, 180, 0, 42, 153, 0, 18, 42, 180, 0, 13, 3, 42, 180, 0, 7, 3, 184, 0, 53, 3, 172, 42]
abbrev dktX4_kept_0 : List UInt8 := dkwX4_kept_0 ++ dktX4_kept_1
theorem dksX4_kept_0 : cX4_kept.data.toList.drop 0 = dktX4_kept_0 := by decide +kernel
theorem dksX4_kept_1 : cX4_kept.data.toList.drop 23 = dktX4_kept_1 := dk_seg dksX4_kept_0 23 rfl rfl
theorem dksX4_kept_2 : cX4_kept.data.toList.drop 46 = dktX4_kept_2 := dk_seg dksX4_kept_1 23 rfl rfl
theorem dksX4_kept_3 : cX4_kept.data.toList.drop 68 = dktX4_kept_3 := dk_seg dksX4_kept_2 22 rfl rfl
theorem dksX4_kept_4 : cX4_kept.data.toList.drop 92 = dktX4_kept_4 := dk_seg dksX4_kept_3 24 rfl rfl
theorem dX4_kept_0 : decode cX4_kept 0 = .ok (.aload_n 0, 1) := dk_42 (dk_at dksX4_kept_0 0 rfl rfl)
theorem dX4_kept_1 : decode cX4_kept 1 = .ok (.getfield 42, 3) := dk_180 0 42 (dk_at dksX4_kept_0 1 rfl rfl)
theorem dX4_kept_4 : decode cX4_kept 4 = .ok (.ifCond .eq 18, 3) := dk_153 0 18 (dk_at dksX4_kept_0 4 rfl rfl)
theorem dX4_kept_7 : decode cX4_kept 7 = .ok (.aload_n 0, 1) := dk_42 (dk_at dksX4_kept_0 7 rfl rfl)
theorem dX4_kept_8 : decode cX4_kept 8 = .ok (.getfield 13, 3) := dk_180 0 13 (dk_at dksX4_kept_0 8 rfl rfl)
theorem dX4_kept_11 : decode cX4_kept 11 = .ok (.iconst 0, 1) := dk_3 (dk_at dksX4_kept_0 11 rfl rfl)
theorem dX4_kept_12 : decode cX4_kept 12 = .ok (.aload_n 0, 1) := dk_42 (dk_at dksX4_kept_0 12 rfl rfl)
theorem dX4_kept_13 : decode cX4_kept 13 = .ok (.getfield 7, 3) := dk_180 0 7 (dk_at dksX4_kept_0 13 rfl rfl)
theorem dX4_kept_16 : decode cX4_kept 16 = .ok (.iconst 0, 1) := dk_3 (dk_at dksX4_kept_0 16 rfl rfl)
theorem dX4_kept_17 : decode cX4_kept 17 = .ok (.invokestatic 53, 3) := dk_184 0 53 (dk_at dksX4_kept_0 17 rfl rfl)
theorem dX4_kept_20 : decode cX4_kept 20 = .ok (.iconst 0, 1) := dk_3 (dk_at dksX4_kept_0 20 rfl rfl)
theorem dX4_kept_21 : decode cX4_kept 21 = .ok (.ireturn, 1) := dk_172 (dk_at dksX4_kept_0 21 rfl rfl)
theorem dX4_kept_22 : decode cX4_kept 22 = .ok (.aload_n 0, 1) := dk_42 (dk_at dksX4_kept_0 22 rfl rfl)
theorem dX4_kept_23 : decode cX4_kept 23 = .ok (.getfield 57, 3) := dk_180 0 57 (dk_at dksX4_kept_1 0 rfl rfl)
theorem dX4_kept_26 : decode cX4_kept 26 = .ok (.bipush 8, 2) := dk_16 8 (dk_at dksX4_kept_1 3 rfl rfl)
theorem dX4_kept_28 : decode cX4_kept 28 = .ok (.if_icmp .ne 43, 3) := dk_160 0 43 (dk_at dksX4_kept_1 5 rfl rfl)
theorem dX4_kept_31 : decode cX4_kept 31 = .ok (.iconst 0, 1) := dk_3 (dk_at dksX4_kept_1 8 rfl rfl)
theorem dX4_kept_32 : decode cX4_kept 32 = .ok (.istore_n 2, 1) := dk_61 (dk_at dksX4_kept_1 9 rfl rfl)
theorem dX4_kept_33 : decode cX4_kept 33 = .ok (.iload_n 2, 1) := dk_28 (dk_at dksX4_kept_1 10 rfl rfl)
theorem dX4_kept_34 : decode cX4_kept 34 = .ok (.sipush 784, 3) := dk_17 3 16 (dk_at dksX4_kept_1 11 rfl rfl)
theorem dX4_kept_37 : decode cX4_kept 37 = .ok (.if_icmp .ge 24, 3) := dk_162 0 24 (dk_at dksX4_kept_1 14 rfl rfl)
theorem dX4_kept_40 : decode cX4_kept 40 = .ok (.aload_n 0, 1) := dk_42 (dk_at dksX4_kept_1 17 rfl rfl)
theorem dX4_kept_41 : decode cX4_kept 41 = .ok (.getfield 16, 3) := dk_180 0 16 (dk_at dksX4_kept_1 18 rfl rfl)
theorem dX4_kept_44 : decode cX4_kept 44 = .ok (.iload_n 2, 1) := dk_28 (dk_at dksX4_kept_1 21 rfl rfl)
theorem dX4_kept_45 : decode cX4_kept 45 = .ok (.aload_n 0, 1) := dk_42 (dk_at dksX4_kept_1 22 rfl rfl)
theorem dX4_kept_46 : decode cX4_kept 46 = .ok (.getfield 16, 3) := dk_180 0 16 (dk_at dksX4_kept_2 0 rfl rfl)
theorem dX4_kept_49 : decode cX4_kept 49 = .ok (.iload_n 2, 1) := dk_28 (dk_at dksX4_kept_2 3 rfl rfl)
theorem dX4_kept_50 : decode cX4_kept 50 = .ok (.bipush 112, 2) := dk_16 112 (dk_at dksX4_kept_2 4 rfl rfl)
theorem dX4_kept_52 : decode cX4_kept 52 = .ok (.iadd, 1) := dk_96 (dk_at dksX4_kept_2 6 rfl rfl)
theorem dX4_kept_53 : decode cX4_kept 53 = .ok (.iaload, 1) := dk_46 (dk_at dksX4_kept_2 7 rfl rfl)
theorem dX4_kept_54 : decode cX4_kept 54 = .ok (.iastore, 1) := dk_79 (dk_at dksX4_kept_2 8 rfl rfl)
theorem dX4_kept_55 : decode cX4_kept 55 = .ok (.iinc 2 1, 3) := dk_132 2 1 (dk_at dksX4_kept_2 9 rfl rfl)
theorem dX4_kept_58 : decode cX4_kept 58 = .ok (.goto (-25), 3) := dk_167 255 231 (dk_at dksX4_kept_2 12 rfl rfl)
theorem dX4_kept_61 : decode cX4_kept 61 = .ok (.aload_n 0, 1) := dk_42 (dk_at dksX4_kept_2 15 rfl rfl)
theorem dX4_kept_62 : decode cX4_kept 62 = .ok (.dup, 1) := dk_89 (dk_at dksX4_kept_2 16 rfl rfl)
theorem dX4_kept_63 : decode cX4_kept 63 = .ok (.getfield 57, 3) := dk_180 0 57 (dk_at dksX4_kept_2 17 rfl rfl)
theorem dX4_kept_66 : decode cX4_kept 66 = .ok (.iconst 1, 1) := dk_4 (dk_at dksX4_kept_2 20 rfl rfl)
theorem dX4_kept_67 : decode cX4_kept 67 = .ok (.isub, 1) := dk_100 (dk_at dksX4_kept_2 21 rfl rfl)
theorem dX4_kept_68 : decode cX4_kept 68 = .ok (.putfield 57, 3) := dk_181 0 57 (dk_at dksX4_kept_3 0 rfl rfl)
theorem dX4_kept_71 : decode cX4_kept 71 = .ok (.aload_n 0, 1) := dk_42 (dk_at dksX4_kept_3 3 rfl rfl)
theorem dX4_kept_72 : decode cX4_kept 72 = .ok (.getfield 13, 3) := dk_180 0 13 (dk_at dksX4_kept_3 4 rfl rfl)
theorem dX4_kept_75 : decode cX4_kept 75 = .ok (.iconst 0, 1) := dk_3 (dk_at dksX4_kept_3 7 rfl rfl)
theorem dX4_kept_76 : decode cX4_kept 76 = .ok (.aload_n 0, 1) := dk_42 (dk_at dksX4_kept_3 8 rfl rfl)
theorem dX4_kept_77 : decode cX4_kept 77 = .ok (.getfield 16, 3) := dk_180 0 16 (dk_at dksX4_kept_3 9 rfl rfl)
theorem dX4_kept_80 : decode cX4_kept 80 = .ok (.aload_n 0, 1) := dk_42 (dk_at dksX4_kept_3 12 rfl rfl)
theorem dX4_kept_81 : decode cX4_kept 81 = .ok (.getfield 57, 3) := dk_180 0 57 (dk_at dksX4_kept_3 13 rfl rfl)
theorem dX4_kept_84 : decode cX4_kept 84 = .ok (.bipush 112, 2) := dk_16 112 (dk_at dksX4_kept_3 16 rfl rfl)
theorem dX4_kept_86 : decode cX4_kept 86 = .ok (.imul, 1) := dk_104 (dk_at dksX4_kept_3 18 rfl rfl)
theorem dX4_kept_87 : decode cX4_kept 87 = .ok (.invokestatic 53, 3) := dk_184 0 53 (dk_at dksX4_kept_3 19 rfl rfl)
theorem dX4_kept_90 : decode cX4_kept 90 = .ok (.aload_n 0, 1) := dk_42 (dk_at dksX4_kept_3 22 rfl rfl)
theorem dX4_kept_91 : decode cX4_kept 91 = .ok (.dup, 1) := dk_89 (dk_at dksX4_kept_3 23 rfl rfl)
theorem dX4_kept_92 : decode cX4_kept 92 = .ok (.getfield 57, 3) := dk_180 0 57 (dk_at dksX4_kept_4 0 rfl rfl)
theorem dX4_kept_95 : decode cX4_kept 95 = .ok (.iconst 1, 1) := dk_4 (dk_at dksX4_kept_4 3 rfl rfl)
theorem dX4_kept_96 : decode cX4_kept 96 = .ok (.iadd, 1) := dk_96 (dk_at dksX4_kept_4 4 rfl rfl)
theorem dX4_kept_97 : decode cX4_kept 97 = .ok (.putfield 57, 3) := dk_181 0 57 (dk_at dksX4_kept_4 5 rfl rfl)
theorem dX4_kept_100 : decode cX4_kept 100 = .ok (.iload_n 1, 1) := dk_27 (dk_at dksX4_kept_4 8 rfl rfl)
theorem dX4_kept_101 : decode cX4_kept 101 = .ok (.ireturn, 1) := dk_172 (dk_at dksX4_kept_4 9 rfl rfl)
abbrev cX4_box : ByteArray := prog_19_method_16_code
def yX4_box : MethodName := ⟨RX4, "box", "(II)I"⟩
def dkwX4_box_3 : List UInt8 := [180, 0, 7, 16, 21, 27, 96, 46, 182, 0, 75, 182, 0, 81, 172]
abbrev dktX4_box_3 : List UInt8 := dkwX4_box_3 ++ []
def dkwX4_box_2 : List UInt8 := [164, 0, 8, 16, 99, 167, 0, 14, 42, 180, 0, 7, 16, 21, 27, 96, 46, 28, 96, 79, 42, 42, 42]
abbrev dktX4_box_2 : List UInt8 := dkwX4_box_2 ++ dktX4_box_3
def dkwX4_box_1 : List UInt8 := [182, 0, 78, 42, 180, 0, 7, 16, 21, 27, 96, 42, 180, 0, 7, 16, 21, 27, 96, 46, 28, 96, 16, 99]
abbrev dktX4_box_1 : List UInt8 := dkwX4_box_1 ++ dktX4_box_2
def dkwX4_box_0 : List UInt8 := [27, 184, 0, 72, 153, 0, 13, 28, 4, 16, 50, 184, 0, 60, 154, 0, 9, 42, 4, 182, 0, 68, 172, 42]
abbrev dktX4_box_0 : List UInt8 := dkwX4_box_0 ++ dktX4_box_1
theorem dksX4_box_0 : cX4_box.data.toList.drop 0 = dktX4_box_0 := by decide +kernel
theorem dksX4_box_1 : cX4_box.data.toList.drop 24 = dktX4_box_1 := dk_seg dksX4_box_0 24 rfl rfl
theorem dksX4_box_2 : cX4_box.data.toList.drop 48 = dktX4_box_2 := dk_seg dksX4_box_1 24 rfl rfl
theorem dksX4_box_3 : cX4_box.data.toList.drop 71 = dktX4_box_3 := dk_seg dksX4_box_2 23 rfl rfl
theorem dX4_box_0 : decode cX4_box 0 = .ok (.iload_n 1, 1) := dk_27 (dk_at dksX4_box_0 0 rfl rfl)
theorem dX4_box_1 : decode cX4_box 1 = .ok (.invokestatic 72, 3) := dk_184 0 72 (dk_at dksX4_box_0 1 rfl rfl)
theorem dX4_box_4 : decode cX4_box 4 = .ok (.ifCond .eq 13, 3) := dk_153 0 13 (dk_at dksX4_box_0 4 rfl rfl)
theorem dX4_box_7 : decode cX4_box 7 = .ok (.iload_n 2, 1) := dk_28 (dk_at dksX4_box_0 7 rfl rfl)
theorem dX4_box_8 : decode cX4_box 8 = .ok (.iconst 1, 1) := dk_4 (dk_at dksX4_box_0 8 rfl rfl)
theorem dX4_box_9 : decode cX4_box 9 = .ok (.bipush 50, 2) := dk_16 50 (dk_at dksX4_box_0 9 rfl rfl)
theorem dX4_box_11 : decode cX4_box 11 = .ok (.invokestatic 60, 3) := dk_184 0 60 (dk_at dksX4_box_0 11 rfl rfl)
theorem dX4_box_14 : decode cX4_box 14 = .ok (.ifCond .ne 9, 3) := dk_154 0 9 (dk_at dksX4_box_0 14 rfl rfl)
theorem dX4_box_17 : decode cX4_box 17 = .ok (.aload_n 0, 1) := dk_42 (dk_at dksX4_box_0 17 rfl rfl)
theorem dX4_box_18 : decode cX4_box 18 = .ok (.iconst 1, 1) := dk_4 (dk_at dksX4_box_0 18 rfl rfl)
theorem dX4_box_19 : decode cX4_box 19 = .ok (.invokevirtual 68, 3) := dk_182 0 68 (dk_at dksX4_box_0 19 rfl rfl)
theorem dX4_box_22 : decode cX4_box 22 = .ok (.ireturn, 1) := dk_172 (dk_at dksX4_box_0 22 rfl rfl)
theorem dX4_box_23 : decode cX4_box 23 = .ok (.aload_n 0, 1) := dk_42 (dk_at dksX4_box_0 23 rfl rfl)
theorem dX4_box_24 : decode cX4_box 24 = .ok (.invokevirtual 78, 3) := dk_182 0 78 (dk_at dksX4_box_1 0 rfl rfl)
theorem dX4_box_27 : decode cX4_box 27 = .ok (.aload_n 0, 1) := dk_42 (dk_at dksX4_box_1 3 rfl rfl)
theorem dX4_box_28 : decode cX4_box 28 = .ok (.getfield 7, 3) := dk_180 0 7 (dk_at dksX4_box_1 4 rfl rfl)
theorem dX4_box_31 : decode cX4_box 31 = .ok (.bipush 21, 2) := dk_16 21 (dk_at dksX4_box_1 7 rfl rfl)
theorem dX4_box_33 : decode cX4_box 33 = .ok (.iload_n 1, 1) := dk_27 (dk_at dksX4_box_1 9 rfl rfl)
theorem dX4_box_34 : decode cX4_box 34 = .ok (.iadd, 1) := dk_96 (dk_at dksX4_box_1 10 rfl rfl)
theorem dX4_box_35 : decode cX4_box 35 = .ok (.aload_n 0, 1) := dk_42 (dk_at dksX4_box_1 11 rfl rfl)
theorem dX4_box_36 : decode cX4_box 36 = .ok (.getfield 7, 3) := dk_180 0 7 (dk_at dksX4_box_1 12 rfl rfl)
theorem dX4_box_39 : decode cX4_box 39 = .ok (.bipush 21, 2) := dk_16 21 (dk_at dksX4_box_1 15 rfl rfl)
theorem dX4_box_41 : decode cX4_box 41 = .ok (.iload_n 1, 1) := dk_27 (dk_at dksX4_box_1 17 rfl rfl)
theorem dX4_box_42 : decode cX4_box 42 = .ok (.iadd, 1) := dk_96 (dk_at dksX4_box_1 18 rfl rfl)
theorem dX4_box_43 : decode cX4_box 43 = .ok (.iaload, 1) := dk_46 (dk_at dksX4_box_1 19 rfl rfl)
theorem dX4_box_44 : decode cX4_box 44 = .ok (.iload_n 2, 1) := dk_28 (dk_at dksX4_box_1 20 rfl rfl)
theorem dX4_box_45 : decode cX4_box 45 = .ok (.iadd, 1) := dk_96 (dk_at dksX4_box_1 21 rfl rfl)
theorem dX4_box_46 : decode cX4_box 46 = .ok (.bipush 99, 2) := dk_16 99 (dk_at dksX4_box_1 22 rfl rfl)
theorem dX4_box_48 : decode cX4_box 48 = .ok (.if_icmp .le 8, 3) := dk_164 0 8 (dk_at dksX4_box_2 0 rfl rfl)
theorem dX4_box_51 : decode cX4_box 51 = .ok (.bipush 99, 2) := dk_16 99 (dk_at dksX4_box_2 3 rfl rfl)
theorem dX4_box_53 : decode cX4_box 53 = .ok (.goto 14, 3) := dk_167 0 14 (dk_at dksX4_box_2 5 rfl rfl)
theorem dX4_box_56 : decode cX4_box 56 = .ok (.aload_n 0, 1) := dk_42 (dk_at dksX4_box_2 8 rfl rfl)
theorem dX4_box_57 : decode cX4_box 57 = .ok (.getfield 7, 3) := dk_180 0 7 (dk_at dksX4_box_2 9 rfl rfl)
theorem dX4_box_60 : decode cX4_box 60 = .ok (.bipush 21, 2) := dk_16 21 (dk_at dksX4_box_2 12 rfl rfl)
theorem dX4_box_62 : decode cX4_box 62 = .ok (.iload_n 1, 1) := dk_27 (dk_at dksX4_box_2 14 rfl rfl)
theorem dX4_box_63 : decode cX4_box 63 = .ok (.iadd, 1) := dk_96 (dk_at dksX4_box_2 15 rfl rfl)
theorem dX4_box_64 : decode cX4_box 64 = .ok (.iaload, 1) := dk_46 (dk_at dksX4_box_2 16 rfl rfl)
theorem dX4_box_65 : decode cX4_box 65 = .ok (.iload_n 2, 1) := dk_28 (dk_at dksX4_box_2 17 rfl rfl)
theorem dX4_box_66 : decode cX4_box 66 = .ok (.iadd, 1) := dk_96 (dk_at dksX4_box_2 18 rfl rfl)
theorem dX4_box_67 : decode cX4_box 67 = .ok (.iastore, 1) := dk_79 (dk_at dksX4_box_2 19 rfl rfl)
theorem dX4_box_68 : decode cX4_box 68 = .ok (.aload_n 0, 1) := dk_42 (dk_at dksX4_box_2 20 rfl rfl)
theorem dX4_box_69 : decode cX4_box 69 = .ok (.aload_n 0, 1) := dk_42 (dk_at dksX4_box_2 21 rfl rfl)
theorem dX4_box_70 : decode cX4_box 70 = .ok (.aload_n 0, 1) := dk_42 (dk_at dksX4_box_2 22 rfl rfl)
theorem dX4_box_71 : decode cX4_box 71 = .ok (.getfield 7, 3) := dk_180 0 7 (dk_at dksX4_box_3 0 rfl rfl)
theorem dX4_box_74 : decode cX4_box 74 = .ok (.bipush 21, 2) := dk_16 21 (dk_at dksX4_box_3 3 rfl rfl)
theorem dX4_box_76 : decode cX4_box 76 = .ok (.iload_n 1, 1) := dk_27 (dk_at dksX4_box_3 5 rfl rfl)
theorem dX4_box_77 : decode cX4_box 77 = .ok (.iadd, 1) := dk_96 (dk_at dksX4_box_3 6 rfl rfl)
theorem dX4_box_78 : decode cX4_box 78 = .ok (.iaload, 1) := dk_46 (dk_at dksX4_box_3 7 rfl rfl)
theorem dX4_box_79 : decode cX4_box 79 = .ok (.invokevirtual 75, 3) := dk_182 0 75 (dk_at dksX4_box_3 8 rfl rfl)
theorem dX4_box_82 : decode cX4_box 82 = .ok (.invokevirtual 81, 3) := dk_182 0 81 (dk_at dksX4_box_3 11 rfl rfl)
theorem dX4_box_85 : decode cX4_box 85 = .ok (.ireturn, 1) := dk_172 (dk_at dksX4_box_3 14 rfl rfl)
abbrev cX4_bait : ByteArray := prog_19_method_17_code
def yX4_bait : MethodName := ⟨RX4, "bait", "(I)I"⟩
def dkwX4_bait_1 : List UInt8 := [4, 182, 0, 68, 172]
abbrev dktX4_bait_1 : List UInt8 := dkwX4_bait_1 ++ []
def dkwX4_bait_0 : List UInt8 := [27, 184, 0, 72, 153, 0, 19, 42, 42, 180, 0, 7, 16, 21, 27, 96, 46, 182, 0, 75, 167, 0, 8, 42]
abbrev dktX4_bait_0 : List UInt8 := dkwX4_bait_0 ++ dktX4_bait_1
theorem dksX4_bait_0 : cX4_bait.data.toList.drop 0 = dktX4_bait_0 := by decide +kernel
theorem dksX4_bait_1 : cX4_bait.data.toList.drop 24 = dktX4_bait_1 := dk_seg dksX4_bait_0 24 rfl rfl
theorem dX4_bait_0 : decode cX4_bait 0 = .ok (.iload_n 1, 1) := dk_27 (dk_at dksX4_bait_0 0 rfl rfl)
theorem dX4_bait_1 : decode cX4_bait 1 = .ok (.invokestatic 72, 3) := dk_184 0 72 (dk_at dksX4_bait_0 1 rfl rfl)
theorem dX4_bait_4 : decode cX4_bait 4 = .ok (.ifCond .eq 19, 3) := dk_153 0 19 (dk_at dksX4_bait_0 4 rfl rfl)
theorem dX4_bait_7 : decode cX4_bait 7 = .ok (.aload_n 0, 1) := dk_42 (dk_at dksX4_bait_0 7 rfl rfl)
theorem dX4_bait_8 : decode cX4_bait 8 = .ok (.aload_n 0, 1) := dk_42 (dk_at dksX4_bait_0 8 rfl rfl)
theorem dX4_bait_9 : decode cX4_bait 9 = .ok (.getfield 7, 3) := dk_180 0 7 (dk_at dksX4_bait_0 9 rfl rfl)
theorem dX4_bait_12 : decode cX4_bait 12 = .ok (.bipush 21, 2) := dk_16 21 (dk_at dksX4_bait_0 12 rfl rfl)
theorem dX4_bait_14 : decode cX4_bait 14 = .ok (.iload_n 1, 1) := dk_27 (dk_at dksX4_bait_0 14 rfl rfl)
theorem dX4_bait_15 : decode cX4_bait 15 = .ok (.iadd, 1) := dk_96 (dk_at dksX4_bait_0 15 rfl rfl)
theorem dX4_bait_16 : decode cX4_bait 16 = .ok (.iaload, 1) := dk_46 (dk_at dksX4_bait_0 16 rfl rfl)
theorem dX4_bait_17 : decode cX4_bait 17 = .ok (.invokevirtual 75, 3) := dk_182 0 75 (dk_at dksX4_bait_0 17 rfl rfl)
theorem dX4_bait_20 : decode cX4_bait 20 = .ok (.goto 8, 3) := dk_167 0 8 (dk_at dksX4_bait_0 20 rfl rfl)
theorem dX4_bait_23 : decode cX4_bait 23 = .ok (.aload_n 0, 1) := dk_42 (dk_at dksX4_bait_0 23 rfl rfl)
theorem dX4_bait_24 : decode cX4_bait 24 = .ok (.iconst 1, 1) := dk_4 (dk_at dksX4_bait_1 0 rfl rfl)
theorem dX4_bait_25 : decode cX4_bait 25 = .ok (.invokevirtual 68, 3) := dk_182 0 68 (dk_at dksX4_bait_1 1 rfl rfl)
theorem dX4_bait_28 : decode cX4_bait 28 = .ok (.ireturn, 1) := dk_172 (dk_at dksX4_bait_1 4 rfl rfl)
abbrev cX4_draws : ByteArray := prog_19_method_19_code
def yX4_draws : MethodName := ⟨RX4, "draws", "(II)I"⟩
def dkwX4_draws_1 : List UInt8 := [182, 0, 75, 167, 0, 8, 42, 4, 182, 0, 68, 172]
abbrev dktX4_draws_1 : List UInt8 := dkwX4_draws_1 ++ []
def dkwX4_draws_0 : List UInt8 := [27, 184, 0, 72, 153, 0, 25, 28, 3, 16, 60, 184, 0, 60, 153, 0, 15, 42, 27, 28, 184, 0, 84]
abbrev dktX4_draws_0 : List UInt8 := dkwX4_draws_0 ++ dktX4_draws_1
theorem dksX4_draws_0 : cX4_draws.data.toList.drop 0 = dktX4_draws_0 := by decide +kernel
theorem dksX4_draws_1 : cX4_draws.data.toList.drop 23 = dktX4_draws_1 := dk_seg dksX4_draws_0 23 rfl rfl
theorem dX4_draws_0 : decode cX4_draws 0 = .ok (.iload_n 1, 1) := dk_27 (dk_at dksX4_draws_0 0 rfl rfl)
theorem dX4_draws_1 : decode cX4_draws 1 = .ok (.invokestatic 72, 3) := dk_184 0 72 (dk_at dksX4_draws_0 1 rfl rfl)
theorem dX4_draws_4 : decode cX4_draws 4 = .ok (.ifCond .eq 25, 3) := dk_153 0 25 (dk_at dksX4_draws_0 4 rfl rfl)
theorem dX4_draws_7 : decode cX4_draws 7 = .ok (.iload_n 2, 1) := dk_28 (dk_at dksX4_draws_0 7 rfl rfl)
theorem dX4_draws_8 : decode cX4_draws 8 = .ok (.iconst 0, 1) := dk_3 (dk_at dksX4_draws_0 8 rfl rfl)
theorem dX4_draws_9 : decode cX4_draws 9 = .ok (.bipush 60, 2) := dk_16 60 (dk_at dksX4_draws_0 9 rfl rfl)
theorem dX4_draws_11 : decode cX4_draws 11 = .ok (.invokestatic 60, 3) := dk_184 0 60 (dk_at dksX4_draws_0 11 rfl rfl)
theorem dX4_draws_14 : decode cX4_draws 14 = .ok (.ifCond .eq 15, 3) := dk_153 0 15 (dk_at dksX4_draws_0 14 rfl rfl)
theorem dX4_draws_17 : decode cX4_draws 17 = .ok (.aload_n 0, 1) := dk_42 (dk_at dksX4_draws_0 17 rfl rfl)
theorem dX4_draws_18 : decode cX4_draws 18 = .ok (.iload_n 1, 1) := dk_27 (dk_at dksX4_draws_0 18 rfl rfl)
theorem dX4_draws_19 : decode cX4_draws 19 = .ok (.iload_n 2, 1) := dk_28 (dk_at dksX4_draws_0 19 rfl rfl)
theorem dX4_draws_20 : decode cX4_draws 20 = .ok (.invokestatic 84, 3) := dk_184 0 84 (dk_at dksX4_draws_0 20 rfl rfl)
theorem dX4_draws_23 : decode cX4_draws 23 = .ok (.invokevirtual 75, 3) := dk_182 0 75 (dk_at dksX4_draws_1 0 rfl rfl)
theorem dX4_draws_26 : decode cX4_draws 26 = .ok (.goto 8, 3) := dk_167 0 8 (dk_at dksX4_draws_1 3 rfl rfl)
theorem dX4_draws_29 : decode cX4_draws 29 = .ok (.aload_n 0, 1) := dk_42 (dk_at dksX4_draws_1 6 rfl rfl)
theorem dX4_draws_30 : decode cX4_draws 30 = .ok (.iconst 1, 1) := dk_4 (dk_at dksX4_draws_1 7 rfl rfl)
theorem dX4_draws_31 : decode cX4_draws 31 = .ok (.invokevirtual 68, 3) := dk_182 0 68 (dk_at dksX4_draws_1 8 rfl rfl)
theorem dX4_draws_34 : decode cX4_draws 34 = .ok (.ireturn, 1) := dk_172 (dk_at dksX4_draws_1 11 rfl rfl)
abbrev cX4_drawsBy : ByteArray := prog_19_method_18_code
def yX4_drawsBy : MethodName := ⟨RX4, "drawsBy", "(II)I"⟩
def dkwX4_drawsBy_2 : List UInt8 := [164, 0, 7, 29, 167, 0, 4, 28, 172]
abbrev dktX4_drawsBy_2 : List UInt8 := dkwX4_drawsBy_2 ++ []
def dkwX4_drawsBy_1 : List UInt8 := [61, 26, 154, 0, 8, 16, 6, 167, 0, 4, 8, 62, 28, 156, 0, 7, 3, 167, 0, 13, 28, 29]
abbrev dktX4_drawsBy_1 : List UInt8 := dkwX4_drawsBy_1 ++ dktX4_drawsBy_2
def dkwX4_drawsBy_0 : List UInt8 := [26, 154, 0, 9, 5, 27, 104, 167, 0, 17, 26, 4, 160, 0, 9, 8, 27, 100, 167, 0, 6, 27, 4, 96]
abbrev dktX4_drawsBy_0 : List UInt8 := dkwX4_drawsBy_0 ++ dktX4_drawsBy_1
theorem dksX4_drawsBy_0 : cX4_drawsBy.data.toList.drop 0 = dktX4_drawsBy_0 := by decide +kernel
theorem dksX4_drawsBy_1 : cX4_drawsBy.data.toList.drop 24 = dktX4_drawsBy_1 := dk_seg dksX4_drawsBy_0 24 rfl rfl
theorem dksX4_drawsBy_2 : cX4_drawsBy.data.toList.drop 46 = dktX4_drawsBy_2 := dk_seg dksX4_drawsBy_1 22 rfl rfl
theorem dX4_drawsBy_0 : decode cX4_drawsBy 0 = .ok (.iload_n 0, 1) := dk_26 (dk_at dksX4_drawsBy_0 0 rfl rfl)
theorem dX4_drawsBy_1 : decode cX4_drawsBy 1 = .ok (.ifCond .ne 9, 3) := dk_154 0 9 (dk_at dksX4_drawsBy_0 1 rfl rfl)
theorem dX4_drawsBy_4 : decode cX4_drawsBy 4 = .ok (.iconst 2, 1) := dk_5 (dk_at dksX4_drawsBy_0 4 rfl rfl)
theorem dX4_drawsBy_5 : decode cX4_drawsBy 5 = .ok (.iload_n 1, 1) := dk_27 (dk_at dksX4_drawsBy_0 5 rfl rfl)
theorem dX4_drawsBy_6 : decode cX4_drawsBy 6 = .ok (.imul, 1) := dk_104 (dk_at dksX4_drawsBy_0 6 rfl rfl)
theorem dX4_drawsBy_7 : decode cX4_drawsBy 7 = .ok (.goto 17, 3) := dk_167 0 17 (dk_at dksX4_drawsBy_0 7 rfl rfl)
theorem dX4_drawsBy_10 : decode cX4_drawsBy 10 = .ok (.iload_n 0, 1) := dk_26 (dk_at dksX4_drawsBy_0 10 rfl rfl)
theorem dX4_drawsBy_11 : decode cX4_drawsBy 11 = .ok (.iconst 1, 1) := dk_4 (dk_at dksX4_drawsBy_0 11 rfl rfl)
theorem dX4_drawsBy_12 : decode cX4_drawsBy 12 = .ok (.if_icmp .ne 9, 3) := dk_160 0 9 (dk_at dksX4_drawsBy_0 12 rfl rfl)
theorem dX4_drawsBy_15 : decode cX4_drawsBy 15 = .ok (.iconst 5, 1) := dk_8 (dk_at dksX4_drawsBy_0 15 rfl rfl)
theorem dX4_drawsBy_16 : decode cX4_drawsBy 16 = .ok (.iload_n 1, 1) := dk_27 (dk_at dksX4_drawsBy_0 16 rfl rfl)
theorem dX4_drawsBy_17 : decode cX4_drawsBy 17 = .ok (.isub, 1) := dk_100 (dk_at dksX4_drawsBy_0 17 rfl rfl)
theorem dX4_drawsBy_18 : decode cX4_drawsBy 18 = .ok (.goto 6, 3) := dk_167 0 6 (dk_at dksX4_drawsBy_0 18 rfl rfl)
theorem dX4_drawsBy_21 : decode cX4_drawsBy 21 = .ok (.iload_n 1, 1) := dk_27 (dk_at dksX4_drawsBy_0 21 rfl rfl)
theorem dX4_drawsBy_22 : decode cX4_drawsBy 22 = .ok (.iconst 1, 1) := dk_4 (dk_at dksX4_drawsBy_0 22 rfl rfl)
theorem dX4_drawsBy_23 : decode cX4_drawsBy 23 = .ok (.iadd, 1) := dk_96 (dk_at dksX4_drawsBy_0 23 rfl rfl)
theorem dX4_drawsBy_24 : decode cX4_drawsBy 24 = .ok (.istore_n 2, 1) := dk_61 (dk_at dksX4_drawsBy_1 0 rfl rfl)
theorem dX4_drawsBy_25 : decode cX4_drawsBy 25 = .ok (.iload_n 0, 1) := dk_26 (dk_at dksX4_drawsBy_1 1 rfl rfl)
theorem dX4_drawsBy_26 : decode cX4_drawsBy 26 = .ok (.ifCond .ne 8, 3) := dk_154 0 8 (dk_at dksX4_drawsBy_1 2 rfl rfl)
theorem dX4_drawsBy_29 : decode cX4_drawsBy 29 = .ok (.bipush 6, 2) := dk_16 6 (dk_at dksX4_drawsBy_1 5 rfl rfl)
theorem dX4_drawsBy_31 : decode cX4_drawsBy 31 = .ok (.goto 4, 3) := dk_167 0 4 (dk_at dksX4_drawsBy_1 7 rfl rfl)
theorem dX4_drawsBy_34 : decode cX4_drawsBy 34 = .ok (.iconst 5, 1) := dk_8 (dk_at dksX4_drawsBy_1 10 rfl rfl)
theorem dX4_drawsBy_35 : decode cX4_drawsBy 35 = .ok (.istore_n 3, 1) := dk_62 (dk_at dksX4_drawsBy_1 11 rfl rfl)
theorem dX4_drawsBy_36 : decode cX4_drawsBy 36 = .ok (.iload_n 2, 1) := dk_28 (dk_at dksX4_drawsBy_1 12 rfl rfl)
theorem dX4_drawsBy_37 : decode cX4_drawsBy 37 = .ok (.ifCond .ge 7, 3) := dk_156 0 7 (dk_at dksX4_drawsBy_1 13 rfl rfl)
theorem dX4_drawsBy_40 : decode cX4_drawsBy 40 = .ok (.iconst 0, 1) := dk_3 (dk_at dksX4_drawsBy_1 16 rfl rfl)
theorem dX4_drawsBy_41 : decode cX4_drawsBy 41 = .ok (.goto 13, 3) := dk_167 0 13 (dk_at dksX4_drawsBy_1 17 rfl rfl)
theorem dX4_drawsBy_44 : decode cX4_drawsBy 44 = .ok (.iload_n 2, 1) := dk_28 (dk_at dksX4_drawsBy_1 20 rfl rfl)
theorem dX4_drawsBy_45 : decode cX4_drawsBy 45 = .ok (.iload_n 3, 1) := dk_29 (dk_at dksX4_drawsBy_1 21 rfl rfl)
theorem dX4_drawsBy_46 : decode cX4_drawsBy 46 = .ok (.if_icmp .le 7, 3) := dk_164 0 7 (dk_at dksX4_drawsBy_2 0 rfl rfl)
theorem dX4_drawsBy_49 : decode cX4_drawsBy 49 = .ok (.iload_n 3, 1) := dk_29 (dk_at dksX4_drawsBy_2 3 rfl rfl)
theorem dX4_drawsBy_50 : decode cX4_drawsBy 50 = .ok (.goto 4, 3) := dk_167 0 4 (dk_at dksX4_drawsBy_2 4 rfl rfl)
theorem dX4_drawsBy_53 : decode cX4_drawsBy 53 = .ok (.iload_n 2, 1) := dk_28 (dk_at dksX4_drawsBy_2 7 rfl rfl)
theorem dX4_drawsBy_54 : decode cX4_drawsBy 54 = .ok (.ireturn, 1) := dk_172 (dk_at dksX4_drawsBy_2 8 rfl rfl)
abbrev cX4_bestBait : ByteArray := prog_19_method_20_code
def yX4_bestBait : MethodName := ⟨RX4, "bestBait", "(I)I"⟩
def dkwX4_bestBait_2 : List UInt8 := [132, 3, 1, 167, 255, 229, 42, 28, 182, 0, 75, 172]
abbrev dktX4_bestBait_2 : List UInt8 := dkwX4_bestBait_2 ++ []
def dkwX4_bestBait_1 : List UInt8 := [162, 0, 28, 29, 27, 184, 0, 84, 28, 27, 184, 0, 84, 164, 0, 7, 29, 167, 0, 4, 28, 61]
abbrev dktX4_bestBait_1 : List UInt8 := dkwX4_bestBait_1 ++ dktX4_bestBait_2
def dkwX4_bestBait_0 : List UInt8 := [27, 3, 16, 60, 184, 0, 60, 154, 0, 9, 42, 4, 182, 0, 68, 172, 3, 61, 4, 62, 29, 6]
abbrev dktX4_bestBait_0 : List UInt8 := dkwX4_bestBait_0 ++ dktX4_bestBait_1
theorem dksX4_bestBait_0 : cX4_bestBait.data.toList.drop 0 = dktX4_bestBait_0 := by decide +kernel
theorem dksX4_bestBait_1 : cX4_bestBait.data.toList.drop 22 = dktX4_bestBait_1 := dk_seg dksX4_bestBait_0 22 rfl rfl
theorem dksX4_bestBait_2 : cX4_bestBait.data.toList.drop 44 = dktX4_bestBait_2 := dk_seg dksX4_bestBait_1 22 rfl rfl
theorem dX4_bestBait_0 : decode cX4_bestBait 0 = .ok (.iload_n 1, 1) := dk_27 (dk_at dksX4_bestBait_0 0 rfl rfl)
theorem dX4_bestBait_1 : decode cX4_bestBait 1 = .ok (.iconst 0, 1) := dk_3 (dk_at dksX4_bestBait_0 1 rfl rfl)
theorem dX4_bestBait_2 : decode cX4_bestBait 2 = .ok (.bipush 60, 2) := dk_16 60 (dk_at dksX4_bestBait_0 2 rfl rfl)
theorem dX4_bestBait_4 : decode cX4_bestBait 4 = .ok (.invokestatic 60, 3) := dk_184 0 60 (dk_at dksX4_bestBait_0 4 rfl rfl)
theorem dX4_bestBait_7 : decode cX4_bestBait 7 = .ok (.ifCond .ne 9, 3) := dk_154 0 9 (dk_at dksX4_bestBait_0 7 rfl rfl)
theorem dX4_bestBait_10 : decode cX4_bestBait 10 = .ok (.aload_n 0, 1) := dk_42 (dk_at dksX4_bestBait_0 10 rfl rfl)
theorem dX4_bestBait_11 : decode cX4_bestBait 11 = .ok (.iconst 1, 1) := dk_4 (dk_at dksX4_bestBait_0 11 rfl rfl)
theorem dX4_bestBait_12 : decode cX4_bestBait 12 = .ok (.invokevirtual 68, 3) := dk_182 0 68 (dk_at dksX4_bestBait_0 12 rfl rfl)
theorem dX4_bestBait_15 : decode cX4_bestBait 15 = .ok (.ireturn, 1) := dk_172 (dk_at dksX4_bestBait_0 15 rfl rfl)
theorem dX4_bestBait_16 : decode cX4_bestBait 16 = .ok (.iconst 0, 1) := dk_3 (dk_at dksX4_bestBait_0 16 rfl rfl)
theorem dX4_bestBait_17 : decode cX4_bestBait 17 = .ok (.istore_n 2, 1) := dk_61 (dk_at dksX4_bestBait_0 17 rfl rfl)
theorem dX4_bestBait_18 : decode cX4_bestBait 18 = .ok (.iconst 1, 1) := dk_4 (dk_at dksX4_bestBait_0 18 rfl rfl)
theorem dX4_bestBait_19 : decode cX4_bestBait 19 = .ok (.istore_n 3, 1) := dk_62 (dk_at dksX4_bestBait_0 19 rfl rfl)
theorem dX4_bestBait_20 : decode cX4_bestBait 20 = .ok (.iload_n 3, 1) := dk_29 (dk_at dksX4_bestBait_0 20 rfl rfl)
theorem dX4_bestBait_21 : decode cX4_bestBait 21 = .ok (.iconst 3, 1) := dk_6 (dk_at dksX4_bestBait_0 21 rfl rfl)
theorem dX4_bestBait_22 : decode cX4_bestBait 22 = .ok (.if_icmp .ge 28, 3) := dk_162 0 28 (dk_at dksX4_bestBait_1 0 rfl rfl)
theorem dX4_bestBait_25 : decode cX4_bestBait 25 = .ok (.iload_n 3, 1) := dk_29 (dk_at dksX4_bestBait_1 3 rfl rfl)
theorem dX4_bestBait_26 : decode cX4_bestBait 26 = .ok (.iload_n 1, 1) := dk_27 (dk_at dksX4_bestBait_1 4 rfl rfl)
theorem dX4_bestBait_27 : decode cX4_bestBait 27 = .ok (.invokestatic 84, 3) := dk_184 0 84 (dk_at dksX4_bestBait_1 5 rfl rfl)
theorem dX4_bestBait_30 : decode cX4_bestBait 30 = .ok (.iload_n 2, 1) := dk_28 (dk_at dksX4_bestBait_1 8 rfl rfl)
theorem dX4_bestBait_31 : decode cX4_bestBait 31 = .ok (.iload_n 1, 1) := dk_27 (dk_at dksX4_bestBait_1 9 rfl rfl)
theorem dX4_bestBait_32 : decode cX4_bestBait 32 = .ok (.invokestatic 84, 3) := dk_184 0 84 (dk_at dksX4_bestBait_1 10 rfl rfl)
theorem dX4_bestBait_35 : decode cX4_bestBait 35 = .ok (.if_icmp .le 7, 3) := dk_164 0 7 (dk_at dksX4_bestBait_1 13 rfl rfl)
theorem dX4_bestBait_38 : decode cX4_bestBait 38 = .ok (.iload_n 3, 1) := dk_29 (dk_at dksX4_bestBait_1 16 rfl rfl)
theorem dX4_bestBait_39 : decode cX4_bestBait 39 = .ok (.goto 4, 3) := dk_167 0 4 (dk_at dksX4_bestBait_1 17 rfl rfl)
theorem dX4_bestBait_42 : decode cX4_bestBait 42 = .ok (.iload_n 2, 1) := dk_28 (dk_at dksX4_bestBait_1 20 rfl rfl)
theorem dX4_bestBait_43 : decode cX4_bestBait 43 = .ok (.istore_n 2, 1) := dk_61 (dk_at dksX4_bestBait_1 21 rfl rfl)
theorem dX4_bestBait_44 : decode cX4_bestBait 44 = .ok (.iinc 3 1, 3) := dk_132 3 1 (dk_at dksX4_bestBait_2 0 rfl rfl)
theorem dX4_bestBait_47 : decode cX4_bestBait 47 = .ok (.goto (-27), 3) := dk_167 255 229 (dk_at dksX4_bestBait_2 3 rfl rfl)
theorem dX4_bestBait_50 : decode cX4_bestBait 50 = .ok (.aload_n 0, 1) := dk_42 (dk_at dksX4_bestBait_2 6 rfl rfl)
theorem dX4_bestBait_51 : decode cX4_bestBait 51 = .ok (.iload_n 2, 1) := dk_28 (dk_at dksX4_bestBait_2 7 rfl rfl)
theorem dX4_bestBait_52 : decode cX4_bestBait 52 = .ok (.invokevirtual 75, 3) := dk_182 0 75 (dk_at dksX4_bestBait_2 8 rfl rfl)
theorem dX4_bestBait_55 : decode cX4_bestBait 55 = .ok (.ireturn, 1) := dk_172 (dk_at dksX4_bestBait_2 11 rfl rfl)
abbrev cX4_boat : ByteArray := prog_19_method_23_code
def yX4_boat : MethodName := ⟨RX4, "boat", "(I)I"⟩
def dkwX4_boat_3 : List UInt8 := [42, 180, 0, 7, 16, 24, 92, 46, 4, 96, 79, 42, 42, 28, 182, 0, 75, 182, 0, 81, 172]
abbrev dktX4_boat_3 : List UInt8 := dkwX4_boat_3 ++ []
def dkwX4_boat_2 : List UInt8 := [96, 27, 79, 42, 180, 0, 7, 16, 28, 28, 96, 2, 79, 42, 180, 0, 7, 16, 31, 28, 96, 16, 10, 79]
abbrev dktX4_boat_2 : List UInt8 := dkwX4_boat_2 ++ dktX4_boat_3
def dkwX4_boat_1 : List UInt8 := [28, 6, 160, 0, 11, 42, 4, 6, 5, 182, 0, 88, 172, 42, 182, 0, 78, 42, 180, 0, 7, 16, 25, 28]
abbrev dktX4_boat_1 : List UInt8 := dkwX4_boat_1 ++ dktX4_boat_2
def dkwX4_boat_0 : List UInt8 := [27, 4, 16, 9, 184, 0, 60, 154, 0, 9, 42, 4, 182, 0, 68, 172, 42, 180, 0, 7, 16, 24, 46, 61]
abbrev dktX4_boat_0 : List UInt8 := dkwX4_boat_0 ++ dktX4_boat_1
theorem dksX4_boat_0 : cX4_boat.data.toList.drop 0 = dktX4_boat_0 := by decide +kernel
theorem dksX4_boat_1 : cX4_boat.data.toList.drop 24 = dktX4_boat_1 := dk_seg dksX4_boat_0 24 rfl rfl
theorem dksX4_boat_2 : cX4_boat.data.toList.drop 48 = dktX4_boat_2 := dk_seg dksX4_boat_1 24 rfl rfl
theorem dksX4_boat_3 : cX4_boat.data.toList.drop 72 = dktX4_boat_3 := dk_seg dksX4_boat_2 24 rfl rfl
theorem dX4_boat_0 : decode cX4_boat 0 = .ok (.iload_n 1, 1) := dk_27 (dk_at dksX4_boat_0 0 rfl rfl)
theorem dX4_boat_1 : decode cX4_boat 1 = .ok (.iconst 1, 1) := dk_4 (dk_at dksX4_boat_0 1 rfl rfl)
theorem dX4_boat_2 : decode cX4_boat 2 = .ok (.bipush 9, 2) := dk_16 9 (dk_at dksX4_boat_0 2 rfl rfl)
theorem dX4_boat_4 : decode cX4_boat 4 = .ok (.invokestatic 60, 3) := dk_184 0 60 (dk_at dksX4_boat_0 4 rfl rfl)
theorem dX4_boat_7 : decode cX4_boat 7 = .ok (.ifCond .ne 9, 3) := dk_154 0 9 (dk_at dksX4_boat_0 7 rfl rfl)
theorem dX4_boat_10 : decode cX4_boat 10 = .ok (.aload_n 0, 1) := dk_42 (dk_at dksX4_boat_0 10 rfl rfl)
theorem dX4_boat_11 : decode cX4_boat 11 = .ok (.iconst 1, 1) := dk_4 (dk_at dksX4_boat_0 11 rfl rfl)
theorem dX4_boat_12 : decode cX4_boat 12 = .ok (.invokevirtual 68, 3) := dk_182 0 68 (dk_at dksX4_boat_0 12 rfl rfl)
theorem dX4_boat_15 : decode cX4_boat 15 = .ok (.ireturn, 1) := dk_172 (dk_at dksX4_boat_0 15 rfl rfl)
theorem dX4_boat_16 : decode cX4_boat 16 = .ok (.aload_n 0, 1) := dk_42 (dk_at dksX4_boat_0 16 rfl rfl)
theorem dX4_boat_17 : decode cX4_boat 17 = .ok (.getfield 7, 3) := dk_180 0 7 (dk_at dksX4_boat_0 17 rfl rfl)
theorem dX4_boat_20 : decode cX4_boat 20 = .ok (.bipush 24, 2) := dk_16 24 (dk_at dksX4_boat_0 20 rfl rfl)
theorem dX4_boat_22 : decode cX4_boat 22 = .ok (.iaload, 1) := dk_46 (dk_at dksX4_boat_0 22 rfl rfl)
theorem dX4_boat_23 : decode cX4_boat 23 = .ok (.istore_n 2, 1) := dk_61 (dk_at dksX4_boat_0 23 rfl rfl)
theorem dX4_boat_24 : decode cX4_boat 24 = .ok (.iload_n 2, 1) := dk_28 (dk_at dksX4_boat_1 0 rfl rfl)
theorem dX4_boat_25 : decode cX4_boat 25 = .ok (.iconst 3, 1) := dk_6 (dk_at dksX4_boat_1 1 rfl rfl)
theorem dX4_boat_26 : decode cX4_boat 26 = .ok (.if_icmp .ne 11, 3) := dk_160 0 11 (dk_at dksX4_boat_1 2 rfl rfl)
theorem dX4_boat_29 : decode cX4_boat 29 = .ok (.aload_n 0, 1) := dk_42 (dk_at dksX4_boat_1 5 rfl rfl)
theorem dX4_boat_30 : decode cX4_boat 30 = .ok (.iconst 1, 1) := dk_4 (dk_at dksX4_boat_1 6 rfl rfl)
theorem dX4_boat_31 : decode cX4_boat 31 = .ok (.iconst 3, 1) := dk_6 (dk_at dksX4_boat_1 7 rfl rfl)
theorem dX4_boat_32 : decode cX4_boat 32 = .ok (.iconst 2, 1) := dk_5 (dk_at dksX4_boat_1 8 rfl rfl)
theorem dX4_boat_33 : decode cX4_boat 33 = .ok (.invokevirtual 88, 3) := dk_182 0 88 (dk_at dksX4_boat_1 9 rfl rfl)
theorem dX4_boat_36 : decode cX4_boat 36 = .ok (.ireturn, 1) := dk_172 (dk_at dksX4_boat_1 12 rfl rfl)
theorem dX4_boat_37 : decode cX4_boat 37 = .ok (.aload_n 0, 1) := dk_42 (dk_at dksX4_boat_1 13 rfl rfl)
theorem dX4_boat_38 : decode cX4_boat 38 = .ok (.invokevirtual 78, 3) := dk_182 0 78 (dk_at dksX4_boat_1 14 rfl rfl)
theorem dX4_boat_41 : decode cX4_boat 41 = .ok (.aload_n 0, 1) := dk_42 (dk_at dksX4_boat_1 17 rfl rfl)
theorem dX4_boat_42 : decode cX4_boat 42 = .ok (.getfield 7, 3) := dk_180 0 7 (dk_at dksX4_boat_1 18 rfl rfl)
theorem dX4_boat_45 : decode cX4_boat 45 = .ok (.bipush 25, 2) := dk_16 25 (dk_at dksX4_boat_1 21 rfl rfl)
theorem dX4_boat_47 : decode cX4_boat 47 = .ok (.iload_n 2, 1) := dk_28 (dk_at dksX4_boat_1 23 rfl rfl)
theorem dX4_boat_48 : decode cX4_boat 48 = .ok (.iadd, 1) := dk_96 (dk_at dksX4_boat_2 0 rfl rfl)
theorem dX4_boat_49 : decode cX4_boat 49 = .ok (.iload_n 1, 1) := dk_27 (dk_at dksX4_boat_2 1 rfl rfl)
theorem dX4_boat_50 : decode cX4_boat 50 = .ok (.iastore, 1) := dk_79 (dk_at dksX4_boat_2 2 rfl rfl)
theorem dX4_boat_51 : decode cX4_boat 51 = .ok (.aload_n 0, 1) := dk_42 (dk_at dksX4_boat_2 3 rfl rfl)
theorem dX4_boat_52 : decode cX4_boat 52 = .ok (.getfield 7, 3) := dk_180 0 7 (dk_at dksX4_boat_2 4 rfl rfl)
theorem dX4_boat_55 : decode cX4_boat 55 = .ok (.bipush 28, 2) := dk_16 28 (dk_at dksX4_boat_2 7 rfl rfl)
theorem dX4_boat_57 : decode cX4_boat 57 = .ok (.iload_n 2, 1) := dk_28 (dk_at dksX4_boat_2 9 rfl rfl)
theorem dX4_boat_58 : decode cX4_boat 58 = .ok (.iadd, 1) := dk_96 (dk_at dksX4_boat_2 10 rfl rfl)
theorem dX4_boat_59 : decode cX4_boat 59 = .ok (.iconst (-1), 1) := dk_2 (dk_at dksX4_boat_2 11 rfl rfl)
theorem dX4_boat_60 : decode cX4_boat 60 = .ok (.iastore, 1) := dk_79 (dk_at dksX4_boat_2 12 rfl rfl)
theorem dX4_boat_61 : decode cX4_boat 61 = .ok (.aload_n 0, 1) := dk_42 (dk_at dksX4_boat_2 13 rfl rfl)
theorem dX4_boat_62 : decode cX4_boat 62 = .ok (.getfield 7, 3) := dk_180 0 7 (dk_at dksX4_boat_2 14 rfl rfl)
theorem dX4_boat_65 : decode cX4_boat 65 = .ok (.bipush 31, 2) := dk_16 31 (dk_at dksX4_boat_2 17 rfl rfl)
theorem dX4_boat_67 : decode cX4_boat 67 = .ok (.iload_n 2, 1) := dk_28 (dk_at dksX4_boat_2 19 rfl rfl)
theorem dX4_boat_68 : decode cX4_boat 68 = .ok (.iadd, 1) := dk_96 (dk_at dksX4_boat_2 20 rfl rfl)
theorem dX4_boat_69 : decode cX4_boat 69 = .ok (.bipush 10, 2) := dk_16 10 (dk_at dksX4_boat_2 21 rfl rfl)
theorem dX4_boat_71 : decode cX4_boat 71 = .ok (.iastore, 1) := dk_79 (dk_at dksX4_boat_2 23 rfl rfl)
theorem dX4_boat_72 : decode cX4_boat 72 = .ok (.aload_n 0, 1) := dk_42 (dk_at dksX4_boat_3 0 rfl rfl)
theorem dX4_boat_73 : decode cX4_boat 73 = .ok (.getfield 7, 3) := dk_180 0 7 (dk_at dksX4_boat_3 1 rfl rfl)
theorem dX4_boat_76 : decode cX4_boat 76 = .ok (.bipush 24, 2) := dk_16 24 (dk_at dksX4_boat_3 4 rfl rfl)
theorem dX4_boat_78 : decode cX4_boat 78 = .ok (.dup2, 1) := dk_92 (dk_at dksX4_boat_3 6 rfl rfl)
theorem dX4_boat_79 : decode cX4_boat 79 = .ok (.iaload, 1) := dk_46 (dk_at dksX4_boat_3 7 rfl rfl)
theorem dX4_boat_80 : decode cX4_boat 80 = .ok (.iconst 1, 1) := dk_4 (dk_at dksX4_boat_3 8 rfl rfl)
theorem dX4_boat_81 : decode cX4_boat 81 = .ok (.iadd, 1) := dk_96 (dk_at dksX4_boat_3 9 rfl rfl)
theorem dX4_boat_82 : decode cX4_boat 82 = .ok (.iastore, 1) := dk_79 (dk_at dksX4_boat_3 10 rfl rfl)
theorem dX4_boat_83 : decode cX4_boat 83 = .ok (.aload_n 0, 1) := dk_42 (dk_at dksX4_boat_3 11 rfl rfl)
theorem dX4_boat_84 : decode cX4_boat 84 = .ok (.aload_n 0, 1) := dk_42 (dk_at dksX4_boat_3 12 rfl rfl)
theorem dX4_boat_85 : decode cX4_boat 85 = .ok (.iload_n 2, 1) := dk_28 (dk_at dksX4_boat_3 13 rfl rfl)
theorem dX4_boat_86 : decode cX4_boat 86 = .ok (.invokevirtual 75, 3) := dk_182 0 75 (dk_at dksX4_boat_3 14 rfl rfl)
theorem dX4_boat_89 : decode cX4_boat 89 = .ok (.invokevirtual 81, 3) := dk_182 0 81 (dk_at dksX4_boat_3 17 rfl rfl)
theorem dX4_boat_92 : decode cX4_boat 92 = .ok (.ireturn, 1) := dk_172 (dk_at dksX4_boat_3 20 rfl rfl)
abbrev cX4_refused : ByteArray := prog_19_method_7_code
def yX4_refused : MethodName := ⟨RX4, "refused", "(III)I"⟩
def dkwX4_refused_0 : List UInt8 := [42, 27, 28, 3, 3, 29, 182, 0, 49, 172]
abbrev dktX4_refused_0 : List UInt8 := dkwX4_refused_0 ++ []
theorem dksX4_refused_0 : cX4_refused.data.toList.drop 0 = dktX4_refused_0 := by decide +kernel
theorem dX4_refused_0 : decode cX4_refused 0 = .ok (.aload_n 0, 1) := dk_42 (dk_at dksX4_refused_0 0 rfl rfl)
theorem dX4_refused_1 : decode cX4_refused 1 = .ok (.iload_n 1, 1) := dk_27 (dk_at dksX4_refused_0 1 rfl rfl)
theorem dX4_refused_2 : decode cX4_refused 2 = .ok (.iload_n 2, 1) := dk_28 (dk_at dksX4_refused_0 2 rfl rfl)
theorem dX4_refused_3 : decode cX4_refused 3 = .ok (.iconst 0, 1) := dk_3 (dk_at dksX4_refused_0 3 rfl rfl)
theorem dX4_refused_4 : decode cX4_refused 4 = .ok (.iconst 0, 1) := dk_3 (dk_at dksX4_refused_0 4 rfl rfl)
theorem dX4_refused_5 : decode cX4_refused 5 = .ok (.iload_n 3, 1) := dk_29 (dk_at dksX4_refused_0 5 rfl rfl)
theorem dX4_refused_6 : decode cX4_refused 6 = .ok (.invokevirtual 49, 3) := dk_182 0 49 (dk_at dksX4_refused_0 6 rfl rfl)
theorem dX4_refused_9 : decode cX4_refused 9 = .ok (.ireturn, 1) := dk_172 (dk_at dksX4_refused_0 9 rfl rfl)
abbrev cX4_refusedBy : ByteArray := prog_19_method_6_code
def yX4_refusedBy : MethodName := ⟨RX4, "refusedBy", "(IIIII)I"⟩
def dkwX4_refusedBy_2 : List UInt8 := [181, 0, 45, 42, 21, 5, 181, 0, 42, 3, 172]
abbrev dktX4_refusedBy_2 : List UInt8 := dkwX4_refusedBy_2 ++ []
def dkwX4_refusedBy_1 : List UInt8 := [180, 0, 33, 6, 21, 4, 79, 42, 180, 0, 33, 7, 3, 79, 42, 180, 0, 33, 8, 3, 79, 42, 4]
abbrev dktX4_refusedBy_1 : List UInt8 := dkwX4_refusedBy_1 ++ dktX4_refusedBy_2
def dkwX4_refusedBy_0 : List UInt8 := [42, 180, 0, 33, 3, 27, 79, 42, 180, 0, 33, 4, 28, 79, 42, 180, 0, 33, 5, 29, 79, 42]
abbrev dktX4_refusedBy_0 : List UInt8 := dkwX4_refusedBy_0 ++ dktX4_refusedBy_1
theorem dksX4_refusedBy_0 : cX4_refusedBy.data.toList.drop 0 = dktX4_refusedBy_0 := by decide +kernel
theorem dksX4_refusedBy_1 : cX4_refusedBy.data.toList.drop 22 = dktX4_refusedBy_1 := dk_seg dksX4_refusedBy_0 22 rfl rfl
theorem dksX4_refusedBy_2 : cX4_refusedBy.data.toList.drop 45 = dktX4_refusedBy_2 := dk_seg dksX4_refusedBy_1 23 rfl rfl
theorem dX4_refusedBy_0 : decode cX4_refusedBy 0 = .ok (.aload_n 0, 1) := dk_42 (dk_at dksX4_refusedBy_0 0 rfl rfl)
theorem dX4_refusedBy_1 : decode cX4_refusedBy 1 = .ok (.getfield 33, 3) := dk_180 0 33 (dk_at dksX4_refusedBy_0 1 rfl rfl)
theorem dX4_refusedBy_4 : decode cX4_refusedBy 4 = .ok (.iconst 0, 1) := dk_3 (dk_at dksX4_refusedBy_0 4 rfl rfl)
theorem dX4_refusedBy_5 : decode cX4_refusedBy 5 = .ok (.iload_n 1, 1) := dk_27 (dk_at dksX4_refusedBy_0 5 rfl rfl)
theorem dX4_refusedBy_6 : decode cX4_refusedBy 6 = .ok (.iastore, 1) := dk_79 (dk_at dksX4_refusedBy_0 6 rfl rfl)
theorem dX4_refusedBy_7 : decode cX4_refusedBy 7 = .ok (.aload_n 0, 1) := dk_42 (dk_at dksX4_refusedBy_0 7 rfl rfl)
theorem dX4_refusedBy_8 : decode cX4_refusedBy 8 = .ok (.getfield 33, 3) := dk_180 0 33 (dk_at dksX4_refusedBy_0 8 rfl rfl)
theorem dX4_refusedBy_11 : decode cX4_refusedBy 11 = .ok (.iconst 1, 1) := dk_4 (dk_at dksX4_refusedBy_0 11 rfl rfl)
theorem dX4_refusedBy_12 : decode cX4_refusedBy 12 = .ok (.iload_n 2, 1) := dk_28 (dk_at dksX4_refusedBy_0 12 rfl rfl)
theorem dX4_refusedBy_13 : decode cX4_refusedBy 13 = .ok (.iastore, 1) := dk_79 (dk_at dksX4_refusedBy_0 13 rfl rfl)
theorem dX4_refusedBy_14 : decode cX4_refusedBy 14 = .ok (.aload_n 0, 1) := dk_42 (dk_at dksX4_refusedBy_0 14 rfl rfl)
theorem dX4_refusedBy_15 : decode cX4_refusedBy 15 = .ok (.getfield 33, 3) := dk_180 0 33 (dk_at dksX4_refusedBy_0 15 rfl rfl)
theorem dX4_refusedBy_18 : decode cX4_refusedBy 18 = .ok (.iconst 2, 1) := dk_5 (dk_at dksX4_refusedBy_0 18 rfl rfl)
theorem dX4_refusedBy_19 : decode cX4_refusedBy 19 = .ok (.iload_n 3, 1) := dk_29 (dk_at dksX4_refusedBy_0 19 rfl rfl)
theorem dX4_refusedBy_20 : decode cX4_refusedBy 20 = .ok (.iastore, 1) := dk_79 (dk_at dksX4_refusedBy_0 20 rfl rfl)
theorem dX4_refusedBy_21 : decode cX4_refusedBy 21 = .ok (.aload_n 0, 1) := dk_42 (dk_at dksX4_refusedBy_0 21 rfl rfl)
theorem dX4_refusedBy_22 : decode cX4_refusedBy 22 = .ok (.getfield 33, 3) := dk_180 0 33 (dk_at dksX4_refusedBy_1 0 rfl rfl)
theorem dX4_refusedBy_25 : decode cX4_refusedBy 25 = .ok (.iconst 3, 1) := dk_6 (dk_at dksX4_refusedBy_1 3 rfl rfl)
theorem dX4_refusedBy_26 : decode cX4_refusedBy 26 = .ok (.iload 4, 2) := dk_21 4 (dk_at dksX4_refusedBy_1 4 rfl rfl)
theorem dX4_refusedBy_28 : decode cX4_refusedBy 28 = .ok (.iastore, 1) := dk_79 (dk_at dksX4_refusedBy_1 6 rfl rfl)
theorem dX4_refusedBy_29 : decode cX4_refusedBy 29 = .ok (.aload_n 0, 1) := dk_42 (dk_at dksX4_refusedBy_1 7 rfl rfl)
theorem dX4_refusedBy_30 : decode cX4_refusedBy 30 = .ok (.getfield 33, 3) := dk_180 0 33 (dk_at dksX4_refusedBy_1 8 rfl rfl)
theorem dX4_refusedBy_33 : decode cX4_refusedBy 33 = .ok (.iconst 4, 1) := dk_7 (dk_at dksX4_refusedBy_1 11 rfl rfl)
theorem dX4_refusedBy_34 : decode cX4_refusedBy 34 = .ok (.iconst 0, 1) := dk_3 (dk_at dksX4_refusedBy_1 12 rfl rfl)
theorem dX4_refusedBy_35 : decode cX4_refusedBy 35 = .ok (.iastore, 1) := dk_79 (dk_at dksX4_refusedBy_1 13 rfl rfl)
theorem dX4_refusedBy_36 : decode cX4_refusedBy 36 = .ok (.aload_n 0, 1) := dk_42 (dk_at dksX4_refusedBy_1 14 rfl rfl)
theorem dX4_refusedBy_37 : decode cX4_refusedBy 37 = .ok (.getfield 33, 3) := dk_180 0 33 (dk_at dksX4_refusedBy_1 15 rfl rfl)
theorem dX4_refusedBy_40 : decode cX4_refusedBy 40 = .ok (.iconst 5, 1) := dk_8 (dk_at dksX4_refusedBy_1 18 rfl rfl)
theorem dX4_refusedBy_41 : decode cX4_refusedBy 41 = .ok (.iconst 0, 1) := dk_3 (dk_at dksX4_refusedBy_1 19 rfl rfl)
theorem dX4_refusedBy_42 : decode cX4_refusedBy 42 = .ok (.iastore, 1) := dk_79 (dk_at dksX4_refusedBy_1 20 rfl rfl)
theorem dX4_refusedBy_43 : decode cX4_refusedBy 43 = .ok (.aload_n 0, 1) := dk_42 (dk_at dksX4_refusedBy_1 21 rfl rfl)
theorem dX4_refusedBy_44 : decode cX4_refusedBy 44 = .ok (.iconst 1, 1) := dk_4 (dk_at dksX4_refusedBy_1 22 rfl rfl)
theorem dX4_refusedBy_45 : decode cX4_refusedBy 45 = .ok (.putfield 45, 3) := dk_181 0 45 (dk_at dksX4_refusedBy_2 0 rfl rfl)
theorem dX4_refusedBy_48 : decode cX4_refusedBy 48 = .ok (.aload_n 0, 1) := dk_42 (dk_at dksX4_refusedBy_2 3 rfl rfl)
theorem dX4_refusedBy_49 : decode cX4_refusedBy 49 = .ok (.iload 5, 2) := dk_21 5 (dk_at dksX4_refusedBy_2 4 rfl rfl)
theorem dX4_refusedBy_51 : decode cX4_refusedBy 51 = .ok (.putfield 42, 3) := dk_181 0 42 (dk_at dksX4_refusedBy_2 6 rfl rfl)
theorem dX4_refusedBy_54 : decode cX4_refusedBy 54 = .ok (.iconst 0, 1) := dk_3 (dk_at dksX4_refusedBy_2 9 rfl rfl)
theorem dX4_refusedBy_55 : decode cX4_refusedBy 55 = .ok (.ireturn, 1) := dk_172 (dk_at dksX4_refusedBy_2 10 rfl rfl)
abbrev cX4_string : ByteArray := prog_19_method_24_code
def yX4_string : MethodName := ⟨RX4, "string", "(I)I"⟩
def dkwX4_string_3 : List UInt8 := [2, 79, 42, 180, 0, 7, 16, 46, 92, 46, 4, 96, 79, 42, 42, 28, 182, 0, 75, 182, 0, 81, 172]
abbrev dktX4_string_3 : List UInt8 := dkwX4_string_3 ++ []
def dkwX4_string_2 : List UInt8 := [16, 47, 28, 96, 27, 79, 42, 180, 0, 7, 16, 57, 28, 96, 2, 79, 42, 180, 0, 7, 16, 67, 28, 96]
abbrev dktX4_string_2 : List UInt8 := dkwX4_string_2 ++ dktX4_string_3
def dkwX4_string_1 : List UInt8 := [28, 16, 10, 160, 0, 12, 42, 4, 16, 10, 5, 182, 0, 88, 172, 42, 182, 0, 78, 42, 180, 0, 7]
abbrev dktX4_string_1 : List UInt8 := dkwX4_string_1 ++ dktX4_string_2
def dkwX4_string_0 : List UInt8 := [27, 7, 16, 40, 184, 0, 60, 154, 0, 9, 42, 4, 182, 0, 68, 172, 42, 180, 0, 7, 16, 46, 46, 61]
abbrev dktX4_string_0 : List UInt8 := dkwX4_string_0 ++ dktX4_string_1
theorem dksX4_string_0 : cX4_string.data.toList.drop 0 = dktX4_string_0 := by decide +kernel
theorem dksX4_string_1 : cX4_string.data.toList.drop 24 = dktX4_string_1 := dk_seg dksX4_string_0 24 rfl rfl
theorem dksX4_string_2 : cX4_string.data.toList.drop 47 = dktX4_string_2 := dk_seg dksX4_string_1 23 rfl rfl
theorem dksX4_string_3 : cX4_string.data.toList.drop 71 = dktX4_string_3 := dk_seg dksX4_string_2 24 rfl rfl
theorem dX4_string_0 : decode cX4_string 0 = .ok (.iload_n 1, 1) := dk_27 (dk_at dksX4_string_0 0 rfl rfl)
theorem dX4_string_1 : decode cX4_string 1 = .ok (.iconst 4, 1) := dk_7 (dk_at dksX4_string_0 1 rfl rfl)
theorem dX4_string_2 : decode cX4_string 2 = .ok (.bipush 40, 2) := dk_16 40 (dk_at dksX4_string_0 2 rfl rfl)
theorem dX4_string_4 : decode cX4_string 4 = .ok (.invokestatic 60, 3) := dk_184 0 60 (dk_at dksX4_string_0 4 rfl rfl)
theorem dX4_string_7 : decode cX4_string 7 = .ok (.ifCond .ne 9, 3) := dk_154 0 9 (dk_at dksX4_string_0 7 rfl rfl)
theorem dX4_string_10 : decode cX4_string 10 = .ok (.aload_n 0, 1) := dk_42 (dk_at dksX4_string_0 10 rfl rfl)
theorem dX4_string_11 : decode cX4_string 11 = .ok (.iconst 1, 1) := dk_4 (dk_at dksX4_string_0 11 rfl rfl)
theorem dX4_string_12 : decode cX4_string 12 = .ok (.invokevirtual 68, 3) := dk_182 0 68 (dk_at dksX4_string_0 12 rfl rfl)
theorem dX4_string_15 : decode cX4_string 15 = .ok (.ireturn, 1) := dk_172 (dk_at dksX4_string_0 15 rfl rfl)
theorem dX4_string_16 : decode cX4_string 16 = .ok (.aload_n 0, 1) := dk_42 (dk_at dksX4_string_0 16 rfl rfl)
theorem dX4_string_17 : decode cX4_string 17 = .ok (.getfield 7, 3) := dk_180 0 7 (dk_at dksX4_string_0 17 rfl rfl)
theorem dX4_string_20 : decode cX4_string 20 = .ok (.bipush 46, 2) := dk_16 46 (dk_at dksX4_string_0 20 rfl rfl)
theorem dX4_string_22 : decode cX4_string 22 = .ok (.iaload, 1) := dk_46 (dk_at dksX4_string_0 22 rfl rfl)
theorem dX4_string_23 : decode cX4_string 23 = .ok (.istore_n 2, 1) := dk_61 (dk_at dksX4_string_0 23 rfl rfl)
theorem dX4_string_24 : decode cX4_string 24 = .ok (.iload_n 2, 1) := dk_28 (dk_at dksX4_string_1 0 rfl rfl)
theorem dX4_string_25 : decode cX4_string 25 = .ok (.bipush 10, 2) := dk_16 10 (dk_at dksX4_string_1 1 rfl rfl)
theorem dX4_string_27 : decode cX4_string 27 = .ok (.if_icmp .ne 12, 3) := dk_160 0 12 (dk_at dksX4_string_1 3 rfl rfl)
theorem dX4_string_30 : decode cX4_string 30 = .ok (.aload_n 0, 1) := dk_42 (dk_at dksX4_string_1 6 rfl rfl)
theorem dX4_string_31 : decode cX4_string 31 = .ok (.iconst 1, 1) := dk_4 (dk_at dksX4_string_1 7 rfl rfl)
theorem dX4_string_32 : decode cX4_string 32 = .ok (.bipush 10, 2) := dk_16 10 (dk_at dksX4_string_1 8 rfl rfl)
theorem dX4_string_34 : decode cX4_string 34 = .ok (.iconst 2, 1) := dk_5 (dk_at dksX4_string_1 10 rfl rfl)
theorem dX4_string_35 : decode cX4_string 35 = .ok (.invokevirtual 88, 3) := dk_182 0 88 (dk_at dksX4_string_1 11 rfl rfl)
theorem dX4_string_38 : decode cX4_string 38 = .ok (.ireturn, 1) := dk_172 (dk_at dksX4_string_1 14 rfl rfl)
theorem dX4_string_39 : decode cX4_string 39 = .ok (.aload_n 0, 1) := dk_42 (dk_at dksX4_string_1 15 rfl rfl)
theorem dX4_string_40 : decode cX4_string 40 = .ok (.invokevirtual 78, 3) := dk_182 0 78 (dk_at dksX4_string_1 16 rfl rfl)
theorem dX4_string_43 : decode cX4_string 43 = .ok (.aload_n 0, 1) := dk_42 (dk_at dksX4_string_1 19 rfl rfl)
theorem dX4_string_44 : decode cX4_string 44 = .ok (.getfield 7, 3) := dk_180 0 7 (dk_at dksX4_string_1 20 rfl rfl)
theorem dX4_string_47 : decode cX4_string 47 = .ok (.bipush 47, 2) := dk_16 47 (dk_at dksX4_string_2 0 rfl rfl)
theorem dX4_string_49 : decode cX4_string 49 = .ok (.iload_n 2, 1) := dk_28 (dk_at dksX4_string_2 2 rfl rfl)
theorem dX4_string_50 : decode cX4_string 50 = .ok (.iadd, 1) := dk_96 (dk_at dksX4_string_2 3 rfl rfl)
theorem dX4_string_51 : decode cX4_string 51 = .ok (.iload_n 1, 1) := dk_27 (dk_at dksX4_string_2 4 rfl rfl)
theorem dX4_string_52 : decode cX4_string 52 = .ok (.iastore, 1) := dk_79 (dk_at dksX4_string_2 5 rfl rfl)
theorem dX4_string_53 : decode cX4_string 53 = .ok (.aload_n 0, 1) := dk_42 (dk_at dksX4_string_2 6 rfl rfl)
theorem dX4_string_54 : decode cX4_string 54 = .ok (.getfield 7, 3) := dk_180 0 7 (dk_at dksX4_string_2 7 rfl rfl)
theorem dX4_string_57 : decode cX4_string 57 = .ok (.bipush 57, 2) := dk_16 57 (dk_at dksX4_string_2 10 rfl rfl)
theorem dX4_string_59 : decode cX4_string 59 = .ok (.iload_n 2, 1) := dk_28 (dk_at dksX4_string_2 12 rfl rfl)
theorem dX4_string_60 : decode cX4_string 60 = .ok (.iadd, 1) := dk_96 (dk_at dksX4_string_2 13 rfl rfl)
theorem dX4_string_61 : decode cX4_string 61 = .ok (.iconst (-1), 1) := dk_2 (dk_at dksX4_string_2 14 rfl rfl)
theorem dX4_string_62 : decode cX4_string 62 = .ok (.iastore, 1) := dk_79 (dk_at dksX4_string_2 15 rfl rfl)
theorem dX4_string_63 : decode cX4_string 63 = .ok (.aload_n 0, 1) := dk_42 (dk_at dksX4_string_2 16 rfl rfl)
theorem dX4_string_64 : decode cX4_string 64 = .ok (.getfield 7, 3) := dk_180 0 7 (dk_at dksX4_string_2 17 rfl rfl)
theorem dX4_string_67 : decode cX4_string 67 = .ok (.bipush 67, 2) := dk_16 67 (dk_at dksX4_string_2 20 rfl rfl)
theorem dX4_string_69 : decode cX4_string 69 = .ok (.iload_n 2, 1) := dk_28 (dk_at dksX4_string_2 22 rfl rfl)
theorem dX4_string_70 : decode cX4_string 70 = .ok (.iadd, 1) := dk_96 (dk_at dksX4_string_2 23 rfl rfl)
theorem dX4_string_71 : decode cX4_string 71 = .ok (.iconst (-1), 1) := dk_2 (dk_at dksX4_string_3 0 rfl rfl)
theorem dX4_string_72 : decode cX4_string 72 = .ok (.iastore, 1) := dk_79 (dk_at dksX4_string_3 1 rfl rfl)
theorem dX4_string_73 : decode cX4_string 73 = .ok (.aload_n 0, 1) := dk_42 (dk_at dksX4_string_3 2 rfl rfl)
theorem dX4_string_74 : decode cX4_string 74 = .ok (.getfield 7, 3) := dk_180 0 7 (dk_at dksX4_string_3 3 rfl rfl)
theorem dX4_string_77 : decode cX4_string 77 = .ok (.bipush 46, 2) := dk_16 46 (dk_at dksX4_string_3 6 rfl rfl)
theorem dX4_string_79 : decode cX4_string 79 = .ok (.dup2, 1) := dk_92 (dk_at dksX4_string_3 8 rfl rfl)
theorem dX4_string_80 : decode cX4_string 80 = .ok (.iaload, 1) := dk_46 (dk_at dksX4_string_3 9 rfl rfl)
theorem dX4_string_81 : decode cX4_string 81 = .ok (.iconst 1, 1) := dk_4 (dk_at dksX4_string_3 10 rfl rfl)
theorem dX4_string_82 : decode cX4_string 82 = .ok (.iadd, 1) := dk_96 (dk_at dksX4_string_3 11 rfl rfl)
theorem dX4_string_83 : decode cX4_string 83 = .ok (.iastore, 1) := dk_79 (dk_at dksX4_string_3 12 rfl rfl)
theorem dX4_string_84 : decode cX4_string 84 = .ok (.aload_n 0, 1) := dk_42 (dk_at dksX4_string_3 13 rfl rfl)
theorem dX4_string_85 : decode cX4_string 85 = .ok (.aload_n 0, 1) := dk_42 (dk_at dksX4_string_3 14 rfl rfl)
theorem dX4_string_86 : decode cX4_string 86 = .ok (.iload_n 2, 1) := dk_28 (dk_at dksX4_string_3 15 rfl rfl)
theorem dX4_string_87 : decode cX4_string 87 = .ok (.invokevirtual 75, 3) := dk_182 0 75 (dk_at dksX4_string_3 16 rfl rfl)
theorem dX4_string_90 : decode cX4_string 90 = .ok (.invokevirtual 81, 3) := dk_182 0 81 (dk_at dksX4_string_3 19 rfl rfl)
theorem dX4_string_93 : decode cX4_string 93 = .ok (.ireturn, 1) := dk_172 (dk_at dksX4_string_3 22 rfl rfl)
abbrev cX4_boatOf : ByteArray := prog_19_method_25_code
def yX4_boatOf : MethodName := ⟨RX4, "boatOf", "(II)I"⟩
def dkwX4_boatOf_2 : List UInt8 := [182, 0, 68, 172]
abbrev dktX4_boatOf_2 : List UInt8 := dkwX4_boatOf_2 ++ []
def dkwX4_boatOf_1 : List UInt8 := [42, 42, 180, 0, 7, 16, 25, 6, 28, 104, 96, 27, 96, 46, 182, 0, 75, 167, 0, 8, 42, 5]
abbrev dktX4_boatOf_1 : List UInt8 := dkwX4_boatOf_1 ++ dktX4_boatOf_2
def dkwX4_boatOf_0 : List UInt8 := [42, 27, 182, 0, 92, 154, 0, 9, 42, 4, 182, 0, 68, 172, 28, 3, 16, 6, 184, 0, 60, 153, 0, 23]
abbrev dktX4_boatOf_0 : List UInt8 := dkwX4_boatOf_0 ++ dktX4_boatOf_1
theorem dksX4_boatOf_0 : cX4_boatOf.data.toList.drop 0 = dktX4_boatOf_0 := by decide +kernel
theorem dksX4_boatOf_1 : cX4_boatOf.data.toList.drop 24 = dktX4_boatOf_1 := dk_seg dksX4_boatOf_0 24 rfl rfl
theorem dksX4_boatOf_2 : cX4_boatOf.data.toList.drop 46 = dktX4_boatOf_2 := dk_seg dksX4_boatOf_1 22 rfl rfl
theorem dX4_boatOf_0 : decode cX4_boatOf 0 = .ok (.aload_n 0, 1) := dk_42 (dk_at dksX4_boatOf_0 0 rfl rfl)
theorem dX4_boatOf_1 : decode cX4_boatOf 1 = .ok (.iload_n 1, 1) := dk_27 (dk_at dksX4_boatOf_0 1 rfl rfl)
theorem dX4_boatOf_2 : decode cX4_boatOf 2 = .ok (.invokevirtual 92, 3) := dk_182 0 92 (dk_at dksX4_boatOf_0 2 rfl rfl)
theorem dX4_boatOf_5 : decode cX4_boatOf 5 = .ok (.ifCond .ne 9, 3) := dk_154 0 9 (dk_at dksX4_boatOf_0 5 rfl rfl)
theorem dX4_boatOf_8 : decode cX4_boatOf 8 = .ok (.aload_n 0, 1) := dk_42 (dk_at dksX4_boatOf_0 8 rfl rfl)
theorem dX4_boatOf_9 : decode cX4_boatOf 9 = .ok (.iconst 1, 1) := dk_4 (dk_at dksX4_boatOf_0 9 rfl rfl)
theorem dX4_boatOf_10 : decode cX4_boatOf 10 = .ok (.invokevirtual 68, 3) := dk_182 0 68 (dk_at dksX4_boatOf_0 10 rfl rfl)
theorem dX4_boatOf_13 : decode cX4_boatOf 13 = .ok (.ireturn, 1) := dk_172 (dk_at dksX4_boatOf_0 13 rfl rfl)
theorem dX4_boatOf_14 : decode cX4_boatOf 14 = .ok (.iload_n 2, 1) := dk_28 (dk_at dksX4_boatOf_0 14 rfl rfl)
theorem dX4_boatOf_15 : decode cX4_boatOf 15 = .ok (.iconst 0, 1) := dk_3 (dk_at dksX4_boatOf_0 15 rfl rfl)
theorem dX4_boatOf_16 : decode cX4_boatOf 16 = .ok (.bipush 6, 2) := dk_16 6 (dk_at dksX4_boatOf_0 16 rfl rfl)
theorem dX4_boatOf_18 : decode cX4_boatOf 18 = .ok (.invokestatic 60, 3) := dk_184 0 60 (dk_at dksX4_boatOf_0 18 rfl rfl)
theorem dX4_boatOf_21 : decode cX4_boatOf 21 = .ok (.ifCond .eq 23, 3) := dk_153 0 23 (dk_at dksX4_boatOf_0 21 rfl rfl)
theorem dX4_boatOf_24 : decode cX4_boatOf 24 = .ok (.aload_n 0, 1) := dk_42 (dk_at dksX4_boatOf_1 0 rfl rfl)
theorem dX4_boatOf_25 : decode cX4_boatOf 25 = .ok (.aload_n 0, 1) := dk_42 (dk_at dksX4_boatOf_1 1 rfl rfl)
theorem dX4_boatOf_26 : decode cX4_boatOf 26 = .ok (.getfield 7, 3) := dk_180 0 7 (dk_at dksX4_boatOf_1 2 rfl rfl)
theorem dX4_boatOf_29 : decode cX4_boatOf 29 = .ok (.bipush 25, 2) := dk_16 25 (dk_at dksX4_boatOf_1 5 rfl rfl)
theorem dX4_boatOf_31 : decode cX4_boatOf 31 = .ok (.iconst 3, 1) := dk_6 (dk_at dksX4_boatOf_1 7 rfl rfl)
theorem dX4_boatOf_32 : decode cX4_boatOf 32 = .ok (.iload_n 2, 1) := dk_28 (dk_at dksX4_boatOf_1 8 rfl rfl)
theorem dX4_boatOf_33 : decode cX4_boatOf 33 = .ok (.imul, 1) := dk_104 (dk_at dksX4_boatOf_1 9 rfl rfl)
theorem dX4_boatOf_34 : decode cX4_boatOf 34 = .ok (.iadd, 1) := dk_96 (dk_at dksX4_boatOf_1 10 rfl rfl)
theorem dX4_boatOf_35 : decode cX4_boatOf 35 = .ok (.iload_n 1, 1) := dk_27 (dk_at dksX4_boatOf_1 11 rfl rfl)
theorem dX4_boatOf_36 : decode cX4_boatOf 36 = .ok (.iadd, 1) := dk_96 (dk_at dksX4_boatOf_1 12 rfl rfl)
theorem dX4_boatOf_37 : decode cX4_boatOf 37 = .ok (.iaload, 1) := dk_46 (dk_at dksX4_boatOf_1 13 rfl rfl)
theorem dX4_boatOf_38 : decode cX4_boatOf 38 = .ok (.invokevirtual 75, 3) := dk_182 0 75 (dk_at dksX4_boatOf_1 14 rfl rfl)
theorem dX4_boatOf_41 : decode cX4_boatOf 41 = .ok (.goto 8, 3) := dk_167 0 8 (dk_at dksX4_boatOf_1 17 rfl rfl)
theorem dX4_boatOf_44 : decode cX4_boatOf 44 = .ok (.aload_n 0, 1) := dk_42 (dk_at dksX4_boatOf_1 20 rfl rfl)
theorem dX4_boatOf_45 : decode cX4_boatOf 45 = .ok (.iconst 2, 1) := dk_5 (dk_at dksX4_boatOf_1 21 rfl rfl)
theorem dX4_boatOf_46 : decode cX4_boatOf 46 = .ok (.invokevirtual 68, 3) := dk_182 0 68 (dk_at dksX4_boatOf_2 0 rfl rfl)
theorem dX4_boatOf_49 : decode cX4_boatOf 49 = .ok (.ireturn, 1) := dk_172 (dk_at dksX4_boatOf_2 3 rfl rfl)
abbrev cX4_isBoat : ByteArray := prog_19_method_21_code
def yX4_isBoat : MethodName := ⟨RX4, "isBoat", "(I)Z"⟩
def dkwX4_isBoat_0 : List UInt8 := [27, 3, 42, 180, 0, 7, 16, 24, 46, 4, 100, 184, 0, 60, 172]
abbrev dktX4_isBoat_0 : List UInt8 := dkwX4_isBoat_0 ++ []
theorem dksX4_isBoat_0 : cX4_isBoat.data.toList.drop 0 = dktX4_isBoat_0 := by decide +kernel
theorem dX4_isBoat_0 : decode cX4_isBoat 0 = .ok (.iload_n 1, 1) := dk_27 (dk_at dksX4_isBoat_0 0 rfl rfl)
theorem dX4_isBoat_1 : decode cX4_isBoat 1 = .ok (.iconst 0, 1) := dk_3 (dk_at dksX4_isBoat_0 1 rfl rfl)
theorem dX4_isBoat_2 : decode cX4_isBoat 2 = .ok (.aload_n 0, 1) := dk_42 (dk_at dksX4_isBoat_0 2 rfl rfl)
theorem dX4_isBoat_3 : decode cX4_isBoat 3 = .ok (.getfield 7, 3) := dk_180 0 7 (dk_at dksX4_isBoat_0 3 rfl rfl)
theorem dX4_isBoat_6 : decode cX4_isBoat 6 = .ok (.bipush 24, 2) := dk_16 24 (dk_at dksX4_isBoat_0 6 rfl rfl)
theorem dX4_isBoat_8 : decode cX4_isBoat 8 = .ok (.iaload, 1) := dk_46 (dk_at dksX4_isBoat_0 8 rfl rfl)
theorem dX4_isBoat_9 : decode cX4_isBoat 9 = .ok (.iconst 1, 1) := dk_4 (dk_at dksX4_isBoat_0 9 rfl rfl)
theorem dX4_isBoat_10 : decode cX4_isBoat 10 = .ok (.isub, 1) := dk_100 (dk_at dksX4_isBoat_0 10 rfl rfl)
theorem dX4_isBoat_11 : decode cX4_isBoat 11 = .ok (.invokestatic 60, 3) := dk_184 0 60 (dk_at dksX4_isBoat_0 11 rfl rfl)
theorem dX4_isBoat_14 : decode cX4_isBoat 14 = .ok (.ireturn, 1) := dk_172 (dk_at dksX4_isBoat_0 14 rfl rfl)
abbrev cX4_stringOf : ByteArray := prog_19_method_27_code
def yX4_stringOf : MethodName := ⟨RX4, "stringOf", "(II)I"⟩
def dkwX4_stringOf_2 : List UInt8 := [16, 10, 28, 104, 96, 27, 96, 46, 182, 0, 75, 167, 0, 8, 42, 5, 182, 0, 68, 172]
abbrev dktX4_stringOf_2 : List UInt8 := dkwX4_stringOf_2 ++ []
def dkwX4_stringOf_1 : List UInt8 := [182, 0, 98, 182, 0, 75, 172, 28, 3, 8, 184, 0, 60, 153, 0, 24, 42, 42, 180, 0, 7, 16, 47]
abbrev dktX4_stringOf_1 : List UInt8 := dkwX4_stringOf_1 ++ dktX4_stringOf_2
def dkwX4_stringOf_0 : List UInt8 := [42, 27, 182, 0, 95, 154, 0, 9, 42, 4, 182, 0, 68, 172, 28, 6, 160, 0, 13, 42, 42, 27]
abbrev dktX4_stringOf_0 : List UInt8 := dkwX4_stringOf_0 ++ dktX4_stringOf_1
theorem dksX4_stringOf_0 : cX4_stringOf.data.toList.drop 0 = dktX4_stringOf_0 := by decide +kernel
theorem dksX4_stringOf_1 : cX4_stringOf.data.toList.drop 22 = dktX4_stringOf_1 := dk_seg dksX4_stringOf_0 22 rfl rfl
theorem dksX4_stringOf_2 : cX4_stringOf.data.toList.drop 45 = dktX4_stringOf_2 := dk_seg dksX4_stringOf_1 23 rfl rfl
theorem dX4_stringOf_0 : decode cX4_stringOf 0 = .ok (.aload_n 0, 1) := dk_42 (dk_at dksX4_stringOf_0 0 rfl rfl)
theorem dX4_stringOf_1 : decode cX4_stringOf 1 = .ok (.iload_n 1, 1) := dk_27 (dk_at dksX4_stringOf_0 1 rfl rfl)
theorem dX4_stringOf_2 : decode cX4_stringOf 2 = .ok (.invokevirtual 95, 3) := dk_182 0 95 (dk_at dksX4_stringOf_0 2 rfl rfl)
theorem dX4_stringOf_5 : decode cX4_stringOf 5 = .ok (.ifCond .ne 9, 3) := dk_154 0 9 (dk_at dksX4_stringOf_0 5 rfl rfl)
theorem dX4_stringOf_8 : decode cX4_stringOf 8 = .ok (.aload_n 0, 1) := dk_42 (dk_at dksX4_stringOf_0 8 rfl rfl)
theorem dX4_stringOf_9 : decode cX4_stringOf 9 = .ok (.iconst 1, 1) := dk_4 (dk_at dksX4_stringOf_0 9 rfl rfl)
theorem dX4_stringOf_10 : decode cX4_stringOf 10 = .ok (.invokevirtual 68, 3) := dk_182 0 68 (dk_at dksX4_stringOf_0 10 rfl rfl)
theorem dX4_stringOf_13 : decode cX4_stringOf 13 = .ok (.ireturn, 1) := dk_172 (dk_at dksX4_stringOf_0 13 rfl rfl)
theorem dX4_stringOf_14 : decode cX4_stringOf 14 = .ok (.iload_n 2, 1) := dk_28 (dk_at dksX4_stringOf_0 14 rfl rfl)
theorem dX4_stringOf_15 : decode cX4_stringOf 15 = .ok (.iconst 3, 1) := dk_6 (dk_at dksX4_stringOf_0 15 rfl rfl)
theorem dX4_stringOf_16 : decode cX4_stringOf 16 = .ok (.if_icmp .ne 13, 3) := dk_160 0 13 (dk_at dksX4_stringOf_0 16 rfl rfl)
theorem dX4_stringOf_19 : decode cX4_stringOf 19 = .ok (.aload_n 0, 1) := dk_42 (dk_at dksX4_stringOf_0 19 rfl rfl)
theorem dX4_stringOf_20 : decode cX4_stringOf 20 = .ok (.aload_n 0, 1) := dk_42 (dk_at dksX4_stringOf_0 20 rfl rfl)
theorem dX4_stringOf_21 : decode cX4_stringOf 21 = .ok (.iload_n 1, 1) := dk_27 (dk_at dksX4_stringOf_0 21 rfl rfl)
theorem dX4_stringOf_22 : decode cX4_stringOf 22 = .ok (.invokevirtual 98, 3) := dk_182 0 98 (dk_at dksX4_stringOf_1 0 rfl rfl)
theorem dX4_stringOf_25 : decode cX4_stringOf 25 = .ok (.invokevirtual 75, 3) := dk_182 0 75 (dk_at dksX4_stringOf_1 3 rfl rfl)
theorem dX4_stringOf_28 : decode cX4_stringOf 28 = .ok (.ireturn, 1) := dk_172 (dk_at dksX4_stringOf_1 6 rfl rfl)
theorem dX4_stringOf_29 : decode cX4_stringOf 29 = .ok (.iload_n 2, 1) := dk_28 (dk_at dksX4_stringOf_1 7 rfl rfl)
theorem dX4_stringOf_30 : decode cX4_stringOf 30 = .ok (.iconst 0, 1) := dk_3 (dk_at dksX4_stringOf_1 8 rfl rfl)
theorem dX4_stringOf_31 : decode cX4_stringOf 31 = .ok (.iconst 5, 1) := dk_8 (dk_at dksX4_stringOf_1 9 rfl rfl)
theorem dX4_stringOf_32 : decode cX4_stringOf 32 = .ok (.invokestatic 60, 3) := dk_184 0 60 (dk_at dksX4_stringOf_1 10 rfl rfl)
theorem dX4_stringOf_35 : decode cX4_stringOf 35 = .ok (.ifCond .eq 24, 3) := dk_153 0 24 (dk_at dksX4_stringOf_1 13 rfl rfl)
theorem dX4_stringOf_38 : decode cX4_stringOf 38 = .ok (.aload_n 0, 1) := dk_42 (dk_at dksX4_stringOf_1 16 rfl rfl)
theorem dX4_stringOf_39 : decode cX4_stringOf 39 = .ok (.aload_n 0, 1) := dk_42 (dk_at dksX4_stringOf_1 17 rfl rfl)
theorem dX4_stringOf_40 : decode cX4_stringOf 40 = .ok (.getfield 7, 3) := dk_180 0 7 (dk_at dksX4_stringOf_1 18 rfl rfl)
theorem dX4_stringOf_43 : decode cX4_stringOf 43 = .ok (.bipush 47, 2) := dk_16 47 (dk_at dksX4_stringOf_1 21 rfl rfl)
theorem dX4_stringOf_45 : decode cX4_stringOf 45 = .ok (.bipush 10, 2) := dk_16 10 (dk_at dksX4_stringOf_2 0 rfl rfl)
theorem dX4_stringOf_47 : decode cX4_stringOf 47 = .ok (.iload_n 2, 1) := dk_28 (dk_at dksX4_stringOf_2 2 rfl rfl)
theorem dX4_stringOf_48 : decode cX4_stringOf 48 = .ok (.imul, 1) := dk_104 (dk_at dksX4_stringOf_2 3 rfl rfl)
theorem dX4_stringOf_49 : decode cX4_stringOf 49 = .ok (.iadd, 1) := dk_96 (dk_at dksX4_stringOf_2 4 rfl rfl)
theorem dX4_stringOf_50 : decode cX4_stringOf 50 = .ok (.iload_n 1, 1) := dk_27 (dk_at dksX4_stringOf_2 5 rfl rfl)
theorem dX4_stringOf_51 : decode cX4_stringOf 51 = .ok (.iadd, 1) := dk_96 (dk_at dksX4_stringOf_2 6 rfl rfl)
theorem dX4_stringOf_52 : decode cX4_stringOf 52 = .ok (.iaload, 1) := dk_46 (dk_at dksX4_stringOf_2 7 rfl rfl)
theorem dX4_stringOf_53 : decode cX4_stringOf 53 = .ok (.invokevirtual 75, 3) := dk_182 0 75 (dk_at dksX4_stringOf_2 8 rfl rfl)
theorem dX4_stringOf_56 : decode cX4_stringOf 56 = .ok (.goto 8, 3) := dk_167 0 8 (dk_at dksX4_stringOf_2 11 rfl rfl)
theorem dX4_stringOf_59 : decode cX4_stringOf 59 = .ok (.aload_n 0, 1) := dk_42 (dk_at dksX4_stringOf_2 14 rfl rfl)
theorem dX4_stringOf_60 : decode cX4_stringOf 60 = .ok (.iconst 2, 1) := dk_5 (dk_at dksX4_stringOf_2 15 rfl rfl)
theorem dX4_stringOf_61 : decode cX4_stringOf 61 = .ok (.invokevirtual 68, 3) := dk_182 0 68 (dk_at dksX4_stringOf_2 16 rfl rfl)
theorem dX4_stringOf_64 : decode cX4_stringOf 64 = .ok (.ireturn, 1) := dk_172 (dk_at dksX4_stringOf_2 19 rfl rfl)
abbrev cX4_isString : ByteArray := prog_19_method_22_code
def yX4_isString : MethodName := ⟨RX4, "isString", "(I)Z"⟩
def dkwX4_isString_0 : List UInt8 := [27, 3, 42, 180, 0, 7, 16, 46, 46, 4, 100, 184, 0, 60, 172]
abbrev dktX4_isString_0 : List UInt8 := dkwX4_isString_0 ++ []
theorem dksX4_isString_0 : cX4_isString.data.toList.drop 0 = dktX4_isString_0 := by decide +kernel
theorem dX4_isString_0 : decode cX4_isString 0 = .ok (.iload_n 1, 1) := dk_27 (dk_at dksX4_isString_0 0 rfl rfl)
theorem dX4_isString_1 : decode cX4_isString 1 = .ok (.iconst 0, 1) := dk_3 (dk_at dksX4_isString_0 1 rfl rfl)
theorem dX4_isString_2 : decode cX4_isString 2 = .ok (.aload_n 0, 1) := dk_42 (dk_at dksX4_isString_0 2 rfl rfl)
theorem dX4_isString_3 : decode cX4_isString 3 = .ok (.getfield 7, 3) := dk_180 0 7 (dk_at dksX4_isString_0 3 rfl rfl)
theorem dX4_isString_6 : decode cX4_isString 6 = .ok (.bipush 46, 2) := dk_16 46 (dk_at dksX4_isString_0 6 rfl rfl)
theorem dX4_isString_8 : decode cX4_isString 8 = .ok (.iaload, 1) := dk_46 (dk_at dksX4_isString_0 8 rfl rfl)
theorem dX4_isString_9 : decode cX4_isString 9 = .ok (.iconst 1, 1) := dk_4 (dk_at dksX4_isString_0 9 rfl rfl)
theorem dX4_isString_10 : decode cX4_isString 10 = .ok (.isub, 1) := dk_100 (dk_at dksX4_isString_0 10 rfl rfl)
theorem dX4_isString_11 : decode cX4_isString 11 = .ok (.invokestatic 60, 3) := dk_184 0 60 (dk_at dksX4_isString_0 11 rfl rfl)
theorem dX4_isString_14 : decode cX4_isString 14 = .ok (.ireturn, 1) := dk_172 (dk_at dksX4_isString_0 14 rfl rfl)
abbrev cX4_daysAt : ByteArray := prog_19_method_26_code
def yX4_daysAt : MethodName := ⟨RX4, "daysAt", "(I)I"⟩
def dkwX4_daysAt_1 : List UInt8 := [180, 0, 7, 16, 77, 27, 96, 46, 100, 172]
abbrev dktX4_daysAt_1 : List UInt8 := dkwX4_daysAt_1 ++ []
def dkwX4_daysAt_0 : List UInt8 := [42, 180, 0, 7, 16, 57, 27, 96, 46, 2, 160, 0, 7, 3, 167, 0, 19, 42, 180, 0, 7, 3, 46, 42]
abbrev dktX4_daysAt_0 : List UInt8 := dkwX4_daysAt_0 ++ dktX4_daysAt_1
theorem dksX4_daysAt_0 : cX4_daysAt.data.toList.drop 0 = dktX4_daysAt_0 := by decide +kernel
theorem dksX4_daysAt_1 : cX4_daysAt.data.toList.drop 24 = dktX4_daysAt_1 := dk_seg dksX4_daysAt_0 24 rfl rfl
theorem dX4_daysAt_0 : decode cX4_daysAt 0 = .ok (.aload_n 0, 1) := dk_42 (dk_at dksX4_daysAt_0 0 rfl rfl)
theorem dX4_daysAt_1 : decode cX4_daysAt 1 = .ok (.getfield 7, 3) := dk_180 0 7 (dk_at dksX4_daysAt_0 1 rfl rfl)
theorem dX4_daysAt_4 : decode cX4_daysAt 4 = .ok (.bipush 57, 2) := dk_16 57 (dk_at dksX4_daysAt_0 4 rfl rfl)
theorem dX4_daysAt_6 : decode cX4_daysAt 6 = .ok (.iload_n 1, 1) := dk_27 (dk_at dksX4_daysAt_0 6 rfl rfl)
theorem dX4_daysAt_7 : decode cX4_daysAt 7 = .ok (.iadd, 1) := dk_96 (dk_at dksX4_daysAt_0 7 rfl rfl)
theorem dX4_daysAt_8 : decode cX4_daysAt 8 = .ok (.iaload, 1) := dk_46 (dk_at dksX4_daysAt_0 8 rfl rfl)
theorem dX4_daysAt_9 : decode cX4_daysAt 9 = .ok (.iconst (-1), 1) := dk_2 (dk_at dksX4_daysAt_0 9 rfl rfl)
theorem dX4_daysAt_10 : decode cX4_daysAt 10 = .ok (.if_icmp .ne 7, 3) := dk_160 0 7 (dk_at dksX4_daysAt_0 10 rfl rfl)
theorem dX4_daysAt_13 : decode cX4_daysAt 13 = .ok (.iconst 0, 1) := dk_3 (dk_at dksX4_daysAt_0 13 rfl rfl)
theorem dX4_daysAt_14 : decode cX4_daysAt 14 = .ok (.goto 19, 3) := dk_167 0 19 (dk_at dksX4_daysAt_0 14 rfl rfl)
theorem dX4_daysAt_17 : decode cX4_daysAt 17 = .ok (.aload_n 0, 1) := dk_42 (dk_at dksX4_daysAt_0 17 rfl rfl)
theorem dX4_daysAt_18 : decode cX4_daysAt 18 = .ok (.getfield 7, 3) := dk_180 0 7 (dk_at dksX4_daysAt_0 18 rfl rfl)
theorem dX4_daysAt_21 : decode cX4_daysAt 21 = .ok (.iconst 0, 1) := dk_3 (dk_at dksX4_daysAt_0 21 rfl rfl)
theorem dX4_daysAt_22 : decode cX4_daysAt 22 = .ok (.iaload, 1) := dk_46 (dk_at dksX4_daysAt_0 22 rfl rfl)
theorem dX4_daysAt_23 : decode cX4_daysAt 23 = .ok (.aload_n 0, 1) := dk_42 (dk_at dksX4_daysAt_0 23 rfl rfl)
theorem dX4_daysAt_24 : decode cX4_daysAt 24 = .ok (.getfield 7, 3) := dk_180 0 7 (dk_at dksX4_daysAt_1 0 rfl rfl)
theorem dX4_daysAt_27 : decode cX4_daysAt 27 = .ok (.bipush 77, 2) := dk_16 77 (dk_at dksX4_daysAt_1 3 rfl rfl)
theorem dX4_daysAt_29 : decode cX4_daysAt 29 = .ok (.iload_n 1, 1) := dk_27 (dk_at dksX4_daysAt_1 5 rfl rfl)
theorem dX4_daysAt_30 : decode cX4_daysAt 30 = .ok (.iadd, 1) := dk_96 (dk_at dksX4_daysAt_1 6 rfl rfl)
theorem dX4_daysAt_31 : decode cX4_daysAt 31 = .ok (.iaload, 1) := dk_46 (dk_at dksX4_daysAt_1 7 rfl rfl)
theorem dX4_daysAt_32 : decode cX4_daysAt 32 = .ok (.isub, 1) := dk_100 (dk_at dksX4_daysAt_1 8 rfl rfl)
theorem dX4_daysAt_33 : decode cX4_daysAt 33 = .ok (.ireturn, 1) := dk_172 (dk_at dksX4_daysAt_1 9 rfl rfl)
abbrev cX4_out : ByteArray := prog_19_method_29_code
def yX4_out : MethodName := ⟨RX4, "out", "(II)I"⟩
def dkwX4_out_0 : List UInt8 := [42, 182, 0, 78, 42, 42, 27, 28, 182, 0, 101, 182, 0, 81, 172]
abbrev dktX4_out_0 : List UInt8 := dkwX4_out_0 ++ []
theorem dksX4_out_0 : cX4_out.data.toList.drop 0 = dktX4_out_0 := by decide +kernel
theorem dX4_out_0 : decode cX4_out 0 = .ok (.aload_n 0, 1) := dk_42 (dk_at dksX4_out_0 0 rfl rfl)
theorem dX4_out_1 : decode cX4_out 1 = .ok (.invokevirtual 78, 3) := dk_182 0 78 (dk_at dksX4_out_0 1 rfl rfl)
theorem dX4_out_4 : decode cX4_out 4 = .ok (.aload_n 0, 1) := dk_42 (dk_at dksX4_out_0 4 rfl rfl)
theorem dX4_out_5 : decode cX4_out 5 = .ok (.aload_n 0, 1) := dk_42 (dk_at dksX4_out_0 5 rfl rfl)
theorem dX4_out_6 : decode cX4_out 6 = .ok (.iload_n 1, 1) := dk_27 (dk_at dksX4_out_0 6 rfl rfl)
theorem dX4_out_7 : decode cX4_out 7 = .ok (.iload_n 2, 1) := dk_28 (dk_at dksX4_out_0 7 rfl rfl)
theorem dX4_out_8 : decode cX4_out 8 = .ok (.invokevirtual 101, 3) := dk_182 0 101 (dk_at dksX4_out_0 8 rfl rfl)
theorem dX4_out_11 : decode cX4_out 11 = .ok (.invokevirtual 81, 3) := dk_182 0 81 (dk_at dksX4_out_0 11 rfl rfl)
theorem dX4_out_14 : decode cX4_out 14 = .ok (.ireturn, 1) := dk_172 (dk_at dksX4_out_0 14 rfl rfl)
abbrev cX4_goesOut : ByteArray := prog_19_method_28_code
def yX4_goesOut : MethodName := ⟨RX4, "goesOut", "(II)I"⟩
def dkwX4_goesOut_6 : List UInt8 := [42, 42, 180, 0, 7, 16, 31, 27, 96, 46, 182, 0, 75, 172]
abbrev dktX4_goesOut_6 : List UInt8 := dkwX4_goesOut_6 ++ []
def dkwX4_goesOut_5 : List UInt8 := [180, 0, 7, 16, 31, 27, 96, 92, 46, 28, 4, 96, 100, 79, 42, 180, 0, 7, 16, 28, 27, 96, 28, 79]
abbrev dktX4_goesOut_5 : List UInt8 := dkwX4_goesOut_5 ++ dktX4_goesOut_6
def dkwX4_goesOut_4 : List UInt8 := [162, 0, 23, 42, 7, 28, 4, 96, 42, 180, 0, 7, 16, 31, 27, 96, 46, 100, 5, 182, 0, 88, 172, 42]
abbrev dktX4_goesOut_4 : List UInt8 := dkwX4_goesOut_4 ++ dktX4_goesOut_5
def dkwX4_goesOut_3 : List UInt8 := [42, 180, 0, 7, 4, 46, 5, 182, 0, 88, 172, 42, 180, 0, 7, 16, 31, 27, 96, 46, 28, 4, 96]
abbrev dktX4_goesOut_3 : List UInt8 := dkwX4_goesOut_3 ++ dktX4_goesOut_4
def dkwX4_goesOut_2 : List UInt8 := [182, 0, 88, 172, 42, 180, 0, 7, 4, 46, 42, 180, 0, 7, 16, 25, 27, 96, 46, 164, 0, 16, 42, 6]
abbrev dktX4_goesOut_2 : List UInt8 := dkwX4_goesOut_2 ++ dktX4_goesOut_3
def dkwX4_goesOut_1 : List UInt8 := [180, 0, 7, 16, 28, 27, 96, 46, 2, 159, 0, 19, 42, 5, 42, 180, 0, 7, 16, 28, 27, 96, 46, 5]
abbrev dktX4_goesOut_1 : List UInt8 := dkwX4_goesOut_1 ++ dktX4_goesOut_2
def dkwX4_goesOut_0 : List UInt8 := [42, 27, 182, 0, 92, 153, 0, 10, 28, 184, 0, 64, 154, 0, 9, 42, 4, 182, 0, 68, 172, 42]
abbrev dktX4_goesOut_0 : List UInt8 := dkwX4_goesOut_0 ++ dktX4_goesOut_1
theorem dksX4_goesOut_0 : cX4_goesOut.data.toList.drop 0 = dktX4_goesOut_0 := by decide +kernel
theorem dksX4_goesOut_1 : cX4_goesOut.data.toList.drop 22 = dktX4_goesOut_1 := dk_seg dksX4_goesOut_0 22 rfl rfl
theorem dksX4_goesOut_2 : cX4_goesOut.data.toList.drop 46 = dktX4_goesOut_2 := dk_seg dksX4_goesOut_1 24 rfl rfl
theorem dksX4_goesOut_3 : cX4_goesOut.data.toList.drop 70 = dktX4_goesOut_3 := dk_seg dksX4_goesOut_2 24 rfl rfl
theorem dksX4_goesOut_4 : cX4_goesOut.data.toList.drop 93 = dktX4_goesOut_4 := dk_seg dksX4_goesOut_3 23 rfl rfl
theorem dksX4_goesOut_5 : cX4_goesOut.data.toList.drop 117 = dktX4_goesOut_5 := dk_seg dksX4_goesOut_4 24 rfl rfl
theorem dksX4_goesOut_6 : cX4_goesOut.data.toList.drop 141 = dktX4_goesOut_6 := dk_seg dksX4_goesOut_5 24 rfl rfl
theorem dX4_goesOut_0 : decode cX4_goesOut 0 = .ok (.aload_n 0, 1) := dk_42 (dk_at dksX4_goesOut_0 0 rfl rfl)
theorem dX4_goesOut_1 : decode cX4_goesOut 1 = .ok (.iload_n 1, 1) := dk_27 (dk_at dksX4_goesOut_0 1 rfl rfl)
theorem dX4_goesOut_2 : decode cX4_goesOut 2 = .ok (.invokevirtual 92, 3) := dk_182 0 92 (dk_at dksX4_goesOut_0 2 rfl rfl)
theorem dX4_goesOut_5 : decode cX4_goesOut 5 = .ok (.ifCond .eq 10, 3) := dk_153 0 10 (dk_at dksX4_goesOut_0 5 rfl rfl)
theorem dX4_goesOut_8 : decode cX4_goesOut 8 = .ok (.iload_n 2, 1) := dk_28 (dk_at dksX4_goesOut_0 8 rfl rfl)
theorem dX4_goesOut_9 : decode cX4_goesOut 9 = .ok (.invokestatic 64, 3) := dk_184 0 64 (dk_at dksX4_goesOut_0 9 rfl rfl)
theorem dX4_goesOut_12 : decode cX4_goesOut 12 = .ok (.ifCond .ne 9, 3) := dk_154 0 9 (dk_at dksX4_goesOut_0 12 rfl rfl)
theorem dX4_goesOut_15 : decode cX4_goesOut 15 = .ok (.aload_n 0, 1) := dk_42 (dk_at dksX4_goesOut_0 15 rfl rfl)
theorem dX4_goesOut_16 : decode cX4_goesOut 16 = .ok (.iconst 1, 1) := dk_4 (dk_at dksX4_goesOut_0 16 rfl rfl)
theorem dX4_goesOut_17 : decode cX4_goesOut 17 = .ok (.invokevirtual 68, 3) := dk_182 0 68 (dk_at dksX4_goesOut_0 17 rfl rfl)
theorem dX4_goesOut_20 : decode cX4_goesOut 20 = .ok (.ireturn, 1) := dk_172 (dk_at dksX4_goesOut_0 20 rfl rfl)
theorem dX4_goesOut_21 : decode cX4_goesOut 21 = .ok (.aload_n 0, 1) := dk_42 (dk_at dksX4_goesOut_0 21 rfl rfl)
theorem dX4_goesOut_22 : decode cX4_goesOut 22 = .ok (.getfield 7, 3) := dk_180 0 7 (dk_at dksX4_goesOut_1 0 rfl rfl)
theorem dX4_goesOut_25 : decode cX4_goesOut 25 = .ok (.bipush 28, 2) := dk_16 28 (dk_at dksX4_goesOut_1 3 rfl rfl)
theorem dX4_goesOut_27 : decode cX4_goesOut 27 = .ok (.iload_n 1, 1) := dk_27 (dk_at dksX4_goesOut_1 5 rfl rfl)
theorem dX4_goesOut_28 : decode cX4_goesOut 28 = .ok (.iadd, 1) := dk_96 (dk_at dksX4_goesOut_1 6 rfl rfl)
theorem dX4_goesOut_29 : decode cX4_goesOut 29 = .ok (.iaload, 1) := dk_46 (dk_at dksX4_goesOut_1 7 rfl rfl)
theorem dX4_goesOut_30 : decode cX4_goesOut 30 = .ok (.iconst (-1), 1) := dk_2 (dk_at dksX4_goesOut_1 8 rfl rfl)
theorem dX4_goesOut_31 : decode cX4_goesOut 31 = .ok (.if_icmp .eq 19, 3) := dk_159 0 19 (dk_at dksX4_goesOut_1 9 rfl rfl)
theorem dX4_goesOut_34 : decode cX4_goesOut 34 = .ok (.aload_n 0, 1) := dk_42 (dk_at dksX4_goesOut_1 12 rfl rfl)
theorem dX4_goesOut_35 : decode cX4_goesOut 35 = .ok (.iconst 2, 1) := dk_5 (dk_at dksX4_goesOut_1 13 rfl rfl)
theorem dX4_goesOut_36 : decode cX4_goesOut 36 = .ok (.aload_n 0, 1) := dk_42 (dk_at dksX4_goesOut_1 14 rfl rfl)
theorem dX4_goesOut_37 : decode cX4_goesOut 37 = .ok (.getfield 7, 3) := dk_180 0 7 (dk_at dksX4_goesOut_1 15 rfl rfl)
theorem dX4_goesOut_40 : decode cX4_goesOut 40 = .ok (.bipush 28, 2) := dk_16 28 (dk_at dksX4_goesOut_1 18 rfl rfl)
theorem dX4_goesOut_42 : decode cX4_goesOut 42 = .ok (.iload_n 1, 1) := dk_27 (dk_at dksX4_goesOut_1 20 rfl rfl)
theorem dX4_goesOut_43 : decode cX4_goesOut 43 = .ok (.iadd, 1) := dk_96 (dk_at dksX4_goesOut_1 21 rfl rfl)
theorem dX4_goesOut_44 : decode cX4_goesOut 44 = .ok (.iaload, 1) := dk_46 (dk_at dksX4_goesOut_1 22 rfl rfl)
theorem dX4_goesOut_45 : decode cX4_goesOut 45 = .ok (.iconst 2, 1) := dk_5 (dk_at dksX4_goesOut_1 23 rfl rfl)
theorem dX4_goesOut_46 : decode cX4_goesOut 46 = .ok (.invokevirtual 88, 3) := dk_182 0 88 (dk_at dksX4_goesOut_2 0 rfl rfl)
theorem dX4_goesOut_49 : decode cX4_goesOut 49 = .ok (.ireturn, 1) := dk_172 (dk_at dksX4_goesOut_2 3 rfl rfl)
theorem dX4_goesOut_50 : decode cX4_goesOut 50 = .ok (.aload_n 0, 1) := dk_42 (dk_at dksX4_goesOut_2 4 rfl rfl)
theorem dX4_goesOut_51 : decode cX4_goesOut 51 = .ok (.getfield 7, 3) := dk_180 0 7 (dk_at dksX4_goesOut_2 5 rfl rfl)
theorem dX4_goesOut_54 : decode cX4_goesOut 54 = .ok (.iconst 1, 1) := dk_4 (dk_at dksX4_goesOut_2 8 rfl rfl)
theorem dX4_goesOut_55 : decode cX4_goesOut 55 = .ok (.iaload, 1) := dk_46 (dk_at dksX4_goesOut_2 9 rfl rfl)
theorem dX4_goesOut_56 : decode cX4_goesOut 56 = .ok (.aload_n 0, 1) := dk_42 (dk_at dksX4_goesOut_2 10 rfl rfl)
theorem dX4_goesOut_57 : decode cX4_goesOut 57 = .ok (.getfield 7, 3) := dk_180 0 7 (dk_at dksX4_goesOut_2 11 rfl rfl)
theorem dX4_goesOut_60 : decode cX4_goesOut 60 = .ok (.bipush 25, 2) := dk_16 25 (dk_at dksX4_goesOut_2 14 rfl rfl)
theorem dX4_goesOut_62 : decode cX4_goesOut 62 = .ok (.iload_n 1, 1) := dk_27 (dk_at dksX4_goesOut_2 16 rfl rfl)
theorem dX4_goesOut_63 : decode cX4_goesOut 63 = .ok (.iadd, 1) := dk_96 (dk_at dksX4_goesOut_2 17 rfl rfl)
theorem dX4_goesOut_64 : decode cX4_goesOut 64 = .ok (.iaload, 1) := dk_46 (dk_at dksX4_goesOut_2 18 rfl rfl)
theorem dX4_goesOut_65 : decode cX4_goesOut 65 = .ok (.if_icmp .le 16, 3) := dk_164 0 16 (dk_at dksX4_goesOut_2 19 rfl rfl)
theorem dX4_goesOut_68 : decode cX4_goesOut 68 = .ok (.aload_n 0, 1) := dk_42 (dk_at dksX4_goesOut_2 22 rfl rfl)
theorem dX4_goesOut_69 : decode cX4_goesOut 69 = .ok (.iconst 3, 1) := dk_6 (dk_at dksX4_goesOut_2 23 rfl rfl)
theorem dX4_goesOut_70 : decode cX4_goesOut 70 = .ok (.aload_n 0, 1) := dk_42 (dk_at dksX4_goesOut_3 0 rfl rfl)
theorem dX4_goesOut_71 : decode cX4_goesOut 71 = .ok (.getfield 7, 3) := dk_180 0 7 (dk_at dksX4_goesOut_3 1 rfl rfl)
theorem dX4_goesOut_74 : decode cX4_goesOut 74 = .ok (.iconst 1, 1) := dk_4 (dk_at dksX4_goesOut_3 4 rfl rfl)
theorem dX4_goesOut_75 : decode cX4_goesOut 75 = .ok (.iaload, 1) := dk_46 (dk_at dksX4_goesOut_3 5 rfl rfl)
theorem dX4_goesOut_76 : decode cX4_goesOut 76 = .ok (.iconst 2, 1) := dk_5 (dk_at dksX4_goesOut_3 6 rfl rfl)
theorem dX4_goesOut_77 : decode cX4_goesOut 77 = .ok (.invokevirtual 88, 3) := dk_182 0 88 (dk_at dksX4_goesOut_3 7 rfl rfl)
theorem dX4_goesOut_80 : decode cX4_goesOut 80 = .ok (.ireturn, 1) := dk_172 (dk_at dksX4_goesOut_3 10 rfl rfl)
theorem dX4_goesOut_81 : decode cX4_goesOut 81 = .ok (.aload_n 0, 1) := dk_42 (dk_at dksX4_goesOut_3 11 rfl rfl)
theorem dX4_goesOut_82 : decode cX4_goesOut 82 = .ok (.getfield 7, 3) := dk_180 0 7 (dk_at dksX4_goesOut_3 12 rfl rfl)
theorem dX4_goesOut_85 : decode cX4_goesOut 85 = .ok (.bipush 31, 2) := dk_16 31 (dk_at dksX4_goesOut_3 15 rfl rfl)
theorem dX4_goesOut_87 : decode cX4_goesOut 87 = .ok (.iload_n 1, 1) := dk_27 (dk_at dksX4_goesOut_3 17 rfl rfl)
theorem dX4_goesOut_88 : decode cX4_goesOut 88 = .ok (.iadd, 1) := dk_96 (dk_at dksX4_goesOut_3 18 rfl rfl)
theorem dX4_goesOut_89 : decode cX4_goesOut 89 = .ok (.iaload, 1) := dk_46 (dk_at dksX4_goesOut_3 19 rfl rfl)
theorem dX4_goesOut_90 : decode cX4_goesOut 90 = .ok (.iload_n 2, 1) := dk_28 (dk_at dksX4_goesOut_3 20 rfl rfl)
theorem dX4_goesOut_91 : decode cX4_goesOut 91 = .ok (.iconst 1, 1) := dk_4 (dk_at dksX4_goesOut_3 21 rfl rfl)
theorem dX4_goesOut_92 : decode cX4_goesOut 92 = .ok (.iadd, 1) := dk_96 (dk_at dksX4_goesOut_3 22 rfl rfl)
theorem dX4_goesOut_93 : decode cX4_goesOut 93 = .ok (.if_icmp .ge 23, 3) := dk_162 0 23 (dk_at dksX4_goesOut_4 0 rfl rfl)
theorem dX4_goesOut_96 : decode cX4_goesOut 96 = .ok (.aload_n 0, 1) := dk_42 (dk_at dksX4_goesOut_4 3 rfl rfl)
theorem dX4_goesOut_97 : decode cX4_goesOut 97 = .ok (.iconst 4, 1) := dk_7 (dk_at dksX4_goesOut_4 4 rfl rfl)
theorem dX4_goesOut_98 : decode cX4_goesOut 98 = .ok (.iload_n 2, 1) := dk_28 (dk_at dksX4_goesOut_4 5 rfl rfl)
theorem dX4_goesOut_99 : decode cX4_goesOut 99 = .ok (.iconst 1, 1) := dk_4 (dk_at dksX4_goesOut_4 6 rfl rfl)
theorem dX4_goesOut_100 : decode cX4_goesOut 100 = .ok (.iadd, 1) := dk_96 (dk_at dksX4_goesOut_4 7 rfl rfl)
theorem dX4_goesOut_101 : decode cX4_goesOut 101 = .ok (.aload_n 0, 1) := dk_42 (dk_at dksX4_goesOut_4 8 rfl rfl)
theorem dX4_goesOut_102 : decode cX4_goesOut 102 = .ok (.getfield 7, 3) := dk_180 0 7 (dk_at dksX4_goesOut_4 9 rfl rfl)
theorem dX4_goesOut_105 : decode cX4_goesOut 105 = .ok (.bipush 31, 2) := dk_16 31 (dk_at dksX4_goesOut_4 12 rfl rfl)
theorem dX4_goesOut_107 : decode cX4_goesOut 107 = .ok (.iload_n 1, 1) := dk_27 (dk_at dksX4_goesOut_4 14 rfl rfl)
theorem dX4_goesOut_108 : decode cX4_goesOut 108 = .ok (.iadd, 1) := dk_96 (dk_at dksX4_goesOut_4 15 rfl rfl)
theorem dX4_goesOut_109 : decode cX4_goesOut 109 = .ok (.iaload, 1) := dk_46 (dk_at dksX4_goesOut_4 16 rfl rfl)
theorem dX4_goesOut_110 : decode cX4_goesOut 110 = .ok (.isub, 1) := dk_100 (dk_at dksX4_goesOut_4 17 rfl rfl)
theorem dX4_goesOut_111 : decode cX4_goesOut 111 = .ok (.iconst 2, 1) := dk_5 (dk_at dksX4_goesOut_4 18 rfl rfl)
theorem dX4_goesOut_112 : decode cX4_goesOut 112 = .ok (.invokevirtual 88, 3) := dk_182 0 88 (dk_at dksX4_goesOut_4 19 rfl rfl)
theorem dX4_goesOut_115 : decode cX4_goesOut 115 = .ok (.ireturn, 1) := dk_172 (dk_at dksX4_goesOut_4 22 rfl rfl)
theorem dX4_goesOut_116 : decode cX4_goesOut 116 = .ok (.aload_n 0, 1) := dk_42 (dk_at dksX4_goesOut_4 23 rfl rfl)
theorem dX4_goesOut_117 : decode cX4_goesOut 117 = .ok (.getfield 7, 3) := dk_180 0 7 (dk_at dksX4_goesOut_5 0 rfl rfl)
theorem dX4_goesOut_120 : decode cX4_goesOut 120 = .ok (.bipush 31, 2) := dk_16 31 (dk_at dksX4_goesOut_5 3 rfl rfl)
theorem dX4_goesOut_122 : decode cX4_goesOut 122 = .ok (.iload_n 1, 1) := dk_27 (dk_at dksX4_goesOut_5 5 rfl rfl)
theorem dX4_goesOut_123 : decode cX4_goesOut 123 = .ok (.iadd, 1) := dk_96 (dk_at dksX4_goesOut_5 6 rfl rfl)
theorem dX4_goesOut_124 : decode cX4_goesOut 124 = .ok (.dup2, 1) := dk_92 (dk_at dksX4_goesOut_5 7 rfl rfl)
theorem dX4_goesOut_125 : decode cX4_goesOut 125 = .ok (.iaload, 1) := dk_46 (dk_at dksX4_goesOut_5 8 rfl rfl)
theorem dX4_goesOut_126 : decode cX4_goesOut 126 = .ok (.iload_n 2, 1) := dk_28 (dk_at dksX4_goesOut_5 9 rfl rfl)
theorem dX4_goesOut_127 : decode cX4_goesOut 127 = .ok (.iconst 1, 1) := dk_4 (dk_at dksX4_goesOut_5 10 rfl rfl)
theorem dX4_goesOut_128 : decode cX4_goesOut 128 = .ok (.iadd, 1) := dk_96 (dk_at dksX4_goesOut_5 11 rfl rfl)
theorem dX4_goesOut_129 : decode cX4_goesOut 129 = .ok (.isub, 1) := dk_100 (dk_at dksX4_goesOut_5 12 rfl rfl)
theorem dX4_goesOut_130 : decode cX4_goesOut 130 = .ok (.iastore, 1) := dk_79 (dk_at dksX4_goesOut_5 13 rfl rfl)
theorem dX4_goesOut_131 : decode cX4_goesOut 131 = .ok (.aload_n 0, 1) := dk_42 (dk_at dksX4_goesOut_5 14 rfl rfl)
theorem dX4_goesOut_132 : decode cX4_goesOut 132 = .ok (.getfield 7, 3) := dk_180 0 7 (dk_at dksX4_goesOut_5 15 rfl rfl)
theorem dX4_goesOut_135 : decode cX4_goesOut 135 = .ok (.bipush 28, 2) := dk_16 28 (dk_at dksX4_goesOut_5 18 rfl rfl)
theorem dX4_goesOut_137 : decode cX4_goesOut 137 = .ok (.iload_n 1, 1) := dk_27 (dk_at dksX4_goesOut_5 20 rfl rfl)
theorem dX4_goesOut_138 : decode cX4_goesOut 138 = .ok (.iadd, 1) := dk_96 (dk_at dksX4_goesOut_5 21 rfl rfl)
theorem dX4_goesOut_139 : decode cX4_goesOut 139 = .ok (.iload_n 2, 1) := dk_28 (dk_at dksX4_goesOut_5 22 rfl rfl)
theorem dX4_goesOut_140 : decode cX4_goesOut 140 = .ok (.iastore, 1) := dk_79 (dk_at dksX4_goesOut_5 23 rfl rfl)
theorem dX4_goesOut_141 : decode cX4_goesOut 141 = .ok (.aload_n 0, 1) := dk_42 (dk_at dksX4_goesOut_6 0 rfl rfl)
theorem dX4_goesOut_142 : decode cX4_goesOut 142 = .ok (.aload_n 0, 1) := dk_42 (dk_at dksX4_goesOut_6 1 rfl rfl)
theorem dX4_goesOut_143 : decode cX4_goesOut 143 = .ok (.getfield 7, 3) := dk_180 0 7 (dk_at dksX4_goesOut_6 2 rfl rfl)
theorem dX4_goesOut_146 : decode cX4_goesOut 146 = .ok (.bipush 31, 2) := dk_16 31 (dk_at dksX4_goesOut_6 5 rfl rfl)
theorem dX4_goesOut_148 : decode cX4_goesOut 148 = .ok (.iload_n 1, 1) := dk_27 (dk_at dksX4_goesOut_6 7 rfl rfl)
theorem dX4_goesOut_149 : decode cX4_goesOut 149 = .ok (.iadd, 1) := dk_96 (dk_at dksX4_goesOut_6 8 rfl rfl)
theorem dX4_goesOut_150 : decode cX4_goesOut 150 = .ok (.iaload, 1) := dk_46 (dk_at dksX4_goesOut_6 9 rfl rfl)
theorem dX4_goesOut_151 : decode cX4_goesOut 151 = .ok (.invokevirtual 75, 3) := dk_182 0 75 (dk_at dksX4_goesOut_6 10 rfl rfl)
theorem dX4_goesOut_154 : decode cX4_goesOut 154 = .ok (.ireturn, 1) := dk_172 (dk_at dksX4_goesOut_6 13 rfl rfl)
abbrev cX4_home : ByteArray := prog_19_method_31_code
def yX4_home : MethodName := ⟨RX4, "home", "(I)I"⟩
def dkwX4_home_0 : List UInt8 := [42, 182, 0, 78, 42, 42, 27, 182, 0, 104, 182, 0, 81, 172]
abbrev dktX4_home_0 : List UInt8 := dkwX4_home_0 ++ []
theorem dksX4_home_0 : cX4_home.data.toList.drop 0 = dktX4_home_0 := by decide +kernel
theorem dX4_home_0 : decode cX4_home 0 = .ok (.aload_n 0, 1) := dk_42 (dk_at dksX4_home_0 0 rfl rfl)
theorem dX4_home_1 : decode cX4_home 1 = .ok (.invokevirtual 78, 3) := dk_182 0 78 (dk_at dksX4_home_0 1 rfl rfl)
theorem dX4_home_4 : decode cX4_home 4 = .ok (.aload_n 0, 1) := dk_42 (dk_at dksX4_home_0 4 rfl rfl)
theorem dX4_home_5 : decode cX4_home 5 = .ok (.aload_n 0, 1) := dk_42 (dk_at dksX4_home_0 5 rfl rfl)
theorem dX4_home_6 : decode cX4_home 6 = .ok (.iload_n 1, 1) := dk_27 (dk_at dksX4_home_0 6 rfl rfl)
theorem dX4_home_7 : decode cX4_home 7 = .ok (.invokevirtual 104, 3) := dk_182 0 104 (dk_at dksX4_home_0 7 rfl rfl)
theorem dX4_home_10 : decode cX4_home 10 = .ok (.invokevirtual 81, 3) := dk_182 0 81 (dk_at dksX4_home_0 10 rfl rfl)
theorem dX4_home_13 : decode cX4_home 13 = .ok (.ireturn, 1) := dk_172 (dk_at dksX4_home_0 13 rfl rfl)
abbrev cX4_goesHome : ByteArray := prog_19_method_30_code
def yX4_goesHome : MethodName := ⟨RX4, "goesHome", "(I)I"⟩
def dkwX4_goesHome_4 : List UInt8 := [79, 42, 42, 180, 0, 7, 16, 31, 27, 96, 46, 182, 0, 75, 172]
abbrev dktX4_goesHome_4 : List UInt8 := dkwX4_goesHome_4 ++ []
def dkwX4_goesHome_3 : List UInt8 := [42, 180, 0, 7, 16, 31, 27, 96, 92, 46, 28, 4, 96, 100, 79, 42, 180, 0, 7, 16, 28, 27, 96, 2]
abbrev dktX4_goesHome_3 : List UInt8 := dkwX4_goesHome_3 ++ dktX4_goesHome_4
def dkwX4_goesHome_2 : List UInt8 := [96, 162, 0, 23, 42, 7, 28, 4, 96, 42, 180, 0, 7, 16, 31, 27, 96, 46, 100, 5, 182, 0, 88, 172]
abbrev dktX4_goesHome_2 : List UInt8 := dkwX4_goesHome_2 ++ dktX4_goesHome_3
def dkwX4_goesHome_1 : List UInt8 := [28, 2, 160, 0, 11, 42, 8, 27, 5, 182, 0, 88, 172, 42, 180, 0, 7, 16, 31, 27, 96, 46, 28, 4]
abbrev dktX4_goesHome_1 : List UInt8 := dkwX4_goesHome_1 ++ dktX4_goesHome_2
def dkwX4_goesHome_0 : List UInt8 := [42, 27, 182, 0, 92, 154, 0, 9, 42, 4, 182, 0, 68, 172, 42, 180, 0, 7, 16, 28, 27, 96, 46, 61]
abbrev dktX4_goesHome_0 : List UInt8 := dkwX4_goesHome_0 ++ dktX4_goesHome_1
theorem dksX4_goesHome_0 : cX4_goesHome.data.toList.drop 0 = dktX4_goesHome_0 := by decide +kernel
theorem dksX4_goesHome_1 : cX4_goesHome.data.toList.drop 24 = dktX4_goesHome_1 := dk_seg dksX4_goesHome_0 24 rfl rfl
theorem dksX4_goesHome_2 : cX4_goesHome.data.toList.drop 48 = dktX4_goesHome_2 := dk_seg dksX4_goesHome_1 24 rfl rfl
theorem dksX4_goesHome_3 : cX4_goesHome.data.toList.drop 72 = dktX4_goesHome_3 := dk_seg dksX4_goesHome_2 24 rfl rfl
theorem dksX4_goesHome_4 : cX4_goesHome.data.toList.drop 96 = dktX4_goesHome_4 := dk_seg dksX4_goesHome_3 24 rfl rfl
theorem dX4_goesHome_0 : decode cX4_goesHome 0 = .ok (.aload_n 0, 1) := dk_42 (dk_at dksX4_goesHome_0 0 rfl rfl)
theorem dX4_goesHome_1 : decode cX4_goesHome 1 = .ok (.iload_n 1, 1) := dk_27 (dk_at dksX4_goesHome_0 1 rfl rfl)
theorem dX4_goesHome_2 : decode cX4_goesHome 2 = .ok (.invokevirtual 92, 3) := dk_182 0 92 (dk_at dksX4_goesHome_0 2 rfl rfl)
theorem dX4_goesHome_5 : decode cX4_goesHome 5 = .ok (.ifCond .ne 9, 3) := dk_154 0 9 (dk_at dksX4_goesHome_0 5 rfl rfl)
theorem dX4_goesHome_8 : decode cX4_goesHome 8 = .ok (.aload_n 0, 1) := dk_42 (dk_at dksX4_goesHome_0 8 rfl rfl)
theorem dX4_goesHome_9 : decode cX4_goesHome 9 = .ok (.iconst 1, 1) := dk_4 (dk_at dksX4_goesHome_0 9 rfl rfl)
theorem dX4_goesHome_10 : decode cX4_goesHome 10 = .ok (.invokevirtual 68, 3) := dk_182 0 68 (dk_at dksX4_goesHome_0 10 rfl rfl)
theorem dX4_goesHome_13 : decode cX4_goesHome 13 = .ok (.ireturn, 1) := dk_172 (dk_at dksX4_goesHome_0 13 rfl rfl)
theorem dX4_goesHome_14 : decode cX4_goesHome 14 = .ok (.aload_n 0, 1) := dk_42 (dk_at dksX4_goesHome_0 14 rfl rfl)
theorem dX4_goesHome_15 : decode cX4_goesHome 15 = .ok (.getfield 7, 3) := dk_180 0 7 (dk_at dksX4_goesHome_0 15 rfl rfl)
theorem dX4_goesHome_18 : decode cX4_goesHome 18 = .ok (.bipush 28, 2) := dk_16 28 (dk_at dksX4_goesHome_0 18 rfl rfl)
theorem dX4_goesHome_20 : decode cX4_goesHome 20 = .ok (.iload_n 1, 1) := dk_27 (dk_at dksX4_goesHome_0 20 rfl rfl)
theorem dX4_goesHome_21 : decode cX4_goesHome 21 = .ok (.iadd, 1) := dk_96 (dk_at dksX4_goesHome_0 21 rfl rfl)
theorem dX4_goesHome_22 : decode cX4_goesHome 22 = .ok (.iaload, 1) := dk_46 (dk_at dksX4_goesHome_0 22 rfl rfl)
theorem dX4_goesHome_23 : decode cX4_goesHome 23 = .ok (.istore_n 2, 1) := dk_61 (dk_at dksX4_goesHome_0 23 rfl rfl)
theorem dX4_goesHome_24 : decode cX4_goesHome 24 = .ok (.iload_n 2, 1) := dk_28 (dk_at dksX4_goesHome_1 0 rfl rfl)
theorem dX4_goesHome_25 : decode cX4_goesHome 25 = .ok (.iconst (-1), 1) := dk_2 (dk_at dksX4_goesHome_1 1 rfl rfl)
theorem dX4_goesHome_26 : decode cX4_goesHome 26 = .ok (.if_icmp .ne 11, 3) := dk_160 0 11 (dk_at dksX4_goesHome_1 2 rfl rfl)
theorem dX4_goesHome_29 : decode cX4_goesHome 29 = .ok (.aload_n 0, 1) := dk_42 (dk_at dksX4_goesHome_1 5 rfl rfl)
theorem dX4_goesHome_30 : decode cX4_goesHome 30 = .ok (.iconst 5, 1) := dk_8 (dk_at dksX4_goesHome_1 6 rfl rfl)
theorem dX4_goesHome_31 : decode cX4_goesHome 31 = .ok (.iload_n 1, 1) := dk_27 (dk_at dksX4_goesHome_1 7 rfl rfl)
theorem dX4_goesHome_32 : decode cX4_goesHome 32 = .ok (.iconst 2, 1) := dk_5 (dk_at dksX4_goesHome_1 8 rfl rfl)
theorem dX4_goesHome_33 : decode cX4_goesHome 33 = .ok (.invokevirtual 88, 3) := dk_182 0 88 (dk_at dksX4_goesHome_1 9 rfl rfl)
theorem dX4_goesHome_36 : decode cX4_goesHome 36 = .ok (.ireturn, 1) := dk_172 (dk_at dksX4_goesHome_1 12 rfl rfl)
theorem dX4_goesHome_37 : decode cX4_goesHome 37 = .ok (.aload_n 0, 1) := dk_42 (dk_at dksX4_goesHome_1 13 rfl rfl)
theorem dX4_goesHome_38 : decode cX4_goesHome 38 = .ok (.getfield 7, 3) := dk_180 0 7 (dk_at dksX4_goesHome_1 14 rfl rfl)
theorem dX4_goesHome_41 : decode cX4_goesHome 41 = .ok (.bipush 31, 2) := dk_16 31 (dk_at dksX4_goesHome_1 17 rfl rfl)
theorem dX4_goesHome_43 : decode cX4_goesHome 43 = .ok (.iload_n 1, 1) := dk_27 (dk_at dksX4_goesHome_1 19 rfl rfl)
theorem dX4_goesHome_44 : decode cX4_goesHome 44 = .ok (.iadd, 1) := dk_96 (dk_at dksX4_goesHome_1 20 rfl rfl)
theorem dX4_goesHome_45 : decode cX4_goesHome 45 = .ok (.iaload, 1) := dk_46 (dk_at dksX4_goesHome_1 21 rfl rfl)
theorem dX4_goesHome_46 : decode cX4_goesHome 46 = .ok (.iload_n 2, 1) := dk_28 (dk_at dksX4_goesHome_1 22 rfl rfl)
theorem dX4_goesHome_47 : decode cX4_goesHome 47 = .ok (.iconst 1, 1) := dk_4 (dk_at dksX4_goesHome_1 23 rfl rfl)
theorem dX4_goesHome_48 : decode cX4_goesHome 48 = .ok (.iadd, 1) := dk_96 (dk_at dksX4_goesHome_2 0 rfl rfl)
theorem dX4_goesHome_49 : decode cX4_goesHome 49 = .ok (.if_icmp .ge 23, 3) := dk_162 0 23 (dk_at dksX4_goesHome_2 1 rfl rfl)
theorem dX4_goesHome_52 : decode cX4_goesHome 52 = .ok (.aload_n 0, 1) := dk_42 (dk_at dksX4_goesHome_2 4 rfl rfl)
theorem dX4_goesHome_53 : decode cX4_goesHome 53 = .ok (.iconst 4, 1) := dk_7 (dk_at dksX4_goesHome_2 5 rfl rfl)
theorem dX4_goesHome_54 : decode cX4_goesHome 54 = .ok (.iload_n 2, 1) := dk_28 (dk_at dksX4_goesHome_2 6 rfl rfl)
theorem dX4_goesHome_55 : decode cX4_goesHome 55 = .ok (.iconst 1, 1) := dk_4 (dk_at dksX4_goesHome_2 7 rfl rfl)
theorem dX4_goesHome_56 : decode cX4_goesHome 56 = .ok (.iadd, 1) := dk_96 (dk_at dksX4_goesHome_2 8 rfl rfl)
theorem dX4_goesHome_57 : decode cX4_goesHome 57 = .ok (.aload_n 0, 1) := dk_42 (dk_at dksX4_goesHome_2 9 rfl rfl)
theorem dX4_goesHome_58 : decode cX4_goesHome 58 = .ok (.getfield 7, 3) := dk_180 0 7 (dk_at dksX4_goesHome_2 10 rfl rfl)
theorem dX4_goesHome_61 : decode cX4_goesHome 61 = .ok (.bipush 31, 2) := dk_16 31 (dk_at dksX4_goesHome_2 13 rfl rfl)
theorem dX4_goesHome_63 : decode cX4_goesHome 63 = .ok (.iload_n 1, 1) := dk_27 (dk_at dksX4_goesHome_2 15 rfl rfl)
theorem dX4_goesHome_64 : decode cX4_goesHome 64 = .ok (.iadd, 1) := dk_96 (dk_at dksX4_goesHome_2 16 rfl rfl)
theorem dX4_goesHome_65 : decode cX4_goesHome 65 = .ok (.iaload, 1) := dk_46 (dk_at dksX4_goesHome_2 17 rfl rfl)
theorem dX4_goesHome_66 : decode cX4_goesHome 66 = .ok (.isub, 1) := dk_100 (dk_at dksX4_goesHome_2 18 rfl rfl)
theorem dX4_goesHome_67 : decode cX4_goesHome 67 = .ok (.iconst 2, 1) := dk_5 (dk_at dksX4_goesHome_2 19 rfl rfl)
theorem dX4_goesHome_68 : decode cX4_goesHome 68 = .ok (.invokevirtual 88, 3) := dk_182 0 88 (dk_at dksX4_goesHome_2 20 rfl rfl)
theorem dX4_goesHome_71 : decode cX4_goesHome 71 = .ok (.ireturn, 1) := dk_172 (dk_at dksX4_goesHome_2 23 rfl rfl)
theorem dX4_goesHome_72 : decode cX4_goesHome 72 = .ok (.aload_n 0, 1) := dk_42 (dk_at dksX4_goesHome_3 0 rfl rfl)
theorem dX4_goesHome_73 : decode cX4_goesHome 73 = .ok (.getfield 7, 3) := dk_180 0 7 (dk_at dksX4_goesHome_3 1 rfl rfl)
theorem dX4_goesHome_76 : decode cX4_goesHome 76 = .ok (.bipush 31, 2) := dk_16 31 (dk_at dksX4_goesHome_3 4 rfl rfl)
theorem dX4_goesHome_78 : decode cX4_goesHome 78 = .ok (.iload_n 1, 1) := dk_27 (dk_at dksX4_goesHome_3 6 rfl rfl)
theorem dX4_goesHome_79 : decode cX4_goesHome 79 = .ok (.iadd, 1) := dk_96 (dk_at dksX4_goesHome_3 7 rfl rfl)
theorem dX4_goesHome_80 : decode cX4_goesHome 80 = .ok (.dup2, 1) := dk_92 (dk_at dksX4_goesHome_3 8 rfl rfl)
theorem dX4_goesHome_81 : decode cX4_goesHome 81 = .ok (.iaload, 1) := dk_46 (dk_at dksX4_goesHome_3 9 rfl rfl)
theorem dX4_goesHome_82 : decode cX4_goesHome 82 = .ok (.iload_n 2, 1) := dk_28 (dk_at dksX4_goesHome_3 10 rfl rfl)
theorem dX4_goesHome_83 : decode cX4_goesHome 83 = .ok (.iconst 1, 1) := dk_4 (dk_at dksX4_goesHome_3 11 rfl rfl)
theorem dX4_goesHome_84 : decode cX4_goesHome 84 = .ok (.iadd, 1) := dk_96 (dk_at dksX4_goesHome_3 12 rfl rfl)
theorem dX4_goesHome_85 : decode cX4_goesHome 85 = .ok (.isub, 1) := dk_100 (dk_at dksX4_goesHome_3 13 rfl rfl)
theorem dX4_goesHome_86 : decode cX4_goesHome 86 = .ok (.iastore, 1) := dk_79 (dk_at dksX4_goesHome_3 14 rfl rfl)
theorem dX4_goesHome_87 : decode cX4_goesHome 87 = .ok (.aload_n 0, 1) := dk_42 (dk_at dksX4_goesHome_3 15 rfl rfl)
theorem dX4_goesHome_88 : decode cX4_goesHome 88 = .ok (.getfield 7, 3) := dk_180 0 7 (dk_at dksX4_goesHome_3 16 rfl rfl)
theorem dX4_goesHome_91 : decode cX4_goesHome 91 = .ok (.bipush 28, 2) := dk_16 28 (dk_at dksX4_goesHome_3 19 rfl rfl)
theorem dX4_goesHome_93 : decode cX4_goesHome 93 = .ok (.iload_n 1, 1) := dk_27 (dk_at dksX4_goesHome_3 21 rfl rfl)
theorem dX4_goesHome_94 : decode cX4_goesHome 94 = .ok (.iadd, 1) := dk_96 (dk_at dksX4_goesHome_3 22 rfl rfl)
theorem dX4_goesHome_95 : decode cX4_goesHome 95 = .ok (.iconst (-1), 1) := dk_2 (dk_at dksX4_goesHome_3 23 rfl rfl)
theorem dX4_goesHome_96 : decode cX4_goesHome 96 = .ok (.iastore, 1) := dk_79 (dk_at dksX4_goesHome_4 0 rfl rfl)
theorem dX4_goesHome_97 : decode cX4_goesHome 97 = .ok (.aload_n 0, 1) := dk_42 (dk_at dksX4_goesHome_4 1 rfl rfl)
theorem dX4_goesHome_98 : decode cX4_goesHome 98 = .ok (.aload_n 0, 1) := dk_42 (dk_at dksX4_goesHome_4 2 rfl rfl)
theorem dX4_goesHome_99 : decode cX4_goesHome 99 = .ok (.getfield 7, 3) := dk_180 0 7 (dk_at dksX4_goesHome_4 3 rfl rfl)
theorem dX4_goesHome_102 : decode cX4_goesHome 102 = .ok (.bipush 31, 2) := dk_16 31 (dk_at dksX4_goesHome_4 6 rfl rfl)
theorem dX4_goesHome_104 : decode cX4_goesHome 104 = .ok (.iload_n 1, 1) := dk_27 (dk_at dksX4_goesHome_4 8 rfl rfl)
theorem dX4_goesHome_105 : decode cX4_goesHome 105 = .ok (.iadd, 1) := dk_96 (dk_at dksX4_goesHome_4 9 rfl rfl)
theorem dX4_goesHome_106 : decode cX4_goesHome 106 = .ok (.iaload, 1) := dk_46 (dk_at dksX4_goesHome_4 10 rfl rfl)
theorem dX4_goesHome_107 : decode cX4_goesHome 107 = .ok (.invokevirtual 75, 3) := dk_182 0 75 (dk_at dksX4_goesHome_4 11 rfl rfl)
theorem dX4_goesHome_110 : decode cX4_goesHome 110 = .ok (.ireturn, 1) := dk_172 (dk_at dksX4_goesHome_4 14 rfl rfl)
abbrev cX4_shoot : ByteArray := prog_19_method_33_code
def yX4_shoot : MethodName := ⟨RX4, "shoot", "(III)I"⟩
def dkwX4_shoot_0 : List UInt8 := [42, 182, 0, 78, 42, 42, 27, 28, 29, 182, 0, 107, 182, 0, 81, 172]
abbrev dktX4_shoot_0 : List UInt8 := dkwX4_shoot_0 ++ []
theorem dksX4_shoot_0 : cX4_shoot.data.toList.drop 0 = dktX4_shoot_0 := by decide +kernel
theorem dX4_shoot_0 : decode cX4_shoot 0 = .ok (.aload_n 0, 1) := dk_42 (dk_at dksX4_shoot_0 0 rfl rfl)
theorem dX4_shoot_1 : decode cX4_shoot 1 = .ok (.invokevirtual 78, 3) := dk_182 0 78 (dk_at dksX4_shoot_0 1 rfl rfl)
theorem dX4_shoot_4 : decode cX4_shoot 4 = .ok (.aload_n 0, 1) := dk_42 (dk_at dksX4_shoot_0 4 rfl rfl)
theorem dX4_shoot_5 : decode cX4_shoot 5 = .ok (.aload_n 0, 1) := dk_42 (dk_at dksX4_shoot_0 5 rfl rfl)
theorem dX4_shoot_6 : decode cX4_shoot 6 = .ok (.iload_n 1, 1) := dk_27 (dk_at dksX4_shoot_0 6 rfl rfl)
theorem dX4_shoot_7 : decode cX4_shoot 7 = .ok (.iload_n 2, 1) := dk_28 (dk_at dksX4_shoot_0 7 rfl rfl)
theorem dX4_shoot_8 : decode cX4_shoot 8 = .ok (.iload_n 3, 1) := dk_29 (dk_at dksX4_shoot_0 8 rfl rfl)
theorem dX4_shoot_9 : decode cX4_shoot 9 = .ok (.invokevirtual 107, 3) := dk_182 0 107 (dk_at dksX4_shoot_0 9 rfl rfl)
theorem dX4_shoot_12 : decode cX4_shoot 12 = .ok (.invokevirtual 81, 3) := dk_182 0 81 (dk_at dksX4_shoot_0 12 rfl rfl)
theorem dX4_shoot_15 : decode cX4_shoot 15 = .ok (.ireturn, 1) := dk_172 (dk_at dksX4_shoot_0 15 rfl rfl)
abbrev cX4_shoots : ByteArray := prog_19_method_32_code
def yX4_shoots : MethodName := ⟨RX4, "shoots", "(III)I"⟩
def dkwX4_shoots_10 : List UInt8 := [182, 0, 75, 172]
abbrev dktX4_shoots_10 : List UInt8 := dkwX4_shoots_10 ++ []
def dkwX4_shoots_9 : List UInt8 := [180, 0, 7, 16, 77, 28, 96, 42, 180, 0, 7, 3, 46, 79, 42, 42, 180, 0, 7, 16, 31, 27, 96, 46]
abbrev dktX4_shoots_9 : List UInt8 := dkwX4_shoots_9 ++ dktX4_shoots_10
def dkwX4_shoots_8 : List UInt8 := [28, 96, 42, 180, 0, 7, 16, 28, 27, 96, 46, 79, 42, 180, 0, 7, 16, 67, 28, 96, 29, 79, 42]
abbrev dktX4_shoots_8 : List UInt8 := dkwX4_shoots_8 ++ dktX4_shoots_9
def dkwX4_shoots_7 : List UInt8 := [46, 4, 100, 79, 42, 180, 0, 7, 16, 21, 29, 96, 92, 46, 21, 4, 100, 79, 42, 180, 0, 7, 16, 57]
abbrev dktX4_shoots_7 : List UInt8 := dkwX4_shoots_7 ++ dktX4_shoots_8
def dkwX4_shoots_6 : List UInt8 := [42, 180, 0, 7, 16, 21, 29, 96, 46, 100, 6, 182, 0, 88, 172, 42, 180, 0, 7, 16, 31, 27, 96, 92]
abbrev dktX4_shoots_6 : List UInt8 := dkwX4_shoots_6 ++ dktX4_shoots_7
def dkwX4_shoots_5 : List UInt8 := [96, 8, 108, 54, 4, 42, 180, 0, 7, 16, 21, 29, 96, 46, 21, 4, 162, 0, 23, 42, 16, 7, 21, 4]
abbrev dktX4_shoots_5 : List UInt8 := dkwX4_shoots_5 ++ dktX4_shoots_6
def dkwX4_shoots_4 : List UInt8 := [96, 46, 4, 162, 0, 11, 42, 7, 4, 6, 182, 0, 88, 172, 42, 180, 0, 7, 16, 47, 28, 96, 46, 7]
abbrev dktX4_shoots_4 : List UInt8 := dkwX4_shoots_4 ++ dktX4_shoots_5
def dkwX4_shoots_3 : List UInt8 := [42, 16, 6, 42, 180, 0, 7, 16, 57, 28, 96, 46, 6, 182, 0, 88, 172, 42, 180, 0, 7, 16, 31, 27]
abbrev dktX4_shoots_3 : List UInt8 := dkwX4_shoots_3 ++ dktX4_shoots_4
def dkwX4_shoots_2 : List UInt8 := [160, 0, 11, 42, 8, 27, 6, 182, 0, 88, 172, 42, 180, 0, 7, 16, 57, 28, 96, 46, 2, 159, 0, 20]
abbrev dktX4_shoots_2 : List UInt8 := dkwX4_shoots_2 ++ dktX4_shoots_3
def dkwX4_shoots_1 : List UInt8 := [184, 0, 72, 154, 0, 9, 42, 5, 182, 0, 68, 172, 42, 180, 0, 7, 16, 28, 27, 96, 46, 2]
abbrev dktX4_shoots_1 : List UInt8 := dkwX4_shoots_1 ++ dktX4_shoots_2
def dkwX4_shoots_0 : List UInt8 := [42, 27, 182, 0, 92, 153, 0, 11, 42, 28, 182, 0, 95, 154, 0, 9, 42, 4, 182, 0, 68, 172, 29]
abbrev dktX4_shoots_0 : List UInt8 := dkwX4_shoots_0 ++ dktX4_shoots_1
theorem dksX4_shoots_0 : cX4_shoots.data.toList.drop 0 = dktX4_shoots_0 := by decide +kernel
theorem dksX4_shoots_1 : cX4_shoots.data.toList.drop 23 = dktX4_shoots_1 := dk_seg dksX4_shoots_0 23 rfl rfl
theorem dksX4_shoots_2 : cX4_shoots.data.toList.drop 45 = dktX4_shoots_2 := dk_seg dksX4_shoots_1 22 rfl rfl
theorem dksX4_shoots_3 : cX4_shoots.data.toList.drop 69 = dktX4_shoots_3 := dk_seg dksX4_shoots_2 24 rfl rfl
theorem dksX4_shoots_4 : cX4_shoots.data.toList.drop 93 = dktX4_shoots_4 := dk_seg dksX4_shoots_3 24 rfl rfl
theorem dksX4_shoots_5 : cX4_shoots.data.toList.drop 117 = dktX4_shoots_5 := dk_seg dksX4_shoots_4 24 rfl rfl
theorem dksX4_shoots_6 : cX4_shoots.data.toList.drop 141 = dktX4_shoots_6 := dk_seg dksX4_shoots_5 24 rfl rfl
theorem dksX4_shoots_7 : cX4_shoots.data.toList.drop 165 = dktX4_shoots_7 := dk_seg dksX4_shoots_6 24 rfl rfl
theorem dksX4_shoots_8 : cX4_shoots.data.toList.drop 189 = dktX4_shoots_8 := dk_seg dksX4_shoots_7 24 rfl rfl
theorem dksX4_shoots_9 : cX4_shoots.data.toList.drop 212 = dktX4_shoots_9 := dk_seg dksX4_shoots_8 23 rfl rfl
theorem dksX4_shoots_10 : cX4_shoots.data.toList.drop 236 = dktX4_shoots_10 := dk_seg dksX4_shoots_9 24 rfl rfl
theorem dX4_shoots_0 : decode cX4_shoots 0 = .ok (.aload_n 0, 1) := dk_42 (dk_at dksX4_shoots_0 0 rfl rfl)
theorem dX4_shoots_1 : decode cX4_shoots 1 = .ok (.iload_n 1, 1) := dk_27 (dk_at dksX4_shoots_0 1 rfl rfl)
theorem dX4_shoots_2 : decode cX4_shoots 2 = .ok (.invokevirtual 92, 3) := dk_182 0 92 (dk_at dksX4_shoots_0 2 rfl rfl)
theorem dX4_shoots_5 : decode cX4_shoots 5 = .ok (.ifCond .eq 11, 3) := dk_153 0 11 (dk_at dksX4_shoots_0 5 rfl rfl)
theorem dX4_shoots_8 : decode cX4_shoots 8 = .ok (.aload_n 0, 1) := dk_42 (dk_at dksX4_shoots_0 8 rfl rfl)
theorem dX4_shoots_9 : decode cX4_shoots 9 = .ok (.iload_n 2, 1) := dk_28 (dk_at dksX4_shoots_0 9 rfl rfl)
theorem dX4_shoots_10 : decode cX4_shoots 10 = .ok (.invokevirtual 95, 3) := dk_182 0 95 (dk_at dksX4_shoots_0 10 rfl rfl)
theorem dX4_shoots_13 : decode cX4_shoots 13 = .ok (.ifCond .ne 9, 3) := dk_154 0 9 (dk_at dksX4_shoots_0 13 rfl rfl)
theorem dX4_shoots_16 : decode cX4_shoots 16 = .ok (.aload_n 0, 1) := dk_42 (dk_at dksX4_shoots_0 16 rfl rfl)
theorem dX4_shoots_17 : decode cX4_shoots 17 = .ok (.iconst 1, 1) := dk_4 (dk_at dksX4_shoots_0 17 rfl rfl)
theorem dX4_shoots_18 : decode cX4_shoots 18 = .ok (.invokevirtual 68, 3) := dk_182 0 68 (dk_at dksX4_shoots_0 18 rfl rfl)
theorem dX4_shoots_21 : decode cX4_shoots 21 = .ok (.ireturn, 1) := dk_172 (dk_at dksX4_shoots_0 21 rfl rfl)
theorem dX4_shoots_22 : decode cX4_shoots 22 = .ok (.iload_n 3, 1) := dk_29 (dk_at dksX4_shoots_0 22 rfl rfl)
theorem dX4_shoots_23 : decode cX4_shoots 23 = .ok (.invokestatic 72, 3) := dk_184 0 72 (dk_at dksX4_shoots_1 0 rfl rfl)
theorem dX4_shoots_26 : decode cX4_shoots 26 = .ok (.ifCond .ne 9, 3) := dk_154 0 9 (dk_at dksX4_shoots_1 3 rfl rfl)
theorem dX4_shoots_29 : decode cX4_shoots 29 = .ok (.aload_n 0, 1) := dk_42 (dk_at dksX4_shoots_1 6 rfl rfl)
theorem dX4_shoots_30 : decode cX4_shoots 30 = .ok (.iconst 2, 1) := dk_5 (dk_at dksX4_shoots_1 7 rfl rfl)
theorem dX4_shoots_31 : decode cX4_shoots 31 = .ok (.invokevirtual 68, 3) := dk_182 0 68 (dk_at dksX4_shoots_1 8 rfl rfl)
theorem dX4_shoots_34 : decode cX4_shoots 34 = .ok (.ireturn, 1) := dk_172 (dk_at dksX4_shoots_1 11 rfl rfl)
theorem dX4_shoots_35 : decode cX4_shoots 35 = .ok (.aload_n 0, 1) := dk_42 (dk_at dksX4_shoots_1 12 rfl rfl)
theorem dX4_shoots_36 : decode cX4_shoots 36 = .ok (.getfield 7, 3) := dk_180 0 7 (dk_at dksX4_shoots_1 13 rfl rfl)
theorem dX4_shoots_39 : decode cX4_shoots 39 = .ok (.bipush 28, 2) := dk_16 28 (dk_at dksX4_shoots_1 16 rfl rfl)
theorem dX4_shoots_41 : decode cX4_shoots 41 = .ok (.iload_n 1, 1) := dk_27 (dk_at dksX4_shoots_1 18 rfl rfl)
theorem dX4_shoots_42 : decode cX4_shoots 42 = .ok (.iadd, 1) := dk_96 (dk_at dksX4_shoots_1 19 rfl rfl)
theorem dX4_shoots_43 : decode cX4_shoots 43 = .ok (.iaload, 1) := dk_46 (dk_at dksX4_shoots_1 20 rfl rfl)
theorem dX4_shoots_44 : decode cX4_shoots 44 = .ok (.iconst (-1), 1) := dk_2 (dk_at dksX4_shoots_1 21 rfl rfl)
theorem dX4_shoots_45 : decode cX4_shoots 45 = .ok (.if_icmp .ne 11, 3) := dk_160 0 11 (dk_at dksX4_shoots_2 0 rfl rfl)
theorem dX4_shoots_48 : decode cX4_shoots 48 = .ok (.aload_n 0, 1) := dk_42 (dk_at dksX4_shoots_2 3 rfl rfl)
theorem dX4_shoots_49 : decode cX4_shoots 49 = .ok (.iconst 5, 1) := dk_8 (dk_at dksX4_shoots_2 4 rfl rfl)
theorem dX4_shoots_50 : decode cX4_shoots 50 = .ok (.iload_n 1, 1) := dk_27 (dk_at dksX4_shoots_2 5 rfl rfl)
theorem dX4_shoots_51 : decode cX4_shoots 51 = .ok (.iconst 3, 1) := dk_6 (dk_at dksX4_shoots_2 6 rfl rfl)
theorem dX4_shoots_52 : decode cX4_shoots 52 = .ok (.invokevirtual 88, 3) := dk_182 0 88 (dk_at dksX4_shoots_2 7 rfl rfl)
theorem dX4_shoots_55 : decode cX4_shoots 55 = .ok (.ireturn, 1) := dk_172 (dk_at dksX4_shoots_2 10 rfl rfl)
theorem dX4_shoots_56 : decode cX4_shoots 56 = .ok (.aload_n 0, 1) := dk_42 (dk_at dksX4_shoots_2 11 rfl rfl)
theorem dX4_shoots_57 : decode cX4_shoots 57 = .ok (.getfield 7, 3) := dk_180 0 7 (dk_at dksX4_shoots_2 12 rfl rfl)
theorem dX4_shoots_60 : decode cX4_shoots 60 = .ok (.bipush 57, 2) := dk_16 57 (dk_at dksX4_shoots_2 15 rfl rfl)
theorem dX4_shoots_62 : decode cX4_shoots 62 = .ok (.iload_n 2, 1) := dk_28 (dk_at dksX4_shoots_2 17 rfl rfl)
theorem dX4_shoots_63 : decode cX4_shoots 63 = .ok (.iadd, 1) := dk_96 (dk_at dksX4_shoots_2 18 rfl rfl)
theorem dX4_shoots_64 : decode cX4_shoots 64 = .ok (.iaload, 1) := dk_46 (dk_at dksX4_shoots_2 19 rfl rfl)
theorem dX4_shoots_65 : decode cX4_shoots 65 = .ok (.iconst (-1), 1) := dk_2 (dk_at dksX4_shoots_2 20 rfl rfl)
theorem dX4_shoots_66 : decode cX4_shoots 66 = .ok (.if_icmp .eq 20, 3) := dk_159 0 20 (dk_at dksX4_shoots_2 21 rfl rfl)
theorem dX4_shoots_69 : decode cX4_shoots 69 = .ok (.aload_n 0, 1) := dk_42 (dk_at dksX4_shoots_3 0 rfl rfl)
theorem dX4_shoots_70 : decode cX4_shoots 70 = .ok (.bipush 6, 2) := dk_16 6 (dk_at dksX4_shoots_3 1 rfl rfl)
theorem dX4_shoots_72 : decode cX4_shoots 72 = .ok (.aload_n 0, 1) := dk_42 (dk_at dksX4_shoots_3 3 rfl rfl)
theorem dX4_shoots_73 : decode cX4_shoots 73 = .ok (.getfield 7, 3) := dk_180 0 7 (dk_at dksX4_shoots_3 4 rfl rfl)
theorem dX4_shoots_76 : decode cX4_shoots 76 = .ok (.bipush 57, 2) := dk_16 57 (dk_at dksX4_shoots_3 7 rfl rfl)
theorem dX4_shoots_78 : decode cX4_shoots 78 = .ok (.iload_n 2, 1) := dk_28 (dk_at dksX4_shoots_3 9 rfl rfl)
theorem dX4_shoots_79 : decode cX4_shoots 79 = .ok (.iadd, 1) := dk_96 (dk_at dksX4_shoots_3 10 rfl rfl)
theorem dX4_shoots_80 : decode cX4_shoots 80 = .ok (.iaload, 1) := dk_46 (dk_at dksX4_shoots_3 11 rfl rfl)
theorem dX4_shoots_81 : decode cX4_shoots 81 = .ok (.iconst 3, 1) := dk_6 (dk_at dksX4_shoots_3 12 rfl rfl)
theorem dX4_shoots_82 : decode cX4_shoots 82 = .ok (.invokevirtual 88, 3) := dk_182 0 88 (dk_at dksX4_shoots_3 13 rfl rfl)
theorem dX4_shoots_85 : decode cX4_shoots 85 = .ok (.ireturn, 1) := dk_172 (dk_at dksX4_shoots_3 16 rfl rfl)
theorem dX4_shoots_86 : decode cX4_shoots 86 = .ok (.aload_n 0, 1) := dk_42 (dk_at dksX4_shoots_3 17 rfl rfl)
theorem dX4_shoots_87 : decode cX4_shoots 87 = .ok (.getfield 7, 3) := dk_180 0 7 (dk_at dksX4_shoots_3 18 rfl rfl)
theorem dX4_shoots_90 : decode cX4_shoots 90 = .ok (.bipush 31, 2) := dk_16 31 (dk_at dksX4_shoots_3 21 rfl rfl)
theorem dX4_shoots_92 : decode cX4_shoots 92 = .ok (.iload_n 1, 1) := dk_27 (dk_at dksX4_shoots_3 23 rfl rfl)
theorem dX4_shoots_93 : decode cX4_shoots 93 = .ok (.iadd, 1) := dk_96 (dk_at dksX4_shoots_4 0 rfl rfl)
theorem dX4_shoots_94 : decode cX4_shoots 94 = .ok (.iaload, 1) := dk_46 (dk_at dksX4_shoots_4 1 rfl rfl)
theorem dX4_shoots_95 : decode cX4_shoots 95 = .ok (.iconst 1, 1) := dk_4 (dk_at dksX4_shoots_4 2 rfl rfl)
theorem dX4_shoots_96 : decode cX4_shoots 96 = .ok (.if_icmp .ge 11, 3) := dk_162 0 11 (dk_at dksX4_shoots_4 3 rfl rfl)
theorem dX4_shoots_99 : decode cX4_shoots 99 = .ok (.aload_n 0, 1) := dk_42 (dk_at dksX4_shoots_4 6 rfl rfl)
theorem dX4_shoots_100 : decode cX4_shoots 100 = .ok (.iconst 4, 1) := dk_7 (dk_at dksX4_shoots_4 7 rfl rfl)
theorem dX4_shoots_101 : decode cX4_shoots 101 = .ok (.iconst 1, 1) := dk_4 (dk_at dksX4_shoots_4 8 rfl rfl)
theorem dX4_shoots_102 : decode cX4_shoots 102 = .ok (.iconst 3, 1) := dk_6 (dk_at dksX4_shoots_4 9 rfl rfl)
theorem dX4_shoots_103 : decode cX4_shoots 103 = .ok (.invokevirtual 88, 3) := dk_182 0 88 (dk_at dksX4_shoots_4 10 rfl rfl)
theorem dX4_shoots_106 : decode cX4_shoots 106 = .ok (.ireturn, 1) := dk_172 (dk_at dksX4_shoots_4 13 rfl rfl)
theorem dX4_shoots_107 : decode cX4_shoots 107 = .ok (.aload_n 0, 1) := dk_42 (dk_at dksX4_shoots_4 14 rfl rfl)
theorem dX4_shoots_108 : decode cX4_shoots 108 = .ok (.getfield 7, 3) := dk_180 0 7 (dk_at dksX4_shoots_4 15 rfl rfl)
theorem dX4_shoots_111 : decode cX4_shoots 111 = .ok (.bipush 47, 2) := dk_16 47 (dk_at dksX4_shoots_4 18 rfl rfl)
theorem dX4_shoots_113 : decode cX4_shoots 113 = .ok (.iload_n 2, 1) := dk_28 (dk_at dksX4_shoots_4 20 rfl rfl)
theorem dX4_shoots_114 : decode cX4_shoots 114 = .ok (.iadd, 1) := dk_96 (dk_at dksX4_shoots_4 21 rfl rfl)
theorem dX4_shoots_115 : decode cX4_shoots 115 = .ok (.iaload, 1) := dk_46 (dk_at dksX4_shoots_4 22 rfl rfl)
theorem dX4_shoots_116 : decode cX4_shoots 116 = .ok (.iconst 4, 1) := dk_7 (dk_at dksX4_shoots_4 23 rfl rfl)
theorem dX4_shoots_117 : decode cX4_shoots 117 = .ok (.iadd, 1) := dk_96 (dk_at dksX4_shoots_5 0 rfl rfl)
theorem dX4_shoots_118 : decode cX4_shoots 118 = .ok (.iconst 5, 1) := dk_8 (dk_at dksX4_shoots_5 1 rfl rfl)
theorem dX4_shoots_119 : decode cX4_shoots 119 = .ok (.idiv, 1) := dk_108 (dk_at dksX4_shoots_5 2 rfl rfl)
theorem dX4_shoots_120 : decode cX4_shoots 120 = .ok (.istore 4, 2) := dk_54 4 (dk_at dksX4_shoots_5 3 rfl rfl)
theorem dX4_shoots_122 : decode cX4_shoots 122 = .ok (.aload_n 0, 1) := dk_42 (dk_at dksX4_shoots_5 5 rfl rfl)
theorem dX4_shoots_123 : decode cX4_shoots 123 = .ok (.getfield 7, 3) := dk_180 0 7 (dk_at dksX4_shoots_5 6 rfl rfl)
theorem dX4_shoots_126 : decode cX4_shoots 126 = .ok (.bipush 21, 2) := dk_16 21 (dk_at dksX4_shoots_5 9 rfl rfl)
theorem dX4_shoots_128 : decode cX4_shoots 128 = .ok (.iload_n 3, 1) := dk_29 (dk_at dksX4_shoots_5 11 rfl rfl)
theorem dX4_shoots_129 : decode cX4_shoots 129 = .ok (.iadd, 1) := dk_96 (dk_at dksX4_shoots_5 12 rfl rfl)
theorem dX4_shoots_130 : decode cX4_shoots 130 = .ok (.iaload, 1) := dk_46 (dk_at dksX4_shoots_5 13 rfl rfl)
theorem dX4_shoots_131 : decode cX4_shoots 131 = .ok (.iload 4, 2) := dk_21 4 (dk_at dksX4_shoots_5 14 rfl rfl)
theorem dX4_shoots_133 : decode cX4_shoots 133 = .ok (.if_icmp .ge 23, 3) := dk_162 0 23 (dk_at dksX4_shoots_5 16 rfl rfl)
theorem dX4_shoots_136 : decode cX4_shoots 136 = .ok (.aload_n 0, 1) := dk_42 (dk_at dksX4_shoots_5 19 rfl rfl)
theorem dX4_shoots_137 : decode cX4_shoots 137 = .ok (.bipush 7, 2) := dk_16 7 (dk_at dksX4_shoots_5 20 rfl rfl)
theorem dX4_shoots_139 : decode cX4_shoots 139 = .ok (.iload 4, 2) := dk_21 4 (dk_at dksX4_shoots_5 22 rfl rfl)
theorem dX4_shoots_141 : decode cX4_shoots 141 = .ok (.aload_n 0, 1) := dk_42 (dk_at dksX4_shoots_6 0 rfl rfl)
theorem dX4_shoots_142 : decode cX4_shoots 142 = .ok (.getfield 7, 3) := dk_180 0 7 (dk_at dksX4_shoots_6 1 rfl rfl)
theorem dX4_shoots_145 : decode cX4_shoots 145 = .ok (.bipush 21, 2) := dk_16 21 (dk_at dksX4_shoots_6 4 rfl rfl)
theorem dX4_shoots_147 : decode cX4_shoots 147 = .ok (.iload_n 3, 1) := dk_29 (dk_at dksX4_shoots_6 6 rfl rfl)
theorem dX4_shoots_148 : decode cX4_shoots 148 = .ok (.iadd, 1) := dk_96 (dk_at dksX4_shoots_6 7 rfl rfl)
theorem dX4_shoots_149 : decode cX4_shoots 149 = .ok (.iaload, 1) := dk_46 (dk_at dksX4_shoots_6 8 rfl rfl)
theorem dX4_shoots_150 : decode cX4_shoots 150 = .ok (.isub, 1) := dk_100 (dk_at dksX4_shoots_6 9 rfl rfl)
theorem dX4_shoots_151 : decode cX4_shoots 151 = .ok (.iconst 3, 1) := dk_6 (dk_at dksX4_shoots_6 10 rfl rfl)
theorem dX4_shoots_152 : decode cX4_shoots 152 = .ok (.invokevirtual 88, 3) := dk_182 0 88 (dk_at dksX4_shoots_6 11 rfl rfl)
theorem dX4_shoots_155 : decode cX4_shoots 155 = .ok (.ireturn, 1) := dk_172 (dk_at dksX4_shoots_6 14 rfl rfl)
theorem dX4_shoots_156 : decode cX4_shoots 156 = .ok (.aload_n 0, 1) := dk_42 (dk_at dksX4_shoots_6 15 rfl rfl)
theorem dX4_shoots_157 : decode cX4_shoots 157 = .ok (.getfield 7, 3) := dk_180 0 7 (dk_at dksX4_shoots_6 16 rfl rfl)
theorem dX4_shoots_160 : decode cX4_shoots 160 = .ok (.bipush 31, 2) := dk_16 31 (dk_at dksX4_shoots_6 19 rfl rfl)
theorem dX4_shoots_162 : decode cX4_shoots 162 = .ok (.iload_n 1, 1) := dk_27 (dk_at dksX4_shoots_6 21 rfl rfl)
theorem dX4_shoots_163 : decode cX4_shoots 163 = .ok (.iadd, 1) := dk_96 (dk_at dksX4_shoots_6 22 rfl rfl)
theorem dX4_shoots_164 : decode cX4_shoots 164 = .ok (.dup2, 1) := dk_92 (dk_at dksX4_shoots_6 23 rfl rfl)
theorem dX4_shoots_165 : decode cX4_shoots 165 = .ok (.iaload, 1) := dk_46 (dk_at dksX4_shoots_7 0 rfl rfl)
theorem dX4_shoots_166 : decode cX4_shoots 166 = .ok (.iconst 1, 1) := dk_4 (dk_at dksX4_shoots_7 1 rfl rfl)
theorem dX4_shoots_167 : decode cX4_shoots 167 = .ok (.isub, 1) := dk_100 (dk_at dksX4_shoots_7 2 rfl rfl)
theorem dX4_shoots_168 : decode cX4_shoots 168 = .ok (.iastore, 1) := dk_79 (dk_at dksX4_shoots_7 3 rfl rfl)
theorem dX4_shoots_169 : decode cX4_shoots 169 = .ok (.aload_n 0, 1) := dk_42 (dk_at dksX4_shoots_7 4 rfl rfl)
theorem dX4_shoots_170 : decode cX4_shoots 170 = .ok (.getfield 7, 3) := dk_180 0 7 (dk_at dksX4_shoots_7 5 rfl rfl)
theorem dX4_shoots_173 : decode cX4_shoots 173 = .ok (.bipush 21, 2) := dk_16 21 (dk_at dksX4_shoots_7 8 rfl rfl)
theorem dX4_shoots_175 : decode cX4_shoots 175 = .ok (.iload_n 3, 1) := dk_29 (dk_at dksX4_shoots_7 10 rfl rfl)
theorem dX4_shoots_176 : decode cX4_shoots 176 = .ok (.iadd, 1) := dk_96 (dk_at dksX4_shoots_7 11 rfl rfl)
theorem dX4_shoots_177 : decode cX4_shoots 177 = .ok (.dup2, 1) := dk_92 (dk_at dksX4_shoots_7 12 rfl rfl)
theorem dX4_shoots_178 : decode cX4_shoots 178 = .ok (.iaload, 1) := dk_46 (dk_at dksX4_shoots_7 13 rfl rfl)
theorem dX4_shoots_179 : decode cX4_shoots 179 = .ok (.iload 4, 2) := dk_21 4 (dk_at dksX4_shoots_7 14 rfl rfl)
theorem dX4_shoots_181 : decode cX4_shoots 181 = .ok (.isub, 1) := dk_100 (dk_at dksX4_shoots_7 16 rfl rfl)
theorem dX4_shoots_182 : decode cX4_shoots 182 = .ok (.iastore, 1) := dk_79 (dk_at dksX4_shoots_7 17 rfl rfl)
theorem dX4_shoots_183 : decode cX4_shoots 183 = .ok (.aload_n 0, 1) := dk_42 (dk_at dksX4_shoots_7 18 rfl rfl)
theorem dX4_shoots_184 : decode cX4_shoots 184 = .ok (.getfield 7, 3) := dk_180 0 7 (dk_at dksX4_shoots_7 19 rfl rfl)
theorem dX4_shoots_187 : decode cX4_shoots 187 = .ok (.bipush 57, 2) := dk_16 57 (dk_at dksX4_shoots_7 22 rfl rfl)
theorem dX4_shoots_189 : decode cX4_shoots 189 = .ok (.iload_n 2, 1) := dk_28 (dk_at dksX4_shoots_8 0 rfl rfl)
theorem dX4_shoots_190 : decode cX4_shoots 190 = .ok (.iadd, 1) := dk_96 (dk_at dksX4_shoots_8 1 rfl rfl)
theorem dX4_shoots_191 : decode cX4_shoots 191 = .ok (.aload_n 0, 1) := dk_42 (dk_at dksX4_shoots_8 2 rfl rfl)
theorem dX4_shoots_192 : decode cX4_shoots 192 = .ok (.getfield 7, 3) := dk_180 0 7 (dk_at dksX4_shoots_8 3 rfl rfl)
theorem dX4_shoots_195 : decode cX4_shoots 195 = .ok (.bipush 28, 2) := dk_16 28 (dk_at dksX4_shoots_8 6 rfl rfl)
theorem dX4_shoots_197 : decode cX4_shoots 197 = .ok (.iload_n 1, 1) := dk_27 (dk_at dksX4_shoots_8 8 rfl rfl)
theorem dX4_shoots_198 : decode cX4_shoots 198 = .ok (.iadd, 1) := dk_96 (dk_at dksX4_shoots_8 9 rfl rfl)
theorem dX4_shoots_199 : decode cX4_shoots 199 = .ok (.iaload, 1) := dk_46 (dk_at dksX4_shoots_8 10 rfl rfl)
theorem dX4_shoots_200 : decode cX4_shoots 200 = .ok (.iastore, 1) := dk_79 (dk_at dksX4_shoots_8 11 rfl rfl)
theorem dX4_shoots_201 : decode cX4_shoots 201 = .ok (.aload_n 0, 1) := dk_42 (dk_at dksX4_shoots_8 12 rfl rfl)
theorem dX4_shoots_202 : decode cX4_shoots 202 = .ok (.getfield 7, 3) := dk_180 0 7 (dk_at dksX4_shoots_8 13 rfl rfl)
theorem dX4_shoots_205 : decode cX4_shoots 205 = .ok (.bipush 67, 2) := dk_16 67 (dk_at dksX4_shoots_8 16 rfl rfl)
theorem dX4_shoots_207 : decode cX4_shoots 207 = .ok (.iload_n 2, 1) := dk_28 (dk_at dksX4_shoots_8 18 rfl rfl)
theorem dX4_shoots_208 : decode cX4_shoots 208 = .ok (.iadd, 1) := dk_96 (dk_at dksX4_shoots_8 19 rfl rfl)
theorem dX4_shoots_209 : decode cX4_shoots 209 = .ok (.iload_n 3, 1) := dk_29 (dk_at dksX4_shoots_8 20 rfl rfl)
theorem dX4_shoots_210 : decode cX4_shoots 210 = .ok (.iastore, 1) := dk_79 (dk_at dksX4_shoots_8 21 rfl rfl)
theorem dX4_shoots_211 : decode cX4_shoots 211 = .ok (.aload_n 0, 1) := dk_42 (dk_at dksX4_shoots_8 22 rfl rfl)
theorem dX4_shoots_212 : decode cX4_shoots 212 = .ok (.getfield 7, 3) := dk_180 0 7 (dk_at dksX4_shoots_9 0 rfl rfl)
theorem dX4_shoots_215 : decode cX4_shoots 215 = .ok (.bipush 77, 2) := dk_16 77 (dk_at dksX4_shoots_9 3 rfl rfl)
theorem dX4_shoots_217 : decode cX4_shoots 217 = .ok (.iload_n 2, 1) := dk_28 (dk_at dksX4_shoots_9 5 rfl rfl)
theorem dX4_shoots_218 : decode cX4_shoots 218 = .ok (.iadd, 1) := dk_96 (dk_at dksX4_shoots_9 6 rfl rfl)
theorem dX4_shoots_219 : decode cX4_shoots 219 = .ok (.aload_n 0, 1) := dk_42 (dk_at dksX4_shoots_9 7 rfl rfl)
theorem dX4_shoots_220 : decode cX4_shoots 220 = .ok (.getfield 7, 3) := dk_180 0 7 (dk_at dksX4_shoots_9 8 rfl rfl)
theorem dX4_shoots_223 : decode cX4_shoots 223 = .ok (.iconst 0, 1) := dk_3 (dk_at dksX4_shoots_9 11 rfl rfl)
theorem dX4_shoots_224 : decode cX4_shoots 224 = .ok (.iaload, 1) := dk_46 (dk_at dksX4_shoots_9 12 rfl rfl)
theorem dX4_shoots_225 : decode cX4_shoots 225 = .ok (.iastore, 1) := dk_79 (dk_at dksX4_shoots_9 13 rfl rfl)
theorem dX4_shoots_226 : decode cX4_shoots 226 = .ok (.aload_n 0, 1) := dk_42 (dk_at dksX4_shoots_9 14 rfl rfl)
theorem dX4_shoots_227 : decode cX4_shoots 227 = .ok (.aload_n 0, 1) := dk_42 (dk_at dksX4_shoots_9 15 rfl rfl)
theorem dX4_shoots_228 : decode cX4_shoots 228 = .ok (.getfield 7, 3) := dk_180 0 7 (dk_at dksX4_shoots_9 16 rfl rfl)
theorem dX4_shoots_231 : decode cX4_shoots 231 = .ok (.bipush 31, 2) := dk_16 31 (dk_at dksX4_shoots_9 19 rfl rfl)
theorem dX4_shoots_233 : decode cX4_shoots 233 = .ok (.iload_n 1, 1) := dk_27 (dk_at dksX4_shoots_9 21 rfl rfl)
theorem dX4_shoots_234 : decode cX4_shoots 234 = .ok (.iadd, 1) := dk_96 (dk_at dksX4_shoots_9 22 rfl rfl)
theorem dX4_shoots_235 : decode cX4_shoots 235 = .ok (.iaload, 1) := dk_46 (dk_at dksX4_shoots_9 23 rfl rfl)
theorem dX4_shoots_236 : decode cX4_shoots 236 = .ok (.invokevirtual 75, 3) := dk_182 0 75 (dk_at dksX4_shoots_10 0 rfl rfl)
theorem dX4_shoots_239 : decode cX4_shoots 239 = .ok (.ireturn, 1) := dk_172 (dk_at dksX4_shoots_10 3 rfl rfl)
abbrev cX4_haul : ByteArray := prog_19_method_37_code
def yX4_haul : MethodName := ⟨RX4, "haul", "(II)I"⟩
def dkwX4_haul_0 : List UInt8 := [42, 182, 0, 78, 42, 42, 27, 28, 182, 0, 116, 182, 0, 81, 172]
abbrev dktX4_haul_0 : List UInt8 := dkwX4_haul_0 ++ []
theorem dksX4_haul_0 : cX4_haul.data.toList.drop 0 = dktX4_haul_0 := by decide +kernel
theorem dX4_haul_0 : decode cX4_haul 0 = .ok (.aload_n 0, 1) := dk_42 (dk_at dksX4_haul_0 0 rfl rfl)
theorem dX4_haul_1 : decode cX4_haul 1 = .ok (.invokevirtual 78, 3) := dk_182 0 78 (dk_at dksX4_haul_0 1 rfl rfl)
theorem dX4_haul_4 : decode cX4_haul 4 = .ok (.aload_n 0, 1) := dk_42 (dk_at dksX4_haul_0 4 rfl rfl)
theorem dX4_haul_5 : decode cX4_haul 5 = .ok (.aload_n 0, 1) := dk_42 (dk_at dksX4_haul_0 5 rfl rfl)
theorem dX4_haul_6 : decode cX4_haul 6 = .ok (.iload_n 1, 1) := dk_27 (dk_at dksX4_haul_0 6 rfl rfl)
theorem dX4_haul_7 : decode cX4_haul 7 = .ok (.iload_n 2, 1) := dk_28 (dk_at dksX4_haul_0 7 rfl rfl)
theorem dX4_haul_8 : decode cX4_haul 8 = .ok (.invokevirtual 116, 3) := dk_182 0 116 (dk_at dksX4_haul_0 8 rfl rfl)
theorem dX4_haul_11 : decode cX4_haul 11 = .ok (.invokevirtual 81, 3) := dk_182 0 81 (dk_at dksX4_haul_0 11 rfl rfl)
theorem dX4_haul_14 : decode cX4_haul 14 = .ok (.ireturn, 1) := dk_172 (dk_at dksX4_haul_0 14 rfl rfl)
abbrev cX4_hauls : ByteArray := prog_19_method_36_code
def yX4_hauls : MethodName := ⟨RX4, "hauls", "(II)I"⟩
def dkwX4_hauls_15 : List UInt8 := [180, 0, 7, 16, 67, 28, 96, 2, 79, 42, 21, 5, 182, 0, 75, 172]
abbrev dktX4_hauls_15 : List UInt8 := dkwX4_hauls_15 ++ []
def dkwX4_hauls_14 : List UInt8 := [180, 0, 7, 16, 43, 27, 96, 92, 46, 4, 96, 79, 42, 180, 0, 7, 16, 57, 28, 96, 2, 79, 42]
abbrev dktX4_hauls_14 : List UInt8 := dkwX4_hauls_14 ++ dktX4_hauls_15
def dkwX4_hauls_13 : List UInt8 := [96, 54, 5, 132, 6, 1, 167, 255, 107, 42, 180, 0, 7, 16, 31, 27, 96, 92, 46, 21, 4, 100, 79, 42]
abbrev dktX4_hauls_13 : List UInt8 := dkwX4_hauls_13 ++ dktX4_hauls_14
def dkwX4_hauls_12 : List UInt8 := [96, 79, 42, 180, 0, 7, 6, 6, 29, 104, 96, 21, 6, 96, 92, 46, 21, 8, 100, 79, 21, 5, 21, 8]
abbrev dktX4_hauls_12 : List UInt8 := dkwX4_hauls_12 ++ dktX4_hauls_13
def dkwX4_hauls_11 : List UInt8 := [96, 79, 42, 180, 0, 7, 16, 37, 27, 96, 92, 46, 21, 6, 5, 160, 0, 8, 21, 8, 167, 0, 4, 3]
abbrev dktX4_hauls_11 : List UInt8 := dkwX4_hauls_11 ++ dktX4_hauls_12
def dkwX4_hauls_10 : List UInt8 := [96, 79, 42, 180, 0, 7, 16, 34, 27, 96, 92, 46, 21, 6, 4, 160, 0, 8, 21, 8, 167, 0, 4, 3]
abbrev dktX4_hauls_10 : List UInt8 := dkwX4_hauls_10 ++ dktX4_hauls_11
def dkwX4_hauls_9 : List UInt8 := [180, 0, 7, 16, 108, 92, 46, 21, 7, 96, 79, 42, 180, 0, 7, 16, 109, 92, 46, 21, 7, 21, 8, 100]
abbrev dktX4_hauls_9 : List UInt8 := dkwX4_hauls_9 ++ dktX4_hauls_10
def dkwX4_hauls_8 : List UInt8 := [3, 167, 0, 5, 21, 7, 54, 8, 42, 180, 0, 7, 16, 97, 28, 96, 92, 46, 21, 7, 96, 79, 42]
abbrev dktX4_hauls_8 : List UInt8 := dkwX4_hauls_8 ++ dktX4_hauls_9
def dkwX4_hauls_7 : List UInt8 := [21, 6, 6, 162, 0, 149, 42, 28, 21, 6, 182, 0, 110, 54, 7, 42, 21, 6, 182, 0, 113, 153, 0, 7]
abbrev dktX4_hauls_7 : List UInt8 := dkwX4_hauls_7 ++ dktX4_hauls_8
def dkwX4_hauls_6 : List UInt8 := [7, 21, 4, 42, 180, 0, 7, 16, 31, 27, 96, 46, 100, 5, 182, 0, 88, 172, 3, 54, 5, 3, 54, 6]
abbrev dktX4_hauls_6 : List UInt8 := dkwX4_hauls_6 ++ dktX4_hauls_7
def dkwX4_hauls_5 : List UInt8 := [28, 96, 46, 16, 10, 108, 96, 54, 4, 42, 180, 0, 7, 16, 31, 27, 96, 46, 21, 4, 162, 0, 22, 42]
abbrev dktX4_hauls_5 : List UInt8 := dkwX4_hauls_5 ++ dktX4_hauls_6
def dkwX4_hauls_4 : List UInt8 := [167, 0, 12, 42, 180, 0, 7, 16, 28, 27, 96, 46, 5, 182, 0, 49, 172, 4, 42, 180, 0, 7, 16, 47]
abbrev dktX4_hauls_4 : List UInt8 := dkwX4_hauls_4 ++ dktX4_hauls_5
def dkwX4_hauls_3 : List UInt8 := [46, 2, 160, 0, 7, 8, 167, 0, 4, 5, 42, 180, 0, 7, 16, 28, 27, 96, 46, 2, 160, 0, 7, 27]
abbrev dktX4_hauls_3 : List UInt8 := dkwX4_hauls_3 ++ dktX4_hauls_4
def dkwX4_hauls_2 : List UInt8 := [180, 0, 7, 16, 28, 27, 96, 46, 29, 159, 0, 56, 42, 16, 9, 29, 42, 180, 0, 7, 16, 28, 27, 96]
abbrev dktX4_hauls_2 : List UInt8 := dkwX4_hauls_2 ++ dktX4_hauls_3
def dkwX4_hauls_1 : List UInt8 := [180, 0, 7, 16, 57, 28, 96, 46, 62, 29, 2, 160, 0, 12, 42, 16, 8, 28, 5, 182, 0, 88, 172, 42]
abbrev dktX4_hauls_1 : List UInt8 := dkwX4_hauls_1 ++ dktX4_hauls_2
def dkwX4_hauls_0 : List UInt8 := [42, 27, 182, 0, 92, 153, 0, 11, 42, 28, 182, 0, 95, 154, 0, 9, 42, 4, 182, 0, 68, 172, 42]
abbrev dktX4_hauls_0 : List UInt8 := dkwX4_hauls_0 ++ dktX4_hauls_1
theorem dksX4_hauls_0 : cX4_hauls.data.toList.drop 0 = dktX4_hauls_0 := by decide +kernel
theorem dksX4_hauls_1 : cX4_hauls.data.toList.drop 23 = dktX4_hauls_1 := dk_seg dksX4_hauls_0 23 rfl rfl
theorem dksX4_hauls_2 : cX4_hauls.data.toList.drop 47 = dktX4_hauls_2 := dk_seg dksX4_hauls_1 24 rfl rfl
theorem dksX4_hauls_3 : cX4_hauls.data.toList.drop 71 = dktX4_hauls_3 := dk_seg dksX4_hauls_2 24 rfl rfl
theorem dksX4_hauls_4 : cX4_hauls.data.toList.drop 95 = dktX4_hauls_4 := dk_seg dksX4_hauls_3 24 rfl rfl
theorem dksX4_hauls_5 : cX4_hauls.data.toList.drop 119 = dktX4_hauls_5 := dk_seg dksX4_hauls_4 24 rfl rfl
theorem dksX4_hauls_6 : cX4_hauls.data.toList.drop 143 = dktX4_hauls_6 := dk_seg dksX4_hauls_5 24 rfl rfl
theorem dksX4_hauls_7 : cX4_hauls.data.toList.drop 167 = dktX4_hauls_7 := dk_seg dksX4_hauls_6 24 rfl rfl
theorem dksX4_hauls_8 : cX4_hauls.data.toList.drop 191 = dktX4_hauls_8 := dk_seg dksX4_hauls_7 24 rfl rfl
theorem dksX4_hauls_9 : cX4_hauls.data.toList.drop 214 = dktX4_hauls_9 := dk_seg dksX4_hauls_8 23 rfl rfl
theorem dksX4_hauls_10 : cX4_hauls.data.toList.drop 238 = dktX4_hauls_10 := dk_seg dksX4_hauls_9 24 rfl rfl
theorem dksX4_hauls_11 : cX4_hauls.data.toList.drop 262 = dktX4_hauls_11 := dk_seg dksX4_hauls_10 24 rfl rfl
theorem dksX4_hauls_12 : cX4_hauls.data.toList.drop 286 = dktX4_hauls_12 := dk_seg dksX4_hauls_11 24 rfl rfl
theorem dksX4_hauls_13 : cX4_hauls.data.toList.drop 310 = dktX4_hauls_13 := dk_seg dksX4_hauls_12 24 rfl rfl
theorem dksX4_hauls_14 : cX4_hauls.data.toList.drop 334 = dktX4_hauls_14 := dk_seg dksX4_hauls_13 24 rfl rfl
theorem dksX4_hauls_15 : cX4_hauls.data.toList.drop 357 = dktX4_hauls_15 := dk_seg dksX4_hauls_14 23 rfl rfl
theorem dX4_hauls_0 : decode cX4_hauls 0 = .ok (.aload_n 0, 1) := dk_42 (dk_at dksX4_hauls_0 0 rfl rfl)
theorem dX4_hauls_1 : decode cX4_hauls 1 = .ok (.iload_n 1, 1) := dk_27 (dk_at dksX4_hauls_0 1 rfl rfl)
theorem dX4_hauls_2 : decode cX4_hauls 2 = .ok (.invokevirtual 92, 3) := dk_182 0 92 (dk_at dksX4_hauls_0 2 rfl rfl)
theorem dX4_hauls_5 : decode cX4_hauls 5 = .ok (.ifCond .eq 11, 3) := dk_153 0 11 (dk_at dksX4_hauls_0 5 rfl rfl)
theorem dX4_hauls_8 : decode cX4_hauls 8 = .ok (.aload_n 0, 1) := dk_42 (dk_at dksX4_hauls_0 8 rfl rfl)
theorem dX4_hauls_9 : decode cX4_hauls 9 = .ok (.iload_n 2, 1) := dk_28 (dk_at dksX4_hauls_0 9 rfl rfl)
theorem dX4_hauls_10 : decode cX4_hauls 10 = .ok (.invokevirtual 95, 3) := dk_182 0 95 (dk_at dksX4_hauls_0 10 rfl rfl)
theorem dX4_hauls_13 : decode cX4_hauls 13 = .ok (.ifCond .ne 9, 3) := dk_154 0 9 (dk_at dksX4_hauls_0 13 rfl rfl)
theorem dX4_hauls_16 : decode cX4_hauls 16 = .ok (.aload_n 0, 1) := dk_42 (dk_at dksX4_hauls_0 16 rfl rfl)
theorem dX4_hauls_17 : decode cX4_hauls 17 = .ok (.iconst 1, 1) := dk_4 (dk_at dksX4_hauls_0 17 rfl rfl)
theorem dX4_hauls_18 : decode cX4_hauls 18 = .ok (.invokevirtual 68, 3) := dk_182 0 68 (dk_at dksX4_hauls_0 18 rfl rfl)
theorem dX4_hauls_21 : decode cX4_hauls 21 = .ok (.ireturn, 1) := dk_172 (dk_at dksX4_hauls_0 21 rfl rfl)
theorem dX4_hauls_22 : decode cX4_hauls 22 = .ok (.aload_n 0, 1) := dk_42 (dk_at dksX4_hauls_0 22 rfl rfl)
theorem dX4_hauls_23 : decode cX4_hauls 23 = .ok (.getfield 7, 3) := dk_180 0 7 (dk_at dksX4_hauls_1 0 rfl rfl)
theorem dX4_hauls_26 : decode cX4_hauls 26 = .ok (.bipush 57, 2) := dk_16 57 (dk_at dksX4_hauls_1 3 rfl rfl)
theorem dX4_hauls_28 : decode cX4_hauls 28 = .ok (.iload_n 2, 1) := dk_28 (dk_at dksX4_hauls_1 5 rfl rfl)
theorem dX4_hauls_29 : decode cX4_hauls 29 = .ok (.iadd, 1) := dk_96 (dk_at dksX4_hauls_1 6 rfl rfl)
theorem dX4_hauls_30 : decode cX4_hauls 30 = .ok (.iaload, 1) := dk_46 (dk_at dksX4_hauls_1 7 rfl rfl)
theorem dX4_hauls_31 : decode cX4_hauls 31 = .ok (.istore_n 3, 1) := dk_62 (dk_at dksX4_hauls_1 8 rfl rfl)
theorem dX4_hauls_32 : decode cX4_hauls 32 = .ok (.iload_n 3, 1) := dk_29 (dk_at dksX4_hauls_1 9 rfl rfl)
theorem dX4_hauls_33 : decode cX4_hauls 33 = .ok (.iconst (-1), 1) := dk_2 (dk_at dksX4_hauls_1 10 rfl rfl)
theorem dX4_hauls_34 : decode cX4_hauls 34 = .ok (.if_icmp .ne 12, 3) := dk_160 0 12 (dk_at dksX4_hauls_1 11 rfl rfl)
theorem dX4_hauls_37 : decode cX4_hauls 37 = .ok (.aload_n 0, 1) := dk_42 (dk_at dksX4_hauls_1 14 rfl rfl)
theorem dX4_hauls_38 : decode cX4_hauls 38 = .ok (.bipush 8, 2) := dk_16 8 (dk_at dksX4_hauls_1 15 rfl rfl)
theorem dX4_hauls_40 : decode cX4_hauls 40 = .ok (.iload_n 2, 1) := dk_28 (dk_at dksX4_hauls_1 17 rfl rfl)
theorem dX4_hauls_41 : decode cX4_hauls 41 = .ok (.iconst 2, 1) := dk_5 (dk_at dksX4_hauls_1 18 rfl rfl)
theorem dX4_hauls_42 : decode cX4_hauls 42 = .ok (.invokevirtual 88, 3) := dk_182 0 88 (dk_at dksX4_hauls_1 19 rfl rfl)
theorem dX4_hauls_45 : decode cX4_hauls 45 = .ok (.ireturn, 1) := dk_172 (dk_at dksX4_hauls_1 22 rfl rfl)
theorem dX4_hauls_46 : decode cX4_hauls 46 = .ok (.aload_n 0, 1) := dk_42 (dk_at dksX4_hauls_1 23 rfl rfl)
theorem dX4_hauls_47 : decode cX4_hauls 47 = .ok (.getfield 7, 3) := dk_180 0 7 (dk_at dksX4_hauls_2 0 rfl rfl)
theorem dX4_hauls_50 : decode cX4_hauls 50 = .ok (.bipush 28, 2) := dk_16 28 (dk_at dksX4_hauls_2 3 rfl rfl)
theorem dX4_hauls_52 : decode cX4_hauls 52 = .ok (.iload_n 1, 1) := dk_27 (dk_at dksX4_hauls_2 5 rfl rfl)
theorem dX4_hauls_53 : decode cX4_hauls 53 = .ok (.iadd, 1) := dk_96 (dk_at dksX4_hauls_2 6 rfl rfl)
theorem dX4_hauls_54 : decode cX4_hauls 54 = .ok (.iaload, 1) := dk_46 (dk_at dksX4_hauls_2 7 rfl rfl)
theorem dX4_hauls_55 : decode cX4_hauls 55 = .ok (.iload_n 3, 1) := dk_29 (dk_at dksX4_hauls_2 8 rfl rfl)
theorem dX4_hauls_56 : decode cX4_hauls 56 = .ok (.if_icmp .eq 56, 3) := dk_159 0 56 (dk_at dksX4_hauls_2 9 rfl rfl)
theorem dX4_hauls_59 : decode cX4_hauls 59 = .ok (.aload_n 0, 1) := dk_42 (dk_at dksX4_hauls_2 12 rfl rfl)
theorem dX4_hauls_60 : decode cX4_hauls 60 = .ok (.bipush 9, 2) := dk_16 9 (dk_at dksX4_hauls_2 13 rfl rfl)
theorem dX4_hauls_62 : decode cX4_hauls 62 = .ok (.iload_n 3, 1) := dk_29 (dk_at dksX4_hauls_2 15 rfl rfl)
theorem dX4_hauls_63 : decode cX4_hauls 63 = .ok (.aload_n 0, 1) := dk_42 (dk_at dksX4_hauls_2 16 rfl rfl)
theorem dX4_hauls_64 : decode cX4_hauls 64 = .ok (.getfield 7, 3) := dk_180 0 7 (dk_at dksX4_hauls_2 17 rfl rfl)
theorem dX4_hauls_67 : decode cX4_hauls 67 = .ok (.bipush 28, 2) := dk_16 28 (dk_at dksX4_hauls_2 20 rfl rfl)
theorem dX4_hauls_69 : decode cX4_hauls 69 = .ok (.iload_n 1, 1) := dk_27 (dk_at dksX4_hauls_2 22 rfl rfl)
theorem dX4_hauls_70 : decode cX4_hauls 70 = .ok (.iadd, 1) := dk_96 (dk_at dksX4_hauls_2 23 rfl rfl)
theorem dX4_hauls_71 : decode cX4_hauls 71 = .ok (.iaload, 1) := dk_46 (dk_at dksX4_hauls_3 0 rfl rfl)
theorem dX4_hauls_72 : decode cX4_hauls 72 = .ok (.iconst (-1), 1) := dk_2 (dk_at dksX4_hauls_3 1 rfl rfl)
theorem dX4_hauls_73 : decode cX4_hauls 73 = .ok (.if_icmp .ne 7, 3) := dk_160 0 7 (dk_at dksX4_hauls_3 2 rfl rfl)
theorem dX4_hauls_76 : decode cX4_hauls 76 = .ok (.iconst 5, 1) := dk_8 (dk_at dksX4_hauls_3 5 rfl rfl)
theorem dX4_hauls_77 : decode cX4_hauls 77 = .ok (.goto 4, 3) := dk_167 0 4 (dk_at dksX4_hauls_3 6 rfl rfl)
theorem dX4_hauls_80 : decode cX4_hauls 80 = .ok (.iconst 2, 1) := dk_5 (dk_at dksX4_hauls_3 9 rfl rfl)
theorem dX4_hauls_81 : decode cX4_hauls 81 = .ok (.aload_n 0, 1) := dk_42 (dk_at dksX4_hauls_3 10 rfl rfl)
theorem dX4_hauls_82 : decode cX4_hauls 82 = .ok (.getfield 7, 3) := dk_180 0 7 (dk_at dksX4_hauls_3 11 rfl rfl)
theorem dX4_hauls_85 : decode cX4_hauls 85 = .ok (.bipush 28, 2) := dk_16 28 (dk_at dksX4_hauls_3 14 rfl rfl)
theorem dX4_hauls_87 : decode cX4_hauls 87 = .ok (.iload_n 1, 1) := dk_27 (dk_at dksX4_hauls_3 16 rfl rfl)
theorem dX4_hauls_88 : decode cX4_hauls 88 = .ok (.iadd, 1) := dk_96 (dk_at dksX4_hauls_3 17 rfl rfl)
theorem dX4_hauls_89 : decode cX4_hauls 89 = .ok (.iaload, 1) := dk_46 (dk_at dksX4_hauls_3 18 rfl rfl)
theorem dX4_hauls_90 : decode cX4_hauls 90 = .ok (.iconst (-1), 1) := dk_2 (dk_at dksX4_hauls_3 19 rfl rfl)
theorem dX4_hauls_91 : decode cX4_hauls 91 = .ok (.if_icmp .ne 7, 3) := dk_160 0 7 (dk_at dksX4_hauls_3 20 rfl rfl)
theorem dX4_hauls_94 : decode cX4_hauls 94 = .ok (.iload_n 1, 1) := dk_27 (dk_at dksX4_hauls_3 23 rfl rfl)
theorem dX4_hauls_95 : decode cX4_hauls 95 = .ok (.goto 12, 3) := dk_167 0 12 (dk_at dksX4_hauls_4 0 rfl rfl)
theorem dX4_hauls_98 : decode cX4_hauls 98 = .ok (.aload_n 0, 1) := dk_42 (dk_at dksX4_hauls_4 3 rfl rfl)
theorem dX4_hauls_99 : decode cX4_hauls 99 = .ok (.getfield 7, 3) := dk_180 0 7 (dk_at dksX4_hauls_4 4 rfl rfl)
theorem dX4_hauls_102 : decode cX4_hauls 102 = .ok (.bipush 28, 2) := dk_16 28 (dk_at dksX4_hauls_4 7 rfl rfl)
theorem dX4_hauls_104 : decode cX4_hauls 104 = .ok (.iload_n 1, 1) := dk_27 (dk_at dksX4_hauls_4 9 rfl rfl)
theorem dX4_hauls_105 : decode cX4_hauls 105 = .ok (.iadd, 1) := dk_96 (dk_at dksX4_hauls_4 10 rfl rfl)
theorem dX4_hauls_106 : decode cX4_hauls 106 = .ok (.iaload, 1) := dk_46 (dk_at dksX4_hauls_4 11 rfl rfl)
theorem dX4_hauls_107 : decode cX4_hauls 107 = .ok (.iconst 2, 1) := dk_5 (dk_at dksX4_hauls_4 12 rfl rfl)
theorem dX4_hauls_108 : decode cX4_hauls 108 = .ok (.invokevirtual 49, 3) := dk_182 0 49 (dk_at dksX4_hauls_4 13 rfl rfl)
theorem dX4_hauls_111 : decode cX4_hauls 111 = .ok (.ireturn, 1) := dk_172 (dk_at dksX4_hauls_4 16 rfl rfl)
theorem dX4_hauls_112 : decode cX4_hauls 112 = .ok (.iconst 1, 1) := dk_4 (dk_at dksX4_hauls_4 17 rfl rfl)
theorem dX4_hauls_113 : decode cX4_hauls 113 = .ok (.aload_n 0, 1) := dk_42 (dk_at dksX4_hauls_4 18 rfl rfl)
theorem dX4_hauls_114 : decode cX4_hauls 114 = .ok (.getfield 7, 3) := dk_180 0 7 (dk_at dksX4_hauls_4 19 rfl rfl)
theorem dX4_hauls_117 : decode cX4_hauls 117 = .ok (.bipush 47, 2) := dk_16 47 (dk_at dksX4_hauls_4 22 rfl rfl)
theorem dX4_hauls_119 : decode cX4_hauls 119 = .ok (.iload_n 2, 1) := dk_28 (dk_at dksX4_hauls_5 0 rfl rfl)
theorem dX4_hauls_120 : decode cX4_hauls 120 = .ok (.iadd, 1) := dk_96 (dk_at dksX4_hauls_5 1 rfl rfl)
theorem dX4_hauls_121 : decode cX4_hauls 121 = .ok (.iaload, 1) := dk_46 (dk_at dksX4_hauls_5 2 rfl rfl)
theorem dX4_hauls_122 : decode cX4_hauls 122 = .ok (.bipush 10, 2) := dk_16 10 (dk_at dksX4_hauls_5 3 rfl rfl)
theorem dX4_hauls_124 : decode cX4_hauls 124 = .ok (.idiv, 1) := dk_108 (dk_at dksX4_hauls_5 5 rfl rfl)
theorem dX4_hauls_125 : decode cX4_hauls 125 = .ok (.iadd, 1) := dk_96 (dk_at dksX4_hauls_5 6 rfl rfl)
theorem dX4_hauls_126 : decode cX4_hauls 126 = .ok (.istore 4, 2) := dk_54 4 (dk_at dksX4_hauls_5 7 rfl rfl)
theorem dX4_hauls_128 : decode cX4_hauls 128 = .ok (.aload_n 0, 1) := dk_42 (dk_at dksX4_hauls_5 9 rfl rfl)
theorem dX4_hauls_129 : decode cX4_hauls 129 = .ok (.getfield 7, 3) := dk_180 0 7 (dk_at dksX4_hauls_5 10 rfl rfl)
theorem dX4_hauls_132 : decode cX4_hauls 132 = .ok (.bipush 31, 2) := dk_16 31 (dk_at dksX4_hauls_5 13 rfl rfl)
theorem dX4_hauls_134 : decode cX4_hauls 134 = .ok (.iload_n 1, 1) := dk_27 (dk_at dksX4_hauls_5 15 rfl rfl)
theorem dX4_hauls_135 : decode cX4_hauls 135 = .ok (.iadd, 1) := dk_96 (dk_at dksX4_hauls_5 16 rfl rfl)
theorem dX4_hauls_136 : decode cX4_hauls 136 = .ok (.iaload, 1) := dk_46 (dk_at dksX4_hauls_5 17 rfl rfl)
theorem dX4_hauls_137 : decode cX4_hauls 137 = .ok (.iload 4, 2) := dk_21 4 (dk_at dksX4_hauls_5 18 rfl rfl)
theorem dX4_hauls_139 : decode cX4_hauls 139 = .ok (.if_icmp .ge 22, 3) := dk_162 0 22 (dk_at dksX4_hauls_5 20 rfl rfl)
theorem dX4_hauls_142 : decode cX4_hauls 142 = .ok (.aload_n 0, 1) := dk_42 (dk_at dksX4_hauls_5 23 rfl rfl)
theorem dX4_hauls_143 : decode cX4_hauls 143 = .ok (.iconst 4, 1) := dk_7 (dk_at dksX4_hauls_6 0 rfl rfl)
theorem dX4_hauls_144 : decode cX4_hauls 144 = .ok (.iload 4, 2) := dk_21 4 (dk_at dksX4_hauls_6 1 rfl rfl)
theorem dX4_hauls_146 : decode cX4_hauls 146 = .ok (.aload_n 0, 1) := dk_42 (dk_at dksX4_hauls_6 3 rfl rfl)
theorem dX4_hauls_147 : decode cX4_hauls 147 = .ok (.getfield 7, 3) := dk_180 0 7 (dk_at dksX4_hauls_6 4 rfl rfl)
theorem dX4_hauls_150 : decode cX4_hauls 150 = .ok (.bipush 31, 2) := dk_16 31 (dk_at dksX4_hauls_6 7 rfl rfl)
theorem dX4_hauls_152 : decode cX4_hauls 152 = .ok (.iload_n 1, 1) := dk_27 (dk_at dksX4_hauls_6 9 rfl rfl)
theorem dX4_hauls_153 : decode cX4_hauls 153 = .ok (.iadd, 1) := dk_96 (dk_at dksX4_hauls_6 10 rfl rfl)
theorem dX4_hauls_154 : decode cX4_hauls 154 = .ok (.iaload, 1) := dk_46 (dk_at dksX4_hauls_6 11 rfl rfl)
theorem dX4_hauls_155 : decode cX4_hauls 155 = .ok (.isub, 1) := dk_100 (dk_at dksX4_hauls_6 12 rfl rfl)
theorem dX4_hauls_156 : decode cX4_hauls 156 = .ok (.iconst 2, 1) := dk_5 (dk_at dksX4_hauls_6 13 rfl rfl)
theorem dX4_hauls_157 : decode cX4_hauls 157 = .ok (.invokevirtual 88, 3) := dk_182 0 88 (dk_at dksX4_hauls_6 14 rfl rfl)
theorem dX4_hauls_160 : decode cX4_hauls 160 = .ok (.ireturn, 1) := dk_172 (dk_at dksX4_hauls_6 17 rfl rfl)
theorem dX4_hauls_161 : decode cX4_hauls 161 = .ok (.iconst 0, 1) := dk_3 (dk_at dksX4_hauls_6 18 rfl rfl)
theorem dX4_hauls_162 : decode cX4_hauls 162 = .ok (.istore 5, 2) := dk_54 5 (dk_at dksX4_hauls_6 19 rfl rfl)
theorem dX4_hauls_164 : decode cX4_hauls 164 = .ok (.iconst 0, 1) := dk_3 (dk_at dksX4_hauls_6 21 rfl rfl)
theorem dX4_hauls_165 : decode cX4_hauls 165 = .ok (.istore 6, 2) := dk_54 6 (dk_at dksX4_hauls_6 22 rfl rfl)
theorem dX4_hauls_167 : decode cX4_hauls 167 = .ok (.iload 6, 2) := dk_21 6 (dk_at dksX4_hauls_7 0 rfl rfl)
theorem dX4_hauls_169 : decode cX4_hauls 169 = .ok (.iconst 3, 1) := dk_6 (dk_at dksX4_hauls_7 2 rfl rfl)
theorem dX4_hauls_170 : decode cX4_hauls 170 = .ok (.if_icmp .ge 149, 3) := dk_162 0 149 (dk_at dksX4_hauls_7 3 rfl rfl)
theorem dX4_hauls_173 : decode cX4_hauls 173 = .ok (.aload_n 0, 1) := dk_42 (dk_at dksX4_hauls_7 6 rfl rfl)
theorem dX4_hauls_174 : decode cX4_hauls 174 = .ok (.iload_n 2, 1) := dk_28 (dk_at dksX4_hauls_7 7 rfl rfl)
theorem dX4_hauls_175 : decode cX4_hauls 175 = .ok (.iload 6, 2) := dk_21 6 (dk_at dksX4_hauls_7 8 rfl rfl)
theorem dX4_hauls_177 : decode cX4_hauls 177 = .ok (.invokevirtual 110, 3) := dk_182 0 110 (dk_at dksX4_hauls_7 10 rfl rfl)
theorem dX4_hauls_180 : decode cX4_hauls 180 = .ok (.istore 7, 2) := dk_54 7 (dk_at dksX4_hauls_7 13 rfl rfl)
theorem dX4_hauls_182 : decode cX4_hauls 182 = .ok (.aload_n 0, 1) := dk_42 (dk_at dksX4_hauls_7 15 rfl rfl)
theorem dX4_hauls_183 : decode cX4_hauls 183 = .ok (.iload 6, 2) := dk_21 6 (dk_at dksX4_hauls_7 16 rfl rfl)
theorem dX4_hauls_185 : decode cX4_hauls 185 = .ok (.invokevirtual 113, 3) := dk_182 0 113 (dk_at dksX4_hauls_7 18 rfl rfl)
theorem dX4_hauls_188 : decode cX4_hauls 188 = .ok (.ifCond .eq 7, 3) := dk_153 0 7 (dk_at dksX4_hauls_7 21 rfl rfl)
theorem dX4_hauls_191 : decode cX4_hauls 191 = .ok (.iconst 0, 1) := dk_3 (dk_at dksX4_hauls_8 0 rfl rfl)
theorem dX4_hauls_192 : decode cX4_hauls 192 = .ok (.goto 5, 3) := dk_167 0 5 (dk_at dksX4_hauls_8 1 rfl rfl)
theorem dX4_hauls_195 : decode cX4_hauls 195 = .ok (.iload 7, 2) := dk_21 7 (dk_at dksX4_hauls_8 4 rfl rfl)
theorem dX4_hauls_197 : decode cX4_hauls 197 = .ok (.istore 8, 2) := dk_54 8 (dk_at dksX4_hauls_8 6 rfl rfl)
theorem dX4_hauls_199 : decode cX4_hauls 199 = .ok (.aload_n 0, 1) := dk_42 (dk_at dksX4_hauls_8 8 rfl rfl)
theorem dX4_hauls_200 : decode cX4_hauls 200 = .ok (.getfield 7, 3) := dk_180 0 7 (dk_at dksX4_hauls_8 9 rfl rfl)
theorem dX4_hauls_203 : decode cX4_hauls 203 = .ok (.bipush 97, 2) := dk_16 97 (dk_at dksX4_hauls_8 12 rfl rfl)
theorem dX4_hauls_205 : decode cX4_hauls 205 = .ok (.iload_n 2, 1) := dk_28 (dk_at dksX4_hauls_8 14 rfl rfl)
theorem dX4_hauls_206 : decode cX4_hauls 206 = .ok (.iadd, 1) := dk_96 (dk_at dksX4_hauls_8 15 rfl rfl)
theorem dX4_hauls_207 : decode cX4_hauls 207 = .ok (.dup2, 1) := dk_92 (dk_at dksX4_hauls_8 16 rfl rfl)
theorem dX4_hauls_208 : decode cX4_hauls 208 = .ok (.iaload, 1) := dk_46 (dk_at dksX4_hauls_8 17 rfl rfl)
theorem dX4_hauls_209 : decode cX4_hauls 209 = .ok (.iload 7, 2) := dk_21 7 (dk_at dksX4_hauls_8 18 rfl rfl)
theorem dX4_hauls_211 : decode cX4_hauls 211 = .ok (.iadd, 1) := dk_96 (dk_at dksX4_hauls_8 20 rfl rfl)
theorem dX4_hauls_212 : decode cX4_hauls 212 = .ok (.iastore, 1) := dk_79 (dk_at dksX4_hauls_8 21 rfl rfl)
theorem dX4_hauls_213 : decode cX4_hauls 213 = .ok (.aload_n 0, 1) := dk_42 (dk_at dksX4_hauls_8 22 rfl rfl)
theorem dX4_hauls_214 : decode cX4_hauls 214 = .ok (.getfield 7, 3) := dk_180 0 7 (dk_at dksX4_hauls_9 0 rfl rfl)
theorem dX4_hauls_217 : decode cX4_hauls 217 = .ok (.bipush 108, 2) := dk_16 108 (dk_at dksX4_hauls_9 3 rfl rfl)
theorem dX4_hauls_219 : decode cX4_hauls 219 = .ok (.dup2, 1) := dk_92 (dk_at dksX4_hauls_9 5 rfl rfl)
theorem dX4_hauls_220 : decode cX4_hauls 220 = .ok (.iaload, 1) := dk_46 (dk_at dksX4_hauls_9 6 rfl rfl)
theorem dX4_hauls_221 : decode cX4_hauls 221 = .ok (.iload 7, 2) := dk_21 7 (dk_at dksX4_hauls_9 7 rfl rfl)
theorem dX4_hauls_223 : decode cX4_hauls 223 = .ok (.iadd, 1) := dk_96 (dk_at dksX4_hauls_9 9 rfl rfl)
theorem dX4_hauls_224 : decode cX4_hauls 224 = .ok (.iastore, 1) := dk_79 (dk_at dksX4_hauls_9 10 rfl rfl)
theorem dX4_hauls_225 : decode cX4_hauls 225 = .ok (.aload_n 0, 1) := dk_42 (dk_at dksX4_hauls_9 11 rfl rfl)
theorem dX4_hauls_226 : decode cX4_hauls 226 = .ok (.getfield 7, 3) := dk_180 0 7 (dk_at dksX4_hauls_9 12 rfl rfl)
theorem dX4_hauls_229 : decode cX4_hauls 229 = .ok (.bipush 109, 2) := dk_16 109 (dk_at dksX4_hauls_9 15 rfl rfl)
theorem dX4_hauls_231 : decode cX4_hauls 231 = .ok (.dup2, 1) := dk_92 (dk_at dksX4_hauls_9 17 rfl rfl)
theorem dX4_hauls_232 : decode cX4_hauls 232 = .ok (.iaload, 1) := dk_46 (dk_at dksX4_hauls_9 18 rfl rfl)
theorem dX4_hauls_233 : decode cX4_hauls 233 = .ok (.iload 7, 2) := dk_21 7 (dk_at dksX4_hauls_9 19 rfl rfl)
theorem dX4_hauls_235 : decode cX4_hauls 235 = .ok (.iload 8, 2) := dk_21 8 (dk_at dksX4_hauls_9 21 rfl rfl)
theorem dX4_hauls_237 : decode cX4_hauls 237 = .ok (.isub, 1) := dk_100 (dk_at dksX4_hauls_9 23 rfl rfl)
theorem dX4_hauls_238 : decode cX4_hauls 238 = .ok (.iadd, 1) := dk_96 (dk_at dksX4_hauls_10 0 rfl rfl)
theorem dX4_hauls_239 : decode cX4_hauls 239 = .ok (.iastore, 1) := dk_79 (dk_at dksX4_hauls_10 1 rfl rfl)
theorem dX4_hauls_240 : decode cX4_hauls 240 = .ok (.aload_n 0, 1) := dk_42 (dk_at dksX4_hauls_10 2 rfl rfl)
theorem dX4_hauls_241 : decode cX4_hauls 241 = .ok (.getfield 7, 3) := dk_180 0 7 (dk_at dksX4_hauls_10 3 rfl rfl)
theorem dX4_hauls_244 : decode cX4_hauls 244 = .ok (.bipush 34, 2) := dk_16 34 (dk_at dksX4_hauls_10 6 rfl rfl)
theorem dX4_hauls_246 : decode cX4_hauls 246 = .ok (.iload_n 1, 1) := dk_27 (dk_at dksX4_hauls_10 8 rfl rfl)
theorem dX4_hauls_247 : decode cX4_hauls 247 = .ok (.iadd, 1) := dk_96 (dk_at dksX4_hauls_10 9 rfl rfl)
theorem dX4_hauls_248 : decode cX4_hauls 248 = .ok (.dup2, 1) := dk_92 (dk_at dksX4_hauls_10 10 rfl rfl)
theorem dX4_hauls_249 : decode cX4_hauls 249 = .ok (.iaload, 1) := dk_46 (dk_at dksX4_hauls_10 11 rfl rfl)
theorem dX4_hauls_250 : decode cX4_hauls 250 = .ok (.iload 6, 2) := dk_21 6 (dk_at dksX4_hauls_10 12 rfl rfl)
theorem dX4_hauls_252 : decode cX4_hauls 252 = .ok (.iconst 1, 1) := dk_4 (dk_at dksX4_hauls_10 14 rfl rfl)
theorem dX4_hauls_253 : decode cX4_hauls 253 = .ok (.if_icmp .ne 8, 3) := dk_160 0 8 (dk_at dksX4_hauls_10 15 rfl rfl)
theorem dX4_hauls_256 : decode cX4_hauls 256 = .ok (.iload 8, 2) := dk_21 8 (dk_at dksX4_hauls_10 18 rfl rfl)
theorem dX4_hauls_258 : decode cX4_hauls 258 = .ok (.goto 4, 3) := dk_167 0 4 (dk_at dksX4_hauls_10 20 rfl rfl)
theorem dX4_hauls_261 : decode cX4_hauls 261 = .ok (.iconst 0, 1) := dk_3 (dk_at dksX4_hauls_10 23 rfl rfl)
theorem dX4_hauls_262 : decode cX4_hauls 262 = .ok (.iadd, 1) := dk_96 (dk_at dksX4_hauls_11 0 rfl rfl)
theorem dX4_hauls_263 : decode cX4_hauls 263 = .ok (.iastore, 1) := dk_79 (dk_at dksX4_hauls_11 1 rfl rfl)
theorem dX4_hauls_264 : decode cX4_hauls 264 = .ok (.aload_n 0, 1) := dk_42 (dk_at dksX4_hauls_11 2 rfl rfl)
theorem dX4_hauls_265 : decode cX4_hauls 265 = .ok (.getfield 7, 3) := dk_180 0 7 (dk_at dksX4_hauls_11 3 rfl rfl)
theorem dX4_hauls_268 : decode cX4_hauls 268 = .ok (.bipush 37, 2) := dk_16 37 (dk_at dksX4_hauls_11 6 rfl rfl)
theorem dX4_hauls_270 : decode cX4_hauls 270 = .ok (.iload_n 1, 1) := dk_27 (dk_at dksX4_hauls_11 8 rfl rfl)
theorem dX4_hauls_271 : decode cX4_hauls 271 = .ok (.iadd, 1) := dk_96 (dk_at dksX4_hauls_11 9 rfl rfl)
theorem dX4_hauls_272 : decode cX4_hauls 272 = .ok (.dup2, 1) := dk_92 (dk_at dksX4_hauls_11 10 rfl rfl)
theorem dX4_hauls_273 : decode cX4_hauls 273 = .ok (.iaload, 1) := dk_46 (dk_at dksX4_hauls_11 11 rfl rfl)
theorem dX4_hauls_274 : decode cX4_hauls 274 = .ok (.iload 6, 2) := dk_21 6 (dk_at dksX4_hauls_11 12 rfl rfl)
theorem dX4_hauls_276 : decode cX4_hauls 276 = .ok (.iconst 2, 1) := dk_5 (dk_at dksX4_hauls_11 14 rfl rfl)
theorem dX4_hauls_277 : decode cX4_hauls 277 = .ok (.if_icmp .ne 8, 3) := dk_160 0 8 (dk_at dksX4_hauls_11 15 rfl rfl)
theorem dX4_hauls_280 : decode cX4_hauls 280 = .ok (.iload 8, 2) := dk_21 8 (dk_at dksX4_hauls_11 18 rfl rfl)
theorem dX4_hauls_282 : decode cX4_hauls 282 = .ok (.goto 4, 3) := dk_167 0 4 (dk_at dksX4_hauls_11 20 rfl rfl)
theorem dX4_hauls_285 : decode cX4_hauls 285 = .ok (.iconst 0, 1) := dk_3 (dk_at dksX4_hauls_11 23 rfl rfl)
theorem dX4_hauls_286 : decode cX4_hauls 286 = .ok (.iadd, 1) := dk_96 (dk_at dksX4_hauls_12 0 rfl rfl)
theorem dX4_hauls_287 : decode cX4_hauls 287 = .ok (.iastore, 1) := dk_79 (dk_at dksX4_hauls_12 1 rfl rfl)
theorem dX4_hauls_288 : decode cX4_hauls 288 = .ok (.aload_n 0, 1) := dk_42 (dk_at dksX4_hauls_12 2 rfl rfl)
theorem dX4_hauls_289 : decode cX4_hauls 289 = .ok (.getfield 7, 3) := dk_180 0 7 (dk_at dksX4_hauls_12 3 rfl rfl)
theorem dX4_hauls_292 : decode cX4_hauls 292 = .ok (.iconst 3, 1) := dk_6 (dk_at dksX4_hauls_12 6 rfl rfl)
theorem dX4_hauls_293 : decode cX4_hauls 293 = .ok (.iconst 3, 1) := dk_6 (dk_at dksX4_hauls_12 7 rfl rfl)
theorem dX4_hauls_294 : decode cX4_hauls 294 = .ok (.iload_n 3, 1) := dk_29 (dk_at dksX4_hauls_12 8 rfl rfl)
theorem dX4_hauls_295 : decode cX4_hauls 295 = .ok (.imul, 1) := dk_104 (dk_at dksX4_hauls_12 9 rfl rfl)
theorem dX4_hauls_296 : decode cX4_hauls 296 = .ok (.iadd, 1) := dk_96 (dk_at dksX4_hauls_12 10 rfl rfl)
theorem dX4_hauls_297 : decode cX4_hauls 297 = .ok (.iload 6, 2) := dk_21 6 (dk_at dksX4_hauls_12 11 rfl rfl)
theorem dX4_hauls_299 : decode cX4_hauls 299 = .ok (.iadd, 1) := dk_96 (dk_at dksX4_hauls_12 13 rfl rfl)
theorem dX4_hauls_300 : decode cX4_hauls 300 = .ok (.dup2, 1) := dk_92 (dk_at dksX4_hauls_12 14 rfl rfl)
theorem dX4_hauls_301 : decode cX4_hauls 301 = .ok (.iaload, 1) := dk_46 (dk_at dksX4_hauls_12 15 rfl rfl)
theorem dX4_hauls_302 : decode cX4_hauls 302 = .ok (.iload 8, 2) := dk_21 8 (dk_at dksX4_hauls_12 16 rfl rfl)
theorem dX4_hauls_304 : decode cX4_hauls 304 = .ok (.isub, 1) := dk_100 (dk_at dksX4_hauls_12 18 rfl rfl)
theorem dX4_hauls_305 : decode cX4_hauls 305 = .ok (.iastore, 1) := dk_79 (dk_at dksX4_hauls_12 19 rfl rfl)
theorem dX4_hauls_306 : decode cX4_hauls 306 = .ok (.iload 5, 2) := dk_21 5 (dk_at dksX4_hauls_12 20 rfl rfl)
theorem dX4_hauls_308 : decode cX4_hauls 308 = .ok (.iload 8, 2) := dk_21 8 (dk_at dksX4_hauls_12 22 rfl rfl)
theorem dX4_hauls_310 : decode cX4_hauls 310 = .ok (.iadd, 1) := dk_96 (dk_at dksX4_hauls_13 0 rfl rfl)
theorem dX4_hauls_311 : decode cX4_hauls 311 = .ok (.istore 5, 2) := dk_54 5 (dk_at dksX4_hauls_13 1 rfl rfl)
theorem dX4_hauls_313 : decode cX4_hauls 313 = .ok (.iinc 6 1, 3) := dk_132 6 1 (dk_at dksX4_hauls_13 3 rfl rfl)
theorem dX4_hauls_316 : decode cX4_hauls 316 = .ok (.goto (-149), 3) := dk_167 255 107 (dk_at dksX4_hauls_13 6 rfl rfl)
theorem dX4_hauls_319 : decode cX4_hauls 319 = .ok (.aload_n 0, 1) := dk_42 (dk_at dksX4_hauls_13 9 rfl rfl)
theorem dX4_hauls_320 : decode cX4_hauls 320 = .ok (.getfield 7, 3) := dk_180 0 7 (dk_at dksX4_hauls_13 10 rfl rfl)
theorem dX4_hauls_323 : decode cX4_hauls 323 = .ok (.bipush 31, 2) := dk_16 31 (dk_at dksX4_hauls_13 13 rfl rfl)
theorem dX4_hauls_325 : decode cX4_hauls 325 = .ok (.iload_n 1, 1) := dk_27 (dk_at dksX4_hauls_13 15 rfl rfl)
theorem dX4_hauls_326 : decode cX4_hauls 326 = .ok (.iadd, 1) := dk_96 (dk_at dksX4_hauls_13 16 rfl rfl)
theorem dX4_hauls_327 : decode cX4_hauls 327 = .ok (.dup2, 1) := dk_92 (dk_at dksX4_hauls_13 17 rfl rfl)
theorem dX4_hauls_328 : decode cX4_hauls 328 = .ok (.iaload, 1) := dk_46 (dk_at dksX4_hauls_13 18 rfl rfl)
theorem dX4_hauls_329 : decode cX4_hauls 329 = .ok (.iload 4, 2) := dk_21 4 (dk_at dksX4_hauls_13 19 rfl rfl)
theorem dX4_hauls_331 : decode cX4_hauls 331 = .ok (.isub, 1) := dk_100 (dk_at dksX4_hauls_13 21 rfl rfl)
theorem dX4_hauls_332 : decode cX4_hauls 332 = .ok (.iastore, 1) := dk_79 (dk_at dksX4_hauls_13 22 rfl rfl)
theorem dX4_hauls_333 : decode cX4_hauls 333 = .ok (.aload_n 0, 1) := dk_42 (dk_at dksX4_hauls_13 23 rfl rfl)
theorem dX4_hauls_334 : decode cX4_hauls 334 = .ok (.getfield 7, 3) := dk_180 0 7 (dk_at dksX4_hauls_14 0 rfl rfl)
theorem dX4_hauls_337 : decode cX4_hauls 337 = .ok (.bipush 43, 2) := dk_16 43 (dk_at dksX4_hauls_14 3 rfl rfl)
theorem dX4_hauls_339 : decode cX4_hauls 339 = .ok (.iload_n 1, 1) := dk_27 (dk_at dksX4_hauls_14 5 rfl rfl)
theorem dX4_hauls_340 : decode cX4_hauls 340 = .ok (.iadd, 1) := dk_96 (dk_at dksX4_hauls_14 6 rfl rfl)
theorem dX4_hauls_341 : decode cX4_hauls 341 = .ok (.dup2, 1) := dk_92 (dk_at dksX4_hauls_14 7 rfl rfl)
theorem dX4_hauls_342 : decode cX4_hauls 342 = .ok (.iaload, 1) := dk_46 (dk_at dksX4_hauls_14 8 rfl rfl)
theorem dX4_hauls_343 : decode cX4_hauls 343 = .ok (.iconst 1, 1) := dk_4 (dk_at dksX4_hauls_14 9 rfl rfl)
theorem dX4_hauls_344 : decode cX4_hauls 344 = .ok (.iadd, 1) := dk_96 (dk_at dksX4_hauls_14 10 rfl rfl)
theorem dX4_hauls_345 : decode cX4_hauls 345 = .ok (.iastore, 1) := dk_79 (dk_at dksX4_hauls_14 11 rfl rfl)
theorem dX4_hauls_346 : decode cX4_hauls 346 = .ok (.aload_n 0, 1) := dk_42 (dk_at dksX4_hauls_14 12 rfl rfl)
theorem dX4_hauls_347 : decode cX4_hauls 347 = .ok (.getfield 7, 3) := dk_180 0 7 (dk_at dksX4_hauls_14 13 rfl rfl)
theorem dX4_hauls_350 : decode cX4_hauls 350 = .ok (.bipush 57, 2) := dk_16 57 (dk_at dksX4_hauls_14 16 rfl rfl)
theorem dX4_hauls_352 : decode cX4_hauls 352 = .ok (.iload_n 2, 1) := dk_28 (dk_at dksX4_hauls_14 18 rfl rfl)
theorem dX4_hauls_353 : decode cX4_hauls 353 = .ok (.iadd, 1) := dk_96 (dk_at dksX4_hauls_14 19 rfl rfl)
theorem dX4_hauls_354 : decode cX4_hauls 354 = .ok (.iconst (-1), 1) := dk_2 (dk_at dksX4_hauls_14 20 rfl rfl)
theorem dX4_hauls_355 : decode cX4_hauls 355 = .ok (.iastore, 1) := dk_79 (dk_at dksX4_hauls_14 21 rfl rfl)
theorem dX4_hauls_356 : decode cX4_hauls 356 = .ok (.aload_n 0, 1) := dk_42 (dk_at dksX4_hauls_14 22 rfl rfl)
theorem dX4_hauls_357 : decode cX4_hauls 357 = .ok (.getfield 7, 3) := dk_180 0 7 (dk_at dksX4_hauls_15 0 rfl rfl)
theorem dX4_hauls_360 : decode cX4_hauls 360 = .ok (.bipush 67, 2) := dk_16 67 (dk_at dksX4_hauls_15 3 rfl rfl)
theorem dX4_hauls_362 : decode cX4_hauls 362 = .ok (.iload_n 2, 1) := dk_28 (dk_at dksX4_hauls_15 5 rfl rfl)
theorem dX4_hauls_363 : decode cX4_hauls 363 = .ok (.iadd, 1) := dk_96 (dk_at dksX4_hauls_15 6 rfl rfl)
theorem dX4_hauls_364 : decode cX4_hauls 364 = .ok (.iconst (-1), 1) := dk_2 (dk_at dksX4_hauls_15 7 rfl rfl)
theorem dX4_hauls_365 : decode cX4_hauls 365 = .ok (.iastore, 1) := dk_79 (dk_at dksX4_hauls_15 8 rfl rfl)
theorem dX4_hauls_366 : decode cX4_hauls 366 = .ok (.aload_n 0, 1) := dk_42 (dk_at dksX4_hauls_15 9 rfl rfl)
theorem dX4_hauls_367 : decode cX4_hauls 367 = .ok (.iload 5, 2) := dk_21 5 (dk_at dksX4_hauls_15 10 rfl rfl)
theorem dX4_hauls_369 : decode cX4_hauls 369 = .ok (.invokevirtual 75, 3) := dk_182 0 75 (dk_at dksX4_hauls_15 12 rfl rfl)
theorem dX4_hauls_372 : decode cX4_hauls 372 = .ok (.ireturn, 1) := dk_172 (dk_at dksX4_hauls_15 15 rfl rfl)
abbrev cX4_drawsOf : ByteArray := prog_19_method_34_code
def yX4_drawsOf : MethodName := ⟨RX4, "drawsOf", "(II)I"⟩
def dkwX4_drawsOf_3 : List UInt8 := [104, 96, 28, 96, 46, 54, 5, 21, 4, 21, 5, 162, 0, 8, 21, 4, 167, 0, 5, 21, 5, 172]
abbrev dktX4_drawsOf_3 : List UInt8 := dkwX4_drawsOf_3 ++ []
def dkwX4_drawsOf_2 : List UInt8 := [167, 0, 7, 29, 16, 6, 108, 54, 4, 42, 180, 0, 7, 6, 6, 42, 180, 0, 7, 16, 57, 27, 96, 46]
abbrev dktX4_drawsOf_2 : List UInt8 := dkwX4_drawsOf_2 ++ dktX4_drawsOf_3
def dkwX4_drawsOf_1 : List UInt8 := [184, 0, 84, 104, 62, 28, 154, 0, 9, 29, 5, 108, 167, 0, 18, 28, 4, 160, 0, 9, 29, 6, 108]
abbrev dktX4_drawsOf_1 : List UInt8 := dkwX4_drawsOf_1 ++ dktX4_drawsOf_2
def dkwX4_drawsOf_0 : List UInt8 := [42, 180, 0, 7, 16, 47, 27, 96, 46, 42, 180, 0, 7, 16, 67, 27, 96, 46, 42, 27, 182, 0, 98]
abbrev dktX4_drawsOf_0 : List UInt8 := dkwX4_drawsOf_0 ++ dktX4_drawsOf_1
theorem dksX4_drawsOf_0 : cX4_drawsOf.data.toList.drop 0 = dktX4_drawsOf_0 := by decide +kernel
theorem dksX4_drawsOf_1 : cX4_drawsOf.data.toList.drop 23 = dktX4_drawsOf_1 := dk_seg dksX4_drawsOf_0 23 rfl rfl
theorem dksX4_drawsOf_2 : cX4_drawsOf.data.toList.drop 46 = dktX4_drawsOf_2 := dk_seg dksX4_drawsOf_1 23 rfl rfl
theorem dksX4_drawsOf_3 : cX4_drawsOf.data.toList.drop 70 = dktX4_drawsOf_3 := dk_seg dksX4_drawsOf_2 24 rfl rfl
theorem dX4_drawsOf_0 : decode cX4_drawsOf 0 = .ok (.aload_n 0, 1) := dk_42 (dk_at dksX4_drawsOf_0 0 rfl rfl)
theorem dX4_drawsOf_1 : decode cX4_drawsOf 1 = .ok (.getfield 7, 3) := dk_180 0 7 (dk_at dksX4_drawsOf_0 1 rfl rfl)
theorem dX4_drawsOf_4 : decode cX4_drawsOf 4 = .ok (.bipush 47, 2) := dk_16 47 (dk_at dksX4_drawsOf_0 4 rfl rfl)
theorem dX4_drawsOf_6 : decode cX4_drawsOf 6 = .ok (.iload_n 1, 1) := dk_27 (dk_at dksX4_drawsOf_0 6 rfl rfl)
theorem dX4_drawsOf_7 : decode cX4_drawsOf 7 = .ok (.iadd, 1) := dk_96 (dk_at dksX4_drawsOf_0 7 rfl rfl)
theorem dX4_drawsOf_8 : decode cX4_drawsOf 8 = .ok (.iaload, 1) := dk_46 (dk_at dksX4_drawsOf_0 8 rfl rfl)
theorem dX4_drawsOf_9 : decode cX4_drawsOf 9 = .ok (.aload_n 0, 1) := dk_42 (dk_at dksX4_drawsOf_0 9 rfl rfl)
theorem dX4_drawsOf_10 : decode cX4_drawsOf 10 = .ok (.getfield 7, 3) := dk_180 0 7 (dk_at dksX4_drawsOf_0 10 rfl rfl)
theorem dX4_drawsOf_13 : decode cX4_drawsOf 13 = .ok (.bipush 67, 2) := dk_16 67 (dk_at dksX4_drawsOf_0 13 rfl rfl)
theorem dX4_drawsOf_15 : decode cX4_drawsOf 15 = .ok (.iload_n 1, 1) := dk_27 (dk_at dksX4_drawsOf_0 15 rfl rfl)
theorem dX4_drawsOf_16 : decode cX4_drawsOf 16 = .ok (.iadd, 1) := dk_96 (dk_at dksX4_drawsOf_0 16 rfl rfl)
theorem dX4_drawsOf_17 : decode cX4_drawsOf 17 = .ok (.iaload, 1) := dk_46 (dk_at dksX4_drawsOf_0 17 rfl rfl)
theorem dX4_drawsOf_18 : decode cX4_drawsOf 18 = .ok (.aload_n 0, 1) := dk_42 (dk_at dksX4_drawsOf_0 18 rfl rfl)
theorem dX4_drawsOf_19 : decode cX4_drawsOf 19 = .ok (.iload_n 1, 1) := dk_27 (dk_at dksX4_drawsOf_0 19 rfl rfl)
theorem dX4_drawsOf_20 : decode cX4_drawsOf 20 = .ok (.invokevirtual 98, 3) := dk_182 0 98 (dk_at dksX4_drawsOf_0 20 rfl rfl)
theorem dX4_drawsOf_23 : decode cX4_drawsOf 23 = .ok (.invokestatic 84, 3) := dk_184 0 84 (dk_at dksX4_drawsOf_1 0 rfl rfl)
theorem dX4_drawsOf_26 : decode cX4_drawsOf 26 = .ok (.imul, 1) := dk_104 (dk_at dksX4_drawsOf_1 3 rfl rfl)
theorem dX4_drawsOf_27 : decode cX4_drawsOf 27 = .ok (.istore_n 3, 1) := dk_62 (dk_at dksX4_drawsOf_1 4 rfl rfl)
theorem dX4_drawsOf_28 : decode cX4_drawsOf 28 = .ok (.iload_n 2, 1) := dk_28 (dk_at dksX4_drawsOf_1 5 rfl rfl)
theorem dX4_drawsOf_29 : decode cX4_drawsOf 29 = .ok (.ifCond .ne 9, 3) := dk_154 0 9 (dk_at dksX4_drawsOf_1 6 rfl rfl)
theorem dX4_drawsOf_32 : decode cX4_drawsOf 32 = .ok (.iload_n 3, 1) := dk_29 (dk_at dksX4_drawsOf_1 9 rfl rfl)
theorem dX4_drawsOf_33 : decode cX4_drawsOf 33 = .ok (.iconst 2, 1) := dk_5 (dk_at dksX4_drawsOf_1 10 rfl rfl)
theorem dX4_drawsOf_34 : decode cX4_drawsOf 34 = .ok (.idiv, 1) := dk_108 (dk_at dksX4_drawsOf_1 11 rfl rfl)
theorem dX4_drawsOf_35 : decode cX4_drawsOf 35 = .ok (.goto 18, 3) := dk_167 0 18 (dk_at dksX4_drawsOf_1 12 rfl rfl)
theorem dX4_drawsOf_38 : decode cX4_drawsOf 38 = .ok (.iload_n 2, 1) := dk_28 (dk_at dksX4_drawsOf_1 15 rfl rfl)
theorem dX4_drawsOf_39 : decode cX4_drawsOf 39 = .ok (.iconst 1, 1) := dk_4 (dk_at dksX4_drawsOf_1 16 rfl rfl)
theorem dX4_drawsOf_40 : decode cX4_drawsOf 40 = .ok (.if_icmp .ne 9, 3) := dk_160 0 9 (dk_at dksX4_drawsOf_1 17 rfl rfl)
theorem dX4_drawsOf_43 : decode cX4_drawsOf 43 = .ok (.iload_n 3, 1) := dk_29 (dk_at dksX4_drawsOf_1 20 rfl rfl)
theorem dX4_drawsOf_44 : decode cX4_drawsOf 44 = .ok (.iconst 3, 1) := dk_6 (dk_at dksX4_drawsOf_1 21 rfl rfl)
theorem dX4_drawsOf_45 : decode cX4_drawsOf 45 = .ok (.idiv, 1) := dk_108 (dk_at dksX4_drawsOf_1 22 rfl rfl)
theorem dX4_drawsOf_46 : decode cX4_drawsOf 46 = .ok (.goto 7, 3) := dk_167 0 7 (dk_at dksX4_drawsOf_2 0 rfl rfl)
theorem dX4_drawsOf_49 : decode cX4_drawsOf 49 = .ok (.iload_n 3, 1) := dk_29 (dk_at dksX4_drawsOf_2 3 rfl rfl)
theorem dX4_drawsOf_50 : decode cX4_drawsOf 50 = .ok (.bipush 6, 2) := dk_16 6 (dk_at dksX4_drawsOf_2 4 rfl rfl)
theorem dX4_drawsOf_52 : decode cX4_drawsOf 52 = .ok (.idiv, 1) := dk_108 (dk_at dksX4_drawsOf_2 6 rfl rfl)
theorem dX4_drawsOf_53 : decode cX4_drawsOf 53 = .ok (.istore 4, 2) := dk_54 4 (dk_at dksX4_drawsOf_2 7 rfl rfl)
theorem dX4_drawsOf_55 : decode cX4_drawsOf 55 = .ok (.aload_n 0, 1) := dk_42 (dk_at dksX4_drawsOf_2 9 rfl rfl)
theorem dX4_drawsOf_56 : decode cX4_drawsOf 56 = .ok (.getfield 7, 3) := dk_180 0 7 (dk_at dksX4_drawsOf_2 10 rfl rfl)
theorem dX4_drawsOf_59 : decode cX4_drawsOf 59 = .ok (.iconst 3, 1) := dk_6 (dk_at dksX4_drawsOf_2 13 rfl rfl)
theorem dX4_drawsOf_60 : decode cX4_drawsOf 60 = .ok (.iconst 3, 1) := dk_6 (dk_at dksX4_drawsOf_2 14 rfl rfl)
theorem dX4_drawsOf_61 : decode cX4_drawsOf 61 = .ok (.aload_n 0, 1) := dk_42 (dk_at dksX4_drawsOf_2 15 rfl rfl)
theorem dX4_drawsOf_62 : decode cX4_drawsOf 62 = .ok (.getfield 7, 3) := dk_180 0 7 (dk_at dksX4_drawsOf_2 16 rfl rfl)
theorem dX4_drawsOf_65 : decode cX4_drawsOf 65 = .ok (.bipush 57, 2) := dk_16 57 (dk_at dksX4_drawsOf_2 19 rfl rfl)
theorem dX4_drawsOf_67 : decode cX4_drawsOf 67 = .ok (.iload_n 1, 1) := dk_27 (dk_at dksX4_drawsOf_2 21 rfl rfl)
theorem dX4_drawsOf_68 : decode cX4_drawsOf 68 = .ok (.iadd, 1) := dk_96 (dk_at dksX4_drawsOf_2 22 rfl rfl)
theorem dX4_drawsOf_69 : decode cX4_drawsOf 69 = .ok (.iaload, 1) := dk_46 (dk_at dksX4_drawsOf_2 23 rfl rfl)
theorem dX4_drawsOf_70 : decode cX4_drawsOf 70 = .ok (.imul, 1) := dk_104 (dk_at dksX4_drawsOf_3 0 rfl rfl)
theorem dX4_drawsOf_71 : decode cX4_drawsOf 71 = .ok (.iadd, 1) := dk_96 (dk_at dksX4_drawsOf_3 1 rfl rfl)
theorem dX4_drawsOf_72 : decode cX4_drawsOf 72 = .ok (.iload_n 2, 1) := dk_28 (dk_at dksX4_drawsOf_3 2 rfl rfl)
theorem dX4_drawsOf_73 : decode cX4_drawsOf 73 = .ok (.iadd, 1) := dk_96 (dk_at dksX4_drawsOf_3 3 rfl rfl)
theorem dX4_drawsOf_74 : decode cX4_drawsOf 74 = .ok (.iaload, 1) := dk_46 (dk_at dksX4_drawsOf_3 4 rfl rfl)
theorem dX4_drawsOf_75 : decode cX4_drawsOf 75 = .ok (.istore 5, 2) := dk_54 5 (dk_at dksX4_drawsOf_3 5 rfl rfl)
theorem dX4_drawsOf_77 : decode cX4_drawsOf 77 = .ok (.iload 4, 2) := dk_21 4 (dk_at dksX4_drawsOf_3 7 rfl rfl)
theorem dX4_drawsOf_79 : decode cX4_drawsOf 79 = .ok (.iload 5, 2) := dk_21 5 (dk_at dksX4_drawsOf_3 9 rfl rfl)
theorem dX4_drawsOf_81 : decode cX4_drawsOf 81 = .ok (.if_icmp .ge 8, 3) := dk_162 0 8 (dk_at dksX4_drawsOf_3 11 rfl rfl)
theorem dX4_drawsOf_84 : decode cX4_drawsOf 84 = .ok (.iload 4, 2) := dk_21 4 (dk_at dksX4_drawsOf_3 14 rfl rfl)
theorem dX4_drawsOf_86 : decode cX4_drawsOf 86 = .ok (.goto 5, 3) := dk_167 0 5 (dk_at dksX4_drawsOf_3 16 rfl rfl)
theorem dX4_drawsOf_89 : decode cX4_drawsOf 89 = .ok (.iload 5, 2) := dk_21 5 (dk_at dksX4_drawsOf_3 19 rfl rfl)
theorem dX4_drawsOf_91 : decode cX4_drawsOf 91 = .ok (.ireturn, 1) := dk_172 (dk_at dksX4_drawsOf_3 21 rfl rfl)
abbrev cX4_goesBack : ByteArray := prog_19_method_35_code
def yX4_goesBack : MethodName := ⟨RX4, "goesBack", "(I)Z"⟩
def dkwX4_goesBack_1 : List UInt8 := [172]
abbrev dktX4_goesBack_1 : List UInt8 := dkwX4_goesBack_1 ++ []
def dkwX4_goesBack_0 : List UInt8 := [27, 153, 0, 18, 27, 4, 160, 0, 17, 42, 180, 0, 7, 5, 46, 5, 160, 0, 7, 4, 167, 0, 4, 3]
abbrev dktX4_goesBack_0 : List UInt8 := dkwX4_goesBack_0 ++ dktX4_goesBack_1
theorem dksX4_goesBack_0 : cX4_goesBack.data.toList.drop 0 = dktX4_goesBack_0 := by decide +kernel
theorem dksX4_goesBack_1 : cX4_goesBack.data.toList.drop 24 = dktX4_goesBack_1 := dk_seg dksX4_goesBack_0 24 rfl rfl
theorem dX4_goesBack_0 : decode cX4_goesBack 0 = .ok (.iload_n 1, 1) := dk_27 (dk_at dksX4_goesBack_0 0 rfl rfl)
theorem dX4_goesBack_1 : decode cX4_goesBack 1 = .ok (.ifCond .eq 18, 3) := dk_153 0 18 (dk_at dksX4_goesBack_0 1 rfl rfl)
theorem dX4_goesBack_4 : decode cX4_goesBack 4 = .ok (.iload_n 1, 1) := dk_27 (dk_at dksX4_goesBack_0 4 rfl rfl)
theorem dX4_goesBack_5 : decode cX4_goesBack 5 = .ok (.iconst 1, 1) := dk_4 (dk_at dksX4_goesBack_0 5 rfl rfl)
theorem dX4_goesBack_6 : decode cX4_goesBack 6 = .ok (.if_icmp .ne 17, 3) := dk_160 0 17 (dk_at dksX4_goesBack_0 6 rfl rfl)
theorem dX4_goesBack_9 : decode cX4_goesBack 9 = .ok (.aload_n 0, 1) := dk_42 (dk_at dksX4_goesBack_0 9 rfl rfl)
theorem dX4_goesBack_10 : decode cX4_goesBack 10 = .ok (.getfield 7, 3) := dk_180 0 7 (dk_at dksX4_goesBack_0 10 rfl rfl)
theorem dX4_goesBack_13 : decode cX4_goesBack 13 = .ok (.iconst 2, 1) := dk_5 (dk_at dksX4_goesBack_0 13 rfl rfl)
theorem dX4_goesBack_14 : decode cX4_goesBack 14 = .ok (.iaload, 1) := dk_46 (dk_at dksX4_goesBack_0 14 rfl rfl)
theorem dX4_goesBack_15 : decode cX4_goesBack 15 = .ok (.iconst 2, 1) := dk_5 (dk_at dksX4_goesBack_0 15 rfl rfl)
theorem dX4_goesBack_16 : decode cX4_goesBack 16 = .ok (.if_icmp .ne 7, 3) := dk_160 0 7 (dk_at dksX4_goesBack_0 16 rfl rfl)
theorem dX4_goesBack_19 : decode cX4_goesBack 19 = .ok (.iconst 1, 1) := dk_4 (dk_at dksX4_goesBack_0 19 rfl rfl)
theorem dX4_goesBack_20 : decode cX4_goesBack 20 = .ok (.goto 4, 3) := dk_167 0 4 (dk_at dksX4_goesBack_0 20 rfl rfl)
theorem dX4_goesBack_23 : decode cX4_goesBack 23 = .ok (.iconst 0, 1) := dk_3 (dk_at dksX4_goesBack_0 23 rfl rfl)
theorem dX4_goesBack_24 : decode cX4_goesBack 24 = .ok (.ireturn, 1) := dk_172 (dk_at dksX4_goesBack_1 0 rfl rfl)
abbrev cX4_land : ByteArray := prog_19_method_40_code
def yX4_land : MethodName := ⟨RX4, "land", "(I)I"⟩
def dkwX4_land_0 : List UInt8 := [42, 182, 0, 78, 42, 42, 27, 182, 0, 122, 182, 0, 81, 172]
abbrev dktX4_land_0 : List UInt8 := dkwX4_land_0 ++ []
theorem dksX4_land_0 : cX4_land.data.toList.drop 0 = dktX4_land_0 := by decide +kernel
theorem dX4_land_0 : decode cX4_land 0 = .ok (.aload_n 0, 1) := dk_42 (dk_at dksX4_land_0 0 rfl rfl)
theorem dX4_land_1 : decode cX4_land 1 = .ok (.invokevirtual 78, 3) := dk_182 0 78 (dk_at dksX4_land_0 1 rfl rfl)
theorem dX4_land_4 : decode cX4_land 4 = .ok (.aload_n 0, 1) := dk_42 (dk_at dksX4_land_0 4 rfl rfl)
theorem dX4_land_5 : decode cX4_land 5 = .ok (.aload_n 0, 1) := dk_42 (dk_at dksX4_land_0 5 rfl rfl)
theorem dX4_land_6 : decode cX4_land 6 = .ok (.iload_n 1, 1) := dk_27 (dk_at dksX4_land_0 6 rfl rfl)
theorem dX4_land_7 : decode cX4_land 7 = .ok (.invokevirtual 122, 3) := dk_182 0 122 (dk_at dksX4_land_0 7 rfl rfl)
theorem dX4_land_10 : decode cX4_land 10 = .ok (.invokevirtual 81, 3) := dk_182 0 81 (dk_at dksX4_land_0 10 rfl rfl)
theorem dX4_land_13 : decode cX4_land 13 = .ok (.ireturn, 1) := dk_172 (dk_at dksX4_land_0 13 rfl rfl)
abbrev cX4_lands : ByteArray := prog_19_method_39_code
def yX4_lands : MethodName := ⟨RX4, "lands", "(I)I"⟩
def dkwX4_lands_7 : List UInt8 := [96, 96, 79, 42, 16, 8, 28, 104, 16, 12, 29, 104, 96, 182, 0, 75, 172]
abbrev dktX4_lands_7 : List UInt8 := dkwX4_lands_7 ++ []
def dkwX4_lands_6 : List UInt8 := [16, 25, 28, 29, 96, 104, 96, 79, 42, 180, 0, 7, 16, 111, 92, 46, 16, 8, 28, 104, 16, 12, 29, 104]
abbrev dktX4_lands_6 : List UInt8 := dkwX4_lands_6 ++ dktX4_lands_7
def dkwX4_lands_5 : List UInt8 := [79, 42, 180, 0, 7, 16, 40, 27, 96, 92, 46, 28, 29, 96, 96, 79, 42, 180, 0, 7, 16, 110, 92, 46]
abbrev dktX4_lands_5 : List UInt8 := dkwX4_lands_5 ++ dktX4_lands_6
def dkwX4_lands_4 : List UInt8 := [96, 92, 46, 16, 25, 28, 104, 100, 79, 42, 180, 0, 7, 16, 37, 27, 96, 92, 46, 16, 25, 29, 104, 100]
abbrev dktX4_lands_4 : List UInt8 := dkwX4_lands_4 ++ dktX4_lands_5
def dkwX4_lands_3 : List UInt8 := [96, 154, 0, 16, 42, 16, 10, 42, 27, 182, 0, 119, 5, 182, 0, 88, 172, 42, 180, 0, 7, 16, 34, 27]
abbrev dktX4_lands_3 : List UInt8 := dkwX4_lands_3 ++ dktX4_lands_4
def dkwX4_lands_2 : List UInt8 := [16, 34, 27, 96, 46, 16, 25, 108, 61, 42, 180, 0, 7, 16, 37, 27, 96, 46, 16, 25, 108, 62, 28, 29]
abbrev dktX4_lands_2 : List UInt8 := dkwX4_lands_2 ++ dktX4_lands_3
def dkwX4_lands_1 : List UInt8 := [159, 0, 19, 42, 5, 42, 180, 0, 7, 16, 28, 27, 96, 46, 5, 182, 0, 88, 172, 42, 180, 0, 7]
abbrev dktX4_lands_1 : List UInt8 := dkwX4_lands_1 ++ dktX4_lands_2
def dkwX4_lands_0 : List UInt8 := [42, 27, 182, 0, 92, 154, 0, 9, 42, 4, 182, 0, 68, 172, 42, 180, 0, 7, 16, 28, 27, 96, 46, 2]
abbrev dktX4_lands_0 : List UInt8 := dkwX4_lands_0 ++ dktX4_lands_1
theorem dksX4_lands_0 : cX4_lands.data.toList.drop 0 = dktX4_lands_0 := by decide +kernel
theorem dksX4_lands_1 : cX4_lands.data.toList.drop 24 = dktX4_lands_1 := dk_seg dksX4_lands_0 24 rfl rfl
theorem dksX4_lands_2 : cX4_lands.data.toList.drop 47 = dktX4_lands_2 := dk_seg dksX4_lands_1 23 rfl rfl
theorem dksX4_lands_3 : cX4_lands.data.toList.drop 71 = dktX4_lands_3 := dk_seg dksX4_lands_2 24 rfl rfl
theorem dksX4_lands_4 : cX4_lands.data.toList.drop 95 = dktX4_lands_4 := dk_seg dksX4_lands_3 24 rfl rfl
theorem dksX4_lands_5 : cX4_lands.data.toList.drop 119 = dktX4_lands_5 := dk_seg dksX4_lands_4 24 rfl rfl
theorem dksX4_lands_6 : cX4_lands.data.toList.drop 143 = dktX4_lands_6 := dk_seg dksX4_lands_5 24 rfl rfl
theorem dksX4_lands_7 : cX4_lands.data.toList.drop 167 = dktX4_lands_7 := dk_seg dksX4_lands_6 24 rfl rfl
theorem dX4_lands_0 : decode cX4_lands 0 = .ok (.aload_n 0, 1) := dk_42 (dk_at dksX4_lands_0 0 rfl rfl)
theorem dX4_lands_1 : decode cX4_lands 1 = .ok (.iload_n 1, 1) := dk_27 (dk_at dksX4_lands_0 1 rfl rfl)
theorem dX4_lands_2 : decode cX4_lands 2 = .ok (.invokevirtual 92, 3) := dk_182 0 92 (dk_at dksX4_lands_0 2 rfl rfl)
theorem dX4_lands_5 : decode cX4_lands 5 = .ok (.ifCond .ne 9, 3) := dk_154 0 9 (dk_at dksX4_lands_0 5 rfl rfl)
theorem dX4_lands_8 : decode cX4_lands 8 = .ok (.aload_n 0, 1) := dk_42 (dk_at dksX4_lands_0 8 rfl rfl)
theorem dX4_lands_9 : decode cX4_lands 9 = .ok (.iconst 1, 1) := dk_4 (dk_at dksX4_lands_0 9 rfl rfl)
theorem dX4_lands_10 : decode cX4_lands 10 = .ok (.invokevirtual 68, 3) := dk_182 0 68 (dk_at dksX4_lands_0 10 rfl rfl)
theorem dX4_lands_13 : decode cX4_lands 13 = .ok (.ireturn, 1) := dk_172 (dk_at dksX4_lands_0 13 rfl rfl)
theorem dX4_lands_14 : decode cX4_lands 14 = .ok (.aload_n 0, 1) := dk_42 (dk_at dksX4_lands_0 14 rfl rfl)
theorem dX4_lands_15 : decode cX4_lands 15 = .ok (.getfield 7, 3) := dk_180 0 7 (dk_at dksX4_lands_0 15 rfl rfl)
theorem dX4_lands_18 : decode cX4_lands 18 = .ok (.bipush 28, 2) := dk_16 28 (dk_at dksX4_lands_0 18 rfl rfl)
theorem dX4_lands_20 : decode cX4_lands 20 = .ok (.iload_n 1, 1) := dk_27 (dk_at dksX4_lands_0 20 rfl rfl)
theorem dX4_lands_21 : decode cX4_lands 21 = .ok (.iadd, 1) := dk_96 (dk_at dksX4_lands_0 21 rfl rfl)
theorem dX4_lands_22 : decode cX4_lands 22 = .ok (.iaload, 1) := dk_46 (dk_at dksX4_lands_0 22 rfl rfl)
theorem dX4_lands_23 : decode cX4_lands 23 = .ok (.iconst (-1), 1) := dk_2 (dk_at dksX4_lands_0 23 rfl rfl)
theorem dX4_lands_24 : decode cX4_lands 24 = .ok (.if_icmp .eq 19, 3) := dk_159 0 19 (dk_at dksX4_lands_1 0 rfl rfl)
theorem dX4_lands_27 : decode cX4_lands 27 = .ok (.aload_n 0, 1) := dk_42 (dk_at dksX4_lands_1 3 rfl rfl)
theorem dX4_lands_28 : decode cX4_lands 28 = .ok (.iconst 2, 1) := dk_5 (dk_at dksX4_lands_1 4 rfl rfl)
theorem dX4_lands_29 : decode cX4_lands 29 = .ok (.aload_n 0, 1) := dk_42 (dk_at dksX4_lands_1 5 rfl rfl)
theorem dX4_lands_30 : decode cX4_lands 30 = .ok (.getfield 7, 3) := dk_180 0 7 (dk_at dksX4_lands_1 6 rfl rfl)
theorem dX4_lands_33 : decode cX4_lands 33 = .ok (.bipush 28, 2) := dk_16 28 (dk_at dksX4_lands_1 9 rfl rfl)
theorem dX4_lands_35 : decode cX4_lands 35 = .ok (.iload_n 1, 1) := dk_27 (dk_at dksX4_lands_1 11 rfl rfl)
theorem dX4_lands_36 : decode cX4_lands 36 = .ok (.iadd, 1) := dk_96 (dk_at dksX4_lands_1 12 rfl rfl)
theorem dX4_lands_37 : decode cX4_lands 37 = .ok (.iaload, 1) := dk_46 (dk_at dksX4_lands_1 13 rfl rfl)
theorem dX4_lands_38 : decode cX4_lands 38 = .ok (.iconst 2, 1) := dk_5 (dk_at dksX4_lands_1 14 rfl rfl)
theorem dX4_lands_39 : decode cX4_lands 39 = .ok (.invokevirtual 88, 3) := dk_182 0 88 (dk_at dksX4_lands_1 15 rfl rfl)
theorem dX4_lands_42 : decode cX4_lands 42 = .ok (.ireturn, 1) := dk_172 (dk_at dksX4_lands_1 18 rfl rfl)
theorem dX4_lands_43 : decode cX4_lands 43 = .ok (.aload_n 0, 1) := dk_42 (dk_at dksX4_lands_1 19 rfl rfl)
theorem dX4_lands_44 : decode cX4_lands 44 = .ok (.getfield 7, 3) := dk_180 0 7 (dk_at dksX4_lands_1 20 rfl rfl)
theorem dX4_lands_47 : decode cX4_lands 47 = .ok (.bipush 34, 2) := dk_16 34 (dk_at dksX4_lands_2 0 rfl rfl)
theorem dX4_lands_49 : decode cX4_lands 49 = .ok (.iload_n 1, 1) := dk_27 (dk_at dksX4_lands_2 2 rfl rfl)
theorem dX4_lands_50 : decode cX4_lands 50 = .ok (.iadd, 1) := dk_96 (dk_at dksX4_lands_2 3 rfl rfl)
theorem dX4_lands_51 : decode cX4_lands 51 = .ok (.iaload, 1) := dk_46 (dk_at dksX4_lands_2 4 rfl rfl)
theorem dX4_lands_52 : decode cX4_lands 52 = .ok (.bipush 25, 2) := dk_16 25 (dk_at dksX4_lands_2 5 rfl rfl)
theorem dX4_lands_54 : decode cX4_lands 54 = .ok (.idiv, 1) := dk_108 (dk_at dksX4_lands_2 7 rfl rfl)
theorem dX4_lands_55 : decode cX4_lands 55 = .ok (.istore_n 2, 1) := dk_61 (dk_at dksX4_lands_2 8 rfl rfl)
theorem dX4_lands_56 : decode cX4_lands 56 = .ok (.aload_n 0, 1) := dk_42 (dk_at dksX4_lands_2 9 rfl rfl)
theorem dX4_lands_57 : decode cX4_lands 57 = .ok (.getfield 7, 3) := dk_180 0 7 (dk_at dksX4_lands_2 10 rfl rfl)
theorem dX4_lands_60 : decode cX4_lands 60 = .ok (.bipush 37, 2) := dk_16 37 (dk_at dksX4_lands_2 13 rfl rfl)
theorem dX4_lands_62 : decode cX4_lands 62 = .ok (.iload_n 1, 1) := dk_27 (dk_at dksX4_lands_2 15 rfl rfl)
theorem dX4_lands_63 : decode cX4_lands 63 = .ok (.iadd, 1) := dk_96 (dk_at dksX4_lands_2 16 rfl rfl)
theorem dX4_lands_64 : decode cX4_lands 64 = .ok (.iaload, 1) := dk_46 (dk_at dksX4_lands_2 17 rfl rfl)
theorem dX4_lands_65 : decode cX4_lands 65 = .ok (.bipush 25, 2) := dk_16 25 (dk_at dksX4_lands_2 18 rfl rfl)
theorem dX4_lands_67 : decode cX4_lands 67 = .ok (.idiv, 1) := dk_108 (dk_at dksX4_lands_2 20 rfl rfl)
theorem dX4_lands_68 : decode cX4_lands 68 = .ok (.istore_n 3, 1) := dk_62 (dk_at dksX4_lands_2 21 rfl rfl)
theorem dX4_lands_69 : decode cX4_lands 69 = .ok (.iload_n 2, 1) := dk_28 (dk_at dksX4_lands_2 22 rfl rfl)
theorem dX4_lands_70 : decode cX4_lands 70 = .ok (.iload_n 3, 1) := dk_29 (dk_at dksX4_lands_2 23 rfl rfl)
theorem dX4_lands_71 : decode cX4_lands 71 = .ok (.iadd, 1) := dk_96 (dk_at dksX4_lands_3 0 rfl rfl)
theorem dX4_lands_72 : decode cX4_lands 72 = .ok (.ifCond .ne 16, 3) := dk_154 0 16 (dk_at dksX4_lands_3 1 rfl rfl)
theorem dX4_lands_75 : decode cX4_lands 75 = .ok (.aload_n 0, 1) := dk_42 (dk_at dksX4_lands_3 4 rfl rfl)
theorem dX4_lands_76 : decode cX4_lands 76 = .ok (.bipush 10, 2) := dk_16 10 (dk_at dksX4_lands_3 5 rfl rfl)
theorem dX4_lands_78 : decode cX4_lands 78 = .ok (.aload_n 0, 1) := dk_42 (dk_at dksX4_lands_3 7 rfl rfl)
theorem dX4_lands_79 : decode cX4_lands 79 = .ok (.iload_n 1, 1) := dk_27 (dk_at dksX4_lands_3 8 rfl rfl)
theorem dX4_lands_80 : decode cX4_lands 80 = .ok (.invokevirtual 119, 3) := dk_182 0 119 (dk_at dksX4_lands_3 9 rfl rfl)
theorem dX4_lands_83 : decode cX4_lands 83 = .ok (.iconst 2, 1) := dk_5 (dk_at dksX4_lands_3 12 rfl rfl)
theorem dX4_lands_84 : decode cX4_lands 84 = .ok (.invokevirtual 88, 3) := dk_182 0 88 (dk_at dksX4_lands_3 13 rfl rfl)
theorem dX4_lands_87 : decode cX4_lands 87 = .ok (.ireturn, 1) := dk_172 (dk_at dksX4_lands_3 16 rfl rfl)
theorem dX4_lands_88 : decode cX4_lands 88 = .ok (.aload_n 0, 1) := dk_42 (dk_at dksX4_lands_3 17 rfl rfl)
theorem dX4_lands_89 : decode cX4_lands 89 = .ok (.getfield 7, 3) := dk_180 0 7 (dk_at dksX4_lands_3 18 rfl rfl)
theorem dX4_lands_92 : decode cX4_lands 92 = .ok (.bipush 34, 2) := dk_16 34 (dk_at dksX4_lands_3 21 rfl rfl)
theorem dX4_lands_94 : decode cX4_lands 94 = .ok (.iload_n 1, 1) := dk_27 (dk_at dksX4_lands_3 23 rfl rfl)
theorem dX4_lands_95 : decode cX4_lands 95 = .ok (.iadd, 1) := dk_96 (dk_at dksX4_lands_4 0 rfl rfl)
theorem dX4_lands_96 : decode cX4_lands 96 = .ok (.dup2, 1) := dk_92 (dk_at dksX4_lands_4 1 rfl rfl)
theorem dX4_lands_97 : decode cX4_lands 97 = .ok (.iaload, 1) := dk_46 (dk_at dksX4_lands_4 2 rfl rfl)
theorem dX4_lands_98 : decode cX4_lands 98 = .ok (.bipush 25, 2) := dk_16 25 (dk_at dksX4_lands_4 3 rfl rfl)
theorem dX4_lands_100 : decode cX4_lands 100 = .ok (.iload_n 2, 1) := dk_28 (dk_at dksX4_lands_4 5 rfl rfl)
theorem dX4_lands_101 : decode cX4_lands 101 = .ok (.imul, 1) := dk_104 (dk_at dksX4_lands_4 6 rfl rfl)
theorem dX4_lands_102 : decode cX4_lands 102 = .ok (.isub, 1) := dk_100 (dk_at dksX4_lands_4 7 rfl rfl)
theorem dX4_lands_103 : decode cX4_lands 103 = .ok (.iastore, 1) := dk_79 (dk_at dksX4_lands_4 8 rfl rfl)
theorem dX4_lands_104 : decode cX4_lands 104 = .ok (.aload_n 0, 1) := dk_42 (dk_at dksX4_lands_4 9 rfl rfl)
theorem dX4_lands_105 : decode cX4_lands 105 = .ok (.getfield 7, 3) := dk_180 0 7 (dk_at dksX4_lands_4 10 rfl rfl)
theorem dX4_lands_108 : decode cX4_lands 108 = .ok (.bipush 37, 2) := dk_16 37 (dk_at dksX4_lands_4 13 rfl rfl)
theorem dX4_lands_110 : decode cX4_lands 110 = .ok (.iload_n 1, 1) := dk_27 (dk_at dksX4_lands_4 15 rfl rfl)
theorem dX4_lands_111 : decode cX4_lands 111 = .ok (.iadd, 1) := dk_96 (dk_at dksX4_lands_4 16 rfl rfl)
theorem dX4_lands_112 : decode cX4_lands 112 = .ok (.dup2, 1) := dk_92 (dk_at dksX4_lands_4 17 rfl rfl)
theorem dX4_lands_113 : decode cX4_lands 113 = .ok (.iaload, 1) := dk_46 (dk_at dksX4_lands_4 18 rfl rfl)
theorem dX4_lands_114 : decode cX4_lands 114 = .ok (.bipush 25, 2) := dk_16 25 (dk_at dksX4_lands_4 19 rfl rfl)
theorem dX4_lands_116 : decode cX4_lands 116 = .ok (.iload_n 3, 1) := dk_29 (dk_at dksX4_lands_4 21 rfl rfl)
theorem dX4_lands_117 : decode cX4_lands 117 = .ok (.imul, 1) := dk_104 (dk_at dksX4_lands_4 22 rfl rfl)
theorem dX4_lands_118 : decode cX4_lands 118 = .ok (.isub, 1) := dk_100 (dk_at dksX4_lands_4 23 rfl rfl)
theorem dX4_lands_119 : decode cX4_lands 119 = .ok (.iastore, 1) := dk_79 (dk_at dksX4_lands_5 0 rfl rfl)
theorem dX4_lands_120 : decode cX4_lands 120 = .ok (.aload_n 0, 1) := dk_42 (dk_at dksX4_lands_5 1 rfl rfl)
theorem dX4_lands_121 : decode cX4_lands 121 = .ok (.getfield 7, 3) := dk_180 0 7 (dk_at dksX4_lands_5 2 rfl rfl)
theorem dX4_lands_124 : decode cX4_lands 124 = .ok (.bipush 40, 2) := dk_16 40 (dk_at dksX4_lands_5 5 rfl rfl)
theorem dX4_lands_126 : decode cX4_lands 126 = .ok (.iload_n 1, 1) := dk_27 (dk_at dksX4_lands_5 7 rfl rfl)
theorem dX4_lands_127 : decode cX4_lands 127 = .ok (.iadd, 1) := dk_96 (dk_at dksX4_lands_5 8 rfl rfl)
theorem dX4_lands_128 : decode cX4_lands 128 = .ok (.dup2, 1) := dk_92 (dk_at dksX4_lands_5 9 rfl rfl)
theorem dX4_lands_129 : decode cX4_lands 129 = .ok (.iaload, 1) := dk_46 (dk_at dksX4_lands_5 10 rfl rfl)
theorem dX4_lands_130 : decode cX4_lands 130 = .ok (.iload_n 2, 1) := dk_28 (dk_at dksX4_lands_5 11 rfl rfl)
theorem dX4_lands_131 : decode cX4_lands 131 = .ok (.iload_n 3, 1) := dk_29 (dk_at dksX4_lands_5 12 rfl rfl)
theorem dX4_lands_132 : decode cX4_lands 132 = .ok (.iadd, 1) := dk_96 (dk_at dksX4_lands_5 13 rfl rfl)
theorem dX4_lands_133 : decode cX4_lands 133 = .ok (.iadd, 1) := dk_96 (dk_at dksX4_lands_5 14 rfl rfl)
theorem dX4_lands_134 : decode cX4_lands 134 = .ok (.iastore, 1) := dk_79 (dk_at dksX4_lands_5 15 rfl rfl)
theorem dX4_lands_135 : decode cX4_lands 135 = .ok (.aload_n 0, 1) := dk_42 (dk_at dksX4_lands_5 16 rfl rfl)
theorem dX4_lands_136 : decode cX4_lands 136 = .ok (.getfield 7, 3) := dk_180 0 7 (dk_at dksX4_lands_5 17 rfl rfl)
theorem dX4_lands_139 : decode cX4_lands 139 = .ok (.bipush 110, 2) := dk_16 110 (dk_at dksX4_lands_5 20 rfl rfl)
theorem dX4_lands_141 : decode cX4_lands 141 = .ok (.dup2, 1) := dk_92 (dk_at dksX4_lands_5 22 rfl rfl)
theorem dX4_lands_142 : decode cX4_lands 142 = .ok (.iaload, 1) := dk_46 (dk_at dksX4_lands_5 23 rfl rfl)
theorem dX4_lands_143 : decode cX4_lands 143 = .ok (.bipush 25, 2) := dk_16 25 (dk_at dksX4_lands_6 0 rfl rfl)
theorem dX4_lands_145 : decode cX4_lands 145 = .ok (.iload_n 2, 1) := dk_28 (dk_at dksX4_lands_6 2 rfl rfl)
theorem dX4_lands_146 : decode cX4_lands 146 = .ok (.iload_n 3, 1) := dk_29 (dk_at dksX4_lands_6 3 rfl rfl)
theorem dX4_lands_147 : decode cX4_lands 147 = .ok (.iadd, 1) := dk_96 (dk_at dksX4_lands_6 4 rfl rfl)
theorem dX4_lands_148 : decode cX4_lands 148 = .ok (.imul, 1) := dk_104 (dk_at dksX4_lands_6 5 rfl rfl)
theorem dX4_lands_149 : decode cX4_lands 149 = .ok (.iadd, 1) := dk_96 (dk_at dksX4_lands_6 6 rfl rfl)
theorem dX4_lands_150 : decode cX4_lands 150 = .ok (.iastore, 1) := dk_79 (dk_at dksX4_lands_6 7 rfl rfl)
theorem dX4_lands_151 : decode cX4_lands 151 = .ok (.aload_n 0, 1) := dk_42 (dk_at dksX4_lands_6 8 rfl rfl)
theorem dX4_lands_152 : decode cX4_lands 152 = .ok (.getfield 7, 3) := dk_180 0 7 (dk_at dksX4_lands_6 9 rfl rfl)
theorem dX4_lands_155 : decode cX4_lands 155 = .ok (.bipush 111, 2) := dk_16 111 (dk_at dksX4_lands_6 12 rfl rfl)
theorem dX4_lands_157 : decode cX4_lands 157 = .ok (.dup2, 1) := dk_92 (dk_at dksX4_lands_6 14 rfl rfl)
theorem dX4_lands_158 : decode cX4_lands 158 = .ok (.iaload, 1) := dk_46 (dk_at dksX4_lands_6 15 rfl rfl)
theorem dX4_lands_159 : decode cX4_lands 159 = .ok (.bipush 8, 2) := dk_16 8 (dk_at dksX4_lands_6 16 rfl rfl)
theorem dX4_lands_161 : decode cX4_lands 161 = .ok (.iload_n 2, 1) := dk_28 (dk_at dksX4_lands_6 18 rfl rfl)
theorem dX4_lands_162 : decode cX4_lands 162 = .ok (.imul, 1) := dk_104 (dk_at dksX4_lands_6 19 rfl rfl)
theorem dX4_lands_163 : decode cX4_lands 163 = .ok (.bipush 12, 2) := dk_16 12 (dk_at dksX4_lands_6 20 rfl rfl)
theorem dX4_lands_165 : decode cX4_lands 165 = .ok (.iload_n 3, 1) := dk_29 (dk_at dksX4_lands_6 22 rfl rfl)
theorem dX4_lands_166 : decode cX4_lands 166 = .ok (.imul, 1) := dk_104 (dk_at dksX4_lands_6 23 rfl rfl)
theorem dX4_lands_167 : decode cX4_lands 167 = .ok (.iadd, 1) := dk_96 (dk_at dksX4_lands_7 0 rfl rfl)
theorem dX4_lands_168 : decode cX4_lands 168 = .ok (.iadd, 1) := dk_96 (dk_at dksX4_lands_7 1 rfl rfl)
theorem dX4_lands_169 : decode cX4_lands 169 = .ok (.iastore, 1) := dk_79 (dk_at dksX4_lands_7 2 rfl rfl)
theorem dX4_lands_170 : decode cX4_lands 170 = .ok (.aload_n 0, 1) := dk_42 (dk_at dksX4_lands_7 3 rfl rfl)
theorem dX4_lands_171 : decode cX4_lands 171 = .ok (.bipush 8, 2) := dk_16 8 (dk_at dksX4_lands_7 4 rfl rfl)
theorem dX4_lands_173 : decode cX4_lands 173 = .ok (.iload_n 2, 1) := dk_28 (dk_at dksX4_lands_7 6 rfl rfl)
theorem dX4_lands_174 : decode cX4_lands 174 = .ok (.imul, 1) := dk_104 (dk_at dksX4_lands_7 7 rfl rfl)
theorem dX4_lands_175 : decode cX4_lands 175 = .ok (.bipush 12, 2) := dk_16 12 (dk_at dksX4_lands_7 8 rfl rfl)
theorem dX4_lands_177 : decode cX4_lands 177 = .ok (.iload_n 3, 1) := dk_29 (dk_at dksX4_lands_7 10 rfl rfl)
theorem dX4_lands_178 : decode cX4_lands 178 = .ok (.imul, 1) := dk_104 (dk_at dksX4_lands_7 11 rfl rfl)
theorem dX4_lands_179 : decode cX4_lands 179 = .ok (.iadd, 1) := dk_96 (dk_at dksX4_lands_7 12 rfl rfl)
theorem dX4_lands_180 : decode cX4_lands 180 = .ok (.invokevirtual 75, 3) := dk_182 0 75 (dk_at dksX4_lands_7 13 rfl rfl)
theorem dX4_lands_183 : decode cX4_lands 183 = .ok (.ireturn, 1) := dk_172 (dk_at dksX4_lands_7 16 rfl rfl)
abbrev cX4_inHold : ByteArray := prog_19_method_38_code
def yX4_inHold : MethodName := ⟨RX4, "inHold", "(I)I"⟩
def dkwX4_inHold_0 : List UInt8 := [42, 180, 0, 7, 16, 34, 27, 96, 46, 42, 180, 0, 7, 16, 37, 27, 96, 46, 96, 172]
abbrev dktX4_inHold_0 : List UInt8 := dkwX4_inHold_0 ++ []
theorem dksX4_inHold_0 : cX4_inHold.data.toList.drop 0 = dktX4_inHold_0 := by decide +kernel
theorem dX4_inHold_0 : decode cX4_inHold 0 = .ok (.aload_n 0, 1) := dk_42 (dk_at dksX4_inHold_0 0 rfl rfl)
theorem dX4_inHold_1 : decode cX4_inHold 1 = .ok (.getfield 7, 3) := dk_180 0 7 (dk_at dksX4_inHold_0 1 rfl rfl)
theorem dX4_inHold_4 : decode cX4_inHold 4 = .ok (.bipush 34, 2) := dk_16 34 (dk_at dksX4_inHold_0 4 rfl rfl)
theorem dX4_inHold_6 : decode cX4_inHold 6 = .ok (.iload_n 1, 1) := dk_27 (dk_at dksX4_inHold_0 6 rfl rfl)
theorem dX4_inHold_7 : decode cX4_inHold 7 = .ok (.iadd, 1) := dk_96 (dk_at dksX4_inHold_0 7 rfl rfl)
theorem dX4_inHold_8 : decode cX4_inHold 8 = .ok (.iaload, 1) := dk_46 (dk_at dksX4_inHold_0 8 rfl rfl)
theorem dX4_inHold_9 : decode cX4_inHold 9 = .ok (.aload_n 0, 1) := dk_42 (dk_at dksX4_inHold_0 9 rfl rfl)
theorem dX4_inHold_10 : decode cX4_inHold 10 = .ok (.getfield 7, 3) := dk_180 0 7 (dk_at dksX4_inHold_0 10 rfl rfl)
theorem dX4_inHold_13 : decode cX4_inHold 13 = .ok (.bipush 37, 2) := dk_16 37 (dk_at dksX4_inHold_0 13 rfl rfl)
theorem dX4_inHold_15 : decode cX4_inHold 15 = .ok (.iload_n 1, 1) := dk_27 (dk_at dksX4_inHold_0 15 rfl rfl)
theorem dX4_inHold_16 : decode cX4_inHold 16 = .ok (.iadd, 1) := dk_96 (dk_at dksX4_inHold_0 16 rfl rfl)
theorem dX4_inHold_17 : decode cX4_inHold 17 = .ok (.iaload, 1) := dk_46 (dk_at dksX4_inHold_0 17 rfl rfl)
theorem dX4_inHold_18 : decode cX4_inHold 18 = .ok (.iadd, 1) := dk_96 (dk_at dksX4_inHold_0 18 rfl rfl)
theorem dX4_inHold_19 : decode cX4_inHold 19 = .ok (.ireturn, 1) := dk_172 (dk_at dksX4_inHold_0 19 rfl rfl)
abbrev cX4_wouldBring : ByteArray := prog_19_method_43_code
def yX4_wouldBring : MethodName := ⟨RX4, "wouldBring", "(II)I"⟩
def dkwX4_wouldBring_1 : List UInt8 := [42, 42, 27, 28, 182, 0, 132, 182, 0, 75, 167, 0, 8, 42, 5, 182, 0, 68, 172]
abbrev dktX4_wouldBring_1 : List UInt8 := dkwX4_wouldBring_1 ++ []
def dkwX4_wouldBring_0 : List UInt8 := [42, 27, 182, 0, 95, 154, 0, 9, 42, 4, 182, 0, 68, 172, 28, 3, 16, 30, 184, 0, 60, 153, 0, 16]
abbrev dktX4_wouldBring_0 : List UInt8 := dkwX4_wouldBring_0 ++ dktX4_wouldBring_1
theorem dksX4_wouldBring_0 : cX4_wouldBring.data.toList.drop 0 = dktX4_wouldBring_0 := by decide +kernel
theorem dksX4_wouldBring_1 : cX4_wouldBring.data.toList.drop 24 = dktX4_wouldBring_1 := dk_seg dksX4_wouldBring_0 24 rfl rfl
theorem dX4_wouldBring_0 : decode cX4_wouldBring 0 = .ok (.aload_n 0, 1) := dk_42 (dk_at dksX4_wouldBring_0 0 rfl rfl)
theorem dX4_wouldBring_1 : decode cX4_wouldBring 1 = .ok (.iload_n 1, 1) := dk_27 (dk_at dksX4_wouldBring_0 1 rfl rfl)
theorem dX4_wouldBring_2 : decode cX4_wouldBring 2 = .ok (.invokevirtual 95, 3) := dk_182 0 95 (dk_at dksX4_wouldBring_0 2 rfl rfl)
theorem dX4_wouldBring_5 : decode cX4_wouldBring 5 = .ok (.ifCond .ne 9, 3) := dk_154 0 9 (dk_at dksX4_wouldBring_0 5 rfl rfl)
theorem dX4_wouldBring_8 : decode cX4_wouldBring 8 = .ok (.aload_n 0, 1) := dk_42 (dk_at dksX4_wouldBring_0 8 rfl rfl)
theorem dX4_wouldBring_9 : decode cX4_wouldBring 9 = .ok (.iconst 1, 1) := dk_4 (dk_at dksX4_wouldBring_0 9 rfl rfl)
theorem dX4_wouldBring_10 : decode cX4_wouldBring 10 = .ok (.invokevirtual 68, 3) := dk_182 0 68 (dk_at dksX4_wouldBring_0 10 rfl rfl)
theorem dX4_wouldBring_13 : decode cX4_wouldBring 13 = .ok (.ireturn, 1) := dk_172 (dk_at dksX4_wouldBring_0 13 rfl rfl)
theorem dX4_wouldBring_14 : decode cX4_wouldBring 14 = .ok (.iload_n 2, 1) := dk_28 (dk_at dksX4_wouldBring_0 14 rfl rfl)
theorem dX4_wouldBring_15 : decode cX4_wouldBring 15 = .ok (.iconst 0, 1) := dk_3 (dk_at dksX4_wouldBring_0 15 rfl rfl)
theorem dX4_wouldBring_16 : decode cX4_wouldBring 16 = .ok (.bipush 30, 2) := dk_16 30 (dk_at dksX4_wouldBring_0 16 rfl rfl)
theorem dX4_wouldBring_18 : decode cX4_wouldBring 18 = .ok (.invokestatic 60, 3) := dk_184 0 60 (dk_at dksX4_wouldBring_0 18 rfl rfl)
theorem dX4_wouldBring_21 : decode cX4_wouldBring 21 = .ok (.ifCond .eq 16, 3) := dk_153 0 16 (dk_at dksX4_wouldBring_0 21 rfl rfl)
theorem dX4_wouldBring_24 : decode cX4_wouldBring 24 = .ok (.aload_n 0, 1) := dk_42 (dk_at dksX4_wouldBring_1 0 rfl rfl)
theorem dX4_wouldBring_25 : decode cX4_wouldBring 25 = .ok (.aload_n 0, 1) := dk_42 (dk_at dksX4_wouldBring_1 1 rfl rfl)
theorem dX4_wouldBring_26 : decode cX4_wouldBring 26 = .ok (.iload_n 1, 1) := dk_27 (dk_at dksX4_wouldBring_1 2 rfl rfl)
theorem dX4_wouldBring_27 : decode cX4_wouldBring 27 = .ok (.iload_n 2, 1) := dk_28 (dk_at dksX4_wouldBring_1 3 rfl rfl)
theorem dX4_wouldBring_28 : decode cX4_wouldBring 28 = .ok (.invokevirtual 132, 3) := dk_182 0 132 (dk_at dksX4_wouldBring_1 4 rfl rfl)
theorem dX4_wouldBring_31 : decode cX4_wouldBring 31 = .ok (.invokevirtual 75, 3) := dk_182 0 75 (dk_at dksX4_wouldBring_1 7 rfl rfl)
theorem dX4_wouldBring_34 : decode cX4_wouldBring 34 = .ok (.goto 8, 3) := dk_167 0 8 (dk_at dksX4_wouldBring_1 10 rfl rfl)
theorem dX4_wouldBring_37 : decode cX4_wouldBring 37 = .ok (.aload_n 0, 1) := dk_42 (dk_at dksX4_wouldBring_1 13 rfl rfl)
theorem dX4_wouldBring_38 : decode cX4_wouldBring 38 = .ok (.iconst 2, 1) := dk_5 (dk_at dksX4_wouldBring_1 14 rfl rfl)
theorem dX4_wouldBring_39 : decode cX4_wouldBring 39 = .ok (.invokevirtual 68, 3) := dk_182 0 68 (dk_at dksX4_wouldBring_1 15 rfl rfl)
theorem dX4_wouldBring_42 : decode cX4_wouldBring 42 = .ok (.ireturn, 1) := dk_172 (dk_at dksX4_wouldBring_1 18 rfl rfl)
abbrev cX4_brings : ByteArray := prog_19_method_42_code
def yX4_brings : MethodName := ⟨RX4, "brings", "(II)I"⟩
def dkwX4_brings_2 : List UInt8 := [184, 0, 53, 29, 172]
abbrev dktX4_brings_2 : List UInt8 := dkwX4_brings_2 ++ []
def dkwX4_brings_1 : List UInt8 := [54, 4, 132, 3, 1, 167, 255, 242, 42, 27, 182, 0, 129, 62, 42, 180, 0, 22, 3, 42, 180, 0, 7, 3]
abbrev dktX4_brings_1 : List UInt8 := dkwX4_brings_1 ++ dktX4_brings_2
def dkwX4_brings_0 : List UInt8 := [42, 180, 0, 7, 3, 42, 180, 0, 22, 3, 184, 0, 53, 3, 62, 29, 28, 162, 0, 15, 42, 182, 0, 125]
abbrev dktX4_brings_0 : List UInt8 := dkwX4_brings_0 ++ dktX4_brings_1
theorem dksX4_brings_0 : cX4_brings.data.toList.drop 0 = dktX4_brings_0 := by decide +kernel
theorem dksX4_brings_1 : cX4_brings.data.toList.drop 24 = dktX4_brings_1 := dk_seg dksX4_brings_0 24 rfl rfl
theorem dksX4_brings_2 : cX4_brings.data.toList.drop 48 = dktX4_brings_2 := dk_seg dksX4_brings_1 24 rfl rfl
theorem dX4_brings_0 : decode cX4_brings 0 = .ok (.aload_n 0, 1) := dk_42 (dk_at dksX4_brings_0 0 rfl rfl)
theorem dX4_brings_1 : decode cX4_brings 1 = .ok (.getfield 7, 3) := dk_180 0 7 (dk_at dksX4_brings_0 1 rfl rfl)
theorem dX4_brings_4 : decode cX4_brings 4 = .ok (.iconst 0, 1) := dk_3 (dk_at dksX4_brings_0 4 rfl rfl)
theorem dX4_brings_5 : decode cX4_brings 5 = .ok (.aload_n 0, 1) := dk_42 (dk_at dksX4_brings_0 5 rfl rfl)
theorem dX4_brings_6 : decode cX4_brings 6 = .ok (.getfield 22, 3) := dk_180 0 22 (dk_at dksX4_brings_0 6 rfl rfl)
theorem dX4_brings_9 : decode cX4_brings 9 = .ok (.iconst 0, 1) := dk_3 (dk_at dksX4_brings_0 9 rfl rfl)
theorem dX4_brings_10 : decode cX4_brings 10 = .ok (.invokestatic 53, 3) := dk_184 0 53 (dk_at dksX4_brings_0 10 rfl rfl)
theorem dX4_brings_13 : decode cX4_brings 13 = .ok (.iconst 0, 1) := dk_3 (dk_at dksX4_brings_0 13 rfl rfl)
theorem dX4_brings_14 : decode cX4_brings 14 = .ok (.istore_n 3, 1) := dk_62 (dk_at dksX4_brings_0 14 rfl rfl)
theorem dX4_brings_15 : decode cX4_brings 15 = .ok (.iload_n 3, 1) := dk_29 (dk_at dksX4_brings_0 15 rfl rfl)
theorem dX4_brings_16 : decode cX4_brings 16 = .ok (.iload_n 2, 1) := dk_28 (dk_at dksX4_brings_0 16 rfl rfl)
theorem dX4_brings_17 : decode cX4_brings 17 = .ok (.if_icmp .ge 15, 3) := dk_162 0 15 (dk_at dksX4_brings_0 17 rfl rfl)
theorem dX4_brings_20 : decode cX4_brings 20 = .ok (.aload_n 0, 1) := dk_42 (dk_at dksX4_brings_0 20 rfl rfl)
theorem dX4_brings_21 : decode cX4_brings 21 = .ok (.invokevirtual 125, 3) := dk_182 0 125 (dk_at dksX4_brings_0 21 rfl rfl)
theorem dX4_brings_24 : decode cX4_brings 24 = .ok (.istore 4, 2) := dk_54 4 (dk_at dksX4_brings_1 0 rfl rfl)
theorem dX4_brings_26 : decode cX4_brings 26 = .ok (.iinc 3 1, 3) := dk_132 3 1 (dk_at dksX4_brings_1 2 rfl rfl)
theorem dX4_brings_29 : decode cX4_brings 29 = .ok (.goto (-14), 3) := dk_167 255 242 (dk_at dksX4_brings_1 5 rfl rfl)
theorem dX4_brings_32 : decode cX4_brings 32 = .ok (.aload_n 0, 1) := dk_42 (dk_at dksX4_brings_1 8 rfl rfl)
theorem dX4_brings_33 : decode cX4_brings 33 = .ok (.iload_n 1, 1) := dk_27 (dk_at dksX4_brings_1 9 rfl rfl)
theorem dX4_brings_34 : decode cX4_brings 34 = .ok (.invokevirtual 129, 3) := dk_182 0 129 (dk_at dksX4_brings_1 10 rfl rfl)
theorem dX4_brings_37 : decode cX4_brings 37 = .ok (.istore_n 3, 1) := dk_62 (dk_at dksX4_brings_1 13 rfl rfl)
theorem dX4_brings_38 : decode cX4_brings 38 = .ok (.aload_n 0, 1) := dk_42 (dk_at dksX4_brings_1 14 rfl rfl)
theorem dX4_brings_39 : decode cX4_brings 39 = .ok (.getfield 22, 3) := dk_180 0 22 (dk_at dksX4_brings_1 15 rfl rfl)
theorem dX4_brings_42 : decode cX4_brings 42 = .ok (.iconst 0, 1) := dk_3 (dk_at dksX4_brings_1 18 rfl rfl)
theorem dX4_brings_43 : decode cX4_brings 43 = .ok (.aload_n 0, 1) := dk_42 (dk_at dksX4_brings_1 19 rfl rfl)
theorem dX4_brings_44 : decode cX4_brings 44 = .ok (.getfield 7, 3) := dk_180 0 7 (dk_at dksX4_brings_1 20 rfl rfl)
theorem dX4_brings_47 : decode cX4_brings 47 = .ok (.iconst 0, 1) := dk_3 (dk_at dksX4_brings_1 23 rfl rfl)
theorem dX4_brings_48 : decode cX4_brings 48 = .ok (.invokestatic 53, 3) := dk_184 0 53 (dk_at dksX4_brings_2 0 rfl rfl)
theorem dX4_brings_51 : decode cX4_brings 51 = .ok (.iload_n 3, 1) := dk_29 (dk_at dksX4_brings_2 3 rfl rfl)
theorem dX4_brings_52 : decode cX4_brings 52 = .ok (.ireturn, 1) := dk_172 (dk_at dksX4_brings_2 4 rfl rfl)
abbrev cX4_goesDay : ByteArray := prog_19_method_52_code
def yX4_goesDay : MethodName := ⟨RX4, "goesDay", "()I"⟩
def dkwX4_goesDay_7 : List UInt8 := [3, 92, 46, 4, 96, 79, 27, 172]
abbrev dktX4_goesDay_7 : List UInt8 := dkwX4_goesDay_7 ++ []
def dkwX4_goesDay_6 : List UInt8 := [182, 0, 144, 132, 2, 1, 167, 255, 242, 42, 180, 0, 7, 16, 107, 92, 46, 27, 96, 79, 42, 180, 0, 7]
abbrev dktX4_goesDay_6 : List UInt8 := dkwX4_goesDay_6 ++ dktX4_goesDay_7
def dkwX4_goesDay_5 : List UInt8 := [46, 29, 96, 79, 27, 29, 96, 60, 132, 2, 1, 167, 255, 171, 3, 61, 28, 16, 6, 162, 0, 14, 42, 28]
abbrev dktX4_goesDay_5 : List UInt8 := dkwX4_goesDay_5 ++ dktX4_goesDay_6
def dkwX4_goesDay_4 : List UInt8 := [108, 62, 42, 180, 0, 7, 16, 47, 28, 96, 92, 46, 29, 100, 79, 42, 180, 0, 7, 16, 87, 28, 96, 92]
abbrev dktX4_goesDay_4 : List UInt8 := dkwX4_goesDay_4 ++ dktX4_goesDay_5
def dkwX4_goesDay_3 : List UInt8 := [16, 57, 28, 96, 46, 2, 160, 0, 7, 3, 167, 0, 15, 42, 180, 0, 7, 16, 47, 28, 96, 46, 16, 8]
abbrev dktX4_goesDay_3 : List UInt8 := dkwX4_goesDay_3 ++ dktX4_goesDay_4
def dkwX4_goesDay_2 : List UInt8 := [180, 0, 7, 16, 46, 46, 162, 0, 80, 42, 180, 0, 7, 4, 46, 16, 7, 161, 0, 69, 42, 180, 0, 7]
abbrev dktX4_goesDay_2 : List UInt8 := dkwX4_goesDay_2 ++ dktX4_goesDay_3
def dkwX4_goesDay_1 : List UInt8 := [79, 42, 180, 0, 7, 16, 31, 28, 96, 16, 10, 79, 132, 2, 1, 167, 255, 221, 3, 61, 28, 42]
abbrev dktX4_goesDay_1 : List UInt8 := dkwX4_goesDay_1 ++ dktX4_goesDay_2
def dkwX4_goesDay_0 : List UInt8 := [3, 60, 3, 61, 28, 42, 180, 0, 7, 16, 24, 46, 162, 0, 30, 42, 180, 0, 7, 16, 28, 28, 96, 2]
abbrev dktX4_goesDay_0 : List UInt8 := dkwX4_goesDay_0 ++ dktX4_goesDay_1
theorem dksX4_goesDay_0 : cX4_goesDay.data.toList.drop 0 = dktX4_goesDay_0 := by decide +kernel
theorem dksX4_goesDay_1 : cX4_goesDay.data.toList.drop 24 = dktX4_goesDay_1 := dk_seg dksX4_goesDay_0 24 rfl rfl
theorem dksX4_goesDay_2 : cX4_goesDay.data.toList.drop 46 = dktX4_goesDay_2 := dk_seg dksX4_goesDay_1 22 rfl rfl
theorem dksX4_goesDay_3 : cX4_goesDay.data.toList.drop 70 = dktX4_goesDay_3 := dk_seg dksX4_goesDay_2 24 rfl rfl
theorem dksX4_goesDay_4 : cX4_goesDay.data.toList.drop 94 = dktX4_goesDay_4 := dk_seg dksX4_goesDay_3 24 rfl rfl
theorem dksX4_goesDay_5 : cX4_goesDay.data.toList.drop 118 = dktX4_goesDay_5 := dk_seg dksX4_goesDay_4 24 rfl rfl
theorem dksX4_goesDay_6 : cX4_goesDay.data.toList.drop 142 = dktX4_goesDay_6 := dk_seg dksX4_goesDay_5 24 rfl rfl
theorem dksX4_goesDay_7 : cX4_goesDay.data.toList.drop 166 = dktX4_goesDay_7 := dk_seg dksX4_goesDay_6 24 rfl rfl
theorem dX4_goesDay_0 : decode cX4_goesDay 0 = .ok (.iconst 0, 1) := dk_3 (dk_at dksX4_goesDay_0 0 rfl rfl)
theorem dX4_goesDay_1 : decode cX4_goesDay 1 = .ok (.istore_n 1, 1) := dk_60 (dk_at dksX4_goesDay_0 1 rfl rfl)
theorem dX4_goesDay_2 : decode cX4_goesDay 2 = .ok (.iconst 0, 1) := dk_3 (dk_at dksX4_goesDay_0 2 rfl rfl)
theorem dX4_goesDay_3 : decode cX4_goesDay 3 = .ok (.istore_n 2, 1) := dk_61 (dk_at dksX4_goesDay_0 3 rfl rfl)
theorem dX4_goesDay_4 : decode cX4_goesDay 4 = .ok (.iload_n 2, 1) := dk_28 (dk_at dksX4_goesDay_0 4 rfl rfl)
theorem dX4_goesDay_5 : decode cX4_goesDay 5 = .ok (.aload_n 0, 1) := dk_42 (dk_at dksX4_goesDay_0 5 rfl rfl)
theorem dX4_goesDay_6 : decode cX4_goesDay 6 = .ok (.getfield 7, 3) := dk_180 0 7 (dk_at dksX4_goesDay_0 6 rfl rfl)
theorem dX4_goesDay_9 : decode cX4_goesDay 9 = .ok (.bipush 24, 2) := dk_16 24 (dk_at dksX4_goesDay_0 9 rfl rfl)
theorem dX4_goesDay_11 : decode cX4_goesDay 11 = .ok (.iaload, 1) := dk_46 (dk_at dksX4_goesDay_0 11 rfl rfl)
theorem dX4_goesDay_12 : decode cX4_goesDay 12 = .ok (.if_icmp .ge 30, 3) := dk_162 0 30 (dk_at dksX4_goesDay_0 12 rfl rfl)
theorem dX4_goesDay_15 : decode cX4_goesDay 15 = .ok (.aload_n 0, 1) := dk_42 (dk_at dksX4_goesDay_0 15 rfl rfl)
theorem dX4_goesDay_16 : decode cX4_goesDay 16 = .ok (.getfield 7, 3) := dk_180 0 7 (dk_at dksX4_goesDay_0 16 rfl rfl)
theorem dX4_goesDay_19 : decode cX4_goesDay 19 = .ok (.bipush 28, 2) := dk_16 28 (dk_at dksX4_goesDay_0 19 rfl rfl)
theorem dX4_goesDay_21 : decode cX4_goesDay 21 = .ok (.iload_n 2, 1) := dk_28 (dk_at dksX4_goesDay_0 21 rfl rfl)
theorem dX4_goesDay_22 : decode cX4_goesDay 22 = .ok (.iadd, 1) := dk_96 (dk_at dksX4_goesDay_0 22 rfl rfl)
theorem dX4_goesDay_23 : decode cX4_goesDay 23 = .ok (.iconst (-1), 1) := dk_2 (dk_at dksX4_goesDay_0 23 rfl rfl)
theorem dX4_goesDay_24 : decode cX4_goesDay 24 = .ok (.iastore, 1) := dk_79 (dk_at dksX4_goesDay_1 0 rfl rfl)
theorem dX4_goesDay_25 : decode cX4_goesDay 25 = .ok (.aload_n 0, 1) := dk_42 (dk_at dksX4_goesDay_1 1 rfl rfl)
theorem dX4_goesDay_26 : decode cX4_goesDay 26 = .ok (.getfield 7, 3) := dk_180 0 7 (dk_at dksX4_goesDay_1 2 rfl rfl)
theorem dX4_goesDay_29 : decode cX4_goesDay 29 = .ok (.bipush 31, 2) := dk_16 31 (dk_at dksX4_goesDay_1 5 rfl rfl)
theorem dX4_goesDay_31 : decode cX4_goesDay 31 = .ok (.iload_n 2, 1) := dk_28 (dk_at dksX4_goesDay_1 7 rfl rfl)
theorem dX4_goesDay_32 : decode cX4_goesDay 32 = .ok (.iadd, 1) := dk_96 (dk_at dksX4_goesDay_1 8 rfl rfl)
theorem dX4_goesDay_33 : decode cX4_goesDay 33 = .ok (.bipush 10, 2) := dk_16 10 (dk_at dksX4_goesDay_1 9 rfl rfl)
theorem dX4_goesDay_35 : decode cX4_goesDay 35 = .ok (.iastore, 1) := dk_79 (dk_at dksX4_goesDay_1 11 rfl rfl)
theorem dX4_goesDay_36 : decode cX4_goesDay 36 = .ok (.iinc 2 1, 3) := dk_132 2 1 (dk_at dksX4_goesDay_1 12 rfl rfl)
theorem dX4_goesDay_39 : decode cX4_goesDay 39 = .ok (.goto (-35), 3) := dk_167 255 221 (dk_at dksX4_goesDay_1 15 rfl rfl)
theorem dX4_goesDay_42 : decode cX4_goesDay 42 = .ok (.iconst 0, 1) := dk_3 (dk_at dksX4_goesDay_1 18 rfl rfl)
theorem dX4_goesDay_43 : decode cX4_goesDay 43 = .ok (.istore_n 2, 1) := dk_61 (dk_at dksX4_goesDay_1 19 rfl rfl)
theorem dX4_goesDay_44 : decode cX4_goesDay 44 = .ok (.iload_n 2, 1) := dk_28 (dk_at dksX4_goesDay_1 20 rfl rfl)
theorem dX4_goesDay_45 : decode cX4_goesDay 45 = .ok (.aload_n 0, 1) := dk_42 (dk_at dksX4_goesDay_1 21 rfl rfl)
theorem dX4_goesDay_46 : decode cX4_goesDay 46 = .ok (.getfield 7, 3) := dk_180 0 7 (dk_at dksX4_goesDay_2 0 rfl rfl)
theorem dX4_goesDay_49 : decode cX4_goesDay 49 = .ok (.bipush 46, 2) := dk_16 46 (dk_at dksX4_goesDay_2 3 rfl rfl)
theorem dX4_goesDay_51 : decode cX4_goesDay 51 = .ok (.iaload, 1) := dk_46 (dk_at dksX4_goesDay_2 5 rfl rfl)
theorem dX4_goesDay_52 : decode cX4_goesDay 52 = .ok (.if_icmp .ge 80, 3) := dk_162 0 80 (dk_at dksX4_goesDay_2 6 rfl rfl)
theorem dX4_goesDay_55 : decode cX4_goesDay 55 = .ok (.aload_n 0, 1) := dk_42 (dk_at dksX4_goesDay_2 9 rfl rfl)
theorem dX4_goesDay_56 : decode cX4_goesDay 56 = .ok (.getfield 7, 3) := dk_180 0 7 (dk_at dksX4_goesDay_2 10 rfl rfl)
theorem dX4_goesDay_59 : decode cX4_goesDay 59 = .ok (.iconst 1, 1) := dk_4 (dk_at dksX4_goesDay_2 13 rfl rfl)
theorem dX4_goesDay_60 : decode cX4_goesDay 60 = .ok (.iaload, 1) := dk_46 (dk_at dksX4_goesDay_2 14 rfl rfl)
theorem dX4_goesDay_61 : decode cX4_goesDay 61 = .ok (.bipush 7, 2) := dk_16 7 (dk_at dksX4_goesDay_2 15 rfl rfl)
theorem dX4_goesDay_63 : decode cX4_goesDay 63 = .ok (.if_icmp .lt 69, 3) := dk_161 0 69 (dk_at dksX4_goesDay_2 17 rfl rfl)
theorem dX4_goesDay_66 : decode cX4_goesDay 66 = .ok (.aload_n 0, 1) := dk_42 (dk_at dksX4_goesDay_2 20 rfl rfl)
theorem dX4_goesDay_67 : decode cX4_goesDay 67 = .ok (.getfield 7, 3) := dk_180 0 7 (dk_at dksX4_goesDay_2 21 rfl rfl)
theorem dX4_goesDay_70 : decode cX4_goesDay 70 = .ok (.bipush 57, 2) := dk_16 57 (dk_at dksX4_goesDay_3 0 rfl rfl)
theorem dX4_goesDay_72 : decode cX4_goesDay 72 = .ok (.iload_n 2, 1) := dk_28 (dk_at dksX4_goesDay_3 2 rfl rfl)
theorem dX4_goesDay_73 : decode cX4_goesDay 73 = .ok (.iadd, 1) := dk_96 (dk_at dksX4_goesDay_3 3 rfl rfl)
theorem dX4_goesDay_74 : decode cX4_goesDay 74 = .ok (.iaload, 1) := dk_46 (dk_at dksX4_goesDay_3 4 rfl rfl)
theorem dX4_goesDay_75 : decode cX4_goesDay 75 = .ok (.iconst (-1), 1) := dk_2 (dk_at dksX4_goesDay_3 5 rfl rfl)
theorem dX4_goesDay_76 : decode cX4_goesDay 76 = .ok (.if_icmp .ne 7, 3) := dk_160 0 7 (dk_at dksX4_goesDay_3 6 rfl rfl)
theorem dX4_goesDay_79 : decode cX4_goesDay 79 = .ok (.iconst 0, 1) := dk_3 (dk_at dksX4_goesDay_3 9 rfl rfl)
theorem dX4_goesDay_80 : decode cX4_goesDay 80 = .ok (.goto 15, 3) := dk_167 0 15 (dk_at dksX4_goesDay_3 10 rfl rfl)
theorem dX4_goesDay_83 : decode cX4_goesDay 83 = .ok (.aload_n 0, 1) := dk_42 (dk_at dksX4_goesDay_3 13 rfl rfl)
theorem dX4_goesDay_84 : decode cX4_goesDay 84 = .ok (.getfield 7, 3) := dk_180 0 7 (dk_at dksX4_goesDay_3 14 rfl rfl)
theorem dX4_goesDay_87 : decode cX4_goesDay 87 = .ok (.bipush 47, 2) := dk_16 47 (dk_at dksX4_goesDay_3 17 rfl rfl)
theorem dX4_goesDay_89 : decode cX4_goesDay 89 = .ok (.iload_n 2, 1) := dk_28 (dk_at dksX4_goesDay_3 19 rfl rfl)
theorem dX4_goesDay_90 : decode cX4_goesDay 90 = .ok (.iadd, 1) := dk_96 (dk_at dksX4_goesDay_3 20 rfl rfl)
theorem dX4_goesDay_91 : decode cX4_goesDay 91 = .ok (.iaload, 1) := dk_46 (dk_at dksX4_goesDay_3 21 rfl rfl)
theorem dX4_goesDay_92 : decode cX4_goesDay 92 = .ok (.bipush 8, 2) := dk_16 8 (dk_at dksX4_goesDay_3 22 rfl rfl)
theorem dX4_goesDay_94 : decode cX4_goesDay 94 = .ok (.idiv, 1) := dk_108 (dk_at dksX4_goesDay_4 0 rfl rfl)
theorem dX4_goesDay_95 : decode cX4_goesDay 95 = .ok (.istore_n 3, 1) := dk_62 (dk_at dksX4_goesDay_4 1 rfl rfl)
theorem dX4_goesDay_96 : decode cX4_goesDay 96 = .ok (.aload_n 0, 1) := dk_42 (dk_at dksX4_goesDay_4 2 rfl rfl)
theorem dX4_goesDay_97 : decode cX4_goesDay 97 = .ok (.getfield 7, 3) := dk_180 0 7 (dk_at dksX4_goesDay_4 3 rfl rfl)
theorem dX4_goesDay_100 : decode cX4_goesDay 100 = .ok (.bipush 47, 2) := dk_16 47 (dk_at dksX4_goesDay_4 6 rfl rfl)
theorem dX4_goesDay_102 : decode cX4_goesDay 102 = .ok (.iload_n 2, 1) := dk_28 (dk_at dksX4_goesDay_4 8 rfl rfl)
theorem dX4_goesDay_103 : decode cX4_goesDay 103 = .ok (.iadd, 1) := dk_96 (dk_at dksX4_goesDay_4 9 rfl rfl)
theorem dX4_goesDay_104 : decode cX4_goesDay 104 = .ok (.dup2, 1) := dk_92 (dk_at dksX4_goesDay_4 10 rfl rfl)
theorem dX4_goesDay_105 : decode cX4_goesDay 105 = .ok (.iaload, 1) := dk_46 (dk_at dksX4_goesDay_4 11 rfl rfl)
theorem dX4_goesDay_106 : decode cX4_goesDay 106 = .ok (.iload_n 3, 1) := dk_29 (dk_at dksX4_goesDay_4 12 rfl rfl)
theorem dX4_goesDay_107 : decode cX4_goesDay 107 = .ok (.isub, 1) := dk_100 (dk_at dksX4_goesDay_4 13 rfl rfl)
theorem dX4_goesDay_108 : decode cX4_goesDay 108 = .ok (.iastore, 1) := dk_79 (dk_at dksX4_goesDay_4 14 rfl rfl)
theorem dX4_goesDay_109 : decode cX4_goesDay 109 = .ok (.aload_n 0, 1) := dk_42 (dk_at dksX4_goesDay_4 15 rfl rfl)
theorem dX4_goesDay_110 : decode cX4_goesDay 110 = .ok (.getfield 7, 3) := dk_180 0 7 (dk_at dksX4_goesDay_4 16 rfl rfl)
theorem dX4_goesDay_113 : decode cX4_goesDay 113 = .ok (.bipush 87, 2) := dk_16 87 (dk_at dksX4_goesDay_4 19 rfl rfl)
theorem dX4_goesDay_115 : decode cX4_goesDay 115 = .ok (.iload_n 2, 1) := dk_28 (dk_at dksX4_goesDay_4 21 rfl rfl)
theorem dX4_goesDay_116 : decode cX4_goesDay 116 = .ok (.iadd, 1) := dk_96 (dk_at dksX4_goesDay_4 22 rfl rfl)
theorem dX4_goesDay_117 : decode cX4_goesDay 117 = .ok (.dup2, 1) := dk_92 (dk_at dksX4_goesDay_4 23 rfl rfl)
theorem dX4_goesDay_118 : decode cX4_goesDay 118 = .ok (.iaload, 1) := dk_46 (dk_at dksX4_goesDay_5 0 rfl rfl)
theorem dX4_goesDay_119 : decode cX4_goesDay 119 = .ok (.iload_n 3, 1) := dk_29 (dk_at dksX4_goesDay_5 1 rfl rfl)
theorem dX4_goesDay_120 : decode cX4_goesDay 120 = .ok (.iadd, 1) := dk_96 (dk_at dksX4_goesDay_5 2 rfl rfl)
theorem dX4_goesDay_121 : decode cX4_goesDay 121 = .ok (.iastore, 1) := dk_79 (dk_at dksX4_goesDay_5 3 rfl rfl)
theorem dX4_goesDay_122 : decode cX4_goesDay 122 = .ok (.iload_n 1, 1) := dk_27 (dk_at dksX4_goesDay_5 4 rfl rfl)
theorem dX4_goesDay_123 : decode cX4_goesDay 123 = .ok (.iload_n 3, 1) := dk_29 (dk_at dksX4_goesDay_5 5 rfl rfl)
theorem dX4_goesDay_124 : decode cX4_goesDay 124 = .ok (.iadd, 1) := dk_96 (dk_at dksX4_goesDay_5 6 rfl rfl)
theorem dX4_goesDay_125 : decode cX4_goesDay 125 = .ok (.istore_n 1, 1) := dk_60 (dk_at dksX4_goesDay_5 7 rfl rfl)
theorem dX4_goesDay_126 : decode cX4_goesDay 126 = .ok (.iinc 2 1, 3) := dk_132 2 1 (dk_at dksX4_goesDay_5 8 rfl rfl)
theorem dX4_goesDay_129 : decode cX4_goesDay 129 = .ok (.goto (-85), 3) := dk_167 255 171 (dk_at dksX4_goesDay_5 11 rfl rfl)
theorem dX4_goesDay_132 : decode cX4_goesDay 132 = .ok (.iconst 0, 1) := dk_3 (dk_at dksX4_goesDay_5 14 rfl rfl)
theorem dX4_goesDay_133 : decode cX4_goesDay 133 = .ok (.istore_n 2, 1) := dk_61 (dk_at dksX4_goesDay_5 15 rfl rfl)
theorem dX4_goesDay_134 : decode cX4_goesDay 134 = .ok (.iload_n 2, 1) := dk_28 (dk_at dksX4_goesDay_5 16 rfl rfl)
theorem dX4_goesDay_135 : decode cX4_goesDay 135 = .ok (.bipush 6, 2) := dk_16 6 (dk_at dksX4_goesDay_5 17 rfl rfl)
theorem dX4_goesDay_137 : decode cX4_goesDay 137 = .ok (.if_icmp .ge 14, 3) := dk_162 0 14 (dk_at dksX4_goesDay_5 19 rfl rfl)
theorem dX4_goesDay_140 : decode cX4_goesDay 140 = .ok (.aload_n 0, 1) := dk_42 (dk_at dksX4_goesDay_5 22 rfl rfl)
theorem dX4_goesDay_141 : decode cX4_goesDay 141 = .ok (.iload_n 2, 1) := dk_28 (dk_at dksX4_goesDay_5 23 rfl rfl)
theorem dX4_goesDay_142 : decode cX4_goesDay 142 = .ok (.invokevirtual 144, 3) := dk_182 0 144 (dk_at dksX4_goesDay_6 0 rfl rfl)
theorem dX4_goesDay_145 : decode cX4_goesDay 145 = .ok (.iinc 2 1, 3) := dk_132 2 1 (dk_at dksX4_goesDay_6 3 rfl rfl)
theorem dX4_goesDay_148 : decode cX4_goesDay 148 = .ok (.goto (-14), 3) := dk_167 255 242 (dk_at dksX4_goesDay_6 6 rfl rfl)
theorem dX4_goesDay_151 : decode cX4_goesDay 151 = .ok (.aload_n 0, 1) := dk_42 (dk_at dksX4_goesDay_6 9 rfl rfl)
theorem dX4_goesDay_152 : decode cX4_goesDay 152 = .ok (.getfield 7, 3) := dk_180 0 7 (dk_at dksX4_goesDay_6 10 rfl rfl)
theorem dX4_goesDay_155 : decode cX4_goesDay 155 = .ok (.bipush 107, 2) := dk_16 107 (dk_at dksX4_goesDay_6 13 rfl rfl)
theorem dX4_goesDay_157 : decode cX4_goesDay 157 = .ok (.dup2, 1) := dk_92 (dk_at dksX4_goesDay_6 15 rfl rfl)
theorem dX4_goesDay_158 : decode cX4_goesDay 158 = .ok (.iaload, 1) := dk_46 (dk_at dksX4_goesDay_6 16 rfl rfl)
theorem dX4_goesDay_159 : decode cX4_goesDay 159 = .ok (.iload_n 1, 1) := dk_27 (dk_at dksX4_goesDay_6 17 rfl rfl)
theorem dX4_goesDay_160 : decode cX4_goesDay 160 = .ok (.iadd, 1) := dk_96 (dk_at dksX4_goesDay_6 18 rfl rfl)
theorem dX4_goesDay_161 : decode cX4_goesDay 161 = .ok (.iastore, 1) := dk_79 (dk_at dksX4_goesDay_6 19 rfl rfl)
theorem dX4_goesDay_162 : decode cX4_goesDay 162 = .ok (.aload_n 0, 1) := dk_42 (dk_at dksX4_goesDay_6 20 rfl rfl)
theorem dX4_goesDay_163 : decode cX4_goesDay 163 = .ok (.getfield 7, 3) := dk_180 0 7 (dk_at dksX4_goesDay_6 21 rfl rfl)
theorem dX4_goesDay_166 : decode cX4_goesDay 166 = .ok (.iconst 0, 1) := dk_3 (dk_at dksX4_goesDay_7 0 rfl rfl)
theorem dX4_goesDay_167 : decode cX4_goesDay 167 = .ok (.dup2, 1) := dk_92 (dk_at dksX4_goesDay_7 1 rfl rfl)
theorem dX4_goesDay_168 : decode cX4_goesDay 168 = .ok (.iaload, 1) := dk_46 (dk_at dksX4_goesDay_7 2 rfl rfl)
theorem dX4_goesDay_169 : decode cX4_goesDay 169 = .ok (.iconst 1, 1) := dk_4 (dk_at dksX4_goesDay_7 3 rfl rfl)
theorem dX4_goesDay_170 : decode cX4_goesDay 170 = .ok (.iadd, 1) := dk_96 (dk_at dksX4_goesDay_7 4 rfl rfl)
theorem dX4_goesDay_171 : decode cX4_goesDay 171 = .ok (.iastore, 1) := dk_79 (dk_at dksX4_goesDay_7 5 rfl rfl)
theorem dX4_goesDay_172 : decode cX4_goesDay 172 = .ok (.iload_n 1, 1) := dk_27 (dk_at dksX4_goesDay_7 6 rfl rfl)
theorem dX4_goesDay_173 : decode cX4_goesDay 173 = .ok (.ireturn, 1) := dk_172 (dk_at dksX4_goesDay_7 7 rfl rfl)
abbrev cX4_grows : ByteArray := prog_19_method_51_code
def yX4_grows : MethodName := ⟨RX4, "grows", "(I)V"⟩
def dkwX4_grows_4 : List UInt8 := [96, 184, 0, 141, 79, 177]
abbrev dktX4_grows_4 : List UInt8 := dkwX4_grows_4 ++ []
def dkwX4_grows_3 : List UInt8 := [21, 4, 16, 20, 108, 100, 184, 0, 141, 79, 42, 180, 0, 7, 28, 5, 96, 21, 5, 21, 4, 16, 20, 108]
abbrev dktX4_grows_3 : List UInt8 := dkwX4_grows_3 ++ dktX4_grows_4
def dkwX4_grows_2 : List UInt8 := [96, 16, 25, 108, 96, 184, 0, 141, 79, 42, 180, 0, 7, 28, 4, 96, 21, 4, 29, 16, 20, 108, 96]
abbrev dktX4_grows_2 : List UInt8 := dkwX4_grows_2 ++ dktX4_grows_3
def dkwX4_grows_1 : List UInt8 := [180, 0, 7, 28, 5, 96, 46, 54, 5, 42, 180, 0, 7, 28, 29, 29, 16, 20, 108, 100, 21, 4, 21, 5]
abbrev dktX4_grows_1 : List UInt8 := dkwX4_grows_1 ++ dktX4_grows_2
def dkwX4_grows_0 : List UInt8 := [6, 6, 27, 104, 96, 61, 42, 180, 0, 7, 28, 46, 62, 42, 180, 0, 7, 28, 4, 96, 46, 54, 4, 42]
abbrev dktX4_grows_0 : List UInt8 := dkwX4_grows_0 ++ dktX4_grows_1
theorem dksX4_grows_0 : cX4_grows.data.toList.drop 0 = dktX4_grows_0 := by decide +kernel
theorem dksX4_grows_1 : cX4_grows.data.toList.drop 24 = dktX4_grows_1 := dk_seg dksX4_grows_0 24 rfl rfl
theorem dksX4_grows_2 : cX4_grows.data.toList.drop 48 = dktX4_grows_2 := dk_seg dksX4_grows_1 24 rfl rfl
theorem dksX4_grows_3 : cX4_grows.data.toList.drop 71 = dktX4_grows_3 := dk_seg dksX4_grows_2 23 rfl rfl
theorem dksX4_grows_4 : cX4_grows.data.toList.drop 95 = dktX4_grows_4 := dk_seg dksX4_grows_3 24 rfl rfl
theorem dX4_grows_0 : decode cX4_grows 0 = .ok (.iconst 3, 1) := dk_6 (dk_at dksX4_grows_0 0 rfl rfl)
theorem dX4_grows_1 : decode cX4_grows 1 = .ok (.iconst 3, 1) := dk_6 (dk_at dksX4_grows_0 1 rfl rfl)
theorem dX4_grows_2 : decode cX4_grows 2 = .ok (.iload_n 1, 1) := dk_27 (dk_at dksX4_grows_0 2 rfl rfl)
theorem dX4_grows_3 : decode cX4_grows 3 = .ok (.imul, 1) := dk_104 (dk_at dksX4_grows_0 3 rfl rfl)
theorem dX4_grows_4 : decode cX4_grows 4 = .ok (.iadd, 1) := dk_96 (dk_at dksX4_grows_0 4 rfl rfl)
theorem dX4_grows_5 : decode cX4_grows 5 = .ok (.istore_n 2, 1) := dk_61 (dk_at dksX4_grows_0 5 rfl rfl)
theorem dX4_grows_6 : decode cX4_grows 6 = .ok (.aload_n 0, 1) := dk_42 (dk_at dksX4_grows_0 6 rfl rfl)
theorem dX4_grows_7 : decode cX4_grows 7 = .ok (.getfield 7, 3) := dk_180 0 7 (dk_at dksX4_grows_0 7 rfl rfl)
theorem dX4_grows_10 : decode cX4_grows 10 = .ok (.iload_n 2, 1) := dk_28 (dk_at dksX4_grows_0 10 rfl rfl)
theorem dX4_grows_11 : decode cX4_grows 11 = .ok (.iaload, 1) := dk_46 (dk_at dksX4_grows_0 11 rfl rfl)
theorem dX4_grows_12 : decode cX4_grows 12 = .ok (.istore_n 3, 1) := dk_62 (dk_at dksX4_grows_0 12 rfl rfl)
theorem dX4_grows_13 : decode cX4_grows 13 = .ok (.aload_n 0, 1) := dk_42 (dk_at dksX4_grows_0 13 rfl rfl)
theorem dX4_grows_14 : decode cX4_grows 14 = .ok (.getfield 7, 3) := dk_180 0 7 (dk_at dksX4_grows_0 14 rfl rfl)
theorem dX4_grows_17 : decode cX4_grows 17 = .ok (.iload_n 2, 1) := dk_28 (dk_at dksX4_grows_0 17 rfl rfl)
theorem dX4_grows_18 : decode cX4_grows 18 = .ok (.iconst 1, 1) := dk_4 (dk_at dksX4_grows_0 18 rfl rfl)
theorem dX4_grows_19 : decode cX4_grows 19 = .ok (.iadd, 1) := dk_96 (dk_at dksX4_grows_0 19 rfl rfl)
theorem dX4_grows_20 : decode cX4_grows 20 = .ok (.iaload, 1) := dk_46 (dk_at dksX4_grows_0 20 rfl rfl)
theorem dX4_grows_21 : decode cX4_grows 21 = .ok (.istore 4, 2) := dk_54 4 (dk_at dksX4_grows_0 21 rfl rfl)
theorem dX4_grows_23 : decode cX4_grows 23 = .ok (.aload_n 0, 1) := dk_42 (dk_at dksX4_grows_0 23 rfl rfl)
theorem dX4_grows_24 : decode cX4_grows 24 = .ok (.getfield 7, 3) := dk_180 0 7 (dk_at dksX4_grows_1 0 rfl rfl)
theorem dX4_grows_27 : decode cX4_grows 27 = .ok (.iload_n 2, 1) := dk_28 (dk_at dksX4_grows_1 3 rfl rfl)
theorem dX4_grows_28 : decode cX4_grows 28 = .ok (.iconst 2, 1) := dk_5 (dk_at dksX4_grows_1 4 rfl rfl)
theorem dX4_grows_29 : decode cX4_grows 29 = .ok (.iadd, 1) := dk_96 (dk_at dksX4_grows_1 5 rfl rfl)
theorem dX4_grows_30 : decode cX4_grows 30 = .ok (.iaload, 1) := dk_46 (dk_at dksX4_grows_1 6 rfl rfl)
theorem dX4_grows_31 : decode cX4_grows 31 = .ok (.istore 5, 2) := dk_54 5 (dk_at dksX4_grows_1 7 rfl rfl)
theorem dX4_grows_33 : decode cX4_grows 33 = .ok (.aload_n 0, 1) := dk_42 (dk_at dksX4_grows_1 9 rfl rfl)
theorem dX4_grows_34 : decode cX4_grows 34 = .ok (.getfield 7, 3) := dk_180 0 7 (dk_at dksX4_grows_1 10 rfl rfl)
theorem dX4_grows_37 : decode cX4_grows 37 = .ok (.iload_n 2, 1) := dk_28 (dk_at dksX4_grows_1 13 rfl rfl)
theorem dX4_grows_38 : decode cX4_grows 38 = .ok (.iload_n 3, 1) := dk_29 (dk_at dksX4_grows_1 14 rfl rfl)
theorem dX4_grows_39 : decode cX4_grows 39 = .ok (.iload_n 3, 1) := dk_29 (dk_at dksX4_grows_1 15 rfl rfl)
theorem dX4_grows_40 : decode cX4_grows 40 = .ok (.bipush 20, 2) := dk_16 20 (dk_at dksX4_grows_1 16 rfl rfl)
theorem dX4_grows_42 : decode cX4_grows 42 = .ok (.idiv, 1) := dk_108 (dk_at dksX4_grows_1 18 rfl rfl)
theorem dX4_grows_43 : decode cX4_grows 43 = .ok (.isub, 1) := dk_100 (dk_at dksX4_grows_1 19 rfl rfl)
theorem dX4_grows_44 : decode cX4_grows 44 = .ok (.iload 4, 2) := dk_21 4 (dk_at dksX4_grows_1 20 rfl rfl)
theorem dX4_grows_46 : decode cX4_grows 46 = .ok (.iload 5, 2) := dk_21 5 (dk_at dksX4_grows_1 22 rfl rfl)
theorem dX4_grows_48 : decode cX4_grows 48 = .ok (.iadd, 1) := dk_96 (dk_at dksX4_grows_2 0 rfl rfl)
theorem dX4_grows_49 : decode cX4_grows 49 = .ok (.bipush 25, 2) := dk_16 25 (dk_at dksX4_grows_2 1 rfl rfl)
theorem dX4_grows_51 : decode cX4_grows 51 = .ok (.idiv, 1) := dk_108 (dk_at dksX4_grows_2 3 rfl rfl)
theorem dX4_grows_52 : decode cX4_grows 52 = .ok (.iadd, 1) := dk_96 (dk_at dksX4_grows_2 4 rfl rfl)
theorem dX4_grows_53 : decode cX4_grows 53 = .ok (.invokestatic 141, 3) := dk_184 0 141 (dk_at dksX4_grows_2 5 rfl rfl)
theorem dX4_grows_56 : decode cX4_grows 56 = .ok (.iastore, 1) := dk_79 (dk_at dksX4_grows_2 8 rfl rfl)
theorem dX4_grows_57 : decode cX4_grows 57 = .ok (.aload_n 0, 1) := dk_42 (dk_at dksX4_grows_2 9 rfl rfl)
theorem dX4_grows_58 : decode cX4_grows 58 = .ok (.getfield 7, 3) := dk_180 0 7 (dk_at dksX4_grows_2 10 rfl rfl)
theorem dX4_grows_61 : decode cX4_grows 61 = .ok (.iload_n 2, 1) := dk_28 (dk_at dksX4_grows_2 13 rfl rfl)
theorem dX4_grows_62 : decode cX4_grows 62 = .ok (.iconst 1, 1) := dk_4 (dk_at dksX4_grows_2 14 rfl rfl)
theorem dX4_grows_63 : decode cX4_grows 63 = .ok (.iadd, 1) := dk_96 (dk_at dksX4_grows_2 15 rfl rfl)
theorem dX4_grows_64 : decode cX4_grows 64 = .ok (.iload 4, 2) := dk_21 4 (dk_at dksX4_grows_2 16 rfl rfl)
theorem dX4_grows_66 : decode cX4_grows 66 = .ok (.iload_n 3, 1) := dk_29 (dk_at dksX4_grows_2 18 rfl rfl)
theorem dX4_grows_67 : decode cX4_grows 67 = .ok (.bipush 20, 2) := dk_16 20 (dk_at dksX4_grows_2 19 rfl rfl)
theorem dX4_grows_69 : decode cX4_grows 69 = .ok (.idiv, 1) := dk_108 (dk_at dksX4_grows_2 21 rfl rfl)
theorem dX4_grows_70 : decode cX4_grows 70 = .ok (.iadd, 1) := dk_96 (dk_at dksX4_grows_2 22 rfl rfl)
theorem dX4_grows_71 : decode cX4_grows 71 = .ok (.iload 4, 2) := dk_21 4 (dk_at dksX4_grows_3 0 rfl rfl)
theorem dX4_grows_73 : decode cX4_grows 73 = .ok (.bipush 20, 2) := dk_16 20 (dk_at dksX4_grows_3 2 rfl rfl)
theorem dX4_grows_75 : decode cX4_grows 75 = .ok (.idiv, 1) := dk_108 (dk_at dksX4_grows_3 4 rfl rfl)
theorem dX4_grows_76 : decode cX4_grows 76 = .ok (.isub, 1) := dk_100 (dk_at dksX4_grows_3 5 rfl rfl)
theorem dX4_grows_77 : decode cX4_grows 77 = .ok (.invokestatic 141, 3) := dk_184 0 141 (dk_at dksX4_grows_3 6 rfl rfl)
theorem dX4_grows_80 : decode cX4_grows 80 = .ok (.iastore, 1) := dk_79 (dk_at dksX4_grows_3 9 rfl rfl)
theorem dX4_grows_81 : decode cX4_grows 81 = .ok (.aload_n 0, 1) := dk_42 (dk_at dksX4_grows_3 10 rfl rfl)
theorem dX4_grows_82 : decode cX4_grows 82 = .ok (.getfield 7, 3) := dk_180 0 7 (dk_at dksX4_grows_3 11 rfl rfl)
theorem dX4_grows_85 : decode cX4_grows 85 = .ok (.iload_n 2, 1) := dk_28 (dk_at dksX4_grows_3 14 rfl rfl)
theorem dX4_grows_86 : decode cX4_grows 86 = .ok (.iconst 2, 1) := dk_5 (dk_at dksX4_grows_3 15 rfl rfl)
theorem dX4_grows_87 : decode cX4_grows 87 = .ok (.iadd, 1) := dk_96 (dk_at dksX4_grows_3 16 rfl rfl)
theorem dX4_grows_88 : decode cX4_grows 88 = .ok (.iload 5, 2) := dk_21 5 (dk_at dksX4_grows_3 17 rfl rfl)
theorem dX4_grows_90 : decode cX4_grows 90 = .ok (.iload 4, 2) := dk_21 4 (dk_at dksX4_grows_3 19 rfl rfl)
theorem dX4_grows_92 : decode cX4_grows 92 = .ok (.bipush 20, 2) := dk_16 20 (dk_at dksX4_grows_3 21 rfl rfl)
theorem dX4_grows_94 : decode cX4_grows 94 = .ok (.idiv, 1) := dk_108 (dk_at dksX4_grows_3 23 rfl rfl)
theorem dX4_grows_95 : decode cX4_grows 95 = .ok (.iadd, 1) := dk_96 (dk_at dksX4_grows_4 0 rfl rfl)
theorem dX4_grows_96 : decode cX4_grows 96 = .ok (.invokestatic 141, 3) := dk_184 0 141 (dk_at dksX4_grows_4 1 rfl rfl)
theorem dX4_grows_99 : decode cX4_grows 99 = .ok (.iastore, 1) := dk_79 (dk_at dksX4_grows_4 4 rfl rfl)
theorem dX4_grows_100 : decode cX4_grows 100 = .ok (.return_, 1) := dk_177 (dk_at dksX4_grows_4 5 rfl rfl)
abbrev cX4_most : ByteArray := prog_19_method_50_code
def yX4_most : MethodName := ⟨RX4, "most", "(I)I"⟩
def dkwX4_most_0 : List UInt8 := [26, 17, 3, 231, 164, 0, 9, 17, 3, 231, 167, 0, 4, 26, 172]
abbrev dktX4_most_0 : List UInt8 := dkwX4_most_0 ++ []
theorem dksX4_most_0 : cX4_most.data.toList.drop 0 = dktX4_most_0 := by decide +kernel
theorem dX4_most_0 : decode cX4_most 0 = .ok (.iload_n 0, 1) := dk_26 (dk_at dksX4_most_0 0 rfl rfl)
theorem dX4_most_1 : decode cX4_most 1 = .ok (.sipush 999, 3) := dk_17 3 231 (dk_at dksX4_most_0 1 rfl rfl)
theorem dX4_most_4 : decode cX4_most 4 = .ok (.if_icmp .le 9, 3) := dk_164 0 9 (dk_at dksX4_most_0 4 rfl rfl)
theorem dX4_most_7 : decode cX4_most 7 = .ok (.sipush 999, 3) := dk_17 3 231 (dk_at dksX4_most_0 7 rfl rfl)
theorem dX4_most_10 : decode cX4_most 10 = .ok (.goto 4, 3) := dk_167 0 4 (dk_at dksX4_most_0 10 rfl rfl)
theorem dX4_most_13 : decode cX4_most 13 = .ok (.iload_n 0, 1) := dk_26 (dk_at dksX4_most_0 13 rfl rfl)
theorem dX4_most_14 : decode cX4_most 14 = .ok (.ireturn, 1) := dk_172 (dk_at dksX4_most_0 14 rfl rfl)
abbrev cX4_bringsNow : ByteArray := prog_19_method_41_code
def yX4_bringsNow : MethodName := ⟨RX4, "bringsNow", "(I)I"⟩
def dkwX4_bringsNow_2 : List UInt8 := [167, 255, 214, 28, 172]
abbrev dktX4_bringsNow_2 : List UInt8 := dkwX4_bringsNow_2 ++ []
def dkwX4_bringsNow_1 : List UInt8 := [29, 182, 0, 113, 153, 0, 7, 3, 167, 0, 9, 42, 27, 29, 182, 0, 110, 96, 61, 132, 3, 1]
abbrev dktX4_bringsNow_1 : List UInt8 := dkwX4_bringsNow_1 ++ dktX4_bringsNow_2
def dkwX4_bringsNow_0 : List UInt8 := [3, 61, 3, 62, 29, 6, 162, 0, 43, 42, 180, 0, 7, 16, 57, 27, 96, 46, 2, 159, 0, 30, 28, 42]
abbrev dktX4_bringsNow_0 : List UInt8 := dkwX4_bringsNow_0 ++ dktX4_bringsNow_1
theorem dksX4_bringsNow_0 : cX4_bringsNow.data.toList.drop 0 = dktX4_bringsNow_0 := by decide +kernel
theorem dksX4_bringsNow_1 : cX4_bringsNow.data.toList.drop 24 = dktX4_bringsNow_1 := dk_seg dksX4_bringsNow_0 24 rfl rfl
theorem dksX4_bringsNow_2 : cX4_bringsNow.data.toList.drop 46 = dktX4_bringsNow_2 := dk_seg dksX4_bringsNow_1 22 rfl rfl
theorem dX4_bringsNow_0 : decode cX4_bringsNow 0 = .ok (.iconst 0, 1) := dk_3 (dk_at dksX4_bringsNow_0 0 rfl rfl)
theorem dX4_bringsNow_1 : decode cX4_bringsNow 1 = .ok (.istore_n 2, 1) := dk_61 (dk_at dksX4_bringsNow_0 1 rfl rfl)
theorem dX4_bringsNow_2 : decode cX4_bringsNow 2 = .ok (.iconst 0, 1) := dk_3 (dk_at dksX4_bringsNow_0 2 rfl rfl)
theorem dX4_bringsNow_3 : decode cX4_bringsNow 3 = .ok (.istore_n 3, 1) := dk_62 (dk_at dksX4_bringsNow_0 3 rfl rfl)
theorem dX4_bringsNow_4 : decode cX4_bringsNow 4 = .ok (.iload_n 3, 1) := dk_29 (dk_at dksX4_bringsNow_0 4 rfl rfl)
theorem dX4_bringsNow_5 : decode cX4_bringsNow 5 = .ok (.iconst 3, 1) := dk_6 (dk_at dksX4_bringsNow_0 5 rfl rfl)
theorem dX4_bringsNow_6 : decode cX4_bringsNow 6 = .ok (.if_icmp .ge 43, 3) := dk_162 0 43 (dk_at dksX4_bringsNow_0 6 rfl rfl)
theorem dX4_bringsNow_9 : decode cX4_bringsNow 9 = .ok (.aload_n 0, 1) := dk_42 (dk_at dksX4_bringsNow_0 9 rfl rfl)
theorem dX4_bringsNow_10 : decode cX4_bringsNow 10 = .ok (.getfield 7, 3) := dk_180 0 7 (dk_at dksX4_bringsNow_0 10 rfl rfl)
theorem dX4_bringsNow_13 : decode cX4_bringsNow 13 = .ok (.bipush 57, 2) := dk_16 57 (dk_at dksX4_bringsNow_0 13 rfl rfl)
theorem dX4_bringsNow_15 : decode cX4_bringsNow 15 = .ok (.iload_n 1, 1) := dk_27 (dk_at dksX4_bringsNow_0 15 rfl rfl)
theorem dX4_bringsNow_16 : decode cX4_bringsNow 16 = .ok (.iadd, 1) := dk_96 (dk_at dksX4_bringsNow_0 16 rfl rfl)
theorem dX4_bringsNow_17 : decode cX4_bringsNow 17 = .ok (.iaload, 1) := dk_46 (dk_at dksX4_bringsNow_0 17 rfl rfl)
theorem dX4_bringsNow_18 : decode cX4_bringsNow 18 = .ok (.iconst (-1), 1) := dk_2 (dk_at dksX4_bringsNow_0 18 rfl rfl)
theorem dX4_bringsNow_19 : decode cX4_bringsNow 19 = .ok (.if_icmp .eq 30, 3) := dk_159 0 30 (dk_at dksX4_bringsNow_0 19 rfl rfl)
theorem dX4_bringsNow_22 : decode cX4_bringsNow 22 = .ok (.iload_n 2, 1) := dk_28 (dk_at dksX4_bringsNow_0 22 rfl rfl)
theorem dX4_bringsNow_23 : decode cX4_bringsNow 23 = .ok (.aload_n 0, 1) := dk_42 (dk_at dksX4_bringsNow_0 23 rfl rfl)
theorem dX4_bringsNow_24 : decode cX4_bringsNow 24 = .ok (.iload_n 3, 1) := dk_29 (dk_at dksX4_bringsNow_1 0 rfl rfl)
theorem dX4_bringsNow_25 : decode cX4_bringsNow 25 = .ok (.invokevirtual 113, 3) := dk_182 0 113 (dk_at dksX4_bringsNow_1 1 rfl rfl)
theorem dX4_bringsNow_28 : decode cX4_bringsNow 28 = .ok (.ifCond .eq 7, 3) := dk_153 0 7 (dk_at dksX4_bringsNow_1 4 rfl rfl)
theorem dX4_bringsNow_31 : decode cX4_bringsNow 31 = .ok (.iconst 0, 1) := dk_3 (dk_at dksX4_bringsNow_1 7 rfl rfl)
theorem dX4_bringsNow_32 : decode cX4_bringsNow 32 = .ok (.goto 9, 3) := dk_167 0 9 (dk_at dksX4_bringsNow_1 8 rfl rfl)
theorem dX4_bringsNow_35 : decode cX4_bringsNow 35 = .ok (.aload_n 0, 1) := dk_42 (dk_at dksX4_bringsNow_1 11 rfl rfl)
theorem dX4_bringsNow_36 : decode cX4_bringsNow 36 = .ok (.iload_n 1, 1) := dk_27 (dk_at dksX4_bringsNow_1 12 rfl rfl)
theorem dX4_bringsNow_37 : decode cX4_bringsNow 37 = .ok (.iload_n 3, 1) := dk_29 (dk_at dksX4_bringsNow_1 13 rfl rfl)
theorem dX4_bringsNow_38 : decode cX4_bringsNow 38 = .ok (.invokevirtual 110, 3) := dk_182 0 110 (dk_at dksX4_bringsNow_1 14 rfl rfl)
theorem dX4_bringsNow_41 : decode cX4_bringsNow 41 = .ok (.iadd, 1) := dk_96 (dk_at dksX4_bringsNow_1 17 rfl rfl)
theorem dX4_bringsNow_42 : decode cX4_bringsNow 42 = .ok (.istore_n 2, 1) := dk_61 (dk_at dksX4_bringsNow_1 18 rfl rfl)
theorem dX4_bringsNow_43 : decode cX4_bringsNow 43 = .ok (.iinc 3 1, 3) := dk_132 3 1 (dk_at dksX4_bringsNow_1 19 rfl rfl)
theorem dX4_bringsNow_46 : decode cX4_bringsNow 46 = .ok (.goto (-42), 3) := dk_167 255 214 (dk_at dksX4_bringsNow_2 0 rfl rfl)
theorem dX4_bringsNow_49 : decode cX4_bringsNow 49 = .ok (.iload_n 2, 1) := dk_28 (dk_at dksX4_bringsNow_2 3 rfl rfl)
theorem dX4_bringsNow_50 : decode cX4_bringsNow 50 = .ok (.ireturn, 1) := dk_172 (dk_at dksX4_bringsNow_2 4 rfl rfl)
abbrev cX4_bestDay : ByteArray := prog_19_method_44_code
def yX4_bestDay : MethodName := ⟨RX4, "bestDay", "(I)I"⟩
def dkwX4_bestDay_3 : List UInt8 := [42, 28, 182, 0, 75, 172]
abbrev dktX4_bestDay_3 : List UInt8 := dkwX4_bestDay_3 ++ []
def dkwX4_bestDay_2 : List UInt8 := [182, 0, 132, 42, 27, 28, 182, 0, 132, 164, 0, 7, 29, 167, 0, 4, 28, 61, 132, 3, 1, 167, 255, 226]
abbrev dktX4_bestDay_2 : List UInt8 := dkwX4_bestDay_2 ++ dktX4_bestDay_3
def dkwX4_bestDay_1 : List UInt8 := [160, 0, 9, 42, 5, 182, 0, 68, 172, 3, 61, 4, 62, 29, 16, 30, 163, 0, 30, 42, 27, 29]
abbrev dktX4_bestDay_1 : List UInt8 := dkwX4_bestDay_1 ++ dktX4_bestDay_2
def dkwX4_bestDay_0 : List UInt8 := [42, 27, 182, 0, 95, 154, 0, 9, 42, 4, 182, 0, 68, 172, 42, 180, 0, 7, 16, 57, 27, 96, 46, 2]
abbrev dktX4_bestDay_0 : List UInt8 := dkwX4_bestDay_0 ++ dktX4_bestDay_1
theorem dksX4_bestDay_0 : cX4_bestDay.data.toList.drop 0 = dktX4_bestDay_0 := by decide +kernel
theorem dksX4_bestDay_1 : cX4_bestDay.data.toList.drop 24 = dktX4_bestDay_1 := dk_seg dksX4_bestDay_0 24 rfl rfl
theorem dksX4_bestDay_2 : cX4_bestDay.data.toList.drop 46 = dktX4_bestDay_2 := dk_seg dksX4_bestDay_1 22 rfl rfl
theorem dksX4_bestDay_3 : cX4_bestDay.data.toList.drop 70 = dktX4_bestDay_3 := dk_seg dksX4_bestDay_2 24 rfl rfl
theorem dX4_bestDay_0 : decode cX4_bestDay 0 = .ok (.aload_n 0, 1) := dk_42 (dk_at dksX4_bestDay_0 0 rfl rfl)
theorem dX4_bestDay_1 : decode cX4_bestDay 1 = .ok (.iload_n 1, 1) := dk_27 (dk_at dksX4_bestDay_0 1 rfl rfl)
theorem dX4_bestDay_2 : decode cX4_bestDay 2 = .ok (.invokevirtual 95, 3) := dk_182 0 95 (dk_at dksX4_bestDay_0 2 rfl rfl)
theorem dX4_bestDay_5 : decode cX4_bestDay 5 = .ok (.ifCond .ne 9, 3) := dk_154 0 9 (dk_at dksX4_bestDay_0 5 rfl rfl)
theorem dX4_bestDay_8 : decode cX4_bestDay 8 = .ok (.aload_n 0, 1) := dk_42 (dk_at dksX4_bestDay_0 8 rfl rfl)
theorem dX4_bestDay_9 : decode cX4_bestDay 9 = .ok (.iconst 1, 1) := dk_4 (dk_at dksX4_bestDay_0 9 rfl rfl)
theorem dX4_bestDay_10 : decode cX4_bestDay 10 = .ok (.invokevirtual 68, 3) := dk_182 0 68 (dk_at dksX4_bestDay_0 10 rfl rfl)
theorem dX4_bestDay_13 : decode cX4_bestDay 13 = .ok (.ireturn, 1) := dk_172 (dk_at dksX4_bestDay_0 13 rfl rfl)
theorem dX4_bestDay_14 : decode cX4_bestDay 14 = .ok (.aload_n 0, 1) := dk_42 (dk_at dksX4_bestDay_0 14 rfl rfl)
theorem dX4_bestDay_15 : decode cX4_bestDay 15 = .ok (.getfield 7, 3) := dk_180 0 7 (dk_at dksX4_bestDay_0 15 rfl rfl)
theorem dX4_bestDay_18 : decode cX4_bestDay 18 = .ok (.bipush 57, 2) := dk_16 57 (dk_at dksX4_bestDay_0 18 rfl rfl)
theorem dX4_bestDay_20 : decode cX4_bestDay 20 = .ok (.iload_n 1, 1) := dk_27 (dk_at dksX4_bestDay_0 20 rfl rfl)
theorem dX4_bestDay_21 : decode cX4_bestDay 21 = .ok (.iadd, 1) := dk_96 (dk_at dksX4_bestDay_0 21 rfl rfl)
theorem dX4_bestDay_22 : decode cX4_bestDay 22 = .ok (.iaload, 1) := dk_46 (dk_at dksX4_bestDay_0 22 rfl rfl)
theorem dX4_bestDay_23 : decode cX4_bestDay 23 = .ok (.iconst (-1), 1) := dk_2 (dk_at dksX4_bestDay_0 23 rfl rfl)
theorem dX4_bestDay_24 : decode cX4_bestDay 24 = .ok (.if_icmp .ne 9, 3) := dk_160 0 9 (dk_at dksX4_bestDay_1 0 rfl rfl)
theorem dX4_bestDay_27 : decode cX4_bestDay 27 = .ok (.aload_n 0, 1) := dk_42 (dk_at dksX4_bestDay_1 3 rfl rfl)
theorem dX4_bestDay_28 : decode cX4_bestDay 28 = .ok (.iconst 2, 1) := dk_5 (dk_at dksX4_bestDay_1 4 rfl rfl)
theorem dX4_bestDay_29 : decode cX4_bestDay 29 = .ok (.invokevirtual 68, 3) := dk_182 0 68 (dk_at dksX4_bestDay_1 5 rfl rfl)
theorem dX4_bestDay_32 : decode cX4_bestDay 32 = .ok (.ireturn, 1) := dk_172 (dk_at dksX4_bestDay_1 8 rfl rfl)
theorem dX4_bestDay_33 : decode cX4_bestDay 33 = .ok (.iconst 0, 1) := dk_3 (dk_at dksX4_bestDay_1 9 rfl rfl)
theorem dX4_bestDay_34 : decode cX4_bestDay 34 = .ok (.istore_n 2, 1) := dk_61 (dk_at dksX4_bestDay_1 10 rfl rfl)
theorem dX4_bestDay_35 : decode cX4_bestDay 35 = .ok (.iconst 1, 1) := dk_4 (dk_at dksX4_bestDay_1 11 rfl rfl)
theorem dX4_bestDay_36 : decode cX4_bestDay 36 = .ok (.istore_n 3, 1) := dk_62 (dk_at dksX4_bestDay_1 12 rfl rfl)
theorem dX4_bestDay_37 : decode cX4_bestDay 37 = .ok (.iload_n 3, 1) := dk_29 (dk_at dksX4_bestDay_1 13 rfl rfl)
theorem dX4_bestDay_38 : decode cX4_bestDay 38 = .ok (.bipush 30, 2) := dk_16 30 (dk_at dksX4_bestDay_1 14 rfl rfl)
theorem dX4_bestDay_40 : decode cX4_bestDay 40 = .ok (.if_icmp .gt 30, 3) := dk_163 0 30 (dk_at dksX4_bestDay_1 16 rfl rfl)
theorem dX4_bestDay_43 : decode cX4_bestDay 43 = .ok (.aload_n 0, 1) := dk_42 (dk_at dksX4_bestDay_1 19 rfl rfl)
theorem dX4_bestDay_44 : decode cX4_bestDay 44 = .ok (.iload_n 1, 1) := dk_27 (dk_at dksX4_bestDay_1 20 rfl rfl)
theorem dX4_bestDay_45 : decode cX4_bestDay 45 = .ok (.iload_n 3, 1) := dk_29 (dk_at dksX4_bestDay_1 21 rfl rfl)
theorem dX4_bestDay_46 : decode cX4_bestDay 46 = .ok (.invokevirtual 132, 3) := dk_182 0 132 (dk_at dksX4_bestDay_2 0 rfl rfl)
theorem dX4_bestDay_49 : decode cX4_bestDay 49 = .ok (.aload_n 0, 1) := dk_42 (dk_at dksX4_bestDay_2 3 rfl rfl)
theorem dX4_bestDay_50 : decode cX4_bestDay 50 = .ok (.iload_n 1, 1) := dk_27 (dk_at dksX4_bestDay_2 4 rfl rfl)
theorem dX4_bestDay_51 : decode cX4_bestDay 51 = .ok (.iload_n 2, 1) := dk_28 (dk_at dksX4_bestDay_2 5 rfl rfl)
theorem dX4_bestDay_52 : decode cX4_bestDay 52 = .ok (.invokevirtual 132, 3) := dk_182 0 132 (dk_at dksX4_bestDay_2 6 rfl rfl)
theorem dX4_bestDay_55 : decode cX4_bestDay 55 = .ok (.if_icmp .le 7, 3) := dk_164 0 7 (dk_at dksX4_bestDay_2 9 rfl rfl)
theorem dX4_bestDay_58 : decode cX4_bestDay 58 = .ok (.iload_n 3, 1) := dk_29 (dk_at dksX4_bestDay_2 12 rfl rfl)
theorem dX4_bestDay_59 : decode cX4_bestDay 59 = .ok (.goto 4, 3) := dk_167 0 4 (dk_at dksX4_bestDay_2 13 rfl rfl)
theorem dX4_bestDay_62 : decode cX4_bestDay 62 = .ok (.iload_n 2, 1) := dk_28 (dk_at dksX4_bestDay_2 16 rfl rfl)
theorem dX4_bestDay_63 : decode cX4_bestDay 63 = .ok (.istore_n 2, 1) := dk_61 (dk_at dksX4_bestDay_2 17 rfl rfl)
theorem dX4_bestDay_64 : decode cX4_bestDay 64 = .ok (.iinc 3 1, 3) := dk_132 3 1 (dk_at dksX4_bestDay_2 18 rfl rfl)
theorem dX4_bestDay_67 : decode cX4_bestDay 67 = .ok (.goto (-30), 3) := dk_167 255 226 (dk_at dksX4_bestDay_2 21 rfl rfl)
theorem dX4_bestDay_70 : decode cX4_bestDay 70 = .ok (.aload_n 0, 1) := dk_42 (dk_at dksX4_bestDay_3 0 rfl rfl)
theorem dX4_bestDay_71 : decode cX4_bestDay 71 = .ok (.iload_n 2, 1) := dk_28 (dk_at dksX4_bestDay_3 1 rfl rfl)
theorem dX4_bestDay_72 : decode cX4_bestDay 72 = .ok (.invokevirtual 75, 3) := dk_182 0 75 (dk_at dksX4_bestDay_3 2 rfl rfl)
theorem dX4_bestDay_75 : decode cX4_bestDay 75 = .ok (.ireturn, 1) := dk_172 (dk_at dksX4_bestDay_3 5 rfl rfl)
abbrev cX4_ranked : ByteArray := prog_19_method_45_code
def yX4_ranked : MethodName := ⟨RX4, "ranked", "(I)I"⟩
def dkwX4_ranked_4 : List UInt8 := [182, 0, 68, 172]
abbrev dktX4_ranked_4 : List UInt8 := dkwX4_ranked_4 ++ []
def dkwX4_ranked_3 : List UInt8 := [167, 255, 203, 29, 27, 160, 0, 9, 42, 28, 182, 0, 75, 172, 132, 2, 1, 167, 255, 170, 42, 4]
abbrev dktX4_ranked_3 : List UInt8 := dkwX4_ranked_3 ++ dktX4_ranked_4
def dkwX4_ranked_2 : List UInt8 := [157, 0, 14, 21, 5, 154, 0, 13, 21, 4, 28, 162, 0, 7, 4, 167, 0, 4, 3, 96, 62, 132, 4, 1]
abbrev dktX4_ranked_2 : List UInt8 := dkwX4_ranked_2 ++ dktX4_ranked_3
def dkwX4_ranked_1 : List UInt8 := [16, 24, 46, 162, 0, 47, 42, 21, 4, 182, 0, 119, 42, 28, 182, 0, 119, 100, 54, 5, 29, 21, 5]
abbrev dktX4_ranked_1 : List UInt8 := dkwX4_ranked_1 ++ dktX4_ranked_2
def dkwX4_ranked_0 : List UInt8 := [3, 61, 28, 42, 180, 0, 7, 16, 24, 46, 162, 0, 81, 3, 62, 3, 54, 4, 21, 4, 42, 180, 0, 7]
abbrev dktX4_ranked_0 : List UInt8 := dkwX4_ranked_0 ++ dktX4_ranked_1
theorem dksX4_ranked_0 : cX4_ranked.data.toList.drop 0 = dktX4_ranked_0 := by decide +kernel
theorem dksX4_ranked_1 : cX4_ranked.data.toList.drop 24 = dktX4_ranked_1 := dk_seg dksX4_ranked_0 24 rfl rfl
theorem dksX4_ranked_2 : cX4_ranked.data.toList.drop 47 = dktX4_ranked_2 := dk_seg dksX4_ranked_1 23 rfl rfl
theorem dksX4_ranked_3 : cX4_ranked.data.toList.drop 71 = dktX4_ranked_3 := dk_seg dksX4_ranked_2 24 rfl rfl
theorem dksX4_ranked_4 : cX4_ranked.data.toList.drop 93 = dktX4_ranked_4 := dk_seg dksX4_ranked_3 22 rfl rfl
theorem dX4_ranked_0 : decode cX4_ranked 0 = .ok (.iconst 0, 1) := dk_3 (dk_at dksX4_ranked_0 0 rfl rfl)
theorem dX4_ranked_1 : decode cX4_ranked 1 = .ok (.istore_n 2, 1) := dk_61 (dk_at dksX4_ranked_0 1 rfl rfl)
theorem dX4_ranked_2 : decode cX4_ranked 2 = .ok (.iload_n 2, 1) := dk_28 (dk_at dksX4_ranked_0 2 rfl rfl)
theorem dX4_ranked_3 : decode cX4_ranked 3 = .ok (.aload_n 0, 1) := dk_42 (dk_at dksX4_ranked_0 3 rfl rfl)
theorem dX4_ranked_4 : decode cX4_ranked 4 = .ok (.getfield 7, 3) := dk_180 0 7 (dk_at dksX4_ranked_0 4 rfl rfl)
theorem dX4_ranked_7 : decode cX4_ranked 7 = .ok (.bipush 24, 2) := dk_16 24 (dk_at dksX4_ranked_0 7 rfl rfl)
theorem dX4_ranked_9 : decode cX4_ranked 9 = .ok (.iaload, 1) := dk_46 (dk_at dksX4_ranked_0 9 rfl rfl)
theorem dX4_ranked_10 : decode cX4_ranked 10 = .ok (.if_icmp .ge 81, 3) := dk_162 0 81 (dk_at dksX4_ranked_0 10 rfl rfl)
theorem dX4_ranked_13 : decode cX4_ranked 13 = .ok (.iconst 0, 1) := dk_3 (dk_at dksX4_ranked_0 13 rfl rfl)
theorem dX4_ranked_14 : decode cX4_ranked 14 = .ok (.istore_n 3, 1) := dk_62 (dk_at dksX4_ranked_0 14 rfl rfl)
theorem dX4_ranked_15 : decode cX4_ranked 15 = .ok (.iconst 0, 1) := dk_3 (dk_at dksX4_ranked_0 15 rfl rfl)
theorem dX4_ranked_16 : decode cX4_ranked 16 = .ok (.istore 4, 2) := dk_54 4 (dk_at dksX4_ranked_0 16 rfl rfl)
theorem dX4_ranked_18 : decode cX4_ranked 18 = .ok (.iload 4, 2) := dk_21 4 (dk_at dksX4_ranked_0 18 rfl rfl)
theorem dX4_ranked_20 : decode cX4_ranked 20 = .ok (.aload_n 0, 1) := dk_42 (dk_at dksX4_ranked_0 20 rfl rfl)
theorem dX4_ranked_21 : decode cX4_ranked 21 = .ok (.getfield 7, 3) := dk_180 0 7 (dk_at dksX4_ranked_0 21 rfl rfl)
theorem dX4_ranked_24 : decode cX4_ranked 24 = .ok (.bipush 24, 2) := dk_16 24 (dk_at dksX4_ranked_1 0 rfl rfl)
theorem dX4_ranked_26 : decode cX4_ranked 26 = .ok (.iaload, 1) := dk_46 (dk_at dksX4_ranked_1 2 rfl rfl)
theorem dX4_ranked_27 : decode cX4_ranked 27 = .ok (.if_icmp .ge 47, 3) := dk_162 0 47 (dk_at dksX4_ranked_1 3 rfl rfl)
theorem dX4_ranked_30 : decode cX4_ranked 30 = .ok (.aload_n 0, 1) := dk_42 (dk_at dksX4_ranked_1 6 rfl rfl)
theorem dX4_ranked_31 : decode cX4_ranked 31 = .ok (.iload 4, 2) := dk_21 4 (dk_at dksX4_ranked_1 7 rfl rfl)
theorem dX4_ranked_33 : decode cX4_ranked 33 = .ok (.invokevirtual 119, 3) := dk_182 0 119 (dk_at dksX4_ranked_1 9 rfl rfl)
theorem dX4_ranked_36 : decode cX4_ranked 36 = .ok (.aload_n 0, 1) := dk_42 (dk_at dksX4_ranked_1 12 rfl rfl)
theorem dX4_ranked_37 : decode cX4_ranked 37 = .ok (.iload_n 2, 1) := dk_28 (dk_at dksX4_ranked_1 13 rfl rfl)
theorem dX4_ranked_38 : decode cX4_ranked 38 = .ok (.invokevirtual 119, 3) := dk_182 0 119 (dk_at dksX4_ranked_1 14 rfl rfl)
theorem dX4_ranked_41 : decode cX4_ranked 41 = .ok (.isub, 1) := dk_100 (dk_at dksX4_ranked_1 17 rfl rfl)
theorem dX4_ranked_42 : decode cX4_ranked 42 = .ok (.istore 5, 2) := dk_54 5 (dk_at dksX4_ranked_1 18 rfl rfl)
theorem dX4_ranked_44 : decode cX4_ranked 44 = .ok (.iload_n 3, 1) := dk_29 (dk_at dksX4_ranked_1 20 rfl rfl)
theorem dX4_ranked_45 : decode cX4_ranked 45 = .ok (.iload 5, 2) := dk_21 5 (dk_at dksX4_ranked_1 21 rfl rfl)
theorem dX4_ranked_47 : decode cX4_ranked 47 = .ok (.ifCond .gt 14, 3) := dk_157 0 14 (dk_at dksX4_ranked_2 0 rfl rfl)
theorem dX4_ranked_50 : decode cX4_ranked 50 = .ok (.iload 5, 2) := dk_21 5 (dk_at dksX4_ranked_2 3 rfl rfl)
theorem dX4_ranked_52 : decode cX4_ranked 52 = .ok (.ifCond .ne 13, 3) := dk_154 0 13 (dk_at dksX4_ranked_2 5 rfl rfl)
theorem dX4_ranked_55 : decode cX4_ranked 55 = .ok (.iload 4, 2) := dk_21 4 (dk_at dksX4_ranked_2 8 rfl rfl)
theorem dX4_ranked_57 : decode cX4_ranked 57 = .ok (.iload_n 2, 1) := dk_28 (dk_at dksX4_ranked_2 10 rfl rfl)
theorem dX4_ranked_58 : decode cX4_ranked 58 = .ok (.if_icmp .ge 7, 3) := dk_162 0 7 (dk_at dksX4_ranked_2 11 rfl rfl)
theorem dX4_ranked_61 : decode cX4_ranked 61 = .ok (.iconst 1, 1) := dk_4 (dk_at dksX4_ranked_2 14 rfl rfl)
theorem dX4_ranked_62 : decode cX4_ranked 62 = .ok (.goto 4, 3) := dk_167 0 4 (dk_at dksX4_ranked_2 15 rfl rfl)
theorem dX4_ranked_65 : decode cX4_ranked 65 = .ok (.iconst 0, 1) := dk_3 (dk_at dksX4_ranked_2 18 rfl rfl)
theorem dX4_ranked_66 : decode cX4_ranked 66 = .ok (.iadd, 1) := dk_96 (dk_at dksX4_ranked_2 19 rfl rfl)
theorem dX4_ranked_67 : decode cX4_ranked 67 = .ok (.istore_n 3, 1) := dk_62 (dk_at dksX4_ranked_2 20 rfl rfl)
theorem dX4_ranked_68 : decode cX4_ranked 68 = .ok (.iinc 4 1, 3) := dk_132 4 1 (dk_at dksX4_ranked_2 21 rfl rfl)
theorem dX4_ranked_71 : decode cX4_ranked 71 = .ok (.goto (-53), 3) := dk_167 255 203 (dk_at dksX4_ranked_3 0 rfl rfl)
theorem dX4_ranked_74 : decode cX4_ranked 74 = .ok (.iload_n 3, 1) := dk_29 (dk_at dksX4_ranked_3 3 rfl rfl)
theorem dX4_ranked_75 : decode cX4_ranked 75 = .ok (.iload_n 1, 1) := dk_27 (dk_at dksX4_ranked_3 4 rfl rfl)
theorem dX4_ranked_76 : decode cX4_ranked 76 = .ok (.if_icmp .ne 9, 3) := dk_160 0 9 (dk_at dksX4_ranked_3 5 rfl rfl)
theorem dX4_ranked_79 : decode cX4_ranked 79 = .ok (.aload_n 0, 1) := dk_42 (dk_at dksX4_ranked_3 8 rfl rfl)
theorem dX4_ranked_80 : decode cX4_ranked 80 = .ok (.iload_n 2, 1) := dk_28 (dk_at dksX4_ranked_3 9 rfl rfl)
theorem dX4_ranked_81 : decode cX4_ranked 81 = .ok (.invokevirtual 75, 3) := dk_182 0 75 (dk_at dksX4_ranked_3 10 rfl rfl)
theorem dX4_ranked_84 : decode cX4_ranked 84 = .ok (.ireturn, 1) := dk_172 (dk_at dksX4_ranked_3 13 rfl rfl)
theorem dX4_ranked_85 : decode cX4_ranked 85 = .ok (.iinc 2 1, 3) := dk_132 2 1 (dk_at dksX4_ranked_3 14 rfl rfl)
theorem dX4_ranked_88 : decode cX4_ranked 88 = .ok (.goto (-86), 3) := dk_167 255 170 (dk_at dksX4_ranked_3 17 rfl rfl)
theorem dX4_ranked_91 : decode cX4_ranked 91 = .ok (.aload_n 0, 1) := dk_42 (dk_at dksX4_ranked_3 20 rfl rfl)
theorem dX4_ranked_92 : decode cX4_ranked 92 = .ok (.iconst 1, 1) := dk_4 (dk_at dksX4_ranked_3 21 rfl rfl)
theorem dX4_ranked_93 : decode cX4_ranked 93 = .ok (.invokevirtual 68, 3) := dk_182 0 68 (dk_at dksX4_ranked_4 0 rfl rfl)
theorem dX4_ranked_96 : decode cX4_ranked 96 = .ok (.ireturn, 1) := dk_172 (dk_at dksX4_ranked_4 3 rfl rfl)
abbrev cX4_swell : ByteArray := prog_19_method_47_code
def yX4_swell : MethodName := ⟨RX4, "swell", "(I)I"⟩
def dkwX4_swell_0 : List UInt8 := [42, 182, 0, 78, 42, 42, 27, 182, 0, 135, 182, 0, 81, 172]
abbrev dktX4_swell_0 : List UInt8 := dkwX4_swell_0 ++ []
theorem dksX4_swell_0 : cX4_swell.data.toList.drop 0 = dktX4_swell_0 := by decide +kernel
theorem dX4_swell_0 : decode cX4_swell 0 = .ok (.aload_n 0, 1) := dk_42 (dk_at dksX4_swell_0 0 rfl rfl)
theorem dX4_swell_1 : decode cX4_swell 1 = .ok (.invokevirtual 78, 3) := dk_182 0 78 (dk_at dksX4_swell_0 1 rfl rfl)
theorem dX4_swell_4 : decode cX4_swell 4 = .ok (.aload_n 0, 1) := dk_42 (dk_at dksX4_swell_0 4 rfl rfl)
theorem dX4_swell_5 : decode cX4_swell 5 = .ok (.aload_n 0, 1) := dk_42 (dk_at dksX4_swell_0 5 rfl rfl)
theorem dX4_swell_6 : decode cX4_swell 6 = .ok (.iload_n 1, 1) := dk_27 (dk_at dksX4_swell_0 6 rfl rfl)
theorem dX4_swell_7 : decode cX4_swell 7 = .ok (.invokevirtual 135, 3) := dk_182 0 135 (dk_at dksX4_swell_0 7 rfl rfl)
theorem dX4_swell_10 : decode cX4_swell 10 = .ok (.invokevirtual 81, 3) := dk_182 0 81 (dk_at dksX4_swell_0 10 rfl rfl)
theorem dX4_swell_13 : decode cX4_swell 13 = .ok (.ireturn, 1) := dk_172 (dk_at dksX4_swell_0 13 rfl rfl)
abbrev cX4_swells : ByteArray := prog_19_method_46_code
def yX4_swells : MethodName := ⟨RX4, "swells", "(I)I"⟩
def dkwX4_swells_1 : List UInt8 := [180, 0, 7, 4, 27, 79, 42, 28, 182, 0, 75, 172]
abbrev dktX4_swells_1 : List UInt8 := dkwX4_swells_1 ++ []
def dkwX4_swells_0 : List UInt8 := [27, 3, 16, 9, 184, 0, 60, 154, 0, 9, 42, 4, 182, 0, 68, 172, 42, 180, 0, 7, 4, 46, 61, 42]
abbrev dktX4_swells_0 : List UInt8 := dkwX4_swells_0 ++ dktX4_swells_1
theorem dksX4_swells_0 : cX4_swells.data.toList.drop 0 = dktX4_swells_0 := by decide +kernel
theorem dksX4_swells_1 : cX4_swells.data.toList.drop 24 = dktX4_swells_1 := dk_seg dksX4_swells_0 24 rfl rfl
theorem dX4_swells_0 : decode cX4_swells 0 = .ok (.iload_n 1, 1) := dk_27 (dk_at dksX4_swells_0 0 rfl rfl)
theorem dX4_swells_1 : decode cX4_swells 1 = .ok (.iconst 0, 1) := dk_3 (dk_at dksX4_swells_0 1 rfl rfl)
theorem dX4_swells_2 : decode cX4_swells 2 = .ok (.bipush 9, 2) := dk_16 9 (dk_at dksX4_swells_0 2 rfl rfl)
theorem dX4_swells_4 : decode cX4_swells 4 = .ok (.invokestatic 60, 3) := dk_184 0 60 (dk_at dksX4_swells_0 4 rfl rfl)
theorem dX4_swells_7 : decode cX4_swells 7 = .ok (.ifCond .ne 9, 3) := dk_154 0 9 (dk_at dksX4_swells_0 7 rfl rfl)
theorem dX4_swells_10 : decode cX4_swells 10 = .ok (.aload_n 0, 1) := dk_42 (dk_at dksX4_swells_0 10 rfl rfl)
theorem dX4_swells_11 : decode cX4_swells 11 = .ok (.iconst 1, 1) := dk_4 (dk_at dksX4_swells_0 11 rfl rfl)
theorem dX4_swells_12 : decode cX4_swells 12 = .ok (.invokevirtual 68, 3) := dk_182 0 68 (dk_at dksX4_swells_0 12 rfl rfl)
theorem dX4_swells_15 : decode cX4_swells 15 = .ok (.ireturn, 1) := dk_172 (dk_at dksX4_swells_0 15 rfl rfl)
theorem dX4_swells_16 : decode cX4_swells 16 = .ok (.aload_n 0, 1) := dk_42 (dk_at dksX4_swells_0 16 rfl rfl)
theorem dX4_swells_17 : decode cX4_swells 17 = .ok (.getfield 7, 3) := dk_180 0 7 (dk_at dksX4_swells_0 17 rfl rfl)
theorem dX4_swells_20 : decode cX4_swells 20 = .ok (.iconst 1, 1) := dk_4 (dk_at dksX4_swells_0 20 rfl rfl)
theorem dX4_swells_21 : decode cX4_swells 21 = .ok (.iaload, 1) := dk_46 (dk_at dksX4_swells_0 21 rfl rfl)
theorem dX4_swells_22 : decode cX4_swells 22 = .ok (.istore_n 2, 1) := dk_61 (dk_at dksX4_swells_0 22 rfl rfl)
theorem dX4_swells_23 : decode cX4_swells 23 = .ok (.aload_n 0, 1) := dk_42 (dk_at dksX4_swells_0 23 rfl rfl)
theorem dX4_swells_24 : decode cX4_swells 24 = .ok (.getfield 7, 3) := dk_180 0 7 (dk_at dksX4_swells_1 0 rfl rfl)
theorem dX4_swells_27 : decode cX4_swells 27 = .ok (.iconst 1, 1) := dk_4 (dk_at dksX4_swells_1 3 rfl rfl)
theorem dX4_swells_28 : decode cX4_swells 28 = .ok (.iload_n 1, 1) := dk_27 (dk_at dksX4_swells_1 4 rfl rfl)
theorem dX4_swells_29 : decode cX4_swells 29 = .ok (.iastore, 1) := dk_79 (dk_at dksX4_swells_1 5 rfl rfl)
theorem dX4_swells_30 : decode cX4_swells 30 = .ok (.aload_n 0, 1) := dk_42 (dk_at dksX4_swells_1 6 rfl rfl)
theorem dX4_swells_31 : decode cX4_swells 31 = .ok (.iload_n 2, 1) := dk_28 (dk_at dksX4_swells_1 7 rfl rfl)
theorem dX4_swells_32 : decode cX4_swells 32 = .ok (.invokevirtual 75, 3) := dk_182 0 75 (dk_at dksX4_swells_1 8 rfl rfl)
theorem dX4_swells_35 : decode cX4_swells 35 = .ok (.ireturn, 1) := dk_172 (dk_at dksX4_swells_1 11 rfl rfl)
abbrev cX4_riddle : ByteArray := prog_19_method_49_code
def yX4_riddle : MethodName := ⟨RX4, "riddle", "(I)I"⟩
def dkwX4_riddle_0 : List UInt8 := [42, 182, 0, 78, 42, 42, 27, 182, 0, 138, 182, 0, 81, 172]
abbrev dktX4_riddle_0 : List UInt8 := dkwX4_riddle_0 ++ []
theorem dksX4_riddle_0 : cX4_riddle.data.toList.drop 0 = dktX4_riddle_0 := by decide +kernel
theorem dX4_riddle_0 : decode cX4_riddle 0 = .ok (.aload_n 0, 1) := dk_42 (dk_at dksX4_riddle_0 0 rfl rfl)
theorem dX4_riddle_1 : decode cX4_riddle 1 = .ok (.invokevirtual 78, 3) := dk_182 0 78 (dk_at dksX4_riddle_0 1 rfl rfl)
theorem dX4_riddle_4 : decode cX4_riddle 4 = .ok (.aload_n 0, 1) := dk_42 (dk_at dksX4_riddle_0 4 rfl rfl)
theorem dX4_riddle_5 : decode cX4_riddle 5 = .ok (.aload_n 0, 1) := dk_42 (dk_at dksX4_riddle_0 5 rfl rfl)
theorem dX4_riddle_6 : decode cX4_riddle 6 = .ok (.iload_n 1, 1) := dk_27 (dk_at dksX4_riddle_0 6 rfl rfl)
theorem dX4_riddle_7 : decode cX4_riddle 7 = .ok (.invokevirtual 138, 3) := dk_182 0 138 (dk_at dksX4_riddle_0 7 rfl rfl)
theorem dX4_riddle_10 : decode cX4_riddle 10 = .ok (.invokevirtual 81, 3) := dk_182 0 81 (dk_at dksX4_riddle_0 10 rfl rfl)
theorem dX4_riddle_13 : decode cX4_riddle 13 = .ok (.ireturn, 1) := dk_172 (dk_at dksX4_riddle_0 13 rfl rfl)
abbrev cX4_riddles : ByteArray := prog_19_method_48_code
def yX4_riddles : MethodName := ⟨RX4, "riddles", "(I)I"⟩
def dkwX4_riddles_1 : List UInt8 := [180, 0, 7, 5, 27, 79, 42, 28, 182, 0, 75, 172]
abbrev dktX4_riddles_1 : List UInt8 := dkwX4_riddles_1 ++ []
def dkwX4_riddles_0 : List UInt8 := [27, 4, 5, 184, 0, 60, 154, 0, 9, 42, 4, 182, 0, 68, 172, 42, 180, 0, 7, 5, 46, 61, 42]
abbrev dktX4_riddles_0 : List UInt8 := dkwX4_riddles_0 ++ dktX4_riddles_1
theorem dksX4_riddles_0 : cX4_riddles.data.toList.drop 0 = dktX4_riddles_0 := by decide +kernel
theorem dksX4_riddles_1 : cX4_riddles.data.toList.drop 23 = dktX4_riddles_1 := dk_seg dksX4_riddles_0 23 rfl rfl
theorem dX4_riddles_0 : decode cX4_riddles 0 = .ok (.iload_n 1, 1) := dk_27 (dk_at dksX4_riddles_0 0 rfl rfl)
theorem dX4_riddles_1 : decode cX4_riddles 1 = .ok (.iconst 1, 1) := dk_4 (dk_at dksX4_riddles_0 1 rfl rfl)
theorem dX4_riddles_2 : decode cX4_riddles 2 = .ok (.iconst 2, 1) := dk_5 (dk_at dksX4_riddles_0 2 rfl rfl)
theorem dX4_riddles_3 : decode cX4_riddles 3 = .ok (.invokestatic 60, 3) := dk_184 0 60 (dk_at dksX4_riddles_0 3 rfl rfl)
theorem dX4_riddles_6 : decode cX4_riddles 6 = .ok (.ifCond .ne 9, 3) := dk_154 0 9 (dk_at dksX4_riddles_0 6 rfl rfl)
theorem dX4_riddles_9 : decode cX4_riddles 9 = .ok (.aload_n 0, 1) := dk_42 (dk_at dksX4_riddles_0 9 rfl rfl)
theorem dX4_riddles_10 : decode cX4_riddles 10 = .ok (.iconst 1, 1) := dk_4 (dk_at dksX4_riddles_0 10 rfl rfl)
theorem dX4_riddles_11 : decode cX4_riddles 11 = .ok (.invokevirtual 68, 3) := dk_182 0 68 (dk_at dksX4_riddles_0 11 rfl rfl)
theorem dX4_riddles_14 : decode cX4_riddles 14 = .ok (.ireturn, 1) := dk_172 (dk_at dksX4_riddles_0 14 rfl rfl)
theorem dX4_riddles_15 : decode cX4_riddles 15 = .ok (.aload_n 0, 1) := dk_42 (dk_at dksX4_riddles_0 15 rfl rfl)
theorem dX4_riddles_16 : decode cX4_riddles 16 = .ok (.getfield 7, 3) := dk_180 0 7 (dk_at dksX4_riddles_0 16 rfl rfl)
theorem dX4_riddles_19 : decode cX4_riddles 19 = .ok (.iconst 2, 1) := dk_5 (dk_at dksX4_riddles_0 19 rfl rfl)
theorem dX4_riddles_20 : decode cX4_riddles 20 = .ok (.iaload, 1) := dk_46 (dk_at dksX4_riddles_0 20 rfl rfl)
theorem dX4_riddles_21 : decode cX4_riddles 21 = .ok (.istore_n 2, 1) := dk_61 (dk_at dksX4_riddles_0 21 rfl rfl)
theorem dX4_riddles_22 : decode cX4_riddles 22 = .ok (.aload_n 0, 1) := dk_42 (dk_at dksX4_riddles_0 22 rfl rfl)
theorem dX4_riddles_23 : decode cX4_riddles 23 = .ok (.getfield 7, 3) := dk_180 0 7 (dk_at dksX4_riddles_1 0 rfl rfl)
theorem dX4_riddles_26 : decode cX4_riddles 26 = .ok (.iconst 2, 1) := dk_5 (dk_at dksX4_riddles_1 3 rfl rfl)
theorem dX4_riddles_27 : decode cX4_riddles 27 = .ok (.iload_n 1, 1) := dk_27 (dk_at dksX4_riddles_1 4 rfl rfl)
theorem dX4_riddles_28 : decode cX4_riddles 28 = .ok (.iastore, 1) := dk_79 (dk_at dksX4_riddles_1 5 rfl rfl)
theorem dX4_riddles_29 : decode cX4_riddles 29 = .ok (.aload_n 0, 1) := dk_42 (dk_at dksX4_riddles_1 6 rfl rfl)
theorem dX4_riddles_30 : decode cX4_riddles 30 = .ok (.iload_n 2, 1) := dk_28 (dk_at dksX4_riddles_1 7 rfl rfl)
theorem dX4_riddles_31 : decode cX4_riddles 31 = .ok (.invokevirtual 75, 3) := dk_182 0 75 (dk_at dksX4_riddles_1 8 rfl rfl)
theorem dX4_riddles_34 : decode cX4_riddles 34 = .ok (.ireturn, 1) := dk_172 (dk_at dksX4_riddles_1 11 rfl rfl)
abbrev cX4_pass : ByteArray := prog_19_method_54_code
def yX4_pass : MethodName := ⟨RX4, "pass", "(I)I"⟩
def dkwX4_pass_0 : List UInt8 := [42, 182, 0, 78, 42, 42, 27, 182, 0, 148, 182, 0, 81, 172]
abbrev dktX4_pass_0 : List UInt8 := dkwX4_pass_0 ++ []
theorem dksX4_pass_0 : cX4_pass.data.toList.drop 0 = dktX4_pass_0 := by decide +kernel
theorem dX4_pass_0 : decode cX4_pass 0 = .ok (.aload_n 0, 1) := dk_42 (dk_at dksX4_pass_0 0 rfl rfl)
theorem dX4_pass_1 : decode cX4_pass 1 = .ok (.invokevirtual 78, 3) := dk_182 0 78 (dk_at dksX4_pass_0 1 rfl rfl)
theorem dX4_pass_4 : decode cX4_pass 4 = .ok (.aload_n 0, 1) := dk_42 (dk_at dksX4_pass_0 4 rfl rfl)
theorem dX4_pass_5 : decode cX4_pass 5 = .ok (.aload_n 0, 1) := dk_42 (dk_at dksX4_pass_0 5 rfl rfl)
theorem dX4_pass_6 : decode cX4_pass 6 = .ok (.iload_n 1, 1) := dk_27 (dk_at dksX4_pass_0 6 rfl rfl)
theorem dX4_pass_7 : decode cX4_pass 7 = .ok (.invokevirtual 148, 3) := dk_182 0 148 (dk_at dksX4_pass_0 7 rfl rfl)
theorem dX4_pass_10 : decode cX4_pass 10 = .ok (.invokevirtual 81, 3) := dk_182 0 81 (dk_at dksX4_pass_0 10 rfl rfl)
theorem dX4_pass_13 : decode cX4_pass 13 = .ok (.ireturn, 1) := dk_172 (dk_at dksX4_pass_0 13 rfl rfl)
abbrev cX4_passes : ByteArray := prog_19_method_53_code
def yX4_passes : MethodName := ⟨RX4, "passes", "(I)I"⟩
def dkwX4_passes_1 : List UInt8 := [162, 0, 16, 28, 42, 182, 0, 125, 96, 61, 132, 3, 1, 167, 255, 241, 42, 28, 182, 0, 75, 172]
abbrev dktX4_passes_1 : List UInt8 := dkwX4_passes_1 ++ []
def dkwX4_passes_0 : List UInt8 := [27, 4, 16, 60, 184, 0, 60, 154, 0, 9, 42, 4, 182, 0, 68, 172, 3, 61, 3, 62, 29, 27]
abbrev dktX4_passes_0 : List UInt8 := dkwX4_passes_0 ++ dktX4_passes_1
theorem dksX4_passes_0 : cX4_passes.data.toList.drop 0 = dktX4_passes_0 := by decide +kernel
theorem dksX4_passes_1 : cX4_passes.data.toList.drop 22 = dktX4_passes_1 := dk_seg dksX4_passes_0 22 rfl rfl
theorem dX4_passes_0 : decode cX4_passes 0 = .ok (.iload_n 1, 1) := dk_27 (dk_at dksX4_passes_0 0 rfl rfl)
theorem dX4_passes_1 : decode cX4_passes 1 = .ok (.iconst 1, 1) := dk_4 (dk_at dksX4_passes_0 1 rfl rfl)
theorem dX4_passes_2 : decode cX4_passes 2 = .ok (.bipush 60, 2) := dk_16 60 (dk_at dksX4_passes_0 2 rfl rfl)
theorem dX4_passes_4 : decode cX4_passes 4 = .ok (.invokestatic 60, 3) := dk_184 0 60 (dk_at dksX4_passes_0 4 rfl rfl)
theorem dX4_passes_7 : decode cX4_passes 7 = .ok (.ifCond .ne 9, 3) := dk_154 0 9 (dk_at dksX4_passes_0 7 rfl rfl)
theorem dX4_passes_10 : decode cX4_passes 10 = .ok (.aload_n 0, 1) := dk_42 (dk_at dksX4_passes_0 10 rfl rfl)
theorem dX4_passes_11 : decode cX4_passes 11 = .ok (.iconst 1, 1) := dk_4 (dk_at dksX4_passes_0 11 rfl rfl)
theorem dX4_passes_12 : decode cX4_passes 12 = .ok (.invokevirtual 68, 3) := dk_182 0 68 (dk_at dksX4_passes_0 12 rfl rfl)
theorem dX4_passes_15 : decode cX4_passes 15 = .ok (.ireturn, 1) := dk_172 (dk_at dksX4_passes_0 15 rfl rfl)
theorem dX4_passes_16 : decode cX4_passes 16 = .ok (.iconst 0, 1) := dk_3 (dk_at dksX4_passes_0 16 rfl rfl)
theorem dX4_passes_17 : decode cX4_passes 17 = .ok (.istore_n 2, 1) := dk_61 (dk_at dksX4_passes_0 17 rfl rfl)
theorem dX4_passes_18 : decode cX4_passes 18 = .ok (.iconst 0, 1) := dk_3 (dk_at dksX4_passes_0 18 rfl rfl)
theorem dX4_passes_19 : decode cX4_passes 19 = .ok (.istore_n 3, 1) := dk_62 (dk_at dksX4_passes_0 19 rfl rfl)
theorem dX4_passes_20 : decode cX4_passes 20 = .ok (.iload_n 3, 1) := dk_29 (dk_at dksX4_passes_0 20 rfl rfl)
theorem dX4_passes_21 : decode cX4_passes 21 = .ok (.iload_n 1, 1) := dk_27 (dk_at dksX4_passes_0 21 rfl rfl)
theorem dX4_passes_22 : decode cX4_passes 22 = .ok (.if_icmp .ge 16, 3) := dk_162 0 16 (dk_at dksX4_passes_1 0 rfl rfl)
theorem dX4_passes_25 : decode cX4_passes 25 = .ok (.iload_n 2, 1) := dk_28 (dk_at dksX4_passes_1 3 rfl rfl)
theorem dX4_passes_26 : decode cX4_passes 26 = .ok (.aload_n 0, 1) := dk_42 (dk_at dksX4_passes_1 4 rfl rfl)
theorem dX4_passes_27 : decode cX4_passes 27 = .ok (.invokevirtual 125, 3) := dk_182 0 125 (dk_at dksX4_passes_1 5 rfl rfl)
theorem dX4_passes_30 : decode cX4_passes 30 = .ok (.iadd, 1) := dk_96 (dk_at dksX4_passes_1 8 rfl rfl)
theorem dX4_passes_31 : decode cX4_passes 31 = .ok (.istore_n 2, 1) := dk_61 (dk_at dksX4_passes_1 9 rfl rfl)
theorem dX4_passes_32 : decode cX4_passes 32 = .ok (.iinc 3 1, 3) := dk_132 3 1 (dk_at dksX4_passes_1 10 rfl rfl)
theorem dX4_passes_35 : decode cX4_passes 35 = .ok (.goto (-15), 3) := dk_167 255 241 (dk_at dksX4_passes_1 13 rfl rfl)
theorem dX4_passes_38 : decode cX4_passes 38 = .ok (.aload_n 0, 1) := dk_42 (dk_at dksX4_passes_1 16 rfl rfl)
theorem dX4_passes_39 : decode cX4_passes 39 = .ok (.iload_n 2, 1) := dk_28 (dk_at dksX4_passes_1 17 rfl rfl)
theorem dX4_passes_40 : decode cX4_passes 40 = .ok (.invokevirtual 75, 3) := dk_182 0 75 (dk_at dksX4_passes_1 18 rfl rfl)
theorem dX4_passes_43 : decode cX4_passes 43 = .ok (.ireturn, 1) := dk_172 (dk_at dksX4_passes_1 21 rfl rfl)
abbrev cX4_whelksIn : ByteArray := prog_19_method_56_code
def yX4_whelksIn : MethodName := ⟨RX4, "whelksIn", "(II)I"⟩
def dkwX4_whelksIn_3 : List UInt8 := [184, 0, 53, 42, 29, 182, 0, 75, 172]
abbrev dktX4_whelksIn_3 : List UInt8 := dkwX4_whelksIn_3 ++ []
def dkwX4_whelksIn_2 : List UInt8 := [54, 4, 132, 3, 1, 167, 255, 242, 42, 27, 182, 0, 151, 62, 42, 180, 0, 22, 3, 42, 180, 0, 7, 3]
abbrev dktX4_whelksIn_2 : List UInt8 := dkwX4_whelksIn_2 ++ dktX4_whelksIn_3
def dkwX4_whelksIn_1 : List UInt8 := [180, 0, 7, 3, 42, 180, 0, 22, 3, 184, 0, 53, 3, 62, 29, 28, 162, 0, 15, 42, 182, 0, 125]
abbrev dktX4_whelksIn_1 : List UInt8 := dkwX4_whelksIn_1 ++ dktX4_whelksIn_2
def dkwX4_whelksIn_0 : List UInt8 := [27, 184, 0, 72, 153, 0, 13, 28, 3, 16, 60, 184, 0, 60, 154, 0, 9, 42, 4, 182, 0, 68, 172, 42]
abbrev dktX4_whelksIn_0 : List UInt8 := dkwX4_whelksIn_0 ++ dktX4_whelksIn_1
theorem dksX4_whelksIn_0 : cX4_whelksIn.data.toList.drop 0 = dktX4_whelksIn_0 := by decide +kernel
theorem dksX4_whelksIn_1 : cX4_whelksIn.data.toList.drop 24 = dktX4_whelksIn_1 := dk_seg dksX4_whelksIn_0 24 rfl rfl
theorem dksX4_whelksIn_2 : cX4_whelksIn.data.toList.drop 47 = dktX4_whelksIn_2 := dk_seg dksX4_whelksIn_1 23 rfl rfl
theorem dksX4_whelksIn_3 : cX4_whelksIn.data.toList.drop 71 = dktX4_whelksIn_3 := dk_seg dksX4_whelksIn_2 24 rfl rfl
theorem dX4_whelksIn_0 : decode cX4_whelksIn 0 = .ok (.iload_n 1, 1) := dk_27 (dk_at dksX4_whelksIn_0 0 rfl rfl)
theorem dX4_whelksIn_1 : decode cX4_whelksIn 1 = .ok (.invokestatic 72, 3) := dk_184 0 72 (dk_at dksX4_whelksIn_0 1 rfl rfl)
theorem dX4_whelksIn_4 : decode cX4_whelksIn 4 = .ok (.ifCond .eq 13, 3) := dk_153 0 13 (dk_at dksX4_whelksIn_0 4 rfl rfl)
theorem dX4_whelksIn_7 : decode cX4_whelksIn 7 = .ok (.iload_n 2, 1) := dk_28 (dk_at dksX4_whelksIn_0 7 rfl rfl)
theorem dX4_whelksIn_8 : decode cX4_whelksIn 8 = .ok (.iconst 0, 1) := dk_3 (dk_at dksX4_whelksIn_0 8 rfl rfl)
theorem dX4_whelksIn_9 : decode cX4_whelksIn 9 = .ok (.bipush 60, 2) := dk_16 60 (dk_at dksX4_whelksIn_0 9 rfl rfl)
theorem dX4_whelksIn_11 : decode cX4_whelksIn 11 = .ok (.invokestatic 60, 3) := dk_184 0 60 (dk_at dksX4_whelksIn_0 11 rfl rfl)
theorem dX4_whelksIn_14 : decode cX4_whelksIn 14 = .ok (.ifCond .ne 9, 3) := dk_154 0 9 (dk_at dksX4_whelksIn_0 14 rfl rfl)
theorem dX4_whelksIn_17 : decode cX4_whelksIn 17 = .ok (.aload_n 0, 1) := dk_42 (dk_at dksX4_whelksIn_0 17 rfl rfl)
theorem dX4_whelksIn_18 : decode cX4_whelksIn 18 = .ok (.iconst 1, 1) := dk_4 (dk_at dksX4_whelksIn_0 18 rfl rfl)
theorem dX4_whelksIn_19 : decode cX4_whelksIn 19 = .ok (.invokevirtual 68, 3) := dk_182 0 68 (dk_at dksX4_whelksIn_0 19 rfl rfl)
theorem dX4_whelksIn_22 : decode cX4_whelksIn 22 = .ok (.ireturn, 1) := dk_172 (dk_at dksX4_whelksIn_0 22 rfl rfl)
theorem dX4_whelksIn_23 : decode cX4_whelksIn 23 = .ok (.aload_n 0, 1) := dk_42 (dk_at dksX4_whelksIn_0 23 rfl rfl)
theorem dX4_whelksIn_24 : decode cX4_whelksIn 24 = .ok (.getfield 7, 3) := dk_180 0 7 (dk_at dksX4_whelksIn_1 0 rfl rfl)
theorem dX4_whelksIn_27 : decode cX4_whelksIn 27 = .ok (.iconst 0, 1) := dk_3 (dk_at dksX4_whelksIn_1 3 rfl rfl)
theorem dX4_whelksIn_28 : decode cX4_whelksIn 28 = .ok (.aload_n 0, 1) := dk_42 (dk_at dksX4_whelksIn_1 4 rfl rfl)
theorem dX4_whelksIn_29 : decode cX4_whelksIn 29 = .ok (.getfield 22, 3) := dk_180 0 22 (dk_at dksX4_whelksIn_1 5 rfl rfl)
theorem dX4_whelksIn_32 : decode cX4_whelksIn 32 = .ok (.iconst 0, 1) := dk_3 (dk_at dksX4_whelksIn_1 8 rfl rfl)
theorem dX4_whelksIn_33 : decode cX4_whelksIn 33 = .ok (.invokestatic 53, 3) := dk_184 0 53 (dk_at dksX4_whelksIn_1 9 rfl rfl)
theorem dX4_whelksIn_36 : decode cX4_whelksIn 36 = .ok (.iconst 0, 1) := dk_3 (dk_at dksX4_whelksIn_1 12 rfl rfl)
theorem dX4_whelksIn_37 : decode cX4_whelksIn 37 = .ok (.istore_n 3, 1) := dk_62 (dk_at dksX4_whelksIn_1 13 rfl rfl)
theorem dX4_whelksIn_38 : decode cX4_whelksIn 38 = .ok (.iload_n 3, 1) := dk_29 (dk_at dksX4_whelksIn_1 14 rfl rfl)
theorem dX4_whelksIn_39 : decode cX4_whelksIn 39 = .ok (.iload_n 2, 1) := dk_28 (dk_at dksX4_whelksIn_1 15 rfl rfl)
theorem dX4_whelksIn_40 : decode cX4_whelksIn 40 = .ok (.if_icmp .ge 15, 3) := dk_162 0 15 (dk_at dksX4_whelksIn_1 16 rfl rfl)
theorem dX4_whelksIn_43 : decode cX4_whelksIn 43 = .ok (.aload_n 0, 1) := dk_42 (dk_at dksX4_whelksIn_1 19 rfl rfl)
theorem dX4_whelksIn_44 : decode cX4_whelksIn 44 = .ok (.invokevirtual 125, 3) := dk_182 0 125 (dk_at dksX4_whelksIn_1 20 rfl rfl)
theorem dX4_whelksIn_47 : decode cX4_whelksIn 47 = .ok (.istore 4, 2) := dk_54 4 (dk_at dksX4_whelksIn_2 0 rfl rfl)
theorem dX4_whelksIn_49 : decode cX4_whelksIn 49 = .ok (.iinc 3 1, 3) := dk_132 3 1 (dk_at dksX4_whelksIn_2 2 rfl rfl)
theorem dX4_whelksIn_52 : decode cX4_whelksIn 52 = .ok (.goto (-14), 3) := dk_167 255 242 (dk_at dksX4_whelksIn_2 5 rfl rfl)
theorem dX4_whelksIn_55 : decode cX4_whelksIn 55 = .ok (.aload_n 0, 1) := dk_42 (dk_at dksX4_whelksIn_2 8 rfl rfl)
theorem dX4_whelksIn_56 : decode cX4_whelksIn 56 = .ok (.iload_n 1, 1) := dk_27 (dk_at dksX4_whelksIn_2 9 rfl rfl)
theorem dX4_whelksIn_57 : decode cX4_whelksIn 57 = .ok (.invokevirtual 151, 3) := dk_182 0 151 (dk_at dksX4_whelksIn_2 10 rfl rfl)
theorem dX4_whelksIn_60 : decode cX4_whelksIn 60 = .ok (.istore_n 3, 1) := dk_62 (dk_at dksX4_whelksIn_2 13 rfl rfl)
theorem dX4_whelksIn_61 : decode cX4_whelksIn 61 = .ok (.aload_n 0, 1) := dk_42 (dk_at dksX4_whelksIn_2 14 rfl rfl)
theorem dX4_whelksIn_62 : decode cX4_whelksIn 62 = .ok (.getfield 22, 3) := dk_180 0 22 (dk_at dksX4_whelksIn_2 15 rfl rfl)
theorem dX4_whelksIn_65 : decode cX4_whelksIn 65 = .ok (.iconst 0, 1) := dk_3 (dk_at dksX4_whelksIn_2 18 rfl rfl)
theorem dX4_whelksIn_66 : decode cX4_whelksIn 66 = .ok (.aload_n 0, 1) := dk_42 (dk_at dksX4_whelksIn_2 19 rfl rfl)
theorem dX4_whelksIn_67 : decode cX4_whelksIn 67 = .ok (.getfield 7, 3) := dk_180 0 7 (dk_at dksX4_whelksIn_2 20 rfl rfl)
theorem dX4_whelksIn_70 : decode cX4_whelksIn 70 = .ok (.iconst 0, 1) := dk_3 (dk_at dksX4_whelksIn_2 23 rfl rfl)
theorem dX4_whelksIn_71 : decode cX4_whelksIn 71 = .ok (.invokestatic 53, 3) := dk_184 0 53 (dk_at dksX4_whelksIn_3 0 rfl rfl)
theorem dX4_whelksIn_74 : decode cX4_whelksIn 74 = .ok (.aload_n 0, 1) := dk_42 (dk_at dksX4_whelksIn_3 3 rfl rfl)
theorem dX4_whelksIn_75 : decode cX4_whelksIn 75 = .ok (.iload_n 3, 1) := dk_29 (dk_at dksX4_whelksIn_3 4 rfl rfl)
theorem dX4_whelksIn_76 : decode cX4_whelksIn 76 = .ok (.invokevirtual 75, 3) := dk_182 0 75 (dk_at dksX4_whelksIn_3 5 rfl rfl)
theorem dX4_whelksIn_79 : decode cX4_whelksIn 79 = .ok (.ireturn, 1) := dk_172 (dk_at dksX4_whelksIn_3 8 rfl rfl)
abbrev cX4_ofSize : ByteArray := prog_19_method_55_code
def yX4_ofSize : MethodName := ⟨RX4, "ofSize", "(I)I"⟩
def dkwX4_ofSize_1 : List UInt8 := [61, 132, 3, 1, 167, 255, 232, 28, 172]
abbrev dktX4_ofSize_1 : List UInt8 := dkwX4_ofSize_1 ++ []
def dkwX4_ofSize_0 : List UInt8 := [3, 61, 3, 62, 29, 16, 6, 162, 0, 24, 28, 42, 180, 0, 7, 6, 6, 29, 104, 96, 27, 96, 46, 96]
abbrev dktX4_ofSize_0 : List UInt8 := dkwX4_ofSize_0 ++ dktX4_ofSize_1
theorem dksX4_ofSize_0 : cX4_ofSize.data.toList.drop 0 = dktX4_ofSize_0 := by decide +kernel
theorem dksX4_ofSize_1 : cX4_ofSize.data.toList.drop 24 = dktX4_ofSize_1 := dk_seg dksX4_ofSize_0 24 rfl rfl
theorem dX4_ofSize_0 : decode cX4_ofSize 0 = .ok (.iconst 0, 1) := dk_3 (dk_at dksX4_ofSize_0 0 rfl rfl)
theorem dX4_ofSize_1 : decode cX4_ofSize 1 = .ok (.istore_n 2, 1) := dk_61 (dk_at dksX4_ofSize_0 1 rfl rfl)
theorem dX4_ofSize_2 : decode cX4_ofSize 2 = .ok (.iconst 0, 1) := dk_3 (dk_at dksX4_ofSize_0 2 rfl rfl)
theorem dX4_ofSize_3 : decode cX4_ofSize 3 = .ok (.istore_n 3, 1) := dk_62 (dk_at dksX4_ofSize_0 3 rfl rfl)
theorem dX4_ofSize_4 : decode cX4_ofSize 4 = .ok (.iload_n 3, 1) := dk_29 (dk_at dksX4_ofSize_0 4 rfl rfl)
theorem dX4_ofSize_5 : decode cX4_ofSize 5 = .ok (.bipush 6, 2) := dk_16 6 (dk_at dksX4_ofSize_0 5 rfl rfl)
theorem dX4_ofSize_7 : decode cX4_ofSize 7 = .ok (.if_icmp .ge 24, 3) := dk_162 0 24 (dk_at dksX4_ofSize_0 7 rfl rfl)
theorem dX4_ofSize_10 : decode cX4_ofSize 10 = .ok (.iload_n 2, 1) := dk_28 (dk_at dksX4_ofSize_0 10 rfl rfl)
theorem dX4_ofSize_11 : decode cX4_ofSize 11 = .ok (.aload_n 0, 1) := dk_42 (dk_at dksX4_ofSize_0 11 rfl rfl)
theorem dX4_ofSize_12 : decode cX4_ofSize 12 = .ok (.getfield 7, 3) := dk_180 0 7 (dk_at dksX4_ofSize_0 12 rfl rfl)
theorem dX4_ofSize_15 : decode cX4_ofSize 15 = .ok (.iconst 3, 1) := dk_6 (dk_at dksX4_ofSize_0 15 rfl rfl)
theorem dX4_ofSize_16 : decode cX4_ofSize 16 = .ok (.iconst 3, 1) := dk_6 (dk_at dksX4_ofSize_0 16 rfl rfl)
theorem dX4_ofSize_17 : decode cX4_ofSize 17 = .ok (.iload_n 3, 1) := dk_29 (dk_at dksX4_ofSize_0 17 rfl rfl)
theorem dX4_ofSize_18 : decode cX4_ofSize 18 = .ok (.imul, 1) := dk_104 (dk_at dksX4_ofSize_0 18 rfl rfl)
theorem dX4_ofSize_19 : decode cX4_ofSize 19 = .ok (.iadd, 1) := dk_96 (dk_at dksX4_ofSize_0 19 rfl rfl)
theorem dX4_ofSize_20 : decode cX4_ofSize 20 = .ok (.iload_n 1, 1) := dk_27 (dk_at dksX4_ofSize_0 20 rfl rfl)
theorem dX4_ofSize_21 : decode cX4_ofSize 21 = .ok (.iadd, 1) := dk_96 (dk_at dksX4_ofSize_0 21 rfl rfl)
theorem dX4_ofSize_22 : decode cX4_ofSize 22 = .ok (.iaload, 1) := dk_46 (dk_at dksX4_ofSize_0 22 rfl rfl)
theorem dX4_ofSize_23 : decode cX4_ofSize 23 = .ok (.iadd, 1) := dk_96 (dk_at dksX4_ofSize_0 23 rfl rfl)
theorem dX4_ofSize_24 : decode cX4_ofSize 24 = .ok (.istore_n 2, 1) := dk_61 (dk_at dksX4_ofSize_1 0 rfl rfl)
theorem dX4_ofSize_25 : decode cX4_ofSize 25 = .ok (.iinc 3 1, 3) := dk_132 3 1 (dk_at dksX4_ofSize_1 1 rfl rfl)
theorem dX4_ofSize_28 : decode cX4_ofSize 28 = .ok (.goto (-24), 3) := dk_167 255 232 (dk_at dksX4_ofSize_1 4 rfl rfl)
theorem dX4_ofSize_31 : decode cX4_ofSize 31 = .ok (.iload_n 2, 1) := dk_28 (dk_at dksX4_ofSize_1 7 rfl rfl)
theorem dX4_ofSize_32 : decode cX4_ofSize 32 = .ok (.ireturn, 1) := dk_172 (dk_at dksX4_ofSize_1 8 rfl rfl)
abbrev cX4_type : ByteArray := prog_19_method_57_code
def yX4_type : MethodName := ⟨RX4, "type", "(C)I"⟩
def dkwX4_type_1 : List UInt8 := [85, 42, 89, 180, 0, 154, 4, 96, 181, 0, 154, 42, 42, 180, 0, 154, 182, 0, 75, 172]
abbrev dktX4_type_1 : List UInt8 := dkwX4_type_1 ++ []
def dkwX4_type_0 : List UInt8 := [42, 180, 0, 154, 16, 60, 160, 0, 9, 42, 4, 182, 0, 68, 172, 42, 180, 0, 25, 42, 180, 0, 154, 27]
abbrev dktX4_type_0 : List UInt8 := dkwX4_type_0 ++ dktX4_type_1
theorem dksX4_type_0 : cX4_type.data.toList.drop 0 = dktX4_type_0 := by decide +kernel
theorem dksX4_type_1 : cX4_type.data.toList.drop 24 = dktX4_type_1 := dk_seg dksX4_type_0 24 rfl rfl
theorem dX4_type_0 : decode cX4_type 0 = .ok (.aload_n 0, 1) := dk_42 (dk_at dksX4_type_0 0 rfl rfl)
theorem dX4_type_1 : decode cX4_type 1 = .ok (.getfield 154, 3) := dk_180 0 154 (dk_at dksX4_type_0 1 rfl rfl)
theorem dX4_type_4 : decode cX4_type 4 = .ok (.bipush 60, 2) := dk_16 60 (dk_at dksX4_type_0 4 rfl rfl)
theorem dX4_type_6 : decode cX4_type 6 = .ok (.if_icmp .ne 9, 3) := dk_160 0 9 (dk_at dksX4_type_0 6 rfl rfl)
theorem dX4_type_9 : decode cX4_type 9 = .ok (.aload_n 0, 1) := dk_42 (dk_at dksX4_type_0 9 rfl rfl)
theorem dX4_type_10 : decode cX4_type 10 = .ok (.iconst 1, 1) := dk_4 (dk_at dksX4_type_0 10 rfl rfl)
theorem dX4_type_11 : decode cX4_type 11 = .ok (.invokevirtual 68, 3) := dk_182 0 68 (dk_at dksX4_type_0 11 rfl rfl)
theorem dX4_type_14 : decode cX4_type 14 = .ok (.ireturn, 1) := dk_172 (dk_at dksX4_type_0 14 rfl rfl)
theorem dX4_type_15 : decode cX4_type 15 = .ok (.aload_n 0, 1) := dk_42 (dk_at dksX4_type_0 15 rfl rfl)
theorem dX4_type_16 : decode cX4_type 16 = .ok (.getfield 25, 3) := dk_180 0 25 (dk_at dksX4_type_0 16 rfl rfl)
theorem dX4_type_19 : decode cX4_type 19 = .ok (.aload_n 0, 1) := dk_42 (dk_at dksX4_type_0 19 rfl rfl)
theorem dX4_type_20 : decode cX4_type 20 = .ok (.getfield 154, 3) := dk_180 0 154 (dk_at dksX4_type_0 20 rfl rfl)
theorem dX4_type_23 : decode cX4_type 23 = .ok (.iload_n 1, 1) := dk_27 (dk_at dksX4_type_0 23 rfl rfl)
theorem dX4_type_24 : decode cX4_type 24 = .ok (.castore, 1) := dk_85 (dk_at dksX4_type_1 0 rfl rfl)
theorem dX4_type_25 : decode cX4_type 25 = .ok (.aload_n 0, 1) := dk_42 (dk_at dksX4_type_1 1 rfl rfl)
theorem dX4_type_26 : decode cX4_type 26 = .ok (.dup, 1) := dk_89 (dk_at dksX4_type_1 2 rfl rfl)
theorem dX4_type_27 : decode cX4_type 27 = .ok (.getfield 154, 3) := dk_180 0 154 (dk_at dksX4_type_1 3 rfl rfl)
theorem dX4_type_30 : decode cX4_type 30 = .ok (.iconst 1, 1) := dk_4 (dk_at dksX4_type_1 6 rfl rfl)
theorem dX4_type_31 : decode cX4_type 31 = .ok (.iadd, 1) := dk_96 (dk_at dksX4_type_1 7 rfl rfl)
theorem dX4_type_32 : decode cX4_type 32 = .ok (.putfield 154, 3) := dk_181 0 154 (dk_at dksX4_type_1 8 rfl rfl)
theorem dX4_type_35 : decode cX4_type 35 = .ok (.aload_n 0, 1) := dk_42 (dk_at dksX4_type_1 11 rfl rfl)
theorem dX4_type_36 : decode cX4_type 36 = .ok (.aload_n 0, 1) := dk_42 (dk_at dksX4_type_1 12 rfl rfl)
theorem dX4_type_37 : decode cX4_type 37 = .ok (.getfield 154, 3) := dk_180 0 154 (dk_at dksX4_type_1 13 rfl rfl)
theorem dX4_type_40 : decode cX4_type 40 = .ok (.invokevirtual 75, 3) := dk_182 0 75 (dk_at dksX4_type_1 16 rfl rfl)
theorem dX4_type_43 : decode cX4_type 43 = .ok (.ireturn, 1) := dk_172 (dk_at dksX4_type_1 19 rfl rfl)
abbrev cX4_read : ByteArray := prog_19_method_71_code
def yX4_read : MethodName := ⟨RX4, "read", "()I"⟩
def dkwX4_read_3 : List UInt8 := [132, 2, 1, 167, 255, 217, 42, 42, 27, 182, 0, 75, 182, 0, 81, 172]
abbrev dktX4_read_3 : List UInt8 := dkwX4_read_3 ++ []
def dkwX4_read_2 : List UInt8 := [180, 0, 42, 153, 0, 19, 42, 28, 182, 0, 238, 42, 5, 181, 0, 42, 42, 3, 182, 0, 81, 172]
abbrev dktX4_read_2 : List UInt8 := dkwX4_read_2 ++ dktX4_read_3
def dkwX4_read_1 : List UInt8 := [182, 0, 68, 172, 42, 182, 0, 78, 3, 61, 28, 27, 162, 0, 40, 42, 7, 28, 104, 182, 0, 235, 62, 42]
abbrev dktX4_read_1 : List UInt8 := dkwX4_read_1 ++ dktX4_read_2
def dkwX4_read_0 : List UInt8 := [42, 182, 0, 232, 60, 42, 180, 0, 176, 153, 0, 17, 42, 42, 180, 0, 173, 181, 0, 29, 42, 4]
abbrev dktX4_read_0 : List UInt8 := dkwX4_read_0 ++ dktX4_read_1
theorem dksX4_read_0 : cX4_read.data.toList.drop 0 = dktX4_read_0 := by decide +kernel
theorem dksX4_read_1 : cX4_read.data.toList.drop 22 = dktX4_read_1 := dk_seg dksX4_read_0 22 rfl rfl
theorem dksX4_read_2 : cX4_read.data.toList.drop 46 = dktX4_read_2 := dk_seg dksX4_read_1 24 rfl rfl
theorem dksX4_read_3 : cX4_read.data.toList.drop 68 = dktX4_read_3 := dk_seg dksX4_read_2 22 rfl rfl
theorem dX4_read_0 : decode cX4_read 0 = .ok (.aload_n 0, 1) := dk_42 (dk_at dksX4_read_0 0 rfl rfl)
theorem dX4_read_1 : decode cX4_read 1 = .ok (.invokevirtual 232, 3) := dk_182 0 232 (dk_at dksX4_read_0 1 rfl rfl)
theorem dX4_read_4 : decode cX4_read 4 = .ok (.istore_n 1, 1) := dk_60 (dk_at dksX4_read_0 4 rfl rfl)
theorem dX4_read_5 : decode cX4_read 5 = .ok (.aload_n 0, 1) := dk_42 (dk_at dksX4_read_0 5 rfl rfl)
theorem dX4_read_6 : decode cX4_read 6 = .ok (.getfield 176, 3) := dk_180 0 176 (dk_at dksX4_read_0 6 rfl rfl)
theorem dX4_read_9 : decode cX4_read 9 = .ok (.ifCond .eq 17, 3) := dk_153 0 17 (dk_at dksX4_read_0 9 rfl rfl)
theorem dX4_read_12 : decode cX4_read 12 = .ok (.aload_n 0, 1) := dk_42 (dk_at dksX4_read_0 12 rfl rfl)
theorem dX4_read_13 : decode cX4_read 13 = .ok (.aload_n 0, 1) := dk_42 (dk_at dksX4_read_0 13 rfl rfl)
theorem dX4_read_14 : decode cX4_read 14 = .ok (.getfield 173, 3) := dk_180 0 173 (dk_at dksX4_read_0 14 rfl rfl)
theorem dX4_read_17 : decode cX4_read 17 = .ok (.putfield 29, 3) := dk_181 0 29 (dk_at dksX4_read_0 17 rfl rfl)
theorem dX4_read_20 : decode cX4_read 20 = .ok (.aload_n 0, 1) := dk_42 (dk_at dksX4_read_0 20 rfl rfl)
theorem dX4_read_21 : decode cX4_read 21 = .ok (.iconst 1, 1) := dk_4 (dk_at dksX4_read_0 21 rfl rfl)
theorem dX4_read_22 : decode cX4_read 22 = .ok (.invokevirtual 68, 3) := dk_182 0 68 (dk_at dksX4_read_1 0 rfl rfl)
theorem dX4_read_25 : decode cX4_read 25 = .ok (.ireturn, 1) := dk_172 (dk_at dksX4_read_1 3 rfl rfl)
theorem dX4_read_26 : decode cX4_read 26 = .ok (.aload_n 0, 1) := dk_42 (dk_at dksX4_read_1 4 rfl rfl)
theorem dX4_read_27 : decode cX4_read 27 = .ok (.invokevirtual 78, 3) := dk_182 0 78 (dk_at dksX4_read_1 5 rfl rfl)
theorem dX4_read_30 : decode cX4_read 30 = .ok (.iconst 0, 1) := dk_3 (dk_at dksX4_read_1 8 rfl rfl)
theorem dX4_read_31 : decode cX4_read 31 = .ok (.istore_n 2, 1) := dk_61 (dk_at dksX4_read_1 9 rfl rfl)
theorem dX4_read_32 : decode cX4_read 32 = .ok (.iload_n 2, 1) := dk_28 (dk_at dksX4_read_1 10 rfl rfl)
theorem dX4_read_33 : decode cX4_read 33 = .ok (.iload_n 1, 1) := dk_27 (dk_at dksX4_read_1 11 rfl rfl)
theorem dX4_read_34 : decode cX4_read 34 = .ok (.if_icmp .ge 40, 3) := dk_162 0 40 (dk_at dksX4_read_1 12 rfl rfl)
theorem dX4_read_37 : decode cX4_read 37 = .ok (.aload_n 0, 1) := dk_42 (dk_at dksX4_read_1 15 rfl rfl)
theorem dX4_read_38 : decode cX4_read 38 = .ok (.iconst 4, 1) := dk_7 (dk_at dksX4_read_1 16 rfl rfl)
theorem dX4_read_39 : decode cX4_read 39 = .ok (.iload_n 2, 1) := dk_28 (dk_at dksX4_read_1 17 rfl rfl)
theorem dX4_read_40 : decode cX4_read 40 = .ok (.imul, 1) := dk_104 (dk_at dksX4_read_1 18 rfl rfl)
theorem dX4_read_41 : decode cX4_read 41 = .ok (.invokevirtual 235, 3) := dk_182 0 235 (dk_at dksX4_read_1 19 rfl rfl)
theorem dX4_read_44 : decode cX4_read 44 = .ok (.istore_n 3, 1) := dk_62 (dk_at dksX4_read_1 22 rfl rfl)
theorem dX4_read_45 : decode cX4_read 45 = .ok (.aload_n 0, 1) := dk_42 (dk_at dksX4_read_1 23 rfl rfl)
theorem dX4_read_46 : decode cX4_read 46 = .ok (.getfield 42, 3) := dk_180 0 42 (dk_at dksX4_read_2 0 rfl rfl)
theorem dX4_read_49 : decode cX4_read 49 = .ok (.ifCond .eq 19, 3) := dk_153 0 19 (dk_at dksX4_read_2 3 rfl rfl)
theorem dX4_read_52 : decode cX4_read 52 = .ok (.aload_n 0, 1) := dk_42 (dk_at dksX4_read_2 6 rfl rfl)
theorem dX4_read_53 : decode cX4_read 53 = .ok (.iload_n 2, 1) := dk_28 (dk_at dksX4_read_2 7 rfl rfl)
theorem dX4_read_54 : decode cX4_read 54 = .ok (.invokevirtual 238, 3) := dk_182 0 238 (dk_at dksX4_read_2 8 rfl rfl)
theorem dX4_read_57 : decode cX4_read 57 = .ok (.aload_n 0, 1) := dk_42 (dk_at dksX4_read_2 11 rfl rfl)
theorem dX4_read_58 : decode cX4_read 58 = .ok (.iconst 2, 1) := dk_5 (dk_at dksX4_read_2 12 rfl rfl)
theorem dX4_read_59 : decode cX4_read 59 = .ok (.putfield 42, 3) := dk_181 0 42 (dk_at dksX4_read_2 13 rfl rfl)
theorem dX4_read_62 : decode cX4_read 62 = .ok (.aload_n 0, 1) := dk_42 (dk_at dksX4_read_2 16 rfl rfl)
theorem dX4_read_63 : decode cX4_read 63 = .ok (.iconst 0, 1) := dk_3 (dk_at dksX4_read_2 17 rfl rfl)
theorem dX4_read_64 : decode cX4_read 64 = .ok (.invokevirtual 81, 3) := dk_182 0 81 (dk_at dksX4_read_2 18 rfl rfl)
theorem dX4_read_67 : decode cX4_read 67 = .ok (.ireturn, 1) := dk_172 (dk_at dksX4_read_2 21 rfl rfl)
theorem dX4_read_68 : decode cX4_read 68 = .ok (.iinc 2 1, 3) := dk_132 2 1 (dk_at dksX4_read_3 0 rfl rfl)
theorem dX4_read_71 : decode cX4_read 71 = .ok (.goto (-39), 3) := dk_167 255 217 (dk_at dksX4_read_3 3 rfl rfl)
theorem dX4_read_74 : decode cX4_read 74 = .ok (.aload_n 0, 1) := dk_42 (dk_at dksX4_read_3 6 rfl rfl)
theorem dX4_read_75 : decode cX4_read 75 = .ok (.aload_n 0, 1) := dk_42 (dk_at dksX4_read_3 7 rfl rfl)
theorem dX4_read_76 : decode cX4_read 76 = .ok (.iload_n 1, 1) := dk_27 (dk_at dksX4_read_3 8 rfl rfl)
theorem dX4_read_77 : decode cX4_read 77 = .ok (.invokevirtual 75, 3) := dk_182 0 75 (dk_at dksX4_read_3 9 rfl rfl)
theorem dX4_read_80 : decode cX4_read 80 = .ok (.invokevirtual 81, 3) := dk_182 0 81 (dk_at dksX4_read_3 12 rfl rfl)
theorem dX4_read_83 : decode cX4_read 83 = .ok (.ireturn, 1) := dk_172 (dk_at dksX4_read_3 15 rfl rfl)
abbrev cX4_readsText : ByteArray := prog_19_method_68_code
def yX4_readsText : MethodName := ⟨RX4, "readsText", "()I"⟩
def dkwX4_readsText_4 : List UInt8 := [167, 0, 4, 3, 181, 0, 176, 42, 3, 181, 0, 154, 27, 172]
abbrev dktX4_readsText_4 : List UInt8 := dkwX4_readsText_4 ++ []
def dkwX4_readsText_3 : List UInt8 := [167, 255, 202, 42, 42, 180, 0, 176, 154, 0, 14, 42, 180, 0, 173, 42, 180, 0, 154, 162, 0, 7, 4]
abbrev dktX4_readsText_3 : List UInt8 := dkwX4_readsText_3 ++ dktX4_readsText_4
def dkwX4_readsText_2 : List UInt8 := [167, 0, 4, 3, 61, 42, 89, 180, 0, 173, 28, 153, 0, 7, 4, 167, 0, 4, 3, 96, 181, 0, 173]
abbrev dktX4_readsText_2 : List UInt8 := dkwX4_readsText_2 ++ dktX4_readsText_3
def dkwX4_readsText_1 : List UInt8 := [182, 0, 229, 132, 1, 1, 42, 180, 0, 176, 154, 0, 16, 42, 182, 0, 179, 16, 59, 160, 0, 7, 4]
abbrev dktX4_readsText_1 : List UInt8 := dkwX4_readsText_1 ++ dktX4_readsText_2
def dkwX4_readsText_0 : List UInt8 := [42, 3, 181, 0, 173, 42, 3, 181, 0, 176, 3, 60, 4, 61, 28, 153, 0, 56, 42, 7, 27, 104]
abbrev dktX4_readsText_0 : List UInt8 := dkwX4_readsText_0 ++ dktX4_readsText_1
theorem dksX4_readsText_0 : cX4_readsText.data.toList.drop 0 = dktX4_readsText_0 := by decide +kernel
theorem dksX4_readsText_1 : cX4_readsText.data.toList.drop 22 = dktX4_readsText_1 := dk_seg dksX4_readsText_0 22 rfl rfl
theorem dksX4_readsText_2 : cX4_readsText.data.toList.drop 45 = dktX4_readsText_2 := dk_seg dksX4_readsText_1 23 rfl rfl
theorem dksX4_readsText_3 : cX4_readsText.data.toList.drop 68 = dktX4_readsText_3 := dk_seg dksX4_readsText_2 23 rfl rfl
theorem dksX4_readsText_4 : cX4_readsText.data.toList.drop 91 = dktX4_readsText_4 := dk_seg dksX4_readsText_3 23 rfl rfl
theorem dX4_readsText_0 : decode cX4_readsText 0 = .ok (.aload_n 0, 1) := dk_42 (dk_at dksX4_readsText_0 0 rfl rfl)
theorem dX4_readsText_1 : decode cX4_readsText 1 = .ok (.iconst 0, 1) := dk_3 (dk_at dksX4_readsText_0 1 rfl rfl)
theorem dX4_readsText_2 : decode cX4_readsText 2 = .ok (.putfield 173, 3) := dk_181 0 173 (dk_at dksX4_readsText_0 2 rfl rfl)
theorem dX4_readsText_5 : decode cX4_readsText 5 = .ok (.aload_n 0, 1) := dk_42 (dk_at dksX4_readsText_0 5 rfl rfl)
theorem dX4_readsText_6 : decode cX4_readsText 6 = .ok (.iconst 0, 1) := dk_3 (dk_at dksX4_readsText_0 6 rfl rfl)
theorem dX4_readsText_7 : decode cX4_readsText 7 = .ok (.putfield 176, 3) := dk_181 0 176 (dk_at dksX4_readsText_0 7 rfl rfl)
theorem dX4_readsText_10 : decode cX4_readsText 10 = .ok (.iconst 0, 1) := dk_3 (dk_at dksX4_readsText_0 10 rfl rfl)
theorem dX4_readsText_11 : decode cX4_readsText 11 = .ok (.istore_n 1, 1) := dk_60 (dk_at dksX4_readsText_0 11 rfl rfl)
theorem dX4_readsText_12 : decode cX4_readsText 12 = .ok (.iconst 1, 1) := dk_4 (dk_at dksX4_readsText_0 12 rfl rfl)
theorem dX4_readsText_13 : decode cX4_readsText 13 = .ok (.istore_n 2, 1) := dk_61 (dk_at dksX4_readsText_0 13 rfl rfl)
theorem dX4_readsText_14 : decode cX4_readsText 14 = .ok (.iload_n 2, 1) := dk_28 (dk_at dksX4_readsText_0 14 rfl rfl)
theorem dX4_readsText_15 : decode cX4_readsText 15 = .ok (.ifCond .eq 56, 3) := dk_153 0 56 (dk_at dksX4_readsText_0 15 rfl rfl)
theorem dX4_readsText_18 : decode cX4_readsText 18 = .ok (.aload_n 0, 1) := dk_42 (dk_at dksX4_readsText_0 18 rfl rfl)
theorem dX4_readsText_19 : decode cX4_readsText 19 = .ok (.iconst 4, 1) := dk_7 (dk_at dksX4_readsText_0 19 rfl rfl)
theorem dX4_readsText_20 : decode cX4_readsText 20 = .ok (.iload_n 1, 1) := dk_27 (dk_at dksX4_readsText_0 20 rfl rfl)
theorem dX4_readsText_21 : decode cX4_readsText 21 = .ok (.imul, 1) := dk_104 (dk_at dksX4_readsText_0 21 rfl rfl)
theorem dX4_readsText_22 : decode cX4_readsText 22 = .ok (.invokevirtual 229, 3) := dk_182 0 229 (dk_at dksX4_readsText_1 0 rfl rfl)
theorem dX4_readsText_25 : decode cX4_readsText 25 = .ok (.iinc 1 1, 3) := dk_132 1 1 (dk_at dksX4_readsText_1 3 rfl rfl)
theorem dX4_readsText_28 : decode cX4_readsText 28 = .ok (.aload_n 0, 1) := dk_42 (dk_at dksX4_readsText_1 6 rfl rfl)
theorem dX4_readsText_29 : decode cX4_readsText 29 = .ok (.getfield 176, 3) := dk_180 0 176 (dk_at dksX4_readsText_1 7 rfl rfl)
theorem dX4_readsText_32 : decode cX4_readsText 32 = .ok (.ifCond .ne 16, 3) := dk_154 0 16 (dk_at dksX4_readsText_1 10 rfl rfl)
theorem dX4_readsText_35 : decode cX4_readsText 35 = .ok (.aload_n 0, 1) := dk_42 (dk_at dksX4_readsText_1 13 rfl rfl)
theorem dX4_readsText_36 : decode cX4_readsText 36 = .ok (.invokevirtual 179, 3) := dk_182 0 179 (dk_at dksX4_readsText_1 14 rfl rfl)
theorem dX4_readsText_39 : decode cX4_readsText 39 = .ok (.bipush 59, 2) := dk_16 59 (dk_at dksX4_readsText_1 17 rfl rfl)
theorem dX4_readsText_41 : decode cX4_readsText 41 = .ok (.if_icmp .ne 7, 3) := dk_160 0 7 (dk_at dksX4_readsText_1 19 rfl rfl)
theorem dX4_readsText_44 : decode cX4_readsText 44 = .ok (.iconst 1, 1) := dk_4 (dk_at dksX4_readsText_1 22 rfl rfl)
theorem dX4_readsText_45 : decode cX4_readsText 45 = .ok (.goto 4, 3) := dk_167 0 4 (dk_at dksX4_readsText_2 0 rfl rfl)
theorem dX4_readsText_48 : decode cX4_readsText 48 = .ok (.iconst 0, 1) := dk_3 (dk_at dksX4_readsText_2 3 rfl rfl)
theorem dX4_readsText_49 : decode cX4_readsText 49 = .ok (.istore_n 2, 1) := dk_61 (dk_at dksX4_readsText_2 4 rfl rfl)
theorem dX4_readsText_50 : decode cX4_readsText 50 = .ok (.aload_n 0, 1) := dk_42 (dk_at dksX4_readsText_2 5 rfl rfl)
theorem dX4_readsText_51 : decode cX4_readsText 51 = .ok (.dup, 1) := dk_89 (dk_at dksX4_readsText_2 6 rfl rfl)
theorem dX4_readsText_52 : decode cX4_readsText 52 = .ok (.getfield 173, 3) := dk_180 0 173 (dk_at dksX4_readsText_2 7 rfl rfl)
theorem dX4_readsText_55 : decode cX4_readsText 55 = .ok (.iload_n 2, 1) := dk_28 (dk_at dksX4_readsText_2 10 rfl rfl)
theorem dX4_readsText_56 : decode cX4_readsText 56 = .ok (.ifCond .eq 7, 3) := dk_153 0 7 (dk_at dksX4_readsText_2 11 rfl rfl)
theorem dX4_readsText_59 : decode cX4_readsText 59 = .ok (.iconst 1, 1) := dk_4 (dk_at dksX4_readsText_2 14 rfl rfl)
theorem dX4_readsText_60 : decode cX4_readsText 60 = .ok (.goto 4, 3) := dk_167 0 4 (dk_at dksX4_readsText_2 15 rfl rfl)
theorem dX4_readsText_63 : decode cX4_readsText 63 = .ok (.iconst 0, 1) := dk_3 (dk_at dksX4_readsText_2 18 rfl rfl)
theorem dX4_readsText_64 : decode cX4_readsText 64 = .ok (.iadd, 1) := dk_96 (dk_at dksX4_readsText_2 19 rfl rfl)
theorem dX4_readsText_65 : decode cX4_readsText 65 = .ok (.putfield 173, 3) := dk_181 0 173 (dk_at dksX4_readsText_2 20 rfl rfl)
theorem dX4_readsText_68 : decode cX4_readsText 68 = .ok (.goto (-54), 3) := dk_167 255 202 (dk_at dksX4_readsText_3 0 rfl rfl)
theorem dX4_readsText_71 : decode cX4_readsText 71 = .ok (.aload_n 0, 1) := dk_42 (dk_at dksX4_readsText_3 3 rfl rfl)
theorem dX4_readsText_72 : decode cX4_readsText 72 = .ok (.aload_n 0, 1) := dk_42 (dk_at dksX4_readsText_3 4 rfl rfl)
theorem dX4_readsText_73 : decode cX4_readsText 73 = .ok (.getfield 176, 3) := dk_180 0 176 (dk_at dksX4_readsText_3 5 rfl rfl)
theorem dX4_readsText_76 : decode cX4_readsText 76 = .ok (.ifCond .ne 14, 3) := dk_154 0 14 (dk_at dksX4_readsText_3 8 rfl rfl)
theorem dX4_readsText_79 : decode cX4_readsText 79 = .ok (.aload_n 0, 1) := dk_42 (dk_at dksX4_readsText_3 11 rfl rfl)
theorem dX4_readsText_80 : decode cX4_readsText 80 = .ok (.getfield 173, 3) := dk_180 0 173 (dk_at dksX4_readsText_3 12 rfl rfl)
theorem dX4_readsText_83 : decode cX4_readsText 83 = .ok (.aload_n 0, 1) := dk_42 (dk_at dksX4_readsText_3 15 rfl rfl)
theorem dX4_readsText_84 : decode cX4_readsText 84 = .ok (.getfield 154, 3) := dk_180 0 154 (dk_at dksX4_readsText_3 16 rfl rfl)
theorem dX4_readsText_87 : decode cX4_readsText 87 = .ok (.if_icmp .ge 7, 3) := dk_162 0 7 (dk_at dksX4_readsText_3 19 rfl rfl)
theorem dX4_readsText_90 : decode cX4_readsText 90 = .ok (.iconst 1, 1) := dk_4 (dk_at dksX4_readsText_3 22 rfl rfl)
theorem dX4_readsText_91 : decode cX4_readsText 91 = .ok (.goto 4, 3) := dk_167 0 4 (dk_at dksX4_readsText_4 0 rfl rfl)
theorem dX4_readsText_94 : decode cX4_readsText 94 = .ok (.iconst 0, 1) := dk_3 (dk_at dksX4_readsText_4 3 rfl rfl)
theorem dX4_readsText_95 : decode cX4_readsText 95 = .ok (.putfield 176, 3) := dk_181 0 176 (dk_at dksX4_readsText_4 4 rfl rfl)
theorem dX4_readsText_98 : decode cX4_readsText 98 = .ok (.aload_n 0, 1) := dk_42 (dk_at dksX4_readsText_4 7 rfl rfl)
theorem dX4_readsText_99 : decode cX4_readsText 99 = .ok (.iconst 0, 1) := dk_3 (dk_at dksX4_readsText_4 8 rfl rfl)
theorem dX4_readsText_100 : decode cX4_readsText 100 = .ok (.putfield 154, 3) := dk_181 0 154 (dk_at dksX4_readsText_4 9 rfl rfl)
theorem dX4_readsText_103 : decode cX4_readsText 103 = .ok (.iload_n 1, 1) := dk_27 (dk_at dksX4_readsText_4 12 rfl rfl)
theorem dX4_readsText_104 : decode cX4_readsText 104 = .ok (.ireturn, 1) := dk_172 (dk_at dksX4_readsText_4 13 rfl rfl)
abbrev cX4_readsOrder : ByteArray := prog_19_method_67_code
def yX4_readsOrder : MethodName := ⟨RX4, "readsOrder", "(I)V"⟩
def dkwX4_readsOrder_4 : List UInt8 := [6, 96, 42, 182, 0, 226, 79, 177]
abbrev dktX4_readsOrder_4 : List UInt8 := dkwX4_readsOrder_4 ++ []
def dkwX4_readsOrder_3 : List UInt8 := [27, 5, 96, 42, 182, 0, 205, 79, 28, 5, 160, 0, 21, 42, 18, 224, 182, 0, 201, 42, 180, 0, 39, 27]
abbrev dktX4_readsOrder_3 : List UInt8 := dkwX4_readsOrder_3 ++ dktX4_readsOrder_4
def dkwX4_readsOrder_2 : List UInt8 := [28, 6, 160, 0, 30, 42, 28, 154, 0, 8, 18, 220, 167, 0, 5, 18, 222, 182, 0, 201, 42, 180, 0, 39]
abbrev dktX4_readsOrder_2 : List UInt8 := dkwX4_readsOrder_2 ++ dktX4_readsOrder_3
def dkwX4_readsOrder_1 : List UInt8 := [160, 0, 10, 42, 182, 0, 217, 167, 0, 7, 42, 182, 0, 205, 79, 28, 153, 0, 13, 28, 5, 159, 0, 8]
abbrev dktX4_readsOrder_1 : List UInt8 := dkwX4_readsOrder_1 ++ dktX4_readsOrder_2
def dkwX4_readsOrder_0 : List UInt8 := [42, 182, 0, 214, 61, 42, 180, 0, 39, 27, 28, 79, 42, 180, 0, 39, 27, 4, 96, 28, 16, 7]
abbrev dktX4_readsOrder_0 : List UInt8 := dkwX4_readsOrder_0 ++ dktX4_readsOrder_1
theorem dksX4_readsOrder_0 : cX4_readsOrder.data.toList.drop 0 = dktX4_readsOrder_0 := by decide +kernel
theorem dksX4_readsOrder_1 : cX4_readsOrder.data.toList.drop 22 = dktX4_readsOrder_1 := dk_seg dksX4_readsOrder_0 22 rfl rfl
theorem dksX4_readsOrder_2 : cX4_readsOrder.data.toList.drop 46 = dktX4_readsOrder_2 := dk_seg dksX4_readsOrder_1 24 rfl rfl
theorem dksX4_readsOrder_3 : cX4_readsOrder.data.toList.drop 70 = dktX4_readsOrder_3 := dk_seg dksX4_readsOrder_2 24 rfl rfl
theorem dksX4_readsOrder_4 : cX4_readsOrder.data.toList.drop 94 = dktX4_readsOrder_4 := dk_seg dksX4_readsOrder_3 24 rfl rfl
theorem dX4_readsOrder_0 : decode cX4_readsOrder 0 = .ok (.aload_n 0, 1) := dk_42 (dk_at dksX4_readsOrder_0 0 rfl rfl)
theorem dX4_readsOrder_1 : decode cX4_readsOrder 1 = .ok (.invokevirtual 214, 3) := dk_182 0 214 (dk_at dksX4_readsOrder_0 1 rfl rfl)
theorem dX4_readsOrder_4 : decode cX4_readsOrder 4 = .ok (.istore_n 2, 1) := dk_61 (dk_at dksX4_readsOrder_0 4 rfl rfl)
theorem dX4_readsOrder_5 : decode cX4_readsOrder 5 = .ok (.aload_n 0, 1) := dk_42 (dk_at dksX4_readsOrder_0 5 rfl rfl)
theorem dX4_readsOrder_6 : decode cX4_readsOrder 6 = .ok (.getfield 39, 3) := dk_180 0 39 (dk_at dksX4_readsOrder_0 6 rfl rfl)
theorem dX4_readsOrder_9 : decode cX4_readsOrder 9 = .ok (.iload_n 1, 1) := dk_27 (dk_at dksX4_readsOrder_0 9 rfl rfl)
theorem dX4_readsOrder_10 : decode cX4_readsOrder 10 = .ok (.iload_n 2, 1) := dk_28 (dk_at dksX4_readsOrder_0 10 rfl rfl)
theorem dX4_readsOrder_11 : decode cX4_readsOrder 11 = .ok (.iastore, 1) := dk_79 (dk_at dksX4_readsOrder_0 11 rfl rfl)
theorem dX4_readsOrder_12 : decode cX4_readsOrder 12 = .ok (.aload_n 0, 1) := dk_42 (dk_at dksX4_readsOrder_0 12 rfl rfl)
theorem dX4_readsOrder_13 : decode cX4_readsOrder 13 = .ok (.getfield 39, 3) := dk_180 0 39 (dk_at dksX4_readsOrder_0 13 rfl rfl)
theorem dX4_readsOrder_16 : decode cX4_readsOrder 16 = .ok (.iload_n 1, 1) := dk_27 (dk_at dksX4_readsOrder_0 16 rfl rfl)
theorem dX4_readsOrder_17 : decode cX4_readsOrder 17 = .ok (.iconst 1, 1) := dk_4 (dk_at dksX4_readsOrder_0 17 rfl rfl)
theorem dX4_readsOrder_18 : decode cX4_readsOrder 18 = .ok (.iadd, 1) := dk_96 (dk_at dksX4_readsOrder_0 18 rfl rfl)
theorem dX4_readsOrder_19 : decode cX4_readsOrder 19 = .ok (.iload_n 2, 1) := dk_28 (dk_at dksX4_readsOrder_0 19 rfl rfl)
theorem dX4_readsOrder_20 : decode cX4_readsOrder 20 = .ok (.bipush 7, 2) := dk_16 7 (dk_at dksX4_readsOrder_0 20 rfl rfl)
theorem dX4_readsOrder_22 : decode cX4_readsOrder 22 = .ok (.if_icmp .ne 10, 3) := dk_160 0 10 (dk_at dksX4_readsOrder_1 0 rfl rfl)
theorem dX4_readsOrder_25 : decode cX4_readsOrder 25 = .ok (.aload_n 0, 1) := dk_42 (dk_at dksX4_readsOrder_1 3 rfl rfl)
theorem dX4_readsOrder_26 : decode cX4_readsOrder 26 = .ok (.invokevirtual 217, 3) := dk_182 0 217 (dk_at dksX4_readsOrder_1 4 rfl rfl)
theorem dX4_readsOrder_29 : decode cX4_readsOrder 29 = .ok (.goto 7, 3) := dk_167 0 7 (dk_at dksX4_readsOrder_1 7 rfl rfl)
theorem dX4_readsOrder_32 : decode cX4_readsOrder 32 = .ok (.aload_n 0, 1) := dk_42 (dk_at dksX4_readsOrder_1 10 rfl rfl)
theorem dX4_readsOrder_33 : decode cX4_readsOrder 33 = .ok (.invokevirtual 205, 3) := dk_182 0 205 (dk_at dksX4_readsOrder_1 11 rfl rfl)
theorem dX4_readsOrder_36 : decode cX4_readsOrder 36 = .ok (.iastore, 1) := dk_79 (dk_at dksX4_readsOrder_1 14 rfl rfl)
theorem dX4_readsOrder_37 : decode cX4_readsOrder 37 = .ok (.iload_n 2, 1) := dk_28 (dk_at dksX4_readsOrder_1 15 rfl rfl)
theorem dX4_readsOrder_38 : decode cX4_readsOrder 38 = .ok (.ifCond .eq 13, 3) := dk_153 0 13 (dk_at dksX4_readsOrder_1 16 rfl rfl)
theorem dX4_readsOrder_41 : decode cX4_readsOrder 41 = .ok (.iload_n 2, 1) := dk_28 (dk_at dksX4_readsOrder_1 19 rfl rfl)
theorem dX4_readsOrder_42 : decode cX4_readsOrder 42 = .ok (.iconst 2, 1) := dk_5 (dk_at dksX4_readsOrder_1 20 rfl rfl)
theorem dX4_readsOrder_43 : decode cX4_readsOrder 43 = .ok (.if_icmp .eq 8, 3) := dk_159 0 8 (dk_at dksX4_readsOrder_1 21 rfl rfl)
theorem dX4_readsOrder_46 : decode cX4_readsOrder 46 = .ok (.iload_n 2, 1) := dk_28 (dk_at dksX4_readsOrder_2 0 rfl rfl)
theorem dX4_readsOrder_47 : decode cX4_readsOrder 47 = .ok (.iconst 3, 1) := dk_6 (dk_at dksX4_readsOrder_2 1 rfl rfl)
theorem dX4_readsOrder_48 : decode cX4_readsOrder 48 = .ok (.if_icmp .ne 30, 3) := dk_160 0 30 (dk_at dksX4_readsOrder_2 2 rfl rfl)
theorem dX4_readsOrder_51 : decode cX4_readsOrder 51 = .ok (.aload_n 0, 1) := dk_42 (dk_at dksX4_readsOrder_2 5 rfl rfl)
theorem dX4_readsOrder_52 : decode cX4_readsOrder 52 = .ok (.iload_n 2, 1) := dk_28 (dk_at dksX4_readsOrder_2 6 rfl rfl)
theorem dX4_readsOrder_53 : decode cX4_readsOrder 53 = .ok (.ifCond .ne 8, 3) := dk_154 0 8 (dk_at dksX4_readsOrder_2 7 rfl rfl)
theorem dX4_readsOrder_56 : decode cX4_readsOrder 56 = .ok (.ldc 220, 2) := dk_18 220 (dk_at dksX4_readsOrder_2 10 rfl rfl)
theorem dX4_readsOrder_58 : decode cX4_readsOrder 58 = .ok (.goto 5, 3) := dk_167 0 5 (dk_at dksX4_readsOrder_2 12 rfl rfl)
theorem dX4_readsOrder_61 : decode cX4_readsOrder 61 = .ok (.ldc 222, 2) := dk_18 222 (dk_at dksX4_readsOrder_2 15 rfl rfl)
theorem dX4_readsOrder_63 : decode cX4_readsOrder 63 = .ok (.invokevirtual 201, 3) := dk_182 0 201 (dk_at dksX4_readsOrder_2 17 rfl rfl)
theorem dX4_readsOrder_66 : decode cX4_readsOrder 66 = .ok (.aload_n 0, 1) := dk_42 (dk_at dksX4_readsOrder_2 20 rfl rfl)
theorem dX4_readsOrder_67 : decode cX4_readsOrder 67 = .ok (.getfield 39, 3) := dk_180 0 39 (dk_at dksX4_readsOrder_2 21 rfl rfl)
theorem dX4_readsOrder_70 : decode cX4_readsOrder 70 = .ok (.iload_n 1, 1) := dk_27 (dk_at dksX4_readsOrder_3 0 rfl rfl)
theorem dX4_readsOrder_71 : decode cX4_readsOrder 71 = .ok (.iconst 2, 1) := dk_5 (dk_at dksX4_readsOrder_3 1 rfl rfl)
theorem dX4_readsOrder_72 : decode cX4_readsOrder 72 = .ok (.iadd, 1) := dk_96 (dk_at dksX4_readsOrder_3 2 rfl rfl)
theorem dX4_readsOrder_73 : decode cX4_readsOrder 73 = .ok (.aload_n 0, 1) := dk_42 (dk_at dksX4_readsOrder_3 3 rfl rfl)
theorem dX4_readsOrder_74 : decode cX4_readsOrder 74 = .ok (.invokevirtual 205, 3) := dk_182 0 205 (dk_at dksX4_readsOrder_3 4 rfl rfl)
theorem dX4_readsOrder_77 : decode cX4_readsOrder 77 = .ok (.iastore, 1) := dk_79 (dk_at dksX4_readsOrder_3 7 rfl rfl)
theorem dX4_readsOrder_78 : decode cX4_readsOrder 78 = .ok (.iload_n 2, 1) := dk_28 (dk_at dksX4_readsOrder_3 8 rfl rfl)
theorem dX4_readsOrder_79 : decode cX4_readsOrder 79 = .ok (.iconst 2, 1) := dk_5 (dk_at dksX4_readsOrder_3 9 rfl rfl)
theorem dX4_readsOrder_80 : decode cX4_readsOrder 80 = .ok (.if_icmp .ne 21, 3) := dk_160 0 21 (dk_at dksX4_readsOrder_3 10 rfl rfl)
theorem dX4_readsOrder_83 : decode cX4_readsOrder 83 = .ok (.aload_n 0, 1) := dk_42 (dk_at dksX4_readsOrder_3 13 rfl rfl)
theorem dX4_readsOrder_84 : decode cX4_readsOrder 84 = .ok (.ldc 224, 2) := dk_18 224 (dk_at dksX4_readsOrder_3 14 rfl rfl)
theorem dX4_readsOrder_86 : decode cX4_readsOrder 86 = .ok (.invokevirtual 201, 3) := dk_182 0 201 (dk_at dksX4_readsOrder_3 16 rfl rfl)
theorem dX4_readsOrder_89 : decode cX4_readsOrder 89 = .ok (.aload_n 0, 1) := dk_42 (dk_at dksX4_readsOrder_3 19 rfl rfl)
theorem dX4_readsOrder_90 : decode cX4_readsOrder 90 = .ok (.getfield 39, 3) := dk_180 0 39 (dk_at dksX4_readsOrder_3 20 rfl rfl)
theorem dX4_readsOrder_93 : decode cX4_readsOrder 93 = .ok (.iload_n 1, 1) := dk_27 (dk_at dksX4_readsOrder_3 23 rfl rfl)
theorem dX4_readsOrder_94 : decode cX4_readsOrder 94 = .ok (.iconst 3, 1) := dk_6 (dk_at dksX4_readsOrder_4 0 rfl rfl)
theorem dX4_readsOrder_95 : decode cX4_readsOrder 95 = .ok (.iadd, 1) := dk_96 (dk_at dksX4_readsOrder_4 1 rfl rfl)
theorem dX4_readsOrder_96 : decode cX4_readsOrder 96 = .ok (.aload_n 0, 1) := dk_42 (dk_at dksX4_readsOrder_4 2 rfl rfl)
theorem dX4_readsOrder_97 : decode cX4_readsOrder 97 = .ok (.invokevirtual 226, 3) := dk_182 0 226 (dk_at dksX4_readsOrder_4 3 rfl rfl)
theorem dX4_readsOrder_100 : decode cX4_readsOrder 100 = .ok (.iastore, 1) := dk_79 (dk_at dksX4_readsOrder_4 6 rfl rfl)
theorem dX4_readsOrder_101 : decode cX4_readsOrder 101 = .ok (.return_, 1) := dk_177 (dk_at dksX4_readsOrder_4 7 rfl rfl)
abbrev cX4_readsWord : ByteArray := prog_19_method_63_code
def yX4_readsWord : MethodName := ⟨RX4, "readsWord", "()I"⟩
def dkwX4_readsWord_1 : List UInt8 := [184, 0, 194, 182, 0, 201, 27, 172]
abbrev dktX4_readsWord_1 : List UInt8 := dkwX4_readsWord_1 ++ []
def dkwX4_readsWord_0 : List UInt8 := [3, 60, 27, 16, 7, 162, 0, 17, 42, 27, 182, 0, 198, 154, 0, 9, 132, 1, 1, 167, 255, 239, 42, 27]
abbrev dktX4_readsWord_0 : List UInt8 := dkwX4_readsWord_0 ++ dktX4_readsWord_1
theorem dksX4_readsWord_0 : cX4_readsWord.data.toList.drop 0 = dktX4_readsWord_0 := by decide +kernel
theorem dksX4_readsWord_1 : cX4_readsWord.data.toList.drop 24 = dktX4_readsWord_1 := dk_seg dksX4_readsWord_0 24 rfl rfl
theorem dX4_readsWord_0 : decode cX4_readsWord 0 = .ok (.iconst 0, 1) := dk_3 (dk_at dksX4_readsWord_0 0 rfl rfl)
theorem dX4_readsWord_1 : decode cX4_readsWord 1 = .ok (.istore_n 1, 1) := dk_60 (dk_at dksX4_readsWord_0 1 rfl rfl)
theorem dX4_readsWord_2 : decode cX4_readsWord 2 = .ok (.iload_n 1, 1) := dk_27 (dk_at dksX4_readsWord_0 2 rfl rfl)
theorem dX4_readsWord_3 : decode cX4_readsWord 3 = .ok (.bipush 7, 2) := dk_16 7 (dk_at dksX4_readsWord_0 3 rfl rfl)
theorem dX4_readsWord_5 : decode cX4_readsWord 5 = .ok (.if_icmp .ge 17, 3) := dk_162 0 17 (dk_at dksX4_readsWord_0 5 rfl rfl)
theorem dX4_readsWord_8 : decode cX4_readsWord 8 = .ok (.aload_n 0, 1) := dk_42 (dk_at dksX4_readsWord_0 8 rfl rfl)
theorem dX4_readsWord_9 : decode cX4_readsWord 9 = .ok (.iload_n 1, 1) := dk_27 (dk_at dksX4_readsWord_0 9 rfl rfl)
theorem dX4_readsWord_10 : decode cX4_readsWord 10 = .ok (.invokevirtual 198, 3) := dk_182 0 198 (dk_at dksX4_readsWord_0 10 rfl rfl)
theorem dX4_readsWord_13 : decode cX4_readsWord 13 = .ok (.ifCond .ne 9, 3) := dk_154 0 9 (dk_at dksX4_readsWord_0 13 rfl rfl)
theorem dX4_readsWord_16 : decode cX4_readsWord 16 = .ok (.iinc 1 1, 3) := dk_132 1 1 (dk_at dksX4_readsWord_0 16 rfl rfl)
theorem dX4_readsWord_19 : decode cX4_readsWord 19 = .ok (.goto (-17), 3) := dk_167 255 239 (dk_at dksX4_readsWord_0 19 rfl rfl)
theorem dX4_readsWord_22 : decode cX4_readsWord 22 = .ok (.aload_n 0, 1) := dk_42 (dk_at dksX4_readsWord_0 22 rfl rfl)
theorem dX4_readsWord_23 : decode cX4_readsWord 23 = .ok (.iload_n 1, 1) := dk_27 (dk_at dksX4_readsWord_0 23 rfl rfl)
theorem dX4_readsWord_24 : decode cX4_readsWord 24 = .ok (.invokestatic 194, 3) := dk_184 0 194 (dk_at dksX4_readsWord_1 0 rfl rfl)
theorem dX4_readsWord_27 : decode cX4_readsWord 27 = .ok (.invokevirtual 201, 3) := dk_182 0 201 (dk_at dksX4_readsWord_1 3 rfl rfl)
theorem dX4_readsWord_30 : decode cX4_readsWord 30 = .ok (.iload_n 1, 1) := dk_27 (dk_at dksX4_readsWord_1 6 rfl rfl)
theorem dX4_readsWord_31 : decode cX4_readsWord 31 = .ok (.ireturn, 1) := dk_172 (dk_at dksX4_readsWord_1 7 rfl rfl)
abbrev cX4_isWord : ByteArray := prog_19_method_62_code
def yX4_isWord : MethodName := ⟨RX4, "isWord", "(I)Z"⟩
def dkwX4_isWord_3 : List UInt8 := [182, 0, 187, 28, 160, 0, 7, 4, 167, 0, 4, 3, 172]
abbrev dktX4_isWord_3 : List UInt8 := dkwX4_isWord_3 ++ []
def dkwX4_isWord_2 : List UInt8 := [184, 0, 194, 3, 182, 0, 187, 42, 182, 0, 179, 160, 0, 23, 29, 154, 0, 15, 27, 184, 0, 194, 4]
abbrev dktX4_isWord_2 : List UInt8 := dkwX4_isWord_2 ++ dktX4_isWord_3
def dkwX4_isWord_1 : List UInt8 := [167, 0, 4, 2, 61, 27, 4, 159, 0, 12, 27, 5, 159, 0, 7, 4, 167, 0, 4, 3, 62, 27]
abbrev dktX4_isWord_1 : List UInt8 := dkwX4_isWord_1 ++ dktX4_isWord_2
def dkwX4_isWord_0 : List UInt8 := [42, 180, 0, 173, 4, 96, 42, 180, 0, 154, 162, 0, 17, 42, 180, 0, 25, 42, 180, 0, 173, 4, 96, 52]
abbrev dktX4_isWord_0 : List UInt8 := dkwX4_isWord_0 ++ dktX4_isWord_1
theorem dksX4_isWord_0 : cX4_isWord.data.toList.drop 0 = dktX4_isWord_0 := by decide +kernel
theorem dksX4_isWord_1 : cX4_isWord.data.toList.drop 24 = dktX4_isWord_1 := dk_seg dksX4_isWord_0 24 rfl rfl
theorem dksX4_isWord_2 : cX4_isWord.data.toList.drop 46 = dktX4_isWord_2 := dk_seg dksX4_isWord_1 22 rfl rfl
theorem dksX4_isWord_3 : cX4_isWord.data.toList.drop 69 = dktX4_isWord_3 := dk_seg dksX4_isWord_2 23 rfl rfl
theorem dX4_isWord_0 : decode cX4_isWord 0 = .ok (.aload_n 0, 1) := dk_42 (dk_at dksX4_isWord_0 0 rfl rfl)
theorem dX4_isWord_1 : decode cX4_isWord 1 = .ok (.getfield 173, 3) := dk_180 0 173 (dk_at dksX4_isWord_0 1 rfl rfl)
theorem dX4_isWord_4 : decode cX4_isWord 4 = .ok (.iconst 1, 1) := dk_4 (dk_at dksX4_isWord_0 4 rfl rfl)
theorem dX4_isWord_5 : decode cX4_isWord 5 = .ok (.iadd, 1) := dk_96 (dk_at dksX4_isWord_0 5 rfl rfl)
theorem dX4_isWord_6 : decode cX4_isWord 6 = .ok (.aload_n 0, 1) := dk_42 (dk_at dksX4_isWord_0 6 rfl rfl)
theorem dX4_isWord_7 : decode cX4_isWord 7 = .ok (.getfield 154, 3) := dk_180 0 154 (dk_at dksX4_isWord_0 7 rfl rfl)
theorem dX4_isWord_10 : decode cX4_isWord 10 = .ok (.if_icmp .ge 17, 3) := dk_162 0 17 (dk_at dksX4_isWord_0 10 rfl rfl)
theorem dX4_isWord_13 : decode cX4_isWord 13 = .ok (.aload_n 0, 1) := dk_42 (dk_at dksX4_isWord_0 13 rfl rfl)
theorem dX4_isWord_14 : decode cX4_isWord 14 = .ok (.getfield 25, 3) := dk_180 0 25 (dk_at dksX4_isWord_0 14 rfl rfl)
theorem dX4_isWord_17 : decode cX4_isWord 17 = .ok (.aload_n 0, 1) := dk_42 (dk_at dksX4_isWord_0 17 rfl rfl)
theorem dX4_isWord_18 : decode cX4_isWord 18 = .ok (.getfield 173, 3) := dk_180 0 173 (dk_at dksX4_isWord_0 18 rfl rfl)
theorem dX4_isWord_21 : decode cX4_isWord 21 = .ok (.iconst 1, 1) := dk_4 (dk_at dksX4_isWord_0 21 rfl rfl)
theorem dX4_isWord_22 : decode cX4_isWord 22 = .ok (.iadd, 1) := dk_96 (dk_at dksX4_isWord_0 22 rfl rfl)
theorem dX4_isWord_23 : decode cX4_isWord 23 = .ok (.caload, 1) := dk_52 (dk_at dksX4_isWord_0 23 rfl rfl)
theorem dX4_isWord_24 : decode cX4_isWord 24 = .ok (.goto 4, 3) := dk_167 0 4 (dk_at dksX4_isWord_1 0 rfl rfl)
theorem dX4_isWord_27 : decode cX4_isWord 27 = .ok (.iconst (-1), 1) := dk_2 (dk_at dksX4_isWord_1 3 rfl rfl)
theorem dX4_isWord_28 : decode cX4_isWord 28 = .ok (.istore_n 2, 1) := dk_61 (dk_at dksX4_isWord_1 4 rfl rfl)
theorem dX4_isWord_29 : decode cX4_isWord 29 = .ok (.iload_n 1, 1) := dk_27 (dk_at dksX4_isWord_1 5 rfl rfl)
theorem dX4_isWord_30 : decode cX4_isWord 30 = .ok (.iconst 1, 1) := dk_4 (dk_at dksX4_isWord_1 6 rfl rfl)
theorem dX4_isWord_31 : decode cX4_isWord 31 = .ok (.if_icmp .eq 12, 3) := dk_159 0 12 (dk_at dksX4_isWord_1 7 rfl rfl)
theorem dX4_isWord_34 : decode cX4_isWord 34 = .ok (.iload_n 1, 1) := dk_27 (dk_at dksX4_isWord_1 10 rfl rfl)
theorem dX4_isWord_35 : decode cX4_isWord 35 = .ok (.iconst 2, 1) := dk_5 (dk_at dksX4_isWord_1 11 rfl rfl)
theorem dX4_isWord_36 : decode cX4_isWord 36 = .ok (.if_icmp .eq 7, 3) := dk_159 0 7 (dk_at dksX4_isWord_1 12 rfl rfl)
theorem dX4_isWord_39 : decode cX4_isWord 39 = .ok (.iconst 1, 1) := dk_4 (dk_at dksX4_isWord_1 15 rfl rfl)
theorem dX4_isWord_40 : decode cX4_isWord 40 = .ok (.goto 4, 3) := dk_167 0 4 (dk_at dksX4_isWord_1 16 rfl rfl)
theorem dX4_isWord_43 : decode cX4_isWord 43 = .ok (.iconst 0, 1) := dk_3 (dk_at dksX4_isWord_1 19 rfl rfl)
theorem dX4_isWord_44 : decode cX4_isWord 44 = .ok (.istore_n 3, 1) := dk_62 (dk_at dksX4_isWord_1 20 rfl rfl)
theorem dX4_isWord_45 : decode cX4_isWord 45 = .ok (.iload_n 1, 1) := dk_27 (dk_at dksX4_isWord_1 21 rfl rfl)
theorem dX4_isWord_46 : decode cX4_isWord 46 = .ok (.invokestatic 194, 3) := dk_184 0 194 (dk_at dksX4_isWord_2 0 rfl rfl)
theorem dX4_isWord_49 : decode cX4_isWord 49 = .ok (.iconst 0, 1) := dk_3 (dk_at dksX4_isWord_2 3 rfl rfl)
theorem dX4_isWord_50 : decode cX4_isWord 50 = .ok (.invokevirtual 187, 3) := dk_182 0 187 (dk_at dksX4_isWord_2 4 rfl rfl)
theorem dX4_isWord_53 : decode cX4_isWord 53 = .ok (.aload_n 0, 1) := dk_42 (dk_at dksX4_isWord_2 7 rfl rfl)
theorem dX4_isWord_54 : decode cX4_isWord 54 = .ok (.invokevirtual 179, 3) := dk_182 0 179 (dk_at dksX4_isWord_2 8 rfl rfl)
theorem dX4_isWord_57 : decode cX4_isWord 57 = .ok (.if_icmp .ne 23, 3) := dk_160 0 23 (dk_at dksX4_isWord_2 11 rfl rfl)
theorem dX4_isWord_60 : decode cX4_isWord 60 = .ok (.iload_n 3, 1) := dk_29 (dk_at dksX4_isWord_2 14 rfl rfl)
theorem dX4_isWord_61 : decode cX4_isWord 61 = .ok (.ifCond .ne 15, 3) := dk_154 0 15 (dk_at dksX4_isWord_2 15 rfl rfl)
theorem dX4_isWord_64 : decode cX4_isWord 64 = .ok (.iload_n 1, 1) := dk_27 (dk_at dksX4_isWord_2 18 rfl rfl)
theorem dX4_isWord_65 : decode cX4_isWord 65 = .ok (.invokestatic 194, 3) := dk_184 0 194 (dk_at dksX4_isWord_2 19 rfl rfl)
theorem dX4_isWord_68 : decode cX4_isWord 68 = .ok (.iconst 1, 1) := dk_4 (dk_at dksX4_isWord_2 22 rfl rfl)
theorem dX4_isWord_69 : decode cX4_isWord 69 = .ok (.invokevirtual 187, 3) := dk_182 0 187 (dk_at dksX4_isWord_3 0 rfl rfl)
theorem dX4_isWord_72 : decode cX4_isWord 72 = .ok (.iload_n 2, 1) := dk_28 (dk_at dksX4_isWord_3 3 rfl rfl)
theorem dX4_isWord_73 : decode cX4_isWord 73 = .ok (.if_icmp .ne 7, 3) := dk_160 0 7 (dk_at dksX4_isWord_3 4 rfl rfl)
theorem dX4_isWord_76 : decode cX4_isWord 76 = .ok (.iconst 1, 1) := dk_4 (dk_at dksX4_isWord_3 7 rfl rfl)
theorem dX4_isWord_77 : decode cX4_isWord 77 = .ok (.goto 4, 3) := dk_167 0 4 (dk_at dksX4_isWord_3 8 rfl rfl)
theorem dX4_isWord_80 : decode cX4_isWord 80 = .ok (.iconst 0, 1) := dk_3 (dk_at dksX4_isWord_3 11 rfl rfl)
theorem dX4_isWord_81 : decode cX4_isWord 81 = .ok (.ireturn, 1) := dk_172 (dk_at dksX4_isWord_3 12 rfl rfl)
abbrev cX4_word : ByteArray := prog_19_method_58_code
def yX4_word : MethodName := ⟨RX4, "word", "(I)Ljava/lang/String;"⟩
def dkwX4_word_2 : List UInt8 := [18, 157, 176, 18, 159, 176, 18, 161, 176, 18, 163, 176, 18, 165, 176, 18, 167, 176, 18, 169, 176, 18, 171, 176]
abbrev dktX4_word_2 : List UInt8 := dkwX4_word_2 ++ []
def dkwX4_word_1 : List UInt8 := [170, 0, 0, 0, 0, 0, 64, 0, 0, 0, 0, 0, 0, 0, 6, 0, 0, 0, 43, 0, 0, 0, 46, 0, 0, 0, 49, 0, 0, 0, 52, 0, 0, 0, 55, 0, 0, 0, 58, 0, 0, 0, 61]
abbrev dktX4_word_1 : List UInt8 := dkwX4_word_1 ++ dktX4_word_2
def dkwX4_word_0 : List UInt8 := [26]
abbrev dktX4_word_0 : List UInt8 := dkwX4_word_0 ++ dktX4_word_1
theorem dksX4_word_0 : cX4_word.data.toList.drop 0 = dktX4_word_0 := by decide +kernel
theorem dksX4_word_1 : cX4_word.data.toList.drop 1 = dktX4_word_1 := dk_seg dksX4_word_0 1 rfl rfl
theorem dksX4_word_2 : cX4_word.data.toList.drop 44 = dktX4_word_2 := dk_seg dksX4_word_1 43 rfl rfl
theorem dX4_word_0 : decode cX4_word 0 = .ok (.iload_n 0, 1) := dk_26 (dk_at dksX4_word_0 0 rfl rfl)
theorem dX4_word_1 : decode cX4_word 1 = .ok (.tableswitch 64 0 6 #[43, 46, 49, 52, 55, 58, 61], 43) := by decide +kernel
theorem dX4_word_44 : decode cX4_word 44 = .ok (.ldc 157, 2) := dk_18 157 (dk_at dksX4_word_2 0 rfl rfl)
theorem dX4_word_46 : decode cX4_word 46 = .ok (.areturn, 1) := dk_176 (dk_at dksX4_word_2 2 rfl rfl)
theorem dX4_word_47 : decode cX4_word 47 = .ok (.ldc 159, 2) := dk_18 159 (dk_at dksX4_word_2 3 rfl rfl)
theorem dX4_word_49 : decode cX4_word 49 = .ok (.areturn, 1) := dk_176 (dk_at dksX4_word_2 5 rfl rfl)
theorem dX4_word_50 : decode cX4_word 50 = .ok (.ldc 161, 2) := dk_18 161 (dk_at dksX4_word_2 6 rfl rfl)
theorem dX4_word_52 : decode cX4_word 52 = .ok (.areturn, 1) := dk_176 (dk_at dksX4_word_2 8 rfl rfl)
theorem dX4_word_53 : decode cX4_word 53 = .ok (.ldc 163, 2) := dk_18 163 (dk_at dksX4_word_2 9 rfl rfl)
theorem dX4_word_55 : decode cX4_word 55 = .ok (.areturn, 1) := dk_176 (dk_at dksX4_word_2 11 rfl rfl)
theorem dX4_word_56 : decode cX4_word 56 = .ok (.ldc 165, 2) := dk_18 165 (dk_at dksX4_word_2 12 rfl rfl)
theorem dX4_word_58 : decode cX4_word 58 = .ok (.areturn, 1) := dk_176 (dk_at dksX4_word_2 14 rfl rfl)
theorem dX4_word_59 : decode cX4_word 59 = .ok (.ldc 167, 2) := dk_18 167 (dk_at dksX4_word_2 15 rfl rfl)
theorem dX4_word_61 : decode cX4_word 61 = .ok (.areturn, 1) := dk_176 (dk_at dksX4_word_2 17 rfl rfl)
theorem dX4_word_62 : decode cX4_word 62 = .ok (.ldc 169, 2) := dk_18 169 (dk_at dksX4_word_2 18 rfl rfl)
theorem dX4_word_64 : decode cX4_word 64 = .ok (.areturn, 1) := dk_176 (dk_at dksX4_word_2 20 rfl rfl)
theorem dX4_word_65 : decode cX4_word 65 = .ok (.ldc 171, 2) := dk_18 171 (dk_at dksX4_word_2 21 rfl rfl)
theorem dX4_word_67 : decode cX4_word 67 = .ok (.areturn, 1) := dk_176 (dk_at dksX4_word_2 23 rfl rfl)
abbrev cX4_here : ByteArray := prog_19_method_59_code
def yX4_here : MethodName := ⟨RX4, "here", "()I"⟩
def dkwX4_here_1 : List UInt8 := [172]
abbrev dktX4_here_1 : List UInt8 := dkwX4_here_1 ++ []
def dkwX4_here_0 : List UInt8 := [42, 180, 0, 173, 42, 180, 0, 154, 162, 0, 15, 42, 180, 0, 25, 42, 180, 0, 173, 52, 167, 0, 4, 2]
abbrev dktX4_here_0 : List UInt8 := dkwX4_here_0 ++ dktX4_here_1
theorem dksX4_here_0 : cX4_here.data.toList.drop 0 = dktX4_here_0 := by decide +kernel
theorem dksX4_here_1 : cX4_here.data.toList.drop 24 = dktX4_here_1 := dk_seg dksX4_here_0 24 rfl rfl
theorem dX4_here_0 : decode cX4_here 0 = .ok (.aload_n 0, 1) := dk_42 (dk_at dksX4_here_0 0 rfl rfl)
theorem dX4_here_1 : decode cX4_here 1 = .ok (.getfield 173, 3) := dk_180 0 173 (dk_at dksX4_here_0 1 rfl rfl)
theorem dX4_here_4 : decode cX4_here 4 = .ok (.aload_n 0, 1) := dk_42 (dk_at dksX4_here_0 4 rfl rfl)
theorem dX4_here_5 : decode cX4_here 5 = .ok (.getfield 154, 3) := dk_180 0 154 (dk_at dksX4_here_0 5 rfl rfl)
theorem dX4_here_8 : decode cX4_here 8 = .ok (.if_icmp .ge 15, 3) := dk_162 0 15 (dk_at dksX4_here_0 8 rfl rfl)
theorem dX4_here_11 : decode cX4_here 11 = .ok (.aload_n 0, 1) := dk_42 (dk_at dksX4_here_0 11 rfl rfl)
theorem dX4_here_12 : decode cX4_here 12 = .ok (.getfield 25, 3) := dk_180 0 25 (dk_at dksX4_here_0 12 rfl rfl)
theorem dX4_here_15 : decode cX4_here 15 = .ok (.aload_n 0, 1) := dk_42 (dk_at dksX4_here_0 15 rfl rfl)
theorem dX4_here_16 : decode cX4_here 16 = .ok (.getfield 173, 3) := dk_180 0 173 (dk_at dksX4_here_0 16 rfl rfl)
theorem dX4_here_19 : decode cX4_here 19 = .ok (.caload, 1) := dk_52 (dk_at dksX4_here_0 19 rfl rfl)
theorem dX4_here_20 : decode cX4_here 20 = .ok (.goto 4, 3) := dk_167 0 4 (dk_at dksX4_here_0 20 rfl rfl)
theorem dX4_here_23 : decode cX4_here 23 = .ok (.iconst (-1), 1) := dk_2 (dk_at dksX4_here_0 23 rfl rfl)
theorem dX4_here_24 : decode cX4_here 24 = .ok (.ireturn, 1) := dk_172 (dk_at dksX4_here_1 0 rfl rfl)
abbrev cX4_needsText : ByteArray := prog_19_method_61_code
def yX4_needsText : MethodName := ⟨RX4, "needsText", "(Ljava/lang/String;)V"⟩
def dkwX4_needsText_1 : List UInt8 := [167, 255, 236, 177]
abbrev dktX4_needsText_1 : List UInt8 := dkwX4_needsText_1 ++ []
def dkwX4_needsText_0 : List UInt8 := [3, 61, 28, 43, 182, 0, 182, 162, 0, 18, 42, 43, 28, 182, 0, 187, 182, 0, 191, 132, 2, 1]
abbrev dktX4_needsText_0 : List UInt8 := dkwX4_needsText_0 ++ dktX4_needsText_1
theorem dksX4_needsText_0 : cX4_needsText.data.toList.drop 0 = dktX4_needsText_0 := by decide +kernel
theorem dksX4_needsText_1 : cX4_needsText.data.toList.drop 22 = dktX4_needsText_1 := dk_seg dksX4_needsText_0 22 rfl rfl
theorem dX4_needsText_0 : decode cX4_needsText 0 = .ok (.iconst 0, 1) := dk_3 (dk_at dksX4_needsText_0 0 rfl rfl)
theorem dX4_needsText_1 : decode cX4_needsText 1 = .ok (.istore_n 2, 1) := dk_61 (dk_at dksX4_needsText_0 1 rfl rfl)
theorem dX4_needsText_2 : decode cX4_needsText 2 = .ok (.iload_n 2, 1) := dk_28 (dk_at dksX4_needsText_0 2 rfl rfl)
theorem dX4_needsText_3 : decode cX4_needsText 3 = .ok (.aload_n 1, 1) := dk_43 (dk_at dksX4_needsText_0 3 rfl rfl)
theorem dX4_needsText_4 : decode cX4_needsText 4 = .ok (.invokevirtual 182, 3) := dk_182 0 182 (dk_at dksX4_needsText_0 4 rfl rfl)
theorem dX4_needsText_7 : decode cX4_needsText 7 = .ok (.if_icmp .ge 18, 3) := dk_162 0 18 (dk_at dksX4_needsText_0 7 rfl rfl)
theorem dX4_needsText_10 : decode cX4_needsText 10 = .ok (.aload_n 0, 1) := dk_42 (dk_at dksX4_needsText_0 10 rfl rfl)
theorem dX4_needsText_11 : decode cX4_needsText 11 = .ok (.aload_n 1, 1) := dk_43 (dk_at dksX4_needsText_0 11 rfl rfl)
theorem dX4_needsText_12 : decode cX4_needsText 12 = .ok (.iload_n 2, 1) := dk_28 (dk_at dksX4_needsText_0 12 rfl rfl)
theorem dX4_needsText_13 : decode cX4_needsText 13 = .ok (.invokevirtual 187, 3) := dk_182 0 187 (dk_at dksX4_needsText_0 13 rfl rfl)
theorem dX4_needsText_16 : decode cX4_needsText 16 = .ok (.invokevirtual 191, 3) := dk_182 0 191 (dk_at dksX4_needsText_0 16 rfl rfl)
theorem dX4_needsText_19 : decode cX4_needsText 19 = .ok (.iinc 2 1, 3) := dk_132 2 1 (dk_at dksX4_needsText_0 19 rfl rfl)
theorem dX4_needsText_22 : decode cX4_needsText 22 = .ok (.goto (-20), 3) := dk_167 255 236 (dk_at dksX4_needsText_1 0 rfl rfl)
theorem dX4_needsText_25 : decode cX4_needsText 25 = .ok (.return_, 1) := dk_177 (dk_at dksX4_needsText_1 3 rfl rfl)
abbrev cX4_needs : ByteArray := prog_19_method_60_code
def yX4_needs : MethodName := ⟨RX4, "needs", "(I)V"⟩
def dkwX4_needs_1 : List UInt8 := [42, 89, 180, 0, 173, 42, 180, 0, 176, 153, 0, 7, 3, 167, 0, 4, 4, 96, 181, 0, 173, 177]
abbrev dktX4_needs_1 : List UInt8 := dkwX4_needs_1 ++ []
def dkwX4_needs_0 : List UInt8 := [42, 42, 180, 0, 176, 154, 0, 11, 42, 182, 0, 179, 27, 159, 0, 7, 4, 167, 0, 4, 3, 181, 0, 176]
abbrev dktX4_needs_0 : List UInt8 := dkwX4_needs_0 ++ dktX4_needs_1
theorem dksX4_needs_0 : cX4_needs.data.toList.drop 0 = dktX4_needs_0 := by decide +kernel
theorem dksX4_needs_1 : cX4_needs.data.toList.drop 24 = dktX4_needs_1 := dk_seg dksX4_needs_0 24 rfl rfl
theorem dX4_needs_0 : decode cX4_needs 0 = .ok (.aload_n 0, 1) := dk_42 (dk_at dksX4_needs_0 0 rfl rfl)
theorem dX4_needs_1 : decode cX4_needs 1 = .ok (.aload_n 0, 1) := dk_42 (dk_at dksX4_needs_0 1 rfl rfl)
theorem dX4_needs_2 : decode cX4_needs 2 = .ok (.getfield 176, 3) := dk_180 0 176 (dk_at dksX4_needs_0 2 rfl rfl)
theorem dX4_needs_5 : decode cX4_needs 5 = .ok (.ifCond .ne 11, 3) := dk_154 0 11 (dk_at dksX4_needs_0 5 rfl rfl)
theorem dX4_needs_8 : decode cX4_needs 8 = .ok (.aload_n 0, 1) := dk_42 (dk_at dksX4_needs_0 8 rfl rfl)
theorem dX4_needs_9 : decode cX4_needs 9 = .ok (.invokevirtual 179, 3) := dk_182 0 179 (dk_at dksX4_needs_0 9 rfl rfl)
theorem dX4_needs_12 : decode cX4_needs 12 = .ok (.iload_n 1, 1) := dk_27 (dk_at dksX4_needs_0 12 rfl rfl)
theorem dX4_needs_13 : decode cX4_needs 13 = .ok (.if_icmp .eq 7, 3) := dk_159 0 7 (dk_at dksX4_needs_0 13 rfl rfl)
theorem dX4_needs_16 : decode cX4_needs 16 = .ok (.iconst 1, 1) := dk_4 (dk_at dksX4_needs_0 16 rfl rfl)
theorem dX4_needs_17 : decode cX4_needs 17 = .ok (.goto 4, 3) := dk_167 0 4 (dk_at dksX4_needs_0 17 rfl rfl)
theorem dX4_needs_20 : decode cX4_needs 20 = .ok (.iconst 0, 1) := dk_3 (dk_at dksX4_needs_0 20 rfl rfl)
theorem dX4_needs_21 : decode cX4_needs 21 = .ok (.putfield 176, 3) := dk_181 0 176 (dk_at dksX4_needs_0 21 rfl rfl)
theorem dX4_needs_24 : decode cX4_needs 24 = .ok (.aload_n 0, 1) := dk_42 (dk_at dksX4_needs_1 0 rfl rfl)
theorem dX4_needs_25 : decode cX4_needs 25 = .ok (.dup, 1) := dk_89 (dk_at dksX4_needs_1 1 rfl rfl)
theorem dX4_needs_26 : decode cX4_needs 26 = .ok (.getfield 173, 3) := dk_180 0 173 (dk_at dksX4_needs_1 2 rfl rfl)
theorem dX4_needs_29 : decode cX4_needs 29 = .ok (.aload_n 0, 1) := dk_42 (dk_at dksX4_needs_1 5 rfl rfl)
theorem dX4_needs_30 : decode cX4_needs 30 = .ok (.getfield 176, 3) := dk_180 0 176 (dk_at dksX4_needs_1 6 rfl rfl)
theorem dX4_needs_33 : decode cX4_needs 33 = .ok (.ifCond .eq 7, 3) := dk_153 0 7 (dk_at dksX4_needs_1 9 rfl rfl)
theorem dX4_needs_36 : decode cX4_needs 36 = .ok (.iconst 0, 1) := dk_3 (dk_at dksX4_needs_1 12 rfl rfl)
theorem dX4_needs_37 : decode cX4_needs 37 = .ok (.goto 4, 3) := dk_167 0 4 (dk_at dksX4_needs_1 13 rfl rfl)
theorem dX4_needs_40 : decode cX4_needs 40 = .ok (.iconst 1, 1) := dk_4 (dk_at dksX4_needs_1 16 rfl rfl)
theorem dX4_needs_41 : decode cX4_needs 41 = .ok (.iadd, 1) := dk_96 (dk_at dksX4_needs_1 17 rfl rfl)
theorem dX4_needs_42 : decode cX4_needs 42 = .ok (.putfield 173, 3) := dk_181 0 173 (dk_at dksX4_needs_1 18 rfl rfl)
theorem dX4_needs_45 : decode cX4_needs 45 = .ok (.return_, 1) := dk_177 (dk_at dksX4_needs_1 21 rfl rfl)
abbrev cX4_number : ByteArray := prog_19_method_65_code
def yX4_number : MethodName := ⟨RX4, "number", "()I"⟩
def dkwX4_number_1 : List UInt8 := [153, 0, 15, 16, 10, 27, 104, 42, 182, 0, 205, 96, 167, 0, 4, 27, 172]
abbrev dktX4_number_1 : List UInt8 := dkwX4_number_1 ++ []
def dkwX4_number_0 : List UInt8 := [42, 182, 0, 205, 60, 42, 180, 0, 176, 154, 0, 29, 42, 182, 0, 179, 16, 48, 16, 57, 184, 0, 60]
abbrev dktX4_number_0 : List UInt8 := dkwX4_number_0 ++ dktX4_number_1
theorem dksX4_number_0 : cX4_number.data.toList.drop 0 = dktX4_number_0 := by decide +kernel
theorem dksX4_number_1 : cX4_number.data.toList.drop 23 = dktX4_number_1 := dk_seg dksX4_number_0 23 rfl rfl
theorem dX4_number_0 : decode cX4_number 0 = .ok (.aload_n 0, 1) := dk_42 (dk_at dksX4_number_0 0 rfl rfl)
theorem dX4_number_1 : decode cX4_number 1 = .ok (.invokevirtual 205, 3) := dk_182 0 205 (dk_at dksX4_number_0 1 rfl rfl)
theorem dX4_number_4 : decode cX4_number 4 = .ok (.istore_n 1, 1) := dk_60 (dk_at dksX4_number_0 4 rfl rfl)
theorem dX4_number_5 : decode cX4_number 5 = .ok (.aload_n 0, 1) := dk_42 (dk_at dksX4_number_0 5 rfl rfl)
theorem dX4_number_6 : decode cX4_number 6 = .ok (.getfield 176, 3) := dk_180 0 176 (dk_at dksX4_number_0 6 rfl rfl)
theorem dX4_number_9 : decode cX4_number 9 = .ok (.ifCond .ne 29, 3) := dk_154 0 29 (dk_at dksX4_number_0 9 rfl rfl)
theorem dX4_number_12 : decode cX4_number 12 = .ok (.aload_n 0, 1) := dk_42 (dk_at dksX4_number_0 12 rfl rfl)
theorem dX4_number_13 : decode cX4_number 13 = .ok (.invokevirtual 179, 3) := dk_182 0 179 (dk_at dksX4_number_0 13 rfl rfl)
theorem dX4_number_16 : decode cX4_number 16 = .ok (.bipush 48, 2) := dk_16 48 (dk_at dksX4_number_0 16 rfl rfl)
theorem dX4_number_18 : decode cX4_number 18 = .ok (.bipush 57, 2) := dk_16 57 (dk_at dksX4_number_0 18 rfl rfl)
theorem dX4_number_20 : decode cX4_number 20 = .ok (.invokestatic 60, 3) := dk_184 0 60 (dk_at dksX4_number_0 20 rfl rfl)
theorem dX4_number_23 : decode cX4_number 23 = .ok (.ifCond .eq 15, 3) := dk_153 0 15 (dk_at dksX4_number_1 0 rfl rfl)
theorem dX4_number_26 : decode cX4_number 26 = .ok (.bipush 10, 2) := dk_16 10 (dk_at dksX4_number_1 3 rfl rfl)
theorem dX4_number_28 : decode cX4_number 28 = .ok (.iload_n 1, 1) := dk_27 (dk_at dksX4_number_1 5 rfl rfl)
theorem dX4_number_29 : decode cX4_number 29 = .ok (.imul, 1) := dk_104 (dk_at dksX4_number_1 6 rfl rfl)
theorem dX4_number_30 : decode cX4_number 30 = .ok (.aload_n 0, 1) := dk_42 (dk_at dksX4_number_1 7 rfl rfl)
theorem dX4_number_31 : decode cX4_number 31 = .ok (.invokevirtual 205, 3) := dk_182 0 205 (dk_at dksX4_number_1 8 rfl rfl)
theorem dX4_number_34 : decode cX4_number 34 = .ok (.iadd, 1) := dk_96 (dk_at dksX4_number_1 11 rfl rfl)
theorem dX4_number_35 : decode cX4_number 35 = .ok (.goto 4, 3) := dk_167 0 4 (dk_at dksX4_number_1 12 rfl rfl)
theorem dX4_number_38 : decode cX4_number 38 = .ok (.iload_n 1, 1) := dk_27 (dk_at dksX4_number_1 15 rfl rfl)
theorem dX4_number_39 : decode cX4_number 39 = .ok (.ireturn, 1) := dk_172 (dk_at dksX4_number_1 16 rfl rfl)
abbrev cX4_digit : ByteArray := prog_19_method_64_code
def yX4_digit : MethodName := ⟨RX4, "digit", "()I"⟩
def dkwX4_digit_3 : List UInt8 := [172]
abbrev dktX4_digit_3 : List UInt8 := dkwX4_digit_3 ++ []
def dkwX4_digit_2 : List UInt8 := [100, 60, 42, 89, 180, 0, 173, 42, 180, 0, 176, 153, 0, 7, 3, 167, 0, 4, 4, 96, 181, 0, 173, 27]
abbrev dktX4_digit_2 : List UInt8 := dkwX4_digit_2 ++ dktX4_digit_3
def dkwX4_digit_1 : List UInt8 := [167, 0, 4, 3, 181, 0, 176, 42, 180, 0, 176, 153, 0, 7, 3, 167, 0, 10, 42, 182, 0, 179, 16, 48]
abbrev dktX4_digit_1 : List UInt8 := dkwX4_digit_1 ++ dktX4_digit_2
def dkwX4_digit_0 : List UInt8 := [42, 42, 180, 0, 176, 154, 0, 17, 42, 182, 0, 179, 16, 48, 16, 57, 184, 0, 60, 154, 0, 7, 4]
abbrev dktX4_digit_0 : List UInt8 := dkwX4_digit_0 ++ dktX4_digit_1
theorem dksX4_digit_0 : cX4_digit.data.toList.drop 0 = dktX4_digit_0 := by decide +kernel
theorem dksX4_digit_1 : cX4_digit.data.toList.drop 23 = dktX4_digit_1 := dk_seg dksX4_digit_0 23 rfl rfl
theorem dksX4_digit_2 : cX4_digit.data.toList.drop 47 = dktX4_digit_2 := dk_seg dksX4_digit_1 24 rfl rfl
theorem dksX4_digit_3 : cX4_digit.data.toList.drop 71 = dktX4_digit_3 := dk_seg dksX4_digit_2 24 rfl rfl
theorem dX4_digit_0 : decode cX4_digit 0 = .ok (.aload_n 0, 1) := dk_42 (dk_at dksX4_digit_0 0 rfl rfl)
theorem dX4_digit_1 : decode cX4_digit 1 = .ok (.aload_n 0, 1) := dk_42 (dk_at dksX4_digit_0 1 rfl rfl)
theorem dX4_digit_2 : decode cX4_digit 2 = .ok (.getfield 176, 3) := dk_180 0 176 (dk_at dksX4_digit_0 2 rfl rfl)
theorem dX4_digit_5 : decode cX4_digit 5 = .ok (.ifCond .ne 17, 3) := dk_154 0 17 (dk_at dksX4_digit_0 5 rfl rfl)
theorem dX4_digit_8 : decode cX4_digit 8 = .ok (.aload_n 0, 1) := dk_42 (dk_at dksX4_digit_0 8 rfl rfl)
theorem dX4_digit_9 : decode cX4_digit 9 = .ok (.invokevirtual 179, 3) := dk_182 0 179 (dk_at dksX4_digit_0 9 rfl rfl)
theorem dX4_digit_12 : decode cX4_digit 12 = .ok (.bipush 48, 2) := dk_16 48 (dk_at dksX4_digit_0 12 rfl rfl)
theorem dX4_digit_14 : decode cX4_digit 14 = .ok (.bipush 57, 2) := dk_16 57 (dk_at dksX4_digit_0 14 rfl rfl)
theorem dX4_digit_16 : decode cX4_digit 16 = .ok (.invokestatic 60, 3) := dk_184 0 60 (dk_at dksX4_digit_0 16 rfl rfl)
theorem dX4_digit_19 : decode cX4_digit 19 = .ok (.ifCond .ne 7, 3) := dk_154 0 7 (dk_at dksX4_digit_0 19 rfl rfl)
theorem dX4_digit_22 : decode cX4_digit 22 = .ok (.iconst 1, 1) := dk_4 (dk_at dksX4_digit_0 22 rfl rfl)
theorem dX4_digit_23 : decode cX4_digit 23 = .ok (.goto 4, 3) := dk_167 0 4 (dk_at dksX4_digit_1 0 rfl rfl)
theorem dX4_digit_26 : decode cX4_digit 26 = .ok (.iconst 0, 1) := dk_3 (dk_at dksX4_digit_1 3 rfl rfl)
theorem dX4_digit_27 : decode cX4_digit 27 = .ok (.putfield 176, 3) := dk_181 0 176 (dk_at dksX4_digit_1 4 rfl rfl)
theorem dX4_digit_30 : decode cX4_digit 30 = .ok (.aload_n 0, 1) := dk_42 (dk_at dksX4_digit_1 7 rfl rfl)
theorem dX4_digit_31 : decode cX4_digit 31 = .ok (.getfield 176, 3) := dk_180 0 176 (dk_at dksX4_digit_1 8 rfl rfl)
theorem dX4_digit_34 : decode cX4_digit 34 = .ok (.ifCond .eq 7, 3) := dk_153 0 7 (dk_at dksX4_digit_1 11 rfl rfl)
theorem dX4_digit_37 : decode cX4_digit 37 = .ok (.iconst 0, 1) := dk_3 (dk_at dksX4_digit_1 14 rfl rfl)
theorem dX4_digit_38 : decode cX4_digit 38 = .ok (.goto 10, 3) := dk_167 0 10 (dk_at dksX4_digit_1 15 rfl rfl)
theorem dX4_digit_41 : decode cX4_digit 41 = .ok (.aload_n 0, 1) := dk_42 (dk_at dksX4_digit_1 18 rfl rfl)
theorem dX4_digit_42 : decode cX4_digit 42 = .ok (.invokevirtual 179, 3) := dk_182 0 179 (dk_at dksX4_digit_1 19 rfl rfl)
theorem dX4_digit_45 : decode cX4_digit 45 = .ok (.bipush 48, 2) := dk_16 48 (dk_at dksX4_digit_1 22 rfl rfl)
theorem dX4_digit_47 : decode cX4_digit 47 = .ok (.isub, 1) := dk_100 (dk_at dksX4_digit_2 0 rfl rfl)
theorem dX4_digit_48 : decode cX4_digit 48 = .ok (.istore_n 1, 1) := dk_60 (dk_at dksX4_digit_2 1 rfl rfl)
theorem dX4_digit_49 : decode cX4_digit 49 = .ok (.aload_n 0, 1) := dk_42 (dk_at dksX4_digit_2 2 rfl rfl)
theorem dX4_digit_50 : decode cX4_digit 50 = .ok (.dup, 1) := dk_89 (dk_at dksX4_digit_2 3 rfl rfl)
theorem dX4_digit_51 : decode cX4_digit 51 = .ok (.getfield 173, 3) := dk_180 0 173 (dk_at dksX4_digit_2 4 rfl rfl)
theorem dX4_digit_54 : decode cX4_digit 54 = .ok (.aload_n 0, 1) := dk_42 (dk_at dksX4_digit_2 7 rfl rfl)
theorem dX4_digit_55 : decode cX4_digit 55 = .ok (.getfield 176, 3) := dk_180 0 176 (dk_at dksX4_digit_2 8 rfl rfl)
theorem dX4_digit_58 : decode cX4_digit 58 = .ok (.ifCond .eq 7, 3) := dk_153 0 7 (dk_at dksX4_digit_2 11 rfl rfl)
theorem dX4_digit_61 : decode cX4_digit 61 = .ok (.iconst 0, 1) := dk_3 (dk_at dksX4_digit_2 14 rfl rfl)
theorem dX4_digit_62 : decode cX4_digit 62 = .ok (.goto 4, 3) := dk_167 0 4 (dk_at dksX4_digit_2 15 rfl rfl)
theorem dX4_digit_65 : decode cX4_digit 65 = .ok (.iconst 1, 1) := dk_4 (dk_at dksX4_digit_2 18 rfl rfl)
theorem dX4_digit_66 : decode cX4_digit 66 = .ok (.iadd, 1) := dk_96 (dk_at dksX4_digit_2 19 rfl rfl)
theorem dX4_digit_67 : decode cX4_digit 67 = .ok (.putfield 173, 3) := dk_181 0 173 (dk_at dksX4_digit_2 20 rfl rfl)
theorem dX4_digit_70 : decode cX4_digit 70 = .ok (.iload_n 1, 1) := dk_27 (dk_at dksX4_digit_2 23 rfl rfl)
theorem dX4_digit_71 : decode cX4_digit 71 = .ok (.ireturn, 1) := dk_172 (dk_at dksX4_digit_3 0 rfl rfl)
abbrev cX4_baitRead : ByteArray := prog_19_method_66_code
def yX4_baitRead : MethodName := ⟨RX4, "baitRead", "()I"⟩
def dkwX4_baitRead_2 : List UInt8 := [160, 0, 7, 5, 167, 0, 4, 3, 172]
abbrev dktX4_baitRead_2 : List UInt8 := dkwX4_baitRead_2 ++ []
def dkwX4_baitRead_1 : List UInt8 := [18, 210, 167, 0, 5, 18, 212, 182, 0, 201, 27, 16, 102, 160, 0, 7, 4, 167, 0, 14, 27, 16, 109]
abbrev dktX4_baitRead_1 : List UInt8 := dkwX4_baitRead_1 ++ dktX4_baitRead_2
def dkwX4_baitRead_0 : List UInt8 := [42, 182, 0, 179, 60, 42, 27, 16, 102, 160, 0, 8, 18, 208, 167, 0, 16, 27, 16, 109, 160, 0, 8]
abbrev dktX4_baitRead_0 : List UInt8 := dkwX4_baitRead_0 ++ dktX4_baitRead_1
theorem dksX4_baitRead_0 : cX4_baitRead.data.toList.drop 0 = dktX4_baitRead_0 := by decide +kernel
theorem dksX4_baitRead_1 : cX4_baitRead.data.toList.drop 23 = dktX4_baitRead_1 := dk_seg dksX4_baitRead_0 23 rfl rfl
theorem dksX4_baitRead_2 : cX4_baitRead.data.toList.drop 46 = dktX4_baitRead_2 := dk_seg dksX4_baitRead_1 23 rfl rfl
theorem dX4_baitRead_0 : decode cX4_baitRead 0 = .ok (.aload_n 0, 1) := dk_42 (dk_at dksX4_baitRead_0 0 rfl rfl)
theorem dX4_baitRead_1 : decode cX4_baitRead 1 = .ok (.invokevirtual 179, 3) := dk_182 0 179 (dk_at dksX4_baitRead_0 1 rfl rfl)
theorem dX4_baitRead_4 : decode cX4_baitRead 4 = .ok (.istore_n 1, 1) := dk_60 (dk_at dksX4_baitRead_0 4 rfl rfl)
theorem dX4_baitRead_5 : decode cX4_baitRead 5 = .ok (.aload_n 0, 1) := dk_42 (dk_at dksX4_baitRead_0 5 rfl rfl)
theorem dX4_baitRead_6 : decode cX4_baitRead 6 = .ok (.iload_n 1, 1) := dk_27 (dk_at dksX4_baitRead_0 6 rfl rfl)
theorem dX4_baitRead_7 : decode cX4_baitRead 7 = .ok (.bipush 102, 2) := dk_16 102 (dk_at dksX4_baitRead_0 7 rfl rfl)
theorem dX4_baitRead_9 : decode cX4_baitRead 9 = .ok (.if_icmp .ne 8, 3) := dk_160 0 8 (dk_at dksX4_baitRead_0 9 rfl rfl)
theorem dX4_baitRead_12 : decode cX4_baitRead 12 = .ok (.ldc 208, 2) := dk_18 208 (dk_at dksX4_baitRead_0 12 rfl rfl)
theorem dX4_baitRead_14 : decode cX4_baitRead 14 = .ok (.goto 16, 3) := dk_167 0 16 (dk_at dksX4_baitRead_0 14 rfl rfl)
theorem dX4_baitRead_17 : decode cX4_baitRead 17 = .ok (.iload_n 1, 1) := dk_27 (dk_at dksX4_baitRead_0 17 rfl rfl)
theorem dX4_baitRead_18 : decode cX4_baitRead 18 = .ok (.bipush 109, 2) := dk_16 109 (dk_at dksX4_baitRead_0 18 rfl rfl)
theorem dX4_baitRead_20 : decode cX4_baitRead 20 = .ok (.if_icmp .ne 8, 3) := dk_160 0 8 (dk_at dksX4_baitRead_0 20 rfl rfl)
theorem dX4_baitRead_23 : decode cX4_baitRead 23 = .ok (.ldc 210, 2) := dk_18 210 (dk_at dksX4_baitRead_1 0 rfl rfl)
theorem dX4_baitRead_25 : decode cX4_baitRead 25 = .ok (.goto 5, 3) := dk_167 0 5 (dk_at dksX4_baitRead_1 2 rfl rfl)
theorem dX4_baitRead_28 : decode cX4_baitRead 28 = .ok (.ldc 212, 2) := dk_18 212 (dk_at dksX4_baitRead_1 5 rfl rfl)
theorem dX4_baitRead_30 : decode cX4_baitRead 30 = .ok (.invokevirtual 201, 3) := dk_182 0 201 (dk_at dksX4_baitRead_1 7 rfl rfl)
theorem dX4_baitRead_33 : decode cX4_baitRead 33 = .ok (.iload_n 1, 1) := dk_27 (dk_at dksX4_baitRead_1 10 rfl rfl)
theorem dX4_baitRead_34 : decode cX4_baitRead 34 = .ok (.bipush 102, 2) := dk_16 102 (dk_at dksX4_baitRead_1 11 rfl rfl)
theorem dX4_baitRead_36 : decode cX4_baitRead 36 = .ok (.if_icmp .ne 7, 3) := dk_160 0 7 (dk_at dksX4_baitRead_1 13 rfl rfl)
theorem dX4_baitRead_39 : decode cX4_baitRead 39 = .ok (.iconst 1, 1) := dk_4 (dk_at dksX4_baitRead_1 16 rfl rfl)
theorem dX4_baitRead_40 : decode cX4_baitRead 40 = .ok (.goto 14, 3) := dk_167 0 14 (dk_at dksX4_baitRead_1 17 rfl rfl)
theorem dX4_baitRead_43 : decode cX4_baitRead 43 = .ok (.iload_n 1, 1) := dk_27 (dk_at dksX4_baitRead_1 20 rfl rfl)
theorem dX4_baitRead_44 : decode cX4_baitRead 44 = .ok (.bipush 109, 2) := dk_16 109 (dk_at dksX4_baitRead_1 21 rfl rfl)
theorem dX4_baitRead_46 : decode cX4_baitRead 46 = .ok (.if_icmp .ne 7, 3) := dk_160 0 7 (dk_at dksX4_baitRead_2 0 rfl rfl)
theorem dX4_baitRead_49 : decode cX4_baitRead 49 = .ok (.iconst 2, 1) := dk_5 (dk_at dksX4_baitRead_2 3 rfl rfl)
theorem dX4_baitRead_50 : decode cX4_baitRead 50 = .ok (.goto 4, 3) := dk_167 0 4 (dk_at dksX4_baitRead_2 4 rfl rfl)
theorem dX4_baitRead_53 : decode cX4_baitRead 53 = .ok (.iconst 0, 1) := dk_3 (dk_at dksX4_baitRead_2 7 rfl rfl)
theorem dX4_baitRead_54 : decode cX4_baitRead 54 = .ok (.ireturn, 1) := dk_172 (dk_at dksX4_baitRead_2 8 rfl rfl)
abbrev cX4_does : ByteArray := prog_19_method_69_code
def yX4_does : MethodName := ⟨RX4, "does", "(I)I"⟩
def dkwX4_does_5 : List UInt8 := [42, 28, 182, 0, 138, 172, 42, 28, 182, 0, 148, 172]
abbrev dktX4_does_5 : List UInt8 := dkwX4_does_5 ++ []
def dkwX4_does_4 : List UInt8 := [180, 0, 39, 27, 5, 96, 46, 28, 182, 0, 116, 172, 42, 28, 182, 0, 122, 172, 42, 28, 182, 0, 135, 172]
abbrev dktX4_does_4 : List UInt8 := dkwX4_does_4 ++ dktX4_does_5
def dkwX4_does_3 : List UInt8 := [180, 0, 39, 27, 5, 96, 46, 28, 42, 180, 0, 39, 27, 6, 96, 46, 182, 0, 107, 172, 42, 42]
abbrev dktX4_does_3 : List UInt8 := dkwX4_does_3 ++ dktX4_does_4
def dkwX4_does_2 : List UInt8 := [42, 28, 42, 180, 0, 39, 27, 5, 96, 46, 182, 0, 101, 172, 42, 28, 182, 0, 104, 172, 42, 42]
abbrev dktX4_does_2 : List UInt8 := dkwX4_does_2 ++ dktX4_does_3
def dkwX4_does_1 : List UInt8 := [170, 0, 0, 0, 115, 0, 0, 0, 0, 0, 0, 0, 6, 0, 0, 0, 41, 0, 0, 0, 55, 0, 0, 0, 61, 0, 0, 0, 83, 0, 0, 0, 97, 0, 0, 0, 103, 0, 0, 0, 109]
abbrev dktX4_does_1 : List UInt8 := dkwX4_does_1 ++ dktX4_does_2
def dkwX4_does_0 : List UInt8 := [42, 180, 0, 39, 27, 4, 96, 46, 61, 42, 180, 0, 39, 27, 46]
abbrev dktX4_does_0 : List UInt8 := dkwX4_does_0 ++ dktX4_does_1
theorem dksX4_does_0 : cX4_does.data.toList.drop 0 = dktX4_does_0 := by decide +kernel
theorem dksX4_does_1 : cX4_does.data.toList.drop 15 = dktX4_does_1 := dk_seg dksX4_does_0 15 rfl rfl
theorem dksX4_does_2 : cX4_does.data.toList.drop 56 = dktX4_does_2 := dk_seg dksX4_does_1 41 rfl rfl
theorem dksX4_does_3 : cX4_does.data.toList.drop 78 = dktX4_does_3 := dk_seg dksX4_does_2 22 rfl rfl
theorem dksX4_does_4 : cX4_does.data.toList.drop 100 = dktX4_does_4 := dk_seg dksX4_does_3 22 rfl rfl
theorem dksX4_does_5 : cX4_does.data.toList.drop 124 = dktX4_does_5 := dk_seg dksX4_does_4 24 rfl rfl
theorem dX4_does_0 : decode cX4_does 0 = .ok (.aload_n 0, 1) := dk_42 (dk_at dksX4_does_0 0 rfl rfl)
theorem dX4_does_1 : decode cX4_does 1 = .ok (.getfield 39, 3) := dk_180 0 39 (dk_at dksX4_does_0 1 rfl rfl)
theorem dX4_does_4 : decode cX4_does 4 = .ok (.iload_n 1, 1) := dk_27 (dk_at dksX4_does_0 4 rfl rfl)
theorem dX4_does_5 : decode cX4_does 5 = .ok (.iconst 1, 1) := dk_4 (dk_at dksX4_does_0 5 rfl rfl)
theorem dX4_does_6 : decode cX4_does 6 = .ok (.iadd, 1) := dk_96 (dk_at dksX4_does_0 6 rfl rfl)
theorem dX4_does_7 : decode cX4_does 7 = .ok (.iaload, 1) := dk_46 (dk_at dksX4_does_0 7 rfl rfl)
theorem dX4_does_8 : decode cX4_does 8 = .ok (.istore_n 2, 1) := dk_61 (dk_at dksX4_does_0 8 rfl rfl)
theorem dX4_does_9 : decode cX4_does 9 = .ok (.aload_n 0, 1) := dk_42 (dk_at dksX4_does_0 9 rfl rfl)
theorem dX4_does_10 : decode cX4_does 10 = .ok (.getfield 39, 3) := dk_180 0 39 (dk_at dksX4_does_0 10 rfl rfl)
theorem dX4_does_13 : decode cX4_does 13 = .ok (.iload_n 1, 1) := dk_27 (dk_at dksX4_does_0 13 rfl rfl)
theorem dX4_does_14 : decode cX4_does 14 = .ok (.iaload, 1) := dk_46 (dk_at dksX4_does_0 14 rfl rfl)
theorem dX4_does_15 : decode cX4_does 15 = .ok (.tableswitch 115 0 6 #[41, 55, 61, 83, 97, 103, 109], 41) := by decide +kernel
theorem dX4_does_56 : decode cX4_does 56 = .ok (.aload_n 0, 1) := dk_42 (dk_at dksX4_does_2 0 rfl rfl)
theorem dX4_does_57 : decode cX4_does 57 = .ok (.iload_n 2, 1) := dk_28 (dk_at dksX4_does_2 1 rfl rfl)
theorem dX4_does_58 : decode cX4_does 58 = .ok (.aload_n 0, 1) := dk_42 (dk_at dksX4_does_2 2 rfl rfl)
theorem dX4_does_59 : decode cX4_does 59 = .ok (.getfield 39, 3) := dk_180 0 39 (dk_at dksX4_does_2 3 rfl rfl)
theorem dX4_does_62 : decode cX4_does 62 = .ok (.iload_n 1, 1) := dk_27 (dk_at dksX4_does_2 6 rfl rfl)
theorem dX4_does_63 : decode cX4_does 63 = .ok (.iconst 2, 1) := dk_5 (dk_at dksX4_does_2 7 rfl rfl)
theorem dX4_does_64 : decode cX4_does 64 = .ok (.iadd, 1) := dk_96 (dk_at dksX4_does_2 8 rfl rfl)
theorem dX4_does_65 : decode cX4_does 65 = .ok (.iaload, 1) := dk_46 (dk_at dksX4_does_2 9 rfl rfl)
theorem dX4_does_66 : decode cX4_does 66 = .ok (.invokevirtual 101, 3) := dk_182 0 101 (dk_at dksX4_does_2 10 rfl rfl)
theorem dX4_does_69 : decode cX4_does 69 = .ok (.ireturn, 1) := dk_172 (dk_at dksX4_does_2 13 rfl rfl)
theorem dX4_does_70 : decode cX4_does 70 = .ok (.aload_n 0, 1) := dk_42 (dk_at dksX4_does_2 14 rfl rfl)
theorem dX4_does_71 : decode cX4_does 71 = .ok (.iload_n 2, 1) := dk_28 (dk_at dksX4_does_2 15 rfl rfl)
theorem dX4_does_72 : decode cX4_does 72 = .ok (.invokevirtual 104, 3) := dk_182 0 104 (dk_at dksX4_does_2 16 rfl rfl)
theorem dX4_does_75 : decode cX4_does 75 = .ok (.ireturn, 1) := dk_172 (dk_at dksX4_does_2 19 rfl rfl)
theorem dX4_does_76 : decode cX4_does 76 = .ok (.aload_n 0, 1) := dk_42 (dk_at dksX4_does_2 20 rfl rfl)
theorem dX4_does_77 : decode cX4_does 77 = .ok (.aload_n 0, 1) := dk_42 (dk_at dksX4_does_2 21 rfl rfl)
theorem dX4_does_78 : decode cX4_does 78 = .ok (.getfield 39, 3) := dk_180 0 39 (dk_at dksX4_does_3 0 rfl rfl)
theorem dX4_does_81 : decode cX4_does 81 = .ok (.iload_n 1, 1) := dk_27 (dk_at dksX4_does_3 3 rfl rfl)
theorem dX4_does_82 : decode cX4_does 82 = .ok (.iconst 2, 1) := dk_5 (dk_at dksX4_does_3 4 rfl rfl)
theorem dX4_does_83 : decode cX4_does 83 = .ok (.iadd, 1) := dk_96 (dk_at dksX4_does_3 5 rfl rfl)
theorem dX4_does_84 : decode cX4_does 84 = .ok (.iaload, 1) := dk_46 (dk_at dksX4_does_3 6 rfl rfl)
theorem dX4_does_85 : decode cX4_does 85 = .ok (.iload_n 2, 1) := dk_28 (dk_at dksX4_does_3 7 rfl rfl)
theorem dX4_does_86 : decode cX4_does 86 = .ok (.aload_n 0, 1) := dk_42 (dk_at dksX4_does_3 8 rfl rfl)
theorem dX4_does_87 : decode cX4_does 87 = .ok (.getfield 39, 3) := dk_180 0 39 (dk_at dksX4_does_3 9 rfl rfl)
theorem dX4_does_90 : decode cX4_does 90 = .ok (.iload_n 1, 1) := dk_27 (dk_at dksX4_does_3 12 rfl rfl)
theorem dX4_does_91 : decode cX4_does 91 = .ok (.iconst 3, 1) := dk_6 (dk_at dksX4_does_3 13 rfl rfl)
theorem dX4_does_92 : decode cX4_does 92 = .ok (.iadd, 1) := dk_96 (dk_at dksX4_does_3 14 rfl rfl)
theorem dX4_does_93 : decode cX4_does 93 = .ok (.iaload, 1) := dk_46 (dk_at dksX4_does_3 15 rfl rfl)
theorem dX4_does_94 : decode cX4_does 94 = .ok (.invokevirtual 107, 3) := dk_182 0 107 (dk_at dksX4_does_3 16 rfl rfl)
theorem dX4_does_97 : decode cX4_does 97 = .ok (.ireturn, 1) := dk_172 (dk_at dksX4_does_3 19 rfl rfl)
theorem dX4_does_98 : decode cX4_does 98 = .ok (.aload_n 0, 1) := dk_42 (dk_at dksX4_does_3 20 rfl rfl)
theorem dX4_does_99 : decode cX4_does 99 = .ok (.aload_n 0, 1) := dk_42 (dk_at dksX4_does_3 21 rfl rfl)
theorem dX4_does_100 : decode cX4_does 100 = .ok (.getfield 39, 3) := dk_180 0 39 (dk_at dksX4_does_4 0 rfl rfl)
theorem dX4_does_103 : decode cX4_does 103 = .ok (.iload_n 1, 1) := dk_27 (dk_at dksX4_does_4 3 rfl rfl)
theorem dX4_does_104 : decode cX4_does 104 = .ok (.iconst 2, 1) := dk_5 (dk_at dksX4_does_4 4 rfl rfl)
theorem dX4_does_105 : decode cX4_does 105 = .ok (.iadd, 1) := dk_96 (dk_at dksX4_does_4 5 rfl rfl)
theorem dX4_does_106 : decode cX4_does 106 = .ok (.iaload, 1) := dk_46 (dk_at dksX4_does_4 6 rfl rfl)
theorem dX4_does_107 : decode cX4_does 107 = .ok (.iload_n 2, 1) := dk_28 (dk_at dksX4_does_4 7 rfl rfl)
theorem dX4_does_108 : decode cX4_does 108 = .ok (.invokevirtual 116, 3) := dk_182 0 116 (dk_at dksX4_does_4 8 rfl rfl)
theorem dX4_does_111 : decode cX4_does 111 = .ok (.ireturn, 1) := dk_172 (dk_at dksX4_does_4 11 rfl rfl)
theorem dX4_does_112 : decode cX4_does 112 = .ok (.aload_n 0, 1) := dk_42 (dk_at dksX4_does_4 12 rfl rfl)
theorem dX4_does_113 : decode cX4_does 113 = .ok (.iload_n 2, 1) := dk_28 (dk_at dksX4_does_4 13 rfl rfl)
theorem dX4_does_114 : decode cX4_does 114 = .ok (.invokevirtual 122, 3) := dk_182 0 122 (dk_at dksX4_does_4 14 rfl rfl)
theorem dX4_does_117 : decode cX4_does 117 = .ok (.ireturn, 1) := dk_172 (dk_at dksX4_does_4 17 rfl rfl)
theorem dX4_does_118 : decode cX4_does 118 = .ok (.aload_n 0, 1) := dk_42 (dk_at dksX4_does_4 18 rfl rfl)
theorem dX4_does_119 : decode cX4_does 119 = .ok (.iload_n 2, 1) := dk_28 (dk_at dksX4_does_4 19 rfl rfl)
theorem dX4_does_120 : decode cX4_does 120 = .ok (.invokevirtual 135, 3) := dk_182 0 135 (dk_at dksX4_does_4 20 rfl rfl)
theorem dX4_does_123 : decode cX4_does 123 = .ok (.ireturn, 1) := dk_172 (dk_at dksX4_does_4 23 rfl rfl)
theorem dX4_does_124 : decode cX4_does 124 = .ok (.aload_n 0, 1) := dk_42 (dk_at dksX4_does_5 0 rfl rfl)
theorem dX4_does_125 : decode cX4_does 125 = .ok (.iload_n 2, 1) := dk_28 (dk_at dksX4_does_5 1 rfl rfl)
theorem dX4_does_126 : decode cX4_does 126 = .ok (.invokevirtual 138, 3) := dk_182 0 138 (dk_at dksX4_does_5 2 rfl rfl)
theorem dX4_does_129 : decode cX4_does 129 = .ok (.ireturn, 1) := dk_172 (dk_at dksX4_does_5 5 rfl rfl)
theorem dX4_does_130 : decode cX4_does 130 = .ok (.aload_n 0, 1) := dk_42 (dk_at dksX4_does_5 6 rfl rfl)
theorem dX4_does_131 : decode cX4_does 131 = .ok (.iload_n 2, 1) := dk_28 (dk_at dksX4_does_5 7 rfl rfl)
theorem dX4_does_132 : decode cX4_does 132 = .ok (.invokevirtual 148, 3) := dk_182 0 148 (dk_at dksX4_does_5 8 rfl rfl)
theorem dX4_does_135 : decode cX4_does 135 = .ok (.ireturn, 1) := dk_172 (dk_at dksX4_does_5 11 rfl rfl)
abbrev cX4_refusedOrder : ByteArray := prog_19_method_70_code
def yX4_refusedOrder : MethodName := ⟨RX4, "refusedOrder", "(I)V"⟩
def dkwX4_refusedOrder_2 : List UInt8 := [180, 0, 33, 5, 16, 12, 79, 42, 180, 0, 33, 3, 16, 11, 79, 42, 180, 0, 33, 4, 27, 79, 177]
abbrev dktX4_refusedOrder_2 : List UInt8 := dkwX4_refusedOrder_2 ++ []
def dkwX4_refusedOrder_1 : List UInt8 := [5, 100, 46, 167, 0, 4, 3, 79, 132, 2, 255, 167, 255, 223, 42, 180, 0, 45, 154, 0, 11, 42]
abbrev dktX4_refusedOrder_1 : List UInt8 := dkwX4_refusedOrder_1 ++ dktX4_refusedOrder_2
def dkwX4_refusedOrder_0 : List UInt8 := [8, 61, 28, 5, 161, 0, 34, 42, 180, 0, 33, 28, 42, 180, 0, 45, 153, 0, 14, 42, 180, 0, 33, 28]
abbrev dktX4_refusedOrder_0 : List UInt8 := dkwX4_refusedOrder_0 ++ dktX4_refusedOrder_1
theorem dksX4_refusedOrder_0 : cX4_refusedOrder.data.toList.drop 0 = dktX4_refusedOrder_0 := by decide +kernel
theorem dksX4_refusedOrder_1 : cX4_refusedOrder.data.toList.drop 24 = dktX4_refusedOrder_1 := dk_seg dksX4_refusedOrder_0 24 rfl rfl
theorem dksX4_refusedOrder_2 : cX4_refusedOrder.data.toList.drop 46 = dktX4_refusedOrder_2 := dk_seg dksX4_refusedOrder_1 22 rfl rfl
theorem dX4_refusedOrder_0 : decode cX4_refusedOrder 0 = .ok (.iconst 5, 1) := dk_8 (dk_at dksX4_refusedOrder_0 0 rfl rfl)
theorem dX4_refusedOrder_1 : decode cX4_refusedOrder 1 = .ok (.istore_n 2, 1) := dk_61 (dk_at dksX4_refusedOrder_0 1 rfl rfl)
theorem dX4_refusedOrder_2 : decode cX4_refusedOrder 2 = .ok (.iload_n 2, 1) := dk_28 (dk_at dksX4_refusedOrder_0 2 rfl rfl)
theorem dX4_refusedOrder_3 : decode cX4_refusedOrder 3 = .ok (.iconst 2, 1) := dk_5 (dk_at dksX4_refusedOrder_0 3 rfl rfl)
theorem dX4_refusedOrder_4 : decode cX4_refusedOrder 4 = .ok (.if_icmp .lt 34, 3) := dk_161 0 34 (dk_at dksX4_refusedOrder_0 4 rfl rfl)
theorem dX4_refusedOrder_7 : decode cX4_refusedOrder 7 = .ok (.aload_n 0, 1) := dk_42 (dk_at dksX4_refusedOrder_0 7 rfl rfl)
theorem dX4_refusedOrder_8 : decode cX4_refusedOrder 8 = .ok (.getfield 33, 3) := dk_180 0 33 (dk_at dksX4_refusedOrder_0 8 rfl rfl)
theorem dX4_refusedOrder_11 : decode cX4_refusedOrder 11 = .ok (.iload_n 2, 1) := dk_28 (dk_at dksX4_refusedOrder_0 11 rfl rfl)
theorem dX4_refusedOrder_12 : decode cX4_refusedOrder 12 = .ok (.aload_n 0, 1) := dk_42 (dk_at dksX4_refusedOrder_0 12 rfl rfl)
theorem dX4_refusedOrder_13 : decode cX4_refusedOrder 13 = .ok (.getfield 45, 3) := dk_180 0 45 (dk_at dksX4_refusedOrder_0 13 rfl rfl)
theorem dX4_refusedOrder_16 : decode cX4_refusedOrder 16 = .ok (.ifCond .eq 14, 3) := dk_153 0 14 (dk_at dksX4_refusedOrder_0 16 rfl rfl)
theorem dX4_refusedOrder_19 : decode cX4_refusedOrder 19 = .ok (.aload_n 0, 1) := dk_42 (dk_at dksX4_refusedOrder_0 19 rfl rfl)
theorem dX4_refusedOrder_20 : decode cX4_refusedOrder 20 = .ok (.getfield 33, 3) := dk_180 0 33 (dk_at dksX4_refusedOrder_0 20 rfl rfl)
theorem dX4_refusedOrder_23 : decode cX4_refusedOrder 23 = .ok (.iload_n 2, 1) := dk_28 (dk_at dksX4_refusedOrder_0 23 rfl rfl)
theorem dX4_refusedOrder_24 : decode cX4_refusedOrder 24 = .ok (.iconst 2, 1) := dk_5 (dk_at dksX4_refusedOrder_1 0 rfl rfl)
theorem dX4_refusedOrder_25 : decode cX4_refusedOrder 25 = .ok (.isub, 1) := dk_100 (dk_at dksX4_refusedOrder_1 1 rfl rfl)
theorem dX4_refusedOrder_26 : decode cX4_refusedOrder 26 = .ok (.iaload, 1) := dk_46 (dk_at dksX4_refusedOrder_1 2 rfl rfl)
theorem dX4_refusedOrder_27 : decode cX4_refusedOrder 27 = .ok (.goto 4, 3) := dk_167 0 4 (dk_at dksX4_refusedOrder_1 3 rfl rfl)
theorem dX4_refusedOrder_30 : decode cX4_refusedOrder 30 = .ok (.iconst 0, 1) := dk_3 (dk_at dksX4_refusedOrder_1 6 rfl rfl)
theorem dX4_refusedOrder_31 : decode cX4_refusedOrder 31 = .ok (.iastore, 1) := dk_79 (dk_at dksX4_refusedOrder_1 7 rfl rfl)
theorem dX4_refusedOrder_32 : decode cX4_refusedOrder 32 = .ok (.iinc 2 (-1), 3) := dk_132 2 255 (dk_at dksX4_refusedOrder_1 8 rfl rfl)
theorem dX4_refusedOrder_35 : decode cX4_refusedOrder 35 = .ok (.goto (-33), 3) := dk_167 255 223 (dk_at dksX4_refusedOrder_1 11 rfl rfl)
theorem dX4_refusedOrder_38 : decode cX4_refusedOrder 38 = .ok (.aload_n 0, 1) := dk_42 (dk_at dksX4_refusedOrder_1 14 rfl rfl)
theorem dX4_refusedOrder_39 : decode cX4_refusedOrder 39 = .ok (.getfield 45, 3) := dk_180 0 45 (dk_at dksX4_refusedOrder_1 15 rfl rfl)
theorem dX4_refusedOrder_42 : decode cX4_refusedOrder 42 = .ok (.ifCond .ne 11, 3) := dk_154 0 11 (dk_at dksX4_refusedOrder_1 18 rfl rfl)
theorem dX4_refusedOrder_45 : decode cX4_refusedOrder 45 = .ok (.aload_n 0, 1) := dk_42 (dk_at dksX4_refusedOrder_1 21 rfl rfl)
theorem dX4_refusedOrder_46 : decode cX4_refusedOrder 46 = .ok (.getfield 33, 3) := dk_180 0 33 (dk_at dksX4_refusedOrder_2 0 rfl rfl)
theorem dX4_refusedOrder_49 : decode cX4_refusedOrder 49 = .ok (.iconst 2, 1) := dk_5 (dk_at dksX4_refusedOrder_2 3 rfl rfl)
theorem dX4_refusedOrder_50 : decode cX4_refusedOrder 50 = .ok (.bipush 12, 2) := dk_16 12 (dk_at dksX4_refusedOrder_2 4 rfl rfl)
theorem dX4_refusedOrder_52 : decode cX4_refusedOrder 52 = .ok (.iastore, 1) := dk_79 (dk_at dksX4_refusedOrder_2 6 rfl rfl)
theorem dX4_refusedOrder_53 : decode cX4_refusedOrder 53 = .ok (.aload_n 0, 1) := dk_42 (dk_at dksX4_refusedOrder_2 7 rfl rfl)
theorem dX4_refusedOrder_54 : decode cX4_refusedOrder 54 = .ok (.getfield 33, 3) := dk_180 0 33 (dk_at dksX4_refusedOrder_2 8 rfl rfl)
theorem dX4_refusedOrder_57 : decode cX4_refusedOrder 57 = .ok (.iconst 0, 1) := dk_3 (dk_at dksX4_refusedOrder_2 11 rfl rfl)
theorem dX4_refusedOrder_58 : decode cX4_refusedOrder 58 = .ok (.bipush 11, 2) := dk_16 11 (dk_at dksX4_refusedOrder_2 12 rfl rfl)
theorem dX4_refusedOrder_60 : decode cX4_refusedOrder 60 = .ok (.iastore, 1) := dk_79 (dk_at dksX4_refusedOrder_2 14 rfl rfl)
theorem dX4_refusedOrder_61 : decode cX4_refusedOrder 61 = .ok (.aload_n 0, 1) := dk_42 (dk_at dksX4_refusedOrder_2 15 rfl rfl)
theorem dX4_refusedOrder_62 : decode cX4_refusedOrder 62 = .ok (.getfield 33, 3) := dk_180 0 33 (dk_at dksX4_refusedOrder_2 16 rfl rfl)
theorem dX4_refusedOrder_65 : decode cX4_refusedOrder 65 = .ok (.iconst 1, 1) := dk_4 (dk_at dksX4_refusedOrder_2 19 rfl rfl)
theorem dX4_refusedOrder_66 : decode cX4_refusedOrder 66 = .ok (.iload_n 1, 1) := dk_27 (dk_at dksX4_refusedOrder_2 20 rfl rfl)
theorem dX4_refusedOrder_67 : decode cX4_refusedOrder 67 = .ok (.iastore, 1) := dk_79 (dk_at dksX4_refusedOrder_2 21 rfl rfl)
theorem dX4_refusedOrder_68 : decode cX4_refusedOrder 68 = .ok (.return_, 1) := dk_177 (dk_at dksX4_refusedOrder_2 22 rfl rfl)
abbrev cX4_errorPosition : ByteArray := prog_19_method_72_code
def yX4_errorPosition : MethodName := ⟨RX4, "errorPosition", "()I"⟩
def dkwX4_errorPosition_1 : List UInt8 := [172]
abbrev dktX4_errorPosition_1 : List UInt8 := dkwX4_errorPosition_1 ++ []
def dkwX4_errorPosition_0 : List UInt8 := [42, 180, 0, 29, 2, 160, 0, 11, 42, 4, 182, 0, 68, 167, 0, 11, 42, 42, 180, 0, 29, 182, 0, 75]
abbrev dktX4_errorPosition_0 : List UInt8 := dkwX4_errorPosition_0 ++ dktX4_errorPosition_1
theorem dksX4_errorPosition_0 : cX4_errorPosition.data.toList.drop 0 = dktX4_errorPosition_0 := by decide +kernel
theorem dksX4_errorPosition_1 : cX4_errorPosition.data.toList.drop 24 = dktX4_errorPosition_1 := dk_seg dksX4_errorPosition_0 24 rfl rfl
theorem dX4_errorPosition_0 : decode cX4_errorPosition 0 = .ok (.aload_n 0, 1) := dk_42 (dk_at dksX4_errorPosition_0 0 rfl rfl)
theorem dX4_errorPosition_1 : decode cX4_errorPosition 1 = .ok (.getfield 29, 3) := dk_180 0 29 (dk_at dksX4_errorPosition_0 1 rfl rfl)
theorem dX4_errorPosition_4 : decode cX4_errorPosition 4 = .ok (.iconst (-1), 1) := dk_2 (dk_at dksX4_errorPosition_0 4 rfl rfl)
theorem dX4_errorPosition_5 : decode cX4_errorPosition 5 = .ok (.if_icmp .ne 11, 3) := dk_160 0 11 (dk_at dksX4_errorPosition_0 5 rfl rfl)
theorem dX4_errorPosition_8 : decode cX4_errorPosition 8 = .ok (.aload_n 0, 1) := dk_42 (dk_at dksX4_errorPosition_0 8 rfl rfl)
theorem dX4_errorPosition_9 : decode cX4_errorPosition 9 = .ok (.iconst 1, 1) := dk_4 (dk_at dksX4_errorPosition_0 9 rfl rfl)
theorem dX4_errorPosition_10 : decode cX4_errorPosition 10 = .ok (.invokevirtual 68, 3) := dk_182 0 68 (dk_at dksX4_errorPosition_0 10 rfl rfl)
theorem dX4_errorPosition_13 : decode cX4_errorPosition 13 = .ok (.goto 11, 3) := dk_167 0 11 (dk_at dksX4_errorPosition_0 13 rfl rfl)
theorem dX4_errorPosition_16 : decode cX4_errorPosition 16 = .ok (.aload_n 0, 1) := dk_42 (dk_at dksX4_errorPosition_0 16 rfl rfl)
theorem dX4_errorPosition_17 : decode cX4_errorPosition 17 = .ok (.aload_n 0, 1) := dk_42 (dk_at dksX4_errorPosition_0 17 rfl rfl)
theorem dX4_errorPosition_18 : decode cX4_errorPosition 18 = .ok (.getfield 29, 3) := dk_180 0 29 (dk_at dksX4_errorPosition_0 18 rfl rfl)
theorem dX4_errorPosition_21 : decode cX4_errorPosition 21 = .ok (.invokevirtual 75, 3) := dk_182 0 75 (dk_at dksX4_errorPosition_0 21 rfl rfl)
theorem dX4_errorPosition_24 : decode cX4_errorPosition 24 = .ok (.ireturn, 1) := dk_172 (dk_at dksX4_errorPosition_1 0 rfl rfl)
abbrev cX4_refusal : ByteArray := prog_19_method_73_code
def yX4_refusal : MethodName := ⟨RX4, "refusal", "(IZ)I"⟩
def dkwX4_refusal_2 : List UInt8 := [167, 0, 4, 3, 96, 46, 182, 0, 75, 172]
abbrev dktX4_refusal_2 : List UInt8 := dkwX4_refusal_2 ++ []
def dkwX4_refusal_1 : List UInt8 := [154, 0, 11, 42, 5, 182, 0, 68, 167, 0, 25, 42, 42, 180, 0, 33, 5, 27, 104, 28, 153, 0, 7, 4]
abbrev dktX4_refusal_1 : List UInt8 := dkwX4_refusal_1 ++ dktX4_refusal_2
def dkwX4_refusal_0 : List UInt8 := [27, 3, 5, 184, 0, 60, 154, 0, 9, 42, 4, 182, 0, 68, 172, 42, 180, 0, 33, 5, 27, 104, 46]
abbrev dktX4_refusal_0 : List UInt8 := dkwX4_refusal_0 ++ dktX4_refusal_1
theorem dksX4_refusal_0 : cX4_refusal.data.toList.drop 0 = dktX4_refusal_0 := by decide +kernel
theorem dksX4_refusal_1 : cX4_refusal.data.toList.drop 23 = dktX4_refusal_1 := dk_seg dksX4_refusal_0 23 rfl rfl
theorem dksX4_refusal_2 : cX4_refusal.data.toList.drop 47 = dktX4_refusal_2 := dk_seg dksX4_refusal_1 24 rfl rfl
theorem dX4_refusal_0 : decode cX4_refusal 0 = .ok (.iload_n 1, 1) := dk_27 (dk_at dksX4_refusal_0 0 rfl rfl)
theorem dX4_refusal_1 : decode cX4_refusal 1 = .ok (.iconst 0, 1) := dk_3 (dk_at dksX4_refusal_0 1 rfl rfl)
theorem dX4_refusal_2 : decode cX4_refusal 2 = .ok (.iconst 2, 1) := dk_5 (dk_at dksX4_refusal_0 2 rfl rfl)
theorem dX4_refusal_3 : decode cX4_refusal 3 = .ok (.invokestatic 60, 3) := dk_184 0 60 (dk_at dksX4_refusal_0 3 rfl rfl)
theorem dX4_refusal_6 : decode cX4_refusal 6 = .ok (.ifCond .ne 9, 3) := dk_154 0 9 (dk_at dksX4_refusal_0 6 rfl rfl)
theorem dX4_refusal_9 : decode cX4_refusal 9 = .ok (.aload_n 0, 1) := dk_42 (dk_at dksX4_refusal_0 9 rfl rfl)
theorem dX4_refusal_10 : decode cX4_refusal 10 = .ok (.iconst 1, 1) := dk_4 (dk_at dksX4_refusal_0 10 rfl rfl)
theorem dX4_refusal_11 : decode cX4_refusal 11 = .ok (.invokevirtual 68, 3) := dk_182 0 68 (dk_at dksX4_refusal_0 11 rfl rfl)
theorem dX4_refusal_14 : decode cX4_refusal 14 = .ok (.ireturn, 1) := dk_172 (dk_at dksX4_refusal_0 14 rfl rfl)
theorem dX4_refusal_15 : decode cX4_refusal 15 = .ok (.aload_n 0, 1) := dk_42 (dk_at dksX4_refusal_0 15 rfl rfl)
theorem dX4_refusal_16 : decode cX4_refusal 16 = .ok (.getfield 33, 3) := dk_180 0 33 (dk_at dksX4_refusal_0 16 rfl rfl)
theorem dX4_refusal_19 : decode cX4_refusal 19 = .ok (.iconst 2, 1) := dk_5 (dk_at dksX4_refusal_0 19 rfl rfl)
theorem dX4_refusal_20 : decode cX4_refusal 20 = .ok (.iload_n 1, 1) := dk_27 (dk_at dksX4_refusal_0 20 rfl rfl)
theorem dX4_refusal_21 : decode cX4_refusal 21 = .ok (.imul, 1) := dk_104 (dk_at dksX4_refusal_0 21 rfl rfl)
theorem dX4_refusal_22 : decode cX4_refusal 22 = .ok (.iaload, 1) := dk_46 (dk_at dksX4_refusal_0 22 rfl rfl)
theorem dX4_refusal_23 : decode cX4_refusal 23 = .ok (.ifCond .ne 11, 3) := dk_154 0 11 (dk_at dksX4_refusal_1 0 rfl rfl)
theorem dX4_refusal_26 : decode cX4_refusal 26 = .ok (.aload_n 0, 1) := dk_42 (dk_at dksX4_refusal_1 3 rfl rfl)
theorem dX4_refusal_27 : decode cX4_refusal 27 = .ok (.iconst 2, 1) := dk_5 (dk_at dksX4_refusal_1 4 rfl rfl)
theorem dX4_refusal_28 : decode cX4_refusal 28 = .ok (.invokevirtual 68, 3) := dk_182 0 68 (dk_at dksX4_refusal_1 5 rfl rfl)
theorem dX4_refusal_31 : decode cX4_refusal 31 = .ok (.goto 25, 3) := dk_167 0 25 (dk_at dksX4_refusal_1 8 rfl rfl)
theorem dX4_refusal_34 : decode cX4_refusal 34 = .ok (.aload_n 0, 1) := dk_42 (dk_at dksX4_refusal_1 11 rfl rfl)
theorem dX4_refusal_35 : decode cX4_refusal 35 = .ok (.aload_n 0, 1) := dk_42 (dk_at dksX4_refusal_1 12 rfl rfl)
theorem dX4_refusal_36 : decode cX4_refusal 36 = .ok (.getfield 33, 3) := dk_180 0 33 (dk_at dksX4_refusal_1 13 rfl rfl)
theorem dX4_refusal_39 : decode cX4_refusal 39 = .ok (.iconst 2, 1) := dk_5 (dk_at dksX4_refusal_1 16 rfl rfl)
theorem dX4_refusal_40 : decode cX4_refusal 40 = .ok (.iload_n 1, 1) := dk_27 (dk_at dksX4_refusal_1 17 rfl rfl)
theorem dX4_refusal_41 : decode cX4_refusal 41 = .ok (.imul, 1) := dk_104 (dk_at dksX4_refusal_1 18 rfl rfl)
theorem dX4_refusal_42 : decode cX4_refusal 42 = .ok (.iload_n 2, 1) := dk_28 (dk_at dksX4_refusal_1 19 rfl rfl)
theorem dX4_refusal_43 : decode cX4_refusal 43 = .ok (.ifCond .eq 7, 3) := dk_153 0 7 (dk_at dksX4_refusal_1 20 rfl rfl)
theorem dX4_refusal_46 : decode cX4_refusal 46 = .ok (.iconst 1, 1) := dk_4 (dk_at dksX4_refusal_1 23 rfl rfl)
theorem dX4_refusal_47 : decode cX4_refusal 47 = .ok (.goto 4, 3) := dk_167 0 4 (dk_at dksX4_refusal_2 0 rfl rfl)
theorem dX4_refusal_50 : decode cX4_refusal 50 = .ok (.iconst 0, 1) := dk_3 (dk_at dksX4_refusal_2 3 rfl rfl)
theorem dX4_refusal_51 : decode cX4_refusal 51 = .ok (.iadd, 1) := dk_96 (dk_at dksX4_refusal_2 4 rfl rfl)
theorem dX4_refusal_52 : decode cX4_refusal 52 = .ok (.iaload, 1) := dk_46 (dk_at dksX4_refusal_2 5 rfl rfl)
theorem dX4_refusal_53 : decode cX4_refusal 53 = .ok (.invokevirtual 75, 3) := dk_182 0 75 (dk_at dksX4_refusal_2 6 rfl rfl)
theorem dX4_refusal_56 : decode cX4_refusal 56 = .ok (.ireturn, 1) := dk_172 (dk_at dksX4_refusal_2 9 rfl rfl)
abbrev cX4_describe : ByteArray := prog_19_method_77_code
def yX4_describe : MethodName := ⟨RX4, "describe", "(I)I"⟩
def dkwX4_describe_7 : List UInt8 := [182, 0, 75, 172]
abbrev dktX4_describe_7 : List UInt8 := dkwX4_describe_7 ++ []
def dkwX4_describe_6 : List UInt8 := [180, 0, 7, 16, 37, 27, 96, 46, 182, 0, 252, 42, 16, 108, 182, 0, 244, 42, 42, 180, 0, 241]
abbrev dktX4_describe_6 : List UInt8 := dkwX4_describe_6 ++ dktX4_describe_7
def dkwX4_describe_5 : List UInt8 := [182, 0, 244, 42, 42, 180, 0, 7, 16, 34, 27, 96, 46, 182, 0, 252, 42, 16, 109, 182, 0, 244, 42, 42]
abbrev dktX4_describe_5 : List UInt8 := dkwX4_describe_5 ++ dktX4_describe_6
def dkwX4_describe_4 : List UInt8 := [27, 96, 46, 182, 0, 252, 42, 16, 104, 182, 0, 244, 42, 27, 182, 0, 119, 158, 0, 47, 42, 16, 32]
abbrev dktX4_describe_4 : List UInt8 := dkwX4_describe_4 ++ dktX4_describe_5
def dkwX4_describe_3 : List UInt8 := [180, 0, 7, 16, 28, 27, 96, 46, 182, 0, 252, 42, 16, 32, 182, 0, 244, 42, 42, 180, 0, 7, 16, 31]
abbrev dktX4_describe_3 : List UInt8 := dkwX4_describe_3 ++ dktX4_describe_4
def dkwX4_describe_2 : List UInt8 := [167, 0, 6, 19, 1, 1, 182, 0, 249, 42, 180, 0, 7, 16, 28, 27, 96, 46, 2, 159, 0, 16, 42, 42]
abbrev dktX4_describe_2 : List UInt8 := dkwX4_describe_2 ++ dktX4_describe_3
def dkwX4_describe_1 : List UInt8 := [182, 0, 249, 42, 27, 182, 0, 252, 42, 42, 180, 0, 7, 16, 28, 27, 96, 46, 2, 160, 0, 8, 18, 255]
abbrev dktX4_describe_1 : List UInt8 := dkwX4_describe_1 ++ dktX4_describe_2
def dkwX4_describe_0 : List UInt8 := [42, 27, 182, 0, 92, 154, 0, 9, 42, 4, 182, 0, 68, 172, 42, 3, 181, 0, 241, 42, 18, 247]
abbrev dktX4_describe_0 : List UInt8 := dkwX4_describe_0 ++ dktX4_describe_1
theorem dksX4_describe_0 : cX4_describe.data.toList.drop 0 = dktX4_describe_0 := by decide +kernel
theorem dksX4_describe_1 : cX4_describe.data.toList.drop 22 = dktX4_describe_1 := dk_seg dksX4_describe_0 22 rfl rfl
theorem dksX4_describe_2 : cX4_describe.data.toList.drop 46 = dktX4_describe_2 := dk_seg dksX4_describe_1 24 rfl rfl
theorem dksX4_describe_3 : cX4_describe.data.toList.drop 70 = dktX4_describe_3 := dk_seg dksX4_describe_2 24 rfl rfl
theorem dksX4_describe_4 : cX4_describe.data.toList.drop 94 = dktX4_describe_4 := dk_seg dksX4_describe_3 24 rfl rfl
theorem dksX4_describe_5 : cX4_describe.data.toList.drop 117 = dktX4_describe_5 := dk_seg dksX4_describe_4 23 rfl rfl
theorem dksX4_describe_6 : cX4_describe.data.toList.drop 141 = dktX4_describe_6 := dk_seg dksX4_describe_5 24 rfl rfl
theorem dksX4_describe_7 : cX4_describe.data.toList.drop 163 = dktX4_describe_7 := dk_seg dksX4_describe_6 22 rfl rfl
theorem dX4_describe_0 : decode cX4_describe 0 = .ok (.aload_n 0, 1) := dk_42 (dk_at dksX4_describe_0 0 rfl rfl)
theorem dX4_describe_1 : decode cX4_describe 1 = .ok (.iload_n 1, 1) := dk_27 (dk_at dksX4_describe_0 1 rfl rfl)
theorem dX4_describe_2 : decode cX4_describe 2 = .ok (.invokevirtual 92, 3) := dk_182 0 92 (dk_at dksX4_describe_0 2 rfl rfl)
theorem dX4_describe_5 : decode cX4_describe 5 = .ok (.ifCond .ne 9, 3) := dk_154 0 9 (dk_at dksX4_describe_0 5 rfl rfl)
theorem dX4_describe_8 : decode cX4_describe 8 = .ok (.aload_n 0, 1) := dk_42 (dk_at dksX4_describe_0 8 rfl rfl)
theorem dX4_describe_9 : decode cX4_describe 9 = .ok (.iconst 1, 1) := dk_4 (dk_at dksX4_describe_0 9 rfl rfl)
theorem dX4_describe_10 : decode cX4_describe 10 = .ok (.invokevirtual 68, 3) := dk_182 0 68 (dk_at dksX4_describe_0 10 rfl rfl)
theorem dX4_describe_13 : decode cX4_describe 13 = .ok (.ireturn, 1) := dk_172 (dk_at dksX4_describe_0 13 rfl rfl)
theorem dX4_describe_14 : decode cX4_describe 14 = .ok (.aload_n 0, 1) := dk_42 (dk_at dksX4_describe_0 14 rfl rfl)
theorem dX4_describe_15 : decode cX4_describe 15 = .ok (.iconst 0, 1) := dk_3 (dk_at dksX4_describe_0 15 rfl rfl)
theorem dX4_describe_16 : decode cX4_describe 16 = .ok (.putfield 241, 3) := dk_181 0 241 (dk_at dksX4_describe_0 16 rfl rfl)
theorem dX4_describe_19 : decode cX4_describe 19 = .ok (.aload_n 0, 1) := dk_42 (dk_at dksX4_describe_0 19 rfl rfl)
theorem dX4_describe_20 : decode cX4_describe 20 = .ok (.ldc 247, 2) := dk_18 247 (dk_at dksX4_describe_0 20 rfl rfl)
theorem dX4_describe_22 : decode cX4_describe 22 = .ok (.invokevirtual 249, 3) := dk_182 0 249 (dk_at dksX4_describe_1 0 rfl rfl)
theorem dX4_describe_25 : decode cX4_describe 25 = .ok (.aload_n 0, 1) := dk_42 (dk_at dksX4_describe_1 3 rfl rfl)
theorem dX4_describe_26 : decode cX4_describe 26 = .ok (.iload_n 1, 1) := dk_27 (dk_at dksX4_describe_1 4 rfl rfl)
theorem dX4_describe_27 : decode cX4_describe 27 = .ok (.invokevirtual 252, 3) := dk_182 0 252 (dk_at dksX4_describe_1 5 rfl rfl)
theorem dX4_describe_30 : decode cX4_describe 30 = .ok (.aload_n 0, 1) := dk_42 (dk_at dksX4_describe_1 8 rfl rfl)
theorem dX4_describe_31 : decode cX4_describe 31 = .ok (.aload_n 0, 1) := dk_42 (dk_at dksX4_describe_1 9 rfl rfl)
theorem dX4_describe_32 : decode cX4_describe 32 = .ok (.getfield 7, 3) := dk_180 0 7 (dk_at dksX4_describe_1 10 rfl rfl)
theorem dX4_describe_35 : decode cX4_describe 35 = .ok (.bipush 28, 2) := dk_16 28 (dk_at dksX4_describe_1 13 rfl rfl)
theorem dX4_describe_37 : decode cX4_describe 37 = .ok (.iload_n 1, 1) := dk_27 (dk_at dksX4_describe_1 15 rfl rfl)
theorem dX4_describe_38 : decode cX4_describe 38 = .ok (.iadd, 1) := dk_96 (dk_at dksX4_describe_1 16 rfl rfl)
theorem dX4_describe_39 : decode cX4_describe 39 = .ok (.iaload, 1) := dk_46 (dk_at dksX4_describe_1 17 rfl rfl)
theorem dX4_describe_40 : decode cX4_describe 40 = .ok (.iconst (-1), 1) := dk_2 (dk_at dksX4_describe_1 18 rfl rfl)
theorem dX4_describe_41 : decode cX4_describe 41 = .ok (.if_icmp .ne 8, 3) := dk_160 0 8 (dk_at dksX4_describe_1 19 rfl rfl)
theorem dX4_describe_44 : decode cX4_describe 44 = .ok (.ldc 255, 2) := dk_18 255 (dk_at dksX4_describe_1 22 rfl rfl)
theorem dX4_describe_46 : decode cX4_describe 46 = .ok (.goto 6, 3) := dk_167 0 6 (dk_at dksX4_describe_2 0 rfl rfl)
theorem dX4_describe_49 : decode cX4_describe 49 = .ok (.ldc_w 257, 3) := dk_19 1 1 (dk_at dksX4_describe_2 3 rfl rfl)
theorem dX4_describe_52 : decode cX4_describe 52 = .ok (.invokevirtual 249, 3) := dk_182 0 249 (dk_at dksX4_describe_2 6 rfl rfl)
theorem dX4_describe_55 : decode cX4_describe 55 = .ok (.aload_n 0, 1) := dk_42 (dk_at dksX4_describe_2 9 rfl rfl)
theorem dX4_describe_56 : decode cX4_describe 56 = .ok (.getfield 7, 3) := dk_180 0 7 (dk_at dksX4_describe_2 10 rfl rfl)
theorem dX4_describe_59 : decode cX4_describe 59 = .ok (.bipush 28, 2) := dk_16 28 (dk_at dksX4_describe_2 13 rfl rfl)
theorem dX4_describe_61 : decode cX4_describe 61 = .ok (.iload_n 1, 1) := dk_27 (dk_at dksX4_describe_2 15 rfl rfl)
theorem dX4_describe_62 : decode cX4_describe 62 = .ok (.iadd, 1) := dk_96 (dk_at dksX4_describe_2 16 rfl rfl)
theorem dX4_describe_63 : decode cX4_describe 63 = .ok (.iaload, 1) := dk_46 (dk_at dksX4_describe_2 17 rfl rfl)
theorem dX4_describe_64 : decode cX4_describe 64 = .ok (.iconst (-1), 1) := dk_2 (dk_at dksX4_describe_2 18 rfl rfl)
theorem dX4_describe_65 : decode cX4_describe 65 = .ok (.if_icmp .eq 16, 3) := dk_159 0 16 (dk_at dksX4_describe_2 19 rfl rfl)
theorem dX4_describe_68 : decode cX4_describe 68 = .ok (.aload_n 0, 1) := dk_42 (dk_at dksX4_describe_2 22 rfl rfl)
theorem dX4_describe_69 : decode cX4_describe 69 = .ok (.aload_n 0, 1) := dk_42 (dk_at dksX4_describe_2 23 rfl rfl)
theorem dX4_describe_70 : decode cX4_describe 70 = .ok (.getfield 7, 3) := dk_180 0 7 (dk_at dksX4_describe_3 0 rfl rfl)
theorem dX4_describe_73 : decode cX4_describe 73 = .ok (.bipush 28, 2) := dk_16 28 (dk_at dksX4_describe_3 3 rfl rfl)
theorem dX4_describe_75 : decode cX4_describe 75 = .ok (.iload_n 1, 1) := dk_27 (dk_at dksX4_describe_3 5 rfl rfl)
theorem dX4_describe_76 : decode cX4_describe 76 = .ok (.iadd, 1) := dk_96 (dk_at dksX4_describe_3 6 rfl rfl)
theorem dX4_describe_77 : decode cX4_describe 77 = .ok (.iaload, 1) := dk_46 (dk_at dksX4_describe_3 7 rfl rfl)
theorem dX4_describe_78 : decode cX4_describe 78 = .ok (.invokevirtual 252, 3) := dk_182 0 252 (dk_at dksX4_describe_3 8 rfl rfl)
theorem dX4_describe_81 : decode cX4_describe 81 = .ok (.aload_n 0, 1) := dk_42 (dk_at dksX4_describe_3 11 rfl rfl)
theorem dX4_describe_82 : decode cX4_describe 82 = .ok (.bipush 32, 2) := dk_16 32 (dk_at dksX4_describe_3 12 rfl rfl)
theorem dX4_describe_84 : decode cX4_describe 84 = .ok (.invokevirtual 244, 3) := dk_182 0 244 (dk_at dksX4_describe_3 14 rfl rfl)
theorem dX4_describe_87 : decode cX4_describe 87 = .ok (.aload_n 0, 1) := dk_42 (dk_at dksX4_describe_3 17 rfl rfl)
theorem dX4_describe_88 : decode cX4_describe 88 = .ok (.aload_n 0, 1) := dk_42 (dk_at dksX4_describe_3 18 rfl rfl)
theorem dX4_describe_89 : decode cX4_describe 89 = .ok (.getfield 7, 3) := dk_180 0 7 (dk_at dksX4_describe_3 19 rfl rfl)
theorem dX4_describe_92 : decode cX4_describe 92 = .ok (.bipush 31, 2) := dk_16 31 (dk_at dksX4_describe_3 22 rfl rfl)
theorem dX4_describe_94 : decode cX4_describe 94 = .ok (.iload_n 1, 1) := dk_27 (dk_at dksX4_describe_4 0 rfl rfl)
theorem dX4_describe_95 : decode cX4_describe 95 = .ok (.iadd, 1) := dk_96 (dk_at dksX4_describe_4 1 rfl rfl)
theorem dX4_describe_96 : decode cX4_describe 96 = .ok (.iaload, 1) := dk_46 (dk_at dksX4_describe_4 2 rfl rfl)
theorem dX4_describe_97 : decode cX4_describe 97 = .ok (.invokevirtual 252, 3) := dk_182 0 252 (dk_at dksX4_describe_4 3 rfl rfl)
theorem dX4_describe_100 : decode cX4_describe 100 = .ok (.aload_n 0, 1) := dk_42 (dk_at dksX4_describe_4 6 rfl rfl)
theorem dX4_describe_101 : decode cX4_describe 101 = .ok (.bipush 104, 2) := dk_16 104 (dk_at dksX4_describe_4 7 rfl rfl)
theorem dX4_describe_103 : decode cX4_describe 103 = .ok (.invokevirtual 244, 3) := dk_182 0 244 (dk_at dksX4_describe_4 9 rfl rfl)
theorem dX4_describe_106 : decode cX4_describe 106 = .ok (.aload_n 0, 1) := dk_42 (dk_at dksX4_describe_4 12 rfl rfl)
theorem dX4_describe_107 : decode cX4_describe 107 = .ok (.iload_n 1, 1) := dk_27 (dk_at dksX4_describe_4 13 rfl rfl)
theorem dX4_describe_108 : decode cX4_describe 108 = .ok (.invokevirtual 119, 3) := dk_182 0 119 (dk_at dksX4_describe_4 14 rfl rfl)
theorem dX4_describe_111 : decode cX4_describe 111 = .ok (.ifCond .le 47, 3) := dk_158 0 47 (dk_at dksX4_describe_4 17 rfl rfl)
theorem dX4_describe_114 : decode cX4_describe 114 = .ok (.aload_n 0, 1) := dk_42 (dk_at dksX4_describe_4 20 rfl rfl)
theorem dX4_describe_115 : decode cX4_describe 115 = .ok (.bipush 32, 2) := dk_16 32 (dk_at dksX4_describe_4 21 rfl rfl)
theorem dX4_describe_117 : decode cX4_describe 117 = .ok (.invokevirtual 244, 3) := dk_182 0 244 (dk_at dksX4_describe_5 0 rfl rfl)
theorem dX4_describe_120 : decode cX4_describe 120 = .ok (.aload_n 0, 1) := dk_42 (dk_at dksX4_describe_5 3 rfl rfl)
theorem dX4_describe_121 : decode cX4_describe 121 = .ok (.aload_n 0, 1) := dk_42 (dk_at dksX4_describe_5 4 rfl rfl)
theorem dX4_describe_122 : decode cX4_describe 122 = .ok (.getfield 7, 3) := dk_180 0 7 (dk_at dksX4_describe_5 5 rfl rfl)
theorem dX4_describe_125 : decode cX4_describe 125 = .ok (.bipush 34, 2) := dk_16 34 (dk_at dksX4_describe_5 8 rfl rfl)
theorem dX4_describe_127 : decode cX4_describe 127 = .ok (.iload_n 1, 1) := dk_27 (dk_at dksX4_describe_5 10 rfl rfl)
theorem dX4_describe_128 : decode cX4_describe 128 = .ok (.iadd, 1) := dk_96 (dk_at dksX4_describe_5 11 rfl rfl)
theorem dX4_describe_129 : decode cX4_describe 129 = .ok (.iaload, 1) := dk_46 (dk_at dksX4_describe_5 12 rfl rfl)
theorem dX4_describe_130 : decode cX4_describe 130 = .ok (.invokevirtual 252, 3) := dk_182 0 252 (dk_at dksX4_describe_5 13 rfl rfl)
theorem dX4_describe_133 : decode cX4_describe 133 = .ok (.aload_n 0, 1) := dk_42 (dk_at dksX4_describe_5 16 rfl rfl)
theorem dX4_describe_134 : decode cX4_describe 134 = .ok (.bipush 109, 2) := dk_16 109 (dk_at dksX4_describe_5 17 rfl rfl)
theorem dX4_describe_136 : decode cX4_describe 136 = .ok (.invokevirtual 244, 3) := dk_182 0 244 (dk_at dksX4_describe_5 19 rfl rfl)
theorem dX4_describe_139 : decode cX4_describe 139 = .ok (.aload_n 0, 1) := dk_42 (dk_at dksX4_describe_5 22 rfl rfl)
theorem dX4_describe_140 : decode cX4_describe 140 = .ok (.aload_n 0, 1) := dk_42 (dk_at dksX4_describe_5 23 rfl rfl)
theorem dX4_describe_141 : decode cX4_describe 141 = .ok (.getfield 7, 3) := dk_180 0 7 (dk_at dksX4_describe_6 0 rfl rfl)
theorem dX4_describe_144 : decode cX4_describe 144 = .ok (.bipush 37, 2) := dk_16 37 (dk_at dksX4_describe_6 3 rfl rfl)
theorem dX4_describe_146 : decode cX4_describe 146 = .ok (.iload_n 1, 1) := dk_27 (dk_at dksX4_describe_6 5 rfl rfl)
theorem dX4_describe_147 : decode cX4_describe 147 = .ok (.iadd, 1) := dk_96 (dk_at dksX4_describe_6 6 rfl rfl)
theorem dX4_describe_148 : decode cX4_describe 148 = .ok (.iaload, 1) := dk_46 (dk_at dksX4_describe_6 7 rfl rfl)
theorem dX4_describe_149 : decode cX4_describe 149 = .ok (.invokevirtual 252, 3) := dk_182 0 252 (dk_at dksX4_describe_6 8 rfl rfl)
theorem dX4_describe_152 : decode cX4_describe 152 = .ok (.aload_n 0, 1) := dk_42 (dk_at dksX4_describe_6 11 rfl rfl)
theorem dX4_describe_153 : decode cX4_describe 153 = .ok (.bipush 108, 2) := dk_16 108 (dk_at dksX4_describe_6 12 rfl rfl)
theorem dX4_describe_155 : decode cX4_describe 155 = .ok (.invokevirtual 244, 3) := dk_182 0 244 (dk_at dksX4_describe_6 14 rfl rfl)
theorem dX4_describe_158 : decode cX4_describe 158 = .ok (.aload_n 0, 1) := dk_42 (dk_at dksX4_describe_6 17 rfl rfl)
theorem dX4_describe_159 : decode cX4_describe 159 = .ok (.aload_n 0, 1) := dk_42 (dk_at dksX4_describe_6 18 rfl rfl)
theorem dX4_describe_160 : decode cX4_describe 160 = .ok (.getfield 241, 3) := dk_180 0 241 (dk_at dksX4_describe_6 19 rfl rfl)
theorem dX4_describe_163 : decode cX4_describe 163 = .ok (.invokevirtual 75, 3) := dk_182 0 75 (dk_at dksX4_describe_7 0 rfl rfl)
theorem dX4_describe_166 : decode cX4_describe 166 = .ok (.ireturn, 1) := dk_172 (dk_at dksX4_describe_7 3 rfl rfl)
abbrev cX4_putsText : ByteArray := prog_19_method_75_code
def yX4_putsText : MethodName := ⟨RX4, "putsText", "(Ljava/lang/String;)V"⟩
def dkwX4_putsText_1 : List UInt8 := [167, 255, 236, 177]
abbrev dktX4_putsText_1 : List UInt8 := dkwX4_putsText_1 ++ []
def dkwX4_putsText_0 : List UInt8 := [3, 61, 28, 43, 182, 0, 182, 162, 0, 18, 42, 43, 28, 182, 0, 187, 182, 0, 244, 132, 2, 1]
abbrev dktX4_putsText_0 : List UInt8 := dkwX4_putsText_0 ++ dktX4_putsText_1
theorem dksX4_putsText_0 : cX4_putsText.data.toList.drop 0 = dktX4_putsText_0 := by decide +kernel
theorem dksX4_putsText_1 : cX4_putsText.data.toList.drop 22 = dktX4_putsText_1 := dk_seg dksX4_putsText_0 22 rfl rfl
theorem dX4_putsText_0 : decode cX4_putsText 0 = .ok (.iconst 0, 1) := dk_3 (dk_at dksX4_putsText_0 0 rfl rfl)
theorem dX4_putsText_1 : decode cX4_putsText 1 = .ok (.istore_n 2, 1) := dk_61 (dk_at dksX4_putsText_0 1 rfl rfl)
theorem dX4_putsText_2 : decode cX4_putsText 2 = .ok (.iload_n 2, 1) := dk_28 (dk_at dksX4_putsText_0 2 rfl rfl)
theorem dX4_putsText_3 : decode cX4_putsText 3 = .ok (.aload_n 1, 1) := dk_43 (dk_at dksX4_putsText_0 3 rfl rfl)
theorem dX4_putsText_4 : decode cX4_putsText 4 = .ok (.invokevirtual 182, 3) := dk_182 0 182 (dk_at dksX4_putsText_0 4 rfl rfl)
theorem dX4_putsText_7 : decode cX4_putsText 7 = .ok (.if_icmp .ge 18, 3) := dk_162 0 18 (dk_at dksX4_putsText_0 7 rfl rfl)
theorem dX4_putsText_10 : decode cX4_putsText 10 = .ok (.aload_n 0, 1) := dk_42 (dk_at dksX4_putsText_0 10 rfl rfl)
theorem dX4_putsText_11 : decode cX4_putsText 11 = .ok (.aload_n 1, 1) := dk_43 (dk_at dksX4_putsText_0 11 rfl rfl)
theorem dX4_putsText_12 : decode cX4_putsText 12 = .ok (.iload_n 2, 1) := dk_28 (dk_at dksX4_putsText_0 12 rfl rfl)
theorem dX4_putsText_13 : decode cX4_putsText 13 = .ok (.invokevirtual 187, 3) := dk_182 0 187 (dk_at dksX4_putsText_0 13 rfl rfl)
theorem dX4_putsText_16 : decode cX4_putsText 16 = .ok (.invokevirtual 244, 3) := dk_182 0 244 (dk_at dksX4_putsText_0 16 rfl rfl)
theorem dX4_putsText_19 : decode cX4_putsText 19 = .ok (.iinc 2 1, 3) := dk_132 2 1 (dk_at dksX4_putsText_0 19 rfl rfl)
theorem dX4_putsText_22 : decode cX4_putsText 22 = .ok (.goto (-20), 3) := dk_167 255 236 (dk_at dksX4_putsText_1 0 rfl rfl)
theorem dX4_putsText_25 : decode cX4_putsText 25 = .ok (.return_, 1) := dk_177 (dk_at dksX4_putsText_1 3 rfl rfl)
abbrev cX4_puts : ByteArray := prog_19_method_74_code
def yX4_puts : MethodName := ⟨RX4, "puts", "(I)V"⟩
def dkwX4_puts_0 : List UInt8 := [42, 180, 0, 36, 42, 180, 0, 241, 27, 146, 85, 42, 89, 180, 0, 241, 4, 96, 181, 0, 241, 177]
abbrev dktX4_puts_0 : List UInt8 := dkwX4_puts_0 ++ []
theorem dksX4_puts_0 : cX4_puts.data.toList.drop 0 = dktX4_puts_0 := by decide +kernel
theorem dX4_puts_0 : decode cX4_puts 0 = .ok (.aload_n 0, 1) := dk_42 (dk_at dksX4_puts_0 0 rfl rfl)
theorem dX4_puts_1 : decode cX4_puts 1 = .ok (.getfield 36, 3) := dk_180 0 36 (dk_at dksX4_puts_0 1 rfl rfl)
theorem dX4_puts_4 : decode cX4_puts 4 = .ok (.aload_n 0, 1) := dk_42 (dk_at dksX4_puts_0 4 rfl rfl)
theorem dX4_puts_5 : decode cX4_puts 5 = .ok (.getfield 241, 3) := dk_180 0 241 (dk_at dksX4_puts_0 5 rfl rfl)
theorem dX4_puts_8 : decode cX4_puts 8 = .ok (.iload_n 1, 1) := dk_27 (dk_at dksX4_puts_0 8 rfl rfl)
theorem dX4_puts_9 : decode cX4_puts 9 = .ok (.i2c, 1) := dk_146 (dk_at dksX4_puts_0 9 rfl rfl)
theorem dX4_puts_10 : decode cX4_puts 10 = .ok (.castore, 1) := dk_85 (dk_at dksX4_puts_0 10 rfl rfl)
theorem dX4_puts_11 : decode cX4_puts 11 = .ok (.aload_n 0, 1) := dk_42 (dk_at dksX4_puts_0 11 rfl rfl)
theorem dX4_puts_12 : decode cX4_puts 12 = .ok (.dup, 1) := dk_89 (dk_at dksX4_puts_0 12 rfl rfl)
theorem dX4_puts_13 : decode cX4_puts 13 = .ok (.getfield 241, 3) := dk_180 0 241 (dk_at dksX4_puts_0 13 rfl rfl)
theorem dX4_puts_16 : decode cX4_puts 16 = .ok (.iconst 1, 1) := dk_4 (dk_at dksX4_puts_0 16 rfl rfl)
theorem dX4_puts_17 : decode cX4_puts 17 = .ok (.iadd, 1) := dk_96 (dk_at dksX4_puts_0 17 rfl rfl)
theorem dX4_puts_18 : decode cX4_puts 18 = .ok (.putfield 241, 3) := dk_181 0 241 (dk_at dksX4_puts_0 18 rfl rfl)
theorem dX4_puts_21 : decode cX4_puts 21 = .ok (.return_, 1) := dk_177 (dk_at dksX4_puts_0 21 rfl rfl)
abbrev cX4_putsNumber : ByteArray := prog_19_method_76_code
def yX4_putsNumber : MethodName := ⟨RX4, "putsNumber", "(I)V"⟩
def dkwX4_putsNumber_1 : List UInt8 := [16, 48, 27, 28, 108, 16, 10, 112, 96, 182, 0, 244, 28, 16, 10, 108, 61, 167, 255, 234, 177]
abbrev dktX4_putsNumber_1 : List UInt8 := dkwX4_putsNumber_1 ++ []
def dkwX4_putsNumber_0 : List UInt8 := [4, 61, 27, 28, 108, 16, 9, 164, 0, 11, 28, 16, 10, 104, 61, 167, 255, 243, 28, 158, 0, 24, 42]
abbrev dktX4_putsNumber_0 : List UInt8 := dkwX4_putsNumber_0 ++ dktX4_putsNumber_1
theorem dksX4_putsNumber_0 : cX4_putsNumber.data.toList.drop 0 = dktX4_putsNumber_0 := by decide +kernel
theorem dksX4_putsNumber_1 : cX4_putsNumber.data.toList.drop 23 = dktX4_putsNumber_1 := dk_seg dksX4_putsNumber_0 23 rfl rfl
theorem dX4_putsNumber_0 : decode cX4_putsNumber 0 = .ok (.iconst 1, 1) := dk_4 (dk_at dksX4_putsNumber_0 0 rfl rfl)
theorem dX4_putsNumber_1 : decode cX4_putsNumber 1 = .ok (.istore_n 2, 1) := dk_61 (dk_at dksX4_putsNumber_0 1 rfl rfl)
theorem dX4_putsNumber_2 : decode cX4_putsNumber 2 = .ok (.iload_n 1, 1) := dk_27 (dk_at dksX4_putsNumber_0 2 rfl rfl)
theorem dX4_putsNumber_3 : decode cX4_putsNumber 3 = .ok (.iload_n 2, 1) := dk_28 (dk_at dksX4_putsNumber_0 3 rfl rfl)
theorem dX4_putsNumber_4 : decode cX4_putsNumber 4 = .ok (.idiv, 1) := dk_108 (dk_at dksX4_putsNumber_0 4 rfl rfl)
theorem dX4_putsNumber_5 : decode cX4_putsNumber 5 = .ok (.bipush 9, 2) := dk_16 9 (dk_at dksX4_putsNumber_0 5 rfl rfl)
theorem dX4_putsNumber_7 : decode cX4_putsNumber 7 = .ok (.if_icmp .le 11, 3) := dk_164 0 11 (dk_at dksX4_putsNumber_0 7 rfl rfl)
theorem dX4_putsNumber_10 : decode cX4_putsNumber 10 = .ok (.iload_n 2, 1) := dk_28 (dk_at dksX4_putsNumber_0 10 rfl rfl)
theorem dX4_putsNumber_11 : decode cX4_putsNumber 11 = .ok (.bipush 10, 2) := dk_16 10 (dk_at dksX4_putsNumber_0 11 rfl rfl)
theorem dX4_putsNumber_13 : decode cX4_putsNumber 13 = .ok (.imul, 1) := dk_104 (dk_at dksX4_putsNumber_0 13 rfl rfl)
theorem dX4_putsNumber_14 : decode cX4_putsNumber 14 = .ok (.istore_n 2, 1) := dk_61 (dk_at dksX4_putsNumber_0 14 rfl rfl)
theorem dX4_putsNumber_15 : decode cX4_putsNumber 15 = .ok (.goto (-13), 3) := dk_167 255 243 (dk_at dksX4_putsNumber_0 15 rfl rfl)
theorem dX4_putsNumber_18 : decode cX4_putsNumber 18 = .ok (.iload_n 2, 1) := dk_28 (dk_at dksX4_putsNumber_0 18 rfl rfl)
theorem dX4_putsNumber_19 : decode cX4_putsNumber 19 = .ok (.ifCond .le 24, 3) := dk_158 0 24 (dk_at dksX4_putsNumber_0 19 rfl rfl)
theorem dX4_putsNumber_22 : decode cX4_putsNumber 22 = .ok (.aload_n 0, 1) := dk_42 (dk_at dksX4_putsNumber_0 22 rfl rfl)
theorem dX4_putsNumber_23 : decode cX4_putsNumber 23 = .ok (.bipush 48, 2) := dk_16 48 (dk_at dksX4_putsNumber_1 0 rfl rfl)
theorem dX4_putsNumber_25 : decode cX4_putsNumber 25 = .ok (.iload_n 1, 1) := dk_27 (dk_at dksX4_putsNumber_1 2 rfl rfl)
theorem dX4_putsNumber_26 : decode cX4_putsNumber 26 = .ok (.iload_n 2, 1) := dk_28 (dk_at dksX4_putsNumber_1 3 rfl rfl)
theorem dX4_putsNumber_27 : decode cX4_putsNumber 27 = .ok (.idiv, 1) := dk_108 (dk_at dksX4_putsNumber_1 4 rfl rfl)
theorem dX4_putsNumber_28 : decode cX4_putsNumber 28 = .ok (.bipush 10, 2) := dk_16 10 (dk_at dksX4_putsNumber_1 5 rfl rfl)
theorem dX4_putsNumber_30 : decode cX4_putsNumber 30 = .ok (.irem, 1) := dk_112 (dk_at dksX4_putsNumber_1 7 rfl rfl)
theorem dX4_putsNumber_31 : decode cX4_putsNumber 31 = .ok (.iadd, 1) := dk_96 (dk_at dksX4_putsNumber_1 8 rfl rfl)
theorem dX4_putsNumber_32 : decode cX4_putsNumber 32 = .ok (.invokevirtual 244, 3) := dk_182 0 244 (dk_at dksX4_putsNumber_1 9 rfl rfl)
theorem dX4_putsNumber_35 : decode cX4_putsNumber 35 = .ok (.iload_n 2, 1) := dk_28 (dk_at dksX4_putsNumber_1 12 rfl rfl)
theorem dX4_putsNumber_36 : decode cX4_putsNumber 36 = .ok (.bipush 10, 2) := dk_16 10 (dk_at dksX4_putsNumber_1 13 rfl rfl)
theorem dX4_putsNumber_38 : decode cX4_putsNumber 38 = .ok (.idiv, 1) := dk_108 (dk_at dksX4_putsNumber_1 15 rfl rfl)
theorem dX4_putsNumber_39 : decode cX4_putsNumber 39 = .ok (.istore_n 2, 1) := dk_61 (dk_at dksX4_putsNumber_1 16 rfl rfl)
theorem dX4_putsNumber_40 : decode cX4_putsNumber 40 = .ok (.goto (-22), 3) := dk_167 255 234 (dk_at dksX4_putsNumber_1 17 rfl rfl)
theorem dX4_putsNumber_43 : decode cX4_putsNumber 43 = .ok (.return_, 1) := dk_177 (dk_at dksX4_putsNumber_1 20 rfl rfl)
abbrev cX4_written : ByteArray := prog_19_method_78_code
def yX4_written : MethodName := ⟨RX4, "written", "(I)C"⟩
def dkwX4_written_1 : List UInt8 := [180, 0, 42, 154, 0, 12, 42, 180, 0, 36, 27, 52, 167, 0, 4, 3, 172]
abbrev dktX4_written_1 : List UInt8 := dkwX4_written_1 ++ []
def dkwX4_written_0 : List UInt8 := [42, 27, 3, 42, 180, 0, 241, 4, 100, 184, 0, 60, 153, 0, 7, 3, 167, 0, 4, 4, 181, 0, 42, 42]
abbrev dktX4_written_0 : List UInt8 := dkwX4_written_0 ++ dktX4_written_1
theorem dksX4_written_0 : cX4_written.data.toList.drop 0 = dktX4_written_0 := by decide +kernel
theorem dksX4_written_1 : cX4_written.data.toList.drop 24 = dktX4_written_1 := dk_seg dksX4_written_0 24 rfl rfl
theorem dX4_written_0 : decode cX4_written 0 = .ok (.aload_n 0, 1) := dk_42 (dk_at dksX4_written_0 0 rfl rfl)
theorem dX4_written_1 : decode cX4_written 1 = .ok (.iload_n 1, 1) := dk_27 (dk_at dksX4_written_0 1 rfl rfl)
theorem dX4_written_2 : decode cX4_written 2 = .ok (.iconst 0, 1) := dk_3 (dk_at dksX4_written_0 2 rfl rfl)
theorem dX4_written_3 : decode cX4_written 3 = .ok (.aload_n 0, 1) := dk_42 (dk_at dksX4_written_0 3 rfl rfl)
theorem dX4_written_4 : decode cX4_written 4 = .ok (.getfield 241, 3) := dk_180 0 241 (dk_at dksX4_written_0 4 rfl rfl)
theorem dX4_written_7 : decode cX4_written 7 = .ok (.iconst 1, 1) := dk_4 (dk_at dksX4_written_0 7 rfl rfl)
theorem dX4_written_8 : decode cX4_written 8 = .ok (.isub, 1) := dk_100 (dk_at dksX4_written_0 8 rfl rfl)
theorem dX4_written_9 : decode cX4_written 9 = .ok (.invokestatic 60, 3) := dk_184 0 60 (dk_at dksX4_written_0 9 rfl rfl)
theorem dX4_written_12 : decode cX4_written 12 = .ok (.ifCond .eq 7, 3) := dk_153 0 7 (dk_at dksX4_written_0 12 rfl rfl)
theorem dX4_written_15 : decode cX4_written 15 = .ok (.iconst 0, 1) := dk_3 (dk_at dksX4_written_0 15 rfl rfl)
theorem dX4_written_16 : decode cX4_written 16 = .ok (.goto 4, 3) := dk_167 0 4 (dk_at dksX4_written_0 16 rfl rfl)
theorem dX4_written_19 : decode cX4_written 19 = .ok (.iconst 1, 1) := dk_4 (dk_at dksX4_written_0 19 rfl rfl)
theorem dX4_written_20 : decode cX4_written 20 = .ok (.putfield 42, 3) := dk_181 0 42 (dk_at dksX4_written_0 20 rfl rfl)
theorem dX4_written_23 : decode cX4_written 23 = .ok (.aload_n 0, 1) := dk_42 (dk_at dksX4_written_0 23 rfl rfl)
theorem dX4_written_24 : decode cX4_written 24 = .ok (.getfield 42, 3) := dk_180 0 42 (dk_at dksX4_written_1 0 rfl rfl)
theorem dX4_written_27 : decode cX4_written 27 = .ok (.ifCond .ne 12, 3) := dk_154 0 12 (dk_at dksX4_written_1 3 rfl rfl)
theorem dX4_written_30 : decode cX4_written 30 = .ok (.aload_n 0, 1) := dk_42 (dk_at dksX4_written_1 6 rfl rfl)
theorem dX4_written_31 : decode cX4_written 31 = .ok (.getfield 36, 3) := dk_180 0 36 (dk_at dksX4_written_1 7 rfl rfl)
theorem dX4_written_34 : decode cX4_written 34 = .ok (.iload_n 1, 1) := dk_27 (dk_at dksX4_written_1 10 rfl rfl)
theorem dX4_written_35 : decode cX4_written 35 = .ok (.caload, 1) := dk_52 (dk_at dksX4_written_1 11 rfl rfl)
theorem dX4_written_36 : decode cX4_written 36 = .ok (.goto 4, 3) := dk_167 0 4 (dk_at dksX4_written_1 12 rfl rfl)
theorem dX4_written_39 : decode cX4_written 39 = .ok (.iconst 0, 1) := dk_3 (dk_at dksX4_written_1 15 rfl rfl)
theorem dX4_written_40 : decode cX4_written 40 = .ok (.ireturn, 1) := dk_172 (dk_at dksX4_written_1 16 rfl rfl)
abbrev cX4_account : ByteArray := prog_19_method_80_code
def yX4_account : MethodName := ⟨RX4, "account", "(I)I"⟩
def dkwX4_account_9 : List UInt8 := [182, 0, 75, 172, 42, 42, 180, 0, 57, 182, 0, 75, 172, 42, 4, 182, 0, 68, 172]
abbrev dktX4_account_9 : List UInt8 := dkwX4_account_9 ++ []
def dkwX4_account_8 : List UInt8 := [16, 111, 46, 182, 0, 75, 172, 42, 42, 6, 16, 18, 182, 1, 6, 182, 0, 75, 172, 42, 42, 180, 0, 154]
abbrev dktX4_account_8 : List UInt8 := dkwX4_account_8 ++ dktX4_account_9
def dkwX4_account_7 : List UInt8 := [16, 110, 46, 182, 0, 75, 172, 42, 42, 16, 40, 6, 182, 1, 6, 182, 0, 75, 172, 42, 42, 180, 0, 7]
abbrev dktX4_account_7 : List UInt8 := dkwX4_account_7 ++ dktX4_account_8
def dkwX4_account_6 : List UInt8 := [46, 182, 0, 75, 172, 42, 42, 16, 34, 16, 6, 182, 1, 6, 182, 0, 75, 172, 42, 42, 180, 0, 7]
abbrev dktX4_account_6 : List UInt8 := dkwX4_account_6 ++ dktX4_account_7
def dkwX4_account_5 : List UInt8 := [42, 16, 47, 16, 10, 182, 1, 6, 182, 0, 75, 172, 42, 42, 180, 0, 7, 16, 107, 27, 96, 16, 8, 100]
abbrev dktX4_account_5 : List UInt8 := dkwX4_account_5 ++ dktX4_account_6
def dkwX4_account_4 : List UInt8 := [46, 182, 0, 75, 172, 42, 42, 16, 57, 42, 180, 0, 7, 16, 46, 46, 182, 1, 3, 182, 0, 75, 172, 42]
abbrev dktX4_account_4 : List UInt8 := dkwX4_account_4 ++ dktX4_account_5
def dkwX4_account_3 : List UInt8 := [42, 16, 28, 42, 180, 0, 7, 16, 24, 46, 182, 1, 3, 182, 0, 75, 172, 42, 42, 180, 0, 7, 16, 46]
abbrev dktX4_account_3 : List UInt8 := dkwX4_account_3 ++ dktX4_account_4
def dkwX4_account_2 : List UInt8 := [42, 42, 180, 0, 7, 27, 46, 182, 0, 75, 172, 42, 42, 180, 0, 7, 16, 24, 46, 182, 0, 75, 172, 42]
abbrev dktX4_account_2 : List UInt8 := dkwX4_account_2 ++ dktX4_account_3
def dkwX4_account_1 : List UInt8 := [170, 0, 0, 0, 0, 1, 11, 0, 0, 0, 0, 0, 0, 0, 17, 0, 0, 0, 87, 0, 0, 0, 87, 0, 0, 0, 87, 0, 0, 0, 98, 0, 0, 0, 110, 0, 0, 0, 128, 0, 0, 0, 140, 0, 0, 0, 158, 0, 0, 0, 171, 0, 0, 0, 171, 0, 0, 0, 171, 0, 0, 0, 188, 0, 0, 0, 201, 0, 0, 0, 213, 0, 0, 0, 225, 0, 0, 0, 237, 0, 0, 0, 249, 0, 0, 1, 2]
abbrev dktX4_account_1 : List UInt8 := dkwX4_account_1 ++ dktX4_account_2
def dkwX4_account_0 : List UInt8 := [27]
abbrev dktX4_account_0 : List UInt8 := dkwX4_account_0 ++ dktX4_account_1
theorem dksX4_account_0 : cX4_account.data.toList.drop 0 = dktX4_account_0 := by decide +kernel
theorem dksX4_account_1 : cX4_account.data.toList.drop 1 = dktX4_account_1 := dk_seg dksX4_account_0 1 rfl rfl
theorem dksX4_account_2 : cX4_account.data.toList.drop 88 = dktX4_account_2 := dk_seg dksX4_account_1 87 rfl rfl
theorem dksX4_account_3 : cX4_account.data.toList.drop 112 = dktX4_account_3 := dk_seg dksX4_account_2 24 rfl rfl
theorem dksX4_account_4 : cX4_account.data.toList.drop 136 = dktX4_account_4 := dk_seg dksX4_account_3 24 rfl rfl
theorem dksX4_account_5 : cX4_account.data.toList.drop 160 = dktX4_account_5 := dk_seg dksX4_account_4 24 rfl rfl
theorem dksX4_account_6 : cX4_account.data.toList.drop 184 = dktX4_account_6 := dk_seg dksX4_account_5 24 rfl rfl
theorem dksX4_account_7 : cX4_account.data.toList.drop 207 = dktX4_account_7 := dk_seg dksX4_account_6 23 rfl rfl
theorem dksX4_account_8 : cX4_account.data.toList.drop 231 = dktX4_account_8 := dk_seg dksX4_account_7 24 rfl rfl
theorem dksX4_account_9 : cX4_account.data.toList.drop 255 = dktX4_account_9 := dk_seg dksX4_account_8 24 rfl rfl
theorem dX4_account_0 : decode cX4_account 0 = .ok (.iload_n 1, 1) := dk_27 (dk_at dksX4_account_0 0 rfl rfl)
theorem dX4_account_1 : decode cX4_account 1 = .ok (.tableswitch 267 0 17 #[87, 87, 87, 98, 110, 128, 140, 158, 171, 171, 171, 188, 201, 213, 225, 237, 249, 258], 87) := by decide +kernel
theorem dX4_account_88 : decode cX4_account 88 = .ok (.aload_n 0, 1) := dk_42 (dk_at dksX4_account_2 0 rfl rfl)
theorem dX4_account_89 : decode cX4_account 89 = .ok (.aload_n 0, 1) := dk_42 (dk_at dksX4_account_2 1 rfl rfl)
theorem dX4_account_90 : decode cX4_account 90 = .ok (.getfield 7, 3) := dk_180 0 7 (dk_at dksX4_account_2 2 rfl rfl)
theorem dX4_account_93 : decode cX4_account 93 = .ok (.iload_n 1, 1) := dk_27 (dk_at dksX4_account_2 5 rfl rfl)
theorem dX4_account_94 : decode cX4_account 94 = .ok (.iaload, 1) := dk_46 (dk_at dksX4_account_2 6 rfl rfl)
theorem dX4_account_95 : decode cX4_account 95 = .ok (.invokevirtual 75, 3) := dk_182 0 75 (dk_at dksX4_account_2 7 rfl rfl)
theorem dX4_account_98 : decode cX4_account 98 = .ok (.ireturn, 1) := dk_172 (dk_at dksX4_account_2 10 rfl rfl)
theorem dX4_account_99 : decode cX4_account 99 = .ok (.aload_n 0, 1) := dk_42 (dk_at dksX4_account_2 11 rfl rfl)
theorem dX4_account_100 : decode cX4_account 100 = .ok (.aload_n 0, 1) := dk_42 (dk_at dksX4_account_2 12 rfl rfl)
theorem dX4_account_101 : decode cX4_account 101 = .ok (.getfield 7, 3) := dk_180 0 7 (dk_at dksX4_account_2 13 rfl rfl)
theorem dX4_account_104 : decode cX4_account 104 = .ok (.bipush 24, 2) := dk_16 24 (dk_at dksX4_account_2 16 rfl rfl)
theorem dX4_account_106 : decode cX4_account 106 = .ok (.iaload, 1) := dk_46 (dk_at dksX4_account_2 18 rfl rfl)
theorem dX4_account_107 : decode cX4_account 107 = .ok (.invokevirtual 75, 3) := dk_182 0 75 (dk_at dksX4_account_2 19 rfl rfl)
theorem dX4_account_110 : decode cX4_account 110 = .ok (.ireturn, 1) := dk_172 (dk_at dksX4_account_2 22 rfl rfl)
theorem dX4_account_111 : decode cX4_account 111 = .ok (.aload_n 0, 1) := dk_42 (dk_at dksX4_account_2 23 rfl rfl)
theorem dX4_account_112 : decode cX4_account 112 = .ok (.aload_n 0, 1) := dk_42 (dk_at dksX4_account_3 0 rfl rfl)
theorem dX4_account_113 : decode cX4_account 113 = .ok (.bipush 28, 2) := dk_16 28 (dk_at dksX4_account_3 1 rfl rfl)
theorem dX4_account_115 : decode cX4_account 115 = .ok (.aload_n 0, 1) := dk_42 (dk_at dksX4_account_3 3 rfl rfl)
theorem dX4_account_116 : decode cX4_account 116 = .ok (.getfield 7, 3) := dk_180 0 7 (dk_at dksX4_account_3 4 rfl rfl)
theorem dX4_account_119 : decode cX4_account 119 = .ok (.bipush 24, 2) := dk_16 24 (dk_at dksX4_account_3 7 rfl rfl)
theorem dX4_account_121 : decode cX4_account 121 = .ok (.iaload, 1) := dk_46 (dk_at dksX4_account_3 9 rfl rfl)
theorem dX4_account_122 : decode cX4_account 122 = .ok (.invokevirtual 259, 3) := dk_182 1 3 (dk_at dksX4_account_3 10 rfl rfl)
theorem dX4_account_125 : decode cX4_account 125 = .ok (.invokevirtual 75, 3) := dk_182 0 75 (dk_at dksX4_account_3 13 rfl rfl)
theorem dX4_account_128 : decode cX4_account 128 = .ok (.ireturn, 1) := dk_172 (dk_at dksX4_account_3 16 rfl rfl)
theorem dX4_account_129 : decode cX4_account 129 = .ok (.aload_n 0, 1) := dk_42 (dk_at dksX4_account_3 17 rfl rfl)
theorem dX4_account_130 : decode cX4_account 130 = .ok (.aload_n 0, 1) := dk_42 (dk_at dksX4_account_3 18 rfl rfl)
theorem dX4_account_131 : decode cX4_account 131 = .ok (.getfield 7, 3) := dk_180 0 7 (dk_at dksX4_account_3 19 rfl rfl)
theorem dX4_account_134 : decode cX4_account 134 = .ok (.bipush 46, 2) := dk_16 46 (dk_at dksX4_account_3 22 rfl rfl)
theorem dX4_account_136 : decode cX4_account 136 = .ok (.iaload, 1) := dk_46 (dk_at dksX4_account_4 0 rfl rfl)
theorem dX4_account_137 : decode cX4_account 137 = .ok (.invokevirtual 75, 3) := dk_182 0 75 (dk_at dksX4_account_4 1 rfl rfl)
theorem dX4_account_140 : decode cX4_account 140 = .ok (.ireturn, 1) := dk_172 (dk_at dksX4_account_4 4 rfl rfl)
theorem dX4_account_141 : decode cX4_account 141 = .ok (.aload_n 0, 1) := dk_42 (dk_at dksX4_account_4 5 rfl rfl)
theorem dX4_account_142 : decode cX4_account 142 = .ok (.aload_n 0, 1) := dk_42 (dk_at dksX4_account_4 6 rfl rfl)
theorem dX4_account_143 : decode cX4_account 143 = .ok (.bipush 57, 2) := dk_16 57 (dk_at dksX4_account_4 7 rfl rfl)
theorem dX4_account_145 : decode cX4_account 145 = .ok (.aload_n 0, 1) := dk_42 (dk_at dksX4_account_4 9 rfl rfl)
theorem dX4_account_146 : decode cX4_account 146 = .ok (.getfield 7, 3) := dk_180 0 7 (dk_at dksX4_account_4 10 rfl rfl)
theorem dX4_account_149 : decode cX4_account 149 = .ok (.bipush 46, 2) := dk_16 46 (dk_at dksX4_account_4 13 rfl rfl)
theorem dX4_account_151 : decode cX4_account 151 = .ok (.iaload, 1) := dk_46 (dk_at dksX4_account_4 15 rfl rfl)
theorem dX4_account_152 : decode cX4_account 152 = .ok (.invokevirtual 259, 3) := dk_182 1 3 (dk_at dksX4_account_4 16 rfl rfl)
theorem dX4_account_155 : decode cX4_account 155 = .ok (.invokevirtual 75, 3) := dk_182 0 75 (dk_at dksX4_account_4 19 rfl rfl)
theorem dX4_account_158 : decode cX4_account 158 = .ok (.ireturn, 1) := dk_172 (dk_at dksX4_account_4 22 rfl rfl)
theorem dX4_account_159 : decode cX4_account 159 = .ok (.aload_n 0, 1) := dk_42 (dk_at dksX4_account_4 23 rfl rfl)
theorem dX4_account_160 : decode cX4_account 160 = .ok (.aload_n 0, 1) := dk_42 (dk_at dksX4_account_5 0 rfl rfl)
theorem dX4_account_161 : decode cX4_account 161 = .ok (.bipush 47, 2) := dk_16 47 (dk_at dksX4_account_5 1 rfl rfl)
theorem dX4_account_163 : decode cX4_account 163 = .ok (.bipush 10, 2) := dk_16 10 (dk_at dksX4_account_5 3 rfl rfl)
theorem dX4_account_165 : decode cX4_account 165 = .ok (.invokevirtual 262, 3) := dk_182 1 6 (dk_at dksX4_account_5 5 rfl rfl)
theorem dX4_account_168 : decode cX4_account 168 = .ok (.invokevirtual 75, 3) := dk_182 0 75 (dk_at dksX4_account_5 8 rfl rfl)
theorem dX4_account_171 : decode cX4_account 171 = .ok (.ireturn, 1) := dk_172 (dk_at dksX4_account_5 11 rfl rfl)
theorem dX4_account_172 : decode cX4_account 172 = .ok (.aload_n 0, 1) := dk_42 (dk_at dksX4_account_5 12 rfl rfl)
theorem dX4_account_173 : decode cX4_account 173 = .ok (.aload_n 0, 1) := dk_42 (dk_at dksX4_account_5 13 rfl rfl)
theorem dX4_account_174 : decode cX4_account 174 = .ok (.getfield 7, 3) := dk_180 0 7 (dk_at dksX4_account_5 14 rfl rfl)
theorem dX4_account_177 : decode cX4_account 177 = .ok (.bipush 107, 2) := dk_16 107 (dk_at dksX4_account_5 17 rfl rfl)
theorem dX4_account_179 : decode cX4_account 179 = .ok (.iload_n 1, 1) := dk_27 (dk_at dksX4_account_5 19 rfl rfl)
theorem dX4_account_180 : decode cX4_account 180 = .ok (.iadd, 1) := dk_96 (dk_at dksX4_account_5 20 rfl rfl)
theorem dX4_account_181 : decode cX4_account 181 = .ok (.bipush 8, 2) := dk_16 8 (dk_at dksX4_account_5 21 rfl rfl)
theorem dX4_account_183 : decode cX4_account 183 = .ok (.isub, 1) := dk_100 (dk_at dksX4_account_5 23 rfl rfl)
theorem dX4_account_184 : decode cX4_account 184 = .ok (.iaload, 1) := dk_46 (dk_at dksX4_account_6 0 rfl rfl)
theorem dX4_account_185 : decode cX4_account 185 = .ok (.invokevirtual 75, 3) := dk_182 0 75 (dk_at dksX4_account_6 1 rfl rfl)
theorem dX4_account_188 : decode cX4_account 188 = .ok (.ireturn, 1) := dk_172 (dk_at dksX4_account_6 4 rfl rfl)
theorem dX4_account_189 : decode cX4_account 189 = .ok (.aload_n 0, 1) := dk_42 (dk_at dksX4_account_6 5 rfl rfl)
theorem dX4_account_190 : decode cX4_account 190 = .ok (.aload_n 0, 1) := dk_42 (dk_at dksX4_account_6 6 rfl rfl)
theorem dX4_account_191 : decode cX4_account 191 = .ok (.bipush 34, 2) := dk_16 34 (dk_at dksX4_account_6 7 rfl rfl)
theorem dX4_account_193 : decode cX4_account 193 = .ok (.bipush 6, 2) := dk_16 6 (dk_at dksX4_account_6 9 rfl rfl)
theorem dX4_account_195 : decode cX4_account 195 = .ok (.invokevirtual 262, 3) := dk_182 1 6 (dk_at dksX4_account_6 11 rfl rfl)
theorem dX4_account_198 : decode cX4_account 198 = .ok (.invokevirtual 75, 3) := dk_182 0 75 (dk_at dksX4_account_6 14 rfl rfl)
theorem dX4_account_201 : decode cX4_account 201 = .ok (.ireturn, 1) := dk_172 (dk_at dksX4_account_6 17 rfl rfl)
theorem dX4_account_202 : decode cX4_account 202 = .ok (.aload_n 0, 1) := dk_42 (dk_at dksX4_account_6 18 rfl rfl)
theorem dX4_account_203 : decode cX4_account 203 = .ok (.aload_n 0, 1) := dk_42 (dk_at dksX4_account_6 19 rfl rfl)
theorem dX4_account_204 : decode cX4_account 204 = .ok (.getfield 7, 3) := dk_180 0 7 (dk_at dksX4_account_6 20 rfl rfl)
theorem dX4_account_207 : decode cX4_account 207 = .ok (.bipush 110, 2) := dk_16 110 (dk_at dksX4_account_7 0 rfl rfl)
theorem dX4_account_209 : decode cX4_account 209 = .ok (.iaload, 1) := dk_46 (dk_at dksX4_account_7 2 rfl rfl)
theorem dX4_account_210 : decode cX4_account 210 = .ok (.invokevirtual 75, 3) := dk_182 0 75 (dk_at dksX4_account_7 3 rfl rfl)
theorem dX4_account_213 : decode cX4_account 213 = .ok (.ireturn, 1) := dk_172 (dk_at dksX4_account_7 6 rfl rfl)
theorem dX4_account_214 : decode cX4_account 214 = .ok (.aload_n 0, 1) := dk_42 (dk_at dksX4_account_7 7 rfl rfl)
theorem dX4_account_215 : decode cX4_account 215 = .ok (.aload_n 0, 1) := dk_42 (dk_at dksX4_account_7 8 rfl rfl)
theorem dX4_account_216 : decode cX4_account 216 = .ok (.bipush 40, 2) := dk_16 40 (dk_at dksX4_account_7 9 rfl rfl)
theorem dX4_account_218 : decode cX4_account 218 = .ok (.iconst 3, 1) := dk_6 (dk_at dksX4_account_7 11 rfl rfl)
theorem dX4_account_219 : decode cX4_account 219 = .ok (.invokevirtual 262, 3) := dk_182 1 6 (dk_at dksX4_account_7 12 rfl rfl)
theorem dX4_account_222 : decode cX4_account 222 = .ok (.invokevirtual 75, 3) := dk_182 0 75 (dk_at dksX4_account_7 15 rfl rfl)
theorem dX4_account_225 : decode cX4_account 225 = .ok (.ireturn, 1) := dk_172 (dk_at dksX4_account_7 18 rfl rfl)
theorem dX4_account_226 : decode cX4_account 226 = .ok (.aload_n 0, 1) := dk_42 (dk_at dksX4_account_7 19 rfl rfl)
theorem dX4_account_227 : decode cX4_account 227 = .ok (.aload_n 0, 1) := dk_42 (dk_at dksX4_account_7 20 rfl rfl)
theorem dX4_account_228 : decode cX4_account 228 = .ok (.getfield 7, 3) := dk_180 0 7 (dk_at dksX4_account_7 21 rfl rfl)
theorem dX4_account_231 : decode cX4_account 231 = .ok (.bipush 111, 2) := dk_16 111 (dk_at dksX4_account_8 0 rfl rfl)
theorem dX4_account_233 : decode cX4_account 233 = .ok (.iaload, 1) := dk_46 (dk_at dksX4_account_8 2 rfl rfl)
theorem dX4_account_234 : decode cX4_account 234 = .ok (.invokevirtual 75, 3) := dk_182 0 75 (dk_at dksX4_account_8 3 rfl rfl)
theorem dX4_account_237 : decode cX4_account 237 = .ok (.ireturn, 1) := dk_172 (dk_at dksX4_account_8 6 rfl rfl)
theorem dX4_account_238 : decode cX4_account 238 = .ok (.aload_n 0, 1) := dk_42 (dk_at dksX4_account_8 7 rfl rfl)
theorem dX4_account_239 : decode cX4_account 239 = .ok (.aload_n 0, 1) := dk_42 (dk_at dksX4_account_8 8 rfl rfl)
theorem dX4_account_240 : decode cX4_account 240 = .ok (.iconst 3, 1) := dk_6 (dk_at dksX4_account_8 9 rfl rfl)
theorem dX4_account_241 : decode cX4_account 241 = .ok (.bipush 18, 2) := dk_16 18 (dk_at dksX4_account_8 10 rfl rfl)
theorem dX4_account_243 : decode cX4_account 243 = .ok (.invokevirtual 262, 3) := dk_182 1 6 (dk_at dksX4_account_8 12 rfl rfl)
theorem dX4_account_246 : decode cX4_account 246 = .ok (.invokevirtual 75, 3) := dk_182 0 75 (dk_at dksX4_account_8 15 rfl rfl)
theorem dX4_account_249 : decode cX4_account 249 = .ok (.ireturn, 1) := dk_172 (dk_at dksX4_account_8 18 rfl rfl)
theorem dX4_account_250 : decode cX4_account 250 = .ok (.aload_n 0, 1) := dk_42 (dk_at dksX4_account_8 19 rfl rfl)
theorem dX4_account_251 : decode cX4_account 251 = .ok (.aload_n 0, 1) := dk_42 (dk_at dksX4_account_8 20 rfl rfl)
theorem dX4_account_252 : decode cX4_account 252 = .ok (.getfield 154, 3) := dk_180 0 154 (dk_at dksX4_account_8 21 rfl rfl)
theorem dX4_account_255 : decode cX4_account 255 = .ok (.invokevirtual 75, 3) := dk_182 0 75 (dk_at dksX4_account_9 0 rfl rfl)
theorem dX4_account_258 : decode cX4_account 258 = .ok (.ireturn, 1) := dk_172 (dk_at dksX4_account_9 3 rfl rfl)
theorem dX4_account_259 : decode cX4_account 259 = .ok (.aload_n 0, 1) := dk_42 (dk_at dksX4_account_9 4 rfl rfl)
theorem dX4_account_260 : decode cX4_account 260 = .ok (.aload_n 0, 1) := dk_42 (dk_at dksX4_account_9 5 rfl rfl)
theorem dX4_account_261 : decode cX4_account 261 = .ok (.getfield 57, 3) := dk_180 0 57 (dk_at dksX4_account_9 6 rfl rfl)
theorem dX4_account_264 : decode cX4_account 264 = .ok (.invokevirtual 75, 3) := dk_182 0 75 (dk_at dksX4_account_9 9 rfl rfl)
theorem dX4_account_267 : decode cX4_account 267 = .ok (.ireturn, 1) := dk_172 (dk_at dksX4_account_9 12 rfl rfl)
theorem dX4_account_268 : decode cX4_account 268 = .ok (.aload_n 0, 1) := dk_42 (dk_at dksX4_account_9 13 rfl rfl)
theorem dX4_account_269 : decode cX4_account 269 = .ok (.iconst 1, 1) := dk_4 (dk_at dksX4_account_9 14 rfl rfl)
theorem dX4_account_270 : decode cX4_account 270 = .ok (.invokevirtual 68, 3) := dk_182 0 68 (dk_at dksX4_account_9 15 rfl rfl)
theorem dX4_account_273 : decode cX4_account 273 = .ok (.ireturn, 1) := dk_172 (dk_at dksX4_account_9 18 rfl rfl)
abbrev cX4_notNone : ByteArray := prog_19_method_79_code
def yX4_notNone : MethodName := ⟨RX4, "notNone", "(II)I"⟩
def dkwX4_notNone_1 : List UInt8 := [160, 0, 7, 3, 167, 0, 4, 4, 96, 62, 132, 4, 1, 167, 255, 226, 29, 172]
abbrev dktX4_notNone_1 : List UInt8 := dkwX4_notNone_1 ++ []
def dkwX4_notNone_0 : List UInt8 := [3, 62, 3, 54, 4, 21, 4, 28, 162, 0, 30, 29, 42, 180, 0, 7, 27, 21, 4, 96, 46, 2]
abbrev dktX4_notNone_0 : List UInt8 := dkwX4_notNone_0 ++ dktX4_notNone_1
theorem dksX4_notNone_0 : cX4_notNone.data.toList.drop 0 = dktX4_notNone_0 := by decide +kernel
theorem dksX4_notNone_1 : cX4_notNone.data.toList.drop 22 = dktX4_notNone_1 := dk_seg dksX4_notNone_0 22 rfl rfl
theorem dX4_notNone_0 : decode cX4_notNone 0 = .ok (.iconst 0, 1) := dk_3 (dk_at dksX4_notNone_0 0 rfl rfl)
theorem dX4_notNone_1 : decode cX4_notNone 1 = .ok (.istore_n 3, 1) := dk_62 (dk_at dksX4_notNone_0 1 rfl rfl)
theorem dX4_notNone_2 : decode cX4_notNone 2 = .ok (.iconst 0, 1) := dk_3 (dk_at dksX4_notNone_0 2 rfl rfl)
theorem dX4_notNone_3 : decode cX4_notNone 3 = .ok (.istore 4, 2) := dk_54 4 (dk_at dksX4_notNone_0 3 rfl rfl)
theorem dX4_notNone_5 : decode cX4_notNone 5 = .ok (.iload 4, 2) := dk_21 4 (dk_at dksX4_notNone_0 5 rfl rfl)
theorem dX4_notNone_7 : decode cX4_notNone 7 = .ok (.iload_n 2, 1) := dk_28 (dk_at dksX4_notNone_0 7 rfl rfl)
theorem dX4_notNone_8 : decode cX4_notNone 8 = .ok (.if_icmp .ge 30, 3) := dk_162 0 30 (dk_at dksX4_notNone_0 8 rfl rfl)
theorem dX4_notNone_11 : decode cX4_notNone 11 = .ok (.iload_n 3, 1) := dk_29 (dk_at dksX4_notNone_0 11 rfl rfl)
theorem dX4_notNone_12 : decode cX4_notNone 12 = .ok (.aload_n 0, 1) := dk_42 (dk_at dksX4_notNone_0 12 rfl rfl)
theorem dX4_notNone_13 : decode cX4_notNone 13 = .ok (.getfield 7, 3) := dk_180 0 7 (dk_at dksX4_notNone_0 13 rfl rfl)
theorem dX4_notNone_16 : decode cX4_notNone 16 = .ok (.iload_n 1, 1) := dk_27 (dk_at dksX4_notNone_0 16 rfl rfl)
theorem dX4_notNone_17 : decode cX4_notNone 17 = .ok (.iload 4, 2) := dk_21 4 (dk_at dksX4_notNone_0 17 rfl rfl)
theorem dX4_notNone_19 : decode cX4_notNone 19 = .ok (.iadd, 1) := dk_96 (dk_at dksX4_notNone_0 19 rfl rfl)
theorem dX4_notNone_20 : decode cX4_notNone 20 = .ok (.iaload, 1) := dk_46 (dk_at dksX4_notNone_0 20 rfl rfl)
theorem dX4_notNone_21 : decode cX4_notNone 21 = .ok (.iconst (-1), 1) := dk_2 (dk_at dksX4_notNone_0 21 rfl rfl)
theorem dX4_notNone_22 : decode cX4_notNone 22 = .ok (.if_icmp .ne 7, 3) := dk_160 0 7 (dk_at dksX4_notNone_1 0 rfl rfl)
theorem dX4_notNone_25 : decode cX4_notNone 25 = .ok (.iconst 0, 1) := dk_3 (dk_at dksX4_notNone_1 3 rfl rfl)
theorem dX4_notNone_26 : decode cX4_notNone 26 = .ok (.goto 4, 3) := dk_167 0 4 (dk_at dksX4_notNone_1 4 rfl rfl)
theorem dX4_notNone_29 : decode cX4_notNone 29 = .ok (.iconst 1, 1) := dk_4 (dk_at dksX4_notNone_1 7 rfl rfl)
theorem dX4_notNone_30 : decode cX4_notNone 30 = .ok (.iadd, 1) := dk_96 (dk_at dksX4_notNone_1 8 rfl rfl)
theorem dX4_notNone_31 : decode cX4_notNone 31 = .ok (.istore_n 3, 1) := dk_62 (dk_at dksX4_notNone_1 9 rfl rfl)
theorem dX4_notNone_32 : decode cX4_notNone 32 = .ok (.iinc 4 1, 3) := dk_132 4 1 (dk_at dksX4_notNone_1 10 rfl rfl)
theorem dX4_notNone_35 : decode cX4_notNone 35 = .ok (.goto (-30), 3) := dk_167 255 226 (dk_at dksX4_notNone_1 13 rfl rfl)
theorem dX4_notNone_38 : decode cX4_notNone 38 = .ok (.iload_n 3, 1) := dk_29 (dk_at dksX4_notNone_1 16 rfl rfl)
theorem dX4_notNone_39 : decode cX4_notNone 39 = .ok (.ireturn, 1) := dk_172 (dk_at dksX4_notNone_1 17 rfl rfl)
abbrev cX4_sum : ByteArray := prog_19_method_11_code
def yX4_sum : MethodName := ⟨RX4, "sum", "(II)I"⟩
def dkwX4_sum_1 : List UInt8 := [132, 4, 1, 167, 255, 235, 29, 172]
abbrev dktX4_sum_1 : List UInt8 := dkwX4_sum_1 ++ []
def dkwX4_sum_0 : List UInt8 := [3, 62, 3, 54, 4, 21, 4, 28, 162, 0, 21, 29, 42, 180, 0, 7, 27, 21, 4, 96, 46, 96, 62]
abbrev dktX4_sum_0 : List UInt8 := dkwX4_sum_0 ++ dktX4_sum_1
theorem dksX4_sum_0 : cX4_sum.data.toList.drop 0 = dktX4_sum_0 := by decide +kernel
theorem dksX4_sum_1 : cX4_sum.data.toList.drop 23 = dktX4_sum_1 := dk_seg dksX4_sum_0 23 rfl rfl
theorem dX4_sum_0 : decode cX4_sum 0 = .ok (.iconst 0, 1) := dk_3 (dk_at dksX4_sum_0 0 rfl rfl)
theorem dX4_sum_1 : decode cX4_sum 1 = .ok (.istore_n 3, 1) := dk_62 (dk_at dksX4_sum_0 1 rfl rfl)
theorem dX4_sum_2 : decode cX4_sum 2 = .ok (.iconst 0, 1) := dk_3 (dk_at dksX4_sum_0 2 rfl rfl)
theorem dX4_sum_3 : decode cX4_sum 3 = .ok (.istore 4, 2) := dk_54 4 (dk_at dksX4_sum_0 3 rfl rfl)
theorem dX4_sum_5 : decode cX4_sum 5 = .ok (.iload 4, 2) := dk_21 4 (dk_at dksX4_sum_0 5 rfl rfl)
theorem dX4_sum_7 : decode cX4_sum 7 = .ok (.iload_n 2, 1) := dk_28 (dk_at dksX4_sum_0 7 rfl rfl)
theorem dX4_sum_8 : decode cX4_sum 8 = .ok (.if_icmp .ge 21, 3) := dk_162 0 21 (dk_at dksX4_sum_0 8 rfl rfl)
theorem dX4_sum_11 : decode cX4_sum 11 = .ok (.iload_n 3, 1) := dk_29 (dk_at dksX4_sum_0 11 rfl rfl)
theorem dX4_sum_12 : decode cX4_sum 12 = .ok (.aload_n 0, 1) := dk_42 (dk_at dksX4_sum_0 12 rfl rfl)
theorem dX4_sum_13 : decode cX4_sum 13 = .ok (.getfield 7, 3) := dk_180 0 7 (dk_at dksX4_sum_0 13 rfl rfl)
theorem dX4_sum_16 : decode cX4_sum 16 = .ok (.iload_n 1, 1) := dk_27 (dk_at dksX4_sum_0 16 rfl rfl)
theorem dX4_sum_17 : decode cX4_sum 17 = .ok (.iload 4, 2) := dk_21 4 (dk_at dksX4_sum_0 17 rfl rfl)
theorem dX4_sum_19 : decode cX4_sum 19 = .ok (.iadd, 1) := dk_96 (dk_at dksX4_sum_0 19 rfl rfl)
theorem dX4_sum_20 : decode cX4_sum 20 = .ok (.iaload, 1) := dk_46 (dk_at dksX4_sum_0 20 rfl rfl)
theorem dX4_sum_21 : decode cX4_sum 21 = .ok (.iadd, 1) := dk_96 (dk_at dksX4_sum_0 21 rfl rfl)
theorem dX4_sum_22 : decode cX4_sum 22 = .ok (.istore_n 3, 1) := dk_62 (dk_at dksX4_sum_0 22 rfl rfl)
theorem dX4_sum_23 : decode cX4_sum 23 = .ok (.iinc 4 1, 3) := dk_132 4 1 (dk_at dksX4_sum_1 0 rfl rfl)
theorem dX4_sum_26 : decode cX4_sum 26 = .ok (.goto (-21), 3) := dk_167 255 235 (dk_at dksX4_sum_1 3 rfl rfl)
theorem dX4_sum_29 : decode cX4_sum 29 = .ok (.iload_n 3, 1) := dk_29 (dk_at dksX4_sum_1 6 rfl rfl)
theorem dX4_sum_30 : decode cX4_sum 30 = .ok (.ireturn, 1) := dk_172 (dk_at dksX4_sum_1 7 rfl rfl)
abbrev cX4_holdsAgain : ByteArray := prog_19_method_81_code
def yX4_holdsAgain : MethodName := ⟨RX4, "holdsAgain", "()I"⟩
def dkwX4_holdsAgain_1 : List UInt8 := [182, 0, 75, 172]
abbrev dktX4_holdsAgain_1 : List UInt8 := dkwX4_holdsAgain_1 ++ []
def dkwX4_holdsAgain_0 : List UInt8 := [42, 42, 180, 0, 7, 16, 108, 46, 42, 180, 0, 7, 16, 109, 46, 100, 42, 180, 0, 7, 16, 110, 46, 100]
abbrev dktX4_holdsAgain_0 : List UInt8 := dkwX4_holdsAgain_0 ++ dktX4_holdsAgain_1
theorem dksX4_holdsAgain_0 : cX4_holdsAgain.data.toList.drop 0 = dktX4_holdsAgain_0 := by decide +kernel
theorem dksX4_holdsAgain_1 : cX4_holdsAgain.data.toList.drop 24 = dktX4_holdsAgain_1 := dk_seg dksX4_holdsAgain_0 24 rfl rfl
theorem dX4_holdsAgain_0 : decode cX4_holdsAgain 0 = .ok (.aload_n 0, 1) := dk_42 (dk_at dksX4_holdsAgain_0 0 rfl rfl)
theorem dX4_holdsAgain_1 : decode cX4_holdsAgain 1 = .ok (.aload_n 0, 1) := dk_42 (dk_at dksX4_holdsAgain_0 1 rfl rfl)
theorem dX4_holdsAgain_2 : decode cX4_holdsAgain 2 = .ok (.getfield 7, 3) := dk_180 0 7 (dk_at dksX4_holdsAgain_0 2 rfl rfl)
theorem dX4_holdsAgain_5 : decode cX4_holdsAgain 5 = .ok (.bipush 108, 2) := dk_16 108 (dk_at dksX4_holdsAgain_0 5 rfl rfl)
theorem dX4_holdsAgain_7 : decode cX4_holdsAgain 7 = .ok (.iaload, 1) := dk_46 (dk_at dksX4_holdsAgain_0 7 rfl rfl)
theorem dX4_holdsAgain_8 : decode cX4_holdsAgain 8 = .ok (.aload_n 0, 1) := dk_42 (dk_at dksX4_holdsAgain_0 8 rfl rfl)
theorem dX4_holdsAgain_9 : decode cX4_holdsAgain 9 = .ok (.getfield 7, 3) := dk_180 0 7 (dk_at dksX4_holdsAgain_0 9 rfl rfl)
theorem dX4_holdsAgain_12 : decode cX4_holdsAgain 12 = .ok (.bipush 109, 2) := dk_16 109 (dk_at dksX4_holdsAgain_0 12 rfl rfl)
theorem dX4_holdsAgain_14 : decode cX4_holdsAgain 14 = .ok (.iaload, 1) := dk_46 (dk_at dksX4_holdsAgain_0 14 rfl rfl)
theorem dX4_holdsAgain_15 : decode cX4_holdsAgain 15 = .ok (.isub, 1) := dk_100 (dk_at dksX4_holdsAgain_0 15 rfl rfl)
theorem dX4_holdsAgain_16 : decode cX4_holdsAgain 16 = .ok (.aload_n 0, 1) := dk_42 (dk_at dksX4_holdsAgain_0 16 rfl rfl)
theorem dX4_holdsAgain_17 : decode cX4_holdsAgain 17 = .ok (.getfield 7, 3) := dk_180 0 7 (dk_at dksX4_holdsAgain_0 17 rfl rfl)
theorem dX4_holdsAgain_20 : decode cX4_holdsAgain 20 = .ok (.bipush 110, 2) := dk_16 110 (dk_at dksX4_holdsAgain_0 20 rfl rfl)
theorem dX4_holdsAgain_22 : decode cX4_holdsAgain 22 = .ok (.iaload, 1) := dk_46 (dk_at dksX4_holdsAgain_0 22 rfl rfl)
theorem dX4_holdsAgain_23 : decode cX4_holdsAgain 23 = .ok (.isub, 1) := dk_100 (dk_at dksX4_holdsAgain_0 23 rfl rfl)
theorem dX4_holdsAgain_24 : decode cX4_holdsAgain 24 = .ok (.invokevirtual 75, 3) := dk_182 0 75 (dk_at dksX4_holdsAgain_1 0 rfl rfl)
theorem dX4_holdsAgain_27 : decode cX4_holdsAgain 27 = .ok (.ireturn, 1) := dk_172 (dk_at dksX4_holdsAgain_1 3 rfl rfl)
abbrev cX4_meanPots : ByteArray := prog_19_method_82_code
def yX4_meanPots : MethodName := ⟨RX4, "meanPots", "()D"⟩
def dkwX4_meanPots_2 : List UInt8 := [111, 175]
abbrev dktX4_meanPots_2 : List UInt8 := dkwX4_meanPots_2 ++ []
def dkwX4_meanPots_1 : List UInt8 := [153, 0, 7, 14, 167, 0, 21, 42, 16, 47, 16, 10, 182, 1, 6, 135, 42, 180, 0, 7, 16, 46, 46, 135]
abbrev dktX4_meanPots_1 : List UInt8 := dkwX4_meanPots_1 ++ dktX4_meanPots_2
def dkwX4_meanPots_0 : List UInt8 := [42, 42, 180, 0, 7, 16, 46, 46, 154, 0, 7, 4, 167, 0, 4, 3, 181, 0, 42, 42, 180, 0, 42]
abbrev dktX4_meanPots_0 : List UInt8 := dkwX4_meanPots_0 ++ dktX4_meanPots_1
theorem dksX4_meanPots_0 : cX4_meanPots.data.toList.drop 0 = dktX4_meanPots_0 := by decide +kernel
theorem dksX4_meanPots_1 : cX4_meanPots.data.toList.drop 23 = dktX4_meanPots_1 := dk_seg dksX4_meanPots_0 23 rfl rfl
theorem dksX4_meanPots_2 : cX4_meanPots.data.toList.drop 47 = dktX4_meanPots_2 := dk_seg dksX4_meanPots_1 24 rfl rfl
theorem dX4_meanPots_0 : decode cX4_meanPots 0 = .ok (.aload_n 0, 1) := dk_42 (dk_at dksX4_meanPots_0 0 rfl rfl)
theorem dX4_meanPots_1 : decode cX4_meanPots 1 = .ok (.aload_n 0, 1) := dk_42 (dk_at dksX4_meanPots_0 1 rfl rfl)
theorem dX4_meanPots_2 : decode cX4_meanPots 2 = .ok (.getfield 7, 3) := dk_180 0 7 (dk_at dksX4_meanPots_0 2 rfl rfl)
theorem dX4_meanPots_5 : decode cX4_meanPots 5 = .ok (.bipush 46, 2) := dk_16 46 (dk_at dksX4_meanPots_0 5 rfl rfl)
theorem dX4_meanPots_7 : decode cX4_meanPots 7 = .ok (.iaload, 1) := dk_46 (dk_at dksX4_meanPots_0 7 rfl rfl)
theorem dX4_meanPots_8 : decode cX4_meanPots 8 = .ok (.ifCond .ne 7, 3) := dk_154 0 7 (dk_at dksX4_meanPots_0 8 rfl rfl)
theorem dX4_meanPots_11 : decode cX4_meanPots 11 = .ok (.iconst 1, 1) := dk_4 (dk_at dksX4_meanPots_0 11 rfl rfl)
theorem dX4_meanPots_12 : decode cX4_meanPots 12 = .ok (.goto 4, 3) := dk_167 0 4 (dk_at dksX4_meanPots_0 12 rfl rfl)
theorem dX4_meanPots_15 : decode cX4_meanPots 15 = .ok (.iconst 0, 1) := dk_3 (dk_at dksX4_meanPots_0 15 rfl rfl)
theorem dX4_meanPots_16 : decode cX4_meanPots 16 = .ok (.putfield 42, 3) := dk_181 0 42 (dk_at dksX4_meanPots_0 16 rfl rfl)
theorem dX4_meanPots_19 : decode cX4_meanPots 19 = .ok (.aload_n 0, 1) := dk_42 (dk_at dksX4_meanPots_0 19 rfl rfl)
theorem dX4_meanPots_20 : decode cX4_meanPots 20 = .ok (.getfield 42, 3) := dk_180 0 42 (dk_at dksX4_meanPots_0 20 rfl rfl)
theorem dX4_meanPots_23 : decode cX4_meanPots 23 = .ok (.ifCond .eq 7, 3) := dk_153 0 7 (dk_at dksX4_meanPots_1 0 rfl rfl)
theorem dX4_meanPots_26 : decode cX4_meanPots 26 = .ok (.dconst 0, 1) := dk_14 (dk_at dksX4_meanPots_1 3 rfl rfl)
theorem dX4_meanPots_27 : decode cX4_meanPots 27 = .ok (.goto 21, 3) := dk_167 0 21 (dk_at dksX4_meanPots_1 4 rfl rfl)
theorem dX4_meanPots_30 : decode cX4_meanPots 30 = .ok (.aload_n 0, 1) := dk_42 (dk_at dksX4_meanPots_1 7 rfl rfl)
theorem dX4_meanPots_31 : decode cX4_meanPots 31 = .ok (.bipush 47, 2) := dk_16 47 (dk_at dksX4_meanPots_1 8 rfl rfl)
theorem dX4_meanPots_33 : decode cX4_meanPots 33 = .ok (.bipush 10, 2) := dk_16 10 (dk_at dksX4_meanPots_1 10 rfl rfl)
theorem dX4_meanPots_35 : decode cX4_meanPots 35 = .ok (.invokevirtual 262, 3) := dk_182 1 6 (dk_at dksX4_meanPots_1 12 rfl rfl)
theorem dX4_meanPots_38 : decode cX4_meanPots 38 = .ok (.i2d, 1) := dk_135 (dk_at dksX4_meanPots_1 15 rfl rfl)
theorem dX4_meanPots_39 : decode cX4_meanPots 39 = .ok (.aload_n 0, 1) := dk_42 (dk_at dksX4_meanPots_1 16 rfl rfl)
theorem dX4_meanPots_40 : decode cX4_meanPots 40 = .ok (.getfield 7, 3) := dk_180 0 7 (dk_at dksX4_meanPots_1 17 rfl rfl)
theorem dX4_meanPots_43 : decode cX4_meanPots 43 = .ok (.bipush 46, 2) := dk_16 46 (dk_at dksX4_meanPots_1 20 rfl rfl)
theorem dX4_meanPots_45 : decode cX4_meanPots 45 = .ok (.iaload, 1) := dk_46 (dk_at dksX4_meanPots_1 22 rfl rfl)
theorem dX4_meanPots_46 : decode cX4_meanPots 46 = .ok (.i2d, 1) := dk_135 (dk_at dksX4_meanPots_1 23 rfl rfl)
theorem dX4_meanPots_47 : decode cX4_meanPots 47 = .ok (.ddiv, 1) := dk_111 (dk_at dksX4_meanPots_2 0 rfl rfl)
theorem dX4_meanPots_48 : decode cX4_meanPots 48 = .ok (.dreturn, 1) := dk_175 (dk_at dksX4_meanPots_2 1 rfl rfl)
abbrev cX4_backShare : ByteArray := prog_19_method_83_code
def yX4_backShare : MethodName := ⟨RX4, "backShare", "()F"⟩
def dkwX4_backShare_2 : List UInt8 := [174]
abbrev dktX4_backShare_2 : List UInt8 := dkwX4_backShare_2 ++ []
def dkwX4_backShare_1 : List UInt8 := [153, 0, 7, 11, 167, 0, 20, 42, 180, 0, 7, 16, 109, 46, 134, 42, 180, 0, 7, 16, 108, 46, 134, 110]
abbrev dktX4_backShare_1 : List UInt8 := dkwX4_backShare_1 ++ dktX4_backShare_2
def dkwX4_backShare_0 : List UInt8 := [42, 42, 180, 0, 7, 16, 108, 46, 154, 0, 7, 4, 167, 0, 4, 3, 181, 0, 42, 42, 180, 0, 42]
abbrev dktX4_backShare_0 : List UInt8 := dkwX4_backShare_0 ++ dktX4_backShare_1
theorem dksX4_backShare_0 : cX4_backShare.data.toList.drop 0 = dktX4_backShare_0 := by decide +kernel
theorem dksX4_backShare_1 : cX4_backShare.data.toList.drop 23 = dktX4_backShare_1 := dk_seg dksX4_backShare_0 23 rfl rfl
theorem dksX4_backShare_2 : cX4_backShare.data.toList.drop 47 = dktX4_backShare_2 := dk_seg dksX4_backShare_1 24 rfl rfl
theorem dX4_backShare_0 : decode cX4_backShare 0 = .ok (.aload_n 0, 1) := dk_42 (dk_at dksX4_backShare_0 0 rfl rfl)
theorem dX4_backShare_1 : decode cX4_backShare 1 = .ok (.aload_n 0, 1) := dk_42 (dk_at dksX4_backShare_0 1 rfl rfl)
theorem dX4_backShare_2 : decode cX4_backShare 2 = .ok (.getfield 7, 3) := dk_180 0 7 (dk_at dksX4_backShare_0 2 rfl rfl)
theorem dX4_backShare_5 : decode cX4_backShare 5 = .ok (.bipush 108, 2) := dk_16 108 (dk_at dksX4_backShare_0 5 rfl rfl)
theorem dX4_backShare_7 : decode cX4_backShare 7 = .ok (.iaload, 1) := dk_46 (dk_at dksX4_backShare_0 7 rfl rfl)
theorem dX4_backShare_8 : decode cX4_backShare 8 = .ok (.ifCond .ne 7, 3) := dk_154 0 7 (dk_at dksX4_backShare_0 8 rfl rfl)
theorem dX4_backShare_11 : decode cX4_backShare 11 = .ok (.iconst 1, 1) := dk_4 (dk_at dksX4_backShare_0 11 rfl rfl)
theorem dX4_backShare_12 : decode cX4_backShare 12 = .ok (.goto 4, 3) := dk_167 0 4 (dk_at dksX4_backShare_0 12 rfl rfl)
theorem dX4_backShare_15 : decode cX4_backShare 15 = .ok (.iconst 0, 1) := dk_3 (dk_at dksX4_backShare_0 15 rfl rfl)
theorem dX4_backShare_16 : decode cX4_backShare 16 = .ok (.putfield 42, 3) := dk_181 0 42 (dk_at dksX4_backShare_0 16 rfl rfl)
theorem dX4_backShare_19 : decode cX4_backShare 19 = .ok (.aload_n 0, 1) := dk_42 (dk_at dksX4_backShare_0 19 rfl rfl)
theorem dX4_backShare_20 : decode cX4_backShare 20 = .ok (.getfield 42, 3) := dk_180 0 42 (dk_at dksX4_backShare_0 20 rfl rfl)
theorem dX4_backShare_23 : decode cX4_backShare 23 = .ok (.ifCond .eq 7, 3) := dk_153 0 7 (dk_at dksX4_backShare_1 0 rfl rfl)
theorem dX4_backShare_26 : decode cX4_backShare 26 = .ok (.fconst 0, 1) := dk_11 (dk_at dksX4_backShare_1 3 rfl rfl)
theorem dX4_backShare_27 : decode cX4_backShare 27 = .ok (.goto 20, 3) := dk_167 0 20 (dk_at dksX4_backShare_1 4 rfl rfl)
theorem dX4_backShare_30 : decode cX4_backShare 30 = .ok (.aload_n 0, 1) := dk_42 (dk_at dksX4_backShare_1 7 rfl rfl)
theorem dX4_backShare_31 : decode cX4_backShare 31 = .ok (.getfield 7, 3) := dk_180 0 7 (dk_at dksX4_backShare_1 8 rfl rfl)
theorem dX4_backShare_34 : decode cX4_backShare 34 = .ok (.bipush 109, 2) := dk_16 109 (dk_at dksX4_backShare_1 11 rfl rfl)
theorem dX4_backShare_36 : decode cX4_backShare 36 = .ok (.iaload, 1) := dk_46 (dk_at dksX4_backShare_1 13 rfl rfl)
theorem dX4_backShare_37 : decode cX4_backShare 37 = .ok (.i2f, 1) := dk_134 (dk_at dksX4_backShare_1 14 rfl rfl)
theorem dX4_backShare_38 : decode cX4_backShare 38 = .ok (.aload_n 0, 1) := dk_42 (dk_at dksX4_backShare_1 15 rfl rfl)
theorem dX4_backShare_39 : decode cX4_backShare 39 = .ok (.getfield 7, 3) := dk_180 0 7 (dk_at dksX4_backShare_1 16 rfl rfl)
theorem dX4_backShare_42 : decode cX4_backShare 42 = .ok (.bipush 108, 2) := dk_16 108 (dk_at dksX4_backShare_1 19 rfl rfl)
theorem dX4_backShare_44 : decode cX4_backShare 44 = .ok (.iaload, 1) := dk_46 (dk_at dksX4_backShare_1 21 rfl rfl)
theorem dX4_backShare_45 : decode cX4_backShare 45 = .ok (.i2f, 1) := dk_134 (dk_at dksX4_backShare_1 22 rfl rfl)
theorem dX4_backShare_46 : decode cX4_backShare 46 = .ok (.fdiv, 1) := dk_110 (dk_at dksX4_backShare_1 23 rfl rfl)
theorem dX4_backShare_47 : decode cX4_backShare 47 = .ok (.freturn, 1) := dk_174 (dk_at dksX4_backShare_2 0 rfl rfl)
abbrev cX4_undo : ByteArray := prog_19_method_84_code
def yX4_undo : MethodName := ⟨RX4, "undo", "()I"⟩
def dkwX4_undo_2 : List UInt8 := [182, 0, 75, 172]
abbrev dktX4_undo_2 : List UInt8 := dkwX4_undo_2 ++ []
def dkwX4_undo_1 : List UInt8 := [180, 0, 16, 42, 180, 0, 57, 16, 112, 104, 42, 180, 0, 7, 3, 184, 0, 53, 42, 42, 180, 0, 57]
abbrev dktX4_undo_1 : List UInt8 := dkwX4_undo_1 ++ dktX4_undo_2
def dkwX4_undo_0 : List UInt8 := [42, 180, 0, 57, 154, 0, 9, 42, 4, 182, 0, 68, 172, 42, 89, 180, 0, 57, 4, 100, 181, 0, 57, 42]
abbrev dktX4_undo_0 : List UInt8 := dkwX4_undo_0 ++ dktX4_undo_1
theorem dksX4_undo_0 : cX4_undo.data.toList.drop 0 = dktX4_undo_0 := by decide +kernel
theorem dksX4_undo_1 : cX4_undo.data.toList.drop 24 = dktX4_undo_1 := dk_seg dksX4_undo_0 24 rfl rfl
theorem dksX4_undo_2 : cX4_undo.data.toList.drop 47 = dktX4_undo_2 := dk_seg dksX4_undo_1 23 rfl rfl
theorem dX4_undo_0 : decode cX4_undo 0 = .ok (.aload_n 0, 1) := dk_42 (dk_at dksX4_undo_0 0 rfl rfl)
theorem dX4_undo_1 : decode cX4_undo 1 = .ok (.getfield 57, 3) := dk_180 0 57 (dk_at dksX4_undo_0 1 rfl rfl)
theorem dX4_undo_4 : decode cX4_undo 4 = .ok (.ifCond .ne 9, 3) := dk_154 0 9 (dk_at dksX4_undo_0 4 rfl rfl)
theorem dX4_undo_7 : decode cX4_undo 7 = .ok (.aload_n 0, 1) := dk_42 (dk_at dksX4_undo_0 7 rfl rfl)
theorem dX4_undo_8 : decode cX4_undo 8 = .ok (.iconst 1, 1) := dk_4 (dk_at dksX4_undo_0 8 rfl rfl)
theorem dX4_undo_9 : decode cX4_undo 9 = .ok (.invokevirtual 68, 3) := dk_182 0 68 (dk_at dksX4_undo_0 9 rfl rfl)
theorem dX4_undo_12 : decode cX4_undo 12 = .ok (.ireturn, 1) := dk_172 (dk_at dksX4_undo_0 12 rfl rfl)
theorem dX4_undo_13 : decode cX4_undo 13 = .ok (.aload_n 0, 1) := dk_42 (dk_at dksX4_undo_0 13 rfl rfl)
theorem dX4_undo_14 : decode cX4_undo 14 = .ok (.dup, 1) := dk_89 (dk_at dksX4_undo_0 14 rfl rfl)
theorem dX4_undo_15 : decode cX4_undo 15 = .ok (.getfield 57, 3) := dk_180 0 57 (dk_at dksX4_undo_0 15 rfl rfl)
theorem dX4_undo_18 : decode cX4_undo 18 = .ok (.iconst 1, 1) := dk_4 (dk_at dksX4_undo_0 18 rfl rfl)
theorem dX4_undo_19 : decode cX4_undo 19 = .ok (.isub, 1) := dk_100 (dk_at dksX4_undo_0 19 rfl rfl)
theorem dX4_undo_20 : decode cX4_undo 20 = .ok (.putfield 57, 3) := dk_181 0 57 (dk_at dksX4_undo_0 20 rfl rfl)
theorem dX4_undo_23 : decode cX4_undo 23 = .ok (.aload_n 0, 1) := dk_42 (dk_at dksX4_undo_0 23 rfl rfl)
theorem dX4_undo_24 : decode cX4_undo 24 = .ok (.getfield 16, 3) := dk_180 0 16 (dk_at dksX4_undo_1 0 rfl rfl)
theorem dX4_undo_27 : decode cX4_undo 27 = .ok (.aload_n 0, 1) := dk_42 (dk_at dksX4_undo_1 3 rfl rfl)
theorem dX4_undo_28 : decode cX4_undo 28 = .ok (.getfield 57, 3) := dk_180 0 57 (dk_at dksX4_undo_1 4 rfl rfl)
theorem dX4_undo_31 : decode cX4_undo 31 = .ok (.bipush 112, 2) := dk_16 112 (dk_at dksX4_undo_1 7 rfl rfl)
theorem dX4_undo_33 : decode cX4_undo 33 = .ok (.imul, 1) := dk_104 (dk_at dksX4_undo_1 9 rfl rfl)
theorem dX4_undo_34 : decode cX4_undo 34 = .ok (.aload_n 0, 1) := dk_42 (dk_at dksX4_undo_1 10 rfl rfl)
theorem dX4_undo_35 : decode cX4_undo 35 = .ok (.getfield 7, 3) := dk_180 0 7 (dk_at dksX4_undo_1 11 rfl rfl)
theorem dX4_undo_38 : decode cX4_undo 38 = .ok (.iconst 0, 1) := dk_3 (dk_at dksX4_undo_1 14 rfl rfl)
theorem dX4_undo_39 : decode cX4_undo 39 = .ok (.invokestatic 53, 3) := dk_184 0 53 (dk_at dksX4_undo_1 15 rfl rfl)
theorem dX4_undo_42 : decode cX4_undo 42 = .ok (.aload_n 0, 1) := dk_42 (dk_at dksX4_undo_1 18 rfl rfl)
theorem dX4_undo_43 : decode cX4_undo 43 = .ok (.aload_n 0, 1) := dk_42 (dk_at dksX4_undo_1 19 rfl rfl)
theorem dX4_undo_44 : decode cX4_undo 44 = .ok (.getfield 57, 3) := dk_180 0 57 (dk_at dksX4_undo_1 20 rfl rfl)
theorem dX4_undo_47 : decode cX4_undo 47 = .ok (.invokevirtual 75, 3) := dk_182 0 75 (dk_at dksX4_undo_2 0 rfl rfl)
theorem dX4_undo_50 : decode cX4_undo 50 = .ok (.ireturn, 1) := dk_172 (dk_at dksX4_undo_2 3 rfl rfl)
abbrev cX4_save : ByteArray := prog_19_method_85_code
def yX4_save : MethodName := ⟨RX4, "save", "()I"⟩
def dkwX4_save_1 : List UInt8 := [46, 182, 0, 75, 172]
abbrev dktX4_save_1 : List UInt8 := dkwX4_save_1 ++ []
def dkwX4_save_0 : List UInt8 := [42, 180, 0, 7, 3, 42, 180, 0, 19, 3, 184, 0, 53, 42, 4, 181, 1, 9, 42, 42, 180, 0, 7, 3]
abbrev dktX4_save_0 : List UInt8 := dkwX4_save_0 ++ dktX4_save_1
theorem dksX4_save_0 : cX4_save.data.toList.drop 0 = dktX4_save_0 := by decide +kernel
theorem dksX4_save_1 : cX4_save.data.toList.drop 24 = dktX4_save_1 := dk_seg dksX4_save_0 24 rfl rfl
theorem dX4_save_0 : decode cX4_save 0 = .ok (.aload_n 0, 1) := dk_42 (dk_at dksX4_save_0 0 rfl rfl)
theorem dX4_save_1 : decode cX4_save 1 = .ok (.getfield 7, 3) := dk_180 0 7 (dk_at dksX4_save_0 1 rfl rfl)
theorem dX4_save_4 : decode cX4_save 4 = .ok (.iconst 0, 1) := dk_3 (dk_at dksX4_save_0 4 rfl rfl)
theorem dX4_save_5 : decode cX4_save 5 = .ok (.aload_n 0, 1) := dk_42 (dk_at dksX4_save_0 5 rfl rfl)
theorem dX4_save_6 : decode cX4_save 6 = .ok (.getfield 19, 3) := dk_180 0 19 (dk_at dksX4_save_0 6 rfl rfl)
theorem dX4_save_9 : decode cX4_save 9 = .ok (.iconst 0, 1) := dk_3 (dk_at dksX4_save_0 9 rfl rfl)
theorem dX4_save_10 : decode cX4_save 10 = .ok (.invokestatic 53, 3) := dk_184 0 53 (dk_at dksX4_save_0 10 rfl rfl)
theorem dX4_save_13 : decode cX4_save 13 = .ok (.aload_n 0, 1) := dk_42 (dk_at dksX4_save_0 13 rfl rfl)
theorem dX4_save_14 : decode cX4_save 14 = .ok (.iconst 1, 1) := dk_4 (dk_at dksX4_save_0 14 rfl rfl)
theorem dX4_save_15 : decode cX4_save 15 = .ok (.putfield 265, 3) := dk_181 1 9 (dk_at dksX4_save_0 15 rfl rfl)
theorem dX4_save_18 : decode cX4_save 18 = .ok (.aload_n 0, 1) := dk_42 (dk_at dksX4_save_0 18 rfl rfl)
theorem dX4_save_19 : decode cX4_save 19 = .ok (.aload_n 0, 1) := dk_42 (dk_at dksX4_save_0 19 rfl rfl)
theorem dX4_save_20 : decode cX4_save 20 = .ok (.getfield 7, 3) := dk_180 0 7 (dk_at dksX4_save_0 20 rfl rfl)
theorem dX4_save_23 : decode cX4_save 23 = .ok (.iconst 0, 1) := dk_3 (dk_at dksX4_save_0 23 rfl rfl)
theorem dX4_save_24 : decode cX4_save 24 = .ok (.iaload, 1) := dk_46 (dk_at dksX4_save_1 0 rfl rfl)
theorem dX4_save_25 : decode cX4_save 25 = .ok (.invokevirtual 75, 3) := dk_182 0 75 (dk_at dksX4_save_1 1 rfl rfl)
theorem dX4_save_28 : decode cX4_save 28 = .ok (.ireturn, 1) := dk_172 (dk_at dksX4_save_1 4 rfl rfl)
abbrev cX4_restore : ByteArray := prog_19_method_86_code
def yX4_restore : MethodName := ⟨RX4, "restore", "()I"⟩
def dkwX4_restore_1 : List UInt8 := [184, 0, 53, 42, 3, 181, 0, 57, 42, 42, 180, 0, 7, 3, 46, 182, 0, 75, 172]
abbrev dktX4_restore_1 : List UInt8 := dkwX4_restore_1 ++ []
def dkwX4_restore_0 : List UInt8 := [42, 180, 1, 9, 154, 0, 9, 42, 4, 182, 0, 68, 172, 42, 180, 0, 19, 3, 42, 180, 0, 7, 3]
abbrev dktX4_restore_0 : List UInt8 := dkwX4_restore_0 ++ dktX4_restore_1
theorem dksX4_restore_0 : cX4_restore.data.toList.drop 0 = dktX4_restore_0 := by decide +kernel
theorem dksX4_restore_1 : cX4_restore.data.toList.drop 23 = dktX4_restore_1 := dk_seg dksX4_restore_0 23 rfl rfl
theorem dX4_restore_0 : decode cX4_restore 0 = .ok (.aload_n 0, 1) := dk_42 (dk_at dksX4_restore_0 0 rfl rfl)
theorem dX4_restore_1 : decode cX4_restore 1 = .ok (.getfield 265, 3) := dk_180 1 9 (dk_at dksX4_restore_0 1 rfl rfl)
theorem dX4_restore_4 : decode cX4_restore 4 = .ok (.ifCond .ne 9, 3) := dk_154 0 9 (dk_at dksX4_restore_0 4 rfl rfl)
theorem dX4_restore_7 : decode cX4_restore 7 = .ok (.aload_n 0, 1) := dk_42 (dk_at dksX4_restore_0 7 rfl rfl)
theorem dX4_restore_8 : decode cX4_restore 8 = .ok (.iconst 1, 1) := dk_4 (dk_at dksX4_restore_0 8 rfl rfl)
theorem dX4_restore_9 : decode cX4_restore 9 = .ok (.invokevirtual 68, 3) := dk_182 0 68 (dk_at dksX4_restore_0 9 rfl rfl)
theorem dX4_restore_12 : decode cX4_restore 12 = .ok (.ireturn, 1) := dk_172 (dk_at dksX4_restore_0 12 rfl rfl)
theorem dX4_restore_13 : decode cX4_restore 13 = .ok (.aload_n 0, 1) := dk_42 (dk_at dksX4_restore_0 13 rfl rfl)
theorem dX4_restore_14 : decode cX4_restore 14 = .ok (.getfield 19, 3) := dk_180 0 19 (dk_at dksX4_restore_0 14 rfl rfl)
theorem dX4_restore_17 : decode cX4_restore 17 = .ok (.iconst 0, 1) := dk_3 (dk_at dksX4_restore_0 17 rfl rfl)
theorem dX4_restore_18 : decode cX4_restore 18 = .ok (.aload_n 0, 1) := dk_42 (dk_at dksX4_restore_0 18 rfl rfl)
theorem dX4_restore_19 : decode cX4_restore 19 = .ok (.getfield 7, 3) := dk_180 0 7 (dk_at dksX4_restore_0 19 rfl rfl)
theorem dX4_restore_22 : decode cX4_restore 22 = .ok (.iconst 0, 1) := dk_3 (dk_at dksX4_restore_0 22 rfl rfl)
theorem dX4_restore_23 : decode cX4_restore 23 = .ok (.invokestatic 53, 3) := dk_184 0 53 (dk_at dksX4_restore_1 0 rfl rfl)
theorem dX4_restore_26 : decode cX4_restore 26 = .ok (.aload_n 0, 1) := dk_42 (dk_at dksX4_restore_1 3 rfl rfl)
theorem dX4_restore_27 : decode cX4_restore 27 = .ok (.iconst 0, 1) := dk_3 (dk_at dksX4_restore_1 4 rfl rfl)
theorem dX4_restore_28 : decode cX4_restore 28 = .ok (.putfield 57, 3) := dk_181 0 57 (dk_at dksX4_restore_1 5 rfl rfl)
theorem dX4_restore_31 : decode cX4_restore 31 = .ok (.aload_n 0, 1) := dk_42 (dk_at dksX4_restore_1 8 rfl rfl)
theorem dX4_restore_32 : decode cX4_restore 32 = .ok (.aload_n 0, 1) := dk_42 (dk_at dksX4_restore_1 9 rfl rfl)
theorem dX4_restore_33 : decode cX4_restore 33 = .ok (.getfield 7, 3) := dk_180 0 7 (dk_at dksX4_restore_1 10 rfl rfl)
theorem dX4_restore_36 : decode cX4_restore 36 = .ok (.iconst 0, 1) := dk_3 (dk_at dksX4_restore_1 13 rfl rfl)
theorem dX4_restore_37 : decode cX4_restore 37 = .ok (.iaload, 1) := dk_46 (dk_at dksX4_restore_1 14 rfl rfl)
theorem dX4_restore_38 : decode cX4_restore 38 = .ok (.invokevirtual 75, 3) := dk_182 0 75 (dk_at dksX4_restore_1 15 rfl rfl)
theorem dX4_restore_41 : decode cX4_restore 41 = .ok (.ireturn, 1) := dk_172 (dk_at dksX4_restore_1 18 rfl rfl)
theorem q94 : (Jvm.Cond.initialized "WhelkFleetModel") ∈ lw_all := lw_g (lw_at lw_m1 18 rfl) rfl
theorem q277 : (Jvm.Cond.selects "WhelkFleetModel" ({ cls := "java/lang/Object", name := "getClass", desc := "()Ljava/lang/Class;" } : Jvm.MethodName) ({ cls := "java/lang/Object", name := "getClass", desc := "()Ljava/lang/Class;" } : Jvm.MethodName)) ∈ lw_all := lw_g (lw_at lw_m1 201 rfl) rfl
theorem q1492 : (Jvm.Cond.selects "WhelkFleetModel" ({ cls := "java/lang/Object", name := "toString", desc := "()Ljava/lang/String;" } : Jvm.MethodName) ({ cls := "java/lang/Object", name := "toString", desc := "()Ljava/lang/String;" } : Jvm.MethodName)) ∈ lw_all := lw_g (lw_at lw_m6 216 rfl) rfl
theorem q2562 : (Jvm.Cond.instantiable "WhelkFleetModel" (18 : Nat)) ∈ lw_all := lw_g (lw_at lw_m11 86 rfl) rfl
theorem q2564 : (Jvm.Cond.instanceMethod ({ cls := "WhelkFleetModel", name := "<init>", desc := "()V" } : Jvm.MethodName)) ∈ lw_all := lw_g (lw_at lw_m11 88 rfl) rfl
theorem q2565 : (Jvm.Cond.code ({ cls := "WhelkFleetModel", name := "<init>", desc := "()V" } : Jvm.MethodName) prog_19_method_1_code (2 : Nat) (Option.none : Option Jvm.ClassFile.FieldType)) ∈ lw_all := lw_g (lw_at lw_m11 89 rfl) rfl
theorem q2566 : (Jvm.Cond.methodLink "WhelkFleetModel" (1 : Nat) ({ cls := "java/lang/Object", name := "<init>", desc := "()V" } : Jvm.MethodName)) ∈ lw_all := lw_g (lw_at lw_m11 90 rfl) rfl
theorem q2567 : (Jvm.Cond.fieldLink "WhelkFleetModel" (7 : Nat) "WhelkFleetModel" "g" "[I") ∈ lw_all := lw_g (lw_at lw_m11 91 rfl) rfl
theorem q2568 : (Jvm.Cond.fieldLink "WhelkFleetModel" (13 : Nat) "WhelkFleetModel" "before" "[I") ∈ lw_all := lw_g (lw_at lw_m11 92 rfl) rfl
theorem q2569 : (Jvm.Cond.fieldLink "WhelkFleetModel" (16 : Nat) "WhelkFleetModel" "history" "[I") ∈ lw_all := lw_g (lw_at lw_m11 93 rfl) rfl
theorem q2570 : (Jvm.Cond.fieldLink "WhelkFleetModel" (57 : Nat) "WhelkFleetModel" "changes" "I") ∈ lw_all := lw_g (lw_at lw_m11 94 rfl) rfl
theorem q2571 : (Jvm.Cond.fieldLink "WhelkFleetModel" (19 : Nat) "WhelkFleetModel" "saved" "[I") ∈ lw_all := lw_g (lw_at lw_m11 95 rfl) rfl
theorem q2572 : (Jvm.Cond.fieldLink "WhelkFleetModel" (265 : Nat) "WhelkFleetModel" "hasSaved" "Z") ∈ lw_all := lw_g (lw_at lw_m11 96 rfl) rfl
theorem q2573 : (Jvm.Cond.fieldLink "WhelkFleetModel" (22 : Nat) "WhelkFleetModel" "aside" "[I") ∈ lw_all := lw_g (lw_at lw_m11 97 rfl) rfl
theorem q2574 : (Jvm.Cond.fieldLink "WhelkFleetModel" (25 : Nat) "WhelkFleetModel" "input" "[C") ∈ lw_all := lw_g (lw_at lw_m11 98 rfl) rfl
theorem q2575 : (Jvm.Cond.fieldLink "WhelkFleetModel" (154 : Nat) "WhelkFleetModel" "typed" "I") ∈ lw_all := lw_g (lw_at lw_m11 99 rfl) rfl
theorem q2576 : (Jvm.Cond.fieldLink "WhelkFleetModel" (29 : Nat) "WhelkFleetModel" "errorAt" "I") ∈ lw_all := lw_g (lw_at lw_m11 100 rfl) rfl
theorem q2577 : (Jvm.Cond.fieldLink "WhelkFleetModel" (33 : Nat) "WhelkFleetModel" "why" "[I") ∈ lw_all := lw_g (lw_at lw_m11 101 rfl) rfl
theorem q2578 : (Jvm.Cond.fieldLink "WhelkFleetModel" (45 : Nat) "WhelkFleetModel" "isRefusal" "Z") ∈ lw_all := lw_g (lw_at lw_m11 102 rfl) rfl
theorem q2579 : (Jvm.Cond.fieldLink "WhelkFleetModel" (36 : Nat) "WhelkFleetModel" "line" "[C") ∈ lw_all := lw_g (lw_at lw_m11 103 rfl) rfl
theorem q2580 : (Jvm.Cond.fieldLink "WhelkFleetModel" (241 : Nat) "WhelkFleetModel" "lined" "I") ∈ lw_all := lw_g (lw_at lw_m11 104 rfl) rfl
theorem q2581 : (Jvm.Cond.fieldLink "WhelkFleetModel" (42 : Nat) "WhelkFleetModel" "thrown" "I") ∈ lw_all := lw_g (lw_at lw_m11 105 rfl) rfl
theorem q2582 : (Jvm.Cond.fieldLink "WhelkFleetModel" (173 : Nat) "WhelkFleetModel" "place" "I") ∈ lw_all := lw_g (lw_at lw_m11 106 rfl) rfl
theorem q2583 : (Jvm.Cond.fieldLink "WhelkFleetModel" (176 : Nat) "WhelkFleetModel" "isWrong" "Z") ∈ lw_all := lw_g (lw_at lw_m11 107 rfl) rfl
theorem q2584 : (Jvm.Cond.fieldLink "WhelkFleetModel" (39 : Nat) "WhelkFleetModel" "told" "[I") ∈ lw_all := lw_g (lw_at lw_m11 108 rfl) rfl
theorem q2585 : (Jvm.Cond.laysFinal "WhelkFleetModel" "WhelkFleetModel" "g" "[I") ∈ lw_all := lw_g (lw_at lw_m11 109 rfl) rfl
theorem q2586 : (Jvm.Cond.soleField "WhelkFleetModel" "g") ∈ lw_all := lw_g (lw_at lw_m11 110 rfl) rfl
theorem q2587 : (Jvm.Cond.laysFinal "WhelkFleetModel" "WhelkFleetModel" "before" "[I") ∈ lw_all := lw_g (lw_at lw_m11 111 rfl) rfl
theorem q2588 : (Jvm.Cond.soleField "WhelkFleetModel" "before") ∈ lw_all := lw_g (lw_at lw_m11 112 rfl) rfl
theorem q2589 : (Jvm.Cond.laysFinal "WhelkFleetModel" "WhelkFleetModel" "history" "[I") ∈ lw_all := lw_g (lw_at lw_m11 113 rfl) rfl
theorem q2590 : (Jvm.Cond.soleField "WhelkFleetModel" "history") ∈ lw_all := lw_g (lw_at lw_m11 114 rfl) rfl
theorem q2591 : (Jvm.Cond.lays "WhelkFleetModel" "WhelkFleetModel" "changes" "I") ∈ lw_all := lw_g (lw_at lw_m11 115 rfl) rfl
theorem q2592 : (Jvm.Cond.soleField "WhelkFleetModel" "changes") ∈ lw_all := lw_g (lw_at lw_m11 116 rfl) rfl
theorem q2593 : (Jvm.Cond.laysFinal "WhelkFleetModel" "WhelkFleetModel" "saved" "[I") ∈ lw_all := lw_g (lw_at lw_m11 117 rfl) rfl
theorem q2594 : (Jvm.Cond.soleField "WhelkFleetModel" "saved") ∈ lw_all := lw_g (lw_at lw_m11 118 rfl) rfl
theorem q2595 : (Jvm.Cond.lays "WhelkFleetModel" "WhelkFleetModel" "hasSaved" "Z") ∈ lw_all := lw_g (lw_at lw_m11 119 rfl) rfl
theorem q2596 : (Jvm.Cond.soleField "WhelkFleetModel" "hasSaved") ∈ lw_all := lw_g (lw_at lw_m11 120 rfl) rfl
theorem q2597 : (Jvm.Cond.laysFinal "WhelkFleetModel" "WhelkFleetModel" "aside" "[I") ∈ lw_all := lw_g (lw_at lw_m11 121 rfl) rfl
theorem q2598 : (Jvm.Cond.soleField "WhelkFleetModel" "aside") ∈ lw_all := lw_g (lw_at lw_m11 122 rfl) rfl
theorem q2599 : (Jvm.Cond.laysFinal "WhelkFleetModel" "WhelkFleetModel" "input" "[C") ∈ lw_all := lw_g (lw_at lw_m11 123 rfl) rfl
theorem q2600 : (Jvm.Cond.soleField "WhelkFleetModel" "input") ∈ lw_all := lw_g (lw_at lw_m11 124 rfl) rfl
theorem q2601 : (Jvm.Cond.lays "WhelkFleetModel" "WhelkFleetModel" "typed" "I") ∈ lw_all := lw_g (lw_at lw_m11 125 rfl) rfl
theorem q2602 : (Jvm.Cond.soleField "WhelkFleetModel" "typed") ∈ lw_all := lw_g (lw_at lw_m11 126 rfl) rfl
theorem q2603 : (Jvm.Cond.lays "WhelkFleetModel" "WhelkFleetModel" "errorAt" "I") ∈ lw_all := lw_g (lw_at lw_m11 127 rfl) rfl
theorem q2604 : (Jvm.Cond.soleField "WhelkFleetModel" "errorAt") ∈ lw_all := lw_g (lw_at lw_m11 128 rfl) rfl
theorem q2605 : (Jvm.Cond.laysFinal "WhelkFleetModel" "WhelkFleetModel" "why" "[I") ∈ lw_all := lw_g (lw_at lw_m11 129 rfl) rfl
theorem q2606 : (Jvm.Cond.soleField "WhelkFleetModel" "why") ∈ lw_all := lw_g (lw_at lw_m11 130 rfl) rfl
theorem q2607 : (Jvm.Cond.lays "WhelkFleetModel" "WhelkFleetModel" "isRefusal" "Z") ∈ lw_all := lw_g (lw_at lw_m11 131 rfl) rfl
theorem q2608 : (Jvm.Cond.soleField "WhelkFleetModel" "isRefusal") ∈ lw_all := lw_g (lw_at lw_m11 132 rfl) rfl
theorem q2609 : (Jvm.Cond.laysFinal "WhelkFleetModel" "WhelkFleetModel" "line" "[C") ∈ lw_all := lw_g (lw_at lw_m11 133 rfl) rfl
theorem q2610 : (Jvm.Cond.soleField "WhelkFleetModel" "line") ∈ lw_all := lw_g (lw_at lw_m11 134 rfl) rfl
theorem q2611 : (Jvm.Cond.lays "WhelkFleetModel" "WhelkFleetModel" "lined" "I") ∈ lw_all := lw_g (lw_at lw_m11 135 rfl) rfl
theorem q2612 : (Jvm.Cond.soleField "WhelkFleetModel" "lined") ∈ lw_all := lw_g (lw_at lw_m11 136 rfl) rfl
theorem q2613 : (Jvm.Cond.lays "WhelkFleetModel" "WhelkFleetModel" "thrown" "I") ∈ lw_all := lw_g (lw_at lw_m11 137 rfl) rfl
theorem q2614 : (Jvm.Cond.soleField "WhelkFleetModel" "thrown") ∈ lw_all := lw_g (lw_at lw_m11 138 rfl) rfl
theorem q2615 : (Jvm.Cond.lays "WhelkFleetModel" "WhelkFleetModel" "place" "I") ∈ lw_all := lw_g (lw_at lw_m11 139 rfl) rfl
theorem q2616 : (Jvm.Cond.soleField "WhelkFleetModel" "place") ∈ lw_all := lw_g (lw_at lw_m11 140 rfl) rfl
theorem q2617 : (Jvm.Cond.lays "WhelkFleetModel" "WhelkFleetModel" "isWrong" "Z") ∈ lw_all := lw_g (lw_at lw_m11 141 rfl) rfl
theorem q2618 : (Jvm.Cond.soleField "WhelkFleetModel" "isWrong") ∈ lw_all := lw_g (lw_at lw_m11 142 rfl) rfl
theorem q2619 : (Jvm.Cond.laysFinal "WhelkFleetModel" "WhelkFleetModel" "told" "[I") ∈ lw_all := lw_g (lw_at lw_m11 143 rfl) rfl
theorem q2620 : (Jvm.Cond.soleField "WhelkFleetModel" "told") ∈ lw_all := lw_g (lw_at lw_m11 144 rfl) rfl
theorem q2621 : (Jvm.Cond.superclass "WhelkFleetModel" "java/lang/Object") ∈ lw_all := lw_g (lw_at lw_m11 145 rfl) rfl
theorem q2624 : (Jvm.Cond.instanceMethod ({ cls := "WhelkFleetModel", name := "thrown", desc := "()I" } : Jvm.MethodName)) ∈ lw_all := lw_g (lw_at lw_m11 148 rfl) rfl
theorem q2625 : (Jvm.Cond.selects "WhelkFleetModel" ({ cls := "WhelkFleetModel", name := "thrown", desc := "()I" } : Jvm.MethodName) ({ cls := "WhelkFleetModel", name := "thrown", desc := "()I" } : Jvm.MethodName)) ∈ lw_all := lw_g (lw_at lw_m11 149 rfl) rfl
theorem q2626 : (Jvm.Cond.code ({ cls := "WhelkFleetModel", name := "thrown", desc := "()I" } : Jvm.MethodName) prog_19_method_2_code (1 : Nat) (Option.some Jvm.ClassFile.FieldType.int)) ∈ lw_all := lw_g (lw_at lw_m11 150 rfl) rfl
theorem q2628 : (Jvm.Cond.instanceMethod ({ cls := "WhelkFleetModel", name := "whelks", desc := "(II)I" } : Jvm.MethodName)) ∈ lw_all := lw_g (lw_at lw_m11 152 rfl) rfl
theorem q2629 : (Jvm.Cond.selects "WhelkFleetModel" ({ cls := "WhelkFleetModel", name := "whelks", desc := "(II)I" } : Jvm.MethodName) ({ cls := "WhelkFleetModel", name := "whelks", desc := "(II)I" } : Jvm.MethodName)) ∈ lw_all := lw_g (lw_at lw_m11 153 rfl) rfl
theorem q2630 : (Jvm.Cond.code ({ cls := "WhelkFleetModel", name := "whelks", desc := "(II)I" } : Jvm.MethodName) prog_19_method_14_code (3 : Nat) (Option.some Jvm.ClassFile.FieldType.int)) ∈ lw_all := lw_g (lw_at lw_m11 154 rfl) rfl
theorem q2631 : (Jvm.Cond.methodLink "WhelkFleetModel" (64 : Nat) ({ cls := "WhelkFleetModel", name := "isGround", desc := "(I)Z" } : Jvm.MethodName)) ∈ lw_all := lw_g (lw_at lw_m11 155 rfl) rfl
theorem q2632 : (Jvm.Cond.static ({ cls := "WhelkFleetModel", name := "isGround", desc := "(I)Z" } : Jvm.MethodName)) ∈ lw_all := lw_g (lw_at lw_m11 156 rfl) rfl
theorem q2633 : (Jvm.Cond.code ({ cls := "WhelkFleetModel", name := "isGround", desc := "(I)Z" } : Jvm.MethodName) prog_19_method_12_code (1 : Nat) (Option.some Jvm.ClassFile.FieldType.boolean)) ∈ lw_all := lw_g (lw_at lw_m11 157 rfl) rfl
theorem q2634 : (Jvm.Cond.methodLink "WhelkFleetModel" (60 : Nat) ({ cls := "WhelkFleetModel", name := "in", desc := "(III)Z" } : Jvm.MethodName)) ∈ lw_all := lw_g (lw_at lw_m11 158 rfl) rfl
theorem q2635 : (Jvm.Cond.static ({ cls := "WhelkFleetModel", name := "in", desc := "(III)Z" } : Jvm.MethodName)) ∈ lw_all := lw_g (lw_at lw_m11 159 rfl) rfl
theorem q2636 : (Jvm.Cond.code ({ cls := "WhelkFleetModel", name := "in", desc := "(III)Z" } : Jvm.MethodName) prog_19_method_3_code (3 : Nat) (Option.some Jvm.ClassFile.FieldType.boolean)) ∈ lw_all := lw_g (lw_at lw_m11 160 rfl) rfl
theorem q2637 : (Jvm.Cond.methodLink "WhelkFleetModel" (68 : Nat) ({ cls := "WhelkFleetModel", name := "fails", desc := "(I)I" } : Jvm.MethodName)) ∈ lw_all := lw_g (lw_at lw_m11 161 rfl) rfl
theorem q2638 : (Jvm.Cond.privateMethod ({ cls := "WhelkFleetModel", name := "fails", desc := "(I)I" } : Jvm.MethodName)) ∈ lw_tbl := lw_at lw_m11 162 rfl
theorem q2639 : (Jvm.Cond.instanceMethod ({ cls := "WhelkFleetModel", name := "fails", desc := "(I)I" } : Jvm.MethodName)) ∈ lw_all := lw_g (lw_at lw_m11 163 rfl) rfl
theorem q2640 : (Jvm.Cond.code ({ cls := "WhelkFleetModel", name := "fails", desc := "(I)I" } : Jvm.MethodName) prog_19_method_5_code (2 : Nat) (Option.some Jvm.ClassFile.FieldType.int)) ∈ lw_all := lw_g (lw_at lw_m11 164 rfl) rfl
theorem q2641 : (Jvm.Cond.methodLink "WhelkFleetModel" (72 : Nat) ({ cls := "WhelkFleetModel", name := "isSize", desc := "(I)Z" } : Jvm.MethodName)) ∈ lw_all := lw_g (lw_at lw_m11 165 rfl) rfl
theorem q2642 : (Jvm.Cond.static ({ cls := "WhelkFleetModel", name := "isSize", desc := "(I)Z" } : Jvm.MethodName)) ∈ lw_all := lw_g (lw_at lw_m11 166 rfl) rfl
theorem q2643 : (Jvm.Cond.code ({ cls := "WhelkFleetModel", name := "isSize", desc := "(I)Z" } : Jvm.MethodName) prog_19_method_13_code (1 : Nat) (Option.some Jvm.ClassFile.FieldType.boolean)) ∈ lw_all := lw_g (lw_at lw_m11 167 rfl) rfl
theorem q2644 : (Jvm.Cond.methodLink "WhelkFleetModel" (75 : Nat) ({ cls := "WhelkFleetModel", name := "done", desc := "(I)I" } : Jvm.MethodName)) ∈ lw_all := lw_g (lw_at lw_m11 168 rfl) rfl
theorem q2645 : (Jvm.Cond.privateMethod ({ cls := "WhelkFleetModel", name := "done", desc := "(I)I" } : Jvm.MethodName)) ∈ lw_tbl := lw_at lw_m11 169 rfl
theorem q2646 : (Jvm.Cond.instanceMethod ({ cls := "WhelkFleetModel", name := "done", desc := "(I)I" } : Jvm.MethodName)) ∈ lw_all := lw_g (lw_at lw_m11 170 rfl) rfl
theorem q2647 : (Jvm.Cond.code ({ cls := "WhelkFleetModel", name := "done", desc := "(I)I" } : Jvm.MethodName) prog_19_method_4_code (2 : Nat) (Option.some Jvm.ClassFile.FieldType.int)) ∈ lw_all := lw_g (lw_at lw_m11 171 rfl) rfl
theorem q2649 : (Jvm.Cond.instanceMethod ({ cls := "WhelkFleetModel", name := "stock", desc := "(III)I" } : Jvm.MethodName)) ∈ lw_all := lw_g (lw_at lw_m11 173 rfl) rfl
theorem q2650 : (Jvm.Cond.selects "WhelkFleetModel" ({ cls := "WhelkFleetModel", name := "stock", desc := "(III)I" } : Jvm.MethodName) ({ cls := "WhelkFleetModel", name := "stock", desc := "(III)I" } : Jvm.MethodName)) ∈ lw_all := lw_g (lw_at lw_m11 174 rfl) rfl
theorem q2651 : (Jvm.Cond.code ({ cls := "WhelkFleetModel", name := "stock", desc := "(III)I" } : Jvm.MethodName) prog_19_method_15_code (6 : Nat) (Option.some Jvm.ClassFile.FieldType.int)) ∈ lw_all := lw_g (lw_at lw_m11 175 rfl) rfl
theorem q2652 : (Jvm.Cond.methodLink "WhelkFleetModel" (78 : Nat) ({ cls := "WhelkFleetModel", name := "looksBack", desc := "()V" } : Jvm.MethodName)) ∈ lw_all := lw_g (lw_at lw_m11 176 rfl) rfl
theorem q2653 : (Jvm.Cond.privateMethod ({ cls := "WhelkFleetModel", name := "looksBack", desc := "()V" } : Jvm.MethodName)) ∈ lw_tbl := lw_at lw_m11 177 rfl
theorem q2654 : (Jvm.Cond.instanceMethod ({ cls := "WhelkFleetModel", name := "looksBack", desc := "()V" } : Jvm.MethodName)) ∈ lw_all := lw_g (lw_at lw_m11 178 rfl) rfl
theorem q2655 : (Jvm.Cond.code ({ cls := "WhelkFleetModel", name := "looksBack", desc := "()V" } : Jvm.MethodName) prog_19_method_9_code (1 : Nat) (Option.none : Option Jvm.ClassFile.FieldType)) ∈ lw_all := lw_g (lw_at lw_m11 179 rfl) rfl
theorem q2656 : (Jvm.Cond.methodLink "WhelkFleetModel" (53 : Nat) ({ cls := "WhelkFleetModel", name := "copy", desc := "([II[II)V" } : Jvm.MethodName)) ∈ lw_all := lw_g (lw_at lw_m11 180 rfl) rfl
theorem q2657 : (Jvm.Cond.static ({ cls := "WhelkFleetModel", name := "copy", desc := "([II[II)V" } : Jvm.MethodName)) ∈ lw_all := lw_g (lw_at lw_m11 181 rfl) rfl
theorem q2658 : (Jvm.Cond.code ({ cls := "WhelkFleetModel", name := "copy", desc := "([II[II)V" } : Jvm.MethodName) prog_19_method_8_code (5 : Nat) (Option.none : Option Jvm.ClassFile.FieldType)) ∈ lw_all := lw_g (lw_at lw_m11 182 rfl) rfl
theorem q2659 : (Jvm.Cond.methodLink "WhelkFleetModel" (81 : Nat) ({ cls := "WhelkFleetModel", name := "kept", desc := "(I)I" } : Jvm.MethodName)) ∈ lw_all := lw_g (lw_at lw_m11 183 rfl) rfl
theorem q2660 : (Jvm.Cond.privateMethod ({ cls := "WhelkFleetModel", name := "kept", desc := "(I)I" } : Jvm.MethodName)) ∈ lw_tbl := lw_at lw_m11 184 rfl
theorem q2661 : (Jvm.Cond.instanceMethod ({ cls := "WhelkFleetModel", name := "kept", desc := "(I)I" } : Jvm.MethodName)) ∈ lw_all := lw_g (lw_at lw_m11 185 rfl) rfl
theorem q2662 : (Jvm.Cond.code ({ cls := "WhelkFleetModel", name := "kept", desc := "(I)I" } : Jvm.MethodName) prog_19_method_10_code (3 : Nat) (Option.some Jvm.ClassFile.FieldType.int)) ∈ lw_all := lw_g (lw_at lw_m11 186 rfl) rfl
theorem q2664 : (Jvm.Cond.instanceMethod ({ cls := "WhelkFleetModel", name := "box", desc := "(II)I" } : Jvm.MethodName)) ∈ lw_all := lw_g (lw_at lw_m11 188 rfl) rfl
theorem q2665 : (Jvm.Cond.selects "WhelkFleetModel" ({ cls := "WhelkFleetModel", name := "box", desc := "(II)I" } : Jvm.MethodName) ({ cls := "WhelkFleetModel", name := "box", desc := "(II)I" } : Jvm.MethodName)) ∈ lw_all := lw_g (lw_at lw_m11 189 rfl) rfl
theorem q2666 : (Jvm.Cond.code ({ cls := "WhelkFleetModel", name := "box", desc := "(II)I" } : Jvm.MethodName) prog_19_method_16_code (3 : Nat) (Option.some Jvm.ClassFile.FieldType.int)) ∈ lw_all := lw_g (lw_at lw_m11 190 rfl) rfl
theorem q2668 : (Jvm.Cond.instanceMethod ({ cls := "WhelkFleetModel", name := "bait", desc := "(I)I" } : Jvm.MethodName)) ∈ lw_all := lw_g (lw_at lw_m11 192 rfl) rfl
theorem q2669 : (Jvm.Cond.selects "WhelkFleetModel" ({ cls := "WhelkFleetModel", name := "bait", desc := "(I)I" } : Jvm.MethodName) ({ cls := "WhelkFleetModel", name := "bait", desc := "(I)I" } : Jvm.MethodName)) ∈ lw_all := lw_g (lw_at lw_m11 193 rfl) rfl
theorem q2670 : (Jvm.Cond.code ({ cls := "WhelkFleetModel", name := "bait", desc := "(I)I" } : Jvm.MethodName) prog_19_method_17_code (2 : Nat) (Option.some Jvm.ClassFile.FieldType.int)) ∈ lw_all := lw_g (lw_at lw_m11 194 rfl) rfl
theorem q2672 : (Jvm.Cond.instanceMethod ({ cls := "WhelkFleetModel", name := "draws", desc := "(II)I" } : Jvm.MethodName)) ∈ lw_all := lw_g (lw_at lw_m11 196 rfl) rfl
theorem q2673 : (Jvm.Cond.selects "WhelkFleetModel" ({ cls := "WhelkFleetModel", name := "draws", desc := "(II)I" } : Jvm.MethodName) ({ cls := "WhelkFleetModel", name := "draws", desc := "(II)I" } : Jvm.MethodName)) ∈ lw_all := lw_g (lw_at lw_m11 197 rfl) rfl
theorem q2674 : (Jvm.Cond.code ({ cls := "WhelkFleetModel", name := "draws", desc := "(II)I" } : Jvm.MethodName) prog_19_method_19_code (3 : Nat) (Option.some Jvm.ClassFile.FieldType.int)) ∈ lw_all := lw_g (lw_at lw_m11 198 rfl) rfl
theorem q2675 : (Jvm.Cond.methodLink "WhelkFleetModel" (84 : Nat) ({ cls := "WhelkFleetModel", name := "drawsBy", desc := "(II)I" } : Jvm.MethodName)) ∈ lw_all := lw_g (lw_at lw_m11 199 rfl) rfl
theorem q2676 : (Jvm.Cond.static ({ cls := "WhelkFleetModel", name := "drawsBy", desc := "(II)I" } : Jvm.MethodName)) ∈ lw_all := lw_g (lw_at lw_m11 200 rfl) rfl
theorem q2677 : (Jvm.Cond.code ({ cls := "WhelkFleetModel", name := "drawsBy", desc := "(II)I" } : Jvm.MethodName) prog_19_method_18_code (4 : Nat) (Option.some Jvm.ClassFile.FieldType.int)) ∈ lw_all := lw_g (lw_at lw_m11 201 rfl) rfl
theorem q2679 : (Jvm.Cond.instanceMethod ({ cls := "WhelkFleetModel", name := "bestBait", desc := "(I)I" } : Jvm.MethodName)) ∈ lw_all := lw_g (lw_at lw_m11 203 rfl) rfl
theorem q2680 : (Jvm.Cond.selects "WhelkFleetModel" ({ cls := "WhelkFleetModel", name := "bestBait", desc := "(I)I" } : Jvm.MethodName) ({ cls := "WhelkFleetModel", name := "bestBait", desc := "(I)I" } : Jvm.MethodName)) ∈ lw_all := lw_g (lw_at lw_m11 204 rfl) rfl
theorem q2681 : (Jvm.Cond.code ({ cls := "WhelkFleetModel", name := "bestBait", desc := "(I)I" } : Jvm.MethodName) prog_19_method_20_code (4 : Nat) (Option.some Jvm.ClassFile.FieldType.int)) ∈ lw_all := lw_g (lw_at lw_m11 205 rfl) rfl
theorem q2683 : (Jvm.Cond.instanceMethod ({ cls := "WhelkFleetModel", name := "boat", desc := "(I)I" } : Jvm.MethodName)) ∈ lw_all := lw_g (lw_at lw_m11 207 rfl) rfl
theorem q2684 : (Jvm.Cond.selects "WhelkFleetModel" ({ cls := "WhelkFleetModel", name := "boat", desc := "(I)I" } : Jvm.MethodName) ({ cls := "WhelkFleetModel", name := "boat", desc := "(I)I" } : Jvm.MethodName)) ∈ lw_all := lw_g (lw_at lw_m11 208 rfl) rfl
theorem q2685 : (Jvm.Cond.code ({ cls := "WhelkFleetModel", name := "boat", desc := "(I)I" } : Jvm.MethodName) prog_19_method_23_code (3 : Nat) (Option.some Jvm.ClassFile.FieldType.int)) ∈ lw_all := lw_g (lw_at lw_m11 209 rfl) rfl
theorem q2686 : (Jvm.Cond.methodLink "WhelkFleetModel" (88 : Nat) ({ cls := "WhelkFleetModel", name := "refused", desc := "(III)I" } : Jvm.MethodName)) ∈ lw_all := lw_g (lw_at lw_m11 210 rfl) rfl
theorem q2687 : (Jvm.Cond.privateMethod ({ cls := "WhelkFleetModel", name := "refused", desc := "(III)I" } : Jvm.MethodName)) ∈ lw_tbl := lw_at lw_m11 211 rfl
theorem q2688 : (Jvm.Cond.instanceMethod ({ cls := "WhelkFleetModel", name := "refused", desc := "(III)I" } : Jvm.MethodName)) ∈ lw_all := lw_g (lw_at lw_m11 212 rfl) rfl
theorem q2689 : (Jvm.Cond.code ({ cls := "WhelkFleetModel", name := "refused", desc := "(III)I" } : Jvm.MethodName) prog_19_method_7_code (4 : Nat) (Option.some Jvm.ClassFile.FieldType.int)) ∈ lw_all := lw_g (lw_at lw_m11 213 rfl) rfl
theorem q2690 : (Jvm.Cond.methodLink "WhelkFleetModel" (49 : Nat) ({ cls := "WhelkFleetModel", name := "refusedBy", desc := "(IIIII)I" } : Jvm.MethodName)) ∈ lw_all := lw_g (lw_at lw_m11 214 rfl) rfl
theorem q2691 : (Jvm.Cond.privateMethod ({ cls := "WhelkFleetModel", name := "refusedBy", desc := "(IIIII)I" } : Jvm.MethodName)) ∈ lw_tbl := lw_at lw_m11 215 rfl
theorem q2692 : (Jvm.Cond.instanceMethod ({ cls := "WhelkFleetModel", name := "refusedBy", desc := "(IIIII)I" } : Jvm.MethodName)) ∈ lw_all := lw_g (lw_at lw_m11 216 rfl) rfl
theorem q2693 : (Jvm.Cond.code ({ cls := "WhelkFleetModel", name := "refusedBy", desc := "(IIIII)I" } : Jvm.MethodName) prog_19_method_6_code (6 : Nat) (Option.some Jvm.ClassFile.FieldType.int)) ∈ lw_all := lw_g (lw_at lw_m11 217 rfl) rfl
theorem q2695 : (Jvm.Cond.instanceMethod ({ cls := "WhelkFleetModel", name := "string", desc := "(I)I" } : Jvm.MethodName)) ∈ lw_all := lw_g (lw_at lw_m11 219 rfl) rfl
theorem q2696 : (Jvm.Cond.selects "WhelkFleetModel" ({ cls := "WhelkFleetModel", name := "string", desc := "(I)I" } : Jvm.MethodName) ({ cls := "WhelkFleetModel", name := "string", desc := "(I)I" } : Jvm.MethodName)) ∈ lw_all := lw_g (lw_at lw_m11 220 rfl) rfl
theorem q2697 : (Jvm.Cond.code ({ cls := "WhelkFleetModel", name := "string", desc := "(I)I" } : Jvm.MethodName) prog_19_method_24_code (3 : Nat) (Option.some Jvm.ClassFile.FieldType.int)) ∈ lw_all := lw_g (lw_at lw_m11 221 rfl) rfl
theorem q2699 : (Jvm.Cond.instanceMethod ({ cls := "WhelkFleetModel", name := "boatOf", desc := "(II)I" } : Jvm.MethodName)) ∈ lw_all := lw_g (lw_at lw_m11 223 rfl) rfl
theorem q2700 : (Jvm.Cond.selects "WhelkFleetModel" ({ cls := "WhelkFleetModel", name := "boatOf", desc := "(II)I" } : Jvm.MethodName) ({ cls := "WhelkFleetModel", name := "boatOf", desc := "(II)I" } : Jvm.MethodName)) ∈ lw_all := lw_g (lw_at lw_m11 224 rfl) rfl
theorem q2701 : (Jvm.Cond.code ({ cls := "WhelkFleetModel", name := "boatOf", desc := "(II)I" } : Jvm.MethodName) prog_19_method_25_code (3 : Nat) (Option.some Jvm.ClassFile.FieldType.int)) ∈ lw_all := lw_g (lw_at lw_m11 225 rfl) rfl
theorem q2702 : (Jvm.Cond.methodLink "WhelkFleetModel" (92 : Nat) ({ cls := "WhelkFleetModel", name := "isBoat", desc := "(I)Z" } : Jvm.MethodName)) ∈ lw_all := lw_g (lw_at lw_m11 226 rfl) rfl
theorem q2703 : (Jvm.Cond.privateMethod ({ cls := "WhelkFleetModel", name := "isBoat", desc := "(I)Z" } : Jvm.MethodName)) ∈ lw_tbl := lw_at lw_m11 227 rfl
theorem q2704 : (Jvm.Cond.instanceMethod ({ cls := "WhelkFleetModel", name := "isBoat", desc := "(I)Z" } : Jvm.MethodName)) ∈ lw_all := lw_g (lw_at lw_m11 228 rfl) rfl
theorem q2705 : (Jvm.Cond.code ({ cls := "WhelkFleetModel", name := "isBoat", desc := "(I)Z" } : Jvm.MethodName) prog_19_method_21_code (2 : Nat) (Option.some Jvm.ClassFile.FieldType.boolean)) ∈ lw_all := lw_g (lw_at lw_m11 229 rfl) rfl
theorem q2707 : (Jvm.Cond.instanceMethod ({ cls := "WhelkFleetModel", name := "stringOf", desc := "(II)I" } : Jvm.MethodName)) ∈ lw_all := lw_g (lw_at lw_m11 231 rfl) rfl
theorem q2708 : (Jvm.Cond.selects "WhelkFleetModel" ({ cls := "WhelkFleetModel", name := "stringOf", desc := "(II)I" } : Jvm.MethodName) ({ cls := "WhelkFleetModel", name := "stringOf", desc := "(II)I" } : Jvm.MethodName)) ∈ lw_all := lw_g (lw_at lw_m11 232 rfl) rfl
theorem q2709 : (Jvm.Cond.code ({ cls := "WhelkFleetModel", name := "stringOf", desc := "(II)I" } : Jvm.MethodName) prog_19_method_27_code (3 : Nat) (Option.some Jvm.ClassFile.FieldType.int)) ∈ lw_all := lw_g (lw_at lw_m11 233 rfl) rfl
theorem q2710 : (Jvm.Cond.methodLink "WhelkFleetModel" (95 : Nat) ({ cls := "WhelkFleetModel", name := "isString", desc := "(I)Z" } : Jvm.MethodName)) ∈ lw_all := lw_g (lw_at lw_m11 234 rfl) rfl
theorem q2711 : (Jvm.Cond.privateMethod ({ cls := "WhelkFleetModel", name := "isString", desc := "(I)Z" } : Jvm.MethodName)) ∈ lw_tbl := lw_at lw_m11 235 rfl
theorem q2712 : (Jvm.Cond.instanceMethod ({ cls := "WhelkFleetModel", name := "isString", desc := "(I)Z" } : Jvm.MethodName)) ∈ lw_all := lw_g (lw_at lw_m11 236 rfl) rfl
theorem q2713 : (Jvm.Cond.code ({ cls := "WhelkFleetModel", name := "isString", desc := "(I)Z" } : Jvm.MethodName) prog_19_method_22_code (2 : Nat) (Option.some Jvm.ClassFile.FieldType.boolean)) ∈ lw_all := lw_g (lw_at lw_m11 237 rfl) rfl
theorem q2714 : (Jvm.Cond.methodLink "WhelkFleetModel" (98 : Nat) ({ cls := "WhelkFleetModel", name := "daysAt", desc := "(I)I" } : Jvm.MethodName)) ∈ lw_all := lw_g (lw_at lw_m11 238 rfl) rfl
theorem q2715 : (Jvm.Cond.privateMethod ({ cls := "WhelkFleetModel", name := "daysAt", desc := "(I)I" } : Jvm.MethodName)) ∈ lw_tbl := lw_at lw_m11 239 rfl
theorem q2716 : (Jvm.Cond.instanceMethod ({ cls := "WhelkFleetModel", name := "daysAt", desc := "(I)I" } : Jvm.MethodName)) ∈ lw_all := lw_g (lw_at lw_m12 0 rfl) rfl
theorem q2717 : (Jvm.Cond.code ({ cls := "WhelkFleetModel", name := "daysAt", desc := "(I)I" } : Jvm.MethodName) prog_19_method_26_code (2 : Nat) (Option.some Jvm.ClassFile.FieldType.int)) ∈ lw_all := lw_g (lw_at lw_m12 1 rfl) rfl
theorem q2719 : (Jvm.Cond.instanceMethod ({ cls := "WhelkFleetModel", name := "out", desc := "(II)I" } : Jvm.MethodName)) ∈ lw_all := lw_g (lw_at lw_m12 3 rfl) rfl
theorem q2720 : (Jvm.Cond.selects "WhelkFleetModel" ({ cls := "WhelkFleetModel", name := "out", desc := "(II)I" } : Jvm.MethodName) ({ cls := "WhelkFleetModel", name := "out", desc := "(II)I" } : Jvm.MethodName)) ∈ lw_all := lw_g (lw_at lw_m12 4 rfl) rfl
theorem q2721 : (Jvm.Cond.code ({ cls := "WhelkFleetModel", name := "out", desc := "(II)I" } : Jvm.MethodName) prog_19_method_29_code (3 : Nat) (Option.some Jvm.ClassFile.FieldType.int)) ∈ lw_all := lw_g (lw_at lw_m12 5 rfl) rfl
theorem q2722 : (Jvm.Cond.methodLink "WhelkFleetModel" (101 : Nat) ({ cls := "WhelkFleetModel", name := "goesOut", desc := "(II)I" } : Jvm.MethodName)) ∈ lw_all := lw_g (lw_at lw_m12 6 rfl) rfl
theorem q2723 : (Jvm.Cond.privateMethod ({ cls := "WhelkFleetModel", name := "goesOut", desc := "(II)I" } : Jvm.MethodName)) ∈ lw_tbl := lw_at lw_m12 7 rfl
theorem q2724 : (Jvm.Cond.instanceMethod ({ cls := "WhelkFleetModel", name := "goesOut", desc := "(II)I" } : Jvm.MethodName)) ∈ lw_all := lw_g (lw_at lw_m12 8 rfl) rfl
theorem q2725 : (Jvm.Cond.code ({ cls := "WhelkFleetModel", name := "goesOut", desc := "(II)I" } : Jvm.MethodName) prog_19_method_28_code (3 : Nat) (Option.some Jvm.ClassFile.FieldType.int)) ∈ lw_all := lw_g (lw_at lw_m12 9 rfl) rfl
theorem q2727 : (Jvm.Cond.instanceMethod ({ cls := "WhelkFleetModel", name := "home", desc := "(I)I" } : Jvm.MethodName)) ∈ lw_all := lw_g (lw_at lw_m12 11 rfl) rfl
theorem q2728 : (Jvm.Cond.selects "WhelkFleetModel" ({ cls := "WhelkFleetModel", name := "home", desc := "(I)I" } : Jvm.MethodName) ({ cls := "WhelkFleetModel", name := "home", desc := "(I)I" } : Jvm.MethodName)) ∈ lw_all := lw_g (lw_at lw_m12 12 rfl) rfl
theorem q2729 : (Jvm.Cond.code ({ cls := "WhelkFleetModel", name := "home", desc := "(I)I" } : Jvm.MethodName) prog_19_method_31_code (2 : Nat) (Option.some Jvm.ClassFile.FieldType.int)) ∈ lw_all := lw_g (lw_at lw_m12 13 rfl) rfl
theorem q2730 : (Jvm.Cond.methodLink "WhelkFleetModel" (104 : Nat) ({ cls := "WhelkFleetModel", name := "goesHome", desc := "(I)I" } : Jvm.MethodName)) ∈ lw_all := lw_g (lw_at lw_m12 14 rfl) rfl
theorem q2731 : (Jvm.Cond.privateMethod ({ cls := "WhelkFleetModel", name := "goesHome", desc := "(I)I" } : Jvm.MethodName)) ∈ lw_tbl := lw_at lw_m12 15 rfl
theorem q2732 : (Jvm.Cond.instanceMethod ({ cls := "WhelkFleetModel", name := "goesHome", desc := "(I)I" } : Jvm.MethodName)) ∈ lw_all := lw_g (lw_at lw_m12 16 rfl) rfl
theorem q2733 : (Jvm.Cond.code ({ cls := "WhelkFleetModel", name := "goesHome", desc := "(I)I" } : Jvm.MethodName) prog_19_method_30_code (3 : Nat) (Option.some Jvm.ClassFile.FieldType.int)) ∈ lw_all := lw_g (lw_at lw_m12 17 rfl) rfl
theorem q2735 : (Jvm.Cond.instanceMethod ({ cls := "WhelkFleetModel", name := "shoot", desc := "(III)I" } : Jvm.MethodName)) ∈ lw_all := lw_g (lw_at lw_m12 19 rfl) rfl
theorem q2736 : (Jvm.Cond.selects "WhelkFleetModel" ({ cls := "WhelkFleetModel", name := "shoot", desc := "(III)I" } : Jvm.MethodName) ({ cls := "WhelkFleetModel", name := "shoot", desc := "(III)I" } : Jvm.MethodName)) ∈ lw_all := lw_g (lw_at lw_m12 20 rfl) rfl
theorem q2737 : (Jvm.Cond.code ({ cls := "WhelkFleetModel", name := "shoot", desc := "(III)I" } : Jvm.MethodName) prog_19_method_33_code (4 : Nat) (Option.some Jvm.ClassFile.FieldType.int)) ∈ lw_all := lw_g (lw_at lw_m12 21 rfl) rfl
theorem q2738 : (Jvm.Cond.methodLink "WhelkFleetModel" (107 : Nat) ({ cls := "WhelkFleetModel", name := "shoots", desc := "(III)I" } : Jvm.MethodName)) ∈ lw_all := lw_g (lw_at lw_m12 22 rfl) rfl
theorem q2739 : (Jvm.Cond.privateMethod ({ cls := "WhelkFleetModel", name := "shoots", desc := "(III)I" } : Jvm.MethodName)) ∈ lw_tbl := lw_at lw_m12 23 rfl
theorem q2740 : (Jvm.Cond.instanceMethod ({ cls := "WhelkFleetModel", name := "shoots", desc := "(III)I" } : Jvm.MethodName)) ∈ lw_all := lw_g (lw_at lw_m12 24 rfl) rfl
theorem q2741 : (Jvm.Cond.code ({ cls := "WhelkFleetModel", name := "shoots", desc := "(III)I" } : Jvm.MethodName) prog_19_method_32_code (5 : Nat) (Option.some Jvm.ClassFile.FieldType.int)) ∈ lw_all := lw_g (lw_at lw_m12 25 rfl) rfl
theorem q2743 : (Jvm.Cond.instanceMethod ({ cls := "WhelkFleetModel", name := "haul", desc := "(II)I" } : Jvm.MethodName)) ∈ lw_all := lw_g (lw_at lw_m12 27 rfl) rfl
theorem q2744 : (Jvm.Cond.selects "WhelkFleetModel" ({ cls := "WhelkFleetModel", name := "haul", desc := "(II)I" } : Jvm.MethodName) ({ cls := "WhelkFleetModel", name := "haul", desc := "(II)I" } : Jvm.MethodName)) ∈ lw_all := lw_g (lw_at lw_m12 28 rfl) rfl
theorem q2745 : (Jvm.Cond.code ({ cls := "WhelkFleetModel", name := "haul", desc := "(II)I" } : Jvm.MethodName) prog_19_method_37_code (3 : Nat) (Option.some Jvm.ClassFile.FieldType.int)) ∈ lw_all := lw_g (lw_at lw_m12 29 rfl) rfl
theorem q2746 : (Jvm.Cond.methodLink "WhelkFleetModel" (116 : Nat) ({ cls := "WhelkFleetModel", name := "hauls", desc := "(II)I" } : Jvm.MethodName)) ∈ lw_all := lw_g (lw_at lw_m12 30 rfl) rfl
theorem q2747 : (Jvm.Cond.privateMethod ({ cls := "WhelkFleetModel", name := "hauls", desc := "(II)I" } : Jvm.MethodName)) ∈ lw_tbl := lw_at lw_m12 31 rfl
theorem q2748 : (Jvm.Cond.instanceMethod ({ cls := "WhelkFleetModel", name := "hauls", desc := "(II)I" } : Jvm.MethodName)) ∈ lw_all := lw_g (lw_at lw_m12 32 rfl) rfl
theorem q2749 : (Jvm.Cond.code ({ cls := "WhelkFleetModel", name := "hauls", desc := "(II)I" } : Jvm.MethodName) prog_19_method_36_code (9 : Nat) (Option.some Jvm.ClassFile.FieldType.int)) ∈ lw_all := lw_g (lw_at lw_m12 33 rfl) rfl
theorem q2750 : (Jvm.Cond.methodLink "WhelkFleetModel" (110 : Nat) ({ cls := "WhelkFleetModel", name := "drawsOf", desc := "(II)I" } : Jvm.MethodName)) ∈ lw_all := lw_g (lw_at lw_m12 34 rfl) rfl
theorem q2751 : (Jvm.Cond.privateMethod ({ cls := "WhelkFleetModel", name := "drawsOf", desc := "(II)I" } : Jvm.MethodName)) ∈ lw_tbl := lw_at lw_m12 35 rfl
theorem q2752 : (Jvm.Cond.instanceMethod ({ cls := "WhelkFleetModel", name := "drawsOf", desc := "(II)I" } : Jvm.MethodName)) ∈ lw_all := lw_g (lw_at lw_m12 36 rfl) rfl
theorem q2753 : (Jvm.Cond.code ({ cls := "WhelkFleetModel", name := "drawsOf", desc := "(II)I" } : Jvm.MethodName) prog_19_method_34_code (6 : Nat) (Option.some Jvm.ClassFile.FieldType.int)) ∈ lw_all := lw_g (lw_at lw_m12 37 rfl) rfl
theorem q2754 : (Jvm.Cond.methodLink "WhelkFleetModel" (113 : Nat) ({ cls := "WhelkFleetModel", name := "goesBack", desc := "(I)Z" } : Jvm.MethodName)) ∈ lw_all := lw_g (lw_at lw_m12 38 rfl) rfl
theorem q2755 : (Jvm.Cond.privateMethod ({ cls := "WhelkFleetModel", name := "goesBack", desc := "(I)Z" } : Jvm.MethodName)) ∈ lw_tbl := lw_at lw_m12 39 rfl
theorem q2756 : (Jvm.Cond.instanceMethod ({ cls := "WhelkFleetModel", name := "goesBack", desc := "(I)Z" } : Jvm.MethodName)) ∈ lw_all := lw_g (lw_at lw_m12 40 rfl) rfl
theorem q2757 : (Jvm.Cond.code ({ cls := "WhelkFleetModel", name := "goesBack", desc := "(I)Z" } : Jvm.MethodName) prog_19_method_35_code (2 : Nat) (Option.some Jvm.ClassFile.FieldType.boolean)) ∈ lw_all := lw_g (lw_at lw_m12 41 rfl) rfl
theorem q2759 : (Jvm.Cond.instanceMethod ({ cls := "WhelkFleetModel", name := "land", desc := "(I)I" } : Jvm.MethodName)) ∈ lw_all := lw_g (lw_at lw_m12 43 rfl) rfl
theorem q2760 : (Jvm.Cond.selects "WhelkFleetModel" ({ cls := "WhelkFleetModel", name := "land", desc := "(I)I" } : Jvm.MethodName) ({ cls := "WhelkFleetModel", name := "land", desc := "(I)I" } : Jvm.MethodName)) ∈ lw_all := lw_g (lw_at lw_m12 44 rfl) rfl
theorem q2761 : (Jvm.Cond.code ({ cls := "WhelkFleetModel", name := "land", desc := "(I)I" } : Jvm.MethodName) prog_19_method_40_code (2 : Nat) (Option.some Jvm.ClassFile.FieldType.int)) ∈ lw_all := lw_g (lw_at lw_m12 45 rfl) rfl
theorem q2762 : (Jvm.Cond.methodLink "WhelkFleetModel" (122 : Nat) ({ cls := "WhelkFleetModel", name := "lands", desc := "(I)I" } : Jvm.MethodName)) ∈ lw_all := lw_g (lw_at lw_m12 46 rfl) rfl
theorem q2763 : (Jvm.Cond.privateMethod ({ cls := "WhelkFleetModel", name := "lands", desc := "(I)I" } : Jvm.MethodName)) ∈ lw_tbl := lw_at lw_m12 47 rfl
theorem q2764 : (Jvm.Cond.instanceMethod ({ cls := "WhelkFleetModel", name := "lands", desc := "(I)I" } : Jvm.MethodName)) ∈ lw_all := lw_g (lw_at lw_m12 48 rfl) rfl
theorem q2765 : (Jvm.Cond.code ({ cls := "WhelkFleetModel", name := "lands", desc := "(I)I" } : Jvm.MethodName) prog_19_method_39_code (4 : Nat) (Option.some Jvm.ClassFile.FieldType.int)) ∈ lw_all := lw_g (lw_at lw_m12 49 rfl) rfl
theorem q2766 : (Jvm.Cond.methodLink "WhelkFleetModel" (119 : Nat) ({ cls := "WhelkFleetModel", name := "inHold", desc := "(I)I" } : Jvm.MethodName)) ∈ lw_all := lw_g (lw_at lw_m12 50 rfl) rfl
theorem q2767 : (Jvm.Cond.privateMethod ({ cls := "WhelkFleetModel", name := "inHold", desc := "(I)I" } : Jvm.MethodName)) ∈ lw_tbl := lw_at lw_m12 51 rfl
theorem q2768 : (Jvm.Cond.instanceMethod ({ cls := "WhelkFleetModel", name := "inHold", desc := "(I)I" } : Jvm.MethodName)) ∈ lw_all := lw_g (lw_at lw_m12 52 rfl) rfl
theorem q2769 : (Jvm.Cond.code ({ cls := "WhelkFleetModel", name := "inHold", desc := "(I)I" } : Jvm.MethodName) prog_19_method_38_code (2 : Nat) (Option.some Jvm.ClassFile.FieldType.int)) ∈ lw_all := lw_g (lw_at lw_m12 53 rfl) rfl
theorem q2771 : (Jvm.Cond.instanceMethod ({ cls := "WhelkFleetModel", name := "wouldBring", desc := "(II)I" } : Jvm.MethodName)) ∈ lw_all := lw_g (lw_at lw_m12 55 rfl) rfl
theorem q2772 : (Jvm.Cond.selects "WhelkFleetModel" ({ cls := "WhelkFleetModel", name := "wouldBring", desc := "(II)I" } : Jvm.MethodName) ({ cls := "WhelkFleetModel", name := "wouldBring", desc := "(II)I" } : Jvm.MethodName)) ∈ lw_all := lw_g (lw_at lw_m12 56 rfl) rfl
theorem q2773 : (Jvm.Cond.code ({ cls := "WhelkFleetModel", name := "wouldBring", desc := "(II)I" } : Jvm.MethodName) prog_19_method_43_code (3 : Nat) (Option.some Jvm.ClassFile.FieldType.int)) ∈ lw_all := lw_g (lw_at lw_m12 57 rfl) rfl
theorem q2774 : (Jvm.Cond.methodLink "WhelkFleetModel" (132 : Nat) ({ cls := "WhelkFleetModel", name := "brings", desc := "(II)I" } : Jvm.MethodName)) ∈ lw_all := lw_g (lw_at lw_m12 58 rfl) rfl
theorem q2775 : (Jvm.Cond.privateMethod ({ cls := "WhelkFleetModel", name := "brings", desc := "(II)I" } : Jvm.MethodName)) ∈ lw_tbl := lw_at lw_m12 59 rfl
theorem q2776 : (Jvm.Cond.instanceMethod ({ cls := "WhelkFleetModel", name := "brings", desc := "(II)I" } : Jvm.MethodName)) ∈ lw_all := lw_g (lw_at lw_m12 60 rfl) rfl
theorem q2777 : (Jvm.Cond.code ({ cls := "WhelkFleetModel", name := "brings", desc := "(II)I" } : Jvm.MethodName) prog_19_method_42_code (5 : Nat) (Option.some Jvm.ClassFile.FieldType.int)) ∈ lw_all := lw_g (lw_at lw_m12 61 rfl) rfl
theorem q2778 : (Jvm.Cond.methodLink "WhelkFleetModel" (125 : Nat) ({ cls := "WhelkFleetModel", name := "goesDay", desc := "()I" } : Jvm.MethodName)) ∈ lw_all := lw_g (lw_at lw_m12 62 rfl) rfl
theorem q2779 : (Jvm.Cond.privateMethod ({ cls := "WhelkFleetModel", name := "goesDay", desc := "()I" } : Jvm.MethodName)) ∈ lw_tbl := lw_at lw_m12 63 rfl
theorem q2780 : (Jvm.Cond.instanceMethod ({ cls := "WhelkFleetModel", name := "goesDay", desc := "()I" } : Jvm.MethodName)) ∈ lw_all := lw_g (lw_at lw_m12 64 rfl) rfl
theorem q2781 : (Jvm.Cond.code ({ cls := "WhelkFleetModel", name := "goesDay", desc := "()I" } : Jvm.MethodName) prog_19_method_52_code (4 : Nat) (Option.some Jvm.ClassFile.FieldType.int)) ∈ lw_all := lw_g (lw_at lw_m12 65 rfl) rfl
theorem q2782 : (Jvm.Cond.methodLink "WhelkFleetModel" (144 : Nat) ({ cls := "WhelkFleetModel", name := "grows", desc := "(I)V" } : Jvm.MethodName)) ∈ lw_all := lw_g (lw_at lw_m12 66 rfl) rfl
theorem q2783 : (Jvm.Cond.privateMethod ({ cls := "WhelkFleetModel", name := "grows", desc := "(I)V" } : Jvm.MethodName)) ∈ lw_tbl := lw_at lw_m12 67 rfl
theorem q2784 : (Jvm.Cond.instanceMethod ({ cls := "WhelkFleetModel", name := "grows", desc := "(I)V" } : Jvm.MethodName)) ∈ lw_all := lw_g (lw_at lw_m12 68 rfl) rfl
theorem q2785 : (Jvm.Cond.code ({ cls := "WhelkFleetModel", name := "grows", desc := "(I)V" } : Jvm.MethodName) prog_19_method_51_code (6 : Nat) (Option.none : Option Jvm.ClassFile.FieldType)) ∈ lw_all := lw_g (lw_at lw_m12 69 rfl) rfl
theorem q2786 : (Jvm.Cond.methodLink "WhelkFleetModel" (141 : Nat) ({ cls := "WhelkFleetModel", name := "most", desc := "(I)I" } : Jvm.MethodName)) ∈ lw_all := lw_g (lw_at lw_m12 70 rfl) rfl
theorem q2787 : (Jvm.Cond.static ({ cls := "WhelkFleetModel", name := "most", desc := "(I)I" } : Jvm.MethodName)) ∈ lw_all := lw_g (lw_at lw_m12 71 rfl) rfl
theorem q2788 : (Jvm.Cond.code ({ cls := "WhelkFleetModel", name := "most", desc := "(I)I" } : Jvm.MethodName) prog_19_method_50_code (1 : Nat) (Option.some Jvm.ClassFile.FieldType.int)) ∈ lw_all := lw_g (lw_at lw_m12 72 rfl) rfl
theorem q2789 : (Jvm.Cond.methodLink "WhelkFleetModel" (129 : Nat) ({ cls := "WhelkFleetModel", name := "bringsNow", desc := "(I)I" } : Jvm.MethodName)) ∈ lw_all := lw_g (lw_at lw_m12 73 rfl) rfl
theorem q2790 : (Jvm.Cond.privateMethod ({ cls := "WhelkFleetModel", name := "bringsNow", desc := "(I)I" } : Jvm.MethodName)) ∈ lw_tbl := lw_at lw_m12 74 rfl
theorem q2791 : (Jvm.Cond.instanceMethod ({ cls := "WhelkFleetModel", name := "bringsNow", desc := "(I)I" } : Jvm.MethodName)) ∈ lw_all := lw_g (lw_at lw_m12 75 rfl) rfl
theorem q2792 : (Jvm.Cond.code ({ cls := "WhelkFleetModel", name := "bringsNow", desc := "(I)I" } : Jvm.MethodName) prog_19_method_41_code (4 : Nat) (Option.some Jvm.ClassFile.FieldType.int)) ∈ lw_all := lw_g (lw_at lw_m12 76 rfl) rfl
theorem q2794 : (Jvm.Cond.instanceMethod ({ cls := "WhelkFleetModel", name := "bestDay", desc := "(I)I" } : Jvm.MethodName)) ∈ lw_all := lw_g (lw_at lw_m12 78 rfl) rfl
theorem q2795 : (Jvm.Cond.selects "WhelkFleetModel" ({ cls := "WhelkFleetModel", name := "bestDay", desc := "(I)I" } : Jvm.MethodName) ({ cls := "WhelkFleetModel", name := "bestDay", desc := "(I)I" } : Jvm.MethodName)) ∈ lw_all := lw_g (lw_at lw_m12 79 rfl) rfl
theorem q2796 : (Jvm.Cond.code ({ cls := "WhelkFleetModel", name := "bestDay", desc := "(I)I" } : Jvm.MethodName) prog_19_method_44_code (4 : Nat) (Option.some Jvm.ClassFile.FieldType.int)) ∈ lw_all := lw_g (lw_at lw_m12 80 rfl) rfl
theorem q2798 : (Jvm.Cond.instanceMethod ({ cls := "WhelkFleetModel", name := "ranked", desc := "(I)I" } : Jvm.MethodName)) ∈ lw_all := lw_g (lw_at lw_m12 82 rfl) rfl
theorem q2799 : (Jvm.Cond.selects "WhelkFleetModel" ({ cls := "WhelkFleetModel", name := "ranked", desc := "(I)I" } : Jvm.MethodName) ({ cls := "WhelkFleetModel", name := "ranked", desc := "(I)I" } : Jvm.MethodName)) ∈ lw_all := lw_g (lw_at lw_m12 83 rfl) rfl
theorem q2800 : (Jvm.Cond.code ({ cls := "WhelkFleetModel", name := "ranked", desc := "(I)I" } : Jvm.MethodName) prog_19_method_45_code (6 : Nat) (Option.some Jvm.ClassFile.FieldType.int)) ∈ lw_all := lw_g (lw_at lw_m12 84 rfl) rfl
theorem q2802 : (Jvm.Cond.instanceMethod ({ cls := "WhelkFleetModel", name := "swell", desc := "(I)I" } : Jvm.MethodName)) ∈ lw_all := lw_g (lw_at lw_m12 86 rfl) rfl
theorem q2803 : (Jvm.Cond.selects "WhelkFleetModel" ({ cls := "WhelkFleetModel", name := "swell", desc := "(I)I" } : Jvm.MethodName) ({ cls := "WhelkFleetModel", name := "swell", desc := "(I)I" } : Jvm.MethodName)) ∈ lw_all := lw_g (lw_at lw_m12 87 rfl) rfl
theorem q2804 : (Jvm.Cond.code ({ cls := "WhelkFleetModel", name := "swell", desc := "(I)I" } : Jvm.MethodName) prog_19_method_47_code (2 : Nat) (Option.some Jvm.ClassFile.FieldType.int)) ∈ lw_all := lw_g (lw_at lw_m12 88 rfl) rfl
theorem q2805 : (Jvm.Cond.methodLink "WhelkFleetModel" (135 : Nat) ({ cls := "WhelkFleetModel", name := "swells", desc := "(I)I" } : Jvm.MethodName)) ∈ lw_all := lw_g (lw_at lw_m12 89 rfl) rfl
theorem q2806 : (Jvm.Cond.privateMethod ({ cls := "WhelkFleetModel", name := "swells", desc := "(I)I" } : Jvm.MethodName)) ∈ lw_tbl := lw_at lw_m12 90 rfl
theorem q2807 : (Jvm.Cond.instanceMethod ({ cls := "WhelkFleetModel", name := "swells", desc := "(I)I" } : Jvm.MethodName)) ∈ lw_all := lw_g (lw_at lw_m12 91 rfl) rfl
theorem q2808 : (Jvm.Cond.code ({ cls := "WhelkFleetModel", name := "swells", desc := "(I)I" } : Jvm.MethodName) prog_19_method_46_code (3 : Nat) (Option.some Jvm.ClassFile.FieldType.int)) ∈ lw_all := lw_g (lw_at lw_m12 92 rfl) rfl
theorem q2810 : (Jvm.Cond.instanceMethod ({ cls := "WhelkFleetModel", name := "riddle", desc := "(I)I" } : Jvm.MethodName)) ∈ lw_all := lw_g (lw_at lw_m12 94 rfl) rfl
theorem q2811 : (Jvm.Cond.selects "WhelkFleetModel" ({ cls := "WhelkFleetModel", name := "riddle", desc := "(I)I" } : Jvm.MethodName) ({ cls := "WhelkFleetModel", name := "riddle", desc := "(I)I" } : Jvm.MethodName)) ∈ lw_all := lw_g (lw_at lw_m12 95 rfl) rfl
theorem q2812 : (Jvm.Cond.code ({ cls := "WhelkFleetModel", name := "riddle", desc := "(I)I" } : Jvm.MethodName) prog_19_method_49_code (2 : Nat) (Option.some Jvm.ClassFile.FieldType.int)) ∈ lw_all := lw_g (lw_at lw_m12 96 rfl) rfl
theorem q2813 : (Jvm.Cond.methodLink "WhelkFleetModel" (138 : Nat) ({ cls := "WhelkFleetModel", name := "riddles", desc := "(I)I" } : Jvm.MethodName)) ∈ lw_all := lw_g (lw_at lw_m12 97 rfl) rfl
theorem q2814 : (Jvm.Cond.privateMethod ({ cls := "WhelkFleetModel", name := "riddles", desc := "(I)I" } : Jvm.MethodName)) ∈ lw_tbl := lw_at lw_m12 98 rfl
theorem q2815 : (Jvm.Cond.instanceMethod ({ cls := "WhelkFleetModel", name := "riddles", desc := "(I)I" } : Jvm.MethodName)) ∈ lw_all := lw_g (lw_at lw_m12 99 rfl) rfl
theorem q2816 : (Jvm.Cond.code ({ cls := "WhelkFleetModel", name := "riddles", desc := "(I)I" } : Jvm.MethodName) prog_19_method_48_code (3 : Nat) (Option.some Jvm.ClassFile.FieldType.int)) ∈ lw_all := lw_g (lw_at lw_m12 100 rfl) rfl
theorem q2818 : (Jvm.Cond.instanceMethod ({ cls := "WhelkFleetModel", name := "pass", desc := "(I)I" } : Jvm.MethodName)) ∈ lw_all := lw_g (lw_at lw_m12 102 rfl) rfl
theorem q2819 : (Jvm.Cond.selects "WhelkFleetModel" ({ cls := "WhelkFleetModel", name := "pass", desc := "(I)I" } : Jvm.MethodName) ({ cls := "WhelkFleetModel", name := "pass", desc := "(I)I" } : Jvm.MethodName)) ∈ lw_all := lw_g (lw_at lw_m12 103 rfl) rfl
theorem q2820 : (Jvm.Cond.code ({ cls := "WhelkFleetModel", name := "pass", desc := "(I)I" } : Jvm.MethodName) prog_19_method_54_code (2 : Nat) (Option.some Jvm.ClassFile.FieldType.int)) ∈ lw_all := lw_g (lw_at lw_m12 104 rfl) rfl
theorem q2821 : (Jvm.Cond.methodLink "WhelkFleetModel" (148 : Nat) ({ cls := "WhelkFleetModel", name := "passes", desc := "(I)I" } : Jvm.MethodName)) ∈ lw_all := lw_g (lw_at lw_m12 105 rfl) rfl
theorem q2822 : (Jvm.Cond.privateMethod ({ cls := "WhelkFleetModel", name := "passes", desc := "(I)I" } : Jvm.MethodName)) ∈ lw_tbl := lw_at lw_m12 106 rfl
theorem q2823 : (Jvm.Cond.instanceMethod ({ cls := "WhelkFleetModel", name := "passes", desc := "(I)I" } : Jvm.MethodName)) ∈ lw_all := lw_g (lw_at lw_m12 107 rfl) rfl
theorem q2824 : (Jvm.Cond.code ({ cls := "WhelkFleetModel", name := "passes", desc := "(I)I" } : Jvm.MethodName) prog_19_method_53_code (4 : Nat) (Option.some Jvm.ClassFile.FieldType.int)) ∈ lw_all := lw_g (lw_at lw_m12 108 rfl) rfl
theorem q2826 : (Jvm.Cond.instanceMethod ({ cls := "WhelkFleetModel", name := "whelksIn", desc := "(II)I" } : Jvm.MethodName)) ∈ lw_all := lw_g (lw_at lw_m12 110 rfl) rfl
theorem q2827 : (Jvm.Cond.selects "WhelkFleetModel" ({ cls := "WhelkFleetModel", name := "whelksIn", desc := "(II)I" } : Jvm.MethodName) ({ cls := "WhelkFleetModel", name := "whelksIn", desc := "(II)I" } : Jvm.MethodName)) ∈ lw_all := lw_g (lw_at lw_m12 111 rfl) rfl
theorem q2828 : (Jvm.Cond.code ({ cls := "WhelkFleetModel", name := "whelksIn", desc := "(II)I" } : Jvm.MethodName) prog_19_method_56_code (5 : Nat) (Option.some Jvm.ClassFile.FieldType.int)) ∈ lw_all := lw_g (lw_at lw_m12 112 rfl) rfl
theorem q2829 : (Jvm.Cond.methodLink "WhelkFleetModel" (151 : Nat) ({ cls := "WhelkFleetModel", name := "ofSize", desc := "(I)I" } : Jvm.MethodName)) ∈ lw_all := lw_g (lw_at lw_m12 113 rfl) rfl
theorem q2830 : (Jvm.Cond.privateMethod ({ cls := "WhelkFleetModel", name := "ofSize", desc := "(I)I" } : Jvm.MethodName)) ∈ lw_tbl := lw_at lw_m12 114 rfl
theorem q2831 : (Jvm.Cond.instanceMethod ({ cls := "WhelkFleetModel", name := "ofSize", desc := "(I)I" } : Jvm.MethodName)) ∈ lw_all := lw_g (lw_at lw_m12 115 rfl) rfl
theorem q2832 : (Jvm.Cond.code ({ cls := "WhelkFleetModel", name := "ofSize", desc := "(I)I" } : Jvm.MethodName) prog_19_method_55_code (4 : Nat) (Option.some Jvm.ClassFile.FieldType.int)) ∈ lw_all := lw_g (lw_at lw_m12 116 rfl) rfl
theorem q2834 : (Jvm.Cond.instanceMethod ({ cls := "WhelkFleetModel", name := "type", desc := "(C)I" } : Jvm.MethodName)) ∈ lw_all := lw_g (lw_at lw_m12 118 rfl) rfl
theorem q2835 : (Jvm.Cond.selects "WhelkFleetModel" ({ cls := "WhelkFleetModel", name := "type", desc := "(C)I" } : Jvm.MethodName) ({ cls := "WhelkFleetModel", name := "type", desc := "(C)I" } : Jvm.MethodName)) ∈ lw_all := lw_g (lw_at lw_m12 119 rfl) rfl
theorem q2836 : (Jvm.Cond.code ({ cls := "WhelkFleetModel", name := "type", desc := "(C)I" } : Jvm.MethodName) prog_19_method_57_code (2 : Nat) (Option.some Jvm.ClassFile.FieldType.int)) ∈ lw_all := lw_g (lw_at lw_m12 120 rfl) rfl
theorem q2838 : (Jvm.Cond.instanceMethod ({ cls := "WhelkFleetModel", name := "read", desc := "()I" } : Jvm.MethodName)) ∈ lw_all := lw_g (lw_at lw_m12 122 rfl) rfl
theorem q2839 : (Jvm.Cond.selects "WhelkFleetModel" ({ cls := "WhelkFleetModel", name := "read", desc := "()I" } : Jvm.MethodName) ({ cls := "WhelkFleetModel", name := "read", desc := "()I" } : Jvm.MethodName)) ∈ lw_all := lw_g (lw_at lw_m12 123 rfl) rfl
theorem q2840 : (Jvm.Cond.code ({ cls := "WhelkFleetModel", name := "read", desc := "()I" } : Jvm.MethodName) prog_19_method_71_code (4 : Nat) (Option.some Jvm.ClassFile.FieldType.int)) ∈ lw_all := lw_g (lw_at lw_m12 124 rfl) rfl
theorem q2841 : (Jvm.Cond.methodLink "WhelkFleetModel" (232 : Nat) ({ cls := "WhelkFleetModel", name := "readsText", desc := "()I" } : Jvm.MethodName)) ∈ lw_all := lw_g (lw_at lw_m12 125 rfl) rfl
theorem q2842 : (Jvm.Cond.privateMethod ({ cls := "WhelkFleetModel", name := "readsText", desc := "()I" } : Jvm.MethodName)) ∈ lw_tbl := lw_at lw_m12 126 rfl
theorem q2843 : (Jvm.Cond.instanceMethod ({ cls := "WhelkFleetModel", name := "readsText", desc := "()I" } : Jvm.MethodName)) ∈ lw_all := lw_g (lw_at lw_m12 127 rfl) rfl
theorem q2844 : (Jvm.Cond.code ({ cls := "WhelkFleetModel", name := "readsText", desc := "()I" } : Jvm.MethodName) prog_19_method_68_code (3 : Nat) (Option.some Jvm.ClassFile.FieldType.int)) ∈ lw_all := lw_g (lw_at lw_m12 128 rfl) rfl
theorem q2845 : (Jvm.Cond.methodLink "WhelkFleetModel" (229 : Nat) ({ cls := "WhelkFleetModel", name := "readsOrder", desc := "(I)V" } : Jvm.MethodName)) ∈ lw_all := lw_g (lw_at lw_m12 129 rfl) rfl
theorem q2846 : (Jvm.Cond.privateMethod ({ cls := "WhelkFleetModel", name := "readsOrder", desc := "(I)V" } : Jvm.MethodName)) ∈ lw_tbl := lw_at lw_m12 130 rfl
theorem q2847 : (Jvm.Cond.instanceMethod ({ cls := "WhelkFleetModel", name := "readsOrder", desc := "(I)V" } : Jvm.MethodName)) ∈ lw_all := lw_g (lw_at lw_m12 131 rfl) rfl
theorem q2848 : (Jvm.Cond.code ({ cls := "WhelkFleetModel", name := "readsOrder", desc := "(I)V" } : Jvm.MethodName) prog_19_method_67_code (3 : Nat) (Option.none : Option Jvm.ClassFile.FieldType)) ∈ lw_all := lw_g (lw_at lw_m12 132 rfl) rfl
theorem q2849 : (Jvm.Cond.methodLink "WhelkFleetModel" (214 : Nat) ({ cls := "WhelkFleetModel", name := "readsWord", desc := "()I" } : Jvm.MethodName)) ∈ lw_all := lw_g (lw_at lw_m12 133 rfl) rfl
theorem q2850 : (Jvm.Cond.privateMethod ({ cls := "WhelkFleetModel", name := "readsWord", desc := "()I" } : Jvm.MethodName)) ∈ lw_tbl := lw_at lw_m12 134 rfl
theorem q2851 : (Jvm.Cond.instanceMethod ({ cls := "WhelkFleetModel", name := "readsWord", desc := "()I" } : Jvm.MethodName)) ∈ lw_all := lw_g (lw_at lw_m12 135 rfl) rfl
theorem q2852 : (Jvm.Cond.code ({ cls := "WhelkFleetModel", name := "readsWord", desc := "()I" } : Jvm.MethodName) prog_19_method_63_code (2 : Nat) (Option.some Jvm.ClassFile.FieldType.int)) ∈ lw_all := lw_g (lw_at lw_m12 136 rfl) rfl
theorem q2853 : (Jvm.Cond.methodLink "WhelkFleetModel" (198 : Nat) ({ cls := "WhelkFleetModel", name := "isWord", desc := "(I)Z" } : Jvm.MethodName)) ∈ lw_all := lw_g (lw_at lw_m12 137 rfl) rfl
theorem q2854 : (Jvm.Cond.privateMethod ({ cls := "WhelkFleetModel", name := "isWord", desc := "(I)Z" } : Jvm.MethodName)) ∈ lw_tbl := lw_at lw_m12 138 rfl
theorem q2855 : (Jvm.Cond.instanceMethod ({ cls := "WhelkFleetModel", name := "isWord", desc := "(I)Z" } : Jvm.MethodName)) ∈ lw_all := lw_g (lw_at lw_m12 139 rfl) rfl
theorem q2856 : (Jvm.Cond.code ({ cls := "WhelkFleetModel", name := "isWord", desc := "(I)Z" } : Jvm.MethodName) prog_19_method_62_code (4 : Nat) (Option.some Jvm.ClassFile.FieldType.boolean)) ∈ lw_all := lw_g (lw_at lw_m12 140 rfl) rfl
theorem q2857 : (Jvm.Cond.methodLink "WhelkFleetModel" (194 : Nat) ({ cls := "WhelkFleetModel", name := "word", desc := "(I)Ljava/lang/String;" } : Jvm.MethodName)) ∈ lw_all := lw_g (lw_at lw_m12 141 rfl) rfl
theorem q2858 : (Jvm.Cond.static ({ cls := "WhelkFleetModel", name := "word", desc := "(I)Ljava/lang/String;" } : Jvm.MethodName)) ∈ lw_all := lw_g (lw_at lw_m12 142 rfl) rfl
theorem q2859 : (Jvm.Cond.code ({ cls := "WhelkFleetModel", name := "word", desc := "(I)Ljava/lang/String;" } : Jvm.MethodName) prog_19_method_58_code (1 : Nat) (Option.some (Jvm.ClassFile.FieldType.object "java/lang/String"))) ∈ lw_all := lw_g (lw_at lw_m12 143 rfl) rfl
theorem q2860 : (Jvm.Cond.stringRef "WhelkFleetModel" (157 : Nat) "out ") ∈ lw_tbl := lw_at lw_m12 144 rfl
theorem q2861 : (Jvm.Cond.stringRef "WhelkFleetModel" (159 : Nat) "home ") ∈ lw_tbl := lw_at lw_m12 145 rfl
theorem q2862 : (Jvm.Cond.stringRef "WhelkFleetModel" (161 : Nat) "shoot ") ∈ lw_tbl := lw_at lw_m12 146 rfl
theorem q2863 : (Jvm.Cond.stringRef "WhelkFleetModel" (163 : Nat) "haul ") ∈ lw_tbl := lw_at lw_m12 147 rfl
theorem q2864 : (Jvm.Cond.stringRef "WhelkFleetModel" (165 : Nat) "land ") ∈ lw_tbl := lw_at lw_m12 148 rfl
theorem q2865 : (Jvm.Cond.stringRef "WhelkFleetModel" (167 : Nat) "swell ") ∈ lw_tbl := lw_at lw_m12 149 rfl
theorem q2866 : (Jvm.Cond.stringRef "WhelkFleetModel" (169 : Nat) "riddle ") ∈ lw_tbl := lw_at lw_m12 150 rfl
theorem q2867 : (Jvm.Cond.stringRef "WhelkFleetModel" (171 : Nat) "days ") ∈ lw_tbl := lw_at lw_m12 151 rfl
theorem q2868 : (Jvm.Cond.methodLink "WhelkFleetModel" (187 : Nat) ({ cls := "java/lang/String", name := "charAt", desc := "(I)C" } : Jvm.MethodName)) ∈ lw_all := lw_g (lw_at lw_m12 152 rfl) rfl
theorem q2869 : (Jvm.Cond.methodLink "WhelkFleetModel" (179 : Nat) ({ cls := "WhelkFleetModel", name := "here", desc := "()I" } : Jvm.MethodName)) ∈ lw_all := lw_g (lw_at lw_m12 153 rfl) rfl
theorem q2870 : (Jvm.Cond.privateMethod ({ cls := "WhelkFleetModel", name := "here", desc := "()I" } : Jvm.MethodName)) ∈ lw_tbl := lw_at lw_m12 154 rfl
theorem q2871 : (Jvm.Cond.instanceMethod ({ cls := "WhelkFleetModel", name := "here", desc := "()I" } : Jvm.MethodName)) ∈ lw_all := lw_g (lw_at lw_m12 155 rfl) rfl
theorem q2872 : (Jvm.Cond.code ({ cls := "WhelkFleetModel", name := "here", desc := "()I" } : Jvm.MethodName) prog_19_method_59_code (1 : Nat) (Option.some Jvm.ClassFile.FieldType.int)) ∈ lw_all := lw_g (lw_at lw_m12 156 rfl) rfl
theorem q2873 : (Jvm.Cond.methodLink "WhelkFleetModel" (201 : Nat) ({ cls := "WhelkFleetModel", name := "needsText", desc := "(Ljava/lang/String;)V" } : Jvm.MethodName)) ∈ lw_all := lw_g (lw_at lw_m12 157 rfl) rfl
theorem q2874 : (Jvm.Cond.privateMethod ({ cls := "WhelkFleetModel", name := "needsText", desc := "(Ljava/lang/String;)V" } : Jvm.MethodName)) ∈ lw_tbl := lw_at lw_m12 158 rfl
theorem q2875 : (Jvm.Cond.instanceMethod ({ cls := "WhelkFleetModel", name := "needsText", desc := "(Ljava/lang/String;)V" } : Jvm.MethodName)) ∈ lw_all := lw_g (lw_at lw_m12 159 rfl) rfl
theorem q2876 : (Jvm.Cond.code ({ cls := "WhelkFleetModel", name := "needsText", desc := "(Ljava/lang/String;)V" } : Jvm.MethodName) prog_19_method_61_code (3 : Nat) (Option.none : Option Jvm.ClassFile.FieldType)) ∈ lw_all := lw_g (lw_at lw_m12 160 rfl) rfl
theorem q2877 : (Jvm.Cond.methodLink "WhelkFleetModel" (182 : Nat) ({ cls := "java/lang/String", name := "length", desc := "()I" } : Jvm.MethodName)) ∈ lw_all := lw_g (lw_at lw_m12 161 rfl) rfl
theorem q2878 : (Jvm.Cond.methodLink "WhelkFleetModel" (191 : Nat) ({ cls := "WhelkFleetModel", name := "needs", desc := "(I)V" } : Jvm.MethodName)) ∈ lw_all := lw_g (lw_at lw_m12 162 rfl) rfl
theorem q2879 : (Jvm.Cond.privateMethod ({ cls := "WhelkFleetModel", name := "needs", desc := "(I)V" } : Jvm.MethodName)) ∈ lw_tbl := lw_at lw_m12 163 rfl
theorem q2880 : (Jvm.Cond.instanceMethod ({ cls := "WhelkFleetModel", name := "needs", desc := "(I)V" } : Jvm.MethodName)) ∈ lw_all := lw_g (lw_at lw_m12 164 rfl) rfl
theorem q2881 : (Jvm.Cond.code ({ cls := "WhelkFleetModel", name := "needs", desc := "(I)V" } : Jvm.MethodName) prog_19_method_60_code (2 : Nat) (Option.none : Option Jvm.ClassFile.FieldType)) ∈ lw_all := lw_g (lw_at lw_m12 165 rfl) rfl
theorem q2882 : (Jvm.Cond.methodLink "WhelkFleetModel" (217 : Nat) ({ cls := "WhelkFleetModel", name := "number", desc := "()I" } : Jvm.MethodName)) ∈ lw_all := lw_g (lw_at lw_m12 166 rfl) rfl
theorem q2883 : (Jvm.Cond.privateMethod ({ cls := "WhelkFleetModel", name := "number", desc := "()I" } : Jvm.MethodName)) ∈ lw_tbl := lw_at lw_m12 167 rfl
theorem q2884 : (Jvm.Cond.instanceMethod ({ cls := "WhelkFleetModel", name := "number", desc := "()I" } : Jvm.MethodName)) ∈ lw_all := lw_g (lw_at lw_m12 168 rfl) rfl
theorem q2885 : (Jvm.Cond.code ({ cls := "WhelkFleetModel", name := "number", desc := "()I" } : Jvm.MethodName) prog_19_method_65_code (2 : Nat) (Option.some Jvm.ClassFile.FieldType.int)) ∈ lw_all := lw_g (lw_at lw_m12 169 rfl) rfl
theorem q2886 : (Jvm.Cond.methodLink "WhelkFleetModel" (205 : Nat) ({ cls := "WhelkFleetModel", name := "digit", desc := "()I" } : Jvm.MethodName)) ∈ lw_all := lw_g (lw_at lw_m12 170 rfl) rfl
theorem q2887 : (Jvm.Cond.privateMethod ({ cls := "WhelkFleetModel", name := "digit", desc := "()I" } : Jvm.MethodName)) ∈ lw_tbl := lw_at lw_m12 171 rfl
theorem q2888 : (Jvm.Cond.instanceMethod ({ cls := "WhelkFleetModel", name := "digit", desc := "()I" } : Jvm.MethodName)) ∈ lw_all := lw_g (lw_at lw_m12 172 rfl) rfl
theorem q2889 : (Jvm.Cond.code ({ cls := "WhelkFleetModel", name := "digit", desc := "()I" } : Jvm.MethodName) prog_19_method_64_code (2 : Nat) (Option.some Jvm.ClassFile.FieldType.int)) ∈ lw_all := lw_g (lw_at lw_m12 173 rfl) rfl
theorem q2890 : (Jvm.Cond.stringRef "WhelkFleetModel" (220 : Nat) " to ") ∈ lw_tbl := lw_at lw_m12 174 rfl
theorem q2891 : (Jvm.Cond.stringRef "WhelkFleetModel" (222 : Nat) " by ") ∈ lw_tbl := lw_at lw_m12 175 rfl
theorem q2892 : (Jvm.Cond.stringRef "WhelkFleetModel" (224 : Nat) " with ") ∈ lw_tbl := lw_at lw_m12 176 rfl
theorem q2893 : (Jvm.Cond.methodLink "WhelkFleetModel" (226 : Nat) ({ cls := "WhelkFleetModel", name := "baitRead", desc := "()I" } : Jvm.MethodName)) ∈ lw_all := lw_g (lw_at lw_m12 177 rfl) rfl
theorem q2894 : (Jvm.Cond.privateMethod ({ cls := "WhelkFleetModel", name := "baitRead", desc := "()I" } : Jvm.MethodName)) ∈ lw_tbl := lw_at lw_m12 178 rfl
theorem q2895 : (Jvm.Cond.instanceMethod ({ cls := "WhelkFleetModel", name := "baitRead", desc := "()I" } : Jvm.MethodName)) ∈ lw_all := lw_g (lw_at lw_m12 179 rfl) rfl
theorem q2896 : (Jvm.Cond.code ({ cls := "WhelkFleetModel", name := "baitRead", desc := "()I" } : Jvm.MethodName) prog_19_method_66_code (2 : Nat) (Option.some Jvm.ClassFile.FieldType.int)) ∈ lw_all := lw_g (lw_at lw_m12 180 rfl) rfl
theorem q2897 : (Jvm.Cond.stringRef "WhelkFleetModel" (208 : Nat) "fish") ∈ lw_tbl := lw_at lw_m12 181 rfl
theorem q2898 : (Jvm.Cond.stringRef "WhelkFleetModel" (210 : Nat) "mixed") ∈ lw_tbl := lw_at lw_m12 182 rfl
theorem q2899 : (Jvm.Cond.stringRef "WhelkFleetModel" (212 : Nat) "crab") ∈ lw_tbl := lw_at lw_m12 183 rfl
theorem q2900 : (Jvm.Cond.methodLink "WhelkFleetModel" (235 : Nat) ({ cls := "WhelkFleetModel", name := "does", desc := "(I)I" } : Jvm.MethodName)) ∈ lw_all := lw_g (lw_at lw_m12 184 rfl) rfl
theorem q2901 : (Jvm.Cond.privateMethod ({ cls := "WhelkFleetModel", name := "does", desc := "(I)I" } : Jvm.MethodName)) ∈ lw_tbl := lw_at lw_m12 185 rfl
theorem q2902 : (Jvm.Cond.instanceMethod ({ cls := "WhelkFleetModel", name := "does", desc := "(I)I" } : Jvm.MethodName)) ∈ lw_all := lw_g (lw_at lw_m12 186 rfl) rfl
theorem q2903 : (Jvm.Cond.code ({ cls := "WhelkFleetModel", name := "does", desc := "(I)I" } : Jvm.MethodName) prog_19_method_69_code (3 : Nat) (Option.some Jvm.ClassFile.FieldType.int)) ∈ lw_all := lw_g (lw_at lw_m12 187 rfl) rfl
theorem q2904 : (Jvm.Cond.methodLink "WhelkFleetModel" (238 : Nat) ({ cls := "WhelkFleetModel", name := "refusedOrder", desc := "(I)V" } : Jvm.MethodName)) ∈ lw_all := lw_g (lw_at lw_m12 188 rfl) rfl
theorem q2905 : (Jvm.Cond.privateMethod ({ cls := "WhelkFleetModel", name := "refusedOrder", desc := "(I)V" } : Jvm.MethodName)) ∈ lw_tbl := lw_at lw_m12 189 rfl
theorem q2906 : (Jvm.Cond.instanceMethod ({ cls := "WhelkFleetModel", name := "refusedOrder", desc := "(I)V" } : Jvm.MethodName)) ∈ lw_all := lw_g (lw_at lw_m12 190 rfl) rfl
theorem q2907 : (Jvm.Cond.code ({ cls := "WhelkFleetModel", name := "refusedOrder", desc := "(I)V" } : Jvm.MethodName) prog_19_method_70_code (3 : Nat) (Option.none : Option Jvm.ClassFile.FieldType)) ∈ lw_all := lw_g (lw_at lw_m12 191 rfl) rfl
theorem q2909 : (Jvm.Cond.instanceMethod ({ cls := "WhelkFleetModel", name := "errorPosition", desc := "()I" } : Jvm.MethodName)) ∈ lw_all := lw_g (lw_at lw_m12 193 rfl) rfl
theorem q2910 : (Jvm.Cond.selects "WhelkFleetModel" ({ cls := "WhelkFleetModel", name := "errorPosition", desc := "()I" } : Jvm.MethodName) ({ cls := "WhelkFleetModel", name := "errorPosition", desc := "()I" } : Jvm.MethodName)) ∈ lw_all := lw_g (lw_at lw_m12 194 rfl) rfl
theorem q2911 : (Jvm.Cond.code ({ cls := "WhelkFleetModel", name := "errorPosition", desc := "()I" } : Jvm.MethodName) prog_19_method_72_code (1 : Nat) (Option.some Jvm.ClassFile.FieldType.int)) ∈ lw_all := lw_g (lw_at lw_m12 195 rfl) rfl
theorem q2913 : (Jvm.Cond.instanceMethod ({ cls := "WhelkFleetModel", name := "refusal", desc := "(IZ)I" } : Jvm.MethodName)) ∈ lw_all := lw_g (lw_at lw_m12 197 rfl) rfl
theorem q2914 : (Jvm.Cond.selects "WhelkFleetModel" ({ cls := "WhelkFleetModel", name := "refusal", desc := "(IZ)I" } : Jvm.MethodName) ({ cls := "WhelkFleetModel", name := "refusal", desc := "(IZ)I" } : Jvm.MethodName)) ∈ lw_all := lw_g (lw_at lw_m12 198 rfl) rfl
theorem q2915 : (Jvm.Cond.code ({ cls := "WhelkFleetModel", name := "refusal", desc := "(IZ)I" } : Jvm.MethodName) prog_19_method_73_code (3 : Nat) (Option.some Jvm.ClassFile.FieldType.int)) ∈ lw_all := lw_g (lw_at lw_m12 199 rfl) rfl
theorem q2917 : (Jvm.Cond.instanceMethod ({ cls := "WhelkFleetModel", name := "describe", desc := "(I)I" } : Jvm.MethodName)) ∈ lw_all := lw_g (lw_at lw_m12 201 rfl) rfl
theorem q2918 : (Jvm.Cond.selects "WhelkFleetModel" ({ cls := "WhelkFleetModel", name := "describe", desc := "(I)I" } : Jvm.MethodName) ({ cls := "WhelkFleetModel", name := "describe", desc := "(I)I" } : Jvm.MethodName)) ∈ lw_all := lw_g (lw_at lw_m12 202 rfl) rfl
theorem q2919 : (Jvm.Cond.code ({ cls := "WhelkFleetModel", name := "describe", desc := "(I)I" } : Jvm.MethodName) prog_19_method_77_code (2 : Nat) (Option.some Jvm.ClassFile.FieldType.int)) ∈ lw_all := lw_g (lw_at lw_m12 203 rfl) rfl
theorem q2920 : (Jvm.Cond.stringRef "WhelkFleetModel" (247 : Nat) "boat ") ∈ lw_tbl := lw_at lw_m12 204 rfl
theorem q2921 : (Jvm.Cond.methodLink "WhelkFleetModel" (249 : Nat) ({ cls := "WhelkFleetModel", name := "putsText", desc := "(Ljava/lang/String;)V" } : Jvm.MethodName)) ∈ lw_all := lw_g (lw_at lw_m12 205 rfl) rfl
theorem q2922 : (Jvm.Cond.privateMethod ({ cls := "WhelkFleetModel", name := "putsText", desc := "(Ljava/lang/String;)V" } : Jvm.MethodName)) ∈ lw_tbl := lw_at lw_m12 206 rfl
theorem q2923 : (Jvm.Cond.instanceMethod ({ cls := "WhelkFleetModel", name := "putsText", desc := "(Ljava/lang/String;)V" } : Jvm.MethodName)) ∈ lw_all := lw_g (lw_at lw_m12 207 rfl) rfl
theorem q2924 : (Jvm.Cond.code ({ cls := "WhelkFleetModel", name := "putsText", desc := "(Ljava/lang/String;)V" } : Jvm.MethodName) prog_19_method_75_code (3 : Nat) (Option.none : Option Jvm.ClassFile.FieldType)) ∈ lw_all := lw_g (lw_at lw_m12 208 rfl) rfl
theorem q2925 : (Jvm.Cond.methodLink "WhelkFleetModel" (244 : Nat) ({ cls := "WhelkFleetModel", name := "puts", desc := "(I)V" } : Jvm.MethodName)) ∈ lw_all := lw_g (lw_at lw_m12 209 rfl) rfl
theorem q2926 : (Jvm.Cond.privateMethod ({ cls := "WhelkFleetModel", name := "puts", desc := "(I)V" } : Jvm.MethodName)) ∈ lw_tbl := lw_at lw_m12 210 rfl
theorem q2927 : (Jvm.Cond.instanceMethod ({ cls := "WhelkFleetModel", name := "puts", desc := "(I)V" } : Jvm.MethodName)) ∈ lw_all := lw_g (lw_at lw_m12 211 rfl) rfl
theorem q2928 : (Jvm.Cond.code ({ cls := "WhelkFleetModel", name := "puts", desc := "(I)V" } : Jvm.MethodName) prog_19_method_74_code (2 : Nat) (Option.none : Option Jvm.ClassFile.FieldType)) ∈ lw_all := lw_g (lw_at lw_m12 212 rfl) rfl
theorem q2929 : (Jvm.Cond.methodLink "WhelkFleetModel" (252 : Nat) ({ cls := "WhelkFleetModel", name := "putsNumber", desc := "(I)V" } : Jvm.MethodName)) ∈ lw_all := lw_g (lw_at lw_m12 213 rfl) rfl
theorem q2930 : (Jvm.Cond.privateMethod ({ cls := "WhelkFleetModel", name := "putsNumber", desc := "(I)V" } : Jvm.MethodName)) ∈ lw_tbl := lw_at lw_m12 214 rfl
theorem q2931 : (Jvm.Cond.instanceMethod ({ cls := "WhelkFleetModel", name := "putsNumber", desc := "(I)V" } : Jvm.MethodName)) ∈ lw_all := lw_g (lw_at lw_m12 215 rfl) rfl
theorem q2932 : (Jvm.Cond.code ({ cls := "WhelkFleetModel", name := "putsNumber", desc := "(I)V" } : Jvm.MethodName) prog_19_method_76_code (3 : Nat) (Option.none : Option Jvm.ClassFile.FieldType)) ∈ lw_all := lw_g (lw_at lw_m12 216 rfl) rfl
theorem q2933 : (Jvm.Cond.stringRef "WhelkFleetModel" (255 : Nat) " home") ∈ lw_tbl := lw_at lw_m12 217 rfl
theorem q2934 : (Jvm.Cond.stringRef "WhelkFleetModel" (257 : Nat) " at ") ∈ lw_tbl := lw_at lw_m12 218 rfl
theorem q2936 : (Jvm.Cond.instanceMethod ({ cls := "WhelkFleetModel", name := "written", desc := "(I)C" } : Jvm.MethodName)) ∈ lw_all := lw_g (lw_at lw_m12 220 rfl) rfl
theorem q2937 : (Jvm.Cond.selects "WhelkFleetModel" ({ cls := "WhelkFleetModel", name := "written", desc := "(I)C" } : Jvm.MethodName) ({ cls := "WhelkFleetModel", name := "written", desc := "(I)C" } : Jvm.MethodName)) ∈ lw_all := lw_g (lw_at lw_m12 221 rfl) rfl
theorem q2938 : (Jvm.Cond.code ({ cls := "WhelkFleetModel", name := "written", desc := "(I)C" } : Jvm.MethodName) prog_19_method_78_code (2 : Nat) (Option.some Jvm.ClassFile.FieldType.char)) ∈ lw_all := lw_g (lw_at lw_m12 222 rfl) rfl
theorem q2940 : (Jvm.Cond.instanceMethod ({ cls := "WhelkFleetModel", name := "account", desc := "(I)I" } : Jvm.MethodName)) ∈ lw_all := lw_g (lw_at lw_m12 224 rfl) rfl
theorem q2941 : (Jvm.Cond.selects "WhelkFleetModel" ({ cls := "WhelkFleetModel", name := "account", desc := "(I)I" } : Jvm.MethodName) ({ cls := "WhelkFleetModel", name := "account", desc := "(I)I" } : Jvm.MethodName)) ∈ lw_all := lw_g (lw_at lw_m12 225 rfl) rfl
theorem q2942 : (Jvm.Cond.code ({ cls := "WhelkFleetModel", name := "account", desc := "(I)I" } : Jvm.MethodName) prog_19_method_80_code (2 : Nat) (Option.some Jvm.ClassFile.FieldType.int)) ∈ lw_all := lw_g (lw_at lw_m12 226 rfl) rfl
theorem q2943 : (Jvm.Cond.methodLink "WhelkFleetModel" (259 : Nat) ({ cls := "WhelkFleetModel", name := "notNone", desc := "(II)I" } : Jvm.MethodName)) ∈ lw_all := lw_g (lw_at lw_m12 227 rfl) rfl
theorem q2944 : (Jvm.Cond.privateMethod ({ cls := "WhelkFleetModel", name := "notNone", desc := "(II)I" } : Jvm.MethodName)) ∈ lw_tbl := lw_at lw_m12 228 rfl
theorem q2945 : (Jvm.Cond.instanceMethod ({ cls := "WhelkFleetModel", name := "notNone", desc := "(II)I" } : Jvm.MethodName)) ∈ lw_all := lw_g (lw_at lw_m12 229 rfl) rfl
theorem q2946 : (Jvm.Cond.code ({ cls := "WhelkFleetModel", name := "notNone", desc := "(II)I" } : Jvm.MethodName) prog_19_method_79_code (5 : Nat) (Option.some Jvm.ClassFile.FieldType.int)) ∈ lw_all := lw_g (lw_at lw_m12 230 rfl) rfl
theorem q2947 : (Jvm.Cond.methodLink "WhelkFleetModel" (262 : Nat) ({ cls := "WhelkFleetModel", name := "sum", desc := "(II)I" } : Jvm.MethodName)) ∈ lw_all := lw_g (lw_at lw_m12 231 rfl) rfl
theorem q2948 : (Jvm.Cond.privateMethod ({ cls := "WhelkFleetModel", name := "sum", desc := "(II)I" } : Jvm.MethodName)) ∈ lw_tbl := lw_at lw_m12 232 rfl
theorem q2949 : (Jvm.Cond.instanceMethod ({ cls := "WhelkFleetModel", name := "sum", desc := "(II)I" } : Jvm.MethodName)) ∈ lw_all := lw_g (lw_at lw_m12 233 rfl) rfl
theorem q2950 : (Jvm.Cond.code ({ cls := "WhelkFleetModel", name := "sum", desc := "(II)I" } : Jvm.MethodName) prog_19_method_11_code (5 : Nat) (Option.some Jvm.ClassFile.FieldType.int)) ∈ lw_all := lw_g (lw_at lw_m12 234 rfl) rfl
theorem q2952 : (Jvm.Cond.instanceMethod ({ cls := "WhelkFleetModel", name := "holdsAgain", desc := "()I" } : Jvm.MethodName)) ∈ lw_all := lw_g (lw_at lw_m12 236 rfl) rfl
theorem q2953 : (Jvm.Cond.selects "WhelkFleetModel" ({ cls := "WhelkFleetModel", name := "holdsAgain", desc := "()I" } : Jvm.MethodName) ({ cls := "WhelkFleetModel", name := "holdsAgain", desc := "()I" } : Jvm.MethodName)) ∈ lw_all := lw_g (lw_at lw_m12 237 rfl) rfl
theorem q2954 : (Jvm.Cond.code ({ cls := "WhelkFleetModel", name := "holdsAgain", desc := "()I" } : Jvm.MethodName) prog_19_method_81_code (1 : Nat) (Option.some Jvm.ClassFile.FieldType.int)) ∈ lw_all := lw_g (lw_at lw_m12 238 rfl) rfl
theorem q2956 : (Jvm.Cond.instanceMethod ({ cls := "WhelkFleetModel", name := "meanPots", desc := "()D" } : Jvm.MethodName)) ∈ lw_all := lw_g (lw_at lw_m13 0 rfl) rfl
theorem q2957 : (Jvm.Cond.selects "WhelkFleetModel" ({ cls := "WhelkFleetModel", name := "meanPots", desc := "()D" } : Jvm.MethodName) ({ cls := "WhelkFleetModel", name := "meanPots", desc := "()D" } : Jvm.MethodName)) ∈ lw_all := lw_g (lw_at lw_m13 1 rfl) rfl
theorem q2958 : (Jvm.Cond.code ({ cls := "WhelkFleetModel", name := "meanPots", desc := "()D" } : Jvm.MethodName) prog_19_method_82_code (1 : Nat) (Option.some Jvm.ClassFile.FieldType.double)) ∈ lw_all := lw_g (lw_at lw_m13 2 rfl) rfl
theorem q2960 : (Jvm.Cond.instanceMethod ({ cls := "WhelkFleetModel", name := "backShare", desc := "()F" } : Jvm.MethodName)) ∈ lw_all := lw_g (lw_at lw_m13 4 rfl) rfl
theorem q2961 : (Jvm.Cond.selects "WhelkFleetModel" ({ cls := "WhelkFleetModel", name := "backShare", desc := "()F" } : Jvm.MethodName) ({ cls := "WhelkFleetModel", name := "backShare", desc := "()F" } : Jvm.MethodName)) ∈ lw_all := lw_g (lw_at lw_m13 5 rfl) rfl
theorem q2962 : (Jvm.Cond.code ({ cls := "WhelkFleetModel", name := "backShare", desc := "()F" } : Jvm.MethodName) prog_19_method_83_code (1 : Nat) (Option.some Jvm.ClassFile.FieldType.float)) ∈ lw_all := lw_g (lw_at lw_m13 6 rfl) rfl
theorem q2964 : (Jvm.Cond.instanceMethod ({ cls := "WhelkFleetModel", name := "undo", desc := "()I" } : Jvm.MethodName)) ∈ lw_all := lw_g (lw_at lw_m13 8 rfl) rfl
theorem q2965 : (Jvm.Cond.selects "WhelkFleetModel" ({ cls := "WhelkFleetModel", name := "undo", desc := "()I" } : Jvm.MethodName) ({ cls := "WhelkFleetModel", name := "undo", desc := "()I" } : Jvm.MethodName)) ∈ lw_all := lw_g (lw_at lw_m13 9 rfl) rfl
theorem q2966 : (Jvm.Cond.code ({ cls := "WhelkFleetModel", name := "undo", desc := "()I" } : Jvm.MethodName) prog_19_method_84_code (1 : Nat) (Option.some Jvm.ClassFile.FieldType.int)) ∈ lw_all := lw_g (lw_at lw_m13 10 rfl) rfl
theorem q2968 : (Jvm.Cond.instanceMethod ({ cls := "WhelkFleetModel", name := "save", desc := "()I" } : Jvm.MethodName)) ∈ lw_all := lw_g (lw_at lw_m13 12 rfl) rfl
theorem q2969 : (Jvm.Cond.selects "WhelkFleetModel" ({ cls := "WhelkFleetModel", name := "save", desc := "()I" } : Jvm.MethodName) ({ cls := "WhelkFleetModel", name := "save", desc := "()I" } : Jvm.MethodName)) ∈ lw_all := lw_g (lw_at lw_m13 13 rfl) rfl
theorem q2970 : (Jvm.Cond.code ({ cls := "WhelkFleetModel", name := "save", desc := "()I" } : Jvm.MethodName) prog_19_method_85_code (1 : Nat) (Option.some Jvm.ClassFile.FieldType.int)) ∈ lw_all := lw_g (lw_at lw_m13 14 rfl) rfl
theorem q2972 : (Jvm.Cond.instanceMethod ({ cls := "WhelkFleetModel", name := "restore", desc := "()I" } : Jvm.MethodName)) ∈ lw_all := lw_g (lw_at lw_m13 16 rfl) rfl
theorem q2973 : (Jvm.Cond.selects "WhelkFleetModel" ({ cls := "WhelkFleetModel", name := "restore", desc := "()I" } : Jvm.MethodName) ({ cls := "WhelkFleetModel", name := "restore", desc := "()I" } : Jvm.MethodName)) ∈ lw_all := lw_g (lw_at lw_m13 17 rfl) rfl
theorem q2974 : (Jvm.Cond.code ({ cls := "WhelkFleetModel", name := "restore", desc := "()I" } : Jvm.MethodName) prog_19_method_86_code (1 : Nat) (Option.some Jvm.ClassFile.FieldType.int)) ∈ lw_all := lw_g (lw_at lw_m13 18 rfl) rfl
theorem q3006 : (Jvm.Cond.castable "WhelkFleetModel" "java/lang/Object") ∈ lw_tbl := lw_at lw_m13 50 rfl
theorem in_X4 : ∀ w ∈ wsX40, w ∈ lw_all := lw_in wsX40 [2585, 2587, 2589, 2591, 2593, 2595, 2597, 2599, 2601, 2603, 2605, 2607, 2609, 2611, 2613, 2615, 2617, 2619] (by decide +kernel) (by decide +kernel)
/-! the law's own entry -/
set_option maxRecDepth 100000
abbrev cL_law : ByteArray := code
def dkwL_law_90 : List UInt8 := [21, 7, 133, 148, 153, 0, 5, 3, 172, 167, 0, 3, 132, 5, 4, 167, 247, 98, 4, 172]
abbrev dktL_law_90 : List UInt8 := dkwL_law_90 ++ []
def dkwL_law_89 : List UInt8 := [182, 0, 251, 54, 7, 44, 182, 0, 139, 21, 6, 159, 0, 5, 3, 172, 21, 6, 154, 0, 15, 45, 3, 47]
abbrev dktL_law_89 : List UInt8 := dkwL_law_89 ++ dktL_law_90
def dkwL_law_88 : List UInt8 := [167, 0, 60, 43, 182, 0, 245, 44, 182, 0, 248, 159, 0, 49, 3, 172, 43, 45, 184, 0, 249, 54, 6, 44]
abbrev dktL_law_88 : List UInt8 := dkwL_law_88 ++ dktL_law_89
def dkwL_law_87 : List UInt8 := [159, 0, 5, 3, 172, 21, 6, 154, 0, 15, 45, 3, 47, 21, 7, 133, 148, 153, 0, 5, 3, 172]
abbrev dktL_law_87 : List UInt8 := dkwL_law_87 ++ dktL_law_88
def dkwL_law_86 : List UInt8 := [167, 0, 104, 43, 45, 184, 0, 242, 54, 6, 44, 182, 0, 244, 54, 7, 44, 182, 0, 139, 21, 6]
abbrev dktL_law_86 : List UInt8 := dkwL_law_86 ++ dktL_law_87
def dkwL_law_85 : List UInt8 := [25, 4, 3, 49, 25, 4, 3, 49, 151, 153, 0, 11, 23, 7, 23, 7, 149, 154, 0, 5, 3, 172]
abbrev dktL_law_85 : List UInt8 := dkwL_law_85 ++ dktL_law_86
def dkwL_law_84 : List UInt8 := [21, 6, 159, 0, 5, 3, 172, 21, 6, 154, 0, 36, 25, 4, 3, 49, 23, 7, 141, 151, 153, 0, 25]
abbrev dktL_law_84 : List UInt8 := dkwL_law_84 ++ dktL_law_85
def dkwL_law_83 : List UInt8 := [3, 172, 167, 0, 170, 43, 25, 4, 184, 0, 239, 54, 6, 44, 182, 0, 241, 56, 7, 44, 182, 0, 139]
abbrev dktL_law_83 : List UInt8 := dkwL_law_83 ++ dktL_law_84
def dkwL_law_82 : List UInt8 := [151, 153, 0, 25, 25, 4, 3, 49, 25, 4, 3, 49, 151, 153, 0, 11, 24, 7, 24, 7, 151, 154, 0, 5]
abbrev dktL_law_82 : List UInt8 := dkwL_law_82 ++ dktL_law_83
def dkwL_law_81 : List UInt8 := [57, 7, 44, 182, 0, 139, 21, 6, 159, 0, 5, 3, 172, 21, 6, 154, 0, 35, 25, 4, 3, 49, 24, 7]
abbrev dktL_law_81 : List UInt8 := dkwL_law_81 ++ dktL_law_82
def dkwL_law_80 : List UInt8 := [182, 0, 231, 44, 182, 0, 234, 159, 0, 237, 3, 172, 43, 25, 4, 184, 0, 235, 54, 6, 44, 182, 0, 238]
abbrev dktL_law_80 : List UInt8 := dkwL_law_80 ++ dktL_law_81
def dkwL_law_79 : List UInt8 := [172, 21, 6, 154, 0, 15, 45, 3, 47, 21, 7, 133, 148, 153, 0, 5, 3, 172, 167, 0, 248, 43]
abbrev dktL_law_79 : List UInt8 := dkwL_law_79 ++ dktL_law_80
def dkwL_law_78 : List UInt8 := [54, 6, 44, 42, 21, 5, 4, 96, 46, 182, 0, 230, 54, 7, 44, 182, 0, 139, 21, 6, 159, 0, 5, 3]
abbrev dktL_law_78 : List UInt8 := dkwL_law_78 ++ dktL_law_79
def dkwL_law_77 : List UInt8 := [21, 7, 133, 148, 153, 0, 5, 3, 172, 167, 1, 48, 43, 42, 21, 5, 4, 96, 46, 45, 184, 0, 228]
abbrev dktL_law_77 : List UInt8 := dkwL_law_77 ++ dktL_law_78
def dkwL_law_76 : List UInt8 := [182, 0, 227, 54, 7, 44, 182, 0, 139, 21, 6, 159, 0, 5, 3, 172, 21, 6, 154, 0, 15, 45, 3, 47]
abbrev dktL_law_76 : List UInt8 := dkwL_law_76 ++ dktL_law_77
def dkwL_law_75 : List UInt8 := [167, 1, 104, 43, 42, 21, 5, 4, 96, 46, 45, 184, 0, 225, 54, 6, 44, 42, 21, 5, 4, 96, 46]
abbrev dktL_law_75 : List UInt8 := dkwL_law_75 ++ dktL_law_76
def dkwL_law_74 : List UInt8 := [21, 6, 159, 0, 5, 3, 172, 21, 6, 154, 0, 15, 45, 3, 47, 21, 7, 133, 148, 153, 0, 5, 3, 172]
abbrev dktL_law_74 : List UInt8 := dkwL_law_74 ++ dktL_law_75
def dkwL_law_73 : List UInt8 := [46, 45, 184, 0, 222, 54, 6, 44, 42, 21, 5, 4, 96, 46, 182, 0, 224, 54, 7, 44, 182, 0, 139]
abbrev dktL_law_73 : List UInt8 := dkwL_law_73 ++ dktL_law_74
def dkwL_law_72 : List UInt8 := [154, 0, 15, 45, 3, 47, 21, 7, 133, 148, 153, 0, 5, 3, 172, 167, 1, 160, 43, 42, 21, 5, 4, 96]
abbrev dktL_law_72 : List UInt8 := dkwL_law_72 ++ dktL_law_73
def dkwL_law_71 : List UInt8 := [167, 0, 4, 3, 182, 0, 221, 54, 7, 44, 182, 0, 139, 21, 6, 159, 0, 5, 3, 172, 21, 6]
abbrev dktL_law_71 : List UInt8 := dkwL_law_71 ++ dktL_law_72
def dkwL_law_70 : List UInt8 := [45, 184, 0, 218, 54, 6, 44, 42, 21, 5, 4, 96, 46, 42, 21, 5, 5, 96, 46, 153, 0, 7, 4]
abbrev dktL_law_70 : List UInt8 := dkwL_law_70 ++ dktL_law_71
def dkwL_law_69 : List UInt8 := [167, 1, 244, 43, 42, 21, 5, 4, 96, 46, 42, 21, 5, 5, 96, 46, 153, 0, 7, 4, 167, 0, 4, 3]
abbrev dktL_law_69 : List UInt8 := dkwL_law_69 ++ dktL_law_70
def dkwL_law_68 : List UInt8 := [159, 0, 5, 3, 172, 21, 6, 154, 0, 15, 45, 3, 47, 21, 7, 133, 148, 153, 0, 5, 3, 172]
abbrev dktL_law_68 : List UInt8 := dkwL_law_68 ++ dktL_law_69
def dkwL_law_67 : List UInt8 := [167, 2, 32, 43, 45, 184, 0, 215, 54, 6, 44, 182, 0, 217, 54, 7, 44, 182, 0, 139, 21, 6]
abbrev dktL_law_67 : List UInt8 := dkwL_law_67 ++ dktL_law_68
def dkwL_law_66 : List UInt8 := [159, 0, 5, 3, 172, 21, 6, 154, 0, 15, 45, 3, 47, 21, 7, 133, 148, 153, 0, 5, 3, 172]
abbrev dktL_law_66 : List UInt8 := dkwL_law_66 ++ dktL_law_67
def dkwL_law_65 : List UInt8 := [167, 2, 76, 43, 45, 184, 0, 211, 54, 6, 44, 182, 0, 214, 54, 7, 44, 182, 0, 139, 21, 6]
abbrev dktL_law_65 : List UInt8 := dkwL_law_65 ++ dktL_law_66
def dkwL_law_64 : List UInt8 := [159, 0, 5, 3, 172, 21, 6, 154, 0, 15, 45, 3, 47, 21, 7, 133, 148, 153, 0, 5, 3, 172]
abbrev dktL_law_64 : List UInt8 := dkwL_law_64 ++ dktL_law_65
def dkwL_law_63 : List UInt8 := [184, 0, 207, 54, 6, 44, 42, 21, 5, 4, 96, 46, 146, 182, 0, 210, 54, 7, 44, 182, 0, 139, 21, 6]
abbrev dktL_law_63 : List UInt8 := dkwL_law_63 ++ dktL_law_64
def dkwL_law_62 : List UInt8 := [3, 47, 21, 7, 133, 148, 153, 0, 5, 3, 172, 167, 2, 134, 43, 42, 21, 5, 4, 96, 46, 146, 45]
abbrev dktL_law_62 : List UInt8 := dkwL_law_62 ++ dktL_law_63
def dkwL_law_61 : List UInt8 := [96, 46, 182, 0, 206, 54, 7, 44, 182, 0, 139, 21, 6, 159, 0, 5, 3, 172, 21, 6, 154, 0, 15, 45]
abbrev dktL_law_61 : List UInt8 := dkwL_law_61 ++ dktL_law_62
def dkwL_law_60 : List UInt8 := [46, 42, 21, 5, 5, 96, 46, 45, 184, 0, 204, 54, 6, 44, 42, 21, 5, 4, 96, 46, 42, 21, 5, 5]
abbrev dktL_law_60 : List UInt8 := dkwL_law_60 ++ dktL_law_61
def dkwL_law_59 : List UInt8 := [154, 0, 15, 45, 3, 47, 21, 7, 133, 148, 153, 0, 5, 3, 172, 167, 2, 202, 43, 42, 21, 5, 4, 96]
abbrev dktL_law_59 : List UInt8 := dkwL_law_59 ++ dktL_law_60
def dkwL_law_58 : List UInt8 := [21, 5, 4, 96, 46, 182, 0, 203, 54, 7, 44, 182, 0, 139, 21, 6, 159, 0, 5, 3, 172, 21, 6]
abbrev dktL_law_58 : List UInt8 := dkwL_law_58 ++ dktL_law_59
def dkwL_law_57 : List UInt8 := [153, 0, 5, 3, 172, 167, 3, 2, 43, 42, 21, 5, 4, 96, 46, 45, 184, 0, 201, 54, 6, 44, 42]
abbrev dktL_law_57 : List UInt8 := dkwL_law_57 ++ dktL_law_58
def dkwL_law_56 : List UInt8 := [182, 0, 139, 21, 6, 159, 0, 5, 3, 172, 21, 6, 154, 0, 15, 45, 3, 47, 21, 7, 133, 148]
abbrev dktL_law_56 : List UInt8 := dkwL_law_56 ++ dktL_law_57
def dkwL_law_55 : List UInt8 := [21, 5, 4, 96, 46, 45, 184, 0, 198, 54, 6, 44, 42, 21, 5, 4, 96, 46, 182, 0, 200, 54, 7, 44]
abbrev dktL_law_55 : List UInt8 := dkwL_law_55 ++ dktL_law_56
def dkwL_law_54 : List UInt8 := [172, 21, 6, 154, 0, 15, 45, 3, 47, 21, 7, 133, 148, 153, 0, 5, 3, 172, 167, 3, 58, 43, 42]
abbrev dktL_law_54 : List UInt8 := dkwL_law_54 ++ dktL_law_55
def dkwL_law_53 : List UInt8 := [54, 6, 44, 42, 21, 5, 4, 96, 46, 182, 0, 197, 54, 7, 44, 182, 0, 139, 21, 6, 159, 0, 5, 3]
abbrev dktL_law_53 : List UInt8 := dkwL_law_53 ++ dktL_law_54
def dkwL_law_52 : List UInt8 := [21, 7, 133, 148, 153, 0, 5, 3, 172, 167, 3, 114, 43, 42, 21, 5, 4, 96, 46, 45, 184, 0, 195]
abbrev dktL_law_52 : List UInt8 := dkwL_law_52 ++ dktL_law_53
def dkwL_law_51 : List UInt8 := [182, 0, 194, 54, 7, 44, 182, 0, 139, 21, 6, 159, 0, 5, 3, 172, 21, 6, 154, 0, 15, 45, 3, 47]
abbrev dktL_law_51 : List UInt8 := dkwL_law_51 ++ dktL_law_52
def dkwL_law_50 : List UInt8 := [167, 3, 170, 43, 42, 21, 5, 4, 96, 46, 45, 184, 0, 192, 54, 6, 44, 42, 21, 5, 4, 96, 46]
abbrev dktL_law_50 : List UInt8 := dkwL_law_50 ++ dktL_law_51
def dkwL_law_49 : List UInt8 := [159, 0, 5, 3, 172, 21, 6, 154, 0, 15, 45, 3, 47, 21, 7, 133, 148, 153, 0, 5, 3, 172]
abbrev dktL_law_49 : List UInt8 := dkwL_law_49 ++ dktL_law_50
def dkwL_law_48 : List UInt8 := [184, 0, 189, 54, 6, 44, 42, 21, 5, 4, 96, 46, 182, 0, 191, 54, 7, 44, 182, 0, 139, 21, 6]
abbrev dktL_law_48 : List UInt8 := dkwL_law_48 ++ dktL_law_49
def dkwL_law_47 : List UInt8 := [3, 47, 21, 7, 133, 148, 153, 0, 5, 3, 172, 167, 3, 226, 43, 42, 21, 5, 4, 96, 46, 45]
abbrev dktL_law_47 : List UInt8 := dkwL_law_47 ++ dktL_law_48
def dkwL_law_46 : List UInt8 := [96, 46, 182, 0, 188, 54, 7, 44, 182, 0, 139, 21, 6, 159, 0, 5, 3, 172, 21, 6, 154, 0, 15, 45]
abbrev dktL_law_46 : List UInt8 := dkwL_law_46 ++ dktL_law_47
def dkwL_law_45 : List UInt8 := [46, 42, 21, 5, 5, 96, 46, 45, 184, 0, 186, 54, 6, 44, 42, 21, 5, 4, 96, 46, 42, 21, 5, 5]
abbrev dktL_law_45 : List UInt8 := dkwL_law_45 ++ dktL_law_46
def dkwL_law_44 : List UInt8 := [154, 0, 15, 45, 3, 47, 21, 7, 133, 148, 153, 0, 5, 3, 172, 167, 4, 38, 43, 42, 21, 5, 4, 96]
abbrev dktL_law_44 : List UInt8 := dkwL_law_44 ++ dktL_law_45
def dkwL_law_43 : List UInt8 := [21, 5, 4, 96, 46, 182, 0, 185, 54, 7, 44, 182, 0, 139, 21, 6, 159, 0, 5, 3, 172, 21, 6]
abbrev dktL_law_43 : List UInt8 := dkwL_law_43 ++ dktL_law_44
def dkwL_law_42 : List UInt8 := [153, 0, 5, 3, 172, 167, 4, 94, 43, 42, 21, 5, 4, 96, 46, 45, 184, 0, 183, 54, 6, 44, 42]
abbrev dktL_law_42 : List UInt8 := dkwL_law_42 ++ dktL_law_43
def dkwL_law_41 : List UInt8 := [182, 0, 139, 21, 6, 159, 0, 5, 3, 172, 21, 6, 154, 0, 15, 45, 3, 47, 21, 7, 133, 148]
abbrev dktL_law_41 : List UInt8 := dkwL_law_41 ++ dktL_law_42
def dkwL_law_40 : List UInt8 := [184, 0, 180, 54, 6, 44, 42, 21, 5, 4, 96, 46, 42, 21, 5, 5, 96, 46, 182, 0, 182, 54, 7, 44]
abbrev dktL_law_40 : List UInt8 := dkwL_law_40 ++ dktL_law_41
def dkwL_law_39 : List UInt8 := [153, 0, 5, 3, 172, 167, 4, 162, 43, 42, 21, 5, 4, 96, 46, 42, 21, 5, 5, 96, 46, 45]
abbrev dktL_law_39 : List UInt8 := dkwL_law_39 ++ dktL_law_40
def dkwL_law_38 : List UInt8 := [182, 0, 139, 21, 6, 159, 0, 5, 3, 172, 21, 6, 154, 0, 15, 45, 3, 47, 21, 7, 133, 148]
abbrev dktL_law_38 : List UInt8 := dkwL_law_38 ++ dktL_law_39
def dkwL_law_37 : List UInt8 := [42, 21, 5, 4, 96, 46, 42, 21, 5, 5, 96, 46, 42, 21, 5, 6, 96, 46, 182, 0, 179, 54, 7, 44]
abbrev dktL_law_37 : List UInt8 := dkwL_law_37 ++ dktL_law_38
def dkwL_law_36 : List UInt8 := [21, 5, 4, 96, 46, 42, 21, 5, 5, 96, 46, 42, 21, 5, 6, 96, 46, 45, 184, 0, 177, 54, 6, 44]
abbrev dktL_law_36 : List UInt8 := dkwL_law_36 ++ dktL_law_37
def dkwL_law_35 : List UInt8 := [172, 21, 6, 154, 0, 15, 45, 3, 47, 21, 7, 133, 148, 153, 0, 5, 3, 172, 167, 4, 242, 43, 42]
abbrev dktL_law_35 : List UInt8 := dkwL_law_35 ++ dktL_law_36
def dkwL_law_34 : List UInt8 := [54, 6, 44, 42, 21, 5, 4, 96, 46, 182, 0, 176, 54, 7, 44, 182, 0, 139, 21, 6, 159, 0, 5, 3]
abbrev dktL_law_34 : List UInt8 := dkwL_law_34 ++ dktL_law_35
def dkwL_law_33 : List UInt8 := [21, 7, 133, 148, 153, 0, 5, 3, 172, 167, 5, 42, 43, 42, 21, 5, 4, 96, 46, 45, 184, 0, 174]
abbrev dktL_law_33 : List UInt8 := dkwL_law_33 ++ dktL_law_34
def dkwL_law_32 : List UInt8 := [182, 0, 173, 54, 7, 44, 182, 0, 139, 21, 6, 159, 0, 5, 3, 172, 21, 6, 154, 0, 15, 45, 3, 47]
abbrev dktL_law_32 : List UInt8 := dkwL_law_32 ++ dktL_law_33
def dkwL_law_31 : List UInt8 := [5, 96, 46, 45, 184, 0, 171, 54, 6, 44, 42, 21, 5, 4, 96, 46, 42, 21, 5, 5, 96, 46]
abbrev dktL_law_31 : List UInt8 := dkwL_law_31 ++ dktL_law_32
def dkwL_law_30 : List UInt8 := [3, 47, 21, 7, 133, 148, 153, 0, 5, 3, 172, 167, 5, 110, 43, 42, 21, 5, 4, 96, 46, 42, 21, 5]
abbrev dktL_law_30 : List UInt8 := dkwL_law_30 ++ dktL_law_31
def dkwL_law_29 : List UInt8 := [96, 46, 182, 0, 170, 54, 7, 44, 182, 0, 139, 21, 6, 159, 0, 5, 3, 172, 21, 6, 154, 0, 15, 45]
abbrev dktL_law_29 : List UInt8 := dkwL_law_29 ++ dktL_law_30
def dkwL_law_28 : List UInt8 := [46, 42, 21, 5, 5, 96, 46, 45, 184, 0, 168, 54, 6, 44, 42, 21, 5, 4, 96, 46, 42, 21, 5, 5]
abbrev dktL_law_28 : List UInt8 := dkwL_law_28 ++ dktL_law_29
def dkwL_law_27 : List UInt8 := [154, 0, 15, 45, 3, 47, 21, 7, 133, 148, 153, 0, 5, 3, 172, 167, 5, 178, 43, 42, 21, 5, 4, 96]
abbrev dktL_law_27 : List UInt8 := dkwL_law_27 ++ dktL_law_28
def dkwL_law_26 : List UInt8 := [42, 21, 5, 5, 96, 46, 182, 0, 167, 54, 7, 44, 182, 0, 139, 21, 6, 159, 0, 5, 3, 172, 21, 6]
abbrev dktL_law_26 : List UInt8 := dkwL_law_26 ++ dktL_law_27
def dkwL_law_25 : List UInt8 := [21, 5, 4, 96, 46, 42, 21, 5, 5, 96, 46, 45, 184, 0, 165, 54, 6, 44, 42, 21, 5, 4, 96, 46]
abbrev dktL_law_25 : List UInt8 := dkwL_law_25 ++ dktL_law_26
def dkwL_law_24 : List UInt8 := [172, 21, 6, 154, 0, 15, 45, 3, 47, 21, 7, 133, 148, 153, 0, 5, 3, 172, 167, 5, 246, 43, 42]
abbrev dktL_law_24 : List UInt8 := dkwL_law_24 ++ dktL_law_25
def dkwL_law_23 : List UInt8 := [54, 6, 44, 42, 21, 5, 4, 96, 46, 182, 0, 164, 54, 7, 44, 182, 0, 139, 21, 6, 159, 0, 5, 3]
abbrev dktL_law_23 : List UInt8 := dkwL_law_23 ++ dktL_law_24
def dkwL_law_22 : List UInt8 := [21, 7, 133, 148, 153, 0, 5, 3, 172, 167, 6, 46, 43, 42, 21, 5, 4, 96, 46, 45, 184, 0, 162]
abbrev dktL_law_22 : List UInt8 := dkwL_law_22 ++ dktL_law_23
def dkwL_law_21 : List UInt8 := [182, 0, 161, 54, 7, 44, 182, 0, 139, 21, 6, 159, 0, 5, 3, 172, 21, 6, 154, 0, 15, 45, 3, 47]
abbrev dktL_law_21 : List UInt8 := dkwL_law_21 ++ dktL_law_22
def dkwL_law_20 : List UInt8 := [167, 6, 102, 43, 42, 21, 5, 4, 96, 46, 45, 184, 0, 159, 54, 6, 44, 42, 21, 5, 4, 96, 46]
abbrev dktL_law_20 : List UInt8 := dkwL_law_20 ++ dktL_law_21
def dkwL_law_19 : List UInt8 := [159, 0, 5, 3, 172, 21, 6, 154, 0, 15, 45, 3, 47, 21, 7, 133, 148, 153, 0, 5, 3, 172]
abbrev dktL_law_19 : List UInt8 := dkwL_law_19 ++ dktL_law_20
def dkwL_law_18 : List UInt8 := [184, 0, 156, 54, 6, 44, 42, 21, 5, 4, 96, 46, 182, 0, 158, 54, 7, 44, 182, 0, 139, 21, 6]
abbrev dktL_law_18 : List UInt8 := dkwL_law_18 ++ dktL_law_19
def dkwL_law_17 : List UInt8 := [3, 47, 21, 7, 133, 148, 153, 0, 5, 3, 172, 167, 6, 158, 43, 42, 21, 5, 4, 96, 46, 45]
abbrev dktL_law_17 : List UInt8 := dkwL_law_17 ++ dktL_law_18
def dkwL_law_16 : List UInt8 := [96, 46, 182, 0, 155, 54, 7, 44, 182, 0, 139, 21, 6, 159, 0, 5, 3, 172, 21, 6, 154, 0, 15, 45]
abbrev dktL_law_16 : List UInt8 := dkwL_law_16 ++ dktL_law_17
def dkwL_law_15 : List UInt8 := [46, 42, 21, 5, 5, 96, 46, 45, 184, 0, 153, 54, 6, 44, 42, 21, 5, 4, 96, 46, 42, 21, 5, 5]
abbrev dktL_law_15 : List UInt8 := dkwL_law_15 ++ dktL_law_16
def dkwL_law_14 : List UInt8 := [154, 0, 15, 45, 3, 47, 21, 7, 133, 148, 153, 0, 5, 3, 172, 167, 6, 226, 43, 42, 21, 5, 4, 96]
abbrev dktL_law_14 : List UInt8 := dkwL_law_14 ++ dktL_law_15
def dkwL_law_13 : List UInt8 := [21, 5, 4, 96, 46, 182, 0, 152, 54, 7, 44, 182, 0, 139, 21, 6, 159, 0, 5, 3, 172, 21, 6]
abbrev dktL_law_13 : List UInt8 := dkwL_law_13 ++ dktL_law_14
def dkwL_law_12 : List UInt8 := [153, 0, 5, 3, 172, 167, 7, 26, 43, 42, 21, 5, 4, 96, 46, 45, 184, 0, 149, 54, 6, 44, 42]
abbrev dktL_law_12 : List UInt8 := dkwL_law_12 ++ dktL_law_13
def dkwL_law_11 : List UInt8 := [182, 0, 139, 21, 6, 159, 0, 5, 3, 172, 21, 6, 154, 0, 15, 45, 3, 47, 21, 7, 133, 148]
abbrev dktL_law_11 : List UInt8 := dkwL_law_11 ++ dktL_law_12
def dkwL_law_10 : List UInt8 := [184, 0, 146, 54, 6, 44, 42, 21, 5, 4, 96, 46, 42, 21, 5, 5, 96, 46, 182, 0, 148, 54, 7, 44]
abbrev dktL_law_10 : List UInt8 := dkwL_law_10 ++ dktL_law_11
def dkwL_law_9 : List UInt8 := [153, 0, 5, 3, 172, 167, 7, 94, 43, 42, 21, 5, 4, 96, 46, 42, 21, 5, 5, 96, 46, 45]
abbrev dktL_law_9 : List UInt8 := dkwL_law_9 ++ dktL_law_10
def dkwL_law_8 : List UInt8 := [182, 0, 139, 21, 6, 159, 0, 5, 3, 172, 21, 6, 154, 0, 15, 45, 3, 47, 21, 7, 133, 148]
abbrev dktL_law_8 : List UInt8 := dkwL_law_8 ++ dktL_law_9
def dkwL_law_7 : List UInt8 := [21, 5, 4, 96, 46, 42, 21, 5, 5, 96, 46, 42, 21, 5, 6, 96, 46, 182, 0, 145, 54, 7, 44]
abbrev dktL_law_7 : List UInt8 := dkwL_law_7 ++ dktL_law_8
def dkwL_law_6 : List UInt8 := [4, 96, 46, 42, 21, 5, 5, 96, 46, 42, 21, 5, 6, 96, 46, 45, 184, 0, 142, 54, 6, 44, 42]
abbrev dktL_law_6 : List UInt8 := dkwL_law_6 ++ dktL_law_7
def dkwL_law_5 : List UInt8 := [21, 6, 154, 0, 15, 45, 3, 47, 21, 7, 133, 148, 153, 0, 5, 3, 172, 167, 7, 174, 43, 42, 21, 5]
abbrev dktL_law_5 : List UInt8 := dkwL_law_5 ++ dktL_law_6
def dkwL_law_4 : List UInt8 := [96, 46, 42, 21, 5, 5, 96, 46, 182, 0, 138, 54, 7, 44, 182, 0, 139, 21, 6, 159, 0, 5, 3, 172]
abbrev dktL_law_4 : List UInt8 := dkwL_law_4 ++ dktL_law_5
def dkwL_law_3 : List UInt8 := [43, 42, 21, 5, 4, 96, 46, 42, 21, 5, 5, 96, 46, 45, 184, 0, 133, 54, 6, 44, 42, 21, 5, 4]
abbrev dktL_law_3 : List UInt8 := dkwL_law_3 ++ dktL_law_4
def dkwL_law_2 : List UInt8 := [170, 0, 0, 0, 0, 0, 8, 139, 0, 0, 0, 0, 0, 0, 0, 34, 0, 0, 0, 156, 0, 0, 0, 224, 0, 0, 1, 48, 0, 0, 1, 116, 0, 0, 1, 172, 0, 0, 1, 240, 0, 0, 2, 40, 0, 0, 2, 96, 0, 0, 2, 152, 0, 0, 2, 220, 0, 0, 3, 32, 0, 0, 3, 100, 0, 0, 3, 156, 0, 0, 3, 236, 0, 0, 4, 48, 0, 0, 4, 104, 0, 0, 4, 172, 0, 0, 4, 228, 0, 0, 5, 28, 0, 0, 5, 84, 0, 0, 5, 140, 0, 0, 5, 196, 0, 0, 6, 8, 0, 0, 6, 66, 0, 0, 6, 110, 0, 0, 6, 154, 0, 0, 6, 238, 0, 0, 7, 38, 0, 0, 7, 94, 0, 0, 7, 150, 0, 0, 7, 163, 0, 0, 7, 228, 0, 0, 8, 38, 0, 0, 8, 82, 0, 0, 8, 95]
abbrev dktL_law_2 : List UInt8 := dkwL_law_2 ++ dktL_law_3
def dkwL_law_1 : List UInt8 := [58, 4, 3, 54, 5, 21, 5, 42, 190, 7, 100, 163, 8, 155, 42, 21, 5, 46, 16, 63, 126]
abbrev dktL_law_1 : List UInt8 := dkwL_law_1 ++ dktL_law_2
def dkwL_law_0 : List UInt8 := [187, 0, 8, 89, 183, 0, 129, 76, 187, 0, 130, 89, 183, 0, 132, 77, 4, 188, 11, 78, 4, 188, 7]
abbrev dktL_law_0 : List UInt8 := dkwL_law_0 ++ dktL_law_1
theorem dksL_law_0 : cL_law.data.toList.drop 0 = dktL_law_0 := by decide +kernel
theorem dksL_law_1 : cL_law.data.toList.drop 23 = dktL_law_1 := dk_seg dksL_law_0 23 rfl rfl
theorem dksL_law_2 : cL_law.data.toList.drop 44 = dktL_law_2 := dk_seg dksL_law_1 21 rfl rfl
theorem dksL_law_3 : cL_law.data.toList.drop 200 = dktL_law_3 := dk_seg dksL_law_2 156 rfl rfl
theorem dksL_law_4 : cL_law.data.toList.drop 224 = dktL_law_4 := dk_seg dksL_law_3 24 rfl rfl
theorem dksL_law_5 : cL_law.data.toList.drop 248 = dktL_law_5 := dk_seg dksL_law_4 24 rfl rfl
theorem dksL_law_6 : cL_law.data.toList.drop 272 = dktL_law_6 := dk_seg dksL_law_5 24 rfl rfl
theorem dksL_law_7 : cL_law.data.toList.drop 295 = dktL_law_7 := dk_seg dksL_law_6 23 rfl rfl
theorem dksL_law_8 : cL_law.data.toList.drop 318 = dktL_law_8 := dk_seg dksL_law_7 23 rfl rfl
theorem dksL_law_9 : cL_law.data.toList.drop 340 = dktL_law_9 := dk_seg dksL_law_8 22 rfl rfl
theorem dksL_law_10 : cL_law.data.toList.drop 362 = dktL_law_10 := dk_seg dksL_law_9 22 rfl rfl
theorem dksL_law_11 : cL_law.data.toList.drop 386 = dktL_law_11 := dk_seg dksL_law_10 24 rfl rfl
theorem dksL_law_12 : cL_law.data.toList.drop 408 = dktL_law_12 := dk_seg dksL_law_11 22 rfl rfl
theorem dksL_law_13 : cL_law.data.toList.drop 431 = dktL_law_13 := dk_seg dksL_law_12 23 rfl rfl
theorem dksL_law_14 : cL_law.data.toList.drop 454 = dktL_law_14 := dk_seg dksL_law_13 23 rfl rfl
theorem dksL_law_15 : cL_law.data.toList.drop 478 = dktL_law_15 := dk_seg dksL_law_14 24 rfl rfl
theorem dksL_law_16 : cL_law.data.toList.drop 502 = dktL_law_16 := dk_seg dksL_law_15 24 rfl rfl
theorem dksL_law_17 : cL_law.data.toList.drop 526 = dktL_law_17 := dk_seg dksL_law_16 24 rfl rfl
theorem dksL_law_18 : cL_law.data.toList.drop 548 = dktL_law_18 := dk_seg dksL_law_17 22 rfl rfl
theorem dksL_law_19 : cL_law.data.toList.drop 571 = dktL_law_19 := dk_seg dksL_law_18 23 rfl rfl
theorem dksL_law_20 : cL_law.data.toList.drop 593 = dktL_law_20 := dk_seg dksL_law_19 22 rfl rfl
theorem dksL_law_21 : cL_law.data.toList.drop 616 = dktL_law_21 := dk_seg dksL_law_20 23 rfl rfl
theorem dksL_law_22 : cL_law.data.toList.drop 640 = dktL_law_22 := dk_seg dksL_law_21 24 rfl rfl
theorem dksL_law_23 : cL_law.data.toList.drop 663 = dktL_law_23 := dk_seg dksL_law_22 23 rfl rfl
theorem dksL_law_24 : cL_law.data.toList.drop 687 = dktL_law_24 := dk_seg dksL_law_23 24 rfl rfl
theorem dksL_law_25 : cL_law.data.toList.drop 710 = dktL_law_25 := dk_seg dksL_law_24 23 rfl rfl
theorem dksL_law_26 : cL_law.data.toList.drop 734 = dktL_law_26 := dk_seg dksL_law_25 24 rfl rfl
theorem dksL_law_27 : cL_law.data.toList.drop 758 = dktL_law_27 := dk_seg dksL_law_26 24 rfl rfl
theorem dksL_law_28 : cL_law.data.toList.drop 782 = dktL_law_28 := dk_seg dksL_law_27 24 rfl rfl
theorem dksL_law_29 : cL_law.data.toList.drop 806 = dktL_law_29 := dk_seg dksL_law_28 24 rfl rfl
theorem dksL_law_30 : cL_law.data.toList.drop 830 = dktL_law_30 := dk_seg dksL_law_29 24 rfl rfl
theorem dksL_law_31 : cL_law.data.toList.drop 854 = dktL_law_31 := dk_seg dksL_law_30 24 rfl rfl
theorem dksL_law_32 : cL_law.data.toList.drop 876 = dktL_law_32 := dk_seg dksL_law_31 22 rfl rfl
theorem dksL_law_33 : cL_law.data.toList.drop 900 = dktL_law_33 := dk_seg dksL_law_32 24 rfl rfl
theorem dksL_law_34 : cL_law.data.toList.drop 923 = dktL_law_34 := dk_seg dksL_law_33 23 rfl rfl
theorem dksL_law_35 : cL_law.data.toList.drop 947 = dktL_law_35 := dk_seg dksL_law_34 24 rfl rfl
theorem dksL_law_36 : cL_law.data.toList.drop 970 = dktL_law_36 := dk_seg dksL_law_35 23 rfl rfl
theorem dksL_law_37 : cL_law.data.toList.drop 994 = dktL_law_37 := dk_seg dksL_law_36 24 rfl rfl
theorem dksL_law_38 : cL_law.data.toList.drop 1018 = dktL_law_38 := dk_seg dksL_law_37 24 rfl rfl
theorem dksL_law_39 : cL_law.data.toList.drop 1040 = dktL_law_39 := dk_seg dksL_law_38 22 rfl rfl
theorem dksL_law_40 : cL_law.data.toList.drop 1062 = dktL_law_40 := dk_seg dksL_law_39 22 rfl rfl
theorem dksL_law_41 : cL_law.data.toList.drop 1086 = dktL_law_41 := dk_seg dksL_law_40 24 rfl rfl
theorem dksL_law_42 : cL_law.data.toList.drop 1108 = dktL_law_42 := dk_seg dksL_law_41 22 rfl rfl
theorem dksL_law_43 : cL_law.data.toList.drop 1131 = dktL_law_43 := dk_seg dksL_law_42 23 rfl rfl
theorem dksL_law_44 : cL_law.data.toList.drop 1154 = dktL_law_44 := dk_seg dksL_law_43 23 rfl rfl
theorem dksL_law_45 : cL_law.data.toList.drop 1178 = dktL_law_45 := dk_seg dksL_law_44 24 rfl rfl
theorem dksL_law_46 : cL_law.data.toList.drop 1202 = dktL_law_46 := dk_seg dksL_law_45 24 rfl rfl
theorem dksL_law_47 : cL_law.data.toList.drop 1226 = dktL_law_47 := dk_seg dksL_law_46 24 rfl rfl
theorem dksL_law_48 : cL_law.data.toList.drop 1248 = dktL_law_48 := dk_seg dksL_law_47 22 rfl rfl
theorem dksL_law_49 : cL_law.data.toList.drop 1271 = dktL_law_49 := dk_seg dksL_law_48 23 rfl rfl
theorem dksL_law_50 : cL_law.data.toList.drop 1293 = dktL_law_50 := dk_seg dksL_law_49 22 rfl rfl
theorem dksL_law_51 : cL_law.data.toList.drop 1316 = dktL_law_51 := dk_seg dksL_law_50 23 rfl rfl
theorem dksL_law_52 : cL_law.data.toList.drop 1340 = dktL_law_52 := dk_seg dksL_law_51 24 rfl rfl
theorem dksL_law_53 : cL_law.data.toList.drop 1363 = dktL_law_53 := dk_seg dksL_law_52 23 rfl rfl
theorem dksL_law_54 : cL_law.data.toList.drop 1387 = dktL_law_54 := dk_seg dksL_law_53 24 rfl rfl
theorem dksL_law_55 : cL_law.data.toList.drop 1410 = dktL_law_55 := dk_seg dksL_law_54 23 rfl rfl
theorem dksL_law_56 : cL_law.data.toList.drop 1434 = dktL_law_56 := dk_seg dksL_law_55 24 rfl rfl
theorem dksL_law_57 : cL_law.data.toList.drop 1456 = dktL_law_57 := dk_seg dksL_law_56 22 rfl rfl
theorem dksL_law_58 : cL_law.data.toList.drop 1479 = dktL_law_58 := dk_seg dksL_law_57 23 rfl rfl
theorem dksL_law_59 : cL_law.data.toList.drop 1502 = dktL_law_59 := dk_seg dksL_law_58 23 rfl rfl
theorem dksL_law_60 : cL_law.data.toList.drop 1526 = dktL_law_60 := dk_seg dksL_law_59 24 rfl rfl
theorem dksL_law_61 : cL_law.data.toList.drop 1550 = dktL_law_61 := dk_seg dksL_law_60 24 rfl rfl
theorem dksL_law_62 : cL_law.data.toList.drop 1574 = dktL_law_62 := dk_seg dksL_law_61 24 rfl rfl
theorem dksL_law_63 : cL_law.data.toList.drop 1597 = dktL_law_63 := dk_seg dksL_law_62 23 rfl rfl
theorem dksL_law_64 : cL_law.data.toList.drop 1621 = dktL_law_64 := dk_seg dksL_law_63 24 rfl rfl
theorem dksL_law_65 : cL_law.data.toList.drop 1643 = dktL_law_65 := dk_seg dksL_law_64 22 rfl rfl
theorem dksL_law_66 : cL_law.data.toList.drop 1665 = dktL_law_66 := dk_seg dksL_law_65 22 rfl rfl
theorem dksL_law_67 : cL_law.data.toList.drop 1687 = dktL_law_67 := dk_seg dksL_law_66 22 rfl rfl
theorem dksL_law_68 : cL_law.data.toList.drop 1709 = dktL_law_68 := dk_seg dksL_law_67 22 rfl rfl
theorem dksL_law_69 : cL_law.data.toList.drop 1731 = dktL_law_69 := dk_seg dksL_law_68 22 rfl rfl
theorem dksL_law_70 : cL_law.data.toList.drop 1755 = dktL_law_70 := dk_seg dksL_law_69 24 rfl rfl
theorem dksL_law_71 : cL_law.data.toList.drop 1778 = dktL_law_71 := dk_seg dksL_law_70 23 rfl rfl
theorem dksL_law_72 : cL_law.data.toList.drop 1800 = dktL_law_72 := dk_seg dksL_law_71 22 rfl rfl
theorem dksL_law_73 : cL_law.data.toList.drop 1824 = dktL_law_73 := dk_seg dksL_law_72 24 rfl rfl
theorem dksL_law_74 : cL_law.data.toList.drop 1847 = dktL_law_74 := dk_seg dksL_law_73 23 rfl rfl
theorem dksL_law_75 : cL_law.data.toList.drop 1871 = dktL_law_75 := dk_seg dksL_law_74 24 rfl rfl
theorem dksL_law_76 : cL_law.data.toList.drop 1894 = dktL_law_76 := dk_seg dksL_law_75 23 rfl rfl
theorem dksL_law_77 : cL_law.data.toList.drop 1918 = dktL_law_77 := dk_seg dksL_law_76 24 rfl rfl
theorem dksL_law_78 : cL_law.data.toList.drop 1941 = dktL_law_78 := dk_seg dksL_law_77 23 rfl rfl
theorem dksL_law_79 : cL_law.data.toList.drop 1965 = dktL_law_79 := dk_seg dksL_law_78 24 rfl rfl
theorem dksL_law_80 : cL_law.data.toList.drop 1987 = dktL_law_80 := dk_seg dksL_law_79 22 rfl rfl
theorem dksL_law_81 : cL_law.data.toList.drop 2011 = dktL_law_81 := dk_seg dksL_law_80 24 rfl rfl
theorem dksL_law_82 : cL_law.data.toList.drop 2035 = dktL_law_82 := dk_seg dksL_law_81 24 rfl rfl
theorem dksL_law_83 : cL_law.data.toList.drop 2059 = dktL_law_83 := dk_seg dksL_law_82 24 rfl rfl
theorem dksL_law_84 : cL_law.data.toList.drop 2082 = dktL_law_84 := dk_seg dksL_law_83 23 rfl rfl
theorem dksL_law_85 : cL_law.data.toList.drop 2105 = dktL_law_85 := dk_seg dksL_law_84 23 rfl rfl
theorem dksL_law_86 : cL_law.data.toList.drop 2127 = dktL_law_86 := dk_seg dksL_law_85 22 rfl rfl
theorem dksL_law_87 : cL_law.data.toList.drop 2149 = dktL_law_87 := dk_seg dksL_law_86 22 rfl rfl
theorem dksL_law_88 : cL_law.data.toList.drop 2171 = dktL_law_88 := dk_seg dksL_law_87 22 rfl rfl
theorem dksL_law_89 : cL_law.data.toList.drop 2195 = dktL_law_89 := dk_seg dksL_law_88 24 rfl rfl
theorem dksL_law_90 : cL_law.data.toList.drop 2219 = dktL_law_90 := dk_seg dksL_law_89 24 rfl rfl
theorem dL_law_0 : decode cL_law 0 = .ok (.new 8, 3) := dk_187 0 8 (dk_at dksL_law_0 0 rfl rfl)
theorem dL_law_3 : decode cL_law 3 = .ok (.dup, 1) := dk_89 (dk_at dksL_law_0 3 rfl rfl)
theorem dL_law_4 : decode cL_law 4 = .ok (.invokespecial 129, 3) := dk_183 0 129 (dk_at dksL_law_0 4 rfl rfl)
theorem dL_law_7 : decode cL_law 7 = .ok (.astore_n 1, 1) := dk_76 (dk_at dksL_law_0 7 rfl rfl)
theorem dL_law_8 : decode cL_law 8 = .ok (.new 130, 3) := dk_187 0 130 (dk_at dksL_law_0 8 rfl rfl)
theorem dL_law_11 : decode cL_law 11 = .ok (.dup, 1) := dk_89 (dk_at dksL_law_0 11 rfl rfl)
theorem dL_law_12 : decode cL_law 12 = .ok (.invokespecial 132, 3) := dk_183 0 132 (dk_at dksL_law_0 12 rfl rfl)
theorem dL_law_15 : decode cL_law 15 = .ok (.astore_n 2, 1) := dk_77 (dk_at dksL_law_0 15 rfl rfl)
theorem dL_law_16 : decode cL_law 16 = .ok (.iconst 1, 1) := dk_4 (dk_at dksL_law_0 16 rfl rfl)
theorem dL_law_17 : decode cL_law 17 = .ok (.newarray .long, 2) := dk_188_11 (dk_at dksL_law_0 17 rfl rfl)
theorem dL_law_19 : decode cL_law 19 = .ok (.astore_n 3, 1) := dk_78 (dk_at dksL_law_0 19 rfl rfl)
theorem dL_law_20 : decode cL_law 20 = .ok (.iconst 1, 1) := dk_4 (dk_at dksL_law_0 20 rfl rfl)
theorem dL_law_21 : decode cL_law 21 = .ok (.newarray .double, 2) := dk_188_7 (dk_at dksL_law_0 21 rfl rfl)
theorem dL_law_23 : decode cL_law 23 = .ok (.astore 4, 2) := dk_58 4 (dk_at dksL_law_1 0 rfl rfl)
theorem dL_law_25 : decode cL_law 25 = .ok (.iconst 0, 1) := dk_3 (dk_at dksL_law_1 2 rfl rfl)
theorem dL_law_26 : decode cL_law 26 = .ok (.istore 5, 2) := dk_54 5 (dk_at dksL_law_1 3 rfl rfl)
theorem dL_law_28 : decode cL_law 28 = .ok (.iload 5, 2) := dk_21 5 (dk_at dksL_law_1 5 rfl rfl)
theorem dL_law_30 : decode cL_law 30 = .ok (.aload_n 0, 1) := dk_42 (dk_at dksL_law_1 7 rfl rfl)
theorem dL_law_31 : decode cL_law 31 = .ok (.arraylength, 1) := dk_190 (dk_at dksL_law_1 8 rfl rfl)
theorem dL_law_32 : decode cL_law 32 = .ok (.iconst 4, 1) := dk_7 (dk_at dksL_law_1 9 rfl rfl)
theorem dL_law_33 : decode cL_law 33 = .ok (.isub, 1) := dk_100 (dk_at dksL_law_1 10 rfl rfl)
theorem dL_law_34 : decode cL_law 34 = .ok (.if_icmp .gt 2203, 3) := dk_163 8 155 (dk_at dksL_law_1 11 rfl rfl)
theorem dL_law_37 : decode cL_law 37 = .ok (.aload_n 0, 1) := dk_42 (dk_at dksL_law_1 14 rfl rfl)
theorem dL_law_38 : decode cL_law 38 = .ok (.iload 5, 2) := dk_21 5 (dk_at dksL_law_1 15 rfl rfl)
theorem dL_law_40 : decode cL_law 40 = .ok (.iaload, 1) := dk_46 (dk_at dksL_law_1 17 rfl rfl)
theorem dL_law_41 : decode cL_law 41 = .ok (.bipush 63, 2) := dk_16 63 (dk_at dksL_law_1 18 rfl rfl)
theorem dL_law_43 : decode cL_law 43 = .ok (.iand, 1) := dk_126 (dk_at dksL_law_1 20 rfl rfl)
theorem dL_law_44 : decode cL_law 44 = .ok (.tableswitch 2187 0 34 #[156, 224, 304, 372, 428, 496, 552, 608, 664, 732, 800, 868, 924, 1004, 1072, 1128, 1196, 1252, 1308, 1364, 1420, 1476, 1544, 1602, 1646, 1690, 1774, 1830, 1886, 1942, 1955, 2020, 2086, 2130, 2143], 156) := by decide +kernel
theorem dL_law_200 : decode cL_law 200 = .ok (.aload_n 1, 1) := dk_43 (dk_at dksL_law_3 0 rfl rfl)
theorem dL_law_201 : decode cL_law 201 = .ok (.aload_n 0, 1) := dk_42 (dk_at dksL_law_3 1 rfl rfl)
theorem dL_law_202 : decode cL_law 202 = .ok (.iload 5, 2) := dk_21 5 (dk_at dksL_law_3 2 rfl rfl)
theorem dL_law_204 : decode cL_law 204 = .ok (.iconst 1, 1) := dk_4 (dk_at dksL_law_3 4 rfl rfl)
theorem dL_law_205 : decode cL_law 205 = .ok (.iadd, 1) := dk_96 (dk_at dksL_law_3 5 rfl rfl)
theorem dL_law_206 : decode cL_law 206 = .ok (.iaload, 1) := dk_46 (dk_at dksL_law_3 6 rfl rfl)
theorem dL_law_207 : decode cL_law 207 = .ok (.aload_n 0, 1) := dk_42 (dk_at dksL_law_3 7 rfl rfl)
theorem dL_law_208 : decode cL_law 208 = .ok (.iload 5, 2) := dk_21 5 (dk_at dksL_law_3 8 rfl rfl)
theorem dL_law_210 : decode cL_law 210 = .ok (.iconst 2, 1) := dk_5 (dk_at dksL_law_3 10 rfl rfl)
theorem dL_law_211 : decode cL_law 211 = .ok (.iadd, 1) := dk_96 (dk_at dksL_law_3 11 rfl rfl)
theorem dL_law_212 : decode cL_law 212 = .ok (.iaload, 1) := dk_46 (dk_at dksL_law_3 12 rfl rfl)
theorem dL_law_213 : decode cL_law 213 = .ok (.aload_n 3, 1) := dk_45 (dk_at dksL_law_3 13 rfl rfl)
theorem dL_law_214 : decode cL_law 214 = .ok (.invokestatic 133, 3) := dk_184 0 133 (dk_at dksL_law_3 14 rfl rfl)
theorem dL_law_217 : decode cL_law 217 = .ok (.istore 6, 2) := dk_54 6 (dk_at dksL_law_3 17 rfl rfl)
theorem dL_law_219 : decode cL_law 219 = .ok (.aload_n 2, 1) := dk_44 (dk_at dksL_law_3 19 rfl rfl)
theorem dL_law_220 : decode cL_law 220 = .ok (.aload_n 0, 1) := dk_42 (dk_at dksL_law_3 20 rfl rfl)
theorem dL_law_221 : decode cL_law 221 = .ok (.iload 5, 2) := dk_21 5 (dk_at dksL_law_3 21 rfl rfl)
theorem dL_law_223 : decode cL_law 223 = .ok (.iconst 1, 1) := dk_4 (dk_at dksL_law_3 23 rfl rfl)
theorem dL_law_224 : decode cL_law 224 = .ok (.iadd, 1) := dk_96 (dk_at dksL_law_4 0 rfl rfl)
theorem dL_law_225 : decode cL_law 225 = .ok (.iaload, 1) := dk_46 (dk_at dksL_law_4 1 rfl rfl)
theorem dL_law_226 : decode cL_law 226 = .ok (.aload_n 0, 1) := dk_42 (dk_at dksL_law_4 2 rfl rfl)
theorem dL_law_227 : decode cL_law 227 = .ok (.iload 5, 2) := dk_21 5 (dk_at dksL_law_4 3 rfl rfl)
theorem dL_law_229 : decode cL_law 229 = .ok (.iconst 2, 1) := dk_5 (dk_at dksL_law_4 5 rfl rfl)
theorem dL_law_230 : decode cL_law 230 = .ok (.iadd, 1) := dk_96 (dk_at dksL_law_4 6 rfl rfl)
theorem dL_law_231 : decode cL_law 231 = .ok (.iaload, 1) := dk_46 (dk_at dksL_law_4 7 rfl rfl)
theorem dL_law_232 : decode cL_law 232 = .ok (.invokevirtual 138, 3) := dk_182 0 138 (dk_at dksL_law_4 8 rfl rfl)
theorem dL_law_235 : decode cL_law 235 = .ok (.istore 7, 2) := dk_54 7 (dk_at dksL_law_4 11 rfl rfl)
theorem dL_law_237 : decode cL_law 237 = .ok (.aload_n 2, 1) := dk_44 (dk_at dksL_law_4 13 rfl rfl)
theorem dL_law_238 : decode cL_law 238 = .ok (.invokevirtual 139, 3) := dk_182 0 139 (dk_at dksL_law_4 14 rfl rfl)
theorem dL_law_241 : decode cL_law 241 = .ok (.iload 6, 2) := dk_21 6 (dk_at dksL_law_4 17 rfl rfl)
theorem dL_law_243 : decode cL_law 243 = .ok (.if_icmp .eq 5, 3) := dk_159 0 5 (dk_at dksL_law_4 19 rfl rfl)
theorem dL_law_246 : decode cL_law 246 = .ok (.iconst 0, 1) := dk_3 (dk_at dksL_law_4 22 rfl rfl)
theorem dL_law_247 : decode cL_law 247 = .ok (.ireturn, 1) := dk_172 (dk_at dksL_law_4 23 rfl rfl)
theorem dL_law_248 : decode cL_law 248 = .ok (.iload 6, 2) := dk_21 6 (dk_at dksL_law_5 0 rfl rfl)
theorem dL_law_250 : decode cL_law 250 = .ok (.ifCond .ne 15, 3) := dk_154 0 15 (dk_at dksL_law_5 2 rfl rfl)
theorem dL_law_253 : decode cL_law 253 = .ok (.aload_n 3, 1) := dk_45 (dk_at dksL_law_5 5 rfl rfl)
theorem dL_law_254 : decode cL_law 254 = .ok (.iconst 0, 1) := dk_3 (dk_at dksL_law_5 6 rfl rfl)
theorem dL_law_255 : decode cL_law 255 = .ok (.laload, 1) := dk_47 (dk_at dksL_law_5 7 rfl rfl)
theorem dL_law_256 : decode cL_law 256 = .ok (.iload 7, 2) := dk_21 7 (dk_at dksL_law_5 8 rfl rfl)
theorem dL_law_258 : decode cL_law 258 = .ok (.i2l, 1) := dk_133 (dk_at dksL_law_5 10 rfl rfl)
theorem dL_law_259 : decode cL_law 259 = .ok (.lcmp, 1) := dk_148 (dk_at dksL_law_5 11 rfl rfl)
theorem dL_law_260 : decode cL_law 260 = .ok (.ifCond .eq 5, 3) := dk_153 0 5 (dk_at dksL_law_5 12 rfl rfl)
theorem dL_law_263 : decode cL_law 263 = .ok (.iconst 0, 1) := dk_3 (dk_at dksL_law_5 15 rfl rfl)
theorem dL_law_264 : decode cL_law 264 = .ok (.ireturn, 1) := dk_172 (dk_at dksL_law_5 16 rfl rfl)
theorem dL_law_265 : decode cL_law 265 = .ok (.goto 1966, 3) := dk_167 7 174 (dk_at dksL_law_5 17 rfl rfl)
theorem dL_law_268 : decode cL_law 268 = .ok (.aload_n 1, 1) := dk_43 (dk_at dksL_law_5 20 rfl rfl)
theorem dL_law_269 : decode cL_law 269 = .ok (.aload_n 0, 1) := dk_42 (dk_at dksL_law_5 21 rfl rfl)
theorem dL_law_270 : decode cL_law 270 = .ok (.iload 5, 2) := dk_21 5 (dk_at dksL_law_5 22 rfl rfl)
theorem dL_law_272 : decode cL_law 272 = .ok (.iconst 1, 1) := dk_4 (dk_at dksL_law_6 0 rfl rfl)
theorem dL_law_273 : decode cL_law 273 = .ok (.iadd, 1) := dk_96 (dk_at dksL_law_6 1 rfl rfl)
theorem dL_law_274 : decode cL_law 274 = .ok (.iaload, 1) := dk_46 (dk_at dksL_law_6 2 rfl rfl)
theorem dL_law_275 : decode cL_law 275 = .ok (.aload_n 0, 1) := dk_42 (dk_at dksL_law_6 3 rfl rfl)
theorem dL_law_276 : decode cL_law 276 = .ok (.iload 5, 2) := dk_21 5 (dk_at dksL_law_6 4 rfl rfl)
theorem dL_law_278 : decode cL_law 278 = .ok (.iconst 2, 1) := dk_5 (dk_at dksL_law_6 6 rfl rfl)
theorem dL_law_279 : decode cL_law 279 = .ok (.iadd, 1) := dk_96 (dk_at dksL_law_6 7 rfl rfl)
theorem dL_law_280 : decode cL_law 280 = .ok (.iaload, 1) := dk_46 (dk_at dksL_law_6 8 rfl rfl)
theorem dL_law_281 : decode cL_law 281 = .ok (.aload_n 0, 1) := dk_42 (dk_at dksL_law_6 9 rfl rfl)
theorem dL_law_282 : decode cL_law 282 = .ok (.iload 5, 2) := dk_21 5 (dk_at dksL_law_6 10 rfl rfl)
theorem dL_law_284 : decode cL_law 284 = .ok (.iconst 3, 1) := dk_6 (dk_at dksL_law_6 12 rfl rfl)
theorem dL_law_285 : decode cL_law 285 = .ok (.iadd, 1) := dk_96 (dk_at dksL_law_6 13 rfl rfl)
theorem dL_law_286 : decode cL_law 286 = .ok (.iaload, 1) := dk_46 (dk_at dksL_law_6 14 rfl rfl)
theorem dL_law_287 : decode cL_law 287 = .ok (.aload_n 3, 1) := dk_45 (dk_at dksL_law_6 15 rfl rfl)
theorem dL_law_288 : decode cL_law 288 = .ok (.invokestatic 142, 3) := dk_184 0 142 (dk_at dksL_law_6 16 rfl rfl)
theorem dL_law_291 : decode cL_law 291 = .ok (.istore 6, 2) := dk_54 6 (dk_at dksL_law_6 19 rfl rfl)
theorem dL_law_293 : decode cL_law 293 = .ok (.aload_n 2, 1) := dk_44 (dk_at dksL_law_6 21 rfl rfl)
theorem dL_law_294 : decode cL_law 294 = .ok (.aload_n 0, 1) := dk_42 (dk_at dksL_law_6 22 rfl rfl)
theorem dL_law_295 : decode cL_law 295 = .ok (.iload 5, 2) := dk_21 5 (dk_at dksL_law_7 0 rfl rfl)
theorem dL_law_297 : decode cL_law 297 = .ok (.iconst 1, 1) := dk_4 (dk_at dksL_law_7 2 rfl rfl)
theorem dL_law_298 : decode cL_law 298 = .ok (.iadd, 1) := dk_96 (dk_at dksL_law_7 3 rfl rfl)
theorem dL_law_299 : decode cL_law 299 = .ok (.iaload, 1) := dk_46 (dk_at dksL_law_7 4 rfl rfl)
theorem dL_law_300 : decode cL_law 300 = .ok (.aload_n 0, 1) := dk_42 (dk_at dksL_law_7 5 rfl rfl)
theorem dL_law_301 : decode cL_law 301 = .ok (.iload 5, 2) := dk_21 5 (dk_at dksL_law_7 6 rfl rfl)
theorem dL_law_303 : decode cL_law 303 = .ok (.iconst 2, 1) := dk_5 (dk_at dksL_law_7 8 rfl rfl)
theorem dL_law_304 : decode cL_law 304 = .ok (.iadd, 1) := dk_96 (dk_at dksL_law_7 9 rfl rfl)
theorem dL_law_305 : decode cL_law 305 = .ok (.iaload, 1) := dk_46 (dk_at dksL_law_7 10 rfl rfl)
theorem dL_law_306 : decode cL_law 306 = .ok (.aload_n 0, 1) := dk_42 (dk_at dksL_law_7 11 rfl rfl)
theorem dL_law_307 : decode cL_law 307 = .ok (.iload 5, 2) := dk_21 5 (dk_at dksL_law_7 12 rfl rfl)
theorem dL_law_309 : decode cL_law 309 = .ok (.iconst 3, 1) := dk_6 (dk_at dksL_law_7 14 rfl rfl)
theorem dL_law_310 : decode cL_law 310 = .ok (.iadd, 1) := dk_96 (dk_at dksL_law_7 15 rfl rfl)
theorem dL_law_311 : decode cL_law 311 = .ok (.iaload, 1) := dk_46 (dk_at dksL_law_7 16 rfl rfl)
theorem dL_law_312 : decode cL_law 312 = .ok (.invokevirtual 145, 3) := dk_182 0 145 (dk_at dksL_law_7 17 rfl rfl)
theorem dL_law_315 : decode cL_law 315 = .ok (.istore 7, 2) := dk_54 7 (dk_at dksL_law_7 20 rfl rfl)
theorem dL_law_317 : decode cL_law 317 = .ok (.aload_n 2, 1) := dk_44 (dk_at dksL_law_7 22 rfl rfl)
theorem dL_law_318 : decode cL_law 318 = .ok (.invokevirtual 139, 3) := dk_182 0 139 (dk_at dksL_law_8 0 rfl rfl)
theorem dL_law_321 : decode cL_law 321 = .ok (.iload 6, 2) := dk_21 6 (dk_at dksL_law_8 3 rfl rfl)
theorem dL_law_323 : decode cL_law 323 = .ok (.if_icmp .eq 5, 3) := dk_159 0 5 (dk_at dksL_law_8 5 rfl rfl)
theorem dL_law_326 : decode cL_law 326 = .ok (.iconst 0, 1) := dk_3 (dk_at dksL_law_8 8 rfl rfl)
theorem dL_law_327 : decode cL_law 327 = .ok (.ireturn, 1) := dk_172 (dk_at dksL_law_8 9 rfl rfl)
theorem dL_law_328 : decode cL_law 328 = .ok (.iload 6, 2) := dk_21 6 (dk_at dksL_law_8 10 rfl rfl)
theorem dL_law_330 : decode cL_law 330 = .ok (.ifCond .ne 15, 3) := dk_154 0 15 (dk_at dksL_law_8 12 rfl rfl)
theorem dL_law_333 : decode cL_law 333 = .ok (.aload_n 3, 1) := dk_45 (dk_at dksL_law_8 15 rfl rfl)
theorem dL_law_334 : decode cL_law 334 = .ok (.iconst 0, 1) := dk_3 (dk_at dksL_law_8 16 rfl rfl)
theorem dL_law_335 : decode cL_law 335 = .ok (.laload, 1) := dk_47 (dk_at dksL_law_8 17 rfl rfl)
theorem dL_law_336 : decode cL_law 336 = .ok (.iload 7, 2) := dk_21 7 (dk_at dksL_law_8 18 rfl rfl)
theorem dL_law_338 : decode cL_law 338 = .ok (.i2l, 1) := dk_133 (dk_at dksL_law_8 20 rfl rfl)
theorem dL_law_339 : decode cL_law 339 = .ok (.lcmp, 1) := dk_148 (dk_at dksL_law_8 21 rfl rfl)
theorem dL_law_340 : decode cL_law 340 = .ok (.ifCond .eq 5, 3) := dk_153 0 5 (dk_at dksL_law_9 0 rfl rfl)
theorem dL_law_343 : decode cL_law 343 = .ok (.iconst 0, 1) := dk_3 (dk_at dksL_law_9 3 rfl rfl)
theorem dL_law_344 : decode cL_law 344 = .ok (.ireturn, 1) := dk_172 (dk_at dksL_law_9 4 rfl rfl)
theorem dL_law_345 : decode cL_law 345 = .ok (.goto 1886, 3) := dk_167 7 94 (dk_at dksL_law_9 5 rfl rfl)
theorem dL_law_348 : decode cL_law 348 = .ok (.aload_n 1, 1) := dk_43 (dk_at dksL_law_9 8 rfl rfl)
theorem dL_law_349 : decode cL_law 349 = .ok (.aload_n 0, 1) := dk_42 (dk_at dksL_law_9 9 rfl rfl)
theorem dL_law_350 : decode cL_law 350 = .ok (.iload 5, 2) := dk_21 5 (dk_at dksL_law_9 10 rfl rfl)
theorem dL_law_352 : decode cL_law 352 = .ok (.iconst 1, 1) := dk_4 (dk_at dksL_law_9 12 rfl rfl)
theorem dL_law_353 : decode cL_law 353 = .ok (.iadd, 1) := dk_96 (dk_at dksL_law_9 13 rfl rfl)
theorem dL_law_354 : decode cL_law 354 = .ok (.iaload, 1) := dk_46 (dk_at dksL_law_9 14 rfl rfl)
theorem dL_law_355 : decode cL_law 355 = .ok (.aload_n 0, 1) := dk_42 (dk_at dksL_law_9 15 rfl rfl)
theorem dL_law_356 : decode cL_law 356 = .ok (.iload 5, 2) := dk_21 5 (dk_at dksL_law_9 16 rfl rfl)
theorem dL_law_358 : decode cL_law 358 = .ok (.iconst 2, 1) := dk_5 (dk_at dksL_law_9 18 rfl rfl)
theorem dL_law_359 : decode cL_law 359 = .ok (.iadd, 1) := dk_96 (dk_at dksL_law_9 19 rfl rfl)
theorem dL_law_360 : decode cL_law 360 = .ok (.iaload, 1) := dk_46 (dk_at dksL_law_9 20 rfl rfl)
theorem dL_law_361 : decode cL_law 361 = .ok (.aload_n 3, 1) := dk_45 (dk_at dksL_law_9 21 rfl rfl)
theorem dL_law_362 : decode cL_law 362 = .ok (.invokestatic 146, 3) := dk_184 0 146 (dk_at dksL_law_10 0 rfl rfl)
theorem dL_law_365 : decode cL_law 365 = .ok (.istore 6, 2) := dk_54 6 (dk_at dksL_law_10 3 rfl rfl)
theorem dL_law_367 : decode cL_law 367 = .ok (.aload_n 2, 1) := dk_44 (dk_at dksL_law_10 5 rfl rfl)
theorem dL_law_368 : decode cL_law 368 = .ok (.aload_n 0, 1) := dk_42 (dk_at dksL_law_10 6 rfl rfl)
theorem dL_law_369 : decode cL_law 369 = .ok (.iload 5, 2) := dk_21 5 (dk_at dksL_law_10 7 rfl rfl)
theorem dL_law_371 : decode cL_law 371 = .ok (.iconst 1, 1) := dk_4 (dk_at dksL_law_10 9 rfl rfl)
theorem dL_law_372 : decode cL_law 372 = .ok (.iadd, 1) := dk_96 (dk_at dksL_law_10 10 rfl rfl)
theorem dL_law_373 : decode cL_law 373 = .ok (.iaload, 1) := dk_46 (dk_at dksL_law_10 11 rfl rfl)
theorem dL_law_374 : decode cL_law 374 = .ok (.aload_n 0, 1) := dk_42 (dk_at dksL_law_10 12 rfl rfl)
theorem dL_law_375 : decode cL_law 375 = .ok (.iload 5, 2) := dk_21 5 (dk_at dksL_law_10 13 rfl rfl)
theorem dL_law_377 : decode cL_law 377 = .ok (.iconst 2, 1) := dk_5 (dk_at dksL_law_10 15 rfl rfl)
theorem dL_law_378 : decode cL_law 378 = .ok (.iadd, 1) := dk_96 (dk_at dksL_law_10 16 rfl rfl)
theorem dL_law_379 : decode cL_law 379 = .ok (.iaload, 1) := dk_46 (dk_at dksL_law_10 17 rfl rfl)
theorem dL_law_380 : decode cL_law 380 = .ok (.invokevirtual 148, 3) := dk_182 0 148 (dk_at dksL_law_10 18 rfl rfl)
theorem dL_law_383 : decode cL_law 383 = .ok (.istore 7, 2) := dk_54 7 (dk_at dksL_law_10 21 rfl rfl)
theorem dL_law_385 : decode cL_law 385 = .ok (.aload_n 2, 1) := dk_44 (dk_at dksL_law_10 23 rfl rfl)
theorem dL_law_386 : decode cL_law 386 = .ok (.invokevirtual 139, 3) := dk_182 0 139 (dk_at dksL_law_11 0 rfl rfl)
theorem dL_law_389 : decode cL_law 389 = .ok (.iload 6, 2) := dk_21 6 (dk_at dksL_law_11 3 rfl rfl)
theorem dL_law_391 : decode cL_law 391 = .ok (.if_icmp .eq 5, 3) := dk_159 0 5 (dk_at dksL_law_11 5 rfl rfl)
theorem dL_law_394 : decode cL_law 394 = .ok (.iconst 0, 1) := dk_3 (dk_at dksL_law_11 8 rfl rfl)
theorem dL_law_395 : decode cL_law 395 = .ok (.ireturn, 1) := dk_172 (dk_at dksL_law_11 9 rfl rfl)
theorem dL_law_396 : decode cL_law 396 = .ok (.iload 6, 2) := dk_21 6 (dk_at dksL_law_11 10 rfl rfl)
theorem dL_law_398 : decode cL_law 398 = .ok (.ifCond .ne 15, 3) := dk_154 0 15 (dk_at dksL_law_11 12 rfl rfl)
theorem dL_law_401 : decode cL_law 401 = .ok (.aload_n 3, 1) := dk_45 (dk_at dksL_law_11 15 rfl rfl)
theorem dL_law_402 : decode cL_law 402 = .ok (.iconst 0, 1) := dk_3 (dk_at dksL_law_11 16 rfl rfl)
theorem dL_law_403 : decode cL_law 403 = .ok (.laload, 1) := dk_47 (dk_at dksL_law_11 17 rfl rfl)
theorem dL_law_404 : decode cL_law 404 = .ok (.iload 7, 2) := dk_21 7 (dk_at dksL_law_11 18 rfl rfl)
theorem dL_law_406 : decode cL_law 406 = .ok (.i2l, 1) := dk_133 (dk_at dksL_law_11 20 rfl rfl)
theorem dL_law_407 : decode cL_law 407 = .ok (.lcmp, 1) := dk_148 (dk_at dksL_law_11 21 rfl rfl)
theorem dL_law_408 : decode cL_law 408 = .ok (.ifCond .eq 5, 3) := dk_153 0 5 (dk_at dksL_law_12 0 rfl rfl)
theorem dL_law_411 : decode cL_law 411 = .ok (.iconst 0, 1) := dk_3 (dk_at dksL_law_12 3 rfl rfl)
theorem dL_law_412 : decode cL_law 412 = .ok (.ireturn, 1) := dk_172 (dk_at dksL_law_12 4 rfl rfl)
theorem dL_law_413 : decode cL_law 413 = .ok (.goto 1818, 3) := dk_167 7 26 (dk_at dksL_law_12 5 rfl rfl)
theorem dL_law_416 : decode cL_law 416 = .ok (.aload_n 1, 1) := dk_43 (dk_at dksL_law_12 8 rfl rfl)
theorem dL_law_417 : decode cL_law 417 = .ok (.aload_n 0, 1) := dk_42 (dk_at dksL_law_12 9 rfl rfl)
theorem dL_law_418 : decode cL_law 418 = .ok (.iload 5, 2) := dk_21 5 (dk_at dksL_law_12 10 rfl rfl)
theorem dL_law_420 : decode cL_law 420 = .ok (.iconst 1, 1) := dk_4 (dk_at dksL_law_12 12 rfl rfl)
theorem dL_law_421 : decode cL_law 421 = .ok (.iadd, 1) := dk_96 (dk_at dksL_law_12 13 rfl rfl)
theorem dL_law_422 : decode cL_law 422 = .ok (.iaload, 1) := dk_46 (dk_at dksL_law_12 14 rfl rfl)
theorem dL_law_423 : decode cL_law 423 = .ok (.aload_n 3, 1) := dk_45 (dk_at dksL_law_12 15 rfl rfl)
theorem dL_law_424 : decode cL_law 424 = .ok (.invokestatic 149, 3) := dk_184 0 149 (dk_at dksL_law_12 16 rfl rfl)
theorem dL_law_427 : decode cL_law 427 = .ok (.istore 6, 2) := dk_54 6 (dk_at dksL_law_12 19 rfl rfl)
theorem dL_law_429 : decode cL_law 429 = .ok (.aload_n 2, 1) := dk_44 (dk_at dksL_law_12 21 rfl rfl)
theorem dL_law_430 : decode cL_law 430 = .ok (.aload_n 0, 1) := dk_42 (dk_at dksL_law_12 22 rfl rfl)
theorem dL_law_431 : decode cL_law 431 = .ok (.iload 5, 2) := dk_21 5 (dk_at dksL_law_13 0 rfl rfl)
theorem dL_law_433 : decode cL_law 433 = .ok (.iconst 1, 1) := dk_4 (dk_at dksL_law_13 2 rfl rfl)
theorem dL_law_434 : decode cL_law 434 = .ok (.iadd, 1) := dk_96 (dk_at dksL_law_13 3 rfl rfl)
theorem dL_law_435 : decode cL_law 435 = .ok (.iaload, 1) := dk_46 (dk_at dksL_law_13 4 rfl rfl)
theorem dL_law_436 : decode cL_law 436 = .ok (.invokevirtual 152, 3) := dk_182 0 152 (dk_at dksL_law_13 5 rfl rfl)
theorem dL_law_439 : decode cL_law 439 = .ok (.istore 7, 2) := dk_54 7 (dk_at dksL_law_13 8 rfl rfl)
theorem dL_law_441 : decode cL_law 441 = .ok (.aload_n 2, 1) := dk_44 (dk_at dksL_law_13 10 rfl rfl)
theorem dL_law_442 : decode cL_law 442 = .ok (.invokevirtual 139, 3) := dk_182 0 139 (dk_at dksL_law_13 11 rfl rfl)
theorem dL_law_445 : decode cL_law 445 = .ok (.iload 6, 2) := dk_21 6 (dk_at dksL_law_13 14 rfl rfl)
theorem dL_law_447 : decode cL_law 447 = .ok (.if_icmp .eq 5, 3) := dk_159 0 5 (dk_at dksL_law_13 16 rfl rfl)
theorem dL_law_450 : decode cL_law 450 = .ok (.iconst 0, 1) := dk_3 (dk_at dksL_law_13 19 rfl rfl)
theorem dL_law_451 : decode cL_law 451 = .ok (.ireturn, 1) := dk_172 (dk_at dksL_law_13 20 rfl rfl)
theorem dL_law_452 : decode cL_law 452 = .ok (.iload 6, 2) := dk_21 6 (dk_at dksL_law_13 21 rfl rfl)
theorem dL_law_454 : decode cL_law 454 = .ok (.ifCond .ne 15, 3) := dk_154 0 15 (dk_at dksL_law_14 0 rfl rfl)
theorem dL_law_457 : decode cL_law 457 = .ok (.aload_n 3, 1) := dk_45 (dk_at dksL_law_14 3 rfl rfl)
theorem dL_law_458 : decode cL_law 458 = .ok (.iconst 0, 1) := dk_3 (dk_at dksL_law_14 4 rfl rfl)
theorem dL_law_459 : decode cL_law 459 = .ok (.laload, 1) := dk_47 (dk_at dksL_law_14 5 rfl rfl)
theorem dL_law_460 : decode cL_law 460 = .ok (.iload 7, 2) := dk_21 7 (dk_at dksL_law_14 6 rfl rfl)
theorem dL_law_462 : decode cL_law 462 = .ok (.i2l, 1) := dk_133 (dk_at dksL_law_14 8 rfl rfl)
theorem dL_law_463 : decode cL_law 463 = .ok (.lcmp, 1) := dk_148 (dk_at dksL_law_14 9 rfl rfl)
theorem dL_law_464 : decode cL_law 464 = .ok (.ifCond .eq 5, 3) := dk_153 0 5 (dk_at dksL_law_14 10 rfl rfl)
theorem dL_law_467 : decode cL_law 467 = .ok (.iconst 0, 1) := dk_3 (dk_at dksL_law_14 13 rfl rfl)
theorem dL_law_468 : decode cL_law 468 = .ok (.ireturn, 1) := dk_172 (dk_at dksL_law_14 14 rfl rfl)
theorem dL_law_469 : decode cL_law 469 = .ok (.goto 1762, 3) := dk_167 6 226 (dk_at dksL_law_14 15 rfl rfl)
theorem dL_law_472 : decode cL_law 472 = .ok (.aload_n 1, 1) := dk_43 (dk_at dksL_law_14 18 rfl rfl)
theorem dL_law_473 : decode cL_law 473 = .ok (.aload_n 0, 1) := dk_42 (dk_at dksL_law_14 19 rfl rfl)
theorem dL_law_474 : decode cL_law 474 = .ok (.iload 5, 2) := dk_21 5 (dk_at dksL_law_14 20 rfl rfl)
theorem dL_law_476 : decode cL_law 476 = .ok (.iconst 1, 1) := dk_4 (dk_at dksL_law_14 22 rfl rfl)
theorem dL_law_477 : decode cL_law 477 = .ok (.iadd, 1) := dk_96 (dk_at dksL_law_14 23 rfl rfl)
theorem dL_law_478 : decode cL_law 478 = .ok (.iaload, 1) := dk_46 (dk_at dksL_law_15 0 rfl rfl)
theorem dL_law_479 : decode cL_law 479 = .ok (.aload_n 0, 1) := dk_42 (dk_at dksL_law_15 1 rfl rfl)
theorem dL_law_480 : decode cL_law 480 = .ok (.iload 5, 2) := dk_21 5 (dk_at dksL_law_15 2 rfl rfl)
theorem dL_law_482 : decode cL_law 482 = .ok (.iconst 2, 1) := dk_5 (dk_at dksL_law_15 4 rfl rfl)
theorem dL_law_483 : decode cL_law 483 = .ok (.iadd, 1) := dk_96 (dk_at dksL_law_15 5 rfl rfl)
theorem dL_law_484 : decode cL_law 484 = .ok (.iaload, 1) := dk_46 (dk_at dksL_law_15 6 rfl rfl)
theorem dL_law_485 : decode cL_law 485 = .ok (.aload_n 3, 1) := dk_45 (dk_at dksL_law_15 7 rfl rfl)
theorem dL_law_486 : decode cL_law 486 = .ok (.invokestatic 153, 3) := dk_184 0 153 (dk_at dksL_law_15 8 rfl rfl)
theorem dL_law_489 : decode cL_law 489 = .ok (.istore 6, 2) := dk_54 6 (dk_at dksL_law_15 11 rfl rfl)
theorem dL_law_491 : decode cL_law 491 = .ok (.aload_n 2, 1) := dk_44 (dk_at dksL_law_15 13 rfl rfl)
theorem dL_law_492 : decode cL_law 492 = .ok (.aload_n 0, 1) := dk_42 (dk_at dksL_law_15 14 rfl rfl)
theorem dL_law_493 : decode cL_law 493 = .ok (.iload 5, 2) := dk_21 5 (dk_at dksL_law_15 15 rfl rfl)
theorem dL_law_495 : decode cL_law 495 = .ok (.iconst 1, 1) := dk_4 (dk_at dksL_law_15 17 rfl rfl)
theorem dL_law_496 : decode cL_law 496 = .ok (.iadd, 1) := dk_96 (dk_at dksL_law_15 18 rfl rfl)
theorem dL_law_497 : decode cL_law 497 = .ok (.iaload, 1) := dk_46 (dk_at dksL_law_15 19 rfl rfl)
theorem dL_law_498 : decode cL_law 498 = .ok (.aload_n 0, 1) := dk_42 (dk_at dksL_law_15 20 rfl rfl)
theorem dL_law_499 : decode cL_law 499 = .ok (.iload 5, 2) := dk_21 5 (dk_at dksL_law_15 21 rfl rfl)
theorem dL_law_501 : decode cL_law 501 = .ok (.iconst 2, 1) := dk_5 (dk_at dksL_law_15 23 rfl rfl)
theorem dL_law_502 : decode cL_law 502 = .ok (.iadd, 1) := dk_96 (dk_at dksL_law_16 0 rfl rfl)
theorem dL_law_503 : decode cL_law 503 = .ok (.iaload, 1) := dk_46 (dk_at dksL_law_16 1 rfl rfl)
theorem dL_law_504 : decode cL_law 504 = .ok (.invokevirtual 155, 3) := dk_182 0 155 (dk_at dksL_law_16 2 rfl rfl)
theorem dL_law_507 : decode cL_law 507 = .ok (.istore 7, 2) := dk_54 7 (dk_at dksL_law_16 5 rfl rfl)
theorem dL_law_509 : decode cL_law 509 = .ok (.aload_n 2, 1) := dk_44 (dk_at dksL_law_16 7 rfl rfl)
theorem dL_law_510 : decode cL_law 510 = .ok (.invokevirtual 139, 3) := dk_182 0 139 (dk_at dksL_law_16 8 rfl rfl)
theorem dL_law_513 : decode cL_law 513 = .ok (.iload 6, 2) := dk_21 6 (dk_at dksL_law_16 11 rfl rfl)
theorem dL_law_515 : decode cL_law 515 = .ok (.if_icmp .eq 5, 3) := dk_159 0 5 (dk_at dksL_law_16 13 rfl rfl)
theorem dL_law_518 : decode cL_law 518 = .ok (.iconst 0, 1) := dk_3 (dk_at dksL_law_16 16 rfl rfl)
theorem dL_law_519 : decode cL_law 519 = .ok (.ireturn, 1) := dk_172 (dk_at dksL_law_16 17 rfl rfl)
theorem dL_law_520 : decode cL_law 520 = .ok (.iload 6, 2) := dk_21 6 (dk_at dksL_law_16 18 rfl rfl)
theorem dL_law_522 : decode cL_law 522 = .ok (.ifCond .ne 15, 3) := dk_154 0 15 (dk_at dksL_law_16 20 rfl rfl)
theorem dL_law_525 : decode cL_law 525 = .ok (.aload_n 3, 1) := dk_45 (dk_at dksL_law_16 23 rfl rfl)
theorem dL_law_526 : decode cL_law 526 = .ok (.iconst 0, 1) := dk_3 (dk_at dksL_law_17 0 rfl rfl)
theorem dL_law_527 : decode cL_law 527 = .ok (.laload, 1) := dk_47 (dk_at dksL_law_17 1 rfl rfl)
theorem dL_law_528 : decode cL_law 528 = .ok (.iload 7, 2) := dk_21 7 (dk_at dksL_law_17 2 rfl rfl)
theorem dL_law_530 : decode cL_law 530 = .ok (.i2l, 1) := dk_133 (dk_at dksL_law_17 4 rfl rfl)
theorem dL_law_531 : decode cL_law 531 = .ok (.lcmp, 1) := dk_148 (dk_at dksL_law_17 5 rfl rfl)
theorem dL_law_532 : decode cL_law 532 = .ok (.ifCond .eq 5, 3) := dk_153 0 5 (dk_at dksL_law_17 6 rfl rfl)
theorem dL_law_535 : decode cL_law 535 = .ok (.iconst 0, 1) := dk_3 (dk_at dksL_law_17 9 rfl rfl)
theorem dL_law_536 : decode cL_law 536 = .ok (.ireturn, 1) := dk_172 (dk_at dksL_law_17 10 rfl rfl)
theorem dL_law_537 : decode cL_law 537 = .ok (.goto 1694, 3) := dk_167 6 158 (dk_at dksL_law_17 11 rfl rfl)
theorem dL_law_540 : decode cL_law 540 = .ok (.aload_n 1, 1) := dk_43 (dk_at dksL_law_17 14 rfl rfl)
theorem dL_law_541 : decode cL_law 541 = .ok (.aload_n 0, 1) := dk_42 (dk_at dksL_law_17 15 rfl rfl)
theorem dL_law_542 : decode cL_law 542 = .ok (.iload 5, 2) := dk_21 5 (dk_at dksL_law_17 16 rfl rfl)
theorem dL_law_544 : decode cL_law 544 = .ok (.iconst 1, 1) := dk_4 (dk_at dksL_law_17 18 rfl rfl)
theorem dL_law_545 : decode cL_law 545 = .ok (.iadd, 1) := dk_96 (dk_at dksL_law_17 19 rfl rfl)
theorem dL_law_546 : decode cL_law 546 = .ok (.iaload, 1) := dk_46 (dk_at dksL_law_17 20 rfl rfl)
theorem dL_law_547 : decode cL_law 547 = .ok (.aload_n 3, 1) := dk_45 (dk_at dksL_law_17 21 rfl rfl)
theorem dL_law_548 : decode cL_law 548 = .ok (.invokestatic 156, 3) := dk_184 0 156 (dk_at dksL_law_18 0 rfl rfl)
theorem dL_law_551 : decode cL_law 551 = .ok (.istore 6, 2) := dk_54 6 (dk_at dksL_law_18 3 rfl rfl)
theorem dL_law_553 : decode cL_law 553 = .ok (.aload_n 2, 1) := dk_44 (dk_at dksL_law_18 5 rfl rfl)
theorem dL_law_554 : decode cL_law 554 = .ok (.aload_n 0, 1) := dk_42 (dk_at dksL_law_18 6 rfl rfl)
theorem dL_law_555 : decode cL_law 555 = .ok (.iload 5, 2) := dk_21 5 (dk_at dksL_law_18 7 rfl rfl)
theorem dL_law_557 : decode cL_law 557 = .ok (.iconst 1, 1) := dk_4 (dk_at dksL_law_18 9 rfl rfl)
theorem dL_law_558 : decode cL_law 558 = .ok (.iadd, 1) := dk_96 (dk_at dksL_law_18 10 rfl rfl)
theorem dL_law_559 : decode cL_law 559 = .ok (.iaload, 1) := dk_46 (dk_at dksL_law_18 11 rfl rfl)
theorem dL_law_560 : decode cL_law 560 = .ok (.invokevirtual 158, 3) := dk_182 0 158 (dk_at dksL_law_18 12 rfl rfl)
theorem dL_law_563 : decode cL_law 563 = .ok (.istore 7, 2) := dk_54 7 (dk_at dksL_law_18 15 rfl rfl)
theorem dL_law_565 : decode cL_law 565 = .ok (.aload_n 2, 1) := dk_44 (dk_at dksL_law_18 17 rfl rfl)
theorem dL_law_566 : decode cL_law 566 = .ok (.invokevirtual 139, 3) := dk_182 0 139 (dk_at dksL_law_18 18 rfl rfl)
theorem dL_law_569 : decode cL_law 569 = .ok (.iload 6, 2) := dk_21 6 (dk_at dksL_law_18 21 rfl rfl)
theorem dL_law_571 : decode cL_law 571 = .ok (.if_icmp .eq 5, 3) := dk_159 0 5 (dk_at dksL_law_19 0 rfl rfl)
theorem dL_law_574 : decode cL_law 574 = .ok (.iconst 0, 1) := dk_3 (dk_at dksL_law_19 3 rfl rfl)
theorem dL_law_575 : decode cL_law 575 = .ok (.ireturn, 1) := dk_172 (dk_at dksL_law_19 4 rfl rfl)
theorem dL_law_576 : decode cL_law 576 = .ok (.iload 6, 2) := dk_21 6 (dk_at dksL_law_19 5 rfl rfl)
theorem dL_law_578 : decode cL_law 578 = .ok (.ifCond .ne 15, 3) := dk_154 0 15 (dk_at dksL_law_19 7 rfl rfl)
theorem dL_law_581 : decode cL_law 581 = .ok (.aload_n 3, 1) := dk_45 (dk_at dksL_law_19 10 rfl rfl)
theorem dL_law_582 : decode cL_law 582 = .ok (.iconst 0, 1) := dk_3 (dk_at dksL_law_19 11 rfl rfl)
theorem dL_law_583 : decode cL_law 583 = .ok (.laload, 1) := dk_47 (dk_at dksL_law_19 12 rfl rfl)
theorem dL_law_584 : decode cL_law 584 = .ok (.iload 7, 2) := dk_21 7 (dk_at dksL_law_19 13 rfl rfl)
theorem dL_law_586 : decode cL_law 586 = .ok (.i2l, 1) := dk_133 (dk_at dksL_law_19 15 rfl rfl)
theorem dL_law_587 : decode cL_law 587 = .ok (.lcmp, 1) := dk_148 (dk_at dksL_law_19 16 rfl rfl)
theorem dL_law_588 : decode cL_law 588 = .ok (.ifCond .eq 5, 3) := dk_153 0 5 (dk_at dksL_law_19 17 rfl rfl)
theorem dL_law_591 : decode cL_law 591 = .ok (.iconst 0, 1) := dk_3 (dk_at dksL_law_19 20 rfl rfl)
theorem dL_law_592 : decode cL_law 592 = .ok (.ireturn, 1) := dk_172 (dk_at dksL_law_19 21 rfl rfl)
theorem dL_law_593 : decode cL_law 593 = .ok (.goto 1638, 3) := dk_167 6 102 (dk_at dksL_law_20 0 rfl rfl)
theorem dL_law_596 : decode cL_law 596 = .ok (.aload_n 1, 1) := dk_43 (dk_at dksL_law_20 3 rfl rfl)
theorem dL_law_597 : decode cL_law 597 = .ok (.aload_n 0, 1) := dk_42 (dk_at dksL_law_20 4 rfl rfl)
theorem dL_law_598 : decode cL_law 598 = .ok (.iload 5, 2) := dk_21 5 (dk_at dksL_law_20 5 rfl rfl)
theorem dL_law_600 : decode cL_law 600 = .ok (.iconst 1, 1) := dk_4 (dk_at dksL_law_20 7 rfl rfl)
theorem dL_law_601 : decode cL_law 601 = .ok (.iadd, 1) := dk_96 (dk_at dksL_law_20 8 rfl rfl)
theorem dL_law_602 : decode cL_law 602 = .ok (.iaload, 1) := dk_46 (dk_at dksL_law_20 9 rfl rfl)
theorem dL_law_603 : decode cL_law 603 = .ok (.aload_n 3, 1) := dk_45 (dk_at dksL_law_20 10 rfl rfl)
theorem dL_law_604 : decode cL_law 604 = .ok (.invokestatic 159, 3) := dk_184 0 159 (dk_at dksL_law_20 11 rfl rfl)
theorem dL_law_607 : decode cL_law 607 = .ok (.istore 6, 2) := dk_54 6 (dk_at dksL_law_20 14 rfl rfl)
theorem dL_law_609 : decode cL_law 609 = .ok (.aload_n 2, 1) := dk_44 (dk_at dksL_law_20 16 rfl rfl)
theorem dL_law_610 : decode cL_law 610 = .ok (.aload_n 0, 1) := dk_42 (dk_at dksL_law_20 17 rfl rfl)
theorem dL_law_611 : decode cL_law 611 = .ok (.iload 5, 2) := dk_21 5 (dk_at dksL_law_20 18 rfl rfl)
theorem dL_law_613 : decode cL_law 613 = .ok (.iconst 1, 1) := dk_4 (dk_at dksL_law_20 20 rfl rfl)
theorem dL_law_614 : decode cL_law 614 = .ok (.iadd, 1) := dk_96 (dk_at dksL_law_20 21 rfl rfl)
theorem dL_law_615 : decode cL_law 615 = .ok (.iaload, 1) := dk_46 (dk_at dksL_law_20 22 rfl rfl)
theorem dL_law_616 : decode cL_law 616 = .ok (.invokevirtual 161, 3) := dk_182 0 161 (dk_at dksL_law_21 0 rfl rfl)
theorem dL_law_619 : decode cL_law 619 = .ok (.istore 7, 2) := dk_54 7 (dk_at dksL_law_21 3 rfl rfl)
theorem dL_law_621 : decode cL_law 621 = .ok (.aload_n 2, 1) := dk_44 (dk_at dksL_law_21 5 rfl rfl)
theorem dL_law_622 : decode cL_law 622 = .ok (.invokevirtual 139, 3) := dk_182 0 139 (dk_at dksL_law_21 6 rfl rfl)
theorem dL_law_625 : decode cL_law 625 = .ok (.iload 6, 2) := dk_21 6 (dk_at dksL_law_21 9 rfl rfl)
theorem dL_law_627 : decode cL_law 627 = .ok (.if_icmp .eq 5, 3) := dk_159 0 5 (dk_at dksL_law_21 11 rfl rfl)
theorem dL_law_630 : decode cL_law 630 = .ok (.iconst 0, 1) := dk_3 (dk_at dksL_law_21 14 rfl rfl)
theorem dL_law_631 : decode cL_law 631 = .ok (.ireturn, 1) := dk_172 (dk_at dksL_law_21 15 rfl rfl)
theorem dL_law_632 : decode cL_law 632 = .ok (.iload 6, 2) := dk_21 6 (dk_at dksL_law_21 16 rfl rfl)
theorem dL_law_634 : decode cL_law 634 = .ok (.ifCond .ne 15, 3) := dk_154 0 15 (dk_at dksL_law_21 18 rfl rfl)
theorem dL_law_637 : decode cL_law 637 = .ok (.aload_n 3, 1) := dk_45 (dk_at dksL_law_21 21 rfl rfl)
theorem dL_law_638 : decode cL_law 638 = .ok (.iconst 0, 1) := dk_3 (dk_at dksL_law_21 22 rfl rfl)
theorem dL_law_639 : decode cL_law 639 = .ok (.laload, 1) := dk_47 (dk_at dksL_law_21 23 rfl rfl)
theorem dL_law_640 : decode cL_law 640 = .ok (.iload 7, 2) := dk_21 7 (dk_at dksL_law_22 0 rfl rfl)
theorem dL_law_642 : decode cL_law 642 = .ok (.i2l, 1) := dk_133 (dk_at dksL_law_22 2 rfl rfl)
theorem dL_law_643 : decode cL_law 643 = .ok (.lcmp, 1) := dk_148 (dk_at dksL_law_22 3 rfl rfl)
theorem dL_law_644 : decode cL_law 644 = .ok (.ifCond .eq 5, 3) := dk_153 0 5 (dk_at dksL_law_22 4 rfl rfl)
theorem dL_law_647 : decode cL_law 647 = .ok (.iconst 0, 1) := dk_3 (dk_at dksL_law_22 7 rfl rfl)
theorem dL_law_648 : decode cL_law 648 = .ok (.ireturn, 1) := dk_172 (dk_at dksL_law_22 8 rfl rfl)
theorem dL_law_649 : decode cL_law 649 = .ok (.goto 1582, 3) := dk_167 6 46 (dk_at dksL_law_22 9 rfl rfl)
theorem dL_law_652 : decode cL_law 652 = .ok (.aload_n 1, 1) := dk_43 (dk_at dksL_law_22 12 rfl rfl)
theorem dL_law_653 : decode cL_law 653 = .ok (.aload_n 0, 1) := dk_42 (dk_at dksL_law_22 13 rfl rfl)
theorem dL_law_654 : decode cL_law 654 = .ok (.iload 5, 2) := dk_21 5 (dk_at dksL_law_22 14 rfl rfl)
theorem dL_law_656 : decode cL_law 656 = .ok (.iconst 1, 1) := dk_4 (dk_at dksL_law_22 16 rfl rfl)
theorem dL_law_657 : decode cL_law 657 = .ok (.iadd, 1) := dk_96 (dk_at dksL_law_22 17 rfl rfl)
theorem dL_law_658 : decode cL_law 658 = .ok (.iaload, 1) := dk_46 (dk_at dksL_law_22 18 rfl rfl)
theorem dL_law_659 : decode cL_law 659 = .ok (.aload_n 3, 1) := dk_45 (dk_at dksL_law_22 19 rfl rfl)
theorem dL_law_660 : decode cL_law 660 = .ok (.invokestatic 162, 3) := dk_184 0 162 (dk_at dksL_law_22 20 rfl rfl)
theorem dL_law_663 : decode cL_law 663 = .ok (.istore 6, 2) := dk_54 6 (dk_at dksL_law_23 0 rfl rfl)
theorem dL_law_665 : decode cL_law 665 = .ok (.aload_n 2, 1) := dk_44 (dk_at dksL_law_23 2 rfl rfl)
theorem dL_law_666 : decode cL_law 666 = .ok (.aload_n 0, 1) := dk_42 (dk_at dksL_law_23 3 rfl rfl)
theorem dL_law_667 : decode cL_law 667 = .ok (.iload 5, 2) := dk_21 5 (dk_at dksL_law_23 4 rfl rfl)
theorem dL_law_669 : decode cL_law 669 = .ok (.iconst 1, 1) := dk_4 (dk_at dksL_law_23 6 rfl rfl)
theorem dL_law_670 : decode cL_law 670 = .ok (.iadd, 1) := dk_96 (dk_at dksL_law_23 7 rfl rfl)
theorem dL_law_671 : decode cL_law 671 = .ok (.iaload, 1) := dk_46 (dk_at dksL_law_23 8 rfl rfl)
theorem dL_law_672 : decode cL_law 672 = .ok (.invokevirtual 164, 3) := dk_182 0 164 (dk_at dksL_law_23 9 rfl rfl)
theorem dL_law_675 : decode cL_law 675 = .ok (.istore 7, 2) := dk_54 7 (dk_at dksL_law_23 12 rfl rfl)
theorem dL_law_677 : decode cL_law 677 = .ok (.aload_n 2, 1) := dk_44 (dk_at dksL_law_23 14 rfl rfl)
theorem dL_law_678 : decode cL_law 678 = .ok (.invokevirtual 139, 3) := dk_182 0 139 (dk_at dksL_law_23 15 rfl rfl)
theorem dL_law_681 : decode cL_law 681 = .ok (.iload 6, 2) := dk_21 6 (dk_at dksL_law_23 18 rfl rfl)
theorem dL_law_683 : decode cL_law 683 = .ok (.if_icmp .eq 5, 3) := dk_159 0 5 (dk_at dksL_law_23 20 rfl rfl)
theorem dL_law_686 : decode cL_law 686 = .ok (.iconst 0, 1) := dk_3 (dk_at dksL_law_23 23 rfl rfl)
theorem dL_law_687 : decode cL_law 687 = .ok (.ireturn, 1) := dk_172 (dk_at dksL_law_24 0 rfl rfl)
theorem dL_law_688 : decode cL_law 688 = .ok (.iload 6, 2) := dk_21 6 (dk_at dksL_law_24 1 rfl rfl)
theorem dL_law_690 : decode cL_law 690 = .ok (.ifCond .ne 15, 3) := dk_154 0 15 (dk_at dksL_law_24 3 rfl rfl)
theorem dL_law_693 : decode cL_law 693 = .ok (.aload_n 3, 1) := dk_45 (dk_at dksL_law_24 6 rfl rfl)
theorem dL_law_694 : decode cL_law 694 = .ok (.iconst 0, 1) := dk_3 (dk_at dksL_law_24 7 rfl rfl)
theorem dL_law_695 : decode cL_law 695 = .ok (.laload, 1) := dk_47 (dk_at dksL_law_24 8 rfl rfl)
theorem dL_law_696 : decode cL_law 696 = .ok (.iload 7, 2) := dk_21 7 (dk_at dksL_law_24 9 rfl rfl)
theorem dL_law_698 : decode cL_law 698 = .ok (.i2l, 1) := dk_133 (dk_at dksL_law_24 11 rfl rfl)
theorem dL_law_699 : decode cL_law 699 = .ok (.lcmp, 1) := dk_148 (dk_at dksL_law_24 12 rfl rfl)
theorem dL_law_700 : decode cL_law 700 = .ok (.ifCond .eq 5, 3) := dk_153 0 5 (dk_at dksL_law_24 13 rfl rfl)
theorem dL_law_703 : decode cL_law 703 = .ok (.iconst 0, 1) := dk_3 (dk_at dksL_law_24 16 rfl rfl)
theorem dL_law_704 : decode cL_law 704 = .ok (.ireturn, 1) := dk_172 (dk_at dksL_law_24 17 rfl rfl)
theorem dL_law_705 : decode cL_law 705 = .ok (.goto 1526, 3) := dk_167 5 246 (dk_at dksL_law_24 18 rfl rfl)
theorem dL_law_708 : decode cL_law 708 = .ok (.aload_n 1, 1) := dk_43 (dk_at dksL_law_24 21 rfl rfl)
theorem dL_law_709 : decode cL_law 709 = .ok (.aload_n 0, 1) := dk_42 (dk_at dksL_law_24 22 rfl rfl)
theorem dL_law_710 : decode cL_law 710 = .ok (.iload 5, 2) := dk_21 5 (dk_at dksL_law_25 0 rfl rfl)
theorem dL_law_712 : decode cL_law 712 = .ok (.iconst 1, 1) := dk_4 (dk_at dksL_law_25 2 rfl rfl)
theorem dL_law_713 : decode cL_law 713 = .ok (.iadd, 1) := dk_96 (dk_at dksL_law_25 3 rfl rfl)
theorem dL_law_714 : decode cL_law 714 = .ok (.iaload, 1) := dk_46 (dk_at dksL_law_25 4 rfl rfl)
theorem dL_law_715 : decode cL_law 715 = .ok (.aload_n 0, 1) := dk_42 (dk_at dksL_law_25 5 rfl rfl)
theorem dL_law_716 : decode cL_law 716 = .ok (.iload 5, 2) := dk_21 5 (dk_at dksL_law_25 6 rfl rfl)
theorem dL_law_718 : decode cL_law 718 = .ok (.iconst 2, 1) := dk_5 (dk_at dksL_law_25 8 rfl rfl)
theorem dL_law_719 : decode cL_law 719 = .ok (.iadd, 1) := dk_96 (dk_at dksL_law_25 9 rfl rfl)
theorem dL_law_720 : decode cL_law 720 = .ok (.iaload, 1) := dk_46 (dk_at dksL_law_25 10 rfl rfl)
theorem dL_law_721 : decode cL_law 721 = .ok (.aload_n 3, 1) := dk_45 (dk_at dksL_law_25 11 rfl rfl)
theorem dL_law_722 : decode cL_law 722 = .ok (.invokestatic 165, 3) := dk_184 0 165 (dk_at dksL_law_25 12 rfl rfl)
theorem dL_law_725 : decode cL_law 725 = .ok (.istore 6, 2) := dk_54 6 (dk_at dksL_law_25 15 rfl rfl)
theorem dL_law_727 : decode cL_law 727 = .ok (.aload_n 2, 1) := dk_44 (dk_at dksL_law_25 17 rfl rfl)
theorem dL_law_728 : decode cL_law 728 = .ok (.aload_n 0, 1) := dk_42 (dk_at dksL_law_25 18 rfl rfl)
theorem dL_law_729 : decode cL_law 729 = .ok (.iload 5, 2) := dk_21 5 (dk_at dksL_law_25 19 rfl rfl)
theorem dL_law_731 : decode cL_law 731 = .ok (.iconst 1, 1) := dk_4 (dk_at dksL_law_25 21 rfl rfl)
theorem dL_law_732 : decode cL_law 732 = .ok (.iadd, 1) := dk_96 (dk_at dksL_law_25 22 rfl rfl)
theorem dL_law_733 : decode cL_law 733 = .ok (.iaload, 1) := dk_46 (dk_at dksL_law_25 23 rfl rfl)
theorem dL_law_734 : decode cL_law 734 = .ok (.aload_n 0, 1) := dk_42 (dk_at dksL_law_26 0 rfl rfl)
theorem dL_law_735 : decode cL_law 735 = .ok (.iload 5, 2) := dk_21 5 (dk_at dksL_law_26 1 rfl rfl)
theorem dL_law_737 : decode cL_law 737 = .ok (.iconst 2, 1) := dk_5 (dk_at dksL_law_26 3 rfl rfl)
theorem dL_law_738 : decode cL_law 738 = .ok (.iadd, 1) := dk_96 (dk_at dksL_law_26 4 rfl rfl)
theorem dL_law_739 : decode cL_law 739 = .ok (.iaload, 1) := dk_46 (dk_at dksL_law_26 5 rfl rfl)
theorem dL_law_740 : decode cL_law 740 = .ok (.invokevirtual 167, 3) := dk_182 0 167 (dk_at dksL_law_26 6 rfl rfl)
theorem dL_law_743 : decode cL_law 743 = .ok (.istore 7, 2) := dk_54 7 (dk_at dksL_law_26 9 rfl rfl)
theorem dL_law_745 : decode cL_law 745 = .ok (.aload_n 2, 1) := dk_44 (dk_at dksL_law_26 11 rfl rfl)
theorem dL_law_746 : decode cL_law 746 = .ok (.invokevirtual 139, 3) := dk_182 0 139 (dk_at dksL_law_26 12 rfl rfl)
theorem dL_law_749 : decode cL_law 749 = .ok (.iload 6, 2) := dk_21 6 (dk_at dksL_law_26 15 rfl rfl)
theorem dL_law_751 : decode cL_law 751 = .ok (.if_icmp .eq 5, 3) := dk_159 0 5 (dk_at dksL_law_26 17 rfl rfl)
theorem dL_law_754 : decode cL_law 754 = .ok (.iconst 0, 1) := dk_3 (dk_at dksL_law_26 20 rfl rfl)
theorem dL_law_755 : decode cL_law 755 = .ok (.ireturn, 1) := dk_172 (dk_at dksL_law_26 21 rfl rfl)
theorem dL_law_756 : decode cL_law 756 = .ok (.iload 6, 2) := dk_21 6 (dk_at dksL_law_26 22 rfl rfl)
theorem dL_law_758 : decode cL_law 758 = .ok (.ifCond .ne 15, 3) := dk_154 0 15 (dk_at dksL_law_27 0 rfl rfl)
theorem dL_law_761 : decode cL_law 761 = .ok (.aload_n 3, 1) := dk_45 (dk_at dksL_law_27 3 rfl rfl)
theorem dL_law_762 : decode cL_law 762 = .ok (.iconst 0, 1) := dk_3 (dk_at dksL_law_27 4 rfl rfl)
theorem dL_law_763 : decode cL_law 763 = .ok (.laload, 1) := dk_47 (dk_at dksL_law_27 5 rfl rfl)
theorem dL_law_764 : decode cL_law 764 = .ok (.iload 7, 2) := dk_21 7 (dk_at dksL_law_27 6 rfl rfl)
theorem dL_law_766 : decode cL_law 766 = .ok (.i2l, 1) := dk_133 (dk_at dksL_law_27 8 rfl rfl)
theorem dL_law_767 : decode cL_law 767 = .ok (.lcmp, 1) := dk_148 (dk_at dksL_law_27 9 rfl rfl)
theorem dL_law_768 : decode cL_law 768 = .ok (.ifCond .eq 5, 3) := dk_153 0 5 (dk_at dksL_law_27 10 rfl rfl)
theorem dL_law_771 : decode cL_law 771 = .ok (.iconst 0, 1) := dk_3 (dk_at dksL_law_27 13 rfl rfl)
theorem dL_law_772 : decode cL_law 772 = .ok (.ireturn, 1) := dk_172 (dk_at dksL_law_27 14 rfl rfl)
theorem dL_law_773 : decode cL_law 773 = .ok (.goto 1458, 3) := dk_167 5 178 (dk_at dksL_law_27 15 rfl rfl)
theorem dL_law_776 : decode cL_law 776 = .ok (.aload_n 1, 1) := dk_43 (dk_at dksL_law_27 18 rfl rfl)
theorem dL_law_777 : decode cL_law 777 = .ok (.aload_n 0, 1) := dk_42 (dk_at dksL_law_27 19 rfl rfl)
theorem dL_law_778 : decode cL_law 778 = .ok (.iload 5, 2) := dk_21 5 (dk_at dksL_law_27 20 rfl rfl)
theorem dL_law_780 : decode cL_law 780 = .ok (.iconst 1, 1) := dk_4 (dk_at dksL_law_27 22 rfl rfl)
theorem dL_law_781 : decode cL_law 781 = .ok (.iadd, 1) := dk_96 (dk_at dksL_law_27 23 rfl rfl)
theorem dL_law_782 : decode cL_law 782 = .ok (.iaload, 1) := dk_46 (dk_at dksL_law_28 0 rfl rfl)
theorem dL_law_783 : decode cL_law 783 = .ok (.aload_n 0, 1) := dk_42 (dk_at dksL_law_28 1 rfl rfl)
theorem dL_law_784 : decode cL_law 784 = .ok (.iload 5, 2) := dk_21 5 (dk_at dksL_law_28 2 rfl rfl)
theorem dL_law_786 : decode cL_law 786 = .ok (.iconst 2, 1) := dk_5 (dk_at dksL_law_28 4 rfl rfl)
theorem dL_law_787 : decode cL_law 787 = .ok (.iadd, 1) := dk_96 (dk_at dksL_law_28 5 rfl rfl)
theorem dL_law_788 : decode cL_law 788 = .ok (.iaload, 1) := dk_46 (dk_at dksL_law_28 6 rfl rfl)
theorem dL_law_789 : decode cL_law 789 = .ok (.aload_n 3, 1) := dk_45 (dk_at dksL_law_28 7 rfl rfl)
theorem dL_law_790 : decode cL_law 790 = .ok (.invokestatic 168, 3) := dk_184 0 168 (dk_at dksL_law_28 8 rfl rfl)
theorem dL_law_793 : decode cL_law 793 = .ok (.istore 6, 2) := dk_54 6 (dk_at dksL_law_28 11 rfl rfl)
theorem dL_law_795 : decode cL_law 795 = .ok (.aload_n 2, 1) := dk_44 (dk_at dksL_law_28 13 rfl rfl)
theorem dL_law_796 : decode cL_law 796 = .ok (.aload_n 0, 1) := dk_42 (dk_at dksL_law_28 14 rfl rfl)
theorem dL_law_797 : decode cL_law 797 = .ok (.iload 5, 2) := dk_21 5 (dk_at dksL_law_28 15 rfl rfl)
theorem dL_law_799 : decode cL_law 799 = .ok (.iconst 1, 1) := dk_4 (dk_at dksL_law_28 17 rfl rfl)
theorem dL_law_800 : decode cL_law 800 = .ok (.iadd, 1) := dk_96 (dk_at dksL_law_28 18 rfl rfl)
theorem dL_law_801 : decode cL_law 801 = .ok (.iaload, 1) := dk_46 (dk_at dksL_law_28 19 rfl rfl)
theorem dL_law_802 : decode cL_law 802 = .ok (.aload_n 0, 1) := dk_42 (dk_at dksL_law_28 20 rfl rfl)
theorem dL_law_803 : decode cL_law 803 = .ok (.iload 5, 2) := dk_21 5 (dk_at dksL_law_28 21 rfl rfl)
theorem dL_law_805 : decode cL_law 805 = .ok (.iconst 2, 1) := dk_5 (dk_at dksL_law_28 23 rfl rfl)
theorem dL_law_806 : decode cL_law 806 = .ok (.iadd, 1) := dk_96 (dk_at dksL_law_29 0 rfl rfl)
theorem dL_law_807 : decode cL_law 807 = .ok (.iaload, 1) := dk_46 (dk_at dksL_law_29 1 rfl rfl)
theorem dL_law_808 : decode cL_law 808 = .ok (.invokevirtual 170, 3) := dk_182 0 170 (dk_at dksL_law_29 2 rfl rfl)
theorem dL_law_811 : decode cL_law 811 = .ok (.istore 7, 2) := dk_54 7 (dk_at dksL_law_29 5 rfl rfl)
theorem dL_law_813 : decode cL_law 813 = .ok (.aload_n 2, 1) := dk_44 (dk_at dksL_law_29 7 rfl rfl)
theorem dL_law_814 : decode cL_law 814 = .ok (.invokevirtual 139, 3) := dk_182 0 139 (dk_at dksL_law_29 8 rfl rfl)
theorem dL_law_817 : decode cL_law 817 = .ok (.iload 6, 2) := dk_21 6 (dk_at dksL_law_29 11 rfl rfl)
theorem dL_law_819 : decode cL_law 819 = .ok (.if_icmp .eq 5, 3) := dk_159 0 5 (dk_at dksL_law_29 13 rfl rfl)
theorem dL_law_822 : decode cL_law 822 = .ok (.iconst 0, 1) := dk_3 (dk_at dksL_law_29 16 rfl rfl)
theorem dL_law_823 : decode cL_law 823 = .ok (.ireturn, 1) := dk_172 (dk_at dksL_law_29 17 rfl rfl)
theorem dL_law_824 : decode cL_law 824 = .ok (.iload 6, 2) := dk_21 6 (dk_at dksL_law_29 18 rfl rfl)
theorem dL_law_826 : decode cL_law 826 = .ok (.ifCond .ne 15, 3) := dk_154 0 15 (dk_at dksL_law_29 20 rfl rfl)
theorem dL_law_829 : decode cL_law 829 = .ok (.aload_n 3, 1) := dk_45 (dk_at dksL_law_29 23 rfl rfl)
theorem dL_law_830 : decode cL_law 830 = .ok (.iconst 0, 1) := dk_3 (dk_at dksL_law_30 0 rfl rfl)
theorem dL_law_831 : decode cL_law 831 = .ok (.laload, 1) := dk_47 (dk_at dksL_law_30 1 rfl rfl)
theorem dL_law_832 : decode cL_law 832 = .ok (.iload 7, 2) := dk_21 7 (dk_at dksL_law_30 2 rfl rfl)
theorem dL_law_834 : decode cL_law 834 = .ok (.i2l, 1) := dk_133 (dk_at dksL_law_30 4 rfl rfl)
theorem dL_law_835 : decode cL_law 835 = .ok (.lcmp, 1) := dk_148 (dk_at dksL_law_30 5 rfl rfl)
theorem dL_law_836 : decode cL_law 836 = .ok (.ifCond .eq 5, 3) := dk_153 0 5 (dk_at dksL_law_30 6 rfl rfl)
theorem dL_law_839 : decode cL_law 839 = .ok (.iconst 0, 1) := dk_3 (dk_at dksL_law_30 9 rfl rfl)
theorem dL_law_840 : decode cL_law 840 = .ok (.ireturn, 1) := dk_172 (dk_at dksL_law_30 10 rfl rfl)
theorem dL_law_841 : decode cL_law 841 = .ok (.goto 1390, 3) := dk_167 5 110 (dk_at dksL_law_30 11 rfl rfl)
theorem dL_law_844 : decode cL_law 844 = .ok (.aload_n 1, 1) := dk_43 (dk_at dksL_law_30 14 rfl rfl)
theorem dL_law_845 : decode cL_law 845 = .ok (.aload_n 0, 1) := dk_42 (dk_at dksL_law_30 15 rfl rfl)
theorem dL_law_846 : decode cL_law 846 = .ok (.iload 5, 2) := dk_21 5 (dk_at dksL_law_30 16 rfl rfl)
theorem dL_law_848 : decode cL_law 848 = .ok (.iconst 1, 1) := dk_4 (dk_at dksL_law_30 18 rfl rfl)
theorem dL_law_849 : decode cL_law 849 = .ok (.iadd, 1) := dk_96 (dk_at dksL_law_30 19 rfl rfl)
theorem dL_law_850 : decode cL_law 850 = .ok (.iaload, 1) := dk_46 (dk_at dksL_law_30 20 rfl rfl)
theorem dL_law_851 : decode cL_law 851 = .ok (.aload_n 0, 1) := dk_42 (dk_at dksL_law_30 21 rfl rfl)
theorem dL_law_852 : decode cL_law 852 = .ok (.iload 5, 2) := dk_21 5 (dk_at dksL_law_30 22 rfl rfl)
theorem dL_law_854 : decode cL_law 854 = .ok (.iconst 2, 1) := dk_5 (dk_at dksL_law_31 0 rfl rfl)
theorem dL_law_855 : decode cL_law 855 = .ok (.iadd, 1) := dk_96 (dk_at dksL_law_31 1 rfl rfl)
theorem dL_law_856 : decode cL_law 856 = .ok (.iaload, 1) := dk_46 (dk_at dksL_law_31 2 rfl rfl)
theorem dL_law_857 : decode cL_law 857 = .ok (.aload_n 3, 1) := dk_45 (dk_at dksL_law_31 3 rfl rfl)
theorem dL_law_858 : decode cL_law 858 = .ok (.invokestatic 171, 3) := dk_184 0 171 (dk_at dksL_law_31 4 rfl rfl)
theorem dL_law_861 : decode cL_law 861 = .ok (.istore 6, 2) := dk_54 6 (dk_at dksL_law_31 7 rfl rfl)
theorem dL_law_863 : decode cL_law 863 = .ok (.aload_n 2, 1) := dk_44 (dk_at dksL_law_31 9 rfl rfl)
theorem dL_law_864 : decode cL_law 864 = .ok (.aload_n 0, 1) := dk_42 (dk_at dksL_law_31 10 rfl rfl)
theorem dL_law_865 : decode cL_law 865 = .ok (.iload 5, 2) := dk_21 5 (dk_at dksL_law_31 11 rfl rfl)
theorem dL_law_867 : decode cL_law 867 = .ok (.iconst 1, 1) := dk_4 (dk_at dksL_law_31 13 rfl rfl)
theorem dL_law_868 : decode cL_law 868 = .ok (.iadd, 1) := dk_96 (dk_at dksL_law_31 14 rfl rfl)
theorem dL_law_869 : decode cL_law 869 = .ok (.iaload, 1) := dk_46 (dk_at dksL_law_31 15 rfl rfl)
theorem dL_law_870 : decode cL_law 870 = .ok (.aload_n 0, 1) := dk_42 (dk_at dksL_law_31 16 rfl rfl)
theorem dL_law_871 : decode cL_law 871 = .ok (.iload 5, 2) := dk_21 5 (dk_at dksL_law_31 17 rfl rfl)
theorem dL_law_873 : decode cL_law 873 = .ok (.iconst 2, 1) := dk_5 (dk_at dksL_law_31 19 rfl rfl)
theorem dL_law_874 : decode cL_law 874 = .ok (.iadd, 1) := dk_96 (dk_at dksL_law_31 20 rfl rfl)
theorem dL_law_875 : decode cL_law 875 = .ok (.iaload, 1) := dk_46 (dk_at dksL_law_31 21 rfl rfl)
theorem dL_law_876 : decode cL_law 876 = .ok (.invokevirtual 173, 3) := dk_182 0 173 (dk_at dksL_law_32 0 rfl rfl)
theorem dL_law_879 : decode cL_law 879 = .ok (.istore 7, 2) := dk_54 7 (dk_at dksL_law_32 3 rfl rfl)
theorem dL_law_881 : decode cL_law 881 = .ok (.aload_n 2, 1) := dk_44 (dk_at dksL_law_32 5 rfl rfl)
theorem dL_law_882 : decode cL_law 882 = .ok (.invokevirtual 139, 3) := dk_182 0 139 (dk_at dksL_law_32 6 rfl rfl)
theorem dL_law_885 : decode cL_law 885 = .ok (.iload 6, 2) := dk_21 6 (dk_at dksL_law_32 9 rfl rfl)
theorem dL_law_887 : decode cL_law 887 = .ok (.if_icmp .eq 5, 3) := dk_159 0 5 (dk_at dksL_law_32 11 rfl rfl)
theorem dL_law_890 : decode cL_law 890 = .ok (.iconst 0, 1) := dk_3 (dk_at dksL_law_32 14 rfl rfl)
theorem dL_law_891 : decode cL_law 891 = .ok (.ireturn, 1) := dk_172 (dk_at dksL_law_32 15 rfl rfl)
theorem dL_law_892 : decode cL_law 892 = .ok (.iload 6, 2) := dk_21 6 (dk_at dksL_law_32 16 rfl rfl)
theorem dL_law_894 : decode cL_law 894 = .ok (.ifCond .ne 15, 3) := dk_154 0 15 (dk_at dksL_law_32 18 rfl rfl)
theorem dL_law_897 : decode cL_law 897 = .ok (.aload_n 3, 1) := dk_45 (dk_at dksL_law_32 21 rfl rfl)
theorem dL_law_898 : decode cL_law 898 = .ok (.iconst 0, 1) := dk_3 (dk_at dksL_law_32 22 rfl rfl)
theorem dL_law_899 : decode cL_law 899 = .ok (.laload, 1) := dk_47 (dk_at dksL_law_32 23 rfl rfl)
theorem dL_law_900 : decode cL_law 900 = .ok (.iload 7, 2) := dk_21 7 (dk_at dksL_law_33 0 rfl rfl)
theorem dL_law_902 : decode cL_law 902 = .ok (.i2l, 1) := dk_133 (dk_at dksL_law_33 2 rfl rfl)
theorem dL_law_903 : decode cL_law 903 = .ok (.lcmp, 1) := dk_148 (dk_at dksL_law_33 3 rfl rfl)
theorem dL_law_904 : decode cL_law 904 = .ok (.ifCond .eq 5, 3) := dk_153 0 5 (dk_at dksL_law_33 4 rfl rfl)
theorem dL_law_907 : decode cL_law 907 = .ok (.iconst 0, 1) := dk_3 (dk_at dksL_law_33 7 rfl rfl)
theorem dL_law_908 : decode cL_law 908 = .ok (.ireturn, 1) := dk_172 (dk_at dksL_law_33 8 rfl rfl)
theorem dL_law_909 : decode cL_law 909 = .ok (.goto 1322, 3) := dk_167 5 42 (dk_at dksL_law_33 9 rfl rfl)
theorem dL_law_912 : decode cL_law 912 = .ok (.aload_n 1, 1) := dk_43 (dk_at dksL_law_33 12 rfl rfl)
theorem dL_law_913 : decode cL_law 913 = .ok (.aload_n 0, 1) := dk_42 (dk_at dksL_law_33 13 rfl rfl)
theorem dL_law_914 : decode cL_law 914 = .ok (.iload 5, 2) := dk_21 5 (dk_at dksL_law_33 14 rfl rfl)
theorem dL_law_916 : decode cL_law 916 = .ok (.iconst 1, 1) := dk_4 (dk_at dksL_law_33 16 rfl rfl)
theorem dL_law_917 : decode cL_law 917 = .ok (.iadd, 1) := dk_96 (dk_at dksL_law_33 17 rfl rfl)
theorem dL_law_918 : decode cL_law 918 = .ok (.iaload, 1) := dk_46 (dk_at dksL_law_33 18 rfl rfl)
theorem dL_law_919 : decode cL_law 919 = .ok (.aload_n 3, 1) := dk_45 (dk_at dksL_law_33 19 rfl rfl)
theorem dL_law_920 : decode cL_law 920 = .ok (.invokestatic 174, 3) := dk_184 0 174 (dk_at dksL_law_33 20 rfl rfl)
theorem dL_law_923 : decode cL_law 923 = .ok (.istore 6, 2) := dk_54 6 (dk_at dksL_law_34 0 rfl rfl)
theorem dL_law_925 : decode cL_law 925 = .ok (.aload_n 2, 1) := dk_44 (dk_at dksL_law_34 2 rfl rfl)
theorem dL_law_926 : decode cL_law 926 = .ok (.aload_n 0, 1) := dk_42 (dk_at dksL_law_34 3 rfl rfl)
theorem dL_law_927 : decode cL_law 927 = .ok (.iload 5, 2) := dk_21 5 (dk_at dksL_law_34 4 rfl rfl)
theorem dL_law_929 : decode cL_law 929 = .ok (.iconst 1, 1) := dk_4 (dk_at dksL_law_34 6 rfl rfl)
theorem dL_law_930 : decode cL_law 930 = .ok (.iadd, 1) := dk_96 (dk_at dksL_law_34 7 rfl rfl)
theorem dL_law_931 : decode cL_law 931 = .ok (.iaload, 1) := dk_46 (dk_at dksL_law_34 8 rfl rfl)
theorem dL_law_932 : decode cL_law 932 = .ok (.invokevirtual 176, 3) := dk_182 0 176 (dk_at dksL_law_34 9 rfl rfl)
theorem dL_law_935 : decode cL_law 935 = .ok (.istore 7, 2) := dk_54 7 (dk_at dksL_law_34 12 rfl rfl)
theorem dL_law_937 : decode cL_law 937 = .ok (.aload_n 2, 1) := dk_44 (dk_at dksL_law_34 14 rfl rfl)
theorem dL_law_938 : decode cL_law 938 = .ok (.invokevirtual 139, 3) := dk_182 0 139 (dk_at dksL_law_34 15 rfl rfl)
theorem dL_law_941 : decode cL_law 941 = .ok (.iload 6, 2) := dk_21 6 (dk_at dksL_law_34 18 rfl rfl)
theorem dL_law_943 : decode cL_law 943 = .ok (.if_icmp .eq 5, 3) := dk_159 0 5 (dk_at dksL_law_34 20 rfl rfl)
theorem dL_law_946 : decode cL_law 946 = .ok (.iconst 0, 1) := dk_3 (dk_at dksL_law_34 23 rfl rfl)
theorem dL_law_947 : decode cL_law 947 = .ok (.ireturn, 1) := dk_172 (dk_at dksL_law_35 0 rfl rfl)
theorem dL_law_948 : decode cL_law 948 = .ok (.iload 6, 2) := dk_21 6 (dk_at dksL_law_35 1 rfl rfl)
theorem dL_law_950 : decode cL_law 950 = .ok (.ifCond .ne 15, 3) := dk_154 0 15 (dk_at dksL_law_35 3 rfl rfl)
theorem dL_law_953 : decode cL_law 953 = .ok (.aload_n 3, 1) := dk_45 (dk_at dksL_law_35 6 rfl rfl)
theorem dL_law_954 : decode cL_law 954 = .ok (.iconst 0, 1) := dk_3 (dk_at dksL_law_35 7 rfl rfl)
theorem dL_law_955 : decode cL_law 955 = .ok (.laload, 1) := dk_47 (dk_at dksL_law_35 8 rfl rfl)
theorem dL_law_956 : decode cL_law 956 = .ok (.iload 7, 2) := dk_21 7 (dk_at dksL_law_35 9 rfl rfl)
theorem dL_law_958 : decode cL_law 958 = .ok (.i2l, 1) := dk_133 (dk_at dksL_law_35 11 rfl rfl)
theorem dL_law_959 : decode cL_law 959 = .ok (.lcmp, 1) := dk_148 (dk_at dksL_law_35 12 rfl rfl)
theorem dL_law_960 : decode cL_law 960 = .ok (.ifCond .eq 5, 3) := dk_153 0 5 (dk_at dksL_law_35 13 rfl rfl)
theorem dL_law_963 : decode cL_law 963 = .ok (.iconst 0, 1) := dk_3 (dk_at dksL_law_35 16 rfl rfl)
theorem dL_law_964 : decode cL_law 964 = .ok (.ireturn, 1) := dk_172 (dk_at dksL_law_35 17 rfl rfl)
theorem dL_law_965 : decode cL_law 965 = .ok (.goto 1266, 3) := dk_167 4 242 (dk_at dksL_law_35 18 rfl rfl)
theorem dL_law_968 : decode cL_law 968 = .ok (.aload_n 1, 1) := dk_43 (dk_at dksL_law_35 21 rfl rfl)
theorem dL_law_969 : decode cL_law 969 = .ok (.aload_n 0, 1) := dk_42 (dk_at dksL_law_35 22 rfl rfl)
theorem dL_law_970 : decode cL_law 970 = .ok (.iload 5, 2) := dk_21 5 (dk_at dksL_law_36 0 rfl rfl)
theorem dL_law_972 : decode cL_law 972 = .ok (.iconst 1, 1) := dk_4 (dk_at dksL_law_36 2 rfl rfl)
theorem dL_law_973 : decode cL_law 973 = .ok (.iadd, 1) := dk_96 (dk_at dksL_law_36 3 rfl rfl)
theorem dL_law_974 : decode cL_law 974 = .ok (.iaload, 1) := dk_46 (dk_at dksL_law_36 4 rfl rfl)
theorem dL_law_975 : decode cL_law 975 = .ok (.aload_n 0, 1) := dk_42 (dk_at dksL_law_36 5 rfl rfl)
theorem dL_law_976 : decode cL_law 976 = .ok (.iload 5, 2) := dk_21 5 (dk_at dksL_law_36 6 rfl rfl)
theorem dL_law_978 : decode cL_law 978 = .ok (.iconst 2, 1) := dk_5 (dk_at dksL_law_36 8 rfl rfl)
theorem dL_law_979 : decode cL_law 979 = .ok (.iadd, 1) := dk_96 (dk_at dksL_law_36 9 rfl rfl)
theorem dL_law_980 : decode cL_law 980 = .ok (.iaload, 1) := dk_46 (dk_at dksL_law_36 10 rfl rfl)
theorem dL_law_981 : decode cL_law 981 = .ok (.aload_n 0, 1) := dk_42 (dk_at dksL_law_36 11 rfl rfl)
theorem dL_law_982 : decode cL_law 982 = .ok (.iload 5, 2) := dk_21 5 (dk_at dksL_law_36 12 rfl rfl)
theorem dL_law_984 : decode cL_law 984 = .ok (.iconst 3, 1) := dk_6 (dk_at dksL_law_36 14 rfl rfl)
theorem dL_law_985 : decode cL_law 985 = .ok (.iadd, 1) := dk_96 (dk_at dksL_law_36 15 rfl rfl)
theorem dL_law_986 : decode cL_law 986 = .ok (.iaload, 1) := dk_46 (dk_at dksL_law_36 16 rfl rfl)
theorem dL_law_987 : decode cL_law 987 = .ok (.aload_n 3, 1) := dk_45 (dk_at dksL_law_36 17 rfl rfl)
theorem dL_law_988 : decode cL_law 988 = .ok (.invokestatic 177, 3) := dk_184 0 177 (dk_at dksL_law_36 18 rfl rfl)
theorem dL_law_991 : decode cL_law 991 = .ok (.istore 6, 2) := dk_54 6 (dk_at dksL_law_36 21 rfl rfl)
theorem dL_law_993 : decode cL_law 993 = .ok (.aload_n 2, 1) := dk_44 (dk_at dksL_law_36 23 rfl rfl)
theorem dL_law_994 : decode cL_law 994 = .ok (.aload_n 0, 1) := dk_42 (dk_at dksL_law_37 0 rfl rfl)
theorem dL_law_995 : decode cL_law 995 = .ok (.iload 5, 2) := dk_21 5 (dk_at dksL_law_37 1 rfl rfl)
theorem dL_law_997 : decode cL_law 997 = .ok (.iconst 1, 1) := dk_4 (dk_at dksL_law_37 3 rfl rfl)
theorem dL_law_998 : decode cL_law 998 = .ok (.iadd, 1) := dk_96 (dk_at dksL_law_37 4 rfl rfl)
theorem dL_law_999 : decode cL_law 999 = .ok (.iaload, 1) := dk_46 (dk_at dksL_law_37 5 rfl rfl)
theorem dL_law_1000 : decode cL_law 1000 = .ok (.aload_n 0, 1) := dk_42 (dk_at dksL_law_37 6 rfl rfl)
theorem dL_law_1001 : decode cL_law 1001 = .ok (.iload 5, 2) := dk_21 5 (dk_at dksL_law_37 7 rfl rfl)
theorem dL_law_1003 : decode cL_law 1003 = .ok (.iconst 2, 1) := dk_5 (dk_at dksL_law_37 9 rfl rfl)
theorem dL_law_1004 : decode cL_law 1004 = .ok (.iadd, 1) := dk_96 (dk_at dksL_law_37 10 rfl rfl)
theorem dL_law_1005 : decode cL_law 1005 = .ok (.iaload, 1) := dk_46 (dk_at dksL_law_37 11 rfl rfl)
theorem dL_law_1006 : decode cL_law 1006 = .ok (.aload_n 0, 1) := dk_42 (dk_at dksL_law_37 12 rfl rfl)
theorem dL_law_1007 : decode cL_law 1007 = .ok (.iload 5, 2) := dk_21 5 (dk_at dksL_law_37 13 rfl rfl)
theorem dL_law_1009 : decode cL_law 1009 = .ok (.iconst 3, 1) := dk_6 (dk_at dksL_law_37 15 rfl rfl)
theorem dL_law_1010 : decode cL_law 1010 = .ok (.iadd, 1) := dk_96 (dk_at dksL_law_37 16 rfl rfl)
theorem dL_law_1011 : decode cL_law 1011 = .ok (.iaload, 1) := dk_46 (dk_at dksL_law_37 17 rfl rfl)
theorem dL_law_1012 : decode cL_law 1012 = .ok (.invokevirtual 179, 3) := dk_182 0 179 (dk_at dksL_law_37 18 rfl rfl)
theorem dL_law_1015 : decode cL_law 1015 = .ok (.istore 7, 2) := dk_54 7 (dk_at dksL_law_37 21 rfl rfl)
theorem dL_law_1017 : decode cL_law 1017 = .ok (.aload_n 2, 1) := dk_44 (dk_at dksL_law_37 23 rfl rfl)
theorem dL_law_1018 : decode cL_law 1018 = .ok (.invokevirtual 139, 3) := dk_182 0 139 (dk_at dksL_law_38 0 rfl rfl)
theorem dL_law_1021 : decode cL_law 1021 = .ok (.iload 6, 2) := dk_21 6 (dk_at dksL_law_38 3 rfl rfl)
theorem dL_law_1023 : decode cL_law 1023 = .ok (.if_icmp .eq 5, 3) := dk_159 0 5 (dk_at dksL_law_38 5 rfl rfl)
theorem dL_law_1026 : decode cL_law 1026 = .ok (.iconst 0, 1) := dk_3 (dk_at dksL_law_38 8 rfl rfl)
theorem dL_law_1027 : decode cL_law 1027 = .ok (.ireturn, 1) := dk_172 (dk_at dksL_law_38 9 rfl rfl)
theorem dL_law_1028 : decode cL_law 1028 = .ok (.iload 6, 2) := dk_21 6 (dk_at dksL_law_38 10 rfl rfl)
theorem dL_law_1030 : decode cL_law 1030 = .ok (.ifCond .ne 15, 3) := dk_154 0 15 (dk_at dksL_law_38 12 rfl rfl)
theorem dL_law_1033 : decode cL_law 1033 = .ok (.aload_n 3, 1) := dk_45 (dk_at dksL_law_38 15 rfl rfl)
theorem dL_law_1034 : decode cL_law 1034 = .ok (.iconst 0, 1) := dk_3 (dk_at dksL_law_38 16 rfl rfl)
theorem dL_law_1035 : decode cL_law 1035 = .ok (.laload, 1) := dk_47 (dk_at dksL_law_38 17 rfl rfl)
theorem dL_law_1036 : decode cL_law 1036 = .ok (.iload 7, 2) := dk_21 7 (dk_at dksL_law_38 18 rfl rfl)
theorem dL_law_1038 : decode cL_law 1038 = .ok (.i2l, 1) := dk_133 (dk_at dksL_law_38 20 rfl rfl)
theorem dL_law_1039 : decode cL_law 1039 = .ok (.lcmp, 1) := dk_148 (dk_at dksL_law_38 21 rfl rfl)
theorem dL_law_1040 : decode cL_law 1040 = .ok (.ifCond .eq 5, 3) := dk_153 0 5 (dk_at dksL_law_39 0 rfl rfl)
theorem dL_law_1043 : decode cL_law 1043 = .ok (.iconst 0, 1) := dk_3 (dk_at dksL_law_39 3 rfl rfl)
theorem dL_law_1044 : decode cL_law 1044 = .ok (.ireturn, 1) := dk_172 (dk_at dksL_law_39 4 rfl rfl)
theorem dL_law_1045 : decode cL_law 1045 = .ok (.goto 1186, 3) := dk_167 4 162 (dk_at dksL_law_39 5 rfl rfl)
theorem dL_law_1048 : decode cL_law 1048 = .ok (.aload_n 1, 1) := dk_43 (dk_at dksL_law_39 8 rfl rfl)
theorem dL_law_1049 : decode cL_law 1049 = .ok (.aload_n 0, 1) := dk_42 (dk_at dksL_law_39 9 rfl rfl)
theorem dL_law_1050 : decode cL_law 1050 = .ok (.iload 5, 2) := dk_21 5 (dk_at dksL_law_39 10 rfl rfl)
theorem dL_law_1052 : decode cL_law 1052 = .ok (.iconst 1, 1) := dk_4 (dk_at dksL_law_39 12 rfl rfl)
theorem dL_law_1053 : decode cL_law 1053 = .ok (.iadd, 1) := dk_96 (dk_at dksL_law_39 13 rfl rfl)
theorem dL_law_1054 : decode cL_law 1054 = .ok (.iaload, 1) := dk_46 (dk_at dksL_law_39 14 rfl rfl)
theorem dL_law_1055 : decode cL_law 1055 = .ok (.aload_n 0, 1) := dk_42 (dk_at dksL_law_39 15 rfl rfl)
theorem dL_law_1056 : decode cL_law 1056 = .ok (.iload 5, 2) := dk_21 5 (dk_at dksL_law_39 16 rfl rfl)
theorem dL_law_1058 : decode cL_law 1058 = .ok (.iconst 2, 1) := dk_5 (dk_at dksL_law_39 18 rfl rfl)
theorem dL_law_1059 : decode cL_law 1059 = .ok (.iadd, 1) := dk_96 (dk_at dksL_law_39 19 rfl rfl)
theorem dL_law_1060 : decode cL_law 1060 = .ok (.iaload, 1) := dk_46 (dk_at dksL_law_39 20 rfl rfl)
theorem dL_law_1061 : decode cL_law 1061 = .ok (.aload_n 3, 1) := dk_45 (dk_at dksL_law_39 21 rfl rfl)
theorem dL_law_1062 : decode cL_law 1062 = .ok (.invokestatic 180, 3) := dk_184 0 180 (dk_at dksL_law_40 0 rfl rfl)
theorem dL_law_1065 : decode cL_law 1065 = .ok (.istore 6, 2) := dk_54 6 (dk_at dksL_law_40 3 rfl rfl)
theorem dL_law_1067 : decode cL_law 1067 = .ok (.aload_n 2, 1) := dk_44 (dk_at dksL_law_40 5 rfl rfl)
theorem dL_law_1068 : decode cL_law 1068 = .ok (.aload_n 0, 1) := dk_42 (dk_at dksL_law_40 6 rfl rfl)
theorem dL_law_1069 : decode cL_law 1069 = .ok (.iload 5, 2) := dk_21 5 (dk_at dksL_law_40 7 rfl rfl)
theorem dL_law_1071 : decode cL_law 1071 = .ok (.iconst 1, 1) := dk_4 (dk_at dksL_law_40 9 rfl rfl)
theorem dL_law_1072 : decode cL_law 1072 = .ok (.iadd, 1) := dk_96 (dk_at dksL_law_40 10 rfl rfl)
theorem dL_law_1073 : decode cL_law 1073 = .ok (.iaload, 1) := dk_46 (dk_at dksL_law_40 11 rfl rfl)
theorem dL_law_1074 : decode cL_law 1074 = .ok (.aload_n 0, 1) := dk_42 (dk_at dksL_law_40 12 rfl rfl)
theorem dL_law_1075 : decode cL_law 1075 = .ok (.iload 5, 2) := dk_21 5 (dk_at dksL_law_40 13 rfl rfl)
theorem dL_law_1077 : decode cL_law 1077 = .ok (.iconst 2, 1) := dk_5 (dk_at dksL_law_40 15 rfl rfl)
theorem dL_law_1078 : decode cL_law 1078 = .ok (.iadd, 1) := dk_96 (dk_at dksL_law_40 16 rfl rfl)
theorem dL_law_1079 : decode cL_law 1079 = .ok (.iaload, 1) := dk_46 (dk_at dksL_law_40 17 rfl rfl)
theorem dL_law_1080 : decode cL_law 1080 = .ok (.invokevirtual 182, 3) := dk_182 0 182 (dk_at dksL_law_40 18 rfl rfl)
theorem dL_law_1083 : decode cL_law 1083 = .ok (.istore 7, 2) := dk_54 7 (dk_at dksL_law_40 21 rfl rfl)
theorem dL_law_1085 : decode cL_law 1085 = .ok (.aload_n 2, 1) := dk_44 (dk_at dksL_law_40 23 rfl rfl)
theorem dL_law_1086 : decode cL_law 1086 = .ok (.invokevirtual 139, 3) := dk_182 0 139 (dk_at dksL_law_41 0 rfl rfl)
theorem dL_law_1089 : decode cL_law 1089 = .ok (.iload 6, 2) := dk_21 6 (dk_at dksL_law_41 3 rfl rfl)
theorem dL_law_1091 : decode cL_law 1091 = .ok (.if_icmp .eq 5, 3) := dk_159 0 5 (dk_at dksL_law_41 5 rfl rfl)
theorem dL_law_1094 : decode cL_law 1094 = .ok (.iconst 0, 1) := dk_3 (dk_at dksL_law_41 8 rfl rfl)
theorem dL_law_1095 : decode cL_law 1095 = .ok (.ireturn, 1) := dk_172 (dk_at dksL_law_41 9 rfl rfl)
theorem dL_law_1096 : decode cL_law 1096 = .ok (.iload 6, 2) := dk_21 6 (dk_at dksL_law_41 10 rfl rfl)
theorem dL_law_1098 : decode cL_law 1098 = .ok (.ifCond .ne 15, 3) := dk_154 0 15 (dk_at dksL_law_41 12 rfl rfl)
theorem dL_law_1101 : decode cL_law 1101 = .ok (.aload_n 3, 1) := dk_45 (dk_at dksL_law_41 15 rfl rfl)
theorem dL_law_1102 : decode cL_law 1102 = .ok (.iconst 0, 1) := dk_3 (dk_at dksL_law_41 16 rfl rfl)
theorem dL_law_1103 : decode cL_law 1103 = .ok (.laload, 1) := dk_47 (dk_at dksL_law_41 17 rfl rfl)
theorem dL_law_1104 : decode cL_law 1104 = .ok (.iload 7, 2) := dk_21 7 (dk_at dksL_law_41 18 rfl rfl)
theorem dL_law_1106 : decode cL_law 1106 = .ok (.i2l, 1) := dk_133 (dk_at dksL_law_41 20 rfl rfl)
theorem dL_law_1107 : decode cL_law 1107 = .ok (.lcmp, 1) := dk_148 (dk_at dksL_law_41 21 rfl rfl)
theorem dL_law_1108 : decode cL_law 1108 = .ok (.ifCond .eq 5, 3) := dk_153 0 5 (dk_at dksL_law_42 0 rfl rfl)
theorem dL_law_1111 : decode cL_law 1111 = .ok (.iconst 0, 1) := dk_3 (dk_at dksL_law_42 3 rfl rfl)
theorem dL_law_1112 : decode cL_law 1112 = .ok (.ireturn, 1) := dk_172 (dk_at dksL_law_42 4 rfl rfl)
theorem dL_law_1113 : decode cL_law 1113 = .ok (.goto 1118, 3) := dk_167 4 94 (dk_at dksL_law_42 5 rfl rfl)
theorem dL_law_1116 : decode cL_law 1116 = .ok (.aload_n 1, 1) := dk_43 (dk_at dksL_law_42 8 rfl rfl)
theorem dL_law_1117 : decode cL_law 1117 = .ok (.aload_n 0, 1) := dk_42 (dk_at dksL_law_42 9 rfl rfl)
theorem dL_law_1118 : decode cL_law 1118 = .ok (.iload 5, 2) := dk_21 5 (dk_at dksL_law_42 10 rfl rfl)
theorem dL_law_1120 : decode cL_law 1120 = .ok (.iconst 1, 1) := dk_4 (dk_at dksL_law_42 12 rfl rfl)
theorem dL_law_1121 : decode cL_law 1121 = .ok (.iadd, 1) := dk_96 (dk_at dksL_law_42 13 rfl rfl)
theorem dL_law_1122 : decode cL_law 1122 = .ok (.iaload, 1) := dk_46 (dk_at dksL_law_42 14 rfl rfl)
theorem dL_law_1123 : decode cL_law 1123 = .ok (.aload_n 3, 1) := dk_45 (dk_at dksL_law_42 15 rfl rfl)
theorem dL_law_1124 : decode cL_law 1124 = .ok (.invokestatic 183, 3) := dk_184 0 183 (dk_at dksL_law_42 16 rfl rfl)
theorem dL_law_1127 : decode cL_law 1127 = .ok (.istore 6, 2) := dk_54 6 (dk_at dksL_law_42 19 rfl rfl)
theorem dL_law_1129 : decode cL_law 1129 = .ok (.aload_n 2, 1) := dk_44 (dk_at dksL_law_42 21 rfl rfl)
theorem dL_law_1130 : decode cL_law 1130 = .ok (.aload_n 0, 1) := dk_42 (dk_at dksL_law_42 22 rfl rfl)
theorem dL_law_1131 : decode cL_law 1131 = .ok (.iload 5, 2) := dk_21 5 (dk_at dksL_law_43 0 rfl rfl)
theorem dL_law_1133 : decode cL_law 1133 = .ok (.iconst 1, 1) := dk_4 (dk_at dksL_law_43 2 rfl rfl)
theorem dL_law_1134 : decode cL_law 1134 = .ok (.iadd, 1) := dk_96 (dk_at dksL_law_43 3 rfl rfl)
theorem dL_law_1135 : decode cL_law 1135 = .ok (.iaload, 1) := dk_46 (dk_at dksL_law_43 4 rfl rfl)
theorem dL_law_1136 : decode cL_law 1136 = .ok (.invokevirtual 185, 3) := dk_182 0 185 (dk_at dksL_law_43 5 rfl rfl)
theorem dL_law_1139 : decode cL_law 1139 = .ok (.istore 7, 2) := dk_54 7 (dk_at dksL_law_43 8 rfl rfl)
theorem dL_law_1141 : decode cL_law 1141 = .ok (.aload_n 2, 1) := dk_44 (dk_at dksL_law_43 10 rfl rfl)
theorem dL_law_1142 : decode cL_law 1142 = .ok (.invokevirtual 139, 3) := dk_182 0 139 (dk_at dksL_law_43 11 rfl rfl)
theorem dL_law_1145 : decode cL_law 1145 = .ok (.iload 6, 2) := dk_21 6 (dk_at dksL_law_43 14 rfl rfl)
theorem dL_law_1147 : decode cL_law 1147 = .ok (.if_icmp .eq 5, 3) := dk_159 0 5 (dk_at dksL_law_43 16 rfl rfl)
theorem dL_law_1150 : decode cL_law 1150 = .ok (.iconst 0, 1) := dk_3 (dk_at dksL_law_43 19 rfl rfl)
theorem dL_law_1151 : decode cL_law 1151 = .ok (.ireturn, 1) := dk_172 (dk_at dksL_law_43 20 rfl rfl)
theorem dL_law_1152 : decode cL_law 1152 = .ok (.iload 6, 2) := dk_21 6 (dk_at dksL_law_43 21 rfl rfl)
theorem dL_law_1154 : decode cL_law 1154 = .ok (.ifCond .ne 15, 3) := dk_154 0 15 (dk_at dksL_law_44 0 rfl rfl)
theorem dL_law_1157 : decode cL_law 1157 = .ok (.aload_n 3, 1) := dk_45 (dk_at dksL_law_44 3 rfl rfl)
theorem dL_law_1158 : decode cL_law 1158 = .ok (.iconst 0, 1) := dk_3 (dk_at dksL_law_44 4 rfl rfl)
theorem dL_law_1159 : decode cL_law 1159 = .ok (.laload, 1) := dk_47 (dk_at dksL_law_44 5 rfl rfl)
theorem dL_law_1160 : decode cL_law 1160 = .ok (.iload 7, 2) := dk_21 7 (dk_at dksL_law_44 6 rfl rfl)
theorem dL_law_1162 : decode cL_law 1162 = .ok (.i2l, 1) := dk_133 (dk_at dksL_law_44 8 rfl rfl)
theorem dL_law_1163 : decode cL_law 1163 = .ok (.lcmp, 1) := dk_148 (dk_at dksL_law_44 9 rfl rfl)
theorem dL_law_1164 : decode cL_law 1164 = .ok (.ifCond .eq 5, 3) := dk_153 0 5 (dk_at dksL_law_44 10 rfl rfl)
theorem dL_law_1167 : decode cL_law 1167 = .ok (.iconst 0, 1) := dk_3 (dk_at dksL_law_44 13 rfl rfl)
theorem dL_law_1168 : decode cL_law 1168 = .ok (.ireturn, 1) := dk_172 (dk_at dksL_law_44 14 rfl rfl)
theorem dL_law_1169 : decode cL_law 1169 = .ok (.goto 1062, 3) := dk_167 4 38 (dk_at dksL_law_44 15 rfl rfl)
theorem dL_law_1172 : decode cL_law 1172 = .ok (.aload_n 1, 1) := dk_43 (dk_at dksL_law_44 18 rfl rfl)
theorem dL_law_1173 : decode cL_law 1173 = .ok (.aload_n 0, 1) := dk_42 (dk_at dksL_law_44 19 rfl rfl)
theorem dL_law_1174 : decode cL_law 1174 = .ok (.iload 5, 2) := dk_21 5 (dk_at dksL_law_44 20 rfl rfl)
theorem dL_law_1176 : decode cL_law 1176 = .ok (.iconst 1, 1) := dk_4 (dk_at dksL_law_44 22 rfl rfl)
theorem dL_law_1177 : decode cL_law 1177 = .ok (.iadd, 1) := dk_96 (dk_at dksL_law_44 23 rfl rfl)
theorem dL_law_1178 : decode cL_law 1178 = .ok (.iaload, 1) := dk_46 (dk_at dksL_law_45 0 rfl rfl)
theorem dL_law_1179 : decode cL_law 1179 = .ok (.aload_n 0, 1) := dk_42 (dk_at dksL_law_45 1 rfl rfl)
theorem dL_law_1180 : decode cL_law 1180 = .ok (.iload 5, 2) := dk_21 5 (dk_at dksL_law_45 2 rfl rfl)
theorem dL_law_1182 : decode cL_law 1182 = .ok (.iconst 2, 1) := dk_5 (dk_at dksL_law_45 4 rfl rfl)
theorem dL_law_1183 : decode cL_law 1183 = .ok (.iadd, 1) := dk_96 (dk_at dksL_law_45 5 rfl rfl)
theorem dL_law_1184 : decode cL_law 1184 = .ok (.iaload, 1) := dk_46 (dk_at dksL_law_45 6 rfl rfl)
theorem dL_law_1185 : decode cL_law 1185 = .ok (.aload_n 3, 1) := dk_45 (dk_at dksL_law_45 7 rfl rfl)
theorem dL_law_1186 : decode cL_law 1186 = .ok (.invokestatic 186, 3) := dk_184 0 186 (dk_at dksL_law_45 8 rfl rfl)
theorem dL_law_1189 : decode cL_law 1189 = .ok (.istore 6, 2) := dk_54 6 (dk_at dksL_law_45 11 rfl rfl)
theorem dL_law_1191 : decode cL_law 1191 = .ok (.aload_n 2, 1) := dk_44 (dk_at dksL_law_45 13 rfl rfl)
theorem dL_law_1192 : decode cL_law 1192 = .ok (.aload_n 0, 1) := dk_42 (dk_at dksL_law_45 14 rfl rfl)
theorem dL_law_1193 : decode cL_law 1193 = .ok (.iload 5, 2) := dk_21 5 (dk_at dksL_law_45 15 rfl rfl)
theorem dL_law_1195 : decode cL_law 1195 = .ok (.iconst 1, 1) := dk_4 (dk_at dksL_law_45 17 rfl rfl)
theorem dL_law_1196 : decode cL_law 1196 = .ok (.iadd, 1) := dk_96 (dk_at dksL_law_45 18 rfl rfl)
theorem dL_law_1197 : decode cL_law 1197 = .ok (.iaload, 1) := dk_46 (dk_at dksL_law_45 19 rfl rfl)
theorem dL_law_1198 : decode cL_law 1198 = .ok (.aload_n 0, 1) := dk_42 (dk_at dksL_law_45 20 rfl rfl)
theorem dL_law_1199 : decode cL_law 1199 = .ok (.iload 5, 2) := dk_21 5 (dk_at dksL_law_45 21 rfl rfl)
theorem dL_law_1201 : decode cL_law 1201 = .ok (.iconst 2, 1) := dk_5 (dk_at dksL_law_45 23 rfl rfl)
theorem dL_law_1202 : decode cL_law 1202 = .ok (.iadd, 1) := dk_96 (dk_at dksL_law_46 0 rfl rfl)
theorem dL_law_1203 : decode cL_law 1203 = .ok (.iaload, 1) := dk_46 (dk_at dksL_law_46 1 rfl rfl)
theorem dL_law_1204 : decode cL_law 1204 = .ok (.invokevirtual 188, 3) := dk_182 0 188 (dk_at dksL_law_46 2 rfl rfl)
theorem dL_law_1207 : decode cL_law 1207 = .ok (.istore 7, 2) := dk_54 7 (dk_at dksL_law_46 5 rfl rfl)
theorem dL_law_1209 : decode cL_law 1209 = .ok (.aload_n 2, 1) := dk_44 (dk_at dksL_law_46 7 rfl rfl)
theorem dL_law_1210 : decode cL_law 1210 = .ok (.invokevirtual 139, 3) := dk_182 0 139 (dk_at dksL_law_46 8 rfl rfl)
theorem dL_law_1213 : decode cL_law 1213 = .ok (.iload 6, 2) := dk_21 6 (dk_at dksL_law_46 11 rfl rfl)
theorem dL_law_1215 : decode cL_law 1215 = .ok (.if_icmp .eq 5, 3) := dk_159 0 5 (dk_at dksL_law_46 13 rfl rfl)
theorem dL_law_1218 : decode cL_law 1218 = .ok (.iconst 0, 1) := dk_3 (dk_at dksL_law_46 16 rfl rfl)
theorem dL_law_1219 : decode cL_law 1219 = .ok (.ireturn, 1) := dk_172 (dk_at dksL_law_46 17 rfl rfl)
theorem dL_law_1220 : decode cL_law 1220 = .ok (.iload 6, 2) := dk_21 6 (dk_at dksL_law_46 18 rfl rfl)
theorem dL_law_1222 : decode cL_law 1222 = .ok (.ifCond .ne 15, 3) := dk_154 0 15 (dk_at dksL_law_46 20 rfl rfl)
theorem dL_law_1225 : decode cL_law 1225 = .ok (.aload_n 3, 1) := dk_45 (dk_at dksL_law_46 23 rfl rfl)
theorem dL_law_1226 : decode cL_law 1226 = .ok (.iconst 0, 1) := dk_3 (dk_at dksL_law_47 0 rfl rfl)
theorem dL_law_1227 : decode cL_law 1227 = .ok (.laload, 1) := dk_47 (dk_at dksL_law_47 1 rfl rfl)
theorem dL_law_1228 : decode cL_law 1228 = .ok (.iload 7, 2) := dk_21 7 (dk_at dksL_law_47 2 rfl rfl)
theorem dL_law_1230 : decode cL_law 1230 = .ok (.i2l, 1) := dk_133 (dk_at dksL_law_47 4 rfl rfl)
theorem dL_law_1231 : decode cL_law 1231 = .ok (.lcmp, 1) := dk_148 (dk_at dksL_law_47 5 rfl rfl)
theorem dL_law_1232 : decode cL_law 1232 = .ok (.ifCond .eq 5, 3) := dk_153 0 5 (dk_at dksL_law_47 6 rfl rfl)
theorem dL_law_1235 : decode cL_law 1235 = .ok (.iconst 0, 1) := dk_3 (dk_at dksL_law_47 9 rfl rfl)
theorem dL_law_1236 : decode cL_law 1236 = .ok (.ireturn, 1) := dk_172 (dk_at dksL_law_47 10 rfl rfl)
theorem dL_law_1237 : decode cL_law 1237 = .ok (.goto 994, 3) := dk_167 3 226 (dk_at dksL_law_47 11 rfl rfl)
theorem dL_law_1240 : decode cL_law 1240 = .ok (.aload_n 1, 1) := dk_43 (dk_at dksL_law_47 14 rfl rfl)
theorem dL_law_1241 : decode cL_law 1241 = .ok (.aload_n 0, 1) := dk_42 (dk_at dksL_law_47 15 rfl rfl)
theorem dL_law_1242 : decode cL_law 1242 = .ok (.iload 5, 2) := dk_21 5 (dk_at dksL_law_47 16 rfl rfl)
theorem dL_law_1244 : decode cL_law 1244 = .ok (.iconst 1, 1) := dk_4 (dk_at dksL_law_47 18 rfl rfl)
theorem dL_law_1245 : decode cL_law 1245 = .ok (.iadd, 1) := dk_96 (dk_at dksL_law_47 19 rfl rfl)
theorem dL_law_1246 : decode cL_law 1246 = .ok (.iaload, 1) := dk_46 (dk_at dksL_law_47 20 rfl rfl)
theorem dL_law_1247 : decode cL_law 1247 = .ok (.aload_n 3, 1) := dk_45 (dk_at dksL_law_47 21 rfl rfl)
theorem dL_law_1248 : decode cL_law 1248 = .ok (.invokestatic 189, 3) := dk_184 0 189 (dk_at dksL_law_48 0 rfl rfl)
theorem dL_law_1251 : decode cL_law 1251 = .ok (.istore 6, 2) := dk_54 6 (dk_at dksL_law_48 3 rfl rfl)
theorem dL_law_1253 : decode cL_law 1253 = .ok (.aload_n 2, 1) := dk_44 (dk_at dksL_law_48 5 rfl rfl)
theorem dL_law_1254 : decode cL_law 1254 = .ok (.aload_n 0, 1) := dk_42 (dk_at dksL_law_48 6 rfl rfl)
theorem dL_law_1255 : decode cL_law 1255 = .ok (.iload 5, 2) := dk_21 5 (dk_at dksL_law_48 7 rfl rfl)
theorem dL_law_1257 : decode cL_law 1257 = .ok (.iconst 1, 1) := dk_4 (dk_at dksL_law_48 9 rfl rfl)
theorem dL_law_1258 : decode cL_law 1258 = .ok (.iadd, 1) := dk_96 (dk_at dksL_law_48 10 rfl rfl)
theorem dL_law_1259 : decode cL_law 1259 = .ok (.iaload, 1) := dk_46 (dk_at dksL_law_48 11 rfl rfl)
theorem dL_law_1260 : decode cL_law 1260 = .ok (.invokevirtual 191, 3) := dk_182 0 191 (dk_at dksL_law_48 12 rfl rfl)
theorem dL_law_1263 : decode cL_law 1263 = .ok (.istore 7, 2) := dk_54 7 (dk_at dksL_law_48 15 rfl rfl)
theorem dL_law_1265 : decode cL_law 1265 = .ok (.aload_n 2, 1) := dk_44 (dk_at dksL_law_48 17 rfl rfl)
theorem dL_law_1266 : decode cL_law 1266 = .ok (.invokevirtual 139, 3) := dk_182 0 139 (dk_at dksL_law_48 18 rfl rfl)
theorem dL_law_1269 : decode cL_law 1269 = .ok (.iload 6, 2) := dk_21 6 (dk_at dksL_law_48 21 rfl rfl)
theorem dL_law_1271 : decode cL_law 1271 = .ok (.if_icmp .eq 5, 3) := dk_159 0 5 (dk_at dksL_law_49 0 rfl rfl)
theorem dL_law_1274 : decode cL_law 1274 = .ok (.iconst 0, 1) := dk_3 (dk_at dksL_law_49 3 rfl rfl)
theorem dL_law_1275 : decode cL_law 1275 = .ok (.ireturn, 1) := dk_172 (dk_at dksL_law_49 4 rfl rfl)
theorem dL_law_1276 : decode cL_law 1276 = .ok (.iload 6, 2) := dk_21 6 (dk_at dksL_law_49 5 rfl rfl)
theorem dL_law_1278 : decode cL_law 1278 = .ok (.ifCond .ne 15, 3) := dk_154 0 15 (dk_at dksL_law_49 7 rfl rfl)
theorem dL_law_1281 : decode cL_law 1281 = .ok (.aload_n 3, 1) := dk_45 (dk_at dksL_law_49 10 rfl rfl)
theorem dL_law_1282 : decode cL_law 1282 = .ok (.iconst 0, 1) := dk_3 (dk_at dksL_law_49 11 rfl rfl)
theorem dL_law_1283 : decode cL_law 1283 = .ok (.laload, 1) := dk_47 (dk_at dksL_law_49 12 rfl rfl)
theorem dL_law_1284 : decode cL_law 1284 = .ok (.iload 7, 2) := dk_21 7 (dk_at dksL_law_49 13 rfl rfl)
theorem dL_law_1286 : decode cL_law 1286 = .ok (.i2l, 1) := dk_133 (dk_at dksL_law_49 15 rfl rfl)
theorem dL_law_1287 : decode cL_law 1287 = .ok (.lcmp, 1) := dk_148 (dk_at dksL_law_49 16 rfl rfl)
theorem dL_law_1288 : decode cL_law 1288 = .ok (.ifCond .eq 5, 3) := dk_153 0 5 (dk_at dksL_law_49 17 rfl rfl)
theorem dL_law_1291 : decode cL_law 1291 = .ok (.iconst 0, 1) := dk_3 (dk_at dksL_law_49 20 rfl rfl)
theorem dL_law_1292 : decode cL_law 1292 = .ok (.ireturn, 1) := dk_172 (dk_at dksL_law_49 21 rfl rfl)
theorem dL_law_1293 : decode cL_law 1293 = .ok (.goto 938, 3) := dk_167 3 170 (dk_at dksL_law_50 0 rfl rfl)
theorem dL_law_1296 : decode cL_law 1296 = .ok (.aload_n 1, 1) := dk_43 (dk_at dksL_law_50 3 rfl rfl)
theorem dL_law_1297 : decode cL_law 1297 = .ok (.aload_n 0, 1) := dk_42 (dk_at dksL_law_50 4 rfl rfl)
theorem dL_law_1298 : decode cL_law 1298 = .ok (.iload 5, 2) := dk_21 5 (dk_at dksL_law_50 5 rfl rfl)
theorem dL_law_1300 : decode cL_law 1300 = .ok (.iconst 1, 1) := dk_4 (dk_at dksL_law_50 7 rfl rfl)
theorem dL_law_1301 : decode cL_law 1301 = .ok (.iadd, 1) := dk_96 (dk_at dksL_law_50 8 rfl rfl)
theorem dL_law_1302 : decode cL_law 1302 = .ok (.iaload, 1) := dk_46 (dk_at dksL_law_50 9 rfl rfl)
theorem dL_law_1303 : decode cL_law 1303 = .ok (.aload_n 3, 1) := dk_45 (dk_at dksL_law_50 10 rfl rfl)
theorem dL_law_1304 : decode cL_law 1304 = .ok (.invokestatic 192, 3) := dk_184 0 192 (dk_at dksL_law_50 11 rfl rfl)
theorem dL_law_1307 : decode cL_law 1307 = .ok (.istore 6, 2) := dk_54 6 (dk_at dksL_law_50 14 rfl rfl)
theorem dL_law_1309 : decode cL_law 1309 = .ok (.aload_n 2, 1) := dk_44 (dk_at dksL_law_50 16 rfl rfl)
theorem dL_law_1310 : decode cL_law 1310 = .ok (.aload_n 0, 1) := dk_42 (dk_at dksL_law_50 17 rfl rfl)
theorem dL_law_1311 : decode cL_law 1311 = .ok (.iload 5, 2) := dk_21 5 (dk_at dksL_law_50 18 rfl rfl)
theorem dL_law_1313 : decode cL_law 1313 = .ok (.iconst 1, 1) := dk_4 (dk_at dksL_law_50 20 rfl rfl)
theorem dL_law_1314 : decode cL_law 1314 = .ok (.iadd, 1) := dk_96 (dk_at dksL_law_50 21 rfl rfl)
theorem dL_law_1315 : decode cL_law 1315 = .ok (.iaload, 1) := dk_46 (dk_at dksL_law_50 22 rfl rfl)
theorem dL_law_1316 : decode cL_law 1316 = .ok (.invokevirtual 194, 3) := dk_182 0 194 (dk_at dksL_law_51 0 rfl rfl)
theorem dL_law_1319 : decode cL_law 1319 = .ok (.istore 7, 2) := dk_54 7 (dk_at dksL_law_51 3 rfl rfl)
theorem dL_law_1321 : decode cL_law 1321 = .ok (.aload_n 2, 1) := dk_44 (dk_at dksL_law_51 5 rfl rfl)
theorem dL_law_1322 : decode cL_law 1322 = .ok (.invokevirtual 139, 3) := dk_182 0 139 (dk_at dksL_law_51 6 rfl rfl)
theorem dL_law_1325 : decode cL_law 1325 = .ok (.iload 6, 2) := dk_21 6 (dk_at dksL_law_51 9 rfl rfl)
theorem dL_law_1327 : decode cL_law 1327 = .ok (.if_icmp .eq 5, 3) := dk_159 0 5 (dk_at dksL_law_51 11 rfl rfl)
theorem dL_law_1330 : decode cL_law 1330 = .ok (.iconst 0, 1) := dk_3 (dk_at dksL_law_51 14 rfl rfl)
theorem dL_law_1331 : decode cL_law 1331 = .ok (.ireturn, 1) := dk_172 (dk_at dksL_law_51 15 rfl rfl)
theorem dL_law_1332 : decode cL_law 1332 = .ok (.iload 6, 2) := dk_21 6 (dk_at dksL_law_51 16 rfl rfl)
theorem dL_law_1334 : decode cL_law 1334 = .ok (.ifCond .ne 15, 3) := dk_154 0 15 (dk_at dksL_law_51 18 rfl rfl)
theorem dL_law_1337 : decode cL_law 1337 = .ok (.aload_n 3, 1) := dk_45 (dk_at dksL_law_51 21 rfl rfl)
theorem dL_law_1338 : decode cL_law 1338 = .ok (.iconst 0, 1) := dk_3 (dk_at dksL_law_51 22 rfl rfl)
theorem dL_law_1339 : decode cL_law 1339 = .ok (.laload, 1) := dk_47 (dk_at dksL_law_51 23 rfl rfl)
theorem dL_law_1340 : decode cL_law 1340 = .ok (.iload 7, 2) := dk_21 7 (dk_at dksL_law_52 0 rfl rfl)
theorem dL_law_1342 : decode cL_law 1342 = .ok (.i2l, 1) := dk_133 (dk_at dksL_law_52 2 rfl rfl)
theorem dL_law_1343 : decode cL_law 1343 = .ok (.lcmp, 1) := dk_148 (dk_at dksL_law_52 3 rfl rfl)
theorem dL_law_1344 : decode cL_law 1344 = .ok (.ifCond .eq 5, 3) := dk_153 0 5 (dk_at dksL_law_52 4 rfl rfl)
theorem dL_law_1347 : decode cL_law 1347 = .ok (.iconst 0, 1) := dk_3 (dk_at dksL_law_52 7 rfl rfl)
theorem dL_law_1348 : decode cL_law 1348 = .ok (.ireturn, 1) := dk_172 (dk_at dksL_law_52 8 rfl rfl)
theorem dL_law_1349 : decode cL_law 1349 = .ok (.goto 882, 3) := dk_167 3 114 (dk_at dksL_law_52 9 rfl rfl)
theorem dL_law_1352 : decode cL_law 1352 = .ok (.aload_n 1, 1) := dk_43 (dk_at dksL_law_52 12 rfl rfl)
theorem dL_law_1353 : decode cL_law 1353 = .ok (.aload_n 0, 1) := dk_42 (dk_at dksL_law_52 13 rfl rfl)
theorem dL_law_1354 : decode cL_law 1354 = .ok (.iload 5, 2) := dk_21 5 (dk_at dksL_law_52 14 rfl rfl)
theorem dL_law_1356 : decode cL_law 1356 = .ok (.iconst 1, 1) := dk_4 (dk_at dksL_law_52 16 rfl rfl)
theorem dL_law_1357 : decode cL_law 1357 = .ok (.iadd, 1) := dk_96 (dk_at dksL_law_52 17 rfl rfl)
theorem dL_law_1358 : decode cL_law 1358 = .ok (.iaload, 1) := dk_46 (dk_at dksL_law_52 18 rfl rfl)
theorem dL_law_1359 : decode cL_law 1359 = .ok (.aload_n 3, 1) := dk_45 (dk_at dksL_law_52 19 rfl rfl)
theorem dL_law_1360 : decode cL_law 1360 = .ok (.invokestatic 195, 3) := dk_184 0 195 (dk_at dksL_law_52 20 rfl rfl)
theorem dL_law_1363 : decode cL_law 1363 = .ok (.istore 6, 2) := dk_54 6 (dk_at dksL_law_53 0 rfl rfl)
theorem dL_law_1365 : decode cL_law 1365 = .ok (.aload_n 2, 1) := dk_44 (dk_at dksL_law_53 2 rfl rfl)
theorem dL_law_1366 : decode cL_law 1366 = .ok (.aload_n 0, 1) := dk_42 (dk_at dksL_law_53 3 rfl rfl)
theorem dL_law_1367 : decode cL_law 1367 = .ok (.iload 5, 2) := dk_21 5 (dk_at dksL_law_53 4 rfl rfl)
theorem dL_law_1369 : decode cL_law 1369 = .ok (.iconst 1, 1) := dk_4 (dk_at dksL_law_53 6 rfl rfl)
theorem dL_law_1370 : decode cL_law 1370 = .ok (.iadd, 1) := dk_96 (dk_at dksL_law_53 7 rfl rfl)
theorem dL_law_1371 : decode cL_law 1371 = .ok (.iaload, 1) := dk_46 (dk_at dksL_law_53 8 rfl rfl)
theorem dL_law_1372 : decode cL_law 1372 = .ok (.invokevirtual 197, 3) := dk_182 0 197 (dk_at dksL_law_53 9 rfl rfl)
theorem dL_law_1375 : decode cL_law 1375 = .ok (.istore 7, 2) := dk_54 7 (dk_at dksL_law_53 12 rfl rfl)
theorem dL_law_1377 : decode cL_law 1377 = .ok (.aload_n 2, 1) := dk_44 (dk_at dksL_law_53 14 rfl rfl)
theorem dL_law_1378 : decode cL_law 1378 = .ok (.invokevirtual 139, 3) := dk_182 0 139 (dk_at dksL_law_53 15 rfl rfl)
theorem dL_law_1381 : decode cL_law 1381 = .ok (.iload 6, 2) := dk_21 6 (dk_at dksL_law_53 18 rfl rfl)
theorem dL_law_1383 : decode cL_law 1383 = .ok (.if_icmp .eq 5, 3) := dk_159 0 5 (dk_at dksL_law_53 20 rfl rfl)
theorem dL_law_1386 : decode cL_law 1386 = .ok (.iconst 0, 1) := dk_3 (dk_at dksL_law_53 23 rfl rfl)
theorem dL_law_1387 : decode cL_law 1387 = .ok (.ireturn, 1) := dk_172 (dk_at dksL_law_54 0 rfl rfl)
theorem dL_law_1388 : decode cL_law 1388 = .ok (.iload 6, 2) := dk_21 6 (dk_at dksL_law_54 1 rfl rfl)
theorem dL_law_1390 : decode cL_law 1390 = .ok (.ifCond .ne 15, 3) := dk_154 0 15 (dk_at dksL_law_54 3 rfl rfl)
theorem dL_law_1393 : decode cL_law 1393 = .ok (.aload_n 3, 1) := dk_45 (dk_at dksL_law_54 6 rfl rfl)
theorem dL_law_1394 : decode cL_law 1394 = .ok (.iconst 0, 1) := dk_3 (dk_at dksL_law_54 7 rfl rfl)
theorem dL_law_1395 : decode cL_law 1395 = .ok (.laload, 1) := dk_47 (dk_at dksL_law_54 8 rfl rfl)
theorem dL_law_1396 : decode cL_law 1396 = .ok (.iload 7, 2) := dk_21 7 (dk_at dksL_law_54 9 rfl rfl)
theorem dL_law_1398 : decode cL_law 1398 = .ok (.i2l, 1) := dk_133 (dk_at dksL_law_54 11 rfl rfl)
theorem dL_law_1399 : decode cL_law 1399 = .ok (.lcmp, 1) := dk_148 (dk_at dksL_law_54 12 rfl rfl)
theorem dL_law_1400 : decode cL_law 1400 = .ok (.ifCond .eq 5, 3) := dk_153 0 5 (dk_at dksL_law_54 13 rfl rfl)
theorem dL_law_1403 : decode cL_law 1403 = .ok (.iconst 0, 1) := dk_3 (dk_at dksL_law_54 16 rfl rfl)
theorem dL_law_1404 : decode cL_law 1404 = .ok (.ireturn, 1) := dk_172 (dk_at dksL_law_54 17 rfl rfl)
theorem dL_law_1405 : decode cL_law 1405 = .ok (.goto 826, 3) := dk_167 3 58 (dk_at dksL_law_54 18 rfl rfl)
theorem dL_law_1408 : decode cL_law 1408 = .ok (.aload_n 1, 1) := dk_43 (dk_at dksL_law_54 21 rfl rfl)
theorem dL_law_1409 : decode cL_law 1409 = .ok (.aload_n 0, 1) := dk_42 (dk_at dksL_law_54 22 rfl rfl)
theorem dL_law_1410 : decode cL_law 1410 = .ok (.iload 5, 2) := dk_21 5 (dk_at dksL_law_55 0 rfl rfl)
theorem dL_law_1412 : decode cL_law 1412 = .ok (.iconst 1, 1) := dk_4 (dk_at dksL_law_55 2 rfl rfl)
theorem dL_law_1413 : decode cL_law 1413 = .ok (.iadd, 1) := dk_96 (dk_at dksL_law_55 3 rfl rfl)
theorem dL_law_1414 : decode cL_law 1414 = .ok (.iaload, 1) := dk_46 (dk_at dksL_law_55 4 rfl rfl)
theorem dL_law_1415 : decode cL_law 1415 = .ok (.aload_n 3, 1) := dk_45 (dk_at dksL_law_55 5 rfl rfl)
theorem dL_law_1416 : decode cL_law 1416 = .ok (.invokestatic 198, 3) := dk_184 0 198 (dk_at dksL_law_55 6 rfl rfl)
theorem dL_law_1419 : decode cL_law 1419 = .ok (.istore 6, 2) := dk_54 6 (dk_at dksL_law_55 9 rfl rfl)
theorem dL_law_1421 : decode cL_law 1421 = .ok (.aload_n 2, 1) := dk_44 (dk_at dksL_law_55 11 rfl rfl)
theorem dL_law_1422 : decode cL_law 1422 = .ok (.aload_n 0, 1) := dk_42 (dk_at dksL_law_55 12 rfl rfl)
theorem dL_law_1423 : decode cL_law 1423 = .ok (.iload 5, 2) := dk_21 5 (dk_at dksL_law_55 13 rfl rfl)
theorem dL_law_1425 : decode cL_law 1425 = .ok (.iconst 1, 1) := dk_4 (dk_at dksL_law_55 15 rfl rfl)
theorem dL_law_1426 : decode cL_law 1426 = .ok (.iadd, 1) := dk_96 (dk_at dksL_law_55 16 rfl rfl)
theorem dL_law_1427 : decode cL_law 1427 = .ok (.iaload, 1) := dk_46 (dk_at dksL_law_55 17 rfl rfl)
theorem dL_law_1428 : decode cL_law 1428 = .ok (.invokevirtual 200, 3) := dk_182 0 200 (dk_at dksL_law_55 18 rfl rfl)
theorem dL_law_1431 : decode cL_law 1431 = .ok (.istore 7, 2) := dk_54 7 (dk_at dksL_law_55 21 rfl rfl)
theorem dL_law_1433 : decode cL_law 1433 = .ok (.aload_n 2, 1) := dk_44 (dk_at dksL_law_55 23 rfl rfl)
theorem dL_law_1434 : decode cL_law 1434 = .ok (.invokevirtual 139, 3) := dk_182 0 139 (dk_at dksL_law_56 0 rfl rfl)
theorem dL_law_1437 : decode cL_law 1437 = .ok (.iload 6, 2) := dk_21 6 (dk_at dksL_law_56 3 rfl rfl)
theorem dL_law_1439 : decode cL_law 1439 = .ok (.if_icmp .eq 5, 3) := dk_159 0 5 (dk_at dksL_law_56 5 rfl rfl)
theorem dL_law_1442 : decode cL_law 1442 = .ok (.iconst 0, 1) := dk_3 (dk_at dksL_law_56 8 rfl rfl)
theorem dL_law_1443 : decode cL_law 1443 = .ok (.ireturn, 1) := dk_172 (dk_at dksL_law_56 9 rfl rfl)
theorem dL_law_1444 : decode cL_law 1444 = .ok (.iload 6, 2) := dk_21 6 (dk_at dksL_law_56 10 rfl rfl)
theorem dL_law_1446 : decode cL_law 1446 = .ok (.ifCond .ne 15, 3) := dk_154 0 15 (dk_at dksL_law_56 12 rfl rfl)
theorem dL_law_1449 : decode cL_law 1449 = .ok (.aload_n 3, 1) := dk_45 (dk_at dksL_law_56 15 rfl rfl)
theorem dL_law_1450 : decode cL_law 1450 = .ok (.iconst 0, 1) := dk_3 (dk_at dksL_law_56 16 rfl rfl)
theorem dL_law_1451 : decode cL_law 1451 = .ok (.laload, 1) := dk_47 (dk_at dksL_law_56 17 rfl rfl)
theorem dL_law_1452 : decode cL_law 1452 = .ok (.iload 7, 2) := dk_21 7 (dk_at dksL_law_56 18 rfl rfl)
theorem dL_law_1454 : decode cL_law 1454 = .ok (.i2l, 1) := dk_133 (dk_at dksL_law_56 20 rfl rfl)
theorem dL_law_1455 : decode cL_law 1455 = .ok (.lcmp, 1) := dk_148 (dk_at dksL_law_56 21 rfl rfl)
theorem dL_law_1456 : decode cL_law 1456 = .ok (.ifCond .eq 5, 3) := dk_153 0 5 (dk_at dksL_law_57 0 rfl rfl)
theorem dL_law_1459 : decode cL_law 1459 = .ok (.iconst 0, 1) := dk_3 (dk_at dksL_law_57 3 rfl rfl)
theorem dL_law_1460 : decode cL_law 1460 = .ok (.ireturn, 1) := dk_172 (dk_at dksL_law_57 4 rfl rfl)
theorem dL_law_1461 : decode cL_law 1461 = .ok (.goto 770, 3) := dk_167 3 2 (dk_at dksL_law_57 5 rfl rfl)
theorem dL_law_1464 : decode cL_law 1464 = .ok (.aload_n 1, 1) := dk_43 (dk_at dksL_law_57 8 rfl rfl)
theorem dL_law_1465 : decode cL_law 1465 = .ok (.aload_n 0, 1) := dk_42 (dk_at dksL_law_57 9 rfl rfl)
theorem dL_law_1466 : decode cL_law 1466 = .ok (.iload 5, 2) := dk_21 5 (dk_at dksL_law_57 10 rfl rfl)
theorem dL_law_1468 : decode cL_law 1468 = .ok (.iconst 1, 1) := dk_4 (dk_at dksL_law_57 12 rfl rfl)
theorem dL_law_1469 : decode cL_law 1469 = .ok (.iadd, 1) := dk_96 (dk_at dksL_law_57 13 rfl rfl)
theorem dL_law_1470 : decode cL_law 1470 = .ok (.iaload, 1) := dk_46 (dk_at dksL_law_57 14 rfl rfl)
theorem dL_law_1471 : decode cL_law 1471 = .ok (.aload_n 3, 1) := dk_45 (dk_at dksL_law_57 15 rfl rfl)
theorem dL_law_1472 : decode cL_law 1472 = .ok (.invokestatic 201, 3) := dk_184 0 201 (dk_at dksL_law_57 16 rfl rfl)
theorem dL_law_1475 : decode cL_law 1475 = .ok (.istore 6, 2) := dk_54 6 (dk_at dksL_law_57 19 rfl rfl)
theorem dL_law_1477 : decode cL_law 1477 = .ok (.aload_n 2, 1) := dk_44 (dk_at dksL_law_57 21 rfl rfl)
theorem dL_law_1478 : decode cL_law 1478 = .ok (.aload_n 0, 1) := dk_42 (dk_at dksL_law_57 22 rfl rfl)
theorem dL_law_1479 : decode cL_law 1479 = .ok (.iload 5, 2) := dk_21 5 (dk_at dksL_law_58 0 rfl rfl)
theorem dL_law_1481 : decode cL_law 1481 = .ok (.iconst 1, 1) := dk_4 (dk_at dksL_law_58 2 rfl rfl)
theorem dL_law_1482 : decode cL_law 1482 = .ok (.iadd, 1) := dk_96 (dk_at dksL_law_58 3 rfl rfl)
theorem dL_law_1483 : decode cL_law 1483 = .ok (.iaload, 1) := dk_46 (dk_at dksL_law_58 4 rfl rfl)
theorem dL_law_1484 : decode cL_law 1484 = .ok (.invokevirtual 203, 3) := dk_182 0 203 (dk_at dksL_law_58 5 rfl rfl)
theorem dL_law_1487 : decode cL_law 1487 = .ok (.istore 7, 2) := dk_54 7 (dk_at dksL_law_58 8 rfl rfl)
theorem dL_law_1489 : decode cL_law 1489 = .ok (.aload_n 2, 1) := dk_44 (dk_at dksL_law_58 10 rfl rfl)
theorem dL_law_1490 : decode cL_law 1490 = .ok (.invokevirtual 139, 3) := dk_182 0 139 (dk_at dksL_law_58 11 rfl rfl)
theorem dL_law_1493 : decode cL_law 1493 = .ok (.iload 6, 2) := dk_21 6 (dk_at dksL_law_58 14 rfl rfl)
theorem dL_law_1495 : decode cL_law 1495 = .ok (.if_icmp .eq 5, 3) := dk_159 0 5 (dk_at dksL_law_58 16 rfl rfl)
theorem dL_law_1498 : decode cL_law 1498 = .ok (.iconst 0, 1) := dk_3 (dk_at dksL_law_58 19 rfl rfl)
theorem dL_law_1499 : decode cL_law 1499 = .ok (.ireturn, 1) := dk_172 (dk_at dksL_law_58 20 rfl rfl)
theorem dL_law_1500 : decode cL_law 1500 = .ok (.iload 6, 2) := dk_21 6 (dk_at dksL_law_58 21 rfl rfl)
theorem dL_law_1502 : decode cL_law 1502 = .ok (.ifCond .ne 15, 3) := dk_154 0 15 (dk_at dksL_law_59 0 rfl rfl)
theorem dL_law_1505 : decode cL_law 1505 = .ok (.aload_n 3, 1) := dk_45 (dk_at dksL_law_59 3 rfl rfl)
theorem dL_law_1506 : decode cL_law 1506 = .ok (.iconst 0, 1) := dk_3 (dk_at dksL_law_59 4 rfl rfl)
theorem dL_law_1507 : decode cL_law 1507 = .ok (.laload, 1) := dk_47 (dk_at dksL_law_59 5 rfl rfl)
theorem dL_law_1508 : decode cL_law 1508 = .ok (.iload 7, 2) := dk_21 7 (dk_at dksL_law_59 6 rfl rfl)
theorem dL_law_1510 : decode cL_law 1510 = .ok (.i2l, 1) := dk_133 (dk_at dksL_law_59 8 rfl rfl)
theorem dL_law_1511 : decode cL_law 1511 = .ok (.lcmp, 1) := dk_148 (dk_at dksL_law_59 9 rfl rfl)
theorem dL_law_1512 : decode cL_law 1512 = .ok (.ifCond .eq 5, 3) := dk_153 0 5 (dk_at dksL_law_59 10 rfl rfl)
theorem dL_law_1515 : decode cL_law 1515 = .ok (.iconst 0, 1) := dk_3 (dk_at dksL_law_59 13 rfl rfl)
theorem dL_law_1516 : decode cL_law 1516 = .ok (.ireturn, 1) := dk_172 (dk_at dksL_law_59 14 rfl rfl)
theorem dL_law_1517 : decode cL_law 1517 = .ok (.goto 714, 3) := dk_167 2 202 (dk_at dksL_law_59 15 rfl rfl)
theorem dL_law_1520 : decode cL_law 1520 = .ok (.aload_n 1, 1) := dk_43 (dk_at dksL_law_59 18 rfl rfl)
theorem dL_law_1521 : decode cL_law 1521 = .ok (.aload_n 0, 1) := dk_42 (dk_at dksL_law_59 19 rfl rfl)
theorem dL_law_1522 : decode cL_law 1522 = .ok (.iload 5, 2) := dk_21 5 (dk_at dksL_law_59 20 rfl rfl)
theorem dL_law_1524 : decode cL_law 1524 = .ok (.iconst 1, 1) := dk_4 (dk_at dksL_law_59 22 rfl rfl)
theorem dL_law_1525 : decode cL_law 1525 = .ok (.iadd, 1) := dk_96 (dk_at dksL_law_59 23 rfl rfl)
theorem dL_law_1526 : decode cL_law 1526 = .ok (.iaload, 1) := dk_46 (dk_at dksL_law_60 0 rfl rfl)
theorem dL_law_1527 : decode cL_law 1527 = .ok (.aload_n 0, 1) := dk_42 (dk_at dksL_law_60 1 rfl rfl)
theorem dL_law_1528 : decode cL_law 1528 = .ok (.iload 5, 2) := dk_21 5 (dk_at dksL_law_60 2 rfl rfl)
theorem dL_law_1530 : decode cL_law 1530 = .ok (.iconst 2, 1) := dk_5 (dk_at dksL_law_60 4 rfl rfl)
theorem dL_law_1531 : decode cL_law 1531 = .ok (.iadd, 1) := dk_96 (dk_at dksL_law_60 5 rfl rfl)
theorem dL_law_1532 : decode cL_law 1532 = .ok (.iaload, 1) := dk_46 (dk_at dksL_law_60 6 rfl rfl)
theorem dL_law_1533 : decode cL_law 1533 = .ok (.aload_n 3, 1) := dk_45 (dk_at dksL_law_60 7 rfl rfl)
theorem dL_law_1534 : decode cL_law 1534 = .ok (.invokestatic 204, 3) := dk_184 0 204 (dk_at dksL_law_60 8 rfl rfl)
theorem dL_law_1537 : decode cL_law 1537 = .ok (.istore 6, 2) := dk_54 6 (dk_at dksL_law_60 11 rfl rfl)
theorem dL_law_1539 : decode cL_law 1539 = .ok (.aload_n 2, 1) := dk_44 (dk_at dksL_law_60 13 rfl rfl)
theorem dL_law_1540 : decode cL_law 1540 = .ok (.aload_n 0, 1) := dk_42 (dk_at dksL_law_60 14 rfl rfl)
theorem dL_law_1541 : decode cL_law 1541 = .ok (.iload 5, 2) := dk_21 5 (dk_at dksL_law_60 15 rfl rfl)
theorem dL_law_1543 : decode cL_law 1543 = .ok (.iconst 1, 1) := dk_4 (dk_at dksL_law_60 17 rfl rfl)
theorem dL_law_1544 : decode cL_law 1544 = .ok (.iadd, 1) := dk_96 (dk_at dksL_law_60 18 rfl rfl)
theorem dL_law_1545 : decode cL_law 1545 = .ok (.iaload, 1) := dk_46 (dk_at dksL_law_60 19 rfl rfl)
theorem dL_law_1546 : decode cL_law 1546 = .ok (.aload_n 0, 1) := dk_42 (dk_at dksL_law_60 20 rfl rfl)
theorem dL_law_1547 : decode cL_law 1547 = .ok (.iload 5, 2) := dk_21 5 (dk_at dksL_law_60 21 rfl rfl)
theorem dL_law_1549 : decode cL_law 1549 = .ok (.iconst 2, 1) := dk_5 (dk_at dksL_law_60 23 rfl rfl)
theorem dL_law_1550 : decode cL_law 1550 = .ok (.iadd, 1) := dk_96 (dk_at dksL_law_61 0 rfl rfl)
theorem dL_law_1551 : decode cL_law 1551 = .ok (.iaload, 1) := dk_46 (dk_at dksL_law_61 1 rfl rfl)
theorem dL_law_1552 : decode cL_law 1552 = .ok (.invokevirtual 206, 3) := dk_182 0 206 (dk_at dksL_law_61 2 rfl rfl)
theorem dL_law_1555 : decode cL_law 1555 = .ok (.istore 7, 2) := dk_54 7 (dk_at dksL_law_61 5 rfl rfl)
theorem dL_law_1557 : decode cL_law 1557 = .ok (.aload_n 2, 1) := dk_44 (dk_at dksL_law_61 7 rfl rfl)
theorem dL_law_1558 : decode cL_law 1558 = .ok (.invokevirtual 139, 3) := dk_182 0 139 (dk_at dksL_law_61 8 rfl rfl)
theorem dL_law_1561 : decode cL_law 1561 = .ok (.iload 6, 2) := dk_21 6 (dk_at dksL_law_61 11 rfl rfl)
theorem dL_law_1563 : decode cL_law 1563 = .ok (.if_icmp .eq 5, 3) := dk_159 0 5 (dk_at dksL_law_61 13 rfl rfl)
theorem dL_law_1566 : decode cL_law 1566 = .ok (.iconst 0, 1) := dk_3 (dk_at dksL_law_61 16 rfl rfl)
theorem dL_law_1567 : decode cL_law 1567 = .ok (.ireturn, 1) := dk_172 (dk_at dksL_law_61 17 rfl rfl)
theorem dL_law_1568 : decode cL_law 1568 = .ok (.iload 6, 2) := dk_21 6 (dk_at dksL_law_61 18 rfl rfl)
theorem dL_law_1570 : decode cL_law 1570 = .ok (.ifCond .ne 15, 3) := dk_154 0 15 (dk_at dksL_law_61 20 rfl rfl)
theorem dL_law_1573 : decode cL_law 1573 = .ok (.aload_n 3, 1) := dk_45 (dk_at dksL_law_61 23 rfl rfl)
theorem dL_law_1574 : decode cL_law 1574 = .ok (.iconst 0, 1) := dk_3 (dk_at dksL_law_62 0 rfl rfl)
theorem dL_law_1575 : decode cL_law 1575 = .ok (.laload, 1) := dk_47 (dk_at dksL_law_62 1 rfl rfl)
theorem dL_law_1576 : decode cL_law 1576 = .ok (.iload 7, 2) := dk_21 7 (dk_at dksL_law_62 2 rfl rfl)
theorem dL_law_1578 : decode cL_law 1578 = .ok (.i2l, 1) := dk_133 (dk_at dksL_law_62 4 rfl rfl)
theorem dL_law_1579 : decode cL_law 1579 = .ok (.lcmp, 1) := dk_148 (dk_at dksL_law_62 5 rfl rfl)
theorem dL_law_1580 : decode cL_law 1580 = .ok (.ifCond .eq 5, 3) := dk_153 0 5 (dk_at dksL_law_62 6 rfl rfl)
theorem dL_law_1583 : decode cL_law 1583 = .ok (.iconst 0, 1) := dk_3 (dk_at dksL_law_62 9 rfl rfl)
theorem dL_law_1584 : decode cL_law 1584 = .ok (.ireturn, 1) := dk_172 (dk_at dksL_law_62 10 rfl rfl)
theorem dL_law_1585 : decode cL_law 1585 = .ok (.goto 646, 3) := dk_167 2 134 (dk_at dksL_law_62 11 rfl rfl)
theorem dL_law_1588 : decode cL_law 1588 = .ok (.aload_n 1, 1) := dk_43 (dk_at dksL_law_62 14 rfl rfl)
theorem dL_law_1589 : decode cL_law 1589 = .ok (.aload_n 0, 1) := dk_42 (dk_at dksL_law_62 15 rfl rfl)
theorem dL_law_1590 : decode cL_law 1590 = .ok (.iload 5, 2) := dk_21 5 (dk_at dksL_law_62 16 rfl rfl)
theorem dL_law_1592 : decode cL_law 1592 = .ok (.iconst 1, 1) := dk_4 (dk_at dksL_law_62 18 rfl rfl)
theorem dL_law_1593 : decode cL_law 1593 = .ok (.iadd, 1) := dk_96 (dk_at dksL_law_62 19 rfl rfl)
theorem dL_law_1594 : decode cL_law 1594 = .ok (.iaload, 1) := dk_46 (dk_at dksL_law_62 20 rfl rfl)
theorem dL_law_1595 : decode cL_law 1595 = .ok (.i2c, 1) := dk_146 (dk_at dksL_law_62 21 rfl rfl)
theorem dL_law_1596 : decode cL_law 1596 = .ok (.aload_n 3, 1) := dk_45 (dk_at dksL_law_62 22 rfl rfl)
theorem dL_law_1597 : decode cL_law 1597 = .ok (.invokestatic 207, 3) := dk_184 0 207 (dk_at dksL_law_63 0 rfl rfl)
theorem dL_law_1600 : decode cL_law 1600 = .ok (.istore 6, 2) := dk_54 6 (dk_at dksL_law_63 3 rfl rfl)
theorem dL_law_1602 : decode cL_law 1602 = .ok (.aload_n 2, 1) := dk_44 (dk_at dksL_law_63 5 rfl rfl)
theorem dL_law_1603 : decode cL_law 1603 = .ok (.aload_n 0, 1) := dk_42 (dk_at dksL_law_63 6 rfl rfl)
theorem dL_law_1604 : decode cL_law 1604 = .ok (.iload 5, 2) := dk_21 5 (dk_at dksL_law_63 7 rfl rfl)
theorem dL_law_1606 : decode cL_law 1606 = .ok (.iconst 1, 1) := dk_4 (dk_at dksL_law_63 9 rfl rfl)
theorem dL_law_1607 : decode cL_law 1607 = .ok (.iadd, 1) := dk_96 (dk_at dksL_law_63 10 rfl rfl)
theorem dL_law_1608 : decode cL_law 1608 = .ok (.iaload, 1) := dk_46 (dk_at dksL_law_63 11 rfl rfl)
theorem dL_law_1609 : decode cL_law 1609 = .ok (.i2c, 1) := dk_146 (dk_at dksL_law_63 12 rfl rfl)
theorem dL_law_1610 : decode cL_law 1610 = .ok (.invokevirtual 210, 3) := dk_182 0 210 (dk_at dksL_law_63 13 rfl rfl)
theorem dL_law_1613 : decode cL_law 1613 = .ok (.istore 7, 2) := dk_54 7 (dk_at dksL_law_63 16 rfl rfl)
theorem dL_law_1615 : decode cL_law 1615 = .ok (.aload_n 2, 1) := dk_44 (dk_at dksL_law_63 18 rfl rfl)
theorem dL_law_1616 : decode cL_law 1616 = .ok (.invokevirtual 139, 3) := dk_182 0 139 (dk_at dksL_law_63 19 rfl rfl)
theorem dL_law_1619 : decode cL_law 1619 = .ok (.iload 6, 2) := dk_21 6 (dk_at dksL_law_63 22 rfl rfl)
theorem dL_law_1621 : decode cL_law 1621 = .ok (.if_icmp .eq 5, 3) := dk_159 0 5 (dk_at dksL_law_64 0 rfl rfl)
theorem dL_law_1624 : decode cL_law 1624 = .ok (.iconst 0, 1) := dk_3 (dk_at dksL_law_64 3 rfl rfl)
theorem dL_law_1625 : decode cL_law 1625 = .ok (.ireturn, 1) := dk_172 (dk_at dksL_law_64 4 rfl rfl)
theorem dL_law_1626 : decode cL_law 1626 = .ok (.iload 6, 2) := dk_21 6 (dk_at dksL_law_64 5 rfl rfl)
theorem dL_law_1628 : decode cL_law 1628 = .ok (.ifCond .ne 15, 3) := dk_154 0 15 (dk_at dksL_law_64 7 rfl rfl)
theorem dL_law_1631 : decode cL_law 1631 = .ok (.aload_n 3, 1) := dk_45 (dk_at dksL_law_64 10 rfl rfl)
theorem dL_law_1632 : decode cL_law 1632 = .ok (.iconst 0, 1) := dk_3 (dk_at dksL_law_64 11 rfl rfl)
theorem dL_law_1633 : decode cL_law 1633 = .ok (.laload, 1) := dk_47 (dk_at dksL_law_64 12 rfl rfl)
theorem dL_law_1634 : decode cL_law 1634 = .ok (.iload 7, 2) := dk_21 7 (dk_at dksL_law_64 13 rfl rfl)
theorem dL_law_1636 : decode cL_law 1636 = .ok (.i2l, 1) := dk_133 (dk_at dksL_law_64 15 rfl rfl)
theorem dL_law_1637 : decode cL_law 1637 = .ok (.lcmp, 1) := dk_148 (dk_at dksL_law_64 16 rfl rfl)
theorem dL_law_1638 : decode cL_law 1638 = .ok (.ifCond .eq 5, 3) := dk_153 0 5 (dk_at dksL_law_64 17 rfl rfl)
theorem dL_law_1641 : decode cL_law 1641 = .ok (.iconst 0, 1) := dk_3 (dk_at dksL_law_64 20 rfl rfl)
theorem dL_law_1642 : decode cL_law 1642 = .ok (.ireturn, 1) := dk_172 (dk_at dksL_law_64 21 rfl rfl)
theorem dL_law_1643 : decode cL_law 1643 = .ok (.goto 588, 3) := dk_167 2 76 (dk_at dksL_law_65 0 rfl rfl)
theorem dL_law_1646 : decode cL_law 1646 = .ok (.aload_n 1, 1) := dk_43 (dk_at dksL_law_65 3 rfl rfl)
theorem dL_law_1647 : decode cL_law 1647 = .ok (.aload_n 3, 1) := dk_45 (dk_at dksL_law_65 4 rfl rfl)
theorem dL_law_1648 : decode cL_law 1648 = .ok (.invokestatic 211, 3) := dk_184 0 211 (dk_at dksL_law_65 5 rfl rfl)
theorem dL_law_1651 : decode cL_law 1651 = .ok (.istore 6, 2) := dk_54 6 (dk_at dksL_law_65 8 rfl rfl)
theorem dL_law_1653 : decode cL_law 1653 = .ok (.aload_n 2, 1) := dk_44 (dk_at dksL_law_65 10 rfl rfl)
theorem dL_law_1654 : decode cL_law 1654 = .ok (.invokevirtual 214, 3) := dk_182 0 214 (dk_at dksL_law_65 11 rfl rfl)
theorem dL_law_1657 : decode cL_law 1657 = .ok (.istore 7, 2) := dk_54 7 (dk_at dksL_law_65 14 rfl rfl)
theorem dL_law_1659 : decode cL_law 1659 = .ok (.aload_n 2, 1) := dk_44 (dk_at dksL_law_65 16 rfl rfl)
theorem dL_law_1660 : decode cL_law 1660 = .ok (.invokevirtual 139, 3) := dk_182 0 139 (dk_at dksL_law_65 17 rfl rfl)
theorem dL_law_1663 : decode cL_law 1663 = .ok (.iload 6, 2) := dk_21 6 (dk_at dksL_law_65 20 rfl rfl)
theorem dL_law_1665 : decode cL_law 1665 = .ok (.if_icmp .eq 5, 3) := dk_159 0 5 (dk_at dksL_law_66 0 rfl rfl)
theorem dL_law_1668 : decode cL_law 1668 = .ok (.iconst 0, 1) := dk_3 (dk_at dksL_law_66 3 rfl rfl)
theorem dL_law_1669 : decode cL_law 1669 = .ok (.ireturn, 1) := dk_172 (dk_at dksL_law_66 4 rfl rfl)
theorem dL_law_1670 : decode cL_law 1670 = .ok (.iload 6, 2) := dk_21 6 (dk_at dksL_law_66 5 rfl rfl)
theorem dL_law_1672 : decode cL_law 1672 = .ok (.ifCond .ne 15, 3) := dk_154 0 15 (dk_at dksL_law_66 7 rfl rfl)
theorem dL_law_1675 : decode cL_law 1675 = .ok (.aload_n 3, 1) := dk_45 (dk_at dksL_law_66 10 rfl rfl)
theorem dL_law_1676 : decode cL_law 1676 = .ok (.iconst 0, 1) := dk_3 (dk_at dksL_law_66 11 rfl rfl)
theorem dL_law_1677 : decode cL_law 1677 = .ok (.laload, 1) := dk_47 (dk_at dksL_law_66 12 rfl rfl)
theorem dL_law_1678 : decode cL_law 1678 = .ok (.iload 7, 2) := dk_21 7 (dk_at dksL_law_66 13 rfl rfl)
theorem dL_law_1680 : decode cL_law 1680 = .ok (.i2l, 1) := dk_133 (dk_at dksL_law_66 15 rfl rfl)
theorem dL_law_1681 : decode cL_law 1681 = .ok (.lcmp, 1) := dk_148 (dk_at dksL_law_66 16 rfl rfl)
theorem dL_law_1682 : decode cL_law 1682 = .ok (.ifCond .eq 5, 3) := dk_153 0 5 (dk_at dksL_law_66 17 rfl rfl)
theorem dL_law_1685 : decode cL_law 1685 = .ok (.iconst 0, 1) := dk_3 (dk_at dksL_law_66 20 rfl rfl)
theorem dL_law_1686 : decode cL_law 1686 = .ok (.ireturn, 1) := dk_172 (dk_at dksL_law_66 21 rfl rfl)
theorem dL_law_1687 : decode cL_law 1687 = .ok (.goto 544, 3) := dk_167 2 32 (dk_at dksL_law_67 0 rfl rfl)
theorem dL_law_1690 : decode cL_law 1690 = .ok (.aload_n 1, 1) := dk_43 (dk_at dksL_law_67 3 rfl rfl)
theorem dL_law_1691 : decode cL_law 1691 = .ok (.aload_n 3, 1) := dk_45 (dk_at dksL_law_67 4 rfl rfl)
theorem dL_law_1692 : decode cL_law 1692 = .ok (.invokestatic 215, 3) := dk_184 0 215 (dk_at dksL_law_67 5 rfl rfl)
theorem dL_law_1695 : decode cL_law 1695 = .ok (.istore 6, 2) := dk_54 6 (dk_at dksL_law_67 8 rfl rfl)
theorem dL_law_1697 : decode cL_law 1697 = .ok (.aload_n 2, 1) := dk_44 (dk_at dksL_law_67 10 rfl rfl)
theorem dL_law_1698 : decode cL_law 1698 = .ok (.invokevirtual 217, 3) := dk_182 0 217 (dk_at dksL_law_67 11 rfl rfl)
theorem dL_law_1701 : decode cL_law 1701 = .ok (.istore 7, 2) := dk_54 7 (dk_at dksL_law_67 14 rfl rfl)
theorem dL_law_1703 : decode cL_law 1703 = .ok (.aload_n 2, 1) := dk_44 (dk_at dksL_law_67 16 rfl rfl)
theorem dL_law_1704 : decode cL_law 1704 = .ok (.invokevirtual 139, 3) := dk_182 0 139 (dk_at dksL_law_67 17 rfl rfl)
theorem dL_law_1707 : decode cL_law 1707 = .ok (.iload 6, 2) := dk_21 6 (dk_at dksL_law_67 20 rfl rfl)
theorem dL_law_1709 : decode cL_law 1709 = .ok (.if_icmp .eq 5, 3) := dk_159 0 5 (dk_at dksL_law_68 0 rfl rfl)
theorem dL_law_1712 : decode cL_law 1712 = .ok (.iconst 0, 1) := dk_3 (dk_at dksL_law_68 3 rfl rfl)
theorem dL_law_1713 : decode cL_law 1713 = .ok (.ireturn, 1) := dk_172 (dk_at dksL_law_68 4 rfl rfl)
theorem dL_law_1714 : decode cL_law 1714 = .ok (.iload 6, 2) := dk_21 6 (dk_at dksL_law_68 5 rfl rfl)
theorem dL_law_1716 : decode cL_law 1716 = .ok (.ifCond .ne 15, 3) := dk_154 0 15 (dk_at dksL_law_68 7 rfl rfl)
theorem dL_law_1719 : decode cL_law 1719 = .ok (.aload_n 3, 1) := dk_45 (dk_at dksL_law_68 10 rfl rfl)
theorem dL_law_1720 : decode cL_law 1720 = .ok (.iconst 0, 1) := dk_3 (dk_at dksL_law_68 11 rfl rfl)
theorem dL_law_1721 : decode cL_law 1721 = .ok (.laload, 1) := dk_47 (dk_at dksL_law_68 12 rfl rfl)
theorem dL_law_1722 : decode cL_law 1722 = .ok (.iload 7, 2) := dk_21 7 (dk_at dksL_law_68 13 rfl rfl)
theorem dL_law_1724 : decode cL_law 1724 = .ok (.i2l, 1) := dk_133 (dk_at dksL_law_68 15 rfl rfl)
theorem dL_law_1725 : decode cL_law 1725 = .ok (.lcmp, 1) := dk_148 (dk_at dksL_law_68 16 rfl rfl)
theorem dL_law_1726 : decode cL_law 1726 = .ok (.ifCond .eq 5, 3) := dk_153 0 5 (dk_at dksL_law_68 17 rfl rfl)
theorem dL_law_1729 : decode cL_law 1729 = .ok (.iconst 0, 1) := dk_3 (dk_at dksL_law_68 20 rfl rfl)
theorem dL_law_1730 : decode cL_law 1730 = .ok (.ireturn, 1) := dk_172 (dk_at dksL_law_68 21 rfl rfl)
theorem dL_law_1731 : decode cL_law 1731 = .ok (.goto 500, 3) := dk_167 1 244 (dk_at dksL_law_69 0 rfl rfl)
theorem dL_law_1734 : decode cL_law 1734 = .ok (.aload_n 1, 1) := dk_43 (dk_at dksL_law_69 3 rfl rfl)
theorem dL_law_1735 : decode cL_law 1735 = .ok (.aload_n 0, 1) := dk_42 (dk_at dksL_law_69 4 rfl rfl)
theorem dL_law_1736 : decode cL_law 1736 = .ok (.iload 5, 2) := dk_21 5 (dk_at dksL_law_69 5 rfl rfl)
theorem dL_law_1738 : decode cL_law 1738 = .ok (.iconst 1, 1) := dk_4 (dk_at dksL_law_69 7 rfl rfl)
theorem dL_law_1739 : decode cL_law 1739 = .ok (.iadd, 1) := dk_96 (dk_at dksL_law_69 8 rfl rfl)
theorem dL_law_1740 : decode cL_law 1740 = .ok (.iaload, 1) := dk_46 (dk_at dksL_law_69 9 rfl rfl)
theorem dL_law_1741 : decode cL_law 1741 = .ok (.aload_n 0, 1) := dk_42 (dk_at dksL_law_69 10 rfl rfl)
theorem dL_law_1742 : decode cL_law 1742 = .ok (.iload 5, 2) := dk_21 5 (dk_at dksL_law_69 11 rfl rfl)
theorem dL_law_1744 : decode cL_law 1744 = .ok (.iconst 2, 1) := dk_5 (dk_at dksL_law_69 13 rfl rfl)
theorem dL_law_1745 : decode cL_law 1745 = .ok (.iadd, 1) := dk_96 (dk_at dksL_law_69 14 rfl rfl)
theorem dL_law_1746 : decode cL_law 1746 = .ok (.iaload, 1) := dk_46 (dk_at dksL_law_69 15 rfl rfl)
theorem dL_law_1747 : decode cL_law 1747 = .ok (.ifCond .eq 7, 3) := dk_153 0 7 (dk_at dksL_law_69 16 rfl rfl)
theorem dL_law_1750 : decode cL_law 1750 = .ok (.iconst 1, 1) := dk_4 (dk_at dksL_law_69 19 rfl rfl)
theorem dL_law_1751 : decode cL_law 1751 = .ok (.goto 4, 3) := dk_167 0 4 (dk_at dksL_law_69 20 rfl rfl)
theorem dL_law_1754 : decode cL_law 1754 = .ok (.iconst 0, 1) := dk_3 (dk_at dksL_law_69 23 rfl rfl)
theorem dL_law_1755 : decode cL_law 1755 = .ok (.aload_n 3, 1) := dk_45 (dk_at dksL_law_70 0 rfl rfl)
theorem dL_law_1756 : decode cL_law 1756 = .ok (.invokestatic 218, 3) := dk_184 0 218 (dk_at dksL_law_70 1 rfl rfl)
theorem dL_law_1759 : decode cL_law 1759 = .ok (.istore 6, 2) := dk_54 6 (dk_at dksL_law_70 4 rfl rfl)
theorem dL_law_1761 : decode cL_law 1761 = .ok (.aload_n 2, 1) := dk_44 (dk_at dksL_law_70 6 rfl rfl)
theorem dL_law_1762 : decode cL_law 1762 = .ok (.aload_n 0, 1) := dk_42 (dk_at dksL_law_70 7 rfl rfl)
theorem dL_law_1763 : decode cL_law 1763 = .ok (.iload 5, 2) := dk_21 5 (dk_at dksL_law_70 8 rfl rfl)
theorem dL_law_1765 : decode cL_law 1765 = .ok (.iconst 1, 1) := dk_4 (dk_at dksL_law_70 10 rfl rfl)
theorem dL_law_1766 : decode cL_law 1766 = .ok (.iadd, 1) := dk_96 (dk_at dksL_law_70 11 rfl rfl)
theorem dL_law_1767 : decode cL_law 1767 = .ok (.iaload, 1) := dk_46 (dk_at dksL_law_70 12 rfl rfl)
theorem dL_law_1768 : decode cL_law 1768 = .ok (.aload_n 0, 1) := dk_42 (dk_at dksL_law_70 13 rfl rfl)
theorem dL_law_1769 : decode cL_law 1769 = .ok (.iload 5, 2) := dk_21 5 (dk_at dksL_law_70 14 rfl rfl)
theorem dL_law_1771 : decode cL_law 1771 = .ok (.iconst 2, 1) := dk_5 (dk_at dksL_law_70 16 rfl rfl)
theorem dL_law_1772 : decode cL_law 1772 = .ok (.iadd, 1) := dk_96 (dk_at dksL_law_70 17 rfl rfl)
theorem dL_law_1773 : decode cL_law 1773 = .ok (.iaload, 1) := dk_46 (dk_at dksL_law_70 18 rfl rfl)
theorem dL_law_1774 : decode cL_law 1774 = .ok (.ifCond .eq 7, 3) := dk_153 0 7 (dk_at dksL_law_70 19 rfl rfl)
theorem dL_law_1777 : decode cL_law 1777 = .ok (.iconst 1, 1) := dk_4 (dk_at dksL_law_70 22 rfl rfl)
theorem dL_law_1778 : decode cL_law 1778 = .ok (.goto 4, 3) := dk_167 0 4 (dk_at dksL_law_71 0 rfl rfl)
theorem dL_law_1781 : decode cL_law 1781 = .ok (.iconst 0, 1) := dk_3 (dk_at dksL_law_71 3 rfl rfl)
theorem dL_law_1782 : decode cL_law 1782 = .ok (.invokevirtual 221, 3) := dk_182 0 221 (dk_at dksL_law_71 4 rfl rfl)
theorem dL_law_1785 : decode cL_law 1785 = .ok (.istore 7, 2) := dk_54 7 (dk_at dksL_law_71 7 rfl rfl)
theorem dL_law_1787 : decode cL_law 1787 = .ok (.aload_n 2, 1) := dk_44 (dk_at dksL_law_71 9 rfl rfl)
theorem dL_law_1788 : decode cL_law 1788 = .ok (.invokevirtual 139, 3) := dk_182 0 139 (dk_at dksL_law_71 10 rfl rfl)
theorem dL_law_1791 : decode cL_law 1791 = .ok (.iload 6, 2) := dk_21 6 (dk_at dksL_law_71 13 rfl rfl)
theorem dL_law_1793 : decode cL_law 1793 = .ok (.if_icmp .eq 5, 3) := dk_159 0 5 (dk_at dksL_law_71 15 rfl rfl)
theorem dL_law_1796 : decode cL_law 1796 = .ok (.iconst 0, 1) := dk_3 (dk_at dksL_law_71 18 rfl rfl)
theorem dL_law_1797 : decode cL_law 1797 = .ok (.ireturn, 1) := dk_172 (dk_at dksL_law_71 19 rfl rfl)
theorem dL_law_1798 : decode cL_law 1798 = .ok (.iload 6, 2) := dk_21 6 (dk_at dksL_law_71 20 rfl rfl)
theorem dL_law_1800 : decode cL_law 1800 = .ok (.ifCond .ne 15, 3) := dk_154 0 15 (dk_at dksL_law_72 0 rfl rfl)
theorem dL_law_1803 : decode cL_law 1803 = .ok (.aload_n 3, 1) := dk_45 (dk_at dksL_law_72 3 rfl rfl)
theorem dL_law_1804 : decode cL_law 1804 = .ok (.iconst 0, 1) := dk_3 (dk_at dksL_law_72 4 rfl rfl)
theorem dL_law_1805 : decode cL_law 1805 = .ok (.laload, 1) := dk_47 (dk_at dksL_law_72 5 rfl rfl)
theorem dL_law_1806 : decode cL_law 1806 = .ok (.iload 7, 2) := dk_21 7 (dk_at dksL_law_72 6 rfl rfl)
theorem dL_law_1808 : decode cL_law 1808 = .ok (.i2l, 1) := dk_133 (dk_at dksL_law_72 8 rfl rfl)
theorem dL_law_1809 : decode cL_law 1809 = .ok (.lcmp, 1) := dk_148 (dk_at dksL_law_72 9 rfl rfl)
theorem dL_law_1810 : decode cL_law 1810 = .ok (.ifCond .eq 5, 3) := dk_153 0 5 (dk_at dksL_law_72 10 rfl rfl)
theorem dL_law_1813 : decode cL_law 1813 = .ok (.iconst 0, 1) := dk_3 (dk_at dksL_law_72 13 rfl rfl)
theorem dL_law_1814 : decode cL_law 1814 = .ok (.ireturn, 1) := dk_172 (dk_at dksL_law_72 14 rfl rfl)
theorem dL_law_1815 : decode cL_law 1815 = .ok (.goto 416, 3) := dk_167 1 160 (dk_at dksL_law_72 15 rfl rfl)
theorem dL_law_1818 : decode cL_law 1818 = .ok (.aload_n 1, 1) := dk_43 (dk_at dksL_law_72 18 rfl rfl)
theorem dL_law_1819 : decode cL_law 1819 = .ok (.aload_n 0, 1) := dk_42 (dk_at dksL_law_72 19 rfl rfl)
theorem dL_law_1820 : decode cL_law 1820 = .ok (.iload 5, 2) := dk_21 5 (dk_at dksL_law_72 20 rfl rfl)
theorem dL_law_1822 : decode cL_law 1822 = .ok (.iconst 1, 1) := dk_4 (dk_at dksL_law_72 22 rfl rfl)
theorem dL_law_1823 : decode cL_law 1823 = .ok (.iadd, 1) := dk_96 (dk_at dksL_law_72 23 rfl rfl)
theorem dL_law_1824 : decode cL_law 1824 = .ok (.iaload, 1) := dk_46 (dk_at dksL_law_73 0 rfl rfl)
theorem dL_law_1825 : decode cL_law 1825 = .ok (.aload_n 3, 1) := dk_45 (dk_at dksL_law_73 1 rfl rfl)
theorem dL_law_1826 : decode cL_law 1826 = .ok (.invokestatic 222, 3) := dk_184 0 222 (dk_at dksL_law_73 2 rfl rfl)
theorem dL_law_1829 : decode cL_law 1829 = .ok (.istore 6, 2) := dk_54 6 (dk_at dksL_law_73 5 rfl rfl)
theorem dL_law_1831 : decode cL_law 1831 = .ok (.aload_n 2, 1) := dk_44 (dk_at dksL_law_73 7 rfl rfl)
theorem dL_law_1832 : decode cL_law 1832 = .ok (.aload_n 0, 1) := dk_42 (dk_at dksL_law_73 8 rfl rfl)
theorem dL_law_1833 : decode cL_law 1833 = .ok (.iload 5, 2) := dk_21 5 (dk_at dksL_law_73 9 rfl rfl)
theorem dL_law_1835 : decode cL_law 1835 = .ok (.iconst 1, 1) := dk_4 (dk_at dksL_law_73 11 rfl rfl)
theorem dL_law_1836 : decode cL_law 1836 = .ok (.iadd, 1) := dk_96 (dk_at dksL_law_73 12 rfl rfl)
theorem dL_law_1837 : decode cL_law 1837 = .ok (.iaload, 1) := dk_46 (dk_at dksL_law_73 13 rfl rfl)
theorem dL_law_1838 : decode cL_law 1838 = .ok (.invokevirtual 224, 3) := dk_182 0 224 (dk_at dksL_law_73 14 rfl rfl)
theorem dL_law_1841 : decode cL_law 1841 = .ok (.istore 7, 2) := dk_54 7 (dk_at dksL_law_73 17 rfl rfl)
theorem dL_law_1843 : decode cL_law 1843 = .ok (.aload_n 2, 1) := dk_44 (dk_at dksL_law_73 19 rfl rfl)
theorem dL_law_1844 : decode cL_law 1844 = .ok (.invokevirtual 139, 3) := dk_182 0 139 (dk_at dksL_law_73 20 rfl rfl)
theorem dL_law_1847 : decode cL_law 1847 = .ok (.iload 6, 2) := dk_21 6 (dk_at dksL_law_74 0 rfl rfl)
theorem dL_law_1849 : decode cL_law 1849 = .ok (.if_icmp .eq 5, 3) := dk_159 0 5 (dk_at dksL_law_74 2 rfl rfl)
theorem dL_law_1852 : decode cL_law 1852 = .ok (.iconst 0, 1) := dk_3 (dk_at dksL_law_74 5 rfl rfl)
theorem dL_law_1853 : decode cL_law 1853 = .ok (.ireturn, 1) := dk_172 (dk_at dksL_law_74 6 rfl rfl)
theorem dL_law_1854 : decode cL_law 1854 = .ok (.iload 6, 2) := dk_21 6 (dk_at dksL_law_74 7 rfl rfl)
theorem dL_law_1856 : decode cL_law 1856 = .ok (.ifCond .ne 15, 3) := dk_154 0 15 (dk_at dksL_law_74 9 rfl rfl)
theorem dL_law_1859 : decode cL_law 1859 = .ok (.aload_n 3, 1) := dk_45 (dk_at dksL_law_74 12 rfl rfl)
theorem dL_law_1860 : decode cL_law 1860 = .ok (.iconst 0, 1) := dk_3 (dk_at dksL_law_74 13 rfl rfl)
theorem dL_law_1861 : decode cL_law 1861 = .ok (.laload, 1) := dk_47 (dk_at dksL_law_74 14 rfl rfl)
theorem dL_law_1862 : decode cL_law 1862 = .ok (.iload 7, 2) := dk_21 7 (dk_at dksL_law_74 15 rfl rfl)
theorem dL_law_1864 : decode cL_law 1864 = .ok (.i2l, 1) := dk_133 (dk_at dksL_law_74 17 rfl rfl)
theorem dL_law_1865 : decode cL_law 1865 = .ok (.lcmp, 1) := dk_148 (dk_at dksL_law_74 18 rfl rfl)
theorem dL_law_1866 : decode cL_law 1866 = .ok (.ifCond .eq 5, 3) := dk_153 0 5 (dk_at dksL_law_74 19 rfl rfl)
theorem dL_law_1869 : decode cL_law 1869 = .ok (.iconst 0, 1) := dk_3 (dk_at dksL_law_74 22 rfl rfl)
theorem dL_law_1870 : decode cL_law 1870 = .ok (.ireturn, 1) := dk_172 (dk_at dksL_law_74 23 rfl rfl)
theorem dL_law_1871 : decode cL_law 1871 = .ok (.goto 360, 3) := dk_167 1 104 (dk_at dksL_law_75 0 rfl rfl)
theorem dL_law_1874 : decode cL_law 1874 = .ok (.aload_n 1, 1) := dk_43 (dk_at dksL_law_75 3 rfl rfl)
theorem dL_law_1875 : decode cL_law 1875 = .ok (.aload_n 0, 1) := dk_42 (dk_at dksL_law_75 4 rfl rfl)
theorem dL_law_1876 : decode cL_law 1876 = .ok (.iload 5, 2) := dk_21 5 (dk_at dksL_law_75 5 rfl rfl)
theorem dL_law_1878 : decode cL_law 1878 = .ok (.iconst 1, 1) := dk_4 (dk_at dksL_law_75 7 rfl rfl)
theorem dL_law_1879 : decode cL_law 1879 = .ok (.iadd, 1) := dk_96 (dk_at dksL_law_75 8 rfl rfl)
theorem dL_law_1880 : decode cL_law 1880 = .ok (.iaload, 1) := dk_46 (dk_at dksL_law_75 9 rfl rfl)
theorem dL_law_1881 : decode cL_law 1881 = .ok (.aload_n 3, 1) := dk_45 (dk_at dksL_law_75 10 rfl rfl)
theorem dL_law_1882 : decode cL_law 1882 = .ok (.invokestatic 225, 3) := dk_184 0 225 (dk_at dksL_law_75 11 rfl rfl)
theorem dL_law_1885 : decode cL_law 1885 = .ok (.istore 6, 2) := dk_54 6 (dk_at dksL_law_75 14 rfl rfl)
theorem dL_law_1887 : decode cL_law 1887 = .ok (.aload_n 2, 1) := dk_44 (dk_at dksL_law_75 16 rfl rfl)
theorem dL_law_1888 : decode cL_law 1888 = .ok (.aload_n 0, 1) := dk_42 (dk_at dksL_law_75 17 rfl rfl)
theorem dL_law_1889 : decode cL_law 1889 = .ok (.iload 5, 2) := dk_21 5 (dk_at dksL_law_75 18 rfl rfl)
theorem dL_law_1891 : decode cL_law 1891 = .ok (.iconst 1, 1) := dk_4 (dk_at dksL_law_75 20 rfl rfl)
theorem dL_law_1892 : decode cL_law 1892 = .ok (.iadd, 1) := dk_96 (dk_at dksL_law_75 21 rfl rfl)
theorem dL_law_1893 : decode cL_law 1893 = .ok (.iaload, 1) := dk_46 (dk_at dksL_law_75 22 rfl rfl)
theorem dL_law_1894 : decode cL_law 1894 = .ok (.invokevirtual 227, 3) := dk_182 0 227 (dk_at dksL_law_76 0 rfl rfl)
theorem dL_law_1897 : decode cL_law 1897 = .ok (.istore 7, 2) := dk_54 7 (dk_at dksL_law_76 3 rfl rfl)
theorem dL_law_1899 : decode cL_law 1899 = .ok (.aload_n 2, 1) := dk_44 (dk_at dksL_law_76 5 rfl rfl)
theorem dL_law_1900 : decode cL_law 1900 = .ok (.invokevirtual 139, 3) := dk_182 0 139 (dk_at dksL_law_76 6 rfl rfl)
theorem dL_law_1903 : decode cL_law 1903 = .ok (.iload 6, 2) := dk_21 6 (dk_at dksL_law_76 9 rfl rfl)
theorem dL_law_1905 : decode cL_law 1905 = .ok (.if_icmp .eq 5, 3) := dk_159 0 5 (dk_at dksL_law_76 11 rfl rfl)
theorem dL_law_1908 : decode cL_law 1908 = .ok (.iconst 0, 1) := dk_3 (dk_at dksL_law_76 14 rfl rfl)
theorem dL_law_1909 : decode cL_law 1909 = .ok (.ireturn, 1) := dk_172 (dk_at dksL_law_76 15 rfl rfl)
theorem dL_law_1910 : decode cL_law 1910 = .ok (.iload 6, 2) := dk_21 6 (dk_at dksL_law_76 16 rfl rfl)
theorem dL_law_1912 : decode cL_law 1912 = .ok (.ifCond .ne 15, 3) := dk_154 0 15 (dk_at dksL_law_76 18 rfl rfl)
theorem dL_law_1915 : decode cL_law 1915 = .ok (.aload_n 3, 1) := dk_45 (dk_at dksL_law_76 21 rfl rfl)
theorem dL_law_1916 : decode cL_law 1916 = .ok (.iconst 0, 1) := dk_3 (dk_at dksL_law_76 22 rfl rfl)
theorem dL_law_1917 : decode cL_law 1917 = .ok (.laload, 1) := dk_47 (dk_at dksL_law_76 23 rfl rfl)
theorem dL_law_1918 : decode cL_law 1918 = .ok (.iload 7, 2) := dk_21 7 (dk_at dksL_law_77 0 rfl rfl)
theorem dL_law_1920 : decode cL_law 1920 = .ok (.i2l, 1) := dk_133 (dk_at dksL_law_77 2 rfl rfl)
theorem dL_law_1921 : decode cL_law 1921 = .ok (.lcmp, 1) := dk_148 (dk_at dksL_law_77 3 rfl rfl)
theorem dL_law_1922 : decode cL_law 1922 = .ok (.ifCond .eq 5, 3) := dk_153 0 5 (dk_at dksL_law_77 4 rfl rfl)
theorem dL_law_1925 : decode cL_law 1925 = .ok (.iconst 0, 1) := dk_3 (dk_at dksL_law_77 7 rfl rfl)
theorem dL_law_1926 : decode cL_law 1926 = .ok (.ireturn, 1) := dk_172 (dk_at dksL_law_77 8 rfl rfl)
theorem dL_law_1927 : decode cL_law 1927 = .ok (.goto 304, 3) := dk_167 1 48 (dk_at dksL_law_77 9 rfl rfl)
theorem dL_law_1930 : decode cL_law 1930 = .ok (.aload_n 1, 1) := dk_43 (dk_at dksL_law_77 12 rfl rfl)
theorem dL_law_1931 : decode cL_law 1931 = .ok (.aload_n 0, 1) := dk_42 (dk_at dksL_law_77 13 rfl rfl)
theorem dL_law_1932 : decode cL_law 1932 = .ok (.iload 5, 2) := dk_21 5 (dk_at dksL_law_77 14 rfl rfl)
theorem dL_law_1934 : decode cL_law 1934 = .ok (.iconst 1, 1) := dk_4 (dk_at dksL_law_77 16 rfl rfl)
theorem dL_law_1935 : decode cL_law 1935 = .ok (.iadd, 1) := dk_96 (dk_at dksL_law_77 17 rfl rfl)
theorem dL_law_1936 : decode cL_law 1936 = .ok (.iaload, 1) := dk_46 (dk_at dksL_law_77 18 rfl rfl)
theorem dL_law_1937 : decode cL_law 1937 = .ok (.aload_n 3, 1) := dk_45 (dk_at dksL_law_77 19 rfl rfl)
theorem dL_law_1938 : decode cL_law 1938 = .ok (.invokestatic 228, 3) := dk_184 0 228 (dk_at dksL_law_77 20 rfl rfl)
theorem dL_law_1941 : decode cL_law 1941 = .ok (.istore 6, 2) := dk_54 6 (dk_at dksL_law_78 0 rfl rfl)
theorem dL_law_1943 : decode cL_law 1943 = .ok (.aload_n 2, 1) := dk_44 (dk_at dksL_law_78 2 rfl rfl)
theorem dL_law_1944 : decode cL_law 1944 = .ok (.aload_n 0, 1) := dk_42 (dk_at dksL_law_78 3 rfl rfl)
theorem dL_law_1945 : decode cL_law 1945 = .ok (.iload 5, 2) := dk_21 5 (dk_at dksL_law_78 4 rfl rfl)
theorem dL_law_1947 : decode cL_law 1947 = .ok (.iconst 1, 1) := dk_4 (dk_at dksL_law_78 6 rfl rfl)
theorem dL_law_1948 : decode cL_law 1948 = .ok (.iadd, 1) := dk_96 (dk_at dksL_law_78 7 rfl rfl)
theorem dL_law_1949 : decode cL_law 1949 = .ok (.iaload, 1) := dk_46 (dk_at dksL_law_78 8 rfl rfl)
theorem dL_law_1950 : decode cL_law 1950 = .ok (.invokevirtual 230, 3) := dk_182 0 230 (dk_at dksL_law_78 9 rfl rfl)
theorem dL_law_1953 : decode cL_law 1953 = .ok (.istore 7, 2) := dk_54 7 (dk_at dksL_law_78 12 rfl rfl)
theorem dL_law_1955 : decode cL_law 1955 = .ok (.aload_n 2, 1) := dk_44 (dk_at dksL_law_78 14 rfl rfl)
theorem dL_law_1956 : decode cL_law 1956 = .ok (.invokevirtual 139, 3) := dk_182 0 139 (dk_at dksL_law_78 15 rfl rfl)
theorem dL_law_1959 : decode cL_law 1959 = .ok (.iload 6, 2) := dk_21 6 (dk_at dksL_law_78 18 rfl rfl)
theorem dL_law_1961 : decode cL_law 1961 = .ok (.if_icmp .eq 5, 3) := dk_159 0 5 (dk_at dksL_law_78 20 rfl rfl)
theorem dL_law_1964 : decode cL_law 1964 = .ok (.iconst 0, 1) := dk_3 (dk_at dksL_law_78 23 rfl rfl)
theorem dL_law_1965 : decode cL_law 1965 = .ok (.ireturn, 1) := dk_172 (dk_at dksL_law_79 0 rfl rfl)
theorem dL_law_1966 : decode cL_law 1966 = .ok (.iload 6, 2) := dk_21 6 (dk_at dksL_law_79 1 rfl rfl)
theorem dL_law_1968 : decode cL_law 1968 = .ok (.ifCond .ne 15, 3) := dk_154 0 15 (dk_at dksL_law_79 3 rfl rfl)
theorem dL_law_1971 : decode cL_law 1971 = .ok (.aload_n 3, 1) := dk_45 (dk_at dksL_law_79 6 rfl rfl)
theorem dL_law_1972 : decode cL_law 1972 = .ok (.iconst 0, 1) := dk_3 (dk_at dksL_law_79 7 rfl rfl)
theorem dL_law_1973 : decode cL_law 1973 = .ok (.laload, 1) := dk_47 (dk_at dksL_law_79 8 rfl rfl)
theorem dL_law_1974 : decode cL_law 1974 = .ok (.iload 7, 2) := dk_21 7 (dk_at dksL_law_79 9 rfl rfl)
theorem dL_law_1976 : decode cL_law 1976 = .ok (.i2l, 1) := dk_133 (dk_at dksL_law_79 11 rfl rfl)
theorem dL_law_1977 : decode cL_law 1977 = .ok (.lcmp, 1) := dk_148 (dk_at dksL_law_79 12 rfl rfl)
theorem dL_law_1978 : decode cL_law 1978 = .ok (.ifCond .eq 5, 3) := dk_153 0 5 (dk_at dksL_law_79 13 rfl rfl)
theorem dL_law_1981 : decode cL_law 1981 = .ok (.iconst 0, 1) := dk_3 (dk_at dksL_law_79 16 rfl rfl)
theorem dL_law_1982 : decode cL_law 1982 = .ok (.ireturn, 1) := dk_172 (dk_at dksL_law_79 17 rfl rfl)
theorem dL_law_1983 : decode cL_law 1983 = .ok (.goto 248, 3) := dk_167 0 248 (dk_at dksL_law_79 18 rfl rfl)
theorem dL_law_1986 : decode cL_law 1986 = .ok (.aload_n 1, 1) := dk_43 (dk_at dksL_law_79 21 rfl rfl)
theorem dL_law_1987 : decode cL_law 1987 = .ok (.invokevirtual 231, 3) := dk_182 0 231 (dk_at dksL_law_80 0 rfl rfl)
theorem dL_law_1990 : decode cL_law 1990 = .ok (.aload_n 2, 1) := dk_44 (dk_at dksL_law_80 3 rfl rfl)
theorem dL_law_1991 : decode cL_law 1991 = .ok (.invokevirtual 234, 3) := dk_182 0 234 (dk_at dksL_law_80 4 rfl rfl)
theorem dL_law_1994 : decode cL_law 1994 = .ok (.if_icmp .eq 237, 3) := dk_159 0 237 (dk_at dksL_law_80 7 rfl rfl)
theorem dL_law_1997 : decode cL_law 1997 = .ok (.iconst 0, 1) := dk_3 (dk_at dksL_law_80 10 rfl rfl)
theorem dL_law_1998 : decode cL_law 1998 = .ok (.ireturn, 1) := dk_172 (dk_at dksL_law_80 11 rfl rfl)
theorem dL_law_1999 : decode cL_law 1999 = .ok (.aload_n 1, 1) := dk_43 (dk_at dksL_law_80 12 rfl rfl)
theorem dL_law_2000 : decode cL_law 2000 = .ok (.aload 4, 2) := dk_25 4 (dk_at dksL_law_80 13 rfl rfl)
theorem dL_law_2002 : decode cL_law 2002 = .ok (.invokestatic 235, 3) := dk_184 0 235 (dk_at dksL_law_80 15 rfl rfl)
theorem dL_law_2005 : decode cL_law 2005 = .ok (.istore 6, 2) := dk_54 6 (dk_at dksL_law_80 18 rfl rfl)
theorem dL_law_2007 : decode cL_law 2007 = .ok (.aload_n 2, 1) := dk_44 (dk_at dksL_law_80 20 rfl rfl)
theorem dL_law_2008 : decode cL_law 2008 = .ok (.invokevirtual 238, 3) := dk_182 0 238 (dk_at dksL_law_80 21 rfl rfl)
theorem dL_law_2011 : decode cL_law 2011 = .ok (.dstore 7, 2) := dk_57 7 (dk_at dksL_law_81 0 rfl rfl)
theorem dL_law_2013 : decode cL_law 2013 = .ok (.aload_n 2, 1) := dk_44 (dk_at dksL_law_81 2 rfl rfl)
theorem dL_law_2014 : decode cL_law 2014 = .ok (.invokevirtual 139, 3) := dk_182 0 139 (dk_at dksL_law_81 3 rfl rfl)
theorem dL_law_2017 : decode cL_law 2017 = .ok (.iload 6, 2) := dk_21 6 (dk_at dksL_law_81 6 rfl rfl)
theorem dL_law_2019 : decode cL_law 2019 = .ok (.if_icmp .eq 5, 3) := dk_159 0 5 (dk_at dksL_law_81 8 rfl rfl)
theorem dL_law_2022 : decode cL_law 2022 = .ok (.iconst 0, 1) := dk_3 (dk_at dksL_law_81 11 rfl rfl)
theorem dL_law_2023 : decode cL_law 2023 = .ok (.ireturn, 1) := dk_172 (dk_at dksL_law_81 12 rfl rfl)
theorem dL_law_2024 : decode cL_law 2024 = .ok (.iload 6, 2) := dk_21 6 (dk_at dksL_law_81 13 rfl rfl)
theorem dL_law_2026 : decode cL_law 2026 = .ok (.ifCond .ne 35, 3) := dk_154 0 35 (dk_at dksL_law_81 15 rfl rfl)
theorem dL_law_2029 : decode cL_law 2029 = .ok (.aload 4, 2) := dk_25 4 (dk_at dksL_law_81 18 rfl rfl)
theorem dL_law_2031 : decode cL_law 2031 = .ok (.iconst 0, 1) := dk_3 (dk_at dksL_law_81 20 rfl rfl)
theorem dL_law_2032 : decode cL_law 2032 = .ok (.daload, 1) := dk_49 (dk_at dksL_law_81 21 rfl rfl)
theorem dL_law_2033 : decode cL_law 2033 = .ok (.dload 7, 2) := dk_24 7 (dk_at dksL_law_81 22 rfl rfl)
theorem dL_law_2035 : decode cL_law 2035 = .ok (.dcmp .l, 1) := dk_151 (dk_at dksL_law_82 0 rfl rfl)
theorem dL_law_2036 : decode cL_law 2036 = .ok (.ifCond .eq 25, 3) := dk_153 0 25 (dk_at dksL_law_82 1 rfl rfl)
theorem dL_law_2039 : decode cL_law 2039 = .ok (.aload 4, 2) := dk_25 4 (dk_at dksL_law_82 4 rfl rfl)
theorem dL_law_2041 : decode cL_law 2041 = .ok (.iconst 0, 1) := dk_3 (dk_at dksL_law_82 6 rfl rfl)
theorem dL_law_2042 : decode cL_law 2042 = .ok (.daload, 1) := dk_49 (dk_at dksL_law_82 7 rfl rfl)
theorem dL_law_2043 : decode cL_law 2043 = .ok (.aload 4, 2) := dk_25 4 (dk_at dksL_law_82 8 rfl rfl)
theorem dL_law_2045 : decode cL_law 2045 = .ok (.iconst 0, 1) := dk_3 (dk_at dksL_law_82 10 rfl rfl)
theorem dL_law_2046 : decode cL_law 2046 = .ok (.daload, 1) := dk_49 (dk_at dksL_law_82 11 rfl rfl)
theorem dL_law_2047 : decode cL_law 2047 = .ok (.dcmp .l, 1) := dk_151 (dk_at dksL_law_82 12 rfl rfl)
theorem dL_law_2048 : decode cL_law 2048 = .ok (.ifCond .eq 11, 3) := dk_153 0 11 (dk_at dksL_law_82 13 rfl rfl)
theorem dL_law_2051 : decode cL_law 2051 = .ok (.dload 7, 2) := dk_24 7 (dk_at dksL_law_82 16 rfl rfl)
theorem dL_law_2053 : decode cL_law 2053 = .ok (.dload 7, 2) := dk_24 7 (dk_at dksL_law_82 18 rfl rfl)
theorem dL_law_2055 : decode cL_law 2055 = .ok (.dcmp .l, 1) := dk_151 (dk_at dksL_law_82 20 rfl rfl)
theorem dL_law_2056 : decode cL_law 2056 = .ok (.ifCond .ne 5, 3) := dk_154 0 5 (dk_at dksL_law_82 21 rfl rfl)
theorem dL_law_2059 : decode cL_law 2059 = .ok (.iconst 0, 1) := dk_3 (dk_at dksL_law_83 0 rfl rfl)
theorem dL_law_2060 : decode cL_law 2060 = .ok (.ireturn, 1) := dk_172 (dk_at dksL_law_83 1 rfl rfl)
theorem dL_law_2061 : decode cL_law 2061 = .ok (.goto 170, 3) := dk_167 0 170 (dk_at dksL_law_83 2 rfl rfl)
theorem dL_law_2064 : decode cL_law 2064 = .ok (.aload_n 1, 1) := dk_43 (dk_at dksL_law_83 5 rfl rfl)
theorem dL_law_2065 : decode cL_law 2065 = .ok (.aload 4, 2) := dk_25 4 (dk_at dksL_law_83 6 rfl rfl)
theorem dL_law_2067 : decode cL_law 2067 = .ok (.invokestatic 239, 3) := dk_184 0 239 (dk_at dksL_law_83 8 rfl rfl)
theorem dL_law_2070 : decode cL_law 2070 = .ok (.istore 6, 2) := dk_54 6 (dk_at dksL_law_83 11 rfl rfl)
theorem dL_law_2072 : decode cL_law 2072 = .ok (.aload_n 2, 1) := dk_44 (dk_at dksL_law_83 13 rfl rfl)
theorem dL_law_2073 : decode cL_law 2073 = .ok (.invokevirtual 241, 3) := dk_182 0 241 (dk_at dksL_law_83 14 rfl rfl)
theorem dL_law_2076 : decode cL_law 2076 = .ok (.fstore 7, 2) := dk_56 7 (dk_at dksL_law_83 17 rfl rfl)
theorem dL_law_2078 : decode cL_law 2078 = .ok (.aload_n 2, 1) := dk_44 (dk_at dksL_law_83 19 rfl rfl)
theorem dL_law_2079 : decode cL_law 2079 = .ok (.invokevirtual 139, 3) := dk_182 0 139 (dk_at dksL_law_83 20 rfl rfl)
theorem dL_law_2082 : decode cL_law 2082 = .ok (.iload 6, 2) := dk_21 6 (dk_at dksL_law_84 0 rfl rfl)
theorem dL_law_2084 : decode cL_law 2084 = .ok (.if_icmp .eq 5, 3) := dk_159 0 5 (dk_at dksL_law_84 2 rfl rfl)
theorem dL_law_2087 : decode cL_law 2087 = .ok (.iconst 0, 1) := dk_3 (dk_at dksL_law_84 5 rfl rfl)
theorem dL_law_2088 : decode cL_law 2088 = .ok (.ireturn, 1) := dk_172 (dk_at dksL_law_84 6 rfl rfl)
theorem dL_law_2089 : decode cL_law 2089 = .ok (.iload 6, 2) := dk_21 6 (dk_at dksL_law_84 7 rfl rfl)
theorem dL_law_2091 : decode cL_law 2091 = .ok (.ifCond .ne 36, 3) := dk_154 0 36 (dk_at dksL_law_84 9 rfl rfl)
theorem dL_law_2094 : decode cL_law 2094 = .ok (.aload 4, 2) := dk_25 4 (dk_at dksL_law_84 12 rfl rfl)
theorem dL_law_2096 : decode cL_law 2096 = .ok (.iconst 0, 1) := dk_3 (dk_at dksL_law_84 14 rfl rfl)
theorem dL_law_2097 : decode cL_law 2097 = .ok (.daload, 1) := dk_49 (dk_at dksL_law_84 15 rfl rfl)
theorem dL_law_2098 : decode cL_law 2098 = .ok (.fload 7, 2) := dk_23 7 (dk_at dksL_law_84 16 rfl rfl)
theorem dL_law_2100 : decode cL_law 2100 = .ok (.f2d, 1) := dk_141 (dk_at dksL_law_84 18 rfl rfl)
theorem dL_law_2101 : decode cL_law 2101 = .ok (.dcmp .l, 1) := dk_151 (dk_at dksL_law_84 19 rfl rfl)
theorem dL_law_2102 : decode cL_law 2102 = .ok (.ifCond .eq 25, 3) := dk_153 0 25 (dk_at dksL_law_84 20 rfl rfl)
theorem dL_law_2105 : decode cL_law 2105 = .ok (.aload 4, 2) := dk_25 4 (dk_at dksL_law_85 0 rfl rfl)
theorem dL_law_2107 : decode cL_law 2107 = .ok (.iconst 0, 1) := dk_3 (dk_at dksL_law_85 2 rfl rfl)
theorem dL_law_2108 : decode cL_law 2108 = .ok (.daload, 1) := dk_49 (dk_at dksL_law_85 3 rfl rfl)
theorem dL_law_2109 : decode cL_law 2109 = .ok (.aload 4, 2) := dk_25 4 (dk_at dksL_law_85 4 rfl rfl)
theorem dL_law_2111 : decode cL_law 2111 = .ok (.iconst 0, 1) := dk_3 (dk_at dksL_law_85 6 rfl rfl)
theorem dL_law_2112 : decode cL_law 2112 = .ok (.daload, 1) := dk_49 (dk_at dksL_law_85 7 rfl rfl)
theorem dL_law_2113 : decode cL_law 2113 = .ok (.dcmp .l, 1) := dk_151 (dk_at dksL_law_85 8 rfl rfl)
theorem dL_law_2114 : decode cL_law 2114 = .ok (.ifCond .eq 11, 3) := dk_153 0 11 (dk_at dksL_law_85 9 rfl rfl)
theorem dL_law_2117 : decode cL_law 2117 = .ok (.fload 7, 2) := dk_23 7 (dk_at dksL_law_85 12 rfl rfl)
theorem dL_law_2119 : decode cL_law 2119 = .ok (.fload 7, 2) := dk_23 7 (dk_at dksL_law_85 14 rfl rfl)
theorem dL_law_2121 : decode cL_law 2121 = .ok (.fcmp .l, 1) := dk_149 (dk_at dksL_law_85 16 rfl rfl)
theorem dL_law_2122 : decode cL_law 2122 = .ok (.ifCond .ne 5, 3) := dk_154 0 5 (dk_at dksL_law_85 17 rfl rfl)
theorem dL_law_2125 : decode cL_law 2125 = .ok (.iconst 0, 1) := dk_3 (dk_at dksL_law_85 20 rfl rfl)
theorem dL_law_2126 : decode cL_law 2126 = .ok (.ireturn, 1) := dk_172 (dk_at dksL_law_85 21 rfl rfl)
theorem dL_law_2127 : decode cL_law 2127 = .ok (.goto 104, 3) := dk_167 0 104 (dk_at dksL_law_86 0 rfl rfl)
theorem dL_law_2130 : decode cL_law 2130 = .ok (.aload_n 1, 1) := dk_43 (dk_at dksL_law_86 3 rfl rfl)
theorem dL_law_2131 : decode cL_law 2131 = .ok (.aload_n 3, 1) := dk_45 (dk_at dksL_law_86 4 rfl rfl)
theorem dL_law_2132 : decode cL_law 2132 = .ok (.invokestatic 242, 3) := dk_184 0 242 (dk_at dksL_law_86 5 rfl rfl)
theorem dL_law_2135 : decode cL_law 2135 = .ok (.istore 6, 2) := dk_54 6 (dk_at dksL_law_86 8 rfl rfl)
theorem dL_law_2137 : decode cL_law 2137 = .ok (.aload_n 2, 1) := dk_44 (dk_at dksL_law_86 10 rfl rfl)
theorem dL_law_2138 : decode cL_law 2138 = .ok (.invokevirtual 244, 3) := dk_182 0 244 (dk_at dksL_law_86 11 rfl rfl)
theorem dL_law_2141 : decode cL_law 2141 = .ok (.istore 7, 2) := dk_54 7 (dk_at dksL_law_86 14 rfl rfl)
theorem dL_law_2143 : decode cL_law 2143 = .ok (.aload_n 2, 1) := dk_44 (dk_at dksL_law_86 16 rfl rfl)
theorem dL_law_2144 : decode cL_law 2144 = .ok (.invokevirtual 139, 3) := dk_182 0 139 (dk_at dksL_law_86 17 rfl rfl)
theorem dL_law_2147 : decode cL_law 2147 = .ok (.iload 6, 2) := dk_21 6 (dk_at dksL_law_86 20 rfl rfl)
theorem dL_law_2149 : decode cL_law 2149 = .ok (.if_icmp .eq 5, 3) := dk_159 0 5 (dk_at dksL_law_87 0 rfl rfl)
theorem dL_law_2152 : decode cL_law 2152 = .ok (.iconst 0, 1) := dk_3 (dk_at dksL_law_87 3 rfl rfl)
theorem dL_law_2153 : decode cL_law 2153 = .ok (.ireturn, 1) := dk_172 (dk_at dksL_law_87 4 rfl rfl)
theorem dL_law_2154 : decode cL_law 2154 = .ok (.iload 6, 2) := dk_21 6 (dk_at dksL_law_87 5 rfl rfl)
theorem dL_law_2156 : decode cL_law 2156 = .ok (.ifCond .ne 15, 3) := dk_154 0 15 (dk_at dksL_law_87 7 rfl rfl)
theorem dL_law_2159 : decode cL_law 2159 = .ok (.aload_n 3, 1) := dk_45 (dk_at dksL_law_87 10 rfl rfl)
theorem dL_law_2160 : decode cL_law 2160 = .ok (.iconst 0, 1) := dk_3 (dk_at dksL_law_87 11 rfl rfl)
theorem dL_law_2161 : decode cL_law 2161 = .ok (.laload, 1) := dk_47 (dk_at dksL_law_87 12 rfl rfl)
theorem dL_law_2162 : decode cL_law 2162 = .ok (.iload 7, 2) := dk_21 7 (dk_at dksL_law_87 13 rfl rfl)
theorem dL_law_2164 : decode cL_law 2164 = .ok (.i2l, 1) := dk_133 (dk_at dksL_law_87 15 rfl rfl)
theorem dL_law_2165 : decode cL_law 2165 = .ok (.lcmp, 1) := dk_148 (dk_at dksL_law_87 16 rfl rfl)
theorem dL_law_2166 : decode cL_law 2166 = .ok (.ifCond .eq 5, 3) := dk_153 0 5 (dk_at dksL_law_87 17 rfl rfl)
theorem dL_law_2169 : decode cL_law 2169 = .ok (.iconst 0, 1) := dk_3 (dk_at dksL_law_87 20 rfl rfl)
theorem dL_law_2170 : decode cL_law 2170 = .ok (.ireturn, 1) := dk_172 (dk_at dksL_law_87 21 rfl rfl)
theorem dL_law_2171 : decode cL_law 2171 = .ok (.goto 60, 3) := dk_167 0 60 (dk_at dksL_law_88 0 rfl rfl)
theorem dL_law_2174 : decode cL_law 2174 = .ok (.aload_n 1, 1) := dk_43 (dk_at dksL_law_88 3 rfl rfl)
theorem dL_law_2175 : decode cL_law 2175 = .ok (.invokevirtual 245, 3) := dk_182 0 245 (dk_at dksL_law_88 4 rfl rfl)
theorem dL_law_2178 : decode cL_law 2178 = .ok (.aload_n 2, 1) := dk_44 (dk_at dksL_law_88 7 rfl rfl)
theorem dL_law_2179 : decode cL_law 2179 = .ok (.invokevirtual 248, 3) := dk_182 0 248 (dk_at dksL_law_88 8 rfl rfl)
theorem dL_law_2182 : decode cL_law 2182 = .ok (.if_icmp .eq 49, 3) := dk_159 0 49 (dk_at dksL_law_88 11 rfl rfl)
theorem dL_law_2185 : decode cL_law 2185 = .ok (.iconst 0, 1) := dk_3 (dk_at dksL_law_88 14 rfl rfl)
theorem dL_law_2186 : decode cL_law 2186 = .ok (.ireturn, 1) := dk_172 (dk_at dksL_law_88 15 rfl rfl)
theorem dL_law_2187 : decode cL_law 2187 = .ok (.aload_n 1, 1) := dk_43 (dk_at dksL_law_88 16 rfl rfl)
theorem dL_law_2188 : decode cL_law 2188 = .ok (.aload_n 3, 1) := dk_45 (dk_at dksL_law_88 17 rfl rfl)
theorem dL_law_2189 : decode cL_law 2189 = .ok (.invokestatic 249, 3) := dk_184 0 249 (dk_at dksL_law_88 18 rfl rfl)
theorem dL_law_2192 : decode cL_law 2192 = .ok (.istore 6, 2) := dk_54 6 (dk_at dksL_law_88 21 rfl rfl)
theorem dL_law_2194 : decode cL_law 2194 = .ok (.aload_n 2, 1) := dk_44 (dk_at dksL_law_88 23 rfl rfl)
theorem dL_law_2195 : decode cL_law 2195 = .ok (.invokevirtual 251, 3) := dk_182 0 251 (dk_at dksL_law_89 0 rfl rfl)
theorem dL_law_2198 : decode cL_law 2198 = .ok (.istore 7, 2) := dk_54 7 (dk_at dksL_law_89 3 rfl rfl)
theorem dL_law_2200 : decode cL_law 2200 = .ok (.aload_n 2, 1) := dk_44 (dk_at dksL_law_89 5 rfl rfl)
theorem dL_law_2201 : decode cL_law 2201 = .ok (.invokevirtual 139, 3) := dk_182 0 139 (dk_at dksL_law_89 6 rfl rfl)
theorem dL_law_2204 : decode cL_law 2204 = .ok (.iload 6, 2) := dk_21 6 (dk_at dksL_law_89 9 rfl rfl)
theorem dL_law_2206 : decode cL_law 2206 = .ok (.if_icmp .eq 5, 3) := dk_159 0 5 (dk_at dksL_law_89 11 rfl rfl)
theorem dL_law_2209 : decode cL_law 2209 = .ok (.iconst 0, 1) := dk_3 (dk_at dksL_law_89 14 rfl rfl)
theorem dL_law_2210 : decode cL_law 2210 = .ok (.ireturn, 1) := dk_172 (dk_at dksL_law_89 15 rfl rfl)
theorem dL_law_2211 : decode cL_law 2211 = .ok (.iload 6, 2) := dk_21 6 (dk_at dksL_law_89 16 rfl rfl)
theorem dL_law_2213 : decode cL_law 2213 = .ok (.ifCond .ne 15, 3) := dk_154 0 15 (dk_at dksL_law_89 18 rfl rfl)
theorem dL_law_2216 : decode cL_law 2216 = .ok (.aload_n 3, 1) := dk_45 (dk_at dksL_law_89 21 rfl rfl)
theorem dL_law_2217 : decode cL_law 2217 = .ok (.iconst 0, 1) := dk_3 (dk_at dksL_law_89 22 rfl rfl)
theorem dL_law_2218 : decode cL_law 2218 = .ok (.laload, 1) := dk_47 (dk_at dksL_law_89 23 rfl rfl)
theorem dL_law_2219 : decode cL_law 2219 = .ok (.iload 7, 2) := dk_21 7 (dk_at dksL_law_90 0 rfl rfl)
theorem dL_law_2221 : decode cL_law 2221 = .ok (.i2l, 1) := dk_133 (dk_at dksL_law_90 2 rfl rfl)
theorem dL_law_2222 : decode cL_law 2222 = .ok (.lcmp, 1) := dk_148 (dk_at dksL_law_90 3 rfl rfl)
theorem dL_law_2223 : decode cL_law 2223 = .ok (.ifCond .eq 5, 3) := dk_153 0 5 (dk_at dksL_law_90 4 rfl rfl)
theorem dL_law_2226 : decode cL_law 2226 = .ok (.iconst 0, 1) := dk_3 (dk_at dksL_law_90 7 rfl rfl)
theorem dL_law_2227 : decode cL_law 2227 = .ok (.ireturn, 1) := dk_172 (dk_at dksL_law_90 8 rfl rfl)
theorem dL_law_2228 : decode cL_law 2228 = .ok (.goto 3, 3) := dk_167 0 3 (dk_at dksL_law_90 9 rfl rfl)
theorem dL_law_2231 : decode cL_law 2231 = .ok (.iinc 5 4, 3) := dk_132 5 4 (dk_at dksL_law_90 12 rfl rfl)
theorem dL_law_2234 : decode cL_law 2234 = .ok (.goto (-2206), 3) := dk_167 247 98 (dk_at dksL_law_90 15 rfl rfl)
theorem dL_law_2237 : decode cL_law 2237 = .ok (.iconst 1, 1) := dk_4 (dk_at dksL_law_90 18 rfl rfl)
theorem dL_law_2238 : decode cL_law 2238 = .ok (.ireturn, 1) := dk_172 (dk_at dksL_law_90 19 rfl rfl)
