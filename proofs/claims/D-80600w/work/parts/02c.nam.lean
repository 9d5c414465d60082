/-! BombFamiliesModel -/
set_option maxRecDepth 100000
def RX6 : String := "BombFamiliesModel"
def TX6 : u_T := fun k => match k with
  | 0 => ("BombFamiliesModel", "seed", "J", false)
  | 1 => ("BombFamiliesModel", "tape", "[I", true)
  | 2 => ("BombFamiliesModel", "size", "I", false)
  | 3 => ("BombFamiliesModel", "out", "[I", true)
  | 4 => ("BombFamiliesModel", "outSize", "I", false)
  | 5 => ("BombFamiliesModel", "most", "I", false)
  | 6 => ("BombFamiliesModel", "limit", "I", false)
  | 7 => ("BombFamiliesModel", "deepest", "I", false)
  | 8 => ("BombFamiliesModel", "fault", "I", false)
  | 9 => ("BombFamiliesModel", "place", "I", false)
  | 10 => ("BombFamiliesModel", "used", "I", false)
  | 11 => ("BombFamiliesModel", "reached", "I", false)
  | 12 => ("BombFamiliesModel", "packs", "I", false)
  | 13 => ("BombFamiliesModel", "reads", "I", false)
  | 14 => ("BombFamiliesModel", "top", "I", false)
  | 15 => ("BombFamiliesModel", "from", "[I", true)
  | 16 => ("BombFamiliesModel", "end", "[I", true)
  | 17 => ("BombFamiliesModel", "next", "[I", true)
  | 18 => ("BombFamiliesModel", "outFrom", "[I", true)
  | 19 => ("BombFamiliesModel", "itemMany", "[I", true)
  | 20 => ("BombFamiliesModel", "came", "[I", true)
  | 21 => ("BombFamiliesModel", "itemAt", "[I", true)
  | 22 => ("BombFamiliesModel", "itemOut", "[I", true)
  | 23 => ("BombFamiliesModel", "itemUsed", "[I", true)
  | 24 => ("BombFamiliesModel", "kinds", "[I", true)
  | 25 => ("BombFamiliesModel", "places", "[I", true)
  | 26 => ("BombFamiliesModel", "cames", "[I", true)
  | 27 => ("BombFamiliesModel", "costs", "[I", true)
  | 28 => ("BombFamiliesModel", "codes", "[I", true)
  | 29 => ("BombFamiliesModel", "kept", "[I", true)
  | _ => ("BombFamiliesModel", "oldPlaces", "[I", true)
def tyX6 : Nat → FieldType := fun k => match k with
  | 0 => .long
  | 1 => .array .int
  | 2 => .int
  | 3 => .array .int
  | 4 => .int
  | 5 => .int
  | 6 => .int
  | 7 => .int
  | 8 => .int
  | 9 => .int
  | 10 => .int
  | 11 => .int
  | 12 => .int
  | 13 => .int
  | 14 => .int
  | 15 => .array .int
  | 16 => .array .int
  | 17 => .array .int
  | 18 => .array .int
  | 19 => .array .int
  | 20 => .array .int
  | 21 => .array .int
  | 22 => .array .int
  | 23 => .array .int
  | 24 => .array .int
  | 25 => .array .int
  | 26 => .array .int
  | 27 => .array .int
  | 28 => .array .int
  | 29 => .array .int
  | _ => .array .int
abbrev wsX60 : List Cond := u_ws RX6 TX6 31
set_option maxRecDepth 100000 in
theorem nmX6 : ∀ a, a < 31 → ∀ b, b < 31 → a ≠ b → (TX6 a).2.1 ≠ (TX6 b).2.1 := by decide +kernel
set_option maxRecDepth 100000 in
theorem tyX6_ok : ∀ k, k < 31 → parseFieldDescriptor (TX6 k).2.2.1 = some (tyX6 k) := by decide +kernel
abbrev cX6_init : ByteArray := prog_8_method_1_code
def yX6_init : MethodName := ⟨RX6, "<init>", "(J)V"⟩
def dkwX6_init_7 : List UInt8 := [181, 0, 68, 177]
abbrev dktX6_init_7 : List UInt8 := dkwX6_init_7 ++ []
def dkwX6_init_6 : List UInt8 := [181, 0, 59, 42, 17, 4, 176, 188, 10, 181, 0, 62, 42, 17, 2, 89, 188, 10, 181, 0, 65, 42, 31]
abbrev dktX6_init_6 : List UInt8 := dkwX6_init_6 ++ dktX6_init_7
def dkwX6_init_5 : List UInt8 := [17, 2, 88, 188, 10, 181, 0, 53, 42, 17, 2, 88, 188, 10, 181, 0, 56, 42, 16, 8, 188, 10]
abbrev dktX6_init_5 : List UInt8 := dkwX6_init_5 ++ dktX6_init_6
def dkwX6_init_4 : List UInt8 := [188, 10, 181, 0, 44, 42, 17, 2, 88, 188, 10, 181, 0, 47, 42, 17, 2, 88, 188, 10, 181, 0, 50, 42]
abbrev dktX6_init_4 : List UInt8 := dkwX6_init_4 ++ dktX6_init_5
def dkwX6_init_3 : List UInt8 := [188, 10, 181, 0, 35, 42, 16, 10, 188, 10, 181, 0, 38, 42, 16, 10, 188, 10, 181, 0, 41, 42, 16, 10]
abbrev dktX6_init_3 : List UInt8 := dkwX6_init_3 ++ dktX6_init_4
def dkwX6_init_2 : List UInt8 := [181, 0, 26, 42, 16, 10, 188, 10, 181, 0, 29, 42, 16, 10, 188, 10, 181, 0, 32, 42, 17, 23, 112]
abbrev dktX6_init_2 : List UInt8 := dkwX6_init_2 ++ dktX6_init_3
def dkwX6_init_1 : List UInt8 := [181, 0, 16, 42, 16, 10, 188, 10, 181, 0, 20, 42, 16, 10, 188, 10, 181, 0, 23, 42, 16, 10, 188, 10]
abbrev dktX6_init_1 : List UInt8 := dkwX6_init_1 ++ dktX6_init_2
def dkwX6_init_0 : List UInt8 := [42, 183, 0, 1, 42, 17, 4, 176, 188, 10, 181, 0, 7, 42, 17, 15, 160, 188, 10, 181, 0, 13, 42, 2]
abbrev dktX6_init_0 : List UInt8 := dkwX6_init_0 ++ dktX6_init_1
theorem dksX6_init_0 : cX6_init.data.toList.drop 0 = dktX6_init_0 := by decide +kernel
theorem dksX6_init_1 : cX6_init.data.toList.drop 24 = dktX6_init_1 := dk_seg dksX6_init_0 24 rfl rfl
theorem dksX6_init_2 : cX6_init.data.toList.drop 48 = dktX6_init_2 := dk_seg dksX6_init_1 24 rfl rfl
theorem dksX6_init_3 : cX6_init.data.toList.drop 71 = dktX6_init_3 := dk_seg dksX6_init_2 23 rfl rfl
theorem dksX6_init_4 : cX6_init.data.toList.drop 95 = dktX6_init_4 := dk_seg dksX6_init_3 24 rfl rfl
theorem dksX6_init_5 : cX6_init.data.toList.drop 119 = dktX6_init_5 := dk_seg dksX6_init_4 24 rfl rfl
theorem dksX6_init_6 : cX6_init.data.toList.drop 141 = dktX6_init_6 := dk_seg dksX6_init_5 22 rfl rfl
theorem dksX6_init_7 : cX6_init.data.toList.drop 164 = dktX6_init_7 := dk_seg dksX6_init_6 23 rfl rfl
theorem dX6_init_0 : decode cX6_init 0 = .ok (.aload_n 0, 1) := dk_42 (dk_at dksX6_init_0 0 rfl rfl)
theorem dX6_init_1 : decode cX6_init 1 = .ok (.invokespecial 1, 3) := dk_183 0 1 (dk_at dksX6_init_0 1 rfl rfl)
theorem dX6_init_4 : decode cX6_init 4 = .ok (.aload_n 0, 1) := dk_42 (dk_at dksX6_init_0 4 rfl rfl)
theorem dX6_init_5 : decode cX6_init 5 = .ok (.sipush 1200, 3) := dk_17 4 176 (dk_at dksX6_init_0 5 rfl rfl)
theorem dX6_init_8 : decode cX6_init 8 = .ok (.newarray .int, 2) := dk_188_10 (dk_at dksX6_init_0 8 rfl rfl)
theorem dX6_init_10 : decode cX6_init 10 = .ok (.putfield 7, 3) := dk_181 0 7 (dk_at dksX6_init_0 10 rfl rfl)
theorem dX6_init_13 : decode cX6_init 13 = .ok (.aload_n 0, 1) := dk_42 (dk_at dksX6_init_0 13 rfl rfl)
theorem dX6_init_14 : decode cX6_init 14 = .ok (.sipush 4000, 3) := dk_17 15 160 (dk_at dksX6_init_0 14 rfl rfl)
theorem dX6_init_17 : decode cX6_init 17 = .ok (.newarray .int, 2) := dk_188_10 (dk_at dksX6_init_0 17 rfl rfl)
theorem dX6_init_19 : decode cX6_init 19 = .ok (.putfield 13, 3) := dk_181 0 13 (dk_at dksX6_init_0 19 rfl rfl)
theorem dX6_init_22 : decode cX6_init 22 = .ok (.aload_n 0, 1) := dk_42 (dk_at dksX6_init_0 22 rfl rfl)
theorem dX6_init_23 : decode cX6_init 23 = .ok (.iconst (-1), 1) := dk_2 (dk_at dksX6_init_0 23 rfl rfl)
theorem dX6_init_24 : decode cX6_init 24 = .ok (.putfield 16, 3) := dk_181 0 16 (dk_at dksX6_init_1 0 rfl rfl)
theorem dX6_init_27 : decode cX6_init 27 = .ok (.aload_n 0, 1) := dk_42 (dk_at dksX6_init_1 3 rfl rfl)
theorem dX6_init_28 : decode cX6_init 28 = .ok (.bipush 10, 2) := dk_16 10 (dk_at dksX6_init_1 4 rfl rfl)
theorem dX6_init_30 : decode cX6_init 30 = .ok (.newarray .int, 2) := dk_188_10 (dk_at dksX6_init_1 6 rfl rfl)
theorem dX6_init_32 : decode cX6_init 32 = .ok (.putfield 20, 3) := dk_181 0 20 (dk_at dksX6_init_1 8 rfl rfl)
theorem dX6_init_35 : decode cX6_init 35 = .ok (.aload_n 0, 1) := dk_42 (dk_at dksX6_init_1 11 rfl rfl)
theorem dX6_init_36 : decode cX6_init 36 = .ok (.bipush 10, 2) := dk_16 10 (dk_at dksX6_init_1 12 rfl rfl)
theorem dX6_init_38 : decode cX6_init 38 = .ok (.newarray .int, 2) := dk_188_10 (dk_at dksX6_init_1 14 rfl rfl)
theorem dX6_init_40 : decode cX6_init 40 = .ok (.putfield 23, 3) := dk_181 0 23 (dk_at dksX6_init_1 16 rfl rfl)
theorem dX6_init_43 : decode cX6_init 43 = .ok (.aload_n 0, 1) := dk_42 (dk_at dksX6_init_1 19 rfl rfl)
theorem dX6_init_44 : decode cX6_init 44 = .ok (.bipush 10, 2) := dk_16 10 (dk_at dksX6_init_1 20 rfl rfl)
theorem dX6_init_46 : decode cX6_init 46 = .ok (.newarray .int, 2) := dk_188_10 (dk_at dksX6_init_1 22 rfl rfl)
theorem dX6_init_48 : decode cX6_init 48 = .ok (.putfield 26, 3) := dk_181 0 26 (dk_at dksX6_init_2 0 rfl rfl)
theorem dX6_init_51 : decode cX6_init 51 = .ok (.aload_n 0, 1) := dk_42 (dk_at dksX6_init_2 3 rfl rfl)
theorem dX6_init_52 : decode cX6_init 52 = .ok (.bipush 10, 2) := dk_16 10 (dk_at dksX6_init_2 4 rfl rfl)
theorem dX6_init_54 : decode cX6_init 54 = .ok (.newarray .int, 2) := dk_188_10 (dk_at dksX6_init_2 6 rfl rfl)
theorem dX6_init_56 : decode cX6_init 56 = .ok (.putfield 29, 3) := dk_181 0 29 (dk_at dksX6_init_2 8 rfl rfl)
theorem dX6_init_59 : decode cX6_init 59 = .ok (.aload_n 0, 1) := dk_42 (dk_at dksX6_init_2 11 rfl rfl)
theorem dX6_init_60 : decode cX6_init 60 = .ok (.bipush 10, 2) := dk_16 10 (dk_at dksX6_init_2 12 rfl rfl)
theorem dX6_init_62 : decode cX6_init 62 = .ok (.newarray .int, 2) := dk_188_10 (dk_at dksX6_init_2 14 rfl rfl)
theorem dX6_init_64 : decode cX6_init 64 = .ok (.putfield 32, 3) := dk_181 0 32 (dk_at dksX6_init_2 16 rfl rfl)
theorem dX6_init_67 : decode cX6_init 67 = .ok (.aload_n 0, 1) := dk_42 (dk_at dksX6_init_2 19 rfl rfl)
theorem dX6_init_68 : decode cX6_init 68 = .ok (.sipush 6000, 3) := dk_17 23 112 (dk_at dksX6_init_2 20 rfl rfl)
theorem dX6_init_71 : decode cX6_init 71 = .ok (.newarray .int, 2) := dk_188_10 (dk_at dksX6_init_3 0 rfl rfl)
theorem dX6_init_73 : decode cX6_init 73 = .ok (.putfield 35, 3) := dk_181 0 35 (dk_at dksX6_init_3 2 rfl rfl)
theorem dX6_init_76 : decode cX6_init 76 = .ok (.aload_n 0, 1) := dk_42 (dk_at dksX6_init_3 5 rfl rfl)
theorem dX6_init_77 : decode cX6_init 77 = .ok (.bipush 10, 2) := dk_16 10 (dk_at dksX6_init_3 6 rfl rfl)
theorem dX6_init_79 : decode cX6_init 79 = .ok (.newarray .int, 2) := dk_188_10 (dk_at dksX6_init_3 8 rfl rfl)
theorem dX6_init_81 : decode cX6_init 81 = .ok (.putfield 38, 3) := dk_181 0 38 (dk_at dksX6_init_3 10 rfl rfl)
theorem dX6_init_84 : decode cX6_init 84 = .ok (.aload_n 0, 1) := dk_42 (dk_at dksX6_init_3 13 rfl rfl)
theorem dX6_init_85 : decode cX6_init 85 = .ok (.bipush 10, 2) := dk_16 10 (dk_at dksX6_init_3 14 rfl rfl)
theorem dX6_init_87 : decode cX6_init 87 = .ok (.newarray .int, 2) := dk_188_10 (dk_at dksX6_init_3 16 rfl rfl)
theorem dX6_init_89 : decode cX6_init 89 = .ok (.putfield 41, 3) := dk_181 0 41 (dk_at dksX6_init_3 18 rfl rfl)
theorem dX6_init_92 : decode cX6_init 92 = .ok (.aload_n 0, 1) := dk_42 (dk_at dksX6_init_3 21 rfl rfl)
theorem dX6_init_93 : decode cX6_init 93 = .ok (.bipush 10, 2) := dk_16 10 (dk_at dksX6_init_3 22 rfl rfl)
theorem dX6_init_95 : decode cX6_init 95 = .ok (.newarray .int, 2) := dk_188_10 (dk_at dksX6_init_4 0 rfl rfl)
theorem dX6_init_97 : decode cX6_init 97 = .ok (.putfield 44, 3) := dk_181 0 44 (dk_at dksX6_init_4 2 rfl rfl)
theorem dX6_init_100 : decode cX6_init 100 = .ok (.aload_n 0, 1) := dk_42 (dk_at dksX6_init_4 5 rfl rfl)
theorem dX6_init_101 : decode cX6_init 101 = .ok (.sipush 600, 3) := dk_17 2 88 (dk_at dksX6_init_4 6 rfl rfl)
theorem dX6_init_104 : decode cX6_init 104 = .ok (.newarray .int, 2) := dk_188_10 (dk_at dksX6_init_4 9 rfl rfl)
theorem dX6_init_106 : decode cX6_init 106 = .ok (.putfield 47, 3) := dk_181 0 47 (dk_at dksX6_init_4 11 rfl rfl)
theorem dX6_init_109 : decode cX6_init 109 = .ok (.aload_n 0, 1) := dk_42 (dk_at dksX6_init_4 14 rfl rfl)
theorem dX6_init_110 : decode cX6_init 110 = .ok (.sipush 600, 3) := dk_17 2 88 (dk_at dksX6_init_4 15 rfl rfl)
theorem dX6_init_113 : decode cX6_init 113 = .ok (.newarray .int, 2) := dk_188_10 (dk_at dksX6_init_4 18 rfl rfl)
theorem dX6_init_115 : decode cX6_init 115 = .ok (.putfield 50, 3) := dk_181 0 50 (dk_at dksX6_init_4 20 rfl rfl)
theorem dX6_init_118 : decode cX6_init 118 = .ok (.aload_n 0, 1) := dk_42 (dk_at dksX6_init_4 23 rfl rfl)
theorem dX6_init_119 : decode cX6_init 119 = .ok (.sipush 600, 3) := dk_17 2 88 (dk_at dksX6_init_5 0 rfl rfl)
theorem dX6_init_122 : decode cX6_init 122 = .ok (.newarray .int, 2) := dk_188_10 (dk_at dksX6_init_5 3 rfl rfl)
theorem dX6_init_124 : decode cX6_init 124 = .ok (.putfield 53, 3) := dk_181 0 53 (dk_at dksX6_init_5 5 rfl rfl)
theorem dX6_init_127 : decode cX6_init 127 = .ok (.aload_n 0, 1) := dk_42 (dk_at dksX6_init_5 8 rfl rfl)
theorem dX6_init_128 : decode cX6_init 128 = .ok (.sipush 600, 3) := dk_17 2 88 (dk_at dksX6_init_5 9 rfl rfl)
theorem dX6_init_131 : decode cX6_init 131 = .ok (.newarray .int, 2) := dk_188_10 (dk_at dksX6_init_5 12 rfl rfl)
theorem dX6_init_133 : decode cX6_init 133 = .ok (.putfield 56, 3) := dk_181 0 56 (dk_at dksX6_init_5 14 rfl rfl)
theorem dX6_init_136 : decode cX6_init 136 = .ok (.aload_n 0, 1) := dk_42 (dk_at dksX6_init_5 17 rfl rfl)
theorem dX6_init_137 : decode cX6_init 137 = .ok (.bipush 8, 2) := dk_16 8 (dk_at dksX6_init_5 18 rfl rfl)
theorem dX6_init_139 : decode cX6_init 139 = .ok (.newarray .int, 2) := dk_188_10 (dk_at dksX6_init_5 20 rfl rfl)
theorem dX6_init_141 : decode cX6_init 141 = .ok (.putfield 59, 3) := dk_181 0 59 (dk_at dksX6_init_6 0 rfl rfl)
theorem dX6_init_144 : decode cX6_init 144 = .ok (.aload_n 0, 1) := dk_42 (dk_at dksX6_init_6 3 rfl rfl)
theorem dX6_init_145 : decode cX6_init 145 = .ok (.sipush 1200, 3) := dk_17 4 176 (dk_at dksX6_init_6 4 rfl rfl)
theorem dX6_init_148 : decode cX6_init 148 = .ok (.newarray .int, 2) := dk_188_10 (dk_at dksX6_init_6 7 rfl rfl)
theorem dX6_init_150 : decode cX6_init 150 = .ok (.putfield 62, 3) := dk_181 0 62 (dk_at dksX6_init_6 9 rfl rfl)
theorem dX6_init_153 : decode cX6_init 153 = .ok (.aload_n 0, 1) := dk_42 (dk_at dksX6_init_6 12 rfl rfl)
theorem dX6_init_154 : decode cX6_init 154 = .ok (.sipush 601, 3) := dk_17 2 89 (dk_at dksX6_init_6 13 rfl rfl)
theorem dX6_init_157 : decode cX6_init 157 = .ok (.newarray .int, 2) := dk_188_10 (dk_at dksX6_init_6 16 rfl rfl)
theorem dX6_init_159 : decode cX6_init 159 = .ok (.putfield 65, 3) := dk_181 0 65 (dk_at dksX6_init_6 18 rfl rfl)
theorem dX6_init_162 : decode cX6_init 162 = .ok (.aload_n 0, 1) := dk_42 (dk_at dksX6_init_6 21 rfl rfl)
theorem dX6_init_163 : decode cX6_init 163 = .ok (.lload_n 1, 1) := dk_31 (dk_at dksX6_init_6 22 rfl rfl)
theorem dX6_init_164 : decode cX6_init 164 = .ok (.putfield 68, 3) := dk_181 0 68 (dk_at dksX6_init_7 0 rfl rfl)
theorem dX6_init_167 : decode cX6_init 167 = .ok (.return_, 1) := dk_177 (dk_at dksX6_init_7 3 rfl rfl)
abbrev cX6_feed : ByteArray := prog_8_method_3_code
def yX6_feed : MethodName := ⟨RX6, "feed", "(IJ)I"⟩
def dkwX6_feed_2 : List UInt8 := [20, 0, 81, 127, 136, 182, 0, 83, 132, 4, 255, 167, 255, 232, 42, 180, 0, 78, 172]
abbrev dktX6_feed_2 : List UInt8 := dkwX6_feed_2 ++ []
def dkwX6_feed_1 : List UInt8 := [164, 0, 6, 16, 252, 172, 27, 4, 100, 54, 4, 21, 4, 155, 0, 25, 42, 32, 16, 8, 21, 4, 104, 123]
abbrev dktX6_feed_1 : List UInt8 := dkwX6_feed_1 ++ dktX6_feed_2
def dkwX6_feed_0 : List UInt8 := [27, 133, 10, 20, 0, 72, 184, 0, 74, 154, 0, 6, 16, 254, 172, 42, 180, 0, 78, 27, 96, 17, 4, 176]
abbrev dktX6_feed_0 : List UInt8 := dkwX6_feed_0 ++ dktX6_feed_1
theorem dksX6_feed_0 : cX6_feed.data.toList.drop 0 = dktX6_feed_0 := by decide +kernel
theorem dksX6_feed_1 : cX6_feed.data.toList.drop 24 = dktX6_feed_1 := dk_seg dksX6_feed_0 24 rfl rfl
theorem dksX6_feed_2 : cX6_feed.data.toList.drop 48 = dktX6_feed_2 := dk_seg dksX6_feed_1 24 rfl rfl
theorem dX6_feed_0 : decode cX6_feed 0 = .ok (.iload_n 1, 1) := dk_27 (dk_at dksX6_feed_0 0 rfl rfl)
theorem dX6_feed_1 : decode cX6_feed 1 = .ok (.i2l, 1) := dk_133 (dk_at dksX6_feed_0 1 rfl rfl)
theorem dX6_feed_2 : decode cX6_feed 2 = .ok (.lconst 1, 1) := dk_10 (dk_at dksX6_feed_0 2 rfl rfl)
theorem dX6_feed_3 : decode cX6_feed 3 = .ok (.ldc2_w 72, 3) := dk_20 0 72 (dk_at dksX6_feed_0 3 rfl rfl)
theorem dX6_feed_6 : decode cX6_feed 6 = .ok (.invokestatic 74, 3) := dk_184 0 74 (dk_at dksX6_feed_0 6 rfl rfl)
theorem dX6_feed_9 : decode cX6_feed 9 = .ok (.ifCond .ne 6, 3) := dk_154 0 6 (dk_at dksX6_feed_0 9 rfl rfl)
theorem dX6_feed_12 : decode cX6_feed 12 = .ok (.bipush (-2), 2) := dk_16 254 (dk_at dksX6_feed_0 12 rfl rfl)
theorem dX6_feed_14 : decode cX6_feed 14 = .ok (.ireturn, 1) := dk_172 (dk_at dksX6_feed_0 14 rfl rfl)
theorem dX6_feed_15 : decode cX6_feed 15 = .ok (.aload_n 0, 1) := dk_42 (dk_at dksX6_feed_0 15 rfl rfl)
theorem dX6_feed_16 : decode cX6_feed 16 = .ok (.getfield 78, 3) := dk_180 0 78 (dk_at dksX6_feed_0 16 rfl rfl)
theorem dX6_feed_19 : decode cX6_feed 19 = .ok (.iload_n 1, 1) := dk_27 (dk_at dksX6_feed_0 19 rfl rfl)
theorem dX6_feed_20 : decode cX6_feed 20 = .ok (.iadd, 1) := dk_96 (dk_at dksX6_feed_0 20 rfl rfl)
theorem dX6_feed_21 : decode cX6_feed 21 = .ok (.sipush 1200, 3) := dk_17 4 176 (dk_at dksX6_feed_0 21 rfl rfl)
theorem dX6_feed_24 : decode cX6_feed 24 = .ok (.if_icmp .le 6, 3) := dk_164 0 6 (dk_at dksX6_feed_1 0 rfl rfl)
theorem dX6_feed_27 : decode cX6_feed 27 = .ok (.bipush (-4), 2) := dk_16 252 (dk_at dksX6_feed_1 3 rfl rfl)
theorem dX6_feed_29 : decode cX6_feed 29 = .ok (.ireturn, 1) := dk_172 (dk_at dksX6_feed_1 5 rfl rfl)
theorem dX6_feed_30 : decode cX6_feed 30 = .ok (.iload_n 1, 1) := dk_27 (dk_at dksX6_feed_1 6 rfl rfl)
theorem dX6_feed_31 : decode cX6_feed 31 = .ok (.iconst 1, 1) := dk_4 (dk_at dksX6_feed_1 7 rfl rfl)
theorem dX6_feed_32 : decode cX6_feed 32 = .ok (.isub, 1) := dk_100 (dk_at dksX6_feed_1 8 rfl rfl)
theorem dX6_feed_33 : decode cX6_feed 33 = .ok (.istore 4, 2) := dk_54 4 (dk_at dksX6_feed_1 9 rfl rfl)
theorem dX6_feed_35 : decode cX6_feed 35 = .ok (.iload 4, 2) := dk_21 4 (dk_at dksX6_feed_1 11 rfl rfl)
theorem dX6_feed_37 : decode cX6_feed 37 = .ok (.ifCond .lt 25, 3) := dk_155 0 25 (dk_at dksX6_feed_1 13 rfl rfl)
theorem dX6_feed_40 : decode cX6_feed 40 = .ok (.aload_n 0, 1) := dk_42 (dk_at dksX6_feed_1 16 rfl rfl)
theorem dX6_feed_41 : decode cX6_feed 41 = .ok (.lload_n 2, 1) := dk_32 (dk_at dksX6_feed_1 17 rfl rfl)
theorem dX6_feed_42 : decode cX6_feed 42 = .ok (.bipush 8, 2) := dk_16 8 (dk_at dksX6_feed_1 18 rfl rfl)
theorem dX6_feed_44 : decode cX6_feed 44 = .ok (.iload 4, 2) := dk_21 4 (dk_at dksX6_feed_1 20 rfl rfl)
theorem dX6_feed_46 : decode cX6_feed 46 = .ok (.imul, 1) := dk_104 (dk_at dksX6_feed_1 22 rfl rfl)
theorem dX6_feed_47 : decode cX6_feed 47 = .ok (.lshr, 1) := dk_123 (dk_at dksX6_feed_1 23 rfl rfl)
theorem dX6_feed_48 : decode cX6_feed 48 = .ok (.ldc2_w 81, 3) := dk_20 0 81 (dk_at dksX6_feed_2 0 rfl rfl)
theorem dX6_feed_51 : decode cX6_feed 51 = .ok (.land, 1) := dk_127 (dk_at dksX6_feed_2 3 rfl rfl)
theorem dX6_feed_52 : decode cX6_feed 52 = .ok (.l2i, 1) := dk_136 (dk_at dksX6_feed_2 4 rfl rfl)
theorem dX6_feed_53 : decode cX6_feed 53 = .ok (.invokevirtual 83, 3) := dk_182 0 83 (dk_at dksX6_feed_2 5 rfl rfl)
theorem dX6_feed_56 : decode cX6_feed 56 = .ok (.iinc 4 (-1), 3) := dk_132 4 255 (dk_at dksX6_feed_2 8 rfl rfl)
theorem dX6_feed_59 : decode cX6_feed 59 = .ok (.goto (-24), 3) := dk_167 255 232 (dk_at dksX6_feed_2 11 rfl rfl)
theorem dX6_feed_62 : decode cX6_feed 62 = .ok (.aload_n 0, 1) := dk_42 (dk_at dksX6_feed_2 14 rfl rfl)
theorem dX6_feed_63 : decode cX6_feed 63 = .ok (.getfield 78, 3) := dk_180 0 78 (dk_at dksX6_feed_2 15 rfl rfl)
theorem dX6_feed_66 : decode cX6_feed 66 = .ok (.ireturn, 1) := dk_172 (dk_at dksX6_feed_2 18 rfl rfl)
abbrev cX6_in : ByteArray := prog_8_method_2_code
def yX6_in : MethodName := ⟨RX6, "in", "(JJJ)Z"⟩
def dkwX6_in_0 : List UInt8 := [30, 32, 148, 155, 0, 14, 30, 22, 4, 148, 157, 0, 7, 4, 167, 0, 4, 3, 172]
abbrev dktX6_in_0 : List UInt8 := dkwX6_in_0 ++ []
theorem dksX6_in_0 : cX6_in.data.toList.drop 0 = dktX6_in_0 := by decide +kernel
theorem dX6_in_0 : decode cX6_in 0 = .ok (.lload_n 0, 1) := dk_30 (dk_at dksX6_in_0 0 rfl rfl)
theorem dX6_in_1 : decode cX6_in 1 = .ok (.lload_n 2, 1) := dk_32 (dk_at dksX6_in_0 1 rfl rfl)
theorem dX6_in_2 : decode cX6_in 2 = .ok (.lcmp, 1) := dk_148 (dk_at dksX6_in_0 2 rfl rfl)
theorem dX6_in_3 : decode cX6_in 3 = .ok (.ifCond .lt 14, 3) := dk_155 0 14 (dk_at dksX6_in_0 3 rfl rfl)
theorem dX6_in_6 : decode cX6_in 6 = .ok (.lload_n 0, 1) := dk_30 (dk_at dksX6_in_0 6 rfl rfl)
theorem dX6_in_7 : decode cX6_in 7 = .ok (.lload 4, 2) := dk_22 4 (dk_at dksX6_in_0 7 rfl rfl)
theorem dX6_in_9 : decode cX6_in 9 = .ok (.lcmp, 1) := dk_148 (dk_at dksX6_in_0 9 rfl rfl)
theorem dX6_in_10 : decode cX6_in 10 = .ok (.ifCond .gt 7, 3) := dk_157 0 7 (dk_at dksX6_in_0 10 rfl rfl)
theorem dX6_in_13 : decode cX6_in 13 = .ok (.iconst 1, 1) := dk_4 (dk_at dksX6_in_0 13 rfl rfl)
theorem dX6_in_14 : decode cX6_in 14 = .ok (.goto 4, 3) := dk_167 0 4 (dk_at dksX6_in_0 14 rfl rfl)
theorem dX6_in_17 : decode cX6_in 17 = .ok (.iconst 0, 1) := dk_3 (dk_at dksX6_in_0 17 rfl rfl)
theorem dX6_in_18 : decode cX6_in 18 = .ok (.ireturn, 1) := dk_172 (dk_at dksX6_in_0 18 rfl rfl)
abbrev cX6_lay : ByteArray := prog_8_method_4_code
def yX6_lay : MethodName := ⟨RX6, "lay", "(I)V"⟩
def dkwX6_lay_0 : List UInt8 := [42, 180, 0, 7, 42, 180, 0, 78, 27, 79, 42, 89, 180, 0, 78, 4, 96, 181, 0, 78, 177]
abbrev dktX6_lay_0 : List UInt8 := dkwX6_lay_0 ++ []
theorem dksX6_lay_0 : cX6_lay.data.toList.drop 0 = dktX6_lay_0 := by decide +kernel
theorem dX6_lay_0 : decode cX6_lay 0 = .ok (.aload_n 0, 1) := dk_42 (dk_at dksX6_lay_0 0 rfl rfl)
theorem dX6_lay_1 : decode cX6_lay 1 = .ok (.getfield 7, 3) := dk_180 0 7 (dk_at dksX6_lay_0 1 rfl rfl)
theorem dX6_lay_4 : decode cX6_lay 4 = .ok (.aload_n 0, 1) := dk_42 (dk_at dksX6_lay_0 4 rfl rfl)
theorem dX6_lay_5 : decode cX6_lay 5 = .ok (.getfield 78, 3) := dk_180 0 78 (dk_at dksX6_lay_0 5 rfl rfl)
theorem dX6_lay_8 : decode cX6_lay 8 = .ok (.iload_n 1, 1) := dk_27 (dk_at dksX6_lay_0 8 rfl rfl)
theorem dX6_lay_9 : decode cX6_lay 9 = .ok (.iastore, 1) := dk_79 (dk_at dksX6_lay_0 9 rfl rfl)
theorem dX6_lay_10 : decode cX6_lay 10 = .ok (.aload_n 0, 1) := dk_42 (dk_at dksX6_lay_0 10 rfl rfl)
theorem dX6_lay_11 : decode cX6_lay 11 = .ok (.dup, 1) := dk_89 (dk_at dksX6_lay_0 11 rfl rfl)
theorem dX6_lay_12 : decode cX6_lay 12 = .ok (.getfield 78, 3) := dk_180 0 78 (dk_at dksX6_lay_0 12 rfl rfl)
theorem dX6_lay_15 : decode cX6_lay 15 = .ok (.iconst 1, 1) := dk_4 (dk_at dksX6_lay_0 15 rfl rfl)
theorem dX6_lay_16 : decode cX6_lay 16 = .ok (.iadd, 1) := dk_96 (dk_at dksX6_lay_0 16 rfl rfl)
theorem dX6_lay_17 : decode cX6_lay 17 = .ok (.putfield 78, 3) := dk_181 0 78 (dk_at dksX6_lay_0 17 rfl rfl)
theorem dX6_lay_20 : decode cX6_lay 20 = .ok (.return_, 1) := dk_177 (dk_at dksX6_lay_0 20 rfl rfl)
abbrev cX6_cut : ByteArray := prog_8_method_5_code
def yX6_cut : MethodName := ⟨RX6, "cut", "(I)I"⟩
def dkwX6_cut_1 : List UInt8 := [42, 27, 181, 0, 78, 28, 172]
abbrev dktX6_cut_1 : List UInt8 := dkwX6_cut_1 ++ []
def dkwX6_cut_0 : List UInt8 := [27, 133, 9, 42, 180, 0, 78, 133, 184, 0, 74, 154, 0, 6, 16, 254, 172, 42, 180, 0, 78, 27, 100, 61]
abbrev dktX6_cut_0 : List UInt8 := dkwX6_cut_0 ++ dktX6_cut_1
theorem dksX6_cut_0 : cX6_cut.data.toList.drop 0 = dktX6_cut_0 := by decide +kernel
theorem dksX6_cut_1 : cX6_cut.data.toList.drop 24 = dktX6_cut_1 := dk_seg dksX6_cut_0 24 rfl rfl
theorem dX6_cut_0 : decode cX6_cut 0 = .ok (.iload_n 1, 1) := dk_27 (dk_at dksX6_cut_0 0 rfl rfl)
theorem dX6_cut_1 : decode cX6_cut 1 = .ok (.i2l, 1) := dk_133 (dk_at dksX6_cut_0 1 rfl rfl)
theorem dX6_cut_2 : decode cX6_cut 2 = .ok (.lconst 0, 1) := dk_9 (dk_at dksX6_cut_0 2 rfl rfl)
theorem dX6_cut_3 : decode cX6_cut 3 = .ok (.aload_n 0, 1) := dk_42 (dk_at dksX6_cut_0 3 rfl rfl)
theorem dX6_cut_4 : decode cX6_cut 4 = .ok (.getfield 78, 3) := dk_180 0 78 (dk_at dksX6_cut_0 4 rfl rfl)
theorem dX6_cut_7 : decode cX6_cut 7 = .ok (.i2l, 1) := dk_133 (dk_at dksX6_cut_0 7 rfl rfl)
theorem dX6_cut_8 : decode cX6_cut 8 = .ok (.invokestatic 74, 3) := dk_184 0 74 (dk_at dksX6_cut_0 8 rfl rfl)
theorem dX6_cut_11 : decode cX6_cut 11 = .ok (.ifCond .ne 6, 3) := dk_154 0 6 (dk_at dksX6_cut_0 11 rfl rfl)
theorem dX6_cut_14 : decode cX6_cut 14 = .ok (.bipush (-2), 2) := dk_16 254 (dk_at dksX6_cut_0 14 rfl rfl)
theorem dX6_cut_16 : decode cX6_cut 16 = .ok (.ireturn, 1) := dk_172 (dk_at dksX6_cut_0 16 rfl rfl)
theorem dX6_cut_17 : decode cX6_cut 17 = .ok (.aload_n 0, 1) := dk_42 (dk_at dksX6_cut_0 17 rfl rfl)
theorem dX6_cut_18 : decode cX6_cut 18 = .ok (.getfield 78, 3) := dk_180 0 78 (dk_at dksX6_cut_0 18 rfl rfl)
theorem dX6_cut_21 : decode cX6_cut 21 = .ok (.iload_n 1, 1) := dk_27 (dk_at dksX6_cut_0 21 rfl rfl)
theorem dX6_cut_22 : decode cX6_cut 22 = .ok (.isub, 1) := dk_100 (dk_at dksX6_cut_0 22 rfl rfl)
theorem dX6_cut_23 : decode cX6_cut 23 = .ok (.istore_n 2, 1) := dk_61 (dk_at dksX6_cut_0 23 rfl rfl)
theorem dX6_cut_24 : decode cX6_cut 24 = .ok (.aload_n 0, 1) := dk_42 (dk_at dksX6_cut_1 0 rfl rfl)
theorem dX6_cut_25 : decode cX6_cut 25 = .ok (.iload_n 1, 1) := dk_27 (dk_at dksX6_cut_1 1 rfl rfl)
theorem dX6_cut_26 : decode cX6_cut 26 = .ok (.putfield 78, 3) := dk_181 0 78 (dk_at dksX6_cut_1 2 rfl rfl)
theorem dX6_cut_29 : decode cX6_cut 29 = .ok (.iload_n 2, 1) := dk_28 (dk_at dksX6_cut_1 5 rfl rfl)
theorem dX6_cut_30 : decode cX6_cut 30 = .ok (.ireturn, 1) := dk_172 (dk_at dksX6_cut_1 6 rfl rfl)
abbrev cX6_alter : ByteArray := prog_8_method_6_code
def yX6_alter : MethodName := ⟨RX6, "alter", "(II)I"⟩
def dkwX6_alter_2 : List UInt8 := [172]
abbrev dktX6_alter_2 : List UInt8 := dkwX6_alter_2 ++ []
def dkwX6_alter_1 : List UInt8 := [184, 0, 74, 154, 0, 6, 16, 254, 172, 42, 180, 0, 7, 27, 46, 62, 42, 180, 0, 7, 27, 28, 79, 29]
abbrev dktX6_alter_1 : List UInt8 := dkwX6_alter_1 ++ dktX6_alter_2
def dkwX6_alter_0 : List UInt8 := [27, 133, 9, 42, 180, 0, 78, 4, 100, 133, 184, 0, 74, 153, 0, 15, 28, 133, 9, 20, 0, 81]
abbrev dktX6_alter_0 : List UInt8 := dkwX6_alter_0 ++ dktX6_alter_1
theorem dksX6_alter_0 : cX6_alter.data.toList.drop 0 = dktX6_alter_0 := by decide +kernel
theorem dksX6_alter_1 : cX6_alter.data.toList.drop 22 = dktX6_alter_1 := dk_seg dksX6_alter_0 22 rfl rfl
theorem dksX6_alter_2 : cX6_alter.data.toList.drop 46 = dktX6_alter_2 := dk_seg dksX6_alter_1 24 rfl rfl
theorem dX6_alter_0 : decode cX6_alter 0 = .ok (.iload_n 1, 1) := dk_27 (dk_at dksX6_alter_0 0 rfl rfl)
theorem dX6_alter_1 : decode cX6_alter 1 = .ok (.i2l, 1) := dk_133 (dk_at dksX6_alter_0 1 rfl rfl)
theorem dX6_alter_2 : decode cX6_alter 2 = .ok (.lconst 0, 1) := dk_9 (dk_at dksX6_alter_0 2 rfl rfl)
theorem dX6_alter_3 : decode cX6_alter 3 = .ok (.aload_n 0, 1) := dk_42 (dk_at dksX6_alter_0 3 rfl rfl)
theorem dX6_alter_4 : decode cX6_alter 4 = .ok (.getfield 78, 3) := dk_180 0 78 (dk_at dksX6_alter_0 4 rfl rfl)
theorem dX6_alter_7 : decode cX6_alter 7 = .ok (.iconst 1, 1) := dk_4 (dk_at dksX6_alter_0 7 rfl rfl)
theorem dX6_alter_8 : decode cX6_alter 8 = .ok (.isub, 1) := dk_100 (dk_at dksX6_alter_0 8 rfl rfl)
theorem dX6_alter_9 : decode cX6_alter 9 = .ok (.i2l, 1) := dk_133 (dk_at dksX6_alter_0 9 rfl rfl)
theorem dX6_alter_10 : decode cX6_alter 10 = .ok (.invokestatic 74, 3) := dk_184 0 74 (dk_at dksX6_alter_0 10 rfl rfl)
theorem dX6_alter_13 : decode cX6_alter 13 = .ok (.ifCond .eq 15, 3) := dk_153 0 15 (dk_at dksX6_alter_0 13 rfl rfl)
theorem dX6_alter_16 : decode cX6_alter 16 = .ok (.iload_n 2, 1) := dk_28 (dk_at dksX6_alter_0 16 rfl rfl)
theorem dX6_alter_17 : decode cX6_alter 17 = .ok (.i2l, 1) := dk_133 (dk_at dksX6_alter_0 17 rfl rfl)
theorem dX6_alter_18 : decode cX6_alter 18 = .ok (.lconst 0, 1) := dk_9 (dk_at dksX6_alter_0 18 rfl rfl)
theorem dX6_alter_19 : decode cX6_alter 19 = .ok (.ldc2_w 81, 3) := dk_20 0 81 (dk_at dksX6_alter_0 19 rfl rfl)
theorem dX6_alter_22 : decode cX6_alter 22 = .ok (.invokestatic 74, 3) := dk_184 0 74 (dk_at dksX6_alter_1 0 rfl rfl)
theorem dX6_alter_25 : decode cX6_alter 25 = .ok (.ifCond .ne 6, 3) := dk_154 0 6 (dk_at dksX6_alter_1 3 rfl rfl)
theorem dX6_alter_28 : decode cX6_alter 28 = .ok (.bipush (-2), 2) := dk_16 254 (dk_at dksX6_alter_1 6 rfl rfl)
theorem dX6_alter_30 : decode cX6_alter 30 = .ok (.ireturn, 1) := dk_172 (dk_at dksX6_alter_1 8 rfl rfl)
theorem dX6_alter_31 : decode cX6_alter 31 = .ok (.aload_n 0, 1) := dk_42 (dk_at dksX6_alter_1 9 rfl rfl)
theorem dX6_alter_32 : decode cX6_alter 32 = .ok (.getfield 7, 3) := dk_180 0 7 (dk_at dksX6_alter_1 10 rfl rfl)
theorem dX6_alter_35 : decode cX6_alter 35 = .ok (.iload_n 1, 1) := dk_27 (dk_at dksX6_alter_1 13 rfl rfl)
theorem dX6_alter_36 : decode cX6_alter 36 = .ok (.iaload, 1) := dk_46 (dk_at dksX6_alter_1 14 rfl rfl)
theorem dX6_alter_37 : decode cX6_alter 37 = .ok (.istore_n 3, 1) := dk_62 (dk_at dksX6_alter_1 15 rfl rfl)
theorem dX6_alter_38 : decode cX6_alter 38 = .ok (.aload_n 0, 1) := dk_42 (dk_at dksX6_alter_1 16 rfl rfl)
theorem dX6_alter_39 : decode cX6_alter 39 = .ok (.getfield 7, 3) := dk_180 0 7 (dk_at dksX6_alter_1 17 rfl rfl)
theorem dX6_alter_42 : decode cX6_alter 42 = .ok (.iload_n 1, 1) := dk_27 (dk_at dksX6_alter_1 20 rfl rfl)
theorem dX6_alter_43 : decode cX6_alter 43 = .ok (.iload_n 2, 1) := dk_28 (dk_at dksX6_alter_1 21 rfl rfl)
theorem dX6_alter_44 : decode cX6_alter 44 = .ok (.iastore, 1) := dk_79 (dk_at dksX6_alter_1 22 rfl rfl)
theorem dX6_alter_45 : decode cX6_alter 45 = .ok (.iload_n 3, 1) := dk_29 (dk_at dksX6_alter_1 23 rfl rfl)
theorem dX6_alter_46 : decode cX6_alter 46 = .ok (.ireturn, 1) := dk_172 (dk_at dksX6_alter_2 0 rfl rfl)
abbrev cX6_at : ByteArray := prog_8_method_7_code
def yX6_at : MethodName := ⟨RX6, "at", "(I)I"⟩
def dkwX6_at_1 : List UInt8 := [167, 0, 4, 2, 172]
abbrev dktX6_at_1 : List UInt8 := dkwX6_at_1 ++ []
def dkwX6_at_0 : List UInt8 := [27, 133, 9, 42, 180, 0, 78, 4, 100, 133, 184, 0, 74, 153, 0, 12, 42, 180, 0, 7, 27, 46]
abbrev dktX6_at_0 : List UInt8 := dkwX6_at_0 ++ dktX6_at_1
theorem dksX6_at_0 : cX6_at.data.toList.drop 0 = dktX6_at_0 := by decide +kernel
theorem dksX6_at_1 : cX6_at.data.toList.drop 22 = dktX6_at_1 := dk_seg dksX6_at_0 22 rfl rfl
theorem dX6_at_0 : decode cX6_at 0 = .ok (.iload_n 1, 1) := dk_27 (dk_at dksX6_at_0 0 rfl rfl)
theorem dX6_at_1 : decode cX6_at 1 = .ok (.i2l, 1) := dk_133 (dk_at dksX6_at_0 1 rfl rfl)
theorem dX6_at_2 : decode cX6_at 2 = .ok (.lconst 0, 1) := dk_9 (dk_at dksX6_at_0 2 rfl rfl)
theorem dX6_at_3 : decode cX6_at 3 = .ok (.aload_n 0, 1) := dk_42 (dk_at dksX6_at_0 3 rfl rfl)
theorem dX6_at_4 : decode cX6_at 4 = .ok (.getfield 78, 3) := dk_180 0 78 (dk_at dksX6_at_0 4 rfl rfl)
theorem dX6_at_7 : decode cX6_at 7 = .ok (.iconst 1, 1) := dk_4 (dk_at dksX6_at_0 7 rfl rfl)
theorem dX6_at_8 : decode cX6_at 8 = .ok (.isub, 1) := dk_100 (dk_at dksX6_at_0 8 rfl rfl)
theorem dX6_at_9 : decode cX6_at 9 = .ok (.i2l, 1) := dk_133 (dk_at dksX6_at_0 9 rfl rfl)
theorem dX6_at_10 : decode cX6_at 10 = .ok (.invokestatic 74, 3) := dk_184 0 74 (dk_at dksX6_at_0 10 rfl rfl)
theorem dX6_at_13 : decode cX6_at 13 = .ok (.ifCond .eq 12, 3) := dk_153 0 12 (dk_at dksX6_at_0 13 rfl rfl)
theorem dX6_at_16 : decode cX6_at 16 = .ok (.aload_n 0, 1) := dk_42 (dk_at dksX6_at_0 16 rfl rfl)
theorem dX6_at_17 : decode cX6_at 17 = .ok (.getfield 7, 3) := dk_180 0 7 (dk_at dksX6_at_0 17 rfl rfl)
theorem dX6_at_20 : decode cX6_at 20 = .ok (.iload_n 1, 1) := dk_27 (dk_at dksX6_at_0 20 rfl rfl)
theorem dX6_at_21 : decode cX6_at 21 = .ok (.iaload, 1) := dk_46 (dk_at dksX6_at_0 21 rfl rfl)
theorem dX6_at_22 : decode cX6_at 22 = .ok (.goto 4, 3) := dk_167 0 4 (dk_at dksX6_at_1 0 rfl rfl)
theorem dX6_at_25 : decode cX6_at 25 = .ok (.iconst (-1), 1) := dk_2 (dk_at dksX6_at_1 3 rfl rfl)
theorem dX6_at_26 : decode cX6_at 26 = .ok (.ireturn, 1) := dk_172 (dk_at dksX6_at_1 4 rfl rfl)
abbrev cX6_mend : ByteArray := prog_8_method_9_code
def yX6_mend : MethodName := ⟨RX6, "mend", "()I"⟩
def dkwX6_mend_1 : List UInt8 := [180, 0, 78, 4, 100, 182, 0, 87, 79, 42, 180, 0, 7, 42, 180, 0, 78, 4, 100, 46, 172]
abbrev dktX6_mend_1 : List UInt8 := dkwX6_mend_1 ++ []
def dkwX6_mend_0 : List UInt8 := [42, 180, 0, 78, 154, 0, 6, 16, 253, 172, 42, 180, 0, 7, 42, 180, 0, 78, 4, 100, 42, 3, 42]
abbrev dktX6_mend_0 : List UInt8 := dkwX6_mend_0 ++ dktX6_mend_1
theorem dksX6_mend_0 : cX6_mend.data.toList.drop 0 = dktX6_mend_0 := by decide +kernel
theorem dksX6_mend_1 : cX6_mend.data.toList.drop 23 = dktX6_mend_1 := dk_seg dksX6_mend_0 23 rfl rfl
theorem dX6_mend_0 : decode cX6_mend 0 = .ok (.aload_n 0, 1) := dk_42 (dk_at dksX6_mend_0 0 rfl rfl)
theorem dX6_mend_1 : decode cX6_mend 1 = .ok (.getfield 78, 3) := dk_180 0 78 (dk_at dksX6_mend_0 1 rfl rfl)
theorem dX6_mend_4 : decode cX6_mend 4 = .ok (.ifCond .ne 6, 3) := dk_154 0 6 (dk_at dksX6_mend_0 4 rfl rfl)
theorem dX6_mend_7 : decode cX6_mend 7 = .ok (.bipush (-3), 2) := dk_16 253 (dk_at dksX6_mend_0 7 rfl rfl)
theorem dX6_mend_9 : decode cX6_mend 9 = .ok (.ireturn, 1) := dk_172 (dk_at dksX6_mend_0 9 rfl rfl)
theorem dX6_mend_10 : decode cX6_mend 10 = .ok (.aload_n 0, 1) := dk_42 (dk_at dksX6_mend_0 10 rfl rfl)
theorem dX6_mend_11 : decode cX6_mend 11 = .ok (.getfield 7, 3) := dk_180 0 7 (dk_at dksX6_mend_0 11 rfl rfl)
theorem dX6_mend_14 : decode cX6_mend 14 = .ok (.aload_n 0, 1) := dk_42 (dk_at dksX6_mend_0 14 rfl rfl)
theorem dX6_mend_15 : decode cX6_mend 15 = .ok (.getfield 78, 3) := dk_180 0 78 (dk_at dksX6_mend_0 15 rfl rfl)
theorem dX6_mend_18 : decode cX6_mend 18 = .ok (.iconst 1, 1) := dk_4 (dk_at dksX6_mend_0 18 rfl rfl)
theorem dX6_mend_19 : decode cX6_mend 19 = .ok (.isub, 1) := dk_100 (dk_at dksX6_mend_0 19 rfl rfl)
theorem dX6_mend_20 : decode cX6_mend 20 = .ok (.aload_n 0, 1) := dk_42 (dk_at dksX6_mend_0 20 rfl rfl)
theorem dX6_mend_21 : decode cX6_mend 21 = .ok (.iconst 0, 1) := dk_3 (dk_at dksX6_mend_0 21 rfl rfl)
theorem dX6_mend_22 : decode cX6_mend 22 = .ok (.aload_n 0, 1) := dk_42 (dk_at dksX6_mend_0 22 rfl rfl)
theorem dX6_mend_23 : decode cX6_mend 23 = .ok (.getfield 78, 3) := dk_180 0 78 (dk_at dksX6_mend_1 0 rfl rfl)
theorem dX6_mend_26 : decode cX6_mend 26 = .ok (.iconst 1, 1) := dk_4 (dk_at dksX6_mend_1 3 rfl rfl)
theorem dX6_mend_27 : decode cX6_mend 27 = .ok (.isub, 1) := dk_100 (dk_at dksX6_mend_1 4 rfl rfl)
theorem dX6_mend_28 : decode cX6_mend 28 = .ok (.invokevirtual 87, 3) := dk_182 0 87 (dk_at dksX6_mend_1 5 rfl rfl)
theorem dX6_mend_31 : decode cX6_mend 31 = .ok (.iastore, 1) := dk_79 (dk_at dksX6_mend_1 8 rfl rfl)
theorem dX6_mend_32 : decode cX6_mend 32 = .ok (.aload_n 0, 1) := dk_42 (dk_at dksX6_mend_1 9 rfl rfl)
theorem dX6_mend_33 : decode cX6_mend 33 = .ok (.getfield 7, 3) := dk_180 0 7 (dk_at dksX6_mend_1 10 rfl rfl)
theorem dX6_mend_36 : decode cX6_mend 36 = .ok (.aload_n 0, 1) := dk_42 (dk_at dksX6_mend_1 13 rfl rfl)
theorem dX6_mend_37 : decode cX6_mend 37 = .ok (.getfield 78, 3) := dk_180 0 78 (dk_at dksX6_mend_1 14 rfl rfl)
theorem dX6_mend_40 : decode cX6_mend 40 = .ok (.iconst 1, 1) := dk_4 (dk_at dksX6_mend_1 17 rfl rfl)
theorem dX6_mend_41 : decode cX6_mend 41 = .ok (.isub, 1) := dk_100 (dk_at dksX6_mend_1 18 rfl rfl)
theorem dX6_mend_42 : decode cX6_mend 42 = .ok (.iaload, 1) := dk_46 (dk_at dksX6_mend_1 19 rfl rfl)
theorem dX6_mend_43 : decode cX6_mend 43 = .ok (.ireturn, 1) := dk_172 (dk_at dksX6_mend_1 20 rfl rfl)
abbrev cX6_sumOf : ByteArray := prog_8_method_8_code
def yX6_sumOf : MethodName := ⟨RX6, "sumOf", "(II)I"⟩
def dkwX6_sumOf_1 : List UInt8 := [167, 255, 237, 29, 17, 0, 255, 126, 172]
abbrev dktX6_sumOf_1 : List UInt8 := dkwX6_sumOf_1 ++ []
def dkwX6_sumOf_0 : List UInt8 := [3, 62, 27, 54, 4, 21, 4, 28, 162, 0, 19, 29, 42, 180, 0, 7, 21, 4, 46, 96, 62, 132, 4, 1]
abbrev dktX6_sumOf_0 : List UInt8 := dkwX6_sumOf_0 ++ dktX6_sumOf_1
theorem dksX6_sumOf_0 : cX6_sumOf.data.toList.drop 0 = dktX6_sumOf_0 := by decide +kernel
theorem dksX6_sumOf_1 : cX6_sumOf.data.toList.drop 24 = dktX6_sumOf_1 := dk_seg dksX6_sumOf_0 24 rfl rfl
theorem dX6_sumOf_0 : decode cX6_sumOf 0 = .ok (.iconst 0, 1) := dk_3 (dk_at dksX6_sumOf_0 0 rfl rfl)
theorem dX6_sumOf_1 : decode cX6_sumOf 1 = .ok (.istore_n 3, 1) := dk_62 (dk_at dksX6_sumOf_0 1 rfl rfl)
theorem dX6_sumOf_2 : decode cX6_sumOf 2 = .ok (.iload_n 1, 1) := dk_27 (dk_at dksX6_sumOf_0 2 rfl rfl)
theorem dX6_sumOf_3 : decode cX6_sumOf 3 = .ok (.istore 4, 2) := dk_54 4 (dk_at dksX6_sumOf_0 3 rfl rfl)
theorem dX6_sumOf_5 : decode cX6_sumOf 5 = .ok (.iload 4, 2) := dk_21 4 (dk_at dksX6_sumOf_0 5 rfl rfl)
theorem dX6_sumOf_7 : decode cX6_sumOf 7 = .ok (.iload_n 2, 1) := dk_28 (dk_at dksX6_sumOf_0 7 rfl rfl)
theorem dX6_sumOf_8 : decode cX6_sumOf 8 = .ok (.if_icmp .ge 19, 3) := dk_162 0 19 (dk_at dksX6_sumOf_0 8 rfl rfl)
theorem dX6_sumOf_11 : decode cX6_sumOf 11 = .ok (.iload_n 3, 1) := dk_29 (dk_at dksX6_sumOf_0 11 rfl rfl)
theorem dX6_sumOf_12 : decode cX6_sumOf 12 = .ok (.aload_n 0, 1) := dk_42 (dk_at dksX6_sumOf_0 12 rfl rfl)
theorem dX6_sumOf_13 : decode cX6_sumOf 13 = .ok (.getfield 7, 3) := dk_180 0 7 (dk_at dksX6_sumOf_0 13 rfl rfl)
theorem dX6_sumOf_16 : decode cX6_sumOf 16 = .ok (.iload 4, 2) := dk_21 4 (dk_at dksX6_sumOf_0 16 rfl rfl)
theorem dX6_sumOf_18 : decode cX6_sumOf 18 = .ok (.iaload, 1) := dk_46 (dk_at dksX6_sumOf_0 18 rfl rfl)
theorem dX6_sumOf_19 : decode cX6_sumOf 19 = .ok (.iadd, 1) := dk_96 (dk_at dksX6_sumOf_0 19 rfl rfl)
theorem dX6_sumOf_20 : decode cX6_sumOf 20 = .ok (.istore_n 3, 1) := dk_62 (dk_at dksX6_sumOf_0 20 rfl rfl)
theorem dX6_sumOf_21 : decode cX6_sumOf 21 = .ok (.iinc 4 1, 3) := dk_132 4 1 (dk_at dksX6_sumOf_0 21 rfl rfl)
theorem dX6_sumOf_24 : decode cX6_sumOf 24 = .ok (.goto (-19), 3) := dk_167 255 237 (dk_at dksX6_sumOf_1 0 rfl rfl)
theorem dX6_sumOf_27 : decode cX6_sumOf 27 = .ok (.iload_n 3, 1) := dk_29 (dk_at dksX6_sumOf_1 3 rfl rfl)
theorem dX6_sumOf_28 : decode cX6_sumOf 28 = .ok (.sipush 255, 3) := dk_17 0 255 (dk_at dksX6_sumOf_1 4 rfl rfl)
theorem dX6_sumOf_31 : decode cX6_sumOf 31 = .ok (.iand, 1) := dk_126 (dk_at dksX6_sumOf_1 7 rfl rfl)
theorem dX6_sumOf_32 : decode cX6_sumOf 32 = .ok (.ireturn, 1) := dk_172 (dk_at dksX6_sumOf_1 8 rfl rfl)
abbrev cX6_draw : ByteArray := prog_8_method_17_code
def yX6_draw : MethodName := ⟨RX6, "draw", "(II)I"⟩
def dkwX6_draw_6 : List UInt8 := [42, 180, 0, 7, 42, 180, 0, 78, 4, 100, 46, 4, 96, 17, 0, 255, 126, 79, 42, 180, 0, 78, 172]
abbrev dktX6_draw_6 : List UInt8 := dkwX6_draw_6 ++ []
def dkwX6_draw_5 : List UInt8 := [182, 0, 99, 96, 100, 181, 0, 78, 27, 16, 8, 160, 0, 31, 42, 180, 0, 7, 42, 180, 0, 78, 4, 100]
abbrev dktX6_draw_5 : List UInt8 := dkwX6_draw_5 ++ dktX6_draw_6
def dkwX6_draw_4 : List UInt8 := [27, 28, 182, 0, 119, 42, 3, 182, 0, 106, 27, 16, 7, 160, 0, 19, 42, 89, 180, 0, 78, 4, 42, 7]
abbrev dktX6_draw_4 : List UInt8 := dkwX6_draw_4 ++ dktX6_draw_5
def dkwX6_draw_3 : List UInt8 := [162, 0, 20, 42, 42, 17, 1, 0, 182, 0, 99, 182, 0, 83, 132, 3, 1, 167, 255, 237, 167, 0, 9, 42]
abbrev dktX6_draw_3 : List UInt8 := dkwX6_draw_3 ++ dktX6_draw_4
def dkwX6_draw_2 : List UInt8 := [16, 80, 16, 75, 182, 0, 95, 27, 154, 0, 38, 42, 4, 17, 0, 255, 182, 0, 95, 3, 62, 29, 28]
abbrev dktX6_draw_2 : List UInt8 := dkwX6_draw_2 ++ dktX6_draw_3
def dkwX6_draw_1 : List UInt8 := [16, 254, 172, 42, 3, 181, 0, 78, 27, 6, 160, 0, 13, 42, 28, 182, 0, 116, 42, 180, 0, 78, 172, 42]
abbrev dktX6_draw_1 : List UInt8 := dkwX6_draw_1 ++ dktX6_draw_2
def dkwX6_draw_0 : List UInt8 := [27, 133, 9, 20, 0, 112, 184, 0, 74, 153, 0, 15, 28, 133, 9, 20, 0, 114, 184, 0, 74, 154, 0, 6]
abbrev dktX6_draw_0 : List UInt8 := dkwX6_draw_0 ++ dktX6_draw_1
theorem dksX6_draw_0 : cX6_draw.data.toList.drop 0 = dktX6_draw_0 := by decide +kernel
theorem dksX6_draw_1 : cX6_draw.data.toList.drop 24 = dktX6_draw_1 := dk_seg dksX6_draw_0 24 rfl rfl
theorem dksX6_draw_2 : cX6_draw.data.toList.drop 48 = dktX6_draw_2 := dk_seg dksX6_draw_1 24 rfl rfl
theorem dksX6_draw_3 : cX6_draw.data.toList.drop 71 = dktX6_draw_3 := dk_seg dksX6_draw_2 23 rfl rfl
theorem dksX6_draw_4 : cX6_draw.data.toList.drop 95 = dktX6_draw_4 := dk_seg dksX6_draw_3 24 rfl rfl
theorem dksX6_draw_5 : cX6_draw.data.toList.drop 119 = dktX6_draw_5 := dk_seg dksX6_draw_4 24 rfl rfl
theorem dksX6_draw_6 : cX6_draw.data.toList.drop 143 = dktX6_draw_6 := dk_seg dksX6_draw_5 24 rfl rfl
theorem dX6_draw_0 : decode cX6_draw 0 = .ok (.iload_n 1, 1) := dk_27 (dk_at dksX6_draw_0 0 rfl rfl)
theorem dX6_draw_1 : decode cX6_draw 1 = .ok (.i2l, 1) := dk_133 (dk_at dksX6_draw_0 1 rfl rfl)
theorem dX6_draw_2 : decode cX6_draw 2 = .ok (.lconst 0, 1) := dk_9 (dk_at dksX6_draw_0 2 rfl rfl)
theorem dX6_draw_3 : decode cX6_draw 3 = .ok (.ldc2_w 112, 3) := dk_20 0 112 (dk_at dksX6_draw_0 3 rfl rfl)
theorem dX6_draw_6 : decode cX6_draw 6 = .ok (.invokestatic 74, 3) := dk_184 0 74 (dk_at dksX6_draw_0 6 rfl rfl)
theorem dX6_draw_9 : decode cX6_draw 9 = .ok (.ifCond .eq 15, 3) := dk_153 0 15 (dk_at dksX6_draw_0 9 rfl rfl)
theorem dX6_draw_12 : decode cX6_draw 12 = .ok (.iload_n 2, 1) := dk_28 (dk_at dksX6_draw_0 12 rfl rfl)
theorem dX6_draw_13 : decode cX6_draw 13 = .ok (.i2l, 1) := dk_133 (dk_at dksX6_draw_0 13 rfl rfl)
theorem dX6_draw_14 : decode cX6_draw 14 = .ok (.lconst 0, 1) := dk_9 (dk_at dksX6_draw_0 14 rfl rfl)
theorem dX6_draw_15 : decode cX6_draw 15 = .ok (.ldc2_w 114, 3) := dk_20 0 114 (dk_at dksX6_draw_0 15 rfl rfl)
theorem dX6_draw_18 : decode cX6_draw 18 = .ok (.invokestatic 74, 3) := dk_184 0 74 (dk_at dksX6_draw_0 18 rfl rfl)
theorem dX6_draw_21 : decode cX6_draw 21 = .ok (.ifCond .ne 6, 3) := dk_154 0 6 (dk_at dksX6_draw_0 21 rfl rfl)
theorem dX6_draw_24 : decode cX6_draw 24 = .ok (.bipush (-2), 2) := dk_16 254 (dk_at dksX6_draw_1 0 rfl rfl)
theorem dX6_draw_26 : decode cX6_draw 26 = .ok (.ireturn, 1) := dk_172 (dk_at dksX6_draw_1 2 rfl rfl)
theorem dX6_draw_27 : decode cX6_draw 27 = .ok (.aload_n 0, 1) := dk_42 (dk_at dksX6_draw_1 3 rfl rfl)
theorem dX6_draw_28 : decode cX6_draw 28 = .ok (.iconst 0, 1) := dk_3 (dk_at dksX6_draw_1 4 rfl rfl)
theorem dX6_draw_29 : decode cX6_draw 29 = .ok (.putfield 78, 3) := dk_181 0 78 (dk_at dksX6_draw_1 5 rfl rfl)
theorem dX6_draw_32 : decode cX6_draw 32 = .ok (.iload_n 1, 1) := dk_27 (dk_at dksX6_draw_1 8 rfl rfl)
theorem dX6_draw_33 : decode cX6_draw 33 = .ok (.iconst 3, 1) := dk_6 (dk_at dksX6_draw_1 9 rfl rfl)
theorem dX6_draw_34 : decode cX6_draw 34 = .ok (.if_icmp .ne 13, 3) := dk_160 0 13 (dk_at dksX6_draw_1 10 rfl rfl)
theorem dX6_draw_37 : decode cX6_draw 37 = .ok (.aload_n 0, 1) := dk_42 (dk_at dksX6_draw_1 13 rfl rfl)
theorem dX6_draw_38 : decode cX6_draw 38 = .ok (.iload_n 2, 1) := dk_28 (dk_at dksX6_draw_1 14 rfl rfl)
theorem dX6_draw_39 : decode cX6_draw 39 = .ok (.invokevirtual 116, 3) := dk_182 0 116 (dk_at dksX6_draw_1 15 rfl rfl)
theorem dX6_draw_42 : decode cX6_draw 42 = .ok (.aload_n 0, 1) := dk_42 (dk_at dksX6_draw_1 18 rfl rfl)
theorem dX6_draw_43 : decode cX6_draw 43 = .ok (.getfield 78, 3) := dk_180 0 78 (dk_at dksX6_draw_1 19 rfl rfl)
theorem dX6_draw_46 : decode cX6_draw 46 = .ok (.ireturn, 1) := dk_172 (dk_at dksX6_draw_1 22 rfl rfl)
theorem dX6_draw_47 : decode cX6_draw 47 = .ok (.aload_n 0, 1) := dk_42 (dk_at dksX6_draw_1 23 rfl rfl)
theorem dX6_draw_48 : decode cX6_draw 48 = .ok (.bipush 80, 2) := dk_16 80 (dk_at dksX6_draw_2 0 rfl rfl)
theorem dX6_draw_50 : decode cX6_draw 50 = .ok (.bipush 75, 2) := dk_16 75 (dk_at dksX6_draw_2 2 rfl rfl)
theorem dX6_draw_52 : decode cX6_draw 52 = .ok (.invokevirtual 95, 3) := dk_182 0 95 (dk_at dksX6_draw_2 4 rfl rfl)
theorem dX6_draw_55 : decode cX6_draw 55 = .ok (.iload_n 1, 1) := dk_27 (dk_at dksX6_draw_2 7 rfl rfl)
theorem dX6_draw_56 : decode cX6_draw 56 = .ok (.ifCond .ne 38, 3) := dk_154 0 38 (dk_at dksX6_draw_2 8 rfl rfl)
theorem dX6_draw_59 : decode cX6_draw 59 = .ok (.aload_n 0, 1) := dk_42 (dk_at dksX6_draw_2 11 rfl rfl)
theorem dX6_draw_60 : decode cX6_draw 60 = .ok (.iconst 1, 1) := dk_4 (dk_at dksX6_draw_2 12 rfl rfl)
theorem dX6_draw_61 : decode cX6_draw 61 = .ok (.sipush 255, 3) := dk_17 0 255 (dk_at dksX6_draw_2 13 rfl rfl)
theorem dX6_draw_64 : decode cX6_draw 64 = .ok (.invokevirtual 95, 3) := dk_182 0 95 (dk_at dksX6_draw_2 16 rfl rfl)
theorem dX6_draw_67 : decode cX6_draw 67 = .ok (.iconst 0, 1) := dk_3 (dk_at dksX6_draw_2 19 rfl rfl)
theorem dX6_draw_68 : decode cX6_draw 68 = .ok (.istore_n 3, 1) := dk_62 (dk_at dksX6_draw_2 20 rfl rfl)
theorem dX6_draw_69 : decode cX6_draw 69 = .ok (.iload_n 3, 1) := dk_29 (dk_at dksX6_draw_2 21 rfl rfl)
theorem dX6_draw_70 : decode cX6_draw 70 = .ok (.iload_n 2, 1) := dk_28 (dk_at dksX6_draw_2 22 rfl rfl)
theorem dX6_draw_71 : decode cX6_draw 71 = .ok (.if_icmp .ge 20, 3) := dk_162 0 20 (dk_at dksX6_draw_3 0 rfl rfl)
theorem dX6_draw_74 : decode cX6_draw 74 = .ok (.aload_n 0, 1) := dk_42 (dk_at dksX6_draw_3 3 rfl rfl)
theorem dX6_draw_75 : decode cX6_draw 75 = .ok (.aload_n 0, 1) := dk_42 (dk_at dksX6_draw_3 4 rfl rfl)
theorem dX6_draw_76 : decode cX6_draw 76 = .ok (.sipush 256, 3) := dk_17 1 0 (dk_at dksX6_draw_3 5 rfl rfl)
theorem dX6_draw_79 : decode cX6_draw 79 = .ok (.invokevirtual 99, 3) := dk_182 0 99 (dk_at dksX6_draw_3 8 rfl rfl)
theorem dX6_draw_82 : decode cX6_draw 82 = .ok (.invokevirtual 83, 3) := dk_182 0 83 (dk_at dksX6_draw_3 11 rfl rfl)
theorem dX6_draw_85 : decode cX6_draw 85 = .ok (.iinc 3 1, 3) := dk_132 3 1 (dk_at dksX6_draw_3 14 rfl rfl)
theorem dX6_draw_88 : decode cX6_draw 88 = .ok (.goto (-19), 3) := dk_167 255 237 (dk_at dksX6_draw_3 17 rfl rfl)
theorem dX6_draw_91 : decode cX6_draw 91 = .ok (.goto 9, 3) := dk_167 0 9 (dk_at dksX6_draw_3 20 rfl rfl)
theorem dX6_draw_94 : decode cX6_draw 94 = .ok (.aload_n 0, 1) := dk_42 (dk_at dksX6_draw_3 23 rfl rfl)
theorem dX6_draw_95 : decode cX6_draw 95 = .ok (.iload_n 1, 1) := dk_27 (dk_at dksX6_draw_4 0 rfl rfl)
theorem dX6_draw_96 : decode cX6_draw 96 = .ok (.iload_n 2, 1) := dk_28 (dk_at dksX6_draw_4 1 rfl rfl)
theorem dX6_draw_97 : decode cX6_draw 97 = .ok (.invokevirtual 119, 3) := dk_182 0 119 (dk_at dksX6_draw_4 2 rfl rfl)
theorem dX6_draw_100 : decode cX6_draw 100 = .ok (.aload_n 0, 1) := dk_42 (dk_at dksX6_draw_4 5 rfl rfl)
theorem dX6_draw_101 : decode cX6_draw 101 = .ok (.iconst 0, 1) := dk_3 (dk_at dksX6_draw_4 6 rfl rfl)
theorem dX6_draw_102 : decode cX6_draw 102 = .ok (.invokevirtual 106, 3) := dk_182 0 106 (dk_at dksX6_draw_4 7 rfl rfl)
theorem dX6_draw_105 : decode cX6_draw 105 = .ok (.iload_n 1, 1) := dk_27 (dk_at dksX6_draw_4 10 rfl rfl)
theorem dX6_draw_106 : decode cX6_draw 106 = .ok (.bipush 7, 2) := dk_16 7 (dk_at dksX6_draw_4 11 rfl rfl)
theorem dX6_draw_108 : decode cX6_draw 108 = .ok (.if_icmp .ne 19, 3) := dk_160 0 19 (dk_at dksX6_draw_4 13 rfl rfl)
theorem dX6_draw_111 : decode cX6_draw 111 = .ok (.aload_n 0, 1) := dk_42 (dk_at dksX6_draw_4 16 rfl rfl)
theorem dX6_draw_112 : decode cX6_draw 112 = .ok (.dup, 1) := dk_89 (dk_at dksX6_draw_4 17 rfl rfl)
theorem dX6_draw_113 : decode cX6_draw 113 = .ok (.getfield 78, 3) := dk_180 0 78 (dk_at dksX6_draw_4 18 rfl rfl)
theorem dX6_draw_116 : decode cX6_draw 116 = .ok (.iconst 1, 1) := dk_4 (dk_at dksX6_draw_4 21 rfl rfl)
theorem dX6_draw_117 : decode cX6_draw 117 = .ok (.aload_n 0, 1) := dk_42 (dk_at dksX6_draw_4 22 rfl rfl)
theorem dX6_draw_118 : decode cX6_draw 118 = .ok (.iconst 4, 1) := dk_7 (dk_at dksX6_draw_4 23 rfl rfl)
theorem dX6_draw_119 : decode cX6_draw 119 = .ok (.invokevirtual 99, 3) := dk_182 0 99 (dk_at dksX6_draw_5 0 rfl rfl)
theorem dX6_draw_122 : decode cX6_draw 122 = .ok (.iadd, 1) := dk_96 (dk_at dksX6_draw_5 3 rfl rfl)
theorem dX6_draw_123 : decode cX6_draw 123 = .ok (.isub, 1) := dk_100 (dk_at dksX6_draw_5 4 rfl rfl)
theorem dX6_draw_124 : decode cX6_draw 124 = .ok (.putfield 78, 3) := dk_181 0 78 (dk_at dksX6_draw_5 5 rfl rfl)
theorem dX6_draw_127 : decode cX6_draw 127 = .ok (.iload_n 1, 1) := dk_27 (dk_at dksX6_draw_5 8 rfl rfl)
theorem dX6_draw_128 : decode cX6_draw 128 = .ok (.bipush 8, 2) := dk_16 8 (dk_at dksX6_draw_5 9 rfl rfl)
theorem dX6_draw_130 : decode cX6_draw 130 = .ok (.if_icmp .ne 31, 3) := dk_160 0 31 (dk_at dksX6_draw_5 11 rfl rfl)
theorem dX6_draw_133 : decode cX6_draw 133 = .ok (.aload_n 0, 1) := dk_42 (dk_at dksX6_draw_5 14 rfl rfl)
theorem dX6_draw_134 : decode cX6_draw 134 = .ok (.getfield 7, 3) := dk_180 0 7 (dk_at dksX6_draw_5 15 rfl rfl)
theorem dX6_draw_137 : decode cX6_draw 137 = .ok (.aload_n 0, 1) := dk_42 (dk_at dksX6_draw_5 18 rfl rfl)
theorem dX6_draw_138 : decode cX6_draw 138 = .ok (.getfield 78, 3) := dk_180 0 78 (dk_at dksX6_draw_5 19 rfl rfl)
theorem dX6_draw_141 : decode cX6_draw 141 = .ok (.iconst 1, 1) := dk_4 (dk_at dksX6_draw_5 22 rfl rfl)
theorem dX6_draw_142 : decode cX6_draw 142 = .ok (.isub, 1) := dk_100 (dk_at dksX6_draw_5 23 rfl rfl)
theorem dX6_draw_143 : decode cX6_draw 143 = .ok (.aload_n 0, 1) := dk_42 (dk_at dksX6_draw_6 0 rfl rfl)
theorem dX6_draw_144 : decode cX6_draw 144 = .ok (.getfield 7, 3) := dk_180 0 7 (dk_at dksX6_draw_6 1 rfl rfl)
theorem dX6_draw_147 : decode cX6_draw 147 = .ok (.aload_n 0, 1) := dk_42 (dk_at dksX6_draw_6 4 rfl rfl)
theorem dX6_draw_148 : decode cX6_draw 148 = .ok (.getfield 78, 3) := dk_180 0 78 (dk_at dksX6_draw_6 5 rfl rfl)
theorem dX6_draw_151 : decode cX6_draw 151 = .ok (.iconst 1, 1) := dk_4 (dk_at dksX6_draw_6 8 rfl rfl)
theorem dX6_draw_152 : decode cX6_draw 152 = .ok (.isub, 1) := dk_100 (dk_at dksX6_draw_6 9 rfl rfl)
theorem dX6_draw_153 : decode cX6_draw 153 = .ok (.iaload, 1) := dk_46 (dk_at dksX6_draw_6 10 rfl rfl)
theorem dX6_draw_154 : decode cX6_draw 154 = .ok (.iconst 1, 1) := dk_4 (dk_at dksX6_draw_6 11 rfl rfl)
theorem dX6_draw_155 : decode cX6_draw 155 = .ok (.iadd, 1) := dk_96 (dk_at dksX6_draw_6 12 rfl rfl)
theorem dX6_draw_156 : decode cX6_draw 156 = .ok (.sipush 255, 3) := dk_17 0 255 (dk_at dksX6_draw_6 13 rfl rfl)
theorem dX6_draw_159 : decode cX6_draw 159 = .ok (.iand, 1) := dk_126 (dk_at dksX6_draw_6 16 rfl rfl)
theorem dX6_draw_160 : decode cX6_draw 160 = .ok (.iastore, 1) := dk_79 (dk_at dksX6_draw_6 17 rfl rfl)
theorem dX6_draw_161 : decode cX6_draw 161 = .ok (.aload_n 0, 1) := dk_42 (dk_at dksX6_draw_6 18 rfl rfl)
theorem dX6_draw_162 : decode cX6_draw 162 = .ok (.getfield 78, 3) := dk_180 0 78 (dk_at dksX6_draw_6 19 rfl rfl)
theorem dX6_draw_165 : decode cX6_draw 165 = .ok (.ireturn, 1) := dk_172 (dk_at dksX6_draw_6 22 rfl rfl)
abbrev cX6_deep : ByteArray := prog_8_method_15_code
def yX6_deep : MethodName := ⟨RX6, "deep", "(I)V"⟩
def dkwX6_deep_4 : List UInt8 := [167, 255, 239, 177]
abbrev dktX6_deep_4 : List UInt8 := dkwX6_deep_4 ++ []
def dkwX6_deep_3 : List UInt8 := [182, 0, 106, 4, 62, 29, 27, 163, 0, 18, 42, 28, 8, 29, 104, 100, 182, 0, 106, 132, 3, 1]
abbrev dktX6_deep_3 : List UInt8 := dkwX6_deep_3 ++ dktX6_deep_4
def dkwX6_deep_2 : List UInt8 := [167, 255, 212, 42, 180, 0, 78, 61, 42, 16, 80, 16, 75, 182, 0, 95, 42, 4, 4, 182, 0, 103, 42, 28]
abbrev dktX6_deep_2 : List UInt8 := dkwX6_deep_2 ++ dktX6_deep_3
def dkwX6_deep_1 : List UInt8 := [42, 7, 182, 0, 83, 42, 29, 17, 1, 0, 108, 29, 17, 1, 0, 112, 182, 0, 95, 132, 2, 255]
abbrev dktX6_deep_1 : List UInt8 := dkwX6_deep_1 ++ dktX6_deep_2
def dkwX6_deep_0 : List UInt8 := [27, 61, 28, 158, 0, 46, 16, 7, 16, 7, 28, 4, 100, 104, 96, 62, 42, 16, 80, 16, 75, 182, 0, 95]
abbrev dktX6_deep_0 : List UInt8 := dkwX6_deep_0 ++ dktX6_deep_1
theorem dksX6_deep_0 : cX6_deep.data.toList.drop 0 = dktX6_deep_0 := by decide +kernel
theorem dksX6_deep_1 : cX6_deep.data.toList.drop 24 = dktX6_deep_1 := dk_seg dksX6_deep_0 24 rfl rfl
theorem dksX6_deep_2 : cX6_deep.data.toList.drop 46 = dktX6_deep_2 := dk_seg dksX6_deep_1 22 rfl rfl
theorem dksX6_deep_3 : cX6_deep.data.toList.drop 70 = dktX6_deep_3 := dk_seg dksX6_deep_2 24 rfl rfl
theorem dksX6_deep_4 : cX6_deep.data.toList.drop 92 = dktX6_deep_4 := dk_seg dksX6_deep_3 22 rfl rfl
theorem dX6_deep_0 : decode cX6_deep 0 = .ok (.iload_n 1, 1) := dk_27 (dk_at dksX6_deep_0 0 rfl rfl)
theorem dX6_deep_1 : decode cX6_deep 1 = .ok (.istore_n 2, 1) := dk_61 (dk_at dksX6_deep_0 1 rfl rfl)
theorem dX6_deep_2 : decode cX6_deep 2 = .ok (.iload_n 2, 1) := dk_28 (dk_at dksX6_deep_0 2 rfl rfl)
theorem dX6_deep_3 : decode cX6_deep 3 = .ok (.ifCond .le 46, 3) := dk_158 0 46 (dk_at dksX6_deep_0 3 rfl rfl)
theorem dX6_deep_6 : decode cX6_deep 6 = .ok (.bipush 7, 2) := dk_16 7 (dk_at dksX6_deep_0 6 rfl rfl)
theorem dX6_deep_8 : decode cX6_deep 8 = .ok (.bipush 7, 2) := dk_16 7 (dk_at dksX6_deep_0 8 rfl rfl)
theorem dX6_deep_10 : decode cX6_deep 10 = .ok (.iload_n 2, 1) := dk_28 (dk_at dksX6_deep_0 10 rfl rfl)
theorem dX6_deep_11 : decode cX6_deep 11 = .ok (.iconst 1, 1) := dk_4 (dk_at dksX6_deep_0 11 rfl rfl)
theorem dX6_deep_12 : decode cX6_deep 12 = .ok (.isub, 1) := dk_100 (dk_at dksX6_deep_0 12 rfl rfl)
theorem dX6_deep_13 : decode cX6_deep 13 = .ok (.imul, 1) := dk_104 (dk_at dksX6_deep_0 13 rfl rfl)
theorem dX6_deep_14 : decode cX6_deep 14 = .ok (.iadd, 1) := dk_96 (dk_at dksX6_deep_0 14 rfl rfl)
theorem dX6_deep_15 : decode cX6_deep 15 = .ok (.istore_n 3, 1) := dk_62 (dk_at dksX6_deep_0 15 rfl rfl)
theorem dX6_deep_16 : decode cX6_deep 16 = .ok (.aload_n 0, 1) := dk_42 (dk_at dksX6_deep_0 16 rfl rfl)
theorem dX6_deep_17 : decode cX6_deep 17 = .ok (.bipush 80, 2) := dk_16 80 (dk_at dksX6_deep_0 17 rfl rfl)
theorem dX6_deep_19 : decode cX6_deep 19 = .ok (.bipush 75, 2) := dk_16 75 (dk_at dksX6_deep_0 19 rfl rfl)
theorem dX6_deep_21 : decode cX6_deep 21 = .ok (.invokevirtual 95, 3) := dk_182 0 95 (dk_at dksX6_deep_0 21 rfl rfl)
theorem dX6_deep_24 : decode cX6_deep 24 = .ok (.aload_n 0, 1) := dk_42 (dk_at dksX6_deep_1 0 rfl rfl)
theorem dX6_deep_25 : decode cX6_deep 25 = .ok (.iconst 4, 1) := dk_7 (dk_at dksX6_deep_1 1 rfl rfl)
theorem dX6_deep_26 : decode cX6_deep 26 = .ok (.invokevirtual 83, 3) := dk_182 0 83 (dk_at dksX6_deep_1 2 rfl rfl)
theorem dX6_deep_29 : decode cX6_deep 29 = .ok (.aload_n 0, 1) := dk_42 (dk_at dksX6_deep_1 5 rfl rfl)
theorem dX6_deep_30 : decode cX6_deep 30 = .ok (.iload_n 3, 1) := dk_29 (dk_at dksX6_deep_1 6 rfl rfl)
theorem dX6_deep_31 : decode cX6_deep 31 = .ok (.sipush 256, 3) := dk_17 1 0 (dk_at dksX6_deep_1 7 rfl rfl)
theorem dX6_deep_34 : decode cX6_deep 34 = .ok (.idiv, 1) := dk_108 (dk_at dksX6_deep_1 10 rfl rfl)
theorem dX6_deep_35 : decode cX6_deep 35 = .ok (.iload_n 3, 1) := dk_29 (dk_at dksX6_deep_1 11 rfl rfl)
theorem dX6_deep_36 : decode cX6_deep 36 = .ok (.sipush 256, 3) := dk_17 1 0 (dk_at dksX6_deep_1 12 rfl rfl)
theorem dX6_deep_39 : decode cX6_deep 39 = .ok (.irem, 1) := dk_112 (dk_at dksX6_deep_1 15 rfl rfl)
theorem dX6_deep_40 : decode cX6_deep 40 = .ok (.invokevirtual 95, 3) := dk_182 0 95 (dk_at dksX6_deep_1 16 rfl rfl)
theorem dX6_deep_43 : decode cX6_deep 43 = .ok (.iinc 2 (-1), 3) := dk_132 2 255 (dk_at dksX6_deep_1 19 rfl rfl)
theorem dX6_deep_46 : decode cX6_deep 46 = .ok (.goto (-44), 3) := dk_167 255 212 (dk_at dksX6_deep_2 0 rfl rfl)
theorem dX6_deep_49 : decode cX6_deep 49 = .ok (.aload_n 0, 1) := dk_42 (dk_at dksX6_deep_2 3 rfl rfl)
theorem dX6_deep_50 : decode cX6_deep 50 = .ok (.getfield 78, 3) := dk_180 0 78 (dk_at dksX6_deep_2 4 rfl rfl)
theorem dX6_deep_53 : decode cX6_deep 53 = .ok (.istore_n 2, 1) := dk_61 (dk_at dksX6_deep_2 7 rfl rfl)
theorem dX6_deep_54 : decode cX6_deep 54 = .ok (.aload_n 0, 1) := dk_42 (dk_at dksX6_deep_2 8 rfl rfl)
theorem dX6_deep_55 : decode cX6_deep 55 = .ok (.bipush 80, 2) := dk_16 80 (dk_at dksX6_deep_2 9 rfl rfl)
theorem dX6_deep_57 : decode cX6_deep 57 = .ok (.bipush 75, 2) := dk_16 75 (dk_at dksX6_deep_2 11 rfl rfl)
theorem dX6_deep_59 : decode cX6_deep 59 = .ok (.invokevirtual 95, 3) := dk_182 0 95 (dk_at dksX6_deep_2 13 rfl rfl)
theorem dX6_deep_62 : decode cX6_deep 62 = .ok (.aload_n 0, 1) := dk_42 (dk_at dksX6_deep_2 16 rfl rfl)
theorem dX6_deep_63 : decode cX6_deep 63 = .ok (.iconst 1, 1) := dk_4 (dk_at dksX6_deep_2 17 rfl rfl)
theorem dX6_deep_64 : decode cX6_deep 64 = .ok (.iconst 1, 1) := dk_4 (dk_at dksX6_deep_2 18 rfl rfl)
theorem dX6_deep_65 : decode cX6_deep 65 = .ok (.invokevirtual 103, 3) := dk_182 0 103 (dk_at dksX6_deep_2 19 rfl rfl)
theorem dX6_deep_68 : decode cX6_deep 68 = .ok (.aload_n 0, 1) := dk_42 (dk_at dksX6_deep_2 22 rfl rfl)
theorem dX6_deep_69 : decode cX6_deep 69 = .ok (.iload_n 2, 1) := dk_28 (dk_at dksX6_deep_2 23 rfl rfl)
theorem dX6_deep_70 : decode cX6_deep 70 = .ok (.invokevirtual 106, 3) := dk_182 0 106 (dk_at dksX6_deep_3 0 rfl rfl)
theorem dX6_deep_73 : decode cX6_deep 73 = .ok (.iconst 1, 1) := dk_4 (dk_at dksX6_deep_3 3 rfl rfl)
theorem dX6_deep_74 : decode cX6_deep 74 = .ok (.istore_n 3, 1) := dk_62 (dk_at dksX6_deep_3 4 rfl rfl)
theorem dX6_deep_75 : decode cX6_deep 75 = .ok (.iload_n 3, 1) := dk_29 (dk_at dksX6_deep_3 5 rfl rfl)
theorem dX6_deep_76 : decode cX6_deep 76 = .ok (.iload_n 1, 1) := dk_27 (dk_at dksX6_deep_3 6 rfl rfl)
theorem dX6_deep_77 : decode cX6_deep 77 = .ok (.if_icmp .gt 18, 3) := dk_163 0 18 (dk_at dksX6_deep_3 7 rfl rfl)
theorem dX6_deep_80 : decode cX6_deep 80 = .ok (.aload_n 0, 1) := dk_42 (dk_at dksX6_deep_3 10 rfl rfl)
theorem dX6_deep_81 : decode cX6_deep 81 = .ok (.iload_n 2, 1) := dk_28 (dk_at dksX6_deep_3 11 rfl rfl)
theorem dX6_deep_82 : decode cX6_deep 82 = .ok (.iconst 5, 1) := dk_8 (dk_at dksX6_deep_3 12 rfl rfl)
theorem dX6_deep_83 : decode cX6_deep 83 = .ok (.iload_n 3, 1) := dk_29 (dk_at dksX6_deep_3 13 rfl rfl)
theorem dX6_deep_84 : decode cX6_deep 84 = .ok (.imul, 1) := dk_104 (dk_at dksX6_deep_3 14 rfl rfl)
theorem dX6_deep_85 : decode cX6_deep 85 = .ok (.isub, 1) := dk_100 (dk_at dksX6_deep_3 15 rfl rfl)
theorem dX6_deep_86 : decode cX6_deep 86 = .ok (.invokevirtual 106, 3) := dk_182 0 106 (dk_at dksX6_deep_3 16 rfl rfl)
theorem dX6_deep_89 : decode cX6_deep 89 = .ok (.iinc 3 1, 3) := dk_132 3 1 (dk_at dksX6_deep_3 19 rfl rfl)
theorem dX6_deep_92 : decode cX6_deep 92 = .ok (.goto (-17), 3) := dk_167 255 239 (dk_at dksX6_deep_4 0 rfl rfl)
theorem dX6_deep_95 : decode cX6_deep 95 = .ok (.return_, 1) := dk_177 (dk_at dksX6_deep_4 3 rfl rfl)
abbrev cX6_lays : ByteArray := prog_8_method_11_code
def yX6_lays : MethodName := ⟨RX6, "lays", "(II)V"⟩
def dkwX6_lays_0 : List UInt8 := [42, 27, 182, 0, 83, 42, 28, 182, 0, 83, 177]
abbrev dktX6_lays_0 : List UInt8 := dkwX6_lays_0 ++ []
theorem dksX6_lays_0 : cX6_lays.data.toList.drop 0 = dktX6_lays_0 := by decide +kernel
theorem dX6_lays_0 : decode cX6_lays 0 = .ok (.aload_n 0, 1) := dk_42 (dk_at dksX6_lays_0 0 rfl rfl)
theorem dX6_lays_1 : decode cX6_lays 1 = .ok (.iload_n 1, 1) := dk_27 (dk_at dksX6_lays_0 1 rfl rfl)
theorem dX6_lays_2 : decode cX6_lays 2 = .ok (.invokevirtual 83, 3) := dk_182 0 83 (dk_at dksX6_lays_0 2 rfl rfl)
theorem dX6_lays_5 : decode cX6_lays 5 = .ok (.aload_n 0, 1) := dk_42 (dk_at dksX6_lays_0 5 rfl rfl)
theorem dX6_lays_6 : decode cX6_lays 6 = .ok (.iload_n 2, 1) := dk_28 (dk_at dksX6_lays_0 6 rfl rfl)
theorem dX6_lays_7 : decode cX6_lays 7 = .ok (.invokevirtual 83, 3) := dk_182 0 83 (dk_at dksX6_lays_0 7 rfl rfl)
theorem dX6_lays_10 : decode cX6_lays 10 = .ok (.return_, 1) := dk_177 (dk_at dksX6_lays_0 10 rfl rfl)
abbrev cX6_some : ByteArray := prog_8_method_13_code
def yX6_some : MethodName := ⟨RX6, "some", "(II)V"⟩
def dkwX6_some_1 : List UInt8 := [132, 3, 1, 167, 255, 237, 177]
abbrev dktX6_some_1 : List UInt8 := dkwX6_some_1 ++ []
def dkwX6_some_0 : List UInt8 := [42, 27, 28, 182, 0, 95, 3, 62, 29, 28, 162, 0, 20, 42, 42, 17, 1, 0, 182, 0, 99, 182, 0, 83]
abbrev dktX6_some_0 : List UInt8 := dkwX6_some_0 ++ dktX6_some_1
theorem dksX6_some_0 : cX6_some.data.toList.drop 0 = dktX6_some_0 := by decide +kernel
theorem dksX6_some_1 : cX6_some.data.toList.drop 24 = dktX6_some_1 := dk_seg dksX6_some_0 24 rfl rfl
theorem dX6_some_0 : decode cX6_some 0 = .ok (.aload_n 0, 1) := dk_42 (dk_at dksX6_some_0 0 rfl rfl)
theorem dX6_some_1 : decode cX6_some 1 = .ok (.iload_n 1, 1) := dk_27 (dk_at dksX6_some_0 1 rfl rfl)
theorem dX6_some_2 : decode cX6_some 2 = .ok (.iload_n 2, 1) := dk_28 (dk_at dksX6_some_0 2 rfl rfl)
theorem dX6_some_3 : decode cX6_some 3 = .ok (.invokevirtual 95, 3) := dk_182 0 95 (dk_at dksX6_some_0 3 rfl rfl)
theorem dX6_some_6 : decode cX6_some 6 = .ok (.iconst 0, 1) := dk_3 (dk_at dksX6_some_0 6 rfl rfl)
theorem dX6_some_7 : decode cX6_some 7 = .ok (.istore_n 3, 1) := dk_62 (dk_at dksX6_some_0 7 rfl rfl)
theorem dX6_some_8 : decode cX6_some 8 = .ok (.iload_n 3, 1) := dk_29 (dk_at dksX6_some_0 8 rfl rfl)
theorem dX6_some_9 : decode cX6_some 9 = .ok (.iload_n 2, 1) := dk_28 (dk_at dksX6_some_0 9 rfl rfl)
theorem dX6_some_10 : decode cX6_some 10 = .ok (.if_icmp .ge 20, 3) := dk_162 0 20 (dk_at dksX6_some_0 10 rfl rfl)
theorem dX6_some_13 : decode cX6_some 13 = .ok (.aload_n 0, 1) := dk_42 (dk_at dksX6_some_0 13 rfl rfl)
theorem dX6_some_14 : decode cX6_some 14 = .ok (.aload_n 0, 1) := dk_42 (dk_at dksX6_some_0 14 rfl rfl)
theorem dX6_some_15 : decode cX6_some 15 = .ok (.sipush 256, 3) := dk_17 1 0 (dk_at dksX6_some_0 15 rfl rfl)
theorem dX6_some_18 : decode cX6_some 18 = .ok (.invokevirtual 99, 3) := dk_182 0 99 (dk_at dksX6_some_0 18 rfl rfl)
theorem dX6_some_21 : decode cX6_some 21 = .ok (.invokevirtual 83, 3) := dk_182 0 83 (dk_at dksX6_some_0 21 rfl rfl)
theorem dX6_some_24 : decode cX6_some 24 = .ok (.iinc 3 1, 3) := dk_132 3 1 (dk_at dksX6_some_1 0 rfl rfl)
theorem dX6_some_27 : decode cX6_some 27 = .ok (.goto (-19), 3) := dk_167 255 237 (dk_at dksX6_some_1 3 rfl rfl)
theorem dX6_some_30 : decode cX6_some 30 = .ok (.return_, 1) := dk_177 (dk_at dksX6_some_1 6 rfl rfl)
abbrev cX6_draws : ByteArray := prog_8_method_10_code
def yX6_draws : MethodName := ⟨RX6, "draws", "(I)I"⟩
def dkwX6_draws_1 : List UInt8 := [133, 113, 136, 172]
abbrev dktX6_draws_1 : List UInt8 := dkwX6_draws_1 ++ []
def dkwX6_draws_0 : List UInt8 := [42, 42, 180, 0, 68, 20, 0, 91, 105, 20, 0, 93, 97, 181, 0, 68, 42, 180, 0, 68, 16, 31, 125, 27]
abbrev dktX6_draws_0 : List UInt8 := dkwX6_draws_0 ++ dktX6_draws_1
theorem dksX6_draws_0 : cX6_draws.data.toList.drop 0 = dktX6_draws_0 := by decide +kernel
theorem dksX6_draws_1 : cX6_draws.data.toList.drop 24 = dktX6_draws_1 := dk_seg dksX6_draws_0 24 rfl rfl
theorem dX6_draws_0 : decode cX6_draws 0 = .ok (.aload_n 0, 1) := dk_42 (dk_at dksX6_draws_0 0 rfl rfl)
theorem dX6_draws_1 : decode cX6_draws 1 = .ok (.aload_n 0, 1) := dk_42 (dk_at dksX6_draws_0 1 rfl rfl)
theorem dX6_draws_2 : decode cX6_draws 2 = .ok (.getfield 68, 3) := dk_180 0 68 (dk_at dksX6_draws_0 2 rfl rfl)
theorem dX6_draws_5 : decode cX6_draws 5 = .ok (.ldc2_w 91, 3) := dk_20 0 91 (dk_at dksX6_draws_0 5 rfl rfl)
theorem dX6_draws_8 : decode cX6_draws 8 = .ok (.lmul, 1) := dk_105 (dk_at dksX6_draws_0 8 rfl rfl)
theorem dX6_draws_9 : decode cX6_draws 9 = .ok (.ldc2_w 93, 3) := dk_20 0 93 (dk_at dksX6_draws_0 9 rfl rfl)
theorem dX6_draws_12 : decode cX6_draws 12 = .ok (.ladd, 1) := dk_97 (dk_at dksX6_draws_0 12 rfl rfl)
theorem dX6_draws_13 : decode cX6_draws 13 = .ok (.putfield 68, 3) := dk_181 0 68 (dk_at dksX6_draws_0 13 rfl rfl)
theorem dX6_draws_16 : decode cX6_draws 16 = .ok (.aload_n 0, 1) := dk_42 (dk_at dksX6_draws_0 16 rfl rfl)
theorem dX6_draws_17 : decode cX6_draws 17 = .ok (.getfield 68, 3) := dk_180 0 68 (dk_at dksX6_draws_0 17 rfl rfl)
theorem dX6_draws_20 : decode cX6_draws 20 = .ok (.bipush 31, 2) := dk_16 31 (dk_at dksX6_draws_0 20 rfl rfl)
theorem dX6_draws_22 : decode cX6_draws 22 = .ok (.lushr, 1) := dk_125 (dk_at dksX6_draws_0 22 rfl rfl)
theorem dX6_draws_23 : decode cX6_draws 23 = .ok (.iload_n 1, 1) := dk_27 (dk_at dksX6_draws_0 23 rfl rfl)
theorem dX6_draws_24 : decode cX6_draws 24 = .ok (.i2l, 1) := dk_133 (dk_at dksX6_draws_1 0 rfl rfl)
theorem dX6_draws_25 : decode cX6_draws 25 = .ok (.lrem, 1) := dk_113 (dk_at dksX6_draws_1 1 rfl rfl)
theorem dX6_draws_26 : decode cX6_draws 26 = .ok (.l2i, 1) := dk_136 (dk_at dksX6_draws_1 2 rfl rfl)
theorem dX6_draws_27 : decode cX6_draws 27 = .ok (.ireturn, 1) := dk_172 (dk_at dksX6_draws_1 3 rfl rfl)
abbrev cX6_close : ByteArray := prog_8_method_12_code
def yX6_close : MethodName := ⟨RX6, "close", "(I)V"⟩
def dkwX6_close_0 : List UInt8 := [42, 3, 182, 0, 83, 42, 42, 27, 42, 180, 0, 78, 182, 0, 87, 182, 0, 83, 177]
abbrev dktX6_close_0 : List UInt8 := dkwX6_close_0 ++ []
theorem dksX6_close_0 : cX6_close.data.toList.drop 0 = dktX6_close_0 := by decide +kernel
theorem dX6_close_0 : decode cX6_close 0 = .ok (.aload_n 0, 1) := dk_42 (dk_at dksX6_close_0 0 rfl rfl)
theorem dX6_close_1 : decode cX6_close 1 = .ok (.iconst 0, 1) := dk_3 (dk_at dksX6_close_0 1 rfl rfl)
theorem dX6_close_2 : decode cX6_close 2 = .ok (.invokevirtual 83, 3) := dk_182 0 83 (dk_at dksX6_close_0 2 rfl rfl)
theorem dX6_close_5 : decode cX6_close 5 = .ok (.aload_n 0, 1) := dk_42 (dk_at dksX6_close_0 5 rfl rfl)
theorem dX6_close_6 : decode cX6_close 6 = .ok (.aload_n 0, 1) := dk_42 (dk_at dksX6_close_0 6 rfl rfl)
theorem dX6_close_7 : decode cX6_close 7 = .ok (.iload_n 1, 1) := dk_27 (dk_at dksX6_close_0 7 rfl rfl)
theorem dX6_close_8 : decode cX6_close 8 = .ok (.aload_n 0, 1) := dk_42 (dk_at dksX6_close_0 8 rfl rfl)
theorem dX6_close_9 : decode cX6_close 9 = .ok (.getfield 78, 3) := dk_180 0 78 (dk_at dksX6_close_0 9 rfl rfl)
theorem dX6_close_12 : decode cX6_close 12 = .ok (.invokevirtual 87, 3) := dk_182 0 87 (dk_at dksX6_close_0 12 rfl rfl)
theorem dX6_close_15 : decode cX6_close 15 = .ok (.invokevirtual 83, 3) := dk_182 0 83 (dk_at dksX6_close_0 15 rfl rfl)
theorem dX6_close_18 : decode cX6_close 18 = .ok (.return_, 1) := dk_177 (dk_at dksX6_close_0 18 rfl rfl)
abbrev cX6_family : ByteArray := prog_8_method_16_code
def yX6_family : MethodName := ⟨RX6, "family", "(II)V"⟩
def dkwX6_family_10 : List UInt8 := [167, 0, 21, 3, 62, 29, 28, 162, 0, 14, 42, 29, 182, 0, 109, 132, 3, 1, 167, 255, 243, 177]
abbrev dktX6_family_10 : List UInt8 := dkwX6_family_10 ++ []
def dkwX6_family_9 : List UInt8 := [182, 0, 83, 3, 62, 29, 28, 162, 0, 15, 42, 8, 3, 182, 0, 95, 132, 3, 1, 167, 255, 242]
abbrev dktX6_family_9 : List UInt8 := dkwX6_family_9 ++ dktX6_family_10
def dkwX6_family_8 : List UInt8 := [29, 16, 8, 162, 0, 19, 42, 42, 16, 8, 182, 0, 99, 182, 0, 83, 132, 3, 1, 167, 255, 237, 42, 3]
abbrev dktX6_family_8 : List UInt8 := dkwX6_family_8 ++ dktX6_family_9
def dkwX6_family_7 : List UInt8 := [182, 0, 95, 3, 62, 29, 16, 8, 162, 0, 14, 42, 29, 182, 0, 83, 132, 3, 1, 167, 255, 242, 3, 62]
abbrev dktX6_family_7 : List UInt8 := dkwX6_family_7 ++ dktX6_family_8
def dkwX6_family_6 : List UInt8 := [29, 182, 0, 95, 132, 3, 1, 167, 255, 241, 167, 0, 105, 27, 16, 6, 160, 0, 81, 42, 16, 7, 16, 8]
abbrev dktX6_family_6 : List UInt8 := dkwX6_family_6 ++ dktX6_family_7
def dkwX6_family_5 : List UInt8 := [182, 0, 95, 42, 42, 17, 1, 0, 182, 0, 99, 182, 0, 83, 3, 62, 29, 28, 162, 0, 16, 42, 16, 6]
abbrev dktX6_family_5 : List UInt8 := dkwX6_family_5 ++ dktX6_family_6
def dkwX6_family_4 : List UInt8 := [42, 8, 3, 182, 0, 95, 132, 3, 1, 167, 255, 242, 167, 0, 150, 27, 8, 160, 0, 43, 42, 5, 4]
abbrev dktX6_family_4 : List UInt8 := dkwX6_family_4 ++ dktX6_family_5
def dkwX6_family_3 : List UInt8 := [182, 0, 83, 132, 3, 1, 167, 255, 235, 167, 0, 177, 27, 7, 160, 0, 25, 3, 62, 29, 28, 162, 0, 15]
abbrev dktX6_family_3 : List UInt8 := dkwX6_family_3 ++ dktX6_family_4
def dkwX6_family_2 : List UInt8 := [4, 4, 182, 0, 103, 3, 62, 29, 28, 162, 0, 22, 42, 6, 4, 182, 0, 95, 42, 17, 0, 255]
abbrev dktX6_family_2 : List UInt8 := dkwX6_family_2 ++ dktX6_family_3
def dkwX6_family_1 : List UInt8 := [17, 1, 0, 182, 0, 99, 182, 0, 83, 132, 3, 1, 167, 255, 229, 167, 0, 217, 27, 5, 160, 0, 38, 42]
abbrev dktX6_family_1 : List UInt8 := dkwX6_family_1 ++ dktX6_family_2
def dkwX6_family_0 : List UInt8 := [27, 4, 160, 0, 38, 3, 62, 29, 28, 162, 0, 28, 42, 5, 17, 0, 255, 182, 0, 95, 42, 42]
abbrev dktX6_family_0 : List UInt8 := dkwX6_family_0 ++ dktX6_family_1
theorem dksX6_family_0 : cX6_family.data.toList.drop 0 = dktX6_family_0 := by decide +kernel
theorem dksX6_family_1 : cX6_family.data.toList.drop 22 = dktX6_family_1 := dk_seg dksX6_family_0 22 rfl rfl
theorem dksX6_family_2 : cX6_family.data.toList.drop 46 = dktX6_family_2 := dk_seg dksX6_family_1 24 rfl rfl
theorem dksX6_family_3 : cX6_family.data.toList.drop 68 = dktX6_family_3 := dk_seg dksX6_family_2 22 rfl rfl
theorem dksX6_family_4 : cX6_family.data.toList.drop 92 = dktX6_family_4 := dk_seg dksX6_family_3 24 rfl rfl
theorem dksX6_family_5 : cX6_family.data.toList.drop 115 = dktX6_family_5 := dk_seg dksX6_family_4 23 rfl rfl
theorem dksX6_family_6 : cX6_family.data.toList.drop 139 = dktX6_family_6 := dk_seg dksX6_family_5 24 rfl rfl
theorem dksX6_family_7 : cX6_family.data.toList.drop 163 = dktX6_family_7 := dk_seg dksX6_family_6 24 rfl rfl
theorem dksX6_family_8 : cX6_family.data.toList.drop 187 = dktX6_family_8 := dk_seg dksX6_family_7 24 rfl rfl
theorem dksX6_family_9 : cX6_family.data.toList.drop 211 = dktX6_family_9 := dk_seg dksX6_family_8 24 rfl rfl
theorem dksX6_family_10 : cX6_family.data.toList.drop 233 = dktX6_family_10 := dk_seg dksX6_family_9 22 rfl rfl
theorem dX6_family_0 : decode cX6_family 0 = .ok (.iload_n 1, 1) := dk_27 (dk_at dksX6_family_0 0 rfl rfl)
theorem dX6_family_1 : decode cX6_family 1 = .ok (.iconst 1, 1) := dk_4 (dk_at dksX6_family_0 1 rfl rfl)
theorem dX6_family_2 : decode cX6_family 2 = .ok (.if_icmp .ne 38, 3) := dk_160 0 38 (dk_at dksX6_family_0 2 rfl rfl)
theorem dX6_family_5 : decode cX6_family 5 = .ok (.iconst 0, 1) := dk_3 (dk_at dksX6_family_0 5 rfl rfl)
theorem dX6_family_6 : decode cX6_family 6 = .ok (.istore_n 3, 1) := dk_62 (dk_at dksX6_family_0 6 rfl rfl)
theorem dX6_family_7 : decode cX6_family 7 = .ok (.iload_n 3, 1) := dk_29 (dk_at dksX6_family_0 7 rfl rfl)
theorem dX6_family_8 : decode cX6_family 8 = .ok (.iload_n 2, 1) := dk_28 (dk_at dksX6_family_0 8 rfl rfl)
theorem dX6_family_9 : decode cX6_family 9 = .ok (.if_icmp .ge 28, 3) := dk_162 0 28 (dk_at dksX6_family_0 9 rfl rfl)
theorem dX6_family_12 : decode cX6_family 12 = .ok (.aload_n 0, 1) := dk_42 (dk_at dksX6_family_0 12 rfl rfl)
theorem dX6_family_13 : decode cX6_family 13 = .ok (.iconst 2, 1) := dk_5 (dk_at dksX6_family_0 13 rfl rfl)
theorem dX6_family_14 : decode cX6_family 14 = .ok (.sipush 255, 3) := dk_17 0 255 (dk_at dksX6_family_0 14 rfl rfl)
theorem dX6_family_17 : decode cX6_family 17 = .ok (.invokevirtual 95, 3) := dk_182 0 95 (dk_at dksX6_family_0 17 rfl rfl)
theorem dX6_family_20 : decode cX6_family 20 = .ok (.aload_n 0, 1) := dk_42 (dk_at dksX6_family_0 20 rfl rfl)
theorem dX6_family_21 : decode cX6_family 21 = .ok (.aload_n 0, 1) := dk_42 (dk_at dksX6_family_0 21 rfl rfl)
theorem dX6_family_22 : decode cX6_family 22 = .ok (.sipush 256, 3) := dk_17 1 0 (dk_at dksX6_family_1 0 rfl rfl)
theorem dX6_family_25 : decode cX6_family 25 = .ok (.invokevirtual 99, 3) := dk_182 0 99 (dk_at dksX6_family_1 3 rfl rfl)
theorem dX6_family_28 : decode cX6_family 28 = .ok (.invokevirtual 83, 3) := dk_182 0 83 (dk_at dksX6_family_1 6 rfl rfl)
theorem dX6_family_31 : decode cX6_family 31 = .ok (.iinc 3 1, 3) := dk_132 3 1 (dk_at dksX6_family_1 9 rfl rfl)
theorem dX6_family_34 : decode cX6_family 34 = .ok (.goto (-27), 3) := dk_167 255 229 (dk_at dksX6_family_1 12 rfl rfl)
theorem dX6_family_37 : decode cX6_family 37 = .ok (.goto 217, 3) := dk_167 0 217 (dk_at dksX6_family_1 15 rfl rfl)
theorem dX6_family_40 : decode cX6_family 40 = .ok (.iload_n 1, 1) := dk_27 (dk_at dksX6_family_1 18 rfl rfl)
theorem dX6_family_41 : decode cX6_family 41 = .ok (.iconst 2, 1) := dk_5 (dk_at dksX6_family_1 19 rfl rfl)
theorem dX6_family_42 : decode cX6_family 42 = .ok (.if_icmp .ne 38, 3) := dk_160 0 38 (dk_at dksX6_family_1 20 rfl rfl)
theorem dX6_family_45 : decode cX6_family 45 = .ok (.aload_n 0, 1) := dk_42 (dk_at dksX6_family_1 23 rfl rfl)
theorem dX6_family_46 : decode cX6_family 46 = .ok (.iconst 1, 1) := dk_4 (dk_at dksX6_family_2 0 rfl rfl)
theorem dX6_family_47 : decode cX6_family 47 = .ok (.iconst 1, 1) := dk_4 (dk_at dksX6_family_2 1 rfl rfl)
theorem dX6_family_48 : decode cX6_family 48 = .ok (.invokevirtual 103, 3) := dk_182 0 103 (dk_at dksX6_family_2 2 rfl rfl)
theorem dX6_family_51 : decode cX6_family 51 = .ok (.iconst 0, 1) := dk_3 (dk_at dksX6_family_2 5 rfl rfl)
theorem dX6_family_52 : decode cX6_family 52 = .ok (.istore_n 3, 1) := dk_62 (dk_at dksX6_family_2 6 rfl rfl)
theorem dX6_family_53 : decode cX6_family 53 = .ok (.iload_n 3, 1) := dk_29 (dk_at dksX6_family_2 7 rfl rfl)
theorem dX6_family_54 : decode cX6_family 54 = .ok (.iload_n 2, 1) := dk_28 (dk_at dksX6_family_2 8 rfl rfl)
theorem dX6_family_55 : decode cX6_family 55 = .ok (.if_icmp .ge 22, 3) := dk_162 0 22 (dk_at dksX6_family_2 9 rfl rfl)
theorem dX6_family_58 : decode cX6_family 58 = .ok (.aload_n 0, 1) := dk_42 (dk_at dksX6_family_2 12 rfl rfl)
theorem dX6_family_59 : decode cX6_family 59 = .ok (.iconst 3, 1) := dk_6 (dk_at dksX6_family_2 13 rfl rfl)
theorem dX6_family_60 : decode cX6_family 60 = .ok (.iconst 1, 1) := dk_4 (dk_at dksX6_family_2 14 rfl rfl)
theorem dX6_family_61 : decode cX6_family 61 = .ok (.invokevirtual 95, 3) := dk_182 0 95 (dk_at dksX6_family_2 15 rfl rfl)
theorem dX6_family_64 : decode cX6_family 64 = .ok (.aload_n 0, 1) := dk_42 (dk_at dksX6_family_2 18 rfl rfl)
theorem dX6_family_65 : decode cX6_family 65 = .ok (.sipush 255, 3) := dk_17 0 255 (dk_at dksX6_family_2 19 rfl rfl)
theorem dX6_family_68 : decode cX6_family 68 = .ok (.invokevirtual 83, 3) := dk_182 0 83 (dk_at dksX6_family_3 0 rfl rfl)
theorem dX6_family_71 : decode cX6_family 71 = .ok (.iinc 3 1, 3) := dk_132 3 1 (dk_at dksX6_family_3 3 rfl rfl)
theorem dX6_family_74 : decode cX6_family 74 = .ok (.goto (-21), 3) := dk_167 255 235 (dk_at dksX6_family_3 6 rfl rfl)
theorem dX6_family_77 : decode cX6_family 77 = .ok (.goto 177, 3) := dk_167 0 177 (dk_at dksX6_family_3 9 rfl rfl)
theorem dX6_family_80 : decode cX6_family 80 = .ok (.iload_n 1, 1) := dk_27 (dk_at dksX6_family_3 12 rfl rfl)
theorem dX6_family_81 : decode cX6_family 81 = .ok (.iconst 4, 1) := dk_7 (dk_at dksX6_family_3 13 rfl rfl)
theorem dX6_family_82 : decode cX6_family 82 = .ok (.if_icmp .ne 25, 3) := dk_160 0 25 (dk_at dksX6_family_3 14 rfl rfl)
theorem dX6_family_85 : decode cX6_family 85 = .ok (.iconst 0, 1) := dk_3 (dk_at dksX6_family_3 17 rfl rfl)
theorem dX6_family_86 : decode cX6_family 86 = .ok (.istore_n 3, 1) := dk_62 (dk_at dksX6_family_3 18 rfl rfl)
theorem dX6_family_87 : decode cX6_family 87 = .ok (.iload_n 3, 1) := dk_29 (dk_at dksX6_family_3 19 rfl rfl)
theorem dX6_family_88 : decode cX6_family 88 = .ok (.iload_n 2, 1) := dk_28 (dk_at dksX6_family_3 20 rfl rfl)
theorem dX6_family_89 : decode cX6_family 89 = .ok (.if_icmp .ge 15, 3) := dk_162 0 15 (dk_at dksX6_family_3 21 rfl rfl)
theorem dX6_family_92 : decode cX6_family 92 = .ok (.aload_n 0, 1) := dk_42 (dk_at dksX6_family_4 0 rfl rfl)
theorem dX6_family_93 : decode cX6_family 93 = .ok (.iconst 5, 1) := dk_8 (dk_at dksX6_family_4 1 rfl rfl)
theorem dX6_family_94 : decode cX6_family 94 = .ok (.iconst 0, 1) := dk_3 (dk_at dksX6_family_4 2 rfl rfl)
theorem dX6_family_95 : decode cX6_family 95 = .ok (.invokevirtual 95, 3) := dk_182 0 95 (dk_at dksX6_family_4 3 rfl rfl)
theorem dX6_family_98 : decode cX6_family 98 = .ok (.iinc 3 1, 3) := dk_132 3 1 (dk_at dksX6_family_4 6 rfl rfl)
theorem dX6_family_101 : decode cX6_family 101 = .ok (.goto (-14), 3) := dk_167 255 242 (dk_at dksX6_family_4 9 rfl rfl)
theorem dX6_family_104 : decode cX6_family 104 = .ok (.goto 150, 3) := dk_167 0 150 (dk_at dksX6_family_4 12 rfl rfl)
theorem dX6_family_107 : decode cX6_family 107 = .ok (.iload_n 1, 1) := dk_27 (dk_at dksX6_family_4 15 rfl rfl)
theorem dX6_family_108 : decode cX6_family 108 = .ok (.iconst 5, 1) := dk_8 (dk_at dksX6_family_4 16 rfl rfl)
theorem dX6_family_109 : decode cX6_family 109 = .ok (.if_icmp .ne 43, 3) := dk_160 0 43 (dk_at dksX6_family_4 17 rfl rfl)
theorem dX6_family_112 : decode cX6_family 112 = .ok (.aload_n 0, 1) := dk_42 (dk_at dksX6_family_4 20 rfl rfl)
theorem dX6_family_113 : decode cX6_family 113 = .ok (.iconst 2, 1) := dk_5 (dk_at dksX6_family_4 21 rfl rfl)
theorem dX6_family_114 : decode cX6_family 114 = .ok (.iconst 1, 1) := dk_4 (dk_at dksX6_family_4 22 rfl rfl)
theorem dX6_family_115 : decode cX6_family 115 = .ok (.invokevirtual 95, 3) := dk_182 0 95 (dk_at dksX6_family_5 0 rfl rfl)
theorem dX6_family_118 : decode cX6_family 118 = .ok (.aload_n 0, 1) := dk_42 (dk_at dksX6_family_5 3 rfl rfl)
theorem dX6_family_119 : decode cX6_family 119 = .ok (.aload_n 0, 1) := dk_42 (dk_at dksX6_family_5 4 rfl rfl)
theorem dX6_family_120 : decode cX6_family 120 = .ok (.sipush 256, 3) := dk_17 1 0 (dk_at dksX6_family_5 5 rfl rfl)
theorem dX6_family_123 : decode cX6_family 123 = .ok (.invokevirtual 99, 3) := dk_182 0 99 (dk_at dksX6_family_5 8 rfl rfl)
theorem dX6_family_126 : decode cX6_family 126 = .ok (.invokevirtual 83, 3) := dk_182 0 83 (dk_at dksX6_family_5 11 rfl rfl)
theorem dX6_family_129 : decode cX6_family 129 = .ok (.iconst 0, 1) := dk_3 (dk_at dksX6_family_5 14 rfl rfl)
theorem dX6_family_130 : decode cX6_family 130 = .ok (.istore_n 3, 1) := dk_62 (dk_at dksX6_family_5 15 rfl rfl)
theorem dX6_family_131 : decode cX6_family 131 = .ok (.iload_n 3, 1) := dk_29 (dk_at dksX6_family_5 16 rfl rfl)
theorem dX6_family_132 : decode cX6_family 132 = .ok (.iload_n 2, 1) := dk_28 (dk_at dksX6_family_5 17 rfl rfl)
theorem dX6_family_133 : decode cX6_family 133 = .ok (.if_icmp .ge 16, 3) := dk_162 0 16 (dk_at dksX6_family_5 18 rfl rfl)
theorem dX6_family_136 : decode cX6_family 136 = .ok (.aload_n 0, 1) := dk_42 (dk_at dksX6_family_5 21 rfl rfl)
theorem dX6_family_137 : decode cX6_family 137 = .ok (.bipush 6, 2) := dk_16 6 (dk_at dksX6_family_5 22 rfl rfl)
theorem dX6_family_139 : decode cX6_family 139 = .ok (.iload_n 3, 1) := dk_29 (dk_at dksX6_family_6 0 rfl rfl)
theorem dX6_family_140 : decode cX6_family 140 = .ok (.invokevirtual 95, 3) := dk_182 0 95 (dk_at dksX6_family_6 1 rfl rfl)
theorem dX6_family_143 : decode cX6_family 143 = .ok (.iinc 3 1, 3) := dk_132 3 1 (dk_at dksX6_family_6 4 rfl rfl)
theorem dX6_family_146 : decode cX6_family 146 = .ok (.goto (-15), 3) := dk_167 255 241 (dk_at dksX6_family_6 7 rfl rfl)
theorem dX6_family_149 : decode cX6_family 149 = .ok (.goto 105, 3) := dk_167 0 105 (dk_at dksX6_family_6 10 rfl rfl)
theorem dX6_family_152 : decode cX6_family 152 = .ok (.iload_n 1, 1) := dk_27 (dk_at dksX6_family_6 13 rfl rfl)
theorem dX6_family_153 : decode cX6_family 153 = .ok (.bipush 6, 2) := dk_16 6 (dk_at dksX6_family_6 14 rfl rfl)
theorem dX6_family_155 : decode cX6_family 155 = .ok (.if_icmp .ne 81, 3) := dk_160 0 81 (dk_at dksX6_family_6 16 rfl rfl)
theorem dX6_family_158 : decode cX6_family 158 = .ok (.aload_n 0, 1) := dk_42 (dk_at dksX6_family_6 19 rfl rfl)
theorem dX6_family_159 : decode cX6_family 159 = .ok (.bipush 7, 2) := dk_16 7 (dk_at dksX6_family_6 20 rfl rfl)
theorem dX6_family_161 : decode cX6_family 161 = .ok (.bipush 8, 2) := dk_16 8 (dk_at dksX6_family_6 22 rfl rfl)
theorem dX6_family_163 : decode cX6_family 163 = .ok (.invokevirtual 95, 3) := dk_182 0 95 (dk_at dksX6_family_7 0 rfl rfl)
theorem dX6_family_166 : decode cX6_family 166 = .ok (.iconst 0, 1) := dk_3 (dk_at dksX6_family_7 3 rfl rfl)
theorem dX6_family_167 : decode cX6_family 167 = .ok (.istore_n 3, 1) := dk_62 (dk_at dksX6_family_7 4 rfl rfl)
theorem dX6_family_168 : decode cX6_family 168 = .ok (.iload_n 3, 1) := dk_29 (dk_at dksX6_family_7 5 rfl rfl)
theorem dX6_family_169 : decode cX6_family 169 = .ok (.bipush 8, 2) := dk_16 8 (dk_at dksX6_family_7 6 rfl rfl)
theorem dX6_family_171 : decode cX6_family 171 = .ok (.if_icmp .ge 14, 3) := dk_162 0 14 (dk_at dksX6_family_7 8 rfl rfl)
theorem dX6_family_174 : decode cX6_family 174 = .ok (.aload_n 0, 1) := dk_42 (dk_at dksX6_family_7 11 rfl rfl)
theorem dX6_family_175 : decode cX6_family 175 = .ok (.iload_n 3, 1) := dk_29 (dk_at dksX6_family_7 12 rfl rfl)
theorem dX6_family_176 : decode cX6_family 176 = .ok (.invokevirtual 83, 3) := dk_182 0 83 (dk_at dksX6_family_7 13 rfl rfl)
theorem dX6_family_179 : decode cX6_family 179 = .ok (.iinc 3 1, 3) := dk_132 3 1 (dk_at dksX6_family_7 16 rfl rfl)
theorem dX6_family_182 : decode cX6_family 182 = .ok (.goto (-14), 3) := dk_167 255 242 (dk_at dksX6_family_7 19 rfl rfl)
theorem dX6_family_185 : decode cX6_family 185 = .ok (.iconst 0, 1) := dk_3 (dk_at dksX6_family_7 22 rfl rfl)
theorem dX6_family_186 : decode cX6_family 186 = .ok (.istore_n 3, 1) := dk_62 (dk_at dksX6_family_7 23 rfl rfl)
theorem dX6_family_187 : decode cX6_family 187 = .ok (.iload_n 3, 1) := dk_29 (dk_at dksX6_family_8 0 rfl rfl)
theorem dX6_family_188 : decode cX6_family 188 = .ok (.bipush 8, 2) := dk_16 8 (dk_at dksX6_family_8 1 rfl rfl)
theorem dX6_family_190 : decode cX6_family 190 = .ok (.if_icmp .ge 19, 3) := dk_162 0 19 (dk_at dksX6_family_8 3 rfl rfl)
theorem dX6_family_193 : decode cX6_family 193 = .ok (.aload_n 0, 1) := dk_42 (dk_at dksX6_family_8 6 rfl rfl)
theorem dX6_family_194 : decode cX6_family 194 = .ok (.aload_n 0, 1) := dk_42 (dk_at dksX6_family_8 7 rfl rfl)
theorem dX6_family_195 : decode cX6_family 195 = .ok (.bipush 8, 2) := dk_16 8 (dk_at dksX6_family_8 8 rfl rfl)
theorem dX6_family_197 : decode cX6_family 197 = .ok (.invokevirtual 99, 3) := dk_182 0 99 (dk_at dksX6_family_8 10 rfl rfl)
theorem dX6_family_200 : decode cX6_family 200 = .ok (.invokevirtual 83, 3) := dk_182 0 83 (dk_at dksX6_family_8 13 rfl rfl)
theorem dX6_family_203 : decode cX6_family 203 = .ok (.iinc 3 1, 3) := dk_132 3 1 (dk_at dksX6_family_8 16 rfl rfl)
theorem dX6_family_206 : decode cX6_family 206 = .ok (.goto (-19), 3) := dk_167 255 237 (dk_at dksX6_family_8 19 rfl rfl)
theorem dX6_family_209 : decode cX6_family 209 = .ok (.aload_n 0, 1) := dk_42 (dk_at dksX6_family_8 22 rfl rfl)
theorem dX6_family_210 : decode cX6_family 210 = .ok (.iconst 0, 1) := dk_3 (dk_at dksX6_family_8 23 rfl rfl)
theorem dX6_family_211 : decode cX6_family 211 = .ok (.invokevirtual 83, 3) := dk_182 0 83 (dk_at dksX6_family_9 0 rfl rfl)
theorem dX6_family_214 : decode cX6_family 214 = .ok (.iconst 0, 1) := dk_3 (dk_at dksX6_family_9 3 rfl rfl)
theorem dX6_family_215 : decode cX6_family 215 = .ok (.istore_n 3, 1) := dk_62 (dk_at dksX6_family_9 4 rfl rfl)
theorem dX6_family_216 : decode cX6_family 216 = .ok (.iload_n 3, 1) := dk_29 (dk_at dksX6_family_9 5 rfl rfl)
theorem dX6_family_217 : decode cX6_family 217 = .ok (.iload_n 2, 1) := dk_28 (dk_at dksX6_family_9 6 rfl rfl)
theorem dX6_family_218 : decode cX6_family 218 = .ok (.if_icmp .ge 15, 3) := dk_162 0 15 (dk_at dksX6_family_9 7 rfl rfl)
theorem dX6_family_221 : decode cX6_family 221 = .ok (.aload_n 0, 1) := dk_42 (dk_at dksX6_family_9 10 rfl rfl)
theorem dX6_family_222 : decode cX6_family 222 = .ok (.iconst 5, 1) := dk_8 (dk_at dksX6_family_9 11 rfl rfl)
theorem dX6_family_223 : decode cX6_family 223 = .ok (.iconst 0, 1) := dk_3 (dk_at dksX6_family_9 12 rfl rfl)
theorem dX6_family_224 : decode cX6_family 224 = .ok (.invokevirtual 95, 3) := dk_182 0 95 (dk_at dksX6_family_9 13 rfl rfl)
theorem dX6_family_227 : decode cX6_family 227 = .ok (.iinc 3 1, 3) := dk_132 3 1 (dk_at dksX6_family_9 16 rfl rfl)
theorem dX6_family_230 : decode cX6_family 230 = .ok (.goto (-14), 3) := dk_167 255 242 (dk_at dksX6_family_9 19 rfl rfl)
theorem dX6_family_233 : decode cX6_family 233 = .ok (.goto 21, 3) := dk_167 0 21 (dk_at dksX6_family_10 0 rfl rfl)
theorem dX6_family_236 : decode cX6_family 236 = .ok (.iconst 0, 1) := dk_3 (dk_at dksX6_family_10 3 rfl rfl)
theorem dX6_family_237 : decode cX6_family 237 = .ok (.istore_n 3, 1) := dk_62 (dk_at dksX6_family_10 4 rfl rfl)
theorem dX6_family_238 : decode cX6_family 238 = .ok (.iload_n 3, 1) := dk_29 (dk_at dksX6_family_10 5 rfl rfl)
theorem dX6_family_239 : decode cX6_family 239 = .ok (.iload_n 2, 1) := dk_28 (dk_at dksX6_family_10 6 rfl rfl)
theorem dX6_family_240 : decode cX6_family 240 = .ok (.if_icmp .ge 14, 3) := dk_162 0 14 (dk_at dksX6_family_10 7 rfl rfl)
theorem dX6_family_243 : decode cX6_family 243 = .ok (.aload_n 0, 1) := dk_42 (dk_at dksX6_family_10 10 rfl rfl)
theorem dX6_family_244 : decode cX6_family 244 = .ok (.iload_n 3, 1) := dk_29 (dk_at dksX6_family_10 11 rfl rfl)
theorem dX6_family_245 : decode cX6_family 245 = .ok (.invokevirtual 109, 3) := dk_182 0 109 (dk_at dksX6_family_10 12 rfl rfl)
theorem dX6_family_248 : decode cX6_family 248 = .ok (.iinc 3 1, 3) := dk_132 3 1 (dk_at dksX6_family_10 15 rfl rfl)
theorem dX6_family_251 : decode cX6_family 251 = .ok (.goto (-13), 3) := dk_167 255 243 (dk_at dksX6_family_10 18 rfl rfl)
theorem dX6_family_254 : decode cX6_family 254 = .ok (.return_, 1) := dk_177 (dk_at dksX6_family_10 21 rfl rfl)
abbrev cX6_drawItem : ByteArray := prog_8_method_14_code
def yX6_drawItem : MethodName := ⟨RX6, "drawItem", "(I)V"⟩
def dkwX6_drawItem_8 : List UInt8 := [21, 4, 182, 0, 106, 177]
abbrev dktX6_drawItem_8 : List UInt8 := dkwX6_drawItem_8 ++ []
def dkwX6_drawItem_7 : List UInt8 := [182, 0, 83, 42, 180, 0, 78, 54, 4, 42, 16, 80, 16, 75, 182, 0, 95, 42, 4, 29, 182, 0, 103, 42]
abbrev dktX6_drawItem_7 : List UInt8 := dkwX6_drawItem_7 ++ dktX6_drawItem_8
def dkwX6_drawItem_6 : List UInt8 := [4, 182, 0, 103, 167, 0, 49, 42, 8, 182, 0, 99, 62, 42, 7, 3, 182, 0, 95, 42, 29, 16, 6, 96]
abbrev dktX6_drawItem_6 : List UInt8 := dkwX6_drawItem_6 ++ dktX6_drawItem_7
def dkwX6_drawItem_5 : List UInt8 := [158, 0, 17, 42, 16, 6, 42, 27, 182, 0, 99, 182, 0, 95, 167, 0, 63, 28, 7, 160, 0, 12, 42, 4]
abbrev dktX6_drawItem_5 : List UInt8 := dkwX6_drawItem_5 ++ dktX6_drawItem_6
def dkwX6_drawItem_4 : List UInt8 := [160, 0, 16, 42, 8, 42, 7, 182, 0, 99, 182, 0, 103, 167, 0, 86, 28, 7, 160, 0, 21, 27]
abbrev dktX6_drawItem_4 : List UInt8 := dkwX6_drawItem_4 ++ dktX6_drawItem_5
def dkwX6_drawItem_3 : List UInt8 := [62, 42, 6, 29, 182, 0, 95, 42, 42, 16, 12, 182, 0, 99, 182, 0, 83, 167, 0, 104, 28, 6]
abbrev dktX6_drawItem_3 : List UInt8 := dkwX6_drawItem_3 ++ dktX6_drawItem_4
def dkwX6_drawItem_2 : List UInt8 := [17, 1, 0, 182, 0, 99, 182, 0, 83, 167, 0, 136, 28, 5, 160, 0, 30, 4, 42, 7, 182, 0, 99, 96]
abbrev dktX6_drawItem_2 : List UInt8 := dkwX6_drawItem_2 ++ dktX6_drawItem_3
def dkwX6_drawItem_1 : List UInt8 := [167, 0, 168, 28, 4, 160, 0, 30, 42, 16, 20, 182, 0, 99, 62, 42, 5, 29, 182, 0, 95, 42, 42]
abbrev dktX6_drawItem_1 : List UInt8 := dkwX6_drawItem_1 ++ dktX6_drawItem_2
def dkwX6_drawItem_0 : List UInt8 := [42, 16, 6, 182, 0, 99, 61, 28, 154, 0, 19, 42, 4, 4, 42, 16, 6, 182, 0, 99, 96, 182, 0, 103]
abbrev dktX6_drawItem_0 : List UInt8 := dkwX6_drawItem_0 ++ dktX6_drawItem_1
theorem dksX6_drawItem_0 : cX6_drawItem.data.toList.drop 0 = dktX6_drawItem_0 := by decide +kernel
theorem dksX6_drawItem_1 : cX6_drawItem.data.toList.drop 24 = dktX6_drawItem_1 := dk_seg dksX6_drawItem_0 24 rfl rfl
theorem dksX6_drawItem_2 : cX6_drawItem.data.toList.drop 47 = dktX6_drawItem_2 := dk_seg dksX6_drawItem_1 23 rfl rfl
theorem dksX6_drawItem_3 : cX6_drawItem.data.toList.drop 71 = dktX6_drawItem_3 := dk_seg dksX6_drawItem_2 24 rfl rfl
theorem dksX6_drawItem_4 : cX6_drawItem.data.toList.drop 93 = dktX6_drawItem_4 := dk_seg dksX6_drawItem_3 22 rfl rfl
theorem dksX6_drawItem_5 : cX6_drawItem.data.toList.drop 115 = dktX6_drawItem_5 := dk_seg dksX6_drawItem_4 22 rfl rfl
theorem dksX6_drawItem_6 : cX6_drawItem.data.toList.drop 139 = dktX6_drawItem_6 := dk_seg dksX6_drawItem_5 24 rfl rfl
theorem dksX6_drawItem_7 : cX6_drawItem.data.toList.drop 163 = dktX6_drawItem_7 := dk_seg dksX6_drawItem_6 24 rfl rfl
theorem dksX6_drawItem_8 : cX6_drawItem.data.toList.drop 187 = dktX6_drawItem_8 := dk_seg dksX6_drawItem_7 24 rfl rfl
theorem dX6_drawItem_0 : decode cX6_drawItem 0 = .ok (.aload_n 0, 1) := dk_42 (dk_at dksX6_drawItem_0 0 rfl rfl)
theorem dX6_drawItem_1 : decode cX6_drawItem 1 = .ok (.bipush 6, 2) := dk_16 6 (dk_at dksX6_drawItem_0 1 rfl rfl)
theorem dX6_drawItem_3 : decode cX6_drawItem 3 = .ok (.invokevirtual 99, 3) := dk_182 0 99 (dk_at dksX6_drawItem_0 3 rfl rfl)
theorem dX6_drawItem_6 : decode cX6_drawItem 6 = .ok (.istore_n 2, 1) := dk_61 (dk_at dksX6_drawItem_0 6 rfl rfl)
theorem dX6_drawItem_7 : decode cX6_drawItem 7 = .ok (.iload_n 2, 1) := dk_28 (dk_at dksX6_drawItem_0 7 rfl rfl)
theorem dX6_drawItem_8 : decode cX6_drawItem 8 = .ok (.ifCond .ne 19, 3) := dk_154 0 19 (dk_at dksX6_drawItem_0 8 rfl rfl)
theorem dX6_drawItem_11 : decode cX6_drawItem 11 = .ok (.aload_n 0, 1) := dk_42 (dk_at dksX6_drawItem_0 11 rfl rfl)
theorem dX6_drawItem_12 : decode cX6_drawItem 12 = .ok (.iconst 1, 1) := dk_4 (dk_at dksX6_drawItem_0 12 rfl rfl)
theorem dX6_drawItem_13 : decode cX6_drawItem 13 = .ok (.iconst 1, 1) := dk_4 (dk_at dksX6_drawItem_0 13 rfl rfl)
theorem dX6_drawItem_14 : decode cX6_drawItem 14 = .ok (.aload_n 0, 1) := dk_42 (dk_at dksX6_drawItem_0 14 rfl rfl)
theorem dX6_drawItem_15 : decode cX6_drawItem 15 = .ok (.bipush 6, 2) := dk_16 6 (dk_at dksX6_drawItem_0 15 rfl rfl)
theorem dX6_drawItem_17 : decode cX6_drawItem 17 = .ok (.invokevirtual 99, 3) := dk_182 0 99 (dk_at dksX6_drawItem_0 17 rfl rfl)
theorem dX6_drawItem_20 : decode cX6_drawItem 20 = .ok (.iadd, 1) := dk_96 (dk_at dksX6_drawItem_0 20 rfl rfl)
theorem dX6_drawItem_21 : decode cX6_drawItem 21 = .ok (.invokevirtual 103, 3) := dk_182 0 103 (dk_at dksX6_drawItem_0 21 rfl rfl)
theorem dX6_drawItem_24 : decode cX6_drawItem 24 = .ok (.goto 168, 3) := dk_167 0 168 (dk_at dksX6_drawItem_1 0 rfl rfl)
theorem dX6_drawItem_27 : decode cX6_drawItem 27 = .ok (.iload_n 2, 1) := dk_28 (dk_at dksX6_drawItem_1 3 rfl rfl)
theorem dX6_drawItem_28 : decode cX6_drawItem 28 = .ok (.iconst 1, 1) := dk_4 (dk_at dksX6_drawItem_1 4 rfl rfl)
theorem dX6_drawItem_29 : decode cX6_drawItem 29 = .ok (.if_icmp .ne 30, 3) := dk_160 0 30 (dk_at dksX6_drawItem_1 5 rfl rfl)
theorem dX6_drawItem_32 : decode cX6_drawItem 32 = .ok (.aload_n 0, 1) := dk_42 (dk_at dksX6_drawItem_1 8 rfl rfl)
theorem dX6_drawItem_33 : decode cX6_drawItem 33 = .ok (.bipush 20, 2) := dk_16 20 (dk_at dksX6_drawItem_1 9 rfl rfl)
theorem dX6_drawItem_35 : decode cX6_drawItem 35 = .ok (.invokevirtual 99, 3) := dk_182 0 99 (dk_at dksX6_drawItem_1 11 rfl rfl)
theorem dX6_drawItem_38 : decode cX6_drawItem 38 = .ok (.istore_n 3, 1) := dk_62 (dk_at dksX6_drawItem_1 14 rfl rfl)
theorem dX6_drawItem_39 : decode cX6_drawItem 39 = .ok (.aload_n 0, 1) := dk_42 (dk_at dksX6_drawItem_1 15 rfl rfl)
theorem dX6_drawItem_40 : decode cX6_drawItem 40 = .ok (.iconst 2, 1) := dk_5 (dk_at dksX6_drawItem_1 16 rfl rfl)
theorem dX6_drawItem_41 : decode cX6_drawItem 41 = .ok (.iload_n 3, 1) := dk_29 (dk_at dksX6_drawItem_1 17 rfl rfl)
theorem dX6_drawItem_42 : decode cX6_drawItem 42 = .ok (.invokevirtual 95, 3) := dk_182 0 95 (dk_at dksX6_drawItem_1 18 rfl rfl)
theorem dX6_drawItem_45 : decode cX6_drawItem 45 = .ok (.aload_n 0, 1) := dk_42 (dk_at dksX6_drawItem_1 21 rfl rfl)
theorem dX6_drawItem_46 : decode cX6_drawItem 46 = .ok (.aload_n 0, 1) := dk_42 (dk_at dksX6_drawItem_1 22 rfl rfl)
theorem dX6_drawItem_47 : decode cX6_drawItem 47 = .ok (.sipush 256, 3) := dk_17 1 0 (dk_at dksX6_drawItem_2 0 rfl rfl)
theorem dX6_drawItem_50 : decode cX6_drawItem 50 = .ok (.invokevirtual 99, 3) := dk_182 0 99 (dk_at dksX6_drawItem_2 3 rfl rfl)
theorem dX6_drawItem_53 : decode cX6_drawItem 53 = .ok (.invokevirtual 83, 3) := dk_182 0 83 (dk_at dksX6_drawItem_2 6 rfl rfl)
theorem dX6_drawItem_56 : decode cX6_drawItem 56 = .ok (.goto 136, 3) := dk_167 0 136 (dk_at dksX6_drawItem_2 9 rfl rfl)
theorem dX6_drawItem_59 : decode cX6_drawItem 59 = .ok (.iload_n 2, 1) := dk_28 (dk_at dksX6_drawItem_2 12 rfl rfl)
theorem dX6_drawItem_60 : decode cX6_drawItem 60 = .ok (.iconst 2, 1) := dk_5 (dk_at dksX6_drawItem_2 13 rfl rfl)
theorem dX6_drawItem_61 : decode cX6_drawItem 61 = .ok (.if_icmp .ne 30, 3) := dk_160 0 30 (dk_at dksX6_drawItem_2 14 rfl rfl)
theorem dX6_drawItem_64 : decode cX6_drawItem 64 = .ok (.iconst 1, 1) := dk_4 (dk_at dksX6_drawItem_2 17 rfl rfl)
theorem dX6_drawItem_65 : decode cX6_drawItem 65 = .ok (.aload_n 0, 1) := dk_42 (dk_at dksX6_drawItem_2 18 rfl rfl)
theorem dX6_drawItem_66 : decode cX6_drawItem 66 = .ok (.iconst 4, 1) := dk_7 (dk_at dksX6_drawItem_2 19 rfl rfl)
theorem dX6_drawItem_67 : decode cX6_drawItem 67 = .ok (.invokevirtual 99, 3) := dk_182 0 99 (dk_at dksX6_drawItem_2 20 rfl rfl)
theorem dX6_drawItem_70 : decode cX6_drawItem 70 = .ok (.iadd, 1) := dk_96 (dk_at dksX6_drawItem_2 23 rfl rfl)
theorem dX6_drawItem_71 : decode cX6_drawItem 71 = .ok (.istore_n 3, 1) := dk_62 (dk_at dksX6_drawItem_3 0 rfl rfl)
theorem dX6_drawItem_72 : decode cX6_drawItem 72 = .ok (.aload_n 0, 1) := dk_42 (dk_at dksX6_drawItem_3 1 rfl rfl)
theorem dX6_drawItem_73 : decode cX6_drawItem 73 = .ok (.iconst 3, 1) := dk_6 (dk_at dksX6_drawItem_3 2 rfl rfl)
theorem dX6_drawItem_74 : decode cX6_drawItem 74 = .ok (.iload_n 3, 1) := dk_29 (dk_at dksX6_drawItem_3 3 rfl rfl)
theorem dX6_drawItem_75 : decode cX6_drawItem 75 = .ok (.invokevirtual 95, 3) := dk_182 0 95 (dk_at dksX6_drawItem_3 4 rfl rfl)
theorem dX6_drawItem_78 : decode cX6_drawItem 78 = .ok (.aload_n 0, 1) := dk_42 (dk_at dksX6_drawItem_3 7 rfl rfl)
theorem dX6_drawItem_79 : decode cX6_drawItem 79 = .ok (.aload_n 0, 1) := dk_42 (dk_at dksX6_drawItem_3 8 rfl rfl)
theorem dX6_drawItem_80 : decode cX6_drawItem 80 = .ok (.bipush 12, 2) := dk_16 12 (dk_at dksX6_drawItem_3 9 rfl rfl)
theorem dX6_drawItem_82 : decode cX6_drawItem 82 = .ok (.invokevirtual 99, 3) := dk_182 0 99 (dk_at dksX6_drawItem_3 11 rfl rfl)
theorem dX6_drawItem_85 : decode cX6_drawItem 85 = .ok (.invokevirtual 83, 3) := dk_182 0 83 (dk_at dksX6_drawItem_3 14 rfl rfl)
theorem dX6_drawItem_88 : decode cX6_drawItem 88 = .ok (.goto 104, 3) := dk_167 0 104 (dk_at dksX6_drawItem_3 17 rfl rfl)
theorem dX6_drawItem_91 : decode cX6_drawItem 91 = .ok (.iload_n 2, 1) := dk_28 (dk_at dksX6_drawItem_3 20 rfl rfl)
theorem dX6_drawItem_92 : decode cX6_drawItem 92 = .ok (.iconst 3, 1) := dk_6 (dk_at dksX6_drawItem_3 21 rfl rfl)
theorem dX6_drawItem_93 : decode cX6_drawItem 93 = .ok (.if_icmp .ne 16, 3) := dk_160 0 16 (dk_at dksX6_drawItem_4 0 rfl rfl)
theorem dX6_drawItem_96 : decode cX6_drawItem 96 = .ok (.aload_n 0, 1) := dk_42 (dk_at dksX6_drawItem_4 3 rfl rfl)
theorem dX6_drawItem_97 : decode cX6_drawItem 97 = .ok (.iconst 5, 1) := dk_8 (dk_at dksX6_drawItem_4 4 rfl rfl)
theorem dX6_drawItem_98 : decode cX6_drawItem 98 = .ok (.aload_n 0, 1) := dk_42 (dk_at dksX6_drawItem_4 5 rfl rfl)
theorem dX6_drawItem_99 : decode cX6_drawItem 99 = .ok (.iconst 4, 1) := dk_7 (dk_at dksX6_drawItem_4 6 rfl rfl)
theorem dX6_drawItem_100 : decode cX6_drawItem 100 = .ok (.invokevirtual 99, 3) := dk_182 0 99 (dk_at dksX6_drawItem_4 7 rfl rfl)
theorem dX6_drawItem_103 : decode cX6_drawItem 103 = .ok (.invokevirtual 103, 3) := dk_182 0 103 (dk_at dksX6_drawItem_4 10 rfl rfl)
theorem dX6_drawItem_106 : decode cX6_drawItem 106 = .ok (.goto 86, 3) := dk_167 0 86 (dk_at dksX6_drawItem_4 13 rfl rfl)
theorem dX6_drawItem_109 : decode cX6_drawItem 109 = .ok (.iload_n 2, 1) := dk_28 (dk_at dksX6_drawItem_4 16 rfl rfl)
theorem dX6_drawItem_110 : decode cX6_drawItem 110 = .ok (.iconst 4, 1) := dk_7 (dk_at dksX6_drawItem_4 17 rfl rfl)
theorem dX6_drawItem_111 : decode cX6_drawItem 111 = .ok (.if_icmp .ne 21, 3) := dk_160 0 21 (dk_at dksX6_drawItem_4 18 rfl rfl)
theorem dX6_drawItem_114 : decode cX6_drawItem 114 = .ok (.iload_n 1, 1) := dk_27 (dk_at dksX6_drawItem_4 21 rfl rfl)
theorem dX6_drawItem_115 : decode cX6_drawItem 115 = .ok (.ifCond .le 17, 3) := dk_158 0 17 (dk_at dksX6_drawItem_5 0 rfl rfl)
theorem dX6_drawItem_118 : decode cX6_drawItem 118 = .ok (.aload_n 0, 1) := dk_42 (dk_at dksX6_drawItem_5 3 rfl rfl)
theorem dX6_drawItem_119 : decode cX6_drawItem 119 = .ok (.bipush 6, 2) := dk_16 6 (dk_at dksX6_drawItem_5 4 rfl rfl)
theorem dX6_drawItem_121 : decode cX6_drawItem 121 = .ok (.aload_n 0, 1) := dk_42 (dk_at dksX6_drawItem_5 6 rfl rfl)
theorem dX6_drawItem_122 : decode cX6_drawItem 122 = .ok (.iload_n 1, 1) := dk_27 (dk_at dksX6_drawItem_5 7 rfl rfl)
theorem dX6_drawItem_123 : decode cX6_drawItem 123 = .ok (.invokevirtual 99, 3) := dk_182 0 99 (dk_at dksX6_drawItem_5 8 rfl rfl)
theorem dX6_drawItem_126 : decode cX6_drawItem 126 = .ok (.invokevirtual 95, 3) := dk_182 0 95 (dk_at dksX6_drawItem_5 11 rfl rfl)
theorem dX6_drawItem_129 : decode cX6_drawItem 129 = .ok (.goto 63, 3) := dk_167 0 63 (dk_at dksX6_drawItem_5 14 rfl rfl)
theorem dX6_drawItem_132 : decode cX6_drawItem 132 = .ok (.iload_n 2, 1) := dk_28 (dk_at dksX6_drawItem_5 17 rfl rfl)
theorem dX6_drawItem_133 : decode cX6_drawItem 133 = .ok (.iconst 4, 1) := dk_7 (dk_at dksX6_drawItem_5 18 rfl rfl)
theorem dX6_drawItem_134 : decode cX6_drawItem 134 = .ok (.if_icmp .ne 12, 3) := dk_160 0 12 (dk_at dksX6_drawItem_5 19 rfl rfl)
theorem dX6_drawItem_137 : decode cX6_drawItem 137 = .ok (.aload_n 0, 1) := dk_42 (dk_at dksX6_drawItem_5 22 rfl rfl)
theorem dX6_drawItem_138 : decode cX6_drawItem 138 = .ok (.iconst 1, 1) := dk_4 (dk_at dksX6_drawItem_5 23 rfl rfl)
theorem dX6_drawItem_139 : decode cX6_drawItem 139 = .ok (.iconst 1, 1) := dk_4 (dk_at dksX6_drawItem_6 0 rfl rfl)
theorem dX6_drawItem_140 : decode cX6_drawItem 140 = .ok (.invokevirtual 103, 3) := dk_182 0 103 (dk_at dksX6_drawItem_6 1 rfl rfl)
theorem dX6_drawItem_143 : decode cX6_drawItem 143 = .ok (.goto 49, 3) := dk_167 0 49 (dk_at dksX6_drawItem_6 4 rfl rfl)
theorem dX6_drawItem_146 : decode cX6_drawItem 146 = .ok (.aload_n 0, 1) := dk_42 (dk_at dksX6_drawItem_6 7 rfl rfl)
theorem dX6_drawItem_147 : decode cX6_drawItem 147 = .ok (.iconst 5, 1) := dk_8 (dk_at dksX6_drawItem_6 8 rfl rfl)
theorem dX6_drawItem_148 : decode cX6_drawItem 148 = .ok (.invokevirtual 99, 3) := dk_182 0 99 (dk_at dksX6_drawItem_6 9 rfl rfl)
theorem dX6_drawItem_151 : decode cX6_drawItem 151 = .ok (.istore_n 3, 1) := dk_62 (dk_at dksX6_drawItem_6 12 rfl rfl)
theorem dX6_drawItem_152 : decode cX6_drawItem 152 = .ok (.aload_n 0, 1) := dk_42 (dk_at dksX6_drawItem_6 13 rfl rfl)
theorem dX6_drawItem_153 : decode cX6_drawItem 153 = .ok (.iconst 4, 1) := dk_7 (dk_at dksX6_drawItem_6 14 rfl rfl)
theorem dX6_drawItem_154 : decode cX6_drawItem 154 = .ok (.iconst 0, 1) := dk_3 (dk_at dksX6_drawItem_6 15 rfl rfl)
theorem dX6_drawItem_155 : decode cX6_drawItem 155 = .ok (.invokevirtual 95, 3) := dk_182 0 95 (dk_at dksX6_drawItem_6 16 rfl rfl)
theorem dX6_drawItem_158 : decode cX6_drawItem 158 = .ok (.aload_n 0, 1) := dk_42 (dk_at dksX6_drawItem_6 19 rfl rfl)
theorem dX6_drawItem_159 : decode cX6_drawItem 159 = .ok (.iload_n 3, 1) := dk_29 (dk_at dksX6_drawItem_6 20 rfl rfl)
theorem dX6_drawItem_160 : decode cX6_drawItem 160 = .ok (.bipush 6, 2) := dk_16 6 (dk_at dksX6_drawItem_6 21 rfl rfl)
theorem dX6_drawItem_162 : decode cX6_drawItem 162 = .ok (.iadd, 1) := dk_96 (dk_at dksX6_drawItem_6 23 rfl rfl)
theorem dX6_drawItem_163 : decode cX6_drawItem 163 = .ok (.invokevirtual 83, 3) := dk_182 0 83 (dk_at dksX6_drawItem_7 0 rfl rfl)
theorem dX6_drawItem_166 : decode cX6_drawItem 166 = .ok (.aload_n 0, 1) := dk_42 (dk_at dksX6_drawItem_7 3 rfl rfl)
theorem dX6_drawItem_167 : decode cX6_drawItem 167 = .ok (.getfield 78, 3) := dk_180 0 78 (dk_at dksX6_drawItem_7 4 rfl rfl)
theorem dX6_drawItem_170 : decode cX6_drawItem 170 = .ok (.istore 4, 2) := dk_54 4 (dk_at dksX6_drawItem_7 7 rfl rfl)
theorem dX6_drawItem_172 : decode cX6_drawItem 172 = .ok (.aload_n 0, 1) := dk_42 (dk_at dksX6_drawItem_7 9 rfl rfl)
theorem dX6_drawItem_173 : decode cX6_drawItem 173 = .ok (.bipush 80, 2) := dk_16 80 (dk_at dksX6_drawItem_7 10 rfl rfl)
theorem dX6_drawItem_175 : decode cX6_drawItem 175 = .ok (.bipush 75, 2) := dk_16 75 (dk_at dksX6_drawItem_7 12 rfl rfl)
theorem dX6_drawItem_177 : decode cX6_drawItem 177 = .ok (.invokevirtual 95, 3) := dk_182 0 95 (dk_at dksX6_drawItem_7 14 rfl rfl)
theorem dX6_drawItem_180 : decode cX6_drawItem 180 = .ok (.aload_n 0, 1) := dk_42 (dk_at dksX6_drawItem_7 17 rfl rfl)
theorem dX6_drawItem_181 : decode cX6_drawItem 181 = .ok (.iconst 1, 1) := dk_4 (dk_at dksX6_drawItem_7 18 rfl rfl)
theorem dX6_drawItem_182 : decode cX6_drawItem 182 = .ok (.iload_n 3, 1) := dk_29 (dk_at dksX6_drawItem_7 19 rfl rfl)
theorem dX6_drawItem_183 : decode cX6_drawItem 183 = .ok (.invokevirtual 103, 3) := dk_182 0 103 (dk_at dksX6_drawItem_7 20 rfl rfl)
theorem dX6_drawItem_186 : decode cX6_drawItem 186 = .ok (.aload_n 0, 1) := dk_42 (dk_at dksX6_drawItem_7 23 rfl rfl)
theorem dX6_drawItem_187 : decode cX6_drawItem 187 = .ok (.iload 4, 2) := dk_21 4 (dk_at dksX6_drawItem_8 0 rfl rfl)
theorem dX6_drawItem_189 : decode cX6_drawItem 189 = .ok (.invokevirtual 106, 3) := dk_182 0 106 (dk_at dksX6_drawItem_8 2 rfl rfl)
theorem dX6_drawItem_192 : decode cX6_drawItem 192 = .ok (.return_, 1) := dk_177 (dk_at dksX6_drawItem_8 5 rfl rfl)
abbrev cX6_open : ByteArray := prog_8_method_34_code
def yX6_open : MethodName := ⟨RX6, "open", "(III)I"⟩
def dkwX6_open_1 : List UInt8 := [158, 0, 13, 16, 246, 42, 180, 0, 122, 100, 167, 0, 7, 42, 180, 0, 140, 172]
abbrev dktX6_open_1 : List UInt8 := dkwX6_open_1 ++ []
def dkwX6_open_0 : List UInt8 := [27, 28, 29, 184, 0, 201, 154, 0, 6, 16, 254, 172, 42, 27, 28, 29, 182, 0, 204, 42, 180, 0, 122]
abbrev dktX6_open_0 : List UInt8 := dkwX6_open_0 ++ dktX6_open_1
theorem dksX6_open_0 : cX6_open.data.toList.drop 0 = dktX6_open_0 := by decide +kernel
theorem dksX6_open_1 : cX6_open.data.toList.drop 23 = dktX6_open_1 := dk_seg dksX6_open_0 23 rfl rfl
theorem dX6_open_0 : decode cX6_open 0 = .ok (.iload_n 1, 1) := dk_27 (dk_at dksX6_open_0 0 rfl rfl)
theorem dX6_open_1 : decode cX6_open 1 = .ok (.iload_n 2, 1) := dk_28 (dk_at dksX6_open_0 1 rfl rfl)
theorem dX6_open_2 : decode cX6_open 2 = .ok (.iload_n 3, 1) := dk_29 (dk_at dksX6_open_0 2 rfl rfl)
theorem dX6_open_3 : decode cX6_open 3 = .ok (.invokestatic 201, 3) := dk_184 0 201 (dk_at dksX6_open_0 3 rfl rfl)
theorem dX6_open_6 : decode cX6_open 6 = .ok (.ifCond .ne 6, 3) := dk_154 0 6 (dk_at dksX6_open_0 6 rfl rfl)
theorem dX6_open_9 : decode cX6_open 9 = .ok (.bipush (-2), 2) := dk_16 254 (dk_at dksX6_open_0 9 rfl rfl)
theorem dX6_open_11 : decode cX6_open 11 = .ok (.ireturn, 1) := dk_172 (dk_at dksX6_open_0 11 rfl rfl)
theorem dX6_open_12 : decode cX6_open 12 = .ok (.aload_n 0, 1) := dk_42 (dk_at dksX6_open_0 12 rfl rfl)
theorem dX6_open_13 : decode cX6_open 13 = .ok (.iload_n 1, 1) := dk_27 (dk_at dksX6_open_0 13 rfl rfl)
theorem dX6_open_14 : decode cX6_open 14 = .ok (.iload_n 2, 1) := dk_28 (dk_at dksX6_open_0 14 rfl rfl)
theorem dX6_open_15 : decode cX6_open 15 = .ok (.iload_n 3, 1) := dk_29 (dk_at dksX6_open_0 15 rfl rfl)
theorem dX6_open_16 : decode cX6_open 16 = .ok (.invokevirtual 204, 3) := dk_182 0 204 (dk_at dksX6_open_0 16 rfl rfl)
theorem dX6_open_19 : decode cX6_open 19 = .ok (.aload_n 0, 1) := dk_42 (dk_at dksX6_open_0 19 rfl rfl)
theorem dX6_open_20 : decode cX6_open 20 = .ok (.getfield 122, 3) := dk_180 0 122 (dk_at dksX6_open_0 20 rfl rfl)
theorem dX6_open_23 : decode cX6_open 23 = .ok (.ifCond .le 13, 3) := dk_158 0 13 (dk_at dksX6_open_1 0 rfl rfl)
theorem dX6_open_26 : decode cX6_open 26 = .ok (.bipush (-10), 2) := dk_16 246 (dk_at dksX6_open_1 3 rfl rfl)
theorem dX6_open_28 : decode cX6_open 28 = .ok (.aload_n 0, 1) := dk_42 (dk_at dksX6_open_1 5 rfl rfl)
theorem dX6_open_29 : decode cX6_open 29 = .ok (.getfield 122, 3) := dk_180 0 122 (dk_at dksX6_open_1 6 rfl rfl)
theorem dX6_open_32 : decode cX6_open 32 = .ok (.isub, 1) := dk_100 (dk_at dksX6_open_1 9 rfl rfl)
theorem dX6_open_33 : decode cX6_open 33 = .ok (.goto 7, 3) := dk_167 0 7 (dk_at dksX6_open_1 10 rfl rfl)
theorem dX6_open_36 : decode cX6_open 36 = .ok (.aload_n 0, 1) := dk_42 (dk_at dksX6_open_1 13 rfl rfl)
theorem dX6_open_37 : decode cX6_open 37 = .ok (.getfield 140, 3) := dk_180 0 140 (dk_at dksX6_open_1 14 rfl rfl)
theorem dX6_open_40 : decode cX6_open 40 = .ok (.ireturn, 1) := dk_172 (dk_at dksX6_open_1 17 rfl rfl)
abbrev cX6_isGood : ByteArray := prog_8_method_33_code
def yX6_isGood : MethodName := ⟨RX6, "isGood", "(III)Z"⟩
def dkwX6_isGood_1 : List UInt8 := [28, 133, 9, 20, 0, 72, 184, 0, 74, 153, 0, 7, 4, 167, 0, 4, 3, 172]
abbrev dktX6_isGood_1 : List UInt8 := dkwX6_isGood_1 ++ []
def dkwX6_isGood_0 : List UInt8 := [26, 133, 9, 20, 0, 197, 184, 0, 74, 153, 0, 31, 27, 133, 9, 20, 0, 199, 184, 0, 74, 153, 0, 19]
abbrev dktX6_isGood_0 : List UInt8 := dkwX6_isGood_0 ++ dktX6_isGood_1
theorem dksX6_isGood_0 : cX6_isGood.data.toList.drop 0 = dktX6_isGood_0 := by decide +kernel
theorem dksX6_isGood_1 : cX6_isGood.data.toList.drop 24 = dktX6_isGood_1 := dk_seg dksX6_isGood_0 24 rfl rfl
theorem dX6_isGood_0 : decode cX6_isGood 0 = .ok (.iload_n 0, 1) := dk_26 (dk_at dksX6_isGood_0 0 rfl rfl)
theorem dX6_isGood_1 : decode cX6_isGood 1 = .ok (.i2l, 1) := dk_133 (dk_at dksX6_isGood_0 1 rfl rfl)
theorem dX6_isGood_2 : decode cX6_isGood 2 = .ok (.lconst 0, 1) := dk_9 (dk_at dksX6_isGood_0 2 rfl rfl)
theorem dX6_isGood_3 : decode cX6_isGood 3 = .ok (.ldc2_w 197, 3) := dk_20 0 197 (dk_at dksX6_isGood_0 3 rfl rfl)
theorem dX6_isGood_6 : decode cX6_isGood 6 = .ok (.invokestatic 74, 3) := dk_184 0 74 (dk_at dksX6_isGood_0 6 rfl rfl)
theorem dX6_isGood_9 : decode cX6_isGood 9 = .ok (.ifCond .eq 31, 3) := dk_153 0 31 (dk_at dksX6_isGood_0 9 rfl rfl)
theorem dX6_isGood_12 : decode cX6_isGood 12 = .ok (.iload_n 1, 1) := dk_27 (dk_at dksX6_isGood_0 12 rfl rfl)
theorem dX6_isGood_13 : decode cX6_isGood 13 = .ok (.i2l, 1) := dk_133 (dk_at dksX6_isGood_0 13 rfl rfl)
theorem dX6_isGood_14 : decode cX6_isGood 14 = .ok (.lconst 0, 1) := dk_9 (dk_at dksX6_isGood_0 14 rfl rfl)
theorem dX6_isGood_15 : decode cX6_isGood 15 = .ok (.ldc2_w 199, 3) := dk_20 0 199 (dk_at dksX6_isGood_0 15 rfl rfl)
theorem dX6_isGood_18 : decode cX6_isGood 18 = .ok (.invokestatic 74, 3) := dk_184 0 74 (dk_at dksX6_isGood_0 18 rfl rfl)
theorem dX6_isGood_21 : decode cX6_isGood 21 = .ok (.ifCond .eq 19, 3) := dk_153 0 19 (dk_at dksX6_isGood_0 21 rfl rfl)
theorem dX6_isGood_24 : decode cX6_isGood 24 = .ok (.iload_n 2, 1) := dk_28 (dk_at dksX6_isGood_1 0 rfl rfl)
theorem dX6_isGood_25 : decode cX6_isGood 25 = .ok (.i2l, 1) := dk_133 (dk_at dksX6_isGood_1 1 rfl rfl)
theorem dX6_isGood_26 : decode cX6_isGood 26 = .ok (.lconst 0, 1) := dk_9 (dk_at dksX6_isGood_1 2 rfl rfl)
theorem dX6_isGood_27 : decode cX6_isGood 27 = .ok (.ldc2_w 72, 3) := dk_20 0 72 (dk_at dksX6_isGood_1 3 rfl rfl)
theorem dX6_isGood_30 : decode cX6_isGood 30 = .ok (.invokestatic 74, 3) := dk_184 0 74 (dk_at dksX6_isGood_1 6 rfl rfl)
theorem dX6_isGood_33 : decode cX6_isGood 33 = .ok (.ifCond .eq 7, 3) := dk_153 0 7 (dk_at dksX6_isGood_1 9 rfl rfl)
theorem dX6_isGood_36 : decode cX6_isGood 36 = .ok (.iconst 1, 1) := dk_4 (dk_at dksX6_isGood_1 12 rfl rfl)
theorem dX6_isGood_37 : decode cX6_isGood 37 = .ok (.goto 4, 3) := dk_167 0 4 (dk_at dksX6_isGood_1 13 rfl rfl)
theorem dX6_isGood_40 : decode cX6_isGood 40 = .ok (.iconst 0, 1) := dk_3 (dk_at dksX6_isGood_1 16 rfl rfl)
theorem dX6_isGood_41 : decode cX6_isGood 41 = .ok (.ireturn, 1) := dk_172 (dk_at dksX6_isGood_1 17 rfl rfl)
abbrev cX6_reads : ByteArray := prog_8_method_32_code
def yX6_reads : MethodName := ⟨RX6, "reads", "(III)V"⟩
def dkwX6_reads_4 : List UInt8 := [167, 255, 238, 177]
abbrev dktX6_reads_4 : List UInt8 := dkwX6_reads_4 ++ []
def dkwX6_reads_3 : List UInt8 := [180, 0, 78, 182, 0, 181, 42, 180, 0, 122, 154, 0, 17, 42, 180, 0, 137, 158, 0, 10, 42, 182, 0, 194]
abbrev dktX6_reads_3 : List UInt8 := dkwX6_reads_3 ++ dktX6_reads_4
def dkwX6_reads_2 : List UInt8 := [3, 181, 0, 143, 42, 3, 181, 0, 134, 42, 3, 181, 0, 137, 42, 180, 0, 32, 3, 3, 79, 42, 3, 42]
abbrev dktX6_reads_2 : List UInt8 := dkwX6_reads_2 ++ dktX6_reads_3
def dkwX6_reads_1 : List UInt8 := [181, 0, 178, 42, 3, 181, 0, 140, 42, 3, 181, 0, 122, 42, 2, 181, 0, 16, 42, 3, 181, 0, 125, 42]
abbrev dktX6_reads_1 : List UInt8 := dkwX6_reads_1 ++ dktX6_reads_2
def dkwX6_reads_0 : List UInt8 := [42, 89, 180, 0, 191, 4, 96, 181, 0, 191, 42, 27, 181, 0, 146, 42, 28, 181, 0, 128, 42, 29]
abbrev dktX6_reads_0 : List UInt8 := dkwX6_reads_0 ++ dktX6_reads_1
theorem dksX6_reads_0 : cX6_reads.data.toList.drop 0 = dktX6_reads_0 := by decide +kernel
theorem dksX6_reads_1 : cX6_reads.data.toList.drop 22 = dktX6_reads_1 := dk_seg dksX6_reads_0 22 rfl rfl
theorem dksX6_reads_2 : cX6_reads.data.toList.drop 46 = dktX6_reads_2 := dk_seg dksX6_reads_1 24 rfl rfl
theorem dksX6_reads_3 : cX6_reads.data.toList.drop 70 = dktX6_reads_3 := dk_seg dksX6_reads_2 24 rfl rfl
theorem dksX6_reads_4 : cX6_reads.data.toList.drop 94 = dktX6_reads_4 := dk_seg dksX6_reads_3 24 rfl rfl
theorem dX6_reads_0 : decode cX6_reads 0 = .ok (.aload_n 0, 1) := dk_42 (dk_at dksX6_reads_0 0 rfl rfl)
theorem dX6_reads_1 : decode cX6_reads 1 = .ok (.dup, 1) := dk_89 (dk_at dksX6_reads_0 1 rfl rfl)
theorem dX6_reads_2 : decode cX6_reads 2 = .ok (.getfield 191, 3) := dk_180 0 191 (dk_at dksX6_reads_0 2 rfl rfl)
theorem dX6_reads_5 : decode cX6_reads 5 = .ok (.iconst 1, 1) := dk_4 (dk_at dksX6_reads_0 5 rfl rfl)
theorem dX6_reads_6 : decode cX6_reads 6 = .ok (.iadd, 1) := dk_96 (dk_at dksX6_reads_0 6 rfl rfl)
theorem dX6_reads_7 : decode cX6_reads 7 = .ok (.putfield 191, 3) := dk_181 0 191 (dk_at dksX6_reads_0 7 rfl rfl)
theorem dX6_reads_10 : decode cX6_reads 10 = .ok (.aload_n 0, 1) := dk_42 (dk_at dksX6_reads_0 10 rfl rfl)
theorem dX6_reads_11 : decode cX6_reads 11 = .ok (.iload_n 1, 1) := dk_27 (dk_at dksX6_reads_0 11 rfl rfl)
theorem dX6_reads_12 : decode cX6_reads 12 = .ok (.putfield 146, 3) := dk_181 0 146 (dk_at dksX6_reads_0 12 rfl rfl)
theorem dX6_reads_15 : decode cX6_reads 15 = .ok (.aload_n 0, 1) := dk_42 (dk_at dksX6_reads_0 15 rfl rfl)
theorem dX6_reads_16 : decode cX6_reads 16 = .ok (.iload_n 2, 1) := dk_28 (dk_at dksX6_reads_0 16 rfl rfl)
theorem dX6_reads_17 : decode cX6_reads 17 = .ok (.putfield 128, 3) := dk_181 0 128 (dk_at dksX6_reads_0 17 rfl rfl)
theorem dX6_reads_20 : decode cX6_reads 20 = .ok (.aload_n 0, 1) := dk_42 (dk_at dksX6_reads_0 20 rfl rfl)
theorem dX6_reads_21 : decode cX6_reads 21 = .ok (.iload_n 3, 1) := dk_29 (dk_at dksX6_reads_0 21 rfl rfl)
theorem dX6_reads_22 : decode cX6_reads 22 = .ok (.putfield 178, 3) := dk_181 0 178 (dk_at dksX6_reads_1 0 rfl rfl)
theorem dX6_reads_25 : decode cX6_reads 25 = .ok (.aload_n 0, 1) := dk_42 (dk_at dksX6_reads_1 3 rfl rfl)
theorem dX6_reads_26 : decode cX6_reads 26 = .ok (.iconst 0, 1) := dk_3 (dk_at dksX6_reads_1 4 rfl rfl)
theorem dX6_reads_27 : decode cX6_reads 27 = .ok (.putfield 140, 3) := dk_181 0 140 (dk_at dksX6_reads_1 5 rfl rfl)
theorem dX6_reads_30 : decode cX6_reads 30 = .ok (.aload_n 0, 1) := dk_42 (dk_at dksX6_reads_1 8 rfl rfl)
theorem dX6_reads_31 : decode cX6_reads 31 = .ok (.iconst 0, 1) := dk_3 (dk_at dksX6_reads_1 9 rfl rfl)
theorem dX6_reads_32 : decode cX6_reads 32 = .ok (.putfield 122, 3) := dk_181 0 122 (dk_at dksX6_reads_1 10 rfl rfl)
theorem dX6_reads_35 : decode cX6_reads 35 = .ok (.aload_n 0, 1) := dk_42 (dk_at dksX6_reads_1 13 rfl rfl)
theorem dX6_reads_36 : decode cX6_reads 36 = .ok (.iconst (-1), 1) := dk_2 (dk_at dksX6_reads_1 14 rfl rfl)
theorem dX6_reads_37 : decode cX6_reads 37 = .ok (.putfield 16, 3) := dk_181 0 16 (dk_at dksX6_reads_1 15 rfl rfl)
theorem dX6_reads_40 : decode cX6_reads 40 = .ok (.aload_n 0, 1) := dk_42 (dk_at dksX6_reads_1 18 rfl rfl)
theorem dX6_reads_41 : decode cX6_reads 41 = .ok (.iconst 0, 1) := dk_3 (dk_at dksX6_reads_1 19 rfl rfl)
theorem dX6_reads_42 : decode cX6_reads 42 = .ok (.putfield 125, 3) := dk_181 0 125 (dk_at dksX6_reads_1 20 rfl rfl)
theorem dX6_reads_45 : decode cX6_reads 45 = .ok (.aload_n 0, 1) := dk_42 (dk_at dksX6_reads_1 23 rfl rfl)
theorem dX6_reads_46 : decode cX6_reads 46 = .ok (.iconst 0, 1) := dk_3 (dk_at dksX6_reads_2 0 rfl rfl)
theorem dX6_reads_47 : decode cX6_reads 47 = .ok (.putfield 143, 3) := dk_181 0 143 (dk_at dksX6_reads_2 1 rfl rfl)
theorem dX6_reads_50 : decode cX6_reads 50 = .ok (.aload_n 0, 1) := dk_42 (dk_at dksX6_reads_2 4 rfl rfl)
theorem dX6_reads_51 : decode cX6_reads 51 = .ok (.iconst 0, 1) := dk_3 (dk_at dksX6_reads_2 5 rfl rfl)
theorem dX6_reads_52 : decode cX6_reads 52 = .ok (.putfield 134, 3) := dk_181 0 134 (dk_at dksX6_reads_2 6 rfl rfl)
theorem dX6_reads_55 : decode cX6_reads 55 = .ok (.aload_n 0, 1) := dk_42 (dk_at dksX6_reads_2 9 rfl rfl)
theorem dX6_reads_56 : decode cX6_reads 56 = .ok (.iconst 0, 1) := dk_3 (dk_at dksX6_reads_2 10 rfl rfl)
theorem dX6_reads_57 : decode cX6_reads 57 = .ok (.putfield 137, 3) := dk_181 0 137 (dk_at dksX6_reads_2 11 rfl rfl)
theorem dX6_reads_60 : decode cX6_reads 60 = .ok (.aload_n 0, 1) := dk_42 (dk_at dksX6_reads_2 14 rfl rfl)
theorem dX6_reads_61 : decode cX6_reads 61 = .ok (.getfield 32, 3) := dk_180 0 32 (dk_at dksX6_reads_2 15 rfl rfl)
theorem dX6_reads_64 : decode cX6_reads 64 = .ok (.iconst 0, 1) := dk_3 (dk_at dksX6_reads_2 18 rfl rfl)
theorem dX6_reads_65 : decode cX6_reads 65 = .ok (.iconst 0, 1) := dk_3 (dk_at dksX6_reads_2 19 rfl rfl)
theorem dX6_reads_66 : decode cX6_reads 66 = .ok (.iastore, 1) := dk_79 (dk_at dksX6_reads_2 20 rfl rfl)
theorem dX6_reads_67 : decode cX6_reads 67 = .ok (.aload_n 0, 1) := dk_42 (dk_at dksX6_reads_2 21 rfl rfl)
theorem dX6_reads_68 : decode cX6_reads 68 = .ok (.iconst 0, 1) := dk_3 (dk_at dksX6_reads_2 22 rfl rfl)
theorem dX6_reads_69 : decode cX6_reads 69 = .ok (.aload_n 0, 1) := dk_42 (dk_at dksX6_reads_2 23 rfl rfl)
theorem dX6_reads_70 : decode cX6_reads 70 = .ok (.getfield 78, 3) := dk_180 0 78 (dk_at dksX6_reads_3 0 rfl rfl)
theorem dX6_reads_73 : decode cX6_reads 73 = .ok (.invokevirtual 181, 3) := dk_182 0 181 (dk_at dksX6_reads_3 3 rfl rfl)
theorem dX6_reads_76 : decode cX6_reads 76 = .ok (.aload_n 0, 1) := dk_42 (dk_at dksX6_reads_3 6 rfl rfl)
theorem dX6_reads_77 : decode cX6_reads 77 = .ok (.getfield 122, 3) := dk_180 0 122 (dk_at dksX6_reads_3 7 rfl rfl)
theorem dX6_reads_80 : decode cX6_reads 80 = .ok (.ifCond .ne 17, 3) := dk_154 0 17 (dk_at dksX6_reads_3 10 rfl rfl)
theorem dX6_reads_83 : decode cX6_reads 83 = .ok (.aload_n 0, 1) := dk_42 (dk_at dksX6_reads_3 13 rfl rfl)
theorem dX6_reads_84 : decode cX6_reads 84 = .ok (.getfield 137, 3) := dk_180 0 137 (dk_at dksX6_reads_3 14 rfl rfl)
theorem dX6_reads_87 : decode cX6_reads 87 = .ok (.ifCond .le 10, 3) := dk_158 0 10 (dk_at dksX6_reads_3 17 rfl rfl)
theorem dX6_reads_90 : decode cX6_reads 90 = .ok (.aload_n 0, 1) := dk_42 (dk_at dksX6_reads_3 20 rfl rfl)
theorem dX6_reads_91 : decode cX6_reads 91 = .ok (.invokevirtual 194, 3) := dk_182 0 194 (dk_at dksX6_reads_3 21 rfl rfl)
theorem dX6_reads_94 : decode cX6_reads 94 = .ok (.goto (-18), 3) := dk_167 255 238 (dk_at dksX6_reads_4 0 rfl rfl)
theorem dX6_reads_97 : decode cX6_reads 97 = .ok (.return_, 1) := dk_177 (dk_at dksX6_reads_4 3 rfl rfl)
abbrev cX6_begins : ByteArray := prog_8_method_19_code
def yX6_begins : MethodName := ⟨RX6, "begins", "(II)V"⟩
def dkwX6_begins_8 : List UInt8 := [29, 96, 182, 0, 131, 132, 3, 1, 167, 255, 195, 177]
abbrev dktX6_begins_8 : List UInt8 := dkwX6_begins_8 ++ []
def dkwX6_begins_7 : List UInt8 := [180, 0, 7, 27, 29, 96, 46, 29, 154, 0, 8, 16, 80, 167, 0, 5, 16, 75, 159, 0, 11, 42, 4, 27]
abbrev dktX6_begins_7 : List UInt8 := dkwX6_begins_7 ++ dktX6_begins_8
def dkwX6_begins_6 : List UInt8 := [180, 0, 122, 154, 0, 55, 27, 29, 96, 28, 161, 0, 12, 42, 6, 28, 182, 0, 131, 167, 0, 33, 42]
abbrev dktX6_begins_6 : List UInt8 := dkwX6_begins_6 ++ dktX6_begins_7
def dkwX6_begins_5 : List UInt8 := [180, 0, 143, 181, 0, 143, 42, 89, 180, 0, 137, 4, 96, 181, 0, 137, 3, 62, 29, 5, 162, 0, 62, 42]
abbrev dktX6_begins_5 : List UInt8 := dkwX6_begins_5 ++ dktX6_begins_6
def dkwX6_begins_4 : List UInt8 := [96, 79, 42, 42, 180, 0, 137, 42, 180, 0, 143, 164, 0, 10, 42, 180, 0, 137, 167, 0, 7, 42]
abbrev dktX6_begins_4 : List UInt8 := dkwX6_begins_4 ++ dktX6_begins_5
def dkwX6_begins_3 : List UInt8 := [180, 0, 140, 79, 42, 180, 0, 32, 42, 180, 0, 137, 3, 79, 42, 180, 0, 26, 42, 180, 0, 137, 27, 5]
abbrev dktX6_begins_3 : List UInt8 := dkwX6_begins_3 ++ dktX6_begins_4
def dkwX6_begins_2 : List UInt8 := [180, 0, 137, 27, 79, 42, 180, 0, 23, 42, 180, 0, 137, 28, 79, 42, 180, 0, 29, 42, 180, 0, 137, 42]
abbrev dktX6_begins_2 : List UInt8 := dkwX6_begins_2 ++ dktX6_begins_3
def dkwX6_begins_1 : List UInt8 := [180, 0, 125, 7, 96, 181, 0, 125, 42, 89, 180, 0, 134, 4, 96, 181, 0, 134, 42, 180, 0, 20, 42]
abbrev dktX6_begins_1 : List UInt8 := dkwX6_begins_1 ++ dktX6_begins_2
def dkwX6_begins_0 : List UInt8 := [42, 180, 0, 125, 7, 96, 42, 180, 0, 128, 164, 0, 11, 42, 16, 12, 27, 182, 0, 131, 177, 42, 89]
abbrev dktX6_begins_0 : List UInt8 := dkwX6_begins_0 ++ dktX6_begins_1
theorem dksX6_begins_0 : cX6_begins.data.toList.drop 0 = dktX6_begins_0 := by decide +kernel
theorem dksX6_begins_1 : cX6_begins.data.toList.drop 23 = dktX6_begins_1 := dk_seg dksX6_begins_0 23 rfl rfl
theorem dksX6_begins_2 : cX6_begins.data.toList.drop 46 = dktX6_begins_2 := dk_seg dksX6_begins_1 23 rfl rfl
theorem dksX6_begins_3 : cX6_begins.data.toList.drop 70 = dktX6_begins_3 := dk_seg dksX6_begins_2 24 rfl rfl
theorem dksX6_begins_4 : cX6_begins.data.toList.drop 94 = dktX6_begins_4 := dk_seg dksX6_begins_3 24 rfl rfl
theorem dksX6_begins_5 : cX6_begins.data.toList.drop 116 = dktX6_begins_5 := dk_seg dksX6_begins_4 22 rfl rfl
theorem dksX6_begins_6 : cX6_begins.data.toList.drop 140 = dktX6_begins_6 := dk_seg dksX6_begins_5 24 rfl rfl
theorem dksX6_begins_7 : cX6_begins.data.toList.drop 163 = dktX6_begins_7 := dk_seg dksX6_begins_6 23 rfl rfl
theorem dksX6_begins_8 : cX6_begins.data.toList.drop 187 = dktX6_begins_8 := dk_seg dksX6_begins_7 24 rfl rfl
theorem dX6_begins_0 : decode cX6_begins 0 = .ok (.aload_n 0, 1) := dk_42 (dk_at dksX6_begins_0 0 rfl rfl)
theorem dX6_begins_1 : decode cX6_begins 1 = .ok (.getfield 125, 3) := dk_180 0 125 (dk_at dksX6_begins_0 1 rfl rfl)
theorem dX6_begins_4 : decode cX6_begins 4 = .ok (.iconst 4, 1) := dk_7 (dk_at dksX6_begins_0 4 rfl rfl)
theorem dX6_begins_5 : decode cX6_begins 5 = .ok (.iadd, 1) := dk_96 (dk_at dksX6_begins_0 5 rfl rfl)
theorem dX6_begins_6 : decode cX6_begins 6 = .ok (.aload_n 0, 1) := dk_42 (dk_at dksX6_begins_0 6 rfl rfl)
theorem dX6_begins_7 : decode cX6_begins 7 = .ok (.getfield 128, 3) := dk_180 0 128 (dk_at dksX6_begins_0 7 rfl rfl)
theorem dX6_begins_10 : decode cX6_begins 10 = .ok (.if_icmp .le 11, 3) := dk_164 0 11 (dk_at dksX6_begins_0 10 rfl rfl)
theorem dX6_begins_13 : decode cX6_begins 13 = .ok (.aload_n 0, 1) := dk_42 (dk_at dksX6_begins_0 13 rfl rfl)
theorem dX6_begins_14 : decode cX6_begins 14 = .ok (.bipush 12, 2) := dk_16 12 (dk_at dksX6_begins_0 14 rfl rfl)
theorem dX6_begins_16 : decode cX6_begins 16 = .ok (.iload_n 1, 1) := dk_27 (dk_at dksX6_begins_0 16 rfl rfl)
theorem dX6_begins_17 : decode cX6_begins 17 = .ok (.invokevirtual 131, 3) := dk_182 0 131 (dk_at dksX6_begins_0 17 rfl rfl)
theorem dX6_begins_20 : decode cX6_begins 20 = .ok (.return_, 1) := dk_177 (dk_at dksX6_begins_0 20 rfl rfl)
theorem dX6_begins_21 : decode cX6_begins 21 = .ok (.aload_n 0, 1) := dk_42 (dk_at dksX6_begins_0 21 rfl rfl)
theorem dX6_begins_22 : decode cX6_begins 22 = .ok (.dup, 1) := dk_89 (dk_at dksX6_begins_0 22 rfl rfl)
theorem dX6_begins_23 : decode cX6_begins 23 = .ok (.getfield 125, 3) := dk_180 0 125 (dk_at dksX6_begins_1 0 rfl rfl)
theorem dX6_begins_26 : decode cX6_begins 26 = .ok (.iconst 4, 1) := dk_7 (dk_at dksX6_begins_1 3 rfl rfl)
theorem dX6_begins_27 : decode cX6_begins 27 = .ok (.iadd, 1) := dk_96 (dk_at dksX6_begins_1 4 rfl rfl)
theorem dX6_begins_28 : decode cX6_begins 28 = .ok (.putfield 125, 3) := dk_181 0 125 (dk_at dksX6_begins_1 5 rfl rfl)
theorem dX6_begins_31 : decode cX6_begins 31 = .ok (.aload_n 0, 1) := dk_42 (dk_at dksX6_begins_1 8 rfl rfl)
theorem dX6_begins_32 : decode cX6_begins 32 = .ok (.dup, 1) := dk_89 (dk_at dksX6_begins_1 9 rfl rfl)
theorem dX6_begins_33 : decode cX6_begins 33 = .ok (.getfield 134, 3) := dk_180 0 134 (dk_at dksX6_begins_1 10 rfl rfl)
theorem dX6_begins_36 : decode cX6_begins 36 = .ok (.iconst 1, 1) := dk_4 (dk_at dksX6_begins_1 13 rfl rfl)
theorem dX6_begins_37 : decode cX6_begins 37 = .ok (.iadd, 1) := dk_96 (dk_at dksX6_begins_1 14 rfl rfl)
theorem dX6_begins_38 : decode cX6_begins 38 = .ok (.putfield 134, 3) := dk_181 0 134 (dk_at dksX6_begins_1 15 rfl rfl)
theorem dX6_begins_41 : decode cX6_begins 41 = .ok (.aload_n 0, 1) := dk_42 (dk_at dksX6_begins_1 18 rfl rfl)
theorem dX6_begins_42 : decode cX6_begins 42 = .ok (.getfield 20, 3) := dk_180 0 20 (dk_at dksX6_begins_1 19 rfl rfl)
theorem dX6_begins_45 : decode cX6_begins 45 = .ok (.aload_n 0, 1) := dk_42 (dk_at dksX6_begins_1 22 rfl rfl)
theorem dX6_begins_46 : decode cX6_begins 46 = .ok (.getfield 137, 3) := dk_180 0 137 (dk_at dksX6_begins_2 0 rfl rfl)
theorem dX6_begins_49 : decode cX6_begins 49 = .ok (.iload_n 1, 1) := dk_27 (dk_at dksX6_begins_2 3 rfl rfl)
theorem dX6_begins_50 : decode cX6_begins 50 = .ok (.iastore, 1) := dk_79 (dk_at dksX6_begins_2 4 rfl rfl)
theorem dX6_begins_51 : decode cX6_begins 51 = .ok (.aload_n 0, 1) := dk_42 (dk_at dksX6_begins_2 5 rfl rfl)
theorem dX6_begins_52 : decode cX6_begins 52 = .ok (.getfield 23, 3) := dk_180 0 23 (dk_at dksX6_begins_2 6 rfl rfl)
theorem dX6_begins_55 : decode cX6_begins 55 = .ok (.aload_n 0, 1) := dk_42 (dk_at dksX6_begins_2 9 rfl rfl)
theorem dX6_begins_56 : decode cX6_begins 56 = .ok (.getfield 137, 3) := dk_180 0 137 (dk_at dksX6_begins_2 10 rfl rfl)
theorem dX6_begins_59 : decode cX6_begins 59 = .ok (.iload_n 2, 1) := dk_28 (dk_at dksX6_begins_2 13 rfl rfl)
theorem dX6_begins_60 : decode cX6_begins 60 = .ok (.iastore, 1) := dk_79 (dk_at dksX6_begins_2 14 rfl rfl)
theorem dX6_begins_61 : decode cX6_begins 61 = .ok (.aload_n 0, 1) := dk_42 (dk_at dksX6_begins_2 15 rfl rfl)
theorem dX6_begins_62 : decode cX6_begins 62 = .ok (.getfield 29, 3) := dk_180 0 29 (dk_at dksX6_begins_2 16 rfl rfl)
theorem dX6_begins_65 : decode cX6_begins 65 = .ok (.aload_n 0, 1) := dk_42 (dk_at dksX6_begins_2 19 rfl rfl)
theorem dX6_begins_66 : decode cX6_begins 66 = .ok (.getfield 137, 3) := dk_180 0 137 (dk_at dksX6_begins_2 20 rfl rfl)
theorem dX6_begins_69 : decode cX6_begins 69 = .ok (.aload_n 0, 1) := dk_42 (dk_at dksX6_begins_2 23 rfl rfl)
theorem dX6_begins_70 : decode cX6_begins 70 = .ok (.getfield 140, 3) := dk_180 0 140 (dk_at dksX6_begins_3 0 rfl rfl)
theorem dX6_begins_73 : decode cX6_begins 73 = .ok (.iastore, 1) := dk_79 (dk_at dksX6_begins_3 3 rfl rfl)
theorem dX6_begins_74 : decode cX6_begins 74 = .ok (.aload_n 0, 1) := dk_42 (dk_at dksX6_begins_3 4 rfl rfl)
theorem dX6_begins_75 : decode cX6_begins 75 = .ok (.getfield 32, 3) := dk_180 0 32 (dk_at dksX6_begins_3 5 rfl rfl)
theorem dX6_begins_78 : decode cX6_begins 78 = .ok (.aload_n 0, 1) := dk_42 (dk_at dksX6_begins_3 8 rfl rfl)
theorem dX6_begins_79 : decode cX6_begins 79 = .ok (.getfield 137, 3) := dk_180 0 137 (dk_at dksX6_begins_3 9 rfl rfl)
theorem dX6_begins_82 : decode cX6_begins 82 = .ok (.iconst 0, 1) := dk_3 (dk_at dksX6_begins_3 12 rfl rfl)
theorem dX6_begins_83 : decode cX6_begins 83 = .ok (.iastore, 1) := dk_79 (dk_at dksX6_begins_3 13 rfl rfl)
theorem dX6_begins_84 : decode cX6_begins 84 = .ok (.aload_n 0, 1) := dk_42 (dk_at dksX6_begins_3 14 rfl rfl)
theorem dX6_begins_85 : decode cX6_begins 85 = .ok (.getfield 26, 3) := dk_180 0 26 (dk_at dksX6_begins_3 15 rfl rfl)
theorem dX6_begins_88 : decode cX6_begins 88 = .ok (.aload_n 0, 1) := dk_42 (dk_at dksX6_begins_3 18 rfl rfl)
theorem dX6_begins_89 : decode cX6_begins 89 = .ok (.getfield 137, 3) := dk_180 0 137 (dk_at dksX6_begins_3 19 rfl rfl)
theorem dX6_begins_92 : decode cX6_begins 92 = .ok (.iload_n 1, 1) := dk_27 (dk_at dksX6_begins_3 22 rfl rfl)
theorem dX6_begins_93 : decode cX6_begins 93 = .ok (.iconst 2, 1) := dk_5 (dk_at dksX6_begins_3 23 rfl rfl)
theorem dX6_begins_94 : decode cX6_begins 94 = .ok (.iadd, 1) := dk_96 (dk_at dksX6_begins_4 0 rfl rfl)
theorem dX6_begins_95 : decode cX6_begins 95 = .ok (.iastore, 1) := dk_79 (dk_at dksX6_begins_4 1 rfl rfl)
theorem dX6_begins_96 : decode cX6_begins 96 = .ok (.aload_n 0, 1) := dk_42 (dk_at dksX6_begins_4 2 rfl rfl)
theorem dX6_begins_97 : decode cX6_begins 97 = .ok (.aload_n 0, 1) := dk_42 (dk_at dksX6_begins_4 3 rfl rfl)
theorem dX6_begins_98 : decode cX6_begins 98 = .ok (.getfield 137, 3) := dk_180 0 137 (dk_at dksX6_begins_4 4 rfl rfl)
theorem dX6_begins_101 : decode cX6_begins 101 = .ok (.aload_n 0, 1) := dk_42 (dk_at dksX6_begins_4 7 rfl rfl)
theorem dX6_begins_102 : decode cX6_begins 102 = .ok (.getfield 143, 3) := dk_180 0 143 (dk_at dksX6_begins_4 8 rfl rfl)
theorem dX6_begins_105 : decode cX6_begins 105 = .ok (.if_icmp .le 10, 3) := dk_164 0 10 (dk_at dksX6_begins_4 11 rfl rfl)
theorem dX6_begins_108 : decode cX6_begins 108 = .ok (.aload_n 0, 1) := dk_42 (dk_at dksX6_begins_4 14 rfl rfl)
theorem dX6_begins_109 : decode cX6_begins 109 = .ok (.getfield 137, 3) := dk_180 0 137 (dk_at dksX6_begins_4 15 rfl rfl)
theorem dX6_begins_112 : decode cX6_begins 112 = .ok (.goto 7, 3) := dk_167 0 7 (dk_at dksX6_begins_4 18 rfl rfl)
theorem dX6_begins_115 : decode cX6_begins 115 = .ok (.aload_n 0, 1) := dk_42 (dk_at dksX6_begins_4 21 rfl rfl)
theorem dX6_begins_116 : decode cX6_begins 116 = .ok (.getfield 143, 3) := dk_180 0 143 (dk_at dksX6_begins_5 0 rfl rfl)
theorem dX6_begins_119 : decode cX6_begins 119 = .ok (.putfield 143, 3) := dk_181 0 143 (dk_at dksX6_begins_5 3 rfl rfl)
theorem dX6_begins_122 : decode cX6_begins 122 = .ok (.aload_n 0, 1) := dk_42 (dk_at dksX6_begins_5 6 rfl rfl)
theorem dX6_begins_123 : decode cX6_begins 123 = .ok (.dup, 1) := dk_89 (dk_at dksX6_begins_5 7 rfl rfl)
theorem dX6_begins_124 : decode cX6_begins 124 = .ok (.getfield 137, 3) := dk_180 0 137 (dk_at dksX6_begins_5 8 rfl rfl)
theorem dX6_begins_127 : decode cX6_begins 127 = .ok (.iconst 1, 1) := dk_4 (dk_at dksX6_begins_5 11 rfl rfl)
theorem dX6_begins_128 : decode cX6_begins 128 = .ok (.iadd, 1) := dk_96 (dk_at dksX6_begins_5 12 rfl rfl)
theorem dX6_begins_129 : decode cX6_begins 129 = .ok (.putfield 137, 3) := dk_181 0 137 (dk_at dksX6_begins_5 13 rfl rfl)
theorem dX6_begins_132 : decode cX6_begins 132 = .ok (.iconst 0, 1) := dk_3 (dk_at dksX6_begins_5 16 rfl rfl)
theorem dX6_begins_133 : decode cX6_begins 133 = .ok (.istore_n 3, 1) := dk_62 (dk_at dksX6_begins_5 17 rfl rfl)
theorem dX6_begins_134 : decode cX6_begins 134 = .ok (.iload_n 3, 1) := dk_29 (dk_at dksX6_begins_5 18 rfl rfl)
theorem dX6_begins_135 : decode cX6_begins 135 = .ok (.iconst 2, 1) := dk_5 (dk_at dksX6_begins_5 19 rfl rfl)
theorem dX6_begins_136 : decode cX6_begins 136 = .ok (.if_icmp .ge 62, 3) := dk_162 0 62 (dk_at dksX6_begins_5 20 rfl rfl)
theorem dX6_begins_139 : decode cX6_begins 139 = .ok (.aload_n 0, 1) := dk_42 (dk_at dksX6_begins_5 23 rfl rfl)
theorem dX6_begins_140 : decode cX6_begins 140 = .ok (.getfield 122, 3) := dk_180 0 122 (dk_at dksX6_begins_6 0 rfl rfl)
theorem dX6_begins_143 : decode cX6_begins 143 = .ok (.ifCond .ne 55, 3) := dk_154 0 55 (dk_at dksX6_begins_6 3 rfl rfl)
theorem dX6_begins_146 : decode cX6_begins 146 = .ok (.iload_n 1, 1) := dk_27 (dk_at dksX6_begins_6 6 rfl rfl)
theorem dX6_begins_147 : decode cX6_begins 147 = .ok (.iload_n 3, 1) := dk_29 (dk_at dksX6_begins_6 7 rfl rfl)
theorem dX6_begins_148 : decode cX6_begins 148 = .ok (.iadd, 1) := dk_96 (dk_at dksX6_begins_6 8 rfl rfl)
theorem dX6_begins_149 : decode cX6_begins 149 = .ok (.iload_n 2, 1) := dk_28 (dk_at dksX6_begins_6 9 rfl rfl)
theorem dX6_begins_150 : decode cX6_begins 150 = .ok (.if_icmp .lt 12, 3) := dk_161 0 12 (dk_at dksX6_begins_6 10 rfl rfl)
theorem dX6_begins_153 : decode cX6_begins 153 = .ok (.aload_n 0, 1) := dk_42 (dk_at dksX6_begins_6 13 rfl rfl)
theorem dX6_begins_154 : decode cX6_begins 154 = .ok (.iconst 3, 1) := dk_6 (dk_at dksX6_begins_6 14 rfl rfl)
theorem dX6_begins_155 : decode cX6_begins 155 = .ok (.iload_n 2, 1) := dk_28 (dk_at dksX6_begins_6 15 rfl rfl)
theorem dX6_begins_156 : decode cX6_begins 156 = .ok (.invokevirtual 131, 3) := dk_182 0 131 (dk_at dksX6_begins_6 16 rfl rfl)
theorem dX6_begins_159 : decode cX6_begins 159 = .ok (.goto 33, 3) := dk_167 0 33 (dk_at dksX6_begins_6 19 rfl rfl)
theorem dX6_begins_162 : decode cX6_begins 162 = .ok (.aload_n 0, 1) := dk_42 (dk_at dksX6_begins_6 22 rfl rfl)
theorem dX6_begins_163 : decode cX6_begins 163 = .ok (.getfield 7, 3) := dk_180 0 7 (dk_at dksX6_begins_7 0 rfl rfl)
theorem dX6_begins_166 : decode cX6_begins 166 = .ok (.iload_n 1, 1) := dk_27 (dk_at dksX6_begins_7 3 rfl rfl)
theorem dX6_begins_167 : decode cX6_begins 167 = .ok (.iload_n 3, 1) := dk_29 (dk_at dksX6_begins_7 4 rfl rfl)
theorem dX6_begins_168 : decode cX6_begins 168 = .ok (.iadd, 1) := dk_96 (dk_at dksX6_begins_7 5 rfl rfl)
theorem dX6_begins_169 : decode cX6_begins 169 = .ok (.iaload, 1) := dk_46 (dk_at dksX6_begins_7 6 rfl rfl)
theorem dX6_begins_170 : decode cX6_begins 170 = .ok (.iload_n 3, 1) := dk_29 (dk_at dksX6_begins_7 7 rfl rfl)
theorem dX6_begins_171 : decode cX6_begins 171 = .ok (.ifCond .ne 8, 3) := dk_154 0 8 (dk_at dksX6_begins_7 8 rfl rfl)
theorem dX6_begins_174 : decode cX6_begins 174 = .ok (.bipush 80, 2) := dk_16 80 (dk_at dksX6_begins_7 11 rfl rfl)
theorem dX6_begins_176 : decode cX6_begins 176 = .ok (.goto 5, 3) := dk_167 0 5 (dk_at dksX6_begins_7 13 rfl rfl)
theorem dX6_begins_179 : decode cX6_begins 179 = .ok (.bipush 75, 2) := dk_16 75 (dk_at dksX6_begins_7 16 rfl rfl)
theorem dX6_begins_181 : decode cX6_begins 181 = .ok (.if_icmp .eq 11, 3) := dk_159 0 11 (dk_at dksX6_begins_7 18 rfl rfl)
theorem dX6_begins_184 : decode cX6_begins 184 = .ok (.aload_n 0, 1) := dk_42 (dk_at dksX6_begins_7 21 rfl rfl)
theorem dX6_begins_185 : decode cX6_begins 185 = .ok (.iconst 1, 1) := dk_4 (dk_at dksX6_begins_7 22 rfl rfl)
theorem dX6_begins_186 : decode cX6_begins 186 = .ok (.iload_n 1, 1) := dk_27 (dk_at dksX6_begins_7 23 rfl rfl)
theorem dX6_begins_187 : decode cX6_begins 187 = .ok (.iload_n 3, 1) := dk_29 (dk_at dksX6_begins_8 0 rfl rfl)
theorem dX6_begins_188 : decode cX6_begins 188 = .ok (.iadd, 1) := dk_96 (dk_at dksX6_begins_8 1 rfl rfl)
theorem dX6_begins_189 : decode cX6_begins 189 = .ok (.invokevirtual 131, 3) := dk_182 0 131 (dk_at dksX6_begins_8 2 rfl rfl)
theorem dX6_begins_192 : decode cX6_begins 192 = .ok (.iinc 3 1, 3) := dk_132 3 1 (dk_at dksX6_begins_8 5 rfl rfl)
theorem dX6_begins_195 : decode cX6_begins 195 = .ok (.goto (-61), 3) := dk_167 255 195 (dk_at dksX6_begins_8 8 rfl rfl)
theorem dX6_begins_198 : decode cX6_begins 198 = .ok (.return_, 1) := dk_177 (dk_at dksX6_begins_8 11 rfl rfl)
abbrev cX6_fails : ByteArray := prog_8_method_18_code
def yX6_fails : MethodName := ⟨RX6, "fails", "(II)V"⟩
def dkwX6_fails_0 : List UInt8 := [42, 27, 181, 0, 122, 42, 28, 181, 0, 16, 177]
abbrev dktX6_fails_0 : List UInt8 := dkwX6_fails_0 ++ []
theorem dksX6_fails_0 : cX6_fails.data.toList.drop 0 = dktX6_fails_0 := by decide +kernel
theorem dX6_fails_0 : decode cX6_fails 0 = .ok (.aload_n 0, 1) := dk_42 (dk_at dksX6_fails_0 0 rfl rfl)
theorem dX6_fails_1 : decode cX6_fails 1 = .ok (.iload_n 1, 1) := dk_27 (dk_at dksX6_fails_0 1 rfl rfl)
theorem dX6_fails_2 : decode cX6_fails 2 = .ok (.putfield 122, 3) := dk_181 0 122 (dk_at dksX6_fails_0 2 rfl rfl)
theorem dX6_fails_5 : decode cX6_fails 5 = .ok (.aload_n 0, 1) := dk_42 (dk_at dksX6_fails_0 5 rfl rfl)
theorem dX6_fails_6 : decode cX6_fails 6 = .ok (.iload_n 2, 1) := dk_28 (dk_at dksX6_fails_0 6 rfl rfl)
theorem dX6_fails_7 : decode cX6_fails 7 = .ok (.putfield 16, 3) := dk_181 0 16 (dk_at dksX6_fails_0 7 rfl rfl)
theorem dX6_fails_10 : decode cX6_fails 10 = .ok (.return_, 1) := dk_177 (dk_at dksX6_fails_0 10 rfl rfl)
abbrev cX6_item : ByteArray := prog_8_method_24_code
def yX6_item : MethodName := ⟨RX6, "item", "()V"⟩
def dkwX6_item_15 : List UInt8 := [42, 27, 28, 182, 0, 175, 167, 0, 9, 42, 5, 28, 182, 0, 131, 177]
abbrev dktX6_item_15 : List UInt8 := dkwX6_item_15 ++ []
def dkwX6_item_14 : List UInt8 := [28, 182, 0, 166, 167, 0, 35, 42, 28, 182, 0, 169, 167, 0, 27, 42, 27, 28, 182, 0, 172, 167, 0, 18]
abbrev dktX6_item_14 : List UInt8 := dkwX6_item_14 ++ dktX6_item_15
def dkwX6_item_13 : List UInt8 := [96, 46, 182, 0, 160, 132, 3, 1, 167, 255, 229, 42, 27, 28, 6, 96, 182, 0, 163, 167, 0, 44, 42, 27]
abbrev dktX6_item_13 : List UInt8 := dkwX6_item_13 ++ dktX6_item_14
def dkwX6_item_12 : List UInt8 := [153, 0, 87, 3, 62, 29, 42, 180, 0, 7, 28, 4, 96, 46, 162, 0, 21, 42, 42, 180, 0, 7, 28, 5]
abbrev dktX6_item_12 : List UInt8 := dkwX6_item_12 ++ dktX6_item_13
def dkwX6_item_11 : List UInt8 := [28, 6, 42, 180, 0, 7, 28, 4, 96, 46, 96, 42, 180, 0, 7, 28, 4, 96, 46, 182, 0, 156]
abbrev dktX6_item_11 : List UInt8 := dkwX6_item_11 ++ dktX6_item_12
def dkwX6_item_10 : List UInt8 := [180, 0, 7, 28, 4, 96, 46, 96, 182, 0, 163, 167, 0, 122, 42, 28, 6, 182, 0, 149, 153, 0, 113, 42]
abbrev dktX6_item_10 : List UInt8 := dkwX6_item_10 ++ dktX6_item_11
def dkwX6_item_9 : List UInt8 := [180, 0, 7, 28, 5, 96, 29, 96, 46, 182, 0, 160, 132, 3, 1, 167, 255, 217, 42, 27, 28, 5, 96, 42]
abbrev dktX6_item_9 : List UInt8 := dkwX6_item_9 ++ dktX6_item_10
def dkwX6_item_8 : List UInt8 := [29, 42, 180, 0, 7, 28, 4, 96, 46, 162, 0, 33, 42, 180, 0, 7, 28, 46, 4, 160, 0, 23, 42, 42]
abbrev dktX6_item_8 : List UInt8 := dkwX6_item_8 ++ dktX6_item_9
def dkwX6_item_7 : List UInt8 := [4, 160, 0, 14, 42, 180, 0, 7, 28, 4, 96, 46, 167, 0, 4, 3, 182, 0, 156, 153, 0, 186, 3, 62]
abbrev dktX6_item_7 : List UInt8 := dkwX6_item_7 ++ dktX6_item_8
def dkwX6_item_6 : List UInt8 := [46, 42, 180, 0, 7, 28, 46, 4, 160, 0, 7, 5, 167, 0, 4, 4, 104, 96, 42, 180, 0, 7, 28, 46]
abbrev dktX6_item_6 : List UInt8 := dkwX6_item_6 ++ dktX6_item_7
def dkwX6_item_5 : List UInt8 := [180, 0, 7, 28, 4, 96, 46, 96, 182, 0, 149, 153, 0, 242, 42, 28, 5, 42, 180, 0, 7, 28, 4, 96]
abbrev dktX6_item_5 : List UInt8 := dkwX6_item_5 ++ dktX6_item_6
def dkwX6_item_4 : List UInt8 := [42, 27, 28, 182, 0, 153, 167, 1, 13, 42, 28, 5, 182, 0, 149, 153, 1, 4, 42, 28, 5, 42]
abbrev dktX6_item_4 : List UInt8 := dkwX6_item_4 ++ dktX6_item_5
def dkwX6_item_3 : List UInt8 := [170, 0, 0, 0, 0, 1, 60, 0, 0, 0, 0, 0, 0, 0, 7, 0, 0, 0, 47, 0, 0, 0, 56, 0, 0, 0, 203, 0, 0, 1, 25, 0, 0, 1, 34, 0, 0, 0, 56, 0, 0, 1, 42, 0, 0, 1, 51]
abbrev dktX6_item_3 : List UInt8 := dkwX6_item_3 ++ dktX6_item_4
def dkwX6_item_2 : List UInt8 := [180, 0, 125, 79, 42, 180, 0, 7, 28, 46]
abbrev dktX6_item_2 : List UInt8 := dkwX6_item_2 ++ dktX6_item_3
def dkwX6_item_1 : List UInt8 := [42, 180, 0, 38, 27, 28, 79, 42, 180, 0, 41, 27, 42, 180, 0, 140, 79, 42, 180, 0, 44, 27, 42]
abbrev dktX6_item_1 : List UInt8 := dkwX6_item_1 ++ dktX6_item_2
def dkwX6_item_0 : List UInt8 := [42, 180, 0, 137, 4, 100, 60, 42, 180, 0, 26, 27, 46, 61, 42, 28, 4, 182, 0, 149, 154, 0, 4, 177]
abbrev dktX6_item_0 : List UInt8 := dkwX6_item_0 ++ dktX6_item_1
theorem dksX6_item_0 : cX6_item.data.toList.drop 0 = dktX6_item_0 := by decide +kernel
theorem dksX6_item_1 : cX6_item.data.toList.drop 24 = dktX6_item_1 := dk_seg dksX6_item_0 24 rfl rfl
theorem dksX6_item_2 : cX6_item.data.toList.drop 47 = dktX6_item_2 := dk_seg dksX6_item_1 23 rfl rfl
theorem dksX6_item_3 : cX6_item.data.toList.drop 57 = dktX6_item_3 := dk_seg dksX6_item_2 10 rfl rfl
theorem dksX6_item_4 : cX6_item.data.toList.drop 104 = dktX6_item_4 := dk_seg dksX6_item_3 47 rfl rfl
theorem dksX6_item_5 : cX6_item.data.toList.drop 126 = dktX6_item_5 := dk_seg dksX6_item_4 22 rfl rfl
theorem dksX6_item_6 : cX6_item.data.toList.drop 150 = dktX6_item_6 := dk_seg dksX6_item_5 24 rfl rfl
theorem dksX6_item_7 : cX6_item.data.toList.drop 174 = dktX6_item_7 := dk_seg dksX6_item_6 24 rfl rfl
theorem dksX6_item_8 : cX6_item.data.toList.drop 198 = dktX6_item_8 := dk_seg dksX6_item_7 24 rfl rfl
theorem dksX6_item_9 : cX6_item.data.toList.drop 222 = dktX6_item_9 := dk_seg dksX6_item_8 24 rfl rfl
theorem dksX6_item_10 : cX6_item.data.toList.drop 246 = dktX6_item_10 := dk_seg dksX6_item_9 24 rfl rfl
theorem dksX6_item_11 : cX6_item.data.toList.drop 270 = dktX6_item_11 := dk_seg dksX6_item_10 24 rfl rfl
theorem dksX6_item_12 : cX6_item.data.toList.drop 292 = dktX6_item_12 := dk_seg dksX6_item_11 22 rfl rfl
theorem dksX6_item_13 : cX6_item.data.toList.drop 316 = dktX6_item_13 := dk_seg dksX6_item_12 24 rfl rfl
theorem dksX6_item_14 : cX6_item.data.toList.drop 340 = dktX6_item_14 := dk_seg dksX6_item_13 24 rfl rfl
theorem dksX6_item_15 : cX6_item.data.toList.drop 364 = dktX6_item_15 := dk_seg dksX6_item_14 24 rfl rfl
theorem dX6_item_0 : decode cX6_item 0 = .ok (.aload_n 0, 1) := dk_42 (dk_at dksX6_item_0 0 rfl rfl)
theorem dX6_item_1 : decode cX6_item 1 = .ok (.getfield 137, 3) := dk_180 0 137 (dk_at dksX6_item_0 1 rfl rfl)
theorem dX6_item_4 : decode cX6_item 4 = .ok (.iconst 1, 1) := dk_4 (dk_at dksX6_item_0 4 rfl rfl)
theorem dX6_item_5 : decode cX6_item 5 = .ok (.isub, 1) := dk_100 (dk_at dksX6_item_0 5 rfl rfl)
theorem dX6_item_6 : decode cX6_item 6 = .ok (.istore_n 1, 1) := dk_60 (dk_at dksX6_item_0 6 rfl rfl)
theorem dX6_item_7 : decode cX6_item 7 = .ok (.aload_n 0, 1) := dk_42 (dk_at dksX6_item_0 7 rfl rfl)
theorem dX6_item_8 : decode cX6_item 8 = .ok (.getfield 26, 3) := dk_180 0 26 (dk_at dksX6_item_0 8 rfl rfl)
theorem dX6_item_11 : decode cX6_item 11 = .ok (.iload_n 1, 1) := dk_27 (dk_at dksX6_item_0 11 rfl rfl)
theorem dX6_item_12 : decode cX6_item 12 = .ok (.iaload, 1) := dk_46 (dk_at dksX6_item_0 12 rfl rfl)
theorem dX6_item_13 : decode cX6_item 13 = .ok (.istore_n 2, 1) := dk_61 (dk_at dksX6_item_0 13 rfl rfl)
theorem dX6_item_14 : decode cX6_item 14 = .ok (.aload_n 0, 1) := dk_42 (dk_at dksX6_item_0 14 rfl rfl)
theorem dX6_item_15 : decode cX6_item 15 = .ok (.iload_n 2, 1) := dk_28 (dk_at dksX6_item_0 15 rfl rfl)
theorem dX6_item_16 : decode cX6_item 16 = .ok (.iconst 1, 1) := dk_4 (dk_at dksX6_item_0 16 rfl rfl)
theorem dX6_item_17 : decode cX6_item 17 = .ok (.invokevirtual 149, 3) := dk_182 0 149 (dk_at dksX6_item_0 17 rfl rfl)
theorem dX6_item_20 : decode cX6_item 20 = .ok (.ifCond .ne 4, 3) := dk_154 0 4 (dk_at dksX6_item_0 20 rfl rfl)
theorem dX6_item_23 : decode cX6_item 23 = .ok (.return_, 1) := dk_177 (dk_at dksX6_item_0 23 rfl rfl)
theorem dX6_item_24 : decode cX6_item 24 = .ok (.aload_n 0, 1) := dk_42 (dk_at dksX6_item_1 0 rfl rfl)
theorem dX6_item_25 : decode cX6_item 25 = .ok (.getfield 38, 3) := dk_180 0 38 (dk_at dksX6_item_1 1 rfl rfl)
theorem dX6_item_28 : decode cX6_item 28 = .ok (.iload_n 1, 1) := dk_27 (dk_at dksX6_item_1 4 rfl rfl)
theorem dX6_item_29 : decode cX6_item 29 = .ok (.iload_n 2, 1) := dk_28 (dk_at dksX6_item_1 5 rfl rfl)
theorem dX6_item_30 : decode cX6_item 30 = .ok (.iastore, 1) := dk_79 (dk_at dksX6_item_1 6 rfl rfl)
theorem dX6_item_31 : decode cX6_item 31 = .ok (.aload_n 0, 1) := dk_42 (dk_at dksX6_item_1 7 rfl rfl)
theorem dX6_item_32 : decode cX6_item 32 = .ok (.getfield 41, 3) := dk_180 0 41 (dk_at dksX6_item_1 8 rfl rfl)
theorem dX6_item_35 : decode cX6_item 35 = .ok (.iload_n 1, 1) := dk_27 (dk_at dksX6_item_1 11 rfl rfl)
theorem dX6_item_36 : decode cX6_item 36 = .ok (.aload_n 0, 1) := dk_42 (dk_at dksX6_item_1 12 rfl rfl)
theorem dX6_item_37 : decode cX6_item 37 = .ok (.getfield 140, 3) := dk_180 0 140 (dk_at dksX6_item_1 13 rfl rfl)
theorem dX6_item_40 : decode cX6_item 40 = .ok (.iastore, 1) := dk_79 (dk_at dksX6_item_1 16 rfl rfl)
theorem dX6_item_41 : decode cX6_item 41 = .ok (.aload_n 0, 1) := dk_42 (dk_at dksX6_item_1 17 rfl rfl)
theorem dX6_item_42 : decode cX6_item 42 = .ok (.getfield 44, 3) := dk_180 0 44 (dk_at dksX6_item_1 18 rfl rfl)
theorem dX6_item_45 : decode cX6_item 45 = .ok (.iload_n 1, 1) := dk_27 (dk_at dksX6_item_1 21 rfl rfl)
theorem dX6_item_46 : decode cX6_item 46 = .ok (.aload_n 0, 1) := dk_42 (dk_at dksX6_item_1 22 rfl rfl)
theorem dX6_item_47 : decode cX6_item 47 = .ok (.getfield 125, 3) := dk_180 0 125 (dk_at dksX6_item_2 0 rfl rfl)
theorem dX6_item_50 : decode cX6_item 50 = .ok (.iastore, 1) := dk_79 (dk_at dksX6_item_2 3 rfl rfl)
theorem dX6_item_51 : decode cX6_item 51 = .ok (.aload_n 0, 1) := dk_42 (dk_at dksX6_item_2 4 rfl rfl)
theorem dX6_item_52 : decode cX6_item 52 = .ok (.getfield 7, 3) := dk_180 0 7 (dk_at dksX6_item_2 5 rfl rfl)
theorem dX6_item_55 : decode cX6_item 55 = .ok (.iload_n 2, 1) := dk_28 (dk_at dksX6_item_2 8 rfl rfl)
theorem dX6_item_56 : decode cX6_item 56 = .ok (.iaload, 1) := dk_46 (dk_at dksX6_item_2 9 rfl rfl)
theorem dX6_item_57 : decode cX6_item 57 = .ok (.tableswitch 316 0 7 #[47, 56, 203, 281, 290, 56, 298, 307], 47) := by decide +kernel
theorem dX6_item_104 : decode cX6_item 104 = .ok (.aload_n 0, 1) := dk_42 (dk_at dksX6_item_4 0 rfl rfl)
theorem dX6_item_105 : decode cX6_item 105 = .ok (.iload_n 1, 1) := dk_27 (dk_at dksX6_item_4 1 rfl rfl)
theorem dX6_item_106 : decode cX6_item 106 = .ok (.iload_n 2, 1) := dk_28 (dk_at dksX6_item_4 2 rfl rfl)
theorem dX6_item_107 : decode cX6_item 107 = .ok (.invokevirtual 153, 3) := dk_182 0 153 (dk_at dksX6_item_4 3 rfl rfl)
theorem dX6_item_110 : decode cX6_item 110 = .ok (.goto 269, 3) := dk_167 1 13 (dk_at dksX6_item_4 6 rfl rfl)
theorem dX6_item_113 : decode cX6_item 113 = .ok (.aload_n 0, 1) := dk_42 (dk_at dksX6_item_4 9 rfl rfl)
theorem dX6_item_114 : decode cX6_item 114 = .ok (.iload_n 2, 1) := dk_28 (dk_at dksX6_item_4 10 rfl rfl)
theorem dX6_item_115 : decode cX6_item 115 = .ok (.iconst 2, 1) := dk_5 (dk_at dksX6_item_4 11 rfl rfl)
theorem dX6_item_116 : decode cX6_item 116 = .ok (.invokevirtual 149, 3) := dk_182 0 149 (dk_at dksX6_item_4 12 rfl rfl)
theorem dX6_item_119 : decode cX6_item 119 = .ok (.ifCond .eq 260, 3) := dk_153 1 4 (dk_at dksX6_item_4 15 rfl rfl)
theorem dX6_item_122 : decode cX6_item 122 = .ok (.aload_n 0, 1) := dk_42 (dk_at dksX6_item_4 18 rfl rfl)
theorem dX6_item_123 : decode cX6_item 123 = .ok (.iload_n 2, 1) := dk_28 (dk_at dksX6_item_4 19 rfl rfl)
theorem dX6_item_124 : decode cX6_item 124 = .ok (.iconst 2, 1) := dk_5 (dk_at dksX6_item_4 20 rfl rfl)
theorem dX6_item_125 : decode cX6_item 125 = .ok (.aload_n 0, 1) := dk_42 (dk_at dksX6_item_4 21 rfl rfl)
theorem dX6_item_126 : decode cX6_item 126 = .ok (.getfield 7, 3) := dk_180 0 7 (dk_at dksX6_item_5 0 rfl rfl)
theorem dX6_item_129 : decode cX6_item 129 = .ok (.iload_n 2, 1) := dk_28 (dk_at dksX6_item_5 3 rfl rfl)
theorem dX6_item_130 : decode cX6_item 130 = .ok (.iconst 1, 1) := dk_4 (dk_at dksX6_item_5 4 rfl rfl)
theorem dX6_item_131 : decode cX6_item 131 = .ok (.iadd, 1) := dk_96 (dk_at dksX6_item_5 5 rfl rfl)
theorem dX6_item_132 : decode cX6_item 132 = .ok (.iaload, 1) := dk_46 (dk_at dksX6_item_5 6 rfl rfl)
theorem dX6_item_133 : decode cX6_item 133 = .ok (.iadd, 1) := dk_96 (dk_at dksX6_item_5 7 rfl rfl)
theorem dX6_item_134 : decode cX6_item 134 = .ok (.invokevirtual 149, 3) := dk_182 0 149 (dk_at dksX6_item_5 8 rfl rfl)
theorem dX6_item_137 : decode cX6_item 137 = .ok (.ifCond .eq 242, 3) := dk_153 0 242 (dk_at dksX6_item_5 11 rfl rfl)
theorem dX6_item_140 : decode cX6_item 140 = .ok (.aload_n 0, 1) := dk_42 (dk_at dksX6_item_5 14 rfl rfl)
theorem dX6_item_141 : decode cX6_item 141 = .ok (.iload_n 2, 1) := dk_28 (dk_at dksX6_item_5 15 rfl rfl)
theorem dX6_item_142 : decode cX6_item 142 = .ok (.iconst 2, 1) := dk_5 (dk_at dksX6_item_5 16 rfl rfl)
theorem dX6_item_143 : decode cX6_item 143 = .ok (.aload_n 0, 1) := dk_42 (dk_at dksX6_item_5 17 rfl rfl)
theorem dX6_item_144 : decode cX6_item 144 = .ok (.getfield 7, 3) := dk_180 0 7 (dk_at dksX6_item_5 18 rfl rfl)
theorem dX6_item_147 : decode cX6_item 147 = .ok (.iload_n 2, 1) := dk_28 (dk_at dksX6_item_5 21 rfl rfl)
theorem dX6_item_148 : decode cX6_item 148 = .ok (.iconst 1, 1) := dk_4 (dk_at dksX6_item_5 22 rfl rfl)
theorem dX6_item_149 : decode cX6_item 149 = .ok (.iadd, 1) := dk_96 (dk_at dksX6_item_5 23 rfl rfl)
theorem dX6_item_150 : decode cX6_item 150 = .ok (.iaload, 1) := dk_46 (dk_at dksX6_item_6 0 rfl rfl)
theorem dX6_item_151 : decode cX6_item 151 = .ok (.aload_n 0, 1) := dk_42 (dk_at dksX6_item_6 1 rfl rfl)
theorem dX6_item_152 : decode cX6_item 152 = .ok (.getfield 7, 3) := dk_180 0 7 (dk_at dksX6_item_6 2 rfl rfl)
theorem dX6_item_155 : decode cX6_item 155 = .ok (.iload_n 2, 1) := dk_28 (dk_at dksX6_item_6 5 rfl rfl)
theorem dX6_item_156 : decode cX6_item 156 = .ok (.iaload, 1) := dk_46 (dk_at dksX6_item_6 6 rfl rfl)
theorem dX6_item_157 : decode cX6_item 157 = .ok (.iconst 1, 1) := dk_4 (dk_at dksX6_item_6 7 rfl rfl)
theorem dX6_item_158 : decode cX6_item 158 = .ok (.if_icmp .ne 7, 3) := dk_160 0 7 (dk_at dksX6_item_6 8 rfl rfl)
theorem dX6_item_161 : decode cX6_item 161 = .ok (.iconst 2, 1) := dk_5 (dk_at dksX6_item_6 11 rfl rfl)
theorem dX6_item_162 : decode cX6_item 162 = .ok (.goto 4, 3) := dk_167 0 4 (dk_at dksX6_item_6 12 rfl rfl)
theorem dX6_item_165 : decode cX6_item 165 = .ok (.iconst 1, 1) := dk_4 (dk_at dksX6_item_6 15 rfl rfl)
theorem dX6_item_166 : decode cX6_item 166 = .ok (.imul, 1) := dk_104 (dk_at dksX6_item_6 16 rfl rfl)
theorem dX6_item_167 : decode cX6_item 167 = .ok (.iadd, 1) := dk_96 (dk_at dksX6_item_6 17 rfl rfl)
theorem dX6_item_168 : decode cX6_item 168 = .ok (.aload_n 0, 1) := dk_42 (dk_at dksX6_item_6 18 rfl rfl)
theorem dX6_item_169 : decode cX6_item 169 = .ok (.getfield 7, 3) := dk_180 0 7 (dk_at dksX6_item_6 19 rfl rfl)
theorem dX6_item_172 : decode cX6_item 172 = .ok (.iload_n 2, 1) := dk_28 (dk_at dksX6_item_6 22 rfl rfl)
theorem dX6_item_173 : decode cX6_item 173 = .ok (.iaload, 1) := dk_46 (dk_at dksX6_item_6 23 rfl rfl)
theorem dX6_item_174 : decode cX6_item 174 = .ok (.iconst 1, 1) := dk_4 (dk_at dksX6_item_7 0 rfl rfl)
theorem dX6_item_175 : decode cX6_item 175 = .ok (.if_icmp .ne 14, 3) := dk_160 0 14 (dk_at dksX6_item_7 1 rfl rfl)
theorem dX6_item_178 : decode cX6_item 178 = .ok (.aload_n 0, 1) := dk_42 (dk_at dksX6_item_7 4 rfl rfl)
theorem dX6_item_179 : decode cX6_item 179 = .ok (.getfield 7, 3) := dk_180 0 7 (dk_at dksX6_item_7 5 rfl rfl)
theorem dX6_item_182 : decode cX6_item 182 = .ok (.iload_n 2, 1) := dk_28 (dk_at dksX6_item_7 8 rfl rfl)
theorem dX6_item_183 : decode cX6_item 183 = .ok (.iconst 1, 1) := dk_4 (dk_at dksX6_item_7 9 rfl rfl)
theorem dX6_item_184 : decode cX6_item 184 = .ok (.iadd, 1) := dk_96 (dk_at dksX6_item_7 10 rfl rfl)
theorem dX6_item_185 : decode cX6_item 185 = .ok (.iaload, 1) := dk_46 (dk_at dksX6_item_7 11 rfl rfl)
theorem dX6_item_186 : decode cX6_item 186 = .ok (.goto 4, 3) := dk_167 0 4 (dk_at dksX6_item_7 12 rfl rfl)
theorem dX6_item_189 : decode cX6_item 189 = .ok (.iconst 0, 1) := dk_3 (dk_at dksX6_item_7 15 rfl rfl)
theorem dX6_item_190 : decode cX6_item 190 = .ok (.invokevirtual 156, 3) := dk_182 0 156 (dk_at dksX6_item_7 16 rfl rfl)
theorem dX6_item_193 : decode cX6_item 193 = .ok (.ifCond .eq 186, 3) := dk_153 0 186 (dk_at dksX6_item_7 19 rfl rfl)
theorem dX6_item_196 : decode cX6_item 196 = .ok (.iconst 0, 1) := dk_3 (dk_at dksX6_item_7 22 rfl rfl)
theorem dX6_item_197 : decode cX6_item 197 = .ok (.istore_n 3, 1) := dk_62 (dk_at dksX6_item_7 23 rfl rfl)
theorem dX6_item_198 : decode cX6_item 198 = .ok (.iload_n 3, 1) := dk_29 (dk_at dksX6_item_8 0 rfl rfl)
theorem dX6_item_199 : decode cX6_item 199 = .ok (.aload_n 0, 1) := dk_42 (dk_at dksX6_item_8 1 rfl rfl)
theorem dX6_item_200 : decode cX6_item 200 = .ok (.getfield 7, 3) := dk_180 0 7 (dk_at dksX6_item_8 2 rfl rfl)
theorem dX6_item_203 : decode cX6_item 203 = .ok (.iload_n 2, 1) := dk_28 (dk_at dksX6_item_8 5 rfl rfl)
theorem dX6_item_204 : decode cX6_item 204 = .ok (.iconst 1, 1) := dk_4 (dk_at dksX6_item_8 6 rfl rfl)
theorem dX6_item_205 : decode cX6_item 205 = .ok (.iadd, 1) := dk_96 (dk_at dksX6_item_8 7 rfl rfl)
theorem dX6_item_206 : decode cX6_item 206 = .ok (.iaload, 1) := dk_46 (dk_at dksX6_item_8 8 rfl rfl)
theorem dX6_item_207 : decode cX6_item 207 = .ok (.if_icmp .ge 33, 3) := dk_162 0 33 (dk_at dksX6_item_8 9 rfl rfl)
theorem dX6_item_210 : decode cX6_item 210 = .ok (.aload_n 0, 1) := dk_42 (dk_at dksX6_item_8 12 rfl rfl)
theorem dX6_item_211 : decode cX6_item 211 = .ok (.getfield 7, 3) := dk_180 0 7 (dk_at dksX6_item_8 13 rfl rfl)
theorem dX6_item_214 : decode cX6_item 214 = .ok (.iload_n 2, 1) := dk_28 (dk_at dksX6_item_8 16 rfl rfl)
theorem dX6_item_215 : decode cX6_item 215 = .ok (.iaload, 1) := dk_46 (dk_at dksX6_item_8 17 rfl rfl)
theorem dX6_item_216 : decode cX6_item 216 = .ok (.iconst 1, 1) := dk_4 (dk_at dksX6_item_8 18 rfl rfl)
theorem dX6_item_217 : decode cX6_item 217 = .ok (.if_icmp .ne 23, 3) := dk_160 0 23 (dk_at dksX6_item_8 19 rfl rfl)
theorem dX6_item_220 : decode cX6_item 220 = .ok (.aload_n 0, 1) := dk_42 (dk_at dksX6_item_8 22 rfl rfl)
theorem dX6_item_221 : decode cX6_item 221 = .ok (.aload_n 0, 1) := dk_42 (dk_at dksX6_item_8 23 rfl rfl)
theorem dX6_item_222 : decode cX6_item 222 = .ok (.getfield 7, 3) := dk_180 0 7 (dk_at dksX6_item_9 0 rfl rfl)
theorem dX6_item_225 : decode cX6_item 225 = .ok (.iload_n 2, 1) := dk_28 (dk_at dksX6_item_9 3 rfl rfl)
theorem dX6_item_226 : decode cX6_item 226 = .ok (.iconst 2, 1) := dk_5 (dk_at dksX6_item_9 4 rfl rfl)
theorem dX6_item_227 : decode cX6_item 227 = .ok (.iadd, 1) := dk_96 (dk_at dksX6_item_9 5 rfl rfl)
theorem dX6_item_228 : decode cX6_item 228 = .ok (.iload_n 3, 1) := dk_29 (dk_at dksX6_item_9 6 rfl rfl)
theorem dX6_item_229 : decode cX6_item 229 = .ok (.iadd, 1) := dk_96 (dk_at dksX6_item_9 7 rfl rfl)
theorem dX6_item_230 : decode cX6_item 230 = .ok (.iaload, 1) := dk_46 (dk_at dksX6_item_9 8 rfl rfl)
theorem dX6_item_231 : decode cX6_item 231 = .ok (.invokevirtual 160, 3) := dk_182 0 160 (dk_at dksX6_item_9 9 rfl rfl)
theorem dX6_item_234 : decode cX6_item 234 = .ok (.iinc 3 1, 3) := dk_132 3 1 (dk_at dksX6_item_9 12 rfl rfl)
theorem dX6_item_237 : decode cX6_item 237 = .ok (.goto (-39), 3) := dk_167 255 217 (dk_at dksX6_item_9 15 rfl rfl)
theorem dX6_item_240 : decode cX6_item 240 = .ok (.aload_n 0, 1) := dk_42 (dk_at dksX6_item_9 18 rfl rfl)
theorem dX6_item_241 : decode cX6_item 241 = .ok (.iload_n 1, 1) := dk_27 (dk_at dksX6_item_9 19 rfl rfl)
theorem dX6_item_242 : decode cX6_item 242 = .ok (.iload_n 2, 1) := dk_28 (dk_at dksX6_item_9 20 rfl rfl)
theorem dX6_item_243 : decode cX6_item 243 = .ok (.iconst 2, 1) := dk_5 (dk_at dksX6_item_9 21 rfl rfl)
theorem dX6_item_244 : decode cX6_item 244 = .ok (.iadd, 1) := dk_96 (dk_at dksX6_item_9 22 rfl rfl)
theorem dX6_item_245 : decode cX6_item 245 = .ok (.aload_n 0, 1) := dk_42 (dk_at dksX6_item_9 23 rfl rfl)
theorem dX6_item_246 : decode cX6_item 246 = .ok (.getfield 7, 3) := dk_180 0 7 (dk_at dksX6_item_10 0 rfl rfl)
theorem dX6_item_249 : decode cX6_item 249 = .ok (.iload_n 2, 1) := dk_28 (dk_at dksX6_item_10 3 rfl rfl)
theorem dX6_item_250 : decode cX6_item 250 = .ok (.iconst 1, 1) := dk_4 (dk_at dksX6_item_10 4 rfl rfl)
theorem dX6_item_251 : decode cX6_item 251 = .ok (.iadd, 1) := dk_96 (dk_at dksX6_item_10 5 rfl rfl)
theorem dX6_item_252 : decode cX6_item 252 = .ok (.iaload, 1) := dk_46 (dk_at dksX6_item_10 6 rfl rfl)
theorem dX6_item_253 : decode cX6_item 253 = .ok (.iadd, 1) := dk_96 (dk_at dksX6_item_10 7 rfl rfl)
theorem dX6_item_254 : decode cX6_item 254 = .ok (.invokevirtual 163, 3) := dk_182 0 163 (dk_at dksX6_item_10 8 rfl rfl)
theorem dX6_item_257 : decode cX6_item 257 = .ok (.goto 122, 3) := dk_167 0 122 (dk_at dksX6_item_10 11 rfl rfl)
theorem dX6_item_260 : decode cX6_item 260 = .ok (.aload_n 0, 1) := dk_42 (dk_at dksX6_item_10 14 rfl rfl)
theorem dX6_item_261 : decode cX6_item 261 = .ok (.iload_n 2, 1) := dk_28 (dk_at dksX6_item_10 15 rfl rfl)
theorem dX6_item_262 : decode cX6_item 262 = .ok (.iconst 3, 1) := dk_6 (dk_at dksX6_item_10 16 rfl rfl)
theorem dX6_item_263 : decode cX6_item 263 = .ok (.invokevirtual 149, 3) := dk_182 0 149 (dk_at dksX6_item_10 17 rfl rfl)
theorem dX6_item_266 : decode cX6_item 266 = .ok (.ifCond .eq 113, 3) := dk_153 0 113 (dk_at dksX6_item_10 20 rfl rfl)
theorem dX6_item_269 : decode cX6_item 269 = .ok (.aload_n 0, 1) := dk_42 (dk_at dksX6_item_10 23 rfl rfl)
theorem dX6_item_270 : decode cX6_item 270 = .ok (.iload_n 2, 1) := dk_28 (dk_at dksX6_item_11 0 rfl rfl)
theorem dX6_item_271 : decode cX6_item 271 = .ok (.iconst 3, 1) := dk_6 (dk_at dksX6_item_11 1 rfl rfl)
theorem dX6_item_272 : decode cX6_item 272 = .ok (.aload_n 0, 1) := dk_42 (dk_at dksX6_item_11 2 rfl rfl)
theorem dX6_item_273 : decode cX6_item 273 = .ok (.getfield 7, 3) := dk_180 0 7 (dk_at dksX6_item_11 3 rfl rfl)
theorem dX6_item_276 : decode cX6_item 276 = .ok (.iload_n 2, 1) := dk_28 (dk_at dksX6_item_11 6 rfl rfl)
theorem dX6_item_277 : decode cX6_item 277 = .ok (.iconst 1, 1) := dk_4 (dk_at dksX6_item_11 7 rfl rfl)
theorem dX6_item_278 : decode cX6_item 278 = .ok (.iadd, 1) := dk_96 (dk_at dksX6_item_11 8 rfl rfl)
theorem dX6_item_279 : decode cX6_item 279 = .ok (.iaload, 1) := dk_46 (dk_at dksX6_item_11 9 rfl rfl)
theorem dX6_item_280 : decode cX6_item 280 = .ok (.iadd, 1) := dk_96 (dk_at dksX6_item_11 10 rfl rfl)
theorem dX6_item_281 : decode cX6_item 281 = .ok (.aload_n 0, 1) := dk_42 (dk_at dksX6_item_11 11 rfl rfl)
theorem dX6_item_282 : decode cX6_item 282 = .ok (.getfield 7, 3) := dk_180 0 7 (dk_at dksX6_item_11 12 rfl rfl)
theorem dX6_item_285 : decode cX6_item 285 = .ok (.iload_n 2, 1) := dk_28 (dk_at dksX6_item_11 15 rfl rfl)
theorem dX6_item_286 : decode cX6_item 286 = .ok (.iconst 1, 1) := dk_4 (dk_at dksX6_item_11 16 rfl rfl)
theorem dX6_item_287 : decode cX6_item 287 = .ok (.iadd, 1) := dk_96 (dk_at dksX6_item_11 17 rfl rfl)
theorem dX6_item_288 : decode cX6_item 288 = .ok (.iaload, 1) := dk_46 (dk_at dksX6_item_11 18 rfl rfl)
theorem dX6_item_289 : decode cX6_item 289 = .ok (.invokevirtual 156, 3) := dk_182 0 156 (dk_at dksX6_item_11 19 rfl rfl)
theorem dX6_item_292 : decode cX6_item 292 = .ok (.ifCond .eq 87, 3) := dk_153 0 87 (dk_at dksX6_item_12 0 rfl rfl)
theorem dX6_item_295 : decode cX6_item 295 = .ok (.iconst 0, 1) := dk_3 (dk_at dksX6_item_12 3 rfl rfl)
theorem dX6_item_296 : decode cX6_item 296 = .ok (.istore_n 3, 1) := dk_62 (dk_at dksX6_item_12 4 rfl rfl)
theorem dX6_item_297 : decode cX6_item 297 = .ok (.iload_n 3, 1) := dk_29 (dk_at dksX6_item_12 5 rfl rfl)
theorem dX6_item_298 : decode cX6_item 298 = .ok (.aload_n 0, 1) := dk_42 (dk_at dksX6_item_12 6 rfl rfl)
theorem dX6_item_299 : decode cX6_item 299 = .ok (.getfield 7, 3) := dk_180 0 7 (dk_at dksX6_item_12 7 rfl rfl)
theorem dX6_item_302 : decode cX6_item 302 = .ok (.iload_n 2, 1) := dk_28 (dk_at dksX6_item_12 10 rfl rfl)
theorem dX6_item_303 : decode cX6_item 303 = .ok (.iconst 1, 1) := dk_4 (dk_at dksX6_item_12 11 rfl rfl)
theorem dX6_item_304 : decode cX6_item 304 = .ok (.iadd, 1) := dk_96 (dk_at dksX6_item_12 12 rfl rfl)
theorem dX6_item_305 : decode cX6_item 305 = .ok (.iaload, 1) := dk_46 (dk_at dksX6_item_12 13 rfl rfl)
theorem dX6_item_306 : decode cX6_item 306 = .ok (.if_icmp .ge 21, 3) := dk_162 0 21 (dk_at dksX6_item_12 14 rfl rfl)
theorem dX6_item_309 : decode cX6_item 309 = .ok (.aload_n 0, 1) := dk_42 (dk_at dksX6_item_12 17 rfl rfl)
theorem dX6_item_310 : decode cX6_item 310 = .ok (.aload_n 0, 1) := dk_42 (dk_at dksX6_item_12 18 rfl rfl)
theorem dX6_item_311 : decode cX6_item 311 = .ok (.getfield 7, 3) := dk_180 0 7 (dk_at dksX6_item_12 19 rfl rfl)
theorem dX6_item_314 : decode cX6_item 314 = .ok (.iload_n 2, 1) := dk_28 (dk_at dksX6_item_12 22 rfl rfl)
theorem dX6_item_315 : decode cX6_item 315 = .ok (.iconst 2, 1) := dk_5 (dk_at dksX6_item_12 23 rfl rfl)
theorem dX6_item_316 : decode cX6_item 316 = .ok (.iadd, 1) := dk_96 (dk_at dksX6_item_13 0 rfl rfl)
theorem dX6_item_317 : decode cX6_item 317 = .ok (.iaload, 1) := dk_46 (dk_at dksX6_item_13 1 rfl rfl)
theorem dX6_item_318 : decode cX6_item 318 = .ok (.invokevirtual 160, 3) := dk_182 0 160 (dk_at dksX6_item_13 2 rfl rfl)
theorem dX6_item_321 : decode cX6_item 321 = .ok (.iinc 3 1, 3) := dk_132 3 1 (dk_at dksX6_item_13 5 rfl rfl)
theorem dX6_item_324 : decode cX6_item 324 = .ok (.goto (-27), 3) := dk_167 255 229 (dk_at dksX6_item_13 8 rfl rfl)
theorem dX6_item_327 : decode cX6_item 327 = .ok (.aload_n 0, 1) := dk_42 (dk_at dksX6_item_13 11 rfl rfl)
theorem dX6_item_328 : decode cX6_item 328 = .ok (.iload_n 1, 1) := dk_27 (dk_at dksX6_item_13 12 rfl rfl)
theorem dX6_item_329 : decode cX6_item 329 = .ok (.iload_n 2, 1) := dk_28 (dk_at dksX6_item_13 13 rfl rfl)
theorem dX6_item_330 : decode cX6_item 330 = .ok (.iconst 3, 1) := dk_6 (dk_at dksX6_item_13 14 rfl rfl)
theorem dX6_item_331 : decode cX6_item 331 = .ok (.iadd, 1) := dk_96 (dk_at dksX6_item_13 15 rfl rfl)
theorem dX6_item_332 : decode cX6_item 332 = .ok (.invokevirtual 163, 3) := dk_182 0 163 (dk_at dksX6_item_13 16 rfl rfl)
theorem dX6_item_335 : decode cX6_item 335 = .ok (.goto 44, 3) := dk_167 0 44 (dk_at dksX6_item_13 19 rfl rfl)
theorem dX6_item_338 : decode cX6_item 338 = .ok (.aload_n 0, 1) := dk_42 (dk_at dksX6_item_13 22 rfl rfl)
theorem dX6_item_339 : decode cX6_item 339 = .ok (.iload_n 1, 1) := dk_27 (dk_at dksX6_item_13 23 rfl rfl)
theorem dX6_item_340 : decode cX6_item 340 = .ok (.iload_n 2, 1) := dk_28 (dk_at dksX6_item_14 0 rfl rfl)
theorem dX6_item_341 : decode cX6_item 341 = .ok (.invokevirtual 166, 3) := dk_182 0 166 (dk_at dksX6_item_14 1 rfl rfl)
theorem dX6_item_344 : decode cX6_item 344 = .ok (.goto 35, 3) := dk_167 0 35 (dk_at dksX6_item_14 4 rfl rfl)
theorem dX6_item_347 : decode cX6_item 347 = .ok (.aload_n 0, 1) := dk_42 (dk_at dksX6_item_14 7 rfl rfl)
theorem dX6_item_348 : decode cX6_item 348 = .ok (.iload_n 2, 1) := dk_28 (dk_at dksX6_item_14 8 rfl rfl)
theorem dX6_item_349 : decode cX6_item 349 = .ok (.invokevirtual 169, 3) := dk_182 0 169 (dk_at dksX6_item_14 9 rfl rfl)
theorem dX6_item_352 : decode cX6_item 352 = .ok (.goto 27, 3) := dk_167 0 27 (dk_at dksX6_item_14 12 rfl rfl)
theorem dX6_item_355 : decode cX6_item 355 = .ok (.aload_n 0, 1) := dk_42 (dk_at dksX6_item_14 15 rfl rfl)
theorem dX6_item_356 : decode cX6_item 356 = .ok (.iload_n 1, 1) := dk_27 (dk_at dksX6_item_14 16 rfl rfl)
theorem dX6_item_357 : decode cX6_item 357 = .ok (.iload_n 2, 1) := dk_28 (dk_at dksX6_item_14 17 rfl rfl)
theorem dX6_item_358 : decode cX6_item 358 = .ok (.invokevirtual 172, 3) := dk_182 0 172 (dk_at dksX6_item_14 18 rfl rfl)
theorem dX6_item_361 : decode cX6_item 361 = .ok (.goto 18, 3) := dk_167 0 18 (dk_at dksX6_item_14 21 rfl rfl)
theorem dX6_item_364 : decode cX6_item 364 = .ok (.aload_n 0, 1) := dk_42 (dk_at dksX6_item_15 0 rfl rfl)
theorem dX6_item_365 : decode cX6_item 365 = .ok (.iload_n 1, 1) := dk_27 (dk_at dksX6_item_15 1 rfl rfl)
theorem dX6_item_366 : decode cX6_item 366 = .ok (.iload_n 2, 1) := dk_28 (dk_at dksX6_item_15 2 rfl rfl)
theorem dX6_item_367 : decode cX6_item 367 = .ok (.invokevirtual 175, 3) := dk_182 0 175 (dk_at dksX6_item_15 3 rfl rfl)
theorem dX6_item_370 : decode cX6_item 370 = .ok (.goto 9, 3) := dk_167 0 9 (dk_at dksX6_item_15 6 rfl rfl)
theorem dX6_item_373 : decode cX6_item 373 = .ok (.aload_n 0, 1) := dk_42 (dk_at dksX6_item_15 9 rfl rfl)
theorem dX6_item_374 : decode cX6_item 374 = .ok (.iconst 2, 1) := dk_5 (dk_at dksX6_item_15 10 rfl rfl)
theorem dX6_item_375 : decode cX6_item 375 = .ok (.iload_n 2, 1) := dk_28 (dk_at dksX6_item_15 11 rfl rfl)
theorem dX6_item_376 : decode cX6_item 376 = .ok (.invokevirtual 131, 3) := dk_182 0 131 (dk_at dksX6_item_15 12 rfl rfl)
theorem dX6_item_379 : decode cX6_item 379 = .ok (.return_, 1) := dk_177 (dk_at dksX6_item_15 15 rfl rfl)
abbrev cX6_has : ByteArray := prog_8_method_21_code
def yX6_has : MethodName := ⟨RX6, "has", "(II)Z"⟩
def dkwX6_has_1 : List UInt8 := [180, 0, 137, 4, 100, 46, 182, 0, 131, 42, 180, 0, 122, 154, 0, 7, 4, 167, 0, 4, 3, 172]
abbrev dktX6_has_1 : List UInt8 := dkwX6_has_1 ++ []
def dkwX6_has_0 : List UInt8 := [27, 28, 96, 42, 180, 0, 23, 42, 180, 0, 137, 4, 100, 46, 164, 0, 19, 42, 6, 42, 180, 0, 23, 42]
abbrev dktX6_has_0 : List UInt8 := dkwX6_has_0 ++ dktX6_has_1
theorem dksX6_has_0 : cX6_has.data.toList.drop 0 = dktX6_has_0 := by decide +kernel
theorem dksX6_has_1 : cX6_has.data.toList.drop 24 = dktX6_has_1 := dk_seg dksX6_has_0 24 rfl rfl
theorem dX6_has_0 : decode cX6_has 0 = .ok (.iload_n 1, 1) := dk_27 (dk_at dksX6_has_0 0 rfl rfl)
theorem dX6_has_1 : decode cX6_has 1 = .ok (.iload_n 2, 1) := dk_28 (dk_at dksX6_has_0 1 rfl rfl)
theorem dX6_has_2 : decode cX6_has 2 = .ok (.iadd, 1) := dk_96 (dk_at dksX6_has_0 2 rfl rfl)
theorem dX6_has_3 : decode cX6_has 3 = .ok (.aload_n 0, 1) := dk_42 (dk_at dksX6_has_0 3 rfl rfl)
theorem dX6_has_4 : decode cX6_has 4 = .ok (.getfield 23, 3) := dk_180 0 23 (dk_at dksX6_has_0 4 rfl rfl)
theorem dX6_has_7 : decode cX6_has 7 = .ok (.aload_n 0, 1) := dk_42 (dk_at dksX6_has_0 7 rfl rfl)
theorem dX6_has_8 : decode cX6_has 8 = .ok (.getfield 137, 3) := dk_180 0 137 (dk_at dksX6_has_0 8 rfl rfl)
theorem dX6_has_11 : decode cX6_has 11 = .ok (.iconst 1, 1) := dk_4 (dk_at dksX6_has_0 11 rfl rfl)
theorem dX6_has_12 : decode cX6_has 12 = .ok (.isub, 1) := dk_100 (dk_at dksX6_has_0 12 rfl rfl)
theorem dX6_has_13 : decode cX6_has 13 = .ok (.iaload, 1) := dk_46 (dk_at dksX6_has_0 13 rfl rfl)
theorem dX6_has_14 : decode cX6_has 14 = .ok (.if_icmp .le 19, 3) := dk_164 0 19 (dk_at dksX6_has_0 14 rfl rfl)
theorem dX6_has_17 : decode cX6_has 17 = .ok (.aload_n 0, 1) := dk_42 (dk_at dksX6_has_0 17 rfl rfl)
theorem dX6_has_18 : decode cX6_has 18 = .ok (.iconst 3, 1) := dk_6 (dk_at dksX6_has_0 18 rfl rfl)
theorem dX6_has_19 : decode cX6_has 19 = .ok (.aload_n 0, 1) := dk_42 (dk_at dksX6_has_0 19 rfl rfl)
theorem dX6_has_20 : decode cX6_has 20 = .ok (.getfield 23, 3) := dk_180 0 23 (dk_at dksX6_has_0 20 rfl rfl)
theorem dX6_has_23 : decode cX6_has 23 = .ok (.aload_n 0, 1) := dk_42 (dk_at dksX6_has_0 23 rfl rfl)
theorem dX6_has_24 : decode cX6_has 24 = .ok (.getfield 137, 3) := dk_180 0 137 (dk_at dksX6_has_1 0 rfl rfl)
theorem dX6_has_27 : decode cX6_has 27 = .ok (.iconst 1, 1) := dk_4 (dk_at dksX6_has_1 3 rfl rfl)
theorem dX6_has_28 : decode cX6_has 28 = .ok (.isub, 1) := dk_100 (dk_at dksX6_has_1 4 rfl rfl)
theorem dX6_has_29 : decode cX6_has 29 = .ok (.iaload, 1) := dk_46 (dk_at dksX6_has_1 5 rfl rfl)
theorem dX6_has_30 : decode cX6_has 30 = .ok (.invokevirtual 131, 3) := dk_182 0 131 (dk_at dksX6_has_1 6 rfl rfl)
theorem dX6_has_33 : decode cX6_has 33 = .ok (.aload_n 0, 1) := dk_42 (dk_at dksX6_has_1 9 rfl rfl)
theorem dX6_has_34 : decode cX6_has 34 = .ok (.getfield 122, 3) := dk_180 0 122 (dk_at dksX6_has_1 10 rfl rfl)
theorem dX6_has_37 : decode cX6_has 37 = .ok (.ifCond .ne 7, 3) := dk_154 0 7 (dk_at dksX6_has_1 13 rfl rfl)
theorem dX6_has_40 : decode cX6_has 40 = .ok (.iconst 1, 1) := dk_4 (dk_at dksX6_has_1 16 rfl rfl)
theorem dX6_has_41 : decode cX6_has 41 = .ok (.goto 4, 3) := dk_167 0 4 (dk_at dksX6_has_1 17 rfl rfl)
theorem dX6_has_44 : decode cX6_has 44 = .ok (.iconst 0, 1) := dk_3 (dk_at dksX6_has_1 20 rfl rfl)
theorem dX6_has_45 : decode cX6_has 45 = .ok (.ireturn, 1) := dk_172 (dk_at dksX6_has_1 21 rfl rfl)
abbrev cX6_closes : ByteArray := prog_8_method_25_code
def yX6_closes : MethodName := ⟨RX6, "closes", "(II)V"⟩
def dkwX6_closes_4 : List UInt8 := [96, 182, 0, 163, 177]
abbrev dktX6_closes_4 : List UInt8 := dkwX6_closes_4 ++ []
def dkwX6_closes_3 : List UInt8 := [180, 0, 137, 4, 100, 181, 0, 137, 42, 180, 0, 137, 158, 0, 16, 42, 42, 180, 0, 137, 4, 100, 28, 5]
abbrev dktX6_closes_3 : List UInt8 := dkwX6_closes_3 ++ dktX6_closes_4
def dkwX6_closes_2 : List UInt8 := [96, 42, 180, 0, 23, 27, 46, 162, 0, 15, 42, 16, 10, 28, 5, 96, 182, 0, 131, 167, 0, 33, 42, 89]
abbrev dktX6_closes_2 : List UInt8 := dkwX6_closes_2 ++ dktX6_closes_3
def dkwX6_closes_1 : List UInt8 := [46, 28, 4, 96, 182, 0, 87, 159, 0, 15, 42, 16, 9, 28, 4, 96, 182, 0, 131, 167, 0, 57, 28, 5]
abbrev dktX6_closes_1 : List UInt8 := dkwX6_closes_1 ++ dktX6_closes_2
def dkwX6_closes_0 : List UInt8 := [42, 28, 5, 182, 0, 149, 154, 0, 4, 177, 42, 180, 0, 7, 28, 4, 96, 46, 42, 42, 180, 0, 20, 27]
abbrev dktX6_closes_0 : List UInt8 := dkwX6_closes_0 ++ dktX6_closes_1
theorem dksX6_closes_0 : cX6_closes.data.toList.drop 0 = dktX6_closes_0 := by decide +kernel
theorem dksX6_closes_1 : cX6_closes.data.toList.drop 24 = dktX6_closes_1 := dk_seg dksX6_closes_0 24 rfl rfl
theorem dksX6_closes_2 : cX6_closes.data.toList.drop 48 = dktX6_closes_2 := dk_seg dksX6_closes_1 24 rfl rfl
theorem dksX6_closes_3 : cX6_closes.data.toList.drop 72 = dktX6_closes_3 := dk_seg dksX6_closes_2 24 rfl rfl
theorem dksX6_closes_4 : cX6_closes.data.toList.drop 96 = dktX6_closes_4 := dk_seg dksX6_closes_3 24 rfl rfl
theorem dX6_closes_0 : decode cX6_closes 0 = .ok (.aload_n 0, 1) := dk_42 (dk_at dksX6_closes_0 0 rfl rfl)
theorem dX6_closes_1 : decode cX6_closes 1 = .ok (.iload_n 2, 1) := dk_28 (dk_at dksX6_closes_0 1 rfl rfl)
theorem dX6_closes_2 : decode cX6_closes 2 = .ok (.iconst 2, 1) := dk_5 (dk_at dksX6_closes_0 2 rfl rfl)
theorem dX6_closes_3 : decode cX6_closes 3 = .ok (.invokevirtual 149, 3) := dk_182 0 149 (dk_at dksX6_closes_0 3 rfl rfl)
theorem dX6_closes_6 : decode cX6_closes 6 = .ok (.ifCond .ne 4, 3) := dk_154 0 4 (dk_at dksX6_closes_0 6 rfl rfl)
theorem dX6_closes_9 : decode cX6_closes 9 = .ok (.return_, 1) := dk_177 (dk_at dksX6_closes_0 9 rfl rfl)
theorem dX6_closes_10 : decode cX6_closes 10 = .ok (.aload_n 0, 1) := dk_42 (dk_at dksX6_closes_0 10 rfl rfl)
theorem dX6_closes_11 : decode cX6_closes 11 = .ok (.getfield 7, 3) := dk_180 0 7 (dk_at dksX6_closes_0 11 rfl rfl)
theorem dX6_closes_14 : decode cX6_closes 14 = .ok (.iload_n 2, 1) := dk_28 (dk_at dksX6_closes_0 14 rfl rfl)
theorem dX6_closes_15 : decode cX6_closes 15 = .ok (.iconst 1, 1) := dk_4 (dk_at dksX6_closes_0 15 rfl rfl)
theorem dX6_closes_16 : decode cX6_closes 16 = .ok (.iadd, 1) := dk_96 (dk_at dksX6_closes_0 16 rfl rfl)
theorem dX6_closes_17 : decode cX6_closes 17 = .ok (.iaload, 1) := dk_46 (dk_at dksX6_closes_0 17 rfl rfl)
theorem dX6_closes_18 : decode cX6_closes 18 = .ok (.aload_n 0, 1) := dk_42 (dk_at dksX6_closes_0 18 rfl rfl)
theorem dX6_closes_19 : decode cX6_closes 19 = .ok (.aload_n 0, 1) := dk_42 (dk_at dksX6_closes_0 19 rfl rfl)
theorem dX6_closes_20 : decode cX6_closes 20 = .ok (.getfield 20, 3) := dk_180 0 20 (dk_at dksX6_closes_0 20 rfl rfl)
theorem dX6_closes_23 : decode cX6_closes 23 = .ok (.iload_n 1, 1) := dk_27 (dk_at dksX6_closes_0 23 rfl rfl)
theorem dX6_closes_24 : decode cX6_closes 24 = .ok (.iaload, 1) := dk_46 (dk_at dksX6_closes_1 0 rfl rfl)
theorem dX6_closes_25 : decode cX6_closes 25 = .ok (.iload_n 2, 1) := dk_28 (dk_at dksX6_closes_1 1 rfl rfl)
theorem dX6_closes_26 : decode cX6_closes 26 = .ok (.iconst 1, 1) := dk_4 (dk_at dksX6_closes_1 2 rfl rfl)
theorem dX6_closes_27 : decode cX6_closes 27 = .ok (.iadd, 1) := dk_96 (dk_at dksX6_closes_1 3 rfl rfl)
theorem dX6_closes_28 : decode cX6_closes 28 = .ok (.invokevirtual 87, 3) := dk_182 0 87 (dk_at dksX6_closes_1 4 rfl rfl)
theorem dX6_closes_31 : decode cX6_closes 31 = .ok (.if_icmp .eq 15, 3) := dk_159 0 15 (dk_at dksX6_closes_1 7 rfl rfl)
theorem dX6_closes_34 : decode cX6_closes 34 = .ok (.aload_n 0, 1) := dk_42 (dk_at dksX6_closes_1 10 rfl rfl)
theorem dX6_closes_35 : decode cX6_closes 35 = .ok (.bipush 9, 2) := dk_16 9 (dk_at dksX6_closes_1 11 rfl rfl)
theorem dX6_closes_37 : decode cX6_closes 37 = .ok (.iload_n 2, 1) := dk_28 (dk_at dksX6_closes_1 13 rfl rfl)
theorem dX6_closes_38 : decode cX6_closes 38 = .ok (.iconst 1, 1) := dk_4 (dk_at dksX6_closes_1 14 rfl rfl)
theorem dX6_closes_39 : decode cX6_closes 39 = .ok (.iadd, 1) := dk_96 (dk_at dksX6_closes_1 15 rfl rfl)
theorem dX6_closes_40 : decode cX6_closes 40 = .ok (.invokevirtual 131, 3) := dk_182 0 131 (dk_at dksX6_closes_1 16 rfl rfl)
theorem dX6_closes_43 : decode cX6_closes 43 = .ok (.goto 57, 3) := dk_167 0 57 (dk_at dksX6_closes_1 19 rfl rfl)
theorem dX6_closes_46 : decode cX6_closes 46 = .ok (.iload_n 2, 1) := dk_28 (dk_at dksX6_closes_1 22 rfl rfl)
theorem dX6_closes_47 : decode cX6_closes 47 = .ok (.iconst 2, 1) := dk_5 (dk_at dksX6_closes_1 23 rfl rfl)
theorem dX6_closes_48 : decode cX6_closes 48 = .ok (.iadd, 1) := dk_96 (dk_at dksX6_closes_2 0 rfl rfl)
theorem dX6_closes_49 : decode cX6_closes 49 = .ok (.aload_n 0, 1) := dk_42 (dk_at dksX6_closes_2 1 rfl rfl)
theorem dX6_closes_50 : decode cX6_closes 50 = .ok (.getfield 23, 3) := dk_180 0 23 (dk_at dksX6_closes_2 2 rfl rfl)
theorem dX6_closes_53 : decode cX6_closes 53 = .ok (.iload_n 1, 1) := dk_27 (dk_at dksX6_closes_2 5 rfl rfl)
theorem dX6_closes_54 : decode cX6_closes 54 = .ok (.iaload, 1) := dk_46 (dk_at dksX6_closes_2 6 rfl rfl)
theorem dX6_closes_55 : decode cX6_closes 55 = .ok (.if_icmp .ge 15, 3) := dk_162 0 15 (dk_at dksX6_closes_2 7 rfl rfl)
theorem dX6_closes_58 : decode cX6_closes 58 = .ok (.aload_n 0, 1) := dk_42 (dk_at dksX6_closes_2 10 rfl rfl)
theorem dX6_closes_59 : decode cX6_closes 59 = .ok (.bipush 10, 2) := dk_16 10 (dk_at dksX6_closes_2 11 rfl rfl)
theorem dX6_closes_61 : decode cX6_closes 61 = .ok (.iload_n 2, 1) := dk_28 (dk_at dksX6_closes_2 13 rfl rfl)
theorem dX6_closes_62 : decode cX6_closes 62 = .ok (.iconst 2, 1) := dk_5 (dk_at dksX6_closes_2 14 rfl rfl)
theorem dX6_closes_63 : decode cX6_closes 63 = .ok (.iadd, 1) := dk_96 (dk_at dksX6_closes_2 15 rfl rfl)
theorem dX6_closes_64 : decode cX6_closes 64 = .ok (.invokevirtual 131, 3) := dk_182 0 131 (dk_at dksX6_closes_2 16 rfl rfl)
theorem dX6_closes_67 : decode cX6_closes 67 = .ok (.goto 33, 3) := dk_167 0 33 (dk_at dksX6_closes_2 19 rfl rfl)
theorem dX6_closes_70 : decode cX6_closes 70 = .ok (.aload_n 0, 1) := dk_42 (dk_at dksX6_closes_2 22 rfl rfl)
theorem dX6_closes_71 : decode cX6_closes 71 = .ok (.dup, 1) := dk_89 (dk_at dksX6_closes_2 23 rfl rfl)
theorem dX6_closes_72 : decode cX6_closes 72 = .ok (.getfield 137, 3) := dk_180 0 137 (dk_at dksX6_closes_3 0 rfl rfl)
theorem dX6_closes_75 : decode cX6_closes 75 = .ok (.iconst 1, 1) := dk_4 (dk_at dksX6_closes_3 3 rfl rfl)
theorem dX6_closes_76 : decode cX6_closes 76 = .ok (.isub, 1) := dk_100 (dk_at dksX6_closes_3 4 rfl rfl)
theorem dX6_closes_77 : decode cX6_closes 77 = .ok (.putfield 137, 3) := dk_181 0 137 (dk_at dksX6_closes_3 5 rfl rfl)
theorem dX6_closes_80 : decode cX6_closes 80 = .ok (.aload_n 0, 1) := dk_42 (dk_at dksX6_closes_3 8 rfl rfl)
theorem dX6_closes_81 : decode cX6_closes 81 = .ok (.getfield 137, 3) := dk_180 0 137 (dk_at dksX6_closes_3 9 rfl rfl)
theorem dX6_closes_84 : decode cX6_closes 84 = .ok (.ifCond .le 16, 3) := dk_158 0 16 (dk_at dksX6_closes_3 12 rfl rfl)
theorem dX6_closes_87 : decode cX6_closes 87 = .ok (.aload_n 0, 1) := dk_42 (dk_at dksX6_closes_3 15 rfl rfl)
theorem dX6_closes_88 : decode cX6_closes 88 = .ok (.aload_n 0, 1) := dk_42 (dk_at dksX6_closes_3 16 rfl rfl)
theorem dX6_closes_89 : decode cX6_closes 89 = .ok (.getfield 137, 3) := dk_180 0 137 (dk_at dksX6_closes_3 17 rfl rfl)
theorem dX6_closes_92 : decode cX6_closes 92 = .ok (.iconst 1, 1) := dk_4 (dk_at dksX6_closes_3 20 rfl rfl)
theorem dX6_closes_93 : decode cX6_closes 93 = .ok (.isub, 1) := dk_100 (dk_at dksX6_closes_3 21 rfl rfl)
theorem dX6_closes_94 : decode cX6_closes 94 = .ok (.iload_n 2, 1) := dk_28 (dk_at dksX6_closes_3 22 rfl rfl)
theorem dX6_closes_95 : decode cX6_closes 95 = .ok (.iconst 2, 1) := dk_5 (dk_at dksX6_closes_3 23 rfl rfl)
theorem dX6_closes_96 : decode cX6_closes 96 = .ok (.iadd, 1) := dk_96 (dk_at dksX6_closes_4 0 rfl rfl)
theorem dX6_closes_97 : decode cX6_closes 97 = .ok (.invokevirtual 163, 3) := dk_182 0 163 (dk_at dksX6_closes_4 1 rfl rfl)
theorem dX6_closes_100 : decode cX6_closes 100 = .ok (.return_, 1) := dk_177 (dk_at dksX6_closes_4 4 rfl rfl)
abbrev cX6_ends : ByteArray := prog_8_method_20_code
def yX6_ends : MethodName := ⟨RX6, "ends", "(II)V"⟩
def dkwX6_ends_4 : List UInt8 := [3, 46, 100, 79, 42, 180, 0, 32, 27, 92, 46, 4, 96, 79, 42, 180, 0, 26, 27, 28, 79, 177]
abbrev dktX6_ends_4 : List UInt8 := dkwX6_ends_4 ++ []
def dkwX6_ends_3 : List UInt8 := [180, 0, 140, 42, 180, 0, 41, 3, 46, 100, 79, 42, 180, 0, 56, 29, 42, 180, 0, 125, 42, 180, 0, 44]
abbrev dktX6_ends_3 : List UInt8 := dkwX6_ends_3 ++ dktX6_ends_4
def dkwX6_ends_2 : List UInt8 := [3, 46, 46, 79, 42, 180, 0, 50, 29, 42, 180, 0, 38, 3, 46, 79, 42, 180, 0, 53, 29, 42]
abbrev dktX6_ends_2 : List UInt8 := dkwX6_ends_2 ++ dktX6_ends_3
def dkwX6_ends_1 : List UInt8 := [180, 0, 29, 27, 46, 100, 79, 27, 154, 0, 66, 42, 180, 0, 47, 29, 42, 180, 0, 7, 42, 180, 0, 38]
abbrev dktX6_ends_1 : List UInt8 := dkwX6_ends_1 ++ dktX6_ends_2
def dkwX6_ends_0 : List UInt8 := [42, 180, 0, 32, 27, 46, 62, 42, 180, 0, 35, 17, 2, 88, 27, 104, 29, 96, 42, 180, 0, 140, 42]
abbrev dktX6_ends_0 : List UInt8 := dkwX6_ends_0 ++ dktX6_ends_1
theorem dksX6_ends_0 : cX6_ends.data.toList.drop 0 = dktX6_ends_0 := by decide +kernel
theorem dksX6_ends_1 : cX6_ends.data.toList.drop 23 = dktX6_ends_1 := dk_seg dksX6_ends_0 23 rfl rfl
theorem dksX6_ends_2 : cX6_ends.data.toList.drop 47 = dktX6_ends_2 := dk_seg dksX6_ends_1 24 rfl rfl
theorem dksX6_ends_3 : cX6_ends.data.toList.drop 69 = dktX6_ends_3 := dk_seg dksX6_ends_2 22 rfl rfl
theorem dksX6_ends_4 : cX6_ends.data.toList.drop 93 = dktX6_ends_4 := dk_seg dksX6_ends_3 24 rfl rfl
theorem dX6_ends_0 : decode cX6_ends 0 = .ok (.aload_n 0, 1) := dk_42 (dk_at dksX6_ends_0 0 rfl rfl)
theorem dX6_ends_1 : decode cX6_ends 1 = .ok (.getfield 32, 3) := dk_180 0 32 (dk_at dksX6_ends_0 1 rfl rfl)
theorem dX6_ends_4 : decode cX6_ends 4 = .ok (.iload_n 1, 1) := dk_27 (dk_at dksX6_ends_0 4 rfl rfl)
theorem dX6_ends_5 : decode cX6_ends 5 = .ok (.iaload, 1) := dk_46 (dk_at dksX6_ends_0 5 rfl rfl)
theorem dX6_ends_6 : decode cX6_ends 6 = .ok (.istore_n 3, 1) := dk_62 (dk_at dksX6_ends_0 6 rfl rfl)
theorem dX6_ends_7 : decode cX6_ends 7 = .ok (.aload_n 0, 1) := dk_42 (dk_at dksX6_ends_0 7 rfl rfl)
theorem dX6_ends_8 : decode cX6_ends 8 = .ok (.getfield 35, 3) := dk_180 0 35 (dk_at dksX6_ends_0 8 rfl rfl)
theorem dX6_ends_11 : decode cX6_ends 11 = .ok (.sipush 600, 3) := dk_17 2 88 (dk_at dksX6_ends_0 11 rfl rfl)
theorem dX6_ends_14 : decode cX6_ends 14 = .ok (.iload_n 1, 1) := dk_27 (dk_at dksX6_ends_0 14 rfl rfl)
theorem dX6_ends_15 : decode cX6_ends 15 = .ok (.imul, 1) := dk_104 (dk_at dksX6_ends_0 15 rfl rfl)
theorem dX6_ends_16 : decode cX6_ends 16 = .ok (.iload_n 3, 1) := dk_29 (dk_at dksX6_ends_0 16 rfl rfl)
theorem dX6_ends_17 : decode cX6_ends 17 = .ok (.iadd, 1) := dk_96 (dk_at dksX6_ends_0 17 rfl rfl)
theorem dX6_ends_18 : decode cX6_ends 18 = .ok (.aload_n 0, 1) := dk_42 (dk_at dksX6_ends_0 18 rfl rfl)
theorem dX6_ends_19 : decode cX6_ends 19 = .ok (.getfield 140, 3) := dk_180 0 140 (dk_at dksX6_ends_0 19 rfl rfl)
theorem dX6_ends_22 : decode cX6_ends 22 = .ok (.aload_n 0, 1) := dk_42 (dk_at dksX6_ends_0 22 rfl rfl)
theorem dX6_ends_23 : decode cX6_ends 23 = .ok (.getfield 29, 3) := dk_180 0 29 (dk_at dksX6_ends_1 0 rfl rfl)
theorem dX6_ends_26 : decode cX6_ends 26 = .ok (.iload_n 1, 1) := dk_27 (dk_at dksX6_ends_1 3 rfl rfl)
theorem dX6_ends_27 : decode cX6_ends 27 = .ok (.iaload, 1) := dk_46 (dk_at dksX6_ends_1 4 rfl rfl)
theorem dX6_ends_28 : decode cX6_ends 28 = .ok (.isub, 1) := dk_100 (dk_at dksX6_ends_1 5 rfl rfl)
theorem dX6_ends_29 : decode cX6_ends 29 = .ok (.iastore, 1) := dk_79 (dk_at dksX6_ends_1 6 rfl rfl)
theorem dX6_ends_30 : decode cX6_ends 30 = .ok (.iload_n 1, 1) := dk_27 (dk_at dksX6_ends_1 7 rfl rfl)
theorem dX6_ends_31 : decode cX6_ends 31 = .ok (.ifCond .ne 66, 3) := dk_154 0 66 (dk_at dksX6_ends_1 8 rfl rfl)
theorem dX6_ends_34 : decode cX6_ends 34 = .ok (.aload_n 0, 1) := dk_42 (dk_at dksX6_ends_1 11 rfl rfl)
theorem dX6_ends_35 : decode cX6_ends 35 = .ok (.getfield 47, 3) := dk_180 0 47 (dk_at dksX6_ends_1 12 rfl rfl)
theorem dX6_ends_38 : decode cX6_ends 38 = .ok (.iload_n 3, 1) := dk_29 (dk_at dksX6_ends_1 15 rfl rfl)
theorem dX6_ends_39 : decode cX6_ends 39 = .ok (.aload_n 0, 1) := dk_42 (dk_at dksX6_ends_1 16 rfl rfl)
theorem dX6_ends_40 : decode cX6_ends 40 = .ok (.getfield 7, 3) := dk_180 0 7 (dk_at dksX6_ends_1 17 rfl rfl)
theorem dX6_ends_43 : decode cX6_ends 43 = .ok (.aload_n 0, 1) := dk_42 (dk_at dksX6_ends_1 20 rfl rfl)
theorem dX6_ends_44 : decode cX6_ends 44 = .ok (.getfield 38, 3) := dk_180 0 38 (dk_at dksX6_ends_1 21 rfl rfl)
theorem dX6_ends_47 : decode cX6_ends 47 = .ok (.iconst 0, 1) := dk_3 (dk_at dksX6_ends_2 0 rfl rfl)
theorem dX6_ends_48 : decode cX6_ends 48 = .ok (.iaload, 1) := dk_46 (dk_at dksX6_ends_2 1 rfl rfl)
theorem dX6_ends_49 : decode cX6_ends 49 = .ok (.iaload, 1) := dk_46 (dk_at dksX6_ends_2 2 rfl rfl)
theorem dX6_ends_50 : decode cX6_ends 50 = .ok (.iastore, 1) := dk_79 (dk_at dksX6_ends_2 3 rfl rfl)
theorem dX6_ends_51 : decode cX6_ends 51 = .ok (.aload_n 0, 1) := dk_42 (dk_at dksX6_ends_2 4 rfl rfl)
theorem dX6_ends_52 : decode cX6_ends 52 = .ok (.getfield 50, 3) := dk_180 0 50 (dk_at dksX6_ends_2 5 rfl rfl)
theorem dX6_ends_55 : decode cX6_ends 55 = .ok (.iload_n 3, 1) := dk_29 (dk_at dksX6_ends_2 8 rfl rfl)
theorem dX6_ends_56 : decode cX6_ends 56 = .ok (.aload_n 0, 1) := dk_42 (dk_at dksX6_ends_2 9 rfl rfl)
theorem dX6_ends_57 : decode cX6_ends 57 = .ok (.getfield 38, 3) := dk_180 0 38 (dk_at dksX6_ends_2 10 rfl rfl)
theorem dX6_ends_60 : decode cX6_ends 60 = .ok (.iconst 0, 1) := dk_3 (dk_at dksX6_ends_2 13 rfl rfl)
theorem dX6_ends_61 : decode cX6_ends 61 = .ok (.iaload, 1) := dk_46 (dk_at dksX6_ends_2 14 rfl rfl)
theorem dX6_ends_62 : decode cX6_ends 62 = .ok (.iastore, 1) := dk_79 (dk_at dksX6_ends_2 15 rfl rfl)
theorem dX6_ends_63 : decode cX6_ends 63 = .ok (.aload_n 0, 1) := dk_42 (dk_at dksX6_ends_2 16 rfl rfl)
theorem dX6_ends_64 : decode cX6_ends 64 = .ok (.getfield 53, 3) := dk_180 0 53 (dk_at dksX6_ends_2 17 rfl rfl)
theorem dX6_ends_67 : decode cX6_ends 67 = .ok (.iload_n 3, 1) := dk_29 (dk_at dksX6_ends_2 20 rfl rfl)
theorem dX6_ends_68 : decode cX6_ends 68 = .ok (.aload_n 0, 1) := dk_42 (dk_at dksX6_ends_2 21 rfl rfl)
theorem dX6_ends_69 : decode cX6_ends 69 = .ok (.getfield 140, 3) := dk_180 0 140 (dk_at dksX6_ends_3 0 rfl rfl)
theorem dX6_ends_72 : decode cX6_ends 72 = .ok (.aload_n 0, 1) := dk_42 (dk_at dksX6_ends_3 3 rfl rfl)
theorem dX6_ends_73 : decode cX6_ends 73 = .ok (.getfield 41, 3) := dk_180 0 41 (dk_at dksX6_ends_3 4 rfl rfl)
theorem dX6_ends_76 : decode cX6_ends 76 = .ok (.iconst 0, 1) := dk_3 (dk_at dksX6_ends_3 7 rfl rfl)
theorem dX6_ends_77 : decode cX6_ends 77 = .ok (.iaload, 1) := dk_46 (dk_at dksX6_ends_3 8 rfl rfl)
theorem dX6_ends_78 : decode cX6_ends 78 = .ok (.isub, 1) := dk_100 (dk_at dksX6_ends_3 9 rfl rfl)
theorem dX6_ends_79 : decode cX6_ends 79 = .ok (.iastore, 1) := dk_79 (dk_at dksX6_ends_3 10 rfl rfl)
theorem dX6_ends_80 : decode cX6_ends 80 = .ok (.aload_n 0, 1) := dk_42 (dk_at dksX6_ends_3 11 rfl rfl)
theorem dX6_ends_81 : decode cX6_ends 81 = .ok (.getfield 56, 3) := dk_180 0 56 (dk_at dksX6_ends_3 12 rfl rfl)
theorem dX6_ends_84 : decode cX6_ends 84 = .ok (.iload_n 3, 1) := dk_29 (dk_at dksX6_ends_3 15 rfl rfl)
theorem dX6_ends_85 : decode cX6_ends 85 = .ok (.aload_n 0, 1) := dk_42 (dk_at dksX6_ends_3 16 rfl rfl)
theorem dX6_ends_86 : decode cX6_ends 86 = .ok (.getfield 125, 3) := dk_180 0 125 (dk_at dksX6_ends_3 17 rfl rfl)
theorem dX6_ends_89 : decode cX6_ends 89 = .ok (.aload_n 0, 1) := dk_42 (dk_at dksX6_ends_3 20 rfl rfl)
theorem dX6_ends_90 : decode cX6_ends 90 = .ok (.getfield 44, 3) := dk_180 0 44 (dk_at dksX6_ends_3 21 rfl rfl)
theorem dX6_ends_93 : decode cX6_ends 93 = .ok (.iconst 0, 1) := dk_3 (dk_at dksX6_ends_4 0 rfl rfl)
theorem dX6_ends_94 : decode cX6_ends 94 = .ok (.iaload, 1) := dk_46 (dk_at dksX6_ends_4 1 rfl rfl)
theorem dX6_ends_95 : decode cX6_ends 95 = .ok (.isub, 1) := dk_100 (dk_at dksX6_ends_4 2 rfl rfl)
theorem dX6_ends_96 : decode cX6_ends 96 = .ok (.iastore, 1) := dk_79 (dk_at dksX6_ends_4 3 rfl rfl)
theorem dX6_ends_97 : decode cX6_ends 97 = .ok (.aload_n 0, 1) := dk_42 (dk_at dksX6_ends_4 4 rfl rfl)
theorem dX6_ends_98 : decode cX6_ends 98 = .ok (.getfield 32, 3) := dk_180 0 32 (dk_at dksX6_ends_4 5 rfl rfl)
theorem dX6_ends_101 : decode cX6_ends 101 = .ok (.iload_n 1, 1) := dk_27 (dk_at dksX6_ends_4 8 rfl rfl)
theorem dX6_ends_102 : decode cX6_ends 102 = .ok (.dup2, 1) := dk_92 (dk_at dksX6_ends_4 9 rfl rfl)
theorem dX6_ends_103 : decode cX6_ends 103 = .ok (.iaload, 1) := dk_46 (dk_at dksX6_ends_4 10 rfl rfl)
theorem dX6_ends_104 : decode cX6_ends 104 = .ok (.iconst 1, 1) := dk_4 (dk_at dksX6_ends_4 11 rfl rfl)
theorem dX6_ends_105 : decode cX6_ends 105 = .ok (.iadd, 1) := dk_96 (dk_at dksX6_ends_4 12 rfl rfl)
theorem dX6_ends_106 : decode cX6_ends 106 = .ok (.iastore, 1) := dk_79 (dk_at dksX6_ends_4 13 rfl rfl)
theorem dX6_ends_107 : decode cX6_ends 107 = .ok (.aload_n 0, 1) := dk_42 (dk_at dksX6_ends_4 14 rfl rfl)
theorem dX6_ends_108 : decode cX6_ends 108 = .ok (.getfield 26, 3) := dk_180 0 26 (dk_at dksX6_ends_4 15 rfl rfl)
theorem dX6_ends_111 : decode cX6_ends 111 = .ok (.iload_n 1, 1) := dk_27 (dk_at dksX6_ends_4 18 rfl rfl)
theorem dX6_ends_112 : decode cX6_ends 112 = .ok (.iload_n 2, 1) := dk_28 (dk_at dksX6_ends_4 19 rfl rfl)
theorem dX6_ends_113 : decode cX6_ends 113 = .ok (.iastore, 1) := dk_79 (dk_at dksX6_ends_4 20 rfl rfl)
theorem dX6_ends_114 : decode cX6_ends 114 = .ok (.return_, 1) := dk_177 (dk_at dksX6_ends_4 21 rfl rfl)
abbrev cX6_pays : ByteArray := prog_8_method_22_code
def yX6_pays : MethodName := ⟨RX6, "pays", "(III)Z"⟩
def dkwX6_pays_2 : List UInt8 := [180, 0, 125, 28, 96, 181, 0, 125, 42, 180, 0, 122, 154, 0, 7, 4, 167, 0, 4, 3, 172]
abbrev dktX6_pays_2 : List UInt8 := dkwX6_pays_2 ++ []
def dkwX6_pays_1 : List UInt8 := [180, 0, 125, 28, 96, 42, 180, 0, 128, 164, 0, 13, 42, 16, 12, 27, 182, 0, 131, 167, 0, 13, 42, 89]
abbrev dktX6_pays_1 : List UInt8 := dkwX6_pays_1 ++ dktX6_pays_2
def dkwX6_pays_0 : List UInt8 := [42, 180, 0, 140, 29, 96, 42, 180, 0, 146, 164, 0, 13, 42, 16, 11, 27, 182, 0, 131, 167, 0, 36, 42]
abbrev dktX6_pays_0 : List UInt8 := dkwX6_pays_0 ++ dktX6_pays_1
theorem dksX6_pays_0 : cX6_pays.data.toList.drop 0 = dktX6_pays_0 := by decide +kernel
theorem dksX6_pays_1 : cX6_pays.data.toList.drop 24 = dktX6_pays_1 := dk_seg dksX6_pays_0 24 rfl rfl
theorem dksX6_pays_2 : cX6_pays.data.toList.drop 48 = dktX6_pays_2 := dk_seg dksX6_pays_1 24 rfl rfl
theorem dX6_pays_0 : decode cX6_pays 0 = .ok (.aload_n 0, 1) := dk_42 (dk_at dksX6_pays_0 0 rfl rfl)
theorem dX6_pays_1 : decode cX6_pays 1 = .ok (.getfield 140, 3) := dk_180 0 140 (dk_at dksX6_pays_0 1 rfl rfl)
theorem dX6_pays_4 : decode cX6_pays 4 = .ok (.iload_n 3, 1) := dk_29 (dk_at dksX6_pays_0 4 rfl rfl)
theorem dX6_pays_5 : decode cX6_pays 5 = .ok (.iadd, 1) := dk_96 (dk_at dksX6_pays_0 5 rfl rfl)
theorem dX6_pays_6 : decode cX6_pays 6 = .ok (.aload_n 0, 1) := dk_42 (dk_at dksX6_pays_0 6 rfl rfl)
theorem dX6_pays_7 : decode cX6_pays 7 = .ok (.getfield 146, 3) := dk_180 0 146 (dk_at dksX6_pays_0 7 rfl rfl)
theorem dX6_pays_10 : decode cX6_pays 10 = .ok (.if_icmp .le 13, 3) := dk_164 0 13 (dk_at dksX6_pays_0 10 rfl rfl)
theorem dX6_pays_13 : decode cX6_pays 13 = .ok (.aload_n 0, 1) := dk_42 (dk_at dksX6_pays_0 13 rfl rfl)
theorem dX6_pays_14 : decode cX6_pays 14 = .ok (.bipush 11, 2) := dk_16 11 (dk_at dksX6_pays_0 14 rfl rfl)
theorem dX6_pays_16 : decode cX6_pays 16 = .ok (.iload_n 1, 1) := dk_27 (dk_at dksX6_pays_0 16 rfl rfl)
theorem dX6_pays_17 : decode cX6_pays 17 = .ok (.invokevirtual 131, 3) := dk_182 0 131 (dk_at dksX6_pays_0 17 rfl rfl)
theorem dX6_pays_20 : decode cX6_pays 20 = .ok (.goto 36, 3) := dk_167 0 36 (dk_at dksX6_pays_0 20 rfl rfl)
theorem dX6_pays_23 : decode cX6_pays 23 = .ok (.aload_n 0, 1) := dk_42 (dk_at dksX6_pays_0 23 rfl rfl)
theorem dX6_pays_24 : decode cX6_pays 24 = .ok (.getfield 125, 3) := dk_180 0 125 (dk_at dksX6_pays_1 0 rfl rfl)
theorem dX6_pays_27 : decode cX6_pays 27 = .ok (.iload_n 2, 1) := dk_28 (dk_at dksX6_pays_1 3 rfl rfl)
theorem dX6_pays_28 : decode cX6_pays 28 = .ok (.iadd, 1) := dk_96 (dk_at dksX6_pays_1 4 rfl rfl)
theorem dX6_pays_29 : decode cX6_pays 29 = .ok (.aload_n 0, 1) := dk_42 (dk_at dksX6_pays_1 5 rfl rfl)
theorem dX6_pays_30 : decode cX6_pays 30 = .ok (.getfield 128, 3) := dk_180 0 128 (dk_at dksX6_pays_1 6 rfl rfl)
theorem dX6_pays_33 : decode cX6_pays 33 = .ok (.if_icmp .le 13, 3) := dk_164 0 13 (dk_at dksX6_pays_1 9 rfl rfl)
theorem dX6_pays_36 : decode cX6_pays 36 = .ok (.aload_n 0, 1) := dk_42 (dk_at dksX6_pays_1 12 rfl rfl)
theorem dX6_pays_37 : decode cX6_pays 37 = .ok (.bipush 12, 2) := dk_16 12 (dk_at dksX6_pays_1 13 rfl rfl)
theorem dX6_pays_39 : decode cX6_pays 39 = .ok (.iload_n 1, 1) := dk_27 (dk_at dksX6_pays_1 15 rfl rfl)
theorem dX6_pays_40 : decode cX6_pays 40 = .ok (.invokevirtual 131, 3) := dk_182 0 131 (dk_at dksX6_pays_1 16 rfl rfl)
theorem dX6_pays_43 : decode cX6_pays 43 = .ok (.goto 13, 3) := dk_167 0 13 (dk_at dksX6_pays_1 19 rfl rfl)
theorem dX6_pays_46 : decode cX6_pays 46 = .ok (.aload_n 0, 1) := dk_42 (dk_at dksX6_pays_1 22 rfl rfl)
theorem dX6_pays_47 : decode cX6_pays 47 = .ok (.dup, 1) := dk_89 (dk_at dksX6_pays_1 23 rfl rfl)
theorem dX6_pays_48 : decode cX6_pays 48 = .ok (.getfield 125, 3) := dk_180 0 125 (dk_at dksX6_pays_2 0 rfl rfl)
theorem dX6_pays_51 : decode cX6_pays 51 = .ok (.iload_n 2, 1) := dk_28 (dk_at dksX6_pays_2 3 rfl rfl)
theorem dX6_pays_52 : decode cX6_pays 52 = .ok (.iadd, 1) := dk_96 (dk_at dksX6_pays_2 4 rfl rfl)
theorem dX6_pays_53 : decode cX6_pays 53 = .ok (.putfield 125, 3) := dk_181 0 125 (dk_at dksX6_pays_2 5 rfl rfl)
theorem dX6_pays_56 : decode cX6_pays 56 = .ok (.aload_n 0, 1) := dk_42 (dk_at dksX6_pays_2 8 rfl rfl)
theorem dX6_pays_57 : decode cX6_pays 57 = .ok (.getfield 122, 3) := dk_180 0 122 (dk_at dksX6_pays_2 9 rfl rfl)
theorem dX6_pays_60 : decode cX6_pays 60 = .ok (.ifCond .ne 7, 3) := dk_154 0 7 (dk_at dksX6_pays_2 12 rfl rfl)
theorem dX6_pays_63 : decode cX6_pays 63 = .ok (.iconst 1, 1) := dk_4 (dk_at dksX6_pays_2 15 rfl rfl)
theorem dX6_pays_64 : decode cX6_pays 64 = .ok (.goto 4, 3) := dk_167 0 4 (dk_at dksX6_pays_2 16 rfl rfl)
theorem dX6_pays_67 : decode cX6_pays 67 = .ok (.iconst 0, 1) := dk_3 (dk_at dksX6_pays_2 19 rfl rfl)
theorem dX6_pays_68 : decode cX6_pays 68 = .ok (.ireturn, 1) := dk_172 (dk_at dksX6_pays_2 20 rfl rfl)
abbrev cX6_comes : ByteArray := prog_8_method_23_code
def yX6_comes : MethodName := ⟨RX6, "comes", "(I)V"⟩
def dkwX6_comes_0 : List UInt8 := [42, 180, 0, 13, 42, 180, 0, 140, 27, 79, 42, 89, 180, 0, 140, 4, 96, 181, 0, 140, 177]
abbrev dktX6_comes_0 : List UInt8 := dkwX6_comes_0 ++ []
theorem dksX6_comes_0 : cX6_comes.data.toList.drop 0 = dktX6_comes_0 := by decide +kernel
theorem dX6_comes_0 : decode cX6_comes 0 = .ok (.aload_n 0, 1) := dk_42 (dk_at dksX6_comes_0 0 rfl rfl)
theorem dX6_comes_1 : decode cX6_comes 1 = .ok (.getfield 13, 3) := dk_180 0 13 (dk_at dksX6_comes_0 1 rfl rfl)
theorem dX6_comes_4 : decode cX6_comes 4 = .ok (.aload_n 0, 1) := dk_42 (dk_at dksX6_comes_0 4 rfl rfl)
theorem dX6_comes_5 : decode cX6_comes 5 = .ok (.getfield 140, 3) := dk_180 0 140 (dk_at dksX6_comes_0 5 rfl rfl)
theorem dX6_comes_8 : decode cX6_comes 8 = .ok (.iload_n 1, 1) := dk_27 (dk_at dksX6_comes_0 8 rfl rfl)
theorem dX6_comes_9 : decode cX6_comes 9 = .ok (.iastore, 1) := dk_79 (dk_at dksX6_comes_0 9 rfl rfl)
theorem dX6_comes_10 : decode cX6_comes 10 = .ok (.aload_n 0, 1) := dk_42 (dk_at dksX6_comes_0 10 rfl rfl)
theorem dX6_comes_11 : decode cX6_comes 11 = .ok (.dup, 1) := dk_89 (dk_at dksX6_comes_0 11 rfl rfl)
theorem dX6_comes_12 : decode cX6_comes 12 = .ok (.getfield 140, 3) := dk_180 0 140 (dk_at dksX6_comes_0 12 rfl rfl)
theorem dX6_comes_15 : decode cX6_comes 15 = .ok (.iconst 1, 1) := dk_4 (dk_at dksX6_comes_0 15 rfl rfl)
theorem dX6_comes_16 : decode cX6_comes 16 = .ok (.iadd, 1) := dk_96 (dk_at dksX6_comes_0 16 rfl rfl)
theorem dX6_comes_17 : decode cX6_comes 17 = .ok (.putfield 140, 3) := dk_181 0 140 (dk_at dksX6_comes_0 17 rfl rfl)
theorem dX6_comes_20 : decode cX6_comes 20 = .ok (.return_, 1) := dk_177 (dk_at dksX6_comes_0 20 rfl rfl)
abbrev cX6_copy : ByteArray := prog_8_method_26_code
def yX6_copy : MethodName := ⟨RX6, "copy", "(II)V"⟩
def dkwX6_copy_5 : List UInt8 := [167, 255, 225, 42, 27, 28, 6, 96, 182, 0, 163, 177]
abbrev dktX6_copy_5 : List UInt8 := dkwX6_copy_5 ++ []
def dkwX6_copy_4 : List UInt8 := [5, 96, 46, 162, 0, 24, 42, 42, 180, 0, 13, 42, 180, 0, 140, 29, 100, 46, 182, 0, 160, 132, 4, 1]
abbrev dktX6_copy_4 : List UInt8 := dkwX6_copy_4 ++ dktX6_copy_5
def dkwX6_copy_3 : List UInt8 := [42, 180, 0, 7, 28, 5, 96, 46, 182, 0, 156, 153, 0, 48, 3, 54, 4, 21, 4, 42, 180, 0, 7, 28]
abbrev dktX6_copy_3 : List UInt8 := dkwX6_copy_3 ++ dktX6_copy_4
def dkwX6_copy_2 : List UInt8 := [167, 0, 83, 42, 28, 6, 182, 0, 149, 153, 0, 74, 42, 28, 6, 42, 180, 0, 7, 28, 5, 96, 46, 96]
abbrev dktX6_copy_2 : List UInt8 := dkwX6_copy_2 ++ dktX6_copy_3
def dkwX6_copy_1 : List UInt8 := [42, 180, 0, 140, 42, 180, 0, 29, 27, 46, 100, 164, 0, 14, 42, 7, 28, 4, 96, 182, 0, 131]
abbrev dktX6_copy_1 : List UInt8 := dkwX6_copy_1 ++ dktX6_copy_2
def dkwX6_copy_0 : List UInt8 := [42, 28, 5, 182, 0, 149, 154, 0, 4, 177, 42, 180, 0, 7, 28, 4, 96, 46, 62, 29, 153, 0, 18, 29]
abbrev dktX6_copy_0 : List UInt8 := dkwX6_copy_0 ++ dktX6_copy_1
theorem dksX6_copy_0 : cX6_copy.data.toList.drop 0 = dktX6_copy_0 := by decide +kernel
theorem dksX6_copy_1 : cX6_copy.data.toList.drop 24 = dktX6_copy_1 := dk_seg dksX6_copy_0 24 rfl rfl
theorem dksX6_copy_2 : cX6_copy.data.toList.drop 46 = dktX6_copy_2 := dk_seg dksX6_copy_1 22 rfl rfl
theorem dksX6_copy_3 : cX6_copy.data.toList.drop 70 = dktX6_copy_3 := dk_seg dksX6_copy_2 24 rfl rfl
theorem dksX6_copy_4 : cX6_copy.data.toList.drop 94 = dktX6_copy_4 := dk_seg dksX6_copy_3 24 rfl rfl
theorem dksX6_copy_5 : cX6_copy.data.toList.drop 118 = dktX6_copy_5 := dk_seg dksX6_copy_4 24 rfl rfl
theorem dX6_copy_0 : decode cX6_copy 0 = .ok (.aload_n 0, 1) := dk_42 (dk_at dksX6_copy_0 0 rfl rfl)
theorem dX6_copy_1 : decode cX6_copy 1 = .ok (.iload_n 2, 1) := dk_28 (dk_at dksX6_copy_0 1 rfl rfl)
theorem dX6_copy_2 : decode cX6_copy 2 = .ok (.iconst 2, 1) := dk_5 (dk_at dksX6_copy_0 2 rfl rfl)
theorem dX6_copy_3 : decode cX6_copy 3 = .ok (.invokevirtual 149, 3) := dk_182 0 149 (dk_at dksX6_copy_0 3 rfl rfl)
theorem dX6_copy_6 : decode cX6_copy 6 = .ok (.ifCond .ne 4, 3) := dk_154 0 4 (dk_at dksX6_copy_0 6 rfl rfl)
theorem dX6_copy_9 : decode cX6_copy 9 = .ok (.return_, 1) := dk_177 (dk_at dksX6_copy_0 9 rfl rfl)
theorem dX6_copy_10 : decode cX6_copy 10 = .ok (.aload_n 0, 1) := dk_42 (dk_at dksX6_copy_0 10 rfl rfl)
theorem dX6_copy_11 : decode cX6_copy 11 = .ok (.getfield 7, 3) := dk_180 0 7 (dk_at dksX6_copy_0 11 rfl rfl)
theorem dX6_copy_14 : decode cX6_copy 14 = .ok (.iload_n 2, 1) := dk_28 (dk_at dksX6_copy_0 14 rfl rfl)
theorem dX6_copy_15 : decode cX6_copy 15 = .ok (.iconst 1, 1) := dk_4 (dk_at dksX6_copy_0 15 rfl rfl)
theorem dX6_copy_16 : decode cX6_copy 16 = .ok (.iadd, 1) := dk_96 (dk_at dksX6_copy_0 16 rfl rfl)
theorem dX6_copy_17 : decode cX6_copy 17 = .ok (.iaload, 1) := dk_46 (dk_at dksX6_copy_0 17 rfl rfl)
theorem dX6_copy_18 : decode cX6_copy 18 = .ok (.istore_n 3, 1) := dk_62 (dk_at dksX6_copy_0 18 rfl rfl)
theorem dX6_copy_19 : decode cX6_copy 19 = .ok (.iload_n 3, 1) := dk_29 (dk_at dksX6_copy_0 19 rfl rfl)
theorem dX6_copy_20 : decode cX6_copy 20 = .ok (.ifCond .eq 18, 3) := dk_153 0 18 (dk_at dksX6_copy_0 20 rfl rfl)
theorem dX6_copy_23 : decode cX6_copy 23 = .ok (.iload_n 3, 1) := dk_29 (dk_at dksX6_copy_0 23 rfl rfl)
theorem dX6_copy_24 : decode cX6_copy 24 = .ok (.aload_n 0, 1) := dk_42 (dk_at dksX6_copy_1 0 rfl rfl)
theorem dX6_copy_25 : decode cX6_copy 25 = .ok (.getfield 140, 3) := dk_180 0 140 (dk_at dksX6_copy_1 1 rfl rfl)
theorem dX6_copy_28 : decode cX6_copy 28 = .ok (.aload_n 0, 1) := dk_42 (dk_at dksX6_copy_1 4 rfl rfl)
theorem dX6_copy_29 : decode cX6_copy 29 = .ok (.getfield 29, 3) := dk_180 0 29 (dk_at dksX6_copy_1 5 rfl rfl)
theorem dX6_copy_32 : decode cX6_copy 32 = .ok (.iload_n 1, 1) := dk_27 (dk_at dksX6_copy_1 8 rfl rfl)
theorem dX6_copy_33 : decode cX6_copy 33 = .ok (.iaload, 1) := dk_46 (dk_at dksX6_copy_1 9 rfl rfl)
theorem dX6_copy_34 : decode cX6_copy 34 = .ok (.isub, 1) := dk_100 (dk_at dksX6_copy_1 10 rfl rfl)
theorem dX6_copy_35 : decode cX6_copy 35 = .ok (.if_icmp .le 14, 3) := dk_164 0 14 (dk_at dksX6_copy_1 11 rfl rfl)
theorem dX6_copy_38 : decode cX6_copy 38 = .ok (.aload_n 0, 1) := dk_42 (dk_at dksX6_copy_1 14 rfl rfl)
theorem dX6_copy_39 : decode cX6_copy 39 = .ok (.iconst 4, 1) := dk_7 (dk_at dksX6_copy_1 15 rfl rfl)
theorem dX6_copy_40 : decode cX6_copy 40 = .ok (.iload_n 2, 1) := dk_28 (dk_at dksX6_copy_1 16 rfl rfl)
theorem dX6_copy_41 : decode cX6_copy 41 = .ok (.iconst 1, 1) := dk_4 (dk_at dksX6_copy_1 17 rfl rfl)
theorem dX6_copy_42 : decode cX6_copy 42 = .ok (.iadd, 1) := dk_96 (dk_at dksX6_copy_1 18 rfl rfl)
theorem dX6_copy_43 : decode cX6_copy 43 = .ok (.invokevirtual 131, 3) := dk_182 0 131 (dk_at dksX6_copy_1 19 rfl rfl)
theorem dX6_copy_46 : decode cX6_copy 46 = .ok (.goto 83, 3) := dk_167 0 83 (dk_at dksX6_copy_2 0 rfl rfl)
theorem dX6_copy_49 : decode cX6_copy 49 = .ok (.aload_n 0, 1) := dk_42 (dk_at dksX6_copy_2 3 rfl rfl)
theorem dX6_copy_50 : decode cX6_copy 50 = .ok (.iload_n 2, 1) := dk_28 (dk_at dksX6_copy_2 4 rfl rfl)
theorem dX6_copy_51 : decode cX6_copy 51 = .ok (.iconst 3, 1) := dk_6 (dk_at dksX6_copy_2 5 rfl rfl)
theorem dX6_copy_52 : decode cX6_copy 52 = .ok (.invokevirtual 149, 3) := dk_182 0 149 (dk_at dksX6_copy_2 6 rfl rfl)
theorem dX6_copy_55 : decode cX6_copy 55 = .ok (.ifCond .eq 74, 3) := dk_153 0 74 (dk_at dksX6_copy_2 9 rfl rfl)
theorem dX6_copy_58 : decode cX6_copy 58 = .ok (.aload_n 0, 1) := dk_42 (dk_at dksX6_copy_2 12 rfl rfl)
theorem dX6_copy_59 : decode cX6_copy 59 = .ok (.iload_n 2, 1) := dk_28 (dk_at dksX6_copy_2 13 rfl rfl)
theorem dX6_copy_60 : decode cX6_copy 60 = .ok (.iconst 3, 1) := dk_6 (dk_at dksX6_copy_2 14 rfl rfl)
theorem dX6_copy_61 : decode cX6_copy 61 = .ok (.aload_n 0, 1) := dk_42 (dk_at dksX6_copy_2 15 rfl rfl)
theorem dX6_copy_62 : decode cX6_copy 62 = .ok (.getfield 7, 3) := dk_180 0 7 (dk_at dksX6_copy_2 16 rfl rfl)
theorem dX6_copy_65 : decode cX6_copy 65 = .ok (.iload_n 2, 1) := dk_28 (dk_at dksX6_copy_2 19 rfl rfl)
theorem dX6_copy_66 : decode cX6_copy 66 = .ok (.iconst 2, 1) := dk_5 (dk_at dksX6_copy_2 20 rfl rfl)
theorem dX6_copy_67 : decode cX6_copy 67 = .ok (.iadd, 1) := dk_96 (dk_at dksX6_copy_2 21 rfl rfl)
theorem dX6_copy_68 : decode cX6_copy 68 = .ok (.iaload, 1) := dk_46 (dk_at dksX6_copy_2 22 rfl rfl)
theorem dX6_copy_69 : decode cX6_copy 69 = .ok (.iadd, 1) := dk_96 (dk_at dksX6_copy_2 23 rfl rfl)
theorem dX6_copy_70 : decode cX6_copy 70 = .ok (.aload_n 0, 1) := dk_42 (dk_at dksX6_copy_3 0 rfl rfl)
theorem dX6_copy_71 : decode cX6_copy 71 = .ok (.getfield 7, 3) := dk_180 0 7 (dk_at dksX6_copy_3 1 rfl rfl)
theorem dX6_copy_74 : decode cX6_copy 74 = .ok (.iload_n 2, 1) := dk_28 (dk_at dksX6_copy_3 4 rfl rfl)
theorem dX6_copy_75 : decode cX6_copy 75 = .ok (.iconst 2, 1) := dk_5 (dk_at dksX6_copy_3 5 rfl rfl)
theorem dX6_copy_76 : decode cX6_copy 76 = .ok (.iadd, 1) := dk_96 (dk_at dksX6_copy_3 6 rfl rfl)
theorem dX6_copy_77 : decode cX6_copy 77 = .ok (.iaload, 1) := dk_46 (dk_at dksX6_copy_3 7 rfl rfl)
theorem dX6_copy_78 : decode cX6_copy 78 = .ok (.invokevirtual 156, 3) := dk_182 0 156 (dk_at dksX6_copy_3 8 rfl rfl)
theorem dX6_copy_81 : decode cX6_copy 81 = .ok (.ifCond .eq 48, 3) := dk_153 0 48 (dk_at dksX6_copy_3 11 rfl rfl)
theorem dX6_copy_84 : decode cX6_copy 84 = .ok (.iconst 0, 1) := dk_3 (dk_at dksX6_copy_3 14 rfl rfl)
theorem dX6_copy_85 : decode cX6_copy 85 = .ok (.istore 4, 2) := dk_54 4 (dk_at dksX6_copy_3 15 rfl rfl)
theorem dX6_copy_87 : decode cX6_copy 87 = .ok (.iload 4, 2) := dk_21 4 (dk_at dksX6_copy_3 17 rfl rfl)
theorem dX6_copy_89 : decode cX6_copy 89 = .ok (.aload_n 0, 1) := dk_42 (dk_at dksX6_copy_3 19 rfl rfl)
theorem dX6_copy_90 : decode cX6_copy 90 = .ok (.getfield 7, 3) := dk_180 0 7 (dk_at dksX6_copy_3 20 rfl rfl)
theorem dX6_copy_93 : decode cX6_copy 93 = .ok (.iload_n 2, 1) := dk_28 (dk_at dksX6_copy_3 23 rfl rfl)
theorem dX6_copy_94 : decode cX6_copy 94 = .ok (.iconst 2, 1) := dk_5 (dk_at dksX6_copy_4 0 rfl rfl)
theorem dX6_copy_95 : decode cX6_copy 95 = .ok (.iadd, 1) := dk_96 (dk_at dksX6_copy_4 1 rfl rfl)
theorem dX6_copy_96 : decode cX6_copy 96 = .ok (.iaload, 1) := dk_46 (dk_at dksX6_copy_4 2 rfl rfl)
theorem dX6_copy_97 : decode cX6_copy 97 = .ok (.if_icmp .ge 24, 3) := dk_162 0 24 (dk_at dksX6_copy_4 3 rfl rfl)
theorem dX6_copy_100 : decode cX6_copy 100 = .ok (.aload_n 0, 1) := dk_42 (dk_at dksX6_copy_4 6 rfl rfl)
theorem dX6_copy_101 : decode cX6_copy 101 = .ok (.aload_n 0, 1) := dk_42 (dk_at dksX6_copy_4 7 rfl rfl)
theorem dX6_copy_102 : decode cX6_copy 102 = .ok (.getfield 13, 3) := dk_180 0 13 (dk_at dksX6_copy_4 8 rfl rfl)
theorem dX6_copy_105 : decode cX6_copy 105 = .ok (.aload_n 0, 1) := dk_42 (dk_at dksX6_copy_4 11 rfl rfl)
theorem dX6_copy_106 : decode cX6_copy 106 = .ok (.getfield 140, 3) := dk_180 0 140 (dk_at dksX6_copy_4 12 rfl rfl)
theorem dX6_copy_109 : decode cX6_copy 109 = .ok (.iload_n 3, 1) := dk_29 (dk_at dksX6_copy_4 15 rfl rfl)
theorem dX6_copy_110 : decode cX6_copy 110 = .ok (.isub, 1) := dk_100 (dk_at dksX6_copy_4 16 rfl rfl)
theorem dX6_copy_111 : decode cX6_copy 111 = .ok (.iaload, 1) := dk_46 (dk_at dksX6_copy_4 17 rfl rfl)
theorem dX6_copy_112 : decode cX6_copy 112 = .ok (.invokevirtual 160, 3) := dk_182 0 160 (dk_at dksX6_copy_4 18 rfl rfl)
theorem dX6_copy_115 : decode cX6_copy 115 = .ok (.iinc 4 1, 3) := dk_132 4 1 (dk_at dksX6_copy_4 21 rfl rfl)
theorem dX6_copy_118 : decode cX6_copy 118 = .ok (.goto (-31), 3) := dk_167 255 225 (dk_at dksX6_copy_5 0 rfl rfl)
theorem dX6_copy_121 : decode cX6_copy 121 = .ok (.aload_n 0, 1) := dk_42 (dk_at dksX6_copy_5 3 rfl rfl)
theorem dX6_copy_122 : decode cX6_copy 122 = .ok (.iload_n 1, 1) := dk_27 (dk_at dksX6_copy_5 4 rfl rfl)
theorem dX6_copy_123 : decode cX6_copy 123 = .ok (.iload_n 2, 1) := dk_28 (dk_at dksX6_copy_5 5 rfl rfl)
theorem dX6_copy_124 : decode cX6_copy 124 = .ok (.iconst 3, 1) := dk_6 (dk_at dksX6_copy_5 6 rfl rfl)
theorem dX6_copy_125 : decode cX6_copy 125 = .ok (.iadd, 1) := dk_96 (dk_at dksX6_copy_5 7 rfl rfl)
theorem dX6_copy_126 : decode cX6_copy 126 = .ok (.invokevirtual 163, 3) := dk_182 0 163 (dk_at dksX6_copy_5 8 rfl rfl)
theorem dX6_copy_129 : decode cX6_copy 129 = .ok (.return_, 1) := dk_177 (dk_at dksX6_copy_5 11 rfl rfl)
abbrev cX6_nest : ByteArray := prog_8_method_27_code
def yX6_nest : MethodName := ⟨RX6, "nest", "(I)V"⟩
def dkwX6_nest_4 : List UInt8 := [180, 0, 125, 6, 96, 181, 0, 125, 42, 27, 6, 96, 27, 6, 96, 28, 96, 182, 0, 181, 177]
abbrev dktX6_nest_4 : List UInt8 := dkwX6_nest_4 ++ []
def dkwX6_nest_3 : List UInt8 := [180, 0, 137, 42, 180, 0, 178, 164, 0, 13, 42, 16, 13, 27, 182, 0, 131, 167, 0, 25, 42, 89]
abbrev dktX6_nest_3 : List UInt8 := dkwX6_nest_3 ++ dktX6_nest_4
def dkwX6_nest_2 : List UInt8 := [180, 0, 125, 6, 96, 42, 180, 0, 128, 164, 0, 13, 42, 16, 12, 27, 182, 0, 131, 167, 0, 46, 42]
abbrev dktX6_nest_2 : List UInt8 := dkwX6_nest_2 ++ dktX6_nest_3
def dkwX6_nest_1 : List UInt8 := [180, 0, 7, 27, 5, 96, 46, 96, 61, 42, 27, 6, 28, 96, 182, 0, 149, 154, 0, 4, 177, 42]
abbrev dktX6_nest_1 : List UInt8 := dkwX6_nest_1 ++ dktX6_nest_2
def dkwX6_nest_0 : List UInt8 := [42, 27, 6, 182, 0, 149, 154, 0, 4, 177, 17, 1, 0, 42, 180, 0, 7, 27, 4, 96, 46, 104, 42]
abbrev dktX6_nest_0 : List UInt8 := dkwX6_nest_0 ++ dktX6_nest_1
theorem dksX6_nest_0 : cX6_nest.data.toList.drop 0 = dktX6_nest_0 := by decide +kernel
theorem dksX6_nest_1 : cX6_nest.data.toList.drop 23 = dktX6_nest_1 := dk_seg dksX6_nest_0 23 rfl rfl
theorem dksX6_nest_2 : cX6_nest.data.toList.drop 45 = dktX6_nest_2 := dk_seg dksX6_nest_1 22 rfl rfl
theorem dksX6_nest_3 : cX6_nest.data.toList.drop 68 = dktX6_nest_3 := dk_seg dksX6_nest_2 23 rfl rfl
theorem dksX6_nest_4 : cX6_nest.data.toList.drop 90 = dktX6_nest_4 := dk_seg dksX6_nest_3 22 rfl rfl
theorem dX6_nest_0 : decode cX6_nest 0 = .ok (.aload_n 0, 1) := dk_42 (dk_at dksX6_nest_0 0 rfl rfl)
theorem dX6_nest_1 : decode cX6_nest 1 = .ok (.iload_n 1, 1) := dk_27 (dk_at dksX6_nest_0 1 rfl rfl)
theorem dX6_nest_2 : decode cX6_nest 2 = .ok (.iconst 3, 1) := dk_6 (dk_at dksX6_nest_0 2 rfl rfl)
theorem dX6_nest_3 : decode cX6_nest 3 = .ok (.invokevirtual 149, 3) := dk_182 0 149 (dk_at dksX6_nest_0 3 rfl rfl)
theorem dX6_nest_6 : decode cX6_nest 6 = .ok (.ifCond .ne 4, 3) := dk_154 0 4 (dk_at dksX6_nest_0 6 rfl rfl)
theorem dX6_nest_9 : decode cX6_nest 9 = .ok (.return_, 1) := dk_177 (dk_at dksX6_nest_0 9 rfl rfl)
theorem dX6_nest_10 : decode cX6_nest 10 = .ok (.sipush 256, 3) := dk_17 1 0 (dk_at dksX6_nest_0 10 rfl rfl)
theorem dX6_nest_13 : decode cX6_nest 13 = .ok (.aload_n 0, 1) := dk_42 (dk_at dksX6_nest_0 13 rfl rfl)
theorem dX6_nest_14 : decode cX6_nest 14 = .ok (.getfield 7, 3) := dk_180 0 7 (dk_at dksX6_nest_0 14 rfl rfl)
theorem dX6_nest_17 : decode cX6_nest 17 = .ok (.iload_n 1, 1) := dk_27 (dk_at dksX6_nest_0 17 rfl rfl)
theorem dX6_nest_18 : decode cX6_nest 18 = .ok (.iconst 1, 1) := dk_4 (dk_at dksX6_nest_0 18 rfl rfl)
theorem dX6_nest_19 : decode cX6_nest 19 = .ok (.iadd, 1) := dk_96 (dk_at dksX6_nest_0 19 rfl rfl)
theorem dX6_nest_20 : decode cX6_nest 20 = .ok (.iaload, 1) := dk_46 (dk_at dksX6_nest_0 20 rfl rfl)
theorem dX6_nest_21 : decode cX6_nest 21 = .ok (.imul, 1) := dk_104 (dk_at dksX6_nest_0 21 rfl rfl)
theorem dX6_nest_22 : decode cX6_nest 22 = .ok (.aload_n 0, 1) := dk_42 (dk_at dksX6_nest_0 22 rfl rfl)
theorem dX6_nest_23 : decode cX6_nest 23 = .ok (.getfield 7, 3) := dk_180 0 7 (dk_at dksX6_nest_1 0 rfl rfl)
theorem dX6_nest_26 : decode cX6_nest 26 = .ok (.iload_n 1, 1) := dk_27 (dk_at dksX6_nest_1 3 rfl rfl)
theorem dX6_nest_27 : decode cX6_nest 27 = .ok (.iconst 2, 1) := dk_5 (dk_at dksX6_nest_1 4 rfl rfl)
theorem dX6_nest_28 : decode cX6_nest 28 = .ok (.iadd, 1) := dk_96 (dk_at dksX6_nest_1 5 rfl rfl)
theorem dX6_nest_29 : decode cX6_nest 29 = .ok (.iaload, 1) := dk_46 (dk_at dksX6_nest_1 6 rfl rfl)
theorem dX6_nest_30 : decode cX6_nest 30 = .ok (.iadd, 1) := dk_96 (dk_at dksX6_nest_1 7 rfl rfl)
theorem dX6_nest_31 : decode cX6_nest 31 = .ok (.istore_n 2, 1) := dk_61 (dk_at dksX6_nest_1 8 rfl rfl)
theorem dX6_nest_32 : decode cX6_nest 32 = .ok (.aload_n 0, 1) := dk_42 (dk_at dksX6_nest_1 9 rfl rfl)
theorem dX6_nest_33 : decode cX6_nest 33 = .ok (.iload_n 1, 1) := dk_27 (dk_at dksX6_nest_1 10 rfl rfl)
theorem dX6_nest_34 : decode cX6_nest 34 = .ok (.iconst 3, 1) := dk_6 (dk_at dksX6_nest_1 11 rfl rfl)
theorem dX6_nest_35 : decode cX6_nest 35 = .ok (.iload_n 2, 1) := dk_28 (dk_at dksX6_nest_1 12 rfl rfl)
theorem dX6_nest_36 : decode cX6_nest 36 = .ok (.iadd, 1) := dk_96 (dk_at dksX6_nest_1 13 rfl rfl)
theorem dX6_nest_37 : decode cX6_nest 37 = .ok (.invokevirtual 149, 3) := dk_182 0 149 (dk_at dksX6_nest_1 14 rfl rfl)
theorem dX6_nest_40 : decode cX6_nest 40 = .ok (.ifCond .ne 4, 3) := dk_154 0 4 (dk_at dksX6_nest_1 17 rfl rfl)
theorem dX6_nest_43 : decode cX6_nest 43 = .ok (.return_, 1) := dk_177 (dk_at dksX6_nest_1 20 rfl rfl)
theorem dX6_nest_44 : decode cX6_nest 44 = .ok (.aload_n 0, 1) := dk_42 (dk_at dksX6_nest_1 21 rfl rfl)
theorem dX6_nest_45 : decode cX6_nest 45 = .ok (.getfield 125, 3) := dk_180 0 125 (dk_at dksX6_nest_2 0 rfl rfl)
theorem dX6_nest_48 : decode cX6_nest 48 = .ok (.iconst 3, 1) := dk_6 (dk_at dksX6_nest_2 3 rfl rfl)
theorem dX6_nest_49 : decode cX6_nest 49 = .ok (.iadd, 1) := dk_96 (dk_at dksX6_nest_2 4 rfl rfl)
theorem dX6_nest_50 : decode cX6_nest 50 = .ok (.aload_n 0, 1) := dk_42 (dk_at dksX6_nest_2 5 rfl rfl)
theorem dX6_nest_51 : decode cX6_nest 51 = .ok (.getfield 128, 3) := dk_180 0 128 (dk_at dksX6_nest_2 6 rfl rfl)
theorem dX6_nest_54 : decode cX6_nest 54 = .ok (.if_icmp .le 13, 3) := dk_164 0 13 (dk_at dksX6_nest_2 9 rfl rfl)
theorem dX6_nest_57 : decode cX6_nest 57 = .ok (.aload_n 0, 1) := dk_42 (dk_at dksX6_nest_2 12 rfl rfl)
theorem dX6_nest_58 : decode cX6_nest 58 = .ok (.bipush 12, 2) := dk_16 12 (dk_at dksX6_nest_2 13 rfl rfl)
theorem dX6_nest_60 : decode cX6_nest 60 = .ok (.iload_n 1, 1) := dk_27 (dk_at dksX6_nest_2 15 rfl rfl)
theorem dX6_nest_61 : decode cX6_nest 61 = .ok (.invokevirtual 131, 3) := dk_182 0 131 (dk_at dksX6_nest_2 16 rfl rfl)
theorem dX6_nest_64 : decode cX6_nest 64 = .ok (.goto 46, 3) := dk_167 0 46 (dk_at dksX6_nest_2 19 rfl rfl)
theorem dX6_nest_67 : decode cX6_nest 67 = .ok (.aload_n 0, 1) := dk_42 (dk_at dksX6_nest_2 22 rfl rfl)
theorem dX6_nest_68 : decode cX6_nest 68 = .ok (.getfield 137, 3) := dk_180 0 137 (dk_at dksX6_nest_3 0 rfl rfl)
theorem dX6_nest_71 : decode cX6_nest 71 = .ok (.aload_n 0, 1) := dk_42 (dk_at dksX6_nest_3 3 rfl rfl)
theorem dX6_nest_72 : decode cX6_nest 72 = .ok (.getfield 178, 3) := dk_180 0 178 (dk_at dksX6_nest_3 4 rfl rfl)
theorem dX6_nest_75 : decode cX6_nest 75 = .ok (.if_icmp .le 13, 3) := dk_164 0 13 (dk_at dksX6_nest_3 7 rfl rfl)
theorem dX6_nest_78 : decode cX6_nest 78 = .ok (.aload_n 0, 1) := dk_42 (dk_at dksX6_nest_3 10 rfl rfl)
theorem dX6_nest_79 : decode cX6_nest 79 = .ok (.bipush 13, 2) := dk_16 13 (dk_at dksX6_nest_3 11 rfl rfl)
theorem dX6_nest_81 : decode cX6_nest 81 = .ok (.iload_n 1, 1) := dk_27 (dk_at dksX6_nest_3 13 rfl rfl)
theorem dX6_nest_82 : decode cX6_nest 82 = .ok (.invokevirtual 131, 3) := dk_182 0 131 (dk_at dksX6_nest_3 14 rfl rfl)
theorem dX6_nest_85 : decode cX6_nest 85 = .ok (.goto 25, 3) := dk_167 0 25 (dk_at dksX6_nest_3 17 rfl rfl)
theorem dX6_nest_88 : decode cX6_nest 88 = .ok (.aload_n 0, 1) := dk_42 (dk_at dksX6_nest_3 20 rfl rfl)
theorem dX6_nest_89 : decode cX6_nest 89 = .ok (.dup, 1) := dk_89 (dk_at dksX6_nest_3 21 rfl rfl)
theorem dX6_nest_90 : decode cX6_nest 90 = .ok (.getfield 125, 3) := dk_180 0 125 (dk_at dksX6_nest_4 0 rfl rfl)
theorem dX6_nest_93 : decode cX6_nest 93 = .ok (.iconst 3, 1) := dk_6 (dk_at dksX6_nest_4 3 rfl rfl)
theorem dX6_nest_94 : decode cX6_nest 94 = .ok (.iadd, 1) := dk_96 (dk_at dksX6_nest_4 4 rfl rfl)
theorem dX6_nest_95 : decode cX6_nest 95 = .ok (.putfield 125, 3) := dk_181 0 125 (dk_at dksX6_nest_4 5 rfl rfl)
theorem dX6_nest_98 : decode cX6_nest 98 = .ok (.aload_n 0, 1) := dk_42 (dk_at dksX6_nest_4 8 rfl rfl)
theorem dX6_nest_99 : decode cX6_nest 99 = .ok (.iload_n 1, 1) := dk_27 (dk_at dksX6_nest_4 9 rfl rfl)
theorem dX6_nest_100 : decode cX6_nest 100 = .ok (.iconst 3, 1) := dk_6 (dk_at dksX6_nest_4 10 rfl rfl)
theorem dX6_nest_101 : decode cX6_nest 101 = .ok (.iadd, 1) := dk_96 (dk_at dksX6_nest_4 11 rfl rfl)
theorem dX6_nest_102 : decode cX6_nest 102 = .ok (.iload_n 1, 1) := dk_27 (dk_at dksX6_nest_4 12 rfl rfl)
theorem dX6_nest_103 : decode cX6_nest 103 = .ok (.iconst 3, 1) := dk_6 (dk_at dksX6_nest_4 13 rfl rfl)
theorem dX6_nest_104 : decode cX6_nest 104 = .ok (.iadd, 1) := dk_96 (dk_at dksX6_nest_4 14 rfl rfl)
theorem dX6_nest_105 : decode cX6_nest 105 = .ok (.iload_n 2, 1) := dk_28 (dk_at dksX6_nest_4 15 rfl rfl)
theorem dX6_nest_106 : decode cX6_nest 106 = .ok (.iadd, 1) := dk_96 (dk_at dksX6_nest_4 16 rfl rfl)
theorem dX6_nest_107 : decode cX6_nest 107 = .ok (.invokevirtual 181, 3) := dk_182 0 181 (dk_at dksX6_nest_4 17 rfl rfl)
theorem dX6_nest_110 : decode cX6_nest 110 = .ok (.return_, 1) := dk_177 (dk_at dksX6_nest_4 20 rfl rfl)
abbrev cX6_again : ByteArray := prog_8_method_28_code
def yX6_again : MethodName := ⟨RX6, "again", "(II)V"⟩
def dkwX6_again_4 : List UInt8 := [132, 5, 1, 167, 255, 228, 42, 27, 28, 5, 96, 182, 0, 163, 177]
abbrev dktX6_again_4 : List UInt8 := dkwX6_again_4 ++ []
def dkwX6_again_3 : List UInt8 := [21, 4, 162, 0, 27, 42, 42, 180, 0, 13, 42, 180, 0, 29, 27, 46, 21, 5, 96, 46, 182, 0, 160]
abbrev dktX6_again_3 : List UInt8 := dkwX6_again_3 ++ dktX6_again_4
def dkwX6_again_2 : List UInt8 := [96, 46, 54, 4, 42, 28, 5, 21, 4, 96, 21, 4, 182, 0, 156, 153, 0, 45, 3, 54, 5, 21, 5]
abbrev dktX6_again_2 : List UInt8 := dkwX6_again_2 ++ dktX6_again_3
def dkwX6_again_1 : List UInt8 := [27, 46, 161, 0, 12, 42, 8, 28, 4, 96, 182, 0, 131, 177, 42, 180, 0, 35, 17, 2, 88, 27, 104, 29]
abbrev dktX6_again_1 : List UInt8 := dkwX6_again_1 ++ dktX6_again_2
def dkwX6_again_0 : List UInt8 := [42, 28, 5, 182, 0, 149, 154, 0, 4, 177, 42, 180, 0, 7, 28, 4, 96, 46, 62, 29, 42, 180, 0, 32]
abbrev dktX6_again_0 : List UInt8 := dkwX6_again_0 ++ dktX6_again_1
theorem dksX6_again_0 : cX6_again.data.toList.drop 0 = dktX6_again_0 := by decide +kernel
theorem dksX6_again_1 : cX6_again.data.toList.drop 24 = dktX6_again_1 := dk_seg dksX6_again_0 24 rfl rfl
theorem dksX6_again_2 : cX6_again.data.toList.drop 48 = dktX6_again_2 := dk_seg dksX6_again_1 24 rfl rfl
theorem dksX6_again_3 : cX6_again.data.toList.drop 71 = dktX6_again_3 := dk_seg dksX6_again_2 23 rfl rfl
theorem dksX6_again_4 : cX6_again.data.toList.drop 94 = dktX6_again_4 := dk_seg dksX6_again_3 23 rfl rfl
theorem dX6_again_0 : decode cX6_again 0 = .ok (.aload_n 0, 1) := dk_42 (dk_at dksX6_again_0 0 rfl rfl)
theorem dX6_again_1 : decode cX6_again 1 = .ok (.iload_n 2, 1) := dk_28 (dk_at dksX6_again_0 1 rfl rfl)
theorem dX6_again_2 : decode cX6_again 2 = .ok (.iconst 2, 1) := dk_5 (dk_at dksX6_again_0 2 rfl rfl)
theorem dX6_again_3 : decode cX6_again 3 = .ok (.invokevirtual 149, 3) := dk_182 0 149 (dk_at dksX6_again_0 3 rfl rfl)
theorem dX6_again_6 : decode cX6_again 6 = .ok (.ifCond .ne 4, 3) := dk_154 0 4 (dk_at dksX6_again_0 6 rfl rfl)
theorem dX6_again_9 : decode cX6_again 9 = .ok (.return_, 1) := dk_177 (dk_at dksX6_again_0 9 rfl rfl)
theorem dX6_again_10 : decode cX6_again 10 = .ok (.aload_n 0, 1) := dk_42 (dk_at dksX6_again_0 10 rfl rfl)
theorem dX6_again_11 : decode cX6_again 11 = .ok (.getfield 7, 3) := dk_180 0 7 (dk_at dksX6_again_0 11 rfl rfl)
theorem dX6_again_14 : decode cX6_again 14 = .ok (.iload_n 2, 1) := dk_28 (dk_at dksX6_again_0 14 rfl rfl)
theorem dX6_again_15 : decode cX6_again 15 = .ok (.iconst 1, 1) := dk_4 (dk_at dksX6_again_0 15 rfl rfl)
theorem dX6_again_16 : decode cX6_again 16 = .ok (.iadd, 1) := dk_96 (dk_at dksX6_again_0 16 rfl rfl)
theorem dX6_again_17 : decode cX6_again 17 = .ok (.iaload, 1) := dk_46 (dk_at dksX6_again_0 17 rfl rfl)
theorem dX6_again_18 : decode cX6_again 18 = .ok (.istore_n 3, 1) := dk_62 (dk_at dksX6_again_0 18 rfl rfl)
theorem dX6_again_19 : decode cX6_again 19 = .ok (.iload_n 3, 1) := dk_29 (dk_at dksX6_again_0 19 rfl rfl)
theorem dX6_again_20 : decode cX6_again 20 = .ok (.aload_n 0, 1) := dk_42 (dk_at dksX6_again_0 20 rfl rfl)
theorem dX6_again_21 : decode cX6_again 21 = .ok (.getfield 32, 3) := dk_180 0 32 (dk_at dksX6_again_0 21 rfl rfl)
theorem dX6_again_24 : decode cX6_again 24 = .ok (.iload_n 1, 1) := dk_27 (dk_at dksX6_again_1 0 rfl rfl)
theorem dX6_again_25 : decode cX6_again 25 = .ok (.iaload, 1) := dk_46 (dk_at dksX6_again_1 1 rfl rfl)
theorem dX6_again_26 : decode cX6_again 26 = .ok (.if_icmp .lt 12, 3) := dk_161 0 12 (dk_at dksX6_again_1 2 rfl rfl)
theorem dX6_again_29 : decode cX6_again 29 = .ok (.aload_n 0, 1) := dk_42 (dk_at dksX6_again_1 5 rfl rfl)
theorem dX6_again_30 : decode cX6_again 30 = .ok (.iconst 5, 1) := dk_8 (dk_at dksX6_again_1 6 rfl rfl)
theorem dX6_again_31 : decode cX6_again 31 = .ok (.iload_n 2, 1) := dk_28 (dk_at dksX6_again_1 7 rfl rfl)
theorem dX6_again_32 : decode cX6_again 32 = .ok (.iconst 1, 1) := dk_4 (dk_at dksX6_again_1 8 rfl rfl)
theorem dX6_again_33 : decode cX6_again 33 = .ok (.iadd, 1) := dk_96 (dk_at dksX6_again_1 9 rfl rfl)
theorem dX6_again_34 : decode cX6_again 34 = .ok (.invokevirtual 131, 3) := dk_182 0 131 (dk_at dksX6_again_1 10 rfl rfl)
theorem dX6_again_37 : decode cX6_again 37 = .ok (.return_, 1) := dk_177 (dk_at dksX6_again_1 13 rfl rfl)
theorem dX6_again_38 : decode cX6_again 38 = .ok (.aload_n 0, 1) := dk_42 (dk_at dksX6_again_1 14 rfl rfl)
theorem dX6_again_39 : decode cX6_again 39 = .ok (.getfield 35, 3) := dk_180 0 35 (dk_at dksX6_again_1 15 rfl rfl)
theorem dX6_again_42 : decode cX6_again 42 = .ok (.sipush 600, 3) := dk_17 2 88 (dk_at dksX6_again_1 18 rfl rfl)
theorem dX6_again_45 : decode cX6_again 45 = .ok (.iload_n 1, 1) := dk_27 (dk_at dksX6_again_1 21 rfl rfl)
theorem dX6_again_46 : decode cX6_again 46 = .ok (.imul, 1) := dk_104 (dk_at dksX6_again_1 22 rfl rfl)
theorem dX6_again_47 : decode cX6_again 47 = .ok (.iload_n 3, 1) := dk_29 (dk_at dksX6_again_1 23 rfl rfl)
theorem dX6_again_48 : decode cX6_again 48 = .ok (.iadd, 1) := dk_96 (dk_at dksX6_again_2 0 rfl rfl)
theorem dX6_again_49 : decode cX6_again 49 = .ok (.iaload, 1) := dk_46 (dk_at dksX6_again_2 1 rfl rfl)
theorem dX6_again_50 : decode cX6_again 50 = .ok (.istore 4, 2) := dk_54 4 (dk_at dksX6_again_2 2 rfl rfl)
theorem dX6_again_52 : decode cX6_again 52 = .ok (.aload_n 0, 1) := dk_42 (dk_at dksX6_again_2 4 rfl rfl)
theorem dX6_again_53 : decode cX6_again 53 = .ok (.iload_n 2, 1) := dk_28 (dk_at dksX6_again_2 5 rfl rfl)
theorem dX6_again_54 : decode cX6_again 54 = .ok (.iconst 2, 1) := dk_5 (dk_at dksX6_again_2 6 rfl rfl)
theorem dX6_again_55 : decode cX6_again 55 = .ok (.iload 4, 2) := dk_21 4 (dk_at dksX6_again_2 7 rfl rfl)
theorem dX6_again_57 : decode cX6_again 57 = .ok (.iadd, 1) := dk_96 (dk_at dksX6_again_2 9 rfl rfl)
theorem dX6_again_58 : decode cX6_again 58 = .ok (.iload 4, 2) := dk_21 4 (dk_at dksX6_again_2 10 rfl rfl)
theorem dX6_again_60 : decode cX6_again 60 = .ok (.invokevirtual 156, 3) := dk_182 0 156 (dk_at dksX6_again_2 12 rfl rfl)
theorem dX6_again_63 : decode cX6_again 63 = .ok (.ifCond .eq 45, 3) := dk_153 0 45 (dk_at dksX6_again_2 15 rfl rfl)
theorem dX6_again_66 : decode cX6_again 66 = .ok (.iconst 0, 1) := dk_3 (dk_at dksX6_again_2 18 rfl rfl)
theorem dX6_again_67 : decode cX6_again 67 = .ok (.istore 5, 2) := dk_54 5 (dk_at dksX6_again_2 19 rfl rfl)
theorem dX6_again_69 : decode cX6_again 69 = .ok (.iload 5, 2) := dk_21 5 (dk_at dksX6_again_2 21 rfl rfl)
theorem dX6_again_71 : decode cX6_again 71 = .ok (.iload 4, 2) := dk_21 4 (dk_at dksX6_again_3 0 rfl rfl)
theorem dX6_again_73 : decode cX6_again 73 = .ok (.if_icmp .ge 27, 3) := dk_162 0 27 (dk_at dksX6_again_3 2 rfl rfl)
theorem dX6_again_76 : decode cX6_again 76 = .ok (.aload_n 0, 1) := dk_42 (dk_at dksX6_again_3 5 rfl rfl)
theorem dX6_again_77 : decode cX6_again 77 = .ok (.aload_n 0, 1) := dk_42 (dk_at dksX6_again_3 6 rfl rfl)
theorem dX6_again_78 : decode cX6_again 78 = .ok (.getfield 13, 3) := dk_180 0 13 (dk_at dksX6_again_3 7 rfl rfl)
theorem dX6_again_81 : decode cX6_again 81 = .ok (.aload_n 0, 1) := dk_42 (dk_at dksX6_again_3 10 rfl rfl)
theorem dX6_again_82 : decode cX6_again 82 = .ok (.getfield 29, 3) := dk_180 0 29 (dk_at dksX6_again_3 11 rfl rfl)
theorem dX6_again_85 : decode cX6_again 85 = .ok (.iload_n 1, 1) := dk_27 (dk_at dksX6_again_3 14 rfl rfl)
theorem dX6_again_86 : decode cX6_again 86 = .ok (.iaload, 1) := dk_46 (dk_at dksX6_again_3 15 rfl rfl)
theorem dX6_again_87 : decode cX6_again 87 = .ok (.iload 5, 2) := dk_21 5 (dk_at dksX6_again_3 16 rfl rfl)
theorem dX6_again_89 : decode cX6_again 89 = .ok (.iadd, 1) := dk_96 (dk_at dksX6_again_3 18 rfl rfl)
theorem dX6_again_90 : decode cX6_again 90 = .ok (.iaload, 1) := dk_46 (dk_at dksX6_again_3 19 rfl rfl)
theorem dX6_again_91 : decode cX6_again 91 = .ok (.invokevirtual 160, 3) := dk_182 0 160 (dk_at dksX6_again_3 20 rfl rfl)
theorem dX6_again_94 : decode cX6_again 94 = .ok (.iinc 5 1, 3) := dk_132 5 1 (dk_at dksX6_again_4 0 rfl rfl)
theorem dX6_again_97 : decode cX6_again 97 = .ok (.goto (-28), 3) := dk_167 255 228 (dk_at dksX6_again_4 3 rfl rfl)
theorem dX6_again_100 : decode cX6_again 100 = .ok (.aload_n 0, 1) := dk_42 (dk_at dksX6_again_4 6 rfl rfl)
theorem dX6_again_101 : decode cX6_again 101 = .ok (.iload_n 1, 1) := dk_27 (dk_at dksX6_again_4 7 rfl rfl)
theorem dX6_again_102 : decode cX6_again 102 = .ok (.iload_n 2, 1) := dk_28 (dk_at dksX6_again_4 8 rfl rfl)
theorem dX6_again_103 : decode cX6_again 103 = .ok (.iconst 2, 1) := dk_5 (dk_at dksX6_again_4 9 rfl rfl)
theorem dX6_again_104 : decode cX6_again 104 = .ok (.iadd, 1) := dk_96 (dk_at dksX6_again_4 10 rfl rfl)
theorem dX6_again_105 : decode cX6_again 105 = .ok (.invokevirtual 163, 3) := dk_182 0 163 (dk_at dksX6_again_4 11 rfl rfl)
theorem dX6_again_108 : decode cX6_again 108 = .ok (.return_, 1) := dk_177 (dk_at dksX6_again_4 14 rfl rfl)
abbrev cX6_coded : ByteArray := prog_8_method_30_code
def yX6_coded : MethodName := ⟨RX6, "coded", "(II)V"⟩
def dkwX6_coded_8 : List UInt8 := [21, 4, 29, 96, 4, 96, 42, 180, 0, 7, 21, 4, 29, 96, 46, 182, 0, 187, 177]
abbrev dktX6_coded_8 : List UInt8 := dkwX6_coded_8 ++ []
def dkwX6_coded_7 : List UInt8 := [46, 104, 96, 42, 180, 0, 7, 21, 4, 29, 96, 46, 182, 0, 156, 153, 0, 27, 42, 27, 28, 5, 96, 29]
abbrev dktX6_coded_7 : List UInt8 := dkwX6_coded_7 ++ dktX6_coded_8
def dkwX6_coded_6 : List UInt8 := [96, 4, 182, 0, 149, 153, 0, 61, 42, 28, 6, 5, 29, 104, 96, 5, 42, 180, 0, 7, 21, 4, 29, 96]
abbrev dktX6_coded_6 : List UInt8 := dkwX6_coded_6 ++ dktX6_coded_7
def dkwX6_coded_5 : List UInt8 := [21, 4, 29, 182, 0, 184, 154, 0, 14, 42, 16, 6, 21, 4, 182, 0, 131, 167, 0, 73, 42, 21, 4, 29]
abbrev dktX6_coded_5 : List UInt8 := dkwX6_coded_5 ++ dktX6_coded_6
def dkwX6_coded_4 : List UInt8 := [16, 7, 164, 0, 15, 42, 16, 6, 21, 4, 21, 5, 96, 182, 0, 131, 177, 132, 5, 1, 167, 255, 206, 42]
abbrev dktX6_coded_4 : List UInt8 := dkwX6_coded_4 ++ dktX6_coded_5
def dkwX6_coded_3 : List UInt8 := [21, 4, 21, 5, 96, 4, 182, 0, 149, 154, 0, 4, 177, 42, 180, 0, 7, 21, 4, 21, 5, 96, 46]
abbrev dktX6_coded_3 : List UInt8 := dkwX6_coded_3 ++ dktX6_coded_4
def dkwX6_coded_2 : List UInt8 := [182, 0, 149, 154, 0, 4, 177, 28, 5, 96, 29, 96, 54, 4, 3, 54, 5, 21, 5, 29, 162, 0, 50, 42]
abbrev dktX6_coded_2 : List UInt8 := dkwX6_coded_2 ++ dktX6_coded_3
def dkwX6_coded_1 : List UInt8 := [20, 0, 72, 184, 0, 74, 154, 0, 13, 42, 16, 6, 28, 4, 96, 182, 0, 131, 177, 42, 28, 5, 29, 96]
abbrev dktX6_coded_1 : List UInt8 := dkwX6_coded_1 ++ dktX6_coded_2
def dkwX6_coded_0 : List UInt8 := [42, 28, 5, 182, 0, 149, 154, 0, 4, 177, 42, 180, 0, 7, 28, 4, 96, 46, 62, 29, 133, 10]
abbrev dktX6_coded_0 : List UInt8 := dkwX6_coded_0 ++ dktX6_coded_1
theorem dksX6_coded_0 : cX6_coded.data.toList.drop 0 = dktX6_coded_0 := by decide +kernel
theorem dksX6_coded_1 : cX6_coded.data.toList.drop 22 = dktX6_coded_1 := dk_seg dksX6_coded_0 22 rfl rfl
theorem dksX6_coded_2 : cX6_coded.data.toList.drop 46 = dktX6_coded_2 := dk_seg dksX6_coded_1 24 rfl rfl
theorem dksX6_coded_3 : cX6_coded.data.toList.drop 70 = dktX6_coded_3 := dk_seg dksX6_coded_2 24 rfl rfl
theorem dksX6_coded_4 : cX6_coded.data.toList.drop 93 = dktX6_coded_4 := dk_seg dksX6_coded_3 23 rfl rfl
theorem dksX6_coded_5 : cX6_coded.data.toList.drop 117 = dktX6_coded_5 := dk_seg dksX6_coded_4 24 rfl rfl
theorem dksX6_coded_6 : cX6_coded.data.toList.drop 141 = dktX6_coded_6 := dk_seg dksX6_coded_5 24 rfl rfl
theorem dksX6_coded_7 : cX6_coded.data.toList.drop 165 = dktX6_coded_7 := dk_seg dksX6_coded_6 24 rfl rfl
theorem dksX6_coded_8 : cX6_coded.data.toList.drop 189 = dktX6_coded_8 := dk_seg dksX6_coded_7 24 rfl rfl
theorem dX6_coded_0 : decode cX6_coded 0 = .ok (.aload_n 0, 1) := dk_42 (dk_at dksX6_coded_0 0 rfl rfl)
theorem dX6_coded_1 : decode cX6_coded 1 = .ok (.iload_n 2, 1) := dk_28 (dk_at dksX6_coded_0 1 rfl rfl)
theorem dX6_coded_2 : decode cX6_coded 2 = .ok (.iconst 2, 1) := dk_5 (dk_at dksX6_coded_0 2 rfl rfl)
theorem dX6_coded_3 : decode cX6_coded 3 = .ok (.invokevirtual 149, 3) := dk_182 0 149 (dk_at dksX6_coded_0 3 rfl rfl)
theorem dX6_coded_6 : decode cX6_coded 6 = .ok (.ifCond .ne 4, 3) := dk_154 0 4 (dk_at dksX6_coded_0 6 rfl rfl)
theorem dX6_coded_9 : decode cX6_coded 9 = .ok (.return_, 1) := dk_177 (dk_at dksX6_coded_0 9 rfl rfl)
theorem dX6_coded_10 : decode cX6_coded 10 = .ok (.aload_n 0, 1) := dk_42 (dk_at dksX6_coded_0 10 rfl rfl)
theorem dX6_coded_11 : decode cX6_coded 11 = .ok (.getfield 7, 3) := dk_180 0 7 (dk_at dksX6_coded_0 11 rfl rfl)
theorem dX6_coded_14 : decode cX6_coded 14 = .ok (.iload_n 2, 1) := dk_28 (dk_at dksX6_coded_0 14 rfl rfl)
theorem dX6_coded_15 : decode cX6_coded 15 = .ok (.iconst 1, 1) := dk_4 (dk_at dksX6_coded_0 15 rfl rfl)
theorem dX6_coded_16 : decode cX6_coded 16 = .ok (.iadd, 1) := dk_96 (dk_at dksX6_coded_0 16 rfl rfl)
theorem dX6_coded_17 : decode cX6_coded 17 = .ok (.iaload, 1) := dk_46 (dk_at dksX6_coded_0 17 rfl rfl)
theorem dX6_coded_18 : decode cX6_coded 18 = .ok (.istore_n 3, 1) := dk_62 (dk_at dksX6_coded_0 18 rfl rfl)
theorem dX6_coded_19 : decode cX6_coded 19 = .ok (.iload_n 3, 1) := dk_29 (dk_at dksX6_coded_0 19 rfl rfl)
theorem dX6_coded_20 : decode cX6_coded 20 = .ok (.i2l, 1) := dk_133 (dk_at dksX6_coded_0 20 rfl rfl)
theorem dX6_coded_21 : decode cX6_coded 21 = .ok (.lconst 1, 1) := dk_10 (dk_at dksX6_coded_0 21 rfl rfl)
theorem dX6_coded_22 : decode cX6_coded 22 = .ok (.ldc2_w 72, 3) := dk_20 0 72 (dk_at dksX6_coded_1 0 rfl rfl)
theorem dX6_coded_25 : decode cX6_coded 25 = .ok (.invokestatic 74, 3) := dk_184 0 74 (dk_at dksX6_coded_1 3 rfl rfl)
theorem dX6_coded_28 : decode cX6_coded 28 = .ok (.ifCond .ne 13, 3) := dk_154 0 13 (dk_at dksX6_coded_1 6 rfl rfl)
theorem dX6_coded_31 : decode cX6_coded 31 = .ok (.aload_n 0, 1) := dk_42 (dk_at dksX6_coded_1 9 rfl rfl)
theorem dX6_coded_32 : decode cX6_coded 32 = .ok (.bipush 6, 2) := dk_16 6 (dk_at dksX6_coded_1 10 rfl rfl)
theorem dX6_coded_34 : decode cX6_coded 34 = .ok (.iload_n 2, 1) := dk_28 (dk_at dksX6_coded_1 12 rfl rfl)
theorem dX6_coded_35 : decode cX6_coded 35 = .ok (.iconst 1, 1) := dk_4 (dk_at dksX6_coded_1 13 rfl rfl)
theorem dX6_coded_36 : decode cX6_coded 36 = .ok (.iadd, 1) := dk_96 (dk_at dksX6_coded_1 14 rfl rfl)
theorem dX6_coded_37 : decode cX6_coded 37 = .ok (.invokevirtual 131, 3) := dk_182 0 131 (dk_at dksX6_coded_1 15 rfl rfl)
theorem dX6_coded_40 : decode cX6_coded 40 = .ok (.return_, 1) := dk_177 (dk_at dksX6_coded_1 18 rfl rfl)
theorem dX6_coded_41 : decode cX6_coded 41 = .ok (.aload_n 0, 1) := dk_42 (dk_at dksX6_coded_1 19 rfl rfl)
theorem dX6_coded_42 : decode cX6_coded 42 = .ok (.iload_n 2, 1) := dk_28 (dk_at dksX6_coded_1 20 rfl rfl)
theorem dX6_coded_43 : decode cX6_coded 43 = .ok (.iconst 2, 1) := dk_5 (dk_at dksX6_coded_1 21 rfl rfl)
theorem dX6_coded_44 : decode cX6_coded 44 = .ok (.iload_n 3, 1) := dk_29 (dk_at dksX6_coded_1 22 rfl rfl)
theorem dX6_coded_45 : decode cX6_coded 45 = .ok (.iadd, 1) := dk_96 (dk_at dksX6_coded_1 23 rfl rfl)
theorem dX6_coded_46 : decode cX6_coded 46 = .ok (.invokevirtual 149, 3) := dk_182 0 149 (dk_at dksX6_coded_2 0 rfl rfl)
theorem dX6_coded_49 : decode cX6_coded 49 = .ok (.ifCond .ne 4, 3) := dk_154 0 4 (dk_at dksX6_coded_2 3 rfl rfl)
theorem dX6_coded_52 : decode cX6_coded 52 = .ok (.return_, 1) := dk_177 (dk_at dksX6_coded_2 6 rfl rfl)
theorem dX6_coded_53 : decode cX6_coded 53 = .ok (.iload_n 2, 1) := dk_28 (dk_at dksX6_coded_2 7 rfl rfl)
theorem dX6_coded_54 : decode cX6_coded 54 = .ok (.iconst 2, 1) := dk_5 (dk_at dksX6_coded_2 8 rfl rfl)
theorem dX6_coded_55 : decode cX6_coded 55 = .ok (.iadd, 1) := dk_96 (dk_at dksX6_coded_2 9 rfl rfl)
theorem dX6_coded_56 : decode cX6_coded 56 = .ok (.iload_n 3, 1) := dk_29 (dk_at dksX6_coded_2 10 rfl rfl)
theorem dX6_coded_57 : decode cX6_coded 57 = .ok (.iadd, 1) := dk_96 (dk_at dksX6_coded_2 11 rfl rfl)
theorem dX6_coded_58 : decode cX6_coded 58 = .ok (.istore 4, 2) := dk_54 4 (dk_at dksX6_coded_2 12 rfl rfl)
theorem dX6_coded_60 : decode cX6_coded 60 = .ok (.iconst 0, 1) := dk_3 (dk_at dksX6_coded_2 14 rfl rfl)
theorem dX6_coded_61 : decode cX6_coded 61 = .ok (.istore 5, 2) := dk_54 5 (dk_at dksX6_coded_2 15 rfl rfl)
theorem dX6_coded_63 : decode cX6_coded 63 = .ok (.iload 5, 2) := dk_21 5 (dk_at dksX6_coded_2 17 rfl rfl)
theorem dX6_coded_65 : decode cX6_coded 65 = .ok (.iload_n 3, 1) := dk_29 (dk_at dksX6_coded_2 19 rfl rfl)
theorem dX6_coded_66 : decode cX6_coded 66 = .ok (.if_icmp .ge 50, 3) := dk_162 0 50 (dk_at dksX6_coded_2 20 rfl rfl)
theorem dX6_coded_69 : decode cX6_coded 69 = .ok (.aload_n 0, 1) := dk_42 (dk_at dksX6_coded_2 23 rfl rfl)
theorem dX6_coded_70 : decode cX6_coded 70 = .ok (.iload 4, 2) := dk_21 4 (dk_at dksX6_coded_3 0 rfl rfl)
theorem dX6_coded_72 : decode cX6_coded 72 = .ok (.iload 5, 2) := dk_21 5 (dk_at dksX6_coded_3 2 rfl rfl)
theorem dX6_coded_74 : decode cX6_coded 74 = .ok (.iadd, 1) := dk_96 (dk_at dksX6_coded_3 4 rfl rfl)
theorem dX6_coded_75 : decode cX6_coded 75 = .ok (.iconst 1, 1) := dk_4 (dk_at dksX6_coded_3 5 rfl rfl)
theorem dX6_coded_76 : decode cX6_coded 76 = .ok (.invokevirtual 149, 3) := dk_182 0 149 (dk_at dksX6_coded_3 6 rfl rfl)
theorem dX6_coded_79 : decode cX6_coded 79 = .ok (.ifCond .ne 4, 3) := dk_154 0 4 (dk_at dksX6_coded_3 9 rfl rfl)
theorem dX6_coded_82 : decode cX6_coded 82 = .ok (.return_, 1) := dk_177 (dk_at dksX6_coded_3 12 rfl rfl)
theorem dX6_coded_83 : decode cX6_coded 83 = .ok (.aload_n 0, 1) := dk_42 (dk_at dksX6_coded_3 13 rfl rfl)
theorem dX6_coded_84 : decode cX6_coded 84 = .ok (.getfield 7, 3) := dk_180 0 7 (dk_at dksX6_coded_3 14 rfl rfl)
theorem dX6_coded_87 : decode cX6_coded 87 = .ok (.iload 4, 2) := dk_21 4 (dk_at dksX6_coded_3 17 rfl rfl)
theorem dX6_coded_89 : decode cX6_coded 89 = .ok (.iload 5, 2) := dk_21 5 (dk_at dksX6_coded_3 19 rfl rfl)
theorem dX6_coded_91 : decode cX6_coded 91 = .ok (.iadd, 1) := dk_96 (dk_at dksX6_coded_3 21 rfl rfl)
theorem dX6_coded_92 : decode cX6_coded 92 = .ok (.iaload, 1) := dk_46 (dk_at dksX6_coded_3 22 rfl rfl)
theorem dX6_coded_93 : decode cX6_coded 93 = .ok (.bipush 7, 2) := dk_16 7 (dk_at dksX6_coded_4 0 rfl rfl)
theorem dX6_coded_95 : decode cX6_coded 95 = .ok (.if_icmp .le 15, 3) := dk_164 0 15 (dk_at dksX6_coded_4 2 rfl rfl)
theorem dX6_coded_98 : decode cX6_coded 98 = .ok (.aload_n 0, 1) := dk_42 (dk_at dksX6_coded_4 5 rfl rfl)
theorem dX6_coded_99 : decode cX6_coded 99 = .ok (.bipush 6, 2) := dk_16 6 (dk_at dksX6_coded_4 6 rfl rfl)
theorem dX6_coded_101 : decode cX6_coded 101 = .ok (.iload 4, 2) := dk_21 4 (dk_at dksX6_coded_4 8 rfl rfl)
theorem dX6_coded_103 : decode cX6_coded 103 = .ok (.iload 5, 2) := dk_21 5 (dk_at dksX6_coded_4 10 rfl rfl)
theorem dX6_coded_105 : decode cX6_coded 105 = .ok (.iadd, 1) := dk_96 (dk_at dksX6_coded_4 12 rfl rfl)
theorem dX6_coded_106 : decode cX6_coded 106 = .ok (.invokevirtual 131, 3) := dk_182 0 131 (dk_at dksX6_coded_4 13 rfl rfl)
theorem dX6_coded_109 : decode cX6_coded 109 = .ok (.return_, 1) := dk_177 (dk_at dksX6_coded_4 16 rfl rfl)
theorem dX6_coded_110 : decode cX6_coded 110 = .ok (.iinc 5 1, 3) := dk_132 5 1 (dk_at dksX6_coded_4 17 rfl rfl)
theorem dX6_coded_113 : decode cX6_coded 113 = .ok (.goto (-50), 3) := dk_167 255 206 (dk_at dksX6_coded_4 20 rfl rfl)
theorem dX6_coded_116 : decode cX6_coded 116 = .ok (.aload_n 0, 1) := dk_42 (dk_at dksX6_coded_4 23 rfl rfl)
theorem dX6_coded_117 : decode cX6_coded 117 = .ok (.iload 4, 2) := dk_21 4 (dk_at dksX6_coded_5 0 rfl rfl)
theorem dX6_coded_119 : decode cX6_coded 119 = .ok (.iload_n 3, 1) := dk_29 (dk_at dksX6_coded_5 2 rfl rfl)
theorem dX6_coded_120 : decode cX6_coded 120 = .ok (.invokevirtual 184, 3) := dk_182 0 184 (dk_at dksX6_coded_5 3 rfl rfl)
theorem dX6_coded_123 : decode cX6_coded 123 = .ok (.ifCond .ne 14, 3) := dk_154 0 14 (dk_at dksX6_coded_5 6 rfl rfl)
theorem dX6_coded_126 : decode cX6_coded 126 = .ok (.aload_n 0, 1) := dk_42 (dk_at dksX6_coded_5 9 rfl rfl)
theorem dX6_coded_127 : decode cX6_coded 127 = .ok (.bipush 6, 2) := dk_16 6 (dk_at dksX6_coded_5 10 rfl rfl)
theorem dX6_coded_129 : decode cX6_coded 129 = .ok (.iload 4, 2) := dk_21 4 (dk_at dksX6_coded_5 12 rfl rfl)
theorem dX6_coded_131 : decode cX6_coded 131 = .ok (.invokevirtual 131, 3) := dk_182 0 131 (dk_at dksX6_coded_5 14 rfl rfl)
theorem dX6_coded_134 : decode cX6_coded 134 = .ok (.goto 73, 3) := dk_167 0 73 (dk_at dksX6_coded_5 17 rfl rfl)
theorem dX6_coded_137 : decode cX6_coded 137 = .ok (.aload_n 0, 1) := dk_42 (dk_at dksX6_coded_5 20 rfl rfl)
theorem dX6_coded_138 : decode cX6_coded 138 = .ok (.iload 4, 2) := dk_21 4 (dk_at dksX6_coded_5 21 rfl rfl)
theorem dX6_coded_140 : decode cX6_coded 140 = .ok (.iload_n 3, 1) := dk_29 (dk_at dksX6_coded_5 23 rfl rfl)
theorem dX6_coded_141 : decode cX6_coded 141 = .ok (.iadd, 1) := dk_96 (dk_at dksX6_coded_6 0 rfl rfl)
theorem dX6_coded_142 : decode cX6_coded 142 = .ok (.iconst 1, 1) := dk_4 (dk_at dksX6_coded_6 1 rfl rfl)
theorem dX6_coded_143 : decode cX6_coded 143 = .ok (.invokevirtual 149, 3) := dk_182 0 149 (dk_at dksX6_coded_6 2 rfl rfl)
theorem dX6_coded_146 : decode cX6_coded 146 = .ok (.ifCond .eq 61, 3) := dk_153 0 61 (dk_at dksX6_coded_6 5 rfl rfl)
theorem dX6_coded_149 : decode cX6_coded 149 = .ok (.aload_n 0, 1) := dk_42 (dk_at dksX6_coded_6 8 rfl rfl)
theorem dX6_coded_150 : decode cX6_coded 150 = .ok (.iload_n 2, 1) := dk_28 (dk_at dksX6_coded_6 9 rfl rfl)
theorem dX6_coded_151 : decode cX6_coded 151 = .ok (.iconst 3, 1) := dk_6 (dk_at dksX6_coded_6 10 rfl rfl)
theorem dX6_coded_152 : decode cX6_coded 152 = .ok (.iconst 2, 1) := dk_5 (dk_at dksX6_coded_6 11 rfl rfl)
theorem dX6_coded_153 : decode cX6_coded 153 = .ok (.iload_n 3, 1) := dk_29 (dk_at dksX6_coded_6 12 rfl rfl)
theorem dX6_coded_154 : decode cX6_coded 154 = .ok (.imul, 1) := dk_104 (dk_at dksX6_coded_6 13 rfl rfl)
theorem dX6_coded_155 : decode cX6_coded 155 = .ok (.iadd, 1) := dk_96 (dk_at dksX6_coded_6 14 rfl rfl)
theorem dX6_coded_156 : decode cX6_coded 156 = .ok (.iconst 2, 1) := dk_5 (dk_at dksX6_coded_6 15 rfl rfl)
theorem dX6_coded_157 : decode cX6_coded 157 = .ok (.aload_n 0, 1) := dk_42 (dk_at dksX6_coded_6 16 rfl rfl)
theorem dX6_coded_158 : decode cX6_coded 158 = .ok (.getfield 7, 3) := dk_180 0 7 (dk_at dksX6_coded_6 17 rfl rfl)
theorem dX6_coded_161 : decode cX6_coded 161 = .ok (.iload 4, 2) := dk_21 4 (dk_at dksX6_coded_6 20 rfl rfl)
theorem dX6_coded_163 : decode cX6_coded 163 = .ok (.iload_n 3, 1) := dk_29 (dk_at dksX6_coded_6 22 rfl rfl)
theorem dX6_coded_164 : decode cX6_coded 164 = .ok (.iadd, 1) := dk_96 (dk_at dksX6_coded_6 23 rfl rfl)
theorem dX6_coded_165 : decode cX6_coded 165 = .ok (.iaload, 1) := dk_46 (dk_at dksX6_coded_7 0 rfl rfl)
theorem dX6_coded_166 : decode cX6_coded 166 = .ok (.imul, 1) := dk_104 (dk_at dksX6_coded_7 1 rfl rfl)
theorem dX6_coded_167 : decode cX6_coded 167 = .ok (.iadd, 1) := dk_96 (dk_at dksX6_coded_7 2 rfl rfl)
theorem dX6_coded_168 : decode cX6_coded 168 = .ok (.aload_n 0, 1) := dk_42 (dk_at dksX6_coded_7 3 rfl rfl)
theorem dX6_coded_169 : decode cX6_coded 169 = .ok (.getfield 7, 3) := dk_180 0 7 (dk_at dksX6_coded_7 4 rfl rfl)
theorem dX6_coded_172 : decode cX6_coded 172 = .ok (.iload 4, 2) := dk_21 4 (dk_at dksX6_coded_7 7 rfl rfl)
theorem dX6_coded_174 : decode cX6_coded 174 = .ok (.iload_n 3, 1) := dk_29 (dk_at dksX6_coded_7 9 rfl rfl)
theorem dX6_coded_175 : decode cX6_coded 175 = .ok (.iadd, 1) := dk_96 (dk_at dksX6_coded_7 10 rfl rfl)
theorem dX6_coded_176 : decode cX6_coded 176 = .ok (.iaload, 1) := dk_46 (dk_at dksX6_coded_7 11 rfl rfl)
theorem dX6_coded_177 : decode cX6_coded 177 = .ok (.invokevirtual 156, 3) := dk_182 0 156 (dk_at dksX6_coded_7 12 rfl rfl)
theorem dX6_coded_180 : decode cX6_coded 180 = .ok (.ifCond .eq 27, 3) := dk_153 0 27 (dk_at dksX6_coded_7 15 rfl rfl)
theorem dX6_coded_183 : decode cX6_coded 183 = .ok (.aload_n 0, 1) := dk_42 (dk_at dksX6_coded_7 18 rfl rfl)
theorem dX6_coded_184 : decode cX6_coded 184 = .ok (.iload_n 1, 1) := dk_27 (dk_at dksX6_coded_7 19 rfl rfl)
theorem dX6_coded_185 : decode cX6_coded 185 = .ok (.iload_n 2, 1) := dk_28 (dk_at dksX6_coded_7 20 rfl rfl)
theorem dX6_coded_186 : decode cX6_coded 186 = .ok (.iconst 2, 1) := dk_5 (dk_at dksX6_coded_7 21 rfl rfl)
theorem dX6_coded_187 : decode cX6_coded 187 = .ok (.iadd, 1) := dk_96 (dk_at dksX6_coded_7 22 rfl rfl)
theorem dX6_coded_188 : decode cX6_coded 188 = .ok (.iload_n 3, 1) := dk_29 (dk_at dksX6_coded_7 23 rfl rfl)
theorem dX6_coded_189 : decode cX6_coded 189 = .ok (.iload 4, 2) := dk_21 4 (dk_at dksX6_coded_8 0 rfl rfl)
theorem dX6_coded_191 : decode cX6_coded 191 = .ok (.iload_n 3, 1) := dk_29 (dk_at dksX6_coded_8 2 rfl rfl)
theorem dX6_coded_192 : decode cX6_coded 192 = .ok (.iadd, 1) := dk_96 (dk_at dksX6_coded_8 3 rfl rfl)
theorem dX6_coded_193 : decode cX6_coded 193 = .ok (.iconst 1, 1) := dk_4 (dk_at dksX6_coded_8 4 rfl rfl)
theorem dX6_coded_194 : decode cX6_coded 194 = .ok (.iadd, 1) := dk_96 (dk_at dksX6_coded_8 5 rfl rfl)
theorem dX6_coded_195 : decode cX6_coded 195 = .ok (.aload_n 0, 1) := dk_42 (dk_at dksX6_coded_8 6 rfl rfl)
theorem dX6_coded_196 : decode cX6_coded 196 = .ok (.getfield 7, 3) := dk_180 0 7 (dk_at dksX6_coded_8 7 rfl rfl)
theorem dX6_coded_199 : decode cX6_coded 199 = .ok (.iload 4, 2) := dk_21 4 (dk_at dksX6_coded_8 10 rfl rfl)
theorem dX6_coded_201 : decode cX6_coded 201 = .ok (.iload_n 3, 1) := dk_29 (dk_at dksX6_coded_8 12 rfl rfl)
theorem dX6_coded_202 : decode cX6_coded 202 = .ok (.iadd, 1) := dk_96 (dk_at dksX6_coded_8 13 rfl rfl)
theorem dX6_coded_203 : decode cX6_coded 203 = .ok (.iaload, 1) := dk_46 (dk_at dksX6_coded_8 14 rfl rfl)
theorem dX6_coded_204 : decode cX6_coded 204 = .ok (.invokevirtual 187, 3) := dk_182 0 187 (dk_at dksX6_coded_8 15 rfl rfl)
theorem dX6_coded_207 : decode cX6_coded 207 = .ok (.return_, 1) := dk_177 (dk_at dksX6_coded_8 18 rfl rfl)
abbrev cX6_codesOf : ByteArray := prog_8_method_29_code
def yX6_codesOf : MethodName := ⟨RX6, "codesOf", "(II)Z"⟩
def dkwX6_codesOf_7 : List UInt8 := [160, 0, 7, 4, 167, 0, 4, 3, 172]
abbrev dktX6_codesOf_7 : List UInt8 := dkwX6_codesOf_7 ++ []
def dkwX6_codesOf_6 : List UInt8 := [132, 7, 1, 167, 255, 199, 29, 17, 0, 128, 159, 0, 15, 21, 4, 4, 160, 0, 13, 21, 5, 4]
abbrev dktX6_codesOf_6 : List UInt8 := dkwX6_codesOf_6 ++ dktX6_codesOf_7
def dkwX6_codesOf_5 : List UInt8 := [21, 7, 160, 0, 15, 42, 180, 0, 59, 21, 8, 21, 6, 79, 132, 6, 1, 132, 8, 1, 167, 255, 221]
abbrev dktX6_codesOf_5 : List UInt8 := dkwX6_codesOf_5 ++ dktX6_codesOf_6
def dkwX6_codesOf_4 : List UInt8 := [21, 6, 5, 104, 54, 6, 3, 54, 8, 21, 8, 28, 162, 0, 35, 42, 180, 0, 7, 27, 21, 8, 96, 46]
abbrev dktX6_codesOf_4 : List UInt8 := dkwX6_codesOf_4 ++ dktX6_codesOf_5
def dkwX6_codesOf_3 : List UInt8 := [21, 5, 54, 5, 132, 6, 1, 167, 255, 189, 3, 54, 6, 4, 54, 7, 21, 7, 16, 7, 163, 0, 56]
abbrev dktX6_codesOf_3 : List UInt8 := dkwX6_codesOf_3 ++ dktX6_codesOf_4
def dkwX6_codesOf_2 : List UInt8 := [21, 7, 158, 0, 7, 4, 167, 0, 4, 3, 96, 54, 4, 21, 7, 158, 0, 8, 21, 7, 167, 0, 5]
abbrev dktX6_codesOf_2 : List UInt8 := dkwX6_codesOf_2 ++ dktX6_codesOf_3
def dkwX6_codesOf_1 : List UInt8 := [96, 46, 54, 7, 29, 21, 7, 158, 0, 12, 17, 0, 128, 21, 7, 122, 167, 0, 4, 3, 96, 62, 21, 4]
abbrev dktX6_codesOf_1 : List UInt8 := dkwX6_codesOf_1 ++ dktX6_codesOf_2
def dkwX6_codesOf_0 : List UInt8 := [3, 62, 3, 54, 4, 3, 54, 5, 3, 54, 6, 21, 6, 28, 162, 0, 67, 42, 180, 0, 7, 27, 21, 6]
abbrev dktX6_codesOf_0 : List UInt8 := dkwX6_codesOf_0 ++ dktX6_codesOf_1
theorem dksX6_codesOf_0 : cX6_codesOf.data.toList.drop 0 = dktX6_codesOf_0 := by decide +kernel
theorem dksX6_codesOf_1 : cX6_codesOf.data.toList.drop 24 = dktX6_codesOf_1 := dk_seg dksX6_codesOf_0 24 rfl rfl
theorem dksX6_codesOf_2 : cX6_codesOf.data.toList.drop 48 = dktX6_codesOf_2 := dk_seg dksX6_codesOf_1 24 rfl rfl
theorem dksX6_codesOf_3 : cX6_codesOf.data.toList.drop 71 = dktX6_codesOf_3 := dk_seg dksX6_codesOf_2 23 rfl rfl
theorem dksX6_codesOf_4 : cX6_codesOf.data.toList.drop 94 = dktX6_codesOf_4 := dk_seg dksX6_codesOf_3 23 rfl rfl
theorem dksX6_codesOf_5 : cX6_codesOf.data.toList.drop 118 = dktX6_codesOf_5 := dk_seg dksX6_codesOf_4 24 rfl rfl
theorem dksX6_codesOf_6 : cX6_codesOf.data.toList.drop 141 = dktX6_codesOf_6 := dk_seg dksX6_codesOf_5 23 rfl rfl
theorem dksX6_codesOf_7 : cX6_codesOf.data.toList.drop 163 = dktX6_codesOf_7 := dk_seg dksX6_codesOf_6 22 rfl rfl
theorem dX6_codesOf_0 : decode cX6_codesOf 0 = .ok (.iconst 0, 1) := dk_3 (dk_at dksX6_codesOf_0 0 rfl rfl)
theorem dX6_codesOf_1 : decode cX6_codesOf 1 = .ok (.istore_n 3, 1) := dk_62 (dk_at dksX6_codesOf_0 1 rfl rfl)
theorem dX6_codesOf_2 : decode cX6_codesOf 2 = .ok (.iconst 0, 1) := dk_3 (dk_at dksX6_codesOf_0 2 rfl rfl)
theorem dX6_codesOf_3 : decode cX6_codesOf 3 = .ok (.istore 4, 2) := dk_54 4 (dk_at dksX6_codesOf_0 3 rfl rfl)
theorem dX6_codesOf_5 : decode cX6_codesOf 5 = .ok (.iconst 0, 1) := dk_3 (dk_at dksX6_codesOf_0 5 rfl rfl)
theorem dX6_codesOf_6 : decode cX6_codesOf 6 = .ok (.istore 5, 2) := dk_54 5 (dk_at dksX6_codesOf_0 6 rfl rfl)
theorem dX6_codesOf_8 : decode cX6_codesOf 8 = .ok (.iconst 0, 1) := dk_3 (dk_at dksX6_codesOf_0 8 rfl rfl)
theorem dX6_codesOf_9 : decode cX6_codesOf 9 = .ok (.istore 6, 2) := dk_54 6 (dk_at dksX6_codesOf_0 9 rfl rfl)
theorem dX6_codesOf_11 : decode cX6_codesOf 11 = .ok (.iload 6, 2) := dk_21 6 (dk_at dksX6_codesOf_0 11 rfl rfl)
theorem dX6_codesOf_13 : decode cX6_codesOf 13 = .ok (.iload_n 2, 1) := dk_28 (dk_at dksX6_codesOf_0 13 rfl rfl)
theorem dX6_codesOf_14 : decode cX6_codesOf 14 = .ok (.if_icmp .ge 67, 3) := dk_162 0 67 (dk_at dksX6_codesOf_0 14 rfl rfl)
theorem dX6_codesOf_17 : decode cX6_codesOf 17 = .ok (.aload_n 0, 1) := dk_42 (dk_at dksX6_codesOf_0 17 rfl rfl)
theorem dX6_codesOf_18 : decode cX6_codesOf 18 = .ok (.getfield 7, 3) := dk_180 0 7 (dk_at dksX6_codesOf_0 18 rfl rfl)
theorem dX6_codesOf_21 : decode cX6_codesOf 21 = .ok (.iload_n 1, 1) := dk_27 (dk_at dksX6_codesOf_0 21 rfl rfl)
theorem dX6_codesOf_22 : decode cX6_codesOf 22 = .ok (.iload 6, 2) := dk_21 6 (dk_at dksX6_codesOf_0 22 rfl rfl)
theorem dX6_codesOf_24 : decode cX6_codesOf 24 = .ok (.iadd, 1) := dk_96 (dk_at dksX6_codesOf_1 0 rfl rfl)
theorem dX6_codesOf_25 : decode cX6_codesOf 25 = .ok (.iaload, 1) := dk_46 (dk_at dksX6_codesOf_1 1 rfl rfl)
theorem dX6_codesOf_26 : decode cX6_codesOf 26 = .ok (.istore 7, 2) := dk_54 7 (dk_at dksX6_codesOf_1 2 rfl rfl)
theorem dX6_codesOf_28 : decode cX6_codesOf 28 = .ok (.iload_n 3, 1) := dk_29 (dk_at dksX6_codesOf_1 4 rfl rfl)
theorem dX6_codesOf_29 : decode cX6_codesOf 29 = .ok (.iload 7, 2) := dk_21 7 (dk_at dksX6_codesOf_1 5 rfl rfl)
theorem dX6_codesOf_31 : decode cX6_codesOf 31 = .ok (.ifCond .le 12, 3) := dk_158 0 12 (dk_at dksX6_codesOf_1 7 rfl rfl)
theorem dX6_codesOf_34 : decode cX6_codesOf 34 = .ok (.sipush 128, 3) := dk_17 0 128 (dk_at dksX6_codesOf_1 10 rfl rfl)
theorem dX6_codesOf_37 : decode cX6_codesOf 37 = .ok (.iload 7, 2) := dk_21 7 (dk_at dksX6_codesOf_1 13 rfl rfl)
theorem dX6_codesOf_39 : decode cX6_codesOf 39 = .ok (.ishr, 1) := dk_122 (dk_at dksX6_codesOf_1 15 rfl rfl)
theorem dX6_codesOf_40 : decode cX6_codesOf 40 = .ok (.goto 4, 3) := dk_167 0 4 (dk_at dksX6_codesOf_1 16 rfl rfl)
theorem dX6_codesOf_43 : decode cX6_codesOf 43 = .ok (.iconst 0, 1) := dk_3 (dk_at dksX6_codesOf_1 19 rfl rfl)
theorem dX6_codesOf_44 : decode cX6_codesOf 44 = .ok (.iadd, 1) := dk_96 (dk_at dksX6_codesOf_1 20 rfl rfl)
theorem dX6_codesOf_45 : decode cX6_codesOf 45 = .ok (.istore_n 3, 1) := dk_62 (dk_at dksX6_codesOf_1 21 rfl rfl)
theorem dX6_codesOf_46 : decode cX6_codesOf 46 = .ok (.iload 4, 2) := dk_21 4 (dk_at dksX6_codesOf_1 22 rfl rfl)
theorem dX6_codesOf_48 : decode cX6_codesOf 48 = .ok (.iload 7, 2) := dk_21 7 (dk_at dksX6_codesOf_2 0 rfl rfl)
theorem dX6_codesOf_50 : decode cX6_codesOf 50 = .ok (.ifCond .le 7, 3) := dk_158 0 7 (dk_at dksX6_codesOf_2 2 rfl rfl)
theorem dX6_codesOf_53 : decode cX6_codesOf 53 = .ok (.iconst 1, 1) := dk_4 (dk_at dksX6_codesOf_2 5 rfl rfl)
theorem dX6_codesOf_54 : decode cX6_codesOf 54 = .ok (.goto 4, 3) := dk_167 0 4 (dk_at dksX6_codesOf_2 6 rfl rfl)
theorem dX6_codesOf_57 : decode cX6_codesOf 57 = .ok (.iconst 0, 1) := dk_3 (dk_at dksX6_codesOf_2 9 rfl rfl)
theorem dX6_codesOf_58 : decode cX6_codesOf 58 = .ok (.iadd, 1) := dk_96 (dk_at dksX6_codesOf_2 10 rfl rfl)
theorem dX6_codesOf_59 : decode cX6_codesOf 59 = .ok (.istore 4, 2) := dk_54 4 (dk_at dksX6_codesOf_2 11 rfl rfl)
theorem dX6_codesOf_61 : decode cX6_codesOf 61 = .ok (.iload 7, 2) := dk_21 7 (dk_at dksX6_codesOf_2 13 rfl rfl)
theorem dX6_codesOf_63 : decode cX6_codesOf 63 = .ok (.ifCond .le 8, 3) := dk_158 0 8 (dk_at dksX6_codesOf_2 15 rfl rfl)
theorem dX6_codesOf_66 : decode cX6_codesOf 66 = .ok (.iload 7, 2) := dk_21 7 (dk_at dksX6_codesOf_2 18 rfl rfl)
theorem dX6_codesOf_68 : decode cX6_codesOf 68 = .ok (.goto 5, 3) := dk_167 0 5 (dk_at dksX6_codesOf_2 20 rfl rfl)
theorem dX6_codesOf_71 : decode cX6_codesOf 71 = .ok (.iload 5, 2) := dk_21 5 (dk_at dksX6_codesOf_3 0 rfl rfl)
theorem dX6_codesOf_73 : decode cX6_codesOf 73 = .ok (.istore 5, 2) := dk_54 5 (dk_at dksX6_codesOf_3 2 rfl rfl)
theorem dX6_codesOf_75 : decode cX6_codesOf 75 = .ok (.iinc 6 1, 3) := dk_132 6 1 (dk_at dksX6_codesOf_3 4 rfl rfl)
theorem dX6_codesOf_78 : decode cX6_codesOf 78 = .ok (.goto (-67), 3) := dk_167 255 189 (dk_at dksX6_codesOf_3 7 rfl rfl)
theorem dX6_codesOf_81 : decode cX6_codesOf 81 = .ok (.iconst 0, 1) := dk_3 (dk_at dksX6_codesOf_3 10 rfl rfl)
theorem dX6_codesOf_82 : decode cX6_codesOf 82 = .ok (.istore 6, 2) := dk_54 6 (dk_at dksX6_codesOf_3 11 rfl rfl)
theorem dX6_codesOf_84 : decode cX6_codesOf 84 = .ok (.iconst 1, 1) := dk_4 (dk_at dksX6_codesOf_3 13 rfl rfl)
theorem dX6_codesOf_85 : decode cX6_codesOf 85 = .ok (.istore 7, 2) := dk_54 7 (dk_at dksX6_codesOf_3 14 rfl rfl)
theorem dX6_codesOf_87 : decode cX6_codesOf 87 = .ok (.iload 7, 2) := dk_21 7 (dk_at dksX6_codesOf_3 16 rfl rfl)
theorem dX6_codesOf_89 : decode cX6_codesOf 89 = .ok (.bipush 7, 2) := dk_16 7 (dk_at dksX6_codesOf_3 18 rfl rfl)
theorem dX6_codesOf_91 : decode cX6_codesOf 91 = .ok (.if_icmp .gt 56, 3) := dk_163 0 56 (dk_at dksX6_codesOf_3 20 rfl rfl)
theorem dX6_codesOf_94 : decode cX6_codesOf 94 = .ok (.iload 6, 2) := dk_21 6 (dk_at dksX6_codesOf_4 0 rfl rfl)
theorem dX6_codesOf_96 : decode cX6_codesOf 96 = .ok (.iconst 2, 1) := dk_5 (dk_at dksX6_codesOf_4 2 rfl rfl)
theorem dX6_codesOf_97 : decode cX6_codesOf 97 = .ok (.imul, 1) := dk_104 (dk_at dksX6_codesOf_4 3 rfl rfl)
theorem dX6_codesOf_98 : decode cX6_codesOf 98 = .ok (.istore 6, 2) := dk_54 6 (dk_at dksX6_codesOf_4 4 rfl rfl)
theorem dX6_codesOf_100 : decode cX6_codesOf 100 = .ok (.iconst 0, 1) := dk_3 (dk_at dksX6_codesOf_4 6 rfl rfl)
theorem dX6_codesOf_101 : decode cX6_codesOf 101 = .ok (.istore 8, 2) := dk_54 8 (dk_at dksX6_codesOf_4 7 rfl rfl)
theorem dX6_codesOf_103 : decode cX6_codesOf 103 = .ok (.iload 8, 2) := dk_21 8 (dk_at dksX6_codesOf_4 9 rfl rfl)
theorem dX6_codesOf_105 : decode cX6_codesOf 105 = .ok (.iload_n 2, 1) := dk_28 (dk_at dksX6_codesOf_4 11 rfl rfl)
theorem dX6_codesOf_106 : decode cX6_codesOf 106 = .ok (.if_icmp .ge 35, 3) := dk_162 0 35 (dk_at dksX6_codesOf_4 12 rfl rfl)
theorem dX6_codesOf_109 : decode cX6_codesOf 109 = .ok (.aload_n 0, 1) := dk_42 (dk_at dksX6_codesOf_4 15 rfl rfl)
theorem dX6_codesOf_110 : decode cX6_codesOf 110 = .ok (.getfield 7, 3) := dk_180 0 7 (dk_at dksX6_codesOf_4 16 rfl rfl)
theorem dX6_codesOf_113 : decode cX6_codesOf 113 = .ok (.iload_n 1, 1) := dk_27 (dk_at dksX6_codesOf_4 19 rfl rfl)
theorem dX6_codesOf_114 : decode cX6_codesOf 114 = .ok (.iload 8, 2) := dk_21 8 (dk_at dksX6_codesOf_4 20 rfl rfl)
theorem dX6_codesOf_116 : decode cX6_codesOf 116 = .ok (.iadd, 1) := dk_96 (dk_at dksX6_codesOf_4 22 rfl rfl)
theorem dX6_codesOf_117 : decode cX6_codesOf 117 = .ok (.iaload, 1) := dk_46 (dk_at dksX6_codesOf_4 23 rfl rfl)
theorem dX6_codesOf_118 : decode cX6_codesOf 118 = .ok (.iload 7, 2) := dk_21 7 (dk_at dksX6_codesOf_5 0 rfl rfl)
theorem dX6_codesOf_120 : decode cX6_codesOf 120 = .ok (.if_icmp .ne 15, 3) := dk_160 0 15 (dk_at dksX6_codesOf_5 2 rfl rfl)
theorem dX6_codesOf_123 : decode cX6_codesOf 123 = .ok (.aload_n 0, 1) := dk_42 (dk_at dksX6_codesOf_5 5 rfl rfl)
theorem dX6_codesOf_124 : decode cX6_codesOf 124 = .ok (.getfield 59, 3) := dk_180 0 59 (dk_at dksX6_codesOf_5 6 rfl rfl)
theorem dX6_codesOf_127 : decode cX6_codesOf 127 = .ok (.iload 8, 2) := dk_21 8 (dk_at dksX6_codesOf_5 9 rfl rfl)
theorem dX6_codesOf_129 : decode cX6_codesOf 129 = .ok (.iload 6, 2) := dk_21 6 (dk_at dksX6_codesOf_5 11 rfl rfl)
theorem dX6_codesOf_131 : decode cX6_codesOf 131 = .ok (.iastore, 1) := dk_79 (dk_at dksX6_codesOf_5 13 rfl rfl)
theorem dX6_codesOf_132 : decode cX6_codesOf 132 = .ok (.iinc 6 1, 3) := dk_132 6 1 (dk_at dksX6_codesOf_5 14 rfl rfl)
theorem dX6_codesOf_135 : decode cX6_codesOf 135 = .ok (.iinc 8 1, 3) := dk_132 8 1 (dk_at dksX6_codesOf_5 17 rfl rfl)
theorem dX6_codesOf_138 : decode cX6_codesOf 138 = .ok (.goto (-35), 3) := dk_167 255 221 (dk_at dksX6_codesOf_5 20 rfl rfl)
theorem dX6_codesOf_141 : decode cX6_codesOf 141 = .ok (.iinc 7 1, 3) := dk_132 7 1 (dk_at dksX6_codesOf_6 0 rfl rfl)
theorem dX6_codesOf_144 : decode cX6_codesOf 144 = .ok (.goto (-57), 3) := dk_167 255 199 (dk_at dksX6_codesOf_6 3 rfl rfl)
theorem dX6_codesOf_147 : decode cX6_codesOf 147 = .ok (.iload_n 3, 1) := dk_29 (dk_at dksX6_codesOf_6 6 rfl rfl)
theorem dX6_codesOf_148 : decode cX6_codesOf 148 = .ok (.sipush 128, 3) := dk_17 0 128 (dk_at dksX6_codesOf_6 7 rfl rfl)
theorem dX6_codesOf_151 : decode cX6_codesOf 151 = .ok (.if_icmp .eq 15, 3) := dk_159 0 15 (dk_at dksX6_codesOf_6 10 rfl rfl)
theorem dX6_codesOf_154 : decode cX6_codesOf 154 = .ok (.iload 4, 2) := dk_21 4 (dk_at dksX6_codesOf_6 13 rfl rfl)
theorem dX6_codesOf_156 : decode cX6_codesOf 156 = .ok (.iconst 1, 1) := dk_4 (dk_at dksX6_codesOf_6 15 rfl rfl)
theorem dX6_codesOf_157 : decode cX6_codesOf 157 = .ok (.if_icmp .ne 13, 3) := dk_160 0 13 (dk_at dksX6_codesOf_6 16 rfl rfl)
theorem dX6_codesOf_160 : decode cX6_codesOf 160 = .ok (.iload 5, 2) := dk_21 5 (dk_at dksX6_codesOf_6 19 rfl rfl)
theorem dX6_codesOf_162 : decode cX6_codesOf 162 = .ok (.iconst 1, 1) := dk_4 (dk_at dksX6_codesOf_6 21 rfl rfl)
theorem dX6_codesOf_163 : decode cX6_codesOf 163 = .ok (.if_icmp .ne 7, 3) := dk_160 0 7 (dk_at dksX6_codesOf_7 0 rfl rfl)
theorem dX6_codesOf_166 : decode cX6_codesOf 166 = .ok (.iconst 1, 1) := dk_4 (dk_at dksX6_codesOf_7 3 rfl rfl)
theorem dX6_codesOf_167 : decode cX6_codesOf 167 = .ok (.goto 4, 3) := dk_167 0 4 (dk_at dksX6_codesOf_7 4 rfl rfl)
theorem dX6_codesOf_170 : decode cX6_codesOf 170 = .ok (.iconst 0, 1) := dk_3 (dk_at dksX6_codesOf_7 7 rfl rfl)
theorem dX6_codesOf_171 : decode cX6_codesOf 171 = .ok (.ireturn, 1) := dk_172 (dk_at dksX6_codesOf_7 8 rfl rfl)
abbrev cX6_bits : ByteArray := prog_8_method_31_code
def yX6_bits : MethodName := ⟨RX6, "bits", "(IIIII)V"⟩
def dkwX6_bits_12 : List UInt8 := [167, 255, 206, 42, 27, 21, 7, 182, 0, 163, 177]
abbrev dktX6_bits_12 : List UInt8 := dkwX6_bits_12 ++ []
def dkwX6_bits_11 : List UInt8 := [122, 4, 126, 4, 160, 0, 15, 42, 16, 8, 21, 6, 16, 8, 108, 182, 0, 131, 177, 132, 6, 1]
abbrev dktX6_bits_11 : List UInt8 := dkwX6_bits_11 ++ dktX6_bits_12
def dkwX6_bits_10 : List UInt8 := [21, 7, 104, 162, 0, 46, 42, 180, 0, 7, 21, 6, 16, 8, 108, 46, 16, 7, 21, 6, 16, 8, 112, 100]
abbrev dktX6_bits_10 : List UInt8 := dkwX6_bits_10 ++ dktX6_bits_11
def dkwX6_bits_9 : List UInt8 := [177, 167, 255, 76, 132, 7, 1, 167, 255, 47, 21, 6, 16, 7, 96, 16, 8, 108, 54, 7, 21, 6, 16, 8]
abbrev dktX6_bits_9 : List UInt8 := dkwX6_bits_9 ++ dktX6_bits_10
def dkwX6_bits_8 : List UInt8 := [132, 13, 1, 167, 255, 157, 21, 11, 154, 0, 17, 21, 12, 154, 0, 12, 42, 16, 7, 21, 10, 182, 0, 131]
abbrev dktX6_bits_8 : List UInt8 := dkwX6_bits_8 ++ dktX6_bits_9
def dkwX6_bits_7 : List UInt8 := [180, 0, 59, 21, 13, 46, 21, 14, 21, 9, 100, 122, 21, 8, 160, 0, 7, 4, 167, 0, 4, 3, 54, 12]
abbrev dktX6_bits_7 : List UInt8 := dkwX6_bits_7 ++ dktX6_bits_8
def dkwX6_bits_6 : List UInt8 := [28, 21, 13, 96, 46, 182, 0, 160, 4, 54, 11, 21, 12, 154, 0, 28, 21, 14, 21, 9, 164, 0, 25, 42]
abbrev dktX6_bits_6 : List UInt8 := dkwX6_bits_6 ++ dktX6_bits_7
def dkwX6_bits_5 : List UInt8 := [21, 14, 21, 9, 160, 0, 31, 42, 180, 0, 59, 21, 13, 46, 21, 8, 160, 0, 19, 42, 42, 180, 0, 7]
abbrev dktX6_bits_5 : List UInt8 := dkwX6_bits_5 ++ dktX6_bits_6
def dkwX6_bits_4 : List UInt8 := [21, 13, 29, 162, 0, 99, 21, 11, 154, 0, 94, 42, 180, 0, 7, 28, 29, 96, 21, 13, 96, 46, 54, 14]
abbrev dktX6_bits_4 : List UInt8 := dkwX6_bits_4 ++ dktX6_bits_5
def dkwX6_bits_3 : List UInt8 := [21, 6, 16, 8, 112, 100, 122, 4, 126, 96, 54, 8, 132, 9, 1, 132, 6, 1, 3, 54, 12, 3, 54, 13]
abbrev dktX6_bits_3 : List UInt8 := dkwX6_bits_3 ++ dktX6_bits_4
def dkwX6_bits_2 : List UInt8 := [182, 0, 149, 154, 0, 4, 177, 5, 21, 8, 104, 42, 180, 0, 7, 21, 6, 16, 8, 108, 46, 16, 7]
abbrev dktX6_bits_2 : List UInt8 := dkwX6_bits_2 ++ dktX6_bits_3
def dkwX6_bits_1 : List UInt8 := [21, 6, 16, 8, 108, 54, 10, 3, 54, 11, 21, 11, 154, 0, 181, 42, 21, 6, 16, 8, 108, 4]
abbrev dktX6_bits_1 : List UInt8 := dkwX6_bits_1 ++ dktX6_bits_2
def dkwX6_bits_0 : List UInt8 := [16, 8, 21, 4, 104, 54, 6, 3, 54, 7, 21, 7, 21, 5, 162, 0, 208, 3, 54, 8, 3, 54, 9]
abbrev dktX6_bits_0 : List UInt8 := dkwX6_bits_0 ++ dktX6_bits_1
theorem dksX6_bits_0 : cX6_bits.data.toList.drop 0 = dktX6_bits_0 := by decide +kernel
theorem dksX6_bits_1 : cX6_bits.data.toList.drop 23 = dktX6_bits_1 := dk_seg dksX6_bits_0 23 rfl rfl
theorem dksX6_bits_2 : cX6_bits.data.toList.drop 45 = dktX6_bits_2 := dk_seg dksX6_bits_1 22 rfl rfl
theorem dksX6_bits_3 : cX6_bits.data.toList.drop 68 = dktX6_bits_3 := dk_seg dksX6_bits_2 23 rfl rfl
theorem dksX6_bits_4 : cX6_bits.data.toList.drop 92 = dktX6_bits_4 := dk_seg dksX6_bits_3 24 rfl rfl
theorem dksX6_bits_5 : cX6_bits.data.toList.drop 116 = dktX6_bits_5 := dk_seg dksX6_bits_4 24 rfl rfl
theorem dksX6_bits_6 : cX6_bits.data.toList.drop 140 = dktX6_bits_6 := dk_seg dksX6_bits_5 24 rfl rfl
theorem dksX6_bits_7 : cX6_bits.data.toList.drop 164 = dktX6_bits_7 := dk_seg dksX6_bits_6 24 rfl rfl
theorem dksX6_bits_8 : cX6_bits.data.toList.drop 188 = dktX6_bits_8 := dk_seg dksX6_bits_7 24 rfl rfl
theorem dksX6_bits_9 : cX6_bits.data.toList.drop 212 = dktX6_bits_9 := dk_seg dksX6_bits_8 24 rfl rfl
theorem dksX6_bits_10 : cX6_bits.data.toList.drop 236 = dktX6_bits_10 := dk_seg dksX6_bits_9 24 rfl rfl
theorem dksX6_bits_11 : cX6_bits.data.toList.drop 260 = dktX6_bits_11 := dk_seg dksX6_bits_10 24 rfl rfl
theorem dksX6_bits_12 : cX6_bits.data.toList.drop 282 = dktX6_bits_12 := dk_seg dksX6_bits_11 22 rfl rfl
theorem dX6_bits_0 : decode cX6_bits 0 = .ok (.bipush 8, 2) := dk_16 8 (dk_at dksX6_bits_0 0 rfl rfl)
theorem dX6_bits_2 : decode cX6_bits 2 = .ok (.iload 4, 2) := dk_21 4 (dk_at dksX6_bits_0 2 rfl rfl)
theorem dX6_bits_4 : decode cX6_bits 4 = .ok (.imul, 1) := dk_104 (dk_at dksX6_bits_0 4 rfl rfl)
theorem dX6_bits_5 : decode cX6_bits 5 = .ok (.istore 6, 2) := dk_54 6 (dk_at dksX6_bits_0 5 rfl rfl)
theorem dX6_bits_7 : decode cX6_bits 7 = .ok (.iconst 0, 1) := dk_3 (dk_at dksX6_bits_0 7 rfl rfl)
theorem dX6_bits_8 : decode cX6_bits 8 = .ok (.istore 7, 2) := dk_54 7 (dk_at dksX6_bits_0 8 rfl rfl)
theorem dX6_bits_10 : decode cX6_bits 10 = .ok (.iload 7, 2) := dk_21 7 (dk_at dksX6_bits_0 10 rfl rfl)
theorem dX6_bits_12 : decode cX6_bits 12 = .ok (.iload 5, 2) := dk_21 5 (dk_at dksX6_bits_0 12 rfl rfl)
theorem dX6_bits_14 : decode cX6_bits 14 = .ok (.if_icmp .ge 208, 3) := dk_162 0 208 (dk_at dksX6_bits_0 14 rfl rfl)
theorem dX6_bits_17 : decode cX6_bits 17 = .ok (.iconst 0, 1) := dk_3 (dk_at dksX6_bits_0 17 rfl rfl)
theorem dX6_bits_18 : decode cX6_bits 18 = .ok (.istore 8, 2) := dk_54 8 (dk_at dksX6_bits_0 18 rfl rfl)
theorem dX6_bits_20 : decode cX6_bits 20 = .ok (.iconst 0, 1) := dk_3 (dk_at dksX6_bits_0 20 rfl rfl)
theorem dX6_bits_21 : decode cX6_bits 21 = .ok (.istore 9, 2) := dk_54 9 (dk_at dksX6_bits_0 21 rfl rfl)
theorem dX6_bits_23 : decode cX6_bits 23 = .ok (.iload 6, 2) := dk_21 6 (dk_at dksX6_bits_1 0 rfl rfl)
theorem dX6_bits_25 : decode cX6_bits 25 = .ok (.bipush 8, 2) := dk_16 8 (dk_at dksX6_bits_1 2 rfl rfl)
theorem dX6_bits_27 : decode cX6_bits 27 = .ok (.idiv, 1) := dk_108 (dk_at dksX6_bits_1 4 rfl rfl)
theorem dX6_bits_28 : decode cX6_bits 28 = .ok (.istore 10, 2) := dk_54 10 (dk_at dksX6_bits_1 5 rfl rfl)
theorem dX6_bits_30 : decode cX6_bits 30 = .ok (.iconst 0, 1) := dk_3 (dk_at dksX6_bits_1 7 rfl rfl)
theorem dX6_bits_31 : decode cX6_bits 31 = .ok (.istore 11, 2) := dk_54 11 (dk_at dksX6_bits_1 8 rfl rfl)
theorem dX6_bits_33 : decode cX6_bits 33 = .ok (.iload 11, 2) := dk_21 11 (dk_at dksX6_bits_1 10 rfl rfl)
theorem dX6_bits_35 : decode cX6_bits 35 = .ok (.ifCond .ne 181, 3) := dk_154 0 181 (dk_at dksX6_bits_1 12 rfl rfl)
theorem dX6_bits_38 : decode cX6_bits 38 = .ok (.aload_n 0, 1) := dk_42 (dk_at dksX6_bits_1 15 rfl rfl)
theorem dX6_bits_39 : decode cX6_bits 39 = .ok (.iload 6, 2) := dk_21 6 (dk_at dksX6_bits_1 16 rfl rfl)
theorem dX6_bits_41 : decode cX6_bits 41 = .ok (.bipush 8, 2) := dk_16 8 (dk_at dksX6_bits_1 18 rfl rfl)
theorem dX6_bits_43 : decode cX6_bits 43 = .ok (.idiv, 1) := dk_108 (dk_at dksX6_bits_1 20 rfl rfl)
theorem dX6_bits_44 : decode cX6_bits 44 = .ok (.iconst 1, 1) := dk_4 (dk_at dksX6_bits_1 21 rfl rfl)
theorem dX6_bits_45 : decode cX6_bits 45 = .ok (.invokevirtual 149, 3) := dk_182 0 149 (dk_at dksX6_bits_2 0 rfl rfl)
theorem dX6_bits_48 : decode cX6_bits 48 = .ok (.ifCond .ne 4, 3) := dk_154 0 4 (dk_at dksX6_bits_2 3 rfl rfl)
theorem dX6_bits_51 : decode cX6_bits 51 = .ok (.return_, 1) := dk_177 (dk_at dksX6_bits_2 6 rfl rfl)
theorem dX6_bits_52 : decode cX6_bits 52 = .ok (.iconst 2, 1) := dk_5 (dk_at dksX6_bits_2 7 rfl rfl)
theorem dX6_bits_53 : decode cX6_bits 53 = .ok (.iload 8, 2) := dk_21 8 (dk_at dksX6_bits_2 8 rfl rfl)
theorem dX6_bits_55 : decode cX6_bits 55 = .ok (.imul, 1) := dk_104 (dk_at dksX6_bits_2 10 rfl rfl)
theorem dX6_bits_56 : decode cX6_bits 56 = .ok (.aload_n 0, 1) := dk_42 (dk_at dksX6_bits_2 11 rfl rfl)
theorem dX6_bits_57 : decode cX6_bits 57 = .ok (.getfield 7, 3) := dk_180 0 7 (dk_at dksX6_bits_2 12 rfl rfl)
theorem dX6_bits_60 : decode cX6_bits 60 = .ok (.iload 6, 2) := dk_21 6 (dk_at dksX6_bits_2 15 rfl rfl)
theorem dX6_bits_62 : decode cX6_bits 62 = .ok (.bipush 8, 2) := dk_16 8 (dk_at dksX6_bits_2 17 rfl rfl)
theorem dX6_bits_64 : decode cX6_bits 64 = .ok (.idiv, 1) := dk_108 (dk_at dksX6_bits_2 19 rfl rfl)
theorem dX6_bits_65 : decode cX6_bits 65 = .ok (.iaload, 1) := dk_46 (dk_at dksX6_bits_2 20 rfl rfl)
theorem dX6_bits_66 : decode cX6_bits 66 = .ok (.bipush 7, 2) := dk_16 7 (dk_at dksX6_bits_2 21 rfl rfl)
theorem dX6_bits_68 : decode cX6_bits 68 = .ok (.iload 6, 2) := dk_21 6 (dk_at dksX6_bits_3 0 rfl rfl)
theorem dX6_bits_70 : decode cX6_bits 70 = .ok (.bipush 8, 2) := dk_16 8 (dk_at dksX6_bits_3 2 rfl rfl)
theorem dX6_bits_72 : decode cX6_bits 72 = .ok (.irem, 1) := dk_112 (dk_at dksX6_bits_3 4 rfl rfl)
theorem dX6_bits_73 : decode cX6_bits 73 = .ok (.isub, 1) := dk_100 (dk_at dksX6_bits_3 5 rfl rfl)
theorem dX6_bits_74 : decode cX6_bits 74 = .ok (.ishr, 1) := dk_122 (dk_at dksX6_bits_3 6 rfl rfl)
theorem dX6_bits_75 : decode cX6_bits 75 = .ok (.iconst 1, 1) := dk_4 (dk_at dksX6_bits_3 7 rfl rfl)
theorem dX6_bits_76 : decode cX6_bits 76 = .ok (.iand, 1) := dk_126 (dk_at dksX6_bits_3 8 rfl rfl)
theorem dX6_bits_77 : decode cX6_bits 77 = .ok (.iadd, 1) := dk_96 (dk_at dksX6_bits_3 9 rfl rfl)
theorem dX6_bits_78 : decode cX6_bits 78 = .ok (.istore 8, 2) := dk_54 8 (dk_at dksX6_bits_3 10 rfl rfl)
theorem dX6_bits_80 : decode cX6_bits 80 = .ok (.iinc 9 1, 3) := dk_132 9 1 (dk_at dksX6_bits_3 12 rfl rfl)
theorem dX6_bits_83 : decode cX6_bits 83 = .ok (.iinc 6 1, 3) := dk_132 6 1 (dk_at dksX6_bits_3 15 rfl rfl)
theorem dX6_bits_86 : decode cX6_bits 86 = .ok (.iconst 0, 1) := dk_3 (dk_at dksX6_bits_3 18 rfl rfl)
theorem dX6_bits_87 : decode cX6_bits 87 = .ok (.istore 12, 2) := dk_54 12 (dk_at dksX6_bits_3 19 rfl rfl)
theorem dX6_bits_89 : decode cX6_bits 89 = .ok (.iconst 0, 1) := dk_3 (dk_at dksX6_bits_3 21 rfl rfl)
theorem dX6_bits_90 : decode cX6_bits 90 = .ok (.istore 13, 2) := dk_54 13 (dk_at dksX6_bits_3 22 rfl rfl)
theorem dX6_bits_92 : decode cX6_bits 92 = .ok (.iload 13, 2) := dk_21 13 (dk_at dksX6_bits_4 0 rfl rfl)
theorem dX6_bits_94 : decode cX6_bits 94 = .ok (.iload_n 3, 1) := dk_29 (dk_at dksX6_bits_4 2 rfl rfl)
theorem dX6_bits_95 : decode cX6_bits 95 = .ok (.if_icmp .ge 99, 3) := dk_162 0 99 (dk_at dksX6_bits_4 3 rfl rfl)
theorem dX6_bits_98 : decode cX6_bits 98 = .ok (.iload 11, 2) := dk_21 11 (dk_at dksX6_bits_4 6 rfl rfl)
theorem dX6_bits_100 : decode cX6_bits 100 = .ok (.ifCond .ne 94, 3) := dk_154 0 94 (dk_at dksX6_bits_4 8 rfl rfl)
theorem dX6_bits_103 : decode cX6_bits 103 = .ok (.aload_n 0, 1) := dk_42 (dk_at dksX6_bits_4 11 rfl rfl)
theorem dX6_bits_104 : decode cX6_bits 104 = .ok (.getfield 7, 3) := dk_180 0 7 (dk_at dksX6_bits_4 12 rfl rfl)
theorem dX6_bits_107 : decode cX6_bits 107 = .ok (.iload_n 2, 1) := dk_28 (dk_at dksX6_bits_4 15 rfl rfl)
theorem dX6_bits_108 : decode cX6_bits 108 = .ok (.iload_n 3, 1) := dk_29 (dk_at dksX6_bits_4 16 rfl rfl)
theorem dX6_bits_109 : decode cX6_bits 109 = .ok (.iadd, 1) := dk_96 (dk_at dksX6_bits_4 17 rfl rfl)
theorem dX6_bits_110 : decode cX6_bits 110 = .ok (.iload 13, 2) := dk_21 13 (dk_at dksX6_bits_4 18 rfl rfl)
theorem dX6_bits_112 : decode cX6_bits 112 = .ok (.iadd, 1) := dk_96 (dk_at dksX6_bits_4 20 rfl rfl)
theorem dX6_bits_113 : decode cX6_bits 113 = .ok (.iaload, 1) := dk_46 (dk_at dksX6_bits_4 21 rfl rfl)
theorem dX6_bits_114 : decode cX6_bits 114 = .ok (.istore 14, 2) := dk_54 14 (dk_at dksX6_bits_4 22 rfl rfl)
theorem dX6_bits_116 : decode cX6_bits 116 = .ok (.iload 14, 2) := dk_21 14 (dk_at dksX6_bits_5 0 rfl rfl)
theorem dX6_bits_118 : decode cX6_bits 118 = .ok (.iload 9, 2) := dk_21 9 (dk_at dksX6_bits_5 2 rfl rfl)
theorem dX6_bits_120 : decode cX6_bits 120 = .ok (.if_icmp .ne 31, 3) := dk_160 0 31 (dk_at dksX6_bits_5 4 rfl rfl)
theorem dX6_bits_123 : decode cX6_bits 123 = .ok (.aload_n 0, 1) := dk_42 (dk_at dksX6_bits_5 7 rfl rfl)
theorem dX6_bits_124 : decode cX6_bits 124 = .ok (.getfield 59, 3) := dk_180 0 59 (dk_at dksX6_bits_5 8 rfl rfl)
theorem dX6_bits_127 : decode cX6_bits 127 = .ok (.iload 13, 2) := dk_21 13 (dk_at dksX6_bits_5 11 rfl rfl)
theorem dX6_bits_129 : decode cX6_bits 129 = .ok (.iaload, 1) := dk_46 (dk_at dksX6_bits_5 13 rfl rfl)
theorem dX6_bits_130 : decode cX6_bits 130 = .ok (.iload 8, 2) := dk_21 8 (dk_at dksX6_bits_5 14 rfl rfl)
theorem dX6_bits_132 : decode cX6_bits 132 = .ok (.if_icmp .ne 19, 3) := dk_160 0 19 (dk_at dksX6_bits_5 16 rfl rfl)
theorem dX6_bits_135 : decode cX6_bits 135 = .ok (.aload_n 0, 1) := dk_42 (dk_at dksX6_bits_5 19 rfl rfl)
theorem dX6_bits_136 : decode cX6_bits 136 = .ok (.aload_n 0, 1) := dk_42 (dk_at dksX6_bits_5 20 rfl rfl)
theorem dX6_bits_137 : decode cX6_bits 137 = .ok (.getfield 7, 3) := dk_180 0 7 (dk_at dksX6_bits_5 21 rfl rfl)
theorem dX6_bits_140 : decode cX6_bits 140 = .ok (.iload_n 2, 1) := dk_28 (dk_at dksX6_bits_6 0 rfl rfl)
theorem dX6_bits_141 : decode cX6_bits 141 = .ok (.iload 13, 2) := dk_21 13 (dk_at dksX6_bits_6 1 rfl rfl)
theorem dX6_bits_143 : decode cX6_bits 143 = .ok (.iadd, 1) := dk_96 (dk_at dksX6_bits_6 3 rfl rfl)
theorem dX6_bits_144 : decode cX6_bits 144 = .ok (.iaload, 1) := dk_46 (dk_at dksX6_bits_6 4 rfl rfl)
theorem dX6_bits_145 : decode cX6_bits 145 = .ok (.invokevirtual 160, 3) := dk_182 0 160 (dk_at dksX6_bits_6 5 rfl rfl)
theorem dX6_bits_148 : decode cX6_bits 148 = .ok (.iconst 1, 1) := dk_4 (dk_at dksX6_bits_6 8 rfl rfl)
theorem dX6_bits_149 : decode cX6_bits 149 = .ok (.istore 11, 2) := dk_54 11 (dk_at dksX6_bits_6 9 rfl rfl)
theorem dX6_bits_151 : decode cX6_bits 151 = .ok (.iload 12, 2) := dk_21 12 (dk_at dksX6_bits_6 11 rfl rfl)
theorem dX6_bits_153 : decode cX6_bits 153 = .ok (.ifCond .ne 28, 3) := dk_154 0 28 (dk_at dksX6_bits_6 13 rfl rfl)
theorem dX6_bits_156 : decode cX6_bits 156 = .ok (.iload 14, 2) := dk_21 14 (dk_at dksX6_bits_6 16 rfl rfl)
theorem dX6_bits_158 : decode cX6_bits 158 = .ok (.iload 9, 2) := dk_21 9 (dk_at dksX6_bits_6 18 rfl rfl)
theorem dX6_bits_160 : decode cX6_bits 160 = .ok (.if_icmp .le 25, 3) := dk_164 0 25 (dk_at dksX6_bits_6 20 rfl rfl)
theorem dX6_bits_163 : decode cX6_bits 163 = .ok (.aload_n 0, 1) := dk_42 (dk_at dksX6_bits_6 23 rfl rfl)
theorem dX6_bits_164 : decode cX6_bits 164 = .ok (.getfield 59, 3) := dk_180 0 59 (dk_at dksX6_bits_7 0 rfl rfl)
theorem dX6_bits_167 : decode cX6_bits 167 = .ok (.iload 13, 2) := dk_21 13 (dk_at dksX6_bits_7 3 rfl rfl)
theorem dX6_bits_169 : decode cX6_bits 169 = .ok (.iaload, 1) := dk_46 (dk_at dksX6_bits_7 5 rfl rfl)
theorem dX6_bits_170 : decode cX6_bits 170 = .ok (.iload 14, 2) := dk_21 14 (dk_at dksX6_bits_7 6 rfl rfl)
theorem dX6_bits_172 : decode cX6_bits 172 = .ok (.iload 9, 2) := dk_21 9 (dk_at dksX6_bits_7 8 rfl rfl)
theorem dX6_bits_174 : decode cX6_bits 174 = .ok (.isub, 1) := dk_100 (dk_at dksX6_bits_7 10 rfl rfl)
theorem dX6_bits_175 : decode cX6_bits 175 = .ok (.ishr, 1) := dk_122 (dk_at dksX6_bits_7 11 rfl rfl)
theorem dX6_bits_176 : decode cX6_bits 176 = .ok (.iload 8, 2) := dk_21 8 (dk_at dksX6_bits_7 12 rfl rfl)
theorem dX6_bits_178 : decode cX6_bits 178 = .ok (.if_icmp .ne 7, 3) := dk_160 0 7 (dk_at dksX6_bits_7 14 rfl rfl)
theorem dX6_bits_181 : decode cX6_bits 181 = .ok (.iconst 1, 1) := dk_4 (dk_at dksX6_bits_7 17 rfl rfl)
theorem dX6_bits_182 : decode cX6_bits 182 = .ok (.goto 4, 3) := dk_167 0 4 (dk_at dksX6_bits_7 18 rfl rfl)
theorem dX6_bits_185 : decode cX6_bits 185 = .ok (.iconst 0, 1) := dk_3 (dk_at dksX6_bits_7 21 rfl rfl)
theorem dX6_bits_186 : decode cX6_bits 186 = .ok (.istore 12, 2) := dk_54 12 (dk_at dksX6_bits_7 22 rfl rfl)
theorem dX6_bits_188 : decode cX6_bits 188 = .ok (.iinc 13 1, 3) := dk_132 13 1 (dk_at dksX6_bits_8 0 rfl rfl)
theorem dX6_bits_191 : decode cX6_bits 191 = .ok (.goto (-99), 3) := dk_167 255 157 (dk_at dksX6_bits_8 3 rfl rfl)
theorem dX6_bits_194 : decode cX6_bits 194 = .ok (.iload 11, 2) := dk_21 11 (dk_at dksX6_bits_8 6 rfl rfl)
theorem dX6_bits_196 : decode cX6_bits 196 = .ok (.ifCond .ne 17, 3) := dk_154 0 17 (dk_at dksX6_bits_8 8 rfl rfl)
theorem dX6_bits_199 : decode cX6_bits 199 = .ok (.iload 12, 2) := dk_21 12 (dk_at dksX6_bits_8 11 rfl rfl)
theorem dX6_bits_201 : decode cX6_bits 201 = .ok (.ifCond .ne 12, 3) := dk_154 0 12 (dk_at dksX6_bits_8 13 rfl rfl)
theorem dX6_bits_204 : decode cX6_bits 204 = .ok (.aload_n 0, 1) := dk_42 (dk_at dksX6_bits_8 16 rfl rfl)
theorem dX6_bits_205 : decode cX6_bits 205 = .ok (.bipush 7, 2) := dk_16 7 (dk_at dksX6_bits_8 17 rfl rfl)
theorem dX6_bits_207 : decode cX6_bits 207 = .ok (.iload 10, 2) := dk_21 10 (dk_at dksX6_bits_8 19 rfl rfl)
theorem dX6_bits_209 : decode cX6_bits 209 = .ok (.invokevirtual 131, 3) := dk_182 0 131 (dk_at dksX6_bits_8 21 rfl rfl)
theorem dX6_bits_212 : decode cX6_bits 212 = .ok (.return_, 1) := dk_177 (dk_at dksX6_bits_9 0 rfl rfl)
theorem dX6_bits_213 : decode cX6_bits 213 = .ok (.goto (-180), 3) := dk_167 255 76 (dk_at dksX6_bits_9 1 rfl rfl)
theorem dX6_bits_216 : decode cX6_bits 216 = .ok (.iinc 7 1, 3) := dk_132 7 1 (dk_at dksX6_bits_9 4 rfl rfl)
theorem dX6_bits_219 : decode cX6_bits 219 = .ok (.goto (-209), 3) := dk_167 255 47 (dk_at dksX6_bits_9 7 rfl rfl)
theorem dX6_bits_222 : decode cX6_bits 222 = .ok (.iload 6, 2) := dk_21 6 (dk_at dksX6_bits_9 10 rfl rfl)
theorem dX6_bits_224 : decode cX6_bits 224 = .ok (.bipush 7, 2) := dk_16 7 (dk_at dksX6_bits_9 12 rfl rfl)
theorem dX6_bits_226 : decode cX6_bits 226 = .ok (.iadd, 1) := dk_96 (dk_at dksX6_bits_9 14 rfl rfl)
theorem dX6_bits_227 : decode cX6_bits 227 = .ok (.bipush 8, 2) := dk_16 8 (dk_at dksX6_bits_9 15 rfl rfl)
theorem dX6_bits_229 : decode cX6_bits 229 = .ok (.idiv, 1) := dk_108 (dk_at dksX6_bits_9 17 rfl rfl)
theorem dX6_bits_230 : decode cX6_bits 230 = .ok (.istore 7, 2) := dk_54 7 (dk_at dksX6_bits_9 18 rfl rfl)
theorem dX6_bits_232 : decode cX6_bits 232 = .ok (.iload 6, 2) := dk_21 6 (dk_at dksX6_bits_9 20 rfl rfl)
theorem dX6_bits_234 : decode cX6_bits 234 = .ok (.bipush 8, 2) := dk_16 8 (dk_at dksX6_bits_9 22 rfl rfl)
theorem dX6_bits_236 : decode cX6_bits 236 = .ok (.iload 7, 2) := dk_21 7 (dk_at dksX6_bits_10 0 rfl rfl)
theorem dX6_bits_238 : decode cX6_bits 238 = .ok (.imul, 1) := dk_104 (dk_at dksX6_bits_10 2 rfl rfl)
theorem dX6_bits_239 : decode cX6_bits 239 = .ok (.if_icmp .ge 46, 3) := dk_162 0 46 (dk_at dksX6_bits_10 3 rfl rfl)
theorem dX6_bits_242 : decode cX6_bits 242 = .ok (.aload_n 0, 1) := dk_42 (dk_at dksX6_bits_10 6 rfl rfl)
theorem dX6_bits_243 : decode cX6_bits 243 = .ok (.getfield 7, 3) := dk_180 0 7 (dk_at dksX6_bits_10 7 rfl rfl)
theorem dX6_bits_246 : decode cX6_bits 246 = .ok (.iload 6, 2) := dk_21 6 (dk_at dksX6_bits_10 10 rfl rfl)
theorem dX6_bits_248 : decode cX6_bits 248 = .ok (.bipush 8, 2) := dk_16 8 (dk_at dksX6_bits_10 12 rfl rfl)
theorem dX6_bits_250 : decode cX6_bits 250 = .ok (.idiv, 1) := dk_108 (dk_at dksX6_bits_10 14 rfl rfl)
theorem dX6_bits_251 : decode cX6_bits 251 = .ok (.iaload, 1) := dk_46 (dk_at dksX6_bits_10 15 rfl rfl)
theorem dX6_bits_252 : decode cX6_bits 252 = .ok (.bipush 7, 2) := dk_16 7 (dk_at dksX6_bits_10 16 rfl rfl)
theorem dX6_bits_254 : decode cX6_bits 254 = .ok (.iload 6, 2) := dk_21 6 (dk_at dksX6_bits_10 18 rfl rfl)
theorem dX6_bits_256 : decode cX6_bits 256 = .ok (.bipush 8, 2) := dk_16 8 (dk_at dksX6_bits_10 20 rfl rfl)
theorem dX6_bits_258 : decode cX6_bits 258 = .ok (.irem, 1) := dk_112 (dk_at dksX6_bits_10 22 rfl rfl)
theorem dX6_bits_259 : decode cX6_bits 259 = .ok (.isub, 1) := dk_100 (dk_at dksX6_bits_10 23 rfl rfl)
theorem dX6_bits_260 : decode cX6_bits 260 = .ok (.ishr, 1) := dk_122 (dk_at dksX6_bits_11 0 rfl rfl)
theorem dX6_bits_261 : decode cX6_bits 261 = .ok (.iconst 1, 1) := dk_4 (dk_at dksX6_bits_11 1 rfl rfl)
theorem dX6_bits_262 : decode cX6_bits 262 = .ok (.iand, 1) := dk_126 (dk_at dksX6_bits_11 2 rfl rfl)
theorem dX6_bits_263 : decode cX6_bits 263 = .ok (.iconst 1, 1) := dk_4 (dk_at dksX6_bits_11 3 rfl rfl)
theorem dX6_bits_264 : decode cX6_bits 264 = .ok (.if_icmp .ne 15, 3) := dk_160 0 15 (dk_at dksX6_bits_11 4 rfl rfl)
theorem dX6_bits_267 : decode cX6_bits 267 = .ok (.aload_n 0, 1) := dk_42 (dk_at dksX6_bits_11 7 rfl rfl)
theorem dX6_bits_268 : decode cX6_bits 268 = .ok (.bipush 8, 2) := dk_16 8 (dk_at dksX6_bits_11 8 rfl rfl)
theorem dX6_bits_270 : decode cX6_bits 270 = .ok (.iload 6, 2) := dk_21 6 (dk_at dksX6_bits_11 10 rfl rfl)
theorem dX6_bits_272 : decode cX6_bits 272 = .ok (.bipush 8, 2) := dk_16 8 (dk_at dksX6_bits_11 12 rfl rfl)
theorem dX6_bits_274 : decode cX6_bits 274 = .ok (.idiv, 1) := dk_108 (dk_at dksX6_bits_11 14 rfl rfl)
theorem dX6_bits_275 : decode cX6_bits 275 = .ok (.invokevirtual 131, 3) := dk_182 0 131 (dk_at dksX6_bits_11 15 rfl rfl)
theorem dX6_bits_278 : decode cX6_bits 278 = .ok (.return_, 1) := dk_177 (dk_at dksX6_bits_11 18 rfl rfl)
theorem dX6_bits_279 : decode cX6_bits 279 = .ok (.iinc 6 1, 3) := dk_132 6 1 (dk_at dksX6_bits_11 19 rfl rfl)
theorem dX6_bits_282 : decode cX6_bits 282 = .ok (.goto (-50), 3) := dk_167 255 206 (dk_at dksX6_bits_12 0 rfl rfl)
theorem dX6_bits_285 : decode cX6_bits 285 = .ok (.aload_n 0, 1) := dk_42 (dk_at dksX6_bits_12 3 rfl rfl)
theorem dX6_bits_286 : decode cX6_bits 286 = .ok (.iload_n 1, 1) := dk_27 (dk_at dksX6_bits_12 4 rfl rfl)
theorem dX6_bits_287 : decode cX6_bits 287 = .ok (.iload 7, 2) := dk_21 7 (dk_at dksX6_bits_12 5 rfl rfl)
theorem dX6_bits_289 : decode cX6_bits 289 = .ok (.invokevirtual 163, 3) := dk_182 0 163 (dk_at dksX6_bits_12 7 rfl rfl)
theorem dX6_bits_292 : decode cX6_bits 292 = .ok (.return_, 1) := dk_177 (dk_at dksX6_bits_12 10 rfl rfl)
abbrev cX6_place : ByteArray := prog_8_method_35_code
def yX6_place : MethodName := ⟨RX6, "place", "()I"⟩
theorem dX6_place_0 : decode cX6_place 0 = .ok (.aload_n 0, 1) := by decide +kernel
theorem dX6_place_1 : decode cX6_place 1 = .ok (.getfield 16, 3) := by decide +kernel
theorem dX6_place_4 : decode cX6_place 4 = .ok (.ireturn, 1) := by decide +kernel
abbrev cX6_out : ByteArray := prog_8_method_36_code
def yX6_out : MethodName := ⟨RX6, "out", "(I)I"⟩
def dkwX6_out_1 : List UInt8 := [167, 0, 4, 2, 172]
abbrev dktX6_out_1 : List UInt8 := dkwX6_out_1 ++ []
def dkwX6_out_0 : List UInt8 := [27, 133, 9, 42, 180, 0, 140, 4, 100, 133, 184, 0, 74, 153, 0, 12, 42, 180, 0, 13, 27, 46]
abbrev dktX6_out_0 : List UInt8 := dkwX6_out_0 ++ dktX6_out_1
theorem dksX6_out_0 : cX6_out.data.toList.drop 0 = dktX6_out_0 := by decide +kernel
theorem dksX6_out_1 : cX6_out.data.toList.drop 22 = dktX6_out_1 := dk_seg dksX6_out_0 22 rfl rfl
theorem dX6_out_0 : decode cX6_out 0 = .ok (.iload_n 1, 1) := dk_27 (dk_at dksX6_out_0 0 rfl rfl)
theorem dX6_out_1 : decode cX6_out 1 = .ok (.i2l, 1) := dk_133 (dk_at dksX6_out_0 1 rfl rfl)
theorem dX6_out_2 : decode cX6_out 2 = .ok (.lconst 0, 1) := dk_9 (dk_at dksX6_out_0 2 rfl rfl)
theorem dX6_out_3 : decode cX6_out 3 = .ok (.aload_n 0, 1) := dk_42 (dk_at dksX6_out_0 3 rfl rfl)
theorem dX6_out_4 : decode cX6_out 4 = .ok (.getfield 140, 3) := dk_180 0 140 (dk_at dksX6_out_0 4 rfl rfl)
theorem dX6_out_7 : decode cX6_out 7 = .ok (.iconst 1, 1) := dk_4 (dk_at dksX6_out_0 7 rfl rfl)
theorem dX6_out_8 : decode cX6_out 8 = .ok (.isub, 1) := dk_100 (dk_at dksX6_out_0 8 rfl rfl)
theorem dX6_out_9 : decode cX6_out 9 = .ok (.i2l, 1) := dk_133 (dk_at dksX6_out_0 9 rfl rfl)
theorem dX6_out_10 : decode cX6_out 10 = .ok (.invokestatic 74, 3) := dk_184 0 74 (dk_at dksX6_out_0 10 rfl rfl)
theorem dX6_out_13 : decode cX6_out 13 = .ok (.ifCond .eq 12, 3) := dk_153 0 12 (dk_at dksX6_out_0 13 rfl rfl)
theorem dX6_out_16 : decode cX6_out 16 = .ok (.aload_n 0, 1) := dk_42 (dk_at dksX6_out_0 16 rfl rfl)
theorem dX6_out_17 : decode cX6_out 17 = .ok (.getfield 13, 3) := dk_180 0 13 (dk_at dksX6_out_0 17 rfl rfl)
theorem dX6_out_20 : decode cX6_out 20 = .ok (.iload_n 1, 1) := dk_27 (dk_at dksX6_out_0 20 rfl rfl)
theorem dX6_out_21 : decode cX6_out 21 = .ok (.iaload, 1) := dk_46 (dk_at dksX6_out_0 21 rfl rfl)
theorem dX6_out_22 : decode cX6_out 22 = .ok (.goto 4, 3) := dk_167 0 4 (dk_at dksX6_out_1 0 rfl rfl)
theorem dX6_out_25 : decode cX6_out 25 = .ok (.iconst (-1), 1) := dk_2 (dk_at dksX6_out_1 3 rfl rfl)
theorem dX6_out_26 : decode cX6_out 26 = .ok (.ireturn, 1) := dk_172 (dk_at dksX6_out_1 4 rfl rfl)
abbrev cX6_item_2 : ByteArray := prog_8_method_37_code
def yX6_item_2 : MethodName := ⟨RX6, "item", "(II)I"⟩
def dkwX6_item_2_4 : List UInt8 := [180, 0, 56, 27, 46, 172, 2, 172]
abbrev dktX6_item_2_4 : List UInt8 := dkwX6_item_2_4 ++ []
def dkwX6_item_2_3 : List UInt8 := [42, 180, 0, 47, 27, 46, 172, 42, 180, 0, 50, 27, 46, 172, 42, 180, 0, 53, 27, 46, 172, 42]
abbrev dktX6_item_2_3 : List UInt8 := dkwX6_item_2_3 ++ dktX6_item_2_4
def dkwX6_item_2_2 : List UInt8 := [170, 0, 0, 0, 0, 0, 59, 0, 0, 0, 0, 0, 0, 0, 3, 0, 0, 0, 31, 0, 0, 0, 38, 0, 0, 0, 45, 0, 0, 0, 52]
abbrev dktX6_item_2_2 : List UInt8 := dkwX6_item_2_2 ++ dktX6_item_2_3
def dkwX6_item_2_1 : List UInt8 := [184, 0, 74, 154, 0, 5, 2, 172, 28]
abbrev dktX6_item_2_1 : List UInt8 := dkwX6_item_2_1 ++ dktX6_item_2_2
def dkwX6_item_2_0 : List UInt8 := [27, 2, 160, 0, 10, 42, 180, 0, 32, 3, 46, 172, 27, 133, 9, 42, 180, 0, 32, 3, 46, 4, 100, 133]
abbrev dktX6_item_2_0 : List UInt8 := dkwX6_item_2_0 ++ dktX6_item_2_1
theorem dksX6_item_2_0 : cX6_item_2.data.toList.drop 0 = dktX6_item_2_0 := by decide +kernel
theorem dksX6_item_2_1 : cX6_item_2.data.toList.drop 24 = dktX6_item_2_1 := dk_seg dksX6_item_2_0 24 rfl rfl
theorem dksX6_item_2_2 : cX6_item_2.data.toList.drop 33 = dktX6_item_2_2 := dk_seg dksX6_item_2_1 9 rfl rfl
theorem dksX6_item_2_3 : cX6_item_2.data.toList.drop 64 = dktX6_item_2_3 := dk_seg dksX6_item_2_2 31 rfl rfl
theorem dksX6_item_2_4 : cX6_item_2.data.toList.drop 86 = dktX6_item_2_4 := dk_seg dksX6_item_2_3 22 rfl rfl
theorem dX6_item_2_0 : decode cX6_item_2 0 = .ok (.iload_n 1, 1) := dk_27 (dk_at dksX6_item_2_0 0 rfl rfl)
theorem dX6_item_2_1 : decode cX6_item_2 1 = .ok (.iconst (-1), 1) := dk_2 (dk_at dksX6_item_2_0 1 rfl rfl)
theorem dX6_item_2_2 : decode cX6_item_2 2 = .ok (.if_icmp .ne 10, 3) := dk_160 0 10 (dk_at dksX6_item_2_0 2 rfl rfl)
theorem dX6_item_2_5 : decode cX6_item_2 5 = .ok (.aload_n 0, 1) := dk_42 (dk_at dksX6_item_2_0 5 rfl rfl)
theorem dX6_item_2_6 : decode cX6_item_2 6 = .ok (.getfield 32, 3) := dk_180 0 32 (dk_at dksX6_item_2_0 6 rfl rfl)
theorem dX6_item_2_9 : decode cX6_item_2 9 = .ok (.iconst 0, 1) := dk_3 (dk_at dksX6_item_2_0 9 rfl rfl)
theorem dX6_item_2_10 : decode cX6_item_2 10 = .ok (.iaload, 1) := dk_46 (dk_at dksX6_item_2_0 10 rfl rfl)
theorem dX6_item_2_11 : decode cX6_item_2 11 = .ok (.ireturn, 1) := dk_172 (dk_at dksX6_item_2_0 11 rfl rfl)
theorem dX6_item_2_12 : decode cX6_item_2 12 = .ok (.iload_n 1, 1) := dk_27 (dk_at dksX6_item_2_0 12 rfl rfl)
theorem dX6_item_2_13 : decode cX6_item_2 13 = .ok (.i2l, 1) := dk_133 (dk_at dksX6_item_2_0 13 rfl rfl)
theorem dX6_item_2_14 : decode cX6_item_2 14 = .ok (.lconst 0, 1) := dk_9 (dk_at dksX6_item_2_0 14 rfl rfl)
theorem dX6_item_2_15 : decode cX6_item_2 15 = .ok (.aload_n 0, 1) := dk_42 (dk_at dksX6_item_2_0 15 rfl rfl)
theorem dX6_item_2_16 : decode cX6_item_2 16 = .ok (.getfield 32, 3) := dk_180 0 32 (dk_at dksX6_item_2_0 16 rfl rfl)
theorem dX6_item_2_19 : decode cX6_item_2 19 = .ok (.iconst 0, 1) := dk_3 (dk_at dksX6_item_2_0 19 rfl rfl)
theorem dX6_item_2_20 : decode cX6_item_2 20 = .ok (.iaload, 1) := dk_46 (dk_at dksX6_item_2_0 20 rfl rfl)
theorem dX6_item_2_21 : decode cX6_item_2 21 = .ok (.iconst 1, 1) := dk_4 (dk_at dksX6_item_2_0 21 rfl rfl)
theorem dX6_item_2_22 : decode cX6_item_2 22 = .ok (.isub, 1) := dk_100 (dk_at dksX6_item_2_0 22 rfl rfl)
theorem dX6_item_2_23 : decode cX6_item_2 23 = .ok (.i2l, 1) := dk_133 (dk_at dksX6_item_2_0 23 rfl rfl)
theorem dX6_item_2_24 : decode cX6_item_2 24 = .ok (.invokestatic 74, 3) := dk_184 0 74 (dk_at dksX6_item_2_1 0 rfl rfl)
theorem dX6_item_2_27 : decode cX6_item_2 27 = .ok (.ifCond .ne 5, 3) := dk_154 0 5 (dk_at dksX6_item_2_1 3 rfl rfl)
theorem dX6_item_2_30 : decode cX6_item_2 30 = .ok (.iconst (-1), 1) := dk_2 (dk_at dksX6_item_2_1 6 rfl rfl)
theorem dX6_item_2_31 : decode cX6_item_2 31 = .ok (.ireturn, 1) := dk_172 (dk_at dksX6_item_2_1 7 rfl rfl)
theorem dX6_item_2_32 : decode cX6_item_2 32 = .ok (.iload_n 2, 1) := dk_28 (dk_at dksX6_item_2_1 8 rfl rfl)
theorem dX6_item_2_33 : decode cX6_item_2 33 = .ok (.tableswitch 59 0 3 #[31, 38, 45, 52], 31) := by decide +kernel
theorem dX6_item_2_64 : decode cX6_item_2 64 = .ok (.aload_n 0, 1) := dk_42 (dk_at dksX6_item_2_3 0 rfl rfl)
theorem dX6_item_2_65 : decode cX6_item_2 65 = .ok (.getfield 47, 3) := dk_180 0 47 (dk_at dksX6_item_2_3 1 rfl rfl)
theorem dX6_item_2_68 : decode cX6_item_2 68 = .ok (.iload_n 1, 1) := dk_27 (dk_at dksX6_item_2_3 4 rfl rfl)
theorem dX6_item_2_69 : decode cX6_item_2 69 = .ok (.iaload, 1) := dk_46 (dk_at dksX6_item_2_3 5 rfl rfl)
theorem dX6_item_2_70 : decode cX6_item_2 70 = .ok (.ireturn, 1) := dk_172 (dk_at dksX6_item_2_3 6 rfl rfl)
theorem dX6_item_2_71 : decode cX6_item_2 71 = .ok (.aload_n 0, 1) := dk_42 (dk_at dksX6_item_2_3 7 rfl rfl)
theorem dX6_item_2_72 : decode cX6_item_2 72 = .ok (.getfield 50, 3) := dk_180 0 50 (dk_at dksX6_item_2_3 8 rfl rfl)
theorem dX6_item_2_75 : decode cX6_item_2 75 = .ok (.iload_n 1, 1) := dk_27 (dk_at dksX6_item_2_3 11 rfl rfl)
theorem dX6_item_2_76 : decode cX6_item_2 76 = .ok (.iaload, 1) := dk_46 (dk_at dksX6_item_2_3 12 rfl rfl)
theorem dX6_item_2_77 : decode cX6_item_2 77 = .ok (.ireturn, 1) := dk_172 (dk_at dksX6_item_2_3 13 rfl rfl)
theorem dX6_item_2_78 : decode cX6_item_2 78 = .ok (.aload_n 0, 1) := dk_42 (dk_at dksX6_item_2_3 14 rfl rfl)
theorem dX6_item_2_79 : decode cX6_item_2 79 = .ok (.getfield 53, 3) := dk_180 0 53 (dk_at dksX6_item_2_3 15 rfl rfl)
theorem dX6_item_2_82 : decode cX6_item_2 82 = .ok (.iload_n 1, 1) := dk_27 (dk_at dksX6_item_2_3 18 rfl rfl)
theorem dX6_item_2_83 : decode cX6_item_2 83 = .ok (.iaload, 1) := dk_46 (dk_at dksX6_item_2_3 19 rfl rfl)
theorem dX6_item_2_84 : decode cX6_item_2 84 = .ok (.ireturn, 1) := dk_172 (dk_at dksX6_item_2_3 20 rfl rfl)
theorem dX6_item_2_85 : decode cX6_item_2 85 = .ok (.aload_n 0, 1) := dk_42 (dk_at dksX6_item_2_3 21 rfl rfl)
theorem dX6_item_2_86 : decode cX6_item_2 86 = .ok (.getfield 56, 3) := dk_180 0 56 (dk_at dksX6_item_2_4 0 rfl rfl)
theorem dX6_item_2_89 : decode cX6_item_2 89 = .ok (.iload_n 1, 1) := dk_27 (dk_at dksX6_item_2_4 3 rfl rfl)
theorem dX6_item_2_90 : decode cX6_item_2 90 = .ok (.iaload, 1) := dk_46 (dk_at dksX6_item_2_4 4 rfl rfl)
theorem dX6_item_2_91 : decode cX6_item_2 91 = .ok (.ireturn, 1) := dk_172 (dk_at dksX6_item_2_4 5 rfl rfl)
theorem dX6_item_2_92 : decode cX6_item_2 92 = .ok (.iconst (-1), 1) := dk_2 (dk_at dksX6_item_2_4 6 rfl rfl)
theorem dX6_item_2_93 : decode cX6_item_2 93 = .ok (.ireturn, 1) := dk_172 (dk_at dksX6_item_2_4 7 rfl rfl)
abbrev cX6_shrink : ByteArray := prog_8_method_38_code
def yX6_shrink : MethodName := ⟨RX6, "shrink", "(III)I"⟩
def dkwX6_shrink_12 : List UInt8 := [167, 255, 66, 42, 27, 28, 29, 182, 0, 204, 42, 180, 0, 78, 172]
abbrev dktX6_shrink_12 : List UInt8 := dkwX6_shrink_12 ++ []
def dkwX6_shrink_11 : List UInt8 := [180, 0, 7, 21, 11, 42, 180, 0, 62, 21, 11, 46, 79, 132, 11, 1, 167, 255, 230, 132, 7, 1]
abbrev dktX6_shrink_11 : List UInt8 := dkwX6_shrink_11 ++ dktX6_shrink_12
def dkwX6_shrink_10 : List UInt8 := [54, 6, 167, 0, 41, 42, 21, 10, 181, 0, 78, 3, 54, 11, 21, 11, 42, 180, 0, 78, 162, 0, 23, 42]
abbrev dktX6_shrink_10 : List UInt8 := dkwX6_shrink_10 ++ dktX6_shrink_11
def dkwX6_shrink_9 : List UInt8 := [167, 255, 227, 42, 27, 28, 29, 182, 0, 204, 42, 180, 0, 122, 21, 4, 160, 0, 13, 21, 6, 21, 9, 96]
abbrev dktX6_shrink_9 : List UInt8 := dkwX6_shrink_9 ++ dktX6_shrink_10
def dkwX6_shrink_8 : List UInt8 := [162, 0, 26, 42, 180, 0, 7, 21, 11, 42, 180, 0, 62, 21, 11, 21, 9, 96, 46, 79, 132, 11, 1]
abbrev dktX6_shrink_8 : List UInt8 := dkwX6_shrink_8 ++ dktX6_shrink_9
def dkwX6_shrink_7 : List UInt8 := [167, 255, 230, 42, 89, 180, 0, 78, 21, 9, 100, 181, 0, 78, 21, 8, 54, 11, 21, 11, 42, 180, 0, 78]
abbrev dktX6_shrink_7 : List UInt8 := dkwX6_shrink_7 ++ dktX6_shrink_8
def dkwX6_shrink_6 : List UInt8 := [180, 0, 78, 162, 0, 23, 42, 180, 0, 62, 21, 11, 42, 180, 0, 7, 21, 11, 46, 79, 132, 11, 1]
abbrev dktX6_shrink_6 : List UInt8 := dkwX6_shrink_6 ++ dktX6_shrink_7
def dkwX6_shrink_5 : List UInt8 := [96, 46, 42, 180, 0, 65, 21, 7, 46, 100, 54, 9, 42, 180, 0, 78, 54, 10, 3, 54, 11, 21, 11, 42]
abbrev dktX6_shrink_5 : List UInt8 := dkwX6_shrink_5 ++ dktX6_shrink_6
def dkwX6_shrink_4 : List UInt8 := [21, 5, 162, 0, 189, 42, 180, 0, 65, 21, 7, 46, 21, 6, 100, 54, 8, 42, 180, 0, 65, 21, 7, 4]
abbrev dktX6_shrink_4 : List UInt8 := dkwX6_shrink_4 ++ dktX6_shrink_5
def dkwX6_shrink_3 : List UInt8 := [167, 255, 232, 42, 180, 0, 65, 21, 5, 42, 180, 0, 26, 3, 46, 79, 3, 54, 6, 3, 54, 7, 21, 7]
abbrev dktX6_shrink_3 : List UInt8 := dkwX6_shrink_3 ++ dktX6_shrink_4
def dkwX6_shrink_2 : List UInt8 := [21, 6, 21, 5, 162, 0, 23, 42, 180, 0, 65, 21, 6, 42, 180, 0, 50, 21, 6, 46, 79, 132, 6, 1]
abbrev dktX6_shrink_2 : List UInt8 := dkwX6_shrink_2 ++ dktX6_shrink_3
def dkwX6_shrink_1 : List UInt8 := [154, 0, 6, 16, 253, 172, 42, 180, 0, 122, 54, 4, 42, 180, 0, 32, 3, 46, 54, 5, 3, 54, 6]
abbrev dktX6_shrink_1 : List UInt8 := dkwX6_shrink_1 ++ dktX6_shrink_2
def dkwX6_shrink_0 : List UInt8 := [27, 28, 29, 184, 0, 201, 154, 0, 6, 16, 254, 172, 42, 27, 28, 29, 182, 0, 204, 42, 180, 0, 122]
abbrev dktX6_shrink_0 : List UInt8 := dkwX6_shrink_0 ++ dktX6_shrink_1
theorem dksX6_shrink_0 : cX6_shrink.data.toList.drop 0 = dktX6_shrink_0 := by decide +kernel
theorem dksX6_shrink_1 : cX6_shrink.data.toList.drop 23 = dktX6_shrink_1 := dk_seg dksX6_shrink_0 23 rfl rfl
theorem dksX6_shrink_2 : cX6_shrink.data.toList.drop 46 = dktX6_shrink_2 := dk_seg dksX6_shrink_1 23 rfl rfl
theorem dksX6_shrink_3 : cX6_shrink.data.toList.drop 70 = dktX6_shrink_3 := dk_seg dksX6_shrink_2 24 rfl rfl
theorem dksX6_shrink_4 : cX6_shrink.data.toList.drop 94 = dktX6_shrink_4 := dk_seg dksX6_shrink_3 24 rfl rfl
theorem dksX6_shrink_5 : cX6_shrink.data.toList.drop 118 = dktX6_shrink_5 := dk_seg dksX6_shrink_4 24 rfl rfl
theorem dksX6_shrink_6 : cX6_shrink.data.toList.drop 142 = dktX6_shrink_6 := dk_seg dksX6_shrink_5 24 rfl rfl
theorem dksX6_shrink_7 : cX6_shrink.data.toList.drop 165 = dktX6_shrink_7 := dk_seg dksX6_shrink_6 23 rfl rfl
theorem dksX6_shrink_8 : cX6_shrink.data.toList.drop 189 = dktX6_shrink_8 := dk_seg dksX6_shrink_7 24 rfl rfl
theorem dksX6_shrink_9 : cX6_shrink.data.toList.drop 212 = dktX6_shrink_9 := dk_seg dksX6_shrink_8 23 rfl rfl
theorem dksX6_shrink_10 : cX6_shrink.data.toList.drop 236 = dktX6_shrink_10 := dk_seg dksX6_shrink_9 24 rfl rfl
theorem dksX6_shrink_11 : cX6_shrink.data.toList.drop 260 = dktX6_shrink_11 := dk_seg dksX6_shrink_10 24 rfl rfl
theorem dksX6_shrink_12 : cX6_shrink.data.toList.drop 282 = dktX6_shrink_12 := dk_seg dksX6_shrink_11 22 rfl rfl
theorem dX6_shrink_0 : decode cX6_shrink 0 = .ok (.iload_n 1, 1) := dk_27 (dk_at dksX6_shrink_0 0 rfl rfl)
theorem dX6_shrink_1 : decode cX6_shrink 1 = .ok (.iload_n 2, 1) := dk_28 (dk_at dksX6_shrink_0 1 rfl rfl)
theorem dX6_shrink_2 : decode cX6_shrink 2 = .ok (.iload_n 3, 1) := dk_29 (dk_at dksX6_shrink_0 2 rfl rfl)
theorem dX6_shrink_3 : decode cX6_shrink 3 = .ok (.invokestatic 201, 3) := dk_184 0 201 (dk_at dksX6_shrink_0 3 rfl rfl)
theorem dX6_shrink_6 : decode cX6_shrink 6 = .ok (.ifCond .ne 6, 3) := dk_154 0 6 (dk_at dksX6_shrink_0 6 rfl rfl)
theorem dX6_shrink_9 : decode cX6_shrink 9 = .ok (.bipush (-2), 2) := dk_16 254 (dk_at dksX6_shrink_0 9 rfl rfl)
theorem dX6_shrink_11 : decode cX6_shrink 11 = .ok (.ireturn, 1) := dk_172 (dk_at dksX6_shrink_0 11 rfl rfl)
theorem dX6_shrink_12 : decode cX6_shrink 12 = .ok (.aload_n 0, 1) := dk_42 (dk_at dksX6_shrink_0 12 rfl rfl)
theorem dX6_shrink_13 : decode cX6_shrink 13 = .ok (.iload_n 1, 1) := dk_27 (dk_at dksX6_shrink_0 13 rfl rfl)
theorem dX6_shrink_14 : decode cX6_shrink 14 = .ok (.iload_n 2, 1) := dk_28 (dk_at dksX6_shrink_0 14 rfl rfl)
theorem dX6_shrink_15 : decode cX6_shrink 15 = .ok (.iload_n 3, 1) := dk_29 (dk_at dksX6_shrink_0 15 rfl rfl)
theorem dX6_shrink_16 : decode cX6_shrink 16 = .ok (.invokevirtual 204, 3) := dk_182 0 204 (dk_at dksX6_shrink_0 16 rfl rfl)
theorem dX6_shrink_19 : decode cX6_shrink 19 = .ok (.aload_n 0, 1) := dk_42 (dk_at dksX6_shrink_0 19 rfl rfl)
theorem dX6_shrink_20 : decode cX6_shrink 20 = .ok (.getfield 122, 3) := dk_180 0 122 (dk_at dksX6_shrink_0 20 rfl rfl)
theorem dX6_shrink_23 : decode cX6_shrink 23 = .ok (.ifCond .ne 6, 3) := dk_154 0 6 (dk_at dksX6_shrink_1 0 rfl rfl)
theorem dX6_shrink_26 : decode cX6_shrink 26 = .ok (.bipush (-3), 2) := dk_16 253 (dk_at dksX6_shrink_1 3 rfl rfl)
theorem dX6_shrink_28 : decode cX6_shrink 28 = .ok (.ireturn, 1) := dk_172 (dk_at dksX6_shrink_1 5 rfl rfl)
theorem dX6_shrink_29 : decode cX6_shrink 29 = .ok (.aload_n 0, 1) := dk_42 (dk_at dksX6_shrink_1 6 rfl rfl)
theorem dX6_shrink_30 : decode cX6_shrink 30 = .ok (.getfield 122, 3) := dk_180 0 122 (dk_at dksX6_shrink_1 7 rfl rfl)
theorem dX6_shrink_33 : decode cX6_shrink 33 = .ok (.istore 4, 2) := dk_54 4 (dk_at dksX6_shrink_1 10 rfl rfl)
theorem dX6_shrink_35 : decode cX6_shrink 35 = .ok (.aload_n 0, 1) := dk_42 (dk_at dksX6_shrink_1 12 rfl rfl)
theorem dX6_shrink_36 : decode cX6_shrink 36 = .ok (.getfield 32, 3) := dk_180 0 32 (dk_at dksX6_shrink_1 13 rfl rfl)
theorem dX6_shrink_39 : decode cX6_shrink 39 = .ok (.iconst 0, 1) := dk_3 (dk_at dksX6_shrink_1 16 rfl rfl)
theorem dX6_shrink_40 : decode cX6_shrink 40 = .ok (.iaload, 1) := dk_46 (dk_at dksX6_shrink_1 17 rfl rfl)
theorem dX6_shrink_41 : decode cX6_shrink 41 = .ok (.istore 5, 2) := dk_54 5 (dk_at dksX6_shrink_1 18 rfl rfl)
theorem dX6_shrink_43 : decode cX6_shrink 43 = .ok (.iconst 0, 1) := dk_3 (dk_at dksX6_shrink_1 20 rfl rfl)
theorem dX6_shrink_44 : decode cX6_shrink 44 = .ok (.istore 6, 2) := dk_54 6 (dk_at dksX6_shrink_1 21 rfl rfl)
theorem dX6_shrink_46 : decode cX6_shrink 46 = .ok (.iload 6, 2) := dk_21 6 (dk_at dksX6_shrink_2 0 rfl rfl)
theorem dX6_shrink_48 : decode cX6_shrink 48 = .ok (.iload 5, 2) := dk_21 5 (dk_at dksX6_shrink_2 2 rfl rfl)
theorem dX6_shrink_50 : decode cX6_shrink 50 = .ok (.if_icmp .ge 23, 3) := dk_162 0 23 (dk_at dksX6_shrink_2 4 rfl rfl)
theorem dX6_shrink_53 : decode cX6_shrink 53 = .ok (.aload_n 0, 1) := dk_42 (dk_at dksX6_shrink_2 7 rfl rfl)
theorem dX6_shrink_54 : decode cX6_shrink 54 = .ok (.getfield 65, 3) := dk_180 0 65 (dk_at dksX6_shrink_2 8 rfl rfl)
theorem dX6_shrink_57 : decode cX6_shrink 57 = .ok (.iload 6, 2) := dk_21 6 (dk_at dksX6_shrink_2 11 rfl rfl)
theorem dX6_shrink_59 : decode cX6_shrink 59 = .ok (.aload_n 0, 1) := dk_42 (dk_at dksX6_shrink_2 13 rfl rfl)
theorem dX6_shrink_60 : decode cX6_shrink 60 = .ok (.getfield 50, 3) := dk_180 0 50 (dk_at dksX6_shrink_2 14 rfl rfl)
theorem dX6_shrink_63 : decode cX6_shrink 63 = .ok (.iload 6, 2) := dk_21 6 (dk_at dksX6_shrink_2 17 rfl rfl)
theorem dX6_shrink_65 : decode cX6_shrink 65 = .ok (.iaload, 1) := dk_46 (dk_at dksX6_shrink_2 19 rfl rfl)
theorem dX6_shrink_66 : decode cX6_shrink 66 = .ok (.iastore, 1) := dk_79 (dk_at dksX6_shrink_2 20 rfl rfl)
theorem dX6_shrink_67 : decode cX6_shrink 67 = .ok (.iinc 6 1, 3) := dk_132 6 1 (dk_at dksX6_shrink_2 21 rfl rfl)
theorem dX6_shrink_70 : decode cX6_shrink 70 = .ok (.goto (-24), 3) := dk_167 255 232 (dk_at dksX6_shrink_3 0 rfl rfl)
theorem dX6_shrink_73 : decode cX6_shrink 73 = .ok (.aload_n 0, 1) := dk_42 (dk_at dksX6_shrink_3 3 rfl rfl)
theorem dX6_shrink_74 : decode cX6_shrink 74 = .ok (.getfield 65, 3) := dk_180 0 65 (dk_at dksX6_shrink_3 4 rfl rfl)
theorem dX6_shrink_77 : decode cX6_shrink 77 = .ok (.iload 5, 2) := dk_21 5 (dk_at dksX6_shrink_3 7 rfl rfl)
theorem dX6_shrink_79 : decode cX6_shrink 79 = .ok (.aload_n 0, 1) := dk_42 (dk_at dksX6_shrink_3 9 rfl rfl)
theorem dX6_shrink_80 : decode cX6_shrink 80 = .ok (.getfield 26, 3) := dk_180 0 26 (dk_at dksX6_shrink_3 10 rfl rfl)
theorem dX6_shrink_83 : decode cX6_shrink 83 = .ok (.iconst 0, 1) := dk_3 (dk_at dksX6_shrink_3 13 rfl rfl)
theorem dX6_shrink_84 : decode cX6_shrink 84 = .ok (.iaload, 1) := dk_46 (dk_at dksX6_shrink_3 14 rfl rfl)
theorem dX6_shrink_85 : decode cX6_shrink 85 = .ok (.iastore, 1) := dk_79 (dk_at dksX6_shrink_3 15 rfl rfl)
theorem dX6_shrink_86 : decode cX6_shrink 86 = .ok (.iconst 0, 1) := dk_3 (dk_at dksX6_shrink_3 16 rfl rfl)
theorem dX6_shrink_87 : decode cX6_shrink 87 = .ok (.istore 6, 2) := dk_54 6 (dk_at dksX6_shrink_3 17 rfl rfl)
theorem dX6_shrink_89 : decode cX6_shrink 89 = .ok (.iconst 0, 1) := dk_3 (dk_at dksX6_shrink_3 19 rfl rfl)
theorem dX6_shrink_90 : decode cX6_shrink 90 = .ok (.istore 7, 2) := dk_54 7 (dk_at dksX6_shrink_3 20 rfl rfl)
theorem dX6_shrink_92 : decode cX6_shrink 92 = .ok (.iload 7, 2) := dk_21 7 (dk_at dksX6_shrink_3 22 rfl rfl)
theorem dX6_shrink_94 : decode cX6_shrink 94 = .ok (.iload 5, 2) := dk_21 5 (dk_at dksX6_shrink_4 0 rfl rfl)
theorem dX6_shrink_96 : decode cX6_shrink 96 = .ok (.if_icmp .ge 189, 3) := dk_162 0 189 (dk_at dksX6_shrink_4 2 rfl rfl)
theorem dX6_shrink_99 : decode cX6_shrink 99 = .ok (.aload_n 0, 1) := dk_42 (dk_at dksX6_shrink_4 5 rfl rfl)
theorem dX6_shrink_100 : decode cX6_shrink 100 = .ok (.getfield 65, 3) := dk_180 0 65 (dk_at dksX6_shrink_4 6 rfl rfl)
theorem dX6_shrink_103 : decode cX6_shrink 103 = .ok (.iload 7, 2) := dk_21 7 (dk_at dksX6_shrink_4 9 rfl rfl)
theorem dX6_shrink_105 : decode cX6_shrink 105 = .ok (.iaload, 1) := dk_46 (dk_at dksX6_shrink_4 11 rfl rfl)
theorem dX6_shrink_106 : decode cX6_shrink 106 = .ok (.iload 6, 2) := dk_21 6 (dk_at dksX6_shrink_4 12 rfl rfl)
theorem dX6_shrink_108 : decode cX6_shrink 108 = .ok (.isub, 1) := dk_100 (dk_at dksX6_shrink_4 14 rfl rfl)
theorem dX6_shrink_109 : decode cX6_shrink 109 = .ok (.istore 8, 2) := dk_54 8 (dk_at dksX6_shrink_4 15 rfl rfl)
theorem dX6_shrink_111 : decode cX6_shrink 111 = .ok (.aload_n 0, 1) := dk_42 (dk_at dksX6_shrink_4 17 rfl rfl)
theorem dX6_shrink_112 : decode cX6_shrink 112 = .ok (.getfield 65, 3) := dk_180 0 65 (dk_at dksX6_shrink_4 18 rfl rfl)
theorem dX6_shrink_115 : decode cX6_shrink 115 = .ok (.iload 7, 2) := dk_21 7 (dk_at dksX6_shrink_4 21 rfl rfl)
theorem dX6_shrink_117 : decode cX6_shrink 117 = .ok (.iconst 1, 1) := dk_4 (dk_at dksX6_shrink_4 23 rfl rfl)
theorem dX6_shrink_118 : decode cX6_shrink 118 = .ok (.iadd, 1) := dk_96 (dk_at dksX6_shrink_5 0 rfl rfl)
theorem dX6_shrink_119 : decode cX6_shrink 119 = .ok (.iaload, 1) := dk_46 (dk_at dksX6_shrink_5 1 rfl rfl)
theorem dX6_shrink_120 : decode cX6_shrink 120 = .ok (.aload_n 0, 1) := dk_42 (dk_at dksX6_shrink_5 2 rfl rfl)
theorem dX6_shrink_121 : decode cX6_shrink 121 = .ok (.getfield 65, 3) := dk_180 0 65 (dk_at dksX6_shrink_5 3 rfl rfl)
theorem dX6_shrink_124 : decode cX6_shrink 124 = .ok (.iload 7, 2) := dk_21 7 (dk_at dksX6_shrink_5 6 rfl rfl)
theorem dX6_shrink_126 : decode cX6_shrink 126 = .ok (.iaload, 1) := dk_46 (dk_at dksX6_shrink_5 8 rfl rfl)
theorem dX6_shrink_127 : decode cX6_shrink 127 = .ok (.isub, 1) := dk_100 (dk_at dksX6_shrink_5 9 rfl rfl)
theorem dX6_shrink_128 : decode cX6_shrink 128 = .ok (.istore 9, 2) := dk_54 9 (dk_at dksX6_shrink_5 10 rfl rfl)
theorem dX6_shrink_130 : decode cX6_shrink 130 = .ok (.aload_n 0, 1) := dk_42 (dk_at dksX6_shrink_5 12 rfl rfl)
theorem dX6_shrink_131 : decode cX6_shrink 131 = .ok (.getfield 78, 3) := dk_180 0 78 (dk_at dksX6_shrink_5 13 rfl rfl)
theorem dX6_shrink_134 : decode cX6_shrink 134 = .ok (.istore 10, 2) := dk_54 10 (dk_at dksX6_shrink_5 16 rfl rfl)
theorem dX6_shrink_136 : decode cX6_shrink 136 = .ok (.iconst 0, 1) := dk_3 (dk_at dksX6_shrink_5 18 rfl rfl)
theorem dX6_shrink_137 : decode cX6_shrink 137 = .ok (.istore 11, 2) := dk_54 11 (dk_at dksX6_shrink_5 19 rfl rfl)
theorem dX6_shrink_139 : decode cX6_shrink 139 = .ok (.iload 11, 2) := dk_21 11 (dk_at dksX6_shrink_5 21 rfl rfl)
theorem dX6_shrink_141 : decode cX6_shrink 141 = .ok (.aload_n 0, 1) := dk_42 (dk_at dksX6_shrink_5 23 rfl rfl)
theorem dX6_shrink_142 : decode cX6_shrink 142 = .ok (.getfield 78, 3) := dk_180 0 78 (dk_at dksX6_shrink_6 0 rfl rfl)
theorem dX6_shrink_145 : decode cX6_shrink 145 = .ok (.if_icmp .ge 23, 3) := dk_162 0 23 (dk_at dksX6_shrink_6 3 rfl rfl)
theorem dX6_shrink_148 : decode cX6_shrink 148 = .ok (.aload_n 0, 1) := dk_42 (dk_at dksX6_shrink_6 6 rfl rfl)
theorem dX6_shrink_149 : decode cX6_shrink 149 = .ok (.getfield 62, 3) := dk_180 0 62 (dk_at dksX6_shrink_6 7 rfl rfl)
theorem dX6_shrink_152 : decode cX6_shrink 152 = .ok (.iload 11, 2) := dk_21 11 (dk_at dksX6_shrink_6 10 rfl rfl)
theorem dX6_shrink_154 : decode cX6_shrink 154 = .ok (.aload_n 0, 1) := dk_42 (dk_at dksX6_shrink_6 12 rfl rfl)
theorem dX6_shrink_155 : decode cX6_shrink 155 = .ok (.getfield 7, 3) := dk_180 0 7 (dk_at dksX6_shrink_6 13 rfl rfl)
theorem dX6_shrink_158 : decode cX6_shrink 158 = .ok (.iload 11, 2) := dk_21 11 (dk_at dksX6_shrink_6 16 rfl rfl)
theorem dX6_shrink_160 : decode cX6_shrink 160 = .ok (.iaload, 1) := dk_46 (dk_at dksX6_shrink_6 18 rfl rfl)
theorem dX6_shrink_161 : decode cX6_shrink 161 = .ok (.iastore, 1) := dk_79 (dk_at dksX6_shrink_6 19 rfl rfl)
theorem dX6_shrink_162 : decode cX6_shrink 162 = .ok (.iinc 11 1, 3) := dk_132 11 1 (dk_at dksX6_shrink_6 20 rfl rfl)
theorem dX6_shrink_165 : decode cX6_shrink 165 = .ok (.goto (-26), 3) := dk_167 255 230 (dk_at dksX6_shrink_7 0 rfl rfl)
theorem dX6_shrink_168 : decode cX6_shrink 168 = .ok (.aload_n 0, 1) := dk_42 (dk_at dksX6_shrink_7 3 rfl rfl)
theorem dX6_shrink_169 : decode cX6_shrink 169 = .ok (.dup, 1) := dk_89 (dk_at dksX6_shrink_7 4 rfl rfl)
theorem dX6_shrink_170 : decode cX6_shrink 170 = .ok (.getfield 78, 3) := dk_180 0 78 (dk_at dksX6_shrink_7 5 rfl rfl)
theorem dX6_shrink_173 : decode cX6_shrink 173 = .ok (.iload 9, 2) := dk_21 9 (dk_at dksX6_shrink_7 8 rfl rfl)
theorem dX6_shrink_175 : decode cX6_shrink 175 = .ok (.isub, 1) := dk_100 (dk_at dksX6_shrink_7 10 rfl rfl)
theorem dX6_shrink_176 : decode cX6_shrink 176 = .ok (.putfield 78, 3) := dk_181 0 78 (dk_at dksX6_shrink_7 11 rfl rfl)
theorem dX6_shrink_179 : decode cX6_shrink 179 = .ok (.iload 8, 2) := dk_21 8 (dk_at dksX6_shrink_7 14 rfl rfl)
theorem dX6_shrink_181 : decode cX6_shrink 181 = .ok (.istore 11, 2) := dk_54 11 (dk_at dksX6_shrink_7 16 rfl rfl)
theorem dX6_shrink_183 : decode cX6_shrink 183 = .ok (.iload 11, 2) := dk_21 11 (dk_at dksX6_shrink_7 18 rfl rfl)
theorem dX6_shrink_185 : decode cX6_shrink 185 = .ok (.aload_n 0, 1) := dk_42 (dk_at dksX6_shrink_7 20 rfl rfl)
theorem dX6_shrink_186 : decode cX6_shrink 186 = .ok (.getfield 78, 3) := dk_180 0 78 (dk_at dksX6_shrink_7 21 rfl rfl)
theorem dX6_shrink_189 : decode cX6_shrink 189 = .ok (.if_icmp .ge 26, 3) := dk_162 0 26 (dk_at dksX6_shrink_8 0 rfl rfl)
theorem dX6_shrink_192 : decode cX6_shrink 192 = .ok (.aload_n 0, 1) := dk_42 (dk_at dksX6_shrink_8 3 rfl rfl)
theorem dX6_shrink_193 : decode cX6_shrink 193 = .ok (.getfield 7, 3) := dk_180 0 7 (dk_at dksX6_shrink_8 4 rfl rfl)
theorem dX6_shrink_196 : decode cX6_shrink 196 = .ok (.iload 11, 2) := dk_21 11 (dk_at dksX6_shrink_8 7 rfl rfl)
theorem dX6_shrink_198 : decode cX6_shrink 198 = .ok (.aload_n 0, 1) := dk_42 (dk_at dksX6_shrink_8 9 rfl rfl)
theorem dX6_shrink_199 : decode cX6_shrink 199 = .ok (.getfield 62, 3) := dk_180 0 62 (dk_at dksX6_shrink_8 10 rfl rfl)
theorem dX6_shrink_202 : decode cX6_shrink 202 = .ok (.iload 11, 2) := dk_21 11 (dk_at dksX6_shrink_8 13 rfl rfl)
theorem dX6_shrink_204 : decode cX6_shrink 204 = .ok (.iload 9, 2) := dk_21 9 (dk_at dksX6_shrink_8 15 rfl rfl)
theorem dX6_shrink_206 : decode cX6_shrink 206 = .ok (.iadd, 1) := dk_96 (dk_at dksX6_shrink_8 17 rfl rfl)
theorem dX6_shrink_207 : decode cX6_shrink 207 = .ok (.iaload, 1) := dk_46 (dk_at dksX6_shrink_8 18 rfl rfl)
theorem dX6_shrink_208 : decode cX6_shrink 208 = .ok (.iastore, 1) := dk_79 (dk_at dksX6_shrink_8 19 rfl rfl)
theorem dX6_shrink_209 : decode cX6_shrink 209 = .ok (.iinc 11 1, 3) := dk_132 11 1 (dk_at dksX6_shrink_8 20 rfl rfl)
theorem dX6_shrink_212 : decode cX6_shrink 212 = .ok (.goto (-29), 3) := dk_167 255 227 (dk_at dksX6_shrink_9 0 rfl rfl)
theorem dX6_shrink_215 : decode cX6_shrink 215 = .ok (.aload_n 0, 1) := dk_42 (dk_at dksX6_shrink_9 3 rfl rfl)
theorem dX6_shrink_216 : decode cX6_shrink 216 = .ok (.iload_n 1, 1) := dk_27 (dk_at dksX6_shrink_9 4 rfl rfl)
theorem dX6_shrink_217 : decode cX6_shrink 217 = .ok (.iload_n 2, 1) := dk_28 (dk_at dksX6_shrink_9 5 rfl rfl)
theorem dX6_shrink_218 : decode cX6_shrink 218 = .ok (.iload_n 3, 1) := dk_29 (dk_at dksX6_shrink_9 6 rfl rfl)
theorem dX6_shrink_219 : decode cX6_shrink 219 = .ok (.invokevirtual 204, 3) := dk_182 0 204 (dk_at dksX6_shrink_9 7 rfl rfl)
theorem dX6_shrink_222 : decode cX6_shrink 222 = .ok (.aload_n 0, 1) := dk_42 (dk_at dksX6_shrink_9 10 rfl rfl)
theorem dX6_shrink_223 : decode cX6_shrink 223 = .ok (.getfield 122, 3) := dk_180 0 122 (dk_at dksX6_shrink_9 11 rfl rfl)
theorem dX6_shrink_226 : decode cX6_shrink 226 = .ok (.iload 4, 2) := dk_21 4 (dk_at dksX6_shrink_9 14 rfl rfl)
theorem dX6_shrink_228 : decode cX6_shrink 228 = .ok (.if_icmp .ne 13, 3) := dk_160 0 13 (dk_at dksX6_shrink_9 16 rfl rfl)
theorem dX6_shrink_231 : decode cX6_shrink 231 = .ok (.iload 6, 2) := dk_21 6 (dk_at dksX6_shrink_9 19 rfl rfl)
theorem dX6_shrink_233 : decode cX6_shrink 233 = .ok (.iload 9, 2) := dk_21 9 (dk_at dksX6_shrink_9 21 rfl rfl)
theorem dX6_shrink_235 : decode cX6_shrink 235 = .ok (.iadd, 1) := dk_96 (dk_at dksX6_shrink_9 23 rfl rfl)
theorem dX6_shrink_236 : decode cX6_shrink 236 = .ok (.istore 6, 2) := dk_54 6 (dk_at dksX6_shrink_10 0 rfl rfl)
theorem dX6_shrink_238 : decode cX6_shrink 238 = .ok (.goto 41, 3) := dk_167 0 41 (dk_at dksX6_shrink_10 2 rfl rfl)
theorem dX6_shrink_241 : decode cX6_shrink 241 = .ok (.aload_n 0, 1) := dk_42 (dk_at dksX6_shrink_10 5 rfl rfl)
theorem dX6_shrink_242 : decode cX6_shrink 242 = .ok (.iload 10, 2) := dk_21 10 (dk_at dksX6_shrink_10 6 rfl rfl)
theorem dX6_shrink_244 : decode cX6_shrink 244 = .ok (.putfield 78, 3) := dk_181 0 78 (dk_at dksX6_shrink_10 8 rfl rfl)
theorem dX6_shrink_247 : decode cX6_shrink 247 = .ok (.iconst 0, 1) := dk_3 (dk_at dksX6_shrink_10 11 rfl rfl)
theorem dX6_shrink_248 : decode cX6_shrink 248 = .ok (.istore 11, 2) := dk_54 11 (dk_at dksX6_shrink_10 12 rfl rfl)
theorem dX6_shrink_250 : decode cX6_shrink 250 = .ok (.iload 11, 2) := dk_21 11 (dk_at dksX6_shrink_10 14 rfl rfl)
theorem dX6_shrink_252 : decode cX6_shrink 252 = .ok (.aload_n 0, 1) := dk_42 (dk_at dksX6_shrink_10 16 rfl rfl)
theorem dX6_shrink_253 : decode cX6_shrink 253 = .ok (.getfield 78, 3) := dk_180 0 78 (dk_at dksX6_shrink_10 17 rfl rfl)
theorem dX6_shrink_256 : decode cX6_shrink 256 = .ok (.if_icmp .ge 23, 3) := dk_162 0 23 (dk_at dksX6_shrink_10 20 rfl rfl)
theorem dX6_shrink_259 : decode cX6_shrink 259 = .ok (.aload_n 0, 1) := dk_42 (dk_at dksX6_shrink_10 23 rfl rfl)
theorem dX6_shrink_260 : decode cX6_shrink 260 = .ok (.getfield 7, 3) := dk_180 0 7 (dk_at dksX6_shrink_11 0 rfl rfl)
theorem dX6_shrink_263 : decode cX6_shrink 263 = .ok (.iload 11, 2) := dk_21 11 (dk_at dksX6_shrink_11 3 rfl rfl)
theorem dX6_shrink_265 : decode cX6_shrink 265 = .ok (.aload_n 0, 1) := dk_42 (dk_at dksX6_shrink_11 5 rfl rfl)
theorem dX6_shrink_266 : decode cX6_shrink 266 = .ok (.getfield 62, 3) := dk_180 0 62 (dk_at dksX6_shrink_11 6 rfl rfl)
theorem dX6_shrink_269 : decode cX6_shrink 269 = .ok (.iload 11, 2) := dk_21 11 (dk_at dksX6_shrink_11 9 rfl rfl)
theorem dX6_shrink_271 : decode cX6_shrink 271 = .ok (.iaload, 1) := dk_46 (dk_at dksX6_shrink_11 11 rfl rfl)
theorem dX6_shrink_272 : decode cX6_shrink 272 = .ok (.iastore, 1) := dk_79 (dk_at dksX6_shrink_11 12 rfl rfl)
theorem dX6_shrink_273 : decode cX6_shrink 273 = .ok (.iinc 11 1, 3) := dk_132 11 1 (dk_at dksX6_shrink_11 13 rfl rfl)
theorem dX6_shrink_276 : decode cX6_shrink 276 = .ok (.goto (-26), 3) := dk_167 255 230 (dk_at dksX6_shrink_11 16 rfl rfl)
theorem dX6_shrink_279 : decode cX6_shrink 279 = .ok (.iinc 7 1, 3) := dk_132 7 1 (dk_at dksX6_shrink_11 19 rfl rfl)
theorem dX6_shrink_282 : decode cX6_shrink 282 = .ok (.goto (-190), 3) := dk_167 255 66 (dk_at dksX6_shrink_12 0 rfl rfl)
theorem dX6_shrink_285 : decode cX6_shrink 285 = .ok (.aload_n 0, 1) := dk_42 (dk_at dksX6_shrink_12 3 rfl rfl)
theorem dX6_shrink_286 : decode cX6_shrink 286 = .ok (.iload_n 1, 1) := dk_27 (dk_at dksX6_shrink_12 4 rfl rfl)
theorem dX6_shrink_287 : decode cX6_shrink 287 = .ok (.iload_n 2, 1) := dk_28 (dk_at dksX6_shrink_12 5 rfl rfl)
theorem dX6_shrink_288 : decode cX6_shrink 288 = .ok (.iload_n 3, 1) := dk_29 (dk_at dksX6_shrink_12 6 rfl rfl)
theorem dX6_shrink_289 : decode cX6_shrink 289 = .ok (.invokevirtual 204, 3) := dk_182 0 204 (dk_at dksX6_shrink_12 7 rfl rfl)
theorem dX6_shrink_292 : decode cX6_shrink 292 = .ok (.aload_n 0, 1) := dk_42 (dk_at dksX6_shrink_12 10 rfl rfl)
theorem dX6_shrink_293 : decode cX6_shrink 293 = .ok (.getfield 78, 3) := dk_180 0 78 (dk_at dksX6_shrink_12 11 rfl rfl)
theorem dX6_shrink_296 : decode cX6_shrink 296 = .ok (.ireturn, 1) := dk_172 (dk_at dksX6_shrink_12 14 rfl rfl)
abbrev cX6_count : ByteArray := prog_8_method_39_code
def yX6_count : MethodName := ⟨RX6, "count", "(I)I"⟩
def dkwX6_count_3 : List UInt8 := [172, 42, 180, 0, 122, 172, 42, 180, 0, 191, 172, 2, 172]
abbrev dktX6_count_3 : List UInt8 := dkwX6_count_3 ++ []
def dkwX6_count_2 : List UInt8 := [42, 180, 0, 78, 172, 42, 180, 0, 140, 172, 42, 180, 0, 125, 172, 42, 180, 0, 143, 172, 42, 180, 0, 134]
abbrev dktX6_count_2 : List UInt8 := dkwX6_count_2 ++ dktX6_count_3
def dkwX6_count_1 : List UInt8 := [170, 0, 0, 0, 0, 0, 78, 0, 0, 0, 0, 0, 0, 0, 6, 0, 0, 0, 43, 0, 0, 0, 48, 0, 0, 0, 53, 0, 0, 0, 58, 0, 0, 0, 63, 0, 0, 0, 68, 0, 0, 0, 73]
abbrev dktX6_count_1 : List UInt8 := dkwX6_count_1 ++ dktX6_count_2
def dkwX6_count_0 : List UInt8 := [27]
abbrev dktX6_count_0 : List UInt8 := dkwX6_count_0 ++ dktX6_count_1
theorem dksX6_count_0 : cX6_count.data.toList.drop 0 = dktX6_count_0 := by decide +kernel
theorem dksX6_count_1 : cX6_count.data.toList.drop 1 = dktX6_count_1 := dk_seg dksX6_count_0 1 rfl rfl
theorem dksX6_count_2 : cX6_count.data.toList.drop 44 = dktX6_count_2 := dk_seg dksX6_count_1 43 rfl rfl
theorem dksX6_count_3 : cX6_count.data.toList.drop 68 = dktX6_count_3 := dk_seg dksX6_count_2 24 rfl rfl
theorem dX6_count_0 : decode cX6_count 0 = .ok (.iload_n 1, 1) := dk_27 (dk_at dksX6_count_0 0 rfl rfl)
theorem dX6_count_1 : decode cX6_count 1 = .ok (.tableswitch 78 0 6 #[43, 48, 53, 58, 63, 68, 73], 43) := by decide +kernel
theorem dX6_count_44 : decode cX6_count 44 = .ok (.aload_n 0, 1) := dk_42 (dk_at dksX6_count_2 0 rfl rfl)
theorem dX6_count_45 : decode cX6_count 45 = .ok (.getfield 78, 3) := dk_180 0 78 (dk_at dksX6_count_2 1 rfl rfl)
theorem dX6_count_48 : decode cX6_count 48 = .ok (.ireturn, 1) := dk_172 (dk_at dksX6_count_2 4 rfl rfl)
theorem dX6_count_49 : decode cX6_count 49 = .ok (.aload_n 0, 1) := dk_42 (dk_at dksX6_count_2 5 rfl rfl)
theorem dX6_count_50 : decode cX6_count 50 = .ok (.getfield 140, 3) := dk_180 0 140 (dk_at dksX6_count_2 6 rfl rfl)
theorem dX6_count_53 : decode cX6_count 53 = .ok (.ireturn, 1) := dk_172 (dk_at dksX6_count_2 9 rfl rfl)
theorem dX6_count_54 : decode cX6_count 54 = .ok (.aload_n 0, 1) := dk_42 (dk_at dksX6_count_2 10 rfl rfl)
theorem dX6_count_55 : decode cX6_count 55 = .ok (.getfield 125, 3) := dk_180 0 125 (dk_at dksX6_count_2 11 rfl rfl)
theorem dX6_count_58 : decode cX6_count 58 = .ok (.ireturn, 1) := dk_172 (dk_at dksX6_count_2 14 rfl rfl)
theorem dX6_count_59 : decode cX6_count 59 = .ok (.aload_n 0, 1) := dk_42 (dk_at dksX6_count_2 15 rfl rfl)
theorem dX6_count_60 : decode cX6_count 60 = .ok (.getfield 143, 3) := dk_180 0 143 (dk_at dksX6_count_2 16 rfl rfl)
theorem dX6_count_63 : decode cX6_count 63 = .ok (.ireturn, 1) := dk_172 (dk_at dksX6_count_2 19 rfl rfl)
theorem dX6_count_64 : decode cX6_count 64 = .ok (.aload_n 0, 1) := dk_42 (dk_at dksX6_count_2 20 rfl rfl)
theorem dX6_count_65 : decode cX6_count 65 = .ok (.getfield 134, 3) := dk_180 0 134 (dk_at dksX6_count_2 21 rfl rfl)
theorem dX6_count_68 : decode cX6_count 68 = .ok (.ireturn, 1) := dk_172 (dk_at dksX6_count_3 0 rfl rfl)
theorem dX6_count_69 : decode cX6_count 69 = .ok (.aload_n 0, 1) := dk_42 (dk_at dksX6_count_3 1 rfl rfl)
theorem dX6_count_70 : decode cX6_count 70 = .ok (.getfield 122, 3) := dk_180 0 122 (dk_at dksX6_count_3 2 rfl rfl)
theorem dX6_count_73 : decode cX6_count 73 = .ok (.ireturn, 1) := dk_172 (dk_at dksX6_count_3 5 rfl rfl)
theorem dX6_count_74 : decode cX6_count 74 = .ok (.aload_n 0, 1) := dk_42 (dk_at dksX6_count_3 6 rfl rfl)
theorem dX6_count_75 : decode cX6_count 75 = .ok (.getfield 191, 3) := dk_180 0 191 (dk_at dksX6_count_3 7 rfl rfl)
theorem dX6_count_78 : decode cX6_count 78 = .ok (.ireturn, 1) := dk_172 (dk_at dksX6_count_3 10 rfl rfl)
theorem dX6_count_79 : decode cX6_count 79 = .ok (.iconst (-1), 1) := dk_2 (dk_at dksX6_count_3 11 rfl rfl)
theorem dX6_count_80 : decode cX6_count 80 = .ok (.ireturn, 1) := dk_172 (dk_at dksX6_count_3 12 rfl rfl)
theorem q51 : (Jvm.Cond.initialized "BombFamiliesModel") ∈ lw_all := lw_g (lw_at lw_m1 10 rfl) rfl
theorem q494 : (Jvm.Cond.instantiable "BombFamiliesModel" (31 : Nat)) ∈ lw_all := lw_g (lw_at lw_m2 213 rfl) rfl
theorem q496 : (Jvm.Cond.instanceMethod ({ cls := "BombFamiliesModel", name := "<init>", desc := "(J)V" } : Jvm.MethodName)) ∈ lw_all := lw_g (lw_at lw_m2 215 rfl) rfl
theorem q497 : (Jvm.Cond.code ({ cls := "BombFamiliesModel", name := "<init>", desc := "(J)V" } : Jvm.MethodName) prog_8_method_1_code (3 : Nat) (Option.none : Option Jvm.ClassFile.FieldType)) ∈ lw_all := lw_g (lw_at lw_m2 216 rfl) rfl
theorem q498 : (Jvm.Cond.methodLink "BombFamiliesModel" (1 : Nat) ({ cls := "java/lang/Object", name := "<init>", desc := "()V" } : Jvm.MethodName)) ∈ lw_all := lw_g (lw_at lw_m2 217 rfl) rfl
theorem q499 : (Jvm.Cond.fieldLink "BombFamiliesModel" (68 : Nat) "BombFamiliesModel" "seed" "J") ∈ lw_all := lw_g (lw_at lw_m2 218 rfl) rfl
theorem q500 : (Jvm.Cond.fieldLink "BombFamiliesModel" (7 : Nat) "BombFamiliesModel" "tape" "[I") ∈ lw_all := lw_g (lw_at lw_m2 219 rfl) rfl
theorem q501 : (Jvm.Cond.fieldLink "BombFamiliesModel" (78 : Nat) "BombFamiliesModel" "size" "I") ∈ lw_all := lw_g (lw_at lw_m2 220 rfl) rfl
theorem q502 : (Jvm.Cond.fieldLink "BombFamiliesModel" (13 : Nat) "BombFamiliesModel" "out" "[I") ∈ lw_all := lw_g (lw_at lw_m2 221 rfl) rfl
theorem q503 : (Jvm.Cond.fieldLink "BombFamiliesModel" (140 : Nat) "BombFamiliesModel" "outSize" "I") ∈ lw_all := lw_g (lw_at lw_m2 222 rfl) rfl
theorem q504 : (Jvm.Cond.fieldLink "BombFamiliesModel" (146 : Nat) "BombFamiliesModel" "most" "I") ∈ lw_all := lw_g (lw_at lw_m2 223 rfl) rfl
theorem q505 : (Jvm.Cond.fieldLink "BombFamiliesModel" (128 : Nat) "BombFamiliesModel" "limit" "I") ∈ lw_all := lw_g (lw_at lw_m2 224 rfl) rfl
theorem q506 : (Jvm.Cond.fieldLink "BombFamiliesModel" (178 : Nat) "BombFamiliesModel" "deepest" "I") ∈ lw_all := lw_g (lw_at lw_m2 225 rfl) rfl
theorem q507 : (Jvm.Cond.fieldLink "BombFamiliesModel" (122 : Nat) "BombFamiliesModel" "fault" "I") ∈ lw_all := lw_g (lw_at lw_m2 226 rfl) rfl
theorem q508 : (Jvm.Cond.fieldLink "BombFamiliesModel" (16 : Nat) "BombFamiliesModel" "place" "I") ∈ lw_all := lw_g (lw_at lw_m2 227 rfl) rfl
theorem q509 : (Jvm.Cond.fieldLink "BombFamiliesModel" (125 : Nat) "BombFamiliesModel" "used" "I") ∈ lw_all := lw_g (lw_at lw_m2 228 rfl) rfl
theorem q510 : (Jvm.Cond.fieldLink "BombFamiliesModel" (143 : Nat) "BombFamiliesModel" "reached" "I") ∈ lw_all := lw_g (lw_at lw_m2 229 rfl) rfl
theorem q511 : (Jvm.Cond.fieldLink "BombFamiliesModel" (134 : Nat) "BombFamiliesModel" "packs" "I") ∈ lw_all := lw_g (lw_at lw_m2 230 rfl) rfl
theorem q512 : (Jvm.Cond.fieldLink "BombFamiliesModel" (191 : Nat) "BombFamiliesModel" "reads" "I") ∈ lw_all := lw_g (lw_at lw_m2 231 rfl) rfl
theorem q513 : (Jvm.Cond.fieldLink "BombFamiliesModel" (137 : Nat) "BombFamiliesModel" "top" "I") ∈ lw_all := lw_g (lw_at lw_m2 232 rfl) rfl
theorem q514 : (Jvm.Cond.fieldLink "BombFamiliesModel" (20 : Nat) "BombFamiliesModel" "from" "[I") ∈ lw_all := lw_g (lw_at lw_m2 233 rfl) rfl
theorem q515 : (Jvm.Cond.fieldLink "BombFamiliesModel" (23 : Nat) "BombFamiliesModel" "end" "[I") ∈ lw_all := lw_g (lw_at lw_m2 234 rfl) rfl
theorem q516 : (Jvm.Cond.fieldLink "BombFamiliesModel" (26 : Nat) "BombFamiliesModel" "next" "[I") ∈ lw_all := lw_g (lw_at lw_m2 235 rfl) rfl
theorem q517 : (Jvm.Cond.fieldLink "BombFamiliesModel" (29 : Nat) "BombFamiliesModel" "outFrom" "[I") ∈ lw_all := lw_g (lw_at lw_m2 236 rfl) rfl
theorem q518 : (Jvm.Cond.fieldLink "BombFamiliesModel" (32 : Nat) "BombFamiliesModel" "itemMany" "[I") ∈ lw_all := lw_g (lw_at lw_m2 237 rfl) rfl
theorem q519 : (Jvm.Cond.fieldLink "BombFamiliesModel" (35 : Nat) "BombFamiliesModel" "came" "[I") ∈ lw_all := lw_g (lw_at lw_m2 238 rfl) rfl
theorem q520 : (Jvm.Cond.fieldLink "BombFamiliesModel" (38 : Nat) "BombFamiliesModel" "itemAt" "[I") ∈ lw_all := lw_g (lw_at lw_m2 239 rfl) rfl
theorem q521 : (Jvm.Cond.fieldLink "BombFamiliesModel" (41 : Nat) "BombFamiliesModel" "itemOut" "[I") ∈ lw_all := lw_g (lw_at lw_m3 0 rfl) rfl
theorem q522 : (Jvm.Cond.fieldLink "BombFamiliesModel" (44 : Nat) "BombFamiliesModel" "itemUsed" "[I") ∈ lw_all := lw_g (lw_at lw_m3 1 rfl) rfl
theorem q523 : (Jvm.Cond.fieldLink "BombFamiliesModel" (47 : Nat) "BombFamiliesModel" "kinds" "[I") ∈ lw_all := lw_g (lw_at lw_m3 2 rfl) rfl
theorem q524 : (Jvm.Cond.fieldLink "BombFamiliesModel" (50 : Nat) "BombFamiliesModel" "places" "[I") ∈ lw_all := lw_g (lw_at lw_m3 3 rfl) rfl
theorem q525 : (Jvm.Cond.fieldLink "BombFamiliesModel" (53 : Nat) "BombFamiliesModel" "cames" "[I") ∈ lw_all := lw_g (lw_at lw_m3 4 rfl) rfl
theorem q526 : (Jvm.Cond.fieldLink "BombFamiliesModel" (56 : Nat) "BombFamiliesModel" "costs" "[I") ∈ lw_all := lw_g (lw_at lw_m3 5 rfl) rfl
theorem q527 : (Jvm.Cond.fieldLink "BombFamiliesModel" (59 : Nat) "BombFamiliesModel" "codes" "[I") ∈ lw_all := lw_g (lw_at lw_m3 6 rfl) rfl
theorem q528 : (Jvm.Cond.fieldLink "BombFamiliesModel" (62 : Nat) "BombFamiliesModel" "kept" "[I") ∈ lw_all := lw_g (lw_at lw_m3 7 rfl) rfl
theorem q529 : (Jvm.Cond.fieldLink "BombFamiliesModel" (65 : Nat) "BombFamiliesModel" "oldPlaces" "[I") ∈ lw_all := lw_g (lw_at lw_m3 8 rfl) rfl
theorem q530 : (Jvm.Cond.lays "BombFamiliesModel" "BombFamiliesModel" "seed" "J") ∈ lw_all := lw_g (lw_at lw_m3 9 rfl) rfl
theorem q531 : (Jvm.Cond.soleField "BombFamiliesModel" "seed") ∈ lw_all := lw_g (lw_at lw_m3 10 rfl) rfl
theorem q532 : (Jvm.Cond.laysFinal "BombFamiliesModel" "BombFamiliesModel" "tape" "[I") ∈ lw_all := lw_g (lw_at lw_m3 11 rfl) rfl
theorem q533 : (Jvm.Cond.soleField "BombFamiliesModel" "tape") ∈ lw_all := lw_g (lw_at lw_m3 12 rfl) rfl
theorem q534 : (Jvm.Cond.lays "BombFamiliesModel" "BombFamiliesModel" "size" "I") ∈ lw_all := lw_g (lw_at lw_m3 13 rfl) rfl
theorem q535 : (Jvm.Cond.soleField "BombFamiliesModel" "size") ∈ lw_all := lw_g (lw_at lw_m3 14 rfl) rfl
theorem q536 : (Jvm.Cond.laysFinal "BombFamiliesModel" "BombFamiliesModel" "out" "[I") ∈ lw_all := lw_g (lw_at lw_m3 15 rfl) rfl
theorem q537 : (Jvm.Cond.soleField "BombFamiliesModel" "out") ∈ lw_all := lw_g (lw_at lw_m3 16 rfl) rfl
theorem q538 : (Jvm.Cond.lays "BombFamiliesModel" "BombFamiliesModel" "outSize" "I") ∈ lw_all := lw_g (lw_at lw_m3 17 rfl) rfl
theorem q539 : (Jvm.Cond.soleField "BombFamiliesModel" "outSize") ∈ lw_all := lw_g (lw_at lw_m3 18 rfl) rfl
theorem q540 : (Jvm.Cond.lays "BombFamiliesModel" "BombFamiliesModel" "most" "I") ∈ lw_all := lw_g (lw_at lw_m3 19 rfl) rfl
theorem q541 : (Jvm.Cond.soleField "BombFamiliesModel" "most") ∈ lw_all := lw_g (lw_at lw_m3 20 rfl) rfl
theorem q542 : (Jvm.Cond.lays "BombFamiliesModel" "BombFamiliesModel" "limit" "I") ∈ lw_all := lw_g (lw_at lw_m3 21 rfl) rfl
theorem q543 : (Jvm.Cond.soleField "BombFamiliesModel" "limit") ∈ lw_all := lw_g (lw_at lw_m3 22 rfl) rfl
theorem q544 : (Jvm.Cond.lays "BombFamiliesModel" "BombFamiliesModel" "deepest" "I") ∈ lw_all := lw_g (lw_at lw_m3 23 rfl) rfl
theorem q545 : (Jvm.Cond.soleField "BombFamiliesModel" "deepest") ∈ lw_all := lw_g (lw_at lw_m3 24 rfl) rfl
theorem q546 : (Jvm.Cond.lays "BombFamiliesModel" "BombFamiliesModel" "fault" "I") ∈ lw_all := lw_g (lw_at lw_m3 25 rfl) rfl
theorem q547 : (Jvm.Cond.soleField "BombFamiliesModel" "fault") ∈ lw_all := lw_g (lw_at lw_m3 26 rfl) rfl
theorem q548 : (Jvm.Cond.lays "BombFamiliesModel" "BombFamiliesModel" "place" "I") ∈ lw_all := lw_g (lw_at lw_m3 27 rfl) rfl
theorem q549 : (Jvm.Cond.soleField "BombFamiliesModel" "place") ∈ lw_all := lw_g (lw_at lw_m3 28 rfl) rfl
theorem q550 : (Jvm.Cond.lays "BombFamiliesModel" "BombFamiliesModel" "used" "I") ∈ lw_all := lw_g (lw_at lw_m3 29 rfl) rfl
theorem q551 : (Jvm.Cond.soleField "BombFamiliesModel" "used") ∈ lw_all := lw_g (lw_at lw_m3 30 rfl) rfl
theorem q552 : (Jvm.Cond.lays "BombFamiliesModel" "BombFamiliesModel" "reached" "I") ∈ lw_all := lw_g (lw_at lw_m3 31 rfl) rfl
theorem q553 : (Jvm.Cond.soleField "BombFamiliesModel" "reached") ∈ lw_all := lw_g (lw_at lw_m3 32 rfl) rfl
theorem q554 : (Jvm.Cond.lays "BombFamiliesModel" "BombFamiliesModel" "packs" "I") ∈ lw_all := lw_g (lw_at lw_m3 33 rfl) rfl
theorem q555 : (Jvm.Cond.soleField "BombFamiliesModel" "packs") ∈ lw_all := lw_g (lw_at lw_m3 34 rfl) rfl
theorem q556 : (Jvm.Cond.lays "BombFamiliesModel" "BombFamiliesModel" "reads" "I") ∈ lw_all := lw_g (lw_at lw_m3 35 rfl) rfl
theorem q557 : (Jvm.Cond.soleField "BombFamiliesModel" "reads") ∈ lw_all := lw_g (lw_at lw_m3 36 rfl) rfl
theorem q558 : (Jvm.Cond.lays "BombFamiliesModel" "BombFamiliesModel" "top" "I") ∈ lw_all := lw_g (lw_at lw_m3 37 rfl) rfl
theorem q559 : (Jvm.Cond.soleField "BombFamiliesModel" "top") ∈ lw_all := lw_g (lw_at lw_m3 38 rfl) rfl
theorem q560 : (Jvm.Cond.laysFinal "BombFamiliesModel" "BombFamiliesModel" "from" "[I") ∈ lw_all := lw_g (lw_at lw_m3 39 rfl) rfl
theorem q561 : (Jvm.Cond.soleField "BombFamiliesModel" "from") ∈ lw_all := lw_g (lw_at lw_m3 40 rfl) rfl
theorem q562 : (Jvm.Cond.laysFinal "BombFamiliesModel" "BombFamiliesModel" "end" "[I") ∈ lw_all := lw_g (lw_at lw_m3 41 rfl) rfl
theorem q563 : (Jvm.Cond.soleField "BombFamiliesModel" "end") ∈ lw_all := lw_g (lw_at lw_m3 42 rfl) rfl
theorem q564 : (Jvm.Cond.laysFinal "BombFamiliesModel" "BombFamiliesModel" "next" "[I") ∈ lw_all := lw_g (lw_at lw_m3 43 rfl) rfl
theorem q565 : (Jvm.Cond.soleField "BombFamiliesModel" "next") ∈ lw_all := lw_g (lw_at lw_m3 44 rfl) rfl
theorem q566 : (Jvm.Cond.laysFinal "BombFamiliesModel" "BombFamiliesModel" "outFrom" "[I") ∈ lw_all := lw_g (lw_at lw_m3 45 rfl) rfl
theorem q567 : (Jvm.Cond.soleField "BombFamiliesModel" "outFrom") ∈ lw_all := lw_g (lw_at lw_m3 46 rfl) rfl
theorem q568 : (Jvm.Cond.laysFinal "BombFamiliesModel" "BombFamiliesModel" "itemMany" "[I") ∈ lw_all := lw_g (lw_at lw_m3 47 rfl) rfl
theorem q569 : (Jvm.Cond.soleField "BombFamiliesModel" "itemMany") ∈ lw_all := lw_g (lw_at lw_m3 48 rfl) rfl
theorem q570 : (Jvm.Cond.laysFinal "BombFamiliesModel" "BombFamiliesModel" "came" "[I") ∈ lw_all := lw_g (lw_at lw_m3 49 rfl) rfl
theorem q571 : (Jvm.Cond.soleField "BombFamiliesModel" "came") ∈ lw_all := lw_g (lw_at lw_m3 50 rfl) rfl
theorem q572 : (Jvm.Cond.laysFinal "BombFamiliesModel" "BombFamiliesModel" "itemAt" "[I") ∈ lw_all := lw_g (lw_at lw_m3 51 rfl) rfl
theorem q573 : (Jvm.Cond.soleField "BombFamiliesModel" "itemAt") ∈ lw_all := lw_g (lw_at lw_m3 52 rfl) rfl
theorem q574 : (Jvm.Cond.laysFinal "BombFamiliesModel" "BombFamiliesModel" "itemOut" "[I") ∈ lw_all := lw_g (lw_at lw_m3 53 rfl) rfl
theorem q575 : (Jvm.Cond.soleField "BombFamiliesModel" "itemOut") ∈ lw_all := lw_g (lw_at lw_m3 54 rfl) rfl
theorem q576 : (Jvm.Cond.laysFinal "BombFamiliesModel" "BombFamiliesModel" "itemUsed" "[I") ∈ lw_all := lw_g (lw_at lw_m3 55 rfl) rfl
theorem q577 : (Jvm.Cond.soleField "BombFamiliesModel" "itemUsed") ∈ lw_all := lw_g (lw_at lw_m3 56 rfl) rfl
theorem q578 : (Jvm.Cond.laysFinal "BombFamiliesModel" "BombFamiliesModel" "kinds" "[I") ∈ lw_all := lw_g (lw_at lw_m3 57 rfl) rfl
theorem q579 : (Jvm.Cond.soleField "BombFamiliesModel" "kinds") ∈ lw_all := lw_g (lw_at lw_m3 58 rfl) rfl
theorem q580 : (Jvm.Cond.laysFinal "BombFamiliesModel" "BombFamiliesModel" "places" "[I") ∈ lw_all := lw_g (lw_at lw_m3 59 rfl) rfl
theorem q581 : (Jvm.Cond.soleField "BombFamiliesModel" "places") ∈ lw_all := lw_g (lw_at lw_m3 60 rfl) rfl
theorem q582 : (Jvm.Cond.laysFinal "BombFamiliesModel" "BombFamiliesModel" "cames" "[I") ∈ lw_all := lw_g (lw_at lw_m3 61 rfl) rfl
theorem q583 : (Jvm.Cond.soleField "BombFamiliesModel" "cames") ∈ lw_all := lw_g (lw_at lw_m3 62 rfl) rfl
theorem q584 : (Jvm.Cond.laysFinal "BombFamiliesModel" "BombFamiliesModel" "costs" "[I") ∈ lw_all := lw_g (lw_at lw_m3 63 rfl) rfl
theorem q585 : (Jvm.Cond.soleField "BombFamiliesModel" "costs") ∈ lw_all := lw_g (lw_at lw_m3 64 rfl) rfl
theorem q586 : (Jvm.Cond.laysFinal "BombFamiliesModel" "BombFamiliesModel" "codes" "[I") ∈ lw_all := lw_g (lw_at lw_m3 65 rfl) rfl
theorem q587 : (Jvm.Cond.soleField "BombFamiliesModel" "codes") ∈ lw_all := lw_g (lw_at lw_m3 66 rfl) rfl
theorem q588 : (Jvm.Cond.laysFinal "BombFamiliesModel" "BombFamiliesModel" "kept" "[I") ∈ lw_all := lw_g (lw_at lw_m3 67 rfl) rfl
theorem q589 : (Jvm.Cond.soleField "BombFamiliesModel" "kept") ∈ lw_all := lw_g (lw_at lw_m3 68 rfl) rfl
theorem q590 : (Jvm.Cond.laysFinal "BombFamiliesModel" "BombFamiliesModel" "oldPlaces" "[I") ∈ lw_all := lw_g (lw_at lw_m3 69 rfl) rfl
theorem q591 : (Jvm.Cond.soleField "BombFamiliesModel" "oldPlaces") ∈ lw_all := lw_g (lw_at lw_m3 70 rfl) rfl
theorem q592 : (Jvm.Cond.superclass "BombFamiliesModel" "java/lang/Object") ∈ lw_all := lw_g (lw_at lw_m3 71 rfl) rfl
theorem q594 : (Jvm.Cond.instanceMethod ({ cls := "BombFamiliesModel", name := "feed", desc := "(IJ)I" } : Jvm.MethodName)) ∈ lw_all := lw_g (lw_at lw_m3 73 rfl) rfl
theorem q595 : (Jvm.Cond.selects "BombFamiliesModel" ({ cls := "BombFamiliesModel", name := "feed", desc := "(IJ)I" } : Jvm.MethodName) ({ cls := "BombFamiliesModel", name := "feed", desc := "(IJ)I" } : Jvm.MethodName)) ∈ lw_all := lw_g (lw_at lw_m3 74 rfl) rfl
theorem q596 : (Jvm.Cond.code ({ cls := "BombFamiliesModel", name := "feed", desc := "(IJ)I" } : Jvm.MethodName) prog_8_method_3_code (5 : Nat) (Option.some Jvm.ClassFile.FieldType.int)) ∈ lw_all := lw_g (lw_at lw_m3 75 rfl) rfl
theorem q597 : (Jvm.Cond.constantLong "BombFamiliesModel" (72 : Nat) (8 : Int64)) ∈ lw_all := lw_g (lw_at lw_m3 76 rfl) rfl
theorem q598 : (Jvm.Cond.methodLink "BombFamiliesModel" (74 : Nat) ({ cls := "BombFamiliesModel", name := "in", desc := "(JJJ)Z" } : Jvm.MethodName)) ∈ lw_all := lw_g (lw_at lw_m3 77 rfl) rfl
theorem q599 : (Jvm.Cond.static ({ cls := "BombFamiliesModel", name := "in", desc := "(JJJ)Z" } : Jvm.MethodName)) ∈ lw_all := lw_g (lw_at lw_m3 78 rfl) rfl
theorem q600 : (Jvm.Cond.code ({ cls := "BombFamiliesModel", name := "in", desc := "(JJJ)Z" } : Jvm.MethodName) prog_8_method_2_code (6 : Nat) (Option.some Jvm.ClassFile.FieldType.boolean)) ∈ lw_all := lw_g (lw_at lw_m3 79 rfl) rfl
theorem q601 : (Jvm.Cond.constantLong "BombFamiliesModel" (81 : Nat) (255 : Int64)) ∈ lw_all := lw_g (lw_at lw_m3 80 rfl) rfl
theorem q602 : (Jvm.Cond.methodLink "BombFamiliesModel" (83 : Nat) ({ cls := "BombFamiliesModel", name := "lay", desc := "(I)V" } : Jvm.MethodName)) ∈ lw_all := lw_g (lw_at lw_m3 81 rfl) rfl
theorem q603 : (Jvm.Cond.privateMethod ({ cls := "BombFamiliesModel", name := "lay", desc := "(I)V" } : Jvm.MethodName)) ∈ lw_tbl := lw_at lw_m3 82 rfl
theorem q604 : (Jvm.Cond.instanceMethod ({ cls := "BombFamiliesModel", name := "lay", desc := "(I)V" } : Jvm.MethodName)) ∈ lw_all := lw_g (lw_at lw_m3 83 rfl) rfl
theorem q605 : (Jvm.Cond.code ({ cls := "BombFamiliesModel", name := "lay", desc := "(I)V" } : Jvm.MethodName) prog_8_method_4_code (2 : Nat) (Option.none : Option Jvm.ClassFile.FieldType)) ∈ lw_all := lw_g (lw_at lw_m3 84 rfl) rfl
theorem q607 : (Jvm.Cond.instanceMethod ({ cls := "BombFamiliesModel", name := "cut", desc := "(I)I" } : Jvm.MethodName)) ∈ lw_all := lw_g (lw_at lw_m3 86 rfl) rfl
theorem q608 : (Jvm.Cond.selects "BombFamiliesModel" ({ cls := "BombFamiliesModel", name := "cut", desc := "(I)I" } : Jvm.MethodName) ({ cls := "BombFamiliesModel", name := "cut", desc := "(I)I" } : Jvm.MethodName)) ∈ lw_all := lw_g (lw_at lw_m3 87 rfl) rfl
theorem q609 : (Jvm.Cond.code ({ cls := "BombFamiliesModel", name := "cut", desc := "(I)I" } : Jvm.MethodName) prog_8_method_5_code (3 : Nat) (Option.some Jvm.ClassFile.FieldType.int)) ∈ lw_all := lw_g (lw_at lw_m3 88 rfl) rfl
theorem q611 : (Jvm.Cond.instanceMethod ({ cls := "BombFamiliesModel", name := "alter", desc := "(II)I" } : Jvm.MethodName)) ∈ lw_all := lw_g (lw_at lw_m3 90 rfl) rfl
theorem q612 : (Jvm.Cond.selects "BombFamiliesModel" ({ cls := "BombFamiliesModel", name := "alter", desc := "(II)I" } : Jvm.MethodName) ({ cls := "BombFamiliesModel", name := "alter", desc := "(II)I" } : Jvm.MethodName)) ∈ lw_all := lw_g (lw_at lw_m3 91 rfl) rfl
theorem q613 : (Jvm.Cond.code ({ cls := "BombFamiliesModel", name := "alter", desc := "(II)I" } : Jvm.MethodName) prog_8_method_6_code (4 : Nat) (Option.some Jvm.ClassFile.FieldType.int)) ∈ lw_all := lw_g (lw_at lw_m3 92 rfl) rfl
theorem q615 : (Jvm.Cond.instanceMethod ({ cls := "BombFamiliesModel", name := "at", desc := "(I)I" } : Jvm.MethodName)) ∈ lw_all := lw_g (lw_at lw_m3 94 rfl) rfl
theorem q616 : (Jvm.Cond.selects "BombFamiliesModel" ({ cls := "BombFamiliesModel", name := "at", desc := "(I)I" } : Jvm.MethodName) ({ cls := "BombFamiliesModel", name := "at", desc := "(I)I" } : Jvm.MethodName)) ∈ lw_all := lw_g (lw_at lw_m3 95 rfl) rfl
theorem q617 : (Jvm.Cond.code ({ cls := "BombFamiliesModel", name := "at", desc := "(I)I" } : Jvm.MethodName) prog_8_method_7_code (2 : Nat) (Option.some Jvm.ClassFile.FieldType.int)) ∈ lw_all := lw_g (lw_at lw_m3 96 rfl) rfl
theorem q619 : (Jvm.Cond.instanceMethod ({ cls := "BombFamiliesModel", name := "mend", desc := "()I" } : Jvm.MethodName)) ∈ lw_all := lw_g (lw_at lw_m3 98 rfl) rfl
theorem q620 : (Jvm.Cond.selects "BombFamiliesModel" ({ cls := "BombFamiliesModel", name := "mend", desc := "()I" } : Jvm.MethodName) ({ cls := "BombFamiliesModel", name := "mend", desc := "()I" } : Jvm.MethodName)) ∈ lw_all := lw_g (lw_at lw_m3 99 rfl) rfl
theorem q621 : (Jvm.Cond.code ({ cls := "BombFamiliesModel", name := "mend", desc := "()I" } : Jvm.MethodName) prog_8_method_9_code (1 : Nat) (Option.some Jvm.ClassFile.FieldType.int)) ∈ lw_all := lw_g (lw_at lw_m3 100 rfl) rfl
theorem q622 : (Jvm.Cond.methodLink "BombFamiliesModel" (87 : Nat) ({ cls := "BombFamiliesModel", name := "sumOf", desc := "(II)I" } : Jvm.MethodName)) ∈ lw_all := lw_g (lw_at lw_m3 101 rfl) rfl
theorem q623 : (Jvm.Cond.privateMethod ({ cls := "BombFamiliesModel", name := "sumOf", desc := "(II)I" } : Jvm.MethodName)) ∈ lw_tbl := lw_at lw_m3 102 rfl
theorem q624 : (Jvm.Cond.instanceMethod ({ cls := "BombFamiliesModel", name := "sumOf", desc := "(II)I" } : Jvm.MethodName)) ∈ lw_all := lw_g (lw_at lw_m3 103 rfl) rfl
theorem q625 : (Jvm.Cond.code ({ cls := "BombFamiliesModel", name := "sumOf", desc := "(II)I" } : Jvm.MethodName) prog_8_method_8_code (5 : Nat) (Option.some Jvm.ClassFile.FieldType.int)) ∈ lw_all := lw_g (lw_at lw_m3 104 rfl) rfl
theorem q627 : (Jvm.Cond.instanceMethod ({ cls := "BombFamiliesModel", name := "draw", desc := "(II)I" } : Jvm.MethodName)) ∈ lw_all := lw_g (lw_at lw_m3 106 rfl) rfl
theorem q628 : (Jvm.Cond.selects "BombFamiliesModel" ({ cls := "BombFamiliesModel", name := "draw", desc := "(II)I" } : Jvm.MethodName) ({ cls := "BombFamiliesModel", name := "draw", desc := "(II)I" } : Jvm.MethodName)) ∈ lw_all := lw_g (lw_at lw_m3 107 rfl) rfl
theorem q629 : (Jvm.Cond.code ({ cls := "BombFamiliesModel", name := "draw", desc := "(II)I" } : Jvm.MethodName) prog_8_method_17_code (4 : Nat) (Option.some Jvm.ClassFile.FieldType.int)) ∈ lw_all := lw_g (lw_at lw_m3 108 rfl) rfl
theorem q630 : (Jvm.Cond.constantLong "BombFamiliesModel" (112 : Nat) (9 : Int64)) ∈ lw_all := lw_g (lw_at lw_m3 109 rfl) rfl
theorem q631 : (Jvm.Cond.constantLong "BombFamiliesModel" (114 : Nat) (60 : Int64)) ∈ lw_all := lw_g (lw_at lw_m3 110 rfl) rfl
theorem q632 : (Jvm.Cond.methodLink "BombFamiliesModel" (116 : Nat) ({ cls := "BombFamiliesModel", name := "deep", desc := "(I)V" } : Jvm.MethodName)) ∈ lw_all := lw_g (lw_at lw_m3 111 rfl) rfl
theorem q633 : (Jvm.Cond.privateMethod ({ cls := "BombFamiliesModel", name := "deep", desc := "(I)V" } : Jvm.MethodName)) ∈ lw_tbl := lw_at lw_m3 112 rfl
theorem q634 : (Jvm.Cond.instanceMethod ({ cls := "BombFamiliesModel", name := "deep", desc := "(I)V" } : Jvm.MethodName)) ∈ lw_all := lw_g (lw_at lw_m3 113 rfl) rfl
theorem q635 : (Jvm.Cond.code ({ cls := "BombFamiliesModel", name := "deep", desc := "(I)V" } : Jvm.MethodName) prog_8_method_15_code (4 : Nat) (Option.none : Option Jvm.ClassFile.FieldType)) ∈ lw_all := lw_g (lw_at lw_m3 114 rfl) rfl
theorem q636 : (Jvm.Cond.methodLink "BombFamiliesModel" (95 : Nat) ({ cls := "BombFamiliesModel", name := "lays", desc := "(II)V" } : Jvm.MethodName)) ∈ lw_all := lw_g (lw_at lw_m3 115 rfl) rfl
theorem q637 : (Jvm.Cond.privateMethod ({ cls := "BombFamiliesModel", name := "lays", desc := "(II)V" } : Jvm.MethodName)) ∈ lw_tbl := lw_at lw_m3 116 rfl
theorem q638 : (Jvm.Cond.instanceMethod ({ cls := "BombFamiliesModel", name := "lays", desc := "(II)V" } : Jvm.MethodName)) ∈ lw_all := lw_g (lw_at lw_m3 117 rfl) rfl
theorem q639 : (Jvm.Cond.code ({ cls := "BombFamiliesModel", name := "lays", desc := "(II)V" } : Jvm.MethodName) prog_8_method_11_code (3 : Nat) (Option.none : Option Jvm.ClassFile.FieldType)) ∈ lw_all := lw_g (lw_at lw_m3 118 rfl) rfl
theorem q640 : (Jvm.Cond.methodLink "BombFamiliesModel" (103 : Nat) ({ cls := "BombFamiliesModel", name := "some", desc := "(II)V" } : Jvm.MethodName)) ∈ lw_all := lw_g (lw_at lw_m3 119 rfl) rfl
theorem q641 : (Jvm.Cond.privateMethod ({ cls := "BombFamiliesModel", name := "some", desc := "(II)V" } : Jvm.MethodName)) ∈ lw_tbl := lw_at lw_m3 120 rfl
theorem q642 : (Jvm.Cond.instanceMethod ({ cls := "BombFamiliesModel", name := "some", desc := "(II)V" } : Jvm.MethodName)) ∈ lw_all := lw_g (lw_at lw_m3 121 rfl) rfl
theorem q643 : (Jvm.Cond.code ({ cls := "BombFamiliesModel", name := "some", desc := "(II)V" } : Jvm.MethodName) prog_8_method_13_code (4 : Nat) (Option.none : Option Jvm.ClassFile.FieldType)) ∈ lw_all := lw_g (lw_at lw_m3 122 rfl) rfl
theorem q644 : (Jvm.Cond.methodLink "BombFamiliesModel" (99 : Nat) ({ cls := "BombFamiliesModel", name := "draws", desc := "(I)I" } : Jvm.MethodName)) ∈ lw_all := lw_g (lw_at lw_m3 123 rfl) rfl
theorem q645 : (Jvm.Cond.privateMethod ({ cls := "BombFamiliesModel", name := "draws", desc := "(I)I" } : Jvm.MethodName)) ∈ lw_tbl := lw_at lw_m3 124 rfl
theorem q646 : (Jvm.Cond.instanceMethod ({ cls := "BombFamiliesModel", name := "draws", desc := "(I)I" } : Jvm.MethodName)) ∈ lw_all := lw_g (lw_at lw_m3 125 rfl) rfl
theorem q647 : (Jvm.Cond.code ({ cls := "BombFamiliesModel", name := "draws", desc := "(I)I" } : Jvm.MethodName) prog_8_method_10_code (2 : Nat) (Option.some Jvm.ClassFile.FieldType.int)) ∈ lw_all := lw_g (lw_at lw_m3 126 rfl) rfl
theorem q648 : (Jvm.Cond.constantLong "BombFamiliesModel" (91 : Nat) (6364136223846793005 : Int64)) ∈ lw_all := lw_g (lw_at lw_m3 127 rfl) rfl
theorem q649 : (Jvm.Cond.constantLong "BombFamiliesModel" (93 : Nat) (1442695040888963407 : Int64)) ∈ lw_all := lw_g (lw_at lw_m3 128 rfl) rfl
theorem q650 : (Jvm.Cond.methodLink "BombFamiliesModel" (106 : Nat) ({ cls := "BombFamiliesModel", name := "close", desc := "(I)V" } : Jvm.MethodName)) ∈ lw_all := lw_g (lw_at lw_m3 129 rfl) rfl
theorem q651 : (Jvm.Cond.privateMethod ({ cls := "BombFamiliesModel", name := "close", desc := "(I)V" } : Jvm.MethodName)) ∈ lw_tbl := lw_at lw_m3 130 rfl
theorem q652 : (Jvm.Cond.instanceMethod ({ cls := "BombFamiliesModel", name := "close", desc := "(I)V" } : Jvm.MethodName)) ∈ lw_all := lw_g (lw_at lw_m3 131 rfl) rfl
theorem q653 : (Jvm.Cond.code ({ cls := "BombFamiliesModel", name := "close", desc := "(I)V" } : Jvm.MethodName) prog_8_method_12_code (2 : Nat) (Option.none : Option Jvm.ClassFile.FieldType)) ∈ lw_all := lw_g (lw_at lw_m3 132 rfl) rfl
theorem q654 : (Jvm.Cond.methodLink "BombFamiliesModel" (119 : Nat) ({ cls := "BombFamiliesModel", name := "family", desc := "(II)V" } : Jvm.MethodName)) ∈ lw_all := lw_g (lw_at lw_m3 133 rfl) rfl
theorem q655 : (Jvm.Cond.privateMethod ({ cls := "BombFamiliesModel", name := "family", desc := "(II)V" } : Jvm.MethodName)) ∈ lw_tbl := lw_at lw_m3 134 rfl
theorem q656 : (Jvm.Cond.instanceMethod ({ cls := "BombFamiliesModel", name := "family", desc := "(II)V" } : Jvm.MethodName)) ∈ lw_all := lw_g (lw_at lw_m3 135 rfl) rfl
theorem q657 : (Jvm.Cond.code ({ cls := "BombFamiliesModel", name := "family", desc := "(II)V" } : Jvm.MethodName) prog_8_method_16_code (4 : Nat) (Option.none : Option Jvm.ClassFile.FieldType)) ∈ lw_all := lw_g (lw_at lw_m3 136 rfl) rfl
theorem q658 : (Jvm.Cond.methodLink "BombFamiliesModel" (109 : Nat) ({ cls := "BombFamiliesModel", name := "drawItem", desc := "(I)V" } : Jvm.MethodName)) ∈ lw_all := lw_g (lw_at lw_m3 137 rfl) rfl
theorem q659 : (Jvm.Cond.privateMethod ({ cls := "BombFamiliesModel", name := "drawItem", desc := "(I)V" } : Jvm.MethodName)) ∈ lw_tbl := lw_at lw_m3 138 rfl
theorem q660 : (Jvm.Cond.instanceMethod ({ cls := "BombFamiliesModel", name := "drawItem", desc := "(I)V" } : Jvm.MethodName)) ∈ lw_all := lw_g (lw_at lw_m3 139 rfl) rfl
theorem q661 : (Jvm.Cond.code ({ cls := "BombFamiliesModel", name := "drawItem", desc := "(I)V" } : Jvm.MethodName) prog_8_method_14_code (5 : Nat) (Option.none : Option Jvm.ClassFile.FieldType)) ∈ lw_all := lw_g (lw_at lw_m3 140 rfl) rfl
theorem q663 : (Jvm.Cond.instanceMethod ({ cls := "BombFamiliesModel", name := "open", desc := "(III)I" } : Jvm.MethodName)) ∈ lw_all := lw_g (lw_at lw_m3 142 rfl) rfl
theorem q664 : (Jvm.Cond.selects "BombFamiliesModel" ({ cls := "BombFamiliesModel", name := "open", desc := "(III)I" } : Jvm.MethodName) ({ cls := "BombFamiliesModel", name := "open", desc := "(III)I" } : Jvm.MethodName)) ∈ lw_all := lw_g (lw_at lw_m3 143 rfl) rfl
theorem q665 : (Jvm.Cond.code ({ cls := "BombFamiliesModel", name := "open", desc := "(III)I" } : Jvm.MethodName) prog_8_method_34_code (4 : Nat) (Option.some Jvm.ClassFile.FieldType.int)) ∈ lw_all := lw_g (lw_at lw_m3 144 rfl) rfl
theorem q666 : (Jvm.Cond.methodLink "BombFamiliesModel" (201 : Nat) ({ cls := "BombFamiliesModel", name := "isGood", desc := "(III)Z" } : Jvm.MethodName)) ∈ lw_all := lw_g (lw_at lw_m3 145 rfl) rfl
theorem q667 : (Jvm.Cond.static ({ cls := "BombFamiliesModel", name := "isGood", desc := "(III)Z" } : Jvm.MethodName)) ∈ lw_all := lw_g (lw_at lw_m3 146 rfl) rfl
theorem q668 : (Jvm.Cond.code ({ cls := "BombFamiliesModel", name := "isGood", desc := "(III)Z" } : Jvm.MethodName) prog_8_method_33_code (3 : Nat) (Option.some Jvm.ClassFile.FieldType.boolean)) ∈ lw_all := lw_g (lw_at lw_m3 147 rfl) rfl
theorem q669 : (Jvm.Cond.constantLong "BombFamiliesModel" (197 : Nat) (4000 : Int64)) ∈ lw_all := lw_g (lw_at lw_m3 148 rfl) rfl
theorem q670 : (Jvm.Cond.constantLong "BombFamiliesModel" (199 : Nat) (20000 : Int64)) ∈ lw_all := lw_g (lw_at lw_m3 149 rfl) rfl
theorem q671 : (Jvm.Cond.methodLink "BombFamiliesModel" (204 : Nat) ({ cls := "BombFamiliesModel", name := "reads", desc := "(III)V" } : Jvm.MethodName)) ∈ lw_all := lw_g (lw_at lw_m3 150 rfl) rfl
theorem q672 : (Jvm.Cond.privateMethod ({ cls := "BombFamiliesModel", name := "reads", desc := "(III)V" } : Jvm.MethodName)) ∈ lw_tbl := lw_at lw_m3 151 rfl
theorem q673 : (Jvm.Cond.instanceMethod ({ cls := "BombFamiliesModel", name := "reads", desc := "(III)V" } : Jvm.MethodName)) ∈ lw_all := lw_g (lw_at lw_m3 152 rfl) rfl
theorem q674 : (Jvm.Cond.code ({ cls := "BombFamiliesModel", name := "reads", desc := "(III)V" } : Jvm.MethodName) prog_8_method_32_code (4 : Nat) (Option.none : Option Jvm.ClassFile.FieldType)) ∈ lw_all := lw_g (lw_at lw_m3 153 rfl) rfl
theorem q675 : (Jvm.Cond.methodLink "BombFamiliesModel" (181 : Nat) ({ cls := "BombFamiliesModel", name := "begins", desc := "(II)V" } : Jvm.MethodName)) ∈ lw_all := lw_g (lw_at lw_m3 154 rfl) rfl
theorem q676 : (Jvm.Cond.privateMethod ({ cls := "BombFamiliesModel", name := "begins", desc := "(II)V" } : Jvm.MethodName)) ∈ lw_tbl := lw_at lw_m3 155 rfl
theorem q677 : (Jvm.Cond.instanceMethod ({ cls := "BombFamiliesModel", name := "begins", desc := "(II)V" } : Jvm.MethodName)) ∈ lw_all := lw_g (lw_at lw_m3 156 rfl) rfl
theorem q678 : (Jvm.Cond.code ({ cls := "BombFamiliesModel", name := "begins", desc := "(II)V" } : Jvm.MethodName) prog_8_method_19_code (4 : Nat) (Option.none : Option Jvm.ClassFile.FieldType)) ∈ lw_all := lw_g (lw_at lw_m3 157 rfl) rfl
theorem q679 : (Jvm.Cond.methodLink "BombFamiliesModel" (131 : Nat) ({ cls := "BombFamiliesModel", name := "fails", desc := "(II)V" } : Jvm.MethodName)) ∈ lw_all := lw_g (lw_at lw_m3 158 rfl) rfl
theorem q680 : (Jvm.Cond.privateMethod ({ cls := "BombFamiliesModel", name := "fails", desc := "(II)V" } : Jvm.MethodName)) ∈ lw_tbl := lw_at lw_m3 159 rfl
theorem q681 : (Jvm.Cond.instanceMethod ({ cls := "BombFamiliesModel", name := "fails", desc := "(II)V" } : Jvm.MethodName)) ∈ lw_all := lw_g (lw_at lw_m3 160 rfl) rfl
theorem q682 : (Jvm.Cond.code ({ cls := "BombFamiliesModel", name := "fails", desc := "(II)V" } : Jvm.MethodName) prog_8_method_18_code (3 : Nat) (Option.none : Option Jvm.ClassFile.FieldType)) ∈ lw_all := lw_g (lw_at lw_m3 161 rfl) rfl
theorem q683 : (Jvm.Cond.methodLink "BombFamiliesModel" (194 : Nat) ({ cls := "BombFamiliesModel", name := "item", desc := "()V" } : Jvm.MethodName)) ∈ lw_all := lw_g (lw_at lw_m3 162 rfl) rfl
theorem q684 : (Jvm.Cond.privateMethod ({ cls := "BombFamiliesModel", name := "item", desc := "()V" } : Jvm.MethodName)) ∈ lw_tbl := lw_at lw_m3 163 rfl
theorem q685 : (Jvm.Cond.instanceMethod ({ cls := "BombFamiliesModel", name := "item", desc := "()V" } : Jvm.MethodName)) ∈ lw_all := lw_g (lw_at lw_m3 164 rfl) rfl
theorem q686 : (Jvm.Cond.code ({ cls := "BombFamiliesModel", name := "item", desc := "()V" } : Jvm.MethodName) prog_8_method_24_code (4 : Nat) (Option.none : Option Jvm.ClassFile.FieldType)) ∈ lw_all := lw_g (lw_at lw_m3 165 rfl) rfl
theorem q687 : (Jvm.Cond.methodLink "BombFamiliesModel" (149 : Nat) ({ cls := "BombFamiliesModel", name := "has", desc := "(II)Z" } : Jvm.MethodName)) ∈ lw_all := lw_g (lw_at lw_m3 166 rfl) rfl
theorem q688 : (Jvm.Cond.privateMethod ({ cls := "BombFamiliesModel", name := "has", desc := "(II)Z" } : Jvm.MethodName)) ∈ lw_tbl := lw_at lw_m3 167 rfl
theorem q689 : (Jvm.Cond.instanceMethod ({ cls := "BombFamiliesModel", name := "has", desc := "(II)Z" } : Jvm.MethodName)) ∈ lw_all := lw_g (lw_at lw_m3 168 rfl) rfl
theorem q690 : (Jvm.Cond.code ({ cls := "BombFamiliesModel", name := "has", desc := "(II)Z" } : Jvm.MethodName) prog_8_method_21_code (3 : Nat) (Option.some Jvm.ClassFile.FieldType.boolean)) ∈ lw_all := lw_g (lw_at lw_m3 169 rfl) rfl
theorem q691 : (Jvm.Cond.methodLink "BombFamiliesModel" (153 : Nat) ({ cls := "BombFamiliesModel", name := "closes", desc := "(II)V" } : Jvm.MethodName)) ∈ lw_all := lw_g (lw_at lw_m3 170 rfl) rfl
theorem q692 : (Jvm.Cond.privateMethod ({ cls := "BombFamiliesModel", name := "closes", desc := "(II)V" } : Jvm.MethodName)) ∈ lw_tbl := lw_at lw_m3 171 rfl
theorem q693 : (Jvm.Cond.instanceMethod ({ cls := "BombFamiliesModel", name := "closes", desc := "(II)V" } : Jvm.MethodName)) ∈ lw_all := lw_g (lw_at lw_m3 172 rfl) rfl
theorem q694 : (Jvm.Cond.code ({ cls := "BombFamiliesModel", name := "closes", desc := "(II)V" } : Jvm.MethodName) prog_8_method_25_code (3 : Nat) (Option.none : Option Jvm.ClassFile.FieldType)) ∈ lw_all := lw_g (lw_at lw_m3 173 rfl) rfl
theorem q695 : (Jvm.Cond.methodLink "BombFamiliesModel" (163 : Nat) ({ cls := "BombFamiliesModel", name := "ends", desc := "(II)V" } : Jvm.MethodName)) ∈ lw_all := lw_g (lw_at lw_m3 174 rfl) rfl
theorem q696 : (Jvm.Cond.privateMethod ({ cls := "BombFamiliesModel", name := "ends", desc := "(II)V" } : Jvm.MethodName)) ∈ lw_tbl := lw_at lw_m3 175 rfl
theorem q697 : (Jvm.Cond.instanceMethod ({ cls := "BombFamiliesModel", name := "ends", desc := "(II)V" } : Jvm.MethodName)) ∈ lw_all := lw_g (lw_at lw_m3 176 rfl) rfl
theorem q698 : (Jvm.Cond.code ({ cls := "BombFamiliesModel", name := "ends", desc := "(II)V" } : Jvm.MethodName) prog_8_method_20_code (4 : Nat) (Option.none : Option Jvm.ClassFile.FieldType)) ∈ lw_all := lw_g (lw_at lw_m3 177 rfl) rfl
theorem q699 : (Jvm.Cond.methodLink "BombFamiliesModel" (156 : Nat) ({ cls := "BombFamiliesModel", name := "pays", desc := "(III)Z" } : Jvm.MethodName)) ∈ lw_all := lw_g (lw_at lw_m3 178 rfl) rfl
theorem q700 : (Jvm.Cond.privateMethod ({ cls := "BombFamiliesModel", name := "pays", desc := "(III)Z" } : Jvm.MethodName)) ∈ lw_tbl := lw_at lw_m3 179 rfl
theorem q701 : (Jvm.Cond.instanceMethod ({ cls := "BombFamiliesModel", name := "pays", desc := "(III)Z" } : Jvm.MethodName)) ∈ lw_all := lw_g (lw_at lw_m3 180 rfl) rfl
theorem q702 : (Jvm.Cond.code ({ cls := "BombFamiliesModel", name := "pays", desc := "(III)Z" } : Jvm.MethodName) prog_8_method_22_code (4 : Nat) (Option.some Jvm.ClassFile.FieldType.boolean)) ∈ lw_all := lw_g (lw_at lw_m3 181 rfl) rfl
theorem q703 : (Jvm.Cond.methodLink "BombFamiliesModel" (160 : Nat) ({ cls := "BombFamiliesModel", name := "comes", desc := "(I)V" } : Jvm.MethodName)) ∈ lw_all := lw_g (lw_at lw_m3 182 rfl) rfl
theorem q704 : (Jvm.Cond.privateMethod ({ cls := "BombFamiliesModel", name := "comes", desc := "(I)V" } : Jvm.MethodName)) ∈ lw_tbl := lw_at lw_m3 183 rfl
theorem q705 : (Jvm.Cond.instanceMethod ({ cls := "BombFamiliesModel", name := "comes", desc := "(I)V" } : Jvm.MethodName)) ∈ lw_all := lw_g (lw_at lw_m3 184 rfl) rfl
theorem q706 : (Jvm.Cond.code ({ cls := "BombFamiliesModel", name := "comes", desc := "(I)V" } : Jvm.MethodName) prog_8_method_23_code (2 : Nat) (Option.none : Option Jvm.ClassFile.FieldType)) ∈ lw_all := lw_g (lw_at lw_m3 185 rfl) rfl
theorem q707 : (Jvm.Cond.methodLink "BombFamiliesModel" (166 : Nat) ({ cls := "BombFamiliesModel", name := "copy", desc := "(II)V" } : Jvm.MethodName)) ∈ lw_all := lw_g (lw_at lw_m3 186 rfl) rfl
theorem q708 : (Jvm.Cond.privateMethod ({ cls := "BombFamiliesModel", name := "copy", desc := "(II)V" } : Jvm.MethodName)) ∈ lw_tbl := lw_at lw_m3 187 rfl
theorem q709 : (Jvm.Cond.instanceMethod ({ cls := "BombFamiliesModel", name := "copy", desc := "(II)V" } : Jvm.MethodName)) ∈ lw_all := lw_g (lw_at lw_m3 188 rfl) rfl
theorem q710 : (Jvm.Cond.code ({ cls := "BombFamiliesModel", name := "copy", desc := "(II)V" } : Jvm.MethodName) prog_8_method_26_code (5 : Nat) (Option.none : Option Jvm.ClassFile.FieldType)) ∈ lw_all := lw_g (lw_at lw_m3 189 rfl) rfl
theorem q711 : (Jvm.Cond.methodLink "BombFamiliesModel" (169 : Nat) ({ cls := "BombFamiliesModel", name := "nest", desc := "(I)V" } : Jvm.MethodName)) ∈ lw_all := lw_g (lw_at lw_m3 190 rfl) rfl
theorem q712 : (Jvm.Cond.privateMethod ({ cls := "BombFamiliesModel", name := "nest", desc := "(I)V" } : Jvm.MethodName)) ∈ lw_tbl := lw_at lw_m3 191 rfl
theorem q713 : (Jvm.Cond.instanceMethod ({ cls := "BombFamiliesModel", name := "nest", desc := "(I)V" } : Jvm.MethodName)) ∈ lw_all := lw_g (lw_at lw_m3 192 rfl) rfl
theorem q714 : (Jvm.Cond.code ({ cls := "BombFamiliesModel", name := "nest", desc := "(I)V" } : Jvm.MethodName) prog_8_method_27_code (3 : Nat) (Option.none : Option Jvm.ClassFile.FieldType)) ∈ lw_all := lw_g (lw_at lw_m3 193 rfl) rfl
theorem q715 : (Jvm.Cond.methodLink "BombFamiliesModel" (172 : Nat) ({ cls := "BombFamiliesModel", name := "again", desc := "(II)V" } : Jvm.MethodName)) ∈ lw_all := lw_g (lw_at lw_m3 194 rfl) rfl
theorem q716 : (Jvm.Cond.privateMethod ({ cls := "BombFamiliesModel", name := "again", desc := "(II)V" } : Jvm.MethodName)) ∈ lw_tbl := lw_at lw_m3 195 rfl
theorem q717 : (Jvm.Cond.instanceMethod ({ cls := "BombFamiliesModel", name := "again", desc := "(II)V" } : Jvm.MethodName)) ∈ lw_all := lw_g (lw_at lw_m3 196 rfl) rfl
theorem q718 : (Jvm.Cond.code ({ cls := "BombFamiliesModel", name := "again", desc := "(II)V" } : Jvm.MethodName) prog_8_method_28_code (6 : Nat) (Option.none : Option Jvm.ClassFile.FieldType)) ∈ lw_all := lw_g (lw_at lw_m3 197 rfl) rfl
theorem q719 : (Jvm.Cond.methodLink "BombFamiliesModel" (175 : Nat) ({ cls := "BombFamiliesModel", name := "coded", desc := "(II)V" } : Jvm.MethodName)) ∈ lw_all := lw_g (lw_at lw_m3 198 rfl) rfl
theorem q720 : (Jvm.Cond.privateMethod ({ cls := "BombFamiliesModel", name := "coded", desc := "(II)V" } : Jvm.MethodName)) ∈ lw_tbl := lw_at lw_m3 199 rfl
theorem q721 : (Jvm.Cond.instanceMethod ({ cls := "BombFamiliesModel", name := "coded", desc := "(II)V" } : Jvm.MethodName)) ∈ lw_all := lw_g (lw_at lw_m3 200 rfl) rfl
theorem q722 : (Jvm.Cond.code ({ cls := "BombFamiliesModel", name := "coded", desc := "(II)V" } : Jvm.MethodName) prog_8_method_30_code (6 : Nat) (Option.none : Option Jvm.ClassFile.FieldType)) ∈ lw_all := lw_g (lw_at lw_m3 201 rfl) rfl
theorem q723 : (Jvm.Cond.methodLink "BombFamiliesModel" (184 : Nat) ({ cls := "BombFamiliesModel", name := "codesOf", desc := "(II)Z" } : Jvm.MethodName)) ∈ lw_all := lw_g (lw_at lw_m3 202 rfl) rfl
theorem q724 : (Jvm.Cond.privateMethod ({ cls := "BombFamiliesModel", name := "codesOf", desc := "(II)Z" } : Jvm.MethodName)) ∈ lw_tbl := lw_at lw_m3 203 rfl
theorem q725 : (Jvm.Cond.instanceMethod ({ cls := "BombFamiliesModel", name := "codesOf", desc := "(II)Z" } : Jvm.MethodName)) ∈ lw_all := lw_g (lw_at lw_m3 204 rfl) rfl
theorem q726 : (Jvm.Cond.code ({ cls := "BombFamiliesModel", name := "codesOf", desc := "(II)Z" } : Jvm.MethodName) prog_8_method_29_code (9 : Nat) (Option.some Jvm.ClassFile.FieldType.boolean)) ∈ lw_all := lw_g (lw_at lw_m3 205 rfl) rfl
theorem q727 : (Jvm.Cond.methodLink "BombFamiliesModel" (187 : Nat) ({ cls := "BombFamiliesModel", name := "bits", desc := "(IIIII)V" } : Jvm.MethodName)) ∈ lw_all := lw_g (lw_at lw_m3 206 rfl) rfl
theorem q728 : (Jvm.Cond.privateMethod ({ cls := "BombFamiliesModel", name := "bits", desc := "(IIIII)V" } : Jvm.MethodName)) ∈ lw_tbl := lw_at lw_m3 207 rfl
theorem q729 : (Jvm.Cond.instanceMethod ({ cls := "BombFamiliesModel", name := "bits", desc := "(IIIII)V" } : Jvm.MethodName)) ∈ lw_all := lw_g (lw_at lw_m3 208 rfl) rfl
theorem q730 : (Jvm.Cond.code ({ cls := "BombFamiliesModel", name := "bits", desc := "(IIIII)V" } : Jvm.MethodName) prog_8_method_31_code (15 : Nat) (Option.none : Option Jvm.ClassFile.FieldType)) ∈ lw_all := lw_g (lw_at lw_m3 209 rfl) rfl
theorem q732 : (Jvm.Cond.instanceMethod ({ cls := "BombFamiliesModel", name := "place", desc := "()I" } : Jvm.MethodName)) ∈ lw_all := lw_g (lw_at lw_m3 211 rfl) rfl
theorem q733 : (Jvm.Cond.selects "BombFamiliesModel" ({ cls := "BombFamiliesModel", name := "place", desc := "()I" } : Jvm.MethodName) ({ cls := "BombFamiliesModel", name := "place", desc := "()I" } : Jvm.MethodName)) ∈ lw_all := lw_g (lw_at lw_m3 212 rfl) rfl
theorem q734 : (Jvm.Cond.code ({ cls := "BombFamiliesModel", name := "place", desc := "()I" } : Jvm.MethodName) prog_8_method_35_code (1 : Nat) (Option.some Jvm.ClassFile.FieldType.int)) ∈ lw_all := lw_g (lw_at lw_m3 213 rfl) rfl
theorem q736 : (Jvm.Cond.instanceMethod ({ cls := "BombFamiliesModel", name := "out", desc := "(I)I" } : Jvm.MethodName)) ∈ lw_all := lw_g (lw_at lw_m3 215 rfl) rfl
theorem q737 : (Jvm.Cond.selects "BombFamiliesModel" ({ cls := "BombFamiliesModel", name := "out", desc := "(I)I" } : Jvm.MethodName) ({ cls := "BombFamiliesModel", name := "out", desc := "(I)I" } : Jvm.MethodName)) ∈ lw_all := lw_g (lw_at lw_m3 216 rfl) rfl
theorem q738 : (Jvm.Cond.code ({ cls := "BombFamiliesModel", name := "out", desc := "(I)I" } : Jvm.MethodName) prog_8_method_36_code (2 : Nat) (Option.some Jvm.ClassFile.FieldType.int)) ∈ lw_all := lw_g (lw_at lw_m3 217 rfl) rfl
theorem q740 : (Jvm.Cond.instanceMethod ({ cls := "BombFamiliesModel", name := "item", desc := "(II)I" } : Jvm.MethodName)) ∈ lw_all := lw_g (lw_at lw_m3 219 rfl) rfl
theorem q741 : (Jvm.Cond.selects "BombFamiliesModel" ({ cls := "BombFamiliesModel", name := "item", desc := "(II)I" } : Jvm.MethodName) ({ cls := "BombFamiliesModel", name := "item", desc := "(II)I" } : Jvm.MethodName)) ∈ lw_all := lw_g (lw_at lw_m3 220 rfl) rfl
theorem q742 : (Jvm.Cond.code ({ cls := "BombFamiliesModel", name := "item", desc := "(II)I" } : Jvm.MethodName) prog_8_method_37_code (3 : Nat) (Option.some Jvm.ClassFile.FieldType.int)) ∈ lw_all := lw_g (lw_at lw_m3 221 rfl) rfl
theorem q744 : (Jvm.Cond.instanceMethod ({ cls := "BombFamiliesModel", name := "shrink", desc := "(III)I" } : Jvm.MethodName)) ∈ lw_all := lw_g (lw_at lw_m3 223 rfl) rfl
theorem q745 : (Jvm.Cond.selects "BombFamiliesModel" ({ cls := "BombFamiliesModel", name := "shrink", desc := "(III)I" } : Jvm.MethodName) ({ cls := "BombFamiliesModel", name := "shrink", desc := "(III)I" } : Jvm.MethodName)) ∈ lw_all := lw_g (lw_at lw_m3 224 rfl) rfl
theorem q746 : (Jvm.Cond.code ({ cls := "BombFamiliesModel", name := "shrink", desc := "(III)I" } : Jvm.MethodName) prog_8_method_38_code (12 : Nat) (Option.some Jvm.ClassFile.FieldType.int)) ∈ lw_all := lw_g (lw_at lw_m3 225 rfl) rfl
theorem q748 : (Jvm.Cond.instanceMethod ({ cls := "BombFamiliesModel", name := "count", desc := "(I)I" } : Jvm.MethodName)) ∈ lw_all := lw_g (lw_at lw_m3 227 rfl) rfl
theorem q749 : (Jvm.Cond.selects "BombFamiliesModel" ({ cls := "BombFamiliesModel", name := "count", desc := "(I)I" } : Jvm.MethodName) ({ cls := "BombFamiliesModel", name := "count", desc := "(I)I" } : Jvm.MethodName)) ∈ lw_all := lw_g (lw_at lw_m3 228 rfl) rfl
theorem q750 : (Jvm.Cond.code ({ cls := "BombFamiliesModel", name := "count", desc := "(I)I" } : Jvm.MethodName) prog_8_method_39_code (2 : Nat) (Option.some Jvm.ClassFile.FieldType.int)) ∈ lw_all := lw_g (lw_at lw_m3 229 rfl) rfl
theorem in_X6 : ∀ w ∈ wsX60, w ∈ lw_all := lw_in wsX60 [530, 532, 534, 536, 538, 540, 542, 544, 546, 548, 550, 552, 554, 556, 558, 560, 562, 564, 566, 568, 570, 572, 574, 576, 578, 580, 582, 584, 586, 588, 590] (by decide +kernel) (by decide +kernel)

/-! the law's own entry -/
set_option maxRecDepth 100000
abbrev cL_law : ByteArray := code
def dkwL_law_18 : List UInt8 := [4, 96, 46, 182, 0, 75, 159, 0, 5, 3, 172, 132, 3, 4, 167, 254, 65, 4, 172]
abbrev dktL_law_18 : List UInt8 := dkwL_law_18 ++ []
def dkwL_law_17 : List UInt8 := [29, 6, 96, 46, 182, 0, 71, 159, 0, 28, 3, 172, 43, 42, 29, 4, 96, 46, 182, 0, 72, 44, 42, 29]
abbrev dktL_law_17 : List UInt8 := dkwL_law_17 ++ dktL_law_18
def dkwL_law_16 : List UInt8 := [29, 5, 96, 46, 42, 29, 6, 96, 46, 182, 0, 68, 44, 42, 29, 4, 96, 46, 42, 29, 5, 96, 46, 42]
abbrev dktL_law_16 : List UInt8 := dkwL_law_16 ++ dktL_law_17
def dkwL_law_15 : List UInt8 := [29, 4, 96, 46, 42, 29, 5, 96, 46, 182, 0, 67, 159, 0, 71, 3, 172, 43, 42, 29, 4, 96, 46, 42]
abbrev dktL_law_15 : List UInt8 := dkwL_law_15 ++ dktL_law_16
def dkwL_law_14 : List UInt8 := [182, 0, 63, 159, 0, 104, 3, 172, 43, 42, 29, 4, 96, 46, 42, 29, 5, 96, 46, 182, 0, 64, 44, 42]
abbrev dktL_law_14 : List UInt8 := dkwL_law_14 ++ dktL_law_15
def dkwL_law_13 : List UInt8 := [182, 0, 59, 159, 0, 127, 3, 172, 43, 42, 29, 4, 96, 46, 182, 0, 60, 44, 42, 29, 4, 96, 46]
abbrev dktL_law_13 : List UInt8 := dkwL_law_13 ++ dktL_law_14
def dkwL_law_12 : List UInt8 := [29, 5, 96, 46, 42, 29, 6, 96, 46, 182, 0, 55, 159, 0, 140, 3, 172, 43, 182, 0, 56, 44]
abbrev dktL_law_12 : List UInt8 := dkwL_law_12 ++ dktL_law_13
def dkwL_law_11 : List UInt8 := [29, 4, 96, 46, 42, 29, 5, 96, 46, 42, 29, 6, 96, 46, 182, 0, 51, 44, 42, 29, 4, 96, 46, 42]
abbrev dktL_law_11 : List UInt8 := dkwL_law_11 ++ dktL_law_12
def dkwL_law_10 : List UInt8 := [182, 0, 47, 44, 42, 29, 4, 96, 46, 42, 29, 5, 96, 46, 182, 0, 50, 159, 0, 183, 3, 172, 43, 42]
abbrev dktL_law_10 : List UInt8 := dkwL_law_10 ++ dktL_law_11
def dkwL_law_9 : List UInt8 := [182, 0, 42, 44, 182, 0, 46, 159, 0, 216, 3, 172, 43, 42, 29, 4, 96, 46, 42, 29, 5, 96, 46]
abbrev dktL_law_9 : List UInt8 := dkwL_law_9 ++ dktL_law_10
def dkwL_law_8 : List UInt8 := [42, 29, 4, 96, 46, 182, 0, 38, 44, 42, 29, 4, 96, 46, 182, 0, 41, 159, 0, 229, 3, 172, 43]
abbrev dktL_law_8 : List UInt8 := dkwL_law_8 ++ dktL_law_9
def dkwL_law_7 : List UInt8 := [46, 182, 0, 33, 44, 42, 29, 4, 96, 46, 42, 29, 5, 96, 46, 182, 0, 37, 159, 0, 252, 3, 172, 43]
abbrev dktL_law_7 : List UInt8 := dkwL_law_7 ++ dktL_law_8
def dkwL_law_6 : List UInt8 := [44, 42, 29, 4, 96, 46, 182, 0, 32, 159, 1, 29, 3, 172, 43, 42, 29, 4, 96, 46, 42, 29, 5, 96]
abbrev dktL_law_6 : List UInt8 := dkwL_law_6 ++ dktL_law_7
def dkwL_law_5 : List UInt8 := [46, 133, 20, 0, 21, 127, 129, 182, 0, 27, 159, 1, 52, 3, 172, 43, 42, 29, 4, 96, 46, 182, 0, 28]
abbrev dktL_law_5 : List UInt8 := dkwL_law_5 ++ dktL_law_6
def dkwL_law_4 : List UInt8 := [127, 129, 182, 0, 23, 44, 42, 29, 4, 96, 46, 42, 29, 5, 96, 46, 133, 16, 32, 121, 42, 29, 6, 96]
abbrev dktL_law_4 : List UInt8 := dkwL_law_4 ++ dktL_law_5
def dkwL_law_3 : List UInt8 := [43, 42, 29, 4, 96, 46, 42, 29, 5, 96, 46, 133, 16, 32, 121, 42, 29, 6, 96, 46, 133, 20, 0, 21]
abbrev dktL_law_3 : List UInt8 := dkwL_law_3 ++ dktL_law_4
def dkwL_law_2 : List UInt8 := [170, 0, 0, 0, 0, 0, 1, 174, 0, 0, 0, 0, 0, 0, 0, 11, 0, 0, 0, 64, 0, 0, 0, 127, 0, 0, 0, 150, 0, 0, 0, 183, 0, 0, 0, 206, 0, 0, 0, 219, 0, 0, 0, 252, 0, 0, 1, 39, 0, 0, 1, 52, 0, 0, 1, 75, 0, 0, 1, 108, 0, 0, 1, 151]
abbrev dktL_law_2 : List UInt8 := dkwL_law_2 ++ dktL_law_3
def dkwL_law_1 : List UInt8 := [183, 0, 20, 77, 4, 62, 29, 42, 190, 7, 100, 163, 1, 189, 42, 29, 46, 16, 15, 126]
abbrev dktL_law_1 : List UInt8 := dkwL_law_1 ++ dktL_law_2
def dkwL_law_0 : List UInt8 := [187, 0, 7, 89, 42, 3, 184, 0, 9, 133, 183, 0, 15, 76, 187, 0, 18, 89, 42, 3, 184, 0, 9, 133]
abbrev dktL_law_0 : List UInt8 := dkwL_law_0 ++ dktL_law_1
theorem dksL_law_0 : cL_law.data.toList.drop 0 = dktL_law_0 := by decide +kernel
theorem dksL_law_1 : cL_law.data.toList.drop 24 = dktL_law_1 := dk_seg dksL_law_0 24 rfl rfl
theorem dksL_law_2 : cL_law.data.toList.drop 44 = dktL_law_2 := dk_seg dksL_law_1 20 rfl rfl
theorem dksL_law_3 : cL_law.data.toList.drop 108 = dktL_law_3 := dk_seg dksL_law_2 64 rfl rfl
theorem dksL_law_4 : cL_law.data.toList.drop 132 = dktL_law_4 := dk_seg dksL_law_3 24 rfl rfl
theorem dksL_law_5 : cL_law.data.toList.drop 156 = dktL_law_5 := dk_seg dksL_law_4 24 rfl rfl
theorem dksL_law_6 : cL_law.data.toList.drop 180 = dktL_law_6 := dk_seg dksL_law_5 24 rfl rfl
theorem dksL_law_7 : cL_law.data.toList.drop 204 = dktL_law_7 := dk_seg dksL_law_6 24 rfl rfl
theorem dksL_law_8 : cL_law.data.toList.drop 228 = dktL_law_8 := dk_seg dksL_law_7 24 rfl rfl
theorem dksL_law_9 : cL_law.data.toList.drop 251 = dktL_law_9 := dk_seg dksL_law_8 23 rfl rfl
theorem dksL_law_10 : cL_law.data.toList.drop 274 = dktL_law_10 := dk_seg dksL_law_9 23 rfl rfl
theorem dksL_law_11 : cL_law.data.toList.drop 298 = dktL_law_11 := dk_seg dksL_law_10 24 rfl rfl
theorem dksL_law_12 : cL_law.data.toList.drop 322 = dktL_law_12 := dk_seg dksL_law_11 24 rfl rfl
theorem dksL_law_13 : cL_law.data.toList.drop 344 = dktL_law_13 := dk_seg dksL_law_12 22 rfl rfl
theorem dksL_law_14 : cL_law.data.toList.drop 367 = dktL_law_14 := dk_seg dksL_law_13 23 rfl rfl
theorem dksL_law_15 : cL_law.data.toList.drop 391 = dktL_law_15 := dk_seg dksL_law_14 24 rfl rfl
theorem dksL_law_16 : cL_law.data.toList.drop 415 = dktL_law_16 := dk_seg dksL_law_15 24 rfl rfl
theorem dksL_law_17 : cL_law.data.toList.drop 439 = dktL_law_17 := dk_seg dksL_law_16 24 rfl rfl
theorem dksL_law_18 : cL_law.data.toList.drop 463 = dktL_law_18 := dk_seg dksL_law_17 24 rfl rfl
theorem dL_law_0 : decode cL_law 0 = .ok (.new 7, 3) := dk_187 0 7 (dk_at dksL_law_0 0 rfl rfl)
theorem dL_law_3 : decode cL_law 3 = .ok (.dup, 1) := dk_89 (dk_at dksL_law_0 3 rfl rfl)
theorem dL_law_4 : decode cL_law 4 = .ok (.aload_n 0, 1) := dk_42 (dk_at dksL_law_0 4 rfl rfl)
theorem dL_law_5 : decode cL_law 5 = .ok (.iconst 0, 1) := dk_3 (dk_at dksL_law_0 5 rfl rfl)
theorem dL_law_6 : decode cL_law 6 = .ok (.invokestatic 9, 3) := dk_184 0 9 (dk_at dksL_law_0 6 rfl rfl)
theorem dL_law_9 : decode cL_law 9 = .ok (.i2l, 1) := dk_133 (dk_at dksL_law_0 9 rfl rfl)
theorem dL_law_10 : decode cL_law 10 = .ok (.invokespecial 15, 3) := dk_183 0 15 (dk_at dksL_law_0 10 rfl rfl)
theorem dL_law_13 : decode cL_law 13 = .ok (.astore_n 1, 1) := dk_76 (dk_at dksL_law_0 13 rfl rfl)
theorem dL_law_14 : decode cL_law 14 = .ok (.new 18, 3) := dk_187 0 18 (dk_at dksL_law_0 14 rfl rfl)
theorem dL_law_17 : decode cL_law 17 = .ok (.dup, 1) := dk_89 (dk_at dksL_law_0 17 rfl rfl)
theorem dL_law_18 : decode cL_law 18 = .ok (.aload_n 0, 1) := dk_42 (dk_at dksL_law_0 18 rfl rfl)
theorem dL_law_19 : decode cL_law 19 = .ok (.iconst 0, 1) := dk_3 (dk_at dksL_law_0 19 rfl rfl)
theorem dL_law_20 : decode cL_law 20 = .ok (.invokestatic 9, 3) := dk_184 0 9 (dk_at dksL_law_0 20 rfl rfl)
theorem dL_law_23 : decode cL_law 23 = .ok (.i2l, 1) := dk_133 (dk_at dksL_law_0 23 rfl rfl)
theorem dL_law_24 : decode cL_law 24 = .ok (.invokespecial 20, 3) := dk_183 0 20 (dk_at dksL_law_1 0 rfl rfl)
theorem dL_law_27 : decode cL_law 27 = .ok (.astore_n 2, 1) := dk_77 (dk_at dksL_law_1 3 rfl rfl)
theorem dL_law_28 : decode cL_law 28 = .ok (.iconst 1, 1) := dk_4 (dk_at dksL_law_1 4 rfl rfl)
theorem dL_law_29 : decode cL_law 29 = .ok (.istore_n 3, 1) := dk_62 (dk_at dksL_law_1 5 rfl rfl)
theorem dL_law_30 : decode cL_law 30 = .ok (.iload_n 3, 1) := dk_29 (dk_at dksL_law_1 6 rfl rfl)
theorem dL_law_31 : decode cL_law 31 = .ok (.aload_n 0, 1) := dk_42 (dk_at dksL_law_1 7 rfl rfl)
theorem dL_law_32 : decode cL_law 32 = .ok (.arraylength, 1) := dk_190 (dk_at dksL_law_1 8 rfl rfl)
theorem dL_law_33 : decode cL_law 33 = .ok (.iconst 4, 1) := dk_7 (dk_at dksL_law_1 9 rfl rfl)
theorem dL_law_34 : decode cL_law 34 = .ok (.isub, 1) := dk_100 (dk_at dksL_law_1 10 rfl rfl)
theorem dL_law_35 : decode cL_law 35 = .ok (.if_icmp .gt 445, 3) := dk_163 1 189 (dk_at dksL_law_1 11 rfl rfl)
theorem dL_law_38 : decode cL_law 38 = .ok (.aload_n 0, 1) := dk_42 (dk_at dksL_law_1 14 rfl rfl)
theorem dL_law_39 : decode cL_law 39 = .ok (.iload_n 3, 1) := dk_29 (dk_at dksL_law_1 15 rfl rfl)
theorem dL_law_40 : decode cL_law 40 = .ok (.iaload, 1) := dk_46 (dk_at dksL_law_1 16 rfl rfl)
theorem dL_law_41 : decode cL_law 41 = .ok (.bipush 15, 2) := dk_16 15 (dk_at dksL_law_1 17 rfl rfl)
theorem dL_law_43 : decode cL_law 43 = .ok (.iand, 1) := dk_126 (dk_at dksL_law_1 19 rfl rfl)
theorem dL_law_44 : decode cL_law 44 = .ok (.tableswitch 430 0 11 #[64, 127, 150, 183, 206, 219, 252, 295, 308, 331, 364, 407], 64) := by decide +kernel
theorem dL_law_108 : decode cL_law 108 = .ok (.aload_n 1, 1) := dk_43 (dk_at dksL_law_3 0 rfl rfl)
theorem dL_law_109 : decode cL_law 109 = .ok (.aload_n 0, 1) := dk_42 (dk_at dksL_law_3 1 rfl rfl)
theorem dL_law_110 : decode cL_law 110 = .ok (.iload_n 3, 1) := dk_29 (dk_at dksL_law_3 2 rfl rfl)
theorem dL_law_111 : decode cL_law 111 = .ok (.iconst 1, 1) := dk_4 (dk_at dksL_law_3 3 rfl rfl)
theorem dL_law_112 : decode cL_law 112 = .ok (.iadd, 1) := dk_96 (dk_at dksL_law_3 4 rfl rfl)
theorem dL_law_113 : decode cL_law 113 = .ok (.iaload, 1) := dk_46 (dk_at dksL_law_3 5 rfl rfl)
theorem dL_law_114 : decode cL_law 114 = .ok (.aload_n 0, 1) := dk_42 (dk_at dksL_law_3 6 rfl rfl)
theorem dL_law_115 : decode cL_law 115 = .ok (.iload_n 3, 1) := dk_29 (dk_at dksL_law_3 7 rfl rfl)
theorem dL_law_116 : decode cL_law 116 = .ok (.iconst 2, 1) := dk_5 (dk_at dksL_law_3 8 rfl rfl)
theorem dL_law_117 : decode cL_law 117 = .ok (.iadd, 1) := dk_96 (dk_at dksL_law_3 9 rfl rfl)
theorem dL_law_118 : decode cL_law 118 = .ok (.iaload, 1) := dk_46 (dk_at dksL_law_3 10 rfl rfl)
theorem dL_law_119 : decode cL_law 119 = .ok (.i2l, 1) := dk_133 (dk_at dksL_law_3 11 rfl rfl)
theorem dL_law_120 : decode cL_law 120 = .ok (.bipush 32, 2) := dk_16 32 (dk_at dksL_law_3 12 rfl rfl)
theorem dL_law_122 : decode cL_law 122 = .ok (.lshl, 1) := dk_121 (dk_at dksL_law_3 14 rfl rfl)
theorem dL_law_123 : decode cL_law 123 = .ok (.aload_n 0, 1) := dk_42 (dk_at dksL_law_3 15 rfl rfl)
theorem dL_law_124 : decode cL_law 124 = .ok (.iload_n 3, 1) := dk_29 (dk_at dksL_law_3 16 rfl rfl)
theorem dL_law_125 : decode cL_law 125 = .ok (.iconst 3, 1) := dk_6 (dk_at dksL_law_3 17 rfl rfl)
theorem dL_law_126 : decode cL_law 126 = .ok (.iadd, 1) := dk_96 (dk_at dksL_law_3 18 rfl rfl)
theorem dL_law_127 : decode cL_law 127 = .ok (.iaload, 1) := dk_46 (dk_at dksL_law_3 19 rfl rfl)
theorem dL_law_128 : decode cL_law 128 = .ok (.i2l, 1) := dk_133 (dk_at dksL_law_3 20 rfl rfl)
theorem dL_law_129 : decode cL_law 129 = .ok (.ldc2_w 21, 3) := dk_20 0 21 (dk_at dksL_law_3 21 rfl rfl)
theorem dL_law_132 : decode cL_law 132 = .ok (.land, 1) := dk_127 (dk_at dksL_law_4 0 rfl rfl)
theorem dL_law_133 : decode cL_law 133 = .ok (.lor, 1) := dk_129 (dk_at dksL_law_4 1 rfl rfl)
theorem dL_law_134 : decode cL_law 134 = .ok (.invokevirtual 23, 3) := dk_182 0 23 (dk_at dksL_law_4 2 rfl rfl)
theorem dL_law_137 : decode cL_law 137 = .ok (.aload_n 2, 1) := dk_44 (dk_at dksL_law_4 5 rfl rfl)
theorem dL_law_138 : decode cL_law 138 = .ok (.aload_n 0, 1) := dk_42 (dk_at dksL_law_4 6 rfl rfl)
theorem dL_law_139 : decode cL_law 139 = .ok (.iload_n 3, 1) := dk_29 (dk_at dksL_law_4 7 rfl rfl)
theorem dL_law_140 : decode cL_law 140 = .ok (.iconst 1, 1) := dk_4 (dk_at dksL_law_4 8 rfl rfl)
theorem dL_law_141 : decode cL_law 141 = .ok (.iadd, 1) := dk_96 (dk_at dksL_law_4 9 rfl rfl)
theorem dL_law_142 : decode cL_law 142 = .ok (.iaload, 1) := dk_46 (dk_at dksL_law_4 10 rfl rfl)
theorem dL_law_143 : decode cL_law 143 = .ok (.aload_n 0, 1) := dk_42 (dk_at dksL_law_4 11 rfl rfl)
theorem dL_law_144 : decode cL_law 144 = .ok (.iload_n 3, 1) := dk_29 (dk_at dksL_law_4 12 rfl rfl)
theorem dL_law_145 : decode cL_law 145 = .ok (.iconst 2, 1) := dk_5 (dk_at dksL_law_4 13 rfl rfl)
theorem dL_law_146 : decode cL_law 146 = .ok (.iadd, 1) := dk_96 (dk_at dksL_law_4 14 rfl rfl)
theorem dL_law_147 : decode cL_law 147 = .ok (.iaload, 1) := dk_46 (dk_at dksL_law_4 15 rfl rfl)
theorem dL_law_148 : decode cL_law 148 = .ok (.i2l, 1) := dk_133 (dk_at dksL_law_4 16 rfl rfl)
theorem dL_law_149 : decode cL_law 149 = .ok (.bipush 32, 2) := dk_16 32 (dk_at dksL_law_4 17 rfl rfl)
theorem dL_law_151 : decode cL_law 151 = .ok (.lshl, 1) := dk_121 (dk_at dksL_law_4 19 rfl rfl)
theorem dL_law_152 : decode cL_law 152 = .ok (.aload_n 0, 1) := dk_42 (dk_at dksL_law_4 20 rfl rfl)
theorem dL_law_153 : decode cL_law 153 = .ok (.iload_n 3, 1) := dk_29 (dk_at dksL_law_4 21 rfl rfl)
theorem dL_law_154 : decode cL_law 154 = .ok (.iconst 3, 1) := dk_6 (dk_at dksL_law_4 22 rfl rfl)
theorem dL_law_155 : decode cL_law 155 = .ok (.iadd, 1) := dk_96 (dk_at dksL_law_4 23 rfl rfl)
theorem dL_law_156 : decode cL_law 156 = .ok (.iaload, 1) := dk_46 (dk_at dksL_law_5 0 rfl rfl)
theorem dL_law_157 : decode cL_law 157 = .ok (.i2l, 1) := dk_133 (dk_at dksL_law_5 1 rfl rfl)
theorem dL_law_158 : decode cL_law 158 = .ok (.ldc2_w 21, 3) := dk_20 0 21 (dk_at dksL_law_5 2 rfl rfl)
theorem dL_law_161 : decode cL_law 161 = .ok (.land, 1) := dk_127 (dk_at dksL_law_5 5 rfl rfl)
theorem dL_law_162 : decode cL_law 162 = .ok (.lor, 1) := dk_129 (dk_at dksL_law_5 6 rfl rfl)
theorem dL_law_163 : decode cL_law 163 = .ok (.invokevirtual 27, 3) := dk_182 0 27 (dk_at dksL_law_5 7 rfl rfl)
theorem dL_law_166 : decode cL_law 166 = .ok (.if_icmp .eq 308, 3) := dk_159 1 52 (dk_at dksL_law_5 10 rfl rfl)
theorem dL_law_169 : decode cL_law 169 = .ok (.iconst 0, 1) := dk_3 (dk_at dksL_law_5 13 rfl rfl)
theorem dL_law_170 : decode cL_law 170 = .ok (.ireturn, 1) := dk_172 (dk_at dksL_law_5 14 rfl rfl)
theorem dL_law_171 : decode cL_law 171 = .ok (.aload_n 1, 1) := dk_43 (dk_at dksL_law_5 15 rfl rfl)
theorem dL_law_172 : decode cL_law 172 = .ok (.aload_n 0, 1) := dk_42 (dk_at dksL_law_5 16 rfl rfl)
theorem dL_law_173 : decode cL_law 173 = .ok (.iload_n 3, 1) := dk_29 (dk_at dksL_law_5 17 rfl rfl)
theorem dL_law_174 : decode cL_law 174 = .ok (.iconst 1, 1) := dk_4 (dk_at dksL_law_5 18 rfl rfl)
theorem dL_law_175 : decode cL_law 175 = .ok (.iadd, 1) := dk_96 (dk_at dksL_law_5 19 rfl rfl)
theorem dL_law_176 : decode cL_law 176 = .ok (.iaload, 1) := dk_46 (dk_at dksL_law_5 20 rfl rfl)
theorem dL_law_177 : decode cL_law 177 = .ok (.invokevirtual 28, 3) := dk_182 0 28 (dk_at dksL_law_5 21 rfl rfl)
theorem dL_law_180 : decode cL_law 180 = .ok (.aload_n 2, 1) := dk_44 (dk_at dksL_law_6 0 rfl rfl)
theorem dL_law_181 : decode cL_law 181 = .ok (.aload_n 0, 1) := dk_42 (dk_at dksL_law_6 1 rfl rfl)
theorem dL_law_182 : decode cL_law 182 = .ok (.iload_n 3, 1) := dk_29 (dk_at dksL_law_6 2 rfl rfl)
theorem dL_law_183 : decode cL_law 183 = .ok (.iconst 1, 1) := dk_4 (dk_at dksL_law_6 3 rfl rfl)
theorem dL_law_184 : decode cL_law 184 = .ok (.iadd, 1) := dk_96 (dk_at dksL_law_6 4 rfl rfl)
theorem dL_law_185 : decode cL_law 185 = .ok (.iaload, 1) := dk_46 (dk_at dksL_law_6 5 rfl rfl)
theorem dL_law_186 : decode cL_law 186 = .ok (.invokevirtual 32, 3) := dk_182 0 32 (dk_at dksL_law_6 6 rfl rfl)
theorem dL_law_189 : decode cL_law 189 = .ok (.if_icmp .eq 285, 3) := dk_159 1 29 (dk_at dksL_law_6 9 rfl rfl)
theorem dL_law_192 : decode cL_law 192 = .ok (.iconst 0, 1) := dk_3 (dk_at dksL_law_6 12 rfl rfl)
theorem dL_law_193 : decode cL_law 193 = .ok (.ireturn, 1) := dk_172 (dk_at dksL_law_6 13 rfl rfl)
theorem dL_law_194 : decode cL_law 194 = .ok (.aload_n 1, 1) := dk_43 (dk_at dksL_law_6 14 rfl rfl)
theorem dL_law_195 : decode cL_law 195 = .ok (.aload_n 0, 1) := dk_42 (dk_at dksL_law_6 15 rfl rfl)
theorem dL_law_196 : decode cL_law 196 = .ok (.iload_n 3, 1) := dk_29 (dk_at dksL_law_6 16 rfl rfl)
theorem dL_law_197 : decode cL_law 197 = .ok (.iconst 1, 1) := dk_4 (dk_at dksL_law_6 17 rfl rfl)
theorem dL_law_198 : decode cL_law 198 = .ok (.iadd, 1) := dk_96 (dk_at dksL_law_6 18 rfl rfl)
theorem dL_law_199 : decode cL_law 199 = .ok (.iaload, 1) := dk_46 (dk_at dksL_law_6 19 rfl rfl)
theorem dL_law_200 : decode cL_law 200 = .ok (.aload_n 0, 1) := dk_42 (dk_at dksL_law_6 20 rfl rfl)
theorem dL_law_201 : decode cL_law 201 = .ok (.iload_n 3, 1) := dk_29 (dk_at dksL_law_6 21 rfl rfl)
theorem dL_law_202 : decode cL_law 202 = .ok (.iconst 2, 1) := dk_5 (dk_at dksL_law_6 22 rfl rfl)
theorem dL_law_203 : decode cL_law 203 = .ok (.iadd, 1) := dk_96 (dk_at dksL_law_6 23 rfl rfl)
theorem dL_law_204 : decode cL_law 204 = .ok (.iaload, 1) := dk_46 (dk_at dksL_law_7 0 rfl rfl)
theorem dL_law_205 : decode cL_law 205 = .ok (.invokevirtual 33, 3) := dk_182 0 33 (dk_at dksL_law_7 1 rfl rfl)
theorem dL_law_208 : decode cL_law 208 = .ok (.aload_n 2, 1) := dk_44 (dk_at dksL_law_7 4 rfl rfl)
theorem dL_law_209 : decode cL_law 209 = .ok (.aload_n 0, 1) := dk_42 (dk_at dksL_law_7 5 rfl rfl)
theorem dL_law_210 : decode cL_law 210 = .ok (.iload_n 3, 1) := dk_29 (dk_at dksL_law_7 6 rfl rfl)
theorem dL_law_211 : decode cL_law 211 = .ok (.iconst 1, 1) := dk_4 (dk_at dksL_law_7 7 rfl rfl)
theorem dL_law_212 : decode cL_law 212 = .ok (.iadd, 1) := dk_96 (dk_at dksL_law_7 8 rfl rfl)
theorem dL_law_213 : decode cL_law 213 = .ok (.iaload, 1) := dk_46 (dk_at dksL_law_7 9 rfl rfl)
theorem dL_law_214 : decode cL_law 214 = .ok (.aload_n 0, 1) := dk_42 (dk_at dksL_law_7 10 rfl rfl)
theorem dL_law_215 : decode cL_law 215 = .ok (.iload_n 3, 1) := dk_29 (dk_at dksL_law_7 11 rfl rfl)
theorem dL_law_216 : decode cL_law 216 = .ok (.iconst 2, 1) := dk_5 (dk_at dksL_law_7 12 rfl rfl)
theorem dL_law_217 : decode cL_law 217 = .ok (.iadd, 1) := dk_96 (dk_at dksL_law_7 13 rfl rfl)
theorem dL_law_218 : decode cL_law 218 = .ok (.iaload, 1) := dk_46 (dk_at dksL_law_7 14 rfl rfl)
theorem dL_law_219 : decode cL_law 219 = .ok (.invokevirtual 37, 3) := dk_182 0 37 (dk_at dksL_law_7 15 rfl rfl)
theorem dL_law_222 : decode cL_law 222 = .ok (.if_icmp .eq 252, 3) := dk_159 0 252 (dk_at dksL_law_7 18 rfl rfl)
theorem dL_law_225 : decode cL_law 225 = .ok (.iconst 0, 1) := dk_3 (dk_at dksL_law_7 21 rfl rfl)
theorem dL_law_226 : decode cL_law 226 = .ok (.ireturn, 1) := dk_172 (dk_at dksL_law_7 22 rfl rfl)
theorem dL_law_227 : decode cL_law 227 = .ok (.aload_n 1, 1) := dk_43 (dk_at dksL_law_7 23 rfl rfl)
theorem dL_law_228 : decode cL_law 228 = .ok (.aload_n 0, 1) := dk_42 (dk_at dksL_law_8 0 rfl rfl)
theorem dL_law_229 : decode cL_law 229 = .ok (.iload_n 3, 1) := dk_29 (dk_at dksL_law_8 1 rfl rfl)
theorem dL_law_230 : decode cL_law 230 = .ok (.iconst 1, 1) := dk_4 (dk_at dksL_law_8 2 rfl rfl)
theorem dL_law_231 : decode cL_law 231 = .ok (.iadd, 1) := dk_96 (dk_at dksL_law_8 3 rfl rfl)
theorem dL_law_232 : decode cL_law 232 = .ok (.iaload, 1) := dk_46 (dk_at dksL_law_8 4 rfl rfl)
theorem dL_law_233 : decode cL_law 233 = .ok (.invokevirtual 38, 3) := dk_182 0 38 (dk_at dksL_law_8 5 rfl rfl)
theorem dL_law_236 : decode cL_law 236 = .ok (.aload_n 2, 1) := dk_44 (dk_at dksL_law_8 8 rfl rfl)
theorem dL_law_237 : decode cL_law 237 = .ok (.aload_n 0, 1) := dk_42 (dk_at dksL_law_8 9 rfl rfl)
theorem dL_law_238 : decode cL_law 238 = .ok (.iload_n 3, 1) := dk_29 (dk_at dksL_law_8 10 rfl rfl)
theorem dL_law_239 : decode cL_law 239 = .ok (.iconst 1, 1) := dk_4 (dk_at dksL_law_8 11 rfl rfl)
theorem dL_law_240 : decode cL_law 240 = .ok (.iadd, 1) := dk_96 (dk_at dksL_law_8 12 rfl rfl)
theorem dL_law_241 : decode cL_law 241 = .ok (.iaload, 1) := dk_46 (dk_at dksL_law_8 13 rfl rfl)
theorem dL_law_242 : decode cL_law 242 = .ok (.invokevirtual 41, 3) := dk_182 0 41 (dk_at dksL_law_8 14 rfl rfl)
theorem dL_law_245 : decode cL_law 245 = .ok (.if_icmp .eq 229, 3) := dk_159 0 229 (dk_at dksL_law_8 17 rfl rfl)
theorem dL_law_248 : decode cL_law 248 = .ok (.iconst 0, 1) := dk_3 (dk_at dksL_law_8 20 rfl rfl)
theorem dL_law_249 : decode cL_law 249 = .ok (.ireturn, 1) := dk_172 (dk_at dksL_law_8 21 rfl rfl)
theorem dL_law_250 : decode cL_law 250 = .ok (.aload_n 1, 1) := dk_43 (dk_at dksL_law_8 22 rfl rfl)
theorem dL_law_251 : decode cL_law 251 = .ok (.invokevirtual 42, 3) := dk_182 0 42 (dk_at dksL_law_9 0 rfl rfl)
theorem dL_law_254 : decode cL_law 254 = .ok (.aload_n 2, 1) := dk_44 (dk_at dksL_law_9 3 rfl rfl)
theorem dL_law_255 : decode cL_law 255 = .ok (.invokevirtual 46, 3) := dk_182 0 46 (dk_at dksL_law_9 4 rfl rfl)
theorem dL_law_258 : decode cL_law 258 = .ok (.if_icmp .eq 216, 3) := dk_159 0 216 (dk_at dksL_law_9 7 rfl rfl)
theorem dL_law_261 : decode cL_law 261 = .ok (.iconst 0, 1) := dk_3 (dk_at dksL_law_9 10 rfl rfl)
theorem dL_law_262 : decode cL_law 262 = .ok (.ireturn, 1) := dk_172 (dk_at dksL_law_9 11 rfl rfl)
theorem dL_law_263 : decode cL_law 263 = .ok (.aload_n 1, 1) := dk_43 (dk_at dksL_law_9 12 rfl rfl)
theorem dL_law_264 : decode cL_law 264 = .ok (.aload_n 0, 1) := dk_42 (dk_at dksL_law_9 13 rfl rfl)
theorem dL_law_265 : decode cL_law 265 = .ok (.iload_n 3, 1) := dk_29 (dk_at dksL_law_9 14 rfl rfl)
theorem dL_law_266 : decode cL_law 266 = .ok (.iconst 1, 1) := dk_4 (dk_at dksL_law_9 15 rfl rfl)
theorem dL_law_267 : decode cL_law 267 = .ok (.iadd, 1) := dk_96 (dk_at dksL_law_9 16 rfl rfl)
theorem dL_law_268 : decode cL_law 268 = .ok (.iaload, 1) := dk_46 (dk_at dksL_law_9 17 rfl rfl)
theorem dL_law_269 : decode cL_law 269 = .ok (.aload_n 0, 1) := dk_42 (dk_at dksL_law_9 18 rfl rfl)
theorem dL_law_270 : decode cL_law 270 = .ok (.iload_n 3, 1) := dk_29 (dk_at dksL_law_9 19 rfl rfl)
theorem dL_law_271 : decode cL_law 271 = .ok (.iconst 2, 1) := dk_5 (dk_at dksL_law_9 20 rfl rfl)
theorem dL_law_272 : decode cL_law 272 = .ok (.iadd, 1) := dk_96 (dk_at dksL_law_9 21 rfl rfl)
theorem dL_law_273 : decode cL_law 273 = .ok (.iaload, 1) := dk_46 (dk_at dksL_law_9 22 rfl rfl)
theorem dL_law_274 : decode cL_law 274 = .ok (.invokevirtual 47, 3) := dk_182 0 47 (dk_at dksL_law_10 0 rfl rfl)
theorem dL_law_277 : decode cL_law 277 = .ok (.aload_n 2, 1) := dk_44 (dk_at dksL_law_10 3 rfl rfl)
theorem dL_law_278 : decode cL_law 278 = .ok (.aload_n 0, 1) := dk_42 (dk_at dksL_law_10 4 rfl rfl)
theorem dL_law_279 : decode cL_law 279 = .ok (.iload_n 3, 1) := dk_29 (dk_at dksL_law_10 5 rfl rfl)
theorem dL_law_280 : decode cL_law 280 = .ok (.iconst 1, 1) := dk_4 (dk_at dksL_law_10 6 rfl rfl)
theorem dL_law_281 : decode cL_law 281 = .ok (.iadd, 1) := dk_96 (dk_at dksL_law_10 7 rfl rfl)
theorem dL_law_282 : decode cL_law 282 = .ok (.iaload, 1) := dk_46 (dk_at dksL_law_10 8 rfl rfl)
theorem dL_law_283 : decode cL_law 283 = .ok (.aload_n 0, 1) := dk_42 (dk_at dksL_law_10 9 rfl rfl)
theorem dL_law_284 : decode cL_law 284 = .ok (.iload_n 3, 1) := dk_29 (dk_at dksL_law_10 10 rfl rfl)
theorem dL_law_285 : decode cL_law 285 = .ok (.iconst 2, 1) := dk_5 (dk_at dksL_law_10 11 rfl rfl)
theorem dL_law_286 : decode cL_law 286 = .ok (.iadd, 1) := dk_96 (dk_at dksL_law_10 12 rfl rfl)
theorem dL_law_287 : decode cL_law 287 = .ok (.iaload, 1) := dk_46 (dk_at dksL_law_10 13 rfl rfl)
theorem dL_law_288 : decode cL_law 288 = .ok (.invokevirtual 50, 3) := dk_182 0 50 (dk_at dksL_law_10 14 rfl rfl)
theorem dL_law_291 : decode cL_law 291 = .ok (.if_icmp .eq 183, 3) := dk_159 0 183 (dk_at dksL_law_10 17 rfl rfl)
theorem dL_law_294 : decode cL_law 294 = .ok (.iconst 0, 1) := dk_3 (dk_at dksL_law_10 20 rfl rfl)
theorem dL_law_295 : decode cL_law 295 = .ok (.ireturn, 1) := dk_172 (dk_at dksL_law_10 21 rfl rfl)
theorem dL_law_296 : decode cL_law 296 = .ok (.aload_n 1, 1) := dk_43 (dk_at dksL_law_10 22 rfl rfl)
theorem dL_law_297 : decode cL_law 297 = .ok (.aload_n 0, 1) := dk_42 (dk_at dksL_law_10 23 rfl rfl)
theorem dL_law_298 : decode cL_law 298 = .ok (.iload_n 3, 1) := dk_29 (dk_at dksL_law_11 0 rfl rfl)
theorem dL_law_299 : decode cL_law 299 = .ok (.iconst 1, 1) := dk_4 (dk_at dksL_law_11 1 rfl rfl)
theorem dL_law_300 : decode cL_law 300 = .ok (.iadd, 1) := dk_96 (dk_at dksL_law_11 2 rfl rfl)
theorem dL_law_301 : decode cL_law 301 = .ok (.iaload, 1) := dk_46 (dk_at dksL_law_11 3 rfl rfl)
theorem dL_law_302 : decode cL_law 302 = .ok (.aload_n 0, 1) := dk_42 (dk_at dksL_law_11 4 rfl rfl)
theorem dL_law_303 : decode cL_law 303 = .ok (.iload_n 3, 1) := dk_29 (dk_at dksL_law_11 5 rfl rfl)
theorem dL_law_304 : decode cL_law 304 = .ok (.iconst 2, 1) := dk_5 (dk_at dksL_law_11 6 rfl rfl)
theorem dL_law_305 : decode cL_law 305 = .ok (.iadd, 1) := dk_96 (dk_at dksL_law_11 7 rfl rfl)
theorem dL_law_306 : decode cL_law 306 = .ok (.iaload, 1) := dk_46 (dk_at dksL_law_11 8 rfl rfl)
theorem dL_law_307 : decode cL_law 307 = .ok (.aload_n 0, 1) := dk_42 (dk_at dksL_law_11 9 rfl rfl)
theorem dL_law_308 : decode cL_law 308 = .ok (.iload_n 3, 1) := dk_29 (dk_at dksL_law_11 10 rfl rfl)
theorem dL_law_309 : decode cL_law 309 = .ok (.iconst 3, 1) := dk_6 (dk_at dksL_law_11 11 rfl rfl)
theorem dL_law_310 : decode cL_law 310 = .ok (.iadd, 1) := dk_96 (dk_at dksL_law_11 12 rfl rfl)
theorem dL_law_311 : decode cL_law 311 = .ok (.iaload, 1) := dk_46 (dk_at dksL_law_11 13 rfl rfl)
theorem dL_law_312 : decode cL_law 312 = .ok (.invokevirtual 51, 3) := dk_182 0 51 (dk_at dksL_law_11 14 rfl rfl)
theorem dL_law_315 : decode cL_law 315 = .ok (.aload_n 2, 1) := dk_44 (dk_at dksL_law_11 17 rfl rfl)
theorem dL_law_316 : decode cL_law 316 = .ok (.aload_n 0, 1) := dk_42 (dk_at dksL_law_11 18 rfl rfl)
theorem dL_law_317 : decode cL_law 317 = .ok (.iload_n 3, 1) := dk_29 (dk_at dksL_law_11 19 rfl rfl)
theorem dL_law_318 : decode cL_law 318 = .ok (.iconst 1, 1) := dk_4 (dk_at dksL_law_11 20 rfl rfl)
theorem dL_law_319 : decode cL_law 319 = .ok (.iadd, 1) := dk_96 (dk_at dksL_law_11 21 rfl rfl)
theorem dL_law_320 : decode cL_law 320 = .ok (.iaload, 1) := dk_46 (dk_at dksL_law_11 22 rfl rfl)
theorem dL_law_321 : decode cL_law 321 = .ok (.aload_n 0, 1) := dk_42 (dk_at dksL_law_11 23 rfl rfl)
theorem dL_law_322 : decode cL_law 322 = .ok (.iload_n 3, 1) := dk_29 (dk_at dksL_law_12 0 rfl rfl)
theorem dL_law_323 : decode cL_law 323 = .ok (.iconst 2, 1) := dk_5 (dk_at dksL_law_12 1 rfl rfl)
theorem dL_law_324 : decode cL_law 324 = .ok (.iadd, 1) := dk_96 (dk_at dksL_law_12 2 rfl rfl)
theorem dL_law_325 : decode cL_law 325 = .ok (.iaload, 1) := dk_46 (dk_at dksL_law_12 3 rfl rfl)
theorem dL_law_326 : decode cL_law 326 = .ok (.aload_n 0, 1) := dk_42 (dk_at dksL_law_12 4 rfl rfl)
theorem dL_law_327 : decode cL_law 327 = .ok (.iload_n 3, 1) := dk_29 (dk_at dksL_law_12 5 rfl rfl)
theorem dL_law_328 : decode cL_law 328 = .ok (.iconst 3, 1) := dk_6 (dk_at dksL_law_12 6 rfl rfl)
theorem dL_law_329 : decode cL_law 329 = .ok (.iadd, 1) := dk_96 (dk_at dksL_law_12 7 rfl rfl)
theorem dL_law_330 : decode cL_law 330 = .ok (.iaload, 1) := dk_46 (dk_at dksL_law_12 8 rfl rfl)
theorem dL_law_331 : decode cL_law 331 = .ok (.invokevirtual 55, 3) := dk_182 0 55 (dk_at dksL_law_12 9 rfl rfl)
theorem dL_law_334 : decode cL_law 334 = .ok (.if_icmp .eq 140, 3) := dk_159 0 140 (dk_at dksL_law_12 12 rfl rfl)
theorem dL_law_337 : decode cL_law 337 = .ok (.iconst 0, 1) := dk_3 (dk_at dksL_law_12 15 rfl rfl)
theorem dL_law_338 : decode cL_law 338 = .ok (.ireturn, 1) := dk_172 (dk_at dksL_law_12 16 rfl rfl)
theorem dL_law_339 : decode cL_law 339 = .ok (.aload_n 1, 1) := dk_43 (dk_at dksL_law_12 17 rfl rfl)
theorem dL_law_340 : decode cL_law 340 = .ok (.invokevirtual 56, 3) := dk_182 0 56 (dk_at dksL_law_12 18 rfl rfl)
theorem dL_law_343 : decode cL_law 343 = .ok (.aload_n 2, 1) := dk_44 (dk_at dksL_law_12 21 rfl rfl)
theorem dL_law_344 : decode cL_law 344 = .ok (.invokevirtual 59, 3) := dk_182 0 59 (dk_at dksL_law_13 0 rfl rfl)
theorem dL_law_347 : decode cL_law 347 = .ok (.if_icmp .eq 127, 3) := dk_159 0 127 (dk_at dksL_law_13 3 rfl rfl)
theorem dL_law_350 : decode cL_law 350 = .ok (.iconst 0, 1) := dk_3 (dk_at dksL_law_13 6 rfl rfl)
theorem dL_law_351 : decode cL_law 351 = .ok (.ireturn, 1) := dk_172 (dk_at dksL_law_13 7 rfl rfl)
theorem dL_law_352 : decode cL_law 352 = .ok (.aload_n 1, 1) := dk_43 (dk_at dksL_law_13 8 rfl rfl)
theorem dL_law_353 : decode cL_law 353 = .ok (.aload_n 0, 1) := dk_42 (dk_at dksL_law_13 9 rfl rfl)
theorem dL_law_354 : decode cL_law 354 = .ok (.iload_n 3, 1) := dk_29 (dk_at dksL_law_13 10 rfl rfl)
theorem dL_law_355 : decode cL_law 355 = .ok (.iconst 1, 1) := dk_4 (dk_at dksL_law_13 11 rfl rfl)
theorem dL_law_356 : decode cL_law 356 = .ok (.iadd, 1) := dk_96 (dk_at dksL_law_13 12 rfl rfl)
theorem dL_law_357 : decode cL_law 357 = .ok (.iaload, 1) := dk_46 (dk_at dksL_law_13 13 rfl rfl)
theorem dL_law_358 : decode cL_law 358 = .ok (.invokevirtual 60, 3) := dk_182 0 60 (dk_at dksL_law_13 14 rfl rfl)
theorem dL_law_361 : decode cL_law 361 = .ok (.aload_n 2, 1) := dk_44 (dk_at dksL_law_13 17 rfl rfl)
theorem dL_law_362 : decode cL_law 362 = .ok (.aload_n 0, 1) := dk_42 (dk_at dksL_law_13 18 rfl rfl)
theorem dL_law_363 : decode cL_law 363 = .ok (.iload_n 3, 1) := dk_29 (dk_at dksL_law_13 19 rfl rfl)
theorem dL_law_364 : decode cL_law 364 = .ok (.iconst 1, 1) := dk_4 (dk_at dksL_law_13 20 rfl rfl)
theorem dL_law_365 : decode cL_law 365 = .ok (.iadd, 1) := dk_96 (dk_at dksL_law_13 21 rfl rfl)
theorem dL_law_366 : decode cL_law 366 = .ok (.iaload, 1) := dk_46 (dk_at dksL_law_13 22 rfl rfl)
theorem dL_law_367 : decode cL_law 367 = .ok (.invokevirtual 63, 3) := dk_182 0 63 (dk_at dksL_law_14 0 rfl rfl)
theorem dL_law_370 : decode cL_law 370 = .ok (.if_icmp .eq 104, 3) := dk_159 0 104 (dk_at dksL_law_14 3 rfl rfl)
theorem dL_law_373 : decode cL_law 373 = .ok (.iconst 0, 1) := dk_3 (dk_at dksL_law_14 6 rfl rfl)
theorem dL_law_374 : decode cL_law 374 = .ok (.ireturn, 1) := dk_172 (dk_at dksL_law_14 7 rfl rfl)
theorem dL_law_375 : decode cL_law 375 = .ok (.aload_n 1, 1) := dk_43 (dk_at dksL_law_14 8 rfl rfl)
theorem dL_law_376 : decode cL_law 376 = .ok (.aload_n 0, 1) := dk_42 (dk_at dksL_law_14 9 rfl rfl)
theorem dL_law_377 : decode cL_law 377 = .ok (.iload_n 3, 1) := dk_29 (dk_at dksL_law_14 10 rfl rfl)
theorem dL_law_378 : decode cL_law 378 = .ok (.iconst 1, 1) := dk_4 (dk_at dksL_law_14 11 rfl rfl)
theorem dL_law_379 : decode cL_law 379 = .ok (.iadd, 1) := dk_96 (dk_at dksL_law_14 12 rfl rfl)
theorem dL_law_380 : decode cL_law 380 = .ok (.iaload, 1) := dk_46 (dk_at dksL_law_14 13 rfl rfl)
theorem dL_law_381 : decode cL_law 381 = .ok (.aload_n 0, 1) := dk_42 (dk_at dksL_law_14 14 rfl rfl)
theorem dL_law_382 : decode cL_law 382 = .ok (.iload_n 3, 1) := dk_29 (dk_at dksL_law_14 15 rfl rfl)
theorem dL_law_383 : decode cL_law 383 = .ok (.iconst 2, 1) := dk_5 (dk_at dksL_law_14 16 rfl rfl)
theorem dL_law_384 : decode cL_law 384 = .ok (.iadd, 1) := dk_96 (dk_at dksL_law_14 17 rfl rfl)
theorem dL_law_385 : decode cL_law 385 = .ok (.iaload, 1) := dk_46 (dk_at dksL_law_14 18 rfl rfl)
theorem dL_law_386 : decode cL_law 386 = .ok (.invokevirtual 64, 3) := dk_182 0 64 (dk_at dksL_law_14 19 rfl rfl)
theorem dL_law_389 : decode cL_law 389 = .ok (.aload_n 2, 1) := dk_44 (dk_at dksL_law_14 22 rfl rfl)
theorem dL_law_390 : decode cL_law 390 = .ok (.aload_n 0, 1) := dk_42 (dk_at dksL_law_14 23 rfl rfl)
theorem dL_law_391 : decode cL_law 391 = .ok (.iload_n 3, 1) := dk_29 (dk_at dksL_law_15 0 rfl rfl)
theorem dL_law_392 : decode cL_law 392 = .ok (.iconst 1, 1) := dk_4 (dk_at dksL_law_15 1 rfl rfl)
theorem dL_law_393 : decode cL_law 393 = .ok (.iadd, 1) := dk_96 (dk_at dksL_law_15 2 rfl rfl)
theorem dL_law_394 : decode cL_law 394 = .ok (.iaload, 1) := dk_46 (dk_at dksL_law_15 3 rfl rfl)
theorem dL_law_395 : decode cL_law 395 = .ok (.aload_n 0, 1) := dk_42 (dk_at dksL_law_15 4 rfl rfl)
theorem dL_law_396 : decode cL_law 396 = .ok (.iload_n 3, 1) := dk_29 (dk_at dksL_law_15 5 rfl rfl)
theorem dL_law_397 : decode cL_law 397 = .ok (.iconst 2, 1) := dk_5 (dk_at dksL_law_15 6 rfl rfl)
theorem dL_law_398 : decode cL_law 398 = .ok (.iadd, 1) := dk_96 (dk_at dksL_law_15 7 rfl rfl)
theorem dL_law_399 : decode cL_law 399 = .ok (.iaload, 1) := dk_46 (dk_at dksL_law_15 8 rfl rfl)
theorem dL_law_400 : decode cL_law 400 = .ok (.invokevirtual 67, 3) := dk_182 0 67 (dk_at dksL_law_15 9 rfl rfl)
theorem dL_law_403 : decode cL_law 403 = .ok (.if_icmp .eq 71, 3) := dk_159 0 71 (dk_at dksL_law_15 12 rfl rfl)
theorem dL_law_406 : decode cL_law 406 = .ok (.iconst 0, 1) := dk_3 (dk_at dksL_law_15 15 rfl rfl)
theorem dL_law_407 : decode cL_law 407 = .ok (.ireturn, 1) := dk_172 (dk_at dksL_law_15 16 rfl rfl)
theorem dL_law_408 : decode cL_law 408 = .ok (.aload_n 1, 1) := dk_43 (dk_at dksL_law_15 17 rfl rfl)
theorem dL_law_409 : decode cL_law 409 = .ok (.aload_n 0, 1) := dk_42 (dk_at dksL_law_15 18 rfl rfl)
theorem dL_law_410 : decode cL_law 410 = .ok (.iload_n 3, 1) := dk_29 (dk_at dksL_law_15 19 rfl rfl)
theorem dL_law_411 : decode cL_law 411 = .ok (.iconst 1, 1) := dk_4 (dk_at dksL_law_15 20 rfl rfl)
theorem dL_law_412 : decode cL_law 412 = .ok (.iadd, 1) := dk_96 (dk_at dksL_law_15 21 rfl rfl)
theorem dL_law_413 : decode cL_law 413 = .ok (.iaload, 1) := dk_46 (dk_at dksL_law_15 22 rfl rfl)
theorem dL_law_414 : decode cL_law 414 = .ok (.aload_n 0, 1) := dk_42 (dk_at dksL_law_15 23 rfl rfl)
theorem dL_law_415 : decode cL_law 415 = .ok (.iload_n 3, 1) := dk_29 (dk_at dksL_law_16 0 rfl rfl)
theorem dL_law_416 : decode cL_law 416 = .ok (.iconst 2, 1) := dk_5 (dk_at dksL_law_16 1 rfl rfl)
theorem dL_law_417 : decode cL_law 417 = .ok (.iadd, 1) := dk_96 (dk_at dksL_law_16 2 rfl rfl)
theorem dL_law_418 : decode cL_law 418 = .ok (.iaload, 1) := dk_46 (dk_at dksL_law_16 3 rfl rfl)
theorem dL_law_419 : decode cL_law 419 = .ok (.aload_n 0, 1) := dk_42 (dk_at dksL_law_16 4 rfl rfl)
theorem dL_law_420 : decode cL_law 420 = .ok (.iload_n 3, 1) := dk_29 (dk_at dksL_law_16 5 rfl rfl)
theorem dL_law_421 : decode cL_law 421 = .ok (.iconst 3, 1) := dk_6 (dk_at dksL_law_16 6 rfl rfl)
theorem dL_law_422 : decode cL_law 422 = .ok (.iadd, 1) := dk_96 (dk_at dksL_law_16 7 rfl rfl)
theorem dL_law_423 : decode cL_law 423 = .ok (.iaload, 1) := dk_46 (dk_at dksL_law_16 8 rfl rfl)
theorem dL_law_424 : decode cL_law 424 = .ok (.invokevirtual 68, 3) := dk_182 0 68 (dk_at dksL_law_16 9 rfl rfl)
theorem dL_law_427 : decode cL_law 427 = .ok (.aload_n 2, 1) := dk_44 (dk_at dksL_law_16 12 rfl rfl)
theorem dL_law_428 : decode cL_law 428 = .ok (.aload_n 0, 1) := dk_42 (dk_at dksL_law_16 13 rfl rfl)
theorem dL_law_429 : decode cL_law 429 = .ok (.iload_n 3, 1) := dk_29 (dk_at dksL_law_16 14 rfl rfl)
theorem dL_law_430 : decode cL_law 430 = .ok (.iconst 1, 1) := dk_4 (dk_at dksL_law_16 15 rfl rfl)
theorem dL_law_431 : decode cL_law 431 = .ok (.iadd, 1) := dk_96 (dk_at dksL_law_16 16 rfl rfl)
theorem dL_law_432 : decode cL_law 432 = .ok (.iaload, 1) := dk_46 (dk_at dksL_law_16 17 rfl rfl)
theorem dL_law_433 : decode cL_law 433 = .ok (.aload_n 0, 1) := dk_42 (dk_at dksL_law_16 18 rfl rfl)
theorem dL_law_434 : decode cL_law 434 = .ok (.iload_n 3, 1) := dk_29 (dk_at dksL_law_16 19 rfl rfl)
theorem dL_law_435 : decode cL_law 435 = .ok (.iconst 2, 1) := dk_5 (dk_at dksL_law_16 20 rfl rfl)
theorem dL_law_436 : decode cL_law 436 = .ok (.iadd, 1) := dk_96 (dk_at dksL_law_16 21 rfl rfl)
theorem dL_law_437 : decode cL_law 437 = .ok (.iaload, 1) := dk_46 (dk_at dksL_law_16 22 rfl rfl)
theorem dL_law_438 : decode cL_law 438 = .ok (.aload_n 0, 1) := dk_42 (dk_at dksL_law_16 23 rfl rfl)
theorem dL_law_439 : decode cL_law 439 = .ok (.iload_n 3, 1) := dk_29 (dk_at dksL_law_17 0 rfl rfl)
theorem dL_law_440 : decode cL_law 440 = .ok (.iconst 3, 1) := dk_6 (dk_at dksL_law_17 1 rfl rfl)
theorem dL_law_441 : decode cL_law 441 = .ok (.iadd, 1) := dk_96 (dk_at dksL_law_17 2 rfl rfl)
theorem dL_law_442 : decode cL_law 442 = .ok (.iaload, 1) := dk_46 (dk_at dksL_law_17 3 rfl rfl)
theorem dL_law_443 : decode cL_law 443 = .ok (.invokevirtual 71, 3) := dk_182 0 71 (dk_at dksL_law_17 4 rfl rfl)
theorem dL_law_446 : decode cL_law 446 = .ok (.if_icmp .eq 28, 3) := dk_159 0 28 (dk_at dksL_law_17 7 rfl rfl)
theorem dL_law_449 : decode cL_law 449 = .ok (.iconst 0, 1) := dk_3 (dk_at dksL_law_17 10 rfl rfl)
theorem dL_law_450 : decode cL_law 450 = .ok (.ireturn, 1) := dk_172 (dk_at dksL_law_17 11 rfl rfl)
theorem dL_law_451 : decode cL_law 451 = .ok (.aload_n 1, 1) := dk_43 (dk_at dksL_law_17 12 rfl rfl)
theorem dL_law_452 : decode cL_law 452 = .ok (.aload_n 0, 1) := dk_42 (dk_at dksL_law_17 13 rfl rfl)
theorem dL_law_453 : decode cL_law 453 = .ok (.iload_n 3, 1) := dk_29 (dk_at dksL_law_17 14 rfl rfl)
theorem dL_law_454 : decode cL_law 454 = .ok (.iconst 1, 1) := dk_4 (dk_at dksL_law_17 15 rfl rfl)
theorem dL_law_455 : decode cL_law 455 = .ok (.iadd, 1) := dk_96 (dk_at dksL_law_17 16 rfl rfl)
theorem dL_law_456 : decode cL_law 456 = .ok (.iaload, 1) := dk_46 (dk_at dksL_law_17 17 rfl rfl)
theorem dL_law_457 : decode cL_law 457 = .ok (.invokevirtual 72, 3) := dk_182 0 72 (dk_at dksL_law_17 18 rfl rfl)
theorem dL_law_460 : decode cL_law 460 = .ok (.aload_n 2, 1) := dk_44 (dk_at dksL_law_17 21 rfl rfl)
theorem dL_law_461 : decode cL_law 461 = .ok (.aload_n 0, 1) := dk_42 (dk_at dksL_law_17 22 rfl rfl)
theorem dL_law_462 : decode cL_law 462 = .ok (.iload_n 3, 1) := dk_29 (dk_at dksL_law_17 23 rfl rfl)
theorem dL_law_463 : decode cL_law 463 = .ok (.iconst 1, 1) := dk_4 (dk_at dksL_law_18 0 rfl rfl)
theorem dL_law_464 : decode cL_law 464 = .ok (.iadd, 1) := dk_96 (dk_at dksL_law_18 1 rfl rfl)
theorem dL_law_465 : decode cL_law 465 = .ok (.iaload, 1) := dk_46 (dk_at dksL_law_18 2 rfl rfl)
theorem dL_law_466 : decode cL_law 466 = .ok (.invokevirtual 75, 3) := dk_182 0 75 (dk_at dksL_law_18 3 rfl rfl)
theorem dL_law_469 : decode cL_law 469 = .ok (.if_icmp .eq 5, 3) := dk_159 0 5 (dk_at dksL_law_18 6 rfl rfl)
theorem dL_law_472 : decode cL_law 472 = .ok (.iconst 0, 1) := dk_3 (dk_at dksL_law_18 9 rfl rfl)
theorem dL_law_473 : decode cL_law 473 = .ok (.ireturn, 1) := dk_172 (dk_at dksL_law_18 10 rfl rfl)
theorem dL_law_474 : decode cL_law 474 = .ok (.iinc 3 4, 3) := dk_132 3 4 (dk_at dksL_law_18 11 rfl rfl)
theorem dL_law_477 : decode cL_law 477 = .ok (.goto (-447), 3) := dk_167 254 65 (dk_at dksL_law_18 14 rfl rfl)
theorem dL_law_480 : decode cL_law 480 = .ok (.iconst 1, 1) := dk_4 (dk_at dksL_law_18 17 rfl rfl)
theorem dL_law_481 : decode cL_law 481 = .ok (.ireturn, 1) := dk_172 (dk_at dksL_law_18 18 rfl rfl)
