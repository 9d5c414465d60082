/-! BombFamilies -/
set_option maxRecDepth 100000
def RX1 : String := "BombFamilies"
def TX1 : u_T := fun k => match k with
  | 0 => ("BombFamilies", "tape", "LBombFamilies$Bytes;", true)
  | 1 => ("BombFamilies", "spare", "LBombFamilies$Bytes;", true)
  | 2 => ("BombFamilies", "seed", "J", false)
  | 3 => ("BombFamilies", "kinds", "[LBombFamilies$Kind;", true)
  | 4 => ("BombFamilies", "table", "LBombFamilies$Table;", true)
  | 5 => ("BombFamilies", "thrown", "LBombFamilies$Fault;", true)
  | 6 => ("BombFamilies", "scopes", "[LBombFamilies$Scope;", true)
  | 7 => ("BombFamilies", "ends", "[I", true)
  | 8 => ("BombFamilies", "ended", "I", false)
  | 9 => ("BombFamilies", "items", "[I", true)
  | 10 => ("BombFamilies", "itemMany", "I", false)
  | 11 => ("BombFamilies", "out", "LBombFamilies$Bytes;", true)
  | 12 => ("BombFamilies", "most", "I", false)
  | 13 => ("BombFamilies", "limit", "I", false)
  | 14 => ("BombFamilies", "deepest", "I", false)
  | 15 => ("BombFamilies", "steps", "I", false)
  | 16 => ("BombFamilies", "deep", "I", false)
  | 17 => ("BombFamilies", "packs", "I", false)
  | 18 => ("BombFamilies", "fault", "I", false)
  | 19 => ("BombFamilies", "place", "I", false)
  | _ => ("BombFamilies", "reads", "I", false)
def tyX1 : Nat → FieldType := fun k => match k with
  | 0 => .object "BombFamilies$Bytes"
  | 1 => .object "BombFamilies$Bytes"
  | 2 => .long
  | 3 => .array (.object "BombFamilies$Kind")
  | 4 => .object "BombFamilies$Table"
  | 5 => .object "BombFamilies$Fault"
  | 6 => .array (.object "BombFamilies$Scope")
  | 7 => .array .int
  | 8 => .int
  | 9 => .array .int
  | 10 => .int
  | 11 => .object "BombFamilies$Bytes"
  | 12 => .int
  | 13 => .int
  | 14 => .int
  | 15 => .int
  | 16 => .int
  | 17 => .int
  | 18 => .int
  | 19 => .int
  | _ => .int
abbrev wsX10 : List Cond := u_ws RX1 TX1 21
set_option maxRecDepth 100000 in
theorem nmX1 : ∀ a, a < 21 → ∀ b, b < 21 → a ≠ b → (TX1 a).2.1 ≠ (TX1 b).2.1 := by decide +kernel
set_option maxRecDepth 100000 in
theorem tyX1_ok : ∀ k, k < 21 → parseFieldDescriptor (TX1 k).2.2.1 = some (tyX1 k) := by decide +kernel
abbrev cX1_init : ByteArray := prog_1_method_4_code
def yX1_init : MethodName := ⟨RX1, "<init>", "(J)V"⟩
def dkwX1_init_8 : List UInt8 := [42, 180, 0, 46, 29, 187, 0, 54, 89, 42, 29, 183, 0, 116, 83, 132, 3, 1, 167, 255, 232, 177]
abbrev dktX1_init_8 : List UInt8 := dkwX1_init_8 ++ []
def dkwX1_init_7 : List UInt8 := [183, 0, 75, 181, 0, 13, 42, 2, 181, 0, 40, 42, 31, 181, 0, 112, 3, 62, 29, 16, 8, 163, 0, 24]
abbrev dktX1_init_7 : List UInt8 := dkwX1_init_7 ++ dktX1_init_8
def dkwX1_init_6 : List UInt8 := [188, 10, 181, 0, 105, 42, 17, 23, 112, 188, 10, 181, 0, 109, 42, 187, 0, 18, 89, 17, 15, 160]
abbrev dktX1_init_6 : List UInt8 := dkwX1_init_6 ++ dktX1_init_7
def dkwX1_init_5 : List UInt8 := [187, 0, 59, 89, 183, 0, 104, 181, 0, 65, 42, 16, 9, 189, 0, 54, 181, 0, 46, 42, 17, 4, 176]
abbrev dktX1_init_5 : List UInt8 := dkwX1_init_5 ++ dktX1_init_6
def dkwX1_init_4 : List UInt8 := [89, 16, 7, 186, 0, 92, 0, 0, 83, 181, 0, 93, 42, 187, 0, 97, 89, 183, 0, 99, 181, 0, 100, 42]
abbrev dktX1_init_4 : List UInt8 := dkwX1_init_4 ++ dktX1_init_5
def dkwX1_init_3 : List UInt8 := [7, 186, 0, 89, 0, 0, 83, 89, 8, 186, 0, 90, 0, 0, 83, 89, 16, 6, 186, 0, 91, 0, 0, 83]
abbrev dktX1_init_3 : List UInt8 := dkwX1_init_3 ++ dktX1_init_4
def dkwX1_init_2 : List UInt8 := [4, 186, 0, 86, 0, 0, 83, 89, 5, 186, 0, 87, 0, 0, 83, 89, 6, 186, 0, 88, 0, 0, 83, 89]
abbrev dktX1_init_2 : List UInt8 := dkwX1_init_2 ++ dktX1_init_3
def dkwX1_init_1 : List UInt8 := [17, 4, 176, 183, 0, 75, 181, 0, 78, 42, 16, 8, 189, 0, 81, 89, 3, 186, 0, 83, 0, 0, 83, 89]
abbrev dktX1_init_1 : List UInt8 := dkwX1_init_1 ++ dktX1_init_2
def dkwX1_init_0 : List UInt8 := [42, 183, 0, 69, 42, 187, 0, 18, 89, 17, 4, 176, 183, 0, 75, 181, 0, 50, 42, 187, 0, 18, 89]
abbrev dktX1_init_0 : List UInt8 := dkwX1_init_0 ++ dktX1_init_1
theorem dksX1_init_0 : cX1_init.data.toList.drop 0 = dktX1_init_0 := by decide +kernel
theorem dksX1_init_1 : cX1_init.data.toList.drop 23 = dktX1_init_1 := dk_seg dksX1_init_0 23 rfl rfl
theorem dksX1_init_2 : cX1_init.data.toList.drop 47 = dktX1_init_2 := dk_seg dksX1_init_1 24 rfl rfl
theorem dksX1_init_3 : cX1_init.data.toList.drop 71 = dktX1_init_3 := dk_seg dksX1_init_2 24 rfl rfl
theorem dksX1_init_4 : cX1_init.data.toList.drop 95 = dktX1_init_4 := dk_seg dksX1_init_3 24 rfl rfl
theorem dksX1_init_5 : cX1_init.data.toList.drop 119 = dktX1_init_5 := dk_seg dksX1_init_4 24 rfl rfl
theorem dksX1_init_6 : cX1_init.data.toList.drop 142 = dktX1_init_6 := dk_seg dksX1_init_5 23 rfl rfl
theorem dksX1_init_7 : cX1_init.data.toList.drop 164 = dktX1_init_7 := dk_seg dksX1_init_6 22 rfl rfl
theorem dksX1_init_8 : cX1_init.data.toList.drop 188 = dktX1_init_8 := dk_seg dksX1_init_7 24 rfl rfl
theorem dX1_init_0 : decode cX1_init 0 = .ok (.aload_n 0, 1) := dk_42 (dk_at dksX1_init_0 0 rfl rfl)
theorem dX1_init_1 : decode cX1_init 1 = .ok (.invokespecial 69, 3) := dk_183 0 69 (dk_at dksX1_init_0 1 rfl rfl)
theorem dX1_init_4 : decode cX1_init 4 = .ok (.aload_n 0, 1) := dk_42 (dk_at dksX1_init_0 4 rfl rfl)
theorem dX1_init_5 : decode cX1_init 5 = .ok (.new 18, 3) := dk_187 0 18 (dk_at dksX1_init_0 5 rfl rfl)
theorem dX1_init_8 : decode cX1_init 8 = .ok (.dup, 1) := dk_89 (dk_at dksX1_init_0 8 rfl rfl)
theorem dX1_init_9 : decode cX1_init 9 = .ok (.sipush 1200, 3) := dk_17 4 176 (dk_at dksX1_init_0 9 rfl rfl)
theorem dX1_init_12 : decode cX1_init 12 = .ok (.invokespecial 75, 3) := dk_183 0 75 (dk_at dksX1_init_0 12 rfl rfl)
theorem dX1_init_15 : decode cX1_init 15 = .ok (.putfield 50, 3) := dk_181 0 50 (dk_at dksX1_init_0 15 rfl rfl)
theorem dX1_init_18 : decode cX1_init 18 = .ok (.aload_n 0, 1) := dk_42 (dk_at dksX1_init_0 18 rfl rfl)
theorem dX1_init_19 : decode cX1_init 19 = .ok (.new 18, 3) := dk_187 0 18 (dk_at dksX1_init_0 19 rfl rfl)
theorem dX1_init_22 : decode cX1_init 22 = .ok (.dup, 1) := dk_89 (dk_at dksX1_init_0 22 rfl rfl)
theorem dX1_init_23 : decode cX1_init 23 = .ok (.sipush 1200, 3) := dk_17 4 176 (dk_at dksX1_init_1 0 rfl rfl)
theorem dX1_init_26 : decode cX1_init 26 = .ok (.invokespecial 75, 3) := dk_183 0 75 (dk_at dksX1_init_1 3 rfl rfl)
theorem dX1_init_29 : decode cX1_init 29 = .ok (.putfield 78, 3) := dk_181 0 78 (dk_at dksX1_init_1 6 rfl rfl)
theorem dX1_init_32 : decode cX1_init 32 = .ok (.aload_n 0, 1) := dk_42 (dk_at dksX1_init_1 9 rfl rfl)
theorem dX1_init_33 : decode cX1_init 33 = .ok (.bipush 8, 2) := dk_16 8 (dk_at dksX1_init_1 10 rfl rfl)
theorem dX1_init_35 : decode cX1_init 35 = .ok (.anewarray 81, 3) := dk_189 0 81 (dk_at dksX1_init_1 12 rfl rfl)
theorem dX1_init_38 : decode cX1_init 38 = .ok (.dup, 1) := dk_89 (dk_at dksX1_init_1 15 rfl rfl)
theorem dX1_init_39 : decode cX1_init 39 = .ok (.iconst 0, 1) := dk_3 (dk_at dksX1_init_1 16 rfl rfl)
theorem dX1_init_40 : decode cX1_init 40 = .ok (.invokedynamic 83, 5) := by decide +kernel
theorem dX1_init_45 : decode cX1_init 45 = .ok (.aastore, 1) := dk_83 (dk_at dksX1_init_1 22 rfl rfl)
theorem dX1_init_46 : decode cX1_init 46 = .ok (.dup, 1) := dk_89 (dk_at dksX1_init_1 23 rfl rfl)
theorem dX1_init_47 : decode cX1_init 47 = .ok (.iconst 1, 1) := dk_4 (dk_at dksX1_init_2 0 rfl rfl)
theorem dX1_init_48 : decode cX1_init 48 = .ok (.invokedynamic 86, 5) := by decide +kernel
theorem dX1_init_53 : decode cX1_init 53 = .ok (.aastore, 1) := dk_83 (dk_at dksX1_init_2 6 rfl rfl)
theorem dX1_init_54 : decode cX1_init 54 = .ok (.dup, 1) := dk_89 (dk_at dksX1_init_2 7 rfl rfl)
theorem dX1_init_55 : decode cX1_init 55 = .ok (.iconst 2, 1) := dk_5 (dk_at dksX1_init_2 8 rfl rfl)
theorem dX1_init_56 : decode cX1_init 56 = .ok (.invokedynamic 87, 5) := by decide +kernel
theorem dX1_init_61 : decode cX1_init 61 = .ok (.aastore, 1) := dk_83 (dk_at dksX1_init_2 14 rfl rfl)
theorem dX1_init_62 : decode cX1_init 62 = .ok (.dup, 1) := dk_89 (dk_at dksX1_init_2 15 rfl rfl)
theorem dX1_init_63 : decode cX1_init 63 = .ok (.iconst 3, 1) := dk_6 (dk_at dksX1_init_2 16 rfl rfl)
theorem dX1_init_64 : decode cX1_init 64 = .ok (.invokedynamic 88, 5) := by decide +kernel
theorem dX1_init_69 : decode cX1_init 69 = .ok (.aastore, 1) := dk_83 (dk_at dksX1_init_2 22 rfl rfl)
theorem dX1_init_70 : decode cX1_init 70 = .ok (.dup, 1) := dk_89 (dk_at dksX1_init_2 23 rfl rfl)
theorem dX1_init_71 : decode cX1_init 71 = .ok (.iconst 4, 1) := dk_7 (dk_at dksX1_init_3 0 rfl rfl)
theorem dX1_init_72 : decode cX1_init 72 = .ok (.invokedynamic 89, 5) := by decide +kernel
theorem dX1_init_77 : decode cX1_init 77 = .ok (.aastore, 1) := dk_83 (dk_at dksX1_init_3 6 rfl rfl)
theorem dX1_init_78 : decode cX1_init 78 = .ok (.dup, 1) := dk_89 (dk_at dksX1_init_3 7 rfl rfl)
theorem dX1_init_79 : decode cX1_init 79 = .ok (.iconst 5, 1) := dk_8 (dk_at dksX1_init_3 8 rfl rfl)
theorem dX1_init_80 : decode cX1_init 80 = .ok (.invokedynamic 90, 5) := by decide +kernel
theorem dX1_init_85 : decode cX1_init 85 = .ok (.aastore, 1) := dk_83 (dk_at dksX1_init_3 14 rfl rfl)
theorem dX1_init_86 : decode cX1_init 86 = .ok (.dup, 1) := dk_89 (dk_at dksX1_init_3 15 rfl rfl)
theorem dX1_init_87 : decode cX1_init 87 = .ok (.bipush 6, 2) := dk_16 6 (dk_at dksX1_init_3 16 rfl rfl)
theorem dX1_init_89 : decode cX1_init 89 = .ok (.invokedynamic 91, 5) := by decide +kernel
theorem dX1_init_94 : decode cX1_init 94 = .ok (.aastore, 1) := dk_83 (dk_at dksX1_init_3 23 rfl rfl)
theorem dX1_init_95 : decode cX1_init 95 = .ok (.dup, 1) := dk_89 (dk_at dksX1_init_4 0 rfl rfl)
theorem dX1_init_96 : decode cX1_init 96 = .ok (.bipush 7, 2) := dk_16 7 (dk_at dksX1_init_4 1 rfl rfl)
theorem dX1_init_98 : decode cX1_init 98 = .ok (.invokedynamic 92, 5) := by decide +kernel
theorem dX1_init_103 : decode cX1_init 103 = .ok (.aastore, 1) := dk_83 (dk_at dksX1_init_4 8 rfl rfl)
theorem dX1_init_104 : decode cX1_init 104 = .ok (.putfield 93, 3) := dk_181 0 93 (dk_at dksX1_init_4 9 rfl rfl)
theorem dX1_init_107 : decode cX1_init 107 = .ok (.aload_n 0, 1) := dk_42 (dk_at dksX1_init_4 12 rfl rfl)
theorem dX1_init_108 : decode cX1_init 108 = .ok (.new 97, 3) := dk_187 0 97 (dk_at dksX1_init_4 13 rfl rfl)
theorem dX1_init_111 : decode cX1_init 111 = .ok (.dup, 1) := dk_89 (dk_at dksX1_init_4 16 rfl rfl)
theorem dX1_init_112 : decode cX1_init 112 = .ok (.invokespecial 99, 3) := dk_183 0 99 (dk_at dksX1_init_4 17 rfl rfl)
theorem dX1_init_115 : decode cX1_init 115 = .ok (.putfield 100, 3) := dk_181 0 100 (dk_at dksX1_init_4 20 rfl rfl)
theorem dX1_init_118 : decode cX1_init 118 = .ok (.aload_n 0, 1) := dk_42 (dk_at dksX1_init_4 23 rfl rfl)
theorem dX1_init_119 : decode cX1_init 119 = .ok (.new 59, 3) := dk_187 0 59 (dk_at dksX1_init_5 0 rfl rfl)
theorem dX1_init_122 : decode cX1_init 122 = .ok (.dup, 1) := dk_89 (dk_at dksX1_init_5 3 rfl rfl)
theorem dX1_init_123 : decode cX1_init 123 = .ok (.invokespecial 104, 3) := dk_183 0 104 (dk_at dksX1_init_5 4 rfl rfl)
theorem dX1_init_126 : decode cX1_init 126 = .ok (.putfield 65, 3) := dk_181 0 65 (dk_at dksX1_init_5 7 rfl rfl)
theorem dX1_init_129 : decode cX1_init 129 = .ok (.aload_n 0, 1) := dk_42 (dk_at dksX1_init_5 10 rfl rfl)
theorem dX1_init_130 : decode cX1_init 130 = .ok (.bipush 9, 2) := dk_16 9 (dk_at dksX1_init_5 11 rfl rfl)
theorem dX1_init_132 : decode cX1_init 132 = .ok (.anewarray 54, 3) := dk_189 0 54 (dk_at dksX1_init_5 13 rfl rfl)
theorem dX1_init_135 : decode cX1_init 135 = .ok (.putfield 46, 3) := dk_181 0 46 (dk_at dksX1_init_5 16 rfl rfl)
theorem dX1_init_138 : decode cX1_init 138 = .ok (.aload_n 0, 1) := dk_42 (dk_at dksX1_init_5 19 rfl rfl)
theorem dX1_init_139 : decode cX1_init 139 = .ok (.sipush 1200, 3) := dk_17 4 176 (dk_at dksX1_init_5 20 rfl rfl)
theorem dX1_init_142 : decode cX1_init 142 = .ok (.newarray .int, 2) := dk_188_10 (dk_at dksX1_init_6 0 rfl rfl)
theorem dX1_init_144 : decode cX1_init 144 = .ok (.putfield 105, 3) := dk_181 0 105 (dk_at dksX1_init_6 2 rfl rfl)
theorem dX1_init_147 : decode cX1_init 147 = .ok (.aload_n 0, 1) := dk_42 (dk_at dksX1_init_6 5 rfl rfl)
theorem dX1_init_148 : decode cX1_init 148 = .ok (.sipush 6000, 3) := dk_17 23 112 (dk_at dksX1_init_6 6 rfl rfl)
theorem dX1_init_151 : decode cX1_init 151 = .ok (.newarray .int, 2) := dk_188_10 (dk_at dksX1_init_6 9 rfl rfl)
theorem dX1_init_153 : decode cX1_init 153 = .ok (.putfield 109, 3) := dk_181 0 109 (dk_at dksX1_init_6 11 rfl rfl)
theorem dX1_init_156 : decode cX1_init 156 = .ok (.aload_n 0, 1) := dk_42 (dk_at dksX1_init_6 14 rfl rfl)
theorem dX1_init_157 : decode cX1_init 157 = .ok (.new 18, 3) := dk_187 0 18 (dk_at dksX1_init_6 15 rfl rfl)
theorem dX1_init_160 : decode cX1_init 160 = .ok (.dup, 1) := dk_89 (dk_at dksX1_init_6 18 rfl rfl)
theorem dX1_init_161 : decode cX1_init 161 = .ok (.sipush 4000, 3) := dk_17 15 160 (dk_at dksX1_init_6 19 rfl rfl)
theorem dX1_init_164 : decode cX1_init 164 = .ok (.invokespecial 75, 3) := dk_183 0 75 (dk_at dksX1_init_7 0 rfl rfl)
theorem dX1_init_167 : decode cX1_init 167 = .ok (.putfield 13, 3) := dk_181 0 13 (dk_at dksX1_init_7 3 rfl rfl)
theorem dX1_init_170 : decode cX1_init 170 = .ok (.aload_n 0, 1) := dk_42 (dk_at dksX1_init_7 6 rfl rfl)
theorem dX1_init_171 : decode cX1_init 171 = .ok (.iconst (-1), 1) := dk_2 (dk_at dksX1_init_7 7 rfl rfl)
theorem dX1_init_172 : decode cX1_init 172 = .ok (.putfield 40, 3) := dk_181 0 40 (dk_at dksX1_init_7 8 rfl rfl)
theorem dX1_init_175 : decode cX1_init 175 = .ok (.aload_n 0, 1) := dk_42 (dk_at dksX1_init_7 11 rfl rfl)
theorem dX1_init_176 : decode cX1_init 176 = .ok (.lload_n 1, 1) := dk_31 (dk_at dksX1_init_7 12 rfl rfl)
theorem dX1_init_177 : decode cX1_init 177 = .ok (.putfield 112, 3) := dk_181 0 112 (dk_at dksX1_init_7 13 rfl rfl)
theorem dX1_init_180 : decode cX1_init 180 = .ok (.iconst 0, 1) := dk_3 (dk_at dksX1_init_7 16 rfl rfl)
theorem dX1_init_181 : decode cX1_init 181 = .ok (.istore_n 3, 1) := dk_62 (dk_at dksX1_init_7 17 rfl rfl)
theorem dX1_init_182 : decode cX1_init 182 = .ok (.iload_n 3, 1) := dk_29 (dk_at dksX1_init_7 18 rfl rfl)
theorem dX1_init_183 : decode cX1_init 183 = .ok (.bipush 8, 2) := dk_16 8 (dk_at dksX1_init_7 19 rfl rfl)
theorem dX1_init_185 : decode cX1_init 185 = .ok (.if_icmp .gt 24, 3) := dk_163 0 24 (dk_at dksX1_init_7 21 rfl rfl)
theorem dX1_init_188 : decode cX1_init 188 = .ok (.aload_n 0, 1) := dk_42 (dk_at dksX1_init_8 0 rfl rfl)
theorem dX1_init_189 : decode cX1_init 189 = .ok (.getfield 46, 3) := dk_180 0 46 (dk_at dksX1_init_8 1 rfl rfl)
theorem dX1_init_192 : decode cX1_init 192 = .ok (.iload_n 3, 1) := dk_29 (dk_at dksX1_init_8 4 rfl rfl)
theorem dX1_init_193 : decode cX1_init 193 = .ok (.new 54, 3) := dk_187 0 54 (dk_at dksX1_init_8 5 rfl rfl)
theorem dX1_init_196 : decode cX1_init 196 = .ok (.dup, 1) := dk_89 (dk_at dksX1_init_8 8 rfl rfl)
theorem dX1_init_197 : decode cX1_init 197 = .ok (.aload_n 0, 1) := dk_42 (dk_at dksX1_init_8 9 rfl rfl)
theorem dX1_init_198 : decode cX1_init 198 = .ok (.iload_n 3, 1) := dk_29 (dk_at dksX1_init_8 10 rfl rfl)
theorem dX1_init_199 : decode cX1_init 199 = .ok (.invokespecial 116, 3) := dk_183 0 116 (dk_at dksX1_init_8 11 rfl rfl)
theorem dX1_init_202 : decode cX1_init 202 = .ok (.aastore, 1) := dk_83 (dk_at dksX1_init_8 14 rfl rfl)
theorem dX1_init_203 : decode cX1_init 203 = .ok (.iinc 3 1, 3) := dk_132 3 1 (dk_at dksX1_init_8 15 rfl rfl)
theorem dX1_init_206 : decode cX1_init 206 = .ok (.goto (-24), 3) := dk_167 255 232 (dk_at dksX1_init_8 18 rfl rfl)
theorem dX1_init_209 : decode cX1_init 209 = .ok (.return_, 1) := dk_177 (dk_at dksX1_init_8 21 rfl rfl)
abbrev cX1_lambda_new_0 : ByteArray := prog_1_method_33_code
def yX1_lambda_new_0 : MethodName := ⟨RX1, "lambda$new$0", "(LBombFamilies$Scope;)V"⟩
theorem dX1_lambda_new_0_0 : decode cX1_lambda_new_0 0 = .ok (.return_, 1) := by decide +kernel
abbrev cX1_lambda_new_1 : ByteArray := prog_1_method_32_code
def yX1_lambda_new_1 : MethodName := ⟨RX1, "lambda$new$1", "(LBombFamilies$Scope;)V"⟩
theorem dX1_lambda_new_1_0 : decode cX1_lambda_new_1 0 = .ok (.aload_n 0, 1) := by decide +kernel
theorem dX1_lambda_new_1_1 : decode cX1_lambda_new_1 1 = .ok (.invokevirtual 195, 3) := by decide +kernel
theorem dX1_lambda_new_1_4 : decode cX1_lambda_new_1 4 = .ok (.return_, 1) := by decide +kernel
abbrev cX1_need : ByteArray := prog_1_method_3_code
def yX1_need : MethodName := ⟨RX1, "need", "(ZII)V"⟩
def dkwX1_need_1 : List UInt8 := [191, 177]
abbrev dktX1_need_1 : List UInt8 := dkwX1_need_1 ++ []
def dkwX1_need_0 : List UInt8 := [27, 154, 0, 24, 42, 180, 0, 65, 28, 181, 0, 61, 42, 180, 0, 65, 29, 181, 0, 64, 42, 180, 0, 65]
abbrev dktX1_need_0 : List UInt8 := dkwX1_need_0 ++ dktX1_need_1
theorem dksX1_need_0 : cX1_need.data.toList.drop 0 = dktX1_need_0 := by decide +kernel
theorem dksX1_need_1 : cX1_need.data.toList.drop 24 = dktX1_need_1 := dk_seg dksX1_need_0 24 rfl rfl
theorem dX1_need_0 : decode cX1_need 0 = .ok (.iload_n 1, 1) := dk_27 (dk_at dksX1_need_0 0 rfl rfl)
theorem dX1_need_1 : decode cX1_need 1 = .ok (.ifCond .ne 24, 3) := dk_154 0 24 (dk_at dksX1_need_0 1 rfl rfl)
theorem dX1_need_4 : decode cX1_need 4 = .ok (.aload_n 0, 1) := dk_42 (dk_at dksX1_need_0 4 rfl rfl)
theorem dX1_need_5 : decode cX1_need 5 = .ok (.getfield 65, 3) := dk_180 0 65 (dk_at dksX1_need_0 5 rfl rfl)
theorem dX1_need_8 : decode cX1_need 8 = .ok (.iload_n 2, 1) := dk_28 (dk_at dksX1_need_0 8 rfl rfl)
theorem dX1_need_9 : decode cX1_need 9 = .ok (.putfield 61, 3) := dk_181 0 61 (dk_at dksX1_need_0 9 rfl rfl)
theorem dX1_need_12 : decode cX1_need 12 = .ok (.aload_n 0, 1) := dk_42 (dk_at dksX1_need_0 12 rfl rfl)
theorem dX1_need_13 : decode cX1_need 13 = .ok (.getfield 65, 3) := dk_180 0 65 (dk_at dksX1_need_0 13 rfl rfl)
theorem dX1_need_16 : decode cX1_need 16 = .ok (.iload_n 3, 1) := dk_29 (dk_at dksX1_need_0 16 rfl rfl)
theorem dX1_need_17 : decode cX1_need 17 = .ok (.putfield 64, 3) := dk_181 0 64 (dk_at dksX1_need_0 17 rfl rfl)
theorem dX1_need_20 : decode cX1_need 20 = .ok (.aload_n 0, 1) := dk_42 (dk_at dksX1_need_0 20 rfl rfl)
theorem dX1_need_21 : decode cX1_need 21 = .ok (.getfield 65, 3) := dk_180 0 65 (dk_at dksX1_need_0 21 rfl rfl)
theorem dX1_need_24 : decode cX1_need 24 = .ok (.athrow, 1) := dk_191 (dk_at dksX1_need_1 0 rfl rfl)
theorem dX1_need_25 : decode cX1_need 25 = .ok (.return_, 1) := dk_177 (dk_at dksX1_need_1 1 rfl rfl)
abbrev cX1_lambda_new_2 : ByteArray := prog_1_method_31_code
def yX1_lambda_new_2 : MethodName := ⟨RX1, "lambda$new$2", "(LBombFamilies$Scope;)V"⟩
theorem dX1_lambda_new_2_0 : decode cX1_lambda_new_2 0 = .ok (.aload_n 0, 1) := by decide +kernel
theorem dX1_lambda_new_2_1 : decode cX1_lambda_new_2 1 = .ok (.invokevirtual 192, 3) := by decide +kernel
theorem dX1_lambda_new_2_4 : decode cX1_lambda_new_2 4 = .ok (.return_, 1) := by decide +kernel
abbrev cX1_lambda_new_3 : ByteArray := prog_1_method_30_code
def yX1_lambda_new_3 : MethodName := ⟨RX1, "lambda$new$3", "(LBombFamilies$Scope;)V"⟩
theorem dX1_lambda_new_3_0 : decode cX1_lambda_new_3 0 = .ok (.aload_n 0, 1) := by decide +kernel
theorem dX1_lambda_new_3_1 : decode cX1_lambda_new_3 1 = .ok (.invokevirtual 189, 3) := by decide +kernel
theorem dX1_lambda_new_3_4 : decode cX1_lambda_new_3 4 = .ok (.return_, 1) := by decide +kernel
abbrev cX1_in : ByteArray := prog_1_method_1_code
def yX1_in : MethodName := ⟨RX1, "in", "(III)Z"⟩
def dkwX1_in_0 : List UInt8 := [26, 27, 161, 0, 12, 26, 28, 163, 0, 7, 4, 167, 0, 4, 3, 172]
abbrev dktX1_in_0 : List UInt8 := dkwX1_in_0 ++ []
theorem dksX1_in_0 : cX1_in.data.toList.drop 0 = dktX1_in_0 := by decide +kernel
theorem dX1_in_0 : decode cX1_in 0 = .ok (.iload_n 0, 1) := dk_26 (dk_at dksX1_in_0 0 rfl rfl)
theorem dX1_in_1 : decode cX1_in 1 = .ok (.iload_n 1, 1) := dk_27 (dk_at dksX1_in_0 1 rfl rfl)
theorem dX1_in_2 : decode cX1_in 2 = .ok (.if_icmp .lt 12, 3) := dk_161 0 12 (dk_at dksX1_in_0 2 rfl rfl)
theorem dX1_in_5 : decode cX1_in 5 = .ok (.iload_n 0, 1) := dk_26 (dk_at dksX1_in_0 5 rfl rfl)
theorem dX1_in_6 : decode cX1_in 6 = .ok (.iload_n 2, 1) := dk_28 (dk_at dksX1_in_0 6 rfl rfl)
theorem dX1_in_7 : decode cX1_in 7 = .ok (.if_icmp .gt 7, 3) := dk_163 0 7 (dk_at dksX1_in_0 7 rfl rfl)
theorem dX1_in_10 : decode cX1_in 10 = .ok (.iconst 1, 1) := dk_4 (dk_at dksX1_in_0 10 rfl rfl)
theorem dX1_in_11 : decode cX1_in 11 = .ok (.goto 4, 3) := dk_167 0 4 (dk_at dksX1_in_0 11 rfl rfl)
theorem dX1_in_14 : decode cX1_in 14 = .ok (.iconst 0, 1) := dk_3 (dk_at dksX1_in_0 14 rfl rfl)
theorem dX1_in_15 : decode cX1_in 15 = .ok (.ireturn, 1) := dk_172 (dk_at dksX1_in_0 15 rfl rfl)
abbrev cX1_lambda_new_4 : ByteArray := prog_1_method_29_code
def yX1_lambda_new_4 : MethodName := ⟨RX1, "lambda$new$4", "(LBombFamilies$Scope;)V"⟩
theorem dX1_lambda_new_4_0 : decode cX1_lambda_new_4 0 = .ok (.aload_n 0, 1) := by decide +kernel
theorem dX1_lambda_new_4_1 : decode cX1_lambda_new_4 1 = .ok (.invokevirtual 186, 3) := by decide +kernel
theorem dX1_lambda_new_4_4 : decode cX1_lambda_new_4 4 = .ok (.return_, 1) := by decide +kernel
abbrev cX1_lambda_new_5 : ByteArray := prog_1_method_28_code
def yX1_lambda_new_5 : MethodName := ⟨RX1, "lambda$new$5", "(LBombFamilies$Scope;)V"⟩
theorem dX1_lambda_new_5_0 : decode cX1_lambda_new_5 0 = .ok (.aload_n 0, 1) := by decide +kernel
theorem dX1_lambda_new_5_1 : decode cX1_lambda_new_5 1 = .ok (.invokevirtual 183, 3) := by decide +kernel
theorem dX1_lambda_new_5_4 : decode cX1_lambda_new_5 4 = .ok (.return_, 1) := by decide +kernel
abbrev cX1_lambda_new_6 : ByteArray := prog_1_method_27_code
def yX1_lambda_new_6 : MethodName := ⟨RX1, "lambda$new$6", "(LBombFamilies$Scope;)V"⟩
theorem dX1_lambda_new_6_0 : decode cX1_lambda_new_6 0 = .ok (.aload_n 0, 1) := by decide +kernel
theorem dX1_lambda_new_6_1 : decode cX1_lambda_new_6 1 = .ok (.invokevirtual 180, 3) := by decide +kernel
theorem dX1_lambda_new_6_4 : decode cX1_lambda_new_6 4 = .ok (.return_, 1) := by decide +kernel
abbrev cX1_lambda_new_7 : ByteArray := prog_1_method_26_code
def yX1_lambda_new_7 : MethodName := ⟨RX1, "lambda$new$7", "(LBombFamilies$Scope;)V"⟩
theorem dX1_lambda_new_7_0 : decode cX1_lambda_new_7 0 = .ok (.aload_n 0, 1) := by decide +kernel
theorem dX1_lambda_new_7_1 : decode cX1_lambda_new_7 1 = .ok (.invokevirtual 177, 3) := by decide +kernel
theorem dX1_lambda_new_7_4 : decode cX1_lambda_new_7 4 = .ok (.return_, 1) := by decide +kernel
abbrev cX1_feed : ByteArray := prog_1_method_13_code
def yX1_feed : MethodName := ⟨RX1, "feed", "(IJ)I"⟩
def dkwX1_feed_2 : List UInt8 := [16, 8, 21, 4, 104, 123, 136, 182, 0, 123, 132, 4, 255, 167, 255, 233, 42, 180, 0, 50, 180, 0, 17, 172]
abbrev dktX1_feed_2 : List UInt8 := dkwX1_feed_2 ++ []
def dkwX1_feed_1 : List UInt8 := [17, 4, 176, 164, 0, 6, 16, 252, 172, 27, 4, 100, 54, 4, 21, 4, 155, 0, 24, 42, 180, 0, 50, 32]
abbrev dktX1_feed_1 : List UInt8 := dkwX1_feed_1 ++ dktX1_feed_2
def dkwX1_feed_0 : List UInt8 := [27, 4, 16, 8, 184, 0, 151, 154, 0, 6, 16, 254, 172, 42, 180, 0, 50, 180, 0, 17, 27, 96]
abbrev dktX1_feed_0 : List UInt8 := dkwX1_feed_0 ++ dktX1_feed_1
theorem dksX1_feed_0 : cX1_feed.data.toList.drop 0 = dktX1_feed_0 := by decide +kernel
theorem dksX1_feed_1 : cX1_feed.data.toList.drop 22 = dktX1_feed_1 := dk_seg dksX1_feed_0 22 rfl rfl
theorem dksX1_feed_2 : cX1_feed.data.toList.drop 46 = dktX1_feed_2 := dk_seg dksX1_feed_1 24 rfl rfl
theorem dX1_feed_0 : decode cX1_feed 0 = .ok (.iload_n 1, 1) := dk_27 (dk_at dksX1_feed_0 0 rfl rfl)
theorem dX1_feed_1 : decode cX1_feed 1 = .ok (.iconst 1, 1) := dk_4 (dk_at dksX1_feed_0 1 rfl rfl)
theorem dX1_feed_2 : decode cX1_feed 2 = .ok (.bipush 8, 2) := dk_16 8 (dk_at dksX1_feed_0 2 rfl rfl)
theorem dX1_feed_4 : decode cX1_feed 4 = .ok (.invokestatic 151, 3) := dk_184 0 151 (dk_at dksX1_feed_0 4 rfl rfl)
theorem dX1_feed_7 : decode cX1_feed 7 = .ok (.ifCond .ne 6, 3) := dk_154 0 6 (dk_at dksX1_feed_0 7 rfl rfl)
theorem dX1_feed_10 : decode cX1_feed 10 = .ok (.bipush (-2), 2) := dk_16 254 (dk_at dksX1_feed_0 10 rfl rfl)
theorem dX1_feed_12 : decode cX1_feed 12 = .ok (.ireturn, 1) := dk_172 (dk_at dksX1_feed_0 12 rfl rfl)
theorem dX1_feed_13 : decode cX1_feed 13 = .ok (.aload_n 0, 1) := dk_42 (dk_at dksX1_feed_0 13 rfl rfl)
theorem dX1_feed_14 : decode cX1_feed 14 = .ok (.getfield 50, 3) := dk_180 0 50 (dk_at dksX1_feed_0 14 rfl rfl)
theorem dX1_feed_17 : decode cX1_feed 17 = .ok (.getfield 17, 3) := dk_180 0 17 (dk_at dksX1_feed_0 17 rfl rfl)
theorem dX1_feed_20 : decode cX1_feed 20 = .ok (.iload_n 1, 1) := dk_27 (dk_at dksX1_feed_0 20 rfl rfl)
theorem dX1_feed_21 : decode cX1_feed 21 = .ok (.iadd, 1) := dk_96 (dk_at dksX1_feed_0 21 rfl rfl)
theorem dX1_feed_22 : decode cX1_feed 22 = .ok (.sipush 1200, 3) := dk_17 4 176 (dk_at dksX1_feed_1 0 rfl rfl)
theorem dX1_feed_25 : decode cX1_feed 25 = .ok (.if_icmp .le 6, 3) := dk_164 0 6 (dk_at dksX1_feed_1 3 rfl rfl)
theorem dX1_feed_28 : decode cX1_feed 28 = .ok (.bipush (-4), 2) := dk_16 252 (dk_at dksX1_feed_1 6 rfl rfl)
theorem dX1_feed_30 : decode cX1_feed 30 = .ok (.ireturn, 1) := dk_172 (dk_at dksX1_feed_1 8 rfl rfl)
theorem dX1_feed_31 : decode cX1_feed 31 = .ok (.iload_n 1, 1) := dk_27 (dk_at dksX1_feed_1 9 rfl rfl)
theorem dX1_feed_32 : decode cX1_feed 32 = .ok (.iconst 1, 1) := dk_4 (dk_at dksX1_feed_1 10 rfl rfl)
theorem dX1_feed_33 : decode cX1_feed 33 = .ok (.isub, 1) := dk_100 (dk_at dksX1_feed_1 11 rfl rfl)
theorem dX1_feed_34 : decode cX1_feed 34 = .ok (.istore 4, 2) := dk_54 4 (dk_at dksX1_feed_1 12 rfl rfl)
theorem dX1_feed_36 : decode cX1_feed 36 = .ok (.iload 4, 2) := dk_21 4 (dk_at dksX1_feed_1 14 rfl rfl)
theorem dX1_feed_38 : decode cX1_feed 38 = .ok (.ifCond .lt 24, 3) := dk_155 0 24 (dk_at dksX1_feed_1 16 rfl rfl)
theorem dX1_feed_41 : decode cX1_feed 41 = .ok (.aload_n 0, 1) := dk_42 (dk_at dksX1_feed_1 19 rfl rfl)
theorem dX1_feed_42 : decode cX1_feed 42 = .ok (.getfield 50, 3) := dk_180 0 50 (dk_at dksX1_feed_1 20 rfl rfl)
theorem dX1_feed_45 : decode cX1_feed 45 = .ok (.lload_n 2, 1) := dk_32 (dk_at dksX1_feed_1 23 rfl rfl)
theorem dX1_feed_46 : decode cX1_feed 46 = .ok (.bipush 8, 2) := dk_16 8 (dk_at dksX1_feed_2 0 rfl rfl)
theorem dX1_feed_48 : decode cX1_feed 48 = .ok (.iload 4, 2) := dk_21 4 (dk_at dksX1_feed_2 2 rfl rfl)
theorem dX1_feed_50 : decode cX1_feed 50 = .ok (.imul, 1) := dk_104 (dk_at dksX1_feed_2 4 rfl rfl)
theorem dX1_feed_51 : decode cX1_feed 51 = .ok (.lshr, 1) := dk_123 (dk_at dksX1_feed_2 5 rfl rfl)
theorem dX1_feed_52 : decode cX1_feed 52 = .ok (.l2i, 1) := dk_136 (dk_at dksX1_feed_2 6 rfl rfl)
theorem dX1_feed_53 : decode cX1_feed 53 = .ok (.invokevirtual 123, 3) := dk_182 0 123 (dk_at dksX1_feed_2 7 rfl rfl)
theorem dX1_feed_56 : decode cX1_feed 56 = .ok (.iinc 4 (-1), 3) := dk_132 4 255 (dk_at dksX1_feed_2 10 rfl rfl)
theorem dX1_feed_59 : decode cX1_feed 59 = .ok (.goto (-23), 3) := dk_167 255 233 (dk_at dksX1_feed_2 13 rfl rfl)
theorem dX1_feed_62 : decode cX1_feed 62 = .ok (.aload_n 0, 1) := dk_42 (dk_at dksX1_feed_2 16 rfl rfl)
theorem dX1_feed_63 : decode cX1_feed 63 = .ok (.getfield 50, 3) := dk_180 0 50 (dk_at dksX1_feed_2 17 rfl rfl)
theorem dX1_feed_66 : decode cX1_feed 66 = .ok (.getfield 17, 3) := dk_180 0 17 (dk_at dksX1_feed_2 20 rfl rfl)
theorem dX1_feed_69 : decode cX1_feed 69 = .ok (.ireturn, 1) := dk_172 (dk_at dksX1_feed_2 23 rfl rfl)
abbrev cX1_cut : ByteArray := prog_1_method_14_code
def yX1_cut : MethodName := ⟨RX1, "cut", "(I)I"⟩
def dkwX1_cut_1 : List UInt8 := [180, 0, 17, 27, 100, 61, 42, 180, 0, 50, 27, 181, 0, 17, 28, 172]
abbrev dktX1_cut_1 : List UInt8 := dkwX1_cut_1 ++ []
def dkwX1_cut_0 : List UInt8 := [27, 3, 42, 180, 0, 50, 180, 0, 17, 184, 0, 151, 154, 0, 6, 16, 254, 172, 42, 180, 0, 50]
abbrev dktX1_cut_0 : List UInt8 := dkwX1_cut_0 ++ dktX1_cut_1
theorem dksX1_cut_0 : cX1_cut.data.toList.drop 0 = dktX1_cut_0 := by decide +kernel
theorem dksX1_cut_1 : cX1_cut.data.toList.drop 22 = dktX1_cut_1 := dk_seg dksX1_cut_0 22 rfl rfl
theorem dX1_cut_0 : decode cX1_cut 0 = .ok (.iload_n 1, 1) := dk_27 (dk_at dksX1_cut_0 0 rfl rfl)
theorem dX1_cut_1 : decode cX1_cut 1 = .ok (.iconst 0, 1) := dk_3 (dk_at dksX1_cut_0 1 rfl rfl)
theorem dX1_cut_2 : decode cX1_cut 2 = .ok (.aload_n 0, 1) := dk_42 (dk_at dksX1_cut_0 2 rfl rfl)
theorem dX1_cut_3 : decode cX1_cut 3 = .ok (.getfield 50, 3) := dk_180 0 50 (dk_at dksX1_cut_0 3 rfl rfl)
theorem dX1_cut_6 : decode cX1_cut 6 = .ok (.getfield 17, 3) := dk_180 0 17 (dk_at dksX1_cut_0 6 rfl rfl)
theorem dX1_cut_9 : decode cX1_cut 9 = .ok (.invokestatic 151, 3) := dk_184 0 151 (dk_at dksX1_cut_0 9 rfl rfl)
theorem dX1_cut_12 : decode cX1_cut 12 = .ok (.ifCond .ne 6, 3) := dk_154 0 6 (dk_at dksX1_cut_0 12 rfl rfl)
theorem dX1_cut_15 : decode cX1_cut 15 = .ok (.bipush (-2), 2) := dk_16 254 (dk_at dksX1_cut_0 15 rfl rfl)
theorem dX1_cut_17 : decode cX1_cut 17 = .ok (.ireturn, 1) := dk_172 (dk_at dksX1_cut_0 17 rfl rfl)
theorem dX1_cut_18 : decode cX1_cut 18 = .ok (.aload_n 0, 1) := dk_42 (dk_at dksX1_cut_0 18 rfl rfl)
theorem dX1_cut_19 : decode cX1_cut 19 = .ok (.getfield 50, 3) := dk_180 0 50 (dk_at dksX1_cut_0 19 rfl rfl)
theorem dX1_cut_22 : decode cX1_cut 22 = .ok (.getfield 17, 3) := dk_180 0 17 (dk_at dksX1_cut_1 0 rfl rfl)
theorem dX1_cut_25 : decode cX1_cut 25 = .ok (.iload_n 1, 1) := dk_27 (dk_at dksX1_cut_1 3 rfl rfl)
theorem dX1_cut_26 : decode cX1_cut 26 = .ok (.isub, 1) := dk_100 (dk_at dksX1_cut_1 4 rfl rfl)
theorem dX1_cut_27 : decode cX1_cut 27 = .ok (.istore_n 2, 1) := dk_61 (dk_at dksX1_cut_1 5 rfl rfl)
theorem dX1_cut_28 : decode cX1_cut 28 = .ok (.aload_n 0, 1) := dk_42 (dk_at dksX1_cut_1 6 rfl rfl)
theorem dX1_cut_29 : decode cX1_cut 29 = .ok (.getfield 50, 3) := dk_180 0 50 (dk_at dksX1_cut_1 7 rfl rfl)
theorem dX1_cut_32 : decode cX1_cut 32 = .ok (.iload_n 1, 1) := dk_27 (dk_at dksX1_cut_1 10 rfl rfl)
theorem dX1_cut_33 : decode cX1_cut 33 = .ok (.putfield 17, 3) := dk_181 0 17 (dk_at dksX1_cut_1 11 rfl rfl)
theorem dX1_cut_36 : decode cX1_cut 36 = .ok (.iload_n 2, 1) := dk_28 (dk_at dksX1_cut_1 14 rfl rfl)
theorem dX1_cut_37 : decode cX1_cut 37 = .ok (.ireturn, 1) := dk_172 (dk_at dksX1_cut_1 15 rfl rfl)
abbrev cX1_alter : ByteArray := prog_1_method_15_code
def yX1_alter : MethodName := ⟨RX1, "alter", "(II)I"⟩
def dkwX1_alter_2 : List UInt8 := [180, 0, 147, 27, 28, 145, 84, 29, 172]
abbrev dktX1_alter_2 : List UInt8 := dkwX1_alter_2 ++ []
def dkwX1_alter_1 : List UInt8 := [184, 0, 151, 154, 0, 6, 16, 254, 172, 42, 180, 0, 50, 27, 182, 0, 155, 62, 42, 180, 0, 50]
abbrev dktX1_alter_1 : List UInt8 := dkwX1_alter_1 ++ dktX1_alter_2
def dkwX1_alter_0 : List UInt8 := [27, 3, 42, 180, 0, 50, 180, 0, 17, 4, 100, 184, 0, 151, 153, 0, 14, 28, 3, 17, 0, 255]
abbrev dktX1_alter_0 : List UInt8 := dkwX1_alter_0 ++ dktX1_alter_1
theorem dksX1_alter_0 : cX1_alter.data.toList.drop 0 = dktX1_alter_0 := by decide +kernel
theorem dksX1_alter_1 : cX1_alter.data.toList.drop 22 = dktX1_alter_1 := dk_seg dksX1_alter_0 22 rfl rfl
theorem dksX1_alter_2 : cX1_alter.data.toList.drop 44 = dktX1_alter_2 := dk_seg dksX1_alter_1 22 rfl rfl
theorem dX1_alter_0 : decode cX1_alter 0 = .ok (.iload_n 1, 1) := dk_27 (dk_at dksX1_alter_0 0 rfl rfl)
theorem dX1_alter_1 : decode cX1_alter 1 = .ok (.iconst 0, 1) := dk_3 (dk_at dksX1_alter_0 1 rfl rfl)
theorem dX1_alter_2 : decode cX1_alter 2 = .ok (.aload_n 0, 1) := dk_42 (dk_at dksX1_alter_0 2 rfl rfl)
theorem dX1_alter_3 : decode cX1_alter 3 = .ok (.getfield 50, 3) := dk_180 0 50 (dk_at dksX1_alter_0 3 rfl rfl)
theorem dX1_alter_6 : decode cX1_alter 6 = .ok (.getfield 17, 3) := dk_180 0 17 (dk_at dksX1_alter_0 6 rfl rfl)
theorem dX1_alter_9 : decode cX1_alter 9 = .ok (.iconst 1, 1) := dk_4 (dk_at dksX1_alter_0 9 rfl rfl)
theorem dX1_alter_10 : decode cX1_alter 10 = .ok (.isub, 1) := dk_100 (dk_at dksX1_alter_0 10 rfl rfl)
theorem dX1_alter_11 : decode cX1_alter 11 = .ok (.invokestatic 151, 3) := dk_184 0 151 (dk_at dksX1_alter_0 11 rfl rfl)
theorem dX1_alter_14 : decode cX1_alter 14 = .ok (.ifCond .eq 14, 3) := dk_153 0 14 (dk_at dksX1_alter_0 14 rfl rfl)
theorem dX1_alter_17 : decode cX1_alter 17 = .ok (.iload_n 2, 1) := dk_28 (dk_at dksX1_alter_0 17 rfl rfl)
theorem dX1_alter_18 : decode cX1_alter 18 = .ok (.iconst 0, 1) := dk_3 (dk_at dksX1_alter_0 18 rfl rfl)
theorem dX1_alter_19 : decode cX1_alter 19 = .ok (.sipush 255, 3) := dk_17 0 255 (dk_at dksX1_alter_0 19 rfl rfl)
theorem dX1_alter_22 : decode cX1_alter 22 = .ok (.invokestatic 151, 3) := dk_184 0 151 (dk_at dksX1_alter_1 0 rfl rfl)
theorem dX1_alter_25 : decode cX1_alter 25 = .ok (.ifCond .ne 6, 3) := dk_154 0 6 (dk_at dksX1_alter_1 3 rfl rfl)
theorem dX1_alter_28 : decode cX1_alter 28 = .ok (.bipush (-2), 2) := dk_16 254 (dk_at dksX1_alter_1 6 rfl rfl)
theorem dX1_alter_30 : decode cX1_alter 30 = .ok (.ireturn, 1) := dk_172 (dk_at dksX1_alter_1 8 rfl rfl)
theorem dX1_alter_31 : decode cX1_alter 31 = .ok (.aload_n 0, 1) := dk_42 (dk_at dksX1_alter_1 9 rfl rfl)
theorem dX1_alter_32 : decode cX1_alter 32 = .ok (.getfield 50, 3) := dk_180 0 50 (dk_at dksX1_alter_1 10 rfl rfl)
theorem dX1_alter_35 : decode cX1_alter 35 = .ok (.iload_n 1, 1) := dk_27 (dk_at dksX1_alter_1 13 rfl rfl)
theorem dX1_alter_36 : decode cX1_alter 36 = .ok (.invokevirtual 155, 3) := dk_182 0 155 (dk_at dksX1_alter_1 14 rfl rfl)
theorem dX1_alter_39 : decode cX1_alter 39 = .ok (.istore_n 3, 1) := dk_62 (dk_at dksX1_alter_1 17 rfl rfl)
theorem dX1_alter_40 : decode cX1_alter 40 = .ok (.aload_n 0, 1) := dk_42 (dk_at dksX1_alter_1 18 rfl rfl)
theorem dX1_alter_41 : decode cX1_alter 41 = .ok (.getfield 50, 3) := dk_180 0 50 (dk_at dksX1_alter_1 19 rfl rfl)
theorem dX1_alter_44 : decode cX1_alter 44 = .ok (.getfield 147, 3) := dk_180 0 147 (dk_at dksX1_alter_2 0 rfl rfl)
theorem dX1_alter_47 : decode cX1_alter 47 = .ok (.iload_n 1, 1) := dk_27 (dk_at dksX1_alter_2 3 rfl rfl)
theorem dX1_alter_48 : decode cX1_alter 48 = .ok (.iload_n 2, 1) := dk_28 (dk_at dksX1_alter_2 4 rfl rfl)
theorem dX1_alter_49 : decode cX1_alter 49 = .ok (.i2b, 1) := dk_145 (dk_at dksX1_alter_2 5 rfl rfl)
theorem dX1_alter_50 : decode cX1_alter 50 = .ok (.bastore, 1) := dk_84 (dk_at dksX1_alter_2 6 rfl rfl)
theorem dX1_alter_51 : decode cX1_alter 51 = .ok (.iload_n 3, 1) := dk_29 (dk_at dksX1_alter_2 7 rfl rfl)
theorem dX1_alter_52 : decode cX1_alter 52 = .ok (.ireturn, 1) := dk_172 (dk_at dksX1_alter_2 8 rfl rfl)
abbrev cX1_at : ByteArray := prog_1_method_16_code
def yX1_at : MethodName := ⟨RX1, "at", "(I)I"⟩
def dkwX1_at_1 : List UInt8 := [182, 0, 155, 167, 0, 4, 2, 172]
abbrev dktX1_at_1 : List UInt8 := dkwX1_at_1 ++ []
def dkwX1_at_0 : List UInt8 := [27, 3, 42, 180, 0, 50, 180, 0, 17, 4, 100, 184, 0, 151, 153, 0, 14, 42, 180, 0, 50, 27]
abbrev dktX1_at_0 : List UInt8 := dkwX1_at_0 ++ dktX1_at_1
theorem dksX1_at_0 : cX1_at.data.toList.drop 0 = dktX1_at_0 := by decide +kernel
theorem dksX1_at_1 : cX1_at.data.toList.drop 22 = dktX1_at_1 := dk_seg dksX1_at_0 22 rfl rfl
theorem dX1_at_0 : decode cX1_at 0 = .ok (.iload_n 1, 1) := dk_27 (dk_at dksX1_at_0 0 rfl rfl)
theorem dX1_at_1 : decode cX1_at 1 = .ok (.iconst 0, 1) := dk_3 (dk_at dksX1_at_0 1 rfl rfl)
theorem dX1_at_2 : decode cX1_at 2 = .ok (.aload_n 0, 1) := dk_42 (dk_at dksX1_at_0 2 rfl rfl)
theorem dX1_at_3 : decode cX1_at 3 = .ok (.getfield 50, 3) := dk_180 0 50 (dk_at dksX1_at_0 3 rfl rfl)
theorem dX1_at_6 : decode cX1_at 6 = .ok (.getfield 17, 3) := dk_180 0 17 (dk_at dksX1_at_0 6 rfl rfl)
theorem dX1_at_9 : decode cX1_at 9 = .ok (.iconst 1, 1) := dk_4 (dk_at dksX1_at_0 9 rfl rfl)
theorem dX1_at_10 : decode cX1_at 10 = .ok (.isub, 1) := dk_100 (dk_at dksX1_at_0 10 rfl rfl)
theorem dX1_at_11 : decode cX1_at 11 = .ok (.invokestatic 151, 3) := dk_184 0 151 (dk_at dksX1_at_0 11 rfl rfl)
theorem dX1_at_14 : decode cX1_at 14 = .ok (.ifCond .eq 14, 3) := dk_153 0 14 (dk_at dksX1_at_0 14 rfl rfl)
theorem dX1_at_17 : decode cX1_at 17 = .ok (.aload_n 0, 1) := dk_42 (dk_at dksX1_at_0 17 rfl rfl)
theorem dX1_at_18 : decode cX1_at 18 = .ok (.getfield 50, 3) := dk_180 0 50 (dk_at dksX1_at_0 18 rfl rfl)
theorem dX1_at_21 : decode cX1_at 21 = .ok (.iload_n 1, 1) := dk_27 (dk_at dksX1_at_0 21 rfl rfl)
theorem dX1_at_22 : decode cX1_at 22 = .ok (.invokevirtual 155, 3) := dk_182 0 155 (dk_at dksX1_at_1 0 rfl rfl)
theorem dX1_at_25 : decode cX1_at 25 = .ok (.goto 4, 3) := dk_167 0 4 (dk_at dksX1_at_1 3 rfl rfl)
theorem dX1_at_28 : decode cX1_at 28 = .ok (.iconst (-1), 1) := dk_2 (dk_at dksX1_at_1 6 rfl rfl)
theorem dX1_at_29 : decode cX1_at 29 = .ok (.ireturn, 1) := dk_172 (dk_at dksX1_at_1 7 rfl rfl)
abbrev cX1_mend : ByteArray := prog_1_method_17_code
def yX1_mend : MethodName := ⟨RX1, "mend", "()I"⟩
def dkwX1_mend_2 : List UInt8 := [100, 27, 145, 84, 27, 172]
abbrev dktX1_mend_2 : List UInt8 := dkwX1_mend_2 ++ []
def dkwX1_mend_1 : List UInt8 := [180, 0, 17, 4, 100, 182, 0, 130, 60, 42, 180, 0, 50, 180, 0, 147, 42, 180, 0, 50, 180, 0, 17, 4]
abbrev dktX1_mend_1 : List UInt8 := dkwX1_mend_1 ++ dktX1_mend_2
def dkwX1_mend_0 : List UInt8 := [42, 180, 0, 50, 180, 0, 17, 154, 0, 6, 16, 253, 172, 42, 180, 0, 50, 3, 42, 180, 0, 50]
abbrev dktX1_mend_0 : List UInt8 := dkwX1_mend_0 ++ dktX1_mend_1
theorem dksX1_mend_0 : cX1_mend.data.toList.drop 0 = dktX1_mend_0 := by decide +kernel
theorem dksX1_mend_1 : cX1_mend.data.toList.drop 22 = dktX1_mend_1 := dk_seg dksX1_mend_0 22 rfl rfl
theorem dksX1_mend_2 : cX1_mend.data.toList.drop 46 = dktX1_mend_2 := dk_seg dksX1_mend_1 24 rfl rfl
theorem dX1_mend_0 : decode cX1_mend 0 = .ok (.aload_n 0, 1) := dk_42 (dk_at dksX1_mend_0 0 rfl rfl)
theorem dX1_mend_1 : decode cX1_mend 1 = .ok (.getfield 50, 3) := dk_180 0 50 (dk_at dksX1_mend_0 1 rfl rfl)
theorem dX1_mend_4 : decode cX1_mend 4 = .ok (.getfield 17, 3) := dk_180 0 17 (dk_at dksX1_mend_0 4 rfl rfl)
theorem dX1_mend_7 : decode cX1_mend 7 = .ok (.ifCond .ne 6, 3) := dk_154 0 6 (dk_at dksX1_mend_0 7 rfl rfl)
theorem dX1_mend_10 : decode cX1_mend 10 = .ok (.bipush (-3), 2) := dk_16 253 (dk_at dksX1_mend_0 10 rfl rfl)
theorem dX1_mend_12 : decode cX1_mend 12 = .ok (.ireturn, 1) := dk_172 (dk_at dksX1_mend_0 12 rfl rfl)
theorem dX1_mend_13 : decode cX1_mend 13 = .ok (.aload_n 0, 1) := dk_42 (dk_at dksX1_mend_0 13 rfl rfl)
theorem dX1_mend_14 : decode cX1_mend 14 = .ok (.getfield 50, 3) := dk_180 0 50 (dk_at dksX1_mend_0 14 rfl rfl)
theorem dX1_mend_17 : decode cX1_mend 17 = .ok (.iconst 0, 1) := dk_3 (dk_at dksX1_mend_0 17 rfl rfl)
theorem dX1_mend_18 : decode cX1_mend 18 = .ok (.aload_n 0, 1) := dk_42 (dk_at dksX1_mend_0 18 rfl rfl)
theorem dX1_mend_19 : decode cX1_mend 19 = .ok (.getfield 50, 3) := dk_180 0 50 (dk_at dksX1_mend_0 19 rfl rfl)
theorem dX1_mend_22 : decode cX1_mend 22 = .ok (.getfield 17, 3) := dk_180 0 17 (dk_at dksX1_mend_1 0 rfl rfl)
theorem dX1_mend_25 : decode cX1_mend 25 = .ok (.iconst 1, 1) := dk_4 (dk_at dksX1_mend_1 3 rfl rfl)
theorem dX1_mend_26 : decode cX1_mend 26 = .ok (.isub, 1) := dk_100 (dk_at dksX1_mend_1 4 rfl rfl)
theorem dX1_mend_27 : decode cX1_mend 27 = .ok (.invokevirtual 130, 3) := dk_182 0 130 (dk_at dksX1_mend_1 5 rfl rfl)
theorem dX1_mend_30 : decode cX1_mend 30 = .ok (.istore_n 1, 1) := dk_60 (dk_at dksX1_mend_1 8 rfl rfl)
theorem dX1_mend_31 : decode cX1_mend 31 = .ok (.aload_n 0, 1) := dk_42 (dk_at dksX1_mend_1 9 rfl rfl)
theorem dX1_mend_32 : decode cX1_mend 32 = .ok (.getfield 50, 3) := dk_180 0 50 (dk_at dksX1_mend_1 10 rfl rfl)
theorem dX1_mend_35 : decode cX1_mend 35 = .ok (.getfield 147, 3) := dk_180 0 147 (dk_at dksX1_mend_1 13 rfl rfl)
theorem dX1_mend_38 : decode cX1_mend 38 = .ok (.aload_n 0, 1) := dk_42 (dk_at dksX1_mend_1 16 rfl rfl)
theorem dX1_mend_39 : decode cX1_mend 39 = .ok (.getfield 50, 3) := dk_180 0 50 (dk_at dksX1_mend_1 17 rfl rfl)
theorem dX1_mend_42 : decode cX1_mend 42 = .ok (.getfield 17, 3) := dk_180 0 17 (dk_at dksX1_mend_1 20 rfl rfl)
theorem dX1_mend_45 : decode cX1_mend 45 = .ok (.iconst 1, 1) := dk_4 (dk_at dksX1_mend_1 23 rfl rfl)
theorem dX1_mend_46 : decode cX1_mend 46 = .ok (.isub, 1) := dk_100 (dk_at dksX1_mend_2 0 rfl rfl)
theorem dX1_mend_47 : decode cX1_mend 47 = .ok (.iload_n 1, 1) := dk_27 (dk_at dksX1_mend_2 1 rfl rfl)
theorem dX1_mend_48 : decode cX1_mend 48 = .ok (.i2b, 1) := dk_145 (dk_at dksX1_mend_2 2 rfl rfl)
theorem dX1_mend_49 : decode cX1_mend 49 = .ok (.bastore, 1) := dk_84 (dk_at dksX1_mend_2 3 rfl rfl)
theorem dX1_mend_50 : decode cX1_mend 50 = .ok (.iload_n 1, 1) := dk_27 (dk_at dksX1_mend_2 4 rfl rfl)
theorem dX1_mend_51 : decode cX1_mend 51 = .ok (.ireturn, 1) := dk_172 (dk_at dksX1_mend_2 5 rfl rfl)
abbrev cX1_draw : ByteArray := prog_1_method_18_code
def yX1_draw : MethodName := ⟨RX1, "draw", "(II)I"⟩
def dkwX1_draw_5 : List UInt8 := [42, 27, 28, 182, 0, 161, 167, 0, 9, 42, 27, 28, 182, 0, 164, 42, 180, 0, 50, 180, 0, 17, 172]
abbrev dktX1_draw_5 : List UInt8 := dkwX1_draw_5 ++ []
def dkwX1_draw_4 : List UInt8 := [182, 0, 134, 42, 28, 182, 0, 138, 42, 3, 182, 0, 141, 167, 0, 26, 42, 28, 182, 0, 158, 167, 0, 18]
abbrev dktX1_draw_4 : List UInt8 := dkwX1_draw_4 ++ dktX1_draw_5
def dkwX1_draw_3 : List UInt8 := [42, 7, 188, 10, 89, 3, 16, 80, 79, 89, 4, 16, 75, 79, 89, 5, 4, 79, 89, 6, 17, 0, 255, 79]
abbrev dktX1_draw_3 : List UInt8 := dkwX1_draw_3 ++ dktX1_draw_4
def dkwX1_draw_2 : List UInt8 := [170, 0, 0, 0, 0, 0, 0, 113, 0, 0, 0, 0, 0, 0, 0, 9, 0, 0, 0, 56, 0, 0, 0, 113, 0, 0, 0, 113, 0, 0, 0, 96, 0, 0, 0, 113, 0, 0, 0, 113, 0, 0, 0, 113, 0, 0, 0, 104, 0, 0, 0, 104, 0, 0, 0, 104]
abbrev dktX1_draw_2 : List UInt8 := dkwX1_draw_2 ++ dktX1_draw_3
def dkwX1_draw_1 : List UInt8 := [180, 0, 50, 3, 181, 0, 17, 27]
abbrev dktX1_draw_1 : List UInt8 := dkwX1_draw_1 ++ dktX1_draw_2
def dkwX1_draw_0 : List UInt8 := [27, 3, 16, 9, 184, 0, 151, 153, 0, 13, 28, 3, 16, 60, 184, 0, 151, 154, 0, 6, 16, 254, 172, 42]
abbrev dktX1_draw_0 : List UInt8 := dkwX1_draw_0 ++ dktX1_draw_1
theorem dksX1_draw_0 : cX1_draw.data.toList.drop 0 = dktX1_draw_0 := by decide +kernel
theorem dksX1_draw_1 : cX1_draw.data.toList.drop 24 = dktX1_draw_1 := dk_seg dksX1_draw_0 24 rfl rfl
theorem dksX1_draw_2 : cX1_draw.data.toList.drop 32 = dktX1_draw_2 := dk_seg dksX1_draw_1 8 rfl rfl
theorem dksX1_draw_3 : cX1_draw.data.toList.drop 88 = dktX1_draw_3 := dk_seg dksX1_draw_2 56 rfl rfl
theorem dksX1_draw_4 : cX1_draw.data.toList.drop 112 = dktX1_draw_4 := dk_seg dksX1_draw_3 24 rfl rfl
theorem dksX1_draw_5 : cX1_draw.data.toList.drop 136 = dktX1_draw_5 := dk_seg dksX1_draw_4 24 rfl rfl
theorem dX1_draw_0 : decode cX1_draw 0 = .ok (.iload_n 1, 1) := dk_27 (dk_at dksX1_draw_0 0 rfl rfl)
theorem dX1_draw_1 : decode cX1_draw 1 = .ok (.iconst 0, 1) := dk_3 (dk_at dksX1_draw_0 1 rfl rfl)
theorem dX1_draw_2 : decode cX1_draw 2 = .ok (.bipush 9, 2) := dk_16 9 (dk_at dksX1_draw_0 2 rfl rfl)
theorem dX1_draw_4 : decode cX1_draw 4 = .ok (.invokestatic 151, 3) := dk_184 0 151 (dk_at dksX1_draw_0 4 rfl rfl)
theorem dX1_draw_7 : decode cX1_draw 7 = .ok (.ifCond .eq 13, 3) := dk_153 0 13 (dk_at dksX1_draw_0 7 rfl rfl)
theorem dX1_draw_10 : decode cX1_draw 10 = .ok (.iload_n 2, 1) := dk_28 (dk_at dksX1_draw_0 10 rfl rfl)
theorem dX1_draw_11 : decode cX1_draw 11 = .ok (.iconst 0, 1) := dk_3 (dk_at dksX1_draw_0 11 rfl rfl)
theorem dX1_draw_12 : decode cX1_draw 12 = .ok (.bipush 60, 2) := dk_16 60 (dk_at dksX1_draw_0 12 rfl rfl)
theorem dX1_draw_14 : decode cX1_draw 14 = .ok (.invokestatic 151, 3) := dk_184 0 151 (dk_at dksX1_draw_0 14 rfl rfl)
theorem dX1_draw_17 : decode cX1_draw 17 = .ok (.ifCond .ne 6, 3) := dk_154 0 6 (dk_at dksX1_draw_0 17 rfl rfl)
theorem dX1_draw_20 : decode cX1_draw 20 = .ok (.bipush (-2), 2) := dk_16 254 (dk_at dksX1_draw_0 20 rfl rfl)
theorem dX1_draw_22 : decode cX1_draw 22 = .ok (.ireturn, 1) := dk_172 (dk_at dksX1_draw_0 22 rfl rfl)
theorem dX1_draw_23 : decode cX1_draw 23 = .ok (.aload_n 0, 1) := dk_42 (dk_at dksX1_draw_0 23 rfl rfl)
theorem dX1_draw_24 : decode cX1_draw 24 = .ok (.getfield 50, 3) := dk_180 0 50 (dk_at dksX1_draw_1 0 rfl rfl)
theorem dX1_draw_27 : decode cX1_draw 27 = .ok (.iconst 0, 1) := dk_3 (dk_at dksX1_draw_1 3 rfl rfl)
theorem dX1_draw_28 : decode cX1_draw 28 = .ok (.putfield 17, 3) := dk_181 0 17 (dk_at dksX1_draw_1 4 rfl rfl)
theorem dX1_draw_31 : decode cX1_draw 31 = .ok (.iload_n 1, 1) := dk_27 (dk_at dksX1_draw_1 7 rfl rfl)
theorem dX1_draw_32 : decode cX1_draw 32 = .ok (.tableswitch 113 0 9 #[56, 113, 113, 96, 113, 113, 113, 104, 104, 104], 56) := by decide +kernel
theorem dX1_draw_88 : decode cX1_draw 88 = .ok (.aload_n 0, 1) := dk_42 (dk_at dksX1_draw_3 0 rfl rfl)
theorem dX1_draw_89 : decode cX1_draw 89 = .ok (.iconst 4, 1) := dk_7 (dk_at dksX1_draw_3 1 rfl rfl)
theorem dX1_draw_90 : decode cX1_draw 90 = .ok (.newarray .int, 2) := dk_188_10 (dk_at dksX1_draw_3 2 rfl rfl)
theorem dX1_draw_92 : decode cX1_draw 92 = .ok (.dup, 1) := dk_89 (dk_at dksX1_draw_3 4 rfl rfl)
theorem dX1_draw_93 : decode cX1_draw 93 = .ok (.iconst 0, 1) := dk_3 (dk_at dksX1_draw_3 5 rfl rfl)
theorem dX1_draw_94 : decode cX1_draw 94 = .ok (.bipush 80, 2) := dk_16 80 (dk_at dksX1_draw_3 6 rfl rfl)
theorem dX1_draw_96 : decode cX1_draw 96 = .ok (.iastore, 1) := dk_79 (dk_at dksX1_draw_3 8 rfl rfl)
theorem dX1_draw_97 : decode cX1_draw 97 = .ok (.dup, 1) := dk_89 (dk_at dksX1_draw_3 9 rfl rfl)
theorem dX1_draw_98 : decode cX1_draw 98 = .ok (.iconst 1, 1) := dk_4 (dk_at dksX1_draw_3 10 rfl rfl)
theorem dX1_draw_99 : decode cX1_draw 99 = .ok (.bipush 75, 2) := dk_16 75 (dk_at dksX1_draw_3 11 rfl rfl)
theorem dX1_draw_101 : decode cX1_draw 101 = .ok (.iastore, 1) := dk_79 (dk_at dksX1_draw_3 13 rfl rfl)
theorem dX1_draw_102 : decode cX1_draw 102 = .ok (.dup, 1) := dk_89 (dk_at dksX1_draw_3 14 rfl rfl)
theorem dX1_draw_103 : decode cX1_draw 103 = .ok (.iconst 2, 1) := dk_5 (dk_at dksX1_draw_3 15 rfl rfl)
theorem dX1_draw_104 : decode cX1_draw 104 = .ok (.iconst 1, 1) := dk_4 (dk_at dksX1_draw_3 16 rfl rfl)
theorem dX1_draw_105 : decode cX1_draw 105 = .ok (.iastore, 1) := dk_79 (dk_at dksX1_draw_3 17 rfl rfl)
theorem dX1_draw_106 : decode cX1_draw 106 = .ok (.dup, 1) := dk_89 (dk_at dksX1_draw_3 18 rfl rfl)
theorem dX1_draw_107 : decode cX1_draw 107 = .ok (.iconst 3, 1) := dk_6 (dk_at dksX1_draw_3 19 rfl rfl)
theorem dX1_draw_108 : decode cX1_draw 108 = .ok (.sipush 255, 3) := dk_17 0 255 (dk_at dksX1_draw_3 20 rfl rfl)
theorem dX1_draw_111 : decode cX1_draw 111 = .ok (.iastore, 1) := dk_79 (dk_at dksX1_draw_3 23 rfl rfl)
theorem dX1_draw_112 : decode cX1_draw 112 = .ok (.invokevirtual 134, 3) := dk_182 0 134 (dk_at dksX1_draw_4 0 rfl rfl)
theorem dX1_draw_115 : decode cX1_draw 115 = .ok (.aload_n 0, 1) := dk_42 (dk_at dksX1_draw_4 3 rfl rfl)
theorem dX1_draw_116 : decode cX1_draw 116 = .ok (.iload_n 2, 1) := dk_28 (dk_at dksX1_draw_4 4 rfl rfl)
theorem dX1_draw_117 : decode cX1_draw 117 = .ok (.invokevirtual 138, 3) := dk_182 0 138 (dk_at dksX1_draw_4 5 rfl rfl)
theorem dX1_draw_120 : decode cX1_draw 120 = .ok (.aload_n 0, 1) := dk_42 (dk_at dksX1_draw_4 8 rfl rfl)
theorem dX1_draw_121 : decode cX1_draw 121 = .ok (.iconst 0, 1) := dk_3 (dk_at dksX1_draw_4 9 rfl rfl)
theorem dX1_draw_122 : decode cX1_draw 122 = .ok (.invokevirtual 141, 3) := dk_182 0 141 (dk_at dksX1_draw_4 10 rfl rfl)
theorem dX1_draw_125 : decode cX1_draw 125 = .ok (.goto 26, 3) := dk_167 0 26 (dk_at dksX1_draw_4 13 rfl rfl)
theorem dX1_draw_128 : decode cX1_draw 128 = .ok (.aload_n 0, 1) := dk_42 (dk_at dksX1_draw_4 16 rfl rfl)
theorem dX1_draw_129 : decode cX1_draw 129 = .ok (.iload_n 2, 1) := dk_28 (dk_at dksX1_draw_4 17 rfl rfl)
theorem dX1_draw_130 : decode cX1_draw 130 = .ok (.invokevirtual 158, 3) := dk_182 0 158 (dk_at dksX1_draw_4 18 rfl rfl)
theorem dX1_draw_133 : decode cX1_draw 133 = .ok (.goto 18, 3) := dk_167 0 18 (dk_at dksX1_draw_4 21 rfl rfl)
theorem dX1_draw_136 : decode cX1_draw 136 = .ok (.aload_n 0, 1) := dk_42 (dk_at dksX1_draw_5 0 rfl rfl)
theorem dX1_draw_137 : decode cX1_draw 137 = .ok (.iload_n 1, 1) := dk_27 (dk_at dksX1_draw_5 1 rfl rfl)
theorem dX1_draw_138 : decode cX1_draw 138 = .ok (.iload_n 2, 1) := dk_28 (dk_at dksX1_draw_5 2 rfl rfl)
theorem dX1_draw_139 : decode cX1_draw 139 = .ok (.invokevirtual 161, 3) := dk_182 0 161 (dk_at dksX1_draw_5 3 rfl rfl)
theorem dX1_draw_142 : decode cX1_draw 142 = .ok (.goto 9, 3) := dk_167 0 9 (dk_at dksX1_draw_5 6 rfl rfl)
theorem dX1_draw_145 : decode cX1_draw 145 = .ok (.aload_n 0, 1) := dk_42 (dk_at dksX1_draw_5 9 rfl rfl)
theorem dX1_draw_146 : decode cX1_draw 146 = .ok (.iload_n 1, 1) := dk_27 (dk_at dksX1_draw_5 10 rfl rfl)
theorem dX1_draw_147 : decode cX1_draw 147 = .ok (.iload_n 2, 1) := dk_28 (dk_at dksX1_draw_5 11 rfl rfl)
theorem dX1_draw_148 : decode cX1_draw 148 = .ok (.invokevirtual 164, 3) := dk_182 0 164 (dk_at dksX1_draw_5 12 rfl rfl)
theorem dX1_draw_151 : decode cX1_draw 151 = .ok (.aload_n 0, 1) := dk_42 (dk_at dksX1_draw_5 15 rfl rfl)
theorem dX1_draw_152 : decode cX1_draw 152 = .ok (.getfield 50, 3) := dk_180 0 50 (dk_at dksX1_draw_5 16 rfl rfl)
theorem dX1_draw_155 : decode cX1_draw 155 = .ok (.getfield 17, 3) := dk_180 0 17 (dk_at dksX1_draw_5 19 rfl rfl)
theorem dX1_draw_158 : decode cX1_draw 158 = .ok (.ireturn, 1) := dk_172 (dk_at dksX1_draw_5 22 rfl rfl)
abbrev cX1_put : ByteArray := prog_1_method_6_code
def yX1_put : MethodName := ⟨RX1, "put", "([I)V"⟩
def dkwX1_put_1 : List UInt8 := [21, 5, 182, 0, 123, 132, 4, 1, 167, 255, 232, 177]
abbrev dktX1_put_1 : List UInt8 := dkwX1_put_1 ++ []
def dkwX1_put_0 : List UInt8 := [43, 77, 44, 190, 62, 3, 54, 4, 21, 4, 29, 162, 0, 24, 44, 21, 4, 46, 54, 5, 42, 180, 0, 50]
abbrev dktX1_put_0 : List UInt8 := dkwX1_put_0 ++ dktX1_put_1
theorem dksX1_put_0 : cX1_put.data.toList.drop 0 = dktX1_put_0 := by decide +kernel
theorem dksX1_put_1 : cX1_put.data.toList.drop 24 = dktX1_put_1 := dk_seg dksX1_put_0 24 rfl rfl
theorem dX1_put_0 : decode cX1_put 0 = .ok (.aload_n 1, 1) := dk_43 (dk_at dksX1_put_0 0 rfl rfl)
theorem dX1_put_1 : decode cX1_put 1 = .ok (.astore_n 2, 1) := dk_77 (dk_at dksX1_put_0 1 rfl rfl)
theorem dX1_put_2 : decode cX1_put 2 = .ok (.aload_n 2, 1) := dk_44 (dk_at dksX1_put_0 2 rfl rfl)
theorem dX1_put_3 : decode cX1_put 3 = .ok (.arraylength, 1) := dk_190 (dk_at dksX1_put_0 3 rfl rfl)
theorem dX1_put_4 : decode cX1_put 4 = .ok (.istore_n 3, 1) := dk_62 (dk_at dksX1_put_0 4 rfl rfl)
theorem dX1_put_5 : decode cX1_put 5 = .ok (.iconst 0, 1) := dk_3 (dk_at dksX1_put_0 5 rfl rfl)
theorem dX1_put_6 : decode cX1_put 6 = .ok (.istore 4, 2) := dk_54 4 (dk_at dksX1_put_0 6 rfl rfl)
theorem dX1_put_8 : decode cX1_put 8 = .ok (.iload 4, 2) := dk_21 4 (dk_at dksX1_put_0 8 rfl rfl)
theorem dX1_put_10 : decode cX1_put 10 = .ok (.iload_n 3, 1) := dk_29 (dk_at dksX1_put_0 10 rfl rfl)
theorem dX1_put_11 : decode cX1_put 11 = .ok (.if_icmp .ge 24, 3) := dk_162 0 24 (dk_at dksX1_put_0 11 rfl rfl)
theorem dX1_put_14 : decode cX1_put 14 = .ok (.aload_n 2, 1) := dk_44 (dk_at dksX1_put_0 14 rfl rfl)
theorem dX1_put_15 : decode cX1_put 15 = .ok (.iload 4, 2) := dk_21 4 (dk_at dksX1_put_0 15 rfl rfl)
theorem dX1_put_17 : decode cX1_put 17 = .ok (.iaload, 1) := dk_46 (dk_at dksX1_put_0 17 rfl rfl)
theorem dX1_put_18 : decode cX1_put 18 = .ok (.istore 5, 2) := dk_54 5 (dk_at dksX1_put_0 18 rfl rfl)
theorem dX1_put_20 : decode cX1_put 20 = .ok (.aload_n 0, 1) := dk_42 (dk_at dksX1_put_0 20 rfl rfl)
theorem dX1_put_21 : decode cX1_put 21 = .ok (.getfield 50, 3) := dk_180 0 50 (dk_at dksX1_put_0 21 rfl rfl)
theorem dX1_put_24 : decode cX1_put 24 = .ok (.iload 5, 2) := dk_21 5 (dk_at dksX1_put_1 0 rfl rfl)
theorem dX1_put_26 : decode cX1_put 26 = .ok (.invokevirtual 123, 3) := dk_182 0 123 (dk_at dksX1_put_1 2 rfl rfl)
theorem dX1_put_29 : decode cX1_put 29 = .ok (.iinc 4 1, 3) := dk_132 4 1 (dk_at dksX1_put_1 5 rfl rfl)
theorem dX1_put_32 : decode cX1_put 32 = .ok (.goto (-24), 3) := dk_167 255 232 (dk_at dksX1_put_1 8 rfl rfl)
theorem dX1_put_35 : decode cX1_put 35 = .ok (.return_, 1) := dk_177 (dk_at dksX1_put_1 11 rfl rfl)
abbrev cX1_putDrawn : ByteArray := prog_1_method_7_code
def yX1_putDrawn : MethodName := ⟨RX1, "putDrawn", "(I)V"⟩
def dkwX1_putDrawn_1 : List UInt8 := [167, 255, 234, 177]
abbrev dktX1_putDrawn_1 : List UInt8 := dkwX1_putDrawn_1 ++ []
def dkwX1_putDrawn_0 : List UInt8 := [3, 61, 28, 27, 162, 0, 23, 42, 180, 0, 50, 42, 17, 1, 0, 182, 0, 126, 182, 0, 123, 132, 2, 1]
abbrev dktX1_putDrawn_0 : List UInt8 := dkwX1_putDrawn_0 ++ dktX1_putDrawn_1
theorem dksX1_putDrawn_0 : cX1_putDrawn.data.toList.drop 0 = dktX1_putDrawn_0 := by decide +kernel
theorem dksX1_putDrawn_1 : cX1_putDrawn.data.toList.drop 24 = dktX1_putDrawn_1 := dk_seg dksX1_putDrawn_0 24 rfl rfl
theorem dX1_putDrawn_0 : decode cX1_putDrawn 0 = .ok (.iconst 0, 1) := dk_3 (dk_at dksX1_putDrawn_0 0 rfl rfl)
theorem dX1_putDrawn_1 : decode cX1_putDrawn 1 = .ok (.istore_n 2, 1) := dk_61 (dk_at dksX1_putDrawn_0 1 rfl rfl)
theorem dX1_putDrawn_2 : decode cX1_putDrawn 2 = .ok (.iload_n 2, 1) := dk_28 (dk_at dksX1_putDrawn_0 2 rfl rfl)
theorem dX1_putDrawn_3 : decode cX1_putDrawn 3 = .ok (.iload_n 1, 1) := dk_27 (dk_at dksX1_putDrawn_0 3 rfl rfl)
theorem dX1_putDrawn_4 : decode cX1_putDrawn 4 = .ok (.if_icmp .ge 23, 3) := dk_162 0 23 (dk_at dksX1_putDrawn_0 4 rfl rfl)
theorem dX1_putDrawn_7 : decode cX1_putDrawn 7 = .ok (.aload_n 0, 1) := dk_42 (dk_at dksX1_putDrawn_0 7 rfl rfl)
theorem dX1_putDrawn_8 : decode cX1_putDrawn 8 = .ok (.getfield 50, 3) := dk_180 0 50 (dk_at dksX1_putDrawn_0 8 rfl rfl)
theorem dX1_putDrawn_11 : decode cX1_putDrawn 11 = .ok (.aload_n 0, 1) := dk_42 (dk_at dksX1_putDrawn_0 11 rfl rfl)
theorem dX1_putDrawn_12 : decode cX1_putDrawn 12 = .ok (.sipush 256, 3) := dk_17 1 0 (dk_at dksX1_putDrawn_0 12 rfl rfl)
theorem dX1_putDrawn_15 : decode cX1_putDrawn 15 = .ok (.invokevirtual 126, 3) := dk_182 0 126 (dk_at dksX1_putDrawn_0 15 rfl rfl)
theorem dX1_putDrawn_18 : decode cX1_putDrawn 18 = .ok (.invokevirtual 123, 3) := dk_182 0 123 (dk_at dksX1_putDrawn_0 18 rfl rfl)
theorem dX1_putDrawn_21 : decode cX1_putDrawn 21 = .ok (.iinc 2 1, 3) := dk_132 2 1 (dk_at dksX1_putDrawn_0 21 rfl rfl)
theorem dX1_putDrawn_24 : decode cX1_putDrawn 24 = .ok (.goto (-22), 3) := dk_167 255 234 (dk_at dksX1_putDrawn_1 0 rfl rfl)
theorem dX1_putDrawn_27 : decode cX1_putDrawn 27 = .ok (.return_, 1) := dk_177 (dk_at dksX1_putDrawn_1 3 rfl rfl)
abbrev cX1_drawn : ByteArray := prog_1_method_5_code
def yX1_drawn : MethodName := ⟨RX1, "drawn", "(I)I"⟩
def dkwX1_drawn_1 : List UInt8 := [133, 113, 136, 172]
abbrev dktX1_drawn_1 : List UInt8 := dkwX1_drawn_1 ++ []
def dkwX1_drawn_0 : List UInt8 := [42, 42, 180, 0, 112, 20, 0, 119, 105, 20, 0, 121, 97, 181, 0, 112, 42, 180, 0, 112, 16, 31, 125, 27]
abbrev dktX1_drawn_0 : List UInt8 := dkwX1_drawn_0 ++ dktX1_drawn_1
theorem dksX1_drawn_0 : cX1_drawn.data.toList.drop 0 = dktX1_drawn_0 := by decide +kernel
theorem dksX1_drawn_1 : cX1_drawn.data.toList.drop 24 = dktX1_drawn_1 := dk_seg dksX1_drawn_0 24 rfl rfl
theorem dX1_drawn_0 : decode cX1_drawn 0 = .ok (.aload_n 0, 1) := dk_42 (dk_at dksX1_drawn_0 0 rfl rfl)
theorem dX1_drawn_1 : decode cX1_drawn 1 = .ok (.aload_n 0, 1) := dk_42 (dk_at dksX1_drawn_0 1 rfl rfl)
theorem dX1_drawn_2 : decode cX1_drawn 2 = .ok (.getfield 112, 3) := dk_180 0 112 (dk_at dksX1_drawn_0 2 rfl rfl)
theorem dX1_drawn_5 : decode cX1_drawn 5 = .ok (.ldc2_w 119, 3) := dk_20 0 119 (dk_at dksX1_drawn_0 5 rfl rfl)
theorem dX1_drawn_8 : decode cX1_drawn 8 = .ok (.lmul, 1) := dk_105 (dk_at dksX1_drawn_0 8 rfl rfl)
theorem dX1_drawn_9 : decode cX1_drawn 9 = .ok (.ldc2_w 121, 3) := dk_20 0 121 (dk_at dksX1_drawn_0 9 rfl rfl)
theorem dX1_drawn_12 : decode cX1_drawn 12 = .ok (.ladd, 1) := dk_97 (dk_at dksX1_drawn_0 12 rfl rfl)
theorem dX1_drawn_13 : decode cX1_drawn 13 = .ok (.putfield 112, 3) := dk_181 0 112 (dk_at dksX1_drawn_0 13 rfl rfl)
theorem dX1_drawn_16 : decode cX1_drawn 16 = .ok (.aload_n 0, 1) := dk_42 (dk_at dksX1_drawn_0 16 rfl rfl)
theorem dX1_drawn_17 : decode cX1_drawn 17 = .ok (.getfield 112, 3) := dk_180 0 112 (dk_at dksX1_drawn_0 17 rfl rfl)
theorem dX1_drawn_20 : decode cX1_drawn 20 = .ok (.bipush 31, 2) := dk_16 31 (dk_at dksX1_drawn_0 20 rfl rfl)
theorem dX1_drawn_22 : decode cX1_drawn 22 = .ok (.lushr, 1) := dk_125 (dk_at dksX1_drawn_0 22 rfl rfl)
theorem dX1_drawn_23 : decode cX1_drawn 23 = .ok (.iload_n 1, 1) := dk_27 (dk_at dksX1_drawn_0 23 rfl rfl)
theorem dX1_drawn_24 : decode cX1_drawn 24 = .ok (.i2l, 1) := dk_133 (dk_at dksX1_drawn_1 0 rfl rfl)
theorem dX1_drawn_25 : decode cX1_drawn 25 = .ok (.lrem, 1) := dk_113 (dk_at dksX1_drawn_1 1 rfl rfl)
theorem dX1_drawn_26 : decode cX1_drawn 26 = .ok (.l2i, 1) := dk_136 (dk_at dksX1_drawn_1 2 rfl rfl)
theorem dX1_drawn_27 : decode cX1_drawn 27 = .ok (.ireturn, 1) := dk_172 (dk_at dksX1_drawn_1 3 rfl rfl)
abbrev cX1_putEnd : ByteArray := prog_1_method_8_code
def yX1_putEnd : MethodName := ⟨RX1, "putEnd", "(I)V"⟩
def dkwX1_putEnd_1 : List UInt8 := [182, 0, 130, 182, 0, 123, 177]
abbrev dktX1_putEnd_1 : List UInt8 := dkwX1_putEnd_1 ++ []
def dkwX1_putEnd_0 : List UInt8 := [42, 180, 0, 50, 3, 182, 0, 123, 42, 180, 0, 50, 42, 180, 0, 50, 27, 42, 180, 0, 50, 180, 0, 17]
abbrev dktX1_putEnd_0 : List UInt8 := dkwX1_putEnd_0 ++ dktX1_putEnd_1
theorem dksX1_putEnd_0 : cX1_putEnd.data.toList.drop 0 = dktX1_putEnd_0 := by decide +kernel
theorem dksX1_putEnd_1 : cX1_putEnd.data.toList.drop 24 = dktX1_putEnd_1 := dk_seg dksX1_putEnd_0 24 rfl rfl
theorem dX1_putEnd_0 : decode cX1_putEnd 0 = .ok (.aload_n 0, 1) := dk_42 (dk_at dksX1_putEnd_0 0 rfl rfl)
theorem dX1_putEnd_1 : decode cX1_putEnd 1 = .ok (.getfield 50, 3) := dk_180 0 50 (dk_at dksX1_putEnd_0 1 rfl rfl)
theorem dX1_putEnd_4 : decode cX1_putEnd 4 = .ok (.iconst 0, 1) := dk_3 (dk_at dksX1_putEnd_0 4 rfl rfl)
theorem dX1_putEnd_5 : decode cX1_putEnd 5 = .ok (.invokevirtual 123, 3) := dk_182 0 123 (dk_at dksX1_putEnd_0 5 rfl rfl)
theorem dX1_putEnd_8 : decode cX1_putEnd 8 = .ok (.aload_n 0, 1) := dk_42 (dk_at dksX1_putEnd_0 8 rfl rfl)
theorem dX1_putEnd_9 : decode cX1_putEnd 9 = .ok (.getfield 50, 3) := dk_180 0 50 (dk_at dksX1_putEnd_0 9 rfl rfl)
theorem dX1_putEnd_12 : decode cX1_putEnd 12 = .ok (.aload_n 0, 1) := dk_42 (dk_at dksX1_putEnd_0 12 rfl rfl)
theorem dX1_putEnd_13 : decode cX1_putEnd 13 = .ok (.getfield 50, 3) := dk_180 0 50 (dk_at dksX1_putEnd_0 13 rfl rfl)
theorem dX1_putEnd_16 : decode cX1_putEnd 16 = .ok (.iload_n 1, 1) := dk_27 (dk_at dksX1_putEnd_0 16 rfl rfl)
theorem dX1_putEnd_17 : decode cX1_putEnd 17 = .ok (.aload_n 0, 1) := dk_42 (dk_at dksX1_putEnd_0 17 rfl rfl)
theorem dX1_putEnd_18 : decode cX1_putEnd 18 = .ok (.getfield 50, 3) := dk_180 0 50 (dk_at dksX1_putEnd_0 18 rfl rfl)
theorem dX1_putEnd_21 : decode cX1_putEnd 21 = .ok (.getfield 17, 3) := dk_180 0 17 (dk_at dksX1_putEnd_0 21 rfl rfl)
theorem dX1_putEnd_24 : decode cX1_putEnd 24 = .ok (.invokevirtual 130, 3) := dk_182 0 130 (dk_at dksX1_putEnd_1 0 rfl rfl)
theorem dX1_putEnd_27 : decode cX1_putEnd 27 = .ok (.invokevirtual 123, 3) := dk_182 0 123 (dk_at dksX1_putEnd_1 3 rfl rfl)
theorem dX1_putEnd_30 : decode cX1_putEnd 30 = .ok (.return_, 1) := dk_177 (dk_at dksX1_putEnd_1 6 rfl rfl)
abbrev cX1_putNests : ByteArray := prog_1_method_10_code
def yX1_putNests : MethodName := ⟨RX1, "putNests", "(I)V"⟩
def dkwX1_putNests_4 : List UInt8 := [8, 28, 104, 182, 0, 141, 132, 2, 255, 167, 255, 242, 177]
abbrev dktX1_putNests_4 : List UInt8 := dkwX1_putNests_4 ++ []
def dkwX1_putNests_3 : List UInt8 := [89, 6, 4, 79, 89, 7, 42, 17, 1, 0, 182, 0, 126, 79, 182, 0, 134, 27, 61, 28, 155, 0, 16, 42]
abbrev dktX1_putNests_3 : List UInt8 := dkwX1_putNests_3 ++ dktX1_putNests_4
def dkwX1_putNests_2 : List UInt8 := [132, 2, 255, 167, 255, 208, 42, 8, 188, 10, 89, 3, 16, 80, 79, 89, 4, 16, 75, 79, 89, 5, 4, 79]
abbrev dktX1_putNests_2 : List UInt8 := dkwX1_putNests_2 ++ dktX1_putNests_3
def dkwX1_putNests_1 : List UInt8 := [79, 89, 5, 7, 79, 89, 6, 29, 16, 8, 122, 79, 89, 7, 29, 17, 0, 255, 126, 79, 182, 0, 134]
abbrev dktX1_putNests_1 : List UInt8 := dkwX1_putNests_1 ++ dktX1_putNests_2
def dkwX1_putNests_0 : List UInt8 := [27, 61, 28, 158, 0, 50, 16, 7, 28, 104, 62, 42, 8, 188, 10, 89, 3, 16, 80, 79, 89, 4, 16, 75]
abbrev dktX1_putNests_0 : List UInt8 := dkwX1_putNests_0 ++ dktX1_putNests_1
theorem dksX1_putNests_0 : cX1_putNests.data.toList.drop 0 = dktX1_putNests_0 := by decide +kernel
theorem dksX1_putNests_1 : cX1_putNests.data.toList.drop 24 = dktX1_putNests_1 := dk_seg dksX1_putNests_0 24 rfl rfl
theorem dksX1_putNests_2 : cX1_putNests.data.toList.drop 47 = dktX1_putNests_2 := dk_seg dksX1_putNests_1 23 rfl rfl
theorem dksX1_putNests_3 : cX1_putNests.data.toList.drop 71 = dktX1_putNests_3 := dk_seg dksX1_putNests_2 24 rfl rfl
theorem dksX1_putNests_4 : cX1_putNests.data.toList.drop 95 = dktX1_putNests_4 := dk_seg dksX1_putNests_3 24 rfl rfl
theorem dX1_putNests_0 : decode cX1_putNests 0 = .ok (.iload_n 1, 1) := dk_27 (dk_at dksX1_putNests_0 0 rfl rfl)
theorem dX1_putNests_1 : decode cX1_putNests 1 = .ok (.istore_n 2, 1) := dk_61 (dk_at dksX1_putNests_0 1 rfl rfl)
theorem dX1_putNests_2 : decode cX1_putNests 2 = .ok (.iload_n 2, 1) := dk_28 (dk_at dksX1_putNests_0 2 rfl rfl)
theorem dX1_putNests_3 : decode cX1_putNests 3 = .ok (.ifCond .le 50, 3) := dk_158 0 50 (dk_at dksX1_putNests_0 3 rfl rfl)
theorem dX1_putNests_6 : decode cX1_putNests 6 = .ok (.bipush 7, 2) := dk_16 7 (dk_at dksX1_putNests_0 6 rfl rfl)
theorem dX1_putNests_8 : decode cX1_putNests 8 = .ok (.iload_n 2, 1) := dk_28 (dk_at dksX1_putNests_0 8 rfl rfl)
theorem dX1_putNests_9 : decode cX1_putNests 9 = .ok (.imul, 1) := dk_104 (dk_at dksX1_putNests_0 9 rfl rfl)
theorem dX1_putNests_10 : decode cX1_putNests 10 = .ok (.istore_n 3, 1) := dk_62 (dk_at dksX1_putNests_0 10 rfl rfl)
theorem dX1_putNests_11 : decode cX1_putNests 11 = .ok (.aload_n 0, 1) := dk_42 (dk_at dksX1_putNests_0 11 rfl rfl)
theorem dX1_putNests_12 : decode cX1_putNests 12 = .ok (.iconst 5, 1) := dk_8 (dk_at dksX1_putNests_0 12 rfl rfl)
theorem dX1_putNests_13 : decode cX1_putNests 13 = .ok (.newarray .int, 2) := dk_188_10 (dk_at dksX1_putNests_0 13 rfl rfl)
theorem dX1_putNests_15 : decode cX1_putNests 15 = .ok (.dup, 1) := dk_89 (dk_at dksX1_putNests_0 15 rfl rfl)
theorem dX1_putNests_16 : decode cX1_putNests 16 = .ok (.iconst 0, 1) := dk_3 (dk_at dksX1_putNests_0 16 rfl rfl)
theorem dX1_putNests_17 : decode cX1_putNests 17 = .ok (.bipush 80, 2) := dk_16 80 (dk_at dksX1_putNests_0 17 rfl rfl)
theorem dX1_putNests_19 : decode cX1_putNests 19 = .ok (.iastore, 1) := dk_79 (dk_at dksX1_putNests_0 19 rfl rfl)
theorem dX1_putNests_20 : decode cX1_putNests 20 = .ok (.dup, 1) := dk_89 (dk_at dksX1_putNests_0 20 rfl rfl)
theorem dX1_putNests_21 : decode cX1_putNests 21 = .ok (.iconst 1, 1) := dk_4 (dk_at dksX1_putNests_0 21 rfl rfl)
theorem dX1_putNests_22 : decode cX1_putNests 22 = .ok (.bipush 75, 2) := dk_16 75 (dk_at dksX1_putNests_0 22 rfl rfl)
theorem dX1_putNests_24 : decode cX1_putNests 24 = .ok (.iastore, 1) := dk_79 (dk_at dksX1_putNests_1 0 rfl rfl)
theorem dX1_putNests_25 : decode cX1_putNests 25 = .ok (.dup, 1) := dk_89 (dk_at dksX1_putNests_1 1 rfl rfl)
theorem dX1_putNests_26 : decode cX1_putNests 26 = .ok (.iconst 2, 1) := dk_5 (dk_at dksX1_putNests_1 2 rfl rfl)
theorem dX1_putNests_27 : decode cX1_putNests 27 = .ok (.iconst 4, 1) := dk_7 (dk_at dksX1_putNests_1 3 rfl rfl)
theorem dX1_putNests_28 : decode cX1_putNests 28 = .ok (.iastore, 1) := dk_79 (dk_at dksX1_putNests_1 4 rfl rfl)
theorem dX1_putNests_29 : decode cX1_putNests 29 = .ok (.dup, 1) := dk_89 (dk_at dksX1_putNests_1 5 rfl rfl)
theorem dX1_putNests_30 : decode cX1_putNests 30 = .ok (.iconst 3, 1) := dk_6 (dk_at dksX1_putNests_1 6 rfl rfl)
theorem dX1_putNests_31 : decode cX1_putNests 31 = .ok (.iload_n 3, 1) := dk_29 (dk_at dksX1_putNests_1 7 rfl rfl)
theorem dX1_putNests_32 : decode cX1_putNests 32 = .ok (.bipush 8, 2) := dk_16 8 (dk_at dksX1_putNests_1 8 rfl rfl)
theorem dX1_putNests_34 : decode cX1_putNests 34 = .ok (.ishr, 1) := dk_122 (dk_at dksX1_putNests_1 10 rfl rfl)
theorem dX1_putNests_35 : decode cX1_putNests 35 = .ok (.iastore, 1) := dk_79 (dk_at dksX1_putNests_1 11 rfl rfl)
theorem dX1_putNests_36 : decode cX1_putNests 36 = .ok (.dup, 1) := dk_89 (dk_at dksX1_putNests_1 12 rfl rfl)
theorem dX1_putNests_37 : decode cX1_putNests 37 = .ok (.iconst 4, 1) := dk_7 (dk_at dksX1_putNests_1 13 rfl rfl)
theorem dX1_putNests_38 : decode cX1_putNests 38 = .ok (.iload_n 3, 1) := dk_29 (dk_at dksX1_putNests_1 14 rfl rfl)
theorem dX1_putNests_39 : decode cX1_putNests 39 = .ok (.sipush 255, 3) := dk_17 0 255 (dk_at dksX1_putNests_1 15 rfl rfl)
theorem dX1_putNests_42 : decode cX1_putNests 42 = .ok (.iand, 1) := dk_126 (dk_at dksX1_putNests_1 18 rfl rfl)
theorem dX1_putNests_43 : decode cX1_putNests 43 = .ok (.iastore, 1) := dk_79 (dk_at dksX1_putNests_1 19 rfl rfl)
theorem dX1_putNests_44 : decode cX1_putNests 44 = .ok (.invokevirtual 134, 3) := dk_182 0 134 (dk_at dksX1_putNests_1 20 rfl rfl)
theorem dX1_putNests_47 : decode cX1_putNests 47 = .ok (.iinc 2 (-1), 3) := dk_132 2 255 (dk_at dksX1_putNests_2 0 rfl rfl)
theorem dX1_putNests_50 : decode cX1_putNests 50 = .ok (.goto (-48), 3) := dk_167 255 208 (dk_at dksX1_putNests_2 3 rfl rfl)
theorem dX1_putNests_53 : decode cX1_putNests 53 = .ok (.aload_n 0, 1) := dk_42 (dk_at dksX1_putNests_2 6 rfl rfl)
theorem dX1_putNests_54 : decode cX1_putNests 54 = .ok (.iconst 5, 1) := dk_8 (dk_at dksX1_putNests_2 7 rfl rfl)
theorem dX1_putNests_55 : decode cX1_putNests 55 = .ok (.newarray .int, 2) := dk_188_10 (dk_at dksX1_putNests_2 8 rfl rfl)
theorem dX1_putNests_57 : decode cX1_putNests 57 = .ok (.dup, 1) := dk_89 (dk_at dksX1_putNests_2 10 rfl rfl)
theorem dX1_putNests_58 : decode cX1_putNests 58 = .ok (.iconst 0, 1) := dk_3 (dk_at dksX1_putNests_2 11 rfl rfl)
theorem dX1_putNests_59 : decode cX1_putNests 59 = .ok (.bipush 80, 2) := dk_16 80 (dk_at dksX1_putNests_2 12 rfl rfl)
theorem dX1_putNests_61 : decode cX1_putNests 61 = .ok (.iastore, 1) := dk_79 (dk_at dksX1_putNests_2 14 rfl rfl)
theorem dX1_putNests_62 : decode cX1_putNests 62 = .ok (.dup, 1) := dk_89 (dk_at dksX1_putNests_2 15 rfl rfl)
theorem dX1_putNests_63 : decode cX1_putNests 63 = .ok (.iconst 1, 1) := dk_4 (dk_at dksX1_putNests_2 16 rfl rfl)
theorem dX1_putNests_64 : decode cX1_putNests 64 = .ok (.bipush 75, 2) := dk_16 75 (dk_at dksX1_putNests_2 17 rfl rfl)
theorem dX1_putNests_66 : decode cX1_putNests 66 = .ok (.iastore, 1) := dk_79 (dk_at dksX1_putNests_2 19 rfl rfl)
theorem dX1_putNests_67 : decode cX1_putNests 67 = .ok (.dup, 1) := dk_89 (dk_at dksX1_putNests_2 20 rfl rfl)
theorem dX1_putNests_68 : decode cX1_putNests 68 = .ok (.iconst 2, 1) := dk_5 (dk_at dksX1_putNests_2 21 rfl rfl)
theorem dX1_putNests_69 : decode cX1_putNests 69 = .ok (.iconst 1, 1) := dk_4 (dk_at dksX1_putNests_2 22 rfl rfl)
theorem dX1_putNests_70 : decode cX1_putNests 70 = .ok (.iastore, 1) := dk_79 (dk_at dksX1_putNests_2 23 rfl rfl)
theorem dX1_putNests_71 : decode cX1_putNests 71 = .ok (.dup, 1) := dk_89 (dk_at dksX1_putNests_3 0 rfl rfl)
theorem dX1_putNests_72 : decode cX1_putNests 72 = .ok (.iconst 3, 1) := dk_6 (dk_at dksX1_putNests_3 1 rfl rfl)
theorem dX1_putNests_73 : decode cX1_putNests 73 = .ok (.iconst 1, 1) := dk_4 (dk_at dksX1_putNests_3 2 rfl rfl)
theorem dX1_putNests_74 : decode cX1_putNests 74 = .ok (.iastore, 1) := dk_79 (dk_at dksX1_putNests_3 3 rfl rfl)
theorem dX1_putNests_75 : decode cX1_putNests 75 = .ok (.dup, 1) := dk_89 (dk_at dksX1_putNests_3 4 rfl rfl)
theorem dX1_putNests_76 : decode cX1_putNests 76 = .ok (.iconst 4, 1) := dk_7 (dk_at dksX1_putNests_3 5 rfl rfl)
theorem dX1_putNests_77 : decode cX1_putNests 77 = .ok (.aload_n 0, 1) := dk_42 (dk_at dksX1_putNests_3 6 rfl rfl)
theorem dX1_putNests_78 : decode cX1_putNests 78 = .ok (.sipush 256, 3) := dk_17 1 0 (dk_at dksX1_putNests_3 7 rfl rfl)
theorem dX1_putNests_81 : decode cX1_putNests 81 = .ok (.invokevirtual 126, 3) := dk_182 0 126 (dk_at dksX1_putNests_3 10 rfl rfl)
theorem dX1_putNests_84 : decode cX1_putNests 84 = .ok (.iastore, 1) := dk_79 (dk_at dksX1_putNests_3 13 rfl rfl)
theorem dX1_putNests_85 : decode cX1_putNests 85 = .ok (.invokevirtual 134, 3) := dk_182 0 134 (dk_at dksX1_putNests_3 14 rfl rfl)
theorem dX1_putNests_88 : decode cX1_putNests 88 = .ok (.iload_n 1, 1) := dk_27 (dk_at dksX1_putNests_3 17 rfl rfl)
theorem dX1_putNests_89 : decode cX1_putNests 89 = .ok (.istore_n 2, 1) := dk_61 (dk_at dksX1_putNests_3 18 rfl rfl)
theorem dX1_putNests_90 : decode cX1_putNests 90 = .ok (.iload_n 2, 1) := dk_28 (dk_at dksX1_putNests_3 19 rfl rfl)
theorem dX1_putNests_91 : decode cX1_putNests 91 = .ok (.ifCond .lt 16, 3) := dk_155 0 16 (dk_at dksX1_putNests_3 20 rfl rfl)
theorem dX1_putNests_94 : decode cX1_putNests 94 = .ok (.aload_n 0, 1) := dk_42 (dk_at dksX1_putNests_3 23 rfl rfl)
theorem dX1_putNests_95 : decode cX1_putNests 95 = .ok (.iconst 5, 1) := dk_8 (dk_at dksX1_putNests_4 0 rfl rfl)
theorem dX1_putNests_96 : decode cX1_putNests 96 = .ok (.iload_n 2, 1) := dk_28 (dk_at dksX1_putNests_4 1 rfl rfl)
theorem dX1_putNests_97 : decode cX1_putNests 97 = .ok (.imul, 1) := dk_104 (dk_at dksX1_putNests_4 2 rfl rfl)
theorem dX1_putNests_98 : decode cX1_putNests 98 = .ok (.invokevirtual 141, 3) := dk_182 0 141 (dk_at dksX1_putNests_4 3 rfl rfl)
theorem dX1_putNests_101 : decode cX1_putNests 101 = .ok (.iinc 2 (-1), 3) := dk_132 2 255 (dk_at dksX1_putNests_4 6 rfl rfl)
theorem dX1_putNests_104 : decode cX1_putNests 104 = .ok (.goto (-14), 3) := dk_167 255 242 (dk_at dksX1_putNests_4 9 rfl rfl)
theorem dX1_putNests_107 : decode cX1_putNests 107 = .ok (.return_, 1) := dk_177 (dk_at dksX1_putNests_4 12 rfl rfl)
abbrev cX1_putSome : ByteArray := prog_1_method_12_code
def yX1_putSome : MethodName := ⟨RX1, "putSome", "(II)V"⟩
def dkwX1_putSome_4 : List UInt8 := [84, 177]
abbrev dktX1_putSome_4 : List UInt8 := dkwX1_putSome_4 ++ []
def dkwX1_putSome_3 : List UInt8 := [160, 0, 25, 42, 180, 0, 50, 180, 0, 147, 42, 180, 0, 50, 180, 0, 17, 4, 100, 92, 51, 4, 96, 145]
abbrev dktX1_putSome_3 : List UInt8 := dkwX1_putSome_3 ++ dktX1_putSome_4
def dkwX1_putSome_2 : List UInt8 := [180, 0, 50, 89, 180, 0, 17, 4, 42, 7, 182, 0, 126, 96, 100, 181, 0, 17, 167, 0, 31, 27, 16, 8]
abbrev dktX1_putSome_2 : List UInt8 := dkwX1_putSome_2 ++ dktX1_putSome_3
def dkwX1_putSome_1 : List UInt8 := [42, 29, 182, 0, 144, 132, 3, 1, 167, 255, 243, 42, 3, 182, 0, 141, 27, 16, 7, 160, 0, 25, 42]
abbrev dktX1_putSome_1 : List UInt8 := dkwX1_putSome_1 ++ dktX1_putSome_2
def dkwX1_putSome_0 : List UInt8 := [42, 5, 188, 10, 89, 3, 16, 80, 79, 89, 4, 16, 75, 79, 182, 0, 134, 3, 62, 29, 28, 162, 0, 14]
abbrev dktX1_putSome_0 : List UInt8 := dkwX1_putSome_0 ++ dktX1_putSome_1
theorem dksX1_putSome_0 : cX1_putSome.data.toList.drop 0 = dktX1_putSome_0 := by decide +kernel
theorem dksX1_putSome_1 : cX1_putSome.data.toList.drop 24 = dktX1_putSome_1 := dk_seg dksX1_putSome_0 24 rfl rfl
theorem dksX1_putSome_2 : cX1_putSome.data.toList.drop 47 = dktX1_putSome_2 := dk_seg dksX1_putSome_1 23 rfl rfl
theorem dksX1_putSome_3 : cX1_putSome.data.toList.drop 71 = dktX1_putSome_3 := dk_seg dksX1_putSome_2 24 rfl rfl
theorem dksX1_putSome_4 : cX1_putSome.data.toList.drop 95 = dktX1_putSome_4 := dk_seg dksX1_putSome_3 24 rfl rfl
theorem dX1_putSome_0 : decode cX1_putSome 0 = .ok (.aload_n 0, 1) := dk_42 (dk_at dksX1_putSome_0 0 rfl rfl)
theorem dX1_putSome_1 : decode cX1_putSome 1 = .ok (.iconst 2, 1) := dk_5 (dk_at dksX1_putSome_0 1 rfl rfl)
theorem dX1_putSome_2 : decode cX1_putSome 2 = .ok (.newarray .int, 2) := dk_188_10 (dk_at dksX1_putSome_0 2 rfl rfl)
theorem dX1_putSome_4 : decode cX1_putSome 4 = .ok (.dup, 1) := dk_89 (dk_at dksX1_putSome_0 4 rfl rfl)
theorem dX1_putSome_5 : decode cX1_putSome 5 = .ok (.iconst 0, 1) := dk_3 (dk_at dksX1_putSome_0 5 rfl rfl)
theorem dX1_putSome_6 : decode cX1_putSome 6 = .ok (.bipush 80, 2) := dk_16 80 (dk_at dksX1_putSome_0 6 rfl rfl)
theorem dX1_putSome_8 : decode cX1_putSome 8 = .ok (.iastore, 1) := dk_79 (dk_at dksX1_putSome_0 8 rfl rfl)
theorem dX1_putSome_9 : decode cX1_putSome 9 = .ok (.dup, 1) := dk_89 (dk_at dksX1_putSome_0 9 rfl rfl)
theorem dX1_putSome_10 : decode cX1_putSome 10 = .ok (.iconst 1, 1) := dk_4 (dk_at dksX1_putSome_0 10 rfl rfl)
theorem dX1_putSome_11 : decode cX1_putSome 11 = .ok (.bipush 75, 2) := dk_16 75 (dk_at dksX1_putSome_0 11 rfl rfl)
theorem dX1_putSome_13 : decode cX1_putSome 13 = .ok (.iastore, 1) := dk_79 (dk_at dksX1_putSome_0 13 rfl rfl)
theorem dX1_putSome_14 : decode cX1_putSome 14 = .ok (.invokevirtual 134, 3) := dk_182 0 134 (dk_at dksX1_putSome_0 14 rfl rfl)
theorem dX1_putSome_17 : decode cX1_putSome 17 = .ok (.iconst 0, 1) := dk_3 (dk_at dksX1_putSome_0 17 rfl rfl)
theorem dX1_putSome_18 : decode cX1_putSome 18 = .ok (.istore_n 3, 1) := dk_62 (dk_at dksX1_putSome_0 18 rfl rfl)
theorem dX1_putSome_19 : decode cX1_putSome 19 = .ok (.iload_n 3, 1) := dk_29 (dk_at dksX1_putSome_0 19 rfl rfl)
theorem dX1_putSome_20 : decode cX1_putSome 20 = .ok (.iload_n 2, 1) := dk_28 (dk_at dksX1_putSome_0 20 rfl rfl)
theorem dX1_putSome_21 : decode cX1_putSome 21 = .ok (.if_icmp .ge 14, 3) := dk_162 0 14 (dk_at dksX1_putSome_0 21 rfl rfl)
theorem dX1_putSome_24 : decode cX1_putSome 24 = .ok (.aload_n 0, 1) := dk_42 (dk_at dksX1_putSome_1 0 rfl rfl)
theorem dX1_putSome_25 : decode cX1_putSome 25 = .ok (.iload_n 3, 1) := dk_29 (dk_at dksX1_putSome_1 1 rfl rfl)
theorem dX1_putSome_26 : decode cX1_putSome 26 = .ok (.invokevirtual 144, 3) := dk_182 0 144 (dk_at dksX1_putSome_1 2 rfl rfl)
theorem dX1_putSome_29 : decode cX1_putSome 29 = .ok (.iinc 3 1, 3) := dk_132 3 1 (dk_at dksX1_putSome_1 5 rfl rfl)
theorem dX1_putSome_32 : decode cX1_putSome 32 = .ok (.goto (-13), 3) := dk_167 255 243 (dk_at dksX1_putSome_1 8 rfl rfl)
theorem dX1_putSome_35 : decode cX1_putSome 35 = .ok (.aload_n 0, 1) := dk_42 (dk_at dksX1_putSome_1 11 rfl rfl)
theorem dX1_putSome_36 : decode cX1_putSome 36 = .ok (.iconst 0, 1) := dk_3 (dk_at dksX1_putSome_1 12 rfl rfl)
theorem dX1_putSome_37 : decode cX1_putSome 37 = .ok (.invokevirtual 141, 3) := dk_182 0 141 (dk_at dksX1_putSome_1 13 rfl rfl)
theorem dX1_putSome_40 : decode cX1_putSome 40 = .ok (.iload_n 1, 1) := dk_27 (dk_at dksX1_putSome_1 16 rfl rfl)
theorem dX1_putSome_41 : decode cX1_putSome 41 = .ok (.bipush 7, 2) := dk_16 7 (dk_at dksX1_putSome_1 17 rfl rfl)
theorem dX1_putSome_43 : decode cX1_putSome 43 = .ok (.if_icmp .ne 25, 3) := dk_160 0 25 (dk_at dksX1_putSome_1 19 rfl rfl)
theorem dX1_putSome_46 : decode cX1_putSome 46 = .ok (.aload_n 0, 1) := dk_42 (dk_at dksX1_putSome_1 22 rfl rfl)
theorem dX1_putSome_47 : decode cX1_putSome 47 = .ok (.getfield 50, 3) := dk_180 0 50 (dk_at dksX1_putSome_2 0 rfl rfl)
theorem dX1_putSome_50 : decode cX1_putSome 50 = .ok (.dup, 1) := dk_89 (dk_at dksX1_putSome_2 3 rfl rfl)
theorem dX1_putSome_51 : decode cX1_putSome 51 = .ok (.getfield 17, 3) := dk_180 0 17 (dk_at dksX1_putSome_2 4 rfl rfl)
theorem dX1_putSome_54 : decode cX1_putSome 54 = .ok (.iconst 1, 1) := dk_4 (dk_at dksX1_putSome_2 7 rfl rfl)
theorem dX1_putSome_55 : decode cX1_putSome 55 = .ok (.aload_n 0, 1) := dk_42 (dk_at dksX1_putSome_2 8 rfl rfl)
theorem dX1_putSome_56 : decode cX1_putSome 56 = .ok (.iconst 4, 1) := dk_7 (dk_at dksX1_putSome_2 9 rfl rfl)
theorem dX1_putSome_57 : decode cX1_putSome 57 = .ok (.invokevirtual 126, 3) := dk_182 0 126 (dk_at dksX1_putSome_2 10 rfl rfl)
theorem dX1_putSome_60 : decode cX1_putSome 60 = .ok (.iadd, 1) := dk_96 (dk_at dksX1_putSome_2 13 rfl rfl)
theorem dX1_putSome_61 : decode cX1_putSome 61 = .ok (.isub, 1) := dk_100 (dk_at dksX1_putSome_2 14 rfl rfl)
theorem dX1_putSome_62 : decode cX1_putSome 62 = .ok (.putfield 17, 3) := dk_181 0 17 (dk_at dksX1_putSome_2 15 rfl rfl)
theorem dX1_putSome_65 : decode cX1_putSome 65 = .ok (.goto 31, 3) := dk_167 0 31 (dk_at dksX1_putSome_2 18 rfl rfl)
theorem dX1_putSome_68 : decode cX1_putSome 68 = .ok (.iload_n 1, 1) := dk_27 (dk_at dksX1_putSome_2 21 rfl rfl)
theorem dX1_putSome_69 : decode cX1_putSome 69 = .ok (.bipush 8, 2) := dk_16 8 (dk_at dksX1_putSome_2 22 rfl rfl)
theorem dX1_putSome_71 : decode cX1_putSome 71 = .ok (.if_icmp .ne 25, 3) := dk_160 0 25 (dk_at dksX1_putSome_3 0 rfl rfl)
theorem dX1_putSome_74 : decode cX1_putSome 74 = .ok (.aload_n 0, 1) := dk_42 (dk_at dksX1_putSome_3 3 rfl rfl)
theorem dX1_putSome_75 : decode cX1_putSome 75 = .ok (.getfield 50, 3) := dk_180 0 50 (dk_at dksX1_putSome_3 4 rfl rfl)
theorem dX1_putSome_78 : decode cX1_putSome 78 = .ok (.getfield 147, 3) := dk_180 0 147 (dk_at dksX1_putSome_3 7 rfl rfl)
theorem dX1_putSome_81 : decode cX1_putSome 81 = .ok (.aload_n 0, 1) := dk_42 (dk_at dksX1_putSome_3 10 rfl rfl)
theorem dX1_putSome_82 : decode cX1_putSome 82 = .ok (.getfield 50, 3) := dk_180 0 50 (dk_at dksX1_putSome_3 11 rfl rfl)
theorem dX1_putSome_85 : decode cX1_putSome 85 = .ok (.getfield 17, 3) := dk_180 0 17 (dk_at dksX1_putSome_3 14 rfl rfl)
theorem dX1_putSome_88 : decode cX1_putSome 88 = .ok (.iconst 1, 1) := dk_4 (dk_at dksX1_putSome_3 17 rfl rfl)
theorem dX1_putSome_89 : decode cX1_putSome 89 = .ok (.isub, 1) := dk_100 (dk_at dksX1_putSome_3 18 rfl rfl)
theorem dX1_putSome_90 : decode cX1_putSome 90 = .ok (.dup2, 1) := dk_92 (dk_at dksX1_putSome_3 19 rfl rfl)
theorem dX1_putSome_91 : decode cX1_putSome 91 = .ok (.baload, 1) := dk_51 (dk_at dksX1_putSome_3 20 rfl rfl)
theorem dX1_putSome_92 : decode cX1_putSome 92 = .ok (.iconst 1, 1) := dk_4 (dk_at dksX1_putSome_3 21 rfl rfl)
theorem dX1_putSome_93 : decode cX1_putSome 93 = .ok (.iadd, 1) := dk_96 (dk_at dksX1_putSome_3 22 rfl rfl)
theorem dX1_putSome_94 : decode cX1_putSome 94 = .ok (.i2b, 1) := dk_145 (dk_at dksX1_putSome_3 23 rfl rfl)
theorem dX1_putSome_95 : decode cX1_putSome 95 = .ok (.bastore, 1) := dk_84 (dk_at dksX1_putSome_4 0 rfl rfl)
theorem dX1_putSome_96 : decode cX1_putSome 96 = .ok (.return_, 1) := dk_177 (dk_at dksX1_putSome_4 1 rfl rfl)
abbrev cX1_putItem : ByteArray := prog_1_method_9_code
def yX1_putItem : MethodName := ⟨RX1, "putItem", "(I)V"⟩
def dkwX1_putItem_12 : List UInt8 := [42, 28, 182, 0, 138, 42, 29, 182, 0, 141, 177]
abbrev dktX1_putItem_12 : List UInt8 := dkwX1_putItem_12 ++ []
def dkwX1_putItem_11 : List UInt8 := [7, 188, 10, 89, 3, 16, 80, 79, 89, 4, 16, 75, 79, 89, 5, 4, 79, 89, 6, 28, 79, 182, 0, 134]
abbrev dktX1_putItem_11 : List UInt8 := dkwX1_putItem_11 ++ dktX1_putItem_12
def dkwX1_putItem_10 : List UInt8 := [79, 89, 4, 3, 79, 89, 5, 28, 16, 6, 96, 79, 182, 0, 134, 42, 180, 0, 50, 180, 0, 17, 62, 42]
abbrev dktX1_putItem_10 : List UInt8 := dkwX1_putItem_10 ++ dktX1_putItem_11
def dkwX1_putItem_9 : List UInt8 := [182, 0, 134, 42, 4, 182, 0, 138, 167, 0, 74, 42, 8, 182, 0, 126, 61, 42, 6, 188, 10, 89, 3, 7]
abbrev dktX1_putItem_9 : List UInt8 := dkwX1_putItem_9 ++ dktX1_putItem_10
def dkwX1_putItem_8 : List UInt8 := [27, 182, 0, 126, 79, 182, 0, 134, 167, 0, 97, 42, 5, 188, 10, 89, 3, 4, 79, 89, 4, 4, 79]
abbrev dktX1_putItem_8 : List UInt8 := dkwX1_putItem_8 ++ dktX1_putItem_9
def dkwX1_putItem_7 : List UInt8 := [42, 28, 182, 0, 138, 167, 0, 124, 27, 158, 0, 26, 42, 5, 188, 10, 89, 3, 16, 6, 79, 89, 4, 42]
abbrev dktX1_putItem_7 : List UInt8 := dkwX1_putItem_7 ++ dktX1_putItem_8
def dkwX1_putItem_6 : List UInt8 := [167, 0, 153, 42, 7, 182, 0, 126, 61, 42, 5, 188, 10, 89, 3, 8, 79, 89, 4, 28, 79, 182, 0, 134]
abbrev dktX1_putItem_6 : List UInt8 := dkwX1_putItem_6 ++ dktX1_putItem_7
def dkwX1_putItem_5 : List UInt8 := [188, 10, 89, 3, 6, 79, 89, 4, 28, 79, 89, 5, 42, 16, 12, 182, 0, 126, 79, 182, 0, 134]
abbrev dktX1_putItem_5 : List UInt8 := dkwX1_putItem_5 ++ dktX1_putItem_6
def dkwX1_putItem_4 : List UInt8 := [4, 28, 79, 182, 0, 134, 42, 4, 182, 0, 138, 167, 0, 188, 4, 42, 7, 182, 0, 126, 96, 61, 42, 6]
abbrev dktX1_putItem_4 : List UInt8 := dkwX1_putItem_4 ++ dktX1_putItem_5
def dkwX1_putItem_3 : List UInt8 := [42, 28, 182, 0, 138, 167, 0, 218, 42, 16, 20, 182, 0, 126, 61, 42, 5, 188, 10, 89, 3, 5, 79, 89]
abbrev dktX1_putItem_3 : List UInt8 := dkwX1_putItem_3 ++ dktX1_putItem_4
def dkwX1_putItem_2 : List UInt8 := [4, 42, 16, 6, 182, 0, 126, 96, 61, 42, 5, 188, 10, 89, 3, 4, 79, 89, 4, 28, 79, 182, 0, 134]
abbrev dktX1_putItem_2 : List UInt8 := dkwX1_putItem_2 ++ dktX1_putItem_3
def dkwX1_putItem_1 : List UInt8 := [170, 0, 0, 0, 0, 210, 0, 0, 0, 0, 0, 0, 0, 4, 0, 0, 0, 34, 0, 0, 0, 66, 0, 0, 0, 96, 0, 0, 0, 131, 0, 0, 0, 160]
abbrev dktX1_putItem_1 : List UInt8 := dkwX1_putItem_1 ++ dktX1_putItem_2
def dkwX1_putItem_0 : List UInt8 := [42, 16, 6, 182, 0, 126]
abbrev dktX1_putItem_0 : List UInt8 := dkwX1_putItem_0 ++ dktX1_putItem_1
theorem dksX1_putItem_0 : cX1_putItem.data.toList.drop 0 = dktX1_putItem_0 := by decide +kernel
theorem dksX1_putItem_1 : cX1_putItem.data.toList.drop 6 = dktX1_putItem_1 := dk_seg dksX1_putItem_0 6 rfl rfl
theorem dksX1_putItem_2 : cX1_putItem.data.toList.drop 40 = dktX1_putItem_2 := dk_seg dksX1_putItem_1 34 rfl rfl
theorem dksX1_putItem_3 : cX1_putItem.data.toList.drop 64 = dktX1_putItem_3 := dk_seg dksX1_putItem_2 24 rfl rfl
theorem dksX1_putItem_4 : cX1_putItem.data.toList.drop 88 = dktX1_putItem_4 := dk_seg dksX1_putItem_3 24 rfl rfl
theorem dksX1_putItem_5 : cX1_putItem.data.toList.drop 112 = dktX1_putItem_5 := dk_seg dksX1_putItem_4 24 rfl rfl
theorem dksX1_putItem_6 : cX1_putItem.data.toList.drop 134 = dktX1_putItem_6 := dk_seg dksX1_putItem_5 22 rfl rfl
theorem dksX1_putItem_7 : cX1_putItem.data.toList.drop 158 = dktX1_putItem_7 := dk_seg dksX1_putItem_6 24 rfl rfl
theorem dksX1_putItem_8 : cX1_putItem.data.toList.drop 182 = dktX1_putItem_8 := dk_seg dksX1_putItem_7 24 rfl rfl
theorem dksX1_putItem_9 : cX1_putItem.data.toList.drop 205 = dktX1_putItem_9 := dk_seg dksX1_putItem_8 23 rfl rfl
theorem dksX1_putItem_10 : cX1_putItem.data.toList.drop 229 = dktX1_putItem_10 := dk_seg dksX1_putItem_9 24 rfl rfl
theorem dksX1_putItem_11 : cX1_putItem.data.toList.drop 253 = dktX1_putItem_11 := dk_seg dksX1_putItem_10 24 rfl rfl
theorem dksX1_putItem_12 : cX1_putItem.data.toList.drop 277 = dktX1_putItem_12 := dk_seg dksX1_putItem_11 24 rfl rfl
theorem dX1_putItem_0 : decode cX1_putItem 0 = .ok (.aload_n 0, 1) := dk_42 (dk_at dksX1_putItem_0 0 rfl rfl)
theorem dX1_putItem_1 : decode cX1_putItem 1 = .ok (.bipush 6, 2) := dk_16 6 (dk_at dksX1_putItem_0 1 rfl rfl)
theorem dX1_putItem_3 : decode cX1_putItem 3 = .ok (.invokevirtual 126, 3) := dk_182 0 126 (dk_at dksX1_putItem_0 3 rfl rfl)
theorem dX1_putItem_6 : decode cX1_putItem 6 = .ok (.tableswitch 210 0 4 #[34, 66, 96, 131, 160], 34) := by decide +kernel
theorem dX1_putItem_40 : decode cX1_putItem 40 = .ok (.iconst 1, 1) := dk_4 (dk_at dksX1_putItem_2 0 rfl rfl)
theorem dX1_putItem_41 : decode cX1_putItem 41 = .ok (.aload_n 0, 1) := dk_42 (dk_at dksX1_putItem_2 1 rfl rfl)
theorem dX1_putItem_42 : decode cX1_putItem 42 = .ok (.bipush 6, 2) := dk_16 6 (dk_at dksX1_putItem_2 2 rfl rfl)
theorem dX1_putItem_44 : decode cX1_putItem 44 = .ok (.invokevirtual 126, 3) := dk_182 0 126 (dk_at dksX1_putItem_2 4 rfl rfl)
theorem dX1_putItem_47 : decode cX1_putItem 47 = .ok (.iadd, 1) := dk_96 (dk_at dksX1_putItem_2 7 rfl rfl)
theorem dX1_putItem_48 : decode cX1_putItem 48 = .ok (.istore_n 2, 1) := dk_61 (dk_at dksX1_putItem_2 8 rfl rfl)
theorem dX1_putItem_49 : decode cX1_putItem 49 = .ok (.aload_n 0, 1) := dk_42 (dk_at dksX1_putItem_2 9 rfl rfl)
theorem dX1_putItem_50 : decode cX1_putItem 50 = .ok (.iconst 2, 1) := dk_5 (dk_at dksX1_putItem_2 10 rfl rfl)
theorem dX1_putItem_51 : decode cX1_putItem 51 = .ok (.newarray .int, 2) := dk_188_10 (dk_at dksX1_putItem_2 11 rfl rfl)
theorem dX1_putItem_53 : decode cX1_putItem 53 = .ok (.dup, 1) := dk_89 (dk_at dksX1_putItem_2 13 rfl rfl)
theorem dX1_putItem_54 : decode cX1_putItem 54 = .ok (.iconst 0, 1) := dk_3 (dk_at dksX1_putItem_2 14 rfl rfl)
theorem dX1_putItem_55 : decode cX1_putItem 55 = .ok (.iconst 1, 1) := dk_4 (dk_at dksX1_putItem_2 15 rfl rfl)
theorem dX1_putItem_56 : decode cX1_putItem 56 = .ok (.iastore, 1) := dk_79 (dk_at dksX1_putItem_2 16 rfl rfl)
theorem dX1_putItem_57 : decode cX1_putItem 57 = .ok (.dup, 1) := dk_89 (dk_at dksX1_putItem_2 17 rfl rfl)
theorem dX1_putItem_58 : decode cX1_putItem 58 = .ok (.iconst 1, 1) := dk_4 (dk_at dksX1_putItem_2 18 rfl rfl)
theorem dX1_putItem_59 : decode cX1_putItem 59 = .ok (.iload_n 2, 1) := dk_28 (dk_at dksX1_putItem_2 19 rfl rfl)
theorem dX1_putItem_60 : decode cX1_putItem 60 = .ok (.iastore, 1) := dk_79 (dk_at dksX1_putItem_2 20 rfl rfl)
theorem dX1_putItem_61 : decode cX1_putItem 61 = .ok (.invokevirtual 134, 3) := dk_182 0 134 (dk_at dksX1_putItem_2 21 rfl rfl)
theorem dX1_putItem_64 : decode cX1_putItem 64 = .ok (.aload_n 0, 1) := dk_42 (dk_at dksX1_putItem_3 0 rfl rfl)
theorem dX1_putItem_65 : decode cX1_putItem 65 = .ok (.iload_n 2, 1) := dk_28 (dk_at dksX1_putItem_3 1 rfl rfl)
theorem dX1_putItem_66 : decode cX1_putItem 66 = .ok (.invokevirtual 138, 3) := dk_182 0 138 (dk_at dksX1_putItem_3 2 rfl rfl)
theorem dX1_putItem_69 : decode cX1_putItem 69 = .ok (.goto 218, 3) := dk_167 0 218 (dk_at dksX1_putItem_3 5 rfl rfl)
theorem dX1_putItem_72 : decode cX1_putItem 72 = .ok (.aload_n 0, 1) := dk_42 (dk_at dksX1_putItem_3 8 rfl rfl)
theorem dX1_putItem_73 : decode cX1_putItem 73 = .ok (.bipush 20, 2) := dk_16 20 (dk_at dksX1_putItem_3 9 rfl rfl)
theorem dX1_putItem_75 : decode cX1_putItem 75 = .ok (.invokevirtual 126, 3) := dk_182 0 126 (dk_at dksX1_putItem_3 11 rfl rfl)
theorem dX1_putItem_78 : decode cX1_putItem 78 = .ok (.istore_n 2, 1) := dk_61 (dk_at dksX1_putItem_3 14 rfl rfl)
theorem dX1_putItem_79 : decode cX1_putItem 79 = .ok (.aload_n 0, 1) := dk_42 (dk_at dksX1_putItem_3 15 rfl rfl)
theorem dX1_putItem_80 : decode cX1_putItem 80 = .ok (.iconst 2, 1) := dk_5 (dk_at dksX1_putItem_3 16 rfl rfl)
theorem dX1_putItem_81 : decode cX1_putItem 81 = .ok (.newarray .int, 2) := dk_188_10 (dk_at dksX1_putItem_3 17 rfl rfl)
theorem dX1_putItem_83 : decode cX1_putItem 83 = .ok (.dup, 1) := dk_89 (dk_at dksX1_putItem_3 19 rfl rfl)
theorem dX1_putItem_84 : decode cX1_putItem 84 = .ok (.iconst 0, 1) := dk_3 (dk_at dksX1_putItem_3 20 rfl rfl)
theorem dX1_putItem_85 : decode cX1_putItem 85 = .ok (.iconst 2, 1) := dk_5 (dk_at dksX1_putItem_3 21 rfl rfl)
theorem dX1_putItem_86 : decode cX1_putItem 86 = .ok (.iastore, 1) := dk_79 (dk_at dksX1_putItem_3 22 rfl rfl)
theorem dX1_putItem_87 : decode cX1_putItem 87 = .ok (.dup, 1) := dk_89 (dk_at dksX1_putItem_3 23 rfl rfl)
theorem dX1_putItem_88 : decode cX1_putItem 88 = .ok (.iconst 1, 1) := dk_4 (dk_at dksX1_putItem_4 0 rfl rfl)
theorem dX1_putItem_89 : decode cX1_putItem 89 = .ok (.iload_n 2, 1) := dk_28 (dk_at dksX1_putItem_4 1 rfl rfl)
theorem dX1_putItem_90 : decode cX1_putItem 90 = .ok (.iastore, 1) := dk_79 (dk_at dksX1_putItem_4 2 rfl rfl)
theorem dX1_putItem_91 : decode cX1_putItem 91 = .ok (.invokevirtual 134, 3) := dk_182 0 134 (dk_at dksX1_putItem_4 3 rfl rfl)
theorem dX1_putItem_94 : decode cX1_putItem 94 = .ok (.aload_n 0, 1) := dk_42 (dk_at dksX1_putItem_4 6 rfl rfl)
theorem dX1_putItem_95 : decode cX1_putItem 95 = .ok (.iconst 1, 1) := dk_4 (dk_at dksX1_putItem_4 7 rfl rfl)
theorem dX1_putItem_96 : decode cX1_putItem 96 = .ok (.invokevirtual 138, 3) := dk_182 0 138 (dk_at dksX1_putItem_4 8 rfl rfl)
theorem dX1_putItem_99 : decode cX1_putItem 99 = .ok (.goto 188, 3) := dk_167 0 188 (dk_at dksX1_putItem_4 11 rfl rfl)
theorem dX1_putItem_102 : decode cX1_putItem 102 = .ok (.iconst 1, 1) := dk_4 (dk_at dksX1_putItem_4 14 rfl rfl)
theorem dX1_putItem_103 : decode cX1_putItem 103 = .ok (.aload_n 0, 1) := dk_42 (dk_at dksX1_putItem_4 15 rfl rfl)
theorem dX1_putItem_104 : decode cX1_putItem 104 = .ok (.iconst 4, 1) := dk_7 (dk_at dksX1_putItem_4 16 rfl rfl)
theorem dX1_putItem_105 : decode cX1_putItem 105 = .ok (.invokevirtual 126, 3) := dk_182 0 126 (dk_at dksX1_putItem_4 17 rfl rfl)
theorem dX1_putItem_108 : decode cX1_putItem 108 = .ok (.iadd, 1) := dk_96 (dk_at dksX1_putItem_4 20 rfl rfl)
theorem dX1_putItem_109 : decode cX1_putItem 109 = .ok (.istore_n 2, 1) := dk_61 (dk_at dksX1_putItem_4 21 rfl rfl)
theorem dX1_putItem_110 : decode cX1_putItem 110 = .ok (.aload_n 0, 1) := dk_42 (dk_at dksX1_putItem_4 22 rfl rfl)
theorem dX1_putItem_111 : decode cX1_putItem 111 = .ok (.iconst 3, 1) := dk_6 (dk_at dksX1_putItem_4 23 rfl rfl)
theorem dX1_putItem_112 : decode cX1_putItem 112 = .ok (.newarray .int, 2) := dk_188_10 (dk_at dksX1_putItem_5 0 rfl rfl)
theorem dX1_putItem_114 : decode cX1_putItem 114 = .ok (.dup, 1) := dk_89 (dk_at dksX1_putItem_5 2 rfl rfl)
theorem dX1_putItem_115 : decode cX1_putItem 115 = .ok (.iconst 0, 1) := dk_3 (dk_at dksX1_putItem_5 3 rfl rfl)
theorem dX1_putItem_116 : decode cX1_putItem 116 = .ok (.iconst 3, 1) := dk_6 (dk_at dksX1_putItem_5 4 rfl rfl)
theorem dX1_putItem_117 : decode cX1_putItem 117 = .ok (.iastore, 1) := dk_79 (dk_at dksX1_putItem_5 5 rfl rfl)
theorem dX1_putItem_118 : decode cX1_putItem 118 = .ok (.dup, 1) := dk_89 (dk_at dksX1_putItem_5 6 rfl rfl)
theorem dX1_putItem_119 : decode cX1_putItem 119 = .ok (.iconst 1, 1) := dk_4 (dk_at dksX1_putItem_5 7 rfl rfl)
theorem dX1_putItem_120 : decode cX1_putItem 120 = .ok (.iload_n 2, 1) := dk_28 (dk_at dksX1_putItem_5 8 rfl rfl)
theorem dX1_putItem_121 : decode cX1_putItem 121 = .ok (.iastore, 1) := dk_79 (dk_at dksX1_putItem_5 9 rfl rfl)
theorem dX1_putItem_122 : decode cX1_putItem 122 = .ok (.dup, 1) := dk_89 (dk_at dksX1_putItem_5 10 rfl rfl)
theorem dX1_putItem_123 : decode cX1_putItem 123 = .ok (.iconst 2, 1) := dk_5 (dk_at dksX1_putItem_5 11 rfl rfl)
theorem dX1_putItem_124 : decode cX1_putItem 124 = .ok (.aload_n 0, 1) := dk_42 (dk_at dksX1_putItem_5 12 rfl rfl)
theorem dX1_putItem_125 : decode cX1_putItem 125 = .ok (.bipush 12, 2) := dk_16 12 (dk_at dksX1_putItem_5 13 rfl rfl)
theorem dX1_putItem_127 : decode cX1_putItem 127 = .ok (.invokevirtual 126, 3) := dk_182 0 126 (dk_at dksX1_putItem_5 15 rfl rfl)
theorem dX1_putItem_130 : decode cX1_putItem 130 = .ok (.iastore, 1) := dk_79 (dk_at dksX1_putItem_5 18 rfl rfl)
theorem dX1_putItem_131 : decode cX1_putItem 131 = .ok (.invokevirtual 134, 3) := dk_182 0 134 (dk_at dksX1_putItem_5 19 rfl rfl)
theorem dX1_putItem_134 : decode cX1_putItem 134 = .ok (.goto 153, 3) := dk_167 0 153 (dk_at dksX1_putItem_6 0 rfl rfl)
theorem dX1_putItem_137 : decode cX1_putItem 137 = .ok (.aload_n 0, 1) := dk_42 (dk_at dksX1_putItem_6 3 rfl rfl)
theorem dX1_putItem_138 : decode cX1_putItem 138 = .ok (.iconst 4, 1) := dk_7 (dk_at dksX1_putItem_6 4 rfl rfl)
theorem dX1_putItem_139 : decode cX1_putItem 139 = .ok (.invokevirtual 126, 3) := dk_182 0 126 (dk_at dksX1_putItem_6 5 rfl rfl)
theorem dX1_putItem_142 : decode cX1_putItem 142 = .ok (.istore_n 2, 1) := dk_61 (dk_at dksX1_putItem_6 8 rfl rfl)
theorem dX1_putItem_143 : decode cX1_putItem 143 = .ok (.aload_n 0, 1) := dk_42 (dk_at dksX1_putItem_6 9 rfl rfl)
theorem dX1_putItem_144 : decode cX1_putItem 144 = .ok (.iconst 2, 1) := dk_5 (dk_at dksX1_putItem_6 10 rfl rfl)
theorem dX1_putItem_145 : decode cX1_putItem 145 = .ok (.newarray .int, 2) := dk_188_10 (dk_at dksX1_putItem_6 11 rfl rfl)
theorem dX1_putItem_147 : decode cX1_putItem 147 = .ok (.dup, 1) := dk_89 (dk_at dksX1_putItem_6 13 rfl rfl)
theorem dX1_putItem_148 : decode cX1_putItem 148 = .ok (.iconst 0, 1) := dk_3 (dk_at dksX1_putItem_6 14 rfl rfl)
theorem dX1_putItem_149 : decode cX1_putItem 149 = .ok (.iconst 5, 1) := dk_8 (dk_at dksX1_putItem_6 15 rfl rfl)
theorem dX1_putItem_150 : decode cX1_putItem 150 = .ok (.iastore, 1) := dk_79 (dk_at dksX1_putItem_6 16 rfl rfl)
theorem dX1_putItem_151 : decode cX1_putItem 151 = .ok (.dup, 1) := dk_89 (dk_at dksX1_putItem_6 17 rfl rfl)
theorem dX1_putItem_152 : decode cX1_putItem 152 = .ok (.iconst 1, 1) := dk_4 (dk_at dksX1_putItem_6 18 rfl rfl)
theorem dX1_putItem_153 : decode cX1_putItem 153 = .ok (.iload_n 2, 1) := dk_28 (dk_at dksX1_putItem_6 19 rfl rfl)
theorem dX1_putItem_154 : decode cX1_putItem 154 = .ok (.iastore, 1) := dk_79 (dk_at dksX1_putItem_6 20 rfl rfl)
theorem dX1_putItem_155 : decode cX1_putItem 155 = .ok (.invokevirtual 134, 3) := dk_182 0 134 (dk_at dksX1_putItem_6 21 rfl rfl)
theorem dX1_putItem_158 : decode cX1_putItem 158 = .ok (.aload_n 0, 1) := dk_42 (dk_at dksX1_putItem_7 0 rfl rfl)
theorem dX1_putItem_159 : decode cX1_putItem 159 = .ok (.iload_n 2, 1) := dk_28 (dk_at dksX1_putItem_7 1 rfl rfl)
theorem dX1_putItem_160 : decode cX1_putItem 160 = .ok (.invokevirtual 138, 3) := dk_182 0 138 (dk_at dksX1_putItem_7 2 rfl rfl)
theorem dX1_putItem_163 : decode cX1_putItem 163 = .ok (.goto 124, 3) := dk_167 0 124 (dk_at dksX1_putItem_7 5 rfl rfl)
theorem dX1_putItem_166 : decode cX1_putItem 166 = .ok (.iload_n 1, 1) := dk_27 (dk_at dksX1_putItem_7 8 rfl rfl)
theorem dX1_putItem_167 : decode cX1_putItem 167 = .ok (.ifCond .le 26, 3) := dk_158 0 26 (dk_at dksX1_putItem_7 9 rfl rfl)
theorem dX1_putItem_170 : decode cX1_putItem 170 = .ok (.aload_n 0, 1) := dk_42 (dk_at dksX1_putItem_7 12 rfl rfl)
theorem dX1_putItem_171 : decode cX1_putItem 171 = .ok (.iconst 2, 1) := dk_5 (dk_at dksX1_putItem_7 13 rfl rfl)
theorem dX1_putItem_172 : decode cX1_putItem 172 = .ok (.newarray .int, 2) := dk_188_10 (dk_at dksX1_putItem_7 14 rfl rfl)
theorem dX1_putItem_174 : decode cX1_putItem 174 = .ok (.dup, 1) := dk_89 (dk_at dksX1_putItem_7 16 rfl rfl)
theorem dX1_putItem_175 : decode cX1_putItem 175 = .ok (.iconst 0, 1) := dk_3 (dk_at dksX1_putItem_7 17 rfl rfl)
theorem dX1_putItem_176 : decode cX1_putItem 176 = .ok (.bipush 6, 2) := dk_16 6 (dk_at dksX1_putItem_7 18 rfl rfl)
theorem dX1_putItem_178 : decode cX1_putItem 178 = .ok (.iastore, 1) := dk_79 (dk_at dksX1_putItem_7 20 rfl rfl)
theorem dX1_putItem_179 : decode cX1_putItem 179 = .ok (.dup, 1) := dk_89 (dk_at dksX1_putItem_7 21 rfl rfl)
theorem dX1_putItem_180 : decode cX1_putItem 180 = .ok (.iconst 1, 1) := dk_4 (dk_at dksX1_putItem_7 22 rfl rfl)
theorem dX1_putItem_181 : decode cX1_putItem 181 = .ok (.aload_n 0, 1) := dk_42 (dk_at dksX1_putItem_7 23 rfl rfl)
theorem dX1_putItem_182 : decode cX1_putItem 182 = .ok (.iload_n 1, 1) := dk_27 (dk_at dksX1_putItem_8 0 rfl rfl)
theorem dX1_putItem_183 : decode cX1_putItem 183 = .ok (.invokevirtual 126, 3) := dk_182 0 126 (dk_at dksX1_putItem_8 1 rfl rfl)
theorem dX1_putItem_186 : decode cX1_putItem 186 = .ok (.iastore, 1) := dk_79 (dk_at dksX1_putItem_8 4 rfl rfl)
theorem dX1_putItem_187 : decode cX1_putItem 187 = .ok (.invokevirtual 134, 3) := dk_182 0 134 (dk_at dksX1_putItem_8 5 rfl rfl)
theorem dX1_putItem_190 : decode cX1_putItem 190 = .ok (.goto 97, 3) := dk_167 0 97 (dk_at dksX1_putItem_8 8 rfl rfl)
theorem dX1_putItem_193 : decode cX1_putItem 193 = .ok (.aload_n 0, 1) := dk_42 (dk_at dksX1_putItem_8 11 rfl rfl)
theorem dX1_putItem_194 : decode cX1_putItem 194 = .ok (.iconst 2, 1) := dk_5 (dk_at dksX1_putItem_8 12 rfl rfl)
theorem dX1_putItem_195 : decode cX1_putItem 195 = .ok (.newarray .int, 2) := dk_188_10 (dk_at dksX1_putItem_8 13 rfl rfl)
theorem dX1_putItem_197 : decode cX1_putItem 197 = .ok (.dup, 1) := dk_89 (dk_at dksX1_putItem_8 15 rfl rfl)
theorem dX1_putItem_198 : decode cX1_putItem 198 = .ok (.iconst 0, 1) := dk_3 (dk_at dksX1_putItem_8 16 rfl rfl)
theorem dX1_putItem_199 : decode cX1_putItem 199 = .ok (.iconst 1, 1) := dk_4 (dk_at dksX1_putItem_8 17 rfl rfl)
theorem dX1_putItem_200 : decode cX1_putItem 200 = .ok (.iastore, 1) := dk_79 (dk_at dksX1_putItem_8 18 rfl rfl)
theorem dX1_putItem_201 : decode cX1_putItem 201 = .ok (.dup, 1) := dk_89 (dk_at dksX1_putItem_8 19 rfl rfl)
theorem dX1_putItem_202 : decode cX1_putItem 202 = .ok (.iconst 1, 1) := dk_4 (dk_at dksX1_putItem_8 20 rfl rfl)
theorem dX1_putItem_203 : decode cX1_putItem 203 = .ok (.iconst 1, 1) := dk_4 (dk_at dksX1_putItem_8 21 rfl rfl)
theorem dX1_putItem_204 : decode cX1_putItem 204 = .ok (.iastore, 1) := dk_79 (dk_at dksX1_putItem_8 22 rfl rfl)
theorem dX1_putItem_205 : decode cX1_putItem 205 = .ok (.invokevirtual 134, 3) := dk_182 0 134 (dk_at dksX1_putItem_9 0 rfl rfl)
theorem dX1_putItem_208 : decode cX1_putItem 208 = .ok (.aload_n 0, 1) := dk_42 (dk_at dksX1_putItem_9 3 rfl rfl)
theorem dX1_putItem_209 : decode cX1_putItem 209 = .ok (.iconst 1, 1) := dk_4 (dk_at dksX1_putItem_9 4 rfl rfl)
theorem dX1_putItem_210 : decode cX1_putItem 210 = .ok (.invokevirtual 138, 3) := dk_182 0 138 (dk_at dksX1_putItem_9 5 rfl rfl)
theorem dX1_putItem_213 : decode cX1_putItem 213 = .ok (.goto 74, 3) := dk_167 0 74 (dk_at dksX1_putItem_9 8 rfl rfl)
theorem dX1_putItem_216 : decode cX1_putItem 216 = .ok (.aload_n 0, 1) := dk_42 (dk_at dksX1_putItem_9 11 rfl rfl)
theorem dX1_putItem_217 : decode cX1_putItem 217 = .ok (.iconst 5, 1) := dk_8 (dk_at dksX1_putItem_9 12 rfl rfl)
theorem dX1_putItem_218 : decode cX1_putItem 218 = .ok (.invokevirtual 126, 3) := dk_182 0 126 (dk_at dksX1_putItem_9 13 rfl rfl)
theorem dX1_putItem_221 : decode cX1_putItem 221 = .ok (.istore_n 2, 1) := dk_61 (dk_at dksX1_putItem_9 16 rfl rfl)
theorem dX1_putItem_222 : decode cX1_putItem 222 = .ok (.aload_n 0, 1) := dk_42 (dk_at dksX1_putItem_9 17 rfl rfl)
theorem dX1_putItem_223 : decode cX1_putItem 223 = .ok (.iconst 3, 1) := dk_6 (dk_at dksX1_putItem_9 18 rfl rfl)
theorem dX1_putItem_224 : decode cX1_putItem 224 = .ok (.newarray .int, 2) := dk_188_10 (dk_at dksX1_putItem_9 19 rfl rfl)
theorem dX1_putItem_226 : decode cX1_putItem 226 = .ok (.dup, 1) := dk_89 (dk_at dksX1_putItem_9 21 rfl rfl)
theorem dX1_putItem_227 : decode cX1_putItem 227 = .ok (.iconst 0, 1) := dk_3 (dk_at dksX1_putItem_9 22 rfl rfl)
theorem dX1_putItem_228 : decode cX1_putItem 228 = .ok (.iconst 4, 1) := dk_7 (dk_at dksX1_putItem_9 23 rfl rfl)
theorem dX1_putItem_229 : decode cX1_putItem 229 = .ok (.iastore, 1) := dk_79 (dk_at dksX1_putItem_10 0 rfl rfl)
theorem dX1_putItem_230 : decode cX1_putItem 230 = .ok (.dup, 1) := dk_89 (dk_at dksX1_putItem_10 1 rfl rfl)
theorem dX1_putItem_231 : decode cX1_putItem 231 = .ok (.iconst 1, 1) := dk_4 (dk_at dksX1_putItem_10 2 rfl rfl)
theorem dX1_putItem_232 : decode cX1_putItem 232 = .ok (.iconst 0, 1) := dk_3 (dk_at dksX1_putItem_10 3 rfl rfl)
theorem dX1_putItem_233 : decode cX1_putItem 233 = .ok (.iastore, 1) := dk_79 (dk_at dksX1_putItem_10 4 rfl rfl)
theorem dX1_putItem_234 : decode cX1_putItem 234 = .ok (.dup, 1) := dk_89 (dk_at dksX1_putItem_10 5 rfl rfl)
theorem dX1_putItem_235 : decode cX1_putItem 235 = .ok (.iconst 2, 1) := dk_5 (dk_at dksX1_putItem_10 6 rfl rfl)
theorem dX1_putItem_236 : decode cX1_putItem 236 = .ok (.iload_n 2, 1) := dk_28 (dk_at dksX1_putItem_10 7 rfl rfl)
theorem dX1_putItem_237 : decode cX1_putItem 237 = .ok (.bipush 6, 2) := dk_16 6 (dk_at dksX1_putItem_10 8 rfl rfl)
theorem dX1_putItem_239 : decode cX1_putItem 239 = .ok (.iadd, 1) := dk_96 (dk_at dksX1_putItem_10 10 rfl rfl)
theorem dX1_putItem_240 : decode cX1_putItem 240 = .ok (.iastore, 1) := dk_79 (dk_at dksX1_putItem_10 11 rfl rfl)
theorem dX1_putItem_241 : decode cX1_putItem 241 = .ok (.invokevirtual 134, 3) := dk_182 0 134 (dk_at dksX1_putItem_10 12 rfl rfl)
theorem dX1_putItem_244 : decode cX1_putItem 244 = .ok (.aload_n 0, 1) := dk_42 (dk_at dksX1_putItem_10 15 rfl rfl)
theorem dX1_putItem_245 : decode cX1_putItem 245 = .ok (.getfield 50, 3) := dk_180 0 50 (dk_at dksX1_putItem_10 16 rfl rfl)
theorem dX1_putItem_248 : decode cX1_putItem 248 = .ok (.getfield 17, 3) := dk_180 0 17 (dk_at dksX1_putItem_10 19 rfl rfl)
theorem dX1_putItem_251 : decode cX1_putItem 251 = .ok (.istore_n 3, 1) := dk_62 (dk_at dksX1_putItem_10 22 rfl rfl)
theorem dX1_putItem_252 : decode cX1_putItem 252 = .ok (.aload_n 0, 1) := dk_42 (dk_at dksX1_putItem_10 23 rfl rfl)
theorem dX1_putItem_253 : decode cX1_putItem 253 = .ok (.iconst 4, 1) := dk_7 (dk_at dksX1_putItem_11 0 rfl rfl)
theorem dX1_putItem_254 : decode cX1_putItem 254 = .ok (.newarray .int, 2) := dk_188_10 (dk_at dksX1_putItem_11 1 rfl rfl)
theorem dX1_putItem_256 : decode cX1_putItem 256 = .ok (.dup, 1) := dk_89 (dk_at dksX1_putItem_11 3 rfl rfl)
theorem dX1_putItem_257 : decode cX1_putItem 257 = .ok (.iconst 0, 1) := dk_3 (dk_at dksX1_putItem_11 4 rfl rfl)
theorem dX1_putItem_258 : decode cX1_putItem 258 = .ok (.bipush 80, 2) := dk_16 80 (dk_at dksX1_putItem_11 5 rfl rfl)
theorem dX1_putItem_260 : decode cX1_putItem 260 = .ok (.iastore, 1) := dk_79 (dk_at dksX1_putItem_11 7 rfl rfl)
theorem dX1_putItem_261 : decode cX1_putItem 261 = .ok (.dup, 1) := dk_89 (dk_at dksX1_putItem_11 8 rfl rfl)
theorem dX1_putItem_262 : decode cX1_putItem 262 = .ok (.iconst 1, 1) := dk_4 (dk_at dksX1_putItem_11 9 rfl rfl)
theorem dX1_putItem_263 : decode cX1_putItem 263 = .ok (.bipush 75, 2) := dk_16 75 (dk_at dksX1_putItem_11 10 rfl rfl)
theorem dX1_putItem_265 : decode cX1_putItem 265 = .ok (.iastore, 1) := dk_79 (dk_at dksX1_putItem_11 12 rfl rfl)
theorem dX1_putItem_266 : decode cX1_putItem 266 = .ok (.dup, 1) := dk_89 (dk_at dksX1_putItem_11 13 rfl rfl)
theorem dX1_putItem_267 : decode cX1_putItem 267 = .ok (.iconst 2, 1) := dk_5 (dk_at dksX1_putItem_11 14 rfl rfl)
theorem dX1_putItem_268 : decode cX1_putItem 268 = .ok (.iconst 1, 1) := dk_4 (dk_at dksX1_putItem_11 15 rfl rfl)
theorem dX1_putItem_269 : decode cX1_putItem 269 = .ok (.iastore, 1) := dk_79 (dk_at dksX1_putItem_11 16 rfl rfl)
theorem dX1_putItem_270 : decode cX1_putItem 270 = .ok (.dup, 1) := dk_89 (dk_at dksX1_putItem_11 17 rfl rfl)
theorem dX1_putItem_271 : decode cX1_putItem 271 = .ok (.iconst 3, 1) := dk_6 (dk_at dksX1_putItem_11 18 rfl rfl)
theorem dX1_putItem_272 : decode cX1_putItem 272 = .ok (.iload_n 2, 1) := dk_28 (dk_at dksX1_putItem_11 19 rfl rfl)
theorem dX1_putItem_273 : decode cX1_putItem 273 = .ok (.iastore, 1) := dk_79 (dk_at dksX1_putItem_11 20 rfl rfl)
theorem dX1_putItem_274 : decode cX1_putItem 274 = .ok (.invokevirtual 134, 3) := dk_182 0 134 (dk_at dksX1_putItem_11 21 rfl rfl)
theorem dX1_putItem_277 : decode cX1_putItem 277 = .ok (.aload_n 0, 1) := dk_42 (dk_at dksX1_putItem_12 0 rfl rfl)
theorem dX1_putItem_278 : decode cX1_putItem 278 = .ok (.iload_n 2, 1) := dk_28 (dk_at dksX1_putItem_12 1 rfl rfl)
theorem dX1_putItem_279 : decode cX1_putItem 279 = .ok (.invokevirtual 138, 3) := dk_182 0 138 (dk_at dksX1_putItem_12 2 rfl rfl)
theorem dX1_putItem_282 : decode cX1_putItem 282 = .ok (.aload_n 0, 1) := dk_42 (dk_at dksX1_putItem_12 5 rfl rfl)
theorem dX1_putItem_283 : decode cX1_putItem 283 = .ok (.iload_n 3, 1) := dk_29 (dk_at dksX1_putItem_12 6 rfl rfl)
theorem dX1_putItem_284 : decode cX1_putItem 284 = .ok (.invokevirtual 141, 3) := dk_182 0 141 (dk_at dksX1_putItem_12 7 rfl rfl)
theorem dX1_putItem_287 : decode cX1_putItem 287 = .ok (.return_, 1) := dk_177 (dk_at dksX1_putItem_12 10 rfl rfl)
abbrev cX1_putLikes : ByteArray := prog_1_method_11_code
def yX1_putLikes : MethodName := ⟨RX1, "putLikes", "(II)V"⟩
def dkwX1_putLikes_11 : List UInt8 := [182, 0, 134, 132, 3, 1, 167, 255, 150, 42, 3, 182, 0, 141, 177]
abbrev dktX1_putLikes_11 : List UInt8 := dkwX1_putLikes_11 ++ []
def dkwX1_putLikes_10 : List UInt8 := [160, 0, 8, 16, 6, 167, 0, 4, 8, 79, 89, 4, 27, 8, 160, 0, 7, 29, 167, 0, 4, 3, 79]
abbrev dktX1_putLikes_10 : List UInt8 := dkwX1_putLikes_10 ++ dktX1_putLikes_11
def dkwX1_putLikes_9 : List UInt8 := [4, 4, 79, 89, 5, 17, 0, 255, 79, 182, 0, 134, 167, 0, 37, 42, 5, 188, 10, 89, 3, 27, 8]
abbrev dktX1_putLikes_9 : List UInt8 := dkwX1_putLikes_9 ++ dktX1_putLikes_10
def dkwX1_putLikes_8 : List UInt8 := [182, 0, 126, 79, 182, 0, 134, 167, 0, 66, 27, 5, 160, 0, 27, 42, 6, 188, 10, 89, 3, 6, 79, 89]
abbrev dktX1_putLikes_8 : List UInt8 := dkwX1_putLikes_8 ++ dktX1_putLikes_9
def dkwX1_putLikes_7 : List UInt8 := [160, 0, 33, 42, 6, 188, 10, 89, 3, 5, 79, 89, 4, 17, 0, 255, 79, 89, 5, 42, 17, 1, 0]
abbrev dktX1_putLikes_7 : List UInt8 := dkwX1_putLikes_7 ++ dktX1_putLikes_8
def dkwX1_putLikes_6 : List UInt8 := [132, 3, 1, 167, 255, 234, 42, 180, 0, 50, 3, 182, 0, 123, 3, 62, 29, 28, 162, 0, 107, 27, 4]
abbrev dktX1_putLikes_6 : List UInt8 := dkwX1_putLikes_6 ++ dktX1_putLikes_7
def dkwX1_putLikes_5 : List UInt8 := [182, 0, 134, 3, 62, 29, 16, 8, 162, 0, 22, 42, 180, 0, 50, 42, 16, 8, 182, 0, 126, 182, 0, 123]
abbrev dktX1_putLikes_5 : List UInt8 := dkwX1_putLikes_5 ++ dktX1_putLikes_6
def dkwX1_putLikes_4 : List UInt8 := [6, 79, 89, 16, 6, 7, 79, 89, 16, 7, 8, 79, 89, 16, 8, 16, 6, 79, 89, 16, 9, 16, 7, 79]
abbrev dktX1_putLikes_4 : List UInt8 := dkwX1_putLikes_4 ++ dktX1_putLikes_5
def dkwX1_putLikes_3 : List UInt8 := [89, 3, 16, 7, 79, 89, 4, 16, 8, 79, 89, 5, 3, 79, 89, 6, 4, 79, 89, 7, 5, 79, 89, 8]
abbrev dktX1_putLikes_3 : List UInt8 := dkwX1_putLikes_3 ++ dktX1_putLikes_4
def dkwX1_putLikes_2 : List UInt8 := [89, 5, 42, 17, 1, 0, 182, 0, 126, 79, 182, 0, 134, 27, 16, 6, 160, 0, 94, 42, 16, 10, 188, 10]
abbrev dktX1_putLikes_2 : List UInt8 := dkwX1_putLikes_2 ++ dktX1_putLikes_3
def dkwX1_putLikes_1 : List UInt8 := [160, 0, 37, 42, 6, 188, 10, 89, 3, 27, 5, 160, 0, 7, 4, 167, 0, 4, 5, 79, 89, 4, 4, 79]
abbrev dktX1_putLikes_1 : List UInt8 := dkwX1_putLikes_1 ++ dktX1_putLikes_2
def dkwX1_putLikes_0 : List UInt8 := [42, 5, 188, 10, 89, 3, 16, 80, 79, 89, 4, 16, 75, 79, 182, 0, 134, 27, 5, 159, 0, 8, 27, 8]
abbrev dktX1_putLikes_0 : List UInt8 := dkwX1_putLikes_0 ++ dktX1_putLikes_1
theorem dksX1_putLikes_0 : cX1_putLikes.data.toList.drop 0 = dktX1_putLikes_0 := by decide +kernel
theorem dksX1_putLikes_1 : cX1_putLikes.data.toList.drop 24 = dktX1_putLikes_1 := dk_seg dksX1_putLikes_0 24 rfl rfl
theorem dksX1_putLikes_2 : cX1_putLikes.data.toList.drop 48 = dktX1_putLikes_2 := dk_seg dksX1_putLikes_1 24 rfl rfl
theorem dksX1_putLikes_3 : cX1_putLikes.data.toList.drop 72 = dktX1_putLikes_3 := dk_seg dksX1_putLikes_2 24 rfl rfl
theorem dksX1_putLikes_4 : cX1_putLikes.data.toList.drop 96 = dktX1_putLikes_4 := dk_seg dksX1_putLikes_3 24 rfl rfl
theorem dksX1_putLikes_5 : cX1_putLikes.data.toList.drop 120 = dktX1_putLikes_5 := dk_seg dksX1_putLikes_4 24 rfl rfl
theorem dksX1_putLikes_6 : cX1_putLikes.data.toList.drop 144 = dktX1_putLikes_6 := dk_seg dksX1_putLikes_5 24 rfl rfl
theorem dksX1_putLikes_7 : cX1_putLikes.data.toList.drop 167 = dktX1_putLikes_7 := dk_seg dksX1_putLikes_6 23 rfl rfl
theorem dksX1_putLikes_8 : cX1_putLikes.data.toList.drop 190 = dktX1_putLikes_8 := dk_seg dksX1_putLikes_7 23 rfl rfl
theorem dksX1_putLikes_9 : cX1_putLikes.data.toList.drop 214 = dktX1_putLikes_9 := dk_seg dksX1_putLikes_8 24 rfl rfl
theorem dksX1_putLikes_10 : cX1_putLikes.data.toList.drop 237 = dktX1_putLikes_10 := dk_seg dksX1_putLikes_9 23 rfl rfl
theorem dksX1_putLikes_11 : cX1_putLikes.data.toList.drop 260 = dktX1_putLikes_11 := dk_seg dksX1_putLikes_10 23 rfl rfl
theorem dX1_putLikes_0 : decode cX1_putLikes 0 = .ok (.aload_n 0, 1) := dk_42 (dk_at dksX1_putLikes_0 0 rfl rfl)
theorem dX1_putLikes_1 : decode cX1_putLikes 1 = .ok (.iconst 2, 1) := dk_5 (dk_at dksX1_putLikes_0 1 rfl rfl)
theorem dX1_putLikes_2 : decode cX1_putLikes 2 = .ok (.newarray .int, 2) := dk_188_10 (dk_at dksX1_putLikes_0 2 rfl rfl)
theorem dX1_putLikes_4 : decode cX1_putLikes 4 = .ok (.dup, 1) := dk_89 (dk_at dksX1_putLikes_0 4 rfl rfl)
theorem dX1_putLikes_5 : decode cX1_putLikes 5 = .ok (.iconst 0, 1) := dk_3 (dk_at dksX1_putLikes_0 5 rfl rfl)
theorem dX1_putLikes_6 : decode cX1_putLikes 6 = .ok (.bipush 80, 2) := dk_16 80 (dk_at dksX1_putLikes_0 6 rfl rfl)
theorem dX1_putLikes_8 : decode cX1_putLikes 8 = .ok (.iastore, 1) := dk_79 (dk_at dksX1_putLikes_0 8 rfl rfl)
theorem dX1_putLikes_9 : decode cX1_putLikes 9 = .ok (.dup, 1) := dk_89 (dk_at dksX1_putLikes_0 9 rfl rfl)
theorem dX1_putLikes_10 : decode cX1_putLikes 10 = .ok (.iconst 1, 1) := dk_4 (dk_at dksX1_putLikes_0 10 rfl rfl)
theorem dX1_putLikes_11 : decode cX1_putLikes 11 = .ok (.bipush 75, 2) := dk_16 75 (dk_at dksX1_putLikes_0 11 rfl rfl)
theorem dX1_putLikes_13 : decode cX1_putLikes 13 = .ok (.iastore, 1) := dk_79 (dk_at dksX1_putLikes_0 13 rfl rfl)
theorem dX1_putLikes_14 : decode cX1_putLikes 14 = .ok (.invokevirtual 134, 3) := dk_182 0 134 (dk_at dksX1_putLikes_0 14 rfl rfl)
theorem dX1_putLikes_17 : decode cX1_putLikes 17 = .ok (.iload_n 1, 1) := dk_27 (dk_at dksX1_putLikes_0 17 rfl rfl)
theorem dX1_putLikes_18 : decode cX1_putLikes 18 = .ok (.iconst 2, 1) := dk_5 (dk_at dksX1_putLikes_0 18 rfl rfl)
theorem dX1_putLikes_19 : decode cX1_putLikes 19 = .ok (.if_icmp .eq 8, 3) := dk_159 0 8 (dk_at dksX1_putLikes_0 19 rfl rfl)
theorem dX1_putLikes_22 : decode cX1_putLikes 22 = .ok (.iload_n 1, 1) := dk_27 (dk_at dksX1_putLikes_0 22 rfl rfl)
theorem dX1_putLikes_23 : decode cX1_putLikes 23 = .ok (.iconst 5, 1) := dk_8 (dk_at dksX1_putLikes_0 23 rfl rfl)
theorem dX1_putLikes_24 : decode cX1_putLikes 24 = .ok (.if_icmp .ne 37, 3) := dk_160 0 37 (dk_at dksX1_putLikes_1 0 rfl rfl)
theorem dX1_putLikes_27 : decode cX1_putLikes 27 = .ok (.aload_n 0, 1) := dk_42 (dk_at dksX1_putLikes_1 3 rfl rfl)
theorem dX1_putLikes_28 : decode cX1_putLikes 28 = .ok (.iconst 3, 1) := dk_6 (dk_at dksX1_putLikes_1 4 rfl rfl)
theorem dX1_putLikes_29 : decode cX1_putLikes 29 = .ok (.newarray .int, 2) := dk_188_10 (dk_at dksX1_putLikes_1 5 rfl rfl)
theorem dX1_putLikes_31 : decode cX1_putLikes 31 = .ok (.dup, 1) := dk_89 (dk_at dksX1_putLikes_1 7 rfl rfl)
theorem dX1_putLikes_32 : decode cX1_putLikes 32 = .ok (.iconst 0, 1) := dk_3 (dk_at dksX1_putLikes_1 8 rfl rfl)
theorem dX1_putLikes_33 : decode cX1_putLikes 33 = .ok (.iload_n 1, 1) := dk_27 (dk_at dksX1_putLikes_1 9 rfl rfl)
theorem dX1_putLikes_34 : decode cX1_putLikes 34 = .ok (.iconst 2, 1) := dk_5 (dk_at dksX1_putLikes_1 10 rfl rfl)
theorem dX1_putLikes_35 : decode cX1_putLikes 35 = .ok (.if_icmp .ne 7, 3) := dk_160 0 7 (dk_at dksX1_putLikes_1 11 rfl rfl)
theorem dX1_putLikes_38 : decode cX1_putLikes 38 = .ok (.iconst 1, 1) := dk_4 (dk_at dksX1_putLikes_1 14 rfl rfl)
theorem dX1_putLikes_39 : decode cX1_putLikes 39 = .ok (.goto 4, 3) := dk_167 0 4 (dk_at dksX1_putLikes_1 15 rfl rfl)
theorem dX1_putLikes_42 : decode cX1_putLikes 42 = .ok (.iconst 2, 1) := dk_5 (dk_at dksX1_putLikes_1 18 rfl rfl)
theorem dX1_putLikes_43 : decode cX1_putLikes 43 = .ok (.iastore, 1) := dk_79 (dk_at dksX1_putLikes_1 19 rfl rfl)
theorem dX1_putLikes_44 : decode cX1_putLikes 44 = .ok (.dup, 1) := dk_89 (dk_at dksX1_putLikes_1 20 rfl rfl)
theorem dX1_putLikes_45 : decode cX1_putLikes 45 = .ok (.iconst 1, 1) := dk_4 (dk_at dksX1_putLikes_1 21 rfl rfl)
theorem dX1_putLikes_46 : decode cX1_putLikes 46 = .ok (.iconst 1, 1) := dk_4 (dk_at dksX1_putLikes_1 22 rfl rfl)
theorem dX1_putLikes_47 : decode cX1_putLikes 47 = .ok (.iastore, 1) := dk_79 (dk_at dksX1_putLikes_1 23 rfl rfl)
theorem dX1_putLikes_48 : decode cX1_putLikes 48 = .ok (.dup, 1) := dk_89 (dk_at dksX1_putLikes_2 0 rfl rfl)
theorem dX1_putLikes_49 : decode cX1_putLikes 49 = .ok (.iconst 2, 1) := dk_5 (dk_at dksX1_putLikes_2 1 rfl rfl)
theorem dX1_putLikes_50 : decode cX1_putLikes 50 = .ok (.aload_n 0, 1) := dk_42 (dk_at dksX1_putLikes_2 2 rfl rfl)
theorem dX1_putLikes_51 : decode cX1_putLikes 51 = .ok (.sipush 256, 3) := dk_17 1 0 (dk_at dksX1_putLikes_2 3 rfl rfl)
theorem dX1_putLikes_54 : decode cX1_putLikes 54 = .ok (.invokevirtual 126, 3) := dk_182 0 126 (dk_at dksX1_putLikes_2 6 rfl rfl)
theorem dX1_putLikes_57 : decode cX1_putLikes 57 = .ok (.iastore, 1) := dk_79 (dk_at dksX1_putLikes_2 9 rfl rfl)
theorem dX1_putLikes_58 : decode cX1_putLikes 58 = .ok (.invokevirtual 134, 3) := dk_182 0 134 (dk_at dksX1_putLikes_2 10 rfl rfl)
theorem dX1_putLikes_61 : decode cX1_putLikes 61 = .ok (.iload_n 1, 1) := dk_27 (dk_at dksX1_putLikes_2 13 rfl rfl)
theorem dX1_putLikes_62 : decode cX1_putLikes 62 = .ok (.bipush 6, 2) := dk_16 6 (dk_at dksX1_putLikes_2 14 rfl rfl)
theorem dX1_putLikes_64 : decode cX1_putLikes 64 = .ok (.if_icmp .ne 94, 3) := dk_160 0 94 (dk_at dksX1_putLikes_2 16 rfl rfl)
theorem dX1_putLikes_67 : decode cX1_putLikes 67 = .ok (.aload_n 0, 1) := dk_42 (dk_at dksX1_putLikes_2 19 rfl rfl)
theorem dX1_putLikes_68 : decode cX1_putLikes 68 = .ok (.bipush 10, 2) := dk_16 10 (dk_at dksX1_putLikes_2 20 rfl rfl)
theorem dX1_putLikes_70 : decode cX1_putLikes 70 = .ok (.newarray .int, 2) := dk_188_10 (dk_at dksX1_putLikes_2 22 rfl rfl)
theorem dX1_putLikes_72 : decode cX1_putLikes 72 = .ok (.dup, 1) := dk_89 (dk_at dksX1_putLikes_3 0 rfl rfl)
theorem dX1_putLikes_73 : decode cX1_putLikes 73 = .ok (.iconst 0, 1) := dk_3 (dk_at dksX1_putLikes_3 1 rfl rfl)
theorem dX1_putLikes_74 : decode cX1_putLikes 74 = .ok (.bipush 7, 2) := dk_16 7 (dk_at dksX1_putLikes_3 2 rfl rfl)
theorem dX1_putLikes_76 : decode cX1_putLikes 76 = .ok (.iastore, 1) := dk_79 (dk_at dksX1_putLikes_3 4 rfl rfl)
theorem dX1_putLikes_77 : decode cX1_putLikes 77 = .ok (.dup, 1) := dk_89 (dk_at dksX1_putLikes_3 5 rfl rfl)
theorem dX1_putLikes_78 : decode cX1_putLikes 78 = .ok (.iconst 1, 1) := dk_4 (dk_at dksX1_putLikes_3 6 rfl rfl)
theorem dX1_putLikes_79 : decode cX1_putLikes 79 = .ok (.bipush 8, 2) := dk_16 8 (dk_at dksX1_putLikes_3 7 rfl rfl)
theorem dX1_putLikes_81 : decode cX1_putLikes 81 = .ok (.iastore, 1) := dk_79 (dk_at dksX1_putLikes_3 9 rfl rfl)
theorem dX1_putLikes_82 : decode cX1_putLikes 82 = .ok (.dup, 1) := dk_89 (dk_at dksX1_putLikes_3 10 rfl rfl)
theorem dX1_putLikes_83 : decode cX1_putLikes 83 = .ok (.iconst 2, 1) := dk_5 (dk_at dksX1_putLikes_3 11 rfl rfl)
theorem dX1_putLikes_84 : decode cX1_putLikes 84 = .ok (.iconst 0, 1) := dk_3 (dk_at dksX1_putLikes_3 12 rfl rfl)
theorem dX1_putLikes_85 : decode cX1_putLikes 85 = .ok (.iastore, 1) := dk_79 (dk_at dksX1_putLikes_3 13 rfl rfl)
theorem dX1_putLikes_86 : decode cX1_putLikes 86 = .ok (.dup, 1) := dk_89 (dk_at dksX1_putLikes_3 14 rfl rfl)
theorem dX1_putLikes_87 : decode cX1_putLikes 87 = .ok (.iconst 3, 1) := dk_6 (dk_at dksX1_putLikes_3 15 rfl rfl)
theorem dX1_putLikes_88 : decode cX1_putLikes 88 = .ok (.iconst 1, 1) := dk_4 (dk_at dksX1_putLikes_3 16 rfl rfl)
theorem dX1_putLikes_89 : decode cX1_putLikes 89 = .ok (.iastore, 1) := dk_79 (dk_at dksX1_putLikes_3 17 rfl rfl)
theorem dX1_putLikes_90 : decode cX1_putLikes 90 = .ok (.dup, 1) := dk_89 (dk_at dksX1_putLikes_3 18 rfl rfl)
theorem dX1_putLikes_91 : decode cX1_putLikes 91 = .ok (.iconst 4, 1) := dk_7 (dk_at dksX1_putLikes_3 19 rfl rfl)
theorem dX1_putLikes_92 : decode cX1_putLikes 92 = .ok (.iconst 2, 1) := dk_5 (dk_at dksX1_putLikes_3 20 rfl rfl)
theorem dX1_putLikes_93 : decode cX1_putLikes 93 = .ok (.iastore, 1) := dk_79 (dk_at dksX1_putLikes_3 21 rfl rfl)
theorem dX1_putLikes_94 : decode cX1_putLikes 94 = .ok (.dup, 1) := dk_89 (dk_at dksX1_putLikes_3 22 rfl rfl)
theorem dX1_putLikes_95 : decode cX1_putLikes 95 = .ok (.iconst 5, 1) := dk_8 (dk_at dksX1_putLikes_3 23 rfl rfl)
theorem dX1_putLikes_96 : decode cX1_putLikes 96 = .ok (.iconst 3, 1) := dk_6 (dk_at dksX1_putLikes_4 0 rfl rfl)
theorem dX1_putLikes_97 : decode cX1_putLikes 97 = .ok (.iastore, 1) := dk_79 (dk_at dksX1_putLikes_4 1 rfl rfl)
theorem dX1_putLikes_98 : decode cX1_putLikes 98 = .ok (.dup, 1) := dk_89 (dk_at dksX1_putLikes_4 2 rfl rfl)
theorem dX1_putLikes_99 : decode cX1_putLikes 99 = .ok (.bipush 6, 2) := dk_16 6 (dk_at dksX1_putLikes_4 3 rfl rfl)
theorem dX1_putLikes_101 : decode cX1_putLikes 101 = .ok (.iconst 4, 1) := dk_7 (dk_at dksX1_putLikes_4 5 rfl rfl)
theorem dX1_putLikes_102 : decode cX1_putLikes 102 = .ok (.iastore, 1) := dk_79 (dk_at dksX1_putLikes_4 6 rfl rfl)
theorem dX1_putLikes_103 : decode cX1_putLikes 103 = .ok (.dup, 1) := dk_89 (dk_at dksX1_putLikes_4 7 rfl rfl)
theorem dX1_putLikes_104 : decode cX1_putLikes 104 = .ok (.bipush 7, 2) := dk_16 7 (dk_at dksX1_putLikes_4 8 rfl rfl)
theorem dX1_putLikes_106 : decode cX1_putLikes 106 = .ok (.iconst 5, 1) := dk_8 (dk_at dksX1_putLikes_4 10 rfl rfl)
theorem dX1_putLikes_107 : decode cX1_putLikes 107 = .ok (.iastore, 1) := dk_79 (dk_at dksX1_putLikes_4 11 rfl rfl)
theorem dX1_putLikes_108 : decode cX1_putLikes 108 = .ok (.dup, 1) := dk_89 (dk_at dksX1_putLikes_4 12 rfl rfl)
theorem dX1_putLikes_109 : decode cX1_putLikes 109 = .ok (.bipush 8, 2) := dk_16 8 (dk_at dksX1_putLikes_4 13 rfl rfl)
theorem dX1_putLikes_111 : decode cX1_putLikes 111 = .ok (.bipush 6, 2) := dk_16 6 (dk_at dksX1_putLikes_4 15 rfl rfl)
theorem dX1_putLikes_113 : decode cX1_putLikes 113 = .ok (.iastore, 1) := dk_79 (dk_at dksX1_putLikes_4 17 rfl rfl)
theorem dX1_putLikes_114 : decode cX1_putLikes 114 = .ok (.dup, 1) := dk_89 (dk_at dksX1_putLikes_4 18 rfl rfl)
theorem dX1_putLikes_115 : decode cX1_putLikes 115 = .ok (.bipush 9, 2) := dk_16 9 (dk_at dksX1_putLikes_4 19 rfl rfl)
theorem dX1_putLikes_117 : decode cX1_putLikes 117 = .ok (.bipush 7, 2) := dk_16 7 (dk_at dksX1_putLikes_4 21 rfl rfl)
theorem dX1_putLikes_119 : decode cX1_putLikes 119 = .ok (.iastore, 1) := dk_79 (dk_at dksX1_putLikes_4 23 rfl rfl)
theorem dX1_putLikes_120 : decode cX1_putLikes 120 = .ok (.invokevirtual 134, 3) := dk_182 0 134 (dk_at dksX1_putLikes_5 0 rfl rfl)
theorem dX1_putLikes_123 : decode cX1_putLikes 123 = .ok (.iconst 0, 1) := dk_3 (dk_at dksX1_putLikes_5 3 rfl rfl)
theorem dX1_putLikes_124 : decode cX1_putLikes 124 = .ok (.istore_n 3, 1) := dk_62 (dk_at dksX1_putLikes_5 4 rfl rfl)
theorem dX1_putLikes_125 : decode cX1_putLikes 125 = .ok (.iload_n 3, 1) := dk_29 (dk_at dksX1_putLikes_5 5 rfl rfl)
theorem dX1_putLikes_126 : decode cX1_putLikes 126 = .ok (.bipush 8, 2) := dk_16 8 (dk_at dksX1_putLikes_5 6 rfl rfl)
theorem dX1_putLikes_128 : decode cX1_putLikes 128 = .ok (.if_icmp .ge 22, 3) := dk_162 0 22 (dk_at dksX1_putLikes_5 8 rfl rfl)
theorem dX1_putLikes_131 : decode cX1_putLikes 131 = .ok (.aload_n 0, 1) := dk_42 (dk_at dksX1_putLikes_5 11 rfl rfl)
theorem dX1_putLikes_132 : decode cX1_putLikes 132 = .ok (.getfield 50, 3) := dk_180 0 50 (dk_at dksX1_putLikes_5 12 rfl rfl)
theorem dX1_putLikes_135 : decode cX1_putLikes 135 = .ok (.aload_n 0, 1) := dk_42 (dk_at dksX1_putLikes_5 15 rfl rfl)
theorem dX1_putLikes_136 : decode cX1_putLikes 136 = .ok (.bipush 8, 2) := dk_16 8 (dk_at dksX1_putLikes_5 16 rfl rfl)
theorem dX1_putLikes_138 : decode cX1_putLikes 138 = .ok (.invokevirtual 126, 3) := dk_182 0 126 (dk_at dksX1_putLikes_5 18 rfl rfl)
theorem dX1_putLikes_141 : decode cX1_putLikes 141 = .ok (.invokevirtual 123, 3) := dk_182 0 123 (dk_at dksX1_putLikes_5 21 rfl rfl)
theorem dX1_putLikes_144 : decode cX1_putLikes 144 = .ok (.iinc 3 1, 3) := dk_132 3 1 (dk_at dksX1_putLikes_6 0 rfl rfl)
theorem dX1_putLikes_147 : decode cX1_putLikes 147 = .ok (.goto (-22), 3) := dk_167 255 234 (dk_at dksX1_putLikes_6 3 rfl rfl)
theorem dX1_putLikes_150 : decode cX1_putLikes 150 = .ok (.aload_n 0, 1) := dk_42 (dk_at dksX1_putLikes_6 6 rfl rfl)
theorem dX1_putLikes_151 : decode cX1_putLikes 151 = .ok (.getfield 50, 3) := dk_180 0 50 (dk_at dksX1_putLikes_6 7 rfl rfl)
theorem dX1_putLikes_154 : decode cX1_putLikes 154 = .ok (.iconst 0, 1) := dk_3 (dk_at dksX1_putLikes_6 10 rfl rfl)
theorem dX1_putLikes_155 : decode cX1_putLikes 155 = .ok (.invokevirtual 123, 3) := dk_182 0 123 (dk_at dksX1_putLikes_6 11 rfl rfl)
theorem dX1_putLikes_158 : decode cX1_putLikes 158 = .ok (.iconst 0, 1) := dk_3 (dk_at dksX1_putLikes_6 14 rfl rfl)
theorem dX1_putLikes_159 : decode cX1_putLikes 159 = .ok (.istore_n 3, 1) := dk_62 (dk_at dksX1_putLikes_6 15 rfl rfl)
theorem dX1_putLikes_160 : decode cX1_putLikes 160 = .ok (.iload_n 3, 1) := dk_29 (dk_at dksX1_putLikes_6 16 rfl rfl)
theorem dX1_putLikes_161 : decode cX1_putLikes 161 = .ok (.iload_n 2, 1) := dk_28 (dk_at dksX1_putLikes_6 17 rfl rfl)
theorem dX1_putLikes_162 : decode cX1_putLikes 162 = .ok (.if_icmp .ge 107, 3) := dk_162 0 107 (dk_at dksX1_putLikes_6 18 rfl rfl)
theorem dX1_putLikes_165 : decode cX1_putLikes 165 = .ok (.iload_n 1, 1) := dk_27 (dk_at dksX1_putLikes_6 21 rfl rfl)
theorem dX1_putLikes_166 : decode cX1_putLikes 166 = .ok (.iconst 1, 1) := dk_4 (dk_at dksX1_putLikes_6 22 rfl rfl)
theorem dX1_putLikes_167 : decode cX1_putLikes 167 = .ok (.if_icmp .ne 33, 3) := dk_160 0 33 (dk_at dksX1_putLikes_7 0 rfl rfl)
theorem dX1_putLikes_170 : decode cX1_putLikes 170 = .ok (.aload_n 0, 1) := dk_42 (dk_at dksX1_putLikes_7 3 rfl rfl)
theorem dX1_putLikes_171 : decode cX1_putLikes 171 = .ok (.iconst 3, 1) := dk_6 (dk_at dksX1_putLikes_7 4 rfl rfl)
theorem dX1_putLikes_172 : decode cX1_putLikes 172 = .ok (.newarray .int, 2) := dk_188_10 (dk_at dksX1_putLikes_7 5 rfl rfl)
theorem dX1_putLikes_174 : decode cX1_putLikes 174 = .ok (.dup, 1) := dk_89 (dk_at dksX1_putLikes_7 7 rfl rfl)
theorem dX1_putLikes_175 : decode cX1_putLikes 175 = .ok (.iconst 0, 1) := dk_3 (dk_at dksX1_putLikes_7 8 rfl rfl)
theorem dX1_putLikes_176 : decode cX1_putLikes 176 = .ok (.iconst 2, 1) := dk_5 (dk_at dksX1_putLikes_7 9 rfl rfl)
theorem dX1_putLikes_177 : decode cX1_putLikes 177 = .ok (.iastore, 1) := dk_79 (dk_at dksX1_putLikes_7 10 rfl rfl)
theorem dX1_putLikes_178 : decode cX1_putLikes 178 = .ok (.dup, 1) := dk_89 (dk_at dksX1_putLikes_7 11 rfl rfl)
theorem dX1_putLikes_179 : decode cX1_putLikes 179 = .ok (.iconst 1, 1) := dk_4 (dk_at dksX1_putLikes_7 12 rfl rfl)
theorem dX1_putLikes_180 : decode cX1_putLikes 180 = .ok (.sipush 255, 3) := dk_17 0 255 (dk_at dksX1_putLikes_7 13 rfl rfl)
theorem dX1_putLikes_183 : decode cX1_putLikes 183 = .ok (.iastore, 1) := dk_79 (dk_at dksX1_putLikes_7 16 rfl rfl)
theorem dX1_putLikes_184 : decode cX1_putLikes 184 = .ok (.dup, 1) := dk_89 (dk_at dksX1_putLikes_7 17 rfl rfl)
theorem dX1_putLikes_185 : decode cX1_putLikes 185 = .ok (.iconst 2, 1) := dk_5 (dk_at dksX1_putLikes_7 18 rfl rfl)
theorem dX1_putLikes_186 : decode cX1_putLikes 186 = .ok (.aload_n 0, 1) := dk_42 (dk_at dksX1_putLikes_7 19 rfl rfl)
theorem dX1_putLikes_187 : decode cX1_putLikes 187 = .ok (.sipush 256, 3) := dk_17 1 0 (dk_at dksX1_putLikes_7 20 rfl rfl)
theorem dX1_putLikes_190 : decode cX1_putLikes 190 = .ok (.invokevirtual 126, 3) := dk_182 0 126 (dk_at dksX1_putLikes_8 0 rfl rfl)
theorem dX1_putLikes_193 : decode cX1_putLikes 193 = .ok (.iastore, 1) := dk_79 (dk_at dksX1_putLikes_8 3 rfl rfl)
theorem dX1_putLikes_194 : decode cX1_putLikes 194 = .ok (.invokevirtual 134, 3) := dk_182 0 134 (dk_at dksX1_putLikes_8 4 rfl rfl)
theorem dX1_putLikes_197 : decode cX1_putLikes 197 = .ok (.goto 66, 3) := dk_167 0 66 (dk_at dksX1_putLikes_8 7 rfl rfl)
theorem dX1_putLikes_200 : decode cX1_putLikes 200 = .ok (.iload_n 1, 1) := dk_27 (dk_at dksX1_putLikes_8 10 rfl rfl)
theorem dX1_putLikes_201 : decode cX1_putLikes 201 = .ok (.iconst 2, 1) := dk_5 (dk_at dksX1_putLikes_8 11 rfl rfl)
theorem dX1_putLikes_202 : decode cX1_putLikes 202 = .ok (.if_icmp .ne 27, 3) := dk_160 0 27 (dk_at dksX1_putLikes_8 12 rfl rfl)
theorem dX1_putLikes_205 : decode cX1_putLikes 205 = .ok (.aload_n 0, 1) := dk_42 (dk_at dksX1_putLikes_8 15 rfl rfl)
theorem dX1_putLikes_206 : decode cX1_putLikes 206 = .ok (.iconst 3, 1) := dk_6 (dk_at dksX1_putLikes_8 16 rfl rfl)
theorem dX1_putLikes_207 : decode cX1_putLikes 207 = .ok (.newarray .int, 2) := dk_188_10 (dk_at dksX1_putLikes_8 17 rfl rfl)
theorem dX1_putLikes_209 : decode cX1_putLikes 209 = .ok (.dup, 1) := dk_89 (dk_at dksX1_putLikes_8 19 rfl rfl)
theorem dX1_putLikes_210 : decode cX1_putLikes 210 = .ok (.iconst 0, 1) := dk_3 (dk_at dksX1_putLikes_8 20 rfl rfl)
theorem dX1_putLikes_211 : decode cX1_putLikes 211 = .ok (.iconst 3, 1) := dk_6 (dk_at dksX1_putLikes_8 21 rfl rfl)
theorem dX1_putLikes_212 : decode cX1_putLikes 212 = .ok (.iastore, 1) := dk_79 (dk_at dksX1_putLikes_8 22 rfl rfl)
theorem dX1_putLikes_213 : decode cX1_putLikes 213 = .ok (.dup, 1) := dk_89 (dk_at dksX1_putLikes_8 23 rfl rfl)
theorem dX1_putLikes_214 : decode cX1_putLikes 214 = .ok (.iconst 1, 1) := dk_4 (dk_at dksX1_putLikes_9 0 rfl rfl)
theorem dX1_putLikes_215 : decode cX1_putLikes 215 = .ok (.iconst 1, 1) := dk_4 (dk_at dksX1_putLikes_9 1 rfl rfl)
theorem dX1_putLikes_216 : decode cX1_putLikes 216 = .ok (.iastore, 1) := dk_79 (dk_at dksX1_putLikes_9 2 rfl rfl)
theorem dX1_putLikes_217 : decode cX1_putLikes 217 = .ok (.dup, 1) := dk_89 (dk_at dksX1_putLikes_9 3 rfl rfl)
theorem dX1_putLikes_218 : decode cX1_putLikes 218 = .ok (.iconst 2, 1) := dk_5 (dk_at dksX1_putLikes_9 4 rfl rfl)
theorem dX1_putLikes_219 : decode cX1_putLikes 219 = .ok (.sipush 255, 3) := dk_17 0 255 (dk_at dksX1_putLikes_9 5 rfl rfl)
theorem dX1_putLikes_222 : decode cX1_putLikes 222 = .ok (.iastore, 1) := dk_79 (dk_at dksX1_putLikes_9 8 rfl rfl)
theorem dX1_putLikes_223 : decode cX1_putLikes 223 = .ok (.invokevirtual 134, 3) := dk_182 0 134 (dk_at dksX1_putLikes_9 9 rfl rfl)
theorem dX1_putLikes_226 : decode cX1_putLikes 226 = .ok (.goto 37, 3) := dk_167 0 37 (dk_at dksX1_putLikes_9 12 rfl rfl)
theorem dX1_putLikes_229 : decode cX1_putLikes 229 = .ok (.aload_n 0, 1) := dk_42 (dk_at dksX1_putLikes_9 15 rfl rfl)
theorem dX1_putLikes_230 : decode cX1_putLikes 230 = .ok (.iconst 2, 1) := dk_5 (dk_at dksX1_putLikes_9 16 rfl rfl)
theorem dX1_putLikes_231 : decode cX1_putLikes 231 = .ok (.newarray .int, 2) := dk_188_10 (dk_at dksX1_putLikes_9 17 rfl rfl)
theorem dX1_putLikes_233 : decode cX1_putLikes 233 = .ok (.dup, 1) := dk_89 (dk_at dksX1_putLikes_9 19 rfl rfl)
theorem dX1_putLikes_234 : decode cX1_putLikes 234 = .ok (.iconst 0, 1) := dk_3 (dk_at dksX1_putLikes_9 20 rfl rfl)
theorem dX1_putLikes_235 : decode cX1_putLikes 235 = .ok (.iload_n 1, 1) := dk_27 (dk_at dksX1_putLikes_9 21 rfl rfl)
theorem dX1_putLikes_236 : decode cX1_putLikes 236 = .ok (.iconst 5, 1) := dk_8 (dk_at dksX1_putLikes_9 22 rfl rfl)
theorem dX1_putLikes_237 : decode cX1_putLikes 237 = .ok (.if_icmp .ne 8, 3) := dk_160 0 8 (dk_at dksX1_putLikes_10 0 rfl rfl)
theorem dX1_putLikes_240 : decode cX1_putLikes 240 = .ok (.bipush 6, 2) := dk_16 6 (dk_at dksX1_putLikes_10 3 rfl rfl)
theorem dX1_putLikes_242 : decode cX1_putLikes 242 = .ok (.goto 4, 3) := dk_167 0 4 (dk_at dksX1_putLikes_10 5 rfl rfl)
theorem dX1_putLikes_245 : decode cX1_putLikes 245 = .ok (.iconst 5, 1) := dk_8 (dk_at dksX1_putLikes_10 8 rfl rfl)
theorem dX1_putLikes_246 : decode cX1_putLikes 246 = .ok (.iastore, 1) := dk_79 (dk_at dksX1_putLikes_10 9 rfl rfl)
theorem dX1_putLikes_247 : decode cX1_putLikes 247 = .ok (.dup, 1) := dk_89 (dk_at dksX1_putLikes_10 10 rfl rfl)
theorem dX1_putLikes_248 : decode cX1_putLikes 248 = .ok (.iconst 1, 1) := dk_4 (dk_at dksX1_putLikes_10 11 rfl rfl)
theorem dX1_putLikes_249 : decode cX1_putLikes 249 = .ok (.iload_n 1, 1) := dk_27 (dk_at dksX1_putLikes_10 12 rfl rfl)
theorem dX1_putLikes_250 : decode cX1_putLikes 250 = .ok (.iconst 5, 1) := dk_8 (dk_at dksX1_putLikes_10 13 rfl rfl)
theorem dX1_putLikes_251 : decode cX1_putLikes 251 = .ok (.if_icmp .ne 7, 3) := dk_160 0 7 (dk_at dksX1_putLikes_10 14 rfl rfl)
theorem dX1_putLikes_254 : decode cX1_putLikes 254 = .ok (.iload_n 3, 1) := dk_29 (dk_at dksX1_putLikes_10 17 rfl rfl)
theorem dX1_putLikes_255 : decode cX1_putLikes 255 = .ok (.goto 4, 3) := dk_167 0 4 (dk_at dksX1_putLikes_10 18 rfl rfl)
theorem dX1_putLikes_258 : decode cX1_putLikes 258 = .ok (.iconst 0, 1) := dk_3 (dk_at dksX1_putLikes_10 21 rfl rfl)
theorem dX1_putLikes_259 : decode cX1_putLikes 259 = .ok (.iastore, 1) := dk_79 (dk_at dksX1_putLikes_10 22 rfl rfl)
theorem dX1_putLikes_260 : decode cX1_putLikes 260 = .ok (.invokevirtual 134, 3) := dk_182 0 134 (dk_at dksX1_putLikes_11 0 rfl rfl)
theorem dX1_putLikes_263 : decode cX1_putLikes 263 = .ok (.iinc 3 1, 3) := dk_132 3 1 (dk_at dksX1_putLikes_11 3 rfl rfl)
theorem dX1_putLikes_266 : decode cX1_putLikes 266 = .ok (.goto (-106), 3) := dk_167 255 150 (dk_at dksX1_putLikes_11 6 rfl rfl)
theorem dX1_putLikes_269 : decode cX1_putLikes 269 = .ok (.aload_n 0, 1) := dk_42 (dk_at dksX1_putLikes_11 9 rfl rfl)
theorem dX1_putLikes_270 : decode cX1_putLikes 270 = .ok (.iconst 0, 1) := dk_3 (dk_at dksX1_putLikes_11 10 rfl rfl)
theorem dX1_putLikes_271 : decode cX1_putLikes 271 = .ok (.invokevirtual 141, 3) := dk_182 0 141 (dk_at dksX1_putLikes_11 11 rfl rfl)
theorem dX1_putLikes_274 : decode cX1_putLikes 274 = .ok (.return_, 1) := dk_177 (dk_at dksX1_putLikes_11 14 rfl rfl)
abbrev cX1_open : ByteArray := prog_1_method_20_code
def yX1_open : MethodName := ⟨RX1, "open", "(III)I"⟩
def dkwX1_open_1 : List UInt8 := [158, 0, 13, 16, 246, 42, 180, 0, 37, 100, 167, 0, 10, 42, 180, 0, 13, 180, 0, 17, 172]
abbrev dktX1_open_1 : List UInt8 := dkwX1_open_1 ++ []
def dkwX1_open_0 : List UInt8 := [27, 28, 29, 184, 0, 167, 154, 0, 6, 16, 254, 172, 42, 27, 28, 29, 182, 0, 170, 42, 180, 0, 37]
abbrev dktX1_open_0 : List UInt8 := dkwX1_open_0 ++ dktX1_open_1
theorem dksX1_open_0 : cX1_open.data.toList.drop 0 = dktX1_open_0 := by decide +kernel
theorem dksX1_open_1 : cX1_open.data.toList.drop 23 = dktX1_open_1 := dk_seg dksX1_open_0 23 rfl rfl
theorem dX1_open_0 : decode cX1_open 0 = .ok (.iload_n 1, 1) := dk_27 (dk_at dksX1_open_0 0 rfl rfl)
theorem dX1_open_1 : decode cX1_open 1 = .ok (.iload_n 2, 1) := dk_28 (dk_at dksX1_open_0 1 rfl rfl)
theorem dX1_open_2 : decode cX1_open 2 = .ok (.iload_n 3, 1) := dk_29 (dk_at dksX1_open_0 2 rfl rfl)
theorem dX1_open_3 : decode cX1_open 3 = .ok (.invokestatic 167, 3) := dk_184 0 167 (dk_at dksX1_open_0 3 rfl rfl)
theorem dX1_open_6 : decode cX1_open 6 = .ok (.ifCond .ne 6, 3) := dk_154 0 6 (dk_at dksX1_open_0 6 rfl rfl)
theorem dX1_open_9 : decode cX1_open 9 = .ok (.bipush (-2), 2) := dk_16 254 (dk_at dksX1_open_0 9 rfl rfl)
theorem dX1_open_11 : decode cX1_open 11 = .ok (.ireturn, 1) := dk_172 (dk_at dksX1_open_0 11 rfl rfl)
theorem dX1_open_12 : decode cX1_open 12 = .ok (.aload_n 0, 1) := dk_42 (dk_at dksX1_open_0 12 rfl rfl)
theorem dX1_open_13 : decode cX1_open 13 = .ok (.iload_n 1, 1) := dk_27 (dk_at dksX1_open_0 13 rfl rfl)
theorem dX1_open_14 : decode cX1_open 14 = .ok (.iload_n 2, 1) := dk_28 (dk_at dksX1_open_0 14 rfl rfl)
theorem dX1_open_15 : decode cX1_open 15 = .ok (.iload_n 3, 1) := dk_29 (dk_at dksX1_open_0 15 rfl rfl)
theorem dX1_open_16 : decode cX1_open 16 = .ok (.invokevirtual 170, 3) := dk_182 0 170 (dk_at dksX1_open_0 16 rfl rfl)
theorem dX1_open_19 : decode cX1_open 19 = .ok (.aload_n 0, 1) := dk_42 (dk_at dksX1_open_0 19 rfl rfl)
theorem dX1_open_20 : decode cX1_open 20 = .ok (.getfield 37, 3) := dk_180 0 37 (dk_at dksX1_open_0 20 rfl rfl)
theorem dX1_open_23 : decode cX1_open 23 = .ok (.ifCond .le 13, 3) := dk_158 0 13 (dk_at dksX1_open_1 0 rfl rfl)
theorem dX1_open_26 : decode cX1_open 26 = .ok (.bipush (-10), 2) := dk_16 246 (dk_at dksX1_open_1 3 rfl rfl)
theorem dX1_open_28 : decode cX1_open 28 = .ok (.aload_n 0, 1) := dk_42 (dk_at dksX1_open_1 5 rfl rfl)
theorem dX1_open_29 : decode cX1_open 29 = .ok (.getfield 37, 3) := dk_180 0 37 (dk_at dksX1_open_1 6 rfl rfl)
theorem dX1_open_32 : decode cX1_open 32 = .ok (.isub, 1) := dk_100 (dk_at dksX1_open_1 9 rfl rfl)
theorem dX1_open_33 : decode cX1_open 33 = .ok (.goto 10, 3) := dk_167 0 10 (dk_at dksX1_open_1 10 rfl rfl)
theorem dX1_open_36 : decode cX1_open 36 = .ok (.aload_n 0, 1) := dk_42 (dk_at dksX1_open_1 13 rfl rfl)
theorem dX1_open_37 : decode cX1_open 37 = .ok (.getfield 13, 3) := dk_180 0 13 (dk_at dksX1_open_1 14 rfl rfl)
theorem dX1_open_40 : decode cX1_open 40 = .ok (.getfield 17, 3) := dk_180 0 17 (dk_at dksX1_open_1 17 rfl rfl)
theorem dX1_open_43 : decode cX1_open 43 = .ok (.ireturn, 1) := dk_172 (dk_at dksX1_open_1 20 rfl rfl)
abbrev cX1_areBounds : ByteArray := prog_1_method_19_code
def yX1_areBounds : MethodName := ⟨RX1, "areBounds", "(III)Z"⟩
def dkwX1_areBounds_1 : List UInt8 := [16, 8, 184, 0, 151, 153, 0, 7, 4, 167, 0, 4, 3, 172]
abbrev dktX1_areBounds_1 : List UInt8 := dkwX1_areBounds_1 ++ []
def dkwX1_areBounds_0 : List UInt8 := [26, 3, 17, 15, 160, 184, 0, 151, 153, 0, 28, 27, 3, 17, 78, 32, 184, 0, 151, 153, 0, 17, 28, 3]
abbrev dktX1_areBounds_0 : List UInt8 := dkwX1_areBounds_0 ++ dktX1_areBounds_1
theorem dksX1_areBounds_0 : cX1_areBounds.data.toList.drop 0 = dktX1_areBounds_0 := by decide +kernel
theorem dksX1_areBounds_1 : cX1_areBounds.data.toList.drop 24 = dktX1_areBounds_1 := dk_seg dksX1_areBounds_0 24 rfl rfl
theorem dX1_areBounds_0 : decode cX1_areBounds 0 = .ok (.iload_n 0, 1) := dk_26 (dk_at dksX1_areBounds_0 0 rfl rfl)
theorem dX1_areBounds_1 : decode cX1_areBounds 1 = .ok (.iconst 0, 1) := dk_3 (dk_at dksX1_areBounds_0 1 rfl rfl)
theorem dX1_areBounds_2 : decode cX1_areBounds 2 = .ok (.sipush 4000, 3) := dk_17 15 160 (dk_at dksX1_areBounds_0 2 rfl rfl)
theorem dX1_areBounds_5 : decode cX1_areBounds 5 = .ok (.invokestatic 151, 3) := dk_184 0 151 (dk_at dksX1_areBounds_0 5 rfl rfl)
theorem dX1_areBounds_8 : decode cX1_areBounds 8 = .ok (.ifCond .eq 28, 3) := dk_153 0 28 (dk_at dksX1_areBounds_0 8 rfl rfl)
theorem dX1_areBounds_11 : decode cX1_areBounds 11 = .ok (.iload_n 1, 1) := dk_27 (dk_at dksX1_areBounds_0 11 rfl rfl)
theorem dX1_areBounds_12 : decode cX1_areBounds 12 = .ok (.iconst 0, 1) := dk_3 (dk_at dksX1_areBounds_0 12 rfl rfl)
theorem dX1_areBounds_13 : decode cX1_areBounds 13 = .ok (.sipush 20000, 3) := dk_17 78 32 (dk_at dksX1_areBounds_0 13 rfl rfl)
theorem dX1_areBounds_16 : decode cX1_areBounds 16 = .ok (.invokestatic 151, 3) := dk_184 0 151 (dk_at dksX1_areBounds_0 16 rfl rfl)
theorem dX1_areBounds_19 : decode cX1_areBounds 19 = .ok (.ifCond .eq 17, 3) := dk_153 0 17 (dk_at dksX1_areBounds_0 19 rfl rfl)
theorem dX1_areBounds_22 : decode cX1_areBounds 22 = .ok (.iload_n 2, 1) := dk_28 (dk_at dksX1_areBounds_0 22 rfl rfl)
theorem dX1_areBounds_23 : decode cX1_areBounds 23 = .ok (.iconst 0, 1) := dk_3 (dk_at dksX1_areBounds_0 23 rfl rfl)
theorem dX1_areBounds_24 : decode cX1_areBounds 24 = .ok (.bipush 8, 2) := dk_16 8 (dk_at dksX1_areBounds_1 0 rfl rfl)
theorem dX1_areBounds_26 : decode cX1_areBounds 26 = .ok (.invokestatic 151, 3) := dk_184 0 151 (dk_at dksX1_areBounds_1 2 rfl rfl)
theorem dX1_areBounds_29 : decode cX1_areBounds 29 = .ok (.ifCond .eq 7, 3) := dk_153 0 7 (dk_at dksX1_areBounds_1 5 rfl rfl)
theorem dX1_areBounds_32 : decode cX1_areBounds 32 = .ok (.iconst 1, 1) := dk_4 (dk_at dksX1_areBounds_1 8 rfl rfl)
theorem dX1_areBounds_33 : decode cX1_areBounds 33 = .ok (.goto 4, 3) := dk_167 0 4 (dk_at dksX1_areBounds_1 9 rfl rfl)
theorem dX1_areBounds_36 : decode cX1_areBounds 36 = .ok (.iconst 0, 1) := dk_3 (dk_at dksX1_areBounds_1 12 rfl rfl)
theorem dX1_areBounds_37 : decode cX1_areBounds 37 = .ok (.ireturn, 1) := dk_172 (dk_at dksX1_areBounds_1 13 rfl rfl)
abbrev cX1_read : ByteArray := prog_1_method_2_code
def yX1_read : MethodName := ⟨RX1, "read", "(III)V"⟩
def dkwX1_read_4 : List UInt8 := [181, 0, 37, 42, 25, 4, 180, 0, 64, 181, 0, 40, 177]
abbrev dktX1_read_4 : List UInt8 := dkwX1_read_4 ++ []
def dkwX1_read_3 : List UInt8 := [3, 50, 3, 42, 180, 0, 50, 180, 0, 17, 182, 0, 53, 167, 0, 23, 58, 4, 42, 25, 4, 180, 0, 61]
abbrev dktX1_read_3 : List UInt8 := dkwX1_read_3 ++ dktX1_read_4
def dkwX1_read_2 : List UInt8 := [42, 3, 181, 0, 37, 42, 2, 181, 0, 40, 42, 89, 180, 0, 43, 4, 96, 181, 0, 43, 42, 180, 0, 46]
abbrev dktX1_read_2 : List UInt8 := dkwX1_read_2 ++ dktX1_read_3
def dkwX1_read_1 : List UInt8 := [3, 181, 0, 22, 42, 3, 181, 0, 25, 42, 3, 181, 0, 28, 42, 3, 181, 0, 31, 42, 3, 181, 0, 34]
abbrev dktX1_read_1 : List UInt8 := dkwX1_read_1 ++ dktX1_read_2
def dkwX1_read_0 : List UInt8 := [42, 27, 181, 0, 1, 42, 28, 181, 0, 7, 42, 29, 181, 0, 10, 42, 180, 0, 13, 3, 181, 0, 17, 42]
abbrev dktX1_read_0 : List UInt8 := dkwX1_read_0 ++ dktX1_read_1
theorem dksX1_read_0 : cX1_read.data.toList.drop 0 = dktX1_read_0 := by decide +kernel
theorem dksX1_read_1 : cX1_read.data.toList.drop 24 = dktX1_read_1 := dk_seg dksX1_read_0 24 rfl rfl
theorem dksX1_read_2 : cX1_read.data.toList.drop 48 = dktX1_read_2 := dk_seg dksX1_read_1 24 rfl rfl
theorem dksX1_read_3 : cX1_read.data.toList.drop 72 = dktX1_read_3 := dk_seg dksX1_read_2 24 rfl rfl
theorem dksX1_read_4 : cX1_read.data.toList.drop 96 = dktX1_read_4 := dk_seg dksX1_read_3 24 rfl rfl
theorem dX1_read_0 : decode cX1_read 0 = .ok (.aload_n 0, 1) := dk_42 (dk_at dksX1_read_0 0 rfl rfl)
theorem dX1_read_1 : decode cX1_read 1 = .ok (.iload_n 1, 1) := dk_27 (dk_at dksX1_read_0 1 rfl rfl)
theorem dX1_read_2 : decode cX1_read 2 = .ok (.putfield 1, 3) := dk_181 0 1 (dk_at dksX1_read_0 2 rfl rfl)
theorem dX1_read_5 : decode cX1_read 5 = .ok (.aload_n 0, 1) := dk_42 (dk_at dksX1_read_0 5 rfl rfl)
theorem dX1_read_6 : decode cX1_read 6 = .ok (.iload_n 2, 1) := dk_28 (dk_at dksX1_read_0 6 rfl rfl)
theorem dX1_read_7 : decode cX1_read 7 = .ok (.putfield 7, 3) := dk_181 0 7 (dk_at dksX1_read_0 7 rfl rfl)
theorem dX1_read_10 : decode cX1_read 10 = .ok (.aload_n 0, 1) := dk_42 (dk_at dksX1_read_0 10 rfl rfl)
theorem dX1_read_11 : decode cX1_read 11 = .ok (.iload_n 3, 1) := dk_29 (dk_at dksX1_read_0 11 rfl rfl)
theorem dX1_read_12 : decode cX1_read 12 = .ok (.putfield 10, 3) := dk_181 0 10 (dk_at dksX1_read_0 12 rfl rfl)
theorem dX1_read_15 : decode cX1_read 15 = .ok (.aload_n 0, 1) := dk_42 (dk_at dksX1_read_0 15 rfl rfl)
theorem dX1_read_16 : decode cX1_read 16 = .ok (.getfield 13, 3) := dk_180 0 13 (dk_at dksX1_read_0 16 rfl rfl)
theorem dX1_read_19 : decode cX1_read 19 = .ok (.iconst 0, 1) := dk_3 (dk_at dksX1_read_0 19 rfl rfl)
theorem dX1_read_20 : decode cX1_read 20 = .ok (.putfield 17, 3) := dk_181 0 17 (dk_at dksX1_read_0 20 rfl rfl)
theorem dX1_read_23 : decode cX1_read 23 = .ok (.aload_n 0, 1) := dk_42 (dk_at dksX1_read_0 23 rfl rfl)
theorem dX1_read_24 : decode cX1_read 24 = .ok (.iconst 0, 1) := dk_3 (dk_at dksX1_read_1 0 rfl rfl)
theorem dX1_read_25 : decode cX1_read 25 = .ok (.putfield 22, 3) := dk_181 0 22 (dk_at dksX1_read_1 1 rfl rfl)
theorem dX1_read_28 : decode cX1_read 28 = .ok (.aload_n 0, 1) := dk_42 (dk_at dksX1_read_1 4 rfl rfl)
theorem dX1_read_29 : decode cX1_read 29 = .ok (.iconst 0, 1) := dk_3 (dk_at dksX1_read_1 5 rfl rfl)
theorem dX1_read_30 : decode cX1_read 30 = .ok (.putfield 25, 3) := dk_181 0 25 (dk_at dksX1_read_1 6 rfl rfl)
theorem dX1_read_33 : decode cX1_read 33 = .ok (.aload_n 0, 1) := dk_42 (dk_at dksX1_read_1 9 rfl rfl)
theorem dX1_read_34 : decode cX1_read 34 = .ok (.iconst 0, 1) := dk_3 (dk_at dksX1_read_1 10 rfl rfl)
theorem dX1_read_35 : decode cX1_read 35 = .ok (.putfield 28, 3) := dk_181 0 28 (dk_at dksX1_read_1 11 rfl rfl)
theorem dX1_read_38 : decode cX1_read 38 = .ok (.aload_n 0, 1) := dk_42 (dk_at dksX1_read_1 14 rfl rfl)
theorem dX1_read_39 : decode cX1_read 39 = .ok (.iconst 0, 1) := dk_3 (dk_at dksX1_read_1 15 rfl rfl)
theorem dX1_read_40 : decode cX1_read 40 = .ok (.putfield 31, 3) := dk_181 0 31 (dk_at dksX1_read_1 16 rfl rfl)
theorem dX1_read_43 : decode cX1_read 43 = .ok (.aload_n 0, 1) := dk_42 (dk_at dksX1_read_1 19 rfl rfl)
theorem dX1_read_44 : decode cX1_read 44 = .ok (.iconst 0, 1) := dk_3 (dk_at dksX1_read_1 20 rfl rfl)
theorem dX1_read_45 : decode cX1_read 45 = .ok (.putfield 34, 3) := dk_181 0 34 (dk_at dksX1_read_1 21 rfl rfl)
theorem dX1_read_48 : decode cX1_read 48 = .ok (.aload_n 0, 1) := dk_42 (dk_at dksX1_read_2 0 rfl rfl)
theorem dX1_read_49 : decode cX1_read 49 = .ok (.iconst 0, 1) := dk_3 (dk_at dksX1_read_2 1 rfl rfl)
theorem dX1_read_50 : decode cX1_read 50 = .ok (.putfield 37, 3) := dk_181 0 37 (dk_at dksX1_read_2 2 rfl rfl)
theorem dX1_read_53 : decode cX1_read 53 = .ok (.aload_n 0, 1) := dk_42 (dk_at dksX1_read_2 5 rfl rfl)
theorem dX1_read_54 : decode cX1_read 54 = .ok (.iconst (-1), 1) := dk_2 (dk_at dksX1_read_2 6 rfl rfl)
theorem dX1_read_55 : decode cX1_read 55 = .ok (.putfield 40, 3) := dk_181 0 40 (dk_at dksX1_read_2 7 rfl rfl)
theorem dX1_read_58 : decode cX1_read 58 = .ok (.aload_n 0, 1) := dk_42 (dk_at dksX1_read_2 10 rfl rfl)
theorem dX1_read_59 : decode cX1_read 59 = .ok (.dup, 1) := dk_89 (dk_at dksX1_read_2 11 rfl rfl)
theorem dX1_read_60 : decode cX1_read 60 = .ok (.getfield 43, 3) := dk_180 0 43 (dk_at dksX1_read_2 12 rfl rfl)
theorem dX1_read_63 : decode cX1_read 63 = .ok (.iconst 1, 1) := dk_4 (dk_at dksX1_read_2 15 rfl rfl)
theorem dX1_read_64 : decode cX1_read 64 = .ok (.iadd, 1) := dk_96 (dk_at dksX1_read_2 16 rfl rfl)
theorem dX1_read_65 : decode cX1_read 65 = .ok (.putfield 43, 3) := dk_181 0 43 (dk_at dksX1_read_2 17 rfl rfl)
theorem dX1_read_68 : decode cX1_read 68 = .ok (.aload_n 0, 1) := dk_42 (dk_at dksX1_read_2 20 rfl rfl)
theorem dX1_read_69 : decode cX1_read 69 = .ok (.getfield 46, 3) := dk_180 0 46 (dk_at dksX1_read_2 21 rfl rfl)
theorem dX1_read_72 : decode cX1_read 72 = .ok (.iconst 0, 1) := dk_3 (dk_at dksX1_read_3 0 rfl rfl)
theorem dX1_read_73 : decode cX1_read 73 = .ok (.aaload, 1) := dk_50 (dk_at dksX1_read_3 1 rfl rfl)
theorem dX1_read_74 : decode cX1_read 74 = .ok (.iconst 0, 1) := dk_3 (dk_at dksX1_read_3 2 rfl rfl)
theorem dX1_read_75 : decode cX1_read 75 = .ok (.aload_n 0, 1) := dk_42 (dk_at dksX1_read_3 3 rfl rfl)
theorem dX1_read_76 : decode cX1_read 76 = .ok (.getfield 50, 3) := dk_180 0 50 (dk_at dksX1_read_3 4 rfl rfl)
theorem dX1_read_79 : decode cX1_read 79 = .ok (.getfield 17, 3) := dk_180 0 17 (dk_at dksX1_read_3 7 rfl rfl)
theorem dX1_read_82 : decode cX1_read 82 = .ok (.invokevirtual 53, 3) := dk_182 0 53 (dk_at dksX1_read_3 10 rfl rfl)
theorem dX1_read_85 : decode cX1_read 85 = .ok (.goto 23, 3) := dk_167 0 23 (dk_at dksX1_read_3 13 rfl rfl)
theorem dX1_read_88 : decode cX1_read 88 = .ok (.astore 4, 2) := dk_58 4 (dk_at dksX1_read_3 16 rfl rfl)
theorem dX1_read_90 : decode cX1_read 90 = .ok (.aload_n 0, 1) := dk_42 (dk_at dksX1_read_3 18 rfl rfl)
theorem dX1_read_91 : decode cX1_read 91 = .ok (.aload 4, 2) := dk_25 4 (dk_at dksX1_read_3 19 rfl rfl)
theorem dX1_read_93 : decode cX1_read 93 = .ok (.getfield 61, 3) := dk_180 0 61 (dk_at dksX1_read_3 21 rfl rfl)
theorem dX1_read_96 : decode cX1_read 96 = .ok (.putfield 37, 3) := dk_181 0 37 (dk_at dksX1_read_4 0 rfl rfl)
theorem dX1_read_99 : decode cX1_read 99 = .ok (.aload_n 0, 1) := dk_42 (dk_at dksX1_read_4 3 rfl rfl)
theorem dX1_read_100 : decode cX1_read 100 = .ok (.aload 4, 2) := dk_25 4 (dk_at dksX1_read_4 4 rfl rfl)
theorem dX1_read_102 : decode cX1_read 102 = .ok (.getfield 64, 3) := dk_180 0 64 (dk_at dksX1_read_4 6 rfl rfl)
theorem dX1_read_105 : decode cX1_read 105 = .ok (.putfield 40, 3) := dk_181 0 40 (dk_at dksX1_read_4 9 rfl rfl)
theorem dX1_read_108 : decode cX1_read 108 = .ok (.return_, 1) := dk_177 (dk_at dksX1_read_4 12 rfl rfl)
abbrev cX1_place : ByteArray := prog_1_method_21_code
def yX1_place : MethodName := ⟨RX1, "place", "()I"⟩
theorem dX1_place_0 : decode cX1_place 0 = .ok (.aload_n 0, 1) := by decide +kernel
theorem dX1_place_1 : decode cX1_place 1 = .ok (.getfield 40, 3) := by decide +kernel
theorem dX1_place_4 : decode cX1_place 4 = .ok (.ireturn, 1) := by decide +kernel
abbrev cX1_out : ByteArray := prog_1_method_22_code
def yX1_out : MethodName := ⟨RX1, "out", "(I)I"⟩
def dkwX1_out_1 : List UInt8 := [182, 0, 155, 167, 0, 4, 2, 172]
abbrev dktX1_out_1 : List UInt8 := dkwX1_out_1 ++ []
def dkwX1_out_0 : List UInt8 := [27, 3, 42, 180, 0, 13, 180, 0, 17, 4, 100, 184, 0, 151, 153, 0, 14, 42, 180, 0, 13, 27]
abbrev dktX1_out_0 : List UInt8 := dkwX1_out_0 ++ dktX1_out_1
theorem dksX1_out_0 : cX1_out.data.toList.drop 0 = dktX1_out_0 := by decide +kernel
theorem dksX1_out_1 : cX1_out.data.toList.drop 22 = dktX1_out_1 := dk_seg dksX1_out_0 22 rfl rfl
theorem dX1_out_0 : decode cX1_out 0 = .ok (.iload_n 1, 1) := dk_27 (dk_at dksX1_out_0 0 rfl rfl)
theorem dX1_out_1 : decode cX1_out 1 = .ok (.iconst 0, 1) := dk_3 (dk_at dksX1_out_0 1 rfl rfl)
theorem dX1_out_2 : decode cX1_out 2 = .ok (.aload_n 0, 1) := dk_42 (dk_at dksX1_out_0 2 rfl rfl)
theorem dX1_out_3 : decode cX1_out 3 = .ok (.getfield 13, 3) := dk_180 0 13 (dk_at dksX1_out_0 3 rfl rfl)
theorem dX1_out_6 : decode cX1_out 6 = .ok (.getfield 17, 3) := dk_180 0 17 (dk_at dksX1_out_0 6 rfl rfl)
theorem dX1_out_9 : decode cX1_out 9 = .ok (.iconst 1, 1) := dk_4 (dk_at dksX1_out_0 9 rfl rfl)
theorem dX1_out_10 : decode cX1_out 10 = .ok (.isub, 1) := dk_100 (dk_at dksX1_out_0 10 rfl rfl)
theorem dX1_out_11 : decode cX1_out 11 = .ok (.invokestatic 151, 3) := dk_184 0 151 (dk_at dksX1_out_0 11 rfl rfl)
theorem dX1_out_14 : decode cX1_out 14 = .ok (.ifCond .eq 14, 3) := dk_153 0 14 (dk_at dksX1_out_0 14 rfl rfl)
theorem dX1_out_17 : decode cX1_out 17 = .ok (.aload_n 0, 1) := dk_42 (dk_at dksX1_out_0 17 rfl rfl)
theorem dX1_out_18 : decode cX1_out 18 = .ok (.getfield 13, 3) := dk_180 0 13 (dk_at dksX1_out_0 18 rfl rfl)
theorem dX1_out_21 : decode cX1_out 21 = .ok (.iload_n 1, 1) := dk_27 (dk_at dksX1_out_0 21 rfl rfl)
theorem dX1_out_22 : decode cX1_out 22 = .ok (.invokevirtual 155, 3) := dk_182 0 155 (dk_at dksX1_out_1 0 rfl rfl)
theorem dX1_out_25 : decode cX1_out 25 = .ok (.goto 4, 3) := dk_167 0 4 (dk_at dksX1_out_1 3 rfl rfl)
theorem dX1_out_28 : decode cX1_out 28 = .ok (.iconst (-1), 1) := dk_2 (dk_at dksX1_out_1 6 rfl rfl)
theorem dX1_out_29 : decode cX1_out 29 = .ok (.ireturn, 1) := dk_172 (dk_at dksX1_out_1 7 rfl rfl)
abbrev cX1_item : ByteArray := prog_1_method_23_code
def yX1_item : MethodName := ⟨RX1, "item", "(II)I"⟩
def dkwX1_item_2 : List UInt8 := [167, 0, 6, 28, 4, 96, 96, 46, 172]
abbrev dktX1_item_2 : List UInt8 := dkwX1_item_2 ++ []
def dkwX1_item_1 : List UInt8 := [28, 3, 6, 184, 0, 151, 154, 0, 5, 2, 172, 42, 180, 0, 109, 8, 27, 104, 28, 5, 162, 0, 7, 28]
abbrev dktX1_item_1 : List UInt8 := dkwX1_item_1 ++ dktX1_item_2
def dkwX1_item_0 : List UInt8 := [27, 2, 160, 0, 8, 42, 180, 0, 22, 172, 27, 3, 42, 180, 0, 22, 4, 100, 184, 0, 151, 153, 0, 12]
abbrev dktX1_item_0 : List UInt8 := dkwX1_item_0 ++ dktX1_item_1
theorem dksX1_item_0 : cX1_item.data.toList.drop 0 = dktX1_item_0 := by decide +kernel
theorem dksX1_item_1 : cX1_item.data.toList.drop 24 = dktX1_item_1 := dk_seg dksX1_item_0 24 rfl rfl
theorem dksX1_item_2 : cX1_item.data.toList.drop 48 = dktX1_item_2 := dk_seg dksX1_item_1 24 rfl rfl
theorem dX1_item_0 : decode cX1_item 0 = .ok (.iload_n 1, 1) := dk_27 (dk_at dksX1_item_0 0 rfl rfl)
theorem dX1_item_1 : decode cX1_item 1 = .ok (.iconst (-1), 1) := dk_2 (dk_at dksX1_item_0 1 rfl rfl)
theorem dX1_item_2 : decode cX1_item 2 = .ok (.if_icmp .ne 8, 3) := dk_160 0 8 (dk_at dksX1_item_0 2 rfl rfl)
theorem dX1_item_5 : decode cX1_item 5 = .ok (.aload_n 0, 1) := dk_42 (dk_at dksX1_item_0 5 rfl rfl)
theorem dX1_item_6 : decode cX1_item 6 = .ok (.getfield 22, 3) := dk_180 0 22 (dk_at dksX1_item_0 6 rfl rfl)
theorem dX1_item_9 : decode cX1_item 9 = .ok (.ireturn, 1) := dk_172 (dk_at dksX1_item_0 9 rfl rfl)
theorem dX1_item_10 : decode cX1_item 10 = .ok (.iload_n 1, 1) := dk_27 (dk_at dksX1_item_0 10 rfl rfl)
theorem dX1_item_11 : decode cX1_item 11 = .ok (.iconst 0, 1) := dk_3 (dk_at dksX1_item_0 11 rfl rfl)
theorem dX1_item_12 : decode cX1_item 12 = .ok (.aload_n 0, 1) := dk_42 (dk_at dksX1_item_0 12 rfl rfl)
theorem dX1_item_13 : decode cX1_item 13 = .ok (.getfield 22, 3) := dk_180 0 22 (dk_at dksX1_item_0 13 rfl rfl)
theorem dX1_item_16 : decode cX1_item 16 = .ok (.iconst 1, 1) := dk_4 (dk_at dksX1_item_0 16 rfl rfl)
theorem dX1_item_17 : decode cX1_item 17 = .ok (.isub, 1) := dk_100 (dk_at dksX1_item_0 17 rfl rfl)
theorem dX1_item_18 : decode cX1_item 18 = .ok (.invokestatic 151, 3) := dk_184 0 151 (dk_at dksX1_item_0 18 rfl rfl)
theorem dX1_item_21 : decode cX1_item 21 = .ok (.ifCond .eq 12, 3) := dk_153 0 12 (dk_at dksX1_item_0 21 rfl rfl)
theorem dX1_item_24 : decode cX1_item 24 = .ok (.iload_n 2, 1) := dk_28 (dk_at dksX1_item_1 0 rfl rfl)
theorem dX1_item_25 : decode cX1_item 25 = .ok (.iconst 0, 1) := dk_3 (dk_at dksX1_item_1 1 rfl rfl)
theorem dX1_item_26 : decode cX1_item 26 = .ok (.iconst 3, 1) := dk_6 (dk_at dksX1_item_1 2 rfl rfl)
theorem dX1_item_27 : decode cX1_item 27 = .ok (.invokestatic 151, 3) := dk_184 0 151 (dk_at dksX1_item_1 3 rfl rfl)
theorem dX1_item_30 : decode cX1_item 30 = .ok (.ifCond .ne 5, 3) := dk_154 0 5 (dk_at dksX1_item_1 6 rfl rfl)
theorem dX1_item_33 : decode cX1_item 33 = .ok (.iconst (-1), 1) := dk_2 (dk_at dksX1_item_1 9 rfl rfl)
theorem dX1_item_34 : decode cX1_item 34 = .ok (.ireturn, 1) := dk_172 (dk_at dksX1_item_1 10 rfl rfl)
theorem dX1_item_35 : decode cX1_item 35 = .ok (.aload_n 0, 1) := dk_42 (dk_at dksX1_item_1 11 rfl rfl)
theorem dX1_item_36 : decode cX1_item 36 = .ok (.getfield 109, 3) := dk_180 0 109 (dk_at dksX1_item_1 12 rfl rfl)
theorem dX1_item_39 : decode cX1_item 39 = .ok (.iconst 5, 1) := dk_8 (dk_at dksX1_item_1 15 rfl rfl)
theorem dX1_item_40 : decode cX1_item 40 = .ok (.iload_n 1, 1) := dk_27 (dk_at dksX1_item_1 16 rfl rfl)
theorem dX1_item_41 : decode cX1_item 41 = .ok (.imul, 1) := dk_104 (dk_at dksX1_item_1 17 rfl rfl)
theorem dX1_item_42 : decode cX1_item 42 = .ok (.iload_n 2, 1) := dk_28 (dk_at dksX1_item_1 18 rfl rfl)
theorem dX1_item_43 : decode cX1_item 43 = .ok (.iconst 2, 1) := dk_5 (dk_at dksX1_item_1 19 rfl rfl)
theorem dX1_item_44 : decode cX1_item 44 = .ok (.if_icmp .ge 7, 3) := dk_162 0 7 (dk_at dksX1_item_1 20 rfl rfl)
theorem dX1_item_47 : decode cX1_item 47 = .ok (.iload_n 2, 1) := dk_28 (dk_at dksX1_item_1 23 rfl rfl)
theorem dX1_item_48 : decode cX1_item 48 = .ok (.goto 6, 3) := dk_167 0 6 (dk_at dksX1_item_2 0 rfl rfl)
theorem dX1_item_51 : decode cX1_item 51 = .ok (.iload_n 2, 1) := dk_28 (dk_at dksX1_item_2 3 rfl rfl)
theorem dX1_item_52 : decode cX1_item 52 = .ok (.iconst 1, 1) := dk_4 (dk_at dksX1_item_2 4 rfl rfl)
theorem dX1_item_53 : decode cX1_item 53 = .ok (.iadd, 1) := dk_96 (dk_at dksX1_item_2 5 rfl rfl)
theorem dX1_item_54 : decode cX1_item 54 = .ok (.iadd, 1) := dk_96 (dk_at dksX1_item_2 6 rfl rfl)
theorem dX1_item_55 : decode cX1_item 55 = .ok (.iaload, 1) := dk_46 (dk_at dksX1_item_2 7 rfl rfl)
theorem dX1_item_56 : decode cX1_item 56 = .ok (.ireturn, 1) := dk_172 (dk_at dksX1_item_2 8 rfl rfl)
abbrev cX1_shrink : ByteArray := prog_1_method_24_code
def yX1_shrink : MethodName := ⟨RX1, "shrink", "(III)I"⟩
def dkwX1_shrink_10 : List UInt8 := [42, 27, 28, 29, 182, 0, 170, 42, 180, 0, 50, 180, 0, 17, 172]
abbrev dktX1_shrink_10 : List UInt8 := dkwX1_shrink_10 ++ []
def dkwX1_shrink_9 : List UInt8 := [180, 0, 50, 42, 180, 0, 78, 42, 180, 0, 78, 180, 0, 17, 3, 182, 0, 173, 132, 8, 1, 167, 255, 145]
abbrev dktX1_shrink_9 : List UInt8 := dkwX1_shrink_9 ++ dktX1_shrink_10
def dkwX1_shrink_8 : List UInt8 := [21, 4, 160, 0, 20, 21, 7, 25, 6, 5, 21, 8, 104, 4, 96, 46, 96, 54, 7, 167, 0, 22, 42]
abbrev dktX1_shrink_8 : List UInt8 := dkwX1_shrink_8 ++ dktX1_shrink_9
def dkwX1_shrink_7 : List UInt8 := [100, 25, 6, 5, 21, 8, 104, 4, 96, 46, 182, 0, 173, 42, 27, 28, 29, 182, 0, 170, 42, 180, 0, 37]
abbrev dktX1_shrink_7 : List UInt8 := dkwX1_shrink_7 ++ dktX1_shrink_8
def dkwX1_shrink_6 : List UInt8 := [180, 0, 17, 3, 182, 0, 173, 42, 180, 0, 50, 42, 180, 0, 78, 25, 6, 5, 21, 8, 104, 46, 21, 7]
abbrev dktX1_shrink_6 : List UInt8 := dkwX1_shrink_6 ++ dktX1_shrink_7
def dkwX1_shrink_5 : List UInt8 := [3, 54, 8, 21, 8, 21, 5, 162, 0, 110, 42, 180, 0, 78, 42, 180, 0, 50, 42, 180, 0, 50]
abbrev dktX1_shrink_5 : List UInt8 := dkwX1_shrink_5 ++ dktX1_shrink_6
def dkwX1_shrink_4 : List UInt8 := [96, 46, 42, 180, 0, 109, 8, 21, 7, 104, 4, 96, 46, 100, 79, 132, 7, 1, 167, 255, 196, 3, 54, 7]
abbrev dktX1_shrink_4 : List UInt8 := dkwX1_shrink_4 ++ dktX1_shrink_5
def dkwX1_shrink_3 : List UInt8 := [21, 7, 104, 4, 96, 46, 79, 25, 6, 5, 21, 7, 104, 4, 96, 42, 180, 0, 109, 8, 21, 7, 104, 5]
abbrev dktX1_shrink_3 : List UInt8 := dkwX1_shrink_3 ++ dktX1_shrink_4
def dkwX1_shrink_2 : List UInt8 := [58, 6, 3, 54, 7, 21, 7, 21, 5, 162, 0, 59, 25, 6, 5, 21, 7, 104, 42, 180, 0, 109, 8]
abbrev dktX1_shrink_2 : List UInt8 := dkwX1_shrink_2 ++ dktX1_shrink_3
def dkwX1_shrink_1 : List UInt8 := [154, 0, 6, 16, 253, 172, 42, 180, 0, 37, 54, 4, 42, 180, 0, 22, 54, 5, 5, 21, 5, 104, 188, 10]
abbrev dktX1_shrink_1 : List UInt8 := dkwX1_shrink_1 ++ dktX1_shrink_2
def dkwX1_shrink_0 : List UInt8 := [27, 28, 29, 184, 0, 167, 154, 0, 6, 16, 254, 172, 42, 27, 28, 29, 182, 0, 170, 42, 180, 0, 37]
abbrev dktX1_shrink_0 : List UInt8 := dkwX1_shrink_0 ++ dktX1_shrink_1
theorem dksX1_shrink_0 : cX1_shrink.data.toList.drop 0 = dktX1_shrink_0 := by decide +kernel
theorem dksX1_shrink_1 : cX1_shrink.data.toList.drop 23 = dktX1_shrink_1 := dk_seg dksX1_shrink_0 23 rfl rfl
theorem dksX1_shrink_2 : cX1_shrink.data.toList.drop 47 = dktX1_shrink_2 := dk_seg dksX1_shrink_1 24 rfl rfl
theorem dksX1_shrink_3 : cX1_shrink.data.toList.drop 70 = dktX1_shrink_3 := dk_seg dksX1_shrink_2 23 rfl rfl
theorem dksX1_shrink_4 : cX1_shrink.data.toList.drop 94 = dktX1_shrink_4 := dk_seg dksX1_shrink_3 24 rfl rfl
theorem dksX1_shrink_5 : cX1_shrink.data.toList.drop 118 = dktX1_shrink_5 := dk_seg dksX1_shrink_4 24 rfl rfl
theorem dksX1_shrink_6 : cX1_shrink.data.toList.drop 140 = dktX1_shrink_6 := dk_seg dksX1_shrink_5 22 rfl rfl
theorem dksX1_shrink_7 : cX1_shrink.data.toList.drop 164 = dktX1_shrink_7 := dk_seg dksX1_shrink_6 24 rfl rfl
theorem dksX1_shrink_8 : cX1_shrink.data.toList.drop 188 = dktX1_shrink_8 := dk_seg dksX1_shrink_7 24 rfl rfl
theorem dksX1_shrink_9 : cX1_shrink.data.toList.drop 211 = dktX1_shrink_9 := dk_seg dksX1_shrink_8 23 rfl rfl
theorem dksX1_shrink_10 : cX1_shrink.data.toList.drop 235 = dktX1_shrink_10 := dk_seg dksX1_shrink_9 24 rfl rfl
theorem dX1_shrink_0 : decode cX1_shrink 0 = .ok (.iload_n 1, 1) := dk_27 (dk_at dksX1_shrink_0 0 rfl rfl)
theorem dX1_shrink_1 : decode cX1_shrink 1 = .ok (.iload_n 2, 1) := dk_28 (dk_at dksX1_shrink_0 1 rfl rfl)
theorem dX1_shrink_2 : decode cX1_shrink 2 = .ok (.iload_n 3, 1) := dk_29 (dk_at dksX1_shrink_0 2 rfl rfl)
theorem dX1_shrink_3 : decode cX1_shrink 3 = .ok (.invokestatic 167, 3) := dk_184 0 167 (dk_at dksX1_shrink_0 3 rfl rfl)
theorem dX1_shrink_6 : decode cX1_shrink 6 = .ok (.ifCond .ne 6, 3) := dk_154 0 6 (dk_at dksX1_shrink_0 6 rfl rfl)
theorem dX1_shrink_9 : decode cX1_shrink 9 = .ok (.bipush (-2), 2) := dk_16 254 (dk_at dksX1_shrink_0 9 rfl rfl)
theorem dX1_shrink_11 : decode cX1_shrink 11 = .ok (.ireturn, 1) := dk_172 (dk_at dksX1_shrink_0 11 rfl rfl)
theorem dX1_shrink_12 : decode cX1_shrink 12 = .ok (.aload_n 0, 1) := dk_42 (dk_at dksX1_shrink_0 12 rfl rfl)
theorem dX1_shrink_13 : decode cX1_shrink 13 = .ok (.iload_n 1, 1) := dk_27 (dk_at dksX1_shrink_0 13 rfl rfl)
theorem dX1_shrink_14 : decode cX1_shrink 14 = .ok (.iload_n 2, 1) := dk_28 (dk_at dksX1_shrink_0 14 rfl rfl)
theorem dX1_shrink_15 : decode cX1_shrink 15 = .ok (.iload_n 3, 1) := dk_29 (dk_at dksX1_shrink_0 15 rfl rfl)
theorem dX1_shrink_16 : decode cX1_shrink 16 = .ok (.invokevirtual 170, 3) := dk_182 0 170 (dk_at dksX1_shrink_0 16 rfl rfl)
theorem dX1_shrink_19 : decode cX1_shrink 19 = .ok (.aload_n 0, 1) := dk_42 (dk_at dksX1_shrink_0 19 rfl rfl)
theorem dX1_shrink_20 : decode cX1_shrink 20 = .ok (.getfield 37, 3) := dk_180 0 37 (dk_at dksX1_shrink_0 20 rfl rfl)
theorem dX1_shrink_23 : decode cX1_shrink 23 = .ok (.ifCond .ne 6, 3) := dk_154 0 6 (dk_at dksX1_shrink_1 0 rfl rfl)
theorem dX1_shrink_26 : decode cX1_shrink 26 = .ok (.bipush (-3), 2) := dk_16 253 (dk_at dksX1_shrink_1 3 rfl rfl)
theorem dX1_shrink_28 : decode cX1_shrink 28 = .ok (.ireturn, 1) := dk_172 (dk_at dksX1_shrink_1 5 rfl rfl)
theorem dX1_shrink_29 : decode cX1_shrink 29 = .ok (.aload_n 0, 1) := dk_42 (dk_at dksX1_shrink_1 6 rfl rfl)
theorem dX1_shrink_30 : decode cX1_shrink 30 = .ok (.getfield 37, 3) := dk_180 0 37 (dk_at dksX1_shrink_1 7 rfl rfl)
theorem dX1_shrink_33 : decode cX1_shrink 33 = .ok (.istore 4, 2) := dk_54 4 (dk_at dksX1_shrink_1 10 rfl rfl)
theorem dX1_shrink_35 : decode cX1_shrink 35 = .ok (.aload_n 0, 1) := dk_42 (dk_at dksX1_shrink_1 12 rfl rfl)
theorem dX1_shrink_36 : decode cX1_shrink 36 = .ok (.getfield 22, 3) := dk_180 0 22 (dk_at dksX1_shrink_1 13 rfl rfl)
theorem dX1_shrink_39 : decode cX1_shrink 39 = .ok (.istore 5, 2) := dk_54 5 (dk_at dksX1_shrink_1 16 rfl rfl)
theorem dX1_shrink_41 : decode cX1_shrink 41 = .ok (.iconst 2, 1) := dk_5 (dk_at dksX1_shrink_1 18 rfl rfl)
theorem dX1_shrink_42 : decode cX1_shrink 42 = .ok (.iload 5, 2) := dk_21 5 (dk_at dksX1_shrink_1 19 rfl rfl)
theorem dX1_shrink_44 : decode cX1_shrink 44 = .ok (.imul, 1) := dk_104 (dk_at dksX1_shrink_1 21 rfl rfl)
theorem dX1_shrink_45 : decode cX1_shrink 45 = .ok (.newarray .int, 2) := dk_188_10 (dk_at dksX1_shrink_1 22 rfl rfl)
theorem dX1_shrink_47 : decode cX1_shrink 47 = .ok (.astore 6, 2) := dk_58 6 (dk_at dksX1_shrink_2 0 rfl rfl)
theorem dX1_shrink_49 : decode cX1_shrink 49 = .ok (.iconst 0, 1) := dk_3 (dk_at dksX1_shrink_2 2 rfl rfl)
theorem dX1_shrink_50 : decode cX1_shrink 50 = .ok (.istore 7, 2) := dk_54 7 (dk_at dksX1_shrink_2 3 rfl rfl)
theorem dX1_shrink_52 : decode cX1_shrink 52 = .ok (.iload 7, 2) := dk_21 7 (dk_at dksX1_shrink_2 5 rfl rfl)
theorem dX1_shrink_54 : decode cX1_shrink 54 = .ok (.iload 5, 2) := dk_21 5 (dk_at dksX1_shrink_2 7 rfl rfl)
theorem dX1_shrink_56 : decode cX1_shrink 56 = .ok (.if_icmp .ge 59, 3) := dk_162 0 59 (dk_at dksX1_shrink_2 9 rfl rfl)
theorem dX1_shrink_59 : decode cX1_shrink 59 = .ok (.aload 6, 2) := dk_25 6 (dk_at dksX1_shrink_2 12 rfl rfl)
theorem dX1_shrink_61 : decode cX1_shrink 61 = .ok (.iconst 2, 1) := dk_5 (dk_at dksX1_shrink_2 14 rfl rfl)
theorem dX1_shrink_62 : decode cX1_shrink 62 = .ok (.iload 7, 2) := dk_21 7 (dk_at dksX1_shrink_2 15 rfl rfl)
theorem dX1_shrink_64 : decode cX1_shrink 64 = .ok (.imul, 1) := dk_104 (dk_at dksX1_shrink_2 17 rfl rfl)
theorem dX1_shrink_65 : decode cX1_shrink 65 = .ok (.aload_n 0, 1) := dk_42 (dk_at dksX1_shrink_2 18 rfl rfl)
theorem dX1_shrink_66 : decode cX1_shrink 66 = .ok (.getfield 109, 3) := dk_180 0 109 (dk_at dksX1_shrink_2 19 rfl rfl)
theorem dX1_shrink_69 : decode cX1_shrink 69 = .ok (.iconst 5, 1) := dk_8 (dk_at dksX1_shrink_2 22 rfl rfl)
theorem dX1_shrink_70 : decode cX1_shrink 70 = .ok (.iload 7, 2) := dk_21 7 (dk_at dksX1_shrink_3 0 rfl rfl)
theorem dX1_shrink_72 : decode cX1_shrink 72 = .ok (.imul, 1) := dk_104 (dk_at dksX1_shrink_3 2 rfl rfl)
theorem dX1_shrink_73 : decode cX1_shrink 73 = .ok (.iconst 1, 1) := dk_4 (dk_at dksX1_shrink_3 3 rfl rfl)
theorem dX1_shrink_74 : decode cX1_shrink 74 = .ok (.iadd, 1) := dk_96 (dk_at dksX1_shrink_3 4 rfl rfl)
theorem dX1_shrink_75 : decode cX1_shrink 75 = .ok (.iaload, 1) := dk_46 (dk_at dksX1_shrink_3 5 rfl rfl)
theorem dX1_shrink_76 : decode cX1_shrink 76 = .ok (.iastore, 1) := dk_79 (dk_at dksX1_shrink_3 6 rfl rfl)
theorem dX1_shrink_77 : decode cX1_shrink 77 = .ok (.aload 6, 2) := dk_25 6 (dk_at dksX1_shrink_3 7 rfl rfl)
theorem dX1_shrink_79 : decode cX1_shrink 79 = .ok (.iconst 2, 1) := dk_5 (dk_at dksX1_shrink_3 9 rfl rfl)
theorem dX1_shrink_80 : decode cX1_shrink 80 = .ok (.iload 7, 2) := dk_21 7 (dk_at dksX1_shrink_3 10 rfl rfl)
theorem dX1_shrink_82 : decode cX1_shrink 82 = .ok (.imul, 1) := dk_104 (dk_at dksX1_shrink_3 12 rfl rfl)
theorem dX1_shrink_83 : decode cX1_shrink 83 = .ok (.iconst 1, 1) := dk_4 (dk_at dksX1_shrink_3 13 rfl rfl)
theorem dX1_shrink_84 : decode cX1_shrink 84 = .ok (.iadd, 1) := dk_96 (dk_at dksX1_shrink_3 14 rfl rfl)
theorem dX1_shrink_85 : decode cX1_shrink 85 = .ok (.aload_n 0, 1) := dk_42 (dk_at dksX1_shrink_3 15 rfl rfl)
theorem dX1_shrink_86 : decode cX1_shrink 86 = .ok (.getfield 109, 3) := dk_180 0 109 (dk_at dksX1_shrink_3 16 rfl rfl)
theorem dX1_shrink_89 : decode cX1_shrink 89 = .ok (.iconst 5, 1) := dk_8 (dk_at dksX1_shrink_3 19 rfl rfl)
theorem dX1_shrink_90 : decode cX1_shrink 90 = .ok (.iload 7, 2) := dk_21 7 (dk_at dksX1_shrink_3 20 rfl rfl)
theorem dX1_shrink_92 : decode cX1_shrink 92 = .ok (.imul, 1) := dk_104 (dk_at dksX1_shrink_3 22 rfl rfl)
theorem dX1_shrink_93 : decode cX1_shrink 93 = .ok (.iconst 2, 1) := dk_5 (dk_at dksX1_shrink_3 23 rfl rfl)
theorem dX1_shrink_94 : decode cX1_shrink 94 = .ok (.iadd, 1) := dk_96 (dk_at dksX1_shrink_4 0 rfl rfl)
theorem dX1_shrink_95 : decode cX1_shrink 95 = .ok (.iaload, 1) := dk_46 (dk_at dksX1_shrink_4 1 rfl rfl)
theorem dX1_shrink_96 : decode cX1_shrink 96 = .ok (.aload_n 0, 1) := dk_42 (dk_at dksX1_shrink_4 2 rfl rfl)
theorem dX1_shrink_97 : decode cX1_shrink 97 = .ok (.getfield 109, 3) := dk_180 0 109 (dk_at dksX1_shrink_4 3 rfl rfl)
theorem dX1_shrink_100 : decode cX1_shrink 100 = .ok (.iconst 5, 1) := dk_8 (dk_at dksX1_shrink_4 6 rfl rfl)
theorem dX1_shrink_101 : decode cX1_shrink 101 = .ok (.iload 7, 2) := dk_21 7 (dk_at dksX1_shrink_4 7 rfl rfl)
theorem dX1_shrink_103 : decode cX1_shrink 103 = .ok (.imul, 1) := dk_104 (dk_at dksX1_shrink_4 9 rfl rfl)
theorem dX1_shrink_104 : decode cX1_shrink 104 = .ok (.iconst 1, 1) := dk_4 (dk_at dksX1_shrink_4 10 rfl rfl)
theorem dX1_shrink_105 : decode cX1_shrink 105 = .ok (.iadd, 1) := dk_96 (dk_at dksX1_shrink_4 11 rfl rfl)
theorem dX1_shrink_106 : decode cX1_shrink 106 = .ok (.iaload, 1) := dk_46 (dk_at dksX1_shrink_4 12 rfl rfl)
theorem dX1_shrink_107 : decode cX1_shrink 107 = .ok (.isub, 1) := dk_100 (dk_at dksX1_shrink_4 13 rfl rfl)
theorem dX1_shrink_108 : decode cX1_shrink 108 = .ok (.iastore, 1) := dk_79 (dk_at dksX1_shrink_4 14 rfl rfl)
theorem dX1_shrink_109 : decode cX1_shrink 109 = .ok (.iinc 7 1, 3) := dk_132 7 1 (dk_at dksX1_shrink_4 15 rfl rfl)
theorem dX1_shrink_112 : decode cX1_shrink 112 = .ok (.goto (-60), 3) := dk_167 255 196 (dk_at dksX1_shrink_4 18 rfl rfl)
theorem dX1_shrink_115 : decode cX1_shrink 115 = .ok (.iconst 0, 1) := dk_3 (dk_at dksX1_shrink_4 21 rfl rfl)
theorem dX1_shrink_116 : decode cX1_shrink 116 = .ok (.istore 7, 2) := dk_54 7 (dk_at dksX1_shrink_4 22 rfl rfl)
theorem dX1_shrink_118 : decode cX1_shrink 118 = .ok (.iconst 0, 1) := dk_3 (dk_at dksX1_shrink_5 0 rfl rfl)
theorem dX1_shrink_119 : decode cX1_shrink 119 = .ok (.istore 8, 2) := dk_54 8 (dk_at dksX1_shrink_5 1 rfl rfl)
theorem dX1_shrink_121 : decode cX1_shrink 121 = .ok (.iload 8, 2) := dk_21 8 (dk_at dksX1_shrink_5 3 rfl rfl)
theorem dX1_shrink_123 : decode cX1_shrink 123 = .ok (.iload 5, 2) := dk_21 5 (dk_at dksX1_shrink_5 5 rfl rfl)
theorem dX1_shrink_125 : decode cX1_shrink 125 = .ok (.if_icmp .ge 110, 3) := dk_162 0 110 (dk_at dksX1_shrink_5 7 rfl rfl)
theorem dX1_shrink_128 : decode cX1_shrink 128 = .ok (.aload_n 0, 1) := dk_42 (dk_at dksX1_shrink_5 10 rfl rfl)
theorem dX1_shrink_129 : decode cX1_shrink 129 = .ok (.getfield 78, 3) := dk_180 0 78 (dk_at dksX1_shrink_5 11 rfl rfl)
theorem dX1_shrink_132 : decode cX1_shrink 132 = .ok (.aload_n 0, 1) := dk_42 (dk_at dksX1_shrink_5 14 rfl rfl)
theorem dX1_shrink_133 : decode cX1_shrink 133 = .ok (.getfield 50, 3) := dk_180 0 50 (dk_at dksX1_shrink_5 15 rfl rfl)
theorem dX1_shrink_136 : decode cX1_shrink 136 = .ok (.aload_n 0, 1) := dk_42 (dk_at dksX1_shrink_5 18 rfl rfl)
theorem dX1_shrink_137 : decode cX1_shrink 137 = .ok (.getfield 50, 3) := dk_180 0 50 (dk_at dksX1_shrink_5 19 rfl rfl)
theorem dX1_shrink_140 : decode cX1_shrink 140 = .ok (.getfield 17, 3) := dk_180 0 17 (dk_at dksX1_shrink_6 0 rfl rfl)
theorem dX1_shrink_143 : decode cX1_shrink 143 = .ok (.iconst 0, 1) := dk_3 (dk_at dksX1_shrink_6 3 rfl rfl)
theorem dX1_shrink_144 : decode cX1_shrink 144 = .ok (.invokevirtual 173, 3) := dk_182 0 173 (dk_at dksX1_shrink_6 4 rfl rfl)
theorem dX1_shrink_147 : decode cX1_shrink 147 = .ok (.aload_n 0, 1) := dk_42 (dk_at dksX1_shrink_6 7 rfl rfl)
theorem dX1_shrink_148 : decode cX1_shrink 148 = .ok (.getfield 50, 3) := dk_180 0 50 (dk_at dksX1_shrink_6 8 rfl rfl)
theorem dX1_shrink_151 : decode cX1_shrink 151 = .ok (.aload_n 0, 1) := dk_42 (dk_at dksX1_shrink_6 11 rfl rfl)
theorem dX1_shrink_152 : decode cX1_shrink 152 = .ok (.getfield 78, 3) := dk_180 0 78 (dk_at dksX1_shrink_6 12 rfl rfl)
theorem dX1_shrink_155 : decode cX1_shrink 155 = .ok (.aload 6, 2) := dk_25 6 (dk_at dksX1_shrink_6 15 rfl rfl)
theorem dX1_shrink_157 : decode cX1_shrink 157 = .ok (.iconst 2, 1) := dk_5 (dk_at dksX1_shrink_6 17 rfl rfl)
theorem dX1_shrink_158 : decode cX1_shrink 158 = .ok (.iload 8, 2) := dk_21 8 (dk_at dksX1_shrink_6 18 rfl rfl)
theorem dX1_shrink_160 : decode cX1_shrink 160 = .ok (.imul, 1) := dk_104 (dk_at dksX1_shrink_6 20 rfl rfl)
theorem dX1_shrink_161 : decode cX1_shrink 161 = .ok (.iaload, 1) := dk_46 (dk_at dksX1_shrink_6 21 rfl rfl)
theorem dX1_shrink_162 : decode cX1_shrink 162 = .ok (.iload 7, 2) := dk_21 7 (dk_at dksX1_shrink_6 22 rfl rfl)
theorem dX1_shrink_164 : decode cX1_shrink 164 = .ok (.isub, 1) := dk_100 (dk_at dksX1_shrink_7 0 rfl rfl)
theorem dX1_shrink_165 : decode cX1_shrink 165 = .ok (.aload 6, 2) := dk_25 6 (dk_at dksX1_shrink_7 1 rfl rfl)
theorem dX1_shrink_167 : decode cX1_shrink 167 = .ok (.iconst 2, 1) := dk_5 (dk_at dksX1_shrink_7 3 rfl rfl)
theorem dX1_shrink_168 : decode cX1_shrink 168 = .ok (.iload 8, 2) := dk_21 8 (dk_at dksX1_shrink_7 4 rfl rfl)
theorem dX1_shrink_170 : decode cX1_shrink 170 = .ok (.imul, 1) := dk_104 (dk_at dksX1_shrink_7 6 rfl rfl)
theorem dX1_shrink_171 : decode cX1_shrink 171 = .ok (.iconst 1, 1) := dk_4 (dk_at dksX1_shrink_7 7 rfl rfl)
theorem dX1_shrink_172 : decode cX1_shrink 172 = .ok (.iadd, 1) := dk_96 (dk_at dksX1_shrink_7 8 rfl rfl)
theorem dX1_shrink_173 : decode cX1_shrink 173 = .ok (.iaload, 1) := dk_46 (dk_at dksX1_shrink_7 9 rfl rfl)
theorem dX1_shrink_174 : decode cX1_shrink 174 = .ok (.invokevirtual 173, 3) := dk_182 0 173 (dk_at dksX1_shrink_7 10 rfl rfl)
theorem dX1_shrink_177 : decode cX1_shrink 177 = .ok (.aload_n 0, 1) := dk_42 (dk_at dksX1_shrink_7 13 rfl rfl)
theorem dX1_shrink_178 : decode cX1_shrink 178 = .ok (.iload_n 1, 1) := dk_27 (dk_at dksX1_shrink_7 14 rfl rfl)
theorem dX1_shrink_179 : decode cX1_shrink 179 = .ok (.iload_n 2, 1) := dk_28 (dk_at dksX1_shrink_7 15 rfl rfl)
theorem dX1_shrink_180 : decode cX1_shrink 180 = .ok (.iload_n 3, 1) := dk_29 (dk_at dksX1_shrink_7 16 rfl rfl)
theorem dX1_shrink_181 : decode cX1_shrink 181 = .ok (.invokevirtual 170, 3) := dk_182 0 170 (dk_at dksX1_shrink_7 17 rfl rfl)
theorem dX1_shrink_184 : decode cX1_shrink 184 = .ok (.aload_n 0, 1) := dk_42 (dk_at dksX1_shrink_7 20 rfl rfl)
theorem dX1_shrink_185 : decode cX1_shrink 185 = .ok (.getfield 37, 3) := dk_180 0 37 (dk_at dksX1_shrink_7 21 rfl rfl)
theorem dX1_shrink_188 : decode cX1_shrink 188 = .ok (.iload 4, 2) := dk_21 4 (dk_at dksX1_shrink_8 0 rfl rfl)
theorem dX1_shrink_190 : decode cX1_shrink 190 = .ok (.if_icmp .ne 20, 3) := dk_160 0 20 (dk_at dksX1_shrink_8 2 rfl rfl)
theorem dX1_shrink_193 : decode cX1_shrink 193 = .ok (.iload 7, 2) := dk_21 7 (dk_at dksX1_shrink_8 5 rfl rfl)
theorem dX1_shrink_195 : decode cX1_shrink 195 = .ok (.aload 6, 2) := dk_25 6 (dk_at dksX1_shrink_8 7 rfl rfl)
theorem dX1_shrink_197 : decode cX1_shrink 197 = .ok (.iconst 2, 1) := dk_5 (dk_at dksX1_shrink_8 9 rfl rfl)
theorem dX1_shrink_198 : decode cX1_shrink 198 = .ok (.iload 8, 2) := dk_21 8 (dk_at dksX1_shrink_8 10 rfl rfl)
theorem dX1_shrink_200 : decode cX1_shrink 200 = .ok (.imul, 1) := dk_104 (dk_at dksX1_shrink_8 12 rfl rfl)
theorem dX1_shrink_201 : decode cX1_shrink 201 = .ok (.iconst 1, 1) := dk_4 (dk_at dksX1_shrink_8 13 rfl rfl)
theorem dX1_shrink_202 : decode cX1_shrink 202 = .ok (.iadd, 1) := dk_96 (dk_at dksX1_shrink_8 14 rfl rfl)
theorem dX1_shrink_203 : decode cX1_shrink 203 = .ok (.iaload, 1) := dk_46 (dk_at dksX1_shrink_8 15 rfl rfl)
theorem dX1_shrink_204 : decode cX1_shrink 204 = .ok (.iadd, 1) := dk_96 (dk_at dksX1_shrink_8 16 rfl rfl)
theorem dX1_shrink_205 : decode cX1_shrink 205 = .ok (.istore 7, 2) := dk_54 7 (dk_at dksX1_shrink_8 17 rfl rfl)
theorem dX1_shrink_207 : decode cX1_shrink 207 = .ok (.goto 22, 3) := dk_167 0 22 (dk_at dksX1_shrink_8 19 rfl rfl)
theorem dX1_shrink_210 : decode cX1_shrink 210 = .ok (.aload_n 0, 1) := dk_42 (dk_at dksX1_shrink_8 22 rfl rfl)
theorem dX1_shrink_211 : decode cX1_shrink 211 = .ok (.getfield 50, 3) := dk_180 0 50 (dk_at dksX1_shrink_9 0 rfl rfl)
theorem dX1_shrink_214 : decode cX1_shrink 214 = .ok (.aload_n 0, 1) := dk_42 (dk_at dksX1_shrink_9 3 rfl rfl)
theorem dX1_shrink_215 : decode cX1_shrink 215 = .ok (.getfield 78, 3) := dk_180 0 78 (dk_at dksX1_shrink_9 4 rfl rfl)
theorem dX1_shrink_218 : decode cX1_shrink 218 = .ok (.aload_n 0, 1) := dk_42 (dk_at dksX1_shrink_9 7 rfl rfl)
theorem dX1_shrink_219 : decode cX1_shrink 219 = .ok (.getfield 78, 3) := dk_180 0 78 (dk_at dksX1_shrink_9 8 rfl rfl)
theorem dX1_shrink_222 : decode cX1_shrink 222 = .ok (.getfield 17, 3) := dk_180 0 17 (dk_at dksX1_shrink_9 11 rfl rfl)
theorem dX1_shrink_225 : decode cX1_shrink 225 = .ok (.iconst 0, 1) := dk_3 (dk_at dksX1_shrink_9 14 rfl rfl)
theorem dX1_shrink_226 : decode cX1_shrink 226 = .ok (.invokevirtual 173, 3) := dk_182 0 173 (dk_at dksX1_shrink_9 15 rfl rfl)
theorem dX1_shrink_229 : decode cX1_shrink 229 = .ok (.iinc 8 1, 3) := dk_132 8 1 (dk_at dksX1_shrink_9 18 rfl rfl)
theorem dX1_shrink_232 : decode cX1_shrink 232 = .ok (.goto (-111), 3) := dk_167 255 145 (dk_at dksX1_shrink_9 21 rfl rfl)
theorem dX1_shrink_235 : decode cX1_shrink 235 = .ok (.aload_n 0, 1) := dk_42 (dk_at dksX1_shrink_10 0 rfl rfl)
theorem dX1_shrink_236 : decode cX1_shrink 236 = .ok (.iload_n 1, 1) := dk_27 (dk_at dksX1_shrink_10 1 rfl rfl)
theorem dX1_shrink_237 : decode cX1_shrink 237 = .ok (.iload_n 2, 1) := dk_28 (dk_at dksX1_shrink_10 2 rfl rfl)
theorem dX1_shrink_238 : decode cX1_shrink 238 = .ok (.iload_n 3, 1) := dk_29 (dk_at dksX1_shrink_10 3 rfl rfl)
theorem dX1_shrink_239 : decode cX1_shrink 239 = .ok (.invokevirtual 170, 3) := dk_182 0 170 (dk_at dksX1_shrink_10 4 rfl rfl)
theorem dX1_shrink_242 : decode cX1_shrink 242 = .ok (.aload_n 0, 1) := dk_42 (dk_at dksX1_shrink_10 7 rfl rfl)
theorem dX1_shrink_243 : decode cX1_shrink 243 = .ok (.getfield 50, 3) := dk_180 0 50 (dk_at dksX1_shrink_10 8 rfl rfl)
theorem dX1_shrink_246 : decode cX1_shrink 246 = .ok (.getfield 17, 3) := dk_180 0 17 (dk_at dksX1_shrink_10 11 rfl rfl)
theorem dX1_shrink_249 : decode cX1_shrink 249 = .ok (.ireturn, 1) := dk_172 (dk_at dksX1_shrink_10 14 rfl rfl)
abbrev cX1_count : ByteArray := prog_1_method_25_code
def yX1_count : MethodName := ⟨RX1, "count", "(I)I"⟩
def dkwX1_count_4 : List UInt8 := [42, 180, 0, 43, 167, 0, 4, 2, 172]
abbrev dktX1_count_4 : List UInt8 := dkwX1_count_4 ++ []
def dkwX1_count_3 : List UInt8 := [167, 0, 32, 42, 180, 0, 31, 167, 0, 25, 42, 180, 0, 34, 167, 0, 18, 42, 180, 0, 37, 167, 0, 11]
abbrev dktX1_count_3 : List UInt8 := dkwX1_count_3 ++ dktX1_count_4
def dkwX1_count_2 : List UInt8 := [42, 180, 0, 50, 180, 0, 17, 167, 0, 49, 42, 180, 0, 13, 180, 0, 17, 167, 0, 39, 42, 180, 0, 28]
abbrev dktX1_count_2 : List UInt8 := dkwX1_count_2 ++ dktX1_count_3
def dkwX1_count_1 : List UInt8 := [170, 0, 0, 0, 0, 0, 98, 0, 0, 0, 0, 0, 0, 0, 6, 0, 0, 0, 43, 0, 0, 0, 53, 0, 0, 0, 63, 0, 0, 0, 70, 0, 0, 0, 77, 0, 0, 0, 84, 0, 0, 0, 91]
abbrev dktX1_count_1 : List UInt8 := dkwX1_count_1 ++ dktX1_count_2
def dkwX1_count_0 : List UInt8 := [27]
abbrev dktX1_count_0 : List UInt8 := dkwX1_count_0 ++ dktX1_count_1
theorem dksX1_count_0 : cX1_count.data.toList.drop 0 = dktX1_count_0 := by decide +kernel
theorem dksX1_count_1 : cX1_count.data.toList.drop 1 = dktX1_count_1 := dk_seg dksX1_count_0 1 rfl rfl
theorem dksX1_count_2 : cX1_count.data.toList.drop 44 = dktX1_count_2 := dk_seg dksX1_count_1 43 rfl rfl
theorem dksX1_count_3 : cX1_count.data.toList.drop 68 = dktX1_count_3 := dk_seg dksX1_count_2 24 rfl rfl
theorem dksX1_count_4 : cX1_count.data.toList.drop 92 = dktX1_count_4 := dk_seg dksX1_count_3 24 rfl rfl
theorem dX1_count_0 : decode cX1_count 0 = .ok (.iload_n 1, 1) := dk_27 (dk_at dksX1_count_0 0 rfl rfl)
theorem dX1_count_1 : decode cX1_count 1 = .ok (.tableswitch 98 0 6 #[43, 53, 63, 70, 77, 84, 91], 43) := by decide +kernel
theorem dX1_count_44 : decode cX1_count 44 = .ok (.aload_n 0, 1) := dk_42 (dk_at dksX1_count_2 0 rfl rfl)
theorem dX1_count_45 : decode cX1_count 45 = .ok (.getfield 50, 3) := dk_180 0 50 (dk_at dksX1_count_2 1 rfl rfl)
theorem dX1_count_48 : decode cX1_count 48 = .ok (.getfield 17, 3) := dk_180 0 17 (dk_at dksX1_count_2 4 rfl rfl)
theorem dX1_count_51 : decode cX1_count 51 = .ok (.goto 49, 3) := dk_167 0 49 (dk_at dksX1_count_2 7 rfl rfl)
theorem dX1_count_54 : decode cX1_count 54 = .ok (.aload_n 0, 1) := dk_42 (dk_at dksX1_count_2 10 rfl rfl)
theorem dX1_count_55 : decode cX1_count 55 = .ok (.getfield 13, 3) := dk_180 0 13 (dk_at dksX1_count_2 11 rfl rfl)
theorem dX1_count_58 : decode cX1_count 58 = .ok (.getfield 17, 3) := dk_180 0 17 (dk_at dksX1_count_2 14 rfl rfl)
theorem dX1_count_61 : decode cX1_count 61 = .ok (.goto 39, 3) := dk_167 0 39 (dk_at dksX1_count_2 17 rfl rfl)
theorem dX1_count_64 : decode cX1_count 64 = .ok (.aload_n 0, 1) := dk_42 (dk_at dksX1_count_2 20 rfl rfl)
theorem dX1_count_65 : decode cX1_count 65 = .ok (.getfield 28, 3) := dk_180 0 28 (dk_at dksX1_count_2 21 rfl rfl)
theorem dX1_count_68 : decode cX1_count 68 = .ok (.goto 32, 3) := dk_167 0 32 (dk_at dksX1_count_3 0 rfl rfl)
theorem dX1_count_71 : decode cX1_count 71 = .ok (.aload_n 0, 1) := dk_42 (dk_at dksX1_count_3 3 rfl rfl)
theorem dX1_count_72 : decode cX1_count 72 = .ok (.getfield 31, 3) := dk_180 0 31 (dk_at dksX1_count_3 4 rfl rfl)
theorem dX1_count_75 : decode cX1_count 75 = .ok (.goto 25, 3) := dk_167 0 25 (dk_at dksX1_count_3 7 rfl rfl)
theorem dX1_count_78 : decode cX1_count 78 = .ok (.aload_n 0, 1) := dk_42 (dk_at dksX1_count_3 10 rfl rfl)
theorem dX1_count_79 : decode cX1_count 79 = .ok (.getfield 34, 3) := dk_180 0 34 (dk_at dksX1_count_3 11 rfl rfl)
theorem dX1_count_82 : decode cX1_count 82 = .ok (.goto 18, 3) := dk_167 0 18 (dk_at dksX1_count_3 14 rfl rfl)
theorem dX1_count_85 : decode cX1_count 85 = .ok (.aload_n 0, 1) := dk_42 (dk_at dksX1_count_3 17 rfl rfl)
theorem dX1_count_86 : decode cX1_count 86 = .ok (.getfield 37, 3) := dk_180 0 37 (dk_at dksX1_count_3 18 rfl rfl)
theorem dX1_count_89 : decode cX1_count 89 = .ok (.goto 11, 3) := dk_167 0 11 (dk_at dksX1_count_3 21 rfl rfl)
theorem dX1_count_92 : decode cX1_count 92 = .ok (.aload_n 0, 1) := dk_42 (dk_at dksX1_count_4 0 rfl rfl)
theorem dX1_count_93 : decode cX1_count 93 = .ok (.getfield 43, 3) := dk_180 0 43 (dk_at dksX1_count_4 1 rfl rfl)
theorem dX1_count_96 : decode cX1_count 96 = .ok (.goto 4, 3) := dk_167 0 4 (dk_at dksX1_count_4 4 rfl rfl)
theorem dX1_count_99 : decode cX1_count 99 = .ok (.iconst (-1), 1) := dk_2 (dk_at dksX1_count_4 7 rfl rfl)
theorem dX1_count_100 : decode cX1_count 100 = .ok (.ireturn, 1) := dk_172 (dk_at dksX1_count_4 8 rfl rfl)
theorem q42 : (Jvm.Cond.initialized "BombFamilies") ∈ lw_all := lw_g (lw_at lw_m1 1 rfl) rfl
theorem q54 : (Jvm.Cond.instantiable "BombFamilies" (21 : Nat)) ∈ lw_all := lw_g (lw_at lw_m1 13 rfl) rfl
theorem q56 : (Jvm.Cond.instanceMethod ({ cls := "BombFamilies", name := "<init>", desc := "(J)V" } : Jvm.MethodName)) ∈ lw_all := lw_g (lw_at lw_m1 15 rfl) rfl
theorem q57 : (Jvm.Cond.code ({ cls := "BombFamilies", name := "<init>", desc := "(J)V" } : Jvm.MethodName) prog_1_method_4_code (4 : Nat) (Option.none : Option Jvm.ClassFile.FieldType)) ∈ lw_all := lw_g (lw_at lw_m1 16 rfl) rfl
theorem q58 : (Jvm.Cond.methodLink "BombFamilies" (69 : Nat) ({ cls := "java/lang/Object", name := "<init>", desc := "()V" } : Jvm.MethodName)) ∈ lw_all := lw_g (lw_at lw_m1 17 rfl) rfl
theorem q61 : (Jvm.Cond.classLink "BombFamilies" (18 : Nat) "BombFamilies$Bytes") ∈ lw_all := lw_g (lw_at lw_m1 20 rfl) rfl
theorem q63 : (Jvm.Cond.methodLink "BombFamilies" (75 : Nat) ({ cls := "BombFamilies$Bytes", name := "<init>", desc := "(I)V" } : Jvm.MethodName)) ∈ lw_all := lw_g (lw_at lw_m1 22 rfl) rfl
theorem q68 : (Jvm.Cond.fieldLinkNest "BombFamilies" (147 : Nat) "BombFamilies$Bytes" "all" "[B" "BombFamilies") ∈ lw_tbl := lw_at lw_m1 27 rfl
theorem q70 : (Jvm.Cond.fieldLinkNest "BombFamilies" (17 : Nat) "BombFamilies$Bytes" "many" "I" "BombFamilies") ∈ lw_tbl := lw_at lw_m1 29 rfl
theorem q78 : (Jvm.Cond.classLink "BombFamilies" (81 : Nat) "BombFamilies$Kind") ∈ lw_all := lw_g (lw_at lw_m1 37 rfl) rfl
theorem q80 : (Jvm.Cond.static ({ cls := "BombFamilies", name := "lambda$new$0", desc := "(LBombFamilies$Scope;)V" } : Jvm.MethodName)) ∈ lw_all := lw_g (lw_at lw_m1 39 rfl) rfl
theorem q81 : (Jvm.Cond.code ({ cls := "BombFamilies", name := "lambda$new$0", desc := "(LBombFamilies$Scope;)V" } : Jvm.MethodName) prog_1_method_33_code (1 : Nat) (Option.none : Option Jvm.ClassFile.FieldType)) ∈ lw_all := lw_g (lw_at lw_m1 40 rfl) rfl
theorem q82 : (Jvm.Cond.static ({ cls := "BombFamilies", name := "lambda$new$1", desc := "(LBombFamilies$Scope;)V" } : Jvm.MethodName)) ∈ lw_all := lw_g (lw_at lw_m1 41 rfl) rfl
theorem q83 : (Jvm.Cond.code ({ cls := "BombFamilies", name := "lambda$new$1", desc := "(LBombFamilies$Scope;)V" } : Jvm.MethodName) prog_1_method_32_code (1 : Nat) (Option.none : Option Jvm.ClassFile.FieldType)) ∈ lw_all := lw_g (lw_at lw_m1 42 rfl) rfl
theorem q84 : (Jvm.Cond.methodLink "BombFamilies" (195 : Nat) ({ cls := "BombFamilies$Scope", name := "stored", desc := "()V" } : Jvm.MethodName)) ∈ lw_all := lw_g (lw_at lw_m1 43 rfl) rfl
theorem q94 : (Jvm.Cond.privateMethod ({ cls := "BombFamilies", name := "need", desc := "(ZII)V" } : Jvm.MethodName)) ∈ lw_tbl := lw_at lw_m1 53 rfl
theorem q95 : (Jvm.Cond.instanceMethod ({ cls := "BombFamilies", name := "need", desc := "(ZII)V" } : Jvm.MethodName)) ∈ lw_all := lw_g (lw_at lw_m1 54 rfl) rfl
theorem q96 : (Jvm.Cond.code ({ cls := "BombFamilies", name := "need", desc := "(ZII)V" } : Jvm.MethodName) prog_1_method_3_code (4 : Nat) (Option.none : Option Jvm.ClassFile.FieldType)) ∈ lw_all := lw_g (lw_at lw_m1 55 rfl) rfl
theorem q117 : (Jvm.Cond.static ({ cls := "BombFamilies", name := "lambda$new$2", desc := "(LBombFamilies$Scope;)V" } : Jvm.MethodName)) ∈ lw_all := lw_g (lw_at lw_m1 76 rfl) rfl
theorem q118 : (Jvm.Cond.code ({ cls := "BombFamilies", name := "lambda$new$2", desc := "(LBombFamilies$Scope;)V" } : Jvm.MethodName) prog_1_method_31_code (1 : Nat) (Option.none : Option Jvm.ClassFile.FieldType)) ∈ lw_all := lw_g (lw_at lw_m1 77 rfl) rfl
theorem q119 : (Jvm.Cond.methodLink "BombFamilies" (192 : Nat) ({ cls := "BombFamilies$Scope", name := "run", desc := "()V" } : Jvm.MethodName)) ∈ lw_all := lw_g (lw_at lw_m1 78 rfl) rfl
theorem q123 : (Jvm.Cond.static ({ cls := "BombFamilies", name := "lambda$new$3", desc := "(LBombFamilies$Scope;)V" } : Jvm.MethodName)) ∈ lw_all := lw_g (lw_at lw_m1 82 rfl) rfl
theorem q124 : (Jvm.Cond.code ({ cls := "BombFamilies", name := "lambda$new$3", desc := "(LBombFamilies$Scope;)V" } : Jvm.MethodName) prog_1_method_30_code (1 : Nat) (Option.none : Option Jvm.ClassFile.FieldType)) ∈ lw_all := lw_g (lw_at lw_m1 83 rfl) rfl
theorem q125 : (Jvm.Cond.methodLink "BombFamilies" (189 : Nat) ({ cls := "BombFamilies$Scope", name := "copy", desc := "()V" } : Jvm.MethodName)) ∈ lw_all := lw_g (lw_at lw_m1 84 rfl) rfl
theorem q130 : (Jvm.Cond.static ({ cls := "BombFamilies", name := "in", desc := "(III)Z" } : Jvm.MethodName)) ∈ lw_all := lw_g (lw_at lw_m1 89 rfl) rfl
theorem q131 : (Jvm.Cond.code ({ cls := "BombFamilies", name := "in", desc := "(III)Z" } : Jvm.MethodName) prog_1_method_1_code (3 : Nat) (Option.some Jvm.ClassFile.FieldType.boolean)) ∈ lw_all := lw_g (lw_at lw_m1 90 rfl) rfl
theorem q132 : (Jvm.Cond.static ({ cls := "BombFamilies", name := "lambda$new$4", desc := "(LBombFamilies$Scope;)V" } : Jvm.MethodName)) ∈ lw_all := lw_g (lw_at lw_m1 91 rfl) rfl
theorem q133 : (Jvm.Cond.code ({ cls := "BombFamilies", name := "lambda$new$4", desc := "(LBombFamilies$Scope;)V" } : Jvm.MethodName) prog_1_method_29_code (1 : Nat) (Option.none : Option Jvm.ClassFile.FieldType)) ∈ lw_all := lw_g (lw_at lw_m1 92 rfl) rfl
theorem q134 : (Jvm.Cond.methodLink "BombFamilies" (186 : Nat) ({ cls := "BombFamilies$Scope", name := "nest", desc := "()V" } : Jvm.MethodName)) ∈ lw_all := lw_g (lw_at lw_m1 93 rfl) rfl
theorem q158 : (Jvm.Cond.static ({ cls := "BombFamilies", name := "lambda$new$5", desc := "(LBombFamilies$Scope;)V" } : Jvm.MethodName)) ∈ lw_all := lw_g (lw_at lw_m1 117 rfl) rfl
theorem q159 : (Jvm.Cond.code ({ cls := "BombFamilies", name := "lambda$new$5", desc := "(LBombFamilies$Scope;)V" } : Jvm.MethodName) prog_1_method_28_code (1 : Nat) (Option.none : Option Jvm.ClassFile.FieldType)) ∈ lw_all := lw_g (lw_at lw_m1 118 rfl) rfl
theorem q160 : (Jvm.Cond.methodLink "BombFamilies" (183 : Nat) ({ cls := "BombFamilies$Scope", name := "note", desc := "()V" } : Jvm.MethodName)) ∈ lw_all := lw_g (lw_at lw_m1 119 rfl) rfl
theorem q164 : (Jvm.Cond.static ({ cls := "BombFamilies", name := "lambda$new$6", desc := "(LBombFamilies$Scope;)V" } : Jvm.MethodName)) ∈ lw_all := lw_g (lw_at lw_m1 123 rfl) rfl
theorem q165 : (Jvm.Cond.code ({ cls := "BombFamilies", name := "lambda$new$6", desc := "(LBombFamilies$Scope;)V" } : Jvm.MethodName) prog_1_method_27_code (1 : Nat) (Option.none : Option Jvm.ClassFile.FieldType)) ∈ lw_all := lw_g (lw_at lw_m1 124 rfl) rfl
theorem q166 : (Jvm.Cond.methodLink "BombFamilies" (180 : Nat) ({ cls := "BombFamilies$Scope", name := "again", desc := "()V" } : Jvm.MethodName)) ∈ lw_all := lw_g (lw_at lw_m1 125 rfl) rfl
theorem q170 : (Jvm.Cond.static ({ cls := "BombFamilies", name := "lambda$new$7", desc := "(LBombFamilies$Scope;)V" } : Jvm.MethodName)) ∈ lw_all := lw_g (lw_at lw_m1 129 rfl) rfl
theorem q171 : (Jvm.Cond.code ({ cls := "BombFamilies", name := "lambda$new$7", desc := "(LBombFamilies$Scope;)V" } : Jvm.MethodName) prog_1_method_26_code (1 : Nat) (Option.none : Option Jvm.ClassFile.FieldType)) ∈ lw_all := lw_g (lw_at lw_m1 130 rfl) rfl
theorem q172 : (Jvm.Cond.methodLink "BombFamilies" (177 : Nat) ({ cls := "BombFamilies$Scope", name := "coded", desc := "()V" } : Jvm.MethodName)) ∈ lw_all := lw_g (lw_at lw_m1 131 rfl) rfl
theorem q192 : (Jvm.Cond.classLink "BombFamilies" (97 : Nat) "BombFamilies$Table") ∈ lw_all := lw_g (lw_at lw_m1 151 rfl) rfl
theorem q194 : (Jvm.Cond.methodLinkNest "BombFamilies" (99 : Nat) ({ cls := "BombFamilies$Table", name := "<init>", desc := "()V" } : Jvm.MethodName) "BombFamilies") ∈ lw_tbl := lw_at lw_m1 153 rfl
theorem q212 : (Jvm.Cond.classLink "BombFamilies" (59 : Nat) "BombFamilies$Fault") ∈ lw_all := lw_g (lw_at lw_m1 171 rfl) rfl
theorem q251 : (Jvm.Cond.methodLinkNest "BombFamilies" (104 : Nat) ({ cls := "BombFamilies$Fault", name := "<init>", desc := "()V" } : Jvm.MethodName) "BombFamilies") ∈ lw_tbl := lw_at lw_m1 210 rfl
theorem q263 : (Jvm.Cond.fieldLinkNest "BombFamilies" (61 : Nat) "BombFamilies$Fault" "kind" "I" "BombFamilies") ∈ lw_tbl := lw_at lw_m1 222 rfl
theorem q264 : (Jvm.Cond.fieldLinkNest "BombFamilies" (64 : Nat) "BombFamilies$Fault" "place" "I" "BombFamilies") ∈ lw_tbl := lw_at lw_m1 223 rfl
theorem q282 : (Jvm.Cond.classLink "BombFamilies" (54 : Nat) "BombFamilies$Scope") ∈ lw_all := lw_g (lw_at lw_m2 1 rfl) rfl
theorem q284 : (Jvm.Cond.methodLink "BombFamilies" (116 : Nat) ({ cls := "BombFamilies$Scope", name := "<init>", desc := "(LBombFamilies;I)V" } : Jvm.MethodName)) ∈ lw_all := lw_g (lw_at lw_m2 3 rfl) rfl
theorem q311 : (Jvm.Cond.fieldLink "BombFamilies" (50 : Nat) "BombFamilies" "tape" "LBombFamilies$Bytes;") ∈ lw_all := lw_g (lw_at lw_m2 30 rfl) rfl
theorem q312 : (Jvm.Cond.fieldLink "BombFamilies" (78 : Nat) "BombFamilies" "spare" "LBombFamilies$Bytes;") ∈ lw_all := lw_g (lw_at lw_m2 31 rfl) rfl
theorem q313 : (Jvm.Cond.fieldLink "BombFamilies" (112 : Nat) "BombFamilies" "seed" "J") ∈ lw_all := lw_g (lw_at lw_m2 32 rfl) rfl
theorem q314 : (Jvm.Cond.fieldLink "BombFamilies" (93 : Nat) "BombFamilies" "kinds" "[LBombFamilies$Kind;") ∈ lw_all := lw_g (lw_at lw_m2 33 rfl) rfl
theorem q316 : (Jvm.Cond.fieldLink "BombFamilies" (100 : Nat) "BombFamilies" "table" "LBombFamilies$Table;") ∈ lw_all := lw_g (lw_at lw_m2 35 rfl) rfl
theorem q318 : (Jvm.Cond.fieldLink "BombFamilies" (65 : Nat) "BombFamilies" "thrown" "LBombFamilies$Fault;") ∈ lw_all := lw_g (lw_at lw_m2 37 rfl) rfl
theorem q319 : (Jvm.Cond.fieldLink "BombFamilies" (46 : Nat) "BombFamilies" "scopes" "[LBombFamilies$Scope;") ∈ lw_all := lw_g (lw_at lw_m2 38 rfl) rfl
theorem q321 : (Jvm.Cond.fieldLink "BombFamilies" (105 : Nat) "BombFamilies" "ends" "[I") ∈ lw_all := lw_g (lw_at lw_m2 40 rfl) rfl
theorem q323 : (Jvm.Cond.fieldLink "BombFamilies" (25 : Nat) "BombFamilies" "ended" "I") ∈ lw_all := lw_g (lw_at lw_m2 42 rfl) rfl
theorem q325 : (Jvm.Cond.fieldLink "BombFamilies" (109 : Nat) "BombFamilies" "items" "[I") ∈ lw_all := lw_g (lw_at lw_m2 44 rfl) rfl
theorem q327 : (Jvm.Cond.fieldLink "BombFamilies" (22 : Nat) "BombFamilies" "itemMany" "I") ∈ lw_all := lw_g (lw_at lw_m2 46 rfl) rfl
theorem q329 : (Jvm.Cond.fieldLink "BombFamilies" (13 : Nat) "BombFamilies" "out" "LBombFamilies$Bytes;") ∈ lw_all := lw_g (lw_at lw_m2 48 rfl) rfl
theorem q331 : (Jvm.Cond.fieldLink "BombFamilies" (1 : Nat) "BombFamilies" "most" "I") ∈ lw_all := lw_g (lw_at lw_m2 50 rfl) rfl
theorem q333 : (Jvm.Cond.fieldLink "BombFamilies" (7 : Nat) "BombFamilies" "limit" "I") ∈ lw_all := lw_g (lw_at lw_m2 52 rfl) rfl
theorem q335 : (Jvm.Cond.fieldLink "BombFamilies" (10 : Nat) "BombFamilies" "deepest" "I") ∈ lw_all := lw_g (lw_at lw_m2 54 rfl) rfl
theorem q337 : (Jvm.Cond.fieldLink "BombFamilies" (28 : Nat) "BombFamilies" "steps" "I") ∈ lw_all := lw_g (lw_at lw_m2 56 rfl) rfl
theorem q339 : (Jvm.Cond.fieldLink "BombFamilies" (31 : Nat) "BombFamilies" "deep" "I") ∈ lw_all := lw_g (lw_at lw_m2 58 rfl) rfl
theorem q341 : (Jvm.Cond.fieldLink "BombFamilies" (34 : Nat) "BombFamilies" "packs" "I") ∈ lw_all := lw_g (lw_at lw_m2 60 rfl) rfl
theorem q343 : (Jvm.Cond.fieldLink "BombFamilies" (37 : Nat) "BombFamilies" "fault" "I") ∈ lw_all := lw_g (lw_at lw_m2 62 rfl) rfl
theorem q344 : (Jvm.Cond.fieldLink "BombFamilies" (40 : Nat) "BombFamilies" "place" "I") ∈ lw_all := lw_g (lw_at lw_m2 63 rfl) rfl
theorem q345 : (Jvm.Cond.fieldLink "BombFamilies" (43 : Nat) "BombFamilies" "reads" "I") ∈ lw_all := lw_g (lw_at lw_m2 64 rfl) rfl
theorem q346 : (Jvm.Cond.laysFinal "BombFamilies" "BombFamilies" "tape" "LBombFamilies$Bytes;") ∈ lw_all := lw_g (lw_at lw_m2 65 rfl) rfl
theorem q347 : (Jvm.Cond.soleField "BombFamilies" "tape") ∈ lw_all := lw_g (lw_at lw_m2 66 rfl) rfl
theorem q348 : (Jvm.Cond.laysFinal "BombFamilies" "BombFamilies" "spare" "LBombFamilies$Bytes;") ∈ lw_all := lw_g (lw_at lw_m2 67 rfl) rfl
theorem q349 : (Jvm.Cond.soleField "BombFamilies" "spare") ∈ lw_all := lw_g (lw_at lw_m2 68 rfl) rfl
theorem q350 : (Jvm.Cond.lays "BombFamilies" "BombFamilies" "seed" "J") ∈ lw_all := lw_g (lw_at lw_m2 69 rfl) rfl
theorem q351 : (Jvm.Cond.soleField "BombFamilies" "seed") ∈ lw_all := lw_g (lw_at lw_m2 70 rfl) rfl
theorem q352 : (Jvm.Cond.laysFinal "BombFamilies" "BombFamilies" "kinds" "[LBombFamilies$Kind;") ∈ lw_all := lw_g (lw_at lw_m2 71 rfl) rfl
theorem q353 : (Jvm.Cond.soleField "BombFamilies" "kinds") ∈ lw_all := lw_g (lw_at lw_m2 72 rfl) rfl
theorem q354 : (Jvm.Cond.laysFinal "BombFamilies" "BombFamilies" "table" "LBombFamilies$Table;") ∈ lw_all := lw_g (lw_at lw_m2 73 rfl) rfl
theorem q355 : (Jvm.Cond.soleField "BombFamilies" "table") ∈ lw_all := lw_g (lw_at lw_m2 74 rfl) rfl
theorem q356 : (Jvm.Cond.laysFinal "BombFamilies" "BombFamilies" "thrown" "LBombFamilies$Fault;") ∈ lw_all := lw_g (lw_at lw_m2 75 rfl) rfl
theorem q357 : (Jvm.Cond.soleField "BombFamilies" "thrown") ∈ lw_all := lw_g (lw_at lw_m2 76 rfl) rfl
theorem q358 : (Jvm.Cond.laysFinal "BombFamilies" "BombFamilies" "scopes" "[LBombFamilies$Scope;") ∈ lw_all := lw_g (lw_at lw_m2 77 rfl) rfl
theorem q359 : (Jvm.Cond.soleField "BombFamilies" "scopes") ∈ lw_all := lw_g (lw_at lw_m2 78 rfl) rfl
theorem q360 : (Jvm.Cond.laysFinal "BombFamilies" "BombFamilies" "ends" "[I") ∈ lw_all := lw_g (lw_at lw_m2 79 rfl) rfl
theorem q361 : (Jvm.Cond.soleField "BombFamilies" "ends") ∈ lw_all := lw_g (lw_at lw_m2 80 rfl) rfl
theorem q362 : (Jvm.Cond.lays "BombFamilies" "BombFamilies" "ended" "I") ∈ lw_all := lw_g (lw_at lw_m2 81 rfl) rfl
theorem q363 : (Jvm.Cond.soleField "BombFamilies" "ended") ∈ lw_all := lw_g (lw_at lw_m2 82 rfl) rfl
theorem q364 : (Jvm.Cond.laysFinal "BombFamilies" "BombFamilies" "items" "[I") ∈ lw_all := lw_g (lw_at lw_m2 83 rfl) rfl
theorem q365 : (Jvm.Cond.soleField "BombFamilies" "items") ∈ lw_all := lw_g (lw_at lw_m2 84 rfl) rfl
theorem q366 : (Jvm.Cond.lays "BombFamilies" "BombFamilies" "itemMany" "I") ∈ lw_all := lw_g (lw_at lw_m2 85 rfl) rfl
theorem q367 : (Jvm.Cond.soleField "BombFamilies" "itemMany") ∈ lw_all := lw_g (lw_at lw_m2 86 rfl) rfl
theorem q368 : (Jvm.Cond.laysFinal "BombFamilies" "BombFamilies" "out" "LBombFamilies$Bytes;") ∈ lw_all := lw_g (lw_at lw_m2 87 rfl) rfl
theorem q369 : (Jvm.Cond.soleField "BombFamilies" "out") ∈ lw_all := lw_g (lw_at lw_m2 88 rfl) rfl
theorem q370 : (Jvm.Cond.lays "BombFamilies" "BombFamilies" "most" "I") ∈ lw_all := lw_g (lw_at lw_m2 89 rfl) rfl
theorem q371 : (Jvm.Cond.soleField "BombFamilies" "most") ∈ lw_all := lw_g (lw_at lw_m2 90 rfl) rfl
theorem q372 : (Jvm.Cond.lays "BombFamilies" "BombFamilies" "limit" "I") ∈ lw_all := lw_g (lw_at lw_m2 91 rfl) rfl
theorem q373 : (Jvm.Cond.soleField "BombFamilies" "limit") ∈ lw_all := lw_g (lw_at lw_m2 92 rfl) rfl
theorem q374 : (Jvm.Cond.lays "BombFamilies" "BombFamilies" "deepest" "I") ∈ lw_all := lw_g (lw_at lw_m2 93 rfl) rfl
theorem q375 : (Jvm.Cond.soleField "BombFamilies" "deepest") ∈ lw_all := lw_g (lw_at lw_m2 94 rfl) rfl
theorem q376 : (Jvm.Cond.lays "BombFamilies" "BombFamilies" "steps" "I") ∈ lw_all := lw_g (lw_at lw_m2 95 rfl) rfl
theorem q377 : (Jvm.Cond.soleField "BombFamilies" "steps") ∈ lw_all := lw_g (lw_at lw_m2 96 rfl) rfl
theorem q378 : (Jvm.Cond.lays "BombFamilies" "BombFamilies" "deep" "I") ∈ lw_all := lw_g (lw_at lw_m2 97 rfl) rfl
theorem q379 : (Jvm.Cond.soleField "BombFamilies" "deep") ∈ lw_all := lw_g (lw_at lw_m2 98 rfl) rfl
theorem q380 : (Jvm.Cond.lays "BombFamilies" "BombFamilies" "packs" "I") ∈ lw_all := lw_g (lw_at lw_m2 99 rfl) rfl
theorem q381 : (Jvm.Cond.soleField "BombFamilies" "packs") ∈ lw_all := lw_g (lw_at lw_m2 100 rfl) rfl
theorem q382 : (Jvm.Cond.lays "BombFamilies" "BombFamilies" "fault" "I") ∈ lw_all := lw_g (lw_at lw_m2 101 rfl) rfl
theorem q383 : (Jvm.Cond.soleField "BombFamilies" "fault") ∈ lw_all := lw_g (lw_at lw_m2 102 rfl) rfl
theorem q384 : (Jvm.Cond.lays "BombFamilies" "BombFamilies" "place" "I") ∈ lw_all := lw_g (lw_at lw_m2 103 rfl) rfl
theorem q385 : (Jvm.Cond.soleField "BombFamilies" "place") ∈ lw_all := lw_g (lw_at lw_m2 104 rfl) rfl
theorem q386 : (Jvm.Cond.lays "BombFamilies" "BombFamilies" "reads" "I") ∈ lw_all := lw_g (lw_at lw_m2 105 rfl) rfl
theorem q387 : (Jvm.Cond.soleField "BombFamilies" "reads") ∈ lw_all := lw_g (lw_at lw_m2 106 rfl) rfl
theorem q388 : (Jvm.Cond.superclass "BombFamilies" "java/lang/Object") ∈ lw_all := lw_g (lw_at lw_m2 107 rfl) rfl
theorem q390 : (Jvm.Cond.instanceMethod ({ cls := "BombFamilies", name := "feed", desc := "(IJ)I" } : Jvm.MethodName)) ∈ lw_all := lw_g (lw_at lw_m2 109 rfl) rfl
theorem q391 : (Jvm.Cond.selects "BombFamilies" ({ cls := "BombFamilies", name := "feed", desc := "(IJ)I" } : Jvm.MethodName) ({ cls := "BombFamilies", name := "feed", desc := "(IJ)I" } : Jvm.MethodName)) ∈ lw_all := lw_g (lw_at lw_m2 110 rfl) rfl
theorem q392 : (Jvm.Cond.code ({ cls := "BombFamilies", name := "feed", desc := "(IJ)I" } : Jvm.MethodName) prog_1_method_13_code (5 : Nat) (Option.some Jvm.ClassFile.FieldType.int)) ∈ lw_all := lw_g (lw_at lw_m2 111 rfl) rfl
theorem q393 : (Jvm.Cond.methodLink "BombFamilies" (151 : Nat) ({ cls := "BombFamilies", name := "in", desc := "(III)Z" } : Jvm.MethodName)) ∈ lw_all := lw_g (lw_at lw_m2 112 rfl) rfl
theorem q394 : (Jvm.Cond.methodLink "BombFamilies" (123 : Nat) ({ cls := "BombFamilies$Bytes", name := "add", desc := "(I)V" } : Jvm.MethodName)) ∈ lw_all := lw_g (lw_at lw_m2 113 rfl) rfl
theorem q396 : (Jvm.Cond.instanceMethod ({ cls := "BombFamilies", name := "cut", desc := "(I)I" } : Jvm.MethodName)) ∈ lw_all := lw_g (lw_at lw_m2 115 rfl) rfl
theorem q397 : (Jvm.Cond.selects "BombFamilies" ({ cls := "BombFamilies", name := "cut", desc := "(I)I" } : Jvm.MethodName) ({ cls := "BombFamilies", name := "cut", desc := "(I)I" } : Jvm.MethodName)) ∈ lw_all := lw_g (lw_at lw_m2 116 rfl) rfl
theorem q398 : (Jvm.Cond.code ({ cls := "BombFamilies", name := "cut", desc := "(I)I" } : Jvm.MethodName) prog_1_method_14_code (3 : Nat) (Option.some Jvm.ClassFile.FieldType.int)) ∈ lw_all := lw_g (lw_at lw_m2 117 rfl) rfl
theorem q400 : (Jvm.Cond.instanceMethod ({ cls := "BombFamilies", name := "alter", desc := "(II)I" } : Jvm.MethodName)) ∈ lw_all := lw_g (lw_at lw_m2 119 rfl) rfl
theorem q401 : (Jvm.Cond.selects "BombFamilies" ({ cls := "BombFamilies", name := "alter", desc := "(II)I" } : Jvm.MethodName) ({ cls := "BombFamilies", name := "alter", desc := "(II)I" } : Jvm.MethodName)) ∈ lw_all := lw_g (lw_at lw_m2 120 rfl) rfl
theorem q402 : (Jvm.Cond.code ({ cls := "BombFamilies", name := "alter", desc := "(II)I" } : Jvm.MethodName) prog_1_method_15_code (4 : Nat) (Option.some Jvm.ClassFile.FieldType.int)) ∈ lw_all := lw_g (lw_at lw_m2 121 rfl) rfl
theorem q403 : (Jvm.Cond.methodLink "BombFamilies" (155 : Nat) ({ cls := "BombFamilies$Bytes", name := "at", desc := "(I)I" } : Jvm.MethodName)) ∈ lw_all := lw_g (lw_at lw_m2 122 rfl) rfl
theorem q405 : (Jvm.Cond.instanceMethod ({ cls := "BombFamilies", name := "at", desc := "(I)I" } : Jvm.MethodName)) ∈ lw_all := lw_g (lw_at lw_m2 124 rfl) rfl
theorem q406 : (Jvm.Cond.selects "BombFamilies" ({ cls := "BombFamilies", name := "at", desc := "(I)I" } : Jvm.MethodName) ({ cls := "BombFamilies", name := "at", desc := "(I)I" } : Jvm.MethodName)) ∈ lw_all := lw_g (lw_at lw_m2 125 rfl) rfl
theorem q407 : (Jvm.Cond.code ({ cls := "BombFamilies", name := "at", desc := "(I)I" } : Jvm.MethodName) prog_1_method_16_code (2 : Nat) (Option.some Jvm.ClassFile.FieldType.int)) ∈ lw_all := lw_g (lw_at lw_m2 126 rfl) rfl
theorem q409 : (Jvm.Cond.instanceMethod ({ cls := "BombFamilies", name := "mend", desc := "()I" } : Jvm.MethodName)) ∈ lw_all := lw_g (lw_at lw_m2 128 rfl) rfl
theorem q410 : (Jvm.Cond.selects "BombFamilies" ({ cls := "BombFamilies", name := "mend", desc := "()I" } : Jvm.MethodName) ({ cls := "BombFamilies", name := "mend", desc := "()I" } : Jvm.MethodName)) ∈ lw_all := lw_g (lw_at lw_m2 129 rfl) rfl
theorem q411 : (Jvm.Cond.code ({ cls := "BombFamilies", name := "mend", desc := "()I" } : Jvm.MethodName) prog_1_method_17_code (2 : Nat) (Option.some Jvm.ClassFile.FieldType.int)) ∈ lw_all := lw_g (lw_at lw_m2 130 rfl) rfl
theorem q412 : (Jvm.Cond.methodLink "BombFamilies" (130 : Nat) ({ cls := "BombFamilies$Bytes", name := "check", desc := "(II)I" } : Jvm.MethodName)) ∈ lw_all := lw_g (lw_at lw_m2 131 rfl) rfl
theorem q414 : (Jvm.Cond.instanceMethod ({ cls := "BombFamilies", name := "draw", desc := "(II)I" } : Jvm.MethodName)) ∈ lw_all := lw_g (lw_at lw_m2 133 rfl) rfl
theorem q415 : (Jvm.Cond.selects "BombFamilies" ({ cls := "BombFamilies", name := "draw", desc := "(II)I" } : Jvm.MethodName) ({ cls := "BombFamilies", name := "draw", desc := "(II)I" } : Jvm.MethodName)) ∈ lw_all := lw_g (lw_at lw_m2 134 rfl) rfl
theorem q416 : (Jvm.Cond.code ({ cls := "BombFamilies", name := "draw", desc := "(II)I" } : Jvm.MethodName) prog_1_method_18_code (3 : Nat) (Option.some Jvm.ClassFile.FieldType.int)) ∈ lw_all := lw_g (lw_at lw_m2 135 rfl) rfl
theorem q417 : (Jvm.Cond.methodLink "BombFamilies" (134 : Nat) ({ cls := "BombFamilies", name := "put", desc := "([I)V" } : Jvm.MethodName)) ∈ lw_all := lw_g (lw_at lw_m2 136 rfl) rfl
theorem q418 : (Jvm.Cond.privateMethod ({ cls := "BombFamilies", name := "put", desc := "([I)V" } : Jvm.MethodName)) ∈ lw_tbl := lw_at lw_m2 137 rfl
theorem q419 : (Jvm.Cond.instanceMethod ({ cls := "BombFamilies", name := "put", desc := "([I)V" } : Jvm.MethodName)) ∈ lw_all := lw_g (lw_at lw_m2 138 rfl) rfl
theorem q420 : (Jvm.Cond.code ({ cls := "BombFamilies", name := "put", desc := "([I)V" } : Jvm.MethodName) prog_1_method_6_code (6 : Nat) (Option.none : Option Jvm.ClassFile.FieldType)) ∈ lw_all := lw_g (lw_at lw_m2 139 rfl) rfl
theorem q421 : (Jvm.Cond.methodLink "BombFamilies" (138 : Nat) ({ cls := "BombFamilies", name := "putDrawn", desc := "(I)V" } : Jvm.MethodName)) ∈ lw_all := lw_g (lw_at lw_m2 140 rfl) rfl
theorem q422 : (Jvm.Cond.privateMethod ({ cls := "BombFamilies", name := "putDrawn", desc := "(I)V" } : Jvm.MethodName)) ∈ lw_tbl := lw_at lw_m2 141 rfl
theorem q423 : (Jvm.Cond.instanceMethod ({ cls := "BombFamilies", name := "putDrawn", desc := "(I)V" } : Jvm.MethodName)) ∈ lw_all := lw_g (lw_at lw_m2 142 rfl) rfl
theorem q424 : (Jvm.Cond.code ({ cls := "BombFamilies", name := "putDrawn", desc := "(I)V" } : Jvm.MethodName) prog_1_method_7_code (3 : Nat) (Option.none : Option Jvm.ClassFile.FieldType)) ∈ lw_all := lw_g (lw_at lw_m2 143 rfl) rfl
theorem q425 : (Jvm.Cond.methodLink "BombFamilies" (126 : Nat) ({ cls := "BombFamilies", name := "drawn", desc := "(I)I" } : Jvm.MethodName)) ∈ lw_all := lw_g (lw_at lw_m2 144 rfl) rfl
theorem q426 : (Jvm.Cond.privateMethod ({ cls := "BombFamilies", name := "drawn", desc := "(I)I" } : Jvm.MethodName)) ∈ lw_tbl := lw_at lw_m2 145 rfl
theorem q427 : (Jvm.Cond.instanceMethod ({ cls := "BombFamilies", name := "drawn", desc := "(I)I" } : Jvm.MethodName)) ∈ lw_all := lw_g (lw_at lw_m2 146 rfl) rfl
theorem q428 : (Jvm.Cond.code ({ cls := "BombFamilies", name := "drawn", desc := "(I)I" } : Jvm.MethodName) prog_1_method_5_code (2 : Nat) (Option.some Jvm.ClassFile.FieldType.int)) ∈ lw_all := lw_g (lw_at lw_m2 147 rfl) rfl
theorem q429 : (Jvm.Cond.constantLong "BombFamilies" (119 : Nat) (6364136223846793005 : Int64)) ∈ lw_all := lw_g (lw_at lw_m2 148 rfl) rfl
theorem q430 : (Jvm.Cond.constantLong "BombFamilies" (121 : Nat) (1442695040888963407 : Int64)) ∈ lw_all := lw_g (lw_at lw_m2 149 rfl) rfl
theorem q431 : (Jvm.Cond.methodLink "BombFamilies" (141 : Nat) ({ cls := "BombFamilies", name := "putEnd", desc := "(I)V" } : Jvm.MethodName)) ∈ lw_all := lw_g (lw_at lw_m2 150 rfl) rfl
theorem q432 : (Jvm.Cond.privateMethod ({ cls := "BombFamilies", name := "putEnd", desc := "(I)V" } : Jvm.MethodName)) ∈ lw_tbl := lw_at lw_m2 151 rfl
theorem q433 : (Jvm.Cond.instanceMethod ({ cls := "BombFamilies", name := "putEnd", desc := "(I)V" } : Jvm.MethodName)) ∈ lw_all := lw_g (lw_at lw_m2 152 rfl) rfl
theorem q434 : (Jvm.Cond.code ({ cls := "BombFamilies", name := "putEnd", desc := "(I)V" } : Jvm.MethodName) prog_1_method_8_code (2 : Nat) (Option.none : Option Jvm.ClassFile.FieldType)) ∈ lw_all := lw_g (lw_at lw_m2 153 rfl) rfl
theorem q435 : (Jvm.Cond.methodLink "BombFamilies" (158 : Nat) ({ cls := "BombFamilies", name := "putNests", desc := "(I)V" } : Jvm.MethodName)) ∈ lw_all := lw_g (lw_at lw_m2 154 rfl) rfl
theorem q436 : (Jvm.Cond.privateMethod ({ cls := "BombFamilies", name := "putNests", desc := "(I)V" } : Jvm.MethodName)) ∈ lw_tbl := lw_at lw_m2 155 rfl
theorem q437 : (Jvm.Cond.instanceMethod ({ cls := "BombFamilies", name := "putNests", desc := "(I)V" } : Jvm.MethodName)) ∈ lw_all := lw_g (lw_at lw_m2 156 rfl) rfl
theorem q438 : (Jvm.Cond.code ({ cls := "BombFamilies", name := "putNests", desc := "(I)V" } : Jvm.MethodName) prog_1_method_10_code (4 : Nat) (Option.none : Option Jvm.ClassFile.FieldType)) ∈ lw_all := lw_g (lw_at lw_m2 157 rfl) rfl
theorem q439 : (Jvm.Cond.methodLink "BombFamilies" (161 : Nat) ({ cls := "BombFamilies", name := "putSome", desc := "(II)V" } : Jvm.MethodName)) ∈ lw_all := lw_g (lw_at lw_m2 158 rfl) rfl
theorem q440 : (Jvm.Cond.privateMethod ({ cls := "BombFamilies", name := "putSome", desc := "(II)V" } : Jvm.MethodName)) ∈ lw_tbl := lw_at lw_m2 159 rfl
theorem q441 : (Jvm.Cond.instanceMethod ({ cls := "BombFamilies", name := "putSome", desc := "(II)V" } : Jvm.MethodName)) ∈ lw_all := lw_g (lw_at lw_m2 160 rfl) rfl
theorem q442 : (Jvm.Cond.code ({ cls := "BombFamilies", name := "putSome", desc := "(II)V" } : Jvm.MethodName) prog_1_method_12_code (4 : Nat) (Option.none : Option Jvm.ClassFile.FieldType)) ∈ lw_all := lw_g (lw_at lw_m2 161 rfl) rfl
theorem q443 : (Jvm.Cond.methodLink "BombFamilies" (144 : Nat) ({ cls := "BombFamilies", name := "putItem", desc := "(I)V" } : Jvm.MethodName)) ∈ lw_all := lw_g (lw_at lw_m2 162 rfl) rfl
theorem q444 : (Jvm.Cond.privateMethod ({ cls := "BombFamilies", name := "putItem", desc := "(I)V" } : Jvm.MethodName)) ∈ lw_tbl := lw_at lw_m2 163 rfl
theorem q445 : (Jvm.Cond.instanceMethod ({ cls := "BombFamilies", name := "putItem", desc := "(I)V" } : Jvm.MethodName)) ∈ lw_all := lw_g (lw_at lw_m2 164 rfl) rfl
theorem q446 : (Jvm.Cond.code ({ cls := "BombFamilies", name := "putItem", desc := "(I)V" } : Jvm.MethodName) prog_1_method_9_code (4 : Nat) (Option.none : Option Jvm.ClassFile.FieldType)) ∈ lw_all := lw_g (lw_at lw_m2 165 rfl) rfl
theorem q447 : (Jvm.Cond.methodLink "BombFamilies" (164 : Nat) ({ cls := "BombFamilies", name := "putLikes", desc := "(II)V" } : Jvm.MethodName)) ∈ lw_all := lw_g (lw_at lw_m2 166 rfl) rfl
theorem q448 : (Jvm.Cond.privateMethod ({ cls := "BombFamilies", name := "putLikes", desc := "(II)V" } : Jvm.MethodName)) ∈ lw_tbl := lw_at lw_m2 167 rfl
theorem q449 : (Jvm.Cond.instanceMethod ({ cls := "BombFamilies", name := "putLikes", desc := "(II)V" } : Jvm.MethodName)) ∈ lw_all := lw_g (lw_at lw_m2 168 rfl) rfl
theorem q450 : (Jvm.Cond.code ({ cls := "BombFamilies", name := "putLikes", desc := "(II)V" } : Jvm.MethodName) prog_1_method_11_code (4 : Nat) (Option.none : Option Jvm.ClassFile.FieldType)) ∈ lw_all := lw_g (lw_at lw_m2 169 rfl) rfl
theorem q452 : (Jvm.Cond.instanceMethod ({ cls := "BombFamilies", name := "open", desc := "(III)I" } : Jvm.MethodName)) ∈ lw_all := lw_g (lw_at lw_m2 171 rfl) rfl
theorem q453 : (Jvm.Cond.selects "BombFamilies" ({ cls := "BombFamilies", name := "open", desc := "(III)I" } : Jvm.MethodName) ({ cls := "BombFamilies", name := "open", desc := "(III)I" } : Jvm.MethodName)) ∈ lw_all := lw_g (lw_at lw_m2 172 rfl) rfl
theorem q454 : (Jvm.Cond.code ({ cls := "BombFamilies", name := "open", desc := "(III)I" } : Jvm.MethodName) prog_1_method_20_code (4 : Nat) (Option.some Jvm.ClassFile.FieldType.int)) ∈ lw_all := lw_g (lw_at lw_m2 173 rfl) rfl
theorem q455 : (Jvm.Cond.methodLink "BombFamilies" (167 : Nat) ({ cls := "BombFamilies", name := "areBounds", desc := "(III)Z" } : Jvm.MethodName)) ∈ lw_all := lw_g (lw_at lw_m2 174 rfl) rfl
theorem q456 : (Jvm.Cond.static ({ cls := "BombFamilies", name := "areBounds", desc := "(III)Z" } : Jvm.MethodName)) ∈ lw_all := lw_g (lw_at lw_m2 175 rfl) rfl
theorem q457 : (Jvm.Cond.code ({ cls := "BombFamilies", name := "areBounds", desc := "(III)Z" } : Jvm.MethodName) prog_1_method_19_code (3 : Nat) (Option.some Jvm.ClassFile.FieldType.boolean)) ∈ lw_all := lw_g (lw_at lw_m2 176 rfl) rfl
theorem q458 : (Jvm.Cond.methodLink "BombFamilies" (170 : Nat) ({ cls := "BombFamilies", name := "read", desc := "(III)V" } : Jvm.MethodName)) ∈ lw_all := lw_g (lw_at lw_m2 177 rfl) rfl
theorem q459 : (Jvm.Cond.privateMethod ({ cls := "BombFamilies", name := "read", desc := "(III)V" } : Jvm.MethodName)) ∈ lw_tbl := lw_at lw_m2 178 rfl
theorem q460 : (Jvm.Cond.instanceMethod ({ cls := "BombFamilies", name := "read", desc := "(III)V" } : Jvm.MethodName)) ∈ lw_all := lw_g (lw_at lw_m2 179 rfl) rfl
theorem q461 : (Jvm.Cond.codeWith ({ cls := "BombFamilies", name := "read", desc := "(III)V" } : Jvm.MethodName) prog_1_method_2_code (5 : Nat) (Option.none : Option Jvm.ClassFile.FieldType) [((68 : Nat), (85 : Nat), (88 : Nat), (59 : Nat))]) ∈ lw_all := lw_g (lw_at lw_m2 180 rfl) rfl
theorem q462 : (Jvm.Cond.methodLink "BombFamilies" (53 : Nat) ({ cls := "BombFamilies$Scope", name := "read", desc := "(II)V" } : Jvm.MethodName)) ∈ lw_all := lw_g (lw_at lw_m2 181 rfl) rfl
theorem q464 : (Jvm.Cond.instanceMethod ({ cls := "BombFamilies", name := "place", desc := "()I" } : Jvm.MethodName)) ∈ lw_all := lw_g (lw_at lw_m2 183 rfl) rfl
theorem q465 : (Jvm.Cond.selects "BombFamilies" ({ cls := "BombFamilies", name := "place", desc := "()I" } : Jvm.MethodName) ({ cls := "BombFamilies", name := "place", desc := "()I" } : Jvm.MethodName)) ∈ lw_all := lw_g (lw_at lw_m2 184 rfl) rfl
theorem q466 : (Jvm.Cond.code ({ cls := "BombFamilies", name := "place", desc := "()I" } : Jvm.MethodName) prog_1_method_21_code (1 : Nat) (Option.some Jvm.ClassFile.FieldType.int)) ∈ lw_all := lw_g (lw_at lw_m2 185 rfl) rfl
theorem q468 : (Jvm.Cond.instanceMethod ({ cls := "BombFamilies", name := "out", desc := "(I)I" } : Jvm.MethodName)) ∈ lw_all := lw_g (lw_at lw_m2 187 rfl) rfl
theorem q469 : (Jvm.Cond.selects "BombFamilies" ({ cls := "BombFamilies", name := "out", desc := "(I)I" } : Jvm.MethodName) ({ cls := "BombFamilies", name := "out", desc := "(I)I" } : Jvm.MethodName)) ∈ lw_all := lw_g (lw_at lw_m2 188 rfl) rfl
theorem q470 : (Jvm.Cond.code ({ cls := "BombFamilies", name := "out", desc := "(I)I" } : Jvm.MethodName) prog_1_method_22_code (2 : Nat) (Option.some Jvm.ClassFile.FieldType.int)) ∈ lw_all := lw_g (lw_at lw_m2 189 rfl) rfl
theorem q472 : (Jvm.Cond.instanceMethod ({ cls := "BombFamilies", name := "item", desc := "(II)I" } : Jvm.MethodName)) ∈ lw_all := lw_g (lw_at lw_m2 191 rfl) rfl
theorem q473 : (Jvm.Cond.selects "BombFamilies" ({ cls := "BombFamilies", name := "item", desc := "(II)I" } : Jvm.MethodName) ({ cls := "BombFamilies", name := "item", desc := "(II)I" } : Jvm.MethodName)) ∈ lw_all := lw_g (lw_at lw_m2 192 rfl) rfl
theorem q474 : (Jvm.Cond.code ({ cls := "BombFamilies", name := "item", desc := "(II)I" } : Jvm.MethodName) prog_1_method_23_code (3 : Nat) (Option.some Jvm.ClassFile.FieldType.int)) ∈ lw_all := lw_g (lw_at lw_m2 193 rfl) rfl
theorem q476 : (Jvm.Cond.instanceMethod ({ cls := "BombFamilies", name := "shrink", desc := "(III)I" } : Jvm.MethodName)) ∈ lw_all := lw_g (lw_at lw_m2 195 rfl) rfl
theorem q477 : (Jvm.Cond.selects "BombFamilies" ({ cls := "BombFamilies", name := "shrink", desc := "(III)I" } : Jvm.MethodName) ({ cls := "BombFamilies", name := "shrink", desc := "(III)I" } : Jvm.MethodName)) ∈ lw_all := lw_g (lw_at lw_m2 196 rfl) rfl
theorem q478 : (Jvm.Cond.code ({ cls := "BombFamilies", name := "shrink", desc := "(III)I" } : Jvm.MethodName) prog_1_method_24_code (9 : Nat) (Option.some Jvm.ClassFile.FieldType.int)) ∈ lw_all := lw_g (lw_at lw_m2 197 rfl) rfl
theorem q479 : (Jvm.Cond.methodLink "BombFamilies" (173 : Nat) ({ cls := "BombFamilies$Bytes", name := "become", desc := "(LBombFamilies$Bytes;II)V" } : Jvm.MethodName)) ∈ lw_all := lw_g (lw_at lw_m2 198 rfl) rfl
theorem q487 : (Jvm.Cond.instanceMethod ({ cls := "BombFamilies", name := "count", desc := "(I)I" } : Jvm.MethodName)) ∈ lw_all := lw_g (lw_at lw_m2 206 rfl) rfl
theorem q488 : (Jvm.Cond.selects "BombFamilies" ({ cls := "BombFamilies", name := "count", desc := "(I)I" } : Jvm.MethodName) ({ cls := "BombFamilies", name := "count", desc := "(I)I" } : Jvm.MethodName)) ∈ lw_all := lw_g (lw_at lw_m2 207 rfl) rfl
theorem q489 : (Jvm.Cond.code ({ cls := "BombFamilies", name := "count", desc := "(I)I" } : Jvm.MethodName) prog_1_method_25_code (2 : Nat) (Option.some Jvm.ClassFile.FieldType.int)) ∈ lw_all := lw_g (lw_at lw_m2 208 rfl) rfl
theorem in_X1 : ∀ w ∈ wsX10, w ∈ lw_all := lw_in wsX10 [346, 348, 350, 352, 354, 356, 358, 360, 362, 364, 366, 368, 370, 372, 374, 376, 378, 380, 382, 384, 386] (by decide +kernel) (by decide +kernel)
