set_option maxRecDepth 100000
/-! DeadUnderstudies -/
def RX0 : String := "DeadUnderstudies"
def TX0 : u_T := fun k => match k with
  | 0 => ("DeadUnderstudies", "status", "I", false)
  | 1 => ("DeadUnderstudies", "refused", "[I", true)
  | 2 => ("DeadUnderstudies", "state", "LDeadUnderstudies$State;", true)
  | 3 => ("DeadUnderstudies", "images", "[LDeadUnderstudies$State;", true)
  | 4 => ("DeadUnderstudies", "tape", "[B", true)
  | 5 => ("DeadUnderstudies", "taped", "I", false)
  | 6 => ("DeadUnderstudies", "fault", "I", false)
  | 7 => ("DeadUnderstudies", "prattle", "I", false)
  | 8 => ("DeadUnderstudies", "setting", "LDeadUnderstudies$Setting;", true)
  | 9 => ("DeadUnderstudies", "side", "LDeadUnderstudies$Apart;", true)
  | 10 => ("DeadUnderstudies", "filled", "LDeadUnderstudies$Script;", true)
  | 11 => ("DeadUnderstudies", "other", "LDeadUnderstudies$Script;", true)
  | 12 => ("DeadUnderstudies", "talk", "LDeadUnderstudies$Talk;", true)
  | 13 => ("DeadUnderstudies", "voices", "[I", true)
  | 14 => ("DeadUnderstudies", "pupils", "LDeadUnderstudies$Chain;", true)
  | 15 => ("DeadUnderstudies", "casting", "LDeadUnderstudies$Cast;", true)
  | 16 => ("DeadUnderstudies", "stands", "[I", true)
  | 17 => ("DeadUnderstudies", "smallest", "LDeadUnderstudies$Least;", true)
  | 18 => ("DeadUnderstudies", "old", "LDeadUnderstudies$Script;", true)
  | 19 => ("DeadUnderstudies", "drawnTimes", "[I", true)
  | 20 => ("DeadUnderstudies", "drawnPeople", "I", false)
  | _ => ("DeadUnderstudies", "drawn", "I", false)
def tyX0 : Nat → FieldType := fun k => match k with
  | 0 => .int
  | 1 => .array .int
  | 2 => .object "DeadUnderstudies$State"
  | 3 => .array (.object "DeadUnderstudies$State")
  | 4 => .array .byte
  | 5 => .int
  | 6 => .int
  | 7 => .int
  | 8 => .object "DeadUnderstudies$Setting"
  | 9 => .object "DeadUnderstudies$Apart"
  | 10 => .object "DeadUnderstudies$Script"
  | 11 => .object "DeadUnderstudies$Script"
  | 12 => .object "DeadUnderstudies$Talk"
  | 13 => .array .int
  | 14 => .object "DeadUnderstudies$Chain"
  | 15 => .object "DeadUnderstudies$Cast"
  | 16 => .array .int
  | 17 => .object "DeadUnderstudies$Least"
  | 18 => .object "DeadUnderstudies$Script"
  | 19 => .array .int
  | 20 => .int
  | _ => .int
abbrev wsX00 : List Cond := u_ws RX0 TX0 22
set_option maxRecDepth 100000 in
theorem nmX0 : ∀ a, a < 22 → ∀ b, b < 22 → a ≠ b → (TX0 a).2.1 ≠ (TX0 b).2.1 := by decide +kernel
set_option maxRecDepth 100000 in
theorem tyX0_ok : ∀ k, k < 22 → parseFieldDescriptor (TX0 k).2.2.1 = some (tyX0 k) := by decide +kernel
abbrev cX0_init : ByteArray := prog_1_method_1_code
def yX0_init : MethodName := ⟨RX0, "<init>", "()V"⟩
def dkwX0_init_7 : List UInt8 := [181, 0, 92, 42, 16, 8, 188, 10, 181, 0, 95, 42, 2, 181, 0, 98, 177]
abbrev dktX0_init_7 : List UInt8 := dkwX0_init_7 ++ []
def dkwX0_init_6 : List UInt8 := [181, 0, 82, 42, 187, 0, 85, 89, 42, 183, 0, 87, 181, 0, 88, 42, 187, 0, 48, 89, 183, 0, 50]
abbrev dktX0_init_6 : List UInt8 := dkwX0_init_6 ++ dktX0_init_7
def dkwX0_init_5 : List UInt8 := [42, 183, 0, 70, 181, 0, 71, 42, 187, 0, 75, 89, 42, 183, 0, 77, 181, 0, 78, 42, 7, 188, 10]
abbrev dktX0_init_5 : List UInt8 := dkwX0_init_5 ++ dktX0_init_6
def dkwX0_init_4 : List UInt8 := [187, 0, 58, 89, 42, 183, 0, 60, 181, 0, 61, 42, 16, 11, 188, 10, 181, 0, 65, 42, 187, 0, 68, 89]
abbrev dktX0_init_4 : List UInt8 := dkwX0_init_4 ++ dktX0_init_5
def dkwX0_init_3 : List UInt8 := [187, 0, 48, 89, 183, 0, 50, 181, 0, 51, 42, 187, 0, 48, 89, 183, 0, 50, 181, 0, 55, 42]
abbrev dktX0_init_3 : List UInt8 := dkwX0_init_3 ++ dktX0_init_4
def dkwX0_init_2 : List UInt8 := [187, 0, 32, 89, 183, 0, 34, 181, 0, 35, 42, 187, 0, 39, 89, 42, 183, 0, 41, 181, 0, 44, 42]
abbrev dktX0_init_2 : List UInt8 := dkwX0_init_2 ++ dktX0_init_3
def dkwX0_init_1 : List UInt8 := [5, 189, 0, 13, 181, 0, 20, 42, 17, 1, 144, 188, 8, 181, 0, 24, 42, 2, 181, 0, 28, 42]
abbrev dktX0_init_1 : List UInt8 := dkwX0_init_1 ++ dktX0_init_2
def dkwX0_init_0 : List UInt8 := [42, 183, 0, 3, 42, 16, 7, 188, 10, 181, 0, 9, 42, 187, 0, 13, 89, 183, 0, 15, 181, 0, 16, 42]
abbrev dktX0_init_0 : List UInt8 := dkwX0_init_0 ++ dktX0_init_1
theorem dksX0_init_0 : cX0_init.data.toList.drop 0 = dktX0_init_0 := by decide +kernel
theorem dksX0_init_1 : cX0_init.data.toList.drop 24 = dktX0_init_1 := dk_seg dksX0_init_0 24 rfl rfl
theorem dksX0_init_2 : cX0_init.data.toList.drop 46 = dktX0_init_2 := dk_seg dksX0_init_1 22 rfl rfl
theorem dksX0_init_3 : cX0_init.data.toList.drop 69 = dktX0_init_3 := dk_seg dksX0_init_2 23 rfl rfl
theorem dksX0_init_4 : cX0_init.data.toList.drop 91 = dktX0_init_4 := dk_seg dksX0_init_3 22 rfl rfl
theorem dksX0_init_5 : cX0_init.data.toList.drop 115 = dktX0_init_5 := dk_seg dksX0_init_4 24 rfl rfl
theorem dksX0_init_6 : cX0_init.data.toList.drop 138 = dktX0_init_6 := dk_seg dksX0_init_5 23 rfl rfl
theorem dksX0_init_7 : cX0_init.data.toList.drop 161 = dktX0_init_7 := dk_seg dksX0_init_6 23 rfl rfl
theorem dX0_init_0 : decode cX0_init 0 = .ok (.aload_n 0, 1) := dk_42 (dk_at dksX0_init_0 0 rfl rfl)
theorem dX0_init_1 : decode cX0_init 1 = .ok (.invokespecial 3, 3) := dk_183 0 3 (dk_at dksX0_init_0 1 rfl rfl)
theorem dX0_init_4 : decode cX0_init 4 = .ok (.aload_n 0, 1) := dk_42 (dk_at dksX0_init_0 4 rfl rfl)
theorem dX0_init_5 : decode cX0_init 5 = .ok (.bipush 7, 2) := dk_16 7 (dk_at dksX0_init_0 5 rfl rfl)
theorem dX0_init_7 : decode cX0_init 7 = .ok (.newarray .int, 2) := dk_188_10 (dk_at dksX0_init_0 7 rfl rfl)
theorem dX0_init_9 : decode cX0_init 9 = .ok (.putfield 9, 3) := dk_181 0 9 (dk_at dksX0_init_0 9 rfl rfl)
theorem dX0_init_12 : decode cX0_init 12 = .ok (.aload_n 0, 1) := dk_42 (dk_at dksX0_init_0 12 rfl rfl)
theorem dX0_init_13 : decode cX0_init 13 = .ok (.new 13, 3) := dk_187 0 13 (dk_at dksX0_init_0 13 rfl rfl)
theorem dX0_init_16 : decode cX0_init 16 = .ok (.dup, 1) := dk_89 (dk_at dksX0_init_0 16 rfl rfl)
theorem dX0_init_17 : decode cX0_init 17 = .ok (.invokespecial 15, 3) := dk_183 0 15 (dk_at dksX0_init_0 17 rfl rfl)
theorem dX0_init_20 : decode cX0_init 20 = .ok (.putfield 16, 3) := dk_181 0 16 (dk_at dksX0_init_0 20 rfl rfl)
theorem dX0_init_23 : decode cX0_init 23 = .ok (.aload_n 0, 1) := dk_42 (dk_at dksX0_init_0 23 rfl rfl)
theorem dX0_init_24 : decode cX0_init 24 = .ok (.iconst 2, 1) := dk_5 (dk_at dksX0_init_1 0 rfl rfl)
theorem dX0_init_25 : decode cX0_init 25 = .ok (.anewarray 13, 3) := dk_189 0 13 (dk_at dksX0_init_1 1 rfl rfl)
theorem dX0_init_28 : decode cX0_init 28 = .ok (.putfield 20, 3) := dk_181 0 20 (dk_at dksX0_init_1 4 rfl rfl)
theorem dX0_init_31 : decode cX0_init 31 = .ok (.aload_n 0, 1) := dk_42 (dk_at dksX0_init_1 7 rfl rfl)
theorem dX0_init_32 : decode cX0_init 32 = .ok (.sipush 400, 3) := dk_17 1 144 (dk_at dksX0_init_1 8 rfl rfl)
theorem dX0_init_35 : decode cX0_init 35 = .ok (.newarray .byte, 2) := dk_188_8 (dk_at dksX0_init_1 11 rfl rfl)
theorem dX0_init_37 : decode cX0_init 37 = .ok (.putfield 24, 3) := dk_181 0 24 (dk_at dksX0_init_1 13 rfl rfl)
theorem dX0_init_40 : decode cX0_init 40 = .ok (.aload_n 0, 1) := dk_42 (dk_at dksX0_init_1 16 rfl rfl)
theorem dX0_init_41 : decode cX0_init 41 = .ok (.iconst (-1), 1) := dk_2 (dk_at dksX0_init_1 17 rfl rfl)
theorem dX0_init_42 : decode cX0_init 42 = .ok (.putfield 28, 3) := dk_181 0 28 (dk_at dksX0_init_1 18 rfl rfl)
theorem dX0_init_45 : decode cX0_init 45 = .ok (.aload_n 0, 1) := dk_42 (dk_at dksX0_init_1 21 rfl rfl)
theorem dX0_init_46 : decode cX0_init 46 = .ok (.new 32, 3) := dk_187 0 32 (dk_at dksX0_init_2 0 rfl rfl)
theorem dX0_init_49 : decode cX0_init 49 = .ok (.dup, 1) := dk_89 (dk_at dksX0_init_2 3 rfl rfl)
theorem dX0_init_50 : decode cX0_init 50 = .ok (.invokespecial 34, 3) := dk_183 0 34 (dk_at dksX0_init_2 4 rfl rfl)
theorem dX0_init_53 : decode cX0_init 53 = .ok (.putfield 35, 3) := dk_181 0 35 (dk_at dksX0_init_2 7 rfl rfl)
theorem dX0_init_56 : decode cX0_init 56 = .ok (.aload_n 0, 1) := dk_42 (dk_at dksX0_init_2 10 rfl rfl)
theorem dX0_init_57 : decode cX0_init 57 = .ok (.new 39, 3) := dk_187 0 39 (dk_at dksX0_init_2 11 rfl rfl)
theorem dX0_init_60 : decode cX0_init 60 = .ok (.dup, 1) := dk_89 (dk_at dksX0_init_2 14 rfl rfl)
theorem dX0_init_61 : decode cX0_init 61 = .ok (.aload_n 0, 1) := dk_42 (dk_at dksX0_init_2 15 rfl rfl)
theorem dX0_init_62 : decode cX0_init 62 = .ok (.invokespecial 41, 3) := dk_183 0 41 (dk_at dksX0_init_2 16 rfl rfl)
theorem dX0_init_65 : decode cX0_init 65 = .ok (.putfield 44, 3) := dk_181 0 44 (dk_at dksX0_init_2 19 rfl rfl)
theorem dX0_init_68 : decode cX0_init 68 = .ok (.aload_n 0, 1) := dk_42 (dk_at dksX0_init_2 22 rfl rfl)
theorem dX0_init_69 : decode cX0_init 69 = .ok (.new 48, 3) := dk_187 0 48 (dk_at dksX0_init_3 0 rfl rfl)
theorem dX0_init_72 : decode cX0_init 72 = .ok (.dup, 1) := dk_89 (dk_at dksX0_init_3 3 rfl rfl)
theorem dX0_init_73 : decode cX0_init 73 = .ok (.invokespecial 50, 3) := dk_183 0 50 (dk_at dksX0_init_3 4 rfl rfl)
theorem dX0_init_76 : decode cX0_init 76 = .ok (.putfield 51, 3) := dk_181 0 51 (dk_at dksX0_init_3 7 rfl rfl)
theorem dX0_init_79 : decode cX0_init 79 = .ok (.aload_n 0, 1) := dk_42 (dk_at dksX0_init_3 10 rfl rfl)
theorem dX0_init_80 : decode cX0_init 80 = .ok (.new 48, 3) := dk_187 0 48 (dk_at dksX0_init_3 11 rfl rfl)
theorem dX0_init_83 : decode cX0_init 83 = .ok (.dup, 1) := dk_89 (dk_at dksX0_init_3 14 rfl rfl)
theorem dX0_init_84 : decode cX0_init 84 = .ok (.invokespecial 50, 3) := dk_183 0 50 (dk_at dksX0_init_3 15 rfl rfl)
theorem dX0_init_87 : decode cX0_init 87 = .ok (.putfield 55, 3) := dk_181 0 55 (dk_at dksX0_init_3 18 rfl rfl)
theorem dX0_init_90 : decode cX0_init 90 = .ok (.aload_n 0, 1) := dk_42 (dk_at dksX0_init_3 21 rfl rfl)
theorem dX0_init_91 : decode cX0_init 91 = .ok (.new 58, 3) := dk_187 0 58 (dk_at dksX0_init_4 0 rfl rfl)
theorem dX0_init_94 : decode cX0_init 94 = .ok (.dup, 1) := dk_89 (dk_at dksX0_init_4 3 rfl rfl)
theorem dX0_init_95 : decode cX0_init 95 = .ok (.aload_n 0, 1) := dk_42 (dk_at dksX0_init_4 4 rfl rfl)
theorem dX0_init_96 : decode cX0_init 96 = .ok (.invokespecial 60, 3) := dk_183 0 60 (dk_at dksX0_init_4 5 rfl rfl)
theorem dX0_init_99 : decode cX0_init 99 = .ok (.putfield 61, 3) := dk_181 0 61 (dk_at dksX0_init_4 8 rfl rfl)
theorem dX0_init_102 : decode cX0_init 102 = .ok (.aload_n 0, 1) := dk_42 (dk_at dksX0_init_4 11 rfl rfl)
theorem dX0_init_103 : decode cX0_init 103 = .ok (.bipush 11, 2) := dk_16 11 (dk_at dksX0_init_4 12 rfl rfl)
theorem dX0_init_105 : decode cX0_init 105 = .ok (.newarray .int, 2) := dk_188_10 (dk_at dksX0_init_4 14 rfl rfl)
theorem dX0_init_107 : decode cX0_init 107 = .ok (.putfield 65, 3) := dk_181 0 65 (dk_at dksX0_init_4 16 rfl rfl)
theorem dX0_init_110 : decode cX0_init 110 = .ok (.aload_n 0, 1) := dk_42 (dk_at dksX0_init_4 19 rfl rfl)
theorem dX0_init_111 : decode cX0_init 111 = .ok (.new 68, 3) := dk_187 0 68 (dk_at dksX0_init_4 20 rfl rfl)
theorem dX0_init_114 : decode cX0_init 114 = .ok (.dup, 1) := dk_89 (dk_at dksX0_init_4 23 rfl rfl)
theorem dX0_init_115 : decode cX0_init 115 = .ok (.aload_n 0, 1) := dk_42 (dk_at dksX0_init_5 0 rfl rfl)
theorem dX0_init_116 : decode cX0_init 116 = .ok (.invokespecial 70, 3) := dk_183 0 70 (dk_at dksX0_init_5 1 rfl rfl)
theorem dX0_init_119 : decode cX0_init 119 = .ok (.putfield 71, 3) := dk_181 0 71 (dk_at dksX0_init_5 4 rfl rfl)
theorem dX0_init_122 : decode cX0_init 122 = .ok (.aload_n 0, 1) := dk_42 (dk_at dksX0_init_5 7 rfl rfl)
theorem dX0_init_123 : decode cX0_init 123 = .ok (.new 75, 3) := dk_187 0 75 (dk_at dksX0_init_5 8 rfl rfl)
theorem dX0_init_126 : decode cX0_init 126 = .ok (.dup, 1) := dk_89 (dk_at dksX0_init_5 11 rfl rfl)
theorem dX0_init_127 : decode cX0_init 127 = .ok (.aload_n 0, 1) := dk_42 (dk_at dksX0_init_5 12 rfl rfl)
theorem dX0_init_128 : decode cX0_init 128 = .ok (.invokespecial 77, 3) := dk_183 0 77 (dk_at dksX0_init_5 13 rfl rfl)
theorem dX0_init_131 : decode cX0_init 131 = .ok (.putfield 78, 3) := dk_181 0 78 (dk_at dksX0_init_5 16 rfl rfl)
theorem dX0_init_134 : decode cX0_init 134 = .ok (.aload_n 0, 1) := dk_42 (dk_at dksX0_init_5 19 rfl rfl)
theorem dX0_init_135 : decode cX0_init 135 = .ok (.iconst 4, 1) := dk_7 (dk_at dksX0_init_5 20 rfl rfl)
theorem dX0_init_136 : decode cX0_init 136 = .ok (.newarray .int, 2) := dk_188_10 (dk_at dksX0_init_5 21 rfl rfl)
theorem dX0_init_138 : decode cX0_init 138 = .ok (.putfield 82, 3) := dk_181 0 82 (dk_at dksX0_init_6 0 rfl rfl)
theorem dX0_init_141 : decode cX0_init 141 = .ok (.aload_n 0, 1) := dk_42 (dk_at dksX0_init_6 3 rfl rfl)
theorem dX0_init_142 : decode cX0_init 142 = .ok (.new 85, 3) := dk_187 0 85 (dk_at dksX0_init_6 4 rfl rfl)
theorem dX0_init_145 : decode cX0_init 145 = .ok (.dup, 1) := dk_89 (dk_at dksX0_init_6 7 rfl rfl)
theorem dX0_init_146 : decode cX0_init 146 = .ok (.aload_n 0, 1) := dk_42 (dk_at dksX0_init_6 8 rfl rfl)
theorem dX0_init_147 : decode cX0_init 147 = .ok (.invokespecial 87, 3) := dk_183 0 87 (dk_at dksX0_init_6 9 rfl rfl)
theorem dX0_init_150 : decode cX0_init 150 = .ok (.putfield 88, 3) := dk_181 0 88 (dk_at dksX0_init_6 12 rfl rfl)
theorem dX0_init_153 : decode cX0_init 153 = .ok (.aload_n 0, 1) := dk_42 (dk_at dksX0_init_6 15 rfl rfl)
theorem dX0_init_154 : decode cX0_init 154 = .ok (.new 48, 3) := dk_187 0 48 (dk_at dksX0_init_6 16 rfl rfl)
theorem dX0_init_157 : decode cX0_init 157 = .ok (.dup, 1) := dk_89 (dk_at dksX0_init_6 19 rfl rfl)
theorem dX0_init_158 : decode cX0_init 158 = .ok (.invokespecial 50, 3) := dk_183 0 50 (dk_at dksX0_init_6 20 rfl rfl)
theorem dX0_init_161 : decode cX0_init 161 = .ok (.putfield 92, 3) := dk_181 0 92 (dk_at dksX0_init_7 0 rfl rfl)
theorem dX0_init_164 : decode cX0_init 164 = .ok (.aload_n 0, 1) := dk_42 (dk_at dksX0_init_7 3 rfl rfl)
theorem dX0_init_165 : decode cX0_init 165 = .ok (.bipush 8, 2) := dk_16 8 (dk_at dksX0_init_7 4 rfl rfl)
theorem dX0_init_167 : decode cX0_init 167 = .ok (.newarray .int, 2) := dk_188_10 (dk_at dksX0_init_7 6 rfl rfl)
theorem dX0_init_169 : decode cX0_init 169 = .ok (.putfield 95, 3) := dk_181 0 95 (dk_at dksX0_init_7 8 rfl rfl)
theorem dX0_init_172 : decode cX0_init 172 = .ok (.aload_n 0, 1) := dk_42 (dk_at dksX0_init_7 11 rfl rfl)
theorem dX0_init_173 : decode cX0_init 173 = .ok (.iconst (-1), 1) := dk_2 (dk_at dksX0_init_7 12 rfl rfl)
theorem dX0_init_174 : decode cX0_init 174 = .ok (.putfield 98, 3) := dk_181 0 98 (dk_at dksX0_init_7 13 rfl rfl)
theorem dX0_init_177 : decode cX0_init 177 = .ok (.return_, 1) := dk_177 (dk_at dksX0_init_7 16 rfl rfl)
abbrev cX0_image : ByteArray := prog_1_method_16_code
def yX0_image : MethodName := ⟨RX0, "image", "(I)I"⟩
def dkwX0_image_2 : List UInt8 := [182, 0, 160, 42, 3, 182, 0, 164, 172]
abbrev dktX0_image_2 : List UInt8 := dkwX0_image_2 ++ []
def dkwX0_image_1 : List UInt8 := [42, 180, 0, 20, 27, 187, 0, 13, 89, 183, 0, 15, 83, 42, 180, 0, 20, 27, 50, 42, 180, 0, 16]
abbrev dktX0_image_1 : List UInt8 := dkwX0_image_1 ++ dktX0_image_2
def dkwX0_image_0 : List UInt8 := [27, 3, 4, 184, 0, 122, 154, 0, 9, 42, 2, 182, 0, 157, 172, 42, 180, 0, 20, 27, 50, 199, 0, 16]
abbrev dktX0_image_0 : List UInt8 := dkwX0_image_0 ++ dktX0_image_1
theorem dksX0_image_0 : cX0_image.data.toList.drop 0 = dktX0_image_0 := by decide +kernel
theorem dksX0_image_1 : cX0_image.data.toList.drop 24 = dktX0_image_1 := dk_seg dksX0_image_0 24 rfl rfl
theorem dksX0_image_2 : cX0_image.data.toList.drop 47 = dktX0_image_2 := dk_seg dksX0_image_1 23 rfl rfl
theorem dX0_image_0 : decode cX0_image 0 = .ok (.iload_n 1, 1) := dk_27 (dk_at dksX0_image_0 0 rfl rfl)
theorem dX0_image_1 : decode cX0_image 1 = .ok (.iconst 0, 1) := dk_3 (dk_at dksX0_image_0 1 rfl rfl)
theorem dX0_image_2 : decode cX0_image 2 = .ok (.iconst 1, 1) := dk_4 (dk_at dksX0_image_0 2 rfl rfl)
theorem dX0_image_3 : decode cX0_image 3 = .ok (.invokestatic 122, 3) := dk_184 0 122 (dk_at dksX0_image_0 3 rfl rfl)
theorem dX0_image_6 : decode cX0_image 6 = .ok (.ifCond .ne 9, 3) := dk_154 0 9 (dk_at dksX0_image_0 6 rfl rfl)
theorem dX0_image_9 : decode cX0_image 9 = .ok (.aload_n 0, 1) := dk_42 (dk_at dksX0_image_0 9 rfl rfl)
theorem dX0_image_10 : decode cX0_image 10 = .ok (.iconst (-1), 1) := dk_2 (dk_at dksX0_image_0 10 rfl rfl)
theorem dX0_image_11 : decode cX0_image 11 = .ok (.invokevirtual 157, 3) := dk_182 0 157 (dk_at dksX0_image_0 11 rfl rfl)
theorem dX0_image_14 : decode cX0_image 14 = .ok (.ireturn, 1) := dk_172 (dk_at dksX0_image_0 14 rfl rfl)
theorem dX0_image_15 : decode cX0_image 15 = .ok (.aload_n 0, 1) := dk_42 (dk_at dksX0_image_0 15 rfl rfl)
theorem dX0_image_16 : decode cX0_image 16 = .ok (.getfield 20, 3) := dk_180 0 20 (dk_at dksX0_image_0 16 rfl rfl)
theorem dX0_image_19 : decode cX0_image 19 = .ok (.iload_n 1, 1) := dk_27 (dk_at dksX0_image_0 19 rfl rfl)
theorem dX0_image_20 : decode cX0_image 20 = .ok (.aaload, 1) := dk_50 (dk_at dksX0_image_0 20 rfl rfl)
theorem dX0_image_21 : decode cX0_image 21 = .ok (.ifnonnull 16, 3) := dk_199 0 16 (dk_at dksX0_image_0 21 rfl rfl)
theorem dX0_image_24 : decode cX0_image 24 = .ok (.aload_n 0, 1) := dk_42 (dk_at dksX0_image_1 0 rfl rfl)
theorem dX0_image_25 : decode cX0_image 25 = .ok (.getfield 20, 3) := dk_180 0 20 (dk_at dksX0_image_1 1 rfl rfl)
theorem dX0_image_28 : decode cX0_image 28 = .ok (.iload_n 1, 1) := dk_27 (dk_at dksX0_image_1 4 rfl rfl)
theorem dX0_image_29 : decode cX0_image 29 = .ok (.new 13, 3) := dk_187 0 13 (dk_at dksX0_image_1 5 rfl rfl)
theorem dX0_image_32 : decode cX0_image 32 = .ok (.dup, 1) := dk_89 (dk_at dksX0_image_1 8 rfl rfl)
theorem dX0_image_33 : decode cX0_image 33 = .ok (.invokespecial 15, 3) := dk_183 0 15 (dk_at dksX0_image_1 9 rfl rfl)
theorem dX0_image_36 : decode cX0_image 36 = .ok (.aastore, 1) := dk_83 (dk_at dksX0_image_1 12 rfl rfl)
theorem dX0_image_37 : decode cX0_image 37 = .ok (.aload_n 0, 1) := dk_42 (dk_at dksX0_image_1 13 rfl rfl)
theorem dX0_image_38 : decode cX0_image 38 = .ok (.getfield 20, 3) := dk_180 0 20 (dk_at dksX0_image_1 14 rfl rfl)
theorem dX0_image_41 : decode cX0_image 41 = .ok (.iload_n 1, 1) := dk_27 (dk_at dksX0_image_1 17 rfl rfl)
theorem dX0_image_42 : decode cX0_image 42 = .ok (.aaload, 1) := dk_50 (dk_at dksX0_image_1 18 rfl rfl)
theorem dX0_image_43 : decode cX0_image 43 = .ok (.aload_n 0, 1) := dk_42 (dk_at dksX0_image_1 19 rfl rfl)
theorem dX0_image_44 : decode cX0_image 44 = .ok (.getfield 16, 3) := dk_180 0 16 (dk_at dksX0_image_1 20 rfl rfl)
theorem dX0_image_47 : decode cX0_image 47 = .ok (.invokevirtual 160, 3) := dk_182 0 160 (dk_at dksX0_image_2 0 rfl rfl)
theorem dX0_image_50 : decode cX0_image 50 = .ok (.aload_n 0, 1) := dk_42 (dk_at dksX0_image_2 3 rfl rfl)
theorem dX0_image_51 : decode cX0_image 51 = .ok (.iconst 0, 1) := dk_3 (dk_at dksX0_image_2 4 rfl rfl)
theorem dX0_image_52 : decode cX0_image 52 = .ok (.invokevirtual 164, 3) := dk_182 0 164 (dk_at dksX0_image_2 5 rfl rfl)
theorem dX0_image_55 : decode cX0_image 55 = .ok (.ireturn, 1) := dk_172 (dk_at dksX0_image_2 8 rfl rfl)
abbrev cX0_in : ByteArray := prog_1_method_4_code
def yX0_in : MethodName := ⟨RX0, "in", "(III)Z"⟩
def dkwX0_in_0 : List UInt8 := [26, 27, 161, 0, 12, 26, 28, 163, 0, 7, 4, 167, 0, 4, 3, 172]
abbrev dktX0_in_0 : List UInt8 := dkwX0_in_0 ++ []
theorem dksX0_in_0 : cX0_in.data.toList.drop 0 = dktX0_in_0 := by decide +kernel
theorem dX0_in_0 : decode cX0_in 0 = .ok (.iload_n 0, 1) := dk_26 (dk_at dksX0_in_0 0 rfl rfl)
theorem dX0_in_1 : decode cX0_in 1 = .ok (.iload_n 1, 1) := dk_27 (dk_at dksX0_in_0 1 rfl rfl)
theorem dX0_in_2 : decode cX0_in 2 = .ok (.if_icmp .lt 12, 3) := dk_161 0 12 (dk_at dksX0_in_0 2 rfl rfl)
theorem dX0_in_5 : decode cX0_in 5 = .ok (.iload_n 0, 1) := dk_26 (dk_at dksX0_in_0 5 rfl rfl)
theorem dX0_in_6 : decode cX0_in 6 = .ok (.iload_n 2, 1) := dk_28 (dk_at dksX0_in_0 6 rfl rfl)
theorem dX0_in_7 : decode cX0_in 7 = .ok (.if_icmp .gt 7, 3) := dk_163 0 7 (dk_at dksX0_in_0 7 rfl rfl)
theorem dX0_in_10 : decode cX0_in 10 = .ok (.iconst 1, 1) := dk_4 (dk_at dksX0_in_0 10 rfl rfl)
theorem dX0_in_11 : decode cX0_in 11 = .ok (.goto 4, 3) := dk_167 0 4 (dk_at dksX0_in_0 11 rfl rfl)
theorem dX0_in_14 : decode cX0_in 14 = .ok (.iconst 0, 1) := dk_3 (dk_at dksX0_in_0 14 rfl rfl)
theorem dX0_in_15 : decode cX0_in 15 = .ok (.ireturn, 1) := dk_172 (dk_at dksX0_in_0 15 rfl rfl)
abbrev cX0_refuse : ByteArray := prog_1_method_2_code
def yX0_refuse : MethodName := ⟨RX0, "refuse", "(I)I"⟩
def dkwX0_refuse_0 : List UInt8 := [42, 27, 181, 0, 101, 42, 180, 0, 9, 27, 116, 92, 46, 4, 96, 79, 27, 172]
abbrev dktX0_refuse_0 : List UInt8 := dkwX0_refuse_0 ++ []
theorem dksX0_refuse_0 : cX0_refuse.data.toList.drop 0 = dktX0_refuse_0 := by decide +kernel
theorem dX0_refuse_0 : decode cX0_refuse 0 = .ok (.aload_n 0, 1) := dk_42 (dk_at dksX0_refuse_0 0 rfl rfl)
theorem dX0_refuse_1 : decode cX0_refuse 1 = .ok (.iload_n 1, 1) := dk_27 (dk_at dksX0_refuse_0 1 rfl rfl)
theorem dX0_refuse_2 : decode cX0_refuse 2 = .ok (.putfield 101, 3) := dk_181 0 101 (dk_at dksX0_refuse_0 2 rfl rfl)
theorem dX0_refuse_5 : decode cX0_refuse 5 = .ok (.aload_n 0, 1) := dk_42 (dk_at dksX0_refuse_0 5 rfl rfl)
theorem dX0_refuse_6 : decode cX0_refuse 6 = .ok (.getfield 9, 3) := dk_180 0 9 (dk_at dksX0_refuse_0 6 rfl rfl)
theorem dX0_refuse_9 : decode cX0_refuse 9 = .ok (.iload_n 1, 1) := dk_27 (dk_at dksX0_refuse_0 9 rfl rfl)
theorem dX0_refuse_10 : decode cX0_refuse 10 = .ok (.ineg, 1) := dk_116 (dk_at dksX0_refuse_0 10 rfl rfl)
theorem dX0_refuse_11 : decode cX0_refuse 11 = .ok (.dup2, 1) := dk_92 (dk_at dksX0_refuse_0 11 rfl rfl)
theorem dX0_refuse_12 : decode cX0_refuse 12 = .ok (.iaload, 1) := dk_46 (dk_at dksX0_refuse_0 12 rfl rfl)
theorem dX0_refuse_13 : decode cX0_refuse 13 = .ok (.iconst 1, 1) := dk_4 (dk_at dksX0_refuse_0 13 rfl rfl)
theorem dX0_refuse_14 : decode cX0_refuse 14 = .ok (.iadd, 1) := dk_96 (dk_at dksX0_refuse_0 14 rfl rfl)
theorem dX0_refuse_15 : decode cX0_refuse 15 = .ok (.iastore, 1) := dk_79 (dk_at dksX0_refuse_0 15 rfl rfl)
theorem dX0_refuse_16 : decode cX0_refuse 16 = .ok (.iload_n 1, 1) := dk_27 (dk_at dksX0_refuse_0 16 rfl rfl)
theorem dX0_refuse_17 : decode cX0_refuse 17 = .ok (.ireturn, 1) := dk_172 (dk_at dksX0_refuse_0 17 rfl rfl)
abbrev cX0_done : ByteArray := prog_1_method_3_code
def yX0_done : MethodName := ⟨RX0, "done", "(I)I"⟩
def dkwX0_done_0 : List UInt8 := [42, 3, 181, 0, 101, 27, 172]
abbrev dktX0_done_0 : List UInt8 := dkwX0_done_0 ++ []
theorem dksX0_done_0 : cX0_done.data.toList.drop 0 = dktX0_done_0 := by decide +kernel
theorem dX0_done_0 : decode cX0_done 0 = .ok (.aload_n 0, 1) := dk_42 (dk_at dksX0_done_0 0 rfl rfl)
theorem dX0_done_1 : decode cX0_done 1 = .ok (.iconst 0, 1) := dk_3 (dk_at dksX0_done_0 1 rfl rfl)
theorem dX0_done_2 : decode cX0_done 2 = .ok (.putfield 101, 3) := dk_181 0 101 (dk_at dksX0_done_0 2 rfl rfl)
theorem dX0_done_5 : decode cX0_done 5 = .ok (.iload_n 1, 1) := dk_27 (dk_at dksX0_done_0 5 rfl rfl)
theorem dX0_done_6 : decode cX0_done 6 = .ok (.ireturn, 1) := dk_172 (dk_at dksX0_done_0 6 rfl rfl)
abbrev cX0_back : ByteArray := prog_1_method_17_code
def yX0_back : MethodName := ⟨RX0, "back", "(I)I"⟩
def dkwX0_back_2 : List UInt8 := [182, 0, 164, 172]
abbrev dktX0_back_2 : List UInt8 := dkwX0_back_2 ++ []
def dkwX0_back_1 : List UInt8 := [42, 16, 254, 182, 0, 157, 172, 42, 180, 0, 16, 42, 180, 0, 20, 27, 50, 182, 0, 160, 42, 3]
abbrev dktX0_back_1 : List UInt8 := dkwX0_back_1 ++ dktX0_back_2
def dkwX0_back_0 : List UInt8 := [27, 3, 4, 184, 0, 122, 154, 0, 9, 42, 2, 182, 0, 157, 172, 42, 180, 0, 20, 27, 50, 199, 0, 10]
abbrev dktX0_back_0 : List UInt8 := dkwX0_back_0 ++ dktX0_back_1
theorem dksX0_back_0 : cX0_back.data.toList.drop 0 = dktX0_back_0 := by decide +kernel
theorem dksX0_back_1 : cX0_back.data.toList.drop 24 = dktX0_back_1 := dk_seg dksX0_back_0 24 rfl rfl
theorem dksX0_back_2 : cX0_back.data.toList.drop 46 = dktX0_back_2 := dk_seg dksX0_back_1 22 rfl rfl
theorem dX0_back_0 : decode cX0_back 0 = .ok (.iload_n 1, 1) := dk_27 (dk_at dksX0_back_0 0 rfl rfl)
theorem dX0_back_1 : decode cX0_back 1 = .ok (.iconst 0, 1) := dk_3 (dk_at dksX0_back_0 1 rfl rfl)
theorem dX0_back_2 : decode cX0_back 2 = .ok (.iconst 1, 1) := dk_4 (dk_at dksX0_back_0 2 rfl rfl)
theorem dX0_back_3 : decode cX0_back 3 = .ok (.invokestatic 122, 3) := dk_184 0 122 (dk_at dksX0_back_0 3 rfl rfl)
theorem dX0_back_6 : decode cX0_back 6 = .ok (.ifCond .ne 9, 3) := dk_154 0 9 (dk_at dksX0_back_0 6 rfl rfl)
theorem dX0_back_9 : decode cX0_back 9 = .ok (.aload_n 0, 1) := dk_42 (dk_at dksX0_back_0 9 rfl rfl)
theorem dX0_back_10 : decode cX0_back 10 = .ok (.iconst (-1), 1) := dk_2 (dk_at dksX0_back_0 10 rfl rfl)
theorem dX0_back_11 : decode cX0_back 11 = .ok (.invokevirtual 157, 3) := dk_182 0 157 (dk_at dksX0_back_0 11 rfl rfl)
theorem dX0_back_14 : decode cX0_back 14 = .ok (.ireturn, 1) := dk_172 (dk_at dksX0_back_0 14 rfl rfl)
theorem dX0_back_15 : decode cX0_back 15 = .ok (.aload_n 0, 1) := dk_42 (dk_at dksX0_back_0 15 rfl rfl)
theorem dX0_back_16 : decode cX0_back 16 = .ok (.getfield 20, 3) := dk_180 0 20 (dk_at dksX0_back_0 16 rfl rfl)
theorem dX0_back_19 : decode cX0_back 19 = .ok (.iload_n 1, 1) := dk_27 (dk_at dksX0_back_0 19 rfl rfl)
theorem dX0_back_20 : decode cX0_back 20 = .ok (.aaload, 1) := dk_50 (dk_at dksX0_back_0 20 rfl rfl)
theorem dX0_back_21 : decode cX0_back 21 = .ok (.ifnonnull 10, 3) := dk_199 0 10 (dk_at dksX0_back_0 21 rfl rfl)
theorem dX0_back_24 : decode cX0_back 24 = .ok (.aload_n 0, 1) := dk_42 (dk_at dksX0_back_1 0 rfl rfl)
theorem dX0_back_25 : decode cX0_back 25 = .ok (.bipush (-2), 2) := dk_16 254 (dk_at dksX0_back_1 1 rfl rfl)
theorem dX0_back_27 : decode cX0_back 27 = .ok (.invokevirtual 157, 3) := dk_182 0 157 (dk_at dksX0_back_1 3 rfl rfl)
theorem dX0_back_30 : decode cX0_back 30 = .ok (.ireturn, 1) := dk_172 (dk_at dksX0_back_1 6 rfl rfl)
theorem dX0_back_31 : decode cX0_back 31 = .ok (.aload_n 0, 1) := dk_42 (dk_at dksX0_back_1 7 rfl rfl)
theorem dX0_back_32 : decode cX0_back 32 = .ok (.getfield 16, 3) := dk_180 0 16 (dk_at dksX0_back_1 8 rfl rfl)
theorem dX0_back_35 : decode cX0_back 35 = .ok (.aload_n 0, 1) := dk_42 (dk_at dksX0_back_1 11 rfl rfl)
theorem dX0_back_36 : decode cX0_back 36 = .ok (.getfield 20, 3) := dk_180 0 20 (dk_at dksX0_back_1 12 rfl rfl)
theorem dX0_back_39 : decode cX0_back 39 = .ok (.iload_n 1, 1) := dk_27 (dk_at dksX0_back_1 15 rfl rfl)
theorem dX0_back_40 : decode cX0_back 40 = .ok (.aaload, 1) := dk_50 (dk_at dksX0_back_1 16 rfl rfl)
theorem dX0_back_41 : decode cX0_back 41 = .ok (.invokevirtual 160, 3) := dk_182 0 160 (dk_at dksX0_back_1 17 rfl rfl)
theorem dX0_back_44 : decode cX0_back 44 = .ok (.aload_n 0, 1) := dk_42 (dk_at dksX0_back_1 20 rfl rfl)
theorem dX0_back_45 : decode cX0_back 45 = .ok (.iconst 0, 1) := dk_3 (dk_at dksX0_back_1 21 rfl rfl)
theorem dX0_back_46 : decode cX0_back 46 = .ok (.invokevirtual 164, 3) := dk_182 0 164 (dk_at dksX0_back_2 0 rfl rfl)
theorem dX0_back_49 : decode cX0_back 49 = .ok (.ireturn, 1) := dk_172 (dk_at dksX0_back_2 3 rfl rfl)
abbrev cX0_part : ByteArray := prog_1_method_18_code
def yX0_part : MethodName := ⟨RX0, "part", "(II)I"⟩
def dkwX0_part_6 : List UInt8 := [4, 100, 182, 0, 164, 172]
abbrev dktX0_part_6 : List UInt8 := dkwX0_part_6 ++ []
def dkwX0_part_5 : List UInt8 := [167, 255, 227, 42, 180, 0, 16, 89, 180, 0, 119, 4, 96, 181, 0, 119, 42, 42, 180, 0, 16, 180, 0, 119]
abbrev dktX0_part_5 : List UInt8 := dkwX0_part_5 ++ dktX0_part_6
def dkwX0_part_4 : List UInt8 := [180, 0, 16, 180, 0, 170, 42, 180, 0, 16, 180, 0, 119, 50, 29, 182, 0, 174, 87, 132, 3, 1]
abbrev dktX0_part_4 : List UInt8 := dkwX0_part_4 ++ dktX0_part_5
def dkwX0_part_3 : List UInt8 := [5, 42, 180, 0, 16, 180, 0, 119, 104, 4, 96, 28, 79, 3, 62, 29, 16, 36, 162, 0, 29, 42]
abbrev dktX0_part_3 : List UInt8 := dkwX0_part_3 ++ dktX0_part_4
def dkwX0_part_2 : List UInt8 := [180, 0, 16, 180, 0, 167, 5, 42, 180, 0, 16, 180, 0, 119, 104, 27, 79, 42, 180, 0, 16, 180, 0, 167]
abbrev dktX0_part_2 : List UInt8 := dkwX0_part_2 ++ dktX0_part_3
def dkwX0_part_1 : List UInt8 := [182, 0, 157, 172, 42, 180, 0, 16, 180, 0, 119, 16, 6, 160, 0, 10, 42, 16, 251, 182, 0, 157, 172, 42]
abbrev dktX0_part_1 : List UInt8 := dkwX0_part_1 ++ dktX0_part_2
def dkwX0_part_0 : List UInt8 := [27, 3, 16, 23, 184, 0, 122, 153, 0, 15, 28, 27, 4, 96, 16, 24, 184, 0, 122, 154, 0, 9, 42, 2]
abbrev dktX0_part_0 : List UInt8 := dkwX0_part_0 ++ dktX0_part_1
theorem dksX0_part_0 : cX0_part.data.toList.drop 0 = dktX0_part_0 := by decide +kernel
theorem dksX0_part_1 : cX0_part.data.toList.drop 24 = dktX0_part_1 := dk_seg dksX0_part_0 24 rfl rfl
theorem dksX0_part_2 : cX0_part.data.toList.drop 48 = dktX0_part_2 := dk_seg dksX0_part_1 24 rfl rfl
theorem dksX0_part_3 : cX0_part.data.toList.drop 72 = dktX0_part_3 := dk_seg dksX0_part_2 24 rfl rfl
theorem dksX0_part_4 : cX0_part.data.toList.drop 94 = dktX0_part_4 := dk_seg dksX0_part_3 22 rfl rfl
theorem dksX0_part_5 : cX0_part.data.toList.drop 116 = dktX0_part_5 := dk_seg dksX0_part_4 22 rfl rfl
theorem dksX0_part_6 : cX0_part.data.toList.drop 140 = dktX0_part_6 := dk_seg dksX0_part_5 24 rfl rfl
theorem dX0_part_0 : decode cX0_part 0 = .ok (.iload_n 1, 1) := dk_27 (dk_at dksX0_part_0 0 rfl rfl)
theorem dX0_part_1 : decode cX0_part 1 = .ok (.iconst 0, 1) := dk_3 (dk_at dksX0_part_0 1 rfl rfl)
theorem dX0_part_2 : decode cX0_part 2 = .ok (.bipush 23, 2) := dk_16 23 (dk_at dksX0_part_0 2 rfl rfl)
theorem dX0_part_4 : decode cX0_part 4 = .ok (.invokestatic 122, 3) := dk_184 0 122 (dk_at dksX0_part_0 4 rfl rfl)
theorem dX0_part_7 : decode cX0_part 7 = .ok (.ifCond .eq 15, 3) := dk_153 0 15 (dk_at dksX0_part_0 7 rfl rfl)
theorem dX0_part_10 : decode cX0_part 10 = .ok (.iload_n 2, 1) := dk_28 (dk_at dksX0_part_0 10 rfl rfl)
theorem dX0_part_11 : decode cX0_part 11 = .ok (.iload_n 1, 1) := dk_27 (dk_at dksX0_part_0 11 rfl rfl)
theorem dX0_part_12 : decode cX0_part 12 = .ok (.iconst 1, 1) := dk_4 (dk_at dksX0_part_0 12 rfl rfl)
theorem dX0_part_13 : decode cX0_part 13 = .ok (.iadd, 1) := dk_96 (dk_at dksX0_part_0 13 rfl rfl)
theorem dX0_part_14 : decode cX0_part 14 = .ok (.bipush 24, 2) := dk_16 24 (dk_at dksX0_part_0 14 rfl rfl)
theorem dX0_part_16 : decode cX0_part 16 = .ok (.invokestatic 122, 3) := dk_184 0 122 (dk_at dksX0_part_0 16 rfl rfl)
theorem dX0_part_19 : decode cX0_part 19 = .ok (.ifCond .ne 9, 3) := dk_154 0 9 (dk_at dksX0_part_0 19 rfl rfl)
theorem dX0_part_22 : decode cX0_part 22 = .ok (.aload_n 0, 1) := dk_42 (dk_at dksX0_part_0 22 rfl rfl)
theorem dX0_part_23 : decode cX0_part 23 = .ok (.iconst (-1), 1) := dk_2 (dk_at dksX0_part_0 23 rfl rfl)
theorem dX0_part_24 : decode cX0_part 24 = .ok (.invokevirtual 157, 3) := dk_182 0 157 (dk_at dksX0_part_1 0 rfl rfl)
theorem dX0_part_27 : decode cX0_part 27 = .ok (.ireturn, 1) := dk_172 (dk_at dksX0_part_1 3 rfl rfl)
theorem dX0_part_28 : decode cX0_part 28 = .ok (.aload_n 0, 1) := dk_42 (dk_at dksX0_part_1 4 rfl rfl)
theorem dX0_part_29 : decode cX0_part 29 = .ok (.getfield 16, 3) := dk_180 0 16 (dk_at dksX0_part_1 5 rfl rfl)
theorem dX0_part_32 : decode cX0_part 32 = .ok (.getfield 119, 3) := dk_180 0 119 (dk_at dksX0_part_1 8 rfl rfl)
theorem dX0_part_35 : decode cX0_part 35 = .ok (.bipush 6, 2) := dk_16 6 (dk_at dksX0_part_1 11 rfl rfl)
theorem dX0_part_37 : decode cX0_part 37 = .ok (.if_icmp .ne 10, 3) := dk_160 0 10 (dk_at dksX0_part_1 13 rfl rfl)
theorem dX0_part_40 : decode cX0_part 40 = .ok (.aload_n 0, 1) := dk_42 (dk_at dksX0_part_1 16 rfl rfl)
theorem dX0_part_41 : decode cX0_part 41 = .ok (.bipush (-5), 2) := dk_16 251 (dk_at dksX0_part_1 17 rfl rfl)
theorem dX0_part_43 : decode cX0_part 43 = .ok (.invokevirtual 157, 3) := dk_182 0 157 (dk_at dksX0_part_1 19 rfl rfl)
theorem dX0_part_46 : decode cX0_part 46 = .ok (.ireturn, 1) := dk_172 (dk_at dksX0_part_1 22 rfl rfl)
theorem dX0_part_47 : decode cX0_part 47 = .ok (.aload_n 0, 1) := dk_42 (dk_at dksX0_part_1 23 rfl rfl)
theorem dX0_part_48 : decode cX0_part 48 = .ok (.getfield 16, 3) := dk_180 0 16 (dk_at dksX0_part_2 0 rfl rfl)
theorem dX0_part_51 : decode cX0_part 51 = .ok (.getfield 167, 3) := dk_180 0 167 (dk_at dksX0_part_2 3 rfl rfl)
theorem dX0_part_54 : decode cX0_part 54 = .ok (.iconst 2, 1) := dk_5 (dk_at dksX0_part_2 6 rfl rfl)
theorem dX0_part_55 : decode cX0_part 55 = .ok (.aload_n 0, 1) := dk_42 (dk_at dksX0_part_2 7 rfl rfl)
theorem dX0_part_56 : decode cX0_part 56 = .ok (.getfield 16, 3) := dk_180 0 16 (dk_at dksX0_part_2 8 rfl rfl)
theorem dX0_part_59 : decode cX0_part 59 = .ok (.getfield 119, 3) := dk_180 0 119 (dk_at dksX0_part_2 11 rfl rfl)
theorem dX0_part_62 : decode cX0_part 62 = .ok (.imul, 1) := dk_104 (dk_at dksX0_part_2 14 rfl rfl)
theorem dX0_part_63 : decode cX0_part 63 = .ok (.iload_n 1, 1) := dk_27 (dk_at dksX0_part_2 15 rfl rfl)
theorem dX0_part_64 : decode cX0_part 64 = .ok (.iastore, 1) := dk_79 (dk_at dksX0_part_2 16 rfl rfl)
theorem dX0_part_65 : decode cX0_part 65 = .ok (.aload_n 0, 1) := dk_42 (dk_at dksX0_part_2 17 rfl rfl)
theorem dX0_part_66 : decode cX0_part 66 = .ok (.getfield 16, 3) := dk_180 0 16 (dk_at dksX0_part_2 18 rfl rfl)
theorem dX0_part_69 : decode cX0_part 69 = .ok (.getfield 167, 3) := dk_180 0 167 (dk_at dksX0_part_2 21 rfl rfl)
theorem dX0_part_72 : decode cX0_part 72 = .ok (.iconst 2, 1) := dk_5 (dk_at dksX0_part_3 0 rfl rfl)
theorem dX0_part_73 : decode cX0_part 73 = .ok (.aload_n 0, 1) := dk_42 (dk_at dksX0_part_3 1 rfl rfl)
theorem dX0_part_74 : decode cX0_part 74 = .ok (.getfield 16, 3) := dk_180 0 16 (dk_at dksX0_part_3 2 rfl rfl)
theorem dX0_part_77 : decode cX0_part 77 = .ok (.getfield 119, 3) := dk_180 0 119 (dk_at dksX0_part_3 5 rfl rfl)
theorem dX0_part_80 : decode cX0_part 80 = .ok (.imul, 1) := dk_104 (dk_at dksX0_part_3 8 rfl rfl)
theorem dX0_part_81 : decode cX0_part 81 = .ok (.iconst 1, 1) := dk_4 (dk_at dksX0_part_3 9 rfl rfl)
theorem dX0_part_82 : decode cX0_part 82 = .ok (.iadd, 1) := dk_96 (dk_at dksX0_part_3 10 rfl rfl)
theorem dX0_part_83 : decode cX0_part 83 = .ok (.iload_n 2, 1) := dk_28 (dk_at dksX0_part_3 11 rfl rfl)
theorem dX0_part_84 : decode cX0_part 84 = .ok (.iastore, 1) := dk_79 (dk_at dksX0_part_3 12 rfl rfl)
theorem dX0_part_85 : decode cX0_part 85 = .ok (.iconst 0, 1) := dk_3 (dk_at dksX0_part_3 13 rfl rfl)
theorem dX0_part_86 : decode cX0_part 86 = .ok (.istore_n 3, 1) := dk_62 (dk_at dksX0_part_3 14 rfl rfl)
theorem dX0_part_87 : decode cX0_part 87 = .ok (.iload_n 3, 1) := dk_29 (dk_at dksX0_part_3 15 rfl rfl)
theorem dX0_part_88 : decode cX0_part 88 = .ok (.bipush 36, 2) := dk_16 36 (dk_at dksX0_part_3 16 rfl rfl)
theorem dX0_part_90 : decode cX0_part 90 = .ok (.if_icmp .ge 29, 3) := dk_162 0 29 (dk_at dksX0_part_3 18 rfl rfl)
theorem dX0_part_93 : decode cX0_part 93 = .ok (.aload_n 0, 1) := dk_42 (dk_at dksX0_part_3 21 rfl rfl)
theorem dX0_part_94 : decode cX0_part 94 = .ok (.getfield 16, 3) := dk_180 0 16 (dk_at dksX0_part_4 0 rfl rfl)
theorem dX0_part_97 : decode cX0_part 97 = .ok (.getfield 170, 3) := dk_180 0 170 (dk_at dksX0_part_4 3 rfl rfl)
theorem dX0_part_100 : decode cX0_part 100 = .ok (.aload_n 0, 1) := dk_42 (dk_at dksX0_part_4 6 rfl rfl)
theorem dX0_part_101 : decode cX0_part 101 = .ok (.getfield 16, 3) := dk_180 0 16 (dk_at dksX0_part_4 7 rfl rfl)
theorem dX0_part_104 : decode cX0_part 104 = .ok (.getfield 119, 3) := dk_180 0 119 (dk_at dksX0_part_4 10 rfl rfl)
theorem dX0_part_107 : decode cX0_part 107 = .ok (.aaload, 1) := dk_50 (dk_at dksX0_part_4 13 rfl rfl)
theorem dX0_part_108 : decode cX0_part 108 = .ok (.iload_n 3, 1) := dk_29 (dk_at dksX0_part_4 14 rfl rfl)
theorem dX0_part_109 : decode cX0_part 109 = .ok (.invokevirtual 174, 3) := dk_182 0 174 (dk_at dksX0_part_4 15 rfl rfl)
theorem dX0_part_112 : decode cX0_part 112 = .ok (.pop, 1) := dk_87 (dk_at dksX0_part_4 18 rfl rfl)
theorem dX0_part_113 : decode cX0_part 113 = .ok (.iinc 3 1, 3) := dk_132 3 1 (dk_at dksX0_part_4 19 rfl rfl)
theorem dX0_part_116 : decode cX0_part 116 = .ok (.goto (-29), 3) := dk_167 255 227 (dk_at dksX0_part_5 0 rfl rfl)
theorem dX0_part_119 : decode cX0_part 119 = .ok (.aload_n 0, 1) := dk_42 (dk_at dksX0_part_5 3 rfl rfl)
theorem dX0_part_120 : decode cX0_part 120 = .ok (.getfield 16, 3) := dk_180 0 16 (dk_at dksX0_part_5 4 rfl rfl)
theorem dX0_part_123 : decode cX0_part 123 = .ok (.dup, 1) := dk_89 (dk_at dksX0_part_5 7 rfl rfl)
theorem dX0_part_124 : decode cX0_part 124 = .ok (.getfield 119, 3) := dk_180 0 119 (dk_at dksX0_part_5 8 rfl rfl)
theorem dX0_part_127 : decode cX0_part 127 = .ok (.iconst 1, 1) := dk_4 (dk_at dksX0_part_5 11 rfl rfl)
theorem dX0_part_128 : decode cX0_part 128 = .ok (.iadd, 1) := dk_96 (dk_at dksX0_part_5 12 rfl rfl)
theorem dX0_part_129 : decode cX0_part 129 = .ok (.putfield 119, 3) := dk_181 0 119 (dk_at dksX0_part_5 13 rfl rfl)
theorem dX0_part_132 : decode cX0_part 132 = .ok (.aload_n 0, 1) := dk_42 (dk_at dksX0_part_5 16 rfl rfl)
theorem dX0_part_133 : decode cX0_part 133 = .ok (.aload_n 0, 1) := dk_42 (dk_at dksX0_part_5 17 rfl rfl)
theorem dX0_part_134 : decode cX0_part 134 = .ok (.getfield 16, 3) := dk_180 0 16 (dk_at dksX0_part_5 18 rfl rfl)
theorem dX0_part_137 : decode cX0_part 137 = .ok (.getfield 119, 3) := dk_180 0 119 (dk_at dksX0_part_5 21 rfl rfl)
theorem dX0_part_140 : decode cX0_part 140 = .ok (.iconst 1, 1) := dk_4 (dk_at dksX0_part_6 0 rfl rfl)
theorem dX0_part_141 : decode cX0_part 141 = .ok (.isub, 1) := dk_100 (dk_at dksX0_part_6 1 rfl rfl)
theorem dX0_part_142 : decode cX0_part 142 = .ok (.invokevirtual 164, 3) := dk_182 0 164 (dk_at dksX0_part_6 2 rfl rfl)
theorem dX0_part_145 : decode cX0_part 145 = .ok (.ireturn, 1) := dk_172 (dk_at dksX0_part_6 5 rfl rfl)
abbrev cX0_rule : ByteArray := prog_1_method_19_code
def yX0_rule : MethodName := ⟨RX0, "rule", "(IIIII)I"⟩
def dkwX0_rule_3 : List UInt8 := [104, 29, 96, 21, 4, 21, 5, 182, 0, 190, 42, 21, 6, 182, 0, 164, 172]
abbrev dktX0_rule_3 : List UInt8 := dkwX0_rule_3 ++ []
def dkwX0_rule_2 : List UInt8 := [180, 0, 187, 16, 6, 28, 104, 29, 96, 46, 54, 6, 42, 180, 0, 16, 180, 0, 170, 27, 50, 16, 6, 28]
abbrev dktX0_rule_2 : List UInt8 := dkwX0_rule_2 ++ dktX0_rule_3
def dkwX0_rule_1 : List UInt8 := [42, 27, 182, 0, 184, 154, 0, 10, 42, 16, 254, 182, 0, 157, 172, 42, 180, 0, 16, 180, 0, 170, 27, 50]
abbrev dktX0_rule_1 : List UInt8 := dkwX0_rule_1 ++ dktX0_rule_2
def dkwX0_rule_0 : List UInt8 := [28, 29, 184, 0, 177, 153, 0, 13, 21, 4, 21, 5, 184, 0, 181, 154, 0, 9, 42, 2, 182, 0, 157, 172]
abbrev dktX0_rule_0 : List UInt8 := dkwX0_rule_0 ++ dktX0_rule_1
theorem dksX0_rule_0 : cX0_rule.data.toList.drop 0 = dktX0_rule_0 := by decide +kernel
theorem dksX0_rule_1 : cX0_rule.data.toList.drop 24 = dktX0_rule_1 := dk_seg dksX0_rule_0 24 rfl rfl
theorem dksX0_rule_2 : cX0_rule.data.toList.drop 48 = dktX0_rule_2 := dk_seg dksX0_rule_1 24 rfl rfl
theorem dksX0_rule_3 : cX0_rule.data.toList.drop 72 = dktX0_rule_3 := dk_seg dksX0_rule_2 24 rfl rfl
theorem dX0_rule_0 : decode cX0_rule 0 = .ok (.iload_n 2, 1) := dk_28 (dk_at dksX0_rule_0 0 rfl rfl)
theorem dX0_rule_1 : decode cX0_rule 1 = .ok (.iload_n 3, 1) := dk_29 (dk_at dksX0_rule_0 1 rfl rfl)
theorem dX0_rule_2 : decode cX0_rule 2 = .ok (.invokestatic 177, 3) := dk_184 0 177 (dk_at dksX0_rule_0 2 rfl rfl)
theorem dX0_rule_5 : decode cX0_rule 5 = .ok (.ifCond .eq 13, 3) := dk_153 0 13 (dk_at dksX0_rule_0 5 rfl rfl)
theorem dX0_rule_8 : decode cX0_rule 8 = .ok (.iload 4, 2) := dk_21 4 (dk_at dksX0_rule_0 8 rfl rfl)
theorem dX0_rule_10 : decode cX0_rule 10 = .ok (.iload 5, 2) := dk_21 5 (dk_at dksX0_rule_0 10 rfl rfl)
theorem dX0_rule_12 : decode cX0_rule 12 = .ok (.invokestatic 181, 3) := dk_184 0 181 (dk_at dksX0_rule_0 12 rfl rfl)
theorem dX0_rule_15 : decode cX0_rule 15 = .ok (.ifCond .ne 9, 3) := dk_154 0 9 (dk_at dksX0_rule_0 15 rfl rfl)
theorem dX0_rule_18 : decode cX0_rule 18 = .ok (.aload_n 0, 1) := dk_42 (dk_at dksX0_rule_0 18 rfl rfl)
theorem dX0_rule_19 : decode cX0_rule 19 = .ok (.iconst (-1), 1) := dk_2 (dk_at dksX0_rule_0 19 rfl rfl)
theorem dX0_rule_20 : decode cX0_rule 20 = .ok (.invokevirtual 157, 3) := dk_182 0 157 (dk_at dksX0_rule_0 20 rfl rfl)
theorem dX0_rule_23 : decode cX0_rule 23 = .ok (.ireturn, 1) := dk_172 (dk_at dksX0_rule_0 23 rfl rfl)
theorem dX0_rule_24 : decode cX0_rule 24 = .ok (.aload_n 0, 1) := dk_42 (dk_at dksX0_rule_1 0 rfl rfl)
theorem dX0_rule_25 : decode cX0_rule 25 = .ok (.iload_n 1, 1) := dk_27 (dk_at dksX0_rule_1 1 rfl rfl)
theorem dX0_rule_26 : decode cX0_rule 26 = .ok (.invokevirtual 184, 3) := dk_182 0 184 (dk_at dksX0_rule_1 2 rfl rfl)
theorem dX0_rule_29 : decode cX0_rule 29 = .ok (.ifCond .ne 10, 3) := dk_154 0 10 (dk_at dksX0_rule_1 5 rfl rfl)
theorem dX0_rule_32 : decode cX0_rule 32 = .ok (.aload_n 0, 1) := dk_42 (dk_at dksX0_rule_1 8 rfl rfl)
theorem dX0_rule_33 : decode cX0_rule 33 = .ok (.bipush (-2), 2) := dk_16 254 (dk_at dksX0_rule_1 9 rfl rfl)
theorem dX0_rule_35 : decode cX0_rule 35 = .ok (.invokevirtual 157, 3) := dk_182 0 157 (dk_at dksX0_rule_1 11 rfl rfl)
theorem dX0_rule_38 : decode cX0_rule 38 = .ok (.ireturn, 1) := dk_172 (dk_at dksX0_rule_1 14 rfl rfl)
theorem dX0_rule_39 : decode cX0_rule 39 = .ok (.aload_n 0, 1) := dk_42 (dk_at dksX0_rule_1 15 rfl rfl)
theorem dX0_rule_40 : decode cX0_rule 40 = .ok (.getfield 16, 3) := dk_180 0 16 (dk_at dksX0_rule_1 16 rfl rfl)
theorem dX0_rule_43 : decode cX0_rule 43 = .ok (.getfield 170, 3) := dk_180 0 170 (dk_at dksX0_rule_1 19 rfl rfl)
theorem dX0_rule_46 : decode cX0_rule 46 = .ok (.iload_n 1, 1) := dk_27 (dk_at dksX0_rule_1 22 rfl rfl)
theorem dX0_rule_47 : decode cX0_rule 47 = .ok (.aaload, 1) := dk_50 (dk_at dksX0_rule_1 23 rfl rfl)
theorem dX0_rule_48 : decode cX0_rule 48 = .ok (.getfield 187, 3) := dk_180 0 187 (dk_at dksX0_rule_2 0 rfl rfl)
theorem dX0_rule_51 : decode cX0_rule 51 = .ok (.bipush 6, 2) := dk_16 6 (dk_at dksX0_rule_2 3 rfl rfl)
theorem dX0_rule_53 : decode cX0_rule 53 = .ok (.iload_n 2, 1) := dk_28 (dk_at dksX0_rule_2 5 rfl rfl)
theorem dX0_rule_54 : decode cX0_rule 54 = .ok (.imul, 1) := dk_104 (dk_at dksX0_rule_2 6 rfl rfl)
theorem dX0_rule_55 : decode cX0_rule 55 = .ok (.iload_n 3, 1) := dk_29 (dk_at dksX0_rule_2 7 rfl rfl)
theorem dX0_rule_56 : decode cX0_rule 56 = .ok (.iadd, 1) := dk_96 (dk_at dksX0_rule_2 8 rfl rfl)
theorem dX0_rule_57 : decode cX0_rule 57 = .ok (.iaload, 1) := dk_46 (dk_at dksX0_rule_2 9 rfl rfl)
theorem dX0_rule_58 : decode cX0_rule 58 = .ok (.istore 6, 2) := dk_54 6 (dk_at dksX0_rule_2 10 rfl rfl)
theorem dX0_rule_60 : decode cX0_rule 60 = .ok (.aload_n 0, 1) := dk_42 (dk_at dksX0_rule_2 12 rfl rfl)
theorem dX0_rule_61 : decode cX0_rule 61 = .ok (.getfield 16, 3) := dk_180 0 16 (dk_at dksX0_rule_2 13 rfl rfl)
theorem dX0_rule_64 : decode cX0_rule 64 = .ok (.getfield 170, 3) := dk_180 0 170 (dk_at dksX0_rule_2 16 rfl rfl)
theorem dX0_rule_67 : decode cX0_rule 67 = .ok (.iload_n 1, 1) := dk_27 (dk_at dksX0_rule_2 19 rfl rfl)
theorem dX0_rule_68 : decode cX0_rule 68 = .ok (.aaload, 1) := dk_50 (dk_at dksX0_rule_2 20 rfl rfl)
theorem dX0_rule_69 : decode cX0_rule 69 = .ok (.bipush 6, 2) := dk_16 6 (dk_at dksX0_rule_2 21 rfl rfl)
theorem dX0_rule_71 : decode cX0_rule 71 = .ok (.iload_n 2, 1) := dk_28 (dk_at dksX0_rule_2 23 rfl rfl)
theorem dX0_rule_72 : decode cX0_rule 72 = .ok (.imul, 1) := dk_104 (dk_at dksX0_rule_3 0 rfl rfl)
theorem dX0_rule_73 : decode cX0_rule 73 = .ok (.iload_n 3, 1) := dk_29 (dk_at dksX0_rule_3 1 rfl rfl)
theorem dX0_rule_74 : decode cX0_rule 74 = .ok (.iadd, 1) := dk_96 (dk_at dksX0_rule_3 2 rfl rfl)
theorem dX0_rule_75 : decode cX0_rule 75 = .ok (.iload 4, 2) := dk_21 4 (dk_at dksX0_rule_3 3 rfl rfl)
theorem dX0_rule_77 : decode cX0_rule 77 = .ok (.iload 5, 2) := dk_21 5 (dk_at dksX0_rule_3 5 rfl rfl)
theorem dX0_rule_79 : decode cX0_rule 79 = .ok (.invokevirtual 190, 3) := dk_182 0 190 (dk_at dksX0_rule_3 7 rfl rfl)
theorem dX0_rule_82 : decode cX0_rule 82 = .ok (.aload_n 0, 1) := dk_42 (dk_at dksX0_rule_3 10 rfl rfl)
theorem dX0_rule_83 : decode cX0_rule 83 = .ok (.iload 6, 2) := dk_21 6 (dk_at dksX0_rule_3 11 rfl rfl)
theorem dX0_rule_85 : decode cX0_rule 85 = .ok (.invokevirtual 164, 3) := dk_182 0 164 (dk_at dksX0_rule_3 13 rfl rfl)
theorem dX0_rule_88 : decode cX0_rule 88 = .ok (.ireturn, 1) := dk_172 (dk_at dksX0_rule_3 16 rfl rfl)
abbrev cX0_isRule : ByteArray := prog_1_method_11_code
def yX0_isRule : MethodName := ⟨RX0, "isRule", "(II)Z"⟩
def dkwX0_isRule_0 : List UInt8 := [26, 3, 8, 184, 0, 122, 153, 0, 16, 27, 3, 8, 184, 0, 122, 153, 0, 7, 4, 167, 0, 4, 3, 172]
abbrev dktX0_isRule_0 : List UInt8 := dkwX0_isRule_0 ++ []
theorem dksX0_isRule_0 : cX0_isRule.data.toList.drop 0 = dktX0_isRule_0 := by decide +kernel
theorem dX0_isRule_0 : decode cX0_isRule 0 = .ok (.iload_n 0, 1) := dk_26 (dk_at dksX0_isRule_0 0 rfl rfl)
theorem dX0_isRule_1 : decode cX0_isRule 1 = .ok (.iconst 0, 1) := dk_3 (dk_at dksX0_isRule_0 1 rfl rfl)
theorem dX0_isRule_2 : decode cX0_isRule 2 = .ok (.iconst 5, 1) := dk_8 (dk_at dksX0_isRule_0 2 rfl rfl)
theorem dX0_isRule_3 : decode cX0_isRule 3 = .ok (.invokestatic 122, 3) := dk_184 0 122 (dk_at dksX0_isRule_0 3 rfl rfl)
theorem dX0_isRule_6 : decode cX0_isRule 6 = .ok (.ifCond .eq 16, 3) := dk_153 0 16 (dk_at dksX0_isRule_0 6 rfl rfl)
theorem dX0_isRule_9 : decode cX0_isRule 9 = .ok (.iload_n 1, 1) := dk_27 (dk_at dksX0_isRule_0 9 rfl rfl)
theorem dX0_isRule_10 : decode cX0_isRule 10 = .ok (.iconst 0, 1) := dk_3 (dk_at dksX0_isRule_0 10 rfl rfl)
theorem dX0_isRule_11 : decode cX0_isRule 11 = .ok (.iconst 5, 1) := dk_8 (dk_at dksX0_isRule_0 11 rfl rfl)
theorem dX0_isRule_12 : decode cX0_isRule 12 = .ok (.invokestatic 122, 3) := dk_184 0 122 (dk_at dksX0_isRule_0 12 rfl rfl)
theorem dX0_isRule_15 : decode cX0_isRule 15 = .ok (.ifCond .eq 7, 3) := dk_153 0 7 (dk_at dksX0_isRule_0 15 rfl rfl)
theorem dX0_isRule_18 : decode cX0_isRule 18 = .ok (.iconst 1, 1) := dk_4 (dk_at dksX0_isRule_0 18 rfl rfl)
theorem dX0_isRule_19 : decode cX0_isRule 19 = .ok (.goto 4, 3) := dk_167 0 4 (dk_at dksX0_isRule_0 19 rfl rfl)
theorem dX0_isRule_22 : decode cX0_isRule 22 = .ok (.iconst 0, 1) := dk_3 (dk_at dksX0_isRule_0 22 rfl rfl)
theorem dX0_isRule_23 : decode cX0_isRule 23 = .ok (.ireturn, 1) := dk_172 (dk_at dksX0_isRule_0 23 rfl rfl)
abbrev cX0_isSaid : ByteArray := prog_1_method_12_code
def yX0_isSaid : MethodName := ⟨RX0, "isSaid", "(II)Z"⟩
def dkwX0_isSaid_1 : List UInt8 := [172]
abbrev dktX0_isSaid_1 : List UInt8 := dkwX0_isSaid_1 ++ []
def dkwX0_isSaid_0 : List UInt8 := [26, 3, 16, 9, 184, 0, 122, 153, 0, 16, 27, 3, 8, 184, 0, 122, 153, 0, 7, 4, 167, 0, 4, 3]
abbrev dktX0_isSaid_0 : List UInt8 := dkwX0_isSaid_0 ++ dktX0_isSaid_1
theorem dksX0_isSaid_0 : cX0_isSaid.data.toList.drop 0 = dktX0_isSaid_0 := by decide +kernel
theorem dksX0_isSaid_1 : cX0_isSaid.data.toList.drop 24 = dktX0_isSaid_1 := dk_seg dksX0_isSaid_0 24 rfl rfl
theorem dX0_isSaid_0 : decode cX0_isSaid 0 = .ok (.iload_n 0, 1) := dk_26 (dk_at dksX0_isSaid_0 0 rfl rfl)
theorem dX0_isSaid_1 : decode cX0_isSaid 1 = .ok (.iconst 0, 1) := dk_3 (dk_at dksX0_isSaid_0 1 rfl rfl)
theorem dX0_isSaid_2 : decode cX0_isSaid 2 = .ok (.bipush 9, 2) := dk_16 9 (dk_at dksX0_isSaid_0 2 rfl rfl)
theorem dX0_isSaid_4 : decode cX0_isSaid 4 = .ok (.invokestatic 122, 3) := dk_184 0 122 (dk_at dksX0_isSaid_0 4 rfl rfl)
theorem dX0_isSaid_7 : decode cX0_isSaid 7 = .ok (.ifCond .eq 16, 3) := dk_153 0 16 (dk_at dksX0_isSaid_0 7 rfl rfl)
theorem dX0_isSaid_10 : decode cX0_isSaid 10 = .ok (.iload_n 1, 1) := dk_27 (dk_at dksX0_isSaid_0 10 rfl rfl)
theorem dX0_isSaid_11 : decode cX0_isSaid 11 = .ok (.iconst 0, 1) := dk_3 (dk_at dksX0_isSaid_0 11 rfl rfl)
theorem dX0_isSaid_12 : decode cX0_isSaid 12 = .ok (.iconst 5, 1) := dk_8 (dk_at dksX0_isSaid_0 12 rfl rfl)
theorem dX0_isSaid_13 : decode cX0_isSaid 13 = .ok (.invokestatic 122, 3) := dk_184 0 122 (dk_at dksX0_isSaid_0 13 rfl rfl)
theorem dX0_isSaid_16 : decode cX0_isSaid 16 = .ok (.ifCond .eq 7, 3) := dk_153 0 7 (dk_at dksX0_isSaid_0 16 rfl rfl)
theorem dX0_isSaid_19 : decode cX0_isSaid 19 = .ok (.iconst 1, 1) := dk_4 (dk_at dksX0_isSaid_0 19 rfl rfl)
theorem dX0_isSaid_20 : decode cX0_isSaid 20 = .ok (.goto 4, 3) := dk_167 0 4 (dk_at dksX0_isSaid_0 20 rfl rfl)
theorem dX0_isSaid_23 : decode cX0_isSaid 23 = .ok (.iconst 0, 1) := dk_3 (dk_at dksX0_isSaid_0 23 rfl rfl)
theorem dX0_isSaid_24 : decode cX0_isSaid 24 = .ok (.ireturn, 1) := dk_172 (dk_at dksX0_isSaid_1 0 rfl rfl)
abbrev cX0_isPart : ByteArray := prog_1_method_8_code
def yX0_isPart : MethodName := ⟨RX0, "isPart", "(I)Z"⟩
def dkwX0_isPart_0 : List UInt8 := [27, 3, 42, 180, 0, 16, 180, 0, 119, 4, 100, 184, 0, 122, 172]
abbrev dktX0_isPart_0 : List UInt8 := dkwX0_isPart_0 ++ []
theorem dksX0_isPart_0 : cX0_isPart.data.toList.drop 0 = dktX0_isPart_0 := by decide +kernel
theorem dX0_isPart_0 : decode cX0_isPart 0 = .ok (.iload_n 1, 1) := dk_27 (dk_at dksX0_isPart_0 0 rfl rfl)
theorem dX0_isPart_1 : decode cX0_isPart 1 = .ok (.iconst 0, 1) := dk_3 (dk_at dksX0_isPart_0 1 rfl rfl)
theorem dX0_isPart_2 : decode cX0_isPart 2 = .ok (.aload_n 0, 1) := dk_42 (dk_at dksX0_isPart_0 2 rfl rfl)
theorem dX0_isPart_3 : decode cX0_isPart 3 = .ok (.getfield 16, 3) := dk_180 0 16 (dk_at dksX0_isPart_0 3 rfl rfl)
theorem dX0_isPart_6 : decode cX0_isPart 6 = .ok (.getfield 119, 3) := dk_180 0 119 (dk_at dksX0_isPart_0 6 rfl rfl)
theorem dX0_isPart_9 : decode cX0_isPart 9 = .ok (.iconst 1, 1) := dk_4 (dk_at dksX0_isPart_0 9 rfl rfl)
theorem dX0_isPart_10 : decode cX0_isPart 10 = .ok (.isub, 1) := dk_100 (dk_at dksX0_isPart_0 10 rfl rfl)
theorem dX0_isPart_11 : decode cX0_isPart 11 = .ok (.invokestatic 122, 3) := dk_184 0 122 (dk_at dksX0_isPart_0 11 rfl rfl)
theorem dX0_isPart_14 : decode cX0_isPart 14 = .ok (.ireturn, 1) := dk_172 (dk_at dksX0_isPart_0 14 rfl rfl)
abbrev cX0_hush : ByteArray := prog_1_method_20_code
def yX0_hush : MethodName := ⟨RX0, "hush", "(III)I"⟩
def dkwX0_hush_2 : List UInt8 := [16, 254, 182, 0, 157, 172]
abbrev dktX0_hush_2 : List UInt8 := dkwX0_hush_2 ++ []
def dkwX0_hush_1 : List UInt8 := [180, 0, 16, 180, 0, 170, 27, 50, 16, 6, 28, 104, 29, 96, 182, 0, 174, 182, 0, 164, 167, 0, 9, 42]
abbrev dktX0_hush_1 : List UInt8 := dkwX0_hush_1 ++ dktX0_hush_2
def dkwX0_hush_0 : List UInt8 := [28, 29, 184, 0, 177, 154, 0, 9, 42, 2, 182, 0, 157, 172, 42, 27, 182, 0, 184, 153, 0, 28, 42, 42]
abbrev dktX0_hush_0 : List UInt8 := dkwX0_hush_0 ++ dktX0_hush_1
theorem dksX0_hush_0 : cX0_hush.data.toList.drop 0 = dktX0_hush_0 := by decide +kernel
theorem dksX0_hush_1 : cX0_hush.data.toList.drop 24 = dktX0_hush_1 := dk_seg dksX0_hush_0 24 rfl rfl
theorem dksX0_hush_2 : cX0_hush.data.toList.drop 48 = dktX0_hush_2 := dk_seg dksX0_hush_1 24 rfl rfl
theorem dX0_hush_0 : decode cX0_hush 0 = .ok (.iload_n 2, 1) := dk_28 (dk_at dksX0_hush_0 0 rfl rfl)
theorem dX0_hush_1 : decode cX0_hush 1 = .ok (.iload_n 3, 1) := dk_29 (dk_at dksX0_hush_0 1 rfl rfl)
theorem dX0_hush_2 : decode cX0_hush 2 = .ok (.invokestatic 177, 3) := dk_184 0 177 (dk_at dksX0_hush_0 2 rfl rfl)
theorem dX0_hush_5 : decode cX0_hush 5 = .ok (.ifCond .ne 9, 3) := dk_154 0 9 (dk_at dksX0_hush_0 5 rfl rfl)
theorem dX0_hush_8 : decode cX0_hush 8 = .ok (.aload_n 0, 1) := dk_42 (dk_at dksX0_hush_0 8 rfl rfl)
theorem dX0_hush_9 : decode cX0_hush 9 = .ok (.iconst (-1), 1) := dk_2 (dk_at dksX0_hush_0 9 rfl rfl)
theorem dX0_hush_10 : decode cX0_hush 10 = .ok (.invokevirtual 157, 3) := dk_182 0 157 (dk_at dksX0_hush_0 10 rfl rfl)
theorem dX0_hush_13 : decode cX0_hush 13 = .ok (.ireturn, 1) := dk_172 (dk_at dksX0_hush_0 13 rfl rfl)
theorem dX0_hush_14 : decode cX0_hush 14 = .ok (.aload_n 0, 1) := dk_42 (dk_at dksX0_hush_0 14 rfl rfl)
theorem dX0_hush_15 : decode cX0_hush 15 = .ok (.iload_n 1, 1) := dk_27 (dk_at dksX0_hush_0 15 rfl rfl)
theorem dX0_hush_16 : decode cX0_hush 16 = .ok (.invokevirtual 184, 3) := dk_182 0 184 (dk_at dksX0_hush_0 16 rfl rfl)
theorem dX0_hush_19 : decode cX0_hush 19 = .ok (.ifCond .eq 28, 3) := dk_153 0 28 (dk_at dksX0_hush_0 19 rfl rfl)
theorem dX0_hush_22 : decode cX0_hush 22 = .ok (.aload_n 0, 1) := dk_42 (dk_at dksX0_hush_0 22 rfl rfl)
theorem dX0_hush_23 : decode cX0_hush 23 = .ok (.aload_n 0, 1) := dk_42 (dk_at dksX0_hush_0 23 rfl rfl)
theorem dX0_hush_24 : decode cX0_hush 24 = .ok (.getfield 16, 3) := dk_180 0 16 (dk_at dksX0_hush_1 0 rfl rfl)
theorem dX0_hush_27 : decode cX0_hush 27 = .ok (.getfield 170, 3) := dk_180 0 170 (dk_at dksX0_hush_1 3 rfl rfl)
theorem dX0_hush_30 : decode cX0_hush 30 = .ok (.iload_n 1, 1) := dk_27 (dk_at dksX0_hush_1 6 rfl rfl)
theorem dX0_hush_31 : decode cX0_hush 31 = .ok (.aaload, 1) := dk_50 (dk_at dksX0_hush_1 7 rfl rfl)
theorem dX0_hush_32 : decode cX0_hush 32 = .ok (.bipush 6, 2) := dk_16 6 (dk_at dksX0_hush_1 8 rfl rfl)
theorem dX0_hush_34 : decode cX0_hush 34 = .ok (.iload_n 2, 1) := dk_28 (dk_at dksX0_hush_1 10 rfl rfl)
theorem dX0_hush_35 : decode cX0_hush 35 = .ok (.imul, 1) := dk_104 (dk_at dksX0_hush_1 11 rfl rfl)
theorem dX0_hush_36 : decode cX0_hush 36 = .ok (.iload_n 3, 1) := dk_29 (dk_at dksX0_hush_1 12 rfl rfl)
theorem dX0_hush_37 : decode cX0_hush 37 = .ok (.iadd, 1) := dk_96 (dk_at dksX0_hush_1 13 rfl rfl)
theorem dX0_hush_38 : decode cX0_hush 38 = .ok (.invokevirtual 174, 3) := dk_182 0 174 (dk_at dksX0_hush_1 14 rfl rfl)
theorem dX0_hush_41 : decode cX0_hush 41 = .ok (.invokevirtual 164, 3) := dk_182 0 164 (dk_at dksX0_hush_1 17 rfl rfl)
theorem dX0_hush_44 : decode cX0_hush 44 = .ok (.goto 9, 3) := dk_167 0 9 (dk_at dksX0_hush_1 20 rfl rfl)
theorem dX0_hush_47 : decode cX0_hush 47 = .ok (.aload_n 0, 1) := dk_42 (dk_at dksX0_hush_1 23 rfl rfl)
theorem dX0_hush_48 : decode cX0_hush 48 = .ok (.bipush (-2), 2) := dk_16 254 (dk_at dksX0_hush_2 0 rfl rfl)
theorem dX0_hush_50 : decode cX0_hush 50 = .ok (.invokevirtual 157, 3) := dk_182 0 157 (dk_at dksX0_hush_2 2 rfl rfl)
theorem dX0_hush_53 : decode cX0_hush 53 = .ok (.ireturn, 1) := dk_172 (dk_at dksX0_hush_2 5 rfl rfl)
abbrev cX0_of : ByteArray := prog_1_method_22_code
def yX0_of : MethodName := ⟨RX0, "of", "(IIII)I"⟩
def dkwX0_of_2 : List UInt8 := [167, 0, 4, 2, 172]
abbrev dktX0_of_2 : List UInt8 := dkwX0_of_2 ++ []
def dkwX0_of_1 : List UInt8 := [153, 0, 26, 42, 180, 0, 16, 180, 0, 170, 27, 50, 16, 6, 28, 104, 29, 96, 21, 4, 184, 0, 197]
abbrev dktX0_of_1 : List UInt8 := dkwX0_of_1 ++ dktX0_of_2
def dkwX0_of_0 : List UInt8 := [42, 27, 182, 0, 184, 153, 0, 44, 28, 29, 184, 0, 177, 153, 0, 36, 21, 4, 3, 4, 184, 0, 122]
abbrev dktX0_of_0 : List UInt8 := dkwX0_of_0 ++ dktX0_of_1
theorem dksX0_of_0 : cX0_of.data.toList.drop 0 = dktX0_of_0 := by decide +kernel
theorem dksX0_of_1 : cX0_of.data.toList.drop 23 = dktX0_of_1 := dk_seg dksX0_of_0 23 rfl rfl
theorem dksX0_of_2 : cX0_of.data.toList.drop 46 = dktX0_of_2 := dk_seg dksX0_of_1 23 rfl rfl
theorem dX0_of_0 : decode cX0_of 0 = .ok (.aload_n 0, 1) := dk_42 (dk_at dksX0_of_0 0 rfl rfl)
theorem dX0_of_1 : decode cX0_of 1 = .ok (.iload_n 1, 1) := dk_27 (dk_at dksX0_of_0 1 rfl rfl)
theorem dX0_of_2 : decode cX0_of 2 = .ok (.invokevirtual 184, 3) := dk_182 0 184 (dk_at dksX0_of_0 2 rfl rfl)
theorem dX0_of_5 : decode cX0_of 5 = .ok (.ifCond .eq 44, 3) := dk_153 0 44 (dk_at dksX0_of_0 5 rfl rfl)
theorem dX0_of_8 : decode cX0_of 8 = .ok (.iload_n 2, 1) := dk_28 (dk_at dksX0_of_0 8 rfl rfl)
theorem dX0_of_9 : decode cX0_of 9 = .ok (.iload_n 3, 1) := dk_29 (dk_at dksX0_of_0 9 rfl rfl)
theorem dX0_of_10 : decode cX0_of 10 = .ok (.invokestatic 177, 3) := dk_184 0 177 (dk_at dksX0_of_0 10 rfl rfl)
theorem dX0_of_13 : decode cX0_of 13 = .ok (.ifCond .eq 36, 3) := dk_153 0 36 (dk_at dksX0_of_0 13 rfl rfl)
theorem dX0_of_16 : decode cX0_of 16 = .ok (.iload 4, 2) := dk_21 4 (dk_at dksX0_of_0 16 rfl rfl)
theorem dX0_of_18 : decode cX0_of 18 = .ok (.iconst 0, 1) := dk_3 (dk_at dksX0_of_0 18 rfl rfl)
theorem dX0_of_19 : decode cX0_of 19 = .ok (.iconst 1, 1) := dk_4 (dk_at dksX0_of_0 19 rfl rfl)
theorem dX0_of_20 : decode cX0_of 20 = .ok (.invokestatic 122, 3) := dk_184 0 122 (dk_at dksX0_of_0 20 rfl rfl)
theorem dX0_of_23 : decode cX0_of 23 = .ok (.ifCond .eq 26, 3) := dk_153 0 26 (dk_at dksX0_of_1 0 rfl rfl)
theorem dX0_of_26 : decode cX0_of 26 = .ok (.aload_n 0, 1) := dk_42 (dk_at dksX0_of_1 3 rfl rfl)
theorem dX0_of_27 : decode cX0_of 27 = .ok (.getfield 16, 3) := dk_180 0 16 (dk_at dksX0_of_1 4 rfl rfl)
theorem dX0_of_30 : decode cX0_of 30 = .ok (.getfield 170, 3) := dk_180 0 170 (dk_at dksX0_of_1 7 rfl rfl)
theorem dX0_of_33 : decode cX0_of 33 = .ok (.iload_n 1, 1) := dk_27 (dk_at dksX0_of_1 10 rfl rfl)
theorem dX0_of_34 : decode cX0_of 34 = .ok (.aaload, 1) := dk_50 (dk_at dksX0_of_1 11 rfl rfl)
theorem dX0_of_35 : decode cX0_of 35 = .ok (.bipush 6, 2) := dk_16 6 (dk_at dksX0_of_1 12 rfl rfl)
theorem dX0_of_37 : decode cX0_of 37 = .ok (.iload_n 2, 1) := dk_28 (dk_at dksX0_of_1 14 rfl rfl)
theorem dX0_of_38 : decode cX0_of 38 = .ok (.imul, 1) := dk_104 (dk_at dksX0_of_1 15 rfl rfl)
theorem dX0_of_39 : decode cX0_of 39 = .ok (.iload_n 3, 1) := dk_29 (dk_at dksX0_of_1 16 rfl rfl)
theorem dX0_of_40 : decode cX0_of 40 = .ok (.iadd, 1) := dk_96 (dk_at dksX0_of_1 17 rfl rfl)
theorem dX0_of_41 : decode cX0_of 41 = .ok (.iload 4, 2) := dk_21 4 (dk_at dksX0_of_1 18 rfl rfl)
theorem dX0_of_43 : decode cX0_of 43 = .ok (.invokestatic 197, 3) := dk_184 0 197 (dk_at dksX0_of_1 20 rfl rfl)
theorem dX0_of_46 : decode cX0_of 46 = .ok (.goto 4, 3) := dk_167 0 4 (dk_at dksX0_of_2 0 rfl rfl)
theorem dX0_of_49 : decode cX0_of 49 = .ok (.iconst (-1), 1) := dk_2 (dk_at dksX0_of_2 3 rfl rfl)
theorem dX0_of_50 : decode cX0_of 50 = .ok (.ireturn, 1) := dk_172 (dk_at dksX0_of_2 4 rfl rfl)
abbrev cX0_told : ByteArray := prog_1_method_21_code
def yX0_told : MethodName := ⟨RX0, "told", "(LDeadUnderstudies$Script;II)I"⟩
def dkwX0_told_0 : List UInt8 := [28, 154, 0, 12, 42, 180, 0, 187, 27, 46, 167, 0, 8, 42, 27, 182, 0, 194, 172]
abbrev dktX0_told_0 : List UInt8 := dkwX0_told_0 ++ []
theorem dksX0_told_0 : cX0_told.data.toList.drop 0 = dktX0_told_0 := by decide +kernel
theorem dX0_told_0 : decode cX0_told 0 = .ok (.iload_n 2, 1) := dk_28 (dk_at dksX0_told_0 0 rfl rfl)
theorem dX0_told_1 : decode cX0_told 1 = .ok (.ifCond .ne 12, 3) := dk_154 0 12 (dk_at dksX0_told_0 1 rfl rfl)
theorem dX0_told_4 : decode cX0_told 4 = .ok (.aload_n 0, 1) := dk_42 (dk_at dksX0_told_0 4 rfl rfl)
theorem dX0_told_5 : decode cX0_told 5 = .ok (.getfield 187, 3) := dk_180 0 187 (dk_at dksX0_told_0 5 rfl rfl)
theorem dX0_told_8 : decode cX0_told 8 = .ok (.iload_n 1, 1) := dk_27 (dk_at dksX0_told_0 8 rfl rfl)
theorem dX0_told_9 : decode cX0_told 9 = .ok (.iaload, 1) := dk_46 (dk_at dksX0_told_0 9 rfl rfl)
theorem dX0_told_10 : decode cX0_told 10 = .ok (.goto 8, 3) := dk_167 0 8 (dk_at dksX0_told_0 10 rfl rfl)
theorem dX0_told_13 : decode cX0_told 13 = .ok (.aload_n 0, 1) := dk_42 (dk_at dksX0_told_0 13 rfl rfl)
theorem dX0_told_14 : decode cX0_told 14 = .ok (.iload_n 1, 1) := dk_27 (dk_at dksX0_told_0 14 rfl rfl)
theorem dX0_told_15 : decode cX0_told 15 = .ok (.invokevirtual 194, 3) := dk_182 0 194 (dk_at dksX0_told_0 15 rfl rfl)
theorem dX0_told_18 : decode cX0_told 18 = .ok (.ireturn, 1) := dk_172 (dk_at dksX0_told_0 18 rfl rfl)
abbrev cX0_stage : ByteArray := prog_1_method_23_code
def yX0_stage : MethodName := ⟨RX0, "stage", "(II)I"⟩
def dkwX0_stage_4 : List UInt8 := [180, 0, 204, 27, 160, 0, 7, 4, 167, 0, 4, 3, 96, 62, 132, 4, 1, 167, 255, 208, 29, 172]
abbrev dktX0_stage_4 : List UInt8 := dkwX0_stage_4 ++ []
def dkwX0_stage_3 : List UInt8 := [182, 0, 130, 162, 0, 39, 29, 42, 180, 0, 16, 180, 0, 136, 21, 4, 182, 0, 139, 192, 0, 143]
abbrev dktX0_stage_3 : List UInt8 := dkwX0_stage_3 ++ dktX0_stage_4
def dkwX0_stage_2 : List UInt8 := [180, 0, 170, 27, 50, 182, 0, 201, 172, 3, 62, 3, 54, 4, 21, 4, 42, 180, 0, 16, 180, 0, 136]
abbrev dktX0_stage_2 : List UInt8 := dkwX0_stage_2 ++ dktX0_stage_3
def dkwX0_stage_1 : List UInt8 := [42, 180, 0, 16, 180, 0, 167, 5, 27, 104, 28, 96, 46, 172, 28, 5, 160, 0, 16, 42, 180, 0, 16]
abbrev dktX0_stage_1 : List UInt8 := dkwX0_stage_1 ++ dktX0_stage_2
def dkwX0_stage_0 : List UInt8 := [42, 27, 182, 0, 184, 153, 0, 12, 28, 3, 6, 184, 0, 122, 154, 0, 5, 2, 172, 28, 5, 162, 0, 17]
abbrev dktX0_stage_0 : List UInt8 := dkwX0_stage_0 ++ dktX0_stage_1
theorem dksX0_stage_0 : cX0_stage.data.toList.drop 0 = dktX0_stage_0 := by decide +kernel
theorem dksX0_stage_1 : cX0_stage.data.toList.drop 24 = dktX0_stage_1 := dk_seg dksX0_stage_0 24 rfl rfl
theorem dksX0_stage_2 : cX0_stage.data.toList.drop 47 = dktX0_stage_2 := dk_seg dksX0_stage_1 23 rfl rfl
theorem dksX0_stage_3 : cX0_stage.data.toList.drop 70 = dktX0_stage_3 := dk_seg dksX0_stage_2 23 rfl rfl
theorem dksX0_stage_4 : cX0_stage.data.toList.drop 92 = dktX0_stage_4 := dk_seg dksX0_stage_3 22 rfl rfl
theorem dX0_stage_0 : decode cX0_stage 0 = .ok (.aload_n 0, 1) := dk_42 (dk_at dksX0_stage_0 0 rfl rfl)
theorem dX0_stage_1 : decode cX0_stage 1 = .ok (.iload_n 1, 1) := dk_27 (dk_at dksX0_stage_0 1 rfl rfl)
theorem dX0_stage_2 : decode cX0_stage 2 = .ok (.invokevirtual 184, 3) := dk_182 0 184 (dk_at dksX0_stage_0 2 rfl rfl)
theorem dX0_stage_5 : decode cX0_stage 5 = .ok (.ifCond .eq 12, 3) := dk_153 0 12 (dk_at dksX0_stage_0 5 rfl rfl)
theorem dX0_stage_8 : decode cX0_stage 8 = .ok (.iload_n 2, 1) := dk_28 (dk_at dksX0_stage_0 8 rfl rfl)
theorem dX0_stage_9 : decode cX0_stage 9 = .ok (.iconst 0, 1) := dk_3 (dk_at dksX0_stage_0 9 rfl rfl)
theorem dX0_stage_10 : decode cX0_stage 10 = .ok (.iconst 3, 1) := dk_6 (dk_at dksX0_stage_0 10 rfl rfl)
theorem dX0_stage_11 : decode cX0_stage 11 = .ok (.invokestatic 122, 3) := dk_184 0 122 (dk_at dksX0_stage_0 11 rfl rfl)
theorem dX0_stage_14 : decode cX0_stage 14 = .ok (.ifCond .ne 5, 3) := dk_154 0 5 (dk_at dksX0_stage_0 14 rfl rfl)
theorem dX0_stage_17 : decode cX0_stage 17 = .ok (.iconst (-1), 1) := dk_2 (dk_at dksX0_stage_0 17 rfl rfl)
theorem dX0_stage_18 : decode cX0_stage 18 = .ok (.ireturn, 1) := dk_172 (dk_at dksX0_stage_0 18 rfl rfl)
theorem dX0_stage_19 : decode cX0_stage 19 = .ok (.iload_n 2, 1) := dk_28 (dk_at dksX0_stage_0 19 rfl rfl)
theorem dX0_stage_20 : decode cX0_stage 20 = .ok (.iconst 2, 1) := dk_5 (dk_at dksX0_stage_0 20 rfl rfl)
theorem dX0_stage_21 : decode cX0_stage 21 = .ok (.if_icmp .ge 17, 3) := dk_162 0 17 (dk_at dksX0_stage_0 21 rfl rfl)
theorem dX0_stage_24 : decode cX0_stage 24 = .ok (.aload_n 0, 1) := dk_42 (dk_at dksX0_stage_1 0 rfl rfl)
theorem dX0_stage_25 : decode cX0_stage 25 = .ok (.getfield 16, 3) := dk_180 0 16 (dk_at dksX0_stage_1 1 rfl rfl)
theorem dX0_stage_28 : decode cX0_stage 28 = .ok (.getfield 167, 3) := dk_180 0 167 (dk_at dksX0_stage_1 4 rfl rfl)
theorem dX0_stage_31 : decode cX0_stage 31 = .ok (.iconst 2, 1) := dk_5 (dk_at dksX0_stage_1 7 rfl rfl)
theorem dX0_stage_32 : decode cX0_stage 32 = .ok (.iload_n 1, 1) := dk_27 (dk_at dksX0_stage_1 8 rfl rfl)
theorem dX0_stage_33 : decode cX0_stage 33 = .ok (.imul, 1) := dk_104 (dk_at dksX0_stage_1 9 rfl rfl)
theorem dX0_stage_34 : decode cX0_stage 34 = .ok (.iload_n 2, 1) := dk_28 (dk_at dksX0_stage_1 10 rfl rfl)
theorem dX0_stage_35 : decode cX0_stage 35 = .ok (.iadd, 1) := dk_96 (dk_at dksX0_stage_1 11 rfl rfl)
theorem dX0_stage_36 : decode cX0_stage 36 = .ok (.iaload, 1) := dk_46 (dk_at dksX0_stage_1 12 rfl rfl)
theorem dX0_stage_37 : decode cX0_stage 37 = .ok (.ireturn, 1) := dk_172 (dk_at dksX0_stage_1 13 rfl rfl)
theorem dX0_stage_38 : decode cX0_stage 38 = .ok (.iload_n 2, 1) := dk_28 (dk_at dksX0_stage_1 14 rfl rfl)
theorem dX0_stage_39 : decode cX0_stage 39 = .ok (.iconst 2, 1) := dk_5 (dk_at dksX0_stage_1 15 rfl rfl)
theorem dX0_stage_40 : decode cX0_stage 40 = .ok (.if_icmp .ne 16, 3) := dk_160 0 16 (dk_at dksX0_stage_1 16 rfl rfl)
theorem dX0_stage_43 : decode cX0_stage 43 = .ok (.aload_n 0, 1) := dk_42 (dk_at dksX0_stage_1 19 rfl rfl)
theorem dX0_stage_44 : decode cX0_stage 44 = .ok (.getfield 16, 3) := dk_180 0 16 (dk_at dksX0_stage_1 20 rfl rfl)
theorem dX0_stage_47 : decode cX0_stage 47 = .ok (.getfield 170, 3) := dk_180 0 170 (dk_at dksX0_stage_2 0 rfl rfl)
theorem dX0_stage_50 : decode cX0_stage 50 = .ok (.iload_n 1, 1) := dk_27 (dk_at dksX0_stage_2 3 rfl rfl)
theorem dX0_stage_51 : decode cX0_stage 51 = .ok (.aaload, 1) := dk_50 (dk_at dksX0_stage_2 4 rfl rfl)
theorem dX0_stage_52 : decode cX0_stage 52 = .ok (.invokevirtual 201, 3) := dk_182 0 201 (dk_at dksX0_stage_2 5 rfl rfl)
theorem dX0_stage_55 : decode cX0_stage 55 = .ok (.ireturn, 1) := dk_172 (dk_at dksX0_stage_2 8 rfl rfl)
theorem dX0_stage_56 : decode cX0_stage 56 = .ok (.iconst 0, 1) := dk_3 (dk_at dksX0_stage_2 9 rfl rfl)
theorem dX0_stage_57 : decode cX0_stage 57 = .ok (.istore_n 3, 1) := dk_62 (dk_at dksX0_stage_2 10 rfl rfl)
theorem dX0_stage_58 : decode cX0_stage 58 = .ok (.iconst 0, 1) := dk_3 (dk_at dksX0_stage_2 11 rfl rfl)
theorem dX0_stage_59 : decode cX0_stage 59 = .ok (.istore 4, 2) := dk_54 4 (dk_at dksX0_stage_2 12 rfl rfl)
theorem dX0_stage_61 : decode cX0_stage 61 = .ok (.iload 4, 2) := dk_21 4 (dk_at dksX0_stage_2 14 rfl rfl)
theorem dX0_stage_63 : decode cX0_stage 63 = .ok (.aload_n 0, 1) := dk_42 (dk_at dksX0_stage_2 16 rfl rfl)
theorem dX0_stage_64 : decode cX0_stage 64 = .ok (.getfield 16, 3) := dk_180 0 16 (dk_at dksX0_stage_2 17 rfl rfl)
theorem dX0_stage_67 : decode cX0_stage 67 = .ok (.getfield 136, 3) := dk_180 0 136 (dk_at dksX0_stage_2 20 rfl rfl)
theorem dX0_stage_70 : decode cX0_stage 70 = .ok (.invokevirtual 130, 3) := dk_182 0 130 (dk_at dksX0_stage_3 0 rfl rfl)
theorem dX0_stage_73 : decode cX0_stage 73 = .ok (.if_icmp .ge 39, 3) := dk_162 0 39 (dk_at dksX0_stage_3 3 rfl rfl)
theorem dX0_stage_76 : decode cX0_stage 76 = .ok (.iload_n 3, 1) := dk_29 (dk_at dksX0_stage_3 6 rfl rfl)
theorem dX0_stage_77 : decode cX0_stage 77 = .ok (.aload_n 0, 1) := dk_42 (dk_at dksX0_stage_3 7 rfl rfl)
theorem dX0_stage_78 : decode cX0_stage 78 = .ok (.getfield 16, 3) := dk_180 0 16 (dk_at dksX0_stage_3 8 rfl rfl)
theorem dX0_stage_81 : decode cX0_stage 81 = .ok (.getfield 136, 3) := dk_180 0 136 (dk_at dksX0_stage_3 11 rfl rfl)
theorem dX0_stage_84 : decode cX0_stage 84 = .ok (.iload 4, 2) := dk_21 4 (dk_at dksX0_stage_3 14 rfl rfl)
theorem dX0_stage_86 : decode cX0_stage 86 = .ok (.invokevirtual 139, 3) := dk_182 0 139 (dk_at dksX0_stage_3 16 rfl rfl)
theorem dX0_stage_89 : decode cX0_stage 89 = .ok (.checkcast 143, 3) := dk_192 0 143 (dk_at dksX0_stage_3 19 rfl rfl)
theorem dX0_stage_92 : decode cX0_stage 92 = .ok (.getfield 204, 3) := dk_180 0 204 (dk_at dksX0_stage_4 0 rfl rfl)
theorem dX0_stage_95 : decode cX0_stage 95 = .ok (.iload_n 1, 1) := dk_27 (dk_at dksX0_stage_4 3 rfl rfl)
theorem dX0_stage_96 : decode cX0_stage 96 = .ok (.if_icmp .ne 7, 3) := dk_160 0 7 (dk_at dksX0_stage_4 4 rfl rfl)
theorem dX0_stage_99 : decode cX0_stage 99 = .ok (.iconst 1, 1) := dk_4 (dk_at dksX0_stage_4 7 rfl rfl)
theorem dX0_stage_100 : decode cX0_stage 100 = .ok (.goto 4, 3) := dk_167 0 4 (dk_at dksX0_stage_4 8 rfl rfl)
theorem dX0_stage_103 : decode cX0_stage 103 = .ok (.iconst 0, 1) := dk_3 (dk_at dksX0_stage_4 11 rfl rfl)
theorem dX0_stage_104 : decode cX0_stage 104 = .ok (.iadd, 1) := dk_96 (dk_at dksX0_stage_4 12 rfl rfl)
theorem dX0_stage_105 : decode cX0_stage 105 = .ok (.istore_n 3, 1) := dk_62 (dk_at dksX0_stage_4 13 rfl rfl)
theorem dX0_stage_106 : decode cX0_stage 106 = .ok (.iinc 4 1, 3) := dk_132 4 1 (dk_at dksX0_stage_4 14 rfl rfl)
theorem dX0_stage_109 : decode cX0_stage 109 = .ok (.goto (-48), 3) := dk_167 255 208 (dk_at dksX0_stage_4 17 rfl rfl)
theorem dX0_stage_112 : decode cX0_stage 112 = .ok (.iload_n 3, 1) := dk_29 (dk_at dksX0_stage_4 20 rfl rfl)
theorem dX0_stage_113 : decode cX0_stage 113 = .ok (.ireturn, 1) := dk_172 (dk_at dksX0_stage_4 21 rfl rfl)
abbrev cX0_person : ByteArray := prog_1_method_24_code
def yX0_person : MethodName := ⟨RX0, "person", "(III)I"⟩
def dkwX0_person_4 : List UInt8 := [182, 0, 130, 4, 100, 182, 0, 164, 172]
abbrev dktX0_person_4 : List UInt8 := dkwX0_person_4 ++ []
def dkwX0_person_3 : List UInt8 := [187, 0, 148, 89, 27, 28, 29, 183, 0, 207, 182, 0, 209, 87, 42, 42, 180, 0, 16, 180, 0, 126]
abbrev dktX0_person_3 : List UInt8 := dkwX0_person_3 ++ dktX0_person_4
def dkwX0_person_2 : List UInt8 := [182, 0, 130, 16, 8, 160, 0, 10, 42, 16, 251, 182, 0, 157, 172, 42, 180, 0, 16, 180, 0, 126]
abbrev dktX0_person_2 : List UInt8 := dkwX0_person_2 ++ dktX0_person_3
def dkwX0_person_1 : List UInt8 := [29, 4, 16, 9, 184, 0, 122, 154, 0, 9, 42, 2, 182, 0, 157, 172, 42, 180, 0, 16, 180, 0, 126]
abbrev dktX0_person_1 : List UInt8 := dkwX0_person_1 ++ dktX0_person_2
def dkwX0_person_0 : List UInt8 := [27, 3, 17, 0, 200, 184, 0, 122, 153, 0, 26, 28, 27, 4, 96, 17, 1, 44, 184, 0, 122, 153, 0, 13]
abbrev dktX0_person_0 : List UInt8 := dkwX0_person_0 ++ dktX0_person_1
theorem dksX0_person_0 : cX0_person.data.toList.drop 0 = dktX0_person_0 := by decide +kernel
theorem dksX0_person_1 : cX0_person.data.toList.drop 24 = dktX0_person_1 := dk_seg dksX0_person_0 24 rfl rfl
theorem dksX0_person_2 : cX0_person.data.toList.drop 47 = dktX0_person_2 := dk_seg dksX0_person_1 23 rfl rfl
theorem dksX0_person_3 : cX0_person.data.toList.drop 69 = dktX0_person_3 := dk_seg dksX0_person_2 22 rfl rfl
theorem dksX0_person_4 : cX0_person.data.toList.drop 91 = dktX0_person_4 := dk_seg dksX0_person_3 22 rfl rfl
theorem dX0_person_0 : decode cX0_person 0 = .ok (.iload_n 1, 1) := dk_27 (dk_at dksX0_person_0 0 rfl rfl)
theorem dX0_person_1 : decode cX0_person 1 = .ok (.iconst 0, 1) := dk_3 (dk_at dksX0_person_0 1 rfl rfl)
theorem dX0_person_2 : decode cX0_person 2 = .ok (.sipush 200, 3) := dk_17 0 200 (dk_at dksX0_person_0 2 rfl rfl)
theorem dX0_person_5 : decode cX0_person 5 = .ok (.invokestatic 122, 3) := dk_184 0 122 (dk_at dksX0_person_0 5 rfl rfl)
theorem dX0_person_8 : decode cX0_person 8 = .ok (.ifCond .eq 26, 3) := dk_153 0 26 (dk_at dksX0_person_0 8 rfl rfl)
theorem dX0_person_11 : decode cX0_person 11 = .ok (.iload_n 2, 1) := dk_28 (dk_at dksX0_person_0 11 rfl rfl)
theorem dX0_person_12 : decode cX0_person 12 = .ok (.iload_n 1, 1) := dk_27 (dk_at dksX0_person_0 12 rfl rfl)
theorem dX0_person_13 : decode cX0_person 13 = .ok (.iconst 1, 1) := dk_4 (dk_at dksX0_person_0 13 rfl rfl)
theorem dX0_person_14 : decode cX0_person 14 = .ok (.iadd, 1) := dk_96 (dk_at dksX0_person_0 14 rfl rfl)
theorem dX0_person_15 : decode cX0_person 15 = .ok (.sipush 300, 3) := dk_17 1 44 (dk_at dksX0_person_0 15 rfl rfl)
theorem dX0_person_18 : decode cX0_person 18 = .ok (.invokestatic 122, 3) := dk_184 0 122 (dk_at dksX0_person_0 18 rfl rfl)
theorem dX0_person_21 : decode cX0_person 21 = .ok (.ifCond .eq 13, 3) := dk_153 0 13 (dk_at dksX0_person_0 21 rfl rfl)
theorem dX0_person_24 : decode cX0_person 24 = .ok (.iload_n 3, 1) := dk_29 (dk_at dksX0_person_1 0 rfl rfl)
theorem dX0_person_25 : decode cX0_person 25 = .ok (.iconst 1, 1) := dk_4 (dk_at dksX0_person_1 1 rfl rfl)
theorem dX0_person_26 : decode cX0_person 26 = .ok (.bipush 9, 2) := dk_16 9 (dk_at dksX0_person_1 2 rfl rfl)
theorem dX0_person_28 : decode cX0_person 28 = .ok (.invokestatic 122, 3) := dk_184 0 122 (dk_at dksX0_person_1 4 rfl rfl)
theorem dX0_person_31 : decode cX0_person 31 = .ok (.ifCond .ne 9, 3) := dk_154 0 9 (dk_at dksX0_person_1 7 rfl rfl)
theorem dX0_person_34 : decode cX0_person 34 = .ok (.aload_n 0, 1) := dk_42 (dk_at dksX0_person_1 10 rfl rfl)
theorem dX0_person_35 : decode cX0_person 35 = .ok (.iconst (-1), 1) := dk_2 (dk_at dksX0_person_1 11 rfl rfl)
theorem dX0_person_36 : decode cX0_person 36 = .ok (.invokevirtual 157, 3) := dk_182 0 157 (dk_at dksX0_person_1 12 rfl rfl)
theorem dX0_person_39 : decode cX0_person 39 = .ok (.ireturn, 1) := dk_172 (dk_at dksX0_person_1 15 rfl rfl)
theorem dX0_person_40 : decode cX0_person 40 = .ok (.aload_n 0, 1) := dk_42 (dk_at dksX0_person_1 16 rfl rfl)
theorem dX0_person_41 : decode cX0_person 41 = .ok (.getfield 16, 3) := dk_180 0 16 (dk_at dksX0_person_1 17 rfl rfl)
theorem dX0_person_44 : decode cX0_person 44 = .ok (.getfield 126, 3) := dk_180 0 126 (dk_at dksX0_person_1 20 rfl rfl)
theorem dX0_person_47 : decode cX0_person 47 = .ok (.invokevirtual 130, 3) := dk_182 0 130 (dk_at dksX0_person_2 0 rfl rfl)
theorem dX0_person_50 : decode cX0_person 50 = .ok (.bipush 8, 2) := dk_16 8 (dk_at dksX0_person_2 3 rfl rfl)
theorem dX0_person_52 : decode cX0_person 52 = .ok (.if_icmp .ne 10, 3) := dk_160 0 10 (dk_at dksX0_person_2 5 rfl rfl)
theorem dX0_person_55 : decode cX0_person 55 = .ok (.aload_n 0, 1) := dk_42 (dk_at dksX0_person_2 8 rfl rfl)
theorem dX0_person_56 : decode cX0_person 56 = .ok (.bipush (-5), 2) := dk_16 251 (dk_at dksX0_person_2 9 rfl rfl)
theorem dX0_person_58 : decode cX0_person 58 = .ok (.invokevirtual 157, 3) := dk_182 0 157 (dk_at dksX0_person_2 11 rfl rfl)
theorem dX0_person_61 : decode cX0_person 61 = .ok (.ireturn, 1) := dk_172 (dk_at dksX0_person_2 14 rfl rfl)
theorem dX0_person_62 : decode cX0_person 62 = .ok (.aload_n 0, 1) := dk_42 (dk_at dksX0_person_2 15 rfl rfl)
theorem dX0_person_63 : decode cX0_person 63 = .ok (.getfield 16, 3) := dk_180 0 16 (dk_at dksX0_person_2 16 rfl rfl)
theorem dX0_person_66 : decode cX0_person 66 = .ok (.getfield 126, 3) := dk_180 0 126 (dk_at dksX0_person_2 19 rfl rfl)
theorem dX0_person_69 : decode cX0_person 69 = .ok (.new 148, 3) := dk_187 0 148 (dk_at dksX0_person_3 0 rfl rfl)
theorem dX0_person_72 : decode cX0_person 72 = .ok (.dup, 1) := dk_89 (dk_at dksX0_person_3 3 rfl rfl)
theorem dX0_person_73 : decode cX0_person 73 = .ok (.iload_n 1, 1) := dk_27 (dk_at dksX0_person_3 4 rfl rfl)
theorem dX0_person_74 : decode cX0_person 74 = .ok (.iload_n 2, 1) := dk_28 (dk_at dksX0_person_3 5 rfl rfl)
theorem dX0_person_75 : decode cX0_person 75 = .ok (.iload_n 3, 1) := dk_29 (dk_at dksX0_person_3 6 rfl rfl)
theorem dX0_person_76 : decode cX0_person 76 = .ok (.invokespecial 207, 3) := dk_183 0 207 (dk_at dksX0_person_3 7 rfl rfl)
theorem dX0_person_79 : decode cX0_person 79 = .ok (.invokevirtual 209, 3) := dk_182 0 209 (dk_at dksX0_person_3 10 rfl rfl)
theorem dX0_person_82 : decode cX0_person 82 = .ok (.pop, 1) := dk_87 (dk_at dksX0_person_3 13 rfl rfl)
theorem dX0_person_83 : decode cX0_person 83 = .ok (.aload_n 0, 1) := dk_42 (dk_at dksX0_person_3 14 rfl rfl)
theorem dX0_person_84 : decode cX0_person 84 = .ok (.aload_n 0, 1) := dk_42 (dk_at dksX0_person_3 15 rfl rfl)
theorem dX0_person_85 : decode cX0_person 85 = .ok (.getfield 16, 3) := dk_180 0 16 (dk_at dksX0_person_3 16 rfl rfl)
theorem dX0_person_88 : decode cX0_person 88 = .ok (.getfield 126, 3) := dk_180 0 126 (dk_at dksX0_person_3 19 rfl rfl)
theorem dX0_person_91 : decode cX0_person 91 = .ok (.invokevirtual 130, 3) := dk_182 0 130 (dk_at dksX0_person_4 0 rfl rfl)
theorem dX0_person_94 : decode cX0_person 94 = .ok (.iconst 1, 1) := dk_4 (dk_at dksX0_person_4 3 rfl rfl)
theorem dX0_person_95 : decode cX0_person 95 = .ok (.isub, 1) := dk_100 (dk_at dksX0_person_4 4 rfl rfl)
theorem dX0_person_96 : decode cX0_person 96 = .ok (.invokevirtual 164, 3) := dk_182 0 164 (dk_at dksX0_person_4 5 rfl rfl)
theorem dX0_person_99 : decode cX0_person 99 = .ok (.ireturn, 1) := dk_172 (dk_at dksX0_person_4 8 rfl rfl)
abbrev cX0_put : ByteArray := prog_1_method_25_code
def yX0_put : MethodName := ⟨RX0, "put", "(III)I"⟩
def dkwX0_put_7 : List UInt8 := [180, 0, 219, 182, 0, 164, 172]
abbrev dktX0_put_7 : List UInt8 := dkwX0_put_7 ++ []
def dkwX0_put_6 : List UInt8 := [183, 0, 207, 182, 0, 225, 87, 42, 28, 154, 0, 11, 25, 4, 180, 0, 222, 167, 0, 8, 25, 4]
abbrev dktX0_put_6 : List UInt8 := dkwX0_put_6 ++ dktX0_put_7
def dkwX0_put_5 : List UInt8 := [180, 0, 219, 183, 0, 207, 167, 0, 21, 187, 0, 148, 89, 25, 4, 180, 0, 216, 25, 4, 180, 0, 222, 29]
abbrev dktX0_put_5 : List UInt8 := dkwX0_put_5 ++ dktX0_put_6
def dkwX0_put_4 : List UInt8 := [42, 180, 0, 16, 180, 0, 126, 27, 28, 154, 0, 24, 187, 0, 148, 89, 25, 4, 180, 0, 216, 29, 25, 4]
abbrev dktX0_put_4 : List UInt8 := dkwX0_put_4 ++ dktX0_put_5
def dkwX0_put_3 : List UInt8 := [192, 0, 148, 58, 4, 28, 154, 0, 18, 29, 25, 4, 180, 0, 216, 163, 0, 9, 42, 2, 182, 0, 157, 172]
abbrev dktX0_put_3 : List UInt8 := dkwX0_put_3 ++ dktX0_put_4
def dkwX0_put_2 : List UInt8 := [182, 0, 213, 154, 0, 10, 42, 16, 254, 182, 0, 157, 172, 42, 180, 0, 16, 180, 0, 126, 27, 182, 0, 139]
abbrev dktX0_put_2 : List UInt8 := dkwX0_put_2 ++ dktX0_put_3
def dkwX0_put_1 : List UInt8 := [17, 1, 44, 167, 0, 5, 16, 9, 184, 0, 122, 154, 0, 9, 42, 2, 182, 0, 157, 172, 42, 27]
abbrev dktX0_put_1 : List UInt8 := dkwX0_put_1 ++ dktX0_put_2
def dkwX0_put_0 : List UInt8 := [28, 3, 4, 184, 0, 122, 153, 0, 31, 29, 28, 154, 0, 7, 3, 167, 0, 4, 4, 28, 154, 0, 9]
abbrev dktX0_put_0 : List UInt8 := dkwX0_put_0 ++ dktX0_put_1
theorem dksX0_put_0 : cX0_put.data.toList.drop 0 = dktX0_put_0 := by decide +kernel
theorem dksX0_put_1 : cX0_put.data.toList.drop 23 = dktX0_put_1 := dk_seg dksX0_put_0 23 rfl rfl
theorem dksX0_put_2 : cX0_put.data.toList.drop 45 = dktX0_put_2 := dk_seg dksX0_put_1 22 rfl rfl
theorem dksX0_put_3 : cX0_put.data.toList.drop 69 = dktX0_put_3 := dk_seg dksX0_put_2 24 rfl rfl
theorem dksX0_put_4 : cX0_put.data.toList.drop 93 = dktX0_put_4 := dk_seg dksX0_put_3 24 rfl rfl
theorem dksX0_put_5 : cX0_put.data.toList.drop 117 = dktX0_put_5 := dk_seg dksX0_put_4 24 rfl rfl
theorem dksX0_put_6 : cX0_put.data.toList.drop 141 = dktX0_put_6 := dk_seg dksX0_put_5 24 rfl rfl
theorem dksX0_put_7 : cX0_put.data.toList.drop 163 = dktX0_put_7 := dk_seg dksX0_put_6 22 rfl rfl
theorem dX0_put_0 : decode cX0_put 0 = .ok (.iload_n 2, 1) := dk_28 (dk_at dksX0_put_0 0 rfl rfl)
theorem dX0_put_1 : decode cX0_put 1 = .ok (.iconst 0, 1) := dk_3 (dk_at dksX0_put_0 1 rfl rfl)
theorem dX0_put_2 : decode cX0_put 2 = .ok (.iconst 1, 1) := dk_4 (dk_at dksX0_put_0 2 rfl rfl)
theorem dX0_put_3 : decode cX0_put 3 = .ok (.invokestatic 122, 3) := dk_184 0 122 (dk_at dksX0_put_0 3 rfl rfl)
theorem dX0_put_6 : decode cX0_put 6 = .ok (.ifCond .eq 31, 3) := dk_153 0 31 (dk_at dksX0_put_0 6 rfl rfl)
theorem dX0_put_9 : decode cX0_put 9 = .ok (.iload_n 3, 1) := dk_29 (dk_at dksX0_put_0 9 rfl rfl)
theorem dX0_put_10 : decode cX0_put 10 = .ok (.iload_n 2, 1) := dk_28 (dk_at dksX0_put_0 10 rfl rfl)
theorem dX0_put_11 : decode cX0_put 11 = .ok (.ifCond .ne 7, 3) := dk_154 0 7 (dk_at dksX0_put_0 11 rfl rfl)
theorem dX0_put_14 : decode cX0_put 14 = .ok (.iconst 0, 1) := dk_3 (dk_at dksX0_put_0 14 rfl rfl)
theorem dX0_put_15 : decode cX0_put 15 = .ok (.goto 4, 3) := dk_167 0 4 (dk_at dksX0_put_0 15 rfl rfl)
theorem dX0_put_18 : decode cX0_put 18 = .ok (.iconst 1, 1) := dk_4 (dk_at dksX0_put_0 18 rfl rfl)
theorem dX0_put_19 : decode cX0_put 19 = .ok (.iload_n 2, 1) := dk_28 (dk_at dksX0_put_0 19 rfl rfl)
theorem dX0_put_20 : decode cX0_put 20 = .ok (.ifCond .ne 9, 3) := dk_154 0 9 (dk_at dksX0_put_0 20 rfl rfl)
theorem dX0_put_23 : decode cX0_put 23 = .ok (.sipush 300, 3) := dk_17 1 44 (dk_at dksX0_put_1 0 rfl rfl)
theorem dX0_put_26 : decode cX0_put 26 = .ok (.goto 5, 3) := dk_167 0 5 (dk_at dksX0_put_1 3 rfl rfl)
theorem dX0_put_29 : decode cX0_put 29 = .ok (.bipush 9, 2) := dk_16 9 (dk_at dksX0_put_1 6 rfl rfl)
theorem dX0_put_31 : decode cX0_put 31 = .ok (.invokestatic 122, 3) := dk_184 0 122 (dk_at dksX0_put_1 8 rfl rfl)
theorem dX0_put_34 : decode cX0_put 34 = .ok (.ifCond .ne 9, 3) := dk_154 0 9 (dk_at dksX0_put_1 11 rfl rfl)
theorem dX0_put_37 : decode cX0_put 37 = .ok (.aload_n 0, 1) := dk_42 (dk_at dksX0_put_1 14 rfl rfl)
theorem dX0_put_38 : decode cX0_put 38 = .ok (.iconst (-1), 1) := dk_2 (dk_at dksX0_put_1 15 rfl rfl)
theorem dX0_put_39 : decode cX0_put 39 = .ok (.invokevirtual 157, 3) := dk_182 0 157 (dk_at dksX0_put_1 16 rfl rfl)
theorem dX0_put_42 : decode cX0_put 42 = .ok (.ireturn, 1) := dk_172 (dk_at dksX0_put_1 19 rfl rfl)
theorem dX0_put_43 : decode cX0_put 43 = .ok (.aload_n 0, 1) := dk_42 (dk_at dksX0_put_1 20 rfl rfl)
theorem dX0_put_44 : decode cX0_put 44 = .ok (.iload_n 1, 1) := dk_27 (dk_at dksX0_put_1 21 rfl rfl)
theorem dX0_put_45 : decode cX0_put 45 = .ok (.invokevirtual 213, 3) := dk_182 0 213 (dk_at dksX0_put_2 0 rfl rfl)
theorem dX0_put_48 : decode cX0_put 48 = .ok (.ifCond .ne 10, 3) := dk_154 0 10 (dk_at dksX0_put_2 3 rfl rfl)
theorem dX0_put_51 : decode cX0_put 51 = .ok (.aload_n 0, 1) := dk_42 (dk_at dksX0_put_2 6 rfl rfl)
theorem dX0_put_52 : decode cX0_put 52 = .ok (.bipush (-2), 2) := dk_16 254 (dk_at dksX0_put_2 7 rfl rfl)
theorem dX0_put_54 : decode cX0_put 54 = .ok (.invokevirtual 157, 3) := dk_182 0 157 (dk_at dksX0_put_2 9 rfl rfl)
theorem dX0_put_57 : decode cX0_put 57 = .ok (.ireturn, 1) := dk_172 (dk_at dksX0_put_2 12 rfl rfl)
theorem dX0_put_58 : decode cX0_put 58 = .ok (.aload_n 0, 1) := dk_42 (dk_at dksX0_put_2 13 rfl rfl)
theorem dX0_put_59 : decode cX0_put 59 = .ok (.getfield 16, 3) := dk_180 0 16 (dk_at dksX0_put_2 14 rfl rfl)
theorem dX0_put_62 : decode cX0_put 62 = .ok (.getfield 126, 3) := dk_180 0 126 (dk_at dksX0_put_2 17 rfl rfl)
theorem dX0_put_65 : decode cX0_put 65 = .ok (.iload_n 1, 1) := dk_27 (dk_at dksX0_put_2 20 rfl rfl)
theorem dX0_put_66 : decode cX0_put 66 = .ok (.invokevirtual 139, 3) := dk_182 0 139 (dk_at dksX0_put_2 21 rfl rfl)
theorem dX0_put_69 : decode cX0_put 69 = .ok (.checkcast 148, 3) := dk_192 0 148 (dk_at dksX0_put_3 0 rfl rfl)
theorem dX0_put_72 : decode cX0_put 72 = .ok (.astore 4, 2) := dk_58 4 (dk_at dksX0_put_3 3 rfl rfl)
theorem dX0_put_74 : decode cX0_put 74 = .ok (.iload_n 2, 1) := dk_28 (dk_at dksX0_put_3 5 rfl rfl)
theorem dX0_put_75 : decode cX0_put 75 = .ok (.ifCond .ne 18, 3) := dk_154 0 18 (dk_at dksX0_put_3 6 rfl rfl)
theorem dX0_put_78 : decode cX0_put 78 = .ok (.iload_n 3, 1) := dk_29 (dk_at dksX0_put_3 9 rfl rfl)
theorem dX0_put_79 : decode cX0_put 79 = .ok (.aload 4, 2) := dk_25 4 (dk_at dksX0_put_3 10 rfl rfl)
theorem dX0_put_81 : decode cX0_put 81 = .ok (.getfield 216, 3) := dk_180 0 216 (dk_at dksX0_put_3 12 rfl rfl)
theorem dX0_put_84 : decode cX0_put 84 = .ok (.if_icmp .gt 9, 3) := dk_163 0 9 (dk_at dksX0_put_3 15 rfl rfl)
theorem dX0_put_87 : decode cX0_put 87 = .ok (.aload_n 0, 1) := dk_42 (dk_at dksX0_put_3 18 rfl rfl)
theorem dX0_put_88 : decode cX0_put 88 = .ok (.iconst (-1), 1) := dk_2 (dk_at dksX0_put_3 19 rfl rfl)
theorem dX0_put_89 : decode cX0_put 89 = .ok (.invokevirtual 157, 3) := dk_182 0 157 (dk_at dksX0_put_3 20 rfl rfl)
theorem dX0_put_92 : decode cX0_put 92 = .ok (.ireturn, 1) := dk_172 (dk_at dksX0_put_3 23 rfl rfl)
theorem dX0_put_93 : decode cX0_put 93 = .ok (.aload_n 0, 1) := dk_42 (dk_at dksX0_put_4 0 rfl rfl)
theorem dX0_put_94 : decode cX0_put 94 = .ok (.getfield 16, 3) := dk_180 0 16 (dk_at dksX0_put_4 1 rfl rfl)
theorem dX0_put_97 : decode cX0_put 97 = .ok (.getfield 126, 3) := dk_180 0 126 (dk_at dksX0_put_4 4 rfl rfl)
theorem dX0_put_100 : decode cX0_put 100 = .ok (.iload_n 1, 1) := dk_27 (dk_at dksX0_put_4 7 rfl rfl)
theorem dX0_put_101 : decode cX0_put 101 = .ok (.iload_n 2, 1) := dk_28 (dk_at dksX0_put_4 8 rfl rfl)
theorem dX0_put_102 : decode cX0_put 102 = .ok (.ifCond .ne 24, 3) := dk_154 0 24 (dk_at dksX0_put_4 9 rfl rfl)
theorem dX0_put_105 : decode cX0_put 105 = .ok (.new 148, 3) := dk_187 0 148 (dk_at dksX0_put_4 12 rfl rfl)
theorem dX0_put_108 : decode cX0_put 108 = .ok (.dup, 1) := dk_89 (dk_at dksX0_put_4 15 rfl rfl)
theorem dX0_put_109 : decode cX0_put 109 = .ok (.aload 4, 2) := dk_25 4 (dk_at dksX0_put_4 16 rfl rfl)
theorem dX0_put_111 : decode cX0_put 111 = .ok (.getfield 216, 3) := dk_180 0 216 (dk_at dksX0_put_4 18 rfl rfl)
theorem dX0_put_114 : decode cX0_put 114 = .ok (.iload_n 3, 1) := dk_29 (dk_at dksX0_put_4 21 rfl rfl)
theorem dX0_put_115 : decode cX0_put 115 = .ok (.aload 4, 2) := dk_25 4 (dk_at dksX0_put_4 22 rfl rfl)
theorem dX0_put_117 : decode cX0_put 117 = .ok (.getfield 219, 3) := dk_180 0 219 (dk_at dksX0_put_5 0 rfl rfl)
theorem dX0_put_120 : decode cX0_put 120 = .ok (.invokespecial 207, 3) := dk_183 0 207 (dk_at dksX0_put_5 3 rfl rfl)
theorem dX0_put_123 : decode cX0_put 123 = .ok (.goto 21, 3) := dk_167 0 21 (dk_at dksX0_put_5 6 rfl rfl)
theorem dX0_put_126 : decode cX0_put 126 = .ok (.new 148, 3) := dk_187 0 148 (dk_at dksX0_put_5 9 rfl rfl)
theorem dX0_put_129 : decode cX0_put 129 = .ok (.dup, 1) := dk_89 (dk_at dksX0_put_5 12 rfl rfl)
theorem dX0_put_130 : decode cX0_put 130 = .ok (.aload 4, 2) := dk_25 4 (dk_at dksX0_put_5 13 rfl rfl)
theorem dX0_put_132 : decode cX0_put 132 = .ok (.getfield 216, 3) := dk_180 0 216 (dk_at dksX0_put_5 15 rfl rfl)
theorem dX0_put_135 : decode cX0_put 135 = .ok (.aload 4, 2) := dk_25 4 (dk_at dksX0_put_5 18 rfl rfl)
theorem dX0_put_137 : decode cX0_put 137 = .ok (.getfield 222, 3) := dk_180 0 222 (dk_at dksX0_put_5 20 rfl rfl)
theorem dX0_put_140 : decode cX0_put 140 = .ok (.iload_n 3, 1) := dk_29 (dk_at dksX0_put_5 23 rfl rfl)
theorem dX0_put_141 : decode cX0_put 141 = .ok (.invokespecial 207, 3) := dk_183 0 207 (dk_at dksX0_put_6 0 rfl rfl)
theorem dX0_put_144 : decode cX0_put 144 = .ok (.invokevirtual 225, 3) := dk_182 0 225 (dk_at dksX0_put_6 3 rfl rfl)
theorem dX0_put_147 : decode cX0_put 147 = .ok (.pop, 1) := dk_87 (dk_at dksX0_put_6 6 rfl rfl)
theorem dX0_put_148 : decode cX0_put 148 = .ok (.aload_n 0, 1) := dk_42 (dk_at dksX0_put_6 7 rfl rfl)
theorem dX0_put_149 : decode cX0_put 149 = .ok (.iload_n 2, 1) := dk_28 (dk_at dksX0_put_6 8 rfl rfl)
theorem dX0_put_150 : decode cX0_put 150 = .ok (.ifCond .ne 11, 3) := dk_154 0 11 (dk_at dksX0_put_6 9 rfl rfl)
theorem dX0_put_153 : decode cX0_put 153 = .ok (.aload 4, 2) := dk_25 4 (dk_at dksX0_put_6 12 rfl rfl)
theorem dX0_put_155 : decode cX0_put 155 = .ok (.getfield 222, 3) := dk_180 0 222 (dk_at dksX0_put_6 14 rfl rfl)
theorem dX0_put_158 : decode cX0_put 158 = .ok (.goto 8, 3) := dk_167 0 8 (dk_at dksX0_put_6 17 rfl rfl)
theorem dX0_put_161 : decode cX0_put 161 = .ok (.aload 4, 2) := dk_25 4 (dk_at dksX0_put_6 20 rfl rfl)
theorem dX0_put_163 : decode cX0_put 163 = .ok (.getfield 219, 3) := dk_180 0 219 (dk_at dksX0_put_7 0 rfl rfl)
theorem dX0_put_166 : decode cX0_put 166 = .ok (.invokevirtual 164, 3) := dk_182 0 164 (dk_at dksX0_put_7 3 rfl rfl)
theorem dX0_put_169 : decode cX0_put 169 = .ok (.ireturn, 1) := dk_172 (dk_at dksX0_put_7 6 rfl rfl)
abbrev cX0_isPerson : ByteArray := prog_1_method_9_code
def yX0_isPerson : MethodName := ⟨RX0, "isPerson", "(I)Z"⟩
def dkwX0_isPerson_0 : List UInt8 := [27, 3, 42, 180, 0, 16, 180, 0, 126, 182, 0, 130, 4, 100, 184, 0, 122, 172]
abbrev dktX0_isPerson_0 : List UInt8 := dkwX0_isPerson_0 ++ []
theorem dksX0_isPerson_0 : cX0_isPerson.data.toList.drop 0 = dktX0_isPerson_0 := by decide +kernel
theorem dX0_isPerson_0 : decode cX0_isPerson 0 = .ok (.iload_n 1, 1) := dk_27 (dk_at dksX0_isPerson_0 0 rfl rfl)
theorem dX0_isPerson_1 : decode cX0_isPerson 1 = .ok (.iconst 0, 1) := dk_3 (dk_at dksX0_isPerson_0 1 rfl rfl)
theorem dX0_isPerson_2 : decode cX0_isPerson 2 = .ok (.aload_n 0, 1) := dk_42 (dk_at dksX0_isPerson_0 2 rfl rfl)
theorem dX0_isPerson_3 : decode cX0_isPerson 3 = .ok (.getfield 16, 3) := dk_180 0 16 (dk_at dksX0_isPerson_0 3 rfl rfl)
theorem dX0_isPerson_6 : decode cX0_isPerson 6 = .ok (.getfield 126, 3) := dk_180 0 126 (dk_at dksX0_isPerson_0 6 rfl rfl)
theorem dX0_isPerson_9 : decode cX0_isPerson 9 = .ok (.invokevirtual 130, 3) := dk_182 0 130 (dk_at dksX0_isPerson_0 9 rfl rfl)
theorem dX0_isPerson_12 : decode cX0_isPerson 12 = .ok (.iconst 1, 1) := dk_4 (dk_at dksX0_isPerson_0 12 rfl rfl)
theorem dX0_isPerson_13 : decode cX0_isPerson 13 = .ok (.isub, 1) := dk_100 (dk_at dksX0_isPerson_0 13 rfl rfl)
theorem dX0_isPerson_14 : decode cX0_isPerson 14 = .ok (.invokestatic 122, 3) := dk_184 0 122 (dk_at dksX0_isPerson_0 14 rfl rfl)
theorem dX0_isPerson_17 : decode cX0_isPerson 17 = .ok (.ireturn, 1) := dk_172 (dk_at dksX0_isPerson_0 17 rfl rfl)
abbrev cX0_fact : ByteArray := prog_1_method_26_code
def yX0_fact : MethodName := ⟨RX0, "fact", "(II)I"⟩
def dkwX0_fact_4 : List UInt8 := [153, 0, 7, 4, 167, 0, 4, 3, 172, 2, 172]
abbrev dktX0_fact_4 : List UInt8 := dkwX0_fact_4 ++ []
def dkwX0_fact_3 : List UInt8 := [45, 180, 0, 216, 172, 45, 180, 0, 222, 172, 45, 180, 0, 219, 172, 45, 42, 182, 0, 229, 182, 0, 150]
abbrev dktX0_fact_3 : List UInt8 := dkwX0_fact_3 ++ dktX0_fact_4
def dkwX0_fact_2 : List UInt8 := [170, 0, 0, 0, 0, 62, 0, 0, 0, 0, 0, 0, 0, 3, 0, 0, 0, 30, 0, 0, 0, 35, 0, 0, 0, 40, 0, 0, 0, 45]
abbrev dktX0_fact_2 : List UInt8 := dkwX0_fact_2 ++ dktX0_fact_3
def dkwX0_fact_1 : List UInt8 := [78, 28]
abbrev dktX0_fact_1 : List UInt8 := dkwX0_fact_1 ++ dktX0_fact_2
def dkwX0_fact_0 : List UInt8 := [42, 27, 182, 0, 213, 154, 0, 5, 2, 172, 42, 180, 0, 16, 180, 0, 126, 27, 182, 0, 139, 192, 0, 148]
abbrev dktX0_fact_0 : List UInt8 := dkwX0_fact_0 ++ dktX0_fact_1
theorem dksX0_fact_0 : cX0_fact.data.toList.drop 0 = dktX0_fact_0 := by decide +kernel
theorem dksX0_fact_1 : cX0_fact.data.toList.drop 24 = dktX0_fact_1 := dk_seg dksX0_fact_0 24 rfl rfl
theorem dksX0_fact_2 : cX0_fact.data.toList.drop 26 = dktX0_fact_2 := dk_seg dksX0_fact_1 2 rfl rfl
theorem dksX0_fact_3 : cX0_fact.data.toList.drop 56 = dktX0_fact_3 := dk_seg dksX0_fact_2 30 rfl rfl
theorem dksX0_fact_4 : cX0_fact.data.toList.drop 79 = dktX0_fact_4 := dk_seg dksX0_fact_3 23 rfl rfl
theorem dX0_fact_0 : decode cX0_fact 0 = .ok (.aload_n 0, 1) := dk_42 (dk_at dksX0_fact_0 0 rfl rfl)
theorem dX0_fact_1 : decode cX0_fact 1 = .ok (.iload_n 1, 1) := dk_27 (dk_at dksX0_fact_0 1 rfl rfl)
theorem dX0_fact_2 : decode cX0_fact 2 = .ok (.invokevirtual 213, 3) := dk_182 0 213 (dk_at dksX0_fact_0 2 rfl rfl)
theorem dX0_fact_5 : decode cX0_fact 5 = .ok (.ifCond .ne 5, 3) := dk_154 0 5 (dk_at dksX0_fact_0 5 rfl rfl)
theorem dX0_fact_8 : decode cX0_fact 8 = .ok (.iconst (-1), 1) := dk_2 (dk_at dksX0_fact_0 8 rfl rfl)
theorem dX0_fact_9 : decode cX0_fact 9 = .ok (.ireturn, 1) := dk_172 (dk_at dksX0_fact_0 9 rfl rfl)
theorem dX0_fact_10 : decode cX0_fact 10 = .ok (.aload_n 0, 1) := dk_42 (dk_at dksX0_fact_0 10 rfl rfl)
theorem dX0_fact_11 : decode cX0_fact 11 = .ok (.getfield 16, 3) := dk_180 0 16 (dk_at dksX0_fact_0 11 rfl rfl)
theorem dX0_fact_14 : decode cX0_fact 14 = .ok (.getfield 126, 3) := dk_180 0 126 (dk_at dksX0_fact_0 14 rfl rfl)
theorem dX0_fact_17 : decode cX0_fact 17 = .ok (.iload_n 1, 1) := dk_27 (dk_at dksX0_fact_0 17 rfl rfl)
theorem dX0_fact_18 : decode cX0_fact 18 = .ok (.invokevirtual 139, 3) := dk_182 0 139 (dk_at dksX0_fact_0 18 rfl rfl)
theorem dX0_fact_21 : decode cX0_fact 21 = .ok (.checkcast 148, 3) := dk_192 0 148 (dk_at dksX0_fact_0 21 rfl rfl)
theorem dX0_fact_24 : decode cX0_fact 24 = .ok (.astore_n 3, 1) := dk_78 (dk_at dksX0_fact_1 0 rfl rfl)
theorem dX0_fact_25 : decode cX0_fact 25 = .ok (.iload_n 2, 1) := dk_28 (dk_at dksX0_fact_1 1 rfl rfl)
theorem dX0_fact_26 : decode cX0_fact 26 = .ok (.tableswitch 62 0 3 #[30, 35, 40, 45], 30) := by decide +kernel
theorem dX0_fact_56 : decode cX0_fact 56 = .ok (.aload_n 3, 1) := dk_45 (dk_at dksX0_fact_3 0 rfl rfl)
theorem dX0_fact_57 : decode cX0_fact 57 = .ok (.getfield 216, 3) := dk_180 0 216 (dk_at dksX0_fact_3 1 rfl rfl)
theorem dX0_fact_60 : decode cX0_fact 60 = .ok (.ireturn, 1) := dk_172 (dk_at dksX0_fact_3 4 rfl rfl)
theorem dX0_fact_61 : decode cX0_fact 61 = .ok (.aload_n 3, 1) := dk_45 (dk_at dksX0_fact_3 5 rfl rfl)
theorem dX0_fact_62 : decode cX0_fact 62 = .ok (.getfield 222, 3) := dk_180 0 222 (dk_at dksX0_fact_3 6 rfl rfl)
theorem dX0_fact_65 : decode cX0_fact 65 = .ok (.ireturn, 1) := dk_172 (dk_at dksX0_fact_3 9 rfl rfl)
theorem dX0_fact_66 : decode cX0_fact 66 = .ok (.aload_n 3, 1) := dk_45 (dk_at dksX0_fact_3 10 rfl rfl)
theorem dX0_fact_67 : decode cX0_fact 67 = .ok (.getfield 219, 3) := dk_180 0 219 (dk_at dksX0_fact_3 11 rfl rfl)
theorem dX0_fact_70 : decode cX0_fact 70 = .ok (.ireturn, 1) := dk_172 (dk_at dksX0_fact_3 14 rfl rfl)
theorem dX0_fact_71 : decode cX0_fact 71 = .ok (.aload_n 3, 1) := dk_45 (dk_at dksX0_fact_3 15 rfl rfl)
theorem dX0_fact_72 : decode cX0_fact 72 = .ok (.aload_n 0, 1) := dk_42 (dk_at dksX0_fact_3 16 rfl rfl)
theorem dX0_fact_73 : decode cX0_fact 73 = .ok (.invokevirtual 229, 3) := dk_182 0 229 (dk_at dksX0_fact_3 17 rfl rfl)
theorem dX0_fact_76 : decode cX0_fact 76 = .ok (.invokevirtual 150, 3) := dk_182 0 150 (dk_at dksX0_fact_3 20 rfl rfl)
theorem dX0_fact_79 : decode cX0_fact 79 = .ok (.ifCond .eq 7, 3) := dk_153 0 7 (dk_at dksX0_fact_4 0 rfl rfl)
theorem dX0_fact_82 : decode cX0_fact 82 = .ok (.iconst 1, 1) := dk_4 (dk_at dksX0_fact_4 3 rfl rfl)
theorem dX0_fact_83 : decode cX0_fact 83 = .ok (.goto 4, 3) := dk_167 0 4 (dk_at dksX0_fact_4 4 rfl rfl)
theorem dX0_fact_86 : decode cX0_fact 86 = .ok (.iconst 0, 1) := dk_3 (dk_at dksX0_fact_4 7 rfl rfl)
theorem dX0_fact_87 : decode cX0_fact 87 = .ok (.ireturn, 1) := dk_172 (dk_at dksX0_fact_4 8 rfl rfl)
theorem dX0_fact_88 : decode cX0_fact 88 = .ok (.iconst (-1), 1) := dk_2 (dk_at dksX0_fact_4 9 rfl rfl)
theorem dX0_fact_89 : decode cX0_fact 89 = .ok (.ireturn, 1) := dk_172 (dk_at dksX0_fact_4 10 rfl rfl)
abbrev cX0_year : ByteArray := prog_1_method_15_code
def yX0_year : MethodName := ⟨RX0, "year", "()I"⟩
def dkwX0_year_0 : List UInt8 := [42, 180, 0, 16, 180, 0, 154, 3, 46, 172]
abbrev dktX0_year_0 : List UInt8 := dkwX0_year_0 ++ []
theorem dksX0_year_0 : cX0_year.data.toList.drop 0 = dktX0_year_0 := by decide +kernel
theorem dX0_year_0 : decode cX0_year 0 = .ok (.aload_n 0, 1) := dk_42 (dk_at dksX0_year_0 0 rfl rfl)
theorem dX0_year_1 : decode cX0_year 1 = .ok (.getfield 16, 3) := dk_180 0 16 (dk_at dksX0_year_0 1 rfl rfl)
theorem dX0_year_4 : decode cX0_year 4 = .ok (.getfield 154, 3) := dk_180 0 154 (dk_at dksX0_year_0 4 rfl rfl)
theorem dX0_year_7 : decode cX0_year 7 = .ok (.iconst 0, 1) := dk_3 (dk_at dksX0_year_0 7 rfl rfl)
theorem dX0_year_8 : decode cX0_year 8 = .ok (.iaload, 1) := dk_46 (dk_at dksX0_year_0 8 rfl rfl)
theorem dX0_year_9 : decode cX0_year 9 = .ok (.ireturn, 1) := dk_172 (dk_at dksX0_year_0 9 rfl rfl)
abbrev cX0_terms : ByteArray := prog_1_method_27_code
def yX0_terms : MethodName := ⟨RX0, "terms", "(II)I"⟩
def dkwX0_terms_3 : List UInt8 := [172]
abbrev dktX0_terms_3 : List UInt8 := dkwX0_terms_3 ++ []
def dkwX0_terms_2 : List UInt8 := [180, 0, 16, 180, 0, 154, 27, 46, 62, 42, 180, 0, 16, 180, 0, 154, 27, 28, 79, 42, 29, 182, 0, 164]
abbrev dktX0_terms_2 : List UInt8 := dkwX0_terms_2 ++ dktX0_terms_3
def dkwX0_terms_1 : List UInt8 := [160, 0, 8, 16, 9, 167, 0, 5, 16, 100, 184, 0, 122, 154, 0, 9, 42, 2, 182, 0, 157, 172, 42]
abbrev dktX0_terms_1 : List UInt8 := dkwX0_terms_1 ++ dktX0_terms_2
def dkwX0_terms_0 : List UInt8 := [27, 3, 5, 184, 0, 122, 153, 0, 33, 28, 3, 27, 154, 0, 9, 17, 1, 44, 167, 0, 15, 27, 4]
abbrev dktX0_terms_0 : List UInt8 := dkwX0_terms_0 ++ dktX0_terms_1
theorem dksX0_terms_0 : cX0_terms.data.toList.drop 0 = dktX0_terms_0 := by decide +kernel
theorem dksX0_terms_1 : cX0_terms.data.toList.drop 23 = dktX0_terms_1 := dk_seg dksX0_terms_0 23 rfl rfl
theorem dksX0_terms_2 : cX0_terms.data.toList.drop 46 = dktX0_terms_2 := dk_seg dksX0_terms_1 23 rfl rfl
theorem dksX0_terms_3 : cX0_terms.data.toList.drop 70 = dktX0_terms_3 := dk_seg dksX0_terms_2 24 rfl rfl
theorem dX0_terms_0 : decode cX0_terms 0 = .ok (.iload_n 1, 1) := dk_27 (dk_at dksX0_terms_0 0 rfl rfl)
theorem dX0_terms_1 : decode cX0_terms 1 = .ok (.iconst 0, 1) := dk_3 (dk_at dksX0_terms_0 1 rfl rfl)
theorem dX0_terms_2 : decode cX0_terms 2 = .ok (.iconst 2, 1) := dk_5 (dk_at dksX0_terms_0 2 rfl rfl)
theorem dX0_terms_3 : decode cX0_terms 3 = .ok (.invokestatic 122, 3) := dk_184 0 122 (dk_at dksX0_terms_0 3 rfl rfl)
theorem dX0_terms_6 : decode cX0_terms 6 = .ok (.ifCond .eq 33, 3) := dk_153 0 33 (dk_at dksX0_terms_0 6 rfl rfl)
theorem dX0_terms_9 : decode cX0_terms 9 = .ok (.iload_n 2, 1) := dk_28 (dk_at dksX0_terms_0 9 rfl rfl)
theorem dX0_terms_10 : decode cX0_terms 10 = .ok (.iconst 0, 1) := dk_3 (dk_at dksX0_terms_0 10 rfl rfl)
theorem dX0_terms_11 : decode cX0_terms 11 = .ok (.iload_n 1, 1) := dk_27 (dk_at dksX0_terms_0 11 rfl rfl)
theorem dX0_terms_12 : decode cX0_terms 12 = .ok (.ifCond .ne 9, 3) := dk_154 0 9 (dk_at dksX0_terms_0 12 rfl rfl)
theorem dX0_terms_15 : decode cX0_terms 15 = .ok (.sipush 300, 3) := dk_17 1 44 (dk_at dksX0_terms_0 15 rfl rfl)
theorem dX0_terms_18 : decode cX0_terms 18 = .ok (.goto 15, 3) := dk_167 0 15 (dk_at dksX0_terms_0 18 rfl rfl)
theorem dX0_terms_21 : decode cX0_terms 21 = .ok (.iload_n 1, 1) := dk_27 (dk_at dksX0_terms_0 21 rfl rfl)
theorem dX0_terms_22 : decode cX0_terms 22 = .ok (.iconst 1, 1) := dk_4 (dk_at dksX0_terms_0 22 rfl rfl)
theorem dX0_terms_23 : decode cX0_terms 23 = .ok (.if_icmp .ne 8, 3) := dk_160 0 8 (dk_at dksX0_terms_1 0 rfl rfl)
theorem dX0_terms_26 : decode cX0_terms 26 = .ok (.bipush 9, 2) := dk_16 9 (dk_at dksX0_terms_1 3 rfl rfl)
theorem dX0_terms_28 : decode cX0_terms 28 = .ok (.goto 5, 3) := dk_167 0 5 (dk_at dksX0_terms_1 5 rfl rfl)
theorem dX0_terms_31 : decode cX0_terms 31 = .ok (.bipush 100, 2) := dk_16 100 (dk_at dksX0_terms_1 8 rfl rfl)
theorem dX0_terms_33 : decode cX0_terms 33 = .ok (.invokestatic 122, 3) := dk_184 0 122 (dk_at dksX0_terms_1 10 rfl rfl)
theorem dX0_terms_36 : decode cX0_terms 36 = .ok (.ifCond .ne 9, 3) := dk_154 0 9 (dk_at dksX0_terms_1 13 rfl rfl)
theorem dX0_terms_39 : decode cX0_terms 39 = .ok (.aload_n 0, 1) := dk_42 (dk_at dksX0_terms_1 16 rfl rfl)
theorem dX0_terms_40 : decode cX0_terms 40 = .ok (.iconst (-1), 1) := dk_2 (dk_at dksX0_terms_1 17 rfl rfl)
theorem dX0_terms_41 : decode cX0_terms 41 = .ok (.invokevirtual 157, 3) := dk_182 0 157 (dk_at dksX0_terms_1 18 rfl rfl)
theorem dX0_terms_44 : decode cX0_terms 44 = .ok (.ireturn, 1) := dk_172 (dk_at dksX0_terms_1 21 rfl rfl)
theorem dX0_terms_45 : decode cX0_terms 45 = .ok (.aload_n 0, 1) := dk_42 (dk_at dksX0_terms_1 22 rfl rfl)
theorem dX0_terms_46 : decode cX0_terms 46 = .ok (.getfield 16, 3) := dk_180 0 16 (dk_at dksX0_terms_2 0 rfl rfl)
theorem dX0_terms_49 : decode cX0_terms 49 = .ok (.getfield 154, 3) := dk_180 0 154 (dk_at dksX0_terms_2 3 rfl rfl)
theorem dX0_terms_52 : decode cX0_terms 52 = .ok (.iload_n 1, 1) := dk_27 (dk_at dksX0_terms_2 6 rfl rfl)
theorem dX0_terms_53 : decode cX0_terms 53 = .ok (.iaload, 1) := dk_46 (dk_at dksX0_terms_2 7 rfl rfl)
theorem dX0_terms_54 : decode cX0_terms 54 = .ok (.istore_n 3, 1) := dk_62 (dk_at dksX0_terms_2 8 rfl rfl)
theorem dX0_terms_55 : decode cX0_terms 55 = .ok (.aload_n 0, 1) := dk_42 (dk_at dksX0_terms_2 9 rfl rfl)
theorem dX0_terms_56 : decode cX0_terms 56 = .ok (.getfield 16, 3) := dk_180 0 16 (dk_at dksX0_terms_2 10 rfl rfl)
theorem dX0_terms_59 : decode cX0_terms 59 = .ok (.getfield 154, 3) := dk_180 0 154 (dk_at dksX0_terms_2 13 rfl rfl)
theorem dX0_terms_62 : decode cX0_terms 62 = .ok (.iload_n 1, 1) := dk_27 (dk_at dksX0_terms_2 16 rfl rfl)
theorem dX0_terms_63 : decode cX0_terms 63 = .ok (.iload_n 2, 1) := dk_28 (dk_at dksX0_terms_2 17 rfl rfl)
theorem dX0_terms_64 : decode cX0_terms 64 = .ok (.iastore, 1) := dk_79 (dk_at dksX0_terms_2 18 rfl rfl)
theorem dX0_terms_65 : decode cX0_terms 65 = .ok (.aload_n 0, 1) := dk_42 (dk_at dksX0_terms_2 19 rfl rfl)
theorem dX0_terms_66 : decode cX0_terms 66 = .ok (.iload_n 3, 1) := dk_29 (dk_at dksX0_terms_2 20 rfl rfl)
theorem dX0_terms_67 : decode cX0_terms 67 = .ok (.invokevirtual 164, 3) := dk_182 0 164 (dk_at dksX0_terms_2 21 rfl rfl)
theorem dX0_terms_70 : decode cX0_terms 70 = .ok (.ireturn, 1) := dk_172 (dk_at dksX0_terms_3 0 rfl rfl)
abbrev cX0_feed : ByteArray := prog_1_method_28_code
def yX0_feed : MethodName := ⟨RX0, "feed", "(IIIII)I"⟩
def dkwX0_feed_2 : List UInt8 := [172]
abbrev dktX0_feed_2 : List UInt8 := dkwX0_feed_2 ++ []
def dkwX0_feed_1 : List UInt8 := [182, 0, 235, 42, 29, 182, 0, 235, 42, 21, 4, 182, 0, 235, 42, 21, 5, 182, 0, 235, 42, 180, 0, 232]
abbrev dktX0_feed_1 : List UInt8 := dkwX0_feed_1 ++ dktX0_feed_2
def dkwX0_feed_0 : List UInt8 := [42, 180, 0, 232, 16, 20, 96, 17, 1, 144, 164, 0, 5, 2, 172, 42, 27, 182, 0, 235, 42, 28]
abbrev dktX0_feed_0 : List UInt8 := dkwX0_feed_0 ++ dktX0_feed_1
theorem dksX0_feed_0 : cX0_feed.data.toList.drop 0 = dktX0_feed_0 := by decide +kernel
theorem dksX0_feed_1 : cX0_feed.data.toList.drop 22 = dktX0_feed_1 := dk_seg dksX0_feed_0 22 rfl rfl
theorem dksX0_feed_2 : cX0_feed.data.toList.drop 46 = dktX0_feed_2 := dk_seg dksX0_feed_1 24 rfl rfl
theorem dX0_feed_0 : decode cX0_feed 0 = .ok (.aload_n 0, 1) := dk_42 (dk_at dksX0_feed_0 0 rfl rfl)
theorem dX0_feed_1 : decode cX0_feed 1 = .ok (.getfield 232, 3) := dk_180 0 232 (dk_at dksX0_feed_0 1 rfl rfl)
theorem dX0_feed_4 : decode cX0_feed 4 = .ok (.bipush 20, 2) := dk_16 20 (dk_at dksX0_feed_0 4 rfl rfl)
theorem dX0_feed_6 : decode cX0_feed 6 = .ok (.iadd, 1) := dk_96 (dk_at dksX0_feed_0 6 rfl rfl)
theorem dX0_feed_7 : decode cX0_feed 7 = .ok (.sipush 400, 3) := dk_17 1 144 (dk_at dksX0_feed_0 7 rfl rfl)
theorem dX0_feed_10 : decode cX0_feed 10 = .ok (.if_icmp .le 5, 3) := dk_164 0 5 (dk_at dksX0_feed_0 10 rfl rfl)
theorem dX0_feed_13 : decode cX0_feed 13 = .ok (.iconst (-1), 1) := dk_2 (dk_at dksX0_feed_0 13 rfl rfl)
theorem dX0_feed_14 : decode cX0_feed 14 = .ok (.ireturn, 1) := dk_172 (dk_at dksX0_feed_0 14 rfl rfl)
theorem dX0_feed_15 : decode cX0_feed 15 = .ok (.aload_n 0, 1) := dk_42 (dk_at dksX0_feed_0 15 rfl rfl)
theorem dX0_feed_16 : decode cX0_feed 16 = .ok (.iload_n 1, 1) := dk_27 (dk_at dksX0_feed_0 16 rfl rfl)
theorem dX0_feed_17 : decode cX0_feed 17 = .ok (.invokevirtual 235, 3) := dk_182 0 235 (dk_at dksX0_feed_0 17 rfl rfl)
theorem dX0_feed_20 : decode cX0_feed 20 = .ok (.aload_n 0, 1) := dk_42 (dk_at dksX0_feed_0 20 rfl rfl)
theorem dX0_feed_21 : decode cX0_feed 21 = .ok (.iload_n 2, 1) := dk_28 (dk_at dksX0_feed_0 21 rfl rfl)
theorem dX0_feed_22 : decode cX0_feed 22 = .ok (.invokevirtual 235, 3) := dk_182 0 235 (dk_at dksX0_feed_1 0 rfl rfl)
theorem dX0_feed_25 : decode cX0_feed 25 = .ok (.aload_n 0, 1) := dk_42 (dk_at dksX0_feed_1 3 rfl rfl)
theorem dX0_feed_26 : decode cX0_feed 26 = .ok (.iload_n 3, 1) := dk_29 (dk_at dksX0_feed_1 4 rfl rfl)
theorem dX0_feed_27 : decode cX0_feed 27 = .ok (.invokevirtual 235, 3) := dk_182 0 235 (dk_at dksX0_feed_1 5 rfl rfl)
theorem dX0_feed_30 : decode cX0_feed 30 = .ok (.aload_n 0, 1) := dk_42 (dk_at dksX0_feed_1 8 rfl rfl)
theorem dX0_feed_31 : decode cX0_feed 31 = .ok (.iload 4, 2) := dk_21 4 (dk_at dksX0_feed_1 9 rfl rfl)
theorem dX0_feed_33 : decode cX0_feed 33 = .ok (.invokevirtual 235, 3) := dk_182 0 235 (dk_at dksX0_feed_1 11 rfl rfl)
theorem dX0_feed_36 : decode cX0_feed 36 = .ok (.aload_n 0, 1) := dk_42 (dk_at dksX0_feed_1 14 rfl rfl)
theorem dX0_feed_37 : decode cX0_feed 37 = .ok (.iload 5, 2) := dk_21 5 (dk_at dksX0_feed_1 15 rfl rfl)
theorem dX0_feed_39 : decode cX0_feed 39 = .ok (.invokevirtual 235, 3) := dk_182 0 235 (dk_at dksX0_feed_1 17 rfl rfl)
theorem dX0_feed_42 : decode cX0_feed 42 = .ok (.aload_n 0, 1) := dk_42 (dk_at dksX0_feed_1 20 rfl rfl)
theorem dX0_feed_43 : decode cX0_feed 43 = .ok (.getfield 232, 3) := dk_180 0 232 (dk_at dksX0_feed_1 21 rfl rfl)
theorem dX0_feed_46 : decode cX0_feed 46 = .ok (.ireturn, 1) := dk_172 (dk_at dksX0_feed_2 0 rfl rfl)
abbrev cX0_four : ByteArray := prog_1_method_29_code
def yX0_four : MethodName := ⟨RX0, "four", "(I)V"⟩
def dkwX0_four_1 : List UInt8 := [180, 0, 232, 4, 96, 181, 0, 232, 132, 2, 248, 167, 255, 226, 177]
abbrev dktX0_four_1 : List UInt8 := dkwX0_four_1 ++ []
def dkwX0_four_0 : List UInt8 := [16, 24, 61, 28, 155, 0, 32, 42, 180, 0, 24, 42, 180, 0, 232, 27, 28, 122, 145, 84, 42, 89]
abbrev dktX0_four_0 : List UInt8 := dkwX0_four_0 ++ dktX0_four_1
theorem dksX0_four_0 : cX0_four.data.toList.drop 0 = dktX0_four_0 := by decide +kernel
theorem dksX0_four_1 : cX0_four.data.toList.drop 22 = dktX0_four_1 := dk_seg dksX0_four_0 22 rfl rfl
theorem dX0_four_0 : decode cX0_four 0 = .ok (.bipush 24, 2) := dk_16 24 (dk_at dksX0_four_0 0 rfl rfl)
theorem dX0_four_2 : decode cX0_four 2 = .ok (.istore_n 2, 1) := dk_61 (dk_at dksX0_four_0 2 rfl rfl)
theorem dX0_four_3 : decode cX0_four 3 = .ok (.iload_n 2, 1) := dk_28 (dk_at dksX0_four_0 3 rfl rfl)
theorem dX0_four_4 : decode cX0_four 4 = .ok (.ifCond .lt 32, 3) := dk_155 0 32 (dk_at dksX0_four_0 4 rfl rfl)
theorem dX0_four_7 : decode cX0_four 7 = .ok (.aload_n 0, 1) := dk_42 (dk_at dksX0_four_0 7 rfl rfl)
theorem dX0_four_8 : decode cX0_four 8 = .ok (.getfield 24, 3) := dk_180 0 24 (dk_at dksX0_four_0 8 rfl rfl)
theorem dX0_four_11 : decode cX0_four 11 = .ok (.aload_n 0, 1) := dk_42 (dk_at dksX0_four_0 11 rfl rfl)
theorem dX0_four_12 : decode cX0_four 12 = .ok (.getfield 232, 3) := dk_180 0 232 (dk_at dksX0_four_0 12 rfl rfl)
theorem dX0_four_15 : decode cX0_four 15 = .ok (.iload_n 1, 1) := dk_27 (dk_at dksX0_four_0 15 rfl rfl)
theorem dX0_four_16 : decode cX0_four 16 = .ok (.iload_n 2, 1) := dk_28 (dk_at dksX0_four_0 16 rfl rfl)
theorem dX0_four_17 : decode cX0_four 17 = .ok (.ishr, 1) := dk_122 (dk_at dksX0_four_0 17 rfl rfl)
theorem dX0_four_18 : decode cX0_four 18 = .ok (.i2b, 1) := dk_145 (dk_at dksX0_four_0 18 rfl rfl)
theorem dX0_four_19 : decode cX0_four 19 = .ok (.bastore, 1) := dk_84 (dk_at dksX0_four_0 19 rfl rfl)
theorem dX0_four_20 : decode cX0_four 20 = .ok (.aload_n 0, 1) := dk_42 (dk_at dksX0_four_0 20 rfl rfl)
theorem dX0_four_21 : decode cX0_four 21 = .ok (.dup, 1) := dk_89 (dk_at dksX0_four_0 21 rfl rfl)
theorem dX0_four_22 : decode cX0_four 22 = .ok (.getfield 232, 3) := dk_180 0 232 (dk_at dksX0_four_1 0 rfl rfl)
theorem dX0_four_25 : decode cX0_four 25 = .ok (.iconst 1, 1) := dk_4 (dk_at dksX0_four_1 3 rfl rfl)
theorem dX0_four_26 : decode cX0_four 26 = .ok (.iadd, 1) := dk_96 (dk_at dksX0_four_1 4 rfl rfl)
theorem dX0_four_27 : decode cX0_four 27 = .ok (.putfield 232, 3) := dk_181 0 232 (dk_at dksX0_four_1 5 rfl rfl)
theorem dX0_four_30 : decode cX0_four 30 = .ok (.iinc 2 (-8), 3) := dk_132 2 248 (dk_at dksX0_four_1 8 rfl rfl)
theorem dX0_four_33 : decode cX0_four 33 = .ok (.goto (-30), 3) := dk_167 255 226 (dk_at dksX0_four_1 11 rfl rfl)
theorem dX0_four_36 : decode cX0_four 36 = .ok (.return_, 1) := dk_177 (dk_at dksX0_four_1 14 rfl rfl)
abbrev cX0_end : ByteArray := prog_1_method_30_code
def yX0_end : MethodName := ⟨RX0, "end", "(I)I"⟩
def dkwX0_end_0 : List UInt8 := [27, 155, 0, 11, 27, 42, 180, 0, 232, 164, 0, 5, 2, 172, 42, 27, 181, 0, 232, 27, 172]
abbrev dktX0_end_0 : List UInt8 := dkwX0_end_0 ++ []
theorem dksX0_end_0 : cX0_end.data.toList.drop 0 = dktX0_end_0 := by decide +kernel
theorem dX0_end_0 : decode cX0_end 0 = .ok (.iload_n 1, 1) := dk_27 (dk_at dksX0_end_0 0 rfl rfl)
theorem dX0_end_1 : decode cX0_end 1 = .ok (.ifCond .lt 11, 3) := dk_155 0 11 (dk_at dksX0_end_0 1 rfl rfl)
theorem dX0_end_4 : decode cX0_end 4 = .ok (.iload_n 1, 1) := dk_27 (dk_at dksX0_end_0 4 rfl rfl)
theorem dX0_end_5 : decode cX0_end 5 = .ok (.aload_n 0, 1) := dk_42 (dk_at dksX0_end_0 5 rfl rfl)
theorem dX0_end_6 : decode cX0_end 6 = .ok (.getfield 232, 3) := dk_180 0 232 (dk_at dksX0_end_0 6 rfl rfl)
theorem dX0_end_9 : decode cX0_end 9 = .ok (.if_icmp .le 5, 3) := dk_164 0 5 (dk_at dksX0_end_0 9 rfl rfl)
theorem dX0_end_12 : decode cX0_end 12 = .ok (.iconst (-1), 1) := dk_2 (dk_at dksX0_end_0 12 rfl rfl)
theorem dX0_end_13 : decode cX0_end 13 = .ok (.ireturn, 1) := dk_172 (dk_at dksX0_end_0 13 rfl rfl)
theorem dX0_end_14 : decode cX0_end 14 = .ok (.aload_n 0, 1) := dk_42 (dk_at dksX0_end_0 14 rfl rfl)
theorem dX0_end_15 : decode cX0_end 15 = .ok (.iload_n 1, 1) := dk_27 (dk_at dksX0_end_0 15 rfl rfl)
theorem dX0_end_16 : decode cX0_end 16 = .ok (.putfield 232, 3) := dk_181 0 232 (dk_at dksX0_end_0 16 rfl rfl)
theorem dX0_end_19 : decode cX0_end 19 = .ok (.iload_n 1, 1) := dk_27 (dk_at dksX0_end_0 19 rfl rfl)
theorem dX0_end_20 : decode cX0_end 20 = .ok (.ireturn, 1) := dk_172 (dk_at dksX0_end_0 20 rfl rfl)
abbrev cX0_row : ByteArray := prog_1_method_31_code
def yX0_row : MethodName := ⟨RX0, "row", "(I)I"⟩
def dkwX0_row_9 : List UInt8 := [29, 182, 0, 164, 172]
abbrev dktX0_row_9 : List UInt8 := dkwX0_row_9 ++ []
def dkwX0_row_8 : List UInt8 := [180, 0, 239, 21, 5, 153, 0, 7, 3, 167, 0, 4, 4, 96, 181, 0, 239, 132, 4, 4, 167, 255, 105, 42]
abbrev dktX0_row_8 : List UInt8 := dkwX0_row_8 ++ dktX0_row_9
def dkwX0_row_7 : List UInt8 := [21, 4, 6, 96, 51, 182, 0, 190, 29, 21, 5, 153, 0, 7, 4, 167, 0, 4, 3, 96, 62, 42, 89]
abbrev dktX0_row_7 : List UInt8 := dkwX0_row_7 ++ dktX0_row_8
def dkwX0_row_6 : List UInt8 := [42, 180, 0, 24, 21, 4, 4, 96, 51, 96, 42, 180, 0, 24, 21, 4, 5, 96, 51, 42, 180, 0, 24]
abbrev dktX0_row_6 : List UInt8 := dkwX0_row_6 ++ dktX0_row_7
def dkwX0_row_5 : List UInt8 := [21, 5, 153, 0, 53, 42, 180, 0, 16, 180, 0, 170, 27, 50, 16, 6, 42, 180, 0, 24, 21, 4, 51, 104]
abbrev dktX0_row_5 : List UInt8 := dkwX0_row_5 ++ dktX0_row_6
def dkwX0_row_4 : List UInt8 := [51, 42, 180, 0, 24, 21, 4, 6, 96, 51, 184, 0, 181, 153, 0, 7, 4, 167, 0, 4, 3, 54, 5]
abbrev dktX0_row_4 : List UInt8 := dkwX0_row_4 ++ dktX0_row_5
def dkwX0_row_3 : List UInt8 := [51, 42, 180, 0, 24, 21, 4, 4, 96, 51, 184, 0, 177, 153, 0, 31, 42, 180, 0, 24, 21, 4, 5, 96]
abbrev dktX0_row_3 : List UInt8 := dkwX0_row_3 ++ dktX0_row_4
def dkwX0_row_2 : List UInt8 := [167, 0, 4, 4, 181, 0, 239, 3, 54, 4, 21, 4, 7, 96, 28, 163, 0, 149, 42, 180, 0, 24, 21, 4]
abbrev dktX0_row_2 : List UInt8 := dkwX0_row_2 ++ dktX0_row_3
def dkwX0_row_1 : List UInt8 := [181, 0, 232, 28, 154, 0, 10, 42, 16, 250, 182, 0, 157, 172, 3, 62, 42, 28, 7, 112, 154, 0, 7, 3]
abbrev dktX0_row_1 : List UInt8 := dkwX0_row_1 ++ dktX0_row_2
def dkwX0_row_0 : List UInt8 := [42, 27, 182, 0, 184, 154, 0, 10, 42, 16, 254, 182, 0, 157, 172, 42, 180, 0, 232, 61, 42, 3]
abbrev dktX0_row_0 : List UInt8 := dkwX0_row_0 ++ dktX0_row_1
theorem dksX0_row_0 : cX0_row.data.toList.drop 0 = dktX0_row_0 := by decide +kernel
theorem dksX0_row_1 : cX0_row.data.toList.drop 22 = dktX0_row_1 := dk_seg dksX0_row_0 22 rfl rfl
theorem dksX0_row_2 : cX0_row.data.toList.drop 46 = dktX0_row_2 := dk_seg dksX0_row_1 24 rfl rfl
theorem dksX0_row_3 : cX0_row.data.toList.drop 70 = dktX0_row_3 := dk_seg dksX0_row_2 24 rfl rfl
theorem dksX0_row_4 : cX0_row.data.toList.drop 94 = dktX0_row_4 := dk_seg dksX0_row_3 24 rfl rfl
theorem dksX0_row_5 : cX0_row.data.toList.drop 117 = dktX0_row_5 := dk_seg dksX0_row_4 23 rfl rfl
theorem dksX0_row_6 : cX0_row.data.toList.drop 141 = dktX0_row_6 := dk_seg dksX0_row_5 24 rfl rfl
theorem dksX0_row_7 : cX0_row.data.toList.drop 164 = dktX0_row_7 := dk_seg dksX0_row_6 23 rfl rfl
theorem dksX0_row_8 : cX0_row.data.toList.drop 187 = dktX0_row_8 := dk_seg dksX0_row_7 23 rfl rfl
theorem dksX0_row_9 : cX0_row.data.toList.drop 211 = dktX0_row_9 := dk_seg dksX0_row_8 24 rfl rfl
theorem dX0_row_0 : decode cX0_row 0 = .ok (.aload_n 0, 1) := dk_42 (dk_at dksX0_row_0 0 rfl rfl)
theorem dX0_row_1 : decode cX0_row 1 = .ok (.iload_n 1, 1) := dk_27 (dk_at dksX0_row_0 1 rfl rfl)
theorem dX0_row_2 : decode cX0_row 2 = .ok (.invokevirtual 184, 3) := dk_182 0 184 (dk_at dksX0_row_0 2 rfl rfl)
theorem dX0_row_5 : decode cX0_row 5 = .ok (.ifCond .ne 10, 3) := dk_154 0 10 (dk_at dksX0_row_0 5 rfl rfl)
theorem dX0_row_8 : decode cX0_row 8 = .ok (.aload_n 0, 1) := dk_42 (dk_at dksX0_row_0 8 rfl rfl)
theorem dX0_row_9 : decode cX0_row 9 = .ok (.bipush (-2), 2) := dk_16 254 (dk_at dksX0_row_0 9 rfl rfl)
theorem dX0_row_11 : decode cX0_row 11 = .ok (.invokevirtual 157, 3) := dk_182 0 157 (dk_at dksX0_row_0 11 rfl rfl)
theorem dX0_row_14 : decode cX0_row 14 = .ok (.ireturn, 1) := dk_172 (dk_at dksX0_row_0 14 rfl rfl)
theorem dX0_row_15 : decode cX0_row 15 = .ok (.aload_n 0, 1) := dk_42 (dk_at dksX0_row_0 15 rfl rfl)
theorem dX0_row_16 : decode cX0_row 16 = .ok (.getfield 232, 3) := dk_180 0 232 (dk_at dksX0_row_0 16 rfl rfl)
theorem dX0_row_19 : decode cX0_row 19 = .ok (.istore_n 2, 1) := dk_61 (dk_at dksX0_row_0 19 rfl rfl)
theorem dX0_row_20 : decode cX0_row 20 = .ok (.aload_n 0, 1) := dk_42 (dk_at dksX0_row_0 20 rfl rfl)
theorem dX0_row_21 : decode cX0_row 21 = .ok (.iconst 0, 1) := dk_3 (dk_at dksX0_row_0 21 rfl rfl)
theorem dX0_row_22 : decode cX0_row 22 = .ok (.putfield 232, 3) := dk_181 0 232 (dk_at dksX0_row_1 0 rfl rfl)
theorem dX0_row_25 : decode cX0_row 25 = .ok (.iload_n 2, 1) := dk_28 (dk_at dksX0_row_1 3 rfl rfl)
theorem dX0_row_26 : decode cX0_row 26 = .ok (.ifCond .ne 10, 3) := dk_154 0 10 (dk_at dksX0_row_1 4 rfl rfl)
theorem dX0_row_29 : decode cX0_row 29 = .ok (.aload_n 0, 1) := dk_42 (dk_at dksX0_row_1 7 rfl rfl)
theorem dX0_row_30 : decode cX0_row 30 = .ok (.bipush (-6), 2) := dk_16 250 (dk_at dksX0_row_1 8 rfl rfl)
theorem dX0_row_32 : decode cX0_row 32 = .ok (.invokevirtual 157, 3) := dk_182 0 157 (dk_at dksX0_row_1 10 rfl rfl)
theorem dX0_row_35 : decode cX0_row 35 = .ok (.ireturn, 1) := dk_172 (dk_at dksX0_row_1 13 rfl rfl)
theorem dX0_row_36 : decode cX0_row 36 = .ok (.iconst 0, 1) := dk_3 (dk_at dksX0_row_1 14 rfl rfl)
theorem dX0_row_37 : decode cX0_row 37 = .ok (.istore_n 3, 1) := dk_62 (dk_at dksX0_row_1 15 rfl rfl)
theorem dX0_row_38 : decode cX0_row 38 = .ok (.aload_n 0, 1) := dk_42 (dk_at dksX0_row_1 16 rfl rfl)
theorem dX0_row_39 : decode cX0_row 39 = .ok (.iload_n 2, 1) := dk_28 (dk_at dksX0_row_1 17 rfl rfl)
theorem dX0_row_40 : decode cX0_row 40 = .ok (.iconst 4, 1) := dk_7 (dk_at dksX0_row_1 18 rfl rfl)
theorem dX0_row_41 : decode cX0_row 41 = .ok (.irem, 1) := dk_112 (dk_at dksX0_row_1 19 rfl rfl)
theorem dX0_row_42 : decode cX0_row 42 = .ok (.ifCond .ne 7, 3) := dk_154 0 7 (dk_at dksX0_row_1 20 rfl rfl)
theorem dX0_row_45 : decode cX0_row 45 = .ok (.iconst 0, 1) := dk_3 (dk_at dksX0_row_1 23 rfl rfl)
theorem dX0_row_46 : decode cX0_row 46 = .ok (.goto 4, 3) := dk_167 0 4 (dk_at dksX0_row_2 0 rfl rfl)
theorem dX0_row_49 : decode cX0_row 49 = .ok (.iconst 1, 1) := dk_4 (dk_at dksX0_row_2 3 rfl rfl)
theorem dX0_row_50 : decode cX0_row 50 = .ok (.putfield 239, 3) := dk_181 0 239 (dk_at dksX0_row_2 4 rfl rfl)
theorem dX0_row_53 : decode cX0_row 53 = .ok (.iconst 0, 1) := dk_3 (dk_at dksX0_row_2 7 rfl rfl)
theorem dX0_row_54 : decode cX0_row 54 = .ok (.istore 4, 2) := dk_54 4 (dk_at dksX0_row_2 8 rfl rfl)
theorem dX0_row_56 : decode cX0_row 56 = .ok (.iload 4, 2) := dk_21 4 (dk_at dksX0_row_2 10 rfl rfl)
theorem dX0_row_58 : decode cX0_row 58 = .ok (.iconst 4, 1) := dk_7 (dk_at dksX0_row_2 12 rfl rfl)
theorem dX0_row_59 : decode cX0_row 59 = .ok (.iadd, 1) := dk_96 (dk_at dksX0_row_2 13 rfl rfl)
theorem dX0_row_60 : decode cX0_row 60 = .ok (.iload_n 2, 1) := dk_28 (dk_at dksX0_row_2 14 rfl rfl)
theorem dX0_row_61 : decode cX0_row 61 = .ok (.if_icmp .gt 149, 3) := dk_163 0 149 (dk_at dksX0_row_2 15 rfl rfl)
theorem dX0_row_64 : decode cX0_row 64 = .ok (.aload_n 0, 1) := dk_42 (dk_at dksX0_row_2 18 rfl rfl)
theorem dX0_row_65 : decode cX0_row 65 = .ok (.getfield 24, 3) := dk_180 0 24 (dk_at dksX0_row_2 19 rfl rfl)
theorem dX0_row_68 : decode cX0_row 68 = .ok (.iload 4, 2) := dk_21 4 (dk_at dksX0_row_2 22 rfl rfl)
theorem dX0_row_70 : decode cX0_row 70 = .ok (.baload, 1) := dk_51 (dk_at dksX0_row_3 0 rfl rfl)
theorem dX0_row_71 : decode cX0_row 71 = .ok (.aload_n 0, 1) := dk_42 (dk_at dksX0_row_3 1 rfl rfl)
theorem dX0_row_72 : decode cX0_row 72 = .ok (.getfield 24, 3) := dk_180 0 24 (dk_at dksX0_row_3 2 rfl rfl)
theorem dX0_row_75 : decode cX0_row 75 = .ok (.iload 4, 2) := dk_21 4 (dk_at dksX0_row_3 5 rfl rfl)
theorem dX0_row_77 : decode cX0_row 77 = .ok (.iconst 1, 1) := dk_4 (dk_at dksX0_row_3 7 rfl rfl)
theorem dX0_row_78 : decode cX0_row 78 = .ok (.iadd, 1) := dk_96 (dk_at dksX0_row_3 8 rfl rfl)
theorem dX0_row_79 : decode cX0_row 79 = .ok (.baload, 1) := dk_51 (dk_at dksX0_row_3 9 rfl rfl)
theorem dX0_row_80 : decode cX0_row 80 = .ok (.invokestatic 177, 3) := dk_184 0 177 (dk_at dksX0_row_3 10 rfl rfl)
theorem dX0_row_83 : decode cX0_row 83 = .ok (.ifCond .eq 31, 3) := dk_153 0 31 (dk_at dksX0_row_3 13 rfl rfl)
theorem dX0_row_86 : decode cX0_row 86 = .ok (.aload_n 0, 1) := dk_42 (dk_at dksX0_row_3 16 rfl rfl)
theorem dX0_row_87 : decode cX0_row 87 = .ok (.getfield 24, 3) := dk_180 0 24 (dk_at dksX0_row_3 17 rfl rfl)
theorem dX0_row_90 : decode cX0_row 90 = .ok (.iload 4, 2) := dk_21 4 (dk_at dksX0_row_3 20 rfl rfl)
theorem dX0_row_92 : decode cX0_row 92 = .ok (.iconst 2, 1) := dk_5 (dk_at dksX0_row_3 22 rfl rfl)
theorem dX0_row_93 : decode cX0_row 93 = .ok (.iadd, 1) := dk_96 (dk_at dksX0_row_3 23 rfl rfl)
theorem dX0_row_94 : decode cX0_row 94 = .ok (.baload, 1) := dk_51 (dk_at dksX0_row_4 0 rfl rfl)
theorem dX0_row_95 : decode cX0_row 95 = .ok (.aload_n 0, 1) := dk_42 (dk_at dksX0_row_4 1 rfl rfl)
theorem dX0_row_96 : decode cX0_row 96 = .ok (.getfield 24, 3) := dk_180 0 24 (dk_at dksX0_row_4 2 rfl rfl)
theorem dX0_row_99 : decode cX0_row 99 = .ok (.iload 4, 2) := dk_21 4 (dk_at dksX0_row_4 5 rfl rfl)
theorem dX0_row_101 : decode cX0_row 101 = .ok (.iconst 3, 1) := dk_6 (dk_at dksX0_row_4 7 rfl rfl)
theorem dX0_row_102 : decode cX0_row 102 = .ok (.iadd, 1) := dk_96 (dk_at dksX0_row_4 8 rfl rfl)
theorem dX0_row_103 : decode cX0_row 103 = .ok (.baload, 1) := dk_51 (dk_at dksX0_row_4 9 rfl rfl)
theorem dX0_row_104 : decode cX0_row 104 = .ok (.invokestatic 181, 3) := dk_184 0 181 (dk_at dksX0_row_4 10 rfl rfl)
theorem dX0_row_107 : decode cX0_row 107 = .ok (.ifCond .eq 7, 3) := dk_153 0 7 (dk_at dksX0_row_4 13 rfl rfl)
theorem dX0_row_110 : decode cX0_row 110 = .ok (.iconst 1, 1) := dk_4 (dk_at dksX0_row_4 16 rfl rfl)
theorem dX0_row_111 : decode cX0_row 111 = .ok (.goto 4, 3) := dk_167 0 4 (dk_at dksX0_row_4 17 rfl rfl)
theorem dX0_row_114 : decode cX0_row 114 = .ok (.iconst 0, 1) := dk_3 (dk_at dksX0_row_4 20 rfl rfl)
theorem dX0_row_115 : decode cX0_row 115 = .ok (.istore 5, 2) := dk_54 5 (dk_at dksX0_row_4 21 rfl rfl)
theorem dX0_row_117 : decode cX0_row 117 = .ok (.iload 5, 2) := dk_21 5 (dk_at dksX0_row_5 0 rfl rfl)
theorem dX0_row_119 : decode cX0_row 119 = .ok (.ifCond .eq 53, 3) := dk_153 0 53 (dk_at dksX0_row_5 2 rfl rfl)
theorem dX0_row_122 : decode cX0_row 122 = .ok (.aload_n 0, 1) := dk_42 (dk_at dksX0_row_5 5 rfl rfl)
theorem dX0_row_123 : decode cX0_row 123 = .ok (.getfield 16, 3) := dk_180 0 16 (dk_at dksX0_row_5 6 rfl rfl)
theorem dX0_row_126 : decode cX0_row 126 = .ok (.getfield 170, 3) := dk_180 0 170 (dk_at dksX0_row_5 9 rfl rfl)
theorem dX0_row_129 : decode cX0_row 129 = .ok (.iload_n 1, 1) := dk_27 (dk_at dksX0_row_5 12 rfl rfl)
theorem dX0_row_130 : decode cX0_row 130 = .ok (.aaload, 1) := dk_50 (dk_at dksX0_row_5 13 rfl rfl)
theorem dX0_row_131 : decode cX0_row 131 = .ok (.bipush 6, 2) := dk_16 6 (dk_at dksX0_row_5 14 rfl rfl)
theorem dX0_row_133 : decode cX0_row 133 = .ok (.aload_n 0, 1) := dk_42 (dk_at dksX0_row_5 16 rfl rfl)
theorem dX0_row_134 : decode cX0_row 134 = .ok (.getfield 24, 3) := dk_180 0 24 (dk_at dksX0_row_5 17 rfl rfl)
theorem dX0_row_137 : decode cX0_row 137 = .ok (.iload 4, 2) := dk_21 4 (dk_at dksX0_row_5 20 rfl rfl)
theorem dX0_row_139 : decode cX0_row 139 = .ok (.baload, 1) := dk_51 (dk_at dksX0_row_5 22 rfl rfl)
theorem dX0_row_140 : decode cX0_row 140 = .ok (.imul, 1) := dk_104 (dk_at dksX0_row_5 23 rfl rfl)
theorem dX0_row_141 : decode cX0_row 141 = .ok (.aload_n 0, 1) := dk_42 (dk_at dksX0_row_6 0 rfl rfl)
theorem dX0_row_142 : decode cX0_row 142 = .ok (.getfield 24, 3) := dk_180 0 24 (dk_at dksX0_row_6 1 rfl rfl)
theorem dX0_row_145 : decode cX0_row 145 = .ok (.iload 4, 2) := dk_21 4 (dk_at dksX0_row_6 4 rfl rfl)
theorem dX0_row_147 : decode cX0_row 147 = .ok (.iconst 1, 1) := dk_4 (dk_at dksX0_row_6 6 rfl rfl)
theorem dX0_row_148 : decode cX0_row 148 = .ok (.iadd, 1) := dk_96 (dk_at dksX0_row_6 7 rfl rfl)
theorem dX0_row_149 : decode cX0_row 149 = .ok (.baload, 1) := dk_51 (dk_at dksX0_row_6 8 rfl rfl)
theorem dX0_row_150 : decode cX0_row 150 = .ok (.iadd, 1) := dk_96 (dk_at dksX0_row_6 9 rfl rfl)
theorem dX0_row_151 : decode cX0_row 151 = .ok (.aload_n 0, 1) := dk_42 (dk_at dksX0_row_6 10 rfl rfl)
theorem dX0_row_152 : decode cX0_row 152 = .ok (.getfield 24, 3) := dk_180 0 24 (dk_at dksX0_row_6 11 rfl rfl)
theorem dX0_row_155 : decode cX0_row 155 = .ok (.iload 4, 2) := dk_21 4 (dk_at dksX0_row_6 14 rfl rfl)
theorem dX0_row_157 : decode cX0_row 157 = .ok (.iconst 2, 1) := dk_5 (dk_at dksX0_row_6 16 rfl rfl)
theorem dX0_row_158 : decode cX0_row 158 = .ok (.iadd, 1) := dk_96 (dk_at dksX0_row_6 17 rfl rfl)
theorem dX0_row_159 : decode cX0_row 159 = .ok (.baload, 1) := dk_51 (dk_at dksX0_row_6 18 rfl rfl)
theorem dX0_row_160 : decode cX0_row 160 = .ok (.aload_n 0, 1) := dk_42 (dk_at dksX0_row_6 19 rfl rfl)
theorem dX0_row_161 : decode cX0_row 161 = .ok (.getfield 24, 3) := dk_180 0 24 (dk_at dksX0_row_6 20 rfl rfl)
theorem dX0_row_164 : decode cX0_row 164 = .ok (.iload 4, 2) := dk_21 4 (dk_at dksX0_row_7 0 rfl rfl)
theorem dX0_row_166 : decode cX0_row 166 = .ok (.iconst 3, 1) := dk_6 (dk_at dksX0_row_7 2 rfl rfl)
theorem dX0_row_167 : decode cX0_row 167 = .ok (.iadd, 1) := dk_96 (dk_at dksX0_row_7 3 rfl rfl)
theorem dX0_row_168 : decode cX0_row 168 = .ok (.baload, 1) := dk_51 (dk_at dksX0_row_7 4 rfl rfl)
theorem dX0_row_169 : decode cX0_row 169 = .ok (.invokevirtual 190, 3) := dk_182 0 190 (dk_at dksX0_row_7 5 rfl rfl)
theorem dX0_row_172 : decode cX0_row 172 = .ok (.iload_n 3, 1) := dk_29 (dk_at dksX0_row_7 8 rfl rfl)
theorem dX0_row_173 : decode cX0_row 173 = .ok (.iload 5, 2) := dk_21 5 (dk_at dksX0_row_7 9 rfl rfl)
theorem dX0_row_175 : decode cX0_row 175 = .ok (.ifCond .eq 7, 3) := dk_153 0 7 (dk_at dksX0_row_7 11 rfl rfl)
theorem dX0_row_178 : decode cX0_row 178 = .ok (.iconst 1, 1) := dk_4 (dk_at dksX0_row_7 14 rfl rfl)
theorem dX0_row_179 : decode cX0_row 179 = .ok (.goto 4, 3) := dk_167 0 4 (dk_at dksX0_row_7 15 rfl rfl)
theorem dX0_row_182 : decode cX0_row 182 = .ok (.iconst 0, 1) := dk_3 (dk_at dksX0_row_7 18 rfl rfl)
theorem dX0_row_183 : decode cX0_row 183 = .ok (.iadd, 1) := dk_96 (dk_at dksX0_row_7 19 rfl rfl)
theorem dX0_row_184 : decode cX0_row 184 = .ok (.istore_n 3, 1) := dk_62 (dk_at dksX0_row_7 20 rfl rfl)
theorem dX0_row_185 : decode cX0_row 185 = .ok (.aload_n 0, 1) := dk_42 (dk_at dksX0_row_7 21 rfl rfl)
theorem dX0_row_186 : decode cX0_row 186 = .ok (.dup, 1) := dk_89 (dk_at dksX0_row_7 22 rfl rfl)
theorem dX0_row_187 : decode cX0_row 187 = .ok (.getfield 239, 3) := dk_180 0 239 (dk_at dksX0_row_8 0 rfl rfl)
theorem dX0_row_190 : decode cX0_row 190 = .ok (.iload 5, 2) := dk_21 5 (dk_at dksX0_row_8 3 rfl rfl)
theorem dX0_row_192 : decode cX0_row 192 = .ok (.ifCond .eq 7, 3) := dk_153 0 7 (dk_at dksX0_row_8 5 rfl rfl)
theorem dX0_row_195 : decode cX0_row 195 = .ok (.iconst 0, 1) := dk_3 (dk_at dksX0_row_8 8 rfl rfl)
theorem dX0_row_196 : decode cX0_row 196 = .ok (.goto 4, 3) := dk_167 0 4 (dk_at dksX0_row_8 9 rfl rfl)
theorem dX0_row_199 : decode cX0_row 199 = .ok (.iconst 1, 1) := dk_4 (dk_at dksX0_row_8 12 rfl rfl)
theorem dX0_row_200 : decode cX0_row 200 = .ok (.iadd, 1) := dk_96 (dk_at dksX0_row_8 13 rfl rfl)
theorem dX0_row_201 : decode cX0_row 201 = .ok (.putfield 239, 3) := dk_181 0 239 (dk_at dksX0_row_8 14 rfl rfl)
theorem dX0_row_204 : decode cX0_row 204 = .ok (.iinc 4 4, 3) := dk_132 4 4 (dk_at dksX0_row_8 17 rfl rfl)
theorem dX0_row_207 : decode cX0_row 207 = .ok (.goto (-151), 3) := dk_167 255 105 (dk_at dksX0_row_8 20 rfl rfl)
theorem dX0_row_210 : decode cX0_row 210 = .ok (.aload_n 0, 1) := dk_42 (dk_at dksX0_row_8 23 rfl rfl)
theorem dX0_row_211 : decode cX0_row 211 = .ok (.iload_n 3, 1) := dk_29 (dk_at dksX0_row_9 0 rfl rfl)
theorem dX0_row_212 : decode cX0_row 212 = .ok (.invokevirtual 164, 3) := dk_182 0 164 (dk_at dksX0_row_9 1 rfl rfl)
theorem dX0_row_215 : decode cX0_row 215 = .ok (.ireturn, 1) := dk_172 (dk_at dksX0_row_9 4 rfl rfl)
abbrev cX0_prattle : ByteArray := prog_1_method_32_code
def yX0_prattle : MethodName := ⟨RX0, "prattle", "()I"⟩
theorem dX0_prattle_0 : decode cX0_prattle 0 = .ok (.aload_n 0, 1) := by decide +kernel
theorem dX0_prattle_1 : decode cX0_prattle 1 = .ok (.getfield 239, 3) := by decide +kernel
theorem dX0_prattle_4 : decode cX0_prattle 4 = .ok (.ireturn, 1) := by decide +kernel
abbrev cX0_play : ByteArray := prog_1_method_34_code
def yX0_play : MethodName := ⟨RX0, "play", "(I)I"⟩
def dkwX0_play_4 : List UInt8 := [54, 4, 132, 5, 1, 167, 255, 219, 42, 21, 4, 182, 0, 164, 172]
abbrev dktX0_play_4 : List UInt8 := dkwX0_play_4 ++ []
def dkwX0_play_3 : List UInt8 := [162, 0, 31, 21, 4, 42, 45, 180, 1, 5, 21, 5, 182, 0, 139, 192, 1, 8, 27, 182, 1, 10, 96]
abbrev dktX0_play_3 : List UInt8 := dkwX0_play_3 ++ dktX0_play_4
def dkwX0_play_2 : List UInt8 := [42, 16, 250, 182, 0, 157, 172, 3, 54, 4, 3, 54, 5, 21, 5, 45, 180, 1, 5, 182, 0, 130]
abbrev dktX0_play_2 : List UInt8 := dkwX0_play_2 ++ dktX0_play_3
def dkwX0_play_1 : List UInt8 := [181, 0, 232, 187, 0, 252, 89, 42, 180, 0, 24, 28, 183, 0, 254, 78, 42, 45, 182, 1, 1, 154, 0, 10]
abbrev dktX0_play_1 : List UInt8 := dkwX0_play_1 ++ dktX0_play_2
def dkwX0_play_0 : List UInt8 := [42, 27, 182, 0, 184, 154, 0, 10, 42, 16, 254, 182, 0, 157, 172, 42, 180, 0, 232, 61, 42, 3]
abbrev dktX0_play_0 : List UInt8 := dkwX0_play_0 ++ dktX0_play_1
theorem dksX0_play_0 : cX0_play.data.toList.drop 0 = dktX0_play_0 := by decide +kernel
theorem dksX0_play_1 : cX0_play.data.toList.drop 22 = dktX0_play_1 := dk_seg dksX0_play_0 22 rfl rfl
theorem dksX0_play_2 : cX0_play.data.toList.drop 46 = dktX0_play_2 := dk_seg dksX0_play_1 24 rfl rfl
theorem dksX0_play_3 : cX0_play.data.toList.drop 68 = dktX0_play_3 := dk_seg dksX0_play_2 22 rfl rfl
theorem dksX0_play_4 : cX0_play.data.toList.drop 91 = dktX0_play_4 := dk_seg dksX0_play_3 23 rfl rfl
theorem dX0_play_0 : decode cX0_play 0 = .ok (.aload_n 0, 1) := dk_42 (dk_at dksX0_play_0 0 rfl rfl)
theorem dX0_play_1 : decode cX0_play 1 = .ok (.iload_n 1, 1) := dk_27 (dk_at dksX0_play_0 1 rfl rfl)
theorem dX0_play_2 : decode cX0_play 2 = .ok (.invokevirtual 184, 3) := dk_182 0 184 (dk_at dksX0_play_0 2 rfl rfl)
theorem dX0_play_5 : decode cX0_play 5 = .ok (.ifCond .ne 10, 3) := dk_154 0 10 (dk_at dksX0_play_0 5 rfl rfl)
theorem dX0_play_8 : decode cX0_play 8 = .ok (.aload_n 0, 1) := dk_42 (dk_at dksX0_play_0 8 rfl rfl)
theorem dX0_play_9 : decode cX0_play 9 = .ok (.bipush (-2), 2) := dk_16 254 (dk_at dksX0_play_0 9 rfl rfl)
theorem dX0_play_11 : decode cX0_play 11 = .ok (.invokevirtual 157, 3) := dk_182 0 157 (dk_at dksX0_play_0 11 rfl rfl)
theorem dX0_play_14 : decode cX0_play 14 = .ok (.ireturn, 1) := dk_172 (dk_at dksX0_play_0 14 rfl rfl)
theorem dX0_play_15 : decode cX0_play 15 = .ok (.aload_n 0, 1) := dk_42 (dk_at dksX0_play_0 15 rfl rfl)
theorem dX0_play_16 : decode cX0_play 16 = .ok (.getfield 232, 3) := dk_180 0 232 (dk_at dksX0_play_0 16 rfl rfl)
theorem dX0_play_19 : decode cX0_play 19 = .ok (.istore_n 2, 1) := dk_61 (dk_at dksX0_play_0 19 rfl rfl)
theorem dX0_play_20 : decode cX0_play 20 = .ok (.aload_n 0, 1) := dk_42 (dk_at dksX0_play_0 20 rfl rfl)
theorem dX0_play_21 : decode cX0_play 21 = .ok (.iconst 0, 1) := dk_3 (dk_at dksX0_play_0 21 rfl rfl)
theorem dX0_play_22 : decode cX0_play 22 = .ok (.putfield 232, 3) := dk_181 0 232 (dk_at dksX0_play_1 0 rfl rfl)
theorem dX0_play_25 : decode cX0_play 25 = .ok (.new 252, 3) := dk_187 0 252 (dk_at dksX0_play_1 3 rfl rfl)
theorem dX0_play_28 : decode cX0_play 28 = .ok (.dup, 1) := dk_89 (dk_at dksX0_play_1 6 rfl rfl)
theorem dX0_play_29 : decode cX0_play 29 = .ok (.aload_n 0, 1) := dk_42 (dk_at dksX0_play_1 7 rfl rfl)
theorem dX0_play_30 : decode cX0_play 30 = .ok (.getfield 24, 3) := dk_180 0 24 (dk_at dksX0_play_1 8 rfl rfl)
theorem dX0_play_33 : decode cX0_play 33 = .ok (.iload_n 2, 1) := dk_28 (dk_at dksX0_play_1 11 rfl rfl)
theorem dX0_play_34 : decode cX0_play 34 = .ok (.invokespecial 254, 3) := dk_183 0 254 (dk_at dksX0_play_1 12 rfl rfl)
theorem dX0_play_37 : decode cX0_play 37 = .ok (.astore_n 3, 1) := dk_78 (dk_at dksX0_play_1 15 rfl rfl)
theorem dX0_play_38 : decode cX0_play 38 = .ok (.aload_n 0, 1) := dk_42 (dk_at dksX0_play_1 16 rfl rfl)
theorem dX0_play_39 : decode cX0_play 39 = .ok (.aload_n 3, 1) := dk_45 (dk_at dksX0_play_1 17 rfl rfl)
theorem dX0_play_40 : decode cX0_play 40 = .ok (.invokevirtual 257, 3) := dk_182 1 1 (dk_at dksX0_play_1 18 rfl rfl)
theorem dX0_play_43 : decode cX0_play 43 = .ok (.ifCond .ne 10, 3) := dk_154 0 10 (dk_at dksX0_play_1 21 rfl rfl)
theorem dX0_play_46 : decode cX0_play 46 = .ok (.aload_n 0, 1) := dk_42 (dk_at dksX0_play_2 0 rfl rfl)
theorem dX0_play_47 : decode cX0_play 47 = .ok (.bipush (-6), 2) := dk_16 250 (dk_at dksX0_play_2 1 rfl rfl)
theorem dX0_play_49 : decode cX0_play 49 = .ok (.invokevirtual 157, 3) := dk_182 0 157 (dk_at dksX0_play_2 3 rfl rfl)
theorem dX0_play_52 : decode cX0_play 52 = .ok (.ireturn, 1) := dk_172 (dk_at dksX0_play_2 6 rfl rfl)
theorem dX0_play_53 : decode cX0_play 53 = .ok (.iconst 0, 1) := dk_3 (dk_at dksX0_play_2 7 rfl rfl)
theorem dX0_play_54 : decode cX0_play 54 = .ok (.istore 4, 2) := dk_54 4 (dk_at dksX0_play_2 8 rfl rfl)
theorem dX0_play_56 : decode cX0_play 56 = .ok (.iconst 0, 1) := dk_3 (dk_at dksX0_play_2 10 rfl rfl)
theorem dX0_play_57 : decode cX0_play 57 = .ok (.istore 5, 2) := dk_54 5 (dk_at dksX0_play_2 11 rfl rfl)
theorem dX0_play_59 : decode cX0_play 59 = .ok (.iload 5, 2) := dk_21 5 (dk_at dksX0_play_2 13 rfl rfl)
theorem dX0_play_61 : decode cX0_play 61 = .ok (.aload_n 3, 1) := dk_45 (dk_at dksX0_play_2 15 rfl rfl)
theorem dX0_play_62 : decode cX0_play 62 = .ok (.getfield 261, 3) := dk_180 1 5 (dk_at dksX0_play_2 16 rfl rfl)
theorem dX0_play_65 : decode cX0_play 65 = .ok (.invokevirtual 130, 3) := dk_182 0 130 (dk_at dksX0_play_2 19 rfl rfl)
theorem dX0_play_68 : decode cX0_play 68 = .ok (.if_icmp .ge 31, 3) := dk_162 0 31 (dk_at dksX0_play_3 0 rfl rfl)
theorem dX0_play_71 : decode cX0_play 71 = .ok (.iload 4, 2) := dk_21 4 (dk_at dksX0_play_3 3 rfl rfl)
theorem dX0_play_73 : decode cX0_play 73 = .ok (.aload_n 0, 1) := dk_42 (dk_at dksX0_play_3 5 rfl rfl)
theorem dX0_play_74 : decode cX0_play 74 = .ok (.aload_n 3, 1) := dk_45 (dk_at dksX0_play_3 6 rfl rfl)
theorem dX0_play_75 : decode cX0_play 75 = .ok (.getfield 261, 3) := dk_180 1 5 (dk_at dksX0_play_3 7 rfl rfl)
theorem dX0_play_78 : decode cX0_play 78 = .ok (.iload 5, 2) := dk_21 5 (dk_at dksX0_play_3 10 rfl rfl)
theorem dX0_play_80 : decode cX0_play 80 = .ok (.invokevirtual 139, 3) := dk_182 0 139 (dk_at dksX0_play_3 12 rfl rfl)
theorem dX0_play_83 : decode cX0_play 83 = .ok (.checkcast 264, 3) := dk_192 1 8 (dk_at dksX0_play_3 15 rfl rfl)
theorem dX0_play_86 : decode cX0_play 86 = .ok (.iload_n 1, 1) := dk_27 (dk_at dksX0_play_3 18 rfl rfl)
theorem dX0_play_87 : decode cX0_play 87 = .ok (.invokevirtual 266, 3) := dk_182 1 10 (dk_at dksX0_play_3 19 rfl rfl)
theorem dX0_play_90 : decode cX0_play 90 = .ok (.iadd, 1) := dk_96 (dk_at dksX0_play_3 22 rfl rfl)
theorem dX0_play_91 : decode cX0_play 91 = .ok (.istore 4, 2) := dk_54 4 (dk_at dksX0_play_4 0 rfl rfl)
theorem dX0_play_93 : decode cX0_play 93 = .ok (.iinc 5 1, 3) := dk_132 5 1 (dk_at dksX0_play_4 2 rfl rfl)
theorem dX0_play_96 : decode cX0_play 96 = .ok (.goto (-37), 3) := dk_167 255 219 (dk_at dksX0_play_4 5 rfl rfl)
theorem dX0_play_99 : decode cX0_play 99 = .ok (.aload_n 0, 1) := dk_42 (dk_at dksX0_play_4 8 rfl rfl)
theorem dX0_play_100 : decode cX0_play 100 = .ok (.iload 4, 2) := dk_21 4 (dk_at dksX0_play_4 9 rfl rfl)
theorem dX0_play_102 : decode cX0_play 102 = .ok (.invokevirtual 164, 3) := dk_182 0 164 (dk_at dksX0_play_4 11 rfl rfl)
theorem dX0_play_105 : decode cX0_play 105 = .ok (.ireturn, 1) := dk_172 (dk_at dksX0_play_4 14 rfl rfl)
abbrev cX0_reads : ByteArray := prog_1_method_33_code
def yX0_reads : MethodName := ⟨RX0, "reads", "(LDeadUnderstudies$Reader;)Z"⟩
def dkwX0_reads_1 : List UInt8 := [172]
abbrev dktX0_reads_1 : List UInt8 := dkwX0_reads_1 ++ []
def dkwX0_reads_0 : List UInt8 := [43, 182, 0, 242, 167, 0, 14, 77, 42, 44, 180, 0, 249, 181, 0, 28, 3, 172, 42, 2, 181, 0, 28, 4]
abbrev dktX0_reads_0 : List UInt8 := dkwX0_reads_0 ++ dktX0_reads_1
theorem dksX0_reads_0 : cX0_reads.data.toList.drop 0 = dktX0_reads_0 := by decide +kernel
theorem dksX0_reads_1 : cX0_reads.data.toList.drop 24 = dktX0_reads_1 := dk_seg dksX0_reads_0 24 rfl rfl
theorem dX0_reads_0 : decode cX0_reads 0 = .ok (.aload_n 1, 1) := dk_43 (dk_at dksX0_reads_0 0 rfl rfl)
theorem dX0_reads_1 : decode cX0_reads 1 = .ok (.invokevirtual 242, 3) := dk_182 0 242 (dk_at dksX0_reads_0 1 rfl rfl)
theorem dX0_reads_4 : decode cX0_reads 4 = .ok (.goto 14, 3) := dk_167 0 14 (dk_at dksX0_reads_0 4 rfl rfl)
theorem dX0_reads_7 : decode cX0_reads 7 = .ok (.astore_n 2, 1) := dk_77 (dk_at dksX0_reads_0 7 rfl rfl)
theorem dX0_reads_8 : decode cX0_reads 8 = .ok (.aload_n 0, 1) := dk_42 (dk_at dksX0_reads_0 8 rfl rfl)
theorem dX0_reads_9 : decode cX0_reads 9 = .ok (.aload_n 2, 1) := dk_44 (dk_at dksX0_reads_0 9 rfl rfl)
theorem dX0_reads_10 : decode cX0_reads 10 = .ok (.getfield 249, 3) := dk_180 0 249 (dk_at dksX0_reads_0 10 rfl rfl)
theorem dX0_reads_13 : decode cX0_reads 13 = .ok (.putfield 28, 3) := dk_181 0 28 (dk_at dksX0_reads_0 13 rfl rfl)
theorem dX0_reads_16 : decode cX0_reads 16 = .ok (.iconst 0, 1) := dk_3 (dk_at dksX0_reads_0 16 rfl rfl)
theorem dX0_reads_17 : decode cX0_reads 17 = .ok (.ireturn, 1) := dk_172 (dk_at dksX0_reads_0 17 rfl rfl)
theorem dX0_reads_18 : decode cX0_reads 18 = .ok (.aload_n 0, 1) := dk_42 (dk_at dksX0_reads_0 18 rfl rfl)
theorem dX0_reads_19 : decode cX0_reads 19 = .ok (.iconst (-1), 1) := dk_2 (dk_at dksX0_reads_0 19 rfl rfl)
theorem dX0_reads_20 : decode cX0_reads 20 = .ok (.putfield 28, 3) := dk_181 0 28 (dk_at dksX0_reads_0 20 rfl rfl)
theorem dX0_reads_23 : decode cX0_reads 23 = .ok (.iconst 1, 1) := dk_4 (dk_at dksX0_reads_0 23 rfl rfl)
theorem dX0_reads_24 : decode cX0_reads 24 = .ok (.ireturn, 1) := dk_172 (dk_at dksX0_reads_1 0 rfl rfl)
abbrev cX0_plays : ByteArray := prog_1_method_35_code
def yX0_plays : MethodName := ⟨RX0, "plays", "(LDeadUnderstudies$Line;I)I"⟩
def dkwX0_plays_6 : List UInt8 := [167, 255, 130, 21, 4, 172]
abbrev dktX0_plays_6 : List UInt8 := dkwX0_plays_6 ++ []
def dkwX0_plays_5 : List UInt8 := [21, 5, 42, 180, 0, 35, 182, 1, 21, 153, 0, 7, 4, 167, 0, 4, 3, 96, 54, 4, 132, 5, 1]
abbrev dktX0_plays_5 : List UInt8 := dkwX0_plays_5 ++ dktX0_plays_6
def dkwX0_plays_4 : List UInt8 := [25, 6, 7, 28, 133, 80, 25, 6, 8, 42, 180, 0, 16, 180, 0, 154, 4, 46, 133, 80, 21, 4, 43, 45]
abbrev dktX0_plays_4 : List UInt8 := dkwX0_plays_4 ++ dktX0_plays_5
def dkwX0_plays_3 : List UInt8 := [80, 25, 6, 5, 45, 180, 0, 187, 21, 5, 46, 133, 80, 25, 6, 6, 45, 21, 5, 182, 0, 194, 133, 80]
abbrev dktX0_plays_3 : List UInt8 := dkwX0_plays_3 ++ dktX0_plays_4
def dkwX0_plays_2 : List UInt8 := [180, 1, 17, 58, 6, 25, 6, 3, 21, 5, 16, 6, 108, 133, 80, 25, 6, 4, 21, 5, 16, 6, 112, 133]
abbrev dktX0_plays_2 : List UInt8 := dkwX0_plays_2 ++ dktX0_plays_3
def dkwX0_plays_1 : List UInt8 := [21, 5, 16, 6, 108, 21, 5, 16, 6, 112, 182, 1, 14, 154, 0, 6, 167, 0, 99, 42, 180, 0, 35]
abbrev dktX0_plays_1 : List UInt8 := dkwX0_plays_1 ++ dktX0_plays_2
def dkwX0_plays_0 : List UInt8 := [42, 180, 0, 16, 180, 0, 170, 28, 50, 78, 3, 54, 4, 3, 54, 5, 21, 5, 16, 36, 162, 0, 125, 43]
abbrev dktX0_plays_0 : List UInt8 := dkwX0_plays_0 ++ dktX0_plays_1
theorem dksX0_plays_0 : cX0_plays.data.toList.drop 0 = dktX0_plays_0 := by decide +kernel
theorem dksX0_plays_1 : cX0_plays.data.toList.drop 24 = dktX0_plays_1 := dk_seg dksX0_plays_0 24 rfl rfl
theorem dksX0_plays_2 : cX0_plays.data.toList.drop 47 = dktX0_plays_2 := dk_seg dksX0_plays_1 23 rfl rfl
theorem dksX0_plays_3 : cX0_plays.data.toList.drop 71 = dktX0_plays_3 := dk_seg dksX0_plays_2 24 rfl rfl
theorem dksX0_plays_4 : cX0_plays.data.toList.drop 95 = dktX0_plays_4 := dk_seg dksX0_plays_3 24 rfl rfl
theorem dksX0_plays_5 : cX0_plays.data.toList.drop 119 = dktX0_plays_5 := dk_seg dksX0_plays_4 24 rfl rfl
theorem dksX0_plays_6 : cX0_plays.data.toList.drop 142 = dktX0_plays_6 := dk_seg dksX0_plays_5 23 rfl rfl
theorem dX0_plays_0 : decode cX0_plays 0 = .ok (.aload_n 0, 1) := dk_42 (dk_at dksX0_plays_0 0 rfl rfl)
theorem dX0_plays_1 : decode cX0_plays 1 = .ok (.getfield 16, 3) := dk_180 0 16 (dk_at dksX0_plays_0 1 rfl rfl)
theorem dX0_plays_4 : decode cX0_plays 4 = .ok (.getfield 170, 3) := dk_180 0 170 (dk_at dksX0_plays_0 4 rfl rfl)
theorem dX0_plays_7 : decode cX0_plays 7 = .ok (.iload_n 2, 1) := dk_28 (dk_at dksX0_plays_0 7 rfl rfl)
theorem dX0_plays_8 : decode cX0_plays 8 = .ok (.aaload, 1) := dk_50 (dk_at dksX0_plays_0 8 rfl rfl)
theorem dX0_plays_9 : decode cX0_plays 9 = .ok (.astore_n 3, 1) := dk_78 (dk_at dksX0_plays_0 9 rfl rfl)
theorem dX0_plays_10 : decode cX0_plays 10 = .ok (.iconst 0, 1) := dk_3 (dk_at dksX0_plays_0 10 rfl rfl)
theorem dX0_plays_11 : decode cX0_plays 11 = .ok (.istore 4, 2) := dk_54 4 (dk_at dksX0_plays_0 11 rfl rfl)
theorem dX0_plays_13 : decode cX0_plays 13 = .ok (.iconst 0, 1) := dk_3 (dk_at dksX0_plays_0 13 rfl rfl)
theorem dX0_plays_14 : decode cX0_plays 14 = .ok (.istore 5, 2) := dk_54 5 (dk_at dksX0_plays_0 14 rfl rfl)
theorem dX0_plays_16 : decode cX0_plays 16 = .ok (.iload 5, 2) := dk_21 5 (dk_at dksX0_plays_0 16 rfl rfl)
theorem dX0_plays_18 : decode cX0_plays 18 = .ok (.bipush 36, 2) := dk_16 36 (dk_at dksX0_plays_0 18 rfl rfl)
theorem dX0_plays_20 : decode cX0_plays 20 = .ok (.if_icmp .ge 125, 3) := dk_162 0 125 (dk_at dksX0_plays_0 20 rfl rfl)
theorem dX0_plays_23 : decode cX0_plays 23 = .ok (.aload_n 1, 1) := dk_43 (dk_at dksX0_plays_0 23 rfl rfl)
theorem dX0_plays_24 : decode cX0_plays 24 = .ok (.iload 5, 2) := dk_21 5 (dk_at dksX0_plays_1 0 rfl rfl)
theorem dX0_plays_26 : decode cX0_plays 26 = .ok (.bipush 6, 2) := dk_16 6 (dk_at dksX0_plays_1 2 rfl rfl)
theorem dX0_plays_28 : decode cX0_plays 28 = .ok (.idiv, 1) := dk_108 (dk_at dksX0_plays_1 4 rfl rfl)
theorem dX0_plays_29 : decode cX0_plays 29 = .ok (.iload 5, 2) := dk_21 5 (dk_at dksX0_plays_1 5 rfl rfl)
theorem dX0_plays_31 : decode cX0_plays 31 = .ok (.bipush 6, 2) := dk_16 6 (dk_at dksX0_plays_1 7 rfl rfl)
theorem dX0_plays_33 : decode cX0_plays 33 = .ok (.irem, 1) := dk_112 (dk_at dksX0_plays_1 9 rfl rfl)
theorem dX0_plays_34 : decode cX0_plays 34 = .ok (.invokevirtual 270, 3) := dk_182 1 14 (dk_at dksX0_plays_1 10 rfl rfl)
theorem dX0_plays_37 : decode cX0_plays 37 = .ok (.ifCond .ne 6, 3) := dk_154 0 6 (dk_at dksX0_plays_1 13 rfl rfl)
theorem dX0_plays_40 : decode cX0_plays 40 = .ok (.goto 99, 3) := dk_167 0 99 (dk_at dksX0_plays_1 16 rfl rfl)
theorem dX0_plays_43 : decode cX0_plays 43 = .ok (.aload_n 0, 1) := dk_42 (dk_at dksX0_plays_1 19 rfl rfl)
theorem dX0_plays_44 : decode cX0_plays 44 = .ok (.getfield 35, 3) := dk_180 0 35 (dk_at dksX0_plays_1 20 rfl rfl)
theorem dX0_plays_47 : decode cX0_plays 47 = .ok (.getfield 273, 3) := dk_180 1 17 (dk_at dksX0_plays_2 0 rfl rfl)
theorem dX0_plays_50 : decode cX0_plays 50 = .ok (.astore 6, 2) := dk_58 6 (dk_at dksX0_plays_2 3 rfl rfl)
theorem dX0_plays_52 : decode cX0_plays 52 = .ok (.aload 6, 2) := dk_25 6 (dk_at dksX0_plays_2 5 rfl rfl)
theorem dX0_plays_54 : decode cX0_plays 54 = .ok (.iconst 0, 1) := dk_3 (dk_at dksX0_plays_2 7 rfl rfl)
theorem dX0_plays_55 : decode cX0_plays 55 = .ok (.iload 5, 2) := dk_21 5 (dk_at dksX0_plays_2 8 rfl rfl)
theorem dX0_plays_57 : decode cX0_plays 57 = .ok (.bipush 6, 2) := dk_16 6 (dk_at dksX0_plays_2 10 rfl rfl)
theorem dX0_plays_59 : decode cX0_plays 59 = .ok (.idiv, 1) := dk_108 (dk_at dksX0_plays_2 12 rfl rfl)
theorem dX0_plays_60 : decode cX0_plays 60 = .ok (.i2l, 1) := dk_133 (dk_at dksX0_plays_2 13 rfl rfl)
theorem dX0_plays_61 : decode cX0_plays 61 = .ok (.lastore, 1) := dk_80 (dk_at dksX0_plays_2 14 rfl rfl)
theorem dX0_plays_62 : decode cX0_plays 62 = .ok (.aload 6, 2) := dk_25 6 (dk_at dksX0_plays_2 15 rfl rfl)
theorem dX0_plays_64 : decode cX0_plays 64 = .ok (.iconst 1, 1) := dk_4 (dk_at dksX0_plays_2 17 rfl rfl)
theorem dX0_plays_65 : decode cX0_plays 65 = .ok (.iload 5, 2) := dk_21 5 (dk_at dksX0_plays_2 18 rfl rfl)
theorem dX0_plays_67 : decode cX0_plays 67 = .ok (.bipush 6, 2) := dk_16 6 (dk_at dksX0_plays_2 20 rfl rfl)
theorem dX0_plays_69 : decode cX0_plays 69 = .ok (.irem, 1) := dk_112 (dk_at dksX0_plays_2 22 rfl rfl)
theorem dX0_plays_70 : decode cX0_plays 70 = .ok (.i2l, 1) := dk_133 (dk_at dksX0_plays_2 23 rfl rfl)
theorem dX0_plays_71 : decode cX0_plays 71 = .ok (.lastore, 1) := dk_80 (dk_at dksX0_plays_3 0 rfl rfl)
theorem dX0_plays_72 : decode cX0_plays 72 = .ok (.aload 6, 2) := dk_25 6 (dk_at dksX0_plays_3 1 rfl rfl)
theorem dX0_plays_74 : decode cX0_plays 74 = .ok (.iconst 2, 1) := dk_5 (dk_at dksX0_plays_3 3 rfl rfl)
theorem dX0_plays_75 : decode cX0_plays 75 = .ok (.aload_n 3, 1) := dk_45 (dk_at dksX0_plays_3 4 rfl rfl)
theorem dX0_plays_76 : decode cX0_plays 76 = .ok (.getfield 187, 3) := dk_180 0 187 (dk_at dksX0_plays_3 5 rfl rfl)
theorem dX0_plays_79 : decode cX0_plays 79 = .ok (.iload 5, 2) := dk_21 5 (dk_at dksX0_plays_3 8 rfl rfl)
theorem dX0_plays_81 : decode cX0_plays 81 = .ok (.iaload, 1) := dk_46 (dk_at dksX0_plays_3 10 rfl rfl)
theorem dX0_plays_82 : decode cX0_plays 82 = .ok (.i2l, 1) := dk_133 (dk_at dksX0_plays_3 11 rfl rfl)
theorem dX0_plays_83 : decode cX0_plays 83 = .ok (.lastore, 1) := dk_80 (dk_at dksX0_plays_3 12 rfl rfl)
theorem dX0_plays_84 : decode cX0_plays 84 = .ok (.aload 6, 2) := dk_25 6 (dk_at dksX0_plays_3 13 rfl rfl)
theorem dX0_plays_86 : decode cX0_plays 86 = .ok (.iconst 3, 1) := dk_6 (dk_at dksX0_plays_3 15 rfl rfl)
theorem dX0_plays_87 : decode cX0_plays 87 = .ok (.aload_n 3, 1) := dk_45 (dk_at dksX0_plays_3 16 rfl rfl)
theorem dX0_plays_88 : decode cX0_plays 88 = .ok (.iload 5, 2) := dk_21 5 (dk_at dksX0_plays_3 17 rfl rfl)
theorem dX0_plays_90 : decode cX0_plays 90 = .ok (.invokevirtual 194, 3) := dk_182 0 194 (dk_at dksX0_plays_3 19 rfl rfl)
theorem dX0_plays_93 : decode cX0_plays 93 = .ok (.i2l, 1) := dk_133 (dk_at dksX0_plays_3 22 rfl rfl)
theorem dX0_plays_94 : decode cX0_plays 94 = .ok (.lastore, 1) := dk_80 (dk_at dksX0_plays_3 23 rfl rfl)
theorem dX0_plays_95 : decode cX0_plays 95 = .ok (.aload 6, 2) := dk_25 6 (dk_at dksX0_plays_4 0 rfl rfl)
theorem dX0_plays_97 : decode cX0_plays 97 = .ok (.iconst 4, 1) := dk_7 (dk_at dksX0_plays_4 2 rfl rfl)
theorem dX0_plays_98 : decode cX0_plays 98 = .ok (.iload_n 2, 1) := dk_28 (dk_at dksX0_plays_4 3 rfl rfl)
theorem dX0_plays_99 : decode cX0_plays 99 = .ok (.i2l, 1) := dk_133 (dk_at dksX0_plays_4 4 rfl rfl)
theorem dX0_plays_100 : decode cX0_plays 100 = .ok (.lastore, 1) := dk_80 (dk_at dksX0_plays_4 5 rfl rfl)
theorem dX0_plays_101 : decode cX0_plays 101 = .ok (.aload 6, 2) := dk_25 6 (dk_at dksX0_plays_4 6 rfl rfl)
theorem dX0_plays_103 : decode cX0_plays 103 = .ok (.iconst 5, 1) := dk_8 (dk_at dksX0_plays_4 8 rfl rfl)
theorem dX0_plays_104 : decode cX0_plays 104 = .ok (.aload_n 0, 1) := dk_42 (dk_at dksX0_plays_4 9 rfl rfl)
theorem dX0_plays_105 : decode cX0_plays 105 = .ok (.getfield 16, 3) := dk_180 0 16 (dk_at dksX0_plays_4 10 rfl rfl)
theorem dX0_plays_108 : decode cX0_plays 108 = .ok (.getfield 154, 3) := dk_180 0 154 (dk_at dksX0_plays_4 13 rfl rfl)
theorem dX0_plays_111 : decode cX0_plays 111 = .ok (.iconst 1, 1) := dk_4 (dk_at dksX0_plays_4 16 rfl rfl)
theorem dX0_plays_112 : decode cX0_plays 112 = .ok (.iaload, 1) := dk_46 (dk_at dksX0_plays_4 17 rfl rfl)
theorem dX0_plays_113 : decode cX0_plays 113 = .ok (.i2l, 1) := dk_133 (dk_at dksX0_plays_4 18 rfl rfl)
theorem dX0_plays_114 : decode cX0_plays 114 = .ok (.lastore, 1) := dk_80 (dk_at dksX0_plays_4 19 rfl rfl)
theorem dX0_plays_115 : decode cX0_plays 115 = .ok (.iload 4, 2) := dk_21 4 (dk_at dksX0_plays_4 20 rfl rfl)
theorem dX0_plays_117 : decode cX0_plays 117 = .ok (.aload_n 1, 1) := dk_43 (dk_at dksX0_plays_4 22 rfl rfl)
theorem dX0_plays_118 : decode cX0_plays 118 = .ok (.aload_n 3, 1) := dk_45 (dk_at dksX0_plays_4 23 rfl rfl)
theorem dX0_plays_119 : decode cX0_plays 119 = .ok (.iload 5, 2) := dk_21 5 (dk_at dksX0_plays_5 0 rfl rfl)
theorem dX0_plays_121 : decode cX0_plays 121 = .ok (.aload_n 0, 1) := dk_42 (dk_at dksX0_plays_5 2 rfl rfl)
theorem dX0_plays_122 : decode cX0_plays 122 = .ok (.getfield 35, 3) := dk_180 0 35 (dk_at dksX0_plays_5 3 rfl rfl)
theorem dX0_plays_125 : decode cX0_plays 125 = .ok (.invokevirtual 277, 3) := dk_182 1 21 (dk_at dksX0_plays_5 6 rfl rfl)
theorem dX0_plays_128 : decode cX0_plays 128 = .ok (.ifCond .eq 7, 3) := dk_153 0 7 (dk_at dksX0_plays_5 9 rfl rfl)
theorem dX0_plays_131 : decode cX0_plays 131 = .ok (.iconst 1, 1) := dk_4 (dk_at dksX0_plays_5 12 rfl rfl)
theorem dX0_plays_132 : decode cX0_plays 132 = .ok (.goto 4, 3) := dk_167 0 4 (dk_at dksX0_plays_5 13 rfl rfl)
theorem dX0_plays_135 : decode cX0_plays 135 = .ok (.iconst 0, 1) := dk_3 (dk_at dksX0_plays_5 16 rfl rfl)
theorem dX0_plays_136 : decode cX0_plays 136 = .ok (.iadd, 1) := dk_96 (dk_at dksX0_plays_5 17 rfl rfl)
theorem dX0_plays_137 : decode cX0_plays 137 = .ok (.istore 4, 2) := dk_54 4 (dk_at dksX0_plays_5 18 rfl rfl)
theorem dX0_plays_139 : decode cX0_plays 139 = .ok (.iinc 5 1, 3) := dk_132 5 1 (dk_at dksX0_plays_5 20 rfl rfl)
theorem dX0_plays_142 : decode cX0_plays 142 = .ok (.goto (-126), 3) := dk_167 255 130 (dk_at dksX0_plays_6 0 rfl rfl)
theorem dX0_plays_145 : decode cX0_plays 145 = .ok (.iload 4, 2) := dk_21 4 (dk_at dksX0_plays_6 3 rfl rfl)
theorem dX0_plays_147 : decode cX0_plays 147 = .ok (.ireturn, 1) := dk_172 (dk_at dksX0_plays_6 5 rfl rfl)
abbrev cX0_near : ByteArray := prog_1_method_7_code
def yX0_near : MethodName := ⟨RX0, "near", "(JII)I"⟩
def dkwX0_near_0 : List UInt8 := [28, 133, 29, 133, 30, 184, 0, 110, 184, 0, 116, 136, 172]
abbrev dktX0_near_0 : List UInt8 := dkwX0_near_0 ++ []
theorem dksX0_near_0 : cX0_near.data.toList.drop 0 = dktX0_near_0 := by decide +kernel
theorem dX0_near_0 : decode cX0_near 0 = .ok (.iload_n 2, 1) := dk_28 (dk_at dksX0_near_0 0 rfl rfl)
theorem dX0_near_1 : decode cX0_near 1 = .ok (.i2l, 1) := dk_133 (dk_at dksX0_near_0 1 rfl rfl)
theorem dX0_near_2 : decode cX0_near 2 = .ok (.iload_n 3, 1) := dk_29 (dk_at dksX0_near_0 2 rfl rfl)
theorem dX0_near_3 : decode cX0_near 3 = .ok (.i2l, 1) := dk_133 (dk_at dksX0_near_0 3 rfl rfl)
theorem dX0_near_4 : decode cX0_near 4 = .ok (.lload_n 0, 1) := dk_30 (dk_at dksX0_near_0 4 rfl rfl)
theorem dX0_near_5 : decode cX0_near 5 = .ok (.invokestatic 110, 3) := dk_184 0 110 (dk_at dksX0_near_0 5 rfl rfl)
theorem dX0_near_8 : decode cX0_near 8 = .ok (.invokestatic 116, 3) := dk_184 0 116 (dk_at dksX0_near_0 8 rfl rfl)
theorem dX0_near_11 : decode cX0_near 11 = .ok (.l2i, 1) := dk_136 (dk_at dksX0_near_0 11 rfl rfl)
theorem dX0_near_12 : decode cX0_near 12 = .ok (.ireturn, 1) := dk_172 (dk_at dksX0_near_0 12 rfl rfl)
abbrev cX0_law : ByteArray := prog_1_method_36_code
def yX0_law : MethodName := ⟨RX0, "law", "()I"⟩
def dkwX0_law_4 : List UInt8 := [100, 182, 0, 164, 172]
abbrev dktX0_law_4 : List UInt8 := dkwX0_law_4 ++ []
def dkwX0_law_3 : List UInt8 := [89, 44, 180, 1, 33, 183, 1, 36, 182, 0, 209, 87, 42, 42, 180, 0, 16, 180, 1, 25, 182, 0, 130, 4]
abbrev dktX0_law_3 : List UInt8 := dkwX0_law_3 ++ dktX0_law_4
def dkwX0_law_2 : List UInt8 := [44, 182, 1, 1, 154, 0, 10, 42, 16, 250, 182, 0, 157, 172, 42, 180, 0, 16, 180, 1, 25, 187, 1, 31]
abbrev dktX0_law_2 : List UInt8 := dkwX0_law_2 ++ dktX0_law_3
def dkwX0_law_1 : List UInt8 := [160, 0, 10, 42, 16, 251, 182, 0, 157, 172, 187, 1, 28, 89, 42, 180, 0, 24, 27, 183, 1, 30, 77, 42]
abbrev dktX0_law_1 : List UInt8 := dkwX0_law_1 ++ dktX0_law_2
def dkwX0_law_0 : List UInt8 := [42, 180, 0, 232, 60, 42, 3, 181, 0, 232, 42, 180, 0, 16, 180, 1, 25, 182, 0, 130, 16, 6]
abbrev dktX0_law_0 : List UInt8 := dkwX0_law_0 ++ dktX0_law_1
theorem dksX0_law_0 : cX0_law.data.toList.drop 0 = dktX0_law_0 := by decide +kernel
theorem dksX0_law_1 : cX0_law.data.toList.drop 22 = dktX0_law_1 := dk_seg dksX0_law_0 22 rfl rfl
theorem dksX0_law_2 : cX0_law.data.toList.drop 46 = dktX0_law_2 := dk_seg dksX0_law_1 24 rfl rfl
theorem dksX0_law_3 : cX0_law.data.toList.drop 70 = dktX0_law_3 := dk_seg dksX0_law_2 24 rfl rfl
theorem dksX0_law_4 : cX0_law.data.toList.drop 94 = dktX0_law_4 := dk_seg dksX0_law_3 24 rfl rfl
theorem dX0_law_0 : decode cX0_law 0 = .ok (.aload_n 0, 1) := dk_42 (dk_at dksX0_law_0 0 rfl rfl)
theorem dX0_law_1 : decode cX0_law 1 = .ok (.getfield 232, 3) := dk_180 0 232 (dk_at dksX0_law_0 1 rfl rfl)
theorem dX0_law_4 : decode cX0_law 4 = .ok (.istore_n 1, 1) := dk_60 (dk_at dksX0_law_0 4 rfl rfl)
theorem dX0_law_5 : decode cX0_law 5 = .ok (.aload_n 0, 1) := dk_42 (dk_at dksX0_law_0 5 rfl rfl)
theorem dX0_law_6 : decode cX0_law 6 = .ok (.iconst 0, 1) := dk_3 (dk_at dksX0_law_0 6 rfl rfl)
theorem dX0_law_7 : decode cX0_law 7 = .ok (.putfield 232, 3) := dk_181 0 232 (dk_at dksX0_law_0 7 rfl rfl)
theorem dX0_law_10 : decode cX0_law 10 = .ok (.aload_n 0, 1) := dk_42 (dk_at dksX0_law_0 10 rfl rfl)
theorem dX0_law_11 : decode cX0_law 11 = .ok (.getfield 16, 3) := dk_180 0 16 (dk_at dksX0_law_0 11 rfl rfl)
theorem dX0_law_14 : decode cX0_law 14 = .ok (.getfield 281, 3) := dk_180 1 25 (dk_at dksX0_law_0 14 rfl rfl)
theorem dX0_law_17 : decode cX0_law 17 = .ok (.invokevirtual 130, 3) := dk_182 0 130 (dk_at dksX0_law_0 17 rfl rfl)
theorem dX0_law_20 : decode cX0_law 20 = .ok (.bipush 6, 2) := dk_16 6 (dk_at dksX0_law_0 20 rfl rfl)
theorem dX0_law_22 : decode cX0_law 22 = .ok (.if_icmp .ne 10, 3) := dk_160 0 10 (dk_at dksX0_law_1 0 rfl rfl)
theorem dX0_law_25 : decode cX0_law 25 = .ok (.aload_n 0, 1) := dk_42 (dk_at dksX0_law_1 3 rfl rfl)
theorem dX0_law_26 : decode cX0_law 26 = .ok (.bipush (-5), 2) := dk_16 251 (dk_at dksX0_law_1 4 rfl rfl)
theorem dX0_law_28 : decode cX0_law 28 = .ok (.invokevirtual 157, 3) := dk_182 0 157 (dk_at dksX0_law_1 6 rfl rfl)
theorem dX0_law_31 : decode cX0_law 31 = .ok (.ireturn, 1) := dk_172 (dk_at dksX0_law_1 9 rfl rfl)
theorem dX0_law_32 : decode cX0_law 32 = .ok (.new 284, 3) := dk_187 1 28 (dk_at dksX0_law_1 10 rfl rfl)
theorem dX0_law_35 : decode cX0_law 35 = .ok (.dup, 1) := dk_89 (dk_at dksX0_law_1 13 rfl rfl)
theorem dX0_law_36 : decode cX0_law 36 = .ok (.aload_n 0, 1) := dk_42 (dk_at dksX0_law_1 14 rfl rfl)
theorem dX0_law_37 : decode cX0_law 37 = .ok (.getfield 24, 3) := dk_180 0 24 (dk_at dksX0_law_1 15 rfl rfl)
theorem dX0_law_40 : decode cX0_law 40 = .ok (.iload_n 1, 1) := dk_27 (dk_at dksX0_law_1 18 rfl rfl)
theorem dX0_law_41 : decode cX0_law 41 = .ok (.invokespecial 286, 3) := dk_183 1 30 (dk_at dksX0_law_1 19 rfl rfl)
theorem dX0_law_44 : decode cX0_law 44 = .ok (.astore_n 2, 1) := dk_77 (dk_at dksX0_law_1 22 rfl rfl)
theorem dX0_law_45 : decode cX0_law 45 = .ok (.aload_n 0, 1) := dk_42 (dk_at dksX0_law_1 23 rfl rfl)
theorem dX0_law_46 : decode cX0_law 46 = .ok (.aload_n 2, 1) := dk_44 (dk_at dksX0_law_2 0 rfl rfl)
theorem dX0_law_47 : decode cX0_law 47 = .ok (.invokevirtual 257, 3) := dk_182 1 1 (dk_at dksX0_law_2 1 rfl rfl)
theorem dX0_law_50 : decode cX0_law 50 = .ok (.ifCond .ne 10, 3) := dk_154 0 10 (dk_at dksX0_law_2 4 rfl rfl)
theorem dX0_law_53 : decode cX0_law 53 = .ok (.aload_n 0, 1) := dk_42 (dk_at dksX0_law_2 7 rfl rfl)
theorem dX0_law_54 : decode cX0_law 54 = .ok (.bipush (-6), 2) := dk_16 250 (dk_at dksX0_law_2 8 rfl rfl)
theorem dX0_law_56 : decode cX0_law 56 = .ok (.invokevirtual 157, 3) := dk_182 0 157 (dk_at dksX0_law_2 10 rfl rfl)
theorem dX0_law_59 : decode cX0_law 59 = .ok (.ireturn, 1) := dk_172 (dk_at dksX0_law_2 13 rfl rfl)
theorem dX0_law_60 : decode cX0_law 60 = .ok (.aload_n 0, 1) := dk_42 (dk_at dksX0_law_2 14 rfl rfl)
theorem dX0_law_61 : decode cX0_law 61 = .ok (.getfield 16, 3) := dk_180 0 16 (dk_at dksX0_law_2 15 rfl rfl)
theorem dX0_law_64 : decode cX0_law 64 = .ok (.getfield 281, 3) := dk_180 1 25 (dk_at dksX0_law_2 18 rfl rfl)
theorem dX0_law_67 : decode cX0_law 67 = .ok (.new 287, 3) := dk_187 1 31 (dk_at dksX0_law_2 21 rfl rfl)
theorem dX0_law_70 : decode cX0_law 70 = .ok (.dup, 1) := dk_89 (dk_at dksX0_law_3 0 rfl rfl)
theorem dX0_law_71 : decode cX0_law 71 = .ok (.aload_n 2, 1) := dk_44 (dk_at dksX0_law_3 1 rfl rfl)
theorem dX0_law_72 : decode cX0_law 72 = .ok (.getfield 289, 3) := dk_180 1 33 (dk_at dksX0_law_3 2 rfl rfl)
theorem dX0_law_75 : decode cX0_law 75 = .ok (.invokespecial 292, 3) := dk_183 1 36 (dk_at dksX0_law_3 5 rfl rfl)
theorem dX0_law_78 : decode cX0_law 78 = .ok (.invokevirtual 209, 3) := dk_182 0 209 (dk_at dksX0_law_3 8 rfl rfl)
theorem dX0_law_81 : decode cX0_law 81 = .ok (.pop, 1) := dk_87 (dk_at dksX0_law_3 11 rfl rfl)
theorem dX0_law_82 : decode cX0_law 82 = .ok (.aload_n 0, 1) := dk_42 (dk_at dksX0_law_3 12 rfl rfl)
theorem dX0_law_83 : decode cX0_law 83 = .ok (.aload_n 0, 1) := dk_42 (dk_at dksX0_law_3 13 rfl rfl)
theorem dX0_law_84 : decode cX0_law 84 = .ok (.getfield 16, 3) := dk_180 0 16 (dk_at dksX0_law_3 14 rfl rfl)
theorem dX0_law_87 : decode cX0_law 87 = .ok (.getfield 281, 3) := dk_180 1 25 (dk_at dksX0_law_3 17 rfl rfl)
theorem dX0_law_90 : decode cX0_law 90 = .ok (.invokevirtual 130, 3) := dk_182 0 130 (dk_at dksX0_law_3 20 rfl rfl)
theorem dX0_law_93 : decode cX0_law 93 = .ok (.iconst 1, 1) := dk_4 (dk_at dksX0_law_3 23 rfl rfl)
theorem dX0_law_94 : decode cX0_law 94 = .ok (.isub, 1) := dk_100 (dk_at dksX0_law_4 0 rfl rfl)
theorem dX0_law_95 : decode cX0_law 95 = .ok (.invokevirtual 164, 3) := dk_182 0 164 (dk_at dksX0_law_4 1 rfl rfl)
theorem dX0_law_98 : decode cX0_law 98 = .ok (.ireturn, 1) := dk_172 (dk_at dksX0_law_4 4 rfl rfl)
abbrev cX0_fault : ByteArray := prog_1_method_37_code
def yX0_fault : MethodName := ⟨RX0, "fault", "()I"⟩
theorem dX0_fault_0 : decode cX0_fault 0 = .ok (.aload_n 0, 1) := by decide +kernel
theorem dX0_fault_1 : decode cX0_fault 1 = .ok (.getfield 28, 3) := by decide +kernel
theorem dX0_fault_4 : decode cX0_fault 4 = .ok (.ireturn, 1) := by decide +kernel
abbrev cX0_force : ByteArray := prog_1_method_38_code
def yX0_force : MethodName := ⟨RX0, "force", "(I)I"⟩
def dkwX0_force_2 : List UInt8 := [181, 1, 39, 42, 28, 182, 0, 164, 172]
abbrev dktX0_force_2 : List UInt8 := dkwX0_force_2 ++ []
def dkwX0_force_1 : List UInt8 := [154, 0, 10, 42, 16, 254, 182, 0, 157, 172, 42, 180, 0, 16, 180, 1, 39, 61, 42, 180, 0, 16, 27]
abbrev dktX0_force_1 : List UInt8 := dkwX0_force_1 ++ dktX0_force_2
def dkwX0_force_0 : List UInt8 := [27, 2, 159, 0, 30, 27, 3, 42, 180, 0, 16, 180, 1, 25, 182, 0, 130, 4, 100, 184, 0, 122]
abbrev dktX0_force_0 : List UInt8 := dkwX0_force_0 ++ dktX0_force_1
theorem dksX0_force_0 : cX0_force.data.toList.drop 0 = dktX0_force_0 := by decide +kernel
theorem dksX0_force_1 : cX0_force.data.toList.drop 22 = dktX0_force_1 := dk_seg dksX0_force_0 22 rfl rfl
theorem dksX0_force_2 : cX0_force.data.toList.drop 45 = dktX0_force_2 := dk_seg dksX0_force_1 23 rfl rfl
theorem dX0_force_0 : decode cX0_force 0 = .ok (.iload_n 1, 1) := dk_27 (dk_at dksX0_force_0 0 rfl rfl)
theorem dX0_force_1 : decode cX0_force 1 = .ok (.iconst (-1), 1) := dk_2 (dk_at dksX0_force_0 1 rfl rfl)
theorem dX0_force_2 : decode cX0_force 2 = .ok (.if_icmp .eq 30, 3) := dk_159 0 30 (dk_at dksX0_force_0 2 rfl rfl)
theorem dX0_force_5 : decode cX0_force 5 = .ok (.iload_n 1, 1) := dk_27 (dk_at dksX0_force_0 5 rfl rfl)
theorem dX0_force_6 : decode cX0_force 6 = .ok (.iconst 0, 1) := dk_3 (dk_at dksX0_force_0 6 rfl rfl)
theorem dX0_force_7 : decode cX0_force 7 = .ok (.aload_n 0, 1) := dk_42 (dk_at dksX0_force_0 7 rfl rfl)
theorem dX0_force_8 : decode cX0_force 8 = .ok (.getfield 16, 3) := dk_180 0 16 (dk_at dksX0_force_0 8 rfl rfl)
theorem dX0_force_11 : decode cX0_force 11 = .ok (.getfield 281, 3) := dk_180 1 25 (dk_at dksX0_force_0 11 rfl rfl)
theorem dX0_force_14 : decode cX0_force 14 = .ok (.invokevirtual 130, 3) := dk_182 0 130 (dk_at dksX0_force_0 14 rfl rfl)
theorem dX0_force_17 : decode cX0_force 17 = .ok (.iconst 1, 1) := dk_4 (dk_at dksX0_force_0 17 rfl rfl)
theorem dX0_force_18 : decode cX0_force 18 = .ok (.isub, 1) := dk_100 (dk_at dksX0_force_0 18 rfl rfl)
theorem dX0_force_19 : decode cX0_force 19 = .ok (.invokestatic 122, 3) := dk_184 0 122 (dk_at dksX0_force_0 19 rfl rfl)
theorem dX0_force_22 : decode cX0_force 22 = .ok (.ifCond .ne 10, 3) := dk_154 0 10 (dk_at dksX0_force_1 0 rfl rfl)
theorem dX0_force_25 : decode cX0_force 25 = .ok (.aload_n 0, 1) := dk_42 (dk_at dksX0_force_1 3 rfl rfl)
theorem dX0_force_26 : decode cX0_force 26 = .ok (.bipush (-2), 2) := dk_16 254 (dk_at dksX0_force_1 4 rfl rfl)
theorem dX0_force_28 : decode cX0_force 28 = .ok (.invokevirtual 157, 3) := dk_182 0 157 (dk_at dksX0_force_1 6 rfl rfl)
theorem dX0_force_31 : decode cX0_force 31 = .ok (.ireturn, 1) := dk_172 (dk_at dksX0_force_1 9 rfl rfl)
theorem dX0_force_32 : decode cX0_force 32 = .ok (.aload_n 0, 1) := dk_42 (dk_at dksX0_force_1 10 rfl rfl)
theorem dX0_force_33 : decode cX0_force 33 = .ok (.getfield 16, 3) := dk_180 0 16 (dk_at dksX0_force_1 11 rfl rfl)
theorem dX0_force_36 : decode cX0_force 36 = .ok (.getfield 295, 3) := dk_180 1 39 (dk_at dksX0_force_1 14 rfl rfl)
theorem dX0_force_39 : decode cX0_force 39 = .ok (.istore_n 2, 1) := dk_61 (dk_at dksX0_force_1 17 rfl rfl)
theorem dX0_force_40 : decode cX0_force 40 = .ok (.aload_n 0, 1) := dk_42 (dk_at dksX0_force_1 18 rfl rfl)
theorem dX0_force_41 : decode cX0_force 41 = .ok (.getfield 16, 3) := dk_180 0 16 (dk_at dksX0_force_1 19 rfl rfl)
theorem dX0_force_44 : decode cX0_force 44 = .ok (.iload_n 1, 1) := dk_27 (dk_at dksX0_force_1 22 rfl rfl)
theorem dX0_force_45 : decode cX0_force 45 = .ok (.putfield 295, 3) := dk_181 1 39 (dk_at dksX0_force_2 0 rfl rfl)
theorem dX0_force_48 : decode cX0_force 48 = .ok (.aload_n 0, 1) := dk_42 (dk_at dksX0_force_2 3 rfl rfl)
theorem dX0_force_49 : decode cX0_force 49 = .ok (.iload_n 2, 1) := dk_28 (dk_at dksX0_force_2 4 rfl rfl)
theorem dX0_force_50 : decode cX0_force 50 = .ok (.invokevirtual 164, 3) := dk_182 0 164 (dk_at dksX0_force_2 5 rfl rfl)
theorem dX0_force_53 : decode cX0_force 53 = .ok (.ireturn, 1) := dk_172 (dk_at dksX0_force_2 8 rfl rfl)
abbrev cX0_asks : ByteArray := prog_1_method_43_code
def yX0_asks : MethodName := ⟨RX0, "asks", "(IIII)I"⟩
def dkwX0_asks_4 : List UInt8 := [42, 27, 28, 29, 42, 182, 0, 229, 182, 1, 61, 153, 0, 7, 4, 167, 0, 4, 3, 172, 2, 172]
abbrev dktX0_asks_4 : List UInt8 := dkwX0_asks_4 ++ []
def dkwX0_asks_3 : List UInt8 := [42, 27, 28, 29, 42, 182, 0, 229, 182, 1, 54, 172, 42, 27, 28, 29, 42, 182, 0, 229, 182, 1, 58, 172]
abbrev dktX0_asks_3 : List UInt8 := dkwX0_asks_3 ++ dktX0_asks_4
def dkwX0_asks_2 : List UInt8 := [170, 0, 0, 0, 0, 0, 71, 0, 0, 0, 0, 0, 0, 0, 2, 0, 0, 0, 27, 0, 0, 0, 39, 0, 0, 0, 51]
abbrev dktX0_asks_2 : List UInt8 := dkwX0_asks_2 ++ dktX0_asks_3
def dkwX0_asks_1 : List UInt8 := [182, 0, 213, 154, 0, 5, 2, 172, 21, 4]
abbrev dktX0_asks_1 : List UInt8 := dkwX0_asks_1 ++ dktX0_asks_2
def dkwX0_asks_0 : List UInt8 := [42, 27, 182, 0, 213, 153, 0, 24, 42, 28, 182, 0, 184, 153, 0, 16, 29, 2, 159, 0, 13, 42, 29]
abbrev dktX0_asks_0 : List UInt8 := dkwX0_asks_0 ++ dktX0_asks_1
theorem dksX0_asks_0 : cX0_asks.data.toList.drop 0 = dktX0_asks_0 := by decide +kernel
theorem dksX0_asks_1 : cX0_asks.data.toList.drop 23 = dktX0_asks_1 := dk_seg dksX0_asks_0 23 rfl rfl
theorem dksX0_asks_2 : cX0_asks.data.toList.drop 33 = dktX0_asks_2 := dk_seg dksX0_asks_1 10 rfl rfl
theorem dksX0_asks_3 : cX0_asks.data.toList.drop 60 = dktX0_asks_3 := dk_seg dksX0_asks_2 27 rfl rfl
theorem dksX0_asks_4 : cX0_asks.data.toList.drop 84 = dktX0_asks_4 := dk_seg dksX0_asks_3 24 rfl rfl
theorem dX0_asks_0 : decode cX0_asks 0 = .ok (.aload_n 0, 1) := dk_42 (dk_at dksX0_asks_0 0 rfl rfl)
theorem dX0_asks_1 : decode cX0_asks 1 = .ok (.iload_n 1, 1) := dk_27 (dk_at dksX0_asks_0 1 rfl rfl)
theorem dX0_asks_2 : decode cX0_asks 2 = .ok (.invokevirtual 213, 3) := dk_182 0 213 (dk_at dksX0_asks_0 2 rfl rfl)
theorem dX0_asks_5 : decode cX0_asks 5 = .ok (.ifCond .eq 24, 3) := dk_153 0 24 (dk_at dksX0_asks_0 5 rfl rfl)
theorem dX0_asks_8 : decode cX0_asks 8 = .ok (.aload_n 0, 1) := dk_42 (dk_at dksX0_asks_0 8 rfl rfl)
theorem dX0_asks_9 : decode cX0_asks 9 = .ok (.iload_n 2, 1) := dk_28 (dk_at dksX0_asks_0 9 rfl rfl)
theorem dX0_asks_10 : decode cX0_asks 10 = .ok (.invokevirtual 184, 3) := dk_182 0 184 (dk_at dksX0_asks_0 10 rfl rfl)
theorem dX0_asks_13 : decode cX0_asks 13 = .ok (.ifCond .eq 16, 3) := dk_153 0 16 (dk_at dksX0_asks_0 13 rfl rfl)
theorem dX0_asks_16 : decode cX0_asks 16 = .ok (.iload_n 3, 1) := dk_29 (dk_at dksX0_asks_0 16 rfl rfl)
theorem dX0_asks_17 : decode cX0_asks 17 = .ok (.iconst (-1), 1) := dk_2 (dk_at dksX0_asks_0 17 rfl rfl)
theorem dX0_asks_18 : decode cX0_asks 18 = .ok (.if_icmp .eq 13, 3) := dk_159 0 13 (dk_at dksX0_asks_0 18 rfl rfl)
theorem dX0_asks_21 : decode cX0_asks 21 = .ok (.aload_n 0, 1) := dk_42 (dk_at dksX0_asks_0 21 rfl rfl)
theorem dX0_asks_22 : decode cX0_asks 22 = .ok (.iload_n 3, 1) := dk_29 (dk_at dksX0_asks_0 22 rfl rfl)
theorem dX0_asks_23 : decode cX0_asks 23 = .ok (.invokevirtual 213, 3) := dk_182 0 213 (dk_at dksX0_asks_1 0 rfl rfl)
theorem dX0_asks_26 : decode cX0_asks 26 = .ok (.ifCond .ne 5, 3) := dk_154 0 5 (dk_at dksX0_asks_1 3 rfl rfl)
theorem dX0_asks_29 : decode cX0_asks 29 = .ok (.iconst (-1), 1) := dk_2 (dk_at dksX0_asks_1 6 rfl rfl)
theorem dX0_asks_30 : decode cX0_asks 30 = .ok (.ireturn, 1) := dk_172 (dk_at dksX0_asks_1 7 rfl rfl)
theorem dX0_asks_31 : decode cX0_asks 31 = .ok (.iload 4, 2) := dk_21 4 (dk_at dksX0_asks_1 8 rfl rfl)
theorem dX0_asks_33 : decode cX0_asks 33 = .ok (.tableswitch 71 0 2 #[27, 39, 51], 27) := by decide +kernel
theorem dX0_asks_60 : decode cX0_asks 60 = .ok (.aload_n 0, 1) := dk_42 (dk_at dksX0_asks_3 0 rfl rfl)
theorem dX0_asks_61 : decode cX0_asks 61 = .ok (.iload_n 1, 1) := dk_27 (dk_at dksX0_asks_3 1 rfl rfl)
theorem dX0_asks_62 : decode cX0_asks 62 = .ok (.iload_n 2, 1) := dk_28 (dk_at dksX0_asks_3 2 rfl rfl)
theorem dX0_asks_63 : decode cX0_asks 63 = .ok (.iload_n 3, 1) := dk_29 (dk_at dksX0_asks_3 3 rfl rfl)
theorem dX0_asks_64 : decode cX0_asks 64 = .ok (.aload_n 0, 1) := dk_42 (dk_at dksX0_asks_3 4 rfl rfl)
theorem dX0_asks_65 : decode cX0_asks 65 = .ok (.invokevirtual 229, 3) := dk_182 0 229 (dk_at dksX0_asks_3 5 rfl rfl)
theorem dX0_asks_68 : decode cX0_asks 68 = .ok (.invokevirtual 310, 3) := dk_182 1 54 (dk_at dksX0_asks_3 8 rfl rfl)
theorem dX0_asks_71 : decode cX0_asks 71 = .ok (.ireturn, 1) := dk_172 (dk_at dksX0_asks_3 11 rfl rfl)
theorem dX0_asks_72 : decode cX0_asks 72 = .ok (.aload_n 0, 1) := dk_42 (dk_at dksX0_asks_3 12 rfl rfl)
theorem dX0_asks_73 : decode cX0_asks 73 = .ok (.iload_n 1, 1) := dk_27 (dk_at dksX0_asks_3 13 rfl rfl)
theorem dX0_asks_74 : decode cX0_asks 74 = .ok (.iload_n 2, 1) := dk_28 (dk_at dksX0_asks_3 14 rfl rfl)
theorem dX0_asks_75 : decode cX0_asks 75 = .ok (.iload_n 3, 1) := dk_29 (dk_at dksX0_asks_3 15 rfl rfl)
theorem dX0_asks_76 : decode cX0_asks 76 = .ok (.aload_n 0, 1) := dk_42 (dk_at dksX0_asks_3 16 rfl rfl)
theorem dX0_asks_77 : decode cX0_asks 77 = .ok (.invokevirtual 229, 3) := dk_182 0 229 (dk_at dksX0_asks_3 17 rfl rfl)
theorem dX0_asks_80 : decode cX0_asks 80 = .ok (.invokevirtual 314, 3) := dk_182 1 58 (dk_at dksX0_asks_3 20 rfl rfl)
theorem dX0_asks_83 : decode cX0_asks 83 = .ok (.ireturn, 1) := dk_172 (dk_at dksX0_asks_3 23 rfl rfl)
theorem dX0_asks_84 : decode cX0_asks 84 = .ok (.aload_n 0, 1) := dk_42 (dk_at dksX0_asks_4 0 rfl rfl)
theorem dX0_asks_85 : decode cX0_asks 85 = .ok (.iload_n 1, 1) := dk_27 (dk_at dksX0_asks_4 1 rfl rfl)
theorem dX0_asks_86 : decode cX0_asks 86 = .ok (.iload_n 2, 1) := dk_28 (dk_at dksX0_asks_4 2 rfl rfl)
theorem dX0_asks_87 : decode cX0_asks 87 = .ok (.iload_n 3, 1) := dk_29 (dk_at dksX0_asks_4 3 rfl rfl)
theorem dX0_asks_88 : decode cX0_asks 88 = .ok (.aload_n 0, 1) := dk_42 (dk_at dksX0_asks_4 4 rfl rfl)
theorem dX0_asks_89 : decode cX0_asks 89 = .ok (.invokevirtual 229, 3) := dk_182 0 229 (dk_at dksX0_asks_4 5 rfl rfl)
theorem dX0_asks_92 : decode cX0_asks 92 = .ok (.invokevirtual 317, 3) := dk_182 1 61 (dk_at dksX0_asks_4 8 rfl rfl)
theorem dX0_asks_95 : decode cX0_asks 95 = .ok (.ifCond .eq 7, 3) := dk_153 0 7 (dk_at dksX0_asks_4 11 rfl rfl)
theorem dX0_asks_98 : decode cX0_asks 98 = .ok (.iconst 1, 1) := dk_4 (dk_at dksX0_asks_4 14 rfl rfl)
theorem dX0_asks_99 : decode cX0_asks 99 = .ok (.goto 4, 3) := dk_167 0 4 (dk_at dksX0_asks_4 15 rfl rfl)
theorem dX0_asks_102 : decode cX0_asks 102 = .ok (.iconst 0, 1) := dk_3 (dk_at dksX0_asks_4 18 rfl rfl)
theorem dX0_asks_103 : decode cX0_asks 103 = .ok (.ireturn, 1) := dk_172 (dk_at dksX0_asks_4 19 rfl rfl)
theorem dX0_asks_104 : decode cX0_asks 104 = .ok (.iconst (-1), 1) := dk_2 (dk_at dksX0_asks_4 20 rfl rfl)
theorem dX0_asks_105 : decode cX0_asks 105 = .ok (.ireturn, 1) := dk_172 (dk_at dksX0_asks_4 21 rfl rfl)
abbrev cX0_slips : ByteArray := prog_1_method_40_code
def yX0_slips : MethodName := ⟨RX0, "slips", "(IIII)I"⟩
def dkwX0_slips_1 : List UInt8 := [180, 0, 16, 180, 0, 154, 5, 46, 167, 0, 11, 22, 5, 3, 16, 100, 184, 1, 50, 172]
abbrev dktX0_slips_1 : List UInt8 := dkwX0_slips_1 ++ []
def dkwX0_slips_0 : List UInt8 := [42, 3, 27, 28, 29, 21, 4, 182, 1, 47, 55, 5, 22, 5, 20, 1, 42, 148, 154, 0, 15, 42]
abbrev dktX0_slips_0 : List UInt8 := dkwX0_slips_0 ++ dktX0_slips_1
theorem dksX0_slips_0 : cX0_slips.data.toList.drop 0 = dktX0_slips_0 := by decide +kernel
theorem dksX0_slips_1 : cX0_slips.data.toList.drop 22 = dktX0_slips_1 := dk_seg dksX0_slips_0 22 rfl rfl
theorem dX0_slips_0 : decode cX0_slips 0 = .ok (.aload_n 0, 1) := dk_42 (dk_at dksX0_slips_0 0 rfl rfl)
theorem dX0_slips_1 : decode cX0_slips 1 = .ok (.iconst 0, 1) := dk_3 (dk_at dksX0_slips_0 1 rfl rfl)
theorem dX0_slips_2 : decode cX0_slips 2 = .ok (.iload_n 1, 1) := dk_27 (dk_at dksX0_slips_0 2 rfl rfl)
theorem dX0_slips_3 : decode cX0_slips 3 = .ok (.iload_n 2, 1) := dk_28 (dk_at dksX0_slips_0 3 rfl rfl)
theorem dX0_slips_4 : decode cX0_slips 4 = .ok (.iload_n 3, 1) := dk_29 (dk_at dksX0_slips_0 4 rfl rfl)
theorem dX0_slips_5 : decode cX0_slips 5 = .ok (.iload 4, 2) := dk_21 4 (dk_at dksX0_slips_0 5 rfl rfl)
theorem dX0_slips_7 : decode cX0_slips 7 = .ok (.invokevirtual 303, 3) := dk_182 1 47 (dk_at dksX0_slips_0 7 rfl rfl)
theorem dX0_slips_10 : decode cX0_slips 10 = .ok (.lstore 5, 2) := dk_55 5 (dk_at dksX0_slips_0 10 rfl rfl)
theorem dX0_slips_12 : decode cX0_slips 12 = .ok (.lload 5, 2) := dk_22 5 (dk_at dksX0_slips_0 12 rfl rfl)
theorem dX0_slips_14 : decode cX0_slips 14 = .ok (.ldc2_w 298, 3) := dk_20 1 42 (dk_at dksX0_slips_0 14 rfl rfl)
theorem dX0_slips_17 : decode cX0_slips 17 = .ok (.lcmp, 1) := dk_148 (dk_at dksX0_slips_0 17 rfl rfl)
theorem dX0_slips_18 : decode cX0_slips 18 = .ok (.ifCond .ne 15, 3) := dk_154 0 15 (dk_at dksX0_slips_0 18 rfl rfl)
theorem dX0_slips_21 : decode cX0_slips 21 = .ok (.aload_n 0, 1) := dk_42 (dk_at dksX0_slips_0 21 rfl rfl)
theorem dX0_slips_22 : decode cX0_slips 22 = .ok (.getfield 16, 3) := dk_180 0 16 (dk_at dksX0_slips_1 0 rfl rfl)
theorem dX0_slips_25 : decode cX0_slips 25 = .ok (.getfield 154, 3) := dk_180 0 154 (dk_at dksX0_slips_1 3 rfl rfl)
theorem dX0_slips_28 : decode cX0_slips 28 = .ok (.iconst 2, 1) := dk_5 (dk_at dksX0_slips_1 6 rfl rfl)
theorem dX0_slips_29 : decode cX0_slips 29 = .ok (.iaload, 1) := dk_46 (dk_at dksX0_slips_1 7 rfl rfl)
theorem dX0_slips_30 : decode cX0_slips 30 = .ok (.goto 11, 3) := dk_167 0 11 (dk_at dksX0_slips_1 8 rfl rfl)
theorem dX0_slips_33 : decode cX0_slips 33 = .ok (.lload 5, 2) := dk_22 5 (dk_at dksX0_slips_1 11 rfl rfl)
theorem dX0_slips_35 : decode cX0_slips 35 = .ok (.iconst 0, 1) := dk_3 (dk_at dksX0_slips_1 13 rfl rfl)
theorem dX0_slips_36 : decode cX0_slips 36 = .ok (.bipush 100, 2) := dk_16 100 (dk_at dksX0_slips_1 14 rfl rfl)
theorem dX0_slips_38 : decode cX0_slips 38 = .ok (.invokestatic 306, 3) := dk_184 1 50 (dk_at dksX0_slips_1 16 rfl rfl)
theorem dX0_slips_41 : decode cX0_slips 41 = .ok (.ireturn, 1) := dk_172 (dk_at dksX0_slips_1 19 rfl rfl)
abbrev cX0_says : ByteArray := prog_1_method_39_code
def yX0_says : MethodName := ⟨RX0, "says", "(IIIII)J"⟩
def dkwX0_says_6 : List UInt8 := [173]
abbrev dktX0_says_6 : List UInt8 := dkwX0_says_6 ++ []
def dkwX0_says_5 : List UInt8 := [180, 1, 25, 42, 180, 0, 16, 180, 1, 39, 182, 0, 139, 192, 1, 31, 27, 42, 180, 0, 35, 182, 1, 44]
abbrev dktX0_says_5 : List UInt8 := dkwX0_says_5 ++ dktX0_says_6
def dkwX0_says_4 : List UInt8 := [21, 5, 133, 80, 25, 7, 16, 7, 42, 180, 0, 16, 180, 0, 154, 4, 46, 133, 80, 42, 180, 0, 16]
abbrev dktX0_says_4 : List UInt8 := dkwX0_says_4 ++ dktX0_says_5
def dkwX0_says_3 : List UInt8 := [25, 6, 180, 0, 222, 133, 80, 25, 7, 7, 29, 133, 80, 25, 7, 8, 21, 4, 133, 80, 25, 7, 16, 6]
abbrev dktX0_says_3 : List UInt8 := dkwX0_says_3 ++ dktX0_says_4
def dkwX0_says_2 : List UInt8 := [25, 7, 4, 25, 6, 180, 0, 219, 133, 80, 25, 7, 5, 25, 6, 180, 0, 216, 133, 80, 25, 7, 6]
abbrev dktX0_says_2 : List UInt8 := dkwX0_says_2 ++ dktX0_says_3
def dkwX0_says_1 : List UInt8 := [182, 0, 139, 192, 0, 148, 58, 6, 42, 180, 0, 35, 180, 1, 17, 58, 7, 25, 7, 3, 28, 133, 80]
abbrev dktX0_says_1 : List UInt8 := dkwX0_says_1 ++ dktX0_says_2
def dkwX0_says_0 : List UInt8 := [42, 180, 0, 16, 180, 1, 39, 2, 160, 0, 7, 20, 1, 42, 173, 42, 180, 0, 16, 180, 0, 126, 28]
abbrev dktX0_says_0 : List UInt8 := dkwX0_says_0 ++ dktX0_says_1
theorem dksX0_says_0 : cX0_says.data.toList.drop 0 = dktX0_says_0 := by decide +kernel
theorem dksX0_says_1 : cX0_says.data.toList.drop 23 = dktX0_says_1 := dk_seg dksX0_says_0 23 rfl rfl
theorem dksX0_says_2 : cX0_says.data.toList.drop 46 = dktX0_says_2 := dk_seg dksX0_says_1 23 rfl rfl
theorem dksX0_says_3 : cX0_says.data.toList.drop 69 = dktX0_says_3 := dk_seg dksX0_says_2 23 rfl rfl
theorem dksX0_says_4 : cX0_says.data.toList.drop 93 = dktX0_says_4 := dk_seg dksX0_says_3 24 rfl rfl
theorem dksX0_says_5 : cX0_says.data.toList.drop 116 = dktX0_says_5 := dk_seg dksX0_says_4 23 rfl rfl
theorem dksX0_says_6 : cX0_says.data.toList.drop 140 = dktX0_says_6 := dk_seg dksX0_says_5 24 rfl rfl
theorem dX0_says_0 : decode cX0_says 0 = .ok (.aload_n 0, 1) := dk_42 (dk_at dksX0_says_0 0 rfl rfl)
theorem dX0_says_1 : decode cX0_says 1 = .ok (.getfield 16, 3) := dk_180 0 16 (dk_at dksX0_says_0 1 rfl rfl)
theorem dX0_says_4 : decode cX0_says 4 = .ok (.getfield 295, 3) := dk_180 1 39 (dk_at dksX0_says_0 4 rfl rfl)
theorem dX0_says_7 : decode cX0_says 7 = .ok (.iconst (-1), 1) := dk_2 (dk_at dksX0_says_0 7 rfl rfl)
theorem dX0_says_8 : decode cX0_says 8 = .ok (.if_icmp .ne 7, 3) := dk_160 0 7 (dk_at dksX0_says_0 8 rfl rfl)
theorem dX0_says_11 : decode cX0_says 11 = .ok (.ldc2_w 298, 3) := dk_20 1 42 (dk_at dksX0_says_0 11 rfl rfl)
theorem dX0_says_14 : decode cX0_says 14 = .ok (.lreturn, 1) := dk_173 (dk_at dksX0_says_0 14 rfl rfl)
theorem dX0_says_15 : decode cX0_says 15 = .ok (.aload_n 0, 1) := dk_42 (dk_at dksX0_says_0 15 rfl rfl)
theorem dX0_says_16 : decode cX0_says 16 = .ok (.getfield 16, 3) := dk_180 0 16 (dk_at dksX0_says_0 16 rfl rfl)
theorem dX0_says_19 : decode cX0_says 19 = .ok (.getfield 126, 3) := dk_180 0 126 (dk_at dksX0_says_0 19 rfl rfl)
theorem dX0_says_22 : decode cX0_says 22 = .ok (.iload_n 2, 1) := dk_28 (dk_at dksX0_says_0 22 rfl rfl)
theorem dX0_says_23 : decode cX0_says 23 = .ok (.invokevirtual 139, 3) := dk_182 0 139 (dk_at dksX0_says_1 0 rfl rfl)
theorem dX0_says_26 : decode cX0_says 26 = .ok (.checkcast 148, 3) := dk_192 0 148 (dk_at dksX0_says_1 3 rfl rfl)
theorem dX0_says_29 : decode cX0_says 29 = .ok (.astore 6, 2) := dk_58 6 (dk_at dksX0_says_1 6 rfl rfl)
theorem dX0_says_31 : decode cX0_says 31 = .ok (.aload_n 0, 1) := dk_42 (dk_at dksX0_says_1 8 rfl rfl)
theorem dX0_says_32 : decode cX0_says 32 = .ok (.getfield 35, 3) := dk_180 0 35 (dk_at dksX0_says_1 9 rfl rfl)
theorem dX0_says_35 : decode cX0_says 35 = .ok (.getfield 273, 3) := dk_180 1 17 (dk_at dksX0_says_1 12 rfl rfl)
theorem dX0_says_38 : decode cX0_says 38 = .ok (.astore 7, 2) := dk_58 7 (dk_at dksX0_says_1 15 rfl rfl)
theorem dX0_says_40 : decode cX0_says 40 = .ok (.aload 7, 2) := dk_25 7 (dk_at dksX0_says_1 17 rfl rfl)
theorem dX0_says_42 : decode cX0_says 42 = .ok (.iconst 0, 1) := dk_3 (dk_at dksX0_says_1 19 rfl rfl)
theorem dX0_says_43 : decode cX0_says 43 = .ok (.iload_n 2, 1) := dk_28 (dk_at dksX0_says_1 20 rfl rfl)
theorem dX0_says_44 : decode cX0_says 44 = .ok (.i2l, 1) := dk_133 (dk_at dksX0_says_1 21 rfl rfl)
theorem dX0_says_45 : decode cX0_says 45 = .ok (.lastore, 1) := dk_80 (dk_at dksX0_says_1 22 rfl rfl)
theorem dX0_says_46 : decode cX0_says 46 = .ok (.aload 7, 2) := dk_25 7 (dk_at dksX0_says_2 0 rfl rfl)
theorem dX0_says_48 : decode cX0_says 48 = .ok (.iconst 1, 1) := dk_4 (dk_at dksX0_says_2 2 rfl rfl)
theorem dX0_says_49 : decode cX0_says 49 = .ok (.aload 6, 2) := dk_25 6 (dk_at dksX0_says_2 3 rfl rfl)
theorem dX0_says_51 : decode cX0_says 51 = .ok (.getfield 219, 3) := dk_180 0 219 (dk_at dksX0_says_2 5 rfl rfl)
theorem dX0_says_54 : decode cX0_says 54 = .ok (.i2l, 1) := dk_133 (dk_at dksX0_says_2 8 rfl rfl)
theorem dX0_says_55 : decode cX0_says 55 = .ok (.lastore, 1) := dk_80 (dk_at dksX0_says_2 9 rfl rfl)
theorem dX0_says_56 : decode cX0_says 56 = .ok (.aload 7, 2) := dk_25 7 (dk_at dksX0_says_2 10 rfl rfl)
theorem dX0_says_58 : decode cX0_says 58 = .ok (.iconst 2, 1) := dk_5 (dk_at dksX0_says_2 12 rfl rfl)
theorem dX0_says_59 : decode cX0_says 59 = .ok (.aload 6, 2) := dk_25 6 (dk_at dksX0_says_2 13 rfl rfl)
theorem dX0_says_61 : decode cX0_says 61 = .ok (.getfield 216, 3) := dk_180 0 216 (dk_at dksX0_says_2 15 rfl rfl)
theorem dX0_says_64 : decode cX0_says 64 = .ok (.i2l, 1) := dk_133 (dk_at dksX0_says_2 18 rfl rfl)
theorem dX0_says_65 : decode cX0_says 65 = .ok (.lastore, 1) := dk_80 (dk_at dksX0_says_2 19 rfl rfl)
theorem dX0_says_66 : decode cX0_says 66 = .ok (.aload 7, 2) := dk_25 7 (dk_at dksX0_says_2 20 rfl rfl)
theorem dX0_says_68 : decode cX0_says 68 = .ok (.iconst 3, 1) := dk_6 (dk_at dksX0_says_2 22 rfl rfl)
theorem dX0_says_69 : decode cX0_says 69 = .ok (.aload 6, 2) := dk_25 6 (dk_at dksX0_says_3 0 rfl rfl)
theorem dX0_says_71 : decode cX0_says 71 = .ok (.getfield 222, 3) := dk_180 0 222 (dk_at dksX0_says_3 2 rfl rfl)
theorem dX0_says_74 : decode cX0_says 74 = .ok (.i2l, 1) := dk_133 (dk_at dksX0_says_3 5 rfl rfl)
theorem dX0_says_75 : decode cX0_says 75 = .ok (.lastore, 1) := dk_80 (dk_at dksX0_says_3 6 rfl rfl)
theorem dX0_says_76 : decode cX0_says 76 = .ok (.aload 7, 2) := dk_25 7 (dk_at dksX0_says_3 7 rfl rfl)
theorem dX0_says_78 : decode cX0_says 78 = .ok (.iconst 4, 1) := dk_7 (dk_at dksX0_says_3 9 rfl rfl)
theorem dX0_says_79 : decode cX0_says 79 = .ok (.iload_n 3, 1) := dk_29 (dk_at dksX0_says_3 10 rfl rfl)
theorem dX0_says_80 : decode cX0_says 80 = .ok (.i2l, 1) := dk_133 (dk_at dksX0_says_3 11 rfl rfl)
theorem dX0_says_81 : decode cX0_says 81 = .ok (.lastore, 1) := dk_80 (dk_at dksX0_says_3 12 rfl rfl)
theorem dX0_says_82 : decode cX0_says 82 = .ok (.aload 7, 2) := dk_25 7 (dk_at dksX0_says_3 13 rfl rfl)
theorem dX0_says_84 : decode cX0_says 84 = .ok (.iconst 5, 1) := dk_8 (dk_at dksX0_says_3 15 rfl rfl)
theorem dX0_says_85 : decode cX0_says 85 = .ok (.iload 4, 2) := dk_21 4 (dk_at dksX0_says_3 16 rfl rfl)
theorem dX0_says_87 : decode cX0_says 87 = .ok (.i2l, 1) := dk_133 (dk_at dksX0_says_3 18 rfl rfl)
theorem dX0_says_88 : decode cX0_says 88 = .ok (.lastore, 1) := dk_80 (dk_at dksX0_says_3 19 rfl rfl)
theorem dX0_says_89 : decode cX0_says 89 = .ok (.aload 7, 2) := dk_25 7 (dk_at dksX0_says_3 20 rfl rfl)
theorem dX0_says_91 : decode cX0_says 91 = .ok (.bipush 6, 2) := dk_16 6 (dk_at dksX0_says_3 22 rfl rfl)
theorem dX0_says_93 : decode cX0_says 93 = .ok (.iload 5, 2) := dk_21 5 (dk_at dksX0_says_4 0 rfl rfl)
theorem dX0_says_95 : decode cX0_says 95 = .ok (.i2l, 1) := dk_133 (dk_at dksX0_says_4 2 rfl rfl)
theorem dX0_says_96 : decode cX0_says 96 = .ok (.lastore, 1) := dk_80 (dk_at dksX0_says_4 3 rfl rfl)
theorem dX0_says_97 : decode cX0_says 97 = .ok (.aload 7, 2) := dk_25 7 (dk_at dksX0_says_4 4 rfl rfl)
theorem dX0_says_99 : decode cX0_says 99 = .ok (.bipush 7, 2) := dk_16 7 (dk_at dksX0_says_4 6 rfl rfl)
theorem dX0_says_101 : decode cX0_says 101 = .ok (.aload_n 0, 1) := dk_42 (dk_at dksX0_says_4 8 rfl rfl)
theorem dX0_says_102 : decode cX0_says 102 = .ok (.getfield 16, 3) := dk_180 0 16 (dk_at dksX0_says_4 9 rfl rfl)
theorem dX0_says_105 : decode cX0_says 105 = .ok (.getfield 154, 3) := dk_180 0 154 (dk_at dksX0_says_4 12 rfl rfl)
theorem dX0_says_108 : decode cX0_says 108 = .ok (.iconst 1, 1) := dk_4 (dk_at dksX0_says_4 15 rfl rfl)
theorem dX0_says_109 : decode cX0_says 109 = .ok (.iaload, 1) := dk_46 (dk_at dksX0_says_4 16 rfl rfl)
theorem dX0_says_110 : decode cX0_says 110 = .ok (.i2l, 1) := dk_133 (dk_at dksX0_says_4 17 rfl rfl)
theorem dX0_says_111 : decode cX0_says 111 = .ok (.lastore, 1) := dk_80 (dk_at dksX0_says_4 18 rfl rfl)
theorem dX0_says_112 : decode cX0_says 112 = .ok (.aload_n 0, 1) := dk_42 (dk_at dksX0_says_4 19 rfl rfl)
theorem dX0_says_113 : decode cX0_says 113 = .ok (.getfield 16, 3) := dk_180 0 16 (dk_at dksX0_says_4 20 rfl rfl)
theorem dX0_says_116 : decode cX0_says 116 = .ok (.getfield 281, 3) := dk_180 1 25 (dk_at dksX0_says_5 0 rfl rfl)
theorem dX0_says_119 : decode cX0_says 119 = .ok (.aload_n 0, 1) := dk_42 (dk_at dksX0_says_5 3 rfl rfl)
theorem dX0_says_120 : decode cX0_says 120 = .ok (.getfield 16, 3) := dk_180 0 16 (dk_at dksX0_says_5 4 rfl rfl)
theorem dX0_says_123 : decode cX0_says 123 = .ok (.getfield 295, 3) := dk_180 1 39 (dk_at dksX0_says_5 7 rfl rfl)
theorem dX0_says_126 : decode cX0_says 126 = .ok (.invokevirtual 139, 3) := dk_182 0 139 (dk_at dksX0_says_5 10 rfl rfl)
theorem dX0_says_129 : decode cX0_says 129 = .ok (.checkcast 287, 3) := dk_192 1 31 (dk_at dksX0_says_5 13 rfl rfl)
theorem dX0_says_132 : decode cX0_says 132 = .ok (.iload_n 1, 1) := dk_27 (dk_at dksX0_says_5 16 rfl rfl)
theorem dX0_says_133 : decode cX0_says 133 = .ok (.aload_n 0, 1) := dk_42 (dk_at dksX0_says_5 17 rfl rfl)
theorem dX0_says_134 : decode cX0_says 134 = .ok (.getfield 35, 3) := dk_180 0 35 (dk_at dksX0_says_5 18 rfl rfl)
theorem dX0_says_137 : decode cX0_says 137 = .ok (.invokevirtual 300, 3) := dk_182 1 44 (dk_at dksX0_says_5 21 rfl rfl)
theorem dX0_says_140 : decode cX0_says 140 = .ok (.lreturn, 1) := dk_173 (dk_at dksX0_says_6 0 rfl rfl)
abbrev cX0_hours : ByteArray := prog_1_method_41_code
def yX0_hours : MethodName := ⟨RX0, "hours", "(IIII)I"⟩
def dkwX0_hours_1 : List UInt8 := [167, 0, 11, 22, 5, 3, 16, 99, 184, 1, 50, 172]
abbrev dktX0_hours_1 : List UInt8 := dkwX0_hours_1 ++ []
def dkwX0_hours_0 : List UInt8 := [42, 4, 27, 28, 29, 21, 4, 182, 1, 47, 55, 5, 22, 5, 20, 1, 42, 148, 154, 0, 7, 4]
abbrev dktX0_hours_0 : List UInt8 := dkwX0_hours_0 ++ dktX0_hours_1
theorem dksX0_hours_0 : cX0_hours.data.toList.drop 0 = dktX0_hours_0 := by decide +kernel
theorem dksX0_hours_1 : cX0_hours.data.toList.drop 22 = dktX0_hours_1 := dk_seg dksX0_hours_0 22 rfl rfl
theorem dX0_hours_0 : decode cX0_hours 0 = .ok (.aload_n 0, 1) := dk_42 (dk_at dksX0_hours_0 0 rfl rfl)
theorem dX0_hours_1 : decode cX0_hours 1 = .ok (.iconst 1, 1) := dk_4 (dk_at dksX0_hours_0 1 rfl rfl)
theorem dX0_hours_2 : decode cX0_hours 2 = .ok (.iload_n 1, 1) := dk_27 (dk_at dksX0_hours_0 2 rfl rfl)
theorem dX0_hours_3 : decode cX0_hours 3 = .ok (.iload_n 2, 1) := dk_28 (dk_at dksX0_hours_0 3 rfl rfl)
theorem dX0_hours_4 : decode cX0_hours 4 = .ok (.iload_n 3, 1) := dk_29 (dk_at dksX0_hours_0 4 rfl rfl)
theorem dX0_hours_5 : decode cX0_hours 5 = .ok (.iload 4, 2) := dk_21 4 (dk_at dksX0_hours_0 5 rfl rfl)
theorem dX0_hours_7 : decode cX0_hours 7 = .ok (.invokevirtual 303, 3) := dk_182 1 47 (dk_at dksX0_hours_0 7 rfl rfl)
theorem dX0_hours_10 : decode cX0_hours 10 = .ok (.lstore 5, 2) := dk_55 5 (dk_at dksX0_hours_0 10 rfl rfl)
theorem dX0_hours_12 : decode cX0_hours 12 = .ok (.lload 5, 2) := dk_22 5 (dk_at dksX0_hours_0 12 rfl rfl)
theorem dX0_hours_14 : decode cX0_hours 14 = .ok (.ldc2_w 298, 3) := dk_20 1 42 (dk_at dksX0_hours_0 14 rfl rfl)
theorem dX0_hours_17 : decode cX0_hours 17 = .ok (.lcmp, 1) := dk_148 (dk_at dksX0_hours_0 17 rfl rfl)
theorem dX0_hours_18 : decode cX0_hours 18 = .ok (.ifCond .ne 7, 3) := dk_154 0 7 (dk_at dksX0_hours_0 18 rfl rfl)
theorem dX0_hours_21 : decode cX0_hours 21 = .ok (.iconst 1, 1) := dk_4 (dk_at dksX0_hours_0 21 rfl rfl)
theorem dX0_hours_22 : decode cX0_hours 22 = .ok (.goto 11, 3) := dk_167 0 11 (dk_at dksX0_hours_1 0 rfl rfl)
theorem dX0_hours_25 : decode cX0_hours 25 = .ok (.lload 5, 2) := dk_22 5 (dk_at dksX0_hours_1 3 rfl rfl)
theorem dX0_hours_27 : decode cX0_hours 27 = .ok (.iconst 0, 1) := dk_3 (dk_at dksX0_hours_1 5 rfl rfl)
theorem dX0_hours_28 : decode cX0_hours 28 = .ok (.bipush 99, 2) := dk_16 99 (dk_at dksX0_hours_1 6 rfl rfl)
theorem dX0_hours_30 : decode cX0_hours 30 = .ok (.invokestatic 306, 3) := dk_184 1 50 (dk_at dksX0_hours_1 8 rfl rfl)
theorem dX0_hours_33 : decode cX0_hours 33 = .ok (.ireturn, 1) := dk_172 (dk_at dksX0_hours_1 11 rfl rfl)
abbrev cX0_isBarred : ByteArray := prog_1_method_42_code
def yX0_isBarred : MethodName := ⟨RX0, "isBarred", "(IIII)Z"⟩
def dkwX0_isBarred_0 : List UInt8 := [42, 5, 27, 28, 29, 21, 4, 182, 1, 47, 20, 1, 42, 148, 153, 0, 7, 4, 167, 0, 4, 3, 172]
abbrev dktX0_isBarred_0 : List UInt8 := dkwX0_isBarred_0 ++ []
theorem dksX0_isBarred_0 : cX0_isBarred.data.toList.drop 0 = dktX0_isBarred_0 := by decide +kernel
theorem dX0_isBarred_0 : decode cX0_isBarred 0 = .ok (.aload_n 0, 1) := dk_42 (dk_at dksX0_isBarred_0 0 rfl rfl)
theorem dX0_isBarred_1 : decode cX0_isBarred 1 = .ok (.iconst 2, 1) := dk_5 (dk_at dksX0_isBarred_0 1 rfl rfl)
theorem dX0_isBarred_2 : decode cX0_isBarred 2 = .ok (.iload_n 1, 1) := dk_27 (dk_at dksX0_isBarred_0 2 rfl rfl)
theorem dX0_isBarred_3 : decode cX0_isBarred 3 = .ok (.iload_n 2, 1) := dk_28 (dk_at dksX0_isBarred_0 3 rfl rfl)
theorem dX0_isBarred_4 : decode cX0_isBarred 4 = .ok (.iload_n 3, 1) := dk_29 (dk_at dksX0_isBarred_0 4 rfl rfl)
theorem dX0_isBarred_5 : decode cX0_isBarred 5 = .ok (.iload 4, 2) := dk_21 4 (dk_at dksX0_isBarred_0 5 rfl rfl)
theorem dX0_isBarred_7 : decode cX0_isBarred 7 = .ok (.invokevirtual 303, 3) := dk_182 1 47 (dk_at dksX0_isBarred_0 7 rfl rfl)
theorem dX0_isBarred_10 : decode cX0_isBarred 10 = .ok (.ldc2_w 298, 3) := dk_20 1 42 (dk_at dksX0_isBarred_0 10 rfl rfl)
theorem dX0_isBarred_13 : decode cX0_isBarred 13 = .ok (.lcmp, 1) := dk_148 (dk_at dksX0_isBarred_0 13 rfl rfl)
theorem dX0_isBarred_14 : decode cX0_isBarred 14 = .ok (.ifCond .eq 7, 3) := dk_153 0 7 (dk_at dksX0_isBarred_0 14 rfl rfl)
theorem dX0_isBarred_17 : decode cX0_isBarred 17 = .ok (.iconst 1, 1) := dk_4 (dk_at dksX0_isBarred_0 17 rfl rfl)
theorem dX0_isBarred_18 : decode cX0_isBarred 18 = .ok (.goto 4, 3) := dk_167 0 4 (dk_at dksX0_isBarred_0 18 rfl rfl)
theorem dX0_isBarred_21 : decode cX0_isBarred 21 = .ok (.iconst 0, 1) := dk_3 (dk_at dksX0_isBarred_0 21 rfl rfl)
theorem dX0_isBarred_22 : decode cX0_isBarred 22 = .ok (.ireturn, 1) := dk_172 (dk_at dksX0_isBarred_0 22 rfl rfl)
abbrev cX0_cue : ByteArray := prog_1_method_44_code
def yX0_cue : MethodName := ⟨RX0, "cue", "(I)I"⟩
def dkwX0_cue_3 : List UInt8 := [182, 0, 164, 172]
abbrev dktX0_cue_3 : List UInt8 := dkwX0_cue_3 ++ []
def dkwX0_cue_2 : List UInt8 := [27, 79, 42, 180, 0, 16, 89, 180, 1, 65, 4, 96, 181, 1, 65, 42, 42, 180, 0, 16, 180, 1, 65]
abbrev dktX0_cue_2 : List UInt8 := dkwX0_cue_2 ++ dktX0_cue_3
def dkwX0_cue_1 : List UInt8 := [160, 0, 10, 42, 16, 251, 182, 0, 157, 172, 42, 180, 0, 16, 180, 1, 68, 42, 180, 0, 16, 180, 1, 65]
abbrev dktX0_cue_1 : List UInt8 := dkwX0_cue_1 ++ dktX0_cue_2
def dkwX0_cue_0 : List UInt8 := [27, 3, 8, 184, 0, 122, 154, 0, 9, 42, 2, 182, 0, 157, 172, 42, 180, 0, 16, 180, 1, 65, 16, 12]
abbrev dktX0_cue_0 : List UInt8 := dkwX0_cue_0 ++ dktX0_cue_1
theorem dksX0_cue_0 : cX0_cue.data.toList.drop 0 = dktX0_cue_0 := by decide +kernel
theorem dksX0_cue_1 : cX0_cue.data.toList.drop 24 = dktX0_cue_1 := dk_seg dksX0_cue_0 24 rfl rfl
theorem dksX0_cue_2 : cX0_cue.data.toList.drop 48 = dktX0_cue_2 := dk_seg dksX0_cue_1 24 rfl rfl
theorem dksX0_cue_3 : cX0_cue.data.toList.drop 71 = dktX0_cue_3 := dk_seg dksX0_cue_2 23 rfl rfl
theorem dX0_cue_0 : decode cX0_cue 0 = .ok (.iload_n 1, 1) := dk_27 (dk_at dksX0_cue_0 0 rfl rfl)
theorem dX0_cue_1 : decode cX0_cue 1 = .ok (.iconst 0, 1) := dk_3 (dk_at dksX0_cue_0 1 rfl rfl)
theorem dX0_cue_2 : decode cX0_cue 2 = .ok (.iconst 5, 1) := dk_8 (dk_at dksX0_cue_0 2 rfl rfl)
theorem dX0_cue_3 : decode cX0_cue 3 = .ok (.invokestatic 122, 3) := dk_184 0 122 (dk_at dksX0_cue_0 3 rfl rfl)
theorem dX0_cue_6 : decode cX0_cue 6 = .ok (.ifCond .ne 9, 3) := dk_154 0 9 (dk_at dksX0_cue_0 6 rfl rfl)
theorem dX0_cue_9 : decode cX0_cue 9 = .ok (.aload_n 0, 1) := dk_42 (dk_at dksX0_cue_0 9 rfl rfl)
theorem dX0_cue_10 : decode cX0_cue 10 = .ok (.iconst (-1), 1) := dk_2 (dk_at dksX0_cue_0 10 rfl rfl)
theorem dX0_cue_11 : decode cX0_cue 11 = .ok (.invokevirtual 157, 3) := dk_182 0 157 (dk_at dksX0_cue_0 11 rfl rfl)
theorem dX0_cue_14 : decode cX0_cue 14 = .ok (.ireturn, 1) := dk_172 (dk_at dksX0_cue_0 14 rfl rfl)
theorem dX0_cue_15 : decode cX0_cue 15 = .ok (.aload_n 0, 1) := dk_42 (dk_at dksX0_cue_0 15 rfl rfl)
theorem dX0_cue_16 : decode cX0_cue 16 = .ok (.getfield 16, 3) := dk_180 0 16 (dk_at dksX0_cue_0 16 rfl rfl)
theorem dX0_cue_19 : decode cX0_cue 19 = .ok (.getfield 321, 3) := dk_180 1 65 (dk_at dksX0_cue_0 19 rfl rfl)
theorem dX0_cue_22 : decode cX0_cue 22 = .ok (.bipush 12, 2) := dk_16 12 (dk_at dksX0_cue_0 22 rfl rfl)
theorem dX0_cue_24 : decode cX0_cue 24 = .ok (.if_icmp .ne 10, 3) := dk_160 0 10 (dk_at dksX0_cue_1 0 rfl rfl)
theorem dX0_cue_27 : decode cX0_cue 27 = .ok (.aload_n 0, 1) := dk_42 (dk_at dksX0_cue_1 3 rfl rfl)
theorem dX0_cue_28 : decode cX0_cue 28 = .ok (.bipush (-5), 2) := dk_16 251 (dk_at dksX0_cue_1 4 rfl rfl)
theorem dX0_cue_30 : decode cX0_cue 30 = .ok (.invokevirtual 157, 3) := dk_182 0 157 (dk_at dksX0_cue_1 6 rfl rfl)
theorem dX0_cue_33 : decode cX0_cue 33 = .ok (.ireturn, 1) := dk_172 (dk_at dksX0_cue_1 9 rfl rfl)
theorem dX0_cue_34 : decode cX0_cue 34 = .ok (.aload_n 0, 1) := dk_42 (dk_at dksX0_cue_1 10 rfl rfl)
theorem dX0_cue_35 : decode cX0_cue 35 = .ok (.getfield 16, 3) := dk_180 0 16 (dk_at dksX0_cue_1 11 rfl rfl)
theorem dX0_cue_38 : decode cX0_cue 38 = .ok (.getfield 324, 3) := dk_180 1 68 (dk_at dksX0_cue_1 14 rfl rfl)
theorem dX0_cue_41 : decode cX0_cue 41 = .ok (.aload_n 0, 1) := dk_42 (dk_at dksX0_cue_1 17 rfl rfl)
theorem dX0_cue_42 : decode cX0_cue 42 = .ok (.getfield 16, 3) := dk_180 0 16 (dk_at dksX0_cue_1 18 rfl rfl)
theorem dX0_cue_45 : decode cX0_cue 45 = .ok (.getfield 321, 3) := dk_180 1 65 (dk_at dksX0_cue_1 21 rfl rfl)
theorem dX0_cue_48 : decode cX0_cue 48 = .ok (.iload_n 1, 1) := dk_27 (dk_at dksX0_cue_2 0 rfl rfl)
theorem dX0_cue_49 : decode cX0_cue 49 = .ok (.iastore, 1) := dk_79 (dk_at dksX0_cue_2 1 rfl rfl)
theorem dX0_cue_50 : decode cX0_cue 50 = .ok (.aload_n 0, 1) := dk_42 (dk_at dksX0_cue_2 2 rfl rfl)
theorem dX0_cue_51 : decode cX0_cue 51 = .ok (.getfield 16, 3) := dk_180 0 16 (dk_at dksX0_cue_2 3 rfl rfl)
theorem dX0_cue_54 : decode cX0_cue 54 = .ok (.dup, 1) := dk_89 (dk_at dksX0_cue_2 6 rfl rfl)
theorem dX0_cue_55 : decode cX0_cue 55 = .ok (.getfield 321, 3) := dk_180 1 65 (dk_at dksX0_cue_2 7 rfl rfl)
theorem dX0_cue_58 : decode cX0_cue 58 = .ok (.iconst 1, 1) := dk_4 (dk_at dksX0_cue_2 10 rfl rfl)
theorem dX0_cue_59 : decode cX0_cue 59 = .ok (.iadd, 1) := dk_96 (dk_at dksX0_cue_2 11 rfl rfl)
theorem dX0_cue_60 : decode cX0_cue 60 = .ok (.putfield 321, 3) := dk_181 1 65 (dk_at dksX0_cue_2 12 rfl rfl)
theorem dX0_cue_63 : decode cX0_cue 63 = .ok (.aload_n 0, 1) := dk_42 (dk_at dksX0_cue_2 15 rfl rfl)
theorem dX0_cue_64 : decode cX0_cue 64 = .ok (.aload_n 0, 1) := dk_42 (dk_at dksX0_cue_2 16 rfl rfl)
theorem dX0_cue_65 : decode cX0_cue 65 = .ok (.getfield 16, 3) := dk_180 0 16 (dk_at dksX0_cue_2 17 rfl rfl)
theorem dX0_cue_68 : decode cX0_cue 68 = .ok (.getfield 321, 3) := dk_180 1 65 (dk_at dksX0_cue_2 20 rfl rfl)
theorem dX0_cue_71 : decode cX0_cue 71 = .ok (.invokevirtual 164, 3) := dk_182 0 164 (dk_at dksX0_cue_3 0 rfl rfl)
theorem dX0_cue_74 : decode cX0_cue 74 = .ok (.ireturn, 1) := dk_172 (dk_at dksX0_cue_3 3 rfl rfl)
abbrev cX0_still : ByteArray := prog_1_method_45_code
def yX0_still : MethodName := ⟨RX0, "still", "()I"⟩
def dkwX0_still_0 : List UInt8 := [42, 180, 0, 16, 180, 1, 65, 60, 42, 180, 0, 16, 3, 181, 1, 65, 27, 172]
abbrev dktX0_still_0 : List UInt8 := dkwX0_still_0 ++ []
theorem dksX0_still_0 : cX0_still.data.toList.drop 0 = dktX0_still_0 := by decide +kernel
theorem dX0_still_0 : decode cX0_still 0 = .ok (.aload_n 0, 1) := dk_42 (dk_at dksX0_still_0 0 rfl rfl)
theorem dX0_still_1 : decode cX0_still 1 = .ok (.getfield 16, 3) := dk_180 0 16 (dk_at dksX0_still_0 1 rfl rfl)
theorem dX0_still_4 : decode cX0_still 4 = .ok (.getfield 321, 3) := dk_180 1 65 (dk_at dksX0_still_0 4 rfl rfl)
theorem dX0_still_7 : decode cX0_still 7 = .ok (.istore_n 1, 1) := dk_60 (dk_at dksX0_still_0 7 rfl rfl)
theorem dX0_still_8 : decode cX0_still 8 = .ok (.aload_n 0, 1) := dk_42 (dk_at dksX0_still_0 8 rfl rfl)
theorem dX0_still_9 : decode cX0_still 9 = .ok (.getfield 16, 3) := dk_180 0 16 (dk_at dksX0_still_0 9 rfl rfl)
theorem dX0_still_12 : decode cX0_still 12 = .ok (.iconst 0, 1) := dk_3 (dk_at dksX0_still_0 12 rfl rfl)
theorem dX0_still_13 : decode cX0_still 13 = .ok (.putfield 321, 3) := dk_181 1 65 (dk_at dksX0_still_0 13 rfl rfl)
theorem dX0_still_16 : decode cX0_still 16 = .ok (.iload_n 1, 1) := dk_27 (dk_at dksX0_still_0 16 rfl rfl)
theorem dX0_still_17 : decode cX0_still 17 = .ok (.ireturn, 1) := dk_172 (dk_at dksX0_still_0 17 rfl rfl)
abbrev cX0_begin : ByteArray := prog_1_method_47_code
def yX0_begin : MethodName := ⟨RX0, "begin", "(II)I"⟩
def dkwX0_begin_4 : List UInt8 := [50, 182, 1, 76, 182, 1, 80, 172]
abbrev dktX0_begin_4 : List UInt8 := dkwX0_begin_4 ++ []
def dkwX0_begin_3 : List UInt8 := [160, 0, 12, 42, 16, 251, 182, 0, 157, 167, 0, 22, 42, 27, 28, 2, 42, 180, 0, 16, 180, 0, 170, 27]
abbrev dktX0_begin_3 : List UInt8 := dkwX0_begin_3 ++ dktX0_begin_4
def dkwX0_begin_2 : List UInt8 := [153, 0, 10, 42, 16, 253, 182, 0, 157, 172, 42, 180, 0, 16, 180, 0, 136, 182, 0, 130, 16, 12]
abbrev dktX0_begin_2 : List UInt8 := dkwX0_begin_2 ++ dktX0_begin_3
def dkwX0_begin_1 : List UInt8 := [28, 42, 182, 0, 229, 182, 1, 74, 153, 0, 17, 42, 28, 27, 2, 42, 182, 0, 229, 182, 1, 61]
abbrev dktX0_begin_1 : List UInt8 := dkwX0_begin_1 ++ dktX0_begin_2
def dkwX0_begin_0 : List UInt8 := [42, 27, 182, 0, 184, 153, 0, 11, 42, 28, 182, 0, 213, 154, 0, 10, 42, 16, 254, 182, 0, 157, 172, 42]
abbrev dktX0_begin_0 : List UInt8 := dkwX0_begin_0 ++ dktX0_begin_1
theorem dksX0_begin_0 : cX0_begin.data.toList.drop 0 = dktX0_begin_0 := by decide +kernel
theorem dksX0_begin_1 : cX0_begin.data.toList.drop 24 = dktX0_begin_1 := dk_seg dksX0_begin_0 24 rfl rfl
theorem dksX0_begin_2 : cX0_begin.data.toList.drop 46 = dktX0_begin_2 := dk_seg dksX0_begin_1 22 rfl rfl
theorem dksX0_begin_3 : cX0_begin.data.toList.drop 68 = dktX0_begin_3 := dk_seg dksX0_begin_2 22 rfl rfl
theorem dksX0_begin_4 : cX0_begin.data.toList.drop 92 = dktX0_begin_4 := dk_seg dksX0_begin_3 24 rfl rfl
theorem dX0_begin_0 : decode cX0_begin 0 = .ok (.aload_n 0, 1) := dk_42 (dk_at dksX0_begin_0 0 rfl rfl)
theorem dX0_begin_1 : decode cX0_begin 1 = .ok (.iload_n 1, 1) := dk_27 (dk_at dksX0_begin_0 1 rfl rfl)
theorem dX0_begin_2 : decode cX0_begin 2 = .ok (.invokevirtual 184, 3) := dk_182 0 184 (dk_at dksX0_begin_0 2 rfl rfl)
theorem dX0_begin_5 : decode cX0_begin 5 = .ok (.ifCond .eq 11, 3) := dk_153 0 11 (dk_at dksX0_begin_0 5 rfl rfl)
theorem dX0_begin_8 : decode cX0_begin 8 = .ok (.aload_n 0, 1) := dk_42 (dk_at dksX0_begin_0 8 rfl rfl)
theorem dX0_begin_9 : decode cX0_begin 9 = .ok (.iload_n 2, 1) := dk_28 (dk_at dksX0_begin_0 9 rfl rfl)
theorem dX0_begin_10 : decode cX0_begin 10 = .ok (.invokevirtual 213, 3) := dk_182 0 213 (dk_at dksX0_begin_0 10 rfl rfl)
theorem dX0_begin_13 : decode cX0_begin 13 = .ok (.ifCond .ne 10, 3) := dk_154 0 10 (dk_at dksX0_begin_0 13 rfl rfl)
theorem dX0_begin_16 : decode cX0_begin 16 = .ok (.aload_n 0, 1) := dk_42 (dk_at dksX0_begin_0 16 rfl rfl)
theorem dX0_begin_17 : decode cX0_begin 17 = .ok (.bipush (-2), 2) := dk_16 254 (dk_at dksX0_begin_0 17 rfl rfl)
theorem dX0_begin_19 : decode cX0_begin 19 = .ok (.invokevirtual 157, 3) := dk_182 0 157 (dk_at dksX0_begin_0 19 rfl rfl)
theorem dX0_begin_22 : decode cX0_begin 22 = .ok (.ireturn, 1) := dk_172 (dk_at dksX0_begin_0 22 rfl rfl)
theorem dX0_begin_23 : decode cX0_begin 23 = .ok (.aload_n 0, 1) := dk_42 (dk_at dksX0_begin_0 23 rfl rfl)
theorem dX0_begin_24 : decode cX0_begin 24 = .ok (.iload_n 2, 1) := dk_28 (dk_at dksX0_begin_1 0 rfl rfl)
theorem dX0_begin_25 : decode cX0_begin 25 = .ok (.aload_n 0, 1) := dk_42 (dk_at dksX0_begin_1 1 rfl rfl)
theorem dX0_begin_26 : decode cX0_begin 26 = .ok (.invokevirtual 229, 3) := dk_182 0 229 (dk_at dksX0_begin_1 2 rfl rfl)
theorem dX0_begin_29 : decode cX0_begin 29 = .ok (.invokevirtual 330, 3) := dk_182 1 74 (dk_at dksX0_begin_1 5 rfl rfl)
theorem dX0_begin_32 : decode cX0_begin 32 = .ok (.ifCond .eq 17, 3) := dk_153 0 17 (dk_at dksX0_begin_1 8 rfl rfl)
theorem dX0_begin_35 : decode cX0_begin 35 = .ok (.aload_n 0, 1) := dk_42 (dk_at dksX0_begin_1 11 rfl rfl)
theorem dX0_begin_36 : decode cX0_begin 36 = .ok (.iload_n 2, 1) := dk_28 (dk_at dksX0_begin_1 12 rfl rfl)
theorem dX0_begin_37 : decode cX0_begin 37 = .ok (.iload_n 1, 1) := dk_27 (dk_at dksX0_begin_1 13 rfl rfl)
theorem dX0_begin_38 : decode cX0_begin 38 = .ok (.iconst (-1), 1) := dk_2 (dk_at dksX0_begin_1 14 rfl rfl)
theorem dX0_begin_39 : decode cX0_begin 39 = .ok (.aload_n 0, 1) := dk_42 (dk_at dksX0_begin_1 15 rfl rfl)
theorem dX0_begin_40 : decode cX0_begin 40 = .ok (.invokevirtual 229, 3) := dk_182 0 229 (dk_at dksX0_begin_1 16 rfl rfl)
theorem dX0_begin_43 : decode cX0_begin 43 = .ok (.invokevirtual 317, 3) := dk_182 1 61 (dk_at dksX0_begin_1 19 rfl rfl)
theorem dX0_begin_46 : decode cX0_begin 46 = .ok (.ifCond .eq 10, 3) := dk_153 0 10 (dk_at dksX0_begin_2 0 rfl rfl)
theorem dX0_begin_49 : decode cX0_begin 49 = .ok (.aload_n 0, 1) := dk_42 (dk_at dksX0_begin_2 3 rfl rfl)
theorem dX0_begin_50 : decode cX0_begin 50 = .ok (.bipush (-3), 2) := dk_16 253 (dk_at dksX0_begin_2 4 rfl rfl)
theorem dX0_begin_52 : decode cX0_begin 52 = .ok (.invokevirtual 157, 3) := dk_182 0 157 (dk_at dksX0_begin_2 6 rfl rfl)
theorem dX0_begin_55 : decode cX0_begin 55 = .ok (.ireturn, 1) := dk_172 (dk_at dksX0_begin_2 9 rfl rfl)
theorem dX0_begin_56 : decode cX0_begin 56 = .ok (.aload_n 0, 1) := dk_42 (dk_at dksX0_begin_2 10 rfl rfl)
theorem dX0_begin_57 : decode cX0_begin 57 = .ok (.getfield 16, 3) := dk_180 0 16 (dk_at dksX0_begin_2 11 rfl rfl)
theorem dX0_begin_60 : decode cX0_begin 60 = .ok (.getfield 136, 3) := dk_180 0 136 (dk_at dksX0_begin_2 14 rfl rfl)
theorem dX0_begin_63 : decode cX0_begin 63 = .ok (.invokevirtual 130, 3) := dk_182 0 130 (dk_at dksX0_begin_2 17 rfl rfl)
theorem dX0_begin_66 : decode cX0_begin 66 = .ok (.bipush 12, 2) := dk_16 12 (dk_at dksX0_begin_2 20 rfl rfl)
theorem dX0_begin_68 : decode cX0_begin 68 = .ok (.if_icmp .ne 12, 3) := dk_160 0 12 (dk_at dksX0_begin_3 0 rfl rfl)
theorem dX0_begin_71 : decode cX0_begin 71 = .ok (.aload_n 0, 1) := dk_42 (dk_at dksX0_begin_3 3 rfl rfl)
theorem dX0_begin_72 : decode cX0_begin 72 = .ok (.bipush (-5), 2) := dk_16 251 (dk_at dksX0_begin_3 4 rfl rfl)
theorem dX0_begin_74 : decode cX0_begin 74 = .ok (.invokevirtual 157, 3) := dk_182 0 157 (dk_at dksX0_begin_3 6 rfl rfl)
theorem dX0_begin_77 : decode cX0_begin 77 = .ok (.goto 22, 3) := dk_167 0 22 (dk_at dksX0_begin_3 9 rfl rfl)
theorem dX0_begin_80 : decode cX0_begin 80 = .ok (.aload_n 0, 1) := dk_42 (dk_at dksX0_begin_3 12 rfl rfl)
theorem dX0_begin_81 : decode cX0_begin 81 = .ok (.iload_n 1, 1) := dk_27 (dk_at dksX0_begin_3 13 rfl rfl)
theorem dX0_begin_82 : decode cX0_begin 82 = .ok (.iload_n 2, 1) := dk_28 (dk_at dksX0_begin_3 14 rfl rfl)
theorem dX0_begin_83 : decode cX0_begin 83 = .ok (.iconst (-1), 1) := dk_2 (dk_at dksX0_begin_3 15 rfl rfl)
theorem dX0_begin_84 : decode cX0_begin 84 = .ok (.aload_n 0, 1) := dk_42 (dk_at dksX0_begin_3 16 rfl rfl)
theorem dX0_begin_85 : decode cX0_begin 85 = .ok (.getfield 16, 3) := dk_180 0 16 (dk_at dksX0_begin_3 17 rfl rfl)
theorem dX0_begin_88 : decode cX0_begin 88 = .ok (.getfield 170, 3) := dk_180 0 170 (dk_at dksX0_begin_3 20 rfl rfl)
theorem dX0_begin_91 : decode cX0_begin 91 = .ok (.iload_n 1, 1) := dk_27 (dk_at dksX0_begin_3 23 rfl rfl)
theorem dX0_begin_92 : decode cX0_begin 92 = .ok (.aaload, 1) := dk_50 (dk_at dksX0_begin_4 0 rfl rfl)
theorem dX0_begin_93 : decode cX0_begin 93 = .ok (.invokevirtual 332, 3) := dk_182 1 76 (dk_at dksX0_begin_4 1 rfl rfl)
theorem dX0_begin_96 : decode cX0_begin 96 = .ok (.invokevirtual 336, 3) := dk_182 1 80 (dk_at dksX0_begin_4 4 rfl rfl)
theorem dX0_begin_99 : decode cX0_begin 99 = .ok (.ireturn, 1) := dk_172 (dk_at dksX0_begin_4 7 rfl rfl)
abbrev cX0_isAlive : ByteArray := prog_1_method_14_code
def yX0_isAlive : MethodName := ⟨RX0, "isAlive", "(II)Z"⟩
def dkwX0_isAlive_0 : List UInt8 := [42, 180, 0, 16, 180, 0, 126, 27, 182, 0, 139, 192, 0, 148, 28, 182, 0, 150, 172]
abbrev dktX0_isAlive_0 : List UInt8 := dkwX0_isAlive_0 ++ []
theorem dksX0_isAlive_0 : cX0_isAlive.data.toList.drop 0 = dktX0_isAlive_0 := by decide +kernel
theorem dX0_isAlive_0 : decode cX0_isAlive 0 = .ok (.aload_n 0, 1) := dk_42 (dk_at dksX0_isAlive_0 0 rfl rfl)
theorem dX0_isAlive_1 : decode cX0_isAlive 1 = .ok (.getfield 16, 3) := dk_180 0 16 (dk_at dksX0_isAlive_0 1 rfl rfl)
theorem dX0_isAlive_4 : decode cX0_isAlive 4 = .ok (.getfield 126, 3) := dk_180 0 126 (dk_at dksX0_isAlive_0 4 rfl rfl)
theorem dX0_isAlive_7 : decode cX0_isAlive 7 = .ok (.iload_n 1, 1) := dk_27 (dk_at dksX0_isAlive_0 7 rfl rfl)
theorem dX0_isAlive_8 : decode cX0_isAlive 8 = .ok (.invokevirtual 139, 3) := dk_182 0 139 (dk_at dksX0_isAlive_0 8 rfl rfl)
theorem dX0_isAlive_11 : decode cX0_isAlive 11 = .ok (.checkcast 148, 3) := dk_192 0 148 (dk_at dksX0_isAlive_0 11 rfl rfl)
theorem dX0_isAlive_14 : decode cX0_isAlive 14 = .ok (.iload_n 2, 1) := dk_28 (dk_at dksX0_isAlive_0 14 rfl rfl)
theorem dX0_isAlive_15 : decode cX0_isAlive 15 = .ok (.invokevirtual 150, 3) := dk_182 0 150 (dk_at dksX0_isAlive_0 15 rfl rfl)
theorem dX0_isAlive_18 : decode cX0_isAlive 18 = .ok (.ireturn, 1) := dk_172 (dk_at dksX0_isAlive_0 18 rfl rfl)
abbrev cX0_adds : ByteArray := prog_1_method_46_code
def yX0_adds : MethodName := ⟨RX0, "adds", "(IIILDeadUnderstudies$Script;)I"⟩
def dkwX0_adds_1 : List UInt8 := [42, 180, 0, 16, 180, 0, 136, 182, 0, 130, 4, 100, 182, 0, 164, 172]
abbrev dktX0_adds_1 : List UInt8 := dkwX0_adds_1 ++ []
def dkwX0_adds_0 : List UInt8 := [42, 180, 0, 16, 180, 0, 136, 187, 0, 143, 89, 27, 28, 29, 25, 4, 183, 1, 71, 182, 0, 209, 87, 42]
abbrev dktX0_adds_0 : List UInt8 := dkwX0_adds_0 ++ dktX0_adds_1
theorem dksX0_adds_0 : cX0_adds.data.toList.drop 0 = dktX0_adds_0 := by decide +kernel
theorem dksX0_adds_1 : cX0_adds.data.toList.drop 24 = dktX0_adds_1 := dk_seg dksX0_adds_0 24 rfl rfl
theorem dX0_adds_0 : decode cX0_adds 0 = .ok (.aload_n 0, 1) := dk_42 (dk_at dksX0_adds_0 0 rfl rfl)
theorem dX0_adds_1 : decode cX0_adds 1 = .ok (.getfield 16, 3) := dk_180 0 16 (dk_at dksX0_adds_0 1 rfl rfl)
theorem dX0_adds_4 : decode cX0_adds 4 = .ok (.getfield 136, 3) := dk_180 0 136 (dk_at dksX0_adds_0 4 rfl rfl)
theorem dX0_adds_7 : decode cX0_adds 7 = .ok (.new 143, 3) := dk_187 0 143 (dk_at dksX0_adds_0 7 rfl rfl)
theorem dX0_adds_10 : decode cX0_adds 10 = .ok (.dup, 1) := dk_89 (dk_at dksX0_adds_0 10 rfl rfl)
theorem dX0_adds_11 : decode cX0_adds 11 = .ok (.iload_n 1, 1) := dk_27 (dk_at dksX0_adds_0 11 rfl rfl)
theorem dX0_adds_12 : decode cX0_adds 12 = .ok (.iload_n 2, 1) := dk_28 (dk_at dksX0_adds_0 12 rfl rfl)
theorem dX0_adds_13 : decode cX0_adds 13 = .ok (.iload_n 3, 1) := dk_29 (dk_at dksX0_adds_0 13 rfl rfl)
theorem dX0_adds_14 : decode cX0_adds 14 = .ok (.aload 4, 2) := dk_25 4 (dk_at dksX0_adds_0 14 rfl rfl)
theorem dX0_adds_16 : decode cX0_adds 16 = .ok (.invokespecial 327, 3) := dk_183 1 71 (dk_at dksX0_adds_0 16 rfl rfl)
theorem dX0_adds_19 : decode cX0_adds 19 = .ok (.invokevirtual 209, 3) := dk_182 0 209 (dk_at dksX0_adds_0 19 rfl rfl)
theorem dX0_adds_22 : decode cX0_adds 22 = .ok (.pop, 1) := dk_87 (dk_at dksX0_adds_0 22 rfl rfl)
theorem dX0_adds_23 : decode cX0_adds 23 = .ok (.aload_n 0, 1) := dk_42 (dk_at dksX0_adds_0 23 rfl rfl)
theorem dX0_adds_24 : decode cX0_adds 24 = .ok (.aload_n 0, 1) := dk_42 (dk_at dksX0_adds_1 0 rfl rfl)
theorem dX0_adds_25 : decode cX0_adds 25 = .ok (.getfield 16, 3) := dk_180 0 16 (dk_at dksX0_adds_1 1 rfl rfl)
theorem dX0_adds_28 : decode cX0_adds 28 = .ok (.getfield 136, 3) := dk_180 0 136 (dk_at dksX0_adds_1 4 rfl rfl)
theorem dX0_adds_31 : decode cX0_adds 31 = .ok (.invokevirtual 130, 3) := dk_182 0 130 (dk_at dksX0_adds_1 7 rfl rfl)
theorem dX0_adds_34 : decode cX0_adds 34 = .ok (.iconst 1, 1) := dk_4 (dk_at dksX0_adds_1 10 rfl rfl)
theorem dX0_adds_35 : decode cX0_adds 35 = .ok (.isub, 1) := dk_100 (dk_at dksX0_adds_1 11 rfl rfl)
theorem dX0_adds_36 : decode cX0_adds 36 = .ok (.invokevirtual 164, 3) := dk_182 0 164 (dk_at dksX0_adds_1 12 rfl rfl)
theorem dX0_adds_39 : decode cX0_adds 39 = .ok (.ireturn, 1) := dk_172 (dk_at dksX0_adds_1 15 rfl rfl)
abbrev cX0_learn : ByteArray := prog_1_method_49_code
def yX0_learn : MethodName := ⟨RX0, "learn", "(III)I"⟩
def dkwX0_learn_4 : List UInt8 := [180, 0, 204, 28, 27, 42, 25, 4, 180, 0, 145, 29, 182, 1, 98, 182, 1, 80, 172]
abbrev dktX0_learn_4 : List UInt8 := dkwX0_learn_4 ++ []
def dkwX0_learn_3 : List UInt8 := [180, 0, 136, 182, 0, 130, 16, 12, 160, 0, 12, 42, 16, 251, 182, 0, 157, 167, 0, 24, 42, 25, 4]
abbrev dktX0_learn_3 : List UInt8 := dkwX0_learn_3 ++ dktX0_learn_4
def dkwX0_learn_2 : List UInt8 := [58, 4, 42, 25, 4, 28, 182, 1, 94, 154, 0, 10, 42, 16, 253, 182, 0, 157, 172, 42, 180, 0, 16]
abbrev dktX0_learn_2 : List UInt8 := dkwX0_learn_2 ++ dktX0_learn_3
def dkwX0_learn_1 : List UInt8 := [154, 0, 10, 42, 16, 254, 182, 0, 157, 172, 42, 180, 0, 16, 180, 0, 136, 27, 182, 0, 139, 192, 0, 143]
abbrev dktX0_learn_1 : List UInt8 := dkwX0_learn_1 ++ dktX0_learn_2
def dkwX0_learn_0 : List UInt8 := [29, 2, 162, 0, 9, 42, 2, 182, 0, 157, 172, 42, 27, 182, 1, 91, 153, 0, 11, 42, 28, 182, 0, 213]
abbrev dktX0_learn_0 : List UInt8 := dkwX0_learn_0 ++ dktX0_learn_1
theorem dksX0_learn_0 : cX0_learn.data.toList.drop 0 = dktX0_learn_0 := by decide +kernel
theorem dksX0_learn_1 : cX0_learn.data.toList.drop 24 = dktX0_learn_1 := dk_seg dksX0_learn_0 24 rfl rfl
theorem dksX0_learn_2 : cX0_learn.data.toList.drop 48 = dktX0_learn_2 := dk_seg dksX0_learn_1 24 rfl rfl
theorem dksX0_learn_3 : cX0_learn.data.toList.drop 71 = dktX0_learn_3 := dk_seg dksX0_learn_2 23 rfl rfl
theorem dksX0_learn_4 : cX0_learn.data.toList.drop 94 = dktX0_learn_4 := dk_seg dksX0_learn_3 23 rfl rfl
theorem dX0_learn_0 : decode cX0_learn 0 = .ok (.iload_n 3, 1) := dk_29 (dk_at dksX0_learn_0 0 rfl rfl)
theorem dX0_learn_1 : decode cX0_learn 1 = .ok (.iconst (-1), 1) := dk_2 (dk_at dksX0_learn_0 1 rfl rfl)
theorem dX0_learn_2 : decode cX0_learn 2 = .ok (.if_icmp .ge 9, 3) := dk_162 0 9 (dk_at dksX0_learn_0 2 rfl rfl)
theorem dX0_learn_5 : decode cX0_learn 5 = .ok (.aload_n 0, 1) := dk_42 (dk_at dksX0_learn_0 5 rfl rfl)
theorem dX0_learn_6 : decode cX0_learn 6 = .ok (.iconst (-1), 1) := dk_2 (dk_at dksX0_learn_0 6 rfl rfl)
theorem dX0_learn_7 : decode cX0_learn 7 = .ok (.invokevirtual 157, 3) := dk_182 0 157 (dk_at dksX0_learn_0 7 rfl rfl)
theorem dX0_learn_10 : decode cX0_learn 10 = .ok (.ireturn, 1) := dk_172 (dk_at dksX0_learn_0 10 rfl rfl)
theorem dX0_learn_11 : decode cX0_learn 11 = .ok (.aload_n 0, 1) := dk_42 (dk_at dksX0_learn_0 11 rfl rfl)
theorem dX0_learn_12 : decode cX0_learn 12 = .ok (.iload_n 1, 1) := dk_27 (dk_at dksX0_learn_0 12 rfl rfl)
theorem dX0_learn_13 : decode cX0_learn 13 = .ok (.invokevirtual 347, 3) := dk_182 1 91 (dk_at dksX0_learn_0 13 rfl rfl)
theorem dX0_learn_16 : decode cX0_learn 16 = .ok (.ifCond .eq 11, 3) := dk_153 0 11 (dk_at dksX0_learn_0 16 rfl rfl)
theorem dX0_learn_19 : decode cX0_learn 19 = .ok (.aload_n 0, 1) := dk_42 (dk_at dksX0_learn_0 19 rfl rfl)
theorem dX0_learn_20 : decode cX0_learn 20 = .ok (.iload_n 2, 1) := dk_28 (dk_at dksX0_learn_0 20 rfl rfl)
theorem dX0_learn_21 : decode cX0_learn 21 = .ok (.invokevirtual 213, 3) := dk_182 0 213 (dk_at dksX0_learn_0 21 rfl rfl)
theorem dX0_learn_24 : decode cX0_learn 24 = .ok (.ifCond .ne 10, 3) := dk_154 0 10 (dk_at dksX0_learn_1 0 rfl rfl)
theorem dX0_learn_27 : decode cX0_learn 27 = .ok (.aload_n 0, 1) := dk_42 (dk_at dksX0_learn_1 3 rfl rfl)
theorem dX0_learn_28 : decode cX0_learn 28 = .ok (.bipush (-2), 2) := dk_16 254 (dk_at dksX0_learn_1 4 rfl rfl)
theorem dX0_learn_30 : decode cX0_learn 30 = .ok (.invokevirtual 157, 3) := dk_182 0 157 (dk_at dksX0_learn_1 6 rfl rfl)
theorem dX0_learn_33 : decode cX0_learn 33 = .ok (.ireturn, 1) := dk_172 (dk_at dksX0_learn_1 9 rfl rfl)
theorem dX0_learn_34 : decode cX0_learn 34 = .ok (.aload_n 0, 1) := dk_42 (dk_at dksX0_learn_1 10 rfl rfl)
theorem dX0_learn_35 : decode cX0_learn 35 = .ok (.getfield 16, 3) := dk_180 0 16 (dk_at dksX0_learn_1 11 rfl rfl)
theorem dX0_learn_38 : decode cX0_learn 38 = .ok (.getfield 136, 3) := dk_180 0 136 (dk_at dksX0_learn_1 14 rfl rfl)
theorem dX0_learn_41 : decode cX0_learn 41 = .ok (.iload_n 1, 1) := dk_27 (dk_at dksX0_learn_1 17 rfl rfl)
theorem dX0_learn_42 : decode cX0_learn 42 = .ok (.invokevirtual 139, 3) := dk_182 0 139 (dk_at dksX0_learn_1 18 rfl rfl)
theorem dX0_learn_45 : decode cX0_learn 45 = .ok (.checkcast 143, 3) := dk_192 0 143 (dk_at dksX0_learn_1 21 rfl rfl)
theorem dX0_learn_48 : decode cX0_learn 48 = .ok (.astore 4, 2) := dk_58 4 (dk_at dksX0_learn_2 0 rfl rfl)
theorem dX0_learn_50 : decode cX0_learn 50 = .ok (.aload_n 0, 1) := dk_42 (dk_at dksX0_learn_2 2 rfl rfl)
theorem dX0_learn_51 : decode cX0_learn 51 = .ok (.aload 4, 2) := dk_25 4 (dk_at dksX0_learn_2 3 rfl rfl)
theorem dX0_learn_53 : decode cX0_learn 53 = .ok (.iload_n 2, 1) := dk_28 (dk_at dksX0_learn_2 5 rfl rfl)
theorem dX0_learn_54 : decode cX0_learn 54 = .ok (.invokevirtual 350, 3) := dk_182 1 94 (dk_at dksX0_learn_2 6 rfl rfl)
theorem dX0_learn_57 : decode cX0_learn 57 = .ok (.ifCond .ne 10, 3) := dk_154 0 10 (dk_at dksX0_learn_2 9 rfl rfl)
theorem dX0_learn_60 : decode cX0_learn 60 = .ok (.aload_n 0, 1) := dk_42 (dk_at dksX0_learn_2 12 rfl rfl)
theorem dX0_learn_61 : decode cX0_learn 61 = .ok (.bipush (-3), 2) := dk_16 253 (dk_at dksX0_learn_2 13 rfl rfl)
theorem dX0_learn_63 : decode cX0_learn 63 = .ok (.invokevirtual 157, 3) := dk_182 0 157 (dk_at dksX0_learn_2 15 rfl rfl)
theorem dX0_learn_66 : decode cX0_learn 66 = .ok (.ireturn, 1) := dk_172 (dk_at dksX0_learn_2 18 rfl rfl)
theorem dX0_learn_67 : decode cX0_learn 67 = .ok (.aload_n 0, 1) := dk_42 (dk_at dksX0_learn_2 19 rfl rfl)
theorem dX0_learn_68 : decode cX0_learn 68 = .ok (.getfield 16, 3) := dk_180 0 16 (dk_at dksX0_learn_2 20 rfl rfl)
theorem dX0_learn_71 : decode cX0_learn 71 = .ok (.getfield 136, 3) := dk_180 0 136 (dk_at dksX0_learn_3 0 rfl rfl)
theorem dX0_learn_74 : decode cX0_learn 74 = .ok (.invokevirtual 130, 3) := dk_182 0 130 (dk_at dksX0_learn_3 3 rfl rfl)
theorem dX0_learn_77 : decode cX0_learn 77 = .ok (.bipush 12, 2) := dk_16 12 (dk_at dksX0_learn_3 6 rfl rfl)
theorem dX0_learn_79 : decode cX0_learn 79 = .ok (.if_icmp .ne 12, 3) := dk_160 0 12 (dk_at dksX0_learn_3 8 rfl rfl)
theorem dX0_learn_82 : decode cX0_learn 82 = .ok (.aload_n 0, 1) := dk_42 (dk_at dksX0_learn_3 11 rfl rfl)
theorem dX0_learn_83 : decode cX0_learn 83 = .ok (.bipush (-5), 2) := dk_16 251 (dk_at dksX0_learn_3 12 rfl rfl)
theorem dX0_learn_85 : decode cX0_learn 85 = .ok (.invokevirtual 157, 3) := dk_182 0 157 (dk_at dksX0_learn_3 14 rfl rfl)
theorem dX0_learn_88 : decode cX0_learn 88 = .ok (.goto 24, 3) := dk_167 0 24 (dk_at dksX0_learn_3 17 rfl rfl)
theorem dX0_learn_91 : decode cX0_learn 91 = .ok (.aload_n 0, 1) := dk_42 (dk_at dksX0_learn_3 20 rfl rfl)
theorem dX0_learn_92 : decode cX0_learn 92 = .ok (.aload 4, 2) := dk_25 4 (dk_at dksX0_learn_3 21 rfl rfl)
theorem dX0_learn_94 : decode cX0_learn 94 = .ok (.getfield 204, 3) := dk_180 0 204 (dk_at dksX0_learn_4 0 rfl rfl)
theorem dX0_learn_97 : decode cX0_learn 97 = .ok (.iload_n 2, 1) := dk_28 (dk_at dksX0_learn_4 3 rfl rfl)
theorem dX0_learn_98 : decode cX0_learn 98 = .ok (.iload_n 1, 1) := dk_27 (dk_at dksX0_learn_4 4 rfl rfl)
theorem dX0_learn_99 : decode cX0_learn 99 = .ok (.aload_n 0, 1) := dk_42 (dk_at dksX0_learn_4 5 rfl rfl)
theorem dX0_learn_100 : decode cX0_learn 100 = .ok (.aload 4, 2) := dk_25 4 (dk_at dksX0_learn_4 6 rfl rfl)
theorem dX0_learn_102 : decode cX0_learn 102 = .ok (.getfield 145, 3) := dk_180 0 145 (dk_at dksX0_learn_4 8 rfl rfl)
theorem dX0_learn_105 : decode cX0_learn 105 = .ok (.iload_n 3, 1) := dk_29 (dk_at dksX0_learn_4 11 rfl rfl)
theorem dX0_learn_106 : decode cX0_learn 106 = .ok (.invokevirtual 354, 3) := dk_182 1 98 (dk_at dksX0_learn_4 12 rfl rfl)
theorem dX0_learn_109 : decode cX0_learn 109 = .ok (.invokevirtual 336, 3) := dk_182 1 80 (dk_at dksX0_learn_4 15 rfl rfl)
theorem dX0_learn_112 : decode cX0_learn 112 = .ok (.ireturn, 1) := dk_172 (dk_at dksX0_learn_4 18 rfl rfl)
abbrev cX0_isVersion : ByteArray := prog_1_method_10_code
def yX0_isVersion : MethodName := ⟨RX0, "isVersion", "(I)Z"⟩
def dkwX0_isVersion_0 : List UInt8 := [27, 3, 42, 180, 0, 16, 180, 0, 136, 182, 0, 130, 4, 100, 184, 0, 122, 172]
abbrev dktX0_isVersion_0 : List UInt8 := dkwX0_isVersion_0 ++ []
theorem dksX0_isVersion_0 : cX0_isVersion.data.toList.drop 0 = dktX0_isVersion_0 := by decide +kernel
theorem dX0_isVersion_0 : decode cX0_isVersion 0 = .ok (.iload_n 1, 1) := dk_27 (dk_at dksX0_isVersion_0 0 rfl rfl)
theorem dX0_isVersion_1 : decode cX0_isVersion 1 = .ok (.iconst 0, 1) := dk_3 (dk_at dksX0_isVersion_0 1 rfl rfl)
theorem dX0_isVersion_2 : decode cX0_isVersion 2 = .ok (.aload_n 0, 1) := dk_42 (dk_at dksX0_isVersion_0 2 rfl rfl)
theorem dX0_isVersion_3 : decode cX0_isVersion 3 = .ok (.getfield 16, 3) := dk_180 0 16 (dk_at dksX0_isVersion_0 3 rfl rfl)
theorem dX0_isVersion_6 : decode cX0_isVersion 6 = .ok (.getfield 136, 3) := dk_180 0 136 (dk_at dksX0_isVersion_0 6 rfl rfl)
theorem dX0_isVersion_9 : decode cX0_isVersion 9 = .ok (.invokevirtual 130, 3) := dk_182 0 130 (dk_at dksX0_isVersion_0 9 rfl rfl)
theorem dX0_isVersion_12 : decode cX0_isVersion 12 = .ok (.iconst 1, 1) := dk_4 (dk_at dksX0_isVersion_0 12 rfl rfl)
theorem dX0_isVersion_13 : decode cX0_isVersion 13 = .ok (.isub, 1) := dk_100 (dk_at dksX0_isVersion_0 13 rfl rfl)
theorem dX0_isVersion_14 : decode cX0_isVersion 14 = .ok (.invokestatic 122, 3) := dk_184 0 122 (dk_at dksX0_isVersion_0 14 rfl rfl)
theorem dX0_isVersion_17 : decode cX0_isVersion 17 = .ok (.ireturn, 1) := dk_172 (dk_at dksX0_isVersion_0 17 rfl rfl)
abbrev cX0_canLearn : ByteArray := prog_1_method_48_code
def yX0_canLearn : MethodName := ⟨RX0, "canLearn", "(LDeadUnderstudies$Version;I)Z"⟩
def dkwX0_canLearn_5 : List UInt8 := [172]
abbrev dktX0_canLearn_5 : List UInt8 := dkwX0_canLearn_5 ++ []
def dkwX0_canLearn_4 : List UInt8 := [28, 43, 180, 0, 204, 43, 180, 1, 84, 42, 182, 0, 229, 182, 1, 58, 161, 0, 7, 4, 167, 0, 4, 3]
abbrev dktX0_canLearn_4 : List UInt8 := dkwX0_canLearn_4 ++ dktX0_canLearn_5
def dkwX0_canLearn_3 : List UInt8 := [182, 0, 139, 192, 0, 148, 42, 180, 0, 16, 180, 0, 126, 28, 182, 0, 139, 192, 0, 148, 182, 1, 87, 42]
abbrev dktX0_canLearn_3 : List UInt8 := dkwX0_canLearn_3 ++ dktX0_canLearn_4
def dkwX0_canLearn_2 : List UInt8 := [182, 0, 229, 182, 1, 61, 153, 0, 5, 3, 172, 42, 180, 0, 16, 180, 0, 126, 43, 180, 1, 84]
abbrev dktX0_canLearn_2 : List UInt8 := dkwX0_canLearn_2 ++ dktX0_canLearn_3
def dkwX0_canLearn_1 : List UInt8 := [28, 42, 182, 0, 229, 182, 1, 74, 153, 0, 23, 42, 28, 43, 180, 0, 204, 43, 180, 1, 84, 42]
abbrev dktX0_canLearn_1 : List UInt8 := dkwX0_canLearn_1 ++ dktX0_canLearn_2
def dkwX0_canLearn_0 : List UInt8 := [43, 180, 1, 84, 28, 159, 0, 50, 42, 43, 180, 1, 84, 42, 182, 0, 229, 182, 1, 74, 153, 0, 35, 42]
abbrev dktX0_canLearn_0 : List UInt8 := dkwX0_canLearn_0 ++ dktX0_canLearn_1
theorem dksX0_canLearn_0 : cX0_canLearn.data.toList.drop 0 = dktX0_canLearn_0 := by decide +kernel
theorem dksX0_canLearn_1 : cX0_canLearn.data.toList.drop 24 = dktX0_canLearn_1 := dk_seg dksX0_canLearn_0 24 rfl rfl
theorem dksX0_canLearn_2 : cX0_canLearn.data.toList.drop 46 = dktX0_canLearn_2 := dk_seg dksX0_canLearn_1 22 rfl rfl
theorem dksX0_canLearn_3 : cX0_canLearn.data.toList.drop 68 = dktX0_canLearn_3 := dk_seg dksX0_canLearn_2 22 rfl rfl
theorem dksX0_canLearn_4 : cX0_canLearn.data.toList.drop 92 = dktX0_canLearn_4 := dk_seg dksX0_canLearn_3 24 rfl rfl
theorem dksX0_canLearn_5 : cX0_canLearn.data.toList.drop 116 = dktX0_canLearn_5 := dk_seg dksX0_canLearn_4 24 rfl rfl
theorem dX0_canLearn_0 : decode cX0_canLearn 0 = .ok (.aload_n 1, 1) := dk_43 (dk_at dksX0_canLearn_0 0 rfl rfl)
theorem dX0_canLearn_1 : decode cX0_canLearn 1 = .ok (.getfield 340, 3) := dk_180 1 84 (dk_at dksX0_canLearn_0 1 rfl rfl)
theorem dX0_canLearn_4 : decode cX0_canLearn 4 = .ok (.iload_n 2, 1) := dk_28 (dk_at dksX0_canLearn_0 4 rfl rfl)
theorem dX0_canLearn_5 : decode cX0_canLearn 5 = .ok (.if_icmp .eq 50, 3) := dk_159 0 50 (dk_at dksX0_canLearn_0 5 rfl rfl)
theorem dX0_canLearn_8 : decode cX0_canLearn 8 = .ok (.aload_n 0, 1) := dk_42 (dk_at dksX0_canLearn_0 8 rfl rfl)
theorem dX0_canLearn_9 : decode cX0_canLearn 9 = .ok (.aload_n 1, 1) := dk_43 (dk_at dksX0_canLearn_0 9 rfl rfl)
theorem dX0_canLearn_10 : decode cX0_canLearn 10 = .ok (.getfield 340, 3) := dk_180 1 84 (dk_at dksX0_canLearn_0 10 rfl rfl)
theorem dX0_canLearn_13 : decode cX0_canLearn 13 = .ok (.aload_n 0, 1) := dk_42 (dk_at dksX0_canLearn_0 13 rfl rfl)
theorem dX0_canLearn_14 : decode cX0_canLearn 14 = .ok (.invokevirtual 229, 3) := dk_182 0 229 (dk_at dksX0_canLearn_0 14 rfl rfl)
theorem dX0_canLearn_17 : decode cX0_canLearn 17 = .ok (.invokevirtual 330, 3) := dk_182 1 74 (dk_at dksX0_canLearn_0 17 rfl rfl)
theorem dX0_canLearn_20 : decode cX0_canLearn 20 = .ok (.ifCond .eq 35, 3) := dk_153 0 35 (dk_at dksX0_canLearn_0 20 rfl rfl)
theorem dX0_canLearn_23 : decode cX0_canLearn 23 = .ok (.aload_n 0, 1) := dk_42 (dk_at dksX0_canLearn_0 23 rfl rfl)
theorem dX0_canLearn_24 : decode cX0_canLearn 24 = .ok (.iload_n 2, 1) := dk_28 (dk_at dksX0_canLearn_1 0 rfl rfl)
theorem dX0_canLearn_25 : decode cX0_canLearn 25 = .ok (.aload_n 0, 1) := dk_42 (dk_at dksX0_canLearn_1 1 rfl rfl)
theorem dX0_canLearn_26 : decode cX0_canLearn 26 = .ok (.invokevirtual 229, 3) := dk_182 0 229 (dk_at dksX0_canLearn_1 2 rfl rfl)
theorem dX0_canLearn_29 : decode cX0_canLearn 29 = .ok (.invokevirtual 330, 3) := dk_182 1 74 (dk_at dksX0_canLearn_1 5 rfl rfl)
theorem dX0_canLearn_32 : decode cX0_canLearn 32 = .ok (.ifCond .eq 23, 3) := dk_153 0 23 (dk_at dksX0_canLearn_1 8 rfl rfl)
theorem dX0_canLearn_35 : decode cX0_canLearn 35 = .ok (.aload_n 0, 1) := dk_42 (dk_at dksX0_canLearn_1 11 rfl rfl)
theorem dX0_canLearn_36 : decode cX0_canLearn 36 = .ok (.iload_n 2, 1) := dk_28 (dk_at dksX0_canLearn_1 12 rfl rfl)
theorem dX0_canLearn_37 : decode cX0_canLearn 37 = .ok (.aload_n 1, 1) := dk_43 (dk_at dksX0_canLearn_1 13 rfl rfl)
theorem dX0_canLearn_38 : decode cX0_canLearn 38 = .ok (.getfield 204, 3) := dk_180 0 204 (dk_at dksX0_canLearn_1 14 rfl rfl)
theorem dX0_canLearn_41 : decode cX0_canLearn 41 = .ok (.aload_n 1, 1) := dk_43 (dk_at dksX0_canLearn_1 17 rfl rfl)
theorem dX0_canLearn_42 : decode cX0_canLearn 42 = .ok (.getfield 340, 3) := dk_180 1 84 (dk_at dksX0_canLearn_1 18 rfl rfl)
theorem dX0_canLearn_45 : decode cX0_canLearn 45 = .ok (.aload_n 0, 1) := dk_42 (dk_at dksX0_canLearn_1 21 rfl rfl)
theorem dX0_canLearn_46 : decode cX0_canLearn 46 = .ok (.invokevirtual 229, 3) := dk_182 0 229 (dk_at dksX0_canLearn_2 0 rfl rfl)
theorem dX0_canLearn_49 : decode cX0_canLearn 49 = .ok (.invokevirtual 317, 3) := dk_182 1 61 (dk_at dksX0_canLearn_2 3 rfl rfl)
theorem dX0_canLearn_52 : decode cX0_canLearn 52 = .ok (.ifCond .eq 5, 3) := dk_153 0 5 (dk_at dksX0_canLearn_2 6 rfl rfl)
theorem dX0_canLearn_55 : decode cX0_canLearn 55 = .ok (.iconst 0, 1) := dk_3 (dk_at dksX0_canLearn_2 9 rfl rfl)
theorem dX0_canLearn_56 : decode cX0_canLearn 56 = .ok (.ireturn, 1) := dk_172 (dk_at dksX0_canLearn_2 10 rfl rfl)
theorem dX0_canLearn_57 : decode cX0_canLearn 57 = .ok (.aload_n 0, 1) := dk_42 (dk_at dksX0_canLearn_2 11 rfl rfl)
theorem dX0_canLearn_58 : decode cX0_canLearn 58 = .ok (.getfield 16, 3) := dk_180 0 16 (dk_at dksX0_canLearn_2 12 rfl rfl)
theorem dX0_canLearn_61 : decode cX0_canLearn 61 = .ok (.getfield 126, 3) := dk_180 0 126 (dk_at dksX0_canLearn_2 15 rfl rfl)
theorem dX0_canLearn_64 : decode cX0_canLearn 64 = .ok (.aload_n 1, 1) := dk_43 (dk_at dksX0_canLearn_2 18 rfl rfl)
theorem dX0_canLearn_65 : decode cX0_canLearn 65 = .ok (.getfield 340, 3) := dk_180 1 84 (dk_at dksX0_canLearn_2 19 rfl rfl)
theorem dX0_canLearn_68 : decode cX0_canLearn 68 = .ok (.invokevirtual 139, 3) := dk_182 0 139 (dk_at dksX0_canLearn_3 0 rfl rfl)
theorem dX0_canLearn_71 : decode cX0_canLearn 71 = .ok (.checkcast 148, 3) := dk_192 0 148 (dk_at dksX0_canLearn_3 3 rfl rfl)
theorem dX0_canLearn_74 : decode cX0_canLearn 74 = .ok (.aload_n 0, 1) := dk_42 (dk_at dksX0_canLearn_3 6 rfl rfl)
theorem dX0_canLearn_75 : decode cX0_canLearn 75 = .ok (.getfield 16, 3) := dk_180 0 16 (dk_at dksX0_canLearn_3 7 rfl rfl)
theorem dX0_canLearn_78 : decode cX0_canLearn 78 = .ok (.getfield 126, 3) := dk_180 0 126 (dk_at dksX0_canLearn_3 10 rfl rfl)
theorem dX0_canLearn_81 : decode cX0_canLearn 81 = .ok (.iload_n 2, 1) := dk_28 (dk_at dksX0_canLearn_3 13 rfl rfl)
theorem dX0_canLearn_82 : decode cX0_canLearn 82 = .ok (.invokevirtual 139, 3) := dk_182 0 139 (dk_at dksX0_canLearn_3 14 rfl rfl)
theorem dX0_canLearn_85 : decode cX0_canLearn 85 = .ok (.checkcast 148, 3) := dk_192 0 148 (dk_at dksX0_canLearn_3 17 rfl rfl)
theorem dX0_canLearn_88 : decode cX0_canLearn 88 = .ok (.invokevirtual 343, 3) := dk_182 1 87 (dk_at dksX0_canLearn_3 20 rfl rfl)
theorem dX0_canLearn_91 : decode cX0_canLearn 91 = .ok (.aload_n 0, 1) := dk_42 (dk_at dksX0_canLearn_3 23 rfl rfl)
theorem dX0_canLearn_92 : decode cX0_canLearn 92 = .ok (.iload_n 2, 1) := dk_28 (dk_at dksX0_canLearn_4 0 rfl rfl)
theorem dX0_canLearn_93 : decode cX0_canLearn 93 = .ok (.aload_n 1, 1) := dk_43 (dk_at dksX0_canLearn_4 1 rfl rfl)
theorem dX0_canLearn_94 : decode cX0_canLearn 94 = .ok (.getfield 204, 3) := dk_180 0 204 (dk_at dksX0_canLearn_4 2 rfl rfl)
theorem dX0_canLearn_97 : decode cX0_canLearn 97 = .ok (.aload_n 1, 1) := dk_43 (dk_at dksX0_canLearn_4 5 rfl rfl)
theorem dX0_canLearn_98 : decode cX0_canLearn 98 = .ok (.getfield 340, 3) := dk_180 1 84 (dk_at dksX0_canLearn_4 6 rfl rfl)
theorem dX0_canLearn_101 : decode cX0_canLearn 101 = .ok (.aload_n 0, 1) := dk_42 (dk_at dksX0_canLearn_4 9 rfl rfl)
theorem dX0_canLearn_102 : decode cX0_canLearn 102 = .ok (.invokevirtual 229, 3) := dk_182 0 229 (dk_at dksX0_canLearn_4 10 rfl rfl)
theorem dX0_canLearn_105 : decode cX0_canLearn 105 = .ok (.invokevirtual 314, 3) := dk_182 1 58 (dk_at dksX0_canLearn_4 13 rfl rfl)
theorem dX0_canLearn_108 : decode cX0_canLearn 108 = .ok (.if_icmp .lt 7, 3) := dk_161 0 7 (dk_at dksX0_canLearn_4 16 rfl rfl)
theorem dX0_canLearn_111 : decode cX0_canLearn 111 = .ok (.iconst 1, 1) := dk_4 (dk_at dksX0_canLearn_4 19 rfl rfl)
theorem dX0_canLearn_112 : decode cX0_canLearn 112 = .ok (.goto 4, 3) := dk_167 0 4 (dk_at dksX0_canLearn_4 20 rfl rfl)
theorem dX0_canLearn_115 : decode cX0_canLearn 115 = .ok (.iconst 0, 1) := dk_3 (dk_at dksX0_canLearn_4 23 rfl rfl)
theorem dX0_canLearn_116 : decode cX0_canLearn 116 = .ok (.ireturn, 1) := dk_172 (dk_at dksX0_canLearn_5 0 rfl rfl)
abbrev cX0_watched : ByteArray := prog_1_method_50_code
def yX0_watched : MethodName := ⟨RX0, "watched", "(LDeadUnderstudies$Script;I)LDeadUnderstudies$Script;"⟩
def dkwX0_watched_5 : List UInt8 := [46, 182, 0, 190, 132, 5, 1, 132, 6, 1, 167, 255, 144, 45, 176]
abbrev dktX0_watched_5 : List UInt8 := dkwX0_watched_5 ++ []
def dkwX0_watched_4 : List UInt8 := [21, 7, 46, 4, 96, 16, 10, 112, 167, 0, 10, 43, 180, 0, 187, 21, 7, 46, 43, 180, 1, 105, 21, 7]
abbrev dktX0_watched_4 : List UInt8 := dkwX0_watched_4 ++ dktX0_watched_5
def dkwX0_watched_3 : List UInt8 := [21, 7, 182, 1, 102, 154, 0, 6, 167, 0, 47, 45, 21, 7, 21, 5, 28, 160, 0, 18, 43, 180, 0, 187]
abbrev dktX0_watched_3 : List UInt8 := dkwX0_watched_3 ++ dktX0_watched_4
def dkwX0_watched_2 : List UInt8 := [21, 6, 46, 96, 54, 7, 43, 21, 7, 182, 0, 194, 54, 4, 43, 21, 7, 182, 1, 102, 154, 0, 59, 45]
abbrev dktX0_watched_2 : List UInt8 := dkwX0_watched_2 ++ dktX0_watched_3
def dkwX0_watched_1 : List UInt8 := [180, 1, 65, 162, 0, 106, 21, 4, 2, 159, 0, 100, 16, 6, 21, 4, 104, 42, 180, 0, 16, 180, 1, 68]
abbrev dktX0_watched_1 : List UInt8 := dkwX0_watched_1 ++ dktX0_watched_2
def dkwX0_watched_0 : List UInt8 := [187, 0, 48, 89, 183, 0, 50, 78, 3, 54, 4, 3, 54, 5, 3, 54, 6, 21, 6, 42, 180, 0, 16]
abbrev dktX0_watched_0 : List UInt8 := dkwX0_watched_0 ++ dktX0_watched_1
theorem dksX0_watched_0 : cX0_watched.data.toList.drop 0 = dktX0_watched_0 := by decide +kernel
theorem dksX0_watched_1 : cX0_watched.data.toList.drop 23 = dktX0_watched_1 := dk_seg dksX0_watched_0 23 rfl rfl
theorem dksX0_watched_2 : cX0_watched.data.toList.drop 47 = dktX0_watched_2 := dk_seg dksX0_watched_1 24 rfl rfl
theorem dksX0_watched_3 : cX0_watched.data.toList.drop 71 = dktX0_watched_3 := dk_seg dksX0_watched_2 24 rfl rfl
theorem dksX0_watched_4 : cX0_watched.data.toList.drop 95 = dktX0_watched_4 := dk_seg dksX0_watched_3 24 rfl rfl
theorem dksX0_watched_5 : cX0_watched.data.toList.drop 119 = dktX0_watched_5 := dk_seg dksX0_watched_4 24 rfl rfl
theorem dX0_watched_0 : decode cX0_watched 0 = .ok (.new 48, 3) := dk_187 0 48 (dk_at dksX0_watched_0 0 rfl rfl)
theorem dX0_watched_3 : decode cX0_watched 3 = .ok (.dup, 1) := dk_89 (dk_at dksX0_watched_0 3 rfl rfl)
theorem dX0_watched_4 : decode cX0_watched 4 = .ok (.invokespecial 50, 3) := dk_183 0 50 (dk_at dksX0_watched_0 4 rfl rfl)
theorem dX0_watched_7 : decode cX0_watched 7 = .ok (.astore_n 3, 1) := dk_78 (dk_at dksX0_watched_0 7 rfl rfl)
theorem dX0_watched_8 : decode cX0_watched 8 = .ok (.iconst 0, 1) := dk_3 (dk_at dksX0_watched_0 8 rfl rfl)
theorem dX0_watched_9 : decode cX0_watched 9 = .ok (.istore 4, 2) := dk_54 4 (dk_at dksX0_watched_0 9 rfl rfl)
theorem dX0_watched_11 : decode cX0_watched 11 = .ok (.iconst 0, 1) := dk_3 (dk_at dksX0_watched_0 11 rfl rfl)
theorem dX0_watched_12 : decode cX0_watched 12 = .ok (.istore 5, 2) := dk_54 5 (dk_at dksX0_watched_0 12 rfl rfl)
theorem dX0_watched_14 : decode cX0_watched 14 = .ok (.iconst 0, 1) := dk_3 (dk_at dksX0_watched_0 14 rfl rfl)
theorem dX0_watched_15 : decode cX0_watched 15 = .ok (.istore 6, 2) := dk_54 6 (dk_at dksX0_watched_0 15 rfl rfl)
theorem dX0_watched_17 : decode cX0_watched 17 = .ok (.iload 6, 2) := dk_21 6 (dk_at dksX0_watched_0 17 rfl rfl)
theorem dX0_watched_19 : decode cX0_watched 19 = .ok (.aload_n 0, 1) := dk_42 (dk_at dksX0_watched_0 19 rfl rfl)
theorem dX0_watched_20 : decode cX0_watched 20 = .ok (.getfield 16, 3) := dk_180 0 16 (dk_at dksX0_watched_0 20 rfl rfl)
theorem dX0_watched_23 : decode cX0_watched 23 = .ok (.getfield 321, 3) := dk_180 1 65 (dk_at dksX0_watched_1 0 rfl rfl)
theorem dX0_watched_26 : decode cX0_watched 26 = .ok (.if_icmp .ge 106, 3) := dk_162 0 106 (dk_at dksX0_watched_1 3 rfl rfl)
theorem dX0_watched_29 : decode cX0_watched 29 = .ok (.iload 4, 2) := dk_21 4 (dk_at dksX0_watched_1 6 rfl rfl)
theorem dX0_watched_31 : decode cX0_watched 31 = .ok (.iconst (-1), 1) := dk_2 (dk_at dksX0_watched_1 8 rfl rfl)
theorem dX0_watched_32 : decode cX0_watched 32 = .ok (.if_icmp .eq 100, 3) := dk_159 0 100 (dk_at dksX0_watched_1 9 rfl rfl)
theorem dX0_watched_35 : decode cX0_watched 35 = .ok (.bipush 6, 2) := dk_16 6 (dk_at dksX0_watched_1 12 rfl rfl)
theorem dX0_watched_37 : decode cX0_watched 37 = .ok (.iload 4, 2) := dk_21 4 (dk_at dksX0_watched_1 14 rfl rfl)
theorem dX0_watched_39 : decode cX0_watched 39 = .ok (.imul, 1) := dk_104 (dk_at dksX0_watched_1 16 rfl rfl)
theorem dX0_watched_40 : decode cX0_watched 40 = .ok (.aload_n 0, 1) := dk_42 (dk_at dksX0_watched_1 17 rfl rfl)
theorem dX0_watched_41 : decode cX0_watched 41 = .ok (.getfield 16, 3) := dk_180 0 16 (dk_at dksX0_watched_1 18 rfl rfl)
theorem dX0_watched_44 : decode cX0_watched 44 = .ok (.getfield 324, 3) := dk_180 1 68 (dk_at dksX0_watched_1 21 rfl rfl)
theorem dX0_watched_47 : decode cX0_watched 47 = .ok (.iload 6, 2) := dk_21 6 (dk_at dksX0_watched_2 0 rfl rfl)
theorem dX0_watched_49 : decode cX0_watched 49 = .ok (.iaload, 1) := dk_46 (dk_at dksX0_watched_2 2 rfl rfl)
theorem dX0_watched_50 : decode cX0_watched 50 = .ok (.iadd, 1) := dk_96 (dk_at dksX0_watched_2 3 rfl rfl)
theorem dX0_watched_51 : decode cX0_watched 51 = .ok (.istore 7, 2) := dk_54 7 (dk_at dksX0_watched_2 4 rfl rfl)
theorem dX0_watched_53 : decode cX0_watched 53 = .ok (.aload_n 1, 1) := dk_43 (dk_at dksX0_watched_2 6 rfl rfl)
theorem dX0_watched_54 : decode cX0_watched 54 = .ok (.iload 7, 2) := dk_21 7 (dk_at dksX0_watched_2 7 rfl rfl)
theorem dX0_watched_56 : decode cX0_watched 56 = .ok (.invokevirtual 194, 3) := dk_182 0 194 (dk_at dksX0_watched_2 9 rfl rfl)
theorem dX0_watched_59 : decode cX0_watched 59 = .ok (.istore 4, 2) := dk_54 4 (dk_at dksX0_watched_2 12 rfl rfl)
theorem dX0_watched_61 : decode cX0_watched 61 = .ok (.aload_n 1, 1) := dk_43 (dk_at dksX0_watched_2 14 rfl rfl)
theorem dX0_watched_62 : decode cX0_watched 62 = .ok (.iload 7, 2) := dk_21 7 (dk_at dksX0_watched_2 15 rfl rfl)
theorem dX0_watched_64 : decode cX0_watched 64 = .ok (.invokevirtual 358, 3) := dk_182 1 102 (dk_at dksX0_watched_2 17 rfl rfl)
theorem dX0_watched_67 : decode cX0_watched 67 = .ok (.ifCond .ne 59, 3) := dk_154 0 59 (dk_at dksX0_watched_2 20 rfl rfl)
theorem dX0_watched_70 : decode cX0_watched 70 = .ok (.aload_n 3, 1) := dk_45 (dk_at dksX0_watched_2 23 rfl rfl)
theorem dX0_watched_71 : decode cX0_watched 71 = .ok (.iload 7, 2) := dk_21 7 (dk_at dksX0_watched_3 0 rfl rfl)
theorem dX0_watched_73 : decode cX0_watched 73 = .ok (.invokevirtual 358, 3) := dk_182 1 102 (dk_at dksX0_watched_3 2 rfl rfl)
theorem dX0_watched_76 : decode cX0_watched 76 = .ok (.ifCond .ne 6, 3) := dk_154 0 6 (dk_at dksX0_watched_3 5 rfl rfl)
theorem dX0_watched_79 : decode cX0_watched 79 = .ok (.goto 47, 3) := dk_167 0 47 (dk_at dksX0_watched_3 8 rfl rfl)
theorem dX0_watched_82 : decode cX0_watched 82 = .ok (.aload_n 3, 1) := dk_45 (dk_at dksX0_watched_3 11 rfl rfl)
theorem dX0_watched_83 : decode cX0_watched 83 = .ok (.iload 7, 2) := dk_21 7 (dk_at dksX0_watched_3 12 rfl rfl)
theorem dX0_watched_85 : decode cX0_watched 85 = .ok (.iload 5, 2) := dk_21 5 (dk_at dksX0_watched_3 14 rfl rfl)
theorem dX0_watched_87 : decode cX0_watched 87 = .ok (.iload_n 2, 1) := dk_28 (dk_at dksX0_watched_3 16 rfl rfl)
theorem dX0_watched_88 : decode cX0_watched 88 = .ok (.if_icmp .ne 18, 3) := dk_160 0 18 (dk_at dksX0_watched_3 17 rfl rfl)
theorem dX0_watched_91 : decode cX0_watched 91 = .ok (.aload_n 1, 1) := dk_43 (dk_at dksX0_watched_3 20 rfl rfl)
theorem dX0_watched_92 : decode cX0_watched 92 = .ok (.getfield 187, 3) := dk_180 0 187 (dk_at dksX0_watched_3 21 rfl rfl)
theorem dX0_watched_95 : decode cX0_watched 95 = .ok (.iload 7, 2) := dk_21 7 (dk_at dksX0_watched_4 0 rfl rfl)
theorem dX0_watched_97 : decode cX0_watched 97 = .ok (.iaload, 1) := dk_46 (dk_at dksX0_watched_4 2 rfl rfl)
theorem dX0_watched_98 : decode cX0_watched 98 = .ok (.iconst 1, 1) := dk_4 (dk_at dksX0_watched_4 3 rfl rfl)
theorem dX0_watched_99 : decode cX0_watched 99 = .ok (.iadd, 1) := dk_96 (dk_at dksX0_watched_4 4 rfl rfl)
theorem dX0_watched_100 : decode cX0_watched 100 = .ok (.bipush 10, 2) := dk_16 10 (dk_at dksX0_watched_4 5 rfl rfl)
theorem dX0_watched_102 : decode cX0_watched 102 = .ok (.irem, 1) := dk_112 (dk_at dksX0_watched_4 7 rfl rfl)
theorem dX0_watched_103 : decode cX0_watched 103 = .ok (.goto 10, 3) := dk_167 0 10 (dk_at dksX0_watched_4 8 rfl rfl)
theorem dX0_watched_106 : decode cX0_watched 106 = .ok (.aload_n 1, 1) := dk_43 (dk_at dksX0_watched_4 11 rfl rfl)
theorem dX0_watched_107 : decode cX0_watched 107 = .ok (.getfield 187, 3) := dk_180 0 187 (dk_at dksX0_watched_4 12 rfl rfl)
theorem dX0_watched_110 : decode cX0_watched 110 = .ok (.iload 7, 2) := dk_21 7 (dk_at dksX0_watched_4 15 rfl rfl)
theorem dX0_watched_112 : decode cX0_watched 112 = .ok (.iaload, 1) := dk_46 (dk_at dksX0_watched_4 17 rfl rfl)
theorem dX0_watched_113 : decode cX0_watched 113 = .ok (.aload_n 1, 1) := dk_43 (dk_at dksX0_watched_4 18 rfl rfl)
theorem dX0_watched_114 : decode cX0_watched 114 = .ok (.getfield 361, 3) := dk_180 1 105 (dk_at dksX0_watched_4 19 rfl rfl)
theorem dX0_watched_117 : decode cX0_watched 117 = .ok (.iload 7, 2) := dk_21 7 (dk_at dksX0_watched_4 22 rfl rfl)
theorem dX0_watched_119 : decode cX0_watched 119 = .ok (.iaload, 1) := dk_46 (dk_at dksX0_watched_5 0 rfl rfl)
theorem dX0_watched_120 : decode cX0_watched 120 = .ok (.invokevirtual 190, 3) := dk_182 0 190 (dk_at dksX0_watched_5 1 rfl rfl)
theorem dX0_watched_123 : decode cX0_watched 123 = .ok (.iinc 5 1, 3) := dk_132 5 1 (dk_at dksX0_watched_5 4 rfl rfl)
theorem dX0_watched_126 : decode cX0_watched 126 = .ok (.iinc 6 1, 3) := dk_132 6 1 (dk_at dksX0_watched_5 7 rfl rfl)
theorem dX0_watched_129 : decode cX0_watched 129 = .ok (.goto (-112), 3) := dk_167 255 144 (dk_at dksX0_watched_5 10 rfl rfl)
theorem dX0_watched_132 : decode cX0_watched 132 = .ok (.aload_n 3, 1) := dk_45 (dk_at dksX0_watched_5 13 rfl rfl)
theorem dX0_watched_133 : decode cX0_watched 133 = .ok (.areturn, 1) := dk_176 (dk_at dksX0_watched_5 14 rfl rfl)
abbrev cX0_undo : ByteArray := prog_1_method_51_code
def yX0_undo : MethodName := ⟨RX0, "undo", "()I"⟩
def dkwX0_undo_2 : List UInt8 := [180, 1, 84, 182, 0, 164, 172]
abbrev dktX0_undo_2 : List UInt8 := dkwX0_undo_2 ++ []
def dkwX0_undo_1 : List UInt8 := [180, 0, 16, 180, 0, 136, 42, 180, 0, 16, 180, 0, 136, 182, 0, 130, 4, 100, 182, 1, 112, 192, 0, 143]
abbrev dktX0_undo_1 : List UInt8 := dkwX0_undo_1 ++ dktX0_undo_2
def dkwX0_undo_0 : List UInt8 := [42, 180, 0, 16, 180, 0, 136, 182, 1, 108, 153, 0, 10, 42, 16, 253, 182, 0, 157, 172, 42, 42]
abbrev dktX0_undo_0 : List UInt8 := dkwX0_undo_0 ++ dktX0_undo_1
theorem dksX0_undo_0 : cX0_undo.data.toList.drop 0 = dktX0_undo_0 := by decide +kernel
theorem dksX0_undo_1 : cX0_undo.data.toList.drop 22 = dktX0_undo_1 := dk_seg dksX0_undo_0 22 rfl rfl
theorem dksX0_undo_2 : cX0_undo.data.toList.drop 46 = dktX0_undo_2 := dk_seg dksX0_undo_1 24 rfl rfl
theorem dX0_undo_0 : decode cX0_undo 0 = .ok (.aload_n 0, 1) := dk_42 (dk_at dksX0_undo_0 0 rfl rfl)
theorem dX0_undo_1 : decode cX0_undo 1 = .ok (.getfield 16, 3) := dk_180 0 16 (dk_at dksX0_undo_0 1 rfl rfl)
theorem dX0_undo_4 : decode cX0_undo 4 = .ok (.getfield 136, 3) := dk_180 0 136 (dk_at dksX0_undo_0 4 rfl rfl)
theorem dX0_undo_7 : decode cX0_undo 7 = .ok (.invokevirtual 364, 3) := dk_182 1 108 (dk_at dksX0_undo_0 7 rfl rfl)
theorem dX0_undo_10 : decode cX0_undo 10 = .ok (.ifCond .eq 10, 3) := dk_153 0 10 (dk_at dksX0_undo_0 10 rfl rfl)
theorem dX0_undo_13 : decode cX0_undo 13 = .ok (.aload_n 0, 1) := dk_42 (dk_at dksX0_undo_0 13 rfl rfl)
theorem dX0_undo_14 : decode cX0_undo 14 = .ok (.bipush (-3), 2) := dk_16 253 (dk_at dksX0_undo_0 14 rfl rfl)
theorem dX0_undo_16 : decode cX0_undo 16 = .ok (.invokevirtual 157, 3) := dk_182 0 157 (dk_at dksX0_undo_0 16 rfl rfl)
theorem dX0_undo_19 : decode cX0_undo 19 = .ok (.ireturn, 1) := dk_172 (dk_at dksX0_undo_0 19 rfl rfl)
theorem dX0_undo_20 : decode cX0_undo 20 = .ok (.aload_n 0, 1) := dk_42 (dk_at dksX0_undo_0 20 rfl rfl)
theorem dX0_undo_21 : decode cX0_undo 21 = .ok (.aload_n 0, 1) := dk_42 (dk_at dksX0_undo_0 21 rfl rfl)
theorem dX0_undo_22 : decode cX0_undo 22 = .ok (.getfield 16, 3) := dk_180 0 16 (dk_at dksX0_undo_1 0 rfl rfl)
theorem dX0_undo_25 : decode cX0_undo 25 = .ok (.getfield 136, 3) := dk_180 0 136 (dk_at dksX0_undo_1 3 rfl rfl)
theorem dX0_undo_28 : decode cX0_undo 28 = .ok (.aload_n 0, 1) := dk_42 (dk_at dksX0_undo_1 6 rfl rfl)
theorem dX0_undo_29 : decode cX0_undo 29 = .ok (.getfield 16, 3) := dk_180 0 16 (dk_at dksX0_undo_1 7 rfl rfl)
theorem dX0_undo_32 : decode cX0_undo 32 = .ok (.getfield 136, 3) := dk_180 0 136 (dk_at dksX0_undo_1 10 rfl rfl)
theorem dX0_undo_35 : decode cX0_undo 35 = .ok (.invokevirtual 130, 3) := dk_182 0 130 (dk_at dksX0_undo_1 13 rfl rfl)
theorem dX0_undo_38 : decode cX0_undo 38 = .ok (.iconst 1, 1) := dk_4 (dk_at dksX0_undo_1 16 rfl rfl)
theorem dX0_undo_39 : decode cX0_undo 39 = .ok (.isub, 1) := dk_100 (dk_at dksX0_undo_1 17 rfl rfl)
theorem dX0_undo_40 : decode cX0_undo 40 = .ok (.invokevirtual 368, 3) := dk_182 1 112 (dk_at dksX0_undo_1 18 rfl rfl)
theorem dX0_undo_43 : decode cX0_undo 43 = .ok (.checkcast 143, 3) := dk_192 0 143 (dk_at dksX0_undo_1 21 rfl rfl)
theorem dX0_undo_46 : decode cX0_undo 46 = .ok (.getfield 340, 3) := dk_180 1 84 (dk_at dksX0_undo_2 0 rfl rfl)
theorem dX0_undo_49 : decode cX0_undo 49 = .ok (.invokevirtual 164, 3) := dk_182 0 164 (dk_at dksX0_undo_2 3 rfl rfl)
theorem dX0_undo_52 : decode cX0_undo 52 = .ok (.ireturn, 1) := dk_172 (dk_at dksX0_undo_2 6 rfl rfl)
abbrev cX0_version : ByteArray := prog_1_method_52_code
def yX0_version : MethodName := ⟨RX0, "version", "(II)I"⟩
def dkwX0_version_4 : List UInt8 := [180, 0, 145, 42, 180, 0, 16, 180, 0, 170, 45, 180, 0, 204, 50, 182, 1, 118, 172, 2, 172]
abbrev dktX0_version_4 : List UInt8 := dkwX0_version_4 ++ []
def dkwX0_version_3 : List UInt8 := [45, 180, 0, 204, 172, 45, 180, 1, 84, 172, 45, 180, 1, 115, 172, 45, 180, 0, 145, 182, 0, 201, 172, 45]
abbrev dktX0_version_3 : List UInt8 := dkwX0_version_3 ++ dktX0_version_4
def dkwX0_version_2 : List UInt8 := [170, 0, 0, 0, 0, 77, 0, 0, 0, 0, 0, 0, 0, 4, 0, 0, 0, 34, 0, 0, 0, 39, 0, 0, 0, 44, 0, 0, 0, 49, 0, 0, 0, 57]
abbrev dktX0_version_2 : List UInt8 := dkwX0_version_2 ++ dktX0_version_3
def dkwX0_version_1 : List UInt8 := [78, 28]
abbrev dktX0_version_1 : List UInt8 := dkwX0_version_1 ++ dktX0_version_2
def dkwX0_version_0 : List UInt8 := [42, 27, 182, 1, 91, 154, 0, 5, 2, 172, 42, 180, 0, 16, 180, 0, 136, 27, 182, 0, 139, 192, 0, 143]
abbrev dktX0_version_0 : List UInt8 := dkwX0_version_0 ++ dktX0_version_1
theorem dksX0_version_0 : cX0_version.data.toList.drop 0 = dktX0_version_0 := by decide +kernel
theorem dksX0_version_1 : cX0_version.data.toList.drop 24 = dktX0_version_1 := dk_seg dksX0_version_0 24 rfl rfl
theorem dksX0_version_2 : cX0_version.data.toList.drop 26 = dktX0_version_2 := dk_seg dksX0_version_1 2 rfl rfl
theorem dksX0_version_3 : cX0_version.data.toList.drop 60 = dktX0_version_3 := dk_seg dksX0_version_2 34 rfl rfl
theorem dksX0_version_4 : cX0_version.data.toList.drop 84 = dktX0_version_4 := dk_seg dksX0_version_3 24 rfl rfl
theorem dX0_version_0 : decode cX0_version 0 = .ok (.aload_n 0, 1) := dk_42 (dk_at dksX0_version_0 0 rfl rfl)
theorem dX0_version_1 : decode cX0_version 1 = .ok (.iload_n 1, 1) := dk_27 (dk_at dksX0_version_0 1 rfl rfl)
theorem dX0_version_2 : decode cX0_version 2 = .ok (.invokevirtual 347, 3) := dk_182 1 91 (dk_at dksX0_version_0 2 rfl rfl)
theorem dX0_version_5 : decode cX0_version 5 = .ok (.ifCond .ne 5, 3) := dk_154 0 5 (dk_at dksX0_version_0 5 rfl rfl)
theorem dX0_version_8 : decode cX0_version 8 = .ok (.iconst (-1), 1) := dk_2 (dk_at dksX0_version_0 8 rfl rfl)
theorem dX0_version_9 : decode cX0_version 9 = .ok (.ireturn, 1) := dk_172 (dk_at dksX0_version_0 9 rfl rfl)
theorem dX0_version_10 : decode cX0_version 10 = .ok (.aload_n 0, 1) := dk_42 (dk_at dksX0_version_0 10 rfl rfl)
theorem dX0_version_11 : decode cX0_version 11 = .ok (.getfield 16, 3) := dk_180 0 16 (dk_at dksX0_version_0 11 rfl rfl)
theorem dX0_version_14 : decode cX0_version 14 = .ok (.getfield 136, 3) := dk_180 0 136 (dk_at dksX0_version_0 14 rfl rfl)
theorem dX0_version_17 : decode cX0_version 17 = .ok (.iload_n 1, 1) := dk_27 (dk_at dksX0_version_0 17 rfl rfl)
theorem dX0_version_18 : decode cX0_version 18 = .ok (.invokevirtual 139, 3) := dk_182 0 139 (dk_at dksX0_version_0 18 rfl rfl)
theorem dX0_version_21 : decode cX0_version 21 = .ok (.checkcast 143, 3) := dk_192 0 143 (dk_at dksX0_version_0 21 rfl rfl)
theorem dX0_version_24 : decode cX0_version 24 = .ok (.astore_n 3, 1) := dk_78 (dk_at dksX0_version_1 0 rfl rfl)
theorem dX0_version_25 : decode cX0_version 25 = .ok (.iload_n 2, 1) := dk_28 (dk_at dksX0_version_1 1 rfl rfl)
theorem dX0_version_26 : decode cX0_version 26 = .ok (.tableswitch 77 0 4 #[34, 39, 44, 49, 57], 34) := by decide +kernel
theorem dX0_version_60 : decode cX0_version 60 = .ok (.aload_n 3, 1) := dk_45 (dk_at dksX0_version_3 0 rfl rfl)
theorem dX0_version_61 : decode cX0_version 61 = .ok (.getfield 204, 3) := dk_180 0 204 (dk_at dksX0_version_3 1 rfl rfl)
theorem dX0_version_64 : decode cX0_version 64 = .ok (.ireturn, 1) := dk_172 (dk_at dksX0_version_3 4 rfl rfl)
theorem dX0_version_65 : decode cX0_version 65 = .ok (.aload_n 3, 1) := dk_45 (dk_at dksX0_version_3 5 rfl rfl)
theorem dX0_version_66 : decode cX0_version 66 = .ok (.getfield 340, 3) := dk_180 1 84 (dk_at dksX0_version_3 6 rfl rfl)
theorem dX0_version_69 : decode cX0_version 69 = .ok (.ireturn, 1) := dk_172 (dk_at dksX0_version_3 9 rfl rfl)
theorem dX0_version_70 : decode cX0_version 70 = .ok (.aload_n 3, 1) := dk_45 (dk_at dksX0_version_3 10 rfl rfl)
theorem dX0_version_71 : decode cX0_version 71 = .ok (.getfield 371, 3) := dk_180 1 115 (dk_at dksX0_version_3 11 rfl rfl)
theorem dX0_version_74 : decode cX0_version 74 = .ok (.ireturn, 1) := dk_172 (dk_at dksX0_version_3 14 rfl rfl)
theorem dX0_version_75 : decode cX0_version 75 = .ok (.aload_n 3, 1) := dk_45 (dk_at dksX0_version_3 15 rfl rfl)
theorem dX0_version_76 : decode cX0_version 76 = .ok (.getfield 145, 3) := dk_180 0 145 (dk_at dksX0_version_3 16 rfl rfl)
theorem dX0_version_79 : decode cX0_version 79 = .ok (.invokevirtual 201, 3) := dk_182 0 201 (dk_at dksX0_version_3 19 rfl rfl)
theorem dX0_version_82 : decode cX0_version 82 = .ok (.ireturn, 1) := dk_172 (dk_at dksX0_version_3 22 rfl rfl)
theorem dX0_version_83 : decode cX0_version 83 = .ok (.aload_n 3, 1) := dk_45 (dk_at dksX0_version_3 23 rfl rfl)
theorem dX0_version_84 : decode cX0_version 84 = .ok (.getfield 145, 3) := dk_180 0 145 (dk_at dksX0_version_4 0 rfl rfl)
theorem dX0_version_87 : decode cX0_version 87 = .ok (.aload_n 0, 1) := dk_42 (dk_at dksX0_version_4 3 rfl rfl)
theorem dX0_version_88 : decode cX0_version 88 = .ok (.getfield 16, 3) := dk_180 0 16 (dk_at dksX0_version_4 4 rfl rfl)
theorem dX0_version_91 : decode cX0_version 91 = .ok (.getfield 170, 3) := dk_180 0 170 (dk_at dksX0_version_4 7 rfl rfl)
theorem dX0_version_94 : decode cX0_version 94 = .ok (.aload_n 3, 1) := dk_45 (dk_at dksX0_version_4 10 rfl rfl)
theorem dX0_version_95 : decode cX0_version 95 = .ok (.getfield 204, 3) := dk_180 0 204 (dk_at dksX0_version_4 11 rfl rfl)
theorem dX0_version_98 : decode cX0_version 98 = .ok (.aaload, 1) := dk_50 (dk_at dksX0_version_4 14 rfl rfl)
theorem dX0_version_99 : decode cX0_version 99 = .ok (.invokevirtual 374, 3) := dk_182 1 118 (dk_at dksX0_version_4 15 rfl rfl)
theorem dX0_version_102 : decode cX0_version 102 = .ok (.ireturn, 1) := dk_172 (dk_at dksX0_version_4 18 rfl rfl)
theorem dX0_version_103 : decode cX0_version 103 = .ok (.iconst (-1), 1) := dk_2 (dk_at dksX0_version_4 19 rfl rfl)
theorem dX0_version_104 : decode cX0_version 104 = .ok (.ireturn, 1) := dk_172 (dk_at dksX0_version_4 20 rfl rfl)
abbrev cX0_knows : ByteArray := prog_1_method_53_code
def yX0_knows : MethodName := ⟨RX0, "knows", "(IIII)I"⟩
def dkwX0_knows_1 : List UInt8 := [153, 0, 22, 42, 27, 182, 1, 122, 16, 6, 28, 104, 29, 96, 21, 4, 184, 0, 197, 167, 0, 4, 2, 172]
abbrev dktX0_knows_1 : List UInt8 := dkwX0_knows_1 ++ []
def dkwX0_knows_0 : List UInt8 := [42, 27, 182, 1, 91, 153, 0, 40, 28, 29, 184, 0, 177, 153, 0, 32, 21, 4, 3, 4, 184, 0, 122]
abbrev dktX0_knows_0 : List UInt8 := dkwX0_knows_0 ++ dktX0_knows_1
theorem dksX0_knows_0 : cX0_knows.data.toList.drop 0 = dktX0_knows_0 := by decide +kernel
theorem dksX0_knows_1 : cX0_knows.data.toList.drop 23 = dktX0_knows_1 := dk_seg dksX0_knows_0 23 rfl rfl
theorem dX0_knows_0 : decode cX0_knows 0 = .ok (.aload_n 0, 1) := dk_42 (dk_at dksX0_knows_0 0 rfl rfl)
theorem dX0_knows_1 : decode cX0_knows 1 = .ok (.iload_n 1, 1) := dk_27 (dk_at dksX0_knows_0 1 rfl rfl)
theorem dX0_knows_2 : decode cX0_knows 2 = .ok (.invokevirtual 347, 3) := dk_182 1 91 (dk_at dksX0_knows_0 2 rfl rfl)
theorem dX0_knows_5 : decode cX0_knows 5 = .ok (.ifCond .eq 40, 3) := dk_153 0 40 (dk_at dksX0_knows_0 5 rfl rfl)
theorem dX0_knows_8 : decode cX0_knows 8 = .ok (.iload_n 2, 1) := dk_28 (dk_at dksX0_knows_0 8 rfl rfl)
theorem dX0_knows_9 : decode cX0_knows 9 = .ok (.iload_n 3, 1) := dk_29 (dk_at dksX0_knows_0 9 rfl rfl)
theorem dX0_knows_10 : decode cX0_knows 10 = .ok (.invokestatic 177, 3) := dk_184 0 177 (dk_at dksX0_knows_0 10 rfl rfl)
theorem dX0_knows_13 : decode cX0_knows 13 = .ok (.ifCond .eq 32, 3) := dk_153 0 32 (dk_at dksX0_knows_0 13 rfl rfl)
theorem dX0_knows_16 : decode cX0_knows 16 = .ok (.iload 4, 2) := dk_21 4 (dk_at dksX0_knows_0 16 rfl rfl)
theorem dX0_knows_18 : decode cX0_knows 18 = .ok (.iconst 0, 1) := dk_3 (dk_at dksX0_knows_0 18 rfl rfl)
theorem dX0_knows_19 : decode cX0_knows 19 = .ok (.iconst 1, 1) := dk_4 (dk_at dksX0_knows_0 19 rfl rfl)
theorem dX0_knows_20 : decode cX0_knows 20 = .ok (.invokestatic 122, 3) := dk_184 0 122 (dk_at dksX0_knows_0 20 rfl rfl)
theorem dX0_knows_23 : decode cX0_knows 23 = .ok (.ifCond .eq 22, 3) := dk_153 0 22 (dk_at dksX0_knows_1 0 rfl rfl)
theorem dX0_knows_26 : decode cX0_knows 26 = .ok (.aload_n 0, 1) := dk_42 (dk_at dksX0_knows_1 3 rfl rfl)
theorem dX0_knows_27 : decode cX0_knows 27 = .ok (.iload_n 1, 1) := dk_27 (dk_at dksX0_knows_1 4 rfl rfl)
theorem dX0_knows_28 : decode cX0_knows 28 = .ok (.invokevirtual 378, 3) := dk_182 1 122 (dk_at dksX0_knows_1 5 rfl rfl)
theorem dX0_knows_31 : decode cX0_knows 31 = .ok (.bipush 6, 2) := dk_16 6 (dk_at dksX0_knows_1 8 rfl rfl)
theorem dX0_knows_33 : decode cX0_knows 33 = .ok (.iload_n 2, 1) := dk_28 (dk_at dksX0_knows_1 10 rfl rfl)
theorem dX0_knows_34 : decode cX0_knows 34 = .ok (.imul, 1) := dk_104 (dk_at dksX0_knows_1 11 rfl rfl)
theorem dX0_knows_35 : decode cX0_knows 35 = .ok (.iload_n 3, 1) := dk_29 (dk_at dksX0_knows_1 12 rfl rfl)
theorem dX0_knows_36 : decode cX0_knows 36 = .ok (.iadd, 1) := dk_96 (dk_at dksX0_knows_1 13 rfl rfl)
theorem dX0_knows_37 : decode cX0_knows 37 = .ok (.iload 4, 2) := dk_21 4 (dk_at dksX0_knows_1 14 rfl rfl)
theorem dX0_knows_39 : decode cX0_knows 39 = .ok (.invokestatic 197, 3) := dk_184 0 197 (dk_at dksX0_knows_1 16 rfl rfl)
theorem dX0_knows_42 : decode cX0_knows 42 = .ok (.goto 4, 3) := dk_167 0 4 (dk_at dksX0_knows_1 19 rfl rfl)
theorem dX0_knows_45 : decode cX0_knows 45 = .ok (.iconst (-1), 1) := dk_2 (dk_at dksX0_knows_1 22 rfl rfl)
theorem dX0_knows_46 : decode cX0_knows 46 = .ok (.ireturn, 1) := dk_172 (dk_at dksX0_knows_1 23 rfl rfl)
abbrev cX0_scriptOf : ByteArray := prog_1_method_13_code
def yX0_scriptOf : MethodName := ⟨RX0, "scriptOf", "(I)LDeadUnderstudies$Script;"⟩
def dkwX0_scriptOf_0 : List UInt8 := [42, 180, 0, 16, 180, 0, 136, 27, 182, 0, 139, 192, 0, 143, 180, 0, 145, 176]
abbrev dktX0_scriptOf_0 : List UInt8 := dkwX0_scriptOf_0 ++ []
theorem dksX0_scriptOf_0 : cX0_scriptOf.data.toList.drop 0 = dktX0_scriptOf_0 := by decide +kernel
theorem dX0_scriptOf_0 : decode cX0_scriptOf 0 = .ok (.aload_n 0, 1) := dk_42 (dk_at dksX0_scriptOf_0 0 rfl rfl)
theorem dX0_scriptOf_1 : decode cX0_scriptOf 1 = .ok (.getfield 16, 3) := dk_180 0 16 (dk_at dksX0_scriptOf_0 1 rfl rfl)
theorem dX0_scriptOf_4 : decode cX0_scriptOf 4 = .ok (.getfield 136, 3) := dk_180 0 136 (dk_at dksX0_scriptOf_0 4 rfl rfl)
theorem dX0_scriptOf_7 : decode cX0_scriptOf 7 = .ok (.iload_n 1, 1) := dk_27 (dk_at dksX0_scriptOf_0 7 rfl rfl)
theorem dX0_scriptOf_8 : decode cX0_scriptOf 8 = .ok (.invokevirtual 139, 3) := dk_182 0 139 (dk_at dksX0_scriptOf_0 8 rfl rfl)
theorem dX0_scriptOf_11 : decode cX0_scriptOf 11 = .ok (.checkcast 143, 3) := dk_192 0 143 (dk_at dksX0_scriptOf_0 11 rfl rfl)
theorem dX0_scriptOf_14 : decode cX0_scriptOf 14 = .ok (.getfield 145, 3) := dk_180 0 145 (dk_at dksX0_scriptOf_0 14 rfl rfl)
theorem dX0_scriptOf_17 : decode cX0_scriptOf 17 = .ok (.areturn, 1) := dk_176 (dk_at dksX0_scriptOf_0 17 rfl rfl)
abbrev cX0_says_2 : ByteArray := prog_1_method_54_code
def yX0_says_2 : MethodName := ⟨RX0, "says", "(II)I"⟩
def dkwX0_says_2_2 : List UInt8 := [160, 0, 8, 16, 100, 167, 0, 4, 29, 172]
abbrev dktX0_says_2_2 : List UInt8 := dkwX0_says_2_2 ++ []
def dkwX0_says_2_1 : List UInt8 := [154, 0, 5, 2, 172, 42, 27, 182, 1, 122, 42, 180, 0, 16, 180, 1, 68, 28, 182, 1, 126, 62, 29, 2]
abbrev dktX0_says_2_1 : List UInt8 := dkwX0_says_2_1 ++ dktX0_says_2_2
def dkwX0_says_2_0 : List UInt8 := [42, 27, 182, 1, 91, 153, 0, 20, 28, 3, 42, 180, 0, 16, 180, 1, 65, 4, 100, 184, 0, 122]
abbrev dktX0_says_2_0 : List UInt8 := dkwX0_says_2_0 ++ dktX0_says_2_1
theorem dksX0_says_2_0 : cX0_says_2.data.toList.drop 0 = dktX0_says_2_0 := by decide +kernel
theorem dksX0_says_2_1 : cX0_says_2.data.toList.drop 22 = dktX0_says_2_1 := dk_seg dksX0_says_2_0 22 rfl rfl
theorem dksX0_says_2_2 : cX0_says_2.data.toList.drop 46 = dktX0_says_2_2 := dk_seg dksX0_says_2_1 24 rfl rfl
theorem dX0_says_2_0 : decode cX0_says_2 0 = .ok (.aload_n 0, 1) := dk_42 (dk_at dksX0_says_2_0 0 rfl rfl)
theorem dX0_says_2_1 : decode cX0_says_2 1 = .ok (.iload_n 1, 1) := dk_27 (dk_at dksX0_says_2_0 1 rfl rfl)
theorem dX0_says_2_2 : decode cX0_says_2 2 = .ok (.invokevirtual 347, 3) := dk_182 1 91 (dk_at dksX0_says_2_0 2 rfl rfl)
theorem dX0_says_2_5 : decode cX0_says_2 5 = .ok (.ifCond .eq 20, 3) := dk_153 0 20 (dk_at dksX0_says_2_0 5 rfl rfl)
theorem dX0_says_2_8 : decode cX0_says_2 8 = .ok (.iload_n 2, 1) := dk_28 (dk_at dksX0_says_2_0 8 rfl rfl)
theorem dX0_says_2_9 : decode cX0_says_2 9 = .ok (.iconst 0, 1) := dk_3 (dk_at dksX0_says_2_0 9 rfl rfl)
theorem dX0_says_2_10 : decode cX0_says_2 10 = .ok (.aload_n 0, 1) := dk_42 (dk_at dksX0_says_2_0 10 rfl rfl)
theorem dX0_says_2_11 : decode cX0_says_2 11 = .ok (.getfield 16, 3) := dk_180 0 16 (dk_at dksX0_says_2_0 11 rfl rfl)
theorem dX0_says_2_14 : decode cX0_says_2 14 = .ok (.getfield 321, 3) := dk_180 1 65 (dk_at dksX0_says_2_0 14 rfl rfl)
theorem dX0_says_2_17 : decode cX0_says_2 17 = .ok (.iconst 1, 1) := dk_4 (dk_at dksX0_says_2_0 17 rfl rfl)
theorem dX0_says_2_18 : decode cX0_says_2 18 = .ok (.isub, 1) := dk_100 (dk_at dksX0_says_2_0 18 rfl rfl)
theorem dX0_says_2_19 : decode cX0_says_2 19 = .ok (.invokestatic 122, 3) := dk_184 0 122 (dk_at dksX0_says_2_0 19 rfl rfl)
theorem dX0_says_2_22 : decode cX0_says_2 22 = .ok (.ifCond .ne 5, 3) := dk_154 0 5 (dk_at dksX0_says_2_1 0 rfl rfl)
theorem dX0_says_2_25 : decode cX0_says_2 25 = .ok (.iconst (-1), 1) := dk_2 (dk_at dksX0_says_2_1 3 rfl rfl)
theorem dX0_says_2_26 : decode cX0_says_2 26 = .ok (.ireturn, 1) := dk_172 (dk_at dksX0_says_2_1 4 rfl rfl)
theorem dX0_says_2_27 : decode cX0_says_2 27 = .ok (.aload_n 0, 1) := dk_42 (dk_at dksX0_says_2_1 5 rfl rfl)
theorem dX0_says_2_28 : decode cX0_says_2 28 = .ok (.iload_n 1, 1) := dk_27 (dk_at dksX0_says_2_1 6 rfl rfl)
theorem dX0_says_2_29 : decode cX0_says_2 29 = .ok (.invokevirtual 378, 3) := dk_182 1 122 (dk_at dksX0_says_2_1 7 rfl rfl)
theorem dX0_says_2_32 : decode cX0_says_2 32 = .ok (.aload_n 0, 1) := dk_42 (dk_at dksX0_says_2_1 10 rfl rfl)
theorem dX0_says_2_33 : decode cX0_says_2 33 = .ok (.getfield 16, 3) := dk_180 0 16 (dk_at dksX0_says_2_1 11 rfl rfl)
theorem dX0_says_2_36 : decode cX0_says_2 36 = .ok (.getfield 324, 3) := dk_180 1 68 (dk_at dksX0_says_2_1 14 rfl rfl)
theorem dX0_says_2_39 : decode cX0_says_2 39 = .ok (.iload_n 2, 1) := dk_28 (dk_at dksX0_says_2_1 17 rfl rfl)
theorem dX0_says_2_40 : decode cX0_says_2 40 = .ok (.invokevirtual 382, 3) := dk_182 1 126 (dk_at dksX0_says_2_1 18 rfl rfl)
theorem dX0_says_2_43 : decode cX0_says_2 43 = .ok (.istore_n 3, 1) := dk_62 (dk_at dksX0_says_2_1 21 rfl rfl)
theorem dX0_says_2_44 : decode cX0_says_2 44 = .ok (.iload_n 3, 1) := dk_29 (dk_at dksX0_says_2_1 22 rfl rfl)
theorem dX0_says_2_45 : decode cX0_says_2 45 = .ok (.iconst (-1), 1) := dk_2 (dk_at dksX0_says_2_1 23 rfl rfl)
theorem dX0_says_2_46 : decode cX0_says_2 46 = .ok (.if_icmp .ne 8, 3) := dk_160 0 8 (dk_at dksX0_says_2_2 0 rfl rfl)
theorem dX0_says_2_49 : decode cX0_says_2 49 = .ok (.bipush 100, 2) := dk_16 100 (dk_at dksX0_says_2_2 3 rfl rfl)
theorem dX0_says_2_51 : decode cX0_says_2 51 = .ok (.goto 4, 3) := dk_167 0 4 (dk_at dksX0_says_2_2 5 rfl rfl)
theorem dX0_says_2_54 : decode cX0_says_2 54 = .ok (.iload_n 3, 1) := dk_29 (dk_at dksX0_says_2_2 8 rfl rfl)
theorem dX0_says_2_55 : decode cX0_says_2 55 = .ok (.ireturn, 1) := dk_172 (dk_at dksX0_says_2_2 9 rfl rfl)
abbrev cX0_stops : ByteArray := prog_1_method_55_code
def yX0_stops : MethodName := ⟨RX0, "stops", "(I)I"⟩
def dkwX0_stops_2 : List UInt8 := [167, 255, 220, 2, 172]
abbrev dktX0_stops_2 : List UInt8 := dkwX0_stops_2 ++ []
def dkwX0_stops_1 : List UInt8 := [27, 182, 1, 122, 42, 180, 0, 16, 180, 1, 68, 28, 182, 1, 126, 2, 160, 0, 5, 28, 172, 132, 2, 1]
abbrev dktX0_stops_1 : List UInt8 := dkwX0_stops_1 ++ dktX0_stops_2
def dkwX0_stops_0 : List UInt8 := [42, 27, 182, 1, 91, 154, 0, 5, 2, 172, 3, 61, 28, 42, 180, 0, 16, 180, 1, 65, 162, 0, 31, 42]
abbrev dktX0_stops_0 : List UInt8 := dkwX0_stops_0 ++ dktX0_stops_1
theorem dksX0_stops_0 : cX0_stops.data.toList.drop 0 = dktX0_stops_0 := by decide +kernel
theorem dksX0_stops_1 : cX0_stops.data.toList.drop 24 = dktX0_stops_1 := dk_seg dksX0_stops_0 24 rfl rfl
theorem dksX0_stops_2 : cX0_stops.data.toList.drop 48 = dktX0_stops_2 := dk_seg dksX0_stops_1 24 rfl rfl
theorem dX0_stops_0 : decode cX0_stops 0 = .ok (.aload_n 0, 1) := dk_42 (dk_at dksX0_stops_0 0 rfl rfl)
theorem dX0_stops_1 : decode cX0_stops 1 = .ok (.iload_n 1, 1) := dk_27 (dk_at dksX0_stops_0 1 rfl rfl)
theorem dX0_stops_2 : decode cX0_stops 2 = .ok (.invokevirtual 347, 3) := dk_182 1 91 (dk_at dksX0_stops_0 2 rfl rfl)
theorem dX0_stops_5 : decode cX0_stops 5 = .ok (.ifCond .ne 5, 3) := dk_154 0 5 (dk_at dksX0_stops_0 5 rfl rfl)
theorem dX0_stops_8 : decode cX0_stops 8 = .ok (.iconst (-1), 1) := dk_2 (dk_at dksX0_stops_0 8 rfl rfl)
theorem dX0_stops_9 : decode cX0_stops 9 = .ok (.ireturn, 1) := dk_172 (dk_at dksX0_stops_0 9 rfl rfl)
theorem dX0_stops_10 : decode cX0_stops 10 = .ok (.iconst 0, 1) := dk_3 (dk_at dksX0_stops_0 10 rfl rfl)
theorem dX0_stops_11 : decode cX0_stops 11 = .ok (.istore_n 2, 1) := dk_61 (dk_at dksX0_stops_0 11 rfl rfl)
theorem dX0_stops_12 : decode cX0_stops 12 = .ok (.iload_n 2, 1) := dk_28 (dk_at dksX0_stops_0 12 rfl rfl)
theorem dX0_stops_13 : decode cX0_stops 13 = .ok (.aload_n 0, 1) := dk_42 (dk_at dksX0_stops_0 13 rfl rfl)
theorem dX0_stops_14 : decode cX0_stops 14 = .ok (.getfield 16, 3) := dk_180 0 16 (dk_at dksX0_stops_0 14 rfl rfl)
theorem dX0_stops_17 : decode cX0_stops 17 = .ok (.getfield 321, 3) := dk_180 1 65 (dk_at dksX0_stops_0 17 rfl rfl)
theorem dX0_stops_20 : decode cX0_stops 20 = .ok (.if_icmp .ge 31, 3) := dk_162 0 31 (dk_at dksX0_stops_0 20 rfl rfl)
theorem dX0_stops_23 : decode cX0_stops 23 = .ok (.aload_n 0, 1) := dk_42 (dk_at dksX0_stops_0 23 rfl rfl)
theorem dX0_stops_24 : decode cX0_stops 24 = .ok (.iload_n 1, 1) := dk_27 (dk_at dksX0_stops_1 0 rfl rfl)
theorem dX0_stops_25 : decode cX0_stops 25 = .ok (.invokevirtual 378, 3) := dk_182 1 122 (dk_at dksX0_stops_1 1 rfl rfl)
theorem dX0_stops_28 : decode cX0_stops 28 = .ok (.aload_n 0, 1) := dk_42 (dk_at dksX0_stops_1 4 rfl rfl)
theorem dX0_stops_29 : decode cX0_stops 29 = .ok (.getfield 16, 3) := dk_180 0 16 (dk_at dksX0_stops_1 5 rfl rfl)
theorem dX0_stops_32 : decode cX0_stops 32 = .ok (.getfield 324, 3) := dk_180 1 68 (dk_at dksX0_stops_1 8 rfl rfl)
theorem dX0_stops_35 : decode cX0_stops 35 = .ok (.iload_n 2, 1) := dk_28 (dk_at dksX0_stops_1 11 rfl rfl)
theorem dX0_stops_36 : decode cX0_stops 36 = .ok (.invokevirtual 382, 3) := dk_182 1 126 (dk_at dksX0_stops_1 12 rfl rfl)
theorem dX0_stops_39 : decode cX0_stops 39 = .ok (.iconst (-1), 1) := dk_2 (dk_at dksX0_stops_1 15 rfl rfl)
theorem dX0_stops_40 : decode cX0_stops 40 = .ok (.if_icmp .ne 5, 3) := dk_160 0 5 (dk_at dksX0_stops_1 16 rfl rfl)
theorem dX0_stops_43 : decode cX0_stops 43 = .ok (.iload_n 2, 1) := dk_28 (dk_at dksX0_stops_1 19 rfl rfl)
theorem dX0_stops_44 : decode cX0_stops 44 = .ok (.ireturn, 1) := dk_172 (dk_at dksX0_stops_1 20 rfl rfl)
theorem dX0_stops_45 : decode cX0_stops 45 = .ok (.iinc 2 1, 3) := dk_132 2 1 (dk_at dksX0_stops_1 21 rfl rfl)
theorem dX0_stops_48 : decode cX0_stops 48 = .ok (.goto (-36), 3) := dk_167 255 220 (dk_at dksX0_stops_2 0 rfl rfl)
theorem dX0_stops_51 : decode cX0_stops 51 = .ok (.iconst (-1), 1) := dk_2 (dk_at dksX0_stops_2 3 rfl rfl)
theorem dX0_stops_52 : decode cX0_stops 52 = .ok (.ireturn, 1) := dk_172 (dk_at dksX0_stops_2 4 rfl rfl)
abbrev cX0_apart : ByteArray := prog_1_method_56_code
def yX0_apart : MethodName := ⟨RX0, "apart", "(III)I"⟩
def dkwX0_apart_2 : List UInt8 := [182, 1, 134, 172]
abbrev dktX0_apart_2 : List UInt8 := dkwX0_apart_2 ++ []
def dkwX0_apart_1 : List UInt8 := [180, 0, 44, 42, 27, 182, 1, 122, 42, 28, 182, 1, 122, 182, 1, 130, 87, 42, 180, 0, 44, 29]
abbrev dktX0_apart_1 : List UInt8 := dkwX0_apart_1 ++ dktX0_apart_2
def dkwX0_apart_0 : List UInt8 := [42, 27, 182, 1, 91, 153, 0, 16, 42, 28, 182, 1, 91, 153, 0, 8, 29, 2, 162, 0, 5, 2, 172, 42]
abbrev dktX0_apart_0 : List UInt8 := dkwX0_apart_0 ++ dktX0_apart_1
theorem dksX0_apart_0 : cX0_apart.data.toList.drop 0 = dktX0_apart_0 := by decide +kernel
theorem dksX0_apart_1 : cX0_apart.data.toList.drop 24 = dktX0_apart_1 := dk_seg dksX0_apart_0 24 rfl rfl
theorem dksX0_apart_2 : cX0_apart.data.toList.drop 46 = dktX0_apart_2 := dk_seg dksX0_apart_1 22 rfl rfl
theorem dX0_apart_0 : decode cX0_apart 0 = .ok (.aload_n 0, 1) := dk_42 (dk_at dksX0_apart_0 0 rfl rfl)
theorem dX0_apart_1 : decode cX0_apart 1 = .ok (.iload_n 1, 1) := dk_27 (dk_at dksX0_apart_0 1 rfl rfl)
theorem dX0_apart_2 : decode cX0_apart 2 = .ok (.invokevirtual 347, 3) := dk_182 1 91 (dk_at dksX0_apart_0 2 rfl rfl)
theorem dX0_apart_5 : decode cX0_apart 5 = .ok (.ifCond .eq 16, 3) := dk_153 0 16 (dk_at dksX0_apart_0 5 rfl rfl)
theorem dX0_apart_8 : decode cX0_apart 8 = .ok (.aload_n 0, 1) := dk_42 (dk_at dksX0_apart_0 8 rfl rfl)
theorem dX0_apart_9 : decode cX0_apart 9 = .ok (.iload_n 2, 1) := dk_28 (dk_at dksX0_apart_0 9 rfl rfl)
theorem dX0_apart_10 : decode cX0_apart 10 = .ok (.invokevirtual 347, 3) := dk_182 1 91 (dk_at dksX0_apart_0 10 rfl rfl)
theorem dX0_apart_13 : decode cX0_apart 13 = .ok (.ifCond .eq 8, 3) := dk_153 0 8 (dk_at dksX0_apart_0 13 rfl rfl)
theorem dX0_apart_16 : decode cX0_apart 16 = .ok (.iload_n 3, 1) := dk_29 (dk_at dksX0_apart_0 16 rfl rfl)
theorem dX0_apart_17 : decode cX0_apart 17 = .ok (.iconst (-1), 1) := dk_2 (dk_at dksX0_apart_0 17 rfl rfl)
theorem dX0_apart_18 : decode cX0_apart 18 = .ok (.if_icmp .ge 5, 3) := dk_162 0 5 (dk_at dksX0_apart_0 18 rfl rfl)
theorem dX0_apart_21 : decode cX0_apart 21 = .ok (.iconst (-1), 1) := dk_2 (dk_at dksX0_apart_0 21 rfl rfl)
theorem dX0_apart_22 : decode cX0_apart 22 = .ok (.ireturn, 1) := dk_172 (dk_at dksX0_apart_0 22 rfl rfl)
theorem dX0_apart_23 : decode cX0_apart 23 = .ok (.aload_n 0, 1) := dk_42 (dk_at dksX0_apart_0 23 rfl rfl)
theorem dX0_apart_24 : decode cX0_apart 24 = .ok (.getfield 44, 3) := dk_180 0 44 (dk_at dksX0_apart_1 0 rfl rfl)
theorem dX0_apart_27 : decode cX0_apart 27 = .ok (.aload_n 0, 1) := dk_42 (dk_at dksX0_apart_1 3 rfl rfl)
theorem dX0_apart_28 : decode cX0_apart 28 = .ok (.iload_n 1, 1) := dk_27 (dk_at dksX0_apart_1 4 rfl rfl)
theorem dX0_apart_29 : decode cX0_apart 29 = .ok (.invokevirtual 378, 3) := dk_182 1 122 (dk_at dksX0_apart_1 5 rfl rfl)
theorem dX0_apart_32 : decode cX0_apart 32 = .ok (.aload_n 0, 1) := dk_42 (dk_at dksX0_apart_1 8 rfl rfl)
theorem dX0_apart_33 : decode cX0_apart 33 = .ok (.iload_n 2, 1) := dk_28 (dk_at dksX0_apart_1 9 rfl rfl)
theorem dX0_apart_34 : decode cX0_apart 34 = .ok (.invokevirtual 378, 3) := dk_182 1 122 (dk_at dksX0_apart_1 10 rfl rfl)
theorem dX0_apart_37 : decode cX0_apart 37 = .ok (.invokevirtual 386, 3) := dk_182 1 130 (dk_at dksX0_apart_1 13 rfl rfl)
theorem dX0_apart_40 : decode cX0_apart 40 = .ok (.pop, 1) := dk_87 (dk_at dksX0_apart_1 16 rfl rfl)
theorem dX0_apart_41 : decode cX0_apart 41 = .ok (.aload_n 0, 1) := dk_42 (dk_at dksX0_apart_1 17 rfl rfl)
theorem dX0_apart_42 : decode cX0_apart 42 = .ok (.getfield 44, 3) := dk_180 0 44 (dk_at dksX0_apart_1 18 rfl rfl)
theorem dX0_apart_45 : decode cX0_apart 45 = .ok (.iload_n 3, 1) := dk_29 (dk_at dksX0_apart_1 21 rfl rfl)
theorem dX0_apart_46 : decode cX0_apart 46 = .ok (.invokevirtual 390, 3) := dk_182 1 134 (dk_at dksX0_apart_2 0 rfl rfl)
theorem dX0_apart_49 : decode cX0_apart 49 = .ok (.ireturn, 1) := dk_172 (dk_at dksX0_apart_2 3 rfl rfl)
abbrev cX0_trap : ByteArray := prog_1_method_57_code
def yX0_trap : MethodName := ⟨RX0, "trap", "(II)I"⟩
def dkwX0_trap_3 : List UInt8 := [45, 42, 180, 0, 51, 182, 1, 130, 87, 42, 180, 0, 44, 28, 182, 1, 134, 172]
abbrev dktX0_trap_3 : List UInt8 := dkwX0_trap_3 ++ []
def dkwX0_trap_2 : List UInt8 := [153, 0, 14, 42, 180, 0, 51, 21, 4, 3, 3, 182, 0, 190, 132, 4, 1, 167, 255, 226, 42, 180, 0, 44]
abbrev dktX0_trap_2 : List UInt8 := dkwX0_trap_2 ++ dktX0_trap_3
def dkwX0_trap_1 : List UInt8 := [180, 0, 51, 45, 182, 1, 137, 3, 54, 4, 21, 4, 16, 36, 162, 0, 29, 45, 21, 4, 182, 1, 102]
abbrev dktX0_trap_1 : List UInt8 := dkwX0_trap_1 ++ dktX0_trap_2
def dkwX0_trap_0 : List UInt8 := [42, 27, 182, 1, 91, 153, 0, 8, 28, 2, 162, 0, 5, 2, 172, 42, 27, 182, 1, 122, 78, 42]
abbrev dktX0_trap_0 : List UInt8 := dkwX0_trap_0 ++ dktX0_trap_1
theorem dksX0_trap_0 : cX0_trap.data.toList.drop 0 = dktX0_trap_0 := by decide +kernel
theorem dksX0_trap_1 : cX0_trap.data.toList.drop 22 = dktX0_trap_1 := dk_seg dksX0_trap_0 22 rfl rfl
theorem dksX0_trap_2 : cX0_trap.data.toList.drop 45 = dktX0_trap_2 := dk_seg dksX0_trap_1 23 rfl rfl
theorem dksX0_trap_3 : cX0_trap.data.toList.drop 69 = dktX0_trap_3 := dk_seg dksX0_trap_2 24 rfl rfl
theorem dX0_trap_0 : decode cX0_trap 0 = .ok (.aload_n 0, 1) := dk_42 (dk_at dksX0_trap_0 0 rfl rfl)
theorem dX0_trap_1 : decode cX0_trap 1 = .ok (.iload_n 1, 1) := dk_27 (dk_at dksX0_trap_0 1 rfl rfl)
theorem dX0_trap_2 : decode cX0_trap 2 = .ok (.invokevirtual 347, 3) := dk_182 1 91 (dk_at dksX0_trap_0 2 rfl rfl)
theorem dX0_trap_5 : decode cX0_trap 5 = .ok (.ifCond .eq 8, 3) := dk_153 0 8 (dk_at dksX0_trap_0 5 rfl rfl)
theorem dX0_trap_8 : decode cX0_trap 8 = .ok (.iload_n 2, 1) := dk_28 (dk_at dksX0_trap_0 8 rfl rfl)
theorem dX0_trap_9 : decode cX0_trap 9 = .ok (.iconst (-1), 1) := dk_2 (dk_at dksX0_trap_0 9 rfl rfl)
theorem dX0_trap_10 : decode cX0_trap 10 = .ok (.if_icmp .ge 5, 3) := dk_162 0 5 (dk_at dksX0_trap_0 10 rfl rfl)
theorem dX0_trap_13 : decode cX0_trap 13 = .ok (.iconst (-1), 1) := dk_2 (dk_at dksX0_trap_0 13 rfl rfl)
theorem dX0_trap_14 : decode cX0_trap 14 = .ok (.ireturn, 1) := dk_172 (dk_at dksX0_trap_0 14 rfl rfl)
theorem dX0_trap_15 : decode cX0_trap 15 = .ok (.aload_n 0, 1) := dk_42 (dk_at dksX0_trap_0 15 rfl rfl)
theorem dX0_trap_16 : decode cX0_trap 16 = .ok (.iload_n 1, 1) := dk_27 (dk_at dksX0_trap_0 16 rfl rfl)
theorem dX0_trap_17 : decode cX0_trap 17 = .ok (.invokevirtual 378, 3) := dk_182 1 122 (dk_at dksX0_trap_0 17 rfl rfl)
theorem dX0_trap_20 : decode cX0_trap 20 = .ok (.astore_n 3, 1) := dk_78 (dk_at dksX0_trap_0 20 rfl rfl)
theorem dX0_trap_21 : decode cX0_trap 21 = .ok (.aload_n 0, 1) := dk_42 (dk_at dksX0_trap_0 21 rfl rfl)
theorem dX0_trap_22 : decode cX0_trap 22 = .ok (.getfield 51, 3) := dk_180 0 51 (dk_at dksX0_trap_1 0 rfl rfl)
theorem dX0_trap_25 : decode cX0_trap 25 = .ok (.aload_n 3, 1) := dk_45 (dk_at dksX0_trap_1 3 rfl rfl)
theorem dX0_trap_26 : decode cX0_trap 26 = .ok (.invokevirtual 393, 3) := dk_182 1 137 (dk_at dksX0_trap_1 4 rfl rfl)
theorem dX0_trap_29 : decode cX0_trap 29 = .ok (.iconst 0, 1) := dk_3 (dk_at dksX0_trap_1 7 rfl rfl)
theorem dX0_trap_30 : decode cX0_trap 30 = .ok (.istore 4, 2) := dk_54 4 (dk_at dksX0_trap_1 8 rfl rfl)
theorem dX0_trap_32 : decode cX0_trap 32 = .ok (.iload 4, 2) := dk_21 4 (dk_at dksX0_trap_1 10 rfl rfl)
theorem dX0_trap_34 : decode cX0_trap 34 = .ok (.bipush 36, 2) := dk_16 36 (dk_at dksX0_trap_1 12 rfl rfl)
theorem dX0_trap_36 : decode cX0_trap 36 = .ok (.if_icmp .ge 29, 3) := dk_162 0 29 (dk_at dksX0_trap_1 14 rfl rfl)
theorem dX0_trap_39 : decode cX0_trap 39 = .ok (.aload_n 3, 1) := dk_45 (dk_at dksX0_trap_1 17 rfl rfl)
theorem dX0_trap_40 : decode cX0_trap 40 = .ok (.iload 4, 2) := dk_21 4 (dk_at dksX0_trap_1 18 rfl rfl)
theorem dX0_trap_42 : decode cX0_trap 42 = .ok (.invokevirtual 358, 3) := dk_182 1 102 (dk_at dksX0_trap_1 20 rfl rfl)
theorem dX0_trap_45 : decode cX0_trap 45 = .ok (.ifCond .eq 14, 3) := dk_153 0 14 (dk_at dksX0_trap_2 0 rfl rfl)
theorem dX0_trap_48 : decode cX0_trap 48 = .ok (.aload_n 0, 1) := dk_42 (dk_at dksX0_trap_2 3 rfl rfl)
theorem dX0_trap_49 : decode cX0_trap 49 = .ok (.getfield 51, 3) := dk_180 0 51 (dk_at dksX0_trap_2 4 rfl rfl)
theorem dX0_trap_52 : decode cX0_trap 52 = .ok (.iload 4, 2) := dk_21 4 (dk_at dksX0_trap_2 7 rfl rfl)
theorem dX0_trap_54 : decode cX0_trap 54 = .ok (.iconst 0, 1) := dk_3 (dk_at dksX0_trap_2 9 rfl rfl)
theorem dX0_trap_55 : decode cX0_trap 55 = .ok (.iconst 0, 1) := dk_3 (dk_at dksX0_trap_2 10 rfl rfl)
theorem dX0_trap_56 : decode cX0_trap 56 = .ok (.invokevirtual 190, 3) := dk_182 0 190 (dk_at dksX0_trap_2 11 rfl rfl)
theorem dX0_trap_59 : decode cX0_trap 59 = .ok (.iinc 4 1, 3) := dk_132 4 1 (dk_at dksX0_trap_2 14 rfl rfl)
theorem dX0_trap_62 : decode cX0_trap 62 = .ok (.goto (-30), 3) := dk_167 255 226 (dk_at dksX0_trap_2 17 rfl rfl)
theorem dX0_trap_65 : decode cX0_trap 65 = .ok (.aload_n 0, 1) := dk_42 (dk_at dksX0_trap_2 20 rfl rfl)
theorem dX0_trap_66 : decode cX0_trap 66 = .ok (.getfield 44, 3) := dk_180 0 44 (dk_at dksX0_trap_2 21 rfl rfl)
theorem dX0_trap_69 : decode cX0_trap 69 = .ok (.aload_n 3, 1) := dk_45 (dk_at dksX0_trap_3 0 rfl rfl)
theorem dX0_trap_70 : decode cX0_trap 70 = .ok (.aload_n 0, 1) := dk_42 (dk_at dksX0_trap_3 1 rfl rfl)
theorem dX0_trap_71 : decode cX0_trap 71 = .ok (.getfield 51, 3) := dk_180 0 51 (dk_at dksX0_trap_3 2 rfl rfl)
theorem dX0_trap_74 : decode cX0_trap 74 = .ok (.invokevirtual 386, 3) := dk_182 1 130 (dk_at dksX0_trap_3 5 rfl rfl)
theorem dX0_trap_77 : decode cX0_trap 77 = .ok (.pop, 1) := dk_87 (dk_at dksX0_trap_3 8 rfl rfl)
theorem dX0_trap_78 : decode cX0_trap 78 = .ok (.aload_n 0, 1) := dk_42 (dk_at dksX0_trap_3 9 rfl rfl)
theorem dX0_trap_79 : decode cX0_trap 79 = .ok (.getfield 44, 3) := dk_180 0 44 (dk_at dksX0_trap_3 10 rfl rfl)
theorem dX0_trap_82 : decode cX0_trap 82 = .ok (.iload_n 2, 1) := dk_28 (dk_at dksX0_trap_3 13 rfl rfl)
theorem dX0_trap_83 : decode cX0_trap 83 = .ok (.invokevirtual 390, 3) := dk_182 1 134 (dk_at dksX0_trap_3 14 rfl rfl)
theorem dX0_trap_86 : decode cX0_trap 86 = .ok (.ireturn, 1) := dk_172 (dk_at dksX0_trap_3 17 rfl rfl)
abbrev cX0_talk : ByteArray := prog_1_method_59_code
def yX0_talk : MethodName := ⟨RX0, "talk", "(IIII)I"⟩
def dkwX0_talk_5 : List UInt8 := [180, 0, 61, 180, 1, 153, 167, 0, 10, 42, 180, 0, 61, 180, 1, 156, 172]
abbrev dktX0_talk_5 : List UInt8 := dkwX0_talk_5 ++ []
def dkwX0_talk_4 : List UInt8 := [180, 1, 151, 167, 0, 35, 21, 5, 154, 0, 7, 2, 167, 0, 26, 21, 4, 4, 160, 0, 13, 42]
abbrev dktX0_talk_4 : List UInt8 := dkwX0_talk_4 ++ dktX0_talk_5
def dkwX0_talk_3 : List UInt8 := [182, 1, 147, 172, 21, 4, 154, 0, 22, 21, 5, 153, 0, 7, 2, 167, 0, 45, 42, 180, 0, 61]
abbrev dktX0_talk_3 : List UInt8 := dkwX0_talk_3 ++ dktX0_talk_4
def dkwX0_talk_2 : List UInt8 := [29, 182, 1, 143, 54, 5, 21, 4, 16, 10, 161, 0, 18, 42, 180, 0, 61, 21, 5, 21, 4, 16, 10, 100]
abbrev dktX0_talk_2 : List UInt8 := dkwX0_talk_2 ++ dktX0_talk_3
def dkwX0_talk_1 : List UInt8 := [16, 99, 184, 0, 122, 154, 0, 5, 2, 172, 42, 180, 0, 61, 42, 27, 182, 1, 122, 42, 28, 182, 1, 122]
abbrev dktX0_talk_1 : List UInt8 := dkwX0_talk_1 ++ dktX0_talk_2
def dkwX0_talk_0 : List UInt8 := [42, 27, 28, 29, 182, 1, 140, 153, 0, 25, 21, 4, 3, 5, 184, 0, 122, 154, 0, 17, 21, 4, 16, 10]
abbrev dktX0_talk_0 : List UInt8 := dkwX0_talk_0 ++ dktX0_talk_1
theorem dksX0_talk_0 : cX0_talk.data.toList.drop 0 = dktX0_talk_0 := by decide +kernel
theorem dksX0_talk_1 : cX0_talk.data.toList.drop 24 = dktX0_talk_1 := dk_seg dksX0_talk_0 24 rfl rfl
theorem dksX0_talk_2 : cX0_talk.data.toList.drop 48 = dktX0_talk_2 := dk_seg dksX0_talk_1 24 rfl rfl
theorem dksX0_talk_3 : cX0_talk.data.toList.drop 72 = dktX0_talk_3 := dk_seg dksX0_talk_2 24 rfl rfl
theorem dksX0_talk_4 : cX0_talk.data.toList.drop 94 = dktX0_talk_4 := dk_seg dksX0_talk_3 22 rfl rfl
theorem dksX0_talk_5 : cX0_talk.data.toList.drop 116 = dktX0_talk_5 := dk_seg dksX0_talk_4 22 rfl rfl
theorem dX0_talk_0 : decode cX0_talk 0 = .ok (.aload_n 0, 1) := dk_42 (dk_at dksX0_talk_0 0 rfl rfl)
theorem dX0_talk_1 : decode cX0_talk 1 = .ok (.iload_n 1, 1) := dk_27 (dk_at dksX0_talk_0 1 rfl rfl)
theorem dX0_talk_2 : decode cX0_talk 2 = .ok (.iload_n 2, 1) := dk_28 (dk_at dksX0_talk_0 2 rfl rfl)
theorem dX0_talk_3 : decode cX0_talk 3 = .ok (.iload_n 3, 1) := dk_29 (dk_at dksX0_talk_0 3 rfl rfl)
theorem dX0_talk_4 : decode cX0_talk 4 = .ok (.invokevirtual 396, 3) := dk_182 1 140 (dk_at dksX0_talk_0 4 rfl rfl)
theorem dX0_talk_7 : decode cX0_talk 7 = .ok (.ifCond .eq 25, 3) := dk_153 0 25 (dk_at dksX0_talk_0 7 rfl rfl)
theorem dX0_talk_10 : decode cX0_talk 10 = .ok (.iload 4, 2) := dk_21 4 (dk_at dksX0_talk_0 10 rfl rfl)
theorem dX0_talk_12 : decode cX0_talk 12 = .ok (.iconst 0, 1) := dk_3 (dk_at dksX0_talk_0 12 rfl rfl)
theorem dX0_talk_13 : decode cX0_talk 13 = .ok (.iconst 2, 1) := dk_5 (dk_at dksX0_talk_0 13 rfl rfl)
theorem dX0_talk_14 : decode cX0_talk 14 = .ok (.invokestatic 122, 3) := dk_184 0 122 (dk_at dksX0_talk_0 14 rfl rfl)
theorem dX0_talk_17 : decode cX0_talk 17 = .ok (.ifCond .ne 17, 3) := dk_154 0 17 (dk_at dksX0_talk_0 17 rfl rfl)
theorem dX0_talk_20 : decode cX0_talk 20 = .ok (.iload 4, 2) := dk_21 4 (dk_at dksX0_talk_0 20 rfl rfl)
theorem dX0_talk_22 : decode cX0_talk 22 = .ok (.bipush 10, 2) := dk_16 10 (dk_at dksX0_talk_0 22 rfl rfl)
theorem dX0_talk_24 : decode cX0_talk 24 = .ok (.bipush 99, 2) := dk_16 99 (dk_at dksX0_talk_1 0 rfl rfl)
theorem dX0_talk_26 : decode cX0_talk 26 = .ok (.invokestatic 122, 3) := dk_184 0 122 (dk_at dksX0_talk_1 2 rfl rfl)
theorem dX0_talk_29 : decode cX0_talk 29 = .ok (.ifCond .ne 5, 3) := dk_154 0 5 (dk_at dksX0_talk_1 5 rfl rfl)
theorem dX0_talk_32 : decode cX0_talk 32 = .ok (.iconst (-1), 1) := dk_2 (dk_at dksX0_talk_1 8 rfl rfl)
theorem dX0_talk_33 : decode cX0_talk 33 = .ok (.ireturn, 1) := dk_172 (dk_at dksX0_talk_1 9 rfl rfl)
theorem dX0_talk_34 : decode cX0_talk 34 = .ok (.aload_n 0, 1) := dk_42 (dk_at dksX0_talk_1 10 rfl rfl)
theorem dX0_talk_35 : decode cX0_talk 35 = .ok (.getfield 61, 3) := dk_180 0 61 (dk_at dksX0_talk_1 11 rfl rfl)
theorem dX0_talk_38 : decode cX0_talk 38 = .ok (.aload_n 0, 1) := dk_42 (dk_at dksX0_talk_1 14 rfl rfl)
theorem dX0_talk_39 : decode cX0_talk 39 = .ok (.iload_n 1, 1) := dk_27 (dk_at dksX0_talk_1 15 rfl rfl)
theorem dX0_talk_40 : decode cX0_talk 40 = .ok (.invokevirtual 378, 3) := dk_182 1 122 (dk_at dksX0_talk_1 16 rfl rfl)
theorem dX0_talk_43 : decode cX0_talk 43 = .ok (.aload_n 0, 1) := dk_42 (dk_at dksX0_talk_1 19 rfl rfl)
theorem dX0_talk_44 : decode cX0_talk 44 = .ok (.iload_n 2, 1) := dk_28 (dk_at dksX0_talk_1 20 rfl rfl)
theorem dX0_talk_45 : decode cX0_talk 45 = .ok (.invokevirtual 378, 3) := dk_182 1 122 (dk_at dksX0_talk_1 21 rfl rfl)
theorem dX0_talk_48 : decode cX0_talk 48 = .ok (.iload_n 3, 1) := dk_29 (dk_at dksX0_talk_2 0 rfl rfl)
theorem dX0_talk_49 : decode cX0_talk 49 = .ok (.invokevirtual 399, 3) := dk_182 1 143 (dk_at dksX0_talk_2 1 rfl rfl)
theorem dX0_talk_52 : decode cX0_talk 52 = .ok (.istore 5, 2) := dk_54 5 (dk_at dksX0_talk_2 4 rfl rfl)
theorem dX0_talk_54 : decode cX0_talk 54 = .ok (.iload 4, 2) := dk_21 4 (dk_at dksX0_talk_2 6 rfl rfl)
theorem dX0_talk_56 : decode cX0_talk 56 = .ok (.bipush 10, 2) := dk_16 10 (dk_at dksX0_talk_2 8 rfl rfl)
theorem dX0_talk_58 : decode cX0_talk 58 = .ok (.if_icmp .lt 18, 3) := dk_161 0 18 (dk_at dksX0_talk_2 10 rfl rfl)
theorem dX0_talk_61 : decode cX0_talk 61 = .ok (.aload_n 0, 1) := dk_42 (dk_at dksX0_talk_2 13 rfl rfl)
theorem dX0_talk_62 : decode cX0_talk 62 = .ok (.getfield 61, 3) := dk_180 0 61 (dk_at dksX0_talk_2 14 rfl rfl)
theorem dX0_talk_65 : decode cX0_talk 65 = .ok (.iload 5, 2) := dk_21 5 (dk_at dksX0_talk_2 17 rfl rfl)
theorem dX0_talk_67 : decode cX0_talk 67 = .ok (.iload 4, 2) := dk_21 4 (dk_at dksX0_talk_2 19 rfl rfl)
theorem dX0_talk_69 : decode cX0_talk 69 = .ok (.bipush 10, 2) := dk_16 10 (dk_at dksX0_talk_2 21 rfl rfl)
theorem dX0_talk_71 : decode cX0_talk 71 = .ok (.isub, 1) := dk_100 (dk_at dksX0_talk_2 23 rfl rfl)
theorem dX0_talk_72 : decode cX0_talk 72 = .ok (.invokevirtual 403, 3) := dk_182 1 147 (dk_at dksX0_talk_3 0 rfl rfl)
theorem dX0_talk_75 : decode cX0_talk 75 = .ok (.ireturn, 1) := dk_172 (dk_at dksX0_talk_3 3 rfl rfl)
theorem dX0_talk_76 : decode cX0_talk 76 = .ok (.iload 4, 2) := dk_21 4 (dk_at dksX0_talk_3 4 rfl rfl)
theorem dX0_talk_78 : decode cX0_talk 78 = .ok (.ifCond .ne 22, 3) := dk_154 0 22 (dk_at dksX0_talk_3 6 rfl rfl)
theorem dX0_talk_81 : decode cX0_talk 81 = .ok (.iload 5, 2) := dk_21 5 (dk_at dksX0_talk_3 9 rfl rfl)
theorem dX0_talk_83 : decode cX0_talk 83 = .ok (.ifCond .eq 7, 3) := dk_153 0 7 (dk_at dksX0_talk_3 11 rfl rfl)
theorem dX0_talk_86 : decode cX0_talk 86 = .ok (.iconst (-1), 1) := dk_2 (dk_at dksX0_talk_3 14 rfl rfl)
theorem dX0_talk_87 : decode cX0_talk 87 = .ok (.goto 45, 3) := dk_167 0 45 (dk_at dksX0_talk_3 15 rfl rfl)
theorem dX0_talk_90 : decode cX0_talk 90 = .ok (.aload_n 0, 1) := dk_42 (dk_at dksX0_talk_3 18 rfl rfl)
theorem dX0_talk_91 : decode cX0_talk 91 = .ok (.getfield 61, 3) := dk_180 0 61 (dk_at dksX0_talk_3 19 rfl rfl)
theorem dX0_talk_94 : decode cX0_talk 94 = .ok (.getfield 407, 3) := dk_180 1 151 (dk_at dksX0_talk_4 0 rfl rfl)
theorem dX0_talk_97 : decode cX0_talk 97 = .ok (.goto 35, 3) := dk_167 0 35 (dk_at dksX0_talk_4 3 rfl rfl)
theorem dX0_talk_100 : decode cX0_talk 100 = .ok (.iload 5, 2) := dk_21 5 (dk_at dksX0_talk_4 6 rfl rfl)
theorem dX0_talk_102 : decode cX0_talk 102 = .ok (.ifCond .ne 7, 3) := dk_154 0 7 (dk_at dksX0_talk_4 8 rfl rfl)
theorem dX0_talk_105 : decode cX0_talk 105 = .ok (.iconst (-1), 1) := dk_2 (dk_at dksX0_talk_4 11 rfl rfl)
theorem dX0_talk_106 : decode cX0_talk 106 = .ok (.goto 26, 3) := dk_167 0 26 (dk_at dksX0_talk_4 12 rfl rfl)
theorem dX0_talk_109 : decode cX0_talk 109 = .ok (.iload 4, 2) := dk_21 4 (dk_at dksX0_talk_4 15 rfl rfl)
theorem dX0_talk_111 : decode cX0_talk 111 = .ok (.iconst 1, 1) := dk_4 (dk_at dksX0_talk_4 17 rfl rfl)
theorem dX0_talk_112 : decode cX0_talk 112 = .ok (.if_icmp .ne 13, 3) := dk_160 0 13 (dk_at dksX0_talk_4 18 rfl rfl)
theorem dX0_talk_115 : decode cX0_talk 115 = .ok (.aload_n 0, 1) := dk_42 (dk_at dksX0_talk_4 21 rfl rfl)
theorem dX0_talk_116 : decode cX0_talk 116 = .ok (.getfield 61, 3) := dk_180 0 61 (dk_at dksX0_talk_5 0 rfl rfl)
theorem dX0_talk_119 : decode cX0_talk 119 = .ok (.getfield 409, 3) := dk_180 1 153 (dk_at dksX0_talk_5 3 rfl rfl)
theorem dX0_talk_122 : decode cX0_talk 122 = .ok (.goto 10, 3) := dk_167 0 10 (dk_at dksX0_talk_5 6 rfl rfl)
theorem dX0_talk_125 : decode cX0_talk 125 = .ok (.aload_n 0, 1) := dk_42 (dk_at dksX0_talk_5 9 rfl rfl)
theorem dX0_talk_126 : decode cX0_talk 126 = .ok (.getfield 61, 3) := dk_180 0 61 (dk_at dksX0_talk_5 10 rfl rfl)
theorem dX0_talk_129 : decode cX0_talk 129 = .ok (.getfield 412, 3) := dk_180 1 156 (dk_at dksX0_talk_5 13 rfl rfl)
theorem dX0_talk_132 : decode cX0_talk 132 = .ok (.ireturn, 1) := dk_172 (dk_at dksX0_talk_5 16 rfl rfl)
abbrev cX0_areTalking : ByteArray := prog_1_method_58_code
def yX0_areTalking : MethodName := ⟨RX0, "areTalking", "(III)Z"⟩
def dkwX0_areTalking_1 : List UInt8 := [153, 0, 7, 4, 167, 0, 4, 3, 172]
abbrev dktX0_areTalking_1 : List UInt8 := dkwX0_areTalking_1 ++ []
def dkwX0_areTalking_0 : List UInt8 := [42, 27, 182, 1, 91, 153, 0, 24, 42, 28, 182, 1, 91, 153, 0, 16, 29, 3, 8, 184, 0, 122]
abbrev dktX0_areTalking_0 : List UInt8 := dkwX0_areTalking_0 ++ dktX0_areTalking_1
theorem dksX0_areTalking_0 : cX0_areTalking.data.toList.drop 0 = dktX0_areTalking_0 := by decide +kernel
theorem dksX0_areTalking_1 : cX0_areTalking.data.toList.drop 22 = dktX0_areTalking_1 := dk_seg dksX0_areTalking_0 22 rfl rfl
theorem dX0_areTalking_0 : decode cX0_areTalking 0 = .ok (.aload_n 0, 1) := dk_42 (dk_at dksX0_areTalking_0 0 rfl rfl)
theorem dX0_areTalking_1 : decode cX0_areTalking 1 = .ok (.iload_n 1, 1) := dk_27 (dk_at dksX0_areTalking_0 1 rfl rfl)
theorem dX0_areTalking_2 : decode cX0_areTalking 2 = .ok (.invokevirtual 347, 3) := dk_182 1 91 (dk_at dksX0_areTalking_0 2 rfl rfl)
theorem dX0_areTalking_5 : decode cX0_areTalking 5 = .ok (.ifCond .eq 24, 3) := dk_153 0 24 (dk_at dksX0_areTalking_0 5 rfl rfl)
theorem dX0_areTalking_8 : decode cX0_areTalking 8 = .ok (.aload_n 0, 1) := dk_42 (dk_at dksX0_areTalking_0 8 rfl rfl)
theorem dX0_areTalking_9 : decode cX0_areTalking 9 = .ok (.iload_n 2, 1) := dk_28 (dk_at dksX0_areTalking_0 9 rfl rfl)
theorem dX0_areTalking_10 : decode cX0_areTalking 10 = .ok (.invokevirtual 347, 3) := dk_182 1 91 (dk_at dksX0_areTalking_0 10 rfl rfl)
theorem dX0_areTalking_13 : decode cX0_areTalking 13 = .ok (.ifCond .eq 16, 3) := dk_153 0 16 (dk_at dksX0_areTalking_0 13 rfl rfl)
theorem dX0_areTalking_16 : decode cX0_areTalking 16 = .ok (.iload_n 3, 1) := dk_29 (dk_at dksX0_areTalking_0 16 rfl rfl)
theorem dX0_areTalking_17 : decode cX0_areTalking 17 = .ok (.iconst 0, 1) := dk_3 (dk_at dksX0_areTalking_0 17 rfl rfl)
theorem dX0_areTalking_18 : decode cX0_areTalking 18 = .ok (.iconst 5, 1) := dk_8 (dk_at dksX0_areTalking_0 18 rfl rfl)
theorem dX0_areTalking_19 : decode cX0_areTalking 19 = .ok (.invokestatic 122, 3) := dk_184 0 122 (dk_at dksX0_areTalking_0 19 rfl rfl)
theorem dX0_areTalking_22 : decode cX0_areTalking 22 = .ok (.ifCond .eq 7, 3) := dk_153 0 7 (dk_at dksX0_areTalking_1 0 rfl rfl)
theorem dX0_areTalking_25 : decode cX0_areTalking 25 = .ok (.iconst 1, 1) := dk_4 (dk_at dksX0_areTalking_1 3 rfl rfl)
theorem dX0_areTalking_26 : decode cX0_areTalking 26 = .ok (.goto 4, 3) := dk_167 0 4 (dk_at dksX0_areTalking_1 4 rfl rfl)
theorem dX0_areTalking_29 : decode cX0_areTalking 29 = .ok (.iconst 0, 1) := dk_3 (dk_at dksX0_areTalking_1 7 rfl rfl)
theorem dX0_areTalking_30 : decode cX0_areTalking 30 = .ok (.ireturn, 1) := dk_172 (dk_at dksX0_areTalking_1 8 rfl rfl)
abbrev cX0_mends : ByteArray := prog_1_method_60_code
def yX0_mends : MethodName := ⟨RX0, "mends", "(IIII)I"⟩
def dkwX0_mends_7 : List UInt8 := [21, 6, 16, 6, 112, 172]
abbrev dktX0_mends_7 : List UInt8 := dkwX0_mends_7 ++ []
def dkwX0_mends_6 : List UInt8 := [21, 5, 154, 0, 7, 2, 167, 0, 22, 21, 4, 4, 160, 0, 11, 21, 6, 16, 6, 108, 167, 0, 8]
abbrev dktX0_mends_6 : List UInt8 := dkwX0_mends_6 ++ dktX0_mends_7
def dkwX0_mends_5 : List UInt8 := [21, 6, 54, 6, 132, 5, 1, 132, 9, 1, 167, 255, 210, 21, 4, 154, 0, 8, 21, 5, 167, 0, 31]
abbrev dktX0_mends_5 : List UInt8 := dkwX0_mends_5 ++ dktX0_mends_6
def dkwX0_mends_4 : List UInt8 := [21, 8, 21, 9, 182, 1, 168, 154, 0, 6, 167, 0, 20, 21, 5, 154, 0, 8, 21, 9, 167, 0, 5]
abbrev dktX0_mends_4 : List UInt8 := dkwX0_mends_4 ++ dktX0_mends_5
def dkwX0_mends_3 : List UInt8 := [180, 0, 61, 180, 1, 165, 54, 8, 3, 54, 9, 21, 9, 16, 60, 162, 0, 45, 42, 27, 28, 29, 21, 7]
abbrev dktX0_mends_3 : List UInt8 := dkwX0_mends_3 ++ dktX0_mends_4
def dkwX0_mends_2 : List UInt8 := [154, 0, 84, 16, 6, 42, 180, 0, 61, 180, 1, 159, 104, 42, 180, 0, 61, 180, 1, 162, 96, 54, 7, 42]
abbrev dktX0_mends_2 : List UInt8 := dkwX0_mends_2 ++ dktX0_mends_3
def dkwX0_mends_1 : List UInt8 := [54, 5, 2, 54, 6, 42, 180, 0, 61, 42, 27, 182, 1, 122, 42, 28, 182, 1, 122, 29, 182, 1, 143]
abbrev dktX0_mends_1 : List UInt8 := dkwX0_mends_1 ++ dktX0_mends_2
def dkwX0_mends_0 : List UInt8 := [42, 27, 28, 29, 182, 1, 140, 153, 0, 13, 21, 4, 3, 5, 184, 0, 122, 154, 0, 5, 2, 172, 3]
abbrev dktX0_mends_0 : List UInt8 := dkwX0_mends_0 ++ dktX0_mends_1
theorem dksX0_mends_0 : cX0_mends.data.toList.drop 0 = dktX0_mends_0 := by decide +kernel
theorem dksX0_mends_1 : cX0_mends.data.toList.drop 23 = dktX0_mends_1 := dk_seg dksX0_mends_0 23 rfl rfl
theorem dksX0_mends_2 : cX0_mends.data.toList.drop 46 = dktX0_mends_2 := dk_seg dksX0_mends_1 23 rfl rfl
theorem dksX0_mends_3 : cX0_mends.data.toList.drop 70 = dktX0_mends_3 := dk_seg dksX0_mends_2 24 rfl rfl
theorem dksX0_mends_4 : cX0_mends.data.toList.drop 94 = dktX0_mends_4 := dk_seg dksX0_mends_3 24 rfl rfl
theorem dksX0_mends_5 : cX0_mends.data.toList.drop 117 = dktX0_mends_5 := dk_seg dksX0_mends_4 23 rfl rfl
theorem dksX0_mends_6 : cX0_mends.data.toList.drop 140 = dktX0_mends_6 := dk_seg dksX0_mends_5 23 rfl rfl
theorem dksX0_mends_7 : cX0_mends.data.toList.drop 163 = dktX0_mends_7 := dk_seg dksX0_mends_6 23 rfl rfl
theorem dX0_mends_0 : decode cX0_mends 0 = .ok (.aload_n 0, 1) := dk_42 (dk_at dksX0_mends_0 0 rfl rfl)
theorem dX0_mends_1 : decode cX0_mends 1 = .ok (.iload_n 1, 1) := dk_27 (dk_at dksX0_mends_0 1 rfl rfl)
theorem dX0_mends_2 : decode cX0_mends 2 = .ok (.iload_n 2, 1) := dk_28 (dk_at dksX0_mends_0 2 rfl rfl)
theorem dX0_mends_3 : decode cX0_mends 3 = .ok (.iload_n 3, 1) := dk_29 (dk_at dksX0_mends_0 3 rfl rfl)
theorem dX0_mends_4 : decode cX0_mends 4 = .ok (.invokevirtual 396, 3) := dk_182 1 140 (dk_at dksX0_mends_0 4 rfl rfl)
theorem dX0_mends_7 : decode cX0_mends 7 = .ok (.ifCond .eq 13, 3) := dk_153 0 13 (dk_at dksX0_mends_0 7 rfl rfl)
theorem dX0_mends_10 : decode cX0_mends 10 = .ok (.iload 4, 2) := dk_21 4 (dk_at dksX0_mends_0 10 rfl rfl)
theorem dX0_mends_12 : decode cX0_mends 12 = .ok (.iconst 0, 1) := dk_3 (dk_at dksX0_mends_0 12 rfl rfl)
theorem dX0_mends_13 : decode cX0_mends 13 = .ok (.iconst 2, 1) := dk_5 (dk_at dksX0_mends_0 13 rfl rfl)
theorem dX0_mends_14 : decode cX0_mends 14 = .ok (.invokestatic 122, 3) := dk_184 0 122 (dk_at dksX0_mends_0 14 rfl rfl)
theorem dX0_mends_17 : decode cX0_mends 17 = .ok (.ifCond .ne 5, 3) := dk_154 0 5 (dk_at dksX0_mends_0 17 rfl rfl)
theorem dX0_mends_20 : decode cX0_mends 20 = .ok (.iconst (-1), 1) := dk_2 (dk_at dksX0_mends_0 20 rfl rfl)
theorem dX0_mends_21 : decode cX0_mends 21 = .ok (.ireturn, 1) := dk_172 (dk_at dksX0_mends_0 21 rfl rfl)
theorem dX0_mends_22 : decode cX0_mends 22 = .ok (.iconst 0, 1) := dk_3 (dk_at dksX0_mends_0 22 rfl rfl)
theorem dX0_mends_23 : decode cX0_mends 23 = .ok (.istore 5, 2) := dk_54 5 (dk_at dksX0_mends_1 0 rfl rfl)
theorem dX0_mends_25 : decode cX0_mends 25 = .ok (.iconst (-1), 1) := dk_2 (dk_at dksX0_mends_1 2 rfl rfl)
theorem dX0_mends_26 : decode cX0_mends 26 = .ok (.istore 6, 2) := dk_54 6 (dk_at dksX0_mends_1 3 rfl rfl)
theorem dX0_mends_28 : decode cX0_mends 28 = .ok (.aload_n 0, 1) := dk_42 (dk_at dksX0_mends_1 5 rfl rfl)
theorem dX0_mends_29 : decode cX0_mends 29 = .ok (.getfield 61, 3) := dk_180 0 61 (dk_at dksX0_mends_1 6 rfl rfl)
theorem dX0_mends_32 : decode cX0_mends 32 = .ok (.aload_n 0, 1) := dk_42 (dk_at dksX0_mends_1 9 rfl rfl)
theorem dX0_mends_33 : decode cX0_mends 33 = .ok (.iload_n 1, 1) := dk_27 (dk_at dksX0_mends_1 10 rfl rfl)
theorem dX0_mends_34 : decode cX0_mends 34 = .ok (.invokevirtual 378, 3) := dk_182 1 122 (dk_at dksX0_mends_1 11 rfl rfl)
theorem dX0_mends_37 : decode cX0_mends 37 = .ok (.aload_n 0, 1) := dk_42 (dk_at dksX0_mends_1 14 rfl rfl)
theorem dX0_mends_38 : decode cX0_mends 38 = .ok (.iload_n 2, 1) := dk_28 (dk_at dksX0_mends_1 15 rfl rfl)
theorem dX0_mends_39 : decode cX0_mends 39 = .ok (.invokevirtual 378, 3) := dk_182 1 122 (dk_at dksX0_mends_1 16 rfl rfl)
theorem dX0_mends_42 : decode cX0_mends 42 = .ok (.iload_n 3, 1) := dk_29 (dk_at dksX0_mends_1 19 rfl rfl)
theorem dX0_mends_43 : decode cX0_mends 43 = .ok (.invokevirtual 399, 3) := dk_182 1 143 (dk_at dksX0_mends_1 20 rfl rfl)
theorem dX0_mends_46 : decode cX0_mends 46 = .ok (.ifCond .ne 84, 3) := dk_154 0 84 (dk_at dksX0_mends_2 0 rfl rfl)
theorem dX0_mends_49 : decode cX0_mends 49 = .ok (.bipush 6, 2) := dk_16 6 (dk_at dksX0_mends_2 3 rfl rfl)
theorem dX0_mends_51 : decode cX0_mends 51 = .ok (.aload_n 0, 1) := dk_42 (dk_at dksX0_mends_2 5 rfl rfl)
theorem dX0_mends_52 : decode cX0_mends 52 = .ok (.getfield 61, 3) := dk_180 0 61 (dk_at dksX0_mends_2 6 rfl rfl)
theorem dX0_mends_55 : decode cX0_mends 55 = .ok (.getfield 415, 3) := dk_180 1 159 (dk_at dksX0_mends_2 9 rfl rfl)
theorem dX0_mends_58 : decode cX0_mends 58 = .ok (.imul, 1) := dk_104 (dk_at dksX0_mends_2 12 rfl rfl)
theorem dX0_mends_59 : decode cX0_mends 59 = .ok (.aload_n 0, 1) := dk_42 (dk_at dksX0_mends_2 13 rfl rfl)
theorem dX0_mends_60 : decode cX0_mends 60 = .ok (.getfield 61, 3) := dk_180 0 61 (dk_at dksX0_mends_2 14 rfl rfl)
theorem dX0_mends_63 : decode cX0_mends 63 = .ok (.getfield 418, 3) := dk_180 1 162 (dk_at dksX0_mends_2 17 rfl rfl)
theorem dX0_mends_66 : decode cX0_mends 66 = .ok (.iadd, 1) := dk_96 (dk_at dksX0_mends_2 20 rfl rfl)
theorem dX0_mends_67 : decode cX0_mends 67 = .ok (.istore 7, 2) := dk_54 7 (dk_at dksX0_mends_2 21 rfl rfl)
theorem dX0_mends_69 : decode cX0_mends 69 = .ok (.aload_n 0, 1) := dk_42 (dk_at dksX0_mends_2 23 rfl rfl)
theorem dX0_mends_70 : decode cX0_mends 70 = .ok (.getfield 61, 3) := dk_180 0 61 (dk_at dksX0_mends_3 0 rfl rfl)
theorem dX0_mends_73 : decode cX0_mends 73 = .ok (.getfield 421, 3) := dk_180 1 165 (dk_at dksX0_mends_3 3 rfl rfl)
theorem dX0_mends_76 : decode cX0_mends 76 = .ok (.istore 8, 2) := dk_54 8 (dk_at dksX0_mends_3 6 rfl rfl)
theorem dX0_mends_78 : decode cX0_mends 78 = .ok (.iconst 0, 1) := dk_3 (dk_at dksX0_mends_3 8 rfl rfl)
theorem dX0_mends_79 : decode cX0_mends 79 = .ok (.istore 9, 2) := dk_54 9 (dk_at dksX0_mends_3 9 rfl rfl)
theorem dX0_mends_81 : decode cX0_mends 81 = .ok (.iload 9, 2) := dk_21 9 (dk_at dksX0_mends_3 11 rfl rfl)
theorem dX0_mends_83 : decode cX0_mends 83 = .ok (.bipush 60, 2) := dk_16 60 (dk_at dksX0_mends_3 13 rfl rfl)
theorem dX0_mends_85 : decode cX0_mends 85 = .ok (.if_icmp .ge 45, 3) := dk_162 0 45 (dk_at dksX0_mends_3 15 rfl rfl)
theorem dX0_mends_88 : decode cX0_mends 88 = .ok (.aload_n 0, 1) := dk_42 (dk_at dksX0_mends_3 18 rfl rfl)
theorem dX0_mends_89 : decode cX0_mends 89 = .ok (.iload_n 1, 1) := dk_27 (dk_at dksX0_mends_3 19 rfl rfl)
theorem dX0_mends_90 : decode cX0_mends 90 = .ok (.iload_n 2, 1) := dk_28 (dk_at dksX0_mends_3 20 rfl rfl)
theorem dX0_mends_91 : decode cX0_mends 91 = .ok (.iload_n 3, 1) := dk_29 (dk_at dksX0_mends_3 21 rfl rfl)
theorem dX0_mends_92 : decode cX0_mends 92 = .ok (.iload 7, 2) := dk_21 7 (dk_at dksX0_mends_3 22 rfl rfl)
theorem dX0_mends_94 : decode cX0_mends 94 = .ok (.iload 8, 2) := dk_21 8 (dk_at dksX0_mends_4 0 rfl rfl)
theorem dX0_mends_96 : decode cX0_mends 96 = .ok (.iload 9, 2) := dk_21 9 (dk_at dksX0_mends_4 2 rfl rfl)
theorem dX0_mends_98 : decode cX0_mends 98 = .ok (.invokevirtual 424, 3) := dk_182 1 168 (dk_at dksX0_mends_4 4 rfl rfl)
theorem dX0_mends_101 : decode cX0_mends 101 = .ok (.ifCond .ne 6, 3) := dk_154 0 6 (dk_at dksX0_mends_4 7 rfl rfl)
theorem dX0_mends_104 : decode cX0_mends 104 = .ok (.goto 20, 3) := dk_167 0 20 (dk_at dksX0_mends_4 10 rfl rfl)
theorem dX0_mends_107 : decode cX0_mends 107 = .ok (.iload 5, 2) := dk_21 5 (dk_at dksX0_mends_4 13 rfl rfl)
theorem dX0_mends_109 : decode cX0_mends 109 = .ok (.ifCond .ne 8, 3) := dk_154 0 8 (dk_at dksX0_mends_4 15 rfl rfl)
theorem dX0_mends_112 : decode cX0_mends 112 = .ok (.iload 9, 2) := dk_21 9 (dk_at dksX0_mends_4 18 rfl rfl)
theorem dX0_mends_114 : decode cX0_mends 114 = .ok (.goto 5, 3) := dk_167 0 5 (dk_at dksX0_mends_4 20 rfl rfl)
theorem dX0_mends_117 : decode cX0_mends 117 = .ok (.iload 6, 2) := dk_21 6 (dk_at dksX0_mends_5 0 rfl rfl)
theorem dX0_mends_119 : decode cX0_mends 119 = .ok (.istore 6, 2) := dk_54 6 (dk_at dksX0_mends_5 2 rfl rfl)
theorem dX0_mends_121 : decode cX0_mends 121 = .ok (.iinc 5 1, 3) := dk_132 5 1 (dk_at dksX0_mends_5 4 rfl rfl)
theorem dX0_mends_124 : decode cX0_mends 124 = .ok (.iinc 9 1, 3) := dk_132 9 1 (dk_at dksX0_mends_5 7 rfl rfl)
theorem dX0_mends_127 : decode cX0_mends 127 = .ok (.goto (-46), 3) := dk_167 255 210 (dk_at dksX0_mends_5 10 rfl rfl)
theorem dX0_mends_130 : decode cX0_mends 130 = .ok (.iload 4, 2) := dk_21 4 (dk_at dksX0_mends_5 13 rfl rfl)
theorem dX0_mends_132 : decode cX0_mends 132 = .ok (.ifCond .ne 8, 3) := dk_154 0 8 (dk_at dksX0_mends_5 15 rfl rfl)
theorem dX0_mends_135 : decode cX0_mends 135 = .ok (.iload 5, 2) := dk_21 5 (dk_at dksX0_mends_5 18 rfl rfl)
theorem dX0_mends_137 : decode cX0_mends 137 = .ok (.goto 31, 3) := dk_167 0 31 (dk_at dksX0_mends_5 20 rfl rfl)
theorem dX0_mends_140 : decode cX0_mends 140 = .ok (.iload 5, 2) := dk_21 5 (dk_at dksX0_mends_6 0 rfl rfl)
theorem dX0_mends_142 : decode cX0_mends 142 = .ok (.ifCond .ne 7, 3) := dk_154 0 7 (dk_at dksX0_mends_6 2 rfl rfl)
theorem dX0_mends_145 : decode cX0_mends 145 = .ok (.iconst (-1), 1) := dk_2 (dk_at dksX0_mends_6 5 rfl rfl)
theorem dX0_mends_146 : decode cX0_mends 146 = .ok (.goto 22, 3) := dk_167 0 22 (dk_at dksX0_mends_6 6 rfl rfl)
theorem dX0_mends_149 : decode cX0_mends 149 = .ok (.iload 4, 2) := dk_21 4 (dk_at dksX0_mends_6 9 rfl rfl)
theorem dX0_mends_151 : decode cX0_mends 151 = .ok (.iconst 1, 1) := dk_4 (dk_at dksX0_mends_6 11 rfl rfl)
theorem dX0_mends_152 : decode cX0_mends 152 = .ok (.if_icmp .ne 11, 3) := dk_160 0 11 (dk_at dksX0_mends_6 12 rfl rfl)
theorem dX0_mends_155 : decode cX0_mends 155 = .ok (.iload 6, 2) := dk_21 6 (dk_at dksX0_mends_6 15 rfl rfl)
theorem dX0_mends_157 : decode cX0_mends 157 = .ok (.bipush 6, 2) := dk_16 6 (dk_at dksX0_mends_6 17 rfl rfl)
theorem dX0_mends_159 : decode cX0_mends 159 = .ok (.idiv, 1) := dk_108 (dk_at dksX0_mends_6 19 rfl rfl)
theorem dX0_mends_160 : decode cX0_mends 160 = .ok (.goto 8, 3) := dk_167 0 8 (dk_at dksX0_mends_6 20 rfl rfl)
theorem dX0_mends_163 : decode cX0_mends 163 = .ok (.iload 6, 2) := dk_21 6 (dk_at dksX0_mends_7 0 rfl rfl)
theorem dX0_mends_165 : decode cX0_mends 165 = .ok (.bipush 6, 2) := dk_16 6 (dk_at dksX0_mends_7 2 rfl rfl)
theorem dX0_mends_167 : decode cX0_mends 167 = .ok (.irem, 1) := dk_112 (dk_at dksX0_mends_7 4 rfl rfl)
theorem dX0_mends_168 : decode cX0_mends 168 = .ok (.ireturn, 1) := dk_172 (dk_at dksX0_mends_7 5 rfl rfl)
abbrev cX0_isMended : ByteArray := prog_1_method_61_code
def yX0_isMended : MethodName := ⟨RX0, "isMended", "(IIIIII)Z"⟩
def dkwX0_isMended_4 : List UInt8 := [180, 0, 55, 29, 182, 1, 143, 172]
abbrev dktX0_isMended_4 : List UInt8 := dkwX0_isMended_4 ++ []
def dkwX0_isMended_3 : List UInt8 := [21, 6, 16, 6, 108, 21, 6, 16, 6, 112, 182, 0, 190, 42, 180, 0, 61, 42, 180, 0, 51, 42]
abbrev dktX0_isMended_3 : List UInt8 := dkwX0_isMended_3 ++ dktX0_isMended_4
def dkwX0_isMended_2 : List UInt8 := [16, 6, 112, 182, 0, 190, 21, 5, 4, 159, 0, 8, 27, 28, 160, 0, 22, 42, 180, 0, 55, 21, 4]
abbrev dktX0_isMended_2 : List UInt8 := dkwX0_isMended_2 ++ dktX0_isMended_3
def dkwX0_isMended_1 : List UInt8 := [21, 5, 153, 0, 8, 27, 28, 160, 0, 22, 42, 180, 0, 51, 21, 4, 21, 6, 16, 6, 108, 21, 6]
abbrev dktX0_isMended_1 : List UInt8 := dkwX0_isMended_1 ++ dktX0_isMended_2
def dkwX0_isMended_0 : List UInt8 := [42, 180, 0, 51, 42, 27, 182, 1, 122, 182, 1, 137, 42, 180, 0, 55, 42, 28, 182, 1, 122, 182, 1, 137]
abbrev dktX0_isMended_0 : List UInt8 := dkwX0_isMended_0 ++ dktX0_isMended_1
theorem dksX0_isMended_0 : cX0_isMended.data.toList.drop 0 = dktX0_isMended_0 := by decide +kernel
theorem dksX0_isMended_1 : cX0_isMended.data.toList.drop 24 = dktX0_isMended_1 := dk_seg dksX0_isMended_0 24 rfl rfl
theorem dksX0_isMended_2 : cX0_isMended.data.toList.drop 47 = dktX0_isMended_2 := dk_seg dksX0_isMended_1 23 rfl rfl
theorem dksX0_isMended_3 : cX0_isMended.data.toList.drop 70 = dktX0_isMended_3 := dk_seg dksX0_isMended_2 23 rfl rfl
theorem dksX0_isMended_4 : cX0_isMended.data.toList.drop 92 = dktX0_isMended_4 := dk_seg dksX0_isMended_3 22 rfl rfl
theorem dX0_isMended_0 : decode cX0_isMended 0 = .ok (.aload_n 0, 1) := dk_42 (dk_at dksX0_isMended_0 0 rfl rfl)
theorem dX0_isMended_1 : decode cX0_isMended 1 = .ok (.getfield 51, 3) := dk_180 0 51 (dk_at dksX0_isMended_0 1 rfl rfl)
theorem dX0_isMended_4 : decode cX0_isMended 4 = .ok (.aload_n 0, 1) := dk_42 (dk_at dksX0_isMended_0 4 rfl rfl)
theorem dX0_isMended_5 : decode cX0_isMended 5 = .ok (.iload_n 1, 1) := dk_27 (dk_at dksX0_isMended_0 5 rfl rfl)
theorem dX0_isMended_6 : decode cX0_isMended 6 = .ok (.invokevirtual 378, 3) := dk_182 1 122 (dk_at dksX0_isMended_0 6 rfl rfl)
theorem dX0_isMended_9 : decode cX0_isMended 9 = .ok (.invokevirtual 393, 3) := dk_182 1 137 (dk_at dksX0_isMended_0 9 rfl rfl)
theorem dX0_isMended_12 : decode cX0_isMended 12 = .ok (.aload_n 0, 1) := dk_42 (dk_at dksX0_isMended_0 12 rfl rfl)
theorem dX0_isMended_13 : decode cX0_isMended 13 = .ok (.getfield 55, 3) := dk_180 0 55 (dk_at dksX0_isMended_0 13 rfl rfl)
theorem dX0_isMended_16 : decode cX0_isMended 16 = .ok (.aload_n 0, 1) := dk_42 (dk_at dksX0_isMended_0 16 rfl rfl)
theorem dX0_isMended_17 : decode cX0_isMended 17 = .ok (.iload_n 2, 1) := dk_28 (dk_at dksX0_isMended_0 17 rfl rfl)
theorem dX0_isMended_18 : decode cX0_isMended 18 = .ok (.invokevirtual 378, 3) := dk_182 1 122 (dk_at dksX0_isMended_0 18 rfl rfl)
theorem dX0_isMended_21 : decode cX0_isMended 21 = .ok (.invokevirtual 393, 3) := dk_182 1 137 (dk_at dksX0_isMended_0 21 rfl rfl)
theorem dX0_isMended_24 : decode cX0_isMended 24 = .ok (.iload 5, 2) := dk_21 5 (dk_at dksX0_isMended_1 0 rfl rfl)
theorem dX0_isMended_26 : decode cX0_isMended 26 = .ok (.ifCond .eq 8, 3) := dk_153 0 8 (dk_at dksX0_isMended_1 2 rfl rfl)
theorem dX0_isMended_29 : decode cX0_isMended 29 = .ok (.iload_n 1, 1) := dk_27 (dk_at dksX0_isMended_1 5 rfl rfl)
theorem dX0_isMended_30 : decode cX0_isMended 30 = .ok (.iload_n 2, 1) := dk_28 (dk_at dksX0_isMended_1 6 rfl rfl)
theorem dX0_isMended_31 : decode cX0_isMended 31 = .ok (.if_icmp .ne 22, 3) := dk_160 0 22 (dk_at dksX0_isMended_1 7 rfl rfl)
theorem dX0_isMended_34 : decode cX0_isMended 34 = .ok (.aload_n 0, 1) := dk_42 (dk_at dksX0_isMended_1 10 rfl rfl)
theorem dX0_isMended_35 : decode cX0_isMended 35 = .ok (.getfield 51, 3) := dk_180 0 51 (dk_at dksX0_isMended_1 11 rfl rfl)
theorem dX0_isMended_38 : decode cX0_isMended 38 = .ok (.iload 4, 2) := dk_21 4 (dk_at dksX0_isMended_1 14 rfl rfl)
theorem dX0_isMended_40 : decode cX0_isMended 40 = .ok (.iload 6, 2) := dk_21 6 (dk_at dksX0_isMended_1 16 rfl rfl)
theorem dX0_isMended_42 : decode cX0_isMended 42 = .ok (.bipush 6, 2) := dk_16 6 (dk_at dksX0_isMended_1 18 rfl rfl)
theorem dX0_isMended_44 : decode cX0_isMended 44 = .ok (.idiv, 1) := dk_108 (dk_at dksX0_isMended_1 20 rfl rfl)
theorem dX0_isMended_45 : decode cX0_isMended 45 = .ok (.iload 6, 2) := dk_21 6 (dk_at dksX0_isMended_1 21 rfl rfl)
theorem dX0_isMended_47 : decode cX0_isMended 47 = .ok (.bipush 6, 2) := dk_16 6 (dk_at dksX0_isMended_2 0 rfl rfl)
theorem dX0_isMended_49 : decode cX0_isMended 49 = .ok (.irem, 1) := dk_112 (dk_at dksX0_isMended_2 2 rfl rfl)
theorem dX0_isMended_50 : decode cX0_isMended 50 = .ok (.invokevirtual 190, 3) := dk_182 0 190 (dk_at dksX0_isMended_2 3 rfl rfl)
theorem dX0_isMended_53 : decode cX0_isMended 53 = .ok (.iload 5, 2) := dk_21 5 (dk_at dksX0_isMended_2 6 rfl rfl)
theorem dX0_isMended_55 : decode cX0_isMended 55 = .ok (.iconst 1, 1) := dk_4 (dk_at dksX0_isMended_2 8 rfl rfl)
theorem dX0_isMended_56 : decode cX0_isMended 56 = .ok (.if_icmp .eq 8, 3) := dk_159 0 8 (dk_at dksX0_isMended_2 9 rfl rfl)
theorem dX0_isMended_59 : decode cX0_isMended 59 = .ok (.iload_n 1, 1) := dk_27 (dk_at dksX0_isMended_2 12 rfl rfl)
theorem dX0_isMended_60 : decode cX0_isMended 60 = .ok (.iload_n 2, 1) := dk_28 (dk_at dksX0_isMended_2 13 rfl rfl)
theorem dX0_isMended_61 : decode cX0_isMended 61 = .ok (.if_icmp .ne 22, 3) := dk_160 0 22 (dk_at dksX0_isMended_2 14 rfl rfl)
theorem dX0_isMended_64 : decode cX0_isMended 64 = .ok (.aload_n 0, 1) := dk_42 (dk_at dksX0_isMended_2 17 rfl rfl)
theorem dX0_isMended_65 : decode cX0_isMended 65 = .ok (.getfield 55, 3) := dk_180 0 55 (dk_at dksX0_isMended_2 18 rfl rfl)
theorem dX0_isMended_68 : decode cX0_isMended 68 = .ok (.iload 4, 2) := dk_21 4 (dk_at dksX0_isMended_2 21 rfl rfl)
theorem dX0_isMended_70 : decode cX0_isMended 70 = .ok (.iload 6, 2) := dk_21 6 (dk_at dksX0_isMended_3 0 rfl rfl)
theorem dX0_isMended_72 : decode cX0_isMended 72 = .ok (.bipush 6, 2) := dk_16 6 (dk_at dksX0_isMended_3 2 rfl rfl)
theorem dX0_isMended_74 : decode cX0_isMended 74 = .ok (.idiv, 1) := dk_108 (dk_at dksX0_isMended_3 4 rfl rfl)
theorem dX0_isMended_75 : decode cX0_isMended 75 = .ok (.iload 6, 2) := dk_21 6 (dk_at dksX0_isMended_3 5 rfl rfl)
theorem dX0_isMended_77 : decode cX0_isMended 77 = .ok (.bipush 6, 2) := dk_16 6 (dk_at dksX0_isMended_3 7 rfl rfl)
theorem dX0_isMended_79 : decode cX0_isMended 79 = .ok (.irem, 1) := dk_112 (dk_at dksX0_isMended_3 9 rfl rfl)
theorem dX0_isMended_80 : decode cX0_isMended 80 = .ok (.invokevirtual 190, 3) := dk_182 0 190 (dk_at dksX0_isMended_3 10 rfl rfl)
theorem dX0_isMended_83 : decode cX0_isMended 83 = .ok (.aload_n 0, 1) := dk_42 (dk_at dksX0_isMended_3 13 rfl rfl)
theorem dX0_isMended_84 : decode cX0_isMended 84 = .ok (.getfield 61, 3) := dk_180 0 61 (dk_at dksX0_isMended_3 14 rfl rfl)
theorem dX0_isMended_87 : decode cX0_isMended 87 = .ok (.aload_n 0, 1) := dk_42 (dk_at dksX0_isMended_3 17 rfl rfl)
theorem dX0_isMended_88 : decode cX0_isMended 88 = .ok (.getfield 51, 3) := dk_180 0 51 (dk_at dksX0_isMended_3 18 rfl rfl)
theorem dX0_isMended_91 : decode cX0_isMended 91 = .ok (.aload_n 0, 1) := dk_42 (dk_at dksX0_isMended_3 21 rfl rfl)
theorem dX0_isMended_92 : decode cX0_isMended 92 = .ok (.getfield 55, 3) := dk_180 0 55 (dk_at dksX0_isMended_4 0 rfl rfl)
theorem dX0_isMended_95 : decode cX0_isMended 95 = .ok (.iload_n 3, 1) := dk_29 (dk_at dksX0_isMended_4 3 rfl rfl)
theorem dX0_isMended_96 : decode cX0_isMended 96 = .ok (.invokevirtual 399, 3) := dk_182 1 143 (dk_at dksX0_isMended_4 4 rfl rfl)
theorem dX0_isMended_99 : decode cX0_isMended 99 = .ok (.ireturn, 1) := dk_172 (dk_at dksX0_isMended_4 7 rfl rfl)
abbrev cX0_vote : ByteArray := prog_1_method_62_code
def yX0_vote : MethodName := ⟨RX0, "vote", "(II)I"⟩
def dkwX0_vote_10 : List UInt8 := [167, 0, 9, 42, 180, 0, 65, 29, 46, 172]
abbrev dktX0_vote_10 : List UInt8 := dkwX0_vote_10 ++ []
def dkwX0_vote_9 : List UInt8 := [132, 4, 1, 167, 255, 227, 42, 180, 0, 65, 29, 46, 154, 0, 7, 2, 167, 0, 17, 28, 154, 0, 7, 29]
abbrev dktX0_vote_9 : List UInt8 := dkwX0_vote_9 ++ dktX0_vote_10
def dkwX0_vote_8 : List UInt8 := [162, 0, 28, 42, 180, 0, 65, 21, 4, 46, 42, 180, 0, 65, 29, 46, 164, 0, 6, 21, 4, 62]
abbrev dktX0_vote_8 : List UInt8 := dkwX0_vote_8 ++ dktX0_vote_9
def dkwX0_vote_7 : List UInt8 := [28, 5, 160, 0, 11, 42, 180, 0, 65, 16, 10, 46, 172, 3, 62, 4, 54, 4, 21, 4, 16, 10]
abbrev dktX0_vote_7 : List UInt8 := dkwX0_vote_7 ++ dktX0_vote_8
def dkwX0_vote_6 : List UInt8 := [21, 5, 2, 160, 0, 8, 16, 10, 167, 0, 5, 21, 5, 92, 46, 4, 96, 79, 132, 3, 1, 167, 255, 147]
abbrev dktX0_vote_6 : List UInt8 := dkwX0_vote_6 ++ dktX0_vote_7
def dkwX0_vote_5 : List UInt8 := [180, 0, 16, 180, 1, 68, 42, 180, 0, 16, 180, 1, 65, 4, 100, 182, 1, 126, 54, 5, 42, 180, 0, 65]
abbrev dktX0_vote_5 : List UInt8 := dkwX0_vote_5 ++ dktX0_vote_6
def dkwX0_vote_4 : List UInt8 := [180, 1, 84, 42, 182, 0, 229, 182, 1, 74, 154, 0, 6, 167, 0, 51, 25, 4, 180, 0, 145, 42]
abbrev dktX0_vote_4 : List UInt8 := dkwX0_vote_4 ++ dktX0_vote_5
def dkwX0_vote_3 : List UInt8 := [180, 0, 136, 29, 182, 0, 139, 192, 0, 143, 58, 4, 25, 4, 180, 0, 204, 27, 160, 0, 70, 42, 25, 4]
abbrev dktX0_vote_3 : List UInt8 := dkwX0_vote_3 ++ dktX0_vote_4
def dkwX0_vote_2 : List UInt8 := [167, 255, 240, 3, 62, 29, 42, 180, 0, 16, 180, 0, 136, 182, 0, 130, 162, 0, 101, 42, 180, 0, 16]
abbrev dktX0_vote_2 : List UInt8 := dkwX0_vote_2 ++ dktX0_vote_3
def dkwX0_vote_1 : List UInt8 := [154, 0, 5, 2, 172, 3, 62, 29, 16, 10, 163, 0, 16, 42, 180, 0, 65, 29, 3, 79, 132, 3, 1]
abbrev dktX0_vote_1 : List UInt8 := dkwX0_vote_1 ++ dktX0_vote_2
def dkwX0_vote_0 : List UInt8 := [42, 27, 182, 0, 184, 153, 0, 22, 28, 3, 5, 184, 0, 122, 153, 0, 13, 42, 180, 0, 16, 180, 1, 65]
abbrev dktX0_vote_0 : List UInt8 := dkwX0_vote_0 ++ dktX0_vote_1
theorem dksX0_vote_0 : cX0_vote.data.toList.drop 0 = dktX0_vote_0 := by decide +kernel
theorem dksX0_vote_1 : cX0_vote.data.toList.drop 24 = dktX0_vote_1 := dk_seg dksX0_vote_0 24 rfl rfl
theorem dksX0_vote_2 : cX0_vote.data.toList.drop 47 = dktX0_vote_2 := dk_seg dksX0_vote_1 23 rfl rfl
theorem dksX0_vote_3 : cX0_vote.data.toList.drop 70 = dktX0_vote_3 := dk_seg dksX0_vote_2 23 rfl rfl
theorem dksX0_vote_4 : cX0_vote.data.toList.drop 94 = dktX0_vote_4 := dk_seg dksX0_vote_3 24 rfl rfl
theorem dksX0_vote_5 : cX0_vote.data.toList.drop 116 = dktX0_vote_5 := dk_seg dksX0_vote_4 22 rfl rfl
theorem dksX0_vote_6 : cX0_vote.data.toList.drop 140 = dktX0_vote_6 := dk_seg dksX0_vote_5 24 rfl rfl
theorem dksX0_vote_7 : cX0_vote.data.toList.drop 164 = dktX0_vote_7 := dk_seg dksX0_vote_6 24 rfl rfl
theorem dksX0_vote_8 : cX0_vote.data.toList.drop 186 = dktX0_vote_8 := dk_seg dksX0_vote_7 22 rfl rfl
theorem dksX0_vote_9 : cX0_vote.data.toList.drop 208 = dktX0_vote_9 := dk_seg dksX0_vote_8 22 rfl rfl
theorem dksX0_vote_10 : cX0_vote.data.toList.drop 232 = dktX0_vote_10 := dk_seg dksX0_vote_9 24 rfl rfl
theorem dX0_vote_0 : decode cX0_vote 0 = .ok (.aload_n 0, 1) := dk_42 (dk_at dksX0_vote_0 0 rfl rfl)
theorem dX0_vote_1 : decode cX0_vote 1 = .ok (.iload_n 1, 1) := dk_27 (dk_at dksX0_vote_0 1 rfl rfl)
theorem dX0_vote_2 : decode cX0_vote 2 = .ok (.invokevirtual 184, 3) := dk_182 0 184 (dk_at dksX0_vote_0 2 rfl rfl)
theorem dX0_vote_5 : decode cX0_vote 5 = .ok (.ifCond .eq 22, 3) := dk_153 0 22 (dk_at dksX0_vote_0 5 rfl rfl)
theorem dX0_vote_8 : decode cX0_vote 8 = .ok (.iload_n 2, 1) := dk_28 (dk_at dksX0_vote_0 8 rfl rfl)
theorem dX0_vote_9 : decode cX0_vote 9 = .ok (.iconst 0, 1) := dk_3 (dk_at dksX0_vote_0 9 rfl rfl)
theorem dX0_vote_10 : decode cX0_vote 10 = .ok (.iconst 2, 1) := dk_5 (dk_at dksX0_vote_0 10 rfl rfl)
theorem dX0_vote_11 : decode cX0_vote 11 = .ok (.invokestatic 122, 3) := dk_184 0 122 (dk_at dksX0_vote_0 11 rfl rfl)
theorem dX0_vote_14 : decode cX0_vote 14 = .ok (.ifCond .eq 13, 3) := dk_153 0 13 (dk_at dksX0_vote_0 14 rfl rfl)
theorem dX0_vote_17 : decode cX0_vote 17 = .ok (.aload_n 0, 1) := dk_42 (dk_at dksX0_vote_0 17 rfl rfl)
theorem dX0_vote_18 : decode cX0_vote 18 = .ok (.getfield 16, 3) := dk_180 0 16 (dk_at dksX0_vote_0 18 rfl rfl)
theorem dX0_vote_21 : decode cX0_vote 21 = .ok (.getfield 321, 3) := dk_180 1 65 (dk_at dksX0_vote_0 21 rfl rfl)
theorem dX0_vote_24 : decode cX0_vote 24 = .ok (.ifCond .ne 5, 3) := dk_154 0 5 (dk_at dksX0_vote_1 0 rfl rfl)
theorem dX0_vote_27 : decode cX0_vote 27 = .ok (.iconst (-1), 1) := dk_2 (dk_at dksX0_vote_1 3 rfl rfl)
theorem dX0_vote_28 : decode cX0_vote 28 = .ok (.ireturn, 1) := dk_172 (dk_at dksX0_vote_1 4 rfl rfl)
theorem dX0_vote_29 : decode cX0_vote 29 = .ok (.iconst 0, 1) := dk_3 (dk_at dksX0_vote_1 5 rfl rfl)
theorem dX0_vote_30 : decode cX0_vote 30 = .ok (.istore_n 3, 1) := dk_62 (dk_at dksX0_vote_1 6 rfl rfl)
theorem dX0_vote_31 : decode cX0_vote 31 = .ok (.iload_n 3, 1) := dk_29 (dk_at dksX0_vote_1 7 rfl rfl)
theorem dX0_vote_32 : decode cX0_vote 32 = .ok (.bipush 10, 2) := dk_16 10 (dk_at dksX0_vote_1 8 rfl rfl)
theorem dX0_vote_34 : decode cX0_vote 34 = .ok (.if_icmp .gt 16, 3) := dk_163 0 16 (dk_at dksX0_vote_1 10 rfl rfl)
theorem dX0_vote_37 : decode cX0_vote 37 = .ok (.aload_n 0, 1) := dk_42 (dk_at dksX0_vote_1 13 rfl rfl)
theorem dX0_vote_38 : decode cX0_vote 38 = .ok (.getfield 65, 3) := dk_180 0 65 (dk_at dksX0_vote_1 14 rfl rfl)
theorem dX0_vote_41 : decode cX0_vote 41 = .ok (.iload_n 3, 1) := dk_29 (dk_at dksX0_vote_1 17 rfl rfl)
theorem dX0_vote_42 : decode cX0_vote 42 = .ok (.iconst 0, 1) := dk_3 (dk_at dksX0_vote_1 18 rfl rfl)
theorem dX0_vote_43 : decode cX0_vote 43 = .ok (.iastore, 1) := dk_79 (dk_at dksX0_vote_1 19 rfl rfl)
theorem dX0_vote_44 : decode cX0_vote 44 = .ok (.iinc 3 1, 3) := dk_132 3 1 (dk_at dksX0_vote_1 20 rfl rfl)
theorem dX0_vote_47 : decode cX0_vote 47 = .ok (.goto (-16), 3) := dk_167 255 240 (dk_at dksX0_vote_2 0 rfl rfl)
theorem dX0_vote_50 : decode cX0_vote 50 = .ok (.iconst 0, 1) := dk_3 (dk_at dksX0_vote_2 3 rfl rfl)
theorem dX0_vote_51 : decode cX0_vote 51 = .ok (.istore_n 3, 1) := dk_62 (dk_at dksX0_vote_2 4 rfl rfl)
theorem dX0_vote_52 : decode cX0_vote 52 = .ok (.iload_n 3, 1) := dk_29 (dk_at dksX0_vote_2 5 rfl rfl)
theorem dX0_vote_53 : decode cX0_vote 53 = .ok (.aload_n 0, 1) := dk_42 (dk_at dksX0_vote_2 6 rfl rfl)
theorem dX0_vote_54 : decode cX0_vote 54 = .ok (.getfield 16, 3) := dk_180 0 16 (dk_at dksX0_vote_2 7 rfl rfl)
theorem dX0_vote_57 : decode cX0_vote 57 = .ok (.getfield 136, 3) := dk_180 0 136 (dk_at dksX0_vote_2 10 rfl rfl)
theorem dX0_vote_60 : decode cX0_vote 60 = .ok (.invokevirtual 130, 3) := dk_182 0 130 (dk_at dksX0_vote_2 13 rfl rfl)
theorem dX0_vote_63 : decode cX0_vote 63 = .ok (.if_icmp .ge 101, 3) := dk_162 0 101 (dk_at dksX0_vote_2 16 rfl rfl)
theorem dX0_vote_66 : decode cX0_vote 66 = .ok (.aload_n 0, 1) := dk_42 (dk_at dksX0_vote_2 19 rfl rfl)
theorem dX0_vote_67 : decode cX0_vote 67 = .ok (.getfield 16, 3) := dk_180 0 16 (dk_at dksX0_vote_2 20 rfl rfl)
theorem dX0_vote_70 : decode cX0_vote 70 = .ok (.getfield 136, 3) := dk_180 0 136 (dk_at dksX0_vote_3 0 rfl rfl)
theorem dX0_vote_73 : decode cX0_vote 73 = .ok (.iload_n 3, 1) := dk_29 (dk_at dksX0_vote_3 3 rfl rfl)
theorem dX0_vote_74 : decode cX0_vote 74 = .ok (.invokevirtual 139, 3) := dk_182 0 139 (dk_at dksX0_vote_3 4 rfl rfl)
theorem dX0_vote_77 : decode cX0_vote 77 = .ok (.checkcast 143, 3) := dk_192 0 143 (dk_at dksX0_vote_3 7 rfl rfl)
theorem dX0_vote_80 : decode cX0_vote 80 = .ok (.astore 4, 2) := dk_58 4 (dk_at dksX0_vote_3 10 rfl rfl)
theorem dX0_vote_82 : decode cX0_vote 82 = .ok (.aload 4, 2) := dk_25 4 (dk_at dksX0_vote_3 12 rfl rfl)
theorem dX0_vote_84 : decode cX0_vote 84 = .ok (.getfield 204, 3) := dk_180 0 204 (dk_at dksX0_vote_3 14 rfl rfl)
theorem dX0_vote_87 : decode cX0_vote 87 = .ok (.iload_n 1, 1) := dk_27 (dk_at dksX0_vote_3 17 rfl rfl)
theorem dX0_vote_88 : decode cX0_vote 88 = .ok (.if_icmp .ne 70, 3) := dk_160 0 70 (dk_at dksX0_vote_3 18 rfl rfl)
theorem dX0_vote_91 : decode cX0_vote 91 = .ok (.aload_n 0, 1) := dk_42 (dk_at dksX0_vote_3 21 rfl rfl)
theorem dX0_vote_92 : decode cX0_vote 92 = .ok (.aload 4, 2) := dk_25 4 (dk_at dksX0_vote_3 22 rfl rfl)
theorem dX0_vote_94 : decode cX0_vote 94 = .ok (.getfield 340, 3) := dk_180 1 84 (dk_at dksX0_vote_4 0 rfl rfl)
theorem dX0_vote_97 : decode cX0_vote 97 = .ok (.aload_n 0, 1) := dk_42 (dk_at dksX0_vote_4 3 rfl rfl)
theorem dX0_vote_98 : decode cX0_vote 98 = .ok (.invokevirtual 229, 3) := dk_182 0 229 (dk_at dksX0_vote_4 4 rfl rfl)
theorem dX0_vote_101 : decode cX0_vote 101 = .ok (.invokevirtual 330, 3) := dk_182 1 74 (dk_at dksX0_vote_4 7 rfl rfl)
theorem dX0_vote_104 : decode cX0_vote 104 = .ok (.ifCond .ne 6, 3) := dk_154 0 6 (dk_at dksX0_vote_4 10 rfl rfl)
theorem dX0_vote_107 : decode cX0_vote 107 = .ok (.goto 51, 3) := dk_167 0 51 (dk_at dksX0_vote_4 13 rfl rfl)
theorem dX0_vote_110 : decode cX0_vote 110 = .ok (.aload 4, 2) := dk_25 4 (dk_at dksX0_vote_4 16 rfl rfl)
theorem dX0_vote_112 : decode cX0_vote 112 = .ok (.getfield 145, 3) := dk_180 0 145 (dk_at dksX0_vote_4 18 rfl rfl)
theorem dX0_vote_115 : decode cX0_vote 115 = .ok (.aload_n 0, 1) := dk_42 (dk_at dksX0_vote_4 21 rfl rfl)
theorem dX0_vote_116 : decode cX0_vote 116 = .ok (.getfield 16, 3) := dk_180 0 16 (dk_at dksX0_vote_5 0 rfl rfl)
theorem dX0_vote_119 : decode cX0_vote 119 = .ok (.getfield 324, 3) := dk_180 1 68 (dk_at dksX0_vote_5 3 rfl rfl)
theorem dX0_vote_122 : decode cX0_vote 122 = .ok (.aload_n 0, 1) := dk_42 (dk_at dksX0_vote_5 6 rfl rfl)
theorem dX0_vote_123 : decode cX0_vote 123 = .ok (.getfield 16, 3) := dk_180 0 16 (dk_at dksX0_vote_5 7 rfl rfl)
theorem dX0_vote_126 : decode cX0_vote 126 = .ok (.getfield 321, 3) := dk_180 1 65 (dk_at dksX0_vote_5 10 rfl rfl)
theorem dX0_vote_129 : decode cX0_vote 129 = .ok (.iconst 1, 1) := dk_4 (dk_at dksX0_vote_5 13 rfl rfl)
theorem dX0_vote_130 : decode cX0_vote 130 = .ok (.isub, 1) := dk_100 (dk_at dksX0_vote_5 14 rfl rfl)
theorem dX0_vote_131 : decode cX0_vote 131 = .ok (.invokevirtual 382, 3) := dk_182 1 126 (dk_at dksX0_vote_5 15 rfl rfl)
theorem dX0_vote_134 : decode cX0_vote 134 = .ok (.istore 5, 2) := dk_54 5 (dk_at dksX0_vote_5 18 rfl rfl)
theorem dX0_vote_136 : decode cX0_vote 136 = .ok (.aload_n 0, 1) := dk_42 (dk_at dksX0_vote_5 20 rfl rfl)
theorem dX0_vote_137 : decode cX0_vote 137 = .ok (.getfield 65, 3) := dk_180 0 65 (dk_at dksX0_vote_5 21 rfl rfl)
theorem dX0_vote_140 : decode cX0_vote 140 = .ok (.iload 5, 2) := dk_21 5 (dk_at dksX0_vote_6 0 rfl rfl)
theorem dX0_vote_142 : decode cX0_vote 142 = .ok (.iconst (-1), 1) := dk_2 (dk_at dksX0_vote_6 2 rfl rfl)
theorem dX0_vote_143 : decode cX0_vote 143 = .ok (.if_icmp .ne 8, 3) := dk_160 0 8 (dk_at dksX0_vote_6 3 rfl rfl)
theorem dX0_vote_146 : decode cX0_vote 146 = .ok (.bipush 10, 2) := dk_16 10 (dk_at dksX0_vote_6 6 rfl rfl)
theorem dX0_vote_148 : decode cX0_vote 148 = .ok (.goto 5, 3) := dk_167 0 5 (dk_at dksX0_vote_6 8 rfl rfl)
theorem dX0_vote_151 : decode cX0_vote 151 = .ok (.iload 5, 2) := dk_21 5 (dk_at dksX0_vote_6 11 rfl rfl)
theorem dX0_vote_153 : decode cX0_vote 153 = .ok (.dup2, 1) := dk_92 (dk_at dksX0_vote_6 13 rfl rfl)
theorem dX0_vote_154 : decode cX0_vote 154 = .ok (.iaload, 1) := dk_46 (dk_at dksX0_vote_6 14 rfl rfl)
theorem dX0_vote_155 : decode cX0_vote 155 = .ok (.iconst 1, 1) := dk_4 (dk_at dksX0_vote_6 15 rfl rfl)
theorem dX0_vote_156 : decode cX0_vote 156 = .ok (.iadd, 1) := dk_96 (dk_at dksX0_vote_6 16 rfl rfl)
theorem dX0_vote_157 : decode cX0_vote 157 = .ok (.iastore, 1) := dk_79 (dk_at dksX0_vote_6 17 rfl rfl)
theorem dX0_vote_158 : decode cX0_vote 158 = .ok (.iinc 3 1, 3) := dk_132 3 1 (dk_at dksX0_vote_6 18 rfl rfl)
theorem dX0_vote_161 : decode cX0_vote 161 = .ok (.goto (-109), 3) := dk_167 255 147 (dk_at dksX0_vote_6 21 rfl rfl)
theorem dX0_vote_164 : decode cX0_vote 164 = .ok (.iload_n 2, 1) := dk_28 (dk_at dksX0_vote_7 0 rfl rfl)
theorem dX0_vote_165 : decode cX0_vote 165 = .ok (.iconst 2, 1) := dk_5 (dk_at dksX0_vote_7 1 rfl rfl)
theorem dX0_vote_166 : decode cX0_vote 166 = .ok (.if_icmp .ne 11, 3) := dk_160 0 11 (dk_at dksX0_vote_7 2 rfl rfl)
theorem dX0_vote_169 : decode cX0_vote 169 = .ok (.aload_n 0, 1) := dk_42 (dk_at dksX0_vote_7 5 rfl rfl)
theorem dX0_vote_170 : decode cX0_vote 170 = .ok (.getfield 65, 3) := dk_180 0 65 (dk_at dksX0_vote_7 6 rfl rfl)
theorem dX0_vote_173 : decode cX0_vote 173 = .ok (.bipush 10, 2) := dk_16 10 (dk_at dksX0_vote_7 9 rfl rfl)
theorem dX0_vote_175 : decode cX0_vote 175 = .ok (.iaload, 1) := dk_46 (dk_at dksX0_vote_7 11 rfl rfl)
theorem dX0_vote_176 : decode cX0_vote 176 = .ok (.ireturn, 1) := dk_172 (dk_at dksX0_vote_7 12 rfl rfl)
theorem dX0_vote_177 : decode cX0_vote 177 = .ok (.iconst 0, 1) := dk_3 (dk_at dksX0_vote_7 13 rfl rfl)
theorem dX0_vote_178 : decode cX0_vote 178 = .ok (.istore_n 3, 1) := dk_62 (dk_at dksX0_vote_7 14 rfl rfl)
theorem dX0_vote_179 : decode cX0_vote 179 = .ok (.iconst 1, 1) := dk_4 (dk_at dksX0_vote_7 15 rfl rfl)
theorem dX0_vote_180 : decode cX0_vote 180 = .ok (.istore 4, 2) := dk_54 4 (dk_at dksX0_vote_7 16 rfl rfl)
theorem dX0_vote_182 : decode cX0_vote 182 = .ok (.iload 4, 2) := dk_21 4 (dk_at dksX0_vote_7 18 rfl rfl)
theorem dX0_vote_184 : decode cX0_vote 184 = .ok (.bipush 10, 2) := dk_16 10 (dk_at dksX0_vote_7 20 rfl rfl)
theorem dX0_vote_186 : decode cX0_vote 186 = .ok (.if_icmp .ge 28, 3) := dk_162 0 28 (dk_at dksX0_vote_8 0 rfl rfl)
theorem dX0_vote_189 : decode cX0_vote 189 = .ok (.aload_n 0, 1) := dk_42 (dk_at dksX0_vote_8 3 rfl rfl)
theorem dX0_vote_190 : decode cX0_vote 190 = .ok (.getfield 65, 3) := dk_180 0 65 (dk_at dksX0_vote_8 4 rfl rfl)
theorem dX0_vote_193 : decode cX0_vote 193 = .ok (.iload 4, 2) := dk_21 4 (dk_at dksX0_vote_8 7 rfl rfl)
theorem dX0_vote_195 : decode cX0_vote 195 = .ok (.iaload, 1) := dk_46 (dk_at dksX0_vote_8 9 rfl rfl)
theorem dX0_vote_196 : decode cX0_vote 196 = .ok (.aload_n 0, 1) := dk_42 (dk_at dksX0_vote_8 10 rfl rfl)
theorem dX0_vote_197 : decode cX0_vote 197 = .ok (.getfield 65, 3) := dk_180 0 65 (dk_at dksX0_vote_8 11 rfl rfl)
theorem dX0_vote_200 : decode cX0_vote 200 = .ok (.iload_n 3, 1) := dk_29 (dk_at dksX0_vote_8 14 rfl rfl)
theorem dX0_vote_201 : decode cX0_vote 201 = .ok (.iaload, 1) := dk_46 (dk_at dksX0_vote_8 15 rfl rfl)
theorem dX0_vote_202 : decode cX0_vote 202 = .ok (.if_icmp .le 6, 3) := dk_164 0 6 (dk_at dksX0_vote_8 16 rfl rfl)
theorem dX0_vote_205 : decode cX0_vote 205 = .ok (.iload 4, 2) := dk_21 4 (dk_at dksX0_vote_8 19 rfl rfl)
theorem dX0_vote_207 : decode cX0_vote 207 = .ok (.istore_n 3, 1) := dk_62 (dk_at dksX0_vote_8 21 rfl rfl)
theorem dX0_vote_208 : decode cX0_vote 208 = .ok (.iinc 4 1, 3) := dk_132 4 1 (dk_at dksX0_vote_9 0 rfl rfl)
theorem dX0_vote_211 : decode cX0_vote 211 = .ok (.goto (-29), 3) := dk_167 255 227 (dk_at dksX0_vote_9 3 rfl rfl)
theorem dX0_vote_214 : decode cX0_vote 214 = .ok (.aload_n 0, 1) := dk_42 (dk_at dksX0_vote_9 6 rfl rfl)
theorem dX0_vote_215 : decode cX0_vote 215 = .ok (.getfield 65, 3) := dk_180 0 65 (dk_at dksX0_vote_9 7 rfl rfl)
theorem dX0_vote_218 : decode cX0_vote 218 = .ok (.iload_n 3, 1) := dk_29 (dk_at dksX0_vote_9 10 rfl rfl)
theorem dX0_vote_219 : decode cX0_vote 219 = .ok (.iaload, 1) := dk_46 (dk_at dksX0_vote_9 11 rfl rfl)
theorem dX0_vote_220 : decode cX0_vote 220 = .ok (.ifCond .ne 7, 3) := dk_154 0 7 (dk_at dksX0_vote_9 12 rfl rfl)
theorem dX0_vote_223 : decode cX0_vote 223 = .ok (.iconst (-1), 1) := dk_2 (dk_at dksX0_vote_9 15 rfl rfl)
theorem dX0_vote_224 : decode cX0_vote 224 = .ok (.goto 17, 3) := dk_167 0 17 (dk_at dksX0_vote_9 16 rfl rfl)
theorem dX0_vote_227 : decode cX0_vote 227 = .ok (.iload_n 2, 1) := dk_28 (dk_at dksX0_vote_9 19 rfl rfl)
theorem dX0_vote_228 : decode cX0_vote 228 = .ok (.ifCond .ne 7, 3) := dk_154 0 7 (dk_at dksX0_vote_9 20 rfl rfl)
theorem dX0_vote_231 : decode cX0_vote 231 = .ok (.iload_n 3, 1) := dk_29 (dk_at dksX0_vote_9 23 rfl rfl)
theorem dX0_vote_232 : decode cX0_vote 232 = .ok (.goto 9, 3) := dk_167 0 9 (dk_at dksX0_vote_10 0 rfl rfl)
theorem dX0_vote_235 : decode cX0_vote 235 = .ok (.aload_n 0, 1) := dk_42 (dk_at dksX0_vote_10 3 rfl rfl)
theorem dX0_vote_236 : decode cX0_vote 236 = .ok (.getfield 65, 3) := dk_180 0 65 (dk_at dksX0_vote_10 4 rfl rfl)
theorem dX0_vote_239 : decode cX0_vote 239 = .ok (.iload_n 3, 1) := dk_29 (dk_at dksX0_vote_10 7 rfl rfl)
theorem dX0_vote_240 : decode cX0_vote 240 = .ok (.iaload, 1) := dk_46 (dk_at dksX0_vote_10 8 rfl rfl)
theorem dX0_vote_241 : decode cX0_vote 241 = .ok (.ireturn, 1) := dk_172 (dk_at dksX0_vote_10 9 rfl rfl)
abbrev cX0_drift : ByteArray := prog_1_method_65_code
def yX0_drift : MethodName := ⟨RX0, "drift", "(II)J"⟩
def dkwX0_drift_3 : List UInt8 := [184, 1, 178, 105, 173]
abbrev dktX0_drift_3 : List UInt8 := dkwX0_drift_3 ++ []
def dkwX0_drift_2 : List UInt8 := [28, 184, 1, 178, 105, 20, 1, 182, 42, 180, 0, 16, 180, 0, 154, 5, 46, 133, 101, 27, 28, 100]
abbrev dktX0_drift_2 : List UInt8 := dkwX0_drift_2 ++ dktX0_drift_3
def dkwX0_drift_1 : List UInt8 := [28, 27, 164, 0, 7, 9, 167, 0, 44, 27, 28, 184, 1, 174, 42, 180, 0, 16, 180, 0, 154, 5, 46, 133]
abbrev dktX0_drift_1 : List UInt8 := dkwX0_drift_1 ++ dktX0_drift_2
def dkwX0_drift_0 : List UInt8 := [27, 3, 16, 6, 184, 0, 122, 153, 0, 13, 28, 3, 16, 9, 184, 0, 122, 154, 0, 7, 20, 1, 172, 173]
abbrev dktX0_drift_0 : List UInt8 := dkwX0_drift_0 ++ dktX0_drift_1
theorem dksX0_drift_0 : cX0_drift.data.toList.drop 0 = dktX0_drift_0 := by decide +kernel
theorem dksX0_drift_1 : cX0_drift.data.toList.drop 24 = dktX0_drift_1 := dk_seg dksX0_drift_0 24 rfl rfl
theorem dksX0_drift_2 : cX0_drift.data.toList.drop 48 = dktX0_drift_2 := dk_seg dksX0_drift_1 24 rfl rfl
theorem dksX0_drift_3 : cX0_drift.data.toList.drop 70 = dktX0_drift_3 := dk_seg dksX0_drift_2 22 rfl rfl
theorem dX0_drift_0 : decode cX0_drift 0 = .ok (.iload_n 1, 1) := dk_27 (dk_at dksX0_drift_0 0 rfl rfl)
theorem dX0_drift_1 : decode cX0_drift 1 = .ok (.iconst 0, 1) := dk_3 (dk_at dksX0_drift_0 1 rfl rfl)
theorem dX0_drift_2 : decode cX0_drift 2 = .ok (.bipush 6, 2) := dk_16 6 (dk_at dksX0_drift_0 2 rfl rfl)
theorem dX0_drift_4 : decode cX0_drift 4 = .ok (.invokestatic 122, 3) := dk_184 0 122 (dk_at dksX0_drift_0 4 rfl rfl)
theorem dX0_drift_7 : decode cX0_drift 7 = .ok (.ifCond .eq 13, 3) := dk_153 0 13 (dk_at dksX0_drift_0 7 rfl rfl)
theorem dX0_drift_10 : decode cX0_drift 10 = .ok (.iload_n 2, 1) := dk_28 (dk_at dksX0_drift_0 10 rfl rfl)
theorem dX0_drift_11 : decode cX0_drift 11 = .ok (.iconst 0, 1) := dk_3 (dk_at dksX0_drift_0 11 rfl rfl)
theorem dX0_drift_12 : decode cX0_drift 12 = .ok (.bipush 9, 2) := dk_16 9 (dk_at dksX0_drift_0 12 rfl rfl)
theorem dX0_drift_14 : decode cX0_drift 14 = .ok (.invokestatic 122, 3) := dk_184 0 122 (dk_at dksX0_drift_0 14 rfl rfl)
theorem dX0_drift_17 : decode cX0_drift 17 = .ok (.ifCond .ne 7, 3) := dk_154 0 7 (dk_at dksX0_drift_0 17 rfl rfl)
theorem dX0_drift_20 : decode cX0_drift 20 = .ok (.ldc2_w 428, 3) := dk_20 1 172 (dk_at dksX0_drift_0 20 rfl rfl)
theorem dX0_drift_23 : decode cX0_drift 23 = .ok (.lreturn, 1) := dk_173 (dk_at dksX0_drift_0 23 rfl rfl)
theorem dX0_drift_24 : decode cX0_drift 24 = .ok (.iload_n 2, 1) := dk_28 (dk_at dksX0_drift_1 0 rfl rfl)
theorem dX0_drift_25 : decode cX0_drift 25 = .ok (.iload_n 1, 1) := dk_27 (dk_at dksX0_drift_1 1 rfl rfl)
theorem dX0_drift_26 : decode cX0_drift 26 = .ok (.if_icmp .le 7, 3) := dk_164 0 7 (dk_at dksX0_drift_1 2 rfl rfl)
theorem dX0_drift_29 : decode cX0_drift 29 = .ok (.lconst 0, 1) := dk_9 (dk_at dksX0_drift_1 5 rfl rfl)
theorem dX0_drift_30 : decode cX0_drift 30 = .ok (.goto 44, 3) := dk_167 0 44 (dk_at dksX0_drift_1 6 rfl rfl)
theorem dX0_drift_33 : decode cX0_drift 33 = .ok (.iload_n 1, 1) := dk_27 (dk_at dksX0_drift_1 9 rfl rfl)
theorem dX0_drift_34 : decode cX0_drift 34 = .ok (.iload_n 2, 1) := dk_28 (dk_at dksX0_drift_1 10 rfl rfl)
theorem dX0_drift_35 : decode cX0_drift 35 = .ok (.invokestatic 430, 3) := dk_184 1 174 (dk_at dksX0_drift_1 11 rfl rfl)
theorem dX0_drift_38 : decode cX0_drift 38 = .ok (.aload_n 0, 1) := dk_42 (dk_at dksX0_drift_1 14 rfl rfl)
theorem dX0_drift_39 : decode cX0_drift 39 = .ok (.getfield 16, 3) := dk_180 0 16 (dk_at dksX0_drift_1 15 rfl rfl)
theorem dX0_drift_42 : decode cX0_drift 42 = .ok (.getfield 154, 3) := dk_180 0 154 (dk_at dksX0_drift_1 18 rfl rfl)
theorem dX0_drift_45 : decode cX0_drift 45 = .ok (.iconst 2, 1) := dk_5 (dk_at dksX0_drift_1 21 rfl rfl)
theorem dX0_drift_46 : decode cX0_drift 46 = .ok (.iaload, 1) := dk_46 (dk_at dksX0_drift_1 22 rfl rfl)
theorem dX0_drift_47 : decode cX0_drift 47 = .ok (.i2l, 1) := dk_133 (dk_at dksX0_drift_1 23 rfl rfl)
theorem dX0_drift_48 : decode cX0_drift 48 = .ok (.iload_n 2, 1) := dk_28 (dk_at dksX0_drift_2 0 rfl rfl)
theorem dX0_drift_49 : decode cX0_drift 49 = .ok (.invokestatic 434, 3) := dk_184 1 178 (dk_at dksX0_drift_2 1 rfl rfl)
theorem dX0_drift_52 : decode cX0_drift 52 = .ok (.lmul, 1) := dk_105 (dk_at dksX0_drift_2 4 rfl rfl)
theorem dX0_drift_53 : decode cX0_drift 53 = .ok (.ldc2_w 438, 3) := dk_20 1 182 (dk_at dksX0_drift_2 5 rfl rfl)
theorem dX0_drift_56 : decode cX0_drift 56 = .ok (.aload_n 0, 1) := dk_42 (dk_at dksX0_drift_2 8 rfl rfl)
theorem dX0_drift_57 : decode cX0_drift 57 = .ok (.getfield 16, 3) := dk_180 0 16 (dk_at dksX0_drift_2 9 rfl rfl)
theorem dX0_drift_60 : decode cX0_drift 60 = .ok (.getfield 154, 3) := dk_180 0 154 (dk_at dksX0_drift_2 12 rfl rfl)
theorem dX0_drift_63 : decode cX0_drift 63 = .ok (.iconst 2, 1) := dk_5 (dk_at dksX0_drift_2 15 rfl rfl)
theorem dX0_drift_64 : decode cX0_drift 64 = .ok (.iaload, 1) := dk_46 (dk_at dksX0_drift_2 16 rfl rfl)
theorem dX0_drift_65 : decode cX0_drift 65 = .ok (.i2l, 1) := dk_133 (dk_at dksX0_drift_2 17 rfl rfl)
theorem dX0_drift_66 : decode cX0_drift 66 = .ok (.lsub, 1) := dk_101 (dk_at dksX0_drift_2 18 rfl rfl)
theorem dX0_drift_67 : decode cX0_drift 67 = .ok (.iload_n 1, 1) := dk_27 (dk_at dksX0_drift_2 19 rfl rfl)
theorem dX0_drift_68 : decode cX0_drift 68 = .ok (.iload_n 2, 1) := dk_28 (dk_at dksX0_drift_2 20 rfl rfl)
theorem dX0_drift_69 : decode cX0_drift 69 = .ok (.isub, 1) := dk_100 (dk_at dksX0_drift_2 21 rfl rfl)
theorem dX0_drift_70 : decode cX0_drift 70 = .ok (.invokestatic 434, 3) := dk_184 1 178 (dk_at dksX0_drift_3 0 rfl rfl)
theorem dX0_drift_73 : decode cX0_drift 73 = .ok (.lmul, 1) := dk_105 (dk_at dksX0_drift_3 3 rfl rfl)
theorem dX0_drift_74 : decode cX0_drift 74 = .ok (.lreturn, 1) := dk_173 (dk_at dksX0_drift_3 4 rfl rfl)
abbrev cX0_choose : ByteArray := prog_1_method_64_code
def yX0_choose : MethodName := ⟨RX0, "choose", "(II)J"⟩
def dkwX0_choose_1 : List UInt8 := [65, 132, 4, 1, 167, 255, 233, 32, 173]
abbrev dktX0_choose_1 : List UInt8 := dkwX0_choose_1 ++ []
def dkwX0_choose_0 : List UInt8 := [10, 65, 4, 54, 4, 21, 4, 27, 163, 0, 23, 32, 26, 27, 100, 21, 4, 96, 133, 105, 21, 4, 133, 109]
abbrev dktX0_choose_0 : List UInt8 := dkwX0_choose_0 ++ dktX0_choose_1
theorem dksX0_choose_0 : cX0_choose.data.toList.drop 0 = dktX0_choose_0 := by decide +kernel
theorem dksX0_choose_1 : cX0_choose.data.toList.drop 24 = dktX0_choose_1 := dk_seg dksX0_choose_0 24 rfl rfl
theorem dX0_choose_0 : decode cX0_choose 0 = .ok (.lconst 1, 1) := dk_10 (dk_at dksX0_choose_0 0 rfl rfl)
theorem dX0_choose_1 : decode cX0_choose 1 = .ok (.lstore_n 2, 1) := dk_65 (dk_at dksX0_choose_0 1 rfl rfl)
theorem dX0_choose_2 : decode cX0_choose 2 = .ok (.iconst 1, 1) := dk_4 (dk_at dksX0_choose_0 2 rfl rfl)
theorem dX0_choose_3 : decode cX0_choose 3 = .ok (.istore 4, 2) := dk_54 4 (dk_at dksX0_choose_0 3 rfl rfl)
theorem dX0_choose_5 : decode cX0_choose 5 = .ok (.iload 4, 2) := dk_21 4 (dk_at dksX0_choose_0 5 rfl rfl)
theorem dX0_choose_7 : decode cX0_choose 7 = .ok (.iload_n 1, 1) := dk_27 (dk_at dksX0_choose_0 7 rfl rfl)
theorem dX0_choose_8 : decode cX0_choose 8 = .ok (.if_icmp .gt 23, 3) := dk_163 0 23 (dk_at dksX0_choose_0 8 rfl rfl)
theorem dX0_choose_11 : decode cX0_choose 11 = .ok (.lload_n 2, 1) := dk_32 (dk_at dksX0_choose_0 11 rfl rfl)
theorem dX0_choose_12 : decode cX0_choose 12 = .ok (.iload_n 0, 1) := dk_26 (dk_at dksX0_choose_0 12 rfl rfl)
theorem dX0_choose_13 : decode cX0_choose 13 = .ok (.iload_n 1, 1) := dk_27 (dk_at dksX0_choose_0 13 rfl rfl)
theorem dX0_choose_14 : decode cX0_choose 14 = .ok (.isub, 1) := dk_100 (dk_at dksX0_choose_0 14 rfl rfl)
theorem dX0_choose_15 : decode cX0_choose 15 = .ok (.iload 4, 2) := dk_21 4 (dk_at dksX0_choose_0 15 rfl rfl)
theorem dX0_choose_17 : decode cX0_choose 17 = .ok (.iadd, 1) := dk_96 (dk_at dksX0_choose_0 17 rfl rfl)
theorem dX0_choose_18 : decode cX0_choose 18 = .ok (.i2l, 1) := dk_133 (dk_at dksX0_choose_0 18 rfl rfl)
theorem dX0_choose_19 : decode cX0_choose 19 = .ok (.lmul, 1) := dk_105 (dk_at dksX0_choose_0 19 rfl rfl)
theorem dX0_choose_20 : decode cX0_choose 20 = .ok (.iload 4, 2) := dk_21 4 (dk_at dksX0_choose_0 20 rfl rfl)
theorem dX0_choose_22 : decode cX0_choose 22 = .ok (.i2l, 1) := dk_133 (dk_at dksX0_choose_0 22 rfl rfl)
theorem dX0_choose_23 : decode cX0_choose 23 = .ok (.ldiv, 1) := dk_109 (dk_at dksX0_choose_0 23 rfl rfl)
theorem dX0_choose_24 : decode cX0_choose 24 = .ok (.lstore_n 2, 1) := dk_65 (dk_at dksX0_choose_1 0 rfl rfl)
theorem dX0_choose_25 : decode cX0_choose 25 = .ok (.iinc 4 1, 3) := dk_132 4 1 (dk_at dksX0_choose_1 1 rfl rfl)
theorem dX0_choose_28 : decode cX0_choose 28 = .ok (.goto (-23), 3) := dk_167 255 233 (dk_at dksX0_choose_1 4 rfl rfl)
theorem dX0_choose_31 : decode cX0_choose 31 = .ok (.lload_n 2, 1) := dk_32 (dk_at dksX0_choose_1 7 rfl rfl)
theorem dX0_choose_32 : decode cX0_choose 32 = .ok (.lreturn, 1) := dk_173 (dk_at dksX0_choose_1 8 rfl rfl)
abbrev cX0_power : ByteArray := prog_1_method_63_code
def yX0_power : MethodName := ⟨RX0, "power", "(JI)J"⟩
def dkwX0_power_0 : List UInt8 := [10, 66, 3, 54, 5, 21, 5, 28, 162, 0, 13, 33, 30, 105, 66, 132, 5, 1, 167, 255, 243, 33, 173]
abbrev dktX0_power_0 : List UInt8 := dkwX0_power_0 ++ []
theorem dksX0_power_0 : cX0_power.data.toList.drop 0 = dktX0_power_0 := by decide +kernel
theorem dX0_power_0 : decode cX0_power 0 = .ok (.lconst 1, 1) := dk_10 (dk_at dksX0_power_0 0 rfl rfl)
theorem dX0_power_1 : decode cX0_power 1 = .ok (.lstore_n 3, 1) := dk_66 (dk_at dksX0_power_0 1 rfl rfl)
theorem dX0_power_2 : decode cX0_power 2 = .ok (.iconst 0, 1) := dk_3 (dk_at dksX0_power_0 2 rfl rfl)
theorem dX0_power_3 : decode cX0_power 3 = .ok (.istore 5, 2) := dk_54 5 (dk_at dksX0_power_0 3 rfl rfl)
theorem dX0_power_5 : decode cX0_power 5 = .ok (.iload 5, 2) := dk_21 5 (dk_at dksX0_power_0 5 rfl rfl)
theorem dX0_power_7 : decode cX0_power 7 = .ok (.iload_n 2, 1) := dk_28 (dk_at dksX0_power_0 7 rfl rfl)
theorem dX0_power_8 : decode cX0_power 8 = .ok (.if_icmp .ge 13, 3) := dk_162 0 13 (dk_at dksX0_power_0 8 rfl rfl)
theorem dX0_power_11 : decode cX0_power 11 = .ok (.lload_n 3, 1) := dk_33 (dk_at dksX0_power_0 11 rfl rfl)
theorem dX0_power_12 : decode cX0_power 12 = .ok (.lload_n 0, 1) := dk_30 (dk_at dksX0_power_0 12 rfl rfl)
theorem dX0_power_13 : decode cX0_power 13 = .ok (.lmul, 1) := dk_105 (dk_at dksX0_power_0 13 rfl rfl)
theorem dX0_power_14 : decode cX0_power 14 = .ok (.lstore_n 3, 1) := dk_66 (dk_at dksX0_power_0 14 rfl rfl)
theorem dX0_power_15 : decode cX0_power 15 = .ok (.iinc 5 1, 3) := dk_132 5 1 (dk_at dksX0_power_0 15 rfl rfl)
theorem dX0_power_18 : decode cX0_power 18 = .ok (.goto (-13), 3) := dk_167 255 243 (dk_at dksX0_power_0 18 rfl rfl)
theorem dX0_power_21 : decode cX0_power 21 = .ok (.lload_n 3, 1) := dk_33 (dk_at dksX0_power_0 21 rfl rfl)
theorem dX0_power_22 : decode cX0_power 22 = .ok (.lreturn, 1) := dk_173 (dk_at dksX0_power_0 22 rfl rfl)
abbrev cX0_origin : ByteArray := prog_1_method_69_code
def yX0_origin : MethodName := ⟨RX0, "origin", "(III)I"⟩
def dkwX0_origin_1 : List UInt8 := [182, 1, 193, 167, 0, 4, 2, 172]
abbrev dktX0_origin_1 : List UInt8 := dkwX0_origin_1 ++ []
def dkwX0_origin_0 : List UInt8 := [42, 27, 182, 0, 184, 153, 0, 25, 28, 29, 184, 0, 177, 153, 0, 17, 42, 27, 16, 6, 28, 104, 29, 96]
abbrev dktX0_origin_0 : List UInt8 := dkwX0_origin_0 ++ dktX0_origin_1
theorem dksX0_origin_0 : cX0_origin.data.toList.drop 0 = dktX0_origin_0 := by decide +kernel
theorem dksX0_origin_1 : cX0_origin.data.toList.drop 24 = dktX0_origin_1 := dk_seg dksX0_origin_0 24 rfl rfl
theorem dX0_origin_0 : decode cX0_origin 0 = .ok (.aload_n 0, 1) := dk_42 (dk_at dksX0_origin_0 0 rfl rfl)
theorem dX0_origin_1 : decode cX0_origin 1 = .ok (.iload_n 1, 1) := dk_27 (dk_at dksX0_origin_0 1 rfl rfl)
theorem dX0_origin_2 : decode cX0_origin 2 = .ok (.invokevirtual 184, 3) := dk_182 0 184 (dk_at dksX0_origin_0 2 rfl rfl)
theorem dX0_origin_5 : decode cX0_origin 5 = .ok (.ifCond .eq 25, 3) := dk_153 0 25 (dk_at dksX0_origin_0 5 rfl rfl)
theorem dX0_origin_8 : decode cX0_origin 8 = .ok (.iload_n 2, 1) := dk_28 (dk_at dksX0_origin_0 8 rfl rfl)
theorem dX0_origin_9 : decode cX0_origin 9 = .ok (.iload_n 3, 1) := dk_29 (dk_at dksX0_origin_0 9 rfl rfl)
theorem dX0_origin_10 : decode cX0_origin 10 = .ok (.invokestatic 177, 3) := dk_184 0 177 (dk_at dksX0_origin_0 10 rfl rfl)
theorem dX0_origin_13 : decode cX0_origin 13 = .ok (.ifCond .eq 17, 3) := dk_153 0 17 (dk_at dksX0_origin_0 13 rfl rfl)
theorem dX0_origin_16 : decode cX0_origin 16 = .ok (.aload_n 0, 1) := dk_42 (dk_at dksX0_origin_0 16 rfl rfl)
theorem dX0_origin_17 : decode cX0_origin 17 = .ok (.iload_n 1, 1) := dk_27 (dk_at dksX0_origin_0 17 rfl rfl)
theorem dX0_origin_18 : decode cX0_origin 18 = .ok (.bipush 6, 2) := dk_16 6 (dk_at dksX0_origin_0 18 rfl rfl)
theorem dX0_origin_20 : decode cX0_origin 20 = .ok (.iload_n 2, 1) := dk_28 (dk_at dksX0_origin_0 20 rfl rfl)
theorem dX0_origin_21 : decode cX0_origin 21 = .ok (.imul, 1) := dk_104 (dk_at dksX0_origin_0 21 rfl rfl)
theorem dX0_origin_22 : decode cX0_origin 22 = .ok (.iload_n 3, 1) := dk_29 (dk_at dksX0_origin_0 22 rfl rfl)
theorem dX0_origin_23 : decode cX0_origin 23 = .ok (.iadd, 1) := dk_96 (dk_at dksX0_origin_0 23 rfl rfl)
theorem dX0_origin_24 : decode cX0_origin 24 = .ok (.invokevirtual 449, 3) := dk_182 1 193 (dk_at dksX0_origin_1 0 rfl rfl)
theorem dX0_origin_27 : decode cX0_origin 27 = .ok (.goto 4, 3) := dk_167 0 4 (dk_at dksX0_origin_1 3 rfl rfl)
theorem dX0_origin_30 : decode cX0_origin 30 = .ok (.iconst (-1), 1) := dk_2 (dk_at dksX0_origin_1 6 rfl rfl)
theorem dX0_origin_31 : decode cX0_origin 31 = .ok (.ireturn, 1) := dk_172 (dk_at dksX0_origin_1 7 rfl rfl)
abbrev cX0_originOf : ByteArray := prog_1_method_68_code
def yX0_originOf : MethodName := ⟨RX0, "originOf", "(II)I"⟩
def dkwX0_originOf_2 : List UInt8 := [132, 4, 1, 167, 255, 221, 29, 172]
abbrev dktX0_originOf_2 : List UInt8 := dkwX0_originOf_2 ++ []
def dkwX0_originOf_1 : List UInt8 := [42, 180, 0, 65, 21, 4, 46, 42, 182, 1, 190, 160, 0, 10, 4, 21, 4, 120, 167, 0, 4, 3, 128, 62]
abbrev dktX0_originOf_1 : List UInt8 := dkwX0_originOf_1 ++ dktX0_originOf_2
def dkwX0_originOf_0 : List UInt8 := [42, 27, 28, 182, 1, 187, 154, 0, 5, 3, 172, 3, 62, 3, 54, 4, 21, 4, 16, 10, 162, 0, 34, 29]
abbrev dktX0_originOf_0 : List UInt8 := dkwX0_originOf_0 ++ dktX0_originOf_1
theorem dksX0_originOf_0 : cX0_originOf.data.toList.drop 0 = dktX0_originOf_0 := by decide +kernel
theorem dksX0_originOf_1 : cX0_originOf.data.toList.drop 24 = dktX0_originOf_1 := dk_seg dksX0_originOf_0 24 rfl rfl
theorem dksX0_originOf_2 : cX0_originOf.data.toList.drop 48 = dktX0_originOf_2 := dk_seg dksX0_originOf_1 24 rfl rfl
theorem dX0_originOf_0 : decode cX0_originOf 0 = .ok (.aload_n 0, 1) := dk_42 (dk_at dksX0_originOf_0 0 rfl rfl)
theorem dX0_originOf_1 : decode cX0_originOf 1 = .ok (.iload_n 1, 1) := dk_27 (dk_at dksX0_originOf_0 1 rfl rfl)
theorem dX0_originOf_2 : decode cX0_originOf 2 = .ok (.iload_n 2, 1) := dk_28 (dk_at dksX0_originOf_0 2 rfl rfl)
theorem dX0_originOf_3 : decode cX0_originOf 3 = .ok (.invokevirtual 443, 3) := dk_182 1 187 (dk_at dksX0_originOf_0 3 rfl rfl)
theorem dX0_originOf_6 : decode cX0_originOf 6 = .ok (.ifCond .ne 5, 3) := dk_154 0 5 (dk_at dksX0_originOf_0 6 rfl rfl)
theorem dX0_originOf_9 : decode cX0_originOf 9 = .ok (.iconst 0, 1) := dk_3 (dk_at dksX0_originOf_0 9 rfl rfl)
theorem dX0_originOf_10 : decode cX0_originOf 10 = .ok (.ireturn, 1) := dk_172 (dk_at dksX0_originOf_0 10 rfl rfl)
theorem dX0_originOf_11 : decode cX0_originOf 11 = .ok (.iconst 0, 1) := dk_3 (dk_at dksX0_originOf_0 11 rfl rfl)
theorem dX0_originOf_12 : decode cX0_originOf 12 = .ok (.istore_n 3, 1) := dk_62 (dk_at dksX0_originOf_0 12 rfl rfl)
theorem dX0_originOf_13 : decode cX0_originOf 13 = .ok (.iconst 0, 1) := dk_3 (dk_at dksX0_originOf_0 13 rfl rfl)
theorem dX0_originOf_14 : decode cX0_originOf 14 = .ok (.istore 4, 2) := dk_54 4 (dk_at dksX0_originOf_0 14 rfl rfl)
theorem dX0_originOf_16 : decode cX0_originOf 16 = .ok (.iload 4, 2) := dk_21 4 (dk_at dksX0_originOf_0 16 rfl rfl)
theorem dX0_originOf_18 : decode cX0_originOf 18 = .ok (.bipush 10, 2) := dk_16 10 (dk_at dksX0_originOf_0 18 rfl rfl)
theorem dX0_originOf_20 : decode cX0_originOf 20 = .ok (.if_icmp .ge 34, 3) := dk_162 0 34 (dk_at dksX0_originOf_0 20 rfl rfl)
theorem dX0_originOf_23 : decode cX0_originOf 23 = .ok (.iload_n 3, 1) := dk_29 (dk_at dksX0_originOf_0 23 rfl rfl)
theorem dX0_originOf_24 : decode cX0_originOf 24 = .ok (.aload_n 0, 1) := dk_42 (dk_at dksX0_originOf_1 0 rfl rfl)
theorem dX0_originOf_25 : decode cX0_originOf 25 = .ok (.getfield 65, 3) := dk_180 0 65 (dk_at dksX0_originOf_1 1 rfl rfl)
theorem dX0_originOf_28 : decode cX0_originOf 28 = .ok (.iload 4, 2) := dk_21 4 (dk_at dksX0_originOf_1 4 rfl rfl)
theorem dX0_originOf_30 : decode cX0_originOf 30 = .ok (.iaload, 1) := dk_46 (dk_at dksX0_originOf_1 6 rfl rfl)
theorem dX0_originOf_31 : decode cX0_originOf 31 = .ok (.aload_n 0, 1) := dk_42 (dk_at dksX0_originOf_1 7 rfl rfl)
theorem dX0_originOf_32 : decode cX0_originOf 32 = .ok (.invokevirtual 446, 3) := dk_182 1 190 (dk_at dksX0_originOf_1 8 rfl rfl)
theorem dX0_originOf_35 : decode cX0_originOf 35 = .ok (.if_icmp .ne 10, 3) := dk_160 0 10 (dk_at dksX0_originOf_1 11 rfl rfl)
theorem dX0_originOf_38 : decode cX0_originOf 38 = .ok (.iconst 1, 1) := dk_4 (dk_at dksX0_originOf_1 14 rfl rfl)
theorem dX0_originOf_39 : decode cX0_originOf 39 = .ok (.iload 4, 2) := dk_21 4 (dk_at dksX0_originOf_1 15 rfl rfl)
theorem dX0_originOf_41 : decode cX0_originOf 41 = .ok (.ishl, 1) := dk_120 (dk_at dksX0_originOf_1 17 rfl rfl)
theorem dX0_originOf_42 : decode cX0_originOf 42 = .ok (.goto 4, 3) := dk_167 0 4 (dk_at dksX0_originOf_1 18 rfl rfl)
theorem dX0_originOf_45 : decode cX0_originOf 45 = .ok (.iconst 0, 1) := dk_3 (dk_at dksX0_originOf_1 21 rfl rfl)
theorem dX0_originOf_46 : decode cX0_originOf 46 = .ok (.ior, 1) := dk_128 (dk_at dksX0_originOf_1 22 rfl rfl)
theorem dX0_originOf_47 : decode cX0_originOf 47 = .ok (.istore_n 3, 1) := dk_62 (dk_at dksX0_originOf_1 23 rfl rfl)
theorem dX0_originOf_48 : decode cX0_originOf 48 = .ok (.iinc 4 1, 3) := dk_132 4 1 (dk_at dksX0_originOf_2 0 rfl rfl)
theorem dX0_originOf_51 : decode cX0_originOf 51 = .ok (.goto (-35), 3) := dk_167 255 221 (dk_at dksX0_originOf_2 3 rfl rfl)
theorem dX0_originOf_54 : decode cX0_originOf 54 = .ok (.iload_n 3, 1) := dk_29 (dk_at dksX0_originOf_2 6 rfl rfl)
theorem dX0_originOf_55 : decode cX0_originOf 55 = .ok (.ireturn, 1) := dk_172 (dk_at dksX0_originOf_2 7 rfl rfl)
abbrev cX0_hears : ByteArray := prog_1_method_66_code
def yX0_hears : MethodName := ⟨RX0, "hears", "(II)I"⟩
def dkwX0_hears_4 : List UInt8 := [92, 46, 4, 96, 79, 132, 3, 1, 132, 4, 1, 167, 255, 175, 29, 172]
abbrev dktX0_hears_4 : List UInt8 := dkwX0_hears_4 ++ []
def dkwX0_hears_3 : List UInt8 := [28, 182, 1, 102, 153, 0, 6, 167, 0, 25, 42, 180, 0, 65, 25, 5, 180, 0, 145, 180, 0, 187, 28, 46]
abbrev dktX0_hears_3 : List UInt8 := dkwX0_hears_3 ++ dktX0_hears_4
def dkwX0_hears_2 : List UInt8 := [21, 4, 182, 0, 139, 192, 0, 143, 58, 5, 25, 5, 180, 0, 204, 27, 160, 0, 40, 25, 5, 180, 0, 145]
abbrev dktX0_hears_2 : List UInt8 := dkwX0_hears_2 ++ dktX0_hears_3
def dkwX0_hears_1 : List UInt8 := [54, 4, 21, 4, 42, 180, 0, 16, 180, 0, 136, 182, 0, 130, 162, 0, 72, 42, 180, 0, 16, 180, 0, 136]
abbrev dktX0_hears_1 : List UInt8 := dkwX0_hears_1 ++ dktX0_hears_2
def dkwX0_hears_0 : List UInt8 := [3, 62, 29, 16, 10, 162, 0, 16, 42, 180, 0, 65, 29, 3, 79, 132, 3, 1, 167, 255, 240, 3, 62, 3]
abbrev dktX0_hears_0 : List UInt8 := dkwX0_hears_0 ++ dktX0_hears_1
theorem dksX0_hears_0 : cX0_hears.data.toList.drop 0 = dktX0_hears_0 := by decide +kernel
theorem dksX0_hears_1 : cX0_hears.data.toList.drop 24 = dktX0_hears_1 := dk_seg dksX0_hears_0 24 rfl rfl
theorem dksX0_hears_2 : cX0_hears.data.toList.drop 48 = dktX0_hears_2 := dk_seg dksX0_hears_1 24 rfl rfl
theorem dksX0_hears_3 : cX0_hears.data.toList.drop 72 = dktX0_hears_3 := dk_seg dksX0_hears_2 24 rfl rfl
theorem dksX0_hears_4 : cX0_hears.data.toList.drop 96 = dktX0_hears_4 := dk_seg dksX0_hears_3 24 rfl rfl
theorem dX0_hears_0 : decode cX0_hears 0 = .ok (.iconst 0, 1) := dk_3 (dk_at dksX0_hears_0 0 rfl rfl)
theorem dX0_hears_1 : decode cX0_hears 1 = .ok (.istore_n 3, 1) := dk_62 (dk_at dksX0_hears_0 1 rfl rfl)
theorem dX0_hears_2 : decode cX0_hears 2 = .ok (.iload_n 3, 1) := dk_29 (dk_at dksX0_hears_0 2 rfl rfl)
theorem dX0_hears_3 : decode cX0_hears 3 = .ok (.bipush 10, 2) := dk_16 10 (dk_at dksX0_hears_0 3 rfl rfl)
theorem dX0_hears_5 : decode cX0_hears 5 = .ok (.if_icmp .ge 16, 3) := dk_162 0 16 (dk_at dksX0_hears_0 5 rfl rfl)
theorem dX0_hears_8 : decode cX0_hears 8 = .ok (.aload_n 0, 1) := dk_42 (dk_at dksX0_hears_0 8 rfl rfl)
theorem dX0_hears_9 : decode cX0_hears 9 = .ok (.getfield 65, 3) := dk_180 0 65 (dk_at dksX0_hears_0 9 rfl rfl)
theorem dX0_hears_12 : decode cX0_hears 12 = .ok (.iload_n 3, 1) := dk_29 (dk_at dksX0_hears_0 12 rfl rfl)
theorem dX0_hears_13 : decode cX0_hears 13 = .ok (.iconst 0, 1) := dk_3 (dk_at dksX0_hears_0 13 rfl rfl)
theorem dX0_hears_14 : decode cX0_hears 14 = .ok (.iastore, 1) := dk_79 (dk_at dksX0_hears_0 14 rfl rfl)
theorem dX0_hears_15 : decode cX0_hears 15 = .ok (.iinc 3 1, 3) := dk_132 3 1 (dk_at dksX0_hears_0 15 rfl rfl)
theorem dX0_hears_18 : decode cX0_hears 18 = .ok (.goto (-16), 3) := dk_167 255 240 (dk_at dksX0_hears_0 18 rfl rfl)
theorem dX0_hears_21 : decode cX0_hears 21 = .ok (.iconst 0, 1) := dk_3 (dk_at dksX0_hears_0 21 rfl rfl)
theorem dX0_hears_22 : decode cX0_hears 22 = .ok (.istore_n 3, 1) := dk_62 (dk_at dksX0_hears_0 22 rfl rfl)
theorem dX0_hears_23 : decode cX0_hears 23 = .ok (.iconst 0, 1) := dk_3 (dk_at dksX0_hears_0 23 rfl rfl)
theorem dX0_hears_24 : decode cX0_hears 24 = .ok (.istore 4, 2) := dk_54 4 (dk_at dksX0_hears_1 0 rfl rfl)
theorem dX0_hears_26 : decode cX0_hears 26 = .ok (.iload 4, 2) := dk_21 4 (dk_at dksX0_hears_1 2 rfl rfl)
theorem dX0_hears_28 : decode cX0_hears 28 = .ok (.aload_n 0, 1) := dk_42 (dk_at dksX0_hears_1 4 rfl rfl)
theorem dX0_hears_29 : decode cX0_hears 29 = .ok (.getfield 16, 3) := dk_180 0 16 (dk_at dksX0_hears_1 5 rfl rfl)
theorem dX0_hears_32 : decode cX0_hears 32 = .ok (.getfield 136, 3) := dk_180 0 136 (dk_at dksX0_hears_1 8 rfl rfl)
theorem dX0_hears_35 : decode cX0_hears 35 = .ok (.invokevirtual 130, 3) := dk_182 0 130 (dk_at dksX0_hears_1 11 rfl rfl)
theorem dX0_hears_38 : decode cX0_hears 38 = .ok (.if_icmp .ge 72, 3) := dk_162 0 72 (dk_at dksX0_hears_1 14 rfl rfl)
theorem dX0_hears_41 : decode cX0_hears 41 = .ok (.aload_n 0, 1) := dk_42 (dk_at dksX0_hears_1 17 rfl rfl)
theorem dX0_hears_42 : decode cX0_hears 42 = .ok (.getfield 16, 3) := dk_180 0 16 (dk_at dksX0_hears_1 18 rfl rfl)
theorem dX0_hears_45 : decode cX0_hears 45 = .ok (.getfield 136, 3) := dk_180 0 136 (dk_at dksX0_hears_1 21 rfl rfl)
theorem dX0_hears_48 : decode cX0_hears 48 = .ok (.iload 4, 2) := dk_21 4 (dk_at dksX0_hears_2 0 rfl rfl)
theorem dX0_hears_50 : decode cX0_hears 50 = .ok (.invokevirtual 139, 3) := dk_182 0 139 (dk_at dksX0_hears_2 2 rfl rfl)
theorem dX0_hears_53 : decode cX0_hears 53 = .ok (.checkcast 143, 3) := dk_192 0 143 (dk_at dksX0_hears_2 5 rfl rfl)
theorem dX0_hears_56 : decode cX0_hears 56 = .ok (.astore 5, 2) := dk_58 5 (dk_at dksX0_hears_2 8 rfl rfl)
theorem dX0_hears_58 : decode cX0_hears 58 = .ok (.aload 5, 2) := dk_25 5 (dk_at dksX0_hears_2 10 rfl rfl)
theorem dX0_hears_60 : decode cX0_hears 60 = .ok (.getfield 204, 3) := dk_180 0 204 (dk_at dksX0_hears_2 12 rfl rfl)
theorem dX0_hears_63 : decode cX0_hears 63 = .ok (.iload_n 1, 1) := dk_27 (dk_at dksX0_hears_2 15 rfl rfl)
theorem dX0_hears_64 : decode cX0_hears 64 = .ok (.if_icmp .ne 40, 3) := dk_160 0 40 (dk_at dksX0_hears_2 16 rfl rfl)
theorem dX0_hears_67 : decode cX0_hears 67 = .ok (.aload 5, 2) := dk_25 5 (dk_at dksX0_hears_2 19 rfl rfl)
theorem dX0_hears_69 : decode cX0_hears 69 = .ok (.getfield 145, 3) := dk_180 0 145 (dk_at dksX0_hears_2 21 rfl rfl)
theorem dX0_hears_72 : decode cX0_hears 72 = .ok (.iload_n 2, 1) := dk_28 (dk_at dksX0_hears_3 0 rfl rfl)
theorem dX0_hears_73 : decode cX0_hears 73 = .ok (.invokevirtual 358, 3) := dk_182 1 102 (dk_at dksX0_hears_3 1 rfl rfl)
theorem dX0_hears_76 : decode cX0_hears 76 = .ok (.ifCond .eq 6, 3) := dk_153 0 6 (dk_at dksX0_hears_3 4 rfl rfl)
theorem dX0_hears_79 : decode cX0_hears 79 = .ok (.goto 25, 3) := dk_167 0 25 (dk_at dksX0_hears_3 7 rfl rfl)
theorem dX0_hears_82 : decode cX0_hears 82 = .ok (.aload_n 0, 1) := dk_42 (dk_at dksX0_hears_3 10 rfl rfl)
theorem dX0_hears_83 : decode cX0_hears 83 = .ok (.getfield 65, 3) := dk_180 0 65 (dk_at dksX0_hears_3 11 rfl rfl)
theorem dX0_hears_86 : decode cX0_hears 86 = .ok (.aload 5, 2) := dk_25 5 (dk_at dksX0_hears_3 14 rfl rfl)
theorem dX0_hears_88 : decode cX0_hears 88 = .ok (.getfield 145, 3) := dk_180 0 145 (dk_at dksX0_hears_3 16 rfl rfl)
theorem dX0_hears_91 : decode cX0_hears 91 = .ok (.getfield 187, 3) := dk_180 0 187 (dk_at dksX0_hears_3 19 rfl rfl)
theorem dX0_hears_94 : decode cX0_hears 94 = .ok (.iload_n 2, 1) := dk_28 (dk_at dksX0_hears_3 22 rfl rfl)
theorem dX0_hears_95 : decode cX0_hears 95 = .ok (.iaload, 1) := dk_46 (dk_at dksX0_hears_3 23 rfl rfl)
theorem dX0_hears_96 : decode cX0_hears 96 = .ok (.dup2, 1) := dk_92 (dk_at dksX0_hears_4 0 rfl rfl)
theorem dX0_hears_97 : decode cX0_hears 97 = .ok (.iaload, 1) := dk_46 (dk_at dksX0_hears_4 1 rfl rfl)
theorem dX0_hears_98 : decode cX0_hears 98 = .ok (.iconst 1, 1) := dk_4 (dk_at dksX0_hears_4 2 rfl rfl)
theorem dX0_hears_99 : decode cX0_hears 99 = .ok (.iadd, 1) := dk_96 (dk_at dksX0_hears_4 3 rfl rfl)
theorem dX0_hears_100 : decode cX0_hears 100 = .ok (.iastore, 1) := dk_79 (dk_at dksX0_hears_4 4 rfl rfl)
theorem dX0_hears_101 : decode cX0_hears 101 = .ok (.iinc 3 1, 3) := dk_132 3 1 (dk_at dksX0_hears_4 5 rfl rfl)
theorem dX0_hears_104 : decode cX0_hears 104 = .ok (.iinc 4 1, 3) := dk_132 4 1 (dk_at dksX0_hears_4 8 rfl rfl)
theorem dX0_hears_107 : decode cX0_hears 107 = .ok (.goto (-81), 3) := dk_167 255 175 (dk_at dksX0_hears_4 11 rfl rfl)
theorem dX0_hears_110 : decode cX0_hears 110 = .ok (.iload_n 3, 1) := dk_29 (dk_at dksX0_hears_4 14 rfl rfl)
theorem dX0_hears_111 : decode cX0_hears 111 = .ok (.ireturn, 1) := dk_172 (dk_at dksX0_hears_4 15 rfl rfl)
abbrev cX0_loudest : ByteArray := prog_1_method_67_code
def yX0_loudest : MethodName := ⟨RX0, "loudest", "()I"⟩
def dkwX0_loudest_1 : List UInt8 := [167, 255, 236, 27, 172]
abbrev dktX0_loudest_1 : List UInt8 := dkwX0_loudest_1 ++ []
def dkwX0_loudest_0 : List UInt8 := [3, 60, 3, 61, 28, 16, 10, 162, 0, 20, 27, 42, 180, 0, 65, 28, 46, 184, 1, 184, 60, 132, 2, 1]
abbrev dktX0_loudest_0 : List UInt8 := dkwX0_loudest_0 ++ dktX0_loudest_1
theorem dksX0_loudest_0 : cX0_loudest.data.toList.drop 0 = dktX0_loudest_0 := by decide +kernel
theorem dksX0_loudest_1 : cX0_loudest.data.toList.drop 24 = dktX0_loudest_1 := dk_seg dksX0_loudest_0 24 rfl rfl
theorem dX0_loudest_0 : decode cX0_loudest 0 = .ok (.iconst 0, 1) := dk_3 (dk_at dksX0_loudest_0 0 rfl rfl)
theorem dX0_loudest_1 : decode cX0_loudest 1 = .ok (.istore_n 1, 1) := dk_60 (dk_at dksX0_loudest_0 1 rfl rfl)
theorem dX0_loudest_2 : decode cX0_loudest 2 = .ok (.iconst 0, 1) := dk_3 (dk_at dksX0_loudest_0 2 rfl rfl)
theorem dX0_loudest_3 : decode cX0_loudest 3 = .ok (.istore_n 2, 1) := dk_61 (dk_at dksX0_loudest_0 3 rfl rfl)
theorem dX0_loudest_4 : decode cX0_loudest 4 = .ok (.iload_n 2, 1) := dk_28 (dk_at dksX0_loudest_0 4 rfl rfl)
theorem dX0_loudest_5 : decode cX0_loudest 5 = .ok (.bipush 10, 2) := dk_16 10 (dk_at dksX0_loudest_0 5 rfl rfl)
theorem dX0_loudest_7 : decode cX0_loudest 7 = .ok (.if_icmp .ge 20, 3) := dk_162 0 20 (dk_at dksX0_loudest_0 7 rfl rfl)
theorem dX0_loudest_10 : decode cX0_loudest 10 = .ok (.iload_n 1, 1) := dk_27 (dk_at dksX0_loudest_0 10 rfl rfl)
theorem dX0_loudest_11 : decode cX0_loudest 11 = .ok (.aload_n 0, 1) := dk_42 (dk_at dksX0_loudest_0 11 rfl rfl)
theorem dX0_loudest_12 : decode cX0_loudest 12 = .ok (.getfield 65, 3) := dk_180 0 65 (dk_at dksX0_loudest_0 12 rfl rfl)
theorem dX0_loudest_15 : decode cX0_loudest 15 = .ok (.iload_n 2, 1) := dk_28 (dk_at dksX0_loudest_0 15 rfl rfl)
theorem dX0_loudest_16 : decode cX0_loudest 16 = .ok (.iaload, 1) := dk_46 (dk_at dksX0_loudest_0 16 rfl rfl)
theorem dX0_loudest_17 : decode cX0_loudest 17 = .ok (.invokestatic 440, 3) := dk_184 1 184 (dk_at dksX0_loudest_0 17 rfl rfl)
theorem dX0_loudest_20 : decode cX0_loudest 20 = .ok (.istore_n 1, 1) := dk_60 (dk_at dksX0_loudest_0 20 rfl rfl)
theorem dX0_loudest_21 : decode cX0_loudest 21 = .ok (.iinc 2 1, 3) := dk_132 2 1 (dk_at dksX0_loudest_0 21 rfl rfl)
theorem dX0_loudest_24 : decode cX0_loudest 24 = .ok (.goto (-20), 3) := dk_167 255 236 (dk_at dksX0_loudest_1 0 rfl rfl)
theorem dX0_loudest_27 : decode cX0_loudest 27 = .ok (.iload_n 1, 1) := dk_27 (dk_at dksX0_loudest_1 3 rfl rfl)
theorem dX0_loudest_28 : decode cX0_loudest 28 = .ok (.ireturn, 1) := dk_172 (dk_at dksX0_loudest_1 4 rfl rfl)
abbrev cX0_origins : ByteArray := prog_1_method_70_code
def yX0_origins : MethodName := ⟨RX0, "origins", "(II)J"⟩
def dkwX0_origins_5 : List UInt8 := [173]
abbrev dktX0_origins_5 : List UInt8 := dkwX0_origins_5 ++ []
def dkwX0_origins_4 : List UInt8 := [22, 5, 21, 9, 133, 105, 55, 5, 132, 7, 1, 167, 255, 178, 28, 154, 0, 7, 33, 167, 0, 5, 22, 5]
abbrev dktX0_origins_4 : List UInt8 := dkwX0_origins_4 ++ dktX0_origins_5
def dkwX0_origins_3 : List UInt8 := [184, 1, 196, 54, 9, 22, 5, 20, 1, 199, 21, 9, 133, 109, 148, 158, 0, 9, 20, 1, 199, 167, 0, 9]
abbrev dktX0_origins_3 : List UInt8 := dkwX0_origins_3 ++ dktX0_origins_4
def dkwX0_origins_2 : List UInt8 := [42, 182, 1, 190, 100, 133, 97, 66, 21, 8, 154, 0, 7, 4, 167, 0, 13, 42, 27, 21, 7, 182, 1, 193]
abbrev dktX0_origins_2 : List UInt8 := dkwX0_origins_2 ++ dktX0_origins_3
def dkwX0_origins_1 : List UInt8 := [55, 5, 3, 54, 7, 21, 7, 16, 36, 162, 0, 77, 42, 27, 21, 7, 182, 1, 187, 54, 8, 33, 21, 8]
abbrev dktX0_origins_1 : List UInt8 := dkwX0_origins_1 ++ dktX0_origins_2
def dkwX0_origins_0 : List UInt8 := [42, 27, 182, 0, 184, 153, 0, 12, 28, 3, 4, 184, 0, 122, 154, 0, 7, 20, 1, 172, 173, 9, 66, 10]
abbrev dktX0_origins_0 : List UInt8 := dkwX0_origins_0 ++ dktX0_origins_1
theorem dksX0_origins_0 : cX0_origins.data.toList.drop 0 = dktX0_origins_0 := by decide +kernel
theorem dksX0_origins_1 : cX0_origins.data.toList.drop 24 = dktX0_origins_1 := dk_seg dksX0_origins_0 24 rfl rfl
theorem dksX0_origins_2 : cX0_origins.data.toList.drop 48 = dktX0_origins_2 := dk_seg dksX0_origins_1 24 rfl rfl
theorem dksX0_origins_3 : cX0_origins.data.toList.drop 72 = dktX0_origins_3 := dk_seg dksX0_origins_2 24 rfl rfl
theorem dksX0_origins_4 : cX0_origins.data.toList.drop 96 = dktX0_origins_4 := dk_seg dksX0_origins_3 24 rfl rfl
theorem dksX0_origins_5 : cX0_origins.data.toList.drop 120 = dktX0_origins_5 := dk_seg dksX0_origins_4 24 rfl rfl
theorem dX0_origins_0 : decode cX0_origins 0 = .ok (.aload_n 0, 1) := dk_42 (dk_at dksX0_origins_0 0 rfl rfl)
theorem dX0_origins_1 : decode cX0_origins 1 = .ok (.iload_n 1, 1) := dk_27 (dk_at dksX0_origins_0 1 rfl rfl)
theorem dX0_origins_2 : decode cX0_origins 2 = .ok (.invokevirtual 184, 3) := dk_182 0 184 (dk_at dksX0_origins_0 2 rfl rfl)
theorem dX0_origins_5 : decode cX0_origins 5 = .ok (.ifCond .eq 12, 3) := dk_153 0 12 (dk_at dksX0_origins_0 5 rfl rfl)
theorem dX0_origins_8 : decode cX0_origins 8 = .ok (.iload_n 2, 1) := dk_28 (dk_at dksX0_origins_0 8 rfl rfl)
theorem dX0_origins_9 : decode cX0_origins 9 = .ok (.iconst 0, 1) := dk_3 (dk_at dksX0_origins_0 9 rfl rfl)
theorem dX0_origins_10 : decode cX0_origins 10 = .ok (.iconst 1, 1) := dk_4 (dk_at dksX0_origins_0 10 rfl rfl)
theorem dX0_origins_11 : decode cX0_origins 11 = .ok (.invokestatic 122, 3) := dk_184 0 122 (dk_at dksX0_origins_0 11 rfl rfl)
theorem dX0_origins_14 : decode cX0_origins 14 = .ok (.ifCond .ne 7, 3) := dk_154 0 7 (dk_at dksX0_origins_0 14 rfl rfl)
theorem dX0_origins_17 : decode cX0_origins 17 = .ok (.ldc2_w 428, 3) := dk_20 1 172 (dk_at dksX0_origins_0 17 rfl rfl)
theorem dX0_origins_20 : decode cX0_origins 20 = .ok (.lreturn, 1) := dk_173 (dk_at dksX0_origins_0 20 rfl rfl)
theorem dX0_origins_21 : decode cX0_origins 21 = .ok (.lconst 0, 1) := dk_9 (dk_at dksX0_origins_0 21 rfl rfl)
theorem dX0_origins_22 : decode cX0_origins 22 = .ok (.lstore_n 3, 1) := dk_66 (dk_at dksX0_origins_0 22 rfl rfl)
theorem dX0_origins_23 : decode cX0_origins 23 = .ok (.lconst 1, 1) := dk_10 (dk_at dksX0_origins_0 23 rfl rfl)
theorem dX0_origins_24 : decode cX0_origins 24 = .ok (.lstore 5, 2) := dk_55 5 (dk_at dksX0_origins_1 0 rfl rfl)
theorem dX0_origins_26 : decode cX0_origins 26 = .ok (.iconst 0, 1) := dk_3 (dk_at dksX0_origins_1 2 rfl rfl)
theorem dX0_origins_27 : decode cX0_origins 27 = .ok (.istore 7, 2) := dk_54 7 (dk_at dksX0_origins_1 3 rfl rfl)
theorem dX0_origins_29 : decode cX0_origins 29 = .ok (.iload 7, 2) := dk_21 7 (dk_at dksX0_origins_1 5 rfl rfl)
theorem dX0_origins_31 : decode cX0_origins 31 = .ok (.bipush 36, 2) := dk_16 36 (dk_at dksX0_origins_1 7 rfl rfl)
theorem dX0_origins_33 : decode cX0_origins 33 = .ok (.if_icmp .ge 77, 3) := dk_162 0 77 (dk_at dksX0_origins_1 9 rfl rfl)
theorem dX0_origins_36 : decode cX0_origins 36 = .ok (.aload_n 0, 1) := dk_42 (dk_at dksX0_origins_1 12 rfl rfl)
theorem dX0_origins_37 : decode cX0_origins 37 = .ok (.iload_n 1, 1) := dk_27 (dk_at dksX0_origins_1 13 rfl rfl)
theorem dX0_origins_38 : decode cX0_origins 38 = .ok (.iload 7, 2) := dk_21 7 (dk_at dksX0_origins_1 14 rfl rfl)
theorem dX0_origins_40 : decode cX0_origins 40 = .ok (.invokevirtual 443, 3) := dk_182 1 187 (dk_at dksX0_origins_1 16 rfl rfl)
theorem dX0_origins_43 : decode cX0_origins 43 = .ok (.istore 8, 2) := dk_54 8 (dk_at dksX0_origins_1 19 rfl rfl)
theorem dX0_origins_45 : decode cX0_origins 45 = .ok (.lload_n 3, 1) := dk_33 (dk_at dksX0_origins_1 21 rfl rfl)
theorem dX0_origins_46 : decode cX0_origins 46 = .ok (.iload 8, 2) := dk_21 8 (dk_at dksX0_origins_1 22 rfl rfl)
theorem dX0_origins_48 : decode cX0_origins 48 = .ok (.aload_n 0, 1) := dk_42 (dk_at dksX0_origins_2 0 rfl rfl)
theorem dX0_origins_49 : decode cX0_origins 49 = .ok (.invokevirtual 446, 3) := dk_182 1 190 (dk_at dksX0_origins_2 1 rfl rfl)
theorem dX0_origins_52 : decode cX0_origins 52 = .ok (.isub, 1) := dk_100 (dk_at dksX0_origins_2 4 rfl rfl)
theorem dX0_origins_53 : decode cX0_origins 53 = .ok (.i2l, 1) := dk_133 (dk_at dksX0_origins_2 5 rfl rfl)
theorem dX0_origins_54 : decode cX0_origins 54 = .ok (.ladd, 1) := dk_97 (dk_at dksX0_origins_2 6 rfl rfl)
theorem dX0_origins_55 : decode cX0_origins 55 = .ok (.lstore_n 3, 1) := dk_66 (dk_at dksX0_origins_2 7 rfl rfl)
theorem dX0_origins_56 : decode cX0_origins 56 = .ok (.iload 8, 2) := dk_21 8 (dk_at dksX0_origins_2 8 rfl rfl)
theorem dX0_origins_58 : decode cX0_origins 58 = .ok (.ifCond .ne 7, 3) := dk_154 0 7 (dk_at dksX0_origins_2 10 rfl rfl)
theorem dX0_origins_61 : decode cX0_origins 61 = .ok (.iconst 1, 1) := dk_4 (dk_at dksX0_origins_2 13 rfl rfl)
theorem dX0_origins_62 : decode cX0_origins 62 = .ok (.goto 13, 3) := dk_167 0 13 (dk_at dksX0_origins_2 14 rfl rfl)
theorem dX0_origins_65 : decode cX0_origins 65 = .ok (.aload_n 0, 1) := dk_42 (dk_at dksX0_origins_2 17 rfl rfl)
theorem dX0_origins_66 : decode cX0_origins 66 = .ok (.iload_n 1, 1) := dk_27 (dk_at dksX0_origins_2 18 rfl rfl)
theorem dX0_origins_67 : decode cX0_origins 67 = .ok (.iload 7, 2) := dk_21 7 (dk_at dksX0_origins_2 19 rfl rfl)
theorem dX0_origins_69 : decode cX0_origins 69 = .ok (.invokevirtual 449, 3) := dk_182 1 193 (dk_at dksX0_origins_2 21 rfl rfl)
theorem dX0_origins_72 : decode cX0_origins 72 = .ok (.invokestatic 452, 3) := dk_184 1 196 (dk_at dksX0_origins_3 0 rfl rfl)
theorem dX0_origins_75 : decode cX0_origins 75 = .ok (.istore 9, 2) := dk_54 9 (dk_at dksX0_origins_3 3 rfl rfl)
theorem dX0_origins_77 : decode cX0_origins 77 = .ok (.lload 5, 2) := dk_22 5 (dk_at dksX0_origins_3 5 rfl rfl)
theorem dX0_origins_79 : decode cX0_origins 79 = .ok (.ldc2_w 455, 3) := dk_20 1 199 (dk_at dksX0_origins_3 7 rfl rfl)
theorem dX0_origins_82 : decode cX0_origins 82 = .ok (.iload 9, 2) := dk_21 9 (dk_at dksX0_origins_3 10 rfl rfl)
theorem dX0_origins_84 : decode cX0_origins 84 = .ok (.i2l, 1) := dk_133 (dk_at dksX0_origins_3 12 rfl rfl)
theorem dX0_origins_85 : decode cX0_origins 85 = .ok (.ldiv, 1) := dk_109 (dk_at dksX0_origins_3 13 rfl rfl)
theorem dX0_origins_86 : decode cX0_origins 86 = .ok (.lcmp, 1) := dk_148 (dk_at dksX0_origins_3 14 rfl rfl)
theorem dX0_origins_87 : decode cX0_origins 87 = .ok (.ifCond .le 9, 3) := dk_158 0 9 (dk_at dksX0_origins_3 15 rfl rfl)
theorem dX0_origins_90 : decode cX0_origins 90 = .ok (.ldc2_w 455, 3) := dk_20 1 199 (dk_at dksX0_origins_3 18 rfl rfl)
theorem dX0_origins_93 : decode cX0_origins 93 = .ok (.goto 9, 3) := dk_167 0 9 (dk_at dksX0_origins_3 21 rfl rfl)
theorem dX0_origins_96 : decode cX0_origins 96 = .ok (.lload 5, 2) := dk_22 5 (dk_at dksX0_origins_4 0 rfl rfl)
theorem dX0_origins_98 : decode cX0_origins 98 = .ok (.iload 9, 2) := dk_21 9 (dk_at dksX0_origins_4 2 rfl rfl)
theorem dX0_origins_100 : decode cX0_origins 100 = .ok (.i2l, 1) := dk_133 (dk_at dksX0_origins_4 4 rfl rfl)
theorem dX0_origins_101 : decode cX0_origins 101 = .ok (.lmul, 1) := dk_105 (dk_at dksX0_origins_4 5 rfl rfl)
theorem dX0_origins_102 : decode cX0_origins 102 = .ok (.lstore 5, 2) := dk_55 5 (dk_at dksX0_origins_4 6 rfl rfl)
theorem dX0_origins_104 : decode cX0_origins 104 = .ok (.iinc 7 1, 3) := dk_132 7 1 (dk_at dksX0_origins_4 8 rfl rfl)
theorem dX0_origins_107 : decode cX0_origins 107 = .ok (.goto (-78), 3) := dk_167 255 178 (dk_at dksX0_origins_4 11 rfl rfl)
theorem dX0_origins_110 : decode cX0_origins 110 = .ok (.iload_n 2, 1) := dk_28 (dk_at dksX0_origins_4 14 rfl rfl)
theorem dX0_origins_111 : decode cX0_origins 111 = .ok (.ifCond .ne 7, 3) := dk_154 0 7 (dk_at dksX0_origins_4 15 rfl rfl)
theorem dX0_origins_114 : decode cX0_origins 114 = .ok (.lload_n 3, 1) := dk_33 (dk_at dksX0_origins_4 18 rfl rfl)
theorem dX0_origins_115 : decode cX0_origins 115 = .ok (.goto 5, 3) := dk_167 0 5 (dk_at dksX0_origins_4 19 rfl rfl)
theorem dX0_origins_118 : decode cX0_origins 118 = .ok (.lload 5, 2) := dk_22 5 (dk_at dksX0_origins_4 22 rfl rfl)
theorem dX0_origins_120 : decode cX0_origins 120 = .ok (.lreturn, 1) := dk_173 (dk_at dksX0_origins_5 0 rfl rfl)
abbrev cX0_ones : ByteArray := prog_1_method_6_code
def yX0_ones : MethodName := ⟨RX0, "ones", "(I)I"⟩
theorem dX0_ones_0 : decode cX0_ones 0 = .ok (.iload_n 0, 1) := by decide +kernel
theorem dX0_ones_1 : decode cX0_ones 1 = .ok (.invokestatic 104, 3) := by decide +kernel
theorem dX0_ones_4 : decode cX0_ones 4 = .ok (.ireturn, 1) := by decide +kernel
abbrev cX0_chain : ByteArray := prog_1_method_71_code
def yX0_chain : MethodName := ⟨RX0, "chain", "(III)I"⟩
def dkwX0_chain_5 : List UInt8 := [2, 172]
abbrev dktX0_chain_5 : List UInt8 := dkwX0_chain_5 ++ []
def dkwX0_chain_4 : List UInt8 := [42, 180, 0, 71, 180, 1, 213, 162, 0, 17, 42, 180, 0, 71, 180, 1, 216, 29, 5, 100, 46, 167, 0, 4]
abbrev dktX0_chain_4 : List UInt8 := dkwX0_chain_4 ++ dktX0_chain_5
def dkwX0_chain_3 : List UInt8 := [180, 1, 210, 167, 0, 46, 29, 4, 160, 0, 13, 42, 180, 0, 71, 180, 1, 213, 167, 0, 31, 29, 5, 100]
abbrev dktX0_chain_3 : List UInt8 := dkwX0_chain_3 ++ dktX0_chain_4
def dkwX0_chain_2 : List UInt8 := [2, 182, 1, 204, 29, 16, 20, 160, 0, 9, 42, 28, 182, 1, 207, 172, 29, 154, 0, 13, 42, 180, 0, 71]
abbrev dktX0_chain_2 : List UInt8 := dkwX0_chain_2 ++ dktX0_chain_3
def dkwX0_chain_1 : List UInt8 := [154, 0, 11, 29, 16, 20, 159, 0, 5, 2, 172, 42, 180, 0, 71, 27, 182, 1, 201, 42, 180, 0, 71, 28]
abbrev dktX0_chain_1 : List UInt8 := dkwX0_chain_1 ++ dktX0_chain_2
def dkwX0_chain_0 : List UInt8 := [42, 27, 182, 0, 184, 153, 0, 27, 42, 28, 182, 0, 213, 153, 0, 19, 29, 3, 16, 9, 184, 0, 122]
abbrev dktX0_chain_0 : List UInt8 := dkwX0_chain_0 ++ dktX0_chain_1
theorem dksX0_chain_0 : cX0_chain.data.toList.drop 0 = dktX0_chain_0 := by decide +kernel
theorem dksX0_chain_1 : cX0_chain.data.toList.drop 23 = dktX0_chain_1 := dk_seg dksX0_chain_0 23 rfl rfl
theorem dksX0_chain_2 : cX0_chain.data.toList.drop 47 = dktX0_chain_2 := dk_seg dksX0_chain_1 24 rfl rfl
theorem dksX0_chain_3 : cX0_chain.data.toList.drop 71 = dktX0_chain_3 := dk_seg dksX0_chain_2 24 rfl rfl
theorem dksX0_chain_4 : cX0_chain.data.toList.drop 95 = dktX0_chain_4 := dk_seg dksX0_chain_3 24 rfl rfl
theorem dksX0_chain_5 : cX0_chain.data.toList.drop 119 = dktX0_chain_5 := dk_seg dksX0_chain_4 24 rfl rfl
theorem dX0_chain_0 : decode cX0_chain 0 = .ok (.aload_n 0, 1) := dk_42 (dk_at dksX0_chain_0 0 rfl rfl)
theorem dX0_chain_1 : decode cX0_chain 1 = .ok (.iload_n 1, 1) := dk_27 (dk_at dksX0_chain_0 1 rfl rfl)
theorem dX0_chain_2 : decode cX0_chain 2 = .ok (.invokevirtual 184, 3) := dk_182 0 184 (dk_at dksX0_chain_0 2 rfl rfl)
theorem dX0_chain_5 : decode cX0_chain 5 = .ok (.ifCond .eq 27, 3) := dk_153 0 27 (dk_at dksX0_chain_0 5 rfl rfl)
theorem dX0_chain_8 : decode cX0_chain 8 = .ok (.aload_n 0, 1) := dk_42 (dk_at dksX0_chain_0 8 rfl rfl)
theorem dX0_chain_9 : decode cX0_chain 9 = .ok (.iload_n 2, 1) := dk_28 (dk_at dksX0_chain_0 9 rfl rfl)
theorem dX0_chain_10 : decode cX0_chain 10 = .ok (.invokevirtual 213, 3) := dk_182 0 213 (dk_at dksX0_chain_0 10 rfl rfl)
theorem dX0_chain_13 : decode cX0_chain 13 = .ok (.ifCond .eq 19, 3) := dk_153 0 19 (dk_at dksX0_chain_0 13 rfl rfl)
theorem dX0_chain_16 : decode cX0_chain 16 = .ok (.iload_n 3, 1) := dk_29 (dk_at dksX0_chain_0 16 rfl rfl)
theorem dX0_chain_17 : decode cX0_chain 17 = .ok (.iconst 0, 1) := dk_3 (dk_at dksX0_chain_0 17 rfl rfl)
theorem dX0_chain_18 : decode cX0_chain 18 = .ok (.bipush 9, 2) := dk_16 9 (dk_at dksX0_chain_0 18 rfl rfl)
theorem dX0_chain_20 : decode cX0_chain 20 = .ok (.invokestatic 122, 3) := dk_184 0 122 (dk_at dksX0_chain_0 20 rfl rfl)
theorem dX0_chain_23 : decode cX0_chain 23 = .ok (.ifCond .ne 11, 3) := dk_154 0 11 (dk_at dksX0_chain_1 0 rfl rfl)
theorem dX0_chain_26 : decode cX0_chain 26 = .ok (.iload_n 3, 1) := dk_29 (dk_at dksX0_chain_1 3 rfl rfl)
theorem dX0_chain_27 : decode cX0_chain 27 = .ok (.bipush 20, 2) := dk_16 20 (dk_at dksX0_chain_1 4 rfl rfl)
theorem dX0_chain_29 : decode cX0_chain 29 = .ok (.if_icmp .eq 5, 3) := dk_159 0 5 (dk_at dksX0_chain_1 6 rfl rfl)
theorem dX0_chain_32 : decode cX0_chain 32 = .ok (.iconst (-1), 1) := dk_2 (dk_at dksX0_chain_1 9 rfl rfl)
theorem dX0_chain_33 : decode cX0_chain 33 = .ok (.ireturn, 1) := dk_172 (dk_at dksX0_chain_1 10 rfl rfl)
theorem dX0_chain_34 : decode cX0_chain 34 = .ok (.aload_n 0, 1) := dk_42 (dk_at dksX0_chain_1 11 rfl rfl)
theorem dX0_chain_35 : decode cX0_chain 35 = .ok (.getfield 71, 3) := dk_180 0 71 (dk_at dksX0_chain_1 12 rfl rfl)
theorem dX0_chain_38 : decode cX0_chain 38 = .ok (.iload_n 1, 1) := dk_27 (dk_at dksX0_chain_1 15 rfl rfl)
theorem dX0_chain_39 : decode cX0_chain 39 = .ok (.invokevirtual 457, 3) := dk_182 1 201 (dk_at dksX0_chain_1 16 rfl rfl)
theorem dX0_chain_42 : decode cX0_chain 42 = .ok (.aload_n 0, 1) := dk_42 (dk_at dksX0_chain_1 19 rfl rfl)
theorem dX0_chain_43 : decode cX0_chain 43 = .ok (.getfield 71, 3) := dk_180 0 71 (dk_at dksX0_chain_1 20 rfl rfl)
theorem dX0_chain_46 : decode cX0_chain 46 = .ok (.iload_n 2, 1) := dk_28 (dk_at dksX0_chain_1 23 rfl rfl)
theorem dX0_chain_47 : decode cX0_chain 47 = .ok (.iconst (-1), 1) := dk_2 (dk_at dksX0_chain_2 0 rfl rfl)
theorem dX0_chain_48 : decode cX0_chain 48 = .ok (.invokevirtual 460, 3) := dk_182 1 204 (dk_at dksX0_chain_2 1 rfl rfl)
theorem dX0_chain_51 : decode cX0_chain 51 = .ok (.iload_n 3, 1) := dk_29 (dk_at dksX0_chain_2 4 rfl rfl)
theorem dX0_chain_52 : decode cX0_chain 52 = .ok (.bipush 20, 2) := dk_16 20 (dk_at dksX0_chain_2 5 rfl rfl)
theorem dX0_chain_54 : decode cX0_chain 54 = .ok (.if_icmp .ne 9, 3) := dk_160 0 9 (dk_at dksX0_chain_2 7 rfl rfl)
theorem dX0_chain_57 : decode cX0_chain 57 = .ok (.aload_n 0, 1) := dk_42 (dk_at dksX0_chain_2 10 rfl rfl)
theorem dX0_chain_58 : decode cX0_chain 58 = .ok (.iload_n 2, 1) := dk_28 (dk_at dksX0_chain_2 11 rfl rfl)
theorem dX0_chain_59 : decode cX0_chain 59 = .ok (.invokevirtual 463, 3) := dk_182 1 207 (dk_at dksX0_chain_2 12 rfl rfl)
theorem dX0_chain_62 : decode cX0_chain 62 = .ok (.ireturn, 1) := dk_172 (dk_at dksX0_chain_2 15 rfl rfl)
theorem dX0_chain_63 : decode cX0_chain 63 = .ok (.iload_n 3, 1) := dk_29 (dk_at dksX0_chain_2 16 rfl rfl)
theorem dX0_chain_64 : decode cX0_chain 64 = .ok (.ifCond .ne 13, 3) := dk_154 0 13 (dk_at dksX0_chain_2 17 rfl rfl)
theorem dX0_chain_67 : decode cX0_chain 67 = .ok (.aload_n 0, 1) := dk_42 (dk_at dksX0_chain_2 20 rfl rfl)
theorem dX0_chain_68 : decode cX0_chain 68 = .ok (.getfield 71, 3) := dk_180 0 71 (dk_at dksX0_chain_2 21 rfl rfl)
theorem dX0_chain_71 : decode cX0_chain 71 = .ok (.getfield 466, 3) := dk_180 1 210 (dk_at dksX0_chain_3 0 rfl rfl)
theorem dX0_chain_74 : decode cX0_chain 74 = .ok (.goto 46, 3) := dk_167 0 46 (dk_at dksX0_chain_3 3 rfl rfl)
theorem dX0_chain_77 : decode cX0_chain 77 = .ok (.iload_n 3, 1) := dk_29 (dk_at dksX0_chain_3 6 rfl rfl)
theorem dX0_chain_78 : decode cX0_chain 78 = .ok (.iconst 1, 1) := dk_4 (dk_at dksX0_chain_3 7 rfl rfl)
theorem dX0_chain_79 : decode cX0_chain 79 = .ok (.if_icmp .ne 13, 3) := dk_160 0 13 (dk_at dksX0_chain_3 8 rfl rfl)
theorem dX0_chain_82 : decode cX0_chain 82 = .ok (.aload_n 0, 1) := dk_42 (dk_at dksX0_chain_3 11 rfl rfl)
theorem dX0_chain_83 : decode cX0_chain 83 = .ok (.getfield 71, 3) := dk_180 0 71 (dk_at dksX0_chain_3 12 rfl rfl)
theorem dX0_chain_86 : decode cX0_chain 86 = .ok (.getfield 469, 3) := dk_180 1 213 (dk_at dksX0_chain_3 15 rfl rfl)
theorem dX0_chain_89 : decode cX0_chain 89 = .ok (.goto 31, 3) := dk_167 0 31 (dk_at dksX0_chain_3 18 rfl rfl)
theorem dX0_chain_92 : decode cX0_chain 92 = .ok (.iload_n 3, 1) := dk_29 (dk_at dksX0_chain_3 21 rfl rfl)
theorem dX0_chain_93 : decode cX0_chain 93 = .ok (.iconst 2, 1) := dk_5 (dk_at dksX0_chain_3 22 rfl rfl)
theorem dX0_chain_94 : decode cX0_chain 94 = .ok (.isub, 1) := dk_100 (dk_at dksX0_chain_3 23 rfl rfl)
theorem dX0_chain_95 : decode cX0_chain 95 = .ok (.aload_n 0, 1) := dk_42 (dk_at dksX0_chain_4 0 rfl rfl)
theorem dX0_chain_96 : decode cX0_chain 96 = .ok (.getfield 71, 3) := dk_180 0 71 (dk_at dksX0_chain_4 1 rfl rfl)
theorem dX0_chain_99 : decode cX0_chain 99 = .ok (.getfield 469, 3) := dk_180 1 213 (dk_at dksX0_chain_4 4 rfl rfl)
theorem dX0_chain_102 : decode cX0_chain 102 = .ok (.if_icmp .ge 17, 3) := dk_162 0 17 (dk_at dksX0_chain_4 7 rfl rfl)
theorem dX0_chain_105 : decode cX0_chain 105 = .ok (.aload_n 0, 1) := dk_42 (dk_at dksX0_chain_4 10 rfl rfl)
theorem dX0_chain_106 : decode cX0_chain 106 = .ok (.getfield 71, 3) := dk_180 0 71 (dk_at dksX0_chain_4 11 rfl rfl)
theorem dX0_chain_109 : decode cX0_chain 109 = .ok (.getfield 472, 3) := dk_180 1 216 (dk_at dksX0_chain_4 14 rfl rfl)
theorem dX0_chain_112 : decode cX0_chain 112 = .ok (.iload_n 3, 1) := dk_29 (dk_at dksX0_chain_4 17 rfl rfl)
theorem dX0_chain_113 : decode cX0_chain 113 = .ok (.iconst 2, 1) := dk_5 (dk_at dksX0_chain_4 18 rfl rfl)
theorem dX0_chain_114 : decode cX0_chain 114 = .ok (.isub, 1) := dk_100 (dk_at dksX0_chain_4 19 rfl rfl)
theorem dX0_chain_115 : decode cX0_chain 115 = .ok (.iaload, 1) := dk_46 (dk_at dksX0_chain_4 20 rfl rfl)
theorem dX0_chain_116 : decode cX0_chain 116 = .ok (.goto 4, 3) := dk_167 0 4 (dk_at dksX0_chain_4 21 rfl rfl)
theorem dX0_chain_119 : decode cX0_chain 119 = .ok (.iconst (-1), 1) := dk_2 (dk_at dksX0_chain_5 0 rfl rfl)
theorem dX0_chain_120 : decode cX0_chain 120 = .ok (.ireturn, 1) := dk_172 (dk_at dksX0_chain_5 1 rfl rfl)
abbrev cX0_isOf : ByteArray := prog_1_method_5_code
def yX0_isOf : MethodName := ⟨RX0, "isOf", "(II)Z"⟩
def dkwX0_isOf_0 : List UInt8 := [26, 27, 122, 4, 126, 4, 160, 0, 7, 4, 167, 0, 4, 3, 172]
abbrev dktX0_isOf_0 : List UInt8 := dkwX0_isOf_0 ++ []
theorem dksX0_isOf_0 : cX0_isOf.data.toList.drop 0 = dktX0_isOf_0 := by decide +kernel
theorem dX0_isOf_0 : decode cX0_isOf 0 = .ok (.iload_n 0, 1) := dk_26 (dk_at dksX0_isOf_0 0 rfl rfl)
theorem dX0_isOf_1 : decode cX0_isOf 1 = .ok (.iload_n 1, 1) := dk_27 (dk_at dksX0_isOf_0 1 rfl rfl)
theorem dX0_isOf_2 : decode cX0_isOf 2 = .ok (.ishr, 1) := dk_122 (dk_at dksX0_isOf_0 2 rfl rfl)
theorem dX0_isOf_3 : decode cX0_isOf 3 = .ok (.iconst 1, 1) := dk_4 (dk_at dksX0_isOf_0 3 rfl rfl)
theorem dX0_isOf_4 : decode cX0_isOf 4 = .ok (.iand, 1) := dk_126 (dk_at dksX0_isOf_0 4 rfl rfl)
theorem dX0_isOf_5 : decode cX0_isOf 5 = .ok (.iconst 1, 1) := dk_4 (dk_at dksX0_isOf_0 5 rfl rfl)
theorem dX0_isOf_6 : decode cX0_isOf 6 = .ok (.if_icmp .ne 7, 3) := dk_160 0 7 (dk_at dksX0_isOf_0 6 rfl rfl)
theorem dX0_isOf_9 : decode cX0_isOf 9 = .ok (.iconst 1, 1) := dk_4 (dk_at dksX0_isOf_0 9 rfl rfl)
theorem dX0_isOf_10 : decode cX0_isOf 10 = .ok (.goto 4, 3) := dk_167 0 4 (dk_at dksX0_isOf_0 10 rfl rfl)
theorem dX0_isOf_13 : decode cX0_isOf 13 = .ok (.iconst 0, 1) := dk_3 (dk_at dksX0_isOf_0 13 rfl rfl)
theorem dX0_isOf_14 : decode cX0_isOf 14 = .ok (.ireturn, 1) := dk_172 (dk_at dksX0_isOf_0 14 rfl rfl)
abbrev cX0_needless : ByteArray := prog_1_method_72_code
def yX0_needless : MethodName := ⟨RX0, "needless", "(I)I"⟩
def dkwX0_needless_3 : List UInt8 := [62, 132, 4, 1, 167, 255, 197, 29, 172]
abbrev dktX0_needless_3 : List UInt8 := dkwX0_needless_3 ++ []
def dkwX0_needless_2 : List UInt8 := [182, 1, 204, 29, 42, 180, 0, 71, 180, 1, 210, 28, 160, 0, 10, 4, 21, 4, 120, 167, 0, 4, 3, 128]
abbrev dktX0_needless_2 : List UInt8 := dkwX0_needless_2 ++ dktX0_needless_3
def dkwX0_needless_1 : List UInt8 := [182, 0, 130, 162, 0, 50, 21, 4, 27, 160, 0, 6, 167, 0, 35, 42, 180, 0, 71, 27, 21, 4]
abbrev dktX0_needless_1 : List UInt8 := dkwX0_needless_1 ++ dktX0_needless_2
def dkwX0_needless_0 : List UInt8 := [42, 180, 0, 71, 180, 1, 210, 61, 3, 62, 3, 54, 4, 21, 4, 42, 180, 0, 16, 180, 0, 126]
abbrev dktX0_needless_0 : List UInt8 := dkwX0_needless_0 ++ dktX0_needless_1
theorem dksX0_needless_0 : cX0_needless.data.toList.drop 0 = dktX0_needless_0 := by decide +kernel
theorem dksX0_needless_1 : cX0_needless.data.toList.drop 22 = dktX0_needless_1 := dk_seg dksX0_needless_0 22 rfl rfl
theorem dksX0_needless_2 : cX0_needless.data.toList.drop 44 = dktX0_needless_2 := dk_seg dksX0_needless_1 22 rfl rfl
theorem dksX0_needless_3 : cX0_needless.data.toList.drop 68 = dktX0_needless_3 := dk_seg dksX0_needless_2 24 rfl rfl
theorem dX0_needless_0 : decode cX0_needless 0 = .ok (.aload_n 0, 1) := dk_42 (dk_at dksX0_needless_0 0 rfl rfl)
theorem dX0_needless_1 : decode cX0_needless 1 = .ok (.getfield 71, 3) := dk_180 0 71 (dk_at dksX0_needless_0 1 rfl rfl)
theorem dX0_needless_4 : decode cX0_needless 4 = .ok (.getfield 466, 3) := dk_180 1 210 (dk_at dksX0_needless_0 4 rfl rfl)
theorem dX0_needless_7 : decode cX0_needless 7 = .ok (.istore_n 2, 1) := dk_61 (dk_at dksX0_needless_0 7 rfl rfl)
theorem dX0_needless_8 : decode cX0_needless 8 = .ok (.iconst 0, 1) := dk_3 (dk_at dksX0_needless_0 8 rfl rfl)
theorem dX0_needless_9 : decode cX0_needless 9 = .ok (.istore_n 3, 1) := dk_62 (dk_at dksX0_needless_0 9 rfl rfl)
theorem dX0_needless_10 : decode cX0_needless 10 = .ok (.iconst 0, 1) := dk_3 (dk_at dksX0_needless_0 10 rfl rfl)
theorem dX0_needless_11 : decode cX0_needless 11 = .ok (.istore 4, 2) := dk_54 4 (dk_at dksX0_needless_0 11 rfl rfl)
theorem dX0_needless_13 : decode cX0_needless 13 = .ok (.iload 4, 2) := dk_21 4 (dk_at dksX0_needless_0 13 rfl rfl)
theorem dX0_needless_15 : decode cX0_needless 15 = .ok (.aload_n 0, 1) := dk_42 (dk_at dksX0_needless_0 15 rfl rfl)
theorem dX0_needless_16 : decode cX0_needless 16 = .ok (.getfield 16, 3) := dk_180 0 16 (dk_at dksX0_needless_0 16 rfl rfl)
theorem dX0_needless_19 : decode cX0_needless 19 = .ok (.getfield 126, 3) := dk_180 0 126 (dk_at dksX0_needless_0 19 rfl rfl)
theorem dX0_needless_22 : decode cX0_needless 22 = .ok (.invokevirtual 130, 3) := dk_182 0 130 (dk_at dksX0_needless_1 0 rfl rfl)
theorem dX0_needless_25 : decode cX0_needless 25 = .ok (.if_icmp .ge 50, 3) := dk_162 0 50 (dk_at dksX0_needless_1 3 rfl rfl)
theorem dX0_needless_28 : decode cX0_needless 28 = .ok (.iload 4, 2) := dk_21 4 (dk_at dksX0_needless_1 6 rfl rfl)
theorem dX0_needless_30 : decode cX0_needless 30 = .ok (.iload_n 1, 1) := dk_27 (dk_at dksX0_needless_1 8 rfl rfl)
theorem dX0_needless_31 : decode cX0_needless 31 = .ok (.if_icmp .ne 6, 3) := dk_160 0 6 (dk_at dksX0_needless_1 9 rfl rfl)
theorem dX0_needless_34 : decode cX0_needless 34 = .ok (.goto 35, 3) := dk_167 0 35 (dk_at dksX0_needless_1 12 rfl rfl)
theorem dX0_needless_37 : decode cX0_needless 37 = .ok (.aload_n 0, 1) := dk_42 (dk_at dksX0_needless_1 15 rfl rfl)
theorem dX0_needless_38 : decode cX0_needless 38 = .ok (.getfield 71, 3) := dk_180 0 71 (dk_at dksX0_needless_1 16 rfl rfl)
theorem dX0_needless_41 : decode cX0_needless 41 = .ok (.iload_n 1, 1) := dk_27 (dk_at dksX0_needless_1 19 rfl rfl)
theorem dX0_needless_42 : decode cX0_needless 42 = .ok (.iload 4, 2) := dk_21 4 (dk_at dksX0_needless_1 20 rfl rfl)
theorem dX0_needless_44 : decode cX0_needless 44 = .ok (.invokevirtual 460, 3) := dk_182 1 204 (dk_at dksX0_needless_2 0 rfl rfl)
theorem dX0_needless_47 : decode cX0_needless 47 = .ok (.iload_n 3, 1) := dk_29 (dk_at dksX0_needless_2 3 rfl rfl)
theorem dX0_needless_48 : decode cX0_needless 48 = .ok (.aload_n 0, 1) := dk_42 (dk_at dksX0_needless_2 4 rfl rfl)
theorem dX0_needless_49 : decode cX0_needless 49 = .ok (.getfield 71, 3) := dk_180 0 71 (dk_at dksX0_needless_2 5 rfl rfl)
theorem dX0_needless_52 : decode cX0_needless 52 = .ok (.getfield 466, 3) := dk_180 1 210 (dk_at dksX0_needless_2 8 rfl rfl)
theorem dX0_needless_55 : decode cX0_needless 55 = .ok (.iload_n 2, 1) := dk_28 (dk_at dksX0_needless_2 11 rfl rfl)
theorem dX0_needless_56 : decode cX0_needless 56 = .ok (.if_icmp .ne 10, 3) := dk_160 0 10 (dk_at dksX0_needless_2 12 rfl rfl)
theorem dX0_needless_59 : decode cX0_needless 59 = .ok (.iconst 1, 1) := dk_4 (dk_at dksX0_needless_2 15 rfl rfl)
theorem dX0_needless_60 : decode cX0_needless 60 = .ok (.iload 4, 2) := dk_21 4 (dk_at dksX0_needless_2 16 rfl rfl)
theorem dX0_needless_62 : decode cX0_needless 62 = .ok (.ishl, 1) := dk_120 (dk_at dksX0_needless_2 18 rfl rfl)
theorem dX0_needless_63 : decode cX0_needless 63 = .ok (.goto 4, 3) := dk_167 0 4 (dk_at dksX0_needless_2 19 rfl rfl)
theorem dX0_needless_66 : decode cX0_needless 66 = .ok (.iconst 0, 1) := dk_3 (dk_at dksX0_needless_2 22 rfl rfl)
theorem dX0_needless_67 : decode cX0_needless 67 = .ok (.ior, 1) := dk_128 (dk_at dksX0_needless_2 23 rfl rfl)
theorem dX0_needless_68 : decode cX0_needless 68 = .ok (.istore_n 3, 1) := dk_62 (dk_at dksX0_needless_3 0 rfl rfl)
theorem dX0_needless_69 : decode cX0_needless 69 = .ok (.iinc 4 1, 3) := dk_132 4 1 (dk_at dksX0_needless_3 1 rfl rfl)
theorem dX0_needless_72 : decode cX0_needless 72 = .ok (.goto (-59), 3) := dk_167 255 197 (dk_at dksX0_needless_3 4 rfl rfl)
theorem dX0_needless_75 : decode cX0_needless 75 = .ok (.iload_n 3, 1) := dk_29 (dk_at dksX0_needless_3 7 rfl rfl)
theorem dX0_needless_76 : decode cX0_needless 76 = .ok (.ireturn, 1) := dk_172 (dk_at dksX0_needless_3 8 rfl rfl)
abbrev cX0_cast : ByteArray := prog_1_method_73_code
def yX0_cast : MethodName := ⟨RX0, "cast", "(I)I"⟩
def dkwX0_cast_3 : List UInt8 := [180, 0, 78, 180, 1, 225, 27, 4, 100, 46, 172]
abbrev dktX0_cast_3 : List UInt8 := dkwX0_cast_3 ++ []
def dkwX0_cast_2 : List UInt8 := [180, 1, 221, 154, 0, 5, 2, 172, 27, 154, 0, 13, 42, 180, 0, 78, 180, 1, 222, 167, 0, 14, 42]
abbrev dktX0_cast_2 : List UInt8 := dkwX0_cast_2 ++ dktX0_cast_3
def dkwX0_cast_1 : List UInt8 := [180, 0, 78, 182, 1, 219, 27, 16, 20, 160, 0, 11, 42, 180, 0, 78, 180, 1, 221, 172, 42, 180, 0, 78]
abbrev dktX0_cast_1 : List UInt8 := dkwX0_cast_1 ++ dktX0_cast_2
def dkwX0_cast_0 : List UInt8 := [27, 3, 42, 180, 0, 16, 180, 0, 119, 184, 0, 122, 154, 0, 11, 27, 16, 20, 159, 0, 5, 2, 172, 42]
abbrev dktX0_cast_0 : List UInt8 := dkwX0_cast_0 ++ dktX0_cast_1
theorem dksX0_cast_0 : cX0_cast.data.toList.drop 0 = dktX0_cast_0 := by decide +kernel
theorem dksX0_cast_1 : cX0_cast.data.toList.drop 24 = dktX0_cast_1 := dk_seg dksX0_cast_0 24 rfl rfl
theorem dksX0_cast_2 : cX0_cast.data.toList.drop 48 = dktX0_cast_2 := dk_seg dksX0_cast_1 24 rfl rfl
theorem dksX0_cast_3 : cX0_cast.data.toList.drop 71 = dktX0_cast_3 := dk_seg dksX0_cast_2 23 rfl rfl
theorem dX0_cast_0 : decode cX0_cast 0 = .ok (.iload_n 1, 1) := dk_27 (dk_at dksX0_cast_0 0 rfl rfl)
theorem dX0_cast_1 : decode cX0_cast 1 = .ok (.iconst 0, 1) := dk_3 (dk_at dksX0_cast_0 1 rfl rfl)
theorem dX0_cast_2 : decode cX0_cast 2 = .ok (.aload_n 0, 1) := dk_42 (dk_at dksX0_cast_0 2 rfl rfl)
theorem dX0_cast_3 : decode cX0_cast 3 = .ok (.getfield 16, 3) := dk_180 0 16 (dk_at dksX0_cast_0 3 rfl rfl)
theorem dX0_cast_6 : decode cX0_cast 6 = .ok (.getfield 119, 3) := dk_180 0 119 (dk_at dksX0_cast_0 6 rfl rfl)
theorem dX0_cast_9 : decode cX0_cast 9 = .ok (.invokestatic 122, 3) := dk_184 0 122 (dk_at dksX0_cast_0 9 rfl rfl)
theorem dX0_cast_12 : decode cX0_cast 12 = .ok (.ifCond .ne 11, 3) := dk_154 0 11 (dk_at dksX0_cast_0 12 rfl rfl)
theorem dX0_cast_15 : decode cX0_cast 15 = .ok (.iload_n 1, 1) := dk_27 (dk_at dksX0_cast_0 15 rfl rfl)
theorem dX0_cast_16 : decode cX0_cast 16 = .ok (.bipush 20, 2) := dk_16 20 (dk_at dksX0_cast_0 16 rfl rfl)
theorem dX0_cast_18 : decode cX0_cast 18 = .ok (.if_icmp .eq 5, 3) := dk_159 0 5 (dk_at dksX0_cast_0 18 rfl rfl)
theorem dX0_cast_21 : decode cX0_cast 21 = .ok (.iconst (-1), 1) := dk_2 (dk_at dksX0_cast_0 21 rfl rfl)
theorem dX0_cast_22 : decode cX0_cast 22 = .ok (.ireturn, 1) := dk_172 (dk_at dksX0_cast_0 22 rfl rfl)
theorem dX0_cast_23 : decode cX0_cast 23 = .ok (.aload_n 0, 1) := dk_42 (dk_at dksX0_cast_0 23 rfl rfl)
theorem dX0_cast_24 : decode cX0_cast 24 = .ok (.getfield 78, 3) := dk_180 0 78 (dk_at dksX0_cast_1 0 rfl rfl)
theorem dX0_cast_27 : decode cX0_cast 27 = .ok (.invokevirtual 475, 3) := dk_182 1 219 (dk_at dksX0_cast_1 3 rfl rfl)
theorem dX0_cast_30 : decode cX0_cast 30 = .ok (.iload_n 1, 1) := dk_27 (dk_at dksX0_cast_1 6 rfl rfl)
theorem dX0_cast_31 : decode cX0_cast 31 = .ok (.bipush 20, 2) := dk_16 20 (dk_at dksX0_cast_1 7 rfl rfl)
theorem dX0_cast_33 : decode cX0_cast 33 = .ok (.if_icmp .ne 11, 3) := dk_160 0 11 (dk_at dksX0_cast_1 9 rfl rfl)
theorem dX0_cast_36 : decode cX0_cast 36 = .ok (.aload_n 0, 1) := dk_42 (dk_at dksX0_cast_1 12 rfl rfl)
theorem dX0_cast_37 : decode cX0_cast 37 = .ok (.getfield 78, 3) := dk_180 0 78 (dk_at dksX0_cast_1 13 rfl rfl)
theorem dX0_cast_40 : decode cX0_cast 40 = .ok (.getfield 477, 3) := dk_180 1 221 (dk_at dksX0_cast_1 16 rfl rfl)
theorem dX0_cast_43 : decode cX0_cast 43 = .ok (.ireturn, 1) := dk_172 (dk_at dksX0_cast_1 19 rfl rfl)
theorem dX0_cast_44 : decode cX0_cast 44 = .ok (.aload_n 0, 1) := dk_42 (dk_at dksX0_cast_1 20 rfl rfl)
theorem dX0_cast_45 : decode cX0_cast 45 = .ok (.getfield 78, 3) := dk_180 0 78 (dk_at dksX0_cast_1 21 rfl rfl)
theorem dX0_cast_48 : decode cX0_cast 48 = .ok (.getfield 477, 3) := dk_180 1 221 (dk_at dksX0_cast_2 0 rfl rfl)
theorem dX0_cast_51 : decode cX0_cast 51 = .ok (.ifCond .ne 5, 3) := dk_154 0 5 (dk_at dksX0_cast_2 3 rfl rfl)
theorem dX0_cast_54 : decode cX0_cast 54 = .ok (.iconst (-1), 1) := dk_2 (dk_at dksX0_cast_2 6 rfl rfl)
theorem dX0_cast_55 : decode cX0_cast 55 = .ok (.ireturn, 1) := dk_172 (dk_at dksX0_cast_2 7 rfl rfl)
theorem dX0_cast_56 : decode cX0_cast 56 = .ok (.iload_n 1, 1) := dk_27 (dk_at dksX0_cast_2 8 rfl rfl)
theorem dX0_cast_57 : decode cX0_cast 57 = .ok (.ifCond .ne 13, 3) := dk_154 0 13 (dk_at dksX0_cast_2 9 rfl rfl)
theorem dX0_cast_60 : decode cX0_cast 60 = .ok (.aload_n 0, 1) := dk_42 (dk_at dksX0_cast_2 12 rfl rfl)
theorem dX0_cast_61 : decode cX0_cast 61 = .ok (.getfield 78, 3) := dk_180 0 78 (dk_at dksX0_cast_2 13 rfl rfl)
theorem dX0_cast_64 : decode cX0_cast 64 = .ok (.getfield 478, 3) := dk_180 1 222 (dk_at dksX0_cast_2 16 rfl rfl)
theorem dX0_cast_67 : decode cX0_cast 67 = .ok (.goto 14, 3) := dk_167 0 14 (dk_at dksX0_cast_2 19 rfl rfl)
theorem dX0_cast_70 : decode cX0_cast 70 = .ok (.aload_n 0, 1) := dk_42 (dk_at dksX0_cast_2 22 rfl rfl)
theorem dX0_cast_71 : decode cX0_cast 71 = .ok (.getfield 78, 3) := dk_180 0 78 (dk_at dksX0_cast_3 0 rfl rfl)
theorem dX0_cast_74 : decode cX0_cast 74 = .ok (.getfield 481, 3) := dk_180 1 225 (dk_at dksX0_cast_3 3 rfl rfl)
theorem dX0_cast_77 : decode cX0_cast 77 = .ok (.iload_n 1, 1) := dk_27 (dk_at dksX0_cast_3 6 rfl rfl)
theorem dX0_cast_78 : decode cX0_cast 78 = .ok (.iconst 1, 1) := dk_4 (dk_at dksX0_cast_3 7 rfl rfl)
theorem dX0_cast_79 : decode cX0_cast 79 = .ok (.isub, 1) := dk_100 (dk_at dksX0_cast_3 8 rfl rfl)
theorem dX0_cast_80 : decode cX0_cast 80 = .ok (.iaload, 1) := dk_46 (dk_at dksX0_cast_3 9 rfl rfl)
theorem dX0_cast_81 : decode cX0_cast 81 = .ok (.ireturn, 1) := dk_172 (dk_at dksX0_cast_3 10 rfl rfl)
abbrev cX0_deed : ByteArray := prog_1_method_74_code
def yX0_deed : MethodName := ⟨RX0, "deed", "(III)I"⟩
def dkwX0_deed_5 : List UInt8 := [180, 1, 226, 4, 96, 181, 1, 226, 42, 42, 180, 0, 16, 180, 1, 226, 182, 0, 164, 172]
abbrev dktX0_deed_5 : List UInt8 := dkwX0_deed_5 ++ []
def dkwX0_deed_4 : List UInt8 := [180, 0, 16, 180, 1, 229, 6, 42, 180, 0, 16, 180, 1, 226, 104, 5, 96, 29, 79, 42, 180, 0, 16, 89]
abbrev dktX0_deed_4 : List UInt8 := dkwX0_deed_4 ++ dktX0_deed_5
def dkwX0_deed_3 : List UInt8 := [79, 42, 180, 0, 16, 180, 1, 229, 6, 42, 180, 0, 16, 180, 1, 226, 104, 4, 96, 28, 79, 42]
abbrev dktX0_deed_3 : List UInt8 := dkwX0_deed_3 ++ dktX0_deed_4
def dkwX0_deed_2 : List UInt8 := [42, 16, 251, 182, 0, 157, 172, 42, 180, 0, 16, 180, 1, 229, 6, 42, 180, 0, 16, 180, 1, 226, 104, 27]
abbrev dktX0_deed_2 : List UInt8 := dkwX0_deed_2 ++ dktX0_deed_3
def dkwX0_deed_1 : List UInt8 := [184, 0, 122, 154, 0, 9, 42, 2, 182, 0, 157, 172, 42, 180, 0, 16, 180, 1, 226, 16, 12, 160, 0, 10]
abbrev dktX0_deed_1 : List UInt8 := dkwX0_deed_1 ++ dktX0_deed_2
def dkwX0_deed_0 : List UInt8 := [27, 3, 6, 184, 0, 122, 153, 0, 22, 28, 3, 8, 184, 0, 122, 153, 0, 13, 29, 3, 16, 9]
abbrev dktX0_deed_0 : List UInt8 := dkwX0_deed_0 ++ dktX0_deed_1
theorem dksX0_deed_0 : cX0_deed.data.toList.drop 0 = dktX0_deed_0 := by decide +kernel
theorem dksX0_deed_1 : cX0_deed.data.toList.drop 22 = dktX0_deed_1 := dk_seg dksX0_deed_0 22 rfl rfl
theorem dksX0_deed_2 : cX0_deed.data.toList.drop 46 = dktX0_deed_2 := dk_seg dksX0_deed_1 24 rfl rfl
theorem dksX0_deed_3 : cX0_deed.data.toList.drop 70 = dktX0_deed_3 := dk_seg dksX0_deed_2 24 rfl rfl
theorem dksX0_deed_4 : cX0_deed.data.toList.drop 92 = dktX0_deed_4 := dk_seg dksX0_deed_3 22 rfl rfl
theorem dksX0_deed_5 : cX0_deed.data.toList.drop 116 = dktX0_deed_5 := dk_seg dksX0_deed_4 24 rfl rfl
theorem dX0_deed_0 : decode cX0_deed 0 = .ok (.iload_n 1, 1) := dk_27 (dk_at dksX0_deed_0 0 rfl rfl)
theorem dX0_deed_1 : decode cX0_deed 1 = .ok (.iconst 0, 1) := dk_3 (dk_at dksX0_deed_0 1 rfl rfl)
theorem dX0_deed_2 : decode cX0_deed 2 = .ok (.iconst 3, 1) := dk_6 (dk_at dksX0_deed_0 2 rfl rfl)
theorem dX0_deed_3 : decode cX0_deed 3 = .ok (.invokestatic 122, 3) := dk_184 0 122 (dk_at dksX0_deed_0 3 rfl rfl)
theorem dX0_deed_6 : decode cX0_deed 6 = .ok (.ifCond .eq 22, 3) := dk_153 0 22 (dk_at dksX0_deed_0 6 rfl rfl)
theorem dX0_deed_9 : decode cX0_deed 9 = .ok (.iload_n 2, 1) := dk_28 (dk_at dksX0_deed_0 9 rfl rfl)
theorem dX0_deed_10 : decode cX0_deed 10 = .ok (.iconst 0, 1) := dk_3 (dk_at dksX0_deed_0 10 rfl rfl)
theorem dX0_deed_11 : decode cX0_deed 11 = .ok (.iconst 5, 1) := dk_8 (dk_at dksX0_deed_0 11 rfl rfl)
theorem dX0_deed_12 : decode cX0_deed 12 = .ok (.invokestatic 122, 3) := dk_184 0 122 (dk_at dksX0_deed_0 12 rfl rfl)
theorem dX0_deed_15 : decode cX0_deed 15 = .ok (.ifCond .eq 13, 3) := dk_153 0 13 (dk_at dksX0_deed_0 15 rfl rfl)
theorem dX0_deed_18 : decode cX0_deed 18 = .ok (.iload_n 3, 1) := dk_29 (dk_at dksX0_deed_0 18 rfl rfl)
theorem dX0_deed_19 : decode cX0_deed 19 = .ok (.iconst 0, 1) := dk_3 (dk_at dksX0_deed_0 19 rfl rfl)
theorem dX0_deed_20 : decode cX0_deed 20 = .ok (.bipush 9, 2) := dk_16 9 (dk_at dksX0_deed_0 20 rfl rfl)
theorem dX0_deed_22 : decode cX0_deed 22 = .ok (.invokestatic 122, 3) := dk_184 0 122 (dk_at dksX0_deed_1 0 rfl rfl)
theorem dX0_deed_25 : decode cX0_deed 25 = .ok (.ifCond .ne 9, 3) := dk_154 0 9 (dk_at dksX0_deed_1 3 rfl rfl)
theorem dX0_deed_28 : decode cX0_deed 28 = .ok (.aload_n 0, 1) := dk_42 (dk_at dksX0_deed_1 6 rfl rfl)
theorem dX0_deed_29 : decode cX0_deed 29 = .ok (.iconst (-1), 1) := dk_2 (dk_at dksX0_deed_1 7 rfl rfl)
theorem dX0_deed_30 : decode cX0_deed 30 = .ok (.invokevirtual 157, 3) := dk_182 0 157 (dk_at dksX0_deed_1 8 rfl rfl)
theorem dX0_deed_33 : decode cX0_deed 33 = .ok (.ireturn, 1) := dk_172 (dk_at dksX0_deed_1 11 rfl rfl)
theorem dX0_deed_34 : decode cX0_deed 34 = .ok (.aload_n 0, 1) := dk_42 (dk_at dksX0_deed_1 12 rfl rfl)
theorem dX0_deed_35 : decode cX0_deed 35 = .ok (.getfield 16, 3) := dk_180 0 16 (dk_at dksX0_deed_1 13 rfl rfl)
theorem dX0_deed_38 : decode cX0_deed 38 = .ok (.getfield 482, 3) := dk_180 1 226 (dk_at dksX0_deed_1 16 rfl rfl)
theorem dX0_deed_41 : decode cX0_deed 41 = .ok (.bipush 12, 2) := dk_16 12 (dk_at dksX0_deed_1 19 rfl rfl)
theorem dX0_deed_43 : decode cX0_deed 43 = .ok (.if_icmp .ne 10, 3) := dk_160 0 10 (dk_at dksX0_deed_1 21 rfl rfl)
theorem dX0_deed_46 : decode cX0_deed 46 = .ok (.aload_n 0, 1) := dk_42 (dk_at dksX0_deed_2 0 rfl rfl)
theorem dX0_deed_47 : decode cX0_deed 47 = .ok (.bipush (-5), 2) := dk_16 251 (dk_at dksX0_deed_2 1 rfl rfl)
theorem dX0_deed_49 : decode cX0_deed 49 = .ok (.invokevirtual 157, 3) := dk_182 0 157 (dk_at dksX0_deed_2 3 rfl rfl)
theorem dX0_deed_52 : decode cX0_deed 52 = .ok (.ireturn, 1) := dk_172 (dk_at dksX0_deed_2 6 rfl rfl)
theorem dX0_deed_53 : decode cX0_deed 53 = .ok (.aload_n 0, 1) := dk_42 (dk_at dksX0_deed_2 7 rfl rfl)
theorem dX0_deed_54 : decode cX0_deed 54 = .ok (.getfield 16, 3) := dk_180 0 16 (dk_at dksX0_deed_2 8 rfl rfl)
theorem dX0_deed_57 : decode cX0_deed 57 = .ok (.getfield 485, 3) := dk_180 1 229 (dk_at dksX0_deed_2 11 rfl rfl)
theorem dX0_deed_60 : decode cX0_deed 60 = .ok (.iconst 3, 1) := dk_6 (dk_at dksX0_deed_2 14 rfl rfl)
theorem dX0_deed_61 : decode cX0_deed 61 = .ok (.aload_n 0, 1) := dk_42 (dk_at dksX0_deed_2 15 rfl rfl)
theorem dX0_deed_62 : decode cX0_deed 62 = .ok (.getfield 16, 3) := dk_180 0 16 (dk_at dksX0_deed_2 16 rfl rfl)
theorem dX0_deed_65 : decode cX0_deed 65 = .ok (.getfield 482, 3) := dk_180 1 226 (dk_at dksX0_deed_2 19 rfl rfl)
theorem dX0_deed_68 : decode cX0_deed 68 = .ok (.imul, 1) := dk_104 (dk_at dksX0_deed_2 22 rfl rfl)
theorem dX0_deed_69 : decode cX0_deed 69 = .ok (.iload_n 1, 1) := dk_27 (dk_at dksX0_deed_2 23 rfl rfl)
theorem dX0_deed_70 : decode cX0_deed 70 = .ok (.iastore, 1) := dk_79 (dk_at dksX0_deed_3 0 rfl rfl)
theorem dX0_deed_71 : decode cX0_deed 71 = .ok (.aload_n 0, 1) := dk_42 (dk_at dksX0_deed_3 1 rfl rfl)
theorem dX0_deed_72 : decode cX0_deed 72 = .ok (.getfield 16, 3) := dk_180 0 16 (dk_at dksX0_deed_3 2 rfl rfl)
theorem dX0_deed_75 : decode cX0_deed 75 = .ok (.getfield 485, 3) := dk_180 1 229 (dk_at dksX0_deed_3 5 rfl rfl)
theorem dX0_deed_78 : decode cX0_deed 78 = .ok (.iconst 3, 1) := dk_6 (dk_at dksX0_deed_3 8 rfl rfl)
theorem dX0_deed_79 : decode cX0_deed 79 = .ok (.aload_n 0, 1) := dk_42 (dk_at dksX0_deed_3 9 rfl rfl)
theorem dX0_deed_80 : decode cX0_deed 80 = .ok (.getfield 16, 3) := dk_180 0 16 (dk_at dksX0_deed_3 10 rfl rfl)
theorem dX0_deed_83 : decode cX0_deed 83 = .ok (.getfield 482, 3) := dk_180 1 226 (dk_at dksX0_deed_3 13 rfl rfl)
theorem dX0_deed_86 : decode cX0_deed 86 = .ok (.imul, 1) := dk_104 (dk_at dksX0_deed_3 16 rfl rfl)
theorem dX0_deed_87 : decode cX0_deed 87 = .ok (.iconst 1, 1) := dk_4 (dk_at dksX0_deed_3 17 rfl rfl)
theorem dX0_deed_88 : decode cX0_deed 88 = .ok (.iadd, 1) := dk_96 (dk_at dksX0_deed_3 18 rfl rfl)
theorem dX0_deed_89 : decode cX0_deed 89 = .ok (.iload_n 2, 1) := dk_28 (dk_at dksX0_deed_3 19 rfl rfl)
theorem dX0_deed_90 : decode cX0_deed 90 = .ok (.iastore, 1) := dk_79 (dk_at dksX0_deed_3 20 rfl rfl)
theorem dX0_deed_91 : decode cX0_deed 91 = .ok (.aload_n 0, 1) := dk_42 (dk_at dksX0_deed_3 21 rfl rfl)
theorem dX0_deed_92 : decode cX0_deed 92 = .ok (.getfield 16, 3) := dk_180 0 16 (dk_at dksX0_deed_4 0 rfl rfl)
theorem dX0_deed_95 : decode cX0_deed 95 = .ok (.getfield 485, 3) := dk_180 1 229 (dk_at dksX0_deed_4 3 rfl rfl)
theorem dX0_deed_98 : decode cX0_deed 98 = .ok (.iconst 3, 1) := dk_6 (dk_at dksX0_deed_4 6 rfl rfl)
theorem dX0_deed_99 : decode cX0_deed 99 = .ok (.aload_n 0, 1) := dk_42 (dk_at dksX0_deed_4 7 rfl rfl)
theorem dX0_deed_100 : decode cX0_deed 100 = .ok (.getfield 16, 3) := dk_180 0 16 (dk_at dksX0_deed_4 8 rfl rfl)
theorem dX0_deed_103 : decode cX0_deed 103 = .ok (.getfield 482, 3) := dk_180 1 226 (dk_at dksX0_deed_4 11 rfl rfl)
theorem dX0_deed_106 : decode cX0_deed 106 = .ok (.imul, 1) := dk_104 (dk_at dksX0_deed_4 14 rfl rfl)
theorem dX0_deed_107 : decode cX0_deed 107 = .ok (.iconst 2, 1) := dk_5 (dk_at dksX0_deed_4 15 rfl rfl)
theorem dX0_deed_108 : decode cX0_deed 108 = .ok (.iadd, 1) := dk_96 (dk_at dksX0_deed_4 16 rfl rfl)
theorem dX0_deed_109 : decode cX0_deed 109 = .ok (.iload_n 3, 1) := dk_29 (dk_at dksX0_deed_4 17 rfl rfl)
theorem dX0_deed_110 : decode cX0_deed 110 = .ok (.iastore, 1) := dk_79 (dk_at dksX0_deed_4 18 rfl rfl)
theorem dX0_deed_111 : decode cX0_deed 111 = .ok (.aload_n 0, 1) := dk_42 (dk_at dksX0_deed_4 19 rfl rfl)
theorem dX0_deed_112 : decode cX0_deed 112 = .ok (.getfield 16, 3) := dk_180 0 16 (dk_at dksX0_deed_4 20 rfl rfl)
theorem dX0_deed_115 : decode cX0_deed 115 = .ok (.dup, 1) := dk_89 (dk_at dksX0_deed_4 23 rfl rfl)
theorem dX0_deed_116 : decode cX0_deed 116 = .ok (.getfield 482, 3) := dk_180 1 226 (dk_at dksX0_deed_5 0 rfl rfl)
theorem dX0_deed_119 : decode cX0_deed 119 = .ok (.iconst 1, 1) := dk_4 (dk_at dksX0_deed_5 3 rfl rfl)
theorem dX0_deed_120 : decode cX0_deed 120 = .ok (.iadd, 1) := dk_96 (dk_at dksX0_deed_5 4 rfl rfl)
theorem dX0_deed_121 : decode cX0_deed 121 = .ok (.putfield 482, 3) := dk_181 1 226 (dk_at dksX0_deed_5 5 rfl rfl)
theorem dX0_deed_124 : decode cX0_deed 124 = .ok (.aload_n 0, 1) := dk_42 (dk_at dksX0_deed_5 8 rfl rfl)
theorem dX0_deed_125 : decode cX0_deed 125 = .ok (.aload_n 0, 1) := dk_42 (dk_at dksX0_deed_5 9 rfl rfl)
theorem dX0_deed_126 : decode cX0_deed 126 = .ok (.getfield 16, 3) := dk_180 0 16 (dk_at dksX0_deed_5 10 rfl rfl)
theorem dX0_deed_129 : decode cX0_deed 129 = .ok (.getfield 482, 3) := dk_180 1 226 (dk_at dksX0_deed_5 13 rfl rfl)
theorem dX0_deed_132 : decode cX0_deed 132 = .ok (.invokevirtual 164, 3) := dk_182 0 164 (dk_at dksX0_deed_5 16 rfl rfl)
theorem dX0_deed_135 : decode cX0_deed 135 = .ok (.ireturn, 1) := dk_172 (dk_at dksX0_deed_5 19 rfl rfl)
abbrev cX0_forget : ByteArray := prog_1_method_75_code
def yX0_forget : MethodName := ⟨RX0, "forget", "()I"⟩
def dkwX0_forget_0 : List UInt8 := [42, 180, 0, 16, 180, 1, 226, 60, 42, 180, 0, 16, 3, 181, 1, 226, 27, 172]
abbrev dktX0_forget_0 : List UInt8 := dkwX0_forget_0 ++ []
theorem dksX0_forget_0 : cX0_forget.data.toList.drop 0 = dktX0_forget_0 := by decide +kernel
theorem dX0_forget_0 : decode cX0_forget 0 = .ok (.aload_n 0, 1) := dk_42 (dk_at dksX0_forget_0 0 rfl rfl)
theorem dX0_forget_1 : decode cX0_forget 1 = .ok (.getfield 16, 3) := dk_180 0 16 (dk_at dksX0_forget_0 1 rfl rfl)
theorem dX0_forget_4 : decode cX0_forget 4 = .ok (.getfield 482, 3) := dk_180 1 226 (dk_at dksX0_forget_0 4 rfl rfl)
theorem dX0_forget_7 : decode cX0_forget 7 = .ok (.istore_n 1, 1) := dk_60 (dk_at dksX0_forget_0 7 rfl rfl)
theorem dX0_forget_8 : decode cX0_forget 8 = .ok (.aload_n 0, 1) := dk_42 (dk_at dksX0_forget_0 8 rfl rfl)
theorem dX0_forget_9 : decode cX0_forget 9 = .ok (.getfield 16, 3) := dk_180 0 16 (dk_at dksX0_forget_0 9 rfl rfl)
theorem dX0_forget_12 : decode cX0_forget 12 = .ok (.iconst 0, 1) := dk_3 (dk_at dksX0_forget_0 12 rfl rfl)
theorem dX0_forget_13 : decode cX0_forget 13 = .ok (.putfield 482, 3) := dk_181 1 226 (dk_at dksX0_forget_0 13 rfl rfl)
theorem dX0_forget_16 : decode cX0_forget 16 = .ok (.iload_n 1, 1) := dk_27 (dk_at dksX0_forget_0 16 rfl rfl)
theorem dX0_forget_17 : decode cX0_forget 17 = .ok (.ireturn, 1) := dk_172 (dk_at dksX0_forget_0 17 rfl rfl)
abbrev cX0_judge : ByteArray := prog_1_method_76_code
def yX0_judge : MethodName := ⟨RX0, "judge", "(I)I"⟩
def dkwX0_judge_6 : List UInt8 := [4, 96, 46, 96, 182, 0, 194, 79, 132, 3, 1, 167, 255, 142, 2, 172]
abbrev dktX0_judge_6 : List UInt8 := dkwX0_judge_6 ++ []
def dkwX0_judge_5 : List UInt8 := [29, 172, 42, 180, 0, 82, 21, 4, 44, 16, 6, 21, 5, 104, 42, 180, 0, 16, 180, 1, 229, 6, 29, 104]
abbrev dktX0_judge_5 : List UInt8 := dkwX0_judge_5 ++ dktX0_judge_6
def dkwX0_judge_4 : List UInt8 := [6, 29, 104, 4, 96, 46, 96, 46, 42, 180, 0, 16, 180, 1, 229, 6, 29, 104, 5, 96, 46, 159, 0, 5]
abbrev dktX0_judge_4 : List UInt8 := dkwX0_judge_4 ++ dktX0_judge_5
def dkwX0_judge_3 : List UInt8 := [54, 5, 21, 5, 2, 159, 0, 43, 44, 180, 0, 187, 16, 6, 21, 5, 104, 42, 180, 0, 16, 180, 1, 229]
abbrev dktX0_judge_3 : List UInt8 := dkwX0_judge_3 ++ dktX0_judge_4
def dkwX0_judge_2 : List UInt8 := [162, 0, 109, 42, 180, 0, 16, 180, 1, 229, 6, 29, 104, 46, 54, 4, 42, 180, 0, 82, 21, 4, 46]
abbrev dktX0_judge_2 : List UInt8 := dkwX0_judge_2 ++ dktX0_judge_3
def dkwX0_judge_1 : List UInt8 := [180, 0, 82, 29, 3, 79, 132, 3, 1, 167, 255, 241, 3, 62, 29, 42, 180, 0, 16, 180, 1, 226]
abbrev dktX0_judge_1 : List UInt8 := dkwX0_judge_1 ++ dktX0_judge_2
def dkwX0_judge_0 : List UInt8 := [42, 27, 182, 1, 91, 154, 0, 5, 2, 172, 42, 27, 182, 1, 122, 77, 3, 62, 29, 7, 162, 0, 16, 42]
abbrev dktX0_judge_0 : List UInt8 := dkwX0_judge_0 ++ dktX0_judge_1
theorem dksX0_judge_0 : cX0_judge.data.toList.drop 0 = dktX0_judge_0 := by decide +kernel
theorem dksX0_judge_1 : cX0_judge.data.toList.drop 24 = dktX0_judge_1 := dk_seg dksX0_judge_0 24 rfl rfl
theorem dksX0_judge_2 : cX0_judge.data.toList.drop 46 = dktX0_judge_2 := dk_seg dksX0_judge_1 22 rfl rfl
theorem dksX0_judge_3 : cX0_judge.data.toList.drop 69 = dktX0_judge_3 := dk_seg dksX0_judge_2 23 rfl rfl
theorem dksX0_judge_4 : cX0_judge.data.toList.drop 93 = dktX0_judge_4 := dk_seg dksX0_judge_3 24 rfl rfl
theorem dksX0_judge_5 : cX0_judge.data.toList.drop 117 = dktX0_judge_5 := dk_seg dksX0_judge_4 24 rfl rfl
theorem dksX0_judge_6 : cX0_judge.data.toList.drop 141 = dktX0_judge_6 := dk_seg dksX0_judge_5 24 rfl rfl
theorem dX0_judge_0 : decode cX0_judge 0 = .ok (.aload_n 0, 1) := dk_42 (dk_at dksX0_judge_0 0 rfl rfl)
theorem dX0_judge_1 : decode cX0_judge 1 = .ok (.iload_n 1, 1) := dk_27 (dk_at dksX0_judge_0 1 rfl rfl)
theorem dX0_judge_2 : decode cX0_judge 2 = .ok (.invokevirtual 347, 3) := dk_182 1 91 (dk_at dksX0_judge_0 2 rfl rfl)
theorem dX0_judge_5 : decode cX0_judge 5 = .ok (.ifCond .ne 5, 3) := dk_154 0 5 (dk_at dksX0_judge_0 5 rfl rfl)
theorem dX0_judge_8 : decode cX0_judge 8 = .ok (.iconst (-1), 1) := dk_2 (dk_at dksX0_judge_0 8 rfl rfl)
theorem dX0_judge_9 : decode cX0_judge 9 = .ok (.ireturn, 1) := dk_172 (dk_at dksX0_judge_0 9 rfl rfl)
theorem dX0_judge_10 : decode cX0_judge 10 = .ok (.aload_n 0, 1) := dk_42 (dk_at dksX0_judge_0 10 rfl rfl)
theorem dX0_judge_11 : decode cX0_judge 11 = .ok (.iload_n 1, 1) := dk_27 (dk_at dksX0_judge_0 11 rfl rfl)
theorem dX0_judge_12 : decode cX0_judge 12 = .ok (.invokevirtual 378, 3) := dk_182 1 122 (dk_at dksX0_judge_0 12 rfl rfl)
theorem dX0_judge_15 : decode cX0_judge 15 = .ok (.astore_n 2, 1) := dk_77 (dk_at dksX0_judge_0 15 rfl rfl)
theorem dX0_judge_16 : decode cX0_judge 16 = .ok (.iconst 0, 1) := dk_3 (dk_at dksX0_judge_0 16 rfl rfl)
theorem dX0_judge_17 : decode cX0_judge 17 = .ok (.istore_n 3, 1) := dk_62 (dk_at dksX0_judge_0 17 rfl rfl)
theorem dX0_judge_18 : decode cX0_judge 18 = .ok (.iload_n 3, 1) := dk_29 (dk_at dksX0_judge_0 18 rfl rfl)
theorem dX0_judge_19 : decode cX0_judge 19 = .ok (.iconst 4, 1) := dk_7 (dk_at dksX0_judge_0 19 rfl rfl)
theorem dX0_judge_20 : decode cX0_judge 20 = .ok (.if_icmp .ge 16, 3) := dk_162 0 16 (dk_at dksX0_judge_0 20 rfl rfl)
theorem dX0_judge_23 : decode cX0_judge 23 = .ok (.aload_n 0, 1) := dk_42 (dk_at dksX0_judge_0 23 rfl rfl)
theorem dX0_judge_24 : decode cX0_judge 24 = .ok (.getfield 82, 3) := dk_180 0 82 (dk_at dksX0_judge_1 0 rfl rfl)
theorem dX0_judge_27 : decode cX0_judge 27 = .ok (.iload_n 3, 1) := dk_29 (dk_at dksX0_judge_1 3 rfl rfl)
theorem dX0_judge_28 : decode cX0_judge 28 = .ok (.iconst 0, 1) := dk_3 (dk_at dksX0_judge_1 4 rfl rfl)
theorem dX0_judge_29 : decode cX0_judge 29 = .ok (.iastore, 1) := dk_79 (dk_at dksX0_judge_1 5 rfl rfl)
theorem dX0_judge_30 : decode cX0_judge 30 = .ok (.iinc 3 1, 3) := dk_132 3 1 (dk_at dksX0_judge_1 6 rfl rfl)
theorem dX0_judge_33 : decode cX0_judge 33 = .ok (.goto (-15), 3) := dk_167 255 241 (dk_at dksX0_judge_1 9 rfl rfl)
theorem dX0_judge_36 : decode cX0_judge 36 = .ok (.iconst 0, 1) := dk_3 (dk_at dksX0_judge_1 12 rfl rfl)
theorem dX0_judge_37 : decode cX0_judge 37 = .ok (.istore_n 3, 1) := dk_62 (dk_at dksX0_judge_1 13 rfl rfl)
theorem dX0_judge_38 : decode cX0_judge 38 = .ok (.iload_n 3, 1) := dk_29 (dk_at dksX0_judge_1 14 rfl rfl)
theorem dX0_judge_39 : decode cX0_judge 39 = .ok (.aload_n 0, 1) := dk_42 (dk_at dksX0_judge_1 15 rfl rfl)
theorem dX0_judge_40 : decode cX0_judge 40 = .ok (.getfield 16, 3) := dk_180 0 16 (dk_at dksX0_judge_1 16 rfl rfl)
theorem dX0_judge_43 : decode cX0_judge 43 = .ok (.getfield 482, 3) := dk_180 1 226 (dk_at dksX0_judge_1 19 rfl rfl)
theorem dX0_judge_46 : decode cX0_judge 46 = .ok (.if_icmp .ge 109, 3) := dk_162 0 109 (dk_at dksX0_judge_2 0 rfl rfl)
theorem dX0_judge_49 : decode cX0_judge 49 = .ok (.aload_n 0, 1) := dk_42 (dk_at dksX0_judge_2 3 rfl rfl)
theorem dX0_judge_50 : decode cX0_judge 50 = .ok (.getfield 16, 3) := dk_180 0 16 (dk_at dksX0_judge_2 4 rfl rfl)
theorem dX0_judge_53 : decode cX0_judge 53 = .ok (.getfield 485, 3) := dk_180 1 229 (dk_at dksX0_judge_2 7 rfl rfl)
theorem dX0_judge_56 : decode cX0_judge 56 = .ok (.iconst 3, 1) := dk_6 (dk_at dksX0_judge_2 10 rfl rfl)
theorem dX0_judge_57 : decode cX0_judge 57 = .ok (.iload_n 3, 1) := dk_29 (dk_at dksX0_judge_2 11 rfl rfl)
theorem dX0_judge_58 : decode cX0_judge 58 = .ok (.imul, 1) := dk_104 (dk_at dksX0_judge_2 12 rfl rfl)
theorem dX0_judge_59 : decode cX0_judge 59 = .ok (.iaload, 1) := dk_46 (dk_at dksX0_judge_2 13 rfl rfl)
theorem dX0_judge_60 : decode cX0_judge 60 = .ok (.istore 4, 2) := dk_54 4 (dk_at dksX0_judge_2 14 rfl rfl)
theorem dX0_judge_62 : decode cX0_judge 62 = .ok (.aload_n 0, 1) := dk_42 (dk_at dksX0_judge_2 16 rfl rfl)
theorem dX0_judge_63 : decode cX0_judge 63 = .ok (.getfield 82, 3) := dk_180 0 82 (dk_at dksX0_judge_2 17 rfl rfl)
theorem dX0_judge_66 : decode cX0_judge 66 = .ok (.iload 4, 2) := dk_21 4 (dk_at dksX0_judge_2 20 rfl rfl)
theorem dX0_judge_68 : decode cX0_judge 68 = .ok (.iaload, 1) := dk_46 (dk_at dksX0_judge_2 22 rfl rfl)
theorem dX0_judge_69 : decode cX0_judge 69 = .ok (.istore 5, 2) := dk_54 5 (dk_at dksX0_judge_3 0 rfl rfl)
theorem dX0_judge_71 : decode cX0_judge 71 = .ok (.iload 5, 2) := dk_21 5 (dk_at dksX0_judge_3 2 rfl rfl)
theorem dX0_judge_73 : decode cX0_judge 73 = .ok (.iconst (-1), 1) := dk_2 (dk_at dksX0_judge_3 4 rfl rfl)
theorem dX0_judge_74 : decode cX0_judge 74 = .ok (.if_icmp .eq 43, 3) := dk_159 0 43 (dk_at dksX0_judge_3 5 rfl rfl)
theorem dX0_judge_77 : decode cX0_judge 77 = .ok (.aload_n 2, 1) := dk_44 (dk_at dksX0_judge_3 8 rfl rfl)
theorem dX0_judge_78 : decode cX0_judge 78 = .ok (.getfield 187, 3) := dk_180 0 187 (dk_at dksX0_judge_3 9 rfl rfl)
theorem dX0_judge_81 : decode cX0_judge 81 = .ok (.bipush 6, 2) := dk_16 6 (dk_at dksX0_judge_3 12 rfl rfl)
theorem dX0_judge_83 : decode cX0_judge 83 = .ok (.iload 5, 2) := dk_21 5 (dk_at dksX0_judge_3 14 rfl rfl)
theorem dX0_judge_85 : decode cX0_judge 85 = .ok (.imul, 1) := dk_104 (dk_at dksX0_judge_3 16 rfl rfl)
theorem dX0_judge_86 : decode cX0_judge 86 = .ok (.aload_n 0, 1) := dk_42 (dk_at dksX0_judge_3 17 rfl rfl)
theorem dX0_judge_87 : decode cX0_judge 87 = .ok (.getfield 16, 3) := dk_180 0 16 (dk_at dksX0_judge_3 18 rfl rfl)
theorem dX0_judge_90 : decode cX0_judge 90 = .ok (.getfield 485, 3) := dk_180 1 229 (dk_at dksX0_judge_3 21 rfl rfl)
theorem dX0_judge_93 : decode cX0_judge 93 = .ok (.iconst 3, 1) := dk_6 (dk_at dksX0_judge_4 0 rfl rfl)
theorem dX0_judge_94 : decode cX0_judge 94 = .ok (.iload_n 3, 1) := dk_29 (dk_at dksX0_judge_4 1 rfl rfl)
theorem dX0_judge_95 : decode cX0_judge 95 = .ok (.imul, 1) := dk_104 (dk_at dksX0_judge_4 2 rfl rfl)
theorem dX0_judge_96 : decode cX0_judge 96 = .ok (.iconst 1, 1) := dk_4 (dk_at dksX0_judge_4 3 rfl rfl)
theorem dX0_judge_97 : decode cX0_judge 97 = .ok (.iadd, 1) := dk_96 (dk_at dksX0_judge_4 4 rfl rfl)
theorem dX0_judge_98 : decode cX0_judge 98 = .ok (.iaload, 1) := dk_46 (dk_at dksX0_judge_4 5 rfl rfl)
theorem dX0_judge_99 : decode cX0_judge 99 = .ok (.iadd, 1) := dk_96 (dk_at dksX0_judge_4 6 rfl rfl)
theorem dX0_judge_100 : decode cX0_judge 100 = .ok (.iaload, 1) := dk_46 (dk_at dksX0_judge_4 7 rfl rfl)
theorem dX0_judge_101 : decode cX0_judge 101 = .ok (.aload_n 0, 1) := dk_42 (dk_at dksX0_judge_4 8 rfl rfl)
theorem dX0_judge_102 : decode cX0_judge 102 = .ok (.getfield 16, 3) := dk_180 0 16 (dk_at dksX0_judge_4 9 rfl rfl)
theorem dX0_judge_105 : decode cX0_judge 105 = .ok (.getfield 485, 3) := dk_180 1 229 (dk_at dksX0_judge_4 12 rfl rfl)
theorem dX0_judge_108 : decode cX0_judge 108 = .ok (.iconst 3, 1) := dk_6 (dk_at dksX0_judge_4 15 rfl rfl)
theorem dX0_judge_109 : decode cX0_judge 109 = .ok (.iload_n 3, 1) := dk_29 (dk_at dksX0_judge_4 16 rfl rfl)
theorem dX0_judge_110 : decode cX0_judge 110 = .ok (.imul, 1) := dk_104 (dk_at dksX0_judge_4 17 rfl rfl)
theorem dX0_judge_111 : decode cX0_judge 111 = .ok (.iconst 2, 1) := dk_5 (dk_at dksX0_judge_4 18 rfl rfl)
theorem dX0_judge_112 : decode cX0_judge 112 = .ok (.iadd, 1) := dk_96 (dk_at dksX0_judge_4 19 rfl rfl)
theorem dX0_judge_113 : decode cX0_judge 113 = .ok (.iaload, 1) := dk_46 (dk_at dksX0_judge_4 20 rfl rfl)
theorem dX0_judge_114 : decode cX0_judge 114 = .ok (.if_icmp .eq 5, 3) := dk_159 0 5 (dk_at dksX0_judge_4 21 rfl rfl)
theorem dX0_judge_117 : decode cX0_judge 117 = .ok (.iload_n 3, 1) := dk_29 (dk_at dksX0_judge_5 0 rfl rfl)
theorem dX0_judge_118 : decode cX0_judge 118 = .ok (.ireturn, 1) := dk_172 (dk_at dksX0_judge_5 1 rfl rfl)
theorem dX0_judge_119 : decode cX0_judge 119 = .ok (.aload_n 0, 1) := dk_42 (dk_at dksX0_judge_5 2 rfl rfl)
theorem dX0_judge_120 : decode cX0_judge 120 = .ok (.getfield 82, 3) := dk_180 0 82 (dk_at dksX0_judge_5 3 rfl rfl)
theorem dX0_judge_123 : decode cX0_judge 123 = .ok (.iload 4, 2) := dk_21 4 (dk_at dksX0_judge_5 6 rfl rfl)
theorem dX0_judge_125 : decode cX0_judge 125 = .ok (.aload_n 2, 1) := dk_44 (dk_at dksX0_judge_5 8 rfl rfl)
theorem dX0_judge_126 : decode cX0_judge 126 = .ok (.bipush 6, 2) := dk_16 6 (dk_at dksX0_judge_5 9 rfl rfl)
theorem dX0_judge_128 : decode cX0_judge 128 = .ok (.iload 5, 2) := dk_21 5 (dk_at dksX0_judge_5 11 rfl rfl)
theorem dX0_judge_130 : decode cX0_judge 130 = .ok (.imul, 1) := dk_104 (dk_at dksX0_judge_5 13 rfl rfl)
theorem dX0_judge_131 : decode cX0_judge 131 = .ok (.aload_n 0, 1) := dk_42 (dk_at dksX0_judge_5 14 rfl rfl)
theorem dX0_judge_132 : decode cX0_judge 132 = .ok (.getfield 16, 3) := dk_180 0 16 (dk_at dksX0_judge_5 15 rfl rfl)
theorem dX0_judge_135 : decode cX0_judge 135 = .ok (.getfield 485, 3) := dk_180 1 229 (dk_at dksX0_judge_5 18 rfl rfl)
theorem dX0_judge_138 : decode cX0_judge 138 = .ok (.iconst 3, 1) := dk_6 (dk_at dksX0_judge_5 21 rfl rfl)
theorem dX0_judge_139 : decode cX0_judge 139 = .ok (.iload_n 3, 1) := dk_29 (dk_at dksX0_judge_5 22 rfl rfl)
theorem dX0_judge_140 : decode cX0_judge 140 = .ok (.imul, 1) := dk_104 (dk_at dksX0_judge_5 23 rfl rfl)
theorem dX0_judge_141 : decode cX0_judge 141 = .ok (.iconst 1, 1) := dk_4 (dk_at dksX0_judge_6 0 rfl rfl)
theorem dX0_judge_142 : decode cX0_judge 142 = .ok (.iadd, 1) := dk_96 (dk_at dksX0_judge_6 1 rfl rfl)
theorem dX0_judge_143 : decode cX0_judge 143 = .ok (.iaload, 1) := dk_46 (dk_at dksX0_judge_6 2 rfl rfl)
theorem dX0_judge_144 : decode cX0_judge 144 = .ok (.iadd, 1) := dk_96 (dk_at dksX0_judge_6 3 rfl rfl)
theorem dX0_judge_145 : decode cX0_judge 145 = .ok (.invokevirtual 194, 3) := dk_182 0 194 (dk_at dksX0_judge_6 4 rfl rfl)
theorem dX0_judge_148 : decode cX0_judge 148 = .ok (.iastore, 1) := dk_79 (dk_at dksX0_judge_6 7 rfl rfl)
theorem dX0_judge_149 : decode cX0_judge 149 = .ok (.iinc 3 1, 3) := dk_132 3 1 (dk_at dksX0_judge_6 8 rfl rfl)
theorem dX0_judge_152 : decode cX0_judge 152 = .ok (.goto (-114), 3) := dk_167 255 142 (dk_at dksX0_judge_6 11 rfl rfl)
theorem dX0_judge_155 : decode cX0_judge 155 = .ok (.iconst (-1), 1) := dk_2 (dk_at dksX0_judge_6 14 rfl rfl)
theorem dX0_judge_156 : decode cX0_judge 156 = .ok (.ireturn, 1) := dk_172 (dk_at dksX0_judge_6 15 rfl rfl)
abbrev cX0_least : ByteArray := prog_1_method_77_code
def yX0_least : MethodName := ⟨RX0, "least", "(I)I"⟩
def dkwX0_least_1 : List UInt8 := [154, 0, 7, 28, 167, 0, 19, 28, 2, 160, 0, 7, 3, 167, 0, 10, 42, 180, 0, 88, 180, 1, 234, 172]
abbrev dktX0_least_1 : List UInt8 := dkwX0_least_1 ++ []
def dkwX0_least_0 : List UInt8 := [27, 3, 4, 184, 0, 122, 154, 0, 5, 2, 172, 42, 180, 0, 88, 2, 3, 182, 1, 232, 61, 27]
abbrev dktX0_least_0 : List UInt8 := dkwX0_least_0 ++ dktX0_least_1
theorem dksX0_least_0 : cX0_least.data.toList.drop 0 = dktX0_least_0 := by decide +kernel
theorem dksX0_least_1 : cX0_least.data.toList.drop 22 = dktX0_least_1 := dk_seg dksX0_least_0 22 rfl rfl
theorem dX0_least_0 : decode cX0_least 0 = .ok (.iload_n 1, 1) := dk_27 (dk_at dksX0_least_0 0 rfl rfl)
theorem dX0_least_1 : decode cX0_least 1 = .ok (.iconst 0, 1) := dk_3 (dk_at dksX0_least_0 1 rfl rfl)
theorem dX0_least_2 : decode cX0_least 2 = .ok (.iconst 1, 1) := dk_4 (dk_at dksX0_least_0 2 rfl rfl)
theorem dX0_least_3 : decode cX0_least 3 = .ok (.invokestatic 122, 3) := dk_184 0 122 (dk_at dksX0_least_0 3 rfl rfl)
theorem dX0_least_6 : decode cX0_least 6 = .ok (.ifCond .ne 5, 3) := dk_154 0 5 (dk_at dksX0_least_0 6 rfl rfl)
theorem dX0_least_9 : decode cX0_least 9 = .ok (.iconst (-1), 1) := dk_2 (dk_at dksX0_least_0 9 rfl rfl)
theorem dX0_least_10 : decode cX0_least 10 = .ok (.ireturn, 1) := dk_172 (dk_at dksX0_least_0 10 rfl rfl)
theorem dX0_least_11 : decode cX0_least 11 = .ok (.aload_n 0, 1) := dk_42 (dk_at dksX0_least_0 11 rfl rfl)
theorem dX0_least_12 : decode cX0_least 12 = .ok (.getfield 88, 3) := dk_180 0 88 (dk_at dksX0_least_0 12 rfl rfl)
theorem dX0_least_15 : decode cX0_least 15 = .ok (.iconst (-1), 1) := dk_2 (dk_at dksX0_least_0 15 rfl rfl)
theorem dX0_least_16 : decode cX0_least 16 = .ok (.iconst 0, 1) := dk_3 (dk_at dksX0_least_0 16 rfl rfl)
theorem dX0_least_17 : decode cX0_least 17 = .ok (.invokevirtual 488, 3) := dk_182 1 232 (dk_at dksX0_least_0 17 rfl rfl)
theorem dX0_least_20 : decode cX0_least 20 = .ok (.istore_n 2, 1) := dk_61 (dk_at dksX0_least_0 20 rfl rfl)
theorem dX0_least_21 : decode cX0_least 21 = .ok (.iload_n 1, 1) := dk_27 (dk_at dksX0_least_0 21 rfl rfl)
theorem dX0_least_22 : decode cX0_least 22 = .ok (.ifCond .ne 7, 3) := dk_154 0 7 (dk_at dksX0_least_1 0 rfl rfl)
theorem dX0_least_25 : decode cX0_least 25 = .ok (.iload_n 2, 1) := dk_28 (dk_at dksX0_least_1 3 rfl rfl)
theorem dX0_least_26 : decode cX0_least 26 = .ok (.goto 19, 3) := dk_167 0 19 (dk_at dksX0_least_1 4 rfl rfl)
theorem dX0_least_29 : decode cX0_least 29 = .ok (.iload_n 2, 1) := dk_28 (dk_at dksX0_least_1 7 rfl rfl)
theorem dX0_least_30 : decode cX0_least 30 = .ok (.iconst (-1), 1) := dk_2 (dk_at dksX0_least_1 8 rfl rfl)
theorem dX0_least_31 : decode cX0_least 31 = .ok (.if_icmp .ne 7, 3) := dk_160 0 7 (dk_at dksX0_least_1 9 rfl rfl)
theorem dX0_least_34 : decode cX0_least 34 = .ok (.iconst 0, 1) := dk_3 (dk_at dksX0_least_1 12 rfl rfl)
theorem dX0_least_35 : decode cX0_least 35 = .ok (.goto 10, 3) := dk_167 0 10 (dk_at dksX0_least_1 13 rfl rfl)
theorem dX0_least_38 : decode cX0_least 38 = .ok (.aload_n 0, 1) := dk_42 (dk_at dksX0_least_1 16 rfl rfl)
theorem dX0_least_39 : decode cX0_least 39 = .ok (.getfield 88, 3) := dk_180 0 88 (dk_at dksX0_least_1 17 rfl rfl)
theorem dX0_least_42 : decode cX0_least 42 = .ok (.getfield 490, 3) := dk_180 1 234 (dk_at dksX0_least_1 20 rfl rfl)
theorem dX0_least_45 : decode cX0_least 45 = .ok (.ireturn, 1) := dk_172 (dk_at dksX0_least_1 23 rfl rfl)
abbrev cX0_would : ByteArray := prog_1_method_78_code
def yX0_would : MethodName := ⟨RX0, "would", "(II)I"⟩
def dkwX0_would_1 : List UInt8 := [27, 28, 182, 1, 232, 2, 160, 0, 7, 2, 167, 0, 10, 42, 180, 0, 88, 180, 1, 235, 172]
abbrev dktX0_would_1 : List UInt8 := dkwX0_would_1 ++ []
def dkwX0_would_0 : List UInt8 := [27, 3, 6, 184, 0, 122, 153, 0, 12, 28, 3, 8, 184, 0, 122, 154, 0, 5, 2, 172, 42, 180, 0, 88]
abbrev dktX0_would_0 : List UInt8 := dkwX0_would_0 ++ dktX0_would_1
theorem dksX0_would_0 : cX0_would.data.toList.drop 0 = dktX0_would_0 := by decide +kernel
theorem dksX0_would_1 : cX0_would.data.toList.drop 24 = dktX0_would_1 := dk_seg dksX0_would_0 24 rfl rfl
theorem dX0_would_0 : decode cX0_would 0 = .ok (.iload_n 1, 1) := dk_27 (dk_at dksX0_would_0 0 rfl rfl)
theorem dX0_would_1 : decode cX0_would 1 = .ok (.iconst 0, 1) := dk_3 (dk_at dksX0_would_0 1 rfl rfl)
theorem dX0_would_2 : decode cX0_would 2 = .ok (.iconst 3, 1) := dk_6 (dk_at dksX0_would_0 2 rfl rfl)
theorem dX0_would_3 : decode cX0_would 3 = .ok (.invokestatic 122, 3) := dk_184 0 122 (dk_at dksX0_would_0 3 rfl rfl)
theorem dX0_would_6 : decode cX0_would 6 = .ok (.ifCond .eq 12, 3) := dk_153 0 12 (dk_at dksX0_would_0 6 rfl rfl)
theorem dX0_would_9 : decode cX0_would 9 = .ok (.iload_n 2, 1) := dk_28 (dk_at dksX0_would_0 9 rfl rfl)
theorem dX0_would_10 : decode cX0_would 10 = .ok (.iconst 0, 1) := dk_3 (dk_at dksX0_would_0 10 rfl rfl)
theorem dX0_would_11 : decode cX0_would 11 = .ok (.iconst 5, 1) := dk_8 (dk_at dksX0_would_0 11 rfl rfl)
theorem dX0_would_12 : decode cX0_would 12 = .ok (.invokestatic 122, 3) := dk_184 0 122 (dk_at dksX0_would_0 12 rfl rfl)
theorem dX0_would_15 : decode cX0_would 15 = .ok (.ifCond .ne 5, 3) := dk_154 0 5 (dk_at dksX0_would_0 15 rfl rfl)
theorem dX0_would_18 : decode cX0_would 18 = .ok (.iconst (-1), 1) := dk_2 (dk_at dksX0_would_0 18 rfl rfl)
theorem dX0_would_19 : decode cX0_would 19 = .ok (.ireturn, 1) := dk_172 (dk_at dksX0_would_0 19 rfl rfl)
theorem dX0_would_20 : decode cX0_would 20 = .ok (.aload_n 0, 1) := dk_42 (dk_at dksX0_would_0 20 rfl rfl)
theorem dX0_would_21 : decode cX0_would 21 = .ok (.getfield 88, 3) := dk_180 0 88 (dk_at dksX0_would_0 21 rfl rfl)
theorem dX0_would_24 : decode cX0_would 24 = .ok (.iload_n 1, 1) := dk_27 (dk_at dksX0_would_1 0 rfl rfl)
theorem dX0_would_25 : decode cX0_would 25 = .ok (.iload_n 2, 1) := dk_28 (dk_at dksX0_would_1 1 rfl rfl)
theorem dX0_would_26 : decode cX0_would 26 = .ok (.invokevirtual 488, 3) := dk_182 1 232 (dk_at dksX0_would_1 2 rfl rfl)
theorem dX0_would_29 : decode cX0_would 29 = .ok (.iconst (-1), 1) := dk_2 (dk_at dksX0_would_1 5 rfl rfl)
theorem dX0_would_30 : decode cX0_would 30 = .ok (.if_icmp .ne 7, 3) := dk_160 0 7 (dk_at dksX0_would_1 6 rfl rfl)
theorem dX0_would_33 : decode cX0_would 33 = .ok (.iconst (-1), 1) := dk_2 (dk_at dksX0_would_1 9 rfl rfl)
theorem dX0_would_34 : decode cX0_would 34 = .ok (.goto 10, 3) := dk_167 0 10 (dk_at dksX0_would_1 10 rfl rfl)
theorem dX0_would_37 : decode cX0_would 37 = .ok (.aload_n 0, 1) := dk_42 (dk_at dksX0_would_1 13 rfl rfl)
theorem dX0_would_38 : decode cX0_would 38 = .ok (.getfield 88, 3) := dk_180 0 88 (dk_at dksX0_would_1 14 rfl rfl)
theorem dX0_would_41 : decode cX0_would 41 = .ok (.getfield 491, 3) := dk_180 1 235 (dk_at dksX0_would_1 17 rfl rfl)
theorem dX0_would_44 : decode cX0_would 44 = .ok (.ireturn, 1) := dk_172 (dk_at dksX0_would_1 20 rfl rfl)
abbrev cX0_century : ByteArray := prog_1_method_80_code
def yX0_century : MethodName := ⟨RX0, "century", "(III)I"⟩
def dkwX0_century_12 : List UInt8 := [21, 4, 182, 0, 164, 172]
abbrev dktX0_century_12 : List UInt8 := dkwX0_century_12 ++ []
def dkwX0_century_11 : List UInt8 := [180, 0, 187, 21, 5, 46, 160, 0, 7, 3, 167, 0, 4, 4, 96, 54, 4, 132, 5, 1, 167, 255, 208, 42]
abbrev dktX0_century_11 : List UInt8 := dkwX0_century_11 ++ dktX0_century_12
def dkwX0_century_10 : List UInt8 := [162, 0, 47, 21, 4, 42, 180, 0, 92, 180, 0, 187, 21, 5, 46, 42, 180, 0, 16, 180, 0, 170, 28, 50]
abbrev dktX0_century_10 : List UInt8 := dkwX0_century_10 ++ dktX0_century_11
def dkwX0_century_9 : List UInt8 := [132, 7, 1, 167, 255, 198, 132, 4, 1, 167, 255, 141, 3, 54, 4, 3, 54, 5, 21, 5, 16, 36]
abbrev dktX0_century_9 : List UInt8 := dkwX0_century_9 ++ dktX0_century_10
def dkwX0_century_8 : List UInt8 := [180, 0, 92, 180, 0, 187, 21, 7, 42, 180, 0, 92, 180, 0, 187, 21, 7, 46, 4, 96, 16, 10, 112, 79]
abbrev dktX0_century_8 : List UInt8 := dkwX0_century_8 ++ dktX0_century_9
def dkwX0_century_7 : List UInt8 := [180, 0, 92, 21, 7, 182, 1, 102, 154, 0, 39, 42, 16, 100, 182, 1, 248, 21, 6, 162, 0, 28, 42]
abbrev dktX0_century_7 : List UInt8 := dkwX0_century_7 ++ dktX0_century_8
def dkwX0_century_6 : List UInt8 := [28, 2, 42, 182, 0, 229, 182, 1, 54, 54, 6, 3, 54, 7, 21, 7, 16, 36, 162, 0, 57, 42]
abbrev dktX0_century_6 : List UInt8 := dkwX0_century_6 ++ dktX0_century_7
def dkwX0_century_5 : List UInt8 := [42, 42, 180, 0, 98, 182, 1, 248, 54, 5, 42, 180, 0, 95, 21, 5, 92, 46, 4, 96, 79, 42, 21, 5]
abbrev dktX0_century_5 : List UInt8 := dkwX0_century_5 ++ dktX0_century_6
def dkwX0_century_4 : List UInt8 := [180, 0, 170, 28, 50, 182, 1, 137, 3, 54, 4, 21, 4, 29, 162, 0, 115, 42, 180, 0, 98, 158, 0, 108]
abbrev dktX0_century_4 : List UInt8 := dkwX0_century_4 ++ dktX0_century_5
def dkwX0_century_3 : List UInt8 := [42, 180, 0, 95, 21, 4, 3, 79, 132, 4, 1, 167, 255, 238, 42, 180, 0, 92, 42, 180, 0, 16]
abbrev dktX0_century_3 : List UInt8 := dkwX0_century_3 ++ dktX0_century_4
def dkwX0_century_2 : List UInt8 := [42, 42, 180, 0, 16, 180, 0, 126, 182, 0, 130, 181, 0, 98, 3, 54, 4, 21, 4, 16, 8, 162, 0, 17]
abbrev dktX0_century_2 : List UInt8 := dkwX0_century_2 ++ dktX0_century_3
def dkwX0_century_1 : List UInt8 := [182, 0, 157, 172, 42, 28, 182, 0, 184, 154, 0, 10, 42, 16, 254, 182, 0, 157, 172, 42, 27, 181, 1, 238]
abbrev dktX0_century_1 : List UInt8 := dkwX0_century_1 ++ dktX0_century_2
def dkwX0_century_0 : List UInt8 := [27, 3, 19, 1, 247, 184, 0, 122, 153, 0, 13, 29, 3, 16, 100, 184, 0, 122, 154, 0, 9, 42, 2]
abbrev dktX0_century_0 : List UInt8 := dkwX0_century_0 ++ dktX0_century_1
theorem dksX0_century_0 : cX0_century.data.toList.drop 0 = dktX0_century_0 := by decide +kernel
theorem dksX0_century_1 : cX0_century.data.toList.drop 23 = dktX0_century_1 := dk_seg dksX0_century_0 23 rfl rfl
theorem dksX0_century_2 : cX0_century.data.toList.drop 47 = dktX0_century_2 := dk_seg dksX0_century_1 24 rfl rfl
theorem dksX0_century_3 : cX0_century.data.toList.drop 71 = dktX0_century_3 := dk_seg dksX0_century_2 24 rfl rfl
theorem dksX0_century_4 : cX0_century.data.toList.drop 93 = dktX0_century_4 := dk_seg dksX0_century_3 22 rfl rfl
theorem dksX0_century_5 : cX0_century.data.toList.drop 117 = dktX0_century_5 := dk_seg dksX0_century_4 24 rfl rfl
theorem dksX0_century_6 : cX0_century.data.toList.drop 141 = dktX0_century_6 := dk_seg dksX0_century_5 24 rfl rfl
theorem dksX0_century_7 : cX0_century.data.toList.drop 163 = dktX0_century_7 := dk_seg dksX0_century_6 22 rfl rfl
theorem dksX0_century_8 : cX0_century.data.toList.drop 186 = dktX0_century_8 := dk_seg dksX0_century_7 23 rfl rfl
theorem dksX0_century_9 : cX0_century.data.toList.drop 210 = dktX0_century_9 := dk_seg dksX0_century_8 24 rfl rfl
theorem dksX0_century_10 : cX0_century.data.toList.drop 232 = dktX0_century_10 := dk_seg dksX0_century_9 22 rfl rfl
theorem dksX0_century_11 : cX0_century.data.toList.drop 256 = dktX0_century_11 := dk_seg dksX0_century_10 24 rfl rfl
theorem dksX0_century_12 : cX0_century.data.toList.drop 280 = dktX0_century_12 := dk_seg dksX0_century_11 24 rfl rfl
theorem dX0_century_0 : decode cX0_century 0 = .ok (.iload_n 1, 1) := dk_27 (dk_at dksX0_century_0 0 rfl rfl)
theorem dX0_century_1 : decode cX0_century 1 = .ok (.iconst 0, 1) := dk_3 (dk_at dksX0_century_0 1 rfl rfl)
theorem dX0_century_2 : decode cX0_century 2 = .ok (.ldc_w 503, 3) := dk_19 1 247 (dk_at dksX0_century_0 2 rfl rfl)
theorem dX0_century_5 : decode cX0_century 5 = .ok (.invokestatic 122, 3) := dk_184 0 122 (dk_at dksX0_century_0 5 rfl rfl)
theorem dX0_century_8 : decode cX0_century 8 = .ok (.ifCond .eq 13, 3) := dk_153 0 13 (dk_at dksX0_century_0 8 rfl rfl)
theorem dX0_century_11 : decode cX0_century 11 = .ok (.iload_n 3, 1) := dk_29 (dk_at dksX0_century_0 11 rfl rfl)
theorem dX0_century_12 : decode cX0_century 12 = .ok (.iconst 0, 1) := dk_3 (dk_at dksX0_century_0 12 rfl rfl)
theorem dX0_century_13 : decode cX0_century 13 = .ok (.bipush 100, 2) := dk_16 100 (dk_at dksX0_century_0 13 rfl rfl)
theorem dX0_century_15 : decode cX0_century 15 = .ok (.invokestatic 122, 3) := dk_184 0 122 (dk_at dksX0_century_0 15 rfl rfl)
theorem dX0_century_18 : decode cX0_century 18 = .ok (.ifCond .ne 9, 3) := dk_154 0 9 (dk_at dksX0_century_0 18 rfl rfl)
theorem dX0_century_21 : decode cX0_century 21 = .ok (.aload_n 0, 1) := dk_42 (dk_at dksX0_century_0 21 rfl rfl)
theorem dX0_century_22 : decode cX0_century 22 = .ok (.iconst (-1), 1) := dk_2 (dk_at dksX0_century_0 22 rfl rfl)
theorem dX0_century_23 : decode cX0_century 23 = .ok (.invokevirtual 157, 3) := dk_182 0 157 (dk_at dksX0_century_1 0 rfl rfl)
theorem dX0_century_26 : decode cX0_century 26 = .ok (.ireturn, 1) := dk_172 (dk_at dksX0_century_1 3 rfl rfl)
theorem dX0_century_27 : decode cX0_century 27 = .ok (.aload_n 0, 1) := dk_42 (dk_at dksX0_century_1 4 rfl rfl)
theorem dX0_century_28 : decode cX0_century 28 = .ok (.iload_n 2, 1) := dk_28 (dk_at dksX0_century_1 5 rfl rfl)
theorem dX0_century_29 : decode cX0_century 29 = .ok (.invokevirtual 184, 3) := dk_182 0 184 (dk_at dksX0_century_1 6 rfl rfl)
theorem dX0_century_32 : decode cX0_century 32 = .ok (.ifCond .ne 10, 3) := dk_154 0 10 (dk_at dksX0_century_1 9 rfl rfl)
theorem dX0_century_35 : decode cX0_century 35 = .ok (.aload_n 0, 1) := dk_42 (dk_at dksX0_century_1 12 rfl rfl)
theorem dX0_century_36 : decode cX0_century 36 = .ok (.bipush (-2), 2) := dk_16 254 (dk_at dksX0_century_1 13 rfl rfl)
theorem dX0_century_38 : decode cX0_century 38 = .ok (.invokevirtual 157, 3) := dk_182 0 157 (dk_at dksX0_century_1 15 rfl rfl)
theorem dX0_century_41 : decode cX0_century 41 = .ok (.ireturn, 1) := dk_172 (dk_at dksX0_century_1 18 rfl rfl)
theorem dX0_century_42 : decode cX0_century 42 = .ok (.aload_n 0, 1) := dk_42 (dk_at dksX0_century_1 19 rfl rfl)
theorem dX0_century_43 : decode cX0_century 43 = .ok (.iload_n 1, 1) := dk_27 (dk_at dksX0_century_1 20 rfl rfl)
theorem dX0_century_44 : decode cX0_century 44 = .ok (.putfield 494, 3) := dk_181 1 238 (dk_at dksX0_century_1 21 rfl rfl)
theorem dX0_century_47 : decode cX0_century 47 = .ok (.aload_n 0, 1) := dk_42 (dk_at dksX0_century_2 0 rfl rfl)
theorem dX0_century_48 : decode cX0_century 48 = .ok (.aload_n 0, 1) := dk_42 (dk_at dksX0_century_2 1 rfl rfl)
theorem dX0_century_49 : decode cX0_century 49 = .ok (.getfield 16, 3) := dk_180 0 16 (dk_at dksX0_century_2 2 rfl rfl)
theorem dX0_century_52 : decode cX0_century 52 = .ok (.getfield 126, 3) := dk_180 0 126 (dk_at dksX0_century_2 5 rfl rfl)
theorem dX0_century_55 : decode cX0_century 55 = .ok (.invokevirtual 130, 3) := dk_182 0 130 (dk_at dksX0_century_2 8 rfl rfl)
theorem dX0_century_58 : decode cX0_century 58 = .ok (.putfield 98, 3) := dk_181 0 98 (dk_at dksX0_century_2 11 rfl rfl)
theorem dX0_century_61 : decode cX0_century 61 = .ok (.iconst 0, 1) := dk_3 (dk_at dksX0_century_2 14 rfl rfl)
theorem dX0_century_62 : decode cX0_century 62 = .ok (.istore 4, 2) := dk_54 4 (dk_at dksX0_century_2 15 rfl rfl)
theorem dX0_century_64 : decode cX0_century 64 = .ok (.iload 4, 2) := dk_21 4 (dk_at dksX0_century_2 17 rfl rfl)
theorem dX0_century_66 : decode cX0_century 66 = .ok (.bipush 8, 2) := dk_16 8 (dk_at dksX0_century_2 19 rfl rfl)
theorem dX0_century_68 : decode cX0_century 68 = .ok (.if_icmp .ge 17, 3) := dk_162 0 17 (dk_at dksX0_century_2 21 rfl rfl)
theorem dX0_century_71 : decode cX0_century 71 = .ok (.aload_n 0, 1) := dk_42 (dk_at dksX0_century_3 0 rfl rfl)
theorem dX0_century_72 : decode cX0_century 72 = .ok (.getfield 95, 3) := dk_180 0 95 (dk_at dksX0_century_3 1 rfl rfl)
theorem dX0_century_75 : decode cX0_century 75 = .ok (.iload 4, 2) := dk_21 4 (dk_at dksX0_century_3 4 rfl rfl)
theorem dX0_century_77 : decode cX0_century 77 = .ok (.iconst 0, 1) := dk_3 (dk_at dksX0_century_3 6 rfl rfl)
theorem dX0_century_78 : decode cX0_century 78 = .ok (.iastore, 1) := dk_79 (dk_at dksX0_century_3 7 rfl rfl)
theorem dX0_century_79 : decode cX0_century 79 = .ok (.iinc 4 1, 3) := dk_132 4 1 (dk_at dksX0_century_3 8 rfl rfl)
theorem dX0_century_82 : decode cX0_century 82 = .ok (.goto (-18), 3) := dk_167 255 238 (dk_at dksX0_century_3 11 rfl rfl)
theorem dX0_century_85 : decode cX0_century 85 = .ok (.aload_n 0, 1) := dk_42 (dk_at dksX0_century_3 14 rfl rfl)
theorem dX0_century_86 : decode cX0_century 86 = .ok (.getfield 92, 3) := dk_180 0 92 (dk_at dksX0_century_3 15 rfl rfl)
theorem dX0_century_89 : decode cX0_century 89 = .ok (.aload_n 0, 1) := dk_42 (dk_at dksX0_century_3 18 rfl rfl)
theorem dX0_century_90 : decode cX0_century 90 = .ok (.getfield 16, 3) := dk_180 0 16 (dk_at dksX0_century_3 19 rfl rfl)
theorem dX0_century_93 : decode cX0_century 93 = .ok (.getfield 170, 3) := dk_180 0 170 (dk_at dksX0_century_4 0 rfl rfl)
theorem dX0_century_96 : decode cX0_century 96 = .ok (.iload_n 2, 1) := dk_28 (dk_at dksX0_century_4 3 rfl rfl)
theorem dX0_century_97 : decode cX0_century 97 = .ok (.aaload, 1) := dk_50 (dk_at dksX0_century_4 4 rfl rfl)
theorem dX0_century_98 : decode cX0_century 98 = .ok (.invokevirtual 393, 3) := dk_182 1 137 (dk_at dksX0_century_4 5 rfl rfl)
theorem dX0_century_101 : decode cX0_century 101 = .ok (.iconst 0, 1) := dk_3 (dk_at dksX0_century_4 8 rfl rfl)
theorem dX0_century_102 : decode cX0_century 102 = .ok (.istore 4, 2) := dk_54 4 (dk_at dksX0_century_4 9 rfl rfl)
theorem dX0_century_104 : decode cX0_century 104 = .ok (.iload 4, 2) := dk_21 4 (dk_at dksX0_century_4 11 rfl rfl)
theorem dX0_century_106 : decode cX0_century 106 = .ok (.iload_n 3, 1) := dk_29 (dk_at dksX0_century_4 13 rfl rfl)
theorem dX0_century_107 : decode cX0_century 107 = .ok (.if_icmp .ge 115, 3) := dk_162 0 115 (dk_at dksX0_century_4 14 rfl rfl)
theorem dX0_century_110 : decode cX0_century 110 = .ok (.aload_n 0, 1) := dk_42 (dk_at dksX0_century_4 17 rfl rfl)
theorem dX0_century_111 : decode cX0_century 111 = .ok (.getfield 98, 3) := dk_180 0 98 (dk_at dksX0_century_4 18 rfl rfl)
theorem dX0_century_114 : decode cX0_century 114 = .ok (.ifCond .le 108, 3) := dk_158 0 108 (dk_at dksX0_century_4 21 rfl rfl)
theorem dX0_century_117 : decode cX0_century 117 = .ok (.aload_n 0, 1) := dk_42 (dk_at dksX0_century_5 0 rfl rfl)
theorem dX0_century_118 : decode cX0_century 118 = .ok (.aload_n 0, 1) := dk_42 (dk_at dksX0_century_5 1 rfl rfl)
theorem dX0_century_119 : decode cX0_century 119 = .ok (.getfield 98, 3) := dk_180 0 98 (dk_at dksX0_century_5 2 rfl rfl)
theorem dX0_century_122 : decode cX0_century 122 = .ok (.invokevirtual 504, 3) := dk_182 1 248 (dk_at dksX0_century_5 5 rfl rfl)
theorem dX0_century_125 : decode cX0_century 125 = .ok (.istore 5, 2) := dk_54 5 (dk_at dksX0_century_5 8 rfl rfl)
theorem dX0_century_127 : decode cX0_century 127 = .ok (.aload_n 0, 1) := dk_42 (dk_at dksX0_century_5 10 rfl rfl)
theorem dX0_century_128 : decode cX0_century 128 = .ok (.getfield 95, 3) := dk_180 0 95 (dk_at dksX0_century_5 11 rfl rfl)
theorem dX0_century_131 : decode cX0_century 131 = .ok (.iload 5, 2) := dk_21 5 (dk_at dksX0_century_5 14 rfl rfl)
theorem dX0_century_133 : decode cX0_century 133 = .ok (.dup2, 1) := dk_92 (dk_at dksX0_century_5 16 rfl rfl)
theorem dX0_century_134 : decode cX0_century 134 = .ok (.iaload, 1) := dk_46 (dk_at dksX0_century_5 17 rfl rfl)
theorem dX0_century_135 : decode cX0_century 135 = .ok (.iconst 1, 1) := dk_4 (dk_at dksX0_century_5 18 rfl rfl)
theorem dX0_century_136 : decode cX0_century 136 = .ok (.iadd, 1) := dk_96 (dk_at dksX0_century_5 19 rfl rfl)
theorem dX0_century_137 : decode cX0_century 137 = .ok (.iastore, 1) := dk_79 (dk_at dksX0_century_5 20 rfl rfl)
theorem dX0_century_138 : decode cX0_century 138 = .ok (.aload_n 0, 1) := dk_42 (dk_at dksX0_century_5 21 rfl rfl)
theorem dX0_century_139 : decode cX0_century 139 = .ok (.iload 5, 2) := dk_21 5 (dk_at dksX0_century_5 22 rfl rfl)
theorem dX0_century_141 : decode cX0_century 141 = .ok (.iload_n 2, 1) := dk_28 (dk_at dksX0_century_6 0 rfl rfl)
theorem dX0_century_142 : decode cX0_century 142 = .ok (.iconst (-1), 1) := dk_2 (dk_at dksX0_century_6 1 rfl rfl)
theorem dX0_century_143 : decode cX0_century 143 = .ok (.aload_n 0, 1) := dk_42 (dk_at dksX0_century_6 2 rfl rfl)
theorem dX0_century_144 : decode cX0_century 144 = .ok (.invokevirtual 229, 3) := dk_182 0 229 (dk_at dksX0_century_6 3 rfl rfl)
theorem dX0_century_147 : decode cX0_century 147 = .ok (.invokevirtual 310, 3) := dk_182 1 54 (dk_at dksX0_century_6 6 rfl rfl)
theorem dX0_century_150 : decode cX0_century 150 = .ok (.istore 6, 2) := dk_54 6 (dk_at dksX0_century_6 9 rfl rfl)
theorem dX0_century_152 : decode cX0_century 152 = .ok (.iconst 0, 1) := dk_3 (dk_at dksX0_century_6 11 rfl rfl)
theorem dX0_century_153 : decode cX0_century 153 = .ok (.istore 7, 2) := dk_54 7 (dk_at dksX0_century_6 12 rfl rfl)
theorem dX0_century_155 : decode cX0_century 155 = .ok (.iload 7, 2) := dk_21 7 (dk_at dksX0_century_6 14 rfl rfl)
theorem dX0_century_157 : decode cX0_century 157 = .ok (.bipush 36, 2) := dk_16 36 (dk_at dksX0_century_6 16 rfl rfl)
theorem dX0_century_159 : decode cX0_century 159 = .ok (.if_icmp .ge 57, 3) := dk_162 0 57 (dk_at dksX0_century_6 18 rfl rfl)
theorem dX0_century_162 : decode cX0_century 162 = .ok (.aload_n 0, 1) := dk_42 (dk_at dksX0_century_6 21 rfl rfl)
theorem dX0_century_163 : decode cX0_century 163 = .ok (.getfield 92, 3) := dk_180 0 92 (dk_at dksX0_century_7 0 rfl rfl)
theorem dX0_century_166 : decode cX0_century 166 = .ok (.iload 7, 2) := dk_21 7 (dk_at dksX0_century_7 3 rfl rfl)
theorem dX0_century_168 : decode cX0_century 168 = .ok (.invokevirtual 358, 3) := dk_182 1 102 (dk_at dksX0_century_7 5 rfl rfl)
theorem dX0_century_171 : decode cX0_century 171 = .ok (.ifCond .ne 39, 3) := dk_154 0 39 (dk_at dksX0_century_7 8 rfl rfl)
theorem dX0_century_174 : decode cX0_century 174 = .ok (.aload_n 0, 1) := dk_42 (dk_at dksX0_century_7 11 rfl rfl)
theorem dX0_century_175 : decode cX0_century 175 = .ok (.bipush 100, 2) := dk_16 100 (dk_at dksX0_century_7 12 rfl rfl)
theorem dX0_century_177 : decode cX0_century 177 = .ok (.invokevirtual 504, 3) := dk_182 1 248 (dk_at dksX0_century_7 14 rfl rfl)
theorem dX0_century_180 : decode cX0_century 180 = .ok (.iload 6, 2) := dk_21 6 (dk_at dksX0_century_7 17 rfl rfl)
theorem dX0_century_182 : decode cX0_century 182 = .ok (.if_icmp .ge 28, 3) := dk_162 0 28 (dk_at dksX0_century_7 19 rfl rfl)
theorem dX0_century_185 : decode cX0_century 185 = .ok (.aload_n 0, 1) := dk_42 (dk_at dksX0_century_7 22 rfl rfl)
theorem dX0_century_186 : decode cX0_century 186 = .ok (.getfield 92, 3) := dk_180 0 92 (dk_at dksX0_century_8 0 rfl rfl)
theorem dX0_century_189 : decode cX0_century 189 = .ok (.getfield 187, 3) := dk_180 0 187 (dk_at dksX0_century_8 3 rfl rfl)
theorem dX0_century_192 : decode cX0_century 192 = .ok (.iload 7, 2) := dk_21 7 (dk_at dksX0_century_8 6 rfl rfl)
theorem dX0_century_194 : decode cX0_century 194 = .ok (.aload_n 0, 1) := dk_42 (dk_at dksX0_century_8 8 rfl rfl)
theorem dX0_century_195 : decode cX0_century 195 = .ok (.getfield 92, 3) := dk_180 0 92 (dk_at dksX0_century_8 9 rfl rfl)
theorem dX0_century_198 : decode cX0_century 198 = .ok (.getfield 187, 3) := dk_180 0 187 (dk_at dksX0_century_8 12 rfl rfl)
theorem dX0_century_201 : decode cX0_century 201 = .ok (.iload 7, 2) := dk_21 7 (dk_at dksX0_century_8 15 rfl rfl)
theorem dX0_century_203 : decode cX0_century 203 = .ok (.iaload, 1) := dk_46 (dk_at dksX0_century_8 17 rfl rfl)
theorem dX0_century_204 : decode cX0_century 204 = .ok (.iconst 1, 1) := dk_4 (dk_at dksX0_century_8 18 rfl rfl)
theorem dX0_century_205 : decode cX0_century 205 = .ok (.iadd, 1) := dk_96 (dk_at dksX0_century_8 19 rfl rfl)
theorem dX0_century_206 : decode cX0_century 206 = .ok (.bipush 10, 2) := dk_16 10 (dk_at dksX0_century_8 20 rfl rfl)
theorem dX0_century_208 : decode cX0_century 208 = .ok (.irem, 1) := dk_112 (dk_at dksX0_century_8 22 rfl rfl)
theorem dX0_century_209 : decode cX0_century 209 = .ok (.iastore, 1) := dk_79 (dk_at dksX0_century_8 23 rfl rfl)
theorem dX0_century_210 : decode cX0_century 210 = .ok (.iinc 7 1, 3) := dk_132 7 1 (dk_at dksX0_century_9 0 rfl rfl)
theorem dX0_century_213 : decode cX0_century 213 = .ok (.goto (-58), 3) := dk_167 255 198 (dk_at dksX0_century_9 3 rfl rfl)
theorem dX0_century_216 : decode cX0_century 216 = .ok (.iinc 4 1, 3) := dk_132 4 1 (dk_at dksX0_century_9 6 rfl rfl)
theorem dX0_century_219 : decode cX0_century 219 = .ok (.goto (-115), 3) := dk_167 255 141 (dk_at dksX0_century_9 9 rfl rfl)
theorem dX0_century_222 : decode cX0_century 222 = .ok (.iconst 0, 1) := dk_3 (dk_at dksX0_century_9 12 rfl rfl)
theorem dX0_century_223 : decode cX0_century 223 = .ok (.istore 4, 2) := dk_54 4 (dk_at dksX0_century_9 13 rfl rfl)
theorem dX0_century_225 : decode cX0_century 225 = .ok (.iconst 0, 1) := dk_3 (dk_at dksX0_century_9 15 rfl rfl)
theorem dX0_century_226 : decode cX0_century 226 = .ok (.istore 5, 2) := dk_54 5 (dk_at dksX0_century_9 16 rfl rfl)
theorem dX0_century_228 : decode cX0_century 228 = .ok (.iload 5, 2) := dk_21 5 (dk_at dksX0_century_9 18 rfl rfl)
theorem dX0_century_230 : decode cX0_century 230 = .ok (.bipush 36, 2) := dk_16 36 (dk_at dksX0_century_9 20 rfl rfl)
theorem dX0_century_232 : decode cX0_century 232 = .ok (.if_icmp .ge 47, 3) := dk_162 0 47 (dk_at dksX0_century_10 0 rfl rfl)
theorem dX0_century_235 : decode cX0_century 235 = .ok (.iload 4, 2) := dk_21 4 (dk_at dksX0_century_10 3 rfl rfl)
theorem dX0_century_237 : decode cX0_century 237 = .ok (.aload_n 0, 1) := dk_42 (dk_at dksX0_century_10 5 rfl rfl)
theorem dX0_century_238 : decode cX0_century 238 = .ok (.getfield 92, 3) := dk_180 0 92 (dk_at dksX0_century_10 6 rfl rfl)
theorem dX0_century_241 : decode cX0_century 241 = .ok (.getfield 187, 3) := dk_180 0 187 (dk_at dksX0_century_10 9 rfl rfl)
theorem dX0_century_244 : decode cX0_century 244 = .ok (.iload 5, 2) := dk_21 5 (dk_at dksX0_century_10 12 rfl rfl)
theorem dX0_century_246 : decode cX0_century 246 = .ok (.iaload, 1) := dk_46 (dk_at dksX0_century_10 14 rfl rfl)
theorem dX0_century_247 : decode cX0_century 247 = .ok (.aload_n 0, 1) := dk_42 (dk_at dksX0_century_10 15 rfl rfl)
theorem dX0_century_248 : decode cX0_century 248 = .ok (.getfield 16, 3) := dk_180 0 16 (dk_at dksX0_century_10 16 rfl rfl)
theorem dX0_century_251 : decode cX0_century 251 = .ok (.getfield 170, 3) := dk_180 0 170 (dk_at dksX0_century_10 19 rfl rfl)
theorem dX0_century_254 : decode cX0_century 254 = .ok (.iload_n 2, 1) := dk_28 (dk_at dksX0_century_10 22 rfl rfl)
theorem dX0_century_255 : decode cX0_century 255 = .ok (.aaload, 1) := dk_50 (dk_at dksX0_century_10 23 rfl rfl)
theorem dX0_century_256 : decode cX0_century 256 = .ok (.getfield 187, 3) := dk_180 0 187 (dk_at dksX0_century_11 0 rfl rfl)
theorem dX0_century_259 : decode cX0_century 259 = .ok (.iload 5, 2) := dk_21 5 (dk_at dksX0_century_11 3 rfl rfl)
theorem dX0_century_261 : decode cX0_century 261 = .ok (.iaload, 1) := dk_46 (dk_at dksX0_century_11 5 rfl rfl)
theorem dX0_century_262 : decode cX0_century 262 = .ok (.if_icmp .ne 7, 3) := dk_160 0 7 (dk_at dksX0_century_11 6 rfl rfl)
theorem dX0_century_265 : decode cX0_century 265 = .ok (.iconst 0, 1) := dk_3 (dk_at dksX0_century_11 9 rfl rfl)
theorem dX0_century_266 : decode cX0_century 266 = .ok (.goto 4, 3) := dk_167 0 4 (dk_at dksX0_century_11 10 rfl rfl)
theorem dX0_century_269 : decode cX0_century 269 = .ok (.iconst 1, 1) := dk_4 (dk_at dksX0_century_11 13 rfl rfl)
theorem dX0_century_270 : decode cX0_century 270 = .ok (.iadd, 1) := dk_96 (dk_at dksX0_century_11 14 rfl rfl)
theorem dX0_century_271 : decode cX0_century 271 = .ok (.istore 4, 2) := dk_54 4 (dk_at dksX0_century_11 15 rfl rfl)
theorem dX0_century_273 : decode cX0_century 273 = .ok (.iinc 5 1, 3) := dk_132 5 1 (dk_at dksX0_century_11 17 rfl rfl)
theorem dX0_century_276 : decode cX0_century 276 = .ok (.goto (-48), 3) := dk_167 255 208 (dk_at dksX0_century_11 20 rfl rfl)
theorem dX0_century_279 : decode cX0_century 279 = .ok (.aload_n 0, 1) := dk_42 (dk_at dksX0_century_11 23 rfl rfl)
theorem dX0_century_280 : decode cX0_century 280 = .ok (.iload 4, 2) := dk_21 4 (dk_at dksX0_century_12 0 rfl rfl)
theorem dX0_century_282 : decode cX0_century 282 = .ok (.invokevirtual 164, 3) := dk_182 0 164 (dk_at dksX0_century_12 2 rfl rfl)
theorem dX0_century_285 : decode cX0_century 285 = .ok (.ireturn, 1) := dk_172 (dk_at dksX0_century_12 5 rfl rfl)
abbrev cX0_draw : ByteArray := prog_1_method_79_code
def yX0_draw : MethodName := ⟨RX0, "draw", "(I)I"⟩
def dkwX0_draw_1 : List UInt8 := [180, 1, 238, 27, 112, 172]
abbrev dktX0_draw_1 : List UInt8 := dkwX0_draw_1 ++ []
def dkwX0_draw_0 : List UInt8 := [42, 42, 180, 1, 238, 133, 20, 1, 241, 105, 20, 1, 243, 97, 20, 1, 245, 113, 136, 181, 1, 238, 42]
abbrev dktX0_draw_0 : List UInt8 := dkwX0_draw_0 ++ dktX0_draw_1
theorem dksX0_draw_0 : cX0_draw.data.toList.drop 0 = dktX0_draw_0 := by decide +kernel
theorem dksX0_draw_1 : cX0_draw.data.toList.drop 23 = dktX0_draw_1 := dk_seg dksX0_draw_0 23 rfl rfl
theorem dX0_draw_0 : decode cX0_draw 0 = .ok (.aload_n 0, 1) := dk_42 (dk_at dksX0_draw_0 0 rfl rfl)
theorem dX0_draw_1 : decode cX0_draw 1 = .ok (.aload_n 0, 1) := dk_42 (dk_at dksX0_draw_0 1 rfl rfl)
theorem dX0_draw_2 : decode cX0_draw 2 = .ok (.getfield 494, 3) := dk_180 1 238 (dk_at dksX0_draw_0 2 rfl rfl)
theorem dX0_draw_5 : decode cX0_draw 5 = .ok (.i2l, 1) := dk_133 (dk_at dksX0_draw_0 5 rfl rfl)
theorem dX0_draw_6 : decode cX0_draw 6 = .ok (.ldc2_w 497, 3) := dk_20 1 241 (dk_at dksX0_draw_0 6 rfl rfl)
theorem dX0_draw_9 : decode cX0_draw 9 = .ok (.lmul, 1) := dk_105 (dk_at dksX0_draw_0 9 rfl rfl)
theorem dX0_draw_10 : decode cX0_draw 10 = .ok (.ldc2_w 499, 3) := dk_20 1 243 (dk_at dksX0_draw_0 10 rfl rfl)
theorem dX0_draw_13 : decode cX0_draw 13 = .ok (.ladd, 1) := dk_97 (dk_at dksX0_draw_0 13 rfl rfl)
theorem dX0_draw_14 : decode cX0_draw 14 = .ok (.ldc2_w 501, 3) := dk_20 1 245 (dk_at dksX0_draw_0 14 rfl rfl)
theorem dX0_draw_17 : decode cX0_draw 17 = .ok (.lrem, 1) := dk_113 (dk_at dksX0_draw_0 17 rfl rfl)
theorem dX0_draw_18 : decode cX0_draw 18 = .ok (.l2i, 1) := dk_136 (dk_at dksX0_draw_0 18 rfl rfl)
theorem dX0_draw_19 : decode cX0_draw 19 = .ok (.putfield 494, 3) := dk_181 1 238 (dk_at dksX0_draw_0 19 rfl rfl)
theorem dX0_draw_22 : decode cX0_draw 22 = .ok (.aload_n 0, 1) := dk_42 (dk_at dksX0_draw_0 22 rfl rfl)
theorem dX0_draw_23 : decode cX0_draw 23 = .ok (.getfield 494, 3) := dk_180 1 238 (dk_at dksX0_draw_1 0 rfl rfl)
theorem dX0_draw_26 : decode cX0_draw 26 = .ok (.iload_n 1, 1) := dk_27 (dk_at dksX0_draw_1 3 rfl rfl)
theorem dX0_draw_27 : decode cX0_draw 27 = .ok (.irem, 1) := dk_112 (dk_at dksX0_draw_1 4 rfl rfl)
theorem dX0_draw_28 : decode cX0_draw 28 = .ok (.ireturn, 1) := dk_172 (dk_at dksX0_draw_1 5 rfl rfl)
abbrev cX0_drawn : ByteArray := prog_1_method_81_code
def yX0_drawn : MethodName := ⟨RX0, "drawn", "(III)I"⟩
def dkwX0_drawn_3 : List UInt8 := [28, 96, 46, 167, 0, 4, 2, 172]
abbrev dktX0_drawn_3 : List UInt8 := dkwX0_drawn_3 ++ []
def dkwX0_drawn_2 : List UInt8 := [167, 0, 4, 2, 172, 27, 28, 184, 0, 177, 153, 0, 20, 42, 180, 0, 92, 180, 0, 187, 16, 6, 27, 104]
abbrev dktX0_drawn_2 : List UInt8 := dkwX0_drawn_2 ++ dktX0_drawn_3
def dkwX0_drawn_1 : List UInt8 := [28, 154, 0, 26, 27, 3, 42, 180, 0, 98, 4, 100, 184, 0, 122, 153, 0, 12, 42, 180, 0, 95, 27, 46]
abbrev dktX0_drawn_1 : List UInt8 := dkwX0_drawn_1 ++ dktX0_drawn_2
def dkwX0_drawn_0 : List UInt8 := [42, 180, 0, 98, 2, 159, 0, 12, 29, 3, 4, 184, 0, 122, 154, 0, 5, 2, 172, 29, 4, 160, 0, 32]
abbrev dktX0_drawn_0 : List UInt8 := dkwX0_drawn_0 ++ dktX0_drawn_1
theorem dksX0_drawn_0 : cX0_drawn.data.toList.drop 0 = dktX0_drawn_0 := by decide +kernel
theorem dksX0_drawn_1 : cX0_drawn.data.toList.drop 24 = dktX0_drawn_1 := dk_seg dksX0_drawn_0 24 rfl rfl
theorem dksX0_drawn_2 : cX0_drawn.data.toList.drop 48 = dktX0_drawn_2 := dk_seg dksX0_drawn_1 24 rfl rfl
theorem dksX0_drawn_3 : cX0_drawn.data.toList.drop 72 = dktX0_drawn_3 := dk_seg dksX0_drawn_2 24 rfl rfl
theorem dX0_drawn_0 : decode cX0_drawn 0 = .ok (.aload_n 0, 1) := dk_42 (dk_at dksX0_drawn_0 0 rfl rfl)
theorem dX0_drawn_1 : decode cX0_drawn 1 = .ok (.getfield 98, 3) := dk_180 0 98 (dk_at dksX0_drawn_0 1 rfl rfl)
theorem dX0_drawn_4 : decode cX0_drawn 4 = .ok (.iconst (-1), 1) := dk_2 (dk_at dksX0_drawn_0 4 rfl rfl)
theorem dX0_drawn_5 : decode cX0_drawn 5 = .ok (.if_icmp .eq 12, 3) := dk_159 0 12 (dk_at dksX0_drawn_0 5 rfl rfl)
theorem dX0_drawn_8 : decode cX0_drawn 8 = .ok (.iload_n 3, 1) := dk_29 (dk_at dksX0_drawn_0 8 rfl rfl)
theorem dX0_drawn_9 : decode cX0_drawn 9 = .ok (.iconst 0, 1) := dk_3 (dk_at dksX0_drawn_0 9 rfl rfl)
theorem dX0_drawn_10 : decode cX0_drawn 10 = .ok (.iconst 1, 1) := dk_4 (dk_at dksX0_drawn_0 10 rfl rfl)
theorem dX0_drawn_11 : decode cX0_drawn 11 = .ok (.invokestatic 122, 3) := dk_184 0 122 (dk_at dksX0_drawn_0 11 rfl rfl)
theorem dX0_drawn_14 : decode cX0_drawn 14 = .ok (.ifCond .ne 5, 3) := dk_154 0 5 (dk_at dksX0_drawn_0 14 rfl rfl)
theorem dX0_drawn_17 : decode cX0_drawn 17 = .ok (.iconst (-1), 1) := dk_2 (dk_at dksX0_drawn_0 17 rfl rfl)
theorem dX0_drawn_18 : decode cX0_drawn 18 = .ok (.ireturn, 1) := dk_172 (dk_at dksX0_drawn_0 18 rfl rfl)
theorem dX0_drawn_19 : decode cX0_drawn 19 = .ok (.iload_n 3, 1) := dk_29 (dk_at dksX0_drawn_0 19 rfl rfl)
theorem dX0_drawn_20 : decode cX0_drawn 20 = .ok (.iconst 1, 1) := dk_4 (dk_at dksX0_drawn_0 20 rfl rfl)
theorem dX0_drawn_21 : decode cX0_drawn 21 = .ok (.if_icmp .ne 32, 3) := dk_160 0 32 (dk_at dksX0_drawn_0 21 rfl rfl)
theorem dX0_drawn_24 : decode cX0_drawn 24 = .ok (.iload_n 2, 1) := dk_28 (dk_at dksX0_drawn_1 0 rfl rfl)
theorem dX0_drawn_25 : decode cX0_drawn 25 = .ok (.ifCond .ne 26, 3) := dk_154 0 26 (dk_at dksX0_drawn_1 1 rfl rfl)
theorem dX0_drawn_28 : decode cX0_drawn 28 = .ok (.iload_n 1, 1) := dk_27 (dk_at dksX0_drawn_1 4 rfl rfl)
theorem dX0_drawn_29 : decode cX0_drawn 29 = .ok (.iconst 0, 1) := dk_3 (dk_at dksX0_drawn_1 5 rfl rfl)
theorem dX0_drawn_30 : decode cX0_drawn 30 = .ok (.aload_n 0, 1) := dk_42 (dk_at dksX0_drawn_1 6 rfl rfl)
theorem dX0_drawn_31 : decode cX0_drawn 31 = .ok (.getfield 98, 3) := dk_180 0 98 (dk_at dksX0_drawn_1 7 rfl rfl)
theorem dX0_drawn_34 : decode cX0_drawn 34 = .ok (.iconst 1, 1) := dk_4 (dk_at dksX0_drawn_1 10 rfl rfl)
theorem dX0_drawn_35 : decode cX0_drawn 35 = .ok (.isub, 1) := dk_100 (dk_at dksX0_drawn_1 11 rfl rfl)
theorem dX0_drawn_36 : decode cX0_drawn 36 = .ok (.invokestatic 122, 3) := dk_184 0 122 (dk_at dksX0_drawn_1 12 rfl rfl)
theorem dX0_drawn_39 : decode cX0_drawn 39 = .ok (.ifCond .eq 12, 3) := dk_153 0 12 (dk_at dksX0_drawn_1 15 rfl rfl)
theorem dX0_drawn_42 : decode cX0_drawn 42 = .ok (.aload_n 0, 1) := dk_42 (dk_at dksX0_drawn_1 18 rfl rfl)
theorem dX0_drawn_43 : decode cX0_drawn 43 = .ok (.getfield 95, 3) := dk_180 0 95 (dk_at dksX0_drawn_1 19 rfl rfl)
theorem dX0_drawn_46 : decode cX0_drawn 46 = .ok (.iload_n 1, 1) := dk_27 (dk_at dksX0_drawn_1 22 rfl rfl)
theorem dX0_drawn_47 : decode cX0_drawn 47 = .ok (.iaload, 1) := dk_46 (dk_at dksX0_drawn_1 23 rfl rfl)
theorem dX0_drawn_48 : decode cX0_drawn 48 = .ok (.goto 4, 3) := dk_167 0 4 (dk_at dksX0_drawn_2 0 rfl rfl)
theorem dX0_drawn_51 : decode cX0_drawn 51 = .ok (.iconst (-1), 1) := dk_2 (dk_at dksX0_drawn_2 3 rfl rfl)
theorem dX0_drawn_52 : decode cX0_drawn 52 = .ok (.ireturn, 1) := dk_172 (dk_at dksX0_drawn_2 4 rfl rfl)
theorem dX0_drawn_53 : decode cX0_drawn 53 = .ok (.iload_n 1, 1) := dk_27 (dk_at dksX0_drawn_2 5 rfl rfl)
theorem dX0_drawn_54 : decode cX0_drawn 54 = .ok (.iload_n 2, 1) := dk_28 (dk_at dksX0_drawn_2 6 rfl rfl)
theorem dX0_drawn_55 : decode cX0_drawn 55 = .ok (.invokestatic 177, 3) := dk_184 0 177 (dk_at dksX0_drawn_2 7 rfl rfl)
theorem dX0_drawn_58 : decode cX0_drawn 58 = .ok (.ifCond .eq 20, 3) := dk_153 0 20 (dk_at dksX0_drawn_2 10 rfl rfl)
theorem dX0_drawn_61 : decode cX0_drawn 61 = .ok (.aload_n 0, 1) := dk_42 (dk_at dksX0_drawn_2 13 rfl rfl)
theorem dX0_drawn_62 : decode cX0_drawn 62 = .ok (.getfield 92, 3) := dk_180 0 92 (dk_at dksX0_drawn_2 14 rfl rfl)
theorem dX0_drawn_65 : decode cX0_drawn 65 = .ok (.getfield 187, 3) := dk_180 0 187 (dk_at dksX0_drawn_2 17 rfl rfl)
theorem dX0_drawn_68 : decode cX0_drawn 68 = .ok (.bipush 6, 2) := dk_16 6 (dk_at dksX0_drawn_2 20 rfl rfl)
theorem dX0_drawn_70 : decode cX0_drawn 70 = .ok (.iload_n 1, 1) := dk_27 (dk_at dksX0_drawn_2 22 rfl rfl)
theorem dX0_drawn_71 : decode cX0_drawn 71 = .ok (.imul, 1) := dk_104 (dk_at dksX0_drawn_2 23 rfl rfl)
theorem dX0_drawn_72 : decode cX0_drawn 72 = .ok (.iload_n 2, 1) := dk_28 (dk_at dksX0_drawn_3 0 rfl rfl)
theorem dX0_drawn_73 : decode cX0_drawn 73 = .ok (.iadd, 1) := dk_96 (dk_at dksX0_drawn_3 1 rfl rfl)
theorem dX0_drawn_74 : decode cX0_drawn 74 = .ok (.iaload, 1) := dk_46 (dk_at dksX0_drawn_3 2 rfl rfl)
theorem dX0_drawn_75 : decode cX0_drawn 75 = .ok (.goto 4, 3) := dk_167 0 4 (dk_at dksX0_drawn_3 3 rfl rfl)
theorem dX0_drawn_78 : decode cX0_drawn 78 = .ok (.iconst (-1), 1) := dk_2 (dk_at dksX0_drawn_3 6 rfl rfl)
theorem dX0_drawn_79 : decode cX0_drawn 79 = .ok (.ireturn, 1) := dk_172 (dk_at dksX0_drawn_3 7 rfl rfl)
abbrev cX0_count : ByteArray := prog_1_method_82_code
def yX0_count : MethodName := ⟨RX0, "count", "(I)I"⟩
def dkwX0_count_6 : List UInt8 := [180, 0, 154, 27, 16, 13, 100, 46, 172, 2, 172]
abbrev dktX0_count_6 : List UInt8 := dkwX0_count_6 ++ []
def dkwX0_count_5 : List UInt8 := [100, 46, 172, 42, 180, 0, 9, 27, 8, 100, 46, 172, 42, 180, 0, 16, 180, 1, 39, 172, 42, 180, 0, 16]
abbrev dktX0_count_5 : List UInt8 := dkwX0_count_5 ++ dktX0_count_6
def dkwX0_count_4 : List UInt8 := [180, 1, 65, 172, 42, 180, 0, 16, 180, 1, 226, 172, 42, 180, 0, 232, 172, 42, 180, 0, 9, 27, 16, 6]
abbrev dktX0_count_4 : List UInt8 := dkwX0_count_4 ++ dktX0_count_5
def dkwX0_count_3 : List UInt8 := [180, 0, 136, 182, 0, 130, 172, 42, 180, 0, 16, 180, 1, 25, 182, 0, 130, 172, 42, 180, 0, 16]
abbrev dktX0_count_3 : List UInt8 := dkwX0_count_3 ++ dktX0_count_4
def dkwX0_count_2 : List UInt8 := [42, 180, 0, 16, 180, 0, 119, 172, 42, 180, 0, 16, 180, 0, 126, 182, 0, 130, 172, 42, 180, 0, 16]
abbrev dktX0_count_2 : List UInt8 := dkwX0_count_2 ++ dktX0_count_3
def dkwX0_count_1 : List UInt8 := [170, 0, 0, 0, 0, 0, 181, 0, 0, 0, 0, 0, 0, 0, 15, 0, 0, 0, 79, 0, 0, 0, 87, 0, 0, 0, 98, 0, 0, 0, 109, 0, 0, 0, 120, 0, 0, 0, 128, 0, 0, 0, 136, 0, 0, 0, 141, 0, 0, 0, 141, 0, 0, 0, 141, 0, 0, 0, 151, 0, 0, 0, 151, 0, 0, 0, 160, 0, 0, 0, 168, 0, 0, 0, 168, 0, 0, 0, 168]
abbrev dktX0_count_1 : List UInt8 := dkwX0_count_1 ++ dktX0_count_2
def dkwX0_count_0 : List UInt8 := [27]
abbrev dktX0_count_0 : List UInt8 := dkwX0_count_0 ++ dktX0_count_1
theorem dksX0_count_0 : cX0_count.data.toList.drop 0 = dktX0_count_0 := by decide +kernel
theorem dksX0_count_1 : cX0_count.data.toList.drop 1 = dktX0_count_1 := dk_seg dksX0_count_0 1 rfl rfl
theorem dksX0_count_2 : cX0_count.data.toList.drop 80 = dktX0_count_2 := dk_seg dksX0_count_1 79 rfl rfl
theorem dksX0_count_3 : cX0_count.data.toList.drop 103 = dktX0_count_3 := dk_seg dksX0_count_2 23 rfl rfl
theorem dksX0_count_4 : cX0_count.data.toList.drop 125 = dktX0_count_4 := dk_seg dksX0_count_3 22 rfl rfl
theorem dksX0_count_5 : cX0_count.data.toList.drop 149 = dktX0_count_5 := dk_seg dksX0_count_4 24 rfl rfl
theorem dksX0_count_6 : cX0_count.data.toList.drop 173 = dktX0_count_6 := dk_seg dksX0_count_5 24 rfl rfl
theorem dX0_count_0 : decode cX0_count 0 = .ok (.iload_n 1, 1) := dk_27 (dk_at dksX0_count_0 0 rfl rfl)
theorem dX0_count_1 : decode cX0_count 1 = .ok (.tableswitch 181 0 15 #[79, 87, 98, 109, 120, 128, 136, 141, 141, 141, 151, 151, 160, 168, 168, 168], 79) := by decide +kernel
theorem dX0_count_80 : decode cX0_count 80 = .ok (.aload_n 0, 1) := dk_42 (dk_at dksX0_count_2 0 rfl rfl)
theorem dX0_count_81 : decode cX0_count 81 = .ok (.getfield 16, 3) := dk_180 0 16 (dk_at dksX0_count_2 1 rfl rfl)
theorem dX0_count_84 : decode cX0_count 84 = .ok (.getfield 119, 3) := dk_180 0 119 (dk_at dksX0_count_2 4 rfl rfl)
theorem dX0_count_87 : decode cX0_count 87 = .ok (.ireturn, 1) := dk_172 (dk_at dksX0_count_2 7 rfl rfl)
theorem dX0_count_88 : decode cX0_count 88 = .ok (.aload_n 0, 1) := dk_42 (dk_at dksX0_count_2 8 rfl rfl)
theorem dX0_count_89 : decode cX0_count 89 = .ok (.getfield 16, 3) := dk_180 0 16 (dk_at dksX0_count_2 9 rfl rfl)
theorem dX0_count_92 : decode cX0_count 92 = .ok (.getfield 126, 3) := dk_180 0 126 (dk_at dksX0_count_2 12 rfl rfl)
theorem dX0_count_95 : decode cX0_count 95 = .ok (.invokevirtual 130, 3) := dk_182 0 130 (dk_at dksX0_count_2 15 rfl rfl)
theorem dX0_count_98 : decode cX0_count 98 = .ok (.ireturn, 1) := dk_172 (dk_at dksX0_count_2 18 rfl rfl)
theorem dX0_count_99 : decode cX0_count 99 = .ok (.aload_n 0, 1) := dk_42 (dk_at dksX0_count_2 19 rfl rfl)
theorem dX0_count_100 : decode cX0_count 100 = .ok (.getfield 16, 3) := dk_180 0 16 (dk_at dksX0_count_2 20 rfl rfl)
theorem dX0_count_103 : decode cX0_count 103 = .ok (.getfield 136, 3) := dk_180 0 136 (dk_at dksX0_count_3 0 rfl rfl)
theorem dX0_count_106 : decode cX0_count 106 = .ok (.invokevirtual 130, 3) := dk_182 0 130 (dk_at dksX0_count_3 3 rfl rfl)
theorem dX0_count_109 : decode cX0_count 109 = .ok (.ireturn, 1) := dk_172 (dk_at dksX0_count_3 6 rfl rfl)
theorem dX0_count_110 : decode cX0_count 110 = .ok (.aload_n 0, 1) := dk_42 (dk_at dksX0_count_3 7 rfl rfl)
theorem dX0_count_111 : decode cX0_count 111 = .ok (.getfield 16, 3) := dk_180 0 16 (dk_at dksX0_count_3 8 rfl rfl)
theorem dX0_count_114 : decode cX0_count 114 = .ok (.getfield 281, 3) := dk_180 1 25 (dk_at dksX0_count_3 11 rfl rfl)
theorem dX0_count_117 : decode cX0_count 117 = .ok (.invokevirtual 130, 3) := dk_182 0 130 (dk_at dksX0_count_3 14 rfl rfl)
theorem dX0_count_120 : decode cX0_count 120 = .ok (.ireturn, 1) := dk_172 (dk_at dksX0_count_3 17 rfl rfl)
theorem dX0_count_121 : decode cX0_count 121 = .ok (.aload_n 0, 1) := dk_42 (dk_at dksX0_count_3 18 rfl rfl)
theorem dX0_count_122 : decode cX0_count 122 = .ok (.getfield 16, 3) := dk_180 0 16 (dk_at dksX0_count_3 19 rfl rfl)
theorem dX0_count_125 : decode cX0_count 125 = .ok (.getfield 321, 3) := dk_180 1 65 (dk_at dksX0_count_4 0 rfl rfl)
theorem dX0_count_128 : decode cX0_count 128 = .ok (.ireturn, 1) := dk_172 (dk_at dksX0_count_4 3 rfl rfl)
theorem dX0_count_129 : decode cX0_count 129 = .ok (.aload_n 0, 1) := dk_42 (dk_at dksX0_count_4 4 rfl rfl)
theorem dX0_count_130 : decode cX0_count 130 = .ok (.getfield 16, 3) := dk_180 0 16 (dk_at dksX0_count_4 5 rfl rfl)
theorem dX0_count_133 : decode cX0_count 133 = .ok (.getfield 482, 3) := dk_180 1 226 (dk_at dksX0_count_4 8 rfl rfl)
theorem dX0_count_136 : decode cX0_count 136 = .ok (.ireturn, 1) := dk_172 (dk_at dksX0_count_4 11 rfl rfl)
theorem dX0_count_137 : decode cX0_count 137 = .ok (.aload_n 0, 1) := dk_42 (dk_at dksX0_count_4 12 rfl rfl)
theorem dX0_count_138 : decode cX0_count 138 = .ok (.getfield 232, 3) := dk_180 0 232 (dk_at dksX0_count_4 13 rfl rfl)
theorem dX0_count_141 : decode cX0_count 141 = .ok (.ireturn, 1) := dk_172 (dk_at dksX0_count_4 16 rfl rfl)
theorem dX0_count_142 : decode cX0_count 142 = .ok (.aload_n 0, 1) := dk_42 (dk_at dksX0_count_4 17 rfl rfl)
theorem dX0_count_143 : decode cX0_count 143 = .ok (.getfield 9, 3) := dk_180 0 9 (dk_at dksX0_count_4 18 rfl rfl)
theorem dX0_count_146 : decode cX0_count 146 = .ok (.iload_n 1, 1) := dk_27 (dk_at dksX0_count_4 21 rfl rfl)
theorem dX0_count_147 : decode cX0_count 147 = .ok (.bipush 6, 2) := dk_16 6 (dk_at dksX0_count_4 22 rfl rfl)
theorem dX0_count_149 : decode cX0_count 149 = .ok (.isub, 1) := dk_100 (dk_at dksX0_count_5 0 rfl rfl)
theorem dX0_count_150 : decode cX0_count 150 = .ok (.iaload, 1) := dk_46 (dk_at dksX0_count_5 1 rfl rfl)
theorem dX0_count_151 : decode cX0_count 151 = .ok (.ireturn, 1) := dk_172 (dk_at dksX0_count_5 2 rfl rfl)
theorem dX0_count_152 : decode cX0_count 152 = .ok (.aload_n 0, 1) := dk_42 (dk_at dksX0_count_5 3 rfl rfl)
theorem dX0_count_153 : decode cX0_count 153 = .ok (.getfield 9, 3) := dk_180 0 9 (dk_at dksX0_count_5 4 rfl rfl)
theorem dX0_count_156 : decode cX0_count 156 = .ok (.iload_n 1, 1) := dk_27 (dk_at dksX0_count_5 7 rfl rfl)
theorem dX0_count_157 : decode cX0_count 157 = .ok (.iconst 5, 1) := dk_8 (dk_at dksX0_count_5 8 rfl rfl)
theorem dX0_count_158 : decode cX0_count 158 = .ok (.isub, 1) := dk_100 (dk_at dksX0_count_5 9 rfl rfl)
theorem dX0_count_159 : decode cX0_count 159 = .ok (.iaload, 1) := dk_46 (dk_at dksX0_count_5 10 rfl rfl)
theorem dX0_count_160 : decode cX0_count 160 = .ok (.ireturn, 1) := dk_172 (dk_at dksX0_count_5 11 rfl rfl)
theorem dX0_count_161 : decode cX0_count 161 = .ok (.aload_n 0, 1) := dk_42 (dk_at dksX0_count_5 12 rfl rfl)
theorem dX0_count_162 : decode cX0_count 162 = .ok (.getfield 16, 3) := dk_180 0 16 (dk_at dksX0_count_5 13 rfl rfl)
theorem dX0_count_165 : decode cX0_count 165 = .ok (.getfield 295, 3) := dk_180 1 39 (dk_at dksX0_count_5 16 rfl rfl)
theorem dX0_count_168 : decode cX0_count 168 = .ok (.ireturn, 1) := dk_172 (dk_at dksX0_count_5 19 rfl rfl)
theorem dX0_count_169 : decode cX0_count 169 = .ok (.aload_n 0, 1) := dk_42 (dk_at dksX0_count_5 20 rfl rfl)
theorem dX0_count_170 : decode cX0_count 170 = .ok (.getfield 16, 3) := dk_180 0 16 (dk_at dksX0_count_5 21 rfl rfl)
theorem dX0_count_173 : decode cX0_count 173 = .ok (.getfield 154, 3) := dk_180 0 154 (dk_at dksX0_count_6 0 rfl rfl)
theorem dX0_count_176 : decode cX0_count 176 = .ok (.iload_n 1, 1) := dk_27 (dk_at dksX0_count_6 3 rfl rfl)
theorem dX0_count_177 : decode cX0_count 177 = .ok (.bipush 13, 2) := dk_16 13 (dk_at dksX0_count_6 4 rfl rfl)
theorem dX0_count_179 : decode cX0_count 179 = .ok (.isub, 1) := dk_100 (dk_at dksX0_count_6 6 rfl rfl)
theorem dX0_count_180 : decode cX0_count 180 = .ok (.iaload, 1) := dk_46 (dk_at dksX0_count_6 7 rfl rfl)
theorem dX0_count_181 : decode cX0_count 181 = .ok (.ireturn, 1) := dk_172 (dk_at dksX0_count_6 8 rfl rfl)
theorem dX0_count_182 : decode cX0_count 182 = .ok (.iconst (-1), 1) := dk_2 (dk_at dksX0_count_6 9 rfl rfl)
theorem dX0_count_183 : decode cX0_count 183 = .ok (.ireturn, 1) := dk_172 (dk_at dksX0_count_6 10 rfl rfl)
abbrev cX0_status : ByteArray := prog_1_method_83_code
def yX0_status : MethodName := ⟨RX0, "status", "()I"⟩
theorem dX0_status_0 : decode cX0_status 0 = .ok (.aload_n 0, 1) := by decide +kernel
theorem dX0_status_1 : decode cX0_status 1 = .ok (.getfield 101, 3) := by decide +kernel
theorem dX0_status_4 : decode cX0_status 4 = .ok (.ireturn, 1) := by decide +kernel
theorem q112 : (Jvm.Cond.initialized "DeadUnderstudies") ∈ lw_all := lw_g (lw_at lw_m1 1 rfl) rfl
theorem q156 : (Jvm.Cond.instantiable "DeadUnderstudies" (22 : Nat)) ∈ lw_all := lw_g (lw_at lw_m1 45 rfl) rfl
theorem q158 : (Jvm.Cond.instanceMethod ({ cls := "DeadUnderstudies", name := "<init>", desc := "()V" } : Jvm.MethodName)) ∈ lw_all := lw_g (lw_at lw_m1 47 rfl) rfl
theorem q159 : (Jvm.Cond.code ({ cls := "DeadUnderstudies", name := "<init>", desc := "()V" } : Jvm.MethodName) prog_1_method_1_code (1 : Nat) (Option.none : Option Jvm.ClassFile.FieldType)) ∈ lw_all := lw_g (lw_at lw_m1 48 rfl) rfl
theorem q160 : (Jvm.Cond.methodLink "DeadUnderstudies" (3 : Nat) ({ cls := "java/lang/Object", name := "<init>", desc := "()V" } : Jvm.MethodName)) ∈ lw_all := lw_g (lw_at lw_m1 49 rfl) rfl
theorem q163 : (Jvm.Cond.classLink "DeadUnderstudies" (13 : Nat) "DeadUnderstudies$State") ∈ lw_all := lw_g (lw_at lw_m1 52 rfl) rfl
theorem q165 : (Jvm.Cond.methodLinkNest "DeadUnderstudies" (15 : Nat) ({ cls := "DeadUnderstudies$State", name := "<init>", desc := "()V" } : Jvm.MethodName) "DeadUnderstudies") ∈ lw_tbl := lw_at lw_m1 54 rfl
theorem q179 : (Jvm.Cond.fieldLinkNest "DeadUnderstudies" (187 : Nat) "DeadUnderstudies$Script" "words" "[I" "DeadUnderstudies") ∈ lw_tbl := lw_at lw_m1 68 rfl
theorem q183 : (Jvm.Cond.fieldLinkNest "DeadUnderstudies" (361 : Nat) "DeadUnderstudies$Script" "nexts" "[I" "DeadUnderstudies") ∈ lw_tbl := lw_at lw_m1 72 rfl
theorem q219 : (Jvm.Cond.fieldLinkNest "DeadUnderstudies" (170 : Nat) "DeadUnderstudies$State" "scripts" "[LDeadUnderstudies$Script;" "DeadUnderstudies") ∈ lw_tbl := lw_at lw_m1 108 rfl
theorem q222 : (Jvm.Cond.fieldLinkNest "DeadUnderstudies" (167 : Nat) "DeadUnderstudies$State" "stages" "[I" "DeadUnderstudies") ∈ lw_tbl := lw_at lw_m1 111 rfl
theorem q224 : (Jvm.Cond.fieldLinkNest "DeadUnderstudies" (324 : Nat) "DeadUnderstudies$State" "cues" "[I" "DeadUnderstudies") ∈ lw_tbl := lw_at lw_m1 113 rfl
theorem q227 : (Jvm.Cond.fieldLinkNest "DeadUnderstudies" (485 : Nat) "DeadUnderstudies$State" "deeds" "[I" "DeadUnderstudies") ∈ lw_tbl := lw_at lw_m1 116 rfl
theorem q229 : (Jvm.Cond.fieldLinkNest "DeadUnderstudies" (154 : Nat) "DeadUnderstudies$State" "terms" "[I" "DeadUnderstudies") ∈ lw_tbl := lw_at lw_m1 118 rfl
theorem q233 : (Jvm.Cond.fieldLinkNest "DeadUnderstudies" (126 : Nat) "DeadUnderstudies$State" "people" "Ljava/util/ArrayList;" "DeadUnderstudies") ∈ lw_tbl := lw_at lw_m1 122 rfl
theorem q235 : (Jvm.Cond.fieldLinkNest "DeadUnderstudies" (136 : Nat) "DeadUnderstudies$State" "versions" "Ljava/util/ArrayList;" "DeadUnderstudies") ∈ lw_tbl := lw_at lw_m1 124 rfl
theorem q237 : (Jvm.Cond.fieldLinkNest "DeadUnderstudies" (281 : Nat) "DeadUnderstudies$State" "laws" "Ljava/util/ArrayList;" "DeadUnderstudies") ∈ lw_tbl := lw_at lw_m1 126 rfl
theorem q240 : (Jvm.Cond.fieldLinkNest "DeadUnderstudies" (119 : Nat) "DeadUnderstudies$State" "parts" "I" "DeadUnderstudies") ∈ lw_tbl := lw_at lw_m1 129 rfl
theorem q242 : (Jvm.Cond.fieldLinkNest "DeadUnderstudies" (321 : Nat) "DeadUnderstudies$State" "cueMany" "I" "DeadUnderstudies") ∈ lw_tbl := lw_at lw_m1 131 rfl
theorem q245 : (Jvm.Cond.fieldLinkNest "DeadUnderstudies" (482 : Nat) "DeadUnderstudies$State" "deedMany" "I" "DeadUnderstudies") ∈ lw_tbl := lw_at lw_m1 134 rfl
theorem q247 : (Jvm.Cond.fieldLinkNest "DeadUnderstudies" (295 : Nat) "DeadUnderstudies$State" "force" "I" "DeadUnderstudies") ∈ lw_tbl := lw_at lw_m1 136 rfl
theorem q274 : (Jvm.Cond.classLink "DeadUnderstudies" (32 : Nat) "DeadUnderstudies$Setting") ∈ lw_all := lw_g (lw_at lw_m1 163 rfl) rfl
theorem q276 : (Jvm.Cond.methodLinkNest "DeadUnderstudies" (34 : Nat) ({ cls := "DeadUnderstudies$Setting", name := "<init>", desc := "()V" } : Jvm.MethodName) "DeadUnderstudies") ∈ lw_tbl := lw_at lw_m1 165 rfl
theorem q345 : (Jvm.Cond.fieldLinkNest "DeadUnderstudies" (273 : Nat) "DeadUnderstudies$Setting" "values" "[J" "DeadUnderstudies") ∈ lw_tbl := lw_at lw_m1 234 rfl
theorem q352 : (Jvm.Cond.classLink "DeadUnderstudies" (39 : Nat) "DeadUnderstudies$Apart") ∈ lw_all := lw_g (lw_at lw_m2 1 rfl) rfl
theorem q354 : (Jvm.Cond.methodLinkNest "DeadUnderstudies" (41 : Nat) ({ cls := "DeadUnderstudies$Apart", name := "<init>", desc := "(LDeadUnderstudies;)V" } : Jvm.MethodName) "DeadUnderstudies") ∈ lw_tbl := lw_at lw_m2 3 rfl
theorem q380 : (Jvm.Cond.classLink "DeadUnderstudies" (48 : Nat) "DeadUnderstudies$Script") ∈ lw_all := lw_g (lw_at lw_m2 29 rfl) rfl
theorem q381 : (Jvm.Cond.methodLink "DeadUnderstudies" (50 : Nat) ({ cls := "DeadUnderstudies$Script", name := "<init>", desc := "()V" } : Jvm.MethodName)) ∈ lw_all := lw_g (lw_at lw_m2 30 rfl) rfl
theorem q382 : (Jvm.Cond.classLink "DeadUnderstudies" (58 : Nat) "DeadUnderstudies$Talk") ∈ lw_all := lw_g (lw_at lw_m2 31 rfl) rfl
theorem q384 : (Jvm.Cond.methodLinkNest "DeadUnderstudies" (60 : Nat) ({ cls := "DeadUnderstudies$Talk", name := "<init>", desc := "(LDeadUnderstudies;)V" } : Jvm.MethodName) "DeadUnderstudies") ∈ lw_tbl := lw_at lw_m2 33 rfl
theorem q391 : (Jvm.Cond.fieldLinkNest "DeadUnderstudies" (407 : Nat) "DeadUnderstudies$Talk" "words" "I" "DeadUnderstudies") ∈ lw_tbl := lw_at lw_m2 40 rfl
theorem q393 : (Jvm.Cond.fieldLinkNest "DeadUnderstudies" (415 : Nat) "DeadUnderstudies$Talk" "stopState" "I" "DeadUnderstudies") ∈ lw_tbl := lw_at lw_m2 42 rfl
theorem q395 : (Jvm.Cond.fieldLinkNest "DeadUnderstudies" (418 : Nat) "DeadUnderstudies$Talk" "stopCue" "I" "DeadUnderstudies") ∈ lw_tbl := lw_at lw_m2 44 rfl
theorem q397 : (Jvm.Cond.fieldLinkNest "DeadUnderstudies" (421 : Nat) "DeadUnderstudies$Talk" "stopTurn" "I" "DeadUnderstudies") ∈ lw_tbl := lw_at lw_m2 46 rfl
theorem q399 : (Jvm.Cond.fieldLinkNest "DeadUnderstudies" (409 : Nat) "DeadUnderstudies$Talk" "ahead" "I" "DeadUnderstudies") ∈ lw_tbl := lw_at lw_m2 48 rfl
theorem q401 : (Jvm.Cond.fieldLinkNest "DeadUnderstudies" (412 : Nat) "DeadUnderstudies$Talk" "round" "I" "DeadUnderstudies") ∈ lw_tbl := lw_at lw_m2 50 rfl
theorem q422 : (Jvm.Cond.classLink "DeadUnderstudies" (68 : Nat) "DeadUnderstudies$Chain") ∈ lw_all := lw_g (lw_at lw_m2 71 rfl) rfl
theorem q424 : (Jvm.Cond.methodLinkNest "DeadUnderstudies" (70 : Nat) ({ cls := "DeadUnderstudies$Chain", name := "<init>", desc := "(LDeadUnderstudies;)V" } : Jvm.MethodName) "DeadUnderstudies") ∈ lw_tbl := lw_at lw_m2 73 rfl
theorem q431 : (Jvm.Cond.fieldLinkNest "DeadUnderstudies" (472 : Nat) "DeadUnderstudies$Chain" "best" "[I" "DeadUnderstudies") ∈ lw_tbl := lw_at lw_m2 80 rfl
theorem q434 : (Jvm.Cond.fieldLinkNest "DeadUnderstudies" (466 : Nat) "DeadUnderstudies$Chain" "last" "I" "DeadUnderstudies") ∈ lw_tbl := lw_at lw_m2 83 rfl
theorem q436 : (Jvm.Cond.fieldLinkNest "DeadUnderstudies" (469 : Nat) "DeadUnderstudies$Chain" "many" "I" "DeadUnderstudies") ∈ lw_tbl := lw_at lw_m2 85 rfl
theorem q457 : (Jvm.Cond.classLink "DeadUnderstudies" (75 : Nat) "DeadUnderstudies$Cast") ∈ lw_all := lw_g (lw_at lw_m2 106 rfl) rfl
theorem q459 : (Jvm.Cond.methodLinkNest "DeadUnderstudies" (77 : Nat) ({ cls := "DeadUnderstudies$Cast", name := "<init>", desc := "(LDeadUnderstudies;)V" } : Jvm.MethodName) "DeadUnderstudies") ∈ lw_tbl := lw_at lw_m2 108 rfl
theorem q465 : (Jvm.Cond.fieldLinkNest "DeadUnderstudies" (481 : Nat) "DeadUnderstudies$Cast" "best" "[I" "DeadUnderstudies") ∈ lw_tbl := lw_at lw_m2 114 rfl
theorem q468 : (Jvm.Cond.fieldLinkNest "DeadUnderstudies" (478 : Nat) "DeadUnderstudies$Cast" "fewest" "I" "DeadUnderstudies") ∈ lw_tbl := lw_at lw_m2 117 rfl
theorem q470 : (Jvm.Cond.fieldLinkNest "DeadUnderstudies" (477 : Nat) "DeadUnderstudies$Cast" "many" "I" "DeadUnderstudies") ∈ lw_tbl := lw_at lw_m2 119 rfl
theorem q485 : (Jvm.Cond.classLink "DeadUnderstudies" (85 : Nat) "DeadUnderstudies$Least") ∈ lw_all := lw_g (lw_at lw_m2 134 rfl) rfl
theorem q487 : (Jvm.Cond.methodLinkNest "DeadUnderstudies" (87 : Nat) ({ cls := "DeadUnderstudies$Least", name := "<init>", desc := "(LDeadUnderstudies;)V" } : Jvm.MethodName) "DeadUnderstudies") ∈ lw_tbl := lw_at lw_m2 136 rfl
theorem q496 : (Jvm.Cond.fieldLinkNest "DeadUnderstudies" (490 : Nat) "DeadUnderstudies$Least" "many" "I" "DeadUnderstudies") ∈ lw_tbl := lw_at lw_m2 145 rfl
theorem q501 : (Jvm.Cond.fieldLinkNest "DeadUnderstudies" (491 : Nat) "DeadUnderstudies$Least" "would" "I" "DeadUnderstudies") ∈ lw_tbl := lw_at lw_m2 150 rfl
theorem q524 : (Jvm.Cond.fieldLink "DeadUnderstudies" (101 : Nat) "DeadUnderstudies" "status" "I") ∈ lw_all := lw_g (lw_at lw_m2 173 rfl) rfl
theorem q525 : (Jvm.Cond.fieldLink "DeadUnderstudies" (9 : Nat) "DeadUnderstudies" "refused" "[I") ∈ lw_all := lw_g (lw_at lw_m2 174 rfl) rfl
theorem q526 : (Jvm.Cond.fieldLink "DeadUnderstudies" (16 : Nat) "DeadUnderstudies" "state" "LDeadUnderstudies$State;") ∈ lw_all := lw_g (lw_at lw_m2 175 rfl) rfl
theorem q530 : (Jvm.Cond.fieldLink "DeadUnderstudies" (20 : Nat) "DeadUnderstudies" "images" "[LDeadUnderstudies$State;") ∈ lw_all := lw_g (lw_at lw_m2 179 rfl) rfl
theorem q531 : (Jvm.Cond.fieldLink "DeadUnderstudies" (24 : Nat) "DeadUnderstudies" "tape" "[B") ∈ lw_all := lw_g (lw_at lw_m2 180 rfl) rfl
theorem q532 : (Jvm.Cond.fieldLink "DeadUnderstudies" (232 : Nat) "DeadUnderstudies" "taped" "I") ∈ lw_all := lw_g (lw_at lw_m2 181 rfl) rfl
theorem q533 : (Jvm.Cond.fieldLink "DeadUnderstudies" (28 : Nat) "DeadUnderstudies" "fault" "I") ∈ lw_all := lw_g (lw_at lw_m2 182 rfl) rfl
theorem q534 : (Jvm.Cond.fieldLink "DeadUnderstudies" (239 : Nat) "DeadUnderstudies" "prattle" "I") ∈ lw_all := lw_g (lw_at lw_m2 183 rfl) rfl
theorem q535 : (Jvm.Cond.fieldLink "DeadUnderstudies" (35 : Nat) "DeadUnderstudies" "setting" "LDeadUnderstudies$Setting;") ∈ lw_all := lw_g (lw_at lw_m2 184 rfl) rfl
theorem q536 : (Jvm.Cond.fieldLink "DeadUnderstudies" (44 : Nat) "DeadUnderstudies" "side" "LDeadUnderstudies$Apart;") ∈ lw_all := lw_g (lw_at lw_m2 185 rfl) rfl
theorem q537 : (Jvm.Cond.fieldLink "DeadUnderstudies" (51 : Nat) "DeadUnderstudies" "filled" "LDeadUnderstudies$Script;") ∈ lw_all := lw_g (lw_at lw_m2 186 rfl) rfl
theorem q538 : (Jvm.Cond.fieldLink "DeadUnderstudies" (55 : Nat) "DeadUnderstudies" "other" "LDeadUnderstudies$Script;") ∈ lw_all := lw_g (lw_at lw_m2 187 rfl) rfl
theorem q539 : (Jvm.Cond.fieldLink "DeadUnderstudies" (61 : Nat) "DeadUnderstudies" "talk" "LDeadUnderstudies$Talk;") ∈ lw_all := lw_g (lw_at lw_m2 188 rfl) rfl
theorem q540 : (Jvm.Cond.fieldLink "DeadUnderstudies" (65 : Nat) "DeadUnderstudies" "voices" "[I") ∈ lw_all := lw_g (lw_at lw_m2 189 rfl) rfl
theorem q541 : (Jvm.Cond.fieldLink "DeadUnderstudies" (71 : Nat) "DeadUnderstudies" "pupils" "LDeadUnderstudies$Chain;") ∈ lw_all := lw_g (lw_at lw_m2 190 rfl) rfl
theorem q542 : (Jvm.Cond.fieldLink "DeadUnderstudies" (78 : Nat) "DeadUnderstudies" "casting" "LDeadUnderstudies$Cast;") ∈ lw_all := lw_g (lw_at lw_m2 191 rfl) rfl
theorem q543 : (Jvm.Cond.fieldLink "DeadUnderstudies" (82 : Nat) "DeadUnderstudies" "stands" "[I") ∈ lw_all := lw_g (lw_at lw_m2 192 rfl) rfl
theorem q544 : (Jvm.Cond.fieldLink "DeadUnderstudies" (88 : Nat) "DeadUnderstudies" "smallest" "LDeadUnderstudies$Least;") ∈ lw_all := lw_g (lw_at lw_m2 193 rfl) rfl
theorem q545 : (Jvm.Cond.fieldLink "DeadUnderstudies" (92 : Nat) "DeadUnderstudies" "old" "LDeadUnderstudies$Script;") ∈ lw_all := lw_g (lw_at lw_m2 194 rfl) rfl
theorem q546 : (Jvm.Cond.fieldLink "DeadUnderstudies" (95 : Nat) "DeadUnderstudies" "drawnTimes" "[I") ∈ lw_all := lw_g (lw_at lw_m2 195 rfl) rfl
theorem q547 : (Jvm.Cond.fieldLink "DeadUnderstudies" (98 : Nat) "DeadUnderstudies" "drawnPeople" "I") ∈ lw_all := lw_g (lw_at lw_m2 196 rfl) rfl
theorem q548 : (Jvm.Cond.fieldLink "DeadUnderstudies" (494 : Nat) "DeadUnderstudies" "drawn" "I") ∈ lw_all := lw_g (lw_at lw_m2 197 rfl) rfl
theorem q549 : (Jvm.Cond.lays "DeadUnderstudies" "DeadUnderstudies" "status" "I") ∈ lw_all := lw_g (lw_at lw_m2 198 rfl) rfl
theorem q550 : (Jvm.Cond.soleField "DeadUnderstudies" "status") ∈ lw_all := lw_g (lw_at lw_m2 199 rfl) rfl
theorem q551 : (Jvm.Cond.laysFinal "DeadUnderstudies" "DeadUnderstudies" "refused" "[I") ∈ lw_all := lw_g (lw_at lw_m2 200 rfl) rfl
theorem q552 : (Jvm.Cond.soleField "DeadUnderstudies" "refused") ∈ lw_all := lw_g (lw_at lw_m2 201 rfl) rfl
theorem q553 : (Jvm.Cond.laysFinal "DeadUnderstudies" "DeadUnderstudies" "state" "LDeadUnderstudies$State;") ∈ lw_all := lw_g (lw_at lw_m2 202 rfl) rfl
theorem q554 : (Jvm.Cond.soleField "DeadUnderstudies" "state") ∈ lw_all := lw_g (lw_at lw_m2 203 rfl) rfl
theorem q555 : (Jvm.Cond.laysFinal "DeadUnderstudies" "DeadUnderstudies" "images" "[LDeadUnderstudies$State;") ∈ lw_all := lw_g (lw_at lw_m2 204 rfl) rfl
theorem q556 : (Jvm.Cond.soleField "DeadUnderstudies" "images") ∈ lw_all := lw_g (lw_at lw_m2 205 rfl) rfl
theorem q557 : (Jvm.Cond.laysFinal "DeadUnderstudies" "DeadUnderstudies" "tape" "[B") ∈ lw_all := lw_g (lw_at lw_m2 206 rfl) rfl
theorem q558 : (Jvm.Cond.soleField "DeadUnderstudies" "tape") ∈ lw_all := lw_g (lw_at lw_m2 207 rfl) rfl
theorem q559 : (Jvm.Cond.lays "DeadUnderstudies" "DeadUnderstudies" "taped" "I") ∈ lw_all := lw_g (lw_at lw_m2 208 rfl) rfl
theorem q560 : (Jvm.Cond.soleField "DeadUnderstudies" "taped") ∈ lw_all := lw_g (lw_at lw_m2 209 rfl) rfl
theorem q561 : (Jvm.Cond.lays "DeadUnderstudies" "DeadUnderstudies" "fault" "I") ∈ lw_all := lw_g (lw_at lw_m2 210 rfl) rfl
theorem q562 : (Jvm.Cond.soleField "DeadUnderstudies" "fault") ∈ lw_all := lw_g (lw_at lw_m2 211 rfl) rfl
theorem q563 : (Jvm.Cond.lays "DeadUnderstudies" "DeadUnderstudies" "prattle" "I") ∈ lw_all := lw_g (lw_at lw_m2 212 rfl) rfl
theorem q564 : (Jvm.Cond.soleField "DeadUnderstudies" "prattle") ∈ lw_all := lw_g (lw_at lw_m2 213 rfl) rfl
theorem q565 : (Jvm.Cond.laysFinal "DeadUnderstudies" "DeadUnderstudies" "setting" "LDeadUnderstudies$Setting;") ∈ lw_all := lw_g (lw_at lw_m2 214 rfl) rfl
theorem q566 : (Jvm.Cond.soleField "DeadUnderstudies" "setting") ∈ lw_all := lw_g (lw_at lw_m2 215 rfl) rfl
theorem q567 : (Jvm.Cond.laysFinal "DeadUnderstudies" "DeadUnderstudies" "side" "LDeadUnderstudies$Apart;") ∈ lw_all := lw_g (lw_at lw_m2 216 rfl) rfl
theorem q568 : (Jvm.Cond.soleField "DeadUnderstudies" "side") ∈ lw_all := lw_g (lw_at lw_m2 217 rfl) rfl
theorem q569 : (Jvm.Cond.laysFinal "DeadUnderstudies" "DeadUnderstudies" "filled" "LDeadUnderstudies$Script;") ∈ lw_all := lw_g (lw_at lw_m2 218 rfl) rfl
theorem q570 : (Jvm.Cond.soleField "DeadUnderstudies" "filled") ∈ lw_all := lw_g (lw_at lw_m2 219 rfl) rfl
theorem q571 : (Jvm.Cond.laysFinal "DeadUnderstudies" "DeadUnderstudies" "other" "LDeadUnderstudies$Script;") ∈ lw_all := lw_g (lw_at lw_m2 220 rfl) rfl
theorem q572 : (Jvm.Cond.soleField "DeadUnderstudies" "other") ∈ lw_all := lw_g (lw_at lw_m2 221 rfl) rfl
theorem q573 : (Jvm.Cond.laysFinal "DeadUnderstudies" "DeadUnderstudies" "talk" "LDeadUnderstudies$Talk;") ∈ lw_all := lw_g (lw_at lw_m2 222 rfl) rfl
theorem q574 : (Jvm.Cond.soleField "DeadUnderstudies" "talk") ∈ lw_all := lw_g (lw_at lw_m2 223 rfl) rfl
theorem q575 : (Jvm.Cond.laysFinal "DeadUnderstudies" "DeadUnderstudies" "voices" "[I") ∈ lw_all := lw_g (lw_at lw_m2 224 rfl) rfl
theorem q576 : (Jvm.Cond.soleField "DeadUnderstudies" "voices") ∈ lw_all := lw_g (lw_at lw_m2 225 rfl) rfl
theorem q577 : (Jvm.Cond.laysFinal "DeadUnderstudies" "DeadUnderstudies" "pupils" "LDeadUnderstudies$Chain;") ∈ lw_all := lw_g (lw_at lw_m2 226 rfl) rfl
theorem q578 : (Jvm.Cond.soleField "DeadUnderstudies" "pupils") ∈ lw_all := lw_g (lw_at lw_m2 227 rfl) rfl
theorem q579 : (Jvm.Cond.laysFinal "DeadUnderstudies" "DeadUnderstudies" "casting" "LDeadUnderstudies$Cast;") ∈ lw_all := lw_g (lw_at lw_m2 228 rfl) rfl
theorem q580 : (Jvm.Cond.soleField "DeadUnderstudies" "casting") ∈ lw_all := lw_g (lw_at lw_m2 229 rfl) rfl
theorem q581 : (Jvm.Cond.laysFinal "DeadUnderstudies" "DeadUnderstudies" "stands" "[I") ∈ lw_all := lw_g (lw_at lw_m2 230 rfl) rfl
theorem q582 : (Jvm.Cond.soleField "DeadUnderstudies" "stands") ∈ lw_all := lw_g (lw_at lw_m2 231 rfl) rfl
theorem q583 : (Jvm.Cond.laysFinal "DeadUnderstudies" "DeadUnderstudies" "smallest" "LDeadUnderstudies$Least;") ∈ lw_all := lw_g (lw_at lw_m2 232 rfl) rfl
theorem q584 : (Jvm.Cond.soleField "DeadUnderstudies" "smallest") ∈ lw_all := lw_g (lw_at lw_m2 233 rfl) rfl
theorem q585 : (Jvm.Cond.laysFinal "DeadUnderstudies" "DeadUnderstudies" "old" "LDeadUnderstudies$Script;") ∈ lw_all := lw_g (lw_at lw_m2 234 rfl) rfl
theorem q586 : (Jvm.Cond.soleField "DeadUnderstudies" "old") ∈ lw_all := lw_g (lw_at lw_m2 235 rfl) rfl
theorem q587 : (Jvm.Cond.laysFinal "DeadUnderstudies" "DeadUnderstudies" "drawnTimes" "[I") ∈ lw_all := lw_g (lw_at lw_m2 236 rfl) rfl
theorem q588 : (Jvm.Cond.soleField "DeadUnderstudies" "drawnTimes") ∈ lw_all := lw_g (lw_at lw_m2 237 rfl) rfl
theorem q589 : (Jvm.Cond.lays "DeadUnderstudies" "DeadUnderstudies" "drawnPeople" "I") ∈ lw_all := lw_g (lw_at lw_m2 238 rfl) rfl
theorem q590 : (Jvm.Cond.soleField "DeadUnderstudies" "drawnPeople") ∈ lw_all := lw_g (lw_at lw_m2 239 rfl) rfl
theorem q591 : (Jvm.Cond.lays "DeadUnderstudies" "DeadUnderstudies" "drawn" "I") ∈ lw_all := lw_g (lw_at lw_m3 0 rfl) rfl
theorem q592 : (Jvm.Cond.soleField "DeadUnderstudies" "drawn") ∈ lw_all := lw_g (lw_at lw_m3 1 rfl) rfl
theorem q593 : (Jvm.Cond.superclass "DeadUnderstudies" "java/lang/Object") ∈ lw_all := lw_g (lw_at lw_m3 2 rfl) rfl
theorem q595 : (Jvm.Cond.instanceMethod ({ cls := "DeadUnderstudies", name := "image", desc := "(I)I" } : Jvm.MethodName)) ∈ lw_all := lw_g (lw_at lw_m3 4 rfl) rfl
theorem q596 : (Jvm.Cond.selects "DeadUnderstudies" ({ cls := "DeadUnderstudies", name := "image", desc := "(I)I" } : Jvm.MethodName) ({ cls := "DeadUnderstudies", name := "image", desc := "(I)I" } : Jvm.MethodName)) ∈ lw_all := lw_g (lw_at lw_m3 5 rfl) rfl
theorem q597 : (Jvm.Cond.code ({ cls := "DeadUnderstudies", name := "image", desc := "(I)I" } : Jvm.MethodName) prog_1_method_16_code (2 : Nat) (Option.some Jvm.ClassFile.FieldType.int)) ∈ lw_all := lw_g (lw_at lw_m3 6 rfl) rfl
theorem q598 : (Jvm.Cond.methodLink "DeadUnderstudies" (122 : Nat) ({ cls := "DeadUnderstudies", name := "in", desc := "(III)Z" } : Jvm.MethodName)) ∈ lw_all := lw_g (lw_at lw_m3 7 rfl) rfl
theorem q599 : (Jvm.Cond.static ({ cls := "DeadUnderstudies", name := "in", desc := "(III)Z" } : Jvm.MethodName)) ∈ lw_all := lw_g (lw_at lw_m3 8 rfl) rfl
theorem q600 : (Jvm.Cond.code ({ cls := "DeadUnderstudies", name := "in", desc := "(III)Z" } : Jvm.MethodName) prog_1_method_4_code (3 : Nat) (Option.some Jvm.ClassFile.FieldType.boolean)) ∈ lw_all := lw_g (lw_at lw_m3 9 rfl) rfl
theorem q601 : (Jvm.Cond.methodLink "DeadUnderstudies" (157 : Nat) ({ cls := "DeadUnderstudies", name := "refuse", desc := "(I)I" } : Jvm.MethodName)) ∈ lw_all := lw_g (lw_at lw_m3 10 rfl) rfl
theorem q602 : (Jvm.Cond.privateMethod ({ cls := "DeadUnderstudies", name := "refuse", desc := "(I)I" } : Jvm.MethodName)) ∈ lw_tbl := lw_at lw_m3 11 rfl
theorem q603 : (Jvm.Cond.instanceMethod ({ cls := "DeadUnderstudies", name := "refuse", desc := "(I)I" } : Jvm.MethodName)) ∈ lw_all := lw_g (lw_at lw_m3 12 rfl) rfl
theorem q604 : (Jvm.Cond.code ({ cls := "DeadUnderstudies", name := "refuse", desc := "(I)I" } : Jvm.MethodName) prog_1_method_2_code (2 : Nat) (Option.some Jvm.ClassFile.FieldType.int)) ∈ lw_all := lw_g (lw_at lw_m3 13 rfl) rfl
theorem q605 : (Jvm.Cond.methodLink "DeadUnderstudies" (160 : Nat) ({ cls := "DeadUnderstudies$State", name := "takes", desc := "(LDeadUnderstudies$State;)V" } : Jvm.MethodName)) ∈ lw_all := lw_g (lw_at lw_m3 14 rfl) rfl
theorem q641 : (Jvm.Cond.selects "DeadUnderstudies" ({ cls := "java/lang/Object", name := "getClass", desc := "()Ljava/lang/Class;" } : Jvm.MethodName) ({ cls := "java/lang/Object", name := "getClass", desc := "()Ljava/lang/Class;" } : Jvm.MethodName)) ∈ lw_all := lw_g (lw_at lw_m3 50 rfl) rfl
theorem q695 : (Jvm.Cond.methodLink "DeadUnderstudies" (164 : Nat) ({ cls := "DeadUnderstudies", name := "done", desc := "(I)I" } : Jvm.MethodName)) ∈ lw_all := lw_g (lw_at lw_m3 104 rfl) rfl
theorem q696 : (Jvm.Cond.privateMethod ({ cls := "DeadUnderstudies", name := "done", desc := "(I)I" } : Jvm.MethodName)) ∈ lw_tbl := lw_at lw_m3 105 rfl
theorem q697 : (Jvm.Cond.instanceMethod ({ cls := "DeadUnderstudies", name := "done", desc := "(I)I" } : Jvm.MethodName)) ∈ lw_all := lw_g (lw_at lw_m3 106 rfl) rfl
theorem q698 : (Jvm.Cond.code ({ cls := "DeadUnderstudies", name := "done", desc := "(I)I" } : Jvm.MethodName) prog_1_method_3_code (2 : Nat) (Option.some Jvm.ClassFile.FieldType.int)) ∈ lw_all := lw_g (lw_at lw_m3 107 rfl) rfl
theorem q700 : (Jvm.Cond.instanceMethod ({ cls := "DeadUnderstudies", name := "back", desc := "(I)I" } : Jvm.MethodName)) ∈ lw_all := lw_g (lw_at lw_m3 109 rfl) rfl
theorem q701 : (Jvm.Cond.selects "DeadUnderstudies" ({ cls := "DeadUnderstudies", name := "back", desc := "(I)I" } : Jvm.MethodName) ({ cls := "DeadUnderstudies", name := "back", desc := "(I)I" } : Jvm.MethodName)) ∈ lw_all := lw_g (lw_at lw_m3 110 rfl) rfl
theorem q702 : (Jvm.Cond.code ({ cls := "DeadUnderstudies", name := "back", desc := "(I)I" } : Jvm.MethodName) prog_1_method_17_code (2 : Nat) (Option.some Jvm.ClassFile.FieldType.int)) ∈ lw_all := lw_g (lw_at lw_m3 111 rfl) rfl
theorem q704 : (Jvm.Cond.instanceMethod ({ cls := "DeadUnderstudies", name := "part", desc := "(II)I" } : Jvm.MethodName)) ∈ lw_all := lw_g (lw_at lw_m3 113 rfl) rfl
theorem q705 : (Jvm.Cond.selects "DeadUnderstudies" ({ cls := "DeadUnderstudies", name := "part", desc := "(II)I" } : Jvm.MethodName) ({ cls := "DeadUnderstudies", name := "part", desc := "(II)I" } : Jvm.MethodName)) ∈ lw_all := lw_g (lw_at lw_m3 114 rfl) rfl
theorem q706 : (Jvm.Cond.code ({ cls := "DeadUnderstudies", name := "part", desc := "(II)I" } : Jvm.MethodName) prog_1_method_18_code (4 : Nat) (Option.some Jvm.ClassFile.FieldType.int)) ∈ lw_all := lw_g (lw_at lw_m3 115 rfl) rfl
theorem q707 : (Jvm.Cond.methodLink "DeadUnderstudies" (174 : Nat) ({ cls := "DeadUnderstudies$Script", name := "hushes", desc := "(I)I" } : Jvm.MethodName)) ∈ lw_all := lw_g (lw_at lw_m3 116 rfl) rfl
theorem q712 : (Jvm.Cond.instanceMethod ({ cls := "DeadUnderstudies", name := "rule", desc := "(IIIII)I" } : Jvm.MethodName)) ∈ lw_all := lw_g (lw_at lw_m3 121 rfl) rfl
theorem q713 : (Jvm.Cond.selects "DeadUnderstudies" ({ cls := "DeadUnderstudies", name := "rule", desc := "(IIIII)I" } : Jvm.MethodName) ({ cls := "DeadUnderstudies", name := "rule", desc := "(IIIII)I" } : Jvm.MethodName)) ∈ lw_all := lw_g (lw_at lw_m3 122 rfl) rfl
theorem q714 : (Jvm.Cond.code ({ cls := "DeadUnderstudies", name := "rule", desc := "(IIIII)I" } : Jvm.MethodName) prog_1_method_19_code (7 : Nat) (Option.some Jvm.ClassFile.FieldType.int)) ∈ lw_all := lw_g (lw_at lw_m3 123 rfl) rfl
theorem q715 : (Jvm.Cond.methodLink "DeadUnderstudies" (177 : Nat) ({ cls := "DeadUnderstudies", name := "isRule", desc := "(II)Z" } : Jvm.MethodName)) ∈ lw_all := lw_g (lw_at lw_m3 124 rfl) rfl
theorem q716 : (Jvm.Cond.static ({ cls := "DeadUnderstudies", name := "isRule", desc := "(II)Z" } : Jvm.MethodName)) ∈ lw_all := lw_g (lw_at lw_m3 125 rfl) rfl
theorem q717 : (Jvm.Cond.code ({ cls := "DeadUnderstudies", name := "isRule", desc := "(II)Z" } : Jvm.MethodName) prog_1_method_11_code (2 : Nat) (Option.some Jvm.ClassFile.FieldType.boolean)) ∈ lw_all := lw_g (lw_at lw_m3 126 rfl) rfl
theorem q718 : (Jvm.Cond.methodLink "DeadUnderstudies" (181 : Nat) ({ cls := "DeadUnderstudies", name := "isSaid", desc := "(II)Z" } : Jvm.MethodName)) ∈ lw_all := lw_g (lw_at lw_m3 127 rfl) rfl
theorem q719 : (Jvm.Cond.static ({ cls := "DeadUnderstudies", name := "isSaid", desc := "(II)Z" } : Jvm.MethodName)) ∈ lw_all := lw_g (lw_at lw_m3 128 rfl) rfl
theorem q720 : (Jvm.Cond.code ({ cls := "DeadUnderstudies", name := "isSaid", desc := "(II)Z" } : Jvm.MethodName) prog_1_method_12_code (2 : Nat) (Option.some Jvm.ClassFile.FieldType.boolean)) ∈ lw_all := lw_g (lw_at lw_m3 129 rfl) rfl
theorem q721 : (Jvm.Cond.methodLink "DeadUnderstudies" (184 : Nat) ({ cls := "DeadUnderstudies", name := "isPart", desc := "(I)Z" } : Jvm.MethodName)) ∈ lw_all := lw_g (lw_at lw_m3 130 rfl) rfl
theorem q722 : (Jvm.Cond.privateMethod ({ cls := "DeadUnderstudies", name := "isPart", desc := "(I)Z" } : Jvm.MethodName)) ∈ lw_tbl := lw_at lw_m3 131 rfl
theorem q723 : (Jvm.Cond.instanceMethod ({ cls := "DeadUnderstudies", name := "isPart", desc := "(I)Z" } : Jvm.MethodName)) ∈ lw_all := lw_g (lw_at lw_m3 132 rfl) rfl
theorem q724 : (Jvm.Cond.code ({ cls := "DeadUnderstudies", name := "isPart", desc := "(I)Z" } : Jvm.MethodName) prog_1_method_8_code (2 : Nat) (Option.some Jvm.ClassFile.FieldType.boolean)) ∈ lw_all := lw_g (lw_at lw_m3 133 rfl) rfl
theorem q725 : (Jvm.Cond.methodLink "DeadUnderstudies" (190 : Nat) ({ cls := "DeadUnderstudies$Script", name := "says", desc := "(III)V" } : Jvm.MethodName)) ∈ lw_all := lw_g (lw_at lw_m3 134 rfl) rfl
theorem q730 : (Jvm.Cond.instanceMethod ({ cls := "DeadUnderstudies", name := "hush", desc := "(III)I" } : Jvm.MethodName)) ∈ lw_all := lw_g (lw_at lw_m3 139 rfl) rfl
theorem q731 : (Jvm.Cond.selects "DeadUnderstudies" ({ cls := "DeadUnderstudies", name := "hush", desc := "(III)I" } : Jvm.MethodName) ({ cls := "DeadUnderstudies", name := "hush", desc := "(III)I" } : Jvm.MethodName)) ∈ lw_all := lw_g (lw_at lw_m3 140 rfl) rfl
theorem q732 : (Jvm.Cond.code ({ cls := "DeadUnderstudies", name := "hush", desc := "(III)I" } : Jvm.MethodName) prog_1_method_20_code (4 : Nat) (Option.some Jvm.ClassFile.FieldType.int)) ∈ lw_all := lw_g (lw_at lw_m3 141 rfl) rfl
theorem q734 : (Jvm.Cond.instanceMethod ({ cls := "DeadUnderstudies", name := "of", desc := "(IIII)I" } : Jvm.MethodName)) ∈ lw_all := lw_g (lw_at lw_m3 143 rfl) rfl
theorem q735 : (Jvm.Cond.selects "DeadUnderstudies" ({ cls := "DeadUnderstudies", name := "of", desc := "(IIII)I" } : Jvm.MethodName) ({ cls := "DeadUnderstudies", name := "of", desc := "(IIII)I" } : Jvm.MethodName)) ∈ lw_all := lw_g (lw_at lw_m3 144 rfl) rfl
theorem q736 : (Jvm.Cond.code ({ cls := "DeadUnderstudies", name := "of", desc := "(IIII)I" } : Jvm.MethodName) prog_1_method_22_code (5 : Nat) (Option.some Jvm.ClassFile.FieldType.int)) ∈ lw_all := lw_g (lw_at lw_m3 145 rfl) rfl
theorem q737 : (Jvm.Cond.methodLink "DeadUnderstudies" (197 : Nat) ({ cls := "DeadUnderstudies", name := "told", desc := "(LDeadUnderstudies$Script;II)I" } : Jvm.MethodName)) ∈ lw_all := lw_g (lw_at lw_m3 146 rfl) rfl
theorem q738 : (Jvm.Cond.static ({ cls := "DeadUnderstudies", name := "told", desc := "(LDeadUnderstudies$Script;II)I" } : Jvm.MethodName)) ∈ lw_all := lw_g (lw_at lw_m3 147 rfl) rfl
theorem q739 : (Jvm.Cond.code ({ cls := "DeadUnderstudies", name := "told", desc := "(LDeadUnderstudies$Script;II)I" } : Jvm.MethodName) prog_1_method_21_code (3 : Nat) (Option.some Jvm.ClassFile.FieldType.int)) ∈ lw_all := lw_g (lw_at lw_m3 148 rfl) rfl
theorem q740 : (Jvm.Cond.methodLink "DeadUnderstudies" (194 : Nat) ({ cls := "DeadUnderstudies$Script", name := "next", desc := "(I)I" } : Jvm.MethodName)) ∈ lw_all := lw_g (lw_at lw_m3 149 rfl) rfl
theorem q749 : (Jvm.Cond.instanceMethod ({ cls := "DeadUnderstudies", name := "stage", desc := "(II)I" } : Jvm.MethodName)) ∈ lw_all := lw_g (lw_at lw_m3 158 rfl) rfl
theorem q750 : (Jvm.Cond.selects "DeadUnderstudies" ({ cls := "DeadUnderstudies", name := "stage", desc := "(II)I" } : Jvm.MethodName) ({ cls := "DeadUnderstudies", name := "stage", desc := "(II)I" } : Jvm.MethodName)) ∈ lw_all := lw_g (lw_at lw_m3 159 rfl) rfl
theorem q751 : (Jvm.Cond.code ({ cls := "DeadUnderstudies", name := "stage", desc := "(II)I" } : Jvm.MethodName) prog_1_method_23_code (5 : Nat) (Option.some Jvm.ClassFile.FieldType.int)) ∈ lw_all := lw_g (lw_at lw_m3 160 rfl) rfl
theorem q752 : (Jvm.Cond.methodLink "DeadUnderstudies" (201 : Nat) ({ cls := "DeadUnderstudies$Script", name := "known", desc := "()I" } : Jvm.MethodName)) ∈ lw_all := lw_g (lw_at lw_m3 161 rfl) rfl
theorem q756 : (Jvm.Cond.methodLink "DeadUnderstudies" (130 : Nat) ({ cls := "java/util/ArrayList", name := "size", desc := "()I" } : Jvm.MethodName)) ∈ lw_all := lw_g (lw_at lw_m3 165 rfl) rfl
theorem q760 : (Jvm.Cond.methodLink "DeadUnderstudies" (139 : Nat) ({ cls := "java/util/ArrayList", name := "get", desc := "(I)Ljava/lang/Object;" } : Jvm.MethodName)) ∈ lw_all := lw_g (lw_at lw_m3 169 rfl) rfl
theorem q774 : (Jvm.Cond.classLink "DeadUnderstudies" (143 : Nat) "DeadUnderstudies$Version") ∈ lw_all := lw_g (lw_at lw_m3 183 rfl) rfl
theorem q776 : (Jvm.Cond.instanceMethod ({ cls := "DeadUnderstudies", name := "person", desc := "(III)I" } : Jvm.MethodName)) ∈ lw_all := lw_g (lw_at lw_m3 185 rfl) rfl
theorem q777 : (Jvm.Cond.selects "DeadUnderstudies" ({ cls := "DeadUnderstudies", name := "person", desc := "(III)I" } : Jvm.MethodName) ({ cls := "DeadUnderstudies", name := "person", desc := "(III)I" } : Jvm.MethodName)) ∈ lw_all := lw_g (lw_at lw_m3 186 rfl) rfl
theorem q778 : (Jvm.Cond.code ({ cls := "DeadUnderstudies", name := "person", desc := "(III)I" } : Jvm.MethodName) prog_1_method_24_code (4 : Nat) (Option.some Jvm.ClassFile.FieldType.int)) ∈ lw_all := lw_g (lw_at lw_m3 187 rfl) rfl
theorem q779 : (Jvm.Cond.classLink "DeadUnderstudies" (148 : Nat) "DeadUnderstudies$Person") ∈ lw_all := lw_g (lw_at lw_m3 188 rfl) rfl
theorem q781 : (Jvm.Cond.methodLink "DeadUnderstudies" (207 : Nat) ({ cls := "DeadUnderstudies$Person", name := "<init>", desc := "(III)V" } : Jvm.MethodName)) ∈ lw_all := lw_g (lw_at lw_m3 190 rfl) rfl
theorem q786 : (Jvm.Cond.fieldLinkNest "DeadUnderstudies" (216 : Nat) "DeadUnderstudies$Person" "born" "I" "DeadUnderstudies") ∈ lw_tbl := lw_at lw_m3 195 rfl
theorem q789 : (Jvm.Cond.fieldLinkNest "DeadUnderstudies" (222 : Nat) "DeadUnderstudies$Person" "dead" "I" "DeadUnderstudies") ∈ lw_tbl := lw_at lw_m3 198 rfl
theorem q791 : (Jvm.Cond.fieldLinkNest "DeadUnderstudies" (219 : Nat) "DeadUnderstudies$Person" "memory" "I" "DeadUnderstudies") ∈ lw_tbl := lw_at lw_m3 200 rfl
theorem q799 : (Jvm.Cond.methodLink "DeadUnderstudies" (209 : Nat) ({ cls := "java/util/ArrayList", name := "add", desc := "(Ljava/lang/Object;)Z" } : Jvm.MethodName)) ∈ lw_all := lw_g (lw_at lw_m3 208 rfl) rfl
theorem q812 : (Jvm.Cond.instanceMethod ({ cls := "DeadUnderstudies", name := "put", desc := "(III)I" } : Jvm.MethodName)) ∈ lw_all := lw_g (lw_at lw_m3 221 rfl) rfl
theorem q813 : (Jvm.Cond.selects "DeadUnderstudies" ({ cls := "DeadUnderstudies", name := "put", desc := "(III)I" } : Jvm.MethodName) ({ cls := "DeadUnderstudies", name := "put", desc := "(III)I" } : Jvm.MethodName)) ∈ lw_all := lw_g (lw_at lw_m3 222 rfl) rfl
theorem q814 : (Jvm.Cond.code ({ cls := "DeadUnderstudies", name := "put", desc := "(III)I" } : Jvm.MethodName) prog_1_method_25_code (5 : Nat) (Option.some Jvm.ClassFile.FieldType.int)) ∈ lw_all := lw_g (lw_at lw_m3 223 rfl) rfl
theorem q815 : (Jvm.Cond.methodLink "DeadUnderstudies" (213 : Nat) ({ cls := "DeadUnderstudies", name := "isPerson", desc := "(I)Z" } : Jvm.MethodName)) ∈ lw_all := lw_g (lw_at lw_m3 224 rfl) rfl
theorem q816 : (Jvm.Cond.privateMethod ({ cls := "DeadUnderstudies", name := "isPerson", desc := "(I)Z" } : Jvm.MethodName)) ∈ lw_tbl := lw_at lw_m3 225 rfl
theorem q817 : (Jvm.Cond.instanceMethod ({ cls := "DeadUnderstudies", name := "isPerson", desc := "(I)Z" } : Jvm.MethodName)) ∈ lw_all := lw_g (lw_at lw_m3 226 rfl) rfl
theorem q818 : (Jvm.Cond.code ({ cls := "DeadUnderstudies", name := "isPerson", desc := "(I)Z" } : Jvm.MethodName) prog_1_method_9_code (2 : Nat) (Option.some Jvm.ClassFile.FieldType.boolean)) ∈ lw_all := lw_g (lw_at lw_m3 227 rfl) rfl
theorem q819 : (Jvm.Cond.methodLink "DeadUnderstudies" (225 : Nat) ({ cls := "java/util/ArrayList", name := "set", desc := "(ILjava/lang/Object;)Ljava/lang/Object;" } : Jvm.MethodName)) ∈ lw_all := lw_g (lw_at lw_m3 228 rfl) rfl
theorem q824 : (Jvm.Cond.instanceMethod ({ cls := "DeadUnderstudies", name := "fact", desc := "(II)I" } : Jvm.MethodName)) ∈ lw_all := lw_g (lw_at lw_m3 233 rfl) rfl
theorem q825 : (Jvm.Cond.selects "DeadUnderstudies" ({ cls := "DeadUnderstudies", name := "fact", desc := "(II)I" } : Jvm.MethodName) ({ cls := "DeadUnderstudies", name := "fact", desc := "(II)I" } : Jvm.MethodName)) ∈ lw_all := lw_g (lw_at lw_m3 234 rfl) rfl
theorem q826 : (Jvm.Cond.code ({ cls := "DeadUnderstudies", name := "fact", desc := "(II)I" } : Jvm.MethodName) prog_1_method_26_code (4 : Nat) (Option.some Jvm.ClassFile.FieldType.int)) ∈ lw_all := lw_g (lw_at lw_m3 235 rfl) rfl
theorem q827 : (Jvm.Cond.methodLink "DeadUnderstudies" (229 : Nat) ({ cls := "DeadUnderstudies", name := "year", desc := "()I" } : Jvm.MethodName)) ∈ lw_all := lw_g (lw_at lw_m3 236 rfl) rfl
theorem q828 : (Jvm.Cond.privateMethod ({ cls := "DeadUnderstudies", name := "year", desc := "()I" } : Jvm.MethodName)) ∈ lw_tbl := lw_at lw_m3 237 rfl
theorem q829 : (Jvm.Cond.instanceMethod ({ cls := "DeadUnderstudies", name := "year", desc := "()I" } : Jvm.MethodName)) ∈ lw_all := lw_g (lw_at lw_m3 238 rfl) rfl
theorem q830 : (Jvm.Cond.code ({ cls := "DeadUnderstudies", name := "year", desc := "()I" } : Jvm.MethodName) prog_1_method_15_code (1 : Nat) (Option.some Jvm.ClassFile.FieldType.int)) ∈ lw_all := lw_g (lw_at lw_m3 239 rfl) rfl
theorem q831 : (Jvm.Cond.methodLink "DeadUnderstudies" (150 : Nat) ({ cls := "DeadUnderstudies$Person", name := "isAlive", desc := "(I)Z" } : Jvm.MethodName)) ∈ lw_all := lw_g (lw_at lw_m4 0 rfl) rfl
theorem q836 : (Jvm.Cond.instanceMethod ({ cls := "DeadUnderstudies", name := "terms", desc := "(II)I" } : Jvm.MethodName)) ∈ lw_all := lw_g (lw_at lw_m4 5 rfl) rfl
theorem q837 : (Jvm.Cond.selects "DeadUnderstudies" ({ cls := "DeadUnderstudies", name := "terms", desc := "(II)I" } : Jvm.MethodName) ({ cls := "DeadUnderstudies", name := "terms", desc := "(II)I" } : Jvm.MethodName)) ∈ lw_all := lw_g (lw_at lw_m4 6 rfl) rfl
theorem q838 : (Jvm.Cond.code ({ cls := "DeadUnderstudies", name := "terms", desc := "(II)I" } : Jvm.MethodName) prog_1_method_27_code (4 : Nat) (Option.some Jvm.ClassFile.FieldType.int)) ∈ lw_all := lw_g (lw_at lw_m4 7 rfl) rfl
theorem q840 : (Jvm.Cond.instanceMethod ({ cls := "DeadUnderstudies", name := "feed", desc := "(IIIII)I" } : Jvm.MethodName)) ∈ lw_all := lw_g (lw_at lw_m4 9 rfl) rfl
theorem q841 : (Jvm.Cond.selects "DeadUnderstudies" ({ cls := "DeadUnderstudies", name := "feed", desc := "(IIIII)I" } : Jvm.MethodName) ({ cls := "DeadUnderstudies", name := "feed", desc := "(IIIII)I" } : Jvm.MethodName)) ∈ lw_all := lw_g (lw_at lw_m4 10 rfl) rfl
theorem q842 : (Jvm.Cond.code ({ cls := "DeadUnderstudies", name := "feed", desc := "(IIIII)I" } : Jvm.MethodName) prog_1_method_28_code (6 : Nat) (Option.some Jvm.ClassFile.FieldType.int)) ∈ lw_all := lw_g (lw_at lw_m4 11 rfl) rfl
theorem q843 : (Jvm.Cond.methodLink "DeadUnderstudies" (235 : Nat) ({ cls := "DeadUnderstudies", name := "four", desc := "(I)V" } : Jvm.MethodName)) ∈ lw_all := lw_g (lw_at lw_m4 12 rfl) rfl
theorem q844 : (Jvm.Cond.privateMethod ({ cls := "DeadUnderstudies", name := "four", desc := "(I)V" } : Jvm.MethodName)) ∈ lw_tbl := lw_at lw_m4 13 rfl
theorem q845 : (Jvm.Cond.instanceMethod ({ cls := "DeadUnderstudies", name := "four", desc := "(I)V" } : Jvm.MethodName)) ∈ lw_all := lw_g (lw_at lw_m4 14 rfl) rfl
theorem q846 : (Jvm.Cond.code ({ cls := "DeadUnderstudies", name := "four", desc := "(I)V" } : Jvm.MethodName) prog_1_method_29_code (3 : Nat) (Option.none : Option Jvm.ClassFile.FieldType)) ∈ lw_all := lw_g (lw_at lw_m4 15 rfl) rfl
theorem q848 : (Jvm.Cond.instanceMethod ({ cls := "DeadUnderstudies", name := "end", desc := "(I)I" } : Jvm.MethodName)) ∈ lw_all := lw_g (lw_at lw_m4 17 rfl) rfl
theorem q849 : (Jvm.Cond.selects "DeadUnderstudies" ({ cls := "DeadUnderstudies", name := "end", desc := "(I)I" } : Jvm.MethodName) ({ cls := "DeadUnderstudies", name := "end", desc := "(I)I" } : Jvm.MethodName)) ∈ lw_all := lw_g (lw_at lw_m4 18 rfl) rfl
theorem q850 : (Jvm.Cond.code ({ cls := "DeadUnderstudies", name := "end", desc := "(I)I" } : Jvm.MethodName) prog_1_method_30_code (2 : Nat) (Option.some Jvm.ClassFile.FieldType.int)) ∈ lw_all := lw_g (lw_at lw_m4 19 rfl) rfl
theorem q852 : (Jvm.Cond.instanceMethod ({ cls := "DeadUnderstudies", name := "row", desc := "(I)I" } : Jvm.MethodName)) ∈ lw_all := lw_g (lw_at lw_m4 21 rfl) rfl
theorem q853 : (Jvm.Cond.selects "DeadUnderstudies" ({ cls := "DeadUnderstudies", name := "row", desc := "(I)I" } : Jvm.MethodName) ({ cls := "DeadUnderstudies", name := "row", desc := "(I)I" } : Jvm.MethodName)) ∈ lw_all := lw_g (lw_at lw_m4 22 rfl) rfl
theorem q854 : (Jvm.Cond.code ({ cls := "DeadUnderstudies", name := "row", desc := "(I)I" } : Jvm.MethodName) prog_1_method_31_code (6 : Nat) (Option.some Jvm.ClassFile.FieldType.int)) ∈ lw_all := lw_g (lw_at lw_m4 23 rfl) rfl
theorem q856 : (Jvm.Cond.instanceMethod ({ cls := "DeadUnderstudies", name := "prattle", desc := "()I" } : Jvm.MethodName)) ∈ lw_all := lw_g (lw_at lw_m4 25 rfl) rfl
theorem q857 : (Jvm.Cond.selects "DeadUnderstudies" ({ cls := "DeadUnderstudies", name := "prattle", desc := "()I" } : Jvm.MethodName) ({ cls := "DeadUnderstudies", name := "prattle", desc := "()I" } : Jvm.MethodName)) ∈ lw_all := lw_g (lw_at lw_m4 26 rfl) rfl
theorem q858 : (Jvm.Cond.code ({ cls := "DeadUnderstudies", name := "prattle", desc := "()I" } : Jvm.MethodName) prog_1_method_32_code (1 : Nat) (Option.some Jvm.ClassFile.FieldType.int)) ∈ lw_all := lw_g (lw_at lw_m4 27 rfl) rfl
theorem q860 : (Jvm.Cond.instanceMethod ({ cls := "DeadUnderstudies", name := "play", desc := "(I)I" } : Jvm.MethodName)) ∈ lw_all := lw_g (lw_at lw_m4 29 rfl) rfl
theorem q861 : (Jvm.Cond.selects "DeadUnderstudies" ({ cls := "DeadUnderstudies", name := "play", desc := "(I)I" } : Jvm.MethodName) ({ cls := "DeadUnderstudies", name := "play", desc := "(I)I" } : Jvm.MethodName)) ∈ lw_all := lw_g (lw_at lw_m4 30 rfl) rfl
theorem q862 : (Jvm.Cond.code ({ cls := "DeadUnderstudies", name := "play", desc := "(I)I" } : Jvm.MethodName) prog_1_method_34_code (6 : Nat) (Option.some Jvm.ClassFile.FieldType.int)) ∈ lw_all := lw_g (lw_at lw_m4 31 rfl) rfl
theorem q863 : (Jvm.Cond.classLink "DeadUnderstudies" (252 : Nat) "DeadUnderstudies$PlayReader") ∈ lw_all := lw_g (lw_at lw_m4 32 rfl) rfl
theorem q865 : (Jvm.Cond.methodLink "DeadUnderstudies" (254 : Nat) ({ cls := "DeadUnderstudies$PlayReader", name := "<init>", desc := "([BI)V" } : Jvm.MethodName)) ∈ lw_all := lw_g (lw_at lw_m4 34 rfl) rfl
theorem q875 : (Jvm.Cond.fieldLinkNest "DeadUnderstudies" (261 : Nat) "DeadUnderstudies$PlayReader" "lines" "Ljava/util/ArrayList;" "DeadUnderstudies") ∈ lw_tbl := lw_at lw_m4 44 rfl
theorem q900 : (Jvm.Cond.methodLink "DeadUnderstudies" (257 : Nat) ({ cls := "DeadUnderstudies", name := "reads", desc := "(LDeadUnderstudies$Reader;)Z" } : Jvm.MethodName)) ∈ lw_all := lw_g (lw_at lw_m4 69 rfl) rfl
theorem q901 : (Jvm.Cond.privateMethod ({ cls := "DeadUnderstudies", name := "reads", desc := "(LDeadUnderstudies$Reader;)Z" } : Jvm.MethodName)) ∈ lw_tbl := lw_at lw_m4 70 rfl
theorem q902 : (Jvm.Cond.instanceMethod ({ cls := "DeadUnderstudies", name := "reads", desc := "(LDeadUnderstudies$Reader;)Z" } : Jvm.MethodName)) ∈ lw_all := lw_g (lw_at lw_m4 71 rfl) rfl
theorem q903 : (Jvm.Cond.codeWith ({ cls := "DeadUnderstudies", name := "reads", desc := "(LDeadUnderstudies$Reader;)Z" } : Jvm.MethodName) prog_1_method_33_code (3 : Nat) (Option.some Jvm.ClassFile.FieldType.boolean) [((0 : Nat), (4 : Nat), (7 : Nat), (247 : Nat))]) ∈ lw_all := lw_g (lw_at lw_m4 72 rfl) rfl
theorem q904 : (Jvm.Cond.classLink "DeadUnderstudies" (247 : Nat) "DeadUnderstudies$Fault") ∈ lw_all := lw_g (lw_at lw_m4 73 rfl) rfl
theorem q905 : (Jvm.Cond.methodLink "DeadUnderstudies" (242 : Nat) ({ cls := "DeadUnderstudies$Reader", name := "read", desc := "()V" } : Jvm.MethodName)) ∈ lw_all := lw_g (lw_at lw_m4 74 rfl) rfl
theorem q1004 : (Jvm.Cond.fieldLinkNest "DeadUnderstudies" (249 : Nat) "DeadUnderstudies$Fault" "place" "I" "DeadUnderstudies") ∈ lw_tbl := lw_at lw_m4 173 rfl
theorem q1305 : (Jvm.Cond.classLink "DeadUnderstudies" (264 : Nat) "DeadUnderstudies$Line") ∈ lw_all := lw_g (lw_at lw_m5 234 rfl) rfl
theorem q1306 : (Jvm.Cond.methodLink "DeadUnderstudies" (266 : Nat) ({ cls := "DeadUnderstudies", name := "plays", desc := "(LDeadUnderstudies$Line;I)I" } : Jvm.MethodName)) ∈ lw_all := lw_g (lw_at lw_m5 235 rfl) rfl
theorem q1307 : (Jvm.Cond.privateMethod ({ cls := "DeadUnderstudies", name := "plays", desc := "(LDeadUnderstudies$Line;I)I" } : Jvm.MethodName)) ∈ lw_tbl := lw_at lw_m5 236 rfl
theorem q1308 : (Jvm.Cond.instanceMethod ({ cls := "DeadUnderstudies", name := "plays", desc := "(LDeadUnderstudies$Line;I)I" } : Jvm.MethodName)) ∈ lw_all := lw_g (lw_at lw_m5 237 rfl) rfl
theorem q1309 : (Jvm.Cond.code ({ cls := "DeadUnderstudies", name := "plays", desc := "(LDeadUnderstudies$Line;I)I" } : Jvm.MethodName) prog_1_method_35_code (7 : Nat) (Option.some Jvm.ClassFile.FieldType.int)) ∈ lw_all := lw_g (lw_at lw_m5 238 rfl) rfl
theorem q1310 : (Jvm.Cond.methodLink "DeadUnderstudies" (270 : Nat) ({ cls := "DeadUnderstudies$Line", name := "isOf", desc := "(II)Z" } : Jvm.MethodName)) ∈ lw_all := lw_g (lw_at lw_m5 239 rfl) rfl
theorem q1314 : (Jvm.Cond.methodLink "DeadUnderstudies" (277 : Nat) ({ cls := "DeadUnderstudies$Line", name := "changes", desc := "(LDeadUnderstudies$Script;ILDeadUnderstudies$Setting;)Z" } : Jvm.MethodName)) ∈ lw_all := lw_g (lw_at lw_m6 3 rfl) rfl
theorem q1354 : (Jvm.Cond.static ({ cls := "DeadUnderstudies", name := "near", desc := "(JII)I" } : Jvm.MethodName)) ∈ lw_all := lw_g (lw_at lw_m6 43 rfl) rfl
theorem q1355 : (Jvm.Cond.code ({ cls := "DeadUnderstudies", name := "near", desc := "(JII)I" } : Jvm.MethodName) prog_1_method_7_code (4 : Nat) (Option.some Jvm.ClassFile.FieldType.int)) ∈ lw_all := lw_g (lw_at lw_m6 44 rfl) rfl
theorem q1356 : (Jvm.Cond.methodLink "DeadUnderstudies" (110 : Nat) ({ cls := "java/lang/Math", name := "min", desc := "(JJ)J" } : Jvm.MethodName)) ∈ lw_all := lw_g (lw_at lw_m6 45 rfl) rfl
theorem q1359 : (Jvm.Cond.methodLink "DeadUnderstudies" (116 : Nat) ({ cls := "java/lang/Math", name := "max", desc := "(JJ)J" } : Jvm.MethodName)) ∈ lw_all := lw_g (lw_at lw_m6 48 rfl) rfl
theorem q1364 : (Jvm.Cond.instanceMethod ({ cls := "DeadUnderstudies", name := "law", desc := "()I" } : Jvm.MethodName)) ∈ lw_all := lw_g (lw_at lw_m6 53 rfl) rfl
theorem q1365 : (Jvm.Cond.selects "DeadUnderstudies" ({ cls := "DeadUnderstudies", name := "law", desc := "()I" } : Jvm.MethodName) ({ cls := "DeadUnderstudies", name := "law", desc := "()I" } : Jvm.MethodName)) ∈ lw_all := lw_g (lw_at lw_m6 54 rfl) rfl
theorem q1366 : (Jvm.Cond.code ({ cls := "DeadUnderstudies", name := "law", desc := "()I" } : Jvm.MethodName) prog_1_method_36_code (3 : Nat) (Option.some Jvm.ClassFile.FieldType.int)) ∈ lw_all := lw_g (lw_at lw_m6 55 rfl) rfl
theorem q1367 : (Jvm.Cond.classLink "DeadUnderstudies" (284 : Nat) "DeadUnderstudies$LawReader") ∈ lw_all := lw_g (lw_at lw_m6 56 rfl) rfl
theorem q1369 : (Jvm.Cond.methodLink "DeadUnderstudies" (286 : Nat) ({ cls := "DeadUnderstudies$LawReader", name := "<init>", desc := "([BI)V" } : Jvm.MethodName)) ∈ lw_all := lw_g (lw_at lw_m6 58 rfl) rfl
theorem q1376 : (Jvm.Cond.fieldLinkNest "DeadUnderstudies" (289 : Nat) "DeadUnderstudies$LawReader" "clauses" "Ljava/util/ArrayList;" "DeadUnderstudies") ∈ lw_tbl := lw_at lw_m6 65 rfl
theorem q1387 : (Jvm.Cond.classLink "DeadUnderstudies" (287 : Nat) "DeadUnderstudies$Law") ∈ lw_all := lw_g (lw_at lw_m6 76 rfl) rfl
theorem q1389 : (Jvm.Cond.methodLink "DeadUnderstudies" (292 : Nat) ({ cls := "DeadUnderstudies$Law", name := "<init>", desc := "(Ljava/util/ArrayList;)V" } : Jvm.MethodName)) ∈ lw_all := lw_g (lw_at lw_m6 78 rfl) rfl
theorem q1398 : (Jvm.Cond.instanceMethod ({ cls := "DeadUnderstudies", name := "fault", desc := "()I" } : Jvm.MethodName)) ∈ lw_all := lw_g (lw_at lw_m6 87 rfl) rfl
theorem q1399 : (Jvm.Cond.selects "DeadUnderstudies" ({ cls := "DeadUnderstudies", name := "fault", desc := "()I" } : Jvm.MethodName) ({ cls := "DeadUnderstudies", name := "fault", desc := "()I" } : Jvm.MethodName)) ∈ lw_all := lw_g (lw_at lw_m6 88 rfl) rfl
theorem q1400 : (Jvm.Cond.code ({ cls := "DeadUnderstudies", name := "fault", desc := "()I" } : Jvm.MethodName) prog_1_method_37_code (1 : Nat) (Option.some Jvm.ClassFile.FieldType.int)) ∈ lw_all := lw_g (lw_at lw_m6 89 rfl) rfl
theorem q1402 : (Jvm.Cond.instanceMethod ({ cls := "DeadUnderstudies", name := "force", desc := "(I)I" } : Jvm.MethodName)) ∈ lw_all := lw_g (lw_at lw_m6 91 rfl) rfl
theorem q1403 : (Jvm.Cond.selects "DeadUnderstudies" ({ cls := "DeadUnderstudies", name := "force", desc := "(I)I" } : Jvm.MethodName) ({ cls := "DeadUnderstudies", name := "force", desc := "(I)I" } : Jvm.MethodName)) ∈ lw_all := lw_g (lw_at lw_m6 92 rfl) rfl
theorem q1404 : (Jvm.Cond.code ({ cls := "DeadUnderstudies", name := "force", desc := "(I)I" } : Jvm.MethodName) prog_1_method_38_code (3 : Nat) (Option.some Jvm.ClassFile.FieldType.int)) ∈ lw_all := lw_g (lw_at lw_m6 93 rfl) rfl
theorem q1406 : (Jvm.Cond.instanceMethod ({ cls := "DeadUnderstudies", name := "asks", desc := "(IIII)I" } : Jvm.MethodName)) ∈ lw_all := lw_g (lw_at lw_m6 95 rfl) rfl
theorem q1407 : (Jvm.Cond.selects "DeadUnderstudies" ({ cls := "DeadUnderstudies", name := "asks", desc := "(IIII)I" } : Jvm.MethodName) ({ cls := "DeadUnderstudies", name := "asks", desc := "(IIII)I" } : Jvm.MethodName)) ∈ lw_all := lw_g (lw_at lw_m6 96 rfl) rfl
theorem q1408 : (Jvm.Cond.code ({ cls := "DeadUnderstudies", name := "asks", desc := "(IIII)I" } : Jvm.MethodName) prog_1_method_43_code (5 : Nat) (Option.some Jvm.ClassFile.FieldType.int)) ∈ lw_all := lw_g (lw_at lw_m6 97 rfl) rfl
theorem q1409 : (Jvm.Cond.methodLink "DeadUnderstudies" (310 : Nat) ({ cls := "DeadUnderstudies", name := "slips", desc := "(IIII)I" } : Jvm.MethodName)) ∈ lw_all := lw_g (lw_at lw_m6 98 rfl) rfl
theorem q1410 : (Jvm.Cond.privateMethod ({ cls := "DeadUnderstudies", name := "slips", desc := "(IIII)I" } : Jvm.MethodName)) ∈ lw_tbl := lw_at lw_m6 99 rfl
theorem q1411 : (Jvm.Cond.instanceMethod ({ cls := "DeadUnderstudies", name := "slips", desc := "(IIII)I" } : Jvm.MethodName)) ∈ lw_all := lw_g (lw_at lw_m6 100 rfl) rfl
theorem q1412 : (Jvm.Cond.code ({ cls := "DeadUnderstudies", name := "slips", desc := "(IIII)I" } : Jvm.MethodName) prog_1_method_40_code (7 : Nat) (Option.some Jvm.ClassFile.FieldType.int)) ∈ lw_all := lw_g (lw_at lw_m6 101 rfl) rfl
theorem q1413 : (Jvm.Cond.methodLink "DeadUnderstudies" (303 : Nat) ({ cls := "DeadUnderstudies", name := "says", desc := "(IIIII)J" } : Jvm.MethodName)) ∈ lw_all := lw_g (lw_at lw_m6 102 rfl) rfl
theorem q1414 : (Jvm.Cond.privateMethod ({ cls := "DeadUnderstudies", name := "says", desc := "(IIIII)J" } : Jvm.MethodName)) ∈ lw_tbl := lw_at lw_m6 103 rfl
theorem q1415 : (Jvm.Cond.instanceMethod ({ cls := "DeadUnderstudies", name := "says", desc := "(IIIII)J" } : Jvm.MethodName)) ∈ lw_all := lw_g (lw_at lw_m6 104 rfl) rfl
theorem q1416 : (Jvm.Cond.code ({ cls := "DeadUnderstudies", name := "says", desc := "(IIIII)J" } : Jvm.MethodName) prog_1_method_39_code (8 : Nat) (Option.some Jvm.ClassFile.FieldType.long)) ∈ lw_all := lw_g (lw_at lw_m6 105 rfl) rfl
theorem q1417 : (Jvm.Cond.constantLong "DeadUnderstudies" (298 : Nat) (-4000000000 : Int64)) ∈ lw_all := lw_g (lw_at lw_m6 106 rfl) rfl
theorem q1418 : (Jvm.Cond.methodLink "DeadUnderstudies" (300 : Nat) ({ cls := "DeadUnderstudies$Law", name := "told", desc := "(ILDeadUnderstudies$Setting;)J" } : Jvm.MethodName)) ∈ lw_all := lw_g (lw_at lw_m6 107 rfl) rfl
theorem q1434 : (Jvm.Cond.methodLink "DeadUnderstudies" (306 : Nat) ({ cls := "DeadUnderstudies", name := "near", desc := "(JII)I" } : Jvm.MethodName)) ∈ lw_all := lw_g (lw_at lw_m6 123 rfl) rfl
theorem q1435 : (Jvm.Cond.methodLink "DeadUnderstudies" (314 : Nat) ({ cls := "DeadUnderstudies", name := "hours", desc := "(IIII)I" } : Jvm.MethodName)) ∈ lw_all := lw_g (lw_at lw_m6 124 rfl) rfl
theorem q1436 : (Jvm.Cond.privateMethod ({ cls := "DeadUnderstudies", name := "hours", desc := "(IIII)I" } : Jvm.MethodName)) ∈ lw_tbl := lw_at lw_m6 125 rfl
theorem q1437 : (Jvm.Cond.instanceMethod ({ cls := "DeadUnderstudies", name := "hours", desc := "(IIII)I" } : Jvm.MethodName)) ∈ lw_all := lw_g (lw_at lw_m6 126 rfl) rfl
theorem q1438 : (Jvm.Cond.code ({ cls := "DeadUnderstudies", name := "hours", desc := "(IIII)I" } : Jvm.MethodName) prog_1_method_41_code (7 : Nat) (Option.some Jvm.ClassFile.FieldType.int)) ∈ lw_all := lw_g (lw_at lw_m6 127 rfl) rfl
theorem q1439 : (Jvm.Cond.methodLink "DeadUnderstudies" (317 : Nat) ({ cls := "DeadUnderstudies", name := "isBarred", desc := "(IIII)Z" } : Jvm.MethodName)) ∈ lw_all := lw_g (lw_at lw_m6 128 rfl) rfl
theorem q1440 : (Jvm.Cond.privateMethod ({ cls := "DeadUnderstudies", name := "isBarred", desc := "(IIII)Z" } : Jvm.MethodName)) ∈ lw_tbl := lw_at lw_m6 129 rfl
theorem q1441 : (Jvm.Cond.instanceMethod ({ cls := "DeadUnderstudies", name := "isBarred", desc := "(IIII)Z" } : Jvm.MethodName)) ∈ lw_all := lw_g (lw_at lw_m6 130 rfl) rfl
theorem q1442 : (Jvm.Cond.code ({ cls := "DeadUnderstudies", name := "isBarred", desc := "(IIII)Z" } : Jvm.MethodName) prog_1_method_42_code (5 : Nat) (Option.some Jvm.ClassFile.FieldType.boolean)) ∈ lw_all := lw_g (lw_at lw_m6 131 rfl) rfl
theorem q1444 : (Jvm.Cond.instanceMethod ({ cls := "DeadUnderstudies", name := "cue", desc := "(I)I" } : Jvm.MethodName)) ∈ lw_all := lw_g (lw_at lw_m6 133 rfl) rfl
theorem q1445 : (Jvm.Cond.selects "DeadUnderstudies" ({ cls := "DeadUnderstudies", name := "cue", desc := "(I)I" } : Jvm.MethodName) ({ cls := "DeadUnderstudies", name := "cue", desc := "(I)I" } : Jvm.MethodName)) ∈ lw_all := lw_g (lw_at lw_m6 134 rfl) rfl
theorem q1446 : (Jvm.Cond.code ({ cls := "DeadUnderstudies", name := "cue", desc := "(I)I" } : Jvm.MethodName) prog_1_method_44_code (2 : Nat) (Option.some Jvm.ClassFile.FieldType.int)) ∈ lw_all := lw_g (lw_at lw_m6 135 rfl) rfl
theorem q1448 : (Jvm.Cond.instanceMethod ({ cls := "DeadUnderstudies", name := "still", desc := "()I" } : Jvm.MethodName)) ∈ lw_all := lw_g (lw_at lw_m6 137 rfl) rfl
theorem q1449 : (Jvm.Cond.selects "DeadUnderstudies" ({ cls := "DeadUnderstudies", name := "still", desc := "()I" } : Jvm.MethodName) ({ cls := "DeadUnderstudies", name := "still", desc := "()I" } : Jvm.MethodName)) ∈ lw_all := lw_g (lw_at lw_m6 138 rfl) rfl
theorem q1450 : (Jvm.Cond.code ({ cls := "DeadUnderstudies", name := "still", desc := "()I" } : Jvm.MethodName) prog_1_method_45_code (2 : Nat) (Option.some Jvm.ClassFile.FieldType.int)) ∈ lw_all := lw_g (lw_at lw_m6 139 rfl) rfl
theorem q1452 : (Jvm.Cond.instanceMethod ({ cls := "DeadUnderstudies", name := "begin", desc := "(II)I" } : Jvm.MethodName)) ∈ lw_all := lw_g (lw_at lw_m6 141 rfl) rfl
theorem q1453 : (Jvm.Cond.selects "DeadUnderstudies" ({ cls := "DeadUnderstudies", name := "begin", desc := "(II)I" } : Jvm.MethodName) ({ cls := "DeadUnderstudies", name := "begin", desc := "(II)I" } : Jvm.MethodName)) ∈ lw_all := lw_g (lw_at lw_m6 142 rfl) rfl
theorem q1454 : (Jvm.Cond.code ({ cls := "DeadUnderstudies", name := "begin", desc := "(II)I" } : Jvm.MethodName) prog_1_method_47_code (3 : Nat) (Option.some Jvm.ClassFile.FieldType.int)) ∈ lw_all := lw_g (lw_at lw_m6 143 rfl) rfl
theorem q1455 : (Jvm.Cond.methodLink "DeadUnderstudies" (330 : Nat) ({ cls := "DeadUnderstudies", name := "isAlive", desc := "(II)Z" } : Jvm.MethodName)) ∈ lw_all := lw_g (lw_at lw_m6 144 rfl) rfl
theorem q1456 : (Jvm.Cond.privateMethod ({ cls := "DeadUnderstudies", name := "isAlive", desc := "(II)Z" } : Jvm.MethodName)) ∈ lw_tbl := lw_at lw_m6 145 rfl
theorem q1457 : (Jvm.Cond.instanceMethod ({ cls := "DeadUnderstudies", name := "isAlive", desc := "(II)Z" } : Jvm.MethodName)) ∈ lw_all := lw_g (lw_at lw_m6 146 rfl) rfl
theorem q1458 : (Jvm.Cond.code ({ cls := "DeadUnderstudies", name := "isAlive", desc := "(II)Z" } : Jvm.MethodName) prog_1_method_14_code (3 : Nat) (Option.some Jvm.ClassFile.FieldType.boolean)) ∈ lw_all := lw_g (lw_at lw_m6 147 rfl) rfl
theorem q1459 : (Jvm.Cond.methodLink "DeadUnderstudies" (332 : Nat) ({ cls := "DeadUnderstudies$Script", name := "copy", desc := "()LDeadUnderstudies$Script;" } : Jvm.MethodName)) ∈ lw_all := lw_g (lw_at lw_m6 148 rfl) rfl
theorem q1466 : (Jvm.Cond.methodLink "DeadUnderstudies" (336 : Nat) ({ cls := "DeadUnderstudies", name := "adds", desc := "(IIILDeadUnderstudies$Script;)I" } : Jvm.MethodName)) ∈ lw_all := lw_g (lw_at lw_m6 155 rfl) rfl
theorem q1467 : (Jvm.Cond.privateMethod ({ cls := "DeadUnderstudies", name := "adds", desc := "(IIILDeadUnderstudies$Script;)I" } : Jvm.MethodName)) ∈ lw_tbl := lw_at lw_m6 156 rfl
theorem q1468 : (Jvm.Cond.instanceMethod ({ cls := "DeadUnderstudies", name := "adds", desc := "(IIILDeadUnderstudies$Script;)I" } : Jvm.MethodName)) ∈ lw_all := lw_g (lw_at lw_m6 157 rfl) rfl
theorem q1469 : (Jvm.Cond.code ({ cls := "DeadUnderstudies", name := "adds", desc := "(IIILDeadUnderstudies$Script;)I" } : Jvm.MethodName) prog_1_method_46_code (5 : Nat) (Option.some Jvm.ClassFile.FieldType.int)) ∈ lw_all := lw_g (lw_at lw_m6 158 rfl) rfl
theorem q1471 : (Jvm.Cond.methodLink "DeadUnderstudies" (327 : Nat) ({ cls := "DeadUnderstudies$Version", name := "<init>", desc := "(IIILDeadUnderstudies$Script;)V" } : Jvm.MethodName)) ∈ lw_all := lw_g (lw_at lw_m6 160 rfl) rfl
theorem q1476 : (Jvm.Cond.fieldLinkNest "DeadUnderstudies" (204 : Nat) "DeadUnderstudies$Version" "part" "I" "DeadUnderstudies") ∈ lw_tbl := lw_at lw_m6 165 rfl
theorem q1478 : (Jvm.Cond.fieldLinkNest "DeadUnderstudies" (340 : Nat) "DeadUnderstudies$Version" "holder" "I" "DeadUnderstudies") ∈ lw_tbl := lw_at lw_m6 167 rfl
theorem q1480 : (Jvm.Cond.fieldLinkNest "DeadUnderstudies" (371 : Nat) "DeadUnderstudies$Version" "teacher" "I" "DeadUnderstudies") ∈ lw_tbl := lw_at lw_m6 169 rfl
theorem q1482 : (Jvm.Cond.fieldLinkNest "DeadUnderstudies" (145 : Nat) "DeadUnderstudies$Version" "script" "LDeadUnderstudies$Script;" "DeadUnderstudies") ∈ lw_tbl := lw_at lw_m6 171 rfl
theorem q1493 : (Jvm.Cond.instanceMethod ({ cls := "DeadUnderstudies", name := "learn", desc := "(III)I" } : Jvm.MethodName)) ∈ lw_all := lw_g (lw_at lw_m6 182 rfl) rfl
theorem q1494 : (Jvm.Cond.selects "DeadUnderstudies" ({ cls := "DeadUnderstudies", name := "learn", desc := "(III)I" } : Jvm.MethodName) ({ cls := "DeadUnderstudies", name := "learn", desc := "(III)I" } : Jvm.MethodName)) ∈ lw_all := lw_g (lw_at lw_m6 183 rfl) rfl
theorem q1495 : (Jvm.Cond.code ({ cls := "DeadUnderstudies", name := "learn", desc := "(III)I" } : Jvm.MethodName) prog_1_method_49_code (5 : Nat) (Option.some Jvm.ClassFile.FieldType.int)) ∈ lw_all := lw_g (lw_at lw_m6 184 rfl) rfl
theorem q1496 : (Jvm.Cond.methodLink "DeadUnderstudies" (347 : Nat) ({ cls := "DeadUnderstudies", name := "isVersion", desc := "(I)Z" } : Jvm.MethodName)) ∈ lw_all := lw_g (lw_at lw_m6 185 rfl) rfl
theorem q1497 : (Jvm.Cond.privateMethod ({ cls := "DeadUnderstudies", name := "isVersion", desc := "(I)Z" } : Jvm.MethodName)) ∈ lw_tbl := lw_at lw_m6 186 rfl
theorem q1498 : (Jvm.Cond.instanceMethod ({ cls := "DeadUnderstudies", name := "isVersion", desc := "(I)Z" } : Jvm.MethodName)) ∈ lw_all := lw_g (lw_at lw_m6 187 rfl) rfl
theorem q1499 : (Jvm.Cond.code ({ cls := "DeadUnderstudies", name := "isVersion", desc := "(I)Z" } : Jvm.MethodName) prog_1_method_10_code (2 : Nat) (Option.some Jvm.ClassFile.FieldType.boolean)) ∈ lw_all := lw_g (lw_at lw_m6 188 rfl) rfl
theorem q1500 : (Jvm.Cond.methodLink "DeadUnderstudies" (350 : Nat) ({ cls := "DeadUnderstudies", name := "canLearn", desc := "(LDeadUnderstudies$Version;I)Z" } : Jvm.MethodName)) ∈ lw_all := lw_g (lw_at lw_m6 189 rfl) rfl
theorem q1501 : (Jvm.Cond.privateMethod ({ cls := "DeadUnderstudies", name := "canLearn", desc := "(LDeadUnderstudies$Version;I)Z" } : Jvm.MethodName)) ∈ lw_tbl := lw_at lw_m6 190 rfl
theorem q1502 : (Jvm.Cond.instanceMethod ({ cls := "DeadUnderstudies", name := "canLearn", desc := "(LDeadUnderstudies$Version;I)Z" } : Jvm.MethodName)) ∈ lw_all := lw_g (lw_at lw_m6 191 rfl) rfl
theorem q1503 : (Jvm.Cond.code ({ cls := "DeadUnderstudies", name := "canLearn", desc := "(LDeadUnderstudies$Version;I)Z" } : Jvm.MethodName) prog_1_method_48_code (3 : Nat) (Option.some Jvm.ClassFile.FieldType.boolean)) ∈ lw_all := lw_g (lw_at lw_m6 192 rfl) rfl
theorem q1504 : (Jvm.Cond.methodLink "DeadUnderstudies" (343 : Nat) ({ cls := "DeadUnderstudies$Person", name := "together", desc := "(LDeadUnderstudies$Person;)I" } : Jvm.MethodName)) ∈ lw_all := lw_g (lw_at lw_m6 193 rfl) rfl
theorem q1514 : (Jvm.Cond.methodLink "DeadUnderstudies" (354 : Nat) ({ cls := "DeadUnderstudies", name := "watched", desc := "(LDeadUnderstudies$Script;I)LDeadUnderstudies$Script;" } : Jvm.MethodName)) ∈ lw_all := lw_g (lw_at lw_m6 203 rfl) rfl
theorem q1515 : (Jvm.Cond.privateMethod ({ cls := "DeadUnderstudies", name := "watched", desc := "(LDeadUnderstudies$Script;I)LDeadUnderstudies$Script;" } : Jvm.MethodName)) ∈ lw_tbl := lw_at lw_m6 204 rfl
theorem q1516 : (Jvm.Cond.instanceMethod ({ cls := "DeadUnderstudies", name := "watched", desc := "(LDeadUnderstudies$Script;I)LDeadUnderstudies$Script;" } : Jvm.MethodName)) ∈ lw_all := lw_g (lw_at lw_m6 205 rfl) rfl
theorem q1517 : (Jvm.Cond.code ({ cls := "DeadUnderstudies", name := "watched", desc := "(LDeadUnderstudies$Script;I)LDeadUnderstudies$Script;" } : Jvm.MethodName) prog_1_method_50_code (8 : Nat) (Option.some (Jvm.ClassFile.FieldType.object "DeadUnderstudies$Script"))) ∈ lw_all := lw_g (lw_at lw_m6 206 rfl) rfl
theorem q1518 : (Jvm.Cond.methodLink "DeadUnderstudies" (358 : Nat) ({ cls := "DeadUnderstudies$Script", name := "isHole", desc := "(I)Z" } : Jvm.MethodName)) ∈ lw_all := lw_g (lw_at lw_m6 207 rfl) rfl
theorem q1520 : (Jvm.Cond.instanceMethod ({ cls := "DeadUnderstudies", name := "undo", desc := "()I" } : Jvm.MethodName)) ∈ lw_all := lw_g (lw_at lw_m6 209 rfl) rfl
theorem q1521 : (Jvm.Cond.selects "DeadUnderstudies" ({ cls := "DeadUnderstudies", name := "undo", desc := "()I" } : Jvm.MethodName) ({ cls := "DeadUnderstudies", name := "undo", desc := "()I" } : Jvm.MethodName)) ∈ lw_all := lw_g (lw_at lw_m6 210 rfl) rfl
theorem q1522 : (Jvm.Cond.code ({ cls := "DeadUnderstudies", name := "undo", desc := "()I" } : Jvm.MethodName) prog_1_method_51_code (1 : Nat) (Option.some Jvm.ClassFile.FieldType.int)) ∈ lw_all := lw_g (lw_at lw_m6 211 rfl) rfl
theorem q1523 : (Jvm.Cond.methodLink "DeadUnderstudies" (364 : Nat) ({ cls := "java/util/ArrayList", name := "isEmpty", desc := "()Z" } : Jvm.MethodName)) ∈ lw_all := lw_g (lw_at lw_m6 212 rfl) rfl
theorem q1527 : (Jvm.Cond.methodLink "DeadUnderstudies" (368 : Nat) ({ cls := "java/util/ArrayList", name := "remove", desc := "(I)Ljava/lang/Object;" } : Jvm.MethodName)) ∈ lw_all := lw_g (lw_at lw_m6 216 rfl) rfl
theorem q1536 : (Jvm.Cond.instanceMethod ({ cls := "DeadUnderstudies", name := "version", desc := "(II)I" } : Jvm.MethodName)) ∈ lw_all := lw_g (lw_at lw_m6 225 rfl) rfl
theorem q1537 : (Jvm.Cond.selects "DeadUnderstudies" ({ cls := "DeadUnderstudies", name := "version", desc := "(II)I" } : Jvm.MethodName) ({ cls := "DeadUnderstudies", name := "version", desc := "(II)I" } : Jvm.MethodName)) ∈ lw_all := lw_g (lw_at lw_m6 226 rfl) rfl
theorem q1538 : (Jvm.Cond.code ({ cls := "DeadUnderstudies", name := "version", desc := "(II)I" } : Jvm.MethodName) prog_1_method_52_code (4 : Nat) (Option.some Jvm.ClassFile.FieldType.int)) ∈ lw_all := lw_g (lw_at lw_m6 227 rfl) rfl
theorem q1539 : (Jvm.Cond.methodLink "DeadUnderstudies" (374 : Nat) ({ cls := "DeadUnderstudies$Script", name := "unlike", desc := "(LDeadUnderstudies$Script;)I" } : Jvm.MethodName)) ∈ lw_all := lw_g (lw_at lw_m6 228 rfl) rfl
theorem q1545 : (Jvm.Cond.instanceMethod ({ cls := "DeadUnderstudies", name := "knows", desc := "(IIII)I" } : Jvm.MethodName)) ∈ lw_all := lw_g (lw_at lw_m6 234 rfl) rfl
theorem q1546 : (Jvm.Cond.selects "DeadUnderstudies" ({ cls := "DeadUnderstudies", name := "knows", desc := "(IIII)I" } : Jvm.MethodName) ({ cls := "DeadUnderstudies", name := "knows", desc := "(IIII)I" } : Jvm.MethodName)) ∈ lw_all := lw_g (lw_at lw_m6 235 rfl) rfl
theorem q1547 : (Jvm.Cond.code ({ cls := "DeadUnderstudies", name := "knows", desc := "(IIII)I" } : Jvm.MethodName) prog_1_method_53_code (5 : Nat) (Option.some Jvm.ClassFile.FieldType.int)) ∈ lw_all := lw_g (lw_at lw_m6 236 rfl) rfl
theorem q1548 : (Jvm.Cond.methodLink "DeadUnderstudies" (378 : Nat) ({ cls := "DeadUnderstudies", name := "scriptOf", desc := "(I)LDeadUnderstudies$Script;" } : Jvm.MethodName)) ∈ lw_all := lw_g (lw_at lw_m6 237 rfl) rfl
theorem q1549 : (Jvm.Cond.privateMethod ({ cls := "DeadUnderstudies", name := "scriptOf", desc := "(I)LDeadUnderstudies$Script;" } : Jvm.MethodName)) ∈ lw_tbl := lw_at lw_m6 238 rfl
theorem q1550 : (Jvm.Cond.instanceMethod ({ cls := "DeadUnderstudies", name := "scriptOf", desc := "(I)LDeadUnderstudies$Script;" } : Jvm.MethodName)) ∈ lw_all := lw_g (lw_at lw_m6 239 rfl) rfl
theorem q1551 : (Jvm.Cond.code ({ cls := "DeadUnderstudies", name := "scriptOf", desc := "(I)LDeadUnderstudies$Script;" } : Jvm.MethodName) prog_1_method_13_code (2 : Nat) (Option.some (Jvm.ClassFile.FieldType.object "DeadUnderstudies$Script"))) ∈ lw_all := lw_g (lw_at lw_m7 0 rfl) rfl
theorem q1553 : (Jvm.Cond.instanceMethod ({ cls := "DeadUnderstudies", name := "says", desc := "(II)I" } : Jvm.MethodName)) ∈ lw_all := lw_g (lw_at lw_m7 2 rfl) rfl
theorem q1554 : (Jvm.Cond.selects "DeadUnderstudies" ({ cls := "DeadUnderstudies", name := "says", desc := "(II)I" } : Jvm.MethodName) ({ cls := "DeadUnderstudies", name := "says", desc := "(II)I" } : Jvm.MethodName)) ∈ lw_all := lw_g (lw_at lw_m7 3 rfl) rfl
theorem q1555 : (Jvm.Cond.code ({ cls := "DeadUnderstudies", name := "says", desc := "(II)I" } : Jvm.MethodName) prog_1_method_54_code (4 : Nat) (Option.some Jvm.ClassFile.FieldType.int)) ∈ lw_all := lw_g (lw_at lw_m7 4 rfl) rfl
theorem q1556 : (Jvm.Cond.methodLink "DeadUnderstudies" (382 : Nat) ({ cls := "DeadUnderstudies$Script", name := "wordAt", desc := "([II)I" } : Jvm.MethodName)) ∈ lw_all := lw_g (lw_at lw_m7 5 rfl) rfl
theorem q1565 : (Jvm.Cond.instanceMethod ({ cls := "DeadUnderstudies", name := "stops", desc := "(I)I" } : Jvm.MethodName)) ∈ lw_all := lw_g (lw_at lw_m7 14 rfl) rfl
theorem q1566 : (Jvm.Cond.selects "DeadUnderstudies" ({ cls := "DeadUnderstudies", name := "stops", desc := "(I)I" } : Jvm.MethodName) ({ cls := "DeadUnderstudies", name := "stops", desc := "(I)I" } : Jvm.MethodName)) ∈ lw_all := lw_g (lw_at lw_m7 15 rfl) rfl
theorem q1567 : (Jvm.Cond.code ({ cls := "DeadUnderstudies", name := "stops", desc := "(I)I" } : Jvm.MethodName) prog_1_method_55_code (3 : Nat) (Option.some Jvm.ClassFile.FieldType.int)) ∈ lw_all := lw_g (lw_at lw_m7 16 rfl) rfl
theorem q1569 : (Jvm.Cond.instanceMethod ({ cls := "DeadUnderstudies", name := "apart", desc := "(III)I" } : Jvm.MethodName)) ∈ lw_all := lw_g (lw_at lw_m7 18 rfl) rfl
theorem q1570 : (Jvm.Cond.selects "DeadUnderstudies" ({ cls := "DeadUnderstudies", name := "apart", desc := "(III)I" } : Jvm.MethodName) ({ cls := "DeadUnderstudies", name := "apart", desc := "(III)I" } : Jvm.MethodName)) ∈ lw_all := lw_g (lw_at lw_m7 19 rfl) rfl
theorem q1571 : (Jvm.Cond.code ({ cls := "DeadUnderstudies", name := "apart", desc := "(III)I" } : Jvm.MethodName) prog_1_method_56_code (4 : Nat) (Option.some Jvm.ClassFile.FieldType.int)) ∈ lw_all := lw_g (lw_at lw_m7 20 rfl) rfl
theorem q1572 : (Jvm.Cond.methodLink "DeadUnderstudies" (386 : Nat) ({ cls := "DeadUnderstudies$Apart", name := "finds", desc := "(LDeadUnderstudies$Script;LDeadUnderstudies$Script;)I" } : Jvm.MethodName)) ∈ lw_all := lw_g (lw_at lw_m7 21 rfl) rfl
theorem q1585 : (Jvm.Cond.methodLink "DeadUnderstudies" (390 : Nat) ({ cls := "DeadUnderstudies$Apart", name := "tells", desc := "(I)I" } : Jvm.MethodName)) ∈ lw_all := lw_g (lw_at lw_m7 34 rfl) rfl
theorem q1591 : (Jvm.Cond.instanceMethod ({ cls := "DeadUnderstudies", name := "trap", desc := "(II)I" } : Jvm.MethodName)) ∈ lw_all := lw_g (lw_at lw_m7 40 rfl) rfl
theorem q1592 : (Jvm.Cond.selects "DeadUnderstudies" ({ cls := "DeadUnderstudies", name := "trap", desc := "(II)I" } : Jvm.MethodName) ({ cls := "DeadUnderstudies", name := "trap", desc := "(II)I" } : Jvm.MethodName)) ∈ lw_all := lw_g (lw_at lw_m7 41 rfl) rfl
theorem q1593 : (Jvm.Cond.code ({ cls := "DeadUnderstudies", name := "trap", desc := "(II)I" } : Jvm.MethodName) prog_1_method_57_code (5 : Nat) (Option.some Jvm.ClassFile.FieldType.int)) ∈ lw_all := lw_g (lw_at lw_m7 42 rfl) rfl
theorem q1594 : (Jvm.Cond.methodLink "DeadUnderstudies" (393 : Nat) ({ cls := "DeadUnderstudies$Script", name := "takes", desc := "(LDeadUnderstudies$Script;)V" } : Jvm.MethodName)) ∈ lw_all := lw_g (lw_at lw_m7 43 rfl) rfl
theorem q1596 : (Jvm.Cond.instanceMethod ({ cls := "DeadUnderstudies", name := "talk", desc := "(IIII)I" } : Jvm.MethodName)) ∈ lw_all := lw_g (lw_at lw_m7 45 rfl) rfl
theorem q1597 : (Jvm.Cond.selects "DeadUnderstudies" ({ cls := "DeadUnderstudies", name := "talk", desc := "(IIII)I" } : Jvm.MethodName) ({ cls := "DeadUnderstudies", name := "talk", desc := "(IIII)I" } : Jvm.MethodName)) ∈ lw_all := lw_g (lw_at lw_m7 46 rfl) rfl
theorem q1598 : (Jvm.Cond.code ({ cls := "DeadUnderstudies", name := "talk", desc := "(IIII)I" } : Jvm.MethodName) prog_1_method_59_code (6 : Nat) (Option.some Jvm.ClassFile.FieldType.int)) ∈ lw_all := lw_g (lw_at lw_m7 47 rfl) rfl
theorem q1599 : (Jvm.Cond.methodLink "DeadUnderstudies" (396 : Nat) ({ cls := "DeadUnderstudies", name := "areTalking", desc := "(III)Z" } : Jvm.MethodName)) ∈ lw_all := lw_g (lw_at lw_m7 48 rfl) rfl
theorem q1600 : (Jvm.Cond.privateMethod ({ cls := "DeadUnderstudies", name := "areTalking", desc := "(III)Z" } : Jvm.MethodName)) ∈ lw_tbl := lw_at lw_m7 49 rfl
theorem q1601 : (Jvm.Cond.instanceMethod ({ cls := "DeadUnderstudies", name := "areTalking", desc := "(III)Z" } : Jvm.MethodName)) ∈ lw_all := lw_g (lw_at lw_m7 50 rfl) rfl
theorem q1602 : (Jvm.Cond.code ({ cls := "DeadUnderstudies", name := "areTalking", desc := "(III)Z" } : Jvm.MethodName) prog_1_method_58_code (4 : Nat) (Option.some Jvm.ClassFile.FieldType.boolean)) ∈ lw_all := lw_g (lw_at lw_m7 51 rfl) rfl
theorem q1603 : (Jvm.Cond.methodLink "DeadUnderstudies" (399 : Nat) ({ cls := "DeadUnderstudies$Talk", name := "goesOn", desc := "(LDeadUnderstudies$Script;LDeadUnderstudies$Script;I)Z" } : Jvm.MethodName)) ∈ lw_all := lw_g (lw_at lw_m7 52 rfl) rfl
theorem q1608 : (Jvm.Cond.methodLink "DeadUnderstudies" (403 : Nat) ({ cls := "DeadUnderstudies$Talk", name := "word", desc := "(ZI)I" } : Jvm.MethodName)) ∈ lw_all := lw_g (lw_at lw_m7 57 rfl) rfl
theorem q1613 : (Jvm.Cond.instanceMethod ({ cls := "DeadUnderstudies", name := "mends", desc := "(IIII)I" } : Jvm.MethodName)) ∈ lw_all := lw_g (lw_at lw_m7 62 rfl) rfl
theorem q1614 : (Jvm.Cond.selects "DeadUnderstudies" ({ cls := "DeadUnderstudies", name := "mends", desc := "(IIII)I" } : Jvm.MethodName) ({ cls := "DeadUnderstudies", name := "mends", desc := "(IIII)I" } : Jvm.MethodName)) ∈ lw_all := lw_g (lw_at lw_m7 63 rfl) rfl
theorem q1615 : (Jvm.Cond.code ({ cls := "DeadUnderstudies", name := "mends", desc := "(IIII)I" } : Jvm.MethodName) prog_1_method_60_code (10 : Nat) (Option.some Jvm.ClassFile.FieldType.int)) ∈ lw_all := lw_g (lw_at lw_m7 64 rfl) rfl
theorem q1616 : (Jvm.Cond.methodLink "DeadUnderstudies" (424 : Nat) ({ cls := "DeadUnderstudies", name := "isMended", desc := "(IIIIII)Z" } : Jvm.MethodName)) ∈ lw_all := lw_g (lw_at lw_m7 65 rfl) rfl
theorem q1617 : (Jvm.Cond.privateMethod ({ cls := "DeadUnderstudies", name := "isMended", desc := "(IIIIII)Z" } : Jvm.MethodName)) ∈ lw_tbl := lw_at lw_m7 66 rfl
theorem q1618 : (Jvm.Cond.instanceMethod ({ cls := "DeadUnderstudies", name := "isMended", desc := "(IIIIII)Z" } : Jvm.MethodName)) ∈ lw_all := lw_g (lw_at lw_m7 67 rfl) rfl
theorem q1619 : (Jvm.Cond.code ({ cls := "DeadUnderstudies", name := "isMended", desc := "(IIIIII)Z" } : Jvm.MethodName) prog_1_method_61_code (7 : Nat) (Option.some Jvm.ClassFile.FieldType.boolean)) ∈ lw_all := lw_g (lw_at lw_m7 68 rfl) rfl
theorem q1621 : (Jvm.Cond.instanceMethod ({ cls := "DeadUnderstudies", name := "vote", desc := "(II)I" } : Jvm.MethodName)) ∈ lw_all := lw_g (lw_at lw_m7 70 rfl) rfl
theorem q1622 : (Jvm.Cond.selects "DeadUnderstudies" ({ cls := "DeadUnderstudies", name := "vote", desc := "(II)I" } : Jvm.MethodName) ({ cls := "DeadUnderstudies", name := "vote", desc := "(II)I" } : Jvm.MethodName)) ∈ lw_all := lw_g (lw_at lw_m7 71 rfl) rfl
theorem q1623 : (Jvm.Cond.code ({ cls := "DeadUnderstudies", name := "vote", desc := "(II)I" } : Jvm.MethodName) prog_1_method_62_code (6 : Nat) (Option.some Jvm.ClassFile.FieldType.int)) ∈ lw_all := lw_g (lw_at lw_m7 72 rfl) rfl
theorem q1625 : (Jvm.Cond.instanceMethod ({ cls := "DeadUnderstudies", name := "drift", desc := "(II)J" } : Jvm.MethodName)) ∈ lw_all := lw_g (lw_at lw_m7 74 rfl) rfl
theorem q1626 : (Jvm.Cond.selects "DeadUnderstudies" ({ cls := "DeadUnderstudies", name := "drift", desc := "(II)J" } : Jvm.MethodName) ({ cls := "DeadUnderstudies", name := "drift", desc := "(II)J" } : Jvm.MethodName)) ∈ lw_all := lw_g (lw_at lw_m7 75 rfl) rfl
theorem q1627 : (Jvm.Cond.code ({ cls := "DeadUnderstudies", name := "drift", desc := "(II)J" } : Jvm.MethodName) prog_1_method_65_code (3 : Nat) (Option.some Jvm.ClassFile.FieldType.long)) ∈ lw_all := lw_g (lw_at lw_m7 76 rfl) rfl
theorem q1628 : (Jvm.Cond.constantLong "DeadUnderstudies" (428 : Nat) (-1 : Int64)) ∈ lw_all := lw_g (lw_at lw_m7 77 rfl) rfl
theorem q1629 : (Jvm.Cond.methodLink "DeadUnderstudies" (430 : Nat) ({ cls := "DeadUnderstudies", name := "choose", desc := "(II)J" } : Jvm.MethodName)) ∈ lw_all := lw_g (lw_at lw_m7 78 rfl) rfl
theorem q1630 : (Jvm.Cond.static ({ cls := "DeadUnderstudies", name := "choose", desc := "(II)J" } : Jvm.MethodName)) ∈ lw_all := lw_g (lw_at lw_m7 79 rfl) rfl
theorem q1631 : (Jvm.Cond.code ({ cls := "DeadUnderstudies", name := "choose", desc := "(II)J" } : Jvm.MethodName) prog_1_method_64_code (5 : Nat) (Option.some Jvm.ClassFile.FieldType.long)) ∈ lw_all := lw_g (lw_at lw_m7 80 rfl) rfl
theorem q1632 : (Jvm.Cond.methodLink "DeadUnderstudies" (434 : Nat) ({ cls := "DeadUnderstudies", name := "power", desc := "(JI)J" } : Jvm.MethodName)) ∈ lw_all := lw_g (lw_at lw_m7 81 rfl) rfl
theorem q1633 : (Jvm.Cond.static ({ cls := "DeadUnderstudies", name := "power", desc := "(JI)J" } : Jvm.MethodName)) ∈ lw_all := lw_g (lw_at lw_m7 82 rfl) rfl
theorem q1634 : (Jvm.Cond.code ({ cls := "DeadUnderstudies", name := "power", desc := "(JI)J" } : Jvm.MethodName) prog_1_method_63_code (6 : Nat) (Option.some Jvm.ClassFile.FieldType.long)) ∈ lw_all := lw_g (lw_at lw_m7 83 rfl) rfl
theorem q1635 : (Jvm.Cond.constantLong "DeadUnderstudies" (438 : Nat) (100 : Int64)) ∈ lw_all := lw_g (lw_at lw_m7 84 rfl) rfl
theorem q1637 : (Jvm.Cond.instanceMethod ({ cls := "DeadUnderstudies", name := "origin", desc := "(III)I" } : Jvm.MethodName)) ∈ lw_all := lw_g (lw_at lw_m7 86 rfl) rfl
theorem q1638 : (Jvm.Cond.selects "DeadUnderstudies" ({ cls := "DeadUnderstudies", name := "origin", desc := "(III)I" } : Jvm.MethodName) ({ cls := "DeadUnderstudies", name := "origin", desc := "(III)I" } : Jvm.MethodName)) ∈ lw_all := lw_g (lw_at lw_m7 87 rfl) rfl
theorem q1639 : (Jvm.Cond.code ({ cls := "DeadUnderstudies", name := "origin", desc := "(III)I" } : Jvm.MethodName) prog_1_method_69_code (4 : Nat) (Option.some Jvm.ClassFile.FieldType.int)) ∈ lw_all := lw_g (lw_at lw_m7 88 rfl) rfl
theorem q1640 : (Jvm.Cond.methodLink "DeadUnderstudies" (449 : Nat) ({ cls := "DeadUnderstudies", name := "originOf", desc := "(II)I" } : Jvm.MethodName)) ∈ lw_all := lw_g (lw_at lw_m7 89 rfl) rfl
theorem q1641 : (Jvm.Cond.privateMethod ({ cls := "DeadUnderstudies", name := "originOf", desc := "(II)I" } : Jvm.MethodName)) ∈ lw_tbl := lw_at lw_m7 90 rfl
theorem q1642 : (Jvm.Cond.instanceMethod ({ cls := "DeadUnderstudies", name := "originOf", desc := "(II)I" } : Jvm.MethodName)) ∈ lw_all := lw_g (lw_at lw_m7 91 rfl) rfl
theorem q1643 : (Jvm.Cond.code ({ cls := "DeadUnderstudies", name := "originOf", desc := "(II)I" } : Jvm.MethodName) prog_1_method_68_code (5 : Nat) (Option.some Jvm.ClassFile.FieldType.int)) ∈ lw_all := lw_g (lw_at lw_m7 92 rfl) rfl
theorem q1644 : (Jvm.Cond.methodLink "DeadUnderstudies" (443 : Nat) ({ cls := "DeadUnderstudies", name := "hears", desc := "(II)I" } : Jvm.MethodName)) ∈ lw_all := lw_g (lw_at lw_m7 93 rfl) rfl
theorem q1645 : (Jvm.Cond.privateMethod ({ cls := "DeadUnderstudies", name := "hears", desc := "(II)I" } : Jvm.MethodName)) ∈ lw_tbl := lw_at lw_m7 94 rfl
theorem q1646 : (Jvm.Cond.instanceMethod ({ cls := "DeadUnderstudies", name := "hears", desc := "(II)I" } : Jvm.MethodName)) ∈ lw_all := lw_g (lw_at lw_m7 95 rfl) rfl
theorem q1647 : (Jvm.Cond.code ({ cls := "DeadUnderstudies", name := "hears", desc := "(II)I" } : Jvm.MethodName) prog_1_method_66_code (6 : Nat) (Option.some Jvm.ClassFile.FieldType.int)) ∈ lw_all := lw_g (lw_at lw_m7 96 rfl) rfl
theorem q1648 : (Jvm.Cond.methodLink "DeadUnderstudies" (446 : Nat) ({ cls := "DeadUnderstudies", name := "loudest", desc := "()I" } : Jvm.MethodName)) ∈ lw_all := lw_g (lw_at lw_m7 97 rfl) rfl
theorem q1649 : (Jvm.Cond.privateMethod ({ cls := "DeadUnderstudies", name := "loudest", desc := "()I" } : Jvm.MethodName)) ∈ lw_tbl := lw_at lw_m7 98 rfl
theorem q1650 : (Jvm.Cond.instanceMethod ({ cls := "DeadUnderstudies", name := "loudest", desc := "()I" } : Jvm.MethodName)) ∈ lw_all := lw_g (lw_at lw_m7 99 rfl) rfl
theorem q1651 : (Jvm.Cond.code ({ cls := "DeadUnderstudies", name := "loudest", desc := "()I" } : Jvm.MethodName) prog_1_method_67_code (3 : Nat) (Option.some Jvm.ClassFile.FieldType.int)) ∈ lw_all := lw_g (lw_at lw_m7 100 rfl) rfl
theorem q1652 : (Jvm.Cond.methodLink "DeadUnderstudies" (440 : Nat) ({ cls := "java/lang/Math", name := "max", desc := "(II)I" } : Jvm.MethodName)) ∈ lw_all := lw_g (lw_at lw_m7 101 rfl) rfl
theorem q1654 : (Jvm.Cond.instanceMethod ({ cls := "DeadUnderstudies", name := "origins", desc := "(II)J" } : Jvm.MethodName)) ∈ lw_all := lw_g (lw_at lw_m7 103 rfl) rfl
theorem q1655 : (Jvm.Cond.selects "DeadUnderstudies" ({ cls := "DeadUnderstudies", name := "origins", desc := "(II)J" } : Jvm.MethodName) ({ cls := "DeadUnderstudies", name := "origins", desc := "(II)J" } : Jvm.MethodName)) ∈ lw_all := lw_g (lw_at lw_m7 104 rfl) rfl
theorem q1656 : (Jvm.Cond.code ({ cls := "DeadUnderstudies", name := "origins", desc := "(II)J" } : Jvm.MethodName) prog_1_method_70_code (10 : Nat) (Option.some Jvm.ClassFile.FieldType.long)) ∈ lw_all := lw_g (lw_at lw_m7 105 rfl) rfl
theorem q1657 : (Jvm.Cond.methodLink "DeadUnderstudies" (452 : Nat) ({ cls := "DeadUnderstudies", name := "ones", desc := "(I)I" } : Jvm.MethodName)) ∈ lw_all := lw_g (lw_at lw_m7 106 rfl) rfl
theorem q1658 : (Jvm.Cond.static ({ cls := "DeadUnderstudies", name := "ones", desc := "(I)I" } : Jvm.MethodName)) ∈ lw_all := lw_g (lw_at lw_m7 107 rfl) rfl
theorem q1659 : (Jvm.Cond.code ({ cls := "DeadUnderstudies", name := "ones", desc := "(I)I" } : Jvm.MethodName) prog_1_method_6_code (1 : Nat) (Option.some Jvm.ClassFile.FieldType.int)) ∈ lw_all := lw_g (lw_at lw_m7 108 rfl) rfl
theorem q1660 : (Jvm.Cond.methodLink "DeadUnderstudies" (104 : Nat) ({ cls := "java/lang/Integer", name := "bitCount", desc := "(I)I" } : Jvm.MethodName)) ∈ lw_all := lw_g (lw_at lw_m7 109 rfl) rfl
theorem q1666 : (Jvm.Cond.constantLong "DeadUnderstudies" (455 : Nat) (1000000000000000000 : Int64)) ∈ lw_all := lw_g (lw_at lw_m7 115 rfl) rfl
theorem q1668 : (Jvm.Cond.instanceMethod ({ cls := "DeadUnderstudies", name := "chain", desc := "(III)I" } : Jvm.MethodName)) ∈ lw_all := lw_g (lw_at lw_m7 117 rfl) rfl
theorem q1669 : (Jvm.Cond.selects "DeadUnderstudies" ({ cls := "DeadUnderstudies", name := "chain", desc := "(III)I" } : Jvm.MethodName) ({ cls := "DeadUnderstudies", name := "chain", desc := "(III)I" } : Jvm.MethodName)) ∈ lw_all := lw_g (lw_at lw_m7 118 rfl) rfl
theorem q1670 : (Jvm.Cond.code ({ cls := "DeadUnderstudies", name := "chain", desc := "(III)I" } : Jvm.MethodName) prog_1_method_71_code (4 : Nat) (Option.some Jvm.ClassFile.FieldType.int)) ∈ lw_all := lw_g (lw_at lw_m7 119 rfl) rfl
theorem q1671 : (Jvm.Cond.methodLink "DeadUnderstudies" (457 : Nat) ({ cls := "DeadUnderstudies$Chain", name := "lays", desc := "(I)V" } : Jvm.MethodName)) ∈ lw_all := lw_g (lw_at lw_m7 120 rfl) rfl
theorem q1682 : (Jvm.Cond.methodLink "DeadUnderstudies" (460 : Nat) ({ cls := "DeadUnderstudies$Chain", name := "finds", desc := "(II)V" } : Jvm.MethodName)) ∈ lw_all := lw_g (lw_at lw_m7 131 rfl) rfl
theorem q1692 : (Jvm.Cond.static ({ cls := "DeadUnderstudies", name := "isOf", desc := "(II)Z" } : Jvm.MethodName)) ∈ lw_all := lw_g (lw_at lw_m7 141 rfl) rfl
theorem q1693 : (Jvm.Cond.code ({ cls := "DeadUnderstudies", name := "isOf", desc := "(II)Z" } : Jvm.MethodName) prog_1_method_5_code (2 : Nat) (Option.some Jvm.ClassFile.FieldType.boolean)) ∈ lw_all := lw_g (lw_at lw_m7 142 rfl) rfl
theorem q1694 : (Jvm.Cond.methodLink "DeadUnderstudies" (463 : Nat) ({ cls := "DeadUnderstudies", name := "needless", desc := "(I)I" } : Jvm.MethodName)) ∈ lw_all := lw_g (lw_at lw_m7 143 rfl) rfl
theorem q1695 : (Jvm.Cond.privateMethod ({ cls := "DeadUnderstudies", name := "needless", desc := "(I)I" } : Jvm.MethodName)) ∈ lw_tbl := lw_at lw_m7 144 rfl
theorem q1696 : (Jvm.Cond.instanceMethod ({ cls := "DeadUnderstudies", name := "needless", desc := "(I)I" } : Jvm.MethodName)) ∈ lw_all := lw_g (lw_at lw_m7 145 rfl) rfl
theorem q1697 : (Jvm.Cond.code ({ cls := "DeadUnderstudies", name := "needless", desc := "(I)I" } : Jvm.MethodName) prog_1_method_72_code (5 : Nat) (Option.some Jvm.ClassFile.FieldType.int)) ∈ lw_all := lw_g (lw_at lw_m7 146 rfl) rfl
theorem q1699 : (Jvm.Cond.instanceMethod ({ cls := "DeadUnderstudies", name := "cast", desc := "(I)I" } : Jvm.MethodName)) ∈ lw_all := lw_g (lw_at lw_m7 148 rfl) rfl
theorem q1700 : (Jvm.Cond.selects "DeadUnderstudies" ({ cls := "DeadUnderstudies", name := "cast", desc := "(I)I" } : Jvm.MethodName) ({ cls := "DeadUnderstudies", name := "cast", desc := "(I)I" } : Jvm.MethodName)) ∈ lw_all := lw_g (lw_at lw_m7 149 rfl) rfl
theorem q1701 : (Jvm.Cond.code ({ cls := "DeadUnderstudies", name := "cast", desc := "(I)I" } : Jvm.MethodName) prog_1_method_73_code (2 : Nat) (Option.some Jvm.ClassFile.FieldType.int)) ∈ lw_all := lw_g (lw_at lw_m7 150 rfl) rfl
theorem q1702 : (Jvm.Cond.methodLink "DeadUnderstudies" (475 : Nat) ({ cls := "DeadUnderstudies$Cast", name := "finds", desc := "()V" } : Jvm.MethodName)) ∈ lw_all := lw_g (lw_at lw_m7 151 rfl) rfl
theorem q1721 : (Jvm.Cond.instanceMethod ({ cls := "DeadUnderstudies", name := "deed", desc := "(III)I" } : Jvm.MethodName)) ∈ lw_all := lw_g (lw_at lw_m7 170 rfl) rfl
theorem q1722 : (Jvm.Cond.selects "DeadUnderstudies" ({ cls := "DeadUnderstudies", name := "deed", desc := "(III)I" } : Jvm.MethodName) ({ cls := "DeadUnderstudies", name := "deed", desc := "(III)I" } : Jvm.MethodName)) ∈ lw_all := lw_g (lw_at lw_m7 171 rfl) rfl
theorem q1723 : (Jvm.Cond.code ({ cls := "DeadUnderstudies", name := "deed", desc := "(III)I" } : Jvm.MethodName) prog_1_method_74_code (4 : Nat) (Option.some Jvm.ClassFile.FieldType.int)) ∈ lw_all := lw_g (lw_at lw_m7 172 rfl) rfl
theorem q1725 : (Jvm.Cond.instanceMethod ({ cls := "DeadUnderstudies", name := "forget", desc := "()I" } : Jvm.MethodName)) ∈ lw_all := lw_g (lw_at lw_m7 174 rfl) rfl
theorem q1726 : (Jvm.Cond.selects "DeadUnderstudies" ({ cls := "DeadUnderstudies", name := "forget", desc := "()I" } : Jvm.MethodName) ({ cls := "DeadUnderstudies", name := "forget", desc := "()I" } : Jvm.MethodName)) ∈ lw_all := lw_g (lw_at lw_m7 175 rfl) rfl
theorem q1727 : (Jvm.Cond.code ({ cls := "DeadUnderstudies", name := "forget", desc := "()I" } : Jvm.MethodName) prog_1_method_75_code (2 : Nat) (Option.some Jvm.ClassFile.FieldType.int)) ∈ lw_all := lw_g (lw_at lw_m7 176 rfl) rfl
theorem q1729 : (Jvm.Cond.instanceMethod ({ cls := "DeadUnderstudies", name := "judge", desc := "(I)I" } : Jvm.MethodName)) ∈ lw_all := lw_g (lw_at lw_m7 178 rfl) rfl
theorem q1730 : (Jvm.Cond.selects "DeadUnderstudies" ({ cls := "DeadUnderstudies", name := "judge", desc := "(I)I" } : Jvm.MethodName) ({ cls := "DeadUnderstudies", name := "judge", desc := "(I)I" } : Jvm.MethodName)) ∈ lw_all := lw_g (lw_at lw_m7 179 rfl) rfl
theorem q1731 : (Jvm.Cond.code ({ cls := "DeadUnderstudies", name := "judge", desc := "(I)I" } : Jvm.MethodName) prog_1_method_76_code (6 : Nat) (Option.some Jvm.ClassFile.FieldType.int)) ∈ lw_all := lw_g (lw_at lw_m7 180 rfl) rfl
theorem q1733 : (Jvm.Cond.instanceMethod ({ cls := "DeadUnderstudies", name := "least", desc := "(I)I" } : Jvm.MethodName)) ∈ lw_all := lw_g (lw_at lw_m7 182 rfl) rfl
theorem q1734 : (Jvm.Cond.selects "DeadUnderstudies" ({ cls := "DeadUnderstudies", name := "least", desc := "(I)I" } : Jvm.MethodName) ({ cls := "DeadUnderstudies", name := "least", desc := "(I)I" } : Jvm.MethodName)) ∈ lw_all := lw_g (lw_at lw_m7 183 rfl) rfl
theorem q1735 : (Jvm.Cond.code ({ cls := "DeadUnderstudies", name := "least", desc := "(I)I" } : Jvm.MethodName) prog_1_method_77_code (3 : Nat) (Option.some Jvm.ClassFile.FieldType.int)) ∈ lw_all := lw_g (lw_at lw_m7 184 rfl) rfl
theorem q1736 : (Jvm.Cond.methodLink "DeadUnderstudies" (488 : Nat) ({ cls := "DeadUnderstudies$Least", name := "finds", desc := "(II)I" } : Jvm.MethodName)) ∈ lw_all := lw_g (lw_at lw_m7 185 rfl) rfl
theorem q1754 : (Jvm.Cond.instanceMethod ({ cls := "DeadUnderstudies", name := "would", desc := "(II)I" } : Jvm.MethodName)) ∈ lw_all := lw_g (lw_at lw_m7 203 rfl) rfl
theorem q1755 : (Jvm.Cond.selects "DeadUnderstudies" ({ cls := "DeadUnderstudies", name := "would", desc := "(II)I" } : Jvm.MethodName) ({ cls := "DeadUnderstudies", name := "would", desc := "(II)I" } : Jvm.MethodName)) ∈ lw_all := lw_g (lw_at lw_m7 204 rfl) rfl
theorem q1756 : (Jvm.Cond.code ({ cls := "DeadUnderstudies", name := "would", desc := "(II)I" } : Jvm.MethodName) prog_1_method_78_code (3 : Nat) (Option.some Jvm.ClassFile.FieldType.int)) ∈ lw_all := lw_g (lw_at lw_m7 205 rfl) rfl
theorem q1758 : (Jvm.Cond.instanceMethod ({ cls := "DeadUnderstudies", name := "century", desc := "(III)I" } : Jvm.MethodName)) ∈ lw_all := lw_g (lw_at lw_m7 207 rfl) rfl
theorem q1759 : (Jvm.Cond.selects "DeadUnderstudies" ({ cls := "DeadUnderstudies", name := "century", desc := "(III)I" } : Jvm.MethodName) ({ cls := "DeadUnderstudies", name := "century", desc := "(III)I" } : Jvm.MethodName)) ∈ lw_all := lw_g (lw_at lw_m7 208 rfl) rfl
theorem q1760 : (Jvm.Cond.code ({ cls := "DeadUnderstudies", name := "century", desc := "(III)I" } : Jvm.MethodName) prog_1_method_80_code (8 : Nat) (Option.some Jvm.ClassFile.FieldType.int)) ∈ lw_all := lw_g (lw_at lw_m7 209 rfl) rfl
theorem q1761 : (Jvm.Cond.constant "DeadUnderstudies" (503 : Nat) (1000000 : Int32)) ∈ lw_all := lw_g (lw_at lw_m7 210 rfl) rfl
theorem q1762 : (Jvm.Cond.methodLink "DeadUnderstudies" (504 : Nat) ({ cls := "DeadUnderstudies", name := "draw", desc := "(I)I" } : Jvm.MethodName)) ∈ lw_all := lw_g (lw_at lw_m7 211 rfl) rfl
theorem q1763 : (Jvm.Cond.privateMethod ({ cls := "DeadUnderstudies", name := "draw", desc := "(I)I" } : Jvm.MethodName)) ∈ lw_tbl := lw_at lw_m7 212 rfl
theorem q1764 : (Jvm.Cond.instanceMethod ({ cls := "DeadUnderstudies", name := "draw", desc := "(I)I" } : Jvm.MethodName)) ∈ lw_all := lw_g (lw_at lw_m7 213 rfl) rfl
theorem q1765 : (Jvm.Cond.code ({ cls := "DeadUnderstudies", name := "draw", desc := "(I)I" } : Jvm.MethodName) prog_1_method_79_code (2 : Nat) (Option.some Jvm.ClassFile.FieldType.int)) ∈ lw_all := lw_g (lw_at lw_m7 214 rfl) rfl
theorem q1766 : (Jvm.Cond.constantLong "DeadUnderstudies" (497 : Nat) (1103 : Int64)) ∈ lw_all := lw_g (lw_at lw_m7 215 rfl) rfl
theorem q1767 : (Jvm.Cond.constantLong "DeadUnderstudies" (499 : Nat) (12345 : Int64)) ∈ lw_all := lw_g (lw_at lw_m7 216 rfl) rfl
theorem q1768 : (Jvm.Cond.constantLong "DeadUnderstudies" (501 : Nat) (1000003 : Int64)) ∈ lw_all := lw_g (lw_at lw_m7 217 rfl) rfl
theorem q1770 : (Jvm.Cond.instanceMethod ({ cls := "DeadUnderstudies", name := "drawn", desc := "(III)I" } : Jvm.MethodName)) ∈ lw_all := lw_g (lw_at lw_m7 219 rfl) rfl
theorem q1771 : (Jvm.Cond.selects "DeadUnderstudies" ({ cls := "DeadUnderstudies", name := "drawn", desc := "(III)I" } : Jvm.MethodName) ({ cls := "DeadUnderstudies", name := "drawn", desc := "(III)I" } : Jvm.MethodName)) ∈ lw_all := lw_g (lw_at lw_m7 220 rfl) rfl
theorem q1772 : (Jvm.Cond.code ({ cls := "DeadUnderstudies", name := "drawn", desc := "(III)I" } : Jvm.MethodName) prog_1_method_81_code (4 : Nat) (Option.some Jvm.ClassFile.FieldType.int)) ∈ lw_all := lw_g (lw_at lw_m7 221 rfl) rfl
theorem q1774 : (Jvm.Cond.instanceMethod ({ cls := "DeadUnderstudies", name := "count", desc := "(I)I" } : Jvm.MethodName)) ∈ lw_all := lw_g (lw_at lw_m7 223 rfl) rfl
theorem q1775 : (Jvm.Cond.selects "DeadUnderstudies" ({ cls := "DeadUnderstudies", name := "count", desc := "(I)I" } : Jvm.MethodName) ({ cls := "DeadUnderstudies", name := "count", desc := "(I)I" } : Jvm.MethodName)) ∈ lw_all := lw_g (lw_at lw_m7 224 rfl) rfl
theorem q1776 : (Jvm.Cond.code ({ cls := "DeadUnderstudies", name := "count", desc := "(I)I" } : Jvm.MethodName) prog_1_method_82_code (2 : Nat) (Option.some Jvm.ClassFile.FieldType.int)) ∈ lw_all := lw_g (lw_at lw_m7 225 rfl) rfl
theorem q1778 : (Jvm.Cond.instanceMethod ({ cls := "DeadUnderstudies", name := "status", desc := "()I" } : Jvm.MethodName)) ∈ lw_all := lw_g (lw_at lw_m7 227 rfl) rfl
theorem q1779 : (Jvm.Cond.selects "DeadUnderstudies" ({ cls := "DeadUnderstudies", name := "status", desc := "()I" } : Jvm.MethodName) ({ cls := "DeadUnderstudies", name := "status", desc := "()I" } : Jvm.MethodName)) ∈ lw_all := lw_g (lw_at lw_m7 228 rfl) rfl
theorem q1780 : (Jvm.Cond.code ({ cls := "DeadUnderstudies", name := "status", desc := "()I" } : Jvm.MethodName) prog_1_method_83_code (1 : Nat) (Option.some Jvm.ClassFile.FieldType.int)) ∈ lw_all := lw_g (lw_at lw_m7 229 rfl) rfl
theorem q2601 : (Jvm.Cond.castable "DeadUnderstudies" "java/lang/Object") ∈ lw_tbl := lw_at lw_m11 90 rfl
theorem in_X0 : ∀ w ∈ wsX00, w ∈ lw_all := lw_in wsX00 [549, 551, 553, 555, 557, 559, 561, 563, 565, 567, 569, 571, 573, 575, 577, 579, 581, 583, 585, 587, 589, 591] (by decide +kernel) (by decide +kernel)
