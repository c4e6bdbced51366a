/-! BinderPressModel -/
set_option maxRecDepth 100000
def RX2 : String := "BinderPressModel"
def TX2 : u_T := fun k => match k with
  | 0 => ("BinderPressModel", "row", "[I", true)
  | 1 => ("BinderPressModel", "undos", "I", false)
  | 2 => ("BinderPressModel", "isKept", "[Z", true)
  | 3 => ("BinderPressModel", "text", "[I", true)
  | 4 => ("BinderPressModel", "length", "I", false)
  | 5 => ("BinderPressModel", "fault", "I", false)
  | 6 => ("BinderPressModel", "term", "[I", true)
  | 7 => ("BinderPressModel", "size", "I", false)
  | 8 => ("BinderPressModel", "made", "[I", true)
  | 9 => ("BinderPressModel", "many", "I", false)
  | 10 => ("BinderPressModel", "stack", "[I", true)
  | 11 => ("BinderPressModel", "depth", "I", false)
  | 12 => ("BinderPressModel", "begins", "[I", true)
  | 13 => ("BinderPressModel", "isBody", "[Z", true)
  | 14 => ("BinderPressModel", "around", "I", false)
  | 15 => ("BinderPressModel", "wanted", "I", false)
  | 16 => ("BinderPressModel", "place", "I", false)
  | 17 => ("BinderPressModel", "args", "[I", true)
  | 18 => ("BinderPressModel", "isBig", "Z", false)
  | 19 => ("BinderPressModel", "isMore", "Z", false)
  | 20 => ("BinderPressModel", "things", "[I", true)
  | 21 => ("BinderPressModel", "lefts", "[I", true)
  | 22 => ("BinderPressModel", "rights", "[I", true)
  | 23 => ("BinderPressModel", "thingMany", "I", false)
  | 24 => ("BinderPressModel", "spine", "[I", true)
  | 25 => ("BinderPressModel", "from", "[I", true)
  | 26 => ("BinderPressModel", "to", "[I", true)
  | 27 => ("BinderPressModel", "alike", "[I", true)
  | 28 => ("BinderPressModel", "isSound", "[Z", true)
  | 29 => ("BinderPressModel", "kindMany", "I", false)
  | 30 => ("BinderPressModel", "names", "[I", true)
  | 31 => ("BinderPressModel", "bound", "[I", true)
  | 32 => ("BinderPressModel", "pairs", "[I", true)
  | 33 => ("BinderPressModel", "written", "[I", true)
  | 34 => ("BinderPressModel", "writtenMany", "I", false)
  | 35 => ("BinderPressModel", "letterOf", "[I", true)
  | _ => ("BinderPressModel", "written2", "[I", true)
def tyX2 : Nat → FieldType := fun k => match k with
  | 0 => .array .int
  | 1 => .int
  | 2 => .array .boolean
  | 3 => .array .int
  | 4 => .int
  | 5 => .int
  | 6 => .array .int
  | 7 => .int
  | 8 => .array .int
  | 9 => .int
  | 10 => .array .int
  | 11 => .int
  | 12 => .array .int
  | 13 => .array .boolean
  | 14 => .int
  | 15 => .int
  | 16 => .int
  | 17 => .array .int
  | 18 => .boolean
  | 19 => .boolean
  | 20 => .array .int
  | 21 => .array .int
  | 22 => .array .int
  | 23 => .int
  | 24 => .array .int
  | 25 => .array .int
  | 26 => .array .int
  | 27 => .array .int
  | 28 => .array .boolean
  | 29 => .int
  | 30 => .array .int
  | 31 => .array .int
  | 32 => .array .int
  | 33 => .array .int
  | 34 => .int
  | 35 => .array .int
  | _ => .array .int
abbrev wsX20 : List Cond := u_ws RX2 TX2 37
set_option maxRecDepth 100000 in
theorem nmX2 : ∀ a, a < 37 → ∀ b, b < 37 → a ≠ b → (TX2 a).2.1 ≠ (TX2 b).2.1 := by decide +kernel
set_option maxRecDepth 100000 in
theorem tyX2_ok : ∀ k, k < 37 → parseFieldDescriptor (TX2 k).2.2.1 = some (tyX2 k) := by decide +kernel
abbrev cX2_init : ByteArray := prog_15_method_1_code
def yX2_init : MethodName := ⟨RX2, "<init>", "()V"⟩
def dkwX2_init_8 : List UInt8 := [188, 10, 181, 0, 75, 42, 17, 6, 64, 188, 10, 181, 0, 78, 42, 17, 0, 200, 188, 10, 181, 0, 81, 177]
abbrev dktX2_init_8 : List UInt8 := dkwX2_init_8 ++ []
def dkwX2_init_7 : List UInt8 := [181, 0, 66, 42, 16, 120, 188, 10, 181, 0, 69, 42, 17, 15, 160, 188, 10, 181, 0, 72, 42, 17, 3, 32]
abbrev dktX2_init_7 : List UInt8 := dkwX2_init_7 ++ dktX2_init_8
def dkwX2_init_6 : List UInt8 := [17, 6, 64, 188, 10, 181, 0, 60, 42, 17, 6, 64, 188, 4, 181, 0, 63, 42, 16, 26, 188, 10]
abbrev dktX2_init_6 : List UInt8 := dkwX2_init_6 ++ dktX2_init_7
def dkwX2_init_5 : List UInt8 := [181, 0, 51, 42, 17, 6, 64, 188, 10, 181, 0, 54, 42, 17, 6, 64, 188, 10, 181, 0, 57, 42]
abbrev dktX2_init_5 : List UInt8 := dkwX2_init_5 ++ dktX2_init_6
def dkwX2_init_4 : List UInt8 := [42, 17, 2, 128, 188, 10, 181, 0, 45, 42, 17, 2, 128, 188, 10, 181, 0, 48, 42, 17, 2, 128, 188, 10]
abbrev dktX2_init_4 : List UInt8 := dkwX2_init_4 ++ dktX2_init_5
def dkwX2_init_3 : List UInt8 := [17, 0, 242, 188, 4, 181, 0, 36, 42, 7, 188, 10, 181, 0, 39, 42, 17, 2, 128, 188, 10, 181, 0, 42]
abbrev dktX2_init_3 : List UInt8 := dkwX2_init_3 ++ dktX2_init_4
def dkwX2_init_2 : List UInt8 := [188, 10, 181, 0, 27, 42, 17, 8, 152, 188, 10, 181, 0, 30, 42, 17, 0, 242, 188, 10, 181, 0, 33, 42]
abbrev dktX2_init_2 : List UInt8 := dkwX2_init_2 ++ dktX2_init_3
def dkwX2_init_1 : List UInt8 := [188, 10, 181, 0, 17, 42, 2, 181, 0, 20, 42, 17, 8, 152, 188, 10, 181, 0, 24, 42, 17, 8, 152]
abbrev dktX2_init_1 : List UInt8 := dkwX2_init_1 ++ dktX2_init_2
def dkwX2_init_0 : List UInt8 := [42, 183, 0, 1, 42, 17, 24, 148, 188, 10, 181, 0, 7, 42, 5, 188, 4, 181, 0, 13, 42, 17, 0, 240]
abbrev dktX2_init_0 : List UInt8 := dkwX2_init_0 ++ dktX2_init_1
theorem dksX2_init_0 : cX2_init.data.toList.drop 0 = dktX2_init_0 := by decide +kernel
theorem dksX2_init_1 : cX2_init.data.toList.drop 24 = dktX2_init_1 := dk_seg dksX2_init_0 24 rfl rfl
theorem dksX2_init_2 : cX2_init.data.toList.drop 47 = dktX2_init_2 := dk_seg dksX2_init_1 23 rfl rfl
theorem dksX2_init_3 : cX2_init.data.toList.drop 71 = dktX2_init_3 := dk_seg dksX2_init_2 24 rfl rfl
theorem dksX2_init_4 : cX2_init.data.toList.drop 95 = dktX2_init_4 := dk_seg dksX2_init_3 24 rfl rfl
theorem dksX2_init_5 : cX2_init.data.toList.drop 119 = dktX2_init_5 := dk_seg dksX2_init_4 24 rfl rfl
theorem dksX2_init_6 : cX2_init.data.toList.drop 141 = dktX2_init_6 := dk_seg dksX2_init_5 22 rfl rfl
theorem dksX2_init_7 : cX2_init.data.toList.drop 163 = dktX2_init_7 := dk_seg dksX2_init_6 22 rfl rfl
theorem dksX2_init_8 : cX2_init.data.toList.drop 187 = dktX2_init_8 := dk_seg dksX2_init_7 24 rfl rfl
theorem dX2_init_0 : decode cX2_init 0 = .ok (.aload_n 0, 1) := dk_42 (dk_at dksX2_init_0 0 rfl rfl)
theorem dX2_init_1 : decode cX2_init 1 = .ok (.invokespecial 1, 3) := dk_183 0 1 (dk_at dksX2_init_0 1 rfl rfl)
theorem dX2_init_4 : decode cX2_init 4 = .ok (.aload_n 0, 1) := dk_42 (dk_at dksX2_init_0 4 rfl rfl)
theorem dX2_init_5 : decode cX2_init 5 = .ok (.sipush 6292, 3) := dk_17 24 148 (dk_at dksX2_init_0 5 rfl rfl)
theorem dX2_init_8 : decode cX2_init 8 = .ok (.newarray .int, 2) := dk_188_10 (dk_at dksX2_init_0 8 rfl rfl)
theorem dX2_init_10 : decode cX2_init 10 = .ok (.putfield 7, 3) := dk_181 0 7 (dk_at dksX2_init_0 10 rfl rfl)
theorem dX2_init_13 : decode cX2_init 13 = .ok (.aload_n 0, 1) := dk_42 (dk_at dksX2_init_0 13 rfl rfl)
theorem dX2_init_14 : decode cX2_init 14 = .ok (.iconst 2, 1) := dk_5 (dk_at dksX2_init_0 14 rfl rfl)
theorem dX2_init_15 : decode cX2_init 15 = .ok (.newarray .boolean, 2) := dk_188_4 (dk_at dksX2_init_0 15 rfl rfl)
theorem dX2_init_17 : decode cX2_init 17 = .ok (.putfield 13, 3) := dk_181 0 13 (dk_at dksX2_init_0 17 rfl rfl)
theorem dX2_init_20 : decode cX2_init 20 = .ok (.aload_n 0, 1) := dk_42 (dk_at dksX2_init_0 20 rfl rfl)
theorem dX2_init_21 : decode cX2_init 21 = .ok (.sipush 240, 3) := dk_17 0 240 (dk_at dksX2_init_0 21 rfl rfl)
theorem dX2_init_24 : decode cX2_init 24 = .ok (.newarray .int, 2) := dk_188_10 (dk_at dksX2_init_1 0 rfl rfl)
theorem dX2_init_26 : decode cX2_init 26 = .ok (.putfield 17, 3) := dk_181 0 17 (dk_at dksX2_init_1 2 rfl rfl)
theorem dX2_init_29 : decode cX2_init 29 = .ok (.aload_n 0, 1) := dk_42 (dk_at dksX2_init_1 5 rfl rfl)
theorem dX2_init_30 : decode cX2_init 30 = .ok (.iconst (-1), 1) := dk_2 (dk_at dksX2_init_1 6 rfl rfl)
theorem dX2_init_31 : decode cX2_init 31 = .ok (.putfield 20, 3) := dk_181 0 20 (dk_at dksX2_init_1 7 rfl rfl)
theorem dX2_init_34 : decode cX2_init 34 = .ok (.aload_n 0, 1) := dk_42 (dk_at dksX2_init_1 10 rfl rfl)
theorem dX2_init_35 : decode cX2_init 35 = .ok (.sipush 2200, 3) := dk_17 8 152 (dk_at dksX2_init_1 11 rfl rfl)
theorem dX2_init_38 : decode cX2_init 38 = .ok (.newarray .int, 2) := dk_188_10 (dk_at dksX2_init_1 14 rfl rfl)
theorem dX2_init_40 : decode cX2_init 40 = .ok (.putfield 24, 3) := dk_181 0 24 (dk_at dksX2_init_1 16 rfl rfl)
theorem dX2_init_43 : decode cX2_init 43 = .ok (.aload_n 0, 1) := dk_42 (dk_at dksX2_init_1 19 rfl rfl)
theorem dX2_init_44 : decode cX2_init 44 = .ok (.sipush 2200, 3) := dk_17 8 152 (dk_at dksX2_init_1 20 rfl rfl)
theorem dX2_init_47 : decode cX2_init 47 = .ok (.newarray .int, 2) := dk_188_10 (dk_at dksX2_init_2 0 rfl rfl)
theorem dX2_init_49 : decode cX2_init 49 = .ok (.putfield 27, 3) := dk_181 0 27 (dk_at dksX2_init_2 2 rfl rfl)
theorem dX2_init_52 : decode cX2_init 52 = .ok (.aload_n 0, 1) := dk_42 (dk_at dksX2_init_2 5 rfl rfl)
theorem dX2_init_53 : decode cX2_init 53 = .ok (.sipush 2200, 3) := dk_17 8 152 (dk_at dksX2_init_2 6 rfl rfl)
theorem dX2_init_56 : decode cX2_init 56 = .ok (.newarray .int, 2) := dk_188_10 (dk_at dksX2_init_2 9 rfl rfl)
theorem dX2_init_58 : decode cX2_init 58 = .ok (.putfield 30, 3) := dk_181 0 30 (dk_at dksX2_init_2 11 rfl rfl)
theorem dX2_init_61 : decode cX2_init 61 = .ok (.aload_n 0, 1) := dk_42 (dk_at dksX2_init_2 14 rfl rfl)
theorem dX2_init_62 : decode cX2_init 62 = .ok (.sipush 242, 3) := dk_17 0 242 (dk_at dksX2_init_2 15 rfl rfl)
theorem dX2_init_65 : decode cX2_init 65 = .ok (.newarray .int, 2) := dk_188_10 (dk_at dksX2_init_2 18 rfl rfl)
theorem dX2_init_67 : decode cX2_init 67 = .ok (.putfield 33, 3) := dk_181 0 33 (dk_at dksX2_init_2 20 rfl rfl)
theorem dX2_init_70 : decode cX2_init 70 = .ok (.aload_n 0, 1) := dk_42 (dk_at dksX2_init_2 23 rfl rfl)
theorem dX2_init_71 : decode cX2_init 71 = .ok (.sipush 242, 3) := dk_17 0 242 (dk_at dksX2_init_3 0 rfl rfl)
theorem dX2_init_74 : decode cX2_init 74 = .ok (.newarray .boolean, 2) := dk_188_4 (dk_at dksX2_init_3 3 rfl rfl)
theorem dX2_init_76 : decode cX2_init 76 = .ok (.putfield 36, 3) := dk_181 0 36 (dk_at dksX2_init_3 5 rfl rfl)
theorem dX2_init_79 : decode cX2_init 79 = .ok (.aload_n 0, 1) := dk_42 (dk_at dksX2_init_3 8 rfl rfl)
theorem dX2_init_80 : decode cX2_init 80 = .ok (.iconst 4, 1) := dk_7 (dk_at dksX2_init_3 9 rfl rfl)
theorem dX2_init_81 : decode cX2_init 81 = .ok (.newarray .int, 2) := dk_188_10 (dk_at dksX2_init_3 10 rfl rfl)
theorem dX2_init_83 : decode cX2_init 83 = .ok (.putfield 39, 3) := dk_181 0 39 (dk_at dksX2_init_3 12 rfl rfl)
theorem dX2_init_86 : decode cX2_init 86 = .ok (.aload_n 0, 1) := dk_42 (dk_at dksX2_init_3 15 rfl rfl)
theorem dX2_init_87 : decode cX2_init 87 = .ok (.sipush 640, 3) := dk_17 2 128 (dk_at dksX2_init_3 16 rfl rfl)
theorem dX2_init_90 : decode cX2_init 90 = .ok (.newarray .int, 2) := dk_188_10 (dk_at dksX2_init_3 19 rfl rfl)
theorem dX2_init_92 : decode cX2_init 92 = .ok (.putfield 42, 3) := dk_181 0 42 (dk_at dksX2_init_3 21 rfl rfl)
theorem dX2_init_95 : decode cX2_init 95 = .ok (.aload_n 0, 1) := dk_42 (dk_at dksX2_init_4 0 rfl rfl)
theorem dX2_init_96 : decode cX2_init 96 = .ok (.sipush 640, 3) := dk_17 2 128 (dk_at dksX2_init_4 1 rfl rfl)
theorem dX2_init_99 : decode cX2_init 99 = .ok (.newarray .int, 2) := dk_188_10 (dk_at dksX2_init_4 4 rfl rfl)
theorem dX2_init_101 : decode cX2_init 101 = .ok (.putfield 45, 3) := dk_181 0 45 (dk_at dksX2_init_4 6 rfl rfl)
theorem dX2_init_104 : decode cX2_init 104 = .ok (.aload_n 0, 1) := dk_42 (dk_at dksX2_init_4 9 rfl rfl)
theorem dX2_init_105 : decode cX2_init 105 = .ok (.sipush 640, 3) := dk_17 2 128 (dk_at dksX2_init_4 10 rfl rfl)
theorem dX2_init_108 : decode cX2_init 108 = .ok (.newarray .int, 2) := dk_188_10 (dk_at dksX2_init_4 13 rfl rfl)
theorem dX2_init_110 : decode cX2_init 110 = .ok (.putfield 48, 3) := dk_181 0 48 (dk_at dksX2_init_4 15 rfl rfl)
theorem dX2_init_113 : decode cX2_init 113 = .ok (.aload_n 0, 1) := dk_42 (dk_at dksX2_init_4 18 rfl rfl)
theorem dX2_init_114 : decode cX2_init 114 = .ok (.sipush 640, 3) := dk_17 2 128 (dk_at dksX2_init_4 19 rfl rfl)
theorem dX2_init_117 : decode cX2_init 117 = .ok (.newarray .int, 2) := dk_188_10 (dk_at dksX2_init_4 22 rfl rfl)
theorem dX2_init_119 : decode cX2_init 119 = .ok (.putfield 51, 3) := dk_181 0 51 (dk_at dksX2_init_5 0 rfl rfl)
theorem dX2_init_122 : decode cX2_init 122 = .ok (.aload_n 0, 1) := dk_42 (dk_at dksX2_init_5 3 rfl rfl)
theorem dX2_init_123 : decode cX2_init 123 = .ok (.sipush 1600, 3) := dk_17 6 64 (dk_at dksX2_init_5 4 rfl rfl)
theorem dX2_init_126 : decode cX2_init 126 = .ok (.newarray .int, 2) := dk_188_10 (dk_at dksX2_init_5 7 rfl rfl)
theorem dX2_init_128 : decode cX2_init 128 = .ok (.putfield 54, 3) := dk_181 0 54 (dk_at dksX2_init_5 9 rfl rfl)
theorem dX2_init_131 : decode cX2_init 131 = .ok (.aload_n 0, 1) := dk_42 (dk_at dksX2_init_5 12 rfl rfl)
theorem dX2_init_132 : decode cX2_init 132 = .ok (.sipush 1600, 3) := dk_17 6 64 (dk_at dksX2_init_5 13 rfl rfl)
theorem dX2_init_135 : decode cX2_init 135 = .ok (.newarray .int, 2) := dk_188_10 (dk_at dksX2_init_5 16 rfl rfl)
theorem dX2_init_137 : decode cX2_init 137 = .ok (.putfield 57, 3) := dk_181 0 57 (dk_at dksX2_init_5 18 rfl rfl)
theorem dX2_init_140 : decode cX2_init 140 = .ok (.aload_n 0, 1) := dk_42 (dk_at dksX2_init_5 21 rfl rfl)
theorem dX2_init_141 : decode cX2_init 141 = .ok (.sipush 1600, 3) := dk_17 6 64 (dk_at dksX2_init_6 0 rfl rfl)
theorem dX2_init_144 : decode cX2_init 144 = .ok (.newarray .int, 2) := dk_188_10 (dk_at dksX2_init_6 3 rfl rfl)
theorem dX2_init_146 : decode cX2_init 146 = .ok (.putfield 60, 3) := dk_181 0 60 (dk_at dksX2_init_6 5 rfl rfl)
theorem dX2_init_149 : decode cX2_init 149 = .ok (.aload_n 0, 1) := dk_42 (dk_at dksX2_init_6 8 rfl rfl)
theorem dX2_init_150 : decode cX2_init 150 = .ok (.sipush 1600, 3) := dk_17 6 64 (dk_at dksX2_init_6 9 rfl rfl)
theorem dX2_init_153 : decode cX2_init 153 = .ok (.newarray .boolean, 2) := dk_188_4 (dk_at dksX2_init_6 12 rfl rfl)
theorem dX2_init_155 : decode cX2_init 155 = .ok (.putfield 63, 3) := dk_181 0 63 (dk_at dksX2_init_6 14 rfl rfl)
theorem dX2_init_158 : decode cX2_init 158 = .ok (.aload_n 0, 1) := dk_42 (dk_at dksX2_init_6 17 rfl rfl)
theorem dX2_init_159 : decode cX2_init 159 = .ok (.bipush 26, 2) := dk_16 26 (dk_at dksX2_init_6 18 rfl rfl)
theorem dX2_init_161 : decode cX2_init 161 = .ok (.newarray .int, 2) := dk_188_10 (dk_at dksX2_init_6 20 rfl rfl)
theorem dX2_init_163 : decode cX2_init 163 = .ok (.putfield 66, 3) := dk_181 0 66 (dk_at dksX2_init_7 0 rfl rfl)
theorem dX2_init_166 : decode cX2_init 166 = .ok (.aload_n 0, 1) := dk_42 (dk_at dksX2_init_7 3 rfl rfl)
theorem dX2_init_167 : decode cX2_init 167 = .ok (.bipush 120, 2) := dk_16 120 (dk_at dksX2_init_7 4 rfl rfl)
theorem dX2_init_169 : decode cX2_init 169 = .ok (.newarray .int, 2) := dk_188_10 (dk_at dksX2_init_7 6 rfl rfl)
theorem dX2_init_171 : decode cX2_init 171 = .ok (.putfield 69, 3) := dk_181 0 69 (dk_at dksX2_init_7 8 rfl rfl)
theorem dX2_init_174 : decode cX2_init 174 = .ok (.aload_n 0, 1) := dk_42 (dk_at dksX2_init_7 11 rfl rfl)
theorem dX2_init_175 : decode cX2_init 175 = .ok (.sipush 4000, 3) := dk_17 15 160 (dk_at dksX2_init_7 12 rfl rfl)
theorem dX2_init_178 : decode cX2_init 178 = .ok (.newarray .int, 2) := dk_188_10 (dk_at dksX2_init_7 15 rfl rfl)
theorem dX2_init_180 : decode cX2_init 180 = .ok (.putfield 72, 3) := dk_181 0 72 (dk_at dksX2_init_7 17 rfl rfl)
theorem dX2_init_183 : decode cX2_init 183 = .ok (.aload_n 0, 1) := dk_42 (dk_at dksX2_init_7 20 rfl rfl)
theorem dX2_init_184 : decode cX2_init 184 = .ok (.sipush 800, 3) := dk_17 3 32 (dk_at dksX2_init_7 21 rfl rfl)
theorem dX2_init_187 : decode cX2_init 187 = .ok (.newarray .int, 2) := dk_188_10 (dk_at dksX2_init_8 0 rfl rfl)
theorem dX2_init_189 : decode cX2_init 189 = .ok (.putfield 75, 3) := dk_181 0 75 (dk_at dksX2_init_8 2 rfl rfl)
theorem dX2_init_192 : decode cX2_init 192 = .ok (.aload_n 0, 1) := dk_42 (dk_at dksX2_init_8 5 rfl rfl)
theorem dX2_init_193 : decode cX2_init 193 = .ok (.sipush 1600, 3) := dk_17 6 64 (dk_at dksX2_init_8 6 rfl rfl)
theorem dX2_init_196 : decode cX2_init 196 = .ok (.newarray .int, 2) := dk_188_10 (dk_at dksX2_init_8 9 rfl rfl)
theorem dX2_init_198 : decode cX2_init 198 = .ok (.putfield 78, 3) := dk_181 0 78 (dk_at dksX2_init_8 11 rfl rfl)
theorem dX2_init_201 : decode cX2_init 201 = .ok (.aload_n 0, 1) := dk_42 (dk_at dksX2_init_8 14 rfl rfl)
theorem dX2_init_202 : decode cX2_init 202 = .ok (.sipush 200, 3) := dk_17 0 200 (dk_at dksX2_init_8 15 rfl rfl)
theorem dX2_init_205 : decode cX2_init 205 = .ok (.newarray .int, 2) := dk_188_10 (dk_at dksX2_init_8 18 rfl rfl)
theorem dX2_init_207 : decode cX2_init 207 = .ok (.putfield 81, 3) := dk_181 0 81 (dk_at dksX2_init_8 20 rfl rfl)
theorem dX2_init_210 : decode cX2_init 210 = .ok (.return_, 1) := dk_177 (dk_at dksX2_init_8 23 rfl rfl)
abbrev cX2_feed : ByteArray := prog_15_method_15_code
def yX2_feed : MethodName := ⟨RX2, "feed", "(I)I"⟩
def dkwX2_feed_2 : List UInt8 := [181, 0, 121, 42, 180, 0, 121, 172]
abbrev dktX2_feed_2 : List UInt8 := dkwX2_feed_2 ++ []
def dkwX2_feed_1 : List UInt8 := [160, 0, 6, 18, 114, 172, 42, 180, 0, 17, 42, 180, 0, 121, 27, 79, 42, 89, 180, 0, 121, 4, 96]
abbrev dktX2_feed_1 : List UInt8 := dkwX2_feed_1 ++ dktX2_feed_2
def dkwX2_feed_0 : List UInt8 := [27, 133, 9, 20, 0, 118, 184, 0, 88, 154, 0, 6, 18, 120, 172, 42, 180, 0, 121, 17, 0, 240]
abbrev dktX2_feed_0 : List UInt8 := dkwX2_feed_0 ++ dktX2_feed_1
theorem dksX2_feed_0 : cX2_feed.data.toList.drop 0 = dktX2_feed_0 := by decide +kernel
theorem dksX2_feed_1 : cX2_feed.data.toList.drop 22 = dktX2_feed_1 := dk_seg dksX2_feed_0 22 rfl rfl
theorem dksX2_feed_2 : cX2_feed.data.toList.drop 45 = dktX2_feed_2 := dk_seg dksX2_feed_1 23 rfl rfl
theorem dX2_feed_0 : decode cX2_feed 0 = .ok (.iload_n 1, 1) := dk_27 (dk_at dksX2_feed_0 0 rfl rfl)
theorem dX2_feed_1 : decode cX2_feed 1 = .ok (.i2l, 1) := dk_133 (dk_at dksX2_feed_0 1 rfl rfl)
theorem dX2_feed_2 : decode cX2_feed 2 = .ok (.lconst 0, 1) := dk_9 (dk_at dksX2_feed_0 2 rfl rfl)
theorem dX2_feed_3 : decode cX2_feed 3 = .ok (.ldc2_w 118, 3) := dk_20 0 118 (dk_at dksX2_feed_0 3 rfl rfl)
theorem dX2_feed_6 : decode cX2_feed 6 = .ok (.invokestatic 88, 3) := dk_184 0 88 (dk_at dksX2_feed_0 6 rfl rfl)
theorem dX2_feed_9 : decode cX2_feed 9 = .ok (.ifCond .ne 6, 3) := dk_154 0 6 (dk_at dksX2_feed_0 9 rfl rfl)
theorem dX2_feed_12 : decode cX2_feed 12 = .ok (.ldc 120, 2) := dk_18 120 (dk_at dksX2_feed_0 12 rfl rfl)
theorem dX2_feed_14 : decode cX2_feed 14 = .ok (.ireturn, 1) := dk_172 (dk_at dksX2_feed_0 14 rfl rfl)
theorem dX2_feed_15 : decode cX2_feed 15 = .ok (.aload_n 0, 1) := dk_42 (dk_at dksX2_feed_0 15 rfl rfl)
theorem dX2_feed_16 : decode cX2_feed 16 = .ok (.getfield 121, 3) := dk_180 0 121 (dk_at dksX2_feed_0 16 rfl rfl)
theorem dX2_feed_19 : decode cX2_feed 19 = .ok (.sipush 240, 3) := dk_17 0 240 (dk_at dksX2_feed_0 19 rfl rfl)
theorem dX2_feed_22 : decode cX2_feed 22 = .ok (.if_icmp .ne 6, 3) := dk_160 0 6 (dk_at dksX2_feed_1 0 rfl rfl)
theorem dX2_feed_25 : decode cX2_feed 25 = .ok (.ldc 114, 2) := dk_18 114 (dk_at dksX2_feed_1 3 rfl rfl)
theorem dX2_feed_27 : decode cX2_feed 27 = .ok (.ireturn, 1) := dk_172 (dk_at dksX2_feed_1 5 rfl rfl)
theorem dX2_feed_28 : decode cX2_feed 28 = .ok (.aload_n 0, 1) := dk_42 (dk_at dksX2_feed_1 6 rfl rfl)
theorem dX2_feed_29 : decode cX2_feed 29 = .ok (.getfield 17, 3) := dk_180 0 17 (dk_at dksX2_feed_1 7 rfl rfl)
theorem dX2_feed_32 : decode cX2_feed 32 = .ok (.aload_n 0, 1) := dk_42 (dk_at dksX2_feed_1 10 rfl rfl)
theorem dX2_feed_33 : decode cX2_feed 33 = .ok (.getfield 121, 3) := dk_180 0 121 (dk_at dksX2_feed_1 11 rfl rfl)
theorem dX2_feed_36 : decode cX2_feed 36 = .ok (.iload_n 1, 1) := dk_27 (dk_at dksX2_feed_1 14 rfl rfl)
theorem dX2_feed_37 : decode cX2_feed 37 = .ok (.iastore, 1) := dk_79 (dk_at dksX2_feed_1 15 rfl rfl)
theorem dX2_feed_38 : decode cX2_feed 38 = .ok (.aload_n 0, 1) := dk_42 (dk_at dksX2_feed_1 16 rfl rfl)
theorem dX2_feed_39 : decode cX2_feed 39 = .ok (.dup, 1) := dk_89 (dk_at dksX2_feed_1 17 rfl rfl)
theorem dX2_feed_40 : decode cX2_feed 40 = .ok (.getfield 121, 3) := dk_180 0 121 (dk_at dksX2_feed_1 18 rfl rfl)
theorem dX2_feed_43 : decode cX2_feed 43 = .ok (.iconst 1, 1) := dk_4 (dk_at dksX2_feed_1 21 rfl rfl)
theorem dX2_feed_44 : decode cX2_feed 44 = .ok (.iadd, 1) := dk_96 (dk_at dksX2_feed_1 22 rfl rfl)
theorem dX2_feed_45 : decode cX2_feed 45 = .ok (.putfield 121, 3) := dk_181 0 121 (dk_at dksX2_feed_2 0 rfl rfl)
theorem dX2_feed_48 : decode cX2_feed 48 = .ok (.aload_n 0, 1) := dk_42 (dk_at dksX2_feed_2 3 rfl rfl)
theorem dX2_feed_49 : decode cX2_feed 49 = .ok (.getfield 121, 3) := dk_180 0 121 (dk_at dksX2_feed_2 4 rfl rfl)
theorem dX2_feed_52 : decode cX2_feed 52 = .ok (.ireturn, 1) := dk_172 (dk_at dksX2_feed_2 7 rfl rfl)
abbrev cX2_in : ByteArray := prog_15_method_2_code
def yX2_in : MethodName := ⟨RX2, "in", "(JJJ)Z"⟩
def dkwX2_in_0 : List UInt8 := [30, 32, 148, 155, 0, 14, 30, 22, 4, 148, 157, 0, 7, 4, 167, 0, 4, 3, 172]
abbrev dktX2_in_0 : List UInt8 := dkwX2_in_0 ++ []
theorem dksX2_in_0 : cX2_in.data.toList.drop 0 = dktX2_in_0 := by decide +kernel
theorem dX2_in_0 : decode cX2_in 0 = .ok (.lload_n 0, 1) := dk_30 (dk_at dksX2_in_0 0 rfl rfl)
theorem dX2_in_1 : decode cX2_in 1 = .ok (.lload_n 2, 1) := dk_32 (dk_at dksX2_in_0 1 rfl rfl)
theorem dX2_in_2 : decode cX2_in 2 = .ok (.lcmp, 1) := dk_148 (dk_at dksX2_in_0 2 rfl rfl)
theorem dX2_in_3 : decode cX2_in 3 = .ok (.ifCond .lt 14, 3) := dk_155 0 14 (dk_at dksX2_in_0 3 rfl rfl)
theorem dX2_in_6 : decode cX2_in 6 = .ok (.lload_n 0, 1) := dk_30 (dk_at dksX2_in_0 6 rfl rfl)
theorem dX2_in_7 : decode cX2_in 7 = .ok (.lload 4, 2) := dk_22 4 (dk_at dksX2_in_0 7 rfl rfl)
theorem dX2_in_9 : decode cX2_in 9 = .ok (.lcmp, 1) := dk_148 (dk_at dksX2_in_0 9 rfl rfl)
theorem dX2_in_10 : decode cX2_in 10 = .ok (.ifCond .gt 7, 3) := dk_157 0 7 (dk_at dksX2_in_0 10 rfl rfl)
theorem dX2_in_13 : decode cX2_in 13 = .ok (.iconst 1, 1) := dk_4 (dk_at dksX2_in_0 13 rfl rfl)
theorem dX2_in_14 : decode cX2_in 14 = .ok (.goto 4, 3) := dk_167 0 4 (dk_at dksX2_in_0 14 rfl rfl)
theorem dX2_in_17 : decode cX2_in 17 = .ok (.iconst 0, 1) := dk_3 (dk_at dksX2_in_0 17 rfl rfl)
theorem dX2_in_18 : decode cX2_in 18 = .ok (.ireturn, 1) := dk_172 (dk_at dksX2_in_0 18 rfl rfl)
abbrev cX2_term : ByteArray := prog_15_method_22_code
def yX2_term : MethodName := ⟨RX2, "term", "(I)I"⟩
def dkwX2_term_5 : List UInt8 := [167, 0, 4, 29, 181, 0, 20, 28, 154, 0, 11, 42, 27, 182, 0, 159, 167, 0, 7, 16, 246, 28, 100, 172]
abbrev dktX2_term_5 : List UInt8 := dkwX2_term_5 ++ []
def dkwX2_term_4 : List UInt8 := [182, 0, 142, 154, 0, 7, 4, 167, 0, 4, 28, 61, 42, 3, 181, 0, 121, 42, 28, 154, 0, 7, 2]
abbrev dktX2_term_4 : List UInt8 := dkwX2_term_4 ++ dktX2_term_5
def dkwX2_term_3 : List UInt8 := [167, 0, 4, 3, 96, 62, 167, 255, 221, 28, 154, 0, 22, 42, 180, 0, 131, 154, 0, 11, 42, 3]
abbrev dktX2_term_3 : List UInt8 := dkwX2_term_3 ++ dktX2_term_4
def dkwX2_term_2 : List UInt8 := [162, 0, 33, 28, 154, 0, 29, 42, 42, 180, 0, 17, 29, 46, 182, 0, 156, 61, 29, 28, 154, 0, 7, 4]
abbrev dktX2_term_2 : List UInt8 := dkwX2_term_2 ++ dktX2_term_3
def dkwX2_term_1 : List UInt8 := [3, 3, 79, 42, 180, 0, 36, 3, 3, 84, 42, 3, 181, 0, 131, 3, 61, 3, 62, 29, 42, 180, 0, 121]
abbrev dktX2_term_1 : List UInt8 := dkwX2_term_1 ++ dktX2_term_2
def dkwX2_term_0 : List UInt8 := [27, 184, 0, 152, 154, 0, 6, 18, 155, 172, 42, 3, 181, 0, 104, 42, 3, 181, 0, 124, 42, 180, 0, 33]
abbrev dktX2_term_0 : List UInt8 := dkwX2_term_0 ++ dktX2_term_1
theorem dksX2_term_0 : cX2_term.data.toList.drop 0 = dktX2_term_0 := by decide +kernel
theorem dksX2_term_1 : cX2_term.data.toList.drop 24 = dktX2_term_1 := dk_seg dksX2_term_0 24 rfl rfl
theorem dksX2_term_2 : cX2_term.data.toList.drop 48 = dktX2_term_2 := dk_seg dksX2_term_1 24 rfl rfl
theorem dksX2_term_3 : cX2_term.data.toList.drop 72 = dktX2_term_3 := dk_seg dksX2_term_2 24 rfl rfl
theorem dksX2_term_4 : cX2_term.data.toList.drop 94 = dktX2_term_4 := dk_seg dksX2_term_3 22 rfl rfl
theorem dksX2_term_5 : cX2_term.data.toList.drop 117 = dktX2_term_5 := dk_seg dksX2_term_4 23 rfl rfl
theorem dX2_term_0 : decode cX2_term 0 = .ok (.iload_n 1, 1) := dk_27 (dk_at dksX2_term_0 0 rfl rfl)
theorem dX2_term_1 : decode cX2_term 1 = .ok (.invokestatic 152, 3) := dk_184 0 152 (dk_at dksX2_term_0 1 rfl rfl)
theorem dX2_term_4 : decode cX2_term 4 = .ok (.ifCond .ne 6, 3) := dk_154 0 6 (dk_at dksX2_term_0 4 rfl rfl)
theorem dX2_term_7 : decode cX2_term 7 = .ok (.ldc 155, 2) := dk_18 155 (dk_at dksX2_term_0 7 rfl rfl)
theorem dX2_term_9 : decode cX2_term 9 = .ok (.ireturn, 1) := dk_172 (dk_at dksX2_term_0 9 rfl rfl)
theorem dX2_term_10 : decode cX2_term 10 = .ok (.aload_n 0, 1) := dk_42 (dk_at dksX2_term_0 10 rfl rfl)
theorem dX2_term_11 : decode cX2_term 11 = .ok (.iconst 0, 1) := dk_3 (dk_at dksX2_term_0 11 rfl rfl)
theorem dX2_term_12 : decode cX2_term 12 = .ok (.putfield 104, 3) := dk_181 0 104 (dk_at dksX2_term_0 12 rfl rfl)
theorem dX2_term_15 : decode cX2_term 15 = .ok (.aload_n 0, 1) := dk_42 (dk_at dksX2_term_0 15 rfl rfl)
theorem dX2_term_16 : decode cX2_term 16 = .ok (.iconst 0, 1) := dk_3 (dk_at dksX2_term_0 16 rfl rfl)
theorem dX2_term_17 : decode cX2_term 17 = .ok (.putfield 124, 3) := dk_181 0 124 (dk_at dksX2_term_0 17 rfl rfl)
theorem dX2_term_20 : decode cX2_term 20 = .ok (.aload_n 0, 1) := dk_42 (dk_at dksX2_term_0 20 rfl rfl)
theorem dX2_term_21 : decode cX2_term 21 = .ok (.getfield 33, 3) := dk_180 0 33 (dk_at dksX2_term_0 21 rfl rfl)
theorem dX2_term_24 : decode cX2_term 24 = .ok (.iconst 0, 1) := dk_3 (dk_at dksX2_term_1 0 rfl rfl)
theorem dX2_term_25 : decode cX2_term 25 = .ok (.iconst 0, 1) := dk_3 (dk_at dksX2_term_1 1 rfl rfl)
theorem dX2_term_26 : decode cX2_term 26 = .ok (.iastore, 1) := dk_79 (dk_at dksX2_term_1 2 rfl rfl)
theorem dX2_term_27 : decode cX2_term 27 = .ok (.aload_n 0, 1) := dk_42 (dk_at dksX2_term_1 3 rfl rfl)
theorem dX2_term_28 : decode cX2_term 28 = .ok (.getfield 36, 3) := dk_180 0 36 (dk_at dksX2_term_1 4 rfl rfl)
theorem dX2_term_31 : decode cX2_term 31 = .ok (.iconst 0, 1) := dk_3 (dk_at dksX2_term_1 7 rfl rfl)
theorem dX2_term_32 : decode cX2_term 32 = .ok (.iconst 0, 1) := dk_3 (dk_at dksX2_term_1 8 rfl rfl)
theorem dX2_term_33 : decode cX2_term 33 = .ok (.bastore, 1) := dk_84 (dk_at dksX2_term_1 9 rfl rfl)
theorem dX2_term_34 : decode cX2_term 34 = .ok (.aload_n 0, 1) := dk_42 (dk_at dksX2_term_1 10 rfl rfl)
theorem dX2_term_35 : decode cX2_term 35 = .ok (.iconst 0, 1) := dk_3 (dk_at dksX2_term_1 11 rfl rfl)
theorem dX2_term_36 : decode cX2_term 36 = .ok (.putfield 131, 3) := dk_181 0 131 (dk_at dksX2_term_1 12 rfl rfl)
theorem dX2_term_39 : decode cX2_term 39 = .ok (.iconst 0, 1) := dk_3 (dk_at dksX2_term_1 15 rfl rfl)
theorem dX2_term_40 : decode cX2_term 40 = .ok (.istore_n 2, 1) := dk_61 (dk_at dksX2_term_1 16 rfl rfl)
theorem dX2_term_41 : decode cX2_term 41 = .ok (.iconst 0, 1) := dk_3 (dk_at dksX2_term_1 17 rfl rfl)
theorem dX2_term_42 : decode cX2_term 42 = .ok (.istore_n 3, 1) := dk_62 (dk_at dksX2_term_1 18 rfl rfl)
theorem dX2_term_43 : decode cX2_term 43 = .ok (.iload_n 3, 1) := dk_29 (dk_at dksX2_term_1 19 rfl rfl)
theorem dX2_term_44 : decode cX2_term 44 = .ok (.aload_n 0, 1) := dk_42 (dk_at dksX2_term_1 20 rfl rfl)
theorem dX2_term_45 : decode cX2_term 45 = .ok (.getfield 121, 3) := dk_180 0 121 (dk_at dksX2_term_1 21 rfl rfl)
theorem dX2_term_48 : decode cX2_term 48 = .ok (.if_icmp .ge 33, 3) := dk_162 0 33 (dk_at dksX2_term_2 0 rfl rfl)
theorem dX2_term_51 : decode cX2_term 51 = .ok (.iload_n 2, 1) := dk_28 (dk_at dksX2_term_2 3 rfl rfl)
theorem dX2_term_52 : decode cX2_term 52 = .ok (.ifCond .ne 29, 3) := dk_154 0 29 (dk_at dksX2_term_2 4 rfl rfl)
theorem dX2_term_55 : decode cX2_term 55 = .ok (.aload_n 0, 1) := dk_42 (dk_at dksX2_term_2 7 rfl rfl)
theorem dX2_term_56 : decode cX2_term 56 = .ok (.aload_n 0, 1) := dk_42 (dk_at dksX2_term_2 8 rfl rfl)
theorem dX2_term_57 : decode cX2_term 57 = .ok (.getfield 17, 3) := dk_180 0 17 (dk_at dksX2_term_2 9 rfl rfl)
theorem dX2_term_60 : decode cX2_term 60 = .ok (.iload_n 3, 1) := dk_29 (dk_at dksX2_term_2 12 rfl rfl)
theorem dX2_term_61 : decode cX2_term 61 = .ok (.iaload, 1) := dk_46 (dk_at dksX2_term_2 13 rfl rfl)
theorem dX2_term_62 : decode cX2_term 62 = .ok (.invokevirtual 156, 3) := dk_182 0 156 (dk_at dksX2_term_2 14 rfl rfl)
theorem dX2_term_65 : decode cX2_term 65 = .ok (.istore_n 2, 1) := dk_61 (dk_at dksX2_term_2 17 rfl rfl)
theorem dX2_term_66 : decode cX2_term 66 = .ok (.iload_n 3, 1) := dk_29 (dk_at dksX2_term_2 18 rfl rfl)
theorem dX2_term_67 : decode cX2_term 67 = .ok (.iload_n 2, 1) := dk_28 (dk_at dksX2_term_2 19 rfl rfl)
theorem dX2_term_68 : decode cX2_term 68 = .ok (.ifCond .ne 7, 3) := dk_154 0 7 (dk_at dksX2_term_2 20 rfl rfl)
theorem dX2_term_71 : decode cX2_term 71 = .ok (.iconst 1, 1) := dk_4 (dk_at dksX2_term_2 23 rfl rfl)
theorem dX2_term_72 : decode cX2_term 72 = .ok (.goto 4, 3) := dk_167 0 4 (dk_at dksX2_term_3 0 rfl rfl)
theorem dX2_term_75 : decode cX2_term 75 = .ok (.iconst 0, 1) := dk_3 (dk_at dksX2_term_3 3 rfl rfl)
theorem dX2_term_76 : decode cX2_term 76 = .ok (.iadd, 1) := dk_96 (dk_at dksX2_term_3 4 rfl rfl)
theorem dX2_term_77 : decode cX2_term 77 = .ok (.istore_n 3, 1) := dk_62 (dk_at dksX2_term_3 5 rfl rfl)
theorem dX2_term_78 : decode cX2_term 78 = .ok (.goto (-35), 3) := dk_167 255 221 (dk_at dksX2_term_3 6 rfl rfl)
theorem dX2_term_81 : decode cX2_term 81 = .ok (.iload_n 2, 1) := dk_28 (dk_at dksX2_term_3 9 rfl rfl)
theorem dX2_term_82 : decode cX2_term 82 = .ok (.ifCond .ne 22, 3) := dk_154 0 22 (dk_at dksX2_term_3 10 rfl rfl)
theorem dX2_term_85 : decode cX2_term 85 = .ok (.aload_n 0, 1) := dk_42 (dk_at dksX2_term_3 13 rfl rfl)
theorem dX2_term_86 : decode cX2_term 86 = .ok (.getfield 131, 3) := dk_180 0 131 (dk_at dksX2_term_3 14 rfl rfl)
theorem dX2_term_89 : decode cX2_term 89 = .ok (.ifCond .ne 11, 3) := dk_154 0 11 (dk_at dksX2_term_3 17 rfl rfl)
theorem dX2_term_92 : decode cX2_term 92 = .ok (.aload_n 0, 1) := dk_42 (dk_at dksX2_term_3 20 rfl rfl)
theorem dX2_term_93 : decode cX2_term 93 = .ok (.iconst 0, 1) := dk_3 (dk_at dksX2_term_3 21 rfl rfl)
theorem dX2_term_94 : decode cX2_term 94 = .ok (.invokevirtual 142, 3) := dk_182 0 142 (dk_at dksX2_term_4 0 rfl rfl)
theorem dX2_term_97 : decode cX2_term 97 = .ok (.ifCond .ne 7, 3) := dk_154 0 7 (dk_at dksX2_term_4 3 rfl rfl)
theorem dX2_term_100 : decode cX2_term 100 = .ok (.iconst 1, 1) := dk_4 (dk_at dksX2_term_4 6 rfl rfl)
theorem dX2_term_101 : decode cX2_term 101 = .ok (.goto 4, 3) := dk_167 0 4 (dk_at dksX2_term_4 7 rfl rfl)
theorem dX2_term_104 : decode cX2_term 104 = .ok (.iload_n 2, 1) := dk_28 (dk_at dksX2_term_4 10 rfl rfl)
theorem dX2_term_105 : decode cX2_term 105 = .ok (.istore_n 2, 1) := dk_61 (dk_at dksX2_term_4 11 rfl rfl)
theorem dX2_term_106 : decode cX2_term 106 = .ok (.aload_n 0, 1) := dk_42 (dk_at dksX2_term_4 12 rfl rfl)
theorem dX2_term_107 : decode cX2_term 107 = .ok (.iconst 0, 1) := dk_3 (dk_at dksX2_term_4 13 rfl rfl)
theorem dX2_term_108 : decode cX2_term 108 = .ok (.putfield 121, 3) := dk_181 0 121 (dk_at dksX2_term_4 14 rfl rfl)
theorem dX2_term_111 : decode cX2_term 111 = .ok (.aload_n 0, 1) := dk_42 (dk_at dksX2_term_4 17 rfl rfl)
theorem dX2_term_112 : decode cX2_term 112 = .ok (.iload_n 2, 1) := dk_28 (dk_at dksX2_term_4 18 rfl rfl)
theorem dX2_term_113 : decode cX2_term 113 = .ok (.ifCond .ne 7, 3) := dk_154 0 7 (dk_at dksX2_term_4 19 rfl rfl)
theorem dX2_term_116 : decode cX2_term 116 = .ok (.iconst (-1), 1) := dk_2 (dk_at dksX2_term_4 22 rfl rfl)
theorem dX2_term_117 : decode cX2_term 117 = .ok (.goto 4, 3) := dk_167 0 4 (dk_at dksX2_term_5 0 rfl rfl)
theorem dX2_term_120 : decode cX2_term 120 = .ok (.iload_n 3, 1) := dk_29 (dk_at dksX2_term_5 3 rfl rfl)
theorem dX2_term_121 : decode cX2_term 121 = .ok (.putfield 20, 3) := dk_181 0 20 (dk_at dksX2_term_5 4 rfl rfl)
theorem dX2_term_124 : decode cX2_term 124 = .ok (.iload_n 2, 1) := dk_28 (dk_at dksX2_term_5 7 rfl rfl)
theorem dX2_term_125 : decode cX2_term 125 = .ok (.ifCond .ne 11, 3) := dk_154 0 11 (dk_at dksX2_term_5 8 rfl rfl)
theorem dX2_term_128 : decode cX2_term 128 = .ok (.aload_n 0, 1) := dk_42 (dk_at dksX2_term_5 11 rfl rfl)
theorem dX2_term_129 : decode cX2_term 129 = .ok (.iload_n 1, 1) := dk_27 (dk_at dksX2_term_5 12 rfl rfl)
theorem dX2_term_130 : decode cX2_term 130 = .ok (.invokevirtual 159, 3) := dk_182 0 159 (dk_at dksX2_term_5 13 rfl rfl)
theorem dX2_term_133 : decode cX2_term 133 = .ok (.goto 7, 3) := dk_167 0 7 (dk_at dksX2_term_5 16 rfl rfl)
theorem dX2_term_136 : decode cX2_term 136 = .ok (.bipush (-10), 2) := dk_16 246 (dk_at dksX2_term_5 19 rfl rfl)
theorem dX2_term_138 : decode cX2_term 138 = .ok (.iload_n 2, 1) := dk_28 (dk_at dksX2_term_5 21 rfl rfl)
theorem dX2_term_139 : decode cX2_term 139 = .ok (.isub, 1) := dk_100 (dk_at dksX2_term_5 22 rfl rfl)
theorem dX2_term_140 : decode cX2_term 140 = .ok (.ireturn, 1) := dk_172 (dk_at dksX2_term_5 23 rfl rfl)
abbrev cX2_isShelf : ByteArray := prog_15_method_5_code
def yX2_isShelf : MethodName := ⟨RX2, "isShelf", "(I)Z"⟩
def dkwX2_isShelf_0 : List UInt8 := [26, 133, 9, 20, 0, 92, 184, 0, 88, 172]
abbrev dktX2_isShelf_0 : List UInt8 := dkwX2_isShelf_0 ++ []
theorem dksX2_isShelf_0 : cX2_isShelf.data.toList.drop 0 = dktX2_isShelf_0 := by decide +kernel
theorem dX2_isShelf_0 : decode cX2_isShelf 0 = .ok (.iload_n 0, 1) := dk_26 (dk_at dksX2_isShelf_0 0 rfl rfl)
theorem dX2_isShelf_1 : decode cX2_isShelf 1 = .ok (.i2l, 1) := dk_133 (dk_at dksX2_isShelf_0 1 rfl rfl)
theorem dX2_isShelf_2 : decode cX2_isShelf 2 = .ok (.lconst 0, 1) := dk_9 (dk_at dksX2_isShelf_0 2 rfl rfl)
theorem dX2_isShelf_3 : decode cX2_isShelf 3 = .ok (.ldc2_w 92, 3) := dk_20 0 92 (dk_at dksX2_isShelf_0 3 rfl rfl)
theorem dX2_isShelf_6 : decode cX2_isShelf 6 = .ok (.invokestatic 88, 3) := dk_184 0 88 (dk_at dksX2_isShelf_0 6 rfl rfl)
theorem dX2_isShelf_9 : decode cX2_isShelf 9 = .ok (.ireturn, 1) := dk_172 (dk_at dksX2_isShelf_0 9 rfl rfl)
abbrev cX2_reads : ByteArray := prog_15_method_21_code
def yX2_reads : MethodName := ⟨RX2, "reads", "(I)I"⟩
def dkwX2_reads_10 : List UInt8 := [3, 182, 0, 138, 3, 172]
abbrev dktX2_reads_10 : List UInt8 := dkwX2_reads_10 ++ []
def dkwX2_reads_9 : List UInt8 := [4, 96, 181, 0, 104, 42, 27, 16, 94, 160, 0, 7, 4, 167, 0, 4, 3, 181, 0, 131, 167, 0, 8, 42]
abbrev dktX2_reads_9 : List UInt8 := dkwX2_reads_9 ++ dktX2_reads_10
def dkwX2_reads_8 : List UInt8 := [180, 0, 104, 27, 184, 0, 134, 153, 0, 7, 27, 167, 0, 7, 27, 184, 0, 146, 79, 42, 89, 180, 0, 104]
abbrev dktX2_reads_8 : List UInt8 := dkwX2_reads_8 ++ dktX2_reads_9
def dkwX2_reads_7 : List UInt8 := [3, 96, 16, 120, 164, 0, 5, 5, 172, 42, 182, 0, 149, 28, 153, 0, 55, 42, 180, 0, 24, 42]
abbrev dktX2_reads_7 : List UInt8 := dkwX2_reads_7 ++ dktX2_reads_8
def dkwX2_reads_6 : List UInt8 := [180, 0, 104, 28, 153, 0, 7, 4, 167, 0, 4, 3, 96, 42, 182, 0, 127, 153, 0, 7, 4, 167, 0, 4]
abbrev dktX2_reads_6 : List UInt8 := dkwX2_reads_6 ++ dktX2_reads_7
def dkwX2_reads_5 : List UInt8 := [160, 0, 7, 4, 167, 0, 4, 3, 61, 28, 154, 0, 11, 27, 16, 40, 159, 0, 5, 4, 172, 42]
abbrev dktX2_reads_5 : List UInt8 := dkwX2_reads_5 ++ dktX2_reads_6
def dkwX2_reads_4 : List UInt8 := [167, 0, 4, 4, 172, 27, 184, 0, 134, 154, 0, 17, 27, 184, 0, 146, 2, 160, 0, 9, 27, 16, 94]
abbrev dktX2_reads_4 : List UInt8 := dkwX2_reads_4 ++ dktX2_reads_5
def dkwX2_reads_3 : List UInt8 := [160, 0, 7, 3, 167, 0, 4, 4, 172, 27, 16, 41, 160, 0, 17, 42, 4, 182, 0, 142, 153, 0, 7, 3]
abbrev dktX2_reads_3 : List UInt8 := dkwX2_reads_3 ++ dktX2_reads_4
def dkwX2_reads_2 : List UInt8 := [4, 172, 42, 180, 0, 131, 5, 160, 0, 25, 42, 3, 181, 0, 131, 42, 4, 182, 0, 138, 27, 16, 46]
abbrev dktX2_reads_2 : List UInt8 := dkwX2_reads_2 ++ dktX2_reads_3
def dkwX2_reads_1 : List UInt8 := [4, 100, 17, 3, 232, 27, 96, 79, 42, 5, 181, 0, 131, 27, 184, 0, 134, 153, 0, 7, 3, 167, 0, 4]
abbrev dktX2_reads_1 : List UInt8 := dkwX2_reads_1 ++ dktX2_reads_2
def dkwX2_reads_0 : List UInt8 := [27, 16, 32, 160, 0, 5, 3, 172, 42, 180, 0, 131, 4, 160, 0, 37, 42, 180, 0, 24, 42, 180, 0, 104]
abbrev dktX2_reads_0 : List UInt8 := dkwX2_reads_0 ++ dktX2_reads_1
theorem dksX2_reads_0 : cX2_reads.data.toList.drop 0 = dktX2_reads_0 := by decide +kernel
theorem dksX2_reads_1 : cX2_reads.data.toList.drop 24 = dktX2_reads_1 := dk_seg dksX2_reads_0 24 rfl rfl
theorem dksX2_reads_2 : cX2_reads.data.toList.drop 48 = dktX2_reads_2 := dk_seg dksX2_reads_1 24 rfl rfl
theorem dksX2_reads_3 : cX2_reads.data.toList.drop 71 = dktX2_reads_3 := dk_seg dksX2_reads_2 23 rfl rfl
theorem dksX2_reads_4 : cX2_reads.data.toList.drop 95 = dktX2_reads_4 := dk_seg dksX2_reads_3 24 rfl rfl
theorem dksX2_reads_5 : cX2_reads.data.toList.drop 118 = dktX2_reads_5 := dk_seg dksX2_reads_4 23 rfl rfl
theorem dksX2_reads_6 : cX2_reads.data.toList.drop 140 = dktX2_reads_6 := dk_seg dksX2_reads_5 22 rfl rfl
theorem dksX2_reads_7 : cX2_reads.data.toList.drop 164 = dktX2_reads_7 := dk_seg dksX2_reads_6 24 rfl rfl
theorem dksX2_reads_8 : cX2_reads.data.toList.drop 186 = dktX2_reads_8 := dk_seg dksX2_reads_7 22 rfl rfl
theorem dksX2_reads_9 : cX2_reads.data.toList.drop 210 = dktX2_reads_9 := dk_seg dksX2_reads_8 24 rfl rfl
theorem dksX2_reads_10 : cX2_reads.data.toList.drop 234 = dktX2_reads_10 := dk_seg dksX2_reads_9 24 rfl rfl
theorem dX2_reads_0 : decode cX2_reads 0 = .ok (.iload_n 1, 1) := dk_27 (dk_at dksX2_reads_0 0 rfl rfl)
theorem dX2_reads_1 : decode cX2_reads 1 = .ok (.bipush 32, 2) := dk_16 32 (dk_at dksX2_reads_0 1 rfl rfl)
theorem dX2_reads_3 : decode cX2_reads 3 = .ok (.if_icmp .ne 5, 3) := dk_160 0 5 (dk_at dksX2_reads_0 3 rfl rfl)
theorem dX2_reads_6 : decode cX2_reads 6 = .ok (.iconst 0, 1) := dk_3 (dk_at dksX2_reads_0 6 rfl rfl)
theorem dX2_reads_7 : decode cX2_reads 7 = .ok (.ireturn, 1) := dk_172 (dk_at dksX2_reads_0 7 rfl rfl)
theorem dX2_reads_8 : decode cX2_reads 8 = .ok (.aload_n 0, 1) := dk_42 (dk_at dksX2_reads_0 8 rfl rfl)
theorem dX2_reads_9 : decode cX2_reads 9 = .ok (.getfield 131, 3) := dk_180 0 131 (dk_at dksX2_reads_0 9 rfl rfl)
theorem dX2_reads_12 : decode cX2_reads 12 = .ok (.iconst 1, 1) := dk_4 (dk_at dksX2_reads_0 12 rfl rfl)
theorem dX2_reads_13 : decode cX2_reads 13 = .ok (.if_icmp .ne 37, 3) := dk_160 0 37 (dk_at dksX2_reads_0 13 rfl rfl)
theorem dX2_reads_16 : decode cX2_reads 16 = .ok (.aload_n 0, 1) := dk_42 (dk_at dksX2_reads_0 16 rfl rfl)
theorem dX2_reads_17 : decode cX2_reads 17 = .ok (.getfield 24, 3) := dk_180 0 24 (dk_at dksX2_reads_0 17 rfl rfl)
theorem dX2_reads_20 : decode cX2_reads 20 = .ok (.aload_n 0, 1) := dk_42 (dk_at dksX2_reads_0 20 rfl rfl)
theorem dX2_reads_21 : decode cX2_reads 21 = .ok (.getfield 104, 3) := dk_180 0 104 (dk_at dksX2_reads_0 21 rfl rfl)
theorem dX2_reads_24 : decode cX2_reads 24 = .ok (.iconst 1, 1) := dk_4 (dk_at dksX2_reads_1 0 rfl rfl)
theorem dX2_reads_25 : decode cX2_reads 25 = .ok (.isub, 1) := dk_100 (dk_at dksX2_reads_1 1 rfl rfl)
theorem dX2_reads_26 : decode cX2_reads 26 = .ok (.sipush 1000, 3) := dk_17 3 232 (dk_at dksX2_reads_1 2 rfl rfl)
theorem dX2_reads_29 : decode cX2_reads 29 = .ok (.iload_n 1, 1) := dk_27 (dk_at dksX2_reads_1 5 rfl rfl)
theorem dX2_reads_30 : decode cX2_reads 30 = .ok (.iadd, 1) := dk_96 (dk_at dksX2_reads_1 6 rfl rfl)
theorem dX2_reads_31 : decode cX2_reads 31 = .ok (.iastore, 1) := dk_79 (dk_at dksX2_reads_1 7 rfl rfl)
theorem dX2_reads_32 : decode cX2_reads 32 = .ok (.aload_n 0, 1) := dk_42 (dk_at dksX2_reads_1 8 rfl rfl)
theorem dX2_reads_33 : decode cX2_reads 33 = .ok (.iconst 2, 1) := dk_5 (dk_at dksX2_reads_1 9 rfl rfl)
theorem dX2_reads_34 : decode cX2_reads 34 = .ok (.putfield 131, 3) := dk_181 0 131 (dk_at dksX2_reads_1 10 rfl rfl)
theorem dX2_reads_37 : decode cX2_reads 37 = .ok (.iload_n 1, 1) := dk_27 (dk_at dksX2_reads_1 13 rfl rfl)
theorem dX2_reads_38 : decode cX2_reads 38 = .ok (.invokestatic 134, 3) := dk_184 0 134 (dk_at dksX2_reads_1 14 rfl rfl)
theorem dX2_reads_41 : decode cX2_reads 41 = .ok (.ifCond .eq 7, 3) := dk_153 0 7 (dk_at dksX2_reads_1 17 rfl rfl)
theorem dX2_reads_44 : decode cX2_reads 44 = .ok (.iconst 0, 1) := dk_3 (dk_at dksX2_reads_1 20 rfl rfl)
theorem dX2_reads_45 : decode cX2_reads 45 = .ok (.goto 4, 3) := dk_167 0 4 (dk_at dksX2_reads_1 21 rfl rfl)
theorem dX2_reads_48 : decode cX2_reads 48 = .ok (.iconst 1, 1) := dk_4 (dk_at dksX2_reads_2 0 rfl rfl)
theorem dX2_reads_49 : decode cX2_reads 49 = .ok (.ireturn, 1) := dk_172 (dk_at dksX2_reads_2 1 rfl rfl)
theorem dX2_reads_50 : decode cX2_reads 50 = .ok (.aload_n 0, 1) := dk_42 (dk_at dksX2_reads_2 2 rfl rfl)
theorem dX2_reads_51 : decode cX2_reads 51 = .ok (.getfield 131, 3) := dk_180 0 131 (dk_at dksX2_reads_2 3 rfl rfl)
theorem dX2_reads_54 : decode cX2_reads 54 = .ok (.iconst 2, 1) := dk_5 (dk_at dksX2_reads_2 6 rfl rfl)
theorem dX2_reads_55 : decode cX2_reads 55 = .ok (.if_icmp .ne 25, 3) := dk_160 0 25 (dk_at dksX2_reads_2 7 rfl rfl)
theorem dX2_reads_58 : decode cX2_reads 58 = .ok (.aload_n 0, 1) := dk_42 (dk_at dksX2_reads_2 10 rfl rfl)
theorem dX2_reads_59 : decode cX2_reads 59 = .ok (.iconst 0, 1) := dk_3 (dk_at dksX2_reads_2 11 rfl rfl)
theorem dX2_reads_60 : decode cX2_reads 60 = .ok (.putfield 131, 3) := dk_181 0 131 (dk_at dksX2_reads_2 12 rfl rfl)
theorem dX2_reads_63 : decode cX2_reads 63 = .ok (.aload_n 0, 1) := dk_42 (dk_at dksX2_reads_2 15 rfl rfl)
theorem dX2_reads_64 : decode cX2_reads 64 = .ok (.iconst 1, 1) := dk_4 (dk_at dksX2_reads_2 16 rfl rfl)
theorem dX2_reads_65 : decode cX2_reads 65 = .ok (.invokevirtual 138, 3) := dk_182 0 138 (dk_at dksX2_reads_2 17 rfl rfl)
theorem dX2_reads_68 : decode cX2_reads 68 = .ok (.iload_n 1, 1) := dk_27 (dk_at dksX2_reads_2 20 rfl rfl)
theorem dX2_reads_69 : decode cX2_reads 69 = .ok (.bipush 46, 2) := dk_16 46 (dk_at dksX2_reads_2 21 rfl rfl)
theorem dX2_reads_71 : decode cX2_reads 71 = .ok (.if_icmp .ne 7, 3) := dk_160 0 7 (dk_at dksX2_reads_3 0 rfl rfl)
theorem dX2_reads_74 : decode cX2_reads 74 = .ok (.iconst 0, 1) := dk_3 (dk_at dksX2_reads_3 3 rfl rfl)
theorem dX2_reads_75 : decode cX2_reads 75 = .ok (.goto 4, 3) := dk_167 0 4 (dk_at dksX2_reads_3 4 rfl rfl)
theorem dX2_reads_78 : decode cX2_reads 78 = .ok (.iconst 1, 1) := dk_4 (dk_at dksX2_reads_3 7 rfl rfl)
theorem dX2_reads_79 : decode cX2_reads 79 = .ok (.ireturn, 1) := dk_172 (dk_at dksX2_reads_3 8 rfl rfl)
theorem dX2_reads_80 : decode cX2_reads 80 = .ok (.iload_n 1, 1) := dk_27 (dk_at dksX2_reads_3 9 rfl rfl)
theorem dX2_reads_81 : decode cX2_reads 81 = .ok (.bipush 41, 2) := dk_16 41 (dk_at dksX2_reads_3 10 rfl rfl)
theorem dX2_reads_83 : decode cX2_reads 83 = .ok (.if_icmp .ne 17, 3) := dk_160 0 17 (dk_at dksX2_reads_3 12 rfl rfl)
theorem dX2_reads_86 : decode cX2_reads 86 = .ok (.aload_n 0, 1) := dk_42 (dk_at dksX2_reads_3 15 rfl rfl)
theorem dX2_reads_87 : decode cX2_reads 87 = .ok (.iconst 1, 1) := dk_4 (dk_at dksX2_reads_3 16 rfl rfl)
theorem dX2_reads_88 : decode cX2_reads 88 = .ok (.invokevirtual 142, 3) := dk_182 0 142 (dk_at dksX2_reads_3 17 rfl rfl)
theorem dX2_reads_91 : decode cX2_reads 91 = .ok (.ifCond .eq 7, 3) := dk_153 0 7 (dk_at dksX2_reads_3 20 rfl rfl)
theorem dX2_reads_94 : decode cX2_reads 94 = .ok (.iconst 0, 1) := dk_3 (dk_at dksX2_reads_3 23 rfl rfl)
theorem dX2_reads_95 : decode cX2_reads 95 = .ok (.goto 4, 3) := dk_167 0 4 (dk_at dksX2_reads_4 0 rfl rfl)
theorem dX2_reads_98 : decode cX2_reads 98 = .ok (.iconst 1, 1) := dk_4 (dk_at dksX2_reads_4 3 rfl rfl)
theorem dX2_reads_99 : decode cX2_reads 99 = .ok (.ireturn, 1) := dk_172 (dk_at dksX2_reads_4 4 rfl rfl)
theorem dX2_reads_100 : decode cX2_reads 100 = .ok (.iload_n 1, 1) := dk_27 (dk_at dksX2_reads_4 5 rfl rfl)
theorem dX2_reads_101 : decode cX2_reads 101 = .ok (.invokestatic 134, 3) := dk_184 0 134 (dk_at dksX2_reads_4 6 rfl rfl)
theorem dX2_reads_104 : decode cX2_reads 104 = .ok (.ifCond .ne 17, 3) := dk_154 0 17 (dk_at dksX2_reads_4 9 rfl rfl)
theorem dX2_reads_107 : decode cX2_reads 107 = .ok (.iload_n 1, 1) := dk_27 (dk_at dksX2_reads_4 12 rfl rfl)
theorem dX2_reads_108 : decode cX2_reads 108 = .ok (.invokestatic 146, 3) := dk_184 0 146 (dk_at dksX2_reads_4 13 rfl rfl)
theorem dX2_reads_111 : decode cX2_reads 111 = .ok (.iconst (-1), 1) := dk_2 (dk_at dksX2_reads_4 16 rfl rfl)
theorem dX2_reads_112 : decode cX2_reads 112 = .ok (.if_icmp .ne 9, 3) := dk_160 0 9 (dk_at dksX2_reads_4 17 rfl rfl)
theorem dX2_reads_115 : decode cX2_reads 115 = .ok (.iload_n 1, 1) := dk_27 (dk_at dksX2_reads_4 20 rfl rfl)
theorem dX2_reads_116 : decode cX2_reads 116 = .ok (.bipush 94, 2) := dk_16 94 (dk_at dksX2_reads_4 21 rfl rfl)
theorem dX2_reads_118 : decode cX2_reads 118 = .ok (.if_icmp .ne 7, 3) := dk_160 0 7 (dk_at dksX2_reads_5 0 rfl rfl)
theorem dX2_reads_121 : decode cX2_reads 121 = .ok (.iconst 1, 1) := dk_4 (dk_at dksX2_reads_5 3 rfl rfl)
theorem dX2_reads_122 : decode cX2_reads 122 = .ok (.goto 4, 3) := dk_167 0 4 (dk_at dksX2_reads_5 4 rfl rfl)
theorem dX2_reads_125 : decode cX2_reads 125 = .ok (.iconst 0, 1) := dk_3 (dk_at dksX2_reads_5 7 rfl rfl)
theorem dX2_reads_126 : decode cX2_reads 126 = .ok (.istore_n 2, 1) := dk_61 (dk_at dksX2_reads_5 8 rfl rfl)
theorem dX2_reads_127 : decode cX2_reads 127 = .ok (.iload_n 2, 1) := dk_28 (dk_at dksX2_reads_5 9 rfl rfl)
theorem dX2_reads_128 : decode cX2_reads 128 = .ok (.ifCond .ne 11, 3) := dk_154 0 11 (dk_at dksX2_reads_5 10 rfl rfl)
theorem dX2_reads_131 : decode cX2_reads 131 = .ok (.iload_n 1, 1) := dk_27 (dk_at dksX2_reads_5 13 rfl rfl)
theorem dX2_reads_132 : decode cX2_reads 132 = .ok (.bipush 40, 2) := dk_16 40 (dk_at dksX2_reads_5 14 rfl rfl)
theorem dX2_reads_134 : decode cX2_reads 134 = .ok (.if_icmp .eq 5, 3) := dk_159 0 5 (dk_at dksX2_reads_5 16 rfl rfl)
theorem dX2_reads_137 : decode cX2_reads 137 = .ok (.iconst 1, 1) := dk_4 (dk_at dksX2_reads_5 19 rfl rfl)
theorem dX2_reads_138 : decode cX2_reads 138 = .ok (.ireturn, 1) := dk_172 (dk_at dksX2_reads_5 20 rfl rfl)
theorem dX2_reads_139 : decode cX2_reads 139 = .ok (.aload_n 0, 1) := dk_42 (dk_at dksX2_reads_5 21 rfl rfl)
theorem dX2_reads_140 : decode cX2_reads 140 = .ok (.getfield 104, 3) := dk_180 0 104 (dk_at dksX2_reads_6 0 rfl rfl)
theorem dX2_reads_143 : decode cX2_reads 143 = .ok (.iload_n 2, 1) := dk_28 (dk_at dksX2_reads_6 3 rfl rfl)
theorem dX2_reads_144 : decode cX2_reads 144 = .ok (.ifCond .eq 7, 3) := dk_153 0 7 (dk_at dksX2_reads_6 4 rfl rfl)
theorem dX2_reads_147 : decode cX2_reads 147 = .ok (.iconst 1, 1) := dk_4 (dk_at dksX2_reads_6 7 rfl rfl)
theorem dX2_reads_148 : decode cX2_reads 148 = .ok (.goto 4, 3) := dk_167 0 4 (dk_at dksX2_reads_6 8 rfl rfl)
theorem dX2_reads_151 : decode cX2_reads 151 = .ok (.iconst 0, 1) := dk_3 (dk_at dksX2_reads_6 11 rfl rfl)
theorem dX2_reads_152 : decode cX2_reads 152 = .ok (.iadd, 1) := dk_96 (dk_at dksX2_reads_6 12 rfl rfl)
theorem dX2_reads_153 : decode cX2_reads 153 = .ok (.aload_n 0, 1) := dk_42 (dk_at dksX2_reads_6 13 rfl rfl)
theorem dX2_reads_154 : decode cX2_reads 154 = .ok (.invokevirtual 127, 3) := dk_182 0 127 (dk_at dksX2_reads_6 14 rfl rfl)
theorem dX2_reads_157 : decode cX2_reads 157 = .ok (.ifCond .eq 7, 3) := dk_153 0 7 (dk_at dksX2_reads_6 17 rfl rfl)
theorem dX2_reads_160 : decode cX2_reads 160 = .ok (.iconst 1, 1) := dk_4 (dk_at dksX2_reads_6 20 rfl rfl)
theorem dX2_reads_161 : decode cX2_reads 161 = .ok (.goto 4, 3) := dk_167 0 4 (dk_at dksX2_reads_6 21 rfl rfl)
theorem dX2_reads_164 : decode cX2_reads 164 = .ok (.iconst 0, 1) := dk_3 (dk_at dksX2_reads_7 0 rfl rfl)
theorem dX2_reads_165 : decode cX2_reads 165 = .ok (.iadd, 1) := dk_96 (dk_at dksX2_reads_7 1 rfl rfl)
theorem dX2_reads_166 : decode cX2_reads 166 = .ok (.bipush 120, 2) := dk_16 120 (dk_at dksX2_reads_7 2 rfl rfl)
theorem dX2_reads_168 : decode cX2_reads 168 = .ok (.if_icmp .le 5, 3) := dk_164 0 5 (dk_at dksX2_reads_7 4 rfl rfl)
theorem dX2_reads_171 : decode cX2_reads 171 = .ok (.iconst 2, 1) := dk_5 (dk_at dksX2_reads_7 7 rfl rfl)
theorem dX2_reads_172 : decode cX2_reads 172 = .ok (.ireturn, 1) := dk_172 (dk_at dksX2_reads_7 8 rfl rfl)
theorem dX2_reads_173 : decode cX2_reads 173 = .ok (.aload_n 0, 1) := dk_42 (dk_at dksX2_reads_7 9 rfl rfl)
theorem dX2_reads_174 : decode cX2_reads 174 = .ok (.invokevirtual 149, 3) := dk_182 0 149 (dk_at dksX2_reads_7 10 rfl rfl)
theorem dX2_reads_177 : decode cX2_reads 177 = .ok (.iload_n 2, 1) := dk_28 (dk_at dksX2_reads_7 13 rfl rfl)
theorem dX2_reads_178 : decode cX2_reads 178 = .ok (.ifCond .eq 55, 3) := dk_153 0 55 (dk_at dksX2_reads_7 14 rfl rfl)
theorem dX2_reads_181 : decode cX2_reads 181 = .ok (.aload_n 0, 1) := dk_42 (dk_at dksX2_reads_7 17 rfl rfl)
theorem dX2_reads_182 : decode cX2_reads 182 = .ok (.getfield 24, 3) := dk_180 0 24 (dk_at dksX2_reads_7 18 rfl rfl)
theorem dX2_reads_185 : decode cX2_reads 185 = .ok (.aload_n 0, 1) := dk_42 (dk_at dksX2_reads_7 21 rfl rfl)
theorem dX2_reads_186 : decode cX2_reads 186 = .ok (.getfield 104, 3) := dk_180 0 104 (dk_at dksX2_reads_8 0 rfl rfl)
theorem dX2_reads_189 : decode cX2_reads 189 = .ok (.iload_n 1, 1) := dk_27 (dk_at dksX2_reads_8 3 rfl rfl)
theorem dX2_reads_190 : decode cX2_reads 190 = .ok (.invokestatic 134, 3) := dk_184 0 134 (dk_at dksX2_reads_8 4 rfl rfl)
theorem dX2_reads_193 : decode cX2_reads 193 = .ok (.ifCond .eq 7, 3) := dk_153 0 7 (dk_at dksX2_reads_8 7 rfl rfl)
theorem dX2_reads_196 : decode cX2_reads 196 = .ok (.iload_n 1, 1) := dk_27 (dk_at dksX2_reads_8 10 rfl rfl)
theorem dX2_reads_197 : decode cX2_reads 197 = .ok (.goto 7, 3) := dk_167 0 7 (dk_at dksX2_reads_8 11 rfl rfl)
theorem dX2_reads_200 : decode cX2_reads 200 = .ok (.iload_n 1, 1) := dk_27 (dk_at dksX2_reads_8 14 rfl rfl)
theorem dX2_reads_201 : decode cX2_reads 201 = .ok (.invokestatic 146, 3) := dk_184 0 146 (dk_at dksX2_reads_8 15 rfl rfl)
theorem dX2_reads_204 : decode cX2_reads 204 = .ok (.iastore, 1) := dk_79 (dk_at dksX2_reads_8 18 rfl rfl)
theorem dX2_reads_205 : decode cX2_reads 205 = .ok (.aload_n 0, 1) := dk_42 (dk_at dksX2_reads_8 19 rfl rfl)
theorem dX2_reads_206 : decode cX2_reads 206 = .ok (.dup, 1) := dk_89 (dk_at dksX2_reads_8 20 rfl rfl)
theorem dX2_reads_207 : decode cX2_reads 207 = .ok (.getfield 104, 3) := dk_180 0 104 (dk_at dksX2_reads_8 21 rfl rfl)
theorem dX2_reads_210 : decode cX2_reads 210 = .ok (.iconst 1, 1) := dk_4 (dk_at dksX2_reads_9 0 rfl rfl)
theorem dX2_reads_211 : decode cX2_reads 211 = .ok (.iadd, 1) := dk_96 (dk_at dksX2_reads_9 1 rfl rfl)
theorem dX2_reads_212 : decode cX2_reads 212 = .ok (.putfield 104, 3) := dk_181 0 104 (dk_at dksX2_reads_9 2 rfl rfl)
theorem dX2_reads_215 : decode cX2_reads 215 = .ok (.aload_n 0, 1) := dk_42 (dk_at dksX2_reads_9 5 rfl rfl)
theorem dX2_reads_216 : decode cX2_reads 216 = .ok (.iload_n 1, 1) := dk_27 (dk_at dksX2_reads_9 6 rfl rfl)
theorem dX2_reads_217 : decode cX2_reads 217 = .ok (.bipush 94, 2) := dk_16 94 (dk_at dksX2_reads_9 7 rfl rfl)
theorem dX2_reads_219 : decode cX2_reads 219 = .ok (.if_icmp .ne 7, 3) := dk_160 0 7 (dk_at dksX2_reads_9 9 rfl rfl)
theorem dX2_reads_222 : decode cX2_reads 222 = .ok (.iconst 1, 1) := dk_4 (dk_at dksX2_reads_9 12 rfl rfl)
theorem dX2_reads_223 : decode cX2_reads 223 = .ok (.goto 4, 3) := dk_167 0 4 (dk_at dksX2_reads_9 13 rfl rfl)
theorem dX2_reads_226 : decode cX2_reads 226 = .ok (.iconst 0, 1) := dk_3 (dk_at dksX2_reads_9 16 rfl rfl)
theorem dX2_reads_227 : decode cX2_reads 227 = .ok (.putfield 131, 3) := dk_181 0 131 (dk_at dksX2_reads_9 17 rfl rfl)
theorem dX2_reads_230 : decode cX2_reads 230 = .ok (.goto 8, 3) := dk_167 0 8 (dk_at dksX2_reads_9 20 rfl rfl)
theorem dX2_reads_233 : decode cX2_reads 233 = .ok (.aload_n 0, 1) := dk_42 (dk_at dksX2_reads_9 23 rfl rfl)
theorem dX2_reads_234 : decode cX2_reads 234 = .ok (.iconst 0, 1) := dk_3 (dk_at dksX2_reads_10 0 rfl rfl)
theorem dX2_reads_235 : decode cX2_reads 235 = .ok (.invokevirtual 138, 3) := dk_182 0 138 (dk_at dksX2_reads_10 1 rfl rfl)
theorem dX2_reads_238 : decode cX2_reads 238 = .ok (.iconst 0, 1) := dk_3 (dk_at dksX2_reads_10 4 rfl rfl)
theorem dX2_reads_239 : decode cX2_reads 239 = .ok (.ireturn, 1) := dk_172 (dk_at dksX2_reads_10 5 rfl rfl)
abbrev cX2_isName : ByteArray := prog_15_method_3_code
def yX2_isName : MethodName := ⟨RX2, "isName", "(I)Z"⟩
def dkwX2_isName_0 : List UInt8 := [26, 133, 20, 0, 84, 20, 0, 86, 184, 0, 88, 172]
abbrev dktX2_isName_0 : List UInt8 := dkwX2_isName_0 ++ []
theorem dksX2_isName_0 : cX2_isName.data.toList.drop 0 = dktX2_isName_0 := by decide +kernel
theorem dX2_isName_0 : decode cX2_isName 0 = .ok (.iload_n 0, 1) := dk_26 (dk_at dksX2_isName_0 0 rfl rfl)
theorem dX2_isName_1 : decode cX2_isName 1 = .ok (.i2l, 1) := dk_133 (dk_at dksX2_isName_0 1 rfl rfl)
theorem dX2_isName_2 : decode cX2_isName 2 = .ok (.ldc2_w 84, 3) := dk_20 0 84 (dk_at dksX2_isName_0 2 rfl rfl)
theorem dX2_isName_5 : decode cX2_isName 5 = .ok (.ldc2_w 86, 3) := dk_20 0 86 (dk_at dksX2_isName_0 5 rfl rfl)
theorem dX2_isName_8 : decode cX2_isName 8 = .ok (.invokestatic 88, 3) := dk_184 0 88 (dk_at dksX2_isName_0 8 rfl rfl)
theorem dX2_isName_11 : decode cX2_isName 11 = .ok (.ireturn, 1) := dk_172 (dk_at dksX2_isName_0 11 rfl rfl)
abbrev cX2_open : ByteArray := prog_15_method_16_code
def yX2_open : MethodName := ⟨RX2, "open", "(Z)V"⟩
def dkwX2_open_1 : List UInt8 := [180, 0, 36, 42, 180, 0, 124, 27, 84, 177]
abbrev dktX2_open_1 : List UInt8 := dkwX2_open_1 ++ []
def dkwX2_open_0 : List UInt8 := [42, 89, 180, 0, 124, 4, 96, 181, 0, 124, 42, 180, 0, 33, 42, 180, 0, 124, 42, 180, 0, 104, 79, 42]
abbrev dktX2_open_0 : List UInt8 := dkwX2_open_0 ++ dktX2_open_1
theorem dksX2_open_0 : cX2_open.data.toList.drop 0 = dktX2_open_0 := by decide +kernel
theorem dksX2_open_1 : cX2_open.data.toList.drop 24 = dktX2_open_1 := dk_seg dksX2_open_0 24 rfl rfl
theorem dX2_open_0 : decode cX2_open 0 = .ok (.aload_n 0, 1) := dk_42 (dk_at dksX2_open_0 0 rfl rfl)
theorem dX2_open_1 : decode cX2_open 1 = .ok (.dup, 1) := dk_89 (dk_at dksX2_open_0 1 rfl rfl)
theorem dX2_open_2 : decode cX2_open 2 = .ok (.getfield 124, 3) := dk_180 0 124 (dk_at dksX2_open_0 2 rfl rfl)
theorem dX2_open_5 : decode cX2_open 5 = .ok (.iconst 1, 1) := dk_4 (dk_at dksX2_open_0 5 rfl rfl)
theorem dX2_open_6 : decode cX2_open 6 = .ok (.iadd, 1) := dk_96 (dk_at dksX2_open_0 6 rfl rfl)
theorem dX2_open_7 : decode cX2_open 7 = .ok (.putfield 124, 3) := dk_181 0 124 (dk_at dksX2_open_0 7 rfl rfl)
theorem dX2_open_10 : decode cX2_open 10 = .ok (.aload_n 0, 1) := dk_42 (dk_at dksX2_open_0 10 rfl rfl)
theorem dX2_open_11 : decode cX2_open 11 = .ok (.getfield 33, 3) := dk_180 0 33 (dk_at dksX2_open_0 11 rfl rfl)
theorem dX2_open_14 : decode cX2_open 14 = .ok (.aload_n 0, 1) := dk_42 (dk_at dksX2_open_0 14 rfl rfl)
theorem dX2_open_15 : decode cX2_open 15 = .ok (.getfield 124, 3) := dk_180 0 124 (dk_at dksX2_open_0 15 rfl rfl)
theorem dX2_open_18 : decode cX2_open 18 = .ok (.aload_n 0, 1) := dk_42 (dk_at dksX2_open_0 18 rfl rfl)
theorem dX2_open_19 : decode cX2_open 19 = .ok (.getfield 104, 3) := dk_180 0 104 (dk_at dksX2_open_0 19 rfl rfl)
theorem dX2_open_22 : decode cX2_open 22 = .ok (.iastore, 1) := dk_79 (dk_at dksX2_open_0 22 rfl rfl)
theorem dX2_open_23 : decode cX2_open 23 = .ok (.aload_n 0, 1) := dk_42 (dk_at dksX2_open_0 23 rfl rfl)
theorem dX2_open_24 : decode cX2_open 24 = .ok (.getfield 36, 3) := dk_180 0 36 (dk_at dksX2_open_1 0 rfl rfl)
theorem dX2_open_27 : decode cX2_open 27 = .ok (.aload_n 0, 1) := dk_42 (dk_at dksX2_open_1 3 rfl rfl)
theorem dX2_open_28 : decode cX2_open 28 = .ok (.getfield 124, 3) := dk_180 0 124 (dk_at dksX2_open_1 4 rfl rfl)
theorem dX2_open_31 : decode cX2_open 31 = .ok (.iload_n 1, 1) := dk_27 (dk_at dksX2_open_1 7 rfl rfl)
theorem dX2_open_32 : decode cX2_open 32 = .ok (.bastore, 1) := dk_84 (dk_at dksX2_open_1 8 rfl rfl)
theorem dX2_open_33 : decode cX2_open 33 = .ok (.return_, 1) := dk_177 (dk_at dksX2_open_1 9 rfl rfl)
abbrev cX2_ends : ByteArray := prog_15_method_20_code
def yX2_ends : MethodName := ⟨RX2, "ends", "(Z)Z"⟩
def dkwX2_ends_3 : List UInt8 := [167, 0, 4, 3, 100, 181, 0, 124, 28, 172]
abbrev dktX2_ends_3 : List UInt8 := dkwX2_ends_3 ++ []
def dkwX2_ends_2 : List UInt8 := [160, 0, 7, 4, 167, 0, 4, 3, 61, 42, 89, 180, 0, 124, 28, 153, 0, 11, 27, 153, 0, 7, 4]
abbrev dktX2_ends_2 : List UInt8 := dkwX2_ends_2 ++ dktX2_ends_3
def dkwX2_ends_1 : List UInt8 := [180, 0, 124, 4, 100, 181, 0, 124, 167, 255, 234, 27, 42, 180, 0, 124, 158, 0, 7, 4, 167, 0, 4, 3]
abbrev dktX2_ends_1 : List UInt8 := dkwX2_ends_1 ++ dktX2_ends_2
def dkwX2_ends_0 : List UInt8 := [42, 182, 0, 127, 154, 0, 5, 3, 172, 42, 180, 0, 36, 42, 180, 0, 124, 51, 153, 0, 16, 42, 89]
abbrev dktX2_ends_0 : List UInt8 := dkwX2_ends_0 ++ dktX2_ends_1
theorem dksX2_ends_0 : cX2_ends.data.toList.drop 0 = dktX2_ends_0 := by decide +kernel
theorem dksX2_ends_1 : cX2_ends.data.toList.drop 23 = dktX2_ends_1 := dk_seg dksX2_ends_0 23 rfl rfl
theorem dksX2_ends_2 : cX2_ends.data.toList.drop 47 = dktX2_ends_2 := dk_seg dksX2_ends_1 24 rfl rfl
theorem dksX2_ends_3 : cX2_ends.data.toList.drop 70 = dktX2_ends_3 := dk_seg dksX2_ends_2 23 rfl rfl
theorem dX2_ends_0 : decode cX2_ends 0 = .ok (.aload_n 0, 1) := dk_42 (dk_at dksX2_ends_0 0 rfl rfl)
theorem dX2_ends_1 : decode cX2_ends 1 = .ok (.invokevirtual 127, 3) := dk_182 0 127 (dk_at dksX2_ends_0 1 rfl rfl)
theorem dX2_ends_4 : decode cX2_ends 4 = .ok (.ifCond .ne 5, 3) := dk_154 0 5 (dk_at dksX2_ends_0 4 rfl rfl)
theorem dX2_ends_7 : decode cX2_ends 7 = .ok (.iconst 0, 1) := dk_3 (dk_at dksX2_ends_0 7 rfl rfl)
theorem dX2_ends_8 : decode cX2_ends 8 = .ok (.ireturn, 1) := dk_172 (dk_at dksX2_ends_0 8 rfl rfl)
theorem dX2_ends_9 : decode cX2_ends 9 = .ok (.aload_n 0, 1) := dk_42 (dk_at dksX2_ends_0 9 rfl rfl)
theorem dX2_ends_10 : decode cX2_ends 10 = .ok (.getfield 36, 3) := dk_180 0 36 (dk_at dksX2_ends_0 10 rfl rfl)
theorem dX2_ends_13 : decode cX2_ends 13 = .ok (.aload_n 0, 1) := dk_42 (dk_at dksX2_ends_0 13 rfl rfl)
theorem dX2_ends_14 : decode cX2_ends 14 = .ok (.getfield 124, 3) := dk_180 0 124 (dk_at dksX2_ends_0 14 rfl rfl)
theorem dX2_ends_17 : decode cX2_ends 17 = .ok (.baload, 1) := dk_51 (dk_at dksX2_ends_0 17 rfl rfl)
theorem dX2_ends_18 : decode cX2_ends 18 = .ok (.ifCond .eq 16, 3) := dk_153 0 16 (dk_at dksX2_ends_0 18 rfl rfl)
theorem dX2_ends_21 : decode cX2_ends 21 = .ok (.aload_n 0, 1) := dk_42 (dk_at dksX2_ends_0 21 rfl rfl)
theorem dX2_ends_22 : decode cX2_ends 22 = .ok (.dup, 1) := dk_89 (dk_at dksX2_ends_0 22 rfl rfl)
theorem dX2_ends_23 : decode cX2_ends 23 = .ok (.getfield 124, 3) := dk_180 0 124 (dk_at dksX2_ends_1 0 rfl rfl)
theorem dX2_ends_26 : decode cX2_ends 26 = .ok (.iconst 1, 1) := dk_4 (dk_at dksX2_ends_1 3 rfl rfl)
theorem dX2_ends_27 : decode cX2_ends 27 = .ok (.isub, 1) := dk_100 (dk_at dksX2_ends_1 4 rfl rfl)
theorem dX2_ends_28 : decode cX2_ends 28 = .ok (.putfield 124, 3) := dk_181 0 124 (dk_at dksX2_ends_1 5 rfl rfl)
theorem dX2_ends_31 : decode cX2_ends 31 = .ok (.goto (-22), 3) := dk_167 255 234 (dk_at dksX2_ends_1 8 rfl rfl)
theorem dX2_ends_34 : decode cX2_ends 34 = .ok (.iload_n 1, 1) := dk_27 (dk_at dksX2_ends_1 11 rfl rfl)
theorem dX2_ends_35 : decode cX2_ends 35 = .ok (.aload_n 0, 1) := dk_42 (dk_at dksX2_ends_1 12 rfl rfl)
theorem dX2_ends_36 : decode cX2_ends 36 = .ok (.getfield 124, 3) := dk_180 0 124 (dk_at dksX2_ends_1 13 rfl rfl)
theorem dX2_ends_39 : decode cX2_ends 39 = .ok (.ifCond .le 7, 3) := dk_158 0 7 (dk_at dksX2_ends_1 16 rfl rfl)
theorem dX2_ends_42 : decode cX2_ends 42 = .ok (.iconst 1, 1) := dk_4 (dk_at dksX2_ends_1 19 rfl rfl)
theorem dX2_ends_43 : decode cX2_ends 43 = .ok (.goto 4, 3) := dk_167 0 4 (dk_at dksX2_ends_1 20 rfl rfl)
theorem dX2_ends_46 : decode cX2_ends 46 = .ok (.iconst 0, 1) := dk_3 (dk_at dksX2_ends_1 23 rfl rfl)
theorem dX2_ends_47 : decode cX2_ends 47 = .ok (.if_icmp .ne 7, 3) := dk_160 0 7 (dk_at dksX2_ends_2 0 rfl rfl)
theorem dX2_ends_50 : decode cX2_ends 50 = .ok (.iconst 1, 1) := dk_4 (dk_at dksX2_ends_2 3 rfl rfl)
theorem dX2_ends_51 : decode cX2_ends 51 = .ok (.goto 4, 3) := dk_167 0 4 (dk_at dksX2_ends_2 4 rfl rfl)
theorem dX2_ends_54 : decode cX2_ends 54 = .ok (.iconst 0, 1) := dk_3 (dk_at dksX2_ends_2 7 rfl rfl)
theorem dX2_ends_55 : decode cX2_ends 55 = .ok (.istore_n 2, 1) := dk_61 (dk_at dksX2_ends_2 8 rfl rfl)
theorem dX2_ends_56 : decode cX2_ends 56 = .ok (.aload_n 0, 1) := dk_42 (dk_at dksX2_ends_2 9 rfl rfl)
theorem dX2_ends_57 : decode cX2_ends 57 = .ok (.dup, 1) := dk_89 (dk_at dksX2_ends_2 10 rfl rfl)
theorem dX2_ends_58 : decode cX2_ends 58 = .ok (.getfield 124, 3) := dk_180 0 124 (dk_at dksX2_ends_2 11 rfl rfl)
theorem dX2_ends_61 : decode cX2_ends 61 = .ok (.iload_n 2, 1) := dk_28 (dk_at dksX2_ends_2 14 rfl rfl)
theorem dX2_ends_62 : decode cX2_ends 62 = .ok (.ifCond .eq 11, 3) := dk_153 0 11 (dk_at dksX2_ends_2 15 rfl rfl)
theorem dX2_ends_65 : decode cX2_ends 65 = .ok (.iload_n 1, 1) := dk_27 (dk_at dksX2_ends_2 18 rfl rfl)
theorem dX2_ends_66 : decode cX2_ends 66 = .ok (.ifCond .eq 7, 3) := dk_153 0 7 (dk_at dksX2_ends_2 19 rfl rfl)
theorem dX2_ends_69 : decode cX2_ends 69 = .ok (.iconst 1, 1) := dk_4 (dk_at dksX2_ends_2 22 rfl rfl)
theorem dX2_ends_70 : decode cX2_ends 70 = .ok (.goto 4, 3) := dk_167 0 4 (dk_at dksX2_ends_3 0 rfl rfl)
theorem dX2_ends_73 : decode cX2_ends 73 = .ok (.iconst 0, 1) := dk_3 (dk_at dksX2_ends_3 3 rfl rfl)
theorem dX2_ends_74 : decode cX2_ends 74 = .ok (.isub, 1) := dk_100 (dk_at dksX2_ends_3 4 rfl rfl)
theorem dX2_ends_75 : decode cX2_ends 75 = .ok (.putfield 124, 3) := dk_181 0 124 (dk_at dksX2_ends_3 5 rfl rfl)
theorem dX2_ends_78 : decode cX2_ends 78 = .ok (.iload_n 2, 1) := dk_28 (dk_at dksX2_ends_3 8 rfl rfl)
theorem dX2_ends_79 : decode cX2_ends 79 = .ok (.ireturn, 1) := dk_172 (dk_at dksX2_ends_3 9 rfl rfl)
abbrev cX2_hasTerm : ByteArray := prog_15_method_17_code
def yX2_hasTerm : MethodName := ⟨RX2, "hasTerm", "()Z"⟩
def dkwX2_hasTerm_0 : List UInt8 := [42, 180, 0, 104, 42, 180, 0, 33, 42, 180, 0, 124, 46, 164, 0, 7, 4, 167, 0, 4, 3, 172]
abbrev dktX2_hasTerm_0 : List UInt8 := dkwX2_hasTerm_0 ++ []
theorem dksX2_hasTerm_0 : cX2_hasTerm.data.toList.drop 0 = dktX2_hasTerm_0 := by decide +kernel
theorem dX2_hasTerm_0 : decode cX2_hasTerm 0 = .ok (.aload_n 0, 1) := dk_42 (dk_at dksX2_hasTerm_0 0 rfl rfl)
theorem dX2_hasTerm_1 : decode cX2_hasTerm 1 = .ok (.getfield 104, 3) := dk_180 0 104 (dk_at dksX2_hasTerm_0 1 rfl rfl)
theorem dX2_hasTerm_4 : decode cX2_hasTerm 4 = .ok (.aload_n 0, 1) := dk_42 (dk_at dksX2_hasTerm_0 4 rfl rfl)
theorem dX2_hasTerm_5 : decode cX2_hasTerm 5 = .ok (.getfield 33, 3) := dk_180 0 33 (dk_at dksX2_hasTerm_0 5 rfl rfl)
theorem dX2_hasTerm_8 : decode cX2_hasTerm 8 = .ok (.aload_n 0, 1) := dk_42 (dk_at dksX2_hasTerm_0 8 rfl rfl)
theorem dX2_hasTerm_9 : decode cX2_hasTerm 9 = .ok (.getfield 124, 3) := dk_180 0 124 (dk_at dksX2_hasTerm_0 9 rfl rfl)
theorem dX2_hasTerm_12 : decode cX2_hasTerm 12 = .ok (.iaload, 1) := dk_46 (dk_at dksX2_hasTerm_0 12 rfl rfl)
theorem dX2_hasTerm_13 : decode cX2_hasTerm 13 = .ok (.if_icmp .le 7, 3) := dk_164 0 7 (dk_at dksX2_hasTerm_0 13 rfl rfl)
theorem dX2_hasTerm_16 : decode cX2_hasTerm 16 = .ok (.iconst 1, 1) := dk_4 (dk_at dksX2_hasTerm_0 16 rfl rfl)
theorem dX2_hasTerm_17 : decode cX2_hasTerm 17 = .ok (.goto 4, 3) := dk_167 0 4 (dk_at dksX2_hasTerm_0 17 rfl rfl)
theorem dX2_hasTerm_20 : decode cX2_hasTerm 20 = .ok (.iconst 0, 1) := dk_3 (dk_at dksX2_hasTerm_0 20 rfl rfl)
theorem dX2_hasTerm_21 : decode cX2_hasTerm 21 = .ok (.ireturn, 1) := dk_172 (dk_at dksX2_hasTerm_0 21 rfl rfl)
abbrev cX2_signOf : ByteArray := prog_15_method_19_code
def yX2_signOf : MethodName := ⟨RX2, "signOf", "(I)I"⟩
def dkwX2_signOf_2 : List UInt8 := [167, 0, 4, 2, 172]
abbrev dktX2_signOf_2 : List UInt8 := dkwX2_signOf_2 ++ []
def dkwX2_signOf_1 : List UInt8 := [160, 0, 7, 6, 167, 0, 24, 26, 16, 66, 160, 0, 7, 7, 167, 0, 14, 26, 16, 67, 160, 0, 7, 8]
abbrev dktX2_signOf_1 : List UInt8 := dkwX2_signOf_1 ++ dktX2_signOf_2
def dkwX2_signOf_0 : List UInt8 := [26, 16, 73, 160, 0, 7, 4, 167, 0, 44, 26, 16, 75, 160, 0, 7, 5, 167, 0, 34, 26, 16, 83]
abbrev dktX2_signOf_0 : List UInt8 := dkwX2_signOf_0 ++ dktX2_signOf_1
theorem dksX2_signOf_0 : cX2_signOf.data.toList.drop 0 = dktX2_signOf_0 := by decide +kernel
theorem dksX2_signOf_1 : cX2_signOf.data.toList.drop 23 = dktX2_signOf_1 := dk_seg dksX2_signOf_0 23 rfl rfl
theorem dksX2_signOf_2 : cX2_signOf.data.toList.drop 47 = dktX2_signOf_2 := dk_seg dksX2_signOf_1 24 rfl rfl
theorem dX2_signOf_0 : decode cX2_signOf 0 = .ok (.iload_n 0, 1) := dk_26 (dk_at dksX2_signOf_0 0 rfl rfl)
theorem dX2_signOf_1 : decode cX2_signOf 1 = .ok (.bipush 73, 2) := dk_16 73 (dk_at dksX2_signOf_0 1 rfl rfl)
theorem dX2_signOf_3 : decode cX2_signOf 3 = .ok (.if_icmp .ne 7, 3) := dk_160 0 7 (dk_at dksX2_signOf_0 3 rfl rfl)
theorem dX2_signOf_6 : decode cX2_signOf 6 = .ok (.iconst 1, 1) := dk_4 (dk_at dksX2_signOf_0 6 rfl rfl)
theorem dX2_signOf_7 : decode cX2_signOf 7 = .ok (.goto 44, 3) := dk_167 0 44 (dk_at dksX2_signOf_0 7 rfl rfl)
theorem dX2_signOf_10 : decode cX2_signOf 10 = .ok (.iload_n 0, 1) := dk_26 (dk_at dksX2_signOf_0 10 rfl rfl)
theorem dX2_signOf_11 : decode cX2_signOf 11 = .ok (.bipush 75, 2) := dk_16 75 (dk_at dksX2_signOf_0 11 rfl rfl)
theorem dX2_signOf_13 : decode cX2_signOf 13 = .ok (.if_icmp .ne 7, 3) := dk_160 0 7 (dk_at dksX2_signOf_0 13 rfl rfl)
theorem dX2_signOf_16 : decode cX2_signOf 16 = .ok (.iconst 2, 1) := dk_5 (dk_at dksX2_signOf_0 16 rfl rfl)
theorem dX2_signOf_17 : decode cX2_signOf 17 = .ok (.goto 34, 3) := dk_167 0 34 (dk_at dksX2_signOf_0 17 rfl rfl)
theorem dX2_signOf_20 : decode cX2_signOf 20 = .ok (.iload_n 0, 1) := dk_26 (dk_at dksX2_signOf_0 20 rfl rfl)
theorem dX2_signOf_21 : decode cX2_signOf 21 = .ok (.bipush 83, 2) := dk_16 83 (dk_at dksX2_signOf_0 21 rfl rfl)
theorem dX2_signOf_23 : decode cX2_signOf 23 = .ok (.if_icmp .ne 7, 3) := dk_160 0 7 (dk_at dksX2_signOf_1 0 rfl rfl)
theorem dX2_signOf_26 : decode cX2_signOf 26 = .ok (.iconst 3, 1) := dk_6 (dk_at dksX2_signOf_1 3 rfl rfl)
theorem dX2_signOf_27 : decode cX2_signOf 27 = .ok (.goto 24, 3) := dk_167 0 24 (dk_at dksX2_signOf_1 4 rfl rfl)
theorem dX2_signOf_30 : decode cX2_signOf 30 = .ok (.iload_n 0, 1) := dk_26 (dk_at dksX2_signOf_1 7 rfl rfl)
theorem dX2_signOf_31 : decode cX2_signOf 31 = .ok (.bipush 66, 2) := dk_16 66 (dk_at dksX2_signOf_1 8 rfl rfl)
theorem dX2_signOf_33 : decode cX2_signOf 33 = .ok (.if_icmp .ne 7, 3) := dk_160 0 7 (dk_at dksX2_signOf_1 10 rfl rfl)
theorem dX2_signOf_36 : decode cX2_signOf 36 = .ok (.iconst 4, 1) := dk_7 (dk_at dksX2_signOf_1 13 rfl rfl)
theorem dX2_signOf_37 : decode cX2_signOf 37 = .ok (.goto 14, 3) := dk_167 0 14 (dk_at dksX2_signOf_1 14 rfl rfl)
theorem dX2_signOf_40 : decode cX2_signOf 40 = .ok (.iload_n 0, 1) := dk_26 (dk_at dksX2_signOf_1 17 rfl rfl)
theorem dX2_signOf_41 : decode cX2_signOf 41 = .ok (.bipush 67, 2) := dk_16 67 (dk_at dksX2_signOf_1 18 rfl rfl)
theorem dX2_signOf_43 : decode cX2_signOf 43 = .ok (.if_icmp .ne 7, 3) := dk_160 0 7 (dk_at dksX2_signOf_1 20 rfl rfl)
theorem dX2_signOf_46 : decode cX2_signOf 46 = .ok (.iconst 5, 1) := dk_8 (dk_at dksX2_signOf_1 23 rfl rfl)
theorem dX2_signOf_47 : decode cX2_signOf 47 = .ok (.goto 4, 3) := dk_167 0 4 (dk_at dksX2_signOf_2 0 rfl rfl)
theorem dX2_signOf_50 : decode cX2_signOf 50 = .ok (.iconst (-1), 1) := dk_2 (dk_at dksX2_signOf_2 3 rfl rfl)
theorem dX2_signOf_51 : decode cX2_signOf 51 = .ok (.ireturn, 1) := dk_172 (dk_at dksX2_signOf_2 4 rfl rfl)
abbrev cX2_putAhead : ByteArray := prog_15_method_18_code
def yX2_putAhead : MethodName := ⟨RX2, "putAhead", "()V"⟩
def dkwX2_putAhead_3 : List UInt8 := [177]
abbrev dktX2_putAhead_3 : List UInt8 := dkwX2_putAhead_3 ++ []
def dkwX2_putAhead_2 : List UInt8 := [180, 0, 24, 42, 180, 0, 33, 42, 180, 0, 124, 46, 3, 79, 42, 89, 180, 0, 104, 4, 96, 181, 0, 104]
abbrev dktX2_putAhead_2 : List UInt8 := dkwX2_putAhead_2 ++ dktX2_putAhead_3
def dkwX2_putAhead_1 : List UInt8 := [164, 0, 23, 42, 180, 0, 24, 27, 42, 180, 0, 24, 27, 4, 100, 46, 79, 132, 1, 255, 167, 255, 226, 42]
abbrev dktX2_putAhead_1 : List UInt8 := dkwX2_putAhead_1 ++ dktX2_putAhead_2
def dkwX2_putAhead_0 : List UInt8 := [42, 182, 0, 127, 153, 0, 66, 42, 180, 0, 104, 60, 27, 42, 180, 0, 33, 42, 180, 0, 124, 46]
abbrev dktX2_putAhead_0 : List UInt8 := dkwX2_putAhead_0 ++ dktX2_putAhead_1
theorem dksX2_putAhead_0 : cX2_putAhead.data.toList.drop 0 = dktX2_putAhead_0 := by decide +kernel
theorem dksX2_putAhead_1 : cX2_putAhead.data.toList.drop 22 = dktX2_putAhead_1 := dk_seg dksX2_putAhead_0 22 rfl rfl
theorem dksX2_putAhead_2 : cX2_putAhead.data.toList.drop 46 = dktX2_putAhead_2 := dk_seg dksX2_putAhead_1 24 rfl rfl
theorem dksX2_putAhead_3 : cX2_putAhead.data.toList.drop 70 = dktX2_putAhead_3 := dk_seg dksX2_putAhead_2 24 rfl rfl
theorem dX2_putAhead_0 : decode cX2_putAhead 0 = .ok (.aload_n 0, 1) := dk_42 (dk_at dksX2_putAhead_0 0 rfl rfl)
theorem dX2_putAhead_1 : decode cX2_putAhead 1 = .ok (.invokevirtual 127, 3) := dk_182 0 127 (dk_at dksX2_putAhead_0 1 rfl rfl)
theorem dX2_putAhead_4 : decode cX2_putAhead 4 = .ok (.ifCond .eq 66, 3) := dk_153 0 66 (dk_at dksX2_putAhead_0 4 rfl rfl)
theorem dX2_putAhead_7 : decode cX2_putAhead 7 = .ok (.aload_n 0, 1) := dk_42 (dk_at dksX2_putAhead_0 7 rfl rfl)
theorem dX2_putAhead_8 : decode cX2_putAhead 8 = .ok (.getfield 104, 3) := dk_180 0 104 (dk_at dksX2_putAhead_0 8 rfl rfl)
theorem dX2_putAhead_11 : decode cX2_putAhead 11 = .ok (.istore_n 1, 1) := dk_60 (dk_at dksX2_putAhead_0 11 rfl rfl)
theorem dX2_putAhead_12 : decode cX2_putAhead 12 = .ok (.iload_n 1, 1) := dk_27 (dk_at dksX2_putAhead_0 12 rfl rfl)
theorem dX2_putAhead_13 : decode cX2_putAhead 13 = .ok (.aload_n 0, 1) := dk_42 (dk_at dksX2_putAhead_0 13 rfl rfl)
theorem dX2_putAhead_14 : decode cX2_putAhead 14 = .ok (.getfield 33, 3) := dk_180 0 33 (dk_at dksX2_putAhead_0 14 rfl rfl)
theorem dX2_putAhead_17 : decode cX2_putAhead 17 = .ok (.aload_n 0, 1) := dk_42 (dk_at dksX2_putAhead_0 17 rfl rfl)
theorem dX2_putAhead_18 : decode cX2_putAhead 18 = .ok (.getfield 124, 3) := dk_180 0 124 (dk_at dksX2_putAhead_0 18 rfl rfl)
theorem dX2_putAhead_21 : decode cX2_putAhead 21 = .ok (.iaload, 1) := dk_46 (dk_at dksX2_putAhead_0 21 rfl rfl)
theorem dX2_putAhead_22 : decode cX2_putAhead 22 = .ok (.if_icmp .le 23, 3) := dk_164 0 23 (dk_at dksX2_putAhead_1 0 rfl rfl)
theorem dX2_putAhead_25 : decode cX2_putAhead 25 = .ok (.aload_n 0, 1) := dk_42 (dk_at dksX2_putAhead_1 3 rfl rfl)
theorem dX2_putAhead_26 : decode cX2_putAhead 26 = .ok (.getfield 24, 3) := dk_180 0 24 (dk_at dksX2_putAhead_1 4 rfl rfl)
theorem dX2_putAhead_29 : decode cX2_putAhead 29 = .ok (.iload_n 1, 1) := dk_27 (dk_at dksX2_putAhead_1 7 rfl rfl)
theorem dX2_putAhead_30 : decode cX2_putAhead 30 = .ok (.aload_n 0, 1) := dk_42 (dk_at dksX2_putAhead_1 8 rfl rfl)
theorem dX2_putAhead_31 : decode cX2_putAhead 31 = .ok (.getfield 24, 3) := dk_180 0 24 (dk_at dksX2_putAhead_1 9 rfl rfl)
theorem dX2_putAhead_34 : decode cX2_putAhead 34 = .ok (.iload_n 1, 1) := dk_27 (dk_at dksX2_putAhead_1 12 rfl rfl)
theorem dX2_putAhead_35 : decode cX2_putAhead 35 = .ok (.iconst 1, 1) := dk_4 (dk_at dksX2_putAhead_1 13 rfl rfl)
theorem dX2_putAhead_36 : decode cX2_putAhead 36 = .ok (.isub, 1) := dk_100 (dk_at dksX2_putAhead_1 14 rfl rfl)
theorem dX2_putAhead_37 : decode cX2_putAhead 37 = .ok (.iaload, 1) := dk_46 (dk_at dksX2_putAhead_1 15 rfl rfl)
theorem dX2_putAhead_38 : decode cX2_putAhead 38 = .ok (.iastore, 1) := dk_79 (dk_at dksX2_putAhead_1 16 rfl rfl)
theorem dX2_putAhead_39 : decode cX2_putAhead 39 = .ok (.iinc 1 (-1), 3) := dk_132 1 255 (dk_at dksX2_putAhead_1 17 rfl rfl)
theorem dX2_putAhead_42 : decode cX2_putAhead 42 = .ok (.goto (-30), 3) := dk_167 255 226 (dk_at dksX2_putAhead_1 20 rfl rfl)
theorem dX2_putAhead_45 : decode cX2_putAhead 45 = .ok (.aload_n 0, 1) := dk_42 (dk_at dksX2_putAhead_1 23 rfl rfl)
theorem dX2_putAhead_46 : decode cX2_putAhead 46 = .ok (.getfield 24, 3) := dk_180 0 24 (dk_at dksX2_putAhead_2 0 rfl rfl)
theorem dX2_putAhead_49 : decode cX2_putAhead 49 = .ok (.aload_n 0, 1) := dk_42 (dk_at dksX2_putAhead_2 3 rfl rfl)
theorem dX2_putAhead_50 : decode cX2_putAhead 50 = .ok (.getfield 33, 3) := dk_180 0 33 (dk_at dksX2_putAhead_2 4 rfl rfl)
theorem dX2_putAhead_53 : decode cX2_putAhead 53 = .ok (.aload_n 0, 1) := dk_42 (dk_at dksX2_putAhead_2 7 rfl rfl)
theorem dX2_putAhead_54 : decode cX2_putAhead 54 = .ok (.getfield 124, 3) := dk_180 0 124 (dk_at dksX2_putAhead_2 8 rfl rfl)
theorem dX2_putAhead_57 : decode cX2_putAhead 57 = .ok (.iaload, 1) := dk_46 (dk_at dksX2_putAhead_2 11 rfl rfl)
theorem dX2_putAhead_58 : decode cX2_putAhead 58 = .ok (.iconst 0, 1) := dk_3 (dk_at dksX2_putAhead_2 12 rfl rfl)
theorem dX2_putAhead_59 : decode cX2_putAhead 59 = .ok (.iastore, 1) := dk_79 (dk_at dksX2_putAhead_2 13 rfl rfl)
theorem dX2_putAhead_60 : decode cX2_putAhead 60 = .ok (.aload_n 0, 1) := dk_42 (dk_at dksX2_putAhead_2 14 rfl rfl)
theorem dX2_putAhead_61 : decode cX2_putAhead 61 = .ok (.dup, 1) := dk_89 (dk_at dksX2_putAhead_2 15 rfl rfl)
theorem dX2_putAhead_62 : decode cX2_putAhead 62 = .ok (.getfield 104, 3) := dk_180 0 104 (dk_at dksX2_putAhead_2 16 rfl rfl)
theorem dX2_putAhead_65 : decode cX2_putAhead 65 = .ok (.iconst 1, 1) := dk_4 (dk_at dksX2_putAhead_2 19 rfl rfl)
theorem dX2_putAhead_66 : decode cX2_putAhead 66 = .ok (.iadd, 1) := dk_96 (dk_at dksX2_putAhead_2 20 rfl rfl)
theorem dX2_putAhead_67 : decode cX2_putAhead 67 = .ok (.putfield 104, 3) := dk_181 0 104 (dk_at dksX2_putAhead_2 21 rfl rfl)
theorem dX2_putAhead_70 : decode cX2_putAhead 70 = .ok (.return_, 1) := dk_177 (dk_at dksX2_putAhead_3 0 rfl rfl)
abbrev cX2_lay : ByteArray := prog_15_method_13_code
def yX2_lay : MethodName := ⟨RX2, "lay", "(I)I"⟩
def dkwX2_lay_2 : List UInt8 := [96, 28, 96, 42, 180, 0, 24, 28, 46, 79, 132, 2, 1, 167, 255, 226, 42, 180, 0, 104, 172]
abbrev dktX2_lay_2 : List UInt8 := dkwX2_lay_2 ++ []
def dkwX2_lay_1 : List UInt8 := [42, 180, 0, 104, 79, 3, 61, 28, 42, 180, 0, 104, 162, 0, 28, 42, 180, 0, 7, 16, 121, 27, 104, 4]
abbrev dktX2_lay_1 : List UInt8 := dkwX2_lay_1 ++ dktX2_lay_2
def dkwX2_lay_0 : List UInt8 := [42, 180, 0, 104, 16, 120, 164, 0, 6, 18, 114, 172, 42, 182, 0, 115, 42, 180, 0, 7, 16, 121, 27, 104]
abbrev dktX2_lay_0 : List UInt8 := dkwX2_lay_0 ++ dktX2_lay_1
theorem dksX2_lay_0 : cX2_lay.data.toList.drop 0 = dktX2_lay_0 := by decide +kernel
theorem dksX2_lay_1 : cX2_lay.data.toList.drop 24 = dktX2_lay_1 := dk_seg dksX2_lay_0 24 rfl rfl
theorem dksX2_lay_2 : cX2_lay.data.toList.drop 48 = dktX2_lay_2 := dk_seg dksX2_lay_1 24 rfl rfl
theorem dX2_lay_0 : decode cX2_lay 0 = .ok (.aload_n 0, 1) := dk_42 (dk_at dksX2_lay_0 0 rfl rfl)
theorem dX2_lay_1 : decode cX2_lay 1 = .ok (.getfield 104, 3) := dk_180 0 104 (dk_at dksX2_lay_0 1 rfl rfl)
theorem dX2_lay_4 : decode cX2_lay 4 = .ok (.bipush 120, 2) := dk_16 120 (dk_at dksX2_lay_0 4 rfl rfl)
theorem dX2_lay_6 : decode cX2_lay 6 = .ok (.if_icmp .le 6, 3) := dk_164 0 6 (dk_at dksX2_lay_0 6 rfl rfl)
theorem dX2_lay_9 : decode cX2_lay 9 = .ok (.ldc 114, 2) := dk_18 114 (dk_at dksX2_lay_0 9 rfl rfl)
theorem dX2_lay_11 : decode cX2_lay 11 = .ok (.ireturn, 1) := dk_172 (dk_at dksX2_lay_0 11 rfl rfl)
theorem dX2_lay_12 : decode cX2_lay 12 = .ok (.aload_n 0, 1) := dk_42 (dk_at dksX2_lay_0 12 rfl rfl)
theorem dX2_lay_13 : decode cX2_lay 13 = .ok (.invokevirtual 115, 3) := dk_182 0 115 (dk_at dksX2_lay_0 13 rfl rfl)
theorem dX2_lay_16 : decode cX2_lay 16 = .ok (.aload_n 0, 1) := dk_42 (dk_at dksX2_lay_0 16 rfl rfl)
theorem dX2_lay_17 : decode cX2_lay 17 = .ok (.getfield 7, 3) := dk_180 0 7 (dk_at dksX2_lay_0 17 rfl rfl)
theorem dX2_lay_20 : decode cX2_lay 20 = .ok (.bipush 121, 2) := dk_16 121 (dk_at dksX2_lay_0 20 rfl rfl)
theorem dX2_lay_22 : decode cX2_lay 22 = .ok (.iload_n 1, 1) := dk_27 (dk_at dksX2_lay_0 22 rfl rfl)
theorem dX2_lay_23 : decode cX2_lay 23 = .ok (.imul, 1) := dk_104 (dk_at dksX2_lay_0 23 rfl rfl)
theorem dX2_lay_24 : decode cX2_lay 24 = .ok (.aload_n 0, 1) := dk_42 (dk_at dksX2_lay_1 0 rfl rfl)
theorem dX2_lay_25 : decode cX2_lay 25 = .ok (.getfield 104, 3) := dk_180 0 104 (dk_at dksX2_lay_1 1 rfl rfl)
theorem dX2_lay_28 : decode cX2_lay 28 = .ok (.iastore, 1) := dk_79 (dk_at dksX2_lay_1 4 rfl rfl)
theorem dX2_lay_29 : decode cX2_lay 29 = .ok (.iconst 0, 1) := dk_3 (dk_at dksX2_lay_1 5 rfl rfl)
theorem dX2_lay_30 : decode cX2_lay 30 = .ok (.istore_n 2, 1) := dk_61 (dk_at dksX2_lay_1 6 rfl rfl)
theorem dX2_lay_31 : decode cX2_lay 31 = .ok (.iload_n 2, 1) := dk_28 (dk_at dksX2_lay_1 7 rfl rfl)
theorem dX2_lay_32 : decode cX2_lay 32 = .ok (.aload_n 0, 1) := dk_42 (dk_at dksX2_lay_1 8 rfl rfl)
theorem dX2_lay_33 : decode cX2_lay 33 = .ok (.getfield 104, 3) := dk_180 0 104 (dk_at dksX2_lay_1 9 rfl rfl)
theorem dX2_lay_36 : decode cX2_lay 36 = .ok (.if_icmp .ge 28, 3) := dk_162 0 28 (dk_at dksX2_lay_1 12 rfl rfl)
theorem dX2_lay_39 : decode cX2_lay 39 = .ok (.aload_n 0, 1) := dk_42 (dk_at dksX2_lay_1 15 rfl rfl)
theorem dX2_lay_40 : decode cX2_lay 40 = .ok (.getfield 7, 3) := dk_180 0 7 (dk_at dksX2_lay_1 16 rfl rfl)
theorem dX2_lay_43 : decode cX2_lay 43 = .ok (.bipush 121, 2) := dk_16 121 (dk_at dksX2_lay_1 19 rfl rfl)
theorem dX2_lay_45 : decode cX2_lay 45 = .ok (.iload_n 1, 1) := dk_27 (dk_at dksX2_lay_1 21 rfl rfl)
theorem dX2_lay_46 : decode cX2_lay 46 = .ok (.imul, 1) := dk_104 (dk_at dksX2_lay_1 22 rfl rfl)
theorem dX2_lay_47 : decode cX2_lay 47 = .ok (.iconst 1, 1) := dk_4 (dk_at dksX2_lay_1 23 rfl rfl)
theorem dX2_lay_48 : decode cX2_lay 48 = .ok (.iadd, 1) := dk_96 (dk_at dksX2_lay_2 0 rfl rfl)
theorem dX2_lay_49 : decode cX2_lay 49 = .ok (.iload_n 2, 1) := dk_28 (dk_at dksX2_lay_2 1 rfl rfl)
theorem dX2_lay_50 : decode cX2_lay 50 = .ok (.iadd, 1) := dk_96 (dk_at dksX2_lay_2 2 rfl rfl)
theorem dX2_lay_51 : decode cX2_lay 51 = .ok (.aload_n 0, 1) := dk_42 (dk_at dksX2_lay_2 3 rfl rfl)
theorem dX2_lay_52 : decode cX2_lay 52 = .ok (.getfield 24, 3) := dk_180 0 24 (dk_at dksX2_lay_2 4 rfl rfl)
theorem dX2_lay_55 : decode cX2_lay 55 = .ok (.iload_n 2, 1) := dk_28 (dk_at dksX2_lay_2 7 rfl rfl)
theorem dX2_lay_56 : decode cX2_lay 56 = .ok (.iaload, 1) := dk_46 (dk_at dksX2_lay_2 8 rfl rfl)
theorem dX2_lay_57 : decode cX2_lay 57 = .ok (.iastore, 1) := dk_79 (dk_at dksX2_lay_2 9 rfl rfl)
theorem dX2_lay_58 : decode cX2_lay 58 = .ok (.iinc 2 1, 3) := dk_132 2 1 (dk_at dksX2_lay_2 10 rfl rfl)
theorem dX2_lay_61 : decode cX2_lay 61 = .ok (.goto (-30), 3) := dk_167 255 226 (dk_at dksX2_lay_2 13 rfl rfl)
theorem dX2_lay_64 : decode cX2_lay 64 = .ok (.aload_n 0, 1) := dk_42 (dk_at dksX2_lay_2 16 rfl rfl)
theorem dX2_lay_65 : decode cX2_lay 65 = .ok (.getfield 104, 3) := dk_180 0 104 (dk_at dksX2_lay_2 17 rfl rfl)
theorem dX2_lay_68 : decode cX2_lay 68 = .ok (.ireturn, 1) := dk_172 (dk_at dksX2_lay_2 20 rfl rfl)
abbrev cX2_keepPast : ByteArray := prog_15_method_12_code
def yX2_keepPast : MethodName := ⟨RX2, "keepPast", "()V"⟩
def dkwX2_keepPast_4 : List UInt8 := [181, 0, 107, 177]
abbrev dktX2_keepPast_4 : List UInt8 := dkwX2_keepPast_4 ++ []
def dkwX2_keepPast_3 : List UInt8 := [17, 1, 228, 17, 1, 228, 42, 180, 0, 107, 104, 96, 182, 0, 110, 42, 89, 180, 0, 107, 4, 96]
abbrev dktX2_keepPast_3 : List UInt8 := dkwX2_keepPast_3 ++ dktX2_keepPast_4
def dkwX2_keepPast_2 : List UInt8 := [180, 0, 107, 42, 180, 0, 107, 16, 10, 160, 0, 7, 4, 167, 0, 4, 3, 100, 181, 0, 107, 42, 3]
abbrev dktX2_keepPast_2 : List UInt8 := dkwX2_keepPast_2 ++ dktX2_keepPast_3
def dkwX2_keepPast_1 : List UInt8 := [17, 1, 228, 27, 96, 42, 180, 0, 7, 17, 3, 200, 27, 96, 46, 79, 132, 1, 1, 167, 255, 217, 42, 89]
abbrev dktX2_keepPast_1 : List UInt8 := dkwX2_keepPast_1 ++ dktX2_keepPast_2
def dkwX2_keepPast_0 : List UInt8 := [3, 60, 27, 17, 17, 4, 162, 0, 38, 42, 180, 0, 107, 16, 10, 160, 0, 29, 42, 180, 0, 7]
abbrev dktX2_keepPast_0 : List UInt8 := dkwX2_keepPast_0 ++ dktX2_keepPast_1
theorem dksX2_keepPast_0 : cX2_keepPast.data.toList.drop 0 = dktX2_keepPast_0 := by decide +kernel
theorem dksX2_keepPast_1 : cX2_keepPast.data.toList.drop 22 = dktX2_keepPast_1 := dk_seg dksX2_keepPast_0 22 rfl rfl
theorem dksX2_keepPast_2 : cX2_keepPast.data.toList.drop 46 = dktX2_keepPast_2 := dk_seg dksX2_keepPast_1 24 rfl rfl
theorem dksX2_keepPast_3 : cX2_keepPast.data.toList.drop 69 = dktX2_keepPast_3 := dk_seg dksX2_keepPast_2 23 rfl rfl
theorem dksX2_keepPast_4 : cX2_keepPast.data.toList.drop 91 = dktX2_keepPast_4 := dk_seg dksX2_keepPast_3 22 rfl rfl
theorem dX2_keepPast_0 : decode cX2_keepPast 0 = .ok (.iconst 0, 1) := dk_3 (dk_at dksX2_keepPast_0 0 rfl rfl)
theorem dX2_keepPast_1 : decode cX2_keepPast 1 = .ok (.istore_n 1, 1) := dk_60 (dk_at dksX2_keepPast_0 1 rfl rfl)
theorem dX2_keepPast_2 : decode cX2_keepPast 2 = .ok (.iload_n 1, 1) := dk_27 (dk_at dksX2_keepPast_0 2 rfl rfl)
theorem dX2_keepPast_3 : decode cX2_keepPast 3 = .ok (.sipush 4356, 3) := dk_17 17 4 (dk_at dksX2_keepPast_0 3 rfl rfl)
theorem dX2_keepPast_6 : decode cX2_keepPast 6 = .ok (.if_icmp .ge 38, 3) := dk_162 0 38 (dk_at dksX2_keepPast_0 6 rfl rfl)
theorem dX2_keepPast_9 : decode cX2_keepPast 9 = .ok (.aload_n 0, 1) := dk_42 (dk_at dksX2_keepPast_0 9 rfl rfl)
theorem dX2_keepPast_10 : decode cX2_keepPast 10 = .ok (.getfield 107, 3) := dk_180 0 107 (dk_at dksX2_keepPast_0 10 rfl rfl)
theorem dX2_keepPast_13 : decode cX2_keepPast 13 = .ok (.bipush 10, 2) := dk_16 10 (dk_at dksX2_keepPast_0 13 rfl rfl)
theorem dX2_keepPast_15 : decode cX2_keepPast 15 = .ok (.if_icmp .ne 29, 3) := dk_160 0 29 (dk_at dksX2_keepPast_0 15 rfl rfl)
theorem dX2_keepPast_18 : decode cX2_keepPast 18 = .ok (.aload_n 0, 1) := dk_42 (dk_at dksX2_keepPast_0 18 rfl rfl)
theorem dX2_keepPast_19 : decode cX2_keepPast 19 = .ok (.getfield 7, 3) := dk_180 0 7 (dk_at dksX2_keepPast_0 19 rfl rfl)
theorem dX2_keepPast_22 : decode cX2_keepPast 22 = .ok (.sipush 484, 3) := dk_17 1 228 (dk_at dksX2_keepPast_1 0 rfl rfl)
theorem dX2_keepPast_25 : decode cX2_keepPast 25 = .ok (.iload_n 1, 1) := dk_27 (dk_at dksX2_keepPast_1 3 rfl rfl)
theorem dX2_keepPast_26 : decode cX2_keepPast 26 = .ok (.iadd, 1) := dk_96 (dk_at dksX2_keepPast_1 4 rfl rfl)
theorem dX2_keepPast_27 : decode cX2_keepPast 27 = .ok (.aload_n 0, 1) := dk_42 (dk_at dksX2_keepPast_1 5 rfl rfl)
theorem dX2_keepPast_28 : decode cX2_keepPast 28 = .ok (.getfield 7, 3) := dk_180 0 7 (dk_at dksX2_keepPast_1 6 rfl rfl)
theorem dX2_keepPast_31 : decode cX2_keepPast 31 = .ok (.sipush 968, 3) := dk_17 3 200 (dk_at dksX2_keepPast_1 9 rfl rfl)
theorem dX2_keepPast_34 : decode cX2_keepPast 34 = .ok (.iload_n 1, 1) := dk_27 (dk_at dksX2_keepPast_1 12 rfl rfl)
theorem dX2_keepPast_35 : decode cX2_keepPast 35 = .ok (.iadd, 1) := dk_96 (dk_at dksX2_keepPast_1 13 rfl rfl)
theorem dX2_keepPast_36 : decode cX2_keepPast 36 = .ok (.iaload, 1) := dk_46 (dk_at dksX2_keepPast_1 14 rfl rfl)
theorem dX2_keepPast_37 : decode cX2_keepPast 37 = .ok (.iastore, 1) := dk_79 (dk_at dksX2_keepPast_1 15 rfl rfl)
theorem dX2_keepPast_38 : decode cX2_keepPast 38 = .ok (.iinc 1 1, 3) := dk_132 1 1 (dk_at dksX2_keepPast_1 16 rfl rfl)
theorem dX2_keepPast_41 : decode cX2_keepPast 41 = .ok (.goto (-39), 3) := dk_167 255 217 (dk_at dksX2_keepPast_1 19 rfl rfl)
theorem dX2_keepPast_44 : decode cX2_keepPast 44 = .ok (.aload_n 0, 1) := dk_42 (dk_at dksX2_keepPast_1 22 rfl rfl)
theorem dX2_keepPast_45 : decode cX2_keepPast 45 = .ok (.dup, 1) := dk_89 (dk_at dksX2_keepPast_1 23 rfl rfl)
theorem dX2_keepPast_46 : decode cX2_keepPast 46 = .ok (.getfield 107, 3) := dk_180 0 107 (dk_at dksX2_keepPast_2 0 rfl rfl)
theorem dX2_keepPast_49 : decode cX2_keepPast 49 = .ok (.aload_n 0, 1) := dk_42 (dk_at dksX2_keepPast_2 3 rfl rfl)
theorem dX2_keepPast_50 : decode cX2_keepPast 50 = .ok (.getfield 107, 3) := dk_180 0 107 (dk_at dksX2_keepPast_2 4 rfl rfl)
theorem dX2_keepPast_53 : decode cX2_keepPast 53 = .ok (.bipush 10, 2) := dk_16 10 (dk_at dksX2_keepPast_2 7 rfl rfl)
theorem dX2_keepPast_55 : decode cX2_keepPast 55 = .ok (.if_icmp .ne 7, 3) := dk_160 0 7 (dk_at dksX2_keepPast_2 9 rfl rfl)
theorem dX2_keepPast_58 : decode cX2_keepPast 58 = .ok (.iconst 1, 1) := dk_4 (dk_at dksX2_keepPast_2 12 rfl rfl)
theorem dX2_keepPast_59 : decode cX2_keepPast 59 = .ok (.goto 4, 3) := dk_167 0 4 (dk_at dksX2_keepPast_2 13 rfl rfl)
theorem dX2_keepPast_62 : decode cX2_keepPast 62 = .ok (.iconst 0, 1) := dk_3 (dk_at dksX2_keepPast_2 16 rfl rfl)
theorem dX2_keepPast_63 : decode cX2_keepPast 63 = .ok (.isub, 1) := dk_100 (dk_at dksX2_keepPast_2 17 rfl rfl)
theorem dX2_keepPast_64 : decode cX2_keepPast 64 = .ok (.putfield 107, 3) := dk_181 0 107 (dk_at dksX2_keepPast_2 18 rfl rfl)
theorem dX2_keepPast_67 : decode cX2_keepPast 67 = .ok (.aload_n 0, 1) := dk_42 (dk_at dksX2_keepPast_2 21 rfl rfl)
theorem dX2_keepPast_68 : decode cX2_keepPast 68 = .ok (.iconst 0, 1) := dk_3 (dk_at dksX2_keepPast_2 22 rfl rfl)
theorem dX2_keepPast_69 : decode cX2_keepPast 69 = .ok (.sipush 484, 3) := dk_17 1 228 (dk_at dksX2_keepPast_3 0 rfl rfl)
theorem dX2_keepPast_72 : decode cX2_keepPast 72 = .ok (.sipush 484, 3) := dk_17 1 228 (dk_at dksX2_keepPast_3 3 rfl rfl)
theorem dX2_keepPast_75 : decode cX2_keepPast 75 = .ok (.aload_n 0, 1) := dk_42 (dk_at dksX2_keepPast_3 6 rfl rfl)
theorem dX2_keepPast_76 : decode cX2_keepPast 76 = .ok (.getfield 107, 3) := dk_180 0 107 (dk_at dksX2_keepPast_3 7 rfl rfl)
theorem dX2_keepPast_79 : decode cX2_keepPast 79 = .ok (.imul, 1) := dk_104 (dk_at dksX2_keepPast_3 10 rfl rfl)
theorem dX2_keepPast_80 : decode cX2_keepPast 80 = .ok (.iadd, 1) := dk_96 (dk_at dksX2_keepPast_3 11 rfl rfl)
theorem dX2_keepPast_81 : decode cX2_keepPast 81 = .ok (.invokevirtual 110, 3) := dk_182 0 110 (dk_at dksX2_keepPast_3 12 rfl rfl)
theorem dX2_keepPast_84 : decode cX2_keepPast 84 = .ok (.aload_n 0, 1) := dk_42 (dk_at dksX2_keepPast_3 15 rfl rfl)
theorem dX2_keepPast_85 : decode cX2_keepPast 85 = .ok (.dup, 1) := dk_89 (dk_at dksX2_keepPast_3 16 rfl rfl)
theorem dX2_keepPast_86 : decode cX2_keepPast 86 = .ok (.getfield 107, 3) := dk_180 0 107 (dk_at dksX2_keepPast_3 17 rfl rfl)
theorem dX2_keepPast_89 : decode cX2_keepPast 89 = .ok (.iconst 1, 1) := dk_4 (dk_at dksX2_keepPast_3 20 rfl rfl)
theorem dX2_keepPast_90 : decode cX2_keepPast 90 = .ok (.iadd, 1) := dk_96 (dk_at dksX2_keepPast_3 21 rfl rfl)
theorem dX2_keepPast_91 : decode cX2_keepPast 91 = .ok (.putfield 107, 3) := dk_181 0 107 (dk_at dksX2_keepPast_4 0 rfl rfl)
theorem dX2_keepPast_94 : decode cX2_keepPast 94 = .ok (.return_, 1) := dk_177 (dk_at dksX2_keepPast_4 3 rfl rfl)
abbrev cX2_copyRow : ByteArray := prog_15_method_10_code
def yX2_copyRow : MethodName := ⟨RX2, "copyRow", "(II)V"⟩
def dkwX2_copyRow_1 : List UInt8 := [79, 132, 3, 1, 167, 255, 230, 177]
abbrev dktX2_copyRow_1 : List UInt8 := dkwX2_copyRow_1 ++ []
def dkwX2_copyRow_0 : List UInt8 := [3, 62, 29, 17, 1, 228, 162, 0, 25, 42, 180, 0, 7, 28, 29, 96, 42, 180, 0, 7, 27, 29, 96, 46]
abbrev dktX2_copyRow_0 : List UInt8 := dkwX2_copyRow_0 ++ dktX2_copyRow_1
theorem dksX2_copyRow_0 : cX2_copyRow.data.toList.drop 0 = dktX2_copyRow_0 := by decide +kernel
theorem dksX2_copyRow_1 : cX2_copyRow.data.toList.drop 24 = dktX2_copyRow_1 := dk_seg dksX2_copyRow_0 24 rfl rfl
theorem dX2_copyRow_0 : decode cX2_copyRow 0 = .ok (.iconst 0, 1) := dk_3 (dk_at dksX2_copyRow_0 0 rfl rfl)
theorem dX2_copyRow_1 : decode cX2_copyRow 1 = .ok (.istore_n 3, 1) := dk_62 (dk_at dksX2_copyRow_0 1 rfl rfl)
theorem dX2_copyRow_2 : decode cX2_copyRow 2 = .ok (.iload_n 3, 1) := dk_29 (dk_at dksX2_copyRow_0 2 rfl rfl)
theorem dX2_copyRow_3 : decode cX2_copyRow 3 = .ok (.sipush 484, 3) := dk_17 1 228 (dk_at dksX2_copyRow_0 3 rfl rfl)
theorem dX2_copyRow_6 : decode cX2_copyRow 6 = .ok (.if_icmp .ge 25, 3) := dk_162 0 25 (dk_at dksX2_copyRow_0 6 rfl rfl)
theorem dX2_copyRow_9 : decode cX2_copyRow 9 = .ok (.aload_n 0, 1) := dk_42 (dk_at dksX2_copyRow_0 9 rfl rfl)
theorem dX2_copyRow_10 : decode cX2_copyRow 10 = .ok (.getfield 7, 3) := dk_180 0 7 (dk_at dksX2_copyRow_0 10 rfl rfl)
theorem dX2_copyRow_13 : decode cX2_copyRow 13 = .ok (.iload_n 2, 1) := dk_28 (dk_at dksX2_copyRow_0 13 rfl rfl)
theorem dX2_copyRow_14 : decode cX2_copyRow 14 = .ok (.iload_n 3, 1) := dk_29 (dk_at dksX2_copyRow_0 14 rfl rfl)
theorem dX2_copyRow_15 : decode cX2_copyRow 15 = .ok (.iadd, 1) := dk_96 (dk_at dksX2_copyRow_0 15 rfl rfl)
theorem dX2_copyRow_16 : decode cX2_copyRow 16 = .ok (.aload_n 0, 1) := dk_42 (dk_at dksX2_copyRow_0 16 rfl rfl)
theorem dX2_copyRow_17 : decode cX2_copyRow 17 = .ok (.getfield 7, 3) := dk_180 0 7 (dk_at dksX2_copyRow_0 17 rfl rfl)
theorem dX2_copyRow_20 : decode cX2_copyRow 20 = .ok (.iload_n 1, 1) := dk_27 (dk_at dksX2_copyRow_0 20 rfl rfl)
theorem dX2_copyRow_21 : decode cX2_copyRow 21 = .ok (.iload_n 3, 1) := dk_29 (dk_at dksX2_copyRow_0 21 rfl rfl)
theorem dX2_copyRow_22 : decode cX2_copyRow 22 = .ok (.iadd, 1) := dk_96 (dk_at dksX2_copyRow_0 22 rfl rfl)
theorem dX2_copyRow_23 : decode cX2_copyRow 23 = .ok (.iaload, 1) := dk_46 (dk_at dksX2_copyRow_0 23 rfl rfl)
theorem dX2_copyRow_24 : decode cX2_copyRow 24 = .ok (.iastore, 1) := dk_79 (dk_at dksX2_copyRow_1 0 rfl rfl)
theorem dX2_copyRow_25 : decode cX2_copyRow 25 = .ok (.iinc 3 1, 3) := dk_132 3 1 (dk_at dksX2_copyRow_1 1 rfl rfl)
theorem dX2_copyRow_28 : decode cX2_copyRow 28 = .ok (.goto (-26), 3) := dk_167 255 230 (dk_at dksX2_copyRow_1 4 rfl rfl)
theorem dX2_copyRow_31 : decode cX2_copyRow 31 = .ok (.return_, 1) := dk_177 (dk_at dksX2_copyRow_1 7 rfl rfl)
abbrev cX2_fault : ByteArray := prog_15_method_23_code
def yX2_fault : MethodName := ⟨RX2, "fault", "()I"⟩
theorem dX2_fault_0 : decode cX2_fault 0 = .ok (.aload_n 0, 1) := by decide +kernel
theorem dX2_fault_1 : decode cX2_fault 1 = .ok (.getfield 20, 3) := by decide +kernel
theorem dX2_fault_4 : decode cX2_fault 4 = .ok (.ireturn, 1) := by decide +kernel
abbrev cX2_compile : ByteArray := prog_15_method_30_code
def yX2_compile : MethodName := ⟨RX2, "compile", "(I)I"⟩
def dkwX2_compile_1 : List UInt8 := [182, 0, 196, 42, 182, 0, 199, 42, 27, 182, 0, 159, 172]
abbrev dktX2_compile_1 : List UInt8 := dkwX2_compile_1 ++ []
def dkwX2_compile_0 : List UInt8 := [27, 184, 0, 152, 154, 0, 6, 18, 155, 172, 42, 27, 182, 0, 100, 154, 0, 6, 18, 195, 172, 42, 27]
abbrev dktX2_compile_0 : List UInt8 := dkwX2_compile_0 ++ dktX2_compile_1
theorem dksX2_compile_0 : cX2_compile.data.toList.drop 0 = dktX2_compile_0 := by decide +kernel
theorem dksX2_compile_1 : cX2_compile.data.toList.drop 23 = dktX2_compile_1 := dk_seg dksX2_compile_0 23 rfl rfl
theorem dX2_compile_0 : decode cX2_compile 0 = .ok (.iload_n 1, 1) := dk_27 (dk_at dksX2_compile_0 0 rfl rfl)
theorem dX2_compile_1 : decode cX2_compile 1 = .ok (.invokestatic 152, 3) := dk_184 0 152 (dk_at dksX2_compile_0 1 rfl rfl)
theorem dX2_compile_4 : decode cX2_compile 4 = .ok (.ifCond .ne 6, 3) := dk_154 0 6 (dk_at dksX2_compile_0 4 rfl rfl)
theorem dX2_compile_7 : decode cX2_compile 7 = .ok (.ldc 155, 2) := dk_18 155 (dk_at dksX2_compile_0 7 rfl rfl)
theorem dX2_compile_9 : decode cX2_compile 9 = .ok (.ireturn, 1) := dk_172 (dk_at dksX2_compile_0 9 rfl rfl)
theorem dX2_compile_10 : decode cX2_compile 10 = .ok (.aload_n 0, 1) := dk_42 (dk_at dksX2_compile_0 10 rfl rfl)
theorem dX2_compile_11 : decode cX2_compile 11 = .ok (.iload_n 1, 1) := dk_27 (dk_at dksX2_compile_0 11 rfl rfl)
theorem dX2_compile_12 : decode cX2_compile 12 = .ok (.invokevirtual 100, 3) := dk_182 0 100 (dk_at dksX2_compile_0 12 rfl rfl)
theorem dX2_compile_15 : decode cX2_compile 15 = .ok (.ifCond .ne 6, 3) := dk_154 0 6 (dk_at dksX2_compile_0 15 rfl rfl)
theorem dX2_compile_18 : decode cX2_compile 18 = .ok (.ldc 195, 2) := dk_18 195 (dk_at dksX2_compile_0 18 rfl rfl)
theorem dX2_compile_20 : decode cX2_compile 20 = .ok (.ireturn, 1) := dk_172 (dk_at dksX2_compile_0 20 rfl rfl)
theorem dX2_compile_21 : decode cX2_compile 21 = .ok (.aload_n 0, 1) := dk_42 (dk_at dksX2_compile_0 21 rfl rfl)
theorem dX2_compile_22 : decode cX2_compile 22 = .ok (.iload_n 1, 1) := dk_27 (dk_at dksX2_compile_0 22 rfl rfl)
theorem dX2_compile_23 : decode cX2_compile 23 = .ok (.invokevirtual 196, 3) := dk_182 0 196 (dk_at dksX2_compile_1 0 rfl rfl)
theorem dX2_compile_26 : decode cX2_compile 26 = .ok (.aload_n 0, 1) := dk_42 (dk_at dksX2_compile_1 3 rfl rfl)
theorem dX2_compile_27 : decode cX2_compile 27 = .ok (.invokevirtual 199, 3) := dk_182 0 199 (dk_at dksX2_compile_1 4 rfl rfl)
theorem dX2_compile_30 : decode cX2_compile 30 = .ok (.aload_n 0, 1) := dk_42 (dk_at dksX2_compile_1 7 rfl rfl)
theorem dX2_compile_31 : decode cX2_compile 31 = .ok (.iload_n 1, 1) := dk_27 (dk_at dksX2_compile_1 8 rfl rfl)
theorem dX2_compile_32 : decode cX2_compile 32 = .ok (.invokevirtual 159, 3) := dk_182 0 159 (dk_at dksX2_compile_1 9 rfl rfl)
theorem dX2_compile_35 : decode cX2_compile 35 = .ok (.ireturn, 1) := dk_172 (dk_at dksX2_compile_1 12 rfl rfl)
abbrev cX2_sizeOf : ByteArray := prog_15_method_6_code
def yX2_sizeOf : MethodName := ⟨RX2, "sizeOf", "(I)I"⟩
def dkwX2_sizeOf_0 : List UInt8 := [42, 180, 0, 7, 16, 121, 27, 104, 46, 172]
abbrev dktX2_sizeOf_0 : List UInt8 := dkwX2_sizeOf_0 ++ []
theorem dksX2_sizeOf_0 : cX2_sizeOf.data.toList.drop 0 = dktX2_sizeOf_0 := by decide +kernel
theorem dX2_sizeOf_0 : decode cX2_sizeOf 0 = .ok (.aload_n 0, 1) := dk_42 (dk_at dksX2_sizeOf_0 0 rfl rfl)
theorem dX2_sizeOf_1 : decode cX2_sizeOf 1 = .ok (.getfield 7, 3) := dk_180 0 7 (dk_at dksX2_sizeOf_0 1 rfl rfl)
theorem dX2_sizeOf_4 : decode cX2_sizeOf 4 = .ok (.bipush 121, 2) := dk_16 121 (dk_at dksX2_sizeOf_0 4 rfl rfl)
theorem dX2_sizeOf_6 : decode cX2_sizeOf 6 = .ok (.iload_n 1, 1) := dk_27 (dk_at dksX2_sizeOf_0 6 rfl rfl)
theorem dX2_sizeOf_7 : decode cX2_sizeOf 7 = .ok (.imul, 1) := dk_104 (dk_at dksX2_sizeOf_0 7 rfl rfl)
theorem dX2_sizeOf_8 : decode cX2_sizeOf 8 = .ok (.iaload, 1) := dk_46 (dk_at dksX2_sizeOf_0 8 rfl rfl)
theorem dX2_sizeOf_9 : decode cX2_sizeOf 9 = .ok (.ireturn, 1) := dk_172 (dk_at dksX2_sizeOf_0 9 rfl rfl)
abbrev cX2_take : ByteArray := prog_15_method_11_code
def yX2_take : MethodName := ⟨RX2, "take", "(I)V"⟩
def dkwX2_take_1 : List UInt8 := [42, 180, 0, 7, 16, 121, 27, 104, 4, 96, 28, 96, 46, 79, 132, 2, 1, 167, 255, 226, 177]
abbrev dktX2_take_1 : List UInt8 := dkwX2_take_1 ++ []
def dkwX2_take_0 : List UInt8 := [42, 42, 27, 182, 0, 100, 181, 0, 104, 3, 61, 28, 42, 180, 0, 104, 162, 0, 28, 42, 180, 0, 24, 28]
abbrev dktX2_take_0 : List UInt8 := dkwX2_take_0 ++ dktX2_take_1
theorem dksX2_take_0 : cX2_take.data.toList.drop 0 = dktX2_take_0 := by decide +kernel
theorem dksX2_take_1 : cX2_take.data.toList.drop 24 = dktX2_take_1 := dk_seg dksX2_take_0 24 rfl rfl
theorem dX2_take_0 : decode cX2_take 0 = .ok (.aload_n 0, 1) := dk_42 (dk_at dksX2_take_0 0 rfl rfl)
theorem dX2_take_1 : decode cX2_take 1 = .ok (.aload_n 0, 1) := dk_42 (dk_at dksX2_take_0 1 rfl rfl)
theorem dX2_take_2 : decode cX2_take 2 = .ok (.iload_n 1, 1) := dk_27 (dk_at dksX2_take_0 2 rfl rfl)
theorem dX2_take_3 : decode cX2_take 3 = .ok (.invokevirtual 100, 3) := dk_182 0 100 (dk_at dksX2_take_0 3 rfl rfl)
theorem dX2_take_6 : decode cX2_take 6 = .ok (.putfield 104, 3) := dk_181 0 104 (dk_at dksX2_take_0 6 rfl rfl)
theorem dX2_take_9 : decode cX2_take 9 = .ok (.iconst 0, 1) := dk_3 (dk_at dksX2_take_0 9 rfl rfl)
theorem dX2_take_10 : decode cX2_take 10 = .ok (.istore_n 2, 1) := dk_61 (dk_at dksX2_take_0 10 rfl rfl)
theorem dX2_take_11 : decode cX2_take 11 = .ok (.iload_n 2, 1) := dk_28 (dk_at dksX2_take_0 11 rfl rfl)
theorem dX2_take_12 : decode cX2_take 12 = .ok (.aload_n 0, 1) := dk_42 (dk_at dksX2_take_0 12 rfl rfl)
theorem dX2_take_13 : decode cX2_take 13 = .ok (.getfield 104, 3) := dk_180 0 104 (dk_at dksX2_take_0 13 rfl rfl)
theorem dX2_take_16 : decode cX2_take 16 = .ok (.if_icmp .ge 28, 3) := dk_162 0 28 (dk_at dksX2_take_0 16 rfl rfl)
theorem dX2_take_19 : decode cX2_take 19 = .ok (.aload_n 0, 1) := dk_42 (dk_at dksX2_take_0 19 rfl rfl)
theorem dX2_take_20 : decode cX2_take 20 = .ok (.getfield 24, 3) := dk_180 0 24 (dk_at dksX2_take_0 20 rfl rfl)
theorem dX2_take_23 : decode cX2_take 23 = .ok (.iload_n 2, 1) := dk_28 (dk_at dksX2_take_0 23 rfl rfl)
theorem dX2_take_24 : decode cX2_take 24 = .ok (.aload_n 0, 1) := dk_42 (dk_at dksX2_take_1 0 rfl rfl)
theorem dX2_take_25 : decode cX2_take 25 = .ok (.getfield 7, 3) := dk_180 0 7 (dk_at dksX2_take_1 1 rfl rfl)
theorem dX2_take_28 : decode cX2_take 28 = .ok (.bipush 121, 2) := dk_16 121 (dk_at dksX2_take_1 4 rfl rfl)
theorem dX2_take_30 : decode cX2_take 30 = .ok (.iload_n 1, 1) := dk_27 (dk_at dksX2_take_1 6 rfl rfl)
theorem dX2_take_31 : decode cX2_take 31 = .ok (.imul, 1) := dk_104 (dk_at dksX2_take_1 7 rfl rfl)
theorem dX2_take_32 : decode cX2_take 32 = .ok (.iconst 1, 1) := dk_4 (dk_at dksX2_take_1 8 rfl rfl)
theorem dX2_take_33 : decode cX2_take 33 = .ok (.iadd, 1) := dk_96 (dk_at dksX2_take_1 9 rfl rfl)
theorem dX2_take_34 : decode cX2_take 34 = .ok (.iload_n 2, 1) := dk_28 (dk_at dksX2_take_1 10 rfl rfl)
theorem dX2_take_35 : decode cX2_take 35 = .ok (.iadd, 1) := dk_96 (dk_at dksX2_take_1 11 rfl rfl)
theorem dX2_take_36 : decode cX2_take 36 = .ok (.iaload, 1) := dk_46 (dk_at dksX2_take_1 12 rfl rfl)
theorem dX2_take_37 : decode cX2_take 37 = .ok (.iastore, 1) := dk_79 (dk_at dksX2_take_1 13 rfl rfl)
theorem dX2_take_38 : decode cX2_take 38 = .ok (.iinc 2 1, 3) := dk_132 2 1 (dk_at dksX2_take_1 14 rfl rfl)
theorem dX2_take_41 : decode cX2_take 41 = .ok (.goto (-30), 3) := dk_167 255 226 (dk_at dksX2_take_1 17 rfl rfl)
theorem dX2_take_44 : decode cX2_take 44 = .ok (.return_, 1) := dk_177 (dk_at dksX2_take_1 20 rfl rfl)
abbrev cX2_compiles : ByteArray := prog_15_method_29_code
def yX2_compiles : MethodName := ⟨RX2, "compiles", "()V"⟩
def dkwX2_compiles_4 : List UInt8 := [167, 255, 235, 42, 182, 0, 192, 42, 182, 0, 186, 60, 167, 255, 156, 177]
abbrev dktX2_compiles_4 : List UInt8 := dkwX2_compiles_4 ++ []
def dkwX2_compiles_3 : List UInt8 := [62, 29, 42, 180, 0, 104, 162, 0, 19, 42, 42, 180, 0, 24, 29, 46, 182, 0, 168, 132, 3, 1]
abbrev dktX2_compiles_3 : List UInt8 := dkwX2_compiles_3 ++ dktX2_compiles_4
def dkwX2_compiles_2 : List UInt8 := [132, 3, 1, 167, 255, 238, 42, 27, 4, 96, 42, 180, 0, 24, 27, 46, 17, 3, 232, 100, 182, 0, 189, 28]
abbrev dktX2_compiles_2 : List UInt8 := dkwX2_compiles_2 ++ dktX2_compiles_3
def dkwX2_compiles_1 : List UInt8 := [61, 42, 3, 181, 0, 97, 3, 62, 29, 27, 162, 0, 19, 42, 42, 180, 0, 24, 29, 46, 182, 0, 168]
abbrev dktX2_compiles_1 : List UInt8 := dkwX2_compiles_1 ++ dktX2_compiles_2
def dkwX2_compiles_0 : List UInt8 := [42, 182, 0, 186, 60, 27, 155, 0, 102, 42, 180, 0, 104, 17, 1, 224, 163, 0, 92, 42, 27, 182, 0, 165]
abbrev dktX2_compiles_0 : List UInt8 := dkwX2_compiles_0 ++ dktX2_compiles_1
theorem dksX2_compiles_0 : cX2_compiles.data.toList.drop 0 = dktX2_compiles_0 := by decide +kernel
theorem dksX2_compiles_1 : cX2_compiles.data.toList.drop 24 = dktX2_compiles_1 := dk_seg dksX2_compiles_0 24 rfl rfl
theorem dksX2_compiles_2 : cX2_compiles.data.toList.drop 47 = dktX2_compiles_2 := dk_seg dksX2_compiles_1 23 rfl rfl
theorem dksX2_compiles_3 : cX2_compiles.data.toList.drop 71 = dktX2_compiles_3 := dk_seg dksX2_compiles_2 24 rfl rfl
theorem dksX2_compiles_4 : cX2_compiles.data.toList.drop 93 = dktX2_compiles_4 := dk_seg dksX2_compiles_3 22 rfl rfl
theorem dX2_compiles_0 : decode cX2_compiles 0 = .ok (.aload_n 0, 1) := dk_42 (dk_at dksX2_compiles_0 0 rfl rfl)
theorem dX2_compiles_1 : decode cX2_compiles 1 = .ok (.invokevirtual 186, 3) := dk_182 0 186 (dk_at dksX2_compiles_0 1 rfl rfl)
theorem dX2_compiles_4 : decode cX2_compiles 4 = .ok (.istore_n 1, 1) := dk_60 (dk_at dksX2_compiles_0 4 rfl rfl)
theorem dX2_compiles_5 : decode cX2_compiles 5 = .ok (.iload_n 1, 1) := dk_27 (dk_at dksX2_compiles_0 5 rfl rfl)
theorem dX2_compiles_6 : decode cX2_compiles 6 = .ok (.ifCond .lt 102, 3) := dk_155 0 102 (dk_at dksX2_compiles_0 6 rfl rfl)
theorem dX2_compiles_9 : decode cX2_compiles 9 = .ok (.aload_n 0, 1) := dk_42 (dk_at dksX2_compiles_0 9 rfl rfl)
theorem dX2_compiles_10 : decode cX2_compiles 10 = .ok (.getfield 104, 3) := dk_180 0 104 (dk_at dksX2_compiles_0 10 rfl rfl)
theorem dX2_compiles_13 : decode cX2_compiles 13 = .ok (.sipush 480, 3) := dk_17 1 224 (dk_at dksX2_compiles_0 13 rfl rfl)
theorem dX2_compiles_16 : decode cX2_compiles 16 = .ok (.if_icmp .gt 92, 3) := dk_163 0 92 (dk_at dksX2_compiles_0 16 rfl rfl)
theorem dX2_compiles_19 : decode cX2_compiles 19 = .ok (.aload_n 0, 1) := dk_42 (dk_at dksX2_compiles_0 19 rfl rfl)
theorem dX2_compiles_20 : decode cX2_compiles 20 = .ok (.iload_n 1, 1) := dk_27 (dk_at dksX2_compiles_0 20 rfl rfl)
theorem dX2_compiles_21 : decode cX2_compiles 21 = .ok (.invokevirtual 165, 3) := dk_182 0 165 (dk_at dksX2_compiles_0 21 rfl rfl)
theorem dX2_compiles_24 : decode cX2_compiles 24 = .ok (.istore_n 2, 1) := dk_61 (dk_at dksX2_compiles_1 0 rfl rfl)
theorem dX2_compiles_25 : decode cX2_compiles 25 = .ok (.aload_n 0, 1) := dk_42 (dk_at dksX2_compiles_1 1 rfl rfl)
theorem dX2_compiles_26 : decode cX2_compiles 26 = .ok (.iconst 0, 1) := dk_3 (dk_at dksX2_compiles_1 2 rfl rfl)
theorem dX2_compiles_27 : decode cX2_compiles 27 = .ok (.putfield 97, 3) := dk_181 0 97 (dk_at dksX2_compiles_1 3 rfl rfl)
theorem dX2_compiles_30 : decode cX2_compiles 30 = .ok (.iconst 0, 1) := dk_3 (dk_at dksX2_compiles_1 6 rfl rfl)
theorem dX2_compiles_31 : decode cX2_compiles 31 = .ok (.istore_n 3, 1) := dk_62 (dk_at dksX2_compiles_1 7 rfl rfl)
theorem dX2_compiles_32 : decode cX2_compiles 32 = .ok (.iload_n 3, 1) := dk_29 (dk_at dksX2_compiles_1 8 rfl rfl)
theorem dX2_compiles_33 : decode cX2_compiles 33 = .ok (.iload_n 1, 1) := dk_27 (dk_at dksX2_compiles_1 9 rfl rfl)
theorem dX2_compiles_34 : decode cX2_compiles 34 = .ok (.if_icmp .ge 19, 3) := dk_162 0 19 (dk_at dksX2_compiles_1 10 rfl rfl)
theorem dX2_compiles_37 : decode cX2_compiles 37 = .ok (.aload_n 0, 1) := dk_42 (dk_at dksX2_compiles_1 13 rfl rfl)
theorem dX2_compiles_38 : decode cX2_compiles 38 = .ok (.aload_n 0, 1) := dk_42 (dk_at dksX2_compiles_1 14 rfl rfl)
theorem dX2_compiles_39 : decode cX2_compiles 39 = .ok (.getfield 24, 3) := dk_180 0 24 (dk_at dksX2_compiles_1 15 rfl rfl)
theorem dX2_compiles_42 : decode cX2_compiles 42 = .ok (.iload_n 3, 1) := dk_29 (dk_at dksX2_compiles_1 18 rfl rfl)
theorem dX2_compiles_43 : decode cX2_compiles 43 = .ok (.iaload, 1) := dk_46 (dk_at dksX2_compiles_1 19 rfl rfl)
theorem dX2_compiles_44 : decode cX2_compiles 44 = .ok (.invokevirtual 168, 3) := dk_182 0 168 (dk_at dksX2_compiles_1 20 rfl rfl)
theorem dX2_compiles_47 : decode cX2_compiles 47 = .ok (.iinc 3 1, 3) := dk_132 3 1 (dk_at dksX2_compiles_2 0 rfl rfl)
theorem dX2_compiles_50 : decode cX2_compiles 50 = .ok (.goto (-18), 3) := dk_167 255 238 (dk_at dksX2_compiles_2 3 rfl rfl)
theorem dX2_compiles_53 : decode cX2_compiles 53 = .ok (.aload_n 0, 1) := dk_42 (dk_at dksX2_compiles_2 6 rfl rfl)
theorem dX2_compiles_54 : decode cX2_compiles 54 = .ok (.iload_n 1, 1) := dk_27 (dk_at dksX2_compiles_2 7 rfl rfl)
theorem dX2_compiles_55 : decode cX2_compiles 55 = .ok (.iconst 1, 1) := dk_4 (dk_at dksX2_compiles_2 8 rfl rfl)
theorem dX2_compiles_56 : decode cX2_compiles 56 = .ok (.iadd, 1) := dk_96 (dk_at dksX2_compiles_2 9 rfl rfl)
theorem dX2_compiles_57 : decode cX2_compiles 57 = .ok (.aload_n 0, 1) := dk_42 (dk_at dksX2_compiles_2 10 rfl rfl)
theorem dX2_compiles_58 : decode cX2_compiles 58 = .ok (.getfield 24, 3) := dk_180 0 24 (dk_at dksX2_compiles_2 11 rfl rfl)
theorem dX2_compiles_61 : decode cX2_compiles 61 = .ok (.iload_n 1, 1) := dk_27 (dk_at dksX2_compiles_2 14 rfl rfl)
theorem dX2_compiles_62 : decode cX2_compiles 62 = .ok (.iaload, 1) := dk_46 (dk_at dksX2_compiles_2 15 rfl rfl)
theorem dX2_compiles_63 : decode cX2_compiles 63 = .ok (.sipush 1000, 3) := dk_17 3 232 (dk_at dksX2_compiles_2 16 rfl rfl)
theorem dX2_compiles_66 : decode cX2_compiles 66 = .ok (.isub, 1) := dk_100 (dk_at dksX2_compiles_2 19 rfl rfl)
theorem dX2_compiles_67 : decode cX2_compiles 67 = .ok (.invokevirtual 189, 3) := dk_182 0 189 (dk_at dksX2_compiles_2 20 rfl rfl)
theorem dX2_compiles_70 : decode cX2_compiles 70 = .ok (.iload_n 2, 1) := dk_28 (dk_at dksX2_compiles_2 23 rfl rfl)
theorem dX2_compiles_71 : decode cX2_compiles 71 = .ok (.istore_n 3, 1) := dk_62 (dk_at dksX2_compiles_3 0 rfl rfl)
theorem dX2_compiles_72 : decode cX2_compiles 72 = .ok (.iload_n 3, 1) := dk_29 (dk_at dksX2_compiles_3 1 rfl rfl)
theorem dX2_compiles_73 : decode cX2_compiles 73 = .ok (.aload_n 0, 1) := dk_42 (dk_at dksX2_compiles_3 2 rfl rfl)
theorem dX2_compiles_74 : decode cX2_compiles 74 = .ok (.getfield 104, 3) := dk_180 0 104 (dk_at dksX2_compiles_3 3 rfl rfl)
theorem dX2_compiles_77 : decode cX2_compiles 77 = .ok (.if_icmp .ge 19, 3) := dk_162 0 19 (dk_at dksX2_compiles_3 6 rfl rfl)
theorem dX2_compiles_80 : decode cX2_compiles 80 = .ok (.aload_n 0, 1) := dk_42 (dk_at dksX2_compiles_3 9 rfl rfl)
theorem dX2_compiles_81 : decode cX2_compiles 81 = .ok (.aload_n 0, 1) := dk_42 (dk_at dksX2_compiles_3 10 rfl rfl)
theorem dX2_compiles_82 : decode cX2_compiles 82 = .ok (.getfield 24, 3) := dk_180 0 24 (dk_at dksX2_compiles_3 11 rfl rfl)
theorem dX2_compiles_85 : decode cX2_compiles 85 = .ok (.iload_n 3, 1) := dk_29 (dk_at dksX2_compiles_3 14 rfl rfl)
theorem dX2_compiles_86 : decode cX2_compiles 86 = .ok (.iaload, 1) := dk_46 (dk_at dksX2_compiles_3 15 rfl rfl)
theorem dX2_compiles_87 : decode cX2_compiles 87 = .ok (.invokevirtual 168, 3) := dk_182 0 168 (dk_at dksX2_compiles_3 16 rfl rfl)
theorem dX2_compiles_90 : decode cX2_compiles 90 = .ok (.iinc 3 1, 3) := dk_132 3 1 (dk_at dksX2_compiles_3 19 rfl rfl)
theorem dX2_compiles_93 : decode cX2_compiles 93 = .ok (.goto (-21), 3) := dk_167 255 235 (dk_at dksX2_compiles_4 0 rfl rfl)
theorem dX2_compiles_96 : decode cX2_compiles 96 = .ok (.aload_n 0, 1) := dk_42 (dk_at dksX2_compiles_4 3 rfl rfl)
theorem dX2_compiles_97 : decode cX2_compiles 97 = .ok (.invokevirtual 192, 3) := dk_182 0 192 (dk_at dksX2_compiles_4 4 rfl rfl)
theorem dX2_compiles_100 : decode cX2_compiles 100 = .ok (.aload_n 0, 1) := dk_42 (dk_at dksX2_compiles_4 7 rfl rfl)
theorem dX2_compiles_101 : decode cX2_compiles 101 = .ok (.invokevirtual 186, 3) := dk_182 0 186 (dk_at dksX2_compiles_4 8 rfl rfl)
theorem dX2_compiles_104 : decode cX2_compiles 104 = .ok (.istore_n 1, 1) := dk_60 (dk_at dksX2_compiles_4 11 rfl rfl)
theorem dX2_compiles_105 : decode cX2_compiles 105 = .ok (.goto (-100), 3) := dk_167 255 156 (dk_at dksX2_compiles_4 12 rfl rfl)
theorem dX2_compiles_108 : decode cX2_compiles 108 = .ok (.return_, 1) := dk_177 (dk_at dksX2_compiles_4 15 rfl rfl)
abbrev cX2_lastBinder : ByteArray := prog_15_method_28_code
def yX2_lastBinder : MethodName := ⟨RX2, "lastBinder", "()I"⟩
def dkwX2_lastBinder_1 : List UInt8 := [132, 1, 255, 167, 255, 237, 27, 172]
abbrev dktX2_lastBinder_1 : List UInt8 := dkwX2_lastBinder_1 ++ []
def dkwX2_lastBinder_0 : List UInt8 := [42, 180, 0, 104, 4, 100, 60, 27, 155, 0, 21, 42, 180, 0, 24, 27, 46, 184, 0, 162, 154, 0, 9]
abbrev dktX2_lastBinder_0 : List UInt8 := dkwX2_lastBinder_0 ++ dktX2_lastBinder_1
theorem dksX2_lastBinder_0 : cX2_lastBinder.data.toList.drop 0 = dktX2_lastBinder_0 := by decide +kernel
theorem dksX2_lastBinder_1 : cX2_lastBinder.data.toList.drop 23 = dktX2_lastBinder_1 := dk_seg dksX2_lastBinder_0 23 rfl rfl
theorem dX2_lastBinder_0 : decode cX2_lastBinder 0 = .ok (.aload_n 0, 1) := dk_42 (dk_at dksX2_lastBinder_0 0 rfl rfl)
theorem dX2_lastBinder_1 : decode cX2_lastBinder 1 = .ok (.getfield 104, 3) := dk_180 0 104 (dk_at dksX2_lastBinder_0 1 rfl rfl)
theorem dX2_lastBinder_4 : decode cX2_lastBinder 4 = .ok (.iconst 1, 1) := dk_4 (dk_at dksX2_lastBinder_0 4 rfl rfl)
theorem dX2_lastBinder_5 : decode cX2_lastBinder 5 = .ok (.isub, 1) := dk_100 (dk_at dksX2_lastBinder_0 5 rfl rfl)
theorem dX2_lastBinder_6 : decode cX2_lastBinder 6 = .ok (.istore_n 1, 1) := dk_60 (dk_at dksX2_lastBinder_0 6 rfl rfl)
theorem dX2_lastBinder_7 : decode cX2_lastBinder 7 = .ok (.iload_n 1, 1) := dk_27 (dk_at dksX2_lastBinder_0 7 rfl rfl)
theorem dX2_lastBinder_8 : decode cX2_lastBinder 8 = .ok (.ifCond .lt 21, 3) := dk_155 0 21 (dk_at dksX2_lastBinder_0 8 rfl rfl)
theorem dX2_lastBinder_11 : decode cX2_lastBinder 11 = .ok (.aload_n 0, 1) := dk_42 (dk_at dksX2_lastBinder_0 11 rfl rfl)
theorem dX2_lastBinder_12 : decode cX2_lastBinder 12 = .ok (.getfield 24, 3) := dk_180 0 24 (dk_at dksX2_lastBinder_0 12 rfl rfl)
theorem dX2_lastBinder_15 : decode cX2_lastBinder 15 = .ok (.iload_n 1, 1) := dk_27 (dk_at dksX2_lastBinder_0 15 rfl rfl)
theorem dX2_lastBinder_16 : decode cX2_lastBinder 16 = .ok (.iaload, 1) := dk_46 (dk_at dksX2_lastBinder_0 16 rfl rfl)
theorem dX2_lastBinder_17 : decode cX2_lastBinder 17 = .ok (.invokestatic 162, 3) := dk_184 0 162 (dk_at dksX2_lastBinder_0 17 rfl rfl)
theorem dX2_lastBinder_20 : decode cX2_lastBinder 20 = .ok (.ifCond .ne 9, 3) := dk_154 0 9 (dk_at dksX2_lastBinder_0 20 rfl rfl)
theorem dX2_lastBinder_23 : decode cX2_lastBinder 23 = .ok (.iinc 1 (-1), 3) := dk_132 1 255 (dk_at dksX2_lastBinder_1 0 rfl rfl)
theorem dX2_lastBinder_26 : decode cX2_lastBinder 26 = .ok (.goto (-19), 3) := dk_167 255 237 (dk_at dksX2_lastBinder_1 3 rfl rfl)
theorem dX2_lastBinder_29 : decode cX2_lastBinder 29 = .ok (.iload_n 1, 1) := dk_27 (dk_at dksX2_lastBinder_1 6 rfl rfl)
theorem dX2_lastBinder_30 : decode cX2_lastBinder 30 = .ok (.ireturn, 1) := dk_172 (dk_at dksX2_lastBinder_1 7 rfl rfl)
abbrev cX2_isBinder : ByteArray := prog_15_method_4_code
def yX2_isBinder : MethodName := ⟨RX2, "isBinder", "(I)Z"⟩
def dkwX2_isBinder_0 : List UInt8 := [26, 17, 3, 232, 161, 0, 7, 4, 167, 0, 4, 3, 172]
abbrev dktX2_isBinder_0 : List UInt8 := dkwX2_isBinder_0 ++ []
theorem dksX2_isBinder_0 : cX2_isBinder.data.toList.drop 0 = dktX2_isBinder_0 := by decide +kernel
theorem dX2_isBinder_0 : decode cX2_isBinder 0 = .ok (.iload_n 0, 1) := dk_26 (dk_at dksX2_isBinder_0 0 rfl rfl)
theorem dX2_isBinder_1 : decode cX2_isBinder 1 = .ok (.sipush 1000, 3) := dk_17 3 232 (dk_at dksX2_isBinder_0 1 rfl rfl)
theorem dX2_isBinder_4 : decode cX2_isBinder 4 = .ok (.if_icmp .lt 7, 3) := dk_161 0 7 (dk_at dksX2_isBinder_0 4 rfl rfl)
theorem dX2_isBinder_7 : decode cX2_isBinder 7 = .ok (.iconst 1, 1) := dk_4 (dk_at dksX2_isBinder_0 7 rfl rfl)
theorem dX2_isBinder_8 : decode cX2_isBinder 8 = .ok (.goto 4, 3) := dk_167 0 4 (dk_at dksX2_isBinder_0 8 rfl rfl)
theorem dX2_isBinder_11 : decode cX2_isBinder 11 = .ok (.iconst 0, 1) := dk_3 (dk_at dksX2_isBinder_0 11 rfl rfl)
theorem dX2_isBinder_12 : decode cX2_isBinder 12 = .ok (.ireturn, 1) := dk_172 (dk_at dksX2_isBinder_0 12 rfl rfl)
abbrev cX2_behind : ByteArray := prog_15_method_24_code
def yX2_behind : MethodName := ⟨RX2, "behind", "(I)I"⟩
def dkwX2_behind_2 : List UInt8 := [28, 172]
abbrev dktX2_behind_2 : List UInt8 := dkwX2_behind_2 ++ []
def dkwX2_behind_1 : List UInt8 := [180, 0, 24, 28, 46, 184, 0, 162, 153, 0, 7, 3, 167, 0, 4, 2, 96, 62, 132, 2, 1, 167, 255, 216]
abbrev dktX2_behind_1 : List UInt8 := dkwX2_behind_1 ++ dktX2_behind_2
def dkwX2_behind_0 : List UInt8 := [27, 61, 4, 62, 29, 158, 0, 42, 29, 42, 180, 0, 24, 28, 46, 154, 0, 7, 4, 167, 0, 20, 42]
abbrev dktX2_behind_0 : List UInt8 := dkwX2_behind_0 ++ dktX2_behind_1
theorem dksX2_behind_0 : cX2_behind.data.toList.drop 0 = dktX2_behind_0 := by decide +kernel
theorem dksX2_behind_1 : cX2_behind.data.toList.drop 23 = dktX2_behind_1 := dk_seg dksX2_behind_0 23 rfl rfl
theorem dksX2_behind_2 : cX2_behind.data.toList.drop 47 = dktX2_behind_2 := dk_seg dksX2_behind_1 24 rfl rfl
theorem dX2_behind_0 : decode cX2_behind 0 = .ok (.iload_n 1, 1) := dk_27 (dk_at dksX2_behind_0 0 rfl rfl)
theorem dX2_behind_1 : decode cX2_behind 1 = .ok (.istore_n 2, 1) := dk_61 (dk_at dksX2_behind_0 1 rfl rfl)
theorem dX2_behind_2 : decode cX2_behind 2 = .ok (.iconst 1, 1) := dk_4 (dk_at dksX2_behind_0 2 rfl rfl)
theorem dX2_behind_3 : decode cX2_behind 3 = .ok (.istore_n 3, 1) := dk_62 (dk_at dksX2_behind_0 3 rfl rfl)
theorem dX2_behind_4 : decode cX2_behind 4 = .ok (.iload_n 3, 1) := dk_29 (dk_at dksX2_behind_0 4 rfl rfl)
theorem dX2_behind_5 : decode cX2_behind 5 = .ok (.ifCond .le 42, 3) := dk_158 0 42 (dk_at dksX2_behind_0 5 rfl rfl)
theorem dX2_behind_8 : decode cX2_behind 8 = .ok (.iload_n 3, 1) := dk_29 (dk_at dksX2_behind_0 8 rfl rfl)
theorem dX2_behind_9 : decode cX2_behind 9 = .ok (.aload_n 0, 1) := dk_42 (dk_at dksX2_behind_0 9 rfl rfl)
theorem dX2_behind_10 : decode cX2_behind 10 = .ok (.getfield 24, 3) := dk_180 0 24 (dk_at dksX2_behind_0 10 rfl rfl)
theorem dX2_behind_13 : decode cX2_behind 13 = .ok (.iload_n 2, 1) := dk_28 (dk_at dksX2_behind_0 13 rfl rfl)
theorem dX2_behind_14 : decode cX2_behind 14 = .ok (.iaload, 1) := dk_46 (dk_at dksX2_behind_0 14 rfl rfl)
theorem dX2_behind_15 : decode cX2_behind 15 = .ok (.ifCond .ne 7, 3) := dk_154 0 7 (dk_at dksX2_behind_0 15 rfl rfl)
theorem dX2_behind_18 : decode cX2_behind 18 = .ok (.iconst 1, 1) := dk_4 (dk_at dksX2_behind_0 18 rfl rfl)
theorem dX2_behind_19 : decode cX2_behind 19 = .ok (.goto 20, 3) := dk_167 0 20 (dk_at dksX2_behind_0 19 rfl rfl)
theorem dX2_behind_22 : decode cX2_behind 22 = .ok (.aload_n 0, 1) := dk_42 (dk_at dksX2_behind_0 22 rfl rfl)
theorem dX2_behind_23 : decode cX2_behind 23 = .ok (.getfield 24, 3) := dk_180 0 24 (dk_at dksX2_behind_1 0 rfl rfl)
theorem dX2_behind_26 : decode cX2_behind 26 = .ok (.iload_n 2, 1) := dk_28 (dk_at dksX2_behind_1 3 rfl rfl)
theorem dX2_behind_27 : decode cX2_behind 27 = .ok (.iaload, 1) := dk_46 (dk_at dksX2_behind_1 4 rfl rfl)
theorem dX2_behind_28 : decode cX2_behind 28 = .ok (.invokestatic 162, 3) := dk_184 0 162 (dk_at dksX2_behind_1 5 rfl rfl)
theorem dX2_behind_31 : decode cX2_behind 31 = .ok (.ifCond .eq 7, 3) := dk_153 0 7 (dk_at dksX2_behind_1 8 rfl rfl)
theorem dX2_behind_34 : decode cX2_behind 34 = .ok (.iconst 0, 1) := dk_3 (dk_at dksX2_behind_1 11 rfl rfl)
theorem dX2_behind_35 : decode cX2_behind 35 = .ok (.goto 4, 3) := dk_167 0 4 (dk_at dksX2_behind_1 12 rfl rfl)
theorem dX2_behind_38 : decode cX2_behind 38 = .ok (.iconst (-1), 1) := dk_2 (dk_at dksX2_behind_1 15 rfl rfl)
theorem dX2_behind_39 : decode cX2_behind 39 = .ok (.iadd, 1) := dk_96 (dk_at dksX2_behind_1 16 rfl rfl)
theorem dX2_behind_40 : decode cX2_behind 40 = .ok (.istore_n 3, 1) := dk_62 (dk_at dksX2_behind_1 17 rfl rfl)
theorem dX2_behind_41 : decode cX2_behind 41 = .ok (.iinc 2 1, 3) := dk_132 2 1 (dk_at dksX2_behind_1 18 rfl rfl)
theorem dX2_behind_44 : decode cX2_behind 44 = .ok (.goto (-40), 3) := dk_167 255 216 (dk_at dksX2_behind_1 21 rfl rfl)
theorem dX2_behind_47 : decode cX2_behind 47 = .ok (.iload_n 2, 1) := dk_28 (dk_at dksX2_behind_2 0 rfl rfl)
theorem dX2_behind_48 : decode cX2_behind 48 = .ok (.ireturn, 1) := dk_172 (dk_at dksX2_behind_2 1 rfl rfl)
abbrev cX2_make : ByteArray := prog_15_method_9_code
def yX2_make : MethodName := ⟨RX2, "make", "(I)V"⟩
def dkwX2_make_0 : List UInt8 := [42, 180, 0, 27, 42, 180, 0, 97, 27, 79, 42, 89, 180, 0, 97, 4, 96, 181, 0, 97, 177]
abbrev dktX2_make_0 : List UInt8 := dkwX2_make_0 ++ []
theorem dksX2_make_0 : cX2_make.data.toList.drop 0 = dktX2_make_0 := by decide +kernel
theorem dX2_make_0 : decode cX2_make 0 = .ok (.aload_n 0, 1) := dk_42 (dk_at dksX2_make_0 0 rfl rfl)
theorem dX2_make_1 : decode cX2_make 1 = .ok (.getfield 27, 3) := dk_180 0 27 (dk_at dksX2_make_0 1 rfl rfl)
theorem dX2_make_4 : decode cX2_make 4 = .ok (.aload_n 0, 1) := dk_42 (dk_at dksX2_make_0 4 rfl rfl)
theorem dX2_make_5 : decode cX2_make 5 = .ok (.getfield 97, 3) := dk_180 0 97 (dk_at dksX2_make_0 5 rfl rfl)
theorem dX2_make_8 : decode cX2_make 8 = .ok (.iload_n 1, 1) := dk_27 (dk_at dksX2_make_0 8 rfl rfl)
theorem dX2_make_9 : decode cX2_make 9 = .ok (.iastore, 1) := dk_79 (dk_at dksX2_make_0 9 rfl rfl)
theorem dX2_make_10 : decode cX2_make 10 = .ok (.aload_n 0, 1) := dk_42 (dk_at dksX2_make_0 10 rfl rfl)
theorem dX2_make_11 : decode cX2_make 11 = .ok (.dup, 1) := dk_89 (dk_at dksX2_make_0 11 rfl rfl)
theorem dX2_make_12 : decode cX2_make 12 = .ok (.getfield 97, 3) := dk_180 0 97 (dk_at dksX2_make_0 12 rfl rfl)
theorem dX2_make_15 : decode cX2_make 15 = .ok (.iconst 1, 1) := dk_4 (dk_at dksX2_make_0 15 rfl rfl)
theorem dX2_make_16 : decode cX2_make 16 = .ok (.iadd, 1) := dk_96 (dk_at dksX2_make_0 16 rfl rfl)
theorem dX2_make_17 : decode cX2_make 17 = .ok (.putfield 97, 3) := dk_181 0 97 (dk_at dksX2_make_0 17 rfl rfl)
theorem dX2_make_20 : decode cX2_make 20 = .ok (.return_, 1) := dk_177 (dk_at dksX2_make_0 20 rfl rfl)
abbrev cX2_takesOut : ByteArray := prog_15_method_27_code
def yX2_takesOut : MethodName := ⟨RX2, "takesOut", "(II)V"⟩
def dkwX2_takesOut_10 : List UInt8 := [153, 0, 7, 3, 167, 0, 4, 4, 96, 182, 0, 172, 167, 255, 23, 177]
abbrev dktX2_takesOut_10 : List UInt8 := dkwX2_takesOut_10 ++ []
def dkwX2_takesOut_9 : List UInt8 := [104, 21, 8, 153, 0, 7, 3, 167, 0, 4, 4, 96, 182, 0, 172, 42, 5, 21, 5, 104, 21, 7]
abbrev dktX2_takesOut_9 : List UInt8 := dkwX2_takesOut_9 ++ dktX2_takesOut_10
def dkwX2_takesOut_8 : List UInt8 := [153, 0, 7, 6, 167, 0, 13, 21, 7, 153, 0, 7, 8, 167, 0, 4, 7, 182, 0, 168, 42, 5, 21, 6]
abbrev dktX2_takesOut_8 : List UInt8 := dkwX2_takesOut_8 ++ dktX2_takesOut_9
def dkwX2_takesOut_7 : List UInt8 := [28, 182, 0, 182, 54, 8, 42, 3, 182, 0, 168, 42, 3, 182, 0, 168, 42, 21, 7, 153, 0, 12, 21, 8]
abbrev dktX2_takesOut_7 : List UInt8 := dkwX2_takesOut_7 ++ dktX2_takesOut_8
def dkwX2_takesOut_6 : List UInt8 := [160, 0, 12, 42, 21, 5, 182, 0, 179, 167, 0, 97, 42, 21, 5, 28, 182, 0, 182, 54, 7, 42, 21, 6]
abbrev dktX2_takesOut_6 : List UInt8 := dkwX2_takesOut_6 ++ dktX2_takesOut_7
def dkwX2_takesOut_5 : List UInt8 := [182, 0, 179, 167, 0, 127, 42, 21, 5, 28, 182, 0, 182, 154, 0, 23, 42, 180, 0, 24, 21, 6, 46, 28]
abbrev dktX2_takesOut_5 : List UInt8 := dkwX2_takesOut_5 ++ dktX2_takesOut_6
def dkwX2_takesOut_4 : List UInt8 := [21, 4, 28, 182, 0, 182, 154, 0, 22, 42, 3, 182, 0, 168, 42, 5, 182, 0, 168, 42, 21, 4]
abbrev dktX2_takesOut_4 : List UInt8 := dkwX2_takesOut_4 ++ dktX2_takesOut_5
def dkwX2_takesOut_3 : List UInt8 := [167, 0, 175, 42, 180, 0, 24, 21, 4, 46, 28, 160, 0, 11, 42, 4, 182, 0, 168, 167, 0, 156, 42]
abbrev dktX2_takesOut_3 : List UInt8 := dkwX2_takesOut_3 ++ dktX2_takesOut_4
def dkwX2_takesOut_2 : List UInt8 := [182, 0, 165, 167, 0, 4, 3, 54, 6, 29, 5, 112, 4, 160, 0, 12, 42, 21, 4, 182, 0, 179]
abbrev dktX2_takesOut_2 : List UInt8 := dkwX2_takesOut_2 ++ dktX2_takesOut_3
def dkwX2_takesOut_1 : List UInt8 := [29, 5, 108, 54, 4, 21, 4, 4, 96, 54, 5, 42, 180, 0, 24, 21, 4, 46, 154, 0, 12, 42, 21, 5]
abbrev dktX2_takesOut_1 : List UInt8 := dkwX2_takesOut_1 ++ dktX2_takesOut_2
def dkwX2_takesOut_0 : List UInt8 := [42, 3, 181, 0, 94, 42, 5, 27, 104, 182, 0, 172, 42, 180, 0, 94, 158, 0, 232, 42, 182, 0, 175, 62]
abbrev dktX2_takesOut_0 : List UInt8 := dkwX2_takesOut_0 ++ dktX2_takesOut_1
theorem dksX2_takesOut_0 : cX2_takesOut.data.toList.drop 0 = dktX2_takesOut_0 := by decide +kernel
theorem dksX2_takesOut_1 : cX2_takesOut.data.toList.drop 24 = dktX2_takesOut_1 := dk_seg dksX2_takesOut_0 24 rfl rfl
theorem dksX2_takesOut_2 : cX2_takesOut.data.toList.drop 48 = dktX2_takesOut_2 := dk_seg dksX2_takesOut_1 24 rfl rfl
theorem dksX2_takesOut_3 : cX2_takesOut.data.toList.drop 70 = dktX2_takesOut_3 := dk_seg dksX2_takesOut_2 22 rfl rfl
theorem dksX2_takesOut_4 : cX2_takesOut.data.toList.drop 93 = dktX2_takesOut_4 := dk_seg dksX2_takesOut_3 23 rfl rfl
theorem dksX2_takesOut_5 : cX2_takesOut.data.toList.drop 115 = dktX2_takesOut_5 := dk_seg dksX2_takesOut_4 22 rfl rfl
theorem dksX2_takesOut_6 : cX2_takesOut.data.toList.drop 139 = dktX2_takesOut_6 := dk_seg dksX2_takesOut_5 24 rfl rfl
theorem dksX2_takesOut_7 : cX2_takesOut.data.toList.drop 163 = dktX2_takesOut_7 := dk_seg dksX2_takesOut_6 24 rfl rfl
theorem dksX2_takesOut_8 : cX2_takesOut.data.toList.drop 187 = dktX2_takesOut_8 := dk_seg dksX2_takesOut_7 24 rfl rfl
theorem dksX2_takesOut_9 : cX2_takesOut.data.toList.drop 211 = dktX2_takesOut_9 := dk_seg dksX2_takesOut_8 24 rfl rfl
theorem dksX2_takesOut_10 : cX2_takesOut.data.toList.drop 233 = dktX2_takesOut_10 := dk_seg dksX2_takesOut_9 22 rfl rfl
theorem dX2_takesOut_0 : decode cX2_takesOut 0 = .ok (.aload_n 0, 1) := dk_42 (dk_at dksX2_takesOut_0 0 rfl rfl)
theorem dX2_takesOut_1 : decode cX2_takesOut 1 = .ok (.iconst 0, 1) := dk_3 (dk_at dksX2_takesOut_0 1 rfl rfl)
theorem dX2_takesOut_2 : decode cX2_takesOut 2 = .ok (.putfield 94, 3) := dk_181 0 94 (dk_at dksX2_takesOut_0 2 rfl rfl)
theorem dX2_takesOut_5 : decode cX2_takesOut 5 = .ok (.aload_n 0, 1) := dk_42 (dk_at dksX2_takesOut_0 5 rfl rfl)
theorem dX2_takesOut_6 : decode cX2_takesOut 6 = .ok (.iconst 2, 1) := dk_5 (dk_at dksX2_takesOut_0 6 rfl rfl)
theorem dX2_takesOut_7 : decode cX2_takesOut 7 = .ok (.iload_n 1, 1) := dk_27 (dk_at dksX2_takesOut_0 7 rfl rfl)
theorem dX2_takesOut_8 : decode cX2_takesOut 8 = .ok (.imul, 1) := dk_104 (dk_at dksX2_takesOut_0 8 rfl rfl)
theorem dX2_takesOut_9 : decode cX2_takesOut 9 = .ok (.invokevirtual 172, 3) := dk_182 0 172 (dk_at dksX2_takesOut_0 9 rfl rfl)
theorem dX2_takesOut_12 : decode cX2_takesOut 12 = .ok (.aload_n 0, 1) := dk_42 (dk_at dksX2_takesOut_0 12 rfl rfl)
theorem dX2_takesOut_13 : decode cX2_takesOut 13 = .ok (.getfield 94, 3) := dk_180 0 94 (dk_at dksX2_takesOut_0 13 rfl rfl)
theorem dX2_takesOut_16 : decode cX2_takesOut 16 = .ok (.ifCond .le 232, 3) := dk_158 0 232 (dk_at dksX2_takesOut_0 16 rfl rfl)
theorem dX2_takesOut_19 : decode cX2_takesOut 19 = .ok (.aload_n 0, 1) := dk_42 (dk_at dksX2_takesOut_0 19 rfl rfl)
theorem dX2_takesOut_20 : decode cX2_takesOut 20 = .ok (.invokevirtual 175, 3) := dk_182 0 175 (dk_at dksX2_takesOut_0 20 rfl rfl)
theorem dX2_takesOut_23 : decode cX2_takesOut 23 = .ok (.istore_n 3, 1) := dk_62 (dk_at dksX2_takesOut_0 23 rfl rfl)
theorem dX2_takesOut_24 : decode cX2_takesOut 24 = .ok (.iload_n 3, 1) := dk_29 (dk_at dksX2_takesOut_1 0 rfl rfl)
theorem dX2_takesOut_25 : decode cX2_takesOut 25 = .ok (.iconst 2, 1) := dk_5 (dk_at dksX2_takesOut_1 1 rfl rfl)
theorem dX2_takesOut_26 : decode cX2_takesOut 26 = .ok (.idiv, 1) := dk_108 (dk_at dksX2_takesOut_1 2 rfl rfl)
theorem dX2_takesOut_27 : decode cX2_takesOut 27 = .ok (.istore 4, 2) := dk_54 4 (dk_at dksX2_takesOut_1 3 rfl rfl)
theorem dX2_takesOut_29 : decode cX2_takesOut 29 = .ok (.iload 4, 2) := dk_21 4 (dk_at dksX2_takesOut_1 5 rfl rfl)
theorem dX2_takesOut_31 : decode cX2_takesOut 31 = .ok (.iconst 1, 1) := dk_4 (dk_at dksX2_takesOut_1 7 rfl rfl)
theorem dX2_takesOut_32 : decode cX2_takesOut 32 = .ok (.iadd, 1) := dk_96 (dk_at dksX2_takesOut_1 8 rfl rfl)
theorem dX2_takesOut_33 : decode cX2_takesOut 33 = .ok (.istore 5, 2) := dk_54 5 (dk_at dksX2_takesOut_1 9 rfl rfl)
theorem dX2_takesOut_35 : decode cX2_takesOut 35 = .ok (.aload_n 0, 1) := dk_42 (dk_at dksX2_takesOut_1 11 rfl rfl)
theorem dX2_takesOut_36 : decode cX2_takesOut 36 = .ok (.getfield 24, 3) := dk_180 0 24 (dk_at dksX2_takesOut_1 12 rfl rfl)
theorem dX2_takesOut_39 : decode cX2_takesOut 39 = .ok (.iload 4, 2) := dk_21 4 (dk_at dksX2_takesOut_1 15 rfl rfl)
theorem dX2_takesOut_41 : decode cX2_takesOut 41 = .ok (.iaload, 1) := dk_46 (dk_at dksX2_takesOut_1 17 rfl rfl)
theorem dX2_takesOut_42 : decode cX2_takesOut 42 = .ok (.ifCond .ne 12, 3) := dk_154 0 12 (dk_at dksX2_takesOut_1 18 rfl rfl)
theorem dX2_takesOut_45 : decode cX2_takesOut 45 = .ok (.aload_n 0, 1) := dk_42 (dk_at dksX2_takesOut_1 21 rfl rfl)
theorem dX2_takesOut_46 : decode cX2_takesOut 46 = .ok (.iload 5, 2) := dk_21 5 (dk_at dksX2_takesOut_1 22 rfl rfl)
theorem dX2_takesOut_48 : decode cX2_takesOut 48 = .ok (.invokevirtual 165, 3) := dk_182 0 165 (dk_at dksX2_takesOut_2 0 rfl rfl)
theorem dX2_takesOut_51 : decode cX2_takesOut 51 = .ok (.goto 4, 3) := dk_167 0 4 (dk_at dksX2_takesOut_2 3 rfl rfl)
theorem dX2_takesOut_54 : decode cX2_takesOut 54 = .ok (.iconst 0, 1) := dk_3 (dk_at dksX2_takesOut_2 6 rfl rfl)
theorem dX2_takesOut_55 : decode cX2_takesOut 55 = .ok (.istore 6, 2) := dk_54 6 (dk_at dksX2_takesOut_2 7 rfl rfl)
theorem dX2_takesOut_57 : decode cX2_takesOut 57 = .ok (.iload_n 3, 1) := dk_29 (dk_at dksX2_takesOut_2 9 rfl rfl)
theorem dX2_takesOut_58 : decode cX2_takesOut 58 = .ok (.iconst 2, 1) := dk_5 (dk_at dksX2_takesOut_2 10 rfl rfl)
theorem dX2_takesOut_59 : decode cX2_takesOut 59 = .ok (.irem, 1) := dk_112 (dk_at dksX2_takesOut_2 11 rfl rfl)
theorem dX2_takesOut_60 : decode cX2_takesOut 60 = .ok (.iconst 1, 1) := dk_4 (dk_at dksX2_takesOut_2 12 rfl rfl)
theorem dX2_takesOut_61 : decode cX2_takesOut 61 = .ok (.if_icmp .ne 12, 3) := dk_160 0 12 (dk_at dksX2_takesOut_2 13 rfl rfl)
theorem dX2_takesOut_64 : decode cX2_takesOut 64 = .ok (.aload_n 0, 1) := dk_42 (dk_at dksX2_takesOut_2 16 rfl rfl)
theorem dX2_takesOut_65 : decode cX2_takesOut 65 = .ok (.iload 4, 2) := dk_21 4 (dk_at dksX2_takesOut_2 17 rfl rfl)
theorem dX2_takesOut_67 : decode cX2_takesOut 67 = .ok (.invokevirtual 179, 3) := dk_182 0 179 (dk_at dksX2_takesOut_2 19 rfl rfl)
theorem dX2_takesOut_70 : decode cX2_takesOut 70 = .ok (.goto 175, 3) := dk_167 0 175 (dk_at dksX2_takesOut_3 0 rfl rfl)
theorem dX2_takesOut_73 : decode cX2_takesOut 73 = .ok (.aload_n 0, 1) := dk_42 (dk_at dksX2_takesOut_3 3 rfl rfl)
theorem dX2_takesOut_74 : decode cX2_takesOut 74 = .ok (.getfield 24, 3) := dk_180 0 24 (dk_at dksX2_takesOut_3 4 rfl rfl)
theorem dX2_takesOut_77 : decode cX2_takesOut 77 = .ok (.iload 4, 2) := dk_21 4 (dk_at dksX2_takesOut_3 7 rfl rfl)
theorem dX2_takesOut_79 : decode cX2_takesOut 79 = .ok (.iaload, 1) := dk_46 (dk_at dksX2_takesOut_3 9 rfl rfl)
theorem dX2_takesOut_80 : decode cX2_takesOut 80 = .ok (.iload_n 2, 1) := dk_28 (dk_at dksX2_takesOut_3 10 rfl rfl)
theorem dX2_takesOut_81 : decode cX2_takesOut 81 = .ok (.if_icmp .ne 11, 3) := dk_160 0 11 (dk_at dksX2_takesOut_3 11 rfl rfl)
theorem dX2_takesOut_84 : decode cX2_takesOut 84 = .ok (.aload_n 0, 1) := dk_42 (dk_at dksX2_takesOut_3 14 rfl rfl)
theorem dX2_takesOut_85 : decode cX2_takesOut 85 = .ok (.iconst 1, 1) := dk_4 (dk_at dksX2_takesOut_3 15 rfl rfl)
theorem dX2_takesOut_86 : decode cX2_takesOut 86 = .ok (.invokevirtual 168, 3) := dk_182 0 168 (dk_at dksX2_takesOut_3 16 rfl rfl)
theorem dX2_takesOut_89 : decode cX2_takesOut 89 = .ok (.goto 156, 3) := dk_167 0 156 (dk_at dksX2_takesOut_3 19 rfl rfl)
theorem dX2_takesOut_92 : decode cX2_takesOut 92 = .ok (.aload_n 0, 1) := dk_42 (dk_at dksX2_takesOut_3 22 rfl rfl)
theorem dX2_takesOut_93 : decode cX2_takesOut 93 = .ok (.iload 4, 2) := dk_21 4 (dk_at dksX2_takesOut_4 0 rfl rfl)
theorem dX2_takesOut_95 : decode cX2_takesOut 95 = .ok (.iload_n 2, 1) := dk_28 (dk_at dksX2_takesOut_4 2 rfl rfl)
theorem dX2_takesOut_96 : decode cX2_takesOut 96 = .ok (.invokevirtual 182, 3) := dk_182 0 182 (dk_at dksX2_takesOut_4 3 rfl rfl)
theorem dX2_takesOut_99 : decode cX2_takesOut 99 = .ok (.ifCond .ne 22, 3) := dk_154 0 22 (dk_at dksX2_takesOut_4 6 rfl rfl)
theorem dX2_takesOut_102 : decode cX2_takesOut 102 = .ok (.aload_n 0, 1) := dk_42 (dk_at dksX2_takesOut_4 9 rfl rfl)
theorem dX2_takesOut_103 : decode cX2_takesOut 103 = .ok (.iconst 0, 1) := dk_3 (dk_at dksX2_takesOut_4 10 rfl rfl)
theorem dX2_takesOut_104 : decode cX2_takesOut 104 = .ok (.invokevirtual 168, 3) := dk_182 0 168 (dk_at dksX2_takesOut_4 11 rfl rfl)
theorem dX2_takesOut_107 : decode cX2_takesOut 107 = .ok (.aload_n 0, 1) := dk_42 (dk_at dksX2_takesOut_4 14 rfl rfl)
theorem dX2_takesOut_108 : decode cX2_takesOut 108 = .ok (.iconst 2, 1) := dk_5 (dk_at dksX2_takesOut_4 15 rfl rfl)
theorem dX2_takesOut_109 : decode cX2_takesOut 109 = .ok (.invokevirtual 168, 3) := dk_182 0 168 (dk_at dksX2_takesOut_4 16 rfl rfl)
theorem dX2_takesOut_112 : decode cX2_takesOut 112 = .ok (.aload_n 0, 1) := dk_42 (dk_at dksX2_takesOut_4 19 rfl rfl)
theorem dX2_takesOut_113 : decode cX2_takesOut 113 = .ok (.iload 4, 2) := dk_21 4 (dk_at dksX2_takesOut_4 20 rfl rfl)
theorem dX2_takesOut_115 : decode cX2_takesOut 115 = .ok (.invokevirtual 179, 3) := dk_182 0 179 (dk_at dksX2_takesOut_5 0 rfl rfl)
theorem dX2_takesOut_118 : decode cX2_takesOut 118 = .ok (.goto 127, 3) := dk_167 0 127 (dk_at dksX2_takesOut_5 3 rfl rfl)
theorem dX2_takesOut_121 : decode cX2_takesOut 121 = .ok (.aload_n 0, 1) := dk_42 (dk_at dksX2_takesOut_5 6 rfl rfl)
theorem dX2_takesOut_122 : decode cX2_takesOut 122 = .ok (.iload 5, 2) := dk_21 5 (dk_at dksX2_takesOut_5 7 rfl rfl)
theorem dX2_takesOut_124 : decode cX2_takesOut 124 = .ok (.iload_n 2, 1) := dk_28 (dk_at dksX2_takesOut_5 9 rfl rfl)
theorem dX2_takesOut_125 : decode cX2_takesOut 125 = .ok (.invokevirtual 182, 3) := dk_182 0 182 (dk_at dksX2_takesOut_5 10 rfl rfl)
theorem dX2_takesOut_128 : decode cX2_takesOut 128 = .ok (.ifCond .ne 23, 3) := dk_154 0 23 (dk_at dksX2_takesOut_5 13 rfl rfl)
theorem dX2_takesOut_131 : decode cX2_takesOut 131 = .ok (.aload_n 0, 1) := dk_42 (dk_at dksX2_takesOut_5 16 rfl rfl)
theorem dX2_takesOut_132 : decode cX2_takesOut 132 = .ok (.getfield 24, 3) := dk_180 0 24 (dk_at dksX2_takesOut_5 17 rfl rfl)
theorem dX2_takesOut_135 : decode cX2_takesOut 135 = .ok (.iload 6, 2) := dk_21 6 (dk_at dksX2_takesOut_5 20 rfl rfl)
theorem dX2_takesOut_137 : decode cX2_takesOut 137 = .ok (.iaload, 1) := dk_46 (dk_at dksX2_takesOut_5 22 rfl rfl)
theorem dX2_takesOut_138 : decode cX2_takesOut 138 = .ok (.iload_n 2, 1) := dk_28 (dk_at dksX2_takesOut_5 23 rfl rfl)
theorem dX2_takesOut_139 : decode cX2_takesOut 139 = .ok (.if_icmp .ne 12, 3) := dk_160 0 12 (dk_at dksX2_takesOut_6 0 rfl rfl)
theorem dX2_takesOut_142 : decode cX2_takesOut 142 = .ok (.aload_n 0, 1) := dk_42 (dk_at dksX2_takesOut_6 3 rfl rfl)
theorem dX2_takesOut_143 : decode cX2_takesOut 143 = .ok (.iload 5, 2) := dk_21 5 (dk_at dksX2_takesOut_6 4 rfl rfl)
theorem dX2_takesOut_145 : decode cX2_takesOut 145 = .ok (.invokevirtual 179, 3) := dk_182 0 179 (dk_at dksX2_takesOut_6 6 rfl rfl)
theorem dX2_takesOut_148 : decode cX2_takesOut 148 = .ok (.goto 97, 3) := dk_167 0 97 (dk_at dksX2_takesOut_6 9 rfl rfl)
theorem dX2_takesOut_151 : decode cX2_takesOut 151 = .ok (.aload_n 0, 1) := dk_42 (dk_at dksX2_takesOut_6 12 rfl rfl)
theorem dX2_takesOut_152 : decode cX2_takesOut 152 = .ok (.iload 5, 2) := dk_21 5 (dk_at dksX2_takesOut_6 13 rfl rfl)
theorem dX2_takesOut_154 : decode cX2_takesOut 154 = .ok (.iload_n 2, 1) := dk_28 (dk_at dksX2_takesOut_6 15 rfl rfl)
theorem dX2_takesOut_155 : decode cX2_takesOut 155 = .ok (.invokevirtual 182, 3) := dk_182 0 182 (dk_at dksX2_takesOut_6 16 rfl rfl)
theorem dX2_takesOut_158 : decode cX2_takesOut 158 = .ok (.istore 7, 2) := dk_54 7 (dk_at dksX2_takesOut_6 19 rfl rfl)
theorem dX2_takesOut_160 : decode cX2_takesOut 160 = .ok (.aload_n 0, 1) := dk_42 (dk_at dksX2_takesOut_6 21 rfl rfl)
theorem dX2_takesOut_161 : decode cX2_takesOut 161 = .ok (.iload 6, 2) := dk_21 6 (dk_at dksX2_takesOut_6 22 rfl rfl)
theorem dX2_takesOut_163 : decode cX2_takesOut 163 = .ok (.iload_n 2, 1) := dk_28 (dk_at dksX2_takesOut_7 0 rfl rfl)
theorem dX2_takesOut_164 : decode cX2_takesOut 164 = .ok (.invokevirtual 182, 3) := dk_182 0 182 (dk_at dksX2_takesOut_7 1 rfl rfl)
theorem dX2_takesOut_167 : decode cX2_takesOut 167 = .ok (.istore 8, 2) := dk_54 8 (dk_at dksX2_takesOut_7 4 rfl rfl)
theorem dX2_takesOut_169 : decode cX2_takesOut 169 = .ok (.aload_n 0, 1) := dk_42 (dk_at dksX2_takesOut_7 6 rfl rfl)
theorem dX2_takesOut_170 : decode cX2_takesOut 170 = .ok (.iconst 0, 1) := dk_3 (dk_at dksX2_takesOut_7 7 rfl rfl)
theorem dX2_takesOut_171 : decode cX2_takesOut 171 = .ok (.invokevirtual 168, 3) := dk_182 0 168 (dk_at dksX2_takesOut_7 8 rfl rfl)
theorem dX2_takesOut_174 : decode cX2_takesOut 174 = .ok (.aload_n 0, 1) := dk_42 (dk_at dksX2_takesOut_7 11 rfl rfl)
theorem dX2_takesOut_175 : decode cX2_takesOut 175 = .ok (.iconst 0, 1) := dk_3 (dk_at dksX2_takesOut_7 12 rfl rfl)
theorem dX2_takesOut_176 : decode cX2_takesOut 176 = .ok (.invokevirtual 168, 3) := dk_182 0 168 (dk_at dksX2_takesOut_7 13 rfl rfl)
theorem dX2_takesOut_179 : decode cX2_takesOut 179 = .ok (.aload_n 0, 1) := dk_42 (dk_at dksX2_takesOut_7 16 rfl rfl)
theorem dX2_takesOut_180 : decode cX2_takesOut 180 = .ok (.iload 7, 2) := dk_21 7 (dk_at dksX2_takesOut_7 17 rfl rfl)
theorem dX2_takesOut_182 : decode cX2_takesOut 182 = .ok (.ifCond .eq 12, 3) := dk_153 0 12 (dk_at dksX2_takesOut_7 19 rfl rfl)
theorem dX2_takesOut_185 : decode cX2_takesOut 185 = .ok (.iload 8, 2) := dk_21 8 (dk_at dksX2_takesOut_7 22 rfl rfl)
theorem dX2_takesOut_187 : decode cX2_takesOut 187 = .ok (.ifCond .eq 7, 3) := dk_153 0 7 (dk_at dksX2_takesOut_8 0 rfl rfl)
theorem dX2_takesOut_190 : decode cX2_takesOut 190 = .ok (.iconst 3, 1) := dk_6 (dk_at dksX2_takesOut_8 3 rfl rfl)
theorem dX2_takesOut_191 : decode cX2_takesOut 191 = .ok (.goto 13, 3) := dk_167 0 13 (dk_at dksX2_takesOut_8 4 rfl rfl)
theorem dX2_takesOut_194 : decode cX2_takesOut 194 = .ok (.iload 7, 2) := dk_21 7 (dk_at dksX2_takesOut_8 7 rfl rfl)
theorem dX2_takesOut_196 : decode cX2_takesOut 196 = .ok (.ifCond .eq 7, 3) := dk_153 0 7 (dk_at dksX2_takesOut_8 9 rfl rfl)
theorem dX2_takesOut_199 : decode cX2_takesOut 199 = .ok (.iconst 5, 1) := dk_8 (dk_at dksX2_takesOut_8 12 rfl rfl)
theorem dX2_takesOut_200 : decode cX2_takesOut 200 = .ok (.goto 4, 3) := dk_167 0 4 (dk_at dksX2_takesOut_8 13 rfl rfl)
theorem dX2_takesOut_203 : decode cX2_takesOut 203 = .ok (.iconst 4, 1) := dk_7 (dk_at dksX2_takesOut_8 16 rfl rfl)
theorem dX2_takesOut_204 : decode cX2_takesOut 204 = .ok (.invokevirtual 168, 3) := dk_182 0 168 (dk_at dksX2_takesOut_8 17 rfl rfl)
theorem dX2_takesOut_207 : decode cX2_takesOut 207 = .ok (.aload_n 0, 1) := dk_42 (dk_at dksX2_takesOut_8 20 rfl rfl)
theorem dX2_takesOut_208 : decode cX2_takesOut 208 = .ok (.iconst 2, 1) := dk_5 (dk_at dksX2_takesOut_8 21 rfl rfl)
theorem dX2_takesOut_209 : decode cX2_takesOut 209 = .ok (.iload 6, 2) := dk_21 6 (dk_at dksX2_takesOut_8 22 rfl rfl)
theorem dX2_takesOut_211 : decode cX2_takesOut 211 = .ok (.imul, 1) := dk_104 (dk_at dksX2_takesOut_9 0 rfl rfl)
theorem dX2_takesOut_212 : decode cX2_takesOut 212 = .ok (.iload 8, 2) := dk_21 8 (dk_at dksX2_takesOut_9 1 rfl rfl)
theorem dX2_takesOut_214 : decode cX2_takesOut 214 = .ok (.ifCond .eq 7, 3) := dk_153 0 7 (dk_at dksX2_takesOut_9 3 rfl rfl)
theorem dX2_takesOut_217 : decode cX2_takesOut 217 = .ok (.iconst 0, 1) := dk_3 (dk_at dksX2_takesOut_9 6 rfl rfl)
theorem dX2_takesOut_218 : decode cX2_takesOut 218 = .ok (.goto 4, 3) := dk_167 0 4 (dk_at dksX2_takesOut_9 7 rfl rfl)
theorem dX2_takesOut_221 : decode cX2_takesOut 221 = .ok (.iconst 1, 1) := dk_4 (dk_at dksX2_takesOut_9 10 rfl rfl)
theorem dX2_takesOut_222 : decode cX2_takesOut 222 = .ok (.iadd, 1) := dk_96 (dk_at dksX2_takesOut_9 11 rfl rfl)
theorem dX2_takesOut_223 : decode cX2_takesOut 223 = .ok (.invokevirtual 172, 3) := dk_182 0 172 (dk_at dksX2_takesOut_9 12 rfl rfl)
theorem dX2_takesOut_226 : decode cX2_takesOut 226 = .ok (.aload_n 0, 1) := dk_42 (dk_at dksX2_takesOut_9 15 rfl rfl)
theorem dX2_takesOut_227 : decode cX2_takesOut 227 = .ok (.iconst 2, 1) := dk_5 (dk_at dksX2_takesOut_9 16 rfl rfl)
theorem dX2_takesOut_228 : decode cX2_takesOut 228 = .ok (.iload 5, 2) := dk_21 5 (dk_at dksX2_takesOut_9 17 rfl rfl)
theorem dX2_takesOut_230 : decode cX2_takesOut 230 = .ok (.imul, 1) := dk_104 (dk_at dksX2_takesOut_9 19 rfl rfl)
theorem dX2_takesOut_231 : decode cX2_takesOut 231 = .ok (.iload 7, 2) := dk_21 7 (dk_at dksX2_takesOut_9 20 rfl rfl)
theorem dX2_takesOut_233 : decode cX2_takesOut 233 = .ok (.ifCond .eq 7, 3) := dk_153 0 7 (dk_at dksX2_takesOut_10 0 rfl rfl)
theorem dX2_takesOut_236 : decode cX2_takesOut 236 = .ok (.iconst 0, 1) := dk_3 (dk_at dksX2_takesOut_10 3 rfl rfl)
theorem dX2_takesOut_237 : decode cX2_takesOut 237 = .ok (.goto 4, 3) := dk_167 0 4 (dk_at dksX2_takesOut_10 4 rfl rfl)
theorem dX2_takesOut_240 : decode cX2_takesOut 240 = .ok (.iconst 1, 1) := dk_4 (dk_at dksX2_takesOut_10 7 rfl rfl)
theorem dX2_takesOut_241 : decode cX2_takesOut 241 = .ok (.iadd, 1) := dk_96 (dk_at dksX2_takesOut_10 8 rfl rfl)
theorem dX2_takesOut_242 : decode cX2_takesOut 242 = .ok (.invokevirtual 172, 3) := dk_182 0 172 (dk_at dksX2_takesOut_10 9 rfl rfl)
theorem dX2_takesOut_245 : decode cX2_takesOut 245 = .ok (.goto (-233), 3) := dk_167 255 23 (dk_at dksX2_takesOut_10 12 rfl rfl)
theorem dX2_takesOut_248 : decode cX2_takesOut 248 = .ok (.return_, 1) := dk_177 (dk_at dksX2_takesOut_10 15 rfl rfl)
abbrev cX2_push : ByteArray := prog_15_method_7_code
def yX2_push : MethodName := ⟨RX2, "push", "(I)V"⟩
def dkwX2_push_0 : List UInt8 := [42, 180, 0, 30, 42, 180, 0, 94, 27, 79, 42, 89, 180, 0, 94, 4, 96, 181, 0, 94, 177]
abbrev dktX2_push_0 : List UInt8 := dkwX2_push_0 ++ []
theorem dksX2_push_0 : cX2_push.data.toList.drop 0 = dktX2_push_0 := by decide +kernel
theorem dX2_push_0 : decode cX2_push 0 = .ok (.aload_n 0, 1) := dk_42 (dk_at dksX2_push_0 0 rfl rfl)
theorem dX2_push_1 : decode cX2_push 1 = .ok (.getfield 30, 3) := dk_180 0 30 (dk_at dksX2_push_0 1 rfl rfl)
theorem dX2_push_4 : decode cX2_push 4 = .ok (.aload_n 0, 1) := dk_42 (dk_at dksX2_push_0 4 rfl rfl)
theorem dX2_push_5 : decode cX2_push 5 = .ok (.getfield 94, 3) := dk_180 0 94 (dk_at dksX2_push_0 5 rfl rfl)
theorem dX2_push_8 : decode cX2_push 8 = .ok (.iload_n 1, 1) := dk_27 (dk_at dksX2_push_0 8 rfl rfl)
theorem dX2_push_9 : decode cX2_push 9 = .ok (.iastore, 1) := dk_79 (dk_at dksX2_push_0 9 rfl rfl)
theorem dX2_push_10 : decode cX2_push 10 = .ok (.aload_n 0, 1) := dk_42 (dk_at dksX2_push_0 10 rfl rfl)
theorem dX2_push_11 : decode cX2_push 11 = .ok (.dup, 1) := dk_89 (dk_at dksX2_push_0 11 rfl rfl)
theorem dX2_push_12 : decode cX2_push 12 = .ok (.getfield 94, 3) := dk_180 0 94 (dk_at dksX2_push_0 12 rfl rfl)
theorem dX2_push_15 : decode cX2_push 15 = .ok (.iconst 1, 1) := dk_4 (dk_at dksX2_push_0 15 rfl rfl)
theorem dX2_push_16 : decode cX2_push 16 = .ok (.iadd, 1) := dk_96 (dk_at dksX2_push_0 16 rfl rfl)
theorem dX2_push_17 : decode cX2_push 17 = .ok (.putfield 94, 3) := dk_181 0 94 (dk_at dksX2_push_0 17 rfl rfl)
theorem dX2_push_20 : decode cX2_push 20 = .ok (.return_, 1) := dk_177 (dk_at dksX2_push_0 20 rfl rfl)
abbrev cX2_pop : ByteArray := prog_15_method_8_code
def yX2_pop : MethodName := ⟨RX2, "pop", "()I"⟩
def dkwX2_pop_0 : List UInt8 := [42, 89, 180, 0, 94, 4, 100, 181, 0, 94, 42, 180, 0, 30, 42, 180, 0, 94, 46, 172]
abbrev dktX2_pop_0 : List UInt8 := dkwX2_pop_0 ++ []
theorem dksX2_pop_0 : cX2_pop.data.toList.drop 0 = dktX2_pop_0 := by decide +kernel
theorem dX2_pop_0 : decode cX2_pop 0 = .ok (.aload_n 0, 1) := dk_42 (dk_at dksX2_pop_0 0 rfl rfl)
theorem dX2_pop_1 : decode cX2_pop 1 = .ok (.dup, 1) := dk_89 (dk_at dksX2_pop_0 1 rfl rfl)
theorem dX2_pop_2 : decode cX2_pop 2 = .ok (.getfield 94, 3) := dk_180 0 94 (dk_at dksX2_pop_0 2 rfl rfl)
theorem dX2_pop_5 : decode cX2_pop 5 = .ok (.iconst 1, 1) := dk_4 (dk_at dksX2_pop_0 5 rfl rfl)
theorem dX2_pop_6 : decode cX2_pop 6 = .ok (.isub, 1) := dk_100 (dk_at dksX2_pop_0 6 rfl rfl)
theorem dX2_pop_7 : decode cX2_pop 7 = .ok (.putfield 94, 3) := dk_181 0 94 (dk_at dksX2_pop_0 7 rfl rfl)
theorem dX2_pop_10 : decode cX2_pop 10 = .ok (.aload_n 0, 1) := dk_42 (dk_at dksX2_pop_0 10 rfl rfl)
theorem dX2_pop_11 : decode cX2_pop 11 = .ok (.getfield 30, 3) := dk_180 0 30 (dk_at dksX2_pop_0 11 rfl rfl)
theorem dX2_pop_14 : decode cX2_pop 14 = .ok (.aload_n 0, 1) := dk_42 (dk_at dksX2_pop_0 14 rfl rfl)
theorem dX2_pop_15 : decode cX2_pop 15 = .ok (.getfield 94, 3) := dk_180 0 94 (dk_at dksX2_pop_0 15 rfl rfl)
theorem dX2_pop_18 : decode cX2_pop 18 = .ok (.iaload, 1) := dk_46 (dk_at dksX2_pop_0 18 rfl rfl)
theorem dX2_pop_19 : decode cX2_pop 19 = .ok (.ireturn, 1) := dk_172 (dk_at dksX2_pop_0 19 rfl rfl)
abbrev cX2_copyTerm : ByteArray := prog_15_method_26_code
def yX2_copyTerm : MethodName := ⟨RX2, "copyTerm", "(I)V"⟩
def dkwX2_copyTerm_1 : List UInt8 := [132, 3, 1, 167, 255, 238, 177]
abbrev dktX2_copyTerm_1 : List UInt8 := dkwX2_copyTerm_1 ++ []
def dkwX2_copyTerm_0 : List UInt8 := [42, 27, 182, 0, 165, 61, 27, 62, 29, 28, 162, 0, 19, 42, 42, 180, 0, 24, 29, 46, 182, 0, 168]
abbrev dktX2_copyTerm_0 : List UInt8 := dkwX2_copyTerm_0 ++ dktX2_copyTerm_1
theorem dksX2_copyTerm_0 : cX2_copyTerm.data.toList.drop 0 = dktX2_copyTerm_0 := by decide +kernel
theorem dksX2_copyTerm_1 : cX2_copyTerm.data.toList.drop 23 = dktX2_copyTerm_1 := dk_seg dksX2_copyTerm_0 23 rfl rfl
theorem dX2_copyTerm_0 : decode cX2_copyTerm 0 = .ok (.aload_n 0, 1) := dk_42 (dk_at dksX2_copyTerm_0 0 rfl rfl)
theorem dX2_copyTerm_1 : decode cX2_copyTerm 1 = .ok (.iload_n 1, 1) := dk_27 (dk_at dksX2_copyTerm_0 1 rfl rfl)
theorem dX2_copyTerm_2 : decode cX2_copyTerm 2 = .ok (.invokevirtual 165, 3) := dk_182 0 165 (dk_at dksX2_copyTerm_0 2 rfl rfl)
theorem dX2_copyTerm_5 : decode cX2_copyTerm 5 = .ok (.istore_n 2, 1) := dk_61 (dk_at dksX2_copyTerm_0 5 rfl rfl)
theorem dX2_copyTerm_6 : decode cX2_copyTerm 6 = .ok (.iload_n 1, 1) := dk_27 (dk_at dksX2_copyTerm_0 6 rfl rfl)
theorem dX2_copyTerm_7 : decode cX2_copyTerm 7 = .ok (.istore_n 3, 1) := dk_62 (dk_at dksX2_copyTerm_0 7 rfl rfl)
theorem dX2_copyTerm_8 : decode cX2_copyTerm 8 = .ok (.iload_n 3, 1) := dk_29 (dk_at dksX2_copyTerm_0 8 rfl rfl)
theorem dX2_copyTerm_9 : decode cX2_copyTerm 9 = .ok (.iload_n 2, 1) := dk_28 (dk_at dksX2_copyTerm_0 9 rfl rfl)
theorem dX2_copyTerm_10 : decode cX2_copyTerm 10 = .ok (.if_icmp .ge 19, 3) := dk_162 0 19 (dk_at dksX2_copyTerm_0 10 rfl rfl)
theorem dX2_copyTerm_13 : decode cX2_copyTerm 13 = .ok (.aload_n 0, 1) := dk_42 (dk_at dksX2_copyTerm_0 13 rfl rfl)
theorem dX2_copyTerm_14 : decode cX2_copyTerm 14 = .ok (.aload_n 0, 1) := dk_42 (dk_at dksX2_copyTerm_0 14 rfl rfl)
theorem dX2_copyTerm_15 : decode cX2_copyTerm 15 = .ok (.getfield 24, 3) := dk_180 0 24 (dk_at dksX2_copyTerm_0 15 rfl rfl)
theorem dX2_copyTerm_18 : decode cX2_copyTerm 18 = .ok (.iload_n 3, 1) := dk_29 (dk_at dksX2_copyTerm_0 18 rfl rfl)
theorem dX2_copyTerm_19 : decode cX2_copyTerm 19 = .ok (.iaload, 1) := dk_46 (dk_at dksX2_copyTerm_0 19 rfl rfl)
theorem dX2_copyTerm_20 : decode cX2_copyTerm 20 = .ok (.invokevirtual 168, 3) := dk_182 0 168 (dk_at dksX2_copyTerm_0 20 rfl rfl)
theorem dX2_copyTerm_23 : decode cX2_copyTerm 23 = .ok (.iinc 3 1, 3) := dk_132 3 1 (dk_at dksX2_copyTerm_1 0 rfl rfl)
theorem dX2_copyTerm_26 : decode cX2_copyTerm 26 = .ok (.goto (-18), 3) := dk_167 255 238 (dk_at dksX2_copyTerm_1 3 rfl rfl)
theorem dX2_copyTerm_29 : decode cX2_copyTerm 29 = .ok (.return_, 1) := dk_177 (dk_at dksX2_copyTerm_1 6 rfl rfl)
abbrev cX2_isFree : ByteArray := prog_15_method_25_code
def yX2_isFree : MethodName := ⟨RX2, "isFree", "(II)Z"⟩
def dkwX2_isFree_2 : List UInt8 := [182, 0, 165, 167, 0, 7, 21, 4, 4, 96, 54, 4, 167, 255, 207, 3, 172]
abbrev dktX2_isFree_2 : List UInt8 := dkwX2_isFree_2 ++ []
def dkwX2_isFree_1 : List UInt8 := [160, 0, 5, 4, 172, 42, 180, 0, 24, 21, 4, 46, 17, 3, 232, 28, 96, 160, 0, 12, 42, 21, 4]
abbrev dktX2_isFree_1 : List UInt8 := dkwX2_isFree_1 ++ dktX2_isFree_2
def dkwX2_isFree_0 : List UInt8 := [42, 27, 182, 0, 165, 62, 27, 54, 4, 21, 4, 29, 162, 0, 49, 42, 180, 0, 24, 21, 4, 46, 28]
abbrev dktX2_isFree_0 : List UInt8 := dkwX2_isFree_0 ++ dktX2_isFree_1
theorem dksX2_isFree_0 : cX2_isFree.data.toList.drop 0 = dktX2_isFree_0 := by decide +kernel
theorem dksX2_isFree_1 : cX2_isFree.data.toList.drop 23 = dktX2_isFree_1 := dk_seg dksX2_isFree_0 23 rfl rfl
theorem dksX2_isFree_2 : cX2_isFree.data.toList.drop 46 = dktX2_isFree_2 := dk_seg dksX2_isFree_1 23 rfl rfl
theorem dX2_isFree_0 : decode cX2_isFree 0 = .ok (.aload_n 0, 1) := dk_42 (dk_at dksX2_isFree_0 0 rfl rfl)
theorem dX2_isFree_1 : decode cX2_isFree 1 = .ok (.iload_n 1, 1) := dk_27 (dk_at dksX2_isFree_0 1 rfl rfl)
theorem dX2_isFree_2 : decode cX2_isFree 2 = .ok (.invokevirtual 165, 3) := dk_182 0 165 (dk_at dksX2_isFree_0 2 rfl rfl)
theorem dX2_isFree_5 : decode cX2_isFree 5 = .ok (.istore_n 3, 1) := dk_62 (dk_at dksX2_isFree_0 5 rfl rfl)
theorem dX2_isFree_6 : decode cX2_isFree 6 = .ok (.iload_n 1, 1) := dk_27 (dk_at dksX2_isFree_0 6 rfl rfl)
theorem dX2_isFree_7 : decode cX2_isFree 7 = .ok (.istore 4, 2) := dk_54 4 (dk_at dksX2_isFree_0 7 rfl rfl)
theorem dX2_isFree_9 : decode cX2_isFree 9 = .ok (.iload 4, 2) := dk_21 4 (dk_at dksX2_isFree_0 9 rfl rfl)
theorem dX2_isFree_11 : decode cX2_isFree 11 = .ok (.iload_n 3, 1) := dk_29 (dk_at dksX2_isFree_0 11 rfl rfl)
theorem dX2_isFree_12 : decode cX2_isFree 12 = .ok (.if_icmp .ge 49, 3) := dk_162 0 49 (dk_at dksX2_isFree_0 12 rfl rfl)
theorem dX2_isFree_15 : decode cX2_isFree 15 = .ok (.aload_n 0, 1) := dk_42 (dk_at dksX2_isFree_0 15 rfl rfl)
theorem dX2_isFree_16 : decode cX2_isFree 16 = .ok (.getfield 24, 3) := dk_180 0 24 (dk_at dksX2_isFree_0 16 rfl rfl)
theorem dX2_isFree_19 : decode cX2_isFree 19 = .ok (.iload 4, 2) := dk_21 4 (dk_at dksX2_isFree_0 19 rfl rfl)
theorem dX2_isFree_21 : decode cX2_isFree 21 = .ok (.iaload, 1) := dk_46 (dk_at dksX2_isFree_0 21 rfl rfl)
theorem dX2_isFree_22 : decode cX2_isFree 22 = .ok (.iload_n 2, 1) := dk_28 (dk_at dksX2_isFree_0 22 rfl rfl)
theorem dX2_isFree_23 : decode cX2_isFree 23 = .ok (.if_icmp .ne 5, 3) := dk_160 0 5 (dk_at dksX2_isFree_1 0 rfl rfl)
theorem dX2_isFree_26 : decode cX2_isFree 26 = .ok (.iconst 1, 1) := dk_4 (dk_at dksX2_isFree_1 3 rfl rfl)
theorem dX2_isFree_27 : decode cX2_isFree 27 = .ok (.ireturn, 1) := dk_172 (dk_at dksX2_isFree_1 4 rfl rfl)
theorem dX2_isFree_28 : decode cX2_isFree 28 = .ok (.aload_n 0, 1) := dk_42 (dk_at dksX2_isFree_1 5 rfl rfl)
theorem dX2_isFree_29 : decode cX2_isFree 29 = .ok (.getfield 24, 3) := dk_180 0 24 (dk_at dksX2_isFree_1 6 rfl rfl)
theorem dX2_isFree_32 : decode cX2_isFree 32 = .ok (.iload 4, 2) := dk_21 4 (dk_at dksX2_isFree_1 9 rfl rfl)
theorem dX2_isFree_34 : decode cX2_isFree 34 = .ok (.iaload, 1) := dk_46 (dk_at dksX2_isFree_1 11 rfl rfl)
theorem dX2_isFree_35 : decode cX2_isFree 35 = .ok (.sipush 1000, 3) := dk_17 3 232 (dk_at dksX2_isFree_1 12 rfl rfl)
theorem dX2_isFree_38 : decode cX2_isFree 38 = .ok (.iload_n 2, 1) := dk_28 (dk_at dksX2_isFree_1 15 rfl rfl)
theorem dX2_isFree_39 : decode cX2_isFree 39 = .ok (.iadd, 1) := dk_96 (dk_at dksX2_isFree_1 16 rfl rfl)
theorem dX2_isFree_40 : decode cX2_isFree 40 = .ok (.if_icmp .ne 12, 3) := dk_160 0 12 (dk_at dksX2_isFree_1 17 rfl rfl)
theorem dX2_isFree_43 : decode cX2_isFree 43 = .ok (.aload_n 0, 1) := dk_42 (dk_at dksX2_isFree_1 20 rfl rfl)
theorem dX2_isFree_44 : decode cX2_isFree 44 = .ok (.iload 4, 2) := dk_21 4 (dk_at dksX2_isFree_1 21 rfl rfl)
theorem dX2_isFree_46 : decode cX2_isFree 46 = .ok (.invokevirtual 165, 3) := dk_182 0 165 (dk_at dksX2_isFree_2 0 rfl rfl)
theorem dX2_isFree_49 : decode cX2_isFree 49 = .ok (.goto 7, 3) := dk_167 0 7 (dk_at dksX2_isFree_2 3 rfl rfl)
theorem dX2_isFree_52 : decode cX2_isFree 52 = .ok (.iload 4, 2) := dk_21 4 (dk_at dksX2_isFree_2 6 rfl rfl)
theorem dX2_isFree_54 : decode cX2_isFree 54 = .ok (.iconst 1, 1) := dk_4 (dk_at dksX2_isFree_2 8 rfl rfl)
theorem dX2_isFree_55 : decode cX2_isFree 55 = .ok (.iadd, 1) := dk_96 (dk_at dksX2_isFree_2 9 rfl rfl)
theorem dX2_isFree_56 : decode cX2_isFree 56 = .ok (.istore 4, 2) := dk_54 4 (dk_at dksX2_isFree_2 10 rfl rfl)
theorem dX2_isFree_58 : decode cX2_isFree 58 = .ok (.goto (-49), 3) := dk_167 255 207 (dk_at dksX2_isFree_2 12 rfl rfl)
theorem dX2_isFree_61 : decode cX2_isFree 61 = .ok (.iconst 0, 1) := dk_3 (dk_at dksX2_isFree_2 15 rfl rfl)
theorem dX2_isFree_62 : decode cX2_isFree 62 = .ok (.ireturn, 1) := dk_172 (dk_at dksX2_isFree_2 16 rfl rfl)
abbrev cX2_takeMade : ByteArray := prog_15_method_14_code
def yX2_takeMade : MethodName := ⟨RX2, "takeMade", "()V"⟩
def dkwX2_takeMade_1 : List UInt8 := [180, 0, 27, 27, 46, 79, 132, 1, 1, 167, 255, 233, 177]
abbrev dktX2_takeMade_1 : List UInt8 := dkwX2_takeMade_1 ++ []
def dkwX2_takeMade_0 : List UInt8 := [42, 42, 180, 0, 97, 181, 0, 104, 3, 60, 27, 42, 180, 0, 97, 162, 0, 21, 42, 180, 0, 24, 27, 42]
abbrev dktX2_takeMade_0 : List UInt8 := dkwX2_takeMade_0 ++ dktX2_takeMade_1
theorem dksX2_takeMade_0 : cX2_takeMade.data.toList.drop 0 = dktX2_takeMade_0 := by decide +kernel
theorem dksX2_takeMade_1 : cX2_takeMade.data.toList.drop 24 = dktX2_takeMade_1 := dk_seg dksX2_takeMade_0 24 rfl rfl
theorem dX2_takeMade_0 : decode cX2_takeMade 0 = .ok (.aload_n 0, 1) := dk_42 (dk_at dksX2_takeMade_0 0 rfl rfl)
theorem dX2_takeMade_1 : decode cX2_takeMade 1 = .ok (.aload_n 0, 1) := dk_42 (dk_at dksX2_takeMade_0 1 rfl rfl)
theorem dX2_takeMade_2 : decode cX2_takeMade 2 = .ok (.getfield 97, 3) := dk_180 0 97 (dk_at dksX2_takeMade_0 2 rfl rfl)
theorem dX2_takeMade_5 : decode cX2_takeMade 5 = .ok (.putfield 104, 3) := dk_181 0 104 (dk_at dksX2_takeMade_0 5 rfl rfl)
theorem dX2_takeMade_8 : decode cX2_takeMade 8 = .ok (.iconst 0, 1) := dk_3 (dk_at dksX2_takeMade_0 8 rfl rfl)
theorem dX2_takeMade_9 : decode cX2_takeMade 9 = .ok (.istore_n 1, 1) := dk_60 (dk_at dksX2_takeMade_0 9 rfl rfl)
theorem dX2_takeMade_10 : decode cX2_takeMade 10 = .ok (.iload_n 1, 1) := dk_27 (dk_at dksX2_takeMade_0 10 rfl rfl)
theorem dX2_takeMade_11 : decode cX2_takeMade 11 = .ok (.aload_n 0, 1) := dk_42 (dk_at dksX2_takeMade_0 11 rfl rfl)
theorem dX2_takeMade_12 : decode cX2_takeMade 12 = .ok (.getfield 97, 3) := dk_180 0 97 (dk_at dksX2_takeMade_0 12 rfl rfl)
theorem dX2_takeMade_15 : decode cX2_takeMade 15 = .ok (.if_icmp .ge 21, 3) := dk_162 0 21 (dk_at dksX2_takeMade_0 15 rfl rfl)
theorem dX2_takeMade_18 : decode cX2_takeMade 18 = .ok (.aload_n 0, 1) := dk_42 (dk_at dksX2_takeMade_0 18 rfl rfl)
theorem dX2_takeMade_19 : decode cX2_takeMade 19 = .ok (.getfield 24, 3) := dk_180 0 24 (dk_at dksX2_takeMade_0 19 rfl rfl)
theorem dX2_takeMade_22 : decode cX2_takeMade 22 = .ok (.iload_n 1, 1) := dk_27 (dk_at dksX2_takeMade_0 22 rfl rfl)
theorem dX2_takeMade_23 : decode cX2_takeMade 23 = .ok (.aload_n 0, 1) := dk_42 (dk_at dksX2_takeMade_0 23 rfl rfl)
theorem dX2_takeMade_24 : decode cX2_takeMade 24 = .ok (.getfield 27, 3) := dk_180 0 27 (dk_at dksX2_takeMade_1 0 rfl rfl)
theorem dX2_takeMade_27 : decode cX2_takeMade 27 = .ok (.iload_n 1, 1) := dk_27 (dk_at dksX2_takeMade_1 3 rfl rfl)
theorem dX2_takeMade_28 : decode cX2_takeMade 28 = .ok (.iaload, 1) := dk_46 (dk_at dksX2_takeMade_1 4 rfl rfl)
theorem dX2_takeMade_29 : decode cX2_takeMade 29 = .ok (.iastore, 1) := dk_79 (dk_at dksX2_takeMade_1 5 rfl rfl)
theorem dX2_takeMade_30 : decode cX2_takeMade 30 = .ok (.iinc 1 1, 3) := dk_132 1 1 (dk_at dksX2_takeMade_1 6 rfl rfl)
theorem dX2_takeMade_33 : decode cX2_takeMade 33 = .ok (.goto (-23), 3) := dk_167 255 233 (dk_at dksX2_takeMade_1 9 rfl rfl)
theorem dX2_takeMade_36 : decode cX2_takeMade 36 = .ok (.return_, 1) := dk_177 (dk_at dksX2_takeMade_1 12 rfl rfl)
abbrev cX2_takeOut : ByteArray := prog_15_method_31_code
def yX2_takeOut : MethodName := ⟨RX2, "takeOut", "(II)I"⟩
def dkwX2_takeOut_3 : List UInt8 := [182, 0, 159, 172]
abbrev dktX2_takeOut_3 : List UInt8 := dkwX2_takeOut_3 ++ []
def dkwX2_takeOut_2 : List UInt8 := [17, 1, 224, 163, 0, 18, 42, 3, 181, 0, 97, 42, 3, 28, 182, 0, 189, 42, 182, 0, 192, 42, 27]
abbrev dktX2_takeOut_2 : List UInt8 := dkwX2_takeOut_2 ++ dktX2_takeOut_3
def dkwX2_takeOut_1 : List UInt8 := [182, 0, 100, 154, 0, 6, 18, 195, 172, 42, 27, 182, 0, 196, 42, 182, 0, 199, 42, 180, 0, 104]
abbrev dktX2_takeOut_1 : List UInt8 := dkwX2_takeOut_1 ++ dktX2_takeOut_2
def dkwX2_takeOut_0 : List UInt8 := [27, 184, 0, 152, 154, 0, 6, 18, 155, 172, 28, 184, 0, 134, 154, 0, 6, 18, 120, 172, 42, 27]
abbrev dktX2_takeOut_0 : List UInt8 := dkwX2_takeOut_0 ++ dktX2_takeOut_1
theorem dksX2_takeOut_0 : cX2_takeOut.data.toList.drop 0 = dktX2_takeOut_0 := by decide +kernel
theorem dksX2_takeOut_1 : cX2_takeOut.data.toList.drop 22 = dktX2_takeOut_1 := dk_seg dksX2_takeOut_0 22 rfl rfl
theorem dksX2_takeOut_2 : cX2_takeOut.data.toList.drop 44 = dktX2_takeOut_2 := dk_seg dksX2_takeOut_1 22 rfl rfl
theorem dksX2_takeOut_3 : cX2_takeOut.data.toList.drop 67 = dktX2_takeOut_3 := dk_seg dksX2_takeOut_2 23 rfl rfl
theorem dX2_takeOut_0 : decode cX2_takeOut 0 = .ok (.iload_n 1, 1) := dk_27 (dk_at dksX2_takeOut_0 0 rfl rfl)
theorem dX2_takeOut_1 : decode cX2_takeOut 1 = .ok (.invokestatic 152, 3) := dk_184 0 152 (dk_at dksX2_takeOut_0 1 rfl rfl)
theorem dX2_takeOut_4 : decode cX2_takeOut 4 = .ok (.ifCond .ne 6, 3) := dk_154 0 6 (dk_at dksX2_takeOut_0 4 rfl rfl)
theorem dX2_takeOut_7 : decode cX2_takeOut 7 = .ok (.ldc 155, 2) := dk_18 155 (dk_at dksX2_takeOut_0 7 rfl rfl)
theorem dX2_takeOut_9 : decode cX2_takeOut 9 = .ok (.ireturn, 1) := dk_172 (dk_at dksX2_takeOut_0 9 rfl rfl)
theorem dX2_takeOut_10 : decode cX2_takeOut 10 = .ok (.iload_n 2, 1) := dk_28 (dk_at dksX2_takeOut_0 10 rfl rfl)
theorem dX2_takeOut_11 : decode cX2_takeOut 11 = .ok (.invokestatic 134, 3) := dk_184 0 134 (dk_at dksX2_takeOut_0 11 rfl rfl)
theorem dX2_takeOut_14 : decode cX2_takeOut 14 = .ok (.ifCond .ne 6, 3) := dk_154 0 6 (dk_at dksX2_takeOut_0 14 rfl rfl)
theorem dX2_takeOut_17 : decode cX2_takeOut 17 = .ok (.ldc 120, 2) := dk_18 120 (dk_at dksX2_takeOut_0 17 rfl rfl)
theorem dX2_takeOut_19 : decode cX2_takeOut 19 = .ok (.ireturn, 1) := dk_172 (dk_at dksX2_takeOut_0 19 rfl rfl)
theorem dX2_takeOut_20 : decode cX2_takeOut 20 = .ok (.aload_n 0, 1) := dk_42 (dk_at dksX2_takeOut_0 20 rfl rfl)
theorem dX2_takeOut_21 : decode cX2_takeOut 21 = .ok (.iload_n 1, 1) := dk_27 (dk_at dksX2_takeOut_0 21 rfl rfl)
theorem dX2_takeOut_22 : decode cX2_takeOut 22 = .ok (.invokevirtual 100, 3) := dk_182 0 100 (dk_at dksX2_takeOut_1 0 rfl rfl)
theorem dX2_takeOut_25 : decode cX2_takeOut 25 = .ok (.ifCond .ne 6, 3) := dk_154 0 6 (dk_at dksX2_takeOut_1 3 rfl rfl)
theorem dX2_takeOut_28 : decode cX2_takeOut 28 = .ok (.ldc 195, 2) := dk_18 195 (dk_at dksX2_takeOut_1 6 rfl rfl)
theorem dX2_takeOut_30 : decode cX2_takeOut 30 = .ok (.ireturn, 1) := dk_172 (dk_at dksX2_takeOut_1 8 rfl rfl)
theorem dX2_takeOut_31 : decode cX2_takeOut 31 = .ok (.aload_n 0, 1) := dk_42 (dk_at dksX2_takeOut_1 9 rfl rfl)
theorem dX2_takeOut_32 : decode cX2_takeOut 32 = .ok (.iload_n 1, 1) := dk_27 (dk_at dksX2_takeOut_1 10 rfl rfl)
theorem dX2_takeOut_33 : decode cX2_takeOut 33 = .ok (.invokevirtual 196, 3) := dk_182 0 196 (dk_at dksX2_takeOut_1 11 rfl rfl)
theorem dX2_takeOut_36 : decode cX2_takeOut 36 = .ok (.aload_n 0, 1) := dk_42 (dk_at dksX2_takeOut_1 14 rfl rfl)
theorem dX2_takeOut_37 : decode cX2_takeOut 37 = .ok (.invokevirtual 199, 3) := dk_182 0 199 (dk_at dksX2_takeOut_1 15 rfl rfl)
theorem dX2_takeOut_40 : decode cX2_takeOut 40 = .ok (.aload_n 0, 1) := dk_42 (dk_at dksX2_takeOut_1 18 rfl rfl)
theorem dX2_takeOut_41 : decode cX2_takeOut 41 = .ok (.getfield 104, 3) := dk_180 0 104 (dk_at dksX2_takeOut_1 19 rfl rfl)
theorem dX2_takeOut_44 : decode cX2_takeOut 44 = .ok (.sipush 480, 3) := dk_17 1 224 (dk_at dksX2_takeOut_2 0 rfl rfl)
theorem dX2_takeOut_47 : decode cX2_takeOut 47 = .ok (.if_icmp .gt 18, 3) := dk_163 0 18 (dk_at dksX2_takeOut_2 3 rfl rfl)
theorem dX2_takeOut_50 : decode cX2_takeOut 50 = .ok (.aload_n 0, 1) := dk_42 (dk_at dksX2_takeOut_2 6 rfl rfl)
theorem dX2_takeOut_51 : decode cX2_takeOut 51 = .ok (.iconst 0, 1) := dk_3 (dk_at dksX2_takeOut_2 7 rfl rfl)
theorem dX2_takeOut_52 : decode cX2_takeOut 52 = .ok (.putfield 97, 3) := dk_181 0 97 (dk_at dksX2_takeOut_2 8 rfl rfl)
theorem dX2_takeOut_55 : decode cX2_takeOut 55 = .ok (.aload_n 0, 1) := dk_42 (dk_at dksX2_takeOut_2 11 rfl rfl)
theorem dX2_takeOut_56 : decode cX2_takeOut 56 = .ok (.iconst 0, 1) := dk_3 (dk_at dksX2_takeOut_2 12 rfl rfl)
theorem dX2_takeOut_57 : decode cX2_takeOut 57 = .ok (.iload_n 2, 1) := dk_28 (dk_at dksX2_takeOut_2 13 rfl rfl)
theorem dX2_takeOut_58 : decode cX2_takeOut 58 = .ok (.invokevirtual 189, 3) := dk_182 0 189 (dk_at dksX2_takeOut_2 14 rfl rfl)
theorem dX2_takeOut_61 : decode cX2_takeOut 61 = .ok (.aload_n 0, 1) := dk_42 (dk_at dksX2_takeOut_2 17 rfl rfl)
theorem dX2_takeOut_62 : decode cX2_takeOut 62 = .ok (.invokevirtual 192, 3) := dk_182 0 192 (dk_at dksX2_takeOut_2 18 rfl rfl)
theorem dX2_takeOut_65 : decode cX2_takeOut 65 = .ok (.aload_n 0, 1) := dk_42 (dk_at dksX2_takeOut_2 21 rfl rfl)
theorem dX2_takeOut_66 : decode cX2_takeOut 66 = .ok (.iload_n 1, 1) := dk_27 (dk_at dksX2_takeOut_2 22 rfl rfl)
theorem dX2_takeOut_67 : decode cX2_takeOut 67 = .ok (.invokevirtual 159, 3) := dk_182 0 159 (dk_at dksX2_takeOut_3 0 rfl rfl)
theorem dX2_takeOut_70 : decode cX2_takeOut 70 = .ok (.ireturn, 1) := dk_172 (dk_at dksX2_takeOut_3 3 rfl rfl)
abbrev cX2_put : ByteArray := prog_15_method_33_code
def yX2_put : MethodName := ⟨RX2, "put", "(III)I"⟩
def dkwX2_put_3 : List UInt8 := [172]
abbrev dktX2_put_3 : List UInt8 := dkwX2_put_3 ++ []
def dkwX2_put_2 : List UInt8 := [42, 3, 182, 0, 168, 42, 28, 182, 0, 202, 42, 29, 182, 0, 202, 42, 182, 0, 192, 42, 27, 182, 0, 159]
abbrev dktX2_put_2 : List UInt8 := dkwX2_put_2 ++ dktX2_put_3
def dkwX2_put_1 : List UInt8 := [42, 28, 182, 0, 100, 153, 0, 11, 42, 29, 182, 0, 100, 154, 0, 6, 18, 195, 172, 42, 3, 181, 0, 97]
abbrev dktX2_put_1 : List UInt8 := dkwX2_put_1 ++ dktX2_put_2
def dkwX2_put_0 : List UInt8 := [27, 184, 0, 152, 153, 0, 17, 28, 184, 0, 152, 153, 0, 10, 29, 184, 0, 152, 154, 0, 6, 18, 155, 172]
abbrev dktX2_put_0 : List UInt8 := dkwX2_put_0 ++ dktX2_put_1
theorem dksX2_put_0 : cX2_put.data.toList.drop 0 = dktX2_put_0 := by decide +kernel
theorem dksX2_put_1 : cX2_put.data.toList.drop 24 = dktX2_put_1 := dk_seg dksX2_put_0 24 rfl rfl
theorem dksX2_put_2 : cX2_put.data.toList.drop 48 = dktX2_put_2 := dk_seg dksX2_put_1 24 rfl rfl
theorem dksX2_put_3 : cX2_put.data.toList.drop 72 = dktX2_put_3 := dk_seg dksX2_put_2 24 rfl rfl
theorem dX2_put_0 : decode cX2_put 0 = .ok (.iload_n 1, 1) := dk_27 (dk_at dksX2_put_0 0 rfl rfl)
theorem dX2_put_1 : decode cX2_put 1 = .ok (.invokestatic 152, 3) := dk_184 0 152 (dk_at dksX2_put_0 1 rfl rfl)
theorem dX2_put_4 : decode cX2_put 4 = .ok (.ifCond .eq 17, 3) := dk_153 0 17 (dk_at dksX2_put_0 4 rfl rfl)
theorem dX2_put_7 : decode cX2_put 7 = .ok (.iload_n 2, 1) := dk_28 (dk_at dksX2_put_0 7 rfl rfl)
theorem dX2_put_8 : decode cX2_put 8 = .ok (.invokestatic 152, 3) := dk_184 0 152 (dk_at dksX2_put_0 8 rfl rfl)
theorem dX2_put_11 : decode cX2_put 11 = .ok (.ifCond .eq 10, 3) := dk_153 0 10 (dk_at dksX2_put_0 11 rfl rfl)
theorem dX2_put_14 : decode cX2_put 14 = .ok (.iload_n 3, 1) := dk_29 (dk_at dksX2_put_0 14 rfl rfl)
theorem dX2_put_15 : decode cX2_put 15 = .ok (.invokestatic 152, 3) := dk_184 0 152 (dk_at dksX2_put_0 15 rfl rfl)
theorem dX2_put_18 : decode cX2_put 18 = .ok (.ifCond .ne 6, 3) := dk_154 0 6 (dk_at dksX2_put_0 18 rfl rfl)
theorem dX2_put_21 : decode cX2_put 21 = .ok (.ldc 155, 2) := dk_18 155 (dk_at dksX2_put_0 21 rfl rfl)
theorem dX2_put_23 : decode cX2_put 23 = .ok (.ireturn, 1) := dk_172 (dk_at dksX2_put_0 23 rfl rfl)
theorem dX2_put_24 : decode cX2_put 24 = .ok (.aload_n 0, 1) := dk_42 (dk_at dksX2_put_1 0 rfl rfl)
theorem dX2_put_25 : decode cX2_put 25 = .ok (.iload_n 2, 1) := dk_28 (dk_at dksX2_put_1 1 rfl rfl)
theorem dX2_put_26 : decode cX2_put 26 = .ok (.invokevirtual 100, 3) := dk_182 0 100 (dk_at dksX2_put_1 2 rfl rfl)
theorem dX2_put_29 : decode cX2_put 29 = .ok (.ifCond .eq 11, 3) := dk_153 0 11 (dk_at dksX2_put_1 5 rfl rfl)
theorem dX2_put_32 : decode cX2_put 32 = .ok (.aload_n 0, 1) := dk_42 (dk_at dksX2_put_1 8 rfl rfl)
theorem dX2_put_33 : decode cX2_put 33 = .ok (.iload_n 3, 1) := dk_29 (dk_at dksX2_put_1 9 rfl rfl)
theorem dX2_put_34 : decode cX2_put 34 = .ok (.invokevirtual 100, 3) := dk_182 0 100 (dk_at dksX2_put_1 10 rfl rfl)
theorem dX2_put_37 : decode cX2_put 37 = .ok (.ifCond .ne 6, 3) := dk_154 0 6 (dk_at dksX2_put_1 13 rfl rfl)
theorem dX2_put_40 : decode cX2_put 40 = .ok (.ldc 195, 2) := dk_18 195 (dk_at dksX2_put_1 16 rfl rfl)
theorem dX2_put_42 : decode cX2_put 42 = .ok (.ireturn, 1) := dk_172 (dk_at dksX2_put_1 18 rfl rfl)
theorem dX2_put_43 : decode cX2_put 43 = .ok (.aload_n 0, 1) := dk_42 (dk_at dksX2_put_1 19 rfl rfl)
theorem dX2_put_44 : decode cX2_put 44 = .ok (.iconst 0, 1) := dk_3 (dk_at dksX2_put_1 20 rfl rfl)
theorem dX2_put_45 : decode cX2_put 45 = .ok (.putfield 97, 3) := dk_181 0 97 (dk_at dksX2_put_1 21 rfl rfl)
theorem dX2_put_48 : decode cX2_put 48 = .ok (.aload_n 0, 1) := dk_42 (dk_at dksX2_put_2 0 rfl rfl)
theorem dX2_put_49 : decode cX2_put 49 = .ok (.iconst 0, 1) := dk_3 (dk_at dksX2_put_2 1 rfl rfl)
theorem dX2_put_50 : decode cX2_put 50 = .ok (.invokevirtual 168, 3) := dk_182 0 168 (dk_at dksX2_put_2 2 rfl rfl)
theorem dX2_put_53 : decode cX2_put 53 = .ok (.aload_n 0, 1) := dk_42 (dk_at dksX2_put_2 5 rfl rfl)
theorem dX2_put_54 : decode cX2_put 54 = .ok (.iload_n 2, 1) := dk_28 (dk_at dksX2_put_2 6 rfl rfl)
theorem dX2_put_55 : decode cX2_put 55 = .ok (.invokevirtual 202, 3) := dk_182 0 202 (dk_at dksX2_put_2 7 rfl rfl)
theorem dX2_put_58 : decode cX2_put 58 = .ok (.aload_n 0, 1) := dk_42 (dk_at dksX2_put_2 10 rfl rfl)
theorem dX2_put_59 : decode cX2_put 59 = .ok (.iload_n 3, 1) := dk_29 (dk_at dksX2_put_2 11 rfl rfl)
theorem dX2_put_60 : decode cX2_put 60 = .ok (.invokevirtual 202, 3) := dk_182 0 202 (dk_at dksX2_put_2 12 rfl rfl)
theorem dX2_put_63 : decode cX2_put 63 = .ok (.aload_n 0, 1) := dk_42 (dk_at dksX2_put_2 15 rfl rfl)
theorem dX2_put_64 : decode cX2_put 64 = .ok (.invokevirtual 192, 3) := dk_182 0 192 (dk_at dksX2_put_2 16 rfl rfl)
theorem dX2_put_67 : decode cX2_put 67 = .ok (.aload_n 0, 1) := dk_42 (dk_at dksX2_put_2 19 rfl rfl)
theorem dX2_put_68 : decode cX2_put 68 = .ok (.iload_n 1, 1) := dk_27 (dk_at dksX2_put_2 20 rfl rfl)
theorem dX2_put_69 : decode cX2_put 69 = .ok (.invokevirtual 159, 3) := dk_182 0 159 (dk_at dksX2_put_2 21 rfl rfl)
theorem dX2_put_72 : decode cX2_put 72 = .ok (.ireturn, 1) := dk_172 (dk_at dksX2_put_3 0 rfl rfl)
abbrev cX2_copyShelf : ByteArray := prog_15_method_32_code
def yX2_copyShelf : MethodName := ⟨RX2, "copyShelf", "(I)V"⟩
def dkwX2_copyShelf_1 : List UInt8 := [46, 182, 0, 168, 132, 2, 1, 167, 255, 227, 177]
abbrev dktX2_copyShelf_1 : List UInt8 := dkwX2_copyShelf_1 ++ []
def dkwX2_copyShelf_0 : List UInt8 := [3, 61, 28, 42, 27, 182, 0, 100, 162, 0, 26, 42, 42, 180, 0, 7, 16, 121, 27, 104, 4, 96, 28, 96]
abbrev dktX2_copyShelf_0 : List UInt8 := dkwX2_copyShelf_0 ++ dktX2_copyShelf_1
theorem dksX2_copyShelf_0 : cX2_copyShelf.data.toList.drop 0 = dktX2_copyShelf_0 := by decide +kernel
theorem dksX2_copyShelf_1 : cX2_copyShelf.data.toList.drop 24 = dktX2_copyShelf_1 := dk_seg dksX2_copyShelf_0 24 rfl rfl
theorem dX2_copyShelf_0 : decode cX2_copyShelf 0 = .ok (.iconst 0, 1) := dk_3 (dk_at dksX2_copyShelf_0 0 rfl rfl)
theorem dX2_copyShelf_1 : decode cX2_copyShelf 1 = .ok (.istore_n 2, 1) := dk_61 (dk_at dksX2_copyShelf_0 1 rfl rfl)
theorem dX2_copyShelf_2 : decode cX2_copyShelf 2 = .ok (.iload_n 2, 1) := dk_28 (dk_at dksX2_copyShelf_0 2 rfl rfl)
theorem dX2_copyShelf_3 : decode cX2_copyShelf 3 = .ok (.aload_n 0, 1) := dk_42 (dk_at dksX2_copyShelf_0 3 rfl rfl)
theorem dX2_copyShelf_4 : decode cX2_copyShelf 4 = .ok (.iload_n 1, 1) := dk_27 (dk_at dksX2_copyShelf_0 4 rfl rfl)
theorem dX2_copyShelf_5 : decode cX2_copyShelf 5 = .ok (.invokevirtual 100, 3) := dk_182 0 100 (dk_at dksX2_copyShelf_0 5 rfl rfl)
theorem dX2_copyShelf_8 : decode cX2_copyShelf 8 = .ok (.if_icmp .ge 26, 3) := dk_162 0 26 (dk_at dksX2_copyShelf_0 8 rfl rfl)
theorem dX2_copyShelf_11 : decode cX2_copyShelf 11 = .ok (.aload_n 0, 1) := dk_42 (dk_at dksX2_copyShelf_0 11 rfl rfl)
theorem dX2_copyShelf_12 : decode cX2_copyShelf 12 = .ok (.aload_n 0, 1) := dk_42 (dk_at dksX2_copyShelf_0 12 rfl rfl)
theorem dX2_copyShelf_13 : decode cX2_copyShelf 13 = .ok (.getfield 7, 3) := dk_180 0 7 (dk_at dksX2_copyShelf_0 13 rfl rfl)
theorem dX2_copyShelf_16 : decode cX2_copyShelf 16 = .ok (.bipush 121, 2) := dk_16 121 (dk_at dksX2_copyShelf_0 16 rfl rfl)
theorem dX2_copyShelf_18 : decode cX2_copyShelf 18 = .ok (.iload_n 1, 1) := dk_27 (dk_at dksX2_copyShelf_0 18 rfl rfl)
theorem dX2_copyShelf_19 : decode cX2_copyShelf 19 = .ok (.imul, 1) := dk_104 (dk_at dksX2_copyShelf_0 19 rfl rfl)
theorem dX2_copyShelf_20 : decode cX2_copyShelf 20 = .ok (.iconst 1, 1) := dk_4 (dk_at dksX2_copyShelf_0 20 rfl rfl)
theorem dX2_copyShelf_21 : decode cX2_copyShelf 21 = .ok (.iadd, 1) := dk_96 (dk_at dksX2_copyShelf_0 21 rfl rfl)
theorem dX2_copyShelf_22 : decode cX2_copyShelf 22 = .ok (.iload_n 2, 1) := dk_28 (dk_at dksX2_copyShelf_0 22 rfl rfl)
theorem dX2_copyShelf_23 : decode cX2_copyShelf 23 = .ok (.iadd, 1) := dk_96 (dk_at dksX2_copyShelf_0 23 rfl rfl)
theorem dX2_copyShelf_24 : decode cX2_copyShelf 24 = .ok (.iaload, 1) := dk_46 (dk_at dksX2_copyShelf_1 0 rfl rfl)
theorem dX2_copyShelf_25 : decode cX2_copyShelf 25 = .ok (.invokevirtual 168, 3) := dk_182 0 168 (dk_at dksX2_copyShelf_1 1 rfl rfl)
theorem dX2_copyShelf_28 : decode cX2_copyShelf 28 = .ok (.iinc 2 1, 3) := dk_132 2 1 (dk_at dksX2_copyShelf_1 4 rfl rfl)
theorem dX2_copyShelf_31 : decode cX2_copyShelf 31 = .ok (.goto (-29), 3) := dk_167 255 227 (dk_at dksX2_copyShelf_1 7 rfl rfl)
theorem dX2_copyShelf_34 : decode cX2_copyShelf 34 = .ok (.return_, 1) := dk_177 (dk_at dksX2_copyShelf_1 10 rfl rfl)
abbrev cX2_putIn : ByteArray := prog_15_method_36_code
def yX2_putIn : MethodName := ⟨RX2, "putIn", "(III)I"⟩
def dkwX2_putIn_5 : List UInt8 := [182, 0, 159, 172]
abbrev dktX2_putIn_5 : List UInt8 := dkwX2_putIn_5 ++ []
def dkwX2_putIn_4 : List UInt8 := [42, 42, 180, 0, 24, 21, 4, 46, 182, 0, 168, 132, 4, 1, 167, 255, 205, 42, 182, 0, 192, 42, 27]
abbrev dktX2_putIn_4 : List UInt8 := dkwX2_putIn_4 ++ dktX2_putIn_5
def dkwX2_putIn_3 : List UInt8 := [16, 120, 163, 0, 39, 42, 180, 0, 24, 21, 4, 46, 28, 160, 0, 11, 42, 29, 182, 0, 202, 167, 0, 14]
abbrev dktX2_putIn_3 : List UInt8 := dkwX2_putIn_3 ++ dktX2_putIn_4
def dkwX2_putIn_2 : List UInt8 := [182, 0, 196, 42, 3, 181, 0, 97, 3, 54, 4, 21, 4, 42, 180, 0, 104, 162, 0, 48, 42, 180, 0, 97]
abbrev dktX2_putIn_2 : List UInt8 := dkwX2_putIn_2 ++ dktX2_putIn_3
def dkwX2_putIn_1 : List UInt8 := [18, 120, 172, 42, 27, 182, 0, 208, 153, 0, 11, 42, 29, 182, 0, 208, 154, 0, 6, 18, 195, 172, 42, 27]
abbrev dktX2_putIn_1 : List UInt8 := dkwX2_putIn_1 ++ dktX2_putIn_2
def dkwX2_putIn_0 : List UInt8 := [27, 184, 0, 152, 153, 0, 10, 29, 184, 0, 152, 154, 0, 6, 18, 155, 172, 28, 184, 0, 134, 154, 0, 6]
abbrev dktX2_putIn_0 : List UInt8 := dkwX2_putIn_0 ++ dktX2_putIn_1
theorem dksX2_putIn_0 : cX2_putIn.data.toList.drop 0 = dktX2_putIn_0 := by decide +kernel
theorem dksX2_putIn_1 : cX2_putIn.data.toList.drop 24 = dktX2_putIn_1 := dk_seg dksX2_putIn_0 24 rfl rfl
theorem dksX2_putIn_2 : cX2_putIn.data.toList.drop 48 = dktX2_putIn_2 := dk_seg dksX2_putIn_1 24 rfl rfl
theorem dksX2_putIn_3 : cX2_putIn.data.toList.drop 72 = dktX2_putIn_3 := dk_seg dksX2_putIn_2 24 rfl rfl
theorem dksX2_putIn_4 : cX2_putIn.data.toList.drop 96 = dktX2_putIn_4 := dk_seg dksX2_putIn_3 24 rfl rfl
theorem dksX2_putIn_5 : cX2_putIn.data.toList.drop 119 = dktX2_putIn_5 := dk_seg dksX2_putIn_4 23 rfl rfl
theorem dX2_putIn_0 : decode cX2_putIn 0 = .ok (.iload_n 1, 1) := dk_27 (dk_at dksX2_putIn_0 0 rfl rfl)
theorem dX2_putIn_1 : decode cX2_putIn 1 = .ok (.invokestatic 152, 3) := dk_184 0 152 (dk_at dksX2_putIn_0 1 rfl rfl)
theorem dX2_putIn_4 : decode cX2_putIn 4 = .ok (.ifCond .eq 10, 3) := dk_153 0 10 (dk_at dksX2_putIn_0 4 rfl rfl)
theorem dX2_putIn_7 : decode cX2_putIn 7 = .ok (.iload_n 3, 1) := dk_29 (dk_at dksX2_putIn_0 7 rfl rfl)
theorem dX2_putIn_8 : decode cX2_putIn 8 = .ok (.invokestatic 152, 3) := dk_184 0 152 (dk_at dksX2_putIn_0 8 rfl rfl)
theorem dX2_putIn_11 : decode cX2_putIn 11 = .ok (.ifCond .ne 6, 3) := dk_154 0 6 (dk_at dksX2_putIn_0 11 rfl rfl)
theorem dX2_putIn_14 : decode cX2_putIn 14 = .ok (.ldc 155, 2) := dk_18 155 (dk_at dksX2_putIn_0 14 rfl rfl)
theorem dX2_putIn_16 : decode cX2_putIn 16 = .ok (.ireturn, 1) := dk_172 (dk_at dksX2_putIn_0 16 rfl rfl)
theorem dX2_putIn_17 : decode cX2_putIn 17 = .ok (.iload_n 2, 1) := dk_28 (dk_at dksX2_putIn_0 17 rfl rfl)
theorem dX2_putIn_18 : decode cX2_putIn 18 = .ok (.invokestatic 134, 3) := dk_184 0 134 (dk_at dksX2_putIn_0 18 rfl rfl)
theorem dX2_putIn_21 : decode cX2_putIn 21 = .ok (.ifCond .ne 6, 3) := dk_154 0 6 (dk_at dksX2_putIn_0 21 rfl rfl)
theorem dX2_putIn_24 : decode cX2_putIn 24 = .ok (.ldc 120, 2) := dk_18 120 (dk_at dksX2_putIn_1 0 rfl rfl)
theorem dX2_putIn_26 : decode cX2_putIn 26 = .ok (.ireturn, 1) := dk_172 (dk_at dksX2_putIn_1 2 rfl rfl)
theorem dX2_putIn_27 : decode cX2_putIn 27 = .ok (.aload_n 0, 1) := dk_42 (dk_at dksX2_putIn_1 3 rfl rfl)
theorem dX2_putIn_28 : decode cX2_putIn 28 = .ok (.iload_n 1, 1) := dk_27 (dk_at dksX2_putIn_1 4 rfl rfl)
theorem dX2_putIn_29 : decode cX2_putIn 29 = .ok (.invokevirtual 208, 3) := dk_182 0 208 (dk_at dksX2_putIn_1 5 rfl rfl)
theorem dX2_putIn_32 : decode cX2_putIn 32 = .ok (.ifCond .eq 11, 3) := dk_153 0 11 (dk_at dksX2_putIn_1 8 rfl rfl)
theorem dX2_putIn_35 : decode cX2_putIn 35 = .ok (.aload_n 0, 1) := dk_42 (dk_at dksX2_putIn_1 11 rfl rfl)
theorem dX2_putIn_36 : decode cX2_putIn 36 = .ok (.iload_n 3, 1) := dk_29 (dk_at dksX2_putIn_1 12 rfl rfl)
theorem dX2_putIn_37 : decode cX2_putIn 37 = .ok (.invokevirtual 208, 3) := dk_182 0 208 (dk_at dksX2_putIn_1 13 rfl rfl)
theorem dX2_putIn_40 : decode cX2_putIn 40 = .ok (.ifCond .ne 6, 3) := dk_154 0 6 (dk_at dksX2_putIn_1 16 rfl rfl)
theorem dX2_putIn_43 : decode cX2_putIn 43 = .ok (.ldc 195, 2) := dk_18 195 (dk_at dksX2_putIn_1 19 rfl rfl)
theorem dX2_putIn_45 : decode cX2_putIn 45 = .ok (.ireturn, 1) := dk_172 (dk_at dksX2_putIn_1 21 rfl rfl)
theorem dX2_putIn_46 : decode cX2_putIn 46 = .ok (.aload_n 0, 1) := dk_42 (dk_at dksX2_putIn_1 22 rfl rfl)
theorem dX2_putIn_47 : decode cX2_putIn 47 = .ok (.iload_n 1, 1) := dk_27 (dk_at dksX2_putIn_1 23 rfl rfl)
theorem dX2_putIn_48 : decode cX2_putIn 48 = .ok (.invokevirtual 196, 3) := dk_182 0 196 (dk_at dksX2_putIn_2 0 rfl rfl)
theorem dX2_putIn_51 : decode cX2_putIn 51 = .ok (.aload_n 0, 1) := dk_42 (dk_at dksX2_putIn_2 3 rfl rfl)
theorem dX2_putIn_52 : decode cX2_putIn 52 = .ok (.iconst 0, 1) := dk_3 (dk_at dksX2_putIn_2 4 rfl rfl)
theorem dX2_putIn_53 : decode cX2_putIn 53 = .ok (.putfield 97, 3) := dk_181 0 97 (dk_at dksX2_putIn_2 5 rfl rfl)
theorem dX2_putIn_56 : decode cX2_putIn 56 = .ok (.iconst 0, 1) := dk_3 (dk_at dksX2_putIn_2 8 rfl rfl)
theorem dX2_putIn_57 : decode cX2_putIn 57 = .ok (.istore 4, 2) := dk_54 4 (dk_at dksX2_putIn_2 9 rfl rfl)
theorem dX2_putIn_59 : decode cX2_putIn 59 = .ok (.iload 4, 2) := dk_21 4 (dk_at dksX2_putIn_2 11 rfl rfl)
theorem dX2_putIn_61 : decode cX2_putIn 61 = .ok (.aload_n 0, 1) := dk_42 (dk_at dksX2_putIn_2 13 rfl rfl)
theorem dX2_putIn_62 : decode cX2_putIn 62 = .ok (.getfield 104, 3) := dk_180 0 104 (dk_at dksX2_putIn_2 14 rfl rfl)
theorem dX2_putIn_65 : decode cX2_putIn 65 = .ok (.if_icmp .ge 48, 3) := dk_162 0 48 (dk_at dksX2_putIn_2 17 rfl rfl)
theorem dX2_putIn_68 : decode cX2_putIn 68 = .ok (.aload_n 0, 1) := dk_42 (dk_at dksX2_putIn_2 20 rfl rfl)
theorem dX2_putIn_69 : decode cX2_putIn 69 = .ok (.getfield 97, 3) := dk_180 0 97 (dk_at dksX2_putIn_2 21 rfl rfl)
theorem dX2_putIn_72 : decode cX2_putIn 72 = .ok (.bipush 120, 2) := dk_16 120 (dk_at dksX2_putIn_3 0 rfl rfl)
theorem dX2_putIn_74 : decode cX2_putIn 74 = .ok (.if_icmp .gt 39, 3) := dk_163 0 39 (dk_at dksX2_putIn_3 2 rfl rfl)
theorem dX2_putIn_77 : decode cX2_putIn 77 = .ok (.aload_n 0, 1) := dk_42 (dk_at dksX2_putIn_3 5 rfl rfl)
theorem dX2_putIn_78 : decode cX2_putIn 78 = .ok (.getfield 24, 3) := dk_180 0 24 (dk_at dksX2_putIn_3 6 rfl rfl)
theorem dX2_putIn_81 : decode cX2_putIn 81 = .ok (.iload 4, 2) := dk_21 4 (dk_at dksX2_putIn_3 9 rfl rfl)
theorem dX2_putIn_83 : decode cX2_putIn 83 = .ok (.iaload, 1) := dk_46 (dk_at dksX2_putIn_3 11 rfl rfl)
theorem dX2_putIn_84 : decode cX2_putIn 84 = .ok (.iload_n 2, 1) := dk_28 (dk_at dksX2_putIn_3 12 rfl rfl)
theorem dX2_putIn_85 : decode cX2_putIn 85 = .ok (.if_icmp .ne 11, 3) := dk_160 0 11 (dk_at dksX2_putIn_3 13 rfl rfl)
theorem dX2_putIn_88 : decode cX2_putIn 88 = .ok (.aload_n 0, 1) := dk_42 (dk_at dksX2_putIn_3 16 rfl rfl)
theorem dX2_putIn_89 : decode cX2_putIn 89 = .ok (.iload_n 3, 1) := dk_29 (dk_at dksX2_putIn_3 17 rfl rfl)
theorem dX2_putIn_90 : decode cX2_putIn 90 = .ok (.invokevirtual 202, 3) := dk_182 0 202 (dk_at dksX2_putIn_3 18 rfl rfl)
theorem dX2_putIn_93 : decode cX2_putIn 93 = .ok (.goto 14, 3) := dk_167 0 14 (dk_at dksX2_putIn_3 21 rfl rfl)
theorem dX2_putIn_96 : decode cX2_putIn 96 = .ok (.aload_n 0, 1) := dk_42 (dk_at dksX2_putIn_4 0 rfl rfl)
theorem dX2_putIn_97 : decode cX2_putIn 97 = .ok (.aload_n 0, 1) := dk_42 (dk_at dksX2_putIn_4 1 rfl rfl)
theorem dX2_putIn_98 : decode cX2_putIn 98 = .ok (.getfield 24, 3) := dk_180 0 24 (dk_at dksX2_putIn_4 2 rfl rfl)
theorem dX2_putIn_101 : decode cX2_putIn 101 = .ok (.iload 4, 2) := dk_21 4 (dk_at dksX2_putIn_4 5 rfl rfl)
theorem dX2_putIn_103 : decode cX2_putIn 103 = .ok (.iaload, 1) := dk_46 (dk_at dksX2_putIn_4 7 rfl rfl)
theorem dX2_putIn_104 : decode cX2_putIn 104 = .ok (.invokevirtual 168, 3) := dk_182 0 168 (dk_at dksX2_putIn_4 8 rfl rfl)
theorem dX2_putIn_107 : decode cX2_putIn 107 = .ok (.iinc 4 1, 3) := dk_132 4 1 (dk_at dksX2_putIn_4 11 rfl rfl)
theorem dX2_putIn_110 : decode cX2_putIn 110 = .ok (.goto (-51), 3) := dk_167 255 205 (dk_at dksX2_putIn_4 14 rfl rfl)
theorem dX2_putIn_113 : decode cX2_putIn 113 = .ok (.aload_n 0, 1) := dk_42 (dk_at dksX2_putIn_4 17 rfl rfl)
theorem dX2_putIn_114 : decode cX2_putIn 114 = .ok (.invokevirtual 192, 3) := dk_182 0 192 (dk_at dksX2_putIn_4 18 rfl rfl)
theorem dX2_putIn_117 : decode cX2_putIn 117 = .ok (.aload_n 0, 1) := dk_42 (dk_at dksX2_putIn_4 21 rfl rfl)
theorem dX2_putIn_118 : decode cX2_putIn 118 = .ok (.iload_n 1, 1) := dk_27 (dk_at dksX2_putIn_4 22 rfl rfl)
theorem dX2_putIn_119 : decode cX2_putIn 119 = .ok (.invokevirtual 159, 3) := dk_182 0 159 (dk_at dksX2_putIn_5 0 rfl rfl)
theorem dX2_putIn_122 : decode cX2_putIn 122 = .ok (.ireturn, 1) := dk_172 (dk_at dksX2_putIn_5 3 rfl rfl)
abbrev cX2_isPlain : ByteArray := prog_15_method_35_code
def yX2_isPlain : MethodName := ⟨RX2, "isPlain", "(I)Z"⟩
def dkwX2_isPlain_0 : List UInt8 := [42, 27, 182, 0, 100, 158, 0, 15, 42, 27, 182, 0, 205, 154, 0, 7, 4, 167, 0, 4, 3, 172]
abbrev dktX2_isPlain_0 : List UInt8 := dkwX2_isPlain_0 ++ []
theorem dksX2_isPlain_0 : cX2_isPlain.data.toList.drop 0 = dktX2_isPlain_0 := by decide +kernel
theorem dX2_isPlain_0 : decode cX2_isPlain 0 = .ok (.aload_n 0, 1) := dk_42 (dk_at dksX2_isPlain_0 0 rfl rfl)
theorem dX2_isPlain_1 : decode cX2_isPlain 1 = .ok (.iload_n 1, 1) := dk_27 (dk_at dksX2_isPlain_0 1 rfl rfl)
theorem dX2_isPlain_2 : decode cX2_isPlain 2 = .ok (.invokevirtual 100, 3) := dk_182 0 100 (dk_at dksX2_isPlain_0 2 rfl rfl)
theorem dX2_isPlain_5 : decode cX2_isPlain 5 = .ok (.ifCond .le 15, 3) := dk_158 0 15 (dk_at dksX2_isPlain_0 5 rfl rfl)
theorem dX2_isPlain_8 : decode cX2_isPlain 8 = .ok (.aload_n 0, 1) := dk_42 (dk_at dksX2_isPlain_0 8 rfl rfl)
theorem dX2_isPlain_9 : decode cX2_isPlain 9 = .ok (.iload_n 1, 1) := dk_27 (dk_at dksX2_isPlain_0 9 rfl rfl)
theorem dX2_isPlain_10 : decode cX2_isPlain 10 = .ok (.invokevirtual 205, 3) := dk_182 0 205 (dk_at dksX2_isPlain_0 10 rfl rfl)
theorem dX2_isPlain_13 : decode cX2_isPlain 13 = .ok (.ifCond .ne 7, 3) := dk_154 0 7 (dk_at dksX2_isPlain_0 13 rfl rfl)
theorem dX2_isPlain_16 : decode cX2_isPlain 16 = .ok (.iconst 1, 1) := dk_4 (dk_at dksX2_isPlain_0 16 rfl rfl)
theorem dX2_isPlain_17 : decode cX2_isPlain 17 = .ok (.goto 4, 3) := dk_167 0 4 (dk_at dksX2_isPlain_0 17 rfl rfl)
theorem dX2_isPlain_20 : decode cX2_isPlain 20 = .ok (.iconst 0, 1) := dk_3 (dk_at dksX2_isPlain_0 20 rfl rfl)
theorem dX2_isPlain_21 : decode cX2_isPlain 21 = .ok (.ireturn, 1) := dk_172 (dk_at dksX2_isPlain_0 21 rfl rfl)
abbrev cX2_hasBinders : ByteArray := prog_15_method_34_code
def yX2_hasBinders : MethodName := ⟨RX2, "hasBinders", "(I)Z"⟩
def dkwX2_hasBinders_2 : List UInt8 := [28, 172]
abbrev dktX2_hasBinders_2 : List UInt8 := dkwX2_hasBinders_2 ++ []
def dkwX2_hasBinders_1 : List UInt8 := [104, 4, 96, 29, 96, 46, 184, 0, 162, 153, 0, 7, 4, 167, 0, 4, 3, 61, 132, 3, 1, 167, 255, 215]
abbrev dktX2_hasBinders_1 : List UInt8 := dkwX2_hasBinders_1 ++ dktX2_hasBinders_2
def dkwX2_hasBinders_0 : List UInt8 := [3, 61, 3, 62, 29, 42, 27, 182, 0, 100, 162, 0, 38, 28, 154, 0, 22, 42, 180, 0, 7, 16, 121, 27]
abbrev dktX2_hasBinders_0 : List UInt8 := dkwX2_hasBinders_0 ++ dktX2_hasBinders_1
theorem dksX2_hasBinders_0 : cX2_hasBinders.data.toList.drop 0 = dktX2_hasBinders_0 := by decide +kernel
theorem dksX2_hasBinders_1 : cX2_hasBinders.data.toList.drop 24 = dktX2_hasBinders_1 := dk_seg dksX2_hasBinders_0 24 rfl rfl
theorem dksX2_hasBinders_2 : cX2_hasBinders.data.toList.drop 48 = dktX2_hasBinders_2 := dk_seg dksX2_hasBinders_1 24 rfl rfl
theorem dX2_hasBinders_0 : decode cX2_hasBinders 0 = .ok (.iconst 0, 1) := dk_3 (dk_at dksX2_hasBinders_0 0 rfl rfl)
theorem dX2_hasBinders_1 : decode cX2_hasBinders 1 = .ok (.istore_n 2, 1) := dk_61 (dk_at dksX2_hasBinders_0 1 rfl rfl)
theorem dX2_hasBinders_2 : decode cX2_hasBinders 2 = .ok (.iconst 0, 1) := dk_3 (dk_at dksX2_hasBinders_0 2 rfl rfl)
theorem dX2_hasBinders_3 : decode cX2_hasBinders 3 = .ok (.istore_n 3, 1) := dk_62 (dk_at dksX2_hasBinders_0 3 rfl rfl)
theorem dX2_hasBinders_4 : decode cX2_hasBinders 4 = .ok (.iload_n 3, 1) := dk_29 (dk_at dksX2_hasBinders_0 4 rfl rfl)
theorem dX2_hasBinders_5 : decode cX2_hasBinders 5 = .ok (.aload_n 0, 1) := dk_42 (dk_at dksX2_hasBinders_0 5 rfl rfl)
theorem dX2_hasBinders_6 : decode cX2_hasBinders 6 = .ok (.iload_n 1, 1) := dk_27 (dk_at dksX2_hasBinders_0 6 rfl rfl)
theorem dX2_hasBinders_7 : decode cX2_hasBinders 7 = .ok (.invokevirtual 100, 3) := dk_182 0 100 (dk_at dksX2_hasBinders_0 7 rfl rfl)
theorem dX2_hasBinders_10 : decode cX2_hasBinders 10 = .ok (.if_icmp .ge 38, 3) := dk_162 0 38 (dk_at dksX2_hasBinders_0 10 rfl rfl)
theorem dX2_hasBinders_13 : decode cX2_hasBinders 13 = .ok (.iload_n 2, 1) := dk_28 (dk_at dksX2_hasBinders_0 13 rfl rfl)
theorem dX2_hasBinders_14 : decode cX2_hasBinders 14 = .ok (.ifCond .ne 22, 3) := dk_154 0 22 (dk_at dksX2_hasBinders_0 14 rfl rfl)
theorem dX2_hasBinders_17 : decode cX2_hasBinders 17 = .ok (.aload_n 0, 1) := dk_42 (dk_at dksX2_hasBinders_0 17 rfl rfl)
theorem dX2_hasBinders_18 : decode cX2_hasBinders 18 = .ok (.getfield 7, 3) := dk_180 0 7 (dk_at dksX2_hasBinders_0 18 rfl rfl)
theorem dX2_hasBinders_21 : decode cX2_hasBinders 21 = .ok (.bipush 121, 2) := dk_16 121 (dk_at dksX2_hasBinders_0 21 rfl rfl)
theorem dX2_hasBinders_23 : decode cX2_hasBinders 23 = .ok (.iload_n 1, 1) := dk_27 (dk_at dksX2_hasBinders_0 23 rfl rfl)
theorem dX2_hasBinders_24 : decode cX2_hasBinders 24 = .ok (.imul, 1) := dk_104 (dk_at dksX2_hasBinders_1 0 rfl rfl)
theorem dX2_hasBinders_25 : decode cX2_hasBinders 25 = .ok (.iconst 1, 1) := dk_4 (dk_at dksX2_hasBinders_1 1 rfl rfl)
theorem dX2_hasBinders_26 : decode cX2_hasBinders 26 = .ok (.iadd, 1) := dk_96 (dk_at dksX2_hasBinders_1 2 rfl rfl)
theorem dX2_hasBinders_27 : decode cX2_hasBinders 27 = .ok (.iload_n 3, 1) := dk_29 (dk_at dksX2_hasBinders_1 3 rfl rfl)
theorem dX2_hasBinders_28 : decode cX2_hasBinders 28 = .ok (.iadd, 1) := dk_96 (dk_at dksX2_hasBinders_1 4 rfl rfl)
theorem dX2_hasBinders_29 : decode cX2_hasBinders 29 = .ok (.iaload, 1) := dk_46 (dk_at dksX2_hasBinders_1 5 rfl rfl)
theorem dX2_hasBinders_30 : decode cX2_hasBinders 30 = .ok (.invokestatic 162, 3) := dk_184 0 162 (dk_at dksX2_hasBinders_1 6 rfl rfl)
theorem dX2_hasBinders_33 : decode cX2_hasBinders 33 = .ok (.ifCond .eq 7, 3) := dk_153 0 7 (dk_at dksX2_hasBinders_1 9 rfl rfl)
theorem dX2_hasBinders_36 : decode cX2_hasBinders 36 = .ok (.iconst 1, 1) := dk_4 (dk_at dksX2_hasBinders_1 12 rfl rfl)
theorem dX2_hasBinders_37 : decode cX2_hasBinders 37 = .ok (.goto 4, 3) := dk_167 0 4 (dk_at dksX2_hasBinders_1 13 rfl rfl)
theorem dX2_hasBinders_40 : decode cX2_hasBinders 40 = .ok (.iconst 0, 1) := dk_3 (dk_at dksX2_hasBinders_1 16 rfl rfl)
theorem dX2_hasBinders_41 : decode cX2_hasBinders 41 = .ok (.istore_n 2, 1) := dk_61 (dk_at dksX2_hasBinders_1 17 rfl rfl)
theorem dX2_hasBinders_42 : decode cX2_hasBinders 42 = .ok (.iinc 3 1, 3) := dk_132 3 1 (dk_at dksX2_hasBinders_1 18 rfl rfl)
theorem dX2_hasBinders_45 : decode cX2_hasBinders 45 = .ok (.goto (-41), 3) := dk_167 255 215 (dk_at dksX2_hasBinders_1 21 rfl rfl)
theorem dX2_hasBinders_48 : decode cX2_hasBinders 48 = .ok (.iload_n 2, 1) := dk_28 (dk_at dksX2_hasBinders_2 0 rfl rfl)
theorem dX2_hasBinders_49 : decode cX2_hasBinders 49 = .ok (.ireturn, 1) := dk_172 (dk_at dksX2_hasBinders_2 1 rfl rfl)
abbrev cX2_drop : ByteArray := prog_15_method_37_code
def yX2_drop : MethodName := ⟨RX2, "drop", "(I)I"⟩
def dkwX2_drop_1 : List UInt8 := [3, 181, 0, 104, 42, 27, 182, 0, 159, 87, 28, 172]
abbrev dktX2_drop_1 : List UInt8 := dkwX2_drop_1 ++ []
def dkwX2_drop_0 : List UInt8 := [27, 184, 0, 152, 154, 0, 6, 18, 155, 172, 42, 27, 182, 0, 100, 61, 28, 154, 0, 6, 18, 195, 172, 42]
abbrev dktX2_drop_0 : List UInt8 := dkwX2_drop_0 ++ dktX2_drop_1
theorem dksX2_drop_0 : cX2_drop.data.toList.drop 0 = dktX2_drop_0 := by decide +kernel
theorem dksX2_drop_1 : cX2_drop.data.toList.drop 24 = dktX2_drop_1 := dk_seg dksX2_drop_0 24 rfl rfl
theorem dX2_drop_0 : decode cX2_drop 0 = .ok (.iload_n 1, 1) := dk_27 (dk_at dksX2_drop_0 0 rfl rfl)
theorem dX2_drop_1 : decode cX2_drop 1 = .ok (.invokestatic 152, 3) := dk_184 0 152 (dk_at dksX2_drop_0 1 rfl rfl)
theorem dX2_drop_4 : decode cX2_drop 4 = .ok (.ifCond .ne 6, 3) := dk_154 0 6 (dk_at dksX2_drop_0 4 rfl rfl)
theorem dX2_drop_7 : decode cX2_drop 7 = .ok (.ldc 155, 2) := dk_18 155 (dk_at dksX2_drop_0 7 rfl rfl)
theorem dX2_drop_9 : decode cX2_drop 9 = .ok (.ireturn, 1) := dk_172 (dk_at dksX2_drop_0 9 rfl rfl)
theorem dX2_drop_10 : decode cX2_drop 10 = .ok (.aload_n 0, 1) := dk_42 (dk_at dksX2_drop_0 10 rfl rfl)
theorem dX2_drop_11 : decode cX2_drop 11 = .ok (.iload_n 1, 1) := dk_27 (dk_at dksX2_drop_0 11 rfl rfl)
theorem dX2_drop_12 : decode cX2_drop 12 = .ok (.invokevirtual 100, 3) := dk_182 0 100 (dk_at dksX2_drop_0 12 rfl rfl)
theorem dX2_drop_15 : decode cX2_drop 15 = .ok (.istore_n 2, 1) := dk_61 (dk_at dksX2_drop_0 15 rfl rfl)
theorem dX2_drop_16 : decode cX2_drop 16 = .ok (.iload_n 2, 1) := dk_28 (dk_at dksX2_drop_0 16 rfl rfl)
theorem dX2_drop_17 : decode cX2_drop 17 = .ok (.ifCond .ne 6, 3) := dk_154 0 6 (dk_at dksX2_drop_0 17 rfl rfl)
theorem dX2_drop_20 : decode cX2_drop 20 = .ok (.ldc 195, 2) := dk_18 195 (dk_at dksX2_drop_0 20 rfl rfl)
theorem dX2_drop_22 : decode cX2_drop 22 = .ok (.ireturn, 1) := dk_172 (dk_at dksX2_drop_0 22 rfl rfl)
theorem dX2_drop_23 : decode cX2_drop 23 = .ok (.aload_n 0, 1) := dk_42 (dk_at dksX2_drop_0 23 rfl rfl)
theorem dX2_drop_24 : decode cX2_drop 24 = .ok (.iconst 0, 1) := dk_3 (dk_at dksX2_drop_1 0 rfl rfl)
theorem dX2_drop_25 : decode cX2_drop 25 = .ok (.putfield 104, 3) := dk_181 0 104 (dk_at dksX2_drop_1 1 rfl rfl)
theorem dX2_drop_28 : decode cX2_drop 28 = .ok (.aload_n 0, 1) := dk_42 (dk_at dksX2_drop_1 4 rfl rfl)
theorem dX2_drop_29 : decode cX2_drop 29 = .ok (.iload_n 1, 1) := dk_27 (dk_at dksX2_drop_1 5 rfl rfl)
theorem dX2_drop_30 : decode cX2_drop 30 = .ok (.invokevirtual 159, 3) := dk_182 0 159 (dk_at dksX2_drop_1 6 rfl rfl)
theorem dX2_drop_33 : decode cX2_drop 33 = .ok (.pop, 1) := dk_87 (dk_at dksX2_drop_1 9 rfl rfl)
theorem dX2_drop_34 : decode cX2_drop 34 = .ok (.iload_n 2, 1) := dk_28 (dk_at dksX2_drop_1 10 rfl rfl)
theorem dX2_drop_35 : decode cX2_drop 35 = .ok (.ireturn, 1) := dk_172 (dk_at dksX2_drop_1 11 rfl rfl)
abbrev cX2_drift : ByteArray := prog_15_method_38_code
def yX2_drift : MethodName := ⟨RX2, "drift", "(III)I"⟩
def dkwX2_drift_8 : List UInt8 := [182, 0, 159, 172]
abbrev dktX2_drift_8 : List UInt8 := dkwX2_drift_8 ++ []
def dkwX2_drift_7 : List UInt8 := [22, 4, 20, 0, 219, 113, 136, 96, 182, 0, 168, 42, 182, 0, 192, 132, 6, 1, 167, 255, 150, 42, 27]
abbrev dktX2_drift_7 : List UInt8 := dkwX2_drift_7 ++ dktX2_drift_8
def dkwX2_drift_6 : List UInt8 := [22, 4, 20, 0, 219, 113, 136, 96, 182, 0, 168, 42, 3, 182, 0, 179, 21, 7, 154, 0, 16, 42, 4]
abbrev dktX2_drift_6 : List UInt8 := dkwX2_drift_6 ++ dktX2_drift_7
def dkwX2_drift_5 : List UInt8 := [20, 0, 217, 113, 55, 4, 42, 3, 181, 0, 97, 42, 3, 182, 0, 168, 21, 7, 153, 0, 16, 42, 4]
abbrev dktX2_drift_5 : List UInt8 := dkwX2_drift_5 ++ dktX2_drift_6
def dkwX2_drift_4 : List UInt8 := [20, 0, 221, 113, 10, 148, 154, 0, 7, 4, 167, 0, 4, 3, 54, 7, 22, 4, 20, 0, 215, 105]
abbrev dktX2_drift_4 : List UInt8 := dkwX2_drift_4 ++ dktX2_drift_5
def dkwX2_drift_3 : List UInt8 := [54, 6, 21, 6, 28, 162, 0, 106, 22, 4, 20, 0, 215, 105, 20, 0, 217, 113, 55, 4, 22, 4]
abbrev dktX2_drift_3 : List UInt8 := dkwX2_drift_3 ++ dktX2_drift_4
def dkwX2_drift_2 : List UInt8 := [55, 4, 42, 180, 0, 24, 3, 4, 22, 4, 20, 0, 219, 113, 136, 96, 79, 42, 4, 181, 0, 104, 4]
abbrev dktX2_drift_2 : List UInt8 := dkwX2_drift_2 ++ dktX2_drift_3
def dkwX2_drift_1 : List UInt8 := [10, 20, 0, 213, 184, 0, 88, 154, 0, 6, 18, 120, 172, 29, 133, 20, 0, 215, 105, 20, 0, 217, 113]
abbrev dktX2_drift_1 : List UInt8 := dkwX2_drift_1 ++ dktX2_drift_2
def dkwX2_drift_0 : List UInt8 := [27, 184, 0, 152, 154, 0, 6, 18, 155, 172, 28, 133, 10, 20, 0, 211, 184, 0, 88, 153, 0, 15, 29, 133]
abbrev dktX2_drift_0 : List UInt8 := dkwX2_drift_0 ++ dktX2_drift_1
theorem dksX2_drift_0 : cX2_drift.data.toList.drop 0 = dktX2_drift_0 := by decide +kernel
theorem dksX2_drift_1 : cX2_drift.data.toList.drop 24 = dktX2_drift_1 := dk_seg dksX2_drift_0 24 rfl rfl
theorem dksX2_drift_2 : cX2_drift.data.toList.drop 47 = dktX2_drift_2 := dk_seg dksX2_drift_1 23 rfl rfl
theorem dksX2_drift_3 : cX2_drift.data.toList.drop 70 = dktX2_drift_3 := dk_seg dksX2_drift_2 23 rfl rfl
theorem dksX2_drift_4 : cX2_drift.data.toList.drop 92 = dktX2_drift_4 := dk_seg dksX2_drift_3 22 rfl rfl
theorem dksX2_drift_5 : cX2_drift.data.toList.drop 114 = dktX2_drift_5 := dk_seg dksX2_drift_4 22 rfl rfl
theorem dksX2_drift_6 : cX2_drift.data.toList.drop 137 = dktX2_drift_6 := dk_seg dksX2_drift_5 23 rfl rfl
theorem dksX2_drift_7 : cX2_drift.data.toList.drop 160 = dktX2_drift_7 := dk_seg dksX2_drift_6 23 rfl rfl
theorem dksX2_drift_8 : cX2_drift.data.toList.drop 183 = dktX2_drift_8 := dk_seg dksX2_drift_7 23 rfl rfl
theorem dX2_drift_0 : decode cX2_drift 0 = .ok (.iload_n 1, 1) := dk_27 (dk_at dksX2_drift_0 0 rfl rfl)
theorem dX2_drift_1 : decode cX2_drift 1 = .ok (.invokestatic 152, 3) := dk_184 0 152 (dk_at dksX2_drift_0 1 rfl rfl)
theorem dX2_drift_4 : decode cX2_drift 4 = .ok (.ifCond .ne 6, 3) := dk_154 0 6 (dk_at dksX2_drift_0 4 rfl rfl)
theorem dX2_drift_7 : decode cX2_drift 7 = .ok (.ldc 155, 2) := dk_18 155 (dk_at dksX2_drift_0 7 rfl rfl)
theorem dX2_drift_9 : decode cX2_drift 9 = .ok (.ireturn, 1) := dk_172 (dk_at dksX2_drift_0 9 rfl rfl)
theorem dX2_drift_10 : decode cX2_drift 10 = .ok (.iload_n 2, 1) := dk_28 (dk_at dksX2_drift_0 10 rfl rfl)
theorem dX2_drift_11 : decode cX2_drift 11 = .ok (.i2l, 1) := dk_133 (dk_at dksX2_drift_0 11 rfl rfl)
theorem dX2_drift_12 : decode cX2_drift 12 = .ok (.lconst 1, 1) := dk_10 (dk_at dksX2_drift_0 12 rfl rfl)
theorem dX2_drift_13 : decode cX2_drift 13 = .ok (.ldc2_w 211, 3) := dk_20 0 211 (dk_at dksX2_drift_0 13 rfl rfl)
theorem dX2_drift_16 : decode cX2_drift 16 = .ok (.invokestatic 88, 3) := dk_184 0 88 (dk_at dksX2_drift_0 16 rfl rfl)
theorem dX2_drift_19 : decode cX2_drift 19 = .ok (.ifCond .eq 15, 3) := dk_153 0 15 (dk_at dksX2_drift_0 19 rfl rfl)
theorem dX2_drift_22 : decode cX2_drift 22 = .ok (.iload_n 3, 1) := dk_29 (dk_at dksX2_drift_0 22 rfl rfl)
theorem dX2_drift_23 : decode cX2_drift 23 = .ok (.i2l, 1) := dk_133 (dk_at dksX2_drift_0 23 rfl rfl)
theorem dX2_drift_24 : decode cX2_drift 24 = .ok (.lconst 1, 1) := dk_10 (dk_at dksX2_drift_1 0 rfl rfl)
theorem dX2_drift_25 : decode cX2_drift 25 = .ok (.ldc2_w 213, 3) := dk_20 0 213 (dk_at dksX2_drift_1 1 rfl rfl)
theorem dX2_drift_28 : decode cX2_drift 28 = .ok (.invokestatic 88, 3) := dk_184 0 88 (dk_at dksX2_drift_1 4 rfl rfl)
theorem dX2_drift_31 : decode cX2_drift 31 = .ok (.ifCond .ne 6, 3) := dk_154 0 6 (dk_at dksX2_drift_1 7 rfl rfl)
theorem dX2_drift_34 : decode cX2_drift 34 = .ok (.ldc 120, 2) := dk_18 120 (dk_at dksX2_drift_1 10 rfl rfl)
theorem dX2_drift_36 : decode cX2_drift 36 = .ok (.ireturn, 1) := dk_172 (dk_at dksX2_drift_1 12 rfl rfl)
theorem dX2_drift_37 : decode cX2_drift 37 = .ok (.iload_n 3, 1) := dk_29 (dk_at dksX2_drift_1 13 rfl rfl)
theorem dX2_drift_38 : decode cX2_drift 38 = .ok (.i2l, 1) := dk_133 (dk_at dksX2_drift_1 14 rfl rfl)
theorem dX2_drift_39 : decode cX2_drift 39 = .ok (.ldc2_w 215, 3) := dk_20 0 215 (dk_at dksX2_drift_1 15 rfl rfl)
theorem dX2_drift_42 : decode cX2_drift 42 = .ok (.lmul, 1) := dk_105 (dk_at dksX2_drift_1 18 rfl rfl)
theorem dX2_drift_43 : decode cX2_drift 43 = .ok (.ldc2_w 217, 3) := dk_20 0 217 (dk_at dksX2_drift_1 19 rfl rfl)
theorem dX2_drift_46 : decode cX2_drift 46 = .ok (.lrem, 1) := dk_113 (dk_at dksX2_drift_1 22 rfl rfl)
theorem dX2_drift_47 : decode cX2_drift 47 = .ok (.lstore 4, 2) := dk_55 4 (dk_at dksX2_drift_2 0 rfl rfl)
theorem dX2_drift_49 : decode cX2_drift 49 = .ok (.aload_n 0, 1) := dk_42 (dk_at dksX2_drift_2 2 rfl rfl)
theorem dX2_drift_50 : decode cX2_drift 50 = .ok (.getfield 24, 3) := dk_180 0 24 (dk_at dksX2_drift_2 3 rfl rfl)
theorem dX2_drift_53 : decode cX2_drift 53 = .ok (.iconst 0, 1) := dk_3 (dk_at dksX2_drift_2 6 rfl rfl)
theorem dX2_drift_54 : decode cX2_drift 54 = .ok (.iconst 1, 1) := dk_4 (dk_at dksX2_drift_2 7 rfl rfl)
theorem dX2_drift_55 : decode cX2_drift 55 = .ok (.lload 4, 2) := dk_22 4 (dk_at dksX2_drift_2 8 rfl rfl)
theorem dX2_drift_57 : decode cX2_drift 57 = .ok (.ldc2_w 219, 3) := dk_20 0 219 (dk_at dksX2_drift_2 10 rfl rfl)
theorem dX2_drift_60 : decode cX2_drift 60 = .ok (.lrem, 1) := dk_113 (dk_at dksX2_drift_2 13 rfl rfl)
theorem dX2_drift_61 : decode cX2_drift 61 = .ok (.l2i, 1) := dk_136 (dk_at dksX2_drift_2 14 rfl rfl)
theorem dX2_drift_62 : decode cX2_drift 62 = .ok (.iadd, 1) := dk_96 (dk_at dksX2_drift_2 15 rfl rfl)
theorem dX2_drift_63 : decode cX2_drift 63 = .ok (.iastore, 1) := dk_79 (dk_at dksX2_drift_2 16 rfl rfl)
theorem dX2_drift_64 : decode cX2_drift 64 = .ok (.aload_n 0, 1) := dk_42 (dk_at dksX2_drift_2 17 rfl rfl)
theorem dX2_drift_65 : decode cX2_drift 65 = .ok (.iconst 1, 1) := dk_4 (dk_at dksX2_drift_2 18 rfl rfl)
theorem dX2_drift_66 : decode cX2_drift 66 = .ok (.putfield 104, 3) := dk_181 0 104 (dk_at dksX2_drift_2 19 rfl rfl)
theorem dX2_drift_69 : decode cX2_drift 69 = .ok (.iconst 1, 1) := dk_4 (dk_at dksX2_drift_2 22 rfl rfl)
theorem dX2_drift_70 : decode cX2_drift 70 = .ok (.istore 6, 2) := dk_54 6 (dk_at dksX2_drift_3 0 rfl rfl)
theorem dX2_drift_72 : decode cX2_drift 72 = .ok (.iload 6, 2) := dk_21 6 (dk_at dksX2_drift_3 2 rfl rfl)
theorem dX2_drift_74 : decode cX2_drift 74 = .ok (.iload_n 2, 1) := dk_28 (dk_at dksX2_drift_3 4 rfl rfl)
theorem dX2_drift_75 : decode cX2_drift 75 = .ok (.if_icmp .ge 106, 3) := dk_162 0 106 (dk_at dksX2_drift_3 5 rfl rfl)
theorem dX2_drift_78 : decode cX2_drift 78 = .ok (.lload 4, 2) := dk_22 4 (dk_at dksX2_drift_3 8 rfl rfl)
theorem dX2_drift_80 : decode cX2_drift 80 = .ok (.ldc2_w 215, 3) := dk_20 0 215 (dk_at dksX2_drift_3 10 rfl rfl)
theorem dX2_drift_83 : decode cX2_drift 83 = .ok (.lmul, 1) := dk_105 (dk_at dksX2_drift_3 13 rfl rfl)
theorem dX2_drift_84 : decode cX2_drift 84 = .ok (.ldc2_w 217, 3) := dk_20 0 217 (dk_at dksX2_drift_3 14 rfl rfl)
theorem dX2_drift_87 : decode cX2_drift 87 = .ok (.lrem, 1) := dk_113 (dk_at dksX2_drift_3 17 rfl rfl)
theorem dX2_drift_88 : decode cX2_drift 88 = .ok (.lstore 4, 2) := dk_55 4 (dk_at dksX2_drift_3 18 rfl rfl)
theorem dX2_drift_90 : decode cX2_drift 90 = .ok (.lload 4, 2) := dk_22 4 (dk_at dksX2_drift_3 20 rfl rfl)
theorem dX2_drift_92 : decode cX2_drift 92 = .ok (.ldc2_w 221, 3) := dk_20 0 221 (dk_at dksX2_drift_4 0 rfl rfl)
theorem dX2_drift_95 : decode cX2_drift 95 = .ok (.lrem, 1) := dk_113 (dk_at dksX2_drift_4 3 rfl rfl)
theorem dX2_drift_96 : decode cX2_drift 96 = .ok (.lconst 1, 1) := dk_10 (dk_at dksX2_drift_4 4 rfl rfl)
theorem dX2_drift_97 : decode cX2_drift 97 = .ok (.lcmp, 1) := dk_148 (dk_at dksX2_drift_4 5 rfl rfl)
theorem dX2_drift_98 : decode cX2_drift 98 = .ok (.ifCond .ne 7, 3) := dk_154 0 7 (dk_at dksX2_drift_4 6 rfl rfl)
theorem dX2_drift_101 : decode cX2_drift 101 = .ok (.iconst 1, 1) := dk_4 (dk_at dksX2_drift_4 9 rfl rfl)
theorem dX2_drift_102 : decode cX2_drift 102 = .ok (.goto 4, 3) := dk_167 0 4 (dk_at dksX2_drift_4 10 rfl rfl)
theorem dX2_drift_105 : decode cX2_drift 105 = .ok (.iconst 0, 1) := dk_3 (dk_at dksX2_drift_4 13 rfl rfl)
theorem dX2_drift_106 : decode cX2_drift 106 = .ok (.istore 7, 2) := dk_54 7 (dk_at dksX2_drift_4 14 rfl rfl)
theorem dX2_drift_108 : decode cX2_drift 108 = .ok (.lload 4, 2) := dk_22 4 (dk_at dksX2_drift_4 16 rfl rfl)
theorem dX2_drift_110 : decode cX2_drift 110 = .ok (.ldc2_w 215, 3) := dk_20 0 215 (dk_at dksX2_drift_4 18 rfl rfl)
theorem dX2_drift_113 : decode cX2_drift 113 = .ok (.lmul, 1) := dk_105 (dk_at dksX2_drift_4 21 rfl rfl)
theorem dX2_drift_114 : decode cX2_drift 114 = .ok (.ldc2_w 217, 3) := dk_20 0 217 (dk_at dksX2_drift_5 0 rfl rfl)
theorem dX2_drift_117 : decode cX2_drift 117 = .ok (.lrem, 1) := dk_113 (dk_at dksX2_drift_5 3 rfl rfl)
theorem dX2_drift_118 : decode cX2_drift 118 = .ok (.lstore 4, 2) := dk_55 4 (dk_at dksX2_drift_5 4 rfl rfl)
theorem dX2_drift_120 : decode cX2_drift 120 = .ok (.aload_n 0, 1) := dk_42 (dk_at dksX2_drift_5 6 rfl rfl)
theorem dX2_drift_121 : decode cX2_drift 121 = .ok (.iconst 0, 1) := dk_3 (dk_at dksX2_drift_5 7 rfl rfl)
theorem dX2_drift_122 : decode cX2_drift 122 = .ok (.putfield 97, 3) := dk_181 0 97 (dk_at dksX2_drift_5 8 rfl rfl)
theorem dX2_drift_125 : decode cX2_drift 125 = .ok (.aload_n 0, 1) := dk_42 (dk_at dksX2_drift_5 11 rfl rfl)
theorem dX2_drift_126 : decode cX2_drift 126 = .ok (.iconst 0, 1) := dk_3 (dk_at dksX2_drift_5 12 rfl rfl)
theorem dX2_drift_127 : decode cX2_drift 127 = .ok (.invokevirtual 168, 3) := dk_182 0 168 (dk_at dksX2_drift_5 13 rfl rfl)
theorem dX2_drift_130 : decode cX2_drift 130 = .ok (.iload 7, 2) := dk_21 7 (dk_at dksX2_drift_5 16 rfl rfl)
theorem dX2_drift_132 : decode cX2_drift 132 = .ok (.ifCond .eq 16, 3) := dk_153 0 16 (dk_at dksX2_drift_5 18 rfl rfl)
theorem dX2_drift_135 : decode cX2_drift 135 = .ok (.aload_n 0, 1) := dk_42 (dk_at dksX2_drift_5 21 rfl rfl)
theorem dX2_drift_136 : decode cX2_drift 136 = .ok (.iconst 1, 1) := dk_4 (dk_at dksX2_drift_5 22 rfl rfl)
theorem dX2_drift_137 : decode cX2_drift 137 = .ok (.lload 4, 2) := dk_22 4 (dk_at dksX2_drift_6 0 rfl rfl)
theorem dX2_drift_139 : decode cX2_drift 139 = .ok (.ldc2_w 219, 3) := dk_20 0 219 (dk_at dksX2_drift_6 2 rfl rfl)
theorem dX2_drift_142 : decode cX2_drift 142 = .ok (.lrem, 1) := dk_113 (dk_at dksX2_drift_6 5 rfl rfl)
theorem dX2_drift_143 : decode cX2_drift 143 = .ok (.l2i, 1) := dk_136 (dk_at dksX2_drift_6 6 rfl rfl)
theorem dX2_drift_144 : decode cX2_drift 144 = .ok (.iadd, 1) := dk_96 (dk_at dksX2_drift_6 7 rfl rfl)
theorem dX2_drift_145 : decode cX2_drift 145 = .ok (.invokevirtual 168, 3) := dk_182 0 168 (dk_at dksX2_drift_6 8 rfl rfl)
theorem dX2_drift_148 : decode cX2_drift 148 = .ok (.aload_n 0, 1) := dk_42 (dk_at dksX2_drift_6 11 rfl rfl)
theorem dX2_drift_149 : decode cX2_drift 149 = .ok (.iconst 0, 1) := dk_3 (dk_at dksX2_drift_6 12 rfl rfl)
theorem dX2_drift_150 : decode cX2_drift 150 = .ok (.invokevirtual 179, 3) := dk_182 0 179 (dk_at dksX2_drift_6 13 rfl rfl)
theorem dX2_drift_153 : decode cX2_drift 153 = .ok (.iload 7, 2) := dk_21 7 (dk_at dksX2_drift_6 16 rfl rfl)
theorem dX2_drift_155 : decode cX2_drift 155 = .ok (.ifCond .ne 16, 3) := dk_154 0 16 (dk_at dksX2_drift_6 18 rfl rfl)
theorem dX2_drift_158 : decode cX2_drift 158 = .ok (.aload_n 0, 1) := dk_42 (dk_at dksX2_drift_6 21 rfl rfl)
theorem dX2_drift_159 : decode cX2_drift 159 = .ok (.iconst 1, 1) := dk_4 (dk_at dksX2_drift_6 22 rfl rfl)
theorem dX2_drift_160 : decode cX2_drift 160 = .ok (.lload 4, 2) := dk_22 4 (dk_at dksX2_drift_7 0 rfl rfl)
theorem dX2_drift_162 : decode cX2_drift 162 = .ok (.ldc2_w 219, 3) := dk_20 0 219 (dk_at dksX2_drift_7 2 rfl rfl)
theorem dX2_drift_165 : decode cX2_drift 165 = .ok (.lrem, 1) := dk_113 (dk_at dksX2_drift_7 5 rfl rfl)
theorem dX2_drift_166 : decode cX2_drift 166 = .ok (.l2i, 1) := dk_136 (dk_at dksX2_drift_7 6 rfl rfl)
theorem dX2_drift_167 : decode cX2_drift 167 = .ok (.iadd, 1) := dk_96 (dk_at dksX2_drift_7 7 rfl rfl)
theorem dX2_drift_168 : decode cX2_drift 168 = .ok (.invokevirtual 168, 3) := dk_182 0 168 (dk_at dksX2_drift_7 8 rfl rfl)
theorem dX2_drift_171 : decode cX2_drift 171 = .ok (.aload_n 0, 1) := dk_42 (dk_at dksX2_drift_7 11 rfl rfl)
theorem dX2_drift_172 : decode cX2_drift 172 = .ok (.invokevirtual 192, 3) := dk_182 0 192 (dk_at dksX2_drift_7 12 rfl rfl)
theorem dX2_drift_175 : decode cX2_drift 175 = .ok (.iinc 6 1, 3) := dk_132 6 1 (dk_at dksX2_drift_7 15 rfl rfl)
theorem dX2_drift_178 : decode cX2_drift 178 = .ok (.goto (-106), 3) := dk_167 255 150 (dk_at dksX2_drift_7 18 rfl rfl)
theorem dX2_drift_181 : decode cX2_drift 181 = .ok (.aload_n 0, 1) := dk_42 (dk_at dksX2_drift_7 21 rfl rfl)
theorem dX2_drift_182 : decode cX2_drift 182 = .ok (.iload_n 1, 1) := dk_27 (dk_at dksX2_drift_7 22 rfl rfl)
theorem dX2_drift_183 : decode cX2_drift 183 = .ok (.invokevirtual 159, 3) := dk_182 0 159 (dk_at dksX2_drift_8 0 rfl rfl)
theorem dX2_drift_186 : decode cX2_drift 186 = .ok (.ireturn, 1) := dk_172 (dk_at dksX2_drift_8 3 rfl rfl)
abbrev cX2_undo : ByteArray := prog_15_method_39_code
def yX2_undo : MethodName := ⟨RX2, "undo", "()I"⟩
def dkwX2_undo_1 : List UInt8 := [17, 1, 228, 42, 180, 0, 107, 104, 96, 3, 182, 0, 110, 42, 180, 0, 107, 172]
abbrev dktX2_undo_1 : List UInt8 := dkwX2_undo_1 ++ []
def dkwX2_undo_0 : List UInt8 := [42, 180, 0, 107, 154, 0, 6, 18, 195, 172, 42, 89, 180, 0, 107, 4, 100, 181, 0, 107, 42, 17, 1, 228]
abbrev dktX2_undo_0 : List UInt8 := dkwX2_undo_0 ++ dktX2_undo_1
theorem dksX2_undo_0 : cX2_undo.data.toList.drop 0 = dktX2_undo_0 := by decide +kernel
theorem dksX2_undo_1 : cX2_undo.data.toList.drop 24 = dktX2_undo_1 := dk_seg dksX2_undo_0 24 rfl rfl
theorem dX2_undo_0 : decode cX2_undo 0 = .ok (.aload_n 0, 1) := dk_42 (dk_at dksX2_undo_0 0 rfl rfl)
theorem dX2_undo_1 : decode cX2_undo 1 = .ok (.getfield 107, 3) := dk_180 0 107 (dk_at dksX2_undo_0 1 rfl rfl)
theorem dX2_undo_4 : decode cX2_undo 4 = .ok (.ifCond .ne 6, 3) := dk_154 0 6 (dk_at dksX2_undo_0 4 rfl rfl)
theorem dX2_undo_7 : decode cX2_undo 7 = .ok (.ldc 195, 2) := dk_18 195 (dk_at dksX2_undo_0 7 rfl rfl)
theorem dX2_undo_9 : decode cX2_undo 9 = .ok (.ireturn, 1) := dk_172 (dk_at dksX2_undo_0 9 rfl rfl)
theorem dX2_undo_10 : decode cX2_undo 10 = .ok (.aload_n 0, 1) := dk_42 (dk_at dksX2_undo_0 10 rfl rfl)
theorem dX2_undo_11 : decode cX2_undo 11 = .ok (.dup, 1) := dk_89 (dk_at dksX2_undo_0 11 rfl rfl)
theorem dX2_undo_12 : decode cX2_undo 12 = .ok (.getfield 107, 3) := dk_180 0 107 (dk_at dksX2_undo_0 12 rfl rfl)
theorem dX2_undo_15 : decode cX2_undo 15 = .ok (.iconst 1, 1) := dk_4 (dk_at dksX2_undo_0 15 rfl rfl)
theorem dX2_undo_16 : decode cX2_undo 16 = .ok (.isub, 1) := dk_100 (dk_at dksX2_undo_0 16 rfl rfl)
theorem dX2_undo_17 : decode cX2_undo 17 = .ok (.putfield 107, 3) := dk_181 0 107 (dk_at dksX2_undo_0 17 rfl rfl)
theorem dX2_undo_20 : decode cX2_undo 20 = .ok (.aload_n 0, 1) := dk_42 (dk_at dksX2_undo_0 20 rfl rfl)
theorem dX2_undo_21 : decode cX2_undo 21 = .ok (.sipush 484, 3) := dk_17 1 228 (dk_at dksX2_undo_0 21 rfl rfl)
theorem dX2_undo_24 : decode cX2_undo 24 = .ok (.sipush 484, 3) := dk_17 1 228 (dk_at dksX2_undo_1 0 rfl rfl)
theorem dX2_undo_27 : decode cX2_undo 27 = .ok (.aload_n 0, 1) := dk_42 (dk_at dksX2_undo_1 3 rfl rfl)
theorem dX2_undo_28 : decode cX2_undo 28 = .ok (.getfield 107, 3) := dk_180 0 107 (dk_at dksX2_undo_1 4 rfl rfl)
theorem dX2_undo_31 : decode cX2_undo 31 = .ok (.imul, 1) := dk_104 (dk_at dksX2_undo_1 7 rfl rfl)
theorem dX2_undo_32 : decode cX2_undo 32 = .ok (.iadd, 1) := dk_96 (dk_at dksX2_undo_1 8 rfl rfl)
theorem dX2_undo_33 : decode cX2_undo 33 = .ok (.iconst 0, 1) := dk_3 (dk_at dksX2_undo_1 9 rfl rfl)
theorem dX2_undo_34 : decode cX2_undo 34 = .ok (.invokevirtual 110, 3) := dk_182 0 110 (dk_at dksX2_undo_1 10 rfl rfl)
theorem dX2_undo_37 : decode cX2_undo 37 = .ok (.aload_n 0, 1) := dk_42 (dk_at dksX2_undo_1 13 rfl rfl)
theorem dX2_undo_38 : decode cX2_undo 38 = .ok (.getfield 107, 3) := dk_180 0 107 (dk_at dksX2_undo_1 14 rfl rfl)
theorem dX2_undo_41 : decode cX2_undo 41 = .ok (.ireturn, 1) := dk_172 (dk_at dksX2_undo_1 17 rfl rfl)
abbrev cX2_work : ByteArray := prog_15_method_53_code
def yX2_work : MethodName := ⟨RX2, "work", "(III)I"⟩
def dkwX2_work_3 : List UInt8 := [18, 114, 160, 0, 8, 18, 114, 167, 0, 5, 21, 4, 172]
abbrev dktX2_work_3 : List UInt8 := dkwX2_work_3 ++ []
def dkwX2_work_2 : List UInt8 := [27, 182, 0, 196, 42, 28, 29, 182, 1, 20, 54, 4, 42, 180, 0, 229, 154, 0, 13, 42, 27, 182, 0, 159]
abbrev dktX2_work_2 : List UInt8 := dkwX2_work_2 ++ dktX2_work_3
def dkwX2_work_1 : List UInt8 := [20, 1, 18, 184, 0, 88, 154, 0, 6, 18, 120, 172, 42, 27, 182, 0, 208, 154, 0, 6, 18, 195, 172, 42]
abbrev dktX2_work_1 : List UInt8 := dkwX2_work_1 ++ dktX2_work_2
def dkwX2_work_0 : List UInt8 := [27, 184, 0, 152, 154, 0, 6, 18, 155, 172, 28, 133, 9, 10, 184, 0, 88, 153, 0, 15, 29, 133, 9]
abbrev dktX2_work_0 : List UInt8 := dkwX2_work_0 ++ dktX2_work_1
theorem dksX2_work_0 : cX2_work.data.toList.drop 0 = dktX2_work_0 := by decide +kernel
theorem dksX2_work_1 : cX2_work.data.toList.drop 23 = dktX2_work_1 := dk_seg dksX2_work_0 23 rfl rfl
theorem dksX2_work_2 : cX2_work.data.toList.drop 47 = dktX2_work_2 := dk_seg dksX2_work_1 24 rfl rfl
theorem dksX2_work_3 : cX2_work.data.toList.drop 71 = dktX2_work_3 := dk_seg dksX2_work_2 24 rfl rfl
theorem dX2_work_0 : decode cX2_work 0 = .ok (.iload_n 1, 1) := dk_27 (dk_at dksX2_work_0 0 rfl rfl)
theorem dX2_work_1 : decode cX2_work 1 = .ok (.invokestatic 152, 3) := dk_184 0 152 (dk_at dksX2_work_0 1 rfl rfl)
theorem dX2_work_4 : decode cX2_work 4 = .ok (.ifCond .ne 6, 3) := dk_154 0 6 (dk_at dksX2_work_0 4 rfl rfl)
theorem dX2_work_7 : decode cX2_work 7 = .ok (.ldc 155, 2) := dk_18 155 (dk_at dksX2_work_0 7 rfl rfl)
theorem dX2_work_9 : decode cX2_work 9 = .ok (.ireturn, 1) := dk_172 (dk_at dksX2_work_0 9 rfl rfl)
theorem dX2_work_10 : decode cX2_work 10 = .ok (.iload_n 2, 1) := dk_28 (dk_at dksX2_work_0 10 rfl rfl)
theorem dX2_work_11 : decode cX2_work 11 = .ok (.i2l, 1) := dk_133 (dk_at dksX2_work_0 11 rfl rfl)
theorem dX2_work_12 : decode cX2_work 12 = .ok (.lconst 0, 1) := dk_9 (dk_at dksX2_work_0 12 rfl rfl)
theorem dX2_work_13 : decode cX2_work 13 = .ok (.lconst 1, 1) := dk_10 (dk_at dksX2_work_0 13 rfl rfl)
theorem dX2_work_14 : decode cX2_work 14 = .ok (.invokestatic 88, 3) := dk_184 0 88 (dk_at dksX2_work_0 14 rfl rfl)
theorem dX2_work_17 : decode cX2_work 17 = .ok (.ifCond .eq 15, 3) := dk_153 0 15 (dk_at dksX2_work_0 17 rfl rfl)
theorem dX2_work_20 : decode cX2_work 20 = .ok (.iload_n 3, 1) := dk_29 (dk_at dksX2_work_0 20 rfl rfl)
theorem dX2_work_21 : decode cX2_work 21 = .ok (.i2l, 1) := dk_133 (dk_at dksX2_work_0 21 rfl rfl)
theorem dX2_work_22 : decode cX2_work 22 = .ok (.lconst 0, 1) := dk_9 (dk_at dksX2_work_0 22 rfl rfl)
theorem dX2_work_23 : decode cX2_work 23 = .ok (.ldc2_w 274, 3) := dk_20 1 18 (dk_at dksX2_work_1 0 rfl rfl)
theorem dX2_work_26 : decode cX2_work 26 = .ok (.invokestatic 88, 3) := dk_184 0 88 (dk_at dksX2_work_1 3 rfl rfl)
theorem dX2_work_29 : decode cX2_work 29 = .ok (.ifCond .ne 6, 3) := dk_154 0 6 (dk_at dksX2_work_1 6 rfl rfl)
theorem dX2_work_32 : decode cX2_work 32 = .ok (.ldc 120, 2) := dk_18 120 (dk_at dksX2_work_1 9 rfl rfl)
theorem dX2_work_34 : decode cX2_work 34 = .ok (.ireturn, 1) := dk_172 (dk_at dksX2_work_1 11 rfl rfl)
theorem dX2_work_35 : decode cX2_work 35 = .ok (.aload_n 0, 1) := dk_42 (dk_at dksX2_work_1 12 rfl rfl)
theorem dX2_work_36 : decode cX2_work 36 = .ok (.iload_n 1, 1) := dk_27 (dk_at dksX2_work_1 13 rfl rfl)
theorem dX2_work_37 : decode cX2_work 37 = .ok (.invokevirtual 208, 3) := dk_182 0 208 (dk_at dksX2_work_1 14 rfl rfl)
theorem dX2_work_40 : decode cX2_work 40 = .ok (.ifCond .ne 6, 3) := dk_154 0 6 (dk_at dksX2_work_1 17 rfl rfl)
theorem dX2_work_43 : decode cX2_work 43 = .ok (.ldc 195, 2) := dk_18 195 (dk_at dksX2_work_1 20 rfl rfl)
theorem dX2_work_45 : decode cX2_work 45 = .ok (.ireturn, 1) := dk_172 (dk_at dksX2_work_1 22 rfl rfl)
theorem dX2_work_46 : decode cX2_work 46 = .ok (.aload_n 0, 1) := dk_42 (dk_at dksX2_work_1 23 rfl rfl)
theorem dX2_work_47 : decode cX2_work 47 = .ok (.iload_n 1, 1) := dk_27 (dk_at dksX2_work_2 0 rfl rfl)
theorem dX2_work_48 : decode cX2_work 48 = .ok (.invokevirtual 196, 3) := dk_182 0 196 (dk_at dksX2_work_2 1 rfl rfl)
theorem dX2_work_51 : decode cX2_work 51 = .ok (.aload_n 0, 1) := dk_42 (dk_at dksX2_work_2 4 rfl rfl)
theorem dX2_work_52 : decode cX2_work 52 = .ok (.iload_n 2, 1) := dk_28 (dk_at dksX2_work_2 5 rfl rfl)
theorem dX2_work_53 : decode cX2_work 53 = .ok (.iload_n 3, 1) := dk_29 (dk_at dksX2_work_2 6 rfl rfl)
theorem dX2_work_54 : decode cX2_work 54 = .ok (.invokevirtual 276, 3) := dk_182 1 20 (dk_at dksX2_work_2 7 rfl rfl)
theorem dX2_work_57 : decode cX2_work 57 = .ok (.istore 4, 2) := dk_54 4 (dk_at dksX2_work_2 10 rfl rfl)
theorem dX2_work_59 : decode cX2_work 59 = .ok (.aload_n 0, 1) := dk_42 (dk_at dksX2_work_2 12 rfl rfl)
theorem dX2_work_60 : decode cX2_work 60 = .ok (.getfield 229, 3) := dk_180 0 229 (dk_at dksX2_work_2 13 rfl rfl)
theorem dX2_work_63 : decode cX2_work 63 = .ok (.ifCond .ne 13, 3) := dk_154 0 13 (dk_at dksX2_work_2 16 rfl rfl)
theorem dX2_work_66 : decode cX2_work 66 = .ok (.aload_n 0, 1) := dk_42 (dk_at dksX2_work_2 19 rfl rfl)
theorem dX2_work_67 : decode cX2_work 67 = .ok (.iload_n 1, 1) := dk_27 (dk_at dksX2_work_2 20 rfl rfl)
theorem dX2_work_68 : decode cX2_work 68 = .ok (.invokevirtual 159, 3) := dk_182 0 159 (dk_at dksX2_work_2 21 rfl rfl)
theorem dX2_work_71 : decode cX2_work 71 = .ok (.ldc 114, 2) := dk_18 114 (dk_at dksX2_work_3 0 rfl rfl)
theorem dX2_work_73 : decode cX2_work 73 = .ok (.if_icmp .ne 8, 3) := dk_160 0 8 (dk_at dksX2_work_3 2 rfl rfl)
theorem dX2_work_76 : decode cX2_work 76 = .ok (.ldc 114, 2) := dk_18 114 (dk_at dksX2_work_3 5 rfl rfl)
theorem dX2_work_78 : decode cX2_work 78 = .ok (.goto 5, 3) := dk_167 0 5 (dk_at dksX2_work_3 7 rfl rfl)
theorem dX2_work_81 : decode cX2_work 81 = .ok (.iload 4, 2) := dk_21 4 (dk_at dksX2_work_3 10 rfl rfl)
theorem dX2_work_83 : decode cX2_work 83 = .ok (.ireturn, 1) := dk_172 (dk_at dksX2_work_3 12 rfl rfl)
abbrev cX2_works : ByteArray := prog_15_method_52_code
def yX2_works : MethodName := ⟨RX2, "works", "(II)I"⟩
def dkwX2_works_0 : List UInt8 := [27, 154, 0, 11, 42, 28, 182, 1, 12, 167, 0, 8, 42, 28, 182, 1, 15, 172]
abbrev dktX2_works_0 : List UInt8 := dkwX2_works_0 ++ []
theorem dksX2_works_0 : cX2_works.data.toList.drop 0 = dktX2_works_0 := by decide +kernel
theorem dX2_works_0 : decode cX2_works 0 = .ok (.iload_n 1, 1) := dk_27 (dk_at dksX2_works_0 0 rfl rfl)
theorem dX2_works_1 : decode cX2_works 1 = .ok (.ifCond .ne 11, 3) := dk_154 0 11 (dk_at dksX2_works_0 1 rfl rfl)
theorem dX2_works_4 : decode cX2_works 4 = .ok (.aload_n 0, 1) := dk_42 (dk_at dksX2_works_0 4 rfl rfl)
theorem dX2_works_5 : decode cX2_works 5 = .ok (.iload_n 2, 1) := dk_28 (dk_at dksX2_works_0 5 rfl rfl)
theorem dX2_works_6 : decode cX2_works 6 = .ok (.invokevirtual 268, 3) := dk_182 1 12 (dk_at dksX2_works_0 6 rfl rfl)
theorem dX2_works_9 : decode cX2_works 9 = .ok (.goto 8, 3) := dk_167 0 8 (dk_at dksX2_works_0 9 rfl rfl)
theorem dX2_works_12 : decode cX2_works 12 = .ok (.aload_n 0, 1) := dk_42 (dk_at dksX2_works_0 12 rfl rfl)
theorem dX2_works_13 : decode cX2_works 13 = .ok (.iload_n 2, 1) := dk_28 (dk_at dksX2_works_0 13 rfl rfl)
theorem dX2_works_14 : decode cX2_works 14 = .ok (.invokevirtual 271, 3) := dk_182 1 15 (dk_at dksX2_works_0 14 rfl rfl)
theorem dX2_works_17 : decode cX2_works 17 = .ok (.ireturn, 1) := dk_172 (dk_at dksX2_works_0 17 rfl rfl)
abbrev cX2_worksPlainly : ByteArray := prog_15_method_43_code
def yX2_worksPlainly : MethodName := ⟨RX2, "worksPlainly", "(I)I"⟩
def dkwX2_worksPlainly_3 : List UInt8 := [182, 0, 233, 153, 0, 7, 4, 167, 0, 4, 3, 181, 0, 236, 167, 255, 188, 28, 172]
abbrev dktX2_worksPlainly_3 : List UInt8 := dkwX2_worksPlainly_3 ++ []
def dkwX2_worksPlainly_2 : List UInt8 := [17, 1, 44, 164, 0, 7, 4, 167, 0, 4, 3, 181, 0, 229, 42, 42, 180, 0, 229, 154, 0, 14, 42]
abbrev dktX2_worksPlainly_2 : List UInt8 := dkwX2_worksPlainly_2 ++ dktX2_worksPlainly_3
def dkwX2_worksPlainly_1 : List UInt8 := [162, 0, 62, 42, 180, 0, 229, 154, 0, 55, 42, 182, 0, 239, 132, 2, 1, 42, 42, 180, 0, 104]
abbrev dktX2_worksPlainly_1 : List UInt8 := dkwX2_worksPlainly_1 ++ dktX2_worksPlainly_2
def dkwX2_worksPlainly_0 : List UInt8 := [3, 61, 42, 3, 181, 0, 229, 42, 42, 182, 0, 233, 181, 0, 236, 42, 180, 0, 236, 153, 0, 67, 28, 27]
abbrev dktX2_worksPlainly_0 : List UInt8 := dkwX2_worksPlainly_0 ++ dktX2_worksPlainly_1
theorem dksX2_worksPlainly_0 : cX2_worksPlainly.data.toList.drop 0 = dktX2_worksPlainly_0 := by decide +kernel
theorem dksX2_worksPlainly_1 : cX2_worksPlainly.data.toList.drop 24 = dktX2_worksPlainly_1 := dk_seg dksX2_worksPlainly_0 24 rfl rfl
theorem dksX2_worksPlainly_2 : cX2_worksPlainly.data.toList.drop 46 = dktX2_worksPlainly_2 := dk_seg dksX2_worksPlainly_1 22 rfl rfl
theorem dksX2_worksPlainly_3 : cX2_worksPlainly.data.toList.drop 69 = dktX2_worksPlainly_3 := dk_seg dksX2_worksPlainly_2 23 rfl rfl
theorem dX2_worksPlainly_0 : decode cX2_worksPlainly 0 = .ok (.iconst 0, 1) := dk_3 (dk_at dksX2_worksPlainly_0 0 rfl rfl)
theorem dX2_worksPlainly_1 : decode cX2_worksPlainly 1 = .ok (.istore_n 2, 1) := dk_61 (dk_at dksX2_worksPlainly_0 1 rfl rfl)
theorem dX2_worksPlainly_2 : decode cX2_worksPlainly 2 = .ok (.aload_n 0, 1) := dk_42 (dk_at dksX2_worksPlainly_0 2 rfl rfl)
theorem dX2_worksPlainly_3 : decode cX2_worksPlainly 3 = .ok (.iconst 0, 1) := dk_3 (dk_at dksX2_worksPlainly_0 3 rfl rfl)
theorem dX2_worksPlainly_4 : decode cX2_worksPlainly 4 = .ok (.putfield 229, 3) := dk_181 0 229 (dk_at dksX2_worksPlainly_0 4 rfl rfl)
theorem dX2_worksPlainly_7 : decode cX2_worksPlainly 7 = .ok (.aload_n 0, 1) := dk_42 (dk_at dksX2_worksPlainly_0 7 rfl rfl)
theorem dX2_worksPlainly_8 : decode cX2_worksPlainly 8 = .ok (.aload_n 0, 1) := dk_42 (dk_at dksX2_worksPlainly_0 8 rfl rfl)
theorem dX2_worksPlainly_9 : decode cX2_worksPlainly 9 = .ok (.invokevirtual 233, 3) := dk_182 0 233 (dk_at dksX2_worksPlainly_0 9 rfl rfl)
theorem dX2_worksPlainly_12 : decode cX2_worksPlainly 12 = .ok (.putfield 236, 3) := dk_181 0 236 (dk_at dksX2_worksPlainly_0 12 rfl rfl)
theorem dX2_worksPlainly_15 : decode cX2_worksPlainly 15 = .ok (.aload_n 0, 1) := dk_42 (dk_at dksX2_worksPlainly_0 15 rfl rfl)
theorem dX2_worksPlainly_16 : decode cX2_worksPlainly 16 = .ok (.getfield 236, 3) := dk_180 0 236 (dk_at dksX2_worksPlainly_0 16 rfl rfl)
theorem dX2_worksPlainly_19 : decode cX2_worksPlainly 19 = .ok (.ifCond .eq 67, 3) := dk_153 0 67 (dk_at dksX2_worksPlainly_0 19 rfl rfl)
theorem dX2_worksPlainly_22 : decode cX2_worksPlainly 22 = .ok (.iload_n 2, 1) := dk_28 (dk_at dksX2_worksPlainly_0 22 rfl rfl)
theorem dX2_worksPlainly_23 : decode cX2_worksPlainly 23 = .ok (.iload_n 1, 1) := dk_27 (dk_at dksX2_worksPlainly_0 23 rfl rfl)
theorem dX2_worksPlainly_24 : decode cX2_worksPlainly 24 = .ok (.if_icmp .ge 62, 3) := dk_162 0 62 (dk_at dksX2_worksPlainly_1 0 rfl rfl)
theorem dX2_worksPlainly_27 : decode cX2_worksPlainly 27 = .ok (.aload_n 0, 1) := dk_42 (dk_at dksX2_worksPlainly_1 3 rfl rfl)
theorem dX2_worksPlainly_28 : decode cX2_worksPlainly 28 = .ok (.getfield 229, 3) := dk_180 0 229 (dk_at dksX2_worksPlainly_1 4 rfl rfl)
theorem dX2_worksPlainly_31 : decode cX2_worksPlainly 31 = .ok (.ifCond .ne 55, 3) := dk_154 0 55 (dk_at dksX2_worksPlainly_1 7 rfl rfl)
theorem dX2_worksPlainly_34 : decode cX2_worksPlainly 34 = .ok (.aload_n 0, 1) := dk_42 (dk_at dksX2_worksPlainly_1 10 rfl rfl)
theorem dX2_worksPlainly_35 : decode cX2_worksPlainly 35 = .ok (.invokevirtual 239, 3) := dk_182 0 239 (dk_at dksX2_worksPlainly_1 11 rfl rfl)
theorem dX2_worksPlainly_38 : decode cX2_worksPlainly 38 = .ok (.iinc 2 1, 3) := dk_132 2 1 (dk_at dksX2_worksPlainly_1 14 rfl rfl)
theorem dX2_worksPlainly_41 : decode cX2_worksPlainly 41 = .ok (.aload_n 0, 1) := dk_42 (dk_at dksX2_worksPlainly_1 17 rfl rfl)
theorem dX2_worksPlainly_42 : decode cX2_worksPlainly 42 = .ok (.aload_n 0, 1) := dk_42 (dk_at dksX2_worksPlainly_1 18 rfl rfl)
theorem dX2_worksPlainly_43 : decode cX2_worksPlainly 43 = .ok (.getfield 104, 3) := dk_180 0 104 (dk_at dksX2_worksPlainly_1 19 rfl rfl)
theorem dX2_worksPlainly_46 : decode cX2_worksPlainly 46 = .ok (.sipush 300, 3) := dk_17 1 44 (dk_at dksX2_worksPlainly_2 0 rfl rfl)
theorem dX2_worksPlainly_49 : decode cX2_worksPlainly 49 = .ok (.if_icmp .le 7, 3) := dk_164 0 7 (dk_at dksX2_worksPlainly_2 3 rfl rfl)
theorem dX2_worksPlainly_52 : decode cX2_worksPlainly 52 = .ok (.iconst 1, 1) := dk_4 (dk_at dksX2_worksPlainly_2 6 rfl rfl)
theorem dX2_worksPlainly_53 : decode cX2_worksPlainly 53 = .ok (.goto 4, 3) := dk_167 0 4 (dk_at dksX2_worksPlainly_2 7 rfl rfl)
theorem dX2_worksPlainly_56 : decode cX2_worksPlainly 56 = .ok (.iconst 0, 1) := dk_3 (dk_at dksX2_worksPlainly_2 10 rfl rfl)
theorem dX2_worksPlainly_57 : decode cX2_worksPlainly 57 = .ok (.putfield 229, 3) := dk_181 0 229 (dk_at dksX2_worksPlainly_2 11 rfl rfl)
theorem dX2_worksPlainly_60 : decode cX2_worksPlainly 60 = .ok (.aload_n 0, 1) := dk_42 (dk_at dksX2_worksPlainly_2 14 rfl rfl)
theorem dX2_worksPlainly_61 : decode cX2_worksPlainly 61 = .ok (.aload_n 0, 1) := dk_42 (dk_at dksX2_worksPlainly_2 15 rfl rfl)
theorem dX2_worksPlainly_62 : decode cX2_worksPlainly 62 = .ok (.getfield 229, 3) := dk_180 0 229 (dk_at dksX2_worksPlainly_2 16 rfl rfl)
theorem dX2_worksPlainly_65 : decode cX2_worksPlainly 65 = .ok (.ifCond .ne 14, 3) := dk_154 0 14 (dk_at dksX2_worksPlainly_2 19 rfl rfl)
theorem dX2_worksPlainly_68 : decode cX2_worksPlainly 68 = .ok (.aload_n 0, 1) := dk_42 (dk_at dksX2_worksPlainly_2 22 rfl rfl)
theorem dX2_worksPlainly_69 : decode cX2_worksPlainly 69 = .ok (.invokevirtual 233, 3) := dk_182 0 233 (dk_at dksX2_worksPlainly_3 0 rfl rfl)
theorem dX2_worksPlainly_72 : decode cX2_worksPlainly 72 = .ok (.ifCond .eq 7, 3) := dk_153 0 7 (dk_at dksX2_worksPlainly_3 3 rfl rfl)
theorem dX2_worksPlainly_75 : decode cX2_worksPlainly 75 = .ok (.iconst 1, 1) := dk_4 (dk_at dksX2_worksPlainly_3 6 rfl rfl)
theorem dX2_worksPlainly_76 : decode cX2_worksPlainly 76 = .ok (.goto 4, 3) := dk_167 0 4 (dk_at dksX2_worksPlainly_3 7 rfl rfl)
theorem dX2_worksPlainly_79 : decode cX2_worksPlainly 79 = .ok (.iconst 0, 1) := dk_3 (dk_at dksX2_worksPlainly_3 10 rfl rfl)
theorem dX2_worksPlainly_80 : decode cX2_worksPlainly 80 = .ok (.putfield 236, 3) := dk_181 0 236 (dk_at dksX2_worksPlainly_3 11 rfl rfl)
theorem dX2_worksPlainly_83 : decode cX2_worksPlainly 83 = .ok (.goto (-68), 3) := dk_167 255 188 (dk_at dksX2_worksPlainly_3 14 rfl rfl)
theorem dX2_worksPlainly_86 : decode cX2_worksPlainly 86 = .ok (.iload_n 2, 1) := dk_28 (dk_at dksX2_worksPlainly_3 17 rfl rfl)
theorem dX2_worksPlainly_87 : decode cX2_worksPlainly 87 = .ok (.ireturn, 1) := dk_172 (dk_at dksX2_worksPlainly_3 18 rfl rfl)
abbrev cX2_finds : ByteArray := prog_15_method_41_code
def yX2_finds : MethodName := ⟨RX2, "finds", "()Z"⟩
def dkwX2_finds_9 : List UInt8 := [21, 7, 79, 132, 6, 1, 167, 255, 193, 167, 255, 46, 3, 172]
abbrev dktX2_finds_9 : List UInt8 := dkwX2_finds_9 ++ []
def dkwX2_finds_8 : List UInt8 := [42, 180, 0, 94, 4, 100, 21, 6, 100, 46, 79, 42, 180, 0, 30, 42, 180, 0, 94, 4, 100, 21, 6, 100]
abbrev dktX2_finds_8 : List UInt8 := dkwX2_finds_8 ++ dktX2_finds_9
def dkwX2_finds_7 : List UInt8 := [180, 0, 30, 21, 5, 21, 6, 96, 46, 54, 7, 42, 180, 0, 30, 21, 5, 21, 6, 96, 42, 180, 0, 30]
abbrev dktX2_finds_7 : List UInt8 := dkwX2_finds_7 ++ dktX2_finds_8
def dkwX2_finds_6 : List UInt8 := [182, 0, 165, 54, 4, 132, 6, 1, 167, 255, 233, 3, 54, 6, 21, 6, 28, 5, 108, 162, 0, 61, 42]
abbrev dktX2_finds_6 : List UInt8 := dkwX2_finds_6 ++ dktX2_finds_7
def dkwX2_finds_5 : List UInt8 := [180, 0, 94, 54, 5, 3, 54, 6, 21, 6, 28, 162, 0, 23, 42, 21, 4, 182, 0, 172, 42, 21, 4]
abbrev dktX2_finds_5 : List UInt8 := dkwX2_finds_5 ++ dktX2_finds_6
def dkwX2_finds_4 : List UInt8 := [182, 0, 165, 54, 4, 132, 5, 1, 167, 255, 230, 42, 180, 0, 39, 6, 21, 4, 79, 4, 172, 42]
abbrev dktX2_finds_4 : List UInt8 := dkwX2_finds_4 ++ dktX2_finds_5
def dkwX2_finds_3 : List UInt8 := [181, 0, 226, 3, 54, 5, 21, 5, 29, 162, 0, 26, 42, 180, 0, 39, 21, 5, 21, 4, 79, 42, 21, 4]
abbrev dktX2_finds_3 : List UInt8 := dkwX2_finds_3 ++ dktX2_finds_4
def dkwX2_finds_2 : List UInt8 := [46, 184, 0, 223, 62, 27, 28, 96, 4, 96, 54, 4, 29, 28, 163, 0, 54, 42, 27, 28, 96, 29, 100]
abbrev dktX2_finds_2 : List UInt8 := dkwX2_finds_2 ++ dktX2_finds_3
def dkwX2_finds_1 : List UInt8 := [42, 180, 0, 24, 27, 28, 96, 46, 154, 0, 9, 132, 2, 1, 167, 255, 242, 42, 180, 0, 24, 27, 28, 96]
abbrev dktX2_finds_1 : List UInt8 := dkwX2_finds_1 ++ dktX2_finds_2
def dkwX2_finds_0 : List UInt8 := [42, 3, 181, 0, 94, 42, 3, 182, 0, 172, 42, 180, 0, 94, 158, 0, 209, 42, 182, 0, 175, 60, 3, 61]
abbrev dktX2_finds_0 : List UInt8 := dkwX2_finds_0 ++ dktX2_finds_1
theorem dksX2_finds_0 : cX2_finds.data.toList.drop 0 = dktX2_finds_0 := by decide +kernel
theorem dksX2_finds_1 : cX2_finds.data.toList.drop 24 = dktX2_finds_1 := dk_seg dksX2_finds_0 24 rfl rfl
theorem dksX2_finds_2 : cX2_finds.data.toList.drop 48 = dktX2_finds_2 := dk_seg dksX2_finds_1 24 rfl rfl
theorem dksX2_finds_3 : cX2_finds.data.toList.drop 71 = dktX2_finds_3 := dk_seg dksX2_finds_2 23 rfl rfl
theorem dksX2_finds_4 : cX2_finds.data.toList.drop 95 = dktX2_finds_4 := dk_seg dksX2_finds_3 24 rfl rfl
theorem dksX2_finds_5 : cX2_finds.data.toList.drop 117 = dktX2_finds_5 := dk_seg dksX2_finds_4 22 rfl rfl
theorem dksX2_finds_6 : cX2_finds.data.toList.drop 140 = dktX2_finds_6 := dk_seg dksX2_finds_5 23 rfl rfl
theorem dksX2_finds_7 : cX2_finds.data.toList.drop 163 = dktX2_finds_7 := dk_seg dksX2_finds_6 23 rfl rfl
theorem dksX2_finds_8 : cX2_finds.data.toList.drop 187 = dktX2_finds_8 := dk_seg dksX2_finds_7 24 rfl rfl
theorem dksX2_finds_9 : cX2_finds.data.toList.drop 211 = dktX2_finds_9 := dk_seg dksX2_finds_8 24 rfl rfl
theorem dX2_finds_0 : decode cX2_finds 0 = .ok (.aload_n 0, 1) := dk_42 (dk_at dksX2_finds_0 0 rfl rfl)
theorem dX2_finds_1 : decode cX2_finds 1 = .ok (.iconst 0, 1) := dk_3 (dk_at dksX2_finds_0 1 rfl rfl)
theorem dX2_finds_2 : decode cX2_finds 2 = .ok (.putfield 94, 3) := dk_181 0 94 (dk_at dksX2_finds_0 2 rfl rfl)
theorem dX2_finds_5 : decode cX2_finds 5 = .ok (.aload_n 0, 1) := dk_42 (dk_at dksX2_finds_0 5 rfl rfl)
theorem dX2_finds_6 : decode cX2_finds 6 = .ok (.iconst 0, 1) := dk_3 (dk_at dksX2_finds_0 6 rfl rfl)
theorem dX2_finds_7 : decode cX2_finds 7 = .ok (.invokevirtual 172, 3) := dk_182 0 172 (dk_at dksX2_finds_0 7 rfl rfl)
theorem dX2_finds_10 : decode cX2_finds 10 = .ok (.aload_n 0, 1) := dk_42 (dk_at dksX2_finds_0 10 rfl rfl)
theorem dX2_finds_11 : decode cX2_finds 11 = .ok (.getfield 94, 3) := dk_180 0 94 (dk_at dksX2_finds_0 11 rfl rfl)
theorem dX2_finds_14 : decode cX2_finds 14 = .ok (.ifCond .le 209, 3) := dk_158 0 209 (dk_at dksX2_finds_0 14 rfl rfl)
theorem dX2_finds_17 : decode cX2_finds 17 = .ok (.aload_n 0, 1) := dk_42 (dk_at dksX2_finds_0 17 rfl rfl)
theorem dX2_finds_18 : decode cX2_finds 18 = .ok (.invokevirtual 175, 3) := dk_182 0 175 (dk_at dksX2_finds_0 18 rfl rfl)
theorem dX2_finds_21 : decode cX2_finds 21 = .ok (.istore_n 1, 1) := dk_60 (dk_at dksX2_finds_0 21 rfl rfl)
theorem dX2_finds_22 : decode cX2_finds 22 = .ok (.iconst 0, 1) := dk_3 (dk_at dksX2_finds_0 22 rfl rfl)
theorem dX2_finds_23 : decode cX2_finds 23 = .ok (.istore_n 2, 1) := dk_61 (dk_at dksX2_finds_0 23 rfl rfl)
theorem dX2_finds_24 : decode cX2_finds 24 = .ok (.aload_n 0, 1) := dk_42 (dk_at dksX2_finds_1 0 rfl rfl)
theorem dX2_finds_25 : decode cX2_finds 25 = .ok (.getfield 24, 3) := dk_180 0 24 (dk_at dksX2_finds_1 1 rfl rfl)
theorem dX2_finds_28 : decode cX2_finds 28 = .ok (.iload_n 1, 1) := dk_27 (dk_at dksX2_finds_1 4 rfl rfl)
theorem dX2_finds_29 : decode cX2_finds 29 = .ok (.iload_n 2, 1) := dk_28 (dk_at dksX2_finds_1 5 rfl rfl)
theorem dX2_finds_30 : decode cX2_finds 30 = .ok (.iadd, 1) := dk_96 (dk_at dksX2_finds_1 6 rfl rfl)
theorem dX2_finds_31 : decode cX2_finds 31 = .ok (.iaload, 1) := dk_46 (dk_at dksX2_finds_1 7 rfl rfl)
theorem dX2_finds_32 : decode cX2_finds 32 = .ok (.ifCond .ne 9, 3) := dk_154 0 9 (dk_at dksX2_finds_1 8 rfl rfl)
theorem dX2_finds_35 : decode cX2_finds 35 = .ok (.iinc 2 1, 3) := dk_132 2 1 (dk_at dksX2_finds_1 11 rfl rfl)
theorem dX2_finds_38 : decode cX2_finds 38 = .ok (.goto (-14), 3) := dk_167 255 242 (dk_at dksX2_finds_1 14 rfl rfl)
theorem dX2_finds_41 : decode cX2_finds 41 = .ok (.aload_n 0, 1) := dk_42 (dk_at dksX2_finds_1 17 rfl rfl)
theorem dX2_finds_42 : decode cX2_finds 42 = .ok (.getfield 24, 3) := dk_180 0 24 (dk_at dksX2_finds_1 18 rfl rfl)
theorem dX2_finds_45 : decode cX2_finds 45 = .ok (.iload_n 1, 1) := dk_27 (dk_at dksX2_finds_1 21 rfl rfl)
theorem dX2_finds_46 : decode cX2_finds 46 = .ok (.iload_n 2, 1) := dk_28 (dk_at dksX2_finds_1 22 rfl rfl)
theorem dX2_finds_47 : decode cX2_finds 47 = .ok (.iadd, 1) := dk_96 (dk_at dksX2_finds_1 23 rfl rfl)
theorem dX2_finds_48 : decode cX2_finds 48 = .ok (.iaload, 1) := dk_46 (dk_at dksX2_finds_2 0 rfl rfl)
theorem dX2_finds_49 : decode cX2_finds 49 = .ok (.invokestatic 223, 3) := dk_184 0 223 (dk_at dksX2_finds_2 1 rfl rfl)
theorem dX2_finds_52 : decode cX2_finds 52 = .ok (.istore_n 3, 1) := dk_62 (dk_at dksX2_finds_2 4 rfl rfl)
theorem dX2_finds_53 : decode cX2_finds 53 = .ok (.iload_n 1, 1) := dk_27 (dk_at dksX2_finds_2 5 rfl rfl)
theorem dX2_finds_54 : decode cX2_finds 54 = .ok (.iload_n 2, 1) := dk_28 (dk_at dksX2_finds_2 6 rfl rfl)
theorem dX2_finds_55 : decode cX2_finds 55 = .ok (.iadd, 1) := dk_96 (dk_at dksX2_finds_2 7 rfl rfl)
theorem dX2_finds_56 : decode cX2_finds 56 = .ok (.iconst 1, 1) := dk_4 (dk_at dksX2_finds_2 8 rfl rfl)
theorem dX2_finds_57 : decode cX2_finds 57 = .ok (.iadd, 1) := dk_96 (dk_at dksX2_finds_2 9 rfl rfl)
theorem dX2_finds_58 : decode cX2_finds 58 = .ok (.istore 4, 2) := dk_54 4 (dk_at dksX2_finds_2 10 rfl rfl)
theorem dX2_finds_60 : decode cX2_finds 60 = .ok (.iload_n 3, 1) := dk_29 (dk_at dksX2_finds_2 12 rfl rfl)
theorem dX2_finds_61 : decode cX2_finds 61 = .ok (.iload_n 2, 1) := dk_28 (dk_at dksX2_finds_2 13 rfl rfl)
theorem dX2_finds_62 : decode cX2_finds 62 = .ok (.if_icmp .gt 54, 3) := dk_163 0 54 (dk_at dksX2_finds_2 14 rfl rfl)
theorem dX2_finds_65 : decode cX2_finds 65 = .ok (.aload_n 0, 1) := dk_42 (dk_at dksX2_finds_2 17 rfl rfl)
theorem dX2_finds_66 : decode cX2_finds 66 = .ok (.iload_n 1, 1) := dk_27 (dk_at dksX2_finds_2 18 rfl rfl)
theorem dX2_finds_67 : decode cX2_finds 67 = .ok (.iload_n 2, 1) := dk_28 (dk_at dksX2_finds_2 19 rfl rfl)
theorem dX2_finds_68 : decode cX2_finds 68 = .ok (.iadd, 1) := dk_96 (dk_at dksX2_finds_2 20 rfl rfl)
theorem dX2_finds_69 : decode cX2_finds 69 = .ok (.iload_n 3, 1) := dk_29 (dk_at dksX2_finds_2 21 rfl rfl)
theorem dX2_finds_70 : decode cX2_finds 70 = .ok (.isub, 1) := dk_100 (dk_at dksX2_finds_2 22 rfl rfl)
theorem dX2_finds_71 : decode cX2_finds 71 = .ok (.putfield 226, 3) := dk_181 0 226 (dk_at dksX2_finds_3 0 rfl rfl)
theorem dX2_finds_74 : decode cX2_finds 74 = .ok (.iconst 0, 1) := dk_3 (dk_at dksX2_finds_3 3 rfl rfl)
theorem dX2_finds_75 : decode cX2_finds 75 = .ok (.istore 5, 2) := dk_54 5 (dk_at dksX2_finds_3 4 rfl rfl)
theorem dX2_finds_77 : decode cX2_finds 77 = .ok (.iload 5, 2) := dk_21 5 (dk_at dksX2_finds_3 6 rfl rfl)
theorem dX2_finds_79 : decode cX2_finds 79 = .ok (.iload_n 3, 1) := dk_29 (dk_at dksX2_finds_3 8 rfl rfl)
theorem dX2_finds_80 : decode cX2_finds 80 = .ok (.if_icmp .ge 26, 3) := dk_162 0 26 (dk_at dksX2_finds_3 9 rfl rfl)
theorem dX2_finds_83 : decode cX2_finds 83 = .ok (.aload_n 0, 1) := dk_42 (dk_at dksX2_finds_3 12 rfl rfl)
theorem dX2_finds_84 : decode cX2_finds 84 = .ok (.getfield 39, 3) := dk_180 0 39 (dk_at dksX2_finds_3 13 rfl rfl)
theorem dX2_finds_87 : decode cX2_finds 87 = .ok (.iload 5, 2) := dk_21 5 (dk_at dksX2_finds_3 16 rfl rfl)
theorem dX2_finds_89 : decode cX2_finds 89 = .ok (.iload 4, 2) := dk_21 4 (dk_at dksX2_finds_3 18 rfl rfl)
theorem dX2_finds_91 : decode cX2_finds 91 = .ok (.iastore, 1) := dk_79 (dk_at dksX2_finds_3 20 rfl rfl)
theorem dX2_finds_92 : decode cX2_finds 92 = .ok (.aload_n 0, 1) := dk_42 (dk_at dksX2_finds_3 21 rfl rfl)
theorem dX2_finds_93 : decode cX2_finds 93 = .ok (.iload 4, 2) := dk_21 4 (dk_at dksX2_finds_3 22 rfl rfl)
theorem dX2_finds_95 : decode cX2_finds 95 = .ok (.invokevirtual 165, 3) := dk_182 0 165 (dk_at dksX2_finds_4 0 rfl rfl)
theorem dX2_finds_98 : decode cX2_finds 98 = .ok (.istore 4, 2) := dk_54 4 (dk_at dksX2_finds_4 3 rfl rfl)
theorem dX2_finds_100 : decode cX2_finds 100 = .ok (.iinc 5 1, 3) := dk_132 5 1 (dk_at dksX2_finds_4 5 rfl rfl)
theorem dX2_finds_103 : decode cX2_finds 103 = .ok (.goto (-26), 3) := dk_167 255 230 (dk_at dksX2_finds_4 8 rfl rfl)
theorem dX2_finds_106 : decode cX2_finds 106 = .ok (.aload_n 0, 1) := dk_42 (dk_at dksX2_finds_4 11 rfl rfl)
theorem dX2_finds_107 : decode cX2_finds 107 = .ok (.getfield 39, 3) := dk_180 0 39 (dk_at dksX2_finds_4 12 rfl rfl)
theorem dX2_finds_110 : decode cX2_finds 110 = .ok (.iconst 3, 1) := dk_6 (dk_at dksX2_finds_4 15 rfl rfl)
theorem dX2_finds_111 : decode cX2_finds 111 = .ok (.iload 4, 2) := dk_21 4 (dk_at dksX2_finds_4 16 rfl rfl)
theorem dX2_finds_113 : decode cX2_finds 113 = .ok (.iastore, 1) := dk_79 (dk_at dksX2_finds_4 18 rfl rfl)
theorem dX2_finds_114 : decode cX2_finds 114 = .ok (.iconst 1, 1) := dk_4 (dk_at dksX2_finds_4 19 rfl rfl)
theorem dX2_finds_115 : decode cX2_finds 115 = .ok (.ireturn, 1) := dk_172 (dk_at dksX2_finds_4 20 rfl rfl)
theorem dX2_finds_116 : decode cX2_finds 116 = .ok (.aload_n 0, 1) := dk_42 (dk_at dksX2_finds_4 21 rfl rfl)
theorem dX2_finds_117 : decode cX2_finds 117 = .ok (.getfield 94, 3) := dk_180 0 94 (dk_at dksX2_finds_5 0 rfl rfl)
theorem dX2_finds_120 : decode cX2_finds 120 = .ok (.istore 5, 2) := dk_54 5 (dk_at dksX2_finds_5 3 rfl rfl)
theorem dX2_finds_122 : decode cX2_finds 122 = .ok (.iconst 0, 1) := dk_3 (dk_at dksX2_finds_5 5 rfl rfl)
theorem dX2_finds_123 : decode cX2_finds 123 = .ok (.istore 6, 2) := dk_54 6 (dk_at dksX2_finds_5 6 rfl rfl)
theorem dX2_finds_125 : decode cX2_finds 125 = .ok (.iload 6, 2) := dk_21 6 (dk_at dksX2_finds_5 8 rfl rfl)
theorem dX2_finds_127 : decode cX2_finds 127 = .ok (.iload_n 2, 1) := dk_28 (dk_at dksX2_finds_5 10 rfl rfl)
theorem dX2_finds_128 : decode cX2_finds 128 = .ok (.if_icmp .ge 23, 3) := dk_162 0 23 (dk_at dksX2_finds_5 11 rfl rfl)
theorem dX2_finds_131 : decode cX2_finds 131 = .ok (.aload_n 0, 1) := dk_42 (dk_at dksX2_finds_5 14 rfl rfl)
theorem dX2_finds_132 : decode cX2_finds 132 = .ok (.iload 4, 2) := dk_21 4 (dk_at dksX2_finds_5 15 rfl rfl)
theorem dX2_finds_134 : decode cX2_finds 134 = .ok (.invokevirtual 172, 3) := dk_182 0 172 (dk_at dksX2_finds_5 17 rfl rfl)
theorem dX2_finds_137 : decode cX2_finds 137 = .ok (.aload_n 0, 1) := dk_42 (dk_at dksX2_finds_5 20 rfl rfl)
theorem dX2_finds_138 : decode cX2_finds 138 = .ok (.iload 4, 2) := dk_21 4 (dk_at dksX2_finds_5 21 rfl rfl)
theorem dX2_finds_140 : decode cX2_finds 140 = .ok (.invokevirtual 165, 3) := dk_182 0 165 (dk_at dksX2_finds_6 0 rfl rfl)
theorem dX2_finds_143 : decode cX2_finds 143 = .ok (.istore 4, 2) := dk_54 4 (dk_at dksX2_finds_6 3 rfl rfl)
theorem dX2_finds_145 : decode cX2_finds 145 = .ok (.iinc 6 1, 3) := dk_132 6 1 (dk_at dksX2_finds_6 5 rfl rfl)
theorem dX2_finds_148 : decode cX2_finds 148 = .ok (.goto (-23), 3) := dk_167 255 233 (dk_at dksX2_finds_6 8 rfl rfl)
theorem dX2_finds_151 : decode cX2_finds 151 = .ok (.iconst 0, 1) := dk_3 (dk_at dksX2_finds_6 11 rfl rfl)
theorem dX2_finds_152 : decode cX2_finds 152 = .ok (.istore 6, 2) := dk_54 6 (dk_at dksX2_finds_6 12 rfl rfl)
theorem dX2_finds_154 : decode cX2_finds 154 = .ok (.iload 6, 2) := dk_21 6 (dk_at dksX2_finds_6 14 rfl rfl)
theorem dX2_finds_156 : decode cX2_finds 156 = .ok (.iload_n 2, 1) := dk_28 (dk_at dksX2_finds_6 16 rfl rfl)
theorem dX2_finds_157 : decode cX2_finds 157 = .ok (.iconst 2, 1) := dk_5 (dk_at dksX2_finds_6 17 rfl rfl)
theorem dX2_finds_158 : decode cX2_finds 158 = .ok (.idiv, 1) := dk_108 (dk_at dksX2_finds_6 18 rfl rfl)
theorem dX2_finds_159 : decode cX2_finds 159 = .ok (.if_icmp .ge 61, 3) := dk_162 0 61 (dk_at dksX2_finds_6 19 rfl rfl)
theorem dX2_finds_162 : decode cX2_finds 162 = .ok (.aload_n 0, 1) := dk_42 (dk_at dksX2_finds_6 22 rfl rfl)
theorem dX2_finds_163 : decode cX2_finds 163 = .ok (.getfield 30, 3) := dk_180 0 30 (dk_at dksX2_finds_7 0 rfl rfl)
theorem dX2_finds_166 : decode cX2_finds 166 = .ok (.iload 5, 2) := dk_21 5 (dk_at dksX2_finds_7 3 rfl rfl)
theorem dX2_finds_168 : decode cX2_finds 168 = .ok (.iload 6, 2) := dk_21 6 (dk_at dksX2_finds_7 5 rfl rfl)
theorem dX2_finds_170 : decode cX2_finds 170 = .ok (.iadd, 1) := dk_96 (dk_at dksX2_finds_7 7 rfl rfl)
theorem dX2_finds_171 : decode cX2_finds 171 = .ok (.iaload, 1) := dk_46 (dk_at dksX2_finds_7 8 rfl rfl)
theorem dX2_finds_172 : decode cX2_finds 172 = .ok (.istore 7, 2) := dk_54 7 (dk_at dksX2_finds_7 9 rfl rfl)
theorem dX2_finds_174 : decode cX2_finds 174 = .ok (.aload_n 0, 1) := dk_42 (dk_at dksX2_finds_7 11 rfl rfl)
theorem dX2_finds_175 : decode cX2_finds 175 = .ok (.getfield 30, 3) := dk_180 0 30 (dk_at dksX2_finds_7 12 rfl rfl)
theorem dX2_finds_178 : decode cX2_finds 178 = .ok (.iload 5, 2) := dk_21 5 (dk_at dksX2_finds_7 15 rfl rfl)
theorem dX2_finds_180 : decode cX2_finds 180 = .ok (.iload 6, 2) := dk_21 6 (dk_at dksX2_finds_7 17 rfl rfl)
theorem dX2_finds_182 : decode cX2_finds 182 = .ok (.iadd, 1) := dk_96 (dk_at dksX2_finds_7 19 rfl rfl)
theorem dX2_finds_183 : decode cX2_finds 183 = .ok (.aload_n 0, 1) := dk_42 (dk_at dksX2_finds_7 20 rfl rfl)
theorem dX2_finds_184 : decode cX2_finds 184 = .ok (.getfield 30, 3) := dk_180 0 30 (dk_at dksX2_finds_7 21 rfl rfl)
theorem dX2_finds_187 : decode cX2_finds 187 = .ok (.aload_n 0, 1) := dk_42 (dk_at dksX2_finds_8 0 rfl rfl)
theorem dX2_finds_188 : decode cX2_finds 188 = .ok (.getfield 94, 3) := dk_180 0 94 (dk_at dksX2_finds_8 1 rfl rfl)
theorem dX2_finds_191 : decode cX2_finds 191 = .ok (.iconst 1, 1) := dk_4 (dk_at dksX2_finds_8 4 rfl rfl)
theorem dX2_finds_192 : decode cX2_finds 192 = .ok (.isub, 1) := dk_100 (dk_at dksX2_finds_8 5 rfl rfl)
theorem dX2_finds_193 : decode cX2_finds 193 = .ok (.iload 6, 2) := dk_21 6 (dk_at dksX2_finds_8 6 rfl rfl)
theorem dX2_finds_195 : decode cX2_finds 195 = .ok (.isub, 1) := dk_100 (dk_at dksX2_finds_8 8 rfl rfl)
theorem dX2_finds_196 : decode cX2_finds 196 = .ok (.iaload, 1) := dk_46 (dk_at dksX2_finds_8 9 rfl rfl)
theorem dX2_finds_197 : decode cX2_finds 197 = .ok (.iastore, 1) := dk_79 (dk_at dksX2_finds_8 10 rfl rfl)
theorem dX2_finds_198 : decode cX2_finds 198 = .ok (.aload_n 0, 1) := dk_42 (dk_at dksX2_finds_8 11 rfl rfl)
theorem dX2_finds_199 : decode cX2_finds 199 = .ok (.getfield 30, 3) := dk_180 0 30 (dk_at dksX2_finds_8 12 rfl rfl)
theorem dX2_finds_202 : decode cX2_finds 202 = .ok (.aload_n 0, 1) := dk_42 (dk_at dksX2_finds_8 15 rfl rfl)
theorem dX2_finds_203 : decode cX2_finds 203 = .ok (.getfield 94, 3) := dk_180 0 94 (dk_at dksX2_finds_8 16 rfl rfl)
theorem dX2_finds_206 : decode cX2_finds 206 = .ok (.iconst 1, 1) := dk_4 (dk_at dksX2_finds_8 19 rfl rfl)
theorem dX2_finds_207 : decode cX2_finds 207 = .ok (.isub, 1) := dk_100 (dk_at dksX2_finds_8 20 rfl rfl)
theorem dX2_finds_208 : decode cX2_finds 208 = .ok (.iload 6, 2) := dk_21 6 (dk_at dksX2_finds_8 21 rfl rfl)
theorem dX2_finds_210 : decode cX2_finds 210 = .ok (.isub, 1) := dk_100 (dk_at dksX2_finds_8 23 rfl rfl)
theorem dX2_finds_211 : decode cX2_finds 211 = .ok (.iload 7, 2) := dk_21 7 (dk_at dksX2_finds_9 0 rfl rfl)
theorem dX2_finds_213 : decode cX2_finds 213 = .ok (.iastore, 1) := dk_79 (dk_at dksX2_finds_9 2 rfl rfl)
theorem dX2_finds_214 : decode cX2_finds 214 = .ok (.iinc 6 1, 3) := dk_132 6 1 (dk_at dksX2_finds_9 3 rfl rfl)
theorem dX2_finds_217 : decode cX2_finds 217 = .ok (.goto (-63), 3) := dk_167 255 193 (dk_at dksX2_finds_9 6 rfl rfl)
theorem dX2_finds_220 : decode cX2_finds 220 = .ok (.goto (-210), 3) := dk_167 255 46 (dk_at dksX2_finds_9 9 rfl rfl)
theorem dX2_finds_223 : decode cX2_finds 223 = .ok (.iconst 0, 1) := dk_3 (dk_at dksX2_finds_9 12 rfl rfl)
theorem dX2_finds_224 : decode cX2_finds 224 = .ok (.ireturn, 1) := dk_172 (dk_at dksX2_finds_9 13 rfl rfl)
abbrev cX2_wants : ByteArray := prog_15_method_40_code
def yX2_wants : MethodName := ⟨RX2, "wants", "(I)I"⟩
def dkwX2_wants_1 : List UInt8 := [20, 0, 219, 184, 0, 88, 153, 0, 7, 6, 167, 0, 6, 17, 3, 231, 172]
abbrev dktX2_wants_1 : List UInt8 := dkwX2_wants_1 ++ []
def dkwX2_wants_0 : List UInt8 := [26, 4, 160, 0, 7, 4, 167, 0, 33, 26, 5, 160, 0, 7, 5, 167, 0, 24, 26, 133, 20, 0, 92]
abbrev dktX2_wants_0 : List UInt8 := dkwX2_wants_0 ++ dktX2_wants_1
theorem dksX2_wants_0 : cX2_wants.data.toList.drop 0 = dktX2_wants_0 := by decide +kernel
theorem dksX2_wants_1 : cX2_wants.data.toList.drop 23 = dktX2_wants_1 := dk_seg dksX2_wants_0 23 rfl rfl
theorem dX2_wants_0 : decode cX2_wants 0 = .ok (.iload_n 0, 1) := dk_26 (dk_at dksX2_wants_0 0 rfl rfl)
theorem dX2_wants_1 : decode cX2_wants 1 = .ok (.iconst 1, 1) := dk_4 (dk_at dksX2_wants_0 1 rfl rfl)
theorem dX2_wants_2 : decode cX2_wants 2 = .ok (.if_icmp .ne 7, 3) := dk_160 0 7 (dk_at dksX2_wants_0 2 rfl rfl)
theorem dX2_wants_5 : decode cX2_wants 5 = .ok (.iconst 1, 1) := dk_4 (dk_at dksX2_wants_0 5 rfl rfl)
theorem dX2_wants_6 : decode cX2_wants 6 = .ok (.goto 33, 3) := dk_167 0 33 (dk_at dksX2_wants_0 6 rfl rfl)
theorem dX2_wants_9 : decode cX2_wants 9 = .ok (.iload_n 0, 1) := dk_26 (dk_at dksX2_wants_0 9 rfl rfl)
theorem dX2_wants_10 : decode cX2_wants 10 = .ok (.iconst 2, 1) := dk_5 (dk_at dksX2_wants_0 10 rfl rfl)
theorem dX2_wants_11 : decode cX2_wants 11 = .ok (.if_icmp .ne 7, 3) := dk_160 0 7 (dk_at dksX2_wants_0 11 rfl rfl)
theorem dX2_wants_14 : decode cX2_wants 14 = .ok (.iconst 2, 1) := dk_5 (dk_at dksX2_wants_0 14 rfl rfl)
theorem dX2_wants_15 : decode cX2_wants 15 = .ok (.goto 24, 3) := dk_167 0 24 (dk_at dksX2_wants_0 15 rfl rfl)
theorem dX2_wants_18 : decode cX2_wants 18 = .ok (.iload_n 0, 1) := dk_26 (dk_at dksX2_wants_0 18 rfl rfl)
theorem dX2_wants_19 : decode cX2_wants 19 = .ok (.i2l, 1) := dk_133 (dk_at dksX2_wants_0 19 rfl rfl)
theorem dX2_wants_20 : decode cX2_wants 20 = .ok (.ldc2_w 92, 3) := dk_20 0 92 (dk_at dksX2_wants_0 20 rfl rfl)
theorem dX2_wants_23 : decode cX2_wants 23 = .ok (.ldc2_w 219, 3) := dk_20 0 219 (dk_at dksX2_wants_1 0 rfl rfl)
theorem dX2_wants_26 : decode cX2_wants 26 = .ok (.invokestatic 88, 3) := dk_184 0 88 (dk_at dksX2_wants_1 3 rfl rfl)
theorem dX2_wants_29 : decode cX2_wants 29 = .ok (.ifCond .eq 7, 3) := dk_153 0 7 (dk_at dksX2_wants_1 6 rfl rfl)
theorem dX2_wants_32 : decode cX2_wants 32 = .ok (.iconst 3, 1) := dk_6 (dk_at dksX2_wants_1 9 rfl rfl)
theorem dX2_wants_33 : decode cX2_wants 33 = .ok (.goto 6, 3) := dk_167 0 6 (dk_at dksX2_wants_1 10 rfl rfl)
theorem dX2_wants_36 : decode cX2_wants 36 = .ok (.sipush 999, 3) := dk_17 3 231 (dk_at dksX2_wants_1 13 rfl rfl)
theorem dX2_wants_39 : decode cX2_wants 39 = .ok (.ireturn, 1) := dk_172 (dk_at dksX2_wants_1 16 rfl rfl)
abbrev cX2_does : ByteArray := prog_15_method_42_code
def yX2_does : MethodName := ⟨RX2, "does", "()V"⟩
def dkwX2_does_11 : List UInt8 := [162, 0, 19, 42, 42, 180, 0, 24, 29, 46, 182, 0, 168, 132, 3, 1, 167, 255, 235, 42, 182, 0, 192, 177]
abbrev dktX2_does_11 : List UInt8 := dkwX2_does_11 ++ []
def dkwX2_does_10 : List UInt8 := [42, 42, 180, 0, 39, 4, 46, 182, 0, 179, 42, 180, 0, 39, 6, 46, 62, 29, 42, 180, 0, 104]
abbrev dktX2_does_10 : List UInt8 := dkwX2_does_10 ++ dktX2_does_11
def dkwX2_does_9 : List UInt8 := [3, 182, 0, 168, 42, 42, 180, 0, 39, 3, 46, 182, 0, 179, 42, 42, 180, 0, 39, 5, 46, 182, 0, 179]
abbrev dktX2_does_9 : List UInt8 := dkwX2_does_9 ++ dktX2_does_10
def dkwX2_does_8 : List UInt8 := [4, 46, 182, 0, 179, 42, 42, 180, 0, 39, 5, 46, 182, 0, 179, 167, 0, 43, 42, 3, 182, 0, 168, 42]
abbrev dktX2_does_8 : List UInt8 := dkwX2_does_8 ++ dktX2_does_9
def dkwX2_does_7 : List UInt8 := [3, 182, 0, 168, 42, 42, 180, 0, 39, 3, 46, 182, 0, 179, 42, 3, 182, 0, 168, 42, 42, 180, 0, 39]
abbrev dktX2_does_7 : List UInt8 := dkwX2_does_7 ++ dktX2_does_8
def dkwX2_does_6 : List UInt8 := [42, 42, 180, 0, 39, 4, 46, 182, 0, 179, 42, 42, 180, 0, 39, 5, 46, 182, 0, 179, 167, 0, 86, 42]
abbrev dktX2_does_6 : List UInt8 := dkwX2_does_6 ++ dktX2_does_7
def dkwX2_does_5 : List UInt8 := [42, 180, 0, 39, 3, 46, 182, 0, 179, 42, 42, 180, 0, 39, 5, 46, 182, 0, 179, 42, 3, 182, 0, 168]
abbrev dktX2_does_5 : List UInt8 := dkwX2_does_5 ++ dktX2_does_6
def dkwX2_does_4 : List UInt8 := [42, 42, 180, 0, 39, 3, 46, 182, 0, 179, 167, 0, 144, 42, 3, 182, 0, 168, 42, 3, 182, 0, 168, 42]
abbrev dktX2_does_4 : List UInt8 := dkwX2_does_4 ++ dktX2_does_5
def dkwX2_does_3 : List UInt8 := [170, 0, 0, 0, 0, 0, 0, 146, 0, 0, 0, 1, 0, 0, 0, 4, 0, 0, 0, 32, 0, 0, 0, 32, 0, 0, 0, 45, 0, 0, 0, 103]
abbrev dktX2_does_3 : List UInt8 := dkwX2_does_3 ++ dktX2_does_4
def dkwX2_does_2 : List UInt8 := [27, 154, 0, 16, 132, 2, 1, 42, 180, 0, 24, 28, 46, 60, 167, 255, 242, 27]
abbrev dktX2_does_2 : List UInt8 := dkwX2_does_2 ++ dktX2_does_3
def dkwX2_does_1 : List UInt8 := [182, 0, 168, 132, 1, 1, 167, 255, 235, 42, 180, 0, 24, 42, 180, 0, 226, 46, 60, 42, 180, 0, 226, 61]
abbrev dktX2_does_1 : List UInt8 := dkwX2_does_1 ++ dktX2_does_2
def dkwX2_does_0 : List UInt8 := [42, 3, 181, 0, 97, 3, 60, 27, 42, 180, 0, 226, 162, 0, 19, 42, 42, 180, 0, 24, 27, 46]
abbrev dktX2_does_0 : List UInt8 := dkwX2_does_0 ++ dktX2_does_1
theorem dksX2_does_0 : cX2_does.data.toList.drop 0 = dktX2_does_0 := by decide +kernel
theorem dksX2_does_1 : cX2_does.data.toList.drop 22 = dktX2_does_1 := dk_seg dksX2_does_0 22 rfl rfl
theorem dksX2_does_2 : cX2_does.data.toList.drop 46 = dktX2_does_2 := dk_seg dksX2_does_1 24 rfl rfl
theorem dksX2_does_3 : cX2_does.data.toList.drop 64 = dktX2_does_3 := dk_seg dksX2_does_2 18 rfl rfl
theorem dksX2_does_4 : cX2_does.data.toList.drop 96 = dktX2_does_4 := dk_seg dksX2_does_3 32 rfl rfl
theorem dksX2_does_5 : cX2_does.data.toList.drop 120 = dktX2_does_5 := dk_seg dksX2_does_4 24 rfl rfl
theorem dksX2_does_6 : cX2_does.data.toList.drop 144 = dktX2_does_6 := dk_seg dksX2_does_5 24 rfl rfl
theorem dksX2_does_7 : cX2_does.data.toList.drop 168 = dktX2_does_7 := dk_seg dksX2_does_6 24 rfl rfl
theorem dksX2_does_8 : cX2_does.data.toList.drop 192 = dktX2_does_8 := dk_seg dksX2_does_7 24 rfl rfl
theorem dksX2_does_9 : cX2_does.data.toList.drop 216 = dktX2_does_9 := dk_seg dksX2_does_8 24 rfl rfl
theorem dksX2_does_10 : cX2_does.data.toList.drop 240 = dktX2_does_10 := dk_seg dksX2_does_9 24 rfl rfl
theorem dksX2_does_11 : cX2_does.data.toList.drop 262 = dktX2_does_11 := dk_seg dksX2_does_10 22 rfl rfl
theorem dX2_does_0 : decode cX2_does 0 = .ok (.aload_n 0, 1) := dk_42 (dk_at dksX2_does_0 0 rfl rfl)
theorem dX2_does_1 : decode cX2_does 1 = .ok (.iconst 0, 1) := dk_3 (dk_at dksX2_does_0 1 rfl rfl)
theorem dX2_does_2 : decode cX2_does 2 = .ok (.putfield 97, 3) := dk_181 0 97 (dk_at dksX2_does_0 2 rfl rfl)
theorem dX2_does_5 : decode cX2_does 5 = .ok (.iconst 0, 1) := dk_3 (dk_at dksX2_does_0 5 rfl rfl)
theorem dX2_does_6 : decode cX2_does 6 = .ok (.istore_n 1, 1) := dk_60 (dk_at dksX2_does_0 6 rfl rfl)
theorem dX2_does_7 : decode cX2_does 7 = .ok (.iload_n 1, 1) := dk_27 (dk_at dksX2_does_0 7 rfl rfl)
theorem dX2_does_8 : decode cX2_does 8 = .ok (.aload_n 0, 1) := dk_42 (dk_at dksX2_does_0 8 rfl rfl)
theorem dX2_does_9 : decode cX2_does 9 = .ok (.getfield 226, 3) := dk_180 0 226 (dk_at dksX2_does_0 9 rfl rfl)
theorem dX2_does_12 : decode cX2_does 12 = .ok (.if_icmp .ge 19, 3) := dk_162 0 19 (dk_at dksX2_does_0 12 rfl rfl)
theorem dX2_does_15 : decode cX2_does 15 = .ok (.aload_n 0, 1) := dk_42 (dk_at dksX2_does_0 15 rfl rfl)
theorem dX2_does_16 : decode cX2_does 16 = .ok (.aload_n 0, 1) := dk_42 (dk_at dksX2_does_0 16 rfl rfl)
theorem dX2_does_17 : decode cX2_does 17 = .ok (.getfield 24, 3) := dk_180 0 24 (dk_at dksX2_does_0 17 rfl rfl)
theorem dX2_does_20 : decode cX2_does 20 = .ok (.iload_n 1, 1) := dk_27 (dk_at dksX2_does_0 20 rfl rfl)
theorem dX2_does_21 : decode cX2_does 21 = .ok (.iaload, 1) := dk_46 (dk_at dksX2_does_0 21 rfl rfl)
theorem dX2_does_22 : decode cX2_does 22 = .ok (.invokevirtual 168, 3) := dk_182 0 168 (dk_at dksX2_does_1 0 rfl rfl)
theorem dX2_does_25 : decode cX2_does 25 = .ok (.iinc 1 1, 3) := dk_132 1 1 (dk_at dksX2_does_1 3 rfl rfl)
theorem dX2_does_28 : decode cX2_does 28 = .ok (.goto (-21), 3) := dk_167 255 235 (dk_at dksX2_does_1 6 rfl rfl)
theorem dX2_does_31 : decode cX2_does 31 = .ok (.aload_n 0, 1) := dk_42 (dk_at dksX2_does_1 9 rfl rfl)
theorem dX2_does_32 : decode cX2_does 32 = .ok (.getfield 24, 3) := dk_180 0 24 (dk_at dksX2_does_1 10 rfl rfl)
theorem dX2_does_35 : decode cX2_does 35 = .ok (.aload_n 0, 1) := dk_42 (dk_at dksX2_does_1 13 rfl rfl)
theorem dX2_does_36 : decode cX2_does 36 = .ok (.getfield 226, 3) := dk_180 0 226 (dk_at dksX2_does_1 14 rfl rfl)
theorem dX2_does_39 : decode cX2_does 39 = .ok (.iaload, 1) := dk_46 (dk_at dksX2_does_1 17 rfl rfl)
theorem dX2_does_40 : decode cX2_does 40 = .ok (.istore_n 1, 1) := dk_60 (dk_at dksX2_does_1 18 rfl rfl)
theorem dX2_does_41 : decode cX2_does 41 = .ok (.aload_n 0, 1) := dk_42 (dk_at dksX2_does_1 19 rfl rfl)
theorem dX2_does_42 : decode cX2_does 42 = .ok (.getfield 226, 3) := dk_180 0 226 (dk_at dksX2_does_1 20 rfl rfl)
theorem dX2_does_45 : decode cX2_does 45 = .ok (.istore_n 2, 1) := dk_61 (dk_at dksX2_does_1 23 rfl rfl)
theorem dX2_does_46 : decode cX2_does 46 = .ok (.iload_n 1, 1) := dk_27 (dk_at dksX2_does_2 0 rfl rfl)
theorem dX2_does_47 : decode cX2_does 47 = .ok (.ifCond .ne 16, 3) := dk_154 0 16 (dk_at dksX2_does_2 1 rfl rfl)
theorem dX2_does_50 : decode cX2_does 50 = .ok (.iinc 2 1, 3) := dk_132 2 1 (dk_at dksX2_does_2 4 rfl rfl)
theorem dX2_does_53 : decode cX2_does 53 = .ok (.aload_n 0, 1) := dk_42 (dk_at dksX2_does_2 7 rfl rfl)
theorem dX2_does_54 : decode cX2_does 54 = .ok (.getfield 24, 3) := dk_180 0 24 (dk_at dksX2_does_2 8 rfl rfl)
theorem dX2_does_57 : decode cX2_does 57 = .ok (.iload_n 2, 1) := dk_28 (dk_at dksX2_does_2 11 rfl rfl)
theorem dX2_does_58 : decode cX2_does 58 = .ok (.iaload, 1) := dk_46 (dk_at dksX2_does_2 12 rfl rfl)
theorem dX2_does_59 : decode cX2_does 59 = .ok (.istore_n 1, 1) := dk_60 (dk_at dksX2_does_2 13 rfl rfl)
theorem dX2_does_60 : decode cX2_does 60 = .ok (.goto (-14), 3) := dk_167 255 242 (dk_at dksX2_does_2 14 rfl rfl)
theorem dX2_does_63 : decode cX2_does 63 = .ok (.iload_n 1, 1) := dk_27 (dk_at dksX2_does_2 17 rfl rfl)
theorem dX2_does_64 : decode cX2_does 64 = .ok (.tableswitch 146 1 4 #[32, 32, 45, 103], 32) := by decide +kernel
theorem dX2_does_96 : decode cX2_does 96 = .ok (.aload_n 0, 1) := dk_42 (dk_at dksX2_does_4 0 rfl rfl)
theorem dX2_does_97 : decode cX2_does 97 = .ok (.aload_n 0, 1) := dk_42 (dk_at dksX2_does_4 1 rfl rfl)
theorem dX2_does_98 : decode cX2_does 98 = .ok (.getfield 39, 3) := dk_180 0 39 (dk_at dksX2_does_4 2 rfl rfl)
theorem dX2_does_101 : decode cX2_does 101 = .ok (.iconst 0, 1) := dk_3 (dk_at dksX2_does_4 5 rfl rfl)
theorem dX2_does_102 : decode cX2_does 102 = .ok (.iaload, 1) := dk_46 (dk_at dksX2_does_4 6 rfl rfl)
theorem dX2_does_103 : decode cX2_does 103 = .ok (.invokevirtual 179, 3) := dk_182 0 179 (dk_at dksX2_does_4 7 rfl rfl)
theorem dX2_does_106 : decode cX2_does 106 = .ok (.goto 144, 3) := dk_167 0 144 (dk_at dksX2_does_4 10 rfl rfl)
theorem dX2_does_109 : decode cX2_does 109 = .ok (.aload_n 0, 1) := dk_42 (dk_at dksX2_does_4 13 rfl rfl)
theorem dX2_does_110 : decode cX2_does 110 = .ok (.iconst 0, 1) := dk_3 (dk_at dksX2_does_4 14 rfl rfl)
theorem dX2_does_111 : decode cX2_does 111 = .ok (.invokevirtual 168, 3) := dk_182 0 168 (dk_at dksX2_does_4 15 rfl rfl)
theorem dX2_does_114 : decode cX2_does 114 = .ok (.aload_n 0, 1) := dk_42 (dk_at dksX2_does_4 18 rfl rfl)
theorem dX2_does_115 : decode cX2_does 115 = .ok (.iconst 0, 1) := dk_3 (dk_at dksX2_does_4 19 rfl rfl)
theorem dX2_does_116 : decode cX2_does 116 = .ok (.invokevirtual 168, 3) := dk_182 0 168 (dk_at dksX2_does_4 20 rfl rfl)
theorem dX2_does_119 : decode cX2_does 119 = .ok (.aload_n 0, 1) := dk_42 (dk_at dksX2_does_4 23 rfl rfl)
theorem dX2_does_120 : decode cX2_does 120 = .ok (.aload_n 0, 1) := dk_42 (dk_at dksX2_does_5 0 rfl rfl)
theorem dX2_does_121 : decode cX2_does 121 = .ok (.getfield 39, 3) := dk_180 0 39 (dk_at dksX2_does_5 1 rfl rfl)
theorem dX2_does_124 : decode cX2_does 124 = .ok (.iconst 0, 1) := dk_3 (dk_at dksX2_does_5 4 rfl rfl)
theorem dX2_does_125 : decode cX2_does 125 = .ok (.iaload, 1) := dk_46 (dk_at dksX2_does_5 5 rfl rfl)
theorem dX2_does_126 : decode cX2_does 126 = .ok (.invokevirtual 179, 3) := dk_182 0 179 (dk_at dksX2_does_5 6 rfl rfl)
theorem dX2_does_129 : decode cX2_does 129 = .ok (.aload_n 0, 1) := dk_42 (dk_at dksX2_does_5 9 rfl rfl)
theorem dX2_does_130 : decode cX2_does 130 = .ok (.aload_n 0, 1) := dk_42 (dk_at dksX2_does_5 10 rfl rfl)
theorem dX2_does_131 : decode cX2_does 131 = .ok (.getfield 39, 3) := dk_180 0 39 (dk_at dksX2_does_5 11 rfl rfl)
theorem dX2_does_134 : decode cX2_does 134 = .ok (.iconst 2, 1) := dk_5 (dk_at dksX2_does_5 14 rfl rfl)
theorem dX2_does_135 : decode cX2_does 135 = .ok (.iaload, 1) := dk_46 (dk_at dksX2_does_5 15 rfl rfl)
theorem dX2_does_136 : decode cX2_does 136 = .ok (.invokevirtual 179, 3) := dk_182 0 179 (dk_at dksX2_does_5 16 rfl rfl)
theorem dX2_does_139 : decode cX2_does 139 = .ok (.aload_n 0, 1) := dk_42 (dk_at dksX2_does_5 19 rfl rfl)
theorem dX2_does_140 : decode cX2_does 140 = .ok (.iconst 0, 1) := dk_3 (dk_at dksX2_does_5 20 rfl rfl)
theorem dX2_does_141 : decode cX2_does 141 = .ok (.invokevirtual 168, 3) := dk_182 0 168 (dk_at dksX2_does_5 21 rfl rfl)
theorem dX2_does_144 : decode cX2_does 144 = .ok (.aload_n 0, 1) := dk_42 (dk_at dksX2_does_6 0 rfl rfl)
theorem dX2_does_145 : decode cX2_does 145 = .ok (.aload_n 0, 1) := dk_42 (dk_at dksX2_does_6 1 rfl rfl)
theorem dX2_does_146 : decode cX2_does 146 = .ok (.getfield 39, 3) := dk_180 0 39 (dk_at dksX2_does_6 2 rfl rfl)
theorem dX2_does_149 : decode cX2_does 149 = .ok (.iconst 1, 1) := dk_4 (dk_at dksX2_does_6 5 rfl rfl)
theorem dX2_does_150 : decode cX2_does 150 = .ok (.iaload, 1) := dk_46 (dk_at dksX2_does_6 6 rfl rfl)
theorem dX2_does_151 : decode cX2_does 151 = .ok (.invokevirtual 179, 3) := dk_182 0 179 (dk_at dksX2_does_6 7 rfl rfl)
theorem dX2_does_154 : decode cX2_does 154 = .ok (.aload_n 0, 1) := dk_42 (dk_at dksX2_does_6 10 rfl rfl)
theorem dX2_does_155 : decode cX2_does 155 = .ok (.aload_n 0, 1) := dk_42 (dk_at dksX2_does_6 11 rfl rfl)
theorem dX2_does_156 : decode cX2_does 156 = .ok (.getfield 39, 3) := dk_180 0 39 (dk_at dksX2_does_6 12 rfl rfl)
theorem dX2_does_159 : decode cX2_does 159 = .ok (.iconst 2, 1) := dk_5 (dk_at dksX2_does_6 15 rfl rfl)
theorem dX2_does_160 : decode cX2_does 160 = .ok (.iaload, 1) := dk_46 (dk_at dksX2_does_6 16 rfl rfl)
theorem dX2_does_161 : decode cX2_does 161 = .ok (.invokevirtual 179, 3) := dk_182 0 179 (dk_at dksX2_does_6 17 rfl rfl)
theorem dX2_does_164 : decode cX2_does 164 = .ok (.goto 86, 3) := dk_167 0 86 (dk_at dksX2_does_6 20 rfl rfl)
theorem dX2_does_167 : decode cX2_does 167 = .ok (.aload_n 0, 1) := dk_42 (dk_at dksX2_does_6 23 rfl rfl)
theorem dX2_does_168 : decode cX2_does 168 = .ok (.iconst 0, 1) := dk_3 (dk_at dksX2_does_7 0 rfl rfl)
theorem dX2_does_169 : decode cX2_does 169 = .ok (.invokevirtual 168, 3) := dk_182 0 168 (dk_at dksX2_does_7 1 rfl rfl)
theorem dX2_does_172 : decode cX2_does 172 = .ok (.aload_n 0, 1) := dk_42 (dk_at dksX2_does_7 4 rfl rfl)
theorem dX2_does_173 : decode cX2_does 173 = .ok (.aload_n 0, 1) := dk_42 (dk_at dksX2_does_7 5 rfl rfl)
theorem dX2_does_174 : decode cX2_does 174 = .ok (.getfield 39, 3) := dk_180 0 39 (dk_at dksX2_does_7 6 rfl rfl)
theorem dX2_does_177 : decode cX2_does 177 = .ok (.iconst 0, 1) := dk_3 (dk_at dksX2_does_7 9 rfl rfl)
theorem dX2_does_178 : decode cX2_does 178 = .ok (.iaload, 1) := dk_46 (dk_at dksX2_does_7 10 rfl rfl)
theorem dX2_does_179 : decode cX2_does 179 = .ok (.invokevirtual 179, 3) := dk_182 0 179 (dk_at dksX2_does_7 11 rfl rfl)
theorem dX2_does_182 : decode cX2_does 182 = .ok (.aload_n 0, 1) := dk_42 (dk_at dksX2_does_7 14 rfl rfl)
theorem dX2_does_183 : decode cX2_does 183 = .ok (.iconst 0, 1) := dk_3 (dk_at dksX2_does_7 15 rfl rfl)
theorem dX2_does_184 : decode cX2_does 184 = .ok (.invokevirtual 168, 3) := dk_182 0 168 (dk_at dksX2_does_7 16 rfl rfl)
theorem dX2_does_187 : decode cX2_does 187 = .ok (.aload_n 0, 1) := dk_42 (dk_at dksX2_does_7 19 rfl rfl)
theorem dX2_does_188 : decode cX2_does 188 = .ok (.aload_n 0, 1) := dk_42 (dk_at dksX2_does_7 20 rfl rfl)
theorem dX2_does_189 : decode cX2_does 189 = .ok (.getfield 39, 3) := dk_180 0 39 (dk_at dksX2_does_7 21 rfl rfl)
theorem dX2_does_192 : decode cX2_does 192 = .ok (.iconst 1, 1) := dk_4 (dk_at dksX2_does_8 0 rfl rfl)
theorem dX2_does_193 : decode cX2_does 193 = .ok (.iaload, 1) := dk_46 (dk_at dksX2_does_8 1 rfl rfl)
theorem dX2_does_194 : decode cX2_does 194 = .ok (.invokevirtual 179, 3) := dk_182 0 179 (dk_at dksX2_does_8 2 rfl rfl)
theorem dX2_does_197 : decode cX2_does 197 = .ok (.aload_n 0, 1) := dk_42 (dk_at dksX2_does_8 5 rfl rfl)
theorem dX2_does_198 : decode cX2_does 198 = .ok (.aload_n 0, 1) := dk_42 (dk_at dksX2_does_8 6 rfl rfl)
theorem dX2_does_199 : decode cX2_does 199 = .ok (.getfield 39, 3) := dk_180 0 39 (dk_at dksX2_does_8 7 rfl rfl)
theorem dX2_does_202 : decode cX2_does 202 = .ok (.iconst 2, 1) := dk_5 (dk_at dksX2_does_8 10 rfl rfl)
theorem dX2_does_203 : decode cX2_does 203 = .ok (.iaload, 1) := dk_46 (dk_at dksX2_does_8 11 rfl rfl)
theorem dX2_does_204 : decode cX2_does 204 = .ok (.invokevirtual 179, 3) := dk_182 0 179 (dk_at dksX2_does_8 12 rfl rfl)
theorem dX2_does_207 : decode cX2_does 207 = .ok (.goto 43, 3) := dk_167 0 43 (dk_at dksX2_does_8 15 rfl rfl)
theorem dX2_does_210 : decode cX2_does 210 = .ok (.aload_n 0, 1) := dk_42 (dk_at dksX2_does_8 18 rfl rfl)
theorem dX2_does_211 : decode cX2_does 211 = .ok (.iconst 0, 1) := dk_3 (dk_at dksX2_does_8 19 rfl rfl)
theorem dX2_does_212 : decode cX2_does 212 = .ok (.invokevirtual 168, 3) := dk_182 0 168 (dk_at dksX2_does_8 20 rfl rfl)
theorem dX2_does_215 : decode cX2_does 215 = .ok (.aload_n 0, 1) := dk_42 (dk_at dksX2_does_8 23 rfl rfl)
theorem dX2_does_216 : decode cX2_does 216 = .ok (.iconst 0, 1) := dk_3 (dk_at dksX2_does_9 0 rfl rfl)
theorem dX2_does_217 : decode cX2_does 217 = .ok (.invokevirtual 168, 3) := dk_182 0 168 (dk_at dksX2_does_9 1 rfl rfl)
theorem dX2_does_220 : decode cX2_does 220 = .ok (.aload_n 0, 1) := dk_42 (dk_at dksX2_does_9 4 rfl rfl)
theorem dX2_does_221 : decode cX2_does 221 = .ok (.aload_n 0, 1) := dk_42 (dk_at dksX2_does_9 5 rfl rfl)
theorem dX2_does_222 : decode cX2_does 222 = .ok (.getfield 39, 3) := dk_180 0 39 (dk_at dksX2_does_9 6 rfl rfl)
theorem dX2_does_225 : decode cX2_does 225 = .ok (.iconst 0, 1) := dk_3 (dk_at dksX2_does_9 9 rfl rfl)
theorem dX2_does_226 : decode cX2_does 226 = .ok (.iaload, 1) := dk_46 (dk_at dksX2_does_9 10 rfl rfl)
theorem dX2_does_227 : decode cX2_does 227 = .ok (.invokevirtual 179, 3) := dk_182 0 179 (dk_at dksX2_does_9 11 rfl rfl)
theorem dX2_does_230 : decode cX2_does 230 = .ok (.aload_n 0, 1) := dk_42 (dk_at dksX2_does_9 14 rfl rfl)
theorem dX2_does_231 : decode cX2_does 231 = .ok (.aload_n 0, 1) := dk_42 (dk_at dksX2_does_9 15 rfl rfl)
theorem dX2_does_232 : decode cX2_does 232 = .ok (.getfield 39, 3) := dk_180 0 39 (dk_at dksX2_does_9 16 rfl rfl)
theorem dX2_does_235 : decode cX2_does 235 = .ok (.iconst 2, 1) := dk_5 (dk_at dksX2_does_9 19 rfl rfl)
theorem dX2_does_236 : decode cX2_does 236 = .ok (.iaload, 1) := dk_46 (dk_at dksX2_does_9 20 rfl rfl)
theorem dX2_does_237 : decode cX2_does 237 = .ok (.invokevirtual 179, 3) := dk_182 0 179 (dk_at dksX2_does_9 21 rfl rfl)
theorem dX2_does_240 : decode cX2_does 240 = .ok (.aload_n 0, 1) := dk_42 (dk_at dksX2_does_10 0 rfl rfl)
theorem dX2_does_241 : decode cX2_does 241 = .ok (.aload_n 0, 1) := dk_42 (dk_at dksX2_does_10 1 rfl rfl)
theorem dX2_does_242 : decode cX2_does 242 = .ok (.getfield 39, 3) := dk_180 0 39 (dk_at dksX2_does_10 2 rfl rfl)
theorem dX2_does_245 : decode cX2_does 245 = .ok (.iconst 1, 1) := dk_4 (dk_at dksX2_does_10 5 rfl rfl)
theorem dX2_does_246 : decode cX2_does 246 = .ok (.iaload, 1) := dk_46 (dk_at dksX2_does_10 6 rfl rfl)
theorem dX2_does_247 : decode cX2_does 247 = .ok (.invokevirtual 179, 3) := dk_182 0 179 (dk_at dksX2_does_10 7 rfl rfl)
theorem dX2_does_250 : decode cX2_does 250 = .ok (.aload_n 0, 1) := dk_42 (dk_at dksX2_does_10 10 rfl rfl)
theorem dX2_does_251 : decode cX2_does 251 = .ok (.getfield 39, 3) := dk_180 0 39 (dk_at dksX2_does_10 11 rfl rfl)
theorem dX2_does_254 : decode cX2_does 254 = .ok (.iconst 3, 1) := dk_6 (dk_at dksX2_does_10 14 rfl rfl)
theorem dX2_does_255 : decode cX2_does 255 = .ok (.iaload, 1) := dk_46 (dk_at dksX2_does_10 15 rfl rfl)
theorem dX2_does_256 : decode cX2_does 256 = .ok (.istore_n 3, 1) := dk_62 (dk_at dksX2_does_10 16 rfl rfl)
theorem dX2_does_257 : decode cX2_does 257 = .ok (.iload_n 3, 1) := dk_29 (dk_at dksX2_does_10 17 rfl rfl)
theorem dX2_does_258 : decode cX2_does 258 = .ok (.aload_n 0, 1) := dk_42 (dk_at dksX2_does_10 18 rfl rfl)
theorem dX2_does_259 : decode cX2_does 259 = .ok (.getfield 104, 3) := dk_180 0 104 (dk_at dksX2_does_10 19 rfl rfl)
theorem dX2_does_262 : decode cX2_does 262 = .ok (.if_icmp .ge 19, 3) := dk_162 0 19 (dk_at dksX2_does_11 0 rfl rfl)
theorem dX2_does_265 : decode cX2_does 265 = .ok (.aload_n 0, 1) := dk_42 (dk_at dksX2_does_11 3 rfl rfl)
theorem dX2_does_266 : decode cX2_does 266 = .ok (.aload_n 0, 1) := dk_42 (dk_at dksX2_does_11 4 rfl rfl)
theorem dX2_does_267 : decode cX2_does 267 = .ok (.getfield 24, 3) := dk_180 0 24 (dk_at dksX2_does_11 5 rfl rfl)
theorem dX2_does_270 : decode cX2_does 270 = .ok (.iload_n 3, 1) := dk_29 (dk_at dksX2_does_11 8 rfl rfl)
theorem dX2_does_271 : decode cX2_does 271 = .ok (.iaload, 1) := dk_46 (dk_at dksX2_does_11 9 rfl rfl)
theorem dX2_does_272 : decode cX2_does 272 = .ok (.invokevirtual 168, 3) := dk_182 0 168 (dk_at dksX2_does_11 10 rfl rfl)
theorem dX2_does_275 : decode cX2_does 275 = .ok (.iinc 3 1, 3) := dk_132 3 1 (dk_at dksX2_does_11 13 rfl rfl)
theorem dX2_does_278 : decode cX2_does 278 = .ok (.goto (-21), 3) := dk_167 255 235 (dk_at dksX2_does_11 16 rfl rfl)
theorem dX2_does_281 : decode cX2_does 281 = .ok (.aload_n 0, 1) := dk_42 (dk_at dksX2_does_11 19 rfl rfl)
theorem dX2_does_282 : decode cX2_does 282 = .ok (.invokevirtual 192, 3) := dk_182 0 192 (dk_at dksX2_does_11 20 rfl rfl)
theorem dX2_does_285 : decode cX2_does 285 = .ok (.return_, 1) := dk_177 (dk_at dksX2_does_11 23 rfl rfl)
abbrev cX2_worksShared : ByteArray := prog_15_method_51_code
def yX2_worksShared : MethodName := ⟨RX2, "worksShared", "(I)I"⟩
def dkwX2_worksShared_3 : List UInt8 := [4, 167, 0, 4, 3, 181, 0, 236, 167, 255, 199, 29, 172]
abbrev dktX2_worksShared_3 : List UInt8 := dkwX2_worksShared_3 ++ []
def dkwX2_worksShared_2 : List UInt8 := [132, 3, 1, 42, 28, 182, 1, 9, 42, 42, 180, 0, 229, 154, 0, 15, 42, 28, 182, 1, 3, 153, 0, 7]
abbrev dktX2_worksShared_2 : List UInt8 := dkwX2_worksShared_2 ++ dktX2_worksShared_3
def dkwX2_worksShared_1 : List UInt8 := [180, 0, 236, 153, 0, 56, 29, 27, 162, 0, 51, 42, 180, 0, 229, 154, 0, 44, 42, 28, 182, 1, 6, 87]
abbrev dktX2_worksShared_1 : List UInt8 := dkwX2_worksShared_1 ++ dktX2_worksShared_2
def dkwX2_worksShared_0 : List UInt8 := [42, 182, 1, 0, 61, 3, 62, 42, 3, 181, 0, 229, 42, 42, 28, 182, 1, 3, 181, 0, 236, 42]
abbrev dktX2_worksShared_0 : List UInt8 := dkwX2_worksShared_0 ++ dktX2_worksShared_1
theorem dksX2_worksShared_0 : cX2_worksShared.data.toList.drop 0 = dktX2_worksShared_0 := by decide +kernel
theorem dksX2_worksShared_1 : cX2_worksShared.data.toList.drop 22 = dktX2_worksShared_1 := dk_seg dksX2_worksShared_0 22 rfl rfl
theorem dksX2_worksShared_2 : cX2_worksShared.data.toList.drop 46 = dktX2_worksShared_2 := dk_seg dksX2_worksShared_1 24 rfl rfl
theorem dksX2_worksShared_3 : cX2_worksShared.data.toList.drop 70 = dktX2_worksShared_3 := dk_seg dksX2_worksShared_2 24 rfl rfl
theorem dX2_worksShared_0 : decode cX2_worksShared 0 = .ok (.aload_n 0, 1) := dk_42 (dk_at dksX2_worksShared_0 0 rfl rfl)
theorem dX2_worksShared_1 : decode cX2_worksShared 1 = .ok (.invokevirtual 256, 3) := dk_182 1 0 (dk_at dksX2_worksShared_0 1 rfl rfl)
theorem dX2_worksShared_4 : decode cX2_worksShared 4 = .ok (.istore_n 2, 1) := dk_61 (dk_at dksX2_worksShared_0 4 rfl rfl)
theorem dX2_worksShared_5 : decode cX2_worksShared 5 = .ok (.iconst 0, 1) := dk_3 (dk_at dksX2_worksShared_0 5 rfl rfl)
theorem dX2_worksShared_6 : decode cX2_worksShared 6 = .ok (.istore_n 3, 1) := dk_62 (dk_at dksX2_worksShared_0 6 rfl rfl)
theorem dX2_worksShared_7 : decode cX2_worksShared 7 = .ok (.aload_n 0, 1) := dk_42 (dk_at dksX2_worksShared_0 7 rfl rfl)
theorem dX2_worksShared_8 : decode cX2_worksShared 8 = .ok (.iconst 0, 1) := dk_3 (dk_at dksX2_worksShared_0 8 rfl rfl)
theorem dX2_worksShared_9 : decode cX2_worksShared 9 = .ok (.putfield 229, 3) := dk_181 0 229 (dk_at dksX2_worksShared_0 9 rfl rfl)
theorem dX2_worksShared_12 : decode cX2_worksShared 12 = .ok (.aload_n 0, 1) := dk_42 (dk_at dksX2_worksShared_0 12 rfl rfl)
theorem dX2_worksShared_13 : decode cX2_worksShared 13 = .ok (.aload_n 0, 1) := dk_42 (dk_at dksX2_worksShared_0 13 rfl rfl)
theorem dX2_worksShared_14 : decode cX2_worksShared 14 = .ok (.iload_n 2, 1) := dk_28 (dk_at dksX2_worksShared_0 14 rfl rfl)
theorem dX2_worksShared_15 : decode cX2_worksShared 15 = .ok (.invokevirtual 259, 3) := dk_182 1 3 (dk_at dksX2_worksShared_0 15 rfl rfl)
theorem dX2_worksShared_18 : decode cX2_worksShared 18 = .ok (.putfield 236, 3) := dk_181 0 236 (dk_at dksX2_worksShared_0 18 rfl rfl)
theorem dX2_worksShared_21 : decode cX2_worksShared 21 = .ok (.aload_n 0, 1) := dk_42 (dk_at dksX2_worksShared_0 21 rfl rfl)
theorem dX2_worksShared_22 : decode cX2_worksShared 22 = .ok (.getfield 236, 3) := dk_180 0 236 (dk_at dksX2_worksShared_1 0 rfl rfl)
theorem dX2_worksShared_25 : decode cX2_worksShared 25 = .ok (.ifCond .eq 56, 3) := dk_153 0 56 (dk_at dksX2_worksShared_1 3 rfl rfl)
theorem dX2_worksShared_28 : decode cX2_worksShared 28 = .ok (.iload_n 3, 1) := dk_29 (dk_at dksX2_worksShared_1 6 rfl rfl)
theorem dX2_worksShared_29 : decode cX2_worksShared 29 = .ok (.iload_n 1, 1) := dk_27 (dk_at dksX2_worksShared_1 7 rfl rfl)
theorem dX2_worksShared_30 : decode cX2_worksShared 30 = .ok (.if_icmp .ge 51, 3) := dk_162 0 51 (dk_at dksX2_worksShared_1 8 rfl rfl)
theorem dX2_worksShared_33 : decode cX2_worksShared 33 = .ok (.aload_n 0, 1) := dk_42 (dk_at dksX2_worksShared_1 11 rfl rfl)
theorem dX2_worksShared_34 : decode cX2_worksShared 34 = .ok (.getfield 229, 3) := dk_180 0 229 (dk_at dksX2_worksShared_1 12 rfl rfl)
theorem dX2_worksShared_37 : decode cX2_worksShared 37 = .ok (.ifCond .ne 44, 3) := dk_154 0 44 (dk_at dksX2_worksShared_1 15 rfl rfl)
theorem dX2_worksShared_40 : decode cX2_worksShared 40 = .ok (.aload_n 0, 1) := dk_42 (dk_at dksX2_worksShared_1 18 rfl rfl)
theorem dX2_worksShared_41 : decode cX2_worksShared 41 = .ok (.iload_n 2, 1) := dk_28 (dk_at dksX2_worksShared_1 19 rfl rfl)
theorem dX2_worksShared_42 : decode cX2_worksShared 42 = .ok (.invokevirtual 262, 3) := dk_182 1 6 (dk_at dksX2_worksShared_1 20 rfl rfl)
theorem dX2_worksShared_45 : decode cX2_worksShared 45 = .ok (.pop, 1) := dk_87 (dk_at dksX2_worksShared_1 23 rfl rfl)
theorem dX2_worksShared_46 : decode cX2_worksShared 46 = .ok (.iinc 3 1, 3) := dk_132 3 1 (dk_at dksX2_worksShared_2 0 rfl rfl)
theorem dX2_worksShared_49 : decode cX2_worksShared 49 = .ok (.aload_n 0, 1) := dk_42 (dk_at dksX2_worksShared_2 3 rfl rfl)
theorem dX2_worksShared_50 : decode cX2_worksShared 50 = .ok (.iload_n 2, 1) := dk_28 (dk_at dksX2_worksShared_2 4 rfl rfl)
theorem dX2_worksShared_51 : decode cX2_worksShared 51 = .ok (.invokevirtual 265, 3) := dk_182 1 9 (dk_at dksX2_worksShared_2 5 rfl rfl)
theorem dX2_worksShared_54 : decode cX2_worksShared 54 = .ok (.aload_n 0, 1) := dk_42 (dk_at dksX2_worksShared_2 8 rfl rfl)
theorem dX2_worksShared_55 : decode cX2_worksShared 55 = .ok (.aload_n 0, 1) := dk_42 (dk_at dksX2_worksShared_2 9 rfl rfl)
theorem dX2_worksShared_56 : decode cX2_worksShared 56 = .ok (.getfield 229, 3) := dk_180 0 229 (dk_at dksX2_worksShared_2 10 rfl rfl)
theorem dX2_worksShared_59 : decode cX2_worksShared 59 = .ok (.ifCond .ne 15, 3) := dk_154 0 15 (dk_at dksX2_worksShared_2 13 rfl rfl)
theorem dX2_worksShared_62 : decode cX2_worksShared 62 = .ok (.aload_n 0, 1) := dk_42 (dk_at dksX2_worksShared_2 16 rfl rfl)
theorem dX2_worksShared_63 : decode cX2_worksShared 63 = .ok (.iload_n 2, 1) := dk_28 (dk_at dksX2_worksShared_2 17 rfl rfl)
theorem dX2_worksShared_64 : decode cX2_worksShared 64 = .ok (.invokevirtual 259, 3) := dk_182 1 3 (dk_at dksX2_worksShared_2 18 rfl rfl)
theorem dX2_worksShared_67 : decode cX2_worksShared 67 = .ok (.ifCond .eq 7, 3) := dk_153 0 7 (dk_at dksX2_worksShared_2 21 rfl rfl)
theorem dX2_worksShared_70 : decode cX2_worksShared 70 = .ok (.iconst 1, 1) := dk_4 (dk_at dksX2_worksShared_3 0 rfl rfl)
theorem dX2_worksShared_71 : decode cX2_worksShared 71 = .ok (.goto 4, 3) := dk_167 0 4 (dk_at dksX2_worksShared_3 1 rfl rfl)
theorem dX2_worksShared_74 : decode cX2_worksShared 74 = .ok (.iconst 0, 1) := dk_3 (dk_at dksX2_worksShared_3 4 rfl rfl)
theorem dX2_worksShared_75 : decode cX2_worksShared 75 = .ok (.putfield 236, 3) := dk_181 0 236 (dk_at dksX2_worksShared_3 5 rfl rfl)
theorem dX2_worksShared_78 : decode cX2_worksShared 78 = .ok (.goto (-57), 3) := dk_167 255 199 (dk_at dksX2_worksShared_3 8 rfl rfl)
theorem dX2_worksShared_81 : decode cX2_worksShared 81 = .ok (.iload_n 3, 1) := dk_29 (dk_at dksX2_worksShared_3 11 rfl rfl)
theorem dX2_worksShared_82 : decode cX2_worksShared 82 = .ok (.ireturn, 1) := dk_172 (dk_at dksX2_worksShared_3 12 rfl rfl)
abbrev cX2_layThings : ByteArray := prog_15_method_46_code
def yX2_layThings : MethodName := ⟨RX2, "layThings", "()I"⟩
def dkwX2_layThings_3 : List UInt8 := [182, 0, 245, 182, 0, 172, 132, 1, 255, 167, 255, 197, 42, 182, 0, 175, 172]
abbrev dktX2_layThings_3 : List UInt8 := dkwX2_layThings_3 ++ []
def dkwX2_layThings_2 : List UInt8 := [154, 0, 10, 42, 182, 0, 175, 167, 0, 4, 3, 62, 42, 42, 42, 180, 0, 24, 27, 46, 28, 29]
abbrev dktX2_layThings_2 : List UInt8 := dkwX2_layThings_2 ++ dktX2_layThings_3
def dkwX2_layThings_1 : List UInt8 := [180, 0, 24, 27, 46, 154, 0, 10, 42, 182, 0, 175, 167, 0, 4, 3, 61, 42, 180, 0, 24, 27, 46]
abbrev dktX2_layThings_1 : List UInt8 := dkwX2_layThings_1 ++ dktX2_layThings_2
def dkwX2_layThings_0 : List UInt8 := [42, 3, 181, 0, 242, 42, 3, 181, 0, 94, 42, 180, 0, 104, 4, 100, 60, 27, 155, 0, 61, 42]
abbrev dktX2_layThings_0 : List UInt8 := dkwX2_layThings_0 ++ dktX2_layThings_1
theorem dksX2_layThings_0 : cX2_layThings.data.toList.drop 0 = dktX2_layThings_0 := by decide +kernel
theorem dksX2_layThings_1 : cX2_layThings.data.toList.drop 22 = dktX2_layThings_1 := dk_seg dksX2_layThings_0 22 rfl rfl
theorem dksX2_layThings_2 : cX2_layThings.data.toList.drop 45 = dktX2_layThings_2 := dk_seg dksX2_layThings_1 23 rfl rfl
theorem dksX2_layThings_3 : cX2_layThings.data.toList.drop 67 = dktX2_layThings_3 := dk_seg dksX2_layThings_2 22 rfl rfl
theorem dX2_layThings_0 : decode cX2_layThings 0 = .ok (.aload_n 0, 1) := dk_42 (dk_at dksX2_layThings_0 0 rfl rfl)
theorem dX2_layThings_1 : decode cX2_layThings 1 = .ok (.iconst 0, 1) := dk_3 (dk_at dksX2_layThings_0 1 rfl rfl)
theorem dX2_layThings_2 : decode cX2_layThings 2 = .ok (.putfield 242, 3) := dk_181 0 242 (dk_at dksX2_layThings_0 2 rfl rfl)
theorem dX2_layThings_5 : decode cX2_layThings 5 = .ok (.aload_n 0, 1) := dk_42 (dk_at dksX2_layThings_0 5 rfl rfl)
theorem dX2_layThings_6 : decode cX2_layThings 6 = .ok (.iconst 0, 1) := dk_3 (dk_at dksX2_layThings_0 6 rfl rfl)
theorem dX2_layThings_7 : decode cX2_layThings 7 = .ok (.putfield 94, 3) := dk_181 0 94 (dk_at dksX2_layThings_0 7 rfl rfl)
theorem dX2_layThings_10 : decode cX2_layThings 10 = .ok (.aload_n 0, 1) := dk_42 (dk_at dksX2_layThings_0 10 rfl rfl)
theorem dX2_layThings_11 : decode cX2_layThings 11 = .ok (.getfield 104, 3) := dk_180 0 104 (dk_at dksX2_layThings_0 11 rfl rfl)
theorem dX2_layThings_14 : decode cX2_layThings 14 = .ok (.iconst 1, 1) := dk_4 (dk_at dksX2_layThings_0 14 rfl rfl)
theorem dX2_layThings_15 : decode cX2_layThings 15 = .ok (.isub, 1) := dk_100 (dk_at dksX2_layThings_0 15 rfl rfl)
theorem dX2_layThings_16 : decode cX2_layThings 16 = .ok (.istore_n 1, 1) := dk_60 (dk_at dksX2_layThings_0 16 rfl rfl)
theorem dX2_layThings_17 : decode cX2_layThings 17 = .ok (.iload_n 1, 1) := dk_27 (dk_at dksX2_layThings_0 17 rfl rfl)
theorem dX2_layThings_18 : decode cX2_layThings 18 = .ok (.ifCond .lt 61, 3) := dk_155 0 61 (dk_at dksX2_layThings_0 18 rfl rfl)
theorem dX2_layThings_21 : decode cX2_layThings 21 = .ok (.aload_n 0, 1) := dk_42 (dk_at dksX2_layThings_0 21 rfl rfl)
theorem dX2_layThings_22 : decode cX2_layThings 22 = .ok (.getfield 24, 3) := dk_180 0 24 (dk_at dksX2_layThings_1 0 rfl rfl)
theorem dX2_layThings_25 : decode cX2_layThings 25 = .ok (.iload_n 1, 1) := dk_27 (dk_at dksX2_layThings_1 3 rfl rfl)
theorem dX2_layThings_26 : decode cX2_layThings 26 = .ok (.iaload, 1) := dk_46 (dk_at dksX2_layThings_1 4 rfl rfl)
theorem dX2_layThings_27 : decode cX2_layThings 27 = .ok (.ifCond .ne 10, 3) := dk_154 0 10 (dk_at dksX2_layThings_1 5 rfl rfl)
theorem dX2_layThings_30 : decode cX2_layThings 30 = .ok (.aload_n 0, 1) := dk_42 (dk_at dksX2_layThings_1 8 rfl rfl)
theorem dX2_layThings_31 : decode cX2_layThings 31 = .ok (.invokevirtual 175, 3) := dk_182 0 175 (dk_at dksX2_layThings_1 9 rfl rfl)
theorem dX2_layThings_34 : decode cX2_layThings 34 = .ok (.goto 4, 3) := dk_167 0 4 (dk_at dksX2_layThings_1 12 rfl rfl)
theorem dX2_layThings_37 : decode cX2_layThings 37 = .ok (.iconst 0, 1) := dk_3 (dk_at dksX2_layThings_1 15 rfl rfl)
theorem dX2_layThings_38 : decode cX2_layThings 38 = .ok (.istore_n 2, 1) := dk_61 (dk_at dksX2_layThings_1 16 rfl rfl)
theorem dX2_layThings_39 : decode cX2_layThings 39 = .ok (.aload_n 0, 1) := dk_42 (dk_at dksX2_layThings_1 17 rfl rfl)
theorem dX2_layThings_40 : decode cX2_layThings 40 = .ok (.getfield 24, 3) := dk_180 0 24 (dk_at dksX2_layThings_1 18 rfl rfl)
theorem dX2_layThings_43 : decode cX2_layThings 43 = .ok (.iload_n 1, 1) := dk_27 (dk_at dksX2_layThings_1 21 rfl rfl)
theorem dX2_layThings_44 : decode cX2_layThings 44 = .ok (.iaload, 1) := dk_46 (dk_at dksX2_layThings_1 22 rfl rfl)
theorem dX2_layThings_45 : decode cX2_layThings 45 = .ok (.ifCond .ne 10, 3) := dk_154 0 10 (dk_at dksX2_layThings_2 0 rfl rfl)
theorem dX2_layThings_48 : decode cX2_layThings 48 = .ok (.aload_n 0, 1) := dk_42 (dk_at dksX2_layThings_2 3 rfl rfl)
theorem dX2_layThings_49 : decode cX2_layThings 49 = .ok (.invokevirtual 175, 3) := dk_182 0 175 (dk_at dksX2_layThings_2 4 rfl rfl)
theorem dX2_layThings_52 : decode cX2_layThings 52 = .ok (.goto 4, 3) := dk_167 0 4 (dk_at dksX2_layThings_2 7 rfl rfl)
theorem dX2_layThings_55 : decode cX2_layThings 55 = .ok (.iconst 0, 1) := dk_3 (dk_at dksX2_layThings_2 10 rfl rfl)
theorem dX2_layThings_56 : decode cX2_layThings 56 = .ok (.istore_n 3, 1) := dk_62 (dk_at dksX2_layThings_2 11 rfl rfl)
theorem dX2_layThings_57 : decode cX2_layThings 57 = .ok (.aload_n 0, 1) := dk_42 (dk_at dksX2_layThings_2 12 rfl rfl)
theorem dX2_layThings_58 : decode cX2_layThings 58 = .ok (.aload_n 0, 1) := dk_42 (dk_at dksX2_layThings_2 13 rfl rfl)
theorem dX2_layThings_59 : decode cX2_layThings 59 = .ok (.aload_n 0, 1) := dk_42 (dk_at dksX2_layThings_2 14 rfl rfl)
theorem dX2_layThings_60 : decode cX2_layThings 60 = .ok (.getfield 24, 3) := dk_180 0 24 (dk_at dksX2_layThings_2 15 rfl rfl)
theorem dX2_layThings_63 : decode cX2_layThings 63 = .ok (.iload_n 1, 1) := dk_27 (dk_at dksX2_layThings_2 18 rfl rfl)
theorem dX2_layThings_64 : decode cX2_layThings 64 = .ok (.iaload, 1) := dk_46 (dk_at dksX2_layThings_2 19 rfl rfl)
theorem dX2_layThings_65 : decode cX2_layThings 65 = .ok (.iload_n 2, 1) := dk_28 (dk_at dksX2_layThings_2 20 rfl rfl)
theorem dX2_layThings_66 : decode cX2_layThings 66 = .ok (.iload_n 3, 1) := dk_29 (dk_at dksX2_layThings_2 21 rfl rfl)
theorem dX2_layThings_67 : decode cX2_layThings 67 = .ok (.invokevirtual 245, 3) := dk_182 0 245 (dk_at dksX2_layThings_3 0 rfl rfl)
theorem dX2_layThings_70 : decode cX2_layThings 70 = .ok (.invokevirtual 172, 3) := dk_182 0 172 (dk_at dksX2_layThings_3 3 rfl rfl)
theorem dX2_layThings_73 : decode cX2_layThings 73 = .ok (.iinc 1 (-1), 3) := dk_132 1 255 (dk_at dksX2_layThings_3 6 rfl rfl)
theorem dX2_layThings_76 : decode cX2_layThings 76 = .ok (.goto (-59), 3) := dk_167 255 197 (dk_at dksX2_layThings_3 9 rfl rfl)
theorem dX2_layThings_79 : decode cX2_layThings 79 = .ok (.aload_n 0, 1) := dk_42 (dk_at dksX2_layThings_3 12 rfl rfl)
theorem dX2_layThings_80 : decode cX2_layThings 80 = .ok (.invokevirtual 175, 3) := dk_182 0 175 (dk_at dksX2_layThings_3 13 rfl rfl)
theorem dX2_layThings_83 : decode cX2_layThings 83 = .ok (.ireturn, 1) := dk_172 (dk_at dksX2_layThings_3 16 rfl rfl)
abbrev cX2_thing : ByteArray := prog_15_method_44_code
def yX2_thing : MethodName := ⟨RX2, "thing", "(III)I"⟩
def dkwX2_thing_1 : List UInt8 := [42, 180, 0, 242, 29, 79, 42, 89, 180, 0, 242, 4, 96, 181, 0, 242, 42, 180, 0, 242, 4, 100, 172]
abbrev dktX2_thing_1 : List UInt8 := dkwX2_thing_1 ++ []
def dkwX2_thing_0 : List UInt8 := [42, 180, 0, 42, 42, 180, 0, 242, 27, 79, 42, 180, 0, 45, 42, 180, 0, 242, 28, 79, 42, 180, 0, 48]
abbrev dktX2_thing_0 : List UInt8 := dkwX2_thing_0 ++ dktX2_thing_1
theorem dksX2_thing_0 : cX2_thing.data.toList.drop 0 = dktX2_thing_0 := by decide +kernel
theorem dksX2_thing_1 : cX2_thing.data.toList.drop 24 = dktX2_thing_1 := dk_seg dksX2_thing_0 24 rfl rfl
theorem dX2_thing_0 : decode cX2_thing 0 = .ok (.aload_n 0, 1) := dk_42 (dk_at dksX2_thing_0 0 rfl rfl)
theorem dX2_thing_1 : decode cX2_thing 1 = .ok (.getfield 42, 3) := dk_180 0 42 (dk_at dksX2_thing_0 1 rfl rfl)
theorem dX2_thing_4 : decode cX2_thing 4 = .ok (.aload_n 0, 1) := dk_42 (dk_at dksX2_thing_0 4 rfl rfl)
theorem dX2_thing_5 : decode cX2_thing 5 = .ok (.getfield 242, 3) := dk_180 0 242 (dk_at dksX2_thing_0 5 rfl rfl)
theorem dX2_thing_8 : decode cX2_thing 8 = .ok (.iload_n 1, 1) := dk_27 (dk_at dksX2_thing_0 8 rfl rfl)
theorem dX2_thing_9 : decode cX2_thing 9 = .ok (.iastore, 1) := dk_79 (dk_at dksX2_thing_0 9 rfl rfl)
theorem dX2_thing_10 : decode cX2_thing 10 = .ok (.aload_n 0, 1) := dk_42 (dk_at dksX2_thing_0 10 rfl rfl)
theorem dX2_thing_11 : decode cX2_thing 11 = .ok (.getfield 45, 3) := dk_180 0 45 (dk_at dksX2_thing_0 11 rfl rfl)
theorem dX2_thing_14 : decode cX2_thing 14 = .ok (.aload_n 0, 1) := dk_42 (dk_at dksX2_thing_0 14 rfl rfl)
theorem dX2_thing_15 : decode cX2_thing 15 = .ok (.getfield 242, 3) := dk_180 0 242 (dk_at dksX2_thing_0 15 rfl rfl)
theorem dX2_thing_18 : decode cX2_thing 18 = .ok (.iload_n 2, 1) := dk_28 (dk_at dksX2_thing_0 18 rfl rfl)
theorem dX2_thing_19 : decode cX2_thing 19 = .ok (.iastore, 1) := dk_79 (dk_at dksX2_thing_0 19 rfl rfl)
theorem dX2_thing_20 : decode cX2_thing 20 = .ok (.aload_n 0, 1) := dk_42 (dk_at dksX2_thing_0 20 rfl rfl)
theorem dX2_thing_21 : decode cX2_thing 21 = .ok (.getfield 48, 3) := dk_180 0 48 (dk_at dksX2_thing_0 21 rfl rfl)
theorem dX2_thing_24 : decode cX2_thing 24 = .ok (.aload_n 0, 1) := dk_42 (dk_at dksX2_thing_1 0 rfl rfl)
theorem dX2_thing_25 : decode cX2_thing 25 = .ok (.getfield 242, 3) := dk_180 0 242 (dk_at dksX2_thing_1 1 rfl rfl)
theorem dX2_thing_28 : decode cX2_thing 28 = .ok (.iload_n 3, 1) := dk_29 (dk_at dksX2_thing_1 4 rfl rfl)
theorem dX2_thing_29 : decode cX2_thing 29 = .ok (.iastore, 1) := dk_79 (dk_at dksX2_thing_1 5 rfl rfl)
theorem dX2_thing_30 : decode cX2_thing 30 = .ok (.aload_n 0, 1) := dk_42 (dk_at dksX2_thing_1 6 rfl rfl)
theorem dX2_thing_31 : decode cX2_thing 31 = .ok (.dup, 1) := dk_89 (dk_at dksX2_thing_1 7 rfl rfl)
theorem dX2_thing_32 : decode cX2_thing 32 = .ok (.getfield 242, 3) := dk_180 0 242 (dk_at dksX2_thing_1 8 rfl rfl)
theorem dX2_thing_35 : decode cX2_thing 35 = .ok (.iconst 1, 1) := dk_4 (dk_at dksX2_thing_1 11 rfl rfl)
theorem dX2_thing_36 : decode cX2_thing 36 = .ok (.iadd, 1) := dk_96 (dk_at dksX2_thing_1 12 rfl rfl)
theorem dX2_thing_37 : decode cX2_thing 37 = .ok (.putfield 242, 3) := dk_181 0 242 (dk_at dksX2_thing_1 13 rfl rfl)
theorem dX2_thing_40 : decode cX2_thing 40 = .ok (.aload_n 0, 1) := dk_42 (dk_at dksX2_thing_1 16 rfl rfl)
theorem dX2_thing_41 : decode cX2_thing 41 = .ok (.getfield 242, 3) := dk_180 0 242 (dk_at dksX2_thing_1 17 rfl rfl)
theorem dX2_thing_44 : decode cX2_thing 44 = .ok (.iconst 1, 1) := dk_4 (dk_at dksX2_thing_1 20 rfl rfl)
theorem dX2_thing_45 : decode cX2_thing 45 = .ok (.isub, 1) := dk_100 (dk_at dksX2_thing_1 21 rfl rfl)
theorem dX2_thing_46 : decode cX2_thing 46 = .ok (.ireturn, 1) := dk_172 (dk_at dksX2_thing_1 22 rfl rfl)
abbrev cX2_hasStep : ByteArray := prog_15_method_50_code
def yX2_hasStep : MethodName := ⟨RX2, "hasStep", "(I)Z"⟩
def dkwX2_hasStep_4 : List UInt8 := [180, 0, 51, 21, 4, 46, 46, 182, 0, 172, 132, 4, 1, 167, 255, 231, 167, 255, 159, 3, 172]
abbrev dktX2_hasStep_4 : List UInt8 := dkwX2_hasStep_4 ++ []
def dkwX2_hasStep_3 : List UInt8 := [184, 0, 223, 29, 163, 0, 5, 4, 172, 3, 54, 4, 21, 4, 29, 162, 0, 25, 42, 42, 180, 0, 48, 42]
abbrev dktX2_hasStep_3 : List UInt8 := dkwX2_hasStep_3 ++ dktX2_hasStep_4
def dkwX2_hasStep_2 : List UInt8 := [132, 3, 1, 42, 42, 180, 0, 45, 28, 46, 182, 0, 249, 61, 167, 255, 226, 42, 180, 0, 42, 28, 46]
abbrev dktX2_hasStep_2 : List UInt8 := dkwX2_hasStep_2 ++ dktX2_hasStep_3
def dkwX2_hasStep_1 : List UInt8 := [182, 0, 249, 61, 3, 62, 42, 180, 0, 42, 28, 46, 154, 0, 27, 42, 180, 0, 51, 29, 28, 79]
abbrev dktX2_hasStep_1 : List UInt8 := dkwX2_hasStep_1 ++ dktX2_hasStep_2
def dkwX2_hasStep_0 : List UInt8 := [42, 3, 181, 0, 94, 42, 27, 182, 0, 172, 42, 180, 0, 94, 158, 0, 96, 42, 42, 182, 0, 175]
abbrev dktX2_hasStep_0 : List UInt8 := dkwX2_hasStep_0 ++ dktX2_hasStep_1
theorem dksX2_hasStep_0 : cX2_hasStep.data.toList.drop 0 = dktX2_hasStep_0 := by decide +kernel
theorem dksX2_hasStep_1 : cX2_hasStep.data.toList.drop 22 = dktX2_hasStep_1 := dk_seg dksX2_hasStep_0 22 rfl rfl
theorem dksX2_hasStep_2 : cX2_hasStep.data.toList.drop 44 = dktX2_hasStep_2 := dk_seg dksX2_hasStep_1 22 rfl rfl
theorem dksX2_hasStep_3 : cX2_hasStep.data.toList.drop 67 = dktX2_hasStep_3 := dk_seg dksX2_hasStep_2 23 rfl rfl
theorem dksX2_hasStep_4 : cX2_hasStep.data.toList.drop 91 = dktX2_hasStep_4 := dk_seg dksX2_hasStep_3 24 rfl rfl
theorem dX2_hasStep_0 : decode cX2_hasStep 0 = .ok (.aload_n 0, 1) := dk_42 (dk_at dksX2_hasStep_0 0 rfl rfl)
theorem dX2_hasStep_1 : decode cX2_hasStep 1 = .ok (.iconst 0, 1) := dk_3 (dk_at dksX2_hasStep_0 1 rfl rfl)
theorem dX2_hasStep_2 : decode cX2_hasStep 2 = .ok (.putfield 94, 3) := dk_181 0 94 (dk_at dksX2_hasStep_0 2 rfl rfl)
theorem dX2_hasStep_5 : decode cX2_hasStep 5 = .ok (.aload_n 0, 1) := dk_42 (dk_at dksX2_hasStep_0 5 rfl rfl)
theorem dX2_hasStep_6 : decode cX2_hasStep 6 = .ok (.iload_n 1, 1) := dk_27 (dk_at dksX2_hasStep_0 6 rfl rfl)
theorem dX2_hasStep_7 : decode cX2_hasStep 7 = .ok (.invokevirtual 172, 3) := dk_182 0 172 (dk_at dksX2_hasStep_0 7 rfl rfl)
theorem dX2_hasStep_10 : decode cX2_hasStep 10 = .ok (.aload_n 0, 1) := dk_42 (dk_at dksX2_hasStep_0 10 rfl rfl)
theorem dX2_hasStep_11 : decode cX2_hasStep 11 = .ok (.getfield 94, 3) := dk_180 0 94 (dk_at dksX2_hasStep_0 11 rfl rfl)
theorem dX2_hasStep_14 : decode cX2_hasStep 14 = .ok (.ifCond .le 96, 3) := dk_158 0 96 (dk_at dksX2_hasStep_0 14 rfl rfl)
theorem dX2_hasStep_17 : decode cX2_hasStep 17 = .ok (.aload_n 0, 1) := dk_42 (dk_at dksX2_hasStep_0 17 rfl rfl)
theorem dX2_hasStep_18 : decode cX2_hasStep 18 = .ok (.aload_n 0, 1) := dk_42 (dk_at dksX2_hasStep_0 18 rfl rfl)
theorem dX2_hasStep_19 : decode cX2_hasStep 19 = .ok (.invokevirtual 175, 3) := dk_182 0 175 (dk_at dksX2_hasStep_0 19 rfl rfl)
theorem dX2_hasStep_22 : decode cX2_hasStep 22 = .ok (.invokevirtual 249, 3) := dk_182 0 249 (dk_at dksX2_hasStep_1 0 rfl rfl)
theorem dX2_hasStep_25 : decode cX2_hasStep 25 = .ok (.istore_n 2, 1) := dk_61 (dk_at dksX2_hasStep_1 3 rfl rfl)
theorem dX2_hasStep_26 : decode cX2_hasStep 26 = .ok (.iconst 0, 1) := dk_3 (dk_at dksX2_hasStep_1 4 rfl rfl)
theorem dX2_hasStep_27 : decode cX2_hasStep 27 = .ok (.istore_n 3, 1) := dk_62 (dk_at dksX2_hasStep_1 5 rfl rfl)
theorem dX2_hasStep_28 : decode cX2_hasStep 28 = .ok (.aload_n 0, 1) := dk_42 (dk_at dksX2_hasStep_1 6 rfl rfl)
theorem dX2_hasStep_29 : decode cX2_hasStep 29 = .ok (.getfield 42, 3) := dk_180 0 42 (dk_at dksX2_hasStep_1 7 rfl rfl)
theorem dX2_hasStep_32 : decode cX2_hasStep 32 = .ok (.iload_n 2, 1) := dk_28 (dk_at dksX2_hasStep_1 10 rfl rfl)
theorem dX2_hasStep_33 : decode cX2_hasStep 33 = .ok (.iaload, 1) := dk_46 (dk_at dksX2_hasStep_1 11 rfl rfl)
theorem dX2_hasStep_34 : decode cX2_hasStep 34 = .ok (.ifCond .ne 27, 3) := dk_154 0 27 (dk_at dksX2_hasStep_1 12 rfl rfl)
theorem dX2_hasStep_37 : decode cX2_hasStep 37 = .ok (.aload_n 0, 1) := dk_42 (dk_at dksX2_hasStep_1 15 rfl rfl)
theorem dX2_hasStep_38 : decode cX2_hasStep 38 = .ok (.getfield 51, 3) := dk_180 0 51 (dk_at dksX2_hasStep_1 16 rfl rfl)
theorem dX2_hasStep_41 : decode cX2_hasStep 41 = .ok (.iload_n 3, 1) := dk_29 (dk_at dksX2_hasStep_1 19 rfl rfl)
theorem dX2_hasStep_42 : decode cX2_hasStep 42 = .ok (.iload_n 2, 1) := dk_28 (dk_at dksX2_hasStep_1 20 rfl rfl)
theorem dX2_hasStep_43 : decode cX2_hasStep 43 = .ok (.iastore, 1) := dk_79 (dk_at dksX2_hasStep_1 21 rfl rfl)
theorem dX2_hasStep_44 : decode cX2_hasStep 44 = .ok (.iinc 3 1, 3) := dk_132 3 1 (dk_at dksX2_hasStep_2 0 rfl rfl)
theorem dX2_hasStep_47 : decode cX2_hasStep 47 = .ok (.aload_n 0, 1) := dk_42 (dk_at dksX2_hasStep_2 3 rfl rfl)
theorem dX2_hasStep_48 : decode cX2_hasStep 48 = .ok (.aload_n 0, 1) := dk_42 (dk_at dksX2_hasStep_2 4 rfl rfl)
theorem dX2_hasStep_49 : decode cX2_hasStep 49 = .ok (.getfield 45, 3) := dk_180 0 45 (dk_at dksX2_hasStep_2 5 rfl rfl)
theorem dX2_hasStep_52 : decode cX2_hasStep 52 = .ok (.iload_n 2, 1) := dk_28 (dk_at dksX2_hasStep_2 8 rfl rfl)
theorem dX2_hasStep_53 : decode cX2_hasStep 53 = .ok (.iaload, 1) := dk_46 (dk_at dksX2_hasStep_2 9 rfl rfl)
theorem dX2_hasStep_54 : decode cX2_hasStep 54 = .ok (.invokevirtual 249, 3) := dk_182 0 249 (dk_at dksX2_hasStep_2 10 rfl rfl)
theorem dX2_hasStep_57 : decode cX2_hasStep 57 = .ok (.istore_n 2, 1) := dk_61 (dk_at dksX2_hasStep_2 13 rfl rfl)
theorem dX2_hasStep_58 : decode cX2_hasStep 58 = .ok (.goto (-30), 3) := dk_167 255 226 (dk_at dksX2_hasStep_2 14 rfl rfl)
theorem dX2_hasStep_61 : decode cX2_hasStep 61 = .ok (.aload_n 0, 1) := dk_42 (dk_at dksX2_hasStep_2 17 rfl rfl)
theorem dX2_hasStep_62 : decode cX2_hasStep 62 = .ok (.getfield 42, 3) := dk_180 0 42 (dk_at dksX2_hasStep_2 18 rfl rfl)
theorem dX2_hasStep_65 : decode cX2_hasStep 65 = .ok (.iload_n 2, 1) := dk_28 (dk_at dksX2_hasStep_2 21 rfl rfl)
theorem dX2_hasStep_66 : decode cX2_hasStep 66 = .ok (.iaload, 1) := dk_46 (dk_at dksX2_hasStep_2 22 rfl rfl)
theorem dX2_hasStep_67 : decode cX2_hasStep 67 = .ok (.invokestatic 223, 3) := dk_184 0 223 (dk_at dksX2_hasStep_3 0 rfl rfl)
theorem dX2_hasStep_70 : decode cX2_hasStep 70 = .ok (.iload_n 3, 1) := dk_29 (dk_at dksX2_hasStep_3 3 rfl rfl)
theorem dX2_hasStep_71 : decode cX2_hasStep 71 = .ok (.if_icmp .gt 5, 3) := dk_163 0 5 (dk_at dksX2_hasStep_3 4 rfl rfl)
theorem dX2_hasStep_74 : decode cX2_hasStep 74 = .ok (.iconst 1, 1) := dk_4 (dk_at dksX2_hasStep_3 7 rfl rfl)
theorem dX2_hasStep_75 : decode cX2_hasStep 75 = .ok (.ireturn, 1) := dk_172 (dk_at dksX2_hasStep_3 8 rfl rfl)
theorem dX2_hasStep_76 : decode cX2_hasStep 76 = .ok (.iconst 0, 1) := dk_3 (dk_at dksX2_hasStep_3 9 rfl rfl)
theorem dX2_hasStep_77 : decode cX2_hasStep 77 = .ok (.istore 4, 2) := dk_54 4 (dk_at dksX2_hasStep_3 10 rfl rfl)
theorem dX2_hasStep_79 : decode cX2_hasStep 79 = .ok (.iload 4, 2) := dk_21 4 (dk_at dksX2_hasStep_3 12 rfl rfl)
theorem dX2_hasStep_81 : decode cX2_hasStep 81 = .ok (.iload_n 3, 1) := dk_29 (dk_at dksX2_hasStep_3 14 rfl rfl)
theorem dX2_hasStep_82 : decode cX2_hasStep 82 = .ok (.if_icmp .ge 25, 3) := dk_162 0 25 (dk_at dksX2_hasStep_3 15 rfl rfl)
theorem dX2_hasStep_85 : decode cX2_hasStep 85 = .ok (.aload_n 0, 1) := dk_42 (dk_at dksX2_hasStep_3 18 rfl rfl)
theorem dX2_hasStep_86 : decode cX2_hasStep 86 = .ok (.aload_n 0, 1) := dk_42 (dk_at dksX2_hasStep_3 19 rfl rfl)
theorem dX2_hasStep_87 : decode cX2_hasStep 87 = .ok (.getfield 48, 3) := dk_180 0 48 (dk_at dksX2_hasStep_3 20 rfl rfl)
theorem dX2_hasStep_90 : decode cX2_hasStep 90 = .ok (.aload_n 0, 1) := dk_42 (dk_at dksX2_hasStep_3 23 rfl rfl)
theorem dX2_hasStep_91 : decode cX2_hasStep 91 = .ok (.getfield 51, 3) := dk_180 0 51 (dk_at dksX2_hasStep_4 0 rfl rfl)
theorem dX2_hasStep_94 : decode cX2_hasStep 94 = .ok (.iload 4, 2) := dk_21 4 (dk_at dksX2_hasStep_4 3 rfl rfl)
theorem dX2_hasStep_96 : decode cX2_hasStep 96 = .ok (.iaload, 1) := dk_46 (dk_at dksX2_hasStep_4 5 rfl rfl)
theorem dX2_hasStep_97 : decode cX2_hasStep 97 = .ok (.iaload, 1) := dk_46 (dk_at dksX2_hasStep_4 6 rfl rfl)
theorem dX2_hasStep_98 : decode cX2_hasStep 98 = .ok (.invokevirtual 172, 3) := dk_182 0 172 (dk_at dksX2_hasStep_4 7 rfl rfl)
theorem dX2_hasStep_101 : decode cX2_hasStep 101 = .ok (.iinc 4 1, 3) := dk_132 4 1 (dk_at dksX2_hasStep_4 10 rfl rfl)
theorem dX2_hasStep_104 : decode cX2_hasStep 104 = .ok (.goto (-25), 3) := dk_167 255 231 (dk_at dksX2_hasStep_4 13 rfl rfl)
theorem dX2_hasStep_107 : decode cX2_hasStep 107 = .ok (.goto (-97), 3) := dk_167 255 159 (dk_at dksX2_hasStep_4 16 rfl rfl)
theorem dX2_hasStep_110 : decode cX2_hasStep 110 = .ok (.iconst 0, 1) := dk_3 (dk_at dksX2_hasStep_4 19 rfl rfl)
theorem dX2_hasStep_111 : decode cX2_hasStep 111 = .ok (.ireturn, 1) := dk_172 (dk_at dksX2_hasStep_4 20 rfl rfl)
abbrev cX2_real : ByteArray := prog_15_method_45_code
def yX2_real : MethodName := ⟨RX2, "real", "(I)I"⟩
def dkwX2_real_1 : List UInt8 := [172]
abbrev dktX2_real_1 : List UInt8 := dkwX2_real_1 ++ []
def dkwX2_real_0 : List UInt8 := [27, 61, 42, 180, 0, 42, 28, 46, 16, 249, 160, 0, 13, 42, 180, 0, 45, 28, 46, 61, 167, 255, 238, 28]
abbrev dktX2_real_0 : List UInt8 := dkwX2_real_0 ++ dktX2_real_1
theorem dksX2_real_0 : cX2_real.data.toList.drop 0 = dktX2_real_0 := by decide +kernel
theorem dksX2_real_1 : cX2_real.data.toList.drop 24 = dktX2_real_1 := dk_seg dksX2_real_0 24 rfl rfl
theorem dX2_real_0 : decode cX2_real 0 = .ok (.iload_n 1, 1) := dk_27 (dk_at dksX2_real_0 0 rfl rfl)
theorem dX2_real_1 : decode cX2_real 1 = .ok (.istore_n 2, 1) := dk_61 (dk_at dksX2_real_0 1 rfl rfl)
theorem dX2_real_2 : decode cX2_real 2 = .ok (.aload_n 0, 1) := dk_42 (dk_at dksX2_real_0 2 rfl rfl)
theorem dX2_real_3 : decode cX2_real 3 = .ok (.getfield 42, 3) := dk_180 0 42 (dk_at dksX2_real_0 3 rfl rfl)
theorem dX2_real_6 : decode cX2_real 6 = .ok (.iload_n 2, 1) := dk_28 (dk_at dksX2_real_0 6 rfl rfl)
theorem dX2_real_7 : decode cX2_real 7 = .ok (.iaload, 1) := dk_46 (dk_at dksX2_real_0 7 rfl rfl)
theorem dX2_real_8 : decode cX2_real 8 = .ok (.bipush (-7), 2) := dk_16 249 (dk_at dksX2_real_0 8 rfl rfl)
theorem dX2_real_10 : decode cX2_real 10 = .ok (.if_icmp .ne 13, 3) := dk_160 0 13 (dk_at dksX2_real_0 10 rfl rfl)
theorem dX2_real_13 : decode cX2_real 13 = .ok (.aload_n 0, 1) := dk_42 (dk_at dksX2_real_0 13 rfl rfl)
theorem dX2_real_14 : decode cX2_real 14 = .ok (.getfield 45, 3) := dk_180 0 45 (dk_at dksX2_real_0 14 rfl rfl)
theorem dX2_real_17 : decode cX2_real 17 = .ok (.iload_n 2, 1) := dk_28 (dk_at dksX2_real_0 17 rfl rfl)
theorem dX2_real_18 : decode cX2_real 18 = .ok (.iaload, 1) := dk_46 (dk_at dksX2_real_0 18 rfl rfl)
theorem dX2_real_19 : decode cX2_real 19 = .ok (.istore_n 2, 1) := dk_61 (dk_at dksX2_real_0 19 rfl rfl)
theorem dX2_real_20 : decode cX2_real 20 = .ok (.goto (-18), 3) := dk_167 255 238 (dk_at dksX2_real_0 20 rfl rfl)
theorem dX2_real_23 : decode cX2_real 23 = .ok (.iload_n 2, 1) := dk_28 (dk_at dksX2_real_0 23 rfl rfl)
theorem dX2_real_24 : decode cX2_real 24 = .ok (.ireturn, 1) := dk_172 (dk_at dksX2_real_1 0 rfl rfl)
abbrev cX2_doesShared : ByteArray := prog_15_method_48_code
def yX2_doesShared : MethodName := ⟨RX2, "doesShared", "(I)Z"⟩
def dkwX2_doesShared_6 : List UInt8 := [172]
abbrev dktX2_doesShared_6 : List UInt8 := dkwX2_doesShared_6 ++ []
def dkwX2_doesShared_5 : List UInt8 := [180, 0, 48, 42, 180, 0, 51, 21, 5, 46, 46, 182, 0, 172, 132, 5, 1, 167, 255, 231, 167, 255, 135, 3]
abbrev dktX2_doesShared_5 : List UInt8 := dkwX2_doesShared_5 ++ dktX2_doesShared_6
def dkwX2_doesShared_4 : List UInt8 := [180, 0, 42, 28, 46, 29, 182, 0, 252, 4, 172, 3, 54, 5, 21, 5, 29, 162, 0, 25, 42, 42]
abbrev dktX2_doesShared_4 : List UInt8 := dkwX2_doesShared_4 ++ dktX2_doesShared_5
def dkwX2_doesShared_3 : List UInt8 := [184, 0, 223, 54, 4, 21, 4, 29, 163, 0, 25, 42, 42, 180, 0, 51, 29, 21, 4, 100, 46, 42]
abbrev dktX2_doesShared_3 : List UInt8 := dkwX2_doesShared_3 ++ dktX2_doesShared_4
def dkwX2_doesShared_2 : List UInt8 := [132, 3, 1, 42, 42, 180, 0, 45, 28, 46, 182, 0, 249, 61, 167, 255, 226, 42, 180, 0, 42, 28, 46]
abbrev dktX2_doesShared_2 : List UInt8 := dkwX2_doesShared_2 ++ dktX2_doesShared_3
def dkwX2_doesShared_1 : List UInt8 := [182, 0, 249, 61, 3, 62, 42, 180, 0, 42, 28, 46, 154, 0, 27, 42, 180, 0, 51, 29, 28, 79]
abbrev dktX2_doesShared_1 : List UInt8 := dkwX2_doesShared_1 ++ dktX2_doesShared_2
def dkwX2_doesShared_0 : List UInt8 := [42, 3, 181, 0, 94, 42, 27, 182, 0, 172, 42, 180, 0, 94, 158, 0, 120, 42, 42, 182, 0, 175]
abbrev dktX2_doesShared_0 : List UInt8 := dkwX2_doesShared_0 ++ dktX2_doesShared_1
theorem dksX2_doesShared_0 : cX2_doesShared.data.toList.drop 0 = dktX2_doesShared_0 := by decide +kernel
theorem dksX2_doesShared_1 : cX2_doesShared.data.toList.drop 22 = dktX2_doesShared_1 := dk_seg dksX2_doesShared_0 22 rfl rfl
theorem dksX2_doesShared_2 : cX2_doesShared.data.toList.drop 44 = dktX2_doesShared_2 := dk_seg dksX2_doesShared_1 22 rfl rfl
theorem dksX2_doesShared_3 : cX2_doesShared.data.toList.drop 67 = dktX2_doesShared_3 := dk_seg dksX2_doesShared_2 23 rfl rfl
theorem dksX2_doesShared_4 : cX2_doesShared.data.toList.drop 89 = dktX2_doesShared_4 := dk_seg dksX2_doesShared_3 22 rfl rfl
theorem dksX2_doesShared_5 : cX2_doesShared.data.toList.drop 111 = dktX2_doesShared_5 := dk_seg dksX2_doesShared_4 22 rfl rfl
theorem dksX2_doesShared_6 : cX2_doesShared.data.toList.drop 135 = dktX2_doesShared_6 := dk_seg dksX2_doesShared_5 24 rfl rfl
theorem dX2_doesShared_0 : decode cX2_doesShared 0 = .ok (.aload_n 0, 1) := dk_42 (dk_at dksX2_doesShared_0 0 rfl rfl)
theorem dX2_doesShared_1 : decode cX2_doesShared 1 = .ok (.iconst 0, 1) := dk_3 (dk_at dksX2_doesShared_0 1 rfl rfl)
theorem dX2_doesShared_2 : decode cX2_doesShared 2 = .ok (.putfield 94, 3) := dk_181 0 94 (dk_at dksX2_doesShared_0 2 rfl rfl)
theorem dX2_doesShared_5 : decode cX2_doesShared 5 = .ok (.aload_n 0, 1) := dk_42 (dk_at dksX2_doesShared_0 5 rfl rfl)
theorem dX2_doesShared_6 : decode cX2_doesShared 6 = .ok (.iload_n 1, 1) := dk_27 (dk_at dksX2_doesShared_0 6 rfl rfl)
theorem dX2_doesShared_7 : decode cX2_doesShared 7 = .ok (.invokevirtual 172, 3) := dk_182 0 172 (dk_at dksX2_doesShared_0 7 rfl rfl)
theorem dX2_doesShared_10 : decode cX2_doesShared 10 = .ok (.aload_n 0, 1) := dk_42 (dk_at dksX2_doesShared_0 10 rfl rfl)
theorem dX2_doesShared_11 : decode cX2_doesShared 11 = .ok (.getfield 94, 3) := dk_180 0 94 (dk_at dksX2_doesShared_0 11 rfl rfl)
theorem dX2_doesShared_14 : decode cX2_doesShared 14 = .ok (.ifCond .le 120, 3) := dk_158 0 120 (dk_at dksX2_doesShared_0 14 rfl rfl)
theorem dX2_doesShared_17 : decode cX2_doesShared 17 = .ok (.aload_n 0, 1) := dk_42 (dk_at dksX2_doesShared_0 17 rfl rfl)
theorem dX2_doesShared_18 : decode cX2_doesShared 18 = .ok (.aload_n 0, 1) := dk_42 (dk_at dksX2_doesShared_0 18 rfl rfl)
theorem dX2_doesShared_19 : decode cX2_doesShared 19 = .ok (.invokevirtual 175, 3) := dk_182 0 175 (dk_at dksX2_doesShared_0 19 rfl rfl)
theorem dX2_doesShared_22 : decode cX2_doesShared 22 = .ok (.invokevirtual 249, 3) := dk_182 0 249 (dk_at dksX2_doesShared_1 0 rfl rfl)
theorem dX2_doesShared_25 : decode cX2_doesShared 25 = .ok (.istore_n 2, 1) := dk_61 (dk_at dksX2_doesShared_1 3 rfl rfl)
theorem dX2_doesShared_26 : decode cX2_doesShared 26 = .ok (.iconst 0, 1) := dk_3 (dk_at dksX2_doesShared_1 4 rfl rfl)
theorem dX2_doesShared_27 : decode cX2_doesShared 27 = .ok (.istore_n 3, 1) := dk_62 (dk_at dksX2_doesShared_1 5 rfl rfl)
theorem dX2_doesShared_28 : decode cX2_doesShared 28 = .ok (.aload_n 0, 1) := dk_42 (dk_at dksX2_doesShared_1 6 rfl rfl)
theorem dX2_doesShared_29 : decode cX2_doesShared 29 = .ok (.getfield 42, 3) := dk_180 0 42 (dk_at dksX2_doesShared_1 7 rfl rfl)
theorem dX2_doesShared_32 : decode cX2_doesShared 32 = .ok (.iload_n 2, 1) := dk_28 (dk_at dksX2_doesShared_1 10 rfl rfl)
theorem dX2_doesShared_33 : decode cX2_doesShared 33 = .ok (.iaload, 1) := dk_46 (dk_at dksX2_doesShared_1 11 rfl rfl)
theorem dX2_doesShared_34 : decode cX2_doesShared 34 = .ok (.ifCond .ne 27, 3) := dk_154 0 27 (dk_at dksX2_doesShared_1 12 rfl rfl)
theorem dX2_doesShared_37 : decode cX2_doesShared 37 = .ok (.aload_n 0, 1) := dk_42 (dk_at dksX2_doesShared_1 15 rfl rfl)
theorem dX2_doesShared_38 : decode cX2_doesShared 38 = .ok (.getfield 51, 3) := dk_180 0 51 (dk_at dksX2_doesShared_1 16 rfl rfl)
theorem dX2_doesShared_41 : decode cX2_doesShared 41 = .ok (.iload_n 3, 1) := dk_29 (dk_at dksX2_doesShared_1 19 rfl rfl)
theorem dX2_doesShared_42 : decode cX2_doesShared 42 = .ok (.iload_n 2, 1) := dk_28 (dk_at dksX2_doesShared_1 20 rfl rfl)
theorem dX2_doesShared_43 : decode cX2_doesShared 43 = .ok (.iastore, 1) := dk_79 (dk_at dksX2_doesShared_1 21 rfl rfl)
theorem dX2_doesShared_44 : decode cX2_doesShared 44 = .ok (.iinc 3 1, 3) := dk_132 3 1 (dk_at dksX2_doesShared_2 0 rfl rfl)
theorem dX2_doesShared_47 : decode cX2_doesShared 47 = .ok (.aload_n 0, 1) := dk_42 (dk_at dksX2_doesShared_2 3 rfl rfl)
theorem dX2_doesShared_48 : decode cX2_doesShared 48 = .ok (.aload_n 0, 1) := dk_42 (dk_at dksX2_doesShared_2 4 rfl rfl)
theorem dX2_doesShared_49 : decode cX2_doesShared 49 = .ok (.getfield 45, 3) := dk_180 0 45 (dk_at dksX2_doesShared_2 5 rfl rfl)
theorem dX2_doesShared_52 : decode cX2_doesShared 52 = .ok (.iload_n 2, 1) := dk_28 (dk_at dksX2_doesShared_2 8 rfl rfl)
theorem dX2_doesShared_53 : decode cX2_doesShared 53 = .ok (.iaload, 1) := dk_46 (dk_at dksX2_doesShared_2 9 rfl rfl)
theorem dX2_doesShared_54 : decode cX2_doesShared 54 = .ok (.invokevirtual 249, 3) := dk_182 0 249 (dk_at dksX2_doesShared_2 10 rfl rfl)
theorem dX2_doesShared_57 : decode cX2_doesShared 57 = .ok (.istore_n 2, 1) := dk_61 (dk_at dksX2_doesShared_2 13 rfl rfl)
theorem dX2_doesShared_58 : decode cX2_doesShared 58 = .ok (.goto (-30), 3) := dk_167 255 226 (dk_at dksX2_doesShared_2 14 rfl rfl)
theorem dX2_doesShared_61 : decode cX2_doesShared 61 = .ok (.aload_n 0, 1) := dk_42 (dk_at dksX2_doesShared_2 17 rfl rfl)
theorem dX2_doesShared_62 : decode cX2_doesShared 62 = .ok (.getfield 42, 3) := dk_180 0 42 (dk_at dksX2_doesShared_2 18 rfl rfl)
theorem dX2_doesShared_65 : decode cX2_doesShared 65 = .ok (.iload_n 2, 1) := dk_28 (dk_at dksX2_doesShared_2 21 rfl rfl)
theorem dX2_doesShared_66 : decode cX2_doesShared 66 = .ok (.iaload, 1) := dk_46 (dk_at dksX2_doesShared_2 22 rfl rfl)
theorem dX2_doesShared_67 : decode cX2_doesShared 67 = .ok (.invokestatic 223, 3) := dk_184 0 223 (dk_at dksX2_doesShared_3 0 rfl rfl)
theorem dX2_doesShared_70 : decode cX2_doesShared 70 = .ok (.istore 4, 2) := dk_54 4 (dk_at dksX2_doesShared_3 3 rfl rfl)
theorem dX2_doesShared_72 : decode cX2_doesShared 72 = .ok (.iload 4, 2) := dk_21 4 (dk_at dksX2_doesShared_3 5 rfl rfl)
theorem dX2_doesShared_74 : decode cX2_doesShared 74 = .ok (.iload_n 3, 1) := dk_29 (dk_at dksX2_doesShared_3 7 rfl rfl)
theorem dX2_doesShared_75 : decode cX2_doesShared 75 = .ok (.if_icmp .gt 25, 3) := dk_163 0 25 (dk_at dksX2_doesShared_3 8 rfl rfl)
theorem dX2_doesShared_78 : decode cX2_doesShared 78 = .ok (.aload_n 0, 1) := dk_42 (dk_at dksX2_doesShared_3 11 rfl rfl)
theorem dX2_doesShared_79 : decode cX2_doesShared 79 = .ok (.aload_n 0, 1) := dk_42 (dk_at dksX2_doesShared_3 12 rfl rfl)
theorem dX2_doesShared_80 : decode cX2_doesShared 80 = .ok (.getfield 51, 3) := dk_180 0 51 (dk_at dksX2_doesShared_3 13 rfl rfl)
theorem dX2_doesShared_83 : decode cX2_doesShared 83 = .ok (.iload_n 3, 1) := dk_29 (dk_at dksX2_doesShared_3 16 rfl rfl)
theorem dX2_doesShared_84 : decode cX2_doesShared 84 = .ok (.iload 4, 2) := dk_21 4 (dk_at dksX2_doesShared_3 17 rfl rfl)
theorem dX2_doesShared_86 : decode cX2_doesShared 86 = .ok (.isub, 1) := dk_100 (dk_at dksX2_doesShared_3 19 rfl rfl)
theorem dX2_doesShared_87 : decode cX2_doesShared 87 = .ok (.iaload, 1) := dk_46 (dk_at dksX2_doesShared_3 20 rfl rfl)
theorem dX2_doesShared_88 : decode cX2_doesShared 88 = .ok (.aload_n 0, 1) := dk_42 (dk_at dksX2_doesShared_3 21 rfl rfl)
theorem dX2_doesShared_89 : decode cX2_doesShared 89 = .ok (.getfield 42, 3) := dk_180 0 42 (dk_at dksX2_doesShared_4 0 rfl rfl)
theorem dX2_doesShared_92 : decode cX2_doesShared 92 = .ok (.iload_n 2, 1) := dk_28 (dk_at dksX2_doesShared_4 3 rfl rfl)
theorem dX2_doesShared_93 : decode cX2_doesShared 93 = .ok (.iaload, 1) := dk_46 (dk_at dksX2_doesShared_4 4 rfl rfl)
theorem dX2_doesShared_94 : decode cX2_doesShared 94 = .ok (.iload_n 3, 1) := dk_29 (dk_at dksX2_doesShared_4 5 rfl rfl)
theorem dX2_doesShared_95 : decode cX2_doesShared 95 = .ok (.invokevirtual 252, 3) := dk_182 0 252 (dk_at dksX2_doesShared_4 6 rfl rfl)
theorem dX2_doesShared_98 : decode cX2_doesShared 98 = .ok (.iconst 1, 1) := dk_4 (dk_at dksX2_doesShared_4 9 rfl rfl)
theorem dX2_doesShared_99 : decode cX2_doesShared 99 = .ok (.ireturn, 1) := dk_172 (dk_at dksX2_doesShared_4 10 rfl rfl)
theorem dX2_doesShared_100 : decode cX2_doesShared 100 = .ok (.iconst 0, 1) := dk_3 (dk_at dksX2_doesShared_4 11 rfl rfl)
theorem dX2_doesShared_101 : decode cX2_doesShared 101 = .ok (.istore 5, 2) := dk_54 5 (dk_at dksX2_doesShared_4 12 rfl rfl)
theorem dX2_doesShared_103 : decode cX2_doesShared 103 = .ok (.iload 5, 2) := dk_21 5 (dk_at dksX2_doesShared_4 14 rfl rfl)
theorem dX2_doesShared_105 : decode cX2_doesShared 105 = .ok (.iload_n 3, 1) := dk_29 (dk_at dksX2_doesShared_4 16 rfl rfl)
theorem dX2_doesShared_106 : decode cX2_doesShared 106 = .ok (.if_icmp .ge 25, 3) := dk_162 0 25 (dk_at dksX2_doesShared_4 17 rfl rfl)
theorem dX2_doesShared_109 : decode cX2_doesShared 109 = .ok (.aload_n 0, 1) := dk_42 (dk_at dksX2_doesShared_4 20 rfl rfl)
theorem dX2_doesShared_110 : decode cX2_doesShared 110 = .ok (.aload_n 0, 1) := dk_42 (dk_at dksX2_doesShared_4 21 rfl rfl)
theorem dX2_doesShared_111 : decode cX2_doesShared 111 = .ok (.getfield 48, 3) := dk_180 0 48 (dk_at dksX2_doesShared_5 0 rfl rfl)
theorem dX2_doesShared_114 : decode cX2_doesShared 114 = .ok (.aload_n 0, 1) := dk_42 (dk_at dksX2_doesShared_5 3 rfl rfl)
theorem dX2_doesShared_115 : decode cX2_doesShared 115 = .ok (.getfield 51, 3) := dk_180 0 51 (dk_at dksX2_doesShared_5 4 rfl rfl)
theorem dX2_doesShared_118 : decode cX2_doesShared 118 = .ok (.iload 5, 2) := dk_21 5 (dk_at dksX2_doesShared_5 7 rfl rfl)
theorem dX2_doesShared_120 : decode cX2_doesShared 120 = .ok (.iaload, 1) := dk_46 (dk_at dksX2_doesShared_5 9 rfl rfl)
theorem dX2_doesShared_121 : decode cX2_doesShared 121 = .ok (.iaload, 1) := dk_46 (dk_at dksX2_doesShared_5 10 rfl rfl)
theorem dX2_doesShared_122 : decode cX2_doesShared 122 = .ok (.invokevirtual 172, 3) := dk_182 0 172 (dk_at dksX2_doesShared_5 11 rfl rfl)
theorem dX2_doesShared_125 : decode cX2_doesShared 125 = .ok (.iinc 5 1, 3) := dk_132 5 1 (dk_at dksX2_doesShared_5 14 rfl rfl)
theorem dX2_doesShared_128 : decode cX2_doesShared 128 = .ok (.goto (-25), 3) := dk_167 255 231 (dk_at dksX2_doesShared_5 17 rfl rfl)
theorem dX2_doesShared_131 : decode cX2_doesShared 131 = .ok (.goto (-121), 3) := dk_167 255 135 (dk_at dksX2_doesShared_5 20 rfl rfl)
theorem dX2_doesShared_134 : decode cX2_doesShared 134 = .ok (.iconst 0, 1) := dk_3 (dk_at dksX2_doesShared_5 23 rfl rfl)
theorem dX2_doesShared_135 : decode cX2_doesShared 135 = .ok (.ireturn, 1) := dk_172 (dk_at dksX2_doesShared_6 0 rfl rfl)
abbrev cX2_changes : ByteArray := prog_15_method_49_code
def yX2_changes : MethodName := ⟨RX2, "changes", "(III)V"⟩
def dkwX2_changes_8 : List UInt8 := [180, 0, 48, 27, 21, 5, 79, 177]
abbrev dktX2_changes_8 : List UInt8 := dkwX2_changes_8 ++ []
def dkwX2_changes_7 : List UInt8 := [182, 0, 245, 79, 167, 0, 26, 42, 180, 0, 45, 27, 42, 3, 21, 4, 21, 6, 182, 0, 245, 79, 42]
abbrev dktX2_changes_7 : List UInt8 := dkwX2_changes_7 ++ dktX2_changes_8
def dkwX2_changes_6 : List UInt8 := [79, 167, 0, 52, 42, 180, 0, 45, 27, 21, 4, 79, 42, 180, 0, 48, 27, 42, 3, 21, 5, 21, 6]
abbrev dktX2_changes_6 : List UInt8 := dkwX2_changes_6 ++ dktX2_changes_7
def dkwX2_changes_5 : List UInt8 := [42, 3, 21, 4, 21, 6, 182, 0, 245, 79, 42, 180, 0, 48, 27, 42, 3, 21, 5, 21, 6, 182, 0, 245]
abbrev dktX2_changes_5 : List UInt8 := dkwX2_changes_5 ++ dktX2_changes_6
def dkwX2_changes_4 : List UInt8 := [42, 180, 0, 42, 27, 16, 249, 79, 42, 180, 0, 45, 27, 21, 4, 79, 167, 0, 85, 42, 180, 0, 45, 27]
abbrev dktX2_changes_4 : List UInt8 := dkwX2_changes_4 ++ dktX2_changes_5
def dkwX2_changes_3 : List UInt8 := [170, 0, 0, 0, 0, 0, 0, 110, 0, 0, 0, 1, 0, 0, 0, 4, 0, 0, 0, 32, 0, 0, 0, 32, 0, 0, 0, 51, 0, 0, 0, 84]
abbrev dktX2_changes_3 : List UInt8 := dkwX2_changes_3 ++ dktX2_changes_4
def dkwX2_changes_2 : List UInt8 := [42, 180, 0, 48, 42, 180, 0, 51, 29, 6, 100, 46, 46, 54, 6, 28]
abbrev dktX2_changes_2 : List UInt8 := dkwX2_changes_2 ++ dktX2_changes_3
def dkwX2_changes_1 : List UInt8 := [42, 180, 0, 48, 42, 180, 0, 51, 29, 5, 100, 46, 46, 54, 5, 28, 6, 162, 0, 7, 3, 167, 0, 16]
abbrev dktX2_changes_1 : List UInt8 := dkwX2_changes_1 ++ dktX2_changes_2
def dkwX2_changes_0 : List UInt8 := [42, 180, 0, 48, 42, 180, 0, 51, 29, 4, 100, 46, 46, 54, 4, 28, 4, 160, 0, 7, 3, 167, 0, 16]
abbrev dktX2_changes_0 : List UInt8 := dkwX2_changes_0 ++ dktX2_changes_1
theorem dksX2_changes_0 : cX2_changes.data.toList.drop 0 = dktX2_changes_0 := by decide +kernel
theorem dksX2_changes_1 : cX2_changes.data.toList.drop 24 = dktX2_changes_1 := dk_seg dksX2_changes_0 24 rfl rfl
theorem dksX2_changes_2 : cX2_changes.data.toList.drop 48 = dktX2_changes_2 := dk_seg dksX2_changes_1 24 rfl rfl
theorem dksX2_changes_3 : cX2_changes.data.toList.drop 64 = dktX2_changes_3 := dk_seg dksX2_changes_2 16 rfl rfl
theorem dksX2_changes_4 : cX2_changes.data.toList.drop 96 = dktX2_changes_4 := dk_seg dksX2_changes_3 32 rfl rfl
theorem dksX2_changes_5 : cX2_changes.data.toList.drop 120 = dktX2_changes_5 := dk_seg dksX2_changes_4 24 rfl rfl
theorem dksX2_changes_6 : cX2_changes.data.toList.drop 144 = dktX2_changes_6 := dk_seg dksX2_changes_5 24 rfl rfl
theorem dksX2_changes_7 : cX2_changes.data.toList.drop 167 = dktX2_changes_7 := dk_seg dksX2_changes_6 23 rfl rfl
theorem dksX2_changes_8 : cX2_changes.data.toList.drop 190 = dktX2_changes_8 := dk_seg dksX2_changes_7 23 rfl rfl
theorem dX2_changes_0 : decode cX2_changes 0 = .ok (.aload_n 0, 1) := dk_42 (dk_at dksX2_changes_0 0 rfl rfl)
theorem dX2_changes_1 : decode cX2_changes 1 = .ok (.getfield 48, 3) := dk_180 0 48 (dk_at dksX2_changes_0 1 rfl rfl)
theorem dX2_changes_4 : decode cX2_changes 4 = .ok (.aload_n 0, 1) := dk_42 (dk_at dksX2_changes_0 4 rfl rfl)
theorem dX2_changes_5 : decode cX2_changes 5 = .ok (.getfield 51, 3) := dk_180 0 51 (dk_at dksX2_changes_0 5 rfl rfl)
theorem dX2_changes_8 : decode cX2_changes 8 = .ok (.iload_n 3, 1) := dk_29 (dk_at dksX2_changes_0 8 rfl rfl)
theorem dX2_changes_9 : decode cX2_changes 9 = .ok (.iconst 1, 1) := dk_4 (dk_at dksX2_changes_0 9 rfl rfl)
theorem dX2_changes_10 : decode cX2_changes 10 = .ok (.isub, 1) := dk_100 (dk_at dksX2_changes_0 10 rfl rfl)
theorem dX2_changes_11 : decode cX2_changes 11 = .ok (.iaload, 1) := dk_46 (dk_at dksX2_changes_0 11 rfl rfl)
theorem dX2_changes_12 : decode cX2_changes 12 = .ok (.iaload, 1) := dk_46 (dk_at dksX2_changes_0 12 rfl rfl)
theorem dX2_changes_13 : decode cX2_changes 13 = .ok (.istore 4, 2) := dk_54 4 (dk_at dksX2_changes_0 13 rfl rfl)
theorem dX2_changes_15 : decode cX2_changes 15 = .ok (.iload_n 2, 1) := dk_28 (dk_at dksX2_changes_0 15 rfl rfl)
theorem dX2_changes_16 : decode cX2_changes 16 = .ok (.iconst 1, 1) := dk_4 (dk_at dksX2_changes_0 16 rfl rfl)
theorem dX2_changes_17 : decode cX2_changes 17 = .ok (.if_icmp .ne 7, 3) := dk_160 0 7 (dk_at dksX2_changes_0 17 rfl rfl)
theorem dX2_changes_20 : decode cX2_changes 20 = .ok (.iconst 0, 1) := dk_3 (dk_at dksX2_changes_0 20 rfl rfl)
theorem dX2_changes_21 : decode cX2_changes 21 = .ok (.goto 16, 3) := dk_167 0 16 (dk_at dksX2_changes_0 21 rfl rfl)
theorem dX2_changes_24 : decode cX2_changes 24 = .ok (.aload_n 0, 1) := dk_42 (dk_at dksX2_changes_1 0 rfl rfl)
theorem dX2_changes_25 : decode cX2_changes 25 = .ok (.getfield 48, 3) := dk_180 0 48 (dk_at dksX2_changes_1 1 rfl rfl)
theorem dX2_changes_28 : decode cX2_changes 28 = .ok (.aload_n 0, 1) := dk_42 (dk_at dksX2_changes_1 4 rfl rfl)
theorem dX2_changes_29 : decode cX2_changes 29 = .ok (.getfield 51, 3) := dk_180 0 51 (dk_at dksX2_changes_1 5 rfl rfl)
theorem dX2_changes_32 : decode cX2_changes 32 = .ok (.iload_n 3, 1) := dk_29 (dk_at dksX2_changes_1 8 rfl rfl)
theorem dX2_changes_33 : decode cX2_changes 33 = .ok (.iconst 2, 1) := dk_5 (dk_at dksX2_changes_1 9 rfl rfl)
theorem dX2_changes_34 : decode cX2_changes 34 = .ok (.isub, 1) := dk_100 (dk_at dksX2_changes_1 10 rfl rfl)
theorem dX2_changes_35 : decode cX2_changes 35 = .ok (.iaload, 1) := dk_46 (dk_at dksX2_changes_1 11 rfl rfl)
theorem dX2_changes_36 : decode cX2_changes 36 = .ok (.iaload, 1) := dk_46 (dk_at dksX2_changes_1 12 rfl rfl)
theorem dX2_changes_37 : decode cX2_changes 37 = .ok (.istore 5, 2) := dk_54 5 (dk_at dksX2_changes_1 13 rfl rfl)
theorem dX2_changes_39 : decode cX2_changes 39 = .ok (.iload_n 2, 1) := dk_28 (dk_at dksX2_changes_1 15 rfl rfl)
theorem dX2_changes_40 : decode cX2_changes 40 = .ok (.iconst 3, 1) := dk_6 (dk_at dksX2_changes_1 16 rfl rfl)
theorem dX2_changes_41 : decode cX2_changes 41 = .ok (.if_icmp .ge 7, 3) := dk_162 0 7 (dk_at dksX2_changes_1 17 rfl rfl)
theorem dX2_changes_44 : decode cX2_changes 44 = .ok (.iconst 0, 1) := dk_3 (dk_at dksX2_changes_1 20 rfl rfl)
theorem dX2_changes_45 : decode cX2_changes 45 = .ok (.goto 16, 3) := dk_167 0 16 (dk_at dksX2_changes_1 21 rfl rfl)
theorem dX2_changes_48 : decode cX2_changes 48 = .ok (.aload_n 0, 1) := dk_42 (dk_at dksX2_changes_2 0 rfl rfl)
theorem dX2_changes_49 : decode cX2_changes 49 = .ok (.getfield 48, 3) := dk_180 0 48 (dk_at dksX2_changes_2 1 rfl rfl)
theorem dX2_changes_52 : decode cX2_changes 52 = .ok (.aload_n 0, 1) := dk_42 (dk_at dksX2_changes_2 4 rfl rfl)
theorem dX2_changes_53 : decode cX2_changes 53 = .ok (.getfield 51, 3) := dk_180 0 51 (dk_at dksX2_changes_2 5 rfl rfl)
theorem dX2_changes_56 : decode cX2_changes 56 = .ok (.iload_n 3, 1) := dk_29 (dk_at dksX2_changes_2 8 rfl rfl)
theorem dX2_changes_57 : decode cX2_changes 57 = .ok (.iconst 3, 1) := dk_6 (dk_at dksX2_changes_2 9 rfl rfl)
theorem dX2_changes_58 : decode cX2_changes 58 = .ok (.isub, 1) := dk_100 (dk_at dksX2_changes_2 10 rfl rfl)
theorem dX2_changes_59 : decode cX2_changes 59 = .ok (.iaload, 1) := dk_46 (dk_at dksX2_changes_2 11 rfl rfl)
theorem dX2_changes_60 : decode cX2_changes 60 = .ok (.iaload, 1) := dk_46 (dk_at dksX2_changes_2 12 rfl rfl)
theorem dX2_changes_61 : decode cX2_changes 61 = .ok (.istore 6, 2) := dk_54 6 (dk_at dksX2_changes_2 13 rfl rfl)
theorem dX2_changes_63 : decode cX2_changes 63 = .ok (.iload_n 2, 1) := dk_28 (dk_at dksX2_changes_2 15 rfl rfl)
theorem dX2_changes_64 : decode cX2_changes 64 = .ok (.tableswitch 110 1 4 #[32, 32, 51, 84], 32) := by decide +kernel
theorem dX2_changes_96 : decode cX2_changes 96 = .ok (.aload_n 0, 1) := dk_42 (dk_at dksX2_changes_4 0 rfl rfl)
theorem dX2_changes_97 : decode cX2_changes 97 = .ok (.getfield 42, 3) := dk_180 0 42 (dk_at dksX2_changes_4 1 rfl rfl)
theorem dX2_changes_100 : decode cX2_changes 100 = .ok (.iload_n 1, 1) := dk_27 (dk_at dksX2_changes_4 4 rfl rfl)
theorem dX2_changes_101 : decode cX2_changes 101 = .ok (.bipush (-7), 2) := dk_16 249 (dk_at dksX2_changes_4 5 rfl rfl)
theorem dX2_changes_103 : decode cX2_changes 103 = .ok (.iastore, 1) := dk_79 (dk_at dksX2_changes_4 7 rfl rfl)
theorem dX2_changes_104 : decode cX2_changes 104 = .ok (.aload_n 0, 1) := dk_42 (dk_at dksX2_changes_4 8 rfl rfl)
theorem dX2_changes_105 : decode cX2_changes 105 = .ok (.getfield 45, 3) := dk_180 0 45 (dk_at dksX2_changes_4 9 rfl rfl)
theorem dX2_changes_108 : decode cX2_changes 108 = .ok (.iload_n 1, 1) := dk_27 (dk_at dksX2_changes_4 12 rfl rfl)
theorem dX2_changes_109 : decode cX2_changes 109 = .ok (.iload 4, 2) := dk_21 4 (dk_at dksX2_changes_4 13 rfl rfl)
theorem dX2_changes_111 : decode cX2_changes 111 = .ok (.iastore, 1) := dk_79 (dk_at dksX2_changes_4 15 rfl rfl)
theorem dX2_changes_112 : decode cX2_changes 112 = .ok (.goto 85, 3) := dk_167 0 85 (dk_at dksX2_changes_4 16 rfl rfl)
theorem dX2_changes_115 : decode cX2_changes 115 = .ok (.aload_n 0, 1) := dk_42 (dk_at dksX2_changes_4 19 rfl rfl)
theorem dX2_changes_116 : decode cX2_changes 116 = .ok (.getfield 45, 3) := dk_180 0 45 (dk_at dksX2_changes_4 20 rfl rfl)
theorem dX2_changes_119 : decode cX2_changes 119 = .ok (.iload_n 1, 1) := dk_27 (dk_at dksX2_changes_4 23 rfl rfl)
theorem dX2_changes_120 : decode cX2_changes 120 = .ok (.aload_n 0, 1) := dk_42 (dk_at dksX2_changes_5 0 rfl rfl)
theorem dX2_changes_121 : decode cX2_changes 121 = .ok (.iconst 0, 1) := dk_3 (dk_at dksX2_changes_5 1 rfl rfl)
theorem dX2_changes_122 : decode cX2_changes 122 = .ok (.iload 4, 2) := dk_21 4 (dk_at dksX2_changes_5 2 rfl rfl)
theorem dX2_changes_124 : decode cX2_changes 124 = .ok (.iload 6, 2) := dk_21 6 (dk_at dksX2_changes_5 4 rfl rfl)
theorem dX2_changes_126 : decode cX2_changes 126 = .ok (.invokevirtual 245, 3) := dk_182 0 245 (dk_at dksX2_changes_5 6 rfl rfl)
theorem dX2_changes_129 : decode cX2_changes 129 = .ok (.iastore, 1) := dk_79 (dk_at dksX2_changes_5 9 rfl rfl)
theorem dX2_changes_130 : decode cX2_changes 130 = .ok (.aload_n 0, 1) := dk_42 (dk_at dksX2_changes_5 10 rfl rfl)
theorem dX2_changes_131 : decode cX2_changes 131 = .ok (.getfield 48, 3) := dk_180 0 48 (dk_at dksX2_changes_5 11 rfl rfl)
theorem dX2_changes_134 : decode cX2_changes 134 = .ok (.iload_n 1, 1) := dk_27 (dk_at dksX2_changes_5 14 rfl rfl)
theorem dX2_changes_135 : decode cX2_changes 135 = .ok (.aload_n 0, 1) := dk_42 (dk_at dksX2_changes_5 15 rfl rfl)
theorem dX2_changes_136 : decode cX2_changes 136 = .ok (.iconst 0, 1) := dk_3 (dk_at dksX2_changes_5 16 rfl rfl)
theorem dX2_changes_137 : decode cX2_changes 137 = .ok (.iload 5, 2) := dk_21 5 (dk_at dksX2_changes_5 17 rfl rfl)
theorem dX2_changes_139 : decode cX2_changes 139 = .ok (.iload 6, 2) := dk_21 6 (dk_at dksX2_changes_5 19 rfl rfl)
theorem dX2_changes_141 : decode cX2_changes 141 = .ok (.invokevirtual 245, 3) := dk_182 0 245 (dk_at dksX2_changes_5 21 rfl rfl)
theorem dX2_changes_144 : decode cX2_changes 144 = .ok (.iastore, 1) := dk_79 (dk_at dksX2_changes_6 0 rfl rfl)
theorem dX2_changes_145 : decode cX2_changes 145 = .ok (.goto 52, 3) := dk_167 0 52 (dk_at dksX2_changes_6 1 rfl rfl)
theorem dX2_changes_148 : decode cX2_changes 148 = .ok (.aload_n 0, 1) := dk_42 (dk_at dksX2_changes_6 4 rfl rfl)
theorem dX2_changes_149 : decode cX2_changes 149 = .ok (.getfield 45, 3) := dk_180 0 45 (dk_at dksX2_changes_6 5 rfl rfl)
theorem dX2_changes_152 : decode cX2_changes 152 = .ok (.iload_n 1, 1) := dk_27 (dk_at dksX2_changes_6 8 rfl rfl)
theorem dX2_changes_153 : decode cX2_changes 153 = .ok (.iload 4, 2) := dk_21 4 (dk_at dksX2_changes_6 9 rfl rfl)
theorem dX2_changes_155 : decode cX2_changes 155 = .ok (.iastore, 1) := dk_79 (dk_at dksX2_changes_6 11 rfl rfl)
theorem dX2_changes_156 : decode cX2_changes 156 = .ok (.aload_n 0, 1) := dk_42 (dk_at dksX2_changes_6 12 rfl rfl)
theorem dX2_changes_157 : decode cX2_changes 157 = .ok (.getfield 48, 3) := dk_180 0 48 (dk_at dksX2_changes_6 13 rfl rfl)
theorem dX2_changes_160 : decode cX2_changes 160 = .ok (.iload_n 1, 1) := dk_27 (dk_at dksX2_changes_6 16 rfl rfl)
theorem dX2_changes_161 : decode cX2_changes 161 = .ok (.aload_n 0, 1) := dk_42 (dk_at dksX2_changes_6 17 rfl rfl)
theorem dX2_changes_162 : decode cX2_changes 162 = .ok (.iconst 0, 1) := dk_3 (dk_at dksX2_changes_6 18 rfl rfl)
theorem dX2_changes_163 : decode cX2_changes 163 = .ok (.iload 5, 2) := dk_21 5 (dk_at dksX2_changes_6 19 rfl rfl)
theorem dX2_changes_165 : decode cX2_changes 165 = .ok (.iload 6, 2) := dk_21 6 (dk_at dksX2_changes_6 21 rfl rfl)
theorem dX2_changes_167 : decode cX2_changes 167 = .ok (.invokevirtual 245, 3) := dk_182 0 245 (dk_at dksX2_changes_7 0 rfl rfl)
theorem dX2_changes_170 : decode cX2_changes 170 = .ok (.iastore, 1) := dk_79 (dk_at dksX2_changes_7 3 rfl rfl)
theorem dX2_changes_171 : decode cX2_changes 171 = .ok (.goto 26, 3) := dk_167 0 26 (dk_at dksX2_changes_7 4 rfl rfl)
theorem dX2_changes_174 : decode cX2_changes 174 = .ok (.aload_n 0, 1) := dk_42 (dk_at dksX2_changes_7 7 rfl rfl)
theorem dX2_changes_175 : decode cX2_changes 175 = .ok (.getfield 45, 3) := dk_180 0 45 (dk_at dksX2_changes_7 8 rfl rfl)
theorem dX2_changes_178 : decode cX2_changes 178 = .ok (.iload_n 1, 1) := dk_27 (dk_at dksX2_changes_7 11 rfl rfl)
theorem dX2_changes_179 : decode cX2_changes 179 = .ok (.aload_n 0, 1) := dk_42 (dk_at dksX2_changes_7 12 rfl rfl)
theorem dX2_changes_180 : decode cX2_changes 180 = .ok (.iconst 0, 1) := dk_3 (dk_at dksX2_changes_7 13 rfl rfl)
theorem dX2_changes_181 : decode cX2_changes 181 = .ok (.iload 4, 2) := dk_21 4 (dk_at dksX2_changes_7 14 rfl rfl)
theorem dX2_changes_183 : decode cX2_changes 183 = .ok (.iload 6, 2) := dk_21 6 (dk_at dksX2_changes_7 16 rfl rfl)
theorem dX2_changes_185 : decode cX2_changes 185 = .ok (.invokevirtual 245, 3) := dk_182 0 245 (dk_at dksX2_changes_7 18 rfl rfl)
theorem dX2_changes_188 : decode cX2_changes 188 = .ok (.iastore, 1) := dk_79 (dk_at dksX2_changes_7 21 rfl rfl)
theorem dX2_changes_189 : decode cX2_changes 189 = .ok (.aload_n 0, 1) := dk_42 (dk_at dksX2_changes_7 22 rfl rfl)
theorem dX2_changes_190 : decode cX2_changes 190 = .ok (.getfield 48, 3) := dk_180 0 48 (dk_at dksX2_changes_8 0 rfl rfl)
theorem dX2_changes_193 : decode cX2_changes 193 = .ok (.iload_n 1, 1) := dk_27 (dk_at dksX2_changes_8 3 rfl rfl)
theorem dX2_changes_194 : decode cX2_changes 194 = .ok (.iload 5, 2) := dk_21 5 (dk_at dksX2_changes_8 4 rfl rfl)
theorem dX2_changes_196 : decode cX2_changes 196 = .ok (.iastore, 1) := dk_79 (dk_at dksX2_changes_8 6 rfl rfl)
theorem dX2_changes_197 : decode cX2_changes 197 = .ok (.return_, 1) := dk_177 (dk_at dksX2_changes_8 7 rfl rfl)
abbrev cX2_writeOut : ByteArray := prog_15_method_47_code
def yX2_writeOut : MethodName := ⟨RX2, "writeOut", "(I)V"⟩
def dkwX2_writeOut_4 : List UInt8 := [167, 0, 4, 3, 181, 0, 229, 42, 182, 0, 192, 177]
abbrev dktX2_writeOut_4 : List UInt8 := dkwX2_writeOut_4 ++ []
def dkwX2_writeOut_3 : List UInt8 := [42, 180, 0, 45, 28, 46, 182, 0, 172, 167, 255, 191, 42, 42, 180, 0, 97, 17, 1, 44, 164, 0, 7, 4]
abbrev dktX2_writeOut_3 : List UInt8 := dkwX2_writeOut_3 ++ dktX2_writeOut_4
def dkwX2_writeOut_2 : List UInt8 := [46, 182, 0, 168, 42, 180, 0, 42, 28, 46, 154, 0, 23, 42, 42, 180, 0, 48, 28, 46, 182, 0, 172, 42]
abbrev dktX2_writeOut_2 : List UInt8 := dkwX2_writeOut_2 ++ dktX2_writeOut_3
def dkwX2_writeOut_1 : List UInt8 := [180, 0, 97, 17, 1, 44, 163, 0, 54, 42, 42, 182, 0, 175, 182, 0, 249, 61, 42, 42, 180, 0, 42, 28]
abbrev dktX2_writeOut_1 : List UInt8 := dkwX2_writeOut_1 ++ dktX2_writeOut_2
def dkwX2_writeOut_0 : List UInt8 := [42, 3, 181, 0, 97, 42, 3, 181, 0, 94, 42, 27, 182, 0, 172, 42, 180, 0, 94, 158, 0, 64, 42]
abbrev dktX2_writeOut_0 : List UInt8 := dkwX2_writeOut_0 ++ dktX2_writeOut_1
theorem dksX2_writeOut_0 : cX2_writeOut.data.toList.drop 0 = dktX2_writeOut_0 := by decide +kernel
theorem dksX2_writeOut_1 : cX2_writeOut.data.toList.drop 23 = dktX2_writeOut_1 := dk_seg dksX2_writeOut_0 23 rfl rfl
theorem dksX2_writeOut_2 : cX2_writeOut.data.toList.drop 47 = dktX2_writeOut_2 := dk_seg dksX2_writeOut_1 24 rfl rfl
theorem dksX2_writeOut_3 : cX2_writeOut.data.toList.drop 71 = dktX2_writeOut_3 := dk_seg dksX2_writeOut_2 24 rfl rfl
theorem dksX2_writeOut_4 : cX2_writeOut.data.toList.drop 95 = dktX2_writeOut_4 := dk_seg dksX2_writeOut_3 24 rfl rfl
theorem dX2_writeOut_0 : decode cX2_writeOut 0 = .ok (.aload_n 0, 1) := dk_42 (dk_at dksX2_writeOut_0 0 rfl rfl)
theorem dX2_writeOut_1 : decode cX2_writeOut 1 = .ok (.iconst 0, 1) := dk_3 (dk_at dksX2_writeOut_0 1 rfl rfl)
theorem dX2_writeOut_2 : decode cX2_writeOut 2 = .ok (.putfield 97, 3) := dk_181 0 97 (dk_at dksX2_writeOut_0 2 rfl rfl)
theorem dX2_writeOut_5 : decode cX2_writeOut 5 = .ok (.aload_n 0, 1) := dk_42 (dk_at dksX2_writeOut_0 5 rfl rfl)
theorem dX2_writeOut_6 : decode cX2_writeOut 6 = .ok (.iconst 0, 1) := dk_3 (dk_at dksX2_writeOut_0 6 rfl rfl)
theorem dX2_writeOut_7 : decode cX2_writeOut 7 = .ok (.putfield 94, 3) := dk_181 0 94 (dk_at dksX2_writeOut_0 7 rfl rfl)
theorem dX2_writeOut_10 : decode cX2_writeOut 10 = .ok (.aload_n 0, 1) := dk_42 (dk_at dksX2_writeOut_0 10 rfl rfl)
theorem dX2_writeOut_11 : decode cX2_writeOut 11 = .ok (.iload_n 1, 1) := dk_27 (dk_at dksX2_writeOut_0 11 rfl rfl)
theorem dX2_writeOut_12 : decode cX2_writeOut 12 = .ok (.invokevirtual 172, 3) := dk_182 0 172 (dk_at dksX2_writeOut_0 12 rfl rfl)
theorem dX2_writeOut_15 : decode cX2_writeOut 15 = .ok (.aload_n 0, 1) := dk_42 (dk_at dksX2_writeOut_0 15 rfl rfl)
theorem dX2_writeOut_16 : decode cX2_writeOut 16 = .ok (.getfield 94, 3) := dk_180 0 94 (dk_at dksX2_writeOut_0 16 rfl rfl)
theorem dX2_writeOut_19 : decode cX2_writeOut 19 = .ok (.ifCond .le 64, 3) := dk_158 0 64 (dk_at dksX2_writeOut_0 19 rfl rfl)
theorem dX2_writeOut_22 : decode cX2_writeOut 22 = .ok (.aload_n 0, 1) := dk_42 (dk_at dksX2_writeOut_0 22 rfl rfl)
theorem dX2_writeOut_23 : decode cX2_writeOut 23 = .ok (.getfield 97, 3) := dk_180 0 97 (dk_at dksX2_writeOut_1 0 rfl rfl)
theorem dX2_writeOut_26 : decode cX2_writeOut 26 = .ok (.sipush 300, 3) := dk_17 1 44 (dk_at dksX2_writeOut_1 3 rfl rfl)
theorem dX2_writeOut_29 : decode cX2_writeOut 29 = .ok (.if_icmp .gt 54, 3) := dk_163 0 54 (dk_at dksX2_writeOut_1 6 rfl rfl)
theorem dX2_writeOut_32 : decode cX2_writeOut 32 = .ok (.aload_n 0, 1) := dk_42 (dk_at dksX2_writeOut_1 9 rfl rfl)
theorem dX2_writeOut_33 : decode cX2_writeOut 33 = .ok (.aload_n 0, 1) := dk_42 (dk_at dksX2_writeOut_1 10 rfl rfl)
theorem dX2_writeOut_34 : decode cX2_writeOut 34 = .ok (.invokevirtual 175, 3) := dk_182 0 175 (dk_at dksX2_writeOut_1 11 rfl rfl)
theorem dX2_writeOut_37 : decode cX2_writeOut 37 = .ok (.invokevirtual 249, 3) := dk_182 0 249 (dk_at dksX2_writeOut_1 14 rfl rfl)
theorem dX2_writeOut_40 : decode cX2_writeOut 40 = .ok (.istore_n 2, 1) := dk_61 (dk_at dksX2_writeOut_1 17 rfl rfl)
theorem dX2_writeOut_41 : decode cX2_writeOut 41 = .ok (.aload_n 0, 1) := dk_42 (dk_at dksX2_writeOut_1 18 rfl rfl)
theorem dX2_writeOut_42 : decode cX2_writeOut 42 = .ok (.aload_n 0, 1) := dk_42 (dk_at dksX2_writeOut_1 19 rfl rfl)
theorem dX2_writeOut_43 : decode cX2_writeOut 43 = .ok (.getfield 42, 3) := dk_180 0 42 (dk_at dksX2_writeOut_1 20 rfl rfl)
theorem dX2_writeOut_46 : decode cX2_writeOut 46 = .ok (.iload_n 2, 1) := dk_28 (dk_at dksX2_writeOut_1 23 rfl rfl)
theorem dX2_writeOut_47 : decode cX2_writeOut 47 = .ok (.iaload, 1) := dk_46 (dk_at dksX2_writeOut_2 0 rfl rfl)
theorem dX2_writeOut_48 : decode cX2_writeOut 48 = .ok (.invokevirtual 168, 3) := dk_182 0 168 (dk_at dksX2_writeOut_2 1 rfl rfl)
theorem dX2_writeOut_51 : decode cX2_writeOut 51 = .ok (.aload_n 0, 1) := dk_42 (dk_at dksX2_writeOut_2 4 rfl rfl)
theorem dX2_writeOut_52 : decode cX2_writeOut 52 = .ok (.getfield 42, 3) := dk_180 0 42 (dk_at dksX2_writeOut_2 5 rfl rfl)
theorem dX2_writeOut_55 : decode cX2_writeOut 55 = .ok (.iload_n 2, 1) := dk_28 (dk_at dksX2_writeOut_2 8 rfl rfl)
theorem dX2_writeOut_56 : decode cX2_writeOut 56 = .ok (.iaload, 1) := dk_46 (dk_at dksX2_writeOut_2 9 rfl rfl)
theorem dX2_writeOut_57 : decode cX2_writeOut 57 = .ok (.ifCond .ne 23, 3) := dk_154 0 23 (dk_at dksX2_writeOut_2 10 rfl rfl)
theorem dX2_writeOut_60 : decode cX2_writeOut 60 = .ok (.aload_n 0, 1) := dk_42 (dk_at dksX2_writeOut_2 13 rfl rfl)
theorem dX2_writeOut_61 : decode cX2_writeOut 61 = .ok (.aload_n 0, 1) := dk_42 (dk_at dksX2_writeOut_2 14 rfl rfl)
theorem dX2_writeOut_62 : decode cX2_writeOut 62 = .ok (.getfield 48, 3) := dk_180 0 48 (dk_at dksX2_writeOut_2 15 rfl rfl)
theorem dX2_writeOut_65 : decode cX2_writeOut 65 = .ok (.iload_n 2, 1) := dk_28 (dk_at dksX2_writeOut_2 18 rfl rfl)
theorem dX2_writeOut_66 : decode cX2_writeOut 66 = .ok (.iaload, 1) := dk_46 (dk_at dksX2_writeOut_2 19 rfl rfl)
theorem dX2_writeOut_67 : decode cX2_writeOut 67 = .ok (.invokevirtual 172, 3) := dk_182 0 172 (dk_at dksX2_writeOut_2 20 rfl rfl)
theorem dX2_writeOut_70 : decode cX2_writeOut 70 = .ok (.aload_n 0, 1) := dk_42 (dk_at dksX2_writeOut_2 23 rfl rfl)
theorem dX2_writeOut_71 : decode cX2_writeOut 71 = .ok (.aload_n 0, 1) := dk_42 (dk_at dksX2_writeOut_3 0 rfl rfl)
theorem dX2_writeOut_72 : decode cX2_writeOut 72 = .ok (.getfield 45, 3) := dk_180 0 45 (dk_at dksX2_writeOut_3 1 rfl rfl)
theorem dX2_writeOut_75 : decode cX2_writeOut 75 = .ok (.iload_n 2, 1) := dk_28 (dk_at dksX2_writeOut_3 4 rfl rfl)
theorem dX2_writeOut_76 : decode cX2_writeOut 76 = .ok (.iaload, 1) := dk_46 (dk_at dksX2_writeOut_3 5 rfl rfl)
theorem dX2_writeOut_77 : decode cX2_writeOut 77 = .ok (.invokevirtual 172, 3) := dk_182 0 172 (dk_at dksX2_writeOut_3 6 rfl rfl)
theorem dX2_writeOut_80 : decode cX2_writeOut 80 = .ok (.goto (-65), 3) := dk_167 255 191 (dk_at dksX2_writeOut_3 9 rfl rfl)
theorem dX2_writeOut_83 : decode cX2_writeOut 83 = .ok (.aload_n 0, 1) := dk_42 (dk_at dksX2_writeOut_3 12 rfl rfl)
theorem dX2_writeOut_84 : decode cX2_writeOut 84 = .ok (.aload_n 0, 1) := dk_42 (dk_at dksX2_writeOut_3 13 rfl rfl)
theorem dX2_writeOut_85 : decode cX2_writeOut 85 = .ok (.getfield 97, 3) := dk_180 0 97 (dk_at dksX2_writeOut_3 14 rfl rfl)
theorem dX2_writeOut_88 : decode cX2_writeOut 88 = .ok (.sipush 300, 3) := dk_17 1 44 (dk_at dksX2_writeOut_3 17 rfl rfl)
theorem dX2_writeOut_91 : decode cX2_writeOut 91 = .ok (.if_icmp .le 7, 3) := dk_164 0 7 (dk_at dksX2_writeOut_3 20 rfl rfl)
theorem dX2_writeOut_94 : decode cX2_writeOut 94 = .ok (.iconst 1, 1) := dk_4 (dk_at dksX2_writeOut_3 23 rfl rfl)
theorem dX2_writeOut_95 : decode cX2_writeOut 95 = .ok (.goto 4, 3) := dk_167 0 4 (dk_at dksX2_writeOut_4 0 rfl rfl)
theorem dX2_writeOut_98 : decode cX2_writeOut 98 = .ok (.iconst 0, 1) := dk_3 (dk_at dksX2_writeOut_4 3 rfl rfl)
theorem dX2_writeOut_99 : decode cX2_writeOut 99 = .ok (.putfield 229, 3) := dk_181 0 229 (dk_at dksX2_writeOut_4 4 rfl rfl)
theorem dX2_writeOut_102 : decode cX2_writeOut 102 = .ok (.aload_n 0, 1) := dk_42 (dk_at dksX2_writeOut_4 7 rfl rfl)
theorem dX2_writeOut_103 : decode cX2_writeOut 103 = .ok (.invokevirtual 192, 3) := dk_182 0 192 (dk_at dksX2_writeOut_4 8 rfl rfl)
theorem dX2_writeOut_106 : decode cX2_writeOut 106 = .ok (.return_, 1) := dk_177 (dk_at dksX2_writeOut_4 11 rfl rfl)
abbrev cX2_steps : ByteArray := prog_15_method_54_code
def yX2_steps : MethodName := ⟨RX2, "steps", "(II)I"⟩
def dkwX2_steps_3 : List UInt8 := [29, 172]
abbrev dktX2_steps_3 : List UInt8 := dkwX2_steps_3 ++ []
def dkwX2_steps_2 : List UInt8 := [42, 180, 0, 229, 153, 0, 8, 16, 253, 167, 0, 16, 42, 180, 0, 236, 153, 0, 8, 16, 254, 167, 0, 4]
abbrev dktX2_steps_2 : List UInt8 := dkwX2_steps_2 ++ dktX2_steps_3
def dkwX2_steps_1 : List UInt8 := [27, 182, 0, 208, 154, 0, 6, 18, 195, 172, 42, 27, 182, 0, 196, 42, 28, 17, 0, 200, 182, 1, 20, 62]
abbrev dktX2_steps_1 : List UInt8 := dkwX2_steps_1 ++ dktX2_steps_2
def dkwX2_steps_0 : List UInt8 := [27, 184, 0, 152, 154, 0, 6, 18, 155, 172, 28, 133, 9, 10, 184, 0, 88, 154, 0, 6, 18, 120, 172, 42]
abbrev dktX2_steps_0 : List UInt8 := dkwX2_steps_0 ++ dktX2_steps_1
theorem dksX2_steps_0 : cX2_steps.data.toList.drop 0 = dktX2_steps_0 := by decide +kernel
theorem dksX2_steps_1 : cX2_steps.data.toList.drop 24 = dktX2_steps_1 := dk_seg dksX2_steps_0 24 rfl rfl
theorem dksX2_steps_2 : cX2_steps.data.toList.drop 48 = dktX2_steps_2 := dk_seg dksX2_steps_1 24 rfl rfl
theorem dksX2_steps_3 : cX2_steps.data.toList.drop 72 = dktX2_steps_3 := dk_seg dksX2_steps_2 24 rfl rfl
theorem dX2_steps_0 : decode cX2_steps 0 = .ok (.iload_n 1, 1) := dk_27 (dk_at dksX2_steps_0 0 rfl rfl)
theorem dX2_steps_1 : decode cX2_steps 1 = .ok (.invokestatic 152, 3) := dk_184 0 152 (dk_at dksX2_steps_0 1 rfl rfl)
theorem dX2_steps_4 : decode cX2_steps 4 = .ok (.ifCond .ne 6, 3) := dk_154 0 6 (dk_at dksX2_steps_0 4 rfl rfl)
theorem dX2_steps_7 : decode cX2_steps 7 = .ok (.ldc 155, 2) := dk_18 155 (dk_at dksX2_steps_0 7 rfl rfl)
theorem dX2_steps_9 : decode cX2_steps 9 = .ok (.ireturn, 1) := dk_172 (dk_at dksX2_steps_0 9 rfl rfl)
theorem dX2_steps_10 : decode cX2_steps 10 = .ok (.iload_n 2, 1) := dk_28 (dk_at dksX2_steps_0 10 rfl rfl)
theorem dX2_steps_11 : decode cX2_steps 11 = .ok (.i2l, 1) := dk_133 (dk_at dksX2_steps_0 11 rfl rfl)
theorem dX2_steps_12 : decode cX2_steps 12 = .ok (.lconst 0, 1) := dk_9 (dk_at dksX2_steps_0 12 rfl rfl)
theorem dX2_steps_13 : decode cX2_steps 13 = .ok (.lconst 1, 1) := dk_10 (dk_at dksX2_steps_0 13 rfl rfl)
theorem dX2_steps_14 : decode cX2_steps 14 = .ok (.invokestatic 88, 3) := dk_184 0 88 (dk_at dksX2_steps_0 14 rfl rfl)
theorem dX2_steps_17 : decode cX2_steps 17 = .ok (.ifCond .ne 6, 3) := dk_154 0 6 (dk_at dksX2_steps_0 17 rfl rfl)
theorem dX2_steps_20 : decode cX2_steps 20 = .ok (.ldc 120, 2) := dk_18 120 (dk_at dksX2_steps_0 20 rfl rfl)
theorem dX2_steps_22 : decode cX2_steps 22 = .ok (.ireturn, 1) := dk_172 (dk_at dksX2_steps_0 22 rfl rfl)
theorem dX2_steps_23 : decode cX2_steps 23 = .ok (.aload_n 0, 1) := dk_42 (dk_at dksX2_steps_0 23 rfl rfl)
theorem dX2_steps_24 : decode cX2_steps 24 = .ok (.iload_n 1, 1) := dk_27 (dk_at dksX2_steps_1 0 rfl rfl)
theorem dX2_steps_25 : decode cX2_steps 25 = .ok (.invokevirtual 208, 3) := dk_182 0 208 (dk_at dksX2_steps_1 1 rfl rfl)
theorem dX2_steps_28 : decode cX2_steps 28 = .ok (.ifCond .ne 6, 3) := dk_154 0 6 (dk_at dksX2_steps_1 4 rfl rfl)
theorem dX2_steps_31 : decode cX2_steps 31 = .ok (.ldc 195, 2) := dk_18 195 (dk_at dksX2_steps_1 7 rfl rfl)
theorem dX2_steps_33 : decode cX2_steps 33 = .ok (.ireturn, 1) := dk_172 (dk_at dksX2_steps_1 9 rfl rfl)
theorem dX2_steps_34 : decode cX2_steps 34 = .ok (.aload_n 0, 1) := dk_42 (dk_at dksX2_steps_1 10 rfl rfl)
theorem dX2_steps_35 : decode cX2_steps 35 = .ok (.iload_n 1, 1) := dk_27 (dk_at dksX2_steps_1 11 rfl rfl)
theorem dX2_steps_36 : decode cX2_steps 36 = .ok (.invokevirtual 196, 3) := dk_182 0 196 (dk_at dksX2_steps_1 12 rfl rfl)
theorem dX2_steps_39 : decode cX2_steps 39 = .ok (.aload_n 0, 1) := dk_42 (dk_at dksX2_steps_1 15 rfl rfl)
theorem dX2_steps_40 : decode cX2_steps 40 = .ok (.iload_n 2, 1) := dk_28 (dk_at dksX2_steps_1 16 rfl rfl)
theorem dX2_steps_41 : decode cX2_steps 41 = .ok (.sipush 200, 3) := dk_17 0 200 (dk_at dksX2_steps_1 17 rfl rfl)
theorem dX2_steps_44 : decode cX2_steps 44 = .ok (.invokevirtual 276, 3) := dk_182 1 20 (dk_at dksX2_steps_1 20 rfl rfl)
theorem dX2_steps_47 : decode cX2_steps 47 = .ok (.istore_n 3, 1) := dk_62 (dk_at dksX2_steps_1 23 rfl rfl)
theorem dX2_steps_48 : decode cX2_steps 48 = .ok (.aload_n 0, 1) := dk_42 (dk_at dksX2_steps_2 0 rfl rfl)
theorem dX2_steps_49 : decode cX2_steps 49 = .ok (.getfield 229, 3) := dk_180 0 229 (dk_at dksX2_steps_2 1 rfl rfl)
theorem dX2_steps_52 : decode cX2_steps 52 = .ok (.ifCond .eq 8, 3) := dk_153 0 8 (dk_at dksX2_steps_2 4 rfl rfl)
theorem dX2_steps_55 : decode cX2_steps 55 = .ok (.bipush (-3), 2) := dk_16 253 (dk_at dksX2_steps_2 7 rfl rfl)
theorem dX2_steps_57 : decode cX2_steps 57 = .ok (.goto 16, 3) := dk_167 0 16 (dk_at dksX2_steps_2 9 rfl rfl)
theorem dX2_steps_60 : decode cX2_steps 60 = .ok (.aload_n 0, 1) := dk_42 (dk_at dksX2_steps_2 12 rfl rfl)
theorem dX2_steps_61 : decode cX2_steps 61 = .ok (.getfield 236, 3) := dk_180 0 236 (dk_at dksX2_steps_2 13 rfl rfl)
theorem dX2_steps_64 : decode cX2_steps 64 = .ok (.ifCond .eq 8, 3) := dk_153 0 8 (dk_at dksX2_steps_2 16 rfl rfl)
theorem dX2_steps_67 : decode cX2_steps 67 = .ok (.bipush (-2), 2) := dk_16 254 (dk_at dksX2_steps_2 19 rfl rfl)
theorem dX2_steps_69 : decode cX2_steps 69 = .ok (.goto 4, 3) := dk_167 0 4 (dk_at dksX2_steps_2 21 rfl rfl)
theorem dX2_steps_72 : decode cX2_steps 72 = .ok (.iload_n 3, 1) := dk_29 (dk_at dksX2_steps_3 0 rfl rfl)
theorem dX2_steps_73 : decode cX2_steps 73 = .ok (.ireturn, 1) := dk_172 (dk_at dksX2_steps_3 1 rfl rfl)
abbrev cX2_told : ByteArray := prog_15_method_69_code
def yX2_told : MethodName := ⟨RX2, "told", "(I)I"⟩
def dkwX2_told_3 : List UInt8 := [29, 120, 167, 0, 4, 3, 128, 61, 132, 3, 1, 167, 255, 230, 28, 172, 42, 180, 0, 107, 172, 18, 120, 172]
abbrev dktX2_told_3 : List UInt8 := dkwX2_told_3 ++ []
def dkwX2_told_2 : List UInt8 := [42, 180, 0, 121, 172, 3, 61, 3, 62, 29, 7, 162, 0, 27, 28, 42, 29, 182, 0, 100, 158, 0, 9, 4]
abbrev dktX2_told_2 : List UInt8 := dkwX2_told_2 ++ dktX2_told_3
def dkwX2_told_1 : List UInt8 := [170, 0, 0, 0, 0, 0, 72, 0, 0, 0, 0, 0, 0, 0, 2, 0, 0, 0, 27, 0, 0, 0, 32, 0, 0, 0, 67]
abbrev dktX2_told_1 : List UInt8 := dkwX2_told_1 ++ dktX2_told_2
def dkwX2_told_0 : List UInt8 := [27]
abbrev dktX2_told_0 : List UInt8 := dkwX2_told_0 ++ dktX2_told_1
theorem dksX2_told_0 : cX2_told.data.toList.drop 0 = dktX2_told_0 := by decide +kernel
theorem dksX2_told_1 : cX2_told.data.toList.drop 1 = dktX2_told_1 := dk_seg dksX2_told_0 1 rfl rfl
theorem dksX2_told_2 : cX2_told.data.toList.drop 28 = dktX2_told_2 := dk_seg dksX2_told_1 27 rfl rfl
theorem dksX2_told_3 : cX2_told.data.toList.drop 52 = dktX2_told_3 := dk_seg dksX2_told_2 24 rfl rfl
theorem dX2_told_0 : decode cX2_told 0 = .ok (.iload_n 1, 1) := dk_27 (dk_at dksX2_told_0 0 rfl rfl)
theorem dX2_told_1 : decode cX2_told 1 = .ok (.tableswitch 72 0 2 #[27, 32, 67], 27) := by decide +kernel
theorem dX2_told_28 : decode cX2_told 28 = .ok (.aload_n 0, 1) := dk_42 (dk_at dksX2_told_2 0 rfl rfl)
theorem dX2_told_29 : decode cX2_told 29 = .ok (.getfield 121, 3) := dk_180 0 121 (dk_at dksX2_told_2 1 rfl rfl)
theorem dX2_told_32 : decode cX2_told 32 = .ok (.ireturn, 1) := dk_172 (dk_at dksX2_told_2 4 rfl rfl)
theorem dX2_told_33 : decode cX2_told 33 = .ok (.iconst 0, 1) := dk_3 (dk_at dksX2_told_2 5 rfl rfl)
theorem dX2_told_34 : decode cX2_told 34 = .ok (.istore_n 2, 1) := dk_61 (dk_at dksX2_told_2 6 rfl rfl)
theorem dX2_told_35 : decode cX2_told 35 = .ok (.iconst 0, 1) := dk_3 (dk_at dksX2_told_2 7 rfl rfl)
theorem dX2_told_36 : decode cX2_told 36 = .ok (.istore_n 3, 1) := dk_62 (dk_at dksX2_told_2 8 rfl rfl)
theorem dX2_told_37 : decode cX2_told 37 = .ok (.iload_n 3, 1) := dk_29 (dk_at dksX2_told_2 9 rfl rfl)
theorem dX2_told_38 : decode cX2_told 38 = .ok (.iconst 4, 1) := dk_7 (dk_at dksX2_told_2 10 rfl rfl)
theorem dX2_told_39 : decode cX2_told 39 = .ok (.if_icmp .ge 27, 3) := dk_162 0 27 (dk_at dksX2_told_2 11 rfl rfl)
theorem dX2_told_42 : decode cX2_told 42 = .ok (.iload_n 2, 1) := dk_28 (dk_at dksX2_told_2 14 rfl rfl)
theorem dX2_told_43 : decode cX2_told 43 = .ok (.aload_n 0, 1) := dk_42 (dk_at dksX2_told_2 15 rfl rfl)
theorem dX2_told_44 : decode cX2_told 44 = .ok (.iload_n 3, 1) := dk_29 (dk_at dksX2_told_2 16 rfl rfl)
theorem dX2_told_45 : decode cX2_told 45 = .ok (.invokevirtual 100, 3) := dk_182 0 100 (dk_at dksX2_told_2 17 rfl rfl)
theorem dX2_told_48 : decode cX2_told 48 = .ok (.ifCond .le 9, 3) := dk_158 0 9 (dk_at dksX2_told_2 20 rfl rfl)
theorem dX2_told_51 : decode cX2_told 51 = .ok (.iconst 1, 1) := dk_4 (dk_at dksX2_told_2 23 rfl rfl)
theorem dX2_told_52 : decode cX2_told 52 = .ok (.iload_n 3, 1) := dk_29 (dk_at dksX2_told_3 0 rfl rfl)
theorem dX2_told_53 : decode cX2_told 53 = .ok (.ishl, 1) := dk_120 (dk_at dksX2_told_3 1 rfl rfl)
theorem dX2_told_54 : decode cX2_told 54 = .ok (.goto 4, 3) := dk_167 0 4 (dk_at dksX2_told_3 2 rfl rfl)
theorem dX2_told_57 : decode cX2_told 57 = .ok (.iconst 0, 1) := dk_3 (dk_at dksX2_told_3 5 rfl rfl)
theorem dX2_told_58 : decode cX2_told 58 = .ok (.ior, 1) := dk_128 (dk_at dksX2_told_3 6 rfl rfl)
theorem dX2_told_59 : decode cX2_told 59 = .ok (.istore_n 2, 1) := dk_61 (dk_at dksX2_told_3 7 rfl rfl)
theorem dX2_told_60 : decode cX2_told 60 = .ok (.iinc 3 1, 3) := dk_132 3 1 (dk_at dksX2_told_3 8 rfl rfl)
theorem dX2_told_63 : decode cX2_told 63 = .ok (.goto (-26), 3) := dk_167 255 230 (dk_at dksX2_told_3 11 rfl rfl)
theorem dX2_told_66 : decode cX2_told 66 = .ok (.iload_n 2, 1) := dk_28 (dk_at dksX2_told_3 14 rfl rfl)
theorem dX2_told_67 : decode cX2_told 67 = .ok (.ireturn, 1) := dk_172 (dk_at dksX2_told_3 15 rfl rfl)
theorem dX2_told_68 : decode cX2_told 68 = .ok (.aload_n 0, 1) := dk_42 (dk_at dksX2_told_3 16 rfl rfl)
theorem dX2_told_69 : decode cX2_told 69 = .ok (.getfield 107, 3) := dk_180 0 107 (dk_at dksX2_told_3 17 rfl rfl)
theorem dX2_told_72 : decode cX2_told 72 = .ok (.ireturn, 1) := dk_172 (dk_at dksX2_told_3 20 rfl rfl)
theorem dX2_told_73 : decode cX2_told 73 = .ok (.ldc 120, 2) := dk_18 120 (dk_at dksX2_told_3 21 rfl rfl)
theorem dX2_told_75 : decode cX2_told 75 = .ok (.ireturn, 1) := dk_172 (dk_at dksX2_told_3 23 rfl rfl)
abbrev cX2_of : ByteArray := prog_15_method_73_code
def yX2_of : MethodName := ⟨RX2, "of", "(II)I"⟩
def dkwX2_of_5 : List UInt8 := [167, 0, 4, 4, 172, 42, 27, 182, 1, 81, 172, 42, 28, 5, 100, 28, 5, 100, 182, 1, 72, 172]
abbrev dktX2_of_5 : List UInt8 := dkwX2_of_5 ++ []
def dkwX2_of_4 : List UInt8 := [182, 1, 75, 42, 180, 1, 48, 172, 42, 182, 1, 78, 172, 42, 27, 182, 1, 51, 2, 160, 0, 7, 3]
abbrev dktX2_of_4 : List UInt8 := dkwX2_of_4 ++ dktX2_of_5
def dkwX2_of_3 : List UInt8 := [42, 180, 0, 104, 172, 42, 182, 1, 69, 172, 42, 17, 3, 232, 17, 4, 231, 182, 1, 72, 172, 42, 27]
abbrev dktX2_of_3 : List UInt8 := dkwX2_of_3 ++ dktX2_of_4
def dkwX2_of_2 : List UInt8 := [170, 0, 0, 0, 0, 119, 0, 0, 0, 0, 0, 0, 0, 11, 0, 0, 0, 62, 0, 0, 0, 67, 0, 0, 0, 72, 0, 0, 0, 119, 0, 0, 0, 119, 0, 0, 0, 119, 0, 0, 0, 119, 0, 0, 0, 119, 0, 0, 0, 83, 0, 0, 0, 93, 0, 0, 0, 98, 0, 0, 0, 113]
abbrev dktX2_of_2 : List UInt8 := dkwX2_of_2 ++ dktX2_of_3
def dkwX2_of_1 : List UInt8 := [172, 42, 27, 182, 0, 100, 154, 0, 6, 18, 195, 172, 42, 27, 182, 0, 196, 28]
abbrev dktX2_of_1 : List UInt8 := dkwX2_of_1 ++ dktX2_of_2
def dkwX2_of_0 : List UInt8 := [27, 184, 0, 152, 154, 0, 6, 18, 155, 172, 28, 133, 9, 20, 1, 67, 184, 0, 88, 154, 0, 6, 18, 120]
abbrev dktX2_of_0 : List UInt8 := dkwX2_of_0 ++ dktX2_of_1
theorem dksX2_of_0 : cX2_of.data.toList.drop 0 = dktX2_of_0 := by decide +kernel
theorem dksX2_of_1 : cX2_of.data.toList.drop 24 = dktX2_of_1 := dk_seg dksX2_of_0 24 rfl rfl
theorem dksX2_of_2 : cX2_of.data.toList.drop 42 = dktX2_of_2 := dk_seg dksX2_of_1 18 rfl rfl
theorem dksX2_of_3 : cX2_of.data.toList.drop 104 = dktX2_of_3 := dk_seg dksX2_of_2 62 rfl rfl
theorem dksX2_of_4 : cX2_of.data.toList.drop 127 = dktX2_of_4 := dk_seg dksX2_of_3 23 rfl rfl
theorem dksX2_of_5 : cX2_of.data.toList.drop 150 = dktX2_of_5 := dk_seg dksX2_of_4 23 rfl rfl
theorem dX2_of_0 : decode cX2_of 0 = .ok (.iload_n 1, 1) := dk_27 (dk_at dksX2_of_0 0 rfl rfl)
theorem dX2_of_1 : decode cX2_of 1 = .ok (.invokestatic 152, 3) := dk_184 0 152 (dk_at dksX2_of_0 1 rfl rfl)
theorem dX2_of_4 : decode cX2_of 4 = .ok (.ifCond .ne 6, 3) := dk_154 0 6 (dk_at dksX2_of_0 4 rfl rfl)
theorem dX2_of_7 : decode cX2_of 7 = .ok (.ldc 155, 2) := dk_18 155 (dk_at dksX2_of_0 7 rfl rfl)
theorem dX2_of_9 : decode cX2_of 9 = .ok (.ireturn, 1) := dk_172 (dk_at dksX2_of_0 9 rfl rfl)
theorem dX2_of_10 : decode cX2_of 10 = .ok (.iload_n 2, 1) := dk_28 (dk_at dksX2_of_0 10 rfl rfl)
theorem dX2_of_11 : decode cX2_of 11 = .ok (.i2l, 1) := dk_133 (dk_at dksX2_of_0 11 rfl rfl)
theorem dX2_of_12 : decode cX2_of 12 = .ok (.lconst 0, 1) := dk_9 (dk_at dksX2_of_0 12 rfl rfl)
theorem dX2_of_13 : decode cX2_of 13 = .ok (.ldc2_w 323, 3) := dk_20 1 67 (dk_at dksX2_of_0 13 rfl rfl)
theorem dX2_of_16 : decode cX2_of 16 = .ok (.invokestatic 88, 3) := dk_184 0 88 (dk_at dksX2_of_0 16 rfl rfl)
theorem dX2_of_19 : decode cX2_of 19 = .ok (.ifCond .ne 6, 3) := dk_154 0 6 (dk_at dksX2_of_0 19 rfl rfl)
theorem dX2_of_22 : decode cX2_of 22 = .ok (.ldc 120, 2) := dk_18 120 (dk_at dksX2_of_0 22 rfl rfl)
theorem dX2_of_24 : decode cX2_of 24 = .ok (.ireturn, 1) := dk_172 (dk_at dksX2_of_1 0 rfl rfl)
theorem dX2_of_25 : decode cX2_of 25 = .ok (.aload_n 0, 1) := dk_42 (dk_at dksX2_of_1 1 rfl rfl)
theorem dX2_of_26 : decode cX2_of 26 = .ok (.iload_n 1, 1) := dk_27 (dk_at dksX2_of_1 2 rfl rfl)
theorem dX2_of_27 : decode cX2_of 27 = .ok (.invokevirtual 100, 3) := dk_182 0 100 (dk_at dksX2_of_1 3 rfl rfl)
theorem dX2_of_30 : decode cX2_of 30 = .ok (.ifCond .ne 6, 3) := dk_154 0 6 (dk_at dksX2_of_1 6 rfl rfl)
theorem dX2_of_33 : decode cX2_of 33 = .ok (.ldc 195, 2) := dk_18 195 (dk_at dksX2_of_1 9 rfl rfl)
theorem dX2_of_35 : decode cX2_of 35 = .ok (.ireturn, 1) := dk_172 (dk_at dksX2_of_1 11 rfl rfl)
theorem dX2_of_36 : decode cX2_of 36 = .ok (.aload_n 0, 1) := dk_42 (dk_at dksX2_of_1 12 rfl rfl)
theorem dX2_of_37 : decode cX2_of 37 = .ok (.iload_n 1, 1) := dk_27 (dk_at dksX2_of_1 13 rfl rfl)
theorem dX2_of_38 : decode cX2_of 38 = .ok (.invokevirtual 196, 3) := dk_182 0 196 (dk_at dksX2_of_1 14 rfl rfl)
theorem dX2_of_41 : decode cX2_of 41 = .ok (.iload_n 2, 1) := dk_28 (dk_at dksX2_of_1 17 rfl rfl)
theorem dX2_of_42 : decode cX2_of 42 = .ok (.tableswitch 119 0 11 #[62, 67, 72, 119, 119, 119, 119, 119, 83, 93, 98, 113], 62) := by decide +kernel
theorem dX2_of_104 : decode cX2_of 104 = .ok (.aload_n 0, 1) := dk_42 (dk_at dksX2_of_3 0 rfl rfl)
theorem dX2_of_105 : decode cX2_of 105 = .ok (.getfield 104, 3) := dk_180 0 104 (dk_at dksX2_of_3 1 rfl rfl)
theorem dX2_of_108 : decode cX2_of 108 = .ok (.ireturn, 1) := dk_172 (dk_at dksX2_of_3 4 rfl rfl)
theorem dX2_of_109 : decode cX2_of 109 = .ok (.aload_n 0, 1) := dk_42 (dk_at dksX2_of_3 5 rfl rfl)
theorem dX2_of_110 : decode cX2_of 110 = .ok (.invokevirtual 325, 3) := dk_182 1 69 (dk_at dksX2_of_3 6 rfl rfl)
theorem dX2_of_113 : decode cX2_of 113 = .ok (.ireturn, 1) := dk_172 (dk_at dksX2_of_3 9 rfl rfl)
theorem dX2_of_114 : decode cX2_of 114 = .ok (.aload_n 0, 1) := dk_42 (dk_at dksX2_of_3 10 rfl rfl)
theorem dX2_of_115 : decode cX2_of 115 = .ok (.sipush 1000, 3) := dk_17 3 232 (dk_at dksX2_of_3 11 rfl rfl)
theorem dX2_of_118 : decode cX2_of 118 = .ok (.sipush 1255, 3) := dk_17 4 231 (dk_at dksX2_of_3 14 rfl rfl)
theorem dX2_of_121 : decode cX2_of 121 = .ok (.invokevirtual 328, 3) := dk_182 1 72 (dk_at dksX2_of_3 17 rfl rfl)
theorem dX2_of_124 : decode cX2_of 124 = .ok (.ireturn, 1) := dk_172 (dk_at dksX2_of_3 20 rfl rfl)
theorem dX2_of_125 : decode cX2_of 125 = .ok (.aload_n 0, 1) := dk_42 (dk_at dksX2_of_3 21 rfl rfl)
theorem dX2_of_126 : decode cX2_of 126 = .ok (.iload_n 1, 1) := dk_27 (dk_at dksX2_of_3 22 rfl rfl)
theorem dX2_of_127 : decode cX2_of 127 = .ok (.invokevirtual 331, 3) := dk_182 1 75 (dk_at dksX2_of_4 0 rfl rfl)
theorem dX2_of_130 : decode cX2_of 130 = .ok (.aload_n 0, 1) := dk_42 (dk_at dksX2_of_4 3 rfl rfl)
theorem dX2_of_131 : decode cX2_of 131 = .ok (.getfield 304, 3) := dk_180 1 48 (dk_at dksX2_of_4 4 rfl rfl)
theorem dX2_of_134 : decode cX2_of 134 = .ok (.ireturn, 1) := dk_172 (dk_at dksX2_of_4 7 rfl rfl)
theorem dX2_of_135 : decode cX2_of 135 = .ok (.aload_n 0, 1) := dk_42 (dk_at dksX2_of_4 8 rfl rfl)
theorem dX2_of_136 : decode cX2_of 136 = .ok (.invokevirtual 334, 3) := dk_182 1 78 (dk_at dksX2_of_4 9 rfl rfl)
theorem dX2_of_139 : decode cX2_of 139 = .ok (.ireturn, 1) := dk_172 (dk_at dksX2_of_4 12 rfl rfl)
theorem dX2_of_140 : decode cX2_of 140 = .ok (.aload_n 0, 1) := dk_42 (dk_at dksX2_of_4 13 rfl rfl)
theorem dX2_of_141 : decode cX2_of 141 = .ok (.iload_n 1, 1) := dk_27 (dk_at dksX2_of_4 14 rfl rfl)
theorem dX2_of_142 : decode cX2_of 142 = .ok (.invokevirtual 307, 3) := dk_182 1 51 (dk_at dksX2_of_4 15 rfl rfl)
theorem dX2_of_145 : decode cX2_of 145 = .ok (.iconst (-1), 1) := dk_2 (dk_at dksX2_of_4 18 rfl rfl)
theorem dX2_of_146 : decode cX2_of 146 = .ok (.if_icmp .ne 7, 3) := dk_160 0 7 (dk_at dksX2_of_4 19 rfl rfl)
theorem dX2_of_149 : decode cX2_of 149 = .ok (.iconst 0, 1) := dk_3 (dk_at dksX2_of_4 22 rfl rfl)
theorem dX2_of_150 : decode cX2_of 150 = .ok (.goto 4, 3) := dk_167 0 4 (dk_at dksX2_of_5 0 rfl rfl)
theorem dX2_of_153 : decode cX2_of 153 = .ok (.iconst 1, 1) := dk_4 (dk_at dksX2_of_5 3 rfl rfl)
theorem dX2_of_154 : decode cX2_of 154 = .ok (.ireturn, 1) := dk_172 (dk_at dksX2_of_5 4 rfl rfl)
theorem dX2_of_155 : decode cX2_of 155 = .ok (.aload_n 0, 1) := dk_42 (dk_at dksX2_of_5 5 rfl rfl)
theorem dX2_of_156 : decode cX2_of 156 = .ok (.iload_n 1, 1) := dk_27 (dk_at dksX2_of_5 6 rfl rfl)
theorem dX2_of_157 : decode cX2_of 157 = .ok (.invokevirtual 337, 3) := dk_182 1 81 (dk_at dksX2_of_5 7 rfl rfl)
theorem dX2_of_160 : decode cX2_of 160 = .ok (.ireturn, 1) := dk_172 (dk_at dksX2_of_5 10 rfl rfl)
theorem dX2_of_161 : decode cX2_of 161 = .ok (.aload_n 0, 1) := dk_42 (dk_at dksX2_of_5 11 rfl rfl)
theorem dX2_of_162 : decode cX2_of 162 = .ok (.iload_n 2, 1) := dk_28 (dk_at dksX2_of_5 12 rfl rfl)
theorem dX2_of_163 : decode cX2_of 163 = .ok (.iconst 2, 1) := dk_5 (dk_at dksX2_of_5 13 rfl rfl)
theorem dX2_of_164 : decode cX2_of 164 = .ok (.isub, 1) := dk_100 (dk_at dksX2_of_5 14 rfl rfl)
theorem dX2_of_165 : decode cX2_of 165 = .ok (.iload_n 2, 1) := dk_28 (dk_at dksX2_of_5 15 rfl rfl)
theorem dX2_of_166 : decode cX2_of 166 = .ok (.iconst 2, 1) := dk_5 (dk_at dksX2_of_5 16 rfl rfl)
theorem dX2_of_167 : decode cX2_of 167 = .ok (.isub, 1) := dk_100 (dk_at dksX2_of_5 17 rfl rfl)
theorem dX2_of_168 : decode cX2_of 168 = .ok (.invokevirtual 328, 3) := dk_182 1 72 (dk_at dksX2_of_5 18 rfl rfl)
theorem dX2_of_171 : decode cX2_of 171 = .ok (.ireturn, 1) := dk_172 (dk_at dksX2_of_5 21 rfl rfl)
abbrev cX2_freeNames : ByteArray := prog_15_method_70_code
def yX2_freeNames : MethodName := ⟨RX2, "freeNames", "()I"⟩
def dkwX2_freeNames_1 : List UInt8 := [16, 97, 100, 120, 167, 0, 4, 3, 128, 60, 132, 2, 1, 167, 255, 225, 27, 172]
abbrev dktX2_freeNames_1 : List UInt8 := dkwX2_freeNames_1 ++ []
def dkwX2_freeNames_0 : List UInt8 := [3, 60, 16, 97, 61, 28, 16, 123, 162, 0, 31, 27, 42, 3, 28, 182, 0, 182, 153, 0, 12, 4, 28]
abbrev dktX2_freeNames_0 : List UInt8 := dkwX2_freeNames_0 ++ dktX2_freeNames_1
theorem dksX2_freeNames_0 : cX2_freeNames.data.toList.drop 0 = dktX2_freeNames_0 := by decide +kernel
theorem dksX2_freeNames_1 : cX2_freeNames.data.toList.drop 23 = dktX2_freeNames_1 := dk_seg dksX2_freeNames_0 23 rfl rfl
theorem dX2_freeNames_0 : decode cX2_freeNames 0 = .ok (.iconst 0, 1) := dk_3 (dk_at dksX2_freeNames_0 0 rfl rfl)
theorem dX2_freeNames_1 : decode cX2_freeNames 1 = .ok (.istore_n 1, 1) := dk_60 (dk_at dksX2_freeNames_0 1 rfl rfl)
theorem dX2_freeNames_2 : decode cX2_freeNames 2 = .ok (.bipush 97, 2) := dk_16 97 (dk_at dksX2_freeNames_0 2 rfl rfl)
theorem dX2_freeNames_4 : decode cX2_freeNames 4 = .ok (.istore_n 2, 1) := dk_61 (dk_at dksX2_freeNames_0 4 rfl rfl)
theorem dX2_freeNames_5 : decode cX2_freeNames 5 = .ok (.iload_n 2, 1) := dk_28 (dk_at dksX2_freeNames_0 5 rfl rfl)
theorem dX2_freeNames_6 : decode cX2_freeNames 6 = .ok (.bipush 123, 2) := dk_16 123 (dk_at dksX2_freeNames_0 6 rfl rfl)
theorem dX2_freeNames_8 : decode cX2_freeNames 8 = .ok (.if_icmp .ge 31, 3) := dk_162 0 31 (dk_at dksX2_freeNames_0 8 rfl rfl)
theorem dX2_freeNames_11 : decode cX2_freeNames 11 = .ok (.iload_n 1, 1) := dk_27 (dk_at dksX2_freeNames_0 11 rfl rfl)
theorem dX2_freeNames_12 : decode cX2_freeNames 12 = .ok (.aload_n 0, 1) := dk_42 (dk_at dksX2_freeNames_0 12 rfl rfl)
theorem dX2_freeNames_13 : decode cX2_freeNames 13 = .ok (.iconst 0, 1) := dk_3 (dk_at dksX2_freeNames_0 13 rfl rfl)
theorem dX2_freeNames_14 : decode cX2_freeNames 14 = .ok (.iload_n 2, 1) := dk_28 (dk_at dksX2_freeNames_0 14 rfl rfl)
theorem dX2_freeNames_15 : decode cX2_freeNames 15 = .ok (.invokevirtual 182, 3) := dk_182 0 182 (dk_at dksX2_freeNames_0 15 rfl rfl)
theorem dX2_freeNames_18 : decode cX2_freeNames 18 = .ok (.ifCond .eq 12, 3) := dk_153 0 12 (dk_at dksX2_freeNames_0 18 rfl rfl)
theorem dX2_freeNames_21 : decode cX2_freeNames 21 = .ok (.iconst 1, 1) := dk_4 (dk_at dksX2_freeNames_0 21 rfl rfl)
theorem dX2_freeNames_22 : decode cX2_freeNames 22 = .ok (.iload_n 2, 1) := dk_28 (dk_at dksX2_freeNames_0 22 rfl rfl)
theorem dX2_freeNames_23 : decode cX2_freeNames 23 = .ok (.bipush 97, 2) := dk_16 97 (dk_at dksX2_freeNames_1 0 rfl rfl)
theorem dX2_freeNames_25 : decode cX2_freeNames 25 = .ok (.isub, 1) := dk_100 (dk_at dksX2_freeNames_1 2 rfl rfl)
theorem dX2_freeNames_26 : decode cX2_freeNames 26 = .ok (.ishl, 1) := dk_120 (dk_at dksX2_freeNames_1 3 rfl rfl)
theorem dX2_freeNames_27 : decode cX2_freeNames 27 = .ok (.goto 4, 3) := dk_167 0 4 (dk_at dksX2_freeNames_1 4 rfl rfl)
theorem dX2_freeNames_30 : decode cX2_freeNames 30 = .ok (.iconst 0, 1) := dk_3 (dk_at dksX2_freeNames_1 7 rfl rfl)
theorem dX2_freeNames_31 : decode cX2_freeNames 31 = .ok (.ior, 1) := dk_128 (dk_at dksX2_freeNames_1 8 rfl rfl)
theorem dX2_freeNames_32 : decode cX2_freeNames 32 = .ok (.istore_n 1, 1) := dk_60 (dk_at dksX2_freeNames_1 9 rfl rfl)
theorem dX2_freeNames_33 : decode cX2_freeNames 33 = .ok (.iinc 2 1, 3) := dk_132 2 1 (dk_at dksX2_freeNames_1 10 rfl rfl)
theorem dX2_freeNames_36 : decode cX2_freeNames 36 = .ok (.goto (-31), 3) := dk_167 255 225 (dk_at dksX2_freeNames_1 13 rfl rfl)
theorem dX2_freeNames_39 : decode cX2_freeNames 39 = .ok (.iload_n 1, 1) := dk_27 (dk_at dksX2_freeNames_1 16 rfl rfl)
theorem dX2_freeNames_40 : decode cX2_freeNames 40 = .ok (.ireturn, 1) := dk_172 (dk_at dksX2_freeNames_1 17 rfl rfl)
abbrev cX2_howMany : ByteArray := prog_15_method_71_code
def yX2_howMany : MethodName := ⟨RX2, "howMany", "(II)I"⟩
def dkwX2_howMany_1 : List UInt8 := [133, 28, 133, 184, 0, 88, 153, 0, 7, 4, 167, 0, 4, 3, 96, 62, 132, 4, 1, 167, 255, 218, 29, 172]
abbrev dktX2_howMany_1 : List UInt8 := dkwX2_howMany_1 ++ []
def dkwX2_howMany_0 : List UInt8 := [3, 62, 3, 54, 4, 21, 4, 42, 180, 0, 104, 162, 0, 35, 29, 42, 180, 0, 24, 21, 4, 46, 133, 27]
abbrev dktX2_howMany_0 : List UInt8 := dkwX2_howMany_0 ++ dktX2_howMany_1
theorem dksX2_howMany_0 : cX2_howMany.data.toList.drop 0 = dktX2_howMany_0 := by decide +kernel
theorem dksX2_howMany_1 : cX2_howMany.data.toList.drop 24 = dktX2_howMany_1 := dk_seg dksX2_howMany_0 24 rfl rfl
theorem dX2_howMany_0 : decode cX2_howMany 0 = .ok (.iconst 0, 1) := dk_3 (dk_at dksX2_howMany_0 0 rfl rfl)
theorem dX2_howMany_1 : decode cX2_howMany 1 = .ok (.istore_n 3, 1) := dk_62 (dk_at dksX2_howMany_0 1 rfl rfl)
theorem dX2_howMany_2 : decode cX2_howMany 2 = .ok (.iconst 0, 1) := dk_3 (dk_at dksX2_howMany_0 2 rfl rfl)
theorem dX2_howMany_3 : decode cX2_howMany 3 = .ok (.istore 4, 2) := dk_54 4 (dk_at dksX2_howMany_0 3 rfl rfl)
theorem dX2_howMany_5 : decode cX2_howMany 5 = .ok (.iload 4, 2) := dk_21 4 (dk_at dksX2_howMany_0 5 rfl rfl)
theorem dX2_howMany_7 : decode cX2_howMany 7 = .ok (.aload_n 0, 1) := dk_42 (dk_at dksX2_howMany_0 7 rfl rfl)
theorem dX2_howMany_8 : decode cX2_howMany 8 = .ok (.getfield 104, 3) := dk_180 0 104 (dk_at dksX2_howMany_0 8 rfl rfl)
theorem dX2_howMany_11 : decode cX2_howMany 11 = .ok (.if_icmp .ge 35, 3) := dk_162 0 35 (dk_at dksX2_howMany_0 11 rfl rfl)
theorem dX2_howMany_14 : decode cX2_howMany 14 = .ok (.iload_n 3, 1) := dk_29 (dk_at dksX2_howMany_0 14 rfl rfl)
theorem dX2_howMany_15 : decode cX2_howMany 15 = .ok (.aload_n 0, 1) := dk_42 (dk_at dksX2_howMany_0 15 rfl rfl)
theorem dX2_howMany_16 : decode cX2_howMany 16 = .ok (.getfield 24, 3) := dk_180 0 24 (dk_at dksX2_howMany_0 16 rfl rfl)
theorem dX2_howMany_19 : decode cX2_howMany 19 = .ok (.iload 4, 2) := dk_21 4 (dk_at dksX2_howMany_0 19 rfl rfl)
theorem dX2_howMany_21 : decode cX2_howMany 21 = .ok (.iaload, 1) := dk_46 (dk_at dksX2_howMany_0 21 rfl rfl)
theorem dX2_howMany_22 : decode cX2_howMany 22 = .ok (.i2l, 1) := dk_133 (dk_at dksX2_howMany_0 22 rfl rfl)
theorem dX2_howMany_23 : decode cX2_howMany 23 = .ok (.iload_n 1, 1) := dk_27 (dk_at dksX2_howMany_0 23 rfl rfl)
theorem dX2_howMany_24 : decode cX2_howMany 24 = .ok (.i2l, 1) := dk_133 (dk_at dksX2_howMany_1 0 rfl rfl)
theorem dX2_howMany_25 : decode cX2_howMany 25 = .ok (.iload_n 2, 1) := dk_28 (dk_at dksX2_howMany_1 1 rfl rfl)
theorem dX2_howMany_26 : decode cX2_howMany 26 = .ok (.i2l, 1) := dk_133 (dk_at dksX2_howMany_1 2 rfl rfl)
theorem dX2_howMany_27 : decode cX2_howMany 27 = .ok (.invokestatic 88, 3) := dk_184 0 88 (dk_at dksX2_howMany_1 3 rfl rfl)
theorem dX2_howMany_30 : decode cX2_howMany 30 = .ok (.ifCond .eq 7, 3) := dk_153 0 7 (dk_at dksX2_howMany_1 6 rfl rfl)
theorem dX2_howMany_33 : decode cX2_howMany 33 = .ok (.iconst 1, 1) := dk_4 (dk_at dksX2_howMany_1 9 rfl rfl)
theorem dX2_howMany_34 : decode cX2_howMany 34 = .ok (.goto 4, 3) := dk_167 0 4 (dk_at dksX2_howMany_1 10 rfl rfl)
theorem dX2_howMany_37 : decode cX2_howMany 37 = .ok (.iconst 0, 1) := dk_3 (dk_at dksX2_howMany_1 13 rfl rfl)
theorem dX2_howMany_38 : decode cX2_howMany 38 = .ok (.iadd, 1) := dk_96 (dk_at dksX2_howMany_1 14 rfl rfl)
theorem dX2_howMany_39 : decode cX2_howMany 39 = .ok (.istore_n 3, 1) := dk_62 (dk_at dksX2_howMany_1 15 rfl rfl)
theorem dX2_howMany_40 : decode cX2_howMany 40 = .ok (.iinc 4 1, 3) := dk_132 4 1 (dk_at dksX2_howMany_1 16 rfl rfl)
theorem dX2_howMany_43 : decode cX2_howMany 43 = .ok (.goto (-38), 3) := dk_167 255 218 (dk_at dksX2_howMany_1 19 rfl rfl)
theorem dX2_howMany_46 : decode cX2_howMany 46 = .ok (.iload_n 3, 1) := dk_29 (dk_at dksX2_howMany_1 22 rfl rfl)
theorem dX2_howMany_47 : decode cX2_howMany 47 = .ok (.ireturn, 1) := dk_172 (dk_at dksX2_howMany_1 23 rfl rfl)
abbrev cX2_writeTerm : ByteArray := prog_15_method_65_code
def yX2_writeTerm : MethodName := ⟨RX2, "writeTerm", "(I)V"⟩
def dkwX2_writeTerm_6 : List UInt8 := [184, 1, 60, 182, 1, 54, 167, 255, 132, 177]
abbrev dktX2_writeTerm_6 : List UInt8 := dkwX2_writeTerm_6 ++ []
def dkwX2_writeTerm_5 : List UInt8 := [28, 46, 184, 0, 134, 153, 0, 12, 42, 180, 0, 24, 28, 46, 167, 0, 12, 42, 180, 0, 24, 28, 46]
abbrev dktX2_writeTerm_5 : List UInt8 := dkwX2_writeTerm_5 ++ dktX2_writeTerm_6
def dkwX2_writeTerm_4 : List UInt8 := [182, 1, 54, 42, 16, 46, 182, 1, 54, 42, 28, 4, 96, 182, 0, 172, 167, 0, 37, 42, 42, 180, 0, 24]
abbrev dktX2_writeTerm_4 : List UInt8 := dkwX2_writeTerm_4 ++ dktX2_writeTerm_5
def dkwX2_writeTerm_3 : List UInt8 := [184, 0, 162, 153, 0, 39, 42, 16, 94, 182, 1, 54, 42, 42, 180, 0, 24, 28, 46, 17, 3, 232, 100]
abbrev dktX2_writeTerm_3 : List UInt8 := dkwX2_writeTerm_3 ++ dktX2_writeTerm_4
def dkwX2_writeTerm_2 : List UInt8 := [180, 0, 24, 28, 46, 154, 0, 11, 42, 28, 182, 1, 57, 167, 0, 85, 42, 180, 0, 24, 28, 46]
abbrev dktX2_writeTerm_2 : List UInt8 := dkwX2_writeTerm_2 ++ dktX2_writeTerm_3
def dkwX2_writeTerm_1 : List UInt8 := [158, 0, 123, 42, 182, 0, 175, 61, 28, 156, 0, 12, 42, 28, 116, 182, 1, 54, 167, 0, 102, 42]
abbrev dktX2_writeTerm_1 : List UInt8 := dkwX2_writeTerm_1 ++ dktX2_writeTerm_2
def dkwX2_writeTerm_0 : List UInt8 := [42, 27, 182, 0, 196, 42, 3, 181, 1, 48, 42, 3, 181, 0, 94, 42, 3, 182, 0, 172, 42, 180, 0, 94]
abbrev dktX2_writeTerm_0 : List UInt8 := dkwX2_writeTerm_0 ++ dktX2_writeTerm_1
theorem dksX2_writeTerm_0 : cX2_writeTerm.data.toList.drop 0 = dktX2_writeTerm_0 := by decide +kernel
theorem dksX2_writeTerm_1 : cX2_writeTerm.data.toList.drop 24 = dktX2_writeTerm_1 := dk_seg dksX2_writeTerm_0 24 rfl rfl
theorem dksX2_writeTerm_2 : cX2_writeTerm.data.toList.drop 46 = dktX2_writeTerm_2 := dk_seg dksX2_writeTerm_1 22 rfl rfl
theorem dksX2_writeTerm_3 : cX2_writeTerm.data.toList.drop 68 = dktX2_writeTerm_3 := dk_seg dksX2_writeTerm_2 22 rfl rfl
theorem dksX2_writeTerm_4 : cX2_writeTerm.data.toList.drop 91 = dktX2_writeTerm_4 := dk_seg dksX2_writeTerm_3 23 rfl rfl
theorem dksX2_writeTerm_5 : cX2_writeTerm.data.toList.drop 115 = dktX2_writeTerm_5 := dk_seg dksX2_writeTerm_4 24 rfl rfl
theorem dksX2_writeTerm_6 : cX2_writeTerm.data.toList.drop 138 = dktX2_writeTerm_6 := dk_seg dksX2_writeTerm_5 23 rfl rfl
theorem dX2_writeTerm_0 : decode cX2_writeTerm 0 = .ok (.aload_n 0, 1) := dk_42 (dk_at dksX2_writeTerm_0 0 rfl rfl)
theorem dX2_writeTerm_1 : decode cX2_writeTerm 1 = .ok (.iload_n 1, 1) := dk_27 (dk_at dksX2_writeTerm_0 1 rfl rfl)
theorem dX2_writeTerm_2 : decode cX2_writeTerm 2 = .ok (.invokevirtual 196, 3) := dk_182 0 196 (dk_at dksX2_writeTerm_0 2 rfl rfl)
theorem dX2_writeTerm_5 : decode cX2_writeTerm 5 = .ok (.aload_n 0, 1) := dk_42 (dk_at dksX2_writeTerm_0 5 rfl rfl)
theorem dX2_writeTerm_6 : decode cX2_writeTerm 6 = .ok (.iconst 0, 1) := dk_3 (dk_at dksX2_writeTerm_0 6 rfl rfl)
theorem dX2_writeTerm_7 : decode cX2_writeTerm 7 = .ok (.putfield 304, 3) := dk_181 1 48 (dk_at dksX2_writeTerm_0 7 rfl rfl)
theorem dX2_writeTerm_10 : decode cX2_writeTerm 10 = .ok (.aload_n 0, 1) := dk_42 (dk_at dksX2_writeTerm_0 10 rfl rfl)
theorem dX2_writeTerm_11 : decode cX2_writeTerm 11 = .ok (.iconst 0, 1) := dk_3 (dk_at dksX2_writeTerm_0 11 rfl rfl)
theorem dX2_writeTerm_12 : decode cX2_writeTerm 12 = .ok (.putfield 94, 3) := dk_181 0 94 (dk_at dksX2_writeTerm_0 12 rfl rfl)
theorem dX2_writeTerm_15 : decode cX2_writeTerm 15 = .ok (.aload_n 0, 1) := dk_42 (dk_at dksX2_writeTerm_0 15 rfl rfl)
theorem dX2_writeTerm_16 : decode cX2_writeTerm 16 = .ok (.iconst 0, 1) := dk_3 (dk_at dksX2_writeTerm_0 16 rfl rfl)
theorem dX2_writeTerm_17 : decode cX2_writeTerm 17 = .ok (.invokevirtual 172, 3) := dk_182 0 172 (dk_at dksX2_writeTerm_0 17 rfl rfl)
theorem dX2_writeTerm_20 : decode cX2_writeTerm 20 = .ok (.aload_n 0, 1) := dk_42 (dk_at dksX2_writeTerm_0 20 rfl rfl)
theorem dX2_writeTerm_21 : decode cX2_writeTerm 21 = .ok (.getfield 94, 3) := dk_180 0 94 (dk_at dksX2_writeTerm_0 21 rfl rfl)
theorem dX2_writeTerm_24 : decode cX2_writeTerm 24 = .ok (.ifCond .le 123, 3) := dk_158 0 123 (dk_at dksX2_writeTerm_1 0 rfl rfl)
theorem dX2_writeTerm_27 : decode cX2_writeTerm 27 = .ok (.aload_n 0, 1) := dk_42 (dk_at dksX2_writeTerm_1 3 rfl rfl)
theorem dX2_writeTerm_28 : decode cX2_writeTerm 28 = .ok (.invokevirtual 175, 3) := dk_182 0 175 (dk_at dksX2_writeTerm_1 4 rfl rfl)
theorem dX2_writeTerm_31 : decode cX2_writeTerm 31 = .ok (.istore_n 2, 1) := dk_61 (dk_at dksX2_writeTerm_1 7 rfl rfl)
theorem dX2_writeTerm_32 : decode cX2_writeTerm 32 = .ok (.iload_n 2, 1) := dk_28 (dk_at dksX2_writeTerm_1 8 rfl rfl)
theorem dX2_writeTerm_33 : decode cX2_writeTerm 33 = .ok (.ifCond .ge 12, 3) := dk_156 0 12 (dk_at dksX2_writeTerm_1 9 rfl rfl)
theorem dX2_writeTerm_36 : decode cX2_writeTerm 36 = .ok (.aload_n 0, 1) := dk_42 (dk_at dksX2_writeTerm_1 12 rfl rfl)
theorem dX2_writeTerm_37 : decode cX2_writeTerm 37 = .ok (.iload_n 2, 1) := dk_28 (dk_at dksX2_writeTerm_1 13 rfl rfl)
theorem dX2_writeTerm_38 : decode cX2_writeTerm 38 = .ok (.ineg, 1) := dk_116 (dk_at dksX2_writeTerm_1 14 rfl rfl)
theorem dX2_writeTerm_39 : decode cX2_writeTerm 39 = .ok (.invokevirtual 310, 3) := dk_182 1 54 (dk_at dksX2_writeTerm_1 15 rfl rfl)
theorem dX2_writeTerm_42 : decode cX2_writeTerm 42 = .ok (.goto 102, 3) := dk_167 0 102 (dk_at dksX2_writeTerm_1 18 rfl rfl)
theorem dX2_writeTerm_45 : decode cX2_writeTerm 45 = .ok (.aload_n 0, 1) := dk_42 (dk_at dksX2_writeTerm_1 21 rfl rfl)
theorem dX2_writeTerm_46 : decode cX2_writeTerm 46 = .ok (.getfield 24, 3) := dk_180 0 24 (dk_at dksX2_writeTerm_2 0 rfl rfl)
theorem dX2_writeTerm_49 : decode cX2_writeTerm 49 = .ok (.iload_n 2, 1) := dk_28 (dk_at dksX2_writeTerm_2 3 rfl rfl)
theorem dX2_writeTerm_50 : decode cX2_writeTerm 50 = .ok (.iaload, 1) := dk_46 (dk_at dksX2_writeTerm_2 4 rfl rfl)
theorem dX2_writeTerm_51 : decode cX2_writeTerm 51 = .ok (.ifCond .ne 11, 3) := dk_154 0 11 (dk_at dksX2_writeTerm_2 5 rfl rfl)
theorem dX2_writeTerm_54 : decode cX2_writeTerm 54 = .ok (.aload_n 0, 1) := dk_42 (dk_at dksX2_writeTerm_2 8 rfl rfl)
theorem dX2_writeTerm_55 : decode cX2_writeTerm 55 = .ok (.iload_n 2, 1) := dk_28 (dk_at dksX2_writeTerm_2 9 rfl rfl)
theorem dX2_writeTerm_56 : decode cX2_writeTerm 56 = .ok (.invokevirtual 313, 3) := dk_182 1 57 (dk_at dksX2_writeTerm_2 10 rfl rfl)
theorem dX2_writeTerm_59 : decode cX2_writeTerm 59 = .ok (.goto 85, 3) := dk_167 0 85 (dk_at dksX2_writeTerm_2 13 rfl rfl)
theorem dX2_writeTerm_62 : decode cX2_writeTerm 62 = .ok (.aload_n 0, 1) := dk_42 (dk_at dksX2_writeTerm_2 16 rfl rfl)
theorem dX2_writeTerm_63 : decode cX2_writeTerm 63 = .ok (.getfield 24, 3) := dk_180 0 24 (dk_at dksX2_writeTerm_2 17 rfl rfl)
theorem dX2_writeTerm_66 : decode cX2_writeTerm 66 = .ok (.iload_n 2, 1) := dk_28 (dk_at dksX2_writeTerm_2 20 rfl rfl)
theorem dX2_writeTerm_67 : decode cX2_writeTerm 67 = .ok (.iaload, 1) := dk_46 (dk_at dksX2_writeTerm_2 21 rfl rfl)
theorem dX2_writeTerm_68 : decode cX2_writeTerm 68 = .ok (.invokestatic 162, 3) := dk_184 0 162 (dk_at dksX2_writeTerm_3 0 rfl rfl)
theorem dX2_writeTerm_71 : decode cX2_writeTerm 71 = .ok (.ifCond .eq 39, 3) := dk_153 0 39 (dk_at dksX2_writeTerm_3 3 rfl rfl)
theorem dX2_writeTerm_74 : decode cX2_writeTerm 74 = .ok (.aload_n 0, 1) := dk_42 (dk_at dksX2_writeTerm_3 6 rfl rfl)
theorem dX2_writeTerm_75 : decode cX2_writeTerm 75 = .ok (.bipush 94, 2) := dk_16 94 (dk_at dksX2_writeTerm_3 7 rfl rfl)
theorem dX2_writeTerm_77 : decode cX2_writeTerm 77 = .ok (.invokevirtual 310, 3) := dk_182 1 54 (dk_at dksX2_writeTerm_3 9 rfl rfl)
theorem dX2_writeTerm_80 : decode cX2_writeTerm 80 = .ok (.aload_n 0, 1) := dk_42 (dk_at dksX2_writeTerm_3 12 rfl rfl)
theorem dX2_writeTerm_81 : decode cX2_writeTerm 81 = .ok (.aload_n 0, 1) := dk_42 (dk_at dksX2_writeTerm_3 13 rfl rfl)
theorem dX2_writeTerm_82 : decode cX2_writeTerm 82 = .ok (.getfield 24, 3) := dk_180 0 24 (dk_at dksX2_writeTerm_3 14 rfl rfl)
theorem dX2_writeTerm_85 : decode cX2_writeTerm 85 = .ok (.iload_n 2, 1) := dk_28 (dk_at dksX2_writeTerm_3 17 rfl rfl)
theorem dX2_writeTerm_86 : decode cX2_writeTerm 86 = .ok (.iaload, 1) := dk_46 (dk_at dksX2_writeTerm_3 18 rfl rfl)
theorem dX2_writeTerm_87 : decode cX2_writeTerm 87 = .ok (.sipush 1000, 3) := dk_17 3 232 (dk_at dksX2_writeTerm_3 19 rfl rfl)
theorem dX2_writeTerm_90 : decode cX2_writeTerm 90 = .ok (.isub, 1) := dk_100 (dk_at dksX2_writeTerm_3 22 rfl rfl)
theorem dX2_writeTerm_91 : decode cX2_writeTerm 91 = .ok (.invokevirtual 310, 3) := dk_182 1 54 (dk_at dksX2_writeTerm_4 0 rfl rfl)
theorem dX2_writeTerm_94 : decode cX2_writeTerm 94 = .ok (.aload_n 0, 1) := dk_42 (dk_at dksX2_writeTerm_4 3 rfl rfl)
theorem dX2_writeTerm_95 : decode cX2_writeTerm 95 = .ok (.bipush 46, 2) := dk_16 46 (dk_at dksX2_writeTerm_4 4 rfl rfl)
theorem dX2_writeTerm_97 : decode cX2_writeTerm 97 = .ok (.invokevirtual 310, 3) := dk_182 1 54 (dk_at dksX2_writeTerm_4 6 rfl rfl)
theorem dX2_writeTerm_100 : decode cX2_writeTerm 100 = .ok (.aload_n 0, 1) := dk_42 (dk_at dksX2_writeTerm_4 9 rfl rfl)
theorem dX2_writeTerm_101 : decode cX2_writeTerm 101 = .ok (.iload_n 2, 1) := dk_28 (dk_at dksX2_writeTerm_4 10 rfl rfl)
theorem dX2_writeTerm_102 : decode cX2_writeTerm 102 = .ok (.iconst 1, 1) := dk_4 (dk_at dksX2_writeTerm_4 11 rfl rfl)
theorem dX2_writeTerm_103 : decode cX2_writeTerm 103 = .ok (.iadd, 1) := dk_96 (dk_at dksX2_writeTerm_4 12 rfl rfl)
theorem dX2_writeTerm_104 : decode cX2_writeTerm 104 = .ok (.invokevirtual 172, 3) := dk_182 0 172 (dk_at dksX2_writeTerm_4 13 rfl rfl)
theorem dX2_writeTerm_107 : decode cX2_writeTerm 107 = .ok (.goto 37, 3) := dk_167 0 37 (dk_at dksX2_writeTerm_4 16 rfl rfl)
theorem dX2_writeTerm_110 : decode cX2_writeTerm 110 = .ok (.aload_n 0, 1) := dk_42 (dk_at dksX2_writeTerm_4 19 rfl rfl)
theorem dX2_writeTerm_111 : decode cX2_writeTerm 111 = .ok (.aload_n 0, 1) := dk_42 (dk_at dksX2_writeTerm_4 20 rfl rfl)
theorem dX2_writeTerm_112 : decode cX2_writeTerm 112 = .ok (.getfield 24, 3) := dk_180 0 24 (dk_at dksX2_writeTerm_4 21 rfl rfl)
theorem dX2_writeTerm_115 : decode cX2_writeTerm 115 = .ok (.iload_n 2, 1) := dk_28 (dk_at dksX2_writeTerm_5 0 rfl rfl)
theorem dX2_writeTerm_116 : decode cX2_writeTerm 116 = .ok (.iaload, 1) := dk_46 (dk_at dksX2_writeTerm_5 1 rfl rfl)
theorem dX2_writeTerm_117 : decode cX2_writeTerm 117 = .ok (.invokestatic 134, 3) := dk_184 0 134 (dk_at dksX2_writeTerm_5 2 rfl rfl)
theorem dX2_writeTerm_120 : decode cX2_writeTerm 120 = .ok (.ifCond .eq 12, 3) := dk_153 0 12 (dk_at dksX2_writeTerm_5 5 rfl rfl)
theorem dX2_writeTerm_123 : decode cX2_writeTerm 123 = .ok (.aload_n 0, 1) := dk_42 (dk_at dksX2_writeTerm_5 8 rfl rfl)
theorem dX2_writeTerm_124 : decode cX2_writeTerm 124 = .ok (.getfield 24, 3) := dk_180 0 24 (dk_at dksX2_writeTerm_5 9 rfl rfl)
theorem dX2_writeTerm_127 : decode cX2_writeTerm 127 = .ok (.iload_n 2, 1) := dk_28 (dk_at dksX2_writeTerm_5 12 rfl rfl)
theorem dX2_writeTerm_128 : decode cX2_writeTerm 128 = .ok (.iaload, 1) := dk_46 (dk_at dksX2_writeTerm_5 13 rfl rfl)
theorem dX2_writeTerm_129 : decode cX2_writeTerm 129 = .ok (.goto 12, 3) := dk_167 0 12 (dk_at dksX2_writeTerm_5 14 rfl rfl)
theorem dX2_writeTerm_132 : decode cX2_writeTerm 132 = .ok (.aload_n 0, 1) := dk_42 (dk_at dksX2_writeTerm_5 17 rfl rfl)
theorem dX2_writeTerm_133 : decode cX2_writeTerm 133 = .ok (.getfield 24, 3) := dk_180 0 24 (dk_at dksX2_writeTerm_5 18 rfl rfl)
theorem dX2_writeTerm_136 : decode cX2_writeTerm 136 = .ok (.iload_n 2, 1) := dk_28 (dk_at dksX2_writeTerm_5 21 rfl rfl)
theorem dX2_writeTerm_137 : decode cX2_writeTerm 137 = .ok (.iaload, 1) := dk_46 (dk_at dksX2_writeTerm_5 22 rfl rfl)
theorem dX2_writeTerm_138 : decode cX2_writeTerm 138 = .ok (.invokestatic 316, 3) := dk_184 1 60 (dk_at dksX2_writeTerm_6 0 rfl rfl)
theorem dX2_writeTerm_141 : decode cX2_writeTerm 141 = .ok (.invokevirtual 310, 3) := dk_182 1 54 (dk_at dksX2_writeTerm_6 3 rfl rfl)
theorem dX2_writeTerm_144 : decode cX2_writeTerm 144 = .ok (.goto (-124), 3) := dk_167 255 132 (dk_at dksX2_writeTerm_6 6 rfl rfl)
theorem dX2_writeTerm_147 : decode cX2_writeTerm 147 = .ok (.return_, 1) := dk_177 (dk_at dksX2_writeTerm_6 9 rfl rfl)
abbrev cX2_write : ByteArray := prog_15_method_63_code
def yX2_write : MethodName := ⟨RX2, "write", "(I)V"⟩
def dkwX2_write_0 : List UInt8 := [42, 180, 0, 75, 42, 180, 1, 48, 27, 79, 42, 89, 180, 1, 48, 4, 96, 181, 1, 48, 177]
abbrev dktX2_write_0 : List UInt8 := dkwX2_write_0 ++ []
theorem dksX2_write_0 : cX2_write.data.toList.drop 0 = dktX2_write_0 := by decide +kernel
theorem dX2_write_0 : decode cX2_write 0 = .ok (.aload_n 0, 1) := dk_42 (dk_at dksX2_write_0 0 rfl rfl)
theorem dX2_write_1 : decode cX2_write 1 = .ok (.getfield 75, 3) := dk_180 0 75 (dk_at dksX2_write_0 1 rfl rfl)
theorem dX2_write_4 : decode cX2_write 4 = .ok (.aload_n 0, 1) := dk_42 (dk_at dksX2_write_0 4 rfl rfl)
theorem dX2_write_5 : decode cX2_write 5 = .ok (.getfield 304, 3) := dk_180 1 48 (dk_at dksX2_write_0 5 rfl rfl)
theorem dX2_write_8 : decode cX2_write 8 = .ok (.iload_n 1, 1) := dk_27 (dk_at dksX2_write_0 8 rfl rfl)
theorem dX2_write_9 : decode cX2_write 9 = .ok (.iastore, 1) := dk_79 (dk_at dksX2_write_0 9 rfl rfl)
theorem dX2_write_10 : decode cX2_write 10 = .ok (.aload_n 0, 1) := dk_42 (dk_at dksX2_write_0 10 rfl rfl)
theorem dX2_write_11 : decode cX2_write 11 = .ok (.dup, 1) := dk_89 (dk_at dksX2_write_0 11 rfl rfl)
theorem dX2_write_12 : decode cX2_write 12 = .ok (.getfield 304, 3) := dk_180 1 48 (dk_at dksX2_write_0 12 rfl rfl)
theorem dX2_write_15 : decode cX2_write 15 = .ok (.iconst 1, 1) := dk_4 (dk_at dksX2_write_0 15 rfl rfl)
theorem dX2_write_16 : decode cX2_write 16 = .ok (.iadd, 1) := dk_96 (dk_at dksX2_write_0 16 rfl rfl)
theorem dX2_write_17 : decode cX2_write 17 = .ok (.putfield 304, 3) := dk_181 1 48 (dk_at dksX2_write_0 17 rfl rfl)
theorem dX2_write_20 : decode cX2_write 20 = .ok (.return_, 1) := dk_177 (dk_at dksX2_write_0 20 rfl rfl)
abbrev cX2_writePut : ByteArray := prog_15_method_68_code
def yX2_writePut : MethodName := ⟨RX2, "writePut", "(I)V"⟩
def dkwX2_writePut_2 : List UInt8 := [4, 96, 46, 184, 0, 162, 182, 1, 63, 177]
abbrev dktX2_writePut_2 : List UInt8 := dkwX2_writePut_2 ++ []
def dkwX2_writePut_1 : List UInt8 := [46, 184, 0, 162, 153, 0, 7, 4, 167, 0, 4, 3, 182, 1, 63, 42, 27, 4, 96, 42, 180, 0, 24, 27]
abbrev dktX2_writePut_1 : List UInt8 := dkwX2_writePut_1 ++ dktX2_writePut_2
def dkwX2_writePut_0 : List UInt8 := [42, 27, 4, 96, 182, 0, 165, 61, 42, 28, 42, 180, 0, 24, 28, 46, 153, 0, 15, 42, 180, 0, 24, 28]
abbrev dktX2_writePut_0 : List UInt8 := dkwX2_writePut_0 ++ dktX2_writePut_1
theorem dksX2_writePut_0 : cX2_writePut.data.toList.drop 0 = dktX2_writePut_0 := by decide +kernel
theorem dksX2_writePut_1 : cX2_writePut.data.toList.drop 24 = dktX2_writePut_1 := dk_seg dksX2_writePut_0 24 rfl rfl
theorem dksX2_writePut_2 : cX2_writePut.data.toList.drop 48 = dktX2_writePut_2 := dk_seg dksX2_writePut_1 24 rfl rfl
theorem dX2_writePut_0 : decode cX2_writePut 0 = .ok (.aload_n 0, 1) := dk_42 (dk_at dksX2_writePut_0 0 rfl rfl)
theorem dX2_writePut_1 : decode cX2_writePut 1 = .ok (.iload_n 1, 1) := dk_27 (dk_at dksX2_writePut_0 1 rfl rfl)
theorem dX2_writePut_2 : decode cX2_writePut 2 = .ok (.iconst 1, 1) := dk_4 (dk_at dksX2_writePut_0 2 rfl rfl)
theorem dX2_writePut_3 : decode cX2_writePut 3 = .ok (.iadd, 1) := dk_96 (dk_at dksX2_writePut_0 3 rfl rfl)
theorem dX2_writePut_4 : decode cX2_writePut 4 = .ok (.invokevirtual 165, 3) := dk_182 0 165 (dk_at dksX2_writePut_0 4 rfl rfl)
theorem dX2_writePut_7 : decode cX2_writePut 7 = .ok (.istore_n 2, 1) := dk_61 (dk_at dksX2_writePut_0 7 rfl rfl)
theorem dX2_writePut_8 : decode cX2_writePut 8 = .ok (.aload_n 0, 1) := dk_42 (dk_at dksX2_writePut_0 8 rfl rfl)
theorem dX2_writePut_9 : decode cX2_writePut 9 = .ok (.iload_n 2, 1) := dk_28 (dk_at dksX2_writePut_0 9 rfl rfl)
theorem dX2_writePut_10 : decode cX2_writePut 10 = .ok (.aload_n 0, 1) := dk_42 (dk_at dksX2_writePut_0 10 rfl rfl)
theorem dX2_writePut_11 : decode cX2_writePut 11 = .ok (.getfield 24, 3) := dk_180 0 24 (dk_at dksX2_writePut_0 11 rfl rfl)
theorem dX2_writePut_14 : decode cX2_writePut 14 = .ok (.iload_n 2, 1) := dk_28 (dk_at dksX2_writePut_0 14 rfl rfl)
theorem dX2_writePut_15 : decode cX2_writePut 15 = .ok (.iaload, 1) := dk_46 (dk_at dksX2_writePut_0 15 rfl rfl)
theorem dX2_writePut_16 : decode cX2_writePut 16 = .ok (.ifCond .eq 15, 3) := dk_153 0 15 (dk_at dksX2_writePut_0 16 rfl rfl)
theorem dX2_writePut_19 : decode cX2_writePut 19 = .ok (.aload_n 0, 1) := dk_42 (dk_at dksX2_writePut_0 19 rfl rfl)
theorem dX2_writePut_20 : decode cX2_writePut 20 = .ok (.getfield 24, 3) := dk_180 0 24 (dk_at dksX2_writePut_0 20 rfl rfl)
theorem dX2_writePut_23 : decode cX2_writePut 23 = .ok (.iload_n 2, 1) := dk_28 (dk_at dksX2_writePut_0 23 rfl rfl)
theorem dX2_writePut_24 : decode cX2_writePut 24 = .ok (.iaload, 1) := dk_46 (dk_at dksX2_writePut_1 0 rfl rfl)
theorem dX2_writePut_25 : decode cX2_writePut 25 = .ok (.invokestatic 162, 3) := dk_184 0 162 (dk_at dksX2_writePut_1 1 rfl rfl)
theorem dX2_writePut_28 : decode cX2_writePut 28 = .ok (.ifCond .eq 7, 3) := dk_153 0 7 (dk_at dksX2_writePut_1 4 rfl rfl)
theorem dX2_writePut_31 : decode cX2_writePut 31 = .ok (.iconst 1, 1) := dk_4 (dk_at dksX2_writePut_1 7 rfl rfl)
theorem dX2_writePut_32 : decode cX2_writePut 32 = .ok (.goto 4, 3) := dk_167 0 4 (dk_at dksX2_writePut_1 8 rfl rfl)
theorem dX2_writePut_35 : decode cX2_writePut 35 = .ok (.iconst 0, 1) := dk_3 (dk_at dksX2_writePut_1 11 rfl rfl)
theorem dX2_writePut_36 : decode cX2_writePut 36 = .ok (.invokevirtual 319, 3) := dk_182 1 63 (dk_at dksX2_writePut_1 12 rfl rfl)
theorem dX2_writePut_39 : decode cX2_writePut 39 = .ok (.aload_n 0, 1) := dk_42 (dk_at dksX2_writePut_1 15 rfl rfl)
theorem dX2_writePut_40 : decode cX2_writePut 40 = .ok (.iload_n 1, 1) := dk_27 (dk_at dksX2_writePut_1 16 rfl rfl)
theorem dX2_writePut_41 : decode cX2_writePut 41 = .ok (.iconst 1, 1) := dk_4 (dk_at dksX2_writePut_1 17 rfl rfl)
theorem dX2_writePut_42 : decode cX2_writePut 42 = .ok (.iadd, 1) := dk_96 (dk_at dksX2_writePut_1 18 rfl rfl)
theorem dX2_writePut_43 : decode cX2_writePut 43 = .ok (.aload_n 0, 1) := dk_42 (dk_at dksX2_writePut_1 19 rfl rfl)
theorem dX2_writePut_44 : decode cX2_writePut 44 = .ok (.getfield 24, 3) := dk_180 0 24 (dk_at dksX2_writePut_1 20 rfl rfl)
theorem dX2_writePut_47 : decode cX2_writePut 47 = .ok (.iload_n 1, 1) := dk_27 (dk_at dksX2_writePut_1 23 rfl rfl)
theorem dX2_writePut_48 : decode cX2_writePut 48 = .ok (.iconst 1, 1) := dk_4 (dk_at dksX2_writePut_2 0 rfl rfl)
theorem dX2_writePut_49 : decode cX2_writePut 49 = .ok (.iadd, 1) := dk_96 (dk_at dksX2_writePut_2 1 rfl rfl)
theorem dX2_writePut_50 : decode cX2_writePut 50 = .ok (.iaload, 1) := dk_46 (dk_at dksX2_writePut_2 2 rfl rfl)
theorem dX2_writePut_51 : decode cX2_writePut 51 = .ok (.invokestatic 162, 3) := dk_184 0 162 (dk_at dksX2_writePut_2 3 rfl rfl)
theorem dX2_writePut_54 : decode cX2_writePut 54 = .ok (.invokevirtual 319, 3) := dk_182 1 63 (dk_at dksX2_writePut_2 6 rfl rfl)
theorem dX2_writePut_57 : decode cX2_writePut 57 = .ok (.return_, 1) := dk_177 (dk_at dksX2_writePut_2 9 rfl rfl)
abbrev cX2_pushIn : ByteArray := prog_15_method_67_code
def yX2_pushIn : MethodName := ⟨RX2, "pushIn", "(IZ)V"⟩
def dkwX2_pushIn_1 : List UInt8 := [182, 0, 172, 177]
abbrev dktX2_pushIn_1 : List UInt8 := dkwX2_pushIn_1 ++ []
def dkwX2_pushIn_0 : List UInt8 := [28, 153, 0, 9, 42, 16, 215, 182, 0, 172, 42, 27, 182, 0, 172, 28, 153, 0, 9, 42, 16, 216]
abbrev dktX2_pushIn_0 : List UInt8 := dkwX2_pushIn_0 ++ dktX2_pushIn_1
theorem dksX2_pushIn_0 : cX2_pushIn.data.toList.drop 0 = dktX2_pushIn_0 := by decide +kernel
theorem dksX2_pushIn_1 : cX2_pushIn.data.toList.drop 22 = dktX2_pushIn_1 := dk_seg dksX2_pushIn_0 22 rfl rfl
theorem dX2_pushIn_0 : decode cX2_pushIn 0 = .ok (.iload_n 2, 1) := dk_28 (dk_at dksX2_pushIn_0 0 rfl rfl)
theorem dX2_pushIn_1 : decode cX2_pushIn 1 = .ok (.ifCond .eq 9, 3) := dk_153 0 9 (dk_at dksX2_pushIn_0 1 rfl rfl)
theorem dX2_pushIn_4 : decode cX2_pushIn 4 = .ok (.aload_n 0, 1) := dk_42 (dk_at dksX2_pushIn_0 4 rfl rfl)
theorem dX2_pushIn_5 : decode cX2_pushIn 5 = .ok (.bipush (-41), 2) := dk_16 215 (dk_at dksX2_pushIn_0 5 rfl rfl)
theorem dX2_pushIn_7 : decode cX2_pushIn 7 = .ok (.invokevirtual 172, 3) := dk_182 0 172 (dk_at dksX2_pushIn_0 7 rfl rfl)
theorem dX2_pushIn_10 : decode cX2_pushIn 10 = .ok (.aload_n 0, 1) := dk_42 (dk_at dksX2_pushIn_0 10 rfl rfl)
theorem dX2_pushIn_11 : decode cX2_pushIn 11 = .ok (.iload_n 1, 1) := dk_27 (dk_at dksX2_pushIn_0 11 rfl rfl)
theorem dX2_pushIn_12 : decode cX2_pushIn 12 = .ok (.invokevirtual 172, 3) := dk_182 0 172 (dk_at dksX2_pushIn_0 12 rfl rfl)
theorem dX2_pushIn_15 : decode cX2_pushIn 15 = .ok (.iload_n 2, 1) := dk_28 (dk_at dksX2_pushIn_0 15 rfl rfl)
theorem dX2_pushIn_16 : decode cX2_pushIn 16 = .ok (.ifCond .eq 9, 3) := dk_153 0 9 (dk_at dksX2_pushIn_0 16 rfl rfl)
theorem dX2_pushIn_19 : decode cX2_pushIn 19 = .ok (.aload_n 0, 1) := dk_42 (dk_at dksX2_pushIn_0 19 rfl rfl)
theorem dX2_pushIn_20 : decode cX2_pushIn 20 = .ok (.bipush (-40), 2) := dk_16 216 (dk_at dksX2_pushIn_0 20 rfl rfl)
theorem dX2_pushIn_22 : decode cX2_pushIn 22 = .ok (.invokevirtual 172, 3) := dk_182 0 172 (dk_at dksX2_pushIn_1 0 rfl rfl)
theorem dX2_pushIn_25 : decode cX2_pushIn 25 = .ok (.return_, 1) := dk_177 (dk_at dksX2_pushIn_1 3 rfl rfl)
abbrev cX2_letterOfSign : ByteArray := prog_15_method_66_code
def yX2_letterOfSign : MethodName := ⟨RX2, "letterOfSign", "(I)I"⟩
def dkwX2_letterOfSign_1 : List UInt8 := [160, 0, 8, 16, 83, 167, 0, 15, 26, 7, 160, 0, 8, 16, 66, 167, 0, 5, 16, 67, 172]
abbrev dktX2_letterOfSign_1 : List UInt8 := dkwX2_letterOfSign_1 ++ []
def dkwX2_letterOfSign_0 : List UInt8 := [26, 4, 160, 0, 8, 16, 73, 167, 0, 35, 26, 5, 160, 0, 8, 16, 75, 167, 0, 25, 26, 6]
abbrev dktX2_letterOfSign_0 : List UInt8 := dkwX2_letterOfSign_0 ++ dktX2_letterOfSign_1
theorem dksX2_letterOfSign_0 : cX2_letterOfSign.data.toList.drop 0 = dktX2_letterOfSign_0 := by decide +kernel
theorem dksX2_letterOfSign_1 : cX2_letterOfSign.data.toList.drop 22 = dktX2_letterOfSign_1 := dk_seg dksX2_letterOfSign_0 22 rfl rfl
theorem dX2_letterOfSign_0 : decode cX2_letterOfSign 0 = .ok (.iload_n 0, 1) := dk_26 (dk_at dksX2_letterOfSign_0 0 rfl rfl)
theorem dX2_letterOfSign_1 : decode cX2_letterOfSign 1 = .ok (.iconst 1, 1) := dk_4 (dk_at dksX2_letterOfSign_0 1 rfl rfl)
theorem dX2_letterOfSign_2 : decode cX2_letterOfSign 2 = .ok (.if_icmp .ne 8, 3) := dk_160 0 8 (dk_at dksX2_letterOfSign_0 2 rfl rfl)
theorem dX2_letterOfSign_5 : decode cX2_letterOfSign 5 = .ok (.bipush 73, 2) := dk_16 73 (dk_at dksX2_letterOfSign_0 5 rfl rfl)
theorem dX2_letterOfSign_7 : decode cX2_letterOfSign 7 = .ok (.goto 35, 3) := dk_167 0 35 (dk_at dksX2_letterOfSign_0 7 rfl rfl)
theorem dX2_letterOfSign_10 : decode cX2_letterOfSign 10 = .ok (.iload_n 0, 1) := dk_26 (dk_at dksX2_letterOfSign_0 10 rfl rfl)
theorem dX2_letterOfSign_11 : decode cX2_letterOfSign 11 = .ok (.iconst 2, 1) := dk_5 (dk_at dksX2_letterOfSign_0 11 rfl rfl)
theorem dX2_letterOfSign_12 : decode cX2_letterOfSign 12 = .ok (.if_icmp .ne 8, 3) := dk_160 0 8 (dk_at dksX2_letterOfSign_0 12 rfl rfl)
theorem dX2_letterOfSign_15 : decode cX2_letterOfSign 15 = .ok (.bipush 75, 2) := dk_16 75 (dk_at dksX2_letterOfSign_0 15 rfl rfl)
theorem dX2_letterOfSign_17 : decode cX2_letterOfSign 17 = .ok (.goto 25, 3) := dk_167 0 25 (dk_at dksX2_letterOfSign_0 17 rfl rfl)
theorem dX2_letterOfSign_20 : decode cX2_letterOfSign 20 = .ok (.iload_n 0, 1) := dk_26 (dk_at dksX2_letterOfSign_0 20 rfl rfl)
theorem dX2_letterOfSign_21 : decode cX2_letterOfSign 21 = .ok (.iconst 3, 1) := dk_6 (dk_at dksX2_letterOfSign_0 21 rfl rfl)
theorem dX2_letterOfSign_22 : decode cX2_letterOfSign 22 = .ok (.if_icmp .ne 8, 3) := dk_160 0 8 (dk_at dksX2_letterOfSign_1 0 rfl rfl)
theorem dX2_letterOfSign_25 : decode cX2_letterOfSign 25 = .ok (.bipush 83, 2) := dk_16 83 (dk_at dksX2_letterOfSign_1 3 rfl rfl)
theorem dX2_letterOfSign_27 : decode cX2_letterOfSign 27 = .ok (.goto 15, 3) := dk_167 0 15 (dk_at dksX2_letterOfSign_1 5 rfl rfl)
theorem dX2_letterOfSign_30 : decode cX2_letterOfSign 30 = .ok (.iload_n 0, 1) := dk_26 (dk_at dksX2_letterOfSign_1 8 rfl rfl)
theorem dX2_letterOfSign_31 : decode cX2_letterOfSign 31 = .ok (.iconst 4, 1) := dk_7 (dk_at dksX2_letterOfSign_1 9 rfl rfl)
theorem dX2_letterOfSign_32 : decode cX2_letterOfSign 32 = .ok (.if_icmp .ne 8, 3) := dk_160 0 8 (dk_at dksX2_letterOfSign_1 10 rfl rfl)
theorem dX2_letterOfSign_35 : decode cX2_letterOfSign 35 = .ok (.bipush 66, 2) := dk_16 66 (dk_at dksX2_letterOfSign_1 13 rfl rfl)
theorem dX2_letterOfSign_37 : decode cX2_letterOfSign 37 = .ok (.goto 5, 3) := dk_167 0 5 (dk_at dksX2_letterOfSign_1 15 rfl rfl)
theorem dX2_letterOfSign_40 : decode cX2_letterOfSign 40 = .ok (.bipush 67, 2) := dk_16 67 (dk_at dksX2_letterOfSign_1 18 rfl rfl)
theorem dX2_letterOfSign_42 : decode cX2_letterOfSign 42 = .ok (.ireturn, 1) := dk_172 (dk_at dksX2_letterOfSign_1 20 rfl rfl)
abbrev cX2_deepest : ByteArray := prog_15_method_72_code
def yX2_deepest : MethodName := ⟨RX2, "deepest", "()I"⟩
def dkwX2_deepest_3 : List UInt8 := [184, 0, 162, 153, 0, 10, 42, 29, 4, 96, 182, 0, 172, 132, 2, 1, 167, 255, 184, 27, 172]
abbrev dktX2_deepest_3 : List UInt8 := dkwX2_deepest_3 ++ []
def dkwX2_deepest_2 : List UInt8 := [42, 29, 4, 96, 182, 0, 172, 42, 29, 4, 96, 182, 0, 172, 167, 0, 22, 42, 180, 0, 24, 28, 46]
abbrev dktX2_deepest_2 : List UInt8 := dkwX2_deepest_2 ++ dktX2_deepest_3
def dkwX2_deepest_1 : List UInt8 := [182, 0, 175, 62, 29, 27, 164, 0, 7, 29, 167, 0, 4, 27, 60, 42, 180, 0, 24, 28, 46, 154, 0, 20]
abbrev dktX2_deepest_1 : List UInt8 := dkwX2_deepest_1 ++ dktX2_deepest_2
def dkwX2_deepest_0 : List UInt8 := [3, 60, 42, 3, 181, 0, 94, 42, 4, 182, 0, 172, 3, 61, 28, 42, 180, 0, 104, 162, 0, 70, 42]
abbrev dktX2_deepest_0 : List UInt8 := dkwX2_deepest_0 ++ dktX2_deepest_1
theorem dksX2_deepest_0 : cX2_deepest.data.toList.drop 0 = dktX2_deepest_0 := by decide +kernel
theorem dksX2_deepest_1 : cX2_deepest.data.toList.drop 23 = dktX2_deepest_1 := dk_seg dksX2_deepest_0 23 rfl rfl
theorem dksX2_deepest_2 : cX2_deepest.data.toList.drop 47 = dktX2_deepest_2 := dk_seg dksX2_deepest_1 24 rfl rfl
theorem dksX2_deepest_3 : cX2_deepest.data.toList.drop 70 = dktX2_deepest_3 := dk_seg dksX2_deepest_2 23 rfl rfl
theorem dX2_deepest_0 : decode cX2_deepest 0 = .ok (.iconst 0, 1) := dk_3 (dk_at dksX2_deepest_0 0 rfl rfl)
theorem dX2_deepest_1 : decode cX2_deepest 1 = .ok (.istore_n 1, 1) := dk_60 (dk_at dksX2_deepest_0 1 rfl rfl)
theorem dX2_deepest_2 : decode cX2_deepest 2 = .ok (.aload_n 0, 1) := dk_42 (dk_at dksX2_deepest_0 2 rfl rfl)
theorem dX2_deepest_3 : decode cX2_deepest 3 = .ok (.iconst 0, 1) := dk_3 (dk_at dksX2_deepest_0 3 rfl rfl)
theorem dX2_deepest_4 : decode cX2_deepest 4 = .ok (.putfield 94, 3) := dk_181 0 94 (dk_at dksX2_deepest_0 4 rfl rfl)
theorem dX2_deepest_7 : decode cX2_deepest 7 = .ok (.aload_n 0, 1) := dk_42 (dk_at dksX2_deepest_0 7 rfl rfl)
theorem dX2_deepest_8 : decode cX2_deepest 8 = .ok (.iconst 1, 1) := dk_4 (dk_at dksX2_deepest_0 8 rfl rfl)
theorem dX2_deepest_9 : decode cX2_deepest 9 = .ok (.invokevirtual 172, 3) := dk_182 0 172 (dk_at dksX2_deepest_0 9 rfl rfl)
theorem dX2_deepest_12 : decode cX2_deepest 12 = .ok (.iconst 0, 1) := dk_3 (dk_at dksX2_deepest_0 12 rfl rfl)
theorem dX2_deepest_13 : decode cX2_deepest 13 = .ok (.istore_n 2, 1) := dk_61 (dk_at dksX2_deepest_0 13 rfl rfl)
theorem dX2_deepest_14 : decode cX2_deepest 14 = .ok (.iload_n 2, 1) := dk_28 (dk_at dksX2_deepest_0 14 rfl rfl)
theorem dX2_deepest_15 : decode cX2_deepest 15 = .ok (.aload_n 0, 1) := dk_42 (dk_at dksX2_deepest_0 15 rfl rfl)
theorem dX2_deepest_16 : decode cX2_deepest 16 = .ok (.getfield 104, 3) := dk_180 0 104 (dk_at dksX2_deepest_0 16 rfl rfl)
theorem dX2_deepest_19 : decode cX2_deepest 19 = .ok (.if_icmp .ge 70, 3) := dk_162 0 70 (dk_at dksX2_deepest_0 19 rfl rfl)
theorem dX2_deepest_22 : decode cX2_deepest 22 = .ok (.aload_n 0, 1) := dk_42 (dk_at dksX2_deepest_0 22 rfl rfl)
theorem dX2_deepest_23 : decode cX2_deepest 23 = .ok (.invokevirtual 175, 3) := dk_182 0 175 (dk_at dksX2_deepest_1 0 rfl rfl)
theorem dX2_deepest_26 : decode cX2_deepest 26 = .ok (.istore_n 3, 1) := dk_62 (dk_at dksX2_deepest_1 3 rfl rfl)
theorem dX2_deepest_27 : decode cX2_deepest 27 = .ok (.iload_n 3, 1) := dk_29 (dk_at dksX2_deepest_1 4 rfl rfl)
theorem dX2_deepest_28 : decode cX2_deepest 28 = .ok (.iload_n 1, 1) := dk_27 (dk_at dksX2_deepest_1 5 rfl rfl)
theorem dX2_deepest_29 : decode cX2_deepest 29 = .ok (.if_icmp .le 7, 3) := dk_164 0 7 (dk_at dksX2_deepest_1 6 rfl rfl)
theorem dX2_deepest_32 : decode cX2_deepest 32 = .ok (.iload_n 3, 1) := dk_29 (dk_at dksX2_deepest_1 9 rfl rfl)
theorem dX2_deepest_33 : decode cX2_deepest 33 = .ok (.goto 4, 3) := dk_167 0 4 (dk_at dksX2_deepest_1 10 rfl rfl)
theorem dX2_deepest_36 : decode cX2_deepest 36 = .ok (.iload_n 1, 1) := dk_27 (dk_at dksX2_deepest_1 13 rfl rfl)
theorem dX2_deepest_37 : decode cX2_deepest 37 = .ok (.istore_n 1, 1) := dk_60 (dk_at dksX2_deepest_1 14 rfl rfl)
theorem dX2_deepest_38 : decode cX2_deepest 38 = .ok (.aload_n 0, 1) := dk_42 (dk_at dksX2_deepest_1 15 rfl rfl)
theorem dX2_deepest_39 : decode cX2_deepest 39 = .ok (.getfield 24, 3) := dk_180 0 24 (dk_at dksX2_deepest_1 16 rfl rfl)
theorem dX2_deepest_42 : decode cX2_deepest 42 = .ok (.iload_n 2, 1) := dk_28 (dk_at dksX2_deepest_1 19 rfl rfl)
theorem dX2_deepest_43 : decode cX2_deepest 43 = .ok (.iaload, 1) := dk_46 (dk_at dksX2_deepest_1 20 rfl rfl)
theorem dX2_deepest_44 : decode cX2_deepest 44 = .ok (.ifCond .ne 20, 3) := dk_154 0 20 (dk_at dksX2_deepest_1 21 rfl rfl)
theorem dX2_deepest_47 : decode cX2_deepest 47 = .ok (.aload_n 0, 1) := dk_42 (dk_at dksX2_deepest_2 0 rfl rfl)
theorem dX2_deepest_48 : decode cX2_deepest 48 = .ok (.iload_n 3, 1) := dk_29 (dk_at dksX2_deepest_2 1 rfl rfl)
theorem dX2_deepest_49 : decode cX2_deepest 49 = .ok (.iconst 1, 1) := dk_4 (dk_at dksX2_deepest_2 2 rfl rfl)
theorem dX2_deepest_50 : decode cX2_deepest 50 = .ok (.iadd, 1) := dk_96 (dk_at dksX2_deepest_2 3 rfl rfl)
theorem dX2_deepest_51 : decode cX2_deepest 51 = .ok (.invokevirtual 172, 3) := dk_182 0 172 (dk_at dksX2_deepest_2 4 rfl rfl)
theorem dX2_deepest_54 : decode cX2_deepest 54 = .ok (.aload_n 0, 1) := dk_42 (dk_at dksX2_deepest_2 7 rfl rfl)
theorem dX2_deepest_55 : decode cX2_deepest 55 = .ok (.iload_n 3, 1) := dk_29 (dk_at dksX2_deepest_2 8 rfl rfl)
theorem dX2_deepest_56 : decode cX2_deepest 56 = .ok (.iconst 1, 1) := dk_4 (dk_at dksX2_deepest_2 9 rfl rfl)
theorem dX2_deepest_57 : decode cX2_deepest 57 = .ok (.iadd, 1) := dk_96 (dk_at dksX2_deepest_2 10 rfl rfl)
theorem dX2_deepest_58 : decode cX2_deepest 58 = .ok (.invokevirtual 172, 3) := dk_182 0 172 (dk_at dksX2_deepest_2 11 rfl rfl)
theorem dX2_deepest_61 : decode cX2_deepest 61 = .ok (.goto 22, 3) := dk_167 0 22 (dk_at dksX2_deepest_2 14 rfl rfl)
theorem dX2_deepest_64 : decode cX2_deepest 64 = .ok (.aload_n 0, 1) := dk_42 (dk_at dksX2_deepest_2 17 rfl rfl)
theorem dX2_deepest_65 : decode cX2_deepest 65 = .ok (.getfield 24, 3) := dk_180 0 24 (dk_at dksX2_deepest_2 18 rfl rfl)
theorem dX2_deepest_68 : decode cX2_deepest 68 = .ok (.iload_n 2, 1) := dk_28 (dk_at dksX2_deepest_2 21 rfl rfl)
theorem dX2_deepest_69 : decode cX2_deepest 69 = .ok (.iaload, 1) := dk_46 (dk_at dksX2_deepest_2 22 rfl rfl)
theorem dX2_deepest_70 : decode cX2_deepest 70 = .ok (.invokestatic 162, 3) := dk_184 0 162 (dk_at dksX2_deepest_3 0 rfl rfl)
theorem dX2_deepest_73 : decode cX2_deepest 73 = .ok (.ifCond .eq 10, 3) := dk_153 0 10 (dk_at dksX2_deepest_3 3 rfl rfl)
theorem dX2_deepest_76 : decode cX2_deepest 76 = .ok (.aload_n 0, 1) := dk_42 (dk_at dksX2_deepest_3 6 rfl rfl)
theorem dX2_deepest_77 : decode cX2_deepest 77 = .ok (.iload_n 3, 1) := dk_29 (dk_at dksX2_deepest_3 7 rfl rfl)
theorem dX2_deepest_78 : decode cX2_deepest 78 = .ok (.iconst 1, 1) := dk_4 (dk_at dksX2_deepest_3 8 rfl rfl)
theorem dX2_deepest_79 : decode cX2_deepest 79 = .ok (.iadd, 1) := dk_96 (dk_at dksX2_deepest_3 9 rfl rfl)
theorem dX2_deepest_80 : decode cX2_deepest 80 = .ok (.invokevirtual 172, 3) := dk_182 0 172 (dk_at dksX2_deepest_3 10 rfl rfl)
theorem dX2_deepest_83 : decode cX2_deepest 83 = .ok (.iinc 2 1, 3) := dk_132 2 1 (dk_at dksX2_deepest_3 13 rfl rfl)
theorem dX2_deepest_86 : decode cX2_deepest 86 = .ok (.goto (-72), 3) := dk_167 255 184 (dk_at dksX2_deepest_3 16 rfl rfl)
theorem dX2_deepest_89 : decode cX2_deepest 89 = .ok (.iload_n 1, 1) := dk_27 (dk_at dksX2_deepest_3 19 rfl rfl)
theorem dX2_deepest_90 : decode cX2_deepest 90 = .ok (.ireturn, 1) := dk_172 (dk_at dksX2_deepest_3 20 rfl rfl)
abbrev cX2_kindOf : ByteArray := prog_15_method_62_code
def yX2_kindOf : MethodName := ⟨RX2, "kindOf", "(I)I"⟩
def dkwX2_kindOf_9 : List UInt8 := [167, 255, 134, 42, 182, 0, 175, 61, 42, 182, 1, 45, 153, 0, 7, 28, 167, 0, 4, 2, 172]
abbrev dktX2_kindOf_9 : List UInt8 := dkwX2_kindOf_9 ++ []
def dkwX2_kindOf_8 : List UInt8 := [182, 1, 39, 167, 0, 13, 42, 42, 180, 0, 24, 28, 46, 182, 1, 42, 182, 0, 172, 132, 2, 255]
abbrev dktX2_kindOf_8 : List UInt8 := dkwX2_kindOf_8 ++ dktX2_kindOf_9
def dkwX2_kindOf_7 : List UInt8 := [182, 1, 27, 182, 0, 172, 167, 0, 37, 42, 42, 180, 0, 24, 28, 46, 184, 0, 134, 153, 0, 11, 42, 28]
abbrev dktX2_kindOf_7 : List UInt8 := dkwX2_kindOf_7 ++ dktX2_kindOf_8
def dkwX2_kindOf_6 : List UInt8 := [42, 180, 0, 24, 28, 46, 184, 0, 162, 153, 0, 24, 42, 42, 42, 180, 0, 69, 28, 46, 42, 182, 0, 175]
abbrev dktX2_kindOf_6 : List UInt8 := dkwX2_kindOf_6 ++ dktX2_kindOf_7
def dkwX2_kindOf_5 : List UInt8 := [54, 5, 42, 29, 42, 21, 4, 21, 5, 182, 1, 27, 182, 1, 36, 42, 21, 5, 182, 0, 172, 167, 0, 70]
abbrev dktX2_kindOf_5 : List UInt8 := dkwX2_kindOf_5 ++ dktX2_kindOf_6
def dkwX2_kindOf_4 : List UInt8 := [180, 0, 24, 28, 46, 154, 0, 42, 42, 182, 0, 175, 62, 42, 182, 0, 175, 54, 4, 42, 182, 1, 30]
abbrev dktX2_kindOf_4 : List UInt8 := dkwX2_kindOf_4 ++ dktX2_kindOf_5
def dkwX2_kindOf_3 : List UInt8 := [167, 0, 4, 3, 79, 132, 2, 1, 167, 255, 219, 42, 180, 0, 104, 4, 100, 61, 28, 155, 0, 124, 42]
abbrev dktX2_kindOf_3 : List UInt8 := dkwX2_kindOf_3 ++ dktX2_kindOf_4
def dkwX2_kindOf_2 : List UInt8 := [162, 0, 35, 42, 180, 0, 69, 28, 42, 180, 0, 24, 28, 46, 184, 0, 162, 153, 0, 10, 42, 182, 1, 30]
abbrev dktX2_kindOf_2 : List UInt8 := dkwX2_kindOf_2 ++ dktX2_kindOf_3
def dkwX2_kindOf_1 : List UInt8 := [180, 0, 66, 28, 42, 182, 1, 30, 79, 132, 2, 1, 167, 255, 237, 3, 61, 28, 42, 180, 0, 104]
abbrev dktX2_kindOf_1 : List UInt8 := dkwX2_kindOf_1 ++ dktX2_kindOf_2
def dkwX2_kindOf_0 : List UInt8 := [42, 27, 182, 0, 196, 42, 3, 181, 1, 24, 42, 3, 181, 0, 94, 3, 61, 28, 16, 26, 162, 0, 19, 42]
abbrev dktX2_kindOf_0 : List UInt8 := dkwX2_kindOf_0 ++ dktX2_kindOf_1
theorem dksX2_kindOf_0 : cX2_kindOf.data.toList.drop 0 = dktX2_kindOf_0 := by decide +kernel
theorem dksX2_kindOf_1 : cX2_kindOf.data.toList.drop 24 = dktX2_kindOf_1 := dk_seg dksX2_kindOf_0 24 rfl rfl
theorem dksX2_kindOf_2 : cX2_kindOf.data.toList.drop 46 = dktX2_kindOf_2 := dk_seg dksX2_kindOf_1 22 rfl rfl
theorem dksX2_kindOf_3 : cX2_kindOf.data.toList.drop 70 = dktX2_kindOf_3 := dk_seg dksX2_kindOf_2 24 rfl rfl
theorem dksX2_kindOf_4 : cX2_kindOf.data.toList.drop 93 = dktX2_kindOf_4 := dk_seg dksX2_kindOf_3 23 rfl rfl
theorem dksX2_kindOf_5 : cX2_kindOf.data.toList.drop 116 = dktX2_kindOf_5 := dk_seg dksX2_kindOf_4 23 rfl rfl
theorem dksX2_kindOf_6 : cX2_kindOf.data.toList.drop 140 = dktX2_kindOf_6 := dk_seg dksX2_kindOf_5 24 rfl rfl
theorem dksX2_kindOf_7 : cX2_kindOf.data.toList.drop 164 = dktX2_kindOf_7 := dk_seg dksX2_kindOf_6 24 rfl rfl
theorem dksX2_kindOf_8 : cX2_kindOf.data.toList.drop 188 = dktX2_kindOf_8 := dk_seg dksX2_kindOf_7 24 rfl rfl
theorem dksX2_kindOf_9 : cX2_kindOf.data.toList.drop 210 = dktX2_kindOf_9 := dk_seg dksX2_kindOf_8 22 rfl rfl
theorem dX2_kindOf_0 : decode cX2_kindOf 0 = .ok (.aload_n 0, 1) := dk_42 (dk_at dksX2_kindOf_0 0 rfl rfl)
theorem dX2_kindOf_1 : decode cX2_kindOf 1 = .ok (.iload_n 1, 1) := dk_27 (dk_at dksX2_kindOf_0 1 rfl rfl)
theorem dX2_kindOf_2 : decode cX2_kindOf 2 = .ok (.invokevirtual 196, 3) := dk_182 0 196 (dk_at dksX2_kindOf_0 2 rfl rfl)
theorem dX2_kindOf_5 : decode cX2_kindOf 5 = .ok (.aload_n 0, 1) := dk_42 (dk_at dksX2_kindOf_0 5 rfl rfl)
theorem dX2_kindOf_6 : decode cX2_kindOf 6 = .ok (.iconst 0, 1) := dk_3 (dk_at dksX2_kindOf_0 6 rfl rfl)
theorem dX2_kindOf_7 : decode cX2_kindOf 7 = .ok (.putfield 280, 3) := dk_181 1 24 (dk_at dksX2_kindOf_0 7 rfl rfl)
theorem dX2_kindOf_10 : decode cX2_kindOf 10 = .ok (.aload_n 0, 1) := dk_42 (dk_at dksX2_kindOf_0 10 rfl rfl)
theorem dX2_kindOf_11 : decode cX2_kindOf 11 = .ok (.iconst 0, 1) := dk_3 (dk_at dksX2_kindOf_0 11 rfl rfl)
theorem dX2_kindOf_12 : decode cX2_kindOf 12 = .ok (.putfield 94, 3) := dk_181 0 94 (dk_at dksX2_kindOf_0 12 rfl rfl)
theorem dX2_kindOf_15 : decode cX2_kindOf 15 = .ok (.iconst 0, 1) := dk_3 (dk_at dksX2_kindOf_0 15 rfl rfl)
theorem dX2_kindOf_16 : decode cX2_kindOf 16 = .ok (.istore_n 2, 1) := dk_61 (dk_at dksX2_kindOf_0 16 rfl rfl)
theorem dX2_kindOf_17 : decode cX2_kindOf 17 = .ok (.iload_n 2, 1) := dk_28 (dk_at dksX2_kindOf_0 17 rfl rfl)
theorem dX2_kindOf_18 : decode cX2_kindOf 18 = .ok (.bipush 26, 2) := dk_16 26 (dk_at dksX2_kindOf_0 18 rfl rfl)
theorem dX2_kindOf_20 : decode cX2_kindOf 20 = .ok (.if_icmp .ge 19, 3) := dk_162 0 19 (dk_at dksX2_kindOf_0 20 rfl rfl)
theorem dX2_kindOf_23 : decode cX2_kindOf 23 = .ok (.aload_n 0, 1) := dk_42 (dk_at dksX2_kindOf_0 23 rfl rfl)
theorem dX2_kindOf_24 : decode cX2_kindOf 24 = .ok (.getfield 66, 3) := dk_180 0 66 (dk_at dksX2_kindOf_1 0 rfl rfl)
theorem dX2_kindOf_27 : decode cX2_kindOf 27 = .ok (.iload_n 2, 1) := dk_28 (dk_at dksX2_kindOf_1 3 rfl rfl)
theorem dX2_kindOf_28 : decode cX2_kindOf 28 = .ok (.aload_n 0, 1) := dk_42 (dk_at dksX2_kindOf_1 4 rfl rfl)
theorem dX2_kindOf_29 : decode cX2_kindOf 29 = .ok (.invokevirtual 286, 3) := dk_182 1 30 (dk_at dksX2_kindOf_1 5 rfl rfl)
theorem dX2_kindOf_32 : decode cX2_kindOf 32 = .ok (.iastore, 1) := dk_79 (dk_at dksX2_kindOf_1 8 rfl rfl)
theorem dX2_kindOf_33 : decode cX2_kindOf 33 = .ok (.iinc 2 1, 3) := dk_132 2 1 (dk_at dksX2_kindOf_1 9 rfl rfl)
theorem dX2_kindOf_36 : decode cX2_kindOf 36 = .ok (.goto (-19), 3) := dk_167 255 237 (dk_at dksX2_kindOf_1 12 rfl rfl)
theorem dX2_kindOf_39 : decode cX2_kindOf 39 = .ok (.iconst 0, 1) := dk_3 (dk_at dksX2_kindOf_1 15 rfl rfl)
theorem dX2_kindOf_40 : decode cX2_kindOf 40 = .ok (.istore_n 2, 1) := dk_61 (dk_at dksX2_kindOf_1 16 rfl rfl)
theorem dX2_kindOf_41 : decode cX2_kindOf 41 = .ok (.iload_n 2, 1) := dk_28 (dk_at dksX2_kindOf_1 17 rfl rfl)
theorem dX2_kindOf_42 : decode cX2_kindOf 42 = .ok (.aload_n 0, 1) := dk_42 (dk_at dksX2_kindOf_1 18 rfl rfl)
theorem dX2_kindOf_43 : decode cX2_kindOf 43 = .ok (.getfield 104, 3) := dk_180 0 104 (dk_at dksX2_kindOf_1 19 rfl rfl)
theorem dX2_kindOf_46 : decode cX2_kindOf 46 = .ok (.if_icmp .ge 35, 3) := dk_162 0 35 (dk_at dksX2_kindOf_2 0 rfl rfl)
theorem dX2_kindOf_49 : decode cX2_kindOf 49 = .ok (.aload_n 0, 1) := dk_42 (dk_at dksX2_kindOf_2 3 rfl rfl)
theorem dX2_kindOf_50 : decode cX2_kindOf 50 = .ok (.getfield 69, 3) := dk_180 0 69 (dk_at dksX2_kindOf_2 4 rfl rfl)
theorem dX2_kindOf_53 : decode cX2_kindOf 53 = .ok (.iload_n 2, 1) := dk_28 (dk_at dksX2_kindOf_2 7 rfl rfl)
theorem dX2_kindOf_54 : decode cX2_kindOf 54 = .ok (.aload_n 0, 1) := dk_42 (dk_at dksX2_kindOf_2 8 rfl rfl)
theorem dX2_kindOf_55 : decode cX2_kindOf 55 = .ok (.getfield 24, 3) := dk_180 0 24 (dk_at dksX2_kindOf_2 9 rfl rfl)
theorem dX2_kindOf_58 : decode cX2_kindOf 58 = .ok (.iload_n 2, 1) := dk_28 (dk_at dksX2_kindOf_2 12 rfl rfl)
theorem dX2_kindOf_59 : decode cX2_kindOf 59 = .ok (.iaload, 1) := dk_46 (dk_at dksX2_kindOf_2 13 rfl rfl)
theorem dX2_kindOf_60 : decode cX2_kindOf 60 = .ok (.invokestatic 162, 3) := dk_184 0 162 (dk_at dksX2_kindOf_2 14 rfl rfl)
theorem dX2_kindOf_63 : decode cX2_kindOf 63 = .ok (.ifCond .eq 10, 3) := dk_153 0 10 (dk_at dksX2_kindOf_2 17 rfl rfl)
theorem dX2_kindOf_66 : decode cX2_kindOf 66 = .ok (.aload_n 0, 1) := dk_42 (dk_at dksX2_kindOf_2 20 rfl rfl)
theorem dX2_kindOf_67 : decode cX2_kindOf 67 = .ok (.invokevirtual 286, 3) := dk_182 1 30 (dk_at dksX2_kindOf_2 21 rfl rfl)
theorem dX2_kindOf_70 : decode cX2_kindOf 70 = .ok (.goto 4, 3) := dk_167 0 4 (dk_at dksX2_kindOf_3 0 rfl rfl)
theorem dX2_kindOf_73 : decode cX2_kindOf 73 = .ok (.iconst 0, 1) := dk_3 (dk_at dksX2_kindOf_3 3 rfl rfl)
theorem dX2_kindOf_74 : decode cX2_kindOf 74 = .ok (.iastore, 1) := dk_79 (dk_at dksX2_kindOf_3 4 rfl rfl)
theorem dX2_kindOf_75 : decode cX2_kindOf 75 = .ok (.iinc 2 1, 3) := dk_132 2 1 (dk_at dksX2_kindOf_3 5 rfl rfl)
theorem dX2_kindOf_78 : decode cX2_kindOf 78 = .ok (.goto (-37), 3) := dk_167 255 219 (dk_at dksX2_kindOf_3 8 rfl rfl)
theorem dX2_kindOf_81 : decode cX2_kindOf 81 = .ok (.aload_n 0, 1) := dk_42 (dk_at dksX2_kindOf_3 11 rfl rfl)
theorem dX2_kindOf_82 : decode cX2_kindOf 82 = .ok (.getfield 104, 3) := dk_180 0 104 (dk_at dksX2_kindOf_3 12 rfl rfl)
theorem dX2_kindOf_85 : decode cX2_kindOf 85 = .ok (.iconst 1, 1) := dk_4 (dk_at dksX2_kindOf_3 15 rfl rfl)
theorem dX2_kindOf_86 : decode cX2_kindOf 86 = .ok (.isub, 1) := dk_100 (dk_at dksX2_kindOf_3 16 rfl rfl)
theorem dX2_kindOf_87 : decode cX2_kindOf 87 = .ok (.istore_n 2, 1) := dk_61 (dk_at dksX2_kindOf_3 17 rfl rfl)
theorem dX2_kindOf_88 : decode cX2_kindOf 88 = .ok (.iload_n 2, 1) := dk_28 (dk_at dksX2_kindOf_3 18 rfl rfl)
theorem dX2_kindOf_89 : decode cX2_kindOf 89 = .ok (.ifCond .lt 124, 3) := dk_155 0 124 (dk_at dksX2_kindOf_3 19 rfl rfl)
theorem dX2_kindOf_92 : decode cX2_kindOf 92 = .ok (.aload_n 0, 1) := dk_42 (dk_at dksX2_kindOf_3 22 rfl rfl)
theorem dX2_kindOf_93 : decode cX2_kindOf 93 = .ok (.getfield 24, 3) := dk_180 0 24 (dk_at dksX2_kindOf_4 0 rfl rfl)
theorem dX2_kindOf_96 : decode cX2_kindOf 96 = .ok (.iload_n 2, 1) := dk_28 (dk_at dksX2_kindOf_4 3 rfl rfl)
theorem dX2_kindOf_97 : decode cX2_kindOf 97 = .ok (.iaload, 1) := dk_46 (dk_at dksX2_kindOf_4 4 rfl rfl)
theorem dX2_kindOf_98 : decode cX2_kindOf 98 = .ok (.ifCond .ne 42, 3) := dk_154 0 42 (dk_at dksX2_kindOf_4 5 rfl rfl)
theorem dX2_kindOf_101 : decode cX2_kindOf 101 = .ok (.aload_n 0, 1) := dk_42 (dk_at dksX2_kindOf_4 8 rfl rfl)
theorem dX2_kindOf_102 : decode cX2_kindOf 102 = .ok (.invokevirtual 175, 3) := dk_182 0 175 (dk_at dksX2_kindOf_4 9 rfl rfl)
theorem dX2_kindOf_105 : decode cX2_kindOf 105 = .ok (.istore_n 3, 1) := dk_62 (dk_at dksX2_kindOf_4 12 rfl rfl)
theorem dX2_kindOf_106 : decode cX2_kindOf 106 = .ok (.aload_n 0, 1) := dk_42 (dk_at dksX2_kindOf_4 13 rfl rfl)
theorem dX2_kindOf_107 : decode cX2_kindOf 107 = .ok (.invokevirtual 175, 3) := dk_182 0 175 (dk_at dksX2_kindOf_4 14 rfl rfl)
theorem dX2_kindOf_110 : decode cX2_kindOf 110 = .ok (.istore 4, 2) := dk_54 4 (dk_at dksX2_kindOf_4 17 rfl rfl)
theorem dX2_kindOf_112 : decode cX2_kindOf 112 = .ok (.aload_n 0, 1) := dk_42 (dk_at dksX2_kindOf_4 19 rfl rfl)
theorem dX2_kindOf_113 : decode cX2_kindOf 113 = .ok (.invokevirtual 286, 3) := dk_182 1 30 (dk_at dksX2_kindOf_4 20 rfl rfl)
theorem dX2_kindOf_116 : decode cX2_kindOf 116 = .ok (.istore 5, 2) := dk_54 5 (dk_at dksX2_kindOf_5 0 rfl rfl)
theorem dX2_kindOf_118 : decode cX2_kindOf 118 = .ok (.aload_n 0, 1) := dk_42 (dk_at dksX2_kindOf_5 2 rfl rfl)
theorem dX2_kindOf_119 : decode cX2_kindOf 119 = .ok (.iload_n 3, 1) := dk_29 (dk_at dksX2_kindOf_5 3 rfl rfl)
theorem dX2_kindOf_120 : decode cX2_kindOf 120 = .ok (.aload_n 0, 1) := dk_42 (dk_at dksX2_kindOf_5 4 rfl rfl)
theorem dX2_kindOf_121 : decode cX2_kindOf 121 = .ok (.iload 4, 2) := dk_21 4 (dk_at dksX2_kindOf_5 5 rfl rfl)
theorem dX2_kindOf_123 : decode cX2_kindOf 123 = .ok (.iload 5, 2) := dk_21 5 (dk_at dksX2_kindOf_5 7 rfl rfl)
theorem dX2_kindOf_125 : decode cX2_kindOf 125 = .ok (.invokevirtual 283, 3) := dk_182 1 27 (dk_at dksX2_kindOf_5 9 rfl rfl)
theorem dX2_kindOf_128 : decode cX2_kindOf 128 = .ok (.invokevirtual 292, 3) := dk_182 1 36 (dk_at dksX2_kindOf_5 12 rfl rfl)
theorem dX2_kindOf_131 : decode cX2_kindOf 131 = .ok (.aload_n 0, 1) := dk_42 (dk_at dksX2_kindOf_5 15 rfl rfl)
theorem dX2_kindOf_132 : decode cX2_kindOf 132 = .ok (.iload 5, 2) := dk_21 5 (dk_at dksX2_kindOf_5 16 rfl rfl)
theorem dX2_kindOf_134 : decode cX2_kindOf 134 = .ok (.invokevirtual 172, 3) := dk_182 0 172 (dk_at dksX2_kindOf_5 18 rfl rfl)
theorem dX2_kindOf_137 : decode cX2_kindOf 137 = .ok (.goto 70, 3) := dk_167 0 70 (dk_at dksX2_kindOf_5 21 rfl rfl)
theorem dX2_kindOf_140 : decode cX2_kindOf 140 = .ok (.aload_n 0, 1) := dk_42 (dk_at dksX2_kindOf_6 0 rfl rfl)
theorem dX2_kindOf_141 : decode cX2_kindOf 141 = .ok (.getfield 24, 3) := dk_180 0 24 (dk_at dksX2_kindOf_6 1 rfl rfl)
theorem dX2_kindOf_144 : decode cX2_kindOf 144 = .ok (.iload_n 2, 1) := dk_28 (dk_at dksX2_kindOf_6 4 rfl rfl)
theorem dX2_kindOf_145 : decode cX2_kindOf 145 = .ok (.iaload, 1) := dk_46 (dk_at dksX2_kindOf_6 5 rfl rfl)
theorem dX2_kindOf_146 : decode cX2_kindOf 146 = .ok (.invokestatic 162, 3) := dk_184 0 162 (dk_at dksX2_kindOf_6 6 rfl rfl)
theorem dX2_kindOf_149 : decode cX2_kindOf 149 = .ok (.ifCond .eq 24, 3) := dk_153 0 24 (dk_at dksX2_kindOf_6 9 rfl rfl)
theorem dX2_kindOf_152 : decode cX2_kindOf 152 = .ok (.aload_n 0, 1) := dk_42 (dk_at dksX2_kindOf_6 12 rfl rfl)
theorem dX2_kindOf_153 : decode cX2_kindOf 153 = .ok (.aload_n 0, 1) := dk_42 (dk_at dksX2_kindOf_6 13 rfl rfl)
theorem dX2_kindOf_154 : decode cX2_kindOf 154 = .ok (.aload_n 0, 1) := dk_42 (dk_at dksX2_kindOf_6 14 rfl rfl)
theorem dX2_kindOf_155 : decode cX2_kindOf 155 = .ok (.getfield 69, 3) := dk_180 0 69 (dk_at dksX2_kindOf_6 15 rfl rfl)
theorem dX2_kindOf_158 : decode cX2_kindOf 158 = .ok (.iload_n 2, 1) := dk_28 (dk_at dksX2_kindOf_6 18 rfl rfl)
theorem dX2_kindOf_159 : decode cX2_kindOf 159 = .ok (.iaload, 1) := dk_46 (dk_at dksX2_kindOf_6 19 rfl rfl)
theorem dX2_kindOf_160 : decode cX2_kindOf 160 = .ok (.aload_n 0, 1) := dk_42 (dk_at dksX2_kindOf_6 20 rfl rfl)
theorem dX2_kindOf_161 : decode cX2_kindOf 161 = .ok (.invokevirtual 175, 3) := dk_182 0 175 (dk_at dksX2_kindOf_6 21 rfl rfl)
theorem dX2_kindOf_164 : decode cX2_kindOf 164 = .ok (.invokevirtual 283, 3) := dk_182 1 27 (dk_at dksX2_kindOf_7 0 rfl rfl)
theorem dX2_kindOf_167 : decode cX2_kindOf 167 = .ok (.invokevirtual 172, 3) := dk_182 0 172 (dk_at dksX2_kindOf_7 3 rfl rfl)
theorem dX2_kindOf_170 : decode cX2_kindOf 170 = .ok (.goto 37, 3) := dk_167 0 37 (dk_at dksX2_kindOf_7 6 rfl rfl)
theorem dX2_kindOf_173 : decode cX2_kindOf 173 = .ok (.aload_n 0, 1) := dk_42 (dk_at dksX2_kindOf_7 9 rfl rfl)
theorem dX2_kindOf_174 : decode cX2_kindOf 174 = .ok (.aload_n 0, 1) := dk_42 (dk_at dksX2_kindOf_7 10 rfl rfl)
theorem dX2_kindOf_175 : decode cX2_kindOf 175 = .ok (.getfield 24, 3) := dk_180 0 24 (dk_at dksX2_kindOf_7 11 rfl rfl)
theorem dX2_kindOf_178 : decode cX2_kindOf 178 = .ok (.iload_n 2, 1) := dk_28 (dk_at dksX2_kindOf_7 14 rfl rfl)
theorem dX2_kindOf_179 : decode cX2_kindOf 179 = .ok (.iaload, 1) := dk_46 (dk_at dksX2_kindOf_7 15 rfl rfl)
theorem dX2_kindOf_180 : decode cX2_kindOf 180 = .ok (.invokestatic 134, 3) := dk_184 0 134 (dk_at dksX2_kindOf_7 16 rfl rfl)
theorem dX2_kindOf_183 : decode cX2_kindOf 183 = .ok (.ifCond .eq 11, 3) := dk_153 0 11 (dk_at dksX2_kindOf_7 19 rfl rfl)
theorem dX2_kindOf_186 : decode cX2_kindOf 186 = .ok (.aload_n 0, 1) := dk_42 (dk_at dksX2_kindOf_7 22 rfl rfl)
theorem dX2_kindOf_187 : decode cX2_kindOf 187 = .ok (.iload_n 2, 1) := dk_28 (dk_at dksX2_kindOf_7 23 rfl rfl)
theorem dX2_kindOf_188 : decode cX2_kindOf 188 = .ok (.invokevirtual 295, 3) := dk_182 1 39 (dk_at dksX2_kindOf_8 0 rfl rfl)
theorem dX2_kindOf_191 : decode cX2_kindOf 191 = .ok (.goto 13, 3) := dk_167 0 13 (dk_at dksX2_kindOf_8 3 rfl rfl)
theorem dX2_kindOf_194 : decode cX2_kindOf 194 = .ok (.aload_n 0, 1) := dk_42 (dk_at dksX2_kindOf_8 6 rfl rfl)
theorem dX2_kindOf_195 : decode cX2_kindOf 195 = .ok (.aload_n 0, 1) := dk_42 (dk_at dksX2_kindOf_8 7 rfl rfl)
theorem dX2_kindOf_196 : decode cX2_kindOf 196 = .ok (.getfield 24, 3) := dk_180 0 24 (dk_at dksX2_kindOf_8 8 rfl rfl)
theorem dX2_kindOf_199 : decode cX2_kindOf 199 = .ok (.iload_n 2, 1) := dk_28 (dk_at dksX2_kindOf_8 11 rfl rfl)
theorem dX2_kindOf_200 : decode cX2_kindOf 200 = .ok (.iaload, 1) := dk_46 (dk_at dksX2_kindOf_8 12 rfl rfl)
theorem dX2_kindOf_201 : decode cX2_kindOf 201 = .ok (.invokevirtual 298, 3) := dk_182 1 42 (dk_at dksX2_kindOf_8 13 rfl rfl)
theorem dX2_kindOf_204 : decode cX2_kindOf 204 = .ok (.invokevirtual 172, 3) := dk_182 0 172 (dk_at dksX2_kindOf_8 16 rfl rfl)
theorem dX2_kindOf_207 : decode cX2_kindOf 207 = .ok (.iinc 2 (-1), 3) := dk_132 2 255 (dk_at dksX2_kindOf_8 19 rfl rfl)
theorem dX2_kindOf_210 : decode cX2_kindOf 210 = .ok (.goto (-122), 3) := dk_167 255 134 (dk_at dksX2_kindOf_9 0 rfl rfl)
theorem dX2_kindOf_213 : decode cX2_kindOf 213 = .ok (.aload_n 0, 1) := dk_42 (dk_at dksX2_kindOf_9 3 rfl rfl)
theorem dX2_kindOf_214 : decode cX2_kindOf 214 = .ok (.invokevirtual 175, 3) := dk_182 0 175 (dk_at dksX2_kindOf_9 4 rfl rfl)
theorem dX2_kindOf_217 : decode cX2_kindOf 217 = .ok (.istore_n 2, 1) := dk_61 (dk_at dksX2_kindOf_9 7 rfl rfl)
theorem dX2_kindOf_218 : decode cX2_kindOf 218 = .ok (.aload_n 0, 1) := dk_42 (dk_at dksX2_kindOf_9 8 rfl rfl)
theorem dX2_kindOf_219 : decode cX2_kindOf 219 = .ok (.invokevirtual 301, 3) := dk_182 1 45 (dk_at dksX2_kindOf_9 9 rfl rfl)
theorem dX2_kindOf_222 : decode cX2_kindOf 222 = .ok (.ifCond .eq 7, 3) := dk_153 0 7 (dk_at dksX2_kindOf_9 12 rfl rfl)
theorem dX2_kindOf_225 : decode cX2_kindOf 225 = .ok (.iload_n 2, 1) := dk_28 (dk_at dksX2_kindOf_9 15 rfl rfl)
theorem dX2_kindOf_226 : decode cX2_kindOf 226 = .ok (.goto 4, 3) := dk_167 0 4 (dk_at dksX2_kindOf_9 16 rfl rfl)
theorem dX2_kindOf_229 : decode cX2_kindOf 229 = .ok (.iconst (-1), 1) := dk_2 (dk_at dksX2_kindOf_9 19 rfl rfl)
theorem dX2_kindOf_230 : decode cX2_kindOf 230 = .ok (.ireturn, 1) := dk_172 (dk_at dksX2_kindOf_9 20 rfl rfl)
abbrev cX2_unknown : ByteArray := prog_15_method_56_code
def yX2_unknown : MethodName := ⟨RX2, "unknown", "()I"⟩
def dkwX2_unknown_0 : List UInt8 := [42, 2, 2, 182, 1, 27, 172]
abbrev dktX2_unknown_0 : List UInt8 := dkwX2_unknown_0 ++ []
theorem dksX2_unknown_0 : cX2_unknown.data.toList.drop 0 = dktX2_unknown_0 := by decide +kernel
theorem dX2_unknown_0 : decode cX2_unknown 0 = .ok (.aload_n 0, 1) := dk_42 (dk_at dksX2_unknown_0 0 rfl rfl)
theorem dX2_unknown_1 : decode cX2_unknown 1 = .ok (.iconst (-1), 1) := dk_2 (dk_at dksX2_unknown_0 1 rfl rfl)
theorem dX2_unknown_2 : decode cX2_unknown 2 = .ok (.iconst (-1), 1) := dk_2 (dk_at dksX2_unknown_0 2 rfl rfl)
theorem dX2_unknown_3 : decode cX2_unknown 3 = .ok (.invokevirtual 283, 3) := dk_182 1 27 (dk_at dksX2_unknown_0 3 rfl rfl)
theorem dX2_unknown_6 : decode cX2_unknown 6 = .ok (.ireturn, 1) := dk_172 (dk_at dksX2_unknown_0 6 rfl rfl)
abbrev cX2_kind2 : ByteArray := prog_15_method_55_code
def yX2_kind2 : MethodName := ⟨RX2, "kind2", "(II)I"⟩
def dkwX2_kind2_2 : List UInt8 := [100, 172]
abbrev dktX2_kind2_2 : List UInt8 := dkwX2_kind2_2 ++ []
def dkwX2_kind2_1 : List UInt8 := [42, 180, 1, 24, 42, 180, 1, 24, 79, 42, 89, 180, 1, 24, 4, 96, 181, 1, 24, 42, 180, 1, 24, 4]
abbrev dktX2_kind2_1 : List UInt8 := dkwX2_kind2_1 ++ dktX2_kind2_2
def dkwX2_kind2_0 : List UInt8 := [42, 180, 0, 54, 42, 180, 1, 24, 27, 79, 42, 180, 0, 57, 42, 180, 1, 24, 28, 79, 42, 180, 0, 60]
abbrev dktX2_kind2_0 : List UInt8 := dkwX2_kind2_0 ++ dktX2_kind2_1
theorem dksX2_kind2_0 : cX2_kind2.data.toList.drop 0 = dktX2_kind2_0 := by decide +kernel
theorem dksX2_kind2_1 : cX2_kind2.data.toList.drop 24 = dktX2_kind2_1 := dk_seg dksX2_kind2_0 24 rfl rfl
theorem dksX2_kind2_2 : cX2_kind2.data.toList.drop 48 = dktX2_kind2_2 := dk_seg dksX2_kind2_1 24 rfl rfl
theorem dX2_kind2_0 : decode cX2_kind2 0 = .ok (.aload_n 0, 1) := dk_42 (dk_at dksX2_kind2_0 0 rfl rfl)
theorem dX2_kind2_1 : decode cX2_kind2 1 = .ok (.getfield 54, 3) := dk_180 0 54 (dk_at dksX2_kind2_0 1 rfl rfl)
theorem dX2_kind2_4 : decode cX2_kind2 4 = .ok (.aload_n 0, 1) := dk_42 (dk_at dksX2_kind2_0 4 rfl rfl)
theorem dX2_kind2_5 : decode cX2_kind2 5 = .ok (.getfield 280, 3) := dk_180 1 24 (dk_at dksX2_kind2_0 5 rfl rfl)
theorem dX2_kind2_8 : decode cX2_kind2 8 = .ok (.iload_n 1, 1) := dk_27 (dk_at dksX2_kind2_0 8 rfl rfl)
theorem dX2_kind2_9 : decode cX2_kind2 9 = .ok (.iastore, 1) := dk_79 (dk_at dksX2_kind2_0 9 rfl rfl)
theorem dX2_kind2_10 : decode cX2_kind2 10 = .ok (.aload_n 0, 1) := dk_42 (dk_at dksX2_kind2_0 10 rfl rfl)
theorem dX2_kind2_11 : decode cX2_kind2 11 = .ok (.getfield 57, 3) := dk_180 0 57 (dk_at dksX2_kind2_0 11 rfl rfl)
theorem dX2_kind2_14 : decode cX2_kind2 14 = .ok (.aload_n 0, 1) := dk_42 (dk_at dksX2_kind2_0 14 rfl rfl)
theorem dX2_kind2_15 : decode cX2_kind2 15 = .ok (.getfield 280, 3) := dk_180 1 24 (dk_at dksX2_kind2_0 15 rfl rfl)
theorem dX2_kind2_18 : decode cX2_kind2 18 = .ok (.iload_n 2, 1) := dk_28 (dk_at dksX2_kind2_0 18 rfl rfl)
theorem dX2_kind2_19 : decode cX2_kind2 19 = .ok (.iastore, 1) := dk_79 (dk_at dksX2_kind2_0 19 rfl rfl)
theorem dX2_kind2_20 : decode cX2_kind2 20 = .ok (.aload_n 0, 1) := dk_42 (dk_at dksX2_kind2_0 20 rfl rfl)
theorem dX2_kind2_21 : decode cX2_kind2 21 = .ok (.getfield 60, 3) := dk_180 0 60 (dk_at dksX2_kind2_0 21 rfl rfl)
theorem dX2_kind2_24 : decode cX2_kind2 24 = .ok (.aload_n 0, 1) := dk_42 (dk_at dksX2_kind2_1 0 rfl rfl)
theorem dX2_kind2_25 : decode cX2_kind2 25 = .ok (.getfield 280, 3) := dk_180 1 24 (dk_at dksX2_kind2_1 1 rfl rfl)
theorem dX2_kind2_28 : decode cX2_kind2 28 = .ok (.aload_n 0, 1) := dk_42 (dk_at dksX2_kind2_1 4 rfl rfl)
theorem dX2_kind2_29 : decode cX2_kind2 29 = .ok (.getfield 280, 3) := dk_180 1 24 (dk_at dksX2_kind2_1 5 rfl rfl)
theorem dX2_kind2_32 : decode cX2_kind2 32 = .ok (.iastore, 1) := dk_79 (dk_at dksX2_kind2_1 8 rfl rfl)
theorem dX2_kind2_33 : decode cX2_kind2 33 = .ok (.aload_n 0, 1) := dk_42 (dk_at dksX2_kind2_1 9 rfl rfl)
theorem dX2_kind2_34 : decode cX2_kind2 34 = .ok (.dup, 1) := dk_89 (dk_at dksX2_kind2_1 10 rfl rfl)
theorem dX2_kind2_35 : decode cX2_kind2 35 = .ok (.getfield 280, 3) := dk_180 1 24 (dk_at dksX2_kind2_1 11 rfl rfl)
theorem dX2_kind2_38 : decode cX2_kind2 38 = .ok (.iconst 1, 1) := dk_4 (dk_at dksX2_kind2_1 14 rfl rfl)
theorem dX2_kind2_39 : decode cX2_kind2 39 = .ok (.iadd, 1) := dk_96 (dk_at dksX2_kind2_1 15 rfl rfl)
theorem dX2_kind2_40 : decode cX2_kind2 40 = .ok (.putfield 280, 3) := dk_181 1 24 (dk_at dksX2_kind2_1 16 rfl rfl)
theorem dX2_kind2_43 : decode cX2_kind2 43 = .ok (.aload_n 0, 1) := dk_42 (dk_at dksX2_kind2_1 19 rfl rfl)
theorem dX2_kind2_44 : decode cX2_kind2 44 = .ok (.getfield 280, 3) := dk_180 1 24 (dk_at dksX2_kind2_1 20 rfl rfl)
theorem dX2_kind2_47 : decode cX2_kind2 47 = .ok (.iconst 1, 1) := dk_4 (dk_at dksX2_kind2_1 23 rfl rfl)
theorem dX2_kind2_48 : decode cX2_kind2 48 = .ok (.isub, 1) := dk_100 (dk_at dksX2_kind2_2 0 rfl rfl)
theorem dX2_kind2_49 : decode cX2_kind2 49 = .ok (.ireturn, 1) := dk_172 (dk_at dksX2_kind2_2 1 rfl rfl)
abbrev cX2_meet : ByteArray := prog_15_method_60_code
def yX2_meet : MethodName := ⟨RX2, "meet", "(II)V"⟩
def dkwX2_meet_7 : List UInt8 := [6, 96, 42, 180, 0, 57, 21, 5, 46, 79, 132, 3, 4, 167, 255, 92, 177]
abbrev dktX2_meet_7 : List UInt8 := dkwX2_meet_7 ++ []
def dkwX2_meet_6 : List UInt8 := [21, 5, 46, 79, 42, 180, 0, 72, 29, 5, 96, 42, 180, 0, 57, 21, 4, 46, 79, 42, 180, 0, 72, 29]
abbrev dktX2_meet_6 : List UInt8 := dkwX2_meet_6 ++ dktX2_meet_7
def dkwX2_meet_5 : List UInt8 := [42, 180, 0, 72, 29, 42, 180, 0, 54, 21, 4, 46, 79, 42, 180, 0, 72, 29, 4, 96, 42, 180, 0, 54]
abbrev dktX2_meet_5 : List UInt8 := dkwX2_meet_5 ++ dktX2_meet_6
def dkwX2_meet_4 : List UInt8 := [21, 5, 167, 0, 5, 21, 4, 79, 21, 6, 154, 0, 75, 42, 180, 0, 54, 21, 5, 46, 2, 159, 0, 64]
abbrev dktX2_meet_4 : List UInt8 := dkwX2_meet_4 ++ dktX2_meet_5
def dkwX2_meet_3 : List UInt8 := [3, 54, 6, 42, 180, 0, 60, 21, 6, 153, 0, 8, 21, 4, 167, 0, 5, 21, 5, 21, 6, 153, 0, 8]
abbrev dktX2_meet_3 : List UInt8 := dkwX2_meet_3 ++ dktX2_meet_4
def dkwX2_meet_2 : List UInt8 := [54, 5, 21, 4, 21, 5, 159, 0, 127, 42, 180, 0, 54, 21, 4, 46, 2, 160, 0, 7, 4, 167, 0, 4]
abbrev dktX2_meet_2 : List UInt8 := dkwX2_meet_2 ++ dktX2_meet_3
def dkwX2_meet_1 : List UInt8 := [42, 180, 0, 72, 29, 46, 182, 1, 33, 54, 4, 42, 42, 180, 0, 72, 29, 4, 96, 46, 182, 1, 33]
abbrev dktX2_meet_1 : List UInt8 := dkwX2_meet_1 ++ dktX2_meet_2
def dkwX2_meet_0 : List UInt8 := [5, 62, 42, 180, 0, 72, 3, 27, 79, 42, 180, 0, 72, 4, 28, 79, 29, 158, 0, 166, 132, 3, 254, 42]
abbrev dktX2_meet_0 : List UInt8 := dkwX2_meet_0 ++ dktX2_meet_1
theorem dksX2_meet_0 : cX2_meet.data.toList.drop 0 = dktX2_meet_0 := by decide +kernel
theorem dksX2_meet_1 : cX2_meet.data.toList.drop 24 = dktX2_meet_1 := dk_seg dksX2_meet_0 24 rfl rfl
theorem dksX2_meet_2 : cX2_meet.data.toList.drop 47 = dktX2_meet_2 := dk_seg dksX2_meet_1 23 rfl rfl
theorem dksX2_meet_3 : cX2_meet.data.toList.drop 71 = dktX2_meet_3 := dk_seg dksX2_meet_2 24 rfl rfl
theorem dksX2_meet_4 : cX2_meet.data.toList.drop 95 = dktX2_meet_4 := dk_seg dksX2_meet_3 24 rfl rfl
theorem dksX2_meet_5 : cX2_meet.data.toList.drop 119 = dktX2_meet_5 := dk_seg dksX2_meet_4 24 rfl rfl
theorem dksX2_meet_6 : cX2_meet.data.toList.drop 143 = dktX2_meet_6 := dk_seg dksX2_meet_5 24 rfl rfl
theorem dksX2_meet_7 : cX2_meet.data.toList.drop 167 = dktX2_meet_7 := dk_seg dksX2_meet_6 24 rfl rfl
theorem dX2_meet_0 : decode cX2_meet 0 = .ok (.iconst 2, 1) := dk_5 (dk_at dksX2_meet_0 0 rfl rfl)
theorem dX2_meet_1 : decode cX2_meet 1 = .ok (.istore_n 3, 1) := dk_62 (dk_at dksX2_meet_0 1 rfl rfl)
theorem dX2_meet_2 : decode cX2_meet 2 = .ok (.aload_n 0, 1) := dk_42 (dk_at dksX2_meet_0 2 rfl rfl)
theorem dX2_meet_3 : decode cX2_meet 3 = .ok (.getfield 72, 3) := dk_180 0 72 (dk_at dksX2_meet_0 3 rfl rfl)
theorem dX2_meet_6 : decode cX2_meet 6 = .ok (.iconst 0, 1) := dk_3 (dk_at dksX2_meet_0 6 rfl rfl)
theorem dX2_meet_7 : decode cX2_meet 7 = .ok (.iload_n 1, 1) := dk_27 (dk_at dksX2_meet_0 7 rfl rfl)
theorem dX2_meet_8 : decode cX2_meet 8 = .ok (.iastore, 1) := dk_79 (dk_at dksX2_meet_0 8 rfl rfl)
theorem dX2_meet_9 : decode cX2_meet 9 = .ok (.aload_n 0, 1) := dk_42 (dk_at dksX2_meet_0 9 rfl rfl)
theorem dX2_meet_10 : decode cX2_meet 10 = .ok (.getfield 72, 3) := dk_180 0 72 (dk_at dksX2_meet_0 10 rfl rfl)
theorem dX2_meet_13 : decode cX2_meet 13 = .ok (.iconst 1, 1) := dk_4 (dk_at dksX2_meet_0 13 rfl rfl)
theorem dX2_meet_14 : decode cX2_meet 14 = .ok (.iload_n 2, 1) := dk_28 (dk_at dksX2_meet_0 14 rfl rfl)
theorem dX2_meet_15 : decode cX2_meet 15 = .ok (.iastore, 1) := dk_79 (dk_at dksX2_meet_0 15 rfl rfl)
theorem dX2_meet_16 : decode cX2_meet 16 = .ok (.iload_n 3, 1) := dk_29 (dk_at dksX2_meet_0 16 rfl rfl)
theorem dX2_meet_17 : decode cX2_meet 17 = .ok (.ifCond .le 166, 3) := dk_158 0 166 (dk_at dksX2_meet_0 17 rfl rfl)
theorem dX2_meet_20 : decode cX2_meet 20 = .ok (.iinc 3 (-2), 3) := dk_132 3 254 (dk_at dksX2_meet_0 20 rfl rfl)
theorem dX2_meet_23 : decode cX2_meet 23 = .ok (.aload_n 0, 1) := dk_42 (dk_at dksX2_meet_0 23 rfl rfl)
theorem dX2_meet_24 : decode cX2_meet 24 = .ok (.aload_n 0, 1) := dk_42 (dk_at dksX2_meet_1 0 rfl rfl)
theorem dX2_meet_25 : decode cX2_meet 25 = .ok (.getfield 72, 3) := dk_180 0 72 (dk_at dksX2_meet_1 1 rfl rfl)
theorem dX2_meet_28 : decode cX2_meet 28 = .ok (.iload_n 3, 1) := dk_29 (dk_at dksX2_meet_1 4 rfl rfl)
theorem dX2_meet_29 : decode cX2_meet 29 = .ok (.iaload, 1) := dk_46 (dk_at dksX2_meet_1 5 rfl rfl)
theorem dX2_meet_30 : decode cX2_meet 30 = .ok (.invokevirtual 289, 3) := dk_182 1 33 (dk_at dksX2_meet_1 6 rfl rfl)
theorem dX2_meet_33 : decode cX2_meet 33 = .ok (.istore 4, 2) := dk_54 4 (dk_at dksX2_meet_1 9 rfl rfl)
theorem dX2_meet_35 : decode cX2_meet 35 = .ok (.aload_n 0, 1) := dk_42 (dk_at dksX2_meet_1 11 rfl rfl)
theorem dX2_meet_36 : decode cX2_meet 36 = .ok (.aload_n 0, 1) := dk_42 (dk_at dksX2_meet_1 12 rfl rfl)
theorem dX2_meet_37 : decode cX2_meet 37 = .ok (.getfield 72, 3) := dk_180 0 72 (dk_at dksX2_meet_1 13 rfl rfl)
theorem dX2_meet_40 : decode cX2_meet 40 = .ok (.iload_n 3, 1) := dk_29 (dk_at dksX2_meet_1 16 rfl rfl)
theorem dX2_meet_41 : decode cX2_meet 41 = .ok (.iconst 1, 1) := dk_4 (dk_at dksX2_meet_1 17 rfl rfl)
theorem dX2_meet_42 : decode cX2_meet 42 = .ok (.iadd, 1) := dk_96 (dk_at dksX2_meet_1 18 rfl rfl)
theorem dX2_meet_43 : decode cX2_meet 43 = .ok (.iaload, 1) := dk_46 (dk_at dksX2_meet_1 19 rfl rfl)
theorem dX2_meet_44 : decode cX2_meet 44 = .ok (.invokevirtual 289, 3) := dk_182 1 33 (dk_at dksX2_meet_1 20 rfl rfl)
theorem dX2_meet_47 : decode cX2_meet 47 = .ok (.istore 5, 2) := dk_54 5 (dk_at dksX2_meet_2 0 rfl rfl)
theorem dX2_meet_49 : decode cX2_meet 49 = .ok (.iload 4, 2) := dk_21 4 (dk_at dksX2_meet_2 2 rfl rfl)
theorem dX2_meet_51 : decode cX2_meet 51 = .ok (.iload 5, 2) := dk_21 5 (dk_at dksX2_meet_2 4 rfl rfl)
theorem dX2_meet_53 : decode cX2_meet 53 = .ok (.if_icmp .eq 127, 3) := dk_159 0 127 (dk_at dksX2_meet_2 6 rfl rfl)
theorem dX2_meet_56 : decode cX2_meet 56 = .ok (.aload_n 0, 1) := dk_42 (dk_at dksX2_meet_2 9 rfl rfl)
theorem dX2_meet_57 : decode cX2_meet 57 = .ok (.getfield 54, 3) := dk_180 0 54 (dk_at dksX2_meet_2 10 rfl rfl)
theorem dX2_meet_60 : decode cX2_meet 60 = .ok (.iload 4, 2) := dk_21 4 (dk_at dksX2_meet_2 13 rfl rfl)
theorem dX2_meet_62 : decode cX2_meet 62 = .ok (.iaload, 1) := dk_46 (dk_at dksX2_meet_2 15 rfl rfl)
theorem dX2_meet_63 : decode cX2_meet 63 = .ok (.iconst (-1), 1) := dk_2 (dk_at dksX2_meet_2 16 rfl rfl)
theorem dX2_meet_64 : decode cX2_meet 64 = .ok (.if_icmp .ne 7, 3) := dk_160 0 7 (dk_at dksX2_meet_2 17 rfl rfl)
theorem dX2_meet_67 : decode cX2_meet 67 = .ok (.iconst 1, 1) := dk_4 (dk_at dksX2_meet_2 20 rfl rfl)
theorem dX2_meet_68 : decode cX2_meet 68 = .ok (.goto 4, 3) := dk_167 0 4 (dk_at dksX2_meet_2 21 rfl rfl)
theorem dX2_meet_71 : decode cX2_meet 71 = .ok (.iconst 0, 1) := dk_3 (dk_at dksX2_meet_3 0 rfl rfl)
theorem dX2_meet_72 : decode cX2_meet 72 = .ok (.istore 6, 2) := dk_54 6 (dk_at dksX2_meet_3 1 rfl rfl)
theorem dX2_meet_74 : decode cX2_meet 74 = .ok (.aload_n 0, 1) := dk_42 (dk_at dksX2_meet_3 3 rfl rfl)
theorem dX2_meet_75 : decode cX2_meet 75 = .ok (.getfield 60, 3) := dk_180 0 60 (dk_at dksX2_meet_3 4 rfl rfl)
theorem dX2_meet_78 : decode cX2_meet 78 = .ok (.iload 6, 2) := dk_21 6 (dk_at dksX2_meet_3 7 rfl rfl)
theorem dX2_meet_80 : decode cX2_meet 80 = .ok (.ifCond .eq 8, 3) := dk_153 0 8 (dk_at dksX2_meet_3 9 rfl rfl)
theorem dX2_meet_83 : decode cX2_meet 83 = .ok (.iload 4, 2) := dk_21 4 (dk_at dksX2_meet_3 12 rfl rfl)
theorem dX2_meet_85 : decode cX2_meet 85 = .ok (.goto 5, 3) := dk_167 0 5 (dk_at dksX2_meet_3 14 rfl rfl)
theorem dX2_meet_88 : decode cX2_meet 88 = .ok (.iload 5, 2) := dk_21 5 (dk_at dksX2_meet_3 17 rfl rfl)
theorem dX2_meet_90 : decode cX2_meet 90 = .ok (.iload 6, 2) := dk_21 6 (dk_at dksX2_meet_3 19 rfl rfl)
theorem dX2_meet_92 : decode cX2_meet 92 = .ok (.ifCond .eq 8, 3) := dk_153 0 8 (dk_at dksX2_meet_3 21 rfl rfl)
theorem dX2_meet_95 : decode cX2_meet 95 = .ok (.iload 5, 2) := dk_21 5 (dk_at dksX2_meet_4 0 rfl rfl)
theorem dX2_meet_97 : decode cX2_meet 97 = .ok (.goto 5, 3) := dk_167 0 5 (dk_at dksX2_meet_4 2 rfl rfl)
theorem dX2_meet_100 : decode cX2_meet 100 = .ok (.iload 4, 2) := dk_21 4 (dk_at dksX2_meet_4 5 rfl rfl)
theorem dX2_meet_102 : decode cX2_meet 102 = .ok (.iastore, 1) := dk_79 (dk_at dksX2_meet_4 7 rfl rfl)
theorem dX2_meet_103 : decode cX2_meet 103 = .ok (.iload 6, 2) := dk_21 6 (dk_at dksX2_meet_4 8 rfl rfl)
theorem dX2_meet_105 : decode cX2_meet 105 = .ok (.ifCond .ne 75, 3) := dk_154 0 75 (dk_at dksX2_meet_4 10 rfl rfl)
theorem dX2_meet_108 : decode cX2_meet 108 = .ok (.aload_n 0, 1) := dk_42 (dk_at dksX2_meet_4 13 rfl rfl)
theorem dX2_meet_109 : decode cX2_meet 109 = .ok (.getfield 54, 3) := dk_180 0 54 (dk_at dksX2_meet_4 14 rfl rfl)
theorem dX2_meet_112 : decode cX2_meet 112 = .ok (.iload 5, 2) := dk_21 5 (dk_at dksX2_meet_4 17 rfl rfl)
theorem dX2_meet_114 : decode cX2_meet 114 = .ok (.iaload, 1) := dk_46 (dk_at dksX2_meet_4 19 rfl rfl)
theorem dX2_meet_115 : decode cX2_meet 115 = .ok (.iconst (-1), 1) := dk_2 (dk_at dksX2_meet_4 20 rfl rfl)
theorem dX2_meet_116 : decode cX2_meet 116 = .ok (.if_icmp .eq 64, 3) := dk_159 0 64 (dk_at dksX2_meet_4 21 rfl rfl)
theorem dX2_meet_119 : decode cX2_meet 119 = .ok (.aload_n 0, 1) := dk_42 (dk_at dksX2_meet_5 0 rfl rfl)
theorem dX2_meet_120 : decode cX2_meet 120 = .ok (.getfield 72, 3) := dk_180 0 72 (dk_at dksX2_meet_5 1 rfl rfl)
theorem dX2_meet_123 : decode cX2_meet 123 = .ok (.iload_n 3, 1) := dk_29 (dk_at dksX2_meet_5 4 rfl rfl)
theorem dX2_meet_124 : decode cX2_meet 124 = .ok (.aload_n 0, 1) := dk_42 (dk_at dksX2_meet_5 5 rfl rfl)
theorem dX2_meet_125 : decode cX2_meet 125 = .ok (.getfield 54, 3) := dk_180 0 54 (dk_at dksX2_meet_5 6 rfl rfl)
theorem dX2_meet_128 : decode cX2_meet 128 = .ok (.iload 4, 2) := dk_21 4 (dk_at dksX2_meet_5 9 rfl rfl)
theorem dX2_meet_130 : decode cX2_meet 130 = .ok (.iaload, 1) := dk_46 (dk_at dksX2_meet_5 11 rfl rfl)
theorem dX2_meet_131 : decode cX2_meet 131 = .ok (.iastore, 1) := dk_79 (dk_at dksX2_meet_5 12 rfl rfl)
theorem dX2_meet_132 : decode cX2_meet 132 = .ok (.aload_n 0, 1) := dk_42 (dk_at dksX2_meet_5 13 rfl rfl)
theorem dX2_meet_133 : decode cX2_meet 133 = .ok (.getfield 72, 3) := dk_180 0 72 (dk_at dksX2_meet_5 14 rfl rfl)
theorem dX2_meet_136 : decode cX2_meet 136 = .ok (.iload_n 3, 1) := dk_29 (dk_at dksX2_meet_5 17 rfl rfl)
theorem dX2_meet_137 : decode cX2_meet 137 = .ok (.iconst 1, 1) := dk_4 (dk_at dksX2_meet_5 18 rfl rfl)
theorem dX2_meet_138 : decode cX2_meet 138 = .ok (.iadd, 1) := dk_96 (dk_at dksX2_meet_5 19 rfl rfl)
theorem dX2_meet_139 : decode cX2_meet 139 = .ok (.aload_n 0, 1) := dk_42 (dk_at dksX2_meet_5 20 rfl rfl)
theorem dX2_meet_140 : decode cX2_meet 140 = .ok (.getfield 54, 3) := dk_180 0 54 (dk_at dksX2_meet_5 21 rfl rfl)
theorem dX2_meet_143 : decode cX2_meet 143 = .ok (.iload 5, 2) := dk_21 5 (dk_at dksX2_meet_6 0 rfl rfl)
theorem dX2_meet_145 : decode cX2_meet 145 = .ok (.iaload, 1) := dk_46 (dk_at dksX2_meet_6 2 rfl rfl)
theorem dX2_meet_146 : decode cX2_meet 146 = .ok (.iastore, 1) := dk_79 (dk_at dksX2_meet_6 3 rfl rfl)
theorem dX2_meet_147 : decode cX2_meet 147 = .ok (.aload_n 0, 1) := dk_42 (dk_at dksX2_meet_6 4 rfl rfl)
theorem dX2_meet_148 : decode cX2_meet 148 = .ok (.getfield 72, 3) := dk_180 0 72 (dk_at dksX2_meet_6 5 rfl rfl)
theorem dX2_meet_151 : decode cX2_meet 151 = .ok (.iload_n 3, 1) := dk_29 (dk_at dksX2_meet_6 8 rfl rfl)
theorem dX2_meet_152 : decode cX2_meet 152 = .ok (.iconst 2, 1) := dk_5 (dk_at dksX2_meet_6 9 rfl rfl)
theorem dX2_meet_153 : decode cX2_meet 153 = .ok (.iadd, 1) := dk_96 (dk_at dksX2_meet_6 10 rfl rfl)
theorem dX2_meet_154 : decode cX2_meet 154 = .ok (.aload_n 0, 1) := dk_42 (dk_at dksX2_meet_6 11 rfl rfl)
theorem dX2_meet_155 : decode cX2_meet 155 = .ok (.getfield 57, 3) := dk_180 0 57 (dk_at dksX2_meet_6 12 rfl rfl)
theorem dX2_meet_158 : decode cX2_meet 158 = .ok (.iload 4, 2) := dk_21 4 (dk_at dksX2_meet_6 15 rfl rfl)
theorem dX2_meet_160 : decode cX2_meet 160 = .ok (.iaload, 1) := dk_46 (dk_at dksX2_meet_6 17 rfl rfl)
theorem dX2_meet_161 : decode cX2_meet 161 = .ok (.iastore, 1) := dk_79 (dk_at dksX2_meet_6 18 rfl rfl)
theorem dX2_meet_162 : decode cX2_meet 162 = .ok (.aload_n 0, 1) := dk_42 (dk_at dksX2_meet_6 19 rfl rfl)
theorem dX2_meet_163 : decode cX2_meet 163 = .ok (.getfield 72, 3) := dk_180 0 72 (dk_at dksX2_meet_6 20 rfl rfl)
theorem dX2_meet_166 : decode cX2_meet 166 = .ok (.iload_n 3, 1) := dk_29 (dk_at dksX2_meet_6 23 rfl rfl)
theorem dX2_meet_167 : decode cX2_meet 167 = .ok (.iconst 3, 1) := dk_6 (dk_at dksX2_meet_7 0 rfl rfl)
theorem dX2_meet_168 : decode cX2_meet 168 = .ok (.iadd, 1) := dk_96 (dk_at dksX2_meet_7 1 rfl rfl)
theorem dX2_meet_169 : decode cX2_meet 169 = .ok (.aload_n 0, 1) := dk_42 (dk_at dksX2_meet_7 2 rfl rfl)
theorem dX2_meet_170 : decode cX2_meet 170 = .ok (.getfield 57, 3) := dk_180 0 57 (dk_at dksX2_meet_7 3 rfl rfl)
theorem dX2_meet_173 : decode cX2_meet 173 = .ok (.iload 5, 2) := dk_21 5 (dk_at dksX2_meet_7 6 rfl rfl)
theorem dX2_meet_175 : decode cX2_meet 175 = .ok (.iaload, 1) := dk_46 (dk_at dksX2_meet_7 8 rfl rfl)
theorem dX2_meet_176 : decode cX2_meet 176 = .ok (.iastore, 1) := dk_79 (dk_at dksX2_meet_7 9 rfl rfl)
theorem dX2_meet_177 : decode cX2_meet 177 = .ok (.iinc 3 4, 3) := dk_132 3 4 (dk_at dksX2_meet_7 10 rfl rfl)
theorem dX2_meet_180 : decode cX2_meet 180 = .ok (.goto (-164), 3) := dk_167 255 92 (dk_at dksX2_meet_7 13 rfl rfl)
theorem dX2_meet_183 : decode cX2_meet 183 = .ok (.return_, 1) := dk_177 (dk_at dksX2_meet_7 16 rfl rfl)
abbrev cX2_realKind : ByteArray := prog_15_method_57_code
def yX2_realKind : MethodName := ⟨RX2, "realKind", "(I)I"⟩
def dkwX2_realKind_0 : List UInt8 := [27, 61, 42, 180, 0, 60, 28, 46, 28, 159, 0, 13, 42, 180, 0, 60, 28, 46, 61, 167, 255, 239, 28, 172]
abbrev dktX2_realKind_0 : List UInt8 := dkwX2_realKind_0 ++ []
theorem dksX2_realKind_0 : cX2_realKind.data.toList.drop 0 = dktX2_realKind_0 := by decide +kernel
theorem dX2_realKind_0 : decode cX2_realKind 0 = .ok (.iload_n 1, 1) := dk_27 (dk_at dksX2_realKind_0 0 rfl rfl)
theorem dX2_realKind_1 : decode cX2_realKind 1 = .ok (.istore_n 2, 1) := dk_61 (dk_at dksX2_realKind_0 1 rfl rfl)
theorem dX2_realKind_2 : decode cX2_realKind 2 = .ok (.aload_n 0, 1) := dk_42 (dk_at dksX2_realKind_0 2 rfl rfl)
theorem dX2_realKind_3 : decode cX2_realKind 3 = .ok (.getfield 60, 3) := dk_180 0 60 (dk_at dksX2_realKind_0 3 rfl rfl)
theorem dX2_realKind_6 : decode cX2_realKind 6 = .ok (.iload_n 2, 1) := dk_28 (dk_at dksX2_realKind_0 6 rfl rfl)
theorem dX2_realKind_7 : decode cX2_realKind 7 = .ok (.iaload, 1) := dk_46 (dk_at dksX2_realKind_0 7 rfl rfl)
theorem dX2_realKind_8 : decode cX2_realKind 8 = .ok (.iload_n 2, 1) := dk_28 (dk_at dksX2_realKind_0 8 rfl rfl)
theorem dX2_realKind_9 : decode cX2_realKind 9 = .ok (.if_icmp .eq 13, 3) := dk_159 0 13 (dk_at dksX2_realKind_0 9 rfl rfl)
theorem dX2_realKind_12 : decode cX2_realKind 12 = .ok (.aload_n 0, 1) := dk_42 (dk_at dksX2_realKind_0 12 rfl rfl)
theorem dX2_realKind_13 : decode cX2_realKind 13 = .ok (.getfield 60, 3) := dk_180 0 60 (dk_at dksX2_realKind_0 13 rfl rfl)
theorem dX2_realKind_16 : decode cX2_realKind 16 = .ok (.iload_n 2, 1) := dk_28 (dk_at dksX2_realKind_0 16 rfl rfl)
theorem dX2_realKind_17 : decode cX2_realKind 17 = .ok (.iaload, 1) := dk_46 (dk_at dksX2_realKind_0 17 rfl rfl)
theorem dX2_realKind_18 : decode cX2_realKind 18 = .ok (.istore_n 2, 1) := dk_61 (dk_at dksX2_realKind_0 18 rfl rfl)
theorem dX2_realKind_19 : decode cX2_realKind 19 = .ok (.goto (-17), 3) := dk_167 255 239 (dk_at dksX2_realKind_0 19 rfl rfl)
theorem dX2_realKind_22 : decode cX2_realKind 22 = .ok (.iload_n 2, 1) := dk_28 (dk_at dksX2_realKind_0 22 rfl rfl)
theorem dX2_realKind_23 : decode cX2_realKind 23 = .ok (.ireturn, 1) := dk_172 (dk_at dksX2_realKind_0 23 rfl rfl)
abbrev cX2_kindOfName : ByteArray := prog_15_method_59_code
def yX2_kindOfName : MethodName := ⟨RX2, "kindOfName", "(I)I"⟩
def dkwX2_kindOfName_2 : List UInt8 := [167, 255, 219, 42, 180, 0, 66, 28, 16, 97, 100, 46, 172]
abbrev dktX2_kindOfName_2 : List UInt8 := dkwX2_kindOfName_2 ++ []
def dkwX2_kindOfName_1 : List UInt8 := [28, 96, 160, 0, 19, 42, 29, 182, 0, 165, 27, 164, 0, 10, 42, 180, 0, 69, 29, 46, 172, 132, 3, 255]
abbrev dktX2_kindOfName_1 : List UInt8 := dkwX2_kindOfName_1 ++ dktX2_kindOfName_2
def dkwX2_kindOfName_0 : List UInt8 := [42, 180, 0, 24, 27, 46, 61, 27, 4, 100, 62, 29, 155, 0, 39, 42, 180, 0, 24, 29, 46, 17, 3, 232]
abbrev dktX2_kindOfName_0 : List UInt8 := dkwX2_kindOfName_0 ++ dktX2_kindOfName_1
theorem dksX2_kindOfName_0 : cX2_kindOfName.data.toList.drop 0 = dktX2_kindOfName_0 := by decide +kernel
theorem dksX2_kindOfName_1 : cX2_kindOfName.data.toList.drop 24 = dktX2_kindOfName_1 := dk_seg dksX2_kindOfName_0 24 rfl rfl
theorem dksX2_kindOfName_2 : cX2_kindOfName.data.toList.drop 48 = dktX2_kindOfName_2 := dk_seg dksX2_kindOfName_1 24 rfl rfl
theorem dX2_kindOfName_0 : decode cX2_kindOfName 0 = .ok (.aload_n 0, 1) := dk_42 (dk_at dksX2_kindOfName_0 0 rfl rfl)
theorem dX2_kindOfName_1 : decode cX2_kindOfName 1 = .ok (.getfield 24, 3) := dk_180 0 24 (dk_at dksX2_kindOfName_0 1 rfl rfl)
theorem dX2_kindOfName_4 : decode cX2_kindOfName 4 = .ok (.iload_n 1, 1) := dk_27 (dk_at dksX2_kindOfName_0 4 rfl rfl)
theorem dX2_kindOfName_5 : decode cX2_kindOfName 5 = .ok (.iaload, 1) := dk_46 (dk_at dksX2_kindOfName_0 5 rfl rfl)
theorem dX2_kindOfName_6 : decode cX2_kindOfName 6 = .ok (.istore_n 2, 1) := dk_61 (dk_at dksX2_kindOfName_0 6 rfl rfl)
theorem dX2_kindOfName_7 : decode cX2_kindOfName 7 = .ok (.iload_n 1, 1) := dk_27 (dk_at dksX2_kindOfName_0 7 rfl rfl)
theorem dX2_kindOfName_8 : decode cX2_kindOfName 8 = .ok (.iconst 1, 1) := dk_4 (dk_at dksX2_kindOfName_0 8 rfl rfl)
theorem dX2_kindOfName_9 : decode cX2_kindOfName 9 = .ok (.isub, 1) := dk_100 (dk_at dksX2_kindOfName_0 9 rfl rfl)
theorem dX2_kindOfName_10 : decode cX2_kindOfName 10 = .ok (.istore_n 3, 1) := dk_62 (dk_at dksX2_kindOfName_0 10 rfl rfl)
theorem dX2_kindOfName_11 : decode cX2_kindOfName 11 = .ok (.iload_n 3, 1) := dk_29 (dk_at dksX2_kindOfName_0 11 rfl rfl)
theorem dX2_kindOfName_12 : decode cX2_kindOfName 12 = .ok (.ifCond .lt 39, 3) := dk_155 0 39 (dk_at dksX2_kindOfName_0 12 rfl rfl)
theorem dX2_kindOfName_15 : decode cX2_kindOfName 15 = .ok (.aload_n 0, 1) := dk_42 (dk_at dksX2_kindOfName_0 15 rfl rfl)
theorem dX2_kindOfName_16 : decode cX2_kindOfName 16 = .ok (.getfield 24, 3) := dk_180 0 24 (dk_at dksX2_kindOfName_0 16 rfl rfl)
theorem dX2_kindOfName_19 : decode cX2_kindOfName 19 = .ok (.iload_n 3, 1) := dk_29 (dk_at dksX2_kindOfName_0 19 rfl rfl)
theorem dX2_kindOfName_20 : decode cX2_kindOfName 20 = .ok (.iaload, 1) := dk_46 (dk_at dksX2_kindOfName_0 20 rfl rfl)
theorem dX2_kindOfName_21 : decode cX2_kindOfName 21 = .ok (.sipush 1000, 3) := dk_17 3 232 (dk_at dksX2_kindOfName_0 21 rfl rfl)
theorem dX2_kindOfName_24 : decode cX2_kindOfName 24 = .ok (.iload_n 2, 1) := dk_28 (dk_at dksX2_kindOfName_1 0 rfl rfl)
theorem dX2_kindOfName_25 : decode cX2_kindOfName 25 = .ok (.iadd, 1) := dk_96 (dk_at dksX2_kindOfName_1 1 rfl rfl)
theorem dX2_kindOfName_26 : decode cX2_kindOfName 26 = .ok (.if_icmp .ne 19, 3) := dk_160 0 19 (dk_at dksX2_kindOfName_1 2 rfl rfl)
theorem dX2_kindOfName_29 : decode cX2_kindOfName 29 = .ok (.aload_n 0, 1) := dk_42 (dk_at dksX2_kindOfName_1 5 rfl rfl)
theorem dX2_kindOfName_30 : decode cX2_kindOfName 30 = .ok (.iload_n 3, 1) := dk_29 (dk_at dksX2_kindOfName_1 6 rfl rfl)
theorem dX2_kindOfName_31 : decode cX2_kindOfName 31 = .ok (.invokevirtual 165, 3) := dk_182 0 165 (dk_at dksX2_kindOfName_1 7 rfl rfl)
theorem dX2_kindOfName_34 : decode cX2_kindOfName 34 = .ok (.iload_n 1, 1) := dk_27 (dk_at dksX2_kindOfName_1 10 rfl rfl)
theorem dX2_kindOfName_35 : decode cX2_kindOfName 35 = .ok (.if_icmp .le 10, 3) := dk_164 0 10 (dk_at dksX2_kindOfName_1 11 rfl rfl)
theorem dX2_kindOfName_38 : decode cX2_kindOfName 38 = .ok (.aload_n 0, 1) := dk_42 (dk_at dksX2_kindOfName_1 14 rfl rfl)
theorem dX2_kindOfName_39 : decode cX2_kindOfName 39 = .ok (.getfield 69, 3) := dk_180 0 69 (dk_at dksX2_kindOfName_1 15 rfl rfl)
theorem dX2_kindOfName_42 : decode cX2_kindOfName 42 = .ok (.iload_n 3, 1) := dk_29 (dk_at dksX2_kindOfName_1 18 rfl rfl)
theorem dX2_kindOfName_43 : decode cX2_kindOfName 43 = .ok (.iaload, 1) := dk_46 (dk_at dksX2_kindOfName_1 19 rfl rfl)
theorem dX2_kindOfName_44 : decode cX2_kindOfName 44 = .ok (.ireturn, 1) := dk_172 (dk_at dksX2_kindOfName_1 20 rfl rfl)
theorem dX2_kindOfName_45 : decode cX2_kindOfName 45 = .ok (.iinc 3 (-1), 3) := dk_132 3 255 (dk_at dksX2_kindOfName_1 21 rfl rfl)
theorem dX2_kindOfName_48 : decode cX2_kindOfName 48 = .ok (.goto (-37), 3) := dk_167 255 219 (dk_at dksX2_kindOfName_2 0 rfl rfl)
theorem dX2_kindOfName_51 : decode cX2_kindOfName 51 = .ok (.aload_n 0, 1) := dk_42 (dk_at dksX2_kindOfName_2 3 rfl rfl)
theorem dX2_kindOfName_52 : decode cX2_kindOfName 52 = .ok (.getfield 66, 3) := dk_180 0 66 (dk_at dksX2_kindOfName_2 4 rfl rfl)
theorem dX2_kindOfName_55 : decode cX2_kindOfName 55 = .ok (.iload_n 2, 1) := dk_28 (dk_at dksX2_kindOfName_2 7 rfl rfl)
theorem dX2_kindOfName_56 : decode cX2_kindOfName 56 = .ok (.bipush 97, 2) := dk_16 97 (dk_at dksX2_kindOfName_2 8 rfl rfl)
theorem dX2_kindOfName_58 : decode cX2_kindOfName 58 = .ok (.isub, 1) := dk_100 (dk_at dksX2_kindOfName_2 10 rfl rfl)
theorem dX2_kindOfName_59 : decode cX2_kindOfName 59 = .ok (.iaload, 1) := dk_46 (dk_at dksX2_kindOfName_2 11 rfl rfl)
theorem dX2_kindOfName_60 : decode cX2_kindOfName 60 = .ok (.ireturn, 1) := dk_172 (dk_at dksX2_kindOfName_2 12 rfl rfl)
abbrev cX2_kindOfSign : ByteArray := prog_15_method_58_code
def yX2_kindOfSign : MethodName := ⟨RX2, "kindOfSign", "(I)I"⟩
def dkwX2_kindOfSign_5 : List UInt8 := [167, 0, 10, 42, 29, 21, 5, 182, 1, 27, 182, 1, 27, 172]
abbrev dktX2_kindOfSign_5 : List UInt8 := dkwX2_kindOfSign_5 ++ []
def dkwX2_kindOfSign_4 : List UInt8 := [54, 6, 42, 21, 6, 27, 6, 160, 0, 18, 42, 42, 28, 29, 182, 1, 27, 21, 5, 182, 1, 27]
abbrev dktX2_kindOfSign_4 : List UInt8 := dkwX2_kindOfSign_4 ++ dktX2_kindOfSign_5
def dkwX2_kindOfSign_3 : List UInt8 := [182, 1, 27, 21, 5, 182, 1, 27, 182, 1, 27, 172, 42, 28, 42, 29, 21, 4, 182, 1, 27, 182, 1, 27]
abbrev dktX2_kindOfSign_3 : List UInt8 := dkwX2_kindOfSign_3 ++ dktX2_kindOfSign_4
def dkwX2_kindOfSign_2 : List UInt8 := [21, 4, 182, 1, 27, 54, 5, 27, 7, 160, 0, 27, 42, 42, 29, 21, 4, 182, 1, 27, 42, 42, 28, 29]
abbrev dktX2_kindOfSign_2 : List UInt8 := dkwX2_kindOfSign_2 ++ dktX2_kindOfSign_3
def dkwX2_kindOfSign_1 : List UInt8 := [160, 0, 15, 42, 28, 42, 29, 28, 182, 1, 27, 182, 1, 27, 172, 42, 182, 1, 30, 54, 4, 42, 28]
abbrev dktX2_kindOfSign_1 : List UInt8 := dkwX2_kindOfSign_1 ++ dktX2_kindOfSign_2
def dkwX2_kindOfSign_0 : List UInt8 := [42, 182, 1, 30, 61, 27, 4, 160, 0, 10, 42, 28, 28, 182, 1, 27, 172, 42, 182, 1, 30, 62, 27, 5]
abbrev dktX2_kindOfSign_0 : List UInt8 := dkwX2_kindOfSign_0 ++ dktX2_kindOfSign_1
theorem dksX2_kindOfSign_0 : cX2_kindOfSign.data.toList.drop 0 = dktX2_kindOfSign_0 := by decide +kernel
theorem dksX2_kindOfSign_1 : cX2_kindOfSign.data.toList.drop 24 = dktX2_kindOfSign_1 := dk_seg dksX2_kindOfSign_0 24 rfl rfl
theorem dksX2_kindOfSign_2 : cX2_kindOfSign.data.toList.drop 47 = dktX2_kindOfSign_2 := dk_seg dksX2_kindOfSign_1 23 rfl rfl
theorem dksX2_kindOfSign_3 : cX2_kindOfSign.data.toList.drop 71 = dktX2_kindOfSign_3 := dk_seg dksX2_kindOfSign_2 24 rfl rfl
theorem dksX2_kindOfSign_4 : cX2_kindOfSign.data.toList.drop 95 = dktX2_kindOfSign_4 := dk_seg dksX2_kindOfSign_3 24 rfl rfl
theorem dksX2_kindOfSign_5 : cX2_kindOfSign.data.toList.drop 117 = dktX2_kindOfSign_5 := dk_seg dksX2_kindOfSign_4 22 rfl rfl
theorem dX2_kindOfSign_0 : decode cX2_kindOfSign 0 = .ok (.aload_n 0, 1) := dk_42 (dk_at dksX2_kindOfSign_0 0 rfl rfl)
theorem dX2_kindOfSign_1 : decode cX2_kindOfSign 1 = .ok (.invokevirtual 286, 3) := dk_182 1 30 (dk_at dksX2_kindOfSign_0 1 rfl rfl)
theorem dX2_kindOfSign_4 : decode cX2_kindOfSign 4 = .ok (.istore_n 2, 1) := dk_61 (dk_at dksX2_kindOfSign_0 4 rfl rfl)
theorem dX2_kindOfSign_5 : decode cX2_kindOfSign 5 = .ok (.iload_n 1, 1) := dk_27 (dk_at dksX2_kindOfSign_0 5 rfl rfl)
theorem dX2_kindOfSign_6 : decode cX2_kindOfSign 6 = .ok (.iconst 1, 1) := dk_4 (dk_at dksX2_kindOfSign_0 6 rfl rfl)
theorem dX2_kindOfSign_7 : decode cX2_kindOfSign 7 = .ok (.if_icmp .ne 10, 3) := dk_160 0 10 (dk_at dksX2_kindOfSign_0 7 rfl rfl)
theorem dX2_kindOfSign_10 : decode cX2_kindOfSign 10 = .ok (.aload_n 0, 1) := dk_42 (dk_at dksX2_kindOfSign_0 10 rfl rfl)
theorem dX2_kindOfSign_11 : decode cX2_kindOfSign 11 = .ok (.iload_n 2, 1) := dk_28 (dk_at dksX2_kindOfSign_0 11 rfl rfl)
theorem dX2_kindOfSign_12 : decode cX2_kindOfSign 12 = .ok (.iload_n 2, 1) := dk_28 (dk_at dksX2_kindOfSign_0 12 rfl rfl)
theorem dX2_kindOfSign_13 : decode cX2_kindOfSign 13 = .ok (.invokevirtual 283, 3) := dk_182 1 27 (dk_at dksX2_kindOfSign_0 13 rfl rfl)
theorem dX2_kindOfSign_16 : decode cX2_kindOfSign 16 = .ok (.ireturn, 1) := dk_172 (dk_at dksX2_kindOfSign_0 16 rfl rfl)
theorem dX2_kindOfSign_17 : decode cX2_kindOfSign 17 = .ok (.aload_n 0, 1) := dk_42 (dk_at dksX2_kindOfSign_0 17 rfl rfl)
theorem dX2_kindOfSign_18 : decode cX2_kindOfSign 18 = .ok (.invokevirtual 286, 3) := dk_182 1 30 (dk_at dksX2_kindOfSign_0 18 rfl rfl)
theorem dX2_kindOfSign_21 : decode cX2_kindOfSign 21 = .ok (.istore_n 3, 1) := dk_62 (dk_at dksX2_kindOfSign_0 21 rfl rfl)
theorem dX2_kindOfSign_22 : decode cX2_kindOfSign 22 = .ok (.iload_n 1, 1) := dk_27 (dk_at dksX2_kindOfSign_0 22 rfl rfl)
theorem dX2_kindOfSign_23 : decode cX2_kindOfSign 23 = .ok (.iconst 2, 1) := dk_5 (dk_at dksX2_kindOfSign_0 23 rfl rfl)
theorem dX2_kindOfSign_24 : decode cX2_kindOfSign 24 = .ok (.if_icmp .ne 15, 3) := dk_160 0 15 (dk_at dksX2_kindOfSign_1 0 rfl rfl)
theorem dX2_kindOfSign_27 : decode cX2_kindOfSign 27 = .ok (.aload_n 0, 1) := dk_42 (dk_at dksX2_kindOfSign_1 3 rfl rfl)
theorem dX2_kindOfSign_28 : decode cX2_kindOfSign 28 = .ok (.iload_n 2, 1) := dk_28 (dk_at dksX2_kindOfSign_1 4 rfl rfl)
theorem dX2_kindOfSign_29 : decode cX2_kindOfSign 29 = .ok (.aload_n 0, 1) := dk_42 (dk_at dksX2_kindOfSign_1 5 rfl rfl)
theorem dX2_kindOfSign_30 : decode cX2_kindOfSign 30 = .ok (.iload_n 3, 1) := dk_29 (dk_at dksX2_kindOfSign_1 6 rfl rfl)
theorem dX2_kindOfSign_31 : decode cX2_kindOfSign 31 = .ok (.iload_n 2, 1) := dk_28 (dk_at dksX2_kindOfSign_1 7 rfl rfl)
theorem dX2_kindOfSign_32 : decode cX2_kindOfSign 32 = .ok (.invokevirtual 283, 3) := dk_182 1 27 (dk_at dksX2_kindOfSign_1 8 rfl rfl)
theorem dX2_kindOfSign_35 : decode cX2_kindOfSign 35 = .ok (.invokevirtual 283, 3) := dk_182 1 27 (dk_at dksX2_kindOfSign_1 11 rfl rfl)
theorem dX2_kindOfSign_38 : decode cX2_kindOfSign 38 = .ok (.ireturn, 1) := dk_172 (dk_at dksX2_kindOfSign_1 14 rfl rfl)
theorem dX2_kindOfSign_39 : decode cX2_kindOfSign 39 = .ok (.aload_n 0, 1) := dk_42 (dk_at dksX2_kindOfSign_1 15 rfl rfl)
theorem dX2_kindOfSign_40 : decode cX2_kindOfSign 40 = .ok (.invokevirtual 286, 3) := dk_182 1 30 (dk_at dksX2_kindOfSign_1 16 rfl rfl)
theorem dX2_kindOfSign_43 : decode cX2_kindOfSign 43 = .ok (.istore 4, 2) := dk_54 4 (dk_at dksX2_kindOfSign_1 19 rfl rfl)
theorem dX2_kindOfSign_45 : decode cX2_kindOfSign 45 = .ok (.aload_n 0, 1) := dk_42 (dk_at dksX2_kindOfSign_1 21 rfl rfl)
theorem dX2_kindOfSign_46 : decode cX2_kindOfSign 46 = .ok (.iload_n 2, 1) := dk_28 (dk_at dksX2_kindOfSign_1 22 rfl rfl)
theorem dX2_kindOfSign_47 : decode cX2_kindOfSign 47 = .ok (.iload 4, 2) := dk_21 4 (dk_at dksX2_kindOfSign_2 0 rfl rfl)
theorem dX2_kindOfSign_49 : decode cX2_kindOfSign 49 = .ok (.invokevirtual 283, 3) := dk_182 1 27 (dk_at dksX2_kindOfSign_2 2 rfl rfl)
theorem dX2_kindOfSign_52 : decode cX2_kindOfSign 52 = .ok (.istore 5, 2) := dk_54 5 (dk_at dksX2_kindOfSign_2 5 rfl rfl)
theorem dX2_kindOfSign_54 : decode cX2_kindOfSign 54 = .ok (.iload_n 1, 1) := dk_27 (dk_at dksX2_kindOfSign_2 7 rfl rfl)
theorem dX2_kindOfSign_55 : decode cX2_kindOfSign 55 = .ok (.iconst 4, 1) := dk_7 (dk_at dksX2_kindOfSign_2 8 rfl rfl)
theorem dX2_kindOfSign_56 : decode cX2_kindOfSign 56 = .ok (.if_icmp .ne 27, 3) := dk_160 0 27 (dk_at dksX2_kindOfSign_2 9 rfl rfl)
theorem dX2_kindOfSign_59 : decode cX2_kindOfSign 59 = .ok (.aload_n 0, 1) := dk_42 (dk_at dksX2_kindOfSign_2 12 rfl rfl)
theorem dX2_kindOfSign_60 : decode cX2_kindOfSign 60 = .ok (.aload_n 0, 1) := dk_42 (dk_at dksX2_kindOfSign_2 13 rfl rfl)
theorem dX2_kindOfSign_61 : decode cX2_kindOfSign 61 = .ok (.iload_n 3, 1) := dk_29 (dk_at dksX2_kindOfSign_2 14 rfl rfl)
theorem dX2_kindOfSign_62 : decode cX2_kindOfSign 62 = .ok (.iload 4, 2) := dk_21 4 (dk_at dksX2_kindOfSign_2 15 rfl rfl)
theorem dX2_kindOfSign_64 : decode cX2_kindOfSign 64 = .ok (.invokevirtual 283, 3) := dk_182 1 27 (dk_at dksX2_kindOfSign_2 17 rfl rfl)
theorem dX2_kindOfSign_67 : decode cX2_kindOfSign 67 = .ok (.aload_n 0, 1) := dk_42 (dk_at dksX2_kindOfSign_2 20 rfl rfl)
theorem dX2_kindOfSign_68 : decode cX2_kindOfSign 68 = .ok (.aload_n 0, 1) := dk_42 (dk_at dksX2_kindOfSign_2 21 rfl rfl)
theorem dX2_kindOfSign_69 : decode cX2_kindOfSign 69 = .ok (.iload_n 2, 1) := dk_28 (dk_at dksX2_kindOfSign_2 22 rfl rfl)
theorem dX2_kindOfSign_70 : decode cX2_kindOfSign 70 = .ok (.iload_n 3, 1) := dk_29 (dk_at dksX2_kindOfSign_2 23 rfl rfl)
theorem dX2_kindOfSign_71 : decode cX2_kindOfSign 71 = .ok (.invokevirtual 283, 3) := dk_182 1 27 (dk_at dksX2_kindOfSign_3 0 rfl rfl)
theorem dX2_kindOfSign_74 : decode cX2_kindOfSign 74 = .ok (.iload 5, 2) := dk_21 5 (dk_at dksX2_kindOfSign_3 3 rfl rfl)
theorem dX2_kindOfSign_76 : decode cX2_kindOfSign 76 = .ok (.invokevirtual 283, 3) := dk_182 1 27 (dk_at dksX2_kindOfSign_3 5 rfl rfl)
theorem dX2_kindOfSign_79 : decode cX2_kindOfSign 79 = .ok (.invokevirtual 283, 3) := dk_182 1 27 (dk_at dksX2_kindOfSign_3 8 rfl rfl)
theorem dX2_kindOfSign_82 : decode cX2_kindOfSign 82 = .ok (.ireturn, 1) := dk_172 (dk_at dksX2_kindOfSign_3 11 rfl rfl)
theorem dX2_kindOfSign_83 : decode cX2_kindOfSign 83 = .ok (.aload_n 0, 1) := dk_42 (dk_at dksX2_kindOfSign_3 12 rfl rfl)
theorem dX2_kindOfSign_84 : decode cX2_kindOfSign 84 = .ok (.iload_n 2, 1) := dk_28 (dk_at dksX2_kindOfSign_3 13 rfl rfl)
theorem dX2_kindOfSign_85 : decode cX2_kindOfSign 85 = .ok (.aload_n 0, 1) := dk_42 (dk_at dksX2_kindOfSign_3 14 rfl rfl)
theorem dX2_kindOfSign_86 : decode cX2_kindOfSign 86 = .ok (.iload_n 3, 1) := dk_29 (dk_at dksX2_kindOfSign_3 15 rfl rfl)
theorem dX2_kindOfSign_87 : decode cX2_kindOfSign 87 = .ok (.iload 4, 2) := dk_21 4 (dk_at dksX2_kindOfSign_3 16 rfl rfl)
theorem dX2_kindOfSign_89 : decode cX2_kindOfSign 89 = .ok (.invokevirtual 283, 3) := dk_182 1 27 (dk_at dksX2_kindOfSign_3 18 rfl rfl)
theorem dX2_kindOfSign_92 : decode cX2_kindOfSign 92 = .ok (.invokevirtual 283, 3) := dk_182 1 27 (dk_at dksX2_kindOfSign_3 21 rfl rfl)
theorem dX2_kindOfSign_95 : decode cX2_kindOfSign 95 = .ok (.istore 6, 2) := dk_54 6 (dk_at dksX2_kindOfSign_4 0 rfl rfl)
theorem dX2_kindOfSign_97 : decode cX2_kindOfSign 97 = .ok (.aload_n 0, 1) := dk_42 (dk_at dksX2_kindOfSign_4 2 rfl rfl)
theorem dX2_kindOfSign_98 : decode cX2_kindOfSign 98 = .ok (.iload 6, 2) := dk_21 6 (dk_at dksX2_kindOfSign_4 3 rfl rfl)
theorem dX2_kindOfSign_100 : decode cX2_kindOfSign 100 = .ok (.iload_n 1, 1) := dk_27 (dk_at dksX2_kindOfSign_4 5 rfl rfl)
theorem dX2_kindOfSign_101 : decode cX2_kindOfSign 101 = .ok (.iconst 3, 1) := dk_6 (dk_at dksX2_kindOfSign_4 6 rfl rfl)
theorem dX2_kindOfSign_102 : decode cX2_kindOfSign 102 = .ok (.if_icmp .ne 18, 3) := dk_160 0 18 (dk_at dksX2_kindOfSign_4 7 rfl rfl)
theorem dX2_kindOfSign_105 : decode cX2_kindOfSign 105 = .ok (.aload_n 0, 1) := dk_42 (dk_at dksX2_kindOfSign_4 10 rfl rfl)
theorem dX2_kindOfSign_106 : decode cX2_kindOfSign 106 = .ok (.aload_n 0, 1) := dk_42 (dk_at dksX2_kindOfSign_4 11 rfl rfl)
theorem dX2_kindOfSign_107 : decode cX2_kindOfSign 107 = .ok (.iload_n 2, 1) := dk_28 (dk_at dksX2_kindOfSign_4 12 rfl rfl)
theorem dX2_kindOfSign_108 : decode cX2_kindOfSign 108 = .ok (.iload_n 3, 1) := dk_29 (dk_at dksX2_kindOfSign_4 13 rfl rfl)
theorem dX2_kindOfSign_109 : decode cX2_kindOfSign 109 = .ok (.invokevirtual 283, 3) := dk_182 1 27 (dk_at dksX2_kindOfSign_4 14 rfl rfl)
theorem dX2_kindOfSign_112 : decode cX2_kindOfSign 112 = .ok (.iload 5, 2) := dk_21 5 (dk_at dksX2_kindOfSign_4 17 rfl rfl)
theorem dX2_kindOfSign_114 : decode cX2_kindOfSign 114 = .ok (.invokevirtual 283, 3) := dk_182 1 27 (dk_at dksX2_kindOfSign_4 19 rfl rfl)
theorem dX2_kindOfSign_117 : decode cX2_kindOfSign 117 = .ok (.goto 10, 3) := dk_167 0 10 (dk_at dksX2_kindOfSign_5 0 rfl rfl)
theorem dX2_kindOfSign_120 : decode cX2_kindOfSign 120 = .ok (.aload_n 0, 1) := dk_42 (dk_at dksX2_kindOfSign_5 3 rfl rfl)
theorem dX2_kindOfSign_121 : decode cX2_kindOfSign 121 = .ok (.iload_n 3, 1) := dk_29 (dk_at dksX2_kindOfSign_5 4 rfl rfl)
theorem dX2_kindOfSign_122 : decode cX2_kindOfSign 122 = .ok (.iload 5, 2) := dk_21 5 (dk_at dksX2_kindOfSign_5 5 rfl rfl)
theorem dX2_kindOfSign_124 : decode cX2_kindOfSign 124 = .ok (.invokevirtual 283, 3) := dk_182 1 27 (dk_at dksX2_kindOfSign_5 7 rfl rfl)
theorem dX2_kindOfSign_127 : decode cX2_kindOfSign 127 = .ok (.invokevirtual 283, 3) := dk_182 1 27 (dk_at dksX2_kindOfSign_5 10 rfl rfl)
theorem dX2_kindOfSign_130 : decode cX2_kindOfSign 130 = .ok (.ireturn, 1) := dk_172 (dk_at dksX2_kindOfSign_5 13 rfl rfl)
abbrev cX2_areSound : ByteArray := prog_15_method_61_code
def yX2_areSound : MethodName := ⟨RX2, "areSound", "()Z"⟩
def dkwX2_areSound_6 : List UInt8 := [167, 255, 144, 28, 42, 180, 1, 24, 160, 0, 7, 4, 167, 0, 4, 3, 172]
abbrev dktX2_areSound_6 : List UInt8 := dkwX2_areSound_6 ++ []
def dkwX2_areSound_5 : List UInt8 := [51, 154, 0, 15, 42, 180, 0, 63, 29, 4, 84, 132, 2, 1, 4, 60, 132, 3, 255, 167, 255, 160]
abbrev dktX2_areSound_5 : List UInt8 := dkwX2_areSound_5 ++ dktX2_areSound_6
def dkwX2_areSound_4 : List UInt8 := [182, 1, 33, 51, 153, 0, 7, 4, 167, 0, 4, 3, 54, 4, 21, 4, 153, 0, 24, 42, 180, 0, 63, 29]
abbrev dktX2_areSound_4 : List UInt8 := dkwX2_areSound_4 ++ dktX2_areSound_5
def dkwX2_areSound_3 : List UInt8 := [42, 180, 0, 54, 29, 46, 182, 1, 33, 51, 153, 0, 25, 42, 180, 0, 63, 42, 42, 180, 0, 57, 29, 46]
abbrev dktX2_areSound_3 : List UInt8 := dkwX2_areSound_3 ++ dktX2_areSound_4
def dkwX2_areSound_2 : List UInt8 := [180, 0, 60, 29, 46, 29, 160, 0, 49, 42, 180, 0, 54, 29, 46, 2, 159, 0, 39, 42, 180, 0, 63, 42]
abbrev dktX2_areSound_2 : List UInt8 := dkwX2_areSound_2 ++ dktX2_areSound_3
def dkwX2_areSound_1 : List UInt8 := [167, 255, 238, 3, 61, 27, 153, 0, 114, 3, 60, 42, 180, 1, 24, 4, 100, 62, 29, 155, 0, 98, 42]
abbrev dktX2_areSound_1 : List UInt8 := dkwX2_areSound_1 ++ dktX2_areSound_2
def dkwX2_areSound_0 : List UInt8 := [4, 60, 3, 61, 28, 42, 180, 1, 24, 162, 0, 16, 42, 180, 0, 63, 28, 3, 84, 132, 2, 1]
abbrev dktX2_areSound_0 : List UInt8 := dkwX2_areSound_0 ++ dktX2_areSound_1
theorem dksX2_areSound_0 : cX2_areSound.data.toList.drop 0 = dktX2_areSound_0 := by decide +kernel
theorem dksX2_areSound_1 : cX2_areSound.data.toList.drop 22 = dktX2_areSound_1 := dk_seg dksX2_areSound_0 22 rfl rfl
theorem dksX2_areSound_2 : cX2_areSound.data.toList.drop 45 = dktX2_areSound_2 := dk_seg dksX2_areSound_1 23 rfl rfl
theorem dksX2_areSound_3 : cX2_areSound.data.toList.drop 69 = dktX2_areSound_3 := dk_seg dksX2_areSound_2 24 rfl rfl
theorem dksX2_areSound_4 : cX2_areSound.data.toList.drop 93 = dktX2_areSound_4 := dk_seg dksX2_areSound_3 24 rfl rfl
theorem dksX2_areSound_5 : cX2_areSound.data.toList.drop 117 = dktX2_areSound_5 := dk_seg dksX2_areSound_4 24 rfl rfl
theorem dksX2_areSound_6 : cX2_areSound.data.toList.drop 139 = dktX2_areSound_6 := dk_seg dksX2_areSound_5 22 rfl rfl
theorem dX2_areSound_0 : decode cX2_areSound 0 = .ok (.iconst 1, 1) := dk_4 (dk_at dksX2_areSound_0 0 rfl rfl)
theorem dX2_areSound_1 : decode cX2_areSound 1 = .ok (.istore_n 1, 1) := dk_60 (dk_at dksX2_areSound_0 1 rfl rfl)
theorem dX2_areSound_2 : decode cX2_areSound 2 = .ok (.iconst 0, 1) := dk_3 (dk_at dksX2_areSound_0 2 rfl rfl)
theorem dX2_areSound_3 : decode cX2_areSound 3 = .ok (.istore_n 2, 1) := dk_61 (dk_at dksX2_areSound_0 3 rfl rfl)
theorem dX2_areSound_4 : decode cX2_areSound 4 = .ok (.iload_n 2, 1) := dk_28 (dk_at dksX2_areSound_0 4 rfl rfl)
theorem dX2_areSound_5 : decode cX2_areSound 5 = .ok (.aload_n 0, 1) := dk_42 (dk_at dksX2_areSound_0 5 rfl rfl)
theorem dX2_areSound_6 : decode cX2_areSound 6 = .ok (.getfield 280, 3) := dk_180 1 24 (dk_at dksX2_areSound_0 6 rfl rfl)
theorem dX2_areSound_9 : decode cX2_areSound 9 = .ok (.if_icmp .ge 16, 3) := dk_162 0 16 (dk_at dksX2_areSound_0 9 rfl rfl)
theorem dX2_areSound_12 : decode cX2_areSound 12 = .ok (.aload_n 0, 1) := dk_42 (dk_at dksX2_areSound_0 12 rfl rfl)
theorem dX2_areSound_13 : decode cX2_areSound 13 = .ok (.getfield 63, 3) := dk_180 0 63 (dk_at dksX2_areSound_0 13 rfl rfl)
theorem dX2_areSound_16 : decode cX2_areSound 16 = .ok (.iload_n 2, 1) := dk_28 (dk_at dksX2_areSound_0 16 rfl rfl)
theorem dX2_areSound_17 : decode cX2_areSound 17 = .ok (.iconst 0, 1) := dk_3 (dk_at dksX2_areSound_0 17 rfl rfl)
theorem dX2_areSound_18 : decode cX2_areSound 18 = .ok (.bastore, 1) := dk_84 (dk_at dksX2_areSound_0 18 rfl rfl)
theorem dX2_areSound_19 : decode cX2_areSound 19 = .ok (.iinc 2 1, 3) := dk_132 2 1 (dk_at dksX2_areSound_0 19 rfl rfl)
theorem dX2_areSound_22 : decode cX2_areSound 22 = .ok (.goto (-18), 3) := dk_167 255 238 (dk_at dksX2_areSound_1 0 rfl rfl)
theorem dX2_areSound_25 : decode cX2_areSound 25 = .ok (.iconst 0, 1) := dk_3 (dk_at dksX2_areSound_1 3 rfl rfl)
theorem dX2_areSound_26 : decode cX2_areSound 26 = .ok (.istore_n 2, 1) := dk_61 (dk_at dksX2_areSound_1 4 rfl rfl)
theorem dX2_areSound_27 : decode cX2_areSound 27 = .ok (.iload_n 1, 1) := dk_27 (dk_at dksX2_areSound_1 5 rfl rfl)
theorem dX2_areSound_28 : decode cX2_areSound 28 = .ok (.ifCond .eq 114, 3) := dk_153 0 114 (dk_at dksX2_areSound_1 6 rfl rfl)
theorem dX2_areSound_31 : decode cX2_areSound 31 = .ok (.iconst 0, 1) := dk_3 (dk_at dksX2_areSound_1 9 rfl rfl)
theorem dX2_areSound_32 : decode cX2_areSound 32 = .ok (.istore_n 1, 1) := dk_60 (dk_at dksX2_areSound_1 10 rfl rfl)
theorem dX2_areSound_33 : decode cX2_areSound 33 = .ok (.aload_n 0, 1) := dk_42 (dk_at dksX2_areSound_1 11 rfl rfl)
theorem dX2_areSound_34 : decode cX2_areSound 34 = .ok (.getfield 280, 3) := dk_180 1 24 (dk_at dksX2_areSound_1 12 rfl rfl)
theorem dX2_areSound_37 : decode cX2_areSound 37 = .ok (.iconst 1, 1) := dk_4 (dk_at dksX2_areSound_1 15 rfl rfl)
theorem dX2_areSound_38 : decode cX2_areSound 38 = .ok (.isub, 1) := dk_100 (dk_at dksX2_areSound_1 16 rfl rfl)
theorem dX2_areSound_39 : decode cX2_areSound 39 = .ok (.istore_n 3, 1) := dk_62 (dk_at dksX2_areSound_1 17 rfl rfl)
theorem dX2_areSound_40 : decode cX2_areSound 40 = .ok (.iload_n 3, 1) := dk_29 (dk_at dksX2_areSound_1 18 rfl rfl)
theorem dX2_areSound_41 : decode cX2_areSound 41 = .ok (.ifCond .lt 98, 3) := dk_155 0 98 (dk_at dksX2_areSound_1 19 rfl rfl)
theorem dX2_areSound_44 : decode cX2_areSound 44 = .ok (.aload_n 0, 1) := dk_42 (dk_at dksX2_areSound_1 22 rfl rfl)
theorem dX2_areSound_45 : decode cX2_areSound 45 = .ok (.getfield 60, 3) := dk_180 0 60 (dk_at dksX2_areSound_2 0 rfl rfl)
theorem dX2_areSound_48 : decode cX2_areSound 48 = .ok (.iload_n 3, 1) := dk_29 (dk_at dksX2_areSound_2 3 rfl rfl)
theorem dX2_areSound_49 : decode cX2_areSound 49 = .ok (.iaload, 1) := dk_46 (dk_at dksX2_areSound_2 4 rfl rfl)
theorem dX2_areSound_50 : decode cX2_areSound 50 = .ok (.iload_n 3, 1) := dk_29 (dk_at dksX2_areSound_2 5 rfl rfl)
theorem dX2_areSound_51 : decode cX2_areSound 51 = .ok (.if_icmp .ne 49, 3) := dk_160 0 49 (dk_at dksX2_areSound_2 6 rfl rfl)
theorem dX2_areSound_54 : decode cX2_areSound 54 = .ok (.aload_n 0, 1) := dk_42 (dk_at dksX2_areSound_2 9 rfl rfl)
theorem dX2_areSound_55 : decode cX2_areSound 55 = .ok (.getfield 54, 3) := dk_180 0 54 (dk_at dksX2_areSound_2 10 rfl rfl)
theorem dX2_areSound_58 : decode cX2_areSound 58 = .ok (.iload_n 3, 1) := dk_29 (dk_at dksX2_areSound_2 13 rfl rfl)
theorem dX2_areSound_59 : decode cX2_areSound 59 = .ok (.iaload, 1) := dk_46 (dk_at dksX2_areSound_2 14 rfl rfl)
theorem dX2_areSound_60 : decode cX2_areSound 60 = .ok (.iconst (-1), 1) := dk_2 (dk_at dksX2_areSound_2 15 rfl rfl)
theorem dX2_areSound_61 : decode cX2_areSound 61 = .ok (.if_icmp .eq 39, 3) := dk_159 0 39 (dk_at dksX2_areSound_2 16 rfl rfl)
theorem dX2_areSound_64 : decode cX2_areSound 64 = .ok (.aload_n 0, 1) := dk_42 (dk_at dksX2_areSound_2 19 rfl rfl)
theorem dX2_areSound_65 : decode cX2_areSound 65 = .ok (.getfield 63, 3) := dk_180 0 63 (dk_at dksX2_areSound_2 20 rfl rfl)
theorem dX2_areSound_68 : decode cX2_areSound 68 = .ok (.aload_n 0, 1) := dk_42 (dk_at dksX2_areSound_2 23 rfl rfl)
theorem dX2_areSound_69 : decode cX2_areSound 69 = .ok (.aload_n 0, 1) := dk_42 (dk_at dksX2_areSound_3 0 rfl rfl)
theorem dX2_areSound_70 : decode cX2_areSound 70 = .ok (.getfield 54, 3) := dk_180 0 54 (dk_at dksX2_areSound_3 1 rfl rfl)
theorem dX2_areSound_73 : decode cX2_areSound 73 = .ok (.iload_n 3, 1) := dk_29 (dk_at dksX2_areSound_3 4 rfl rfl)
theorem dX2_areSound_74 : decode cX2_areSound 74 = .ok (.iaload, 1) := dk_46 (dk_at dksX2_areSound_3 5 rfl rfl)
theorem dX2_areSound_75 : decode cX2_areSound 75 = .ok (.invokevirtual 289, 3) := dk_182 1 33 (dk_at dksX2_areSound_3 6 rfl rfl)
theorem dX2_areSound_78 : decode cX2_areSound 78 = .ok (.baload, 1) := dk_51 (dk_at dksX2_areSound_3 9 rfl rfl)
theorem dX2_areSound_79 : decode cX2_areSound 79 = .ok (.ifCond .eq 25, 3) := dk_153 0 25 (dk_at dksX2_areSound_3 10 rfl rfl)
theorem dX2_areSound_82 : decode cX2_areSound 82 = .ok (.aload_n 0, 1) := dk_42 (dk_at dksX2_areSound_3 13 rfl rfl)
theorem dX2_areSound_83 : decode cX2_areSound 83 = .ok (.getfield 63, 3) := dk_180 0 63 (dk_at dksX2_areSound_3 14 rfl rfl)
theorem dX2_areSound_86 : decode cX2_areSound 86 = .ok (.aload_n 0, 1) := dk_42 (dk_at dksX2_areSound_3 17 rfl rfl)
theorem dX2_areSound_87 : decode cX2_areSound 87 = .ok (.aload_n 0, 1) := dk_42 (dk_at dksX2_areSound_3 18 rfl rfl)
theorem dX2_areSound_88 : decode cX2_areSound 88 = .ok (.getfield 57, 3) := dk_180 0 57 (dk_at dksX2_areSound_3 19 rfl rfl)
theorem dX2_areSound_91 : decode cX2_areSound 91 = .ok (.iload_n 3, 1) := dk_29 (dk_at dksX2_areSound_3 22 rfl rfl)
theorem dX2_areSound_92 : decode cX2_areSound 92 = .ok (.iaload, 1) := dk_46 (dk_at dksX2_areSound_3 23 rfl rfl)
theorem dX2_areSound_93 : decode cX2_areSound 93 = .ok (.invokevirtual 289, 3) := dk_182 1 33 (dk_at dksX2_areSound_4 0 rfl rfl)
theorem dX2_areSound_96 : decode cX2_areSound 96 = .ok (.baload, 1) := dk_51 (dk_at dksX2_areSound_4 3 rfl rfl)
theorem dX2_areSound_97 : decode cX2_areSound 97 = .ok (.ifCond .eq 7, 3) := dk_153 0 7 (dk_at dksX2_areSound_4 4 rfl rfl)
theorem dX2_areSound_100 : decode cX2_areSound 100 = .ok (.iconst 1, 1) := dk_4 (dk_at dksX2_areSound_4 7 rfl rfl)
theorem dX2_areSound_101 : decode cX2_areSound 101 = .ok (.goto 4, 3) := dk_167 0 4 (dk_at dksX2_areSound_4 8 rfl rfl)
theorem dX2_areSound_104 : decode cX2_areSound 104 = .ok (.iconst 0, 1) := dk_3 (dk_at dksX2_areSound_4 11 rfl rfl)
theorem dX2_areSound_105 : decode cX2_areSound 105 = .ok (.istore 4, 2) := dk_54 4 (dk_at dksX2_areSound_4 12 rfl rfl)
theorem dX2_areSound_107 : decode cX2_areSound 107 = .ok (.iload 4, 2) := dk_21 4 (dk_at dksX2_areSound_4 14 rfl rfl)
theorem dX2_areSound_109 : decode cX2_areSound 109 = .ok (.ifCond .eq 24, 3) := dk_153 0 24 (dk_at dksX2_areSound_4 16 rfl rfl)
theorem dX2_areSound_112 : decode cX2_areSound 112 = .ok (.aload_n 0, 1) := dk_42 (dk_at dksX2_areSound_4 19 rfl rfl)
theorem dX2_areSound_113 : decode cX2_areSound 113 = .ok (.getfield 63, 3) := dk_180 0 63 (dk_at dksX2_areSound_4 20 rfl rfl)
theorem dX2_areSound_116 : decode cX2_areSound 116 = .ok (.iload_n 3, 1) := dk_29 (dk_at dksX2_areSound_4 23 rfl rfl)
theorem dX2_areSound_117 : decode cX2_areSound 117 = .ok (.baload, 1) := dk_51 (dk_at dksX2_areSound_5 0 rfl rfl)
theorem dX2_areSound_118 : decode cX2_areSound 118 = .ok (.ifCond .ne 15, 3) := dk_154 0 15 (dk_at dksX2_areSound_5 1 rfl rfl)
theorem dX2_areSound_121 : decode cX2_areSound 121 = .ok (.aload_n 0, 1) := dk_42 (dk_at dksX2_areSound_5 4 rfl rfl)
theorem dX2_areSound_122 : decode cX2_areSound 122 = .ok (.getfield 63, 3) := dk_180 0 63 (dk_at dksX2_areSound_5 5 rfl rfl)
theorem dX2_areSound_125 : decode cX2_areSound 125 = .ok (.iload_n 3, 1) := dk_29 (dk_at dksX2_areSound_5 8 rfl rfl)
theorem dX2_areSound_126 : decode cX2_areSound 126 = .ok (.iconst 1, 1) := dk_4 (dk_at dksX2_areSound_5 9 rfl rfl)
theorem dX2_areSound_127 : decode cX2_areSound 127 = .ok (.bastore, 1) := dk_84 (dk_at dksX2_areSound_5 10 rfl rfl)
theorem dX2_areSound_128 : decode cX2_areSound 128 = .ok (.iinc 2 1, 3) := dk_132 2 1 (dk_at dksX2_areSound_5 11 rfl rfl)
theorem dX2_areSound_131 : decode cX2_areSound 131 = .ok (.iconst 1, 1) := dk_4 (dk_at dksX2_areSound_5 14 rfl rfl)
theorem dX2_areSound_132 : decode cX2_areSound 132 = .ok (.istore_n 1, 1) := dk_60 (dk_at dksX2_areSound_5 15 rfl rfl)
theorem dX2_areSound_133 : decode cX2_areSound 133 = .ok (.iinc 3 (-1), 3) := dk_132 3 255 (dk_at dksX2_areSound_5 16 rfl rfl)
theorem dX2_areSound_136 : decode cX2_areSound 136 = .ok (.goto (-96), 3) := dk_167 255 160 (dk_at dksX2_areSound_5 19 rfl rfl)
theorem dX2_areSound_139 : decode cX2_areSound 139 = .ok (.goto (-112), 3) := dk_167 255 144 (dk_at dksX2_areSound_6 0 rfl rfl)
theorem dX2_areSound_142 : decode cX2_areSound 142 = .ok (.iload_n 2, 1) := dk_28 (dk_at dksX2_areSound_6 3 rfl rfl)
theorem dX2_areSound_143 : decode cX2_areSound 143 = .ok (.aload_n 0, 1) := dk_42 (dk_at dksX2_areSound_6 4 rfl rfl)
theorem dX2_areSound_144 : decode cX2_areSound 144 = .ok (.getfield 280, 3) := dk_180 1 24 (dk_at dksX2_areSound_6 5 rfl rfl)
theorem dX2_areSound_147 : decode cX2_areSound 147 = .ok (.if_icmp .ne 7, 3) := dk_160 0 7 (dk_at dksX2_areSound_6 8 rfl rfl)
theorem dX2_areSound_150 : decode cX2_areSound 150 = .ok (.iconst 1, 1) := dk_4 (dk_at dksX2_areSound_6 11 rfl rfl)
theorem dX2_areSound_151 : decode cX2_areSound 151 = .ok (.goto 4, 3) := dk_167 0 4 (dk_at dksX2_areSound_6 12 rfl rfl)
theorem dX2_areSound_154 : decode cX2_areSound 154 = .ok (.iconst 0, 1) := dk_3 (dk_at dksX2_areSound_6 15 rfl rfl)
theorem dX2_areSound_155 : decode cX2_areSound 155 = .ok (.ireturn, 1) := dk_172 (dk_at dksX2_areSound_6 16 rfl rfl)
abbrev cX2_writeKind : ByteArray := prog_15_method_64_code
def yX2_writeKind : MethodName := ⟨RX2, "writeKind", "(I)I"⟩
def dkwX2_writeKind_12 : List UInt8 := [180, 1, 48, 172]
abbrev dktX2_writeKind_12 : List UInt8 := dkwX2_writeKind_12 ++ []
def dkwX2_writeKind_11 : List UInt8 := [42, 180, 1, 48, 17, 0, 200, 163, 0, 9, 29, 16, 26, 164, 0, 8, 18, 114, 167, 0, 7, 42]
abbrev dktX2_writeKind_11 : List UInt8 := dkwX2_writeKind_11 ++ dktX2_writeKind_12
def dkwX2_writeKind_10 : List UInt8 := [42, 180, 0, 54, 21, 4, 46, 182, 0, 172, 21, 5, 153, 0, 9, 42, 16, 216, 182, 0, 172, 167, 255, 53]
abbrev dktX2_writeKind_10 : List UInt8 := dkwX2_writeKind_10 ++ dktX2_writeKind_11
def dkwX2_writeKind_9 : List UInt8 := [21, 4, 46, 182, 0, 172, 42, 16, 194, 182, 0, 172, 21, 5, 153, 0, 9, 42, 16, 215, 182, 0, 172, 42]
abbrev dktX2_writeKind_9 : List UInt8 := dkwX2_writeKind_9 ++ dktX2_writeKind_10
def dkwX2_writeKind_8 : List UInt8 := [21, 4, 46, 182, 1, 33, 46, 2, 159, 0, 7, 4, 167, 0, 4, 3, 54, 5, 42, 42, 180, 0, 57]
abbrev dktX2_writeKind_8 : List UInt8 := dkwX2_writeKind_8 ++ dktX2_writeKind_9
def dkwX2_writeKind_7 : List UInt8 := [42, 42, 180, 0, 78, 21, 4, 46, 182, 1, 54, 167, 0, 80, 42, 180, 0, 54, 42, 42, 180, 0, 54]
abbrev dktX2_writeKind_7 : List UInt8 := dkwX2_writeKind_7 ++ dktX2_writeKind_8
def dkwX2_writeKind_6 : List UInt8 := [180, 0, 78, 21, 4, 46, 154, 0, 10, 16, 96, 29, 96, 167, 0, 10, 42, 180, 0, 78, 21, 4, 46, 79]
abbrev dktX2_writeKind_6 : List UInt8 := dkwX2_writeKind_6 ++ dktX2_writeKind_7
def dkwX2_writeKind_5 : List UInt8 := [180, 0, 78, 21, 4, 46, 154, 0, 7, 4, 167, 0, 4, 3, 96, 62, 42, 180, 0, 78, 21, 4, 42]
abbrev dktX2_writeKind_5 : List UInt8 := dkwX2_writeKind_5 ++ dktX2_writeKind_6
def dkwX2_writeKind_4 : List UInt8 := [167, 0, 162, 42, 21, 4, 182, 1, 33, 54, 4, 42, 180, 0, 54, 21, 4, 46, 2, 160, 0, 66, 29, 42]
abbrev dktX2_writeKind_4 : List UInt8 := dkwX2_writeKind_4 ++ dktX2_writeKind_5
def dkwX2_writeKind_3 : List UInt8 := [16, 26, 163, 0, 186, 42, 182, 0, 175, 54, 4, 21, 4, 156, 0, 13, 42, 21, 4, 116, 182, 1, 54]
abbrev dktX2_writeKind_3 : List UInt8 := dkwX2_writeKind_3 ++ dktX2_writeKind_4
def dkwX2_writeKind_2 : List UInt8 := [42, 28, 182, 0, 172, 42, 180, 0, 94, 158, 0, 202, 42, 180, 1, 48, 17, 0, 200, 163, 0, 192, 29]
abbrev dktX2_writeKind_2 : List UInt8 := dkwX2_writeKind_2 ++ dktX2_writeKind_3
def dkwX2_writeKind_1 : List UInt8 := [180, 0, 78, 29, 3, 79, 132, 3, 1, 167, 255, 238, 3, 62, 42, 3, 181, 1, 48, 42, 3, 181, 0, 94]
abbrev dktX2_writeKind_1 : List UInt8 := dkwX2_writeKind_1 ++ dktX2_writeKind_2
def dkwX2_writeKind_0 : List UInt8 := [42, 27, 182, 1, 51, 61, 28, 2, 160, 0, 5, 2, 172, 3, 62, 29, 42, 180, 1, 24, 162, 0, 16, 42]
abbrev dktX2_writeKind_0 : List UInt8 := dkwX2_writeKind_0 ++ dktX2_writeKind_1
theorem dksX2_writeKind_0 : cX2_writeKind.data.toList.drop 0 = dktX2_writeKind_0 := by decide +kernel
theorem dksX2_writeKind_1 : cX2_writeKind.data.toList.drop 24 = dktX2_writeKind_1 := dk_seg dksX2_writeKind_0 24 rfl rfl
theorem dksX2_writeKind_2 : cX2_writeKind.data.toList.drop 48 = dktX2_writeKind_2 := dk_seg dksX2_writeKind_1 24 rfl rfl
theorem dksX2_writeKind_3 : cX2_writeKind.data.toList.drop 71 = dktX2_writeKind_3 := dk_seg dksX2_writeKind_2 23 rfl rfl
theorem dksX2_writeKind_4 : cX2_writeKind.data.toList.drop 94 = dktX2_writeKind_4 := dk_seg dksX2_writeKind_3 23 rfl rfl
theorem dksX2_writeKind_5 : cX2_writeKind.data.toList.drop 118 = dktX2_writeKind_5 := dk_seg dksX2_writeKind_4 24 rfl rfl
theorem dksX2_writeKind_6 : cX2_writeKind.data.toList.drop 141 = dktX2_writeKind_6 := dk_seg dksX2_writeKind_5 23 rfl rfl
theorem dksX2_writeKind_7 : cX2_writeKind.data.toList.drop 165 = dktX2_writeKind_7 := dk_seg dksX2_writeKind_6 24 rfl rfl
theorem dksX2_writeKind_8 : cX2_writeKind.data.toList.drop 188 = dktX2_writeKind_8 := dk_seg dksX2_writeKind_7 23 rfl rfl
theorem dksX2_writeKind_9 : cX2_writeKind.data.toList.drop 211 = dktX2_writeKind_9 := dk_seg dksX2_writeKind_8 23 rfl rfl
theorem dksX2_writeKind_10 : cX2_writeKind.data.toList.drop 235 = dktX2_writeKind_10 := dk_seg dksX2_writeKind_9 24 rfl rfl
theorem dksX2_writeKind_11 : cX2_writeKind.data.toList.drop 259 = dktX2_writeKind_11 := dk_seg dksX2_writeKind_10 24 rfl rfl
theorem dksX2_writeKind_12 : cX2_writeKind.data.toList.drop 281 = dktX2_writeKind_12 := dk_seg dksX2_writeKind_11 22 rfl rfl
theorem dX2_writeKind_0 : decode cX2_writeKind 0 = .ok (.aload_n 0, 1) := dk_42 (dk_at dksX2_writeKind_0 0 rfl rfl)
theorem dX2_writeKind_1 : decode cX2_writeKind 1 = .ok (.iload_n 1, 1) := dk_27 (dk_at dksX2_writeKind_0 1 rfl rfl)
theorem dX2_writeKind_2 : decode cX2_writeKind 2 = .ok (.invokevirtual 307, 3) := dk_182 1 51 (dk_at dksX2_writeKind_0 2 rfl rfl)
theorem dX2_writeKind_5 : decode cX2_writeKind 5 = .ok (.istore_n 2, 1) := dk_61 (dk_at dksX2_writeKind_0 5 rfl rfl)
theorem dX2_writeKind_6 : decode cX2_writeKind 6 = .ok (.iload_n 2, 1) := dk_28 (dk_at dksX2_writeKind_0 6 rfl rfl)
theorem dX2_writeKind_7 : decode cX2_writeKind 7 = .ok (.iconst (-1), 1) := dk_2 (dk_at dksX2_writeKind_0 7 rfl rfl)
theorem dX2_writeKind_8 : decode cX2_writeKind 8 = .ok (.if_icmp .ne 5, 3) := dk_160 0 5 (dk_at dksX2_writeKind_0 8 rfl rfl)
theorem dX2_writeKind_11 : decode cX2_writeKind 11 = .ok (.iconst (-1), 1) := dk_2 (dk_at dksX2_writeKind_0 11 rfl rfl)
theorem dX2_writeKind_12 : decode cX2_writeKind 12 = .ok (.ireturn, 1) := dk_172 (dk_at dksX2_writeKind_0 12 rfl rfl)
theorem dX2_writeKind_13 : decode cX2_writeKind 13 = .ok (.iconst 0, 1) := dk_3 (dk_at dksX2_writeKind_0 13 rfl rfl)
theorem dX2_writeKind_14 : decode cX2_writeKind 14 = .ok (.istore_n 3, 1) := dk_62 (dk_at dksX2_writeKind_0 14 rfl rfl)
theorem dX2_writeKind_15 : decode cX2_writeKind 15 = .ok (.iload_n 3, 1) := dk_29 (dk_at dksX2_writeKind_0 15 rfl rfl)
theorem dX2_writeKind_16 : decode cX2_writeKind 16 = .ok (.aload_n 0, 1) := dk_42 (dk_at dksX2_writeKind_0 16 rfl rfl)
theorem dX2_writeKind_17 : decode cX2_writeKind 17 = .ok (.getfield 280, 3) := dk_180 1 24 (dk_at dksX2_writeKind_0 17 rfl rfl)
theorem dX2_writeKind_20 : decode cX2_writeKind 20 = .ok (.if_icmp .ge 16, 3) := dk_162 0 16 (dk_at dksX2_writeKind_0 20 rfl rfl)
theorem dX2_writeKind_23 : decode cX2_writeKind 23 = .ok (.aload_n 0, 1) := dk_42 (dk_at dksX2_writeKind_0 23 rfl rfl)
theorem dX2_writeKind_24 : decode cX2_writeKind 24 = .ok (.getfield 78, 3) := dk_180 0 78 (dk_at dksX2_writeKind_1 0 rfl rfl)
theorem dX2_writeKind_27 : decode cX2_writeKind 27 = .ok (.iload_n 3, 1) := dk_29 (dk_at dksX2_writeKind_1 3 rfl rfl)
theorem dX2_writeKind_28 : decode cX2_writeKind 28 = .ok (.iconst 0, 1) := dk_3 (dk_at dksX2_writeKind_1 4 rfl rfl)
theorem dX2_writeKind_29 : decode cX2_writeKind 29 = .ok (.iastore, 1) := dk_79 (dk_at dksX2_writeKind_1 5 rfl rfl)
theorem dX2_writeKind_30 : decode cX2_writeKind 30 = .ok (.iinc 3 1, 3) := dk_132 3 1 (dk_at dksX2_writeKind_1 6 rfl rfl)
theorem dX2_writeKind_33 : decode cX2_writeKind 33 = .ok (.goto (-18), 3) := dk_167 255 238 (dk_at dksX2_writeKind_1 9 rfl rfl)
theorem dX2_writeKind_36 : decode cX2_writeKind 36 = .ok (.iconst 0, 1) := dk_3 (dk_at dksX2_writeKind_1 12 rfl rfl)
theorem dX2_writeKind_37 : decode cX2_writeKind 37 = .ok (.istore_n 3, 1) := dk_62 (dk_at dksX2_writeKind_1 13 rfl rfl)
theorem dX2_writeKind_38 : decode cX2_writeKind 38 = .ok (.aload_n 0, 1) := dk_42 (dk_at dksX2_writeKind_1 14 rfl rfl)
theorem dX2_writeKind_39 : decode cX2_writeKind 39 = .ok (.iconst 0, 1) := dk_3 (dk_at dksX2_writeKind_1 15 rfl rfl)
theorem dX2_writeKind_40 : decode cX2_writeKind 40 = .ok (.putfield 304, 3) := dk_181 1 48 (dk_at dksX2_writeKind_1 16 rfl rfl)
theorem dX2_writeKind_43 : decode cX2_writeKind 43 = .ok (.aload_n 0, 1) := dk_42 (dk_at dksX2_writeKind_1 19 rfl rfl)
theorem dX2_writeKind_44 : decode cX2_writeKind 44 = .ok (.iconst 0, 1) := dk_3 (dk_at dksX2_writeKind_1 20 rfl rfl)
theorem dX2_writeKind_45 : decode cX2_writeKind 45 = .ok (.putfield 94, 3) := dk_181 0 94 (dk_at dksX2_writeKind_1 21 rfl rfl)
theorem dX2_writeKind_48 : decode cX2_writeKind 48 = .ok (.aload_n 0, 1) := dk_42 (dk_at dksX2_writeKind_2 0 rfl rfl)
theorem dX2_writeKind_49 : decode cX2_writeKind 49 = .ok (.iload_n 2, 1) := dk_28 (dk_at dksX2_writeKind_2 1 rfl rfl)
theorem dX2_writeKind_50 : decode cX2_writeKind 50 = .ok (.invokevirtual 172, 3) := dk_182 0 172 (dk_at dksX2_writeKind_2 2 rfl rfl)
theorem dX2_writeKind_53 : decode cX2_writeKind 53 = .ok (.aload_n 0, 1) := dk_42 (dk_at dksX2_writeKind_2 5 rfl rfl)
theorem dX2_writeKind_54 : decode cX2_writeKind 54 = .ok (.getfield 94, 3) := dk_180 0 94 (dk_at dksX2_writeKind_2 6 rfl rfl)
theorem dX2_writeKind_57 : decode cX2_writeKind 57 = .ok (.ifCond .le 202, 3) := dk_158 0 202 (dk_at dksX2_writeKind_2 9 rfl rfl)
theorem dX2_writeKind_60 : decode cX2_writeKind 60 = .ok (.aload_n 0, 1) := dk_42 (dk_at dksX2_writeKind_2 12 rfl rfl)
theorem dX2_writeKind_61 : decode cX2_writeKind 61 = .ok (.getfield 304, 3) := dk_180 1 48 (dk_at dksX2_writeKind_2 13 rfl rfl)
theorem dX2_writeKind_64 : decode cX2_writeKind 64 = .ok (.sipush 200, 3) := dk_17 0 200 (dk_at dksX2_writeKind_2 16 rfl rfl)
theorem dX2_writeKind_67 : decode cX2_writeKind 67 = .ok (.if_icmp .gt 192, 3) := dk_163 0 192 (dk_at dksX2_writeKind_2 19 rfl rfl)
theorem dX2_writeKind_70 : decode cX2_writeKind 70 = .ok (.iload_n 3, 1) := dk_29 (dk_at dksX2_writeKind_2 22 rfl rfl)
theorem dX2_writeKind_71 : decode cX2_writeKind 71 = .ok (.bipush 26, 2) := dk_16 26 (dk_at dksX2_writeKind_3 0 rfl rfl)
theorem dX2_writeKind_73 : decode cX2_writeKind 73 = .ok (.if_icmp .gt 186, 3) := dk_163 0 186 (dk_at dksX2_writeKind_3 2 rfl rfl)
theorem dX2_writeKind_76 : decode cX2_writeKind 76 = .ok (.aload_n 0, 1) := dk_42 (dk_at dksX2_writeKind_3 5 rfl rfl)
theorem dX2_writeKind_77 : decode cX2_writeKind 77 = .ok (.invokevirtual 175, 3) := dk_182 0 175 (dk_at dksX2_writeKind_3 6 rfl rfl)
theorem dX2_writeKind_80 : decode cX2_writeKind 80 = .ok (.istore 4, 2) := dk_54 4 (dk_at dksX2_writeKind_3 9 rfl rfl)
theorem dX2_writeKind_82 : decode cX2_writeKind 82 = .ok (.iload 4, 2) := dk_21 4 (dk_at dksX2_writeKind_3 11 rfl rfl)
theorem dX2_writeKind_84 : decode cX2_writeKind 84 = .ok (.ifCond .ge 13, 3) := dk_156 0 13 (dk_at dksX2_writeKind_3 13 rfl rfl)
theorem dX2_writeKind_87 : decode cX2_writeKind 87 = .ok (.aload_n 0, 1) := dk_42 (dk_at dksX2_writeKind_3 16 rfl rfl)
theorem dX2_writeKind_88 : decode cX2_writeKind 88 = .ok (.iload 4, 2) := dk_21 4 (dk_at dksX2_writeKind_3 17 rfl rfl)
theorem dX2_writeKind_90 : decode cX2_writeKind 90 = .ok (.ineg, 1) := dk_116 (dk_at dksX2_writeKind_3 19 rfl rfl)
theorem dX2_writeKind_91 : decode cX2_writeKind 91 = .ok (.invokevirtual 310, 3) := dk_182 1 54 (dk_at dksX2_writeKind_3 20 rfl rfl)
theorem dX2_writeKind_94 : decode cX2_writeKind 94 = .ok (.goto 162, 3) := dk_167 0 162 (dk_at dksX2_writeKind_4 0 rfl rfl)
theorem dX2_writeKind_97 : decode cX2_writeKind 97 = .ok (.aload_n 0, 1) := dk_42 (dk_at dksX2_writeKind_4 3 rfl rfl)
theorem dX2_writeKind_98 : decode cX2_writeKind 98 = .ok (.iload 4, 2) := dk_21 4 (dk_at dksX2_writeKind_4 4 rfl rfl)
theorem dX2_writeKind_100 : decode cX2_writeKind 100 = .ok (.invokevirtual 289, 3) := dk_182 1 33 (dk_at dksX2_writeKind_4 6 rfl rfl)
theorem dX2_writeKind_103 : decode cX2_writeKind 103 = .ok (.istore 4, 2) := dk_54 4 (dk_at dksX2_writeKind_4 9 rfl rfl)
theorem dX2_writeKind_105 : decode cX2_writeKind 105 = .ok (.aload_n 0, 1) := dk_42 (dk_at dksX2_writeKind_4 11 rfl rfl)
theorem dX2_writeKind_106 : decode cX2_writeKind 106 = .ok (.getfield 54, 3) := dk_180 0 54 (dk_at dksX2_writeKind_4 12 rfl rfl)
theorem dX2_writeKind_109 : decode cX2_writeKind 109 = .ok (.iload 4, 2) := dk_21 4 (dk_at dksX2_writeKind_4 15 rfl rfl)
theorem dX2_writeKind_111 : decode cX2_writeKind 111 = .ok (.iaload, 1) := dk_46 (dk_at dksX2_writeKind_4 17 rfl rfl)
theorem dX2_writeKind_112 : decode cX2_writeKind 112 = .ok (.iconst (-1), 1) := dk_2 (dk_at dksX2_writeKind_4 18 rfl rfl)
theorem dX2_writeKind_113 : decode cX2_writeKind 113 = .ok (.if_icmp .ne 66, 3) := dk_160 0 66 (dk_at dksX2_writeKind_4 19 rfl rfl)
theorem dX2_writeKind_116 : decode cX2_writeKind 116 = .ok (.iload_n 3, 1) := dk_29 (dk_at dksX2_writeKind_4 22 rfl rfl)
theorem dX2_writeKind_117 : decode cX2_writeKind 117 = .ok (.aload_n 0, 1) := dk_42 (dk_at dksX2_writeKind_4 23 rfl rfl)
theorem dX2_writeKind_118 : decode cX2_writeKind 118 = .ok (.getfield 78, 3) := dk_180 0 78 (dk_at dksX2_writeKind_5 0 rfl rfl)
theorem dX2_writeKind_121 : decode cX2_writeKind 121 = .ok (.iload 4, 2) := dk_21 4 (dk_at dksX2_writeKind_5 3 rfl rfl)
theorem dX2_writeKind_123 : decode cX2_writeKind 123 = .ok (.iaload, 1) := dk_46 (dk_at dksX2_writeKind_5 5 rfl rfl)
theorem dX2_writeKind_124 : decode cX2_writeKind 124 = .ok (.ifCond .ne 7, 3) := dk_154 0 7 (dk_at dksX2_writeKind_5 6 rfl rfl)
theorem dX2_writeKind_127 : decode cX2_writeKind 127 = .ok (.iconst 1, 1) := dk_4 (dk_at dksX2_writeKind_5 9 rfl rfl)
theorem dX2_writeKind_128 : decode cX2_writeKind 128 = .ok (.goto 4, 3) := dk_167 0 4 (dk_at dksX2_writeKind_5 10 rfl rfl)
theorem dX2_writeKind_131 : decode cX2_writeKind 131 = .ok (.iconst 0, 1) := dk_3 (dk_at dksX2_writeKind_5 13 rfl rfl)
theorem dX2_writeKind_132 : decode cX2_writeKind 132 = .ok (.iadd, 1) := dk_96 (dk_at dksX2_writeKind_5 14 rfl rfl)
theorem dX2_writeKind_133 : decode cX2_writeKind 133 = .ok (.istore_n 3, 1) := dk_62 (dk_at dksX2_writeKind_5 15 rfl rfl)
theorem dX2_writeKind_134 : decode cX2_writeKind 134 = .ok (.aload_n 0, 1) := dk_42 (dk_at dksX2_writeKind_5 16 rfl rfl)
theorem dX2_writeKind_135 : decode cX2_writeKind 135 = .ok (.getfield 78, 3) := dk_180 0 78 (dk_at dksX2_writeKind_5 17 rfl rfl)
theorem dX2_writeKind_138 : decode cX2_writeKind 138 = .ok (.iload 4, 2) := dk_21 4 (dk_at dksX2_writeKind_5 20 rfl rfl)
theorem dX2_writeKind_140 : decode cX2_writeKind 140 = .ok (.aload_n 0, 1) := dk_42 (dk_at dksX2_writeKind_5 22 rfl rfl)
theorem dX2_writeKind_141 : decode cX2_writeKind 141 = .ok (.getfield 78, 3) := dk_180 0 78 (dk_at dksX2_writeKind_6 0 rfl rfl)
theorem dX2_writeKind_144 : decode cX2_writeKind 144 = .ok (.iload 4, 2) := dk_21 4 (dk_at dksX2_writeKind_6 3 rfl rfl)
theorem dX2_writeKind_146 : decode cX2_writeKind 146 = .ok (.iaload, 1) := dk_46 (dk_at dksX2_writeKind_6 5 rfl rfl)
theorem dX2_writeKind_147 : decode cX2_writeKind 147 = .ok (.ifCond .ne 10, 3) := dk_154 0 10 (dk_at dksX2_writeKind_6 6 rfl rfl)
theorem dX2_writeKind_150 : decode cX2_writeKind 150 = .ok (.bipush 96, 2) := dk_16 96 (dk_at dksX2_writeKind_6 9 rfl rfl)
theorem dX2_writeKind_152 : decode cX2_writeKind 152 = .ok (.iload_n 3, 1) := dk_29 (dk_at dksX2_writeKind_6 11 rfl rfl)
theorem dX2_writeKind_153 : decode cX2_writeKind 153 = .ok (.iadd, 1) := dk_96 (dk_at dksX2_writeKind_6 12 rfl rfl)
theorem dX2_writeKind_154 : decode cX2_writeKind 154 = .ok (.goto 10, 3) := dk_167 0 10 (dk_at dksX2_writeKind_6 13 rfl rfl)
theorem dX2_writeKind_157 : decode cX2_writeKind 157 = .ok (.aload_n 0, 1) := dk_42 (dk_at dksX2_writeKind_6 16 rfl rfl)
theorem dX2_writeKind_158 : decode cX2_writeKind 158 = .ok (.getfield 78, 3) := dk_180 0 78 (dk_at dksX2_writeKind_6 17 rfl rfl)
theorem dX2_writeKind_161 : decode cX2_writeKind 161 = .ok (.iload 4, 2) := dk_21 4 (dk_at dksX2_writeKind_6 20 rfl rfl)
theorem dX2_writeKind_163 : decode cX2_writeKind 163 = .ok (.iaload, 1) := dk_46 (dk_at dksX2_writeKind_6 22 rfl rfl)
theorem dX2_writeKind_164 : decode cX2_writeKind 164 = .ok (.iastore, 1) := dk_79 (dk_at dksX2_writeKind_6 23 rfl rfl)
theorem dX2_writeKind_165 : decode cX2_writeKind 165 = .ok (.aload_n 0, 1) := dk_42 (dk_at dksX2_writeKind_7 0 rfl rfl)
theorem dX2_writeKind_166 : decode cX2_writeKind 166 = .ok (.aload_n 0, 1) := dk_42 (dk_at dksX2_writeKind_7 1 rfl rfl)
theorem dX2_writeKind_167 : decode cX2_writeKind 167 = .ok (.getfield 78, 3) := dk_180 0 78 (dk_at dksX2_writeKind_7 2 rfl rfl)
theorem dX2_writeKind_170 : decode cX2_writeKind 170 = .ok (.iload 4, 2) := dk_21 4 (dk_at dksX2_writeKind_7 5 rfl rfl)
theorem dX2_writeKind_172 : decode cX2_writeKind 172 = .ok (.iaload, 1) := dk_46 (dk_at dksX2_writeKind_7 7 rfl rfl)
theorem dX2_writeKind_173 : decode cX2_writeKind 173 = .ok (.invokevirtual 310, 3) := dk_182 1 54 (dk_at dksX2_writeKind_7 8 rfl rfl)
theorem dX2_writeKind_176 : decode cX2_writeKind 176 = .ok (.goto 80, 3) := dk_167 0 80 (dk_at dksX2_writeKind_7 11 rfl rfl)
theorem dX2_writeKind_179 : decode cX2_writeKind 179 = .ok (.aload_n 0, 1) := dk_42 (dk_at dksX2_writeKind_7 14 rfl rfl)
theorem dX2_writeKind_180 : decode cX2_writeKind 180 = .ok (.getfield 54, 3) := dk_180 0 54 (dk_at dksX2_writeKind_7 15 rfl rfl)
theorem dX2_writeKind_183 : decode cX2_writeKind 183 = .ok (.aload_n 0, 1) := dk_42 (dk_at dksX2_writeKind_7 18 rfl rfl)
theorem dX2_writeKind_184 : decode cX2_writeKind 184 = .ok (.aload_n 0, 1) := dk_42 (dk_at dksX2_writeKind_7 19 rfl rfl)
theorem dX2_writeKind_185 : decode cX2_writeKind 185 = .ok (.getfield 54, 3) := dk_180 0 54 (dk_at dksX2_writeKind_7 20 rfl rfl)
theorem dX2_writeKind_188 : decode cX2_writeKind 188 = .ok (.iload 4, 2) := dk_21 4 (dk_at dksX2_writeKind_8 0 rfl rfl)
theorem dX2_writeKind_190 : decode cX2_writeKind 190 = .ok (.iaload, 1) := dk_46 (dk_at dksX2_writeKind_8 2 rfl rfl)
theorem dX2_writeKind_191 : decode cX2_writeKind 191 = .ok (.invokevirtual 289, 3) := dk_182 1 33 (dk_at dksX2_writeKind_8 3 rfl rfl)
theorem dX2_writeKind_194 : decode cX2_writeKind 194 = .ok (.iaload, 1) := dk_46 (dk_at dksX2_writeKind_8 6 rfl rfl)
theorem dX2_writeKind_195 : decode cX2_writeKind 195 = .ok (.iconst (-1), 1) := dk_2 (dk_at dksX2_writeKind_8 7 rfl rfl)
theorem dX2_writeKind_196 : decode cX2_writeKind 196 = .ok (.if_icmp .eq 7, 3) := dk_159 0 7 (dk_at dksX2_writeKind_8 8 rfl rfl)
theorem dX2_writeKind_199 : decode cX2_writeKind 199 = .ok (.iconst 1, 1) := dk_4 (dk_at dksX2_writeKind_8 11 rfl rfl)
theorem dX2_writeKind_200 : decode cX2_writeKind 200 = .ok (.goto 4, 3) := dk_167 0 4 (dk_at dksX2_writeKind_8 12 rfl rfl)
theorem dX2_writeKind_203 : decode cX2_writeKind 203 = .ok (.iconst 0, 1) := dk_3 (dk_at dksX2_writeKind_8 15 rfl rfl)
theorem dX2_writeKind_204 : decode cX2_writeKind 204 = .ok (.istore 5, 2) := dk_54 5 (dk_at dksX2_writeKind_8 16 rfl rfl)
theorem dX2_writeKind_206 : decode cX2_writeKind 206 = .ok (.aload_n 0, 1) := dk_42 (dk_at dksX2_writeKind_8 18 rfl rfl)
theorem dX2_writeKind_207 : decode cX2_writeKind 207 = .ok (.aload_n 0, 1) := dk_42 (dk_at dksX2_writeKind_8 19 rfl rfl)
theorem dX2_writeKind_208 : decode cX2_writeKind 208 = .ok (.getfield 57, 3) := dk_180 0 57 (dk_at dksX2_writeKind_8 20 rfl rfl)
theorem dX2_writeKind_211 : decode cX2_writeKind 211 = .ok (.iload 4, 2) := dk_21 4 (dk_at dksX2_writeKind_9 0 rfl rfl)
theorem dX2_writeKind_213 : decode cX2_writeKind 213 = .ok (.iaload, 1) := dk_46 (dk_at dksX2_writeKind_9 2 rfl rfl)
theorem dX2_writeKind_214 : decode cX2_writeKind 214 = .ok (.invokevirtual 172, 3) := dk_182 0 172 (dk_at dksX2_writeKind_9 3 rfl rfl)
theorem dX2_writeKind_217 : decode cX2_writeKind 217 = .ok (.aload_n 0, 1) := dk_42 (dk_at dksX2_writeKind_9 6 rfl rfl)
theorem dX2_writeKind_218 : decode cX2_writeKind 218 = .ok (.bipush (-62), 2) := dk_16 194 (dk_at dksX2_writeKind_9 7 rfl rfl)
theorem dX2_writeKind_220 : decode cX2_writeKind 220 = .ok (.invokevirtual 172, 3) := dk_182 0 172 (dk_at dksX2_writeKind_9 9 rfl rfl)
theorem dX2_writeKind_223 : decode cX2_writeKind 223 = .ok (.iload 5, 2) := dk_21 5 (dk_at dksX2_writeKind_9 12 rfl rfl)
theorem dX2_writeKind_225 : decode cX2_writeKind 225 = .ok (.ifCond .eq 9, 3) := dk_153 0 9 (dk_at dksX2_writeKind_9 14 rfl rfl)
theorem dX2_writeKind_228 : decode cX2_writeKind 228 = .ok (.aload_n 0, 1) := dk_42 (dk_at dksX2_writeKind_9 17 rfl rfl)
theorem dX2_writeKind_229 : decode cX2_writeKind 229 = .ok (.bipush (-41), 2) := dk_16 215 (dk_at dksX2_writeKind_9 18 rfl rfl)
theorem dX2_writeKind_231 : decode cX2_writeKind 231 = .ok (.invokevirtual 172, 3) := dk_182 0 172 (dk_at dksX2_writeKind_9 20 rfl rfl)
theorem dX2_writeKind_234 : decode cX2_writeKind 234 = .ok (.aload_n 0, 1) := dk_42 (dk_at dksX2_writeKind_9 23 rfl rfl)
theorem dX2_writeKind_235 : decode cX2_writeKind 235 = .ok (.aload_n 0, 1) := dk_42 (dk_at dksX2_writeKind_10 0 rfl rfl)
theorem dX2_writeKind_236 : decode cX2_writeKind 236 = .ok (.getfield 54, 3) := dk_180 0 54 (dk_at dksX2_writeKind_10 1 rfl rfl)
theorem dX2_writeKind_239 : decode cX2_writeKind 239 = .ok (.iload 4, 2) := dk_21 4 (dk_at dksX2_writeKind_10 4 rfl rfl)
theorem dX2_writeKind_241 : decode cX2_writeKind 241 = .ok (.iaload, 1) := dk_46 (dk_at dksX2_writeKind_10 6 rfl rfl)
theorem dX2_writeKind_242 : decode cX2_writeKind 242 = .ok (.invokevirtual 172, 3) := dk_182 0 172 (dk_at dksX2_writeKind_10 7 rfl rfl)
theorem dX2_writeKind_245 : decode cX2_writeKind 245 = .ok (.iload 5, 2) := dk_21 5 (dk_at dksX2_writeKind_10 10 rfl rfl)
theorem dX2_writeKind_247 : decode cX2_writeKind 247 = .ok (.ifCond .eq 9, 3) := dk_153 0 9 (dk_at dksX2_writeKind_10 12 rfl rfl)
theorem dX2_writeKind_250 : decode cX2_writeKind 250 = .ok (.aload_n 0, 1) := dk_42 (dk_at dksX2_writeKind_10 15 rfl rfl)
theorem dX2_writeKind_251 : decode cX2_writeKind 251 = .ok (.bipush (-40), 2) := dk_16 216 (dk_at dksX2_writeKind_10 16 rfl rfl)
theorem dX2_writeKind_253 : decode cX2_writeKind 253 = .ok (.invokevirtual 172, 3) := dk_182 0 172 (dk_at dksX2_writeKind_10 18 rfl rfl)
theorem dX2_writeKind_256 : decode cX2_writeKind 256 = .ok (.goto (-203), 3) := dk_167 255 53 (dk_at dksX2_writeKind_10 21 rfl rfl)
theorem dX2_writeKind_259 : decode cX2_writeKind 259 = .ok (.aload_n 0, 1) := dk_42 (dk_at dksX2_writeKind_11 0 rfl rfl)
theorem dX2_writeKind_260 : decode cX2_writeKind 260 = .ok (.getfield 304, 3) := dk_180 1 48 (dk_at dksX2_writeKind_11 1 rfl rfl)
theorem dX2_writeKind_263 : decode cX2_writeKind 263 = .ok (.sipush 200, 3) := dk_17 0 200 (dk_at dksX2_writeKind_11 4 rfl rfl)
theorem dX2_writeKind_266 : decode cX2_writeKind 266 = .ok (.if_icmp .gt 9, 3) := dk_163 0 9 (dk_at dksX2_writeKind_11 7 rfl rfl)
theorem dX2_writeKind_269 : decode cX2_writeKind 269 = .ok (.iload_n 3, 1) := dk_29 (dk_at dksX2_writeKind_11 10 rfl rfl)
theorem dX2_writeKind_270 : decode cX2_writeKind 270 = .ok (.bipush 26, 2) := dk_16 26 (dk_at dksX2_writeKind_11 11 rfl rfl)
theorem dX2_writeKind_272 : decode cX2_writeKind 272 = .ok (.if_icmp .le 8, 3) := dk_164 0 8 (dk_at dksX2_writeKind_11 13 rfl rfl)
theorem dX2_writeKind_275 : decode cX2_writeKind 275 = .ok (.ldc 114, 2) := dk_18 114 (dk_at dksX2_writeKind_11 16 rfl rfl)
theorem dX2_writeKind_277 : decode cX2_writeKind 277 = .ok (.goto 7, 3) := dk_167 0 7 (dk_at dksX2_writeKind_11 18 rfl rfl)
theorem dX2_writeKind_280 : decode cX2_writeKind 280 = .ok (.aload_n 0, 1) := dk_42 (dk_at dksX2_writeKind_11 21 rfl rfl)
theorem dX2_writeKind_281 : decode cX2_writeKind 281 = .ok (.getfield 304, 3) := dk_180 1 48 (dk_at dksX2_writeKind_12 0 rfl rfl)
theorem dX2_writeKind_284 : decode cX2_writeKind 284 = .ok (.ireturn, 1) := dk_172 (dk_at dksX2_writeKind_12 3 rfl rfl)
abbrev cX2_sign : ByteArray := prog_15_method_74_code
def yX2_sign : MethodName := ⟨RX2, "sign", "(II)I"⟩
def dkwX2_sign_2 : List UInt8 := [46, 167, 0, 4, 2, 172]
abbrev dktX2_sign_2 : List UInt8 := dkwX2_sign_2 ++ []
def dkwX2_sign_1 : List UInt8 := [154, 0, 6, 18, 195, 172, 42, 27, 182, 1, 75, 28, 42, 180, 1, 48, 162, 0, 12, 42, 180, 0, 75, 28]
abbrev dktX2_sign_1 : List UInt8 := dkwX2_sign_1 ++ dktX2_sign_2
def dkwX2_sign_0 : List UInt8 := [27, 184, 0, 152, 154, 0, 6, 18, 155, 172, 28, 156, 0, 6, 18, 120, 172, 42, 27, 182, 0, 100]
abbrev dktX2_sign_0 : List UInt8 := dkwX2_sign_0 ++ dktX2_sign_1
theorem dksX2_sign_0 : cX2_sign.data.toList.drop 0 = dktX2_sign_0 := by decide +kernel
theorem dksX2_sign_1 : cX2_sign.data.toList.drop 22 = dktX2_sign_1 := dk_seg dksX2_sign_0 22 rfl rfl
theorem dksX2_sign_2 : cX2_sign.data.toList.drop 46 = dktX2_sign_2 := dk_seg dksX2_sign_1 24 rfl rfl
theorem dX2_sign_0 : decode cX2_sign 0 = .ok (.iload_n 1, 1) := dk_27 (dk_at dksX2_sign_0 0 rfl rfl)
theorem dX2_sign_1 : decode cX2_sign 1 = .ok (.invokestatic 152, 3) := dk_184 0 152 (dk_at dksX2_sign_0 1 rfl rfl)
theorem dX2_sign_4 : decode cX2_sign 4 = .ok (.ifCond .ne 6, 3) := dk_154 0 6 (dk_at dksX2_sign_0 4 rfl rfl)
theorem dX2_sign_7 : decode cX2_sign 7 = .ok (.ldc 155, 2) := dk_18 155 (dk_at dksX2_sign_0 7 rfl rfl)
theorem dX2_sign_9 : decode cX2_sign 9 = .ok (.ireturn, 1) := dk_172 (dk_at dksX2_sign_0 9 rfl rfl)
theorem dX2_sign_10 : decode cX2_sign 10 = .ok (.iload_n 2, 1) := dk_28 (dk_at dksX2_sign_0 10 rfl rfl)
theorem dX2_sign_11 : decode cX2_sign 11 = .ok (.ifCond .ge 6, 3) := dk_156 0 6 (dk_at dksX2_sign_0 11 rfl rfl)
theorem dX2_sign_14 : decode cX2_sign 14 = .ok (.ldc 120, 2) := dk_18 120 (dk_at dksX2_sign_0 14 rfl rfl)
theorem dX2_sign_16 : decode cX2_sign 16 = .ok (.ireturn, 1) := dk_172 (dk_at dksX2_sign_0 16 rfl rfl)
theorem dX2_sign_17 : decode cX2_sign 17 = .ok (.aload_n 0, 1) := dk_42 (dk_at dksX2_sign_0 17 rfl rfl)
theorem dX2_sign_18 : decode cX2_sign 18 = .ok (.iload_n 1, 1) := dk_27 (dk_at dksX2_sign_0 18 rfl rfl)
theorem dX2_sign_19 : decode cX2_sign 19 = .ok (.invokevirtual 100, 3) := dk_182 0 100 (dk_at dksX2_sign_0 19 rfl rfl)
theorem dX2_sign_22 : decode cX2_sign 22 = .ok (.ifCond .ne 6, 3) := dk_154 0 6 (dk_at dksX2_sign_1 0 rfl rfl)
theorem dX2_sign_25 : decode cX2_sign 25 = .ok (.ldc 195, 2) := dk_18 195 (dk_at dksX2_sign_1 3 rfl rfl)
theorem dX2_sign_27 : decode cX2_sign 27 = .ok (.ireturn, 1) := dk_172 (dk_at dksX2_sign_1 5 rfl rfl)
theorem dX2_sign_28 : decode cX2_sign 28 = .ok (.aload_n 0, 1) := dk_42 (dk_at dksX2_sign_1 6 rfl rfl)
theorem dX2_sign_29 : decode cX2_sign 29 = .ok (.iload_n 1, 1) := dk_27 (dk_at dksX2_sign_1 7 rfl rfl)
theorem dX2_sign_30 : decode cX2_sign 30 = .ok (.invokevirtual 331, 3) := dk_182 1 75 (dk_at dksX2_sign_1 8 rfl rfl)
theorem dX2_sign_33 : decode cX2_sign 33 = .ok (.iload_n 2, 1) := dk_28 (dk_at dksX2_sign_1 11 rfl rfl)
theorem dX2_sign_34 : decode cX2_sign 34 = .ok (.aload_n 0, 1) := dk_42 (dk_at dksX2_sign_1 12 rfl rfl)
theorem dX2_sign_35 : decode cX2_sign 35 = .ok (.getfield 304, 3) := dk_180 1 48 (dk_at dksX2_sign_1 13 rfl rfl)
theorem dX2_sign_38 : decode cX2_sign 38 = .ok (.if_icmp .ge 12, 3) := dk_162 0 12 (dk_at dksX2_sign_1 16 rfl rfl)
theorem dX2_sign_41 : decode cX2_sign 41 = .ok (.aload_n 0, 1) := dk_42 (dk_at dksX2_sign_1 19 rfl rfl)
theorem dX2_sign_42 : decode cX2_sign 42 = .ok (.getfield 75, 3) := dk_180 0 75 (dk_at dksX2_sign_1 20 rfl rfl)
theorem dX2_sign_45 : decode cX2_sign 45 = .ok (.iload_n 2, 1) := dk_28 (dk_at dksX2_sign_1 23 rfl rfl)
theorem dX2_sign_46 : decode cX2_sign 46 = .ok (.iaload, 1) := dk_46 (dk_at dksX2_sign_2 0 rfl rfl)
theorem dX2_sign_47 : decode cX2_sign 47 = .ok (.goto 4, 3) := dk_167 0 4 (dk_at dksX2_sign_2 1 rfl rfl)
theorem dX2_sign_50 : decode cX2_sign 50 = .ok (.iconst (-1), 1) := dk_2 (dk_at dksX2_sign_2 4 rfl rfl)
theorem dX2_sign_51 : decode cX2_sign 51 = .ok (.ireturn, 1) := dk_172 (dk_at dksX2_sign_2 5 rfl rfl)
abbrev cX2_kind : ByteArray := prog_15_method_75_code
def yX2_kind : MethodName := ⟨RX2, "kind", "(II)I"⟩
def dkwX2_kind_2 : List UInt8 := [162, 0, 12, 42, 180, 0, 75, 28, 46, 167, 0, 4, 2, 172]
abbrev dktX2_kind_2 : List UInt8 := dkwX2_kind_2 ++ []
def dkwX2_kind_1 : List UInt8 := [154, 0, 6, 18, 195, 172, 42, 27, 182, 1, 81, 62, 29, 156, 0, 7, 29, 167, 0, 18, 28, 29]
abbrev dktX2_kind_1 : List UInt8 := dkwX2_kind_1 ++ dktX2_kind_2
def dkwX2_kind_0 : List UInt8 := [27, 184, 0, 152, 154, 0, 6, 18, 155, 172, 28, 156, 0, 6, 18, 120, 172, 42, 27, 182, 0, 100]
abbrev dktX2_kind_0 : List UInt8 := dkwX2_kind_0 ++ dktX2_kind_1
theorem dksX2_kind_0 : cX2_kind.data.toList.drop 0 = dktX2_kind_0 := by decide +kernel
theorem dksX2_kind_1 : cX2_kind.data.toList.drop 22 = dktX2_kind_1 := dk_seg dksX2_kind_0 22 rfl rfl
theorem dksX2_kind_2 : cX2_kind.data.toList.drop 44 = dktX2_kind_2 := dk_seg dksX2_kind_1 22 rfl rfl
theorem dX2_kind_0 : decode cX2_kind 0 = .ok (.iload_n 1, 1) := dk_27 (dk_at dksX2_kind_0 0 rfl rfl)
theorem dX2_kind_1 : decode cX2_kind 1 = .ok (.invokestatic 152, 3) := dk_184 0 152 (dk_at dksX2_kind_0 1 rfl rfl)
theorem dX2_kind_4 : decode cX2_kind 4 = .ok (.ifCond .ne 6, 3) := dk_154 0 6 (dk_at dksX2_kind_0 4 rfl rfl)
theorem dX2_kind_7 : decode cX2_kind 7 = .ok (.ldc 155, 2) := dk_18 155 (dk_at dksX2_kind_0 7 rfl rfl)
theorem dX2_kind_9 : decode cX2_kind 9 = .ok (.ireturn, 1) := dk_172 (dk_at dksX2_kind_0 9 rfl rfl)
theorem dX2_kind_10 : decode cX2_kind 10 = .ok (.iload_n 2, 1) := dk_28 (dk_at dksX2_kind_0 10 rfl rfl)
theorem dX2_kind_11 : decode cX2_kind 11 = .ok (.ifCond .ge 6, 3) := dk_156 0 6 (dk_at dksX2_kind_0 11 rfl rfl)
theorem dX2_kind_14 : decode cX2_kind 14 = .ok (.ldc 120, 2) := dk_18 120 (dk_at dksX2_kind_0 14 rfl rfl)
theorem dX2_kind_16 : decode cX2_kind 16 = .ok (.ireturn, 1) := dk_172 (dk_at dksX2_kind_0 16 rfl rfl)
theorem dX2_kind_17 : decode cX2_kind 17 = .ok (.aload_n 0, 1) := dk_42 (dk_at dksX2_kind_0 17 rfl rfl)
theorem dX2_kind_18 : decode cX2_kind 18 = .ok (.iload_n 1, 1) := dk_27 (dk_at dksX2_kind_0 18 rfl rfl)
theorem dX2_kind_19 : decode cX2_kind 19 = .ok (.invokevirtual 100, 3) := dk_182 0 100 (dk_at dksX2_kind_0 19 rfl rfl)
theorem dX2_kind_22 : decode cX2_kind 22 = .ok (.ifCond .ne 6, 3) := dk_154 0 6 (dk_at dksX2_kind_1 0 rfl rfl)
theorem dX2_kind_25 : decode cX2_kind 25 = .ok (.ldc 195, 2) := dk_18 195 (dk_at dksX2_kind_1 3 rfl rfl)
theorem dX2_kind_27 : decode cX2_kind 27 = .ok (.ireturn, 1) := dk_172 (dk_at dksX2_kind_1 5 rfl rfl)
theorem dX2_kind_28 : decode cX2_kind 28 = .ok (.aload_n 0, 1) := dk_42 (dk_at dksX2_kind_1 6 rfl rfl)
theorem dX2_kind_29 : decode cX2_kind 29 = .ok (.iload_n 1, 1) := dk_27 (dk_at dksX2_kind_1 7 rfl rfl)
theorem dX2_kind_30 : decode cX2_kind 30 = .ok (.invokevirtual 337, 3) := dk_182 1 81 (dk_at dksX2_kind_1 8 rfl rfl)
theorem dX2_kind_33 : decode cX2_kind 33 = .ok (.istore_n 3, 1) := dk_62 (dk_at dksX2_kind_1 11 rfl rfl)
theorem dX2_kind_34 : decode cX2_kind 34 = .ok (.iload_n 3, 1) := dk_29 (dk_at dksX2_kind_1 12 rfl rfl)
theorem dX2_kind_35 : decode cX2_kind 35 = .ok (.ifCond .ge 7, 3) := dk_156 0 7 (dk_at dksX2_kind_1 13 rfl rfl)
theorem dX2_kind_38 : decode cX2_kind 38 = .ok (.iload_n 3, 1) := dk_29 (dk_at dksX2_kind_1 16 rfl rfl)
theorem dX2_kind_39 : decode cX2_kind 39 = .ok (.goto 18, 3) := dk_167 0 18 (dk_at dksX2_kind_1 17 rfl rfl)
theorem dX2_kind_42 : decode cX2_kind 42 = .ok (.iload_n 2, 1) := dk_28 (dk_at dksX2_kind_1 20 rfl rfl)
theorem dX2_kind_43 : decode cX2_kind 43 = .ok (.iload_n 3, 1) := dk_29 (dk_at dksX2_kind_1 21 rfl rfl)
theorem dX2_kind_44 : decode cX2_kind 44 = .ok (.if_icmp .ge 12, 3) := dk_162 0 12 (dk_at dksX2_kind_2 0 rfl rfl)
theorem dX2_kind_47 : decode cX2_kind 47 = .ok (.aload_n 0, 1) := dk_42 (dk_at dksX2_kind_2 3 rfl rfl)
theorem dX2_kind_48 : decode cX2_kind 48 = .ok (.getfield 75, 3) := dk_180 0 75 (dk_at dksX2_kind_2 4 rfl rfl)
theorem dX2_kind_51 : decode cX2_kind 51 = .ok (.iload_n 2, 1) := dk_28 (dk_at dksX2_kind_2 7 rfl rfl)
theorem dX2_kind_52 : decode cX2_kind 52 = .ok (.iaload, 1) := dk_46 (dk_at dksX2_kind_2 8 rfl rfl)
theorem dX2_kind_53 : decode cX2_kind 53 = .ok (.goto 4, 3) := dk_167 0 4 (dk_at dksX2_kind_2 9 rfl rfl)
theorem dX2_kind_56 : decode cX2_kind 56 = .ok (.iconst (-1), 1) := dk_2 (dk_at dksX2_kind_2 12 rfl rfl)
theorem dX2_kind_57 : decode cX2_kind 57 = .ok (.ireturn, 1) := dk_172 (dk_at dksX2_kind_2 13 rfl rfl)
abbrev cX2_same : ByteArray := prog_15_method_76_code
def yX2_same : MethodName := ⟨RX2, "same", "(II)I"⟩
def dkwX2_same_4 : List UInt8 := [167, 255, 206, 29, 153, 0, 7, 4, 167, 0, 4, 3, 172]
abbrev dktX2_same_4 : List UInt8 := dkwX2_same_4 ++ []
def dkwX2_same_3 : List UInt8 := [180, 0, 7, 16, 121, 28, 104, 21, 4, 96, 46, 160, 0, 7, 4, 167, 0, 4, 3, 62, 132, 4, 1]
abbrev dktX2_same_3 : List UInt8 := dkwX2_same_3 ++ dktX2_same_4
def dkwX2_same_2 : List UInt8 := [182, 0, 100, 163, 0, 46, 29, 153, 0, 42, 42, 180, 0, 7, 16, 121, 27, 104, 21, 4, 96, 46, 42]
abbrev dktX2_same_2 : List UInt8 := dkwX2_same_2 ++ dktX2_same_3
def dkwX2_same_1 : List UInt8 := [153, 0, 11, 42, 28, 182, 0, 100, 154, 0, 6, 18, 195, 172, 4, 62, 3, 54, 4, 21, 4, 42, 27]
abbrev dktX2_same_1 : List UInt8 := dkwX2_same_1 ++ dktX2_same_2
def dkwX2_same_0 : List UInt8 := [27, 184, 0, 152, 153, 0, 10, 28, 184, 0, 152, 154, 0, 6, 18, 155, 172, 42, 27, 182, 0, 100]
abbrev dktX2_same_0 : List UInt8 := dkwX2_same_0 ++ dktX2_same_1
theorem dksX2_same_0 : cX2_same.data.toList.drop 0 = dktX2_same_0 := by decide +kernel
theorem dksX2_same_1 : cX2_same.data.toList.drop 22 = dktX2_same_1 := dk_seg dksX2_same_0 22 rfl rfl
theorem dksX2_same_2 : cX2_same.data.toList.drop 45 = dktX2_same_2 := dk_seg dksX2_same_1 23 rfl rfl
theorem dksX2_same_3 : cX2_same.data.toList.drop 68 = dktX2_same_3 := dk_seg dksX2_same_2 23 rfl rfl
theorem dksX2_same_4 : cX2_same.data.toList.drop 91 = dktX2_same_4 := dk_seg dksX2_same_3 23 rfl rfl
theorem dX2_same_0 : decode cX2_same 0 = .ok (.iload_n 1, 1) := dk_27 (dk_at dksX2_same_0 0 rfl rfl)
theorem dX2_same_1 : decode cX2_same 1 = .ok (.invokestatic 152, 3) := dk_184 0 152 (dk_at dksX2_same_0 1 rfl rfl)
theorem dX2_same_4 : decode cX2_same 4 = .ok (.ifCond .eq 10, 3) := dk_153 0 10 (dk_at dksX2_same_0 4 rfl rfl)
theorem dX2_same_7 : decode cX2_same 7 = .ok (.iload_n 2, 1) := dk_28 (dk_at dksX2_same_0 7 rfl rfl)
theorem dX2_same_8 : decode cX2_same 8 = .ok (.invokestatic 152, 3) := dk_184 0 152 (dk_at dksX2_same_0 8 rfl rfl)
theorem dX2_same_11 : decode cX2_same 11 = .ok (.ifCond .ne 6, 3) := dk_154 0 6 (dk_at dksX2_same_0 11 rfl rfl)
theorem dX2_same_14 : decode cX2_same 14 = .ok (.ldc 155, 2) := dk_18 155 (dk_at dksX2_same_0 14 rfl rfl)
theorem dX2_same_16 : decode cX2_same 16 = .ok (.ireturn, 1) := dk_172 (dk_at dksX2_same_0 16 rfl rfl)
theorem dX2_same_17 : decode cX2_same 17 = .ok (.aload_n 0, 1) := dk_42 (dk_at dksX2_same_0 17 rfl rfl)
theorem dX2_same_18 : decode cX2_same 18 = .ok (.iload_n 1, 1) := dk_27 (dk_at dksX2_same_0 18 rfl rfl)
theorem dX2_same_19 : decode cX2_same 19 = .ok (.invokevirtual 100, 3) := dk_182 0 100 (dk_at dksX2_same_0 19 rfl rfl)
theorem dX2_same_22 : decode cX2_same 22 = .ok (.ifCond .eq 11, 3) := dk_153 0 11 (dk_at dksX2_same_1 0 rfl rfl)
theorem dX2_same_25 : decode cX2_same 25 = .ok (.aload_n 0, 1) := dk_42 (dk_at dksX2_same_1 3 rfl rfl)
theorem dX2_same_26 : decode cX2_same 26 = .ok (.iload_n 2, 1) := dk_28 (dk_at dksX2_same_1 4 rfl rfl)
theorem dX2_same_27 : decode cX2_same 27 = .ok (.invokevirtual 100, 3) := dk_182 0 100 (dk_at dksX2_same_1 5 rfl rfl)
theorem dX2_same_30 : decode cX2_same 30 = .ok (.ifCond .ne 6, 3) := dk_154 0 6 (dk_at dksX2_same_1 8 rfl rfl)
theorem dX2_same_33 : decode cX2_same 33 = .ok (.ldc 195, 2) := dk_18 195 (dk_at dksX2_same_1 11 rfl rfl)
theorem dX2_same_35 : decode cX2_same 35 = .ok (.ireturn, 1) := dk_172 (dk_at dksX2_same_1 13 rfl rfl)
theorem dX2_same_36 : decode cX2_same 36 = .ok (.iconst 1, 1) := dk_4 (dk_at dksX2_same_1 14 rfl rfl)
theorem dX2_same_37 : decode cX2_same 37 = .ok (.istore_n 3, 1) := dk_62 (dk_at dksX2_same_1 15 rfl rfl)
theorem dX2_same_38 : decode cX2_same 38 = .ok (.iconst 0, 1) := dk_3 (dk_at dksX2_same_1 16 rfl rfl)
theorem dX2_same_39 : decode cX2_same 39 = .ok (.istore 4, 2) := dk_54 4 (dk_at dksX2_same_1 17 rfl rfl)
theorem dX2_same_41 : decode cX2_same 41 = .ok (.iload 4, 2) := dk_21 4 (dk_at dksX2_same_1 19 rfl rfl)
theorem dX2_same_43 : decode cX2_same 43 = .ok (.aload_n 0, 1) := dk_42 (dk_at dksX2_same_1 21 rfl rfl)
theorem dX2_same_44 : decode cX2_same 44 = .ok (.iload_n 1, 1) := dk_27 (dk_at dksX2_same_1 22 rfl rfl)
theorem dX2_same_45 : decode cX2_same 45 = .ok (.invokevirtual 100, 3) := dk_182 0 100 (dk_at dksX2_same_2 0 rfl rfl)
theorem dX2_same_48 : decode cX2_same 48 = .ok (.if_icmp .gt 46, 3) := dk_163 0 46 (dk_at dksX2_same_2 3 rfl rfl)
theorem dX2_same_51 : decode cX2_same 51 = .ok (.iload_n 3, 1) := dk_29 (dk_at dksX2_same_2 6 rfl rfl)
theorem dX2_same_52 : decode cX2_same 52 = .ok (.ifCond .eq 42, 3) := dk_153 0 42 (dk_at dksX2_same_2 7 rfl rfl)
theorem dX2_same_55 : decode cX2_same 55 = .ok (.aload_n 0, 1) := dk_42 (dk_at dksX2_same_2 10 rfl rfl)
theorem dX2_same_56 : decode cX2_same 56 = .ok (.getfield 7, 3) := dk_180 0 7 (dk_at dksX2_same_2 11 rfl rfl)
theorem dX2_same_59 : decode cX2_same 59 = .ok (.bipush 121, 2) := dk_16 121 (dk_at dksX2_same_2 14 rfl rfl)
theorem dX2_same_61 : decode cX2_same 61 = .ok (.iload_n 1, 1) := dk_27 (dk_at dksX2_same_2 16 rfl rfl)
theorem dX2_same_62 : decode cX2_same 62 = .ok (.imul, 1) := dk_104 (dk_at dksX2_same_2 17 rfl rfl)
theorem dX2_same_63 : decode cX2_same 63 = .ok (.iload 4, 2) := dk_21 4 (dk_at dksX2_same_2 18 rfl rfl)
theorem dX2_same_65 : decode cX2_same 65 = .ok (.iadd, 1) := dk_96 (dk_at dksX2_same_2 20 rfl rfl)
theorem dX2_same_66 : decode cX2_same 66 = .ok (.iaload, 1) := dk_46 (dk_at dksX2_same_2 21 rfl rfl)
theorem dX2_same_67 : decode cX2_same 67 = .ok (.aload_n 0, 1) := dk_42 (dk_at dksX2_same_2 22 rfl rfl)
theorem dX2_same_68 : decode cX2_same 68 = .ok (.getfield 7, 3) := dk_180 0 7 (dk_at dksX2_same_3 0 rfl rfl)
theorem dX2_same_71 : decode cX2_same 71 = .ok (.bipush 121, 2) := dk_16 121 (dk_at dksX2_same_3 3 rfl rfl)
theorem dX2_same_73 : decode cX2_same 73 = .ok (.iload_n 2, 1) := dk_28 (dk_at dksX2_same_3 5 rfl rfl)
theorem dX2_same_74 : decode cX2_same 74 = .ok (.imul, 1) := dk_104 (dk_at dksX2_same_3 6 rfl rfl)
theorem dX2_same_75 : decode cX2_same 75 = .ok (.iload 4, 2) := dk_21 4 (dk_at dksX2_same_3 7 rfl rfl)
theorem dX2_same_77 : decode cX2_same 77 = .ok (.iadd, 1) := dk_96 (dk_at dksX2_same_3 9 rfl rfl)
theorem dX2_same_78 : decode cX2_same 78 = .ok (.iaload, 1) := dk_46 (dk_at dksX2_same_3 10 rfl rfl)
theorem dX2_same_79 : decode cX2_same 79 = .ok (.if_icmp .ne 7, 3) := dk_160 0 7 (dk_at dksX2_same_3 11 rfl rfl)
theorem dX2_same_82 : decode cX2_same 82 = .ok (.iconst 1, 1) := dk_4 (dk_at dksX2_same_3 14 rfl rfl)
theorem dX2_same_83 : decode cX2_same 83 = .ok (.goto 4, 3) := dk_167 0 4 (dk_at dksX2_same_3 15 rfl rfl)
theorem dX2_same_86 : decode cX2_same 86 = .ok (.iconst 0, 1) := dk_3 (dk_at dksX2_same_3 18 rfl rfl)
theorem dX2_same_87 : decode cX2_same 87 = .ok (.istore_n 3, 1) := dk_62 (dk_at dksX2_same_3 19 rfl rfl)
theorem dX2_same_88 : decode cX2_same 88 = .ok (.iinc 4 1, 3) := dk_132 4 1 (dk_at dksX2_same_3 20 rfl rfl)
theorem dX2_same_91 : decode cX2_same 91 = .ok (.goto (-50), 3) := dk_167 255 206 (dk_at dksX2_same_4 0 rfl rfl)
theorem dX2_same_94 : decode cX2_same 94 = .ok (.iload_n 3, 1) := dk_29 (dk_at dksX2_same_4 3 rfl rfl)
theorem dX2_same_95 : decode cX2_same 95 = .ok (.ifCond .eq 7, 3) := dk_153 0 7 (dk_at dksX2_same_4 4 rfl rfl)
theorem dX2_same_98 : decode cX2_same 98 = .ok (.iconst 1, 1) := dk_4 (dk_at dksX2_same_4 7 rfl rfl)
theorem dX2_same_99 : decode cX2_same 99 = .ok (.goto 4, 3) := dk_167 0 4 (dk_at dksX2_same_4 8 rfl rfl)
theorem dX2_same_102 : decode cX2_same 102 = .ok (.iconst 0, 1) := dk_3 (dk_at dksX2_same_4 11 rfl rfl)
theorem dX2_same_103 : decode cX2_same 103 = .ok (.ireturn, 1) := dk_172 (dk_at dksX2_same_4 12 rfl rfl)
abbrev cX2_sameKind : ByteArray := prog_15_method_77_code
def yX2_sameKind : MethodName := ⟨RX2, "sameKind", "(II)I"⟩
def dkwX2_sameKind_7 : List UInt8 := [167, 0, 4, 3, 172]
abbrev dktX2_sameKind_7 : List UInt8 := dkwX2_sameKind_7 ++ []
def dkwX2_sameKind_6 : List UInt8 := [160, 0, 7, 4, 167, 0, 4, 3, 54, 5, 132, 6, 1, 167, 255, 218, 21, 5, 153, 0, 7, 4]
abbrev dktX2_sameKind_6 : List UInt8 := dkwX2_sameKind_6 ++ dktX2_sameKind_7
def dkwX2_sameKind_5 : List UInt8 := [162, 0, 38, 21, 5, 153, 0, 33, 42, 180, 0, 81, 21, 6, 46, 42, 180, 0, 75, 21, 6, 46]
abbrev dktX2_sameKind_5 : List UInt8 := dkwX2_sameKind_5 ++ dktX2_sameKind_6
def dkwX2_sameKind_4 : List UInt8 := [18, 114, 172, 29, 21, 4, 160, 0, 7, 4, 167, 0, 4, 3, 54, 5, 3, 54, 6, 21, 6, 29]
abbrev dktX2_sameKind_4 : List UInt8 := dkwX2_sameKind_4 ++ dktX2_sameKind_5
def dkwX2_sameKind_3 : List UInt8 := [167, 255, 233, 42, 28, 182, 1, 81, 54, 4, 29, 18, 114, 159, 0, 10, 21, 4, 18, 114, 160, 0, 6]
abbrev dktX2_sameKind_3 : List UInt8 := dkwX2_sameKind_3 ++ dktX2_sameKind_4
def dkwX2_sameKind_2 : List UInt8 := [21, 4, 29, 162, 0, 23, 42, 180, 0, 81, 21, 4, 42, 180, 0, 75, 21, 4, 46, 79, 132, 4, 1]
abbrev dktX2_sameKind_2 : List UInt8 := dkwX2_sameKind_2 ++ dktX2_sameKind_3
def dkwX2_sameKind_1 : List UInt8 := [153, 0, 11, 42, 28, 182, 0, 100, 154, 0, 6, 18, 195, 172, 42, 27, 182, 1, 81, 62, 3, 54, 4]
abbrev dktX2_sameKind_1 : List UInt8 := dkwX2_sameKind_1 ++ dktX2_sameKind_2
def dkwX2_sameKind_0 : List UInt8 := [27, 184, 0, 152, 153, 0, 10, 28, 184, 0, 152, 154, 0, 6, 18, 155, 172, 42, 27, 182, 0, 100]
abbrev dktX2_sameKind_0 : List UInt8 := dkwX2_sameKind_0 ++ dktX2_sameKind_1
theorem dksX2_sameKind_0 : cX2_sameKind.data.toList.drop 0 = dktX2_sameKind_0 := by decide +kernel
theorem dksX2_sameKind_1 : cX2_sameKind.data.toList.drop 22 = dktX2_sameKind_1 := dk_seg dksX2_sameKind_0 22 rfl rfl
theorem dksX2_sameKind_2 : cX2_sameKind.data.toList.drop 45 = dktX2_sameKind_2 := dk_seg dksX2_sameKind_1 23 rfl rfl
theorem dksX2_sameKind_3 : cX2_sameKind.data.toList.drop 68 = dktX2_sameKind_3 := dk_seg dksX2_sameKind_2 23 rfl rfl
theorem dksX2_sameKind_4 : cX2_sameKind.data.toList.drop 91 = dktX2_sameKind_4 := dk_seg dksX2_sameKind_3 23 rfl rfl
theorem dksX2_sameKind_5 : cX2_sameKind.data.toList.drop 113 = dktX2_sameKind_5 := dk_seg dksX2_sameKind_4 22 rfl rfl
theorem dksX2_sameKind_6 : cX2_sameKind.data.toList.drop 135 = dktX2_sameKind_6 := dk_seg dksX2_sameKind_5 22 rfl rfl
theorem dksX2_sameKind_7 : cX2_sameKind.data.toList.drop 157 = dktX2_sameKind_7 := dk_seg dksX2_sameKind_6 22 rfl rfl
theorem dX2_sameKind_0 : decode cX2_sameKind 0 = .ok (.iload_n 1, 1) := dk_27 (dk_at dksX2_sameKind_0 0 rfl rfl)
theorem dX2_sameKind_1 : decode cX2_sameKind 1 = .ok (.invokestatic 152, 3) := dk_184 0 152 (dk_at dksX2_sameKind_0 1 rfl rfl)
theorem dX2_sameKind_4 : decode cX2_sameKind 4 = .ok (.ifCond .eq 10, 3) := dk_153 0 10 (dk_at dksX2_sameKind_0 4 rfl rfl)
theorem dX2_sameKind_7 : decode cX2_sameKind 7 = .ok (.iload_n 2, 1) := dk_28 (dk_at dksX2_sameKind_0 7 rfl rfl)
theorem dX2_sameKind_8 : decode cX2_sameKind 8 = .ok (.invokestatic 152, 3) := dk_184 0 152 (dk_at dksX2_sameKind_0 8 rfl rfl)
theorem dX2_sameKind_11 : decode cX2_sameKind 11 = .ok (.ifCond .ne 6, 3) := dk_154 0 6 (dk_at dksX2_sameKind_0 11 rfl rfl)
theorem dX2_sameKind_14 : decode cX2_sameKind 14 = .ok (.ldc 155, 2) := dk_18 155 (dk_at dksX2_sameKind_0 14 rfl rfl)
theorem dX2_sameKind_16 : decode cX2_sameKind 16 = .ok (.ireturn, 1) := dk_172 (dk_at dksX2_sameKind_0 16 rfl rfl)
theorem dX2_sameKind_17 : decode cX2_sameKind 17 = .ok (.aload_n 0, 1) := dk_42 (dk_at dksX2_sameKind_0 17 rfl rfl)
theorem dX2_sameKind_18 : decode cX2_sameKind 18 = .ok (.iload_n 1, 1) := dk_27 (dk_at dksX2_sameKind_0 18 rfl rfl)
theorem dX2_sameKind_19 : decode cX2_sameKind 19 = .ok (.invokevirtual 100, 3) := dk_182 0 100 (dk_at dksX2_sameKind_0 19 rfl rfl)
theorem dX2_sameKind_22 : decode cX2_sameKind 22 = .ok (.ifCond .eq 11, 3) := dk_153 0 11 (dk_at dksX2_sameKind_1 0 rfl rfl)
theorem dX2_sameKind_25 : decode cX2_sameKind 25 = .ok (.aload_n 0, 1) := dk_42 (dk_at dksX2_sameKind_1 3 rfl rfl)
theorem dX2_sameKind_26 : decode cX2_sameKind 26 = .ok (.iload_n 2, 1) := dk_28 (dk_at dksX2_sameKind_1 4 rfl rfl)
theorem dX2_sameKind_27 : decode cX2_sameKind 27 = .ok (.invokevirtual 100, 3) := dk_182 0 100 (dk_at dksX2_sameKind_1 5 rfl rfl)
theorem dX2_sameKind_30 : decode cX2_sameKind 30 = .ok (.ifCond .ne 6, 3) := dk_154 0 6 (dk_at dksX2_sameKind_1 8 rfl rfl)
theorem dX2_sameKind_33 : decode cX2_sameKind 33 = .ok (.ldc 195, 2) := dk_18 195 (dk_at dksX2_sameKind_1 11 rfl rfl)
theorem dX2_sameKind_35 : decode cX2_sameKind 35 = .ok (.ireturn, 1) := dk_172 (dk_at dksX2_sameKind_1 13 rfl rfl)
theorem dX2_sameKind_36 : decode cX2_sameKind 36 = .ok (.aload_n 0, 1) := dk_42 (dk_at dksX2_sameKind_1 14 rfl rfl)
theorem dX2_sameKind_37 : decode cX2_sameKind 37 = .ok (.iload_n 1, 1) := dk_27 (dk_at dksX2_sameKind_1 15 rfl rfl)
theorem dX2_sameKind_38 : decode cX2_sameKind 38 = .ok (.invokevirtual 337, 3) := dk_182 1 81 (dk_at dksX2_sameKind_1 16 rfl rfl)
theorem dX2_sameKind_41 : decode cX2_sameKind 41 = .ok (.istore_n 3, 1) := dk_62 (dk_at dksX2_sameKind_1 19 rfl rfl)
theorem dX2_sameKind_42 : decode cX2_sameKind 42 = .ok (.iconst 0, 1) := dk_3 (dk_at dksX2_sameKind_1 20 rfl rfl)
theorem dX2_sameKind_43 : decode cX2_sameKind 43 = .ok (.istore 4, 2) := dk_54 4 (dk_at dksX2_sameKind_1 21 rfl rfl)
theorem dX2_sameKind_45 : decode cX2_sameKind 45 = .ok (.iload 4, 2) := dk_21 4 (dk_at dksX2_sameKind_2 0 rfl rfl)
theorem dX2_sameKind_47 : decode cX2_sameKind 47 = .ok (.iload_n 3, 1) := dk_29 (dk_at dksX2_sameKind_2 2 rfl rfl)
theorem dX2_sameKind_48 : decode cX2_sameKind 48 = .ok (.if_icmp .ge 23, 3) := dk_162 0 23 (dk_at dksX2_sameKind_2 3 rfl rfl)
theorem dX2_sameKind_51 : decode cX2_sameKind 51 = .ok (.aload_n 0, 1) := dk_42 (dk_at dksX2_sameKind_2 6 rfl rfl)
theorem dX2_sameKind_52 : decode cX2_sameKind 52 = .ok (.getfield 81, 3) := dk_180 0 81 (dk_at dksX2_sameKind_2 7 rfl rfl)
theorem dX2_sameKind_55 : decode cX2_sameKind 55 = .ok (.iload 4, 2) := dk_21 4 (dk_at dksX2_sameKind_2 10 rfl rfl)
theorem dX2_sameKind_57 : decode cX2_sameKind 57 = .ok (.aload_n 0, 1) := dk_42 (dk_at dksX2_sameKind_2 12 rfl rfl)
theorem dX2_sameKind_58 : decode cX2_sameKind 58 = .ok (.getfield 75, 3) := dk_180 0 75 (dk_at dksX2_sameKind_2 13 rfl rfl)
theorem dX2_sameKind_61 : decode cX2_sameKind 61 = .ok (.iload 4, 2) := dk_21 4 (dk_at dksX2_sameKind_2 16 rfl rfl)
theorem dX2_sameKind_63 : decode cX2_sameKind 63 = .ok (.iaload, 1) := dk_46 (dk_at dksX2_sameKind_2 18 rfl rfl)
theorem dX2_sameKind_64 : decode cX2_sameKind 64 = .ok (.iastore, 1) := dk_79 (dk_at dksX2_sameKind_2 19 rfl rfl)
theorem dX2_sameKind_65 : decode cX2_sameKind 65 = .ok (.iinc 4 1, 3) := dk_132 4 1 (dk_at dksX2_sameKind_2 20 rfl rfl)
theorem dX2_sameKind_68 : decode cX2_sameKind 68 = .ok (.goto (-23), 3) := dk_167 255 233 (dk_at dksX2_sameKind_3 0 rfl rfl)
theorem dX2_sameKind_71 : decode cX2_sameKind 71 = .ok (.aload_n 0, 1) := dk_42 (dk_at dksX2_sameKind_3 3 rfl rfl)
theorem dX2_sameKind_72 : decode cX2_sameKind 72 = .ok (.iload_n 2, 1) := dk_28 (dk_at dksX2_sameKind_3 4 rfl rfl)
theorem dX2_sameKind_73 : decode cX2_sameKind 73 = .ok (.invokevirtual 337, 3) := dk_182 1 81 (dk_at dksX2_sameKind_3 5 rfl rfl)
theorem dX2_sameKind_76 : decode cX2_sameKind 76 = .ok (.istore 4, 2) := dk_54 4 (dk_at dksX2_sameKind_3 8 rfl rfl)
theorem dX2_sameKind_78 : decode cX2_sameKind 78 = .ok (.iload_n 3, 1) := dk_29 (dk_at dksX2_sameKind_3 10 rfl rfl)
theorem dX2_sameKind_79 : decode cX2_sameKind 79 = .ok (.ldc 114, 2) := dk_18 114 (dk_at dksX2_sameKind_3 11 rfl rfl)
theorem dX2_sameKind_81 : decode cX2_sameKind 81 = .ok (.if_icmp .eq 10, 3) := dk_159 0 10 (dk_at dksX2_sameKind_3 13 rfl rfl)
theorem dX2_sameKind_84 : decode cX2_sameKind 84 = .ok (.iload 4, 2) := dk_21 4 (dk_at dksX2_sameKind_3 16 rfl rfl)
theorem dX2_sameKind_86 : decode cX2_sameKind 86 = .ok (.ldc 114, 2) := dk_18 114 (dk_at dksX2_sameKind_3 18 rfl rfl)
theorem dX2_sameKind_88 : decode cX2_sameKind 88 = .ok (.if_icmp .ne 6, 3) := dk_160 0 6 (dk_at dksX2_sameKind_3 20 rfl rfl)
theorem dX2_sameKind_91 : decode cX2_sameKind 91 = .ok (.ldc 114, 2) := dk_18 114 (dk_at dksX2_sameKind_4 0 rfl rfl)
theorem dX2_sameKind_93 : decode cX2_sameKind 93 = .ok (.ireturn, 1) := dk_172 (dk_at dksX2_sameKind_4 2 rfl rfl)
theorem dX2_sameKind_94 : decode cX2_sameKind 94 = .ok (.iload_n 3, 1) := dk_29 (dk_at dksX2_sameKind_4 3 rfl rfl)
theorem dX2_sameKind_95 : decode cX2_sameKind 95 = .ok (.iload 4, 2) := dk_21 4 (dk_at dksX2_sameKind_4 4 rfl rfl)
theorem dX2_sameKind_97 : decode cX2_sameKind 97 = .ok (.if_icmp .ne 7, 3) := dk_160 0 7 (dk_at dksX2_sameKind_4 6 rfl rfl)
theorem dX2_sameKind_100 : decode cX2_sameKind 100 = .ok (.iconst 1, 1) := dk_4 (dk_at dksX2_sameKind_4 9 rfl rfl)
theorem dX2_sameKind_101 : decode cX2_sameKind 101 = .ok (.goto 4, 3) := dk_167 0 4 (dk_at dksX2_sameKind_4 10 rfl rfl)
theorem dX2_sameKind_104 : decode cX2_sameKind 104 = .ok (.iconst 0, 1) := dk_3 (dk_at dksX2_sameKind_4 13 rfl rfl)
theorem dX2_sameKind_105 : decode cX2_sameKind 105 = .ok (.istore 5, 2) := dk_54 5 (dk_at dksX2_sameKind_4 14 rfl rfl)
theorem dX2_sameKind_107 : decode cX2_sameKind 107 = .ok (.iconst 0, 1) := dk_3 (dk_at dksX2_sameKind_4 16 rfl rfl)
theorem dX2_sameKind_108 : decode cX2_sameKind 108 = .ok (.istore 6, 2) := dk_54 6 (dk_at dksX2_sameKind_4 17 rfl rfl)
theorem dX2_sameKind_110 : decode cX2_sameKind 110 = .ok (.iload 6, 2) := dk_21 6 (dk_at dksX2_sameKind_4 19 rfl rfl)
theorem dX2_sameKind_112 : decode cX2_sameKind 112 = .ok (.iload_n 3, 1) := dk_29 (dk_at dksX2_sameKind_4 21 rfl rfl)
theorem dX2_sameKind_113 : decode cX2_sameKind 113 = .ok (.if_icmp .ge 38, 3) := dk_162 0 38 (dk_at dksX2_sameKind_5 0 rfl rfl)
theorem dX2_sameKind_116 : decode cX2_sameKind 116 = .ok (.iload 5, 2) := dk_21 5 (dk_at dksX2_sameKind_5 3 rfl rfl)
theorem dX2_sameKind_118 : decode cX2_sameKind 118 = .ok (.ifCond .eq 33, 3) := dk_153 0 33 (dk_at dksX2_sameKind_5 5 rfl rfl)
theorem dX2_sameKind_121 : decode cX2_sameKind 121 = .ok (.aload_n 0, 1) := dk_42 (dk_at dksX2_sameKind_5 8 rfl rfl)
theorem dX2_sameKind_122 : decode cX2_sameKind 122 = .ok (.getfield 81, 3) := dk_180 0 81 (dk_at dksX2_sameKind_5 9 rfl rfl)
theorem dX2_sameKind_125 : decode cX2_sameKind 125 = .ok (.iload 6, 2) := dk_21 6 (dk_at dksX2_sameKind_5 12 rfl rfl)
theorem dX2_sameKind_127 : decode cX2_sameKind 127 = .ok (.iaload, 1) := dk_46 (dk_at dksX2_sameKind_5 14 rfl rfl)
theorem dX2_sameKind_128 : decode cX2_sameKind 128 = .ok (.aload_n 0, 1) := dk_42 (dk_at dksX2_sameKind_5 15 rfl rfl)
theorem dX2_sameKind_129 : decode cX2_sameKind 129 = .ok (.getfield 75, 3) := dk_180 0 75 (dk_at dksX2_sameKind_5 16 rfl rfl)
theorem dX2_sameKind_132 : decode cX2_sameKind 132 = .ok (.iload 6, 2) := dk_21 6 (dk_at dksX2_sameKind_5 19 rfl rfl)
theorem dX2_sameKind_134 : decode cX2_sameKind 134 = .ok (.iaload, 1) := dk_46 (dk_at dksX2_sameKind_5 21 rfl rfl)
theorem dX2_sameKind_135 : decode cX2_sameKind 135 = .ok (.if_icmp .ne 7, 3) := dk_160 0 7 (dk_at dksX2_sameKind_6 0 rfl rfl)
theorem dX2_sameKind_138 : decode cX2_sameKind 138 = .ok (.iconst 1, 1) := dk_4 (dk_at dksX2_sameKind_6 3 rfl rfl)
theorem dX2_sameKind_139 : decode cX2_sameKind 139 = .ok (.goto 4, 3) := dk_167 0 4 (dk_at dksX2_sameKind_6 4 rfl rfl)
theorem dX2_sameKind_142 : decode cX2_sameKind 142 = .ok (.iconst 0, 1) := dk_3 (dk_at dksX2_sameKind_6 7 rfl rfl)
theorem dX2_sameKind_143 : decode cX2_sameKind 143 = .ok (.istore 5, 2) := dk_54 5 (dk_at dksX2_sameKind_6 8 rfl rfl)
theorem dX2_sameKind_145 : decode cX2_sameKind 145 = .ok (.iinc 6 1, 3) := dk_132 6 1 (dk_at dksX2_sameKind_6 10 rfl rfl)
theorem dX2_sameKind_148 : decode cX2_sameKind 148 = .ok (.goto (-38), 3) := dk_167 255 218 (dk_at dksX2_sameKind_6 13 rfl rfl)
theorem dX2_sameKind_151 : decode cX2_sameKind 151 = .ok (.iload 5, 2) := dk_21 5 (dk_at dksX2_sameKind_6 16 rfl rfl)
theorem dX2_sameKind_153 : decode cX2_sameKind 153 = .ok (.ifCond .eq 7, 3) := dk_153 0 7 (dk_at dksX2_sameKind_6 18 rfl rfl)
theorem dX2_sameKind_156 : decode cX2_sameKind 156 = .ok (.iconst 1, 1) := dk_4 (dk_at dksX2_sameKind_6 21 rfl rfl)
theorem dX2_sameKind_157 : decode cX2_sameKind 157 = .ok (.goto 4, 3) := dk_167 0 4 (dk_at dksX2_sameKind_7 0 rfl rfl)
theorem dX2_sameKind_160 : decode cX2_sameKind 160 = .ok (.iconst 0, 1) := dk_3 (dk_at dksX2_sameKind_7 3 rfl rfl)
theorem dX2_sameKind_161 : decode cX2_sameKind 161 = .ok (.ireturn, 1) := dk_172 (dk_at dksX2_sameKind_7 4 rfl rfl)
abbrev cX2_keep : ByteArray := prog_15_method_78_code
def yX2_keep : MethodName := ⟨RX2, "keep", "(I)I"⟩
def dkwX2_keep_1 : List UInt8 := [182, 0, 110, 42, 180, 0, 13, 27, 4, 84, 42, 3, 181, 0, 107, 4, 172]
abbrev dktX2_keep_1 : List UInt8 := dkwX2_keep_1 ++ []
def dkwX2_keep_0 : List UInt8 := [27, 133, 9, 10, 184, 0, 88, 154, 0, 6, 18, 155, 172, 42, 3, 17, 20, 204, 17, 1, 228, 27, 104, 96]
abbrev dktX2_keep_0 : List UInt8 := dkwX2_keep_0 ++ dktX2_keep_1
theorem dksX2_keep_0 : cX2_keep.data.toList.drop 0 = dktX2_keep_0 := by decide +kernel
theorem dksX2_keep_1 : cX2_keep.data.toList.drop 24 = dktX2_keep_1 := dk_seg dksX2_keep_0 24 rfl rfl
theorem dX2_keep_0 : decode cX2_keep 0 = .ok (.iload_n 1, 1) := dk_27 (dk_at dksX2_keep_0 0 rfl rfl)
theorem dX2_keep_1 : decode cX2_keep 1 = .ok (.i2l, 1) := dk_133 (dk_at dksX2_keep_0 1 rfl rfl)
theorem dX2_keep_2 : decode cX2_keep 2 = .ok (.lconst 0, 1) := dk_9 (dk_at dksX2_keep_0 2 rfl rfl)
theorem dX2_keep_3 : decode cX2_keep 3 = .ok (.lconst 1, 1) := dk_10 (dk_at dksX2_keep_0 3 rfl rfl)
theorem dX2_keep_4 : decode cX2_keep 4 = .ok (.invokestatic 88, 3) := dk_184 0 88 (dk_at dksX2_keep_0 4 rfl rfl)
theorem dX2_keep_7 : decode cX2_keep 7 = .ok (.ifCond .ne 6, 3) := dk_154 0 6 (dk_at dksX2_keep_0 7 rfl rfl)
theorem dX2_keep_10 : decode cX2_keep 10 = .ok (.ldc 155, 2) := dk_18 155 (dk_at dksX2_keep_0 10 rfl rfl)
theorem dX2_keep_12 : decode cX2_keep 12 = .ok (.ireturn, 1) := dk_172 (dk_at dksX2_keep_0 12 rfl rfl)
theorem dX2_keep_13 : decode cX2_keep 13 = .ok (.aload_n 0, 1) := dk_42 (dk_at dksX2_keep_0 13 rfl rfl)
theorem dX2_keep_14 : decode cX2_keep 14 = .ok (.iconst 0, 1) := dk_3 (dk_at dksX2_keep_0 14 rfl rfl)
theorem dX2_keep_15 : decode cX2_keep 15 = .ok (.sipush 5324, 3) := dk_17 20 204 (dk_at dksX2_keep_0 15 rfl rfl)
theorem dX2_keep_18 : decode cX2_keep 18 = .ok (.sipush 484, 3) := dk_17 1 228 (dk_at dksX2_keep_0 18 rfl rfl)
theorem dX2_keep_21 : decode cX2_keep 21 = .ok (.iload_n 1, 1) := dk_27 (dk_at dksX2_keep_0 21 rfl rfl)
theorem dX2_keep_22 : decode cX2_keep 22 = .ok (.imul, 1) := dk_104 (dk_at dksX2_keep_0 22 rfl rfl)
theorem dX2_keep_23 : decode cX2_keep 23 = .ok (.iadd, 1) := dk_96 (dk_at dksX2_keep_0 23 rfl rfl)
theorem dX2_keep_24 : decode cX2_keep 24 = .ok (.invokevirtual 110, 3) := dk_182 0 110 (dk_at dksX2_keep_1 0 rfl rfl)
theorem dX2_keep_27 : decode cX2_keep 27 = .ok (.aload_n 0, 1) := dk_42 (dk_at dksX2_keep_1 3 rfl rfl)
theorem dX2_keep_28 : decode cX2_keep 28 = .ok (.getfield 13, 3) := dk_180 0 13 (dk_at dksX2_keep_1 4 rfl rfl)
theorem dX2_keep_31 : decode cX2_keep 31 = .ok (.iload_n 1, 1) := dk_27 (dk_at dksX2_keep_1 7 rfl rfl)
theorem dX2_keep_32 : decode cX2_keep 32 = .ok (.iconst 1, 1) := dk_4 (dk_at dksX2_keep_1 8 rfl rfl)
theorem dX2_keep_33 : decode cX2_keep 33 = .ok (.bastore, 1) := dk_84 (dk_at dksX2_keep_1 9 rfl rfl)
theorem dX2_keep_34 : decode cX2_keep 34 = .ok (.aload_n 0, 1) := dk_42 (dk_at dksX2_keep_1 10 rfl rfl)
theorem dX2_keep_35 : decode cX2_keep 35 = .ok (.iconst 0, 1) := dk_3 (dk_at dksX2_keep_1 11 rfl rfl)
theorem dX2_keep_36 : decode cX2_keep 36 = .ok (.putfield 107, 3) := dk_181 0 107 (dk_at dksX2_keep_1 12 rfl rfl)
theorem dX2_keep_39 : decode cX2_keep 39 = .ok (.iconst 1, 1) := dk_4 (dk_at dksX2_keep_1 15 rfl rfl)
theorem dX2_keep_40 : decode cX2_keep 40 = .ok (.ireturn, 1) := dk_172 (dk_at dksX2_keep_1 16 rfl rfl)
abbrev cX2_goBack : ByteArray := prog_15_method_79_code
def yX2_goBack : MethodName := ⟨RX2, "goBack", "(I)I"⟩
def dkwX2_goBack_1 : List UInt8 := [172, 42, 17, 20, 204, 17, 1, 228, 27, 104, 96, 3, 182, 0, 110, 42, 3, 181, 0, 107, 4, 172]
abbrev dktX2_goBack_1 : List UInt8 := dkwX2_goBack_1 ++ []
def dkwX2_goBack_0 : List UInt8 := [27, 133, 9, 10, 184, 0, 88, 154, 0, 6, 18, 155, 172, 42, 180, 0, 13, 27, 51, 154, 0, 6, 18, 195]
abbrev dktX2_goBack_0 : List UInt8 := dkwX2_goBack_0 ++ dktX2_goBack_1
theorem dksX2_goBack_0 : cX2_goBack.data.toList.drop 0 = dktX2_goBack_0 := by decide +kernel
theorem dksX2_goBack_1 : cX2_goBack.data.toList.drop 24 = dktX2_goBack_1 := dk_seg dksX2_goBack_0 24 rfl rfl
theorem dX2_goBack_0 : decode cX2_goBack 0 = .ok (.iload_n 1, 1) := dk_27 (dk_at dksX2_goBack_0 0 rfl rfl)
theorem dX2_goBack_1 : decode cX2_goBack 1 = .ok (.i2l, 1) := dk_133 (dk_at dksX2_goBack_0 1 rfl rfl)
theorem dX2_goBack_2 : decode cX2_goBack 2 = .ok (.lconst 0, 1) := dk_9 (dk_at dksX2_goBack_0 2 rfl rfl)
theorem dX2_goBack_3 : decode cX2_goBack 3 = .ok (.lconst 1, 1) := dk_10 (dk_at dksX2_goBack_0 3 rfl rfl)
theorem dX2_goBack_4 : decode cX2_goBack 4 = .ok (.invokestatic 88, 3) := dk_184 0 88 (dk_at dksX2_goBack_0 4 rfl rfl)
theorem dX2_goBack_7 : decode cX2_goBack 7 = .ok (.ifCond .ne 6, 3) := dk_154 0 6 (dk_at dksX2_goBack_0 7 rfl rfl)
theorem dX2_goBack_10 : decode cX2_goBack 10 = .ok (.ldc 155, 2) := dk_18 155 (dk_at dksX2_goBack_0 10 rfl rfl)
theorem dX2_goBack_12 : decode cX2_goBack 12 = .ok (.ireturn, 1) := dk_172 (dk_at dksX2_goBack_0 12 rfl rfl)
theorem dX2_goBack_13 : decode cX2_goBack 13 = .ok (.aload_n 0, 1) := dk_42 (dk_at dksX2_goBack_0 13 rfl rfl)
theorem dX2_goBack_14 : decode cX2_goBack 14 = .ok (.getfield 13, 3) := dk_180 0 13 (dk_at dksX2_goBack_0 14 rfl rfl)
theorem dX2_goBack_17 : decode cX2_goBack 17 = .ok (.iload_n 1, 1) := dk_27 (dk_at dksX2_goBack_0 17 rfl rfl)
theorem dX2_goBack_18 : decode cX2_goBack 18 = .ok (.baload, 1) := dk_51 (dk_at dksX2_goBack_0 18 rfl rfl)
theorem dX2_goBack_19 : decode cX2_goBack 19 = .ok (.ifCond .ne 6, 3) := dk_154 0 6 (dk_at dksX2_goBack_0 19 rfl rfl)
theorem dX2_goBack_22 : decode cX2_goBack 22 = .ok (.ldc 195, 2) := dk_18 195 (dk_at dksX2_goBack_0 22 rfl rfl)
theorem dX2_goBack_24 : decode cX2_goBack 24 = .ok (.ireturn, 1) := dk_172 (dk_at dksX2_goBack_1 0 rfl rfl)
theorem dX2_goBack_25 : decode cX2_goBack 25 = .ok (.aload_n 0, 1) := dk_42 (dk_at dksX2_goBack_1 1 rfl rfl)
theorem dX2_goBack_26 : decode cX2_goBack 26 = .ok (.sipush 5324, 3) := dk_17 20 204 (dk_at dksX2_goBack_1 2 rfl rfl)
theorem dX2_goBack_29 : decode cX2_goBack 29 = .ok (.sipush 484, 3) := dk_17 1 228 (dk_at dksX2_goBack_1 5 rfl rfl)
theorem dX2_goBack_32 : decode cX2_goBack 32 = .ok (.iload_n 1, 1) := dk_27 (dk_at dksX2_goBack_1 8 rfl rfl)
theorem dX2_goBack_33 : decode cX2_goBack 33 = .ok (.imul, 1) := dk_104 (dk_at dksX2_goBack_1 9 rfl rfl)
theorem dX2_goBack_34 : decode cX2_goBack 34 = .ok (.iadd, 1) := dk_96 (dk_at dksX2_goBack_1 10 rfl rfl)
theorem dX2_goBack_35 : decode cX2_goBack 35 = .ok (.iconst 0, 1) := dk_3 (dk_at dksX2_goBack_1 11 rfl rfl)
theorem dX2_goBack_36 : decode cX2_goBack 36 = .ok (.invokevirtual 110, 3) := dk_182 0 110 (dk_at dksX2_goBack_1 12 rfl rfl)
theorem dX2_goBack_39 : decode cX2_goBack 39 = .ok (.aload_n 0, 1) := dk_42 (dk_at dksX2_goBack_1 15 rfl rfl)
theorem dX2_goBack_40 : decode cX2_goBack 40 = .ok (.iconst 0, 1) := dk_3 (dk_at dksX2_goBack_1 16 rfl rfl)
theorem dX2_goBack_41 : decode cX2_goBack 41 = .ok (.putfield 107, 3) := dk_181 0 107 (dk_at dksX2_goBack_1 17 rfl rfl)
theorem dX2_goBack_44 : decode cX2_goBack 44 = .ok (.iconst 1, 1) := dk_4 (dk_at dksX2_goBack_1 20 rfl rfl)
theorem dX2_goBack_45 : decode cX2_goBack 45 = .ok (.ireturn, 1) := dk_172 (dk_at dksX2_goBack_1 21 rfl rfl)
theorem q86 : (Jvm.Cond.initialized "BinderPressModel") ∈ lw_all := lw_g (lw_at lw_m1 3 rfl) rfl
theorem q1365 : (Jvm.Cond.instantiable "BinderPressModel" (37 : Nat)) ∈ lw_all := lw_g (lw_at lw_m6 82 rfl) rfl
theorem q1367 : (Jvm.Cond.instanceMethod ({ cls := "BinderPressModel", name := "<init>", desc := "()V" } : Jvm.MethodName)) ∈ lw_all := lw_g (lw_at lw_m6 84 rfl) rfl
theorem q1368 : (Jvm.Cond.code ({ cls := "BinderPressModel", name := "<init>", desc := "()V" } : Jvm.MethodName) prog_15_method_1_code (1 : Nat) (Option.none : Option Jvm.ClassFile.FieldType)) ∈ lw_all := lw_g (lw_at lw_m6 85 rfl) rfl
theorem q1369 : (Jvm.Cond.methodLink "BinderPressModel" (1 : Nat) ({ cls := "java/lang/Object", name := "<init>", desc := "()V" } : Jvm.MethodName)) ∈ lw_all := lw_g (lw_at lw_m6 86 rfl) rfl
theorem q1370 : (Jvm.Cond.fieldLink "BinderPressModel" (7 : Nat) "BinderPressModel" "row" "[I") ∈ lw_all := lw_g (lw_at lw_m6 87 rfl) rfl
theorem q1371 : (Jvm.Cond.fieldLink "BinderPressModel" (107 : Nat) "BinderPressModel" "undos" "I") ∈ lw_all := lw_g (lw_at lw_m6 88 rfl) rfl
theorem q1372 : (Jvm.Cond.fieldLink "BinderPressModel" (13 : Nat) "BinderPressModel" "isKept" "[Z") ∈ lw_all := lw_g (lw_at lw_m6 89 rfl) rfl
theorem q1373 : (Jvm.Cond.fieldLink "BinderPressModel" (17 : Nat) "BinderPressModel" "text" "[I") ∈ lw_all := lw_g (lw_at lw_m6 90 rfl) rfl
theorem q1374 : (Jvm.Cond.fieldLink "BinderPressModel" (121 : Nat) "BinderPressModel" "length" "I") ∈ lw_all := lw_g (lw_at lw_m6 91 rfl) rfl
theorem q1375 : (Jvm.Cond.fieldLink "BinderPressModel" (20 : Nat) "BinderPressModel" "fault" "I") ∈ lw_all := lw_g (lw_at lw_m6 92 rfl) rfl
theorem q1376 : (Jvm.Cond.fieldLink "BinderPressModel" (24 : Nat) "BinderPressModel" "term" "[I") ∈ lw_all := lw_g (lw_at lw_m6 93 rfl) rfl
theorem q1377 : (Jvm.Cond.fieldLink "BinderPressModel" (104 : Nat) "BinderPressModel" "size" "I") ∈ lw_all := lw_g (lw_at lw_m6 94 rfl) rfl
theorem q1378 : (Jvm.Cond.fieldLink "BinderPressModel" (27 : Nat) "BinderPressModel" "made" "[I") ∈ lw_all := lw_g (lw_at lw_m6 95 rfl) rfl
theorem q1379 : (Jvm.Cond.fieldLink "BinderPressModel" (97 : Nat) "BinderPressModel" "many" "I") ∈ lw_all := lw_g (lw_at lw_m6 96 rfl) rfl
theorem q1380 : (Jvm.Cond.fieldLink "BinderPressModel" (30 : Nat) "BinderPressModel" "stack" "[I") ∈ lw_all := lw_g (lw_at lw_m6 97 rfl) rfl
theorem q1381 : (Jvm.Cond.fieldLink "BinderPressModel" (94 : Nat) "BinderPressModel" "depth" "I") ∈ lw_all := lw_g (lw_at lw_m6 98 rfl) rfl
theorem q1382 : (Jvm.Cond.fieldLink "BinderPressModel" (33 : Nat) "BinderPressModel" "begins" "[I") ∈ lw_all := lw_g (lw_at lw_m6 99 rfl) rfl
theorem q1383 : (Jvm.Cond.fieldLink "BinderPressModel" (36 : Nat) "BinderPressModel" "isBody" "[Z") ∈ lw_all := lw_g (lw_at lw_m6 100 rfl) rfl
theorem q1384 : (Jvm.Cond.fieldLink "BinderPressModel" (124 : Nat) "BinderPressModel" "around" "I") ∈ lw_all := lw_g (lw_at lw_m6 101 rfl) rfl
theorem q1385 : (Jvm.Cond.fieldLink "BinderPressModel" (131 : Nat) "BinderPressModel" "wanted" "I") ∈ lw_all := lw_g (lw_at lw_m6 102 rfl) rfl
theorem q1386 : (Jvm.Cond.fieldLink "BinderPressModel" (226 : Nat) "BinderPressModel" "place" "I") ∈ lw_all := lw_g (lw_at lw_m6 103 rfl) rfl
theorem q1387 : (Jvm.Cond.fieldLink "BinderPressModel" (39 : Nat) "BinderPressModel" "args" "[I") ∈ lw_all := lw_g (lw_at lw_m6 104 rfl) rfl
theorem q1388 : (Jvm.Cond.fieldLink "BinderPressModel" (229 : Nat) "BinderPressModel" "isBig" "Z") ∈ lw_all := lw_g (lw_at lw_m6 105 rfl) rfl
theorem q1389 : (Jvm.Cond.fieldLink "BinderPressModel" (236 : Nat) "BinderPressModel" "isMore" "Z") ∈ lw_all := lw_g (lw_at lw_m6 106 rfl) rfl
theorem q1390 : (Jvm.Cond.fieldLink "BinderPressModel" (42 : Nat) "BinderPressModel" "things" "[I") ∈ lw_all := lw_g (lw_at lw_m6 107 rfl) rfl
theorem q1391 : (Jvm.Cond.fieldLink "BinderPressModel" (45 : Nat) "BinderPressModel" "lefts" "[I") ∈ lw_all := lw_g (lw_at lw_m6 108 rfl) rfl
theorem q1392 : (Jvm.Cond.fieldLink "BinderPressModel" (48 : Nat) "BinderPressModel" "rights" "[I") ∈ lw_all := lw_g (lw_at lw_m6 109 rfl) rfl
theorem q1393 : (Jvm.Cond.fieldLink "BinderPressModel" (242 : Nat) "BinderPressModel" "thingMany" "I") ∈ lw_all := lw_g (lw_at lw_m6 110 rfl) rfl
theorem q1394 : (Jvm.Cond.fieldLink "BinderPressModel" (51 : Nat) "BinderPressModel" "spine" "[I") ∈ lw_all := lw_g (lw_at lw_m6 111 rfl) rfl
theorem q1395 : (Jvm.Cond.fieldLink "BinderPressModel" (54 : Nat) "BinderPressModel" "from" "[I") ∈ lw_all := lw_g (lw_at lw_m6 112 rfl) rfl
theorem q1396 : (Jvm.Cond.fieldLink "BinderPressModel" (57 : Nat) "BinderPressModel" "to" "[I") ∈ lw_all := lw_g (lw_at lw_m6 113 rfl) rfl
theorem q1397 : (Jvm.Cond.fieldLink "BinderPressModel" (60 : Nat) "BinderPressModel" "alike" "[I") ∈ lw_all := lw_g (lw_at lw_m6 114 rfl) rfl
theorem q1398 : (Jvm.Cond.fieldLink "BinderPressModel" (63 : Nat) "BinderPressModel" "isSound" "[Z") ∈ lw_all := lw_g (lw_at lw_m6 115 rfl) rfl
theorem q1399 : (Jvm.Cond.fieldLink "BinderPressModel" (280 : Nat) "BinderPressModel" "kindMany" "I") ∈ lw_all := lw_g (lw_at lw_m6 116 rfl) rfl
theorem q1400 : (Jvm.Cond.fieldLink "BinderPressModel" (66 : Nat) "BinderPressModel" "names" "[I") ∈ lw_all := lw_g (lw_at lw_m6 117 rfl) rfl
theorem q1401 : (Jvm.Cond.fieldLink "BinderPressModel" (69 : Nat) "BinderPressModel" "bound" "[I") ∈ lw_all := lw_g (lw_at lw_m6 118 rfl) rfl
theorem q1402 : (Jvm.Cond.fieldLink "BinderPressModel" (72 : Nat) "BinderPressModel" "pairs" "[I") ∈ lw_all := lw_g (lw_at lw_m6 119 rfl) rfl
theorem q1403 : (Jvm.Cond.fieldLink "BinderPressModel" (75 : Nat) "BinderPressModel" "written" "[I") ∈ lw_all := lw_g (lw_at lw_m6 120 rfl) rfl
theorem q1404 : (Jvm.Cond.fieldLink "BinderPressModel" (304 : Nat) "BinderPressModel" "writtenMany" "I") ∈ lw_all := lw_g (lw_at lw_m6 121 rfl) rfl
theorem q1405 : (Jvm.Cond.fieldLink "BinderPressModel" (78 : Nat) "BinderPressModel" "letterOf" "[I") ∈ lw_all := lw_g (lw_at lw_m6 122 rfl) rfl
theorem q1406 : (Jvm.Cond.fieldLink "BinderPressModel" (81 : Nat) "BinderPressModel" "written2" "[I") ∈ lw_all := lw_g (lw_at lw_m6 123 rfl) rfl
theorem q1407 : (Jvm.Cond.laysFinal "BinderPressModel" "BinderPressModel" "row" "[I") ∈ lw_all := lw_g (lw_at lw_m6 124 rfl) rfl
theorem q1408 : (Jvm.Cond.soleField "BinderPressModel" "row") ∈ lw_all := lw_g (lw_at lw_m6 125 rfl) rfl
theorem q1409 : (Jvm.Cond.lays "BinderPressModel" "BinderPressModel" "undos" "I") ∈ lw_all := lw_g (lw_at lw_m6 126 rfl) rfl
theorem q1410 : (Jvm.Cond.soleField "BinderPressModel" "undos") ∈ lw_all := lw_g (lw_at lw_m6 127 rfl) rfl
theorem q1411 : (Jvm.Cond.laysFinal "BinderPressModel" "BinderPressModel" "isKept" "[Z") ∈ lw_all := lw_g (lw_at lw_m6 128 rfl) rfl
theorem q1412 : (Jvm.Cond.soleField "BinderPressModel" "isKept") ∈ lw_all := lw_g (lw_at lw_m6 129 rfl) rfl
theorem q1413 : (Jvm.Cond.laysFinal "BinderPressModel" "BinderPressModel" "text" "[I") ∈ lw_all := lw_g (lw_at lw_m6 130 rfl) rfl
theorem q1414 : (Jvm.Cond.soleField "BinderPressModel" "text") ∈ lw_all := lw_g (lw_at lw_m6 131 rfl) rfl
theorem q1415 : (Jvm.Cond.lays "BinderPressModel" "BinderPressModel" "length" "I") ∈ lw_all := lw_g (lw_at lw_m6 132 rfl) rfl
theorem q1416 : (Jvm.Cond.soleField "BinderPressModel" "length") ∈ lw_all := lw_g (lw_at lw_m6 133 rfl) rfl
theorem q1417 : (Jvm.Cond.lays "BinderPressModel" "BinderPressModel" "fault" "I") ∈ lw_all := lw_g (lw_at lw_m6 134 rfl) rfl
theorem q1418 : (Jvm.Cond.soleField "BinderPressModel" "fault") ∈ lw_all := lw_g (lw_at lw_m6 135 rfl) rfl
theorem q1419 : (Jvm.Cond.laysFinal "BinderPressModel" "BinderPressModel" "term" "[I") ∈ lw_all := lw_g (lw_at lw_m6 136 rfl) rfl
theorem q1420 : (Jvm.Cond.soleField "BinderPressModel" "term") ∈ lw_all := lw_g (lw_at lw_m6 137 rfl) rfl
theorem q1421 : (Jvm.Cond.lays "BinderPressModel" "BinderPressModel" "size" "I") ∈ lw_all := lw_g (lw_at lw_m6 138 rfl) rfl
theorem q1422 : (Jvm.Cond.soleField "BinderPressModel" "size") ∈ lw_all := lw_g (lw_at lw_m6 139 rfl) rfl
theorem q1423 : (Jvm.Cond.laysFinal "BinderPressModel" "BinderPressModel" "made" "[I") ∈ lw_all := lw_g (lw_at lw_m6 140 rfl) rfl
theorem q1424 : (Jvm.Cond.soleField "BinderPressModel" "made") ∈ lw_all := lw_g (lw_at lw_m6 141 rfl) rfl
theorem q1425 : (Jvm.Cond.lays "BinderPressModel" "BinderPressModel" "many" "I") ∈ lw_all := lw_g (lw_at lw_m6 142 rfl) rfl
theorem q1426 : (Jvm.Cond.soleField "BinderPressModel" "many") ∈ lw_all := lw_g (lw_at lw_m6 143 rfl) rfl
theorem q1427 : (Jvm.Cond.laysFinal "BinderPressModel" "BinderPressModel" "stack" "[I") ∈ lw_all := lw_g (lw_at lw_m6 144 rfl) rfl
theorem q1428 : (Jvm.Cond.soleField "BinderPressModel" "stack") ∈ lw_all := lw_g (lw_at lw_m6 145 rfl) rfl
theorem q1429 : (Jvm.Cond.lays "BinderPressModel" "BinderPressModel" "depth" "I") ∈ lw_all := lw_g (lw_at lw_m6 146 rfl) rfl
theorem q1430 : (Jvm.Cond.soleField "BinderPressModel" "depth") ∈ lw_all := lw_g (lw_at lw_m6 147 rfl) rfl
theorem q1431 : (Jvm.Cond.laysFinal "BinderPressModel" "BinderPressModel" "begins" "[I") ∈ lw_all := lw_g (lw_at lw_m6 148 rfl) rfl
theorem q1432 : (Jvm.Cond.soleField "BinderPressModel" "begins") ∈ lw_all := lw_g (lw_at lw_m6 149 rfl) rfl
theorem q1433 : (Jvm.Cond.laysFinal "BinderPressModel" "BinderPressModel" "isBody" "[Z") ∈ lw_all := lw_g (lw_at lw_m6 150 rfl) rfl
theorem q1434 : (Jvm.Cond.soleField "BinderPressModel" "isBody") ∈ lw_all := lw_g (lw_at lw_m6 151 rfl) rfl
theorem q1435 : (Jvm.Cond.lays "BinderPressModel" "BinderPressModel" "around" "I") ∈ lw_all := lw_g (lw_at lw_m6 152 rfl) rfl
theorem q1436 : (Jvm.Cond.soleField "BinderPressModel" "around") ∈ lw_all := lw_g (lw_at lw_m6 153 rfl) rfl
theorem q1437 : (Jvm.Cond.lays "BinderPressModel" "BinderPressModel" "wanted" "I") ∈ lw_all := lw_g (lw_at lw_m6 154 rfl) rfl
theorem q1438 : (Jvm.Cond.soleField "BinderPressModel" "wanted") ∈ lw_all := lw_g (lw_at lw_m6 155 rfl) rfl
theorem q1439 : (Jvm.Cond.lays "BinderPressModel" "BinderPressModel" "place" "I") ∈ lw_all := lw_g (lw_at lw_m6 156 rfl) rfl
theorem q1440 : (Jvm.Cond.soleField "BinderPressModel" "place") ∈ lw_all := lw_g (lw_at lw_m6 157 rfl) rfl
theorem q1441 : (Jvm.Cond.laysFinal "BinderPressModel" "BinderPressModel" "args" "[I") ∈ lw_all := lw_g (lw_at lw_m6 158 rfl) rfl
theorem q1442 : (Jvm.Cond.soleField "BinderPressModel" "args") ∈ lw_all := lw_g (lw_at lw_m6 159 rfl) rfl
theorem q1443 : (Jvm.Cond.lays "BinderPressModel" "BinderPressModel" "isBig" "Z") ∈ lw_all := lw_g (lw_at lw_m6 160 rfl) rfl
theorem q1444 : (Jvm.Cond.soleField "BinderPressModel" "isBig") ∈ lw_all := lw_g (lw_at lw_m6 161 rfl) rfl
theorem q1445 : (Jvm.Cond.lays "BinderPressModel" "BinderPressModel" "isMore" "Z") ∈ lw_all := lw_g (lw_at lw_m6 162 rfl) rfl
theorem q1446 : (Jvm.Cond.soleField "BinderPressModel" "isMore") ∈ lw_all := lw_g (lw_at lw_m6 163 rfl) rfl
theorem q1447 : (Jvm.Cond.laysFinal "BinderPressModel" "BinderPressModel" "things" "[I") ∈ lw_all := lw_g (lw_at lw_m6 164 rfl) rfl
theorem q1448 : (Jvm.Cond.soleField "BinderPressModel" "things") ∈ lw_all := lw_g (lw_at lw_m6 165 rfl) rfl
theorem q1449 : (Jvm.Cond.laysFinal "BinderPressModel" "BinderPressModel" "lefts" "[I") ∈ lw_all := lw_g (lw_at lw_m6 166 rfl) rfl
theorem q1450 : (Jvm.Cond.soleField "BinderPressModel" "lefts") ∈ lw_all := lw_g (lw_at lw_m6 167 rfl) rfl
theorem q1451 : (Jvm.Cond.laysFinal "BinderPressModel" "BinderPressModel" "rights" "[I") ∈ lw_all := lw_g (lw_at lw_m6 168 rfl) rfl
theorem q1452 : (Jvm.Cond.soleField "BinderPressModel" "rights") ∈ lw_all := lw_g (lw_at lw_m6 169 rfl) rfl
theorem q1453 : (Jvm.Cond.lays "BinderPressModel" "BinderPressModel" "thingMany" "I") ∈ lw_all := lw_g (lw_at lw_m6 170 rfl) rfl
theorem q1454 : (Jvm.Cond.soleField "BinderPressModel" "thingMany") ∈ lw_all := lw_g (lw_at lw_m6 171 rfl) rfl
theorem q1455 : (Jvm.Cond.laysFinal "BinderPressModel" "BinderPressModel" "spine" "[I") ∈ lw_all := lw_g (lw_at lw_m6 172 rfl) rfl
theorem q1456 : (Jvm.Cond.soleField "BinderPressModel" "spine") ∈ lw_all := lw_g (lw_at lw_m6 173 rfl) rfl
theorem q1457 : (Jvm.Cond.laysFinal "BinderPressModel" "BinderPressModel" "from" "[I") ∈ lw_all := lw_g (lw_at lw_m6 174 rfl) rfl
theorem q1458 : (Jvm.Cond.soleField "BinderPressModel" "from") ∈ lw_all := lw_g (lw_at lw_m6 175 rfl) rfl
theorem q1459 : (Jvm.Cond.laysFinal "BinderPressModel" "BinderPressModel" "to" "[I") ∈ lw_all := lw_g (lw_at lw_m6 176 rfl) rfl
theorem q1460 : (Jvm.Cond.soleField "BinderPressModel" "to") ∈ lw_all := lw_g (lw_at lw_m6 177 rfl) rfl
theorem q1461 : (Jvm.Cond.laysFinal "BinderPressModel" "BinderPressModel" "alike" "[I") ∈ lw_all := lw_g (lw_at lw_m6 178 rfl) rfl
theorem q1462 : (Jvm.Cond.soleField "BinderPressModel" "alike") ∈ lw_all := lw_g (lw_at lw_m6 179 rfl) rfl
theorem q1463 : (Jvm.Cond.laysFinal "BinderPressModel" "BinderPressModel" "isSound" "[Z") ∈ lw_all := lw_g (lw_at lw_m6 180 rfl) rfl
theorem q1464 : (Jvm.Cond.soleField "BinderPressModel" "isSound") ∈ lw_all := lw_g (lw_at lw_m6 181 rfl) rfl
theorem q1465 : (Jvm.Cond.lays "BinderPressModel" "BinderPressModel" "kindMany" "I") ∈ lw_all := lw_g (lw_at lw_m6 182 rfl) rfl
theorem q1466 : (Jvm.Cond.soleField "BinderPressModel" "kindMany") ∈ lw_all := lw_g (lw_at lw_m6 183 rfl) rfl
theorem q1467 : (Jvm.Cond.laysFinal "BinderPressModel" "BinderPressModel" "names" "[I") ∈ lw_all := lw_g (lw_at lw_m6 184 rfl) rfl
theorem q1468 : (Jvm.Cond.soleField "BinderPressModel" "names") ∈ lw_all := lw_g (lw_at lw_m6 185 rfl) rfl
theorem q1469 : (Jvm.Cond.laysFinal "BinderPressModel" "BinderPressModel" "bound" "[I") ∈ lw_all := lw_g (lw_at lw_m6 186 rfl) rfl
theorem q1470 : (Jvm.Cond.soleField "BinderPressModel" "bound") ∈ lw_all := lw_g (lw_at lw_m6 187 rfl) rfl
theorem q1471 : (Jvm.Cond.laysFinal "BinderPressModel" "BinderPressModel" "pairs" "[I") ∈ lw_all := lw_g (lw_at lw_m6 188 rfl) rfl
theorem q1472 : (Jvm.Cond.soleField "BinderPressModel" "pairs") ∈ lw_all := lw_g (lw_at lw_m6 189 rfl) rfl
theorem q1473 : (Jvm.Cond.laysFinal "BinderPressModel" "BinderPressModel" "written" "[I") ∈ lw_all := lw_g (lw_at lw_m6 190 rfl) rfl
theorem q1474 : (Jvm.Cond.soleField "BinderPressModel" "written") ∈ lw_all := lw_g (lw_at lw_m6 191 rfl) rfl
theorem q1475 : (Jvm.Cond.lays "BinderPressModel" "BinderPressModel" "writtenMany" "I") ∈ lw_all := lw_g (lw_at lw_m6 192 rfl) rfl
theorem q1476 : (Jvm.Cond.soleField "BinderPressModel" "writtenMany") ∈ lw_all := lw_g (lw_at lw_m6 193 rfl) rfl
theorem q1477 : (Jvm.Cond.laysFinal "BinderPressModel" "BinderPressModel" "letterOf" "[I") ∈ lw_all := lw_g (lw_at lw_m6 194 rfl) rfl
theorem q1478 : (Jvm.Cond.soleField "BinderPressModel" "letterOf") ∈ lw_all := lw_g (lw_at lw_m6 195 rfl) rfl
theorem q1479 : (Jvm.Cond.laysFinal "BinderPressModel" "BinderPressModel" "written2" "[I") ∈ lw_all := lw_g (lw_at lw_m6 196 rfl) rfl
theorem q1480 : (Jvm.Cond.soleField "BinderPressModel" "written2") ∈ lw_all := lw_g (lw_at lw_m6 197 rfl) rfl
theorem q1481 : (Jvm.Cond.superclass "BinderPressModel" "java/lang/Object") ∈ lw_all := lw_g (lw_at lw_m6 198 rfl) rfl
theorem q1484 : (Jvm.Cond.instanceMethod ({ cls := "BinderPressModel", name := "feed", desc := "(I)I" } : Jvm.MethodName)) ∈ lw_all := lw_g (lw_at lw_m6 201 rfl) rfl
theorem q1485 : (Jvm.Cond.selects "BinderPressModel" ({ cls := "BinderPressModel", name := "feed", desc := "(I)I" } : Jvm.MethodName) ({ cls := "BinderPressModel", name := "feed", desc := "(I)I" } : Jvm.MethodName)) ∈ lw_all := lw_g (lw_at lw_m6 202 rfl) rfl
theorem q1486 : (Jvm.Cond.code ({ cls := "BinderPressModel", name := "feed", desc := "(I)I" } : Jvm.MethodName) prog_15_method_15_code (2 : Nat) (Option.some Jvm.ClassFile.FieldType.int)) ∈ lw_all := lw_g (lw_at lw_m6 203 rfl) rfl
theorem q1487 : (Jvm.Cond.constantLong "BinderPressModel" (118 : Nat) (255 : Int64)) ∈ lw_all := lw_g (lw_at lw_m6 204 rfl) rfl
theorem q1488 : (Jvm.Cond.methodLink "BinderPressModel" (88 : Nat) ({ cls := "BinderPressModel", name := "in", desc := "(JJJ)Z" } : Jvm.MethodName)) ∈ lw_all := lw_g (lw_at lw_m6 205 rfl) rfl
theorem q1489 : (Jvm.Cond.static ({ cls := "BinderPressModel", name := "in", desc := "(JJJ)Z" } : Jvm.MethodName)) ∈ lw_all := lw_g (lw_at lw_m6 206 rfl) rfl
theorem q1490 : (Jvm.Cond.code ({ cls := "BinderPressModel", name := "in", desc := "(JJJ)Z" } : Jvm.MethodName) prog_15_method_2_code (6 : Nat) (Option.some Jvm.ClassFile.FieldType.boolean)) ∈ lw_all := lw_g (lw_at lw_m6 207 rfl) rfl
theorem q1491 : (Jvm.Cond.constant "BinderPressModel" (120 : Nat) (-1000000002 : Int32)) ∈ lw_all := lw_g (lw_at lw_m6 208 rfl) rfl
theorem q1492 : (Jvm.Cond.constant "BinderPressModel" (114 : Nat) (-1000000004 : Int32)) ∈ lw_all := lw_g (lw_at lw_m6 209 rfl) rfl
theorem q1494 : (Jvm.Cond.instanceMethod ({ cls := "BinderPressModel", name := "term", desc := "(I)I" } : Jvm.MethodName)) ∈ lw_all := lw_g (lw_at lw_m6 211 rfl) rfl
theorem q1495 : (Jvm.Cond.selects "BinderPressModel" ({ cls := "BinderPressModel", name := "term", desc := "(I)I" } : Jvm.MethodName) ({ cls := "BinderPressModel", name := "term", desc := "(I)I" } : Jvm.MethodName)) ∈ lw_all := lw_g (lw_at lw_m6 212 rfl) rfl
theorem q1496 : (Jvm.Cond.code ({ cls := "BinderPressModel", name := "term", desc := "(I)I" } : Jvm.MethodName) prog_15_method_22_code (4 : Nat) (Option.some Jvm.ClassFile.FieldType.int)) ∈ lw_all := lw_g (lw_at lw_m6 213 rfl) rfl
theorem q1497 : (Jvm.Cond.methodLink "BinderPressModel" (152 : Nat) ({ cls := "BinderPressModel", name := "isShelf", desc := "(I)Z" } : Jvm.MethodName)) ∈ lw_all := lw_g (lw_at lw_m6 214 rfl) rfl
theorem q1498 : (Jvm.Cond.static ({ cls := "BinderPressModel", name := "isShelf", desc := "(I)Z" } : Jvm.MethodName)) ∈ lw_all := lw_g (lw_at lw_m6 215 rfl) rfl
theorem q1499 : (Jvm.Cond.code ({ cls := "BinderPressModel", name := "isShelf", desc := "(I)Z" } : Jvm.MethodName) prog_15_method_5_code (1 : Nat) (Option.some Jvm.ClassFile.FieldType.boolean)) ∈ lw_all := lw_g (lw_at lw_m6 216 rfl) rfl
theorem q1500 : (Jvm.Cond.constantLong "BinderPressModel" (92 : Nat) (3 : Int64)) ∈ lw_all := lw_g (lw_at lw_m6 217 rfl) rfl
theorem q1501 : (Jvm.Cond.constant "BinderPressModel" (155 : Nat) (-1000000001 : Int32)) ∈ lw_all := lw_g (lw_at lw_m6 218 rfl) rfl
theorem q1502 : (Jvm.Cond.methodLink "BinderPressModel" (156 : Nat) ({ cls := "BinderPressModel", name := "reads", desc := "(I)I" } : Jvm.MethodName)) ∈ lw_all := lw_g (lw_at lw_m6 219 rfl) rfl
theorem q1503 : (Jvm.Cond.privateMethod ({ cls := "BinderPressModel", name := "reads", desc := "(I)I" } : Jvm.MethodName)) ∈ lw_tbl := lw_at lw_m6 220 rfl
theorem q1504 : (Jvm.Cond.instanceMethod ({ cls := "BinderPressModel", name := "reads", desc := "(I)I" } : Jvm.MethodName)) ∈ lw_all := lw_g (lw_at lw_m6 221 rfl) rfl
theorem q1505 : (Jvm.Cond.code ({ cls := "BinderPressModel", name := "reads", desc := "(I)I" } : Jvm.MethodName) prog_15_method_21_code (3 : Nat) (Option.some Jvm.ClassFile.FieldType.int)) ∈ lw_all := lw_g (lw_at lw_m6 222 rfl) rfl
theorem q1506 : (Jvm.Cond.methodLink "BinderPressModel" (134 : Nat) ({ cls := "BinderPressModel", name := "isName", desc := "(I)Z" } : Jvm.MethodName)) ∈ lw_all := lw_g (lw_at lw_m6 223 rfl) rfl
theorem q1507 : (Jvm.Cond.static ({ cls := "BinderPressModel", name := "isName", desc := "(I)Z" } : Jvm.MethodName)) ∈ lw_all := lw_g (lw_at lw_m6 224 rfl) rfl
theorem q1508 : (Jvm.Cond.code ({ cls := "BinderPressModel", name := "isName", desc := "(I)Z" } : Jvm.MethodName) prog_15_method_3_code (1 : Nat) (Option.some Jvm.ClassFile.FieldType.boolean)) ∈ lw_all := lw_g (lw_at lw_m6 225 rfl) rfl
theorem q1509 : (Jvm.Cond.constantLong "BinderPressModel" (84 : Nat) (97 : Int64)) ∈ lw_all := lw_g (lw_at lw_m6 226 rfl) rfl
theorem q1510 : (Jvm.Cond.constantLong "BinderPressModel" (86 : Nat) (122 : Int64)) ∈ lw_all := lw_g (lw_at lw_m6 227 rfl) rfl
theorem q1511 : (Jvm.Cond.methodLink "BinderPressModel" (138 : Nat) ({ cls := "BinderPressModel", name := "open", desc := "(Z)V" } : Jvm.MethodName)) ∈ lw_all := lw_g (lw_at lw_m6 228 rfl) rfl
theorem q1512 : (Jvm.Cond.privateMethod ({ cls := "BinderPressModel", name := "open", desc := "(Z)V" } : Jvm.MethodName)) ∈ lw_tbl := lw_at lw_m6 229 rfl
theorem q1513 : (Jvm.Cond.instanceMethod ({ cls := "BinderPressModel", name := "open", desc := "(Z)V" } : Jvm.MethodName)) ∈ lw_all := lw_g (lw_at lw_m6 230 rfl) rfl
theorem q1514 : (Jvm.Cond.code ({ cls := "BinderPressModel", name := "open", desc := "(Z)V" } : Jvm.MethodName) prog_15_method_16_code (2 : Nat) (Option.none : Option Jvm.ClassFile.FieldType)) ∈ lw_all := lw_g (lw_at lw_m6 231 rfl) rfl
theorem q1515 : (Jvm.Cond.methodLink "BinderPressModel" (142 : Nat) ({ cls := "BinderPressModel", name := "ends", desc := "(Z)Z" } : Jvm.MethodName)) ∈ lw_all := lw_g (lw_at lw_m6 232 rfl) rfl
theorem q1516 : (Jvm.Cond.privateMethod ({ cls := "BinderPressModel", name := "ends", desc := "(Z)Z" } : Jvm.MethodName)) ∈ lw_tbl := lw_at lw_m6 233 rfl
theorem q1517 : (Jvm.Cond.instanceMethod ({ cls := "BinderPressModel", name := "ends", desc := "(Z)Z" } : Jvm.MethodName)) ∈ lw_all := lw_g (lw_at lw_m6 234 rfl) rfl
theorem q1518 : (Jvm.Cond.code ({ cls := "BinderPressModel", name := "ends", desc := "(Z)Z" } : Jvm.MethodName) prog_15_method_20_code (3 : Nat) (Option.some Jvm.ClassFile.FieldType.boolean)) ∈ lw_all := lw_g (lw_at lw_m6 235 rfl) rfl
theorem q1519 : (Jvm.Cond.methodLink "BinderPressModel" (127 : Nat) ({ cls := "BinderPressModel", name := "hasTerm", desc := "()Z" } : Jvm.MethodName)) ∈ lw_all := lw_g (lw_at lw_m6 236 rfl) rfl
theorem q1520 : (Jvm.Cond.privateMethod ({ cls := "BinderPressModel", name := "hasTerm", desc := "()Z" } : Jvm.MethodName)) ∈ lw_tbl := lw_at lw_m6 237 rfl
theorem q1521 : (Jvm.Cond.instanceMethod ({ cls := "BinderPressModel", name := "hasTerm", desc := "()Z" } : Jvm.MethodName)) ∈ lw_all := lw_g (lw_at lw_m6 238 rfl) rfl
theorem q1522 : (Jvm.Cond.code ({ cls := "BinderPressModel", name := "hasTerm", desc := "()Z" } : Jvm.MethodName) prog_15_method_17_code (1 : Nat) (Option.some Jvm.ClassFile.FieldType.boolean)) ∈ lw_all := lw_g (lw_at lw_m6 239 rfl) rfl
theorem q1523 : (Jvm.Cond.methodLink "BinderPressModel" (146 : Nat) ({ cls := "BinderPressModel", name := "signOf", desc := "(I)I" } : Jvm.MethodName)) ∈ lw_all := lw_g (lw_at lw_m7 0 rfl) rfl
theorem q1524 : (Jvm.Cond.static ({ cls := "BinderPressModel", name := "signOf", desc := "(I)I" } : Jvm.MethodName)) ∈ lw_all := lw_g (lw_at lw_m7 1 rfl) rfl
theorem q1525 : (Jvm.Cond.code ({ cls := "BinderPressModel", name := "signOf", desc := "(I)I" } : Jvm.MethodName) prog_15_method_19_code (1 : Nat) (Option.some Jvm.ClassFile.FieldType.int)) ∈ lw_all := lw_g (lw_at lw_m7 2 rfl) rfl
theorem q1526 : (Jvm.Cond.methodLink "BinderPressModel" (149 : Nat) ({ cls := "BinderPressModel", name := "putAhead", desc := "()V" } : Jvm.MethodName)) ∈ lw_all := lw_g (lw_at lw_m7 3 rfl) rfl
theorem q1527 : (Jvm.Cond.privateMethod ({ cls := "BinderPressModel", name := "putAhead", desc := "()V" } : Jvm.MethodName)) ∈ lw_tbl := lw_at lw_m7 4 rfl
theorem q1528 : (Jvm.Cond.instanceMethod ({ cls := "BinderPressModel", name := "putAhead", desc := "()V" } : Jvm.MethodName)) ∈ lw_all := lw_g (lw_at lw_m7 5 rfl) rfl
theorem q1529 : (Jvm.Cond.code ({ cls := "BinderPressModel", name := "putAhead", desc := "()V" } : Jvm.MethodName) prog_15_method_18_code (2 : Nat) (Option.none : Option Jvm.ClassFile.FieldType)) ∈ lw_all := lw_g (lw_at lw_m7 6 rfl) rfl
theorem q1530 : (Jvm.Cond.methodLink "BinderPressModel" (159 : Nat) ({ cls := "BinderPressModel", name := "lay", desc := "(I)I" } : Jvm.MethodName)) ∈ lw_all := lw_g (lw_at lw_m7 7 rfl) rfl
theorem q1531 : (Jvm.Cond.privateMethod ({ cls := "BinderPressModel", name := "lay", desc := "(I)I" } : Jvm.MethodName)) ∈ lw_tbl := lw_at lw_m7 8 rfl
theorem q1532 : (Jvm.Cond.instanceMethod ({ cls := "BinderPressModel", name := "lay", desc := "(I)I" } : Jvm.MethodName)) ∈ lw_all := lw_g (lw_at lw_m7 9 rfl) rfl
theorem q1533 : (Jvm.Cond.code ({ cls := "BinderPressModel", name := "lay", desc := "(I)I" } : Jvm.MethodName) prog_15_method_13_code (3 : Nat) (Option.some Jvm.ClassFile.FieldType.int)) ∈ lw_all := lw_g (lw_at lw_m7 10 rfl) rfl
theorem q1534 : (Jvm.Cond.methodLink "BinderPressModel" (115 : Nat) ({ cls := "BinderPressModel", name := "keepPast", desc := "()V" } : Jvm.MethodName)) ∈ lw_all := lw_g (lw_at lw_m7 11 rfl) rfl
theorem q1535 : (Jvm.Cond.privateMethod ({ cls := "BinderPressModel", name := "keepPast", desc := "()V" } : Jvm.MethodName)) ∈ lw_tbl := lw_at lw_m7 12 rfl
theorem q1536 : (Jvm.Cond.instanceMethod ({ cls := "BinderPressModel", name := "keepPast", desc := "()V" } : Jvm.MethodName)) ∈ lw_all := lw_g (lw_at lw_m7 13 rfl) rfl
theorem q1537 : (Jvm.Cond.code ({ cls := "BinderPressModel", name := "keepPast", desc := "()V" } : Jvm.MethodName) prog_15_method_12_code (2 : Nat) (Option.none : Option Jvm.ClassFile.FieldType)) ∈ lw_all := lw_g (lw_at lw_m7 14 rfl) rfl
theorem q1538 : (Jvm.Cond.methodLink "BinderPressModel" (110 : Nat) ({ cls := "BinderPressModel", name := "copyRow", desc := "(II)V" } : Jvm.MethodName)) ∈ lw_all := lw_g (lw_at lw_m7 15 rfl) rfl
theorem q1539 : (Jvm.Cond.privateMethod ({ cls := "BinderPressModel", name := "copyRow", desc := "(II)V" } : Jvm.MethodName)) ∈ lw_tbl := lw_at lw_m7 16 rfl
theorem q1540 : (Jvm.Cond.instanceMethod ({ cls := "BinderPressModel", name := "copyRow", desc := "(II)V" } : Jvm.MethodName)) ∈ lw_all := lw_g (lw_at lw_m7 17 rfl) rfl
theorem q1541 : (Jvm.Cond.code ({ cls := "BinderPressModel", name := "copyRow", desc := "(II)V" } : Jvm.MethodName) prog_15_method_10_code (4 : Nat) (Option.none : Option Jvm.ClassFile.FieldType)) ∈ lw_all := lw_g (lw_at lw_m7 18 rfl) rfl
theorem q1543 : (Jvm.Cond.instanceMethod ({ cls := "BinderPressModel", name := "fault", desc := "()I" } : Jvm.MethodName)) ∈ lw_all := lw_g (lw_at lw_m7 20 rfl) rfl
theorem q1544 : (Jvm.Cond.selects "BinderPressModel" ({ cls := "BinderPressModel", name := "fault", desc := "()I" } : Jvm.MethodName) ({ cls := "BinderPressModel", name := "fault", desc := "()I" } : Jvm.MethodName)) ∈ lw_all := lw_g (lw_at lw_m7 21 rfl) rfl
theorem q1545 : (Jvm.Cond.code ({ cls := "BinderPressModel", name := "fault", desc := "()I" } : Jvm.MethodName) prog_15_method_23_code (1 : Nat) (Option.some Jvm.ClassFile.FieldType.int)) ∈ lw_all := lw_g (lw_at lw_m7 22 rfl) rfl
theorem q1547 : (Jvm.Cond.instanceMethod ({ cls := "BinderPressModel", name := "compile", desc := "(I)I" } : Jvm.MethodName)) ∈ lw_all := lw_g (lw_at lw_m7 24 rfl) rfl
theorem q1548 : (Jvm.Cond.selects "BinderPressModel" ({ cls := "BinderPressModel", name := "compile", desc := "(I)I" } : Jvm.MethodName) ({ cls := "BinderPressModel", name := "compile", desc := "(I)I" } : Jvm.MethodName)) ∈ lw_all := lw_g (lw_at lw_m7 25 rfl) rfl
theorem q1549 : (Jvm.Cond.code ({ cls := "BinderPressModel", name := "compile", desc := "(I)I" } : Jvm.MethodName) prog_15_method_30_code (2 : Nat) (Option.some Jvm.ClassFile.FieldType.int)) ∈ lw_all := lw_g (lw_at lw_m7 26 rfl) rfl
theorem q1550 : (Jvm.Cond.methodLink "BinderPressModel" (100 : Nat) ({ cls := "BinderPressModel", name := "sizeOf", desc := "(I)I" } : Jvm.MethodName)) ∈ lw_all := lw_g (lw_at lw_m7 27 rfl) rfl
theorem q1551 : (Jvm.Cond.privateMethod ({ cls := "BinderPressModel", name := "sizeOf", desc := "(I)I" } : Jvm.MethodName)) ∈ lw_tbl := lw_at lw_m7 28 rfl
theorem q1552 : (Jvm.Cond.instanceMethod ({ cls := "BinderPressModel", name := "sizeOf", desc := "(I)I" } : Jvm.MethodName)) ∈ lw_all := lw_g (lw_at lw_m7 29 rfl) rfl
theorem q1553 : (Jvm.Cond.code ({ cls := "BinderPressModel", name := "sizeOf", desc := "(I)I" } : Jvm.MethodName) prog_15_method_6_code (2 : Nat) (Option.some Jvm.ClassFile.FieldType.int)) ∈ lw_all := lw_g (lw_at lw_m7 30 rfl) rfl
theorem q1554 : (Jvm.Cond.constant "BinderPressModel" (195 : Nat) (-1000000003 : Int32)) ∈ lw_all := lw_g (lw_at lw_m7 31 rfl) rfl
theorem q1555 : (Jvm.Cond.methodLink "BinderPressModel" (196 : Nat) ({ cls := "BinderPressModel", name := "take", desc := "(I)V" } : Jvm.MethodName)) ∈ lw_all := lw_g (lw_at lw_m7 32 rfl) rfl
theorem q1556 : (Jvm.Cond.privateMethod ({ cls := "BinderPressModel", name := "take", desc := "(I)V" } : Jvm.MethodName)) ∈ lw_tbl := lw_at lw_m7 33 rfl
theorem q1557 : (Jvm.Cond.instanceMethod ({ cls := "BinderPressModel", name := "take", desc := "(I)V" } : Jvm.MethodName)) ∈ lw_all := lw_g (lw_at lw_m7 34 rfl) rfl
theorem q1558 : (Jvm.Cond.code ({ cls := "BinderPressModel", name := "take", desc := "(I)V" } : Jvm.MethodName) prog_15_method_11_code (3 : Nat) (Option.none : Option Jvm.ClassFile.FieldType)) ∈ lw_all := lw_g (lw_at lw_m7 35 rfl) rfl
theorem q1559 : (Jvm.Cond.methodLink "BinderPressModel" (199 : Nat) ({ cls := "BinderPressModel", name := "compiles", desc := "()V" } : Jvm.MethodName)) ∈ lw_all := lw_g (lw_at lw_m7 36 rfl) rfl
theorem q1560 : (Jvm.Cond.privateMethod ({ cls := "BinderPressModel", name := "compiles", desc := "()V" } : Jvm.MethodName)) ∈ lw_tbl := lw_at lw_m7 37 rfl
theorem q1561 : (Jvm.Cond.instanceMethod ({ cls := "BinderPressModel", name := "compiles", desc := "()V" } : Jvm.MethodName)) ∈ lw_all := lw_g (lw_at lw_m7 38 rfl) rfl
theorem q1562 : (Jvm.Cond.code ({ cls := "BinderPressModel", name := "compiles", desc := "()V" } : Jvm.MethodName) prog_15_method_29_code (4 : Nat) (Option.none : Option Jvm.ClassFile.FieldType)) ∈ lw_all := lw_g (lw_at lw_m7 39 rfl) rfl
theorem q1563 : (Jvm.Cond.methodLink "BinderPressModel" (186 : Nat) ({ cls := "BinderPressModel", name := "lastBinder", desc := "()I" } : Jvm.MethodName)) ∈ lw_all := lw_g (lw_at lw_m7 40 rfl) rfl
theorem q1564 : (Jvm.Cond.privateMethod ({ cls := "BinderPressModel", name := "lastBinder", desc := "()I" } : Jvm.MethodName)) ∈ lw_tbl := lw_at lw_m7 41 rfl
theorem q1565 : (Jvm.Cond.instanceMethod ({ cls := "BinderPressModel", name := "lastBinder", desc := "()I" } : Jvm.MethodName)) ∈ lw_all := lw_g (lw_at lw_m7 42 rfl) rfl
theorem q1566 : (Jvm.Cond.code ({ cls := "BinderPressModel", name := "lastBinder", desc := "()I" } : Jvm.MethodName) prog_15_method_28_code (2 : Nat) (Option.some Jvm.ClassFile.FieldType.int)) ∈ lw_all := lw_g (lw_at lw_m7 43 rfl) rfl
theorem q1567 : (Jvm.Cond.methodLink "BinderPressModel" (162 : Nat) ({ cls := "BinderPressModel", name := "isBinder", desc := "(I)Z" } : Jvm.MethodName)) ∈ lw_all := lw_g (lw_at lw_m7 44 rfl) rfl
theorem q1568 : (Jvm.Cond.static ({ cls := "BinderPressModel", name := "isBinder", desc := "(I)Z" } : Jvm.MethodName)) ∈ lw_all := lw_g (lw_at lw_m7 45 rfl) rfl
theorem q1569 : (Jvm.Cond.code ({ cls := "BinderPressModel", name := "isBinder", desc := "(I)Z" } : Jvm.MethodName) prog_15_method_4_code (1 : Nat) (Option.some Jvm.ClassFile.FieldType.boolean)) ∈ lw_all := lw_g (lw_at lw_m7 46 rfl) rfl
theorem q1570 : (Jvm.Cond.methodLink "BinderPressModel" (165 : Nat) ({ cls := "BinderPressModel", name := "behind", desc := "(I)I" } : Jvm.MethodName)) ∈ lw_all := lw_g (lw_at lw_m7 47 rfl) rfl
theorem q1571 : (Jvm.Cond.privateMethod ({ cls := "BinderPressModel", name := "behind", desc := "(I)I" } : Jvm.MethodName)) ∈ lw_tbl := lw_at lw_m7 48 rfl
theorem q1572 : (Jvm.Cond.instanceMethod ({ cls := "BinderPressModel", name := "behind", desc := "(I)I" } : Jvm.MethodName)) ∈ lw_all := lw_g (lw_at lw_m7 49 rfl) rfl
theorem q1573 : (Jvm.Cond.code ({ cls := "BinderPressModel", name := "behind", desc := "(I)I" } : Jvm.MethodName) prog_15_method_24_code (4 : Nat) (Option.some Jvm.ClassFile.FieldType.int)) ∈ lw_all := lw_g (lw_at lw_m7 50 rfl) rfl
theorem q1574 : (Jvm.Cond.methodLink "BinderPressModel" (168 : Nat) ({ cls := "BinderPressModel", name := "make", desc := "(I)V" } : Jvm.MethodName)) ∈ lw_all := lw_g (lw_at lw_m7 51 rfl) rfl
theorem q1575 : (Jvm.Cond.privateMethod ({ cls := "BinderPressModel", name := "make", desc := "(I)V" } : Jvm.MethodName)) ∈ lw_tbl := lw_at lw_m7 52 rfl
theorem q1576 : (Jvm.Cond.instanceMethod ({ cls := "BinderPressModel", name := "make", desc := "(I)V" } : Jvm.MethodName)) ∈ lw_all := lw_g (lw_at lw_m7 53 rfl) rfl
theorem q1577 : (Jvm.Cond.code ({ cls := "BinderPressModel", name := "make", desc := "(I)V" } : Jvm.MethodName) prog_15_method_9_code (2 : Nat) (Option.none : Option Jvm.ClassFile.FieldType)) ∈ lw_all := lw_g (lw_at lw_m7 54 rfl) rfl
theorem q1578 : (Jvm.Cond.methodLink "BinderPressModel" (189 : Nat) ({ cls := "BinderPressModel", name := "takesOut", desc := "(II)V" } : Jvm.MethodName)) ∈ lw_all := lw_g (lw_at lw_m7 55 rfl) rfl
theorem q1579 : (Jvm.Cond.privateMethod ({ cls := "BinderPressModel", name := "takesOut", desc := "(II)V" } : Jvm.MethodName)) ∈ lw_tbl := lw_at lw_m7 56 rfl
theorem q1580 : (Jvm.Cond.instanceMethod ({ cls := "BinderPressModel", name := "takesOut", desc := "(II)V" } : Jvm.MethodName)) ∈ lw_all := lw_g (lw_at lw_m7 57 rfl) rfl
theorem q1581 : (Jvm.Cond.code ({ cls := "BinderPressModel", name := "takesOut", desc := "(II)V" } : Jvm.MethodName) prog_15_method_27_code (9 : Nat) (Option.none : Option Jvm.ClassFile.FieldType)) ∈ lw_all := lw_g (lw_at lw_m7 58 rfl) rfl
theorem q1582 : (Jvm.Cond.methodLink "BinderPressModel" (172 : Nat) ({ cls := "BinderPressModel", name := "push", desc := "(I)V" } : Jvm.MethodName)) ∈ lw_all := lw_g (lw_at lw_m7 59 rfl) rfl
theorem q1583 : (Jvm.Cond.privateMethod ({ cls := "BinderPressModel", name := "push", desc := "(I)V" } : Jvm.MethodName)) ∈ lw_tbl := lw_at lw_m7 60 rfl
theorem q1584 : (Jvm.Cond.instanceMethod ({ cls := "BinderPressModel", name := "push", desc := "(I)V" } : Jvm.MethodName)) ∈ lw_all := lw_g (lw_at lw_m7 61 rfl) rfl
theorem q1585 : (Jvm.Cond.code ({ cls := "BinderPressModel", name := "push", desc := "(I)V" } : Jvm.MethodName) prog_15_method_7_code (2 : Nat) (Option.none : Option Jvm.ClassFile.FieldType)) ∈ lw_all := lw_g (lw_at lw_m7 62 rfl) rfl
theorem q1586 : (Jvm.Cond.methodLink "BinderPressModel" (175 : Nat) ({ cls := "BinderPressModel", name := "pop", desc := "()I" } : Jvm.MethodName)) ∈ lw_all := lw_g (lw_at lw_m7 63 rfl) rfl
theorem q1587 : (Jvm.Cond.privateMethod ({ cls := "BinderPressModel", name := "pop", desc := "()I" } : Jvm.MethodName)) ∈ lw_tbl := lw_at lw_m7 64 rfl
theorem q1588 : (Jvm.Cond.instanceMethod ({ cls := "BinderPressModel", name := "pop", desc := "()I" } : Jvm.MethodName)) ∈ lw_all := lw_g (lw_at lw_m7 65 rfl) rfl
theorem q1589 : (Jvm.Cond.code ({ cls := "BinderPressModel", name := "pop", desc := "()I" } : Jvm.MethodName) prog_15_method_8_code (1 : Nat) (Option.some Jvm.ClassFile.FieldType.int)) ∈ lw_all := lw_g (lw_at lw_m7 66 rfl) rfl
theorem q1590 : (Jvm.Cond.methodLink "BinderPressModel" (179 : Nat) ({ cls := "BinderPressModel", name := "copyTerm", desc := "(I)V" } : Jvm.MethodName)) ∈ lw_all := lw_g (lw_at lw_m7 67 rfl) rfl
theorem q1591 : (Jvm.Cond.privateMethod ({ cls := "BinderPressModel", name := "copyTerm", desc := "(I)V" } : Jvm.MethodName)) ∈ lw_tbl := lw_at lw_m7 68 rfl
theorem q1592 : (Jvm.Cond.instanceMethod ({ cls := "BinderPressModel", name := "copyTerm", desc := "(I)V" } : Jvm.MethodName)) ∈ lw_all := lw_g (lw_at lw_m7 69 rfl) rfl
theorem q1593 : (Jvm.Cond.code ({ cls := "BinderPressModel", name := "copyTerm", desc := "(I)V" } : Jvm.MethodName) prog_15_method_26_code (4 : Nat) (Option.none : Option Jvm.ClassFile.FieldType)) ∈ lw_all := lw_g (lw_at lw_m7 70 rfl) rfl
theorem q1594 : (Jvm.Cond.methodLink "BinderPressModel" (182 : Nat) ({ cls := "BinderPressModel", name := "isFree", desc := "(II)Z" } : Jvm.MethodName)) ∈ lw_all := lw_g (lw_at lw_m7 71 rfl) rfl
theorem q1595 : (Jvm.Cond.privateMethod ({ cls := "BinderPressModel", name := "isFree", desc := "(II)Z" } : Jvm.MethodName)) ∈ lw_tbl := lw_at lw_m7 72 rfl
theorem q1596 : (Jvm.Cond.instanceMethod ({ cls := "BinderPressModel", name := "isFree", desc := "(II)Z" } : Jvm.MethodName)) ∈ lw_all := lw_g (lw_at lw_m7 73 rfl) rfl
theorem q1597 : (Jvm.Cond.code ({ cls := "BinderPressModel", name := "isFree", desc := "(II)Z" } : Jvm.MethodName) prog_15_method_25_code (5 : Nat) (Option.some Jvm.ClassFile.FieldType.boolean)) ∈ lw_all := lw_g (lw_at lw_m7 74 rfl) rfl
theorem q1598 : (Jvm.Cond.methodLink "BinderPressModel" (192 : Nat) ({ cls := "BinderPressModel", name := "takeMade", desc := "()V" } : Jvm.MethodName)) ∈ lw_all := lw_g (lw_at lw_m7 75 rfl) rfl
theorem q1599 : (Jvm.Cond.privateMethod ({ cls := "BinderPressModel", name := "takeMade", desc := "()V" } : Jvm.MethodName)) ∈ lw_tbl := lw_at lw_m7 76 rfl
theorem q1600 : (Jvm.Cond.instanceMethod ({ cls := "BinderPressModel", name := "takeMade", desc := "()V" } : Jvm.MethodName)) ∈ lw_all := lw_g (lw_at lw_m7 77 rfl) rfl
theorem q1601 : (Jvm.Cond.code ({ cls := "BinderPressModel", name := "takeMade", desc := "()V" } : Jvm.MethodName) prog_15_method_14_code (2 : Nat) (Option.none : Option Jvm.ClassFile.FieldType)) ∈ lw_all := lw_g (lw_at lw_m7 78 rfl) rfl
theorem q1603 : (Jvm.Cond.instanceMethod ({ cls := "BinderPressModel", name := "takeOut", desc := "(II)I" } : Jvm.MethodName)) ∈ lw_all := lw_g (lw_at lw_m7 80 rfl) rfl
theorem q1604 : (Jvm.Cond.selects "BinderPressModel" ({ cls := "BinderPressModel", name := "takeOut", desc := "(II)I" } : Jvm.MethodName) ({ cls := "BinderPressModel", name := "takeOut", desc := "(II)I" } : Jvm.MethodName)) ∈ lw_all := lw_g (lw_at lw_m7 81 rfl) rfl
theorem q1605 : (Jvm.Cond.code ({ cls := "BinderPressModel", name := "takeOut", desc := "(II)I" } : Jvm.MethodName) prog_15_method_31_code (3 : Nat) (Option.some Jvm.ClassFile.FieldType.int)) ∈ lw_all := lw_g (lw_at lw_m7 82 rfl) rfl
theorem q1607 : (Jvm.Cond.instanceMethod ({ cls := "BinderPressModel", name := "put", desc := "(III)I" } : Jvm.MethodName)) ∈ lw_all := lw_g (lw_at lw_m7 84 rfl) rfl
theorem q1608 : (Jvm.Cond.selects "BinderPressModel" ({ cls := "BinderPressModel", name := "put", desc := "(III)I" } : Jvm.MethodName) ({ cls := "BinderPressModel", name := "put", desc := "(III)I" } : Jvm.MethodName)) ∈ lw_all := lw_g (lw_at lw_m7 85 rfl) rfl
theorem q1609 : (Jvm.Cond.code ({ cls := "BinderPressModel", name := "put", desc := "(III)I" } : Jvm.MethodName) prog_15_method_33_code (4 : Nat) (Option.some Jvm.ClassFile.FieldType.int)) ∈ lw_all := lw_g (lw_at lw_m7 86 rfl) rfl
theorem q1610 : (Jvm.Cond.methodLink "BinderPressModel" (202 : Nat) ({ cls := "BinderPressModel", name := "copyShelf", desc := "(I)V" } : Jvm.MethodName)) ∈ lw_all := lw_g (lw_at lw_m7 87 rfl) rfl
theorem q1611 : (Jvm.Cond.privateMethod ({ cls := "BinderPressModel", name := "copyShelf", desc := "(I)V" } : Jvm.MethodName)) ∈ lw_tbl := lw_at lw_m7 88 rfl
theorem q1612 : (Jvm.Cond.instanceMethod ({ cls := "BinderPressModel", name := "copyShelf", desc := "(I)V" } : Jvm.MethodName)) ∈ lw_all := lw_g (lw_at lw_m7 89 rfl) rfl
theorem q1613 : (Jvm.Cond.code ({ cls := "BinderPressModel", name := "copyShelf", desc := "(I)V" } : Jvm.MethodName) prog_15_method_32_code (3 : Nat) (Option.none : Option Jvm.ClassFile.FieldType)) ∈ lw_all := lw_g (lw_at lw_m7 90 rfl) rfl
theorem q1615 : (Jvm.Cond.instanceMethod ({ cls := "BinderPressModel", name := "putIn", desc := "(III)I" } : Jvm.MethodName)) ∈ lw_all := lw_g (lw_at lw_m7 92 rfl) rfl
theorem q1616 : (Jvm.Cond.selects "BinderPressModel" ({ cls := "BinderPressModel", name := "putIn", desc := "(III)I" } : Jvm.MethodName) ({ cls := "BinderPressModel", name := "putIn", desc := "(III)I" } : Jvm.MethodName)) ∈ lw_all := lw_g (lw_at lw_m7 93 rfl) rfl
theorem q1617 : (Jvm.Cond.code ({ cls := "BinderPressModel", name := "putIn", desc := "(III)I" } : Jvm.MethodName) prog_15_method_36_code (5 : Nat) (Option.some Jvm.ClassFile.FieldType.int)) ∈ lw_all := lw_g (lw_at lw_m7 94 rfl) rfl
theorem q1618 : (Jvm.Cond.methodLink "BinderPressModel" (208 : Nat) ({ cls := "BinderPressModel", name := "isPlain", desc := "(I)Z" } : Jvm.MethodName)) ∈ lw_all := lw_g (lw_at lw_m7 95 rfl) rfl
theorem q1619 : (Jvm.Cond.privateMethod ({ cls := "BinderPressModel", name := "isPlain", desc := "(I)Z" } : Jvm.MethodName)) ∈ lw_tbl := lw_at lw_m7 96 rfl
theorem q1620 : (Jvm.Cond.instanceMethod ({ cls := "BinderPressModel", name := "isPlain", desc := "(I)Z" } : Jvm.MethodName)) ∈ lw_all := lw_g (lw_at lw_m7 97 rfl) rfl
theorem q1621 : (Jvm.Cond.code ({ cls := "BinderPressModel", name := "isPlain", desc := "(I)Z" } : Jvm.MethodName) prog_15_method_35_code (2 : Nat) (Option.some Jvm.ClassFile.FieldType.boolean)) ∈ lw_all := lw_g (lw_at lw_m7 98 rfl) rfl
theorem q1622 : (Jvm.Cond.methodLink "BinderPressModel" (205 : Nat) ({ cls := "BinderPressModel", name := "hasBinders", desc := "(I)Z" } : Jvm.MethodName)) ∈ lw_all := lw_g (lw_at lw_m7 99 rfl) rfl
theorem q1623 : (Jvm.Cond.privateMethod ({ cls := "BinderPressModel", name := "hasBinders", desc := "(I)Z" } : Jvm.MethodName)) ∈ lw_tbl := lw_at lw_m7 100 rfl
theorem q1624 : (Jvm.Cond.instanceMethod ({ cls := "BinderPressModel", name := "hasBinders", desc := "(I)Z" } : Jvm.MethodName)) ∈ lw_all := lw_g (lw_at lw_m7 101 rfl) rfl
theorem q1625 : (Jvm.Cond.code ({ cls := "BinderPressModel", name := "hasBinders", desc := "(I)Z" } : Jvm.MethodName) prog_15_method_34_code (4 : Nat) (Option.some Jvm.ClassFile.FieldType.boolean)) ∈ lw_all := lw_g (lw_at lw_m7 102 rfl) rfl
theorem q1627 : (Jvm.Cond.instanceMethod ({ cls := "BinderPressModel", name := "drop", desc := "(I)I" } : Jvm.MethodName)) ∈ lw_all := lw_g (lw_at lw_m7 104 rfl) rfl
theorem q1628 : (Jvm.Cond.selects "BinderPressModel" ({ cls := "BinderPressModel", name := "drop", desc := "(I)I" } : Jvm.MethodName) ({ cls := "BinderPressModel", name := "drop", desc := "(I)I" } : Jvm.MethodName)) ∈ lw_all := lw_g (lw_at lw_m7 105 rfl) rfl
theorem q1629 : (Jvm.Cond.code ({ cls := "BinderPressModel", name := "drop", desc := "(I)I" } : Jvm.MethodName) prog_15_method_37_code (3 : Nat) (Option.some Jvm.ClassFile.FieldType.int)) ∈ lw_all := lw_g (lw_at lw_m7 106 rfl) rfl
theorem q1631 : (Jvm.Cond.instanceMethod ({ cls := "BinderPressModel", name := "drift", desc := "(III)I" } : Jvm.MethodName)) ∈ lw_all := lw_g (lw_at lw_m7 108 rfl) rfl
theorem q1632 : (Jvm.Cond.selects "BinderPressModel" ({ cls := "BinderPressModel", name := "drift", desc := "(III)I" } : Jvm.MethodName) ({ cls := "BinderPressModel", name := "drift", desc := "(III)I" } : Jvm.MethodName)) ∈ lw_all := lw_g (lw_at lw_m7 109 rfl) rfl
theorem q1633 : (Jvm.Cond.code ({ cls := "BinderPressModel", name := "drift", desc := "(III)I" } : Jvm.MethodName) prog_15_method_38_code (8 : Nat) (Option.some Jvm.ClassFile.FieldType.int)) ∈ lw_all := lw_g (lw_at lw_m7 110 rfl) rfl
theorem q1634 : (Jvm.Cond.constantLong "BinderPressModel" (211 : Nat) (40 : Int64)) ∈ lw_all := lw_g (lw_at lw_m7 111 rfl) rfl
theorem q1635 : (Jvm.Cond.constantLong "BinderPressModel" (213 : Nat) (999999 : Int64)) ∈ lw_all := lw_g (lw_at lw_m7 112 rfl) rfl
theorem q1636 : (Jvm.Cond.constantLong "BinderPressModel" (215 : Nat) (16807 : Int64)) ∈ lw_all := lw_g (lw_at lw_m7 113 rfl) rfl
theorem q1637 : (Jvm.Cond.constantLong "BinderPressModel" (217 : Nat) (2147483647 : Int64)) ∈ lw_all := lw_g (lw_at lw_m7 114 rfl) rfl
theorem q1638 : (Jvm.Cond.constantLong "BinderPressModel" (219 : Nat) (5 : Int64)) ∈ lw_all := lw_g (lw_at lw_m7 115 rfl) rfl
theorem q1639 : (Jvm.Cond.constantLong "BinderPressModel" (221 : Nat) (2 : Int64)) ∈ lw_all := lw_g (lw_at lw_m7 116 rfl) rfl
theorem q1641 : (Jvm.Cond.instanceMethod ({ cls := "BinderPressModel", name := "undo", desc := "()I" } : Jvm.MethodName)) ∈ lw_all := lw_g (lw_at lw_m7 118 rfl) rfl
theorem q1642 : (Jvm.Cond.selects "BinderPressModel" ({ cls := "BinderPressModel", name := "undo", desc := "()I" } : Jvm.MethodName) ({ cls := "BinderPressModel", name := "undo", desc := "()I" } : Jvm.MethodName)) ∈ lw_all := lw_g (lw_at lw_m7 119 rfl) rfl
theorem q1643 : (Jvm.Cond.code ({ cls := "BinderPressModel", name := "undo", desc := "()I" } : Jvm.MethodName) prog_15_method_39_code (1 : Nat) (Option.some Jvm.ClassFile.FieldType.int)) ∈ lw_all := lw_g (lw_at lw_m7 120 rfl) rfl
theorem q1645 : (Jvm.Cond.instanceMethod ({ cls := "BinderPressModel", name := "work", desc := "(III)I" } : Jvm.MethodName)) ∈ lw_all := lw_g (lw_at lw_m7 122 rfl) rfl
theorem q1646 : (Jvm.Cond.selects "BinderPressModel" ({ cls := "BinderPressModel", name := "work", desc := "(III)I" } : Jvm.MethodName) ({ cls := "BinderPressModel", name := "work", desc := "(III)I" } : Jvm.MethodName)) ∈ lw_all := lw_g (lw_at lw_m7 123 rfl) rfl
theorem q1647 : (Jvm.Cond.code ({ cls := "BinderPressModel", name := "work", desc := "(III)I" } : Jvm.MethodName) prog_15_method_53_code (5 : Nat) (Option.some Jvm.ClassFile.FieldType.int)) ∈ lw_all := lw_g (lw_at lw_m7 124 rfl) rfl
theorem q1648 : (Jvm.Cond.constantLong "BinderPressModel" (274 : Nat) (200 : Int64)) ∈ lw_all := lw_g (lw_at lw_m7 125 rfl) rfl
theorem q1649 : (Jvm.Cond.methodLink "BinderPressModel" (276 : Nat) ({ cls := "BinderPressModel", name := "works", desc := "(II)I" } : Jvm.MethodName)) ∈ lw_all := lw_g (lw_at lw_m7 126 rfl) rfl
theorem q1650 : (Jvm.Cond.privateMethod ({ cls := "BinderPressModel", name := "works", desc := "(II)I" } : Jvm.MethodName)) ∈ lw_tbl := lw_at lw_m7 127 rfl
theorem q1651 : (Jvm.Cond.instanceMethod ({ cls := "BinderPressModel", name := "works", desc := "(II)I" } : Jvm.MethodName)) ∈ lw_all := lw_g (lw_at lw_m7 128 rfl) rfl
theorem q1652 : (Jvm.Cond.code ({ cls := "BinderPressModel", name := "works", desc := "(II)I" } : Jvm.MethodName) prog_15_method_52_code (3 : Nat) (Option.some Jvm.ClassFile.FieldType.int)) ∈ lw_all := lw_g (lw_at lw_m7 129 rfl) rfl
theorem q1653 : (Jvm.Cond.methodLink "BinderPressModel" (268 : Nat) ({ cls := "BinderPressModel", name := "worksPlainly", desc := "(I)I" } : Jvm.MethodName)) ∈ lw_all := lw_g (lw_at lw_m7 130 rfl) rfl
theorem q1654 : (Jvm.Cond.privateMethod ({ cls := "BinderPressModel", name := "worksPlainly", desc := "(I)I" } : Jvm.MethodName)) ∈ lw_tbl := lw_at lw_m7 131 rfl
theorem q1655 : (Jvm.Cond.instanceMethod ({ cls := "BinderPressModel", name := "worksPlainly", desc := "(I)I" } : Jvm.MethodName)) ∈ lw_all := lw_g (lw_at lw_m7 132 rfl) rfl
theorem q1656 : (Jvm.Cond.code ({ cls := "BinderPressModel", name := "worksPlainly", desc := "(I)I" } : Jvm.MethodName) prog_15_method_43_code (3 : Nat) (Option.some Jvm.ClassFile.FieldType.int)) ∈ lw_all := lw_g (lw_at lw_m7 133 rfl) rfl
theorem q1657 : (Jvm.Cond.methodLink "BinderPressModel" (233 : Nat) ({ cls := "BinderPressModel", name := "finds", desc := "()Z" } : Jvm.MethodName)) ∈ lw_all := lw_g (lw_at lw_m7 134 rfl) rfl
theorem q1658 : (Jvm.Cond.privateMethod ({ cls := "BinderPressModel", name := "finds", desc := "()Z" } : Jvm.MethodName)) ∈ lw_tbl := lw_at lw_m7 135 rfl
theorem q1659 : (Jvm.Cond.instanceMethod ({ cls := "BinderPressModel", name := "finds", desc := "()Z" } : Jvm.MethodName)) ∈ lw_all := lw_g (lw_at lw_m7 136 rfl) rfl
theorem q1660 : (Jvm.Cond.code ({ cls := "BinderPressModel", name := "finds", desc := "()Z" } : Jvm.MethodName) prog_15_method_41_code (8 : Nat) (Option.some Jvm.ClassFile.FieldType.boolean)) ∈ lw_all := lw_g (lw_at lw_m7 137 rfl) rfl
theorem q1661 : (Jvm.Cond.methodLink "BinderPressModel" (223 : Nat) ({ cls := "BinderPressModel", name := "wants", desc := "(I)I" } : Jvm.MethodName)) ∈ lw_all := lw_g (lw_at lw_m7 138 rfl) rfl
theorem q1662 : (Jvm.Cond.static ({ cls := "BinderPressModel", name := "wants", desc := "(I)I" } : Jvm.MethodName)) ∈ lw_all := lw_g (lw_at lw_m7 139 rfl) rfl
theorem q1663 : (Jvm.Cond.code ({ cls := "BinderPressModel", name := "wants", desc := "(I)I" } : Jvm.MethodName) prog_15_method_40_code (1 : Nat) (Option.some Jvm.ClassFile.FieldType.int)) ∈ lw_all := lw_g (lw_at lw_m7 140 rfl) rfl
theorem q1664 : (Jvm.Cond.methodLink "BinderPressModel" (239 : Nat) ({ cls := "BinderPressModel", name := "does", desc := "()V" } : Jvm.MethodName)) ∈ lw_all := lw_g (lw_at lw_m7 141 rfl) rfl
theorem q1665 : (Jvm.Cond.privateMethod ({ cls := "BinderPressModel", name := "does", desc := "()V" } : Jvm.MethodName)) ∈ lw_tbl := lw_at lw_m7 142 rfl
theorem q1666 : (Jvm.Cond.instanceMethod ({ cls := "BinderPressModel", name := "does", desc := "()V" } : Jvm.MethodName)) ∈ lw_all := lw_g (lw_at lw_m7 143 rfl) rfl
theorem q1667 : (Jvm.Cond.code ({ cls := "BinderPressModel", name := "does", desc := "()V" } : Jvm.MethodName) prog_15_method_42_code (4 : Nat) (Option.none : Option Jvm.ClassFile.FieldType)) ∈ lw_all := lw_g (lw_at lw_m7 144 rfl) rfl
theorem q1668 : (Jvm.Cond.methodLink "BinderPressModel" (271 : Nat) ({ cls := "BinderPressModel", name := "worksShared", desc := "(I)I" } : Jvm.MethodName)) ∈ lw_all := lw_g (lw_at lw_m7 145 rfl) rfl
theorem q1669 : (Jvm.Cond.privateMethod ({ cls := "BinderPressModel", name := "worksShared", desc := "(I)I" } : Jvm.MethodName)) ∈ lw_tbl := lw_at lw_m7 146 rfl
theorem q1670 : (Jvm.Cond.instanceMethod ({ cls := "BinderPressModel", name := "worksShared", desc := "(I)I" } : Jvm.MethodName)) ∈ lw_all := lw_g (lw_at lw_m7 147 rfl) rfl
theorem q1671 : (Jvm.Cond.code ({ cls := "BinderPressModel", name := "worksShared", desc := "(I)I" } : Jvm.MethodName) prog_15_method_51_code (4 : Nat) (Option.some Jvm.ClassFile.FieldType.int)) ∈ lw_all := lw_g (lw_at lw_m7 148 rfl) rfl
theorem q1672 : (Jvm.Cond.methodLink "BinderPressModel" (256 : Nat) ({ cls := "BinderPressModel", name := "layThings", desc := "()I" } : Jvm.MethodName)) ∈ lw_all := lw_g (lw_at lw_m7 149 rfl) rfl
theorem q1673 : (Jvm.Cond.privateMethod ({ cls := "BinderPressModel", name := "layThings", desc := "()I" } : Jvm.MethodName)) ∈ lw_tbl := lw_at lw_m7 150 rfl
theorem q1674 : (Jvm.Cond.instanceMethod ({ cls := "BinderPressModel", name := "layThings", desc := "()I" } : Jvm.MethodName)) ∈ lw_all := lw_g (lw_at lw_m7 151 rfl) rfl
theorem q1675 : (Jvm.Cond.code ({ cls := "BinderPressModel", name := "layThings", desc := "()I" } : Jvm.MethodName) prog_15_method_46_code (4 : Nat) (Option.some Jvm.ClassFile.FieldType.int)) ∈ lw_all := lw_g (lw_at lw_m7 152 rfl) rfl
theorem q1676 : (Jvm.Cond.methodLink "BinderPressModel" (245 : Nat) ({ cls := "BinderPressModel", name := "thing", desc := "(III)I" } : Jvm.MethodName)) ∈ lw_all := lw_g (lw_at lw_m7 153 rfl) rfl
theorem q1677 : (Jvm.Cond.privateMethod ({ cls := "BinderPressModel", name := "thing", desc := "(III)I" } : Jvm.MethodName)) ∈ lw_tbl := lw_at lw_m7 154 rfl
theorem q1678 : (Jvm.Cond.instanceMethod ({ cls := "BinderPressModel", name := "thing", desc := "(III)I" } : Jvm.MethodName)) ∈ lw_all := lw_g (lw_at lw_m7 155 rfl) rfl
theorem q1679 : (Jvm.Cond.code ({ cls := "BinderPressModel", name := "thing", desc := "(III)I" } : Jvm.MethodName) prog_15_method_44_code (4 : Nat) (Option.some Jvm.ClassFile.FieldType.int)) ∈ lw_all := lw_g (lw_at lw_m7 156 rfl) rfl
theorem q1680 : (Jvm.Cond.methodLink "BinderPressModel" (259 : Nat) ({ cls := "BinderPressModel", name := "hasStep", desc := "(I)Z" } : Jvm.MethodName)) ∈ lw_all := lw_g (lw_at lw_m7 157 rfl) rfl
theorem q1681 : (Jvm.Cond.privateMethod ({ cls := "BinderPressModel", name := "hasStep", desc := "(I)Z" } : Jvm.MethodName)) ∈ lw_tbl := lw_at lw_m7 158 rfl
theorem q1682 : (Jvm.Cond.instanceMethod ({ cls := "BinderPressModel", name := "hasStep", desc := "(I)Z" } : Jvm.MethodName)) ∈ lw_all := lw_g (lw_at lw_m7 159 rfl) rfl
theorem q1683 : (Jvm.Cond.code ({ cls := "BinderPressModel", name := "hasStep", desc := "(I)Z" } : Jvm.MethodName) prog_15_method_50_code (5 : Nat) (Option.some Jvm.ClassFile.FieldType.boolean)) ∈ lw_all := lw_g (lw_at lw_m7 160 rfl) rfl
theorem q1684 : (Jvm.Cond.methodLink "BinderPressModel" (249 : Nat) ({ cls := "BinderPressModel", name := "real", desc := "(I)I" } : Jvm.MethodName)) ∈ lw_all := lw_g (lw_at lw_m7 161 rfl) rfl
theorem q1685 : (Jvm.Cond.privateMethod ({ cls := "BinderPressModel", name := "real", desc := "(I)I" } : Jvm.MethodName)) ∈ lw_tbl := lw_at lw_m7 162 rfl
theorem q1686 : (Jvm.Cond.instanceMethod ({ cls := "BinderPressModel", name := "real", desc := "(I)I" } : Jvm.MethodName)) ∈ lw_all := lw_g (lw_at lw_m7 163 rfl) rfl
theorem q1687 : (Jvm.Cond.code ({ cls := "BinderPressModel", name := "real", desc := "(I)I" } : Jvm.MethodName) prog_15_method_45_code (3 : Nat) (Option.some Jvm.ClassFile.FieldType.int)) ∈ lw_all := lw_g (lw_at lw_m7 164 rfl) rfl
theorem q1688 : (Jvm.Cond.methodLink "BinderPressModel" (262 : Nat) ({ cls := "BinderPressModel", name := "doesShared", desc := "(I)Z" } : Jvm.MethodName)) ∈ lw_all := lw_g (lw_at lw_m7 165 rfl) rfl
theorem q1689 : (Jvm.Cond.privateMethod ({ cls := "BinderPressModel", name := "doesShared", desc := "(I)Z" } : Jvm.MethodName)) ∈ lw_tbl := lw_at lw_m7 166 rfl
theorem q1690 : (Jvm.Cond.instanceMethod ({ cls := "BinderPressModel", name := "doesShared", desc := "(I)Z" } : Jvm.MethodName)) ∈ lw_all := lw_g (lw_at lw_m7 167 rfl) rfl
theorem q1691 : (Jvm.Cond.code ({ cls := "BinderPressModel", name := "doesShared", desc := "(I)Z" } : Jvm.MethodName) prog_15_method_48_code (6 : Nat) (Option.some Jvm.ClassFile.FieldType.boolean)) ∈ lw_all := lw_g (lw_at lw_m7 168 rfl) rfl
theorem q1692 : (Jvm.Cond.methodLink "BinderPressModel" (252 : Nat) ({ cls := "BinderPressModel", name := "changes", desc := "(III)V" } : Jvm.MethodName)) ∈ lw_all := lw_g (lw_at lw_m7 169 rfl) rfl
theorem q1693 : (Jvm.Cond.privateMethod ({ cls := "BinderPressModel", name := "changes", desc := "(III)V" } : Jvm.MethodName)) ∈ lw_tbl := lw_at lw_m7 170 rfl
theorem q1694 : (Jvm.Cond.instanceMethod ({ cls := "BinderPressModel", name := "changes", desc := "(III)V" } : Jvm.MethodName)) ∈ lw_all := lw_g (lw_at lw_m7 171 rfl) rfl
theorem q1695 : (Jvm.Cond.code ({ cls := "BinderPressModel", name := "changes", desc := "(III)V" } : Jvm.MethodName) prog_15_method_49_code (7 : Nat) (Option.none : Option Jvm.ClassFile.FieldType)) ∈ lw_all := lw_g (lw_at lw_m7 172 rfl) rfl
theorem q1696 : (Jvm.Cond.methodLink "BinderPressModel" (265 : Nat) ({ cls := "BinderPressModel", name := "writeOut", desc := "(I)V" } : Jvm.MethodName)) ∈ lw_all := lw_g (lw_at lw_m7 173 rfl) rfl
theorem q1697 : (Jvm.Cond.privateMethod ({ cls := "BinderPressModel", name := "writeOut", desc := "(I)V" } : Jvm.MethodName)) ∈ lw_tbl := lw_at lw_m7 174 rfl
theorem q1698 : (Jvm.Cond.instanceMethod ({ cls := "BinderPressModel", name := "writeOut", desc := "(I)V" } : Jvm.MethodName)) ∈ lw_all := lw_g (lw_at lw_m7 175 rfl) rfl
theorem q1699 : (Jvm.Cond.code ({ cls := "BinderPressModel", name := "writeOut", desc := "(I)V" } : Jvm.MethodName) prog_15_method_47_code (3 : Nat) (Option.none : Option Jvm.ClassFile.FieldType)) ∈ lw_all := lw_g (lw_at lw_m7 176 rfl) rfl
theorem q1701 : (Jvm.Cond.instanceMethod ({ cls := "BinderPressModel", name := "steps", desc := "(II)I" } : Jvm.MethodName)) ∈ lw_all := lw_g (lw_at lw_m7 178 rfl) rfl
theorem q1702 : (Jvm.Cond.selects "BinderPressModel" ({ cls := "BinderPressModel", name := "steps", desc := "(II)I" } : Jvm.MethodName) ({ cls := "BinderPressModel", name := "steps", desc := "(II)I" } : Jvm.MethodName)) ∈ lw_all := lw_g (lw_at lw_m7 179 rfl) rfl
theorem q1703 : (Jvm.Cond.code ({ cls := "BinderPressModel", name := "steps", desc := "(II)I" } : Jvm.MethodName) prog_15_method_54_code (4 : Nat) (Option.some Jvm.ClassFile.FieldType.int)) ∈ lw_all := lw_g (lw_at lw_m7 180 rfl) rfl
theorem q1705 : (Jvm.Cond.instanceMethod ({ cls := "BinderPressModel", name := "told", desc := "(I)I" } : Jvm.MethodName)) ∈ lw_all := lw_g (lw_at lw_m7 182 rfl) rfl
theorem q1706 : (Jvm.Cond.selects "BinderPressModel" ({ cls := "BinderPressModel", name := "told", desc := "(I)I" } : Jvm.MethodName) ({ cls := "BinderPressModel", name := "told", desc := "(I)I" } : Jvm.MethodName)) ∈ lw_all := lw_g (lw_at lw_m7 183 rfl) rfl
theorem q1707 : (Jvm.Cond.code ({ cls := "BinderPressModel", name := "told", desc := "(I)I" } : Jvm.MethodName) prog_15_method_69_code (4 : Nat) (Option.some Jvm.ClassFile.FieldType.int)) ∈ lw_all := lw_g (lw_at lw_m7 184 rfl) rfl
theorem q1709 : (Jvm.Cond.instanceMethod ({ cls := "BinderPressModel", name := "of", desc := "(II)I" } : Jvm.MethodName)) ∈ lw_all := lw_g (lw_at lw_m7 186 rfl) rfl
theorem q1710 : (Jvm.Cond.selects "BinderPressModel" ({ cls := "BinderPressModel", name := "of", desc := "(II)I" } : Jvm.MethodName) ({ cls := "BinderPressModel", name := "of", desc := "(II)I" } : Jvm.MethodName)) ∈ lw_all := lw_g (lw_at lw_m7 187 rfl) rfl
theorem q1711 : (Jvm.Cond.code ({ cls := "BinderPressModel", name := "of", desc := "(II)I" } : Jvm.MethodName) prog_15_method_73_code (3 : Nat) (Option.some Jvm.ClassFile.FieldType.int)) ∈ lw_all := lw_g (lw_at lw_m7 188 rfl) rfl
theorem q1712 : (Jvm.Cond.constantLong "BinderPressModel" (323 : Nat) (11 : Int64)) ∈ lw_all := lw_g (lw_at lw_m7 189 rfl) rfl
theorem q1713 : (Jvm.Cond.methodLink "BinderPressModel" (325 : Nat) ({ cls := "BinderPressModel", name := "freeNames", desc := "()I" } : Jvm.MethodName)) ∈ lw_all := lw_g (lw_at lw_m7 190 rfl) rfl
theorem q1714 : (Jvm.Cond.privateMethod ({ cls := "BinderPressModel", name := "freeNames", desc := "()I" } : Jvm.MethodName)) ∈ lw_tbl := lw_at lw_m7 191 rfl
theorem q1715 : (Jvm.Cond.instanceMethod ({ cls := "BinderPressModel", name := "freeNames", desc := "()I" } : Jvm.MethodName)) ∈ lw_all := lw_g (lw_at lw_m7 192 rfl) rfl
theorem q1716 : (Jvm.Cond.code ({ cls := "BinderPressModel", name := "freeNames", desc := "()I" } : Jvm.MethodName) prog_15_method_70_code (3 : Nat) (Option.some Jvm.ClassFile.FieldType.int)) ∈ lw_all := lw_g (lw_at lw_m7 193 rfl) rfl
theorem q1717 : (Jvm.Cond.methodLink "BinderPressModel" (328 : Nat) ({ cls := "BinderPressModel", name := "howMany", desc := "(II)I" } : Jvm.MethodName)) ∈ lw_all := lw_g (lw_at lw_m7 194 rfl) rfl
theorem q1718 : (Jvm.Cond.privateMethod ({ cls := "BinderPressModel", name := "howMany", desc := "(II)I" } : Jvm.MethodName)) ∈ lw_tbl := lw_at lw_m7 195 rfl
theorem q1719 : (Jvm.Cond.instanceMethod ({ cls := "BinderPressModel", name := "howMany", desc := "(II)I" } : Jvm.MethodName)) ∈ lw_all := lw_g (lw_at lw_m7 196 rfl) rfl
theorem q1720 : (Jvm.Cond.code ({ cls := "BinderPressModel", name := "howMany", desc := "(II)I" } : Jvm.MethodName) prog_15_method_71_code (5 : Nat) (Option.some Jvm.ClassFile.FieldType.int)) ∈ lw_all := lw_g (lw_at lw_m7 197 rfl) rfl
theorem q1721 : (Jvm.Cond.methodLink "BinderPressModel" (331 : Nat) ({ cls := "BinderPressModel", name := "writeTerm", desc := "(I)V" } : Jvm.MethodName)) ∈ lw_all := lw_g (lw_at lw_m7 198 rfl) rfl
theorem q1722 : (Jvm.Cond.privateMethod ({ cls := "BinderPressModel", name := "writeTerm", desc := "(I)V" } : Jvm.MethodName)) ∈ lw_tbl := lw_at lw_m7 199 rfl
theorem q1723 : (Jvm.Cond.instanceMethod ({ cls := "BinderPressModel", name := "writeTerm", desc := "(I)V" } : Jvm.MethodName)) ∈ lw_all := lw_g (lw_at lw_m7 200 rfl) rfl
theorem q1724 : (Jvm.Cond.code ({ cls := "BinderPressModel", name := "writeTerm", desc := "(I)V" } : Jvm.MethodName) prog_15_method_65_code (3 : Nat) (Option.none : Option Jvm.ClassFile.FieldType)) ∈ lw_all := lw_g (lw_at lw_m7 201 rfl) rfl
theorem q1725 : (Jvm.Cond.methodLink "BinderPressModel" (310 : Nat) ({ cls := "BinderPressModel", name := "write", desc := "(I)V" } : Jvm.MethodName)) ∈ lw_all := lw_g (lw_at lw_m7 202 rfl) rfl
theorem q1726 : (Jvm.Cond.privateMethod ({ cls := "BinderPressModel", name := "write", desc := "(I)V" } : Jvm.MethodName)) ∈ lw_tbl := lw_at lw_m7 203 rfl
theorem q1727 : (Jvm.Cond.instanceMethod ({ cls := "BinderPressModel", name := "write", desc := "(I)V" } : Jvm.MethodName)) ∈ lw_all := lw_g (lw_at lw_m7 204 rfl) rfl
theorem q1728 : (Jvm.Cond.code ({ cls := "BinderPressModel", name := "write", desc := "(I)V" } : Jvm.MethodName) prog_15_method_63_code (2 : Nat) (Option.none : Option Jvm.ClassFile.FieldType)) ∈ lw_all := lw_g (lw_at lw_m7 205 rfl) rfl
theorem q1729 : (Jvm.Cond.methodLink "BinderPressModel" (313 : Nat) ({ cls := "BinderPressModel", name := "writePut", desc := "(I)V" } : Jvm.MethodName)) ∈ lw_all := lw_g (lw_at lw_m7 206 rfl) rfl
theorem q1730 : (Jvm.Cond.privateMethod ({ cls := "BinderPressModel", name := "writePut", desc := "(I)V" } : Jvm.MethodName)) ∈ lw_tbl := lw_at lw_m7 207 rfl
theorem q1731 : (Jvm.Cond.instanceMethod ({ cls := "BinderPressModel", name := "writePut", desc := "(I)V" } : Jvm.MethodName)) ∈ lw_all := lw_g (lw_at lw_m7 208 rfl) rfl
theorem q1732 : (Jvm.Cond.code ({ cls := "BinderPressModel", name := "writePut", desc := "(I)V" } : Jvm.MethodName) prog_15_method_68_code (3 : Nat) (Option.none : Option Jvm.ClassFile.FieldType)) ∈ lw_all := lw_g (lw_at lw_m7 209 rfl) rfl
theorem q1733 : (Jvm.Cond.methodLink "BinderPressModel" (319 : Nat) ({ cls := "BinderPressModel", name := "pushIn", desc := "(IZ)V" } : Jvm.MethodName)) ∈ lw_all := lw_g (lw_at lw_m7 210 rfl) rfl
theorem q1734 : (Jvm.Cond.privateMethod ({ cls := "BinderPressModel", name := "pushIn", desc := "(IZ)V" } : Jvm.MethodName)) ∈ lw_tbl := lw_at lw_m7 211 rfl
theorem q1735 : (Jvm.Cond.instanceMethod ({ cls := "BinderPressModel", name := "pushIn", desc := "(IZ)V" } : Jvm.MethodName)) ∈ lw_all := lw_g (lw_at lw_m7 212 rfl) rfl
theorem q1736 : (Jvm.Cond.code ({ cls := "BinderPressModel", name := "pushIn", desc := "(IZ)V" } : Jvm.MethodName) prog_15_method_67_code (3 : Nat) (Option.none : Option Jvm.ClassFile.FieldType)) ∈ lw_all := lw_g (lw_at lw_m7 213 rfl) rfl
theorem q1737 : (Jvm.Cond.methodLink "BinderPressModel" (316 : Nat) ({ cls := "BinderPressModel", name := "letterOfSign", desc := "(I)I" } : Jvm.MethodName)) ∈ lw_all := lw_g (lw_at lw_m7 214 rfl) rfl
theorem q1738 : (Jvm.Cond.static ({ cls := "BinderPressModel", name := "letterOfSign", desc := "(I)I" } : Jvm.MethodName)) ∈ lw_all := lw_g (lw_at lw_m7 215 rfl) rfl
theorem q1739 : (Jvm.Cond.code ({ cls := "BinderPressModel", name := "letterOfSign", desc := "(I)I" } : Jvm.MethodName) prog_15_method_66_code (1 : Nat) (Option.some Jvm.ClassFile.FieldType.int)) ∈ lw_all := lw_g (lw_at lw_m7 216 rfl) rfl
theorem q1740 : (Jvm.Cond.methodLink "BinderPressModel" (334 : Nat) ({ cls := "BinderPressModel", name := "deepest", desc := "()I" } : Jvm.MethodName)) ∈ lw_all := lw_g (lw_at lw_m7 217 rfl) rfl
theorem q1741 : (Jvm.Cond.privateMethod ({ cls := "BinderPressModel", name := "deepest", desc := "()I" } : Jvm.MethodName)) ∈ lw_tbl := lw_at lw_m7 218 rfl
theorem q1742 : (Jvm.Cond.instanceMethod ({ cls := "BinderPressModel", name := "deepest", desc := "()I" } : Jvm.MethodName)) ∈ lw_all := lw_g (lw_at lw_m7 219 rfl) rfl
theorem q1743 : (Jvm.Cond.code ({ cls := "BinderPressModel", name := "deepest", desc := "()I" } : Jvm.MethodName) prog_15_method_72_code (4 : Nat) (Option.some Jvm.ClassFile.FieldType.int)) ∈ lw_all := lw_g (lw_at lw_m7 220 rfl) rfl
theorem q1744 : (Jvm.Cond.methodLink "BinderPressModel" (307 : Nat) ({ cls := "BinderPressModel", name := "kindOf", desc := "(I)I" } : Jvm.MethodName)) ∈ lw_all := lw_g (lw_at lw_m7 221 rfl) rfl
theorem q1745 : (Jvm.Cond.privateMethod ({ cls := "BinderPressModel", name := "kindOf", desc := "(I)I" } : Jvm.MethodName)) ∈ lw_tbl := lw_at lw_m7 222 rfl
theorem q1746 : (Jvm.Cond.instanceMethod ({ cls := "BinderPressModel", name := "kindOf", desc := "(I)I" } : Jvm.MethodName)) ∈ lw_all := lw_g (lw_at lw_m7 223 rfl) rfl
theorem q1747 : (Jvm.Cond.code ({ cls := "BinderPressModel", name := "kindOf", desc := "(I)I" } : Jvm.MethodName) prog_15_method_62_code (6 : Nat) (Option.some Jvm.ClassFile.FieldType.int)) ∈ lw_all := lw_g (lw_at lw_m7 224 rfl) rfl
theorem q1748 : (Jvm.Cond.methodLink "BinderPressModel" (286 : Nat) ({ cls := "BinderPressModel", name := "unknown", desc := "()I" } : Jvm.MethodName)) ∈ lw_all := lw_g (lw_at lw_m7 225 rfl) rfl
theorem q1749 : (Jvm.Cond.privateMethod ({ cls := "BinderPressModel", name := "unknown", desc := "()I" } : Jvm.MethodName)) ∈ lw_tbl := lw_at lw_m7 226 rfl
theorem q1750 : (Jvm.Cond.instanceMethod ({ cls := "BinderPressModel", name := "unknown", desc := "()I" } : Jvm.MethodName)) ∈ lw_all := lw_g (lw_at lw_m7 227 rfl) rfl
theorem q1751 : (Jvm.Cond.code ({ cls := "BinderPressModel", name := "unknown", desc := "()I" } : Jvm.MethodName) prog_15_method_56_code (1 : Nat) (Option.some Jvm.ClassFile.FieldType.int)) ∈ lw_all := lw_g (lw_at lw_m7 228 rfl) rfl
theorem q1752 : (Jvm.Cond.methodLink "BinderPressModel" (283 : Nat) ({ cls := "BinderPressModel", name := "kind2", desc := "(II)I" } : Jvm.MethodName)) ∈ lw_all := lw_g (lw_at lw_m7 229 rfl) rfl
theorem q1753 : (Jvm.Cond.privateMethod ({ cls := "BinderPressModel", name := "kind2", desc := "(II)I" } : Jvm.MethodName)) ∈ lw_tbl := lw_at lw_m7 230 rfl
theorem q1754 : (Jvm.Cond.instanceMethod ({ cls := "BinderPressModel", name := "kind2", desc := "(II)I" } : Jvm.MethodName)) ∈ lw_all := lw_g (lw_at lw_m7 231 rfl) rfl
theorem q1755 : (Jvm.Cond.code ({ cls := "BinderPressModel", name := "kind2", desc := "(II)I" } : Jvm.MethodName) prog_15_method_55_code (3 : Nat) (Option.some Jvm.ClassFile.FieldType.int)) ∈ lw_all := lw_g (lw_at lw_m7 232 rfl) rfl
theorem q1756 : (Jvm.Cond.methodLink "BinderPressModel" (292 : Nat) ({ cls := "BinderPressModel", name := "meet", desc := "(II)V" } : Jvm.MethodName)) ∈ lw_all := lw_g (lw_at lw_m7 233 rfl) rfl
theorem q1757 : (Jvm.Cond.privateMethod ({ cls := "BinderPressModel", name := "meet", desc := "(II)V" } : Jvm.MethodName)) ∈ lw_tbl := lw_at lw_m7 234 rfl
theorem q1758 : (Jvm.Cond.instanceMethod ({ cls := "BinderPressModel", name := "meet", desc := "(II)V" } : Jvm.MethodName)) ∈ lw_all := lw_g (lw_at lw_m7 235 rfl) rfl
theorem q1759 : (Jvm.Cond.code ({ cls := "BinderPressModel", name := "meet", desc := "(II)V" } : Jvm.MethodName) prog_15_method_60_code (7 : Nat) (Option.none : Option Jvm.ClassFile.FieldType)) ∈ lw_all := lw_g (lw_at lw_m7 236 rfl) rfl
theorem q1760 : (Jvm.Cond.methodLink "BinderPressModel" (289 : Nat) ({ cls := "BinderPressModel", name := "realKind", desc := "(I)I" } : Jvm.MethodName)) ∈ lw_all := lw_g (lw_at lw_m7 237 rfl) rfl
theorem q1761 : (Jvm.Cond.privateMethod ({ cls := "BinderPressModel", name := "realKind", desc := "(I)I" } : Jvm.MethodName)) ∈ lw_tbl := lw_at lw_m7 238 rfl
theorem q1762 : (Jvm.Cond.instanceMethod ({ cls := "BinderPressModel", name := "realKind", desc := "(I)I" } : Jvm.MethodName)) ∈ lw_all := lw_g (lw_at lw_m7 239 rfl) rfl
theorem q1763 : (Jvm.Cond.code ({ cls := "BinderPressModel", name := "realKind", desc := "(I)I" } : Jvm.MethodName) prog_15_method_57_code (3 : Nat) (Option.some Jvm.ClassFile.FieldType.int)) ∈ lw_all := lw_g (lw_at lw_m8 0 rfl) rfl
theorem q1764 : (Jvm.Cond.methodLink "BinderPressModel" (295 : Nat) ({ cls := "BinderPressModel", name := "kindOfName", desc := "(I)I" } : Jvm.MethodName)) ∈ lw_all := lw_g (lw_at lw_m8 1 rfl) rfl
theorem q1765 : (Jvm.Cond.privateMethod ({ cls := "BinderPressModel", name := "kindOfName", desc := "(I)I" } : Jvm.MethodName)) ∈ lw_tbl := lw_at lw_m8 2 rfl
theorem q1766 : (Jvm.Cond.instanceMethod ({ cls := "BinderPressModel", name := "kindOfName", desc := "(I)I" } : Jvm.MethodName)) ∈ lw_all := lw_g (lw_at lw_m8 3 rfl) rfl
theorem q1767 : (Jvm.Cond.code ({ cls := "BinderPressModel", name := "kindOfName", desc := "(I)I" } : Jvm.MethodName) prog_15_method_59_code (4 : Nat) (Option.some Jvm.ClassFile.FieldType.int)) ∈ lw_all := lw_g (lw_at lw_m8 4 rfl) rfl
theorem q1768 : (Jvm.Cond.methodLink "BinderPressModel" (298 : Nat) ({ cls := "BinderPressModel", name := "kindOfSign", desc := "(I)I" } : Jvm.MethodName)) ∈ lw_all := lw_g (lw_at lw_m8 5 rfl) rfl
theorem q1769 : (Jvm.Cond.privateMethod ({ cls := "BinderPressModel", name := "kindOfSign", desc := "(I)I" } : Jvm.MethodName)) ∈ lw_tbl := lw_at lw_m8 6 rfl
theorem q1770 : (Jvm.Cond.instanceMethod ({ cls := "BinderPressModel", name := "kindOfSign", desc := "(I)I" } : Jvm.MethodName)) ∈ lw_all := lw_g (lw_at lw_m8 7 rfl) rfl
theorem q1771 : (Jvm.Cond.code ({ cls := "BinderPressModel", name := "kindOfSign", desc := "(I)I" } : Jvm.MethodName) prog_15_method_58_code (7 : Nat) (Option.some Jvm.ClassFile.FieldType.int)) ∈ lw_all := lw_g (lw_at lw_m8 8 rfl) rfl
theorem q1772 : (Jvm.Cond.methodLink "BinderPressModel" (301 : Nat) ({ cls := "BinderPressModel", name := "areSound", desc := "()Z" } : Jvm.MethodName)) ∈ lw_all := lw_g (lw_at lw_m8 9 rfl) rfl
theorem q1773 : (Jvm.Cond.privateMethod ({ cls := "BinderPressModel", name := "areSound", desc := "()Z" } : Jvm.MethodName)) ∈ lw_tbl := lw_at lw_m8 10 rfl
theorem q1774 : (Jvm.Cond.instanceMethod ({ cls := "BinderPressModel", name := "areSound", desc := "()Z" } : Jvm.MethodName)) ∈ lw_all := lw_g (lw_at lw_m8 11 rfl) rfl
theorem q1775 : (Jvm.Cond.code ({ cls := "BinderPressModel", name := "areSound", desc := "()Z" } : Jvm.MethodName) prog_15_method_61_code (5 : Nat) (Option.some Jvm.ClassFile.FieldType.boolean)) ∈ lw_all := lw_g (lw_at lw_m8 12 rfl) rfl
theorem q1776 : (Jvm.Cond.methodLink "BinderPressModel" (337 : Nat) ({ cls := "BinderPressModel", name := "writeKind", desc := "(I)I" } : Jvm.MethodName)) ∈ lw_all := lw_g (lw_at lw_m8 13 rfl) rfl
theorem q1777 : (Jvm.Cond.privateMethod ({ cls := "BinderPressModel", name := "writeKind", desc := "(I)I" } : Jvm.MethodName)) ∈ lw_tbl := lw_at lw_m8 14 rfl
theorem q1778 : (Jvm.Cond.instanceMethod ({ cls := "BinderPressModel", name := "writeKind", desc := "(I)I" } : Jvm.MethodName)) ∈ lw_all := lw_g (lw_at lw_m8 15 rfl) rfl
theorem q1779 : (Jvm.Cond.code ({ cls := "BinderPressModel", name := "writeKind", desc := "(I)I" } : Jvm.MethodName) prog_15_method_64_code (6 : Nat) (Option.some Jvm.ClassFile.FieldType.int)) ∈ lw_all := lw_g (lw_at lw_m8 16 rfl) rfl
theorem q1781 : (Jvm.Cond.instanceMethod ({ cls := "BinderPressModel", name := "sign", desc := "(II)I" } : Jvm.MethodName)) ∈ lw_all := lw_g (lw_at lw_m8 18 rfl) rfl
theorem q1782 : (Jvm.Cond.selects "BinderPressModel" ({ cls := "BinderPressModel", name := "sign", desc := "(II)I" } : Jvm.MethodName) ({ cls := "BinderPressModel", name := "sign", desc := "(II)I" } : Jvm.MethodName)) ∈ lw_all := lw_g (lw_at lw_m8 19 rfl) rfl
theorem q1783 : (Jvm.Cond.code ({ cls := "BinderPressModel", name := "sign", desc := "(II)I" } : Jvm.MethodName) prog_15_method_74_code (3 : Nat) (Option.some Jvm.ClassFile.FieldType.int)) ∈ lw_all := lw_g (lw_at lw_m8 20 rfl) rfl
theorem q1785 : (Jvm.Cond.instanceMethod ({ cls := "BinderPressModel", name := "kind", desc := "(II)I" } : Jvm.MethodName)) ∈ lw_all := lw_g (lw_at lw_m8 22 rfl) rfl
theorem q1786 : (Jvm.Cond.selects "BinderPressModel" ({ cls := "BinderPressModel", name := "kind", desc := "(II)I" } : Jvm.MethodName) ({ cls := "BinderPressModel", name := "kind", desc := "(II)I" } : Jvm.MethodName)) ∈ lw_all := lw_g (lw_at lw_m8 23 rfl) rfl
theorem q1787 : (Jvm.Cond.code ({ cls := "BinderPressModel", name := "kind", desc := "(II)I" } : Jvm.MethodName) prog_15_method_75_code (4 : Nat) (Option.some Jvm.ClassFile.FieldType.int)) ∈ lw_all := lw_g (lw_at lw_m8 24 rfl) rfl
theorem q1789 : (Jvm.Cond.instanceMethod ({ cls := "BinderPressModel", name := "same", desc := "(II)I" } : Jvm.MethodName)) ∈ lw_all := lw_g (lw_at lw_m8 26 rfl) rfl
theorem q1790 : (Jvm.Cond.selects "BinderPressModel" ({ cls := "BinderPressModel", name := "same", desc := "(II)I" } : Jvm.MethodName) ({ cls := "BinderPressModel", name := "same", desc := "(II)I" } : Jvm.MethodName)) ∈ lw_all := lw_g (lw_at lw_m8 27 rfl) rfl
theorem q1791 : (Jvm.Cond.code ({ cls := "BinderPressModel", name := "same", desc := "(II)I" } : Jvm.MethodName) prog_15_method_76_code (5 : Nat) (Option.some Jvm.ClassFile.FieldType.int)) ∈ lw_all := lw_g (lw_at lw_m8 28 rfl) rfl
theorem q1793 : (Jvm.Cond.instanceMethod ({ cls := "BinderPressModel", name := "sameKind", desc := "(II)I" } : Jvm.MethodName)) ∈ lw_all := lw_g (lw_at lw_m8 30 rfl) rfl
theorem q1794 : (Jvm.Cond.selects "BinderPressModel" ({ cls := "BinderPressModel", name := "sameKind", desc := "(II)I" } : Jvm.MethodName) ({ cls := "BinderPressModel", name := "sameKind", desc := "(II)I" } : Jvm.MethodName)) ∈ lw_all := lw_g (lw_at lw_m8 31 rfl) rfl
theorem q1795 : (Jvm.Cond.code ({ cls := "BinderPressModel", name := "sameKind", desc := "(II)I" } : Jvm.MethodName) prog_15_method_77_code (7 : Nat) (Option.some Jvm.ClassFile.FieldType.int)) ∈ lw_all := lw_g (lw_at lw_m8 32 rfl) rfl
theorem q1797 : (Jvm.Cond.instanceMethod ({ cls := "BinderPressModel", name := "keep", desc := "(I)I" } : Jvm.MethodName)) ∈ lw_all := lw_g (lw_at lw_m8 34 rfl) rfl
theorem q1798 : (Jvm.Cond.selects "BinderPressModel" ({ cls := "BinderPressModel", name := "keep", desc := "(I)I" } : Jvm.MethodName) ({ cls := "BinderPressModel", name := "keep", desc := "(I)I" } : Jvm.MethodName)) ∈ lw_all := lw_g (lw_at lw_m8 35 rfl) rfl
theorem q1799 : (Jvm.Cond.code ({ cls := "BinderPressModel", name := "keep", desc := "(I)I" } : Jvm.MethodName) prog_15_method_78_code (2 : Nat) (Option.some Jvm.ClassFile.FieldType.int)) ∈ lw_all := lw_g (lw_at lw_m8 36 rfl) rfl
theorem q1801 : (Jvm.Cond.instanceMethod ({ cls := "BinderPressModel", name := "goBack", desc := "(I)I" } : Jvm.MethodName)) ∈ lw_all := lw_g (lw_at lw_m8 38 rfl) rfl
theorem q1802 : (Jvm.Cond.selects "BinderPressModel" ({ cls := "BinderPressModel", name := "goBack", desc := "(I)I" } : Jvm.MethodName) ({ cls := "BinderPressModel", name := "goBack", desc := "(I)I" } : Jvm.MethodName)) ∈ lw_all := lw_g (lw_at lw_m8 39 rfl) rfl
theorem q1803 : (Jvm.Cond.code ({ cls := "BinderPressModel", name := "goBack", desc := "(I)I" } : Jvm.MethodName) prog_15_method_79_code (2 : Nat) (Option.some Jvm.ClassFile.FieldType.int)) ∈ lw_all := lw_g (lw_at lw_m8 40 rfl) rfl
theorem in_X2 : ∀ w ∈ wsX20, w ∈ lw_all := lw_in wsX20 [1407, 1409, 1411, 1413, 1415, 1417, 1419, 1421, 1423, 1425, 1427, 1429, 1431, 1433, 1435, 1437, 1439, 1441, 1443, 1445, 1447, 1449, 1451, 1453, 1455, 1457, 1459, 1461, 1463, 1465, 1467, 1469, 1471, 1473, 1475, 1477, 1479] (by decide +kernel) (by decide +kernel)
