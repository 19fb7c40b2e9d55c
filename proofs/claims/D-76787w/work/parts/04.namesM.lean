/-! KeptLightModel -/
set_option maxRecDepth 100000
def RX9 : String := "KeptLightModel"
def TX9 : u_T := fun k => match k with
  | 0 => ("KeptLightModel", "g", "[I", true)
  | 1 => ("KeptLightModel", "was", "[I", true)
  | 2 => ("KeptLightModel", "kept", "[I", true)
  | 3 => ("KeptLightModel", "hasImage", "Z", false)
  | 4 => ("KeptLightModel", "refusals", "[I", true)
  | 5 => ("KeptLightModel", "wasDark", "Z", false)
  | 6 => ("KeptLightModel", "wasTended", "Z", false)
  | 7 => ("KeptLightModel", "boatCame", "Z", false)
  | 8 => ("KeptLightModel", "tape", "[I", true)
  | 9 => ("KeptLightModel", "taped", "I", false)
  | 10 => ("KeptLightModel", "place", "I", false)
  | 11 => ("KeptLightModel", "read", "[I", true)
  | 12 => ("KeptLightModel", "readMany", "I", false)
  | 13 => ("KeptLightModel", "darkAt", "[Z", true)
  | 14 => ("KeptLightModel", "tendedAt", "[Z", true)
  | 15 => ("KeptLightModel", "boatAt", "[Z", true)
  | 16 => ("KeptLightModel", "hadPlan", "[I", true)
  | 17 => ("KeptLightModel", "sorts", "[I", true)
  | 18 => ("KeptLightModel", "sizes", "[I", true)
  | 19 => ("KeptLightModel", "elements", "[J", true)
  | _ => ("KeptLightModel", "told", "[I", true)
def tyX9 : Nat → FieldType := fun k => match k with
  | 0 => .array .int
  | 1 => .array .int
  | 2 => .array .int
  | 3 => .boolean
  | 4 => .array .int
  | 5 => .boolean
  | 6 => .boolean
  | 7 => .boolean
  | 8 => .array .int
  | 9 => .int
  | 10 => .int
  | 11 => .array .int
  | 12 => .int
  | 13 => .array .boolean
  | 14 => .array .boolean
  | 15 => .array .boolean
  | 16 => .array .int
  | 17 => .array .int
  | 18 => .array .int
  | 19 => .array .long
  | _ => .array .int
abbrev wsX90 : List Cond := u_ws RX9 TX9 21
set_option maxRecDepth 100000 in
theorem nmX9 : ∀ a, a < 21 → ∀ b, b < 21 → a ≠ b → (TX9 a).2.1 ≠ (TX9 b).2.1 := by decide +kernel
set_option maxRecDepth 100000 in
theorem tyX9_ok : ∀ k, k < 21 → parseFieldDescriptor (TX9 k).2.2.1 = some (tyX9 k) := by decide +kernel
abbrev cX9_init : ByteArray := prog_34_method_1_code
def yX9_init : MethodName := ⟨RX9, "<init>", "()V"⟩
def dkwX9_init_12 : List UInt8 := [96, 2, 79, 132, 1, 1, 167, 255, 237, 177]
abbrev dktX9_init_12 : List UInt8 := dkwX9_init_12 ++ []
def dkwX9_init_11 : List UInt8 := [79, 42, 180, 0, 9, 16, 19, 4, 79, 3, 60, 27, 16, 24, 162, 0, 19, 42, 180, 0, 9, 16, 85, 27]
abbrev dktX9_init_11 : List UInt8 := dkwX9_init_11 ++ dktX9_init_12
def dkwX9_init_10 : List UInt8 := [42, 180, 0, 9, 6, 4, 79, 42, 180, 0, 9, 16, 8, 2, 79, 42, 180, 0, 9, 16, 9, 17, 0, 168]
abbrev dktX9_init_10 : List UInt8 := dkwX9_init_10 ++ dktX9_init_11
def dkwX9_init_9 : List UInt8 := [16, 11, 16, 18, 79, 181, 0, 51, 42, 180, 0, 9, 4, 16, 6, 79, 42, 180, 0, 9, 5, 16, 18, 79]
abbrev dktX9_init_9 : List UInt8 := dkwX9_init_9 ++ dktX9_init_10
def dkwX9_init_8 : List UInt8 := [16, 7, 16, 15, 79, 89, 16, 8, 16, 16, 79, 89, 16, 9, 16, 8, 79, 89, 16, 10, 16, 12, 79, 89]
abbrev dktX9_init_8 : List UInt8 := dkwX9_init_8 ++ dktX9_init_9
def dkwX9_init_7 : List UInt8 := [79, 89, 6, 16, 6, 79, 89, 7, 16, 7, 79, 89, 8, 16, 13, 79, 89, 16, 6, 16, 14, 79, 89]
abbrev dktX9_init_7 : List UInt8 := dkwX9_init_7 ++ dktX9_init_8
def dkwX9_init_6 : List UInt8 := [17, 1, 64, 188, 11, 181, 0, 47, 42, 16, 12, 188, 10, 89, 3, 3, 79, 89, 4, 7, 79, 89, 5, 8]
abbrev dktX9_init_6 : List UInt8 := dkwX9_init_6 ++ dktX9_init_7
def dkwX9_init_5 : List UInt8 := [2, 79, 89, 16, 6, 2, 79, 89, 16, 7, 2, 79, 181, 0, 41, 42, 16, 8, 188, 10, 181, 0, 44, 42]
abbrev dktX9_init_5 : List UInt8 := dkwX9_init_5 ++ dktX9_init_6
def dkwX9_init_4 : List UInt8 := [188, 10, 89, 3, 2, 79, 89, 4, 2, 79, 89, 5, 2, 79, 89, 6, 2, 79, 89, 7, 2, 79, 89, 8]
abbrev dktX9_init_4 : List UInt8 := dkwX9_init_4 ++ dktX9_init_5
def dkwX9_init_3 : List UInt8 := [181, 0, 32, 42, 17, 0, 200, 188, 4, 181, 0, 35, 42, 16, 24, 188, 10, 181, 0, 38, 42, 16, 8]
abbrev dktX9_init_3 : List UInt8 := dkwX9_init_3 ++ dktX9_init_4
def dkwX9_init_2 : List UInt8 := [42, 16, 40, 188, 10, 181, 0, 25, 42, 17, 0, 200, 188, 4, 181, 0, 28, 42, 17, 0, 200, 188, 4]
abbrev dktX9_init_2 : List UInt8 := dkwX9_init_2 ++ dktX9_init_3
def dkwX9_init_1 : List UInt8 := [17, 9, 205, 188, 10, 181, 0, 16, 42, 8, 188, 10, 181, 0, 19, 42, 17, 0, 250, 188, 10, 181, 0, 22]
abbrev dktX9_init_1 : List UInt8 := dkwX9_init_1 ++ dktX9_init_2
def dkwX9_init_0 : List UInt8 := [42, 183, 0, 1, 42, 17, 9, 205, 188, 10, 181, 0, 9, 42, 17, 9, 205, 188, 10, 181, 0, 13, 42]
abbrev dktX9_init_0 : List UInt8 := dkwX9_init_0 ++ dktX9_init_1
theorem dksX9_init_0 : cX9_init.data.toList.drop 0 = dktX9_init_0 := by decide +kernel
theorem dksX9_init_1 : cX9_init.data.toList.drop 23 = dktX9_init_1 := dk_seg dksX9_init_0 23 rfl rfl
theorem dksX9_init_2 : cX9_init.data.toList.drop 47 = dktX9_init_2 := dk_seg dksX9_init_1 24 rfl rfl
theorem dksX9_init_3 : cX9_init.data.toList.drop 70 = dktX9_init_3 := dk_seg dksX9_init_2 23 rfl rfl
theorem dksX9_init_4 : cX9_init.data.toList.drop 93 = dktX9_init_4 := dk_seg dksX9_init_3 23 rfl rfl
theorem dksX9_init_5 : cX9_init.data.toList.drop 117 = dktX9_init_5 := dk_seg dksX9_init_4 24 rfl rfl
theorem dksX9_init_6 : cX9_init.data.toList.drop 141 = dktX9_init_6 := dk_seg dksX9_init_5 24 rfl rfl
theorem dksX9_init_7 : cX9_init.data.toList.drop 165 = dktX9_init_7 := dk_seg dksX9_init_6 24 rfl rfl
theorem dksX9_init_8 : cX9_init.data.toList.drop 188 = dktX9_init_8 := dk_seg dksX9_init_7 23 rfl rfl
theorem dksX9_init_9 : cX9_init.data.toList.drop 212 = dktX9_init_9 := dk_seg dksX9_init_8 24 rfl rfl
theorem dksX9_init_10 : cX9_init.data.toList.drop 236 = dktX9_init_10 := dk_seg dksX9_init_9 24 rfl rfl
theorem dksX9_init_11 : cX9_init.data.toList.drop 260 = dktX9_init_11 := dk_seg dksX9_init_10 24 rfl rfl
theorem dksX9_init_12 : cX9_init.data.toList.drop 284 = dktX9_init_12 := dk_seg dksX9_init_11 24 rfl rfl
theorem dX9_init_0 : decode cX9_init 0 = .ok (.aload_n 0, 1) := dk_42 (dk_at dksX9_init_0 0 rfl rfl)
theorem dX9_init_1 : decode cX9_init 1 = .ok (.invokespecial 1, 3) := dk_183 0 1 (dk_at dksX9_init_0 1 rfl rfl)
theorem dX9_init_4 : decode cX9_init 4 = .ok (.aload_n 0, 1) := dk_42 (dk_at dksX9_init_0 4 rfl rfl)
theorem dX9_init_5 : decode cX9_init 5 = .ok (.sipush 2509, 3) := dk_17 9 205 (dk_at dksX9_init_0 5 rfl rfl)
theorem dX9_init_8 : decode cX9_init 8 = .ok (.newarray .int, 2) := dk_188_10 (dk_at dksX9_init_0 8 rfl rfl)
theorem dX9_init_10 : decode cX9_init 10 = .ok (.putfield 9, 3) := dk_181 0 9 (dk_at dksX9_init_0 10 rfl rfl)
theorem dX9_init_13 : decode cX9_init 13 = .ok (.aload_n 0, 1) := dk_42 (dk_at dksX9_init_0 13 rfl rfl)
theorem dX9_init_14 : decode cX9_init 14 = .ok (.sipush 2509, 3) := dk_17 9 205 (dk_at dksX9_init_0 14 rfl rfl)
theorem dX9_init_17 : decode cX9_init 17 = .ok (.newarray .int, 2) := dk_188_10 (dk_at dksX9_init_0 17 rfl rfl)
theorem dX9_init_19 : decode cX9_init 19 = .ok (.putfield 13, 3) := dk_181 0 13 (dk_at dksX9_init_0 19 rfl rfl)
theorem dX9_init_22 : decode cX9_init 22 = .ok (.aload_n 0, 1) := dk_42 (dk_at dksX9_init_0 22 rfl rfl)
theorem dX9_init_23 : decode cX9_init 23 = .ok (.sipush 2509, 3) := dk_17 9 205 (dk_at dksX9_init_1 0 rfl rfl)
theorem dX9_init_26 : decode cX9_init 26 = .ok (.newarray .int, 2) := dk_188_10 (dk_at dksX9_init_1 3 rfl rfl)
theorem dX9_init_28 : decode cX9_init 28 = .ok (.putfield 16, 3) := dk_181 0 16 (dk_at dksX9_init_1 5 rfl rfl)
theorem dX9_init_31 : decode cX9_init 31 = .ok (.aload_n 0, 1) := dk_42 (dk_at dksX9_init_1 8 rfl rfl)
theorem dX9_init_32 : decode cX9_init 32 = .ok (.iconst 5, 1) := dk_8 (dk_at dksX9_init_1 9 rfl rfl)
theorem dX9_init_33 : decode cX9_init 33 = .ok (.newarray .int, 2) := dk_188_10 (dk_at dksX9_init_1 10 rfl rfl)
theorem dX9_init_35 : decode cX9_init 35 = .ok (.putfield 19, 3) := dk_181 0 19 (dk_at dksX9_init_1 12 rfl rfl)
theorem dX9_init_38 : decode cX9_init 38 = .ok (.aload_n 0, 1) := dk_42 (dk_at dksX9_init_1 15 rfl rfl)
theorem dX9_init_39 : decode cX9_init 39 = .ok (.sipush 250, 3) := dk_17 0 250 (dk_at dksX9_init_1 16 rfl rfl)
theorem dX9_init_42 : decode cX9_init 42 = .ok (.newarray .int, 2) := dk_188_10 (dk_at dksX9_init_1 19 rfl rfl)
theorem dX9_init_44 : decode cX9_init 44 = .ok (.putfield 22, 3) := dk_181 0 22 (dk_at dksX9_init_1 21 rfl rfl)
theorem dX9_init_47 : decode cX9_init 47 = .ok (.aload_n 0, 1) := dk_42 (dk_at dksX9_init_2 0 rfl rfl)
theorem dX9_init_48 : decode cX9_init 48 = .ok (.bipush 40, 2) := dk_16 40 (dk_at dksX9_init_2 1 rfl rfl)
theorem dX9_init_50 : decode cX9_init 50 = .ok (.newarray .int, 2) := dk_188_10 (dk_at dksX9_init_2 3 rfl rfl)
theorem dX9_init_52 : decode cX9_init 52 = .ok (.putfield 25, 3) := dk_181 0 25 (dk_at dksX9_init_2 5 rfl rfl)
theorem dX9_init_55 : decode cX9_init 55 = .ok (.aload_n 0, 1) := dk_42 (dk_at dksX9_init_2 8 rfl rfl)
theorem dX9_init_56 : decode cX9_init 56 = .ok (.sipush 200, 3) := dk_17 0 200 (dk_at dksX9_init_2 9 rfl rfl)
theorem dX9_init_59 : decode cX9_init 59 = .ok (.newarray .boolean, 2) := dk_188_4 (dk_at dksX9_init_2 12 rfl rfl)
theorem dX9_init_61 : decode cX9_init 61 = .ok (.putfield 28, 3) := dk_181 0 28 (dk_at dksX9_init_2 14 rfl rfl)
theorem dX9_init_64 : decode cX9_init 64 = .ok (.aload_n 0, 1) := dk_42 (dk_at dksX9_init_2 17 rfl rfl)
theorem dX9_init_65 : decode cX9_init 65 = .ok (.sipush 200, 3) := dk_17 0 200 (dk_at dksX9_init_2 18 rfl rfl)
theorem dX9_init_68 : decode cX9_init 68 = .ok (.newarray .boolean, 2) := dk_188_4 (dk_at dksX9_init_2 21 rfl rfl)
theorem dX9_init_70 : decode cX9_init 70 = .ok (.putfield 32, 3) := dk_181 0 32 (dk_at dksX9_init_3 0 rfl rfl)
theorem dX9_init_73 : decode cX9_init 73 = .ok (.aload_n 0, 1) := dk_42 (dk_at dksX9_init_3 3 rfl rfl)
theorem dX9_init_74 : decode cX9_init 74 = .ok (.sipush 200, 3) := dk_17 0 200 (dk_at dksX9_init_3 4 rfl rfl)
theorem dX9_init_77 : decode cX9_init 77 = .ok (.newarray .boolean, 2) := dk_188_4 (dk_at dksX9_init_3 7 rfl rfl)
theorem dX9_init_79 : decode cX9_init 79 = .ok (.putfield 35, 3) := dk_181 0 35 (dk_at dksX9_init_3 9 rfl rfl)
theorem dX9_init_82 : decode cX9_init 82 = .ok (.aload_n 0, 1) := dk_42 (dk_at dksX9_init_3 12 rfl rfl)
theorem dX9_init_83 : decode cX9_init 83 = .ok (.bipush 24, 2) := dk_16 24 (dk_at dksX9_init_3 13 rfl rfl)
theorem dX9_init_85 : decode cX9_init 85 = .ok (.newarray .int, 2) := dk_188_10 (dk_at dksX9_init_3 15 rfl rfl)
theorem dX9_init_87 : decode cX9_init 87 = .ok (.putfield 38, 3) := dk_181 0 38 (dk_at dksX9_init_3 17 rfl rfl)
theorem dX9_init_90 : decode cX9_init 90 = .ok (.aload_n 0, 1) := dk_42 (dk_at dksX9_init_3 20 rfl rfl)
theorem dX9_init_91 : decode cX9_init 91 = .ok (.bipush 8, 2) := dk_16 8 (dk_at dksX9_init_3 21 rfl rfl)
theorem dX9_init_93 : decode cX9_init 93 = .ok (.newarray .int, 2) := dk_188_10 (dk_at dksX9_init_4 0 rfl rfl)
theorem dX9_init_95 : decode cX9_init 95 = .ok (.dup, 1) := dk_89 (dk_at dksX9_init_4 2 rfl rfl)
theorem dX9_init_96 : decode cX9_init 96 = .ok (.iconst 0, 1) := dk_3 (dk_at dksX9_init_4 3 rfl rfl)
theorem dX9_init_97 : decode cX9_init 97 = .ok (.iconst (-1), 1) := dk_2 (dk_at dksX9_init_4 4 rfl rfl)
theorem dX9_init_98 : decode cX9_init 98 = .ok (.iastore, 1) := dk_79 (dk_at dksX9_init_4 5 rfl rfl)
theorem dX9_init_99 : decode cX9_init 99 = .ok (.dup, 1) := dk_89 (dk_at dksX9_init_4 6 rfl rfl)
theorem dX9_init_100 : decode cX9_init 100 = .ok (.iconst 1, 1) := dk_4 (dk_at dksX9_init_4 7 rfl rfl)
theorem dX9_init_101 : decode cX9_init 101 = .ok (.iconst (-1), 1) := dk_2 (dk_at dksX9_init_4 8 rfl rfl)
theorem dX9_init_102 : decode cX9_init 102 = .ok (.iastore, 1) := dk_79 (dk_at dksX9_init_4 9 rfl rfl)
theorem dX9_init_103 : decode cX9_init 103 = .ok (.dup, 1) := dk_89 (dk_at dksX9_init_4 10 rfl rfl)
theorem dX9_init_104 : decode cX9_init 104 = .ok (.iconst 2, 1) := dk_5 (dk_at dksX9_init_4 11 rfl rfl)
theorem dX9_init_105 : decode cX9_init 105 = .ok (.iconst (-1), 1) := dk_2 (dk_at dksX9_init_4 12 rfl rfl)
theorem dX9_init_106 : decode cX9_init 106 = .ok (.iastore, 1) := dk_79 (dk_at dksX9_init_4 13 rfl rfl)
theorem dX9_init_107 : decode cX9_init 107 = .ok (.dup, 1) := dk_89 (dk_at dksX9_init_4 14 rfl rfl)
theorem dX9_init_108 : decode cX9_init 108 = .ok (.iconst 3, 1) := dk_6 (dk_at dksX9_init_4 15 rfl rfl)
theorem dX9_init_109 : decode cX9_init 109 = .ok (.iconst (-1), 1) := dk_2 (dk_at dksX9_init_4 16 rfl rfl)
theorem dX9_init_110 : decode cX9_init 110 = .ok (.iastore, 1) := dk_79 (dk_at dksX9_init_4 17 rfl rfl)
theorem dX9_init_111 : decode cX9_init 111 = .ok (.dup, 1) := dk_89 (dk_at dksX9_init_4 18 rfl rfl)
theorem dX9_init_112 : decode cX9_init 112 = .ok (.iconst 4, 1) := dk_7 (dk_at dksX9_init_4 19 rfl rfl)
theorem dX9_init_113 : decode cX9_init 113 = .ok (.iconst (-1), 1) := dk_2 (dk_at dksX9_init_4 20 rfl rfl)
theorem dX9_init_114 : decode cX9_init 114 = .ok (.iastore, 1) := dk_79 (dk_at dksX9_init_4 21 rfl rfl)
theorem dX9_init_115 : decode cX9_init 115 = .ok (.dup, 1) := dk_89 (dk_at dksX9_init_4 22 rfl rfl)
theorem dX9_init_116 : decode cX9_init 116 = .ok (.iconst 5, 1) := dk_8 (dk_at dksX9_init_4 23 rfl rfl)
theorem dX9_init_117 : decode cX9_init 117 = .ok (.iconst (-1), 1) := dk_2 (dk_at dksX9_init_5 0 rfl rfl)
theorem dX9_init_118 : decode cX9_init 118 = .ok (.iastore, 1) := dk_79 (dk_at dksX9_init_5 1 rfl rfl)
theorem dX9_init_119 : decode cX9_init 119 = .ok (.dup, 1) := dk_89 (dk_at dksX9_init_5 2 rfl rfl)
theorem dX9_init_120 : decode cX9_init 120 = .ok (.bipush 6, 2) := dk_16 6 (dk_at dksX9_init_5 3 rfl rfl)
theorem dX9_init_122 : decode cX9_init 122 = .ok (.iconst (-1), 1) := dk_2 (dk_at dksX9_init_5 5 rfl rfl)
theorem dX9_init_123 : decode cX9_init 123 = .ok (.iastore, 1) := dk_79 (dk_at dksX9_init_5 6 rfl rfl)
theorem dX9_init_124 : decode cX9_init 124 = .ok (.dup, 1) := dk_89 (dk_at dksX9_init_5 7 rfl rfl)
theorem dX9_init_125 : decode cX9_init 125 = .ok (.bipush 7, 2) := dk_16 7 (dk_at dksX9_init_5 8 rfl rfl)
theorem dX9_init_127 : decode cX9_init 127 = .ok (.iconst (-1), 1) := dk_2 (dk_at dksX9_init_5 10 rfl rfl)
theorem dX9_init_128 : decode cX9_init 128 = .ok (.iastore, 1) := dk_79 (dk_at dksX9_init_5 11 rfl rfl)
theorem dX9_init_129 : decode cX9_init 129 = .ok (.putfield 41, 3) := dk_181 0 41 (dk_at dksX9_init_5 12 rfl rfl)
theorem dX9_init_132 : decode cX9_init 132 = .ok (.aload_n 0, 1) := dk_42 (dk_at dksX9_init_5 15 rfl rfl)
theorem dX9_init_133 : decode cX9_init 133 = .ok (.bipush 8, 2) := dk_16 8 (dk_at dksX9_init_5 16 rfl rfl)
theorem dX9_init_135 : decode cX9_init 135 = .ok (.newarray .int, 2) := dk_188_10 (dk_at dksX9_init_5 18 rfl rfl)
theorem dX9_init_137 : decode cX9_init 137 = .ok (.putfield 44, 3) := dk_181 0 44 (dk_at dksX9_init_5 20 rfl rfl)
theorem dX9_init_140 : decode cX9_init 140 = .ok (.aload_n 0, 1) := dk_42 (dk_at dksX9_init_5 23 rfl rfl)
theorem dX9_init_141 : decode cX9_init 141 = .ok (.sipush 320, 3) := dk_17 1 64 (dk_at dksX9_init_6 0 rfl rfl)
theorem dX9_init_144 : decode cX9_init 144 = .ok (.newarray .long, 2) := dk_188_11 (dk_at dksX9_init_6 3 rfl rfl)
theorem dX9_init_146 : decode cX9_init 146 = .ok (.putfield 47, 3) := dk_181 0 47 (dk_at dksX9_init_6 5 rfl rfl)
theorem dX9_init_149 : decode cX9_init 149 = .ok (.aload_n 0, 1) := dk_42 (dk_at dksX9_init_6 8 rfl rfl)
theorem dX9_init_150 : decode cX9_init 150 = .ok (.bipush 12, 2) := dk_16 12 (dk_at dksX9_init_6 9 rfl rfl)
theorem dX9_init_152 : decode cX9_init 152 = .ok (.newarray .int, 2) := dk_188_10 (dk_at dksX9_init_6 11 rfl rfl)
theorem dX9_init_154 : decode cX9_init 154 = .ok (.dup, 1) := dk_89 (dk_at dksX9_init_6 13 rfl rfl)
theorem dX9_init_155 : decode cX9_init 155 = .ok (.iconst 0, 1) := dk_3 (dk_at dksX9_init_6 14 rfl rfl)
theorem dX9_init_156 : decode cX9_init 156 = .ok (.iconst 0, 1) := dk_3 (dk_at dksX9_init_6 15 rfl rfl)
theorem dX9_init_157 : decode cX9_init 157 = .ok (.iastore, 1) := dk_79 (dk_at dksX9_init_6 16 rfl rfl)
theorem dX9_init_158 : decode cX9_init 158 = .ok (.dup, 1) := dk_89 (dk_at dksX9_init_6 17 rfl rfl)
theorem dX9_init_159 : decode cX9_init 159 = .ok (.iconst 1, 1) := dk_4 (dk_at dksX9_init_6 18 rfl rfl)
theorem dX9_init_160 : decode cX9_init 160 = .ok (.iconst 4, 1) := dk_7 (dk_at dksX9_init_6 19 rfl rfl)
theorem dX9_init_161 : decode cX9_init 161 = .ok (.iastore, 1) := dk_79 (dk_at dksX9_init_6 20 rfl rfl)
theorem dX9_init_162 : decode cX9_init 162 = .ok (.dup, 1) := dk_89 (dk_at dksX9_init_6 21 rfl rfl)
theorem dX9_init_163 : decode cX9_init 163 = .ok (.iconst 2, 1) := dk_5 (dk_at dksX9_init_6 22 rfl rfl)
theorem dX9_init_164 : decode cX9_init 164 = .ok (.iconst 5, 1) := dk_8 (dk_at dksX9_init_6 23 rfl rfl)
theorem dX9_init_165 : decode cX9_init 165 = .ok (.iastore, 1) := dk_79 (dk_at dksX9_init_7 0 rfl rfl)
theorem dX9_init_166 : decode cX9_init 166 = .ok (.dup, 1) := dk_89 (dk_at dksX9_init_7 1 rfl rfl)
theorem dX9_init_167 : decode cX9_init 167 = .ok (.iconst 3, 1) := dk_6 (dk_at dksX9_init_7 2 rfl rfl)
theorem dX9_init_168 : decode cX9_init 168 = .ok (.bipush 6, 2) := dk_16 6 (dk_at dksX9_init_7 3 rfl rfl)
theorem dX9_init_170 : decode cX9_init 170 = .ok (.iastore, 1) := dk_79 (dk_at dksX9_init_7 5 rfl rfl)
theorem dX9_init_171 : decode cX9_init 171 = .ok (.dup, 1) := dk_89 (dk_at dksX9_init_7 6 rfl rfl)
theorem dX9_init_172 : decode cX9_init 172 = .ok (.iconst 4, 1) := dk_7 (dk_at dksX9_init_7 7 rfl rfl)
theorem dX9_init_173 : decode cX9_init 173 = .ok (.bipush 7, 2) := dk_16 7 (dk_at dksX9_init_7 8 rfl rfl)
theorem dX9_init_175 : decode cX9_init 175 = .ok (.iastore, 1) := dk_79 (dk_at dksX9_init_7 10 rfl rfl)
theorem dX9_init_176 : decode cX9_init 176 = .ok (.dup, 1) := dk_89 (dk_at dksX9_init_7 11 rfl rfl)
theorem dX9_init_177 : decode cX9_init 177 = .ok (.iconst 5, 1) := dk_8 (dk_at dksX9_init_7 12 rfl rfl)
theorem dX9_init_178 : decode cX9_init 178 = .ok (.bipush 13, 2) := dk_16 13 (dk_at dksX9_init_7 13 rfl rfl)
theorem dX9_init_180 : decode cX9_init 180 = .ok (.iastore, 1) := dk_79 (dk_at dksX9_init_7 15 rfl rfl)
theorem dX9_init_181 : decode cX9_init 181 = .ok (.dup, 1) := dk_89 (dk_at dksX9_init_7 16 rfl rfl)
theorem dX9_init_182 : decode cX9_init 182 = .ok (.bipush 6, 2) := dk_16 6 (dk_at dksX9_init_7 17 rfl rfl)
theorem dX9_init_184 : decode cX9_init 184 = .ok (.bipush 14, 2) := dk_16 14 (dk_at dksX9_init_7 19 rfl rfl)
theorem dX9_init_186 : decode cX9_init 186 = .ok (.iastore, 1) := dk_79 (dk_at dksX9_init_7 21 rfl rfl)
theorem dX9_init_187 : decode cX9_init 187 = .ok (.dup, 1) := dk_89 (dk_at dksX9_init_7 22 rfl rfl)
theorem dX9_init_188 : decode cX9_init 188 = .ok (.bipush 7, 2) := dk_16 7 (dk_at dksX9_init_8 0 rfl rfl)
theorem dX9_init_190 : decode cX9_init 190 = .ok (.bipush 15, 2) := dk_16 15 (dk_at dksX9_init_8 2 rfl rfl)
theorem dX9_init_192 : decode cX9_init 192 = .ok (.iastore, 1) := dk_79 (dk_at dksX9_init_8 4 rfl rfl)
theorem dX9_init_193 : decode cX9_init 193 = .ok (.dup, 1) := dk_89 (dk_at dksX9_init_8 5 rfl rfl)
theorem dX9_init_194 : decode cX9_init 194 = .ok (.bipush 8, 2) := dk_16 8 (dk_at dksX9_init_8 6 rfl rfl)
theorem dX9_init_196 : decode cX9_init 196 = .ok (.bipush 16, 2) := dk_16 16 (dk_at dksX9_init_8 8 rfl rfl)
theorem dX9_init_198 : decode cX9_init 198 = .ok (.iastore, 1) := dk_79 (dk_at dksX9_init_8 10 rfl rfl)
theorem dX9_init_199 : decode cX9_init 199 = .ok (.dup, 1) := dk_89 (dk_at dksX9_init_8 11 rfl rfl)
theorem dX9_init_200 : decode cX9_init 200 = .ok (.bipush 9, 2) := dk_16 9 (dk_at dksX9_init_8 12 rfl rfl)
theorem dX9_init_202 : decode cX9_init 202 = .ok (.bipush 8, 2) := dk_16 8 (dk_at dksX9_init_8 14 rfl rfl)
theorem dX9_init_204 : decode cX9_init 204 = .ok (.iastore, 1) := dk_79 (dk_at dksX9_init_8 16 rfl rfl)
theorem dX9_init_205 : decode cX9_init 205 = .ok (.dup, 1) := dk_89 (dk_at dksX9_init_8 17 rfl rfl)
theorem dX9_init_206 : decode cX9_init 206 = .ok (.bipush 10, 2) := dk_16 10 (dk_at dksX9_init_8 18 rfl rfl)
theorem dX9_init_208 : decode cX9_init 208 = .ok (.bipush 12, 2) := dk_16 12 (dk_at dksX9_init_8 20 rfl rfl)
theorem dX9_init_210 : decode cX9_init 210 = .ok (.iastore, 1) := dk_79 (dk_at dksX9_init_8 22 rfl rfl)
theorem dX9_init_211 : decode cX9_init 211 = .ok (.dup, 1) := dk_89 (dk_at dksX9_init_8 23 rfl rfl)
theorem dX9_init_212 : decode cX9_init 212 = .ok (.bipush 11, 2) := dk_16 11 (dk_at dksX9_init_9 0 rfl rfl)
theorem dX9_init_214 : decode cX9_init 214 = .ok (.bipush 18, 2) := dk_16 18 (dk_at dksX9_init_9 2 rfl rfl)
theorem dX9_init_216 : decode cX9_init 216 = .ok (.iastore, 1) := dk_79 (dk_at dksX9_init_9 4 rfl rfl)
theorem dX9_init_217 : decode cX9_init 217 = .ok (.putfield 51, 3) := dk_181 0 51 (dk_at dksX9_init_9 5 rfl rfl)
theorem dX9_init_220 : decode cX9_init 220 = .ok (.aload_n 0, 1) := dk_42 (dk_at dksX9_init_9 8 rfl rfl)
theorem dX9_init_221 : decode cX9_init 221 = .ok (.getfield 9, 3) := dk_180 0 9 (dk_at dksX9_init_9 9 rfl rfl)
theorem dX9_init_224 : decode cX9_init 224 = .ok (.iconst 1, 1) := dk_4 (dk_at dksX9_init_9 12 rfl rfl)
theorem dX9_init_225 : decode cX9_init 225 = .ok (.bipush 6, 2) := dk_16 6 (dk_at dksX9_init_9 13 rfl rfl)
theorem dX9_init_227 : decode cX9_init 227 = .ok (.iastore, 1) := dk_79 (dk_at dksX9_init_9 15 rfl rfl)
theorem dX9_init_228 : decode cX9_init 228 = .ok (.aload_n 0, 1) := dk_42 (dk_at dksX9_init_9 16 rfl rfl)
theorem dX9_init_229 : decode cX9_init 229 = .ok (.getfield 9, 3) := dk_180 0 9 (dk_at dksX9_init_9 17 rfl rfl)
theorem dX9_init_232 : decode cX9_init 232 = .ok (.iconst 2, 1) := dk_5 (dk_at dksX9_init_9 20 rfl rfl)
theorem dX9_init_233 : decode cX9_init 233 = .ok (.bipush 18, 2) := dk_16 18 (dk_at dksX9_init_9 21 rfl rfl)
theorem dX9_init_235 : decode cX9_init 235 = .ok (.iastore, 1) := dk_79 (dk_at dksX9_init_9 23 rfl rfl)
theorem dX9_init_236 : decode cX9_init 236 = .ok (.aload_n 0, 1) := dk_42 (dk_at dksX9_init_10 0 rfl rfl)
theorem dX9_init_237 : decode cX9_init 237 = .ok (.getfield 9, 3) := dk_180 0 9 (dk_at dksX9_init_10 1 rfl rfl)
theorem dX9_init_240 : decode cX9_init 240 = .ok (.iconst 3, 1) := dk_6 (dk_at dksX9_init_10 4 rfl rfl)
theorem dX9_init_241 : decode cX9_init 241 = .ok (.iconst 1, 1) := dk_4 (dk_at dksX9_init_10 5 rfl rfl)
theorem dX9_init_242 : decode cX9_init 242 = .ok (.iastore, 1) := dk_79 (dk_at dksX9_init_10 6 rfl rfl)
theorem dX9_init_243 : decode cX9_init 243 = .ok (.aload_n 0, 1) := dk_42 (dk_at dksX9_init_10 7 rfl rfl)
theorem dX9_init_244 : decode cX9_init 244 = .ok (.getfield 9, 3) := dk_180 0 9 (dk_at dksX9_init_10 8 rfl rfl)
theorem dX9_init_247 : decode cX9_init 247 = .ok (.bipush 8, 2) := dk_16 8 (dk_at dksX9_init_10 11 rfl rfl)
theorem dX9_init_249 : decode cX9_init 249 = .ok (.iconst (-1), 1) := dk_2 (dk_at dksX9_init_10 13 rfl rfl)
theorem dX9_init_250 : decode cX9_init 250 = .ok (.iastore, 1) := dk_79 (dk_at dksX9_init_10 14 rfl rfl)
theorem dX9_init_251 : decode cX9_init 251 = .ok (.aload_n 0, 1) := dk_42 (dk_at dksX9_init_10 15 rfl rfl)
theorem dX9_init_252 : decode cX9_init 252 = .ok (.getfield 9, 3) := dk_180 0 9 (dk_at dksX9_init_10 16 rfl rfl)
theorem dX9_init_255 : decode cX9_init 255 = .ok (.bipush 9, 2) := dk_16 9 (dk_at dksX9_init_10 19 rfl rfl)
theorem dX9_init_257 : decode cX9_init 257 = .ok (.sipush 168, 3) := dk_17 0 168 (dk_at dksX9_init_10 21 rfl rfl)
theorem dX9_init_260 : decode cX9_init 260 = .ok (.iastore, 1) := dk_79 (dk_at dksX9_init_11 0 rfl rfl)
theorem dX9_init_261 : decode cX9_init 261 = .ok (.aload_n 0, 1) := dk_42 (dk_at dksX9_init_11 1 rfl rfl)
theorem dX9_init_262 : decode cX9_init 262 = .ok (.getfield 9, 3) := dk_180 0 9 (dk_at dksX9_init_11 2 rfl rfl)
theorem dX9_init_265 : decode cX9_init 265 = .ok (.bipush 19, 2) := dk_16 19 (dk_at dksX9_init_11 5 rfl rfl)
theorem dX9_init_267 : decode cX9_init 267 = .ok (.iconst 1, 1) := dk_4 (dk_at dksX9_init_11 7 rfl rfl)
theorem dX9_init_268 : decode cX9_init 268 = .ok (.iastore, 1) := dk_79 (dk_at dksX9_init_11 8 rfl rfl)
theorem dX9_init_269 : decode cX9_init 269 = .ok (.iconst 0, 1) := dk_3 (dk_at dksX9_init_11 9 rfl rfl)
theorem dX9_init_270 : decode cX9_init 270 = .ok (.istore_n 1, 1) := dk_60 (dk_at dksX9_init_11 10 rfl rfl)
theorem dX9_init_271 : decode cX9_init 271 = .ok (.iload_n 1, 1) := dk_27 (dk_at dksX9_init_11 11 rfl rfl)
theorem dX9_init_272 : decode cX9_init 272 = .ok (.bipush 24, 2) := dk_16 24 (dk_at dksX9_init_11 12 rfl rfl)
theorem dX9_init_274 : decode cX9_init 274 = .ok (.if_icmp .ge 19, 3) := dk_162 0 19 (dk_at dksX9_init_11 14 rfl rfl)
theorem dX9_init_277 : decode cX9_init 277 = .ok (.aload_n 0, 1) := dk_42 (dk_at dksX9_init_11 17 rfl rfl)
theorem dX9_init_278 : decode cX9_init 278 = .ok (.getfield 9, 3) := dk_180 0 9 (dk_at dksX9_init_11 18 rfl rfl)
theorem dX9_init_281 : decode cX9_init 281 = .ok (.bipush 85, 2) := dk_16 85 (dk_at dksX9_init_11 21 rfl rfl)
theorem dX9_init_283 : decode cX9_init 283 = .ok (.iload_n 1, 1) := dk_27 (dk_at dksX9_init_11 23 rfl rfl)
theorem dX9_init_284 : decode cX9_init 284 = .ok (.iadd, 1) := dk_96 (dk_at dksX9_init_12 0 rfl rfl)
theorem dX9_init_285 : decode cX9_init 285 = .ok (.iconst (-1), 1) := dk_2 (dk_at dksX9_init_12 1 rfl rfl)
theorem dX9_init_286 : decode cX9_init 286 = .ok (.iastore, 1) := dk_79 (dk_at dksX9_init_12 2 rfl rfl)
theorem dX9_init_287 : decode cX9_init 287 = .ok (.iinc 1 1, 3) := dk_132 1 1 (dk_at dksX9_init_12 3 rfl rfl)
theorem dX9_init_290 : decode cX9_init 290 = .ok (.goto (-19), 3) := dk_167 255 237 (dk_at dksX9_init_12 6 rfl rfl)
theorem dX9_init_293 : decode cX9_init 293 = .ok (.return_, 1) := dk_177 (dk_at dksX9_init_12 9 rfl rfl)
abbrev cX9_feed : ByteArray := prog_34_method_22_code
def yX9_feed : MethodName := ⟨RX9, "feed", "(I)I"⟩
def dkwX9_feed_2 : List UInt8 := [89, 180, 0, 135, 4, 96, 181, 0, 135, 42, 180, 0, 135, 172]
abbrev dktX9_feed_2 : List UInt8 := dkwX9_feed_2 ++ []
def dkwX9_feed_1 : List UInt8 := [17, 0, 250, 160, 0, 10, 42, 16, 150, 182, 0, 132, 172, 42, 180, 0, 22, 42, 180, 0, 135, 27, 79, 42]
abbrev dktX9_feed_1 : List UInt8 := dkwX9_feed_1 ++ dktX9_feed_2
def dkwX9_feed_0 : List UInt8 := [27, 133, 9, 20, 0, 130, 184, 0, 54, 154, 0, 10, 42, 16, 154, 182, 0, 132, 172, 42, 180, 0, 135]
abbrev dktX9_feed_0 : List UInt8 := dkwX9_feed_0 ++ dktX9_feed_1
theorem dksX9_feed_0 : cX9_feed.data.toList.drop 0 = dktX9_feed_0 := by decide +kernel
theorem dksX9_feed_1 : cX9_feed.data.toList.drop 23 = dktX9_feed_1 := dk_seg dksX9_feed_0 23 rfl rfl
theorem dksX9_feed_2 : cX9_feed.data.toList.drop 47 = dktX9_feed_2 := dk_seg dksX9_feed_1 24 rfl rfl
theorem dX9_feed_0 : decode cX9_feed 0 = .ok (.iload_n 1, 1) := dk_27 (dk_at dksX9_feed_0 0 rfl rfl)
theorem dX9_feed_1 : decode cX9_feed 1 = .ok (.i2l, 1) := dk_133 (dk_at dksX9_feed_0 1 rfl rfl)
theorem dX9_feed_2 : decode cX9_feed 2 = .ok (.lconst 0, 1) := dk_9 (dk_at dksX9_feed_0 2 rfl rfl)
theorem dX9_feed_3 : decode cX9_feed 3 = .ok (.ldc2_w 130, 3) := dk_20 0 130 (dk_at dksX9_feed_0 3 rfl rfl)
theorem dX9_feed_6 : decode cX9_feed 6 = .ok (.invokestatic 54, 3) := dk_184 0 54 (dk_at dksX9_feed_0 6 rfl rfl)
theorem dX9_feed_9 : decode cX9_feed 9 = .ok (.ifCond .ne 10, 3) := dk_154 0 10 (dk_at dksX9_feed_0 9 rfl rfl)
theorem dX9_feed_12 : decode cX9_feed 12 = .ok (.aload_n 0, 1) := dk_42 (dk_at dksX9_feed_0 12 rfl rfl)
theorem dX9_feed_13 : decode cX9_feed 13 = .ok (.bipush (-102), 2) := dk_16 154 (dk_at dksX9_feed_0 13 rfl rfl)
theorem dX9_feed_15 : decode cX9_feed 15 = .ok (.invokevirtual 132, 3) := dk_182 0 132 (dk_at dksX9_feed_0 15 rfl rfl)
theorem dX9_feed_18 : decode cX9_feed 18 = .ok (.ireturn, 1) := dk_172 (dk_at dksX9_feed_0 18 rfl rfl)
theorem dX9_feed_19 : decode cX9_feed 19 = .ok (.aload_n 0, 1) := dk_42 (dk_at dksX9_feed_0 19 rfl rfl)
theorem dX9_feed_20 : decode cX9_feed 20 = .ok (.getfield 135, 3) := dk_180 0 135 (dk_at dksX9_feed_0 20 rfl rfl)
theorem dX9_feed_23 : decode cX9_feed 23 = .ok (.sipush 250, 3) := dk_17 0 250 (dk_at dksX9_feed_1 0 rfl rfl)
theorem dX9_feed_26 : decode cX9_feed 26 = .ok (.if_icmp .ne 10, 3) := dk_160 0 10 (dk_at dksX9_feed_1 3 rfl rfl)
theorem dX9_feed_29 : decode cX9_feed 29 = .ok (.aload_n 0, 1) := dk_42 (dk_at dksX9_feed_1 6 rfl rfl)
theorem dX9_feed_30 : decode cX9_feed 30 = .ok (.bipush (-106), 2) := dk_16 150 (dk_at dksX9_feed_1 7 rfl rfl)
theorem dX9_feed_32 : decode cX9_feed 32 = .ok (.invokevirtual 132, 3) := dk_182 0 132 (dk_at dksX9_feed_1 9 rfl rfl)
theorem dX9_feed_35 : decode cX9_feed 35 = .ok (.ireturn, 1) := dk_172 (dk_at dksX9_feed_1 12 rfl rfl)
theorem dX9_feed_36 : decode cX9_feed 36 = .ok (.aload_n 0, 1) := dk_42 (dk_at dksX9_feed_1 13 rfl rfl)
theorem dX9_feed_37 : decode cX9_feed 37 = .ok (.getfield 22, 3) := dk_180 0 22 (dk_at dksX9_feed_1 14 rfl rfl)
theorem dX9_feed_40 : decode cX9_feed 40 = .ok (.aload_n 0, 1) := dk_42 (dk_at dksX9_feed_1 17 rfl rfl)
theorem dX9_feed_41 : decode cX9_feed 41 = .ok (.getfield 135, 3) := dk_180 0 135 (dk_at dksX9_feed_1 18 rfl rfl)
theorem dX9_feed_44 : decode cX9_feed 44 = .ok (.iload_n 1, 1) := dk_27 (dk_at dksX9_feed_1 21 rfl rfl)
theorem dX9_feed_45 : decode cX9_feed 45 = .ok (.iastore, 1) := dk_79 (dk_at dksX9_feed_1 22 rfl rfl)
theorem dX9_feed_46 : decode cX9_feed 46 = .ok (.aload_n 0, 1) := dk_42 (dk_at dksX9_feed_1 23 rfl rfl)
theorem dX9_feed_47 : decode cX9_feed 47 = .ok (.dup, 1) := dk_89 (dk_at dksX9_feed_2 0 rfl rfl)
theorem dX9_feed_48 : decode cX9_feed 48 = .ok (.getfield 135, 3) := dk_180 0 135 (dk_at dksX9_feed_2 1 rfl rfl)
theorem dX9_feed_51 : decode cX9_feed 51 = .ok (.iconst 1, 1) := dk_4 (dk_at dksX9_feed_2 4 rfl rfl)
theorem dX9_feed_52 : decode cX9_feed 52 = .ok (.iadd, 1) := dk_96 (dk_at dksX9_feed_2 5 rfl rfl)
theorem dX9_feed_53 : decode cX9_feed 53 = .ok (.putfield 135, 3) := dk_181 0 135 (dk_at dksX9_feed_2 6 rfl rfl)
theorem dX9_feed_56 : decode cX9_feed 56 = .ok (.aload_n 0, 1) := dk_42 (dk_at dksX9_feed_2 9 rfl rfl)
theorem dX9_feed_57 : decode cX9_feed 57 = .ok (.getfield 135, 3) := dk_180 0 135 (dk_at dksX9_feed_2 10 rfl rfl)
theorem dX9_feed_60 : decode cX9_feed 60 = .ok (.ireturn, 1) := dk_172 (dk_at dksX9_feed_2 13 rfl rfl)
abbrev cX9_in : ByteArray := prog_34_method_2_code
def yX9_in : MethodName := ⟨RX9, "in", "(JJJ)Z"⟩
def dkwX9_in_0 : List UInt8 := [30, 32, 148, 155, 0, 14, 30, 22, 4, 148, 157, 0, 7, 4, 167, 0, 4, 3, 172]
abbrev dktX9_in_0 : List UInt8 := dkwX9_in_0 ++ []
theorem dksX9_in_0 : cX9_in.data.toList.drop 0 = dktX9_in_0 := by decide +kernel
theorem dX9_in_0 : decode cX9_in 0 = .ok (.lload_n 0, 1) := dk_30 (dk_at dksX9_in_0 0 rfl rfl)
theorem dX9_in_1 : decode cX9_in 1 = .ok (.lload_n 2, 1) := dk_32 (dk_at dksX9_in_0 1 rfl rfl)
theorem dX9_in_2 : decode cX9_in 2 = .ok (.lcmp, 1) := dk_148 (dk_at dksX9_in_0 2 rfl rfl)
theorem dX9_in_3 : decode cX9_in 3 = .ok (.ifCond .lt 14, 3) := dk_155 0 14 (dk_at dksX9_in_0 3 rfl rfl)
theorem dX9_in_6 : decode cX9_in 6 = .ok (.lload_n 0, 1) := dk_30 (dk_at dksX9_in_0 6 rfl rfl)
theorem dX9_in_7 : decode cX9_in 7 = .ok (.lload 4, 2) := dk_22 4 (dk_at dksX9_in_0 7 rfl rfl)
theorem dX9_in_9 : decode cX9_in 9 = .ok (.lcmp, 1) := dk_148 (dk_at dksX9_in_0 9 rfl rfl)
theorem dX9_in_10 : decode cX9_in 10 = .ok (.ifCond .gt 7, 3) := dk_157 0 7 (dk_at dksX9_in_0 10 rfl rfl)
theorem dX9_in_13 : decode cX9_in 13 = .ok (.iconst 1, 1) := dk_4 (dk_at dksX9_in_0 13 rfl rfl)
theorem dX9_in_14 : decode cX9_in 14 = .ok (.goto 4, 3) := dk_167 0 4 (dk_at dksX9_in_0 14 rfl rfl)
theorem dX9_in_17 : decode cX9_in 17 = .ok (.iconst 0, 1) := dk_3 (dk_at dksX9_in_0 17 rfl rfl)
theorem dX9_in_18 : decode cX9_in 18 = .ok (.ireturn, 1) := dk_172 (dk_at dksX9_in_0 18 rfl rfl)
abbrev cX9_refused : ByteArray := prog_34_method_3_code
def yX9_refused : MethodName := ⟨RX9, "refused", "(I)I"⟩
def dkwX9_refused_0 : List UInt8 := [42, 180, 0, 19, 27, 116, 16, 102, 100, 92, 46, 4, 96, 79, 27, 172]
abbrev dktX9_refused_0 : List UInt8 := dkwX9_refused_0 ++ []
theorem dksX9_refused_0 : cX9_refused.data.toList.drop 0 = dktX9_refused_0 := by decide +kernel
theorem dX9_refused_0 : decode cX9_refused 0 = .ok (.aload_n 0, 1) := dk_42 (dk_at dksX9_refused_0 0 rfl rfl)
theorem dX9_refused_1 : decode cX9_refused 1 = .ok (.getfield 19, 3) := dk_180 0 19 (dk_at dksX9_refused_0 1 rfl rfl)
theorem dX9_refused_4 : decode cX9_refused 4 = .ok (.iload_n 1, 1) := dk_27 (dk_at dksX9_refused_0 4 rfl rfl)
theorem dX9_refused_5 : decode cX9_refused 5 = .ok (.ineg, 1) := dk_116 (dk_at dksX9_refused_0 5 rfl rfl)
theorem dX9_refused_6 : decode cX9_refused 6 = .ok (.bipush 102, 2) := dk_16 102 (dk_at dksX9_refused_0 6 rfl rfl)
theorem dX9_refused_8 : decode cX9_refused 8 = .ok (.isub, 1) := dk_100 (dk_at dksX9_refused_0 8 rfl rfl)
theorem dX9_refused_9 : decode cX9_refused 9 = .ok (.dup2, 1) := dk_92 (dk_at dksX9_refused_0 9 rfl rfl)
theorem dX9_refused_10 : decode cX9_refused 10 = .ok (.iaload, 1) := dk_46 (dk_at dksX9_refused_0 10 rfl rfl)
theorem dX9_refused_11 : decode cX9_refused 11 = .ok (.iconst 1, 1) := dk_4 (dk_at dksX9_refused_0 11 rfl rfl)
theorem dX9_refused_12 : decode cX9_refused 12 = .ok (.iadd, 1) := dk_96 (dk_at dksX9_refused_0 12 rfl rfl)
theorem dX9_refused_13 : decode cX9_refused 13 = .ok (.iastore, 1) := dk_79 (dk_at dksX9_refused_0 13 rfl rfl)
theorem dX9_refused_14 : decode cX9_refused 14 = .ok (.iload_n 1, 1) := dk_27 (dk_at dksX9_refused_0 14 rfl rfl)
theorem dX9_refused_15 : decode cX9_refused 15 = .ok (.ireturn, 1) := dk_172 (dk_at dksX9_refused_0 15 rfl rfl)
abbrev cX9_wipe : ByteArray := prog_34_method_23_code
def yX9_wipe : MethodName := ⟨RX9, "wipe", "()I"⟩
def dkwX9_wipe_0 : List UInt8 := [42, 180, 0, 135, 60, 42, 3, 181, 0, 135, 27, 172]
abbrev dktX9_wipe_0 : List UInt8 := dkwX9_wipe_0 ++ []
theorem dksX9_wipe_0 : cX9_wipe.data.toList.drop 0 = dktX9_wipe_0 := by decide +kernel
theorem dX9_wipe_0 : decode cX9_wipe 0 = .ok (.aload_n 0, 1) := dk_42 (dk_at dksX9_wipe_0 0 rfl rfl)
theorem dX9_wipe_1 : decode cX9_wipe 1 = .ok (.getfield 135, 3) := dk_180 0 135 (dk_at dksX9_wipe_0 1 rfl rfl)
theorem dX9_wipe_4 : decode cX9_wipe 4 = .ok (.istore_n 1, 1) := dk_60 (dk_at dksX9_wipe_0 4 rfl rfl)
theorem dX9_wipe_5 : decode cX9_wipe 5 = .ok (.aload_n 0, 1) := dk_42 (dk_at dksX9_wipe_0 5 rfl rfl)
theorem dX9_wipe_6 : decode cX9_wipe 6 = .ok (.iconst 0, 1) := dk_3 (dk_at dksX9_wipe_0 6 rfl rfl)
theorem dX9_wipe_7 : decode cX9_wipe 7 = .ok (.putfield 135, 3) := dk_181 0 135 (dk_at dksX9_wipe_0 7 rfl rfl)
theorem dX9_wipe_10 : decode cX9_wipe 10 = .ok (.iload_n 1, 1) := dk_27 (dk_at dksX9_wipe_0 10 rfl rfl)
theorem dX9_wipe_11 : decode cX9_wipe 11 = .ok (.ireturn, 1) := dk_172 (dk_at dksX9_wipe_0 11 rfl rfl)
abbrev cX9_sky : ByteArray := prog_34_method_26_code
def yX9_sky : MethodName := ⟨RX9, "sky", "()I"⟩
def dkwX9_sky_6 : List UInt8 := [167, 255, 228, 42, 180, 0, 145, 172]
abbrev dktX9_sky_6 : List UInt8 := dkwX9_sky_6 ++ []
def dkwX9_sky_5 : List UInt8 := [104, 162, 0, 24, 42, 180, 0, 9, 16, 21, 28, 96, 42, 180, 0, 25, 28, 46, 79, 132, 2, 1]
abbrev dktX9_sky_5 : List UInt8 := dkwX9_sky_5 ++ dktX9_sky_6
def dkwX9_sky_4 : List UInt8 := [180, 0, 139, 100, 172, 42, 180, 0, 9, 16, 12, 42, 180, 0, 145, 79, 3, 61, 28, 5, 42, 180, 0, 145]
abbrev dktX9_sky_4 : List UInt8 := dkwX9_sky_4 ++ dktX9_sky_5
def dkwX9_sky_3 : List UInt8 := [3, 181, 0, 135, 27, 154, 0, 22, 42, 180, 0, 19, 3, 92, 46, 4, 96, 79, 17, 254, 212, 42]
abbrev dktX9_sky_3 : List UInt8 := dkwX9_sky_3 ++ dktX9_sky_4
def dkwX9_sky_2 : List UInt8 := [60, 27, 153, 255, 221, 42, 89, 180, 0, 139, 4, 96, 181, 0, 139, 42, 182, 0, 152, 60, 167, 255, 203, 42]
abbrev dktX9_sky_2 : List UInt8 := dkwX9_sky_2 ++ dktX9_sky_3
def dkwX9_sky_1 : List UInt8 := [180, 0, 135, 162, 0, 44, 42, 42, 180, 0, 139, 182, 0, 142, 16, 32, 160, 0, 7, 4, 167, 0, 4, 3]
abbrev dktX9_sky_1 : List UInt8 := dkwX9_sky_1 ++ dktX9_sky_2
def dkwX9_sky_0 : List UInt8 := [42, 3, 181, 0, 139, 42, 3, 181, 0, 145, 42, 182, 0, 152, 60, 27, 153, 0, 55, 42, 180, 0, 139, 42]
abbrev dktX9_sky_0 : List UInt8 := dkwX9_sky_0 ++ dktX9_sky_1
theorem dksX9_sky_0 : cX9_sky.data.toList.drop 0 = dktX9_sky_0 := by decide +kernel
theorem dksX9_sky_1 : cX9_sky.data.toList.drop 24 = dktX9_sky_1 := dk_seg dksX9_sky_0 24 rfl rfl
theorem dksX9_sky_2 : cX9_sky.data.toList.drop 48 = dktX9_sky_2 := dk_seg dksX9_sky_1 24 rfl rfl
theorem dksX9_sky_3 : cX9_sky.data.toList.drop 72 = dktX9_sky_3 := dk_seg dksX9_sky_2 24 rfl rfl
theorem dksX9_sky_4 : cX9_sky.data.toList.drop 94 = dktX9_sky_4 := dk_seg dksX9_sky_3 22 rfl rfl
theorem dksX9_sky_5 : cX9_sky.data.toList.drop 118 = dktX9_sky_5 := dk_seg dksX9_sky_4 24 rfl rfl
theorem dksX9_sky_6 : cX9_sky.data.toList.drop 140 = dktX9_sky_6 := dk_seg dksX9_sky_5 22 rfl rfl
theorem dX9_sky_0 : decode cX9_sky 0 = .ok (.aload_n 0, 1) := dk_42 (dk_at dksX9_sky_0 0 rfl rfl)
theorem dX9_sky_1 : decode cX9_sky 1 = .ok (.iconst 0, 1) := dk_3 (dk_at dksX9_sky_0 1 rfl rfl)
theorem dX9_sky_2 : decode cX9_sky 2 = .ok (.putfield 139, 3) := dk_181 0 139 (dk_at dksX9_sky_0 2 rfl rfl)
theorem dX9_sky_5 : decode cX9_sky 5 = .ok (.aload_n 0, 1) := dk_42 (dk_at dksX9_sky_0 5 rfl rfl)
theorem dX9_sky_6 : decode cX9_sky 6 = .ok (.iconst 0, 1) := dk_3 (dk_at dksX9_sky_0 6 rfl rfl)
theorem dX9_sky_7 : decode cX9_sky 7 = .ok (.putfield 145, 3) := dk_181 0 145 (dk_at dksX9_sky_0 7 rfl rfl)
theorem dX9_sky_10 : decode cX9_sky 10 = .ok (.aload_n 0, 1) := dk_42 (dk_at dksX9_sky_0 10 rfl rfl)
theorem dX9_sky_11 : decode cX9_sky 11 = .ok (.invokevirtual 152, 3) := dk_182 0 152 (dk_at dksX9_sky_0 11 rfl rfl)
theorem dX9_sky_14 : decode cX9_sky 14 = .ok (.istore_n 1, 1) := dk_60 (dk_at dksX9_sky_0 14 rfl rfl)
theorem dX9_sky_15 : decode cX9_sky 15 = .ok (.iload_n 1, 1) := dk_27 (dk_at dksX9_sky_0 15 rfl rfl)
theorem dX9_sky_16 : decode cX9_sky 16 = .ok (.ifCond .eq 55, 3) := dk_153 0 55 (dk_at dksX9_sky_0 16 rfl rfl)
theorem dX9_sky_19 : decode cX9_sky 19 = .ok (.aload_n 0, 1) := dk_42 (dk_at dksX9_sky_0 19 rfl rfl)
theorem dX9_sky_20 : decode cX9_sky 20 = .ok (.getfield 139, 3) := dk_180 0 139 (dk_at dksX9_sky_0 20 rfl rfl)
theorem dX9_sky_23 : decode cX9_sky 23 = .ok (.aload_n 0, 1) := dk_42 (dk_at dksX9_sky_0 23 rfl rfl)
theorem dX9_sky_24 : decode cX9_sky 24 = .ok (.getfield 135, 3) := dk_180 0 135 (dk_at dksX9_sky_1 0 rfl rfl)
theorem dX9_sky_27 : decode cX9_sky 27 = .ok (.if_icmp .ge 44, 3) := dk_162 0 44 (dk_at dksX9_sky_1 3 rfl rfl)
theorem dX9_sky_30 : decode cX9_sky 30 = .ok (.aload_n 0, 1) := dk_42 (dk_at dksX9_sky_1 6 rfl rfl)
theorem dX9_sky_31 : decode cX9_sky 31 = .ok (.aload_n 0, 1) := dk_42 (dk_at dksX9_sky_1 7 rfl rfl)
theorem dX9_sky_32 : decode cX9_sky 32 = .ok (.getfield 139, 3) := dk_180 0 139 (dk_at dksX9_sky_1 8 rfl rfl)
theorem dX9_sky_35 : decode cX9_sky 35 = .ok (.invokevirtual 142, 3) := dk_182 0 142 (dk_at dksX9_sky_1 11 rfl rfl)
theorem dX9_sky_38 : decode cX9_sky 38 = .ok (.bipush 32, 2) := dk_16 32 (dk_at dksX9_sky_1 14 rfl rfl)
theorem dX9_sky_40 : decode cX9_sky 40 = .ok (.if_icmp .ne 7, 3) := dk_160 0 7 (dk_at dksX9_sky_1 16 rfl rfl)
theorem dX9_sky_43 : decode cX9_sky 43 = .ok (.iconst 1, 1) := dk_4 (dk_at dksX9_sky_1 19 rfl rfl)
theorem dX9_sky_44 : decode cX9_sky 44 = .ok (.goto 4, 3) := dk_167 0 4 (dk_at dksX9_sky_1 20 rfl rfl)
theorem dX9_sky_47 : decode cX9_sky 47 = .ok (.iconst 0, 1) := dk_3 (dk_at dksX9_sky_1 23 rfl rfl)
theorem dX9_sky_48 : decode cX9_sky 48 = .ok (.istore_n 1, 1) := dk_60 (dk_at dksX9_sky_2 0 rfl rfl)
theorem dX9_sky_49 : decode cX9_sky 49 = .ok (.iload_n 1, 1) := dk_27 (dk_at dksX9_sky_2 1 rfl rfl)
theorem dX9_sky_50 : decode cX9_sky 50 = .ok (.ifCond .eq (-35), 3) := dk_153 255 221 (dk_at dksX9_sky_2 2 rfl rfl)
theorem dX9_sky_53 : decode cX9_sky 53 = .ok (.aload_n 0, 1) := dk_42 (dk_at dksX9_sky_2 5 rfl rfl)
theorem dX9_sky_54 : decode cX9_sky 54 = .ok (.dup, 1) := dk_89 (dk_at dksX9_sky_2 6 rfl rfl)
theorem dX9_sky_55 : decode cX9_sky 55 = .ok (.getfield 139, 3) := dk_180 0 139 (dk_at dksX9_sky_2 7 rfl rfl)
theorem dX9_sky_58 : decode cX9_sky 58 = .ok (.iconst 1, 1) := dk_4 (dk_at dksX9_sky_2 10 rfl rfl)
theorem dX9_sky_59 : decode cX9_sky 59 = .ok (.iadd, 1) := dk_96 (dk_at dksX9_sky_2 11 rfl rfl)
theorem dX9_sky_60 : decode cX9_sky 60 = .ok (.putfield 139, 3) := dk_181 0 139 (dk_at dksX9_sky_2 12 rfl rfl)
theorem dX9_sky_63 : decode cX9_sky 63 = .ok (.aload_n 0, 1) := dk_42 (dk_at dksX9_sky_2 15 rfl rfl)
theorem dX9_sky_64 : decode cX9_sky 64 = .ok (.invokevirtual 152, 3) := dk_182 0 152 (dk_at dksX9_sky_2 16 rfl rfl)
theorem dX9_sky_67 : decode cX9_sky 67 = .ok (.istore_n 1, 1) := dk_60 (dk_at dksX9_sky_2 19 rfl rfl)
theorem dX9_sky_68 : decode cX9_sky 68 = .ok (.goto (-53), 3) := dk_167 255 203 (dk_at dksX9_sky_2 20 rfl rfl)
theorem dX9_sky_71 : decode cX9_sky 71 = .ok (.aload_n 0, 1) := dk_42 (dk_at dksX9_sky_2 23 rfl rfl)
theorem dX9_sky_72 : decode cX9_sky 72 = .ok (.iconst 0, 1) := dk_3 (dk_at dksX9_sky_3 0 rfl rfl)
theorem dX9_sky_73 : decode cX9_sky 73 = .ok (.putfield 135, 3) := dk_181 0 135 (dk_at dksX9_sky_3 1 rfl rfl)
theorem dX9_sky_76 : decode cX9_sky 76 = .ok (.iload_n 1, 1) := dk_27 (dk_at dksX9_sky_3 4 rfl rfl)
theorem dX9_sky_77 : decode cX9_sky 77 = .ok (.ifCond .ne 22, 3) := dk_154 0 22 (dk_at dksX9_sky_3 5 rfl rfl)
theorem dX9_sky_80 : decode cX9_sky 80 = .ok (.aload_n 0, 1) := dk_42 (dk_at dksX9_sky_3 8 rfl rfl)
theorem dX9_sky_81 : decode cX9_sky 81 = .ok (.getfield 19, 3) := dk_180 0 19 (dk_at dksX9_sky_3 9 rfl rfl)
theorem dX9_sky_84 : decode cX9_sky 84 = .ok (.iconst 0, 1) := dk_3 (dk_at dksX9_sky_3 12 rfl rfl)
theorem dX9_sky_85 : decode cX9_sky 85 = .ok (.dup2, 1) := dk_92 (dk_at dksX9_sky_3 13 rfl rfl)
theorem dX9_sky_86 : decode cX9_sky 86 = .ok (.iaload, 1) := dk_46 (dk_at dksX9_sky_3 14 rfl rfl)
theorem dX9_sky_87 : decode cX9_sky 87 = .ok (.iconst 1, 1) := dk_4 (dk_at dksX9_sky_3 15 rfl rfl)
theorem dX9_sky_88 : decode cX9_sky 88 = .ok (.iadd, 1) := dk_96 (dk_at dksX9_sky_3 16 rfl rfl)
theorem dX9_sky_89 : decode cX9_sky 89 = .ok (.iastore, 1) := dk_79 (dk_at dksX9_sky_3 17 rfl rfl)
theorem dX9_sky_90 : decode cX9_sky 90 = .ok (.sipush (-300), 3) := dk_17 254 212 (dk_at dksX9_sky_3 18 rfl rfl)
theorem dX9_sky_93 : decode cX9_sky 93 = .ok (.aload_n 0, 1) := dk_42 (dk_at dksX9_sky_3 21 rfl rfl)
theorem dX9_sky_94 : decode cX9_sky 94 = .ok (.getfield 139, 3) := dk_180 0 139 (dk_at dksX9_sky_4 0 rfl rfl)
theorem dX9_sky_97 : decode cX9_sky 97 = .ok (.isub, 1) := dk_100 (dk_at dksX9_sky_4 3 rfl rfl)
theorem dX9_sky_98 : decode cX9_sky 98 = .ok (.ireturn, 1) := dk_172 (dk_at dksX9_sky_4 4 rfl rfl)
theorem dX9_sky_99 : decode cX9_sky 99 = .ok (.aload_n 0, 1) := dk_42 (dk_at dksX9_sky_4 5 rfl rfl)
theorem dX9_sky_100 : decode cX9_sky 100 = .ok (.getfield 9, 3) := dk_180 0 9 (dk_at dksX9_sky_4 6 rfl rfl)
theorem dX9_sky_103 : decode cX9_sky 103 = .ok (.bipush 12, 2) := dk_16 12 (dk_at dksX9_sky_4 9 rfl rfl)
theorem dX9_sky_105 : decode cX9_sky 105 = .ok (.aload_n 0, 1) := dk_42 (dk_at dksX9_sky_4 11 rfl rfl)
theorem dX9_sky_106 : decode cX9_sky 106 = .ok (.getfield 145, 3) := dk_180 0 145 (dk_at dksX9_sky_4 12 rfl rfl)
theorem dX9_sky_109 : decode cX9_sky 109 = .ok (.iastore, 1) := dk_79 (dk_at dksX9_sky_4 15 rfl rfl)
theorem dX9_sky_110 : decode cX9_sky 110 = .ok (.iconst 0, 1) := dk_3 (dk_at dksX9_sky_4 16 rfl rfl)
theorem dX9_sky_111 : decode cX9_sky 111 = .ok (.istore_n 2, 1) := dk_61 (dk_at dksX9_sky_4 17 rfl rfl)
theorem dX9_sky_112 : decode cX9_sky 112 = .ok (.iload_n 2, 1) := dk_28 (dk_at dksX9_sky_4 18 rfl rfl)
theorem dX9_sky_113 : decode cX9_sky 113 = .ok (.iconst 2, 1) := dk_5 (dk_at dksX9_sky_4 19 rfl rfl)
theorem dX9_sky_114 : decode cX9_sky 114 = .ok (.aload_n 0, 1) := dk_42 (dk_at dksX9_sky_4 20 rfl rfl)
theorem dX9_sky_115 : decode cX9_sky 115 = .ok (.getfield 145, 3) := dk_180 0 145 (dk_at dksX9_sky_4 21 rfl rfl)
theorem dX9_sky_118 : decode cX9_sky 118 = .ok (.imul, 1) := dk_104 (dk_at dksX9_sky_5 0 rfl rfl)
theorem dX9_sky_119 : decode cX9_sky 119 = .ok (.if_icmp .ge 24, 3) := dk_162 0 24 (dk_at dksX9_sky_5 1 rfl rfl)
theorem dX9_sky_122 : decode cX9_sky 122 = .ok (.aload_n 0, 1) := dk_42 (dk_at dksX9_sky_5 4 rfl rfl)
theorem dX9_sky_123 : decode cX9_sky 123 = .ok (.getfield 9, 3) := dk_180 0 9 (dk_at dksX9_sky_5 5 rfl rfl)
theorem dX9_sky_126 : decode cX9_sky 126 = .ok (.bipush 21, 2) := dk_16 21 (dk_at dksX9_sky_5 8 rfl rfl)
theorem dX9_sky_128 : decode cX9_sky 128 = .ok (.iload_n 2, 1) := dk_28 (dk_at dksX9_sky_5 10 rfl rfl)
theorem dX9_sky_129 : decode cX9_sky 129 = .ok (.iadd, 1) := dk_96 (dk_at dksX9_sky_5 11 rfl rfl)
theorem dX9_sky_130 : decode cX9_sky 130 = .ok (.aload_n 0, 1) := dk_42 (dk_at dksX9_sky_5 12 rfl rfl)
theorem dX9_sky_131 : decode cX9_sky 131 = .ok (.getfield 25, 3) := dk_180 0 25 (dk_at dksX9_sky_5 13 rfl rfl)
theorem dX9_sky_134 : decode cX9_sky 134 = .ok (.iload_n 2, 1) := dk_28 (dk_at dksX9_sky_5 16 rfl rfl)
theorem dX9_sky_135 : decode cX9_sky 135 = .ok (.iaload, 1) := dk_46 (dk_at dksX9_sky_5 17 rfl rfl)
theorem dX9_sky_136 : decode cX9_sky 136 = .ok (.iastore, 1) := dk_79 (dk_at dksX9_sky_5 18 rfl rfl)
theorem dX9_sky_137 : decode cX9_sky 137 = .ok (.iinc 2 1, 3) := dk_132 2 1 (dk_at dksX9_sky_5 19 rfl rfl)
theorem dX9_sky_140 : decode cX9_sky 140 = .ok (.goto (-28), 3) := dk_167 255 228 (dk_at dksX9_sky_6 0 rfl rfl)
theorem dX9_sky_143 : decode cX9_sky 143 = .ok (.aload_n 0, 1) := dk_42 (dk_at dksX9_sky_6 3 rfl rfl)
theorem dX9_sky_144 : decode cX9_sky 144 = .ok (.getfield 145, 3) := dk_180 0 145 (dk_at dksX9_sky_6 4 rfl rfl)
theorem dX9_sky_147 : decode cX9_sky 147 = .ok (.ireturn, 1) := dk_172 (dk_at dksX9_sky_6 7 rfl rfl)
abbrev cX9_isRun : ByteArray := prog_34_method_25_code
def yX9_isRun : MethodName := ⟨RX9, "isRun", "()Z"⟩
def dkwX9_isRun_7 : List UInt8 := [180, 0, 145, 104, 4, 96, 28, 79, 42, 89, 180, 0, 145, 4, 96, 181, 0, 145, 4, 172]
abbrev dktX9_isRun_7 : List UInt8 := dkwX9_isRun_7 ++ []
def dkwX9_isRun_6 : List UInt8 := [3, 167, 0, 14, 27, 16, 102, 160, 0, 7, 4, 167, 0, 4, 5, 79, 42, 180, 0, 25, 5, 42]
abbrev dktX9_isRun_6 : List UInt8 := dkwX9_isRun_6 ++ dktX9_isRun_7
def dkwX9_isRun_5 : List UInt8 := [180, 0, 139, 29, 96, 181, 0, 139, 42, 180, 0, 25, 5, 42, 180, 0, 145, 104, 27, 16, 99, 160, 0, 7]
abbrev dktX9_isRun_5 : List UInt8 := dkwX9_isRun_5 ++ dktX9_isRun_6
def dkwX9_isRun_4 : List UInt8 := [16, 48, 100, 61, 132, 3, 1, 167, 255, 206, 29, 153, 0, 7, 28, 154, 0, 5, 3, 172, 42, 89]
abbrev dktX9_isRun_4 : List UInt8 := dkwX9_isRun_4 ++ dktX9_isRun_5
def dkwX9_isRun_3 : List UInt8 := [20, 0, 150, 184, 0, 54, 153, 0, 28, 16, 10, 28, 104, 42, 42, 180, 0, 139, 29, 96, 182, 0, 142, 96]
abbrev dktX9_isRun_3 : List UInt8 := dkwX9_isRun_3 ++ dktX9_isRun_4
def dkwX9_isRun_2 : List UInt8 := [3, 61, 3, 62, 29, 5, 162, 0, 51, 42, 42, 180, 0, 139, 29, 96, 182, 0, 142, 133, 20, 0, 148]
abbrev dktX9_isRun_2 : List UInt8 := dkwX9_isRun_2 ++ dktX9_isRun_3
def dkwX9_isRun_1 : List UInt8 := [27, 16, 102, 159, 0, 11, 27, 16, 115, 159, 0, 5, 3, 172, 42, 89, 180, 0, 139, 4, 96, 181, 0, 139]
abbrev dktX9_isRun_1 : List UInt8 := dkwX9_isRun_1 ++ dktX9_isRun_2
def dkwX9_isRun_0 : List UInt8 := [42, 42, 180, 0, 139, 182, 0, 142, 60, 42, 180, 0, 145, 16, 20, 159, 0, 21, 27, 16, 99, 159, 0, 17]
abbrev dktX9_isRun_0 : List UInt8 := dkwX9_isRun_0 ++ dktX9_isRun_1
theorem dksX9_isRun_0 : cX9_isRun.data.toList.drop 0 = dktX9_isRun_0 := by decide +kernel
theorem dksX9_isRun_1 : cX9_isRun.data.toList.drop 24 = dktX9_isRun_1 := dk_seg dksX9_isRun_0 24 rfl rfl
theorem dksX9_isRun_2 : cX9_isRun.data.toList.drop 48 = dktX9_isRun_2 := dk_seg dksX9_isRun_1 24 rfl rfl
theorem dksX9_isRun_3 : cX9_isRun.data.toList.drop 71 = dktX9_isRun_3 := dk_seg dksX9_isRun_2 23 rfl rfl
theorem dksX9_isRun_4 : cX9_isRun.data.toList.drop 95 = dktX9_isRun_4 := dk_seg dksX9_isRun_3 24 rfl rfl
theorem dksX9_isRun_5 : cX9_isRun.data.toList.drop 117 = dktX9_isRun_5 := dk_seg dksX9_isRun_4 22 rfl rfl
theorem dksX9_isRun_6 : cX9_isRun.data.toList.drop 141 = dktX9_isRun_6 := dk_seg dksX9_isRun_5 24 rfl rfl
theorem dksX9_isRun_7 : cX9_isRun.data.toList.drop 163 = dktX9_isRun_7 := dk_seg dksX9_isRun_6 22 rfl rfl
theorem dX9_isRun_0 : decode cX9_isRun 0 = .ok (.aload_n 0, 1) := dk_42 (dk_at dksX9_isRun_0 0 rfl rfl)
theorem dX9_isRun_1 : decode cX9_isRun 1 = .ok (.aload_n 0, 1) := dk_42 (dk_at dksX9_isRun_0 1 rfl rfl)
theorem dX9_isRun_2 : decode cX9_isRun 2 = .ok (.getfield 139, 3) := dk_180 0 139 (dk_at dksX9_isRun_0 2 rfl rfl)
theorem dX9_isRun_5 : decode cX9_isRun 5 = .ok (.invokevirtual 142, 3) := dk_182 0 142 (dk_at dksX9_isRun_0 5 rfl rfl)
theorem dX9_isRun_8 : decode cX9_isRun 8 = .ok (.istore_n 1, 1) := dk_60 (dk_at dksX9_isRun_0 8 rfl rfl)
theorem dX9_isRun_9 : decode cX9_isRun 9 = .ok (.aload_n 0, 1) := dk_42 (dk_at dksX9_isRun_0 9 rfl rfl)
theorem dX9_isRun_10 : decode cX9_isRun 10 = .ok (.getfield 145, 3) := dk_180 0 145 (dk_at dksX9_isRun_0 10 rfl rfl)
theorem dX9_isRun_13 : decode cX9_isRun 13 = .ok (.bipush 20, 2) := dk_16 20 (dk_at dksX9_isRun_0 13 rfl rfl)
theorem dX9_isRun_15 : decode cX9_isRun 15 = .ok (.if_icmp .eq 21, 3) := dk_159 0 21 (dk_at dksX9_isRun_0 15 rfl rfl)
theorem dX9_isRun_18 : decode cX9_isRun 18 = .ok (.iload_n 1, 1) := dk_27 (dk_at dksX9_isRun_0 18 rfl rfl)
theorem dX9_isRun_19 : decode cX9_isRun 19 = .ok (.bipush 99, 2) := dk_16 99 (dk_at dksX9_isRun_0 19 rfl rfl)
theorem dX9_isRun_21 : decode cX9_isRun 21 = .ok (.if_icmp .eq 17, 3) := dk_159 0 17 (dk_at dksX9_isRun_0 21 rfl rfl)
theorem dX9_isRun_24 : decode cX9_isRun 24 = .ok (.iload_n 1, 1) := dk_27 (dk_at dksX9_isRun_1 0 rfl rfl)
theorem dX9_isRun_25 : decode cX9_isRun 25 = .ok (.bipush 102, 2) := dk_16 102 (dk_at dksX9_isRun_1 1 rfl rfl)
theorem dX9_isRun_27 : decode cX9_isRun 27 = .ok (.if_icmp .eq 11, 3) := dk_159 0 11 (dk_at dksX9_isRun_1 3 rfl rfl)
theorem dX9_isRun_30 : decode cX9_isRun 30 = .ok (.iload_n 1, 1) := dk_27 (dk_at dksX9_isRun_1 6 rfl rfl)
theorem dX9_isRun_31 : decode cX9_isRun 31 = .ok (.bipush 115, 2) := dk_16 115 (dk_at dksX9_isRun_1 7 rfl rfl)
theorem dX9_isRun_33 : decode cX9_isRun 33 = .ok (.if_icmp .eq 5, 3) := dk_159 0 5 (dk_at dksX9_isRun_1 9 rfl rfl)
theorem dX9_isRun_36 : decode cX9_isRun 36 = .ok (.iconst 0, 1) := dk_3 (dk_at dksX9_isRun_1 12 rfl rfl)
theorem dX9_isRun_37 : decode cX9_isRun 37 = .ok (.ireturn, 1) := dk_172 (dk_at dksX9_isRun_1 13 rfl rfl)
theorem dX9_isRun_38 : decode cX9_isRun 38 = .ok (.aload_n 0, 1) := dk_42 (dk_at dksX9_isRun_1 14 rfl rfl)
theorem dX9_isRun_39 : decode cX9_isRun 39 = .ok (.dup, 1) := dk_89 (dk_at dksX9_isRun_1 15 rfl rfl)
theorem dX9_isRun_40 : decode cX9_isRun 40 = .ok (.getfield 139, 3) := dk_180 0 139 (dk_at dksX9_isRun_1 16 rfl rfl)
theorem dX9_isRun_43 : decode cX9_isRun 43 = .ok (.iconst 1, 1) := dk_4 (dk_at dksX9_isRun_1 19 rfl rfl)
theorem dX9_isRun_44 : decode cX9_isRun 44 = .ok (.iadd, 1) := dk_96 (dk_at dksX9_isRun_1 20 rfl rfl)
theorem dX9_isRun_45 : decode cX9_isRun 45 = .ok (.putfield 139, 3) := dk_181 0 139 (dk_at dksX9_isRun_1 21 rfl rfl)
theorem dX9_isRun_48 : decode cX9_isRun 48 = .ok (.iconst 0, 1) := dk_3 (dk_at dksX9_isRun_2 0 rfl rfl)
theorem dX9_isRun_49 : decode cX9_isRun 49 = .ok (.istore_n 2, 1) := dk_61 (dk_at dksX9_isRun_2 1 rfl rfl)
theorem dX9_isRun_50 : decode cX9_isRun 50 = .ok (.iconst 0, 1) := dk_3 (dk_at dksX9_isRun_2 2 rfl rfl)
theorem dX9_isRun_51 : decode cX9_isRun 51 = .ok (.istore_n 3, 1) := dk_62 (dk_at dksX9_isRun_2 3 rfl rfl)
theorem dX9_isRun_52 : decode cX9_isRun 52 = .ok (.iload_n 3, 1) := dk_29 (dk_at dksX9_isRun_2 4 rfl rfl)
theorem dX9_isRun_53 : decode cX9_isRun 53 = .ok (.iconst 2, 1) := dk_5 (dk_at dksX9_isRun_2 5 rfl rfl)
theorem dX9_isRun_54 : decode cX9_isRun 54 = .ok (.if_icmp .ge 51, 3) := dk_162 0 51 (dk_at dksX9_isRun_2 6 rfl rfl)
theorem dX9_isRun_57 : decode cX9_isRun 57 = .ok (.aload_n 0, 1) := dk_42 (dk_at dksX9_isRun_2 9 rfl rfl)
theorem dX9_isRun_58 : decode cX9_isRun 58 = .ok (.aload_n 0, 1) := dk_42 (dk_at dksX9_isRun_2 10 rfl rfl)
theorem dX9_isRun_59 : decode cX9_isRun 59 = .ok (.getfield 139, 3) := dk_180 0 139 (dk_at dksX9_isRun_2 11 rfl rfl)
theorem dX9_isRun_62 : decode cX9_isRun 62 = .ok (.iload_n 3, 1) := dk_29 (dk_at dksX9_isRun_2 14 rfl rfl)
theorem dX9_isRun_63 : decode cX9_isRun 63 = .ok (.iadd, 1) := dk_96 (dk_at dksX9_isRun_2 15 rfl rfl)
theorem dX9_isRun_64 : decode cX9_isRun 64 = .ok (.invokevirtual 142, 3) := dk_182 0 142 (dk_at dksX9_isRun_2 16 rfl rfl)
theorem dX9_isRun_67 : decode cX9_isRun 67 = .ok (.i2l, 1) := dk_133 (dk_at dksX9_isRun_2 19 rfl rfl)
theorem dX9_isRun_68 : decode cX9_isRun 68 = .ok (.ldc2_w 148, 3) := dk_20 0 148 (dk_at dksX9_isRun_2 20 rfl rfl)
theorem dX9_isRun_71 : decode cX9_isRun 71 = .ok (.ldc2_w 150, 3) := dk_20 0 150 (dk_at dksX9_isRun_3 0 rfl rfl)
theorem dX9_isRun_74 : decode cX9_isRun 74 = .ok (.invokestatic 54, 3) := dk_184 0 54 (dk_at dksX9_isRun_3 3 rfl rfl)
theorem dX9_isRun_77 : decode cX9_isRun 77 = .ok (.ifCond .eq 28, 3) := dk_153 0 28 (dk_at dksX9_isRun_3 6 rfl rfl)
theorem dX9_isRun_80 : decode cX9_isRun 80 = .ok (.bipush 10, 2) := dk_16 10 (dk_at dksX9_isRun_3 9 rfl rfl)
theorem dX9_isRun_82 : decode cX9_isRun 82 = .ok (.iload_n 2, 1) := dk_28 (dk_at dksX9_isRun_3 11 rfl rfl)
theorem dX9_isRun_83 : decode cX9_isRun 83 = .ok (.imul, 1) := dk_104 (dk_at dksX9_isRun_3 12 rfl rfl)
theorem dX9_isRun_84 : decode cX9_isRun 84 = .ok (.aload_n 0, 1) := dk_42 (dk_at dksX9_isRun_3 13 rfl rfl)
theorem dX9_isRun_85 : decode cX9_isRun 85 = .ok (.aload_n 0, 1) := dk_42 (dk_at dksX9_isRun_3 14 rfl rfl)
theorem dX9_isRun_86 : decode cX9_isRun 86 = .ok (.getfield 139, 3) := dk_180 0 139 (dk_at dksX9_isRun_3 15 rfl rfl)
theorem dX9_isRun_89 : decode cX9_isRun 89 = .ok (.iload_n 3, 1) := dk_29 (dk_at dksX9_isRun_3 18 rfl rfl)
theorem dX9_isRun_90 : decode cX9_isRun 90 = .ok (.iadd, 1) := dk_96 (dk_at dksX9_isRun_3 19 rfl rfl)
theorem dX9_isRun_91 : decode cX9_isRun 91 = .ok (.invokevirtual 142, 3) := dk_182 0 142 (dk_at dksX9_isRun_3 20 rfl rfl)
theorem dX9_isRun_94 : decode cX9_isRun 94 = .ok (.iadd, 1) := dk_96 (dk_at dksX9_isRun_3 23 rfl rfl)
theorem dX9_isRun_95 : decode cX9_isRun 95 = .ok (.bipush 48, 2) := dk_16 48 (dk_at dksX9_isRun_4 0 rfl rfl)
theorem dX9_isRun_97 : decode cX9_isRun 97 = .ok (.isub, 1) := dk_100 (dk_at dksX9_isRun_4 2 rfl rfl)
theorem dX9_isRun_98 : decode cX9_isRun 98 = .ok (.istore_n 2, 1) := dk_61 (dk_at dksX9_isRun_4 3 rfl rfl)
theorem dX9_isRun_99 : decode cX9_isRun 99 = .ok (.iinc 3 1, 3) := dk_132 3 1 (dk_at dksX9_isRun_4 4 rfl rfl)
theorem dX9_isRun_102 : decode cX9_isRun 102 = .ok (.goto (-50), 3) := dk_167 255 206 (dk_at dksX9_isRun_4 7 rfl rfl)
theorem dX9_isRun_105 : decode cX9_isRun 105 = .ok (.iload_n 3, 1) := dk_29 (dk_at dksX9_isRun_4 10 rfl rfl)
theorem dX9_isRun_106 : decode cX9_isRun 106 = .ok (.ifCond .eq 7, 3) := dk_153 0 7 (dk_at dksX9_isRun_4 11 rfl rfl)
theorem dX9_isRun_109 : decode cX9_isRun 109 = .ok (.iload_n 2, 1) := dk_28 (dk_at dksX9_isRun_4 14 rfl rfl)
theorem dX9_isRun_110 : decode cX9_isRun 110 = .ok (.ifCond .ne 5, 3) := dk_154 0 5 (dk_at dksX9_isRun_4 15 rfl rfl)
theorem dX9_isRun_113 : decode cX9_isRun 113 = .ok (.iconst 0, 1) := dk_3 (dk_at dksX9_isRun_4 18 rfl rfl)
theorem dX9_isRun_114 : decode cX9_isRun 114 = .ok (.ireturn, 1) := dk_172 (dk_at dksX9_isRun_4 19 rfl rfl)
theorem dX9_isRun_115 : decode cX9_isRun 115 = .ok (.aload_n 0, 1) := dk_42 (dk_at dksX9_isRun_4 20 rfl rfl)
theorem dX9_isRun_116 : decode cX9_isRun 116 = .ok (.dup, 1) := dk_89 (dk_at dksX9_isRun_4 21 rfl rfl)
theorem dX9_isRun_117 : decode cX9_isRun 117 = .ok (.getfield 139, 3) := dk_180 0 139 (dk_at dksX9_isRun_5 0 rfl rfl)
theorem dX9_isRun_120 : decode cX9_isRun 120 = .ok (.iload_n 3, 1) := dk_29 (dk_at dksX9_isRun_5 3 rfl rfl)
theorem dX9_isRun_121 : decode cX9_isRun 121 = .ok (.iadd, 1) := dk_96 (dk_at dksX9_isRun_5 4 rfl rfl)
theorem dX9_isRun_122 : decode cX9_isRun 122 = .ok (.putfield 139, 3) := dk_181 0 139 (dk_at dksX9_isRun_5 5 rfl rfl)
theorem dX9_isRun_125 : decode cX9_isRun 125 = .ok (.aload_n 0, 1) := dk_42 (dk_at dksX9_isRun_5 8 rfl rfl)
theorem dX9_isRun_126 : decode cX9_isRun 126 = .ok (.getfield 25, 3) := dk_180 0 25 (dk_at dksX9_isRun_5 9 rfl rfl)
theorem dX9_isRun_129 : decode cX9_isRun 129 = .ok (.iconst 2, 1) := dk_5 (dk_at dksX9_isRun_5 12 rfl rfl)
theorem dX9_isRun_130 : decode cX9_isRun 130 = .ok (.aload_n 0, 1) := dk_42 (dk_at dksX9_isRun_5 13 rfl rfl)
theorem dX9_isRun_131 : decode cX9_isRun 131 = .ok (.getfield 145, 3) := dk_180 0 145 (dk_at dksX9_isRun_5 14 rfl rfl)
theorem dX9_isRun_134 : decode cX9_isRun 134 = .ok (.imul, 1) := dk_104 (dk_at dksX9_isRun_5 17 rfl rfl)
theorem dX9_isRun_135 : decode cX9_isRun 135 = .ok (.iload_n 1, 1) := dk_27 (dk_at dksX9_isRun_5 18 rfl rfl)
theorem dX9_isRun_136 : decode cX9_isRun 136 = .ok (.bipush 99, 2) := dk_16 99 (dk_at dksX9_isRun_5 19 rfl rfl)
theorem dX9_isRun_138 : decode cX9_isRun 138 = .ok (.if_icmp .ne 7, 3) := dk_160 0 7 (dk_at dksX9_isRun_5 21 rfl rfl)
theorem dX9_isRun_141 : decode cX9_isRun 141 = .ok (.iconst 0, 1) := dk_3 (dk_at dksX9_isRun_6 0 rfl rfl)
theorem dX9_isRun_142 : decode cX9_isRun 142 = .ok (.goto 14, 3) := dk_167 0 14 (dk_at dksX9_isRun_6 1 rfl rfl)
theorem dX9_isRun_145 : decode cX9_isRun 145 = .ok (.iload_n 1, 1) := dk_27 (dk_at dksX9_isRun_6 4 rfl rfl)
theorem dX9_isRun_146 : decode cX9_isRun 146 = .ok (.bipush 102, 2) := dk_16 102 (dk_at dksX9_isRun_6 5 rfl rfl)
theorem dX9_isRun_148 : decode cX9_isRun 148 = .ok (.if_icmp .ne 7, 3) := dk_160 0 7 (dk_at dksX9_isRun_6 7 rfl rfl)
theorem dX9_isRun_151 : decode cX9_isRun 151 = .ok (.iconst 1, 1) := dk_4 (dk_at dksX9_isRun_6 10 rfl rfl)
theorem dX9_isRun_152 : decode cX9_isRun 152 = .ok (.goto 4, 3) := dk_167 0 4 (dk_at dksX9_isRun_6 11 rfl rfl)
theorem dX9_isRun_155 : decode cX9_isRun 155 = .ok (.iconst 2, 1) := dk_5 (dk_at dksX9_isRun_6 14 rfl rfl)
theorem dX9_isRun_156 : decode cX9_isRun 156 = .ok (.iastore, 1) := dk_79 (dk_at dksX9_isRun_6 15 rfl rfl)
theorem dX9_isRun_157 : decode cX9_isRun 157 = .ok (.aload_n 0, 1) := dk_42 (dk_at dksX9_isRun_6 16 rfl rfl)
theorem dX9_isRun_158 : decode cX9_isRun 158 = .ok (.getfield 25, 3) := dk_180 0 25 (dk_at dksX9_isRun_6 17 rfl rfl)
theorem dX9_isRun_161 : decode cX9_isRun 161 = .ok (.iconst 2, 1) := dk_5 (dk_at dksX9_isRun_6 20 rfl rfl)
theorem dX9_isRun_162 : decode cX9_isRun 162 = .ok (.aload_n 0, 1) := dk_42 (dk_at dksX9_isRun_6 21 rfl rfl)
theorem dX9_isRun_163 : decode cX9_isRun 163 = .ok (.getfield 145, 3) := dk_180 0 145 (dk_at dksX9_isRun_7 0 rfl rfl)
theorem dX9_isRun_166 : decode cX9_isRun 166 = .ok (.imul, 1) := dk_104 (dk_at dksX9_isRun_7 3 rfl rfl)
theorem dX9_isRun_167 : decode cX9_isRun 167 = .ok (.iconst 1, 1) := dk_4 (dk_at dksX9_isRun_7 4 rfl rfl)
theorem dX9_isRun_168 : decode cX9_isRun 168 = .ok (.iadd, 1) := dk_96 (dk_at dksX9_isRun_7 5 rfl rfl)
theorem dX9_isRun_169 : decode cX9_isRun 169 = .ok (.iload_n 2, 1) := dk_28 (dk_at dksX9_isRun_7 6 rfl rfl)
theorem dX9_isRun_170 : decode cX9_isRun 170 = .ok (.iastore, 1) := dk_79 (dk_at dksX9_isRun_7 7 rfl rfl)
theorem dX9_isRun_171 : decode cX9_isRun 171 = .ok (.aload_n 0, 1) := dk_42 (dk_at dksX9_isRun_7 8 rfl rfl)
theorem dX9_isRun_172 : decode cX9_isRun 172 = .ok (.dup, 1) := dk_89 (dk_at dksX9_isRun_7 9 rfl rfl)
theorem dX9_isRun_173 : decode cX9_isRun 173 = .ok (.getfield 145, 3) := dk_180 0 145 (dk_at dksX9_isRun_7 10 rfl rfl)
theorem dX9_isRun_176 : decode cX9_isRun 176 = .ok (.iconst 1, 1) := dk_4 (dk_at dksX9_isRun_7 13 rfl rfl)
theorem dX9_isRun_177 : decode cX9_isRun 177 = .ok (.iadd, 1) := dk_96 (dk_at dksX9_isRun_7 14 rfl rfl)
theorem dX9_isRun_178 : decode cX9_isRun 178 = .ok (.putfield 145, 3) := dk_181 0 145 (dk_at dksX9_isRun_7 15 rfl rfl)
theorem dX9_isRun_181 : decode cX9_isRun 181 = .ok (.iconst 1, 1) := dk_4 (dk_at dksX9_isRun_7 18 rfl rfl)
theorem dX9_isRun_182 : decode cX9_isRun 182 = .ok (.ireturn, 1) := dk_172 (dk_at dksX9_isRun_7 19 rfl rfl)
abbrev cX9_byteAt : ByteArray := prog_34_method_24_code
def yX9_byteAt : MethodName := ⟨RX9, "byteAt", "(I)I"⟩
def dkwX9_byteAt_0 : List UInt8 := [27, 42, 180, 0, 135, 162, 0, 12, 42, 180, 0, 22, 27, 46, 167, 0, 4, 2, 172]
abbrev dktX9_byteAt_0 : List UInt8 := dkwX9_byteAt_0 ++ []
theorem dksX9_byteAt_0 : cX9_byteAt.data.toList.drop 0 = dktX9_byteAt_0 := by decide +kernel
theorem dX9_byteAt_0 : decode cX9_byteAt 0 = .ok (.iload_n 1, 1) := dk_27 (dk_at dksX9_byteAt_0 0 rfl rfl)
theorem dX9_byteAt_1 : decode cX9_byteAt 1 = .ok (.aload_n 0, 1) := dk_42 (dk_at dksX9_byteAt_0 1 rfl rfl)
theorem dX9_byteAt_2 : decode cX9_byteAt 2 = .ok (.getfield 135, 3) := dk_180 0 135 (dk_at dksX9_byteAt_0 2 rfl rfl)
theorem dX9_byteAt_5 : decode cX9_byteAt 5 = .ok (.if_icmp .ge 12, 3) := dk_162 0 12 (dk_at dksX9_byteAt_0 5 rfl rfl)
theorem dX9_byteAt_8 : decode cX9_byteAt 8 = .ok (.aload_n 0, 1) := dk_42 (dk_at dksX9_byteAt_0 8 rfl rfl)
theorem dX9_byteAt_9 : decode cX9_byteAt 9 = .ok (.getfield 22, 3) := dk_180 0 22 (dk_at dksX9_byteAt_0 9 rfl rfl)
theorem dX9_byteAt_12 : decode cX9_byteAt 12 = .ok (.iload_n 1, 1) := dk_27 (dk_at dksX9_byteAt_0 12 rfl rfl)
theorem dX9_byteAt_13 : decode cX9_byteAt 13 = .ok (.iaload, 1) := dk_46 (dk_at dksX9_byteAt_0 13 rfl rfl)
theorem dX9_byteAt_14 : decode cX9_byteAt 14 = .ok (.goto 4, 3) := dk_167 0 4 (dk_at dksX9_byteAt_0 14 rfl rfl)
theorem dX9_byteAt_17 : decode cX9_byteAt 17 = .ok (.iconst (-1), 1) := dk_2 (dk_at dksX9_byteAt_0 17 rfl rfl)
theorem dX9_byteAt_18 : decode cX9_byteAt 18 = .ok (.ireturn, 1) := dk_172 (dk_at dksX9_byteAt_0 18 rfl rfl)
abbrev cX9_keeper : ByteArray := prog_34_method_27_code
def yX9_keeper : MethodName := ⟨RX9, "keeper", "(I)I"⟩
def dkwX9_keeper_4 : List UInt8 := [42, 180, 0, 9, 16, 13, 28, 4, 96, 79, 28, 172]
abbrev dktX9_keeper_4 : List UInt8 := dkwX9_keeper_4 ++ []
def dkwX9_keeper_3 : List UInt8 := [16, 61, 7, 28, 104, 96, 5, 96, 3, 79, 42, 180, 0, 9, 16, 61, 7, 28, 104, 96, 6, 96, 3, 79]
abbrev dktX9_keeper_3 : List UInt8 := dkwX9_keeper_3 ++ dktX9_keeper_4
def dkwX9_keeper_2 : List UInt8 := [28, 104, 96, 27, 79, 42, 180, 0, 9, 16, 61, 7, 28, 104, 96, 4, 96, 3, 79, 42, 180, 0, 9]
abbrev dktX9_keeper_2 : List UInt8 := dkwX9_keeper_2 ++ dktX9_keeper_3
def dkwX9_keeper_1 : List UInt8 := [16, 13, 46, 61, 28, 16, 6, 160, 0, 10, 42, 16, 150, 182, 0, 132, 172, 42, 180, 0, 9, 16, 61, 7]
abbrev dktX9_keeper_1 : List UInt8 := dkwX9_keeper_1 ++ dktX9_keeper_2
def dkwX9_keeper_0 : List UInt8 := [27, 133, 9, 20, 0, 156, 184, 0, 54, 154, 0, 10, 42, 16, 154, 182, 0, 132, 172, 42, 180, 0, 9]
abbrev dktX9_keeper_0 : List UInt8 := dkwX9_keeper_0 ++ dktX9_keeper_1
theorem dksX9_keeper_0 : cX9_keeper.data.toList.drop 0 = dktX9_keeper_0 := by decide +kernel
theorem dksX9_keeper_1 : cX9_keeper.data.toList.drop 23 = dktX9_keeper_1 := dk_seg dksX9_keeper_0 23 rfl rfl
theorem dksX9_keeper_2 : cX9_keeper.data.toList.drop 47 = dktX9_keeper_2 := dk_seg dksX9_keeper_1 24 rfl rfl
theorem dksX9_keeper_3 : cX9_keeper.data.toList.drop 70 = dktX9_keeper_3 := dk_seg dksX9_keeper_2 23 rfl rfl
theorem dksX9_keeper_4 : cX9_keeper.data.toList.drop 94 = dktX9_keeper_4 := dk_seg dksX9_keeper_3 24 rfl rfl
theorem dX9_keeper_0 : decode cX9_keeper 0 = .ok (.iload_n 1, 1) := dk_27 (dk_at dksX9_keeper_0 0 rfl rfl)
theorem dX9_keeper_1 : decode cX9_keeper 1 = .ok (.i2l, 1) := dk_133 (dk_at dksX9_keeper_0 1 rfl rfl)
theorem dX9_keeper_2 : decode cX9_keeper 2 = .ok (.lconst 0, 1) := dk_9 (dk_at dksX9_keeper_0 2 rfl rfl)
theorem dX9_keeper_3 : decode cX9_keeper 3 = .ok (.ldc2_w 156, 3) := dk_20 0 156 (dk_at dksX9_keeper_0 3 rfl rfl)
theorem dX9_keeper_6 : decode cX9_keeper 6 = .ok (.invokestatic 54, 3) := dk_184 0 54 (dk_at dksX9_keeper_0 6 rfl rfl)
theorem dX9_keeper_9 : decode cX9_keeper 9 = .ok (.ifCond .ne 10, 3) := dk_154 0 10 (dk_at dksX9_keeper_0 9 rfl rfl)
theorem dX9_keeper_12 : decode cX9_keeper 12 = .ok (.aload_n 0, 1) := dk_42 (dk_at dksX9_keeper_0 12 rfl rfl)
theorem dX9_keeper_13 : decode cX9_keeper 13 = .ok (.bipush (-102), 2) := dk_16 154 (dk_at dksX9_keeper_0 13 rfl rfl)
theorem dX9_keeper_15 : decode cX9_keeper 15 = .ok (.invokevirtual 132, 3) := dk_182 0 132 (dk_at dksX9_keeper_0 15 rfl rfl)
theorem dX9_keeper_18 : decode cX9_keeper 18 = .ok (.ireturn, 1) := dk_172 (dk_at dksX9_keeper_0 18 rfl rfl)
theorem dX9_keeper_19 : decode cX9_keeper 19 = .ok (.aload_n 0, 1) := dk_42 (dk_at dksX9_keeper_0 19 rfl rfl)
theorem dX9_keeper_20 : decode cX9_keeper 20 = .ok (.getfield 9, 3) := dk_180 0 9 (dk_at dksX9_keeper_0 20 rfl rfl)
theorem dX9_keeper_23 : decode cX9_keeper 23 = .ok (.bipush 13, 2) := dk_16 13 (dk_at dksX9_keeper_1 0 rfl rfl)
theorem dX9_keeper_25 : decode cX9_keeper 25 = .ok (.iaload, 1) := dk_46 (dk_at dksX9_keeper_1 2 rfl rfl)
theorem dX9_keeper_26 : decode cX9_keeper 26 = .ok (.istore_n 2, 1) := dk_61 (dk_at dksX9_keeper_1 3 rfl rfl)
theorem dX9_keeper_27 : decode cX9_keeper 27 = .ok (.iload_n 2, 1) := dk_28 (dk_at dksX9_keeper_1 4 rfl rfl)
theorem dX9_keeper_28 : decode cX9_keeper 28 = .ok (.bipush 6, 2) := dk_16 6 (dk_at dksX9_keeper_1 5 rfl rfl)
theorem dX9_keeper_30 : decode cX9_keeper 30 = .ok (.if_icmp .ne 10, 3) := dk_160 0 10 (dk_at dksX9_keeper_1 7 rfl rfl)
theorem dX9_keeper_33 : decode cX9_keeper 33 = .ok (.aload_n 0, 1) := dk_42 (dk_at dksX9_keeper_1 10 rfl rfl)
theorem dX9_keeper_34 : decode cX9_keeper 34 = .ok (.bipush (-106), 2) := dk_16 150 (dk_at dksX9_keeper_1 11 rfl rfl)
theorem dX9_keeper_36 : decode cX9_keeper 36 = .ok (.invokevirtual 132, 3) := dk_182 0 132 (dk_at dksX9_keeper_1 13 rfl rfl)
theorem dX9_keeper_39 : decode cX9_keeper 39 = .ok (.ireturn, 1) := dk_172 (dk_at dksX9_keeper_1 16 rfl rfl)
theorem dX9_keeper_40 : decode cX9_keeper 40 = .ok (.aload_n 0, 1) := dk_42 (dk_at dksX9_keeper_1 17 rfl rfl)
theorem dX9_keeper_41 : decode cX9_keeper 41 = .ok (.getfield 9, 3) := dk_180 0 9 (dk_at dksX9_keeper_1 18 rfl rfl)
theorem dX9_keeper_44 : decode cX9_keeper 44 = .ok (.bipush 61, 2) := dk_16 61 (dk_at dksX9_keeper_1 21 rfl rfl)
theorem dX9_keeper_46 : decode cX9_keeper 46 = .ok (.iconst 4, 1) := dk_7 (dk_at dksX9_keeper_1 23 rfl rfl)
theorem dX9_keeper_47 : decode cX9_keeper 47 = .ok (.iload_n 2, 1) := dk_28 (dk_at dksX9_keeper_2 0 rfl rfl)
theorem dX9_keeper_48 : decode cX9_keeper 48 = .ok (.imul, 1) := dk_104 (dk_at dksX9_keeper_2 1 rfl rfl)
theorem dX9_keeper_49 : decode cX9_keeper 49 = .ok (.iadd, 1) := dk_96 (dk_at dksX9_keeper_2 2 rfl rfl)
theorem dX9_keeper_50 : decode cX9_keeper 50 = .ok (.iload_n 1, 1) := dk_27 (dk_at dksX9_keeper_2 3 rfl rfl)
theorem dX9_keeper_51 : decode cX9_keeper 51 = .ok (.iastore, 1) := dk_79 (dk_at dksX9_keeper_2 4 rfl rfl)
theorem dX9_keeper_52 : decode cX9_keeper 52 = .ok (.aload_n 0, 1) := dk_42 (dk_at dksX9_keeper_2 5 rfl rfl)
theorem dX9_keeper_53 : decode cX9_keeper 53 = .ok (.getfield 9, 3) := dk_180 0 9 (dk_at dksX9_keeper_2 6 rfl rfl)
theorem dX9_keeper_56 : decode cX9_keeper 56 = .ok (.bipush 61, 2) := dk_16 61 (dk_at dksX9_keeper_2 9 rfl rfl)
theorem dX9_keeper_58 : decode cX9_keeper 58 = .ok (.iconst 4, 1) := dk_7 (dk_at dksX9_keeper_2 11 rfl rfl)
theorem dX9_keeper_59 : decode cX9_keeper 59 = .ok (.iload_n 2, 1) := dk_28 (dk_at dksX9_keeper_2 12 rfl rfl)
theorem dX9_keeper_60 : decode cX9_keeper 60 = .ok (.imul, 1) := dk_104 (dk_at dksX9_keeper_2 13 rfl rfl)
theorem dX9_keeper_61 : decode cX9_keeper 61 = .ok (.iadd, 1) := dk_96 (dk_at dksX9_keeper_2 14 rfl rfl)
theorem dX9_keeper_62 : decode cX9_keeper 62 = .ok (.iconst 1, 1) := dk_4 (dk_at dksX9_keeper_2 15 rfl rfl)
theorem dX9_keeper_63 : decode cX9_keeper 63 = .ok (.iadd, 1) := dk_96 (dk_at dksX9_keeper_2 16 rfl rfl)
theorem dX9_keeper_64 : decode cX9_keeper 64 = .ok (.iconst 0, 1) := dk_3 (dk_at dksX9_keeper_2 17 rfl rfl)
theorem dX9_keeper_65 : decode cX9_keeper 65 = .ok (.iastore, 1) := dk_79 (dk_at dksX9_keeper_2 18 rfl rfl)
theorem dX9_keeper_66 : decode cX9_keeper 66 = .ok (.aload_n 0, 1) := dk_42 (dk_at dksX9_keeper_2 19 rfl rfl)
theorem dX9_keeper_67 : decode cX9_keeper 67 = .ok (.getfield 9, 3) := dk_180 0 9 (dk_at dksX9_keeper_2 20 rfl rfl)
theorem dX9_keeper_70 : decode cX9_keeper 70 = .ok (.bipush 61, 2) := dk_16 61 (dk_at dksX9_keeper_3 0 rfl rfl)
theorem dX9_keeper_72 : decode cX9_keeper 72 = .ok (.iconst 4, 1) := dk_7 (dk_at dksX9_keeper_3 2 rfl rfl)
theorem dX9_keeper_73 : decode cX9_keeper 73 = .ok (.iload_n 2, 1) := dk_28 (dk_at dksX9_keeper_3 3 rfl rfl)
theorem dX9_keeper_74 : decode cX9_keeper 74 = .ok (.imul, 1) := dk_104 (dk_at dksX9_keeper_3 4 rfl rfl)
theorem dX9_keeper_75 : decode cX9_keeper 75 = .ok (.iadd, 1) := dk_96 (dk_at dksX9_keeper_3 5 rfl rfl)
theorem dX9_keeper_76 : decode cX9_keeper 76 = .ok (.iconst 2, 1) := dk_5 (dk_at dksX9_keeper_3 6 rfl rfl)
theorem dX9_keeper_77 : decode cX9_keeper 77 = .ok (.iadd, 1) := dk_96 (dk_at dksX9_keeper_3 7 rfl rfl)
theorem dX9_keeper_78 : decode cX9_keeper 78 = .ok (.iconst 0, 1) := dk_3 (dk_at dksX9_keeper_3 8 rfl rfl)
theorem dX9_keeper_79 : decode cX9_keeper 79 = .ok (.iastore, 1) := dk_79 (dk_at dksX9_keeper_3 9 rfl rfl)
theorem dX9_keeper_80 : decode cX9_keeper 80 = .ok (.aload_n 0, 1) := dk_42 (dk_at dksX9_keeper_3 10 rfl rfl)
theorem dX9_keeper_81 : decode cX9_keeper 81 = .ok (.getfield 9, 3) := dk_180 0 9 (dk_at dksX9_keeper_3 11 rfl rfl)
theorem dX9_keeper_84 : decode cX9_keeper 84 = .ok (.bipush 61, 2) := dk_16 61 (dk_at dksX9_keeper_3 14 rfl rfl)
theorem dX9_keeper_86 : decode cX9_keeper 86 = .ok (.iconst 4, 1) := dk_7 (dk_at dksX9_keeper_3 16 rfl rfl)
theorem dX9_keeper_87 : decode cX9_keeper 87 = .ok (.iload_n 2, 1) := dk_28 (dk_at dksX9_keeper_3 17 rfl rfl)
theorem dX9_keeper_88 : decode cX9_keeper 88 = .ok (.imul, 1) := dk_104 (dk_at dksX9_keeper_3 18 rfl rfl)
theorem dX9_keeper_89 : decode cX9_keeper 89 = .ok (.iadd, 1) := dk_96 (dk_at dksX9_keeper_3 19 rfl rfl)
theorem dX9_keeper_90 : decode cX9_keeper 90 = .ok (.iconst 3, 1) := dk_6 (dk_at dksX9_keeper_3 20 rfl rfl)
theorem dX9_keeper_91 : decode cX9_keeper 91 = .ok (.iadd, 1) := dk_96 (dk_at dksX9_keeper_3 21 rfl rfl)
theorem dX9_keeper_92 : decode cX9_keeper 92 = .ok (.iconst 0, 1) := dk_3 (dk_at dksX9_keeper_3 22 rfl rfl)
theorem dX9_keeper_93 : decode cX9_keeper 93 = .ok (.iastore, 1) := dk_79 (dk_at dksX9_keeper_3 23 rfl rfl)
theorem dX9_keeper_94 : decode cX9_keeper 94 = .ok (.aload_n 0, 1) := dk_42 (dk_at dksX9_keeper_4 0 rfl rfl)
theorem dX9_keeper_95 : decode cX9_keeper 95 = .ok (.getfield 9, 3) := dk_180 0 9 (dk_at dksX9_keeper_4 1 rfl rfl)
theorem dX9_keeper_98 : decode cX9_keeper 98 = .ok (.bipush 13, 2) := dk_16 13 (dk_at dksX9_keeper_4 4 rfl rfl)
theorem dX9_keeper_100 : decode cX9_keeper 100 = .ok (.iload_n 2, 1) := dk_28 (dk_at dksX9_keeper_4 6 rfl rfl)
theorem dX9_keeper_101 : decode cX9_keeper 101 = .ok (.iconst 1, 1) := dk_4 (dk_at dksX9_keeper_4 7 rfl rfl)
theorem dX9_keeper_102 : decode cX9_keeper 102 = .ok (.iadd, 1) := dk_96 (dk_at dksX9_keeper_4 8 rfl rfl)
theorem dX9_keeper_103 : decode cX9_keeper 103 = .ok (.iastore, 1) := dk_79 (dk_at dksX9_keeper_4 9 rfl rfl)
theorem dX9_keeper_104 : decode cX9_keeper 104 = .ok (.iload_n 2, 1) := dk_28 (dk_at dksX9_keeper_4 10 rfl rfl)
theorem dX9_keeper_105 : decode cX9_keeper 105 = .ok (.ireturn, 1) := dk_172 (dk_at dksX9_keeper_4 11 rfl rfl)
abbrev cX9_plan : ByteArray := prog_34_method_28_code
def yX9_plan : MethodName := ⟨RX9, "plan", "(II)I"⟩
def dkwX9_plan_2 : List UInt8 := [16, 85, 27, 96, 28, 79, 29, 172]
abbrev dktX9_plan_2 : List UInt8 := dkwX9_plan_2 ++ []
def dkwX9_plan_1 : List UInt8 := [154, 0, 10, 42, 16, 154, 182, 0, 132, 172, 42, 180, 0, 9, 16, 85, 27, 96, 46, 62, 42, 180, 0, 9]
abbrev dktX9_plan_1 : List UInt8 := dkwX9_plan_1 ++ dktX9_plan_2
def dkwX9_plan_0 : List UInt8 := [27, 133, 9, 20, 0, 158, 184, 0, 54, 153, 0, 16, 28, 2, 159, 0, 18, 42, 28, 182, 0, 160]
abbrev dktX9_plan_0 : List UInt8 := dkwX9_plan_0 ++ dktX9_plan_1
theorem dksX9_plan_0 : cX9_plan.data.toList.drop 0 = dktX9_plan_0 := by decide +kernel
theorem dksX9_plan_1 : cX9_plan.data.toList.drop 22 = dktX9_plan_1 := dk_seg dksX9_plan_0 22 rfl rfl
theorem dksX9_plan_2 : cX9_plan.data.toList.drop 46 = dktX9_plan_2 := dk_seg dksX9_plan_1 24 rfl rfl
theorem dX9_plan_0 : decode cX9_plan 0 = .ok (.iload_n 1, 1) := dk_27 (dk_at dksX9_plan_0 0 rfl rfl)
theorem dX9_plan_1 : decode cX9_plan 1 = .ok (.i2l, 1) := dk_133 (dk_at dksX9_plan_0 1 rfl rfl)
theorem dX9_plan_2 : decode cX9_plan 2 = .ok (.lconst 0, 1) := dk_9 (dk_at dksX9_plan_0 2 rfl rfl)
theorem dX9_plan_3 : decode cX9_plan 3 = .ok (.ldc2_w 158, 3) := dk_20 0 158 (dk_at dksX9_plan_0 3 rfl rfl)
theorem dX9_plan_6 : decode cX9_plan 6 = .ok (.invokestatic 54, 3) := dk_184 0 54 (dk_at dksX9_plan_0 6 rfl rfl)
theorem dX9_plan_9 : decode cX9_plan 9 = .ok (.ifCond .eq 16, 3) := dk_153 0 16 (dk_at dksX9_plan_0 9 rfl rfl)
theorem dX9_plan_12 : decode cX9_plan 12 = .ok (.iload_n 2, 1) := dk_28 (dk_at dksX9_plan_0 12 rfl rfl)
theorem dX9_plan_13 : decode cX9_plan 13 = .ok (.iconst (-1), 1) := dk_2 (dk_at dksX9_plan_0 13 rfl rfl)
theorem dX9_plan_14 : decode cX9_plan 14 = .ok (.if_icmp .eq 18, 3) := dk_159 0 18 (dk_at dksX9_plan_0 14 rfl rfl)
theorem dX9_plan_17 : decode cX9_plan 17 = .ok (.aload_n 0, 1) := dk_42 (dk_at dksX9_plan_0 17 rfl rfl)
theorem dX9_plan_18 : decode cX9_plan 18 = .ok (.iload_n 2, 1) := dk_28 (dk_at dksX9_plan_0 18 rfl rfl)
theorem dX9_plan_19 : decode cX9_plan 19 = .ok (.invokevirtual 160, 3) := dk_182 0 160 (dk_at dksX9_plan_0 19 rfl rfl)
theorem dX9_plan_22 : decode cX9_plan 22 = .ok (.ifCond .ne 10, 3) := dk_154 0 10 (dk_at dksX9_plan_1 0 rfl rfl)
theorem dX9_plan_25 : decode cX9_plan 25 = .ok (.aload_n 0, 1) := dk_42 (dk_at dksX9_plan_1 3 rfl rfl)
theorem dX9_plan_26 : decode cX9_plan 26 = .ok (.bipush (-102), 2) := dk_16 154 (dk_at dksX9_plan_1 4 rfl rfl)
theorem dX9_plan_28 : decode cX9_plan 28 = .ok (.invokevirtual 132, 3) := dk_182 0 132 (dk_at dksX9_plan_1 6 rfl rfl)
theorem dX9_plan_31 : decode cX9_plan 31 = .ok (.ireturn, 1) := dk_172 (dk_at dksX9_plan_1 9 rfl rfl)
theorem dX9_plan_32 : decode cX9_plan 32 = .ok (.aload_n 0, 1) := dk_42 (dk_at dksX9_plan_1 10 rfl rfl)
theorem dX9_plan_33 : decode cX9_plan 33 = .ok (.getfield 9, 3) := dk_180 0 9 (dk_at dksX9_plan_1 11 rfl rfl)
theorem dX9_plan_36 : decode cX9_plan 36 = .ok (.bipush 85, 2) := dk_16 85 (dk_at dksX9_plan_1 14 rfl rfl)
theorem dX9_plan_38 : decode cX9_plan 38 = .ok (.iload_n 1, 1) := dk_27 (dk_at dksX9_plan_1 16 rfl rfl)
theorem dX9_plan_39 : decode cX9_plan 39 = .ok (.iadd, 1) := dk_96 (dk_at dksX9_plan_1 17 rfl rfl)
theorem dX9_plan_40 : decode cX9_plan 40 = .ok (.iaload, 1) := dk_46 (dk_at dksX9_plan_1 18 rfl rfl)
theorem dX9_plan_41 : decode cX9_plan 41 = .ok (.istore_n 3, 1) := dk_62 (dk_at dksX9_plan_1 19 rfl rfl)
theorem dX9_plan_42 : decode cX9_plan 42 = .ok (.aload_n 0, 1) := dk_42 (dk_at dksX9_plan_1 20 rfl rfl)
theorem dX9_plan_43 : decode cX9_plan 43 = .ok (.getfield 9, 3) := dk_180 0 9 (dk_at dksX9_plan_1 21 rfl rfl)
theorem dX9_plan_46 : decode cX9_plan 46 = .ok (.bipush 85, 2) := dk_16 85 (dk_at dksX9_plan_2 0 rfl rfl)
theorem dX9_plan_48 : decode cX9_plan 48 = .ok (.iload_n 1, 1) := dk_27 (dk_at dksX9_plan_2 2 rfl rfl)
theorem dX9_plan_49 : decode cX9_plan 49 = .ok (.iadd, 1) := dk_96 (dk_at dksX9_plan_2 3 rfl rfl)
theorem dX9_plan_50 : decode cX9_plan 50 = .ok (.iload_n 2, 1) := dk_28 (dk_at dksX9_plan_2 4 rfl rfl)
theorem dX9_plan_51 : decode cX9_plan 51 = .ok (.iastore, 1) := dk_79 (dk_at dksX9_plan_2 5 rfl rfl)
theorem dX9_plan_52 : decode cX9_plan 52 = .ok (.iload_n 3, 1) := dk_29 (dk_at dksX9_plan_2 6 rfl rfl)
theorem dX9_plan_53 : decode cX9_plan 53 = .ok (.ireturn, 1) := dk_172 (dk_at dksX9_plan_2 7 rfl rfl)
abbrev cX9_isKeeper : ByteArray := prog_34_method_5_code
def yX9_isKeeper : MethodName := ⟨RX9, "isKeeper", "(I)Z"⟩
def dkwX9_isKeeper_0 : List UInt8 := [27, 133, 9, 42, 180, 0, 9, 16, 13, 46, 4, 100, 133, 184, 0, 54, 172]
abbrev dktX9_isKeeper_0 : List UInt8 := dkwX9_isKeeper_0 ++ []
theorem dksX9_isKeeper_0 : cX9_isKeeper.data.toList.drop 0 = dktX9_isKeeper_0 := by decide +kernel
theorem dX9_isKeeper_0 : decode cX9_isKeeper 0 = .ok (.iload_n 1, 1) := dk_27 (dk_at dksX9_isKeeper_0 0 rfl rfl)
theorem dX9_isKeeper_1 : decode cX9_isKeeper 1 = .ok (.i2l, 1) := dk_133 (dk_at dksX9_isKeeper_0 1 rfl rfl)
theorem dX9_isKeeper_2 : decode cX9_isKeeper 2 = .ok (.lconst 0, 1) := dk_9 (dk_at dksX9_isKeeper_0 2 rfl rfl)
theorem dX9_isKeeper_3 : decode cX9_isKeeper 3 = .ok (.aload_n 0, 1) := dk_42 (dk_at dksX9_isKeeper_0 3 rfl rfl)
theorem dX9_isKeeper_4 : decode cX9_isKeeper 4 = .ok (.getfield 9, 3) := dk_180 0 9 (dk_at dksX9_isKeeper_0 4 rfl rfl)
theorem dX9_isKeeper_7 : decode cX9_isKeeper 7 = .ok (.bipush 13, 2) := dk_16 13 (dk_at dksX9_isKeeper_0 7 rfl rfl)
theorem dX9_isKeeper_9 : decode cX9_isKeeper 9 = .ok (.iaload, 1) := dk_46 (dk_at dksX9_isKeeper_0 9 rfl rfl)
theorem dX9_isKeeper_10 : decode cX9_isKeeper 10 = .ok (.iconst 1, 1) := dk_4 (dk_at dksX9_isKeeper_0 10 rfl rfl)
theorem dX9_isKeeper_11 : decode cX9_isKeeper 11 = .ok (.isub, 1) := dk_100 (dk_at dksX9_isKeeper_0 11 rfl rfl)
theorem dX9_isKeeper_12 : decode cX9_isKeeper 12 = .ok (.i2l, 1) := dk_133 (dk_at dksX9_isKeeper_0 12 rfl rfl)
theorem dX9_isKeeper_13 : decode cX9_isKeeper 13 = .ok (.invokestatic 54, 3) := dk_184 0 54 (dk_at dksX9_isKeeper_0 13 rfl rfl)
theorem dX9_isKeeper_16 : decode cX9_isKeeper 16 = .ok (.ireturn, 1) := dk_172 (dk_at dksX9_isKeeper_0 16 rfl rfl)
abbrev cX9_plans : ByteArray := prog_34_method_31_code
def yX9_plans : MethodName := ⟨RX9, "plans", "(I)I"⟩
def dkwX9_plans_1 : List UInt8 := [182, 0, 132, 172, 42, 27, 182, 0, 171, 4, 172]
abbrev dktX9_plans_1 : List UInt8 := dkwX9_plans_1 ++ []
def dkwX9_plans_0 : List UInt8 := [27, 184, 0, 165, 153, 0, 11, 42, 27, 182, 0, 168, 167, 0, 5, 16, 154, 61, 28, 156, 0, 9, 42, 28]
abbrev dktX9_plans_0 : List UInt8 := dkwX9_plans_0 ++ dktX9_plans_1
theorem dksX9_plans_0 : cX9_plans.data.toList.drop 0 = dktX9_plans_0 := by decide +kernel
theorem dksX9_plans_1 : cX9_plans.data.toList.drop 24 = dktX9_plans_1 := dk_seg dksX9_plans_0 24 rfl rfl
theorem dX9_plans_0 : decode cX9_plans 0 = .ok (.iload_n 1, 1) := dk_27 (dk_at dksX9_plans_0 0 rfl rfl)
theorem dX9_plans_1 : decode cX9_plans 1 = .ok (.invokestatic 165, 3) := dk_184 0 165 (dk_at dksX9_plans_0 1 rfl rfl)
theorem dX9_plans_4 : decode cX9_plans 4 = .ok (.ifCond .eq 11, 3) := dk_153 0 11 (dk_at dksX9_plans_0 4 rfl rfl)
theorem dX9_plans_7 : decode cX9_plans 7 = .ok (.aload_n 0, 1) := dk_42 (dk_at dksX9_plans_0 7 rfl rfl)
theorem dX9_plans_8 : decode cX9_plans 8 = .ok (.iload_n 1, 1) := dk_27 (dk_at dksX9_plans_0 8 rfl rfl)
theorem dX9_plans_9 : decode cX9_plans 9 = .ok (.invokevirtual 168, 3) := dk_182 0 168 (dk_at dksX9_plans_0 9 rfl rfl)
theorem dX9_plans_12 : decode cX9_plans 12 = .ok (.goto 5, 3) := dk_167 0 5 (dk_at dksX9_plans_0 12 rfl rfl)
theorem dX9_plans_15 : decode cX9_plans 15 = .ok (.bipush (-102), 2) := dk_16 154 (dk_at dksX9_plans_0 15 rfl rfl)
theorem dX9_plans_17 : decode cX9_plans 17 = .ok (.istore_n 2, 1) := dk_61 (dk_at dksX9_plans_0 17 rfl rfl)
theorem dX9_plans_18 : decode cX9_plans 18 = .ok (.iload_n 2, 1) := dk_28 (dk_at dksX9_plans_0 18 rfl rfl)
theorem dX9_plans_19 : decode cX9_plans 19 = .ok (.ifCond .ge 9, 3) := dk_156 0 9 (dk_at dksX9_plans_0 19 rfl rfl)
theorem dX9_plans_22 : decode cX9_plans 22 = .ok (.aload_n 0, 1) := dk_42 (dk_at dksX9_plans_0 22 rfl rfl)
theorem dX9_plans_23 : decode cX9_plans 23 = .ok (.iload_n 2, 1) := dk_28 (dk_at dksX9_plans_0 23 rfl rfl)
theorem dX9_plans_24 : decode cX9_plans 24 = .ok (.invokevirtual 132, 3) := dk_182 0 132 (dk_at dksX9_plans_1 0 rfl rfl)
theorem dX9_plans_27 : decode cX9_plans 27 = .ok (.ireturn, 1) := dk_172 (dk_at dksX9_plans_1 3 rfl rfl)
theorem dX9_plans_28 : decode cX9_plans 28 = .ok (.aload_n 0, 1) := dk_42 (dk_at dksX9_plans_1 4 rfl rfl)
theorem dX9_plans_29 : decode cX9_plans 29 = .ok (.iload_n 1, 1) := dk_27 (dk_at dksX9_plans_1 5 rfl rfl)
theorem dX9_plans_30 : decode cX9_plans 30 = .ok (.invokevirtual 171, 3) := dk_182 0 171 (dk_at dksX9_plans_1 6 rfl rfl)
theorem dX9_plans_33 : decode cX9_plans 33 = .ok (.iconst 1, 1) := dk_4 (dk_at dksX9_plans_1 9 rfl rfl)
theorem dX9_plans_34 : decode cX9_plans 34 = .ok (.ireturn, 1) := dk_172 (dk_at dksX9_plans_1 10 rfl rfl)
abbrev cX9_isShelf : ByteArray := prog_34_method_61_code
def yX9_isShelf : MethodName := ⟨RX9, "isShelf", "(I)Z"⟩
def dkwX9_isShelf_0 : List UInt8 := [26, 133, 9, 20, 0, 189, 184, 0, 54, 172]
abbrev dktX9_isShelf_0 : List UInt8 := dkwX9_isShelf_0 ++ []
theorem dksX9_isShelf_0 : cX9_isShelf.data.toList.drop 0 = dktX9_isShelf_0 := by decide +kernel
theorem dX9_isShelf_0 : decode cX9_isShelf 0 = .ok (.iload_n 0, 1) := dk_26 (dk_at dksX9_isShelf_0 0 rfl rfl)
theorem dX9_isShelf_1 : decode cX9_isShelf 1 = .ok (.i2l, 1) := dk_133 (dk_at dksX9_isShelf_0 1 rfl rfl)
theorem dX9_isShelf_2 : decode cX9_isShelf 2 = .ok (.lconst 0, 1) := dk_9 (dk_at dksX9_isShelf_0 2 rfl rfl)
theorem dX9_isShelf_3 : decode cX9_isShelf 3 = .ok (.ldc2_w 189, 3) := dk_20 0 189 (dk_at dksX9_isShelf_0 3 rfl rfl)
theorem dX9_isShelf_6 : decode cX9_isShelf 6 = .ok (.invokestatic 54, 3) := dk_184 0 54 (dk_at dksX9_isShelf_0 6 rfl rfl)
theorem dX9_isShelf_9 : decode cX9_isShelf 9 = .ok (.ireturn, 1) := dk_172 (dk_at dksX9_isShelf_0 9 rfl rfl)
abbrev cX9_isPlan : ByteArray := prog_34_method_29_code
def yX9_isPlan : MethodName := ⟨RX9, "isPlan", "(I)I"⟩
def dkwX9_isPlan_3 : List UInt8 := [154, 0, 6, 16, 154, 172, 132, 2, 1, 167, 255, 203, 3, 172]
abbrev dktX9_isPlan_3 : List UInt8 := dkwX9_isPlan_3 ++ []
def dkwX9_isPlan_2 : List UInt8 := [16, 40, 27, 104, 28, 96, 47, 20, 0, 163, 42, 180, 0, 9, 16, 13, 46, 4, 100, 133, 184, 0, 54]
abbrev dktX9_isPlan_2 : List UInt8 := dkwX9_isPlan_2 ++ dktX9_isPlan_3
def dkwX9_isPlan_1 : List UInt8 := [172, 3, 61, 28, 16, 24, 162, 0, 53, 42, 180, 0, 44, 27, 46, 16, 24, 161, 0, 33, 42, 180, 0, 47]
abbrev dktX9_isPlan_1 : List UInt8 := dkwX9_isPlan_1 ++ dktX9_isPlan_2
def dkwX9_isPlan_0 : List UInt8 := [42, 180, 0, 41, 27, 46, 7, 164, 0, 6, 16, 153, 172, 42, 180, 0, 41, 27, 46, 156, 0, 6, 16, 152]
abbrev dktX9_isPlan_0 : List UInt8 := dkwX9_isPlan_0 ++ dktX9_isPlan_1
theorem dksX9_isPlan_0 : cX9_isPlan.data.toList.drop 0 = dktX9_isPlan_0 := by decide +kernel
theorem dksX9_isPlan_1 : cX9_isPlan.data.toList.drop 24 = dktX9_isPlan_1 := dk_seg dksX9_isPlan_0 24 rfl rfl
theorem dksX9_isPlan_2 : cX9_isPlan.data.toList.drop 48 = dktX9_isPlan_2 := dk_seg dksX9_isPlan_1 24 rfl rfl
theorem dksX9_isPlan_3 : cX9_isPlan.data.toList.drop 71 = dktX9_isPlan_3 := dk_seg dksX9_isPlan_2 23 rfl rfl
theorem dX9_isPlan_0 : decode cX9_isPlan 0 = .ok (.aload_n 0, 1) := dk_42 (dk_at dksX9_isPlan_0 0 rfl rfl)
theorem dX9_isPlan_1 : decode cX9_isPlan 1 = .ok (.getfield 41, 3) := dk_180 0 41 (dk_at dksX9_isPlan_0 1 rfl rfl)
theorem dX9_isPlan_4 : decode cX9_isPlan 4 = .ok (.iload_n 1, 1) := dk_27 (dk_at dksX9_isPlan_0 4 rfl rfl)
theorem dX9_isPlan_5 : decode cX9_isPlan 5 = .ok (.iaload, 1) := dk_46 (dk_at dksX9_isPlan_0 5 rfl rfl)
theorem dX9_isPlan_6 : decode cX9_isPlan 6 = .ok (.iconst 4, 1) := dk_7 (dk_at dksX9_isPlan_0 6 rfl rfl)
theorem dX9_isPlan_7 : decode cX9_isPlan 7 = .ok (.if_icmp .le 6, 3) := dk_164 0 6 (dk_at dksX9_isPlan_0 7 rfl rfl)
theorem dX9_isPlan_10 : decode cX9_isPlan 10 = .ok (.bipush (-103), 2) := dk_16 153 (dk_at dksX9_isPlan_0 10 rfl rfl)
theorem dX9_isPlan_12 : decode cX9_isPlan 12 = .ok (.ireturn, 1) := dk_172 (dk_at dksX9_isPlan_0 12 rfl rfl)
theorem dX9_isPlan_13 : decode cX9_isPlan 13 = .ok (.aload_n 0, 1) := dk_42 (dk_at dksX9_isPlan_0 13 rfl rfl)
theorem dX9_isPlan_14 : decode cX9_isPlan 14 = .ok (.getfield 41, 3) := dk_180 0 41 (dk_at dksX9_isPlan_0 14 rfl rfl)
theorem dX9_isPlan_17 : decode cX9_isPlan 17 = .ok (.iload_n 1, 1) := dk_27 (dk_at dksX9_isPlan_0 17 rfl rfl)
theorem dX9_isPlan_18 : decode cX9_isPlan 18 = .ok (.iaload, 1) := dk_46 (dk_at dksX9_isPlan_0 18 rfl rfl)
theorem dX9_isPlan_19 : decode cX9_isPlan 19 = .ok (.ifCond .ge 6, 3) := dk_156 0 6 (dk_at dksX9_isPlan_0 19 rfl rfl)
theorem dX9_isPlan_22 : decode cX9_isPlan 22 = .ok (.bipush (-104), 2) := dk_16 152 (dk_at dksX9_isPlan_0 22 rfl rfl)
theorem dX9_isPlan_24 : decode cX9_isPlan 24 = .ok (.ireturn, 1) := dk_172 (dk_at dksX9_isPlan_1 0 rfl rfl)
theorem dX9_isPlan_25 : decode cX9_isPlan 25 = .ok (.iconst 0, 1) := dk_3 (dk_at dksX9_isPlan_1 1 rfl rfl)
theorem dX9_isPlan_26 : decode cX9_isPlan 26 = .ok (.istore_n 2, 1) := dk_61 (dk_at dksX9_isPlan_1 2 rfl rfl)
theorem dX9_isPlan_27 : decode cX9_isPlan 27 = .ok (.iload_n 2, 1) := dk_28 (dk_at dksX9_isPlan_1 3 rfl rfl)
theorem dX9_isPlan_28 : decode cX9_isPlan 28 = .ok (.bipush 24, 2) := dk_16 24 (dk_at dksX9_isPlan_1 4 rfl rfl)
theorem dX9_isPlan_30 : decode cX9_isPlan 30 = .ok (.if_icmp .ge 53, 3) := dk_162 0 53 (dk_at dksX9_isPlan_1 6 rfl rfl)
theorem dX9_isPlan_33 : decode cX9_isPlan 33 = .ok (.aload_n 0, 1) := dk_42 (dk_at dksX9_isPlan_1 9 rfl rfl)
theorem dX9_isPlan_34 : decode cX9_isPlan 34 = .ok (.getfield 44, 3) := dk_180 0 44 (dk_at dksX9_isPlan_1 10 rfl rfl)
theorem dX9_isPlan_37 : decode cX9_isPlan 37 = .ok (.iload_n 1, 1) := dk_27 (dk_at dksX9_isPlan_1 13 rfl rfl)
theorem dX9_isPlan_38 : decode cX9_isPlan 38 = .ok (.iaload, 1) := dk_46 (dk_at dksX9_isPlan_1 14 rfl rfl)
theorem dX9_isPlan_39 : decode cX9_isPlan 39 = .ok (.bipush 24, 2) := dk_16 24 (dk_at dksX9_isPlan_1 15 rfl rfl)
theorem dX9_isPlan_41 : decode cX9_isPlan 41 = .ok (.if_icmp .lt 33, 3) := dk_161 0 33 (dk_at dksX9_isPlan_1 17 rfl rfl)
theorem dX9_isPlan_44 : decode cX9_isPlan 44 = .ok (.aload_n 0, 1) := dk_42 (dk_at dksX9_isPlan_1 20 rfl rfl)
theorem dX9_isPlan_45 : decode cX9_isPlan 45 = .ok (.getfield 47, 3) := dk_180 0 47 (dk_at dksX9_isPlan_1 21 rfl rfl)
theorem dX9_isPlan_48 : decode cX9_isPlan 48 = .ok (.bipush 40, 2) := dk_16 40 (dk_at dksX9_isPlan_2 0 rfl rfl)
theorem dX9_isPlan_50 : decode cX9_isPlan 50 = .ok (.iload_n 1, 1) := dk_27 (dk_at dksX9_isPlan_2 2 rfl rfl)
theorem dX9_isPlan_51 : decode cX9_isPlan 51 = .ok (.imul, 1) := dk_104 (dk_at dksX9_isPlan_2 3 rfl rfl)
theorem dX9_isPlan_52 : decode cX9_isPlan 52 = .ok (.iload_n 2, 1) := dk_28 (dk_at dksX9_isPlan_2 4 rfl rfl)
theorem dX9_isPlan_53 : decode cX9_isPlan 53 = .ok (.iadd, 1) := dk_96 (dk_at dksX9_isPlan_2 5 rfl rfl)
theorem dX9_isPlan_54 : decode cX9_isPlan 54 = .ok (.laload, 1) := dk_47 (dk_at dksX9_isPlan_2 6 rfl rfl)
theorem dX9_isPlan_55 : decode cX9_isPlan 55 = .ok (.ldc2_w 163, 3) := dk_20 0 163 (dk_at dksX9_isPlan_2 7 rfl rfl)
theorem dX9_isPlan_58 : decode cX9_isPlan 58 = .ok (.aload_n 0, 1) := dk_42 (dk_at dksX9_isPlan_2 10 rfl rfl)
theorem dX9_isPlan_59 : decode cX9_isPlan 59 = .ok (.getfield 9, 3) := dk_180 0 9 (dk_at dksX9_isPlan_2 11 rfl rfl)
theorem dX9_isPlan_62 : decode cX9_isPlan 62 = .ok (.bipush 13, 2) := dk_16 13 (dk_at dksX9_isPlan_2 14 rfl rfl)
theorem dX9_isPlan_64 : decode cX9_isPlan 64 = .ok (.iaload, 1) := dk_46 (dk_at dksX9_isPlan_2 16 rfl rfl)
theorem dX9_isPlan_65 : decode cX9_isPlan 65 = .ok (.iconst 1, 1) := dk_4 (dk_at dksX9_isPlan_2 17 rfl rfl)
theorem dX9_isPlan_66 : decode cX9_isPlan 66 = .ok (.isub, 1) := dk_100 (dk_at dksX9_isPlan_2 18 rfl rfl)
theorem dX9_isPlan_67 : decode cX9_isPlan 67 = .ok (.i2l, 1) := dk_133 (dk_at dksX9_isPlan_2 19 rfl rfl)
theorem dX9_isPlan_68 : decode cX9_isPlan 68 = .ok (.invokestatic 54, 3) := dk_184 0 54 (dk_at dksX9_isPlan_2 20 rfl rfl)
theorem dX9_isPlan_71 : decode cX9_isPlan 71 = .ok (.ifCond .ne 6, 3) := dk_154 0 6 (dk_at dksX9_isPlan_3 0 rfl rfl)
theorem dX9_isPlan_74 : decode cX9_isPlan 74 = .ok (.bipush (-102), 2) := dk_16 154 (dk_at dksX9_isPlan_3 3 rfl rfl)
theorem dX9_isPlan_76 : decode cX9_isPlan 76 = .ok (.ireturn, 1) := dk_172 (dk_at dksX9_isPlan_3 5 rfl rfl)
theorem dX9_isPlan_77 : decode cX9_isPlan 77 = .ok (.iinc 2 1, 3) := dk_132 2 1 (dk_at dksX9_isPlan_3 6 rfl rfl)
theorem dX9_isPlan_80 : decode cX9_isPlan 80 = .ok (.goto (-53), 3) := dk_167 255 203 (dk_at dksX9_isPlan_3 9 rfl rfl)
theorem dX9_isPlan_83 : decode cX9_isPlan 83 = .ok (.iconst 0, 1) := dk_3 (dk_at dksX9_isPlan_3 12 rfl rfl)
theorem dX9_isPlan_84 : decode cX9_isPlan 84 = .ok (.ireturn, 1) := dk_172 (dk_at dksX9_isPlan_3 13 rfl rfl)
abbrev cX9_takesPlan : ByteArray := prog_34_method_30_code
def yX9_takesPlan : MethodName := ⟨RX9, "takesPlan", "(I)V"⟩
def dkwX9_takesPlan_1 : List UInt8 := [28, 96, 47, 136, 79, 132, 2, 1, 167, 255, 226, 177]
abbrev dktX9_takesPlan_1 : List UInt8 := dkwX9_takesPlan_1 ++ []
def dkwX9_takesPlan_0 : List UInt8 := [3, 61, 28, 16, 24, 162, 0, 30, 42, 180, 0, 9, 16, 85, 28, 96, 42, 180, 0, 47, 16, 40, 27, 104]
abbrev dktX9_takesPlan_0 : List UInt8 := dkwX9_takesPlan_0 ++ dktX9_takesPlan_1
theorem dksX9_takesPlan_0 : cX9_takesPlan.data.toList.drop 0 = dktX9_takesPlan_0 := by decide +kernel
theorem dksX9_takesPlan_1 : cX9_takesPlan.data.toList.drop 24 = dktX9_takesPlan_1 := dk_seg dksX9_takesPlan_0 24 rfl rfl
theorem dX9_takesPlan_0 : decode cX9_takesPlan 0 = .ok (.iconst 0, 1) := dk_3 (dk_at dksX9_takesPlan_0 0 rfl rfl)
theorem dX9_takesPlan_1 : decode cX9_takesPlan 1 = .ok (.istore_n 2, 1) := dk_61 (dk_at dksX9_takesPlan_0 1 rfl rfl)
theorem dX9_takesPlan_2 : decode cX9_takesPlan 2 = .ok (.iload_n 2, 1) := dk_28 (dk_at dksX9_takesPlan_0 2 rfl rfl)
theorem dX9_takesPlan_3 : decode cX9_takesPlan 3 = .ok (.bipush 24, 2) := dk_16 24 (dk_at dksX9_takesPlan_0 3 rfl rfl)
theorem dX9_takesPlan_5 : decode cX9_takesPlan 5 = .ok (.if_icmp .ge 30, 3) := dk_162 0 30 (dk_at dksX9_takesPlan_0 5 rfl rfl)
theorem dX9_takesPlan_8 : decode cX9_takesPlan 8 = .ok (.aload_n 0, 1) := dk_42 (dk_at dksX9_takesPlan_0 8 rfl rfl)
theorem dX9_takesPlan_9 : decode cX9_takesPlan 9 = .ok (.getfield 9, 3) := dk_180 0 9 (dk_at dksX9_takesPlan_0 9 rfl rfl)
theorem dX9_takesPlan_12 : decode cX9_takesPlan 12 = .ok (.bipush 85, 2) := dk_16 85 (dk_at dksX9_takesPlan_0 12 rfl rfl)
theorem dX9_takesPlan_14 : decode cX9_takesPlan 14 = .ok (.iload_n 2, 1) := dk_28 (dk_at dksX9_takesPlan_0 14 rfl rfl)
theorem dX9_takesPlan_15 : decode cX9_takesPlan 15 = .ok (.iadd, 1) := dk_96 (dk_at dksX9_takesPlan_0 15 rfl rfl)
theorem dX9_takesPlan_16 : decode cX9_takesPlan 16 = .ok (.aload_n 0, 1) := dk_42 (dk_at dksX9_takesPlan_0 16 rfl rfl)
theorem dX9_takesPlan_17 : decode cX9_takesPlan 17 = .ok (.getfield 47, 3) := dk_180 0 47 (dk_at dksX9_takesPlan_0 17 rfl rfl)
theorem dX9_takesPlan_20 : decode cX9_takesPlan 20 = .ok (.bipush 40, 2) := dk_16 40 (dk_at dksX9_takesPlan_0 20 rfl rfl)
theorem dX9_takesPlan_22 : decode cX9_takesPlan 22 = .ok (.iload_n 1, 1) := dk_27 (dk_at dksX9_takesPlan_0 22 rfl rfl)
theorem dX9_takesPlan_23 : decode cX9_takesPlan 23 = .ok (.imul, 1) := dk_104 (dk_at dksX9_takesPlan_0 23 rfl rfl)
theorem dX9_takesPlan_24 : decode cX9_takesPlan 24 = .ok (.iload_n 2, 1) := dk_28 (dk_at dksX9_takesPlan_1 0 rfl rfl)
theorem dX9_takesPlan_25 : decode cX9_takesPlan 25 = .ok (.iadd, 1) := dk_96 (dk_at dksX9_takesPlan_1 1 rfl rfl)
theorem dX9_takesPlan_26 : decode cX9_takesPlan 26 = .ok (.laload, 1) := dk_47 (dk_at dksX9_takesPlan_1 2 rfl rfl)
theorem dX9_takesPlan_27 : decode cX9_takesPlan 27 = .ok (.l2i, 1) := dk_136 (dk_at dksX9_takesPlan_1 3 rfl rfl)
theorem dX9_takesPlan_28 : decode cX9_takesPlan 28 = .ok (.iastore, 1) := dk_79 (dk_at dksX9_takesPlan_1 4 rfl rfl)
theorem dX9_takesPlan_29 : decode cX9_takesPlan 29 = .ok (.iinc 2 1, 3) := dk_132 2 1 (dk_at dksX9_takesPlan_1 5 rfl rfl)
theorem dX9_takesPlan_32 : decode cX9_takesPlan 32 = .ok (.goto (-30), 3) := dk_167 255 226 (dk_at dksX9_takesPlan_1 8 rfl rfl)
theorem dX9_takesPlan_35 : decode cX9_takesPlan 35 = .ok (.return_, 1) := dk_177 (dk_at dksX9_takesPlan_1 11 rfl rfl)
abbrev cX9_tell : ByteArray := prog_34_method_32_code
def yX9_tell : MethodName := ⟨RX9, "tell", "(II)I"⟩
def dkwX9_tell_5 : List UInt8 := [21, 4, 172]
abbrev dktX9_tell_5 : List UInt8 := dkwX9_tell_5 ++ []
def dkwX9_tell_4 : List UInt8 := [182, 0, 132, 172, 42, 180, 0, 9, 4, 27, 96, 46, 54, 4, 42, 180, 0, 9, 4, 27, 96, 28, 79]
abbrev dktX9_tell_4 : List UInt8 := dkwX9_tell_4 ++ dktX9_tell_5
def dkwX9_tell_3 : List UInt8 := [20, 0, 185, 184, 0, 54, 153, 0, 7, 4, 167, 0, 4, 3, 62, 29, 154, 0, 10, 42, 16, 154]
abbrev dktX9_tell_3 : List UInt8 := dkwX9_tell_3 ++ dktX9_tell_4
def dkwX9_tell_2 : List UInt8 := [184, 0, 54, 154, 0, 29, 27, 133, 20, 0, 183, 20, 0, 181, 184, 0, 54, 153, 0, 19, 28, 133, 9]
abbrev dktX9_tell_2 : List UInt8 := dkwX9_tell_2 ++ dktX9_tell_3
def dkwX9_tell_1 : List UInt8 := [20, 0, 177, 20, 0, 179, 184, 0, 54, 154, 0, 46, 27, 5, 160, 0, 15, 28, 133, 10, 20, 0, 181]
abbrev dktX9_tell_1 : List UInt8 := dkwX9_tell_1 ++ dktX9_tell_2
def dkwX9_tell_0 : List UInt8 := [27, 154, 0, 15, 28, 133, 9, 20, 0, 175, 184, 0, 54, 154, 0, 65, 27, 4, 160, 0, 17, 28, 133]
abbrev dktX9_tell_0 : List UInt8 := dkwX9_tell_0 ++ dktX9_tell_1
theorem dksX9_tell_0 : cX9_tell.data.toList.drop 0 = dktX9_tell_0 := by decide +kernel
theorem dksX9_tell_1 : cX9_tell.data.toList.drop 23 = dktX9_tell_1 := dk_seg dksX9_tell_0 23 rfl rfl
theorem dksX9_tell_2 : cX9_tell.data.toList.drop 46 = dktX9_tell_2 := dk_seg dksX9_tell_1 23 rfl rfl
theorem dksX9_tell_3 : cX9_tell.data.toList.drop 69 = dktX9_tell_3 := dk_seg dksX9_tell_2 23 rfl rfl
theorem dksX9_tell_4 : cX9_tell.data.toList.drop 91 = dktX9_tell_4 := dk_seg dksX9_tell_3 22 rfl rfl
theorem dksX9_tell_5 : cX9_tell.data.toList.drop 114 = dktX9_tell_5 := dk_seg dksX9_tell_4 23 rfl rfl
theorem dX9_tell_0 : decode cX9_tell 0 = .ok (.iload_n 1, 1) := dk_27 (dk_at dksX9_tell_0 0 rfl rfl)
theorem dX9_tell_1 : decode cX9_tell 1 = .ok (.ifCond .ne 15, 3) := dk_154 0 15 (dk_at dksX9_tell_0 1 rfl rfl)
theorem dX9_tell_4 : decode cX9_tell 4 = .ok (.iload_n 2, 1) := dk_28 (dk_at dksX9_tell_0 4 rfl rfl)
theorem dX9_tell_5 : decode cX9_tell 5 = .ok (.i2l, 1) := dk_133 (dk_at dksX9_tell_0 5 rfl rfl)
theorem dX9_tell_6 : decode cX9_tell 6 = .ok (.lconst 0, 1) := dk_9 (dk_at dksX9_tell_0 6 rfl rfl)
theorem dX9_tell_7 : decode cX9_tell 7 = .ok (.ldc2_w 175, 3) := dk_20 0 175 (dk_at dksX9_tell_0 7 rfl rfl)
theorem dX9_tell_10 : decode cX9_tell 10 = .ok (.invokestatic 54, 3) := dk_184 0 54 (dk_at dksX9_tell_0 10 rfl rfl)
theorem dX9_tell_13 : decode cX9_tell 13 = .ok (.ifCond .ne 65, 3) := dk_154 0 65 (dk_at dksX9_tell_0 13 rfl rfl)
theorem dX9_tell_16 : decode cX9_tell 16 = .ok (.iload_n 1, 1) := dk_27 (dk_at dksX9_tell_0 16 rfl rfl)
theorem dX9_tell_17 : decode cX9_tell 17 = .ok (.iconst 1, 1) := dk_4 (dk_at dksX9_tell_0 17 rfl rfl)
theorem dX9_tell_18 : decode cX9_tell 18 = .ok (.if_icmp .ne 17, 3) := dk_160 0 17 (dk_at dksX9_tell_0 18 rfl rfl)
theorem dX9_tell_21 : decode cX9_tell 21 = .ok (.iload_n 2, 1) := dk_28 (dk_at dksX9_tell_0 21 rfl rfl)
theorem dX9_tell_22 : decode cX9_tell 22 = .ok (.i2l, 1) := dk_133 (dk_at dksX9_tell_0 22 rfl rfl)
theorem dX9_tell_23 : decode cX9_tell 23 = .ok (.ldc2_w 177, 3) := dk_20 0 177 (dk_at dksX9_tell_1 0 rfl rfl)
theorem dX9_tell_26 : decode cX9_tell 26 = .ok (.ldc2_w 179, 3) := dk_20 0 179 (dk_at dksX9_tell_1 3 rfl rfl)
theorem dX9_tell_29 : decode cX9_tell 29 = .ok (.invokestatic 54, 3) := dk_184 0 54 (dk_at dksX9_tell_1 6 rfl rfl)
theorem dX9_tell_32 : decode cX9_tell 32 = .ok (.ifCond .ne 46, 3) := dk_154 0 46 (dk_at dksX9_tell_1 9 rfl rfl)
theorem dX9_tell_35 : decode cX9_tell 35 = .ok (.iload_n 1, 1) := dk_27 (dk_at dksX9_tell_1 12 rfl rfl)
theorem dX9_tell_36 : decode cX9_tell 36 = .ok (.iconst 2, 1) := dk_5 (dk_at dksX9_tell_1 13 rfl rfl)
theorem dX9_tell_37 : decode cX9_tell 37 = .ok (.if_icmp .ne 15, 3) := dk_160 0 15 (dk_at dksX9_tell_1 14 rfl rfl)
theorem dX9_tell_40 : decode cX9_tell 40 = .ok (.iload_n 2, 1) := dk_28 (dk_at dksX9_tell_1 17 rfl rfl)
theorem dX9_tell_41 : decode cX9_tell 41 = .ok (.i2l, 1) := dk_133 (dk_at dksX9_tell_1 18 rfl rfl)
theorem dX9_tell_42 : decode cX9_tell 42 = .ok (.lconst 1, 1) := dk_10 (dk_at dksX9_tell_1 19 rfl rfl)
theorem dX9_tell_43 : decode cX9_tell 43 = .ok (.ldc2_w 181, 3) := dk_20 0 181 (dk_at dksX9_tell_1 20 rfl rfl)
theorem dX9_tell_46 : decode cX9_tell 46 = .ok (.invokestatic 54, 3) := dk_184 0 54 (dk_at dksX9_tell_2 0 rfl rfl)
theorem dX9_tell_49 : decode cX9_tell 49 = .ok (.ifCond .ne 29, 3) := dk_154 0 29 (dk_at dksX9_tell_2 3 rfl rfl)
theorem dX9_tell_52 : decode cX9_tell 52 = .ok (.iload_n 1, 1) := dk_27 (dk_at dksX9_tell_2 6 rfl rfl)
theorem dX9_tell_53 : decode cX9_tell 53 = .ok (.i2l, 1) := dk_133 (dk_at dksX9_tell_2 7 rfl rfl)
theorem dX9_tell_54 : decode cX9_tell 54 = .ok (.ldc2_w 183, 3) := dk_20 0 183 (dk_at dksX9_tell_2 8 rfl rfl)
theorem dX9_tell_57 : decode cX9_tell 57 = .ok (.ldc2_w 181, 3) := dk_20 0 181 (dk_at dksX9_tell_2 11 rfl rfl)
theorem dX9_tell_60 : decode cX9_tell 60 = .ok (.invokestatic 54, 3) := dk_184 0 54 (dk_at dksX9_tell_2 14 rfl rfl)
theorem dX9_tell_63 : decode cX9_tell 63 = .ok (.ifCond .eq 19, 3) := dk_153 0 19 (dk_at dksX9_tell_2 17 rfl rfl)
theorem dX9_tell_66 : decode cX9_tell 66 = .ok (.iload_n 2, 1) := dk_28 (dk_at dksX9_tell_2 20 rfl rfl)
theorem dX9_tell_67 : decode cX9_tell 67 = .ok (.i2l, 1) := dk_133 (dk_at dksX9_tell_2 21 rfl rfl)
theorem dX9_tell_68 : decode cX9_tell 68 = .ok (.lconst 0, 1) := dk_9 (dk_at dksX9_tell_2 22 rfl rfl)
theorem dX9_tell_69 : decode cX9_tell 69 = .ok (.ldc2_w 185, 3) := dk_20 0 185 (dk_at dksX9_tell_3 0 rfl rfl)
theorem dX9_tell_72 : decode cX9_tell 72 = .ok (.invokestatic 54, 3) := dk_184 0 54 (dk_at dksX9_tell_3 3 rfl rfl)
theorem dX9_tell_75 : decode cX9_tell 75 = .ok (.ifCond .eq 7, 3) := dk_153 0 7 (dk_at dksX9_tell_3 6 rfl rfl)
theorem dX9_tell_78 : decode cX9_tell 78 = .ok (.iconst 1, 1) := dk_4 (dk_at dksX9_tell_3 9 rfl rfl)
theorem dX9_tell_79 : decode cX9_tell 79 = .ok (.goto 4, 3) := dk_167 0 4 (dk_at dksX9_tell_3 10 rfl rfl)
theorem dX9_tell_82 : decode cX9_tell 82 = .ok (.iconst 0, 1) := dk_3 (dk_at dksX9_tell_3 13 rfl rfl)
theorem dX9_tell_83 : decode cX9_tell 83 = .ok (.istore_n 3, 1) := dk_62 (dk_at dksX9_tell_3 14 rfl rfl)
theorem dX9_tell_84 : decode cX9_tell 84 = .ok (.iload_n 3, 1) := dk_29 (dk_at dksX9_tell_3 15 rfl rfl)
theorem dX9_tell_85 : decode cX9_tell 85 = .ok (.ifCond .ne 10, 3) := dk_154 0 10 (dk_at dksX9_tell_3 16 rfl rfl)
theorem dX9_tell_88 : decode cX9_tell 88 = .ok (.aload_n 0, 1) := dk_42 (dk_at dksX9_tell_3 19 rfl rfl)
theorem dX9_tell_89 : decode cX9_tell 89 = .ok (.bipush (-102), 2) := dk_16 154 (dk_at dksX9_tell_3 20 rfl rfl)
theorem dX9_tell_91 : decode cX9_tell 91 = .ok (.invokevirtual 132, 3) := dk_182 0 132 (dk_at dksX9_tell_4 0 rfl rfl)
theorem dX9_tell_94 : decode cX9_tell 94 = .ok (.ireturn, 1) := dk_172 (dk_at dksX9_tell_4 3 rfl rfl)
theorem dX9_tell_95 : decode cX9_tell 95 = .ok (.aload_n 0, 1) := dk_42 (dk_at dksX9_tell_4 4 rfl rfl)
theorem dX9_tell_96 : decode cX9_tell 96 = .ok (.getfield 9, 3) := dk_180 0 9 (dk_at dksX9_tell_4 5 rfl rfl)
theorem dX9_tell_99 : decode cX9_tell 99 = .ok (.iconst 1, 1) := dk_4 (dk_at dksX9_tell_4 8 rfl rfl)
theorem dX9_tell_100 : decode cX9_tell 100 = .ok (.iload_n 1, 1) := dk_27 (dk_at dksX9_tell_4 9 rfl rfl)
theorem dX9_tell_101 : decode cX9_tell 101 = .ok (.iadd, 1) := dk_96 (dk_at dksX9_tell_4 10 rfl rfl)
theorem dX9_tell_102 : decode cX9_tell 102 = .ok (.iaload, 1) := dk_46 (dk_at dksX9_tell_4 11 rfl rfl)
theorem dX9_tell_103 : decode cX9_tell 103 = .ok (.istore 4, 2) := dk_54 4 (dk_at dksX9_tell_4 12 rfl rfl)
theorem dX9_tell_105 : decode cX9_tell 105 = .ok (.aload_n 0, 1) := dk_42 (dk_at dksX9_tell_4 14 rfl rfl)
theorem dX9_tell_106 : decode cX9_tell 106 = .ok (.getfield 9, 3) := dk_180 0 9 (dk_at dksX9_tell_4 15 rfl rfl)
theorem dX9_tell_109 : decode cX9_tell 109 = .ok (.iconst 1, 1) := dk_4 (dk_at dksX9_tell_4 18 rfl rfl)
theorem dX9_tell_110 : decode cX9_tell 110 = .ok (.iload_n 1, 1) := dk_27 (dk_at dksX9_tell_4 19 rfl rfl)
theorem dX9_tell_111 : decode cX9_tell 111 = .ok (.iadd, 1) := dk_96 (dk_at dksX9_tell_4 20 rfl rfl)
theorem dX9_tell_112 : decode cX9_tell 112 = .ok (.iload_n 2, 1) := dk_28 (dk_at dksX9_tell_4 21 rfl rfl)
theorem dX9_tell_113 : decode cX9_tell 113 = .ok (.iastore, 1) := dk_79 (dk_at dksX9_tell_4 22 rfl rfl)
theorem dX9_tell_114 : decode cX9_tell 114 = .ok (.iload 4, 2) := dk_21 4 (dk_at dksX9_tell_5 0 rfl rfl)
theorem dX9_tell_116 : decode cX9_tell 116 = .ok (.ireturn, 1) := dk_172 (dk_at dksX9_tell_5 2 rfl rfl)
abbrev cX9_boat : ByteArray := prog_34_method_33_code
def yX9_boat : MethodName := ⟨RX9, "boat", "(II)I"⟩
def dkwX9_boat_5 : List UInt8 := [79, 21, 4, 172]
abbrev dktX9_boat_5 : List UInt8 := dkwX9_boat_5 ++ []
def dkwX9_boat_4 : List UInt8 := [182, 0, 132, 172, 42, 180, 0, 9, 16, 8, 27, 96, 46, 54, 4, 42, 180, 0, 9, 16, 8, 27, 96, 28]
abbrev dktX9_boat_4 : List UInt8 := dkwX9_boat_4 ++ dktX9_boat_5
def dkwX9_boat_3 : List UInt8 := [20, 0, 185, 184, 0, 54, 153, 0, 7, 4, 167, 0, 4, 3, 62, 29, 154, 0, 10, 42, 16, 154]
abbrev dktX9_boat_3 : List UInt8 := dkwX9_boat_3 ++ dktX9_boat_4
def dkwX9_boat_2 : List UInt8 := [184, 0, 54, 154, 0, 29, 27, 133, 20, 0, 156, 20, 0, 183, 184, 0, 54, 153, 0, 19, 28, 133, 9]
abbrev dktX9_boat_2 : List UInt8 := dkwX9_boat_2 ++ dktX9_boat_3
def dkwX9_boat_1 : List UInt8 := [133, 20, 0, 185, 97, 184, 0, 54, 154, 0, 46, 27, 4, 160, 0, 15, 28, 133, 10, 20, 0, 187]
abbrev dktX9_boat_1 : List UInt8 := dkwX9_boat_1 ++ dktX9_boat_2
def dkwX9_boat_0 : List UInt8 := [27, 154, 0, 34, 28, 2, 159, 0, 72, 28, 133, 42, 180, 0, 9, 3, 46, 133, 42, 180, 0, 9, 3, 46]
abbrev dktX9_boat_0 : List UInt8 := dkwX9_boat_0 ++ dktX9_boat_1
theorem dksX9_boat_0 : cX9_boat.data.toList.drop 0 = dktX9_boat_0 := by decide +kernel
theorem dksX9_boat_1 : cX9_boat.data.toList.drop 24 = dktX9_boat_1 := dk_seg dksX9_boat_0 24 rfl rfl
theorem dksX9_boat_2 : cX9_boat.data.toList.drop 46 = dktX9_boat_2 := dk_seg dksX9_boat_1 22 rfl rfl
theorem dksX9_boat_3 : cX9_boat.data.toList.drop 69 = dktX9_boat_3 := dk_seg dksX9_boat_2 23 rfl rfl
theorem dksX9_boat_4 : cX9_boat.data.toList.drop 91 = dktX9_boat_4 := dk_seg dksX9_boat_3 22 rfl rfl
theorem dksX9_boat_5 : cX9_boat.data.toList.drop 115 = dktX9_boat_5 := dk_seg dksX9_boat_4 24 rfl rfl
theorem dX9_boat_0 : decode cX9_boat 0 = .ok (.iload_n 1, 1) := dk_27 (dk_at dksX9_boat_0 0 rfl rfl)
theorem dX9_boat_1 : decode cX9_boat 1 = .ok (.ifCond .ne 34, 3) := dk_154 0 34 (dk_at dksX9_boat_0 1 rfl rfl)
theorem dX9_boat_4 : decode cX9_boat 4 = .ok (.iload_n 2, 1) := dk_28 (dk_at dksX9_boat_0 4 rfl rfl)
theorem dX9_boat_5 : decode cX9_boat 5 = .ok (.iconst (-1), 1) := dk_2 (dk_at dksX9_boat_0 5 rfl rfl)
theorem dX9_boat_6 : decode cX9_boat 6 = .ok (.if_icmp .eq 72, 3) := dk_159 0 72 (dk_at dksX9_boat_0 6 rfl rfl)
theorem dX9_boat_9 : decode cX9_boat 9 = .ok (.iload_n 2, 1) := dk_28 (dk_at dksX9_boat_0 9 rfl rfl)
theorem dX9_boat_10 : decode cX9_boat 10 = .ok (.i2l, 1) := dk_133 (dk_at dksX9_boat_0 10 rfl rfl)
theorem dX9_boat_11 : decode cX9_boat 11 = .ok (.aload_n 0, 1) := dk_42 (dk_at dksX9_boat_0 11 rfl rfl)
theorem dX9_boat_12 : decode cX9_boat 12 = .ok (.getfield 9, 3) := dk_180 0 9 (dk_at dksX9_boat_0 12 rfl rfl)
theorem dX9_boat_15 : decode cX9_boat 15 = .ok (.iconst 0, 1) := dk_3 (dk_at dksX9_boat_0 15 rfl rfl)
theorem dX9_boat_16 : decode cX9_boat 16 = .ok (.iaload, 1) := dk_46 (dk_at dksX9_boat_0 16 rfl rfl)
theorem dX9_boat_17 : decode cX9_boat 17 = .ok (.i2l, 1) := dk_133 (dk_at dksX9_boat_0 17 rfl rfl)
theorem dX9_boat_18 : decode cX9_boat 18 = .ok (.aload_n 0, 1) := dk_42 (dk_at dksX9_boat_0 18 rfl rfl)
theorem dX9_boat_19 : decode cX9_boat 19 = .ok (.getfield 9, 3) := dk_180 0 9 (dk_at dksX9_boat_0 19 rfl rfl)
theorem dX9_boat_22 : decode cX9_boat 22 = .ok (.iconst 0, 1) := dk_3 (dk_at dksX9_boat_0 22 rfl rfl)
theorem dX9_boat_23 : decode cX9_boat 23 = .ok (.iaload, 1) := dk_46 (dk_at dksX9_boat_0 23 rfl rfl)
theorem dX9_boat_24 : decode cX9_boat 24 = .ok (.i2l, 1) := dk_133 (dk_at dksX9_boat_1 0 rfl rfl)
theorem dX9_boat_25 : decode cX9_boat 25 = .ok (.ldc2_w 185, 3) := dk_20 0 185 (dk_at dksX9_boat_1 1 rfl rfl)
theorem dX9_boat_28 : decode cX9_boat 28 = .ok (.ladd, 1) := dk_97 (dk_at dksX9_boat_1 4 rfl rfl)
theorem dX9_boat_29 : decode cX9_boat 29 = .ok (.invokestatic 54, 3) := dk_184 0 54 (dk_at dksX9_boat_1 5 rfl rfl)
theorem dX9_boat_32 : decode cX9_boat 32 = .ok (.ifCond .ne 46, 3) := dk_154 0 46 (dk_at dksX9_boat_1 8 rfl rfl)
theorem dX9_boat_35 : decode cX9_boat 35 = .ok (.iload_n 1, 1) := dk_27 (dk_at dksX9_boat_1 11 rfl rfl)
theorem dX9_boat_36 : decode cX9_boat 36 = .ok (.iconst 1, 1) := dk_4 (dk_at dksX9_boat_1 12 rfl rfl)
theorem dX9_boat_37 : decode cX9_boat 37 = .ok (.if_icmp .ne 15, 3) := dk_160 0 15 (dk_at dksX9_boat_1 13 rfl rfl)
theorem dX9_boat_40 : decode cX9_boat 40 = .ok (.iload_n 2, 1) := dk_28 (dk_at dksX9_boat_1 16 rfl rfl)
theorem dX9_boat_41 : decode cX9_boat 41 = .ok (.i2l, 1) := dk_133 (dk_at dksX9_boat_1 17 rfl rfl)
theorem dX9_boat_42 : decode cX9_boat 42 = .ok (.lconst 1, 1) := dk_10 (dk_at dksX9_boat_1 18 rfl rfl)
theorem dX9_boat_43 : decode cX9_boat 43 = .ok (.ldc2_w 187, 3) := dk_20 0 187 (dk_at dksX9_boat_1 19 rfl rfl)
theorem dX9_boat_46 : decode cX9_boat 46 = .ok (.invokestatic 54, 3) := dk_184 0 54 (dk_at dksX9_boat_2 0 rfl rfl)
theorem dX9_boat_49 : decode cX9_boat 49 = .ok (.ifCond .ne 29, 3) := dk_154 0 29 (dk_at dksX9_boat_2 3 rfl rfl)
theorem dX9_boat_52 : decode cX9_boat 52 = .ok (.iload_n 1, 1) := dk_27 (dk_at dksX9_boat_2 6 rfl rfl)
theorem dX9_boat_53 : decode cX9_boat 53 = .ok (.i2l, 1) := dk_133 (dk_at dksX9_boat_2 7 rfl rfl)
theorem dX9_boat_54 : decode cX9_boat 54 = .ok (.ldc2_w 156, 3) := dk_20 0 156 (dk_at dksX9_boat_2 8 rfl rfl)
theorem dX9_boat_57 : decode cX9_boat 57 = .ok (.ldc2_w 183, 3) := dk_20 0 183 (dk_at dksX9_boat_2 11 rfl rfl)
theorem dX9_boat_60 : decode cX9_boat 60 = .ok (.invokestatic 54, 3) := dk_184 0 54 (dk_at dksX9_boat_2 14 rfl rfl)
theorem dX9_boat_63 : decode cX9_boat 63 = .ok (.ifCond .eq 19, 3) := dk_153 0 19 (dk_at dksX9_boat_2 17 rfl rfl)
theorem dX9_boat_66 : decode cX9_boat 66 = .ok (.iload_n 2, 1) := dk_28 (dk_at dksX9_boat_2 20 rfl rfl)
theorem dX9_boat_67 : decode cX9_boat 67 = .ok (.i2l, 1) := dk_133 (dk_at dksX9_boat_2 21 rfl rfl)
theorem dX9_boat_68 : decode cX9_boat 68 = .ok (.lconst 0, 1) := dk_9 (dk_at dksX9_boat_2 22 rfl rfl)
theorem dX9_boat_69 : decode cX9_boat 69 = .ok (.ldc2_w 185, 3) := dk_20 0 185 (dk_at dksX9_boat_3 0 rfl rfl)
theorem dX9_boat_72 : decode cX9_boat 72 = .ok (.invokestatic 54, 3) := dk_184 0 54 (dk_at dksX9_boat_3 3 rfl rfl)
theorem dX9_boat_75 : decode cX9_boat 75 = .ok (.ifCond .eq 7, 3) := dk_153 0 7 (dk_at dksX9_boat_3 6 rfl rfl)
theorem dX9_boat_78 : decode cX9_boat 78 = .ok (.iconst 1, 1) := dk_4 (dk_at dksX9_boat_3 9 rfl rfl)
theorem dX9_boat_79 : decode cX9_boat 79 = .ok (.goto 4, 3) := dk_167 0 4 (dk_at dksX9_boat_3 10 rfl rfl)
theorem dX9_boat_82 : decode cX9_boat 82 = .ok (.iconst 0, 1) := dk_3 (dk_at dksX9_boat_3 13 rfl rfl)
theorem dX9_boat_83 : decode cX9_boat 83 = .ok (.istore_n 3, 1) := dk_62 (dk_at dksX9_boat_3 14 rfl rfl)
theorem dX9_boat_84 : decode cX9_boat 84 = .ok (.iload_n 3, 1) := dk_29 (dk_at dksX9_boat_3 15 rfl rfl)
theorem dX9_boat_85 : decode cX9_boat 85 = .ok (.ifCond .ne 10, 3) := dk_154 0 10 (dk_at dksX9_boat_3 16 rfl rfl)
theorem dX9_boat_88 : decode cX9_boat 88 = .ok (.aload_n 0, 1) := dk_42 (dk_at dksX9_boat_3 19 rfl rfl)
theorem dX9_boat_89 : decode cX9_boat 89 = .ok (.bipush (-102), 2) := dk_16 154 (dk_at dksX9_boat_3 20 rfl rfl)
theorem dX9_boat_91 : decode cX9_boat 91 = .ok (.invokevirtual 132, 3) := dk_182 0 132 (dk_at dksX9_boat_4 0 rfl rfl)
theorem dX9_boat_94 : decode cX9_boat 94 = .ok (.ireturn, 1) := dk_172 (dk_at dksX9_boat_4 3 rfl rfl)
theorem dX9_boat_95 : decode cX9_boat 95 = .ok (.aload_n 0, 1) := dk_42 (dk_at dksX9_boat_4 4 rfl rfl)
theorem dX9_boat_96 : decode cX9_boat 96 = .ok (.getfield 9, 3) := dk_180 0 9 (dk_at dksX9_boat_4 5 rfl rfl)
theorem dX9_boat_99 : decode cX9_boat 99 = .ok (.bipush 8, 2) := dk_16 8 (dk_at dksX9_boat_4 8 rfl rfl)
theorem dX9_boat_101 : decode cX9_boat 101 = .ok (.iload_n 1, 1) := dk_27 (dk_at dksX9_boat_4 10 rfl rfl)
theorem dX9_boat_102 : decode cX9_boat 102 = .ok (.iadd, 1) := dk_96 (dk_at dksX9_boat_4 11 rfl rfl)
theorem dX9_boat_103 : decode cX9_boat 103 = .ok (.iaload, 1) := dk_46 (dk_at dksX9_boat_4 12 rfl rfl)
theorem dX9_boat_104 : decode cX9_boat 104 = .ok (.istore 4, 2) := dk_54 4 (dk_at dksX9_boat_4 13 rfl rfl)
theorem dX9_boat_106 : decode cX9_boat 106 = .ok (.aload_n 0, 1) := dk_42 (dk_at dksX9_boat_4 15 rfl rfl)
theorem dX9_boat_107 : decode cX9_boat 107 = .ok (.getfield 9, 3) := dk_180 0 9 (dk_at dksX9_boat_4 16 rfl rfl)
theorem dX9_boat_110 : decode cX9_boat 110 = .ok (.bipush 8, 2) := dk_16 8 (dk_at dksX9_boat_4 19 rfl rfl)
theorem dX9_boat_112 : decode cX9_boat 112 = .ok (.iload_n 1, 1) := dk_27 (dk_at dksX9_boat_4 21 rfl rfl)
theorem dX9_boat_113 : decode cX9_boat 113 = .ok (.iadd, 1) := dk_96 (dk_at dksX9_boat_4 22 rfl rfl)
theorem dX9_boat_114 : decode cX9_boat 114 = .ok (.iload_n 2, 1) := dk_28 (dk_at dksX9_boat_4 23 rfl rfl)
theorem dX9_boat_115 : decode cX9_boat 115 = .ok (.iastore, 1) := dk_79 (dk_at dksX9_boat_5 0 rfl rfl)
theorem dX9_boat_116 : decode cX9_boat 116 = .ok (.iload 4, 2) := dk_21 4 (dk_at dksX9_boat_5 1 rfl rfl)
theorem dX9_boat_118 : decode cX9_boat 118 = .ok (.ireturn, 1) := dk_172 (dk_at dksX9_boat_5 3 rfl rfl)
abbrev cX9_ship : ByteArray := prog_34_method_35_code
def yX9_ship : MethodName := ⟨RX9, "ship", "(II)I"⟩
def dkwX9_ship_3 : List UInt8 := [182, 0, 191, 172]
abbrev dktX9_ship_3 : List UInt8 := dkwX9_ship_3 ++ []
def dkwX9_ship_2 : List UInt8 := [180, 0, 9, 16, 14, 46, 17, 0, 200, 160, 0, 12, 42, 16, 150, 182, 0, 132, 167, 0, 9, 42, 27, 28]
abbrev dktX9_ship_2 : List UInt8 := dkwX9_ship_2 ++ dktX9_ship_3
def dkwX9_ship_1 : List UInt8 := [180, 0, 9, 3, 46, 133, 20, 0, 187, 97, 184, 0, 54, 154, 0, 10, 42, 16, 154, 182, 0, 132, 172, 42]
abbrev dktX9_ship_1 : List UInt8 := dkwX9_ship_1 ++ dktX9_ship_2
def dkwX9_ship_0 : List UInt8 := [27, 133, 20, 0, 183, 20, 0, 189, 184, 0, 54, 153, 0, 29, 28, 133, 42, 180, 0, 9, 3, 46, 133, 42]
abbrev dktX9_ship_0 : List UInt8 := dkwX9_ship_0 ++ dktX9_ship_1
theorem dksX9_ship_0 : cX9_ship.data.toList.drop 0 = dktX9_ship_0 := by decide +kernel
theorem dksX9_ship_1 : cX9_ship.data.toList.drop 24 = dktX9_ship_1 := dk_seg dksX9_ship_0 24 rfl rfl
theorem dksX9_ship_2 : cX9_ship.data.toList.drop 48 = dktX9_ship_2 := dk_seg dksX9_ship_1 24 rfl rfl
theorem dksX9_ship_3 : cX9_ship.data.toList.drop 72 = dktX9_ship_3 := dk_seg dksX9_ship_2 24 rfl rfl
theorem dX9_ship_0 : decode cX9_ship 0 = .ok (.iload_n 1, 1) := dk_27 (dk_at dksX9_ship_0 0 rfl rfl)
theorem dX9_ship_1 : decode cX9_ship 1 = .ok (.i2l, 1) := dk_133 (dk_at dksX9_ship_0 1 rfl rfl)
theorem dX9_ship_2 : decode cX9_ship 2 = .ok (.ldc2_w 183, 3) := dk_20 0 183 (dk_at dksX9_ship_0 2 rfl rfl)
theorem dX9_ship_5 : decode cX9_ship 5 = .ok (.ldc2_w 189, 3) := dk_20 0 189 (dk_at dksX9_ship_0 5 rfl rfl)
theorem dX9_ship_8 : decode cX9_ship 8 = .ok (.invokestatic 54, 3) := dk_184 0 54 (dk_at dksX9_ship_0 8 rfl rfl)
theorem dX9_ship_11 : decode cX9_ship 11 = .ok (.ifCond .eq 29, 3) := dk_153 0 29 (dk_at dksX9_ship_0 11 rfl rfl)
theorem dX9_ship_14 : decode cX9_ship 14 = .ok (.iload_n 2, 1) := dk_28 (dk_at dksX9_ship_0 14 rfl rfl)
theorem dX9_ship_15 : decode cX9_ship 15 = .ok (.i2l, 1) := dk_133 (dk_at dksX9_ship_0 15 rfl rfl)
theorem dX9_ship_16 : decode cX9_ship 16 = .ok (.aload_n 0, 1) := dk_42 (dk_at dksX9_ship_0 16 rfl rfl)
theorem dX9_ship_17 : decode cX9_ship 17 = .ok (.getfield 9, 3) := dk_180 0 9 (dk_at dksX9_ship_0 17 rfl rfl)
theorem dX9_ship_20 : decode cX9_ship 20 = .ok (.iconst 0, 1) := dk_3 (dk_at dksX9_ship_0 20 rfl rfl)
theorem dX9_ship_21 : decode cX9_ship 21 = .ok (.iaload, 1) := dk_46 (dk_at dksX9_ship_0 21 rfl rfl)
theorem dX9_ship_22 : decode cX9_ship 22 = .ok (.i2l, 1) := dk_133 (dk_at dksX9_ship_0 22 rfl rfl)
theorem dX9_ship_23 : decode cX9_ship 23 = .ok (.aload_n 0, 1) := dk_42 (dk_at dksX9_ship_0 23 rfl rfl)
theorem dX9_ship_24 : decode cX9_ship 24 = .ok (.getfield 9, 3) := dk_180 0 9 (dk_at dksX9_ship_1 0 rfl rfl)
theorem dX9_ship_27 : decode cX9_ship 27 = .ok (.iconst 0, 1) := dk_3 (dk_at dksX9_ship_1 3 rfl rfl)
theorem dX9_ship_28 : decode cX9_ship 28 = .ok (.iaload, 1) := dk_46 (dk_at dksX9_ship_1 4 rfl rfl)
theorem dX9_ship_29 : decode cX9_ship 29 = .ok (.i2l, 1) := dk_133 (dk_at dksX9_ship_1 5 rfl rfl)
theorem dX9_ship_30 : decode cX9_ship 30 = .ok (.ldc2_w 187, 3) := dk_20 0 187 (dk_at dksX9_ship_1 6 rfl rfl)
theorem dX9_ship_33 : decode cX9_ship 33 = .ok (.ladd, 1) := dk_97 (dk_at dksX9_ship_1 9 rfl rfl)
theorem dX9_ship_34 : decode cX9_ship 34 = .ok (.invokestatic 54, 3) := dk_184 0 54 (dk_at dksX9_ship_1 10 rfl rfl)
theorem dX9_ship_37 : decode cX9_ship 37 = .ok (.ifCond .ne 10, 3) := dk_154 0 10 (dk_at dksX9_ship_1 13 rfl rfl)
theorem dX9_ship_40 : decode cX9_ship 40 = .ok (.aload_n 0, 1) := dk_42 (dk_at dksX9_ship_1 16 rfl rfl)
theorem dX9_ship_41 : decode cX9_ship 41 = .ok (.bipush (-102), 2) := dk_16 154 (dk_at dksX9_ship_1 17 rfl rfl)
theorem dX9_ship_43 : decode cX9_ship 43 = .ok (.invokevirtual 132, 3) := dk_182 0 132 (dk_at dksX9_ship_1 19 rfl rfl)
theorem dX9_ship_46 : decode cX9_ship 46 = .ok (.ireturn, 1) := dk_172 (dk_at dksX9_ship_1 22 rfl rfl)
theorem dX9_ship_47 : decode cX9_ship 47 = .ok (.aload_n 0, 1) := dk_42 (dk_at dksX9_ship_1 23 rfl rfl)
theorem dX9_ship_48 : decode cX9_ship 48 = .ok (.getfield 9, 3) := dk_180 0 9 (dk_at dksX9_ship_2 0 rfl rfl)
theorem dX9_ship_51 : decode cX9_ship 51 = .ok (.bipush 14, 2) := dk_16 14 (dk_at dksX9_ship_2 3 rfl rfl)
theorem dX9_ship_53 : decode cX9_ship 53 = .ok (.iaload, 1) := dk_46 (dk_at dksX9_ship_2 5 rfl rfl)
theorem dX9_ship_54 : decode cX9_ship 54 = .ok (.sipush 200, 3) := dk_17 0 200 (dk_at dksX9_ship_2 6 rfl rfl)
theorem dX9_ship_57 : decode cX9_ship 57 = .ok (.if_icmp .ne 12, 3) := dk_160 0 12 (dk_at dksX9_ship_2 9 rfl rfl)
theorem dX9_ship_60 : decode cX9_ship 60 = .ok (.aload_n 0, 1) := dk_42 (dk_at dksX9_ship_2 12 rfl rfl)
theorem dX9_ship_61 : decode cX9_ship 61 = .ok (.bipush (-106), 2) := dk_16 150 (dk_at dksX9_ship_2 13 rfl rfl)
theorem dX9_ship_63 : decode cX9_ship 63 = .ok (.invokevirtual 132, 3) := dk_182 0 132 (dk_at dksX9_ship_2 15 rfl rfl)
theorem dX9_ship_66 : decode cX9_ship 66 = .ok (.goto 9, 3) := dk_167 0 9 (dk_at dksX9_ship_2 18 rfl rfl)
theorem dX9_ship_69 : decode cX9_ship 69 = .ok (.aload_n 0, 1) := dk_42 (dk_at dksX9_ship_2 21 rfl rfl)
theorem dX9_ship_70 : decode cX9_ship 70 = .ok (.iload_n 1, 1) := dk_27 (dk_at dksX9_ship_2 22 rfl rfl)
theorem dX9_ship_71 : decode cX9_ship 71 = .ok (.iload_n 2, 1) := dk_28 (dk_at dksX9_ship_2 23 rfl rfl)
theorem dX9_ship_72 : decode cX9_ship 72 = .ok (.invokevirtual 191, 3) := dk_182 0 191 (dk_at dksX9_ship_3 0 rfl rfl)
theorem dX9_ship_75 : decode cX9_ship 75 = .ok (.ireturn, 1) := dk_172 (dk_at dksX9_ship_3 3 rfl rfl)
abbrev cX9_comesShip : ByteArray := prog_34_method_34_code
def yX9_comesShip : MethodName := ⟨RX9, "comesShip", "(II)I"⟩
def dkwX9_comesShip_3 : List UInt8 := [29, 172]
abbrev dktX9_comesShip_3 : List UInt8 := dkwX9_comesShip_3 ++ []
def dkwX9_comesShip_2 : List UInt8 := [42, 180, 0, 9, 16, 109, 7, 29, 104, 96, 6, 96, 2, 79, 42, 180, 0, 9, 16, 14, 29, 4, 96, 79]
abbrev dktX9_comesShip_2 : List UInt8 := dkwX9_comesShip_2 ++ dktX9_comesShip_3
def dkwX9_comesShip_1 : List UInt8 := [16, 109, 7, 29, 104, 96, 4, 96, 28, 79, 42, 180, 0, 9, 16, 109, 7, 29, 104, 96, 5, 96, 2, 79]
abbrev dktX9_comesShip_1 : List UInt8 := dkwX9_comesShip_1 ++ dktX9_comesShip_2
def dkwX9_comesShip_0 : List UInt8 := [42, 180, 0, 9, 16, 14, 46, 62, 42, 180, 0, 9, 16, 109, 7, 29, 104, 96, 27, 79, 42, 180, 0, 9]
abbrev dktX9_comesShip_0 : List UInt8 := dkwX9_comesShip_0 ++ dktX9_comesShip_1
theorem dksX9_comesShip_0 : cX9_comesShip.data.toList.drop 0 = dktX9_comesShip_0 := by decide +kernel
theorem dksX9_comesShip_1 : cX9_comesShip.data.toList.drop 24 = dktX9_comesShip_1 := dk_seg dksX9_comesShip_0 24 rfl rfl
theorem dksX9_comesShip_2 : cX9_comesShip.data.toList.drop 48 = dktX9_comesShip_2 := dk_seg dksX9_comesShip_1 24 rfl rfl
theorem dksX9_comesShip_3 : cX9_comesShip.data.toList.drop 72 = dktX9_comesShip_3 := dk_seg dksX9_comesShip_2 24 rfl rfl
theorem dX9_comesShip_0 : decode cX9_comesShip 0 = .ok (.aload_n 0, 1) := dk_42 (dk_at dksX9_comesShip_0 0 rfl rfl)
theorem dX9_comesShip_1 : decode cX9_comesShip 1 = .ok (.getfield 9, 3) := dk_180 0 9 (dk_at dksX9_comesShip_0 1 rfl rfl)
theorem dX9_comesShip_4 : decode cX9_comesShip 4 = .ok (.bipush 14, 2) := dk_16 14 (dk_at dksX9_comesShip_0 4 rfl rfl)
theorem dX9_comesShip_6 : decode cX9_comesShip 6 = .ok (.iaload, 1) := dk_46 (dk_at dksX9_comesShip_0 6 rfl rfl)
theorem dX9_comesShip_7 : decode cX9_comesShip 7 = .ok (.istore_n 3, 1) := dk_62 (dk_at dksX9_comesShip_0 7 rfl rfl)
theorem dX9_comesShip_8 : decode cX9_comesShip 8 = .ok (.aload_n 0, 1) := dk_42 (dk_at dksX9_comesShip_0 8 rfl rfl)
theorem dX9_comesShip_9 : decode cX9_comesShip 9 = .ok (.getfield 9, 3) := dk_180 0 9 (dk_at dksX9_comesShip_0 9 rfl rfl)
theorem dX9_comesShip_12 : decode cX9_comesShip 12 = .ok (.bipush 109, 2) := dk_16 109 (dk_at dksX9_comesShip_0 12 rfl rfl)
theorem dX9_comesShip_14 : decode cX9_comesShip 14 = .ok (.iconst 4, 1) := dk_7 (dk_at dksX9_comesShip_0 14 rfl rfl)
theorem dX9_comesShip_15 : decode cX9_comesShip 15 = .ok (.iload_n 3, 1) := dk_29 (dk_at dksX9_comesShip_0 15 rfl rfl)
theorem dX9_comesShip_16 : decode cX9_comesShip 16 = .ok (.imul, 1) := dk_104 (dk_at dksX9_comesShip_0 16 rfl rfl)
theorem dX9_comesShip_17 : decode cX9_comesShip 17 = .ok (.iadd, 1) := dk_96 (dk_at dksX9_comesShip_0 17 rfl rfl)
theorem dX9_comesShip_18 : decode cX9_comesShip 18 = .ok (.iload_n 1, 1) := dk_27 (dk_at dksX9_comesShip_0 18 rfl rfl)
theorem dX9_comesShip_19 : decode cX9_comesShip 19 = .ok (.iastore, 1) := dk_79 (dk_at dksX9_comesShip_0 19 rfl rfl)
theorem dX9_comesShip_20 : decode cX9_comesShip 20 = .ok (.aload_n 0, 1) := dk_42 (dk_at dksX9_comesShip_0 20 rfl rfl)
theorem dX9_comesShip_21 : decode cX9_comesShip 21 = .ok (.getfield 9, 3) := dk_180 0 9 (dk_at dksX9_comesShip_0 21 rfl rfl)
theorem dX9_comesShip_24 : decode cX9_comesShip 24 = .ok (.bipush 109, 2) := dk_16 109 (dk_at dksX9_comesShip_1 0 rfl rfl)
theorem dX9_comesShip_26 : decode cX9_comesShip 26 = .ok (.iconst 4, 1) := dk_7 (dk_at dksX9_comesShip_1 2 rfl rfl)
theorem dX9_comesShip_27 : decode cX9_comesShip 27 = .ok (.iload_n 3, 1) := dk_29 (dk_at dksX9_comesShip_1 3 rfl rfl)
theorem dX9_comesShip_28 : decode cX9_comesShip 28 = .ok (.imul, 1) := dk_104 (dk_at dksX9_comesShip_1 4 rfl rfl)
theorem dX9_comesShip_29 : decode cX9_comesShip 29 = .ok (.iadd, 1) := dk_96 (dk_at dksX9_comesShip_1 5 rfl rfl)
theorem dX9_comesShip_30 : decode cX9_comesShip 30 = .ok (.iconst 1, 1) := dk_4 (dk_at dksX9_comesShip_1 6 rfl rfl)
theorem dX9_comesShip_31 : decode cX9_comesShip 31 = .ok (.iadd, 1) := dk_96 (dk_at dksX9_comesShip_1 7 rfl rfl)
theorem dX9_comesShip_32 : decode cX9_comesShip 32 = .ok (.iload_n 2, 1) := dk_28 (dk_at dksX9_comesShip_1 8 rfl rfl)
theorem dX9_comesShip_33 : decode cX9_comesShip 33 = .ok (.iastore, 1) := dk_79 (dk_at dksX9_comesShip_1 9 rfl rfl)
theorem dX9_comesShip_34 : decode cX9_comesShip 34 = .ok (.aload_n 0, 1) := dk_42 (dk_at dksX9_comesShip_1 10 rfl rfl)
theorem dX9_comesShip_35 : decode cX9_comesShip 35 = .ok (.getfield 9, 3) := dk_180 0 9 (dk_at dksX9_comesShip_1 11 rfl rfl)
theorem dX9_comesShip_38 : decode cX9_comesShip 38 = .ok (.bipush 109, 2) := dk_16 109 (dk_at dksX9_comesShip_1 14 rfl rfl)
theorem dX9_comesShip_40 : decode cX9_comesShip 40 = .ok (.iconst 4, 1) := dk_7 (dk_at dksX9_comesShip_1 16 rfl rfl)
theorem dX9_comesShip_41 : decode cX9_comesShip 41 = .ok (.iload_n 3, 1) := dk_29 (dk_at dksX9_comesShip_1 17 rfl rfl)
theorem dX9_comesShip_42 : decode cX9_comesShip 42 = .ok (.imul, 1) := dk_104 (dk_at dksX9_comesShip_1 18 rfl rfl)
theorem dX9_comesShip_43 : decode cX9_comesShip 43 = .ok (.iadd, 1) := dk_96 (dk_at dksX9_comesShip_1 19 rfl rfl)
theorem dX9_comesShip_44 : decode cX9_comesShip 44 = .ok (.iconst 2, 1) := dk_5 (dk_at dksX9_comesShip_1 20 rfl rfl)
theorem dX9_comesShip_45 : decode cX9_comesShip 45 = .ok (.iadd, 1) := dk_96 (dk_at dksX9_comesShip_1 21 rfl rfl)
theorem dX9_comesShip_46 : decode cX9_comesShip 46 = .ok (.iconst (-1), 1) := dk_2 (dk_at dksX9_comesShip_1 22 rfl rfl)
theorem dX9_comesShip_47 : decode cX9_comesShip 47 = .ok (.iastore, 1) := dk_79 (dk_at dksX9_comesShip_1 23 rfl rfl)
theorem dX9_comesShip_48 : decode cX9_comesShip 48 = .ok (.aload_n 0, 1) := dk_42 (dk_at dksX9_comesShip_2 0 rfl rfl)
theorem dX9_comesShip_49 : decode cX9_comesShip 49 = .ok (.getfield 9, 3) := dk_180 0 9 (dk_at dksX9_comesShip_2 1 rfl rfl)
theorem dX9_comesShip_52 : decode cX9_comesShip 52 = .ok (.bipush 109, 2) := dk_16 109 (dk_at dksX9_comesShip_2 4 rfl rfl)
theorem dX9_comesShip_54 : decode cX9_comesShip 54 = .ok (.iconst 4, 1) := dk_7 (dk_at dksX9_comesShip_2 6 rfl rfl)
theorem dX9_comesShip_55 : decode cX9_comesShip 55 = .ok (.iload_n 3, 1) := dk_29 (dk_at dksX9_comesShip_2 7 rfl rfl)
theorem dX9_comesShip_56 : decode cX9_comesShip 56 = .ok (.imul, 1) := dk_104 (dk_at dksX9_comesShip_2 8 rfl rfl)
theorem dX9_comesShip_57 : decode cX9_comesShip 57 = .ok (.iadd, 1) := dk_96 (dk_at dksX9_comesShip_2 9 rfl rfl)
theorem dX9_comesShip_58 : decode cX9_comesShip 58 = .ok (.iconst 3, 1) := dk_6 (dk_at dksX9_comesShip_2 10 rfl rfl)
theorem dX9_comesShip_59 : decode cX9_comesShip 59 = .ok (.iadd, 1) := dk_96 (dk_at dksX9_comesShip_2 11 rfl rfl)
theorem dX9_comesShip_60 : decode cX9_comesShip 60 = .ok (.iconst (-1), 1) := dk_2 (dk_at dksX9_comesShip_2 12 rfl rfl)
theorem dX9_comesShip_61 : decode cX9_comesShip 61 = .ok (.iastore, 1) := dk_79 (dk_at dksX9_comesShip_2 13 rfl rfl)
theorem dX9_comesShip_62 : decode cX9_comesShip 62 = .ok (.aload_n 0, 1) := dk_42 (dk_at dksX9_comesShip_2 14 rfl rfl)
theorem dX9_comesShip_63 : decode cX9_comesShip 63 = .ok (.getfield 9, 3) := dk_180 0 9 (dk_at dksX9_comesShip_2 15 rfl rfl)
theorem dX9_comesShip_66 : decode cX9_comesShip 66 = .ok (.bipush 14, 2) := dk_16 14 (dk_at dksX9_comesShip_2 18 rfl rfl)
theorem dX9_comesShip_68 : decode cX9_comesShip 68 = .ok (.iload_n 3, 1) := dk_29 (dk_at dksX9_comesShip_2 20 rfl rfl)
theorem dX9_comesShip_69 : decode cX9_comesShip 69 = .ok (.iconst 1, 1) := dk_4 (dk_at dksX9_comesShip_2 21 rfl rfl)
theorem dX9_comesShip_70 : decode cX9_comesShip 70 = .ok (.iadd, 1) := dk_96 (dk_at dksX9_comesShip_2 22 rfl rfl)
theorem dX9_comesShip_71 : decode cX9_comesShip 71 = .ok (.iastore, 1) := dk_79 (dk_at dksX9_comesShip_2 23 rfl rfl)
theorem dX9_comesShip_72 : decode cX9_comesShip 72 = .ok (.iload_n 3, 1) := dk_29 (dk_at dksX9_comesShip_3 0 rfl rfl)
theorem dX9_comesShip_73 : decode cX9_comesShip 73 = .ok (.ireturn, 1) := dk_172 (dk_at dksX9_comesShip_3 1 rfl rfl)
abbrev cX9_pass : ByteArray := prog_34_method_36_code
def yX9_pass : MethodName := ⟨RX9, "pass", "(I)I"⟩
def dkwX9_pass_1 : List UInt8 := [182, 0, 132, 172]
abbrev dktX9_pass_1 : List UInt8 := dkwX9_pass_1 ++ []
def dkwX9_pass_0 : List UInt8 := [27, 133, 9, 20, 0, 194, 184, 0, 54, 153, 0, 11, 42, 27, 182, 0, 127, 167, 0, 9, 42, 16, 154]
abbrev dktX9_pass_0 : List UInt8 := dkwX9_pass_0 ++ dktX9_pass_1
theorem dksX9_pass_0 : cX9_pass.data.toList.drop 0 = dktX9_pass_0 := by decide +kernel
theorem dksX9_pass_1 : cX9_pass.data.toList.drop 23 = dktX9_pass_1 := dk_seg dksX9_pass_0 23 rfl rfl
theorem dX9_pass_0 : decode cX9_pass 0 = .ok (.iload_n 1, 1) := dk_27 (dk_at dksX9_pass_0 0 rfl rfl)
theorem dX9_pass_1 : decode cX9_pass 1 = .ok (.i2l, 1) := dk_133 (dk_at dksX9_pass_0 1 rfl rfl)
theorem dX9_pass_2 : decode cX9_pass 2 = .ok (.lconst 0, 1) := dk_9 (dk_at dksX9_pass_0 2 rfl rfl)
theorem dX9_pass_3 : decode cX9_pass 3 = .ok (.ldc2_w 194, 3) := dk_20 0 194 (dk_at dksX9_pass_0 3 rfl rfl)
theorem dX9_pass_6 : decode cX9_pass 6 = .ok (.invokestatic 54, 3) := dk_184 0 54 (dk_at dksX9_pass_0 6 rfl rfl)
theorem dX9_pass_9 : decode cX9_pass 9 = .ok (.ifCond .eq 11, 3) := dk_153 0 11 (dk_at dksX9_pass_0 9 rfl rfl)
theorem dX9_pass_12 : decode cX9_pass 12 = .ok (.aload_n 0, 1) := dk_42 (dk_at dksX9_pass_0 12 rfl rfl)
theorem dX9_pass_13 : decode cX9_pass 13 = .ok (.iload_n 1, 1) := dk_27 (dk_at dksX9_pass_0 13 rfl rfl)
theorem dX9_pass_14 : decode cX9_pass 14 = .ok (.invokevirtual 127, 3) := dk_182 0 127 (dk_at dksX9_pass_0 14 rfl rfl)
theorem dX9_pass_17 : decode cX9_pass 17 = .ok (.goto 9, 3) := dk_167 0 9 (dk_at dksX9_pass_0 17 rfl rfl)
theorem dX9_pass_20 : decode cX9_pass 20 = .ok (.aload_n 0, 1) := dk_42 (dk_at dksX9_pass_0 20 rfl rfl)
theorem dX9_pass_21 : decode cX9_pass 21 = .ok (.bipush (-102), 2) := dk_16 154 (dk_at dksX9_pass_0 21 rfl rfl)
theorem dX9_pass_23 : decode cX9_pass 23 = .ok (.invokevirtual 132, 3) := dk_182 0 132 (dk_at dksX9_pass_1 0 rfl rfl)
theorem dX9_pass_26 : decode cX9_pass 26 = .ok (.ireturn, 1) := dk_172 (dk_at dksX9_pass_1 3 rfl rfl)
abbrev cX9_passes : ByteArray := prog_34_method_20_code
def yX9_passes : MethodName := ⟨RX9, "passes", "(I)I"⟩
def dkwX9_passes_1 : List UInt8 := [167, 255, 244, 42, 180, 0, 9, 16, 16, 46, 28, 100, 172]
abbrev dktX9_passes_1 : List UInt8 := dkwX9_passes_1 ++ []
def dkwX9_passes_0 : List UInt8 := [42, 180, 0, 9, 16, 16, 46, 61, 3, 62, 29, 27, 162, 0, 13, 42, 182, 0, 120, 132, 3, 1]
abbrev dktX9_passes_0 : List UInt8 := dkwX9_passes_0 ++ dktX9_passes_1
theorem dksX9_passes_0 : cX9_passes.data.toList.drop 0 = dktX9_passes_0 := by decide +kernel
theorem dksX9_passes_1 : cX9_passes.data.toList.drop 22 = dktX9_passes_1 := dk_seg dksX9_passes_0 22 rfl rfl
theorem dX9_passes_0 : decode cX9_passes 0 = .ok (.aload_n 0, 1) := dk_42 (dk_at dksX9_passes_0 0 rfl rfl)
theorem dX9_passes_1 : decode cX9_passes 1 = .ok (.getfield 9, 3) := dk_180 0 9 (dk_at dksX9_passes_0 1 rfl rfl)
theorem dX9_passes_4 : decode cX9_passes 4 = .ok (.bipush 16, 2) := dk_16 16 (dk_at dksX9_passes_0 4 rfl rfl)
theorem dX9_passes_6 : decode cX9_passes 6 = .ok (.iaload, 1) := dk_46 (dk_at dksX9_passes_0 6 rfl rfl)
theorem dX9_passes_7 : decode cX9_passes 7 = .ok (.istore_n 2, 1) := dk_61 (dk_at dksX9_passes_0 7 rfl rfl)
theorem dX9_passes_8 : decode cX9_passes 8 = .ok (.iconst 0, 1) := dk_3 (dk_at dksX9_passes_0 8 rfl rfl)
theorem dX9_passes_9 : decode cX9_passes 9 = .ok (.istore_n 3, 1) := dk_62 (dk_at dksX9_passes_0 9 rfl rfl)
theorem dX9_passes_10 : decode cX9_passes 10 = .ok (.iload_n 3, 1) := dk_29 (dk_at dksX9_passes_0 10 rfl rfl)
theorem dX9_passes_11 : decode cX9_passes 11 = .ok (.iload_n 1, 1) := dk_27 (dk_at dksX9_passes_0 11 rfl rfl)
theorem dX9_passes_12 : decode cX9_passes 12 = .ok (.if_icmp .ge 13, 3) := dk_162 0 13 (dk_at dksX9_passes_0 12 rfl rfl)
theorem dX9_passes_15 : decode cX9_passes 15 = .ok (.aload_n 0, 1) := dk_42 (dk_at dksX9_passes_0 15 rfl rfl)
theorem dX9_passes_16 : decode cX9_passes 16 = .ok (.invokevirtual 120, 3) := dk_182 0 120 (dk_at dksX9_passes_0 16 rfl rfl)
theorem dX9_passes_19 : decode cX9_passes 19 = .ok (.iinc 3 1, 3) := dk_132 3 1 (dk_at dksX9_passes_0 19 rfl rfl)
theorem dX9_passes_22 : decode cX9_passes 22 = .ok (.goto (-12), 3) := dk_167 255 244 (dk_at dksX9_passes_1 0 rfl rfl)
theorem dX9_passes_25 : decode cX9_passes 25 = .ok (.aload_n 0, 1) := dk_42 (dk_at dksX9_passes_1 3 rfl rfl)
theorem dX9_passes_26 : decode cX9_passes 26 = .ok (.getfield 9, 3) := dk_180 0 9 (dk_at dksX9_passes_1 4 rfl rfl)
theorem dX9_passes_29 : decode cX9_passes 29 = .ok (.bipush 16, 2) := dk_16 16 (dk_at dksX9_passes_1 7 rfl rfl)
theorem dX9_passes_31 : decode cX9_passes 31 = .ok (.iaload, 1) := dk_46 (dk_at dksX9_passes_1 9 rfl rfl)
theorem dX9_passes_32 : decode cX9_passes 32 = .ok (.iload_n 2, 1) := dk_28 (dk_at dksX9_passes_1 10 rfl rfl)
theorem dX9_passes_33 : decode cX9_passes 33 = .ok (.isub, 1) := dk_100 (dk_at dksX9_passes_1 11 rfl rfl)
theorem dX9_passes_34 : decode cX9_passes 34 = .ok (.ireturn, 1) := dk_172 (dk_at dksX9_passes_1 12 rfl rfl)
abbrev cX9_hourPasses : ByteArray := prog_34_method_19_code
def yX9_hourPasses : MethodName := ⟨RX9, "hourPasses", "()V"⟩
def dkwX9_hourPasses_20 : List UInt8 := [4, 96, 79, 177]
abbrev dktX9_hourPasses_20 : List UInt8 := dkwX9_hourPasses_20 ++ []
def dkwX9_hourPasses_19 : List UInt8 := [79, 132, 9, 1, 167, 255, 226, 42, 29, 181, 0, 114, 42, 21, 6, 181, 0, 117, 42, 180, 0, 9, 3, 27]
abbrev dktX9_hourPasses_19 : List UInt8 := dkwX9_hourPasses_19 ++ dktX9_hourPasses_20
def dkwX9_hourPasses_18 : List UInt8 := [42, 180, 0, 9, 16, 13, 46, 162, 0, 24, 42, 180, 0, 9, 16, 61, 7, 21, 9, 104, 96, 4, 96, 3]
abbrev dktX9_hourPasses_18 : List UInt8 := dkwX9_hourPasses_18 ++ dktX9_hourPasses_19
def dkwX9_hourPasses_17 : List UInt8 := [180, 0, 9, 16, 9, 46, 96, 79, 42, 180, 0, 9, 16, 18, 92, 46, 4, 96, 79, 3, 54, 9, 21, 9]
abbrev dktX9_hourPasses_17 : List UInt8 := dkwX9_hourPasses_17 ++ dktX9_hourPasses_18
def dkwX9_hourPasses_16 : List UInt8 := [8, 46, 42, 180, 0, 9, 16, 11, 46, 96, 184, 0, 111, 79, 42, 180, 0, 9, 16, 8, 27, 42]
abbrev dktX9_hourPasses_16 : List UInt8 := dkwX9_hourPasses_16 ++ dktX9_hourPasses_17
def dkwX9_hourPasses_15 : List UInt8 := [42, 180, 0, 9, 16, 10, 46, 96, 184, 0, 111, 79, 42, 180, 0, 9, 8, 17, 39, 15, 42, 180, 0, 9]
abbrev dktX9_hourPasses_15 : List UInt8 := dkwX9_hourPasses_15 ++ dktX9_hourPasses_16
def dkwX9_hourPasses_14 : List UInt8 := [181, 0, 107, 42, 180, 0, 107, 153, 0, 118, 42, 180, 0, 9, 7, 17, 39, 15, 42, 180, 0, 9, 7, 46]
abbrev dktX9_hourPasses_14 : List UInt8 := dkwX9_hourPasses_14 ++ dktX9_hourPasses_15
def dkwX9_hourPasses_13 : List UInt8 := [180, 0, 9, 16, 8, 46, 161, 0, 16, 28, 5, 159, 0, 11, 29, 154, 0, 7, 4, 167, 0, 4, 3]
abbrev dktX9_hourPasses_13 : List UInt8 := dkwX9_hourPasses_13 ++ dktX9_hourPasses_14
def dkwX9_hourPasses_12 : List UInt8 := [182, 0, 99, 42, 21, 8, 28, 182, 0, 103, 42, 42, 180, 0, 9, 16, 8, 46, 2, 159, 0, 27, 27, 42]
abbrev dktX9_hourPasses_12 : List UInt8 := dkwX9_hourPasses_12 ++ dktX9_hourPasses_13
def dkwX9_hourPasses_11 : List UInt8 := [160, 0, 15, 29, 153, 0, 11, 42, 4, 2, 21, 4, 182, 0, 76, 42, 29, 21, 7, 28, 21, 8]
abbrev dktX9_hourPasses_11 : List UInt8 := dkwX9_hourPasses_11 ++ dktX9_hourPasses_12
def dkwX9_hourPasses_10 : List UInt8 := [153, 0, 11, 42, 6, 2, 21, 4, 182, 0, 76, 21, 5, 153, 0, 26, 42, 21, 4, 3, 182, 0, 58, 5]
abbrev dktX9_hourPasses_10 : List UInt8 := dkwX9_hourPasses_10 ++ dktX9_hourPasses_11
def dkwX9_hourPasses_9 : List UInt8 := [180, 0, 9, 16, 6, 46, 4, 160, 0, 7, 4, 167, 0, 4, 5, 2, 21, 4, 182, 0, 76, 21, 7]
abbrev dktX9_hourPasses_9 : List UInt8 := dkwX9_hourPasses_9 ++ dktX9_hourPasses_10
def dkwX9_hourPasses_8 : List UInt8 := [153, 0, 8, 21, 4, 167, 0, 4, 2, 54, 8, 21, 6, 153, 0, 30, 29, 153, 0, 26, 42, 42]
abbrev dktX9_hourPasses_8 : List UInt8 := dkwX9_hourPasses_8 ++ dktX9_hourPasses_9
def dkwX9_hourPasses_7 : List UInt8 := [54, 7, 42, 180, 0, 9, 8, 92, 46, 21, 7, 153, 0, 7, 4, 167, 0, 4, 3, 100, 79, 21, 6]
abbrev dktX9_hourPasses_7 : List UInt8 := dkwX9_hourPasses_7 ++ dktX9_hourPasses_8
def dkwX9_hourPasses_6 : List UInt8 := [160, 0, 22, 21, 6, 153, 0, 17, 42, 180, 0, 9, 8, 46, 4, 161, 0, 7, 4, 167, 0, 4, 3]
abbrev dktX9_hourPasses_6 : List UInt8 := dkwX9_hourPasses_6 ++ dktX9_hourPasses_7
def dkwX9_hourPasses_5 : List UInt8 := [92, 46, 21, 5, 153, 0, 7, 4, 167, 0, 4, 3, 96, 79, 42, 29, 21, 6, 182, 0, 95, 28, 4]
abbrev dktX9_hourPasses_5 : List UInt8 := dkwX9_hourPasses_5 ++ dktX9_hourPasses_6
def dkwX9_hourPasses_4 : List UInt8 := [104, 96, 21, 5, 153, 0, 7, 6, 167, 0, 4, 5, 96, 92, 46, 4, 96, 79, 42, 180, 0, 9, 16, 20]
abbrev dktX9_hourPasses_4 : List UInt8 := dkwX9_hourPasses_4 ++ dktX9_hourPasses_5
def dkwX9_hourPasses_3 : List UInt8 := [154, 0, 7, 4, 167, 0, 4, 3, 54, 6, 21, 4, 155, 0, 50, 42, 180, 0, 9, 16, 61, 7, 21, 4]
abbrev dktX9_hourPasses_3 : List UInt8 := dkwX9_hourPasses_3 ++ dktX9_hourPasses_4
def dkwX9_hourPasses_2 : List UInt8 := [21, 4, 182, 0, 92, 161, 0, 7, 4, 167, 0, 4, 3, 54, 5, 21, 4, 155, 0, 12, 21, 5]
abbrev dktX9_hourPasses_2 : List UInt8 := dkwX9_hourPasses_2 ++ dktX9_hourPasses_3
def dkwX9_hourPasses_1 : List UInt8 := [16, 85, 27, 16, 24, 112, 96, 46, 54, 4, 21, 4, 155, 0, 23, 42, 21, 4, 4, 182, 0, 58, 42]
abbrev dktX9_hourPasses_1 : List UInt8 := dkwX9_hourPasses_1 ++ dktX9_hourPasses_2
def dkwX9_hourPasses_0 : List UInt8 := [42, 180, 0, 9, 3, 46, 60, 42, 27, 182, 0, 85, 61, 42, 27, 182, 0, 89, 62, 42, 180, 0, 9]
abbrev dktX9_hourPasses_0 : List UInt8 := dkwX9_hourPasses_0 ++ dktX9_hourPasses_1
theorem dksX9_hourPasses_0 : cX9_hourPasses.data.toList.drop 0 = dktX9_hourPasses_0 := by decide +kernel
theorem dksX9_hourPasses_1 : cX9_hourPasses.data.toList.drop 23 = dktX9_hourPasses_1 := dk_seg dksX9_hourPasses_0 23 rfl rfl
theorem dksX9_hourPasses_2 : cX9_hourPasses.data.toList.drop 46 = dktX9_hourPasses_2 := dk_seg dksX9_hourPasses_1 23 rfl rfl
theorem dksX9_hourPasses_3 : cX9_hourPasses.data.toList.drop 68 = dktX9_hourPasses_3 := dk_seg dksX9_hourPasses_2 22 rfl rfl
theorem dksX9_hourPasses_4 : cX9_hourPasses.data.toList.drop 92 = dktX9_hourPasses_4 := dk_seg dksX9_hourPasses_3 24 rfl rfl
theorem dksX9_hourPasses_5 : cX9_hourPasses.data.toList.drop 116 = dktX9_hourPasses_5 := dk_seg dksX9_hourPasses_4 24 rfl rfl
theorem dksX9_hourPasses_6 : cX9_hourPasses.data.toList.drop 139 = dktX9_hourPasses_6 := dk_seg dksX9_hourPasses_5 23 rfl rfl
theorem dksX9_hourPasses_7 : cX9_hourPasses.data.toList.drop 162 = dktX9_hourPasses_7 := dk_seg dksX9_hourPasses_6 23 rfl rfl
theorem dksX9_hourPasses_8 : cX9_hourPasses.data.toList.drop 185 = dktX9_hourPasses_8 := dk_seg dksX9_hourPasses_7 23 rfl rfl
theorem dksX9_hourPasses_9 : cX9_hourPasses.data.toList.drop 207 = dktX9_hourPasses_9 := dk_seg dksX9_hourPasses_8 22 rfl rfl
theorem dksX9_hourPasses_10 : cX9_hourPasses.data.toList.drop 230 = dktX9_hourPasses_10 := dk_seg dksX9_hourPasses_9 23 rfl rfl
theorem dksX9_hourPasses_11 : cX9_hourPasses.data.toList.drop 254 = dktX9_hourPasses_11 := dk_seg dksX9_hourPasses_10 24 rfl rfl
theorem dksX9_hourPasses_12 : cX9_hourPasses.data.toList.drop 276 = dktX9_hourPasses_12 := dk_seg dksX9_hourPasses_11 22 rfl rfl
theorem dksX9_hourPasses_13 : cX9_hourPasses.data.toList.drop 300 = dktX9_hourPasses_13 := dk_seg dksX9_hourPasses_12 24 rfl rfl
theorem dksX9_hourPasses_14 : cX9_hourPasses.data.toList.drop 323 = dktX9_hourPasses_14 := dk_seg dksX9_hourPasses_13 23 rfl rfl
theorem dksX9_hourPasses_15 : cX9_hourPasses.data.toList.drop 347 = dktX9_hourPasses_15 := dk_seg dksX9_hourPasses_14 24 rfl rfl
theorem dksX9_hourPasses_16 : cX9_hourPasses.data.toList.drop 371 = dktX9_hourPasses_16 := dk_seg dksX9_hourPasses_15 24 rfl rfl
theorem dksX9_hourPasses_17 : cX9_hourPasses.data.toList.drop 393 = dktX9_hourPasses_17 := dk_seg dksX9_hourPasses_16 22 rfl rfl
theorem dksX9_hourPasses_18 : cX9_hourPasses.data.toList.drop 417 = dktX9_hourPasses_18 := dk_seg dksX9_hourPasses_17 24 rfl rfl
theorem dksX9_hourPasses_19 : cX9_hourPasses.data.toList.drop 441 = dktX9_hourPasses_19 := dk_seg dksX9_hourPasses_18 24 rfl rfl
theorem dksX9_hourPasses_20 : cX9_hourPasses.data.toList.drop 465 = dktX9_hourPasses_20 := dk_seg dksX9_hourPasses_19 24 rfl rfl
theorem dX9_hourPasses_0 : decode cX9_hourPasses 0 = .ok (.aload_n 0, 1) := dk_42 (dk_at dksX9_hourPasses_0 0 rfl rfl)
theorem dX9_hourPasses_1 : decode cX9_hourPasses 1 = .ok (.getfield 9, 3) := dk_180 0 9 (dk_at dksX9_hourPasses_0 1 rfl rfl)
theorem dX9_hourPasses_4 : decode cX9_hourPasses 4 = .ok (.iconst 0, 1) := dk_3 (dk_at dksX9_hourPasses_0 4 rfl rfl)
theorem dX9_hourPasses_5 : decode cX9_hourPasses 5 = .ok (.iaload, 1) := dk_46 (dk_at dksX9_hourPasses_0 5 rfl rfl)
theorem dX9_hourPasses_6 : decode cX9_hourPasses 6 = .ok (.istore_n 1, 1) := dk_60 (dk_at dksX9_hourPasses_0 6 rfl rfl)
theorem dX9_hourPasses_7 : decode cX9_hourPasses 7 = .ok (.aload_n 0, 1) := dk_42 (dk_at dksX9_hourPasses_0 7 rfl rfl)
theorem dX9_hourPasses_8 : decode cX9_hourPasses 8 = .ok (.iload_n 1, 1) := dk_27 (dk_at dksX9_hourPasses_0 8 rfl rfl)
theorem dX9_hourPasses_9 : decode cX9_hourPasses 9 = .ok (.invokevirtual 85, 3) := dk_182 0 85 (dk_at dksX9_hourPasses_0 9 rfl rfl)
theorem dX9_hourPasses_12 : decode cX9_hourPasses 12 = .ok (.istore_n 2, 1) := dk_61 (dk_at dksX9_hourPasses_0 12 rfl rfl)
theorem dX9_hourPasses_13 : decode cX9_hourPasses 13 = .ok (.aload_n 0, 1) := dk_42 (dk_at dksX9_hourPasses_0 13 rfl rfl)
theorem dX9_hourPasses_14 : decode cX9_hourPasses 14 = .ok (.iload_n 1, 1) := dk_27 (dk_at dksX9_hourPasses_0 14 rfl rfl)
theorem dX9_hourPasses_15 : decode cX9_hourPasses 15 = .ok (.invokevirtual 89, 3) := dk_182 0 89 (dk_at dksX9_hourPasses_0 15 rfl rfl)
theorem dX9_hourPasses_18 : decode cX9_hourPasses 18 = .ok (.istore_n 3, 1) := dk_62 (dk_at dksX9_hourPasses_0 18 rfl rfl)
theorem dX9_hourPasses_19 : decode cX9_hourPasses 19 = .ok (.aload_n 0, 1) := dk_42 (dk_at dksX9_hourPasses_0 19 rfl rfl)
theorem dX9_hourPasses_20 : decode cX9_hourPasses 20 = .ok (.getfield 9, 3) := dk_180 0 9 (dk_at dksX9_hourPasses_0 20 rfl rfl)
theorem dX9_hourPasses_23 : decode cX9_hourPasses 23 = .ok (.bipush 85, 2) := dk_16 85 (dk_at dksX9_hourPasses_1 0 rfl rfl)
theorem dX9_hourPasses_25 : decode cX9_hourPasses 25 = .ok (.iload_n 1, 1) := dk_27 (dk_at dksX9_hourPasses_1 2 rfl rfl)
theorem dX9_hourPasses_26 : decode cX9_hourPasses 26 = .ok (.bipush 24, 2) := dk_16 24 (dk_at dksX9_hourPasses_1 3 rfl rfl)
theorem dX9_hourPasses_28 : decode cX9_hourPasses 28 = .ok (.irem, 1) := dk_112 (dk_at dksX9_hourPasses_1 5 rfl rfl)
theorem dX9_hourPasses_29 : decode cX9_hourPasses 29 = .ok (.iadd, 1) := dk_96 (dk_at dksX9_hourPasses_1 6 rfl rfl)
theorem dX9_hourPasses_30 : decode cX9_hourPasses 30 = .ok (.iaload, 1) := dk_46 (dk_at dksX9_hourPasses_1 7 rfl rfl)
theorem dX9_hourPasses_31 : decode cX9_hourPasses 31 = .ok (.istore 4, 2) := dk_54 4 (dk_at dksX9_hourPasses_1 8 rfl rfl)
theorem dX9_hourPasses_33 : decode cX9_hourPasses 33 = .ok (.iload 4, 2) := dk_21 4 (dk_at dksX9_hourPasses_1 10 rfl rfl)
theorem dX9_hourPasses_35 : decode cX9_hourPasses 35 = .ok (.ifCond .lt 23, 3) := dk_155 0 23 (dk_at dksX9_hourPasses_1 12 rfl rfl)
theorem dX9_hourPasses_38 : decode cX9_hourPasses 38 = .ok (.aload_n 0, 1) := dk_42 (dk_at dksX9_hourPasses_1 15 rfl rfl)
theorem dX9_hourPasses_39 : decode cX9_hourPasses 39 = .ok (.iload 4, 2) := dk_21 4 (dk_at dksX9_hourPasses_1 16 rfl rfl)
theorem dX9_hourPasses_41 : decode cX9_hourPasses 41 = .ok (.iconst 1, 1) := dk_4 (dk_at dksX9_hourPasses_1 18 rfl rfl)
theorem dX9_hourPasses_42 : decode cX9_hourPasses 42 = .ok (.invokevirtual 58, 3) := dk_182 0 58 (dk_at dksX9_hourPasses_1 19 rfl rfl)
theorem dX9_hourPasses_45 : decode cX9_hourPasses 45 = .ok (.aload_n 0, 1) := dk_42 (dk_at dksX9_hourPasses_1 22 rfl rfl)
theorem dX9_hourPasses_46 : decode cX9_hourPasses 46 = .ok (.iload 4, 2) := dk_21 4 (dk_at dksX9_hourPasses_2 0 rfl rfl)
theorem dX9_hourPasses_48 : decode cX9_hourPasses 48 = .ok (.invokevirtual 92, 3) := dk_182 0 92 (dk_at dksX9_hourPasses_2 2 rfl rfl)
theorem dX9_hourPasses_51 : decode cX9_hourPasses 51 = .ok (.if_icmp .lt 7, 3) := dk_161 0 7 (dk_at dksX9_hourPasses_2 5 rfl rfl)
theorem dX9_hourPasses_54 : decode cX9_hourPasses 54 = .ok (.iconst 1, 1) := dk_4 (dk_at dksX9_hourPasses_2 8 rfl rfl)
theorem dX9_hourPasses_55 : decode cX9_hourPasses 55 = .ok (.goto 4, 3) := dk_167 0 4 (dk_at dksX9_hourPasses_2 9 rfl rfl)
theorem dX9_hourPasses_58 : decode cX9_hourPasses 58 = .ok (.iconst 0, 1) := dk_3 (dk_at dksX9_hourPasses_2 12 rfl rfl)
theorem dX9_hourPasses_59 : decode cX9_hourPasses 59 = .ok (.istore 5, 2) := dk_54 5 (dk_at dksX9_hourPasses_2 13 rfl rfl)
theorem dX9_hourPasses_61 : decode cX9_hourPasses 61 = .ok (.iload 4, 2) := dk_21 4 (dk_at dksX9_hourPasses_2 15 rfl rfl)
theorem dX9_hourPasses_63 : decode cX9_hourPasses 63 = .ok (.ifCond .lt 12, 3) := dk_155 0 12 (dk_at dksX9_hourPasses_2 17 rfl rfl)
theorem dX9_hourPasses_66 : decode cX9_hourPasses 66 = .ok (.iload 5, 2) := dk_21 5 (dk_at dksX9_hourPasses_2 20 rfl rfl)
theorem dX9_hourPasses_68 : decode cX9_hourPasses 68 = .ok (.ifCond .ne 7, 3) := dk_154 0 7 (dk_at dksX9_hourPasses_3 0 rfl rfl)
theorem dX9_hourPasses_71 : decode cX9_hourPasses 71 = .ok (.iconst 1, 1) := dk_4 (dk_at dksX9_hourPasses_3 3 rfl rfl)
theorem dX9_hourPasses_72 : decode cX9_hourPasses 72 = .ok (.goto 4, 3) := dk_167 0 4 (dk_at dksX9_hourPasses_3 4 rfl rfl)
theorem dX9_hourPasses_75 : decode cX9_hourPasses 75 = .ok (.iconst 0, 1) := dk_3 (dk_at dksX9_hourPasses_3 7 rfl rfl)
theorem dX9_hourPasses_76 : decode cX9_hourPasses 76 = .ok (.istore 6, 2) := dk_54 6 (dk_at dksX9_hourPasses_3 8 rfl rfl)
theorem dX9_hourPasses_78 : decode cX9_hourPasses 78 = .ok (.iload 4, 2) := dk_21 4 (dk_at dksX9_hourPasses_3 10 rfl rfl)
theorem dX9_hourPasses_80 : decode cX9_hourPasses 80 = .ok (.ifCond .lt 50, 3) := dk_155 0 50 (dk_at dksX9_hourPasses_3 12 rfl rfl)
theorem dX9_hourPasses_83 : decode cX9_hourPasses 83 = .ok (.aload_n 0, 1) := dk_42 (dk_at dksX9_hourPasses_3 15 rfl rfl)
theorem dX9_hourPasses_84 : decode cX9_hourPasses 84 = .ok (.getfield 9, 3) := dk_180 0 9 (dk_at dksX9_hourPasses_3 16 rfl rfl)
theorem dX9_hourPasses_87 : decode cX9_hourPasses 87 = .ok (.bipush 61, 2) := dk_16 61 (dk_at dksX9_hourPasses_3 19 rfl rfl)
theorem dX9_hourPasses_89 : decode cX9_hourPasses 89 = .ok (.iconst 4, 1) := dk_7 (dk_at dksX9_hourPasses_3 21 rfl rfl)
theorem dX9_hourPasses_90 : decode cX9_hourPasses 90 = .ok (.iload 4, 2) := dk_21 4 (dk_at dksX9_hourPasses_3 22 rfl rfl)
theorem dX9_hourPasses_92 : decode cX9_hourPasses 92 = .ok (.imul, 1) := dk_104 (dk_at dksX9_hourPasses_4 0 rfl rfl)
theorem dX9_hourPasses_93 : decode cX9_hourPasses 93 = .ok (.iadd, 1) := dk_96 (dk_at dksX9_hourPasses_4 1 rfl rfl)
theorem dX9_hourPasses_94 : decode cX9_hourPasses 94 = .ok (.iload 5, 2) := dk_21 5 (dk_at dksX9_hourPasses_4 2 rfl rfl)
theorem dX9_hourPasses_96 : decode cX9_hourPasses 96 = .ok (.ifCond .eq 7, 3) := dk_153 0 7 (dk_at dksX9_hourPasses_4 4 rfl rfl)
theorem dX9_hourPasses_99 : decode cX9_hourPasses 99 = .ok (.iconst 3, 1) := dk_6 (dk_at dksX9_hourPasses_4 7 rfl rfl)
theorem dX9_hourPasses_100 : decode cX9_hourPasses 100 = .ok (.goto 4, 3) := dk_167 0 4 (dk_at dksX9_hourPasses_4 8 rfl rfl)
theorem dX9_hourPasses_103 : decode cX9_hourPasses 103 = .ok (.iconst 2, 1) := dk_5 (dk_at dksX9_hourPasses_4 11 rfl rfl)
theorem dX9_hourPasses_104 : decode cX9_hourPasses 104 = .ok (.iadd, 1) := dk_96 (dk_at dksX9_hourPasses_4 12 rfl rfl)
theorem dX9_hourPasses_105 : decode cX9_hourPasses 105 = .ok (.dup2, 1) := dk_92 (dk_at dksX9_hourPasses_4 13 rfl rfl)
theorem dX9_hourPasses_106 : decode cX9_hourPasses 106 = .ok (.iaload, 1) := dk_46 (dk_at dksX9_hourPasses_4 14 rfl rfl)
theorem dX9_hourPasses_107 : decode cX9_hourPasses 107 = .ok (.iconst 1, 1) := dk_4 (dk_at dksX9_hourPasses_4 15 rfl rfl)
theorem dX9_hourPasses_108 : decode cX9_hourPasses 108 = .ok (.iadd, 1) := dk_96 (dk_at dksX9_hourPasses_4 16 rfl rfl)
theorem dX9_hourPasses_109 : decode cX9_hourPasses 109 = .ok (.iastore, 1) := dk_79 (dk_at dksX9_hourPasses_4 17 rfl rfl)
theorem dX9_hourPasses_110 : decode cX9_hourPasses 110 = .ok (.aload_n 0, 1) := dk_42 (dk_at dksX9_hourPasses_4 18 rfl rfl)
theorem dX9_hourPasses_111 : decode cX9_hourPasses 111 = .ok (.getfield 9, 3) := dk_180 0 9 (dk_at dksX9_hourPasses_4 19 rfl rfl)
theorem dX9_hourPasses_114 : decode cX9_hourPasses 114 = .ok (.bipush 20, 2) := dk_16 20 (dk_at dksX9_hourPasses_4 22 rfl rfl)
theorem dX9_hourPasses_116 : decode cX9_hourPasses 116 = .ok (.dup2, 1) := dk_92 (dk_at dksX9_hourPasses_5 0 rfl rfl)
theorem dX9_hourPasses_117 : decode cX9_hourPasses 117 = .ok (.iaload, 1) := dk_46 (dk_at dksX9_hourPasses_5 1 rfl rfl)
theorem dX9_hourPasses_118 : decode cX9_hourPasses 118 = .ok (.iload 5, 2) := dk_21 5 (dk_at dksX9_hourPasses_5 2 rfl rfl)
theorem dX9_hourPasses_120 : decode cX9_hourPasses 120 = .ok (.ifCond .eq 7, 3) := dk_153 0 7 (dk_at dksX9_hourPasses_5 4 rfl rfl)
theorem dX9_hourPasses_123 : decode cX9_hourPasses 123 = .ok (.iconst 1, 1) := dk_4 (dk_at dksX9_hourPasses_5 7 rfl rfl)
theorem dX9_hourPasses_124 : decode cX9_hourPasses 124 = .ok (.goto 4, 3) := dk_167 0 4 (dk_at dksX9_hourPasses_5 8 rfl rfl)
theorem dX9_hourPasses_127 : decode cX9_hourPasses 127 = .ok (.iconst 0, 1) := dk_3 (dk_at dksX9_hourPasses_5 11 rfl rfl)
theorem dX9_hourPasses_128 : decode cX9_hourPasses 128 = .ok (.iadd, 1) := dk_96 (dk_at dksX9_hourPasses_5 12 rfl rfl)
theorem dX9_hourPasses_129 : decode cX9_hourPasses 129 = .ok (.iastore, 1) := dk_79 (dk_at dksX9_hourPasses_5 13 rfl rfl)
theorem dX9_hourPasses_130 : decode cX9_hourPasses 130 = .ok (.aload_n 0, 1) := dk_42 (dk_at dksX9_hourPasses_5 14 rfl rfl)
theorem dX9_hourPasses_131 : decode cX9_hourPasses 131 = .ok (.iload_n 3, 1) := dk_29 (dk_at dksX9_hourPasses_5 15 rfl rfl)
theorem dX9_hourPasses_132 : decode cX9_hourPasses 132 = .ok (.iload 6, 2) := dk_21 6 (dk_at dksX9_hourPasses_5 16 rfl rfl)
theorem dX9_hourPasses_134 : decode cX9_hourPasses 134 = .ok (.invokevirtual 95, 3) := dk_182 0 95 (dk_at dksX9_hourPasses_5 18 rfl rfl)
theorem dX9_hourPasses_137 : decode cX9_hourPasses 137 = .ok (.iload_n 2, 1) := dk_28 (dk_at dksX9_hourPasses_5 21 rfl rfl)
theorem dX9_hourPasses_138 : decode cX9_hourPasses 138 = .ok (.iconst 1, 1) := dk_4 (dk_at dksX9_hourPasses_5 22 rfl rfl)
theorem dX9_hourPasses_139 : decode cX9_hourPasses 139 = .ok (.if_icmp .ne 22, 3) := dk_160 0 22 (dk_at dksX9_hourPasses_6 0 rfl rfl)
theorem dX9_hourPasses_142 : decode cX9_hourPasses 142 = .ok (.iload 6, 2) := dk_21 6 (dk_at dksX9_hourPasses_6 3 rfl rfl)
theorem dX9_hourPasses_144 : decode cX9_hourPasses 144 = .ok (.ifCond .eq 17, 3) := dk_153 0 17 (dk_at dksX9_hourPasses_6 5 rfl rfl)
theorem dX9_hourPasses_147 : decode cX9_hourPasses 147 = .ok (.aload_n 0, 1) := dk_42 (dk_at dksX9_hourPasses_6 8 rfl rfl)
theorem dX9_hourPasses_148 : decode cX9_hourPasses 148 = .ok (.getfield 9, 3) := dk_180 0 9 (dk_at dksX9_hourPasses_6 9 rfl rfl)
theorem dX9_hourPasses_151 : decode cX9_hourPasses 151 = .ok (.iconst 5, 1) := dk_8 (dk_at dksX9_hourPasses_6 12 rfl rfl)
theorem dX9_hourPasses_152 : decode cX9_hourPasses 152 = .ok (.iaload, 1) := dk_46 (dk_at dksX9_hourPasses_6 13 rfl rfl)
theorem dX9_hourPasses_153 : decode cX9_hourPasses 153 = .ok (.iconst 1, 1) := dk_4 (dk_at dksX9_hourPasses_6 14 rfl rfl)
theorem dX9_hourPasses_154 : decode cX9_hourPasses 154 = .ok (.if_icmp .lt 7, 3) := dk_161 0 7 (dk_at dksX9_hourPasses_6 15 rfl rfl)
theorem dX9_hourPasses_157 : decode cX9_hourPasses 157 = .ok (.iconst 1, 1) := dk_4 (dk_at dksX9_hourPasses_6 18 rfl rfl)
theorem dX9_hourPasses_158 : decode cX9_hourPasses 158 = .ok (.goto 4, 3) := dk_167 0 4 (dk_at dksX9_hourPasses_6 19 rfl rfl)
theorem dX9_hourPasses_161 : decode cX9_hourPasses 161 = .ok (.iconst 0, 1) := dk_3 (dk_at dksX9_hourPasses_6 22 rfl rfl)
theorem dX9_hourPasses_162 : decode cX9_hourPasses 162 = .ok (.istore 7, 2) := dk_54 7 (dk_at dksX9_hourPasses_7 0 rfl rfl)
theorem dX9_hourPasses_164 : decode cX9_hourPasses 164 = .ok (.aload_n 0, 1) := dk_42 (dk_at dksX9_hourPasses_7 2 rfl rfl)
theorem dX9_hourPasses_165 : decode cX9_hourPasses 165 = .ok (.getfield 9, 3) := dk_180 0 9 (dk_at dksX9_hourPasses_7 3 rfl rfl)
theorem dX9_hourPasses_168 : decode cX9_hourPasses 168 = .ok (.iconst 5, 1) := dk_8 (dk_at dksX9_hourPasses_7 6 rfl rfl)
theorem dX9_hourPasses_169 : decode cX9_hourPasses 169 = .ok (.dup2, 1) := dk_92 (dk_at dksX9_hourPasses_7 7 rfl rfl)
theorem dX9_hourPasses_170 : decode cX9_hourPasses 170 = .ok (.iaload, 1) := dk_46 (dk_at dksX9_hourPasses_7 8 rfl rfl)
theorem dX9_hourPasses_171 : decode cX9_hourPasses 171 = .ok (.iload 7, 2) := dk_21 7 (dk_at dksX9_hourPasses_7 9 rfl rfl)
theorem dX9_hourPasses_173 : decode cX9_hourPasses 173 = .ok (.ifCond .eq 7, 3) := dk_153 0 7 (dk_at dksX9_hourPasses_7 11 rfl rfl)
theorem dX9_hourPasses_176 : decode cX9_hourPasses 176 = .ok (.iconst 1, 1) := dk_4 (dk_at dksX9_hourPasses_7 14 rfl rfl)
theorem dX9_hourPasses_177 : decode cX9_hourPasses 177 = .ok (.goto 4, 3) := dk_167 0 4 (dk_at dksX9_hourPasses_7 15 rfl rfl)
theorem dX9_hourPasses_180 : decode cX9_hourPasses 180 = .ok (.iconst 0, 1) := dk_3 (dk_at dksX9_hourPasses_7 18 rfl rfl)
theorem dX9_hourPasses_181 : decode cX9_hourPasses 181 = .ok (.isub, 1) := dk_100 (dk_at dksX9_hourPasses_7 19 rfl rfl)
theorem dX9_hourPasses_182 : decode cX9_hourPasses 182 = .ok (.iastore, 1) := dk_79 (dk_at dksX9_hourPasses_7 20 rfl rfl)
theorem dX9_hourPasses_183 : decode cX9_hourPasses 183 = .ok (.iload 6, 2) := dk_21 6 (dk_at dksX9_hourPasses_7 21 rfl rfl)
theorem dX9_hourPasses_185 : decode cX9_hourPasses 185 = .ok (.ifCond .eq 8, 3) := dk_153 0 8 (dk_at dksX9_hourPasses_8 0 rfl rfl)
theorem dX9_hourPasses_188 : decode cX9_hourPasses 188 = .ok (.iload 4, 2) := dk_21 4 (dk_at dksX9_hourPasses_8 3 rfl rfl)
theorem dX9_hourPasses_190 : decode cX9_hourPasses 190 = .ok (.goto 4, 3) := dk_167 0 4 (dk_at dksX9_hourPasses_8 5 rfl rfl)
theorem dX9_hourPasses_193 : decode cX9_hourPasses 193 = .ok (.iconst (-1), 1) := dk_2 (dk_at dksX9_hourPasses_8 8 rfl rfl)
theorem dX9_hourPasses_194 : decode cX9_hourPasses 194 = .ok (.istore 8, 2) := dk_54 8 (dk_at dksX9_hourPasses_8 9 rfl rfl)
theorem dX9_hourPasses_196 : decode cX9_hourPasses 196 = .ok (.iload 6, 2) := dk_21 6 (dk_at dksX9_hourPasses_8 11 rfl rfl)
theorem dX9_hourPasses_198 : decode cX9_hourPasses 198 = .ok (.ifCond .eq 30, 3) := dk_153 0 30 (dk_at dksX9_hourPasses_8 13 rfl rfl)
theorem dX9_hourPasses_201 : decode cX9_hourPasses 201 = .ok (.iload_n 3, 1) := dk_29 (dk_at dksX9_hourPasses_8 16 rfl rfl)
theorem dX9_hourPasses_202 : decode cX9_hourPasses 202 = .ok (.ifCond .eq 26, 3) := dk_153 0 26 (dk_at dksX9_hourPasses_8 17 rfl rfl)
theorem dX9_hourPasses_205 : decode cX9_hourPasses 205 = .ok (.aload_n 0, 1) := dk_42 (dk_at dksX9_hourPasses_8 20 rfl rfl)
theorem dX9_hourPasses_206 : decode cX9_hourPasses 206 = .ok (.aload_n 0, 1) := dk_42 (dk_at dksX9_hourPasses_8 21 rfl rfl)
theorem dX9_hourPasses_207 : decode cX9_hourPasses 207 = .ok (.getfield 9, 3) := dk_180 0 9 (dk_at dksX9_hourPasses_9 0 rfl rfl)
theorem dX9_hourPasses_210 : decode cX9_hourPasses 210 = .ok (.bipush 6, 2) := dk_16 6 (dk_at dksX9_hourPasses_9 3 rfl rfl)
theorem dX9_hourPasses_212 : decode cX9_hourPasses 212 = .ok (.iaload, 1) := dk_46 (dk_at dksX9_hourPasses_9 5 rfl rfl)
theorem dX9_hourPasses_213 : decode cX9_hourPasses 213 = .ok (.iconst 1, 1) := dk_4 (dk_at dksX9_hourPasses_9 6 rfl rfl)
theorem dX9_hourPasses_214 : decode cX9_hourPasses 214 = .ok (.if_icmp .ne 7, 3) := dk_160 0 7 (dk_at dksX9_hourPasses_9 7 rfl rfl)
theorem dX9_hourPasses_217 : decode cX9_hourPasses 217 = .ok (.iconst 1, 1) := dk_4 (dk_at dksX9_hourPasses_9 10 rfl rfl)
theorem dX9_hourPasses_218 : decode cX9_hourPasses 218 = .ok (.goto 4, 3) := dk_167 0 4 (dk_at dksX9_hourPasses_9 11 rfl rfl)
theorem dX9_hourPasses_221 : decode cX9_hourPasses 221 = .ok (.iconst 2, 1) := dk_5 (dk_at dksX9_hourPasses_9 14 rfl rfl)
theorem dX9_hourPasses_222 : decode cX9_hourPasses 222 = .ok (.iconst (-1), 1) := dk_2 (dk_at dksX9_hourPasses_9 15 rfl rfl)
theorem dX9_hourPasses_223 : decode cX9_hourPasses 223 = .ok (.iload 4, 2) := dk_21 4 (dk_at dksX9_hourPasses_9 16 rfl rfl)
theorem dX9_hourPasses_225 : decode cX9_hourPasses 225 = .ok (.invokevirtual 76, 3) := dk_182 0 76 (dk_at dksX9_hourPasses_9 18 rfl rfl)
theorem dX9_hourPasses_228 : decode cX9_hourPasses 228 = .ok (.iload 7, 2) := dk_21 7 (dk_at dksX9_hourPasses_9 21 rfl rfl)
theorem dX9_hourPasses_230 : decode cX9_hourPasses 230 = .ok (.ifCond .eq 11, 3) := dk_153 0 11 (dk_at dksX9_hourPasses_10 0 rfl rfl)
theorem dX9_hourPasses_233 : decode cX9_hourPasses 233 = .ok (.aload_n 0, 1) := dk_42 (dk_at dksX9_hourPasses_10 3 rfl rfl)
theorem dX9_hourPasses_234 : decode cX9_hourPasses 234 = .ok (.iconst 3, 1) := dk_6 (dk_at dksX9_hourPasses_10 4 rfl rfl)
theorem dX9_hourPasses_235 : decode cX9_hourPasses 235 = .ok (.iconst (-1), 1) := dk_2 (dk_at dksX9_hourPasses_10 5 rfl rfl)
theorem dX9_hourPasses_236 : decode cX9_hourPasses 236 = .ok (.iload 4, 2) := dk_21 4 (dk_at dksX9_hourPasses_10 6 rfl rfl)
theorem dX9_hourPasses_238 : decode cX9_hourPasses 238 = .ok (.invokevirtual 76, 3) := dk_182 0 76 (dk_at dksX9_hourPasses_10 8 rfl rfl)
theorem dX9_hourPasses_241 : decode cX9_hourPasses 241 = .ok (.iload 5, 2) := dk_21 5 (dk_at dksX9_hourPasses_10 11 rfl rfl)
theorem dX9_hourPasses_243 : decode cX9_hourPasses 243 = .ok (.ifCond .eq 26, 3) := dk_153 0 26 (dk_at dksX9_hourPasses_10 13 rfl rfl)
theorem dX9_hourPasses_246 : decode cX9_hourPasses 246 = .ok (.aload_n 0, 1) := dk_42 (dk_at dksX9_hourPasses_10 16 rfl rfl)
theorem dX9_hourPasses_247 : decode cX9_hourPasses 247 = .ok (.iload 4, 2) := dk_21 4 (dk_at dksX9_hourPasses_10 17 rfl rfl)
theorem dX9_hourPasses_249 : decode cX9_hourPasses 249 = .ok (.iconst 0, 1) := dk_3 (dk_at dksX9_hourPasses_10 19 rfl rfl)
theorem dX9_hourPasses_250 : decode cX9_hourPasses 250 = .ok (.invokevirtual 58, 3) := dk_182 0 58 (dk_at dksX9_hourPasses_10 20 rfl rfl)
theorem dX9_hourPasses_253 : decode cX9_hourPasses 253 = .ok (.iconst 2, 1) := dk_5 (dk_at dksX9_hourPasses_10 23 rfl rfl)
theorem dX9_hourPasses_254 : decode cX9_hourPasses 254 = .ok (.if_icmp .ne 15, 3) := dk_160 0 15 (dk_at dksX9_hourPasses_11 0 rfl rfl)
theorem dX9_hourPasses_257 : decode cX9_hourPasses 257 = .ok (.iload_n 3, 1) := dk_29 (dk_at dksX9_hourPasses_11 3 rfl rfl)
theorem dX9_hourPasses_258 : decode cX9_hourPasses 258 = .ok (.ifCond .eq 11, 3) := dk_153 0 11 (dk_at dksX9_hourPasses_11 4 rfl rfl)
theorem dX9_hourPasses_261 : decode cX9_hourPasses 261 = .ok (.aload_n 0, 1) := dk_42 (dk_at dksX9_hourPasses_11 7 rfl rfl)
theorem dX9_hourPasses_262 : decode cX9_hourPasses 262 = .ok (.iconst 1, 1) := dk_4 (dk_at dksX9_hourPasses_11 8 rfl rfl)
theorem dX9_hourPasses_263 : decode cX9_hourPasses 263 = .ok (.iconst (-1), 1) := dk_2 (dk_at dksX9_hourPasses_11 9 rfl rfl)
theorem dX9_hourPasses_264 : decode cX9_hourPasses 264 = .ok (.iload 4, 2) := dk_21 4 (dk_at dksX9_hourPasses_11 10 rfl rfl)
theorem dX9_hourPasses_266 : decode cX9_hourPasses 266 = .ok (.invokevirtual 76, 3) := dk_182 0 76 (dk_at dksX9_hourPasses_11 12 rfl rfl)
theorem dX9_hourPasses_269 : decode cX9_hourPasses 269 = .ok (.aload_n 0, 1) := dk_42 (dk_at dksX9_hourPasses_11 15 rfl rfl)
theorem dX9_hourPasses_270 : decode cX9_hourPasses 270 = .ok (.iload_n 3, 1) := dk_29 (dk_at dksX9_hourPasses_11 16 rfl rfl)
theorem dX9_hourPasses_271 : decode cX9_hourPasses 271 = .ok (.iload 7, 2) := dk_21 7 (dk_at dksX9_hourPasses_11 17 rfl rfl)
theorem dX9_hourPasses_273 : decode cX9_hourPasses 273 = .ok (.iload_n 2, 1) := dk_28 (dk_at dksX9_hourPasses_11 19 rfl rfl)
theorem dX9_hourPasses_274 : decode cX9_hourPasses 274 = .ok (.iload 8, 2) := dk_21 8 (dk_at dksX9_hourPasses_11 20 rfl rfl)
theorem dX9_hourPasses_276 : decode cX9_hourPasses 276 = .ok (.invokevirtual 99, 3) := dk_182 0 99 (dk_at dksX9_hourPasses_12 0 rfl rfl)
theorem dX9_hourPasses_279 : decode cX9_hourPasses 279 = .ok (.aload_n 0, 1) := dk_42 (dk_at dksX9_hourPasses_12 3 rfl rfl)
theorem dX9_hourPasses_280 : decode cX9_hourPasses 280 = .ok (.iload 8, 2) := dk_21 8 (dk_at dksX9_hourPasses_12 4 rfl rfl)
theorem dX9_hourPasses_282 : decode cX9_hourPasses 282 = .ok (.iload_n 2, 1) := dk_28 (dk_at dksX9_hourPasses_12 6 rfl rfl)
theorem dX9_hourPasses_283 : decode cX9_hourPasses 283 = .ok (.invokevirtual 103, 3) := dk_182 0 103 (dk_at dksX9_hourPasses_12 7 rfl rfl)
theorem dX9_hourPasses_286 : decode cX9_hourPasses 286 = .ok (.aload_n 0, 1) := dk_42 (dk_at dksX9_hourPasses_12 10 rfl rfl)
theorem dX9_hourPasses_287 : decode cX9_hourPasses 287 = .ok (.aload_n 0, 1) := dk_42 (dk_at dksX9_hourPasses_12 11 rfl rfl)
theorem dX9_hourPasses_288 : decode cX9_hourPasses 288 = .ok (.getfield 9, 3) := dk_180 0 9 (dk_at dksX9_hourPasses_12 12 rfl rfl)
theorem dX9_hourPasses_291 : decode cX9_hourPasses 291 = .ok (.bipush 8, 2) := dk_16 8 (dk_at dksX9_hourPasses_12 15 rfl rfl)
theorem dX9_hourPasses_293 : decode cX9_hourPasses 293 = .ok (.iaload, 1) := dk_46 (dk_at dksX9_hourPasses_12 17 rfl rfl)
theorem dX9_hourPasses_294 : decode cX9_hourPasses 294 = .ok (.iconst (-1), 1) := dk_2 (dk_at dksX9_hourPasses_12 18 rfl rfl)
theorem dX9_hourPasses_295 : decode cX9_hourPasses 295 = .ok (.if_icmp .eq 27, 3) := dk_159 0 27 (dk_at dksX9_hourPasses_12 19 rfl rfl)
theorem dX9_hourPasses_298 : decode cX9_hourPasses 298 = .ok (.iload_n 1, 1) := dk_27 (dk_at dksX9_hourPasses_12 22 rfl rfl)
theorem dX9_hourPasses_299 : decode cX9_hourPasses 299 = .ok (.aload_n 0, 1) := dk_42 (dk_at dksX9_hourPasses_12 23 rfl rfl)
theorem dX9_hourPasses_300 : decode cX9_hourPasses 300 = .ok (.getfield 9, 3) := dk_180 0 9 (dk_at dksX9_hourPasses_13 0 rfl rfl)
theorem dX9_hourPasses_303 : decode cX9_hourPasses 303 = .ok (.bipush 8, 2) := dk_16 8 (dk_at dksX9_hourPasses_13 3 rfl rfl)
theorem dX9_hourPasses_305 : decode cX9_hourPasses 305 = .ok (.iaload, 1) := dk_46 (dk_at dksX9_hourPasses_13 5 rfl rfl)
theorem dX9_hourPasses_306 : decode cX9_hourPasses 306 = .ok (.if_icmp .lt 16, 3) := dk_161 0 16 (dk_at dksX9_hourPasses_13 6 rfl rfl)
theorem dX9_hourPasses_309 : decode cX9_hourPasses 309 = .ok (.iload_n 2, 1) := dk_28 (dk_at dksX9_hourPasses_13 9 rfl rfl)
theorem dX9_hourPasses_310 : decode cX9_hourPasses 310 = .ok (.iconst 2, 1) := dk_5 (dk_at dksX9_hourPasses_13 10 rfl rfl)
theorem dX9_hourPasses_311 : decode cX9_hourPasses 311 = .ok (.if_icmp .eq 11, 3) := dk_159 0 11 (dk_at dksX9_hourPasses_13 11 rfl rfl)
theorem dX9_hourPasses_314 : decode cX9_hourPasses 314 = .ok (.iload_n 3, 1) := dk_29 (dk_at dksX9_hourPasses_13 14 rfl rfl)
theorem dX9_hourPasses_315 : decode cX9_hourPasses 315 = .ok (.ifCond .ne 7, 3) := dk_154 0 7 (dk_at dksX9_hourPasses_13 15 rfl rfl)
theorem dX9_hourPasses_318 : decode cX9_hourPasses 318 = .ok (.iconst 1, 1) := dk_4 (dk_at dksX9_hourPasses_13 18 rfl rfl)
theorem dX9_hourPasses_319 : decode cX9_hourPasses 319 = .ok (.goto 4, 3) := dk_167 0 4 (dk_at dksX9_hourPasses_13 19 rfl rfl)
theorem dX9_hourPasses_322 : decode cX9_hourPasses 322 = .ok (.iconst 0, 1) := dk_3 (dk_at dksX9_hourPasses_13 22 rfl rfl)
theorem dX9_hourPasses_323 : decode cX9_hourPasses 323 = .ok (.putfield 107, 3) := dk_181 0 107 (dk_at dksX9_hourPasses_14 0 rfl rfl)
theorem dX9_hourPasses_326 : decode cX9_hourPasses 326 = .ok (.aload_n 0, 1) := dk_42 (dk_at dksX9_hourPasses_14 3 rfl rfl)
theorem dX9_hourPasses_327 : decode cX9_hourPasses 327 = .ok (.getfield 107, 3) := dk_180 0 107 (dk_at dksX9_hourPasses_14 4 rfl rfl)
theorem dX9_hourPasses_330 : decode cX9_hourPasses 330 = .ok (.ifCond .eq 118, 3) := dk_153 0 118 (dk_at dksX9_hourPasses_14 7 rfl rfl)
theorem dX9_hourPasses_333 : decode cX9_hourPasses 333 = .ok (.aload_n 0, 1) := dk_42 (dk_at dksX9_hourPasses_14 10 rfl rfl)
theorem dX9_hourPasses_334 : decode cX9_hourPasses 334 = .ok (.getfield 9, 3) := dk_180 0 9 (dk_at dksX9_hourPasses_14 11 rfl rfl)
theorem dX9_hourPasses_337 : decode cX9_hourPasses 337 = .ok (.iconst 4, 1) := dk_7 (dk_at dksX9_hourPasses_14 14 rfl rfl)
theorem dX9_hourPasses_338 : decode cX9_hourPasses 338 = .ok (.sipush 9999, 3) := dk_17 39 15 (dk_at dksX9_hourPasses_14 15 rfl rfl)
theorem dX9_hourPasses_341 : decode cX9_hourPasses 341 = .ok (.aload_n 0, 1) := dk_42 (dk_at dksX9_hourPasses_14 18 rfl rfl)
theorem dX9_hourPasses_342 : decode cX9_hourPasses 342 = .ok (.getfield 9, 3) := dk_180 0 9 (dk_at dksX9_hourPasses_14 19 rfl rfl)
theorem dX9_hourPasses_345 : decode cX9_hourPasses 345 = .ok (.iconst 4, 1) := dk_7 (dk_at dksX9_hourPasses_14 22 rfl rfl)
theorem dX9_hourPasses_346 : decode cX9_hourPasses 346 = .ok (.iaload, 1) := dk_46 (dk_at dksX9_hourPasses_14 23 rfl rfl)
theorem dX9_hourPasses_347 : decode cX9_hourPasses 347 = .ok (.aload_n 0, 1) := dk_42 (dk_at dksX9_hourPasses_15 0 rfl rfl)
theorem dX9_hourPasses_348 : decode cX9_hourPasses 348 = .ok (.getfield 9, 3) := dk_180 0 9 (dk_at dksX9_hourPasses_15 1 rfl rfl)
theorem dX9_hourPasses_351 : decode cX9_hourPasses 351 = .ok (.bipush 10, 2) := dk_16 10 (dk_at dksX9_hourPasses_15 4 rfl rfl)
theorem dX9_hourPasses_353 : decode cX9_hourPasses 353 = .ok (.iaload, 1) := dk_46 (dk_at dksX9_hourPasses_15 6 rfl rfl)
theorem dX9_hourPasses_354 : decode cX9_hourPasses 354 = .ok (.iadd, 1) := dk_96 (dk_at dksX9_hourPasses_15 7 rfl rfl)
theorem dX9_hourPasses_355 : decode cX9_hourPasses 355 = .ok (.invokestatic 111, 3) := dk_184 0 111 (dk_at dksX9_hourPasses_15 8 rfl rfl)
theorem dX9_hourPasses_358 : decode cX9_hourPasses 358 = .ok (.iastore, 1) := dk_79 (dk_at dksX9_hourPasses_15 11 rfl rfl)
theorem dX9_hourPasses_359 : decode cX9_hourPasses 359 = .ok (.aload_n 0, 1) := dk_42 (dk_at dksX9_hourPasses_15 12 rfl rfl)
theorem dX9_hourPasses_360 : decode cX9_hourPasses 360 = .ok (.getfield 9, 3) := dk_180 0 9 (dk_at dksX9_hourPasses_15 13 rfl rfl)
theorem dX9_hourPasses_363 : decode cX9_hourPasses 363 = .ok (.iconst 5, 1) := dk_8 (dk_at dksX9_hourPasses_15 16 rfl rfl)
theorem dX9_hourPasses_364 : decode cX9_hourPasses 364 = .ok (.sipush 9999, 3) := dk_17 39 15 (dk_at dksX9_hourPasses_15 17 rfl rfl)
theorem dX9_hourPasses_367 : decode cX9_hourPasses 367 = .ok (.aload_n 0, 1) := dk_42 (dk_at dksX9_hourPasses_15 20 rfl rfl)
theorem dX9_hourPasses_368 : decode cX9_hourPasses 368 = .ok (.getfield 9, 3) := dk_180 0 9 (dk_at dksX9_hourPasses_15 21 rfl rfl)
theorem dX9_hourPasses_371 : decode cX9_hourPasses 371 = .ok (.iconst 5, 1) := dk_8 (dk_at dksX9_hourPasses_16 0 rfl rfl)
theorem dX9_hourPasses_372 : decode cX9_hourPasses 372 = .ok (.iaload, 1) := dk_46 (dk_at dksX9_hourPasses_16 1 rfl rfl)
theorem dX9_hourPasses_373 : decode cX9_hourPasses 373 = .ok (.aload_n 0, 1) := dk_42 (dk_at dksX9_hourPasses_16 2 rfl rfl)
theorem dX9_hourPasses_374 : decode cX9_hourPasses 374 = .ok (.getfield 9, 3) := dk_180 0 9 (dk_at dksX9_hourPasses_16 3 rfl rfl)
theorem dX9_hourPasses_377 : decode cX9_hourPasses 377 = .ok (.bipush 11, 2) := dk_16 11 (dk_at dksX9_hourPasses_16 6 rfl rfl)
theorem dX9_hourPasses_379 : decode cX9_hourPasses 379 = .ok (.iaload, 1) := dk_46 (dk_at dksX9_hourPasses_16 8 rfl rfl)
theorem dX9_hourPasses_380 : decode cX9_hourPasses 380 = .ok (.iadd, 1) := dk_96 (dk_at dksX9_hourPasses_16 9 rfl rfl)
theorem dX9_hourPasses_381 : decode cX9_hourPasses 381 = .ok (.invokestatic 111, 3) := dk_184 0 111 (dk_at dksX9_hourPasses_16 10 rfl rfl)
theorem dX9_hourPasses_384 : decode cX9_hourPasses 384 = .ok (.iastore, 1) := dk_79 (dk_at dksX9_hourPasses_16 13 rfl rfl)
theorem dX9_hourPasses_385 : decode cX9_hourPasses 385 = .ok (.aload_n 0, 1) := dk_42 (dk_at dksX9_hourPasses_16 14 rfl rfl)
theorem dX9_hourPasses_386 : decode cX9_hourPasses 386 = .ok (.getfield 9, 3) := dk_180 0 9 (dk_at dksX9_hourPasses_16 15 rfl rfl)
theorem dX9_hourPasses_389 : decode cX9_hourPasses 389 = .ok (.bipush 8, 2) := dk_16 8 (dk_at dksX9_hourPasses_16 18 rfl rfl)
theorem dX9_hourPasses_391 : decode cX9_hourPasses 391 = .ok (.iload_n 1, 1) := dk_27 (dk_at dksX9_hourPasses_16 20 rfl rfl)
theorem dX9_hourPasses_392 : decode cX9_hourPasses 392 = .ok (.aload_n 0, 1) := dk_42 (dk_at dksX9_hourPasses_16 21 rfl rfl)
theorem dX9_hourPasses_393 : decode cX9_hourPasses 393 = .ok (.getfield 9, 3) := dk_180 0 9 (dk_at dksX9_hourPasses_17 0 rfl rfl)
theorem dX9_hourPasses_396 : decode cX9_hourPasses 396 = .ok (.bipush 9, 2) := dk_16 9 (dk_at dksX9_hourPasses_17 3 rfl rfl)
theorem dX9_hourPasses_398 : decode cX9_hourPasses 398 = .ok (.iaload, 1) := dk_46 (dk_at dksX9_hourPasses_17 5 rfl rfl)
theorem dX9_hourPasses_399 : decode cX9_hourPasses 399 = .ok (.iadd, 1) := dk_96 (dk_at dksX9_hourPasses_17 6 rfl rfl)
theorem dX9_hourPasses_400 : decode cX9_hourPasses 400 = .ok (.iastore, 1) := dk_79 (dk_at dksX9_hourPasses_17 7 rfl rfl)
theorem dX9_hourPasses_401 : decode cX9_hourPasses 401 = .ok (.aload_n 0, 1) := dk_42 (dk_at dksX9_hourPasses_17 8 rfl rfl)
theorem dX9_hourPasses_402 : decode cX9_hourPasses 402 = .ok (.getfield 9, 3) := dk_180 0 9 (dk_at dksX9_hourPasses_17 9 rfl rfl)
theorem dX9_hourPasses_405 : decode cX9_hourPasses 405 = .ok (.bipush 18, 2) := dk_16 18 (dk_at dksX9_hourPasses_17 12 rfl rfl)
theorem dX9_hourPasses_407 : decode cX9_hourPasses 407 = .ok (.dup2, 1) := dk_92 (dk_at dksX9_hourPasses_17 14 rfl rfl)
theorem dX9_hourPasses_408 : decode cX9_hourPasses 408 = .ok (.iaload, 1) := dk_46 (dk_at dksX9_hourPasses_17 15 rfl rfl)
theorem dX9_hourPasses_409 : decode cX9_hourPasses 409 = .ok (.iconst 1, 1) := dk_4 (dk_at dksX9_hourPasses_17 16 rfl rfl)
theorem dX9_hourPasses_410 : decode cX9_hourPasses 410 = .ok (.iadd, 1) := dk_96 (dk_at dksX9_hourPasses_17 17 rfl rfl)
theorem dX9_hourPasses_411 : decode cX9_hourPasses 411 = .ok (.iastore, 1) := dk_79 (dk_at dksX9_hourPasses_17 18 rfl rfl)
theorem dX9_hourPasses_412 : decode cX9_hourPasses 412 = .ok (.iconst 0, 1) := dk_3 (dk_at dksX9_hourPasses_17 19 rfl rfl)
theorem dX9_hourPasses_413 : decode cX9_hourPasses 413 = .ok (.istore 9, 2) := dk_54 9 (dk_at dksX9_hourPasses_17 20 rfl rfl)
theorem dX9_hourPasses_415 : decode cX9_hourPasses 415 = .ok (.iload 9, 2) := dk_21 9 (dk_at dksX9_hourPasses_17 22 rfl rfl)
theorem dX9_hourPasses_417 : decode cX9_hourPasses 417 = .ok (.aload_n 0, 1) := dk_42 (dk_at dksX9_hourPasses_18 0 rfl rfl)
theorem dX9_hourPasses_418 : decode cX9_hourPasses 418 = .ok (.getfield 9, 3) := dk_180 0 9 (dk_at dksX9_hourPasses_18 1 rfl rfl)
theorem dX9_hourPasses_421 : decode cX9_hourPasses 421 = .ok (.bipush 13, 2) := dk_16 13 (dk_at dksX9_hourPasses_18 4 rfl rfl)
theorem dX9_hourPasses_423 : decode cX9_hourPasses 423 = .ok (.iaload, 1) := dk_46 (dk_at dksX9_hourPasses_18 6 rfl rfl)
theorem dX9_hourPasses_424 : decode cX9_hourPasses 424 = .ok (.if_icmp .ge 24, 3) := dk_162 0 24 (dk_at dksX9_hourPasses_18 7 rfl rfl)
theorem dX9_hourPasses_427 : decode cX9_hourPasses 427 = .ok (.aload_n 0, 1) := dk_42 (dk_at dksX9_hourPasses_18 10 rfl rfl)
theorem dX9_hourPasses_428 : decode cX9_hourPasses 428 = .ok (.getfield 9, 3) := dk_180 0 9 (dk_at dksX9_hourPasses_18 11 rfl rfl)
theorem dX9_hourPasses_431 : decode cX9_hourPasses 431 = .ok (.bipush 61, 2) := dk_16 61 (dk_at dksX9_hourPasses_18 14 rfl rfl)
theorem dX9_hourPasses_433 : decode cX9_hourPasses 433 = .ok (.iconst 4, 1) := dk_7 (dk_at dksX9_hourPasses_18 16 rfl rfl)
theorem dX9_hourPasses_434 : decode cX9_hourPasses 434 = .ok (.iload 9, 2) := dk_21 9 (dk_at dksX9_hourPasses_18 17 rfl rfl)
theorem dX9_hourPasses_436 : decode cX9_hourPasses 436 = .ok (.imul, 1) := dk_104 (dk_at dksX9_hourPasses_18 19 rfl rfl)
theorem dX9_hourPasses_437 : decode cX9_hourPasses 437 = .ok (.iadd, 1) := dk_96 (dk_at dksX9_hourPasses_18 20 rfl rfl)
theorem dX9_hourPasses_438 : decode cX9_hourPasses 438 = .ok (.iconst 1, 1) := dk_4 (dk_at dksX9_hourPasses_18 21 rfl rfl)
theorem dX9_hourPasses_439 : decode cX9_hourPasses 439 = .ok (.iadd, 1) := dk_96 (dk_at dksX9_hourPasses_18 22 rfl rfl)
theorem dX9_hourPasses_440 : decode cX9_hourPasses 440 = .ok (.iconst 0, 1) := dk_3 (dk_at dksX9_hourPasses_18 23 rfl rfl)
theorem dX9_hourPasses_441 : decode cX9_hourPasses 441 = .ok (.iastore, 1) := dk_79 (dk_at dksX9_hourPasses_19 0 rfl rfl)
theorem dX9_hourPasses_442 : decode cX9_hourPasses 442 = .ok (.iinc 9 1, 3) := dk_132 9 1 (dk_at dksX9_hourPasses_19 1 rfl rfl)
theorem dX9_hourPasses_445 : decode cX9_hourPasses 445 = .ok (.goto (-30), 3) := dk_167 255 226 (dk_at dksX9_hourPasses_19 4 rfl rfl)
theorem dX9_hourPasses_448 : decode cX9_hourPasses 448 = .ok (.aload_n 0, 1) := dk_42 (dk_at dksX9_hourPasses_19 7 rfl rfl)
theorem dX9_hourPasses_449 : decode cX9_hourPasses 449 = .ok (.iload_n 3, 1) := dk_29 (dk_at dksX9_hourPasses_19 8 rfl rfl)
theorem dX9_hourPasses_450 : decode cX9_hourPasses 450 = .ok (.putfield 114, 3) := dk_181 0 114 (dk_at dksX9_hourPasses_19 9 rfl rfl)
theorem dX9_hourPasses_453 : decode cX9_hourPasses 453 = .ok (.aload_n 0, 1) := dk_42 (dk_at dksX9_hourPasses_19 12 rfl rfl)
theorem dX9_hourPasses_454 : decode cX9_hourPasses 454 = .ok (.iload 6, 2) := dk_21 6 (dk_at dksX9_hourPasses_19 13 rfl rfl)
theorem dX9_hourPasses_456 : decode cX9_hourPasses 456 = .ok (.putfield 117, 3) := dk_181 0 117 (dk_at dksX9_hourPasses_19 15 rfl rfl)
theorem dX9_hourPasses_459 : decode cX9_hourPasses 459 = .ok (.aload_n 0, 1) := dk_42 (dk_at dksX9_hourPasses_19 18 rfl rfl)
theorem dX9_hourPasses_460 : decode cX9_hourPasses 460 = .ok (.getfield 9, 3) := dk_180 0 9 (dk_at dksX9_hourPasses_19 19 rfl rfl)
theorem dX9_hourPasses_463 : decode cX9_hourPasses 463 = .ok (.iconst 0, 1) := dk_3 (dk_at dksX9_hourPasses_19 22 rfl rfl)
theorem dX9_hourPasses_464 : decode cX9_hourPasses 464 = .ok (.iload_n 1, 1) := dk_27 (dk_at dksX9_hourPasses_19 23 rfl rfl)
theorem dX9_hourPasses_465 : decode cX9_hourPasses 465 = .ok (.iconst 1, 1) := dk_4 (dk_at dksX9_hourPasses_20 0 rfl rfl)
theorem dX9_hourPasses_466 : decode cX9_hourPasses 466 = .ok (.iadd, 1) := dk_96 (dk_at dksX9_hourPasses_20 1 rfl rfl)
theorem dX9_hourPasses_467 : decode cX9_hourPasses 467 = .ok (.iastore, 1) := dk_79 (dk_at dksX9_hourPasses_20 2 rfl rfl)
theorem dX9_hourPasses_468 : decode cX9_hourPasses 468 = .ok (.return_, 1) := dk_177 (dk_at dksX9_hourPasses_20 3 rfl rfl)
abbrev cX9_weatherOf : ByteArray := prog_34_method_10_code
def yX9_weatherOf : MethodName := ⟨RX9, "weatherOf", "(I)I"⟩
def dkwX9_weatherOf_4 : List UInt8 := [180, 0, 9, 16, 21, 5, 21, 4, 104, 96, 46, 172]
abbrev dktX9_weatherOf_4 : List UInt8 := dkwX9_weatherOf_4 ++ []
def dkwX9_weatherOf_3 : List UInt8 := [180, 0, 9, 16, 21, 5, 21, 4, 104, 96, 4, 96, 46, 100, 62, 132, 4, 1, 167, 255, 218, 42]
abbrev dktX9_weatherOf_3 : List UInt8 := dkwX9_weatherOf_3 ++ dktX9_weatherOf_4
def dkwX9_weatherOf_2 : List UInt8 := [54, 4, 29, 42, 180, 0, 9, 16, 21, 5, 21, 4, 104, 96, 4, 96, 46, 161, 0, 26, 29, 42]
abbrev dktX9_weatherOf_2 : List UInt8 := dkwX9_weatherOf_2 ++ dktX9_weatherOf_3
def dkwX9_weatherOf_1 : List UInt8 := [104, 96, 4, 96, 46, 96, 61, 132, 3, 1, 167, 255, 226, 28, 154, 0, 5, 3, 172, 27, 28, 112, 62, 3]
abbrev dktX9_weatherOf_1 : List UInt8 := dkwX9_weatherOf_1 ++ dktX9_weatherOf_2
def dkwX9_weatherOf_0 : List UInt8 := [3, 61, 3, 62, 29, 42, 180, 0, 9, 16, 12, 46, 162, 0, 25, 28, 42, 180, 0, 9, 16, 21, 5, 29]
abbrev dktX9_weatherOf_0 : List UInt8 := dkwX9_weatherOf_0 ++ dktX9_weatherOf_1
theorem dksX9_weatherOf_0 : cX9_weatherOf.data.toList.drop 0 = dktX9_weatherOf_0 := by decide +kernel
theorem dksX9_weatherOf_1 : cX9_weatherOf.data.toList.drop 24 = dktX9_weatherOf_1 := dk_seg dksX9_weatherOf_0 24 rfl rfl
theorem dksX9_weatherOf_2 : cX9_weatherOf.data.toList.drop 48 = dktX9_weatherOf_2 := dk_seg dksX9_weatherOf_1 24 rfl rfl
theorem dksX9_weatherOf_3 : cX9_weatherOf.data.toList.drop 70 = dktX9_weatherOf_3 := dk_seg dksX9_weatherOf_2 22 rfl rfl
theorem dksX9_weatherOf_4 : cX9_weatherOf.data.toList.drop 92 = dktX9_weatherOf_4 := dk_seg dksX9_weatherOf_3 22 rfl rfl
theorem dX9_weatherOf_0 : decode cX9_weatherOf 0 = .ok (.iconst 0, 1) := dk_3 (dk_at dksX9_weatherOf_0 0 rfl rfl)
theorem dX9_weatherOf_1 : decode cX9_weatherOf 1 = .ok (.istore_n 2, 1) := dk_61 (dk_at dksX9_weatherOf_0 1 rfl rfl)
theorem dX9_weatherOf_2 : decode cX9_weatherOf 2 = .ok (.iconst 0, 1) := dk_3 (dk_at dksX9_weatherOf_0 2 rfl rfl)
theorem dX9_weatherOf_3 : decode cX9_weatherOf 3 = .ok (.istore_n 3, 1) := dk_62 (dk_at dksX9_weatherOf_0 3 rfl rfl)
theorem dX9_weatherOf_4 : decode cX9_weatherOf 4 = .ok (.iload_n 3, 1) := dk_29 (dk_at dksX9_weatherOf_0 4 rfl rfl)
theorem dX9_weatherOf_5 : decode cX9_weatherOf 5 = .ok (.aload_n 0, 1) := dk_42 (dk_at dksX9_weatherOf_0 5 rfl rfl)
theorem dX9_weatherOf_6 : decode cX9_weatherOf 6 = .ok (.getfield 9, 3) := dk_180 0 9 (dk_at dksX9_weatherOf_0 6 rfl rfl)
theorem dX9_weatherOf_9 : decode cX9_weatherOf 9 = .ok (.bipush 12, 2) := dk_16 12 (dk_at dksX9_weatherOf_0 9 rfl rfl)
theorem dX9_weatherOf_11 : decode cX9_weatherOf 11 = .ok (.iaload, 1) := dk_46 (dk_at dksX9_weatherOf_0 11 rfl rfl)
theorem dX9_weatherOf_12 : decode cX9_weatherOf 12 = .ok (.if_icmp .ge 25, 3) := dk_162 0 25 (dk_at dksX9_weatherOf_0 12 rfl rfl)
theorem dX9_weatherOf_15 : decode cX9_weatherOf 15 = .ok (.iload_n 2, 1) := dk_28 (dk_at dksX9_weatherOf_0 15 rfl rfl)
theorem dX9_weatherOf_16 : decode cX9_weatherOf 16 = .ok (.aload_n 0, 1) := dk_42 (dk_at dksX9_weatherOf_0 16 rfl rfl)
theorem dX9_weatherOf_17 : decode cX9_weatherOf 17 = .ok (.getfield 9, 3) := dk_180 0 9 (dk_at dksX9_weatherOf_0 17 rfl rfl)
theorem dX9_weatherOf_20 : decode cX9_weatherOf 20 = .ok (.bipush 21, 2) := dk_16 21 (dk_at dksX9_weatherOf_0 20 rfl rfl)
theorem dX9_weatherOf_22 : decode cX9_weatherOf 22 = .ok (.iconst 2, 1) := dk_5 (dk_at dksX9_weatherOf_0 22 rfl rfl)
theorem dX9_weatherOf_23 : decode cX9_weatherOf 23 = .ok (.iload_n 3, 1) := dk_29 (dk_at dksX9_weatherOf_0 23 rfl rfl)
theorem dX9_weatherOf_24 : decode cX9_weatherOf 24 = .ok (.imul, 1) := dk_104 (dk_at dksX9_weatherOf_1 0 rfl rfl)
theorem dX9_weatherOf_25 : decode cX9_weatherOf 25 = .ok (.iadd, 1) := dk_96 (dk_at dksX9_weatherOf_1 1 rfl rfl)
theorem dX9_weatherOf_26 : decode cX9_weatherOf 26 = .ok (.iconst 1, 1) := dk_4 (dk_at dksX9_weatherOf_1 2 rfl rfl)
theorem dX9_weatherOf_27 : decode cX9_weatherOf 27 = .ok (.iadd, 1) := dk_96 (dk_at dksX9_weatherOf_1 3 rfl rfl)
theorem dX9_weatherOf_28 : decode cX9_weatherOf 28 = .ok (.iaload, 1) := dk_46 (dk_at dksX9_weatherOf_1 4 rfl rfl)
theorem dX9_weatherOf_29 : decode cX9_weatherOf 29 = .ok (.iadd, 1) := dk_96 (dk_at dksX9_weatherOf_1 5 rfl rfl)
theorem dX9_weatherOf_30 : decode cX9_weatherOf 30 = .ok (.istore_n 2, 1) := dk_61 (dk_at dksX9_weatherOf_1 6 rfl rfl)
theorem dX9_weatherOf_31 : decode cX9_weatherOf 31 = .ok (.iinc 3 1, 3) := dk_132 3 1 (dk_at dksX9_weatherOf_1 7 rfl rfl)
theorem dX9_weatherOf_34 : decode cX9_weatherOf 34 = .ok (.goto (-30), 3) := dk_167 255 226 (dk_at dksX9_weatherOf_1 10 rfl rfl)
theorem dX9_weatherOf_37 : decode cX9_weatherOf 37 = .ok (.iload_n 2, 1) := dk_28 (dk_at dksX9_weatherOf_1 13 rfl rfl)
theorem dX9_weatherOf_38 : decode cX9_weatherOf 38 = .ok (.ifCond .ne 5, 3) := dk_154 0 5 (dk_at dksX9_weatherOf_1 14 rfl rfl)
theorem dX9_weatherOf_41 : decode cX9_weatherOf 41 = .ok (.iconst 0, 1) := dk_3 (dk_at dksX9_weatherOf_1 17 rfl rfl)
theorem dX9_weatherOf_42 : decode cX9_weatherOf 42 = .ok (.ireturn, 1) := dk_172 (dk_at dksX9_weatherOf_1 18 rfl rfl)
theorem dX9_weatherOf_43 : decode cX9_weatherOf 43 = .ok (.iload_n 1, 1) := dk_27 (dk_at dksX9_weatherOf_1 19 rfl rfl)
theorem dX9_weatherOf_44 : decode cX9_weatherOf 44 = .ok (.iload_n 2, 1) := dk_28 (dk_at dksX9_weatherOf_1 20 rfl rfl)
theorem dX9_weatherOf_45 : decode cX9_weatherOf 45 = .ok (.irem, 1) := dk_112 (dk_at dksX9_weatherOf_1 21 rfl rfl)
theorem dX9_weatherOf_46 : decode cX9_weatherOf 46 = .ok (.istore_n 3, 1) := dk_62 (dk_at dksX9_weatherOf_1 22 rfl rfl)
theorem dX9_weatherOf_47 : decode cX9_weatherOf 47 = .ok (.iconst 0, 1) := dk_3 (dk_at dksX9_weatherOf_1 23 rfl rfl)
theorem dX9_weatherOf_48 : decode cX9_weatherOf 48 = .ok (.istore 4, 2) := dk_54 4 (dk_at dksX9_weatherOf_2 0 rfl rfl)
theorem dX9_weatherOf_50 : decode cX9_weatherOf 50 = .ok (.iload_n 3, 1) := dk_29 (dk_at dksX9_weatherOf_2 2 rfl rfl)
theorem dX9_weatherOf_51 : decode cX9_weatherOf 51 = .ok (.aload_n 0, 1) := dk_42 (dk_at dksX9_weatherOf_2 3 rfl rfl)
theorem dX9_weatherOf_52 : decode cX9_weatherOf 52 = .ok (.getfield 9, 3) := dk_180 0 9 (dk_at dksX9_weatherOf_2 4 rfl rfl)
theorem dX9_weatherOf_55 : decode cX9_weatherOf 55 = .ok (.bipush 21, 2) := dk_16 21 (dk_at dksX9_weatherOf_2 7 rfl rfl)
theorem dX9_weatherOf_57 : decode cX9_weatherOf 57 = .ok (.iconst 2, 1) := dk_5 (dk_at dksX9_weatherOf_2 9 rfl rfl)
theorem dX9_weatherOf_58 : decode cX9_weatherOf 58 = .ok (.iload 4, 2) := dk_21 4 (dk_at dksX9_weatherOf_2 10 rfl rfl)
theorem dX9_weatherOf_60 : decode cX9_weatherOf 60 = .ok (.imul, 1) := dk_104 (dk_at dksX9_weatherOf_2 12 rfl rfl)
theorem dX9_weatherOf_61 : decode cX9_weatherOf 61 = .ok (.iadd, 1) := dk_96 (dk_at dksX9_weatherOf_2 13 rfl rfl)
theorem dX9_weatherOf_62 : decode cX9_weatherOf 62 = .ok (.iconst 1, 1) := dk_4 (dk_at dksX9_weatherOf_2 14 rfl rfl)
theorem dX9_weatherOf_63 : decode cX9_weatherOf 63 = .ok (.iadd, 1) := dk_96 (dk_at dksX9_weatherOf_2 15 rfl rfl)
theorem dX9_weatherOf_64 : decode cX9_weatherOf 64 = .ok (.iaload, 1) := dk_46 (dk_at dksX9_weatherOf_2 16 rfl rfl)
theorem dX9_weatherOf_65 : decode cX9_weatherOf 65 = .ok (.if_icmp .lt 26, 3) := dk_161 0 26 (dk_at dksX9_weatherOf_2 17 rfl rfl)
theorem dX9_weatherOf_68 : decode cX9_weatherOf 68 = .ok (.iload_n 3, 1) := dk_29 (dk_at dksX9_weatherOf_2 20 rfl rfl)
theorem dX9_weatherOf_69 : decode cX9_weatherOf 69 = .ok (.aload_n 0, 1) := dk_42 (dk_at dksX9_weatherOf_2 21 rfl rfl)
theorem dX9_weatherOf_70 : decode cX9_weatherOf 70 = .ok (.getfield 9, 3) := dk_180 0 9 (dk_at dksX9_weatherOf_3 0 rfl rfl)
theorem dX9_weatherOf_73 : decode cX9_weatherOf 73 = .ok (.bipush 21, 2) := dk_16 21 (dk_at dksX9_weatherOf_3 3 rfl rfl)
theorem dX9_weatherOf_75 : decode cX9_weatherOf 75 = .ok (.iconst 2, 1) := dk_5 (dk_at dksX9_weatherOf_3 5 rfl rfl)
theorem dX9_weatherOf_76 : decode cX9_weatherOf 76 = .ok (.iload 4, 2) := dk_21 4 (dk_at dksX9_weatherOf_3 6 rfl rfl)
theorem dX9_weatherOf_78 : decode cX9_weatherOf 78 = .ok (.imul, 1) := dk_104 (dk_at dksX9_weatherOf_3 8 rfl rfl)
theorem dX9_weatherOf_79 : decode cX9_weatherOf 79 = .ok (.iadd, 1) := dk_96 (dk_at dksX9_weatherOf_3 9 rfl rfl)
theorem dX9_weatherOf_80 : decode cX9_weatherOf 80 = .ok (.iconst 1, 1) := dk_4 (dk_at dksX9_weatherOf_3 10 rfl rfl)
theorem dX9_weatherOf_81 : decode cX9_weatherOf 81 = .ok (.iadd, 1) := dk_96 (dk_at dksX9_weatherOf_3 11 rfl rfl)
theorem dX9_weatherOf_82 : decode cX9_weatherOf 82 = .ok (.iaload, 1) := dk_46 (dk_at dksX9_weatherOf_3 12 rfl rfl)
theorem dX9_weatherOf_83 : decode cX9_weatherOf 83 = .ok (.isub, 1) := dk_100 (dk_at dksX9_weatherOf_3 13 rfl rfl)
theorem dX9_weatherOf_84 : decode cX9_weatherOf 84 = .ok (.istore_n 3, 1) := dk_62 (dk_at dksX9_weatherOf_3 14 rfl rfl)
theorem dX9_weatherOf_85 : decode cX9_weatherOf 85 = .ok (.iinc 4 1, 3) := dk_132 4 1 (dk_at dksX9_weatherOf_3 15 rfl rfl)
theorem dX9_weatherOf_88 : decode cX9_weatherOf 88 = .ok (.goto (-38), 3) := dk_167 255 218 (dk_at dksX9_weatherOf_3 18 rfl rfl)
theorem dX9_weatherOf_91 : decode cX9_weatherOf 91 = .ok (.aload_n 0, 1) := dk_42 (dk_at dksX9_weatherOf_3 21 rfl rfl)
theorem dX9_weatherOf_92 : decode cX9_weatherOf 92 = .ok (.getfield 9, 3) := dk_180 0 9 (dk_at dksX9_weatherOf_4 0 rfl rfl)
theorem dX9_weatherOf_95 : decode cX9_weatherOf 95 = .ok (.bipush 21, 2) := dk_16 21 (dk_at dksX9_weatherOf_4 3 rfl rfl)
theorem dX9_weatherOf_97 : decode cX9_weatherOf 97 = .ok (.iconst 2, 1) := dk_5 (dk_at dksX9_weatherOf_4 5 rfl rfl)
theorem dX9_weatherOf_98 : decode cX9_weatherOf 98 = .ok (.iload 4, 2) := dk_21 4 (dk_at dksX9_weatherOf_4 6 rfl rfl)
theorem dX9_weatherOf_100 : decode cX9_weatherOf 100 = .ok (.imul, 1) := dk_104 (dk_at dksX9_weatherOf_4 8 rfl rfl)
theorem dX9_weatherOf_101 : decode cX9_weatherOf 101 = .ok (.iadd, 1) := dk_96 (dk_at dksX9_weatherOf_4 9 rfl rfl)
theorem dX9_weatherOf_102 : decode cX9_weatherOf 102 = .ok (.iaload, 1) := dk_46 (dk_at dksX9_weatherOf_4 10 rfl rfl)
theorem dX9_weatherOf_103 : decode cX9_weatherOf 103 = .ok (.ireturn, 1) := dk_172 (dk_at dksX9_weatherOf_4 11 rfl rfl)
abbrev cX9_isDark : ByteArray := prog_34_method_11_code
def yX9_isDark : MethodName := ⟨RX9, "isDark", "(I)Z"⟩
def dkwX9_isDark_1 : List UInt8 := [161, 0, 7, 4, 167, 0, 4, 3, 172]
abbrev dktX9_isDark_1 : List UInt8 := dkwX9_isDark_1 ++ []
def dkwX9_isDark_0 : List UInt8 := [27, 16, 24, 112, 42, 180, 0, 9, 4, 46, 161, 0, 16, 27, 16, 24, 112, 42, 180, 0, 9, 5, 46]
abbrev dktX9_isDark_0 : List UInt8 := dkwX9_isDark_0 ++ dktX9_isDark_1
theorem dksX9_isDark_0 : cX9_isDark.data.toList.drop 0 = dktX9_isDark_0 := by decide +kernel
theorem dksX9_isDark_1 : cX9_isDark.data.toList.drop 23 = dktX9_isDark_1 := dk_seg dksX9_isDark_0 23 rfl rfl
theorem dX9_isDark_0 : decode cX9_isDark 0 = .ok (.iload_n 1, 1) := dk_27 (dk_at dksX9_isDark_0 0 rfl rfl)
theorem dX9_isDark_1 : decode cX9_isDark 1 = .ok (.bipush 24, 2) := dk_16 24 (dk_at dksX9_isDark_0 1 rfl rfl)
theorem dX9_isDark_3 : decode cX9_isDark 3 = .ok (.irem, 1) := dk_112 (dk_at dksX9_isDark_0 3 rfl rfl)
theorem dX9_isDark_4 : decode cX9_isDark 4 = .ok (.aload_n 0, 1) := dk_42 (dk_at dksX9_isDark_0 4 rfl rfl)
theorem dX9_isDark_5 : decode cX9_isDark 5 = .ok (.getfield 9, 3) := dk_180 0 9 (dk_at dksX9_isDark_0 5 rfl rfl)
theorem dX9_isDark_8 : decode cX9_isDark 8 = .ok (.iconst 1, 1) := dk_4 (dk_at dksX9_isDark_0 8 rfl rfl)
theorem dX9_isDark_9 : decode cX9_isDark 9 = .ok (.iaload, 1) := dk_46 (dk_at dksX9_isDark_0 9 rfl rfl)
theorem dX9_isDark_10 : decode cX9_isDark 10 = .ok (.if_icmp .lt 16, 3) := dk_161 0 16 (dk_at dksX9_isDark_0 10 rfl rfl)
theorem dX9_isDark_13 : decode cX9_isDark 13 = .ok (.iload_n 1, 1) := dk_27 (dk_at dksX9_isDark_0 13 rfl rfl)
theorem dX9_isDark_14 : decode cX9_isDark 14 = .ok (.bipush 24, 2) := dk_16 24 (dk_at dksX9_isDark_0 14 rfl rfl)
theorem dX9_isDark_16 : decode cX9_isDark 16 = .ok (.irem, 1) := dk_112 (dk_at dksX9_isDark_0 16 rfl rfl)
theorem dX9_isDark_17 : decode cX9_isDark 17 = .ok (.aload_n 0, 1) := dk_42 (dk_at dksX9_isDark_0 17 rfl rfl)
theorem dX9_isDark_18 : decode cX9_isDark 18 = .ok (.getfield 9, 3) := dk_180 0 9 (dk_at dksX9_isDark_0 18 rfl rfl)
theorem dX9_isDark_21 : decode cX9_isDark 21 = .ok (.iconst 2, 1) := dk_5 (dk_at dksX9_isDark_0 21 rfl rfl)
theorem dX9_isDark_22 : decode cX9_isDark 22 = .ok (.iaload, 1) := dk_46 (dk_at dksX9_isDark_0 22 rfl rfl)
theorem dX9_isDark_23 : decode cX9_isDark 23 = .ok (.if_icmp .lt 7, 3) := dk_161 0 7 (dk_at dksX9_isDark_1 0 rfl rfl)
theorem dX9_isDark_26 : decode cX9_isDark 26 = .ok (.iconst 1, 1) := dk_4 (dk_at dksX9_isDark_1 3 rfl rfl)
theorem dX9_isDark_27 : decode cX9_isDark 27 = .ok (.goto 4, 3) := dk_167 0 4 (dk_at dksX9_isDark_1 4 rfl rfl)
theorem dX9_isDark_30 : decode cX9_isDark 30 = .ok (.iconst 0, 1) := dk_3 (dk_at dksX9_isDark_1 7 rfl rfl)
theorem dX9_isDark_31 : decode cX9_isDark 31 = .ok (.ireturn, 1) := dk_172 (dk_at dksX9_isDark_1 8 rfl rfl)
abbrev cX9_ofKeeper : ByteArray := prog_34_method_7_code
def yX9_ofKeeper : MethodName := ⟨RX9, "ofKeeper", "(II)I"⟩
def dkwX9_ofKeeper_0 : List UInt8 := [42, 180, 0, 9, 16, 61, 7, 27, 104, 96, 28, 96, 46, 172]
abbrev dktX9_ofKeeper_0 : List UInt8 := dkwX9_ofKeeper_0 ++ []
theorem dksX9_ofKeeper_0 : cX9_ofKeeper.data.toList.drop 0 = dktX9_ofKeeper_0 := by decide +kernel
theorem dX9_ofKeeper_0 : decode cX9_ofKeeper 0 = .ok (.aload_n 0, 1) := dk_42 (dk_at dksX9_ofKeeper_0 0 rfl rfl)
theorem dX9_ofKeeper_1 : decode cX9_ofKeeper 1 = .ok (.getfield 9, 3) := dk_180 0 9 (dk_at dksX9_ofKeeper_0 1 rfl rfl)
theorem dX9_ofKeeper_4 : decode cX9_ofKeeper 4 = .ok (.bipush 61, 2) := dk_16 61 (dk_at dksX9_ofKeeper_0 4 rfl rfl)
theorem dX9_ofKeeper_6 : decode cX9_ofKeeper 6 = .ok (.iconst 4, 1) := dk_7 (dk_at dksX9_ofKeeper_0 6 rfl rfl)
theorem dX9_ofKeeper_7 : decode cX9_ofKeeper 7 = .ok (.iload_n 1, 1) := dk_27 (dk_at dksX9_ofKeeper_0 7 rfl rfl)
theorem dX9_ofKeeper_8 : decode cX9_ofKeeper 8 = .ok (.imul, 1) := dk_104 (dk_at dksX9_ofKeeper_0 8 rfl rfl)
theorem dX9_ofKeeper_9 : decode cX9_ofKeeper 9 = .ok (.iadd, 1) := dk_96 (dk_at dksX9_ofKeeper_0 9 rfl rfl)
theorem dX9_ofKeeper_10 : decode cX9_ofKeeper 10 = .ok (.iload_n 2, 1) := dk_28 (dk_at dksX9_ofKeeper_0 10 rfl rfl)
theorem dX9_ofKeeper_11 : decode cX9_ofKeeper 11 = .ok (.iadd, 1) := dk_96 (dk_at dksX9_ofKeeper_0 11 rfl rfl)
theorem dX9_ofKeeper_12 : decode cX9_ofKeeper 12 = .ok (.iaload, 1) := dk_46 (dk_at dksX9_ofKeeper_0 12 rfl rfl)
theorem dX9_ofKeeper_13 : decode cX9_ofKeeper 13 = .ok (.ireturn, 1) := dk_172 (dk_at dksX9_ofKeeper_0 13 rfl rfl)
abbrev cX9_lasts : ByteArray := prog_34_method_9_code
def yX9_lasts : MethodName := ⟨RX9, "lasts", "(I)I"⟩
def dkwX9_lasts_0 : List UInt8 := [16, 12, 6, 42, 27, 3, 182, 0, 58, 104, 100, 172]
abbrev dktX9_lasts_0 : List UInt8 := dkwX9_lasts_0 ++ []
theorem dksX9_lasts_0 : cX9_lasts.data.toList.drop 0 = dktX9_lasts_0 := by decide +kernel
theorem dX9_lasts_0 : decode cX9_lasts 0 = .ok (.bipush 12, 2) := dk_16 12 (dk_at dksX9_lasts_0 0 rfl rfl)
theorem dX9_lasts_2 : decode cX9_lasts 2 = .ok (.iconst 3, 1) := dk_6 (dk_at dksX9_lasts_0 2 rfl rfl)
theorem dX9_lasts_3 : decode cX9_lasts 3 = .ok (.aload_n 0, 1) := dk_42 (dk_at dksX9_lasts_0 3 rfl rfl)
theorem dX9_lasts_4 : decode cX9_lasts 4 = .ok (.iload_n 1, 1) := dk_27 (dk_at dksX9_lasts_0 4 rfl rfl)
theorem dX9_lasts_5 : decode cX9_lasts 5 = .ok (.iconst 0, 1) := dk_3 (dk_at dksX9_lasts_0 5 rfl rfl)
theorem dX9_lasts_6 : decode cX9_lasts 6 = .ok (.invokevirtual 58, 3) := dk_182 0 58 (dk_at dksX9_lasts_0 6 rfl rfl)
theorem dX9_lasts_9 : decode cX9_lasts 9 = .ok (.imul, 1) := dk_104 (dk_at dksX9_lasts_0 9 rfl rfl)
theorem dX9_lasts_10 : decode cX9_lasts 10 = .ok (.isub, 1) := dk_100 (dk_at dksX9_lasts_0 10 rfl rfl)
theorem dX9_lasts_11 : decode cX9_lasts 11 = .ok (.ireturn, 1) := dk_172 (dk_at dksX9_lasts_0 11 rfl rfl)
abbrev cX9_passesLamp : ByteArray := prog_34_method_17_code
def yX9_passesLamp : MethodName := ⟨RX9, "passesLamp", "(ZZ)V"⟩
def dkwX9_passesLamp_6 : List UInt8 := [180, 0, 9, 3, 46, 16, 24, 112, 120, 128, 79, 177]
abbrev dktX9_passesLamp_6 : List UInt8 := dkwX9_passesLamp_6 ++ []
def dkwX9_passesLamp_5 : List UInt8 := [154, 0, 35, 42, 180, 0, 9, 16, 16, 92, 46, 4, 96, 79, 42, 180, 0, 9, 16, 17, 92, 46, 4, 42]
abbrev dktX9_passesLamp_5 : List UInt8 := dkwX9_passesLamp_5 ++ dktX9_passesLamp_6
def dkwX9_passesLamp_4 : List UInt8 := [180, 0, 9, 16, 7, 29, 153, 0, 11, 28, 154, 0, 7, 4, 167, 0, 4, 3, 79, 27, 153, 0, 39, 29]
abbrev dktX9_passesLamp_4 : List UInt8 := dkwX9_passesLamp_4 ++ dktX9_passesLamp_5
def dkwX9_passesLamp_3 : List UInt8 := [180, 0, 9, 7, 92, 46, 29, 153, 0, 12, 42, 180, 0, 9, 6, 46, 167, 0, 4, 3, 100, 79, 42]
abbrev dktX9_passesLamp_3 : List UInt8 := dkwX9_passesLamp_3 ++ dktX9_passesLamp_4
def dkwX9_passesLamp_2 : List UInt8 := [167, 0, 4, 3, 62, 42, 180, 0, 9, 16, 6, 29, 153, 0, 7, 4, 167, 0, 4, 3, 79, 42]
abbrev dktX9_passesLamp_2 : List UInt8 := dkwX9_passesLamp_2 ++ dktX9_passesLamp_3
def dkwX9_passesLamp_1 : List UInt8 := [16, 7, 46, 154, 0, 22, 42, 180, 0, 9, 7, 46, 42, 180, 0, 9, 6, 46, 161, 0, 7, 4]
abbrev dktX9_passesLamp_1 : List UInt8 := dkwX9_passesLamp_1 ++ dktX9_passesLamp_2
def dkwX9_passesLamp_0 : List UInt8 := [27, 153, 0, 47, 28, 154, 0, 24, 42, 180, 0, 9, 16, 6, 46, 4, 160, 0, 32, 42, 180, 0, 9]
abbrev dktX9_passesLamp_0 : List UInt8 := dkwX9_passesLamp_0 ++ dktX9_passesLamp_1
theorem dksX9_passesLamp_0 : cX9_passesLamp.data.toList.drop 0 = dktX9_passesLamp_0 := by decide +kernel
theorem dksX9_passesLamp_1 : cX9_passesLamp.data.toList.drop 23 = dktX9_passesLamp_1 := dk_seg dksX9_passesLamp_0 23 rfl rfl
theorem dksX9_passesLamp_2 : cX9_passesLamp.data.toList.drop 45 = dktX9_passesLamp_2 := dk_seg dksX9_passesLamp_1 22 rfl rfl
theorem dksX9_passesLamp_3 : cX9_passesLamp.data.toList.drop 67 = dktX9_passesLamp_3 := dk_seg dksX9_passesLamp_2 22 rfl rfl
theorem dksX9_passesLamp_4 : cX9_passesLamp.data.toList.drop 90 = dktX9_passesLamp_4 := dk_seg dksX9_passesLamp_3 23 rfl rfl
theorem dksX9_passesLamp_5 : cX9_passesLamp.data.toList.drop 114 = dktX9_passesLamp_5 := dk_seg dksX9_passesLamp_4 24 rfl rfl
theorem dksX9_passesLamp_6 : cX9_passesLamp.data.toList.drop 138 = dktX9_passesLamp_6 := dk_seg dksX9_passesLamp_5 24 rfl rfl
theorem dX9_passesLamp_0 : decode cX9_passesLamp 0 = .ok (.iload_n 1, 1) := dk_27 (dk_at dksX9_passesLamp_0 0 rfl rfl)
theorem dX9_passesLamp_1 : decode cX9_passesLamp 1 = .ok (.ifCond .eq 47, 3) := dk_153 0 47 (dk_at dksX9_passesLamp_0 1 rfl rfl)
theorem dX9_passesLamp_4 : decode cX9_passesLamp 4 = .ok (.iload_n 2, 1) := dk_28 (dk_at dksX9_passesLamp_0 4 rfl rfl)
theorem dX9_passesLamp_5 : decode cX9_passesLamp 5 = .ok (.ifCond .ne 24, 3) := dk_154 0 24 (dk_at dksX9_passesLamp_0 5 rfl rfl)
theorem dX9_passesLamp_8 : decode cX9_passesLamp 8 = .ok (.aload_n 0, 1) := dk_42 (dk_at dksX9_passesLamp_0 8 rfl rfl)
theorem dX9_passesLamp_9 : decode cX9_passesLamp 9 = .ok (.getfield 9, 3) := dk_180 0 9 (dk_at dksX9_passesLamp_0 9 rfl rfl)
theorem dX9_passesLamp_12 : decode cX9_passesLamp 12 = .ok (.bipush 6, 2) := dk_16 6 (dk_at dksX9_passesLamp_0 12 rfl rfl)
theorem dX9_passesLamp_14 : decode cX9_passesLamp 14 = .ok (.iaload, 1) := dk_46 (dk_at dksX9_passesLamp_0 14 rfl rfl)
theorem dX9_passesLamp_15 : decode cX9_passesLamp 15 = .ok (.iconst 1, 1) := dk_4 (dk_at dksX9_passesLamp_0 15 rfl rfl)
theorem dX9_passesLamp_16 : decode cX9_passesLamp 16 = .ok (.if_icmp .ne 32, 3) := dk_160 0 32 (dk_at dksX9_passesLamp_0 16 rfl rfl)
theorem dX9_passesLamp_19 : decode cX9_passesLamp 19 = .ok (.aload_n 0, 1) := dk_42 (dk_at dksX9_passesLamp_0 19 rfl rfl)
theorem dX9_passesLamp_20 : decode cX9_passesLamp 20 = .ok (.getfield 9, 3) := dk_180 0 9 (dk_at dksX9_passesLamp_0 20 rfl rfl)
theorem dX9_passesLamp_23 : decode cX9_passesLamp 23 = .ok (.bipush 7, 2) := dk_16 7 (dk_at dksX9_passesLamp_1 0 rfl rfl)
theorem dX9_passesLamp_25 : decode cX9_passesLamp 25 = .ok (.iaload, 1) := dk_46 (dk_at dksX9_passesLamp_1 2 rfl rfl)
theorem dX9_passesLamp_26 : decode cX9_passesLamp 26 = .ok (.ifCond .ne 22, 3) := dk_154 0 22 (dk_at dksX9_passesLamp_1 3 rfl rfl)
theorem dX9_passesLamp_29 : decode cX9_passesLamp 29 = .ok (.aload_n 0, 1) := dk_42 (dk_at dksX9_passesLamp_1 6 rfl rfl)
theorem dX9_passesLamp_30 : decode cX9_passesLamp 30 = .ok (.getfield 9, 3) := dk_180 0 9 (dk_at dksX9_passesLamp_1 7 rfl rfl)
theorem dX9_passesLamp_33 : decode cX9_passesLamp 33 = .ok (.iconst 4, 1) := dk_7 (dk_at dksX9_passesLamp_1 10 rfl rfl)
theorem dX9_passesLamp_34 : decode cX9_passesLamp 34 = .ok (.iaload, 1) := dk_46 (dk_at dksX9_passesLamp_1 11 rfl rfl)
theorem dX9_passesLamp_35 : decode cX9_passesLamp 35 = .ok (.aload_n 0, 1) := dk_42 (dk_at dksX9_passesLamp_1 12 rfl rfl)
theorem dX9_passesLamp_36 : decode cX9_passesLamp 36 = .ok (.getfield 9, 3) := dk_180 0 9 (dk_at dksX9_passesLamp_1 13 rfl rfl)
theorem dX9_passesLamp_39 : decode cX9_passesLamp 39 = .ok (.iconst 3, 1) := dk_6 (dk_at dksX9_passesLamp_1 16 rfl rfl)
theorem dX9_passesLamp_40 : decode cX9_passesLamp 40 = .ok (.iaload, 1) := dk_46 (dk_at dksX9_passesLamp_1 17 rfl rfl)
theorem dX9_passesLamp_41 : decode cX9_passesLamp 41 = .ok (.if_icmp .lt 7, 3) := dk_161 0 7 (dk_at dksX9_passesLamp_1 18 rfl rfl)
theorem dX9_passesLamp_44 : decode cX9_passesLamp 44 = .ok (.iconst 1, 1) := dk_4 (dk_at dksX9_passesLamp_1 21 rfl rfl)
theorem dX9_passesLamp_45 : decode cX9_passesLamp 45 = .ok (.goto 4, 3) := dk_167 0 4 (dk_at dksX9_passesLamp_2 0 rfl rfl)
theorem dX9_passesLamp_48 : decode cX9_passesLamp 48 = .ok (.iconst 0, 1) := dk_3 (dk_at dksX9_passesLamp_2 3 rfl rfl)
theorem dX9_passesLamp_49 : decode cX9_passesLamp 49 = .ok (.istore_n 3, 1) := dk_62 (dk_at dksX9_passesLamp_2 4 rfl rfl)
theorem dX9_passesLamp_50 : decode cX9_passesLamp 50 = .ok (.aload_n 0, 1) := dk_42 (dk_at dksX9_passesLamp_2 5 rfl rfl)
theorem dX9_passesLamp_51 : decode cX9_passesLamp 51 = .ok (.getfield 9, 3) := dk_180 0 9 (dk_at dksX9_passesLamp_2 6 rfl rfl)
theorem dX9_passesLamp_54 : decode cX9_passesLamp 54 = .ok (.bipush 6, 2) := dk_16 6 (dk_at dksX9_passesLamp_2 9 rfl rfl)
theorem dX9_passesLamp_56 : decode cX9_passesLamp 56 = .ok (.iload_n 3, 1) := dk_29 (dk_at dksX9_passesLamp_2 11 rfl rfl)
theorem dX9_passesLamp_57 : decode cX9_passesLamp 57 = .ok (.ifCond .eq 7, 3) := dk_153 0 7 (dk_at dksX9_passesLamp_2 12 rfl rfl)
theorem dX9_passesLamp_60 : decode cX9_passesLamp 60 = .ok (.iconst 1, 1) := dk_4 (dk_at dksX9_passesLamp_2 15 rfl rfl)
theorem dX9_passesLamp_61 : decode cX9_passesLamp 61 = .ok (.goto 4, 3) := dk_167 0 4 (dk_at dksX9_passesLamp_2 16 rfl rfl)
theorem dX9_passesLamp_64 : decode cX9_passesLamp 64 = .ok (.iconst 0, 1) := dk_3 (dk_at dksX9_passesLamp_2 19 rfl rfl)
theorem dX9_passesLamp_65 : decode cX9_passesLamp 65 = .ok (.iastore, 1) := dk_79 (dk_at dksX9_passesLamp_2 20 rfl rfl)
theorem dX9_passesLamp_66 : decode cX9_passesLamp 66 = .ok (.aload_n 0, 1) := dk_42 (dk_at dksX9_passesLamp_2 21 rfl rfl)
theorem dX9_passesLamp_67 : decode cX9_passesLamp 67 = .ok (.getfield 9, 3) := dk_180 0 9 (dk_at dksX9_passesLamp_3 0 rfl rfl)
theorem dX9_passesLamp_70 : decode cX9_passesLamp 70 = .ok (.iconst 4, 1) := dk_7 (dk_at dksX9_passesLamp_3 3 rfl rfl)
theorem dX9_passesLamp_71 : decode cX9_passesLamp 71 = .ok (.dup2, 1) := dk_92 (dk_at dksX9_passesLamp_3 4 rfl rfl)
theorem dX9_passesLamp_72 : decode cX9_passesLamp 72 = .ok (.iaload, 1) := dk_46 (dk_at dksX9_passesLamp_3 5 rfl rfl)
theorem dX9_passesLamp_73 : decode cX9_passesLamp 73 = .ok (.iload_n 3, 1) := dk_29 (dk_at dksX9_passesLamp_3 6 rfl rfl)
theorem dX9_passesLamp_74 : decode cX9_passesLamp 74 = .ok (.ifCond .eq 12, 3) := dk_153 0 12 (dk_at dksX9_passesLamp_3 7 rfl rfl)
theorem dX9_passesLamp_77 : decode cX9_passesLamp 77 = .ok (.aload_n 0, 1) := dk_42 (dk_at dksX9_passesLamp_3 10 rfl rfl)
theorem dX9_passesLamp_78 : decode cX9_passesLamp 78 = .ok (.getfield 9, 3) := dk_180 0 9 (dk_at dksX9_passesLamp_3 11 rfl rfl)
theorem dX9_passesLamp_81 : decode cX9_passesLamp 81 = .ok (.iconst 3, 1) := dk_6 (dk_at dksX9_passesLamp_3 14 rfl rfl)
theorem dX9_passesLamp_82 : decode cX9_passesLamp 82 = .ok (.iaload, 1) := dk_46 (dk_at dksX9_passesLamp_3 15 rfl rfl)
theorem dX9_passesLamp_83 : decode cX9_passesLamp 83 = .ok (.goto 4, 3) := dk_167 0 4 (dk_at dksX9_passesLamp_3 16 rfl rfl)
theorem dX9_passesLamp_86 : decode cX9_passesLamp 86 = .ok (.iconst 0, 1) := dk_3 (dk_at dksX9_passesLamp_3 19 rfl rfl)
theorem dX9_passesLamp_87 : decode cX9_passesLamp 87 = .ok (.isub, 1) := dk_100 (dk_at dksX9_passesLamp_3 20 rfl rfl)
theorem dX9_passesLamp_88 : decode cX9_passesLamp 88 = .ok (.iastore, 1) := dk_79 (dk_at dksX9_passesLamp_3 21 rfl rfl)
theorem dX9_passesLamp_89 : decode cX9_passesLamp 89 = .ok (.aload_n 0, 1) := dk_42 (dk_at dksX9_passesLamp_3 22 rfl rfl)
theorem dX9_passesLamp_90 : decode cX9_passesLamp 90 = .ok (.getfield 9, 3) := dk_180 0 9 (dk_at dksX9_passesLamp_4 0 rfl rfl)
theorem dX9_passesLamp_93 : decode cX9_passesLamp 93 = .ok (.bipush 7, 2) := dk_16 7 (dk_at dksX9_passesLamp_4 3 rfl rfl)
theorem dX9_passesLamp_95 : decode cX9_passesLamp 95 = .ok (.iload_n 3, 1) := dk_29 (dk_at dksX9_passesLamp_4 5 rfl rfl)
theorem dX9_passesLamp_96 : decode cX9_passesLamp 96 = .ok (.ifCond .eq 11, 3) := dk_153 0 11 (dk_at dksX9_passesLamp_4 6 rfl rfl)
theorem dX9_passesLamp_99 : decode cX9_passesLamp 99 = .ok (.iload_n 2, 1) := dk_28 (dk_at dksX9_passesLamp_4 9 rfl rfl)
theorem dX9_passesLamp_100 : decode cX9_passesLamp 100 = .ok (.ifCond .ne 7, 3) := dk_154 0 7 (dk_at dksX9_passesLamp_4 10 rfl rfl)
theorem dX9_passesLamp_103 : decode cX9_passesLamp 103 = .ok (.iconst 1, 1) := dk_4 (dk_at dksX9_passesLamp_4 13 rfl rfl)
theorem dX9_passesLamp_104 : decode cX9_passesLamp 104 = .ok (.goto 4, 3) := dk_167 0 4 (dk_at dksX9_passesLamp_4 14 rfl rfl)
theorem dX9_passesLamp_107 : decode cX9_passesLamp 107 = .ok (.iconst 0, 1) := dk_3 (dk_at dksX9_passesLamp_4 17 rfl rfl)
theorem dX9_passesLamp_108 : decode cX9_passesLamp 108 = .ok (.iastore, 1) := dk_79 (dk_at dksX9_passesLamp_4 18 rfl rfl)
theorem dX9_passesLamp_109 : decode cX9_passesLamp 109 = .ok (.iload_n 1, 1) := dk_27 (dk_at dksX9_passesLamp_4 19 rfl rfl)
theorem dX9_passesLamp_110 : decode cX9_passesLamp 110 = .ok (.ifCond .eq 39, 3) := dk_153 0 39 (dk_at dksX9_passesLamp_4 20 rfl rfl)
theorem dX9_passesLamp_113 : decode cX9_passesLamp 113 = .ok (.iload_n 3, 1) := dk_29 (dk_at dksX9_passesLamp_4 23 rfl rfl)
theorem dX9_passesLamp_114 : decode cX9_passesLamp 114 = .ok (.ifCond .ne 35, 3) := dk_154 0 35 (dk_at dksX9_passesLamp_5 0 rfl rfl)
theorem dX9_passesLamp_117 : decode cX9_passesLamp 117 = .ok (.aload_n 0, 1) := dk_42 (dk_at dksX9_passesLamp_5 3 rfl rfl)
theorem dX9_passesLamp_118 : decode cX9_passesLamp 118 = .ok (.getfield 9, 3) := dk_180 0 9 (dk_at dksX9_passesLamp_5 4 rfl rfl)
theorem dX9_passesLamp_121 : decode cX9_passesLamp 121 = .ok (.bipush 16, 2) := dk_16 16 (dk_at dksX9_passesLamp_5 7 rfl rfl)
theorem dX9_passesLamp_123 : decode cX9_passesLamp 123 = .ok (.dup2, 1) := dk_92 (dk_at dksX9_passesLamp_5 9 rfl rfl)
theorem dX9_passesLamp_124 : decode cX9_passesLamp 124 = .ok (.iaload, 1) := dk_46 (dk_at dksX9_passesLamp_5 10 rfl rfl)
theorem dX9_passesLamp_125 : decode cX9_passesLamp 125 = .ok (.iconst 1, 1) := dk_4 (dk_at dksX9_passesLamp_5 11 rfl rfl)
theorem dX9_passesLamp_126 : decode cX9_passesLamp 126 = .ok (.iadd, 1) := dk_96 (dk_at dksX9_passesLamp_5 12 rfl rfl)
theorem dX9_passesLamp_127 : decode cX9_passesLamp 127 = .ok (.iastore, 1) := dk_79 (dk_at dksX9_passesLamp_5 13 rfl rfl)
theorem dX9_passesLamp_128 : decode cX9_passesLamp 128 = .ok (.aload_n 0, 1) := dk_42 (dk_at dksX9_passesLamp_5 14 rfl rfl)
theorem dX9_passesLamp_129 : decode cX9_passesLamp 129 = .ok (.getfield 9, 3) := dk_180 0 9 (dk_at dksX9_passesLamp_5 15 rfl rfl)
theorem dX9_passesLamp_132 : decode cX9_passesLamp 132 = .ok (.bipush 17, 2) := dk_16 17 (dk_at dksX9_passesLamp_5 18 rfl rfl)
theorem dX9_passesLamp_134 : decode cX9_passesLamp 134 = .ok (.dup2, 1) := dk_92 (dk_at dksX9_passesLamp_5 20 rfl rfl)
theorem dX9_passesLamp_135 : decode cX9_passesLamp 135 = .ok (.iaload, 1) := dk_46 (dk_at dksX9_passesLamp_5 21 rfl rfl)
theorem dX9_passesLamp_136 : decode cX9_passesLamp 136 = .ok (.iconst 1, 1) := dk_4 (dk_at dksX9_passesLamp_5 22 rfl rfl)
theorem dX9_passesLamp_137 : decode cX9_passesLamp 137 = .ok (.aload_n 0, 1) := dk_42 (dk_at dksX9_passesLamp_5 23 rfl rfl)
theorem dX9_passesLamp_138 : decode cX9_passesLamp 138 = .ok (.getfield 9, 3) := dk_180 0 9 (dk_at dksX9_passesLamp_6 0 rfl rfl)
theorem dX9_passesLamp_141 : decode cX9_passesLamp 141 = .ok (.iconst 0, 1) := dk_3 (dk_at dksX9_passesLamp_6 3 rfl rfl)
theorem dX9_passesLamp_142 : decode cX9_passesLamp 142 = .ok (.iaload, 1) := dk_46 (dk_at dksX9_passesLamp_6 4 rfl rfl)
theorem dX9_passesLamp_143 : decode cX9_passesLamp 143 = .ok (.bipush 24, 2) := dk_16 24 (dk_at dksX9_passesLamp_6 5 rfl rfl)
theorem dX9_passesLamp_145 : decode cX9_passesLamp 145 = .ok (.irem, 1) := dk_112 (dk_at dksX9_passesLamp_6 7 rfl rfl)
theorem dX9_passesLamp_146 : decode cX9_passesLamp 146 = .ok (.ishl, 1) := dk_120 (dk_at dksX9_passesLamp_6 8 rfl rfl)
theorem dX9_passesLamp_147 : decode cX9_passesLamp 147 = .ok (.ior, 1) := dk_128 (dk_at dksX9_passesLamp_6 9 rfl rfl)
theorem dX9_passesLamp_148 : decode cX9_passesLamp 148 = .ok (.iastore, 1) := dk_79 (dk_at dksX9_passesLamp_6 10 rfl rfl)
theorem dX9_passesLamp_149 : decode cX9_passesLamp 149 = .ok (.return_, 1) := dk_177 (dk_at dksX9_passesLamp_6 11 rfl rfl)
abbrev cX9_logs : ByteArray := prog_34_method_12_code
def yX9_logs : MethodName := ⟨RX9, "logs", "(III)V"⟩
def dkwX9_logs_3 : List UInt8 := [17, 3, 141, 7, 21, 4, 104, 96, 6, 96, 29, 79, 42, 180, 0, 9, 16, 15, 21, 4, 4, 96, 79, 177]
abbrev dktX9_logs_3 : List UInt8 := dkwX9_logs_3 ++ []
def dkwX9_logs_2 : List UInt8 := [4, 96, 27, 79, 42, 180, 0, 9, 17, 3, 141, 7, 21, 4, 104, 96, 5, 96, 28, 79, 42, 180, 0, 9]
abbrev dktX9_logs_2 : List UInt8 := dkwX9_logs_2 ++ dktX9_logs_3
def dkwX9_logs_1 : List UInt8 := [7, 21, 4, 104, 96, 42, 180, 0, 9, 3, 46, 79, 42, 180, 0, 9, 17, 3, 141, 7, 21, 4, 104, 96]
abbrev dktX9_logs_1 : List UInt8 := dkwX9_logs_1 ++ dktX9_logs_2
def dkwX9_logs_0 : List UInt8 := [42, 180, 0, 9, 16, 15, 46, 54, 4, 21, 4, 17, 1, 144, 162, 0, 81, 42, 180, 0, 9, 17, 3, 141]
abbrev dktX9_logs_0 : List UInt8 := dkwX9_logs_0 ++ dktX9_logs_1
theorem dksX9_logs_0 : cX9_logs.data.toList.drop 0 = dktX9_logs_0 := by decide +kernel
theorem dksX9_logs_1 : cX9_logs.data.toList.drop 24 = dktX9_logs_1 := dk_seg dksX9_logs_0 24 rfl rfl
theorem dksX9_logs_2 : cX9_logs.data.toList.drop 48 = dktX9_logs_2 := dk_seg dksX9_logs_1 24 rfl rfl
theorem dksX9_logs_3 : cX9_logs.data.toList.drop 72 = dktX9_logs_3 := dk_seg dksX9_logs_2 24 rfl rfl
theorem dX9_logs_0 : decode cX9_logs 0 = .ok (.aload_n 0, 1) := dk_42 (dk_at dksX9_logs_0 0 rfl rfl)
theorem dX9_logs_1 : decode cX9_logs 1 = .ok (.getfield 9, 3) := dk_180 0 9 (dk_at dksX9_logs_0 1 rfl rfl)
theorem dX9_logs_4 : decode cX9_logs 4 = .ok (.bipush 15, 2) := dk_16 15 (dk_at dksX9_logs_0 4 rfl rfl)
theorem dX9_logs_6 : decode cX9_logs 6 = .ok (.iaload, 1) := dk_46 (dk_at dksX9_logs_0 6 rfl rfl)
theorem dX9_logs_7 : decode cX9_logs 7 = .ok (.istore 4, 2) := dk_54 4 (dk_at dksX9_logs_0 7 rfl rfl)
theorem dX9_logs_9 : decode cX9_logs 9 = .ok (.iload 4, 2) := dk_21 4 (dk_at dksX9_logs_0 9 rfl rfl)
theorem dX9_logs_11 : decode cX9_logs 11 = .ok (.sipush 400, 3) := dk_17 1 144 (dk_at dksX9_logs_0 11 rfl rfl)
theorem dX9_logs_14 : decode cX9_logs 14 = .ok (.if_icmp .ge 81, 3) := dk_162 0 81 (dk_at dksX9_logs_0 14 rfl rfl)
theorem dX9_logs_17 : decode cX9_logs 17 = .ok (.aload_n 0, 1) := dk_42 (dk_at dksX9_logs_0 17 rfl rfl)
theorem dX9_logs_18 : decode cX9_logs 18 = .ok (.getfield 9, 3) := dk_180 0 9 (dk_at dksX9_logs_0 18 rfl rfl)
theorem dX9_logs_21 : decode cX9_logs 21 = .ok (.sipush 909, 3) := dk_17 3 141 (dk_at dksX9_logs_0 21 rfl rfl)
theorem dX9_logs_24 : decode cX9_logs 24 = .ok (.iconst 4, 1) := dk_7 (dk_at dksX9_logs_1 0 rfl rfl)
theorem dX9_logs_25 : decode cX9_logs 25 = .ok (.iload 4, 2) := dk_21 4 (dk_at dksX9_logs_1 1 rfl rfl)
theorem dX9_logs_27 : decode cX9_logs 27 = .ok (.imul, 1) := dk_104 (dk_at dksX9_logs_1 3 rfl rfl)
theorem dX9_logs_28 : decode cX9_logs 28 = .ok (.iadd, 1) := dk_96 (dk_at dksX9_logs_1 4 rfl rfl)
theorem dX9_logs_29 : decode cX9_logs 29 = .ok (.aload_n 0, 1) := dk_42 (dk_at dksX9_logs_1 5 rfl rfl)
theorem dX9_logs_30 : decode cX9_logs 30 = .ok (.getfield 9, 3) := dk_180 0 9 (dk_at dksX9_logs_1 6 rfl rfl)
theorem dX9_logs_33 : decode cX9_logs 33 = .ok (.iconst 0, 1) := dk_3 (dk_at dksX9_logs_1 9 rfl rfl)
theorem dX9_logs_34 : decode cX9_logs 34 = .ok (.iaload, 1) := dk_46 (dk_at dksX9_logs_1 10 rfl rfl)
theorem dX9_logs_35 : decode cX9_logs 35 = .ok (.iastore, 1) := dk_79 (dk_at dksX9_logs_1 11 rfl rfl)
theorem dX9_logs_36 : decode cX9_logs 36 = .ok (.aload_n 0, 1) := dk_42 (dk_at dksX9_logs_1 12 rfl rfl)
theorem dX9_logs_37 : decode cX9_logs 37 = .ok (.getfield 9, 3) := dk_180 0 9 (dk_at dksX9_logs_1 13 rfl rfl)
theorem dX9_logs_40 : decode cX9_logs 40 = .ok (.sipush 909, 3) := dk_17 3 141 (dk_at dksX9_logs_1 16 rfl rfl)
theorem dX9_logs_43 : decode cX9_logs 43 = .ok (.iconst 4, 1) := dk_7 (dk_at dksX9_logs_1 19 rfl rfl)
theorem dX9_logs_44 : decode cX9_logs 44 = .ok (.iload 4, 2) := dk_21 4 (dk_at dksX9_logs_1 20 rfl rfl)
theorem dX9_logs_46 : decode cX9_logs 46 = .ok (.imul, 1) := dk_104 (dk_at dksX9_logs_1 22 rfl rfl)
theorem dX9_logs_47 : decode cX9_logs 47 = .ok (.iadd, 1) := dk_96 (dk_at dksX9_logs_1 23 rfl rfl)
theorem dX9_logs_48 : decode cX9_logs 48 = .ok (.iconst 1, 1) := dk_4 (dk_at dksX9_logs_2 0 rfl rfl)
theorem dX9_logs_49 : decode cX9_logs 49 = .ok (.iadd, 1) := dk_96 (dk_at dksX9_logs_2 1 rfl rfl)
theorem dX9_logs_50 : decode cX9_logs 50 = .ok (.iload_n 1, 1) := dk_27 (dk_at dksX9_logs_2 2 rfl rfl)
theorem dX9_logs_51 : decode cX9_logs 51 = .ok (.iastore, 1) := dk_79 (dk_at dksX9_logs_2 3 rfl rfl)
theorem dX9_logs_52 : decode cX9_logs 52 = .ok (.aload_n 0, 1) := dk_42 (dk_at dksX9_logs_2 4 rfl rfl)
theorem dX9_logs_53 : decode cX9_logs 53 = .ok (.getfield 9, 3) := dk_180 0 9 (dk_at dksX9_logs_2 5 rfl rfl)
theorem dX9_logs_56 : decode cX9_logs 56 = .ok (.sipush 909, 3) := dk_17 3 141 (dk_at dksX9_logs_2 8 rfl rfl)
theorem dX9_logs_59 : decode cX9_logs 59 = .ok (.iconst 4, 1) := dk_7 (dk_at dksX9_logs_2 11 rfl rfl)
theorem dX9_logs_60 : decode cX9_logs 60 = .ok (.iload 4, 2) := dk_21 4 (dk_at dksX9_logs_2 12 rfl rfl)
theorem dX9_logs_62 : decode cX9_logs 62 = .ok (.imul, 1) := dk_104 (dk_at dksX9_logs_2 14 rfl rfl)
theorem dX9_logs_63 : decode cX9_logs 63 = .ok (.iadd, 1) := dk_96 (dk_at dksX9_logs_2 15 rfl rfl)
theorem dX9_logs_64 : decode cX9_logs 64 = .ok (.iconst 2, 1) := dk_5 (dk_at dksX9_logs_2 16 rfl rfl)
theorem dX9_logs_65 : decode cX9_logs 65 = .ok (.iadd, 1) := dk_96 (dk_at dksX9_logs_2 17 rfl rfl)
theorem dX9_logs_66 : decode cX9_logs 66 = .ok (.iload_n 2, 1) := dk_28 (dk_at dksX9_logs_2 18 rfl rfl)
theorem dX9_logs_67 : decode cX9_logs 67 = .ok (.iastore, 1) := dk_79 (dk_at dksX9_logs_2 19 rfl rfl)
theorem dX9_logs_68 : decode cX9_logs 68 = .ok (.aload_n 0, 1) := dk_42 (dk_at dksX9_logs_2 20 rfl rfl)
theorem dX9_logs_69 : decode cX9_logs 69 = .ok (.getfield 9, 3) := dk_180 0 9 (dk_at dksX9_logs_2 21 rfl rfl)
theorem dX9_logs_72 : decode cX9_logs 72 = .ok (.sipush 909, 3) := dk_17 3 141 (dk_at dksX9_logs_3 0 rfl rfl)
theorem dX9_logs_75 : decode cX9_logs 75 = .ok (.iconst 4, 1) := dk_7 (dk_at dksX9_logs_3 3 rfl rfl)
theorem dX9_logs_76 : decode cX9_logs 76 = .ok (.iload 4, 2) := dk_21 4 (dk_at dksX9_logs_3 4 rfl rfl)
theorem dX9_logs_78 : decode cX9_logs 78 = .ok (.imul, 1) := dk_104 (dk_at dksX9_logs_3 6 rfl rfl)
theorem dX9_logs_79 : decode cX9_logs 79 = .ok (.iadd, 1) := dk_96 (dk_at dksX9_logs_3 7 rfl rfl)
theorem dX9_logs_80 : decode cX9_logs 80 = .ok (.iconst 3, 1) := dk_6 (dk_at dksX9_logs_3 8 rfl rfl)
theorem dX9_logs_81 : decode cX9_logs 81 = .ok (.iadd, 1) := dk_96 (dk_at dksX9_logs_3 9 rfl rfl)
theorem dX9_logs_82 : decode cX9_logs 82 = .ok (.iload_n 3, 1) := dk_29 (dk_at dksX9_logs_3 10 rfl rfl)
theorem dX9_logs_83 : decode cX9_logs 83 = .ok (.iastore, 1) := dk_79 (dk_at dksX9_logs_3 11 rfl rfl)
theorem dX9_logs_84 : decode cX9_logs 84 = .ok (.aload_n 0, 1) := dk_42 (dk_at dksX9_logs_3 12 rfl rfl)
theorem dX9_logs_85 : decode cX9_logs 85 = .ok (.getfield 9, 3) := dk_180 0 9 (dk_at dksX9_logs_3 13 rfl rfl)
theorem dX9_logs_88 : decode cX9_logs 88 = .ok (.bipush 15, 2) := dk_16 15 (dk_at dksX9_logs_3 16 rfl rfl)
theorem dX9_logs_90 : decode cX9_logs 90 = .ok (.iload 4, 2) := dk_21 4 (dk_at dksX9_logs_3 18 rfl rfl)
theorem dX9_logs_92 : decode cX9_logs 92 = .ok (.iconst 1, 1) := dk_4 (dk_at dksX9_logs_3 20 rfl rfl)
theorem dX9_logs_93 : decode cX9_logs 93 = .ok (.iadd, 1) := dk_96 (dk_at dksX9_logs_3 21 rfl rfl)
theorem dX9_logs_94 : decode cX9_logs 94 = .ok (.iastore, 1) := dk_79 (dk_at dksX9_logs_3 22 rfl rfl)
theorem dX9_logs_95 : decode cX9_logs 95 = .ok (.return_, 1) := dk_177 (dk_at dksX9_logs_3 23 rfl rfl)
abbrev cX9_passesShips : ByteArray := prog_34_method_16_code
def yX9_passesShips : MethodName := ⟨RX9, "passesShips", "(ZZII)V"⟩
def dkwX9_passesShips_7 : List UInt8 := [182, 0, 76, 132, 6, 1, 167, 255, 98, 177]
abbrev dktX9_passesShips_7 : List UInt8 := dkwX9_passesShips_7 ++ []
def dkwX9_passesShips_6 : List UInt8 := [153, 0, 7, 5, 167, 0, 4, 3, 96, 79, 21, 4, 155, 0, 15, 42, 7, 21, 10, 96, 21, 7, 21, 4]
abbrev dktX9_passesShips_6 : List UInt8 := dkwX9_passesShips_6 ++ dktX9_passesShips_7
def dkwX9_passesShips_5 : List UInt8 := [21, 10, 79, 42, 180, 0, 9, 16, 109, 7, 21, 7, 104, 96, 6, 96, 42, 180, 0, 9, 16, 6, 46, 28]
abbrev dktX9_passesShips_5 : List UInt8 := dkwX9_passesShips_5 ++ dktX9_passesShips_6
def dkwX9_passesShips_4 : List UInt8 := [159, 0, 7, 4, 167, 0, 4, 5, 54, 10, 42, 180, 0, 9, 16, 109, 7, 21, 7, 104, 96, 5, 96]
abbrev dktX9_passesShips_4 : List UInt8 := dkwX9_passesShips_4 ++ dktX9_passesShips_5
def dkwX9_passesShips_3 : List UInt8 := [154, 0, 7, 3, 167, 0, 27, 21, 9, 4, 160, 0, 20, 21, 8, 184, 0, 62, 154, 0, 8, 29, 5]
abbrev dktX9_passesShips_3 : List UInt8 := dkwX9_passesShips_3 ++ dktX9_passesShips_4
def dkwX9_passesShips_2 : List UInt8 := [180, 0, 9, 16, 6, 46, 4, 160, 0, 7, 4, 167, 0, 4, 3, 28, 29, 184, 0, 72, 54, 9, 21, 9]
abbrev dktX9_passesShips_2 : List UInt8 := dkwX9_passesShips_2 ++ dktX9_passesShips_3
def dkwX9_passesShips_1 : List UInt8 := [21, 5, 21, 6, 182, 0, 69, 54, 7, 42, 21, 7, 3, 182, 0, 66, 54, 8, 21, 8, 27, 42]
abbrev dktX9_passesShips_1 : List UInt8 := dkwX9_passesShips_1 ++ dktX9_passesShips_2
def dkwX9_passesShips_0 : List UInt8 := [42, 180, 0, 9, 3, 46, 54, 5, 3, 54, 6, 42, 21, 5, 21, 6, 182, 0, 69, 155, 0, 153, 42]
abbrev dktX9_passesShips_0 : List UInt8 := dkwX9_passesShips_0 ++ dktX9_passesShips_1
theorem dksX9_passesShips_0 : cX9_passesShips.data.toList.drop 0 = dktX9_passesShips_0 := by decide +kernel
theorem dksX9_passesShips_1 : cX9_passesShips.data.toList.drop 23 = dktX9_passesShips_1 := dk_seg dksX9_passesShips_0 23 rfl rfl
theorem dksX9_passesShips_2 : cX9_passesShips.data.toList.drop 45 = dktX9_passesShips_2 := dk_seg dksX9_passesShips_1 22 rfl rfl
theorem dksX9_passesShips_3 : cX9_passesShips.data.toList.drop 69 = dktX9_passesShips_3 := dk_seg dksX9_passesShips_2 24 rfl rfl
theorem dksX9_passesShips_4 : cX9_passesShips.data.toList.drop 92 = dktX9_passesShips_4 := dk_seg dksX9_passesShips_3 23 rfl rfl
theorem dksX9_passesShips_5 : cX9_passesShips.data.toList.drop 115 = dktX9_passesShips_5 := dk_seg dksX9_passesShips_4 23 rfl rfl
theorem dksX9_passesShips_6 : cX9_passesShips.data.toList.drop 139 = dktX9_passesShips_6 := dk_seg dksX9_passesShips_5 24 rfl rfl
theorem dksX9_passesShips_7 : cX9_passesShips.data.toList.drop 163 = dktX9_passesShips_7 := dk_seg dksX9_passesShips_6 24 rfl rfl
theorem dX9_passesShips_0 : decode cX9_passesShips 0 = .ok (.aload_n 0, 1) := dk_42 (dk_at dksX9_passesShips_0 0 rfl rfl)
theorem dX9_passesShips_1 : decode cX9_passesShips 1 = .ok (.getfield 9, 3) := dk_180 0 9 (dk_at dksX9_passesShips_0 1 rfl rfl)
theorem dX9_passesShips_4 : decode cX9_passesShips 4 = .ok (.iconst 0, 1) := dk_3 (dk_at dksX9_passesShips_0 4 rfl rfl)
theorem dX9_passesShips_5 : decode cX9_passesShips 5 = .ok (.iaload, 1) := dk_46 (dk_at dksX9_passesShips_0 5 rfl rfl)
theorem dX9_passesShips_6 : decode cX9_passesShips 6 = .ok (.istore 5, 2) := dk_54 5 (dk_at dksX9_passesShips_0 6 rfl rfl)
theorem dX9_passesShips_8 : decode cX9_passesShips 8 = .ok (.iconst 0, 1) := dk_3 (dk_at dksX9_passesShips_0 8 rfl rfl)
theorem dX9_passesShips_9 : decode cX9_passesShips 9 = .ok (.istore 6, 2) := dk_54 6 (dk_at dksX9_passesShips_0 9 rfl rfl)
theorem dX9_passesShips_11 : decode cX9_passesShips 11 = .ok (.aload_n 0, 1) := dk_42 (dk_at dksX9_passesShips_0 11 rfl rfl)
theorem dX9_passesShips_12 : decode cX9_passesShips 12 = .ok (.iload 5, 2) := dk_21 5 (dk_at dksX9_passesShips_0 12 rfl rfl)
theorem dX9_passesShips_14 : decode cX9_passesShips 14 = .ok (.iload 6, 2) := dk_21 6 (dk_at dksX9_passesShips_0 14 rfl rfl)
theorem dX9_passesShips_16 : decode cX9_passesShips 16 = .ok (.invokevirtual 69, 3) := dk_182 0 69 (dk_at dksX9_passesShips_0 16 rfl rfl)
theorem dX9_passesShips_19 : decode cX9_passesShips 19 = .ok (.ifCond .lt 153, 3) := dk_155 0 153 (dk_at dksX9_passesShips_0 19 rfl rfl)
theorem dX9_passesShips_22 : decode cX9_passesShips 22 = .ok (.aload_n 0, 1) := dk_42 (dk_at dksX9_passesShips_0 22 rfl rfl)
theorem dX9_passesShips_23 : decode cX9_passesShips 23 = .ok (.iload 5, 2) := dk_21 5 (dk_at dksX9_passesShips_1 0 rfl rfl)
theorem dX9_passesShips_25 : decode cX9_passesShips 25 = .ok (.iload 6, 2) := dk_21 6 (dk_at dksX9_passesShips_1 2 rfl rfl)
theorem dX9_passesShips_27 : decode cX9_passesShips 27 = .ok (.invokevirtual 69, 3) := dk_182 0 69 (dk_at dksX9_passesShips_1 4 rfl rfl)
theorem dX9_passesShips_30 : decode cX9_passesShips 30 = .ok (.istore 7, 2) := dk_54 7 (dk_at dksX9_passesShips_1 7 rfl rfl)
theorem dX9_passesShips_32 : decode cX9_passesShips 32 = .ok (.aload_n 0, 1) := dk_42 (dk_at dksX9_passesShips_1 9 rfl rfl)
theorem dX9_passesShips_33 : decode cX9_passesShips 33 = .ok (.iload 7, 2) := dk_21 7 (dk_at dksX9_passesShips_1 10 rfl rfl)
theorem dX9_passesShips_35 : decode cX9_passesShips 35 = .ok (.iconst 0, 1) := dk_3 (dk_at dksX9_passesShips_1 12 rfl rfl)
theorem dX9_passesShips_36 : decode cX9_passesShips 36 = .ok (.invokevirtual 66, 3) := dk_182 0 66 (dk_at dksX9_passesShips_1 13 rfl rfl)
theorem dX9_passesShips_39 : decode cX9_passesShips 39 = .ok (.istore 8, 2) := dk_54 8 (dk_at dksX9_passesShips_1 16 rfl rfl)
theorem dX9_passesShips_41 : decode cX9_passesShips 41 = .ok (.iload 8, 2) := dk_21 8 (dk_at dksX9_passesShips_1 18 rfl rfl)
theorem dX9_passesShips_43 : decode cX9_passesShips 43 = .ok (.iload_n 1, 1) := dk_27 (dk_at dksX9_passesShips_1 20 rfl rfl)
theorem dX9_passesShips_44 : decode cX9_passesShips 44 = .ok (.aload_n 0, 1) := dk_42 (dk_at dksX9_passesShips_1 21 rfl rfl)
theorem dX9_passesShips_45 : decode cX9_passesShips 45 = .ok (.getfield 9, 3) := dk_180 0 9 (dk_at dksX9_passesShips_2 0 rfl rfl)
theorem dX9_passesShips_48 : decode cX9_passesShips 48 = .ok (.bipush 6, 2) := dk_16 6 (dk_at dksX9_passesShips_2 3 rfl rfl)
theorem dX9_passesShips_50 : decode cX9_passesShips 50 = .ok (.iaload, 1) := dk_46 (dk_at dksX9_passesShips_2 5 rfl rfl)
theorem dX9_passesShips_51 : decode cX9_passesShips 51 = .ok (.iconst 1, 1) := dk_4 (dk_at dksX9_passesShips_2 6 rfl rfl)
theorem dX9_passesShips_52 : decode cX9_passesShips 52 = .ok (.if_icmp .ne 7, 3) := dk_160 0 7 (dk_at dksX9_passesShips_2 7 rfl rfl)
theorem dX9_passesShips_55 : decode cX9_passesShips 55 = .ok (.iconst 1, 1) := dk_4 (dk_at dksX9_passesShips_2 10 rfl rfl)
theorem dX9_passesShips_56 : decode cX9_passesShips 56 = .ok (.goto 4, 3) := dk_167 0 4 (dk_at dksX9_passesShips_2 11 rfl rfl)
theorem dX9_passesShips_59 : decode cX9_passesShips 59 = .ok (.iconst 0, 1) := dk_3 (dk_at dksX9_passesShips_2 14 rfl rfl)
theorem dX9_passesShips_60 : decode cX9_passesShips 60 = .ok (.iload_n 2, 1) := dk_28 (dk_at dksX9_passesShips_2 15 rfl rfl)
theorem dX9_passesShips_61 : decode cX9_passesShips 61 = .ok (.iload_n 3, 1) := dk_29 (dk_at dksX9_passesShips_2 16 rfl rfl)
theorem dX9_passesShips_62 : decode cX9_passesShips 62 = .ok (.invokestatic 72, 3) := dk_184 0 72 (dk_at dksX9_passesShips_2 17 rfl rfl)
theorem dX9_passesShips_65 : decode cX9_passesShips 65 = .ok (.istore 9, 2) := dk_54 9 (dk_at dksX9_passesShips_2 20 rfl rfl)
theorem dX9_passesShips_67 : decode cX9_passesShips 67 = .ok (.iload 9, 2) := dk_21 9 (dk_at dksX9_passesShips_2 22 rfl rfl)
theorem dX9_passesShips_69 : decode cX9_passesShips 69 = .ok (.ifCond .ne 7, 3) := dk_154 0 7 (dk_at dksX9_passesShips_3 0 rfl rfl)
theorem dX9_passesShips_72 : decode cX9_passesShips 72 = .ok (.iconst 0, 1) := dk_3 (dk_at dksX9_passesShips_3 3 rfl rfl)
theorem dX9_passesShips_73 : decode cX9_passesShips 73 = .ok (.goto 27, 3) := dk_167 0 27 (dk_at dksX9_passesShips_3 4 rfl rfl)
theorem dX9_passesShips_76 : decode cX9_passesShips 76 = .ok (.iload 9, 2) := dk_21 9 (dk_at dksX9_passesShips_3 7 rfl rfl)
theorem dX9_passesShips_78 : decode cX9_passesShips 78 = .ok (.iconst 1, 1) := dk_4 (dk_at dksX9_passesShips_3 9 rfl rfl)
theorem dX9_passesShips_79 : decode cX9_passesShips 79 = .ok (.if_icmp .ne 20, 3) := dk_160 0 20 (dk_at dksX9_passesShips_3 10 rfl rfl)
theorem dX9_passesShips_82 : decode cX9_passesShips 82 = .ok (.iload 8, 2) := dk_21 8 (dk_at dksX9_passesShips_3 13 rfl rfl)
theorem dX9_passesShips_84 : decode cX9_passesShips 84 = .ok (.invokestatic 62, 3) := dk_184 0 62 (dk_at dksX9_passesShips_3 15 rfl rfl)
theorem dX9_passesShips_87 : decode cX9_passesShips 87 = .ok (.ifCond .ne 8, 3) := dk_154 0 8 (dk_at dksX9_passesShips_3 18 rfl rfl)
theorem dX9_passesShips_90 : decode cX9_passesShips 90 = .ok (.iload_n 3, 1) := dk_29 (dk_at dksX9_passesShips_3 21 rfl rfl)
theorem dX9_passesShips_91 : decode cX9_passesShips 91 = .ok (.iconst 2, 1) := dk_5 (dk_at dksX9_passesShips_3 22 rfl rfl)
theorem dX9_passesShips_92 : decode cX9_passesShips 92 = .ok (.if_icmp .eq 7, 3) := dk_159 0 7 (dk_at dksX9_passesShips_4 0 rfl rfl)
theorem dX9_passesShips_95 : decode cX9_passesShips 95 = .ok (.iconst 1, 1) := dk_4 (dk_at dksX9_passesShips_4 3 rfl rfl)
theorem dX9_passesShips_96 : decode cX9_passesShips 96 = .ok (.goto 4, 3) := dk_167 0 4 (dk_at dksX9_passesShips_4 4 rfl rfl)
theorem dX9_passesShips_99 : decode cX9_passesShips 99 = .ok (.iconst 2, 1) := dk_5 (dk_at dksX9_passesShips_4 7 rfl rfl)
theorem dX9_passesShips_100 : decode cX9_passesShips 100 = .ok (.istore 10, 2) := dk_54 10 (dk_at dksX9_passesShips_4 8 rfl rfl)
theorem dX9_passesShips_102 : decode cX9_passesShips 102 = .ok (.aload_n 0, 1) := dk_42 (dk_at dksX9_passesShips_4 10 rfl rfl)
theorem dX9_passesShips_103 : decode cX9_passesShips 103 = .ok (.getfield 9, 3) := dk_180 0 9 (dk_at dksX9_passesShips_4 11 rfl rfl)
theorem dX9_passesShips_106 : decode cX9_passesShips 106 = .ok (.bipush 109, 2) := dk_16 109 (dk_at dksX9_passesShips_4 14 rfl rfl)
theorem dX9_passesShips_108 : decode cX9_passesShips 108 = .ok (.iconst 4, 1) := dk_7 (dk_at dksX9_passesShips_4 16 rfl rfl)
theorem dX9_passesShips_109 : decode cX9_passesShips 109 = .ok (.iload 7, 2) := dk_21 7 (dk_at dksX9_passesShips_4 17 rfl rfl)
theorem dX9_passesShips_111 : decode cX9_passesShips 111 = .ok (.imul, 1) := dk_104 (dk_at dksX9_passesShips_4 19 rfl rfl)
theorem dX9_passesShips_112 : decode cX9_passesShips 112 = .ok (.iadd, 1) := dk_96 (dk_at dksX9_passesShips_4 20 rfl rfl)
theorem dX9_passesShips_113 : decode cX9_passesShips 113 = .ok (.iconst 2, 1) := dk_5 (dk_at dksX9_passesShips_4 21 rfl rfl)
theorem dX9_passesShips_114 : decode cX9_passesShips 114 = .ok (.iadd, 1) := dk_96 (dk_at dksX9_passesShips_4 22 rfl rfl)
theorem dX9_passesShips_115 : decode cX9_passesShips 115 = .ok (.iload 10, 2) := dk_21 10 (dk_at dksX9_passesShips_5 0 rfl rfl)
theorem dX9_passesShips_117 : decode cX9_passesShips 117 = .ok (.iastore, 1) := dk_79 (dk_at dksX9_passesShips_5 2 rfl rfl)
theorem dX9_passesShips_118 : decode cX9_passesShips 118 = .ok (.aload_n 0, 1) := dk_42 (dk_at dksX9_passesShips_5 3 rfl rfl)
theorem dX9_passesShips_119 : decode cX9_passesShips 119 = .ok (.getfield 9, 3) := dk_180 0 9 (dk_at dksX9_passesShips_5 4 rfl rfl)
theorem dX9_passesShips_122 : decode cX9_passesShips 122 = .ok (.bipush 109, 2) := dk_16 109 (dk_at dksX9_passesShips_5 7 rfl rfl)
theorem dX9_passesShips_124 : decode cX9_passesShips 124 = .ok (.iconst 4, 1) := dk_7 (dk_at dksX9_passesShips_5 9 rfl rfl)
theorem dX9_passesShips_125 : decode cX9_passesShips 125 = .ok (.iload 7, 2) := dk_21 7 (dk_at dksX9_passesShips_5 10 rfl rfl)
theorem dX9_passesShips_127 : decode cX9_passesShips 127 = .ok (.imul, 1) := dk_104 (dk_at dksX9_passesShips_5 12 rfl rfl)
theorem dX9_passesShips_128 : decode cX9_passesShips 128 = .ok (.iadd, 1) := dk_96 (dk_at dksX9_passesShips_5 13 rfl rfl)
theorem dX9_passesShips_129 : decode cX9_passesShips 129 = .ok (.iconst 3, 1) := dk_6 (dk_at dksX9_passesShips_5 14 rfl rfl)
theorem dX9_passesShips_130 : decode cX9_passesShips 130 = .ok (.iadd, 1) := dk_96 (dk_at dksX9_passesShips_5 15 rfl rfl)
theorem dX9_passesShips_131 : decode cX9_passesShips 131 = .ok (.aload_n 0, 1) := dk_42 (dk_at dksX9_passesShips_5 16 rfl rfl)
theorem dX9_passesShips_132 : decode cX9_passesShips 132 = .ok (.getfield 9, 3) := dk_180 0 9 (dk_at dksX9_passesShips_5 17 rfl rfl)
theorem dX9_passesShips_135 : decode cX9_passesShips 135 = .ok (.bipush 6, 2) := dk_16 6 (dk_at dksX9_passesShips_5 20 rfl rfl)
theorem dX9_passesShips_137 : decode cX9_passesShips 137 = .ok (.iaload, 1) := dk_46 (dk_at dksX9_passesShips_5 22 rfl rfl)
theorem dX9_passesShips_138 : decode cX9_passesShips 138 = .ok (.iload_n 2, 1) := dk_28 (dk_at dksX9_passesShips_5 23 rfl rfl)
theorem dX9_passesShips_139 : decode cX9_passesShips 139 = .ok (.ifCond .eq 7, 3) := dk_153 0 7 (dk_at dksX9_passesShips_6 0 rfl rfl)
theorem dX9_passesShips_142 : decode cX9_passesShips 142 = .ok (.iconst 2, 1) := dk_5 (dk_at dksX9_passesShips_6 3 rfl rfl)
theorem dX9_passesShips_143 : decode cX9_passesShips 143 = .ok (.goto 4, 3) := dk_167 0 4 (dk_at dksX9_passesShips_6 4 rfl rfl)
theorem dX9_passesShips_146 : decode cX9_passesShips 146 = .ok (.iconst 0, 1) := dk_3 (dk_at dksX9_passesShips_6 7 rfl rfl)
theorem dX9_passesShips_147 : decode cX9_passesShips 147 = .ok (.iadd, 1) := dk_96 (dk_at dksX9_passesShips_6 8 rfl rfl)
theorem dX9_passesShips_148 : decode cX9_passesShips 148 = .ok (.iastore, 1) := dk_79 (dk_at dksX9_passesShips_6 9 rfl rfl)
theorem dX9_passesShips_149 : decode cX9_passesShips 149 = .ok (.iload 4, 2) := dk_21 4 (dk_at dksX9_passesShips_6 10 rfl rfl)
theorem dX9_passesShips_151 : decode cX9_passesShips 151 = .ok (.ifCond .lt 15, 3) := dk_155 0 15 (dk_at dksX9_passesShips_6 12 rfl rfl)
theorem dX9_passesShips_154 : decode cX9_passesShips 154 = .ok (.aload_n 0, 1) := dk_42 (dk_at dksX9_passesShips_6 15 rfl rfl)
theorem dX9_passesShips_155 : decode cX9_passesShips 155 = .ok (.iconst 4, 1) := dk_7 (dk_at dksX9_passesShips_6 16 rfl rfl)
theorem dX9_passesShips_156 : decode cX9_passesShips 156 = .ok (.iload 10, 2) := dk_21 10 (dk_at dksX9_passesShips_6 17 rfl rfl)
theorem dX9_passesShips_158 : decode cX9_passesShips 158 = .ok (.iadd, 1) := dk_96 (dk_at dksX9_passesShips_6 19 rfl rfl)
theorem dX9_passesShips_159 : decode cX9_passesShips 159 = .ok (.iload 7, 2) := dk_21 7 (dk_at dksX9_passesShips_6 20 rfl rfl)
theorem dX9_passesShips_161 : decode cX9_passesShips 161 = .ok (.iload 4, 2) := dk_21 4 (dk_at dksX9_passesShips_6 22 rfl rfl)
theorem dX9_passesShips_163 : decode cX9_passesShips 163 = .ok (.invokevirtual 76, 3) := dk_182 0 76 (dk_at dksX9_passesShips_7 0 rfl rfl)
theorem dX9_passesShips_166 : decode cX9_passesShips 166 = .ok (.iinc 6 1, 3) := dk_132 6 1 (dk_at dksX9_passesShips_7 3 rfl rfl)
theorem dX9_passesShips_169 : decode cX9_passesShips 169 = .ok (.goto (-158), 3) := dk_167 255 98 (dk_at dksX9_passesShips_7 6 rfl rfl)
theorem dX9_passesShips_172 : decode cX9_passesShips 172 = .ok (.return_, 1) := dk_177 (dk_at dksX9_passesShips_7 9 rfl rfl)
abbrev cX9_rankedAt : ByteArray := prog_34_method_15_code
def yX9_rankedAt : MethodName := ⟨RX9, "rankedAt", "(II)I"⟩
def dkwX9_rankedAt_3 : List UInt8 := [167, 255, 192, 2, 172]
abbrev dktX9_rankedAt_3 : List UInt8 := dkwX9_rankedAt_3 ++ []
def dkwX9_rankedAt_2 : List UInt8 := [160, 0, 14, 29, 28, 160, 0, 6, 21, 5, 172, 132, 3, 1, 132, 5, 1, 167, 255, 207, 132, 4, 255]
abbrev dktX9_rankedAt_2 : List UInt8 := dkwX9_rankedAt_2 ++ dktX9_rankedAt_3
def dkwX9_rankedAt_1 : List UInt8 := [162, 0, 43, 42, 21, 5, 4, 182, 0, 66, 27, 160, 0, 26, 42, 21, 5, 3, 182, 0, 66, 21, 4]
abbrev dktX9_rankedAt_1 : List UInt8 := dkwX9_rankedAt_1 ++ dktX9_rankedAt_2
def dkwX9_rankedAt_0 : List UInt8 := [3, 62, 16, 7, 54, 4, 21, 4, 6, 161, 0, 64, 3, 54, 5, 21, 5, 42, 180, 0, 9, 16, 14, 46]
abbrev dktX9_rankedAt_0 : List UInt8 := dkwX9_rankedAt_0 ++ dktX9_rankedAt_1
theorem dksX9_rankedAt_0 : cX9_rankedAt.data.toList.drop 0 = dktX9_rankedAt_0 := by decide +kernel
theorem dksX9_rankedAt_1 : cX9_rankedAt.data.toList.drop 24 = dktX9_rankedAt_1 := dk_seg dksX9_rankedAt_0 24 rfl rfl
theorem dksX9_rankedAt_2 : cX9_rankedAt.data.toList.drop 47 = dktX9_rankedAt_2 := dk_seg dksX9_rankedAt_1 23 rfl rfl
theorem dksX9_rankedAt_3 : cX9_rankedAt.data.toList.drop 70 = dktX9_rankedAt_3 := dk_seg dksX9_rankedAt_2 23 rfl rfl
theorem dX9_rankedAt_0 : decode cX9_rankedAt 0 = .ok (.iconst 0, 1) := dk_3 (dk_at dksX9_rankedAt_0 0 rfl rfl)
theorem dX9_rankedAt_1 : decode cX9_rankedAt 1 = .ok (.istore_n 3, 1) := dk_62 (dk_at dksX9_rankedAt_0 1 rfl rfl)
theorem dX9_rankedAt_2 : decode cX9_rankedAt 2 = .ok (.bipush 7, 2) := dk_16 7 (dk_at dksX9_rankedAt_0 2 rfl rfl)
theorem dX9_rankedAt_4 : decode cX9_rankedAt 4 = .ok (.istore 4, 2) := dk_54 4 (dk_at dksX9_rankedAt_0 4 rfl rfl)
theorem dX9_rankedAt_6 : decode cX9_rankedAt 6 = .ok (.iload 4, 2) := dk_21 4 (dk_at dksX9_rankedAt_0 6 rfl rfl)
theorem dX9_rankedAt_8 : decode cX9_rankedAt 8 = .ok (.iconst 3, 1) := dk_6 (dk_at dksX9_rankedAt_0 8 rfl rfl)
theorem dX9_rankedAt_9 : decode cX9_rankedAt 9 = .ok (.if_icmp .lt 64, 3) := dk_161 0 64 (dk_at dksX9_rankedAt_0 9 rfl rfl)
theorem dX9_rankedAt_12 : decode cX9_rankedAt 12 = .ok (.iconst 0, 1) := dk_3 (dk_at dksX9_rankedAt_0 12 rfl rfl)
theorem dX9_rankedAt_13 : decode cX9_rankedAt 13 = .ok (.istore 5, 2) := dk_54 5 (dk_at dksX9_rankedAt_0 13 rfl rfl)
theorem dX9_rankedAt_15 : decode cX9_rankedAt 15 = .ok (.iload 5, 2) := dk_21 5 (dk_at dksX9_rankedAt_0 15 rfl rfl)
theorem dX9_rankedAt_17 : decode cX9_rankedAt 17 = .ok (.aload_n 0, 1) := dk_42 (dk_at dksX9_rankedAt_0 17 rfl rfl)
theorem dX9_rankedAt_18 : decode cX9_rankedAt 18 = .ok (.getfield 9, 3) := dk_180 0 9 (dk_at dksX9_rankedAt_0 18 rfl rfl)
theorem dX9_rankedAt_21 : decode cX9_rankedAt 21 = .ok (.bipush 14, 2) := dk_16 14 (dk_at dksX9_rankedAt_0 21 rfl rfl)
theorem dX9_rankedAt_23 : decode cX9_rankedAt 23 = .ok (.iaload, 1) := dk_46 (dk_at dksX9_rankedAt_0 23 rfl rfl)
theorem dX9_rankedAt_24 : decode cX9_rankedAt 24 = .ok (.if_icmp .ge 43, 3) := dk_162 0 43 (dk_at dksX9_rankedAt_1 0 rfl rfl)
theorem dX9_rankedAt_27 : decode cX9_rankedAt 27 = .ok (.aload_n 0, 1) := dk_42 (dk_at dksX9_rankedAt_1 3 rfl rfl)
theorem dX9_rankedAt_28 : decode cX9_rankedAt 28 = .ok (.iload 5, 2) := dk_21 5 (dk_at dksX9_rankedAt_1 4 rfl rfl)
theorem dX9_rankedAt_30 : decode cX9_rankedAt 30 = .ok (.iconst 1, 1) := dk_4 (dk_at dksX9_rankedAt_1 6 rfl rfl)
theorem dX9_rankedAt_31 : decode cX9_rankedAt 31 = .ok (.invokevirtual 66, 3) := dk_182 0 66 (dk_at dksX9_rankedAt_1 7 rfl rfl)
theorem dX9_rankedAt_34 : decode cX9_rankedAt 34 = .ok (.iload_n 1, 1) := dk_27 (dk_at dksX9_rankedAt_1 10 rfl rfl)
theorem dX9_rankedAt_35 : decode cX9_rankedAt 35 = .ok (.if_icmp .ne 26, 3) := dk_160 0 26 (dk_at dksX9_rankedAt_1 11 rfl rfl)
theorem dX9_rankedAt_38 : decode cX9_rankedAt 38 = .ok (.aload_n 0, 1) := dk_42 (dk_at dksX9_rankedAt_1 14 rfl rfl)
theorem dX9_rankedAt_39 : decode cX9_rankedAt 39 = .ok (.iload 5, 2) := dk_21 5 (dk_at dksX9_rankedAt_1 15 rfl rfl)
theorem dX9_rankedAt_41 : decode cX9_rankedAt 41 = .ok (.iconst 0, 1) := dk_3 (dk_at dksX9_rankedAt_1 17 rfl rfl)
theorem dX9_rankedAt_42 : decode cX9_rankedAt 42 = .ok (.invokevirtual 66, 3) := dk_182 0 66 (dk_at dksX9_rankedAt_1 18 rfl rfl)
theorem dX9_rankedAt_45 : decode cX9_rankedAt 45 = .ok (.iload 4, 2) := dk_21 4 (dk_at dksX9_rankedAt_1 21 rfl rfl)
theorem dX9_rankedAt_47 : decode cX9_rankedAt 47 = .ok (.if_icmp .ne 14, 3) := dk_160 0 14 (dk_at dksX9_rankedAt_2 0 rfl rfl)
theorem dX9_rankedAt_50 : decode cX9_rankedAt 50 = .ok (.iload_n 3, 1) := dk_29 (dk_at dksX9_rankedAt_2 3 rfl rfl)
theorem dX9_rankedAt_51 : decode cX9_rankedAt 51 = .ok (.iload_n 2, 1) := dk_28 (dk_at dksX9_rankedAt_2 4 rfl rfl)
theorem dX9_rankedAt_52 : decode cX9_rankedAt 52 = .ok (.if_icmp .ne 6, 3) := dk_160 0 6 (dk_at dksX9_rankedAt_2 5 rfl rfl)
theorem dX9_rankedAt_55 : decode cX9_rankedAt 55 = .ok (.iload 5, 2) := dk_21 5 (dk_at dksX9_rankedAt_2 8 rfl rfl)
theorem dX9_rankedAt_57 : decode cX9_rankedAt 57 = .ok (.ireturn, 1) := dk_172 (dk_at dksX9_rankedAt_2 10 rfl rfl)
theorem dX9_rankedAt_58 : decode cX9_rankedAt 58 = .ok (.iinc 3 1, 3) := dk_132 3 1 (dk_at dksX9_rankedAt_2 11 rfl rfl)
theorem dX9_rankedAt_61 : decode cX9_rankedAt 61 = .ok (.iinc 5 1, 3) := dk_132 5 1 (dk_at dksX9_rankedAt_2 14 rfl rfl)
theorem dX9_rankedAt_64 : decode cX9_rankedAt 64 = .ok (.goto (-49), 3) := dk_167 255 207 (dk_at dksX9_rankedAt_2 17 rfl rfl)
theorem dX9_rankedAt_67 : decode cX9_rankedAt 67 = .ok (.iinc 4 (-1), 3) := dk_132 4 255 (dk_at dksX9_rankedAt_2 20 rfl rfl)
theorem dX9_rankedAt_70 : decode cX9_rankedAt 70 = .ok (.goto (-64), 3) := dk_167 255 192 (dk_at dksX9_rankedAt_3 0 rfl rfl)
theorem dX9_rankedAt_73 : decode cX9_rankedAt 73 = .ok (.iconst (-1), 1) := dk_2 (dk_at dksX9_rankedAt_3 3 rfl rfl)
theorem dX9_rankedAt_74 : decode cX9_rankedAt 74 = .ok (.ireturn, 1) := dk_172 (dk_at dksX9_rankedAt_3 4 rfl rfl)
abbrev cX9_ofShip : ByteArray := prog_34_method_8_code
def yX9_ofShip : MethodName := ⟨RX9, "ofShip", "(II)I"⟩
def dkwX9_ofShip_0 : List UInt8 := [42, 180, 0, 9, 16, 109, 7, 27, 104, 96, 28, 96, 46, 172]
abbrev dktX9_ofShip_0 : List UInt8 := dkwX9_ofShip_0 ++ []
theorem dksX9_ofShip_0 : cX9_ofShip.data.toList.drop 0 = dktX9_ofShip_0 := by decide +kernel
theorem dX9_ofShip_0 : decode cX9_ofShip 0 = .ok (.aload_n 0, 1) := dk_42 (dk_at dksX9_ofShip_0 0 rfl rfl)
theorem dX9_ofShip_1 : decode cX9_ofShip 1 = .ok (.getfield 9, 3) := dk_180 0 9 (dk_at dksX9_ofShip_0 1 rfl rfl)
theorem dX9_ofShip_4 : decode cX9_ofShip 4 = .ok (.bipush 109, 2) := dk_16 109 (dk_at dksX9_ofShip_0 4 rfl rfl)
theorem dX9_ofShip_6 : decode cX9_ofShip 6 = .ok (.iconst 4, 1) := dk_7 (dk_at dksX9_ofShip_0 6 rfl rfl)
theorem dX9_ofShip_7 : decode cX9_ofShip 7 = .ok (.iload_n 1, 1) := dk_27 (dk_at dksX9_ofShip_0 7 rfl rfl)
theorem dX9_ofShip_8 : decode cX9_ofShip 8 = .ok (.imul, 1) := dk_104 (dk_at dksX9_ofShip_0 8 rfl rfl)
theorem dX9_ofShip_9 : decode cX9_ofShip 9 = .ok (.iadd, 1) := dk_96 (dk_at dksX9_ofShip_0 9 rfl rfl)
theorem dX9_ofShip_10 : decode cX9_ofShip 10 = .ok (.iload_n 2, 1) := dk_28 (dk_at dksX9_ofShip_0 10 rfl rfl)
theorem dX9_ofShip_11 : decode cX9_ofShip 11 = .ok (.iadd, 1) := dk_96 (dk_at dksX9_ofShip_0 11 rfl rfl)
theorem dX9_ofShip_12 : decode cX9_ofShip 12 = .ok (.iaload, 1) := dk_46 (dk_at dksX9_ofShip_0 12 rfl rfl)
theorem dX9_ofShip_13 : decode cX9_ofShip 13 = .ok (.ireturn, 1) := dk_172 (dk_at dksX9_ofShip_0 13 rfl rfl)
abbrev cX9_lacks : ByteArray := prog_34_method_14_code
def yX9_lacks : MethodName := ⟨RX9, "lacks", "(IZZZI)I"⟩
def dkwX9_lacks_4 : List UInt8 := [167, 0, 4, 3, 96, 21, 7, 153, 0, 7, 4, 167, 0, 4, 3, 96, 172]
abbrev dktX9_lacks_4 : List UInt8 := dkwX9_lacks_4 ++ []
def dkwX9_lacks_3 : List UInt8 := [4, 167, 0, 4, 3, 54, 7, 21, 5, 153, 0, 7, 4, 167, 0, 4, 3, 21, 6, 153, 0, 7, 4]
abbrev dktX9_lacks_3 : List UInt8 := dkwX9_lacks_3 ++ dktX9_lacks_4
def dkwX9_lacks_2 : List UInt8 := [29, 154, 0, 7, 4, 167, 0, 4, 3, 54, 6, 26, 184, 0, 62, 153, 0, 13, 21, 4, 5, 160, 0, 7]
abbrev dktX9_lacks_2 : List UInt8 := dkwX9_lacks_2 ++ dktX9_lacks_3
def dkwX9_lacks_1 : List UInt8 := [21, 4, 5, 160, 0, 7, 4, 167, 0, 4, 3, 54, 5, 26, 6, 159, 0, 17, 21, 4, 4, 160, 0, 11]
abbrev dktX9_lacks_1 : List UInt8 := dkwX9_lacks_1 ++ dktX9_lacks_2
def dkwX9_lacks_0 : List UInt8 := [26, 7, 159, 0, 11, 27, 153, 0, 7, 28, 153, 0, 19, 26, 16, 7, 160, 0, 17, 27, 154, 0, 13]
abbrev dktX9_lacks_0 : List UInt8 := dkwX9_lacks_0 ++ dktX9_lacks_1
theorem dksX9_lacks_0 : cX9_lacks.data.toList.drop 0 = dktX9_lacks_0 := by decide +kernel
theorem dksX9_lacks_1 : cX9_lacks.data.toList.drop 23 = dktX9_lacks_1 := dk_seg dksX9_lacks_0 23 rfl rfl
theorem dksX9_lacks_2 : cX9_lacks.data.toList.drop 47 = dktX9_lacks_2 := dk_seg dksX9_lacks_1 24 rfl rfl
theorem dksX9_lacks_3 : cX9_lacks.data.toList.drop 71 = dktX9_lacks_3 := dk_seg dksX9_lacks_2 24 rfl rfl
theorem dksX9_lacks_4 : cX9_lacks.data.toList.drop 94 = dktX9_lacks_4 := dk_seg dksX9_lacks_3 23 rfl rfl
theorem dX9_lacks_0 : decode cX9_lacks 0 = .ok (.iload_n 0, 1) := dk_26 (dk_at dksX9_lacks_0 0 rfl rfl)
theorem dX9_lacks_1 : decode cX9_lacks 1 = .ok (.iconst 4, 1) := dk_7 (dk_at dksX9_lacks_0 1 rfl rfl)
theorem dX9_lacks_2 : decode cX9_lacks 2 = .ok (.if_icmp .eq 11, 3) := dk_159 0 11 (dk_at dksX9_lacks_0 2 rfl rfl)
theorem dX9_lacks_5 : decode cX9_lacks 5 = .ok (.iload_n 1, 1) := dk_27 (dk_at dksX9_lacks_0 5 rfl rfl)
theorem dX9_lacks_6 : decode cX9_lacks 6 = .ok (.ifCond .eq 7, 3) := dk_153 0 7 (dk_at dksX9_lacks_0 6 rfl rfl)
theorem dX9_lacks_9 : decode cX9_lacks 9 = .ok (.iload_n 2, 1) := dk_28 (dk_at dksX9_lacks_0 9 rfl rfl)
theorem dX9_lacks_10 : decode cX9_lacks 10 = .ok (.ifCond .eq 19, 3) := dk_153 0 19 (dk_at dksX9_lacks_0 10 rfl rfl)
theorem dX9_lacks_13 : decode cX9_lacks 13 = .ok (.iload_n 0, 1) := dk_26 (dk_at dksX9_lacks_0 13 rfl rfl)
theorem dX9_lacks_14 : decode cX9_lacks 14 = .ok (.bipush 7, 2) := dk_16 7 (dk_at dksX9_lacks_0 14 rfl rfl)
theorem dX9_lacks_16 : decode cX9_lacks 16 = .ok (.if_icmp .ne 17, 3) := dk_160 0 17 (dk_at dksX9_lacks_0 16 rfl rfl)
theorem dX9_lacks_19 : decode cX9_lacks 19 = .ok (.iload_n 1, 1) := dk_27 (dk_at dksX9_lacks_0 19 rfl rfl)
theorem dX9_lacks_20 : decode cX9_lacks 20 = .ok (.ifCond .ne 13, 3) := dk_154 0 13 (dk_at dksX9_lacks_0 20 rfl rfl)
theorem dX9_lacks_23 : decode cX9_lacks 23 = .ok (.iload 4, 2) := dk_21 4 (dk_at dksX9_lacks_1 0 rfl rfl)
theorem dX9_lacks_25 : decode cX9_lacks 25 = .ok (.iconst 2, 1) := dk_5 (dk_at dksX9_lacks_1 2 rfl rfl)
theorem dX9_lacks_26 : decode cX9_lacks 26 = .ok (.if_icmp .ne 7, 3) := dk_160 0 7 (dk_at dksX9_lacks_1 3 rfl rfl)
theorem dX9_lacks_29 : decode cX9_lacks 29 = .ok (.iconst 1, 1) := dk_4 (dk_at dksX9_lacks_1 6 rfl rfl)
theorem dX9_lacks_30 : decode cX9_lacks 30 = .ok (.goto 4, 3) := dk_167 0 4 (dk_at dksX9_lacks_1 7 rfl rfl)
theorem dX9_lacks_33 : decode cX9_lacks 33 = .ok (.iconst 0, 1) := dk_3 (dk_at dksX9_lacks_1 10 rfl rfl)
theorem dX9_lacks_34 : decode cX9_lacks 34 = .ok (.istore 5, 2) := dk_54 5 (dk_at dksX9_lacks_1 11 rfl rfl)
theorem dX9_lacks_36 : decode cX9_lacks 36 = .ok (.iload_n 0, 1) := dk_26 (dk_at dksX9_lacks_1 13 rfl rfl)
theorem dX9_lacks_37 : decode cX9_lacks 37 = .ok (.iconst 3, 1) := dk_6 (dk_at dksX9_lacks_1 14 rfl rfl)
theorem dX9_lacks_38 : decode cX9_lacks 38 = .ok (.if_icmp .eq 17, 3) := dk_159 0 17 (dk_at dksX9_lacks_1 15 rfl rfl)
theorem dX9_lacks_41 : decode cX9_lacks 41 = .ok (.iload 4, 2) := dk_21 4 (dk_at dksX9_lacks_1 18 rfl rfl)
theorem dX9_lacks_43 : decode cX9_lacks 43 = .ok (.iconst 1, 1) := dk_4 (dk_at dksX9_lacks_1 20 rfl rfl)
theorem dX9_lacks_44 : decode cX9_lacks 44 = .ok (.if_icmp .ne 11, 3) := dk_160 0 11 (dk_at dksX9_lacks_1 21 rfl rfl)
theorem dX9_lacks_47 : decode cX9_lacks 47 = .ok (.iload_n 3, 1) := dk_29 (dk_at dksX9_lacks_2 0 rfl rfl)
theorem dX9_lacks_48 : decode cX9_lacks 48 = .ok (.ifCond .ne 7, 3) := dk_154 0 7 (dk_at dksX9_lacks_2 1 rfl rfl)
theorem dX9_lacks_51 : decode cX9_lacks 51 = .ok (.iconst 1, 1) := dk_4 (dk_at dksX9_lacks_2 4 rfl rfl)
theorem dX9_lacks_52 : decode cX9_lacks 52 = .ok (.goto 4, 3) := dk_167 0 4 (dk_at dksX9_lacks_2 5 rfl rfl)
theorem dX9_lacks_55 : decode cX9_lacks 55 = .ok (.iconst 0, 1) := dk_3 (dk_at dksX9_lacks_2 8 rfl rfl)
theorem dX9_lacks_56 : decode cX9_lacks 56 = .ok (.istore 6, 2) := dk_54 6 (dk_at dksX9_lacks_2 9 rfl rfl)
theorem dX9_lacks_58 : decode cX9_lacks 58 = .ok (.iload_n 0, 1) := dk_26 (dk_at dksX9_lacks_2 11 rfl rfl)
theorem dX9_lacks_59 : decode cX9_lacks 59 = .ok (.invokestatic 62, 3) := dk_184 0 62 (dk_at dksX9_lacks_2 12 rfl rfl)
theorem dX9_lacks_62 : decode cX9_lacks 62 = .ok (.ifCond .eq 13, 3) := dk_153 0 13 (dk_at dksX9_lacks_2 15 rfl rfl)
theorem dX9_lacks_65 : decode cX9_lacks 65 = .ok (.iload 4, 2) := dk_21 4 (dk_at dksX9_lacks_2 18 rfl rfl)
theorem dX9_lacks_67 : decode cX9_lacks 67 = .ok (.iconst 2, 1) := dk_5 (dk_at dksX9_lacks_2 20 rfl rfl)
theorem dX9_lacks_68 : decode cX9_lacks 68 = .ok (.if_icmp .ne 7, 3) := dk_160 0 7 (dk_at dksX9_lacks_2 21 rfl rfl)
theorem dX9_lacks_71 : decode cX9_lacks 71 = .ok (.iconst 1, 1) := dk_4 (dk_at dksX9_lacks_3 0 rfl rfl)
theorem dX9_lacks_72 : decode cX9_lacks 72 = .ok (.goto 4, 3) := dk_167 0 4 (dk_at dksX9_lacks_3 1 rfl rfl)
theorem dX9_lacks_75 : decode cX9_lacks 75 = .ok (.iconst 0, 1) := dk_3 (dk_at dksX9_lacks_3 4 rfl rfl)
theorem dX9_lacks_76 : decode cX9_lacks 76 = .ok (.istore 7, 2) := dk_54 7 (dk_at dksX9_lacks_3 5 rfl rfl)
theorem dX9_lacks_78 : decode cX9_lacks 78 = .ok (.iload 5, 2) := dk_21 5 (dk_at dksX9_lacks_3 7 rfl rfl)
theorem dX9_lacks_80 : decode cX9_lacks 80 = .ok (.ifCond .eq 7, 3) := dk_153 0 7 (dk_at dksX9_lacks_3 9 rfl rfl)
theorem dX9_lacks_83 : decode cX9_lacks 83 = .ok (.iconst 1, 1) := dk_4 (dk_at dksX9_lacks_3 12 rfl rfl)
theorem dX9_lacks_84 : decode cX9_lacks 84 = .ok (.goto 4, 3) := dk_167 0 4 (dk_at dksX9_lacks_3 13 rfl rfl)
theorem dX9_lacks_87 : decode cX9_lacks 87 = .ok (.iconst 0, 1) := dk_3 (dk_at dksX9_lacks_3 16 rfl rfl)
theorem dX9_lacks_88 : decode cX9_lacks 88 = .ok (.iload 6, 2) := dk_21 6 (dk_at dksX9_lacks_3 17 rfl rfl)
theorem dX9_lacks_90 : decode cX9_lacks 90 = .ok (.ifCond .eq 7, 3) := dk_153 0 7 (dk_at dksX9_lacks_3 19 rfl rfl)
theorem dX9_lacks_93 : decode cX9_lacks 93 = .ok (.iconst 1, 1) := dk_4 (dk_at dksX9_lacks_3 22 rfl rfl)
theorem dX9_lacks_94 : decode cX9_lacks 94 = .ok (.goto 4, 3) := dk_167 0 4 (dk_at dksX9_lacks_4 0 rfl rfl)
theorem dX9_lacks_97 : decode cX9_lacks 97 = .ok (.iconst 0, 1) := dk_3 (dk_at dksX9_lacks_4 3 rfl rfl)
theorem dX9_lacks_98 : decode cX9_lacks 98 = .ok (.iadd, 1) := dk_96 (dk_at dksX9_lacks_4 4 rfl rfl)
theorem dX9_lacks_99 : decode cX9_lacks 99 = .ok (.iload 7, 2) := dk_21 7 (dk_at dksX9_lacks_4 5 rfl rfl)
theorem dX9_lacks_101 : decode cX9_lacks 101 = .ok (.ifCond .eq 7, 3) := dk_153 0 7 (dk_at dksX9_lacks_4 7 rfl rfl)
theorem dX9_lacks_104 : decode cX9_lacks 104 = .ok (.iconst 1, 1) := dk_4 (dk_at dksX9_lacks_4 10 rfl rfl)
theorem dX9_lacks_105 : decode cX9_lacks 105 = .ok (.goto 4, 3) := dk_167 0 4 (dk_at dksX9_lacks_4 11 rfl rfl)
theorem dX9_lacks_108 : decode cX9_lacks 108 = .ok (.iconst 0, 1) := dk_3 (dk_at dksX9_lacks_4 14 rfl rfl)
theorem dX9_lacks_109 : decode cX9_lacks 109 = .ok (.iadd, 1) := dk_96 (dk_at dksX9_lacks_4 15 rfl rfl)
theorem dX9_lacks_110 : decode cX9_lacks 110 = .ok (.ireturn, 1) := dk_172 (dk_at dksX9_lacks_4 16 rfl rfl)
abbrev cX9_isSmall : ByteArray := prog_34_method_13_code
def yX9_isSmall : MethodName := ⟨RX9, "isSmall", "(I)Z"⟩
def dkwX9_isSmall_0 : List UInt8 := [26, 6, 159, 0, 8, 26, 7, 160, 0, 7, 4, 167, 0, 4, 3, 172]
abbrev dktX9_isSmall_0 : List UInt8 := dkwX9_isSmall_0 ++ []
theorem dksX9_isSmall_0 : cX9_isSmall.data.toList.drop 0 = dktX9_isSmall_0 := by decide +kernel
theorem dX9_isSmall_0 : decode cX9_isSmall 0 = .ok (.iload_n 0, 1) := dk_26 (dk_at dksX9_isSmall_0 0 rfl rfl)
theorem dX9_isSmall_1 : decode cX9_isSmall 1 = .ok (.iconst 3, 1) := dk_6 (dk_at dksX9_isSmall_0 1 rfl rfl)
theorem dX9_isSmall_2 : decode cX9_isSmall 2 = .ok (.if_icmp .eq 8, 3) := dk_159 0 8 (dk_at dksX9_isSmall_0 2 rfl rfl)
theorem dX9_isSmall_5 : decode cX9_isSmall 5 = .ok (.iload_n 0, 1) := dk_26 (dk_at dksX9_isSmall_0 5 rfl rfl)
theorem dX9_isSmall_6 : decode cX9_isSmall 6 = .ok (.iconst 4, 1) := dk_7 (dk_at dksX9_isSmall_0 6 rfl rfl)
theorem dX9_isSmall_7 : decode cX9_isSmall 7 = .ok (.if_icmp .ne 7, 3) := dk_160 0 7 (dk_at dksX9_isSmall_0 7 rfl rfl)
theorem dX9_isSmall_10 : decode cX9_isSmall 10 = .ok (.iconst 1, 1) := dk_4 (dk_at dksX9_isSmall_0 10 rfl rfl)
theorem dX9_isSmall_11 : decode cX9_isSmall 11 = .ok (.goto 4, 3) := dk_167 0 4 (dk_at dksX9_isSmall_0 11 rfl rfl)
theorem dX9_isSmall_14 : decode cX9_isSmall 14 = .ok (.iconst 0, 1) := dk_3 (dk_at dksX9_isSmall_0 14 rfl rfl)
theorem dX9_isSmall_15 : decode cX9_isSmall 15 = .ok (.ireturn, 1) := dk_172 (dk_at dksX9_isSmall_0 15 rfl rfl)
abbrev cX9_tires : ByteArray := prog_34_method_18_code
def yX9_tires : MethodName := ⟨RX9, "tires", "(II)V"⟩
def dkwX9_tires_2 : List UInt8 := [167, 0, 4, 4, 96, 167, 0, 11, 3, 21, 4, 5, 100, 184, 0, 80, 79, 132, 3, 1, 167, 255, 192, 177]
abbrev dktX9_tires_2 : List UInt8 := dkwX9_tires_2 ++ []
def dkwX9_tires_1 : List UInt8 := [180, 0, 9, 16, 61, 7, 29, 104, 96, 4, 96, 29, 27, 160, 0, 19, 21, 4, 28, 5, 160, 0, 7, 5]
abbrev dktX9_tires_1 : List UInt8 := dkwX9_tires_1 ++ dktX9_tires_2
def dkwX9_tires_0 : List UInt8 := [3, 62, 29, 42, 180, 0, 9, 16, 13, 46, 162, 0, 59, 42, 29, 4, 182, 0, 58, 54, 4, 42]
abbrev dktX9_tires_0 : List UInt8 := dkwX9_tires_0 ++ dktX9_tires_1
theorem dksX9_tires_0 : cX9_tires.data.toList.drop 0 = dktX9_tires_0 := by decide +kernel
theorem dksX9_tires_1 : cX9_tires.data.toList.drop 22 = dktX9_tires_1 := dk_seg dksX9_tires_0 22 rfl rfl
theorem dksX9_tires_2 : cX9_tires.data.toList.drop 46 = dktX9_tires_2 := dk_seg dksX9_tires_1 24 rfl rfl
theorem dX9_tires_0 : decode cX9_tires 0 = .ok (.iconst 0, 1) := dk_3 (dk_at dksX9_tires_0 0 rfl rfl)
theorem dX9_tires_1 : decode cX9_tires 1 = .ok (.istore_n 3, 1) := dk_62 (dk_at dksX9_tires_0 1 rfl rfl)
theorem dX9_tires_2 : decode cX9_tires 2 = .ok (.iload_n 3, 1) := dk_29 (dk_at dksX9_tires_0 2 rfl rfl)
theorem dX9_tires_3 : decode cX9_tires 3 = .ok (.aload_n 0, 1) := dk_42 (dk_at dksX9_tires_0 3 rfl rfl)
theorem dX9_tires_4 : decode cX9_tires 4 = .ok (.getfield 9, 3) := dk_180 0 9 (dk_at dksX9_tires_0 4 rfl rfl)
theorem dX9_tires_7 : decode cX9_tires 7 = .ok (.bipush 13, 2) := dk_16 13 (dk_at dksX9_tires_0 7 rfl rfl)
theorem dX9_tires_9 : decode cX9_tires 9 = .ok (.iaload, 1) := dk_46 (dk_at dksX9_tires_0 9 rfl rfl)
theorem dX9_tires_10 : decode cX9_tires 10 = .ok (.if_icmp .ge 59, 3) := dk_162 0 59 (dk_at dksX9_tires_0 10 rfl rfl)
theorem dX9_tires_13 : decode cX9_tires 13 = .ok (.aload_n 0, 1) := dk_42 (dk_at dksX9_tires_0 13 rfl rfl)
theorem dX9_tires_14 : decode cX9_tires 14 = .ok (.iload_n 3, 1) := dk_29 (dk_at dksX9_tires_0 14 rfl rfl)
theorem dX9_tires_15 : decode cX9_tires 15 = .ok (.iconst 1, 1) := dk_4 (dk_at dksX9_tires_0 15 rfl rfl)
theorem dX9_tires_16 : decode cX9_tires 16 = .ok (.invokevirtual 58, 3) := dk_182 0 58 (dk_at dksX9_tires_0 16 rfl rfl)
theorem dX9_tires_19 : decode cX9_tires 19 = .ok (.istore 4, 2) := dk_54 4 (dk_at dksX9_tires_0 19 rfl rfl)
theorem dX9_tires_21 : decode cX9_tires 21 = .ok (.aload_n 0, 1) := dk_42 (dk_at dksX9_tires_0 21 rfl rfl)
theorem dX9_tires_22 : decode cX9_tires 22 = .ok (.getfield 9, 3) := dk_180 0 9 (dk_at dksX9_tires_1 0 rfl rfl)
theorem dX9_tires_25 : decode cX9_tires 25 = .ok (.bipush 61, 2) := dk_16 61 (dk_at dksX9_tires_1 3 rfl rfl)
theorem dX9_tires_27 : decode cX9_tires 27 = .ok (.iconst 4, 1) := dk_7 (dk_at dksX9_tires_1 5 rfl rfl)
theorem dX9_tires_28 : decode cX9_tires 28 = .ok (.iload_n 3, 1) := dk_29 (dk_at dksX9_tires_1 6 rfl rfl)
theorem dX9_tires_29 : decode cX9_tires 29 = .ok (.imul, 1) := dk_104 (dk_at dksX9_tires_1 7 rfl rfl)
theorem dX9_tires_30 : decode cX9_tires 30 = .ok (.iadd, 1) := dk_96 (dk_at dksX9_tires_1 8 rfl rfl)
theorem dX9_tires_31 : decode cX9_tires 31 = .ok (.iconst 1, 1) := dk_4 (dk_at dksX9_tires_1 9 rfl rfl)
theorem dX9_tires_32 : decode cX9_tires 32 = .ok (.iadd, 1) := dk_96 (dk_at dksX9_tires_1 10 rfl rfl)
theorem dX9_tires_33 : decode cX9_tires 33 = .ok (.iload_n 3, 1) := dk_29 (dk_at dksX9_tires_1 11 rfl rfl)
theorem dX9_tires_34 : decode cX9_tires 34 = .ok (.iload_n 1, 1) := dk_27 (dk_at dksX9_tires_1 12 rfl rfl)
theorem dX9_tires_35 : decode cX9_tires 35 = .ok (.if_icmp .ne 19, 3) := dk_160 0 19 (dk_at dksX9_tires_1 13 rfl rfl)
theorem dX9_tires_38 : decode cX9_tires 38 = .ok (.iload 4, 2) := dk_21 4 (dk_at dksX9_tires_1 16 rfl rfl)
theorem dX9_tires_40 : decode cX9_tires 40 = .ok (.iload_n 2, 1) := dk_28 (dk_at dksX9_tires_1 18 rfl rfl)
theorem dX9_tires_41 : decode cX9_tires 41 = .ok (.iconst 2, 1) := dk_5 (dk_at dksX9_tires_1 19 rfl rfl)
theorem dX9_tires_42 : decode cX9_tires 42 = .ok (.if_icmp .ne 7, 3) := dk_160 0 7 (dk_at dksX9_tires_1 20 rfl rfl)
theorem dX9_tires_45 : decode cX9_tires 45 = .ok (.iconst 2, 1) := dk_5 (dk_at dksX9_tires_1 23 rfl rfl)
theorem dX9_tires_46 : decode cX9_tires 46 = .ok (.goto 4, 3) := dk_167 0 4 (dk_at dksX9_tires_2 0 rfl rfl)
theorem dX9_tires_49 : decode cX9_tires 49 = .ok (.iconst 1, 1) := dk_4 (dk_at dksX9_tires_2 3 rfl rfl)
theorem dX9_tires_50 : decode cX9_tires 50 = .ok (.iadd, 1) := dk_96 (dk_at dksX9_tires_2 4 rfl rfl)
theorem dX9_tires_51 : decode cX9_tires 51 = .ok (.goto 11, 3) := dk_167 0 11 (dk_at dksX9_tires_2 5 rfl rfl)
theorem dX9_tires_54 : decode cX9_tires 54 = .ok (.iconst 0, 1) := dk_3 (dk_at dksX9_tires_2 8 rfl rfl)
theorem dX9_tires_55 : decode cX9_tires 55 = .ok (.iload 4, 2) := dk_21 4 (dk_at dksX9_tires_2 9 rfl rfl)
theorem dX9_tires_57 : decode cX9_tires 57 = .ok (.iconst 2, 1) := dk_5 (dk_at dksX9_tires_2 11 rfl rfl)
theorem dX9_tires_58 : decode cX9_tires 58 = .ok (.isub, 1) := dk_100 (dk_at dksX9_tires_2 12 rfl rfl)
theorem dX9_tires_59 : decode cX9_tires 59 = .ok (.invokestatic 80, 3) := dk_184 0 80 (dk_at dksX9_tires_2 13 rfl rfl)
theorem dX9_tires_62 : decode cX9_tires 62 = .ok (.iastore, 1) := dk_79 (dk_at dksX9_tires_2 16 rfl rfl)
theorem dX9_tires_63 : decode cX9_tires 63 = .ok (.iinc 3 1, 3) := dk_132 3 1 (dk_at dksX9_tires_2 17 rfl rfl)
theorem dX9_tires_66 : decode cX9_tires 66 = .ok (.goto (-64), 3) := dk_167 255 192 (dk_at dksX9_tires_2 20 rfl rfl)
theorem dX9_tires_69 : decode cX9_tires 69 = .ok (.return_, 1) := dk_177 (dk_at dksX9_tires_2 23 rfl rfl)
abbrev cX9_weather : ByteArray := prog_34_method_37_code
def yX9_weather : MethodName := ⟨RX9, "weather", "(I)I"⟩
def dkwX9_weather_0 : List UInt8 := [27, 155, 0, 11, 42, 27, 182, 0, 85, 167, 0, 9, 42, 16, 154, 182, 0, 132, 172]
abbrev dktX9_weather_0 : List UInt8 := dkwX9_weather_0 ++ []
theorem dksX9_weather_0 : cX9_weather.data.toList.drop 0 = dktX9_weather_0 := by decide +kernel
theorem dX9_weather_0 : decode cX9_weather 0 = .ok (.iload_n 1, 1) := dk_27 (dk_at dksX9_weather_0 0 rfl rfl)
theorem dX9_weather_1 : decode cX9_weather 1 = .ok (.ifCond .lt 11, 3) := dk_155 0 11 (dk_at dksX9_weather_0 1 rfl rfl)
theorem dX9_weather_4 : decode cX9_weather 4 = .ok (.aload_n 0, 1) := dk_42 (dk_at dksX9_weather_0 4 rfl rfl)
theorem dX9_weather_5 : decode cX9_weather 5 = .ok (.iload_n 1, 1) := dk_27 (dk_at dksX9_weather_0 5 rfl rfl)
theorem dX9_weather_6 : decode cX9_weather 6 = .ok (.invokevirtual 85, 3) := dk_182 0 85 (dk_at dksX9_weather_0 6 rfl rfl)
theorem dX9_weather_9 : decode cX9_weather 9 = .ok (.goto 9, 3) := dk_167 0 9 (dk_at dksX9_weather_0 9 rfl rfl)
theorem dX9_weather_12 : decode cX9_weather 12 = .ok (.aload_n 0, 1) := dk_42 (dk_at dksX9_weather_0 12 rfl rfl)
theorem dX9_weather_13 : decode cX9_weather 13 = .ok (.bipush (-102), 2) := dk_16 154 (dk_at dksX9_weather_0 13 rfl rfl)
theorem dX9_weather_15 : decode cX9_weather 15 = .ok (.invokevirtual 132, 3) := dk_182 0 132 (dk_at dksX9_weather_0 15 rfl rfl)
theorem dX9_weather_18 : decode cX9_weather 18 = .ok (.ireturn, 1) := dk_172 (dk_at dksX9_weather_0 18 rfl rfl)
abbrev cX9_dark : ByteArray := prog_34_method_38_code
def yX9_dark : MethodName := ⟨RX9, "dark", "(I)I"⟩
def dkwX9_dark_1 : List UInt8 := [172]
abbrev dktX9_dark_1 : List UInt8 := dkwX9_dark_1 ++ []
def dkwX9_dark_0 : List UInt8 := [27, 156, 0, 10, 42, 16, 154, 182, 0, 132, 172, 42, 27, 182, 0, 89, 153, 0, 7, 4, 167, 0, 4, 3]
abbrev dktX9_dark_0 : List UInt8 := dkwX9_dark_0 ++ dktX9_dark_1
theorem dksX9_dark_0 : cX9_dark.data.toList.drop 0 = dktX9_dark_0 := by decide +kernel
theorem dksX9_dark_1 : cX9_dark.data.toList.drop 24 = dktX9_dark_1 := dk_seg dksX9_dark_0 24 rfl rfl
theorem dX9_dark_0 : decode cX9_dark 0 = .ok (.iload_n 1, 1) := dk_27 (dk_at dksX9_dark_0 0 rfl rfl)
theorem dX9_dark_1 : decode cX9_dark 1 = .ok (.ifCond .ge 10, 3) := dk_156 0 10 (dk_at dksX9_dark_0 1 rfl rfl)
theorem dX9_dark_4 : decode cX9_dark 4 = .ok (.aload_n 0, 1) := dk_42 (dk_at dksX9_dark_0 4 rfl rfl)
theorem dX9_dark_5 : decode cX9_dark 5 = .ok (.bipush (-102), 2) := dk_16 154 (dk_at dksX9_dark_0 5 rfl rfl)
theorem dX9_dark_7 : decode cX9_dark 7 = .ok (.invokevirtual 132, 3) := dk_182 0 132 (dk_at dksX9_dark_0 7 rfl rfl)
theorem dX9_dark_10 : decode cX9_dark 10 = .ok (.ireturn, 1) := dk_172 (dk_at dksX9_dark_0 10 rfl rfl)
theorem dX9_dark_11 : decode cX9_dark 11 = .ok (.aload_n 0, 1) := dk_42 (dk_at dksX9_dark_0 11 rfl rfl)
theorem dX9_dark_12 : decode cX9_dark 12 = .ok (.iload_n 1, 1) := dk_27 (dk_at dksX9_dark_0 12 rfl rfl)
theorem dX9_dark_13 : decode cX9_dark 13 = .ok (.invokevirtual 89, 3) := dk_182 0 89 (dk_at dksX9_dark_0 13 rfl rfl)
theorem dX9_dark_16 : decode cX9_dark 16 = .ok (.ifCond .eq 7, 3) := dk_153 0 7 (dk_at dksX9_dark_0 16 rfl rfl)
theorem dX9_dark_19 : decode cX9_dark 19 = .ok (.iconst 1, 1) := dk_4 (dk_at dksX9_dark_0 19 rfl rfl)
theorem dX9_dark_20 : decode cX9_dark 20 = .ok (.goto 4, 3) := dk_167 0 4 (dk_at dksX9_dark_0 20 rfl rfl)
theorem dX9_dark_23 : decode cX9_dark 23 = .ok (.iconst 0, 1) := dk_3 (dk_at dksX9_dark_0 23 rfl rfl)
theorem dX9_dark_24 : decode cX9_dark 24 = .ok (.ireturn, 1) := dk_172 (dk_at dksX9_dark_1 0 rfl rfl)
abbrev cX9_keeperOf : ByteArray := prog_34_method_39_code
def yX9_keeperOf : MethodName := ⟨RX9, "keeperOf", "(II)I"⟩
def dkwX9_keeperOf_4 : List UInt8 := [182, 0, 58, 172]
abbrev dktX9_keeperOf_4 : List UInt8 := dkwX9_keeperOf_4 ++ []
def dkwX9_keeperOf_3 : List UInt8 := [42, 27, 28, 182, 0, 58, 172, 42, 27, 182, 0, 92, 172, 42, 27, 182, 0, 198, 172, 42, 27, 28, 5, 100]
abbrev dktX9_keeperOf_3 : List UInt8 := dkwX9_keeperOf_3 ++ dktX9_keeperOf_4
def dkwX9_keeperOf_2 : List UInt8 := [170, 0, 0, 0, 0, 0, 0, 51, 0, 0, 0, 0, 0, 0, 0, 3, 0, 0, 0, 32, 0, 0, 0, 32, 0, 0, 0, 39, 0, 0, 0, 45]
abbrev dktX9_keeperOf_2 : List UInt8 := dkwX9_keeperOf_2 ++ dktX9_keeperOf_3
def dkwX9_keeperOf_1 : List UInt8 := [182, 0, 132, 172, 28]
abbrev dktX9_keeperOf_1 : List UInt8 := dkwX9_keeperOf_1 ++ dktX9_keeperOf_2
def dkwX9_keeperOf_0 : List UInt8 := [42, 27, 182, 0, 160, 153, 0, 15, 28, 133, 9, 20, 0, 196, 184, 0, 54, 154, 0, 10, 42, 16, 154]
abbrev dktX9_keeperOf_0 : List UInt8 := dkwX9_keeperOf_0 ++ dktX9_keeperOf_1
theorem dksX9_keeperOf_0 : cX9_keeperOf.data.toList.drop 0 = dktX9_keeperOf_0 := by decide +kernel
theorem dksX9_keeperOf_1 : cX9_keeperOf.data.toList.drop 23 = dktX9_keeperOf_1 := dk_seg dksX9_keeperOf_0 23 rfl rfl
theorem dksX9_keeperOf_2 : cX9_keeperOf.data.toList.drop 28 = dktX9_keeperOf_2 := dk_seg dksX9_keeperOf_1 5 rfl rfl
theorem dksX9_keeperOf_3 : cX9_keeperOf.data.toList.drop 60 = dktX9_keeperOf_3 := dk_seg dksX9_keeperOf_2 32 rfl rfl
theorem dksX9_keeperOf_4 : cX9_keeperOf.data.toList.drop 84 = dktX9_keeperOf_4 := dk_seg dksX9_keeperOf_3 24 rfl rfl
theorem dX9_keeperOf_0 : decode cX9_keeperOf 0 = .ok (.aload_n 0, 1) := dk_42 (dk_at dksX9_keeperOf_0 0 rfl rfl)
theorem dX9_keeperOf_1 : decode cX9_keeperOf 1 = .ok (.iload_n 1, 1) := dk_27 (dk_at dksX9_keeperOf_0 1 rfl rfl)
theorem dX9_keeperOf_2 : decode cX9_keeperOf 2 = .ok (.invokevirtual 160, 3) := dk_182 0 160 (dk_at dksX9_keeperOf_0 2 rfl rfl)
theorem dX9_keeperOf_5 : decode cX9_keeperOf 5 = .ok (.ifCond .eq 15, 3) := dk_153 0 15 (dk_at dksX9_keeperOf_0 5 rfl rfl)
theorem dX9_keeperOf_8 : decode cX9_keeperOf 8 = .ok (.iload_n 2, 1) := dk_28 (dk_at dksX9_keeperOf_0 8 rfl rfl)
theorem dX9_keeperOf_9 : decode cX9_keeperOf 9 = .ok (.i2l, 1) := dk_133 (dk_at dksX9_keeperOf_0 9 rfl rfl)
theorem dX9_keeperOf_10 : decode cX9_keeperOf 10 = .ok (.lconst 0, 1) := dk_9 (dk_at dksX9_keeperOf_0 10 rfl rfl)
theorem dX9_keeperOf_11 : decode cX9_keeperOf 11 = .ok (.ldc2_w 196, 3) := dk_20 0 196 (dk_at dksX9_keeperOf_0 11 rfl rfl)
theorem dX9_keeperOf_14 : decode cX9_keeperOf 14 = .ok (.invokestatic 54, 3) := dk_184 0 54 (dk_at dksX9_keeperOf_0 14 rfl rfl)
theorem dX9_keeperOf_17 : decode cX9_keeperOf 17 = .ok (.ifCond .ne 10, 3) := dk_154 0 10 (dk_at dksX9_keeperOf_0 17 rfl rfl)
theorem dX9_keeperOf_20 : decode cX9_keeperOf 20 = .ok (.aload_n 0, 1) := dk_42 (dk_at dksX9_keeperOf_0 20 rfl rfl)
theorem dX9_keeperOf_21 : decode cX9_keeperOf 21 = .ok (.bipush (-102), 2) := dk_16 154 (dk_at dksX9_keeperOf_0 21 rfl rfl)
theorem dX9_keeperOf_23 : decode cX9_keeperOf 23 = .ok (.invokevirtual 132, 3) := dk_182 0 132 (dk_at dksX9_keeperOf_1 0 rfl rfl)
theorem dX9_keeperOf_26 : decode cX9_keeperOf 26 = .ok (.ireturn, 1) := dk_172 (dk_at dksX9_keeperOf_1 3 rfl rfl)
theorem dX9_keeperOf_27 : decode cX9_keeperOf 27 = .ok (.iload_n 2, 1) := dk_28 (dk_at dksX9_keeperOf_1 4 rfl rfl)
theorem dX9_keeperOf_28 : decode cX9_keeperOf 28 = .ok (.tableswitch 51 0 3 #[32, 32, 39, 45], 32) := by decide +kernel
theorem dX9_keeperOf_60 : decode cX9_keeperOf 60 = .ok (.aload_n 0, 1) := dk_42 (dk_at dksX9_keeperOf_3 0 rfl rfl)
theorem dX9_keeperOf_61 : decode cX9_keeperOf 61 = .ok (.iload_n 1, 1) := dk_27 (dk_at dksX9_keeperOf_3 1 rfl rfl)
theorem dX9_keeperOf_62 : decode cX9_keeperOf 62 = .ok (.iload_n 2, 1) := dk_28 (dk_at dksX9_keeperOf_3 2 rfl rfl)
theorem dX9_keeperOf_63 : decode cX9_keeperOf 63 = .ok (.invokevirtual 58, 3) := dk_182 0 58 (dk_at dksX9_keeperOf_3 3 rfl rfl)
theorem dX9_keeperOf_66 : decode cX9_keeperOf 66 = .ok (.ireturn, 1) := dk_172 (dk_at dksX9_keeperOf_3 6 rfl rfl)
theorem dX9_keeperOf_67 : decode cX9_keeperOf 67 = .ok (.aload_n 0, 1) := dk_42 (dk_at dksX9_keeperOf_3 7 rfl rfl)
theorem dX9_keeperOf_68 : decode cX9_keeperOf 68 = .ok (.iload_n 1, 1) := dk_27 (dk_at dksX9_keeperOf_3 8 rfl rfl)
theorem dX9_keeperOf_69 : decode cX9_keeperOf 69 = .ok (.invokevirtual 92, 3) := dk_182 0 92 (dk_at dksX9_keeperOf_3 9 rfl rfl)
theorem dX9_keeperOf_72 : decode cX9_keeperOf 72 = .ok (.ireturn, 1) := dk_172 (dk_at dksX9_keeperOf_3 12 rfl rfl)
theorem dX9_keeperOf_73 : decode cX9_keeperOf 73 = .ok (.aload_n 0, 1) := dk_42 (dk_at dksX9_keeperOf_3 13 rfl rfl)
theorem dX9_keeperOf_74 : decode cX9_keeperOf 74 = .ok (.iload_n 1, 1) := dk_27 (dk_at dksX9_keeperOf_3 14 rfl rfl)
theorem dX9_keeperOf_75 : decode cX9_keeperOf 75 = .ok (.invokevirtual 198, 3) := dk_182 0 198 (dk_at dksX9_keeperOf_3 15 rfl rfl)
theorem dX9_keeperOf_78 : decode cX9_keeperOf 78 = .ok (.ireturn, 1) := dk_172 (dk_at dksX9_keeperOf_3 18 rfl rfl)
theorem dX9_keeperOf_79 : decode cX9_keeperOf 79 = .ok (.aload_n 0, 1) := dk_42 (dk_at dksX9_keeperOf_3 19 rfl rfl)
theorem dX9_keeperOf_80 : decode cX9_keeperOf 80 = .ok (.iload_n 1, 1) := dk_27 (dk_at dksX9_keeperOf_3 20 rfl rfl)
theorem dX9_keeperOf_81 : decode cX9_keeperOf 81 = .ok (.iload_n 2, 1) := dk_28 (dk_at dksX9_keeperOf_3 21 rfl rfl)
theorem dX9_keeperOf_82 : decode cX9_keeperOf 82 = .ok (.iconst 2, 1) := dk_5 (dk_at dksX9_keeperOf_3 22 rfl rfl)
theorem dX9_keeperOf_83 : decode cX9_keeperOf 83 = .ok (.isub, 1) := dk_100 (dk_at dksX9_keeperOf_3 23 rfl rfl)
theorem dX9_keeperOf_84 : decode cX9_keeperOf 84 = .ok (.invokevirtual 58, 3) := dk_182 0 58 (dk_at dksX9_keeperOf_4 0 rfl rfl)
theorem dX9_keeperOf_87 : decode cX9_keeperOf 87 = .ok (.ireturn, 1) := dk_172 (dk_at dksX9_keeperOf_4 3 rfl rfl)
abbrev cX9_hoursOf : ByteArray := prog_34_method_40_code
def yX9_hoursOf : MethodName := ⟨RX9, "hoursOf", "(I)I"⟩
def dkwX9_hoursOf_1 : List UInt8 := [4, 167, 0, 4, 3, 96, 61, 132, 3, 1, 167, 255, 226, 28, 172]
abbrev dktX9_hoursOf_1 : List UInt8 := dkwX9_hoursOf_1 ++ []
def dkwX9_hoursOf_0 : List UInt8 := [3, 61, 3, 62, 29, 16, 24, 162, 0, 30, 28, 42, 180, 0, 9, 16, 85, 29, 96, 46, 27, 160, 0, 7]
abbrev dktX9_hoursOf_0 : List UInt8 := dkwX9_hoursOf_0 ++ dktX9_hoursOf_1
theorem dksX9_hoursOf_0 : cX9_hoursOf.data.toList.drop 0 = dktX9_hoursOf_0 := by decide +kernel
theorem dksX9_hoursOf_1 : cX9_hoursOf.data.toList.drop 24 = dktX9_hoursOf_1 := dk_seg dksX9_hoursOf_0 24 rfl rfl
theorem dX9_hoursOf_0 : decode cX9_hoursOf 0 = .ok (.iconst 0, 1) := dk_3 (dk_at dksX9_hoursOf_0 0 rfl rfl)
theorem dX9_hoursOf_1 : decode cX9_hoursOf 1 = .ok (.istore_n 2, 1) := dk_61 (dk_at dksX9_hoursOf_0 1 rfl rfl)
theorem dX9_hoursOf_2 : decode cX9_hoursOf 2 = .ok (.iconst 0, 1) := dk_3 (dk_at dksX9_hoursOf_0 2 rfl rfl)
theorem dX9_hoursOf_3 : decode cX9_hoursOf 3 = .ok (.istore_n 3, 1) := dk_62 (dk_at dksX9_hoursOf_0 3 rfl rfl)
theorem dX9_hoursOf_4 : decode cX9_hoursOf 4 = .ok (.iload_n 3, 1) := dk_29 (dk_at dksX9_hoursOf_0 4 rfl rfl)
theorem dX9_hoursOf_5 : decode cX9_hoursOf 5 = .ok (.bipush 24, 2) := dk_16 24 (dk_at dksX9_hoursOf_0 5 rfl rfl)
theorem dX9_hoursOf_7 : decode cX9_hoursOf 7 = .ok (.if_icmp .ge 30, 3) := dk_162 0 30 (dk_at dksX9_hoursOf_0 7 rfl rfl)
theorem dX9_hoursOf_10 : decode cX9_hoursOf 10 = .ok (.iload_n 2, 1) := dk_28 (dk_at dksX9_hoursOf_0 10 rfl rfl)
theorem dX9_hoursOf_11 : decode cX9_hoursOf 11 = .ok (.aload_n 0, 1) := dk_42 (dk_at dksX9_hoursOf_0 11 rfl rfl)
theorem dX9_hoursOf_12 : decode cX9_hoursOf 12 = .ok (.getfield 9, 3) := dk_180 0 9 (dk_at dksX9_hoursOf_0 12 rfl rfl)
theorem dX9_hoursOf_15 : decode cX9_hoursOf 15 = .ok (.bipush 85, 2) := dk_16 85 (dk_at dksX9_hoursOf_0 15 rfl rfl)
theorem dX9_hoursOf_17 : decode cX9_hoursOf 17 = .ok (.iload_n 3, 1) := dk_29 (dk_at dksX9_hoursOf_0 17 rfl rfl)
theorem dX9_hoursOf_18 : decode cX9_hoursOf 18 = .ok (.iadd, 1) := dk_96 (dk_at dksX9_hoursOf_0 18 rfl rfl)
theorem dX9_hoursOf_19 : decode cX9_hoursOf 19 = .ok (.iaload, 1) := dk_46 (dk_at dksX9_hoursOf_0 19 rfl rfl)
theorem dX9_hoursOf_20 : decode cX9_hoursOf 20 = .ok (.iload_n 1, 1) := dk_27 (dk_at dksX9_hoursOf_0 20 rfl rfl)
theorem dX9_hoursOf_21 : decode cX9_hoursOf 21 = .ok (.if_icmp .ne 7, 3) := dk_160 0 7 (dk_at dksX9_hoursOf_0 21 rfl rfl)
theorem dX9_hoursOf_24 : decode cX9_hoursOf 24 = .ok (.iconst 1, 1) := dk_4 (dk_at dksX9_hoursOf_1 0 rfl rfl)
theorem dX9_hoursOf_25 : decode cX9_hoursOf 25 = .ok (.goto 4, 3) := dk_167 0 4 (dk_at dksX9_hoursOf_1 1 rfl rfl)
theorem dX9_hoursOf_28 : decode cX9_hoursOf 28 = .ok (.iconst 0, 1) := dk_3 (dk_at dksX9_hoursOf_1 4 rfl rfl)
theorem dX9_hoursOf_29 : decode cX9_hoursOf 29 = .ok (.iadd, 1) := dk_96 (dk_at dksX9_hoursOf_1 5 rfl rfl)
theorem dX9_hoursOf_30 : decode cX9_hoursOf 30 = .ok (.istore_n 2, 1) := dk_61 (dk_at dksX9_hoursOf_1 6 rfl rfl)
theorem dX9_hoursOf_31 : decode cX9_hoursOf 31 = .ok (.iinc 3 1, 3) := dk_132 3 1 (dk_at dksX9_hoursOf_1 7 rfl rfl)
theorem dX9_hoursOf_34 : decode cX9_hoursOf 34 = .ok (.goto (-30), 3) := dk_167 255 226 (dk_at dksX9_hoursOf_1 10 rfl rfl)
theorem dX9_hoursOf_37 : decode cX9_hoursOf 37 = .ok (.iload_n 2, 1) := dk_28 (dk_at dksX9_hoursOf_1 13 rfl rfl)
theorem dX9_hoursOf_38 : decode cX9_hoursOf 38 = .ok (.ireturn, 1) := dk_172 (dk_at dksX9_hoursOf_1 14 rfl rfl)
abbrev cX9_shipOf : ByteArray := prog_34_method_41_code
def yX9_shipOf : MethodName := ⟨RX9, "shipOf", "(II)I"⟩
def dkwX9_shipOf_1 : List UInt8 := [182, 0, 66, 167, 0, 9, 42, 16, 154, 182, 0, 132, 172]
abbrev dktX9_shipOf_1 : List UInt8 := dkwX9_shipOf_1 ++ []
def dkwX9_shipOf_0 : List UInt8 := [42, 27, 182, 0, 201, 153, 0, 24, 28, 133, 9, 20, 0, 183, 184, 0, 54, 153, 0, 12, 42, 27, 28]
abbrev dktX9_shipOf_0 : List UInt8 := dkwX9_shipOf_0 ++ dktX9_shipOf_1
theorem dksX9_shipOf_0 : cX9_shipOf.data.toList.drop 0 = dktX9_shipOf_0 := by decide +kernel
theorem dksX9_shipOf_1 : cX9_shipOf.data.toList.drop 23 = dktX9_shipOf_1 := dk_seg dksX9_shipOf_0 23 rfl rfl
theorem dX9_shipOf_0 : decode cX9_shipOf 0 = .ok (.aload_n 0, 1) := dk_42 (dk_at dksX9_shipOf_0 0 rfl rfl)
theorem dX9_shipOf_1 : decode cX9_shipOf 1 = .ok (.iload_n 1, 1) := dk_27 (dk_at dksX9_shipOf_0 1 rfl rfl)
theorem dX9_shipOf_2 : decode cX9_shipOf 2 = .ok (.invokevirtual 201, 3) := dk_182 0 201 (dk_at dksX9_shipOf_0 2 rfl rfl)
theorem dX9_shipOf_5 : decode cX9_shipOf 5 = .ok (.ifCond .eq 24, 3) := dk_153 0 24 (dk_at dksX9_shipOf_0 5 rfl rfl)
theorem dX9_shipOf_8 : decode cX9_shipOf 8 = .ok (.iload_n 2, 1) := dk_28 (dk_at dksX9_shipOf_0 8 rfl rfl)
theorem dX9_shipOf_9 : decode cX9_shipOf 9 = .ok (.i2l, 1) := dk_133 (dk_at dksX9_shipOf_0 9 rfl rfl)
theorem dX9_shipOf_10 : decode cX9_shipOf 10 = .ok (.lconst 0, 1) := dk_9 (dk_at dksX9_shipOf_0 10 rfl rfl)
theorem dX9_shipOf_11 : decode cX9_shipOf 11 = .ok (.ldc2_w 183, 3) := dk_20 0 183 (dk_at dksX9_shipOf_0 11 rfl rfl)
theorem dX9_shipOf_14 : decode cX9_shipOf 14 = .ok (.invokestatic 54, 3) := dk_184 0 54 (dk_at dksX9_shipOf_0 14 rfl rfl)
theorem dX9_shipOf_17 : decode cX9_shipOf 17 = .ok (.ifCond .eq 12, 3) := dk_153 0 12 (dk_at dksX9_shipOf_0 17 rfl rfl)
theorem dX9_shipOf_20 : decode cX9_shipOf 20 = .ok (.aload_n 0, 1) := dk_42 (dk_at dksX9_shipOf_0 20 rfl rfl)
theorem dX9_shipOf_21 : decode cX9_shipOf 21 = .ok (.iload_n 1, 1) := dk_27 (dk_at dksX9_shipOf_0 21 rfl rfl)
theorem dX9_shipOf_22 : decode cX9_shipOf 22 = .ok (.iload_n 2, 1) := dk_28 (dk_at dksX9_shipOf_0 22 rfl rfl)
theorem dX9_shipOf_23 : decode cX9_shipOf 23 = .ok (.invokevirtual 66, 3) := dk_182 0 66 (dk_at dksX9_shipOf_1 0 rfl rfl)
theorem dX9_shipOf_26 : decode cX9_shipOf 26 = .ok (.goto 9, 3) := dk_167 0 9 (dk_at dksX9_shipOf_1 3 rfl rfl)
theorem dX9_shipOf_29 : decode cX9_shipOf 29 = .ok (.aload_n 0, 1) := dk_42 (dk_at dksX9_shipOf_1 6 rfl rfl)
theorem dX9_shipOf_30 : decode cX9_shipOf 30 = .ok (.bipush (-102), 2) := dk_16 154 (dk_at dksX9_shipOf_1 7 rfl rfl)
theorem dX9_shipOf_32 : decode cX9_shipOf 32 = .ok (.invokevirtual 132, 3) := dk_182 0 132 (dk_at dksX9_shipOf_1 9 rfl rfl)
theorem dX9_shipOf_35 : decode cX9_shipOf 35 = .ok (.ireturn, 1) := dk_172 (dk_at dksX9_shipOf_1 12 rfl rfl)
abbrev cX9_isShip : ByteArray := prog_34_method_6_code
def yX9_isShip : MethodName := ⟨RX9, "isShip", "(I)Z"⟩
def dkwX9_isShip_0 : List UInt8 := [27, 133, 9, 42, 180, 0, 9, 16, 14, 46, 4, 100, 133, 184, 0, 54, 172]
abbrev dktX9_isShip_0 : List UInt8 := dkwX9_isShip_0 ++ []
theorem dksX9_isShip_0 : cX9_isShip.data.toList.drop 0 = dktX9_isShip_0 := by decide +kernel
theorem dX9_isShip_0 : decode cX9_isShip 0 = .ok (.iload_n 1, 1) := dk_27 (dk_at dksX9_isShip_0 0 rfl rfl)
theorem dX9_isShip_1 : decode cX9_isShip 1 = .ok (.i2l, 1) := dk_133 (dk_at dksX9_isShip_0 1 rfl rfl)
theorem dX9_isShip_2 : decode cX9_isShip 2 = .ok (.lconst 0, 1) := dk_9 (dk_at dksX9_isShip_0 2 rfl rfl)
theorem dX9_isShip_3 : decode cX9_isShip 3 = .ok (.aload_n 0, 1) := dk_42 (dk_at dksX9_isShip_0 3 rfl rfl)
theorem dX9_isShip_4 : decode cX9_isShip 4 = .ok (.getfield 9, 3) := dk_180 0 9 (dk_at dksX9_isShip_0 4 rfl rfl)
theorem dX9_isShip_7 : decode cX9_isShip 7 = .ok (.bipush 14, 2) := dk_16 14 (dk_at dksX9_isShip_0 7 rfl rfl)
theorem dX9_isShip_9 : decode cX9_isShip 9 = .ok (.iaload, 1) := dk_46 (dk_at dksX9_isShip_0 9 rfl rfl)
theorem dX9_isShip_10 : decode cX9_isShip 10 = .ok (.iconst 1, 1) := dk_4 (dk_at dksX9_isShip_0 10 rfl rfl)
theorem dX9_isShip_11 : decode cX9_isShip 11 = .ok (.isub, 1) := dk_100 (dk_at dksX9_isShip_0 11 rfl rfl)
theorem dX9_isShip_12 : decode cX9_isShip 12 = .ok (.i2l, 1) := dk_133 (dk_at dksX9_isShip_0 12 rfl rfl)
theorem dX9_isShip_13 : decode cX9_isShip 13 = .ok (.invokestatic 54, 3) := dk_184 0 54 (dk_at dksX9_isShip_0 13 rfl rfl)
theorem dX9_isShip_16 : decode cX9_isShip 16 = .ok (.ireturn, 1) := dk_172 (dk_at dksX9_isShip_0 16 rfl rfl)
abbrev cX9_shipAt : ByteArray := prog_34_method_42_code
def yX9_shipAt : MethodName := ⟨RX9, "shipAt", "(II)I"⟩
def dkwX9_shipAt_1 : List UInt8 := [182, 0, 69, 172]
abbrev dktX9_shipAt_1 : List UInt8 := dkwX9_shipAt_1 ++ []
def dkwX9_shipAt_0 : List UInt8 := [27, 156, 0, 10, 42, 16, 154, 182, 0, 132, 172, 28, 156, 0, 7, 2, 167, 0, 9, 42, 27, 28]
abbrev dktX9_shipAt_0 : List UInt8 := dkwX9_shipAt_0 ++ dktX9_shipAt_1
theorem dksX9_shipAt_0 : cX9_shipAt.data.toList.drop 0 = dktX9_shipAt_0 := by decide +kernel
theorem dksX9_shipAt_1 : cX9_shipAt.data.toList.drop 22 = dktX9_shipAt_1 := dk_seg dksX9_shipAt_0 22 rfl rfl
theorem dX9_shipAt_0 : decode cX9_shipAt 0 = .ok (.iload_n 1, 1) := dk_27 (dk_at dksX9_shipAt_0 0 rfl rfl)
theorem dX9_shipAt_1 : decode cX9_shipAt 1 = .ok (.ifCond .ge 10, 3) := dk_156 0 10 (dk_at dksX9_shipAt_0 1 rfl rfl)
theorem dX9_shipAt_4 : decode cX9_shipAt 4 = .ok (.aload_n 0, 1) := dk_42 (dk_at dksX9_shipAt_0 4 rfl rfl)
theorem dX9_shipAt_5 : decode cX9_shipAt 5 = .ok (.bipush (-102), 2) := dk_16 154 (dk_at dksX9_shipAt_0 5 rfl rfl)
theorem dX9_shipAt_7 : decode cX9_shipAt 7 = .ok (.invokevirtual 132, 3) := dk_182 0 132 (dk_at dksX9_shipAt_0 7 rfl rfl)
theorem dX9_shipAt_10 : decode cX9_shipAt 10 = .ok (.ireturn, 1) := dk_172 (dk_at dksX9_shipAt_0 10 rfl rfl)
theorem dX9_shipAt_11 : decode cX9_shipAt 11 = .ok (.iload_n 2, 1) := dk_28 (dk_at dksX9_shipAt_0 11 rfl rfl)
theorem dX9_shipAt_12 : decode cX9_shipAt 12 = .ok (.ifCond .ge 7, 3) := dk_156 0 7 (dk_at dksX9_shipAt_0 12 rfl rfl)
theorem dX9_shipAt_15 : decode cX9_shipAt 15 = .ok (.iconst (-1), 1) := dk_2 (dk_at dksX9_shipAt_0 15 rfl rfl)
theorem dX9_shipAt_16 : decode cX9_shipAt 16 = .ok (.goto 9, 3) := dk_167 0 9 (dk_at dksX9_shipAt_0 16 rfl rfl)
theorem dX9_shipAt_19 : decode cX9_shipAt 19 = .ok (.aload_n 0, 1) := dk_42 (dk_at dksX9_shipAt_0 19 rfl rfl)
theorem dX9_shipAt_20 : decode cX9_shipAt 20 = .ok (.iload_n 1, 1) := dk_27 (dk_at dksX9_shipAt_0 20 rfl rfl)
theorem dX9_shipAt_21 : decode cX9_shipAt 21 = .ok (.iload_n 2, 1) := dk_28 (dk_at dksX9_shipAt_0 21 rfl rfl)
theorem dX9_shipAt_22 : decode cX9_shipAt 22 = .ok (.invokevirtual 69, 3) := dk_182 0 69 (dk_at dksX9_shipAt_1 0 rfl rfl)
theorem dX9_shipAt_25 : decode cX9_shipAt 25 = .ok (.ireturn, 1) := dk_172 (dk_at dksX9_shipAt_1 3 rfl rfl)
abbrev cX9_many : ByteArray := prog_34_method_44_code
def yX9_many : MethodName := ⟨RX9, "many", "(II)I"⟩
def dkwX9_many_3 : List UInt8 := [160, 0, 7, 4, 167, 0, 4, 3, 96, 62, 132, 4, 1, 167, 255, 208, 29, 172]
abbrev dktX9_many_3 : List UInt8 := dkwX9_many_3 ++ []
def dkwX9_many_2 : List UInt8 := [29, 42, 21, 4, 3, 182, 0, 66, 27, 184, 0, 204, 153, 0, 18, 42, 21, 4, 5, 182, 0, 66, 28]
abbrev dktX9_many_2 : List UInt8 := dkwX9_many_2 ++ dktX9_many_3
def dkwX9_many_1 : List UInt8 := [42, 16, 154, 182, 0, 132, 172, 3, 62, 3, 54, 4, 21, 4, 42, 180, 0, 9, 16, 14, 46, 162, 0, 42]
abbrev dktX9_many_1 : List UInt8 := dkwX9_many_1 ++ dktX9_many_2
def dkwX9_many_0 : List UInt8 := [27, 133, 9, 20, 0, 189, 184, 0, 54, 153, 0, 15, 28, 133, 9, 20, 0, 156, 184, 0, 54, 154, 0, 10]
abbrev dktX9_many_0 : List UInt8 := dkwX9_many_0 ++ dktX9_many_1
theorem dksX9_many_0 : cX9_many.data.toList.drop 0 = dktX9_many_0 := by decide +kernel
theorem dksX9_many_1 : cX9_many.data.toList.drop 24 = dktX9_many_1 := dk_seg dksX9_many_0 24 rfl rfl
theorem dksX9_many_2 : cX9_many.data.toList.drop 48 = dktX9_many_2 := dk_seg dksX9_many_1 24 rfl rfl
theorem dksX9_many_3 : cX9_many.data.toList.drop 71 = dktX9_many_3 := dk_seg dksX9_many_2 23 rfl rfl
theorem dX9_many_0 : decode cX9_many 0 = .ok (.iload_n 1, 1) := dk_27 (dk_at dksX9_many_0 0 rfl rfl)
theorem dX9_many_1 : decode cX9_many 1 = .ok (.i2l, 1) := dk_133 (dk_at dksX9_many_0 1 rfl rfl)
theorem dX9_many_2 : decode cX9_many 2 = .ok (.lconst 0, 1) := dk_9 (dk_at dksX9_many_0 2 rfl rfl)
theorem dX9_many_3 : decode cX9_many 3 = .ok (.ldc2_w 189, 3) := dk_20 0 189 (dk_at dksX9_many_0 3 rfl rfl)
theorem dX9_many_6 : decode cX9_many 6 = .ok (.invokestatic 54, 3) := dk_184 0 54 (dk_at dksX9_many_0 6 rfl rfl)
theorem dX9_many_9 : decode cX9_many 9 = .ok (.ifCond .eq 15, 3) := dk_153 0 15 (dk_at dksX9_many_0 9 rfl rfl)
theorem dX9_many_12 : decode cX9_many 12 = .ok (.iload_n 2, 1) := dk_28 (dk_at dksX9_many_0 12 rfl rfl)
theorem dX9_many_13 : decode cX9_many 13 = .ok (.i2l, 1) := dk_133 (dk_at dksX9_many_0 13 rfl rfl)
theorem dX9_many_14 : decode cX9_many 14 = .ok (.lconst 0, 1) := dk_9 (dk_at dksX9_many_0 14 rfl rfl)
theorem dX9_many_15 : decode cX9_many 15 = .ok (.ldc2_w 156, 3) := dk_20 0 156 (dk_at dksX9_many_0 15 rfl rfl)
theorem dX9_many_18 : decode cX9_many 18 = .ok (.invokestatic 54, 3) := dk_184 0 54 (dk_at dksX9_many_0 18 rfl rfl)
theorem dX9_many_21 : decode cX9_many 21 = .ok (.ifCond .ne 10, 3) := dk_154 0 10 (dk_at dksX9_many_0 21 rfl rfl)
theorem dX9_many_24 : decode cX9_many 24 = .ok (.aload_n 0, 1) := dk_42 (dk_at dksX9_many_1 0 rfl rfl)
theorem dX9_many_25 : decode cX9_many 25 = .ok (.bipush (-102), 2) := dk_16 154 (dk_at dksX9_many_1 1 rfl rfl)
theorem dX9_many_27 : decode cX9_many 27 = .ok (.invokevirtual 132, 3) := dk_182 0 132 (dk_at dksX9_many_1 3 rfl rfl)
theorem dX9_many_30 : decode cX9_many 30 = .ok (.ireturn, 1) := dk_172 (dk_at dksX9_many_1 6 rfl rfl)
theorem dX9_many_31 : decode cX9_many 31 = .ok (.iconst 0, 1) := dk_3 (dk_at dksX9_many_1 7 rfl rfl)
theorem dX9_many_32 : decode cX9_many 32 = .ok (.istore_n 3, 1) := dk_62 (dk_at dksX9_many_1 8 rfl rfl)
theorem dX9_many_33 : decode cX9_many 33 = .ok (.iconst 0, 1) := dk_3 (dk_at dksX9_many_1 9 rfl rfl)
theorem dX9_many_34 : decode cX9_many 34 = .ok (.istore 4, 2) := dk_54 4 (dk_at dksX9_many_1 10 rfl rfl)
theorem dX9_many_36 : decode cX9_many 36 = .ok (.iload 4, 2) := dk_21 4 (dk_at dksX9_many_1 12 rfl rfl)
theorem dX9_many_38 : decode cX9_many 38 = .ok (.aload_n 0, 1) := dk_42 (dk_at dksX9_many_1 14 rfl rfl)
theorem dX9_many_39 : decode cX9_many 39 = .ok (.getfield 9, 3) := dk_180 0 9 (dk_at dksX9_many_1 15 rfl rfl)
theorem dX9_many_42 : decode cX9_many 42 = .ok (.bipush 14, 2) := dk_16 14 (dk_at dksX9_many_1 18 rfl rfl)
theorem dX9_many_44 : decode cX9_many 44 = .ok (.iaload, 1) := dk_46 (dk_at dksX9_many_1 20 rfl rfl)
theorem dX9_many_45 : decode cX9_many 45 = .ok (.if_icmp .ge 42, 3) := dk_162 0 42 (dk_at dksX9_many_1 21 rfl rfl)
theorem dX9_many_48 : decode cX9_many 48 = .ok (.iload_n 3, 1) := dk_29 (dk_at dksX9_many_2 0 rfl rfl)
theorem dX9_many_49 : decode cX9_many 49 = .ok (.aload_n 0, 1) := dk_42 (dk_at dksX9_many_2 1 rfl rfl)
theorem dX9_many_50 : decode cX9_many 50 = .ok (.iload 4, 2) := dk_21 4 (dk_at dksX9_many_2 2 rfl rfl)
theorem dX9_many_52 : decode cX9_many 52 = .ok (.iconst 0, 1) := dk_3 (dk_at dksX9_many_2 4 rfl rfl)
theorem dX9_many_53 : decode cX9_many 53 = .ok (.invokevirtual 66, 3) := dk_182 0 66 (dk_at dksX9_many_2 5 rfl rfl)
theorem dX9_many_56 : decode cX9_many 56 = .ok (.iload_n 1, 1) := dk_27 (dk_at dksX9_many_2 8 rfl rfl)
theorem dX9_many_57 : decode cX9_many 57 = .ok (.invokestatic 204, 3) := dk_184 0 204 (dk_at dksX9_many_2 9 rfl rfl)
theorem dX9_many_60 : decode cX9_many 60 = .ok (.ifCond .eq 18, 3) := dk_153 0 18 (dk_at dksX9_many_2 12 rfl rfl)
theorem dX9_many_63 : decode cX9_many 63 = .ok (.aload_n 0, 1) := dk_42 (dk_at dksX9_many_2 15 rfl rfl)
theorem dX9_many_64 : decode cX9_many 64 = .ok (.iload 4, 2) := dk_21 4 (dk_at dksX9_many_2 16 rfl rfl)
theorem dX9_many_66 : decode cX9_many 66 = .ok (.iconst 2, 1) := dk_5 (dk_at dksX9_many_2 18 rfl rfl)
theorem dX9_many_67 : decode cX9_many 67 = .ok (.invokevirtual 66, 3) := dk_182 0 66 (dk_at dksX9_many_2 19 rfl rfl)
theorem dX9_many_70 : decode cX9_many 70 = .ok (.iload_n 2, 1) := dk_28 (dk_at dksX9_many_2 22 rfl rfl)
theorem dX9_many_71 : decode cX9_many 71 = .ok (.if_icmp .ne 7, 3) := dk_160 0 7 (dk_at dksX9_many_3 0 rfl rfl)
theorem dX9_many_74 : decode cX9_many 74 = .ok (.iconst 1, 1) := dk_4 (dk_at dksX9_many_3 3 rfl rfl)
theorem dX9_many_75 : decode cX9_many 75 = .ok (.goto 4, 3) := dk_167 0 4 (dk_at dksX9_many_3 4 rfl rfl)
theorem dX9_many_78 : decode cX9_many 78 = .ok (.iconst 0, 1) := dk_3 (dk_at dksX9_many_3 7 rfl rfl)
theorem dX9_many_79 : decode cX9_many 79 = .ok (.iadd, 1) := dk_96 (dk_at dksX9_many_3 8 rfl rfl)
theorem dX9_many_80 : decode cX9_many 80 = .ok (.istore_n 3, 1) := dk_62 (dk_at dksX9_many_3 9 rfl rfl)
theorem dX9_many_81 : decode cX9_many 81 = .ok (.iinc 4 1, 3) := dk_132 4 1 (dk_at dksX9_many_3 10 rfl rfl)
theorem dX9_many_84 : decode cX9_many 84 = .ok (.goto (-48), 3) := dk_167 255 208 (dk_at dksX9_many_3 13 rfl rfl)
theorem dX9_many_87 : decode cX9_many 87 = .ok (.iload_n 3, 1) := dk_29 (dk_at dksX9_many_3 16 rfl rfl)
theorem dX9_many_88 : decode cX9_many 88 = .ok (.ireturn, 1) := dk_172 (dk_at dksX9_many_3 17 rfl rfl)
abbrev cX9_isUnder : ByteArray := prog_34_method_43_code
def yX9_isUnder : MethodName := ⟨RX9, "isUnder", "(II)Z"⟩
def dkwX9_isUnder_2 : List UInt8 := [3, 172]
abbrev dktX9_isUnder_2 : List UInt8 := dkwX9_isUnder_2 ++ []
def dkwX9_isUnder_1 : List UInt8 := [160, 0, 8, 26, 8, 162, 0, 15, 27, 16, 6, 160, 0, 13, 26, 16, 7, 160, 0, 7, 4, 167, 0, 4]
abbrev dktX9_isUnder_1 : List UInt8 := dkwX9_isUnder_1 ++ dktX9_isUnder_2
def dkwX9_isUnder_0 : List UInt8 := [27, 153, 0, 42, 26, 27, 159, 0, 37, 27, 4, 160, 0, 10, 26, 184, 0, 62, 154, 0, 25, 27, 5]
abbrev dktX9_isUnder_0 : List UInt8 := dkwX9_isUnder_0 ++ dktX9_isUnder_1
theorem dksX9_isUnder_0 : cX9_isUnder.data.toList.drop 0 = dktX9_isUnder_0 := by decide +kernel
theorem dksX9_isUnder_1 : cX9_isUnder.data.toList.drop 23 = dktX9_isUnder_1 := dk_seg dksX9_isUnder_0 23 rfl rfl
theorem dksX9_isUnder_2 : cX9_isUnder.data.toList.drop 47 = dktX9_isUnder_2 := dk_seg dksX9_isUnder_1 24 rfl rfl
theorem dX9_isUnder_0 : decode cX9_isUnder 0 = .ok (.iload_n 1, 1) := dk_27 (dk_at dksX9_isUnder_0 0 rfl rfl)
theorem dX9_isUnder_1 : decode cX9_isUnder 1 = .ok (.ifCond .eq 42, 3) := dk_153 0 42 (dk_at dksX9_isUnder_0 1 rfl rfl)
theorem dX9_isUnder_4 : decode cX9_isUnder 4 = .ok (.iload_n 0, 1) := dk_26 (dk_at dksX9_isUnder_0 4 rfl rfl)
theorem dX9_isUnder_5 : decode cX9_isUnder 5 = .ok (.iload_n 1, 1) := dk_27 (dk_at dksX9_isUnder_0 5 rfl rfl)
theorem dX9_isUnder_6 : decode cX9_isUnder 6 = .ok (.if_icmp .eq 37, 3) := dk_159 0 37 (dk_at dksX9_isUnder_0 6 rfl rfl)
theorem dX9_isUnder_9 : decode cX9_isUnder 9 = .ok (.iload_n 1, 1) := dk_27 (dk_at dksX9_isUnder_0 9 rfl rfl)
theorem dX9_isUnder_10 : decode cX9_isUnder 10 = .ok (.iconst 1, 1) := dk_4 (dk_at dksX9_isUnder_0 10 rfl rfl)
theorem dX9_isUnder_11 : decode cX9_isUnder 11 = .ok (.if_icmp .ne 10, 3) := dk_160 0 10 (dk_at dksX9_isUnder_0 11 rfl rfl)
theorem dX9_isUnder_14 : decode cX9_isUnder 14 = .ok (.iload_n 0, 1) := dk_26 (dk_at dksX9_isUnder_0 14 rfl rfl)
theorem dX9_isUnder_15 : decode cX9_isUnder 15 = .ok (.invokestatic 62, 3) := dk_184 0 62 (dk_at dksX9_isUnder_0 15 rfl rfl)
theorem dX9_isUnder_18 : decode cX9_isUnder 18 = .ok (.ifCond .ne 25, 3) := dk_154 0 25 (dk_at dksX9_isUnder_0 18 rfl rfl)
theorem dX9_isUnder_21 : decode cX9_isUnder 21 = .ok (.iload_n 1, 1) := dk_27 (dk_at dksX9_isUnder_0 21 rfl rfl)
theorem dX9_isUnder_22 : decode cX9_isUnder 22 = .ok (.iconst 2, 1) := dk_5 (dk_at dksX9_isUnder_0 22 rfl rfl)
theorem dX9_isUnder_23 : decode cX9_isUnder 23 = .ok (.if_icmp .ne 8, 3) := dk_160 0 8 (dk_at dksX9_isUnder_1 0 rfl rfl)
theorem dX9_isUnder_26 : decode cX9_isUnder 26 = .ok (.iload_n 0, 1) := dk_26 (dk_at dksX9_isUnder_1 3 rfl rfl)
theorem dX9_isUnder_27 : decode cX9_isUnder 27 = .ok (.iconst 5, 1) := dk_8 (dk_at dksX9_isUnder_1 4 rfl rfl)
theorem dX9_isUnder_28 : decode cX9_isUnder 28 = .ok (.if_icmp .ge 15, 3) := dk_162 0 15 (dk_at dksX9_isUnder_1 5 rfl rfl)
theorem dX9_isUnder_31 : decode cX9_isUnder 31 = .ok (.iload_n 1, 1) := dk_27 (dk_at dksX9_isUnder_1 8 rfl rfl)
theorem dX9_isUnder_32 : decode cX9_isUnder 32 = .ok (.bipush 6, 2) := dk_16 6 (dk_at dksX9_isUnder_1 9 rfl rfl)
theorem dX9_isUnder_34 : decode cX9_isUnder 34 = .ok (.if_icmp .ne 13, 3) := dk_160 0 13 (dk_at dksX9_isUnder_1 11 rfl rfl)
theorem dX9_isUnder_37 : decode cX9_isUnder 37 = .ok (.iload_n 0, 1) := dk_26 (dk_at dksX9_isUnder_1 14 rfl rfl)
theorem dX9_isUnder_38 : decode cX9_isUnder 38 = .ok (.bipush 7, 2) := dk_16 7 (dk_at dksX9_isUnder_1 15 rfl rfl)
theorem dX9_isUnder_40 : decode cX9_isUnder 40 = .ok (.if_icmp .ne 7, 3) := dk_160 0 7 (dk_at dksX9_isUnder_1 17 rfl rfl)
theorem dX9_isUnder_43 : decode cX9_isUnder 43 = .ok (.iconst 1, 1) := dk_4 (dk_at dksX9_isUnder_1 20 rfl rfl)
theorem dX9_isUnder_44 : decode cX9_isUnder 44 = .ok (.goto 4, 3) := dk_167 0 4 (dk_at dksX9_isUnder_1 21 rfl rfl)
theorem dX9_isUnder_47 : decode cX9_isUnder 47 = .ok (.iconst 0, 1) := dk_3 (dk_at dksX9_isUnder_2 0 rfl rfl)
theorem dX9_isUnder_48 : decode cX9_isUnder 48 = .ok (.ireturn, 1) := dk_172 (dk_at dksX9_isUnder_2 1 rfl rfl)
abbrev cX9_log : ByteArray := prog_34_method_45_code
def yX9_log : MethodName := ⟨RX9, "log", "(II)I"⟩
def dkwX9_log_2 : List UInt8 := [167, 0, 9, 42, 16, 154, 182, 0, 132, 172]
abbrev dktX9_log_2 : List UInt8 := dkwX9_log_2 ++ []
def dkwX9_log_1 : List UInt8 := [20, 0, 183, 184, 0, 54, 153, 0, 20, 42, 180, 0, 9, 17, 3, 141, 7, 27, 104, 96, 28, 96, 46]
abbrev dktX9_log_1 : List UInt8 := dkwX9_log_1 ++ dktX9_log_2
def dkwX9_log_0 : List UInt8 := [27, 133, 9, 42, 180, 0, 9, 16, 15, 46, 4, 100, 133, 184, 0, 54, 153, 0, 32, 28, 133, 9]
abbrev dktX9_log_0 : List UInt8 := dkwX9_log_0 ++ dktX9_log_1
theorem dksX9_log_0 : cX9_log.data.toList.drop 0 = dktX9_log_0 := by decide +kernel
theorem dksX9_log_1 : cX9_log.data.toList.drop 22 = dktX9_log_1 := dk_seg dksX9_log_0 22 rfl rfl
theorem dksX9_log_2 : cX9_log.data.toList.drop 45 = dktX9_log_2 := dk_seg dksX9_log_1 23 rfl rfl
theorem dX9_log_0 : decode cX9_log 0 = .ok (.iload_n 1, 1) := dk_27 (dk_at dksX9_log_0 0 rfl rfl)
theorem dX9_log_1 : decode cX9_log 1 = .ok (.i2l, 1) := dk_133 (dk_at dksX9_log_0 1 rfl rfl)
theorem dX9_log_2 : decode cX9_log 2 = .ok (.lconst 0, 1) := dk_9 (dk_at dksX9_log_0 2 rfl rfl)
theorem dX9_log_3 : decode cX9_log 3 = .ok (.aload_n 0, 1) := dk_42 (dk_at dksX9_log_0 3 rfl rfl)
theorem dX9_log_4 : decode cX9_log 4 = .ok (.getfield 9, 3) := dk_180 0 9 (dk_at dksX9_log_0 4 rfl rfl)
theorem dX9_log_7 : decode cX9_log 7 = .ok (.bipush 15, 2) := dk_16 15 (dk_at dksX9_log_0 7 rfl rfl)
theorem dX9_log_9 : decode cX9_log 9 = .ok (.iaload, 1) := dk_46 (dk_at dksX9_log_0 9 rfl rfl)
theorem dX9_log_10 : decode cX9_log 10 = .ok (.iconst 1, 1) := dk_4 (dk_at dksX9_log_0 10 rfl rfl)
theorem dX9_log_11 : decode cX9_log 11 = .ok (.isub, 1) := dk_100 (dk_at dksX9_log_0 11 rfl rfl)
theorem dX9_log_12 : decode cX9_log 12 = .ok (.i2l, 1) := dk_133 (dk_at dksX9_log_0 12 rfl rfl)
theorem dX9_log_13 : decode cX9_log 13 = .ok (.invokestatic 54, 3) := dk_184 0 54 (dk_at dksX9_log_0 13 rfl rfl)
theorem dX9_log_16 : decode cX9_log 16 = .ok (.ifCond .eq 32, 3) := dk_153 0 32 (dk_at dksX9_log_0 16 rfl rfl)
theorem dX9_log_19 : decode cX9_log 19 = .ok (.iload_n 2, 1) := dk_28 (dk_at dksX9_log_0 19 rfl rfl)
theorem dX9_log_20 : decode cX9_log 20 = .ok (.i2l, 1) := dk_133 (dk_at dksX9_log_0 20 rfl rfl)
theorem dX9_log_21 : decode cX9_log 21 = .ok (.lconst 0, 1) := dk_9 (dk_at dksX9_log_0 21 rfl rfl)
theorem dX9_log_22 : decode cX9_log 22 = .ok (.ldc2_w 183, 3) := dk_20 0 183 (dk_at dksX9_log_1 0 rfl rfl)
theorem dX9_log_25 : decode cX9_log 25 = .ok (.invokestatic 54, 3) := dk_184 0 54 (dk_at dksX9_log_1 3 rfl rfl)
theorem dX9_log_28 : decode cX9_log 28 = .ok (.ifCond .eq 20, 3) := dk_153 0 20 (dk_at dksX9_log_1 6 rfl rfl)
theorem dX9_log_31 : decode cX9_log 31 = .ok (.aload_n 0, 1) := dk_42 (dk_at dksX9_log_1 9 rfl rfl)
theorem dX9_log_32 : decode cX9_log 32 = .ok (.getfield 9, 3) := dk_180 0 9 (dk_at dksX9_log_1 10 rfl rfl)
theorem dX9_log_35 : decode cX9_log 35 = .ok (.sipush 909, 3) := dk_17 3 141 (dk_at dksX9_log_1 13 rfl rfl)
theorem dX9_log_38 : decode cX9_log 38 = .ok (.iconst 4, 1) := dk_7 (dk_at dksX9_log_1 16 rfl rfl)
theorem dX9_log_39 : decode cX9_log 39 = .ok (.iload_n 1, 1) := dk_27 (dk_at dksX9_log_1 17 rfl rfl)
theorem dX9_log_40 : decode cX9_log 40 = .ok (.imul, 1) := dk_104 (dk_at dksX9_log_1 18 rfl rfl)
theorem dX9_log_41 : decode cX9_log 41 = .ok (.iadd, 1) := dk_96 (dk_at dksX9_log_1 19 rfl rfl)
theorem dX9_log_42 : decode cX9_log 42 = .ok (.iload_n 2, 1) := dk_28 (dk_at dksX9_log_1 20 rfl rfl)
theorem dX9_log_43 : decode cX9_log 43 = .ok (.iadd, 1) := dk_96 (dk_at dksX9_log_1 21 rfl rfl)
theorem dX9_log_44 : decode cX9_log 44 = .ok (.iaload, 1) := dk_46 (dk_at dksX9_log_1 22 rfl rfl)
theorem dX9_log_45 : decode cX9_log 45 = .ok (.goto 9, 3) := dk_167 0 9 (dk_at dksX9_log_2 0 rfl rfl)
theorem dX9_log_48 : decode cX9_log 48 = .ok (.aload_n 0, 1) := dk_42 (dk_at dksX9_log_2 3 rfl rfl)
theorem dX9_log_49 : decode cX9_log 49 = .ok (.bipush (-102), 2) := dk_16 154 (dk_at dksX9_log_2 4 rfl rfl)
theorem dX9_log_51 : decode cX9_log 51 = .ok (.invokevirtual 132, 3) := dk_182 0 132 (dk_at dksX9_log_2 6 rfl rfl)
theorem dX9_log_54 : decode cX9_log 54 = .ok (.ireturn, 1) := dk_172 (dk_at dksX9_log_2 9 rfl rfl)
abbrev cX9_logged : ByteArray := prog_34_method_46_code
def yX9_logged : MethodName := ⟨RX9, "logged", "(I)I"⟩
def dkwX9_logged_2 : List UInt8 := [104, 96, 4, 96, 46, 27, 160, 0, 7, 4, 167, 0, 4, 3, 96, 61, 132, 3, 1, 167, 255, 212, 28, 172]
abbrev dktX9_logged_2 : List UInt8 := dkwX9_logged_2 ++ []
def dkwX9_logged_1 : List UInt8 := [42, 180, 0, 9, 16, 15, 46, 162, 0, 39, 28, 27, 153, 0, 21, 42, 180, 0, 9, 17, 3, 141, 7, 29]
abbrev dktX9_logged_1 : List UInt8 := dkwX9_logged_1 ++ dktX9_logged_2
def dkwX9_logged_0 : List UInt8 := [27, 133, 9, 20, 0, 208, 184, 0, 54, 154, 0, 10, 42, 16, 154, 182, 0, 132, 172, 3, 61, 3, 62, 29]
abbrev dktX9_logged_0 : List UInt8 := dkwX9_logged_0 ++ dktX9_logged_1
theorem dksX9_logged_0 : cX9_logged.data.toList.drop 0 = dktX9_logged_0 := by decide +kernel
theorem dksX9_logged_1 : cX9_logged.data.toList.drop 24 = dktX9_logged_1 := dk_seg dksX9_logged_0 24 rfl rfl
theorem dksX9_logged_2 : cX9_logged.data.toList.drop 48 = dktX9_logged_2 := dk_seg dksX9_logged_1 24 rfl rfl
theorem dX9_logged_0 : decode cX9_logged 0 = .ok (.iload_n 1, 1) := dk_27 (dk_at dksX9_logged_0 0 rfl rfl)
theorem dX9_logged_1 : decode cX9_logged 1 = .ok (.i2l, 1) := dk_133 (dk_at dksX9_logged_0 1 rfl rfl)
theorem dX9_logged_2 : decode cX9_logged 2 = .ok (.lconst 0, 1) := dk_9 (dk_at dksX9_logged_0 2 rfl rfl)
theorem dX9_logged_3 : decode cX9_logged 3 = .ok (.ldc2_w 208, 3) := dk_20 0 208 (dk_at dksX9_logged_0 3 rfl rfl)
theorem dX9_logged_6 : decode cX9_logged 6 = .ok (.invokestatic 54, 3) := dk_184 0 54 (dk_at dksX9_logged_0 6 rfl rfl)
theorem dX9_logged_9 : decode cX9_logged 9 = .ok (.ifCond .ne 10, 3) := dk_154 0 10 (dk_at dksX9_logged_0 9 rfl rfl)
theorem dX9_logged_12 : decode cX9_logged 12 = .ok (.aload_n 0, 1) := dk_42 (dk_at dksX9_logged_0 12 rfl rfl)
theorem dX9_logged_13 : decode cX9_logged 13 = .ok (.bipush (-102), 2) := dk_16 154 (dk_at dksX9_logged_0 13 rfl rfl)
theorem dX9_logged_15 : decode cX9_logged 15 = .ok (.invokevirtual 132, 3) := dk_182 0 132 (dk_at dksX9_logged_0 15 rfl rfl)
theorem dX9_logged_18 : decode cX9_logged 18 = .ok (.ireturn, 1) := dk_172 (dk_at dksX9_logged_0 18 rfl rfl)
theorem dX9_logged_19 : decode cX9_logged 19 = .ok (.iconst 0, 1) := dk_3 (dk_at dksX9_logged_0 19 rfl rfl)
theorem dX9_logged_20 : decode cX9_logged 20 = .ok (.istore_n 2, 1) := dk_61 (dk_at dksX9_logged_0 20 rfl rfl)
theorem dX9_logged_21 : decode cX9_logged 21 = .ok (.iconst 0, 1) := dk_3 (dk_at dksX9_logged_0 21 rfl rfl)
theorem dX9_logged_22 : decode cX9_logged 22 = .ok (.istore_n 3, 1) := dk_62 (dk_at dksX9_logged_0 22 rfl rfl)
theorem dX9_logged_23 : decode cX9_logged 23 = .ok (.iload_n 3, 1) := dk_29 (dk_at dksX9_logged_0 23 rfl rfl)
theorem dX9_logged_24 : decode cX9_logged 24 = .ok (.aload_n 0, 1) := dk_42 (dk_at dksX9_logged_1 0 rfl rfl)
theorem dX9_logged_25 : decode cX9_logged 25 = .ok (.getfield 9, 3) := dk_180 0 9 (dk_at dksX9_logged_1 1 rfl rfl)
theorem dX9_logged_28 : decode cX9_logged 28 = .ok (.bipush 15, 2) := dk_16 15 (dk_at dksX9_logged_1 4 rfl rfl)
theorem dX9_logged_30 : decode cX9_logged 30 = .ok (.iaload, 1) := dk_46 (dk_at dksX9_logged_1 6 rfl rfl)
theorem dX9_logged_31 : decode cX9_logged 31 = .ok (.if_icmp .ge 39, 3) := dk_162 0 39 (dk_at dksX9_logged_1 7 rfl rfl)
theorem dX9_logged_34 : decode cX9_logged 34 = .ok (.iload_n 2, 1) := dk_28 (dk_at dksX9_logged_1 10 rfl rfl)
theorem dX9_logged_35 : decode cX9_logged 35 = .ok (.iload_n 1, 1) := dk_27 (dk_at dksX9_logged_1 11 rfl rfl)
theorem dX9_logged_36 : decode cX9_logged 36 = .ok (.ifCond .eq 21, 3) := dk_153 0 21 (dk_at dksX9_logged_1 12 rfl rfl)
theorem dX9_logged_39 : decode cX9_logged 39 = .ok (.aload_n 0, 1) := dk_42 (dk_at dksX9_logged_1 15 rfl rfl)
theorem dX9_logged_40 : decode cX9_logged 40 = .ok (.getfield 9, 3) := dk_180 0 9 (dk_at dksX9_logged_1 16 rfl rfl)
theorem dX9_logged_43 : decode cX9_logged 43 = .ok (.sipush 909, 3) := dk_17 3 141 (dk_at dksX9_logged_1 19 rfl rfl)
theorem dX9_logged_46 : decode cX9_logged 46 = .ok (.iconst 4, 1) := dk_7 (dk_at dksX9_logged_1 22 rfl rfl)
theorem dX9_logged_47 : decode cX9_logged 47 = .ok (.iload_n 3, 1) := dk_29 (dk_at dksX9_logged_1 23 rfl rfl)
theorem dX9_logged_48 : decode cX9_logged 48 = .ok (.imul, 1) := dk_104 (dk_at dksX9_logged_2 0 rfl rfl)
theorem dX9_logged_49 : decode cX9_logged 49 = .ok (.iadd, 1) := dk_96 (dk_at dksX9_logged_2 1 rfl rfl)
theorem dX9_logged_50 : decode cX9_logged 50 = .ok (.iconst 1, 1) := dk_4 (dk_at dksX9_logged_2 2 rfl rfl)
theorem dX9_logged_51 : decode cX9_logged 51 = .ok (.iadd, 1) := dk_96 (dk_at dksX9_logged_2 3 rfl rfl)
theorem dX9_logged_52 : decode cX9_logged 52 = .ok (.iaload, 1) := dk_46 (dk_at dksX9_logged_2 4 rfl rfl)
theorem dX9_logged_53 : decode cX9_logged 53 = .ok (.iload_n 1, 1) := dk_27 (dk_at dksX9_logged_2 5 rfl rfl)
theorem dX9_logged_54 : decode cX9_logged 54 = .ok (.if_icmp .ne 7, 3) := dk_160 0 7 (dk_at dksX9_logged_2 6 rfl rfl)
theorem dX9_logged_57 : decode cX9_logged 57 = .ok (.iconst 1, 1) := dk_4 (dk_at dksX9_logged_2 9 rfl rfl)
theorem dX9_logged_58 : decode cX9_logged 58 = .ok (.goto 4, 3) := dk_167 0 4 (dk_at dksX9_logged_2 10 rfl rfl)
theorem dX9_logged_61 : decode cX9_logged 61 = .ok (.iconst 0, 1) := dk_3 (dk_at dksX9_logged_2 13 rfl rfl)
theorem dX9_logged_62 : decode cX9_logged 62 = .ok (.iadd, 1) := dk_96 (dk_at dksX9_logged_2 14 rfl rfl)
theorem dX9_logged_63 : decode cX9_logged 63 = .ok (.istore_n 2, 1) := dk_61 (dk_at dksX9_logged_2 15 rfl rfl)
theorem dX9_logged_64 : decode cX9_logged 64 = .ok (.iinc 3 1, 3) := dk_132 3 1 (dk_at dksX9_logged_2 16 rfl rfl)
theorem dX9_logged_67 : decode cX9_logged 67 = .ok (.goto (-44), 3) := dk_167 255 212 (dk_at dksX9_logged_2 19 rfl rfl)
theorem dX9_logged_70 : decode cX9_logged 70 = .ok (.iload_n 2, 1) := dk_28 (dk_at dksX9_logged_2 22 rfl rfl)
theorem dX9_logged_71 : decode cX9_logged 71 = .ok (.ireturn, 1) := dk_172 (dk_at dksX9_logged_2 23 rfl rfl)
abbrev cX9_difference : ByteArray := prog_34_method_48_code
def yX9_difference : MethodName := ⟨RX9, "difference", "(II)I"⟩
def dkwX9_difference_4 : List UInt8 := [21, 4, 104, 96, 6, 96, 46, 172, 132, 3, 1, 132, 4, 1, 167, 255, 174, 42, 16, 154, 182, 0, 132, 172]
abbrev dktX9_difference_4 : List UInt8 := dkwX9_difference_4 ++ []
def dkwX9_difference_3 : List UInt8 := [104, 96, 46, 167, 0, 28, 28, 4, 160, 0, 8, 21, 5, 167, 0, 18, 42, 180, 0, 9, 17, 3, 141, 7]
abbrev dktX9_difference_3 : List UInt8 := dkwX9_difference_3 ++ dktX9_difference_4
def dkwX9_difference_2 : List UInt8 := [21, 5, 155, 0, 57, 29, 27, 160, 0, 49, 28, 154, 0, 19, 42, 180, 0, 9, 17, 3, 141, 7, 21, 4]
abbrev dktX9_difference_2 : List UInt8 := dkwX9_difference_2 ++ dktX9_difference_3
def dkwX9_difference_1 : List UInt8 := [62, 3, 54, 4, 21, 4, 42, 180, 0, 9, 16, 15, 46, 162, 0, 76, 42, 21, 4, 182, 0, 210, 54, 5]
abbrev dktX9_difference_1 : List UInt8 := dkwX9_difference_1 ++ dktX9_difference_2
def dkwX9_difference_0 : List UInt8 := [28, 133, 9, 20, 0, 156, 184, 0, 54, 153, 0, 7, 27, 156, 0, 10, 42, 16, 154, 182, 0, 132, 172, 3]
abbrev dktX9_difference_0 : List UInt8 := dkwX9_difference_0 ++ dktX9_difference_1
theorem dksX9_difference_0 : cX9_difference.data.toList.drop 0 = dktX9_difference_0 := by decide +kernel
theorem dksX9_difference_1 : cX9_difference.data.toList.drop 24 = dktX9_difference_1 := dk_seg dksX9_difference_0 24 rfl rfl
theorem dksX9_difference_2 : cX9_difference.data.toList.drop 48 = dktX9_difference_2 := dk_seg dksX9_difference_1 24 rfl rfl
theorem dksX9_difference_3 : cX9_difference.data.toList.drop 72 = dktX9_difference_3 := dk_seg dksX9_difference_2 24 rfl rfl
theorem dksX9_difference_4 : cX9_difference.data.toList.drop 96 = dktX9_difference_4 := dk_seg dksX9_difference_3 24 rfl rfl
theorem dX9_difference_0 : decode cX9_difference 0 = .ok (.iload_n 2, 1) := dk_28 (dk_at dksX9_difference_0 0 rfl rfl)
theorem dX9_difference_1 : decode cX9_difference 1 = .ok (.i2l, 1) := dk_133 (dk_at dksX9_difference_0 1 rfl rfl)
theorem dX9_difference_2 : decode cX9_difference 2 = .ok (.lconst 0, 1) := dk_9 (dk_at dksX9_difference_0 2 rfl rfl)
theorem dX9_difference_3 : decode cX9_difference 3 = .ok (.ldc2_w 156, 3) := dk_20 0 156 (dk_at dksX9_difference_0 3 rfl rfl)
theorem dX9_difference_6 : decode cX9_difference 6 = .ok (.invokestatic 54, 3) := dk_184 0 54 (dk_at dksX9_difference_0 6 rfl rfl)
theorem dX9_difference_9 : decode cX9_difference 9 = .ok (.ifCond .eq 7, 3) := dk_153 0 7 (dk_at dksX9_difference_0 9 rfl rfl)
theorem dX9_difference_12 : decode cX9_difference 12 = .ok (.iload_n 1, 1) := dk_27 (dk_at dksX9_difference_0 12 rfl rfl)
theorem dX9_difference_13 : decode cX9_difference 13 = .ok (.ifCond .ge 10, 3) := dk_156 0 10 (dk_at dksX9_difference_0 13 rfl rfl)
theorem dX9_difference_16 : decode cX9_difference 16 = .ok (.aload_n 0, 1) := dk_42 (dk_at dksX9_difference_0 16 rfl rfl)
theorem dX9_difference_17 : decode cX9_difference 17 = .ok (.bipush (-102), 2) := dk_16 154 (dk_at dksX9_difference_0 17 rfl rfl)
theorem dX9_difference_19 : decode cX9_difference 19 = .ok (.invokevirtual 132, 3) := dk_182 0 132 (dk_at dksX9_difference_0 19 rfl rfl)
theorem dX9_difference_22 : decode cX9_difference 22 = .ok (.ireturn, 1) := dk_172 (dk_at dksX9_difference_0 22 rfl rfl)
theorem dX9_difference_23 : decode cX9_difference 23 = .ok (.iconst 0, 1) := dk_3 (dk_at dksX9_difference_0 23 rfl rfl)
theorem dX9_difference_24 : decode cX9_difference 24 = .ok (.istore_n 3, 1) := dk_62 (dk_at dksX9_difference_1 0 rfl rfl)
theorem dX9_difference_25 : decode cX9_difference 25 = .ok (.iconst 0, 1) := dk_3 (dk_at dksX9_difference_1 1 rfl rfl)
theorem dX9_difference_26 : decode cX9_difference 26 = .ok (.istore 4, 2) := dk_54 4 (dk_at dksX9_difference_1 2 rfl rfl)
theorem dX9_difference_28 : decode cX9_difference 28 = .ok (.iload 4, 2) := dk_21 4 (dk_at dksX9_difference_1 4 rfl rfl)
theorem dX9_difference_30 : decode cX9_difference 30 = .ok (.aload_n 0, 1) := dk_42 (dk_at dksX9_difference_1 6 rfl rfl)
theorem dX9_difference_31 : decode cX9_difference 31 = .ok (.getfield 9, 3) := dk_180 0 9 (dk_at dksX9_difference_1 7 rfl rfl)
theorem dX9_difference_34 : decode cX9_difference 34 = .ok (.bipush 15, 2) := dk_16 15 (dk_at dksX9_difference_1 10 rfl rfl)
theorem dX9_difference_36 : decode cX9_difference 36 = .ok (.iaload, 1) := dk_46 (dk_at dksX9_difference_1 12 rfl rfl)
theorem dX9_difference_37 : decode cX9_difference 37 = .ok (.if_icmp .ge 76, 3) := dk_162 0 76 (dk_at dksX9_difference_1 13 rfl rfl)
theorem dX9_difference_40 : decode cX9_difference 40 = .ok (.aload_n 0, 1) := dk_42 (dk_at dksX9_difference_1 16 rfl rfl)
theorem dX9_difference_41 : decode cX9_difference 41 = .ok (.iload 4, 2) := dk_21 4 (dk_at dksX9_difference_1 17 rfl rfl)
theorem dX9_difference_43 : decode cX9_difference 43 = .ok (.invokevirtual 210, 3) := dk_182 0 210 (dk_at dksX9_difference_1 19 rfl rfl)
theorem dX9_difference_46 : decode cX9_difference 46 = .ok (.istore 5, 2) := dk_54 5 (dk_at dksX9_difference_1 22 rfl rfl)
theorem dX9_difference_48 : decode cX9_difference 48 = .ok (.iload 5, 2) := dk_21 5 (dk_at dksX9_difference_2 0 rfl rfl)
theorem dX9_difference_50 : decode cX9_difference 50 = .ok (.ifCond .lt 57, 3) := dk_155 0 57 (dk_at dksX9_difference_2 2 rfl rfl)
theorem dX9_difference_53 : decode cX9_difference 53 = .ok (.iload_n 3, 1) := dk_29 (dk_at dksX9_difference_2 5 rfl rfl)
theorem dX9_difference_54 : decode cX9_difference 54 = .ok (.iload_n 1, 1) := dk_27 (dk_at dksX9_difference_2 6 rfl rfl)
theorem dX9_difference_55 : decode cX9_difference 55 = .ok (.if_icmp .ne 49, 3) := dk_160 0 49 (dk_at dksX9_difference_2 7 rfl rfl)
theorem dX9_difference_58 : decode cX9_difference 58 = .ok (.iload_n 2, 1) := dk_28 (dk_at dksX9_difference_2 10 rfl rfl)
theorem dX9_difference_59 : decode cX9_difference 59 = .ok (.ifCond .ne 19, 3) := dk_154 0 19 (dk_at dksX9_difference_2 11 rfl rfl)
theorem dX9_difference_62 : decode cX9_difference 62 = .ok (.aload_n 0, 1) := dk_42 (dk_at dksX9_difference_2 14 rfl rfl)
theorem dX9_difference_63 : decode cX9_difference 63 = .ok (.getfield 9, 3) := dk_180 0 9 (dk_at dksX9_difference_2 15 rfl rfl)
theorem dX9_difference_66 : decode cX9_difference 66 = .ok (.sipush 909, 3) := dk_17 3 141 (dk_at dksX9_difference_2 18 rfl rfl)
theorem dX9_difference_69 : decode cX9_difference 69 = .ok (.iconst 4, 1) := dk_7 (dk_at dksX9_difference_2 21 rfl rfl)
theorem dX9_difference_70 : decode cX9_difference 70 = .ok (.iload 4, 2) := dk_21 4 (dk_at dksX9_difference_2 22 rfl rfl)
theorem dX9_difference_72 : decode cX9_difference 72 = .ok (.imul, 1) := dk_104 (dk_at dksX9_difference_3 0 rfl rfl)
theorem dX9_difference_73 : decode cX9_difference 73 = .ok (.iadd, 1) := dk_96 (dk_at dksX9_difference_3 1 rfl rfl)
theorem dX9_difference_74 : decode cX9_difference 74 = .ok (.iaload, 1) := dk_46 (dk_at dksX9_difference_3 2 rfl rfl)
theorem dX9_difference_75 : decode cX9_difference 75 = .ok (.goto 28, 3) := dk_167 0 28 (dk_at dksX9_difference_3 3 rfl rfl)
theorem dX9_difference_78 : decode cX9_difference 78 = .ok (.iload_n 2, 1) := dk_28 (dk_at dksX9_difference_3 6 rfl rfl)
theorem dX9_difference_79 : decode cX9_difference 79 = .ok (.iconst 1, 1) := dk_4 (dk_at dksX9_difference_3 7 rfl rfl)
theorem dX9_difference_80 : decode cX9_difference 80 = .ok (.if_icmp .ne 8, 3) := dk_160 0 8 (dk_at dksX9_difference_3 8 rfl rfl)
theorem dX9_difference_83 : decode cX9_difference 83 = .ok (.iload 5, 2) := dk_21 5 (dk_at dksX9_difference_3 11 rfl rfl)
theorem dX9_difference_85 : decode cX9_difference 85 = .ok (.goto 18, 3) := dk_167 0 18 (dk_at dksX9_difference_3 13 rfl rfl)
theorem dX9_difference_88 : decode cX9_difference 88 = .ok (.aload_n 0, 1) := dk_42 (dk_at dksX9_difference_3 16 rfl rfl)
theorem dX9_difference_89 : decode cX9_difference 89 = .ok (.getfield 9, 3) := dk_180 0 9 (dk_at dksX9_difference_3 17 rfl rfl)
theorem dX9_difference_92 : decode cX9_difference 92 = .ok (.sipush 909, 3) := dk_17 3 141 (dk_at dksX9_difference_3 20 rfl rfl)
theorem dX9_difference_95 : decode cX9_difference 95 = .ok (.iconst 4, 1) := dk_7 (dk_at dksX9_difference_3 23 rfl rfl)
theorem dX9_difference_96 : decode cX9_difference 96 = .ok (.iload 4, 2) := dk_21 4 (dk_at dksX9_difference_4 0 rfl rfl)
theorem dX9_difference_98 : decode cX9_difference 98 = .ok (.imul, 1) := dk_104 (dk_at dksX9_difference_4 2 rfl rfl)
theorem dX9_difference_99 : decode cX9_difference 99 = .ok (.iadd, 1) := dk_96 (dk_at dksX9_difference_4 3 rfl rfl)
theorem dX9_difference_100 : decode cX9_difference 100 = .ok (.iconst 3, 1) := dk_6 (dk_at dksX9_difference_4 4 rfl rfl)
theorem dX9_difference_101 : decode cX9_difference 101 = .ok (.iadd, 1) := dk_96 (dk_at dksX9_difference_4 5 rfl rfl)
theorem dX9_difference_102 : decode cX9_difference 102 = .ok (.iaload, 1) := dk_46 (dk_at dksX9_difference_4 6 rfl rfl)
theorem dX9_difference_103 : decode cX9_difference 103 = .ok (.ireturn, 1) := dk_172 (dk_at dksX9_difference_4 7 rfl rfl)
theorem dX9_difference_104 : decode cX9_difference 104 = .ok (.iinc 3 1, 3) := dk_132 3 1 (dk_at dksX9_difference_4 8 rfl rfl)
theorem dX9_difference_107 : decode cX9_difference 107 = .ok (.iinc 4 1, 3) := dk_132 4 1 (dk_at dksX9_difference_4 11 rfl rfl)
theorem dX9_difference_110 : decode cX9_difference 110 = .ok (.goto (-82), 3) := dk_167 255 174 (dk_at dksX9_difference_4 14 rfl rfl)
theorem dX9_difference_113 : decode cX9_difference 113 = .ok (.aload_n 0, 1) := dk_42 (dk_at dksX9_difference_4 17 rfl rfl)
theorem dX9_difference_114 : decode cX9_difference 114 = .ok (.bipush (-102), 2) := dk_16 154 (dk_at dksX9_difference_4 18 rfl rfl)
theorem dX9_difference_116 : decode cX9_difference 116 = .ok (.invokevirtual 132, 3) := dk_182 0 132 (dk_at dksX9_difference_4 20 rfl rfl)
theorem dX9_difference_119 : decode cX9_difference 119 = .ok (.ireturn, 1) := dk_172 (dk_at dksX9_difference_4 23 rfl rfl)
abbrev cX9_shipAgainst : ByteArray := prog_34_method_47_code
def yX9_shipAgainst : MethodName := ⟨RX9, "shipAgainst", "(I)I"⟩
def dkwX9_shipAgainst_4 : List UInt8 := [160, 0, 7, 4, 167, 0, 4, 3, 160, 0, 6, 21, 5, 172, 132, 4, 1, 167, 255, 186, 2, 172]
abbrev dktX9_shipAgainst_4 : List UInt8 := dkwX9_shipAgainst_4 ++ []
def dkwX9_shipAgainst_3 : List UInt8 := [160, 0, 7, 4, 167, 0, 4, 3, 54, 6, 42, 21, 5, 6, 182, 0, 66, 155, 0, 21, 21, 6, 28, 5]
abbrev dktX9_shipAgainst_3 : List UInt8 := dkwX9_shipAgainst_3 ++ dktX9_shipAgainst_4
def dkwX9_shipAgainst_2 : List UInt8 := [155, 0, 66, 42, 29, 21, 4, 182, 0, 69, 54, 5, 42, 21, 5, 6, 182, 0, 66, 4, 126, 4]
abbrev dktX9_shipAgainst_2 : List UInt8 := dkwX9_shipAgainst_2 ++ dktX9_shipAgainst_3
def dkwX9_shipAgainst_1 : List UInt8 := [180, 0, 9, 17, 3, 141, 7, 27, 104, 96, 46, 62, 3, 54, 4, 42, 29, 21, 4, 182, 0, 69]
abbrev dktX9_shipAgainst_1 : List UInt8 := dkwX9_shipAgainst_1 ++ dktX9_shipAgainst_2
def dkwX9_shipAgainst_0 : List UInt8 := [42, 180, 0, 9, 17, 3, 141, 7, 27, 104, 96, 4, 96, 46, 61, 28, 5, 164, 0, 5, 2, 172, 42]
abbrev dktX9_shipAgainst_0 : List UInt8 := dkwX9_shipAgainst_0 ++ dktX9_shipAgainst_1
theorem dksX9_shipAgainst_0 : cX9_shipAgainst.data.toList.drop 0 = dktX9_shipAgainst_0 := by decide +kernel
theorem dksX9_shipAgainst_1 : cX9_shipAgainst.data.toList.drop 23 = dktX9_shipAgainst_1 := dk_seg dksX9_shipAgainst_0 23 rfl rfl
theorem dksX9_shipAgainst_2 : cX9_shipAgainst.data.toList.drop 45 = dktX9_shipAgainst_2 := dk_seg dksX9_shipAgainst_1 22 rfl rfl
theorem dksX9_shipAgainst_3 : cX9_shipAgainst.data.toList.drop 67 = dktX9_shipAgainst_3 := dk_seg dksX9_shipAgainst_2 22 rfl rfl
theorem dksX9_shipAgainst_4 : cX9_shipAgainst.data.toList.drop 91 = dktX9_shipAgainst_4 := dk_seg dksX9_shipAgainst_3 24 rfl rfl
theorem dX9_shipAgainst_0 : decode cX9_shipAgainst 0 = .ok (.aload_n 0, 1) := dk_42 (dk_at dksX9_shipAgainst_0 0 rfl rfl)
theorem dX9_shipAgainst_1 : decode cX9_shipAgainst 1 = .ok (.getfield 9, 3) := dk_180 0 9 (dk_at dksX9_shipAgainst_0 1 rfl rfl)
theorem dX9_shipAgainst_4 : decode cX9_shipAgainst 4 = .ok (.sipush 909, 3) := dk_17 3 141 (dk_at dksX9_shipAgainst_0 4 rfl rfl)
theorem dX9_shipAgainst_7 : decode cX9_shipAgainst 7 = .ok (.iconst 4, 1) := dk_7 (dk_at dksX9_shipAgainst_0 7 rfl rfl)
theorem dX9_shipAgainst_8 : decode cX9_shipAgainst 8 = .ok (.iload_n 1, 1) := dk_27 (dk_at dksX9_shipAgainst_0 8 rfl rfl)
theorem dX9_shipAgainst_9 : decode cX9_shipAgainst 9 = .ok (.imul, 1) := dk_104 (dk_at dksX9_shipAgainst_0 9 rfl rfl)
theorem dX9_shipAgainst_10 : decode cX9_shipAgainst 10 = .ok (.iadd, 1) := dk_96 (dk_at dksX9_shipAgainst_0 10 rfl rfl)
theorem dX9_shipAgainst_11 : decode cX9_shipAgainst 11 = .ok (.iconst 1, 1) := dk_4 (dk_at dksX9_shipAgainst_0 11 rfl rfl)
theorem dX9_shipAgainst_12 : decode cX9_shipAgainst 12 = .ok (.iadd, 1) := dk_96 (dk_at dksX9_shipAgainst_0 12 rfl rfl)
theorem dX9_shipAgainst_13 : decode cX9_shipAgainst 13 = .ok (.iaload, 1) := dk_46 (dk_at dksX9_shipAgainst_0 13 rfl rfl)
theorem dX9_shipAgainst_14 : decode cX9_shipAgainst 14 = .ok (.istore_n 2, 1) := dk_61 (dk_at dksX9_shipAgainst_0 14 rfl rfl)
theorem dX9_shipAgainst_15 : decode cX9_shipAgainst 15 = .ok (.iload_n 2, 1) := dk_28 (dk_at dksX9_shipAgainst_0 15 rfl rfl)
theorem dX9_shipAgainst_16 : decode cX9_shipAgainst 16 = .ok (.iconst 2, 1) := dk_5 (dk_at dksX9_shipAgainst_0 16 rfl rfl)
theorem dX9_shipAgainst_17 : decode cX9_shipAgainst 17 = .ok (.if_icmp .le 5, 3) := dk_164 0 5 (dk_at dksX9_shipAgainst_0 17 rfl rfl)
theorem dX9_shipAgainst_20 : decode cX9_shipAgainst 20 = .ok (.iconst (-1), 1) := dk_2 (dk_at dksX9_shipAgainst_0 20 rfl rfl)
theorem dX9_shipAgainst_21 : decode cX9_shipAgainst 21 = .ok (.ireturn, 1) := dk_172 (dk_at dksX9_shipAgainst_0 21 rfl rfl)
theorem dX9_shipAgainst_22 : decode cX9_shipAgainst 22 = .ok (.aload_n 0, 1) := dk_42 (dk_at dksX9_shipAgainst_0 22 rfl rfl)
theorem dX9_shipAgainst_23 : decode cX9_shipAgainst 23 = .ok (.getfield 9, 3) := dk_180 0 9 (dk_at dksX9_shipAgainst_1 0 rfl rfl)
theorem dX9_shipAgainst_26 : decode cX9_shipAgainst 26 = .ok (.sipush 909, 3) := dk_17 3 141 (dk_at dksX9_shipAgainst_1 3 rfl rfl)
theorem dX9_shipAgainst_29 : decode cX9_shipAgainst 29 = .ok (.iconst 4, 1) := dk_7 (dk_at dksX9_shipAgainst_1 6 rfl rfl)
theorem dX9_shipAgainst_30 : decode cX9_shipAgainst 30 = .ok (.iload_n 1, 1) := dk_27 (dk_at dksX9_shipAgainst_1 7 rfl rfl)
theorem dX9_shipAgainst_31 : decode cX9_shipAgainst 31 = .ok (.imul, 1) := dk_104 (dk_at dksX9_shipAgainst_1 8 rfl rfl)
theorem dX9_shipAgainst_32 : decode cX9_shipAgainst 32 = .ok (.iadd, 1) := dk_96 (dk_at dksX9_shipAgainst_1 9 rfl rfl)
theorem dX9_shipAgainst_33 : decode cX9_shipAgainst 33 = .ok (.iaload, 1) := dk_46 (dk_at dksX9_shipAgainst_1 10 rfl rfl)
theorem dX9_shipAgainst_34 : decode cX9_shipAgainst 34 = .ok (.istore_n 3, 1) := dk_62 (dk_at dksX9_shipAgainst_1 11 rfl rfl)
theorem dX9_shipAgainst_35 : decode cX9_shipAgainst 35 = .ok (.iconst 0, 1) := dk_3 (dk_at dksX9_shipAgainst_1 12 rfl rfl)
theorem dX9_shipAgainst_36 : decode cX9_shipAgainst 36 = .ok (.istore 4, 2) := dk_54 4 (dk_at dksX9_shipAgainst_1 13 rfl rfl)
theorem dX9_shipAgainst_38 : decode cX9_shipAgainst 38 = .ok (.aload_n 0, 1) := dk_42 (dk_at dksX9_shipAgainst_1 15 rfl rfl)
theorem dX9_shipAgainst_39 : decode cX9_shipAgainst 39 = .ok (.iload_n 3, 1) := dk_29 (dk_at dksX9_shipAgainst_1 16 rfl rfl)
theorem dX9_shipAgainst_40 : decode cX9_shipAgainst 40 = .ok (.iload 4, 2) := dk_21 4 (dk_at dksX9_shipAgainst_1 17 rfl rfl)
theorem dX9_shipAgainst_42 : decode cX9_shipAgainst 42 = .ok (.invokevirtual 69, 3) := dk_182 0 69 (dk_at dksX9_shipAgainst_1 19 rfl rfl)
theorem dX9_shipAgainst_45 : decode cX9_shipAgainst 45 = .ok (.ifCond .lt 66, 3) := dk_155 0 66 (dk_at dksX9_shipAgainst_2 0 rfl rfl)
theorem dX9_shipAgainst_48 : decode cX9_shipAgainst 48 = .ok (.aload_n 0, 1) := dk_42 (dk_at dksX9_shipAgainst_2 3 rfl rfl)
theorem dX9_shipAgainst_49 : decode cX9_shipAgainst 49 = .ok (.iload_n 3, 1) := dk_29 (dk_at dksX9_shipAgainst_2 4 rfl rfl)
theorem dX9_shipAgainst_50 : decode cX9_shipAgainst 50 = .ok (.iload 4, 2) := dk_21 4 (dk_at dksX9_shipAgainst_2 5 rfl rfl)
theorem dX9_shipAgainst_52 : decode cX9_shipAgainst 52 = .ok (.invokevirtual 69, 3) := dk_182 0 69 (dk_at dksX9_shipAgainst_2 7 rfl rfl)
theorem dX9_shipAgainst_55 : decode cX9_shipAgainst 55 = .ok (.istore 5, 2) := dk_54 5 (dk_at dksX9_shipAgainst_2 10 rfl rfl)
theorem dX9_shipAgainst_57 : decode cX9_shipAgainst 57 = .ok (.aload_n 0, 1) := dk_42 (dk_at dksX9_shipAgainst_2 12 rfl rfl)
theorem dX9_shipAgainst_58 : decode cX9_shipAgainst 58 = .ok (.iload 5, 2) := dk_21 5 (dk_at dksX9_shipAgainst_2 13 rfl rfl)
theorem dX9_shipAgainst_60 : decode cX9_shipAgainst 60 = .ok (.iconst 3, 1) := dk_6 (dk_at dksX9_shipAgainst_2 15 rfl rfl)
theorem dX9_shipAgainst_61 : decode cX9_shipAgainst 61 = .ok (.invokevirtual 66, 3) := dk_182 0 66 (dk_at dksX9_shipAgainst_2 16 rfl rfl)
theorem dX9_shipAgainst_64 : decode cX9_shipAgainst 64 = .ok (.iconst 1, 1) := dk_4 (dk_at dksX9_shipAgainst_2 19 rfl rfl)
theorem dX9_shipAgainst_65 : decode cX9_shipAgainst 65 = .ok (.iand, 1) := dk_126 (dk_at dksX9_shipAgainst_2 20 rfl rfl)
theorem dX9_shipAgainst_66 : decode cX9_shipAgainst 66 = .ok (.iconst 1, 1) := dk_4 (dk_at dksX9_shipAgainst_2 21 rfl rfl)
theorem dX9_shipAgainst_67 : decode cX9_shipAgainst 67 = .ok (.if_icmp .ne 7, 3) := dk_160 0 7 (dk_at dksX9_shipAgainst_3 0 rfl rfl)
theorem dX9_shipAgainst_70 : decode cX9_shipAgainst 70 = .ok (.iconst 1, 1) := dk_4 (dk_at dksX9_shipAgainst_3 3 rfl rfl)
theorem dX9_shipAgainst_71 : decode cX9_shipAgainst 71 = .ok (.goto 4, 3) := dk_167 0 4 (dk_at dksX9_shipAgainst_3 4 rfl rfl)
theorem dX9_shipAgainst_74 : decode cX9_shipAgainst 74 = .ok (.iconst 0, 1) := dk_3 (dk_at dksX9_shipAgainst_3 7 rfl rfl)
theorem dX9_shipAgainst_75 : decode cX9_shipAgainst 75 = .ok (.istore 6, 2) := dk_54 6 (dk_at dksX9_shipAgainst_3 8 rfl rfl)
theorem dX9_shipAgainst_77 : decode cX9_shipAgainst 77 = .ok (.aload_n 0, 1) := dk_42 (dk_at dksX9_shipAgainst_3 10 rfl rfl)
theorem dX9_shipAgainst_78 : decode cX9_shipAgainst 78 = .ok (.iload 5, 2) := dk_21 5 (dk_at dksX9_shipAgainst_3 11 rfl rfl)
theorem dX9_shipAgainst_80 : decode cX9_shipAgainst 80 = .ok (.iconst 3, 1) := dk_6 (dk_at dksX9_shipAgainst_3 13 rfl rfl)
theorem dX9_shipAgainst_81 : decode cX9_shipAgainst 81 = .ok (.invokevirtual 66, 3) := dk_182 0 66 (dk_at dksX9_shipAgainst_3 14 rfl rfl)
theorem dX9_shipAgainst_84 : decode cX9_shipAgainst 84 = .ok (.ifCond .lt 21, 3) := dk_155 0 21 (dk_at dksX9_shipAgainst_3 17 rfl rfl)
theorem dX9_shipAgainst_87 : decode cX9_shipAgainst 87 = .ok (.iload 6, 2) := dk_21 6 (dk_at dksX9_shipAgainst_3 20 rfl rfl)
theorem dX9_shipAgainst_89 : decode cX9_shipAgainst 89 = .ok (.iload_n 2, 1) := dk_28 (dk_at dksX9_shipAgainst_3 22 rfl rfl)
theorem dX9_shipAgainst_90 : decode cX9_shipAgainst 90 = .ok (.iconst 2, 1) := dk_5 (dk_at dksX9_shipAgainst_3 23 rfl rfl)
theorem dX9_shipAgainst_91 : decode cX9_shipAgainst 91 = .ok (.if_icmp .ne 7, 3) := dk_160 0 7 (dk_at dksX9_shipAgainst_4 0 rfl rfl)
theorem dX9_shipAgainst_94 : decode cX9_shipAgainst 94 = .ok (.iconst 1, 1) := dk_4 (dk_at dksX9_shipAgainst_4 3 rfl rfl)
theorem dX9_shipAgainst_95 : decode cX9_shipAgainst 95 = .ok (.goto 4, 3) := dk_167 0 4 (dk_at dksX9_shipAgainst_4 4 rfl rfl)
theorem dX9_shipAgainst_98 : decode cX9_shipAgainst 98 = .ok (.iconst 0, 1) := dk_3 (dk_at dksX9_shipAgainst_4 7 rfl rfl)
theorem dX9_shipAgainst_99 : decode cX9_shipAgainst 99 = .ok (.if_icmp .ne 6, 3) := dk_160 0 6 (dk_at dksX9_shipAgainst_4 8 rfl rfl)
theorem dX9_shipAgainst_102 : decode cX9_shipAgainst 102 = .ok (.iload 5, 2) := dk_21 5 (dk_at dksX9_shipAgainst_4 11 rfl rfl)
theorem dX9_shipAgainst_104 : decode cX9_shipAgainst 104 = .ok (.ireturn, 1) := dk_172 (dk_at dksX9_shipAgainst_4 13 rfl rfl)
theorem dX9_shipAgainst_105 : decode cX9_shipAgainst 105 = .ok (.iinc 4 1, 3) := dk_132 4 1 (dk_at dksX9_shipAgainst_4 14 rfl rfl)
theorem dX9_shipAgainst_108 : decode cX9_shipAgainst 108 = .ok (.goto (-70), 3) := dk_167 255 186 (dk_at dksX9_shipAgainst_4 17 rfl rfl)
theorem dX9_shipAgainst_111 : decode cX9_shipAgainst 111 = .ok (.iconst (-1), 1) := dk_2 (dk_at dksX9_shipAgainst_4 20 rfl rfl)
theorem dX9_shipAgainst_112 : decode cX9_shipAgainst 112 = .ok (.ireturn, 1) := dk_172 (dk_at dksX9_shipAgainst_4 21 rfl rfl)
abbrev cX9_differences : ByteArray := prog_34_method_49_code
def yX9_differences : MethodName := ⟨RX9, "differences", "(I)I"⟩
def dkwX9_differences_3 : List UInt8 := [167, 0, 4, 3, 96, 61, 132, 3, 1, 167, 255, 203, 28, 172]
abbrev dktX9_differences_3 : List UInt8 := dkwX9_differences_3 ++ []
def dkwX9_differences_2 : List UInt8 := [159, 0, 21, 42, 180, 0, 9, 17, 3, 141, 7, 29, 104, 96, 6, 96, 46, 27, 160, 0, 7, 4]
abbrev dktX9_differences_2 : List UInt8 := dkwX9_differences_2 ++ dktX9_differences_3
def dkwX9_differences_1 : List UInt8 := [29, 42, 180, 0, 9, 16, 15, 46, 162, 0, 48, 28, 42, 29, 182, 0, 210, 155, 0, 30, 27, 2]
abbrev dktX9_differences_1 : List UInt8 := dkwX9_differences_1 ++ dktX9_differences_2
def dkwX9_differences_0 : List UInt8 := [27, 2, 159, 0, 18, 42, 27, 182, 0, 160, 154, 0, 10, 42, 16, 154, 182, 0, 132, 172, 3, 61, 3, 62]
abbrev dktX9_differences_0 : List UInt8 := dkwX9_differences_0 ++ dktX9_differences_1
theorem dksX9_differences_0 : cX9_differences.data.toList.drop 0 = dktX9_differences_0 := by decide +kernel
theorem dksX9_differences_1 : cX9_differences.data.toList.drop 24 = dktX9_differences_1 := dk_seg dksX9_differences_0 24 rfl rfl
theorem dksX9_differences_2 : cX9_differences.data.toList.drop 46 = dktX9_differences_2 := dk_seg dksX9_differences_1 22 rfl rfl
theorem dksX9_differences_3 : cX9_differences.data.toList.drop 68 = dktX9_differences_3 := dk_seg dksX9_differences_2 22 rfl rfl
theorem dX9_differences_0 : decode cX9_differences 0 = .ok (.iload_n 1, 1) := dk_27 (dk_at dksX9_differences_0 0 rfl rfl)
theorem dX9_differences_1 : decode cX9_differences 1 = .ok (.iconst (-1), 1) := dk_2 (dk_at dksX9_differences_0 1 rfl rfl)
theorem dX9_differences_2 : decode cX9_differences 2 = .ok (.if_icmp .eq 18, 3) := dk_159 0 18 (dk_at dksX9_differences_0 2 rfl rfl)
theorem dX9_differences_5 : decode cX9_differences 5 = .ok (.aload_n 0, 1) := dk_42 (dk_at dksX9_differences_0 5 rfl rfl)
theorem dX9_differences_6 : decode cX9_differences 6 = .ok (.iload_n 1, 1) := dk_27 (dk_at dksX9_differences_0 6 rfl rfl)
theorem dX9_differences_7 : decode cX9_differences 7 = .ok (.invokevirtual 160, 3) := dk_182 0 160 (dk_at dksX9_differences_0 7 rfl rfl)
theorem dX9_differences_10 : decode cX9_differences 10 = .ok (.ifCond .ne 10, 3) := dk_154 0 10 (dk_at dksX9_differences_0 10 rfl rfl)
theorem dX9_differences_13 : decode cX9_differences 13 = .ok (.aload_n 0, 1) := dk_42 (dk_at dksX9_differences_0 13 rfl rfl)
theorem dX9_differences_14 : decode cX9_differences 14 = .ok (.bipush (-102), 2) := dk_16 154 (dk_at dksX9_differences_0 14 rfl rfl)
theorem dX9_differences_16 : decode cX9_differences 16 = .ok (.invokevirtual 132, 3) := dk_182 0 132 (dk_at dksX9_differences_0 16 rfl rfl)
theorem dX9_differences_19 : decode cX9_differences 19 = .ok (.ireturn, 1) := dk_172 (dk_at dksX9_differences_0 19 rfl rfl)
theorem dX9_differences_20 : decode cX9_differences 20 = .ok (.iconst 0, 1) := dk_3 (dk_at dksX9_differences_0 20 rfl rfl)
theorem dX9_differences_21 : decode cX9_differences 21 = .ok (.istore_n 2, 1) := dk_61 (dk_at dksX9_differences_0 21 rfl rfl)
theorem dX9_differences_22 : decode cX9_differences 22 = .ok (.iconst 0, 1) := dk_3 (dk_at dksX9_differences_0 22 rfl rfl)
theorem dX9_differences_23 : decode cX9_differences 23 = .ok (.istore_n 3, 1) := dk_62 (dk_at dksX9_differences_0 23 rfl rfl)
theorem dX9_differences_24 : decode cX9_differences 24 = .ok (.iload_n 3, 1) := dk_29 (dk_at dksX9_differences_1 0 rfl rfl)
theorem dX9_differences_25 : decode cX9_differences 25 = .ok (.aload_n 0, 1) := dk_42 (dk_at dksX9_differences_1 1 rfl rfl)
theorem dX9_differences_26 : decode cX9_differences 26 = .ok (.getfield 9, 3) := dk_180 0 9 (dk_at dksX9_differences_1 2 rfl rfl)
theorem dX9_differences_29 : decode cX9_differences 29 = .ok (.bipush 15, 2) := dk_16 15 (dk_at dksX9_differences_1 5 rfl rfl)
theorem dX9_differences_31 : decode cX9_differences 31 = .ok (.iaload, 1) := dk_46 (dk_at dksX9_differences_1 7 rfl rfl)
theorem dX9_differences_32 : decode cX9_differences 32 = .ok (.if_icmp .ge 48, 3) := dk_162 0 48 (dk_at dksX9_differences_1 8 rfl rfl)
theorem dX9_differences_35 : decode cX9_differences 35 = .ok (.iload_n 2, 1) := dk_28 (dk_at dksX9_differences_1 11 rfl rfl)
theorem dX9_differences_36 : decode cX9_differences 36 = .ok (.aload_n 0, 1) := dk_42 (dk_at dksX9_differences_1 12 rfl rfl)
theorem dX9_differences_37 : decode cX9_differences 37 = .ok (.iload_n 3, 1) := dk_29 (dk_at dksX9_differences_1 13 rfl rfl)
theorem dX9_differences_38 : decode cX9_differences 38 = .ok (.invokevirtual 210, 3) := dk_182 0 210 (dk_at dksX9_differences_1 14 rfl rfl)
theorem dX9_differences_41 : decode cX9_differences 41 = .ok (.ifCond .lt 30, 3) := dk_155 0 30 (dk_at dksX9_differences_1 17 rfl rfl)
theorem dX9_differences_44 : decode cX9_differences 44 = .ok (.iload_n 1, 1) := dk_27 (dk_at dksX9_differences_1 20 rfl rfl)
theorem dX9_differences_45 : decode cX9_differences 45 = .ok (.iconst (-1), 1) := dk_2 (dk_at dksX9_differences_1 21 rfl rfl)
theorem dX9_differences_46 : decode cX9_differences 46 = .ok (.if_icmp .eq 21, 3) := dk_159 0 21 (dk_at dksX9_differences_2 0 rfl rfl)
theorem dX9_differences_49 : decode cX9_differences 49 = .ok (.aload_n 0, 1) := dk_42 (dk_at dksX9_differences_2 3 rfl rfl)
theorem dX9_differences_50 : decode cX9_differences 50 = .ok (.getfield 9, 3) := dk_180 0 9 (dk_at dksX9_differences_2 4 rfl rfl)
theorem dX9_differences_53 : decode cX9_differences 53 = .ok (.sipush 909, 3) := dk_17 3 141 (dk_at dksX9_differences_2 7 rfl rfl)
theorem dX9_differences_56 : decode cX9_differences 56 = .ok (.iconst 4, 1) := dk_7 (dk_at dksX9_differences_2 10 rfl rfl)
theorem dX9_differences_57 : decode cX9_differences 57 = .ok (.iload_n 3, 1) := dk_29 (dk_at dksX9_differences_2 11 rfl rfl)
theorem dX9_differences_58 : decode cX9_differences 58 = .ok (.imul, 1) := dk_104 (dk_at dksX9_differences_2 12 rfl rfl)
theorem dX9_differences_59 : decode cX9_differences 59 = .ok (.iadd, 1) := dk_96 (dk_at dksX9_differences_2 13 rfl rfl)
theorem dX9_differences_60 : decode cX9_differences 60 = .ok (.iconst 3, 1) := dk_6 (dk_at dksX9_differences_2 14 rfl rfl)
theorem dX9_differences_61 : decode cX9_differences 61 = .ok (.iadd, 1) := dk_96 (dk_at dksX9_differences_2 15 rfl rfl)
theorem dX9_differences_62 : decode cX9_differences 62 = .ok (.iaload, 1) := dk_46 (dk_at dksX9_differences_2 16 rfl rfl)
theorem dX9_differences_63 : decode cX9_differences 63 = .ok (.iload_n 1, 1) := dk_27 (dk_at dksX9_differences_2 17 rfl rfl)
theorem dX9_differences_64 : decode cX9_differences 64 = .ok (.if_icmp .ne 7, 3) := dk_160 0 7 (dk_at dksX9_differences_2 18 rfl rfl)
theorem dX9_differences_67 : decode cX9_differences 67 = .ok (.iconst 1, 1) := dk_4 (dk_at dksX9_differences_2 21 rfl rfl)
theorem dX9_differences_68 : decode cX9_differences 68 = .ok (.goto 4, 3) := dk_167 0 4 (dk_at dksX9_differences_3 0 rfl rfl)
theorem dX9_differences_71 : decode cX9_differences 71 = .ok (.iconst 0, 1) := dk_3 (dk_at dksX9_differences_3 3 rfl rfl)
theorem dX9_differences_72 : decode cX9_differences 72 = .ok (.iadd, 1) := dk_96 (dk_at dksX9_differences_3 4 rfl rfl)
theorem dX9_differences_73 : decode cX9_differences 73 = .ok (.istore_n 2, 1) := dk_61 (dk_at dksX9_differences_3 5 rfl rfl)
theorem dX9_differences_74 : decode cX9_differences 74 = .ok (.iinc 3 1, 3) := dk_132 3 1 (dk_at dksX9_differences_3 6 rfl rfl)
theorem dX9_differences_77 : decode cX9_differences 77 = .ok (.goto (-53), 3) := dk_167 255 203 (dk_at dksX9_differences_3 9 rfl rfl)
theorem dX9_differences_80 : decode cX9_differences 80 = .ok (.iload_n 2, 1) := dk_28 (dk_at dksX9_differences_3 12 rfl rfl)
theorem dX9_differences_81 : decode cX9_differences 81 = .ok (.ireturn, 1) := dk_172 (dk_at dksX9_differences_3 13 rfl rfl)
abbrev cX9_unlit : ByteArray := prog_34_method_50_code
def yX9_unlit : MethodName := ⟨RX9, "unlit", "()I"⟩
def dkwX9_unlit_0 : List UInt8 := [42, 180, 0, 9, 16, 17, 46, 172]
abbrev dktX9_unlit_0 : List UInt8 := dkwX9_unlit_0 ++ []
theorem dksX9_unlit_0 : cX9_unlit.data.toList.drop 0 = dktX9_unlit_0 := by decide +kernel
theorem dX9_unlit_0 : decode cX9_unlit 0 = .ok (.aload_n 0, 1) := dk_42 (dk_at dksX9_unlit_0 0 rfl rfl)
theorem dX9_unlit_1 : decode cX9_unlit 1 = .ok (.getfield 9, 3) := dk_180 0 9 (dk_at dksX9_unlit_0 1 rfl rfl)
theorem dX9_unlit_4 : decode cX9_unlit 4 = .ok (.bipush 17, 2) := dk_16 17 (dk_at dksX9_unlit_0 4 rfl rfl)
theorem dX9_unlit_6 : decode cX9_unlit 6 = .ok (.iaload, 1) := dk_46 (dk_at dksX9_unlit_0 6 rfl rfl)
theorem dX9_unlit_7 : decode cX9_unlit 7 = .ok (.ireturn, 1) := dk_172 (dk_at dksX9_unlit_0 7 rfl rfl)
abbrev cX9_would : ByteArray := prog_34_method_52_code
def yX9_would : MethodName := ⟨RX9, "would", "(II)I"⟩
def dkwX9_would_6 : List UInt8 := [16, 20, 46, 21, 5, 100, 54, 7, 42, 180, 0, 13, 42, 180, 0, 9, 184, 0, 123, 21, 7, 172]
abbrev dktX9_would_6 : List UInt8 := dkwX9_would_6 ++ []
def dkwX9_would_5 : List UInt8 := [167, 0, 29, 28, 7, 160, 0, 14, 42, 5, 182, 0, 213, 21, 4, 100, 167, 0, 13, 42, 180, 0, 9]
abbrev dktX9_would_5 : List UInt8 := dkwX9_would_5 ++ dktX9_would_6
def dkwX9_would_4 : List UInt8 := [160, 0, 12, 42, 180, 0, 9, 8, 46, 167, 0, 44, 28, 6, 160, 0, 13, 42, 4, 182, 0, 213, 29, 100]
abbrev dktX9_would_4 : List UInt8 := dkwX9_would_4 ++ dktX9_would_5
def dkwX9_would_3 : List UInt8 := [154, 0, 8, 21, 6, 167, 0, 72, 28, 4, 160, 0, 12, 42, 180, 0, 9, 7, 46, 167, 0, 58, 28, 5]
abbrev dktX9_would_3 : List UInt8 := dkwX9_would_3 ++ dktX9_would_4
def dkwX9_would_2 : List UInt8 := [42, 5, 182, 0, 213, 54, 4, 42, 180, 0, 9, 16, 20, 46, 54, 5, 42, 27, 182, 0, 127, 54, 6, 28]
abbrev dktX9_would_2 : List UInt8 := dkwX9_would_2 ++ dktX9_would_3
def dkwX9_would_1 : List UInt8 := [42, 16, 154, 182, 0, 132, 172, 42, 180, 0, 9, 42, 180, 0, 13, 184, 0, 123, 42, 4, 182, 0, 213, 62]
abbrev dktX9_would_1 : List UInt8 := dkwX9_would_1 ++ dktX9_would_2
def dkwX9_would_0 : List UInt8 := [27, 133, 9, 20, 0, 194, 184, 0, 54, 153, 0, 15, 28, 133, 9, 20, 0, 196, 184, 0, 54, 154, 0, 10]
abbrev dktX9_would_0 : List UInt8 := dkwX9_would_0 ++ dktX9_would_1
theorem dksX9_would_0 : cX9_would.data.toList.drop 0 = dktX9_would_0 := by decide +kernel
theorem dksX9_would_1 : cX9_would.data.toList.drop 24 = dktX9_would_1 := dk_seg dksX9_would_0 24 rfl rfl
theorem dksX9_would_2 : cX9_would.data.toList.drop 48 = dktX9_would_2 := dk_seg dksX9_would_1 24 rfl rfl
theorem dksX9_would_3 : cX9_would.data.toList.drop 72 = dktX9_would_3 := dk_seg dksX9_would_2 24 rfl rfl
theorem dksX9_would_4 : cX9_would.data.toList.drop 96 = dktX9_would_4 := dk_seg dksX9_would_3 24 rfl rfl
theorem dksX9_would_5 : cX9_would.data.toList.drop 120 = dktX9_would_5 := dk_seg dksX9_would_4 24 rfl rfl
theorem dksX9_would_6 : cX9_would.data.toList.drop 143 = dktX9_would_6 := dk_seg dksX9_would_5 23 rfl rfl
theorem dX9_would_0 : decode cX9_would 0 = .ok (.iload_n 1, 1) := dk_27 (dk_at dksX9_would_0 0 rfl rfl)
theorem dX9_would_1 : decode cX9_would 1 = .ok (.i2l, 1) := dk_133 (dk_at dksX9_would_0 1 rfl rfl)
theorem dX9_would_2 : decode cX9_would 2 = .ok (.lconst 0, 1) := dk_9 (dk_at dksX9_would_0 2 rfl rfl)
theorem dX9_would_3 : decode cX9_would 3 = .ok (.ldc2_w 194, 3) := dk_20 0 194 (dk_at dksX9_would_0 3 rfl rfl)
theorem dX9_would_6 : decode cX9_would 6 = .ok (.invokestatic 54, 3) := dk_184 0 54 (dk_at dksX9_would_0 6 rfl rfl)
theorem dX9_would_9 : decode cX9_would 9 = .ok (.ifCond .eq 15, 3) := dk_153 0 15 (dk_at dksX9_would_0 9 rfl rfl)
theorem dX9_would_12 : decode cX9_would 12 = .ok (.iload_n 2, 1) := dk_28 (dk_at dksX9_would_0 12 rfl rfl)
theorem dX9_would_13 : decode cX9_would 13 = .ok (.i2l, 1) := dk_133 (dk_at dksX9_would_0 13 rfl rfl)
theorem dX9_would_14 : decode cX9_would 14 = .ok (.lconst 0, 1) := dk_9 (dk_at dksX9_would_0 14 rfl rfl)
theorem dX9_would_15 : decode cX9_would 15 = .ok (.ldc2_w 196, 3) := dk_20 0 196 (dk_at dksX9_would_0 15 rfl rfl)
theorem dX9_would_18 : decode cX9_would 18 = .ok (.invokestatic 54, 3) := dk_184 0 54 (dk_at dksX9_would_0 18 rfl rfl)
theorem dX9_would_21 : decode cX9_would 21 = .ok (.ifCond .ne 10, 3) := dk_154 0 10 (dk_at dksX9_would_0 21 rfl rfl)
theorem dX9_would_24 : decode cX9_would 24 = .ok (.aload_n 0, 1) := dk_42 (dk_at dksX9_would_1 0 rfl rfl)
theorem dX9_would_25 : decode cX9_would 25 = .ok (.bipush (-102), 2) := dk_16 154 (dk_at dksX9_would_1 1 rfl rfl)
theorem dX9_would_27 : decode cX9_would 27 = .ok (.invokevirtual 132, 3) := dk_182 0 132 (dk_at dksX9_would_1 3 rfl rfl)
theorem dX9_would_30 : decode cX9_would 30 = .ok (.ireturn, 1) := dk_172 (dk_at dksX9_would_1 6 rfl rfl)
theorem dX9_would_31 : decode cX9_would 31 = .ok (.aload_n 0, 1) := dk_42 (dk_at dksX9_would_1 7 rfl rfl)
theorem dX9_would_32 : decode cX9_would 32 = .ok (.getfield 9, 3) := dk_180 0 9 (dk_at dksX9_would_1 8 rfl rfl)
theorem dX9_would_35 : decode cX9_would 35 = .ok (.aload_n 0, 1) := dk_42 (dk_at dksX9_would_1 11 rfl rfl)
theorem dX9_would_36 : decode cX9_would 36 = .ok (.getfield 13, 3) := dk_180 0 13 (dk_at dksX9_would_1 12 rfl rfl)
theorem dX9_would_39 : decode cX9_would 39 = .ok (.invokestatic 123, 3) := dk_184 0 123 (dk_at dksX9_would_1 15 rfl rfl)
theorem dX9_would_42 : decode cX9_would 42 = .ok (.aload_n 0, 1) := dk_42 (dk_at dksX9_would_1 18 rfl rfl)
theorem dX9_would_43 : decode cX9_would 43 = .ok (.iconst 1, 1) := dk_4 (dk_at dksX9_would_1 19 rfl rfl)
theorem dX9_would_44 : decode cX9_would 44 = .ok (.invokevirtual 213, 3) := dk_182 0 213 (dk_at dksX9_would_1 20 rfl rfl)
theorem dX9_would_47 : decode cX9_would 47 = .ok (.istore_n 3, 1) := dk_62 (dk_at dksX9_would_1 23 rfl rfl)
theorem dX9_would_48 : decode cX9_would 48 = .ok (.aload_n 0, 1) := dk_42 (dk_at dksX9_would_2 0 rfl rfl)
theorem dX9_would_49 : decode cX9_would 49 = .ok (.iconst 2, 1) := dk_5 (dk_at dksX9_would_2 1 rfl rfl)
theorem dX9_would_50 : decode cX9_would 50 = .ok (.invokevirtual 213, 3) := dk_182 0 213 (dk_at dksX9_would_2 2 rfl rfl)
theorem dX9_would_53 : decode cX9_would 53 = .ok (.istore 4, 2) := dk_54 4 (dk_at dksX9_would_2 5 rfl rfl)
theorem dX9_would_55 : decode cX9_would 55 = .ok (.aload_n 0, 1) := dk_42 (dk_at dksX9_would_2 7 rfl rfl)
theorem dX9_would_56 : decode cX9_would 56 = .ok (.getfield 9, 3) := dk_180 0 9 (dk_at dksX9_would_2 8 rfl rfl)
theorem dX9_would_59 : decode cX9_would 59 = .ok (.bipush 20, 2) := dk_16 20 (dk_at dksX9_would_2 11 rfl rfl)
theorem dX9_would_61 : decode cX9_would 61 = .ok (.iaload, 1) := dk_46 (dk_at dksX9_would_2 13 rfl rfl)
theorem dX9_would_62 : decode cX9_would 62 = .ok (.istore 5, 2) := dk_54 5 (dk_at dksX9_would_2 14 rfl rfl)
theorem dX9_would_64 : decode cX9_would 64 = .ok (.aload_n 0, 1) := dk_42 (dk_at dksX9_would_2 16 rfl rfl)
theorem dX9_would_65 : decode cX9_would 65 = .ok (.iload_n 1, 1) := dk_27 (dk_at dksX9_would_2 17 rfl rfl)
theorem dX9_would_66 : decode cX9_would 66 = .ok (.invokevirtual 127, 3) := dk_182 0 127 (dk_at dksX9_would_2 18 rfl rfl)
theorem dX9_would_69 : decode cX9_would 69 = .ok (.istore 6, 2) := dk_54 6 (dk_at dksX9_would_2 21 rfl rfl)
theorem dX9_would_71 : decode cX9_would 71 = .ok (.iload_n 2, 1) := dk_28 (dk_at dksX9_would_2 23 rfl rfl)
theorem dX9_would_72 : decode cX9_would 72 = .ok (.ifCond .ne 8, 3) := dk_154 0 8 (dk_at dksX9_would_3 0 rfl rfl)
theorem dX9_would_75 : decode cX9_would 75 = .ok (.iload 6, 2) := dk_21 6 (dk_at dksX9_would_3 3 rfl rfl)
theorem dX9_would_77 : decode cX9_would 77 = .ok (.goto 72, 3) := dk_167 0 72 (dk_at dksX9_would_3 5 rfl rfl)
theorem dX9_would_80 : decode cX9_would 80 = .ok (.iload_n 2, 1) := dk_28 (dk_at dksX9_would_3 8 rfl rfl)
theorem dX9_would_81 : decode cX9_would 81 = .ok (.iconst 1, 1) := dk_4 (dk_at dksX9_would_3 9 rfl rfl)
theorem dX9_would_82 : decode cX9_would 82 = .ok (.if_icmp .ne 12, 3) := dk_160 0 12 (dk_at dksX9_would_3 10 rfl rfl)
theorem dX9_would_85 : decode cX9_would 85 = .ok (.aload_n 0, 1) := dk_42 (dk_at dksX9_would_3 13 rfl rfl)
theorem dX9_would_86 : decode cX9_would 86 = .ok (.getfield 9, 3) := dk_180 0 9 (dk_at dksX9_would_3 14 rfl rfl)
theorem dX9_would_89 : decode cX9_would 89 = .ok (.iconst 4, 1) := dk_7 (dk_at dksX9_would_3 17 rfl rfl)
theorem dX9_would_90 : decode cX9_would 90 = .ok (.iaload, 1) := dk_46 (dk_at dksX9_would_3 18 rfl rfl)
theorem dX9_would_91 : decode cX9_would 91 = .ok (.goto 58, 3) := dk_167 0 58 (dk_at dksX9_would_3 19 rfl rfl)
theorem dX9_would_94 : decode cX9_would 94 = .ok (.iload_n 2, 1) := dk_28 (dk_at dksX9_would_3 22 rfl rfl)
theorem dX9_would_95 : decode cX9_would 95 = .ok (.iconst 2, 1) := dk_5 (dk_at dksX9_would_3 23 rfl rfl)
theorem dX9_would_96 : decode cX9_would 96 = .ok (.if_icmp .ne 12, 3) := dk_160 0 12 (dk_at dksX9_would_4 0 rfl rfl)
theorem dX9_would_99 : decode cX9_would 99 = .ok (.aload_n 0, 1) := dk_42 (dk_at dksX9_would_4 3 rfl rfl)
theorem dX9_would_100 : decode cX9_would 100 = .ok (.getfield 9, 3) := dk_180 0 9 (dk_at dksX9_would_4 4 rfl rfl)
theorem dX9_would_103 : decode cX9_would 103 = .ok (.iconst 5, 1) := dk_8 (dk_at dksX9_would_4 7 rfl rfl)
theorem dX9_would_104 : decode cX9_would 104 = .ok (.iaload, 1) := dk_46 (dk_at dksX9_would_4 8 rfl rfl)
theorem dX9_would_105 : decode cX9_would 105 = .ok (.goto 44, 3) := dk_167 0 44 (dk_at dksX9_would_4 9 rfl rfl)
theorem dX9_would_108 : decode cX9_would 108 = .ok (.iload_n 2, 1) := dk_28 (dk_at dksX9_would_4 12 rfl rfl)
theorem dX9_would_109 : decode cX9_would 109 = .ok (.iconst 3, 1) := dk_6 (dk_at dksX9_would_4 13 rfl rfl)
theorem dX9_would_110 : decode cX9_would 110 = .ok (.if_icmp .ne 13, 3) := dk_160 0 13 (dk_at dksX9_would_4 14 rfl rfl)
theorem dX9_would_113 : decode cX9_would 113 = .ok (.aload_n 0, 1) := dk_42 (dk_at dksX9_would_4 17 rfl rfl)
theorem dX9_would_114 : decode cX9_would 114 = .ok (.iconst 1, 1) := dk_4 (dk_at dksX9_would_4 18 rfl rfl)
theorem dX9_would_115 : decode cX9_would 115 = .ok (.invokevirtual 213, 3) := dk_182 0 213 (dk_at dksX9_would_4 19 rfl rfl)
theorem dX9_would_118 : decode cX9_would 118 = .ok (.iload_n 3, 1) := dk_29 (dk_at dksX9_would_4 22 rfl rfl)
theorem dX9_would_119 : decode cX9_would 119 = .ok (.isub, 1) := dk_100 (dk_at dksX9_would_4 23 rfl rfl)
theorem dX9_would_120 : decode cX9_would 120 = .ok (.goto 29, 3) := dk_167 0 29 (dk_at dksX9_would_5 0 rfl rfl)
theorem dX9_would_123 : decode cX9_would 123 = .ok (.iload_n 2, 1) := dk_28 (dk_at dksX9_would_5 3 rfl rfl)
theorem dX9_would_124 : decode cX9_would 124 = .ok (.iconst 4, 1) := dk_7 (dk_at dksX9_would_5 4 rfl rfl)
theorem dX9_would_125 : decode cX9_would 125 = .ok (.if_icmp .ne 14, 3) := dk_160 0 14 (dk_at dksX9_would_5 5 rfl rfl)
theorem dX9_would_128 : decode cX9_would 128 = .ok (.aload_n 0, 1) := dk_42 (dk_at dksX9_would_5 8 rfl rfl)
theorem dX9_would_129 : decode cX9_would 129 = .ok (.iconst 2, 1) := dk_5 (dk_at dksX9_would_5 9 rfl rfl)
theorem dX9_would_130 : decode cX9_would 130 = .ok (.invokevirtual 213, 3) := dk_182 0 213 (dk_at dksX9_would_5 10 rfl rfl)
theorem dX9_would_133 : decode cX9_would 133 = .ok (.iload 4, 2) := dk_21 4 (dk_at dksX9_would_5 13 rfl rfl)
theorem dX9_would_135 : decode cX9_would 135 = .ok (.isub, 1) := dk_100 (dk_at dksX9_would_5 15 rfl rfl)
theorem dX9_would_136 : decode cX9_would 136 = .ok (.goto 13, 3) := dk_167 0 13 (dk_at dksX9_would_5 16 rfl rfl)
theorem dX9_would_139 : decode cX9_would 139 = .ok (.aload_n 0, 1) := dk_42 (dk_at dksX9_would_5 19 rfl rfl)
theorem dX9_would_140 : decode cX9_would 140 = .ok (.getfield 9, 3) := dk_180 0 9 (dk_at dksX9_would_5 20 rfl rfl)
theorem dX9_would_143 : decode cX9_would 143 = .ok (.bipush 20, 2) := dk_16 20 (dk_at dksX9_would_6 0 rfl rfl)
theorem dX9_would_145 : decode cX9_would 145 = .ok (.iaload, 1) := dk_46 (dk_at dksX9_would_6 2 rfl rfl)
theorem dX9_would_146 : decode cX9_would 146 = .ok (.iload 5, 2) := dk_21 5 (dk_at dksX9_would_6 3 rfl rfl)
theorem dX9_would_148 : decode cX9_would 148 = .ok (.isub, 1) := dk_100 (dk_at dksX9_would_6 5 rfl rfl)
theorem dX9_would_149 : decode cX9_would 149 = .ok (.istore 7, 2) := dk_54 7 (dk_at dksX9_would_6 6 rfl rfl)
theorem dX9_would_151 : decode cX9_would 151 = .ok (.aload_n 0, 1) := dk_42 (dk_at dksX9_would_6 8 rfl rfl)
theorem dX9_would_152 : decode cX9_would 152 = .ok (.getfield 13, 3) := dk_180 0 13 (dk_at dksX9_would_6 9 rfl rfl)
theorem dX9_would_155 : decode cX9_would 155 = .ok (.aload_n 0, 1) := dk_42 (dk_at dksX9_would_6 12 rfl rfl)
theorem dX9_would_156 : decode cX9_would 156 = .ok (.getfield 9, 3) := dk_180 0 9 (dk_at dksX9_would_6 13 rfl rfl)
theorem dX9_would_159 : decode cX9_would 159 = .ok (.invokestatic 123, 3) := dk_184 0 123 (dk_at dksX9_would_6 16 rfl rfl)
theorem dX9_would_162 : decode cX9_would 162 = .ok (.iload 7, 2) := dk_21 7 (dk_at dksX9_would_6 19 rfl rfl)
theorem dX9_would_164 : decode cX9_would 164 = .ok (.ireturn, 1) := dk_172 (dk_at dksX9_would_6 21 rfl rfl)
abbrev cX9_copies : ByteArray := prog_34_method_4_code
def yX9_copies : MethodName := ⟨RX9, "copies", "([I[I)V"⟩
def dkwX9_copies_0 : List UInt8 := [3, 61, 28, 17, 9, 205, 162, 0, 15, 43, 28, 42, 28, 46, 79, 132, 2, 1, 167, 255, 240, 177]
abbrev dktX9_copies_0 : List UInt8 := dkwX9_copies_0 ++ []
theorem dksX9_copies_0 : cX9_copies.data.toList.drop 0 = dktX9_copies_0 := by decide +kernel
theorem dX9_copies_0 : decode cX9_copies 0 = .ok (.iconst 0, 1) := dk_3 (dk_at dksX9_copies_0 0 rfl rfl)
theorem dX9_copies_1 : decode cX9_copies 1 = .ok (.istore_n 2, 1) := dk_61 (dk_at dksX9_copies_0 1 rfl rfl)
theorem dX9_copies_2 : decode cX9_copies 2 = .ok (.iload_n 2, 1) := dk_28 (dk_at dksX9_copies_0 2 rfl rfl)
theorem dX9_copies_3 : decode cX9_copies 3 = .ok (.sipush 2509, 3) := dk_17 9 205 (dk_at dksX9_copies_0 3 rfl rfl)
theorem dX9_copies_6 : decode cX9_copies 6 = .ok (.if_icmp .ge 15, 3) := dk_162 0 15 (dk_at dksX9_copies_0 6 rfl rfl)
theorem dX9_copies_9 : decode cX9_copies 9 = .ok (.aload_n 1, 1) := dk_43 (dk_at dksX9_copies_0 9 rfl rfl)
theorem dX9_copies_10 : decode cX9_copies 10 = .ok (.iload_n 2, 1) := dk_28 (dk_at dksX9_copies_0 10 rfl rfl)
theorem dX9_copies_11 : decode cX9_copies 11 = .ok (.aload_n 0, 1) := dk_42 (dk_at dksX9_copies_0 11 rfl rfl)
theorem dX9_copies_12 : decode cX9_copies 12 = .ok (.iload_n 2, 1) := dk_28 (dk_at dksX9_copies_0 12 rfl rfl)
theorem dX9_copies_13 : decode cX9_copies 13 = .ok (.iaload, 1) := dk_46 (dk_at dksX9_copies_0 13 rfl rfl)
theorem dX9_copies_14 : decode cX9_copies 14 = .ok (.iastore, 1) := dk_79 (dk_at dksX9_copies_0 14 rfl rfl)
theorem dX9_copies_15 : decode cX9_copies 15 = .ok (.iinc 2 1, 3) := dk_132 2 1 (dk_at dksX9_copies_0 15 rfl rfl)
theorem dX9_copies_18 : decode cX9_copies 18 = .ok (.goto (-16), 3) := dk_167 255 240 (dk_at dksX9_copies_0 18 rfl rfl)
theorem dX9_copies_21 : decode cX9_copies 21 = .ok (.return_, 1) := dk_177 (dk_at dksX9_copies_0 21 rfl rfl)
abbrev cX9_became : ByteArray := prog_34_method_51_code
def yX9_became : MethodName := ⟨RX9, "became", "(I)I"⟩
def dkwX9_became_1 : List UInt8 := [160, 0, 7, 4, 167, 0, 4, 3, 96, 61, 132, 3, 1, 167, 255, 224, 28, 172]
abbrev dktX9_became_1 : List UInt8 := dkwX9_became_1 ++ []
def dkwX9_became_0 : List UInt8 := [3, 61, 3, 62, 29, 42, 180, 0, 9, 16, 14, 46, 162, 0, 27, 28, 42, 29, 5, 182, 0, 66, 27]
abbrev dktX9_became_0 : List UInt8 := dkwX9_became_0 ++ dktX9_became_1
theorem dksX9_became_0 : cX9_became.data.toList.drop 0 = dktX9_became_0 := by decide +kernel
theorem dksX9_became_1 : cX9_became.data.toList.drop 23 = dktX9_became_1 := dk_seg dksX9_became_0 23 rfl rfl
theorem dX9_became_0 : decode cX9_became 0 = .ok (.iconst 0, 1) := dk_3 (dk_at dksX9_became_0 0 rfl rfl)
theorem dX9_became_1 : decode cX9_became 1 = .ok (.istore_n 2, 1) := dk_61 (dk_at dksX9_became_0 1 rfl rfl)
theorem dX9_became_2 : decode cX9_became 2 = .ok (.iconst 0, 1) := dk_3 (dk_at dksX9_became_0 2 rfl rfl)
theorem dX9_became_3 : decode cX9_became 3 = .ok (.istore_n 3, 1) := dk_62 (dk_at dksX9_became_0 3 rfl rfl)
theorem dX9_became_4 : decode cX9_became 4 = .ok (.iload_n 3, 1) := dk_29 (dk_at dksX9_became_0 4 rfl rfl)
theorem dX9_became_5 : decode cX9_became 5 = .ok (.aload_n 0, 1) := dk_42 (dk_at dksX9_became_0 5 rfl rfl)
theorem dX9_became_6 : decode cX9_became 6 = .ok (.getfield 9, 3) := dk_180 0 9 (dk_at dksX9_became_0 6 rfl rfl)
theorem dX9_became_9 : decode cX9_became 9 = .ok (.bipush 14, 2) := dk_16 14 (dk_at dksX9_became_0 9 rfl rfl)
theorem dX9_became_11 : decode cX9_became 11 = .ok (.iaload, 1) := dk_46 (dk_at dksX9_became_0 11 rfl rfl)
theorem dX9_became_12 : decode cX9_became 12 = .ok (.if_icmp .ge 27, 3) := dk_162 0 27 (dk_at dksX9_became_0 12 rfl rfl)
theorem dX9_became_15 : decode cX9_became 15 = .ok (.iload_n 2, 1) := dk_28 (dk_at dksX9_became_0 15 rfl rfl)
theorem dX9_became_16 : decode cX9_became 16 = .ok (.aload_n 0, 1) := dk_42 (dk_at dksX9_became_0 16 rfl rfl)
theorem dX9_became_17 : decode cX9_became 17 = .ok (.iload_n 3, 1) := dk_29 (dk_at dksX9_became_0 17 rfl rfl)
theorem dX9_became_18 : decode cX9_became 18 = .ok (.iconst 2, 1) := dk_5 (dk_at dksX9_became_0 18 rfl rfl)
theorem dX9_became_19 : decode cX9_became 19 = .ok (.invokevirtual 66, 3) := dk_182 0 66 (dk_at dksX9_became_0 19 rfl rfl)
theorem dX9_became_22 : decode cX9_became 22 = .ok (.iload_n 1, 1) := dk_27 (dk_at dksX9_became_0 22 rfl rfl)
theorem dX9_became_23 : decode cX9_became 23 = .ok (.if_icmp .ne 7, 3) := dk_160 0 7 (dk_at dksX9_became_1 0 rfl rfl)
theorem dX9_became_26 : decode cX9_became 26 = .ok (.iconst 1, 1) := dk_4 (dk_at dksX9_became_1 3 rfl rfl)
theorem dX9_became_27 : decode cX9_became 27 = .ok (.goto 4, 3) := dk_167 0 4 (dk_at dksX9_became_1 4 rfl rfl)
theorem dX9_became_30 : decode cX9_became 30 = .ok (.iconst 0, 1) := dk_3 (dk_at dksX9_became_1 7 rfl rfl)
theorem dX9_became_31 : decode cX9_became 31 = .ok (.iadd, 1) := dk_96 (dk_at dksX9_became_1 8 rfl rfl)
theorem dX9_became_32 : decode cX9_became 32 = .ok (.istore_n 2, 1) := dk_61 (dk_at dksX9_became_1 9 rfl rfl)
theorem dX9_became_33 : decode cX9_became 33 = .ok (.iinc 3 1, 3) := dk_132 3 1 (dk_at dksX9_became_1 10 rfl rfl)
theorem dX9_became_36 : decode cX9_became 36 = .ok (.goto (-32), 3) := dk_167 255 224 (dk_at dksX9_became_1 13 rfl rfl)
theorem dX9_became_39 : decode cX9_became 39 = .ok (.iload_n 2, 1) := dk_28 (dk_at dksX9_became_1 16 rfl rfl)
theorem dX9_became_40 : decode cX9_became 40 = .ok (.ireturn, 1) := dk_172 (dk_at dksX9_became_1 17 rfl rfl)
abbrev cX9_fails : ByteArray := prog_34_method_53_code
def yX9_fails : MethodName := ⟨RX9, "fails", "()I"⟩
def dkwX9_fails_2 : List UInt8 := [132, 2, 1, 167, 255, 221, 42, 180, 0, 13, 42, 180, 0, 9, 184, 0, 123, 27, 172]
abbrev dktX9_fails_2 : List UInt8 := dkwX9_fails_2 ++ []
def dkwX9_fails_1 : List UInt8 := [156, 0, 30, 42, 4, 182, 0, 127, 158, 0, 14, 42, 180, 0, 9, 3, 46, 4, 100, 167, 0, 4, 2, 60]
abbrev dktX9_fails_1 : List UInt8 := dkwX9_fails_1 ++ dktX9_fails_2
def dkwX9_fails_0 : List UInt8 := [42, 180, 0, 9, 42, 180, 0, 13, 184, 0, 123, 2, 60, 3, 61, 28, 17, 0, 200, 162, 0, 34, 27]
abbrev dktX9_fails_0 : List UInt8 := dkwX9_fails_0 ++ dktX9_fails_1
theorem dksX9_fails_0 : cX9_fails.data.toList.drop 0 = dktX9_fails_0 := by decide +kernel
theorem dksX9_fails_1 : cX9_fails.data.toList.drop 23 = dktX9_fails_1 := dk_seg dksX9_fails_0 23 rfl rfl
theorem dksX9_fails_2 : cX9_fails.data.toList.drop 47 = dktX9_fails_2 := dk_seg dksX9_fails_1 24 rfl rfl
theorem dX9_fails_0 : decode cX9_fails 0 = .ok (.aload_n 0, 1) := dk_42 (dk_at dksX9_fails_0 0 rfl rfl)
theorem dX9_fails_1 : decode cX9_fails 1 = .ok (.getfield 9, 3) := dk_180 0 9 (dk_at dksX9_fails_0 1 rfl rfl)
theorem dX9_fails_4 : decode cX9_fails 4 = .ok (.aload_n 0, 1) := dk_42 (dk_at dksX9_fails_0 4 rfl rfl)
theorem dX9_fails_5 : decode cX9_fails 5 = .ok (.getfield 13, 3) := dk_180 0 13 (dk_at dksX9_fails_0 5 rfl rfl)
theorem dX9_fails_8 : decode cX9_fails 8 = .ok (.invokestatic 123, 3) := dk_184 0 123 (dk_at dksX9_fails_0 8 rfl rfl)
theorem dX9_fails_11 : decode cX9_fails 11 = .ok (.iconst (-1), 1) := dk_2 (dk_at dksX9_fails_0 11 rfl rfl)
theorem dX9_fails_12 : decode cX9_fails 12 = .ok (.istore_n 1, 1) := dk_60 (dk_at dksX9_fails_0 12 rfl rfl)
theorem dX9_fails_13 : decode cX9_fails 13 = .ok (.iconst 0, 1) := dk_3 (dk_at dksX9_fails_0 13 rfl rfl)
theorem dX9_fails_14 : decode cX9_fails 14 = .ok (.istore_n 2, 1) := dk_61 (dk_at dksX9_fails_0 14 rfl rfl)
theorem dX9_fails_15 : decode cX9_fails 15 = .ok (.iload_n 2, 1) := dk_28 (dk_at dksX9_fails_0 15 rfl rfl)
theorem dX9_fails_16 : decode cX9_fails 16 = .ok (.sipush 200, 3) := dk_17 0 200 (dk_at dksX9_fails_0 16 rfl rfl)
theorem dX9_fails_19 : decode cX9_fails 19 = .ok (.if_icmp .ge 34, 3) := dk_162 0 34 (dk_at dksX9_fails_0 19 rfl rfl)
theorem dX9_fails_22 : decode cX9_fails 22 = .ok (.iload_n 1, 1) := dk_27 (dk_at dksX9_fails_0 22 rfl rfl)
theorem dX9_fails_23 : decode cX9_fails 23 = .ok (.ifCond .ge 30, 3) := dk_156 0 30 (dk_at dksX9_fails_1 0 rfl rfl)
theorem dX9_fails_26 : decode cX9_fails 26 = .ok (.aload_n 0, 1) := dk_42 (dk_at dksX9_fails_1 3 rfl rfl)
theorem dX9_fails_27 : decode cX9_fails 27 = .ok (.iconst 1, 1) := dk_4 (dk_at dksX9_fails_1 4 rfl rfl)
theorem dX9_fails_28 : decode cX9_fails 28 = .ok (.invokevirtual 127, 3) := dk_182 0 127 (dk_at dksX9_fails_1 5 rfl rfl)
theorem dX9_fails_31 : decode cX9_fails 31 = .ok (.ifCond .le 14, 3) := dk_158 0 14 (dk_at dksX9_fails_1 8 rfl rfl)
theorem dX9_fails_34 : decode cX9_fails 34 = .ok (.aload_n 0, 1) := dk_42 (dk_at dksX9_fails_1 11 rfl rfl)
theorem dX9_fails_35 : decode cX9_fails 35 = .ok (.getfield 9, 3) := dk_180 0 9 (dk_at dksX9_fails_1 12 rfl rfl)
theorem dX9_fails_38 : decode cX9_fails 38 = .ok (.iconst 0, 1) := dk_3 (dk_at dksX9_fails_1 15 rfl rfl)
theorem dX9_fails_39 : decode cX9_fails 39 = .ok (.iaload, 1) := dk_46 (dk_at dksX9_fails_1 16 rfl rfl)
theorem dX9_fails_40 : decode cX9_fails 40 = .ok (.iconst 1, 1) := dk_4 (dk_at dksX9_fails_1 17 rfl rfl)
theorem dX9_fails_41 : decode cX9_fails 41 = .ok (.isub, 1) := dk_100 (dk_at dksX9_fails_1 18 rfl rfl)
theorem dX9_fails_42 : decode cX9_fails 42 = .ok (.goto 4, 3) := dk_167 0 4 (dk_at dksX9_fails_1 19 rfl rfl)
theorem dX9_fails_45 : decode cX9_fails 45 = .ok (.iconst (-1), 1) := dk_2 (dk_at dksX9_fails_1 22 rfl rfl)
theorem dX9_fails_46 : decode cX9_fails 46 = .ok (.istore_n 1, 1) := dk_60 (dk_at dksX9_fails_1 23 rfl rfl)
theorem dX9_fails_47 : decode cX9_fails 47 = .ok (.iinc 2 1, 3) := dk_132 2 1 (dk_at dksX9_fails_2 0 rfl rfl)
theorem dX9_fails_50 : decode cX9_fails 50 = .ok (.goto (-35), 3) := dk_167 255 221 (dk_at dksX9_fails_2 3 rfl rfl)
theorem dX9_fails_53 : decode cX9_fails 53 = .ok (.aload_n 0, 1) := dk_42 (dk_at dksX9_fails_2 6 rfl rfl)
theorem dX9_fails_54 : decode cX9_fails 54 = .ok (.getfield 13, 3) := dk_180 0 13 (dk_at dksX9_fails_2 7 rfl rfl)
theorem dX9_fails_57 : decode cX9_fails 57 = .ok (.aload_n 0, 1) := dk_42 (dk_at dksX9_fails_2 10 rfl rfl)
theorem dX9_fails_58 : decode cX9_fails 58 = .ok (.getfield 9, 3) := dk_180 0 9 (dk_at dksX9_fails_2 11 rfl rfl)
theorem dX9_fails_61 : decode cX9_fails 61 = .ok (.invokestatic 123, 3) := dk_184 0 123 (dk_at dksX9_fails_2 14 rfl rfl)
theorem dX9_fails_64 : decode cX9_fails 64 = .ok (.iload_n 1, 1) := dk_27 (dk_at dksX9_fails_2 17 rfl rfl)
theorem dX9_fails_65 : decode cX9_fails 65 = .ok (.ireturn, 1) := dk_172 (dk_at dksX9_fails_2 18 rfl rfl)
abbrev cX9_comes : ByteArray := prog_34_method_54_code
def yX9_comes : MethodName := ⟨RX9, "comes", "()I"⟩
def dkwX9_comes_2 : List UInt8 := [167, 0, 4, 2, 60, 132, 2, 1, 167, 255, 218, 42, 180, 0, 13, 42, 180, 0, 9, 184, 0, 123, 27, 172]
abbrev dktX9_comes_2 : List UInt8 := dkwX9_comes_2 ++ []
def dkwX9_comes_1 : List UInt8 := [156, 0, 33, 42, 182, 0, 120, 42, 180, 0, 107, 153, 0, 14, 42, 180, 0, 9, 3, 46, 4, 100]
abbrev dktX9_comes_1 : List UInt8 := dkwX9_comes_1 ++ dktX9_comes_2
def dkwX9_comes_0 : List UInt8 := [42, 180, 0, 9, 42, 180, 0, 13, 184, 0, 123, 2, 60, 3, 61, 28, 17, 1, 144, 162, 0, 37, 27]
abbrev dktX9_comes_0 : List UInt8 := dkwX9_comes_0 ++ dktX9_comes_1
theorem dksX9_comes_0 : cX9_comes.data.toList.drop 0 = dktX9_comes_0 := by decide +kernel
theorem dksX9_comes_1 : cX9_comes.data.toList.drop 23 = dktX9_comes_1 := dk_seg dksX9_comes_0 23 rfl rfl
theorem dksX9_comes_2 : cX9_comes.data.toList.drop 45 = dktX9_comes_2 := dk_seg dksX9_comes_1 22 rfl rfl
theorem dX9_comes_0 : decode cX9_comes 0 = .ok (.aload_n 0, 1) := dk_42 (dk_at dksX9_comes_0 0 rfl rfl)
theorem dX9_comes_1 : decode cX9_comes 1 = .ok (.getfield 9, 3) := dk_180 0 9 (dk_at dksX9_comes_0 1 rfl rfl)
theorem dX9_comes_4 : decode cX9_comes 4 = .ok (.aload_n 0, 1) := dk_42 (dk_at dksX9_comes_0 4 rfl rfl)
theorem dX9_comes_5 : decode cX9_comes 5 = .ok (.getfield 13, 3) := dk_180 0 13 (dk_at dksX9_comes_0 5 rfl rfl)
theorem dX9_comes_8 : decode cX9_comes 8 = .ok (.invokestatic 123, 3) := dk_184 0 123 (dk_at dksX9_comes_0 8 rfl rfl)
theorem dX9_comes_11 : decode cX9_comes 11 = .ok (.iconst (-1), 1) := dk_2 (dk_at dksX9_comes_0 11 rfl rfl)
theorem dX9_comes_12 : decode cX9_comes 12 = .ok (.istore_n 1, 1) := dk_60 (dk_at dksX9_comes_0 12 rfl rfl)
theorem dX9_comes_13 : decode cX9_comes 13 = .ok (.iconst 0, 1) := dk_3 (dk_at dksX9_comes_0 13 rfl rfl)
theorem dX9_comes_14 : decode cX9_comes 14 = .ok (.istore_n 2, 1) := dk_61 (dk_at dksX9_comes_0 14 rfl rfl)
theorem dX9_comes_15 : decode cX9_comes 15 = .ok (.iload_n 2, 1) := dk_28 (dk_at dksX9_comes_0 15 rfl rfl)
theorem dX9_comes_16 : decode cX9_comes 16 = .ok (.sipush 400, 3) := dk_17 1 144 (dk_at dksX9_comes_0 16 rfl rfl)
theorem dX9_comes_19 : decode cX9_comes 19 = .ok (.if_icmp .ge 37, 3) := dk_162 0 37 (dk_at dksX9_comes_0 19 rfl rfl)
theorem dX9_comes_22 : decode cX9_comes 22 = .ok (.iload_n 1, 1) := dk_27 (dk_at dksX9_comes_0 22 rfl rfl)
theorem dX9_comes_23 : decode cX9_comes 23 = .ok (.ifCond .ge 33, 3) := dk_156 0 33 (dk_at dksX9_comes_1 0 rfl rfl)
theorem dX9_comes_26 : decode cX9_comes 26 = .ok (.aload_n 0, 1) := dk_42 (dk_at dksX9_comes_1 3 rfl rfl)
theorem dX9_comes_27 : decode cX9_comes 27 = .ok (.invokevirtual 120, 3) := dk_182 0 120 (dk_at dksX9_comes_1 4 rfl rfl)
theorem dX9_comes_30 : decode cX9_comes 30 = .ok (.aload_n 0, 1) := dk_42 (dk_at dksX9_comes_1 7 rfl rfl)
theorem dX9_comes_31 : decode cX9_comes 31 = .ok (.getfield 107, 3) := dk_180 0 107 (dk_at dksX9_comes_1 8 rfl rfl)
theorem dX9_comes_34 : decode cX9_comes 34 = .ok (.ifCond .eq 14, 3) := dk_153 0 14 (dk_at dksX9_comes_1 11 rfl rfl)
theorem dX9_comes_37 : decode cX9_comes 37 = .ok (.aload_n 0, 1) := dk_42 (dk_at dksX9_comes_1 14 rfl rfl)
theorem dX9_comes_38 : decode cX9_comes 38 = .ok (.getfield 9, 3) := dk_180 0 9 (dk_at dksX9_comes_1 15 rfl rfl)
theorem dX9_comes_41 : decode cX9_comes 41 = .ok (.iconst 0, 1) := dk_3 (dk_at dksX9_comes_1 18 rfl rfl)
theorem dX9_comes_42 : decode cX9_comes 42 = .ok (.iaload, 1) := dk_46 (dk_at dksX9_comes_1 19 rfl rfl)
theorem dX9_comes_43 : decode cX9_comes 43 = .ok (.iconst 1, 1) := dk_4 (dk_at dksX9_comes_1 20 rfl rfl)
theorem dX9_comes_44 : decode cX9_comes 44 = .ok (.isub, 1) := dk_100 (dk_at dksX9_comes_1 21 rfl rfl)
theorem dX9_comes_45 : decode cX9_comes 45 = .ok (.goto 4, 3) := dk_167 0 4 (dk_at dksX9_comes_2 0 rfl rfl)
theorem dX9_comes_48 : decode cX9_comes 48 = .ok (.iconst (-1), 1) := dk_2 (dk_at dksX9_comes_2 3 rfl rfl)
theorem dX9_comes_49 : decode cX9_comes 49 = .ok (.istore_n 1, 1) := dk_60 (dk_at dksX9_comes_2 4 rfl rfl)
theorem dX9_comes_50 : decode cX9_comes 50 = .ok (.iinc 2 1, 3) := dk_132 2 1 (dk_at dksX9_comes_2 5 rfl rfl)
theorem dX9_comes_53 : decode cX9_comes 53 = .ok (.goto (-38), 3) := dk_167 255 218 (dk_at dksX9_comes_2 8 rfl rfl)
theorem dX9_comes_56 : decode cX9_comes 56 = .ok (.aload_n 0, 1) := dk_42 (dk_at dksX9_comes_2 11 rfl rfl)
theorem dX9_comes_57 : decode cX9_comes 57 = .ok (.getfield 13, 3) := dk_180 0 13 (dk_at dksX9_comes_2 12 rfl rfl)
theorem dX9_comes_60 : decode cX9_comes 60 = .ok (.aload_n 0, 1) := dk_42 (dk_at dksX9_comes_2 15 rfl rfl)
theorem dX9_comes_61 : decode cX9_comes 61 = .ok (.getfield 9, 3) := dk_180 0 9 (dk_at dksX9_comes_2 16 rfl rfl)
theorem dX9_comes_64 : decode cX9_comes 64 = .ok (.invokestatic 123, 3) := dk_184 0 123 (dk_at dksX9_comes_2 19 rfl rfl)
theorem dX9_comes_67 : decode cX9_comes 67 = .ok (.iload_n 1, 1) := dk_27 (dk_at dksX9_comes_2 22 rfl rfl)
theorem dX9_comes_68 : decode cX9_comes 68 = .ok (.ireturn, 1) := dk_172 (dk_at dksX9_comes_2 23 rfl rfl)
abbrev cX9_oil : ByteArray := prog_34_method_56_code
def yX9_oil : MethodName := ⟨RX9, "oil", "(I)I"⟩
def dkwX9_oil_4 : List UInt8 := [182, 0, 216, 61, 3, 62, 42, 29, 27, 182, 0, 216, 28, 164, 0, 9, 132, 3, 1, 167, 255, 243, 29, 172]
abbrev dktX9_oil_4 : List UInt8 := dkwX9_oil_4 ++ []
def dkwX9_oil_3 : List UInt8 := [132, 2, 1, 167, 255, 214, 42, 180, 0, 13, 42, 180, 0, 9, 184, 0, 123, 42, 17, 39, 15, 27]
abbrev dktX9_oil_3 : List UInt8 := dkwX9_oil_3 ++ dktX9_oil_4
def dkwX9_oil_2 : List UInt8 := [180, 0, 114, 84, 42, 180, 0, 32, 28, 42, 180, 0, 117, 84, 42, 180, 0, 35, 28, 42, 180, 0, 107, 84]
abbrev dktX9_oil_2 : List UInt8 := dkwX9_oil_2 ++ dktX9_oil_3
def dkwX9_oil_1 : List UInt8 := [180, 0, 13, 184, 0, 123, 3, 61, 28, 27, 162, 0, 43, 42, 182, 0, 120, 42, 180, 0, 28, 28, 42]
abbrev dktX9_oil_1 : List UInt8 := dkwX9_oil_1 ++ dktX9_oil_2
def dkwX9_oil_0 : List UInt8 := [27, 133, 9, 20, 0, 194, 184, 0, 54, 154, 0, 10, 42, 16, 154, 182, 0, 132, 172, 42, 180, 0, 9, 42]
abbrev dktX9_oil_0 : List UInt8 := dkwX9_oil_0 ++ dktX9_oil_1
theorem dksX9_oil_0 : cX9_oil.data.toList.drop 0 = dktX9_oil_0 := by decide +kernel
theorem dksX9_oil_1 : cX9_oil.data.toList.drop 24 = dktX9_oil_1 := dk_seg dksX9_oil_0 24 rfl rfl
theorem dksX9_oil_2 : cX9_oil.data.toList.drop 47 = dktX9_oil_2 := dk_seg dksX9_oil_1 23 rfl rfl
theorem dksX9_oil_3 : cX9_oil.data.toList.drop 71 = dktX9_oil_3 := dk_seg dksX9_oil_2 24 rfl rfl
theorem dksX9_oil_4 : cX9_oil.data.toList.drop 93 = dktX9_oil_4 := dk_seg dksX9_oil_3 22 rfl rfl
theorem dX9_oil_0 : decode cX9_oil 0 = .ok (.iload_n 1, 1) := dk_27 (dk_at dksX9_oil_0 0 rfl rfl)
theorem dX9_oil_1 : decode cX9_oil 1 = .ok (.i2l, 1) := dk_133 (dk_at dksX9_oil_0 1 rfl rfl)
theorem dX9_oil_2 : decode cX9_oil 2 = .ok (.lconst 0, 1) := dk_9 (dk_at dksX9_oil_0 2 rfl rfl)
theorem dX9_oil_3 : decode cX9_oil 3 = .ok (.ldc2_w 194, 3) := dk_20 0 194 (dk_at dksX9_oil_0 3 rfl rfl)
theorem dX9_oil_6 : decode cX9_oil 6 = .ok (.invokestatic 54, 3) := dk_184 0 54 (dk_at dksX9_oil_0 6 rfl rfl)
theorem dX9_oil_9 : decode cX9_oil 9 = .ok (.ifCond .ne 10, 3) := dk_154 0 10 (dk_at dksX9_oil_0 9 rfl rfl)
theorem dX9_oil_12 : decode cX9_oil 12 = .ok (.aload_n 0, 1) := dk_42 (dk_at dksX9_oil_0 12 rfl rfl)
theorem dX9_oil_13 : decode cX9_oil 13 = .ok (.bipush (-102), 2) := dk_16 154 (dk_at dksX9_oil_0 13 rfl rfl)
theorem dX9_oil_15 : decode cX9_oil 15 = .ok (.invokevirtual 132, 3) := dk_182 0 132 (dk_at dksX9_oil_0 15 rfl rfl)
theorem dX9_oil_18 : decode cX9_oil 18 = .ok (.ireturn, 1) := dk_172 (dk_at dksX9_oil_0 18 rfl rfl)
theorem dX9_oil_19 : decode cX9_oil 19 = .ok (.aload_n 0, 1) := dk_42 (dk_at dksX9_oil_0 19 rfl rfl)
theorem dX9_oil_20 : decode cX9_oil 20 = .ok (.getfield 9, 3) := dk_180 0 9 (dk_at dksX9_oil_0 20 rfl rfl)
theorem dX9_oil_23 : decode cX9_oil 23 = .ok (.aload_n 0, 1) := dk_42 (dk_at dksX9_oil_0 23 rfl rfl)
theorem dX9_oil_24 : decode cX9_oil 24 = .ok (.getfield 13, 3) := dk_180 0 13 (dk_at dksX9_oil_1 0 rfl rfl)
theorem dX9_oil_27 : decode cX9_oil 27 = .ok (.invokestatic 123, 3) := dk_184 0 123 (dk_at dksX9_oil_1 3 rfl rfl)
theorem dX9_oil_30 : decode cX9_oil 30 = .ok (.iconst 0, 1) := dk_3 (dk_at dksX9_oil_1 6 rfl rfl)
theorem dX9_oil_31 : decode cX9_oil 31 = .ok (.istore_n 2, 1) := dk_61 (dk_at dksX9_oil_1 7 rfl rfl)
theorem dX9_oil_32 : decode cX9_oil 32 = .ok (.iload_n 2, 1) := dk_28 (dk_at dksX9_oil_1 8 rfl rfl)
theorem dX9_oil_33 : decode cX9_oil 33 = .ok (.iload_n 1, 1) := dk_27 (dk_at dksX9_oil_1 9 rfl rfl)
theorem dX9_oil_34 : decode cX9_oil 34 = .ok (.if_icmp .ge 43, 3) := dk_162 0 43 (dk_at dksX9_oil_1 10 rfl rfl)
theorem dX9_oil_37 : decode cX9_oil 37 = .ok (.aload_n 0, 1) := dk_42 (dk_at dksX9_oil_1 13 rfl rfl)
theorem dX9_oil_38 : decode cX9_oil 38 = .ok (.invokevirtual 120, 3) := dk_182 0 120 (dk_at dksX9_oil_1 14 rfl rfl)
theorem dX9_oil_41 : decode cX9_oil 41 = .ok (.aload_n 0, 1) := dk_42 (dk_at dksX9_oil_1 17 rfl rfl)
theorem dX9_oil_42 : decode cX9_oil 42 = .ok (.getfield 28, 3) := dk_180 0 28 (dk_at dksX9_oil_1 18 rfl rfl)
theorem dX9_oil_45 : decode cX9_oil 45 = .ok (.iload_n 2, 1) := dk_28 (dk_at dksX9_oil_1 21 rfl rfl)
theorem dX9_oil_46 : decode cX9_oil 46 = .ok (.aload_n 0, 1) := dk_42 (dk_at dksX9_oil_1 22 rfl rfl)
theorem dX9_oil_47 : decode cX9_oil 47 = .ok (.getfield 114, 3) := dk_180 0 114 (dk_at dksX9_oil_2 0 rfl rfl)
theorem dX9_oil_50 : decode cX9_oil 50 = .ok (.bastore, 1) := dk_84 (dk_at dksX9_oil_2 3 rfl rfl)
theorem dX9_oil_51 : decode cX9_oil 51 = .ok (.aload_n 0, 1) := dk_42 (dk_at dksX9_oil_2 4 rfl rfl)
theorem dX9_oil_52 : decode cX9_oil 52 = .ok (.getfield 32, 3) := dk_180 0 32 (dk_at dksX9_oil_2 5 rfl rfl)
theorem dX9_oil_55 : decode cX9_oil 55 = .ok (.iload_n 2, 1) := dk_28 (dk_at dksX9_oil_2 8 rfl rfl)
theorem dX9_oil_56 : decode cX9_oil 56 = .ok (.aload_n 0, 1) := dk_42 (dk_at dksX9_oil_2 9 rfl rfl)
theorem dX9_oil_57 : decode cX9_oil 57 = .ok (.getfield 117, 3) := dk_180 0 117 (dk_at dksX9_oil_2 10 rfl rfl)
theorem dX9_oil_60 : decode cX9_oil 60 = .ok (.bastore, 1) := dk_84 (dk_at dksX9_oil_2 13 rfl rfl)
theorem dX9_oil_61 : decode cX9_oil 61 = .ok (.aload_n 0, 1) := dk_42 (dk_at dksX9_oil_2 14 rfl rfl)
theorem dX9_oil_62 : decode cX9_oil 62 = .ok (.getfield 35, 3) := dk_180 0 35 (dk_at dksX9_oil_2 15 rfl rfl)
theorem dX9_oil_65 : decode cX9_oil 65 = .ok (.iload_n 2, 1) := dk_28 (dk_at dksX9_oil_2 18 rfl rfl)
theorem dX9_oil_66 : decode cX9_oil 66 = .ok (.aload_n 0, 1) := dk_42 (dk_at dksX9_oil_2 19 rfl rfl)
theorem dX9_oil_67 : decode cX9_oil 67 = .ok (.getfield 107, 3) := dk_180 0 107 (dk_at dksX9_oil_2 20 rfl rfl)
theorem dX9_oil_70 : decode cX9_oil 70 = .ok (.bastore, 1) := dk_84 (dk_at dksX9_oil_2 23 rfl rfl)
theorem dX9_oil_71 : decode cX9_oil 71 = .ok (.iinc 2 1, 3) := dk_132 2 1 (dk_at dksX9_oil_3 0 rfl rfl)
theorem dX9_oil_74 : decode cX9_oil 74 = .ok (.goto (-42), 3) := dk_167 255 214 (dk_at dksX9_oil_3 3 rfl rfl)
theorem dX9_oil_77 : decode cX9_oil 77 = .ok (.aload_n 0, 1) := dk_42 (dk_at dksX9_oil_3 6 rfl rfl)
theorem dX9_oil_78 : decode cX9_oil 78 = .ok (.getfield 13, 3) := dk_180 0 13 (dk_at dksX9_oil_3 7 rfl rfl)
theorem dX9_oil_81 : decode cX9_oil 81 = .ok (.aload_n 0, 1) := dk_42 (dk_at dksX9_oil_3 10 rfl rfl)
theorem dX9_oil_82 : decode cX9_oil 82 = .ok (.getfield 9, 3) := dk_180 0 9 (dk_at dksX9_oil_3 11 rfl rfl)
theorem dX9_oil_85 : decode cX9_oil 85 = .ok (.invokestatic 123, 3) := dk_184 0 123 (dk_at dksX9_oil_3 14 rfl rfl)
theorem dX9_oil_88 : decode cX9_oil 88 = .ok (.aload_n 0, 1) := dk_42 (dk_at dksX9_oil_3 17 rfl rfl)
theorem dX9_oil_89 : decode cX9_oil 89 = .ok (.sipush 9999, 3) := dk_17 39 15 (dk_at dksX9_oil_3 18 rfl rfl)
theorem dX9_oil_92 : decode cX9_oil 92 = .ok (.iload_n 1, 1) := dk_27 (dk_at dksX9_oil_3 21 rfl rfl)
theorem dX9_oil_93 : decode cX9_oil 93 = .ok (.invokevirtual 216, 3) := dk_182 0 216 (dk_at dksX9_oil_4 0 rfl rfl)
theorem dX9_oil_96 : decode cX9_oil 96 = .ok (.istore_n 2, 1) := dk_61 (dk_at dksX9_oil_4 3 rfl rfl)
theorem dX9_oil_97 : decode cX9_oil 97 = .ok (.iconst 0, 1) := dk_3 (dk_at dksX9_oil_4 4 rfl rfl)
theorem dX9_oil_98 : decode cX9_oil 98 = .ok (.istore_n 3, 1) := dk_62 (dk_at dksX9_oil_4 5 rfl rfl)
theorem dX9_oil_99 : decode cX9_oil 99 = .ok (.aload_n 0, 1) := dk_42 (dk_at dksX9_oil_4 6 rfl rfl)
theorem dX9_oil_100 : decode cX9_oil 100 = .ok (.iload_n 3, 1) := dk_29 (dk_at dksX9_oil_4 7 rfl rfl)
theorem dX9_oil_101 : decode cX9_oil 101 = .ok (.iload_n 1, 1) := dk_27 (dk_at dksX9_oil_4 8 rfl rfl)
theorem dX9_oil_102 : decode cX9_oil 102 = .ok (.invokevirtual 216, 3) := dk_182 0 216 (dk_at dksX9_oil_4 9 rfl rfl)
theorem dX9_oil_105 : decode cX9_oil 105 = .ok (.iload_n 2, 1) := dk_28 (dk_at dksX9_oil_4 12 rfl rfl)
theorem dX9_oil_106 : decode cX9_oil 106 = .ok (.if_icmp .le 9, 3) := dk_164 0 9 (dk_at dksX9_oil_4 13 rfl rfl)
theorem dX9_oil_109 : decode cX9_oil 109 = .ok (.iinc 3 1, 3) := dk_132 3 1 (dk_at dksX9_oil_4 16 rfl rfl)
theorem dX9_oil_112 : decode cX9_oil 112 = .ok (.goto (-13), 3) := dk_167 255 243 (dk_at dksX9_oil_4 19 rfl rfl)
theorem dX9_oil_115 : decode cX9_oil 115 = .ok (.iload_n 3, 1) := dk_29 (dk_at dksX9_oil_4 22 rfl rfl)
theorem dX9_oil_116 : decode cX9_oil 116 = .ok (.ireturn, 1) := dk_172 (dk_at dksX9_oil_4 23 rfl rfl)
abbrev cX9_unlitBy : ByteArray := prog_34_method_55_code
def yX9_unlitBy : MethodName := ⟨RX9, "unlitBy", "(II)I"⟩
def dkwX9_unlitBy_8 : List UInt8 := [184, 0, 111, 167, 0, 4, 29, 62, 132, 7, 1, 167, 255, 101, 21, 6, 172]
abbrev dktX9_unlitBy_8 : List UInt8 := dkwX9_unlitBy_8 ++ []
def dkwX9_unlitBy_7 : List UInt8 := [54, 6, 42, 180, 0, 35, 21, 7, 51, 153, 0, 21, 17, 39, 15, 29, 42, 180, 0, 9, 16, 10, 46, 96]
abbrev dktX9_unlitBy_7 : List UInt8 := dkwX9_unlitBy_7 ++ dktX9_unlitBy_8
def dkwX9_unlitBy_6 : List UInt8 := [21, 6, 42, 180, 0, 28, 21, 7, 51, 153, 0, 12, 21, 8, 154, 0, 7, 4, 167, 0, 4, 3, 96]
abbrev dktX9_unlitBy_6 : List UInt8 := dkwX9_unlitBy_6 ++ dktX9_unlitBy_7
def dkwX9_unlitBy_5 : List UInt8 := [153, 0, 17, 42, 180, 0, 32, 21, 7, 51, 154, 0, 7, 4, 167, 0, 4, 3, 54, 5, 21, 8, 54, 4]
abbrev dktX9_unlitBy_5 : List UInt8 := dkwX9_unlitBy_5 ++ dktX9_unlitBy_6
def dkwX9_unlitBy_4 : List UInt8 := [3, 54, 8, 29, 21, 8, 153, 0, 12, 42, 180, 0, 9, 6, 46, 167, 0, 4, 3, 100, 62, 21, 8]
abbrev dktX9_unlitBy_4 : List UInt8 := dkwX9_unlitBy_4 ++ dktX9_unlitBy_5
def dkwX9_unlitBy_3 : List UInt8 := [21, 4, 153, 0, 22, 21, 5, 154, 0, 17, 29, 42, 180, 0, 9, 6, 46, 161, 0, 7, 4, 167, 0, 4]
abbrev dktX9_unlitBy_3 : List UInt8 := dkwX9_unlitBy_3 ++ dktX9_unlitBy_4
def dkwX9_unlitBy_2 : List UInt8 := [162, 0, 155, 42, 180, 0, 28, 21, 7, 51, 153, 0, 37, 42, 180, 0, 32, 21, 7, 51, 154, 0, 13]
abbrev dktX9_unlitBy_2 : List UInt8 := dkwX9_unlitBy_2 ++ dktX9_unlitBy_3
def dkwX9_unlitBy_1 : List UInt8 := [16, 7, 46, 158, 0, 7, 4, 167, 0, 4, 3, 54, 5, 3, 54, 6, 3, 54, 7, 21, 7, 28]
abbrev dktX9_unlitBy_1 : List UInt8 := dkwX9_unlitBy_1 ++ dktX9_unlitBy_2
def dkwX9_unlitBy_0 : List UInt8 := [27, 62, 42, 180, 0, 9, 16, 6, 46, 4, 160, 0, 7, 4, 167, 0, 4, 3, 54, 4, 42, 180, 0, 9]
abbrev dktX9_unlitBy_0 : List UInt8 := dkwX9_unlitBy_0 ++ dktX9_unlitBy_1
theorem dksX9_unlitBy_0 : cX9_unlitBy.data.toList.drop 0 = dktX9_unlitBy_0 := by decide +kernel
theorem dksX9_unlitBy_1 : cX9_unlitBy.data.toList.drop 24 = dktX9_unlitBy_1 := dk_seg dksX9_unlitBy_0 24 rfl rfl
theorem dksX9_unlitBy_2 : cX9_unlitBy.data.toList.drop 46 = dktX9_unlitBy_2 := dk_seg dksX9_unlitBy_1 22 rfl rfl
theorem dksX9_unlitBy_3 : cX9_unlitBy.data.toList.drop 69 = dktX9_unlitBy_3 := dk_seg dksX9_unlitBy_2 23 rfl rfl
theorem dksX9_unlitBy_4 : cX9_unlitBy.data.toList.drop 93 = dktX9_unlitBy_4 := dk_seg dksX9_unlitBy_3 24 rfl rfl
theorem dksX9_unlitBy_5 : cX9_unlitBy.data.toList.drop 116 = dktX9_unlitBy_5 := dk_seg dksX9_unlitBy_4 23 rfl rfl
theorem dksX9_unlitBy_6 : cX9_unlitBy.data.toList.drop 140 = dktX9_unlitBy_6 := dk_seg dksX9_unlitBy_5 24 rfl rfl
theorem dksX9_unlitBy_7 : cX9_unlitBy.data.toList.drop 163 = dktX9_unlitBy_7 := dk_seg dksX9_unlitBy_6 23 rfl rfl
theorem dksX9_unlitBy_8 : cX9_unlitBy.data.toList.drop 187 = dktX9_unlitBy_8 := dk_seg dksX9_unlitBy_7 24 rfl rfl
theorem dX9_unlitBy_0 : decode cX9_unlitBy 0 = .ok (.iload_n 1, 1) := dk_27 (dk_at dksX9_unlitBy_0 0 rfl rfl)
theorem dX9_unlitBy_1 : decode cX9_unlitBy 1 = .ok (.istore_n 3, 1) := dk_62 (dk_at dksX9_unlitBy_0 1 rfl rfl)
theorem dX9_unlitBy_2 : decode cX9_unlitBy 2 = .ok (.aload_n 0, 1) := dk_42 (dk_at dksX9_unlitBy_0 2 rfl rfl)
theorem dX9_unlitBy_3 : decode cX9_unlitBy 3 = .ok (.getfield 9, 3) := dk_180 0 9 (dk_at dksX9_unlitBy_0 3 rfl rfl)
theorem dX9_unlitBy_6 : decode cX9_unlitBy 6 = .ok (.bipush 6, 2) := dk_16 6 (dk_at dksX9_unlitBy_0 6 rfl rfl)
theorem dX9_unlitBy_8 : decode cX9_unlitBy 8 = .ok (.iaload, 1) := dk_46 (dk_at dksX9_unlitBy_0 8 rfl rfl)
theorem dX9_unlitBy_9 : decode cX9_unlitBy 9 = .ok (.iconst 1, 1) := dk_4 (dk_at dksX9_unlitBy_0 9 rfl rfl)
theorem dX9_unlitBy_10 : decode cX9_unlitBy 10 = .ok (.if_icmp .ne 7, 3) := dk_160 0 7 (dk_at dksX9_unlitBy_0 10 rfl rfl)
theorem dX9_unlitBy_13 : decode cX9_unlitBy 13 = .ok (.iconst 1, 1) := dk_4 (dk_at dksX9_unlitBy_0 13 rfl rfl)
theorem dX9_unlitBy_14 : decode cX9_unlitBy 14 = .ok (.goto 4, 3) := dk_167 0 4 (dk_at dksX9_unlitBy_0 14 rfl rfl)
theorem dX9_unlitBy_17 : decode cX9_unlitBy 17 = .ok (.iconst 0, 1) := dk_3 (dk_at dksX9_unlitBy_0 17 rfl rfl)
theorem dX9_unlitBy_18 : decode cX9_unlitBy 18 = .ok (.istore 4, 2) := dk_54 4 (dk_at dksX9_unlitBy_0 18 rfl rfl)
theorem dX9_unlitBy_20 : decode cX9_unlitBy 20 = .ok (.aload_n 0, 1) := dk_42 (dk_at dksX9_unlitBy_0 20 rfl rfl)
theorem dX9_unlitBy_21 : decode cX9_unlitBy 21 = .ok (.getfield 9, 3) := dk_180 0 9 (dk_at dksX9_unlitBy_0 21 rfl rfl)
theorem dX9_unlitBy_24 : decode cX9_unlitBy 24 = .ok (.bipush 7, 2) := dk_16 7 (dk_at dksX9_unlitBy_1 0 rfl rfl)
theorem dX9_unlitBy_26 : decode cX9_unlitBy 26 = .ok (.iaload, 1) := dk_46 (dk_at dksX9_unlitBy_1 2 rfl rfl)
theorem dX9_unlitBy_27 : decode cX9_unlitBy 27 = .ok (.ifCond .le 7, 3) := dk_158 0 7 (dk_at dksX9_unlitBy_1 3 rfl rfl)
theorem dX9_unlitBy_30 : decode cX9_unlitBy 30 = .ok (.iconst 1, 1) := dk_4 (dk_at dksX9_unlitBy_1 6 rfl rfl)
theorem dX9_unlitBy_31 : decode cX9_unlitBy 31 = .ok (.goto 4, 3) := dk_167 0 4 (dk_at dksX9_unlitBy_1 7 rfl rfl)
theorem dX9_unlitBy_34 : decode cX9_unlitBy 34 = .ok (.iconst 0, 1) := dk_3 (dk_at dksX9_unlitBy_1 10 rfl rfl)
theorem dX9_unlitBy_35 : decode cX9_unlitBy 35 = .ok (.istore 5, 2) := dk_54 5 (dk_at dksX9_unlitBy_1 11 rfl rfl)
theorem dX9_unlitBy_37 : decode cX9_unlitBy 37 = .ok (.iconst 0, 1) := dk_3 (dk_at dksX9_unlitBy_1 13 rfl rfl)
theorem dX9_unlitBy_38 : decode cX9_unlitBy 38 = .ok (.istore 6, 2) := dk_54 6 (dk_at dksX9_unlitBy_1 14 rfl rfl)
theorem dX9_unlitBy_40 : decode cX9_unlitBy 40 = .ok (.iconst 0, 1) := dk_3 (dk_at dksX9_unlitBy_1 16 rfl rfl)
theorem dX9_unlitBy_41 : decode cX9_unlitBy 41 = .ok (.istore 7, 2) := dk_54 7 (dk_at dksX9_unlitBy_1 17 rfl rfl)
theorem dX9_unlitBy_43 : decode cX9_unlitBy 43 = .ok (.iload 7, 2) := dk_21 7 (dk_at dksX9_unlitBy_1 19 rfl rfl)
theorem dX9_unlitBy_45 : decode cX9_unlitBy 45 = .ok (.iload_n 2, 1) := dk_28 (dk_at dksX9_unlitBy_1 21 rfl rfl)
theorem dX9_unlitBy_46 : decode cX9_unlitBy 46 = .ok (.if_icmp .ge 155, 3) := dk_162 0 155 (dk_at dksX9_unlitBy_2 0 rfl rfl)
theorem dX9_unlitBy_49 : decode cX9_unlitBy 49 = .ok (.aload_n 0, 1) := dk_42 (dk_at dksX9_unlitBy_2 3 rfl rfl)
theorem dX9_unlitBy_50 : decode cX9_unlitBy 50 = .ok (.getfield 28, 3) := dk_180 0 28 (dk_at dksX9_unlitBy_2 4 rfl rfl)
theorem dX9_unlitBy_53 : decode cX9_unlitBy 53 = .ok (.iload 7, 2) := dk_21 7 (dk_at dksX9_unlitBy_2 7 rfl rfl)
theorem dX9_unlitBy_55 : decode cX9_unlitBy 55 = .ok (.baload, 1) := dk_51 (dk_at dksX9_unlitBy_2 9 rfl rfl)
theorem dX9_unlitBy_56 : decode cX9_unlitBy 56 = .ok (.ifCond .eq 37, 3) := dk_153 0 37 (dk_at dksX9_unlitBy_2 10 rfl rfl)
theorem dX9_unlitBy_59 : decode cX9_unlitBy 59 = .ok (.aload_n 0, 1) := dk_42 (dk_at dksX9_unlitBy_2 13 rfl rfl)
theorem dX9_unlitBy_60 : decode cX9_unlitBy 60 = .ok (.getfield 32, 3) := dk_180 0 32 (dk_at dksX9_unlitBy_2 14 rfl rfl)
theorem dX9_unlitBy_63 : decode cX9_unlitBy 63 = .ok (.iload 7, 2) := dk_21 7 (dk_at dksX9_unlitBy_2 17 rfl rfl)
theorem dX9_unlitBy_65 : decode cX9_unlitBy 65 = .ok (.baload, 1) := dk_51 (dk_at dksX9_unlitBy_2 19 rfl rfl)
theorem dX9_unlitBy_66 : decode cX9_unlitBy 66 = .ok (.ifCond .ne 13, 3) := dk_154 0 13 (dk_at dksX9_unlitBy_2 20 rfl rfl)
theorem dX9_unlitBy_69 : decode cX9_unlitBy 69 = .ok (.iload 4, 2) := dk_21 4 (dk_at dksX9_unlitBy_3 0 rfl rfl)
theorem dX9_unlitBy_71 : decode cX9_unlitBy 71 = .ok (.ifCond .eq 22, 3) := dk_153 0 22 (dk_at dksX9_unlitBy_3 2 rfl rfl)
theorem dX9_unlitBy_74 : decode cX9_unlitBy 74 = .ok (.iload 5, 2) := dk_21 5 (dk_at dksX9_unlitBy_3 5 rfl rfl)
theorem dX9_unlitBy_76 : decode cX9_unlitBy 76 = .ok (.ifCond .ne 17, 3) := dk_154 0 17 (dk_at dksX9_unlitBy_3 7 rfl rfl)
theorem dX9_unlitBy_79 : decode cX9_unlitBy 79 = .ok (.iload_n 3, 1) := dk_29 (dk_at dksX9_unlitBy_3 10 rfl rfl)
theorem dX9_unlitBy_80 : decode cX9_unlitBy 80 = .ok (.aload_n 0, 1) := dk_42 (dk_at dksX9_unlitBy_3 11 rfl rfl)
theorem dX9_unlitBy_81 : decode cX9_unlitBy 81 = .ok (.getfield 9, 3) := dk_180 0 9 (dk_at dksX9_unlitBy_3 12 rfl rfl)
theorem dX9_unlitBy_84 : decode cX9_unlitBy 84 = .ok (.iconst 3, 1) := dk_6 (dk_at dksX9_unlitBy_3 15 rfl rfl)
theorem dX9_unlitBy_85 : decode cX9_unlitBy 85 = .ok (.iaload, 1) := dk_46 (dk_at dksX9_unlitBy_3 16 rfl rfl)
theorem dX9_unlitBy_86 : decode cX9_unlitBy 86 = .ok (.if_icmp .lt 7, 3) := dk_161 0 7 (dk_at dksX9_unlitBy_3 17 rfl rfl)
theorem dX9_unlitBy_89 : decode cX9_unlitBy 89 = .ok (.iconst 1, 1) := dk_4 (dk_at dksX9_unlitBy_3 20 rfl rfl)
theorem dX9_unlitBy_90 : decode cX9_unlitBy 90 = .ok (.goto 4, 3) := dk_167 0 4 (dk_at dksX9_unlitBy_3 21 rfl rfl)
theorem dX9_unlitBy_93 : decode cX9_unlitBy 93 = .ok (.iconst 0, 1) := dk_3 (dk_at dksX9_unlitBy_4 0 rfl rfl)
theorem dX9_unlitBy_94 : decode cX9_unlitBy 94 = .ok (.istore 8, 2) := dk_54 8 (dk_at dksX9_unlitBy_4 1 rfl rfl)
theorem dX9_unlitBy_96 : decode cX9_unlitBy 96 = .ok (.iload_n 3, 1) := dk_29 (dk_at dksX9_unlitBy_4 3 rfl rfl)
theorem dX9_unlitBy_97 : decode cX9_unlitBy 97 = .ok (.iload 8, 2) := dk_21 8 (dk_at dksX9_unlitBy_4 4 rfl rfl)
theorem dX9_unlitBy_99 : decode cX9_unlitBy 99 = .ok (.ifCond .eq 12, 3) := dk_153 0 12 (dk_at dksX9_unlitBy_4 6 rfl rfl)
theorem dX9_unlitBy_102 : decode cX9_unlitBy 102 = .ok (.aload_n 0, 1) := dk_42 (dk_at dksX9_unlitBy_4 9 rfl rfl)
theorem dX9_unlitBy_103 : decode cX9_unlitBy 103 = .ok (.getfield 9, 3) := dk_180 0 9 (dk_at dksX9_unlitBy_4 10 rfl rfl)
theorem dX9_unlitBy_106 : decode cX9_unlitBy 106 = .ok (.iconst 3, 1) := dk_6 (dk_at dksX9_unlitBy_4 13 rfl rfl)
theorem dX9_unlitBy_107 : decode cX9_unlitBy 107 = .ok (.iaload, 1) := dk_46 (dk_at dksX9_unlitBy_4 14 rfl rfl)
theorem dX9_unlitBy_108 : decode cX9_unlitBy 108 = .ok (.goto 4, 3) := dk_167 0 4 (dk_at dksX9_unlitBy_4 15 rfl rfl)
theorem dX9_unlitBy_111 : decode cX9_unlitBy 111 = .ok (.iconst 0, 1) := dk_3 (dk_at dksX9_unlitBy_4 18 rfl rfl)
theorem dX9_unlitBy_112 : decode cX9_unlitBy 112 = .ok (.isub, 1) := dk_100 (dk_at dksX9_unlitBy_4 19 rfl rfl)
theorem dX9_unlitBy_113 : decode cX9_unlitBy 113 = .ok (.istore_n 3, 1) := dk_62 (dk_at dksX9_unlitBy_4 20 rfl rfl)
theorem dX9_unlitBy_114 : decode cX9_unlitBy 114 = .ok (.iload 8, 2) := dk_21 8 (dk_at dksX9_unlitBy_4 21 rfl rfl)
theorem dX9_unlitBy_116 : decode cX9_unlitBy 116 = .ok (.ifCond .eq 17, 3) := dk_153 0 17 (dk_at dksX9_unlitBy_5 0 rfl rfl)
theorem dX9_unlitBy_119 : decode cX9_unlitBy 119 = .ok (.aload_n 0, 1) := dk_42 (dk_at dksX9_unlitBy_5 3 rfl rfl)
theorem dX9_unlitBy_120 : decode cX9_unlitBy 120 = .ok (.getfield 32, 3) := dk_180 0 32 (dk_at dksX9_unlitBy_5 4 rfl rfl)
theorem dX9_unlitBy_123 : decode cX9_unlitBy 123 = .ok (.iload 7, 2) := dk_21 7 (dk_at dksX9_unlitBy_5 7 rfl rfl)
theorem dX9_unlitBy_125 : decode cX9_unlitBy 125 = .ok (.baload, 1) := dk_51 (dk_at dksX9_unlitBy_5 9 rfl rfl)
theorem dX9_unlitBy_126 : decode cX9_unlitBy 126 = .ok (.ifCond .ne 7, 3) := dk_154 0 7 (dk_at dksX9_unlitBy_5 10 rfl rfl)
theorem dX9_unlitBy_129 : decode cX9_unlitBy 129 = .ok (.iconst 1, 1) := dk_4 (dk_at dksX9_unlitBy_5 13 rfl rfl)
theorem dX9_unlitBy_130 : decode cX9_unlitBy 130 = .ok (.goto 4, 3) := dk_167 0 4 (dk_at dksX9_unlitBy_5 14 rfl rfl)
theorem dX9_unlitBy_133 : decode cX9_unlitBy 133 = .ok (.iconst 0, 1) := dk_3 (dk_at dksX9_unlitBy_5 17 rfl rfl)
theorem dX9_unlitBy_134 : decode cX9_unlitBy 134 = .ok (.istore 5, 2) := dk_54 5 (dk_at dksX9_unlitBy_5 18 rfl rfl)
theorem dX9_unlitBy_136 : decode cX9_unlitBy 136 = .ok (.iload 8, 2) := dk_21 8 (dk_at dksX9_unlitBy_5 20 rfl rfl)
theorem dX9_unlitBy_138 : decode cX9_unlitBy 138 = .ok (.istore 4, 2) := dk_54 4 (dk_at dksX9_unlitBy_5 22 rfl rfl)
theorem dX9_unlitBy_140 : decode cX9_unlitBy 140 = .ok (.iload 6, 2) := dk_21 6 (dk_at dksX9_unlitBy_6 0 rfl rfl)
theorem dX9_unlitBy_142 : decode cX9_unlitBy 142 = .ok (.aload_n 0, 1) := dk_42 (dk_at dksX9_unlitBy_6 2 rfl rfl)
theorem dX9_unlitBy_143 : decode cX9_unlitBy 143 = .ok (.getfield 28, 3) := dk_180 0 28 (dk_at dksX9_unlitBy_6 3 rfl rfl)
theorem dX9_unlitBy_146 : decode cX9_unlitBy 146 = .ok (.iload 7, 2) := dk_21 7 (dk_at dksX9_unlitBy_6 6 rfl rfl)
theorem dX9_unlitBy_148 : decode cX9_unlitBy 148 = .ok (.baload, 1) := dk_51 (dk_at dksX9_unlitBy_6 8 rfl rfl)
theorem dX9_unlitBy_149 : decode cX9_unlitBy 149 = .ok (.ifCond .eq 12, 3) := dk_153 0 12 (dk_at dksX9_unlitBy_6 9 rfl rfl)
theorem dX9_unlitBy_152 : decode cX9_unlitBy 152 = .ok (.iload 8, 2) := dk_21 8 (dk_at dksX9_unlitBy_6 12 rfl rfl)
theorem dX9_unlitBy_154 : decode cX9_unlitBy 154 = .ok (.ifCond .ne 7, 3) := dk_154 0 7 (dk_at dksX9_unlitBy_6 14 rfl rfl)
theorem dX9_unlitBy_157 : decode cX9_unlitBy 157 = .ok (.iconst 1, 1) := dk_4 (dk_at dksX9_unlitBy_6 17 rfl rfl)
theorem dX9_unlitBy_158 : decode cX9_unlitBy 158 = .ok (.goto 4, 3) := dk_167 0 4 (dk_at dksX9_unlitBy_6 18 rfl rfl)
theorem dX9_unlitBy_161 : decode cX9_unlitBy 161 = .ok (.iconst 0, 1) := dk_3 (dk_at dksX9_unlitBy_6 21 rfl rfl)
theorem dX9_unlitBy_162 : decode cX9_unlitBy 162 = .ok (.iadd, 1) := dk_96 (dk_at dksX9_unlitBy_6 22 rfl rfl)
theorem dX9_unlitBy_163 : decode cX9_unlitBy 163 = .ok (.istore 6, 2) := dk_54 6 (dk_at dksX9_unlitBy_7 0 rfl rfl)
theorem dX9_unlitBy_165 : decode cX9_unlitBy 165 = .ok (.aload_n 0, 1) := dk_42 (dk_at dksX9_unlitBy_7 2 rfl rfl)
theorem dX9_unlitBy_166 : decode cX9_unlitBy 166 = .ok (.getfield 35, 3) := dk_180 0 35 (dk_at dksX9_unlitBy_7 3 rfl rfl)
theorem dX9_unlitBy_169 : decode cX9_unlitBy 169 = .ok (.iload 7, 2) := dk_21 7 (dk_at dksX9_unlitBy_7 6 rfl rfl)
theorem dX9_unlitBy_171 : decode cX9_unlitBy 171 = .ok (.baload, 1) := dk_51 (dk_at dksX9_unlitBy_7 8 rfl rfl)
theorem dX9_unlitBy_172 : decode cX9_unlitBy 172 = .ok (.ifCond .eq 21, 3) := dk_153 0 21 (dk_at dksX9_unlitBy_7 9 rfl rfl)
theorem dX9_unlitBy_175 : decode cX9_unlitBy 175 = .ok (.sipush 9999, 3) := dk_17 39 15 (dk_at dksX9_unlitBy_7 12 rfl rfl)
theorem dX9_unlitBy_178 : decode cX9_unlitBy 178 = .ok (.iload_n 3, 1) := dk_29 (dk_at dksX9_unlitBy_7 15 rfl rfl)
theorem dX9_unlitBy_179 : decode cX9_unlitBy 179 = .ok (.aload_n 0, 1) := dk_42 (dk_at dksX9_unlitBy_7 16 rfl rfl)
theorem dX9_unlitBy_180 : decode cX9_unlitBy 180 = .ok (.getfield 9, 3) := dk_180 0 9 (dk_at dksX9_unlitBy_7 17 rfl rfl)
theorem dX9_unlitBy_183 : decode cX9_unlitBy 183 = .ok (.bipush 10, 2) := dk_16 10 (dk_at dksX9_unlitBy_7 20 rfl rfl)
theorem dX9_unlitBy_185 : decode cX9_unlitBy 185 = .ok (.iaload, 1) := dk_46 (dk_at dksX9_unlitBy_7 22 rfl rfl)
theorem dX9_unlitBy_186 : decode cX9_unlitBy 186 = .ok (.iadd, 1) := dk_96 (dk_at dksX9_unlitBy_7 23 rfl rfl)
theorem dX9_unlitBy_187 : decode cX9_unlitBy 187 = .ok (.invokestatic 111, 3) := dk_184 0 111 (dk_at dksX9_unlitBy_8 0 rfl rfl)
theorem dX9_unlitBy_190 : decode cX9_unlitBy 190 = .ok (.goto 4, 3) := dk_167 0 4 (dk_at dksX9_unlitBy_8 3 rfl rfl)
theorem dX9_unlitBy_193 : decode cX9_unlitBy 193 = .ok (.iload_n 3, 1) := dk_29 (dk_at dksX9_unlitBy_8 6 rfl rfl)
theorem dX9_unlitBy_194 : decode cX9_unlitBy 194 = .ok (.istore_n 3, 1) := dk_62 (dk_at dksX9_unlitBy_8 7 rfl rfl)
theorem dX9_unlitBy_195 : decode cX9_unlitBy 195 = .ok (.iinc 7 1, 3) := dk_132 7 1 (dk_at dksX9_unlitBy_8 8 rfl rfl)
theorem dX9_unlitBy_198 : decode cX9_unlitBy 198 = .ok (.goto (-155), 3) := dk_167 255 101 (dk_at dksX9_unlitBy_8 11 rfl rfl)
theorem dX9_unlitBy_201 : decode cX9_unlitBy 201 = .ok (.iload 6, 2) := dk_21 6 (dk_at dksX9_unlitBy_8 14 rfl rfl)
theorem dX9_unlitBy_203 : decode cX9_unlitBy 203 = .ok (.ireturn, 1) := dk_172 (dk_at dksX9_unlitBy_8 16 rfl rfl)
abbrev cX9_better : ByteArray := prog_34_method_57_code
def yX9_better : MethodName := ⟨RX9, "better", "(II)I"⟩
def dkwX9_better_5 : List UInt8 := [167, 255, 208, 42, 180, 0, 9, 16, 85, 27, 96, 29, 79, 21, 5, 172]
abbrev dktX9_better_5 : List UInt8 := dkwX9_better_5 ++ []
def dkwX9_better_4 : List UInt8 := [28, 182, 0, 219, 54, 7, 21, 7, 21, 4, 162, 0, 11, 21, 7, 54, 4, 21, 6, 54, 5, 132, 6, 1]
abbrev dktX9_better_4 : List UInt8 := dkwX9_better_4 ++ dktX9_better_5
def dkwX9_better_3 : List UInt8 := [21, 6, 42, 180, 0, 9, 16, 13, 46, 162, 0, 42, 42, 180, 0, 9, 16, 85, 27, 96, 21, 6, 79, 42]
abbrev dktX9_better_3 : List UInt8 := dkwX9_better_3 ++ dktX9_better_4
def dkwX9_better_2 : List UInt8 := [42, 180, 0, 9, 16, 85, 27, 96, 46, 62, 42, 28, 182, 0, 219, 54, 4, 2, 54, 5, 3, 54, 6]
abbrev dktX9_better_2 : List UInt8 := dkwX9_better_2 ++ dktX9_better_3
def dkwX9_better_1 : List UInt8 := [42, 16, 154, 182, 0, 132, 172, 42, 180, 0, 9, 16, 13, 46, 154, 0, 10, 42, 16, 151, 182, 0, 132, 172]
abbrev dktX9_better_1 : List UInt8 := dkwX9_better_1 ++ dktX9_better_2
def dkwX9_better_0 : List UInt8 := [27, 133, 9, 20, 0, 158, 184, 0, 54, 153, 0, 15, 28, 133, 9, 20, 0, 194, 184, 0, 54, 154, 0, 10]
abbrev dktX9_better_0 : List UInt8 := dkwX9_better_0 ++ dktX9_better_1
theorem dksX9_better_0 : cX9_better.data.toList.drop 0 = dktX9_better_0 := by decide +kernel
theorem dksX9_better_1 : cX9_better.data.toList.drop 24 = dktX9_better_1 := dk_seg dksX9_better_0 24 rfl rfl
theorem dksX9_better_2 : cX9_better.data.toList.drop 48 = dktX9_better_2 := dk_seg dksX9_better_1 24 rfl rfl
theorem dksX9_better_3 : cX9_better.data.toList.drop 71 = dktX9_better_3 := dk_seg dksX9_better_2 23 rfl rfl
theorem dksX9_better_4 : cX9_better.data.toList.drop 95 = dktX9_better_4 := dk_seg dksX9_better_3 24 rfl rfl
theorem dksX9_better_5 : cX9_better.data.toList.drop 119 = dktX9_better_5 := dk_seg dksX9_better_4 24 rfl rfl
theorem dX9_better_0 : decode cX9_better 0 = .ok (.iload_n 1, 1) := dk_27 (dk_at dksX9_better_0 0 rfl rfl)
theorem dX9_better_1 : decode cX9_better 1 = .ok (.i2l, 1) := dk_133 (dk_at dksX9_better_0 1 rfl rfl)
theorem dX9_better_2 : decode cX9_better 2 = .ok (.lconst 0, 1) := dk_9 (dk_at dksX9_better_0 2 rfl rfl)
theorem dX9_better_3 : decode cX9_better 3 = .ok (.ldc2_w 158, 3) := dk_20 0 158 (dk_at dksX9_better_0 3 rfl rfl)
theorem dX9_better_6 : decode cX9_better 6 = .ok (.invokestatic 54, 3) := dk_184 0 54 (dk_at dksX9_better_0 6 rfl rfl)
theorem dX9_better_9 : decode cX9_better 9 = .ok (.ifCond .eq 15, 3) := dk_153 0 15 (dk_at dksX9_better_0 9 rfl rfl)
theorem dX9_better_12 : decode cX9_better 12 = .ok (.iload_n 2, 1) := dk_28 (dk_at dksX9_better_0 12 rfl rfl)
theorem dX9_better_13 : decode cX9_better 13 = .ok (.i2l, 1) := dk_133 (dk_at dksX9_better_0 13 rfl rfl)
theorem dX9_better_14 : decode cX9_better 14 = .ok (.lconst 0, 1) := dk_9 (dk_at dksX9_better_0 14 rfl rfl)
theorem dX9_better_15 : decode cX9_better 15 = .ok (.ldc2_w 194, 3) := dk_20 0 194 (dk_at dksX9_better_0 15 rfl rfl)
theorem dX9_better_18 : decode cX9_better 18 = .ok (.invokestatic 54, 3) := dk_184 0 54 (dk_at dksX9_better_0 18 rfl rfl)
theorem dX9_better_21 : decode cX9_better 21 = .ok (.ifCond .ne 10, 3) := dk_154 0 10 (dk_at dksX9_better_0 21 rfl rfl)
theorem dX9_better_24 : decode cX9_better 24 = .ok (.aload_n 0, 1) := dk_42 (dk_at dksX9_better_1 0 rfl rfl)
theorem dX9_better_25 : decode cX9_better 25 = .ok (.bipush (-102), 2) := dk_16 154 (dk_at dksX9_better_1 1 rfl rfl)
theorem dX9_better_27 : decode cX9_better 27 = .ok (.invokevirtual 132, 3) := dk_182 0 132 (dk_at dksX9_better_1 3 rfl rfl)
theorem dX9_better_30 : decode cX9_better 30 = .ok (.ireturn, 1) := dk_172 (dk_at dksX9_better_1 6 rfl rfl)
theorem dX9_better_31 : decode cX9_better 31 = .ok (.aload_n 0, 1) := dk_42 (dk_at dksX9_better_1 7 rfl rfl)
theorem dX9_better_32 : decode cX9_better 32 = .ok (.getfield 9, 3) := dk_180 0 9 (dk_at dksX9_better_1 8 rfl rfl)
theorem dX9_better_35 : decode cX9_better 35 = .ok (.bipush 13, 2) := dk_16 13 (dk_at dksX9_better_1 11 rfl rfl)
theorem dX9_better_37 : decode cX9_better 37 = .ok (.iaload, 1) := dk_46 (dk_at dksX9_better_1 13 rfl rfl)
theorem dX9_better_38 : decode cX9_better 38 = .ok (.ifCond .ne 10, 3) := dk_154 0 10 (dk_at dksX9_better_1 14 rfl rfl)
theorem dX9_better_41 : decode cX9_better 41 = .ok (.aload_n 0, 1) := dk_42 (dk_at dksX9_better_1 17 rfl rfl)
theorem dX9_better_42 : decode cX9_better 42 = .ok (.bipush (-105), 2) := dk_16 151 (dk_at dksX9_better_1 18 rfl rfl)
theorem dX9_better_44 : decode cX9_better 44 = .ok (.invokevirtual 132, 3) := dk_182 0 132 (dk_at dksX9_better_1 20 rfl rfl)
theorem dX9_better_47 : decode cX9_better 47 = .ok (.ireturn, 1) := dk_172 (dk_at dksX9_better_1 23 rfl rfl)
theorem dX9_better_48 : decode cX9_better 48 = .ok (.aload_n 0, 1) := dk_42 (dk_at dksX9_better_2 0 rfl rfl)
theorem dX9_better_49 : decode cX9_better 49 = .ok (.getfield 9, 3) := dk_180 0 9 (dk_at dksX9_better_2 1 rfl rfl)
theorem dX9_better_52 : decode cX9_better 52 = .ok (.bipush 85, 2) := dk_16 85 (dk_at dksX9_better_2 4 rfl rfl)
theorem dX9_better_54 : decode cX9_better 54 = .ok (.iload_n 1, 1) := dk_27 (dk_at dksX9_better_2 6 rfl rfl)
theorem dX9_better_55 : decode cX9_better 55 = .ok (.iadd, 1) := dk_96 (dk_at dksX9_better_2 7 rfl rfl)
theorem dX9_better_56 : decode cX9_better 56 = .ok (.iaload, 1) := dk_46 (dk_at dksX9_better_2 8 rfl rfl)
theorem dX9_better_57 : decode cX9_better 57 = .ok (.istore_n 3, 1) := dk_62 (dk_at dksX9_better_2 9 rfl rfl)
theorem dX9_better_58 : decode cX9_better 58 = .ok (.aload_n 0, 1) := dk_42 (dk_at dksX9_better_2 10 rfl rfl)
theorem dX9_better_59 : decode cX9_better 59 = .ok (.iload_n 2, 1) := dk_28 (dk_at dksX9_better_2 11 rfl rfl)
theorem dX9_better_60 : decode cX9_better 60 = .ok (.invokevirtual 219, 3) := dk_182 0 219 (dk_at dksX9_better_2 12 rfl rfl)
theorem dX9_better_63 : decode cX9_better 63 = .ok (.istore 4, 2) := dk_54 4 (dk_at dksX9_better_2 15 rfl rfl)
theorem dX9_better_65 : decode cX9_better 65 = .ok (.iconst (-1), 1) := dk_2 (dk_at dksX9_better_2 17 rfl rfl)
theorem dX9_better_66 : decode cX9_better 66 = .ok (.istore 5, 2) := dk_54 5 (dk_at dksX9_better_2 18 rfl rfl)
theorem dX9_better_68 : decode cX9_better 68 = .ok (.iconst 0, 1) := dk_3 (dk_at dksX9_better_2 20 rfl rfl)
theorem dX9_better_69 : decode cX9_better 69 = .ok (.istore 6, 2) := dk_54 6 (dk_at dksX9_better_2 21 rfl rfl)
theorem dX9_better_71 : decode cX9_better 71 = .ok (.iload 6, 2) := dk_21 6 (dk_at dksX9_better_3 0 rfl rfl)
theorem dX9_better_73 : decode cX9_better 73 = .ok (.aload_n 0, 1) := dk_42 (dk_at dksX9_better_3 2 rfl rfl)
theorem dX9_better_74 : decode cX9_better 74 = .ok (.getfield 9, 3) := dk_180 0 9 (dk_at dksX9_better_3 3 rfl rfl)
theorem dX9_better_77 : decode cX9_better 77 = .ok (.bipush 13, 2) := dk_16 13 (dk_at dksX9_better_3 6 rfl rfl)
theorem dX9_better_79 : decode cX9_better 79 = .ok (.iaload, 1) := dk_46 (dk_at dksX9_better_3 8 rfl rfl)
theorem dX9_better_80 : decode cX9_better 80 = .ok (.if_icmp .ge 42, 3) := dk_162 0 42 (dk_at dksX9_better_3 9 rfl rfl)
theorem dX9_better_83 : decode cX9_better 83 = .ok (.aload_n 0, 1) := dk_42 (dk_at dksX9_better_3 12 rfl rfl)
theorem dX9_better_84 : decode cX9_better 84 = .ok (.getfield 9, 3) := dk_180 0 9 (dk_at dksX9_better_3 13 rfl rfl)
theorem dX9_better_87 : decode cX9_better 87 = .ok (.bipush 85, 2) := dk_16 85 (dk_at dksX9_better_3 16 rfl rfl)
theorem dX9_better_89 : decode cX9_better 89 = .ok (.iload_n 1, 1) := dk_27 (dk_at dksX9_better_3 18 rfl rfl)
theorem dX9_better_90 : decode cX9_better 90 = .ok (.iadd, 1) := dk_96 (dk_at dksX9_better_3 19 rfl rfl)
theorem dX9_better_91 : decode cX9_better 91 = .ok (.iload 6, 2) := dk_21 6 (dk_at dksX9_better_3 20 rfl rfl)
theorem dX9_better_93 : decode cX9_better 93 = .ok (.iastore, 1) := dk_79 (dk_at dksX9_better_3 22 rfl rfl)
theorem dX9_better_94 : decode cX9_better 94 = .ok (.aload_n 0, 1) := dk_42 (dk_at dksX9_better_3 23 rfl rfl)
theorem dX9_better_95 : decode cX9_better 95 = .ok (.iload_n 2, 1) := dk_28 (dk_at dksX9_better_4 0 rfl rfl)
theorem dX9_better_96 : decode cX9_better 96 = .ok (.invokevirtual 219, 3) := dk_182 0 219 (dk_at dksX9_better_4 1 rfl rfl)
theorem dX9_better_99 : decode cX9_better 99 = .ok (.istore 7, 2) := dk_54 7 (dk_at dksX9_better_4 4 rfl rfl)
theorem dX9_better_101 : decode cX9_better 101 = .ok (.iload 7, 2) := dk_21 7 (dk_at dksX9_better_4 6 rfl rfl)
theorem dX9_better_103 : decode cX9_better 103 = .ok (.iload 4, 2) := dk_21 4 (dk_at dksX9_better_4 8 rfl rfl)
theorem dX9_better_105 : decode cX9_better 105 = .ok (.if_icmp .ge 11, 3) := dk_162 0 11 (dk_at dksX9_better_4 10 rfl rfl)
theorem dX9_better_108 : decode cX9_better 108 = .ok (.iload 7, 2) := dk_21 7 (dk_at dksX9_better_4 13 rfl rfl)
theorem dX9_better_110 : decode cX9_better 110 = .ok (.istore 4, 2) := dk_54 4 (dk_at dksX9_better_4 15 rfl rfl)
theorem dX9_better_112 : decode cX9_better 112 = .ok (.iload 6, 2) := dk_21 6 (dk_at dksX9_better_4 17 rfl rfl)
theorem dX9_better_114 : decode cX9_better 114 = .ok (.istore 5, 2) := dk_54 5 (dk_at dksX9_better_4 19 rfl rfl)
theorem dX9_better_116 : decode cX9_better 116 = .ok (.iinc 6 1, 3) := dk_132 6 1 (dk_at dksX9_better_4 21 rfl rfl)
theorem dX9_better_119 : decode cX9_better 119 = .ok (.goto (-48), 3) := dk_167 255 208 (dk_at dksX9_better_5 0 rfl rfl)
theorem dX9_better_122 : decode cX9_better 122 = .ok (.aload_n 0, 1) := dk_42 (dk_at dksX9_better_5 3 rfl rfl)
theorem dX9_better_123 : decode cX9_better 123 = .ok (.getfield 9, 3) := dk_180 0 9 (dk_at dksX9_better_5 4 rfl rfl)
theorem dX9_better_126 : decode cX9_better 126 = .ok (.bipush 85, 2) := dk_16 85 (dk_at dksX9_better_5 7 rfl rfl)
theorem dX9_better_128 : decode cX9_better 128 = .ok (.iload_n 1, 1) := dk_27 (dk_at dksX9_better_5 9 rfl rfl)
theorem dX9_better_129 : decode cX9_better 129 = .ok (.iadd, 1) := dk_96 (dk_at dksX9_better_5 10 rfl rfl)
theorem dX9_better_130 : decode cX9_better 130 = .ok (.iload_n 3, 1) := dk_29 (dk_at dksX9_better_5 11 rfl rfl)
theorem dX9_better_131 : decode cX9_better 131 = .ok (.iastore, 1) := dk_79 (dk_at dksX9_better_5 12 rfl rfl)
theorem dX9_better_132 : decode cX9_better 132 = .ok (.iload 5, 2) := dk_21 5 (dk_at dksX9_better_5 13 rfl rfl)
theorem dX9_better_134 : decode cX9_better 134 = .ok (.ireturn, 1) := dk_172 (dk_at dksX9_better_5 15 rfl rfl)
abbrev cX9_unlitOf : ByteArray := prog_34_method_21_code
def yX9_unlitOf : MethodName := ⟨RX9, "unlitOf", "(I)I"⟩
def dkwX9_unlitOf_1 : List UInt8 := [180, 0, 9, 184, 0, 123, 28, 172]
abbrev dktX9_unlitOf_1 : List UInt8 := dkwX9_unlitOf_1 ++ []
def dkwX9_unlitOf_0 : List UInt8 := [42, 180, 0, 9, 42, 180, 0, 13, 184, 0, 123, 42, 27, 182, 0, 127, 61, 42, 180, 0, 13, 42]
abbrev dktX9_unlitOf_0 : List UInt8 := dkwX9_unlitOf_0 ++ dktX9_unlitOf_1
theorem dksX9_unlitOf_0 : cX9_unlitOf.data.toList.drop 0 = dktX9_unlitOf_0 := by decide +kernel
theorem dksX9_unlitOf_1 : cX9_unlitOf.data.toList.drop 22 = dktX9_unlitOf_1 := dk_seg dksX9_unlitOf_0 22 rfl rfl
theorem dX9_unlitOf_0 : decode cX9_unlitOf 0 = .ok (.aload_n 0, 1) := dk_42 (dk_at dksX9_unlitOf_0 0 rfl rfl)
theorem dX9_unlitOf_1 : decode cX9_unlitOf 1 = .ok (.getfield 9, 3) := dk_180 0 9 (dk_at dksX9_unlitOf_0 1 rfl rfl)
theorem dX9_unlitOf_4 : decode cX9_unlitOf 4 = .ok (.aload_n 0, 1) := dk_42 (dk_at dksX9_unlitOf_0 4 rfl rfl)
theorem dX9_unlitOf_5 : decode cX9_unlitOf 5 = .ok (.getfield 13, 3) := dk_180 0 13 (dk_at dksX9_unlitOf_0 5 rfl rfl)
theorem dX9_unlitOf_8 : decode cX9_unlitOf 8 = .ok (.invokestatic 123, 3) := dk_184 0 123 (dk_at dksX9_unlitOf_0 8 rfl rfl)
theorem dX9_unlitOf_11 : decode cX9_unlitOf 11 = .ok (.aload_n 0, 1) := dk_42 (dk_at dksX9_unlitOf_0 11 rfl rfl)
theorem dX9_unlitOf_12 : decode cX9_unlitOf 12 = .ok (.iload_n 1, 1) := dk_27 (dk_at dksX9_unlitOf_0 12 rfl rfl)
theorem dX9_unlitOf_13 : decode cX9_unlitOf 13 = .ok (.invokevirtual 127, 3) := dk_182 0 127 (dk_at dksX9_unlitOf_0 13 rfl rfl)
theorem dX9_unlitOf_16 : decode cX9_unlitOf 16 = .ok (.istore_n 2, 1) := dk_61 (dk_at dksX9_unlitOf_0 16 rfl rfl)
theorem dX9_unlitOf_17 : decode cX9_unlitOf 17 = .ok (.aload_n 0, 1) := dk_42 (dk_at dksX9_unlitOf_0 17 rfl rfl)
theorem dX9_unlitOf_18 : decode cX9_unlitOf 18 = .ok (.getfield 13, 3) := dk_180 0 13 (dk_at dksX9_unlitOf_0 18 rfl rfl)
theorem dX9_unlitOf_21 : decode cX9_unlitOf 21 = .ok (.aload_n 0, 1) := dk_42 (dk_at dksX9_unlitOf_0 21 rfl rfl)
theorem dX9_unlitOf_22 : decode cX9_unlitOf 22 = .ok (.getfield 9, 3) := dk_180 0 9 (dk_at dksX9_unlitOf_1 0 rfl rfl)
theorem dX9_unlitOf_25 : decode cX9_unlitOf 25 = .ok (.invokestatic 123, 3) := dk_184 0 123 (dk_at dksX9_unlitOf_1 3 rfl rfl)
theorem dX9_unlitOf_28 : decode cX9_unlitOf 28 = .ok (.iload_n 2, 1) := dk_28 (dk_at dksX9_unlitOf_1 6 rfl rfl)
theorem dX9_unlitOf_29 : decode cX9_unlitOf 29 = .ok (.ireturn, 1) := dk_172 (dk_at dksX9_unlitOf_1 7 rfl rfl)
abbrev cX9_other : ByteArray := prog_34_method_59_code
def yX9_other : MethodName := ⟨RX9, "other", "(II)I"⟩
def dkwX9_other_3 : List UInt8 := [21, 4, 100, 172]
abbrev dktX9_other_3 : List UInt8 := dkwX9_other_3 ++ []
def dkwX9_other_2 : List UInt8 := [3, 182, 0, 222, 42, 27, 182, 0, 171, 42, 28, 182, 0, 219, 54, 5, 42, 4, 182, 0, 222, 21, 5]
abbrev dktX9_other_2 : List UInt8 := dkwX9_other_2 ++ dktX9_other_3
def dkwX9_other_1 : List UInt8 := [167, 0, 5, 16, 154, 62, 29, 156, 0, 9, 42, 29, 182, 0, 132, 172, 42, 28, 182, 0, 219, 54, 4, 42]
abbrev dktX9_other_1 : List UInt8 := dkwX9_other_1 ++ dktX9_other_2
def dkwX9_other_0 : List UInt8 := [28, 133, 9, 20, 0, 194, 184, 0, 54, 153, 0, 18, 27, 184, 0, 165, 153, 0, 11, 42, 27, 182, 0, 168]
abbrev dktX9_other_0 : List UInt8 := dkwX9_other_0 ++ dktX9_other_1
theorem dksX9_other_0 : cX9_other.data.toList.drop 0 = dktX9_other_0 := by decide +kernel
theorem dksX9_other_1 : cX9_other.data.toList.drop 24 = dktX9_other_1 := dk_seg dksX9_other_0 24 rfl rfl
theorem dksX9_other_2 : cX9_other.data.toList.drop 48 = dktX9_other_2 := dk_seg dksX9_other_1 24 rfl rfl
theorem dksX9_other_3 : cX9_other.data.toList.drop 71 = dktX9_other_3 := dk_seg dksX9_other_2 23 rfl rfl
theorem dX9_other_0 : decode cX9_other 0 = .ok (.iload_n 2, 1) := dk_28 (dk_at dksX9_other_0 0 rfl rfl)
theorem dX9_other_1 : decode cX9_other 1 = .ok (.i2l, 1) := dk_133 (dk_at dksX9_other_0 1 rfl rfl)
theorem dX9_other_2 : decode cX9_other 2 = .ok (.lconst 0, 1) := dk_9 (dk_at dksX9_other_0 2 rfl rfl)
theorem dX9_other_3 : decode cX9_other 3 = .ok (.ldc2_w 194, 3) := dk_20 0 194 (dk_at dksX9_other_0 3 rfl rfl)
theorem dX9_other_6 : decode cX9_other 6 = .ok (.invokestatic 54, 3) := dk_184 0 54 (dk_at dksX9_other_0 6 rfl rfl)
theorem dX9_other_9 : decode cX9_other 9 = .ok (.ifCond .eq 18, 3) := dk_153 0 18 (dk_at dksX9_other_0 9 rfl rfl)
theorem dX9_other_12 : decode cX9_other 12 = .ok (.iload_n 1, 1) := dk_27 (dk_at dksX9_other_0 12 rfl rfl)
theorem dX9_other_13 : decode cX9_other 13 = .ok (.invokestatic 165, 3) := dk_184 0 165 (dk_at dksX9_other_0 13 rfl rfl)
theorem dX9_other_16 : decode cX9_other 16 = .ok (.ifCond .eq 11, 3) := dk_153 0 11 (dk_at dksX9_other_0 16 rfl rfl)
theorem dX9_other_19 : decode cX9_other 19 = .ok (.aload_n 0, 1) := dk_42 (dk_at dksX9_other_0 19 rfl rfl)
theorem dX9_other_20 : decode cX9_other 20 = .ok (.iload_n 1, 1) := dk_27 (dk_at dksX9_other_0 20 rfl rfl)
theorem dX9_other_21 : decode cX9_other 21 = .ok (.invokevirtual 168, 3) := dk_182 0 168 (dk_at dksX9_other_0 21 rfl rfl)
theorem dX9_other_24 : decode cX9_other 24 = .ok (.goto 5, 3) := dk_167 0 5 (dk_at dksX9_other_1 0 rfl rfl)
theorem dX9_other_27 : decode cX9_other 27 = .ok (.bipush (-102), 2) := dk_16 154 (dk_at dksX9_other_1 3 rfl rfl)
theorem dX9_other_29 : decode cX9_other 29 = .ok (.istore_n 3, 1) := dk_62 (dk_at dksX9_other_1 5 rfl rfl)
theorem dX9_other_30 : decode cX9_other 30 = .ok (.iload_n 3, 1) := dk_29 (dk_at dksX9_other_1 6 rfl rfl)
theorem dX9_other_31 : decode cX9_other 31 = .ok (.ifCond .ge 9, 3) := dk_156 0 9 (dk_at dksX9_other_1 7 rfl rfl)
theorem dX9_other_34 : decode cX9_other 34 = .ok (.aload_n 0, 1) := dk_42 (dk_at dksX9_other_1 10 rfl rfl)
theorem dX9_other_35 : decode cX9_other 35 = .ok (.iload_n 3, 1) := dk_29 (dk_at dksX9_other_1 11 rfl rfl)
theorem dX9_other_36 : decode cX9_other 36 = .ok (.invokevirtual 132, 3) := dk_182 0 132 (dk_at dksX9_other_1 12 rfl rfl)
theorem dX9_other_39 : decode cX9_other 39 = .ok (.ireturn, 1) := dk_172 (dk_at dksX9_other_1 15 rfl rfl)
theorem dX9_other_40 : decode cX9_other 40 = .ok (.aload_n 0, 1) := dk_42 (dk_at dksX9_other_1 16 rfl rfl)
theorem dX9_other_41 : decode cX9_other 41 = .ok (.iload_n 2, 1) := dk_28 (dk_at dksX9_other_1 17 rfl rfl)
theorem dX9_other_42 : decode cX9_other 42 = .ok (.invokevirtual 219, 3) := dk_182 0 219 (dk_at dksX9_other_1 18 rfl rfl)
theorem dX9_other_45 : decode cX9_other 45 = .ok (.istore 4, 2) := dk_54 4 (dk_at dksX9_other_1 21 rfl rfl)
theorem dX9_other_47 : decode cX9_other 47 = .ok (.aload_n 0, 1) := dk_42 (dk_at dksX9_other_1 23 rfl rfl)
theorem dX9_other_48 : decode cX9_other 48 = .ok (.iconst 0, 1) := dk_3 (dk_at dksX9_other_2 0 rfl rfl)
theorem dX9_other_49 : decode cX9_other 49 = .ok (.invokevirtual 222, 3) := dk_182 0 222 (dk_at dksX9_other_2 1 rfl rfl)
theorem dX9_other_52 : decode cX9_other 52 = .ok (.aload_n 0, 1) := dk_42 (dk_at dksX9_other_2 4 rfl rfl)
theorem dX9_other_53 : decode cX9_other 53 = .ok (.iload_n 1, 1) := dk_27 (dk_at dksX9_other_2 5 rfl rfl)
theorem dX9_other_54 : decode cX9_other 54 = .ok (.invokevirtual 171, 3) := dk_182 0 171 (dk_at dksX9_other_2 6 rfl rfl)
theorem dX9_other_57 : decode cX9_other 57 = .ok (.aload_n 0, 1) := dk_42 (dk_at dksX9_other_2 9 rfl rfl)
theorem dX9_other_58 : decode cX9_other 58 = .ok (.iload_n 2, 1) := dk_28 (dk_at dksX9_other_2 10 rfl rfl)
theorem dX9_other_59 : decode cX9_other 59 = .ok (.invokevirtual 219, 3) := dk_182 0 219 (dk_at dksX9_other_2 11 rfl rfl)
theorem dX9_other_62 : decode cX9_other 62 = .ok (.istore 5, 2) := dk_54 5 (dk_at dksX9_other_2 14 rfl rfl)
theorem dX9_other_64 : decode cX9_other 64 = .ok (.aload_n 0, 1) := dk_42 (dk_at dksX9_other_2 16 rfl rfl)
theorem dX9_other_65 : decode cX9_other 65 = .ok (.iconst 1, 1) := dk_4 (dk_at dksX9_other_2 17 rfl rfl)
theorem dX9_other_66 : decode cX9_other 66 = .ok (.invokevirtual 222, 3) := dk_182 0 222 (dk_at dksX9_other_2 18 rfl rfl)
theorem dX9_other_69 : decode cX9_other 69 = .ok (.iload 5, 2) := dk_21 5 (dk_at dksX9_other_2 21 rfl rfl)
theorem dX9_other_71 : decode cX9_other 71 = .ok (.iload 4, 2) := dk_21 4 (dk_at dksX9_other_3 0 rfl rfl)
theorem dX9_other_73 : decode cX9_other 73 = .ok (.isub, 1) := dk_100 (dk_at dksX9_other_3 2 rfl rfl)
theorem dX9_other_74 : decode cX9_other 74 = .ok (.ireturn, 1) := dk_172 (dk_at dksX9_other_3 3 rfl rfl)
abbrev cX9_keepsPlan : ByteArray := prog_34_method_58_code
def yX9_keepsPlan : MethodName := ⟨RX9, "keepsPlan", "(Z)V"⟩
def dkwX9_keepsPlan_2 : List UInt8 := [167, 255, 210, 177]
abbrev dktX9_keepsPlan_2 : List UInt8 := dkwX9_keepsPlan_2 ++ []
def dkwX9_keepsPlan_1 : List UInt8 := [28, 46, 79, 167, 0, 18, 42, 180, 0, 38, 28, 42, 180, 0, 9, 16, 85, 28, 96, 46, 79, 132, 2, 1]
abbrev dktX9_keepsPlan_1 : List UInt8 := dkwX9_keepsPlan_1 ++ dktX9_keepsPlan_2
def dkwX9_keepsPlan_0 : List UInt8 := [3, 61, 28, 16, 24, 162, 0, 46, 27, 153, 0, 21, 42, 180, 0, 9, 16, 85, 28, 96, 42, 180, 0, 38]
abbrev dktX9_keepsPlan_0 : List UInt8 := dkwX9_keepsPlan_0 ++ dktX9_keepsPlan_1
theorem dksX9_keepsPlan_0 : cX9_keepsPlan.data.toList.drop 0 = dktX9_keepsPlan_0 := by decide +kernel
theorem dksX9_keepsPlan_1 : cX9_keepsPlan.data.toList.drop 24 = dktX9_keepsPlan_1 := dk_seg dksX9_keepsPlan_0 24 rfl rfl
theorem dksX9_keepsPlan_2 : cX9_keepsPlan.data.toList.drop 48 = dktX9_keepsPlan_2 := dk_seg dksX9_keepsPlan_1 24 rfl rfl
theorem dX9_keepsPlan_0 : decode cX9_keepsPlan 0 = .ok (.iconst 0, 1) := dk_3 (dk_at dksX9_keepsPlan_0 0 rfl rfl)
theorem dX9_keepsPlan_1 : decode cX9_keepsPlan 1 = .ok (.istore_n 2, 1) := dk_61 (dk_at dksX9_keepsPlan_0 1 rfl rfl)
theorem dX9_keepsPlan_2 : decode cX9_keepsPlan 2 = .ok (.iload_n 2, 1) := dk_28 (dk_at dksX9_keepsPlan_0 2 rfl rfl)
theorem dX9_keepsPlan_3 : decode cX9_keepsPlan 3 = .ok (.bipush 24, 2) := dk_16 24 (dk_at dksX9_keepsPlan_0 3 rfl rfl)
theorem dX9_keepsPlan_5 : decode cX9_keepsPlan 5 = .ok (.if_icmp .ge 46, 3) := dk_162 0 46 (dk_at dksX9_keepsPlan_0 5 rfl rfl)
theorem dX9_keepsPlan_8 : decode cX9_keepsPlan 8 = .ok (.iload_n 1, 1) := dk_27 (dk_at dksX9_keepsPlan_0 8 rfl rfl)
theorem dX9_keepsPlan_9 : decode cX9_keepsPlan 9 = .ok (.ifCond .eq 21, 3) := dk_153 0 21 (dk_at dksX9_keepsPlan_0 9 rfl rfl)
theorem dX9_keepsPlan_12 : decode cX9_keepsPlan 12 = .ok (.aload_n 0, 1) := dk_42 (dk_at dksX9_keepsPlan_0 12 rfl rfl)
theorem dX9_keepsPlan_13 : decode cX9_keepsPlan 13 = .ok (.getfield 9, 3) := dk_180 0 9 (dk_at dksX9_keepsPlan_0 13 rfl rfl)
theorem dX9_keepsPlan_16 : decode cX9_keepsPlan 16 = .ok (.bipush 85, 2) := dk_16 85 (dk_at dksX9_keepsPlan_0 16 rfl rfl)
theorem dX9_keepsPlan_18 : decode cX9_keepsPlan 18 = .ok (.iload_n 2, 1) := dk_28 (dk_at dksX9_keepsPlan_0 18 rfl rfl)
theorem dX9_keepsPlan_19 : decode cX9_keepsPlan 19 = .ok (.iadd, 1) := dk_96 (dk_at dksX9_keepsPlan_0 19 rfl rfl)
theorem dX9_keepsPlan_20 : decode cX9_keepsPlan 20 = .ok (.aload_n 0, 1) := dk_42 (dk_at dksX9_keepsPlan_0 20 rfl rfl)
theorem dX9_keepsPlan_21 : decode cX9_keepsPlan 21 = .ok (.getfield 38, 3) := dk_180 0 38 (dk_at dksX9_keepsPlan_0 21 rfl rfl)
theorem dX9_keepsPlan_24 : decode cX9_keepsPlan 24 = .ok (.iload_n 2, 1) := dk_28 (dk_at dksX9_keepsPlan_1 0 rfl rfl)
theorem dX9_keepsPlan_25 : decode cX9_keepsPlan 25 = .ok (.iaload, 1) := dk_46 (dk_at dksX9_keepsPlan_1 1 rfl rfl)
theorem dX9_keepsPlan_26 : decode cX9_keepsPlan 26 = .ok (.iastore, 1) := dk_79 (dk_at dksX9_keepsPlan_1 2 rfl rfl)
theorem dX9_keepsPlan_27 : decode cX9_keepsPlan 27 = .ok (.goto 18, 3) := dk_167 0 18 (dk_at dksX9_keepsPlan_1 3 rfl rfl)
theorem dX9_keepsPlan_30 : decode cX9_keepsPlan 30 = .ok (.aload_n 0, 1) := dk_42 (dk_at dksX9_keepsPlan_1 6 rfl rfl)
theorem dX9_keepsPlan_31 : decode cX9_keepsPlan 31 = .ok (.getfield 38, 3) := dk_180 0 38 (dk_at dksX9_keepsPlan_1 7 rfl rfl)
theorem dX9_keepsPlan_34 : decode cX9_keepsPlan 34 = .ok (.iload_n 2, 1) := dk_28 (dk_at dksX9_keepsPlan_1 10 rfl rfl)
theorem dX9_keepsPlan_35 : decode cX9_keepsPlan 35 = .ok (.aload_n 0, 1) := dk_42 (dk_at dksX9_keepsPlan_1 11 rfl rfl)
theorem dX9_keepsPlan_36 : decode cX9_keepsPlan 36 = .ok (.getfield 9, 3) := dk_180 0 9 (dk_at dksX9_keepsPlan_1 12 rfl rfl)
theorem dX9_keepsPlan_39 : decode cX9_keepsPlan 39 = .ok (.bipush 85, 2) := dk_16 85 (dk_at dksX9_keepsPlan_1 15 rfl rfl)
theorem dX9_keepsPlan_41 : decode cX9_keepsPlan 41 = .ok (.iload_n 2, 1) := dk_28 (dk_at dksX9_keepsPlan_1 17 rfl rfl)
theorem dX9_keepsPlan_42 : decode cX9_keepsPlan 42 = .ok (.iadd, 1) := dk_96 (dk_at dksX9_keepsPlan_1 18 rfl rfl)
theorem dX9_keepsPlan_43 : decode cX9_keepsPlan 43 = .ok (.iaload, 1) := dk_46 (dk_at dksX9_keepsPlan_1 19 rfl rfl)
theorem dX9_keepsPlan_44 : decode cX9_keepsPlan 44 = .ok (.iastore, 1) := dk_79 (dk_at dksX9_keepsPlan_1 20 rfl rfl)
theorem dX9_keepsPlan_45 : decode cX9_keepsPlan 45 = .ok (.iinc 2 1, 3) := dk_132 2 1 (dk_at dksX9_keepsPlan_1 21 rfl rfl)
theorem dX9_keepsPlan_48 : decode cX9_keepsPlan 48 = .ok (.goto (-46), 3) := dk_167 255 210 (dk_at dksX9_keepsPlan_2 0 rfl rfl)
theorem dX9_keepsPlan_51 : decode cX9_keepsPlan 51 = .ok (.return_, 1) := dk_177 (dk_at dksX9_keepsPlan_2 3 rfl rfl)
abbrev cX9_idle : ByteArray := prog_34_method_60_code
def yX9_idle : MethodName := ⟨RX9, "idle", "(I)I"⟩
def dkwX9_idle_5 : List UInt8 := [128, 62, 42, 4, 182, 0, 222, 132, 4, 1, 167, 255, 156, 29, 172]
abbrev dktX9_idle_5 : List UInt8 := dkwX9_idle_5 ++ []
def dkwX9_idle_4 : List UInt8 := [132, 5, 1, 167, 255, 207, 29, 42, 27, 182, 0, 219, 28, 163, 0, 10, 4, 21, 4, 120, 167, 0, 4, 3]
abbrev dktX9_idle_4 : List UInt8 := dkwX9_idle_4 ++ dktX9_idle_5
def dkwX9_idle_3 : List UInt8 := [21, 5, 96, 46, 21, 4, 160, 0, 7, 2, 167, 0, 13, 42, 180, 0, 9, 16, 85, 21, 5, 96, 46, 79]
abbrev dktX9_idle_3 : List UInt8 := dkwX9_idle_3 ++ dktX9_idle_4
def dkwX9_idle_2 : List UInt8 := [54, 5, 21, 5, 16, 24, 162, 0, 48, 42, 180, 0, 9, 16, 85, 21, 5, 96, 42, 180, 0, 9, 16, 85]
abbrev dktX9_idle_2 : List UInt8 := dkwX9_idle_2 ++ dktX9_idle_3
def dkwX9_idle_1 : List UInt8 := [61, 3, 62, 3, 54, 4, 21, 4, 42, 180, 0, 9, 16, 13, 46, 162, 0, 94, 42, 3, 182, 0, 222, 3]
abbrev dktX9_idle_1 : List UInt8 := dkwX9_idle_1 ++ dktX9_idle_2
def dkwX9_idle_0 : List UInt8 := [27, 133, 9, 20, 0, 194, 184, 0, 54, 154, 0, 10, 42, 16, 154, 182, 0, 132, 172, 42, 27, 182, 0, 219]
abbrev dktX9_idle_0 : List UInt8 := dkwX9_idle_0 ++ dktX9_idle_1
theorem dksX9_idle_0 : cX9_idle.data.toList.drop 0 = dktX9_idle_0 := by decide +kernel
theorem dksX9_idle_1 : cX9_idle.data.toList.drop 24 = dktX9_idle_1 := dk_seg dksX9_idle_0 24 rfl rfl
theorem dksX9_idle_2 : cX9_idle.data.toList.drop 48 = dktX9_idle_2 := dk_seg dksX9_idle_1 24 rfl rfl
theorem dksX9_idle_3 : cX9_idle.data.toList.drop 72 = dktX9_idle_3 := dk_seg dksX9_idle_2 24 rfl rfl
theorem dksX9_idle_4 : cX9_idle.data.toList.drop 96 = dktX9_idle_4 := dk_seg dksX9_idle_3 24 rfl rfl
theorem dksX9_idle_5 : cX9_idle.data.toList.drop 120 = dktX9_idle_5 := dk_seg dksX9_idle_4 24 rfl rfl
theorem dX9_idle_0 : decode cX9_idle 0 = .ok (.iload_n 1, 1) := dk_27 (dk_at dksX9_idle_0 0 rfl rfl)
theorem dX9_idle_1 : decode cX9_idle 1 = .ok (.i2l, 1) := dk_133 (dk_at dksX9_idle_0 1 rfl rfl)
theorem dX9_idle_2 : decode cX9_idle 2 = .ok (.lconst 0, 1) := dk_9 (dk_at dksX9_idle_0 2 rfl rfl)
theorem dX9_idle_3 : decode cX9_idle 3 = .ok (.ldc2_w 194, 3) := dk_20 0 194 (dk_at dksX9_idle_0 3 rfl rfl)
theorem dX9_idle_6 : decode cX9_idle 6 = .ok (.invokestatic 54, 3) := dk_184 0 54 (dk_at dksX9_idle_0 6 rfl rfl)
theorem dX9_idle_9 : decode cX9_idle 9 = .ok (.ifCond .ne 10, 3) := dk_154 0 10 (dk_at dksX9_idle_0 9 rfl rfl)
theorem dX9_idle_12 : decode cX9_idle 12 = .ok (.aload_n 0, 1) := dk_42 (dk_at dksX9_idle_0 12 rfl rfl)
theorem dX9_idle_13 : decode cX9_idle 13 = .ok (.bipush (-102), 2) := dk_16 154 (dk_at dksX9_idle_0 13 rfl rfl)
theorem dX9_idle_15 : decode cX9_idle 15 = .ok (.invokevirtual 132, 3) := dk_182 0 132 (dk_at dksX9_idle_0 15 rfl rfl)
theorem dX9_idle_18 : decode cX9_idle 18 = .ok (.ireturn, 1) := dk_172 (dk_at dksX9_idle_0 18 rfl rfl)
theorem dX9_idle_19 : decode cX9_idle 19 = .ok (.aload_n 0, 1) := dk_42 (dk_at dksX9_idle_0 19 rfl rfl)
theorem dX9_idle_20 : decode cX9_idle 20 = .ok (.iload_n 1, 1) := dk_27 (dk_at dksX9_idle_0 20 rfl rfl)
theorem dX9_idle_21 : decode cX9_idle 21 = .ok (.invokevirtual 219, 3) := dk_182 0 219 (dk_at dksX9_idle_0 21 rfl rfl)
theorem dX9_idle_24 : decode cX9_idle 24 = .ok (.istore_n 2, 1) := dk_61 (dk_at dksX9_idle_1 0 rfl rfl)
theorem dX9_idle_25 : decode cX9_idle 25 = .ok (.iconst 0, 1) := dk_3 (dk_at dksX9_idle_1 1 rfl rfl)
theorem dX9_idle_26 : decode cX9_idle 26 = .ok (.istore_n 3, 1) := dk_62 (dk_at dksX9_idle_1 2 rfl rfl)
theorem dX9_idle_27 : decode cX9_idle 27 = .ok (.iconst 0, 1) := dk_3 (dk_at dksX9_idle_1 3 rfl rfl)
theorem dX9_idle_28 : decode cX9_idle 28 = .ok (.istore 4, 2) := dk_54 4 (dk_at dksX9_idle_1 4 rfl rfl)
theorem dX9_idle_30 : decode cX9_idle 30 = .ok (.iload 4, 2) := dk_21 4 (dk_at dksX9_idle_1 6 rfl rfl)
theorem dX9_idle_32 : decode cX9_idle 32 = .ok (.aload_n 0, 1) := dk_42 (dk_at dksX9_idle_1 8 rfl rfl)
theorem dX9_idle_33 : decode cX9_idle 33 = .ok (.getfield 9, 3) := dk_180 0 9 (dk_at dksX9_idle_1 9 rfl rfl)
theorem dX9_idle_36 : decode cX9_idle 36 = .ok (.bipush 13, 2) := dk_16 13 (dk_at dksX9_idle_1 12 rfl rfl)
theorem dX9_idle_38 : decode cX9_idle 38 = .ok (.iaload, 1) := dk_46 (dk_at dksX9_idle_1 14 rfl rfl)
theorem dX9_idle_39 : decode cX9_idle 39 = .ok (.if_icmp .ge 94, 3) := dk_162 0 94 (dk_at dksX9_idle_1 15 rfl rfl)
theorem dX9_idle_42 : decode cX9_idle 42 = .ok (.aload_n 0, 1) := dk_42 (dk_at dksX9_idle_1 18 rfl rfl)
theorem dX9_idle_43 : decode cX9_idle 43 = .ok (.iconst 0, 1) := dk_3 (dk_at dksX9_idle_1 19 rfl rfl)
theorem dX9_idle_44 : decode cX9_idle 44 = .ok (.invokevirtual 222, 3) := dk_182 0 222 (dk_at dksX9_idle_1 20 rfl rfl)
theorem dX9_idle_47 : decode cX9_idle 47 = .ok (.iconst 0, 1) := dk_3 (dk_at dksX9_idle_1 23 rfl rfl)
theorem dX9_idle_48 : decode cX9_idle 48 = .ok (.istore 5, 2) := dk_54 5 (dk_at dksX9_idle_2 0 rfl rfl)
theorem dX9_idle_50 : decode cX9_idle 50 = .ok (.iload 5, 2) := dk_21 5 (dk_at dksX9_idle_2 2 rfl rfl)
theorem dX9_idle_52 : decode cX9_idle 52 = .ok (.bipush 24, 2) := dk_16 24 (dk_at dksX9_idle_2 4 rfl rfl)
theorem dX9_idle_54 : decode cX9_idle 54 = .ok (.if_icmp .ge 48, 3) := dk_162 0 48 (dk_at dksX9_idle_2 6 rfl rfl)
theorem dX9_idle_57 : decode cX9_idle 57 = .ok (.aload_n 0, 1) := dk_42 (dk_at dksX9_idle_2 9 rfl rfl)
theorem dX9_idle_58 : decode cX9_idle 58 = .ok (.getfield 9, 3) := dk_180 0 9 (dk_at dksX9_idle_2 10 rfl rfl)
theorem dX9_idle_61 : decode cX9_idle 61 = .ok (.bipush 85, 2) := dk_16 85 (dk_at dksX9_idle_2 13 rfl rfl)
theorem dX9_idle_63 : decode cX9_idle 63 = .ok (.iload 5, 2) := dk_21 5 (dk_at dksX9_idle_2 15 rfl rfl)
theorem dX9_idle_65 : decode cX9_idle 65 = .ok (.iadd, 1) := dk_96 (dk_at dksX9_idle_2 17 rfl rfl)
theorem dX9_idle_66 : decode cX9_idle 66 = .ok (.aload_n 0, 1) := dk_42 (dk_at dksX9_idle_2 18 rfl rfl)
theorem dX9_idle_67 : decode cX9_idle 67 = .ok (.getfield 9, 3) := dk_180 0 9 (dk_at dksX9_idle_2 19 rfl rfl)
theorem dX9_idle_70 : decode cX9_idle 70 = .ok (.bipush 85, 2) := dk_16 85 (dk_at dksX9_idle_2 22 rfl rfl)
theorem dX9_idle_72 : decode cX9_idle 72 = .ok (.iload 5, 2) := dk_21 5 (dk_at dksX9_idle_3 0 rfl rfl)
theorem dX9_idle_74 : decode cX9_idle 74 = .ok (.iadd, 1) := dk_96 (dk_at dksX9_idle_3 2 rfl rfl)
theorem dX9_idle_75 : decode cX9_idle 75 = .ok (.iaload, 1) := dk_46 (dk_at dksX9_idle_3 3 rfl rfl)
theorem dX9_idle_76 : decode cX9_idle 76 = .ok (.iload 4, 2) := dk_21 4 (dk_at dksX9_idle_3 4 rfl rfl)
theorem dX9_idle_78 : decode cX9_idle 78 = .ok (.if_icmp .ne 7, 3) := dk_160 0 7 (dk_at dksX9_idle_3 6 rfl rfl)
theorem dX9_idle_81 : decode cX9_idle 81 = .ok (.iconst (-1), 1) := dk_2 (dk_at dksX9_idle_3 9 rfl rfl)
theorem dX9_idle_82 : decode cX9_idle 82 = .ok (.goto 13, 3) := dk_167 0 13 (dk_at dksX9_idle_3 10 rfl rfl)
theorem dX9_idle_85 : decode cX9_idle 85 = .ok (.aload_n 0, 1) := dk_42 (dk_at dksX9_idle_3 13 rfl rfl)
theorem dX9_idle_86 : decode cX9_idle 86 = .ok (.getfield 9, 3) := dk_180 0 9 (dk_at dksX9_idle_3 14 rfl rfl)
theorem dX9_idle_89 : decode cX9_idle 89 = .ok (.bipush 85, 2) := dk_16 85 (dk_at dksX9_idle_3 17 rfl rfl)
theorem dX9_idle_91 : decode cX9_idle 91 = .ok (.iload 5, 2) := dk_21 5 (dk_at dksX9_idle_3 19 rfl rfl)
theorem dX9_idle_93 : decode cX9_idle 93 = .ok (.iadd, 1) := dk_96 (dk_at dksX9_idle_3 21 rfl rfl)
theorem dX9_idle_94 : decode cX9_idle 94 = .ok (.iaload, 1) := dk_46 (dk_at dksX9_idle_3 22 rfl rfl)
theorem dX9_idle_95 : decode cX9_idle 95 = .ok (.iastore, 1) := dk_79 (dk_at dksX9_idle_3 23 rfl rfl)
theorem dX9_idle_96 : decode cX9_idle 96 = .ok (.iinc 5 1, 3) := dk_132 5 1 (dk_at dksX9_idle_4 0 rfl rfl)
theorem dX9_idle_99 : decode cX9_idle 99 = .ok (.goto (-49), 3) := dk_167 255 207 (dk_at dksX9_idle_4 3 rfl rfl)
theorem dX9_idle_102 : decode cX9_idle 102 = .ok (.iload_n 3, 1) := dk_29 (dk_at dksX9_idle_4 6 rfl rfl)
theorem dX9_idle_103 : decode cX9_idle 103 = .ok (.aload_n 0, 1) := dk_42 (dk_at dksX9_idle_4 7 rfl rfl)
theorem dX9_idle_104 : decode cX9_idle 104 = .ok (.iload_n 1, 1) := dk_27 (dk_at dksX9_idle_4 8 rfl rfl)
theorem dX9_idle_105 : decode cX9_idle 105 = .ok (.invokevirtual 219, 3) := dk_182 0 219 (dk_at dksX9_idle_4 9 rfl rfl)
theorem dX9_idle_108 : decode cX9_idle 108 = .ok (.iload_n 2, 1) := dk_28 (dk_at dksX9_idle_4 12 rfl rfl)
theorem dX9_idle_109 : decode cX9_idle 109 = .ok (.if_icmp .gt 10, 3) := dk_163 0 10 (dk_at dksX9_idle_4 13 rfl rfl)
theorem dX9_idle_112 : decode cX9_idle 112 = .ok (.iconst 1, 1) := dk_4 (dk_at dksX9_idle_4 16 rfl rfl)
theorem dX9_idle_113 : decode cX9_idle 113 = .ok (.iload 4, 2) := dk_21 4 (dk_at dksX9_idle_4 17 rfl rfl)
theorem dX9_idle_115 : decode cX9_idle 115 = .ok (.ishl, 1) := dk_120 (dk_at dksX9_idle_4 19 rfl rfl)
theorem dX9_idle_116 : decode cX9_idle 116 = .ok (.goto 4, 3) := dk_167 0 4 (dk_at dksX9_idle_4 20 rfl rfl)
theorem dX9_idle_119 : decode cX9_idle 119 = .ok (.iconst 0, 1) := dk_3 (dk_at dksX9_idle_4 23 rfl rfl)
theorem dX9_idle_120 : decode cX9_idle 120 = .ok (.ior, 1) := dk_128 (dk_at dksX9_idle_5 0 rfl rfl)
theorem dX9_idle_121 : decode cX9_idle 121 = .ok (.istore_n 3, 1) := dk_62 (dk_at dksX9_idle_5 1 rfl rfl)
theorem dX9_idle_122 : decode cX9_idle 122 = .ok (.aload_n 0, 1) := dk_42 (dk_at dksX9_idle_5 2 rfl rfl)
theorem dX9_idle_123 : decode cX9_idle 123 = .ok (.iconst 1, 1) := dk_4 (dk_at dksX9_idle_5 3 rfl rfl)
theorem dX9_idle_124 : decode cX9_idle 124 = .ok (.invokevirtual 222, 3) := dk_182 0 222 (dk_at dksX9_idle_5 4 rfl rfl)
theorem dX9_idle_127 : decode cX9_idle 127 = .ok (.iinc 4 1, 3) := dk_132 4 1 (dk_at dksX9_idle_5 7 rfl rfl)
theorem dX9_idle_130 : decode cX9_idle 130 = .ok (.goto (-100), 3) := dk_167 255 156 (dk_at dksX9_idle_5 10 rfl rfl)
theorem dX9_idle_133 : decode cX9_idle 133 = .ok (.iload_n 3, 1) := dk_29 (dk_at dksX9_idle_5 13 rfl rfl)
theorem dX9_idle_134 : decode cX9_idle 134 = .ok (.ireturn, 1) := dk_172 (dk_at dksX9_idle_5 14 rfl rfl)
abbrev cX9_row : ByteArray := prog_34_method_62_code
def yX9_row : MethodName := ⟨RX9, "row", "(III)I"⟩
def dkwX9_row_3 : List UInt8 := [21, 4, 96, 9, 80, 132, 4, 1, 167, 255, 233, 4, 172]
abbrev dktX9_row_3 : List UInt8 := dkwX9_row_3 ++ []
def dkwX9_row_2 : List UInt8 := [180, 0, 44, 27, 29, 79, 3, 54, 4, 21, 4, 16, 40, 162, 0, 22, 42, 180, 0, 47, 16, 40, 27, 104]
abbrev dktX9_row_2 : List UInt8 := dkwX9_row_2 ++ dktX9_row_3
def dkwX9_row_1 : List UInt8 := [20, 0, 226, 184, 0, 54, 154, 0, 10, 42, 16, 154, 182, 0, 132, 172, 42, 180, 0, 41, 27, 28, 79, 42]
abbrev dktX9_row_1 : List UInt8 := dkwX9_row_1 ++ dktX9_row_2
def dkwX9_row_0 : List UInt8 := [27, 184, 0, 165, 153, 0, 27, 28, 133, 9, 20, 0, 181, 184, 0, 54, 153, 0, 15, 29, 133, 9]
abbrev dktX9_row_0 : List UInt8 := dkwX9_row_0 ++ dktX9_row_1
theorem dksX9_row_0 : cX9_row.data.toList.drop 0 = dktX9_row_0 := by decide +kernel
theorem dksX9_row_1 : cX9_row.data.toList.drop 22 = dktX9_row_1 := dk_seg dksX9_row_0 22 rfl rfl
theorem dksX9_row_2 : cX9_row.data.toList.drop 46 = dktX9_row_2 := dk_seg dksX9_row_1 24 rfl rfl
theorem dksX9_row_3 : cX9_row.data.toList.drop 70 = dktX9_row_3 := dk_seg dksX9_row_2 24 rfl rfl
theorem dX9_row_0 : decode cX9_row 0 = .ok (.iload_n 1, 1) := dk_27 (dk_at dksX9_row_0 0 rfl rfl)
theorem dX9_row_1 : decode cX9_row 1 = .ok (.invokestatic 165, 3) := dk_184 0 165 (dk_at dksX9_row_0 1 rfl rfl)
theorem dX9_row_4 : decode cX9_row 4 = .ok (.ifCond .eq 27, 3) := dk_153 0 27 (dk_at dksX9_row_0 4 rfl rfl)
theorem dX9_row_7 : decode cX9_row 7 = .ok (.iload_n 2, 1) := dk_28 (dk_at dksX9_row_0 7 rfl rfl)
theorem dX9_row_8 : decode cX9_row 8 = .ok (.i2l, 1) := dk_133 (dk_at dksX9_row_0 8 rfl rfl)
theorem dX9_row_9 : decode cX9_row 9 = .ok (.lconst 0, 1) := dk_9 (dk_at dksX9_row_0 9 rfl rfl)
theorem dX9_row_10 : decode cX9_row 10 = .ok (.ldc2_w 181, 3) := dk_20 0 181 (dk_at dksX9_row_0 10 rfl rfl)
theorem dX9_row_13 : decode cX9_row 13 = .ok (.invokestatic 54, 3) := dk_184 0 54 (dk_at dksX9_row_0 13 rfl rfl)
theorem dX9_row_16 : decode cX9_row 16 = .ok (.ifCond .eq 15, 3) := dk_153 0 15 (dk_at dksX9_row_0 16 rfl rfl)
theorem dX9_row_19 : decode cX9_row 19 = .ok (.iload_n 3, 1) := dk_29 (dk_at dksX9_row_0 19 rfl rfl)
theorem dX9_row_20 : decode cX9_row 20 = .ok (.i2l, 1) := dk_133 (dk_at dksX9_row_0 20 rfl rfl)
theorem dX9_row_21 : decode cX9_row 21 = .ok (.lconst 0, 1) := dk_9 (dk_at dksX9_row_0 21 rfl rfl)
theorem dX9_row_22 : decode cX9_row 22 = .ok (.ldc2_w 226, 3) := dk_20 0 226 (dk_at dksX9_row_1 0 rfl rfl)
theorem dX9_row_25 : decode cX9_row 25 = .ok (.invokestatic 54, 3) := dk_184 0 54 (dk_at dksX9_row_1 3 rfl rfl)
theorem dX9_row_28 : decode cX9_row 28 = .ok (.ifCond .ne 10, 3) := dk_154 0 10 (dk_at dksX9_row_1 6 rfl rfl)
theorem dX9_row_31 : decode cX9_row 31 = .ok (.aload_n 0, 1) := dk_42 (dk_at dksX9_row_1 9 rfl rfl)
theorem dX9_row_32 : decode cX9_row 32 = .ok (.bipush (-102), 2) := dk_16 154 (dk_at dksX9_row_1 10 rfl rfl)
theorem dX9_row_34 : decode cX9_row 34 = .ok (.invokevirtual 132, 3) := dk_182 0 132 (dk_at dksX9_row_1 12 rfl rfl)
theorem dX9_row_37 : decode cX9_row 37 = .ok (.ireturn, 1) := dk_172 (dk_at dksX9_row_1 15 rfl rfl)
theorem dX9_row_38 : decode cX9_row 38 = .ok (.aload_n 0, 1) := dk_42 (dk_at dksX9_row_1 16 rfl rfl)
theorem dX9_row_39 : decode cX9_row 39 = .ok (.getfield 41, 3) := dk_180 0 41 (dk_at dksX9_row_1 17 rfl rfl)
theorem dX9_row_42 : decode cX9_row 42 = .ok (.iload_n 1, 1) := dk_27 (dk_at dksX9_row_1 20 rfl rfl)
theorem dX9_row_43 : decode cX9_row 43 = .ok (.iload_n 2, 1) := dk_28 (dk_at dksX9_row_1 21 rfl rfl)
theorem dX9_row_44 : decode cX9_row 44 = .ok (.iastore, 1) := dk_79 (dk_at dksX9_row_1 22 rfl rfl)
theorem dX9_row_45 : decode cX9_row 45 = .ok (.aload_n 0, 1) := dk_42 (dk_at dksX9_row_1 23 rfl rfl)
theorem dX9_row_46 : decode cX9_row 46 = .ok (.getfield 44, 3) := dk_180 0 44 (dk_at dksX9_row_2 0 rfl rfl)
theorem dX9_row_49 : decode cX9_row 49 = .ok (.iload_n 1, 1) := dk_27 (dk_at dksX9_row_2 3 rfl rfl)
theorem dX9_row_50 : decode cX9_row 50 = .ok (.iload_n 3, 1) := dk_29 (dk_at dksX9_row_2 4 rfl rfl)
theorem dX9_row_51 : decode cX9_row 51 = .ok (.iastore, 1) := dk_79 (dk_at dksX9_row_2 5 rfl rfl)
theorem dX9_row_52 : decode cX9_row 52 = .ok (.iconst 0, 1) := dk_3 (dk_at dksX9_row_2 6 rfl rfl)
theorem dX9_row_53 : decode cX9_row 53 = .ok (.istore 4, 2) := dk_54 4 (dk_at dksX9_row_2 7 rfl rfl)
theorem dX9_row_55 : decode cX9_row 55 = .ok (.iload 4, 2) := dk_21 4 (dk_at dksX9_row_2 9 rfl rfl)
theorem dX9_row_57 : decode cX9_row 57 = .ok (.bipush 40, 2) := dk_16 40 (dk_at dksX9_row_2 11 rfl rfl)
theorem dX9_row_59 : decode cX9_row 59 = .ok (.if_icmp .ge 22, 3) := dk_162 0 22 (dk_at dksX9_row_2 13 rfl rfl)
theorem dX9_row_62 : decode cX9_row 62 = .ok (.aload_n 0, 1) := dk_42 (dk_at dksX9_row_2 16 rfl rfl)
theorem dX9_row_63 : decode cX9_row 63 = .ok (.getfield 47, 3) := dk_180 0 47 (dk_at dksX9_row_2 17 rfl rfl)
theorem dX9_row_66 : decode cX9_row 66 = .ok (.bipush 40, 2) := dk_16 40 (dk_at dksX9_row_2 20 rfl rfl)
theorem dX9_row_68 : decode cX9_row 68 = .ok (.iload_n 1, 1) := dk_27 (dk_at dksX9_row_2 22 rfl rfl)
theorem dX9_row_69 : decode cX9_row 69 = .ok (.imul, 1) := dk_104 (dk_at dksX9_row_2 23 rfl rfl)
theorem dX9_row_70 : decode cX9_row 70 = .ok (.iload 4, 2) := dk_21 4 (dk_at dksX9_row_3 0 rfl rfl)
theorem dX9_row_72 : decode cX9_row 72 = .ok (.iadd, 1) := dk_96 (dk_at dksX9_row_3 2 rfl rfl)
theorem dX9_row_73 : decode cX9_row 73 = .ok (.lconst 0, 1) := dk_9 (dk_at dksX9_row_3 3 rfl rfl)
theorem dX9_row_74 : decode cX9_row 74 = .ok (.lastore, 1) := dk_80 (dk_at dksX9_row_3 4 rfl rfl)
theorem dX9_row_75 : decode cX9_row 75 = .ok (.iinc 4 1, 3) := dk_132 4 1 (dk_at dksX9_row_3 5 rfl rfl)
theorem dX9_row_78 : decode cX9_row 78 = .ok (.goto (-23), 3) := dk_167 255 233 (dk_at dksX9_row_3 8 rfl rfl)
theorem dX9_row_81 : decode cX9_row 81 = .ok (.iconst 1, 1) := dk_4 (dk_at dksX9_row_3 11 rfl rfl)
theorem dX9_row_82 : decode cX9_row 82 = .ok (.ireturn, 1) := dk_172 (dk_at dksX9_row_3 12 rfl rfl)
abbrev cX9_set : ByteArray := prog_34_method_64_code
def yX9_set : MethodName := ⟨RX9, "set", "(IIJ)I"⟩
def dkwX9_set_3 : List UInt8 := [42, 180, 0, 47, 16, 40, 27, 104, 28, 96, 42, 180, 0, 41, 27, 46, 33, 184, 0, 228, 80, 4, 172]
abbrev dktX9_set_3 : List UInt8 := dkwX9_set_3 ++ []
def dkwX9_set_2 : List UInt8 := [133, 9, 42, 180, 0, 44, 27, 46, 4, 100, 133, 184, 0, 54, 154, 0, 10, 42, 16, 154, 182, 0, 132, 172]
abbrev dktX9_set_2 : List UInt8 := dkwX9_set_2 ++ dktX9_set_3
def dkwX9_set_1 : List UInt8 := [42, 16, 153, 182, 0, 132, 172, 42, 180, 0, 41, 27, 46, 156, 0, 10, 42, 16, 152, 182, 0, 132, 172, 28]
abbrev dktX9_set_1 : List UInt8 := dkwX9_set_1 ++ dktX9_set_2
def dkwX9_set_0 : List UInt8 := [27, 184, 0, 165, 154, 0, 10, 42, 16, 154, 182, 0, 132, 172, 42, 180, 0, 41, 27, 46, 7, 164, 0, 10]
abbrev dktX9_set_0 : List UInt8 := dkwX9_set_0 ++ dktX9_set_1
theorem dksX9_set_0 : cX9_set.data.toList.drop 0 = dktX9_set_0 := by decide +kernel
theorem dksX9_set_1 : cX9_set.data.toList.drop 24 = dktX9_set_1 := dk_seg dksX9_set_0 24 rfl rfl
theorem dksX9_set_2 : cX9_set.data.toList.drop 48 = dktX9_set_2 := dk_seg dksX9_set_1 24 rfl rfl
theorem dksX9_set_3 : cX9_set.data.toList.drop 72 = dktX9_set_3 := dk_seg dksX9_set_2 24 rfl rfl
theorem dX9_set_0 : decode cX9_set 0 = .ok (.iload_n 1, 1) := dk_27 (dk_at dksX9_set_0 0 rfl rfl)
theorem dX9_set_1 : decode cX9_set 1 = .ok (.invokestatic 165, 3) := dk_184 0 165 (dk_at dksX9_set_0 1 rfl rfl)
theorem dX9_set_4 : decode cX9_set 4 = .ok (.ifCond .ne 10, 3) := dk_154 0 10 (dk_at dksX9_set_0 4 rfl rfl)
theorem dX9_set_7 : decode cX9_set 7 = .ok (.aload_n 0, 1) := dk_42 (dk_at dksX9_set_0 7 rfl rfl)
theorem dX9_set_8 : decode cX9_set 8 = .ok (.bipush (-102), 2) := dk_16 154 (dk_at dksX9_set_0 8 rfl rfl)
theorem dX9_set_10 : decode cX9_set 10 = .ok (.invokevirtual 132, 3) := dk_182 0 132 (dk_at dksX9_set_0 10 rfl rfl)
theorem dX9_set_13 : decode cX9_set 13 = .ok (.ireturn, 1) := dk_172 (dk_at dksX9_set_0 13 rfl rfl)
theorem dX9_set_14 : decode cX9_set 14 = .ok (.aload_n 0, 1) := dk_42 (dk_at dksX9_set_0 14 rfl rfl)
theorem dX9_set_15 : decode cX9_set 15 = .ok (.getfield 41, 3) := dk_180 0 41 (dk_at dksX9_set_0 15 rfl rfl)
theorem dX9_set_18 : decode cX9_set 18 = .ok (.iload_n 1, 1) := dk_27 (dk_at dksX9_set_0 18 rfl rfl)
theorem dX9_set_19 : decode cX9_set 19 = .ok (.iaload, 1) := dk_46 (dk_at dksX9_set_0 19 rfl rfl)
theorem dX9_set_20 : decode cX9_set 20 = .ok (.iconst 4, 1) := dk_7 (dk_at dksX9_set_0 20 rfl rfl)
theorem dX9_set_21 : decode cX9_set 21 = .ok (.if_icmp .le 10, 3) := dk_164 0 10 (dk_at dksX9_set_0 21 rfl rfl)
theorem dX9_set_24 : decode cX9_set 24 = .ok (.aload_n 0, 1) := dk_42 (dk_at dksX9_set_1 0 rfl rfl)
theorem dX9_set_25 : decode cX9_set 25 = .ok (.bipush (-103), 2) := dk_16 153 (dk_at dksX9_set_1 1 rfl rfl)
theorem dX9_set_27 : decode cX9_set 27 = .ok (.invokevirtual 132, 3) := dk_182 0 132 (dk_at dksX9_set_1 3 rfl rfl)
theorem dX9_set_30 : decode cX9_set 30 = .ok (.ireturn, 1) := dk_172 (dk_at dksX9_set_1 6 rfl rfl)
theorem dX9_set_31 : decode cX9_set 31 = .ok (.aload_n 0, 1) := dk_42 (dk_at dksX9_set_1 7 rfl rfl)
theorem dX9_set_32 : decode cX9_set 32 = .ok (.getfield 41, 3) := dk_180 0 41 (dk_at dksX9_set_1 8 rfl rfl)
theorem dX9_set_35 : decode cX9_set 35 = .ok (.iload_n 1, 1) := dk_27 (dk_at dksX9_set_1 11 rfl rfl)
theorem dX9_set_36 : decode cX9_set 36 = .ok (.iaload, 1) := dk_46 (dk_at dksX9_set_1 12 rfl rfl)
theorem dX9_set_37 : decode cX9_set 37 = .ok (.ifCond .ge 10, 3) := dk_156 0 10 (dk_at dksX9_set_1 13 rfl rfl)
theorem dX9_set_40 : decode cX9_set 40 = .ok (.aload_n 0, 1) := dk_42 (dk_at dksX9_set_1 16 rfl rfl)
theorem dX9_set_41 : decode cX9_set 41 = .ok (.bipush (-104), 2) := dk_16 152 (dk_at dksX9_set_1 17 rfl rfl)
theorem dX9_set_43 : decode cX9_set 43 = .ok (.invokevirtual 132, 3) := dk_182 0 132 (dk_at dksX9_set_1 19 rfl rfl)
theorem dX9_set_46 : decode cX9_set 46 = .ok (.ireturn, 1) := dk_172 (dk_at dksX9_set_1 22 rfl rfl)
theorem dX9_set_47 : decode cX9_set 47 = .ok (.iload_n 2, 1) := dk_28 (dk_at dksX9_set_1 23 rfl rfl)
theorem dX9_set_48 : decode cX9_set 48 = .ok (.i2l, 1) := dk_133 (dk_at dksX9_set_2 0 rfl rfl)
theorem dX9_set_49 : decode cX9_set 49 = .ok (.lconst 0, 1) := dk_9 (dk_at dksX9_set_2 1 rfl rfl)
theorem dX9_set_50 : decode cX9_set 50 = .ok (.aload_n 0, 1) := dk_42 (dk_at dksX9_set_2 2 rfl rfl)
theorem dX9_set_51 : decode cX9_set 51 = .ok (.getfield 44, 3) := dk_180 0 44 (dk_at dksX9_set_2 3 rfl rfl)
theorem dX9_set_54 : decode cX9_set 54 = .ok (.iload_n 1, 1) := dk_27 (dk_at dksX9_set_2 6 rfl rfl)
theorem dX9_set_55 : decode cX9_set 55 = .ok (.iaload, 1) := dk_46 (dk_at dksX9_set_2 7 rfl rfl)
theorem dX9_set_56 : decode cX9_set 56 = .ok (.iconst 1, 1) := dk_4 (dk_at dksX9_set_2 8 rfl rfl)
theorem dX9_set_57 : decode cX9_set 57 = .ok (.isub, 1) := dk_100 (dk_at dksX9_set_2 9 rfl rfl)
theorem dX9_set_58 : decode cX9_set 58 = .ok (.i2l, 1) := dk_133 (dk_at dksX9_set_2 10 rfl rfl)
theorem dX9_set_59 : decode cX9_set 59 = .ok (.invokestatic 54, 3) := dk_184 0 54 (dk_at dksX9_set_2 11 rfl rfl)
theorem dX9_set_62 : decode cX9_set 62 = .ok (.ifCond .ne 10, 3) := dk_154 0 10 (dk_at dksX9_set_2 14 rfl rfl)
theorem dX9_set_65 : decode cX9_set 65 = .ok (.aload_n 0, 1) := dk_42 (dk_at dksX9_set_2 17 rfl rfl)
theorem dX9_set_66 : decode cX9_set 66 = .ok (.bipush (-102), 2) := dk_16 154 (dk_at dksX9_set_2 18 rfl rfl)
theorem dX9_set_68 : decode cX9_set 68 = .ok (.invokevirtual 132, 3) := dk_182 0 132 (dk_at dksX9_set_2 20 rfl rfl)
theorem dX9_set_71 : decode cX9_set 71 = .ok (.ireturn, 1) := dk_172 (dk_at dksX9_set_2 23 rfl rfl)
theorem dX9_set_72 : decode cX9_set 72 = .ok (.aload_n 0, 1) := dk_42 (dk_at dksX9_set_3 0 rfl rfl)
theorem dX9_set_73 : decode cX9_set 73 = .ok (.getfield 47, 3) := dk_180 0 47 (dk_at dksX9_set_3 1 rfl rfl)
theorem dX9_set_76 : decode cX9_set 76 = .ok (.bipush 40, 2) := dk_16 40 (dk_at dksX9_set_3 4 rfl rfl)
theorem dX9_set_78 : decode cX9_set 78 = .ok (.iload_n 1, 1) := dk_27 (dk_at dksX9_set_3 6 rfl rfl)
theorem dX9_set_79 : decode cX9_set 79 = .ok (.imul, 1) := dk_104 (dk_at dksX9_set_3 7 rfl rfl)
theorem dX9_set_80 : decode cX9_set 80 = .ok (.iload_n 2, 1) := dk_28 (dk_at dksX9_set_3 8 rfl rfl)
theorem dX9_set_81 : decode cX9_set 81 = .ok (.iadd, 1) := dk_96 (dk_at dksX9_set_3 9 rfl rfl)
theorem dX9_set_82 : decode cX9_set 82 = .ok (.aload_n 0, 1) := dk_42 (dk_at dksX9_set_3 10 rfl rfl)
theorem dX9_set_83 : decode cX9_set 83 = .ok (.getfield 41, 3) := dk_180 0 41 (dk_at dksX9_set_3 11 rfl rfl)
theorem dX9_set_86 : decode cX9_set 86 = .ok (.iload_n 1, 1) := dk_27 (dk_at dksX9_set_3 14 rfl rfl)
theorem dX9_set_87 : decode cX9_set 87 = .ok (.iaload, 1) := dk_46 (dk_at dksX9_set_3 15 rfl rfl)
theorem dX9_set_88 : decode cX9_set 88 = .ok (.lload_n 3, 1) := dk_33 (dk_at dksX9_set_3 16 rfl rfl)
theorem dX9_set_89 : decode cX9_set 89 = .ok (.invokestatic 228, 3) := dk_184 0 228 (dk_at dksX9_set_3 17 rfl rfl)
theorem dX9_set_92 : decode cX9_set 92 = .ok (.lastore, 1) := dk_80 (dk_at dksX9_set_3 20 rfl rfl)
theorem dX9_set_93 : decode cX9_set 93 = .ok (.iconst 1, 1) := dk_4 (dk_at dksX9_set_3 21 rfl rfl)
theorem dX9_set_94 : decode cX9_set 94 = .ok (.ireturn, 1) := dk_172 (dk_at dksX9_set_3 22 rfl rfl)
abbrev cX9_lowest : ByteArray := prog_34_method_63_code
def yX9_lowest : MethodName := ⟨RX9, "lowest", "(IJ)J"⟩
def dkwX9_lowest_3 : List UInt8 := [167, 0, 4, 10, 173]
abbrev dktX9_lowest_3 : List UInt8 := dkwX9_lowest_3 ++ []
def dkwX9_lowest_2 : List UInt8 := [31, 136, 145, 133, 173, 31, 136, 147, 133, 173, 31, 136, 133, 173, 31, 173, 31, 9, 148, 154, 0, 7, 9]
abbrev dktX9_lowest_2 : List UInt8 := dkwX9_lowest_2 ++ dktX9_lowest_3
def dkwX9_lowest_1 : List UInt8 := [170, 0, 0, 0, 0, 0, 47, 0, 0, 0, 0, 0, 0, 0, 3, 0, 0, 0, 31, 0, 0, 0, 36, 0, 0, 0, 41, 0, 0, 0, 45]
abbrev dktX9_lowest_1 : List UInt8 := dkwX9_lowest_1 ++ dktX9_lowest_2
def dkwX9_lowest_0 : List UInt8 := [26]
abbrev dktX9_lowest_0 : List UInt8 := dkwX9_lowest_0 ++ dktX9_lowest_1
theorem dksX9_lowest_0 : cX9_lowest.data.toList.drop 0 = dktX9_lowest_0 := by decide +kernel
theorem dksX9_lowest_1 : cX9_lowest.data.toList.drop 1 = dktX9_lowest_1 := dk_seg dksX9_lowest_0 1 rfl rfl
theorem dksX9_lowest_2 : cX9_lowest.data.toList.drop 32 = dktX9_lowest_2 := dk_seg dksX9_lowest_1 31 rfl rfl
theorem dksX9_lowest_3 : cX9_lowest.data.toList.drop 55 = dktX9_lowest_3 := dk_seg dksX9_lowest_2 23 rfl rfl
theorem dX9_lowest_0 : decode cX9_lowest 0 = .ok (.iload_n 0, 1) := dk_26 (dk_at dksX9_lowest_0 0 rfl rfl)
theorem dX9_lowest_1 : decode cX9_lowest 1 = .ok (.tableswitch 47 0 3 #[31, 36, 41, 45], 31) := by decide +kernel
theorem dX9_lowest_32 : decode cX9_lowest 32 = .ok (.lload_n 1, 1) := dk_31 (dk_at dksX9_lowest_2 0 rfl rfl)
theorem dX9_lowest_33 : decode cX9_lowest 33 = .ok (.l2i, 1) := dk_136 (dk_at dksX9_lowest_2 1 rfl rfl)
theorem dX9_lowest_34 : decode cX9_lowest 34 = .ok (.i2b, 1) := dk_145 (dk_at dksX9_lowest_2 2 rfl rfl)
theorem dX9_lowest_35 : decode cX9_lowest 35 = .ok (.i2l, 1) := dk_133 (dk_at dksX9_lowest_2 3 rfl rfl)
theorem dX9_lowest_36 : decode cX9_lowest 36 = .ok (.lreturn, 1) := dk_173 (dk_at dksX9_lowest_2 4 rfl rfl)
theorem dX9_lowest_37 : decode cX9_lowest 37 = .ok (.lload_n 1, 1) := dk_31 (dk_at dksX9_lowest_2 5 rfl rfl)
theorem dX9_lowest_38 : decode cX9_lowest 38 = .ok (.l2i, 1) := dk_136 (dk_at dksX9_lowest_2 6 rfl rfl)
theorem dX9_lowest_39 : decode cX9_lowest 39 = .ok (.i2s, 1) := dk_147 (dk_at dksX9_lowest_2 7 rfl rfl)
theorem dX9_lowest_40 : decode cX9_lowest 40 = .ok (.i2l, 1) := dk_133 (dk_at dksX9_lowest_2 8 rfl rfl)
theorem dX9_lowest_41 : decode cX9_lowest 41 = .ok (.lreturn, 1) := dk_173 (dk_at dksX9_lowest_2 9 rfl rfl)
theorem dX9_lowest_42 : decode cX9_lowest 42 = .ok (.lload_n 1, 1) := dk_31 (dk_at dksX9_lowest_2 10 rfl rfl)
theorem dX9_lowest_43 : decode cX9_lowest 43 = .ok (.l2i, 1) := dk_136 (dk_at dksX9_lowest_2 11 rfl rfl)
theorem dX9_lowest_44 : decode cX9_lowest 44 = .ok (.i2l, 1) := dk_133 (dk_at dksX9_lowest_2 12 rfl rfl)
theorem dX9_lowest_45 : decode cX9_lowest 45 = .ok (.lreturn, 1) := dk_173 (dk_at dksX9_lowest_2 13 rfl rfl)
theorem dX9_lowest_46 : decode cX9_lowest 46 = .ok (.lload_n 1, 1) := dk_31 (dk_at dksX9_lowest_2 14 rfl rfl)
theorem dX9_lowest_47 : decode cX9_lowest 47 = .ok (.lreturn, 1) := dk_173 (dk_at dksX9_lowest_2 15 rfl rfl)
theorem dX9_lowest_48 : decode cX9_lowest 48 = .ok (.lload_n 1, 1) := dk_31 (dk_at dksX9_lowest_2 16 rfl rfl)
theorem dX9_lowest_49 : decode cX9_lowest 49 = .ok (.lconst 0, 1) := dk_9 (dk_at dksX9_lowest_2 17 rfl rfl)
theorem dX9_lowest_50 : decode cX9_lowest 50 = .ok (.lcmp, 1) := dk_148 (dk_at dksX9_lowest_2 18 rfl rfl)
theorem dX9_lowest_51 : decode cX9_lowest 51 = .ok (.ifCond .ne 7, 3) := dk_154 0 7 (dk_at dksX9_lowest_2 19 rfl rfl)
theorem dX9_lowest_54 : decode cX9_lowest 54 = .ok (.lconst 0, 1) := dk_9 (dk_at dksX9_lowest_2 22 rfl rfl)
theorem dX9_lowest_55 : decode cX9_lowest 55 = .ok (.goto 4, 3) := dk_167 0 4 (dk_at dksX9_lowest_3 0 rfl rfl)
theorem dX9_lowest_58 : decode cX9_lowest 58 = .ok (.lconst 1, 1) := dk_10 (dk_at dksX9_lowest_3 3 rfl rfl)
theorem dX9_lowest_59 : decode cX9_lowest 59 = .ok (.lreturn, 1) := dk_173 (dk_at dksX9_lowest_3 4 rfl rfl)
abbrev cX9_copy : ByteArray := prog_34_method_65_code
def yX9_copy : MethodName := ⟨RX9, "copy", "(IIIII)I"⟩
def dkwX9_copy_10 : List UInt8 := [132, 6, 1, 167, 255, 197, 21, 5, 172]
abbrev dktX9_copy_10 : List UInt8 := dkwX9_copy_10 ++ []
def dkwX9_copy_9 : List UInt8 := [104, 21, 4, 96, 21, 7, 96, 42, 180, 0, 47, 16, 40, 27, 104, 29, 96, 21, 7, 96, 47, 80]
abbrev dktX9_copy_9 : List UInt8 := dkwX9_copy_9 ++ dktX9_copy_10
def dkwX9_copy_8 : List UInt8 := [162, 0, 13, 21, 5, 4, 100, 21, 6, 100, 167, 0, 5, 21, 6, 54, 7, 42, 180, 0, 47, 16, 40, 28]
abbrev dktX9_copy_8 : List UInt8 := dkwX9_copy_8 ++ dktX9_copy_9
def dkwX9_copy_7 : List UInt8 := [164, 0, 10, 42, 16, 154, 182, 0, 132, 172, 3, 54, 6, 21, 6, 21, 5, 162, 0, 58, 29, 21, 4]
abbrev dktX9_copy_7 : List UInt8 := dkwX9_copy_7 ++ dktX9_copy_8
def dkwX9_copy_6 : List UInt8 := [21, 5, 42, 180, 0, 44, 27, 46, 29, 100, 163, 0, 17, 21, 5, 42, 180, 0, 44, 28, 46, 21, 4, 100]
abbrev dktX9_copy_6 : List UInt8 := dkwX9_copy_6 ++ dktX9_copy_7
def dkwX9_copy_5 : List UInt8 := [155, 0, 51, 29, 42, 180, 0, 44, 27, 46, 163, 0, 41, 21, 4, 42, 180, 0, 44, 28, 46, 163, 0, 30]
abbrev dktX9_copy_5 : List UInt8 := dkwX9_copy_5 ++ dktX9_copy_6
def dkwX9_copy_4 : List UInt8 := [28, 46, 156, 0, 10, 42, 16, 152, 182, 0, 132, 172, 29, 155, 0, 61, 21, 4, 155, 0, 56, 21, 5]
abbrev dktX9_copy_4 : List UInt8 := dkwX9_copy_4 ++ dktX9_copy_5
def dkwX9_copy_3 : List UInt8 := [46, 159, 0, 10, 42, 16, 153, 182, 0, 132, 172, 42, 180, 0, 41, 27, 46, 155, 0, 12, 42, 180, 0, 41]
abbrev dktX9_copy_3 : List UInt8 := dkwX9_copy_3 ++ dktX9_copy_4
def dkwX9_copy_2 : List UInt8 := [46, 155, 0, 34, 42, 180, 0, 41, 28, 46, 155, 0, 25, 42, 180, 0, 41, 27, 46, 42, 180, 0, 41, 28]
abbrev dktX9_copy_2 : List UInt8 := dkwX9_copy_2 ++ dktX9_copy_3
def dkwX9_copy_1 : List UInt8 := [180, 0, 41, 27, 46, 7, 163, 0, 46, 42, 180, 0, 41, 28, 46, 7, 163, 0, 36, 42, 180, 0, 41, 27]
abbrev dktX9_copy_1 : List UInt8 := dkwX9_copy_1 ++ dktX9_copy_2
def dkwX9_copy_0 : List UInt8 := [27, 184, 0, 165, 153, 0, 10, 28, 184, 0, 165, 154, 0, 10, 42, 16, 154, 182, 0, 132, 172, 42]
abbrev dktX9_copy_0 : List UInt8 := dkwX9_copy_0 ++ dktX9_copy_1
theorem dksX9_copy_0 : cX9_copy.data.toList.drop 0 = dktX9_copy_0 := by decide +kernel
theorem dksX9_copy_1 : cX9_copy.data.toList.drop 22 = dktX9_copy_1 := dk_seg dksX9_copy_0 22 rfl rfl
theorem dksX9_copy_2 : cX9_copy.data.toList.drop 46 = dktX9_copy_2 := dk_seg dksX9_copy_1 24 rfl rfl
theorem dksX9_copy_3 : cX9_copy.data.toList.drop 70 = dktX9_copy_3 := dk_seg dksX9_copy_2 24 rfl rfl
theorem dksX9_copy_4 : cX9_copy.data.toList.drop 94 = dktX9_copy_4 := dk_seg dksX9_copy_3 24 rfl rfl
theorem dksX9_copy_5 : cX9_copy.data.toList.drop 117 = dktX9_copy_5 := dk_seg dksX9_copy_4 23 rfl rfl
theorem dksX9_copy_6 : cX9_copy.data.toList.drop 141 = dktX9_copy_6 := dk_seg dksX9_copy_5 24 rfl rfl
theorem dksX9_copy_7 : cX9_copy.data.toList.drop 165 = dktX9_copy_7 := dk_seg dksX9_copy_6 24 rfl rfl
theorem dksX9_copy_8 : cX9_copy.data.toList.drop 188 = dktX9_copy_8 := dk_seg dksX9_copy_7 23 rfl rfl
theorem dksX9_copy_9 : cX9_copy.data.toList.drop 212 = dktX9_copy_9 := dk_seg dksX9_copy_8 24 rfl rfl
theorem dksX9_copy_10 : cX9_copy.data.toList.drop 234 = dktX9_copy_10 := dk_seg dksX9_copy_9 22 rfl rfl
theorem dX9_copy_0 : decode cX9_copy 0 = .ok (.iload_n 1, 1) := dk_27 (dk_at dksX9_copy_0 0 rfl rfl)
theorem dX9_copy_1 : decode cX9_copy 1 = .ok (.invokestatic 165, 3) := dk_184 0 165 (dk_at dksX9_copy_0 1 rfl rfl)
theorem dX9_copy_4 : decode cX9_copy 4 = .ok (.ifCond .eq 10, 3) := dk_153 0 10 (dk_at dksX9_copy_0 4 rfl rfl)
theorem dX9_copy_7 : decode cX9_copy 7 = .ok (.iload_n 2, 1) := dk_28 (dk_at dksX9_copy_0 7 rfl rfl)
theorem dX9_copy_8 : decode cX9_copy 8 = .ok (.invokestatic 165, 3) := dk_184 0 165 (dk_at dksX9_copy_0 8 rfl rfl)
theorem dX9_copy_11 : decode cX9_copy 11 = .ok (.ifCond .ne 10, 3) := dk_154 0 10 (dk_at dksX9_copy_0 11 rfl rfl)
theorem dX9_copy_14 : decode cX9_copy 14 = .ok (.aload_n 0, 1) := dk_42 (dk_at dksX9_copy_0 14 rfl rfl)
theorem dX9_copy_15 : decode cX9_copy 15 = .ok (.bipush (-102), 2) := dk_16 154 (dk_at dksX9_copy_0 15 rfl rfl)
theorem dX9_copy_17 : decode cX9_copy 17 = .ok (.invokevirtual 132, 3) := dk_182 0 132 (dk_at dksX9_copy_0 17 rfl rfl)
theorem dX9_copy_20 : decode cX9_copy 20 = .ok (.ireturn, 1) := dk_172 (dk_at dksX9_copy_0 20 rfl rfl)
theorem dX9_copy_21 : decode cX9_copy 21 = .ok (.aload_n 0, 1) := dk_42 (dk_at dksX9_copy_0 21 rfl rfl)
theorem dX9_copy_22 : decode cX9_copy 22 = .ok (.getfield 41, 3) := dk_180 0 41 (dk_at dksX9_copy_1 0 rfl rfl)
theorem dX9_copy_25 : decode cX9_copy 25 = .ok (.iload_n 1, 1) := dk_27 (dk_at dksX9_copy_1 3 rfl rfl)
theorem dX9_copy_26 : decode cX9_copy 26 = .ok (.iaload, 1) := dk_46 (dk_at dksX9_copy_1 4 rfl rfl)
theorem dX9_copy_27 : decode cX9_copy 27 = .ok (.iconst 4, 1) := dk_7 (dk_at dksX9_copy_1 5 rfl rfl)
theorem dX9_copy_28 : decode cX9_copy 28 = .ok (.if_icmp .gt 46, 3) := dk_163 0 46 (dk_at dksX9_copy_1 6 rfl rfl)
theorem dX9_copy_31 : decode cX9_copy 31 = .ok (.aload_n 0, 1) := dk_42 (dk_at dksX9_copy_1 9 rfl rfl)
theorem dX9_copy_32 : decode cX9_copy 32 = .ok (.getfield 41, 3) := dk_180 0 41 (dk_at dksX9_copy_1 10 rfl rfl)
theorem dX9_copy_35 : decode cX9_copy 35 = .ok (.iload_n 2, 1) := dk_28 (dk_at dksX9_copy_1 13 rfl rfl)
theorem dX9_copy_36 : decode cX9_copy 36 = .ok (.iaload, 1) := dk_46 (dk_at dksX9_copy_1 14 rfl rfl)
theorem dX9_copy_37 : decode cX9_copy 37 = .ok (.iconst 4, 1) := dk_7 (dk_at dksX9_copy_1 15 rfl rfl)
theorem dX9_copy_38 : decode cX9_copy 38 = .ok (.if_icmp .gt 36, 3) := dk_163 0 36 (dk_at dksX9_copy_1 16 rfl rfl)
theorem dX9_copy_41 : decode cX9_copy 41 = .ok (.aload_n 0, 1) := dk_42 (dk_at dksX9_copy_1 19 rfl rfl)
theorem dX9_copy_42 : decode cX9_copy 42 = .ok (.getfield 41, 3) := dk_180 0 41 (dk_at dksX9_copy_1 20 rfl rfl)
theorem dX9_copy_45 : decode cX9_copy 45 = .ok (.iload_n 1, 1) := dk_27 (dk_at dksX9_copy_1 23 rfl rfl)
theorem dX9_copy_46 : decode cX9_copy 46 = .ok (.iaload, 1) := dk_46 (dk_at dksX9_copy_2 0 rfl rfl)
theorem dX9_copy_47 : decode cX9_copy 47 = .ok (.ifCond .lt 34, 3) := dk_155 0 34 (dk_at dksX9_copy_2 1 rfl rfl)
theorem dX9_copy_50 : decode cX9_copy 50 = .ok (.aload_n 0, 1) := dk_42 (dk_at dksX9_copy_2 4 rfl rfl)
theorem dX9_copy_51 : decode cX9_copy 51 = .ok (.getfield 41, 3) := dk_180 0 41 (dk_at dksX9_copy_2 5 rfl rfl)
theorem dX9_copy_54 : decode cX9_copy 54 = .ok (.iload_n 2, 1) := dk_28 (dk_at dksX9_copy_2 8 rfl rfl)
theorem dX9_copy_55 : decode cX9_copy 55 = .ok (.iaload, 1) := dk_46 (dk_at dksX9_copy_2 9 rfl rfl)
theorem dX9_copy_56 : decode cX9_copy 56 = .ok (.ifCond .lt 25, 3) := dk_155 0 25 (dk_at dksX9_copy_2 10 rfl rfl)
theorem dX9_copy_59 : decode cX9_copy 59 = .ok (.aload_n 0, 1) := dk_42 (dk_at dksX9_copy_2 13 rfl rfl)
theorem dX9_copy_60 : decode cX9_copy 60 = .ok (.getfield 41, 3) := dk_180 0 41 (dk_at dksX9_copy_2 14 rfl rfl)
theorem dX9_copy_63 : decode cX9_copy 63 = .ok (.iload_n 1, 1) := dk_27 (dk_at dksX9_copy_2 17 rfl rfl)
theorem dX9_copy_64 : decode cX9_copy 64 = .ok (.iaload, 1) := dk_46 (dk_at dksX9_copy_2 18 rfl rfl)
theorem dX9_copy_65 : decode cX9_copy 65 = .ok (.aload_n 0, 1) := dk_42 (dk_at dksX9_copy_2 19 rfl rfl)
theorem dX9_copy_66 : decode cX9_copy 66 = .ok (.getfield 41, 3) := dk_180 0 41 (dk_at dksX9_copy_2 20 rfl rfl)
theorem dX9_copy_69 : decode cX9_copy 69 = .ok (.iload_n 2, 1) := dk_28 (dk_at dksX9_copy_2 23 rfl rfl)
theorem dX9_copy_70 : decode cX9_copy 70 = .ok (.iaload, 1) := dk_46 (dk_at dksX9_copy_3 0 rfl rfl)
theorem dX9_copy_71 : decode cX9_copy 71 = .ok (.if_icmp .eq 10, 3) := dk_159 0 10 (dk_at dksX9_copy_3 1 rfl rfl)
theorem dX9_copy_74 : decode cX9_copy 74 = .ok (.aload_n 0, 1) := dk_42 (dk_at dksX9_copy_3 4 rfl rfl)
theorem dX9_copy_75 : decode cX9_copy 75 = .ok (.bipush (-103), 2) := dk_16 153 (dk_at dksX9_copy_3 5 rfl rfl)
theorem dX9_copy_77 : decode cX9_copy 77 = .ok (.invokevirtual 132, 3) := dk_182 0 132 (dk_at dksX9_copy_3 7 rfl rfl)
theorem dX9_copy_80 : decode cX9_copy 80 = .ok (.ireturn, 1) := dk_172 (dk_at dksX9_copy_3 10 rfl rfl)
theorem dX9_copy_81 : decode cX9_copy 81 = .ok (.aload_n 0, 1) := dk_42 (dk_at dksX9_copy_3 11 rfl rfl)
theorem dX9_copy_82 : decode cX9_copy 82 = .ok (.getfield 41, 3) := dk_180 0 41 (dk_at dksX9_copy_3 12 rfl rfl)
theorem dX9_copy_85 : decode cX9_copy 85 = .ok (.iload_n 1, 1) := dk_27 (dk_at dksX9_copy_3 15 rfl rfl)
theorem dX9_copy_86 : decode cX9_copy 86 = .ok (.iaload, 1) := dk_46 (dk_at dksX9_copy_3 16 rfl rfl)
theorem dX9_copy_87 : decode cX9_copy 87 = .ok (.ifCond .lt 12, 3) := dk_155 0 12 (dk_at dksX9_copy_3 17 rfl rfl)
theorem dX9_copy_90 : decode cX9_copy 90 = .ok (.aload_n 0, 1) := dk_42 (dk_at dksX9_copy_3 20 rfl rfl)
theorem dX9_copy_91 : decode cX9_copy 91 = .ok (.getfield 41, 3) := dk_180 0 41 (dk_at dksX9_copy_3 21 rfl rfl)
theorem dX9_copy_94 : decode cX9_copy 94 = .ok (.iload_n 2, 1) := dk_28 (dk_at dksX9_copy_4 0 rfl rfl)
theorem dX9_copy_95 : decode cX9_copy 95 = .ok (.iaload, 1) := dk_46 (dk_at dksX9_copy_4 1 rfl rfl)
theorem dX9_copy_96 : decode cX9_copy 96 = .ok (.ifCond .ge 10, 3) := dk_156 0 10 (dk_at dksX9_copy_4 2 rfl rfl)
theorem dX9_copy_99 : decode cX9_copy 99 = .ok (.aload_n 0, 1) := dk_42 (dk_at dksX9_copy_4 5 rfl rfl)
theorem dX9_copy_100 : decode cX9_copy 100 = .ok (.bipush (-104), 2) := dk_16 152 (dk_at dksX9_copy_4 6 rfl rfl)
theorem dX9_copy_102 : decode cX9_copy 102 = .ok (.invokevirtual 132, 3) := dk_182 0 132 (dk_at dksX9_copy_4 8 rfl rfl)
theorem dX9_copy_105 : decode cX9_copy 105 = .ok (.ireturn, 1) := dk_172 (dk_at dksX9_copy_4 11 rfl rfl)
theorem dX9_copy_106 : decode cX9_copy 106 = .ok (.iload_n 3, 1) := dk_29 (dk_at dksX9_copy_4 12 rfl rfl)
theorem dX9_copy_107 : decode cX9_copy 107 = .ok (.ifCond .lt 61, 3) := dk_155 0 61 (dk_at dksX9_copy_4 13 rfl rfl)
theorem dX9_copy_110 : decode cX9_copy 110 = .ok (.iload 4, 2) := dk_21 4 (dk_at dksX9_copy_4 16 rfl rfl)
theorem dX9_copy_112 : decode cX9_copy 112 = .ok (.ifCond .lt 56, 3) := dk_155 0 56 (dk_at dksX9_copy_4 18 rfl rfl)
theorem dX9_copy_115 : decode cX9_copy 115 = .ok (.iload 5, 2) := dk_21 5 (dk_at dksX9_copy_4 21 rfl rfl)
theorem dX9_copy_117 : decode cX9_copy 117 = .ok (.ifCond .lt 51, 3) := dk_155 0 51 (dk_at dksX9_copy_5 0 rfl rfl)
theorem dX9_copy_120 : decode cX9_copy 120 = .ok (.iload_n 3, 1) := dk_29 (dk_at dksX9_copy_5 3 rfl rfl)
theorem dX9_copy_121 : decode cX9_copy 121 = .ok (.aload_n 0, 1) := dk_42 (dk_at dksX9_copy_5 4 rfl rfl)
theorem dX9_copy_122 : decode cX9_copy 122 = .ok (.getfield 44, 3) := dk_180 0 44 (dk_at dksX9_copy_5 5 rfl rfl)
theorem dX9_copy_125 : decode cX9_copy 125 = .ok (.iload_n 1, 1) := dk_27 (dk_at dksX9_copy_5 8 rfl rfl)
theorem dX9_copy_126 : decode cX9_copy 126 = .ok (.iaload, 1) := dk_46 (dk_at dksX9_copy_5 9 rfl rfl)
theorem dX9_copy_127 : decode cX9_copy 127 = .ok (.if_icmp .gt 41, 3) := dk_163 0 41 (dk_at dksX9_copy_5 10 rfl rfl)
theorem dX9_copy_130 : decode cX9_copy 130 = .ok (.iload 4, 2) := dk_21 4 (dk_at dksX9_copy_5 13 rfl rfl)
theorem dX9_copy_132 : decode cX9_copy 132 = .ok (.aload_n 0, 1) := dk_42 (dk_at dksX9_copy_5 15 rfl rfl)
theorem dX9_copy_133 : decode cX9_copy 133 = .ok (.getfield 44, 3) := dk_180 0 44 (dk_at dksX9_copy_5 16 rfl rfl)
theorem dX9_copy_136 : decode cX9_copy 136 = .ok (.iload_n 2, 1) := dk_28 (dk_at dksX9_copy_5 19 rfl rfl)
theorem dX9_copy_137 : decode cX9_copy 137 = .ok (.iaload, 1) := dk_46 (dk_at dksX9_copy_5 20 rfl rfl)
theorem dX9_copy_138 : decode cX9_copy 138 = .ok (.if_icmp .gt 30, 3) := dk_163 0 30 (dk_at dksX9_copy_5 21 rfl rfl)
theorem dX9_copy_141 : decode cX9_copy 141 = .ok (.iload 5, 2) := dk_21 5 (dk_at dksX9_copy_6 0 rfl rfl)
theorem dX9_copy_143 : decode cX9_copy 143 = .ok (.aload_n 0, 1) := dk_42 (dk_at dksX9_copy_6 2 rfl rfl)
theorem dX9_copy_144 : decode cX9_copy 144 = .ok (.getfield 44, 3) := dk_180 0 44 (dk_at dksX9_copy_6 3 rfl rfl)
theorem dX9_copy_147 : decode cX9_copy 147 = .ok (.iload_n 1, 1) := dk_27 (dk_at dksX9_copy_6 6 rfl rfl)
theorem dX9_copy_148 : decode cX9_copy 148 = .ok (.iaload, 1) := dk_46 (dk_at dksX9_copy_6 7 rfl rfl)
theorem dX9_copy_149 : decode cX9_copy 149 = .ok (.iload_n 3, 1) := dk_29 (dk_at dksX9_copy_6 8 rfl rfl)
theorem dX9_copy_150 : decode cX9_copy 150 = .ok (.isub, 1) := dk_100 (dk_at dksX9_copy_6 9 rfl rfl)
theorem dX9_copy_151 : decode cX9_copy 151 = .ok (.if_icmp .gt 17, 3) := dk_163 0 17 (dk_at dksX9_copy_6 10 rfl rfl)
theorem dX9_copy_154 : decode cX9_copy 154 = .ok (.iload 5, 2) := dk_21 5 (dk_at dksX9_copy_6 13 rfl rfl)
theorem dX9_copy_156 : decode cX9_copy 156 = .ok (.aload_n 0, 1) := dk_42 (dk_at dksX9_copy_6 15 rfl rfl)
theorem dX9_copy_157 : decode cX9_copy 157 = .ok (.getfield 44, 3) := dk_180 0 44 (dk_at dksX9_copy_6 16 rfl rfl)
theorem dX9_copy_160 : decode cX9_copy 160 = .ok (.iload_n 2, 1) := dk_28 (dk_at dksX9_copy_6 19 rfl rfl)
theorem dX9_copy_161 : decode cX9_copy 161 = .ok (.iaload, 1) := dk_46 (dk_at dksX9_copy_6 20 rfl rfl)
theorem dX9_copy_162 : decode cX9_copy 162 = .ok (.iload 4, 2) := dk_21 4 (dk_at dksX9_copy_6 21 rfl rfl)
theorem dX9_copy_164 : decode cX9_copy 164 = .ok (.isub, 1) := dk_100 (dk_at dksX9_copy_6 23 rfl rfl)
theorem dX9_copy_165 : decode cX9_copy 165 = .ok (.if_icmp .le 10, 3) := dk_164 0 10 (dk_at dksX9_copy_7 0 rfl rfl)
theorem dX9_copy_168 : decode cX9_copy 168 = .ok (.aload_n 0, 1) := dk_42 (dk_at dksX9_copy_7 3 rfl rfl)
theorem dX9_copy_169 : decode cX9_copy 169 = .ok (.bipush (-102), 2) := dk_16 154 (dk_at dksX9_copy_7 4 rfl rfl)
theorem dX9_copy_171 : decode cX9_copy 171 = .ok (.invokevirtual 132, 3) := dk_182 0 132 (dk_at dksX9_copy_7 6 rfl rfl)
theorem dX9_copy_174 : decode cX9_copy 174 = .ok (.ireturn, 1) := dk_172 (dk_at dksX9_copy_7 9 rfl rfl)
theorem dX9_copy_175 : decode cX9_copy 175 = .ok (.iconst 0, 1) := dk_3 (dk_at dksX9_copy_7 10 rfl rfl)
theorem dX9_copy_176 : decode cX9_copy 176 = .ok (.istore 6, 2) := dk_54 6 (dk_at dksX9_copy_7 11 rfl rfl)
theorem dX9_copy_178 : decode cX9_copy 178 = .ok (.iload 6, 2) := dk_21 6 (dk_at dksX9_copy_7 13 rfl rfl)
theorem dX9_copy_180 : decode cX9_copy 180 = .ok (.iload 5, 2) := dk_21 5 (dk_at dksX9_copy_7 15 rfl rfl)
theorem dX9_copy_182 : decode cX9_copy 182 = .ok (.if_icmp .ge 58, 3) := dk_162 0 58 (dk_at dksX9_copy_7 17 rfl rfl)
theorem dX9_copy_185 : decode cX9_copy 185 = .ok (.iload_n 3, 1) := dk_29 (dk_at dksX9_copy_7 20 rfl rfl)
theorem dX9_copy_186 : decode cX9_copy 186 = .ok (.iload 4, 2) := dk_21 4 (dk_at dksX9_copy_7 21 rfl rfl)
theorem dX9_copy_188 : decode cX9_copy 188 = .ok (.if_icmp .ge 13, 3) := dk_162 0 13 (dk_at dksX9_copy_8 0 rfl rfl)
theorem dX9_copy_191 : decode cX9_copy 191 = .ok (.iload 5, 2) := dk_21 5 (dk_at dksX9_copy_8 3 rfl rfl)
theorem dX9_copy_193 : decode cX9_copy 193 = .ok (.iconst 1, 1) := dk_4 (dk_at dksX9_copy_8 5 rfl rfl)
theorem dX9_copy_194 : decode cX9_copy 194 = .ok (.isub, 1) := dk_100 (dk_at dksX9_copy_8 6 rfl rfl)
theorem dX9_copy_195 : decode cX9_copy 195 = .ok (.iload 6, 2) := dk_21 6 (dk_at dksX9_copy_8 7 rfl rfl)
theorem dX9_copy_197 : decode cX9_copy 197 = .ok (.isub, 1) := dk_100 (dk_at dksX9_copy_8 9 rfl rfl)
theorem dX9_copy_198 : decode cX9_copy 198 = .ok (.goto 5, 3) := dk_167 0 5 (dk_at dksX9_copy_8 10 rfl rfl)
theorem dX9_copy_201 : decode cX9_copy 201 = .ok (.iload 6, 2) := dk_21 6 (dk_at dksX9_copy_8 13 rfl rfl)
theorem dX9_copy_203 : decode cX9_copy 203 = .ok (.istore 7, 2) := dk_54 7 (dk_at dksX9_copy_8 15 rfl rfl)
theorem dX9_copy_205 : decode cX9_copy 205 = .ok (.aload_n 0, 1) := dk_42 (dk_at dksX9_copy_8 17 rfl rfl)
theorem dX9_copy_206 : decode cX9_copy 206 = .ok (.getfield 47, 3) := dk_180 0 47 (dk_at dksX9_copy_8 18 rfl rfl)
theorem dX9_copy_209 : decode cX9_copy 209 = .ok (.bipush 40, 2) := dk_16 40 (dk_at dksX9_copy_8 21 rfl rfl)
theorem dX9_copy_211 : decode cX9_copy 211 = .ok (.iload_n 2, 1) := dk_28 (dk_at dksX9_copy_8 23 rfl rfl)
theorem dX9_copy_212 : decode cX9_copy 212 = .ok (.imul, 1) := dk_104 (dk_at dksX9_copy_9 0 rfl rfl)
theorem dX9_copy_213 : decode cX9_copy 213 = .ok (.iload 4, 2) := dk_21 4 (dk_at dksX9_copy_9 1 rfl rfl)
theorem dX9_copy_215 : decode cX9_copy 215 = .ok (.iadd, 1) := dk_96 (dk_at dksX9_copy_9 3 rfl rfl)
theorem dX9_copy_216 : decode cX9_copy 216 = .ok (.iload 7, 2) := dk_21 7 (dk_at dksX9_copy_9 4 rfl rfl)
theorem dX9_copy_218 : decode cX9_copy 218 = .ok (.iadd, 1) := dk_96 (dk_at dksX9_copy_9 6 rfl rfl)
theorem dX9_copy_219 : decode cX9_copy 219 = .ok (.aload_n 0, 1) := dk_42 (dk_at dksX9_copy_9 7 rfl rfl)
theorem dX9_copy_220 : decode cX9_copy 220 = .ok (.getfield 47, 3) := dk_180 0 47 (dk_at dksX9_copy_9 8 rfl rfl)
theorem dX9_copy_223 : decode cX9_copy 223 = .ok (.bipush 40, 2) := dk_16 40 (dk_at dksX9_copy_9 11 rfl rfl)
theorem dX9_copy_225 : decode cX9_copy 225 = .ok (.iload_n 1, 1) := dk_27 (dk_at dksX9_copy_9 13 rfl rfl)
theorem dX9_copy_226 : decode cX9_copy 226 = .ok (.imul, 1) := dk_104 (dk_at dksX9_copy_9 14 rfl rfl)
theorem dX9_copy_227 : decode cX9_copy 227 = .ok (.iload_n 3, 1) := dk_29 (dk_at dksX9_copy_9 15 rfl rfl)
theorem dX9_copy_228 : decode cX9_copy 228 = .ok (.iadd, 1) := dk_96 (dk_at dksX9_copy_9 16 rfl rfl)
theorem dX9_copy_229 : decode cX9_copy 229 = .ok (.iload 7, 2) := dk_21 7 (dk_at dksX9_copy_9 17 rfl rfl)
theorem dX9_copy_231 : decode cX9_copy 231 = .ok (.iadd, 1) := dk_96 (dk_at dksX9_copy_9 19 rfl rfl)
theorem dX9_copy_232 : decode cX9_copy 232 = .ok (.laload, 1) := dk_47 (dk_at dksX9_copy_9 20 rfl rfl)
theorem dX9_copy_233 : decode cX9_copy 233 = .ok (.lastore, 1) := dk_80 (dk_at dksX9_copy_9 21 rfl rfl)
theorem dX9_copy_234 : decode cX9_copy 234 = .ok (.iinc 6 1, 3) := dk_132 6 1 (dk_at dksX9_copy_10 0 rfl rfl)
theorem dX9_copy_237 : decode cX9_copy 237 = .ok (.goto (-59), 3) := dk_167 255 197 (dk_at dksX9_copy_10 3 rfl rfl)
theorem dX9_copy_240 : decode cX9_copy 240 = .ok (.iload 5, 2) := dk_21 5 (dk_at dksX9_copy_10 6 rfl rfl)
theorem dX9_copy_242 : decode cX9_copy 242 = .ok (.ireturn, 1) := dk_172 (dk_at dksX9_copy_10 8 rfl rfl)
abbrev cX9_element : ByteArray := prog_34_method_66_code
def yX9_element : MethodName := ⟨RX9, "element", "(II)J"⟩
def dkwX9_element_2 : List UInt8 := [27, 104, 28, 96, 47, 167, 0, 4, 9, 173]
abbrev dktX9_element_2 : List UInt8 := dkwX9_element_2 ++ []
def dkwX9_element_1 : List UInt8 := [28, 133, 9, 42, 180, 0, 44, 27, 46, 4, 100, 133, 184, 0, 54, 153, 0, 17, 42, 180, 0, 47, 16, 40]
abbrev dktX9_element_1 : List UInt8 := dkwX9_element_1 ++ dktX9_element_2
def dkwX9_element_0 : List UInt8 := [27, 184, 0, 165, 153, 0, 52, 42, 180, 0, 41, 27, 46, 133, 9, 20, 0, 181, 184, 0, 54, 153, 0, 35]
abbrev dktX9_element_0 : List UInt8 := dkwX9_element_0 ++ dktX9_element_1
theorem dksX9_element_0 : cX9_element.data.toList.drop 0 = dktX9_element_0 := by decide +kernel
theorem dksX9_element_1 : cX9_element.data.toList.drop 24 = dktX9_element_1 := dk_seg dksX9_element_0 24 rfl rfl
theorem dksX9_element_2 : cX9_element.data.toList.drop 48 = dktX9_element_2 := dk_seg dksX9_element_1 24 rfl rfl
theorem dX9_element_0 : decode cX9_element 0 = .ok (.iload_n 1, 1) := dk_27 (dk_at dksX9_element_0 0 rfl rfl)
theorem dX9_element_1 : decode cX9_element 1 = .ok (.invokestatic 165, 3) := dk_184 0 165 (dk_at dksX9_element_0 1 rfl rfl)
theorem dX9_element_4 : decode cX9_element 4 = .ok (.ifCond .eq 52, 3) := dk_153 0 52 (dk_at dksX9_element_0 4 rfl rfl)
theorem dX9_element_7 : decode cX9_element 7 = .ok (.aload_n 0, 1) := dk_42 (dk_at dksX9_element_0 7 rfl rfl)
theorem dX9_element_8 : decode cX9_element 8 = .ok (.getfield 41, 3) := dk_180 0 41 (dk_at dksX9_element_0 8 rfl rfl)
theorem dX9_element_11 : decode cX9_element 11 = .ok (.iload_n 1, 1) := dk_27 (dk_at dksX9_element_0 11 rfl rfl)
theorem dX9_element_12 : decode cX9_element 12 = .ok (.iaload, 1) := dk_46 (dk_at dksX9_element_0 12 rfl rfl)
theorem dX9_element_13 : decode cX9_element 13 = .ok (.i2l, 1) := dk_133 (dk_at dksX9_element_0 13 rfl rfl)
theorem dX9_element_14 : decode cX9_element 14 = .ok (.lconst 0, 1) := dk_9 (dk_at dksX9_element_0 14 rfl rfl)
theorem dX9_element_15 : decode cX9_element 15 = .ok (.ldc2_w 181, 3) := dk_20 0 181 (dk_at dksX9_element_0 15 rfl rfl)
theorem dX9_element_18 : decode cX9_element 18 = .ok (.invokestatic 54, 3) := dk_184 0 54 (dk_at dksX9_element_0 18 rfl rfl)
theorem dX9_element_21 : decode cX9_element 21 = .ok (.ifCond .eq 35, 3) := dk_153 0 35 (dk_at dksX9_element_0 21 rfl rfl)
theorem dX9_element_24 : decode cX9_element 24 = .ok (.iload_n 2, 1) := dk_28 (dk_at dksX9_element_1 0 rfl rfl)
theorem dX9_element_25 : decode cX9_element 25 = .ok (.i2l, 1) := dk_133 (dk_at dksX9_element_1 1 rfl rfl)
theorem dX9_element_26 : decode cX9_element 26 = .ok (.lconst 0, 1) := dk_9 (dk_at dksX9_element_1 2 rfl rfl)
theorem dX9_element_27 : decode cX9_element 27 = .ok (.aload_n 0, 1) := dk_42 (dk_at dksX9_element_1 3 rfl rfl)
theorem dX9_element_28 : decode cX9_element 28 = .ok (.getfield 44, 3) := dk_180 0 44 (dk_at dksX9_element_1 4 rfl rfl)
theorem dX9_element_31 : decode cX9_element 31 = .ok (.iload_n 1, 1) := dk_27 (dk_at dksX9_element_1 7 rfl rfl)
theorem dX9_element_32 : decode cX9_element 32 = .ok (.iaload, 1) := dk_46 (dk_at dksX9_element_1 8 rfl rfl)
theorem dX9_element_33 : decode cX9_element 33 = .ok (.iconst 1, 1) := dk_4 (dk_at dksX9_element_1 9 rfl rfl)
theorem dX9_element_34 : decode cX9_element 34 = .ok (.isub, 1) := dk_100 (dk_at dksX9_element_1 10 rfl rfl)
theorem dX9_element_35 : decode cX9_element 35 = .ok (.i2l, 1) := dk_133 (dk_at dksX9_element_1 11 rfl rfl)
theorem dX9_element_36 : decode cX9_element 36 = .ok (.invokestatic 54, 3) := dk_184 0 54 (dk_at dksX9_element_1 12 rfl rfl)
theorem dX9_element_39 : decode cX9_element 39 = .ok (.ifCond .eq 17, 3) := dk_153 0 17 (dk_at dksX9_element_1 15 rfl rfl)
theorem dX9_element_42 : decode cX9_element 42 = .ok (.aload_n 0, 1) := dk_42 (dk_at dksX9_element_1 18 rfl rfl)
theorem dX9_element_43 : decode cX9_element 43 = .ok (.getfield 47, 3) := dk_180 0 47 (dk_at dksX9_element_1 19 rfl rfl)
theorem dX9_element_46 : decode cX9_element 46 = .ok (.bipush 40, 2) := dk_16 40 (dk_at dksX9_element_1 22 rfl rfl)
theorem dX9_element_48 : decode cX9_element 48 = .ok (.iload_n 1, 1) := dk_27 (dk_at dksX9_element_2 0 rfl rfl)
theorem dX9_element_49 : decode cX9_element 49 = .ok (.imul, 1) := dk_104 (dk_at dksX9_element_2 1 rfl rfl)
theorem dX9_element_50 : decode cX9_element 50 = .ok (.iload_n 2, 1) := dk_28 (dk_at dksX9_element_2 2 rfl rfl)
theorem dX9_element_51 : decode cX9_element 51 = .ok (.iadd, 1) := dk_96 (dk_at dksX9_element_2 3 rfl rfl)
theorem dX9_element_52 : decode cX9_element 52 = .ok (.laload, 1) := dk_47 (dk_at dksX9_element_2 4 rfl rfl)
theorem dX9_element_53 : decode cX9_element 53 = .ok (.goto 4, 3) := dk_167 0 4 (dk_at dksX9_element_2 5 rfl rfl)
theorem dX9_element_56 : decode cX9_element 56 = .ok (.lconst 0, 1) := dk_9 (dk_at dksX9_element_2 8 rfl rfl)
theorem dX9_element_57 : decode cX9_element 57 = .ok (.lreturn, 1) := dk_173 (dk_at dksX9_element_2 9 rfl rfl)
abbrev cX9_holds : ByteArray := prog_34_method_67_code
def yX9_holds : MethodName := ⟨RX9, "holds", "(I)I"⟩
def dkwX9_holds_0 : List UInt8 := [27, 184, 0, 165, 153, 0, 12, 42, 180, 0, 41, 27, 46, 167, 0, 4, 2, 172]
abbrev dktX9_holds_0 : List UInt8 := dkwX9_holds_0 ++ []
theorem dksX9_holds_0 : cX9_holds.data.toList.drop 0 = dktX9_holds_0 := by decide +kernel
theorem dX9_holds_0 : decode cX9_holds 0 = .ok (.iload_n 1, 1) := dk_27 (dk_at dksX9_holds_0 0 rfl rfl)
theorem dX9_holds_1 : decode cX9_holds 1 = .ok (.invokestatic 165, 3) := dk_184 0 165 (dk_at dksX9_holds_0 1 rfl rfl)
theorem dX9_holds_4 : decode cX9_holds 4 = .ok (.ifCond .eq 12, 3) := dk_153 0 12 (dk_at dksX9_holds_0 4 rfl rfl)
theorem dX9_holds_7 : decode cX9_holds 7 = .ok (.aload_n 0, 1) := dk_42 (dk_at dksX9_holds_0 7 rfl rfl)
theorem dX9_holds_8 : decode cX9_holds 8 = .ok (.getfield 41, 3) := dk_180 0 41 (dk_at dksX9_holds_0 8 rfl rfl)
theorem dX9_holds_11 : decode cX9_holds 11 = .ok (.iload_n 1, 1) := dk_27 (dk_at dksX9_holds_0 11 rfl rfl)
theorem dX9_holds_12 : decode cX9_holds 12 = .ok (.iaload, 1) := dk_46 (dk_at dksX9_holds_0 12 rfl rfl)
theorem dX9_holds_13 : decode cX9_holds 13 = .ok (.goto 4, 3) := dk_167 0 4 (dk_at dksX9_holds_0 13 rfl rfl)
theorem dX9_holds_16 : decode cX9_holds 16 = .ok (.iconst (-1), 1) := dk_2 (dk_at dksX9_holds_0 16 rfl rfl)
theorem dX9_holds_17 : decode cX9_holds 17 = .ok (.ireturn, 1) := dk_172 (dk_at dksX9_holds_0 17 rfl rfl)
abbrev cX9_show : ByteArray := prog_34_method_68_code
def yX9_show : MethodName := ⟨RX9, "show", "(II)I"⟩
def dkwX9_show_2 : List UInt8 := [172]
abbrev dktX9_show_2 : List UInt8 := dkwX9_show_2 ++ []
def dkwX9_show_1 : List UInt8 := [182, 0, 132, 172, 42, 180, 0, 41, 27, 28, 2, 160, 0, 7, 2, 167, 0, 7, 16, 10, 28, 96, 79, 4]
abbrev dktX9_show_1 : List UInt8 := dkwX9_show_1 ++ dktX9_show_2
def dkwX9_show_0 : List UInt8 := [27, 184, 0, 165, 153, 0, 16, 28, 2, 159, 0, 18, 42, 28, 182, 0, 201, 154, 0, 10, 42, 16, 154]
abbrev dktX9_show_0 : List UInt8 := dkwX9_show_0 ++ dktX9_show_1
theorem dksX9_show_0 : cX9_show.data.toList.drop 0 = dktX9_show_0 := by decide +kernel
theorem dksX9_show_1 : cX9_show.data.toList.drop 23 = dktX9_show_1 := dk_seg dksX9_show_0 23 rfl rfl
theorem dksX9_show_2 : cX9_show.data.toList.drop 47 = dktX9_show_2 := dk_seg dksX9_show_1 24 rfl rfl
theorem dX9_show_0 : decode cX9_show 0 = .ok (.iload_n 1, 1) := dk_27 (dk_at dksX9_show_0 0 rfl rfl)
theorem dX9_show_1 : decode cX9_show 1 = .ok (.invokestatic 165, 3) := dk_184 0 165 (dk_at dksX9_show_0 1 rfl rfl)
theorem dX9_show_4 : decode cX9_show 4 = .ok (.ifCond .eq 16, 3) := dk_153 0 16 (dk_at dksX9_show_0 4 rfl rfl)
theorem dX9_show_7 : decode cX9_show 7 = .ok (.iload_n 2, 1) := dk_28 (dk_at dksX9_show_0 7 rfl rfl)
theorem dX9_show_8 : decode cX9_show 8 = .ok (.iconst (-1), 1) := dk_2 (dk_at dksX9_show_0 8 rfl rfl)
theorem dX9_show_9 : decode cX9_show 9 = .ok (.if_icmp .eq 18, 3) := dk_159 0 18 (dk_at dksX9_show_0 9 rfl rfl)
theorem dX9_show_12 : decode cX9_show 12 = .ok (.aload_n 0, 1) := dk_42 (dk_at dksX9_show_0 12 rfl rfl)
theorem dX9_show_13 : decode cX9_show 13 = .ok (.iload_n 2, 1) := dk_28 (dk_at dksX9_show_0 13 rfl rfl)
theorem dX9_show_14 : decode cX9_show 14 = .ok (.invokevirtual 201, 3) := dk_182 0 201 (dk_at dksX9_show_0 14 rfl rfl)
theorem dX9_show_17 : decode cX9_show 17 = .ok (.ifCond .ne 10, 3) := dk_154 0 10 (dk_at dksX9_show_0 17 rfl rfl)
theorem dX9_show_20 : decode cX9_show 20 = .ok (.aload_n 0, 1) := dk_42 (dk_at dksX9_show_0 20 rfl rfl)
theorem dX9_show_21 : decode cX9_show 21 = .ok (.bipush (-102), 2) := dk_16 154 (dk_at dksX9_show_0 21 rfl rfl)
theorem dX9_show_23 : decode cX9_show 23 = .ok (.invokevirtual 132, 3) := dk_182 0 132 (dk_at dksX9_show_1 0 rfl rfl)
theorem dX9_show_26 : decode cX9_show 26 = .ok (.ireturn, 1) := dk_172 (dk_at dksX9_show_1 3 rfl rfl)
theorem dX9_show_27 : decode cX9_show 27 = .ok (.aload_n 0, 1) := dk_42 (dk_at dksX9_show_1 4 rfl rfl)
theorem dX9_show_28 : decode cX9_show 28 = .ok (.getfield 41, 3) := dk_180 0 41 (dk_at dksX9_show_1 5 rfl rfl)
theorem dX9_show_31 : decode cX9_show 31 = .ok (.iload_n 1, 1) := dk_27 (dk_at dksX9_show_1 8 rfl rfl)
theorem dX9_show_32 : decode cX9_show 32 = .ok (.iload_n 2, 1) := dk_28 (dk_at dksX9_show_1 9 rfl rfl)
theorem dX9_show_33 : decode cX9_show 33 = .ok (.iconst (-1), 1) := dk_2 (dk_at dksX9_show_1 10 rfl rfl)
theorem dX9_show_34 : decode cX9_show 34 = .ok (.if_icmp .ne 7, 3) := dk_160 0 7 (dk_at dksX9_show_1 11 rfl rfl)
theorem dX9_show_37 : decode cX9_show 37 = .ok (.iconst (-1), 1) := dk_2 (dk_at dksX9_show_1 14 rfl rfl)
theorem dX9_show_38 : decode cX9_show 38 = .ok (.goto 7, 3) := dk_167 0 7 (dk_at dksX9_show_1 15 rfl rfl)
theorem dX9_show_41 : decode cX9_show 41 = .ok (.bipush 10, 2) := dk_16 10 (dk_at dksX9_show_1 18 rfl rfl)
theorem dX9_show_43 : decode cX9_show 43 = .ok (.iload_n 2, 1) := dk_28 (dk_at dksX9_show_1 20 rfl rfl)
theorem dX9_show_44 : decode cX9_show 44 = .ok (.iadd, 1) := dk_96 (dk_at dksX9_show_1 21 rfl rfl)
theorem dX9_show_45 : decode cX9_show 45 = .ok (.iastore, 1) := dk_79 (dk_at dksX9_show_1 22 rfl rfl)
theorem dX9_show_46 : decode cX9_show 46 = .ok (.iconst 1, 1) := dk_4 (dk_at dksX9_show_1 23 rfl rfl)
theorem dX9_show_47 : decode cX9_show 47 = .ok (.ireturn, 1) := dk_172 (dk_at dksX9_show_2 0 rfl rfl)
abbrev cX9_says : ByteArray := prog_34_method_69_code
def yX9_says : MethodName := ⟨RX9, "says", "(II)I"⟩
def dkwX9_says_8 : List UInt8 := [167, 0, 4, 3, 172, 42, 29, 5, 182, 0, 66, 172]
abbrev dktX9_says_8 : List UInt8 := dkwX9_says_8 ++ []
def dkwX9_says_7 : List UInt8 := [184, 0, 72, 172, 42, 29, 6, 182, 0, 66, 172, 42, 29, 5, 182, 0, 66, 5, 160, 0, 7, 4]
abbrev dktX9_says_7 : List UInt8 := dkwX9_says_7 ++ dktX9_says_8
def dkwX9_says_6 : List UInt8 := [42, 29, 4, 182, 0, 66, 172, 21, 4, 3, 3, 3, 5, 184, 0, 72, 172, 21, 4, 4, 3, 3, 4]
abbrev dktX9_says_6 : List UInt8 := dkwX9_says_6 ++ dktX9_says_7
def dkwX9_says_5 : List UInt8 := [170, 0, 0, 0, 0, 0, 97, 0, 0, 0, 0, 0, 0, 0, 7, 0, 0, 0, 47, 0, 0, 0, 54, 0, 0, 0, 64, 0, 0, 0, 97, 0, 0, 0, 97, 0, 0, 0, 97, 0, 0, 0, 74, 0, 0, 0, 81]
abbrev dktX9_says_5 : List UInt8 := dkwX9_says_5 ++ dktX9_says_6
def dkwX9_says_4 : List UInt8 := [16, 153, 182, 0, 132, 172, 28]
abbrev dktX9_says_4 : List UInt8 := dkwX9_says_4 ++ dktX9_says_5
def dkwX9_says_3 : List UInt8 := [27, 46, 16, 10, 100, 62, 42, 29, 3, 182, 0, 66, 54, 4, 21, 4, 28, 184, 0, 204, 154, 0, 10, 42]
abbrev dktX9_says_3 : List UInt8 := dkwX9_says_3 ++ dktX9_says_4
def dkwX9_says_2 : List UInt8 := [182, 0, 132, 172, 42, 180, 0, 41, 27, 46, 156, 0, 10, 42, 16, 152, 182, 0, 132, 172, 42, 180, 0, 41]
abbrev dktX9_says_2 : List UInt8 := dkwX9_says_2 ++ dktX9_says_3
def dkwX9_says_1 : List UInt8 := [182, 0, 132, 172, 42, 180, 0, 41, 27, 46, 133, 9, 20, 0, 181, 184, 0, 54, 153, 0, 10, 42, 16, 153]
abbrev dktX9_says_1 : List UInt8 := dkwX9_says_1 ++ dktX9_says_2
def dkwX9_says_0 : List UInt8 := [27, 184, 0, 165, 153, 0, 15, 28, 133, 9, 20, 0, 189, 184, 0, 54, 154, 0, 10, 42, 16, 154]
abbrev dktX9_says_0 : List UInt8 := dkwX9_says_0 ++ dktX9_says_1
theorem dksX9_says_0 : cX9_says.data.toList.drop 0 = dktX9_says_0 := by decide +kernel
theorem dksX9_says_1 : cX9_says.data.toList.drop 22 = dktX9_says_1 := dk_seg dksX9_says_0 22 rfl rfl
theorem dksX9_says_2 : cX9_says.data.toList.drop 46 = dktX9_says_2 := dk_seg dksX9_says_1 24 rfl rfl
theorem dksX9_says_3 : cX9_says.data.toList.drop 70 = dktX9_says_3 := dk_seg dksX9_says_2 24 rfl rfl
theorem dksX9_says_4 : cX9_says.data.toList.drop 94 = dktX9_says_4 := dk_seg dksX9_says_3 24 rfl rfl
theorem dksX9_says_5 : cX9_says.data.toList.drop 101 = dktX9_says_5 := dk_seg dksX9_says_4 7 rfl rfl
theorem dksX9_says_6 : cX9_says.data.toList.drop 148 = dktX9_says_6 := dk_seg dksX9_says_5 47 rfl rfl
theorem dksX9_says_7 : cX9_says.data.toList.drop 171 = dktX9_says_7 := dk_seg dksX9_says_6 23 rfl rfl
theorem dksX9_says_8 : cX9_says.data.toList.drop 193 = dktX9_says_8 := dk_seg dksX9_says_7 22 rfl rfl
theorem dX9_says_0 : decode cX9_says 0 = .ok (.iload_n 1, 1) := dk_27 (dk_at dksX9_says_0 0 rfl rfl)
theorem dX9_says_1 : decode cX9_says 1 = .ok (.invokestatic 165, 3) := dk_184 0 165 (dk_at dksX9_says_0 1 rfl rfl)
theorem dX9_says_4 : decode cX9_says 4 = .ok (.ifCond .eq 15, 3) := dk_153 0 15 (dk_at dksX9_says_0 4 rfl rfl)
theorem dX9_says_7 : decode cX9_says 7 = .ok (.iload_n 2, 1) := dk_28 (dk_at dksX9_says_0 7 rfl rfl)
theorem dX9_says_8 : decode cX9_says 8 = .ok (.i2l, 1) := dk_133 (dk_at dksX9_says_0 8 rfl rfl)
theorem dX9_says_9 : decode cX9_says 9 = .ok (.lconst 0, 1) := dk_9 (dk_at dksX9_says_0 9 rfl rfl)
theorem dX9_says_10 : decode cX9_says 10 = .ok (.ldc2_w 189, 3) := dk_20 0 189 (dk_at dksX9_says_0 10 rfl rfl)
theorem dX9_says_13 : decode cX9_says 13 = .ok (.invokestatic 54, 3) := dk_184 0 54 (dk_at dksX9_says_0 13 rfl rfl)
theorem dX9_says_16 : decode cX9_says 16 = .ok (.ifCond .ne 10, 3) := dk_154 0 10 (dk_at dksX9_says_0 16 rfl rfl)
theorem dX9_says_19 : decode cX9_says 19 = .ok (.aload_n 0, 1) := dk_42 (dk_at dksX9_says_0 19 rfl rfl)
theorem dX9_says_20 : decode cX9_says 20 = .ok (.bipush (-102), 2) := dk_16 154 (dk_at dksX9_says_0 20 rfl rfl)
theorem dX9_says_22 : decode cX9_says 22 = .ok (.invokevirtual 132, 3) := dk_182 0 132 (dk_at dksX9_says_1 0 rfl rfl)
theorem dX9_says_25 : decode cX9_says 25 = .ok (.ireturn, 1) := dk_172 (dk_at dksX9_says_1 3 rfl rfl)
theorem dX9_says_26 : decode cX9_says 26 = .ok (.aload_n 0, 1) := dk_42 (dk_at dksX9_says_1 4 rfl rfl)
theorem dX9_says_27 : decode cX9_says 27 = .ok (.getfield 41, 3) := dk_180 0 41 (dk_at dksX9_says_1 5 rfl rfl)
theorem dX9_says_30 : decode cX9_says 30 = .ok (.iload_n 1, 1) := dk_27 (dk_at dksX9_says_1 8 rfl rfl)
theorem dX9_says_31 : decode cX9_says 31 = .ok (.iaload, 1) := dk_46 (dk_at dksX9_says_1 9 rfl rfl)
theorem dX9_says_32 : decode cX9_says 32 = .ok (.i2l, 1) := dk_133 (dk_at dksX9_says_1 10 rfl rfl)
theorem dX9_says_33 : decode cX9_says 33 = .ok (.lconst 0, 1) := dk_9 (dk_at dksX9_says_1 11 rfl rfl)
theorem dX9_says_34 : decode cX9_says 34 = .ok (.ldc2_w 181, 3) := dk_20 0 181 (dk_at dksX9_says_1 12 rfl rfl)
theorem dX9_says_37 : decode cX9_says 37 = .ok (.invokestatic 54, 3) := dk_184 0 54 (dk_at dksX9_says_1 15 rfl rfl)
theorem dX9_says_40 : decode cX9_says 40 = .ok (.ifCond .eq 10, 3) := dk_153 0 10 (dk_at dksX9_says_1 18 rfl rfl)
theorem dX9_says_43 : decode cX9_says 43 = .ok (.aload_n 0, 1) := dk_42 (dk_at dksX9_says_1 21 rfl rfl)
theorem dX9_says_44 : decode cX9_says 44 = .ok (.bipush (-103), 2) := dk_16 153 (dk_at dksX9_says_1 22 rfl rfl)
theorem dX9_says_46 : decode cX9_says 46 = .ok (.invokevirtual 132, 3) := dk_182 0 132 (dk_at dksX9_says_2 0 rfl rfl)
theorem dX9_says_49 : decode cX9_says 49 = .ok (.ireturn, 1) := dk_172 (dk_at dksX9_says_2 3 rfl rfl)
theorem dX9_says_50 : decode cX9_says 50 = .ok (.aload_n 0, 1) := dk_42 (dk_at dksX9_says_2 4 rfl rfl)
theorem dX9_says_51 : decode cX9_says 51 = .ok (.getfield 41, 3) := dk_180 0 41 (dk_at dksX9_says_2 5 rfl rfl)
theorem dX9_says_54 : decode cX9_says 54 = .ok (.iload_n 1, 1) := dk_27 (dk_at dksX9_says_2 8 rfl rfl)
theorem dX9_says_55 : decode cX9_says 55 = .ok (.iaload, 1) := dk_46 (dk_at dksX9_says_2 9 rfl rfl)
theorem dX9_says_56 : decode cX9_says 56 = .ok (.ifCond .ge 10, 3) := dk_156 0 10 (dk_at dksX9_says_2 10 rfl rfl)
theorem dX9_says_59 : decode cX9_says 59 = .ok (.aload_n 0, 1) := dk_42 (dk_at dksX9_says_2 13 rfl rfl)
theorem dX9_says_60 : decode cX9_says 60 = .ok (.bipush (-104), 2) := dk_16 152 (dk_at dksX9_says_2 14 rfl rfl)
theorem dX9_says_62 : decode cX9_says 62 = .ok (.invokevirtual 132, 3) := dk_182 0 132 (dk_at dksX9_says_2 16 rfl rfl)
theorem dX9_says_65 : decode cX9_says 65 = .ok (.ireturn, 1) := dk_172 (dk_at dksX9_says_2 19 rfl rfl)
theorem dX9_says_66 : decode cX9_says 66 = .ok (.aload_n 0, 1) := dk_42 (dk_at dksX9_says_2 20 rfl rfl)
theorem dX9_says_67 : decode cX9_says 67 = .ok (.getfield 41, 3) := dk_180 0 41 (dk_at dksX9_says_2 21 rfl rfl)
theorem dX9_says_70 : decode cX9_says 70 = .ok (.iload_n 1, 1) := dk_27 (dk_at dksX9_says_3 0 rfl rfl)
theorem dX9_says_71 : decode cX9_says 71 = .ok (.iaload, 1) := dk_46 (dk_at dksX9_says_3 1 rfl rfl)
theorem dX9_says_72 : decode cX9_says 72 = .ok (.bipush 10, 2) := dk_16 10 (dk_at dksX9_says_3 2 rfl rfl)
theorem dX9_says_74 : decode cX9_says 74 = .ok (.isub, 1) := dk_100 (dk_at dksX9_says_3 4 rfl rfl)
theorem dX9_says_75 : decode cX9_says 75 = .ok (.istore_n 3, 1) := dk_62 (dk_at dksX9_says_3 5 rfl rfl)
theorem dX9_says_76 : decode cX9_says 76 = .ok (.aload_n 0, 1) := dk_42 (dk_at dksX9_says_3 6 rfl rfl)
theorem dX9_says_77 : decode cX9_says 77 = .ok (.iload_n 3, 1) := dk_29 (dk_at dksX9_says_3 7 rfl rfl)
theorem dX9_says_78 : decode cX9_says 78 = .ok (.iconst 0, 1) := dk_3 (dk_at dksX9_says_3 8 rfl rfl)
theorem dX9_says_79 : decode cX9_says 79 = .ok (.invokevirtual 66, 3) := dk_182 0 66 (dk_at dksX9_says_3 9 rfl rfl)
theorem dX9_says_82 : decode cX9_says 82 = .ok (.istore 4, 2) := dk_54 4 (dk_at dksX9_says_3 12 rfl rfl)
theorem dX9_says_84 : decode cX9_says 84 = .ok (.iload 4, 2) := dk_21 4 (dk_at dksX9_says_3 14 rfl rfl)
theorem dX9_says_86 : decode cX9_says 86 = .ok (.iload_n 2, 1) := dk_28 (dk_at dksX9_says_3 16 rfl rfl)
theorem dX9_says_87 : decode cX9_says 87 = .ok (.invokestatic 204, 3) := dk_184 0 204 (dk_at dksX9_says_3 17 rfl rfl)
theorem dX9_says_90 : decode cX9_says 90 = .ok (.ifCond .ne 10, 3) := dk_154 0 10 (dk_at dksX9_says_3 20 rfl rfl)
theorem dX9_says_93 : decode cX9_says 93 = .ok (.aload_n 0, 1) := dk_42 (dk_at dksX9_says_3 23 rfl rfl)
theorem dX9_says_94 : decode cX9_says 94 = .ok (.bipush (-103), 2) := dk_16 153 (dk_at dksX9_says_4 0 rfl rfl)
theorem dX9_says_96 : decode cX9_says 96 = .ok (.invokevirtual 132, 3) := dk_182 0 132 (dk_at dksX9_says_4 2 rfl rfl)
theorem dX9_says_99 : decode cX9_says 99 = .ok (.ireturn, 1) := dk_172 (dk_at dksX9_says_4 5 rfl rfl)
theorem dX9_says_100 : decode cX9_says 100 = .ok (.iload_n 2, 1) := dk_28 (dk_at dksX9_says_4 6 rfl rfl)
theorem dX9_says_101 : decode cX9_says 101 = .ok (.tableswitch 97 0 7 #[47, 54, 64, 97, 97, 97, 74, 81], 47) := by decide +kernel
theorem dX9_says_148 : decode cX9_says 148 = .ok (.aload_n 0, 1) := dk_42 (dk_at dksX9_says_6 0 rfl rfl)
theorem dX9_says_149 : decode cX9_says 149 = .ok (.iload_n 3, 1) := dk_29 (dk_at dksX9_says_6 1 rfl rfl)
theorem dX9_says_150 : decode cX9_says 150 = .ok (.iconst 1, 1) := dk_4 (dk_at dksX9_says_6 2 rfl rfl)
theorem dX9_says_151 : decode cX9_says 151 = .ok (.invokevirtual 66, 3) := dk_182 0 66 (dk_at dksX9_says_6 3 rfl rfl)
theorem dX9_says_154 : decode cX9_says 154 = .ok (.ireturn, 1) := dk_172 (dk_at dksX9_says_6 6 rfl rfl)
theorem dX9_says_155 : decode cX9_says 155 = .ok (.iload 4, 2) := dk_21 4 (dk_at dksX9_says_6 7 rfl rfl)
theorem dX9_says_157 : decode cX9_says 157 = .ok (.iconst 0, 1) := dk_3 (dk_at dksX9_says_6 9 rfl rfl)
theorem dX9_says_158 : decode cX9_says 158 = .ok (.iconst 0, 1) := dk_3 (dk_at dksX9_says_6 10 rfl rfl)
theorem dX9_says_159 : decode cX9_says 159 = .ok (.iconst 0, 1) := dk_3 (dk_at dksX9_says_6 11 rfl rfl)
theorem dX9_says_160 : decode cX9_says 160 = .ok (.iconst 2, 1) := dk_5 (dk_at dksX9_says_6 12 rfl rfl)
theorem dX9_says_161 : decode cX9_says 161 = .ok (.invokestatic 72, 3) := dk_184 0 72 (dk_at dksX9_says_6 13 rfl rfl)
theorem dX9_says_164 : decode cX9_says 164 = .ok (.ireturn, 1) := dk_172 (dk_at dksX9_says_6 16 rfl rfl)
theorem dX9_says_165 : decode cX9_says 165 = .ok (.iload 4, 2) := dk_21 4 (dk_at dksX9_says_6 17 rfl rfl)
theorem dX9_says_167 : decode cX9_says 167 = .ok (.iconst 1, 1) := dk_4 (dk_at dksX9_says_6 19 rfl rfl)
theorem dX9_says_168 : decode cX9_says 168 = .ok (.iconst 0, 1) := dk_3 (dk_at dksX9_says_6 20 rfl rfl)
theorem dX9_says_169 : decode cX9_says 169 = .ok (.iconst 0, 1) := dk_3 (dk_at dksX9_says_6 21 rfl rfl)
theorem dX9_says_170 : decode cX9_says 170 = .ok (.iconst 1, 1) := dk_4 (dk_at dksX9_says_6 22 rfl rfl)
theorem dX9_says_171 : decode cX9_says 171 = .ok (.invokestatic 72, 3) := dk_184 0 72 (dk_at dksX9_says_7 0 rfl rfl)
theorem dX9_says_174 : decode cX9_says 174 = .ok (.ireturn, 1) := dk_172 (dk_at dksX9_says_7 3 rfl rfl)
theorem dX9_says_175 : decode cX9_says 175 = .ok (.aload_n 0, 1) := dk_42 (dk_at dksX9_says_7 4 rfl rfl)
theorem dX9_says_176 : decode cX9_says 176 = .ok (.iload_n 3, 1) := dk_29 (dk_at dksX9_says_7 5 rfl rfl)
theorem dX9_says_177 : decode cX9_says 177 = .ok (.iconst 3, 1) := dk_6 (dk_at dksX9_says_7 6 rfl rfl)
theorem dX9_says_178 : decode cX9_says 178 = .ok (.invokevirtual 66, 3) := dk_182 0 66 (dk_at dksX9_says_7 7 rfl rfl)
theorem dX9_says_181 : decode cX9_says 181 = .ok (.ireturn, 1) := dk_172 (dk_at dksX9_says_7 10 rfl rfl)
theorem dX9_says_182 : decode cX9_says 182 = .ok (.aload_n 0, 1) := dk_42 (dk_at dksX9_says_7 11 rfl rfl)
theorem dX9_says_183 : decode cX9_says 183 = .ok (.iload_n 3, 1) := dk_29 (dk_at dksX9_says_7 12 rfl rfl)
theorem dX9_says_184 : decode cX9_says 184 = .ok (.iconst 2, 1) := dk_5 (dk_at dksX9_says_7 13 rfl rfl)
theorem dX9_says_185 : decode cX9_says 185 = .ok (.invokevirtual 66, 3) := dk_182 0 66 (dk_at dksX9_says_7 14 rfl rfl)
theorem dX9_says_188 : decode cX9_says 188 = .ok (.iconst 2, 1) := dk_5 (dk_at dksX9_says_7 17 rfl rfl)
theorem dX9_says_189 : decode cX9_says 189 = .ok (.if_icmp .ne 7, 3) := dk_160 0 7 (dk_at dksX9_says_7 18 rfl rfl)
theorem dX9_says_192 : decode cX9_says 192 = .ok (.iconst 1, 1) := dk_4 (dk_at dksX9_says_7 21 rfl rfl)
theorem dX9_says_193 : decode cX9_says 193 = .ok (.goto 4, 3) := dk_167 0 4 (dk_at dksX9_says_8 0 rfl rfl)
theorem dX9_says_196 : decode cX9_says 196 = .ok (.iconst 0, 1) := dk_3 (dk_at dksX9_says_8 3 rfl rfl)
theorem dX9_says_197 : decode cX9_says 197 = .ok (.ireturn, 1) := dk_172 (dk_at dksX9_says_8 4 rfl rfl)
theorem dX9_says_198 : decode cX9_says 198 = .ok (.aload_n 0, 1) := dk_42 (dk_at dksX9_says_8 5 rfl rfl)
theorem dX9_says_199 : decode cX9_says 199 = .ok (.iload_n 3, 1) := dk_29 (dk_at dksX9_says_8 6 rfl rfl)
theorem dX9_says_200 : decode cX9_says 200 = .ok (.iconst 2, 1) := dk_5 (dk_at dksX9_says_8 7 rfl rfl)
theorem dX9_says_201 : decode cX9_says 201 = .ok (.invokevirtual 66, 3) := dk_182 0 66 (dk_at dksX9_says_8 8 rfl rfl)
theorem dX9_says_204 : decode cX9_says 204 = .ok (.ireturn, 1) := dk_172 (dk_at dksX9_says_8 11 rfl rfl)
abbrev cX9_judge : ByteArray := prog_34_method_70_code
def yX9_judge : MethodName := ⟨RX9, "judge", "(III)I"⟩
def dkwX9_judge_8 : List UInt8 := [154, 0, 6, 21, 4, 172, 132, 4, 1, 167, 255, 144, 2, 172]
abbrev dktX9_judge_8 : List UInt8 := dkwX9_judge_8 ++ []
def dkwX9_judge_7 : List UInt8 := [21, 4, 96, 104, 96, 5, 96, 46, 133, 148, 154, 0, 7, 4, 167, 0, 4, 3, 54, 5, 21, 5]
abbrev dktX9_judge_7 : List UInt8 := dkwX9_judge_7 ++ dktX9_judge_8
def dkwX9_judge_6 : List UInt8 := [180, 0, 47, 16, 40, 28, 104, 5, 21, 4, 104, 96, 4, 96, 47, 42, 180, 0, 9, 17, 3, 141, 7, 27]
abbrev dktX9_judge_6 : List UInt8 := dkwX9_judge_6 ++ dktX9_judge_7
def dkwX9_judge_5 : List UInt8 := [180, 0, 9, 17, 3, 141, 7, 27, 21, 4, 96, 104, 96, 4, 96, 46, 133, 148, 154, 0, 45, 42]
abbrev dktX9_judge_5 : List UInt8 := dkwX9_judge_5 ++ dktX9_judge_6
def dkwX9_judge_4 : List UInt8 := [16, 15, 46, 21, 4, 100, 162, 0, 81, 42, 180, 0, 47, 16, 40, 28, 104, 5, 21, 4, 104, 96, 47, 42]
abbrev dktX9_judge_4 : List UInt8 := dkwX9_judge_4 ++ dktX9_judge_5
def dkwX9_judge_3 : List UInt8 := [164, 0, 10, 42, 16, 154, 182, 0, 132, 172, 3, 54, 4, 21, 4, 29, 162, 0, 112, 27, 42, 180, 0, 9]
abbrev dktX9_judge_3 : List UInt8 := dkwX9_judge_3 ++ dktX9_judge_4
def dkwX9_judge_2 : List UInt8 := [180, 0, 41, 28, 46, 156, 0, 10, 42, 16, 152, 182, 0, 132, 172, 5, 29, 104, 42, 180, 0, 44, 28, 46]
abbrev dktX9_judge_2 : List UInt8 := dkwX9_judge_2 ++ dktX9_judge_3
def dkwX9_judge_1 : List UInt8 := [16, 154, 182, 0, 132, 172, 42, 180, 0, 41, 28, 46, 7, 164, 0, 10, 42, 16, 153, 182, 0, 132, 172, 42]
abbrev dktX9_judge_1 : List UInt8 := dkwX9_judge_1 ++ dktX9_judge_2
def dkwX9_judge_0 : List UInt8 := [27, 155, 0, 22, 28, 184, 0, 165, 153, 0, 15, 29, 133, 9, 20, 0, 232, 184, 0, 54, 154, 0, 10, 42]
abbrev dktX9_judge_0 : List UInt8 := dkwX9_judge_0 ++ dktX9_judge_1
theorem dksX9_judge_0 : cX9_judge.data.toList.drop 0 = dktX9_judge_0 := by decide +kernel
theorem dksX9_judge_1 : cX9_judge.data.toList.drop 24 = dktX9_judge_1 := dk_seg dksX9_judge_0 24 rfl rfl
theorem dksX9_judge_2 : cX9_judge.data.toList.drop 48 = dktX9_judge_2 := dk_seg dksX9_judge_1 24 rfl rfl
theorem dksX9_judge_3 : cX9_judge.data.toList.drop 72 = dktX9_judge_3 := dk_seg dksX9_judge_2 24 rfl rfl
theorem dksX9_judge_4 : cX9_judge.data.toList.drop 96 = dktX9_judge_4 := dk_seg dksX9_judge_3 24 rfl rfl
theorem dksX9_judge_5 : cX9_judge.data.toList.drop 120 = dktX9_judge_5 := dk_seg dksX9_judge_4 24 rfl rfl
theorem dksX9_judge_6 : cX9_judge.data.toList.drop 142 = dktX9_judge_6 := dk_seg dksX9_judge_5 22 rfl rfl
theorem dksX9_judge_7 : cX9_judge.data.toList.drop 166 = dktX9_judge_7 := dk_seg dksX9_judge_6 24 rfl rfl
theorem dksX9_judge_8 : cX9_judge.data.toList.drop 188 = dktX9_judge_8 := dk_seg dksX9_judge_7 22 rfl rfl
theorem dX9_judge_0 : decode cX9_judge 0 = .ok (.iload_n 1, 1) := dk_27 (dk_at dksX9_judge_0 0 rfl rfl)
theorem dX9_judge_1 : decode cX9_judge 1 = .ok (.ifCond .lt 22, 3) := dk_155 0 22 (dk_at dksX9_judge_0 1 rfl rfl)
theorem dX9_judge_4 : decode cX9_judge 4 = .ok (.iload_n 2, 1) := dk_28 (dk_at dksX9_judge_0 4 rfl rfl)
theorem dX9_judge_5 : decode cX9_judge 5 = .ok (.invokestatic 165, 3) := dk_184 0 165 (dk_at dksX9_judge_0 5 rfl rfl)
theorem dX9_judge_8 : decode cX9_judge 8 = .ok (.ifCond .eq 15, 3) := dk_153 0 15 (dk_at dksX9_judge_0 8 rfl rfl)
theorem dX9_judge_11 : decode cX9_judge 11 = .ok (.iload_n 3, 1) := dk_29 (dk_at dksX9_judge_0 11 rfl rfl)
theorem dX9_judge_12 : decode cX9_judge 12 = .ok (.i2l, 1) := dk_133 (dk_at dksX9_judge_0 12 rfl rfl)
theorem dX9_judge_13 : decode cX9_judge 13 = .ok (.lconst 0, 1) := dk_9 (dk_at dksX9_judge_0 13 rfl rfl)
theorem dX9_judge_14 : decode cX9_judge 14 = .ok (.ldc2_w 232, 3) := dk_20 0 232 (dk_at dksX9_judge_0 14 rfl rfl)
theorem dX9_judge_17 : decode cX9_judge 17 = .ok (.invokestatic 54, 3) := dk_184 0 54 (dk_at dksX9_judge_0 17 rfl rfl)
theorem dX9_judge_20 : decode cX9_judge 20 = .ok (.ifCond .ne 10, 3) := dk_154 0 10 (dk_at dksX9_judge_0 20 rfl rfl)
theorem dX9_judge_23 : decode cX9_judge 23 = .ok (.aload_n 0, 1) := dk_42 (dk_at dksX9_judge_0 23 rfl rfl)
theorem dX9_judge_24 : decode cX9_judge 24 = .ok (.bipush (-102), 2) := dk_16 154 (dk_at dksX9_judge_1 0 rfl rfl)
theorem dX9_judge_26 : decode cX9_judge 26 = .ok (.invokevirtual 132, 3) := dk_182 0 132 (dk_at dksX9_judge_1 2 rfl rfl)
theorem dX9_judge_29 : decode cX9_judge 29 = .ok (.ireturn, 1) := dk_172 (dk_at dksX9_judge_1 5 rfl rfl)
theorem dX9_judge_30 : decode cX9_judge 30 = .ok (.aload_n 0, 1) := dk_42 (dk_at dksX9_judge_1 6 rfl rfl)
theorem dX9_judge_31 : decode cX9_judge 31 = .ok (.getfield 41, 3) := dk_180 0 41 (dk_at dksX9_judge_1 7 rfl rfl)
theorem dX9_judge_34 : decode cX9_judge 34 = .ok (.iload_n 2, 1) := dk_28 (dk_at dksX9_judge_1 10 rfl rfl)
theorem dX9_judge_35 : decode cX9_judge 35 = .ok (.iaload, 1) := dk_46 (dk_at dksX9_judge_1 11 rfl rfl)
theorem dX9_judge_36 : decode cX9_judge 36 = .ok (.iconst 4, 1) := dk_7 (dk_at dksX9_judge_1 12 rfl rfl)
theorem dX9_judge_37 : decode cX9_judge 37 = .ok (.if_icmp .le 10, 3) := dk_164 0 10 (dk_at dksX9_judge_1 13 rfl rfl)
theorem dX9_judge_40 : decode cX9_judge 40 = .ok (.aload_n 0, 1) := dk_42 (dk_at dksX9_judge_1 16 rfl rfl)
theorem dX9_judge_41 : decode cX9_judge 41 = .ok (.bipush (-103), 2) := dk_16 153 (dk_at dksX9_judge_1 17 rfl rfl)
theorem dX9_judge_43 : decode cX9_judge 43 = .ok (.invokevirtual 132, 3) := dk_182 0 132 (dk_at dksX9_judge_1 19 rfl rfl)
theorem dX9_judge_46 : decode cX9_judge 46 = .ok (.ireturn, 1) := dk_172 (dk_at dksX9_judge_1 22 rfl rfl)
theorem dX9_judge_47 : decode cX9_judge 47 = .ok (.aload_n 0, 1) := dk_42 (dk_at dksX9_judge_1 23 rfl rfl)
theorem dX9_judge_48 : decode cX9_judge 48 = .ok (.getfield 41, 3) := dk_180 0 41 (dk_at dksX9_judge_2 0 rfl rfl)
theorem dX9_judge_51 : decode cX9_judge 51 = .ok (.iload_n 2, 1) := dk_28 (dk_at dksX9_judge_2 3 rfl rfl)
theorem dX9_judge_52 : decode cX9_judge 52 = .ok (.iaload, 1) := dk_46 (dk_at dksX9_judge_2 4 rfl rfl)
theorem dX9_judge_53 : decode cX9_judge 53 = .ok (.ifCond .ge 10, 3) := dk_156 0 10 (dk_at dksX9_judge_2 5 rfl rfl)
theorem dX9_judge_56 : decode cX9_judge 56 = .ok (.aload_n 0, 1) := dk_42 (dk_at dksX9_judge_2 8 rfl rfl)
theorem dX9_judge_57 : decode cX9_judge 57 = .ok (.bipush (-104), 2) := dk_16 152 (dk_at dksX9_judge_2 9 rfl rfl)
theorem dX9_judge_59 : decode cX9_judge 59 = .ok (.invokevirtual 132, 3) := dk_182 0 132 (dk_at dksX9_judge_2 11 rfl rfl)
theorem dX9_judge_62 : decode cX9_judge 62 = .ok (.ireturn, 1) := dk_172 (dk_at dksX9_judge_2 14 rfl rfl)
theorem dX9_judge_63 : decode cX9_judge 63 = .ok (.iconst 2, 1) := dk_5 (dk_at dksX9_judge_2 15 rfl rfl)
theorem dX9_judge_64 : decode cX9_judge 64 = .ok (.iload_n 3, 1) := dk_29 (dk_at dksX9_judge_2 16 rfl rfl)
theorem dX9_judge_65 : decode cX9_judge 65 = .ok (.imul, 1) := dk_104 (dk_at dksX9_judge_2 17 rfl rfl)
theorem dX9_judge_66 : decode cX9_judge 66 = .ok (.aload_n 0, 1) := dk_42 (dk_at dksX9_judge_2 18 rfl rfl)
theorem dX9_judge_67 : decode cX9_judge 67 = .ok (.getfield 44, 3) := dk_180 0 44 (dk_at dksX9_judge_2 19 rfl rfl)
theorem dX9_judge_70 : decode cX9_judge 70 = .ok (.iload_n 2, 1) := dk_28 (dk_at dksX9_judge_2 22 rfl rfl)
theorem dX9_judge_71 : decode cX9_judge 71 = .ok (.iaload, 1) := dk_46 (dk_at dksX9_judge_2 23 rfl rfl)
theorem dX9_judge_72 : decode cX9_judge 72 = .ok (.if_icmp .le 10, 3) := dk_164 0 10 (dk_at dksX9_judge_3 0 rfl rfl)
theorem dX9_judge_75 : decode cX9_judge 75 = .ok (.aload_n 0, 1) := dk_42 (dk_at dksX9_judge_3 3 rfl rfl)
theorem dX9_judge_76 : decode cX9_judge 76 = .ok (.bipush (-102), 2) := dk_16 154 (dk_at dksX9_judge_3 4 rfl rfl)
theorem dX9_judge_78 : decode cX9_judge 78 = .ok (.invokevirtual 132, 3) := dk_182 0 132 (dk_at dksX9_judge_3 6 rfl rfl)
theorem dX9_judge_81 : decode cX9_judge 81 = .ok (.ireturn, 1) := dk_172 (dk_at dksX9_judge_3 9 rfl rfl)
theorem dX9_judge_82 : decode cX9_judge 82 = .ok (.iconst 0, 1) := dk_3 (dk_at dksX9_judge_3 10 rfl rfl)
theorem dX9_judge_83 : decode cX9_judge 83 = .ok (.istore 4, 2) := dk_54 4 (dk_at dksX9_judge_3 11 rfl rfl)
theorem dX9_judge_85 : decode cX9_judge 85 = .ok (.iload 4, 2) := dk_21 4 (dk_at dksX9_judge_3 13 rfl rfl)
theorem dX9_judge_87 : decode cX9_judge 87 = .ok (.iload_n 3, 1) := dk_29 (dk_at dksX9_judge_3 15 rfl rfl)
theorem dX9_judge_88 : decode cX9_judge 88 = .ok (.if_icmp .ge 112, 3) := dk_162 0 112 (dk_at dksX9_judge_3 16 rfl rfl)
theorem dX9_judge_91 : decode cX9_judge 91 = .ok (.iload_n 1, 1) := dk_27 (dk_at dksX9_judge_3 19 rfl rfl)
theorem dX9_judge_92 : decode cX9_judge 92 = .ok (.aload_n 0, 1) := dk_42 (dk_at dksX9_judge_3 20 rfl rfl)
theorem dX9_judge_93 : decode cX9_judge 93 = .ok (.getfield 9, 3) := dk_180 0 9 (dk_at dksX9_judge_3 21 rfl rfl)
theorem dX9_judge_96 : decode cX9_judge 96 = .ok (.bipush 15, 2) := dk_16 15 (dk_at dksX9_judge_4 0 rfl rfl)
theorem dX9_judge_98 : decode cX9_judge 98 = .ok (.iaload, 1) := dk_46 (dk_at dksX9_judge_4 2 rfl rfl)
theorem dX9_judge_99 : decode cX9_judge 99 = .ok (.iload 4, 2) := dk_21 4 (dk_at dksX9_judge_4 3 rfl rfl)
theorem dX9_judge_101 : decode cX9_judge 101 = .ok (.isub, 1) := dk_100 (dk_at dksX9_judge_4 5 rfl rfl)
theorem dX9_judge_102 : decode cX9_judge 102 = .ok (.if_icmp .ge 81, 3) := dk_162 0 81 (dk_at dksX9_judge_4 6 rfl rfl)
theorem dX9_judge_105 : decode cX9_judge 105 = .ok (.aload_n 0, 1) := dk_42 (dk_at dksX9_judge_4 9 rfl rfl)
theorem dX9_judge_106 : decode cX9_judge 106 = .ok (.getfield 47, 3) := dk_180 0 47 (dk_at dksX9_judge_4 10 rfl rfl)
theorem dX9_judge_109 : decode cX9_judge 109 = .ok (.bipush 40, 2) := dk_16 40 (dk_at dksX9_judge_4 13 rfl rfl)
theorem dX9_judge_111 : decode cX9_judge 111 = .ok (.iload_n 2, 1) := dk_28 (dk_at dksX9_judge_4 15 rfl rfl)
theorem dX9_judge_112 : decode cX9_judge 112 = .ok (.imul, 1) := dk_104 (dk_at dksX9_judge_4 16 rfl rfl)
theorem dX9_judge_113 : decode cX9_judge 113 = .ok (.iconst 2, 1) := dk_5 (dk_at dksX9_judge_4 17 rfl rfl)
theorem dX9_judge_114 : decode cX9_judge 114 = .ok (.iload 4, 2) := dk_21 4 (dk_at dksX9_judge_4 18 rfl rfl)
theorem dX9_judge_116 : decode cX9_judge 116 = .ok (.imul, 1) := dk_104 (dk_at dksX9_judge_4 20 rfl rfl)
theorem dX9_judge_117 : decode cX9_judge 117 = .ok (.iadd, 1) := dk_96 (dk_at dksX9_judge_4 21 rfl rfl)
theorem dX9_judge_118 : decode cX9_judge 118 = .ok (.laload, 1) := dk_47 (dk_at dksX9_judge_4 22 rfl rfl)
theorem dX9_judge_119 : decode cX9_judge 119 = .ok (.aload_n 0, 1) := dk_42 (dk_at dksX9_judge_4 23 rfl rfl)
theorem dX9_judge_120 : decode cX9_judge 120 = .ok (.getfield 9, 3) := dk_180 0 9 (dk_at dksX9_judge_5 0 rfl rfl)
theorem dX9_judge_123 : decode cX9_judge 123 = .ok (.sipush 909, 3) := dk_17 3 141 (dk_at dksX9_judge_5 3 rfl rfl)
theorem dX9_judge_126 : decode cX9_judge 126 = .ok (.iconst 4, 1) := dk_7 (dk_at dksX9_judge_5 6 rfl rfl)
theorem dX9_judge_127 : decode cX9_judge 127 = .ok (.iload_n 1, 1) := dk_27 (dk_at dksX9_judge_5 7 rfl rfl)
theorem dX9_judge_128 : decode cX9_judge 128 = .ok (.iload 4, 2) := dk_21 4 (dk_at dksX9_judge_5 8 rfl rfl)
theorem dX9_judge_130 : decode cX9_judge 130 = .ok (.iadd, 1) := dk_96 (dk_at dksX9_judge_5 10 rfl rfl)
theorem dX9_judge_131 : decode cX9_judge 131 = .ok (.imul, 1) := dk_104 (dk_at dksX9_judge_5 11 rfl rfl)
theorem dX9_judge_132 : decode cX9_judge 132 = .ok (.iadd, 1) := dk_96 (dk_at dksX9_judge_5 12 rfl rfl)
theorem dX9_judge_133 : decode cX9_judge 133 = .ok (.iconst 1, 1) := dk_4 (dk_at dksX9_judge_5 13 rfl rfl)
theorem dX9_judge_134 : decode cX9_judge 134 = .ok (.iadd, 1) := dk_96 (dk_at dksX9_judge_5 14 rfl rfl)
theorem dX9_judge_135 : decode cX9_judge 135 = .ok (.iaload, 1) := dk_46 (dk_at dksX9_judge_5 15 rfl rfl)
theorem dX9_judge_136 : decode cX9_judge 136 = .ok (.i2l, 1) := dk_133 (dk_at dksX9_judge_5 16 rfl rfl)
theorem dX9_judge_137 : decode cX9_judge 137 = .ok (.lcmp, 1) := dk_148 (dk_at dksX9_judge_5 17 rfl rfl)
theorem dX9_judge_138 : decode cX9_judge 138 = .ok (.ifCond .ne 45, 3) := dk_154 0 45 (dk_at dksX9_judge_5 18 rfl rfl)
theorem dX9_judge_141 : decode cX9_judge 141 = .ok (.aload_n 0, 1) := dk_42 (dk_at dksX9_judge_5 21 rfl rfl)
theorem dX9_judge_142 : decode cX9_judge 142 = .ok (.getfield 47, 3) := dk_180 0 47 (dk_at dksX9_judge_6 0 rfl rfl)
theorem dX9_judge_145 : decode cX9_judge 145 = .ok (.bipush 40, 2) := dk_16 40 (dk_at dksX9_judge_6 3 rfl rfl)
theorem dX9_judge_147 : decode cX9_judge 147 = .ok (.iload_n 2, 1) := dk_28 (dk_at dksX9_judge_6 5 rfl rfl)
theorem dX9_judge_148 : decode cX9_judge 148 = .ok (.imul, 1) := dk_104 (dk_at dksX9_judge_6 6 rfl rfl)
theorem dX9_judge_149 : decode cX9_judge 149 = .ok (.iconst 2, 1) := dk_5 (dk_at dksX9_judge_6 7 rfl rfl)
theorem dX9_judge_150 : decode cX9_judge 150 = .ok (.iload 4, 2) := dk_21 4 (dk_at dksX9_judge_6 8 rfl rfl)
theorem dX9_judge_152 : decode cX9_judge 152 = .ok (.imul, 1) := dk_104 (dk_at dksX9_judge_6 10 rfl rfl)
theorem dX9_judge_153 : decode cX9_judge 153 = .ok (.iadd, 1) := dk_96 (dk_at dksX9_judge_6 11 rfl rfl)
theorem dX9_judge_154 : decode cX9_judge 154 = .ok (.iconst 1, 1) := dk_4 (dk_at dksX9_judge_6 12 rfl rfl)
theorem dX9_judge_155 : decode cX9_judge 155 = .ok (.iadd, 1) := dk_96 (dk_at dksX9_judge_6 13 rfl rfl)
theorem dX9_judge_156 : decode cX9_judge 156 = .ok (.laload, 1) := dk_47 (dk_at dksX9_judge_6 14 rfl rfl)
theorem dX9_judge_157 : decode cX9_judge 157 = .ok (.aload_n 0, 1) := dk_42 (dk_at dksX9_judge_6 15 rfl rfl)
theorem dX9_judge_158 : decode cX9_judge 158 = .ok (.getfield 9, 3) := dk_180 0 9 (dk_at dksX9_judge_6 16 rfl rfl)
theorem dX9_judge_161 : decode cX9_judge 161 = .ok (.sipush 909, 3) := dk_17 3 141 (dk_at dksX9_judge_6 19 rfl rfl)
theorem dX9_judge_164 : decode cX9_judge 164 = .ok (.iconst 4, 1) := dk_7 (dk_at dksX9_judge_6 22 rfl rfl)
theorem dX9_judge_165 : decode cX9_judge 165 = .ok (.iload_n 1, 1) := dk_27 (dk_at dksX9_judge_6 23 rfl rfl)
theorem dX9_judge_166 : decode cX9_judge 166 = .ok (.iload 4, 2) := dk_21 4 (dk_at dksX9_judge_7 0 rfl rfl)
theorem dX9_judge_168 : decode cX9_judge 168 = .ok (.iadd, 1) := dk_96 (dk_at dksX9_judge_7 2 rfl rfl)
theorem dX9_judge_169 : decode cX9_judge 169 = .ok (.imul, 1) := dk_104 (dk_at dksX9_judge_7 3 rfl rfl)
theorem dX9_judge_170 : decode cX9_judge 170 = .ok (.iadd, 1) := dk_96 (dk_at dksX9_judge_7 4 rfl rfl)
theorem dX9_judge_171 : decode cX9_judge 171 = .ok (.iconst 2, 1) := dk_5 (dk_at dksX9_judge_7 5 rfl rfl)
theorem dX9_judge_172 : decode cX9_judge 172 = .ok (.iadd, 1) := dk_96 (dk_at dksX9_judge_7 6 rfl rfl)
theorem dX9_judge_173 : decode cX9_judge 173 = .ok (.iaload, 1) := dk_46 (dk_at dksX9_judge_7 7 rfl rfl)
theorem dX9_judge_174 : decode cX9_judge 174 = .ok (.i2l, 1) := dk_133 (dk_at dksX9_judge_7 8 rfl rfl)
theorem dX9_judge_175 : decode cX9_judge 175 = .ok (.lcmp, 1) := dk_148 (dk_at dksX9_judge_7 9 rfl rfl)
theorem dX9_judge_176 : decode cX9_judge 176 = .ok (.ifCond .ne 7, 3) := dk_154 0 7 (dk_at dksX9_judge_7 10 rfl rfl)
theorem dX9_judge_179 : decode cX9_judge 179 = .ok (.iconst 1, 1) := dk_4 (dk_at dksX9_judge_7 13 rfl rfl)
theorem dX9_judge_180 : decode cX9_judge 180 = .ok (.goto 4, 3) := dk_167 0 4 (dk_at dksX9_judge_7 14 rfl rfl)
theorem dX9_judge_183 : decode cX9_judge 183 = .ok (.iconst 0, 1) := dk_3 (dk_at dksX9_judge_7 17 rfl rfl)
theorem dX9_judge_184 : decode cX9_judge 184 = .ok (.istore 5, 2) := dk_54 5 (dk_at dksX9_judge_7 18 rfl rfl)
theorem dX9_judge_186 : decode cX9_judge 186 = .ok (.iload 5, 2) := dk_21 5 (dk_at dksX9_judge_7 20 rfl rfl)
theorem dX9_judge_188 : decode cX9_judge 188 = .ok (.ifCond .ne 6, 3) := dk_154 0 6 (dk_at dksX9_judge_8 0 rfl rfl)
theorem dX9_judge_191 : decode cX9_judge 191 = .ok (.iload 4, 2) := dk_21 4 (dk_at dksX9_judge_8 3 rfl rfl)
theorem dX9_judge_193 : decode cX9_judge 193 = .ok (.ireturn, 1) := dk_172 (dk_at dksX9_judge_8 5 rfl rfl)
theorem dX9_judge_194 : decode cX9_judge 194 = .ok (.iinc 4 1, 3) := dk_132 4 1 (dk_at dksX9_judge_8 6 rfl rfl)
theorem dX9_judge_197 : decode cX9_judge 197 = .ok (.goto (-112), 3) := dk_167 255 144 (dk_at dksX9_judge_8 9 rfl rfl)
theorem dX9_judge_200 : decode cX9_judge 200 = .ok (.iconst (-1), 1) := dk_2 (dk_at dksX9_judge_8 12 rfl rfl)
theorem dX9_judge_201 : decode cX9_judge 201 = .ok (.ireturn, 1) := dk_172 (dk_at dksX9_judge_8 13 rfl rfl)
abbrev cX9_days : ByteArray := prog_34_method_72_code
def yX9_days : MethodName := ⟨RX9, "days", "(I)I"⟩
def dkwX9_days_4 : List UInt8 := [172]
abbrev dktX9_days_4 : List UInt8 := dkwX9_days_4 ++ []
def dkwX9_days_3 : List UInt8 := [182, 0, 237, 96, 182, 0, 191, 54, 5, 28, 42, 4, 182, 0, 127, 96, 61, 132, 3, 1, 167, 255, 189, 28]
abbrev dktX9_days_3 : List UInt8 := dkwX9_days_3 ++ dktX9_days_4
def dkwX9_days_2 : List UInt8 := [162, 0, 33, 6, 42, 8, 182, 0, 237, 96, 54, 4, 42, 21, 4, 42, 180, 0, 9, 3, 46, 42, 16, 24]
abbrev dktX9_days_2 : List UInt8 := dkwX9_days_2 ++ dktX9_days_3
def dkwX9_days_1 : List UInt8 := [27, 162, 0, 68, 42, 6, 182, 0, 237, 154, 0, 46, 42, 180, 0, 9, 16, 14, 46, 17, 0, 200]
abbrev dktX9_days_1 : List UInt8 := dkwX9_days_1 ++ dktX9_days_2
def dkwX9_days_0 : List UInt8 := [27, 133, 10, 20, 0, 235, 184, 0, 54, 154, 0, 10, 42, 16, 154, 182, 0, 132, 172, 3, 61, 3, 62, 29]
abbrev dktX9_days_0 : List UInt8 := dkwX9_days_0 ++ dktX9_days_1
theorem dksX9_days_0 : cX9_days.data.toList.drop 0 = dktX9_days_0 := by decide +kernel
theorem dksX9_days_1 : cX9_days.data.toList.drop 24 = dktX9_days_1 := dk_seg dksX9_days_0 24 rfl rfl
theorem dksX9_days_2 : cX9_days.data.toList.drop 46 = dktX9_days_2 := dk_seg dksX9_days_1 22 rfl rfl
theorem dksX9_days_3 : cX9_days.data.toList.drop 70 = dktX9_days_3 := dk_seg dksX9_days_2 24 rfl rfl
theorem dksX9_days_4 : cX9_days.data.toList.drop 94 = dktX9_days_4 := dk_seg dksX9_days_3 24 rfl rfl
theorem dX9_days_0 : decode cX9_days 0 = .ok (.iload_n 1, 1) := dk_27 (dk_at dksX9_days_0 0 rfl rfl)
theorem dX9_days_1 : decode cX9_days 1 = .ok (.i2l, 1) := dk_133 (dk_at dksX9_days_0 1 rfl rfl)
theorem dX9_days_2 : decode cX9_days 2 = .ok (.lconst 1, 1) := dk_10 (dk_at dksX9_days_0 2 rfl rfl)
theorem dX9_days_3 : decode cX9_days 3 = .ok (.ldc2_w 235, 3) := dk_20 0 235 (dk_at dksX9_days_0 3 rfl rfl)
theorem dX9_days_6 : decode cX9_days 6 = .ok (.invokestatic 54, 3) := dk_184 0 54 (dk_at dksX9_days_0 6 rfl rfl)
theorem dX9_days_9 : decode cX9_days 9 = .ok (.ifCond .ne 10, 3) := dk_154 0 10 (dk_at dksX9_days_0 9 rfl rfl)
theorem dX9_days_12 : decode cX9_days 12 = .ok (.aload_n 0, 1) := dk_42 (dk_at dksX9_days_0 12 rfl rfl)
theorem dX9_days_13 : decode cX9_days 13 = .ok (.bipush (-102), 2) := dk_16 154 (dk_at dksX9_days_0 13 rfl rfl)
theorem dX9_days_15 : decode cX9_days 15 = .ok (.invokevirtual 132, 3) := dk_182 0 132 (dk_at dksX9_days_0 15 rfl rfl)
theorem dX9_days_18 : decode cX9_days 18 = .ok (.ireturn, 1) := dk_172 (dk_at dksX9_days_0 18 rfl rfl)
theorem dX9_days_19 : decode cX9_days 19 = .ok (.iconst 0, 1) := dk_3 (dk_at dksX9_days_0 19 rfl rfl)
theorem dX9_days_20 : decode cX9_days 20 = .ok (.istore_n 2, 1) := dk_61 (dk_at dksX9_days_0 20 rfl rfl)
theorem dX9_days_21 : decode cX9_days 21 = .ok (.iconst 0, 1) := dk_3 (dk_at dksX9_days_0 21 rfl rfl)
theorem dX9_days_22 : decode cX9_days 22 = .ok (.istore_n 3, 1) := dk_62 (dk_at dksX9_days_0 22 rfl rfl)
theorem dX9_days_23 : decode cX9_days 23 = .ok (.iload_n 3, 1) := dk_29 (dk_at dksX9_days_0 23 rfl rfl)
theorem dX9_days_24 : decode cX9_days 24 = .ok (.iload_n 1, 1) := dk_27 (dk_at dksX9_days_1 0 rfl rfl)
theorem dX9_days_25 : decode cX9_days 25 = .ok (.if_icmp .ge 68, 3) := dk_162 0 68 (dk_at dksX9_days_1 1 rfl rfl)
theorem dX9_days_28 : decode cX9_days 28 = .ok (.aload_n 0, 1) := dk_42 (dk_at dksX9_days_1 4 rfl rfl)
theorem dX9_days_29 : decode cX9_days 29 = .ok (.iconst 3, 1) := dk_6 (dk_at dksX9_days_1 5 rfl rfl)
theorem dX9_days_30 : decode cX9_days 30 = .ok (.invokevirtual 237, 3) := dk_182 0 237 (dk_at dksX9_days_1 6 rfl rfl)
theorem dX9_days_33 : decode cX9_days 33 = .ok (.ifCond .ne 46, 3) := dk_154 0 46 (dk_at dksX9_days_1 9 rfl rfl)
theorem dX9_days_36 : decode cX9_days 36 = .ok (.aload_n 0, 1) := dk_42 (dk_at dksX9_days_1 12 rfl rfl)
theorem dX9_days_37 : decode cX9_days 37 = .ok (.getfield 9, 3) := dk_180 0 9 (dk_at dksX9_days_1 13 rfl rfl)
theorem dX9_days_40 : decode cX9_days 40 = .ok (.bipush 14, 2) := dk_16 14 (dk_at dksX9_days_1 16 rfl rfl)
theorem dX9_days_42 : decode cX9_days 42 = .ok (.iaload, 1) := dk_46 (dk_at dksX9_days_1 18 rfl rfl)
theorem dX9_days_43 : decode cX9_days 43 = .ok (.sipush 200, 3) := dk_17 0 200 (dk_at dksX9_days_1 19 rfl rfl)
theorem dX9_days_46 : decode cX9_days 46 = .ok (.if_icmp .ge 33, 3) := dk_162 0 33 (dk_at dksX9_days_2 0 rfl rfl)
theorem dX9_days_49 : decode cX9_days 49 = .ok (.iconst 3, 1) := dk_6 (dk_at dksX9_days_2 3 rfl rfl)
theorem dX9_days_50 : decode cX9_days 50 = .ok (.aload_n 0, 1) := dk_42 (dk_at dksX9_days_2 4 rfl rfl)
theorem dX9_days_51 : decode cX9_days 51 = .ok (.iconst 5, 1) := dk_8 (dk_at dksX9_days_2 5 rfl rfl)
theorem dX9_days_52 : decode cX9_days 52 = .ok (.invokevirtual 237, 3) := dk_182 0 237 (dk_at dksX9_days_2 6 rfl rfl)
theorem dX9_days_55 : decode cX9_days 55 = .ok (.iadd, 1) := dk_96 (dk_at dksX9_days_2 9 rfl rfl)
theorem dX9_days_56 : decode cX9_days 56 = .ok (.istore 4, 2) := dk_54 4 (dk_at dksX9_days_2 10 rfl rfl)
theorem dX9_days_58 : decode cX9_days 58 = .ok (.aload_n 0, 1) := dk_42 (dk_at dksX9_days_2 12 rfl rfl)
theorem dX9_days_59 : decode cX9_days 59 = .ok (.iload 4, 2) := dk_21 4 (dk_at dksX9_days_2 13 rfl rfl)
theorem dX9_days_61 : decode cX9_days 61 = .ok (.aload_n 0, 1) := dk_42 (dk_at dksX9_days_2 15 rfl rfl)
theorem dX9_days_62 : decode cX9_days 62 = .ok (.getfield 9, 3) := dk_180 0 9 (dk_at dksX9_days_2 16 rfl rfl)
theorem dX9_days_65 : decode cX9_days 65 = .ok (.iconst 0, 1) := dk_3 (dk_at dksX9_days_2 19 rfl rfl)
theorem dX9_days_66 : decode cX9_days 66 = .ok (.iaload, 1) := dk_46 (dk_at dksX9_days_2 20 rfl rfl)
theorem dX9_days_67 : decode cX9_days 67 = .ok (.aload_n 0, 1) := dk_42 (dk_at dksX9_days_2 21 rfl rfl)
theorem dX9_days_68 : decode cX9_days 68 = .ok (.bipush 24, 2) := dk_16 24 (dk_at dksX9_days_2 22 rfl rfl)
theorem dX9_days_70 : decode cX9_days 70 = .ok (.invokevirtual 237, 3) := dk_182 0 237 (dk_at dksX9_days_3 0 rfl rfl)
theorem dX9_days_73 : decode cX9_days 73 = .ok (.iadd, 1) := dk_96 (dk_at dksX9_days_3 3 rfl rfl)
theorem dX9_days_74 : decode cX9_days 74 = .ok (.invokevirtual 191, 3) := dk_182 0 191 (dk_at dksX9_days_3 4 rfl rfl)
theorem dX9_days_77 : decode cX9_days 77 = .ok (.istore 5, 2) := dk_54 5 (dk_at dksX9_days_3 7 rfl rfl)
theorem dX9_days_79 : decode cX9_days 79 = .ok (.iload_n 2, 1) := dk_28 (dk_at dksX9_days_3 9 rfl rfl)
theorem dX9_days_80 : decode cX9_days 80 = .ok (.aload_n 0, 1) := dk_42 (dk_at dksX9_days_3 10 rfl rfl)
theorem dX9_days_81 : decode cX9_days 81 = .ok (.iconst 1, 1) := dk_4 (dk_at dksX9_days_3 11 rfl rfl)
theorem dX9_days_82 : decode cX9_days 82 = .ok (.invokevirtual 127, 3) := dk_182 0 127 (dk_at dksX9_days_3 12 rfl rfl)
theorem dX9_days_85 : decode cX9_days 85 = .ok (.iadd, 1) := dk_96 (dk_at dksX9_days_3 15 rfl rfl)
theorem dX9_days_86 : decode cX9_days 86 = .ok (.istore_n 2, 1) := dk_61 (dk_at dksX9_days_3 16 rfl rfl)
theorem dX9_days_87 : decode cX9_days 87 = .ok (.iinc 3 1, 3) := dk_132 3 1 (dk_at dksX9_days_3 17 rfl rfl)
theorem dX9_days_90 : decode cX9_days 90 = .ok (.goto (-67), 3) := dk_167 255 189 (dk_at dksX9_days_3 20 rfl rfl)
theorem dX9_days_93 : decode cX9_days 93 = .ok (.iload_n 2, 1) := dk_28 (dk_at dksX9_days_3 23 rfl rfl)
theorem dX9_days_94 : decode cX9_days 94 = .ok (.ireturn, 1) := dk_172 (dk_at dksX9_days_4 0 rfl rfl)
abbrev cX9_draw : ByteArray := prog_34_method_71_code
def yX9_draw : MethodName := ⟨RX9, "draw", "(I)I"⟩
def dkwX9_draw_1 : List UInt8 := [180, 0, 9, 16, 19, 46, 16, 16, 124, 27, 112, 172]
abbrev dktX9_draw_1 : List UInt8 := dkwX9_draw_1 ++ []
def dkwX9_draw_0 : List UInt8 := [42, 180, 0, 9, 16, 19, 42, 180, 0, 9, 16, 19, 46, 18, 234, 104, 17, 48, 57, 96, 79, 42]
abbrev dktX9_draw_0 : List UInt8 := dkwX9_draw_0 ++ dktX9_draw_1
theorem dksX9_draw_0 : cX9_draw.data.toList.drop 0 = dktX9_draw_0 := by decide +kernel
theorem dksX9_draw_1 : cX9_draw.data.toList.drop 22 = dktX9_draw_1 := dk_seg dksX9_draw_0 22 rfl rfl
theorem dX9_draw_0 : decode cX9_draw 0 = .ok (.aload_n 0, 1) := dk_42 (dk_at dksX9_draw_0 0 rfl rfl)
theorem dX9_draw_1 : decode cX9_draw 1 = .ok (.getfield 9, 3) := dk_180 0 9 (dk_at dksX9_draw_0 1 rfl rfl)
theorem dX9_draw_4 : decode cX9_draw 4 = .ok (.bipush 19, 2) := dk_16 19 (dk_at dksX9_draw_0 4 rfl rfl)
theorem dX9_draw_6 : decode cX9_draw 6 = .ok (.aload_n 0, 1) := dk_42 (dk_at dksX9_draw_0 6 rfl rfl)
theorem dX9_draw_7 : decode cX9_draw 7 = .ok (.getfield 9, 3) := dk_180 0 9 (dk_at dksX9_draw_0 7 rfl rfl)
theorem dX9_draw_10 : decode cX9_draw 10 = .ok (.bipush 19, 2) := dk_16 19 (dk_at dksX9_draw_0 10 rfl rfl)
theorem dX9_draw_12 : decode cX9_draw 12 = .ok (.iaload, 1) := dk_46 (dk_at dksX9_draw_0 12 rfl rfl)
theorem dX9_draw_13 : decode cX9_draw 13 = .ok (.ldc 234, 2) := dk_18 234 (dk_at dksX9_draw_0 13 rfl rfl)
theorem dX9_draw_15 : decode cX9_draw 15 = .ok (.imul, 1) := dk_104 (dk_at dksX9_draw_0 15 rfl rfl)
theorem dX9_draw_16 : decode cX9_draw 16 = .ok (.sipush 12345, 3) := dk_17 48 57 (dk_at dksX9_draw_0 16 rfl rfl)
theorem dX9_draw_19 : decode cX9_draw 19 = .ok (.iadd, 1) := dk_96 (dk_at dksX9_draw_0 19 rfl rfl)
theorem dX9_draw_20 : decode cX9_draw 20 = .ok (.iastore, 1) := dk_79 (dk_at dksX9_draw_0 20 rfl rfl)
theorem dX9_draw_21 : decode cX9_draw 21 = .ok (.aload_n 0, 1) := dk_42 (dk_at dksX9_draw_0 21 rfl rfl)
theorem dX9_draw_22 : decode cX9_draw 22 = .ok (.getfield 9, 3) := dk_180 0 9 (dk_at dksX9_draw_1 0 rfl rfl)
theorem dX9_draw_25 : decode cX9_draw 25 = .ok (.bipush 19, 2) := dk_16 19 (dk_at dksX9_draw_1 3 rfl rfl)
theorem dX9_draw_27 : decode cX9_draw 27 = .ok (.iaload, 1) := dk_46 (dk_at dksX9_draw_1 5 rfl rfl)
theorem dX9_draw_28 : decode cX9_draw 28 = .ok (.bipush 16, 2) := dk_16 16 (dk_at dksX9_draw_1 6 rfl rfl)
theorem dX9_draw_30 : decode cX9_draw 30 = .ok (.iushr, 1) := dk_124 (dk_at dksX9_draw_1 8 rfl rfl)
theorem dX9_draw_31 : decode cX9_draw 31 = .ok (.iload_n 1, 1) := dk_27 (dk_at dksX9_draw_1 9 rfl rfl)
theorem dX9_draw_32 : decode cX9_draw 32 = .ok (.irem, 1) := dk_112 (dk_at dksX9_draw_1 10 rfl rfl)
theorem dX9_draw_33 : decode cX9_draw 33 = .ok (.ireturn, 1) := dk_172 (dk_at dksX9_draw_1 11 rfl rfl)
abbrev cX9_seed : ByteArray := prog_34_method_73_code
def yX9_seed : MethodName := ⟨RX9, "seed", "(I)I"⟩
def dkwX9_seed_0 : List UInt8 := [42, 180, 0, 9, 16, 19, 46, 61, 42, 180, 0, 9, 16, 19, 27, 79, 28, 172]
abbrev dktX9_seed_0 : List UInt8 := dkwX9_seed_0 ++ []
theorem dksX9_seed_0 : cX9_seed.data.toList.drop 0 = dktX9_seed_0 := by decide +kernel
theorem dX9_seed_0 : decode cX9_seed 0 = .ok (.aload_n 0, 1) := dk_42 (dk_at dksX9_seed_0 0 rfl rfl)
theorem dX9_seed_1 : decode cX9_seed 1 = .ok (.getfield 9, 3) := dk_180 0 9 (dk_at dksX9_seed_0 1 rfl rfl)
theorem dX9_seed_4 : decode cX9_seed 4 = .ok (.bipush 19, 2) := dk_16 19 (dk_at dksX9_seed_0 4 rfl rfl)
theorem dX9_seed_6 : decode cX9_seed 6 = .ok (.iaload, 1) := dk_46 (dk_at dksX9_seed_0 6 rfl rfl)
theorem dX9_seed_7 : decode cX9_seed 7 = .ok (.istore_n 2, 1) := dk_61 (dk_at dksX9_seed_0 7 rfl rfl)
theorem dX9_seed_8 : decode cX9_seed 8 = .ok (.aload_n 0, 1) := dk_42 (dk_at dksX9_seed_0 8 rfl rfl)
theorem dX9_seed_9 : decode cX9_seed 9 = .ok (.getfield 9, 3) := dk_180 0 9 (dk_at dksX9_seed_0 9 rfl rfl)
theorem dX9_seed_12 : decode cX9_seed 12 = .ok (.bipush 19, 2) := dk_16 19 (dk_at dksX9_seed_0 12 rfl rfl)
theorem dX9_seed_14 : decode cX9_seed 14 = .ok (.iload_n 1, 1) := dk_27 (dk_at dksX9_seed_0 14 rfl rfl)
theorem dX9_seed_15 : decode cX9_seed 15 = .ok (.iastore, 1) := dk_79 (dk_at dksX9_seed_0 15 rfl rfl)
theorem dX9_seed_16 : decode cX9_seed 16 = .ok (.iload_n 2, 1) := dk_28 (dk_at dksX9_seed_0 16 rfl rfl)
theorem dX9_seed_17 : decode cX9_seed 17 = .ok (.ireturn, 1) := dk_172 (dk_at dksX9_seed_0 17 rfl rfl)
abbrev cX9_image : ByteArray := prog_34_method_74_code
def yX9_image : MethodName := ⟨RX9, "image", "()I"⟩
def dkwX9_image_0 : List UInt8 := [42, 180, 0, 9, 42, 180, 0, 16, 184, 0, 123, 42, 4, 181, 0, 240, 4, 172]
abbrev dktX9_image_0 : List UInt8 := dkwX9_image_0 ++ []
theorem dksX9_image_0 : cX9_image.data.toList.drop 0 = dktX9_image_0 := by decide +kernel
theorem dX9_image_0 : decode cX9_image 0 = .ok (.aload_n 0, 1) := dk_42 (dk_at dksX9_image_0 0 rfl rfl)
theorem dX9_image_1 : decode cX9_image 1 = .ok (.getfield 9, 3) := dk_180 0 9 (dk_at dksX9_image_0 1 rfl rfl)
theorem dX9_image_4 : decode cX9_image 4 = .ok (.aload_n 0, 1) := dk_42 (dk_at dksX9_image_0 4 rfl rfl)
theorem dX9_image_5 : decode cX9_image 5 = .ok (.getfield 16, 3) := dk_180 0 16 (dk_at dksX9_image_0 5 rfl rfl)
theorem dX9_image_8 : decode cX9_image 8 = .ok (.invokestatic 123, 3) := dk_184 0 123 (dk_at dksX9_image_0 8 rfl rfl)
theorem dX9_image_11 : decode cX9_image 11 = .ok (.aload_n 0, 1) := dk_42 (dk_at dksX9_image_0 11 rfl rfl)
theorem dX9_image_12 : decode cX9_image 12 = .ok (.iconst 1, 1) := dk_4 (dk_at dksX9_image_0 12 rfl rfl)
theorem dX9_image_13 : decode cX9_image 13 = .ok (.putfield 240, 3) := dk_181 0 240 (dk_at dksX9_image_0 13 rfl rfl)
theorem dX9_image_16 : decode cX9_image 16 = .ok (.iconst 1, 1) := dk_4 (dk_at dksX9_image_0 16 rfl rfl)
theorem dX9_image_17 : decode cX9_image 17 = .ok (.ireturn, 1) := dk_172 (dk_at dksX9_image_0 17 rfl rfl)
abbrev cX9_back : ByteArray := prog_34_method_75_code
def yX9_back : MethodName := ⟨RX9, "back", "()I"⟩
def dkwX9_back_3 : List UInt8 := [132, 1, 1, 167, 255, 212, 4, 172]
abbrev dktX9_back_3 : List UInt8 := dkwX9_back_3 ++ []
def dkwX9_back_2 : List UInt8 := [42, 180, 0, 9, 16, 14, 46, 96, 161, 0, 7, 2, 167, 0, 9, 42, 180, 0, 41, 27, 46, 79]
abbrev dktX9_back_2 : List UInt8 := dkwX9_back_2 ++ dktX9_back_3
def dkwX9_back_1 : List UInt8 := [184, 0, 123, 3, 60, 27, 16, 8, 162, 0, 44, 42, 180, 0, 41, 27, 42, 180, 0, 41, 27, 46, 16, 10]
abbrev dktX9_back_1 : List UInt8 := dkwX9_back_1 ++ dktX9_back_2
def dkwX9_back_0 : List UInt8 := [42, 180, 0, 240, 154, 0, 10, 42, 16, 151, 182, 0, 132, 172, 42, 180, 0, 16, 42, 180, 0, 9]
abbrev dktX9_back_0 : List UInt8 := dkwX9_back_0 ++ dktX9_back_1
theorem dksX9_back_0 : cX9_back.data.toList.drop 0 = dktX9_back_0 := by decide +kernel
theorem dksX9_back_1 : cX9_back.data.toList.drop 22 = dktX9_back_1 := dk_seg dksX9_back_0 22 rfl rfl
theorem dksX9_back_2 : cX9_back.data.toList.drop 46 = dktX9_back_2 := dk_seg dksX9_back_1 24 rfl rfl
theorem dksX9_back_3 : cX9_back.data.toList.drop 68 = dktX9_back_3 := dk_seg dksX9_back_2 22 rfl rfl
theorem dX9_back_0 : decode cX9_back 0 = .ok (.aload_n 0, 1) := dk_42 (dk_at dksX9_back_0 0 rfl rfl)
theorem dX9_back_1 : decode cX9_back 1 = .ok (.getfield 240, 3) := dk_180 0 240 (dk_at dksX9_back_0 1 rfl rfl)
theorem dX9_back_4 : decode cX9_back 4 = .ok (.ifCond .ne 10, 3) := dk_154 0 10 (dk_at dksX9_back_0 4 rfl rfl)
theorem dX9_back_7 : decode cX9_back 7 = .ok (.aload_n 0, 1) := dk_42 (dk_at dksX9_back_0 7 rfl rfl)
theorem dX9_back_8 : decode cX9_back 8 = .ok (.bipush (-105), 2) := dk_16 151 (dk_at dksX9_back_0 8 rfl rfl)
theorem dX9_back_10 : decode cX9_back 10 = .ok (.invokevirtual 132, 3) := dk_182 0 132 (dk_at dksX9_back_0 10 rfl rfl)
theorem dX9_back_13 : decode cX9_back 13 = .ok (.ireturn, 1) := dk_172 (dk_at dksX9_back_0 13 rfl rfl)
theorem dX9_back_14 : decode cX9_back 14 = .ok (.aload_n 0, 1) := dk_42 (dk_at dksX9_back_0 14 rfl rfl)
theorem dX9_back_15 : decode cX9_back 15 = .ok (.getfield 16, 3) := dk_180 0 16 (dk_at dksX9_back_0 15 rfl rfl)
theorem dX9_back_18 : decode cX9_back 18 = .ok (.aload_n 0, 1) := dk_42 (dk_at dksX9_back_0 18 rfl rfl)
theorem dX9_back_19 : decode cX9_back 19 = .ok (.getfield 9, 3) := dk_180 0 9 (dk_at dksX9_back_0 19 rfl rfl)
theorem dX9_back_22 : decode cX9_back 22 = .ok (.invokestatic 123, 3) := dk_184 0 123 (dk_at dksX9_back_1 0 rfl rfl)
theorem dX9_back_25 : decode cX9_back 25 = .ok (.iconst 0, 1) := dk_3 (dk_at dksX9_back_1 3 rfl rfl)
theorem dX9_back_26 : decode cX9_back 26 = .ok (.istore_n 1, 1) := dk_60 (dk_at dksX9_back_1 4 rfl rfl)
theorem dX9_back_27 : decode cX9_back 27 = .ok (.iload_n 1, 1) := dk_27 (dk_at dksX9_back_1 5 rfl rfl)
theorem dX9_back_28 : decode cX9_back 28 = .ok (.bipush 8, 2) := dk_16 8 (dk_at dksX9_back_1 6 rfl rfl)
theorem dX9_back_30 : decode cX9_back 30 = .ok (.if_icmp .ge 44, 3) := dk_162 0 44 (dk_at dksX9_back_1 8 rfl rfl)
theorem dX9_back_33 : decode cX9_back 33 = .ok (.aload_n 0, 1) := dk_42 (dk_at dksX9_back_1 11 rfl rfl)
theorem dX9_back_34 : decode cX9_back 34 = .ok (.getfield 41, 3) := dk_180 0 41 (dk_at dksX9_back_1 12 rfl rfl)
theorem dX9_back_37 : decode cX9_back 37 = .ok (.iload_n 1, 1) := dk_27 (dk_at dksX9_back_1 15 rfl rfl)
theorem dX9_back_38 : decode cX9_back 38 = .ok (.aload_n 0, 1) := dk_42 (dk_at dksX9_back_1 16 rfl rfl)
theorem dX9_back_39 : decode cX9_back 39 = .ok (.getfield 41, 3) := dk_180 0 41 (dk_at dksX9_back_1 17 rfl rfl)
theorem dX9_back_42 : decode cX9_back 42 = .ok (.iload_n 1, 1) := dk_27 (dk_at dksX9_back_1 20 rfl rfl)
theorem dX9_back_43 : decode cX9_back 43 = .ok (.iaload, 1) := dk_46 (dk_at dksX9_back_1 21 rfl rfl)
theorem dX9_back_44 : decode cX9_back 44 = .ok (.bipush 10, 2) := dk_16 10 (dk_at dksX9_back_1 22 rfl rfl)
theorem dX9_back_46 : decode cX9_back 46 = .ok (.aload_n 0, 1) := dk_42 (dk_at dksX9_back_2 0 rfl rfl)
theorem dX9_back_47 : decode cX9_back 47 = .ok (.getfield 9, 3) := dk_180 0 9 (dk_at dksX9_back_2 1 rfl rfl)
theorem dX9_back_50 : decode cX9_back 50 = .ok (.bipush 14, 2) := dk_16 14 (dk_at dksX9_back_2 4 rfl rfl)
theorem dX9_back_52 : decode cX9_back 52 = .ok (.iaload, 1) := dk_46 (dk_at dksX9_back_2 6 rfl rfl)
theorem dX9_back_53 : decode cX9_back 53 = .ok (.iadd, 1) := dk_96 (dk_at dksX9_back_2 7 rfl rfl)
theorem dX9_back_54 : decode cX9_back 54 = .ok (.if_icmp .lt 7, 3) := dk_161 0 7 (dk_at dksX9_back_2 8 rfl rfl)
theorem dX9_back_57 : decode cX9_back 57 = .ok (.iconst (-1), 1) := dk_2 (dk_at dksX9_back_2 11 rfl rfl)
theorem dX9_back_58 : decode cX9_back 58 = .ok (.goto 9, 3) := dk_167 0 9 (dk_at dksX9_back_2 12 rfl rfl)
theorem dX9_back_61 : decode cX9_back 61 = .ok (.aload_n 0, 1) := dk_42 (dk_at dksX9_back_2 15 rfl rfl)
theorem dX9_back_62 : decode cX9_back 62 = .ok (.getfield 41, 3) := dk_180 0 41 (dk_at dksX9_back_2 16 rfl rfl)
theorem dX9_back_65 : decode cX9_back 65 = .ok (.iload_n 1, 1) := dk_27 (dk_at dksX9_back_2 19 rfl rfl)
theorem dX9_back_66 : decode cX9_back 66 = .ok (.iaload, 1) := dk_46 (dk_at dksX9_back_2 20 rfl rfl)
theorem dX9_back_67 : decode cX9_back 67 = .ok (.iastore, 1) := dk_79 (dk_at dksX9_back_2 21 rfl rfl)
theorem dX9_back_68 : decode cX9_back 68 = .ok (.iinc 1 1, 3) := dk_132 1 1 (dk_at dksX9_back_3 0 rfl rfl)
theorem dX9_back_71 : decode cX9_back 71 = .ok (.goto (-44), 3) := dk_167 255 212 (dk_at dksX9_back_3 3 rfl rfl)
theorem dX9_back_74 : decode cX9_back 74 = .ok (.iconst 1, 1) := dk_4 (dk_at dksX9_back_3 6 rfl rfl)
theorem dX9_back_75 : decode cX9_back 75 = .ok (.ireturn, 1) := dk_172 (dk_at dksX9_back_3 7 rfl rfl)
abbrev cX9_status : ByteArray := prog_34_method_77_code
def yX9_status : MethodName := ⟨RX9, "status", "(I)I"⟩
def dkwX9_status_3 : List UInt8 := [16, 19, 46, 167, 0, 17, 27, 16, 19, 160, 0, 10, 42, 182, 0, 247, 167, 0, 4, 2, 172]
abbrev dktX9_status_3 : List UInt8 := dkwX9_status_3 ++ []
def dkwX9_status_2 : List UInt8 := [27, 16, 17, 160, 0, 10, 42, 180, 0, 135, 167, 0, 33, 27, 16, 18, 160, 0, 13, 42, 180, 0, 9]
abbrev dktX9_status_2 : List UInt8 := dkwX9_status_2 ++ dktX9_status_3
def dkwX9_status_1 : List UInt8 := [27, 133, 20, 0, 175, 20, 0, 245, 184, 0, 54, 153, 0, 13, 42, 180, 0, 19, 27, 16, 12, 100, 46, 172]
abbrev dktX9_status_1 : List UInt8 := dkwX9_status_1 ++ dktX9_status_2
def dkwX9_status_0 : List UInt8 := [27, 133, 9, 20, 0, 243, 184, 0, 54, 153, 0, 15, 42, 180, 0, 9, 42, 180, 0, 51, 27, 46, 46, 172]
abbrev dktX9_status_0 : List UInt8 := dkwX9_status_0 ++ dktX9_status_1
theorem dksX9_status_0 : cX9_status.data.toList.drop 0 = dktX9_status_0 := by decide +kernel
theorem dksX9_status_1 : cX9_status.data.toList.drop 24 = dktX9_status_1 := dk_seg dksX9_status_0 24 rfl rfl
theorem dksX9_status_2 : cX9_status.data.toList.drop 48 = dktX9_status_2 := dk_seg dksX9_status_1 24 rfl rfl
theorem dksX9_status_3 : cX9_status.data.toList.drop 71 = dktX9_status_3 := dk_seg dksX9_status_2 23 rfl rfl
theorem dX9_status_0 : decode cX9_status 0 = .ok (.iload_n 1, 1) := dk_27 (dk_at dksX9_status_0 0 rfl rfl)
theorem dX9_status_1 : decode cX9_status 1 = .ok (.i2l, 1) := dk_133 (dk_at dksX9_status_0 1 rfl rfl)
theorem dX9_status_2 : decode cX9_status 2 = .ok (.lconst 0, 1) := dk_9 (dk_at dksX9_status_0 2 rfl rfl)
theorem dX9_status_3 : decode cX9_status 3 = .ok (.ldc2_w 243, 3) := dk_20 0 243 (dk_at dksX9_status_0 3 rfl rfl)
theorem dX9_status_6 : decode cX9_status 6 = .ok (.invokestatic 54, 3) := dk_184 0 54 (dk_at dksX9_status_0 6 rfl rfl)
theorem dX9_status_9 : decode cX9_status 9 = .ok (.ifCond .eq 15, 3) := dk_153 0 15 (dk_at dksX9_status_0 9 rfl rfl)
theorem dX9_status_12 : decode cX9_status 12 = .ok (.aload_n 0, 1) := dk_42 (dk_at dksX9_status_0 12 rfl rfl)
theorem dX9_status_13 : decode cX9_status 13 = .ok (.getfield 9, 3) := dk_180 0 9 (dk_at dksX9_status_0 13 rfl rfl)
theorem dX9_status_16 : decode cX9_status 16 = .ok (.aload_n 0, 1) := dk_42 (dk_at dksX9_status_0 16 rfl rfl)
theorem dX9_status_17 : decode cX9_status 17 = .ok (.getfield 51, 3) := dk_180 0 51 (dk_at dksX9_status_0 17 rfl rfl)
theorem dX9_status_20 : decode cX9_status 20 = .ok (.iload_n 1, 1) := dk_27 (dk_at dksX9_status_0 20 rfl rfl)
theorem dX9_status_21 : decode cX9_status 21 = .ok (.iaload, 1) := dk_46 (dk_at dksX9_status_0 21 rfl rfl)
theorem dX9_status_22 : decode cX9_status 22 = .ok (.iaload, 1) := dk_46 (dk_at dksX9_status_0 22 rfl rfl)
theorem dX9_status_23 : decode cX9_status 23 = .ok (.ireturn, 1) := dk_172 (dk_at dksX9_status_0 23 rfl rfl)
theorem dX9_status_24 : decode cX9_status 24 = .ok (.iload_n 1, 1) := dk_27 (dk_at dksX9_status_1 0 rfl rfl)
theorem dX9_status_25 : decode cX9_status 25 = .ok (.i2l, 1) := dk_133 (dk_at dksX9_status_1 1 rfl rfl)
theorem dX9_status_26 : decode cX9_status 26 = .ok (.ldc2_w 175, 3) := dk_20 0 175 (dk_at dksX9_status_1 2 rfl rfl)
theorem dX9_status_29 : decode cX9_status 29 = .ok (.ldc2_w 245, 3) := dk_20 0 245 (dk_at dksX9_status_1 5 rfl rfl)
theorem dX9_status_32 : decode cX9_status 32 = .ok (.invokestatic 54, 3) := dk_184 0 54 (dk_at dksX9_status_1 8 rfl rfl)
theorem dX9_status_35 : decode cX9_status 35 = .ok (.ifCond .eq 13, 3) := dk_153 0 13 (dk_at dksX9_status_1 11 rfl rfl)
theorem dX9_status_38 : decode cX9_status 38 = .ok (.aload_n 0, 1) := dk_42 (dk_at dksX9_status_1 14 rfl rfl)
theorem dX9_status_39 : decode cX9_status 39 = .ok (.getfield 19, 3) := dk_180 0 19 (dk_at dksX9_status_1 15 rfl rfl)
theorem dX9_status_42 : decode cX9_status 42 = .ok (.iload_n 1, 1) := dk_27 (dk_at dksX9_status_1 18 rfl rfl)
theorem dX9_status_43 : decode cX9_status 43 = .ok (.bipush 12, 2) := dk_16 12 (dk_at dksX9_status_1 19 rfl rfl)
theorem dX9_status_45 : decode cX9_status 45 = .ok (.isub, 1) := dk_100 (dk_at dksX9_status_1 21 rfl rfl)
theorem dX9_status_46 : decode cX9_status 46 = .ok (.iaload, 1) := dk_46 (dk_at dksX9_status_1 22 rfl rfl)
theorem dX9_status_47 : decode cX9_status 47 = .ok (.ireturn, 1) := dk_172 (dk_at dksX9_status_1 23 rfl rfl)
theorem dX9_status_48 : decode cX9_status 48 = .ok (.iload_n 1, 1) := dk_27 (dk_at dksX9_status_2 0 rfl rfl)
theorem dX9_status_49 : decode cX9_status 49 = .ok (.bipush 17, 2) := dk_16 17 (dk_at dksX9_status_2 1 rfl rfl)
theorem dX9_status_51 : decode cX9_status 51 = .ok (.if_icmp .ne 10, 3) := dk_160 0 10 (dk_at dksX9_status_2 3 rfl rfl)
theorem dX9_status_54 : decode cX9_status 54 = .ok (.aload_n 0, 1) := dk_42 (dk_at dksX9_status_2 6 rfl rfl)
theorem dX9_status_55 : decode cX9_status 55 = .ok (.getfield 135, 3) := dk_180 0 135 (dk_at dksX9_status_2 7 rfl rfl)
theorem dX9_status_58 : decode cX9_status 58 = .ok (.goto 33, 3) := dk_167 0 33 (dk_at dksX9_status_2 10 rfl rfl)
theorem dX9_status_61 : decode cX9_status 61 = .ok (.iload_n 1, 1) := dk_27 (dk_at dksX9_status_2 13 rfl rfl)
theorem dX9_status_62 : decode cX9_status 62 = .ok (.bipush 18, 2) := dk_16 18 (dk_at dksX9_status_2 14 rfl rfl)
theorem dX9_status_64 : decode cX9_status 64 = .ok (.if_icmp .ne 13, 3) := dk_160 0 13 (dk_at dksX9_status_2 16 rfl rfl)
theorem dX9_status_67 : decode cX9_status 67 = .ok (.aload_n 0, 1) := dk_42 (dk_at dksX9_status_2 19 rfl rfl)
theorem dX9_status_68 : decode cX9_status 68 = .ok (.getfield 9, 3) := dk_180 0 9 (dk_at dksX9_status_2 20 rfl rfl)
theorem dX9_status_71 : decode cX9_status 71 = .ok (.bipush 19, 2) := dk_16 19 (dk_at dksX9_status_3 0 rfl rfl)
theorem dX9_status_73 : decode cX9_status 73 = .ok (.iaload, 1) := dk_46 (dk_at dksX9_status_3 2 rfl rfl)
theorem dX9_status_74 : decode cX9_status 74 = .ok (.goto 17, 3) := dk_167 0 17 (dk_at dksX9_status_3 3 rfl rfl)
theorem dX9_status_77 : decode cX9_status 77 = .ok (.iload_n 1, 1) := dk_27 (dk_at dksX9_status_3 6 rfl rfl)
theorem dX9_status_78 : decode cX9_status 78 = .ok (.bipush 19, 2) := dk_16 19 (dk_at dksX9_status_3 7 rfl rfl)
theorem dX9_status_80 : decode cX9_status 80 = .ok (.if_icmp .ne 10, 3) := dk_160 0 10 (dk_at dksX9_status_3 9 rfl rfl)
theorem dX9_status_83 : decode cX9_status 83 = .ok (.aload_n 0, 1) := dk_42 (dk_at dksX9_status_3 12 rfl rfl)
theorem dX9_status_84 : decode cX9_status 84 = .ok (.invokevirtual 247, 3) := dk_182 0 247 (dk_at dksX9_status_3 13 rfl rfl)
theorem dX9_status_87 : decode cX9_status 87 = .ok (.goto 4, 3) := dk_167 0 4 (dk_at dksX9_status_3 16 rfl rfl)
theorem dX9_status_90 : decode cX9_status 90 = .ok (.iconst (-1), 1) := dk_2 (dk_at dksX9_status_3 19 rfl rfl)
theorem dX9_status_91 : decode cX9_status 91 = .ok (.ireturn, 1) := dk_172 (dk_at dksX9_status_3 20 rfl rfl)
abbrev cX9_held : ByteArray := prog_34_method_76_code
def yX9_held : MethodName := ⟨RX9, "held", "()I"⟩
def dkwX9_held_1 : List UInt8 := [3, 96, 60, 132, 2, 1, 167, 255, 230, 27, 172]
abbrev dktX9_held_1 : List UInt8 := dkwX9_held_1 ++ []
def dkwX9_held_0 : List UInt8 := [3, 60, 3, 61, 28, 16, 8, 162, 0, 26, 27, 42, 180, 0, 41, 28, 46, 155, 0, 7, 4, 167, 0, 4]
abbrev dktX9_held_0 : List UInt8 := dkwX9_held_0 ++ dktX9_held_1
theorem dksX9_held_0 : cX9_held.data.toList.drop 0 = dktX9_held_0 := by decide +kernel
theorem dksX9_held_1 : cX9_held.data.toList.drop 24 = dktX9_held_1 := dk_seg dksX9_held_0 24 rfl rfl
theorem dX9_held_0 : decode cX9_held 0 = .ok (.iconst 0, 1) := dk_3 (dk_at dksX9_held_0 0 rfl rfl)
theorem dX9_held_1 : decode cX9_held 1 = .ok (.istore_n 1, 1) := dk_60 (dk_at dksX9_held_0 1 rfl rfl)
theorem dX9_held_2 : decode cX9_held 2 = .ok (.iconst 0, 1) := dk_3 (dk_at dksX9_held_0 2 rfl rfl)
theorem dX9_held_3 : decode cX9_held 3 = .ok (.istore_n 2, 1) := dk_61 (dk_at dksX9_held_0 3 rfl rfl)
theorem dX9_held_4 : decode cX9_held 4 = .ok (.iload_n 2, 1) := dk_28 (dk_at dksX9_held_0 4 rfl rfl)
theorem dX9_held_5 : decode cX9_held 5 = .ok (.bipush 8, 2) := dk_16 8 (dk_at dksX9_held_0 5 rfl rfl)
theorem dX9_held_7 : decode cX9_held 7 = .ok (.if_icmp .ge 26, 3) := dk_162 0 26 (dk_at dksX9_held_0 7 rfl rfl)
theorem dX9_held_10 : decode cX9_held 10 = .ok (.iload_n 1, 1) := dk_27 (dk_at dksX9_held_0 10 rfl rfl)
theorem dX9_held_11 : decode cX9_held 11 = .ok (.aload_n 0, 1) := dk_42 (dk_at dksX9_held_0 11 rfl rfl)
theorem dX9_held_12 : decode cX9_held 12 = .ok (.getfield 41, 3) := dk_180 0 41 (dk_at dksX9_held_0 12 rfl rfl)
theorem dX9_held_15 : decode cX9_held 15 = .ok (.iload_n 2, 1) := dk_28 (dk_at dksX9_held_0 15 rfl rfl)
theorem dX9_held_16 : decode cX9_held 16 = .ok (.iaload, 1) := dk_46 (dk_at dksX9_held_0 16 rfl rfl)
theorem dX9_held_17 : decode cX9_held 17 = .ok (.ifCond .lt 7, 3) := dk_155 0 7 (dk_at dksX9_held_0 17 rfl rfl)
theorem dX9_held_20 : decode cX9_held 20 = .ok (.iconst 1, 1) := dk_4 (dk_at dksX9_held_0 20 rfl rfl)
theorem dX9_held_21 : decode cX9_held 21 = .ok (.goto 4, 3) := dk_167 0 4 (dk_at dksX9_held_0 21 rfl rfl)
theorem dX9_held_24 : decode cX9_held 24 = .ok (.iconst 0, 1) := dk_3 (dk_at dksX9_held_1 0 rfl rfl)
theorem dX9_held_25 : decode cX9_held 25 = .ok (.iadd, 1) := dk_96 (dk_at dksX9_held_1 1 rfl rfl)
theorem dX9_held_26 : decode cX9_held 26 = .ok (.istore_n 1, 1) := dk_60 (dk_at dksX9_held_1 2 rfl rfl)
theorem dX9_held_27 : decode cX9_held 27 = .ok (.iinc 2 1, 3) := dk_132 2 1 (dk_at dksX9_held_1 3 rfl rfl)
theorem dX9_held_30 : decode cX9_held 30 = .ok (.goto (-26), 3) := dk_167 255 230 (dk_at dksX9_held_1 6 rfl rfl)
theorem dX9_held_33 : decode cX9_held 33 = .ok (.iload_n 1, 1) := dk_27 (dk_at dksX9_held_1 9 rfl rfl)
theorem dX9_held_34 : decode cX9_held 34 = .ok (.ireturn, 1) := dk_172 (dk_at dksX9_held_1 10 rfl rfl)
theorem q109 : (Jvm.Cond.initialized "KeptLightModel") ∈ lw_all := lw_g (lw_at lw_m1 33 rfl) rfl
theorem q1271 : (Jvm.Cond.selects "KeptLightModel" ({ cls := "java/lang/Object", name := "getClass", desc := "()Ljava/lang/Class;" } : Jvm.MethodName) ({ cls := "java/lang/Object", name := "getClass", desc := "()Ljava/lang/Class;" } : Jvm.MethodName)) ∈ lw_all := lw_g (lw_at lw_m5 235 rfl) rfl
theorem q3051 : (Jvm.Cond.selects "KeptLightModel" ({ cls := "java/lang/Object", name := "equals", desc := "(Ljava/lang/Object;)Z" } : Jvm.MethodName) ({ cls := "java/lang/Object", name := "equals", desc := "(Ljava/lang/Object;)Z" } : Jvm.MethodName)) ∈ lw_all := lw_g (lw_at lw_m13 95 rfl) rfl
theorem q3247 : (Jvm.Cond.instantiable "KeptLightModel" (21 : Nat)) ∈ lw_all := lw_g (lw_at lw_m14 51 rfl) rfl
theorem q3249 : (Jvm.Cond.instanceMethod ({ cls := "KeptLightModel", name := "<init>", desc := "()V" } : Jvm.MethodName)) ∈ lw_all := lw_g (lw_at lw_m14 53 rfl) rfl
theorem q3250 : (Jvm.Cond.code ({ cls := "KeptLightModel", name := "<init>", desc := "()V" } : Jvm.MethodName) prog_34_method_1_code (2 : Nat) (Option.none : Option Jvm.ClassFile.FieldType)) ∈ lw_all := lw_g (lw_at lw_m14 54 rfl) rfl
theorem q3251 : (Jvm.Cond.methodLink "KeptLightModel" (1 : Nat) ({ cls := "java/lang/Object", name := "<init>", desc := "()V" } : Jvm.MethodName)) ∈ lw_all := lw_g (lw_at lw_m14 55 rfl) rfl
theorem q3252 : (Jvm.Cond.fieldLink "KeptLightModel" (9 : Nat) "KeptLightModel" "g" "[I") ∈ lw_all := lw_g (lw_at lw_m14 56 rfl) rfl
theorem q3253 : (Jvm.Cond.fieldLink "KeptLightModel" (13 : Nat) "KeptLightModel" "was" "[I") ∈ lw_all := lw_g (lw_at lw_m14 57 rfl) rfl
theorem q3254 : (Jvm.Cond.fieldLink "KeptLightModel" (16 : Nat) "KeptLightModel" "kept" "[I") ∈ lw_all := lw_g (lw_at lw_m14 58 rfl) rfl
theorem q3255 : (Jvm.Cond.fieldLink "KeptLightModel" (240 : Nat) "KeptLightModel" "hasImage" "Z") ∈ lw_all := lw_g (lw_at lw_m14 59 rfl) rfl
theorem q3256 : (Jvm.Cond.fieldLink "KeptLightModel" (19 : Nat) "KeptLightModel" "refusals" "[I") ∈ lw_all := lw_g (lw_at lw_m14 60 rfl) rfl
theorem q3257 : (Jvm.Cond.fieldLink "KeptLightModel" (114 : Nat) "KeptLightModel" "wasDark" "Z") ∈ lw_all := lw_g (lw_at lw_m14 61 rfl) rfl
theorem q3258 : (Jvm.Cond.fieldLink "KeptLightModel" (117 : Nat) "KeptLightModel" "wasTended" "Z") ∈ lw_all := lw_g (lw_at lw_m14 62 rfl) rfl
theorem q3259 : (Jvm.Cond.fieldLink "KeptLightModel" (107 : Nat) "KeptLightModel" "boatCame" "Z") ∈ lw_all := lw_g (lw_at lw_m14 63 rfl) rfl
theorem q3260 : (Jvm.Cond.fieldLink "KeptLightModel" (22 : Nat) "KeptLightModel" "tape" "[I") ∈ lw_all := lw_g (lw_at lw_m14 64 rfl) rfl
theorem q3261 : (Jvm.Cond.fieldLink "KeptLightModel" (135 : Nat) "KeptLightModel" "taped" "I") ∈ lw_all := lw_g (lw_at lw_m14 65 rfl) rfl
theorem q3262 : (Jvm.Cond.fieldLink "KeptLightModel" (139 : Nat) "KeptLightModel" "place" "I") ∈ lw_all := lw_g (lw_at lw_m14 66 rfl) rfl
theorem q3263 : (Jvm.Cond.fieldLink "KeptLightModel" (25 : Nat) "KeptLightModel" "read" "[I") ∈ lw_all := lw_g (lw_at lw_m14 67 rfl) rfl
theorem q3264 : (Jvm.Cond.fieldLink "KeptLightModel" (145 : Nat) "KeptLightModel" "readMany" "I") ∈ lw_all := lw_g (lw_at lw_m14 68 rfl) rfl
theorem q3265 : (Jvm.Cond.fieldLink "KeptLightModel" (28 : Nat) "KeptLightModel" "darkAt" "[Z") ∈ lw_all := lw_g (lw_at lw_m14 69 rfl) rfl
theorem q3266 : (Jvm.Cond.fieldLink "KeptLightModel" (32 : Nat) "KeptLightModel" "tendedAt" "[Z") ∈ lw_all := lw_g (lw_at lw_m14 70 rfl) rfl
theorem q3267 : (Jvm.Cond.fieldLink "KeptLightModel" (35 : Nat) "KeptLightModel" "boatAt" "[Z") ∈ lw_all := lw_g (lw_at lw_m14 71 rfl) rfl
theorem q3268 : (Jvm.Cond.fieldLink "KeptLightModel" (38 : Nat) "KeptLightModel" "hadPlan" "[I") ∈ lw_all := lw_g (lw_at lw_m14 72 rfl) rfl
theorem q3269 : (Jvm.Cond.fieldLink "KeptLightModel" (41 : Nat) "KeptLightModel" "sorts" "[I") ∈ lw_all := lw_g (lw_at lw_m14 73 rfl) rfl
theorem q3270 : (Jvm.Cond.fieldLink "KeptLightModel" (44 : Nat) "KeptLightModel" "sizes" "[I") ∈ lw_all := lw_g (lw_at lw_m14 74 rfl) rfl
theorem q3271 : (Jvm.Cond.fieldLink "KeptLightModel" (47 : Nat) "KeptLightModel" "elements" "[J") ∈ lw_all := lw_g (lw_at lw_m14 75 rfl) rfl
theorem q3272 : (Jvm.Cond.fieldLink "KeptLightModel" (51 : Nat) "KeptLightModel" "told" "[I") ∈ lw_all := lw_g (lw_at lw_m14 76 rfl) rfl
theorem q3273 : (Jvm.Cond.laysFinal "KeptLightModel" "KeptLightModel" "g" "[I") ∈ lw_all := lw_g (lw_at lw_m14 77 rfl) rfl
theorem q3274 : (Jvm.Cond.soleField "KeptLightModel" "g") ∈ lw_all := lw_g (lw_at lw_m14 78 rfl) rfl
theorem q3275 : (Jvm.Cond.laysFinal "KeptLightModel" "KeptLightModel" "was" "[I") ∈ lw_all := lw_g (lw_at lw_m14 79 rfl) rfl
theorem q3276 : (Jvm.Cond.soleField "KeptLightModel" "was") ∈ lw_all := lw_g (lw_at lw_m14 80 rfl) rfl
theorem q3277 : (Jvm.Cond.laysFinal "KeptLightModel" "KeptLightModel" "kept" "[I") ∈ lw_all := lw_g (lw_at lw_m14 81 rfl) rfl
theorem q3278 : (Jvm.Cond.soleField "KeptLightModel" "kept") ∈ lw_all := lw_g (lw_at lw_m14 82 rfl) rfl
theorem q3279 : (Jvm.Cond.lays "KeptLightModel" "KeptLightModel" "hasImage" "Z") ∈ lw_all := lw_g (lw_at lw_m14 83 rfl) rfl
theorem q3280 : (Jvm.Cond.soleField "KeptLightModel" "hasImage") ∈ lw_all := lw_g (lw_at lw_m14 84 rfl) rfl
theorem q3281 : (Jvm.Cond.laysFinal "KeptLightModel" "KeptLightModel" "refusals" "[I") ∈ lw_all := lw_g (lw_at lw_m14 85 rfl) rfl
theorem q3282 : (Jvm.Cond.soleField "KeptLightModel" "refusals") ∈ lw_all := lw_g (lw_at lw_m14 86 rfl) rfl
theorem q3283 : (Jvm.Cond.lays "KeptLightModel" "KeptLightModel" "wasDark" "Z") ∈ lw_all := lw_g (lw_at lw_m14 87 rfl) rfl
theorem q3284 : (Jvm.Cond.soleField "KeptLightModel" "wasDark") ∈ lw_all := lw_g (lw_at lw_m14 88 rfl) rfl
theorem q3285 : (Jvm.Cond.lays "KeptLightModel" "KeptLightModel" "wasTended" "Z") ∈ lw_all := lw_g (lw_at lw_m14 89 rfl) rfl
theorem q3286 : (Jvm.Cond.soleField "KeptLightModel" "wasTended") ∈ lw_all := lw_g (lw_at lw_m14 90 rfl) rfl
theorem q3287 : (Jvm.Cond.lays "KeptLightModel" "KeptLightModel" "boatCame" "Z") ∈ lw_all := lw_g (lw_at lw_m14 91 rfl) rfl
theorem q3288 : (Jvm.Cond.soleField "KeptLightModel" "boatCame") ∈ lw_all := lw_g (lw_at lw_m14 92 rfl) rfl
theorem q3289 : (Jvm.Cond.laysFinal "KeptLightModel" "KeptLightModel" "tape" "[I") ∈ lw_all := lw_g (lw_at lw_m14 93 rfl) rfl
theorem q3290 : (Jvm.Cond.soleField "KeptLightModel" "tape") ∈ lw_all := lw_g (lw_at lw_m14 94 rfl) rfl
theorem q3291 : (Jvm.Cond.lays "KeptLightModel" "KeptLightModel" "taped" "I") ∈ lw_all := lw_g (lw_at lw_m14 95 rfl) rfl
theorem q3292 : (Jvm.Cond.soleField "KeptLightModel" "taped") ∈ lw_all := lw_g (lw_at lw_m14 96 rfl) rfl
theorem q3293 : (Jvm.Cond.lays "KeptLightModel" "KeptLightModel" "place" "I") ∈ lw_all := lw_g (lw_at lw_m14 97 rfl) rfl
theorem q3294 : (Jvm.Cond.soleField "KeptLightModel" "place") ∈ lw_all := lw_g (lw_at lw_m14 98 rfl) rfl
theorem q3295 : (Jvm.Cond.laysFinal "KeptLightModel" "KeptLightModel" "read" "[I") ∈ lw_all := lw_g (lw_at lw_m14 99 rfl) rfl
theorem q3296 : (Jvm.Cond.soleField "KeptLightModel" "read") ∈ lw_all := lw_g (lw_at lw_m14 100 rfl) rfl
theorem q3297 : (Jvm.Cond.lays "KeptLightModel" "KeptLightModel" "readMany" "I") ∈ lw_all := lw_g (lw_at lw_m14 101 rfl) rfl
theorem q3298 : (Jvm.Cond.soleField "KeptLightModel" "readMany") ∈ lw_all := lw_g (lw_at lw_m14 102 rfl) rfl
theorem q3299 : (Jvm.Cond.laysFinal "KeptLightModel" "KeptLightModel" "darkAt" "[Z") ∈ lw_all := lw_g (lw_at lw_m14 103 rfl) rfl
theorem q3300 : (Jvm.Cond.soleField "KeptLightModel" "darkAt") ∈ lw_all := lw_g (lw_at lw_m14 104 rfl) rfl
theorem q3301 : (Jvm.Cond.laysFinal "KeptLightModel" "KeptLightModel" "tendedAt" "[Z") ∈ lw_all := lw_g (lw_at lw_m14 105 rfl) rfl
theorem q3302 : (Jvm.Cond.soleField "KeptLightModel" "tendedAt") ∈ lw_all := lw_g (lw_at lw_m14 106 rfl) rfl
theorem q3303 : (Jvm.Cond.laysFinal "KeptLightModel" "KeptLightModel" "boatAt" "[Z") ∈ lw_all := lw_g (lw_at lw_m14 107 rfl) rfl
theorem q3304 : (Jvm.Cond.soleField "KeptLightModel" "boatAt") ∈ lw_all := lw_g (lw_at lw_m14 108 rfl) rfl
theorem q3305 : (Jvm.Cond.laysFinal "KeptLightModel" "KeptLightModel" "hadPlan" "[I") ∈ lw_all := lw_g (lw_at lw_m14 109 rfl) rfl
theorem q3306 : (Jvm.Cond.soleField "KeptLightModel" "hadPlan") ∈ lw_all := lw_g (lw_at lw_m14 110 rfl) rfl
theorem q3307 : (Jvm.Cond.laysFinal "KeptLightModel" "KeptLightModel" "sorts" "[I") ∈ lw_all := lw_g (lw_at lw_m14 111 rfl) rfl
theorem q3308 : (Jvm.Cond.soleField "KeptLightModel" "sorts") ∈ lw_all := lw_g (lw_at lw_m14 112 rfl) rfl
theorem q3309 : (Jvm.Cond.laysFinal "KeptLightModel" "KeptLightModel" "sizes" "[I") ∈ lw_all := lw_g (lw_at lw_m14 113 rfl) rfl
theorem q3310 : (Jvm.Cond.soleField "KeptLightModel" "sizes") ∈ lw_all := lw_g (lw_at lw_m14 114 rfl) rfl
theorem q3311 : (Jvm.Cond.laysFinal "KeptLightModel" "KeptLightModel" "elements" "[J") ∈ lw_all := lw_g (lw_at lw_m14 115 rfl) rfl
theorem q3312 : (Jvm.Cond.soleField "KeptLightModel" "elements") ∈ lw_all := lw_g (lw_at lw_m14 116 rfl) rfl
theorem q3313 : (Jvm.Cond.laysFinal "KeptLightModel" "KeptLightModel" "told" "[I") ∈ lw_all := lw_g (lw_at lw_m14 117 rfl) rfl
theorem q3314 : (Jvm.Cond.soleField "KeptLightModel" "told") ∈ lw_all := lw_g (lw_at lw_m14 118 rfl) rfl
theorem q3315 : (Jvm.Cond.superclass "KeptLightModel" "java/lang/Object") ∈ lw_all := lw_g (lw_at lw_m14 119 rfl) rfl
theorem q3317 : (Jvm.Cond.instanceMethod ({ cls := "KeptLightModel", name := "feed", desc := "(I)I" } : Jvm.MethodName)) ∈ lw_all := lw_g (lw_at lw_m14 121 rfl) rfl
theorem q3318 : (Jvm.Cond.selects "KeptLightModel" ({ cls := "KeptLightModel", name := "feed", desc := "(I)I" } : Jvm.MethodName) ({ cls := "KeptLightModel", name := "feed", desc := "(I)I" } : Jvm.MethodName)) ∈ lw_all := lw_g (lw_at lw_m14 122 rfl) rfl
theorem q3319 : (Jvm.Cond.code ({ cls := "KeptLightModel", name := "feed", desc := "(I)I" } : Jvm.MethodName) prog_34_method_22_code (2 : Nat) (Option.some Jvm.ClassFile.FieldType.int)) ∈ lw_all := lw_g (lw_at lw_m14 123 rfl) rfl
theorem q3320 : (Jvm.Cond.constantLong "KeptLightModel" (130 : Nat) (255 : Int64)) ∈ lw_all := lw_g (lw_at lw_m14 124 rfl) rfl
theorem q3321 : (Jvm.Cond.methodLink "KeptLightModel" (54 : Nat) ({ cls := "KeptLightModel", name := "in", desc := "(JJJ)Z" } : Jvm.MethodName)) ∈ lw_all := lw_g (lw_at lw_m14 125 rfl) rfl
theorem q3322 : (Jvm.Cond.static ({ cls := "KeptLightModel", name := "in", desc := "(JJJ)Z" } : Jvm.MethodName)) ∈ lw_all := lw_g (lw_at lw_m14 126 rfl) rfl
theorem q3323 : (Jvm.Cond.code ({ cls := "KeptLightModel", name := "in", desc := "(JJJ)Z" } : Jvm.MethodName) prog_34_method_2_code (6 : Nat) (Option.some Jvm.ClassFile.FieldType.boolean)) ∈ lw_all := lw_g (lw_at lw_m14 127 rfl) rfl
theorem q3324 : (Jvm.Cond.methodLink "KeptLightModel" (132 : Nat) ({ cls := "KeptLightModel", name := "refused", desc := "(I)I" } : Jvm.MethodName)) ∈ lw_all := lw_g (lw_at lw_m14 128 rfl) rfl
theorem q3325 : (Jvm.Cond.privateMethod ({ cls := "KeptLightModel", name := "refused", desc := "(I)I" } : Jvm.MethodName)) ∈ lw_tbl := lw_at lw_m14 129 rfl
theorem q3326 : (Jvm.Cond.instanceMethod ({ cls := "KeptLightModel", name := "refused", desc := "(I)I" } : Jvm.MethodName)) ∈ lw_all := lw_g (lw_at lw_m14 130 rfl) rfl
theorem q3327 : (Jvm.Cond.code ({ cls := "KeptLightModel", name := "refused", desc := "(I)I" } : Jvm.MethodName) prog_34_method_3_code (2 : Nat) (Option.some Jvm.ClassFile.FieldType.int)) ∈ lw_all := lw_g (lw_at lw_m14 131 rfl) rfl
theorem q3329 : (Jvm.Cond.instanceMethod ({ cls := "KeptLightModel", name := "wipe", desc := "()I" } : Jvm.MethodName)) ∈ lw_all := lw_g (lw_at lw_m14 133 rfl) rfl
theorem q3330 : (Jvm.Cond.selects "KeptLightModel" ({ cls := "KeptLightModel", name := "wipe", desc := "()I" } : Jvm.MethodName) ({ cls := "KeptLightModel", name := "wipe", desc := "()I" } : Jvm.MethodName)) ∈ lw_all := lw_g (lw_at lw_m14 134 rfl) rfl
theorem q3331 : (Jvm.Cond.code ({ cls := "KeptLightModel", name := "wipe", desc := "()I" } : Jvm.MethodName) prog_34_method_23_code (2 : Nat) (Option.some Jvm.ClassFile.FieldType.int)) ∈ lw_all := lw_g (lw_at lw_m14 135 rfl) rfl
theorem q3333 : (Jvm.Cond.instanceMethod ({ cls := "KeptLightModel", name := "sky", desc := "()I" } : Jvm.MethodName)) ∈ lw_all := lw_g (lw_at lw_m14 137 rfl) rfl
theorem q3334 : (Jvm.Cond.selects "KeptLightModel" ({ cls := "KeptLightModel", name := "sky", desc := "()I" } : Jvm.MethodName) ({ cls := "KeptLightModel", name := "sky", desc := "()I" } : Jvm.MethodName)) ∈ lw_all := lw_g (lw_at lw_m14 138 rfl) rfl
theorem q3335 : (Jvm.Cond.code ({ cls := "KeptLightModel", name := "sky", desc := "()I" } : Jvm.MethodName) prog_34_method_26_code (3 : Nat) (Option.some Jvm.ClassFile.FieldType.int)) ∈ lw_all := lw_g (lw_at lw_m14 139 rfl) rfl
theorem q3336 : (Jvm.Cond.methodLink "KeptLightModel" (152 : Nat) ({ cls := "KeptLightModel", name := "isRun", desc := "()Z" } : Jvm.MethodName)) ∈ lw_all := lw_g (lw_at lw_m14 140 rfl) rfl
theorem q3337 : (Jvm.Cond.privateMethod ({ cls := "KeptLightModel", name := "isRun", desc := "()Z" } : Jvm.MethodName)) ∈ lw_tbl := lw_at lw_m14 141 rfl
theorem q3338 : (Jvm.Cond.instanceMethod ({ cls := "KeptLightModel", name := "isRun", desc := "()Z" } : Jvm.MethodName)) ∈ lw_all := lw_g (lw_at lw_m14 142 rfl) rfl
theorem q3339 : (Jvm.Cond.code ({ cls := "KeptLightModel", name := "isRun", desc := "()Z" } : Jvm.MethodName) prog_34_method_25_code (4 : Nat) (Option.some Jvm.ClassFile.FieldType.boolean)) ∈ lw_all := lw_g (lw_at lw_m14 143 rfl) rfl
theorem q3340 : (Jvm.Cond.methodLink "KeptLightModel" (142 : Nat) ({ cls := "KeptLightModel", name := "byteAt", desc := "(I)I" } : Jvm.MethodName)) ∈ lw_all := lw_g (lw_at lw_m14 144 rfl) rfl
theorem q3341 : (Jvm.Cond.privateMethod ({ cls := "KeptLightModel", name := "byteAt", desc := "(I)I" } : Jvm.MethodName)) ∈ lw_tbl := lw_at lw_m14 145 rfl
theorem q3342 : (Jvm.Cond.instanceMethod ({ cls := "KeptLightModel", name := "byteAt", desc := "(I)I" } : Jvm.MethodName)) ∈ lw_all := lw_g (lw_at lw_m14 146 rfl) rfl
theorem q3343 : (Jvm.Cond.code ({ cls := "KeptLightModel", name := "byteAt", desc := "(I)I" } : Jvm.MethodName) prog_34_method_24_code (2 : Nat) (Option.some Jvm.ClassFile.FieldType.int)) ∈ lw_all := lw_g (lw_at lw_m14 147 rfl) rfl
theorem q3344 : (Jvm.Cond.constantLong "KeptLightModel" (148 : Nat) (48 : Int64)) ∈ lw_all := lw_g (lw_at lw_m14 148 rfl) rfl
theorem q3345 : (Jvm.Cond.constantLong "KeptLightModel" (150 : Nat) (57 : Int64)) ∈ lw_all := lw_g (lw_at lw_m14 149 rfl) rfl
theorem q3347 : (Jvm.Cond.instanceMethod ({ cls := "KeptLightModel", name := "keeper", desc := "(I)I" } : Jvm.MethodName)) ∈ lw_all := lw_g (lw_at lw_m14 151 rfl) rfl
theorem q3348 : (Jvm.Cond.selects "KeptLightModel" ({ cls := "KeptLightModel", name := "keeper", desc := "(I)I" } : Jvm.MethodName) ({ cls := "KeptLightModel", name := "keeper", desc := "(I)I" } : Jvm.MethodName)) ∈ lw_all := lw_g (lw_at lw_m14 152 rfl) rfl
theorem q3349 : (Jvm.Cond.code ({ cls := "KeptLightModel", name := "keeper", desc := "(I)I" } : Jvm.MethodName) prog_34_method_27_code (3 : Nat) (Option.some Jvm.ClassFile.FieldType.int)) ∈ lw_all := lw_g (lw_at lw_m14 153 rfl) rfl
theorem q3350 : (Jvm.Cond.constantLong "KeptLightModel" (156 : Nat) (2 : Int64)) ∈ lw_all := lw_g (lw_at lw_m14 154 rfl) rfl
theorem q3352 : (Jvm.Cond.instanceMethod ({ cls := "KeptLightModel", name := "plan", desc := "(II)I" } : Jvm.MethodName)) ∈ lw_all := lw_g (lw_at lw_m14 156 rfl) rfl
theorem q3353 : (Jvm.Cond.selects "KeptLightModel" ({ cls := "KeptLightModel", name := "plan", desc := "(II)I" } : Jvm.MethodName) ({ cls := "KeptLightModel", name := "plan", desc := "(II)I" } : Jvm.MethodName)) ∈ lw_all := lw_g (lw_at lw_m14 157 rfl) rfl
theorem q3354 : (Jvm.Cond.code ({ cls := "KeptLightModel", name := "plan", desc := "(II)I" } : Jvm.MethodName) prog_34_method_28_code (4 : Nat) (Option.some Jvm.ClassFile.FieldType.int)) ∈ lw_all := lw_g (lw_at lw_m14 158 rfl) rfl
theorem q3355 : (Jvm.Cond.constantLong "KeptLightModel" (158 : Nat) (23 : Int64)) ∈ lw_all := lw_g (lw_at lw_m14 159 rfl) rfl
theorem q3356 : (Jvm.Cond.methodLink "KeptLightModel" (160 : Nat) ({ cls := "KeptLightModel", name := "isKeeper", desc := "(I)Z" } : Jvm.MethodName)) ∈ lw_all := lw_g (lw_at lw_m14 160 rfl) rfl
theorem q3357 : (Jvm.Cond.privateMethod ({ cls := "KeptLightModel", name := "isKeeper", desc := "(I)Z" } : Jvm.MethodName)) ∈ lw_tbl := lw_at lw_m14 161 rfl
theorem q3358 : (Jvm.Cond.instanceMethod ({ cls := "KeptLightModel", name := "isKeeper", desc := "(I)Z" } : Jvm.MethodName)) ∈ lw_all := lw_g (lw_at lw_m14 162 rfl) rfl
theorem q3359 : (Jvm.Cond.code ({ cls := "KeptLightModel", name := "isKeeper", desc := "(I)Z" } : Jvm.MethodName) prog_34_method_5_code (2 : Nat) (Option.some Jvm.ClassFile.FieldType.boolean)) ∈ lw_all := lw_g (lw_at lw_m14 163 rfl) rfl
theorem q3361 : (Jvm.Cond.instanceMethod ({ cls := "KeptLightModel", name := "plans", desc := "(I)I" } : Jvm.MethodName)) ∈ lw_all := lw_g (lw_at lw_m14 165 rfl) rfl
theorem q3362 : (Jvm.Cond.selects "KeptLightModel" ({ cls := "KeptLightModel", name := "plans", desc := "(I)I" } : Jvm.MethodName) ({ cls := "KeptLightModel", name := "plans", desc := "(I)I" } : Jvm.MethodName)) ∈ lw_all := lw_g (lw_at lw_m14 166 rfl) rfl
theorem q3363 : (Jvm.Cond.code ({ cls := "KeptLightModel", name := "plans", desc := "(I)I" } : Jvm.MethodName) prog_34_method_31_code (3 : Nat) (Option.some Jvm.ClassFile.FieldType.int)) ∈ lw_all := lw_g (lw_at lw_m14 167 rfl) rfl
theorem q3364 : (Jvm.Cond.methodLink "KeptLightModel" (165 : Nat) ({ cls := "KeptLightModel", name := "isShelf", desc := "(I)Z" } : Jvm.MethodName)) ∈ lw_all := lw_g (lw_at lw_m14 168 rfl) rfl
theorem q3365 : (Jvm.Cond.static ({ cls := "KeptLightModel", name := "isShelf", desc := "(I)Z" } : Jvm.MethodName)) ∈ lw_all := lw_g (lw_at lw_m14 169 rfl) rfl
theorem q3366 : (Jvm.Cond.code ({ cls := "KeptLightModel", name := "isShelf", desc := "(I)Z" } : Jvm.MethodName) prog_34_method_61_code (1 : Nat) (Option.some Jvm.ClassFile.FieldType.boolean)) ∈ lw_all := lw_g (lw_at lw_m14 170 rfl) rfl
theorem q3367 : (Jvm.Cond.constantLong "KeptLightModel" (189 : Nat) (7 : Int64)) ∈ lw_all := lw_g (lw_at lw_m14 171 rfl) rfl
theorem q3368 : (Jvm.Cond.methodLink "KeptLightModel" (168 : Nat) ({ cls := "KeptLightModel", name := "isPlan", desc := "(I)I" } : Jvm.MethodName)) ∈ lw_all := lw_g (lw_at lw_m14 172 rfl) rfl
theorem q3369 : (Jvm.Cond.privateMethod ({ cls := "KeptLightModel", name := "isPlan", desc := "(I)I" } : Jvm.MethodName)) ∈ lw_tbl := lw_at lw_m14 173 rfl
theorem q3370 : (Jvm.Cond.instanceMethod ({ cls := "KeptLightModel", name := "isPlan", desc := "(I)I" } : Jvm.MethodName)) ∈ lw_all := lw_g (lw_at lw_m14 174 rfl) rfl
theorem q3371 : (Jvm.Cond.code ({ cls := "KeptLightModel", name := "isPlan", desc := "(I)I" } : Jvm.MethodName) prog_34_method_29_code (3 : Nat) (Option.some Jvm.ClassFile.FieldType.int)) ∈ lw_all := lw_g (lw_at lw_m14 175 rfl) rfl
theorem q3372 : (Jvm.Cond.constantLong "KeptLightModel" (163 : Nat) (-1 : Int64)) ∈ lw_all := lw_g (lw_at lw_m14 176 rfl) rfl
theorem q3373 : (Jvm.Cond.methodLink "KeptLightModel" (171 : Nat) ({ cls := "KeptLightModel", name := "takesPlan", desc := "(I)V" } : Jvm.MethodName)) ∈ lw_all := lw_g (lw_at lw_m14 177 rfl) rfl
theorem q3374 : (Jvm.Cond.privateMethod ({ cls := "KeptLightModel", name := "takesPlan", desc := "(I)V" } : Jvm.MethodName)) ∈ lw_tbl := lw_at lw_m14 178 rfl
theorem q3375 : (Jvm.Cond.instanceMethod ({ cls := "KeptLightModel", name := "takesPlan", desc := "(I)V" } : Jvm.MethodName)) ∈ lw_all := lw_g (lw_at lw_m14 179 rfl) rfl
theorem q3376 : (Jvm.Cond.code ({ cls := "KeptLightModel", name := "takesPlan", desc := "(I)V" } : Jvm.MethodName) prog_34_method_30_code (3 : Nat) (Option.none : Option Jvm.ClassFile.FieldType)) ∈ lw_all := lw_g (lw_at lw_m14 180 rfl) rfl
theorem q3378 : (Jvm.Cond.instanceMethod ({ cls := "KeptLightModel", name := "tell", desc := "(II)I" } : Jvm.MethodName)) ∈ lw_all := lw_g (lw_at lw_m14 182 rfl) rfl
theorem q3379 : (Jvm.Cond.selects "KeptLightModel" ({ cls := "KeptLightModel", name := "tell", desc := "(II)I" } : Jvm.MethodName) ({ cls := "KeptLightModel", name := "tell", desc := "(II)I" } : Jvm.MethodName)) ∈ lw_all := lw_g (lw_at lw_m14 183 rfl) rfl
theorem q3380 : (Jvm.Cond.code ({ cls := "KeptLightModel", name := "tell", desc := "(II)I" } : Jvm.MethodName) prog_34_method_32_code (5 : Nat) (Option.some Jvm.ClassFile.FieldType.int)) ∈ lw_all := lw_g (lw_at lw_m14 184 rfl) rfl
theorem q3381 : (Jvm.Cond.constantLong "KeptLightModel" (175 : Nat) (12 : Int64)) ∈ lw_all := lw_g (lw_at lw_m14 185 rfl) rfl
theorem q3382 : (Jvm.Cond.constantLong "KeptLightModel" (177 : Nat) (13 : Int64)) ∈ lw_all := lw_g (lw_at lw_m14 186 rfl) rfl
theorem q3383 : (Jvm.Cond.constantLong "KeptLightModel" (179 : Nat) (24 : Int64)) ∈ lw_all := lw_g (lw_at lw_m14 187 rfl) rfl
theorem q3384 : (Jvm.Cond.constantLong "KeptLightModel" (181 : Nat) (4 : Int64)) ∈ lw_all := lw_g (lw_at lw_m14 188 rfl) rfl
theorem q3385 : (Jvm.Cond.constantLong "KeptLightModel" (183 : Nat) (3 : Int64)) ∈ lw_all := lw_g (lw_at lw_m14 189 rfl) rfl
theorem q3386 : (Jvm.Cond.constantLong "KeptLightModel" (185 : Nat) (9999 : Int64)) ∈ lw_all := lw_g (lw_at lw_m14 190 rfl) rfl
theorem q3388 : (Jvm.Cond.instanceMethod ({ cls := "KeptLightModel", name := "boat", desc := "(II)I" } : Jvm.MethodName)) ∈ lw_all := lw_g (lw_at lw_m14 192 rfl) rfl
theorem q3389 : (Jvm.Cond.selects "KeptLightModel" ({ cls := "KeptLightModel", name := "boat", desc := "(II)I" } : Jvm.MethodName) ({ cls := "KeptLightModel", name := "boat", desc := "(II)I" } : Jvm.MethodName)) ∈ lw_all := lw_g (lw_at lw_m14 193 rfl) rfl
theorem q3390 : (Jvm.Cond.code ({ cls := "KeptLightModel", name := "boat", desc := "(II)I" } : Jvm.MethodName) prog_34_method_33_code (5 : Nat) (Option.some Jvm.ClassFile.FieldType.int)) ∈ lw_all := lw_g (lw_at lw_m14 194 rfl) rfl
theorem q3391 : (Jvm.Cond.constantLong "KeptLightModel" (187 : Nat) (999 : Int64)) ∈ lw_all := lw_g (lw_at lw_m14 195 rfl) rfl
theorem q3393 : (Jvm.Cond.instanceMethod ({ cls := "KeptLightModel", name := "ship", desc := "(II)I" } : Jvm.MethodName)) ∈ lw_all := lw_g (lw_at lw_m14 197 rfl) rfl
theorem q3394 : (Jvm.Cond.selects "KeptLightModel" ({ cls := "KeptLightModel", name := "ship", desc := "(II)I" } : Jvm.MethodName) ({ cls := "KeptLightModel", name := "ship", desc := "(II)I" } : Jvm.MethodName)) ∈ lw_all := lw_g (lw_at lw_m14 198 rfl) rfl
theorem q3395 : (Jvm.Cond.code ({ cls := "KeptLightModel", name := "ship", desc := "(II)I" } : Jvm.MethodName) prog_34_method_35_code (3 : Nat) (Option.some Jvm.ClassFile.FieldType.int)) ∈ lw_all := lw_g (lw_at lw_m14 199 rfl) rfl
theorem q3396 : (Jvm.Cond.methodLink "KeptLightModel" (191 : Nat) ({ cls := "KeptLightModel", name := "comesShip", desc := "(II)I" } : Jvm.MethodName)) ∈ lw_all := lw_g (lw_at lw_m14 200 rfl) rfl
theorem q3397 : (Jvm.Cond.privateMethod ({ cls := "KeptLightModel", name := "comesShip", desc := "(II)I" } : Jvm.MethodName)) ∈ lw_tbl := lw_at lw_m14 201 rfl
theorem q3398 : (Jvm.Cond.instanceMethod ({ cls := "KeptLightModel", name := "comesShip", desc := "(II)I" } : Jvm.MethodName)) ∈ lw_all := lw_g (lw_at lw_m14 202 rfl) rfl
theorem q3399 : (Jvm.Cond.code ({ cls := "KeptLightModel", name := "comesShip", desc := "(II)I" } : Jvm.MethodName) prog_34_method_34_code (4 : Nat) (Option.some Jvm.ClassFile.FieldType.int)) ∈ lw_all := lw_g (lw_at lw_m14 203 rfl) rfl
theorem q3401 : (Jvm.Cond.instanceMethod ({ cls := "KeptLightModel", name := "pass", desc := "(I)I" } : Jvm.MethodName)) ∈ lw_all := lw_g (lw_at lw_m14 205 rfl) rfl
theorem q3402 : (Jvm.Cond.selects "KeptLightModel" ({ cls := "KeptLightModel", name := "pass", desc := "(I)I" } : Jvm.MethodName) ({ cls := "KeptLightModel", name := "pass", desc := "(I)I" } : Jvm.MethodName)) ∈ lw_all := lw_g (lw_at lw_m14 206 rfl) rfl
theorem q3403 : (Jvm.Cond.code ({ cls := "KeptLightModel", name := "pass", desc := "(I)I" } : Jvm.MethodName) prog_34_method_36_code (2 : Nat) (Option.some Jvm.ClassFile.FieldType.int)) ∈ lw_all := lw_g (lw_at lw_m14 207 rfl) rfl
theorem q3404 : (Jvm.Cond.constantLong "KeptLightModel" (194 : Nat) (200 : Int64)) ∈ lw_all := lw_g (lw_at lw_m14 208 rfl) rfl
theorem q3405 : (Jvm.Cond.methodLink "KeptLightModel" (127 : Nat) ({ cls := "KeptLightModel", name := "passes", desc := "(I)I" } : Jvm.MethodName)) ∈ lw_all := lw_g (lw_at lw_m14 209 rfl) rfl
theorem q3406 : (Jvm.Cond.privateMethod ({ cls := "KeptLightModel", name := "passes", desc := "(I)I" } : Jvm.MethodName)) ∈ lw_tbl := lw_at lw_m14 210 rfl
theorem q3407 : (Jvm.Cond.instanceMethod ({ cls := "KeptLightModel", name := "passes", desc := "(I)I" } : Jvm.MethodName)) ∈ lw_all := lw_g (lw_at lw_m14 211 rfl) rfl
theorem q3408 : (Jvm.Cond.code ({ cls := "KeptLightModel", name := "passes", desc := "(I)I" } : Jvm.MethodName) prog_34_method_20_code (4 : Nat) (Option.some Jvm.ClassFile.FieldType.int)) ∈ lw_all := lw_g (lw_at lw_m14 212 rfl) rfl
theorem q3409 : (Jvm.Cond.methodLink "KeptLightModel" (120 : Nat) ({ cls := "KeptLightModel", name := "hourPasses", desc := "()V" } : Jvm.MethodName)) ∈ lw_all := lw_g (lw_at lw_m14 213 rfl) rfl
theorem q3410 : (Jvm.Cond.privateMethod ({ cls := "KeptLightModel", name := "hourPasses", desc := "()V" } : Jvm.MethodName)) ∈ lw_tbl := lw_at lw_m14 214 rfl
theorem q3411 : (Jvm.Cond.instanceMethod ({ cls := "KeptLightModel", name := "hourPasses", desc := "()V" } : Jvm.MethodName)) ∈ lw_all := lw_g (lw_at lw_m14 215 rfl) rfl
theorem q3412 : (Jvm.Cond.code ({ cls := "KeptLightModel", name := "hourPasses", desc := "()V" } : Jvm.MethodName) prog_34_method_19_code (10 : Nat) (Option.none : Option Jvm.ClassFile.FieldType)) ∈ lw_all := lw_g (lw_at lw_m14 216 rfl) rfl
theorem q3413 : (Jvm.Cond.methodLink "KeptLightModel" (85 : Nat) ({ cls := "KeptLightModel", name := "weatherOf", desc := "(I)I" } : Jvm.MethodName)) ∈ lw_all := lw_g (lw_at lw_m14 217 rfl) rfl
theorem q3414 : (Jvm.Cond.privateMethod ({ cls := "KeptLightModel", name := "weatherOf", desc := "(I)I" } : Jvm.MethodName)) ∈ lw_tbl := lw_at lw_m14 218 rfl
theorem q3415 : (Jvm.Cond.instanceMethod ({ cls := "KeptLightModel", name := "weatherOf", desc := "(I)I" } : Jvm.MethodName)) ∈ lw_all := lw_g (lw_at lw_m14 219 rfl) rfl
theorem q3416 : (Jvm.Cond.code ({ cls := "KeptLightModel", name := "weatherOf", desc := "(I)I" } : Jvm.MethodName) prog_34_method_10_code (5 : Nat) (Option.some Jvm.ClassFile.FieldType.int)) ∈ lw_all := lw_g (lw_at lw_m14 220 rfl) rfl
theorem q3417 : (Jvm.Cond.methodLink "KeptLightModel" (89 : Nat) ({ cls := "KeptLightModel", name := "isDark", desc := "(I)Z" } : Jvm.MethodName)) ∈ lw_all := lw_g (lw_at lw_m14 221 rfl) rfl
theorem q3418 : (Jvm.Cond.privateMethod ({ cls := "KeptLightModel", name := "isDark", desc := "(I)Z" } : Jvm.MethodName)) ∈ lw_tbl := lw_at lw_m14 222 rfl
theorem q3419 : (Jvm.Cond.instanceMethod ({ cls := "KeptLightModel", name := "isDark", desc := "(I)Z" } : Jvm.MethodName)) ∈ lw_all := lw_g (lw_at lw_m14 223 rfl) rfl
theorem q3420 : (Jvm.Cond.code ({ cls := "KeptLightModel", name := "isDark", desc := "(I)Z" } : Jvm.MethodName) prog_34_method_11_code (2 : Nat) (Option.some Jvm.ClassFile.FieldType.boolean)) ∈ lw_all := lw_g (lw_at lw_m14 224 rfl) rfl
theorem q3421 : (Jvm.Cond.methodLink "KeptLightModel" (58 : Nat) ({ cls := "KeptLightModel", name := "ofKeeper", desc := "(II)I" } : Jvm.MethodName)) ∈ lw_all := lw_g (lw_at lw_m14 225 rfl) rfl
theorem q3422 : (Jvm.Cond.privateMethod ({ cls := "KeptLightModel", name := "ofKeeper", desc := "(II)I" } : Jvm.MethodName)) ∈ lw_tbl := lw_at lw_m14 226 rfl
theorem q3423 : (Jvm.Cond.instanceMethod ({ cls := "KeptLightModel", name := "ofKeeper", desc := "(II)I" } : Jvm.MethodName)) ∈ lw_all := lw_g (lw_at lw_m14 227 rfl) rfl
theorem q3424 : (Jvm.Cond.code ({ cls := "KeptLightModel", name := "ofKeeper", desc := "(II)I" } : Jvm.MethodName) prog_34_method_7_code (3 : Nat) (Option.some Jvm.ClassFile.FieldType.int)) ∈ lw_all := lw_g (lw_at lw_m14 228 rfl) rfl
theorem q3425 : (Jvm.Cond.methodLink "KeptLightModel" (92 : Nat) ({ cls := "KeptLightModel", name := "lasts", desc := "(I)I" } : Jvm.MethodName)) ∈ lw_all := lw_g (lw_at lw_m14 229 rfl) rfl
theorem q3426 : (Jvm.Cond.privateMethod ({ cls := "KeptLightModel", name := "lasts", desc := "(I)I" } : Jvm.MethodName)) ∈ lw_tbl := lw_at lw_m14 230 rfl
theorem q3427 : (Jvm.Cond.instanceMethod ({ cls := "KeptLightModel", name := "lasts", desc := "(I)I" } : Jvm.MethodName)) ∈ lw_all := lw_g (lw_at lw_m14 231 rfl) rfl
theorem q3428 : (Jvm.Cond.code ({ cls := "KeptLightModel", name := "lasts", desc := "(I)I" } : Jvm.MethodName) prog_34_method_9_code (2 : Nat) (Option.some Jvm.ClassFile.FieldType.int)) ∈ lw_all := lw_g (lw_at lw_m14 232 rfl) rfl
theorem q3429 : (Jvm.Cond.methodLink "KeptLightModel" (95 : Nat) ({ cls := "KeptLightModel", name := "passesLamp", desc := "(ZZ)V" } : Jvm.MethodName)) ∈ lw_all := lw_g (lw_at lw_m14 233 rfl) rfl
theorem q3430 : (Jvm.Cond.privateMethod ({ cls := "KeptLightModel", name := "passesLamp", desc := "(ZZ)V" } : Jvm.MethodName)) ∈ lw_tbl := lw_at lw_m14 234 rfl
theorem q3431 : (Jvm.Cond.instanceMethod ({ cls := "KeptLightModel", name := "passesLamp", desc := "(ZZ)V" } : Jvm.MethodName)) ∈ lw_all := lw_g (lw_at lw_m14 235 rfl) rfl
theorem q3432 : (Jvm.Cond.code ({ cls := "KeptLightModel", name := "passesLamp", desc := "(ZZ)V" } : Jvm.MethodName) prog_34_method_17_code (4 : Nat) (Option.none : Option Jvm.ClassFile.FieldType)) ∈ lw_all := lw_g (lw_at lw_m14 236 rfl) rfl
theorem q3433 : (Jvm.Cond.methodLink "KeptLightModel" (76 : Nat) ({ cls := "KeptLightModel", name := "logs", desc := "(III)V" } : Jvm.MethodName)) ∈ lw_all := lw_g (lw_at lw_m14 237 rfl) rfl
theorem q3434 : (Jvm.Cond.privateMethod ({ cls := "KeptLightModel", name := "logs", desc := "(III)V" } : Jvm.MethodName)) ∈ lw_tbl := lw_at lw_m14 238 rfl
theorem q3435 : (Jvm.Cond.instanceMethod ({ cls := "KeptLightModel", name := "logs", desc := "(III)V" } : Jvm.MethodName)) ∈ lw_all := lw_g (lw_at lw_m14 239 rfl) rfl
theorem q3436 : (Jvm.Cond.code ({ cls := "KeptLightModel", name := "logs", desc := "(III)V" } : Jvm.MethodName) prog_34_method_12_code (5 : Nat) (Option.none : Option Jvm.ClassFile.FieldType)) ∈ lw_all := lw_g (lw_at lw_m15 0 rfl) rfl
theorem q3437 : (Jvm.Cond.methodLink "KeptLightModel" (99 : Nat) ({ cls := "KeptLightModel", name := "passesShips", desc := "(ZZII)V" } : Jvm.MethodName)) ∈ lw_all := lw_g (lw_at lw_m15 1 rfl) rfl
theorem q3438 : (Jvm.Cond.privateMethod ({ cls := "KeptLightModel", name := "passesShips", desc := "(ZZII)V" } : Jvm.MethodName)) ∈ lw_tbl := lw_at lw_m15 2 rfl
theorem q3439 : (Jvm.Cond.instanceMethod ({ cls := "KeptLightModel", name := "passesShips", desc := "(ZZII)V" } : Jvm.MethodName)) ∈ lw_all := lw_g (lw_at lw_m15 3 rfl) rfl
theorem q3440 : (Jvm.Cond.code ({ cls := "KeptLightModel", name := "passesShips", desc := "(ZZII)V" } : Jvm.MethodName) prog_34_method_16_code (11 : Nat) (Option.none : Option Jvm.ClassFile.FieldType)) ∈ lw_all := lw_g (lw_at lw_m15 4 rfl) rfl
theorem q3441 : (Jvm.Cond.methodLink "KeptLightModel" (69 : Nat) ({ cls := "KeptLightModel", name := "rankedAt", desc := "(II)I" } : Jvm.MethodName)) ∈ lw_all := lw_g (lw_at lw_m15 5 rfl) rfl
theorem q3442 : (Jvm.Cond.privateMethod ({ cls := "KeptLightModel", name := "rankedAt", desc := "(II)I" } : Jvm.MethodName)) ∈ lw_tbl := lw_at lw_m15 6 rfl
theorem q3443 : (Jvm.Cond.instanceMethod ({ cls := "KeptLightModel", name := "rankedAt", desc := "(II)I" } : Jvm.MethodName)) ∈ lw_all := lw_g (lw_at lw_m15 7 rfl) rfl
theorem q3444 : (Jvm.Cond.code ({ cls := "KeptLightModel", name := "rankedAt", desc := "(II)I" } : Jvm.MethodName) prog_34_method_15_code (6 : Nat) (Option.some Jvm.ClassFile.FieldType.int)) ∈ lw_all := lw_g (lw_at lw_m15 8 rfl) rfl
theorem q3445 : (Jvm.Cond.methodLink "KeptLightModel" (66 : Nat) ({ cls := "KeptLightModel", name := "ofShip", desc := "(II)I" } : Jvm.MethodName)) ∈ lw_all := lw_g (lw_at lw_m15 9 rfl) rfl
theorem q3446 : (Jvm.Cond.privateMethod ({ cls := "KeptLightModel", name := "ofShip", desc := "(II)I" } : Jvm.MethodName)) ∈ lw_tbl := lw_at lw_m15 10 rfl
theorem q3447 : (Jvm.Cond.instanceMethod ({ cls := "KeptLightModel", name := "ofShip", desc := "(II)I" } : Jvm.MethodName)) ∈ lw_all := lw_g (lw_at lw_m15 11 rfl) rfl
theorem q3448 : (Jvm.Cond.code ({ cls := "KeptLightModel", name := "ofShip", desc := "(II)I" } : Jvm.MethodName) prog_34_method_8_code (3 : Nat) (Option.some Jvm.ClassFile.FieldType.int)) ∈ lw_all := lw_g (lw_at lw_m15 12 rfl) rfl
theorem q3449 : (Jvm.Cond.methodLink "KeptLightModel" (72 : Nat) ({ cls := "KeptLightModel", name := "lacks", desc := "(IZZZI)I" } : Jvm.MethodName)) ∈ lw_all := lw_g (lw_at lw_m15 13 rfl) rfl
theorem q3450 : (Jvm.Cond.static ({ cls := "KeptLightModel", name := "lacks", desc := "(IZZZI)I" } : Jvm.MethodName)) ∈ lw_all := lw_g (lw_at lw_m15 14 rfl) rfl
theorem q3451 : (Jvm.Cond.code ({ cls := "KeptLightModel", name := "lacks", desc := "(IZZZI)I" } : Jvm.MethodName) prog_34_method_14_code (8 : Nat) (Option.some Jvm.ClassFile.FieldType.int)) ∈ lw_all := lw_g (lw_at lw_m15 15 rfl) rfl
theorem q3452 : (Jvm.Cond.methodLink "KeptLightModel" (62 : Nat) ({ cls := "KeptLightModel", name := "isSmall", desc := "(I)Z" } : Jvm.MethodName)) ∈ lw_all := lw_g (lw_at lw_m15 16 rfl) rfl
theorem q3453 : (Jvm.Cond.static ({ cls := "KeptLightModel", name := "isSmall", desc := "(I)Z" } : Jvm.MethodName)) ∈ lw_all := lw_g (lw_at lw_m15 17 rfl) rfl
theorem q3454 : (Jvm.Cond.code ({ cls := "KeptLightModel", name := "isSmall", desc := "(I)Z" } : Jvm.MethodName) prog_34_method_13_code (1 : Nat) (Option.some Jvm.ClassFile.FieldType.boolean)) ∈ lw_all := lw_g (lw_at lw_m15 18 rfl) rfl
theorem q3455 : (Jvm.Cond.methodLink "KeptLightModel" (103 : Nat) ({ cls := "KeptLightModel", name := "tires", desc := "(II)V" } : Jvm.MethodName)) ∈ lw_all := lw_g (lw_at lw_m15 19 rfl) rfl
theorem q3456 : (Jvm.Cond.privateMethod ({ cls := "KeptLightModel", name := "tires", desc := "(II)V" } : Jvm.MethodName)) ∈ lw_tbl := lw_at lw_m15 20 rfl
theorem q3457 : (Jvm.Cond.instanceMethod ({ cls := "KeptLightModel", name := "tires", desc := "(II)V" } : Jvm.MethodName)) ∈ lw_all := lw_g (lw_at lw_m15 21 rfl) rfl
theorem q3458 : (Jvm.Cond.code ({ cls := "KeptLightModel", name := "tires", desc := "(II)V" } : Jvm.MethodName) prog_34_method_18_code (5 : Nat) (Option.none : Option Jvm.ClassFile.FieldType)) ∈ lw_all := lw_g (lw_at lw_m15 22 rfl) rfl
theorem q3459 : (Jvm.Cond.methodLink "KeptLightModel" (80 : Nat) ({ cls := "java/lang/Math", name := "max", desc := "(II)I" } : Jvm.MethodName)) ∈ lw_all := lw_g (lw_at lw_m15 23 rfl) rfl
theorem q3460 : (Jvm.Cond.methodLink "KeptLightModel" (111 : Nat) ({ cls := "java/lang/Math", name := "min", desc := "(II)I" } : Jvm.MethodName)) ∈ lw_all := lw_g (lw_at lw_m15 24 rfl) rfl
theorem q3462 : (Jvm.Cond.instanceMethod ({ cls := "KeptLightModel", name := "weather", desc := "(I)I" } : Jvm.MethodName)) ∈ lw_all := lw_g (lw_at lw_m15 26 rfl) rfl
theorem q3463 : (Jvm.Cond.selects "KeptLightModel" ({ cls := "KeptLightModel", name := "weather", desc := "(I)I" } : Jvm.MethodName) ({ cls := "KeptLightModel", name := "weather", desc := "(I)I" } : Jvm.MethodName)) ∈ lw_all := lw_g (lw_at lw_m15 27 rfl) rfl
theorem q3464 : (Jvm.Cond.code ({ cls := "KeptLightModel", name := "weather", desc := "(I)I" } : Jvm.MethodName) prog_34_method_37_code (2 : Nat) (Option.some Jvm.ClassFile.FieldType.int)) ∈ lw_all := lw_g (lw_at lw_m15 28 rfl) rfl
theorem q3466 : (Jvm.Cond.instanceMethod ({ cls := "KeptLightModel", name := "dark", desc := "(I)I" } : Jvm.MethodName)) ∈ lw_all := lw_g (lw_at lw_m15 30 rfl) rfl
theorem q3467 : (Jvm.Cond.selects "KeptLightModel" ({ cls := "KeptLightModel", name := "dark", desc := "(I)I" } : Jvm.MethodName) ({ cls := "KeptLightModel", name := "dark", desc := "(I)I" } : Jvm.MethodName)) ∈ lw_all := lw_g (lw_at lw_m15 31 rfl) rfl
theorem q3468 : (Jvm.Cond.code ({ cls := "KeptLightModel", name := "dark", desc := "(I)I" } : Jvm.MethodName) prog_34_method_38_code (2 : Nat) (Option.some Jvm.ClassFile.FieldType.int)) ∈ lw_all := lw_g (lw_at lw_m15 32 rfl) rfl
theorem q3470 : (Jvm.Cond.instanceMethod ({ cls := "KeptLightModel", name := "keeperOf", desc := "(II)I" } : Jvm.MethodName)) ∈ lw_all := lw_g (lw_at lw_m15 34 rfl) rfl
theorem q3471 : (Jvm.Cond.selects "KeptLightModel" ({ cls := "KeptLightModel", name := "keeperOf", desc := "(II)I" } : Jvm.MethodName) ({ cls := "KeptLightModel", name := "keeperOf", desc := "(II)I" } : Jvm.MethodName)) ∈ lw_all := lw_g (lw_at lw_m15 35 rfl) rfl
theorem q3472 : (Jvm.Cond.code ({ cls := "KeptLightModel", name := "keeperOf", desc := "(II)I" } : Jvm.MethodName) prog_34_method_39_code (3 : Nat) (Option.some Jvm.ClassFile.FieldType.int)) ∈ lw_all := lw_g (lw_at lw_m15 36 rfl) rfl
theorem q3473 : (Jvm.Cond.constantLong "KeptLightModel" (196 : Nat) (5 : Int64)) ∈ lw_all := lw_g (lw_at lw_m15 37 rfl) rfl
theorem q3474 : (Jvm.Cond.methodLink "KeptLightModel" (198 : Nat) ({ cls := "KeptLightModel", name := "hoursOf", desc := "(I)I" } : Jvm.MethodName)) ∈ lw_all := lw_g (lw_at lw_m15 38 rfl) rfl
theorem q3475 : (Jvm.Cond.privateMethod ({ cls := "KeptLightModel", name := "hoursOf", desc := "(I)I" } : Jvm.MethodName)) ∈ lw_tbl := lw_at lw_m15 39 rfl
theorem q3476 : (Jvm.Cond.instanceMethod ({ cls := "KeptLightModel", name := "hoursOf", desc := "(I)I" } : Jvm.MethodName)) ∈ lw_all := lw_g (lw_at lw_m15 40 rfl) rfl
theorem q3477 : (Jvm.Cond.code ({ cls := "KeptLightModel", name := "hoursOf", desc := "(I)I" } : Jvm.MethodName) prog_34_method_40_code (4 : Nat) (Option.some Jvm.ClassFile.FieldType.int)) ∈ lw_all := lw_g (lw_at lw_m15 41 rfl) rfl
theorem q3479 : (Jvm.Cond.instanceMethod ({ cls := "KeptLightModel", name := "shipOf", desc := "(II)I" } : Jvm.MethodName)) ∈ lw_all := lw_g (lw_at lw_m15 43 rfl) rfl
theorem q3480 : (Jvm.Cond.selects "KeptLightModel" ({ cls := "KeptLightModel", name := "shipOf", desc := "(II)I" } : Jvm.MethodName) ({ cls := "KeptLightModel", name := "shipOf", desc := "(II)I" } : Jvm.MethodName)) ∈ lw_all := lw_g (lw_at lw_m15 44 rfl) rfl
theorem q3481 : (Jvm.Cond.code ({ cls := "KeptLightModel", name := "shipOf", desc := "(II)I" } : Jvm.MethodName) prog_34_method_41_code (3 : Nat) (Option.some Jvm.ClassFile.FieldType.int)) ∈ lw_all := lw_g (lw_at lw_m15 45 rfl) rfl
theorem q3482 : (Jvm.Cond.methodLink "KeptLightModel" (201 : Nat) ({ cls := "KeptLightModel", name := "isShip", desc := "(I)Z" } : Jvm.MethodName)) ∈ lw_all := lw_g (lw_at lw_m15 46 rfl) rfl
theorem q3483 : (Jvm.Cond.privateMethod ({ cls := "KeptLightModel", name := "isShip", desc := "(I)Z" } : Jvm.MethodName)) ∈ lw_tbl := lw_at lw_m15 47 rfl
theorem q3484 : (Jvm.Cond.instanceMethod ({ cls := "KeptLightModel", name := "isShip", desc := "(I)Z" } : Jvm.MethodName)) ∈ lw_all := lw_g (lw_at lw_m15 48 rfl) rfl
theorem q3485 : (Jvm.Cond.code ({ cls := "KeptLightModel", name := "isShip", desc := "(I)Z" } : Jvm.MethodName) prog_34_method_6_code (2 : Nat) (Option.some Jvm.ClassFile.FieldType.boolean)) ∈ lw_all := lw_g (lw_at lw_m15 49 rfl) rfl
theorem q3487 : (Jvm.Cond.instanceMethod ({ cls := "KeptLightModel", name := "shipAt", desc := "(II)I" } : Jvm.MethodName)) ∈ lw_all := lw_g (lw_at lw_m15 51 rfl) rfl
theorem q3488 : (Jvm.Cond.selects "KeptLightModel" ({ cls := "KeptLightModel", name := "shipAt", desc := "(II)I" } : Jvm.MethodName) ({ cls := "KeptLightModel", name := "shipAt", desc := "(II)I" } : Jvm.MethodName)) ∈ lw_all := lw_g (lw_at lw_m15 52 rfl) rfl
theorem q3489 : (Jvm.Cond.code ({ cls := "KeptLightModel", name := "shipAt", desc := "(II)I" } : Jvm.MethodName) prog_34_method_42_code (3 : Nat) (Option.some Jvm.ClassFile.FieldType.int)) ∈ lw_all := lw_g (lw_at lw_m15 53 rfl) rfl
theorem q3491 : (Jvm.Cond.instanceMethod ({ cls := "KeptLightModel", name := "many", desc := "(II)I" } : Jvm.MethodName)) ∈ lw_all := lw_g (lw_at lw_m15 55 rfl) rfl
theorem q3492 : (Jvm.Cond.selects "KeptLightModel" ({ cls := "KeptLightModel", name := "many", desc := "(II)I" } : Jvm.MethodName) ({ cls := "KeptLightModel", name := "many", desc := "(II)I" } : Jvm.MethodName)) ∈ lw_all := lw_g (lw_at lw_m15 56 rfl) rfl
theorem q3493 : (Jvm.Cond.code ({ cls := "KeptLightModel", name := "many", desc := "(II)I" } : Jvm.MethodName) prog_34_method_44_code (5 : Nat) (Option.some Jvm.ClassFile.FieldType.int)) ∈ lw_all := lw_g (lw_at lw_m15 57 rfl) rfl
theorem q3494 : (Jvm.Cond.methodLink "KeptLightModel" (204 : Nat) ({ cls := "KeptLightModel", name := "isUnder", desc := "(II)Z" } : Jvm.MethodName)) ∈ lw_all := lw_g (lw_at lw_m15 58 rfl) rfl
theorem q3495 : (Jvm.Cond.static ({ cls := "KeptLightModel", name := "isUnder", desc := "(II)Z" } : Jvm.MethodName)) ∈ lw_all := lw_g (lw_at lw_m15 59 rfl) rfl
theorem q3496 : (Jvm.Cond.code ({ cls := "KeptLightModel", name := "isUnder", desc := "(II)Z" } : Jvm.MethodName) prog_34_method_43_code (2 : Nat) (Option.some Jvm.ClassFile.FieldType.boolean)) ∈ lw_all := lw_g (lw_at lw_m15 60 rfl) rfl
theorem q3498 : (Jvm.Cond.instanceMethod ({ cls := "KeptLightModel", name := "log", desc := "(II)I" } : Jvm.MethodName)) ∈ lw_all := lw_g (lw_at lw_m15 62 rfl) rfl
theorem q3499 : (Jvm.Cond.selects "KeptLightModel" ({ cls := "KeptLightModel", name := "log", desc := "(II)I" } : Jvm.MethodName) ({ cls := "KeptLightModel", name := "log", desc := "(II)I" } : Jvm.MethodName)) ∈ lw_all := lw_g (lw_at lw_m15 63 rfl) rfl
theorem q3500 : (Jvm.Cond.code ({ cls := "KeptLightModel", name := "log", desc := "(II)I" } : Jvm.MethodName) prog_34_method_45_code (3 : Nat) (Option.some Jvm.ClassFile.FieldType.int)) ∈ lw_all := lw_g (lw_at lw_m15 64 rfl) rfl
theorem q3502 : (Jvm.Cond.instanceMethod ({ cls := "KeptLightModel", name := "logged", desc := "(I)I" } : Jvm.MethodName)) ∈ lw_all := lw_g (lw_at lw_m15 66 rfl) rfl
theorem q3503 : (Jvm.Cond.selects "KeptLightModel" ({ cls := "KeptLightModel", name := "logged", desc := "(I)I" } : Jvm.MethodName) ({ cls := "KeptLightModel", name := "logged", desc := "(I)I" } : Jvm.MethodName)) ∈ lw_all := lw_g (lw_at lw_m15 67 rfl) rfl
theorem q3504 : (Jvm.Cond.code ({ cls := "KeptLightModel", name := "logged", desc := "(I)I" } : Jvm.MethodName) prog_34_method_46_code (4 : Nat) (Option.some Jvm.ClassFile.FieldType.int)) ∈ lw_all := lw_g (lw_at lw_m15 68 rfl) rfl
theorem q3505 : (Jvm.Cond.constantLong "KeptLightModel" (208 : Nat) (6 : Int64)) ∈ lw_all := lw_g (lw_at lw_m15 69 rfl) rfl
theorem q3507 : (Jvm.Cond.instanceMethod ({ cls := "KeptLightModel", name := "difference", desc := "(II)I" } : Jvm.MethodName)) ∈ lw_all := lw_g (lw_at lw_m15 71 rfl) rfl
theorem q3508 : (Jvm.Cond.selects "KeptLightModel" ({ cls := "KeptLightModel", name := "difference", desc := "(II)I" } : Jvm.MethodName) ({ cls := "KeptLightModel", name := "difference", desc := "(II)I" } : Jvm.MethodName)) ∈ lw_all := lw_g (lw_at lw_m15 72 rfl) rfl
theorem q3509 : (Jvm.Cond.code ({ cls := "KeptLightModel", name := "difference", desc := "(II)I" } : Jvm.MethodName) prog_34_method_48_code (6 : Nat) (Option.some Jvm.ClassFile.FieldType.int)) ∈ lw_all := lw_g (lw_at lw_m15 73 rfl) rfl
theorem q3510 : (Jvm.Cond.methodLink "KeptLightModel" (210 : Nat) ({ cls := "KeptLightModel", name := "shipAgainst", desc := "(I)I" } : Jvm.MethodName)) ∈ lw_all := lw_g (lw_at lw_m15 74 rfl) rfl
theorem q3511 : (Jvm.Cond.privateMethod ({ cls := "KeptLightModel", name := "shipAgainst", desc := "(I)I" } : Jvm.MethodName)) ∈ lw_tbl := lw_at lw_m15 75 rfl
theorem q3512 : (Jvm.Cond.instanceMethod ({ cls := "KeptLightModel", name := "shipAgainst", desc := "(I)I" } : Jvm.MethodName)) ∈ lw_all := lw_g (lw_at lw_m15 76 rfl) rfl
theorem q3513 : (Jvm.Cond.code ({ cls := "KeptLightModel", name := "shipAgainst", desc := "(I)I" } : Jvm.MethodName) prog_34_method_47_code (7 : Nat) (Option.some Jvm.ClassFile.FieldType.int)) ∈ lw_all := lw_g (lw_at lw_m15 77 rfl) rfl
theorem q3515 : (Jvm.Cond.instanceMethod ({ cls := "KeptLightModel", name := "differences", desc := "(I)I" } : Jvm.MethodName)) ∈ lw_all := lw_g (lw_at lw_m15 79 rfl) rfl
theorem q3516 : (Jvm.Cond.selects "KeptLightModel" ({ cls := "KeptLightModel", name := "differences", desc := "(I)I" } : Jvm.MethodName) ({ cls := "KeptLightModel", name := "differences", desc := "(I)I" } : Jvm.MethodName)) ∈ lw_all := lw_g (lw_at lw_m15 80 rfl) rfl
theorem q3517 : (Jvm.Cond.code ({ cls := "KeptLightModel", name := "differences", desc := "(I)I" } : Jvm.MethodName) prog_34_method_49_code (4 : Nat) (Option.some Jvm.ClassFile.FieldType.int)) ∈ lw_all := lw_g (lw_at lw_m15 81 rfl) rfl
theorem q3519 : (Jvm.Cond.instanceMethod ({ cls := "KeptLightModel", name := "unlit", desc := "()I" } : Jvm.MethodName)) ∈ lw_all := lw_g (lw_at lw_m15 83 rfl) rfl
theorem q3520 : (Jvm.Cond.selects "KeptLightModel" ({ cls := "KeptLightModel", name := "unlit", desc := "()I" } : Jvm.MethodName) ({ cls := "KeptLightModel", name := "unlit", desc := "()I" } : Jvm.MethodName)) ∈ lw_all := lw_g (lw_at lw_m15 84 rfl) rfl
theorem q3521 : (Jvm.Cond.code ({ cls := "KeptLightModel", name := "unlit", desc := "()I" } : Jvm.MethodName) prog_34_method_50_code (1 : Nat) (Option.some Jvm.ClassFile.FieldType.int)) ∈ lw_all := lw_g (lw_at lw_m15 85 rfl) rfl
theorem q3523 : (Jvm.Cond.instanceMethod ({ cls := "KeptLightModel", name := "would", desc := "(II)I" } : Jvm.MethodName)) ∈ lw_all := lw_g (lw_at lw_m15 87 rfl) rfl
theorem q3524 : (Jvm.Cond.selects "KeptLightModel" ({ cls := "KeptLightModel", name := "would", desc := "(II)I" } : Jvm.MethodName) ({ cls := "KeptLightModel", name := "would", desc := "(II)I" } : Jvm.MethodName)) ∈ lw_all := lw_g (lw_at lw_m15 88 rfl) rfl
theorem q3525 : (Jvm.Cond.code ({ cls := "KeptLightModel", name := "would", desc := "(II)I" } : Jvm.MethodName) prog_34_method_52_code (8 : Nat) (Option.some Jvm.ClassFile.FieldType.int)) ∈ lw_all := lw_g (lw_at lw_m15 89 rfl) rfl
theorem q3526 : (Jvm.Cond.methodLink "KeptLightModel" (123 : Nat) ({ cls := "KeptLightModel", name := "copies", desc := "([I[I)V" } : Jvm.MethodName)) ∈ lw_all := lw_g (lw_at lw_m15 90 rfl) rfl
theorem q3527 : (Jvm.Cond.static ({ cls := "KeptLightModel", name := "copies", desc := "([I[I)V" } : Jvm.MethodName)) ∈ lw_all := lw_g (lw_at lw_m15 91 rfl) rfl
theorem q3528 : (Jvm.Cond.code ({ cls := "KeptLightModel", name := "copies", desc := "([I[I)V" } : Jvm.MethodName) prog_34_method_4_code (3 : Nat) (Option.none : Option Jvm.ClassFile.FieldType)) ∈ lw_all := lw_g (lw_at lw_m15 92 rfl) rfl
theorem q3529 : (Jvm.Cond.methodLink "KeptLightModel" (213 : Nat) ({ cls := "KeptLightModel", name := "became", desc := "(I)I" } : Jvm.MethodName)) ∈ lw_all := lw_g (lw_at lw_m15 93 rfl) rfl
theorem q3530 : (Jvm.Cond.privateMethod ({ cls := "KeptLightModel", name := "became", desc := "(I)I" } : Jvm.MethodName)) ∈ lw_tbl := lw_at lw_m15 94 rfl
theorem q3531 : (Jvm.Cond.instanceMethod ({ cls := "KeptLightModel", name := "became", desc := "(I)I" } : Jvm.MethodName)) ∈ lw_all := lw_g (lw_at lw_m15 95 rfl) rfl
theorem q3532 : (Jvm.Cond.code ({ cls := "KeptLightModel", name := "became", desc := "(I)I" } : Jvm.MethodName) prog_34_method_51_code (4 : Nat) (Option.some Jvm.ClassFile.FieldType.int)) ∈ lw_all := lw_g (lw_at lw_m15 96 rfl) rfl
theorem q3534 : (Jvm.Cond.instanceMethod ({ cls := "KeptLightModel", name := "fails", desc := "()I" } : Jvm.MethodName)) ∈ lw_all := lw_g (lw_at lw_m15 98 rfl) rfl
theorem q3535 : (Jvm.Cond.selects "KeptLightModel" ({ cls := "KeptLightModel", name := "fails", desc := "()I" } : Jvm.MethodName) ({ cls := "KeptLightModel", name := "fails", desc := "()I" } : Jvm.MethodName)) ∈ lw_all := lw_g (lw_at lw_m15 99 rfl) rfl
theorem q3536 : (Jvm.Cond.code ({ cls := "KeptLightModel", name := "fails", desc := "()I" } : Jvm.MethodName) prog_34_method_53_code (3 : Nat) (Option.some Jvm.ClassFile.FieldType.int)) ∈ lw_all := lw_g (lw_at lw_m15 100 rfl) rfl
theorem q3538 : (Jvm.Cond.instanceMethod ({ cls := "KeptLightModel", name := "comes", desc := "()I" } : Jvm.MethodName)) ∈ lw_all := lw_g (lw_at lw_m15 102 rfl) rfl
theorem q3539 : (Jvm.Cond.selects "KeptLightModel" ({ cls := "KeptLightModel", name := "comes", desc := "()I" } : Jvm.MethodName) ({ cls := "KeptLightModel", name := "comes", desc := "()I" } : Jvm.MethodName)) ∈ lw_all := lw_g (lw_at lw_m15 103 rfl) rfl
theorem q3540 : (Jvm.Cond.code ({ cls := "KeptLightModel", name := "comes", desc := "()I" } : Jvm.MethodName) prog_34_method_54_code (3 : Nat) (Option.some Jvm.ClassFile.FieldType.int)) ∈ lw_all := lw_g (lw_at lw_m15 104 rfl) rfl
theorem q3542 : (Jvm.Cond.instanceMethod ({ cls := "KeptLightModel", name := "oil", desc := "(I)I" } : Jvm.MethodName)) ∈ lw_all := lw_g (lw_at lw_m15 106 rfl) rfl
theorem q3543 : (Jvm.Cond.selects "KeptLightModel" ({ cls := "KeptLightModel", name := "oil", desc := "(I)I" } : Jvm.MethodName) ({ cls := "KeptLightModel", name := "oil", desc := "(I)I" } : Jvm.MethodName)) ∈ lw_all := lw_g (lw_at lw_m15 107 rfl) rfl
theorem q3544 : (Jvm.Cond.code ({ cls := "KeptLightModel", name := "oil", desc := "(I)I" } : Jvm.MethodName) prog_34_method_56_code (4 : Nat) (Option.some Jvm.ClassFile.FieldType.int)) ∈ lw_all := lw_g (lw_at lw_m15 108 rfl) rfl
theorem q3545 : (Jvm.Cond.methodLink "KeptLightModel" (216 : Nat) ({ cls := "KeptLightModel", name := "unlitBy", desc := "(II)I" } : Jvm.MethodName)) ∈ lw_all := lw_g (lw_at lw_m15 109 rfl) rfl
theorem q3546 : (Jvm.Cond.privateMethod ({ cls := "KeptLightModel", name := "unlitBy", desc := "(II)I" } : Jvm.MethodName)) ∈ lw_tbl := lw_at lw_m15 110 rfl
theorem q3547 : (Jvm.Cond.instanceMethod ({ cls := "KeptLightModel", name := "unlitBy", desc := "(II)I" } : Jvm.MethodName)) ∈ lw_all := lw_g (lw_at lw_m15 111 rfl) rfl
theorem q3548 : (Jvm.Cond.code ({ cls := "KeptLightModel", name := "unlitBy", desc := "(II)I" } : Jvm.MethodName) prog_34_method_55_code (9 : Nat) (Option.some Jvm.ClassFile.FieldType.int)) ∈ lw_all := lw_g (lw_at lw_m15 112 rfl) rfl
theorem q3550 : (Jvm.Cond.instanceMethod ({ cls := "KeptLightModel", name := "better", desc := "(II)I" } : Jvm.MethodName)) ∈ lw_all := lw_g (lw_at lw_m15 114 rfl) rfl
theorem q3551 : (Jvm.Cond.selects "KeptLightModel" ({ cls := "KeptLightModel", name := "better", desc := "(II)I" } : Jvm.MethodName) ({ cls := "KeptLightModel", name := "better", desc := "(II)I" } : Jvm.MethodName)) ∈ lw_all := lw_g (lw_at lw_m15 115 rfl) rfl
theorem q3552 : (Jvm.Cond.code ({ cls := "KeptLightModel", name := "better", desc := "(II)I" } : Jvm.MethodName) prog_34_method_57_code (8 : Nat) (Option.some Jvm.ClassFile.FieldType.int)) ∈ lw_all := lw_g (lw_at lw_m15 116 rfl) rfl
theorem q3553 : (Jvm.Cond.methodLink "KeptLightModel" (219 : Nat) ({ cls := "KeptLightModel", name := "unlitOf", desc := "(I)I" } : Jvm.MethodName)) ∈ lw_all := lw_g (lw_at lw_m15 117 rfl) rfl
theorem q3554 : (Jvm.Cond.privateMethod ({ cls := "KeptLightModel", name := "unlitOf", desc := "(I)I" } : Jvm.MethodName)) ∈ lw_tbl := lw_at lw_m15 118 rfl
theorem q3555 : (Jvm.Cond.instanceMethod ({ cls := "KeptLightModel", name := "unlitOf", desc := "(I)I" } : Jvm.MethodName)) ∈ lw_all := lw_g (lw_at lw_m15 119 rfl) rfl
theorem q3556 : (Jvm.Cond.code ({ cls := "KeptLightModel", name := "unlitOf", desc := "(I)I" } : Jvm.MethodName) prog_34_method_21_code (3 : Nat) (Option.some Jvm.ClassFile.FieldType.int)) ∈ lw_all := lw_g (lw_at lw_m15 120 rfl) rfl
theorem q3558 : (Jvm.Cond.instanceMethod ({ cls := "KeptLightModel", name := "other", desc := "(II)I" } : Jvm.MethodName)) ∈ lw_all := lw_g (lw_at lw_m15 122 rfl) rfl
theorem q3559 : (Jvm.Cond.selects "KeptLightModel" ({ cls := "KeptLightModel", name := "other", desc := "(II)I" } : Jvm.MethodName) ({ cls := "KeptLightModel", name := "other", desc := "(II)I" } : Jvm.MethodName)) ∈ lw_all := lw_g (lw_at lw_m15 123 rfl) rfl
theorem q3560 : (Jvm.Cond.code ({ cls := "KeptLightModel", name := "other", desc := "(II)I" } : Jvm.MethodName) prog_34_method_59_code (6 : Nat) (Option.some Jvm.ClassFile.FieldType.int)) ∈ lw_all := lw_g (lw_at lw_m15 124 rfl) rfl
theorem q3561 : (Jvm.Cond.methodLink "KeptLightModel" (222 : Nat) ({ cls := "KeptLightModel", name := "keepsPlan", desc := "(Z)V" } : Jvm.MethodName)) ∈ lw_all := lw_g (lw_at lw_m15 125 rfl) rfl
theorem q3562 : (Jvm.Cond.privateMethod ({ cls := "KeptLightModel", name := "keepsPlan", desc := "(Z)V" } : Jvm.MethodName)) ∈ lw_tbl := lw_at lw_m15 126 rfl
theorem q3563 : (Jvm.Cond.instanceMethod ({ cls := "KeptLightModel", name := "keepsPlan", desc := "(Z)V" } : Jvm.MethodName)) ∈ lw_all := lw_g (lw_at lw_m15 127 rfl) rfl
theorem q3564 : (Jvm.Cond.code ({ cls := "KeptLightModel", name := "keepsPlan", desc := "(Z)V" } : Jvm.MethodName) prog_34_method_58_code (3 : Nat) (Option.none : Option Jvm.ClassFile.FieldType)) ∈ lw_all := lw_g (lw_at lw_m15 128 rfl) rfl
theorem q3566 : (Jvm.Cond.instanceMethod ({ cls := "KeptLightModel", name := "idle", desc := "(I)I" } : Jvm.MethodName)) ∈ lw_all := lw_g (lw_at lw_m15 130 rfl) rfl
theorem q3567 : (Jvm.Cond.selects "KeptLightModel" ({ cls := "KeptLightModel", name := "idle", desc := "(I)I" } : Jvm.MethodName) ({ cls := "KeptLightModel", name := "idle", desc := "(I)I" } : Jvm.MethodName)) ∈ lw_all := lw_g (lw_at lw_m15 131 rfl) rfl
theorem q3568 : (Jvm.Cond.code ({ cls := "KeptLightModel", name := "idle", desc := "(I)I" } : Jvm.MethodName) prog_34_method_60_code (6 : Nat) (Option.some Jvm.ClassFile.FieldType.int)) ∈ lw_all := lw_g (lw_at lw_m15 132 rfl) rfl
theorem q3570 : (Jvm.Cond.instanceMethod ({ cls := "KeptLightModel", name := "row", desc := "(III)I" } : Jvm.MethodName)) ∈ lw_all := lw_g (lw_at lw_m15 134 rfl) rfl
theorem q3571 : (Jvm.Cond.selects "KeptLightModel" ({ cls := "KeptLightModel", name := "row", desc := "(III)I" } : Jvm.MethodName) ({ cls := "KeptLightModel", name := "row", desc := "(III)I" } : Jvm.MethodName)) ∈ lw_all := lw_g (lw_at lw_m15 135 rfl) rfl
theorem q3572 : (Jvm.Cond.code ({ cls := "KeptLightModel", name := "row", desc := "(III)I" } : Jvm.MethodName) prog_34_method_62_code (5 : Nat) (Option.some Jvm.ClassFile.FieldType.int)) ∈ lw_all := lw_g (lw_at lw_m15 136 rfl) rfl
theorem q3573 : (Jvm.Cond.constantLong "KeptLightModel" (226 : Nat) (40 : Int64)) ∈ lw_all := lw_g (lw_at lw_m15 137 rfl) rfl
theorem q3575 : (Jvm.Cond.instanceMethod ({ cls := "KeptLightModel", name := "set", desc := "(IIJ)I" } : Jvm.MethodName)) ∈ lw_all := lw_g (lw_at lw_m15 139 rfl) rfl
theorem q3576 : (Jvm.Cond.selects "KeptLightModel" ({ cls := "KeptLightModel", name := "set", desc := "(IIJ)I" } : Jvm.MethodName) ({ cls := "KeptLightModel", name := "set", desc := "(IIJ)I" } : Jvm.MethodName)) ∈ lw_all := lw_g (lw_at lw_m15 140 rfl) rfl
theorem q3577 : (Jvm.Cond.code ({ cls := "KeptLightModel", name := "set", desc := "(IIJ)I" } : Jvm.MethodName) prog_34_method_64_code (5 : Nat) (Option.some Jvm.ClassFile.FieldType.int)) ∈ lw_all := lw_g (lw_at lw_m15 141 rfl) rfl
theorem q3578 : (Jvm.Cond.methodLink "KeptLightModel" (228 : Nat) ({ cls := "KeptLightModel", name := "lowest", desc := "(IJ)J" } : Jvm.MethodName)) ∈ lw_all := lw_g (lw_at lw_m15 142 rfl) rfl
theorem q3579 : (Jvm.Cond.static ({ cls := "KeptLightModel", name := "lowest", desc := "(IJ)J" } : Jvm.MethodName)) ∈ lw_all := lw_g (lw_at lw_m15 143 rfl) rfl
theorem q3580 : (Jvm.Cond.code ({ cls := "KeptLightModel", name := "lowest", desc := "(IJ)J" } : Jvm.MethodName) prog_34_method_63_code (3 : Nat) (Option.some Jvm.ClassFile.FieldType.long)) ∈ lw_all := lw_g (lw_at lw_m15 144 rfl) rfl
theorem q3582 : (Jvm.Cond.instanceMethod ({ cls := "KeptLightModel", name := "copy", desc := "(IIIII)I" } : Jvm.MethodName)) ∈ lw_all := lw_g (lw_at lw_m15 146 rfl) rfl
theorem q3583 : (Jvm.Cond.selects "KeptLightModel" ({ cls := "KeptLightModel", name := "copy", desc := "(IIIII)I" } : Jvm.MethodName) ({ cls := "KeptLightModel", name := "copy", desc := "(IIIII)I" } : Jvm.MethodName)) ∈ lw_all := lw_g (lw_at lw_m15 147 rfl) rfl
theorem q3584 : (Jvm.Cond.code ({ cls := "KeptLightModel", name := "copy", desc := "(IIIII)I" } : Jvm.MethodName) prog_34_method_65_code (8 : Nat) (Option.some Jvm.ClassFile.FieldType.int)) ∈ lw_all := lw_g (lw_at lw_m15 148 rfl) rfl
theorem q3586 : (Jvm.Cond.instanceMethod ({ cls := "KeptLightModel", name := "element", desc := "(II)J" } : Jvm.MethodName)) ∈ lw_all := lw_g (lw_at lw_m15 150 rfl) rfl
theorem q3587 : (Jvm.Cond.selects "KeptLightModel" ({ cls := "KeptLightModel", name := "element", desc := "(II)J" } : Jvm.MethodName) ({ cls := "KeptLightModel", name := "element", desc := "(II)J" } : Jvm.MethodName)) ∈ lw_all := lw_g (lw_at lw_m15 151 rfl) rfl
theorem q3588 : (Jvm.Cond.code ({ cls := "KeptLightModel", name := "element", desc := "(II)J" } : Jvm.MethodName) prog_34_method_66_code (3 : Nat) (Option.some Jvm.ClassFile.FieldType.long)) ∈ lw_all := lw_g (lw_at lw_m15 152 rfl) rfl
theorem q3590 : (Jvm.Cond.instanceMethod ({ cls := "KeptLightModel", name := "holds", desc := "(I)I" } : Jvm.MethodName)) ∈ lw_all := lw_g (lw_at lw_m15 154 rfl) rfl
theorem q3591 : (Jvm.Cond.selects "KeptLightModel" ({ cls := "KeptLightModel", name := "holds", desc := "(I)I" } : Jvm.MethodName) ({ cls := "KeptLightModel", name := "holds", desc := "(I)I" } : Jvm.MethodName)) ∈ lw_all := lw_g (lw_at lw_m15 155 rfl) rfl
theorem q3592 : (Jvm.Cond.code ({ cls := "KeptLightModel", name := "holds", desc := "(I)I" } : Jvm.MethodName) prog_34_method_67_code (2 : Nat) (Option.some Jvm.ClassFile.FieldType.int)) ∈ lw_all := lw_g (lw_at lw_m15 156 rfl) rfl
theorem q3594 : (Jvm.Cond.instanceMethod ({ cls := "KeptLightModel", name := "show", desc := "(II)I" } : Jvm.MethodName)) ∈ lw_all := lw_g (lw_at lw_m15 158 rfl) rfl
theorem q3595 : (Jvm.Cond.selects "KeptLightModel" ({ cls := "KeptLightModel", name := "show", desc := "(II)I" } : Jvm.MethodName) ({ cls := "KeptLightModel", name := "show", desc := "(II)I" } : Jvm.MethodName)) ∈ lw_all := lw_g (lw_at lw_m15 159 rfl) rfl
theorem q3596 : (Jvm.Cond.code ({ cls := "KeptLightModel", name := "show", desc := "(II)I" } : Jvm.MethodName) prog_34_method_68_code (3 : Nat) (Option.some Jvm.ClassFile.FieldType.int)) ∈ lw_all := lw_g (lw_at lw_m15 160 rfl) rfl
theorem q3598 : (Jvm.Cond.instanceMethod ({ cls := "KeptLightModel", name := "says", desc := "(II)I" } : Jvm.MethodName)) ∈ lw_all := lw_g (lw_at lw_m15 162 rfl) rfl
theorem q3599 : (Jvm.Cond.selects "KeptLightModel" ({ cls := "KeptLightModel", name := "says", desc := "(II)I" } : Jvm.MethodName) ({ cls := "KeptLightModel", name := "says", desc := "(II)I" } : Jvm.MethodName)) ∈ lw_all := lw_g (lw_at lw_m15 163 rfl) rfl
theorem q3600 : (Jvm.Cond.code ({ cls := "KeptLightModel", name := "says", desc := "(II)I" } : Jvm.MethodName) prog_34_method_69_code (5 : Nat) (Option.some Jvm.ClassFile.FieldType.int)) ∈ lw_all := lw_g (lw_at lw_m15 164 rfl) rfl
theorem q3602 : (Jvm.Cond.instanceMethod ({ cls := "KeptLightModel", name := "judge", desc := "(III)I" } : Jvm.MethodName)) ∈ lw_all := lw_g (lw_at lw_m15 166 rfl) rfl
theorem q3603 : (Jvm.Cond.selects "KeptLightModel" ({ cls := "KeptLightModel", name := "judge", desc := "(III)I" } : Jvm.MethodName) ({ cls := "KeptLightModel", name := "judge", desc := "(III)I" } : Jvm.MethodName)) ∈ lw_all := lw_g (lw_at lw_m15 167 rfl) rfl
theorem q3604 : (Jvm.Cond.code ({ cls := "KeptLightModel", name := "judge", desc := "(III)I" } : Jvm.MethodName) prog_34_method_70_code (6 : Nat) (Option.some Jvm.ClassFile.FieldType.int)) ∈ lw_all := lw_g (lw_at lw_m15 168 rfl) rfl
theorem q3605 : (Jvm.Cond.constantLong "KeptLightModel" (232 : Nat) (20 : Int64)) ∈ lw_all := lw_g (lw_at lw_m15 169 rfl) rfl
theorem q3607 : (Jvm.Cond.instanceMethod ({ cls := "KeptLightModel", name := "days", desc := "(I)I" } : Jvm.MethodName)) ∈ lw_all := lw_g (lw_at lw_m15 171 rfl) rfl
theorem q3608 : (Jvm.Cond.selects "KeptLightModel" ({ cls := "KeptLightModel", name := "days", desc := "(I)I" } : Jvm.MethodName) ({ cls := "KeptLightModel", name := "days", desc := "(I)I" } : Jvm.MethodName)) ∈ lw_all := lw_g (lw_at lw_m15 172 rfl) rfl
theorem q3609 : (Jvm.Cond.code ({ cls := "KeptLightModel", name := "days", desc := "(I)I" } : Jvm.MethodName) prog_34_method_72_code (6 : Nat) (Option.some Jvm.ClassFile.FieldType.int)) ∈ lw_all := lw_g (lw_at lw_m15 173 rfl) rfl
theorem q3610 : (Jvm.Cond.constantLong "KeptLightModel" (235 : Nat) (60 : Int64)) ∈ lw_all := lw_g (lw_at lw_m15 174 rfl) rfl
theorem q3611 : (Jvm.Cond.methodLink "KeptLightModel" (237 : Nat) ({ cls := "KeptLightModel", name := "draw", desc := "(I)I" } : Jvm.MethodName)) ∈ lw_all := lw_g (lw_at lw_m15 175 rfl) rfl
theorem q3612 : (Jvm.Cond.privateMethod ({ cls := "KeptLightModel", name := "draw", desc := "(I)I" } : Jvm.MethodName)) ∈ lw_tbl := lw_at lw_m15 176 rfl
theorem q3613 : (Jvm.Cond.instanceMethod ({ cls := "KeptLightModel", name := "draw", desc := "(I)I" } : Jvm.MethodName)) ∈ lw_all := lw_g (lw_at lw_m15 177 rfl) rfl
theorem q3614 : (Jvm.Cond.code ({ cls := "KeptLightModel", name := "draw", desc := "(I)I" } : Jvm.MethodName) prog_34_method_71_code (2 : Nat) (Option.some Jvm.ClassFile.FieldType.int)) ∈ lw_all := lw_g (lw_at lw_m15 178 rfl) rfl
theorem q3615 : (Jvm.Cond.constant "KeptLightModel" (234 : Nat) (1103515245 : Int32)) ∈ lw_all := lw_g (lw_at lw_m15 179 rfl) rfl
theorem q3617 : (Jvm.Cond.instanceMethod ({ cls := "KeptLightModel", name := "seed", desc := "(I)I" } : Jvm.MethodName)) ∈ lw_all := lw_g (lw_at lw_m15 181 rfl) rfl
theorem q3618 : (Jvm.Cond.selects "KeptLightModel" ({ cls := "KeptLightModel", name := "seed", desc := "(I)I" } : Jvm.MethodName) ({ cls := "KeptLightModel", name := "seed", desc := "(I)I" } : Jvm.MethodName)) ∈ lw_all := lw_g (lw_at lw_m15 182 rfl) rfl
theorem q3619 : (Jvm.Cond.code ({ cls := "KeptLightModel", name := "seed", desc := "(I)I" } : Jvm.MethodName) prog_34_method_73_code (3 : Nat) (Option.some Jvm.ClassFile.FieldType.int)) ∈ lw_all := lw_g (lw_at lw_m15 183 rfl) rfl
theorem q3621 : (Jvm.Cond.instanceMethod ({ cls := "KeptLightModel", name := "image", desc := "()I" } : Jvm.MethodName)) ∈ lw_all := lw_g (lw_at lw_m15 185 rfl) rfl
theorem q3622 : (Jvm.Cond.selects "KeptLightModel" ({ cls := "KeptLightModel", name := "image", desc := "()I" } : Jvm.MethodName) ({ cls := "KeptLightModel", name := "image", desc := "()I" } : Jvm.MethodName)) ∈ lw_all := lw_g (lw_at lw_m15 186 rfl) rfl
theorem q3623 : (Jvm.Cond.code ({ cls := "KeptLightModel", name := "image", desc := "()I" } : Jvm.MethodName) prog_34_method_74_code (1 : Nat) (Option.some Jvm.ClassFile.FieldType.int)) ∈ lw_all := lw_g (lw_at lw_m15 187 rfl) rfl
theorem q3625 : (Jvm.Cond.instanceMethod ({ cls := "KeptLightModel", name := "back", desc := "()I" } : Jvm.MethodName)) ∈ lw_all := lw_g (lw_at lw_m15 189 rfl) rfl
theorem q3626 : (Jvm.Cond.selects "KeptLightModel" ({ cls := "KeptLightModel", name := "back", desc := "()I" } : Jvm.MethodName) ({ cls := "KeptLightModel", name := "back", desc := "()I" } : Jvm.MethodName)) ∈ lw_all := lw_g (lw_at lw_m15 190 rfl) rfl
theorem q3627 : (Jvm.Cond.code ({ cls := "KeptLightModel", name := "back", desc := "()I" } : Jvm.MethodName) prog_34_method_75_code (2 : Nat) (Option.some Jvm.ClassFile.FieldType.int)) ∈ lw_all := lw_g (lw_at lw_m15 191 rfl) rfl
theorem q3629 : (Jvm.Cond.instanceMethod ({ cls := "KeptLightModel", name := "status", desc := "(I)I" } : Jvm.MethodName)) ∈ lw_all := lw_g (lw_at lw_m15 193 rfl) rfl
theorem q3630 : (Jvm.Cond.selects "KeptLightModel" ({ cls := "KeptLightModel", name := "status", desc := "(I)I" } : Jvm.MethodName) ({ cls := "KeptLightModel", name := "status", desc := "(I)I" } : Jvm.MethodName)) ∈ lw_all := lw_g (lw_at lw_m15 194 rfl) rfl
theorem q3631 : (Jvm.Cond.code ({ cls := "KeptLightModel", name := "status", desc := "(I)I" } : Jvm.MethodName) prog_34_method_77_code (2 : Nat) (Option.some Jvm.ClassFile.FieldType.int)) ∈ lw_all := lw_g (lw_at lw_m15 195 rfl) rfl
theorem q3632 : (Jvm.Cond.constantLong "KeptLightModel" (243 : Nat) (11 : Int64)) ∈ lw_all := lw_g (lw_at lw_m15 196 rfl) rfl
theorem q3633 : (Jvm.Cond.constantLong "KeptLightModel" (245 : Nat) (16 : Int64)) ∈ lw_all := lw_g (lw_at lw_m15 197 rfl) rfl
theorem q3634 : (Jvm.Cond.methodLink "KeptLightModel" (247 : Nat) ({ cls := "KeptLightModel", name := "held", desc := "()I" } : Jvm.MethodName)) ∈ lw_all := lw_g (lw_at lw_m15 198 rfl) rfl
theorem q3635 : (Jvm.Cond.privateMethod ({ cls := "KeptLightModel", name := "held", desc := "()I" } : Jvm.MethodName)) ∈ lw_tbl := lw_at lw_m15 199 rfl
theorem q3636 : (Jvm.Cond.instanceMethod ({ cls := "KeptLightModel", name := "held", desc := "()I" } : Jvm.MethodName)) ∈ lw_all := lw_g (lw_at lw_m15 200 rfl) rfl
theorem q3637 : (Jvm.Cond.code ({ cls := "KeptLightModel", name := "held", desc := "()I" } : Jvm.MethodName) prog_34_method_76_code (3 : Nat) (Option.some Jvm.ClassFile.FieldType.int)) ∈ lw_all := lw_g (lw_at lw_m15 201 rfl) rfl
theorem q3705 : (Jvm.Cond.castable "KeptLightModel" "java/lang/Object") ∈ lw_tbl := lw_at lw_m16 29 rfl
theorem in_X9 : ∀ w ∈ wsX90, w ∈ lw_all := lw_in wsX90 [3273, 3275, 3277, 3279, 3281, 3283, 3285, 3287, 3289, 3291, 3293, 3295, 3297, 3299, 3301, 3303, 3305, 3307, 3309, 3311, 3313] (by decide +kernel) (by decide +kernel)
/-! the law's own entry -/
set_option maxRecDepth 100000
abbrev cL_law : ByteArray := code
def dkwL_law_52 : List UInt8 := [4, 96, 46, 182, 0, 185, 159, 0, 5, 3, 172, 132, 3, 6, 167, 250, 175, 4, 172]
abbrev dktL_law_52 : List UInt8 := dkwL_law_52 ++ []
def dkwL_law_51 : List UInt8 := [182, 0, 178, 44, 182, 0, 181, 159, 0, 28, 3, 172, 43, 42, 29, 4, 96, 46, 182, 0, 182, 44, 42, 29]
abbrev dktL_law_51 : List UInt8 := dkwL_law_51 ++ dktL_law_52
def dkwL_law_50 : List UInt8 := [182, 0, 173, 159, 0, 54, 3, 172, 43, 182, 0, 174, 44, 182, 0, 177, 159, 0, 41, 3, 172, 43]
abbrev dktL_law_50 : List UInt8 := dkwL_law_50 ++ dktL_law_51
def dkwL_law_49 : List UInt8 := [182, 0, 169, 159, 0, 77, 3, 172, 43, 42, 29, 4, 96, 46, 182, 0, 170, 44, 42, 29, 4, 96, 46]
abbrev dktL_law_49 : List UInt8 := dkwL_law_49 ++ dktL_law_50
def dkwL_law_48 : List UInt8 := [182, 0, 165, 159, 0, 100, 3, 172, 43, 42, 29, 4, 96, 46, 182, 0, 166, 44, 42, 29, 4, 96, 46]
abbrev dktL_law_48 : List UInt8 := dkwL_law_48 ++ dktL_law_49
def dkwL_law_47 : List UInt8 := [42, 29, 6, 96, 46, 182, 0, 162, 44, 42, 29, 4, 96, 46, 42, 29, 5, 96, 46, 42, 29, 6, 96, 46]
abbrev dktL_law_47 : List UInt8 := dkwL_law_47 ++ dktL_law_48
def dkwL_law_46 : List UInt8 := [42, 29, 4, 96, 46, 182, 0, 161, 159, 0, 143, 3, 172, 43, 42, 29, 4, 96, 46, 42, 29, 5, 96, 46]
abbrev dktL_law_46 : List UInt8 := dkwL_law_46 ++ dktL_law_47
def dkwL_law_45 : List UInt8 := [46, 42, 29, 5, 96, 46, 182, 0, 157, 159, 0, 166, 3, 172, 43, 42, 29, 4, 96, 46, 182, 0, 158, 44]
abbrev dktL_law_45 : List UInt8 := dkwL_law_45 ++ dktL_law_46
def dkwL_law_44 : List UInt8 := [159, 0, 199, 3, 172, 43, 42, 29, 4, 96, 46, 42, 29, 5, 96, 46, 182, 0, 154, 44, 42, 29, 4, 96]
abbrev dktL_law_44 : List UInt8 := dkwL_law_44 ++ dktL_law_45
def dkwL_law_43 : List UInt8 := [96, 46, 42, 29, 5, 96, 46, 182, 0, 150, 44, 42, 29, 4, 96, 46, 42, 29, 5, 96, 46, 182, 0, 153]
abbrev dktL_law_43 : List UInt8 := dkwL_law_43 ++ dktL_law_44
def dkwL_law_42 : List UInt8 := [4, 96, 46, 182, 0, 146, 44, 42, 29, 4, 96, 46, 182, 0, 149, 159, 0, 232, 3, 172, 43, 42, 29, 4]
abbrev dktL_law_42 : List UInt8 := dkwL_law_42 ++ dktL_law_43
def dkwL_law_41 : List UInt8 := [182, 0, 141, 159, 1, 12, 3, 172, 43, 182, 0, 142, 44, 182, 0, 145, 159, 0, 255, 3, 172, 43, 42, 29]
abbrev dktL_law_41 : List UInt8 := dkwL_law_41 ++ dktL_law_42
def dkwL_law_40 : List UInt8 := [29, 4, 96, 46, 42, 29, 5, 96, 46, 182, 0, 137, 159, 1, 25, 3, 172, 43, 182, 0, 138, 44]
abbrev dktL_law_40 : List UInt8 := dkwL_law_40 ++ dktL_law_41
def dkwL_law_39 : List UInt8 := [182, 0, 133, 159, 1, 58, 3, 172, 43, 42, 29, 4, 96, 46, 42, 29, 5, 96, 46, 182, 0, 134, 44, 42]
abbrev dktL_law_39 : List UInt8 := dkwL_law_39 ++ dktL_law_40
def dkwL_law_38 : List UInt8 := [182, 0, 126, 44, 42, 29, 4, 96, 46, 182, 0, 129, 159, 1, 71, 3, 172, 43, 182, 0, 130, 44]
abbrev dktL_law_38 : List UInt8 := dkwL_law_38 ++ dktL_law_39
def dkwL_law_37 : List UInt8 := [29, 4, 96, 46, 42, 29, 5, 96, 46, 182, 0, 125, 159, 1, 94, 3, 172, 43, 42, 29, 4, 96, 46]
abbrev dktL_law_37 : List UInt8 := dkwL_law_37 ++ dktL_law_38
def dkwL_law_36 : List UInt8 := [182, 0, 121, 159, 1, 127, 3, 172, 43, 42, 29, 4, 96, 46, 42, 29, 5, 96, 46, 182, 0, 122, 44, 42]
abbrev dktL_law_36 : List UInt8 := dkwL_law_36 ++ dktL_law_37
def dkwL_law_35 : List UInt8 := [182, 0, 117, 159, 1, 150, 3, 172, 43, 42, 29, 4, 96, 46, 182, 0, 118, 44, 42, 29, 4, 96, 46]
abbrev dktL_law_35 : List UInt8 := dkwL_law_35 ++ dktL_law_36
def dkwL_law_34 : List UInt8 := [29, 4, 96, 46, 42, 29, 5, 96, 46, 182, 0, 114, 44, 42, 29, 4, 96, 46, 42, 29, 5, 96, 46]
abbrev dktL_law_34 : List UInt8 := dkwL_law_34 ++ dktL_law_35
def dkwL_law_33 : List UInt8 := [182, 0, 110, 44, 42, 29, 4, 96, 46, 42, 29, 5, 96, 46, 182, 0, 113, 159, 1, 183, 3, 172, 43, 42]
abbrev dktL_law_33 : List UInt8 := dkwL_law_33 ++ dktL_law_34
def dkwL_law_32 : List UInt8 := [5, 96, 46, 182, 0, 109, 159, 1, 216, 3, 172, 43, 42, 29, 4, 96, 46, 42, 29, 5, 96, 46]
abbrev dktL_law_32 : List UInt8 := dkwL_law_32 ++ dktL_law_33
def dkwL_law_31 : List UInt8 := [3, 172, 43, 42, 29, 4, 96, 46, 42, 29, 5, 96, 46, 182, 0, 106, 44, 42, 29, 4, 96, 46, 42, 29]
abbrev dktL_law_31 : List UInt8 := dkwL_law_31 ++ dktL_law_32
def dkwL_law_30 : List UInt8 := [29, 5, 96, 46, 182, 0, 102, 44, 42, 29, 4, 96, 46, 42, 29, 5, 96, 46, 182, 0, 105, 159, 1, 249]
abbrev dktL_law_30 : List UInt8 := dkwL_law_30 ++ dktL_law_31
def dkwL_law_29 : List UInt8 := [29, 4, 96, 46, 42, 29, 5, 96, 46, 182, 0, 101, 159, 2, 26, 3, 172, 43, 42, 29, 4, 96, 46, 42]
abbrev dktL_law_29 : List UInt8 := dkwL_law_29 ++ dktL_law_30
def dkwL_law_28 : List UInt8 := [182, 0, 97, 159, 2, 59, 3, 172, 43, 42, 29, 4, 96, 46, 42, 29, 5, 96, 46, 182, 0, 98, 44, 42]
abbrev dktL_law_28 : List UInt8 := dkwL_law_28 ++ dktL_law_29
def dkwL_law_27 : List UInt8 := [182, 0, 93, 159, 2, 82, 3, 172, 43, 42, 29, 4, 96, 46, 182, 0, 94, 44, 42, 29, 4, 96, 46]
abbrev dktL_law_27 : List UInt8 := dkwL_law_27 ++ dktL_law_28
def dkwL_law_26 : List UInt8 := [182, 0, 89, 159, 2, 105, 3, 172, 43, 42, 29, 4, 96, 46, 182, 0, 90, 44, 42, 29, 4, 96, 46]
abbrev dktL_law_26 : List UInt8 := dkwL_law_26 ++ dktL_law_27
def dkwL_law_25 : List UInt8 := [182, 0, 85, 159, 2, 128, 3, 172, 43, 42, 29, 4, 96, 46, 182, 0, 86, 44, 42, 29, 4, 96, 46]
abbrev dktL_law_25 : List UInt8 := dkwL_law_25 ++ dktL_law_26
def dkwL_law_24 : List UInt8 := [42, 29, 4, 96, 46, 42, 29, 5, 96, 46, 182, 0, 82, 44, 42, 29, 4, 96, 46, 42, 29, 5, 96, 46]
abbrev dktL_law_24 : List UInt8 := dkwL_law_24 ++ dktL_law_25
def dkwL_law_23 : List UInt8 := [46, 182, 0, 78, 44, 42, 29, 4, 96, 46, 42, 29, 5, 96, 46, 182, 0, 81, 159, 2, 161, 3, 172, 43]
abbrev dktL_law_23 : List UInt8 := dkwL_law_23 ++ dktL_law_24
def dkwL_law_22 : List UInt8 := [46, 42, 29, 5, 96, 46, 182, 0, 77, 159, 2, 194, 3, 172, 43, 42, 29, 4, 96, 46, 42, 29, 5, 96]
abbrev dktL_law_22 : List UInt8 := dkwL_law_22 ++ dktL_law_23
def dkwL_law_21 : List UInt8 := [159, 2, 227, 3, 172, 43, 42, 29, 4, 96, 46, 42, 29, 5, 96, 46, 182, 0, 74, 44, 42, 29, 4, 96]
abbrev dktL_law_21 : List UInt8 := dkwL_law_21 ++ dktL_law_22
def dkwL_law_20 : List UInt8 := [159, 2, 250, 3, 172, 43, 42, 29, 4, 96, 46, 182, 0, 70, 44, 42, 29, 4, 96, 46, 182, 0, 73]
abbrev dktL_law_20 : List UInt8 := dkwL_law_20 ++ dktL_law_21
def dkwL_law_19 : List UInt8 := [96, 46, 42, 29, 5, 96, 46, 182, 0, 66, 44, 42, 29, 4, 96, 46, 42, 29, 5, 96, 46, 182, 0, 69]
abbrev dktL_law_19 : List UInt8 := dkwL_law_19 ++ dktL_law_20
def dkwL_law_18 : List UInt8 := [4, 96, 46, 182, 0, 62, 44, 42, 29, 4, 96, 46, 182, 0, 65, 159, 3, 27, 3, 172, 43, 42, 29, 4]
abbrev dktL_law_18 : List UInt8 := dkwL_law_18 ++ dktL_law_19
def dkwL_law_17 : List UInt8 := [182, 0, 57, 159, 3, 63, 3, 172, 43, 182, 0, 58, 44, 182, 0, 61, 159, 3, 50, 3, 172, 43, 42, 29]
abbrev dktL_law_17 : List UInt8 := dkwL_law_17 ++ dktL_law_18
def dkwL_law_16 : List UInt8 := [182, 0, 49, 44, 42, 29, 4, 96, 46, 182, 0, 52, 159, 3, 76, 3, 172, 43, 182, 0, 53, 44]
abbrev dktL_law_16 : List UInt8 := dkwL_law_16 ++ dktL_law_17
def dkwL_law_15 : List UInt8 := [29, 4, 96, 46, 42, 29, 5, 96, 46, 182, 0, 48, 159, 3, 99, 3, 172, 43, 42, 29, 4, 96, 46]
abbrev dktL_law_15 : List UInt8 := dkwL_law_15 ++ dktL_law_16
def dkwL_law_14 : List UInt8 := [182, 0, 44, 159, 3, 132, 3, 172, 43, 42, 29, 4, 96, 46, 42, 29, 5, 96, 46, 182, 0, 45, 44, 42]
abbrev dktL_law_14 : List UInt8 := dkwL_law_14 ++ dktL_law_15
def dkwL_law_13 : List UInt8 := [29, 4, 96, 46, 42, 29, 5, 96, 46, 182, 0, 40, 44, 42, 29, 4, 96, 46, 42, 29, 5, 96, 46]
abbrev dktL_law_13 : List UInt8 := dkwL_law_13 ++ dktL_law_14
def dkwL_law_12 : List UInt8 := [42, 29, 4, 96, 46, 182, 0, 35, 44, 42, 29, 4, 96, 46, 182, 0, 39, 159, 3, 165, 3, 172, 43, 42]
abbrev dktL_law_12 : List UInt8 := dkwL_law_12 ++ dktL_law_13
def dkwL_law_11 : List UInt8 := [182, 0, 30, 44, 42, 29, 4, 96, 46, 42, 29, 5, 96, 46, 182, 0, 34, 148, 153, 3, 188, 3, 172, 43]
abbrev dktL_law_11 : List UInt8 := dkwL_law_11 ++ dktL_law_12
def dkwL_law_10 : List UInt8 := [42, 29, 8, 96, 46, 182, 0, 29, 159, 3, 222, 3, 172, 43, 42, 29, 4, 96, 46, 42, 29, 5, 96, 46]
abbrev dktL_law_10 : List UInt8 := dkwL_law_10 ++ dktL_law_11
def dkwL_law_9 : List UInt8 := [182, 0, 25, 44, 42, 29, 4, 96, 46, 42, 29, 5, 96, 46, 42, 29, 6, 96, 46, 42, 29, 7, 96, 46]
abbrev dktL_law_9 : List UInt8 := dkwL_law_9 ++ dktL_law_10
def dkwL_law_8 : List UInt8 := [96, 46, 42, 29, 5, 96, 46, 42, 29, 6, 96, 46, 42, 29, 7, 96, 46, 42, 29, 8, 96, 46]
abbrev dktL_law_8 : List UInt8 := dkwL_law_8 ++ dktL_law_9
def dkwL_law_7 : List UInt8 := [121, 42, 29, 7, 96, 46, 133, 20, 0, 18, 127, 129, 182, 0, 24, 159, 4, 29, 3, 172, 43, 42, 29, 4]
abbrev dktL_law_7 : List UInt8 := dkwL_law_7 ++ dktL_law_8
def dkwL_law_6 : List UInt8 := [127, 129, 182, 0, 20, 44, 42, 29, 4, 96, 46, 42, 29, 5, 96, 46, 42, 29, 6, 96, 46, 133, 16, 32]
abbrev dktL_law_6 : List UInt8 := dkwL_law_6 ++ dktL_law_7
def dkwL_law_5 : List UInt8 := [46, 42, 29, 5, 96, 46, 42, 29, 6, 96, 46, 133, 16, 32, 121, 42, 29, 7, 96, 46, 133, 20, 0, 18]
abbrev dktL_law_5 : List UInt8 := dkwL_law_5 ++ dktL_law_6
def dkwL_law_4 : List UInt8 := [46, 42, 29, 5, 96, 46, 42, 29, 6, 96, 46, 182, 0, 17, 159, 4, 102, 3, 172, 43, 42, 29, 4, 96]
abbrev dktL_law_4 : List UInt8 := dkwL_law_4 ++ dktL_law_5
def dkwL_law_3 : List UInt8 := [43, 42, 29, 4, 96, 46, 42, 29, 5, 96, 46, 42, 29, 6, 96, 46, 182, 0, 13, 44, 42, 29, 4, 96]
abbrev dktL_law_3 : List UInt8 := dkwL_law_3 ++ dktL_law_4
def dkwL_law_2 : List UInt8 := [170, 0, 0, 0, 0, 5, 63, 0, 0, 0, 0, 0, 0, 0, 40, 0, 0, 0, 179, 0, 0, 0, 222, 0, 0, 1, 39, 0, 0, 1, 102, 0, 0, 1, 136, 0, 0, 1, 159, 0, 0, 1, 192, 0, 0, 1, 225, 0, 0, 1, 248, 0, 0, 2, 5, 0, 0, 2, 18, 0, 0, 2, 41, 0, 0, 2, 74, 0, 0, 2, 97, 0, 0, 2, 130, 0, 0, 2, 163, 0, 0, 2, 196, 0, 0, 2, 219, 0, 0, 2, 242, 0, 0, 3, 9, 0, 0, 3, 42, 0, 0, 3, 75, 0, 0, 3, 108, 0, 0, 3, 141, 0, 0, 3, 174, 0, 0, 3, 197, 0, 0, 3, 230, 0, 0, 3, 253, 0, 0, 4, 10, 0, 0, 4, 43, 0, 0, 4, 56, 0, 0, 4, 69, 0, 0, 4, 92, 0, 0, 4, 125, 0, 0, 4, 158, 0, 0, 4, 181, 0, 0, 4, 224, 0, 0, 4, 247, 0, 0, 5, 14, 0, 0, 5, 27, 0, 0, 5, 40]
abbrev dktL_law_2 : List UInt8 := dkwL_law_2 ++ dktL_law_3
def dkwL_law_1 : List UInt8 := [163, 5, 78, 42, 29, 46, 16, 63, 126]
abbrev dktL_law_1 : List UInt8 := dkwL_law_1 ++ dktL_law_2
def dkwL_law_0 : List UInt8 := [187, 0, 7, 89, 183, 0, 9, 76, 187, 0, 10, 89, 183, 0, 12, 77, 3, 62, 29, 42, 190, 16, 6, 100]
abbrev dktL_law_0 : List UInt8 := dkwL_law_0 ++ dktL_law_1
theorem dksL_law_0 : cL_law.data.toList.drop 0 = dktL_law_0 := by decide +kernel
theorem dksL_law_1 : cL_law.data.toList.drop 24 = dktL_law_1 := dk_seg dksL_law_0 24 rfl rfl
theorem dksL_law_2 : cL_law.data.toList.drop 33 = dktL_law_2 := dk_seg dksL_law_1 9 rfl rfl
theorem dksL_law_3 : cL_law.data.toList.drop 212 = dktL_law_3 := dk_seg dksL_law_2 179 rfl rfl
theorem dksL_law_4 : cL_law.data.toList.drop 236 = dktL_law_4 := dk_seg dksL_law_3 24 rfl rfl
theorem dksL_law_5 : cL_law.data.toList.drop 260 = dktL_law_5 := dk_seg dksL_law_4 24 rfl rfl
theorem dksL_law_6 : cL_law.data.toList.drop 284 = dktL_law_6 := dk_seg dksL_law_5 24 rfl rfl
theorem dksL_law_7 : cL_law.data.toList.drop 308 = dktL_law_7 := dk_seg dksL_law_6 24 rfl rfl
theorem dksL_law_8 : cL_law.data.toList.drop 332 = dktL_law_8 := dk_seg dksL_law_7 24 rfl rfl
theorem dksL_law_9 : cL_law.data.toList.drop 354 = dktL_law_9 := dk_seg dksL_law_8 22 rfl rfl
theorem dksL_law_10 : cL_law.data.toList.drop 378 = dktL_law_10 := dk_seg dksL_law_9 24 rfl rfl
theorem dksL_law_11 : cL_law.data.toList.drop 402 = dktL_law_11 := dk_seg dksL_law_10 24 rfl rfl
theorem dksL_law_12 : cL_law.data.toList.drop 426 = dktL_law_12 := dk_seg dksL_law_11 24 rfl rfl
theorem dksL_law_13 : cL_law.data.toList.drop 450 = dktL_law_13 := dk_seg dksL_law_12 24 rfl rfl
theorem dksL_law_14 : cL_law.data.toList.drop 473 = dktL_law_14 := dk_seg dksL_law_13 23 rfl rfl
theorem dksL_law_15 : cL_law.data.toList.drop 497 = dktL_law_15 := dk_seg dksL_law_14 24 rfl rfl
theorem dksL_law_16 : cL_law.data.toList.drop 520 = dktL_law_16 := dk_seg dksL_law_15 23 rfl rfl
theorem dksL_law_17 : cL_law.data.toList.drop 542 = dktL_law_17 := dk_seg dksL_law_16 22 rfl rfl
theorem dksL_law_18 : cL_law.data.toList.drop 566 = dktL_law_18 := dk_seg dksL_law_17 24 rfl rfl
theorem dksL_law_19 : cL_law.data.toList.drop 590 = dktL_law_19 := dk_seg dksL_law_18 24 rfl rfl
theorem dksL_law_20 : cL_law.data.toList.drop 614 = dktL_law_20 := dk_seg dksL_law_19 24 rfl rfl
theorem dksL_law_21 : cL_law.data.toList.drop 637 = dktL_law_21 := dk_seg dksL_law_20 23 rfl rfl
theorem dksL_law_22 : cL_law.data.toList.drop 661 = dktL_law_22 := dk_seg dksL_law_21 24 rfl rfl
theorem dksL_law_23 : cL_law.data.toList.drop 685 = dktL_law_23 := dk_seg dksL_law_22 24 rfl rfl
theorem dksL_law_24 : cL_law.data.toList.drop 709 = dktL_law_24 := dk_seg dksL_law_23 24 rfl rfl
theorem dksL_law_25 : cL_law.data.toList.drop 733 = dktL_law_25 := dk_seg dksL_law_24 24 rfl rfl
theorem dksL_law_26 : cL_law.data.toList.drop 756 = dktL_law_26 := dk_seg dksL_law_25 23 rfl rfl
theorem dksL_law_27 : cL_law.data.toList.drop 779 = dktL_law_27 := dk_seg dksL_law_26 23 rfl rfl
theorem dksL_law_28 : cL_law.data.toList.drop 802 = dktL_law_28 := dk_seg dksL_law_27 23 rfl rfl
theorem dksL_law_29 : cL_law.data.toList.drop 826 = dktL_law_29 := dk_seg dksL_law_28 24 rfl rfl
theorem dksL_law_30 : cL_law.data.toList.drop 850 = dktL_law_30 := dk_seg dksL_law_29 24 rfl rfl
theorem dksL_law_31 : cL_law.data.toList.drop 874 = dktL_law_31 := dk_seg dksL_law_30 24 rfl rfl
theorem dksL_law_32 : cL_law.data.toList.drop 898 = dktL_law_32 := dk_seg dksL_law_31 24 rfl rfl
theorem dksL_law_33 : cL_law.data.toList.drop 920 = dktL_law_33 := dk_seg dksL_law_32 22 rfl rfl
theorem dksL_law_34 : cL_law.data.toList.drop 944 = dktL_law_34 := dk_seg dksL_law_33 24 rfl rfl
theorem dksL_law_35 : cL_law.data.toList.drop 967 = dktL_law_35 := dk_seg dksL_law_34 23 rfl rfl
theorem dksL_law_36 : cL_law.data.toList.drop 990 = dktL_law_36 := dk_seg dksL_law_35 23 rfl rfl
theorem dksL_law_37 : cL_law.data.toList.drop 1014 = dktL_law_37 := dk_seg dksL_law_36 24 rfl rfl
theorem dksL_law_38 : cL_law.data.toList.drop 1037 = dktL_law_38 := dk_seg dksL_law_37 23 rfl rfl
theorem dksL_law_39 : cL_law.data.toList.drop 1059 = dktL_law_39 := dk_seg dksL_law_38 22 rfl rfl
theorem dksL_law_40 : cL_law.data.toList.drop 1083 = dktL_law_40 := dk_seg dksL_law_39 24 rfl rfl
theorem dksL_law_41 : cL_law.data.toList.drop 1105 = dktL_law_41 := dk_seg dksL_law_40 22 rfl rfl
theorem dksL_law_42 : cL_law.data.toList.drop 1129 = dktL_law_42 := dk_seg dksL_law_41 24 rfl rfl
theorem dksL_law_43 : cL_law.data.toList.drop 1153 = dktL_law_43 := dk_seg dksL_law_42 24 rfl rfl
theorem dksL_law_44 : cL_law.data.toList.drop 1177 = dktL_law_44 := dk_seg dksL_law_43 24 rfl rfl
theorem dksL_law_45 : cL_law.data.toList.drop 1201 = dktL_law_45 := dk_seg dksL_law_44 24 rfl rfl
theorem dksL_law_46 : cL_law.data.toList.drop 1225 = dktL_law_46 := dk_seg dksL_law_45 24 rfl rfl
theorem dksL_law_47 : cL_law.data.toList.drop 1249 = dktL_law_47 := dk_seg dksL_law_46 24 rfl rfl
theorem dksL_law_48 : cL_law.data.toList.drop 1273 = dktL_law_48 := dk_seg dksL_law_47 24 rfl rfl
theorem dksL_law_49 : cL_law.data.toList.drop 1296 = dktL_law_49 := dk_seg dksL_law_48 23 rfl rfl
theorem dksL_law_50 : cL_law.data.toList.drop 1319 = dktL_law_50 := dk_seg dksL_law_49 23 rfl rfl
theorem dksL_law_51 : cL_law.data.toList.drop 1341 = dktL_law_51 := dk_seg dksL_law_50 22 rfl rfl
theorem dksL_law_52 : cL_law.data.toList.drop 1365 = dktL_law_52 := dk_seg dksL_law_51 24 rfl rfl
theorem dL_law_0 : decode cL_law 0 = .ok (.new 7, 3) := dk_187 0 7 (dk_at dksL_law_0 0 rfl rfl)
theorem dL_law_3 : decode cL_law 3 = .ok (.dup, 1) := dk_89 (dk_at dksL_law_0 3 rfl rfl)
theorem dL_law_4 : decode cL_law 4 = .ok (.invokespecial 9, 3) := dk_183 0 9 (dk_at dksL_law_0 4 rfl rfl)
theorem dL_law_7 : decode cL_law 7 = .ok (.astore_n 1, 1) := dk_76 (dk_at dksL_law_0 7 rfl rfl)
theorem dL_law_8 : decode cL_law 8 = .ok (.new 10, 3) := dk_187 0 10 (dk_at dksL_law_0 8 rfl rfl)
theorem dL_law_11 : decode cL_law 11 = .ok (.dup, 1) := dk_89 (dk_at dksL_law_0 11 rfl rfl)
theorem dL_law_12 : decode cL_law 12 = .ok (.invokespecial 12, 3) := dk_183 0 12 (dk_at dksL_law_0 12 rfl rfl)
theorem dL_law_15 : decode cL_law 15 = .ok (.astore_n 2, 1) := dk_77 (dk_at dksL_law_0 15 rfl rfl)
theorem dL_law_16 : decode cL_law 16 = .ok (.iconst 0, 1) := dk_3 (dk_at dksL_law_0 16 rfl rfl)
theorem dL_law_17 : decode cL_law 17 = .ok (.istore_n 3, 1) := dk_62 (dk_at dksL_law_0 17 rfl rfl)
theorem dL_law_18 : decode cL_law 18 = .ok (.iload_n 3, 1) := dk_29 (dk_at dksL_law_0 18 rfl rfl)
theorem dL_law_19 : decode cL_law 19 = .ok (.aload_n 0, 1) := dk_42 (dk_at dksL_law_0 19 rfl rfl)
theorem dL_law_20 : decode cL_law 20 = .ok (.arraylength, 1) := dk_190 (dk_at dksL_law_0 20 rfl rfl)
theorem dL_law_21 : decode cL_law 21 = .ok (.bipush 6, 2) := dk_16 6 (dk_at dksL_law_0 21 rfl rfl)
theorem dL_law_23 : decode cL_law 23 = .ok (.isub, 1) := dk_100 (dk_at dksL_law_0 23 rfl rfl)
theorem dL_law_24 : decode cL_law 24 = .ok (.if_icmp .gt 1358, 3) := dk_163 5 78 (dk_at dksL_law_1 0 rfl rfl)
theorem dL_law_27 : decode cL_law 27 = .ok (.aload_n 0, 1) := dk_42 (dk_at dksL_law_1 3 rfl rfl)
theorem dL_law_28 : decode cL_law 28 = .ok (.iload_n 3, 1) := dk_29 (dk_at dksL_law_1 4 rfl rfl)
theorem dL_law_29 : decode cL_law 29 = .ok (.iaload, 1) := dk_46 (dk_at dksL_law_1 5 rfl rfl)
theorem dL_law_30 : decode cL_law 30 = .ok (.bipush 63, 2) := dk_16 63 (dk_at dksL_law_1 6 rfl rfl)
theorem dL_law_32 : decode cL_law 32 = .ok (.iand, 1) := dk_126 (dk_at dksL_law_1 8 rfl rfl)
theorem dL_law_33 : decode cL_law 33 = .ok (.tableswitch 1343 0 40 #[179, 222, 295, 358, 392, 415, 448, 481, 504, 517, 530, 553, 586, 609, 642, 675, 708, 731, 754, 777, 810, 843, 876, 909, 942, 965, 998, 1021, 1034, 1067, 1080, 1093, 1116, 1149, 1182, 1205, 1248, 1271, 1294, 1307, 1320], 179) := by decide +kernel
theorem dL_law_212 : decode cL_law 212 = .ok (.aload_n 1, 1) := dk_43 (dk_at dksL_law_3 0 rfl rfl)
theorem dL_law_213 : decode cL_law 213 = .ok (.aload_n 0, 1) := dk_42 (dk_at dksL_law_3 1 rfl rfl)
theorem dL_law_214 : decode cL_law 214 = .ok (.iload_n 3, 1) := dk_29 (dk_at dksL_law_3 2 rfl rfl)
theorem dL_law_215 : decode cL_law 215 = .ok (.iconst 1, 1) := dk_4 (dk_at dksL_law_3 3 rfl rfl)
theorem dL_law_216 : decode cL_law 216 = .ok (.iadd, 1) := dk_96 (dk_at dksL_law_3 4 rfl rfl)
theorem dL_law_217 : decode cL_law 217 = .ok (.iaload, 1) := dk_46 (dk_at dksL_law_3 5 rfl rfl)
theorem dL_law_218 : decode cL_law 218 = .ok (.aload_n 0, 1) := dk_42 (dk_at dksL_law_3 6 rfl rfl)
theorem dL_law_219 : decode cL_law 219 = .ok (.iload_n 3, 1) := dk_29 (dk_at dksL_law_3 7 rfl rfl)
theorem dL_law_220 : decode cL_law 220 = .ok (.iconst 2, 1) := dk_5 (dk_at dksL_law_3 8 rfl rfl)
theorem dL_law_221 : decode cL_law 221 = .ok (.iadd, 1) := dk_96 (dk_at dksL_law_3 9 rfl rfl)
theorem dL_law_222 : decode cL_law 222 = .ok (.iaload, 1) := dk_46 (dk_at dksL_law_3 10 rfl rfl)
theorem dL_law_223 : decode cL_law 223 = .ok (.aload_n 0, 1) := dk_42 (dk_at dksL_law_3 11 rfl rfl)
theorem dL_law_224 : decode cL_law 224 = .ok (.iload_n 3, 1) := dk_29 (dk_at dksL_law_3 12 rfl rfl)
theorem dL_law_225 : decode cL_law 225 = .ok (.iconst 3, 1) := dk_6 (dk_at dksL_law_3 13 rfl rfl)
theorem dL_law_226 : decode cL_law 226 = .ok (.iadd, 1) := dk_96 (dk_at dksL_law_3 14 rfl rfl)
theorem dL_law_227 : decode cL_law 227 = .ok (.iaload, 1) := dk_46 (dk_at dksL_law_3 15 rfl rfl)
theorem dL_law_228 : decode cL_law 228 = .ok (.invokevirtual 13, 3) := dk_182 0 13 (dk_at dksL_law_3 16 rfl rfl)
theorem dL_law_231 : decode cL_law 231 = .ok (.aload_n 2, 1) := dk_44 (dk_at dksL_law_3 19 rfl rfl)
theorem dL_law_232 : decode cL_law 232 = .ok (.aload_n 0, 1) := dk_42 (dk_at dksL_law_3 20 rfl rfl)
theorem dL_law_233 : decode cL_law 233 = .ok (.iload_n 3, 1) := dk_29 (dk_at dksL_law_3 21 rfl rfl)
theorem dL_law_234 : decode cL_law 234 = .ok (.iconst 1, 1) := dk_4 (dk_at dksL_law_3 22 rfl rfl)
theorem dL_law_235 : decode cL_law 235 = .ok (.iadd, 1) := dk_96 (dk_at dksL_law_3 23 rfl rfl)
theorem dL_law_236 : decode cL_law 236 = .ok (.iaload, 1) := dk_46 (dk_at dksL_law_4 0 rfl rfl)
theorem dL_law_237 : decode cL_law 237 = .ok (.aload_n 0, 1) := dk_42 (dk_at dksL_law_4 1 rfl rfl)
theorem dL_law_238 : decode cL_law 238 = .ok (.iload_n 3, 1) := dk_29 (dk_at dksL_law_4 2 rfl rfl)
theorem dL_law_239 : decode cL_law 239 = .ok (.iconst 2, 1) := dk_5 (dk_at dksL_law_4 3 rfl rfl)
theorem dL_law_240 : decode cL_law 240 = .ok (.iadd, 1) := dk_96 (dk_at dksL_law_4 4 rfl rfl)
theorem dL_law_241 : decode cL_law 241 = .ok (.iaload, 1) := dk_46 (dk_at dksL_law_4 5 rfl rfl)
theorem dL_law_242 : decode cL_law 242 = .ok (.aload_n 0, 1) := dk_42 (dk_at dksL_law_4 6 rfl rfl)
theorem dL_law_243 : decode cL_law 243 = .ok (.iload_n 3, 1) := dk_29 (dk_at dksL_law_4 7 rfl rfl)
theorem dL_law_244 : decode cL_law 244 = .ok (.iconst 3, 1) := dk_6 (dk_at dksL_law_4 8 rfl rfl)
theorem dL_law_245 : decode cL_law 245 = .ok (.iadd, 1) := dk_96 (dk_at dksL_law_4 9 rfl rfl)
theorem dL_law_246 : decode cL_law 246 = .ok (.iaload, 1) := dk_46 (dk_at dksL_law_4 10 rfl rfl)
theorem dL_law_247 : decode cL_law 247 = .ok (.invokevirtual 17, 3) := dk_182 0 17 (dk_at dksL_law_4 11 rfl rfl)
theorem dL_law_250 : decode cL_law 250 = .ok (.if_icmp .eq 1126, 3) := dk_159 4 102 (dk_at dksL_law_4 14 rfl rfl)
theorem dL_law_253 : decode cL_law 253 = .ok (.iconst 0, 1) := dk_3 (dk_at dksL_law_4 17 rfl rfl)
theorem dL_law_254 : decode cL_law 254 = .ok (.ireturn, 1) := dk_172 (dk_at dksL_law_4 18 rfl rfl)
theorem dL_law_255 : decode cL_law 255 = .ok (.aload_n 1, 1) := dk_43 (dk_at dksL_law_4 19 rfl rfl)
theorem dL_law_256 : decode cL_law 256 = .ok (.aload_n 0, 1) := dk_42 (dk_at dksL_law_4 20 rfl rfl)
theorem dL_law_257 : decode cL_law 257 = .ok (.iload_n 3, 1) := dk_29 (dk_at dksL_law_4 21 rfl rfl)
theorem dL_law_258 : decode cL_law 258 = .ok (.iconst 1, 1) := dk_4 (dk_at dksL_law_4 22 rfl rfl)
theorem dL_law_259 : decode cL_law 259 = .ok (.iadd, 1) := dk_96 (dk_at dksL_law_4 23 rfl rfl)
theorem dL_law_260 : decode cL_law 260 = .ok (.iaload, 1) := dk_46 (dk_at dksL_law_5 0 rfl rfl)
theorem dL_law_261 : decode cL_law 261 = .ok (.aload_n 0, 1) := dk_42 (dk_at dksL_law_5 1 rfl rfl)
theorem dL_law_262 : decode cL_law 262 = .ok (.iload_n 3, 1) := dk_29 (dk_at dksL_law_5 2 rfl rfl)
theorem dL_law_263 : decode cL_law 263 = .ok (.iconst 2, 1) := dk_5 (dk_at dksL_law_5 3 rfl rfl)
theorem dL_law_264 : decode cL_law 264 = .ok (.iadd, 1) := dk_96 (dk_at dksL_law_5 4 rfl rfl)
theorem dL_law_265 : decode cL_law 265 = .ok (.iaload, 1) := dk_46 (dk_at dksL_law_5 5 rfl rfl)
theorem dL_law_266 : decode cL_law 266 = .ok (.aload_n 0, 1) := dk_42 (dk_at dksL_law_5 6 rfl rfl)
theorem dL_law_267 : decode cL_law 267 = .ok (.iload_n 3, 1) := dk_29 (dk_at dksL_law_5 7 rfl rfl)
theorem dL_law_268 : decode cL_law 268 = .ok (.iconst 3, 1) := dk_6 (dk_at dksL_law_5 8 rfl rfl)
theorem dL_law_269 : decode cL_law 269 = .ok (.iadd, 1) := dk_96 (dk_at dksL_law_5 9 rfl rfl)
theorem dL_law_270 : decode cL_law 270 = .ok (.iaload, 1) := dk_46 (dk_at dksL_law_5 10 rfl rfl)
theorem dL_law_271 : decode cL_law 271 = .ok (.i2l, 1) := dk_133 (dk_at dksL_law_5 11 rfl rfl)
theorem dL_law_272 : decode cL_law 272 = .ok (.bipush 32, 2) := dk_16 32 (dk_at dksL_law_5 12 rfl rfl)
theorem dL_law_274 : decode cL_law 274 = .ok (.lshl, 1) := dk_121 (dk_at dksL_law_5 14 rfl rfl)
theorem dL_law_275 : decode cL_law 275 = .ok (.aload_n 0, 1) := dk_42 (dk_at dksL_law_5 15 rfl rfl)
theorem dL_law_276 : decode cL_law 276 = .ok (.iload_n 3, 1) := dk_29 (dk_at dksL_law_5 16 rfl rfl)
theorem dL_law_277 : decode cL_law 277 = .ok (.iconst 4, 1) := dk_7 (dk_at dksL_law_5 17 rfl rfl)
theorem dL_law_278 : decode cL_law 278 = .ok (.iadd, 1) := dk_96 (dk_at dksL_law_5 18 rfl rfl)
theorem dL_law_279 : decode cL_law 279 = .ok (.iaload, 1) := dk_46 (dk_at dksL_law_5 19 rfl rfl)
theorem dL_law_280 : decode cL_law 280 = .ok (.i2l, 1) := dk_133 (dk_at dksL_law_5 20 rfl rfl)
theorem dL_law_281 : decode cL_law 281 = .ok (.ldc2_w 18, 3) := dk_20 0 18 (dk_at dksL_law_5 21 rfl rfl)
theorem dL_law_284 : decode cL_law 284 = .ok (.land, 1) := dk_127 (dk_at dksL_law_6 0 rfl rfl)
theorem dL_law_285 : decode cL_law 285 = .ok (.lor, 1) := dk_129 (dk_at dksL_law_6 1 rfl rfl)
theorem dL_law_286 : decode cL_law 286 = .ok (.invokevirtual 20, 3) := dk_182 0 20 (dk_at dksL_law_6 2 rfl rfl)
theorem dL_law_289 : decode cL_law 289 = .ok (.aload_n 2, 1) := dk_44 (dk_at dksL_law_6 5 rfl rfl)
theorem dL_law_290 : decode cL_law 290 = .ok (.aload_n 0, 1) := dk_42 (dk_at dksL_law_6 6 rfl rfl)
theorem dL_law_291 : decode cL_law 291 = .ok (.iload_n 3, 1) := dk_29 (dk_at dksL_law_6 7 rfl rfl)
theorem dL_law_292 : decode cL_law 292 = .ok (.iconst 1, 1) := dk_4 (dk_at dksL_law_6 8 rfl rfl)
theorem dL_law_293 : decode cL_law 293 = .ok (.iadd, 1) := dk_96 (dk_at dksL_law_6 9 rfl rfl)
theorem dL_law_294 : decode cL_law 294 = .ok (.iaload, 1) := dk_46 (dk_at dksL_law_6 10 rfl rfl)
theorem dL_law_295 : decode cL_law 295 = .ok (.aload_n 0, 1) := dk_42 (dk_at dksL_law_6 11 rfl rfl)
theorem dL_law_296 : decode cL_law 296 = .ok (.iload_n 3, 1) := dk_29 (dk_at dksL_law_6 12 rfl rfl)
theorem dL_law_297 : decode cL_law 297 = .ok (.iconst 2, 1) := dk_5 (dk_at dksL_law_6 13 rfl rfl)
theorem dL_law_298 : decode cL_law 298 = .ok (.iadd, 1) := dk_96 (dk_at dksL_law_6 14 rfl rfl)
theorem dL_law_299 : decode cL_law 299 = .ok (.iaload, 1) := dk_46 (dk_at dksL_law_6 15 rfl rfl)
theorem dL_law_300 : decode cL_law 300 = .ok (.aload_n 0, 1) := dk_42 (dk_at dksL_law_6 16 rfl rfl)
theorem dL_law_301 : decode cL_law 301 = .ok (.iload_n 3, 1) := dk_29 (dk_at dksL_law_6 17 rfl rfl)
theorem dL_law_302 : decode cL_law 302 = .ok (.iconst 3, 1) := dk_6 (dk_at dksL_law_6 18 rfl rfl)
theorem dL_law_303 : decode cL_law 303 = .ok (.iadd, 1) := dk_96 (dk_at dksL_law_6 19 rfl rfl)
theorem dL_law_304 : decode cL_law 304 = .ok (.iaload, 1) := dk_46 (dk_at dksL_law_6 20 rfl rfl)
theorem dL_law_305 : decode cL_law 305 = .ok (.i2l, 1) := dk_133 (dk_at dksL_law_6 21 rfl rfl)
theorem dL_law_306 : decode cL_law 306 = .ok (.bipush 32, 2) := dk_16 32 (dk_at dksL_law_6 22 rfl rfl)
theorem dL_law_308 : decode cL_law 308 = .ok (.lshl, 1) := dk_121 (dk_at dksL_law_7 0 rfl rfl)
theorem dL_law_309 : decode cL_law 309 = .ok (.aload_n 0, 1) := dk_42 (dk_at dksL_law_7 1 rfl rfl)
theorem dL_law_310 : decode cL_law 310 = .ok (.iload_n 3, 1) := dk_29 (dk_at dksL_law_7 2 rfl rfl)
theorem dL_law_311 : decode cL_law 311 = .ok (.iconst 4, 1) := dk_7 (dk_at dksL_law_7 3 rfl rfl)
theorem dL_law_312 : decode cL_law 312 = .ok (.iadd, 1) := dk_96 (dk_at dksL_law_7 4 rfl rfl)
theorem dL_law_313 : decode cL_law 313 = .ok (.iaload, 1) := dk_46 (dk_at dksL_law_7 5 rfl rfl)
theorem dL_law_314 : decode cL_law 314 = .ok (.i2l, 1) := dk_133 (dk_at dksL_law_7 6 rfl rfl)
theorem dL_law_315 : decode cL_law 315 = .ok (.ldc2_w 18, 3) := dk_20 0 18 (dk_at dksL_law_7 7 rfl rfl)
theorem dL_law_318 : decode cL_law 318 = .ok (.land, 1) := dk_127 (dk_at dksL_law_7 10 rfl rfl)
theorem dL_law_319 : decode cL_law 319 = .ok (.lor, 1) := dk_129 (dk_at dksL_law_7 11 rfl rfl)
theorem dL_law_320 : decode cL_law 320 = .ok (.invokevirtual 24, 3) := dk_182 0 24 (dk_at dksL_law_7 12 rfl rfl)
theorem dL_law_323 : decode cL_law 323 = .ok (.if_icmp .eq 1053, 3) := dk_159 4 29 (dk_at dksL_law_7 15 rfl rfl)
theorem dL_law_326 : decode cL_law 326 = .ok (.iconst 0, 1) := dk_3 (dk_at dksL_law_7 18 rfl rfl)
theorem dL_law_327 : decode cL_law 327 = .ok (.ireturn, 1) := dk_172 (dk_at dksL_law_7 19 rfl rfl)
theorem dL_law_328 : decode cL_law 328 = .ok (.aload_n 1, 1) := dk_43 (dk_at dksL_law_7 20 rfl rfl)
theorem dL_law_329 : decode cL_law 329 = .ok (.aload_n 0, 1) := dk_42 (dk_at dksL_law_7 21 rfl rfl)
theorem dL_law_330 : decode cL_law 330 = .ok (.iload_n 3, 1) := dk_29 (dk_at dksL_law_7 22 rfl rfl)
theorem dL_law_331 : decode cL_law 331 = .ok (.iconst 1, 1) := dk_4 (dk_at dksL_law_7 23 rfl rfl)
theorem dL_law_332 : decode cL_law 332 = .ok (.iadd, 1) := dk_96 (dk_at dksL_law_8 0 rfl rfl)
theorem dL_law_333 : decode cL_law 333 = .ok (.iaload, 1) := dk_46 (dk_at dksL_law_8 1 rfl rfl)
theorem dL_law_334 : decode cL_law 334 = .ok (.aload_n 0, 1) := dk_42 (dk_at dksL_law_8 2 rfl rfl)
theorem dL_law_335 : decode cL_law 335 = .ok (.iload_n 3, 1) := dk_29 (dk_at dksL_law_8 3 rfl rfl)
theorem dL_law_336 : decode cL_law 336 = .ok (.iconst 2, 1) := dk_5 (dk_at dksL_law_8 4 rfl rfl)
theorem dL_law_337 : decode cL_law 337 = .ok (.iadd, 1) := dk_96 (dk_at dksL_law_8 5 rfl rfl)
theorem dL_law_338 : decode cL_law 338 = .ok (.iaload, 1) := dk_46 (dk_at dksL_law_8 6 rfl rfl)
theorem dL_law_339 : decode cL_law 339 = .ok (.aload_n 0, 1) := dk_42 (dk_at dksL_law_8 7 rfl rfl)
theorem dL_law_340 : decode cL_law 340 = .ok (.iload_n 3, 1) := dk_29 (dk_at dksL_law_8 8 rfl rfl)
theorem dL_law_341 : decode cL_law 341 = .ok (.iconst 3, 1) := dk_6 (dk_at dksL_law_8 9 rfl rfl)
theorem dL_law_342 : decode cL_law 342 = .ok (.iadd, 1) := dk_96 (dk_at dksL_law_8 10 rfl rfl)
theorem dL_law_343 : decode cL_law 343 = .ok (.iaload, 1) := dk_46 (dk_at dksL_law_8 11 rfl rfl)
theorem dL_law_344 : decode cL_law 344 = .ok (.aload_n 0, 1) := dk_42 (dk_at dksL_law_8 12 rfl rfl)
theorem dL_law_345 : decode cL_law 345 = .ok (.iload_n 3, 1) := dk_29 (dk_at dksL_law_8 13 rfl rfl)
theorem dL_law_346 : decode cL_law 346 = .ok (.iconst 4, 1) := dk_7 (dk_at dksL_law_8 14 rfl rfl)
theorem dL_law_347 : decode cL_law 347 = .ok (.iadd, 1) := dk_96 (dk_at dksL_law_8 15 rfl rfl)
theorem dL_law_348 : decode cL_law 348 = .ok (.iaload, 1) := dk_46 (dk_at dksL_law_8 16 rfl rfl)
theorem dL_law_349 : decode cL_law 349 = .ok (.aload_n 0, 1) := dk_42 (dk_at dksL_law_8 17 rfl rfl)
theorem dL_law_350 : decode cL_law 350 = .ok (.iload_n 3, 1) := dk_29 (dk_at dksL_law_8 18 rfl rfl)
theorem dL_law_351 : decode cL_law 351 = .ok (.iconst 5, 1) := dk_8 (dk_at dksL_law_8 19 rfl rfl)
theorem dL_law_352 : decode cL_law 352 = .ok (.iadd, 1) := dk_96 (dk_at dksL_law_8 20 rfl rfl)
theorem dL_law_353 : decode cL_law 353 = .ok (.iaload, 1) := dk_46 (dk_at dksL_law_8 21 rfl rfl)
theorem dL_law_354 : decode cL_law 354 = .ok (.invokevirtual 25, 3) := dk_182 0 25 (dk_at dksL_law_9 0 rfl rfl)
theorem dL_law_357 : decode cL_law 357 = .ok (.aload_n 2, 1) := dk_44 (dk_at dksL_law_9 3 rfl rfl)
theorem dL_law_358 : decode cL_law 358 = .ok (.aload_n 0, 1) := dk_42 (dk_at dksL_law_9 4 rfl rfl)
theorem dL_law_359 : decode cL_law 359 = .ok (.iload_n 3, 1) := dk_29 (dk_at dksL_law_9 5 rfl rfl)
theorem dL_law_360 : decode cL_law 360 = .ok (.iconst 1, 1) := dk_4 (dk_at dksL_law_9 6 rfl rfl)
theorem dL_law_361 : decode cL_law 361 = .ok (.iadd, 1) := dk_96 (dk_at dksL_law_9 7 rfl rfl)
theorem dL_law_362 : decode cL_law 362 = .ok (.iaload, 1) := dk_46 (dk_at dksL_law_9 8 rfl rfl)
theorem dL_law_363 : decode cL_law 363 = .ok (.aload_n 0, 1) := dk_42 (dk_at dksL_law_9 9 rfl rfl)
theorem dL_law_364 : decode cL_law 364 = .ok (.iload_n 3, 1) := dk_29 (dk_at dksL_law_9 10 rfl rfl)
theorem dL_law_365 : decode cL_law 365 = .ok (.iconst 2, 1) := dk_5 (dk_at dksL_law_9 11 rfl rfl)
theorem dL_law_366 : decode cL_law 366 = .ok (.iadd, 1) := dk_96 (dk_at dksL_law_9 12 rfl rfl)
theorem dL_law_367 : decode cL_law 367 = .ok (.iaload, 1) := dk_46 (dk_at dksL_law_9 13 rfl rfl)
theorem dL_law_368 : decode cL_law 368 = .ok (.aload_n 0, 1) := dk_42 (dk_at dksL_law_9 14 rfl rfl)
theorem dL_law_369 : decode cL_law 369 = .ok (.iload_n 3, 1) := dk_29 (dk_at dksL_law_9 15 rfl rfl)
theorem dL_law_370 : decode cL_law 370 = .ok (.iconst 3, 1) := dk_6 (dk_at dksL_law_9 16 rfl rfl)
theorem dL_law_371 : decode cL_law 371 = .ok (.iadd, 1) := dk_96 (dk_at dksL_law_9 17 rfl rfl)
theorem dL_law_372 : decode cL_law 372 = .ok (.iaload, 1) := dk_46 (dk_at dksL_law_9 18 rfl rfl)
theorem dL_law_373 : decode cL_law 373 = .ok (.aload_n 0, 1) := dk_42 (dk_at dksL_law_9 19 rfl rfl)
theorem dL_law_374 : decode cL_law 374 = .ok (.iload_n 3, 1) := dk_29 (dk_at dksL_law_9 20 rfl rfl)
theorem dL_law_375 : decode cL_law 375 = .ok (.iconst 4, 1) := dk_7 (dk_at dksL_law_9 21 rfl rfl)
theorem dL_law_376 : decode cL_law 376 = .ok (.iadd, 1) := dk_96 (dk_at dksL_law_9 22 rfl rfl)
theorem dL_law_377 : decode cL_law 377 = .ok (.iaload, 1) := dk_46 (dk_at dksL_law_9 23 rfl rfl)
theorem dL_law_378 : decode cL_law 378 = .ok (.aload_n 0, 1) := dk_42 (dk_at dksL_law_10 0 rfl rfl)
theorem dL_law_379 : decode cL_law 379 = .ok (.iload_n 3, 1) := dk_29 (dk_at dksL_law_10 1 rfl rfl)
theorem dL_law_380 : decode cL_law 380 = .ok (.iconst 5, 1) := dk_8 (dk_at dksL_law_10 2 rfl rfl)
theorem dL_law_381 : decode cL_law 381 = .ok (.iadd, 1) := dk_96 (dk_at dksL_law_10 3 rfl rfl)
theorem dL_law_382 : decode cL_law 382 = .ok (.iaload, 1) := dk_46 (dk_at dksL_law_10 4 rfl rfl)
theorem dL_law_383 : decode cL_law 383 = .ok (.invokevirtual 29, 3) := dk_182 0 29 (dk_at dksL_law_10 5 rfl rfl)
theorem dL_law_386 : decode cL_law 386 = .ok (.if_icmp .eq 990, 3) := dk_159 3 222 (dk_at dksL_law_10 8 rfl rfl)
theorem dL_law_389 : decode cL_law 389 = .ok (.iconst 0, 1) := dk_3 (dk_at dksL_law_10 11 rfl rfl)
theorem dL_law_390 : decode cL_law 390 = .ok (.ireturn, 1) := dk_172 (dk_at dksL_law_10 12 rfl rfl)
theorem dL_law_391 : decode cL_law 391 = .ok (.aload_n 1, 1) := dk_43 (dk_at dksL_law_10 13 rfl rfl)
theorem dL_law_392 : decode cL_law 392 = .ok (.aload_n 0, 1) := dk_42 (dk_at dksL_law_10 14 rfl rfl)
theorem dL_law_393 : decode cL_law 393 = .ok (.iload_n 3, 1) := dk_29 (dk_at dksL_law_10 15 rfl rfl)
theorem dL_law_394 : decode cL_law 394 = .ok (.iconst 1, 1) := dk_4 (dk_at dksL_law_10 16 rfl rfl)
theorem dL_law_395 : decode cL_law 395 = .ok (.iadd, 1) := dk_96 (dk_at dksL_law_10 17 rfl rfl)
theorem dL_law_396 : decode cL_law 396 = .ok (.iaload, 1) := dk_46 (dk_at dksL_law_10 18 rfl rfl)
theorem dL_law_397 : decode cL_law 397 = .ok (.aload_n 0, 1) := dk_42 (dk_at dksL_law_10 19 rfl rfl)
theorem dL_law_398 : decode cL_law 398 = .ok (.iload_n 3, 1) := dk_29 (dk_at dksL_law_10 20 rfl rfl)
theorem dL_law_399 : decode cL_law 399 = .ok (.iconst 2, 1) := dk_5 (dk_at dksL_law_10 21 rfl rfl)
theorem dL_law_400 : decode cL_law 400 = .ok (.iadd, 1) := dk_96 (dk_at dksL_law_10 22 rfl rfl)
theorem dL_law_401 : decode cL_law 401 = .ok (.iaload, 1) := dk_46 (dk_at dksL_law_10 23 rfl rfl)
theorem dL_law_402 : decode cL_law 402 = .ok (.invokevirtual 30, 3) := dk_182 0 30 (dk_at dksL_law_11 0 rfl rfl)
theorem dL_law_405 : decode cL_law 405 = .ok (.aload_n 2, 1) := dk_44 (dk_at dksL_law_11 3 rfl rfl)
theorem dL_law_406 : decode cL_law 406 = .ok (.aload_n 0, 1) := dk_42 (dk_at dksL_law_11 4 rfl rfl)
theorem dL_law_407 : decode cL_law 407 = .ok (.iload_n 3, 1) := dk_29 (dk_at dksL_law_11 5 rfl rfl)
theorem dL_law_408 : decode cL_law 408 = .ok (.iconst 1, 1) := dk_4 (dk_at dksL_law_11 6 rfl rfl)
theorem dL_law_409 : decode cL_law 409 = .ok (.iadd, 1) := dk_96 (dk_at dksL_law_11 7 rfl rfl)
theorem dL_law_410 : decode cL_law 410 = .ok (.iaload, 1) := dk_46 (dk_at dksL_law_11 8 rfl rfl)
theorem dL_law_411 : decode cL_law 411 = .ok (.aload_n 0, 1) := dk_42 (dk_at dksL_law_11 9 rfl rfl)
theorem dL_law_412 : decode cL_law 412 = .ok (.iload_n 3, 1) := dk_29 (dk_at dksL_law_11 10 rfl rfl)
theorem dL_law_413 : decode cL_law 413 = .ok (.iconst 2, 1) := dk_5 (dk_at dksL_law_11 11 rfl rfl)
theorem dL_law_414 : decode cL_law 414 = .ok (.iadd, 1) := dk_96 (dk_at dksL_law_11 12 rfl rfl)
theorem dL_law_415 : decode cL_law 415 = .ok (.iaload, 1) := dk_46 (dk_at dksL_law_11 13 rfl rfl)
theorem dL_law_416 : decode cL_law 416 = .ok (.invokevirtual 34, 3) := dk_182 0 34 (dk_at dksL_law_11 14 rfl rfl)
theorem dL_law_419 : decode cL_law 419 = .ok (.lcmp, 1) := dk_148 (dk_at dksL_law_11 17 rfl rfl)
theorem dL_law_420 : decode cL_law 420 = .ok (.ifCond .eq 956, 3) := dk_153 3 188 (dk_at dksL_law_11 18 rfl rfl)
theorem dL_law_423 : decode cL_law 423 = .ok (.iconst 0, 1) := dk_3 (dk_at dksL_law_11 21 rfl rfl)
theorem dL_law_424 : decode cL_law 424 = .ok (.ireturn, 1) := dk_172 (dk_at dksL_law_11 22 rfl rfl)
theorem dL_law_425 : decode cL_law 425 = .ok (.aload_n 1, 1) := dk_43 (dk_at dksL_law_11 23 rfl rfl)
theorem dL_law_426 : decode cL_law 426 = .ok (.aload_n 0, 1) := dk_42 (dk_at dksL_law_12 0 rfl rfl)
theorem dL_law_427 : decode cL_law 427 = .ok (.iload_n 3, 1) := dk_29 (dk_at dksL_law_12 1 rfl rfl)
theorem dL_law_428 : decode cL_law 428 = .ok (.iconst 1, 1) := dk_4 (dk_at dksL_law_12 2 rfl rfl)
theorem dL_law_429 : decode cL_law 429 = .ok (.iadd, 1) := dk_96 (dk_at dksL_law_12 3 rfl rfl)
theorem dL_law_430 : decode cL_law 430 = .ok (.iaload, 1) := dk_46 (dk_at dksL_law_12 4 rfl rfl)
theorem dL_law_431 : decode cL_law 431 = .ok (.invokevirtual 35, 3) := dk_182 0 35 (dk_at dksL_law_12 5 rfl rfl)
theorem dL_law_434 : decode cL_law 434 = .ok (.aload_n 2, 1) := dk_44 (dk_at dksL_law_12 8 rfl rfl)
theorem dL_law_435 : decode cL_law 435 = .ok (.aload_n 0, 1) := dk_42 (dk_at dksL_law_12 9 rfl rfl)
theorem dL_law_436 : decode cL_law 436 = .ok (.iload_n 3, 1) := dk_29 (dk_at dksL_law_12 10 rfl rfl)
theorem dL_law_437 : decode cL_law 437 = .ok (.iconst 1, 1) := dk_4 (dk_at dksL_law_12 11 rfl rfl)
theorem dL_law_438 : decode cL_law 438 = .ok (.iadd, 1) := dk_96 (dk_at dksL_law_12 12 rfl rfl)
theorem dL_law_439 : decode cL_law 439 = .ok (.iaload, 1) := dk_46 (dk_at dksL_law_12 13 rfl rfl)
theorem dL_law_440 : decode cL_law 440 = .ok (.invokevirtual 39, 3) := dk_182 0 39 (dk_at dksL_law_12 14 rfl rfl)
theorem dL_law_443 : decode cL_law 443 = .ok (.if_icmp .eq 933, 3) := dk_159 3 165 (dk_at dksL_law_12 17 rfl rfl)
theorem dL_law_446 : decode cL_law 446 = .ok (.iconst 0, 1) := dk_3 (dk_at dksL_law_12 20 rfl rfl)
theorem dL_law_447 : decode cL_law 447 = .ok (.ireturn, 1) := dk_172 (dk_at dksL_law_12 21 rfl rfl)
theorem dL_law_448 : decode cL_law 448 = .ok (.aload_n 1, 1) := dk_43 (dk_at dksL_law_12 22 rfl rfl)
theorem dL_law_449 : decode cL_law 449 = .ok (.aload_n 0, 1) := dk_42 (dk_at dksL_law_12 23 rfl rfl)
theorem dL_law_450 : decode cL_law 450 = .ok (.iload_n 3, 1) := dk_29 (dk_at dksL_law_13 0 rfl rfl)
theorem dL_law_451 : decode cL_law 451 = .ok (.iconst 1, 1) := dk_4 (dk_at dksL_law_13 1 rfl rfl)
theorem dL_law_452 : decode cL_law 452 = .ok (.iadd, 1) := dk_96 (dk_at dksL_law_13 2 rfl rfl)
theorem dL_law_453 : decode cL_law 453 = .ok (.iaload, 1) := dk_46 (dk_at dksL_law_13 3 rfl rfl)
theorem dL_law_454 : decode cL_law 454 = .ok (.aload_n 0, 1) := dk_42 (dk_at dksL_law_13 4 rfl rfl)
theorem dL_law_455 : decode cL_law 455 = .ok (.iload_n 3, 1) := dk_29 (dk_at dksL_law_13 5 rfl rfl)
theorem dL_law_456 : decode cL_law 456 = .ok (.iconst 2, 1) := dk_5 (dk_at dksL_law_13 6 rfl rfl)
theorem dL_law_457 : decode cL_law 457 = .ok (.iadd, 1) := dk_96 (dk_at dksL_law_13 7 rfl rfl)
theorem dL_law_458 : decode cL_law 458 = .ok (.iaload, 1) := dk_46 (dk_at dksL_law_13 8 rfl rfl)
theorem dL_law_459 : decode cL_law 459 = .ok (.invokevirtual 40, 3) := dk_182 0 40 (dk_at dksL_law_13 9 rfl rfl)
theorem dL_law_462 : decode cL_law 462 = .ok (.aload_n 2, 1) := dk_44 (dk_at dksL_law_13 12 rfl rfl)
theorem dL_law_463 : decode cL_law 463 = .ok (.aload_n 0, 1) := dk_42 (dk_at dksL_law_13 13 rfl rfl)
theorem dL_law_464 : decode cL_law 464 = .ok (.iload_n 3, 1) := dk_29 (dk_at dksL_law_13 14 rfl rfl)
theorem dL_law_465 : decode cL_law 465 = .ok (.iconst 1, 1) := dk_4 (dk_at dksL_law_13 15 rfl rfl)
theorem dL_law_466 : decode cL_law 466 = .ok (.iadd, 1) := dk_96 (dk_at dksL_law_13 16 rfl rfl)
theorem dL_law_467 : decode cL_law 467 = .ok (.iaload, 1) := dk_46 (dk_at dksL_law_13 17 rfl rfl)
theorem dL_law_468 : decode cL_law 468 = .ok (.aload_n 0, 1) := dk_42 (dk_at dksL_law_13 18 rfl rfl)
theorem dL_law_469 : decode cL_law 469 = .ok (.iload_n 3, 1) := dk_29 (dk_at dksL_law_13 19 rfl rfl)
theorem dL_law_470 : decode cL_law 470 = .ok (.iconst 2, 1) := dk_5 (dk_at dksL_law_13 20 rfl rfl)
theorem dL_law_471 : decode cL_law 471 = .ok (.iadd, 1) := dk_96 (dk_at dksL_law_13 21 rfl rfl)
theorem dL_law_472 : decode cL_law 472 = .ok (.iaload, 1) := dk_46 (dk_at dksL_law_13 22 rfl rfl)
theorem dL_law_473 : decode cL_law 473 = .ok (.invokevirtual 44, 3) := dk_182 0 44 (dk_at dksL_law_14 0 rfl rfl)
theorem dL_law_476 : decode cL_law 476 = .ok (.if_icmp .eq 900, 3) := dk_159 3 132 (dk_at dksL_law_14 3 rfl rfl)
theorem dL_law_479 : decode cL_law 479 = .ok (.iconst 0, 1) := dk_3 (dk_at dksL_law_14 6 rfl rfl)
theorem dL_law_480 : decode cL_law 480 = .ok (.ireturn, 1) := dk_172 (dk_at dksL_law_14 7 rfl rfl)
theorem dL_law_481 : decode cL_law 481 = .ok (.aload_n 1, 1) := dk_43 (dk_at dksL_law_14 8 rfl rfl)
theorem dL_law_482 : decode cL_law 482 = .ok (.aload_n 0, 1) := dk_42 (dk_at dksL_law_14 9 rfl rfl)
theorem dL_law_483 : decode cL_law 483 = .ok (.iload_n 3, 1) := dk_29 (dk_at dksL_law_14 10 rfl rfl)
theorem dL_law_484 : decode cL_law 484 = .ok (.iconst 1, 1) := dk_4 (dk_at dksL_law_14 11 rfl rfl)
theorem dL_law_485 : decode cL_law 485 = .ok (.iadd, 1) := dk_96 (dk_at dksL_law_14 12 rfl rfl)
theorem dL_law_486 : decode cL_law 486 = .ok (.iaload, 1) := dk_46 (dk_at dksL_law_14 13 rfl rfl)
theorem dL_law_487 : decode cL_law 487 = .ok (.aload_n 0, 1) := dk_42 (dk_at dksL_law_14 14 rfl rfl)
theorem dL_law_488 : decode cL_law 488 = .ok (.iload_n 3, 1) := dk_29 (dk_at dksL_law_14 15 rfl rfl)
theorem dL_law_489 : decode cL_law 489 = .ok (.iconst 2, 1) := dk_5 (dk_at dksL_law_14 16 rfl rfl)
theorem dL_law_490 : decode cL_law 490 = .ok (.iadd, 1) := dk_96 (dk_at dksL_law_14 17 rfl rfl)
theorem dL_law_491 : decode cL_law 491 = .ok (.iaload, 1) := dk_46 (dk_at dksL_law_14 18 rfl rfl)
theorem dL_law_492 : decode cL_law 492 = .ok (.invokevirtual 45, 3) := dk_182 0 45 (dk_at dksL_law_14 19 rfl rfl)
theorem dL_law_495 : decode cL_law 495 = .ok (.aload_n 2, 1) := dk_44 (dk_at dksL_law_14 22 rfl rfl)
theorem dL_law_496 : decode cL_law 496 = .ok (.aload_n 0, 1) := dk_42 (dk_at dksL_law_14 23 rfl rfl)
theorem dL_law_497 : decode cL_law 497 = .ok (.iload_n 3, 1) := dk_29 (dk_at dksL_law_15 0 rfl rfl)
theorem dL_law_498 : decode cL_law 498 = .ok (.iconst 1, 1) := dk_4 (dk_at dksL_law_15 1 rfl rfl)
theorem dL_law_499 : decode cL_law 499 = .ok (.iadd, 1) := dk_96 (dk_at dksL_law_15 2 rfl rfl)
theorem dL_law_500 : decode cL_law 500 = .ok (.iaload, 1) := dk_46 (dk_at dksL_law_15 3 rfl rfl)
theorem dL_law_501 : decode cL_law 501 = .ok (.aload_n 0, 1) := dk_42 (dk_at dksL_law_15 4 rfl rfl)
theorem dL_law_502 : decode cL_law 502 = .ok (.iload_n 3, 1) := dk_29 (dk_at dksL_law_15 5 rfl rfl)
theorem dL_law_503 : decode cL_law 503 = .ok (.iconst 2, 1) := dk_5 (dk_at dksL_law_15 6 rfl rfl)
theorem dL_law_504 : decode cL_law 504 = .ok (.iadd, 1) := dk_96 (dk_at dksL_law_15 7 rfl rfl)
theorem dL_law_505 : decode cL_law 505 = .ok (.iaload, 1) := dk_46 (dk_at dksL_law_15 8 rfl rfl)
theorem dL_law_506 : decode cL_law 506 = .ok (.invokevirtual 48, 3) := dk_182 0 48 (dk_at dksL_law_15 9 rfl rfl)
theorem dL_law_509 : decode cL_law 509 = .ok (.if_icmp .eq 867, 3) := dk_159 3 99 (dk_at dksL_law_15 12 rfl rfl)
theorem dL_law_512 : decode cL_law 512 = .ok (.iconst 0, 1) := dk_3 (dk_at dksL_law_15 15 rfl rfl)
theorem dL_law_513 : decode cL_law 513 = .ok (.ireturn, 1) := dk_172 (dk_at dksL_law_15 16 rfl rfl)
theorem dL_law_514 : decode cL_law 514 = .ok (.aload_n 1, 1) := dk_43 (dk_at dksL_law_15 17 rfl rfl)
theorem dL_law_515 : decode cL_law 515 = .ok (.aload_n 0, 1) := dk_42 (dk_at dksL_law_15 18 rfl rfl)
theorem dL_law_516 : decode cL_law 516 = .ok (.iload_n 3, 1) := dk_29 (dk_at dksL_law_15 19 rfl rfl)
theorem dL_law_517 : decode cL_law 517 = .ok (.iconst 1, 1) := dk_4 (dk_at dksL_law_15 20 rfl rfl)
theorem dL_law_518 : decode cL_law 518 = .ok (.iadd, 1) := dk_96 (dk_at dksL_law_15 21 rfl rfl)
theorem dL_law_519 : decode cL_law 519 = .ok (.iaload, 1) := dk_46 (dk_at dksL_law_15 22 rfl rfl)
theorem dL_law_520 : decode cL_law 520 = .ok (.invokevirtual 49, 3) := dk_182 0 49 (dk_at dksL_law_16 0 rfl rfl)
theorem dL_law_523 : decode cL_law 523 = .ok (.aload_n 2, 1) := dk_44 (dk_at dksL_law_16 3 rfl rfl)
theorem dL_law_524 : decode cL_law 524 = .ok (.aload_n 0, 1) := dk_42 (dk_at dksL_law_16 4 rfl rfl)
theorem dL_law_525 : decode cL_law 525 = .ok (.iload_n 3, 1) := dk_29 (dk_at dksL_law_16 5 rfl rfl)
theorem dL_law_526 : decode cL_law 526 = .ok (.iconst 1, 1) := dk_4 (dk_at dksL_law_16 6 rfl rfl)
theorem dL_law_527 : decode cL_law 527 = .ok (.iadd, 1) := dk_96 (dk_at dksL_law_16 7 rfl rfl)
theorem dL_law_528 : decode cL_law 528 = .ok (.iaload, 1) := dk_46 (dk_at dksL_law_16 8 rfl rfl)
theorem dL_law_529 : decode cL_law 529 = .ok (.invokevirtual 52, 3) := dk_182 0 52 (dk_at dksL_law_16 9 rfl rfl)
theorem dL_law_532 : decode cL_law 532 = .ok (.if_icmp .eq 844, 3) := dk_159 3 76 (dk_at dksL_law_16 12 rfl rfl)
theorem dL_law_535 : decode cL_law 535 = .ok (.iconst 0, 1) := dk_3 (dk_at dksL_law_16 15 rfl rfl)
theorem dL_law_536 : decode cL_law 536 = .ok (.ireturn, 1) := dk_172 (dk_at dksL_law_16 16 rfl rfl)
theorem dL_law_537 : decode cL_law 537 = .ok (.aload_n 1, 1) := dk_43 (dk_at dksL_law_16 17 rfl rfl)
theorem dL_law_538 : decode cL_law 538 = .ok (.invokevirtual 53, 3) := dk_182 0 53 (dk_at dksL_law_16 18 rfl rfl)
theorem dL_law_541 : decode cL_law 541 = .ok (.aload_n 2, 1) := dk_44 (dk_at dksL_law_16 21 rfl rfl)
theorem dL_law_542 : decode cL_law 542 = .ok (.invokevirtual 57, 3) := dk_182 0 57 (dk_at dksL_law_17 0 rfl rfl)
theorem dL_law_545 : decode cL_law 545 = .ok (.if_icmp .eq 831, 3) := dk_159 3 63 (dk_at dksL_law_17 3 rfl rfl)
theorem dL_law_548 : decode cL_law 548 = .ok (.iconst 0, 1) := dk_3 (dk_at dksL_law_17 6 rfl rfl)
theorem dL_law_549 : decode cL_law 549 = .ok (.ireturn, 1) := dk_172 (dk_at dksL_law_17 7 rfl rfl)
theorem dL_law_550 : decode cL_law 550 = .ok (.aload_n 1, 1) := dk_43 (dk_at dksL_law_17 8 rfl rfl)
theorem dL_law_551 : decode cL_law 551 = .ok (.invokevirtual 58, 3) := dk_182 0 58 (dk_at dksL_law_17 9 rfl rfl)
theorem dL_law_554 : decode cL_law 554 = .ok (.aload_n 2, 1) := dk_44 (dk_at dksL_law_17 12 rfl rfl)
theorem dL_law_555 : decode cL_law 555 = .ok (.invokevirtual 61, 3) := dk_182 0 61 (dk_at dksL_law_17 13 rfl rfl)
theorem dL_law_558 : decode cL_law 558 = .ok (.if_icmp .eq 818, 3) := dk_159 3 50 (dk_at dksL_law_17 16 rfl rfl)
theorem dL_law_561 : decode cL_law 561 = .ok (.iconst 0, 1) := dk_3 (dk_at dksL_law_17 19 rfl rfl)
theorem dL_law_562 : decode cL_law 562 = .ok (.ireturn, 1) := dk_172 (dk_at dksL_law_17 20 rfl rfl)
theorem dL_law_563 : decode cL_law 563 = .ok (.aload_n 1, 1) := dk_43 (dk_at dksL_law_17 21 rfl rfl)
theorem dL_law_564 : decode cL_law 564 = .ok (.aload_n 0, 1) := dk_42 (dk_at dksL_law_17 22 rfl rfl)
theorem dL_law_565 : decode cL_law 565 = .ok (.iload_n 3, 1) := dk_29 (dk_at dksL_law_17 23 rfl rfl)
theorem dL_law_566 : decode cL_law 566 = .ok (.iconst 1, 1) := dk_4 (dk_at dksL_law_18 0 rfl rfl)
theorem dL_law_567 : decode cL_law 567 = .ok (.iadd, 1) := dk_96 (dk_at dksL_law_18 1 rfl rfl)
theorem dL_law_568 : decode cL_law 568 = .ok (.iaload, 1) := dk_46 (dk_at dksL_law_18 2 rfl rfl)
theorem dL_law_569 : decode cL_law 569 = .ok (.invokevirtual 62, 3) := dk_182 0 62 (dk_at dksL_law_18 3 rfl rfl)
theorem dL_law_572 : decode cL_law 572 = .ok (.aload_n 2, 1) := dk_44 (dk_at dksL_law_18 6 rfl rfl)
theorem dL_law_573 : decode cL_law 573 = .ok (.aload_n 0, 1) := dk_42 (dk_at dksL_law_18 7 rfl rfl)
theorem dL_law_574 : decode cL_law 574 = .ok (.iload_n 3, 1) := dk_29 (dk_at dksL_law_18 8 rfl rfl)
theorem dL_law_575 : decode cL_law 575 = .ok (.iconst 1, 1) := dk_4 (dk_at dksL_law_18 9 rfl rfl)
theorem dL_law_576 : decode cL_law 576 = .ok (.iadd, 1) := dk_96 (dk_at dksL_law_18 10 rfl rfl)
theorem dL_law_577 : decode cL_law 577 = .ok (.iaload, 1) := dk_46 (dk_at dksL_law_18 11 rfl rfl)
theorem dL_law_578 : decode cL_law 578 = .ok (.invokevirtual 65, 3) := dk_182 0 65 (dk_at dksL_law_18 12 rfl rfl)
theorem dL_law_581 : decode cL_law 581 = .ok (.if_icmp .eq 795, 3) := dk_159 3 27 (dk_at dksL_law_18 15 rfl rfl)
theorem dL_law_584 : decode cL_law 584 = .ok (.iconst 0, 1) := dk_3 (dk_at dksL_law_18 18 rfl rfl)
theorem dL_law_585 : decode cL_law 585 = .ok (.ireturn, 1) := dk_172 (dk_at dksL_law_18 19 rfl rfl)
theorem dL_law_586 : decode cL_law 586 = .ok (.aload_n 1, 1) := dk_43 (dk_at dksL_law_18 20 rfl rfl)
theorem dL_law_587 : decode cL_law 587 = .ok (.aload_n 0, 1) := dk_42 (dk_at dksL_law_18 21 rfl rfl)
theorem dL_law_588 : decode cL_law 588 = .ok (.iload_n 3, 1) := dk_29 (dk_at dksL_law_18 22 rfl rfl)
theorem dL_law_589 : decode cL_law 589 = .ok (.iconst 1, 1) := dk_4 (dk_at dksL_law_18 23 rfl rfl)
theorem dL_law_590 : decode cL_law 590 = .ok (.iadd, 1) := dk_96 (dk_at dksL_law_19 0 rfl rfl)
theorem dL_law_591 : decode cL_law 591 = .ok (.iaload, 1) := dk_46 (dk_at dksL_law_19 1 rfl rfl)
theorem dL_law_592 : decode cL_law 592 = .ok (.aload_n 0, 1) := dk_42 (dk_at dksL_law_19 2 rfl rfl)
theorem dL_law_593 : decode cL_law 593 = .ok (.iload_n 3, 1) := dk_29 (dk_at dksL_law_19 3 rfl rfl)
theorem dL_law_594 : decode cL_law 594 = .ok (.iconst 2, 1) := dk_5 (dk_at dksL_law_19 4 rfl rfl)
theorem dL_law_595 : decode cL_law 595 = .ok (.iadd, 1) := dk_96 (dk_at dksL_law_19 5 rfl rfl)
theorem dL_law_596 : decode cL_law 596 = .ok (.iaload, 1) := dk_46 (dk_at dksL_law_19 6 rfl rfl)
theorem dL_law_597 : decode cL_law 597 = .ok (.invokevirtual 66, 3) := dk_182 0 66 (dk_at dksL_law_19 7 rfl rfl)
theorem dL_law_600 : decode cL_law 600 = .ok (.aload_n 2, 1) := dk_44 (dk_at dksL_law_19 10 rfl rfl)
theorem dL_law_601 : decode cL_law 601 = .ok (.aload_n 0, 1) := dk_42 (dk_at dksL_law_19 11 rfl rfl)
theorem dL_law_602 : decode cL_law 602 = .ok (.iload_n 3, 1) := dk_29 (dk_at dksL_law_19 12 rfl rfl)
theorem dL_law_603 : decode cL_law 603 = .ok (.iconst 1, 1) := dk_4 (dk_at dksL_law_19 13 rfl rfl)
theorem dL_law_604 : decode cL_law 604 = .ok (.iadd, 1) := dk_96 (dk_at dksL_law_19 14 rfl rfl)
theorem dL_law_605 : decode cL_law 605 = .ok (.iaload, 1) := dk_46 (dk_at dksL_law_19 15 rfl rfl)
theorem dL_law_606 : decode cL_law 606 = .ok (.aload_n 0, 1) := dk_42 (dk_at dksL_law_19 16 rfl rfl)
theorem dL_law_607 : decode cL_law 607 = .ok (.iload_n 3, 1) := dk_29 (dk_at dksL_law_19 17 rfl rfl)
theorem dL_law_608 : decode cL_law 608 = .ok (.iconst 2, 1) := dk_5 (dk_at dksL_law_19 18 rfl rfl)
theorem dL_law_609 : decode cL_law 609 = .ok (.iadd, 1) := dk_96 (dk_at dksL_law_19 19 rfl rfl)
theorem dL_law_610 : decode cL_law 610 = .ok (.iaload, 1) := dk_46 (dk_at dksL_law_19 20 rfl rfl)
theorem dL_law_611 : decode cL_law 611 = .ok (.invokevirtual 69, 3) := dk_182 0 69 (dk_at dksL_law_19 21 rfl rfl)
theorem dL_law_614 : decode cL_law 614 = .ok (.if_icmp .eq 762, 3) := dk_159 2 250 (dk_at dksL_law_20 0 rfl rfl)
theorem dL_law_617 : decode cL_law 617 = .ok (.iconst 0, 1) := dk_3 (dk_at dksL_law_20 3 rfl rfl)
theorem dL_law_618 : decode cL_law 618 = .ok (.ireturn, 1) := dk_172 (dk_at dksL_law_20 4 rfl rfl)
theorem dL_law_619 : decode cL_law 619 = .ok (.aload_n 1, 1) := dk_43 (dk_at dksL_law_20 5 rfl rfl)
theorem dL_law_620 : decode cL_law 620 = .ok (.aload_n 0, 1) := dk_42 (dk_at dksL_law_20 6 rfl rfl)
theorem dL_law_621 : decode cL_law 621 = .ok (.iload_n 3, 1) := dk_29 (dk_at dksL_law_20 7 rfl rfl)
theorem dL_law_622 : decode cL_law 622 = .ok (.iconst 1, 1) := dk_4 (dk_at dksL_law_20 8 rfl rfl)
theorem dL_law_623 : decode cL_law 623 = .ok (.iadd, 1) := dk_96 (dk_at dksL_law_20 9 rfl rfl)
theorem dL_law_624 : decode cL_law 624 = .ok (.iaload, 1) := dk_46 (dk_at dksL_law_20 10 rfl rfl)
theorem dL_law_625 : decode cL_law 625 = .ok (.invokevirtual 70, 3) := dk_182 0 70 (dk_at dksL_law_20 11 rfl rfl)
theorem dL_law_628 : decode cL_law 628 = .ok (.aload_n 2, 1) := dk_44 (dk_at dksL_law_20 14 rfl rfl)
theorem dL_law_629 : decode cL_law 629 = .ok (.aload_n 0, 1) := dk_42 (dk_at dksL_law_20 15 rfl rfl)
theorem dL_law_630 : decode cL_law 630 = .ok (.iload_n 3, 1) := dk_29 (dk_at dksL_law_20 16 rfl rfl)
theorem dL_law_631 : decode cL_law 631 = .ok (.iconst 1, 1) := dk_4 (dk_at dksL_law_20 17 rfl rfl)
theorem dL_law_632 : decode cL_law 632 = .ok (.iadd, 1) := dk_96 (dk_at dksL_law_20 18 rfl rfl)
theorem dL_law_633 : decode cL_law 633 = .ok (.iaload, 1) := dk_46 (dk_at dksL_law_20 19 rfl rfl)
theorem dL_law_634 : decode cL_law 634 = .ok (.invokevirtual 73, 3) := dk_182 0 73 (dk_at dksL_law_20 20 rfl rfl)
theorem dL_law_637 : decode cL_law 637 = .ok (.if_icmp .eq 739, 3) := dk_159 2 227 (dk_at dksL_law_21 0 rfl rfl)
theorem dL_law_640 : decode cL_law 640 = .ok (.iconst 0, 1) := dk_3 (dk_at dksL_law_21 3 rfl rfl)
theorem dL_law_641 : decode cL_law 641 = .ok (.ireturn, 1) := dk_172 (dk_at dksL_law_21 4 rfl rfl)
theorem dL_law_642 : decode cL_law 642 = .ok (.aload_n 1, 1) := dk_43 (dk_at dksL_law_21 5 rfl rfl)
theorem dL_law_643 : decode cL_law 643 = .ok (.aload_n 0, 1) := dk_42 (dk_at dksL_law_21 6 rfl rfl)
theorem dL_law_644 : decode cL_law 644 = .ok (.iload_n 3, 1) := dk_29 (dk_at dksL_law_21 7 rfl rfl)
theorem dL_law_645 : decode cL_law 645 = .ok (.iconst 1, 1) := dk_4 (dk_at dksL_law_21 8 rfl rfl)
theorem dL_law_646 : decode cL_law 646 = .ok (.iadd, 1) := dk_96 (dk_at dksL_law_21 9 rfl rfl)
theorem dL_law_647 : decode cL_law 647 = .ok (.iaload, 1) := dk_46 (dk_at dksL_law_21 10 rfl rfl)
theorem dL_law_648 : decode cL_law 648 = .ok (.aload_n 0, 1) := dk_42 (dk_at dksL_law_21 11 rfl rfl)
theorem dL_law_649 : decode cL_law 649 = .ok (.iload_n 3, 1) := dk_29 (dk_at dksL_law_21 12 rfl rfl)
theorem dL_law_650 : decode cL_law 650 = .ok (.iconst 2, 1) := dk_5 (dk_at dksL_law_21 13 rfl rfl)
theorem dL_law_651 : decode cL_law 651 = .ok (.iadd, 1) := dk_96 (dk_at dksL_law_21 14 rfl rfl)
theorem dL_law_652 : decode cL_law 652 = .ok (.iaload, 1) := dk_46 (dk_at dksL_law_21 15 rfl rfl)
theorem dL_law_653 : decode cL_law 653 = .ok (.invokevirtual 74, 3) := dk_182 0 74 (dk_at dksL_law_21 16 rfl rfl)
theorem dL_law_656 : decode cL_law 656 = .ok (.aload_n 2, 1) := dk_44 (dk_at dksL_law_21 19 rfl rfl)
theorem dL_law_657 : decode cL_law 657 = .ok (.aload_n 0, 1) := dk_42 (dk_at dksL_law_21 20 rfl rfl)
theorem dL_law_658 : decode cL_law 658 = .ok (.iload_n 3, 1) := dk_29 (dk_at dksL_law_21 21 rfl rfl)
theorem dL_law_659 : decode cL_law 659 = .ok (.iconst 1, 1) := dk_4 (dk_at dksL_law_21 22 rfl rfl)
theorem dL_law_660 : decode cL_law 660 = .ok (.iadd, 1) := dk_96 (dk_at dksL_law_21 23 rfl rfl)
theorem dL_law_661 : decode cL_law 661 = .ok (.iaload, 1) := dk_46 (dk_at dksL_law_22 0 rfl rfl)
theorem dL_law_662 : decode cL_law 662 = .ok (.aload_n 0, 1) := dk_42 (dk_at dksL_law_22 1 rfl rfl)
theorem dL_law_663 : decode cL_law 663 = .ok (.iload_n 3, 1) := dk_29 (dk_at dksL_law_22 2 rfl rfl)
theorem dL_law_664 : decode cL_law 664 = .ok (.iconst 2, 1) := dk_5 (dk_at dksL_law_22 3 rfl rfl)
theorem dL_law_665 : decode cL_law 665 = .ok (.iadd, 1) := dk_96 (dk_at dksL_law_22 4 rfl rfl)
theorem dL_law_666 : decode cL_law 666 = .ok (.iaload, 1) := dk_46 (dk_at dksL_law_22 5 rfl rfl)
theorem dL_law_667 : decode cL_law 667 = .ok (.invokevirtual 77, 3) := dk_182 0 77 (dk_at dksL_law_22 6 rfl rfl)
theorem dL_law_670 : decode cL_law 670 = .ok (.if_icmp .eq 706, 3) := dk_159 2 194 (dk_at dksL_law_22 9 rfl rfl)
theorem dL_law_673 : decode cL_law 673 = .ok (.iconst 0, 1) := dk_3 (dk_at dksL_law_22 12 rfl rfl)
theorem dL_law_674 : decode cL_law 674 = .ok (.ireturn, 1) := dk_172 (dk_at dksL_law_22 13 rfl rfl)
theorem dL_law_675 : decode cL_law 675 = .ok (.aload_n 1, 1) := dk_43 (dk_at dksL_law_22 14 rfl rfl)
theorem dL_law_676 : decode cL_law 676 = .ok (.aload_n 0, 1) := dk_42 (dk_at dksL_law_22 15 rfl rfl)
theorem dL_law_677 : decode cL_law 677 = .ok (.iload_n 3, 1) := dk_29 (dk_at dksL_law_22 16 rfl rfl)
theorem dL_law_678 : decode cL_law 678 = .ok (.iconst 1, 1) := dk_4 (dk_at dksL_law_22 17 rfl rfl)
theorem dL_law_679 : decode cL_law 679 = .ok (.iadd, 1) := dk_96 (dk_at dksL_law_22 18 rfl rfl)
theorem dL_law_680 : decode cL_law 680 = .ok (.iaload, 1) := dk_46 (dk_at dksL_law_22 19 rfl rfl)
theorem dL_law_681 : decode cL_law 681 = .ok (.aload_n 0, 1) := dk_42 (dk_at dksL_law_22 20 rfl rfl)
theorem dL_law_682 : decode cL_law 682 = .ok (.iload_n 3, 1) := dk_29 (dk_at dksL_law_22 21 rfl rfl)
theorem dL_law_683 : decode cL_law 683 = .ok (.iconst 2, 1) := dk_5 (dk_at dksL_law_22 22 rfl rfl)
theorem dL_law_684 : decode cL_law 684 = .ok (.iadd, 1) := dk_96 (dk_at dksL_law_22 23 rfl rfl)
theorem dL_law_685 : decode cL_law 685 = .ok (.iaload, 1) := dk_46 (dk_at dksL_law_23 0 rfl rfl)
theorem dL_law_686 : decode cL_law 686 = .ok (.invokevirtual 78, 3) := dk_182 0 78 (dk_at dksL_law_23 1 rfl rfl)
theorem dL_law_689 : decode cL_law 689 = .ok (.aload_n 2, 1) := dk_44 (dk_at dksL_law_23 4 rfl rfl)
theorem dL_law_690 : decode cL_law 690 = .ok (.aload_n 0, 1) := dk_42 (dk_at dksL_law_23 5 rfl rfl)
theorem dL_law_691 : decode cL_law 691 = .ok (.iload_n 3, 1) := dk_29 (dk_at dksL_law_23 6 rfl rfl)
theorem dL_law_692 : decode cL_law 692 = .ok (.iconst 1, 1) := dk_4 (dk_at dksL_law_23 7 rfl rfl)
theorem dL_law_693 : decode cL_law 693 = .ok (.iadd, 1) := dk_96 (dk_at dksL_law_23 8 rfl rfl)
theorem dL_law_694 : decode cL_law 694 = .ok (.iaload, 1) := dk_46 (dk_at dksL_law_23 9 rfl rfl)
theorem dL_law_695 : decode cL_law 695 = .ok (.aload_n 0, 1) := dk_42 (dk_at dksL_law_23 10 rfl rfl)
theorem dL_law_696 : decode cL_law 696 = .ok (.iload_n 3, 1) := dk_29 (dk_at dksL_law_23 11 rfl rfl)
theorem dL_law_697 : decode cL_law 697 = .ok (.iconst 2, 1) := dk_5 (dk_at dksL_law_23 12 rfl rfl)
theorem dL_law_698 : decode cL_law 698 = .ok (.iadd, 1) := dk_96 (dk_at dksL_law_23 13 rfl rfl)
theorem dL_law_699 : decode cL_law 699 = .ok (.iaload, 1) := dk_46 (dk_at dksL_law_23 14 rfl rfl)
theorem dL_law_700 : decode cL_law 700 = .ok (.invokevirtual 81, 3) := dk_182 0 81 (dk_at dksL_law_23 15 rfl rfl)
theorem dL_law_703 : decode cL_law 703 = .ok (.if_icmp .eq 673, 3) := dk_159 2 161 (dk_at dksL_law_23 18 rfl rfl)
theorem dL_law_706 : decode cL_law 706 = .ok (.iconst 0, 1) := dk_3 (dk_at dksL_law_23 21 rfl rfl)
theorem dL_law_707 : decode cL_law 707 = .ok (.ireturn, 1) := dk_172 (dk_at dksL_law_23 22 rfl rfl)
theorem dL_law_708 : decode cL_law 708 = .ok (.aload_n 1, 1) := dk_43 (dk_at dksL_law_23 23 rfl rfl)
theorem dL_law_709 : decode cL_law 709 = .ok (.aload_n 0, 1) := dk_42 (dk_at dksL_law_24 0 rfl rfl)
theorem dL_law_710 : decode cL_law 710 = .ok (.iload_n 3, 1) := dk_29 (dk_at dksL_law_24 1 rfl rfl)
theorem dL_law_711 : decode cL_law 711 = .ok (.iconst 1, 1) := dk_4 (dk_at dksL_law_24 2 rfl rfl)
theorem dL_law_712 : decode cL_law 712 = .ok (.iadd, 1) := dk_96 (dk_at dksL_law_24 3 rfl rfl)
theorem dL_law_713 : decode cL_law 713 = .ok (.iaload, 1) := dk_46 (dk_at dksL_law_24 4 rfl rfl)
theorem dL_law_714 : decode cL_law 714 = .ok (.aload_n 0, 1) := dk_42 (dk_at dksL_law_24 5 rfl rfl)
theorem dL_law_715 : decode cL_law 715 = .ok (.iload_n 3, 1) := dk_29 (dk_at dksL_law_24 6 rfl rfl)
theorem dL_law_716 : decode cL_law 716 = .ok (.iconst 2, 1) := dk_5 (dk_at dksL_law_24 7 rfl rfl)
theorem dL_law_717 : decode cL_law 717 = .ok (.iadd, 1) := dk_96 (dk_at dksL_law_24 8 rfl rfl)
theorem dL_law_718 : decode cL_law 718 = .ok (.iaload, 1) := dk_46 (dk_at dksL_law_24 9 rfl rfl)
theorem dL_law_719 : decode cL_law 719 = .ok (.invokevirtual 82, 3) := dk_182 0 82 (dk_at dksL_law_24 10 rfl rfl)
theorem dL_law_722 : decode cL_law 722 = .ok (.aload_n 2, 1) := dk_44 (dk_at dksL_law_24 13 rfl rfl)
theorem dL_law_723 : decode cL_law 723 = .ok (.aload_n 0, 1) := dk_42 (dk_at dksL_law_24 14 rfl rfl)
theorem dL_law_724 : decode cL_law 724 = .ok (.iload_n 3, 1) := dk_29 (dk_at dksL_law_24 15 rfl rfl)
theorem dL_law_725 : decode cL_law 725 = .ok (.iconst 1, 1) := dk_4 (dk_at dksL_law_24 16 rfl rfl)
theorem dL_law_726 : decode cL_law 726 = .ok (.iadd, 1) := dk_96 (dk_at dksL_law_24 17 rfl rfl)
theorem dL_law_727 : decode cL_law 727 = .ok (.iaload, 1) := dk_46 (dk_at dksL_law_24 18 rfl rfl)
theorem dL_law_728 : decode cL_law 728 = .ok (.aload_n 0, 1) := dk_42 (dk_at dksL_law_24 19 rfl rfl)
theorem dL_law_729 : decode cL_law 729 = .ok (.iload_n 3, 1) := dk_29 (dk_at dksL_law_24 20 rfl rfl)
theorem dL_law_730 : decode cL_law 730 = .ok (.iconst 2, 1) := dk_5 (dk_at dksL_law_24 21 rfl rfl)
theorem dL_law_731 : decode cL_law 731 = .ok (.iadd, 1) := dk_96 (dk_at dksL_law_24 22 rfl rfl)
theorem dL_law_732 : decode cL_law 732 = .ok (.iaload, 1) := dk_46 (dk_at dksL_law_24 23 rfl rfl)
theorem dL_law_733 : decode cL_law 733 = .ok (.invokevirtual 85, 3) := dk_182 0 85 (dk_at dksL_law_25 0 rfl rfl)
theorem dL_law_736 : decode cL_law 736 = .ok (.if_icmp .eq 640, 3) := dk_159 2 128 (dk_at dksL_law_25 3 rfl rfl)
theorem dL_law_739 : decode cL_law 739 = .ok (.iconst 0, 1) := dk_3 (dk_at dksL_law_25 6 rfl rfl)
theorem dL_law_740 : decode cL_law 740 = .ok (.ireturn, 1) := dk_172 (dk_at dksL_law_25 7 rfl rfl)
theorem dL_law_741 : decode cL_law 741 = .ok (.aload_n 1, 1) := dk_43 (dk_at dksL_law_25 8 rfl rfl)
theorem dL_law_742 : decode cL_law 742 = .ok (.aload_n 0, 1) := dk_42 (dk_at dksL_law_25 9 rfl rfl)
theorem dL_law_743 : decode cL_law 743 = .ok (.iload_n 3, 1) := dk_29 (dk_at dksL_law_25 10 rfl rfl)
theorem dL_law_744 : decode cL_law 744 = .ok (.iconst 1, 1) := dk_4 (dk_at dksL_law_25 11 rfl rfl)
theorem dL_law_745 : decode cL_law 745 = .ok (.iadd, 1) := dk_96 (dk_at dksL_law_25 12 rfl rfl)
theorem dL_law_746 : decode cL_law 746 = .ok (.iaload, 1) := dk_46 (dk_at dksL_law_25 13 rfl rfl)
theorem dL_law_747 : decode cL_law 747 = .ok (.invokevirtual 86, 3) := dk_182 0 86 (dk_at dksL_law_25 14 rfl rfl)
theorem dL_law_750 : decode cL_law 750 = .ok (.aload_n 2, 1) := dk_44 (dk_at dksL_law_25 17 rfl rfl)
theorem dL_law_751 : decode cL_law 751 = .ok (.aload_n 0, 1) := dk_42 (dk_at dksL_law_25 18 rfl rfl)
theorem dL_law_752 : decode cL_law 752 = .ok (.iload_n 3, 1) := dk_29 (dk_at dksL_law_25 19 rfl rfl)
theorem dL_law_753 : decode cL_law 753 = .ok (.iconst 1, 1) := dk_4 (dk_at dksL_law_25 20 rfl rfl)
theorem dL_law_754 : decode cL_law 754 = .ok (.iadd, 1) := dk_96 (dk_at dksL_law_25 21 rfl rfl)
theorem dL_law_755 : decode cL_law 755 = .ok (.iaload, 1) := dk_46 (dk_at dksL_law_25 22 rfl rfl)
theorem dL_law_756 : decode cL_law 756 = .ok (.invokevirtual 89, 3) := dk_182 0 89 (dk_at dksL_law_26 0 rfl rfl)
theorem dL_law_759 : decode cL_law 759 = .ok (.if_icmp .eq 617, 3) := dk_159 2 105 (dk_at dksL_law_26 3 rfl rfl)
theorem dL_law_762 : decode cL_law 762 = .ok (.iconst 0, 1) := dk_3 (dk_at dksL_law_26 6 rfl rfl)
theorem dL_law_763 : decode cL_law 763 = .ok (.ireturn, 1) := dk_172 (dk_at dksL_law_26 7 rfl rfl)
theorem dL_law_764 : decode cL_law 764 = .ok (.aload_n 1, 1) := dk_43 (dk_at dksL_law_26 8 rfl rfl)
theorem dL_law_765 : decode cL_law 765 = .ok (.aload_n 0, 1) := dk_42 (dk_at dksL_law_26 9 rfl rfl)
theorem dL_law_766 : decode cL_law 766 = .ok (.iload_n 3, 1) := dk_29 (dk_at dksL_law_26 10 rfl rfl)
theorem dL_law_767 : decode cL_law 767 = .ok (.iconst 1, 1) := dk_4 (dk_at dksL_law_26 11 rfl rfl)
theorem dL_law_768 : decode cL_law 768 = .ok (.iadd, 1) := dk_96 (dk_at dksL_law_26 12 rfl rfl)
theorem dL_law_769 : decode cL_law 769 = .ok (.iaload, 1) := dk_46 (dk_at dksL_law_26 13 rfl rfl)
theorem dL_law_770 : decode cL_law 770 = .ok (.invokevirtual 90, 3) := dk_182 0 90 (dk_at dksL_law_26 14 rfl rfl)
theorem dL_law_773 : decode cL_law 773 = .ok (.aload_n 2, 1) := dk_44 (dk_at dksL_law_26 17 rfl rfl)
theorem dL_law_774 : decode cL_law 774 = .ok (.aload_n 0, 1) := dk_42 (dk_at dksL_law_26 18 rfl rfl)
theorem dL_law_775 : decode cL_law 775 = .ok (.iload_n 3, 1) := dk_29 (dk_at dksL_law_26 19 rfl rfl)
theorem dL_law_776 : decode cL_law 776 = .ok (.iconst 1, 1) := dk_4 (dk_at dksL_law_26 20 rfl rfl)
theorem dL_law_777 : decode cL_law 777 = .ok (.iadd, 1) := dk_96 (dk_at dksL_law_26 21 rfl rfl)
theorem dL_law_778 : decode cL_law 778 = .ok (.iaload, 1) := dk_46 (dk_at dksL_law_26 22 rfl rfl)
theorem dL_law_779 : decode cL_law 779 = .ok (.invokevirtual 93, 3) := dk_182 0 93 (dk_at dksL_law_27 0 rfl rfl)
theorem dL_law_782 : decode cL_law 782 = .ok (.if_icmp .eq 594, 3) := dk_159 2 82 (dk_at dksL_law_27 3 rfl rfl)
theorem dL_law_785 : decode cL_law 785 = .ok (.iconst 0, 1) := dk_3 (dk_at dksL_law_27 6 rfl rfl)
theorem dL_law_786 : decode cL_law 786 = .ok (.ireturn, 1) := dk_172 (dk_at dksL_law_27 7 rfl rfl)
theorem dL_law_787 : decode cL_law 787 = .ok (.aload_n 1, 1) := dk_43 (dk_at dksL_law_27 8 rfl rfl)
theorem dL_law_788 : decode cL_law 788 = .ok (.aload_n 0, 1) := dk_42 (dk_at dksL_law_27 9 rfl rfl)
theorem dL_law_789 : decode cL_law 789 = .ok (.iload_n 3, 1) := dk_29 (dk_at dksL_law_27 10 rfl rfl)
theorem dL_law_790 : decode cL_law 790 = .ok (.iconst 1, 1) := dk_4 (dk_at dksL_law_27 11 rfl rfl)
theorem dL_law_791 : decode cL_law 791 = .ok (.iadd, 1) := dk_96 (dk_at dksL_law_27 12 rfl rfl)
theorem dL_law_792 : decode cL_law 792 = .ok (.iaload, 1) := dk_46 (dk_at dksL_law_27 13 rfl rfl)
theorem dL_law_793 : decode cL_law 793 = .ok (.invokevirtual 94, 3) := dk_182 0 94 (dk_at dksL_law_27 14 rfl rfl)
theorem dL_law_796 : decode cL_law 796 = .ok (.aload_n 2, 1) := dk_44 (dk_at dksL_law_27 17 rfl rfl)
theorem dL_law_797 : decode cL_law 797 = .ok (.aload_n 0, 1) := dk_42 (dk_at dksL_law_27 18 rfl rfl)
theorem dL_law_798 : decode cL_law 798 = .ok (.iload_n 3, 1) := dk_29 (dk_at dksL_law_27 19 rfl rfl)
theorem dL_law_799 : decode cL_law 799 = .ok (.iconst 1, 1) := dk_4 (dk_at dksL_law_27 20 rfl rfl)
theorem dL_law_800 : decode cL_law 800 = .ok (.iadd, 1) := dk_96 (dk_at dksL_law_27 21 rfl rfl)
theorem dL_law_801 : decode cL_law 801 = .ok (.iaload, 1) := dk_46 (dk_at dksL_law_27 22 rfl rfl)
theorem dL_law_802 : decode cL_law 802 = .ok (.invokevirtual 97, 3) := dk_182 0 97 (dk_at dksL_law_28 0 rfl rfl)
theorem dL_law_805 : decode cL_law 805 = .ok (.if_icmp .eq 571, 3) := dk_159 2 59 (dk_at dksL_law_28 3 rfl rfl)
theorem dL_law_808 : decode cL_law 808 = .ok (.iconst 0, 1) := dk_3 (dk_at dksL_law_28 6 rfl rfl)
theorem dL_law_809 : decode cL_law 809 = .ok (.ireturn, 1) := dk_172 (dk_at dksL_law_28 7 rfl rfl)
theorem dL_law_810 : decode cL_law 810 = .ok (.aload_n 1, 1) := dk_43 (dk_at dksL_law_28 8 rfl rfl)
theorem dL_law_811 : decode cL_law 811 = .ok (.aload_n 0, 1) := dk_42 (dk_at dksL_law_28 9 rfl rfl)
theorem dL_law_812 : decode cL_law 812 = .ok (.iload_n 3, 1) := dk_29 (dk_at dksL_law_28 10 rfl rfl)
theorem dL_law_813 : decode cL_law 813 = .ok (.iconst 1, 1) := dk_4 (dk_at dksL_law_28 11 rfl rfl)
theorem dL_law_814 : decode cL_law 814 = .ok (.iadd, 1) := dk_96 (dk_at dksL_law_28 12 rfl rfl)
theorem dL_law_815 : decode cL_law 815 = .ok (.iaload, 1) := dk_46 (dk_at dksL_law_28 13 rfl rfl)
theorem dL_law_816 : decode cL_law 816 = .ok (.aload_n 0, 1) := dk_42 (dk_at dksL_law_28 14 rfl rfl)
theorem dL_law_817 : decode cL_law 817 = .ok (.iload_n 3, 1) := dk_29 (dk_at dksL_law_28 15 rfl rfl)
theorem dL_law_818 : decode cL_law 818 = .ok (.iconst 2, 1) := dk_5 (dk_at dksL_law_28 16 rfl rfl)
theorem dL_law_819 : decode cL_law 819 = .ok (.iadd, 1) := dk_96 (dk_at dksL_law_28 17 rfl rfl)
theorem dL_law_820 : decode cL_law 820 = .ok (.iaload, 1) := dk_46 (dk_at dksL_law_28 18 rfl rfl)
theorem dL_law_821 : decode cL_law 821 = .ok (.invokevirtual 98, 3) := dk_182 0 98 (dk_at dksL_law_28 19 rfl rfl)
theorem dL_law_824 : decode cL_law 824 = .ok (.aload_n 2, 1) := dk_44 (dk_at dksL_law_28 22 rfl rfl)
theorem dL_law_825 : decode cL_law 825 = .ok (.aload_n 0, 1) := dk_42 (dk_at dksL_law_28 23 rfl rfl)
theorem dL_law_826 : decode cL_law 826 = .ok (.iload_n 3, 1) := dk_29 (dk_at dksL_law_29 0 rfl rfl)
theorem dL_law_827 : decode cL_law 827 = .ok (.iconst 1, 1) := dk_4 (dk_at dksL_law_29 1 rfl rfl)
theorem dL_law_828 : decode cL_law 828 = .ok (.iadd, 1) := dk_96 (dk_at dksL_law_29 2 rfl rfl)
theorem dL_law_829 : decode cL_law 829 = .ok (.iaload, 1) := dk_46 (dk_at dksL_law_29 3 rfl rfl)
theorem dL_law_830 : decode cL_law 830 = .ok (.aload_n 0, 1) := dk_42 (dk_at dksL_law_29 4 rfl rfl)
theorem dL_law_831 : decode cL_law 831 = .ok (.iload_n 3, 1) := dk_29 (dk_at dksL_law_29 5 rfl rfl)
theorem dL_law_832 : decode cL_law 832 = .ok (.iconst 2, 1) := dk_5 (dk_at dksL_law_29 6 rfl rfl)
theorem dL_law_833 : decode cL_law 833 = .ok (.iadd, 1) := dk_96 (dk_at dksL_law_29 7 rfl rfl)
theorem dL_law_834 : decode cL_law 834 = .ok (.iaload, 1) := dk_46 (dk_at dksL_law_29 8 rfl rfl)
theorem dL_law_835 : decode cL_law 835 = .ok (.invokevirtual 101, 3) := dk_182 0 101 (dk_at dksL_law_29 9 rfl rfl)
theorem dL_law_838 : decode cL_law 838 = .ok (.if_icmp .eq 538, 3) := dk_159 2 26 (dk_at dksL_law_29 12 rfl rfl)
theorem dL_law_841 : decode cL_law 841 = .ok (.iconst 0, 1) := dk_3 (dk_at dksL_law_29 15 rfl rfl)
theorem dL_law_842 : decode cL_law 842 = .ok (.ireturn, 1) := dk_172 (dk_at dksL_law_29 16 rfl rfl)
theorem dL_law_843 : decode cL_law 843 = .ok (.aload_n 1, 1) := dk_43 (dk_at dksL_law_29 17 rfl rfl)
theorem dL_law_844 : decode cL_law 844 = .ok (.aload_n 0, 1) := dk_42 (dk_at dksL_law_29 18 rfl rfl)
theorem dL_law_845 : decode cL_law 845 = .ok (.iload_n 3, 1) := dk_29 (dk_at dksL_law_29 19 rfl rfl)
theorem dL_law_846 : decode cL_law 846 = .ok (.iconst 1, 1) := dk_4 (dk_at dksL_law_29 20 rfl rfl)
theorem dL_law_847 : decode cL_law 847 = .ok (.iadd, 1) := dk_96 (dk_at dksL_law_29 21 rfl rfl)
theorem dL_law_848 : decode cL_law 848 = .ok (.iaload, 1) := dk_46 (dk_at dksL_law_29 22 rfl rfl)
theorem dL_law_849 : decode cL_law 849 = .ok (.aload_n 0, 1) := dk_42 (dk_at dksL_law_29 23 rfl rfl)
theorem dL_law_850 : decode cL_law 850 = .ok (.iload_n 3, 1) := dk_29 (dk_at dksL_law_30 0 rfl rfl)
theorem dL_law_851 : decode cL_law 851 = .ok (.iconst 2, 1) := dk_5 (dk_at dksL_law_30 1 rfl rfl)
theorem dL_law_852 : decode cL_law 852 = .ok (.iadd, 1) := dk_96 (dk_at dksL_law_30 2 rfl rfl)
theorem dL_law_853 : decode cL_law 853 = .ok (.iaload, 1) := dk_46 (dk_at dksL_law_30 3 rfl rfl)
theorem dL_law_854 : decode cL_law 854 = .ok (.invokevirtual 102, 3) := dk_182 0 102 (dk_at dksL_law_30 4 rfl rfl)
theorem dL_law_857 : decode cL_law 857 = .ok (.aload_n 2, 1) := dk_44 (dk_at dksL_law_30 7 rfl rfl)
theorem dL_law_858 : decode cL_law 858 = .ok (.aload_n 0, 1) := dk_42 (dk_at dksL_law_30 8 rfl rfl)
theorem dL_law_859 : decode cL_law 859 = .ok (.iload_n 3, 1) := dk_29 (dk_at dksL_law_30 9 rfl rfl)
theorem dL_law_860 : decode cL_law 860 = .ok (.iconst 1, 1) := dk_4 (dk_at dksL_law_30 10 rfl rfl)
theorem dL_law_861 : decode cL_law 861 = .ok (.iadd, 1) := dk_96 (dk_at dksL_law_30 11 rfl rfl)
theorem dL_law_862 : decode cL_law 862 = .ok (.iaload, 1) := dk_46 (dk_at dksL_law_30 12 rfl rfl)
theorem dL_law_863 : decode cL_law 863 = .ok (.aload_n 0, 1) := dk_42 (dk_at dksL_law_30 13 rfl rfl)
theorem dL_law_864 : decode cL_law 864 = .ok (.iload_n 3, 1) := dk_29 (dk_at dksL_law_30 14 rfl rfl)
theorem dL_law_865 : decode cL_law 865 = .ok (.iconst 2, 1) := dk_5 (dk_at dksL_law_30 15 rfl rfl)
theorem dL_law_866 : decode cL_law 866 = .ok (.iadd, 1) := dk_96 (dk_at dksL_law_30 16 rfl rfl)
theorem dL_law_867 : decode cL_law 867 = .ok (.iaload, 1) := dk_46 (dk_at dksL_law_30 17 rfl rfl)
theorem dL_law_868 : decode cL_law 868 = .ok (.invokevirtual 105, 3) := dk_182 0 105 (dk_at dksL_law_30 18 rfl rfl)
theorem dL_law_871 : decode cL_law 871 = .ok (.if_icmp .eq 505, 3) := dk_159 1 249 (dk_at dksL_law_30 21 rfl rfl)
theorem dL_law_874 : decode cL_law 874 = .ok (.iconst 0, 1) := dk_3 (dk_at dksL_law_31 0 rfl rfl)
theorem dL_law_875 : decode cL_law 875 = .ok (.ireturn, 1) := dk_172 (dk_at dksL_law_31 1 rfl rfl)
theorem dL_law_876 : decode cL_law 876 = .ok (.aload_n 1, 1) := dk_43 (dk_at dksL_law_31 2 rfl rfl)
theorem dL_law_877 : decode cL_law 877 = .ok (.aload_n 0, 1) := dk_42 (dk_at dksL_law_31 3 rfl rfl)
theorem dL_law_878 : decode cL_law 878 = .ok (.iload_n 3, 1) := dk_29 (dk_at dksL_law_31 4 rfl rfl)
theorem dL_law_879 : decode cL_law 879 = .ok (.iconst 1, 1) := dk_4 (dk_at dksL_law_31 5 rfl rfl)
theorem dL_law_880 : decode cL_law 880 = .ok (.iadd, 1) := dk_96 (dk_at dksL_law_31 6 rfl rfl)
theorem dL_law_881 : decode cL_law 881 = .ok (.iaload, 1) := dk_46 (dk_at dksL_law_31 7 rfl rfl)
theorem dL_law_882 : decode cL_law 882 = .ok (.aload_n 0, 1) := dk_42 (dk_at dksL_law_31 8 rfl rfl)
theorem dL_law_883 : decode cL_law 883 = .ok (.iload_n 3, 1) := dk_29 (dk_at dksL_law_31 9 rfl rfl)
theorem dL_law_884 : decode cL_law 884 = .ok (.iconst 2, 1) := dk_5 (dk_at dksL_law_31 10 rfl rfl)
theorem dL_law_885 : decode cL_law 885 = .ok (.iadd, 1) := dk_96 (dk_at dksL_law_31 11 rfl rfl)
theorem dL_law_886 : decode cL_law 886 = .ok (.iaload, 1) := dk_46 (dk_at dksL_law_31 12 rfl rfl)
theorem dL_law_887 : decode cL_law 887 = .ok (.invokevirtual 106, 3) := dk_182 0 106 (dk_at dksL_law_31 13 rfl rfl)
theorem dL_law_890 : decode cL_law 890 = .ok (.aload_n 2, 1) := dk_44 (dk_at dksL_law_31 16 rfl rfl)
theorem dL_law_891 : decode cL_law 891 = .ok (.aload_n 0, 1) := dk_42 (dk_at dksL_law_31 17 rfl rfl)
theorem dL_law_892 : decode cL_law 892 = .ok (.iload_n 3, 1) := dk_29 (dk_at dksL_law_31 18 rfl rfl)
theorem dL_law_893 : decode cL_law 893 = .ok (.iconst 1, 1) := dk_4 (dk_at dksL_law_31 19 rfl rfl)
theorem dL_law_894 : decode cL_law 894 = .ok (.iadd, 1) := dk_96 (dk_at dksL_law_31 20 rfl rfl)
theorem dL_law_895 : decode cL_law 895 = .ok (.iaload, 1) := dk_46 (dk_at dksL_law_31 21 rfl rfl)
theorem dL_law_896 : decode cL_law 896 = .ok (.aload_n 0, 1) := dk_42 (dk_at dksL_law_31 22 rfl rfl)
theorem dL_law_897 : decode cL_law 897 = .ok (.iload_n 3, 1) := dk_29 (dk_at dksL_law_31 23 rfl rfl)
theorem dL_law_898 : decode cL_law 898 = .ok (.iconst 2, 1) := dk_5 (dk_at dksL_law_32 0 rfl rfl)
theorem dL_law_899 : decode cL_law 899 = .ok (.iadd, 1) := dk_96 (dk_at dksL_law_32 1 rfl rfl)
theorem dL_law_900 : decode cL_law 900 = .ok (.iaload, 1) := dk_46 (dk_at dksL_law_32 2 rfl rfl)
theorem dL_law_901 : decode cL_law 901 = .ok (.invokevirtual 109, 3) := dk_182 0 109 (dk_at dksL_law_32 3 rfl rfl)
theorem dL_law_904 : decode cL_law 904 = .ok (.if_icmp .eq 472, 3) := dk_159 1 216 (dk_at dksL_law_32 6 rfl rfl)
theorem dL_law_907 : decode cL_law 907 = .ok (.iconst 0, 1) := dk_3 (dk_at dksL_law_32 9 rfl rfl)
theorem dL_law_908 : decode cL_law 908 = .ok (.ireturn, 1) := dk_172 (dk_at dksL_law_32 10 rfl rfl)
theorem dL_law_909 : decode cL_law 909 = .ok (.aload_n 1, 1) := dk_43 (dk_at dksL_law_32 11 rfl rfl)
theorem dL_law_910 : decode cL_law 910 = .ok (.aload_n 0, 1) := dk_42 (dk_at dksL_law_32 12 rfl rfl)
theorem dL_law_911 : decode cL_law 911 = .ok (.iload_n 3, 1) := dk_29 (dk_at dksL_law_32 13 rfl rfl)
theorem dL_law_912 : decode cL_law 912 = .ok (.iconst 1, 1) := dk_4 (dk_at dksL_law_32 14 rfl rfl)
theorem dL_law_913 : decode cL_law 913 = .ok (.iadd, 1) := dk_96 (dk_at dksL_law_32 15 rfl rfl)
theorem dL_law_914 : decode cL_law 914 = .ok (.iaload, 1) := dk_46 (dk_at dksL_law_32 16 rfl rfl)
theorem dL_law_915 : decode cL_law 915 = .ok (.aload_n 0, 1) := dk_42 (dk_at dksL_law_32 17 rfl rfl)
theorem dL_law_916 : decode cL_law 916 = .ok (.iload_n 3, 1) := dk_29 (dk_at dksL_law_32 18 rfl rfl)
theorem dL_law_917 : decode cL_law 917 = .ok (.iconst 2, 1) := dk_5 (dk_at dksL_law_32 19 rfl rfl)
theorem dL_law_918 : decode cL_law 918 = .ok (.iadd, 1) := dk_96 (dk_at dksL_law_32 20 rfl rfl)
theorem dL_law_919 : decode cL_law 919 = .ok (.iaload, 1) := dk_46 (dk_at dksL_law_32 21 rfl rfl)
theorem dL_law_920 : decode cL_law 920 = .ok (.invokevirtual 110, 3) := dk_182 0 110 (dk_at dksL_law_33 0 rfl rfl)
theorem dL_law_923 : decode cL_law 923 = .ok (.aload_n 2, 1) := dk_44 (dk_at dksL_law_33 3 rfl rfl)
theorem dL_law_924 : decode cL_law 924 = .ok (.aload_n 0, 1) := dk_42 (dk_at dksL_law_33 4 rfl rfl)
theorem dL_law_925 : decode cL_law 925 = .ok (.iload_n 3, 1) := dk_29 (dk_at dksL_law_33 5 rfl rfl)
theorem dL_law_926 : decode cL_law 926 = .ok (.iconst 1, 1) := dk_4 (dk_at dksL_law_33 6 rfl rfl)
theorem dL_law_927 : decode cL_law 927 = .ok (.iadd, 1) := dk_96 (dk_at dksL_law_33 7 rfl rfl)
theorem dL_law_928 : decode cL_law 928 = .ok (.iaload, 1) := dk_46 (dk_at dksL_law_33 8 rfl rfl)
theorem dL_law_929 : decode cL_law 929 = .ok (.aload_n 0, 1) := dk_42 (dk_at dksL_law_33 9 rfl rfl)
theorem dL_law_930 : decode cL_law 930 = .ok (.iload_n 3, 1) := dk_29 (dk_at dksL_law_33 10 rfl rfl)
theorem dL_law_931 : decode cL_law 931 = .ok (.iconst 2, 1) := dk_5 (dk_at dksL_law_33 11 rfl rfl)
theorem dL_law_932 : decode cL_law 932 = .ok (.iadd, 1) := dk_96 (dk_at dksL_law_33 12 rfl rfl)
theorem dL_law_933 : decode cL_law 933 = .ok (.iaload, 1) := dk_46 (dk_at dksL_law_33 13 rfl rfl)
theorem dL_law_934 : decode cL_law 934 = .ok (.invokevirtual 113, 3) := dk_182 0 113 (dk_at dksL_law_33 14 rfl rfl)
theorem dL_law_937 : decode cL_law 937 = .ok (.if_icmp .eq 439, 3) := dk_159 1 183 (dk_at dksL_law_33 17 rfl rfl)
theorem dL_law_940 : decode cL_law 940 = .ok (.iconst 0, 1) := dk_3 (dk_at dksL_law_33 20 rfl rfl)
theorem dL_law_941 : decode cL_law 941 = .ok (.ireturn, 1) := dk_172 (dk_at dksL_law_33 21 rfl rfl)
theorem dL_law_942 : decode cL_law 942 = .ok (.aload_n 1, 1) := dk_43 (dk_at dksL_law_33 22 rfl rfl)
theorem dL_law_943 : decode cL_law 943 = .ok (.aload_n 0, 1) := dk_42 (dk_at dksL_law_33 23 rfl rfl)
theorem dL_law_944 : decode cL_law 944 = .ok (.iload_n 3, 1) := dk_29 (dk_at dksL_law_34 0 rfl rfl)
theorem dL_law_945 : decode cL_law 945 = .ok (.iconst 1, 1) := dk_4 (dk_at dksL_law_34 1 rfl rfl)
theorem dL_law_946 : decode cL_law 946 = .ok (.iadd, 1) := dk_96 (dk_at dksL_law_34 2 rfl rfl)
theorem dL_law_947 : decode cL_law 947 = .ok (.iaload, 1) := dk_46 (dk_at dksL_law_34 3 rfl rfl)
theorem dL_law_948 : decode cL_law 948 = .ok (.aload_n 0, 1) := dk_42 (dk_at dksL_law_34 4 rfl rfl)
theorem dL_law_949 : decode cL_law 949 = .ok (.iload_n 3, 1) := dk_29 (dk_at dksL_law_34 5 rfl rfl)
theorem dL_law_950 : decode cL_law 950 = .ok (.iconst 2, 1) := dk_5 (dk_at dksL_law_34 6 rfl rfl)
theorem dL_law_951 : decode cL_law 951 = .ok (.iadd, 1) := dk_96 (dk_at dksL_law_34 7 rfl rfl)
theorem dL_law_952 : decode cL_law 952 = .ok (.iaload, 1) := dk_46 (dk_at dksL_law_34 8 rfl rfl)
theorem dL_law_953 : decode cL_law 953 = .ok (.invokevirtual 114, 3) := dk_182 0 114 (dk_at dksL_law_34 9 rfl rfl)
theorem dL_law_956 : decode cL_law 956 = .ok (.aload_n 2, 1) := dk_44 (dk_at dksL_law_34 12 rfl rfl)
theorem dL_law_957 : decode cL_law 957 = .ok (.aload_n 0, 1) := dk_42 (dk_at dksL_law_34 13 rfl rfl)
theorem dL_law_958 : decode cL_law 958 = .ok (.iload_n 3, 1) := dk_29 (dk_at dksL_law_34 14 rfl rfl)
theorem dL_law_959 : decode cL_law 959 = .ok (.iconst 1, 1) := dk_4 (dk_at dksL_law_34 15 rfl rfl)
theorem dL_law_960 : decode cL_law 960 = .ok (.iadd, 1) := dk_96 (dk_at dksL_law_34 16 rfl rfl)
theorem dL_law_961 : decode cL_law 961 = .ok (.iaload, 1) := dk_46 (dk_at dksL_law_34 17 rfl rfl)
theorem dL_law_962 : decode cL_law 962 = .ok (.aload_n 0, 1) := dk_42 (dk_at dksL_law_34 18 rfl rfl)
theorem dL_law_963 : decode cL_law 963 = .ok (.iload_n 3, 1) := dk_29 (dk_at dksL_law_34 19 rfl rfl)
theorem dL_law_964 : decode cL_law 964 = .ok (.iconst 2, 1) := dk_5 (dk_at dksL_law_34 20 rfl rfl)
theorem dL_law_965 : decode cL_law 965 = .ok (.iadd, 1) := dk_96 (dk_at dksL_law_34 21 rfl rfl)
theorem dL_law_966 : decode cL_law 966 = .ok (.iaload, 1) := dk_46 (dk_at dksL_law_34 22 rfl rfl)
theorem dL_law_967 : decode cL_law 967 = .ok (.invokevirtual 117, 3) := dk_182 0 117 (dk_at dksL_law_35 0 rfl rfl)
theorem dL_law_970 : decode cL_law 970 = .ok (.if_icmp .eq 406, 3) := dk_159 1 150 (dk_at dksL_law_35 3 rfl rfl)
theorem dL_law_973 : decode cL_law 973 = .ok (.iconst 0, 1) := dk_3 (dk_at dksL_law_35 6 rfl rfl)
theorem dL_law_974 : decode cL_law 974 = .ok (.ireturn, 1) := dk_172 (dk_at dksL_law_35 7 rfl rfl)
theorem dL_law_975 : decode cL_law 975 = .ok (.aload_n 1, 1) := dk_43 (dk_at dksL_law_35 8 rfl rfl)
theorem dL_law_976 : decode cL_law 976 = .ok (.aload_n 0, 1) := dk_42 (dk_at dksL_law_35 9 rfl rfl)
theorem dL_law_977 : decode cL_law 977 = .ok (.iload_n 3, 1) := dk_29 (dk_at dksL_law_35 10 rfl rfl)
theorem dL_law_978 : decode cL_law 978 = .ok (.iconst 1, 1) := dk_4 (dk_at dksL_law_35 11 rfl rfl)
theorem dL_law_979 : decode cL_law 979 = .ok (.iadd, 1) := dk_96 (dk_at dksL_law_35 12 rfl rfl)
theorem dL_law_980 : decode cL_law 980 = .ok (.iaload, 1) := dk_46 (dk_at dksL_law_35 13 rfl rfl)
theorem dL_law_981 : decode cL_law 981 = .ok (.invokevirtual 118, 3) := dk_182 0 118 (dk_at dksL_law_35 14 rfl rfl)
theorem dL_law_984 : decode cL_law 984 = .ok (.aload_n 2, 1) := dk_44 (dk_at dksL_law_35 17 rfl rfl)
theorem dL_law_985 : decode cL_law 985 = .ok (.aload_n 0, 1) := dk_42 (dk_at dksL_law_35 18 rfl rfl)
theorem dL_law_986 : decode cL_law 986 = .ok (.iload_n 3, 1) := dk_29 (dk_at dksL_law_35 19 rfl rfl)
theorem dL_law_987 : decode cL_law 987 = .ok (.iconst 1, 1) := dk_4 (dk_at dksL_law_35 20 rfl rfl)
theorem dL_law_988 : decode cL_law 988 = .ok (.iadd, 1) := dk_96 (dk_at dksL_law_35 21 rfl rfl)
theorem dL_law_989 : decode cL_law 989 = .ok (.iaload, 1) := dk_46 (dk_at dksL_law_35 22 rfl rfl)
theorem dL_law_990 : decode cL_law 990 = .ok (.invokevirtual 121, 3) := dk_182 0 121 (dk_at dksL_law_36 0 rfl rfl)
theorem dL_law_993 : decode cL_law 993 = .ok (.if_icmp .eq 383, 3) := dk_159 1 127 (dk_at dksL_law_36 3 rfl rfl)
theorem dL_law_996 : decode cL_law 996 = .ok (.iconst 0, 1) := dk_3 (dk_at dksL_law_36 6 rfl rfl)
theorem dL_law_997 : decode cL_law 997 = .ok (.ireturn, 1) := dk_172 (dk_at dksL_law_36 7 rfl rfl)
theorem dL_law_998 : decode cL_law 998 = .ok (.aload_n 1, 1) := dk_43 (dk_at dksL_law_36 8 rfl rfl)
theorem dL_law_999 : decode cL_law 999 = .ok (.aload_n 0, 1) := dk_42 (dk_at dksL_law_36 9 rfl rfl)
theorem dL_law_1000 : decode cL_law 1000 = .ok (.iload_n 3, 1) := dk_29 (dk_at dksL_law_36 10 rfl rfl)
theorem dL_law_1001 : decode cL_law 1001 = .ok (.iconst 1, 1) := dk_4 (dk_at dksL_law_36 11 rfl rfl)
theorem dL_law_1002 : decode cL_law 1002 = .ok (.iadd, 1) := dk_96 (dk_at dksL_law_36 12 rfl rfl)
theorem dL_law_1003 : decode cL_law 1003 = .ok (.iaload, 1) := dk_46 (dk_at dksL_law_36 13 rfl rfl)
theorem dL_law_1004 : decode cL_law 1004 = .ok (.aload_n 0, 1) := dk_42 (dk_at dksL_law_36 14 rfl rfl)
theorem dL_law_1005 : decode cL_law 1005 = .ok (.iload_n 3, 1) := dk_29 (dk_at dksL_law_36 15 rfl rfl)
theorem dL_law_1006 : decode cL_law 1006 = .ok (.iconst 2, 1) := dk_5 (dk_at dksL_law_36 16 rfl rfl)
theorem dL_law_1007 : decode cL_law 1007 = .ok (.iadd, 1) := dk_96 (dk_at dksL_law_36 17 rfl rfl)
theorem dL_law_1008 : decode cL_law 1008 = .ok (.iaload, 1) := dk_46 (dk_at dksL_law_36 18 rfl rfl)
theorem dL_law_1009 : decode cL_law 1009 = .ok (.invokevirtual 122, 3) := dk_182 0 122 (dk_at dksL_law_36 19 rfl rfl)
theorem dL_law_1012 : decode cL_law 1012 = .ok (.aload_n 2, 1) := dk_44 (dk_at dksL_law_36 22 rfl rfl)
theorem dL_law_1013 : decode cL_law 1013 = .ok (.aload_n 0, 1) := dk_42 (dk_at dksL_law_36 23 rfl rfl)
theorem dL_law_1014 : decode cL_law 1014 = .ok (.iload_n 3, 1) := dk_29 (dk_at dksL_law_37 0 rfl rfl)
theorem dL_law_1015 : decode cL_law 1015 = .ok (.iconst 1, 1) := dk_4 (dk_at dksL_law_37 1 rfl rfl)
theorem dL_law_1016 : decode cL_law 1016 = .ok (.iadd, 1) := dk_96 (dk_at dksL_law_37 2 rfl rfl)
theorem dL_law_1017 : decode cL_law 1017 = .ok (.iaload, 1) := dk_46 (dk_at dksL_law_37 3 rfl rfl)
theorem dL_law_1018 : decode cL_law 1018 = .ok (.aload_n 0, 1) := dk_42 (dk_at dksL_law_37 4 rfl rfl)
theorem dL_law_1019 : decode cL_law 1019 = .ok (.iload_n 3, 1) := dk_29 (dk_at dksL_law_37 5 rfl rfl)
theorem dL_law_1020 : decode cL_law 1020 = .ok (.iconst 2, 1) := dk_5 (dk_at dksL_law_37 6 rfl rfl)
theorem dL_law_1021 : decode cL_law 1021 = .ok (.iadd, 1) := dk_96 (dk_at dksL_law_37 7 rfl rfl)
theorem dL_law_1022 : decode cL_law 1022 = .ok (.iaload, 1) := dk_46 (dk_at dksL_law_37 8 rfl rfl)
theorem dL_law_1023 : decode cL_law 1023 = .ok (.invokevirtual 125, 3) := dk_182 0 125 (dk_at dksL_law_37 9 rfl rfl)
theorem dL_law_1026 : decode cL_law 1026 = .ok (.if_icmp .eq 350, 3) := dk_159 1 94 (dk_at dksL_law_37 12 rfl rfl)
theorem dL_law_1029 : decode cL_law 1029 = .ok (.iconst 0, 1) := dk_3 (dk_at dksL_law_37 15 rfl rfl)
theorem dL_law_1030 : decode cL_law 1030 = .ok (.ireturn, 1) := dk_172 (dk_at dksL_law_37 16 rfl rfl)
theorem dL_law_1031 : decode cL_law 1031 = .ok (.aload_n 1, 1) := dk_43 (dk_at dksL_law_37 17 rfl rfl)
theorem dL_law_1032 : decode cL_law 1032 = .ok (.aload_n 0, 1) := dk_42 (dk_at dksL_law_37 18 rfl rfl)
theorem dL_law_1033 : decode cL_law 1033 = .ok (.iload_n 3, 1) := dk_29 (dk_at dksL_law_37 19 rfl rfl)
theorem dL_law_1034 : decode cL_law 1034 = .ok (.iconst 1, 1) := dk_4 (dk_at dksL_law_37 20 rfl rfl)
theorem dL_law_1035 : decode cL_law 1035 = .ok (.iadd, 1) := dk_96 (dk_at dksL_law_37 21 rfl rfl)
theorem dL_law_1036 : decode cL_law 1036 = .ok (.iaload, 1) := dk_46 (dk_at dksL_law_37 22 rfl rfl)
theorem dL_law_1037 : decode cL_law 1037 = .ok (.invokevirtual 126, 3) := dk_182 0 126 (dk_at dksL_law_38 0 rfl rfl)
theorem dL_law_1040 : decode cL_law 1040 = .ok (.aload_n 2, 1) := dk_44 (dk_at dksL_law_38 3 rfl rfl)
theorem dL_law_1041 : decode cL_law 1041 = .ok (.aload_n 0, 1) := dk_42 (dk_at dksL_law_38 4 rfl rfl)
theorem dL_law_1042 : decode cL_law 1042 = .ok (.iload_n 3, 1) := dk_29 (dk_at dksL_law_38 5 rfl rfl)
theorem dL_law_1043 : decode cL_law 1043 = .ok (.iconst 1, 1) := dk_4 (dk_at dksL_law_38 6 rfl rfl)
theorem dL_law_1044 : decode cL_law 1044 = .ok (.iadd, 1) := dk_96 (dk_at dksL_law_38 7 rfl rfl)
theorem dL_law_1045 : decode cL_law 1045 = .ok (.iaload, 1) := dk_46 (dk_at dksL_law_38 8 rfl rfl)
theorem dL_law_1046 : decode cL_law 1046 = .ok (.invokevirtual 129, 3) := dk_182 0 129 (dk_at dksL_law_38 9 rfl rfl)
theorem dL_law_1049 : decode cL_law 1049 = .ok (.if_icmp .eq 327, 3) := dk_159 1 71 (dk_at dksL_law_38 12 rfl rfl)
theorem dL_law_1052 : decode cL_law 1052 = .ok (.iconst 0, 1) := dk_3 (dk_at dksL_law_38 15 rfl rfl)
theorem dL_law_1053 : decode cL_law 1053 = .ok (.ireturn, 1) := dk_172 (dk_at dksL_law_38 16 rfl rfl)
theorem dL_law_1054 : decode cL_law 1054 = .ok (.aload_n 1, 1) := dk_43 (dk_at dksL_law_38 17 rfl rfl)
theorem dL_law_1055 : decode cL_law 1055 = .ok (.invokevirtual 130, 3) := dk_182 0 130 (dk_at dksL_law_38 18 rfl rfl)
theorem dL_law_1058 : decode cL_law 1058 = .ok (.aload_n 2, 1) := dk_44 (dk_at dksL_law_38 21 rfl rfl)
theorem dL_law_1059 : decode cL_law 1059 = .ok (.invokevirtual 133, 3) := dk_182 0 133 (dk_at dksL_law_39 0 rfl rfl)
theorem dL_law_1062 : decode cL_law 1062 = .ok (.if_icmp .eq 314, 3) := dk_159 1 58 (dk_at dksL_law_39 3 rfl rfl)
theorem dL_law_1065 : decode cL_law 1065 = .ok (.iconst 0, 1) := dk_3 (dk_at dksL_law_39 6 rfl rfl)
theorem dL_law_1066 : decode cL_law 1066 = .ok (.ireturn, 1) := dk_172 (dk_at dksL_law_39 7 rfl rfl)
theorem dL_law_1067 : decode cL_law 1067 = .ok (.aload_n 1, 1) := dk_43 (dk_at dksL_law_39 8 rfl rfl)
theorem dL_law_1068 : decode cL_law 1068 = .ok (.aload_n 0, 1) := dk_42 (dk_at dksL_law_39 9 rfl rfl)
theorem dL_law_1069 : decode cL_law 1069 = .ok (.iload_n 3, 1) := dk_29 (dk_at dksL_law_39 10 rfl rfl)
theorem dL_law_1070 : decode cL_law 1070 = .ok (.iconst 1, 1) := dk_4 (dk_at dksL_law_39 11 rfl rfl)
theorem dL_law_1071 : decode cL_law 1071 = .ok (.iadd, 1) := dk_96 (dk_at dksL_law_39 12 rfl rfl)
theorem dL_law_1072 : decode cL_law 1072 = .ok (.iaload, 1) := dk_46 (dk_at dksL_law_39 13 rfl rfl)
theorem dL_law_1073 : decode cL_law 1073 = .ok (.aload_n 0, 1) := dk_42 (dk_at dksL_law_39 14 rfl rfl)
theorem dL_law_1074 : decode cL_law 1074 = .ok (.iload_n 3, 1) := dk_29 (dk_at dksL_law_39 15 rfl rfl)
theorem dL_law_1075 : decode cL_law 1075 = .ok (.iconst 2, 1) := dk_5 (dk_at dksL_law_39 16 rfl rfl)
theorem dL_law_1076 : decode cL_law 1076 = .ok (.iadd, 1) := dk_96 (dk_at dksL_law_39 17 rfl rfl)
theorem dL_law_1077 : decode cL_law 1077 = .ok (.iaload, 1) := dk_46 (dk_at dksL_law_39 18 rfl rfl)
theorem dL_law_1078 : decode cL_law 1078 = .ok (.invokevirtual 134, 3) := dk_182 0 134 (dk_at dksL_law_39 19 rfl rfl)
theorem dL_law_1081 : decode cL_law 1081 = .ok (.aload_n 2, 1) := dk_44 (dk_at dksL_law_39 22 rfl rfl)
theorem dL_law_1082 : decode cL_law 1082 = .ok (.aload_n 0, 1) := dk_42 (dk_at dksL_law_39 23 rfl rfl)
theorem dL_law_1083 : decode cL_law 1083 = .ok (.iload_n 3, 1) := dk_29 (dk_at dksL_law_40 0 rfl rfl)
theorem dL_law_1084 : decode cL_law 1084 = .ok (.iconst 1, 1) := dk_4 (dk_at dksL_law_40 1 rfl rfl)
theorem dL_law_1085 : decode cL_law 1085 = .ok (.iadd, 1) := dk_96 (dk_at dksL_law_40 2 rfl rfl)
theorem dL_law_1086 : decode cL_law 1086 = .ok (.iaload, 1) := dk_46 (dk_at dksL_law_40 3 rfl rfl)
theorem dL_law_1087 : decode cL_law 1087 = .ok (.aload_n 0, 1) := dk_42 (dk_at dksL_law_40 4 rfl rfl)
theorem dL_law_1088 : decode cL_law 1088 = .ok (.iload_n 3, 1) := dk_29 (dk_at dksL_law_40 5 rfl rfl)
theorem dL_law_1089 : decode cL_law 1089 = .ok (.iconst 2, 1) := dk_5 (dk_at dksL_law_40 6 rfl rfl)
theorem dL_law_1090 : decode cL_law 1090 = .ok (.iadd, 1) := dk_96 (dk_at dksL_law_40 7 rfl rfl)
theorem dL_law_1091 : decode cL_law 1091 = .ok (.iaload, 1) := dk_46 (dk_at dksL_law_40 8 rfl rfl)
theorem dL_law_1092 : decode cL_law 1092 = .ok (.invokevirtual 137, 3) := dk_182 0 137 (dk_at dksL_law_40 9 rfl rfl)
theorem dL_law_1095 : decode cL_law 1095 = .ok (.if_icmp .eq 281, 3) := dk_159 1 25 (dk_at dksL_law_40 12 rfl rfl)
theorem dL_law_1098 : decode cL_law 1098 = .ok (.iconst 0, 1) := dk_3 (dk_at dksL_law_40 15 rfl rfl)
theorem dL_law_1099 : decode cL_law 1099 = .ok (.ireturn, 1) := dk_172 (dk_at dksL_law_40 16 rfl rfl)
theorem dL_law_1100 : decode cL_law 1100 = .ok (.aload_n 1, 1) := dk_43 (dk_at dksL_law_40 17 rfl rfl)
theorem dL_law_1101 : decode cL_law 1101 = .ok (.invokevirtual 138, 3) := dk_182 0 138 (dk_at dksL_law_40 18 rfl rfl)
theorem dL_law_1104 : decode cL_law 1104 = .ok (.aload_n 2, 1) := dk_44 (dk_at dksL_law_40 21 rfl rfl)
theorem dL_law_1105 : decode cL_law 1105 = .ok (.invokevirtual 141, 3) := dk_182 0 141 (dk_at dksL_law_41 0 rfl rfl)
theorem dL_law_1108 : decode cL_law 1108 = .ok (.if_icmp .eq 268, 3) := dk_159 1 12 (dk_at dksL_law_41 3 rfl rfl)
theorem dL_law_1111 : decode cL_law 1111 = .ok (.iconst 0, 1) := dk_3 (dk_at dksL_law_41 6 rfl rfl)
theorem dL_law_1112 : decode cL_law 1112 = .ok (.ireturn, 1) := dk_172 (dk_at dksL_law_41 7 rfl rfl)
theorem dL_law_1113 : decode cL_law 1113 = .ok (.aload_n 1, 1) := dk_43 (dk_at dksL_law_41 8 rfl rfl)
theorem dL_law_1114 : decode cL_law 1114 = .ok (.invokevirtual 142, 3) := dk_182 0 142 (dk_at dksL_law_41 9 rfl rfl)
theorem dL_law_1117 : decode cL_law 1117 = .ok (.aload_n 2, 1) := dk_44 (dk_at dksL_law_41 12 rfl rfl)
theorem dL_law_1118 : decode cL_law 1118 = .ok (.invokevirtual 145, 3) := dk_182 0 145 (dk_at dksL_law_41 13 rfl rfl)
theorem dL_law_1121 : decode cL_law 1121 = .ok (.if_icmp .eq 255, 3) := dk_159 0 255 (dk_at dksL_law_41 16 rfl rfl)
theorem dL_law_1124 : decode cL_law 1124 = .ok (.iconst 0, 1) := dk_3 (dk_at dksL_law_41 19 rfl rfl)
theorem dL_law_1125 : decode cL_law 1125 = .ok (.ireturn, 1) := dk_172 (dk_at dksL_law_41 20 rfl rfl)
theorem dL_law_1126 : decode cL_law 1126 = .ok (.aload_n 1, 1) := dk_43 (dk_at dksL_law_41 21 rfl rfl)
theorem dL_law_1127 : decode cL_law 1127 = .ok (.aload_n 0, 1) := dk_42 (dk_at dksL_law_41 22 rfl rfl)
theorem dL_law_1128 : decode cL_law 1128 = .ok (.iload_n 3, 1) := dk_29 (dk_at dksL_law_41 23 rfl rfl)
theorem dL_law_1129 : decode cL_law 1129 = .ok (.iconst 1, 1) := dk_4 (dk_at dksL_law_42 0 rfl rfl)
theorem dL_law_1130 : decode cL_law 1130 = .ok (.iadd, 1) := dk_96 (dk_at dksL_law_42 1 rfl rfl)
theorem dL_law_1131 : decode cL_law 1131 = .ok (.iaload, 1) := dk_46 (dk_at dksL_law_42 2 rfl rfl)
theorem dL_law_1132 : decode cL_law 1132 = .ok (.invokevirtual 146, 3) := dk_182 0 146 (dk_at dksL_law_42 3 rfl rfl)
theorem dL_law_1135 : decode cL_law 1135 = .ok (.aload_n 2, 1) := dk_44 (dk_at dksL_law_42 6 rfl rfl)
theorem dL_law_1136 : decode cL_law 1136 = .ok (.aload_n 0, 1) := dk_42 (dk_at dksL_law_42 7 rfl rfl)
theorem dL_law_1137 : decode cL_law 1137 = .ok (.iload_n 3, 1) := dk_29 (dk_at dksL_law_42 8 rfl rfl)
theorem dL_law_1138 : decode cL_law 1138 = .ok (.iconst 1, 1) := dk_4 (dk_at dksL_law_42 9 rfl rfl)
theorem dL_law_1139 : decode cL_law 1139 = .ok (.iadd, 1) := dk_96 (dk_at dksL_law_42 10 rfl rfl)
theorem dL_law_1140 : decode cL_law 1140 = .ok (.iaload, 1) := dk_46 (dk_at dksL_law_42 11 rfl rfl)
theorem dL_law_1141 : decode cL_law 1141 = .ok (.invokevirtual 149, 3) := dk_182 0 149 (dk_at dksL_law_42 12 rfl rfl)
theorem dL_law_1144 : decode cL_law 1144 = .ok (.if_icmp .eq 232, 3) := dk_159 0 232 (dk_at dksL_law_42 15 rfl rfl)
theorem dL_law_1147 : decode cL_law 1147 = .ok (.iconst 0, 1) := dk_3 (dk_at dksL_law_42 18 rfl rfl)
theorem dL_law_1148 : decode cL_law 1148 = .ok (.ireturn, 1) := dk_172 (dk_at dksL_law_42 19 rfl rfl)
theorem dL_law_1149 : decode cL_law 1149 = .ok (.aload_n 1, 1) := dk_43 (dk_at dksL_law_42 20 rfl rfl)
theorem dL_law_1150 : decode cL_law 1150 = .ok (.aload_n 0, 1) := dk_42 (dk_at dksL_law_42 21 rfl rfl)
theorem dL_law_1151 : decode cL_law 1151 = .ok (.iload_n 3, 1) := dk_29 (dk_at dksL_law_42 22 rfl rfl)
theorem dL_law_1152 : decode cL_law 1152 = .ok (.iconst 1, 1) := dk_4 (dk_at dksL_law_42 23 rfl rfl)
theorem dL_law_1153 : decode cL_law 1153 = .ok (.iadd, 1) := dk_96 (dk_at dksL_law_43 0 rfl rfl)
theorem dL_law_1154 : decode cL_law 1154 = .ok (.iaload, 1) := dk_46 (dk_at dksL_law_43 1 rfl rfl)
theorem dL_law_1155 : decode cL_law 1155 = .ok (.aload_n 0, 1) := dk_42 (dk_at dksL_law_43 2 rfl rfl)
theorem dL_law_1156 : decode cL_law 1156 = .ok (.iload_n 3, 1) := dk_29 (dk_at dksL_law_43 3 rfl rfl)
theorem dL_law_1157 : decode cL_law 1157 = .ok (.iconst 2, 1) := dk_5 (dk_at dksL_law_43 4 rfl rfl)
theorem dL_law_1158 : decode cL_law 1158 = .ok (.iadd, 1) := dk_96 (dk_at dksL_law_43 5 rfl rfl)
theorem dL_law_1159 : decode cL_law 1159 = .ok (.iaload, 1) := dk_46 (dk_at dksL_law_43 6 rfl rfl)
theorem dL_law_1160 : decode cL_law 1160 = .ok (.invokevirtual 150, 3) := dk_182 0 150 (dk_at dksL_law_43 7 rfl rfl)
theorem dL_law_1163 : decode cL_law 1163 = .ok (.aload_n 2, 1) := dk_44 (dk_at dksL_law_43 10 rfl rfl)
theorem dL_law_1164 : decode cL_law 1164 = .ok (.aload_n 0, 1) := dk_42 (dk_at dksL_law_43 11 rfl rfl)
theorem dL_law_1165 : decode cL_law 1165 = .ok (.iload_n 3, 1) := dk_29 (dk_at dksL_law_43 12 rfl rfl)
theorem dL_law_1166 : decode cL_law 1166 = .ok (.iconst 1, 1) := dk_4 (dk_at dksL_law_43 13 rfl rfl)
theorem dL_law_1167 : decode cL_law 1167 = .ok (.iadd, 1) := dk_96 (dk_at dksL_law_43 14 rfl rfl)
theorem dL_law_1168 : decode cL_law 1168 = .ok (.iaload, 1) := dk_46 (dk_at dksL_law_43 15 rfl rfl)
theorem dL_law_1169 : decode cL_law 1169 = .ok (.aload_n 0, 1) := dk_42 (dk_at dksL_law_43 16 rfl rfl)
theorem dL_law_1170 : decode cL_law 1170 = .ok (.iload_n 3, 1) := dk_29 (dk_at dksL_law_43 17 rfl rfl)
theorem dL_law_1171 : decode cL_law 1171 = .ok (.iconst 2, 1) := dk_5 (dk_at dksL_law_43 18 rfl rfl)
theorem dL_law_1172 : decode cL_law 1172 = .ok (.iadd, 1) := dk_96 (dk_at dksL_law_43 19 rfl rfl)
theorem dL_law_1173 : decode cL_law 1173 = .ok (.iaload, 1) := dk_46 (dk_at dksL_law_43 20 rfl rfl)
theorem dL_law_1174 : decode cL_law 1174 = .ok (.invokevirtual 153, 3) := dk_182 0 153 (dk_at dksL_law_43 21 rfl rfl)
theorem dL_law_1177 : decode cL_law 1177 = .ok (.if_icmp .eq 199, 3) := dk_159 0 199 (dk_at dksL_law_44 0 rfl rfl)
theorem dL_law_1180 : decode cL_law 1180 = .ok (.iconst 0, 1) := dk_3 (dk_at dksL_law_44 3 rfl rfl)
theorem dL_law_1181 : decode cL_law 1181 = .ok (.ireturn, 1) := dk_172 (dk_at dksL_law_44 4 rfl rfl)
theorem dL_law_1182 : decode cL_law 1182 = .ok (.aload_n 1, 1) := dk_43 (dk_at dksL_law_44 5 rfl rfl)
theorem dL_law_1183 : decode cL_law 1183 = .ok (.aload_n 0, 1) := dk_42 (dk_at dksL_law_44 6 rfl rfl)
theorem dL_law_1184 : decode cL_law 1184 = .ok (.iload_n 3, 1) := dk_29 (dk_at dksL_law_44 7 rfl rfl)
theorem dL_law_1185 : decode cL_law 1185 = .ok (.iconst 1, 1) := dk_4 (dk_at dksL_law_44 8 rfl rfl)
theorem dL_law_1186 : decode cL_law 1186 = .ok (.iadd, 1) := dk_96 (dk_at dksL_law_44 9 rfl rfl)
theorem dL_law_1187 : decode cL_law 1187 = .ok (.iaload, 1) := dk_46 (dk_at dksL_law_44 10 rfl rfl)
theorem dL_law_1188 : decode cL_law 1188 = .ok (.aload_n 0, 1) := dk_42 (dk_at dksL_law_44 11 rfl rfl)
theorem dL_law_1189 : decode cL_law 1189 = .ok (.iload_n 3, 1) := dk_29 (dk_at dksL_law_44 12 rfl rfl)
theorem dL_law_1190 : decode cL_law 1190 = .ok (.iconst 2, 1) := dk_5 (dk_at dksL_law_44 13 rfl rfl)
theorem dL_law_1191 : decode cL_law 1191 = .ok (.iadd, 1) := dk_96 (dk_at dksL_law_44 14 rfl rfl)
theorem dL_law_1192 : decode cL_law 1192 = .ok (.iaload, 1) := dk_46 (dk_at dksL_law_44 15 rfl rfl)
theorem dL_law_1193 : decode cL_law 1193 = .ok (.invokevirtual 154, 3) := dk_182 0 154 (dk_at dksL_law_44 16 rfl rfl)
theorem dL_law_1196 : decode cL_law 1196 = .ok (.aload_n 2, 1) := dk_44 (dk_at dksL_law_44 19 rfl rfl)
theorem dL_law_1197 : decode cL_law 1197 = .ok (.aload_n 0, 1) := dk_42 (dk_at dksL_law_44 20 rfl rfl)
theorem dL_law_1198 : decode cL_law 1198 = .ok (.iload_n 3, 1) := dk_29 (dk_at dksL_law_44 21 rfl rfl)
theorem dL_law_1199 : decode cL_law 1199 = .ok (.iconst 1, 1) := dk_4 (dk_at dksL_law_44 22 rfl rfl)
theorem dL_law_1200 : decode cL_law 1200 = .ok (.iadd, 1) := dk_96 (dk_at dksL_law_44 23 rfl rfl)
theorem dL_law_1201 : decode cL_law 1201 = .ok (.iaload, 1) := dk_46 (dk_at dksL_law_45 0 rfl rfl)
theorem dL_law_1202 : decode cL_law 1202 = .ok (.aload_n 0, 1) := dk_42 (dk_at dksL_law_45 1 rfl rfl)
theorem dL_law_1203 : decode cL_law 1203 = .ok (.iload_n 3, 1) := dk_29 (dk_at dksL_law_45 2 rfl rfl)
theorem dL_law_1204 : decode cL_law 1204 = .ok (.iconst 2, 1) := dk_5 (dk_at dksL_law_45 3 rfl rfl)
theorem dL_law_1205 : decode cL_law 1205 = .ok (.iadd, 1) := dk_96 (dk_at dksL_law_45 4 rfl rfl)
theorem dL_law_1206 : decode cL_law 1206 = .ok (.iaload, 1) := dk_46 (dk_at dksL_law_45 5 rfl rfl)
theorem dL_law_1207 : decode cL_law 1207 = .ok (.invokevirtual 157, 3) := dk_182 0 157 (dk_at dksL_law_45 6 rfl rfl)
theorem dL_law_1210 : decode cL_law 1210 = .ok (.if_icmp .eq 166, 3) := dk_159 0 166 (dk_at dksL_law_45 9 rfl rfl)
theorem dL_law_1213 : decode cL_law 1213 = .ok (.iconst 0, 1) := dk_3 (dk_at dksL_law_45 12 rfl rfl)
theorem dL_law_1214 : decode cL_law 1214 = .ok (.ireturn, 1) := dk_172 (dk_at dksL_law_45 13 rfl rfl)
theorem dL_law_1215 : decode cL_law 1215 = .ok (.aload_n 1, 1) := dk_43 (dk_at dksL_law_45 14 rfl rfl)
theorem dL_law_1216 : decode cL_law 1216 = .ok (.aload_n 0, 1) := dk_42 (dk_at dksL_law_45 15 rfl rfl)
theorem dL_law_1217 : decode cL_law 1217 = .ok (.iload_n 3, 1) := dk_29 (dk_at dksL_law_45 16 rfl rfl)
theorem dL_law_1218 : decode cL_law 1218 = .ok (.iconst 1, 1) := dk_4 (dk_at dksL_law_45 17 rfl rfl)
theorem dL_law_1219 : decode cL_law 1219 = .ok (.iadd, 1) := dk_96 (dk_at dksL_law_45 18 rfl rfl)
theorem dL_law_1220 : decode cL_law 1220 = .ok (.iaload, 1) := dk_46 (dk_at dksL_law_45 19 rfl rfl)
theorem dL_law_1221 : decode cL_law 1221 = .ok (.invokevirtual 158, 3) := dk_182 0 158 (dk_at dksL_law_45 20 rfl rfl)
theorem dL_law_1224 : decode cL_law 1224 = .ok (.aload_n 2, 1) := dk_44 (dk_at dksL_law_45 23 rfl rfl)
theorem dL_law_1225 : decode cL_law 1225 = .ok (.aload_n 0, 1) := dk_42 (dk_at dksL_law_46 0 rfl rfl)
theorem dL_law_1226 : decode cL_law 1226 = .ok (.iload_n 3, 1) := dk_29 (dk_at dksL_law_46 1 rfl rfl)
theorem dL_law_1227 : decode cL_law 1227 = .ok (.iconst 1, 1) := dk_4 (dk_at dksL_law_46 2 rfl rfl)
theorem dL_law_1228 : decode cL_law 1228 = .ok (.iadd, 1) := dk_96 (dk_at dksL_law_46 3 rfl rfl)
theorem dL_law_1229 : decode cL_law 1229 = .ok (.iaload, 1) := dk_46 (dk_at dksL_law_46 4 rfl rfl)
theorem dL_law_1230 : decode cL_law 1230 = .ok (.invokevirtual 161, 3) := dk_182 0 161 (dk_at dksL_law_46 5 rfl rfl)
theorem dL_law_1233 : decode cL_law 1233 = .ok (.if_icmp .eq 143, 3) := dk_159 0 143 (dk_at dksL_law_46 8 rfl rfl)
theorem dL_law_1236 : decode cL_law 1236 = .ok (.iconst 0, 1) := dk_3 (dk_at dksL_law_46 11 rfl rfl)
theorem dL_law_1237 : decode cL_law 1237 = .ok (.ireturn, 1) := dk_172 (dk_at dksL_law_46 12 rfl rfl)
theorem dL_law_1238 : decode cL_law 1238 = .ok (.aload_n 1, 1) := dk_43 (dk_at dksL_law_46 13 rfl rfl)
theorem dL_law_1239 : decode cL_law 1239 = .ok (.aload_n 0, 1) := dk_42 (dk_at dksL_law_46 14 rfl rfl)
theorem dL_law_1240 : decode cL_law 1240 = .ok (.iload_n 3, 1) := dk_29 (dk_at dksL_law_46 15 rfl rfl)
theorem dL_law_1241 : decode cL_law 1241 = .ok (.iconst 1, 1) := dk_4 (dk_at dksL_law_46 16 rfl rfl)
theorem dL_law_1242 : decode cL_law 1242 = .ok (.iadd, 1) := dk_96 (dk_at dksL_law_46 17 rfl rfl)
theorem dL_law_1243 : decode cL_law 1243 = .ok (.iaload, 1) := dk_46 (dk_at dksL_law_46 18 rfl rfl)
theorem dL_law_1244 : decode cL_law 1244 = .ok (.aload_n 0, 1) := dk_42 (dk_at dksL_law_46 19 rfl rfl)
theorem dL_law_1245 : decode cL_law 1245 = .ok (.iload_n 3, 1) := dk_29 (dk_at dksL_law_46 20 rfl rfl)
theorem dL_law_1246 : decode cL_law 1246 = .ok (.iconst 2, 1) := dk_5 (dk_at dksL_law_46 21 rfl rfl)
theorem dL_law_1247 : decode cL_law 1247 = .ok (.iadd, 1) := dk_96 (dk_at dksL_law_46 22 rfl rfl)
theorem dL_law_1248 : decode cL_law 1248 = .ok (.iaload, 1) := dk_46 (dk_at dksL_law_46 23 rfl rfl)
theorem dL_law_1249 : decode cL_law 1249 = .ok (.aload_n 0, 1) := dk_42 (dk_at dksL_law_47 0 rfl rfl)
theorem dL_law_1250 : decode cL_law 1250 = .ok (.iload_n 3, 1) := dk_29 (dk_at dksL_law_47 1 rfl rfl)
theorem dL_law_1251 : decode cL_law 1251 = .ok (.iconst 3, 1) := dk_6 (dk_at dksL_law_47 2 rfl rfl)
theorem dL_law_1252 : decode cL_law 1252 = .ok (.iadd, 1) := dk_96 (dk_at dksL_law_47 3 rfl rfl)
theorem dL_law_1253 : decode cL_law 1253 = .ok (.iaload, 1) := dk_46 (dk_at dksL_law_47 4 rfl rfl)
theorem dL_law_1254 : decode cL_law 1254 = .ok (.invokevirtual 162, 3) := dk_182 0 162 (dk_at dksL_law_47 5 rfl rfl)
theorem dL_law_1257 : decode cL_law 1257 = .ok (.aload_n 2, 1) := dk_44 (dk_at dksL_law_47 8 rfl rfl)
theorem dL_law_1258 : decode cL_law 1258 = .ok (.aload_n 0, 1) := dk_42 (dk_at dksL_law_47 9 rfl rfl)
theorem dL_law_1259 : decode cL_law 1259 = .ok (.iload_n 3, 1) := dk_29 (dk_at dksL_law_47 10 rfl rfl)
theorem dL_law_1260 : decode cL_law 1260 = .ok (.iconst 1, 1) := dk_4 (dk_at dksL_law_47 11 rfl rfl)
theorem dL_law_1261 : decode cL_law 1261 = .ok (.iadd, 1) := dk_96 (dk_at dksL_law_47 12 rfl rfl)
theorem dL_law_1262 : decode cL_law 1262 = .ok (.iaload, 1) := dk_46 (dk_at dksL_law_47 13 rfl rfl)
theorem dL_law_1263 : decode cL_law 1263 = .ok (.aload_n 0, 1) := dk_42 (dk_at dksL_law_47 14 rfl rfl)
theorem dL_law_1264 : decode cL_law 1264 = .ok (.iload_n 3, 1) := dk_29 (dk_at dksL_law_47 15 rfl rfl)
theorem dL_law_1265 : decode cL_law 1265 = .ok (.iconst 2, 1) := dk_5 (dk_at dksL_law_47 16 rfl rfl)
theorem dL_law_1266 : decode cL_law 1266 = .ok (.iadd, 1) := dk_96 (dk_at dksL_law_47 17 rfl rfl)
theorem dL_law_1267 : decode cL_law 1267 = .ok (.iaload, 1) := dk_46 (dk_at dksL_law_47 18 rfl rfl)
theorem dL_law_1268 : decode cL_law 1268 = .ok (.aload_n 0, 1) := dk_42 (dk_at dksL_law_47 19 rfl rfl)
theorem dL_law_1269 : decode cL_law 1269 = .ok (.iload_n 3, 1) := dk_29 (dk_at dksL_law_47 20 rfl rfl)
theorem dL_law_1270 : decode cL_law 1270 = .ok (.iconst 3, 1) := dk_6 (dk_at dksL_law_47 21 rfl rfl)
theorem dL_law_1271 : decode cL_law 1271 = .ok (.iadd, 1) := dk_96 (dk_at dksL_law_47 22 rfl rfl)
theorem dL_law_1272 : decode cL_law 1272 = .ok (.iaload, 1) := dk_46 (dk_at dksL_law_47 23 rfl rfl)
theorem dL_law_1273 : decode cL_law 1273 = .ok (.invokevirtual 165, 3) := dk_182 0 165 (dk_at dksL_law_48 0 rfl rfl)
theorem dL_law_1276 : decode cL_law 1276 = .ok (.if_icmp .eq 100, 3) := dk_159 0 100 (dk_at dksL_law_48 3 rfl rfl)
theorem dL_law_1279 : decode cL_law 1279 = .ok (.iconst 0, 1) := dk_3 (dk_at dksL_law_48 6 rfl rfl)
theorem dL_law_1280 : decode cL_law 1280 = .ok (.ireturn, 1) := dk_172 (dk_at dksL_law_48 7 rfl rfl)
theorem dL_law_1281 : decode cL_law 1281 = .ok (.aload_n 1, 1) := dk_43 (dk_at dksL_law_48 8 rfl rfl)
theorem dL_law_1282 : decode cL_law 1282 = .ok (.aload_n 0, 1) := dk_42 (dk_at dksL_law_48 9 rfl rfl)
theorem dL_law_1283 : decode cL_law 1283 = .ok (.iload_n 3, 1) := dk_29 (dk_at dksL_law_48 10 rfl rfl)
theorem dL_law_1284 : decode cL_law 1284 = .ok (.iconst 1, 1) := dk_4 (dk_at dksL_law_48 11 rfl rfl)
theorem dL_law_1285 : decode cL_law 1285 = .ok (.iadd, 1) := dk_96 (dk_at dksL_law_48 12 rfl rfl)
theorem dL_law_1286 : decode cL_law 1286 = .ok (.iaload, 1) := dk_46 (dk_at dksL_law_48 13 rfl rfl)
theorem dL_law_1287 : decode cL_law 1287 = .ok (.invokevirtual 166, 3) := dk_182 0 166 (dk_at dksL_law_48 14 rfl rfl)
theorem dL_law_1290 : decode cL_law 1290 = .ok (.aload_n 2, 1) := dk_44 (dk_at dksL_law_48 17 rfl rfl)
theorem dL_law_1291 : decode cL_law 1291 = .ok (.aload_n 0, 1) := dk_42 (dk_at dksL_law_48 18 rfl rfl)
theorem dL_law_1292 : decode cL_law 1292 = .ok (.iload_n 3, 1) := dk_29 (dk_at dksL_law_48 19 rfl rfl)
theorem dL_law_1293 : decode cL_law 1293 = .ok (.iconst 1, 1) := dk_4 (dk_at dksL_law_48 20 rfl rfl)
theorem dL_law_1294 : decode cL_law 1294 = .ok (.iadd, 1) := dk_96 (dk_at dksL_law_48 21 rfl rfl)
theorem dL_law_1295 : decode cL_law 1295 = .ok (.iaload, 1) := dk_46 (dk_at dksL_law_48 22 rfl rfl)
theorem dL_law_1296 : decode cL_law 1296 = .ok (.invokevirtual 169, 3) := dk_182 0 169 (dk_at dksL_law_49 0 rfl rfl)
theorem dL_law_1299 : decode cL_law 1299 = .ok (.if_icmp .eq 77, 3) := dk_159 0 77 (dk_at dksL_law_49 3 rfl rfl)
theorem dL_law_1302 : decode cL_law 1302 = .ok (.iconst 0, 1) := dk_3 (dk_at dksL_law_49 6 rfl rfl)
theorem dL_law_1303 : decode cL_law 1303 = .ok (.ireturn, 1) := dk_172 (dk_at dksL_law_49 7 rfl rfl)
theorem dL_law_1304 : decode cL_law 1304 = .ok (.aload_n 1, 1) := dk_43 (dk_at dksL_law_49 8 rfl rfl)
theorem dL_law_1305 : decode cL_law 1305 = .ok (.aload_n 0, 1) := dk_42 (dk_at dksL_law_49 9 rfl rfl)
theorem dL_law_1306 : decode cL_law 1306 = .ok (.iload_n 3, 1) := dk_29 (dk_at dksL_law_49 10 rfl rfl)
theorem dL_law_1307 : decode cL_law 1307 = .ok (.iconst 1, 1) := dk_4 (dk_at dksL_law_49 11 rfl rfl)
theorem dL_law_1308 : decode cL_law 1308 = .ok (.iadd, 1) := dk_96 (dk_at dksL_law_49 12 rfl rfl)
theorem dL_law_1309 : decode cL_law 1309 = .ok (.iaload, 1) := dk_46 (dk_at dksL_law_49 13 rfl rfl)
theorem dL_law_1310 : decode cL_law 1310 = .ok (.invokevirtual 170, 3) := dk_182 0 170 (dk_at dksL_law_49 14 rfl rfl)
theorem dL_law_1313 : decode cL_law 1313 = .ok (.aload_n 2, 1) := dk_44 (dk_at dksL_law_49 17 rfl rfl)
theorem dL_law_1314 : decode cL_law 1314 = .ok (.aload_n 0, 1) := dk_42 (dk_at dksL_law_49 18 rfl rfl)
theorem dL_law_1315 : decode cL_law 1315 = .ok (.iload_n 3, 1) := dk_29 (dk_at dksL_law_49 19 rfl rfl)
theorem dL_law_1316 : decode cL_law 1316 = .ok (.iconst 1, 1) := dk_4 (dk_at dksL_law_49 20 rfl rfl)
theorem dL_law_1317 : decode cL_law 1317 = .ok (.iadd, 1) := dk_96 (dk_at dksL_law_49 21 rfl rfl)
theorem dL_law_1318 : decode cL_law 1318 = .ok (.iaload, 1) := dk_46 (dk_at dksL_law_49 22 rfl rfl)
theorem dL_law_1319 : decode cL_law 1319 = .ok (.invokevirtual 173, 3) := dk_182 0 173 (dk_at dksL_law_50 0 rfl rfl)
theorem dL_law_1322 : decode cL_law 1322 = .ok (.if_icmp .eq 54, 3) := dk_159 0 54 (dk_at dksL_law_50 3 rfl rfl)
theorem dL_law_1325 : decode cL_law 1325 = .ok (.iconst 0, 1) := dk_3 (dk_at dksL_law_50 6 rfl rfl)
theorem dL_law_1326 : decode cL_law 1326 = .ok (.ireturn, 1) := dk_172 (dk_at dksL_law_50 7 rfl rfl)
theorem dL_law_1327 : decode cL_law 1327 = .ok (.aload_n 1, 1) := dk_43 (dk_at dksL_law_50 8 rfl rfl)
theorem dL_law_1328 : decode cL_law 1328 = .ok (.invokevirtual 174, 3) := dk_182 0 174 (dk_at dksL_law_50 9 rfl rfl)
theorem dL_law_1331 : decode cL_law 1331 = .ok (.aload_n 2, 1) := dk_44 (dk_at dksL_law_50 12 rfl rfl)
theorem dL_law_1332 : decode cL_law 1332 = .ok (.invokevirtual 177, 3) := dk_182 0 177 (dk_at dksL_law_50 13 rfl rfl)
theorem dL_law_1335 : decode cL_law 1335 = .ok (.if_icmp .eq 41, 3) := dk_159 0 41 (dk_at dksL_law_50 16 rfl rfl)
theorem dL_law_1338 : decode cL_law 1338 = .ok (.iconst 0, 1) := dk_3 (dk_at dksL_law_50 19 rfl rfl)
theorem dL_law_1339 : decode cL_law 1339 = .ok (.ireturn, 1) := dk_172 (dk_at dksL_law_50 20 rfl rfl)
theorem dL_law_1340 : decode cL_law 1340 = .ok (.aload_n 1, 1) := dk_43 (dk_at dksL_law_50 21 rfl rfl)
theorem dL_law_1341 : decode cL_law 1341 = .ok (.invokevirtual 178, 3) := dk_182 0 178 (dk_at dksL_law_51 0 rfl rfl)
theorem dL_law_1344 : decode cL_law 1344 = .ok (.aload_n 2, 1) := dk_44 (dk_at dksL_law_51 3 rfl rfl)
theorem dL_law_1345 : decode cL_law 1345 = .ok (.invokevirtual 181, 3) := dk_182 0 181 (dk_at dksL_law_51 4 rfl rfl)
theorem dL_law_1348 : decode cL_law 1348 = .ok (.if_icmp .eq 28, 3) := dk_159 0 28 (dk_at dksL_law_51 7 rfl rfl)
theorem dL_law_1351 : decode cL_law 1351 = .ok (.iconst 0, 1) := dk_3 (dk_at dksL_law_51 10 rfl rfl)
theorem dL_law_1352 : decode cL_law 1352 = .ok (.ireturn, 1) := dk_172 (dk_at dksL_law_51 11 rfl rfl)
theorem dL_law_1353 : decode cL_law 1353 = .ok (.aload_n 1, 1) := dk_43 (dk_at dksL_law_51 12 rfl rfl)
theorem dL_law_1354 : decode cL_law 1354 = .ok (.aload_n 0, 1) := dk_42 (dk_at dksL_law_51 13 rfl rfl)
theorem dL_law_1355 : decode cL_law 1355 = .ok (.iload_n 3, 1) := dk_29 (dk_at dksL_law_51 14 rfl rfl)
theorem dL_law_1356 : decode cL_law 1356 = .ok (.iconst 1, 1) := dk_4 (dk_at dksL_law_51 15 rfl rfl)
theorem dL_law_1357 : decode cL_law 1357 = .ok (.iadd, 1) := dk_96 (dk_at dksL_law_51 16 rfl rfl)
theorem dL_law_1358 : decode cL_law 1358 = .ok (.iaload, 1) := dk_46 (dk_at dksL_law_51 17 rfl rfl)
theorem dL_law_1359 : decode cL_law 1359 = .ok (.invokevirtual 182, 3) := dk_182 0 182 (dk_at dksL_law_51 18 rfl rfl)
theorem dL_law_1362 : decode cL_law 1362 = .ok (.aload_n 2, 1) := dk_44 (dk_at dksL_law_51 21 rfl rfl)
theorem dL_law_1363 : decode cL_law 1363 = .ok (.aload_n 0, 1) := dk_42 (dk_at dksL_law_51 22 rfl rfl)
theorem dL_law_1364 : decode cL_law 1364 = .ok (.iload_n 3, 1) := dk_29 (dk_at dksL_law_51 23 rfl rfl)
theorem dL_law_1365 : decode cL_law 1365 = .ok (.iconst 1, 1) := dk_4 (dk_at dksL_law_52 0 rfl rfl)
theorem dL_law_1366 : decode cL_law 1366 = .ok (.iadd, 1) := dk_96 (dk_at dksL_law_52 1 rfl rfl)
theorem dL_law_1367 : decode cL_law 1367 = .ok (.iaload, 1) := dk_46 (dk_at dksL_law_52 2 rfl rfl)
theorem dL_law_1368 : decode cL_law 1368 = .ok (.invokevirtual 185, 3) := dk_182 0 185 (dk_at dksL_law_52 3 rfl rfl)
theorem dL_law_1371 : decode cL_law 1371 = .ok (.if_icmp .eq 5, 3) := dk_159 0 5 (dk_at dksL_law_52 6 rfl rfl)
theorem dL_law_1374 : decode cL_law 1374 = .ok (.iconst 0, 1) := dk_3 (dk_at dksL_law_52 9 rfl rfl)
theorem dL_law_1375 : decode cL_law 1375 = .ok (.ireturn, 1) := dk_172 (dk_at dksL_law_52 10 rfl rfl)
theorem dL_law_1376 : decode cL_law 1376 = .ok (.iinc 3 6, 3) := dk_132 3 6 (dk_at dksL_law_52 11 rfl rfl)
theorem dL_law_1379 : decode cL_law 1379 = .ok (.goto (-1361), 3) := dk_167 250 175 (dk_at dksL_law_52 14 rfl rfl)
theorem dL_law_1382 : decode cL_law 1382 = .ok (.iconst 1, 1) := dk_4 (dk_at dksL_law_52 17 rfl rfl)
theorem dL_law_1383 : decode cL_law 1383 = .ok (.ireturn, 1) := dk_172 (dk_at dksL_law_52 18 rfl rfl)
