/-! WarByHoursModel -/
set_option maxRecDepth 100000
def RX11 : String := "WarByHoursModel"
def TX11 : u_T := fun k => match k with
  | 0 => ("WarByHoursModel", "thrown", "I", false)
  | 1 => ("WarByHoursModel", "world", "[I", true)
  | 2 => ("WarByHoursModel", "images", "[I", true)
  | 3 => ("WarByHoursModel", "hasImage", "[Z", true)
  | 4 => ("WarByHoursModel", "tape", "[B", true)
  | 5 => ("WarByHoursModel", "taped", "I", false)
  | 6 => ("WarByHoursModel", "five", "[I", true)
  | 7 => ("WarByHoursModel", "size", "I", false)
  | 8 => ("WarByHoursModel", "at", "I", false)
  | 9 => ("WarByHoursModel", "from", "I", false)
  | 10 => ("WarByHoursModel", "token", "I", false)
  | 11 => ("WarByHoursModel", "value", "I", false)
  | 12 => ("WarByHoursModel", "faultKind", "I", false)
  | 13 => ("WarByHoursModel", "faultPlace", "I", false)
  | 14 => ("WarByHoursModel", "fresh", "[I", true)
  | 15 => ("WarByHoursModel", "front", "[I", true)
  | 16 => ("WarByHoursModel", "worstSet", "I", false)
  | 17 => ("WarByHoursModel", "winners", "[I", true)
  | 18 => ("WarByHoursModel", "leastPrice", "I", false)
  | 19 => ("WarByHoursModel", "leastSet", "I", false)
  | 20 => ("WarByHoursModel", "guardPrice", "I", false)
  | 21 => ("WarByHoursModel", "fronts", "[I", true)
  | 22 => ("WarByHoursModel", "spoiltSet", "I", false)
  | 23 => ("WarByHoursModel", "put", "[I", true)
  | 24 => ("WarByHoursModel", "firstPut", "[I", true)
  | 25 => ("WarByHoursModel", "firstReply", "[I", true)
  | 26 => ("WarByHoursModel", "watchWorst", "I", false)
  | 27 => ("WarByHoursModel", "grantSet", "I", false)
  | 28 => ("WarByHoursModel", "many", "[I", true)
  | 29 => ("WarByHoursModel", "width", "[I", true)
  | 30 => ("WarByHoursModel", "numbers", "[J", true)
  | _ => ("WarByHoursModel", "moving", "[J", true)
def tyX11 : Nat → FieldType := fun k => match k with
  | 0 => .int
  | 1 => .array .int
  | 2 => .array .int
  | 3 => .array .boolean
  | 4 => .array .byte
  | 5 => .int
  | 6 => .array .int
  | 7 => .int
  | 8 => .int
  | 9 => .int
  | 10 => .int
  | 11 => .int
  | 12 => .int
  | 13 => .int
  | 14 => .array .int
  | 15 => .array .int
  | 16 => .int
  | 17 => .array .int
  | 18 => .int
  | 19 => .int
  | 20 => .int
  | 21 => .array .int
  | 22 => .int
  | 23 => .array .int
  | 24 => .array .int
  | 25 => .array .int
  | 26 => .int
  | 27 => .int
  | 28 => .array .int
  | 29 => .array .int
  | 30 => .array .long
  | _ => .array .long
abbrev wsX110 : List Cond := u_ws RX11 TX11 32
set_option maxRecDepth 100000 in
theorem nmX11 : ∀ a, a < 32 → ∀ b, b < 32 → a ≠ b → (TX11 a).2.1 ≠ (TX11 b).2.1 := by decide +kernel
set_option maxRecDepth 100000 in
theorem tyX11_ok : ∀ k, k < 32 → parseFieldDescriptor (TX11 k).2.2.1 = some (tyX11 k) := by decide +kernel
abbrev cX11_init : ByteArray := prog_19_method_1_code
def yX11_init : MethodName := ⟨RX11, "<init>", "()V"⟩
def dkwX11_init_6 : List UInt8 := [181, 0, 58, 42, 16, 60, 188, 11, 181, 0, 62, 177]
abbrev dktX11_init_6 : List UInt8 := dkwX11_init_6 ++ []
def dkwX11_init_5 : List UInt8 := [89, 5, 2, 79, 89, 6, 2, 79, 181, 0, 52, 42, 7, 188, 10, 181, 0, 55, 42, 17, 0, 240, 188, 11]
abbrev dktX11_init_5 : List UInt8 := dkwX11_init_5 ++ dktX11_init_6
def dkwX11_init_4 : List UInt8 := [188, 10, 181, 0, 46, 42, 6, 188, 10, 181, 0, 49, 42, 7, 188, 10, 89, 3, 2, 79, 89, 4, 2, 79]
abbrev dktX11_init_4 : List UInt8 := dkwX11_init_4 ++ dktX11_init_5
def dkwX11_init_3 : List UInt8 := [188, 10, 181, 0, 37, 42, 17, 2, 0, 188, 10, 181, 0, 40, 42, 6, 188, 10, 181, 0, 43, 42, 6]
abbrev dktX11_init_3 : List UInt8 := dkwX11_init_3 ++ dktX11_init_4
def dkwX11_init_2 : List UInt8 := [181, 0, 27, 42, 17, 0, 240, 188, 10, 181, 0, 31, 42, 16, 61, 188, 10, 181, 0, 34, 42, 17, 2, 0]
abbrev dktX11_init_2 : List UInt8 := dkwX11_init_2 ++ dktX11_init_3
def dkwX11_init_1 : List UInt8 := [188, 4, 181, 0, 16, 42, 17, 4, 176, 188, 8, 181, 0, 20, 42, 8, 188, 10, 181, 0, 24, 42, 2]
abbrev dktX11_init_1 : List UInt8 := dkwX11_init_1 ++ dktX11_init_2
def dkwX11_init_0 : List UInt8 := [42, 183, 0, 3, 42, 17, 0, 240, 188, 10, 181, 0, 9, 42, 17, 2, 208, 188, 10, 181, 0, 13, 42, 6]
abbrev dktX11_init_0 : List UInt8 := dkwX11_init_0 ++ dktX11_init_1
theorem dksX11_init_0 : cX11_init.data.toList.drop 0 = dktX11_init_0 := by decide +kernel
theorem dksX11_init_1 : cX11_init.data.toList.drop 24 = dktX11_init_1 := dk_seg dksX11_init_0 24 rfl rfl
theorem dksX11_init_2 : cX11_init.data.toList.drop 47 = dktX11_init_2 := dk_seg dksX11_init_1 23 rfl rfl
theorem dksX11_init_3 : cX11_init.data.toList.drop 71 = dktX11_init_3 := dk_seg dksX11_init_2 24 rfl rfl
theorem dksX11_init_4 : cX11_init.data.toList.drop 94 = dktX11_init_4 := dk_seg dksX11_init_3 23 rfl rfl
theorem dksX11_init_5 : cX11_init.data.toList.drop 118 = dktX11_init_5 := dk_seg dksX11_init_4 24 rfl rfl
theorem dksX11_init_6 : cX11_init.data.toList.drop 142 = dktX11_init_6 := dk_seg dksX11_init_5 24 rfl rfl
theorem dX11_init_0 : decode cX11_init 0 = .ok (.aload_n 0, 1) := dk_42 (dk_at dksX11_init_0 0 rfl rfl)
theorem dX11_init_1 : decode cX11_init 1 = .ok (.invokespecial 3, 3) := dk_183 0 3 (dk_at dksX11_init_0 1 rfl rfl)
theorem dX11_init_4 : decode cX11_init 4 = .ok (.aload_n 0, 1) := dk_42 (dk_at dksX11_init_0 4 rfl rfl)
theorem dX11_init_5 : decode cX11_init 5 = .ok (.sipush 240, 3) := dk_17 0 240 (dk_at dksX11_init_0 5 rfl rfl)
theorem dX11_init_8 : decode cX11_init 8 = .ok (.newarray .int, 2) := dk_188_10 (dk_at dksX11_init_0 8 rfl rfl)
theorem dX11_init_10 : decode cX11_init 10 = .ok (.putfield 9, 3) := dk_181 0 9 (dk_at dksX11_init_0 10 rfl rfl)
theorem dX11_init_13 : decode cX11_init 13 = .ok (.aload_n 0, 1) := dk_42 (dk_at dksX11_init_0 13 rfl rfl)
theorem dX11_init_14 : decode cX11_init 14 = .ok (.sipush 720, 3) := dk_17 2 208 (dk_at dksX11_init_0 14 rfl rfl)
theorem dX11_init_17 : decode cX11_init 17 = .ok (.newarray .int, 2) := dk_188_10 (dk_at dksX11_init_0 17 rfl rfl)
theorem dX11_init_19 : decode cX11_init 19 = .ok (.putfield 13, 3) := dk_181 0 13 (dk_at dksX11_init_0 19 rfl rfl)
theorem dX11_init_22 : decode cX11_init 22 = .ok (.aload_n 0, 1) := dk_42 (dk_at dksX11_init_0 22 rfl rfl)
theorem dX11_init_23 : decode cX11_init 23 = .ok (.iconst 3, 1) := dk_6 (dk_at dksX11_init_0 23 rfl rfl)
theorem dX11_init_24 : decode cX11_init 24 = .ok (.newarray .boolean, 2) := dk_188_4 (dk_at dksX11_init_1 0 rfl rfl)
theorem dX11_init_26 : decode cX11_init 26 = .ok (.putfield 16, 3) := dk_181 0 16 (dk_at dksX11_init_1 2 rfl rfl)
theorem dX11_init_29 : decode cX11_init 29 = .ok (.aload_n 0, 1) := dk_42 (dk_at dksX11_init_1 5 rfl rfl)
theorem dX11_init_30 : decode cX11_init 30 = .ok (.sipush 1200, 3) := dk_17 4 176 (dk_at dksX11_init_1 6 rfl rfl)
theorem dX11_init_33 : decode cX11_init 33 = .ok (.newarray .byte, 2) := dk_188_8 (dk_at dksX11_init_1 9 rfl rfl)
theorem dX11_init_35 : decode cX11_init 35 = .ok (.putfield 20, 3) := dk_181 0 20 (dk_at dksX11_init_1 11 rfl rfl)
theorem dX11_init_38 : decode cX11_init 38 = .ok (.aload_n 0, 1) := dk_42 (dk_at dksX11_init_1 14 rfl rfl)
theorem dX11_init_39 : decode cX11_init 39 = .ok (.iconst 5, 1) := dk_8 (dk_at dksX11_init_1 15 rfl rfl)
theorem dX11_init_40 : decode cX11_init 40 = .ok (.newarray .int, 2) := dk_188_10 (dk_at dksX11_init_1 16 rfl rfl)
theorem dX11_init_42 : decode cX11_init 42 = .ok (.putfield 24, 3) := dk_181 0 24 (dk_at dksX11_init_1 18 rfl rfl)
theorem dX11_init_45 : decode cX11_init 45 = .ok (.aload_n 0, 1) := dk_42 (dk_at dksX11_init_1 21 rfl rfl)
theorem dX11_init_46 : decode cX11_init 46 = .ok (.iconst (-1), 1) := dk_2 (dk_at dksX11_init_1 22 rfl rfl)
theorem dX11_init_47 : decode cX11_init 47 = .ok (.putfield 27, 3) := dk_181 0 27 (dk_at dksX11_init_2 0 rfl rfl)
theorem dX11_init_50 : decode cX11_init 50 = .ok (.aload_n 0, 1) := dk_42 (dk_at dksX11_init_2 3 rfl rfl)
theorem dX11_init_51 : decode cX11_init 51 = .ok (.sipush 240, 3) := dk_17 0 240 (dk_at dksX11_init_2 4 rfl rfl)
theorem dX11_init_54 : decode cX11_init 54 = .ok (.newarray .int, 2) := dk_188_10 (dk_at dksX11_init_2 7 rfl rfl)
theorem dX11_init_56 : decode cX11_init 56 = .ok (.putfield 31, 3) := dk_181 0 31 (dk_at dksX11_init_2 9 rfl rfl)
theorem dX11_init_59 : decode cX11_init 59 = .ok (.aload_n 0, 1) := dk_42 (dk_at dksX11_init_2 12 rfl rfl)
theorem dX11_init_60 : decode cX11_init 60 = .ok (.bipush 61, 2) := dk_16 61 (dk_at dksX11_init_2 13 rfl rfl)
theorem dX11_init_62 : decode cX11_init 62 = .ok (.newarray .int, 2) := dk_188_10 (dk_at dksX11_init_2 15 rfl rfl)
theorem dX11_init_64 : decode cX11_init 64 = .ok (.putfield 34, 3) := dk_181 0 34 (dk_at dksX11_init_2 17 rfl rfl)
theorem dX11_init_67 : decode cX11_init 67 = .ok (.aload_n 0, 1) := dk_42 (dk_at dksX11_init_2 20 rfl rfl)
theorem dX11_init_68 : decode cX11_init 68 = .ok (.sipush 512, 3) := dk_17 2 0 (dk_at dksX11_init_2 21 rfl rfl)
theorem dX11_init_71 : decode cX11_init 71 = .ok (.newarray .int, 2) := dk_188_10 (dk_at dksX11_init_3 0 rfl rfl)
theorem dX11_init_73 : decode cX11_init 73 = .ok (.putfield 37, 3) := dk_181 0 37 (dk_at dksX11_init_3 2 rfl rfl)
theorem dX11_init_76 : decode cX11_init 76 = .ok (.aload_n 0, 1) := dk_42 (dk_at dksX11_init_3 5 rfl rfl)
theorem dX11_init_77 : decode cX11_init 77 = .ok (.sipush 512, 3) := dk_17 2 0 (dk_at dksX11_init_3 6 rfl rfl)
theorem dX11_init_80 : decode cX11_init 80 = .ok (.newarray .int, 2) := dk_188_10 (dk_at dksX11_init_3 9 rfl rfl)
theorem dX11_init_82 : decode cX11_init 82 = .ok (.putfield 40, 3) := dk_181 0 40 (dk_at dksX11_init_3 11 rfl rfl)
theorem dX11_init_85 : decode cX11_init 85 = .ok (.aload_n 0, 1) := dk_42 (dk_at dksX11_init_3 14 rfl rfl)
theorem dX11_init_86 : decode cX11_init 86 = .ok (.iconst 3, 1) := dk_6 (dk_at dksX11_init_3 15 rfl rfl)
theorem dX11_init_87 : decode cX11_init 87 = .ok (.newarray .int, 2) := dk_188_10 (dk_at dksX11_init_3 16 rfl rfl)
theorem dX11_init_89 : decode cX11_init 89 = .ok (.putfield 43, 3) := dk_181 0 43 (dk_at dksX11_init_3 18 rfl rfl)
theorem dX11_init_92 : decode cX11_init 92 = .ok (.aload_n 0, 1) := dk_42 (dk_at dksX11_init_3 21 rfl rfl)
theorem dX11_init_93 : decode cX11_init 93 = .ok (.iconst 3, 1) := dk_6 (dk_at dksX11_init_3 22 rfl rfl)
theorem dX11_init_94 : decode cX11_init 94 = .ok (.newarray .int, 2) := dk_188_10 (dk_at dksX11_init_4 0 rfl rfl)
theorem dX11_init_96 : decode cX11_init 96 = .ok (.putfield 46, 3) := dk_181 0 46 (dk_at dksX11_init_4 2 rfl rfl)
theorem dX11_init_99 : decode cX11_init 99 = .ok (.aload_n 0, 1) := dk_42 (dk_at dksX11_init_4 5 rfl rfl)
theorem dX11_init_100 : decode cX11_init 100 = .ok (.iconst 3, 1) := dk_6 (dk_at dksX11_init_4 6 rfl rfl)
theorem dX11_init_101 : decode cX11_init 101 = .ok (.newarray .int, 2) := dk_188_10 (dk_at dksX11_init_4 7 rfl rfl)
theorem dX11_init_103 : decode cX11_init 103 = .ok (.putfield 49, 3) := dk_181 0 49 (dk_at dksX11_init_4 9 rfl rfl)
theorem dX11_init_106 : decode cX11_init 106 = .ok (.aload_n 0, 1) := dk_42 (dk_at dksX11_init_4 12 rfl rfl)
theorem dX11_init_107 : decode cX11_init 107 = .ok (.iconst 4, 1) := dk_7 (dk_at dksX11_init_4 13 rfl rfl)
theorem dX11_init_108 : decode cX11_init 108 = .ok (.newarray .int, 2) := dk_188_10 (dk_at dksX11_init_4 14 rfl rfl)
theorem dX11_init_110 : decode cX11_init 110 = .ok (.dup, 1) := dk_89 (dk_at dksX11_init_4 16 rfl rfl)
theorem dX11_init_111 : decode cX11_init 111 = .ok (.iconst 0, 1) := dk_3 (dk_at dksX11_init_4 17 rfl rfl)
theorem dX11_init_112 : decode cX11_init 112 = .ok (.iconst (-1), 1) := dk_2 (dk_at dksX11_init_4 18 rfl rfl)
theorem dX11_init_113 : decode cX11_init 113 = .ok (.iastore, 1) := dk_79 (dk_at dksX11_init_4 19 rfl rfl)
theorem dX11_init_114 : decode cX11_init 114 = .ok (.dup, 1) := dk_89 (dk_at dksX11_init_4 20 rfl rfl)
theorem dX11_init_115 : decode cX11_init 115 = .ok (.iconst 1, 1) := dk_4 (dk_at dksX11_init_4 21 rfl rfl)
theorem dX11_init_116 : decode cX11_init 116 = .ok (.iconst (-1), 1) := dk_2 (dk_at dksX11_init_4 22 rfl rfl)
theorem dX11_init_117 : decode cX11_init 117 = .ok (.iastore, 1) := dk_79 (dk_at dksX11_init_4 23 rfl rfl)
theorem dX11_init_118 : decode cX11_init 118 = .ok (.dup, 1) := dk_89 (dk_at dksX11_init_5 0 rfl rfl)
theorem dX11_init_119 : decode cX11_init 119 = .ok (.iconst 2, 1) := dk_5 (dk_at dksX11_init_5 1 rfl rfl)
theorem dX11_init_120 : decode cX11_init 120 = .ok (.iconst (-1), 1) := dk_2 (dk_at dksX11_init_5 2 rfl rfl)
theorem dX11_init_121 : decode cX11_init 121 = .ok (.iastore, 1) := dk_79 (dk_at dksX11_init_5 3 rfl rfl)
theorem dX11_init_122 : decode cX11_init 122 = .ok (.dup, 1) := dk_89 (dk_at dksX11_init_5 4 rfl rfl)
theorem dX11_init_123 : decode cX11_init 123 = .ok (.iconst 3, 1) := dk_6 (dk_at dksX11_init_5 5 rfl rfl)
theorem dX11_init_124 : decode cX11_init 124 = .ok (.iconst (-1), 1) := dk_2 (dk_at dksX11_init_5 6 rfl rfl)
theorem dX11_init_125 : decode cX11_init 125 = .ok (.iastore, 1) := dk_79 (dk_at dksX11_init_5 7 rfl rfl)
theorem dX11_init_126 : decode cX11_init 126 = .ok (.putfield 52, 3) := dk_181 0 52 (dk_at dksX11_init_5 8 rfl rfl)
theorem dX11_init_129 : decode cX11_init 129 = .ok (.aload_n 0, 1) := dk_42 (dk_at dksX11_init_5 11 rfl rfl)
theorem dX11_init_130 : decode cX11_init 130 = .ok (.iconst 4, 1) := dk_7 (dk_at dksX11_init_5 12 rfl rfl)
theorem dX11_init_131 : decode cX11_init 131 = .ok (.newarray .int, 2) := dk_188_10 (dk_at dksX11_init_5 13 rfl rfl)
theorem dX11_init_133 : decode cX11_init 133 = .ok (.putfield 55, 3) := dk_181 0 55 (dk_at dksX11_init_5 15 rfl rfl)
theorem dX11_init_136 : decode cX11_init 136 = .ok (.aload_n 0, 1) := dk_42 (dk_at dksX11_init_5 18 rfl rfl)
theorem dX11_init_137 : decode cX11_init 137 = .ok (.sipush 240, 3) := dk_17 0 240 (dk_at dksX11_init_5 19 rfl rfl)
theorem dX11_init_140 : decode cX11_init 140 = .ok (.newarray .long, 2) := dk_188_11 (dk_at dksX11_init_5 22 rfl rfl)
theorem dX11_init_142 : decode cX11_init 142 = .ok (.putfield 58, 3) := dk_181 0 58 (dk_at dksX11_init_6 0 rfl rfl)
theorem dX11_init_145 : decode cX11_init 145 = .ok (.aload_n 0, 1) := dk_42 (dk_at dksX11_init_6 3 rfl rfl)
theorem dX11_init_146 : decode cX11_init 146 = .ok (.bipush 60, 2) := dk_16 60 (dk_at dksX11_init_6 4 rfl rfl)
theorem dX11_init_148 : decode cX11_init 148 = .ok (.newarray .long, 2) := dk_188_11 (dk_at dksX11_init_6 6 rfl rfl)
theorem dX11_init_150 : decode cX11_init 150 = .ok (.putfield 62, 3) := dk_181 0 62 (dk_at dksX11_init_6 8 rfl rfl)
theorem dX11_init_153 : decode cX11_init 153 = .ok (.return_, 1) := dk_177 (dk_at dksX11_init_6 11 rfl rfl)
abbrev cX11_image : ByteArray := prog_19_method_6_code
def yX11_image : MethodName := ⟨RX11, "image", "(I)I"⟩
def dkwX11_image_2 : List UInt8 := [42, 180, 0, 16, 27, 4, 84, 3, 172]
abbrev dktX11_image_2 : List UInt8 := dkwX11_image_2 ++ []
def dkwX11_image_1 : List UInt8 := [42, 180, 0, 13, 17, 0, 240, 27, 104, 28, 96, 42, 180, 0, 9, 28, 46, 79, 132, 2, 1, 167, 255, 228]
abbrev dktX11_image_1 : List UInt8 := dkwX11_image_1 ++ dktX11_image_2
def dkwX11_image_0 : List UInt8 := [27, 133, 9, 20, 0, 68, 184, 0, 70, 154, 0, 6, 16, 254, 172, 3, 61, 28, 17, 0, 240, 162, 0, 27]
abbrev dktX11_image_0 : List UInt8 := dkwX11_image_0 ++ dktX11_image_1
theorem dksX11_image_0 : cX11_image.data.toList.drop 0 = dktX11_image_0 := by decide +kernel
theorem dksX11_image_1 : cX11_image.data.toList.drop 24 = dktX11_image_1 := dk_seg dksX11_image_0 24 rfl rfl
theorem dksX11_image_2 : cX11_image.data.toList.drop 48 = dktX11_image_2 := dk_seg dksX11_image_1 24 rfl rfl
theorem dX11_image_0 : decode cX11_image 0 = .ok (.iload_n 1, 1) := dk_27 (dk_at dksX11_image_0 0 rfl rfl)
theorem dX11_image_1 : decode cX11_image 1 = .ok (.i2l, 1) := dk_133 (dk_at dksX11_image_0 1 rfl rfl)
theorem dX11_image_2 : decode cX11_image 2 = .ok (.lconst 0, 1) := dk_9 (dk_at dksX11_image_0 2 rfl rfl)
theorem dX11_image_3 : decode cX11_image 3 = .ok (.ldc2_w 68, 3) := dk_20 0 68 (dk_at dksX11_image_0 3 rfl rfl)
theorem dX11_image_6 : decode cX11_image 6 = .ok (.invokestatic 70, 3) := dk_184 0 70 (dk_at dksX11_image_0 6 rfl rfl)
theorem dX11_image_9 : decode cX11_image 9 = .ok (.ifCond .ne 6, 3) := dk_154 0 6 (dk_at dksX11_image_0 9 rfl rfl)
theorem dX11_image_12 : decode cX11_image 12 = .ok (.bipush (-2), 2) := dk_16 254 (dk_at dksX11_image_0 12 rfl rfl)
theorem dX11_image_14 : decode cX11_image 14 = .ok (.ireturn, 1) := dk_172 (dk_at dksX11_image_0 14 rfl rfl)
theorem dX11_image_15 : decode cX11_image 15 = .ok (.iconst 0, 1) := dk_3 (dk_at dksX11_image_0 15 rfl rfl)
theorem dX11_image_16 : decode cX11_image 16 = .ok (.istore_n 2, 1) := dk_61 (dk_at dksX11_image_0 16 rfl rfl)
theorem dX11_image_17 : decode cX11_image 17 = .ok (.iload_n 2, 1) := dk_28 (dk_at dksX11_image_0 17 rfl rfl)
theorem dX11_image_18 : decode cX11_image 18 = .ok (.sipush 240, 3) := dk_17 0 240 (dk_at dksX11_image_0 18 rfl rfl)
theorem dX11_image_21 : decode cX11_image 21 = .ok (.if_icmp .ge 27, 3) := dk_162 0 27 (dk_at dksX11_image_0 21 rfl rfl)
theorem dX11_image_24 : decode cX11_image 24 = .ok (.aload_n 0, 1) := dk_42 (dk_at dksX11_image_1 0 rfl rfl)
theorem dX11_image_25 : decode cX11_image 25 = .ok (.getfield 13, 3) := dk_180 0 13 (dk_at dksX11_image_1 1 rfl rfl)
theorem dX11_image_28 : decode cX11_image 28 = .ok (.sipush 240, 3) := dk_17 0 240 (dk_at dksX11_image_1 4 rfl rfl)
theorem dX11_image_31 : decode cX11_image 31 = .ok (.iload_n 1, 1) := dk_27 (dk_at dksX11_image_1 7 rfl rfl)
theorem dX11_image_32 : decode cX11_image 32 = .ok (.imul, 1) := dk_104 (dk_at dksX11_image_1 8 rfl rfl)
theorem dX11_image_33 : decode cX11_image 33 = .ok (.iload_n 2, 1) := dk_28 (dk_at dksX11_image_1 9 rfl rfl)
theorem dX11_image_34 : decode cX11_image 34 = .ok (.iadd, 1) := dk_96 (dk_at dksX11_image_1 10 rfl rfl)
theorem dX11_image_35 : decode cX11_image 35 = .ok (.aload_n 0, 1) := dk_42 (dk_at dksX11_image_1 11 rfl rfl)
theorem dX11_image_36 : decode cX11_image 36 = .ok (.getfield 9, 3) := dk_180 0 9 (dk_at dksX11_image_1 12 rfl rfl)
theorem dX11_image_39 : decode cX11_image 39 = .ok (.iload_n 2, 1) := dk_28 (dk_at dksX11_image_1 15 rfl rfl)
theorem dX11_image_40 : decode cX11_image 40 = .ok (.iaload, 1) := dk_46 (dk_at dksX11_image_1 16 rfl rfl)
theorem dX11_image_41 : decode cX11_image 41 = .ok (.iastore, 1) := dk_79 (dk_at dksX11_image_1 17 rfl rfl)
theorem dX11_image_42 : decode cX11_image 42 = .ok (.iinc 2 1, 3) := dk_132 2 1 (dk_at dksX11_image_1 18 rfl rfl)
theorem dX11_image_45 : decode cX11_image 45 = .ok (.goto (-28), 3) := dk_167 255 228 (dk_at dksX11_image_1 21 rfl rfl)
theorem dX11_image_48 : decode cX11_image 48 = .ok (.aload_n 0, 1) := dk_42 (dk_at dksX11_image_2 0 rfl rfl)
theorem dX11_image_49 : decode cX11_image 49 = .ok (.getfield 16, 3) := dk_180 0 16 (dk_at dksX11_image_2 1 rfl rfl)
theorem dX11_image_52 : decode cX11_image 52 = .ok (.iload_n 1, 1) := dk_27 (dk_at dksX11_image_2 4 rfl rfl)
theorem dX11_image_53 : decode cX11_image 53 = .ok (.iconst 1, 1) := dk_4 (dk_at dksX11_image_2 5 rfl rfl)
theorem dX11_image_54 : decode cX11_image 54 = .ok (.bastore, 1) := dk_84 (dk_at dksX11_image_2 6 rfl rfl)
theorem dX11_image_55 : decode cX11_image 55 = .ok (.iconst 0, 1) := dk_3 (dk_at dksX11_image_2 7 rfl rfl)
theorem dX11_image_56 : decode cX11_image 56 = .ok (.ireturn, 1) := dk_172 (dk_at dksX11_image_2 8 rfl rfl)
abbrev cX11_in : ByteArray := prog_19_method_3_code
def yX11_in : MethodName := ⟨RX11, "in", "(JJJ)Z"⟩
def dkwX11_in_0 : List UInt8 := [30, 32, 148, 155, 0, 14, 30, 22, 4, 148, 157, 0, 7, 4, 167, 0, 4, 3, 172]
abbrev dktX11_in_0 : List UInt8 := dkwX11_in_0 ++ []
theorem dksX11_in_0 : cX11_in.data.toList.drop 0 = dktX11_in_0 := by decide +kernel
theorem dX11_in_0 : decode cX11_in 0 = .ok (.lload_n 0, 1) := dk_30 (dk_at dksX11_in_0 0 rfl rfl)
theorem dX11_in_1 : decode cX11_in 1 = .ok (.lload_n 2, 1) := dk_32 (dk_at dksX11_in_0 1 rfl rfl)
theorem dX11_in_2 : decode cX11_in 2 = .ok (.lcmp, 1) := dk_148 (dk_at dksX11_in_0 2 rfl rfl)
theorem dX11_in_3 : decode cX11_in 3 = .ok (.ifCond .lt 14, 3) := dk_155 0 14 (dk_at dksX11_in_0 3 rfl rfl)
theorem dX11_in_6 : decode cX11_in 6 = .ok (.lload_n 0, 1) := dk_30 (dk_at dksX11_in_0 6 rfl rfl)
theorem dX11_in_7 : decode cX11_in 7 = .ok (.lload 4, 2) := dk_22 4 (dk_at dksX11_in_0 7 rfl rfl)
theorem dX11_in_9 : decode cX11_in 9 = .ok (.lcmp, 1) := dk_148 (dk_at dksX11_in_0 9 rfl rfl)
theorem dX11_in_10 : decode cX11_in 10 = .ok (.ifCond .gt 7, 3) := dk_157 0 7 (dk_at dksX11_in_0 10 rfl rfl)
theorem dX11_in_13 : decode cX11_in 13 = .ok (.iconst 1, 1) := dk_4 (dk_at dksX11_in_0 13 rfl rfl)
theorem dX11_in_14 : decode cX11_in 14 = .ok (.goto 4, 3) := dk_167 0 4 (dk_at dksX11_in_0 14 rfl rfl)
theorem dX11_in_17 : decode cX11_in 17 = .ok (.iconst 0, 1) := dk_3 (dk_at dksX11_in_0 17 rfl rfl)
theorem dX11_in_18 : decode cX11_in 18 = .ok (.ireturn, 1) := dk_172 (dk_at dksX11_in_0 18 rfl rfl)
abbrev cX11_back : ByteArray := prog_19_method_7_code
def yX11_back : MethodName := ⟨RX11, "back", "(I)I"⟩
def dkwX11_back_2 : List UInt8 := [27, 104, 28, 96, 46, 79, 132, 2, 1, 167, 255, 228, 3, 172]
abbrev dktX11_back_2 : List UInt8 := dkwX11_back_2 ++ []
def dkwX11_back_1 : List UInt8 := [16, 250, 172, 3, 61, 28, 17, 0, 240, 162, 0, 27, 42, 180, 0, 9, 28, 42, 180, 0, 13, 17, 0, 240]
abbrev dktX11_back_1 : List UInt8 := dkwX11_back_1 ++ dktX11_back_2
def dkwX11_back_0 : List UInt8 := [27, 133, 9, 20, 0, 68, 184, 0, 70, 154, 0, 6, 16, 254, 172, 42, 180, 0, 16, 27, 51, 154, 0, 6]
abbrev dktX11_back_0 : List UInt8 := dkwX11_back_0 ++ dktX11_back_1
theorem dksX11_back_0 : cX11_back.data.toList.drop 0 = dktX11_back_0 := by decide +kernel
theorem dksX11_back_1 : cX11_back.data.toList.drop 24 = dktX11_back_1 := dk_seg dksX11_back_0 24 rfl rfl
theorem dksX11_back_2 : cX11_back.data.toList.drop 48 = dktX11_back_2 := dk_seg dksX11_back_1 24 rfl rfl
theorem dX11_back_0 : decode cX11_back 0 = .ok (.iload_n 1, 1) := dk_27 (dk_at dksX11_back_0 0 rfl rfl)
theorem dX11_back_1 : decode cX11_back 1 = .ok (.i2l, 1) := dk_133 (dk_at dksX11_back_0 1 rfl rfl)
theorem dX11_back_2 : decode cX11_back 2 = .ok (.lconst 0, 1) := dk_9 (dk_at dksX11_back_0 2 rfl rfl)
theorem dX11_back_3 : decode cX11_back 3 = .ok (.ldc2_w 68, 3) := dk_20 0 68 (dk_at dksX11_back_0 3 rfl rfl)
theorem dX11_back_6 : decode cX11_back 6 = .ok (.invokestatic 70, 3) := dk_184 0 70 (dk_at dksX11_back_0 6 rfl rfl)
theorem dX11_back_9 : decode cX11_back 9 = .ok (.ifCond .ne 6, 3) := dk_154 0 6 (dk_at dksX11_back_0 9 rfl rfl)
theorem dX11_back_12 : decode cX11_back 12 = .ok (.bipush (-2), 2) := dk_16 254 (dk_at dksX11_back_0 12 rfl rfl)
theorem dX11_back_14 : decode cX11_back 14 = .ok (.ireturn, 1) := dk_172 (dk_at dksX11_back_0 14 rfl rfl)
theorem dX11_back_15 : decode cX11_back 15 = .ok (.aload_n 0, 1) := dk_42 (dk_at dksX11_back_0 15 rfl rfl)
theorem dX11_back_16 : decode cX11_back 16 = .ok (.getfield 16, 3) := dk_180 0 16 (dk_at dksX11_back_0 16 rfl rfl)
theorem dX11_back_19 : decode cX11_back 19 = .ok (.iload_n 1, 1) := dk_27 (dk_at dksX11_back_0 19 rfl rfl)
theorem dX11_back_20 : decode cX11_back 20 = .ok (.baload, 1) := dk_51 (dk_at dksX11_back_0 20 rfl rfl)
theorem dX11_back_21 : decode cX11_back 21 = .ok (.ifCond .ne 6, 3) := dk_154 0 6 (dk_at dksX11_back_0 21 rfl rfl)
theorem dX11_back_24 : decode cX11_back 24 = .ok (.bipush (-6), 2) := dk_16 250 (dk_at dksX11_back_1 0 rfl rfl)
theorem dX11_back_26 : decode cX11_back 26 = .ok (.ireturn, 1) := dk_172 (dk_at dksX11_back_1 2 rfl rfl)
theorem dX11_back_27 : decode cX11_back 27 = .ok (.iconst 0, 1) := dk_3 (dk_at dksX11_back_1 3 rfl rfl)
theorem dX11_back_28 : decode cX11_back 28 = .ok (.istore_n 2, 1) := dk_61 (dk_at dksX11_back_1 4 rfl rfl)
theorem dX11_back_29 : decode cX11_back 29 = .ok (.iload_n 2, 1) := dk_28 (dk_at dksX11_back_1 5 rfl rfl)
theorem dX11_back_30 : decode cX11_back 30 = .ok (.sipush 240, 3) := dk_17 0 240 (dk_at dksX11_back_1 6 rfl rfl)
theorem dX11_back_33 : decode cX11_back 33 = .ok (.if_icmp .ge 27, 3) := dk_162 0 27 (dk_at dksX11_back_1 9 rfl rfl)
theorem dX11_back_36 : decode cX11_back 36 = .ok (.aload_n 0, 1) := dk_42 (dk_at dksX11_back_1 12 rfl rfl)
theorem dX11_back_37 : decode cX11_back 37 = .ok (.getfield 9, 3) := dk_180 0 9 (dk_at dksX11_back_1 13 rfl rfl)
theorem dX11_back_40 : decode cX11_back 40 = .ok (.iload_n 2, 1) := dk_28 (dk_at dksX11_back_1 16 rfl rfl)
theorem dX11_back_41 : decode cX11_back 41 = .ok (.aload_n 0, 1) := dk_42 (dk_at dksX11_back_1 17 rfl rfl)
theorem dX11_back_42 : decode cX11_back 42 = .ok (.getfield 13, 3) := dk_180 0 13 (dk_at dksX11_back_1 18 rfl rfl)
theorem dX11_back_45 : decode cX11_back 45 = .ok (.sipush 240, 3) := dk_17 0 240 (dk_at dksX11_back_1 21 rfl rfl)
theorem dX11_back_48 : decode cX11_back 48 = .ok (.iload_n 1, 1) := dk_27 (dk_at dksX11_back_2 0 rfl rfl)
theorem dX11_back_49 : decode cX11_back 49 = .ok (.imul, 1) := dk_104 (dk_at dksX11_back_2 1 rfl rfl)
theorem dX11_back_50 : decode cX11_back 50 = .ok (.iload_n 2, 1) := dk_28 (dk_at dksX11_back_2 2 rfl rfl)
theorem dX11_back_51 : decode cX11_back 51 = .ok (.iadd, 1) := dk_96 (dk_at dksX11_back_2 3 rfl rfl)
theorem dX11_back_52 : decode cX11_back 52 = .ok (.iaload, 1) := dk_46 (dk_at dksX11_back_2 4 rfl rfl)
theorem dX11_back_53 : decode cX11_back 53 = .ok (.iastore, 1) := dk_79 (dk_at dksX11_back_2 5 rfl rfl)
theorem dX11_back_54 : decode cX11_back 54 = .ok (.iinc 2 1, 3) := dk_132 2 1 (dk_at dksX11_back_2 6 rfl rfl)
theorem dX11_back_57 : decode cX11_back 57 = .ok (.goto (-28), 3) := dk_167 255 228 (dk_at dksX11_back_2 9 rfl rfl)
theorem dX11_back_60 : decode cX11_back 60 = .ok (.iconst 0, 1) := dk_3 (dk_at dksX11_back_2 12 rfl rfl)
theorem dX11_back_61 : decode cX11_back 61 = .ok (.ireturn, 1) := dk_172 (dk_at dksX11_back_2 13 rfl rfl)
abbrev cX11_feed : ByteArray := prog_19_method_16_code
def yX11_feed : MethodName := ⟨RX11, "feed", "(IIIII)I"⟩
def dkwX11_feed_5 : List UInt8 := [180, 0, 89, 172]
abbrev dktX11_feed_5 : List UInt8 := dkwX11_feed_5 ++ []
def dkwX11_feed_4 : List UInt8 := [100, 122, 145, 84, 132, 6, 1, 167, 255, 213, 42, 89, 180, 0, 89, 16, 20, 96, 181, 0, 89, 42]
abbrev dktX11_feed_4 : List UInt8 := dkwX11_feed_4 ++ dktX11_feed_5
def dkwX11_feed_3 : List UInt8 := [180, 0, 89, 21, 6, 96, 42, 180, 0, 24, 21, 6, 7, 108, 46, 16, 24, 16, 8, 21, 6, 7, 112, 104]
abbrev dktX11_feed_3 : List UInt8 := dkwX11_feed_3 ++ dktX11_feed_4
def dkwX11_feed_2 : List UInt8 := [180, 0, 24, 7, 21, 5, 79, 3, 54, 6, 21, 6, 16, 20, 162, 0, 42, 42, 180, 0, 20, 42]
abbrev dktX11_feed_2 : List UInt8 := dkwX11_feed_2 ++ dktX11_feed_3
def dkwX11_feed_1 : List UInt8 := [180, 0, 24, 4, 28, 79, 42, 180, 0, 24, 5, 29, 79, 42, 180, 0, 24, 6, 21, 4, 79, 42]
abbrev dktX11_feed_1 : List UInt8 := dkwX11_feed_1 ++ dktX11_feed_2
def dkwX11_feed_0 : List UInt8 := [42, 180, 0, 89, 16, 20, 96, 17, 4, 176, 164, 0, 5, 2, 172, 42, 180, 0, 24, 3, 27, 79, 42]
abbrev dktX11_feed_0 : List UInt8 := dkwX11_feed_0 ++ dktX11_feed_1
theorem dksX11_feed_0 : cX11_feed.data.toList.drop 0 = dktX11_feed_0 := by decide +kernel
theorem dksX11_feed_1 : cX11_feed.data.toList.drop 23 = dktX11_feed_1 := dk_seg dksX11_feed_0 23 rfl rfl
theorem dksX11_feed_2 : cX11_feed.data.toList.drop 45 = dktX11_feed_2 := dk_seg dksX11_feed_1 22 rfl rfl
theorem dksX11_feed_3 : cX11_feed.data.toList.drop 67 = dktX11_feed_3 := dk_seg dksX11_feed_2 22 rfl rfl
theorem dksX11_feed_4 : cX11_feed.data.toList.drop 91 = dktX11_feed_4 := dk_seg dksX11_feed_3 24 rfl rfl
theorem dksX11_feed_5 : cX11_feed.data.toList.drop 113 = dktX11_feed_5 := dk_seg dksX11_feed_4 22 rfl rfl
theorem dX11_feed_0 : decode cX11_feed 0 = .ok (.aload_n 0, 1) := dk_42 (dk_at dksX11_feed_0 0 rfl rfl)
theorem dX11_feed_1 : decode cX11_feed 1 = .ok (.getfield 89, 3) := dk_180 0 89 (dk_at dksX11_feed_0 1 rfl rfl)
theorem dX11_feed_4 : decode cX11_feed 4 = .ok (.bipush 20, 2) := dk_16 20 (dk_at dksX11_feed_0 4 rfl rfl)
theorem dX11_feed_6 : decode cX11_feed 6 = .ok (.iadd, 1) := dk_96 (dk_at dksX11_feed_0 6 rfl rfl)
theorem dX11_feed_7 : decode cX11_feed 7 = .ok (.sipush 1200, 3) := dk_17 4 176 (dk_at dksX11_feed_0 7 rfl rfl)
theorem dX11_feed_10 : decode cX11_feed 10 = .ok (.if_icmp .le 5, 3) := dk_164 0 5 (dk_at dksX11_feed_0 10 rfl rfl)
theorem dX11_feed_13 : decode cX11_feed 13 = .ok (.iconst (-1), 1) := dk_2 (dk_at dksX11_feed_0 13 rfl rfl)
theorem dX11_feed_14 : decode cX11_feed 14 = .ok (.ireturn, 1) := dk_172 (dk_at dksX11_feed_0 14 rfl rfl)
theorem dX11_feed_15 : decode cX11_feed 15 = .ok (.aload_n 0, 1) := dk_42 (dk_at dksX11_feed_0 15 rfl rfl)
theorem dX11_feed_16 : decode cX11_feed 16 = .ok (.getfield 24, 3) := dk_180 0 24 (dk_at dksX11_feed_0 16 rfl rfl)
theorem dX11_feed_19 : decode cX11_feed 19 = .ok (.iconst 0, 1) := dk_3 (dk_at dksX11_feed_0 19 rfl rfl)
theorem dX11_feed_20 : decode cX11_feed 20 = .ok (.iload_n 1, 1) := dk_27 (dk_at dksX11_feed_0 20 rfl rfl)
theorem dX11_feed_21 : decode cX11_feed 21 = .ok (.iastore, 1) := dk_79 (dk_at dksX11_feed_0 21 rfl rfl)
theorem dX11_feed_22 : decode cX11_feed 22 = .ok (.aload_n 0, 1) := dk_42 (dk_at dksX11_feed_0 22 rfl rfl)
theorem dX11_feed_23 : decode cX11_feed 23 = .ok (.getfield 24, 3) := dk_180 0 24 (dk_at dksX11_feed_1 0 rfl rfl)
theorem dX11_feed_26 : decode cX11_feed 26 = .ok (.iconst 1, 1) := dk_4 (dk_at dksX11_feed_1 3 rfl rfl)
theorem dX11_feed_27 : decode cX11_feed 27 = .ok (.iload_n 2, 1) := dk_28 (dk_at dksX11_feed_1 4 rfl rfl)
theorem dX11_feed_28 : decode cX11_feed 28 = .ok (.iastore, 1) := dk_79 (dk_at dksX11_feed_1 5 rfl rfl)
theorem dX11_feed_29 : decode cX11_feed 29 = .ok (.aload_n 0, 1) := dk_42 (dk_at dksX11_feed_1 6 rfl rfl)
theorem dX11_feed_30 : decode cX11_feed 30 = .ok (.getfield 24, 3) := dk_180 0 24 (dk_at dksX11_feed_1 7 rfl rfl)
theorem dX11_feed_33 : decode cX11_feed 33 = .ok (.iconst 2, 1) := dk_5 (dk_at dksX11_feed_1 10 rfl rfl)
theorem dX11_feed_34 : decode cX11_feed 34 = .ok (.iload_n 3, 1) := dk_29 (dk_at dksX11_feed_1 11 rfl rfl)
theorem dX11_feed_35 : decode cX11_feed 35 = .ok (.iastore, 1) := dk_79 (dk_at dksX11_feed_1 12 rfl rfl)
theorem dX11_feed_36 : decode cX11_feed 36 = .ok (.aload_n 0, 1) := dk_42 (dk_at dksX11_feed_1 13 rfl rfl)
theorem dX11_feed_37 : decode cX11_feed 37 = .ok (.getfield 24, 3) := dk_180 0 24 (dk_at dksX11_feed_1 14 rfl rfl)
theorem dX11_feed_40 : decode cX11_feed 40 = .ok (.iconst 3, 1) := dk_6 (dk_at dksX11_feed_1 17 rfl rfl)
theorem dX11_feed_41 : decode cX11_feed 41 = .ok (.iload 4, 2) := dk_21 4 (dk_at dksX11_feed_1 18 rfl rfl)
theorem dX11_feed_43 : decode cX11_feed 43 = .ok (.iastore, 1) := dk_79 (dk_at dksX11_feed_1 20 rfl rfl)
theorem dX11_feed_44 : decode cX11_feed 44 = .ok (.aload_n 0, 1) := dk_42 (dk_at dksX11_feed_1 21 rfl rfl)
theorem dX11_feed_45 : decode cX11_feed 45 = .ok (.getfield 24, 3) := dk_180 0 24 (dk_at dksX11_feed_2 0 rfl rfl)
theorem dX11_feed_48 : decode cX11_feed 48 = .ok (.iconst 4, 1) := dk_7 (dk_at dksX11_feed_2 3 rfl rfl)
theorem dX11_feed_49 : decode cX11_feed 49 = .ok (.iload 5, 2) := dk_21 5 (dk_at dksX11_feed_2 4 rfl rfl)
theorem dX11_feed_51 : decode cX11_feed 51 = .ok (.iastore, 1) := dk_79 (dk_at dksX11_feed_2 6 rfl rfl)
theorem dX11_feed_52 : decode cX11_feed 52 = .ok (.iconst 0, 1) := dk_3 (dk_at dksX11_feed_2 7 rfl rfl)
theorem dX11_feed_53 : decode cX11_feed 53 = .ok (.istore 6, 2) := dk_54 6 (dk_at dksX11_feed_2 8 rfl rfl)
theorem dX11_feed_55 : decode cX11_feed 55 = .ok (.iload 6, 2) := dk_21 6 (dk_at dksX11_feed_2 10 rfl rfl)
theorem dX11_feed_57 : decode cX11_feed 57 = .ok (.bipush 20, 2) := dk_16 20 (dk_at dksX11_feed_2 12 rfl rfl)
theorem dX11_feed_59 : decode cX11_feed 59 = .ok (.if_icmp .ge 42, 3) := dk_162 0 42 (dk_at dksX11_feed_2 14 rfl rfl)
theorem dX11_feed_62 : decode cX11_feed 62 = .ok (.aload_n 0, 1) := dk_42 (dk_at dksX11_feed_2 17 rfl rfl)
theorem dX11_feed_63 : decode cX11_feed 63 = .ok (.getfield 20, 3) := dk_180 0 20 (dk_at dksX11_feed_2 18 rfl rfl)
theorem dX11_feed_66 : decode cX11_feed 66 = .ok (.aload_n 0, 1) := dk_42 (dk_at dksX11_feed_2 21 rfl rfl)
theorem dX11_feed_67 : decode cX11_feed 67 = .ok (.getfield 89, 3) := dk_180 0 89 (dk_at dksX11_feed_3 0 rfl rfl)
theorem dX11_feed_70 : decode cX11_feed 70 = .ok (.iload 6, 2) := dk_21 6 (dk_at dksX11_feed_3 3 rfl rfl)
theorem dX11_feed_72 : decode cX11_feed 72 = .ok (.iadd, 1) := dk_96 (dk_at dksX11_feed_3 5 rfl rfl)
theorem dX11_feed_73 : decode cX11_feed 73 = .ok (.aload_n 0, 1) := dk_42 (dk_at dksX11_feed_3 6 rfl rfl)
theorem dX11_feed_74 : decode cX11_feed 74 = .ok (.getfield 24, 3) := dk_180 0 24 (dk_at dksX11_feed_3 7 rfl rfl)
theorem dX11_feed_77 : decode cX11_feed 77 = .ok (.iload 6, 2) := dk_21 6 (dk_at dksX11_feed_3 10 rfl rfl)
theorem dX11_feed_79 : decode cX11_feed 79 = .ok (.iconst 4, 1) := dk_7 (dk_at dksX11_feed_3 12 rfl rfl)
theorem dX11_feed_80 : decode cX11_feed 80 = .ok (.idiv, 1) := dk_108 (dk_at dksX11_feed_3 13 rfl rfl)
theorem dX11_feed_81 : decode cX11_feed 81 = .ok (.iaload, 1) := dk_46 (dk_at dksX11_feed_3 14 rfl rfl)
theorem dX11_feed_82 : decode cX11_feed 82 = .ok (.bipush 24, 2) := dk_16 24 (dk_at dksX11_feed_3 15 rfl rfl)
theorem dX11_feed_84 : decode cX11_feed 84 = .ok (.bipush 8, 2) := dk_16 8 (dk_at dksX11_feed_3 17 rfl rfl)
theorem dX11_feed_86 : decode cX11_feed 86 = .ok (.iload 6, 2) := dk_21 6 (dk_at dksX11_feed_3 19 rfl rfl)
theorem dX11_feed_88 : decode cX11_feed 88 = .ok (.iconst 4, 1) := dk_7 (dk_at dksX11_feed_3 21 rfl rfl)
theorem dX11_feed_89 : decode cX11_feed 89 = .ok (.irem, 1) := dk_112 (dk_at dksX11_feed_3 22 rfl rfl)
theorem dX11_feed_90 : decode cX11_feed 90 = .ok (.imul, 1) := dk_104 (dk_at dksX11_feed_3 23 rfl rfl)
theorem dX11_feed_91 : decode cX11_feed 91 = .ok (.isub, 1) := dk_100 (dk_at dksX11_feed_4 0 rfl rfl)
theorem dX11_feed_92 : decode cX11_feed 92 = .ok (.ishr, 1) := dk_122 (dk_at dksX11_feed_4 1 rfl rfl)
theorem dX11_feed_93 : decode cX11_feed 93 = .ok (.i2b, 1) := dk_145 (dk_at dksX11_feed_4 2 rfl rfl)
theorem dX11_feed_94 : decode cX11_feed 94 = .ok (.bastore, 1) := dk_84 (dk_at dksX11_feed_4 3 rfl rfl)
theorem dX11_feed_95 : decode cX11_feed 95 = .ok (.iinc 6 1, 3) := dk_132 6 1 (dk_at dksX11_feed_4 4 rfl rfl)
theorem dX11_feed_98 : decode cX11_feed 98 = .ok (.goto (-43), 3) := dk_167 255 213 (dk_at dksX11_feed_4 7 rfl rfl)
theorem dX11_feed_101 : decode cX11_feed 101 = .ok (.aload_n 0, 1) := dk_42 (dk_at dksX11_feed_4 10 rfl rfl)
theorem dX11_feed_102 : decode cX11_feed 102 = .ok (.dup, 1) := dk_89 (dk_at dksX11_feed_4 11 rfl rfl)
theorem dX11_feed_103 : decode cX11_feed 103 = .ok (.getfield 89, 3) := dk_180 0 89 (dk_at dksX11_feed_4 12 rfl rfl)
theorem dX11_feed_106 : decode cX11_feed 106 = .ok (.bipush 20, 2) := dk_16 20 (dk_at dksX11_feed_4 15 rfl rfl)
theorem dX11_feed_108 : decode cX11_feed 108 = .ok (.iadd, 1) := dk_96 (dk_at dksX11_feed_4 17 rfl rfl)
theorem dX11_feed_109 : decode cX11_feed 109 = .ok (.putfield 89, 3) := dk_181 0 89 (dk_at dksX11_feed_4 18 rfl rfl)
theorem dX11_feed_112 : decode cX11_feed 112 = .ok (.aload_n 0, 1) := dk_42 (dk_at dksX11_feed_4 21 rfl rfl)
theorem dX11_feed_113 : decode cX11_feed 113 = .ok (.getfield 89, 3) := dk_180 0 89 (dk_at dksX11_feed_5 0 rfl rfl)
theorem dX11_feed_116 : decode cX11_feed 116 = .ok (.ireturn, 1) := dk_172 (dk_at dksX11_feed_5 3 rfl rfl)
abbrev cX11_end : ByteArray := prog_19_method_17_code
def yX11_end : MethodName := ⟨RX11, "end", "(I)I"⟩
def dkwX11_end_0 : List UInt8 := [27, 133, 9, 42, 180, 0, 89, 133, 184, 0, 70, 154, 0, 5, 2, 172, 42, 27, 181, 0, 89, 27, 172]
abbrev dktX11_end_0 : List UInt8 := dkwX11_end_0 ++ []
theorem dksX11_end_0 : cX11_end.data.toList.drop 0 = dktX11_end_0 := by decide +kernel
theorem dX11_end_0 : decode cX11_end 0 = .ok (.iload_n 1, 1) := dk_27 (dk_at dksX11_end_0 0 rfl rfl)
theorem dX11_end_1 : decode cX11_end 1 = .ok (.i2l, 1) := dk_133 (dk_at dksX11_end_0 1 rfl rfl)
theorem dX11_end_2 : decode cX11_end 2 = .ok (.lconst 0, 1) := dk_9 (dk_at dksX11_end_0 2 rfl rfl)
theorem dX11_end_3 : decode cX11_end 3 = .ok (.aload_n 0, 1) := dk_42 (dk_at dksX11_end_0 3 rfl rfl)
theorem dX11_end_4 : decode cX11_end 4 = .ok (.getfield 89, 3) := dk_180 0 89 (dk_at dksX11_end_0 4 rfl rfl)
theorem dX11_end_7 : decode cX11_end 7 = .ok (.i2l, 1) := dk_133 (dk_at dksX11_end_0 7 rfl rfl)
theorem dX11_end_8 : decode cX11_end 8 = .ok (.invokestatic 70, 3) := dk_184 0 70 (dk_at dksX11_end_0 8 rfl rfl)
theorem dX11_end_11 : decode cX11_end 11 = .ok (.ifCond .ne 5, 3) := dk_154 0 5 (dk_at dksX11_end_0 11 rfl rfl)
theorem dX11_end_14 : decode cX11_end 14 = .ok (.iconst (-1), 1) := dk_2 (dk_at dksX11_end_0 14 rfl rfl)
theorem dX11_end_15 : decode cX11_end 15 = .ok (.ireturn, 1) := dk_172 (dk_at dksX11_end_0 15 rfl rfl)
theorem dX11_end_16 : decode cX11_end 16 = .ok (.aload_n 0, 1) := dk_42 (dk_at dksX11_end_0 16 rfl rfl)
theorem dX11_end_17 : decode cX11_end 17 = .ok (.iload_n 1, 1) := dk_27 (dk_at dksX11_end_0 17 rfl rfl)
theorem dX11_end_18 : decode cX11_end 18 = .ok (.putfield 89, 3) := dk_181 0 89 (dk_at dksX11_end_0 18 rfl rfl)
theorem dX11_end_21 : decode cX11_end 21 = .ok (.iload_n 1, 1) := dk_27 (dk_at dksX11_end_0 21 rfl rfl)
theorem dX11_end_22 : decode cX11_end 22 = .ok (.ireturn, 1) := dk_172 (dk_at dksX11_end_0 22 rfl rfl)
abbrev cX11_fault : ByteArray := prog_19_method_27_code
def yX11_fault : MethodName := ⟨RX11, "fault", "(I)I"⟩
def dkwX11_fault_1 : List UInt8 := [172]
abbrev dktX11_fault_1 : List UInt8 := dkwX11_fault_1 ++ []
def dkwX11_fault_0 : List UInt8 := [27, 154, 0, 10, 42, 180, 0, 125, 167, 0, 16, 27, 4, 160, 0, 10, 42, 180, 0, 27, 167, 0, 4, 2]
abbrev dktX11_fault_0 : List UInt8 := dkwX11_fault_0 ++ dktX11_fault_1
theorem dksX11_fault_0 : cX11_fault.data.toList.drop 0 = dktX11_fault_0 := by decide +kernel
theorem dksX11_fault_1 : cX11_fault.data.toList.drop 24 = dktX11_fault_1 := dk_seg dksX11_fault_0 24 rfl rfl
theorem dX11_fault_0 : decode cX11_fault 0 = .ok (.iload_n 1, 1) := dk_27 (dk_at dksX11_fault_0 0 rfl rfl)
theorem dX11_fault_1 : decode cX11_fault 1 = .ok (.ifCond .ne 10, 3) := dk_154 0 10 (dk_at dksX11_fault_0 1 rfl rfl)
theorem dX11_fault_4 : decode cX11_fault 4 = .ok (.aload_n 0, 1) := dk_42 (dk_at dksX11_fault_0 4 rfl rfl)
theorem dX11_fault_5 : decode cX11_fault 5 = .ok (.getfield 125, 3) := dk_180 0 125 (dk_at dksX11_fault_0 5 rfl rfl)
theorem dX11_fault_8 : decode cX11_fault 8 = .ok (.goto 16, 3) := dk_167 0 16 (dk_at dksX11_fault_0 8 rfl rfl)
theorem dX11_fault_11 : decode cX11_fault 11 = .ok (.iload_n 1, 1) := dk_27 (dk_at dksX11_fault_0 11 rfl rfl)
theorem dX11_fault_12 : decode cX11_fault 12 = .ok (.iconst 1, 1) := dk_4 (dk_at dksX11_fault_0 12 rfl rfl)
theorem dX11_fault_13 : decode cX11_fault 13 = .ok (.if_icmp .ne 10, 3) := dk_160 0 10 (dk_at dksX11_fault_0 13 rfl rfl)
theorem dX11_fault_16 : decode cX11_fault 16 = .ok (.aload_n 0, 1) := dk_42 (dk_at dksX11_fault_0 16 rfl rfl)
theorem dX11_fault_17 : decode cX11_fault 17 = .ok (.getfield 27, 3) := dk_180 0 27 (dk_at dksX11_fault_0 17 rfl rfl)
theorem dX11_fault_20 : decode cX11_fault 20 = .ok (.goto 4, 3) := dk_167 0 4 (dk_at dksX11_fault_0 20 rfl rfl)
theorem dX11_fault_23 : decode cX11_fault 23 = .ok (.iconst (-1), 1) := dk_2 (dk_at dksX11_fault_0 23 rfl rfl)
theorem dX11_fault_24 : decode cX11_fault 24 = .ok (.ireturn, 1) := dk_172 (dk_at dksX11_fault_1 0 rfl rfl)
abbrev cX11_war : ByteArray := prog_19_method_36_code
def yX11_war : MethodName := ⟨RX11, "war", "()I"⟩
def dkwX11_war_5 : List UInt8 := [180, 0, 9, 16, 9, 46, 172]
abbrev dktX11_war_5 : List UInt8 := dkwX11_war_5 ++ []
def dkwX11_war_4 : List UInt8 := [162, 0, 21, 42, 180, 0, 9, 27, 42, 180, 0, 31, 27, 46, 79, 132, 1, 1, 167, 255, 234, 42]
abbrev dktX11_war_4 : List UInt8 := dkwX11_war_4 ++ dktX11_war_5
def dkwX11_war_3 : List UInt8 := [182, 0, 227, 167, 255, 238, 42, 182, 0, 128, 154, 0, 6, 16, 252, 172, 3, 60, 27, 17, 0, 240]
abbrev dktX11_war_3 : List UInt8 := dkwX11_war_3 ++ dktX11_war_4
def dkwX11_war_2 : List UInt8 := [167, 255, 239, 42, 182, 0, 144, 42, 182, 0, 128, 153, 0, 17, 42, 180, 0, 105, 153, 0, 10, 42]
abbrev dktX11_war_2 : List UInt8 := dkwX11_war_2 ++ dktX11_war_3
def dkwX11_war_1 : List UInt8 := [2, 181, 0, 27, 3, 60, 27, 17, 0, 240, 162, 0, 16, 42, 180, 0, 31, 27, 3, 79, 132, 1, 1]
abbrev dktX11_war_1 : List UInt8 := dkwX11_war_1 ++ dktX11_war_2
def dkwX11_war_0 : List UInt8 := [42, 42, 180, 0, 89, 181, 0, 92, 42, 3, 181, 0, 89, 42, 3, 181, 0, 95, 42, 3, 181, 0, 125, 42]
abbrev dktX11_war_0 : List UInt8 := dkwX11_war_0 ++ dktX11_war_1
theorem dksX11_war_0 : cX11_war.data.toList.drop 0 = dktX11_war_0 := by decide +kernel
theorem dksX11_war_1 : cX11_war.data.toList.drop 24 = dktX11_war_1 := dk_seg dksX11_war_0 24 rfl rfl
theorem dksX11_war_2 : cX11_war.data.toList.drop 47 = dktX11_war_2 := dk_seg dksX11_war_1 23 rfl rfl
theorem dksX11_war_3 : cX11_war.data.toList.drop 69 = dktX11_war_3 := dk_seg dksX11_war_2 22 rfl rfl
theorem dksX11_war_4 : cX11_war.data.toList.drop 91 = dktX11_war_4 := dk_seg dksX11_war_3 22 rfl rfl
theorem dksX11_war_5 : cX11_war.data.toList.drop 113 = dktX11_war_5 := dk_seg dksX11_war_4 22 rfl rfl
theorem dX11_war_0 : decode cX11_war 0 = .ok (.aload_n 0, 1) := dk_42 (dk_at dksX11_war_0 0 rfl rfl)
theorem dX11_war_1 : decode cX11_war 1 = .ok (.aload_n 0, 1) := dk_42 (dk_at dksX11_war_0 1 rfl rfl)
theorem dX11_war_2 : decode cX11_war 2 = .ok (.getfield 89, 3) := dk_180 0 89 (dk_at dksX11_war_0 2 rfl rfl)
theorem dX11_war_5 : decode cX11_war 5 = .ok (.putfield 92, 3) := dk_181 0 92 (dk_at dksX11_war_0 5 rfl rfl)
theorem dX11_war_8 : decode cX11_war 8 = .ok (.aload_n 0, 1) := dk_42 (dk_at dksX11_war_0 8 rfl rfl)
theorem dX11_war_9 : decode cX11_war 9 = .ok (.iconst 0, 1) := dk_3 (dk_at dksX11_war_0 9 rfl rfl)
theorem dX11_war_10 : decode cX11_war 10 = .ok (.putfield 89, 3) := dk_181 0 89 (dk_at dksX11_war_0 10 rfl rfl)
theorem dX11_war_13 : decode cX11_war 13 = .ok (.aload_n 0, 1) := dk_42 (dk_at dksX11_war_0 13 rfl rfl)
theorem dX11_war_14 : decode cX11_war 14 = .ok (.iconst 0, 1) := dk_3 (dk_at dksX11_war_0 14 rfl rfl)
theorem dX11_war_15 : decode cX11_war 15 = .ok (.putfield 95, 3) := dk_181 0 95 (dk_at dksX11_war_0 15 rfl rfl)
theorem dX11_war_18 : decode cX11_war 18 = .ok (.aload_n 0, 1) := dk_42 (dk_at dksX11_war_0 18 rfl rfl)
theorem dX11_war_19 : decode cX11_war 19 = .ok (.iconst 0, 1) := dk_3 (dk_at dksX11_war_0 19 rfl rfl)
theorem dX11_war_20 : decode cX11_war 20 = .ok (.putfield 125, 3) := dk_181 0 125 (dk_at dksX11_war_0 20 rfl rfl)
theorem dX11_war_23 : decode cX11_war 23 = .ok (.aload_n 0, 1) := dk_42 (dk_at dksX11_war_0 23 rfl rfl)
theorem dX11_war_24 : decode cX11_war 24 = .ok (.iconst (-1), 1) := dk_2 (dk_at dksX11_war_1 0 rfl rfl)
theorem dX11_war_25 : decode cX11_war 25 = .ok (.putfield 27, 3) := dk_181 0 27 (dk_at dksX11_war_1 1 rfl rfl)
theorem dX11_war_28 : decode cX11_war 28 = .ok (.iconst 0, 1) := dk_3 (dk_at dksX11_war_1 4 rfl rfl)
theorem dX11_war_29 : decode cX11_war 29 = .ok (.istore_n 1, 1) := dk_60 (dk_at dksX11_war_1 5 rfl rfl)
theorem dX11_war_30 : decode cX11_war 30 = .ok (.iload_n 1, 1) := dk_27 (dk_at dksX11_war_1 6 rfl rfl)
theorem dX11_war_31 : decode cX11_war 31 = .ok (.sipush 240, 3) := dk_17 0 240 (dk_at dksX11_war_1 7 rfl rfl)
theorem dX11_war_34 : decode cX11_war 34 = .ok (.if_icmp .ge 16, 3) := dk_162 0 16 (dk_at dksX11_war_1 10 rfl rfl)
theorem dX11_war_37 : decode cX11_war 37 = .ok (.aload_n 0, 1) := dk_42 (dk_at dksX11_war_1 13 rfl rfl)
theorem dX11_war_38 : decode cX11_war 38 = .ok (.getfield 31, 3) := dk_180 0 31 (dk_at dksX11_war_1 14 rfl rfl)
theorem dX11_war_41 : decode cX11_war 41 = .ok (.iload_n 1, 1) := dk_27 (dk_at dksX11_war_1 17 rfl rfl)
theorem dX11_war_42 : decode cX11_war 42 = .ok (.iconst 0, 1) := dk_3 (dk_at dksX11_war_1 18 rfl rfl)
theorem dX11_war_43 : decode cX11_war 43 = .ok (.iastore, 1) := dk_79 (dk_at dksX11_war_1 19 rfl rfl)
theorem dX11_war_44 : decode cX11_war 44 = .ok (.iinc 1 1, 3) := dk_132 1 1 (dk_at dksX11_war_1 20 rfl rfl)
theorem dX11_war_47 : decode cX11_war 47 = .ok (.goto (-17), 3) := dk_167 255 239 (dk_at dksX11_war_2 0 rfl rfl)
theorem dX11_war_50 : decode cX11_war 50 = .ok (.aload_n 0, 1) := dk_42 (dk_at dksX11_war_2 3 rfl rfl)
theorem dX11_war_51 : decode cX11_war 51 = .ok (.invokevirtual 144, 3) := dk_182 0 144 (dk_at dksX11_war_2 4 rfl rfl)
theorem dX11_war_54 : decode cX11_war 54 = .ok (.aload_n 0, 1) := dk_42 (dk_at dksX11_war_2 7 rfl rfl)
theorem dX11_war_55 : decode cX11_war 55 = .ok (.invokevirtual 128, 3) := dk_182 0 128 (dk_at dksX11_war_2 8 rfl rfl)
theorem dX11_war_58 : decode cX11_war 58 = .ok (.ifCond .eq 17, 3) := dk_153 0 17 (dk_at dksX11_war_2 11 rfl rfl)
theorem dX11_war_61 : decode cX11_war 61 = .ok (.aload_n 0, 1) := dk_42 (dk_at dksX11_war_2 14 rfl rfl)
theorem dX11_war_62 : decode cX11_war 62 = .ok (.getfield 105, 3) := dk_180 0 105 (dk_at dksX11_war_2 15 rfl rfl)
theorem dX11_war_65 : decode cX11_war 65 = .ok (.ifCond .eq 10, 3) := dk_153 0 10 (dk_at dksX11_war_2 18 rfl rfl)
theorem dX11_war_68 : decode cX11_war 68 = .ok (.aload_n 0, 1) := dk_42 (dk_at dksX11_war_2 21 rfl rfl)
theorem dX11_war_69 : decode cX11_war 69 = .ok (.invokevirtual 227, 3) := dk_182 0 227 (dk_at dksX11_war_3 0 rfl rfl)
theorem dX11_war_72 : decode cX11_war 72 = .ok (.goto (-18), 3) := dk_167 255 238 (dk_at dksX11_war_3 3 rfl rfl)
theorem dX11_war_75 : decode cX11_war 75 = .ok (.aload_n 0, 1) := dk_42 (dk_at dksX11_war_3 6 rfl rfl)
theorem dX11_war_76 : decode cX11_war 76 = .ok (.invokevirtual 128, 3) := dk_182 0 128 (dk_at dksX11_war_3 7 rfl rfl)
theorem dX11_war_79 : decode cX11_war 79 = .ok (.ifCond .ne 6, 3) := dk_154 0 6 (dk_at dksX11_war_3 10 rfl rfl)
theorem dX11_war_82 : decode cX11_war 82 = .ok (.bipush (-4), 2) := dk_16 252 (dk_at dksX11_war_3 13 rfl rfl)
theorem dX11_war_84 : decode cX11_war 84 = .ok (.ireturn, 1) := dk_172 (dk_at dksX11_war_3 15 rfl rfl)
theorem dX11_war_85 : decode cX11_war 85 = .ok (.iconst 0, 1) := dk_3 (dk_at dksX11_war_3 16 rfl rfl)
theorem dX11_war_86 : decode cX11_war 86 = .ok (.istore_n 1, 1) := dk_60 (dk_at dksX11_war_3 17 rfl rfl)
theorem dX11_war_87 : decode cX11_war 87 = .ok (.iload_n 1, 1) := dk_27 (dk_at dksX11_war_3 18 rfl rfl)
theorem dX11_war_88 : decode cX11_war 88 = .ok (.sipush 240, 3) := dk_17 0 240 (dk_at dksX11_war_3 19 rfl rfl)
theorem dX11_war_91 : decode cX11_war 91 = .ok (.if_icmp .ge 21, 3) := dk_162 0 21 (dk_at dksX11_war_4 0 rfl rfl)
theorem dX11_war_94 : decode cX11_war 94 = .ok (.aload_n 0, 1) := dk_42 (dk_at dksX11_war_4 3 rfl rfl)
theorem dX11_war_95 : decode cX11_war 95 = .ok (.getfield 9, 3) := dk_180 0 9 (dk_at dksX11_war_4 4 rfl rfl)
theorem dX11_war_98 : decode cX11_war 98 = .ok (.iload_n 1, 1) := dk_27 (dk_at dksX11_war_4 7 rfl rfl)
theorem dX11_war_99 : decode cX11_war 99 = .ok (.aload_n 0, 1) := dk_42 (dk_at dksX11_war_4 8 rfl rfl)
theorem dX11_war_100 : decode cX11_war 100 = .ok (.getfield 31, 3) := dk_180 0 31 (dk_at dksX11_war_4 9 rfl rfl)
theorem dX11_war_103 : decode cX11_war 103 = .ok (.iload_n 1, 1) := dk_27 (dk_at dksX11_war_4 12 rfl rfl)
theorem dX11_war_104 : decode cX11_war 104 = .ok (.iaload, 1) := dk_46 (dk_at dksX11_war_4 13 rfl rfl)
theorem dX11_war_105 : decode cX11_war 105 = .ok (.iastore, 1) := dk_79 (dk_at dksX11_war_4 14 rfl rfl)
theorem dX11_war_106 : decode cX11_war 106 = .ok (.iinc 1 1, 3) := dk_132 1 1 (dk_at dksX11_war_4 15 rfl rfl)
theorem dX11_war_109 : decode cX11_war 109 = .ok (.goto (-22), 3) := dk_167 255 234 (dk_at dksX11_war_4 18 rfl rfl)
theorem dX11_war_112 : decode cX11_war 112 = .ok (.aload_n 0, 1) := dk_42 (dk_at dksX11_war_4 21 rfl rfl)
theorem dX11_war_113 : decode cX11_war 113 = .ok (.getfield 9, 3) := dk_180 0 9 (dk_at dksX11_war_5 0 rfl rfl)
theorem dX11_war_116 : decode cX11_war 116 = .ok (.bipush 9, 2) := dk_16 9 (dk_at dksX11_war_5 3 rfl rfl)
theorem dX11_war_118 : decode cX11_war 118 = .ok (.iaload, 1) := dk_46 (dk_at dksX11_war_5 5 rfl rfl)
theorem dX11_war_119 : decode cX11_war 119 = .ok (.ireturn, 1) := dk_172 (dk_at dksX11_war_5 6 rfl rfl)
abbrev cX11_advance : ByteArray := prog_19_method_19_code
def yX11_advance : MethodName := ⟨RX11, "advance", "()V"⟩
def dkwX11_advance_10 : List UInt8 := [96, 181, 0, 95, 177]
abbrev dktX11_advance_10 : List UInt8 := dkwX11_advance_10 ++ []
def dkwX11_advance_9 : List UInt8 := [167, 0, 28, 42, 27, 16, 59, 160, 0, 7, 6, 167, 0, 4, 7, 181, 0, 105, 42, 89, 180, 0, 95, 4]
abbrev dktX11_advance_9 : List UInt8 := dkwX11_advance_9 ++ dktX11_advance_10
def dkwX11_advance_8 : List UInt8 := [184, 0, 120, 181, 0, 116, 42, 89, 180, 0, 95, 4, 96, 181, 0, 95, 167, 255, 197, 42, 5, 181, 0, 105]
abbrev dktX11_advance_8 : List UInt8 := dkwX11_advance_8 ++ dktX11_advance_9
def dkwX11_advance_7 : List UInt8 := [42, 18, 119, 16, 10, 42, 180, 0, 116, 104, 42, 42, 180, 0, 95, 182, 0, 98, 96, 16, 48, 100]
abbrev dktX11_advance_7 : List UInt8 := dkwX11_advance_7 ++ dktX11_advance_8
def dkwX11_advance_6 : List UInt8 := [181, 0, 116, 42, 42, 180, 0, 95, 182, 0, 98, 133, 20, 0, 112, 20, 0, 114, 184, 0, 70, 153, 0, 44]
abbrev dktX11_advance_6 : List UInt8 := dkwX11_advance_6 ++ dktX11_advance_7
def dkwX11_advance_5 : List UInt8 := [181, 0, 105, 167, 0, 117, 27, 133, 20, 0, 112, 20, 0, 114, 184, 0, 70, 153, 0, 78, 42, 3]
abbrev dktX11_advance_5 : List UInt8 := dkwX11_advance_5 ++ dktX11_advance_6
def dkwX11_advance_4 : List UInt8 := [20, 0, 110, 184, 0, 70, 153, 0, 16, 42, 89, 180, 0, 95, 4, 96, 181, 0, 95, 167, 255, 225, 42, 4]
abbrev dktX11_advance_4 : List UInt8 := dkwX11_advance_4 ++ dktX11_advance_5
def dkwX11_advance_3 : List UInt8 := [20, 0, 108, 20, 0, 110, 184, 0, 70, 153, 0, 45, 42, 42, 180, 0, 95, 182, 0, 98, 133, 20, 0, 108]
abbrev dktX11_advance_3 : List UInt8 := dkwX11_advance_3 ++ dktX11_advance_4
def dkwX11_advance_2 : List UInt8 := [42, 42, 180, 0, 95, 182, 0, 98, 60, 27, 2, 160, 0, 11, 42, 3, 181, 0, 105, 167, 0, 173, 27, 133]
abbrev dktX11_advance_2 : List UInt8 := dkwX11_advance_2 ++ dktX11_advance_3
def dkwX11_advance_1 : List UInt8 := [160, 0, 16, 42, 89, 180, 0, 95, 4, 96, 181, 0, 95, 167, 255, 220, 42, 42, 180, 0, 95, 181, 0, 102]
abbrev dktX11_advance_1 : List UInt8 := dkwX11_advance_1 ++ dktX11_advance_2
def dkwX11_advance_0 : List UInt8 := [42, 42, 180, 0, 95, 182, 0, 98, 16, 32, 159, 0, 16, 42, 42, 180, 0, 95, 182, 0, 98, 16, 10]
abbrev dktX11_advance_0 : List UInt8 := dkwX11_advance_0 ++ dktX11_advance_1
theorem dksX11_advance_0 : cX11_advance.data.toList.drop 0 = dktX11_advance_0 := by decide +kernel
theorem dksX11_advance_1 : cX11_advance.data.toList.drop 23 = dktX11_advance_1 := dk_seg dksX11_advance_0 23 rfl rfl
theorem dksX11_advance_2 : cX11_advance.data.toList.drop 47 = dktX11_advance_2 := dk_seg dksX11_advance_1 24 rfl rfl
theorem dksX11_advance_3 : cX11_advance.data.toList.drop 71 = dktX11_advance_3 := dk_seg dksX11_advance_2 24 rfl rfl
theorem dksX11_advance_4 : cX11_advance.data.toList.drop 95 = dktX11_advance_4 := dk_seg dksX11_advance_3 24 rfl rfl
theorem dksX11_advance_5 : cX11_advance.data.toList.drop 119 = dktX11_advance_5 := dk_seg dksX11_advance_4 24 rfl rfl
theorem dksX11_advance_6 : cX11_advance.data.toList.drop 141 = dktX11_advance_6 := dk_seg dksX11_advance_5 22 rfl rfl
theorem dksX11_advance_7 : cX11_advance.data.toList.drop 165 = dktX11_advance_7 := dk_seg dksX11_advance_6 24 rfl rfl
theorem dksX11_advance_8 : cX11_advance.data.toList.drop 187 = dktX11_advance_8 := dk_seg dksX11_advance_7 22 rfl rfl
theorem dksX11_advance_9 : cX11_advance.data.toList.drop 211 = dktX11_advance_9 := dk_seg dksX11_advance_8 24 rfl rfl
theorem dksX11_advance_10 : cX11_advance.data.toList.drop 235 = dktX11_advance_10 := dk_seg dksX11_advance_9 24 rfl rfl
theorem dX11_advance_0 : decode cX11_advance 0 = .ok (.aload_n 0, 1) := dk_42 (dk_at dksX11_advance_0 0 rfl rfl)
theorem dX11_advance_1 : decode cX11_advance 1 = .ok (.aload_n 0, 1) := dk_42 (dk_at dksX11_advance_0 1 rfl rfl)
theorem dX11_advance_2 : decode cX11_advance 2 = .ok (.getfield 95, 3) := dk_180 0 95 (dk_at dksX11_advance_0 2 rfl rfl)
theorem dX11_advance_5 : decode cX11_advance 5 = .ok (.invokevirtual 98, 3) := dk_182 0 98 (dk_at dksX11_advance_0 5 rfl rfl)
theorem dX11_advance_8 : decode cX11_advance 8 = .ok (.bipush 32, 2) := dk_16 32 (dk_at dksX11_advance_0 8 rfl rfl)
theorem dX11_advance_10 : decode cX11_advance 10 = .ok (.if_icmp .eq 16, 3) := dk_159 0 16 (dk_at dksX11_advance_0 10 rfl rfl)
theorem dX11_advance_13 : decode cX11_advance 13 = .ok (.aload_n 0, 1) := dk_42 (dk_at dksX11_advance_0 13 rfl rfl)
theorem dX11_advance_14 : decode cX11_advance 14 = .ok (.aload_n 0, 1) := dk_42 (dk_at dksX11_advance_0 14 rfl rfl)
theorem dX11_advance_15 : decode cX11_advance 15 = .ok (.getfield 95, 3) := dk_180 0 95 (dk_at dksX11_advance_0 15 rfl rfl)
theorem dX11_advance_18 : decode cX11_advance 18 = .ok (.invokevirtual 98, 3) := dk_182 0 98 (dk_at dksX11_advance_0 18 rfl rfl)
theorem dX11_advance_21 : decode cX11_advance 21 = .ok (.bipush 10, 2) := dk_16 10 (dk_at dksX11_advance_0 21 rfl rfl)
theorem dX11_advance_23 : decode cX11_advance 23 = .ok (.if_icmp .ne 16, 3) := dk_160 0 16 (dk_at dksX11_advance_1 0 rfl rfl)
theorem dX11_advance_26 : decode cX11_advance 26 = .ok (.aload_n 0, 1) := dk_42 (dk_at dksX11_advance_1 3 rfl rfl)
theorem dX11_advance_27 : decode cX11_advance 27 = .ok (.dup, 1) := dk_89 (dk_at dksX11_advance_1 4 rfl rfl)
theorem dX11_advance_28 : decode cX11_advance 28 = .ok (.getfield 95, 3) := dk_180 0 95 (dk_at dksX11_advance_1 5 rfl rfl)
theorem dX11_advance_31 : decode cX11_advance 31 = .ok (.iconst 1, 1) := dk_4 (dk_at dksX11_advance_1 8 rfl rfl)
theorem dX11_advance_32 : decode cX11_advance 32 = .ok (.iadd, 1) := dk_96 (dk_at dksX11_advance_1 9 rfl rfl)
theorem dX11_advance_33 : decode cX11_advance 33 = .ok (.putfield 95, 3) := dk_181 0 95 (dk_at dksX11_advance_1 10 rfl rfl)
theorem dX11_advance_36 : decode cX11_advance 36 = .ok (.goto (-36), 3) := dk_167 255 220 (dk_at dksX11_advance_1 13 rfl rfl)
theorem dX11_advance_39 : decode cX11_advance 39 = .ok (.aload_n 0, 1) := dk_42 (dk_at dksX11_advance_1 16 rfl rfl)
theorem dX11_advance_40 : decode cX11_advance 40 = .ok (.aload_n 0, 1) := dk_42 (dk_at dksX11_advance_1 17 rfl rfl)
theorem dX11_advance_41 : decode cX11_advance 41 = .ok (.getfield 95, 3) := dk_180 0 95 (dk_at dksX11_advance_1 18 rfl rfl)
theorem dX11_advance_44 : decode cX11_advance 44 = .ok (.putfield 102, 3) := dk_181 0 102 (dk_at dksX11_advance_1 21 rfl rfl)
theorem dX11_advance_47 : decode cX11_advance 47 = .ok (.aload_n 0, 1) := dk_42 (dk_at dksX11_advance_2 0 rfl rfl)
theorem dX11_advance_48 : decode cX11_advance 48 = .ok (.aload_n 0, 1) := dk_42 (dk_at dksX11_advance_2 1 rfl rfl)
theorem dX11_advance_49 : decode cX11_advance 49 = .ok (.getfield 95, 3) := dk_180 0 95 (dk_at dksX11_advance_2 2 rfl rfl)
theorem dX11_advance_52 : decode cX11_advance 52 = .ok (.invokevirtual 98, 3) := dk_182 0 98 (dk_at dksX11_advance_2 5 rfl rfl)
theorem dX11_advance_55 : decode cX11_advance 55 = .ok (.istore_n 1, 1) := dk_60 (dk_at dksX11_advance_2 8 rfl rfl)
theorem dX11_advance_56 : decode cX11_advance 56 = .ok (.iload_n 1, 1) := dk_27 (dk_at dksX11_advance_2 9 rfl rfl)
theorem dX11_advance_57 : decode cX11_advance 57 = .ok (.iconst (-1), 1) := dk_2 (dk_at dksX11_advance_2 10 rfl rfl)
theorem dX11_advance_58 : decode cX11_advance 58 = .ok (.if_icmp .ne 11, 3) := dk_160 0 11 (dk_at dksX11_advance_2 11 rfl rfl)
theorem dX11_advance_61 : decode cX11_advance 61 = .ok (.aload_n 0, 1) := dk_42 (dk_at dksX11_advance_2 14 rfl rfl)
theorem dX11_advance_62 : decode cX11_advance 62 = .ok (.iconst 0, 1) := dk_3 (dk_at dksX11_advance_2 15 rfl rfl)
theorem dX11_advance_63 : decode cX11_advance 63 = .ok (.putfield 105, 3) := dk_181 0 105 (dk_at dksX11_advance_2 16 rfl rfl)
theorem dX11_advance_66 : decode cX11_advance 66 = .ok (.goto 173, 3) := dk_167 0 173 (dk_at dksX11_advance_2 19 rfl rfl)
theorem dX11_advance_69 : decode cX11_advance 69 = .ok (.iload_n 1, 1) := dk_27 (dk_at dksX11_advance_2 22 rfl rfl)
theorem dX11_advance_70 : decode cX11_advance 70 = .ok (.i2l, 1) := dk_133 (dk_at dksX11_advance_2 23 rfl rfl)
theorem dX11_advance_71 : decode cX11_advance 71 = .ok (.ldc2_w 108, 3) := dk_20 0 108 (dk_at dksX11_advance_3 0 rfl rfl)
theorem dX11_advance_74 : decode cX11_advance 74 = .ok (.ldc2_w 110, 3) := dk_20 0 110 (dk_at dksX11_advance_3 3 rfl rfl)
theorem dX11_advance_77 : decode cX11_advance 77 = .ok (.invokestatic 70, 3) := dk_184 0 70 (dk_at dksX11_advance_3 6 rfl rfl)
theorem dX11_advance_80 : decode cX11_advance 80 = .ok (.ifCond .eq 45, 3) := dk_153 0 45 (dk_at dksX11_advance_3 9 rfl rfl)
theorem dX11_advance_83 : decode cX11_advance 83 = .ok (.aload_n 0, 1) := dk_42 (dk_at dksX11_advance_3 12 rfl rfl)
theorem dX11_advance_84 : decode cX11_advance 84 = .ok (.aload_n 0, 1) := dk_42 (dk_at dksX11_advance_3 13 rfl rfl)
theorem dX11_advance_85 : decode cX11_advance 85 = .ok (.getfield 95, 3) := dk_180 0 95 (dk_at dksX11_advance_3 14 rfl rfl)
theorem dX11_advance_88 : decode cX11_advance 88 = .ok (.invokevirtual 98, 3) := dk_182 0 98 (dk_at dksX11_advance_3 17 rfl rfl)
theorem dX11_advance_91 : decode cX11_advance 91 = .ok (.i2l, 1) := dk_133 (dk_at dksX11_advance_3 20 rfl rfl)
theorem dX11_advance_92 : decode cX11_advance 92 = .ok (.ldc2_w 108, 3) := dk_20 0 108 (dk_at dksX11_advance_3 21 rfl rfl)
theorem dX11_advance_95 : decode cX11_advance 95 = .ok (.ldc2_w 110, 3) := dk_20 0 110 (dk_at dksX11_advance_4 0 rfl rfl)
theorem dX11_advance_98 : decode cX11_advance 98 = .ok (.invokestatic 70, 3) := dk_184 0 70 (dk_at dksX11_advance_4 3 rfl rfl)
theorem dX11_advance_101 : decode cX11_advance 101 = .ok (.ifCond .eq 16, 3) := dk_153 0 16 (dk_at dksX11_advance_4 6 rfl rfl)
theorem dX11_advance_104 : decode cX11_advance 104 = .ok (.aload_n 0, 1) := dk_42 (dk_at dksX11_advance_4 9 rfl rfl)
theorem dX11_advance_105 : decode cX11_advance 105 = .ok (.dup, 1) := dk_89 (dk_at dksX11_advance_4 10 rfl rfl)
theorem dX11_advance_106 : decode cX11_advance 106 = .ok (.getfield 95, 3) := dk_180 0 95 (dk_at dksX11_advance_4 11 rfl rfl)
theorem dX11_advance_109 : decode cX11_advance 109 = .ok (.iconst 1, 1) := dk_4 (dk_at dksX11_advance_4 14 rfl rfl)
theorem dX11_advance_110 : decode cX11_advance 110 = .ok (.iadd, 1) := dk_96 (dk_at dksX11_advance_4 15 rfl rfl)
theorem dX11_advance_111 : decode cX11_advance 111 = .ok (.putfield 95, 3) := dk_181 0 95 (dk_at dksX11_advance_4 16 rfl rfl)
theorem dX11_advance_114 : decode cX11_advance 114 = .ok (.goto (-31), 3) := dk_167 255 225 (dk_at dksX11_advance_4 19 rfl rfl)
theorem dX11_advance_117 : decode cX11_advance 117 = .ok (.aload_n 0, 1) := dk_42 (dk_at dksX11_advance_4 22 rfl rfl)
theorem dX11_advance_118 : decode cX11_advance 118 = .ok (.iconst 1, 1) := dk_4 (dk_at dksX11_advance_4 23 rfl rfl)
theorem dX11_advance_119 : decode cX11_advance 119 = .ok (.putfield 105, 3) := dk_181 0 105 (dk_at dksX11_advance_5 0 rfl rfl)
theorem dX11_advance_122 : decode cX11_advance 122 = .ok (.goto 117, 3) := dk_167 0 117 (dk_at dksX11_advance_5 3 rfl rfl)
theorem dX11_advance_125 : decode cX11_advance 125 = .ok (.iload_n 1, 1) := dk_27 (dk_at dksX11_advance_5 6 rfl rfl)
theorem dX11_advance_126 : decode cX11_advance 126 = .ok (.i2l, 1) := dk_133 (dk_at dksX11_advance_5 7 rfl rfl)
theorem dX11_advance_127 : decode cX11_advance 127 = .ok (.ldc2_w 112, 3) := dk_20 0 112 (dk_at dksX11_advance_5 8 rfl rfl)
theorem dX11_advance_130 : decode cX11_advance 130 = .ok (.ldc2_w 114, 3) := dk_20 0 114 (dk_at dksX11_advance_5 11 rfl rfl)
theorem dX11_advance_133 : decode cX11_advance 133 = .ok (.invokestatic 70, 3) := dk_184 0 70 (dk_at dksX11_advance_5 14 rfl rfl)
theorem dX11_advance_136 : decode cX11_advance 136 = .ok (.ifCond .eq 78, 3) := dk_153 0 78 (dk_at dksX11_advance_5 17 rfl rfl)
theorem dX11_advance_139 : decode cX11_advance 139 = .ok (.aload_n 0, 1) := dk_42 (dk_at dksX11_advance_5 20 rfl rfl)
theorem dX11_advance_140 : decode cX11_advance 140 = .ok (.iconst 0, 1) := dk_3 (dk_at dksX11_advance_5 21 rfl rfl)
theorem dX11_advance_141 : decode cX11_advance 141 = .ok (.putfield 116, 3) := dk_181 0 116 (dk_at dksX11_advance_6 0 rfl rfl)
theorem dX11_advance_144 : decode cX11_advance 144 = .ok (.aload_n 0, 1) := dk_42 (dk_at dksX11_advance_6 3 rfl rfl)
theorem dX11_advance_145 : decode cX11_advance 145 = .ok (.aload_n 0, 1) := dk_42 (dk_at dksX11_advance_6 4 rfl rfl)
theorem dX11_advance_146 : decode cX11_advance 146 = .ok (.getfield 95, 3) := dk_180 0 95 (dk_at dksX11_advance_6 5 rfl rfl)
theorem dX11_advance_149 : decode cX11_advance 149 = .ok (.invokevirtual 98, 3) := dk_182 0 98 (dk_at dksX11_advance_6 8 rfl rfl)
theorem dX11_advance_152 : decode cX11_advance 152 = .ok (.i2l, 1) := dk_133 (dk_at dksX11_advance_6 11 rfl rfl)
theorem dX11_advance_153 : decode cX11_advance 153 = .ok (.ldc2_w 112, 3) := dk_20 0 112 (dk_at dksX11_advance_6 12 rfl rfl)
theorem dX11_advance_156 : decode cX11_advance 156 = .ok (.ldc2_w 114, 3) := dk_20 0 114 (dk_at dksX11_advance_6 15 rfl rfl)
theorem dX11_advance_159 : decode cX11_advance 159 = .ok (.invokestatic 70, 3) := dk_184 0 70 (dk_at dksX11_advance_6 18 rfl rfl)
theorem dX11_advance_162 : decode cX11_advance 162 = .ok (.ifCond .eq 44, 3) := dk_153 0 44 (dk_at dksX11_advance_6 21 rfl rfl)
theorem dX11_advance_165 : decode cX11_advance 165 = .ok (.aload_n 0, 1) := dk_42 (dk_at dksX11_advance_7 0 rfl rfl)
theorem dX11_advance_166 : decode cX11_advance 166 = .ok (.ldc 119, 2) := dk_18 119 (dk_at dksX11_advance_7 1 rfl rfl)
theorem dX11_advance_168 : decode cX11_advance 168 = .ok (.bipush 10, 2) := dk_16 10 (dk_at dksX11_advance_7 3 rfl rfl)
theorem dX11_advance_170 : decode cX11_advance 170 = .ok (.aload_n 0, 1) := dk_42 (dk_at dksX11_advance_7 5 rfl rfl)
theorem dX11_advance_171 : decode cX11_advance 171 = .ok (.getfield 116, 3) := dk_180 0 116 (dk_at dksX11_advance_7 6 rfl rfl)
theorem dX11_advance_174 : decode cX11_advance 174 = .ok (.imul, 1) := dk_104 (dk_at dksX11_advance_7 9 rfl rfl)
theorem dX11_advance_175 : decode cX11_advance 175 = .ok (.aload_n 0, 1) := dk_42 (dk_at dksX11_advance_7 10 rfl rfl)
theorem dX11_advance_176 : decode cX11_advance 176 = .ok (.aload_n 0, 1) := dk_42 (dk_at dksX11_advance_7 11 rfl rfl)
theorem dX11_advance_177 : decode cX11_advance 177 = .ok (.getfield 95, 3) := dk_180 0 95 (dk_at dksX11_advance_7 12 rfl rfl)
theorem dX11_advance_180 : decode cX11_advance 180 = .ok (.invokevirtual 98, 3) := dk_182 0 98 (dk_at dksX11_advance_7 15 rfl rfl)
theorem dX11_advance_183 : decode cX11_advance 183 = .ok (.iadd, 1) := dk_96 (dk_at dksX11_advance_7 18 rfl rfl)
theorem dX11_advance_184 : decode cX11_advance 184 = .ok (.bipush 48, 2) := dk_16 48 (dk_at dksX11_advance_7 19 rfl rfl)
theorem dX11_advance_186 : decode cX11_advance 186 = .ok (.isub, 1) := dk_100 (dk_at dksX11_advance_7 21 rfl rfl)
theorem dX11_advance_187 : decode cX11_advance 187 = .ok (.invokestatic 120, 3) := dk_184 0 120 (dk_at dksX11_advance_8 0 rfl rfl)
theorem dX11_advance_190 : decode cX11_advance 190 = .ok (.putfield 116, 3) := dk_181 0 116 (dk_at dksX11_advance_8 3 rfl rfl)
theorem dX11_advance_193 : decode cX11_advance 193 = .ok (.aload_n 0, 1) := dk_42 (dk_at dksX11_advance_8 6 rfl rfl)
theorem dX11_advance_194 : decode cX11_advance 194 = .ok (.dup, 1) := dk_89 (dk_at dksX11_advance_8 7 rfl rfl)
theorem dX11_advance_195 : decode cX11_advance 195 = .ok (.getfield 95, 3) := dk_180 0 95 (dk_at dksX11_advance_8 8 rfl rfl)
theorem dX11_advance_198 : decode cX11_advance 198 = .ok (.iconst 1, 1) := dk_4 (dk_at dksX11_advance_8 11 rfl rfl)
theorem dX11_advance_199 : decode cX11_advance 199 = .ok (.iadd, 1) := dk_96 (dk_at dksX11_advance_8 12 rfl rfl)
theorem dX11_advance_200 : decode cX11_advance 200 = .ok (.putfield 95, 3) := dk_181 0 95 (dk_at dksX11_advance_8 13 rfl rfl)
theorem dX11_advance_203 : decode cX11_advance 203 = .ok (.goto (-59), 3) := dk_167 255 197 (dk_at dksX11_advance_8 16 rfl rfl)
theorem dX11_advance_206 : decode cX11_advance 206 = .ok (.aload_n 0, 1) := dk_42 (dk_at dksX11_advance_8 19 rfl rfl)
theorem dX11_advance_207 : decode cX11_advance 207 = .ok (.iconst 2, 1) := dk_5 (dk_at dksX11_advance_8 20 rfl rfl)
theorem dX11_advance_208 : decode cX11_advance 208 = .ok (.putfield 105, 3) := dk_181 0 105 (dk_at dksX11_advance_8 21 rfl rfl)
theorem dX11_advance_211 : decode cX11_advance 211 = .ok (.goto 28, 3) := dk_167 0 28 (dk_at dksX11_advance_9 0 rfl rfl)
theorem dX11_advance_214 : decode cX11_advance 214 = .ok (.aload_n 0, 1) := dk_42 (dk_at dksX11_advance_9 3 rfl rfl)
theorem dX11_advance_215 : decode cX11_advance 215 = .ok (.iload_n 1, 1) := dk_27 (dk_at dksX11_advance_9 4 rfl rfl)
theorem dX11_advance_216 : decode cX11_advance 216 = .ok (.bipush 59, 2) := dk_16 59 (dk_at dksX11_advance_9 5 rfl rfl)
theorem dX11_advance_218 : decode cX11_advance 218 = .ok (.if_icmp .ne 7, 3) := dk_160 0 7 (dk_at dksX11_advance_9 7 rfl rfl)
theorem dX11_advance_221 : decode cX11_advance 221 = .ok (.iconst 3, 1) := dk_6 (dk_at dksX11_advance_9 10 rfl rfl)
theorem dX11_advance_222 : decode cX11_advance 222 = .ok (.goto 4, 3) := dk_167 0 4 (dk_at dksX11_advance_9 11 rfl rfl)
theorem dX11_advance_225 : decode cX11_advance 225 = .ok (.iconst 4, 1) := dk_7 (dk_at dksX11_advance_9 14 rfl rfl)
theorem dX11_advance_226 : decode cX11_advance 226 = .ok (.putfield 105, 3) := dk_181 0 105 (dk_at dksX11_advance_9 15 rfl rfl)
theorem dX11_advance_229 : decode cX11_advance 229 = .ok (.aload_n 0, 1) := dk_42 (dk_at dksX11_advance_9 18 rfl rfl)
theorem dX11_advance_230 : decode cX11_advance 230 = .ok (.dup, 1) := dk_89 (dk_at dksX11_advance_9 19 rfl rfl)
theorem dX11_advance_231 : decode cX11_advance 231 = .ok (.getfield 95, 3) := dk_180 0 95 (dk_at dksX11_advance_9 20 rfl rfl)
theorem dX11_advance_234 : decode cX11_advance 234 = .ok (.iconst 1, 1) := dk_4 (dk_at dksX11_advance_9 23 rfl rfl)
theorem dX11_advance_235 : decode cX11_advance 235 = .ok (.iadd, 1) := dk_96 (dk_at dksX11_advance_10 0 rfl rfl)
theorem dX11_advance_236 : decode cX11_advance 236 = .ok (.putfield 95, 3) := dk_181 0 95 (dk_at dksX11_advance_10 1 rfl rfl)
theorem dX11_advance_239 : decode cX11_advance 239 = .ok (.return_, 1) := dk_177 (dk_at dksX11_advance_10 4 rfl rfl)
abbrev cX11_see : ByteArray := prog_19_method_18_code
def yX11_see : MethodName := ⟨RX11, "see", "(I)I"⟩
def dkwX11_see_0 : List UInt8 := [27, 42, 180, 0, 92, 162, 0, 16, 42, 180, 0, 20, 27, 51, 17, 0, 255, 126, 167, 0, 4, 2, 172]
abbrev dktX11_see_0 : List UInt8 := dkwX11_see_0 ++ []
theorem dksX11_see_0 : cX11_see.data.toList.drop 0 = dktX11_see_0 := by decide +kernel
theorem dX11_see_0 : decode cX11_see 0 = .ok (.iload_n 1, 1) := dk_27 (dk_at dksX11_see_0 0 rfl rfl)
theorem dX11_see_1 : decode cX11_see 1 = .ok (.aload_n 0, 1) := dk_42 (dk_at dksX11_see_0 1 rfl rfl)
theorem dX11_see_2 : decode cX11_see 2 = .ok (.getfield 92, 3) := dk_180 0 92 (dk_at dksX11_see_0 2 rfl rfl)
theorem dX11_see_5 : decode cX11_see 5 = .ok (.if_icmp .ge 16, 3) := dk_162 0 16 (dk_at dksX11_see_0 5 rfl rfl)
theorem dX11_see_8 : decode cX11_see 8 = .ok (.aload_n 0, 1) := dk_42 (dk_at dksX11_see_0 8 rfl rfl)
theorem dX11_see_9 : decode cX11_see 9 = .ok (.getfield 20, 3) := dk_180 0 20 (dk_at dksX11_see_0 9 rfl rfl)
theorem dX11_see_12 : decode cX11_see 12 = .ok (.iload_n 1, 1) := dk_27 (dk_at dksX11_see_0 12 rfl rfl)
theorem dX11_see_13 : decode cX11_see 13 = .ok (.baload, 1) := dk_51 (dk_at dksX11_see_0 13 rfl rfl)
theorem dX11_see_14 : decode cX11_see 14 = .ok (.sipush 255, 3) := dk_17 0 255 (dk_at dksX11_see_0 14 rfl rfl)
theorem dX11_see_17 : decode cX11_see 17 = .ok (.iand, 1) := dk_126 (dk_at dksX11_see_0 17 rfl rfl)
theorem dX11_see_18 : decode cX11_see 18 = .ok (.goto 4, 3) := dk_167 0 4 (dk_at dksX11_see_0 18 rfl rfl)
theorem dX11_see_21 : decode cX11_see 21 = .ok (.iconst (-1), 1) := dk_2 (dk_at dksX11_see_0 21 rfl rfl)
theorem dX11_see_22 : decode cX11_see 22 = .ok (.ireturn, 1) := dk_172 (dk_at dksX11_see_0 22 rfl rfl)
abbrev cX11_good : ByteArray := prog_19_method_20_code
def yX11_good : MethodName := ⟨RX11, "good", "()Z"⟩
def dkwX11_good_0 : List UInt8 := [42, 180, 0, 125, 154, 0, 7, 4, 167, 0, 4, 3, 172]
abbrev dktX11_good_0 : List UInt8 := dkwX11_good_0 ++ []
theorem dksX11_good_0 : cX11_good.data.toList.drop 0 = dktX11_good_0 := by decide +kernel
theorem dX11_good_0 : decode cX11_good 0 = .ok (.aload_n 0, 1) := dk_42 (dk_at dksX11_good_0 0 rfl rfl)
theorem dX11_good_1 : decode cX11_good 1 = .ok (.getfield 125, 3) := dk_180 0 125 (dk_at dksX11_good_0 1 rfl rfl)
theorem dX11_good_4 : decode cX11_good 4 = .ok (.ifCond .ne 7, 3) := dk_154 0 7 (dk_at dksX11_good_0 4 rfl rfl)
theorem dX11_good_7 : decode cX11_good 7 = .ok (.iconst 1, 1) := dk_4 (dk_at dksX11_good_0 7 rfl rfl)
theorem dX11_good_8 : decode cX11_good 8 = .ok (.goto 4, 3) := dk_167 0 4 (dk_at dksX11_good_0 8 rfl rfl)
theorem dX11_good_11 : decode cX11_good 11 = .ok (.iconst 0, 1) := dk_3 (dk_at dksX11_good_0 11 rfl rfl)
theorem dX11_good_12 : decode cX11_good 12 = .ok (.ireturn, 1) := dk_172 (dk_at dksX11_good_0 12 rfl rfl)
abbrev cX11_readLine : ByteArray := prog_19_method_35_code
def yX11_readLine : MethodName := ⟨RX11, "readLine", "()V"⟩
def dkwX11_readLine_2 : List UInt8 := [153, 0, 7, 42, 182, 0, 144, 42, 180, 0, 31, 16, 9, 92, 46, 4, 96, 79, 177]
abbrev dktX11_readLine_2 : List UInt8 := dkwX11_readLine_2 ++ []
def dkwX11_readLine_1 : List UInt8 := [182, 0, 128, 153, 0, 16, 42, 180, 0, 105, 6, 159, 0, 8, 42, 4, 182, 0, 150, 42, 182, 0, 128]
abbrev dktX11_readLine_1 : List UInt8 := dkwX11_readLine_1 ++ dktX11_readLine_2
def dkwX11_readLine_0 : List UInt8 := [42, 180, 0, 31, 16, 9, 46, 154, 0, 10, 42, 182, 0, 221, 167, 0, 7, 42, 182, 0, 224, 42]
abbrev dktX11_readLine_0 : List UInt8 := dkwX11_readLine_0 ++ dktX11_readLine_1
theorem dksX11_readLine_0 : cX11_readLine.data.toList.drop 0 = dktX11_readLine_0 := by decide +kernel
theorem dksX11_readLine_1 : cX11_readLine.data.toList.drop 22 = dktX11_readLine_1 := dk_seg dksX11_readLine_0 22 rfl rfl
theorem dksX11_readLine_2 : cX11_readLine.data.toList.drop 45 = dktX11_readLine_2 := dk_seg dksX11_readLine_1 23 rfl rfl
theorem dX11_readLine_0 : decode cX11_readLine 0 = .ok (.aload_n 0, 1) := dk_42 (dk_at dksX11_readLine_0 0 rfl rfl)
theorem dX11_readLine_1 : decode cX11_readLine 1 = .ok (.getfield 31, 3) := dk_180 0 31 (dk_at dksX11_readLine_0 1 rfl rfl)
theorem dX11_readLine_4 : decode cX11_readLine 4 = .ok (.bipush 9, 2) := dk_16 9 (dk_at dksX11_readLine_0 4 rfl rfl)
theorem dX11_readLine_6 : decode cX11_readLine 6 = .ok (.iaload, 1) := dk_46 (dk_at dksX11_readLine_0 6 rfl rfl)
theorem dX11_readLine_7 : decode cX11_readLine 7 = .ok (.ifCond .ne 10, 3) := dk_154 0 10 (dk_at dksX11_readLine_0 7 rfl rfl)
theorem dX11_readLine_10 : decode cX11_readLine 10 = .ok (.aload_n 0, 1) := dk_42 (dk_at dksX11_readLine_0 10 rfl rfl)
theorem dX11_readLine_11 : decode cX11_readLine 11 = .ok (.invokevirtual 221, 3) := dk_182 0 221 (dk_at dksX11_readLine_0 11 rfl rfl)
theorem dX11_readLine_14 : decode cX11_readLine 14 = .ok (.goto 7, 3) := dk_167 0 7 (dk_at dksX11_readLine_0 14 rfl rfl)
theorem dX11_readLine_17 : decode cX11_readLine 17 = .ok (.aload_n 0, 1) := dk_42 (dk_at dksX11_readLine_0 17 rfl rfl)
theorem dX11_readLine_18 : decode cX11_readLine 18 = .ok (.invokevirtual 224, 3) := dk_182 0 224 (dk_at dksX11_readLine_0 18 rfl rfl)
theorem dX11_readLine_21 : decode cX11_readLine 21 = .ok (.aload_n 0, 1) := dk_42 (dk_at dksX11_readLine_0 21 rfl rfl)
theorem dX11_readLine_22 : decode cX11_readLine 22 = .ok (.invokevirtual 128, 3) := dk_182 0 128 (dk_at dksX11_readLine_1 0 rfl rfl)
theorem dX11_readLine_25 : decode cX11_readLine 25 = .ok (.ifCond .eq 16, 3) := dk_153 0 16 (dk_at dksX11_readLine_1 3 rfl rfl)
theorem dX11_readLine_28 : decode cX11_readLine 28 = .ok (.aload_n 0, 1) := dk_42 (dk_at dksX11_readLine_1 6 rfl rfl)
theorem dX11_readLine_29 : decode cX11_readLine 29 = .ok (.getfield 105, 3) := dk_180 0 105 (dk_at dksX11_readLine_1 7 rfl rfl)
theorem dX11_readLine_32 : decode cX11_readLine 32 = .ok (.iconst 3, 1) := dk_6 (dk_at dksX11_readLine_1 10 rfl rfl)
theorem dX11_readLine_33 : decode cX11_readLine 33 = .ok (.if_icmp .eq 8, 3) := dk_159 0 8 (dk_at dksX11_readLine_1 11 rfl rfl)
theorem dX11_readLine_36 : decode cX11_readLine 36 = .ok (.aload_n 0, 1) := dk_42 (dk_at dksX11_readLine_1 14 rfl rfl)
theorem dX11_readLine_37 : decode cX11_readLine 37 = .ok (.iconst 1, 1) := dk_4 (dk_at dksX11_readLine_1 15 rfl rfl)
theorem dX11_readLine_38 : decode cX11_readLine 38 = .ok (.invokevirtual 150, 3) := dk_182 0 150 (dk_at dksX11_readLine_1 16 rfl rfl)
theorem dX11_readLine_41 : decode cX11_readLine 41 = .ok (.aload_n 0, 1) := dk_42 (dk_at dksX11_readLine_1 19 rfl rfl)
theorem dX11_readLine_42 : decode cX11_readLine 42 = .ok (.invokevirtual 128, 3) := dk_182 0 128 (dk_at dksX11_readLine_1 20 rfl rfl)
theorem dX11_readLine_45 : decode cX11_readLine 45 = .ok (.ifCond .eq 7, 3) := dk_153 0 7 (dk_at dksX11_readLine_2 0 rfl rfl)
theorem dX11_readLine_48 : decode cX11_readLine 48 = .ok (.aload_n 0, 1) := dk_42 (dk_at dksX11_readLine_2 3 rfl rfl)
theorem dX11_readLine_49 : decode cX11_readLine 49 = .ok (.invokevirtual 144, 3) := dk_182 0 144 (dk_at dksX11_readLine_2 4 rfl rfl)
theorem dX11_readLine_52 : decode cX11_readLine 52 = .ok (.aload_n 0, 1) := dk_42 (dk_at dksX11_readLine_2 7 rfl rfl)
theorem dX11_readLine_53 : decode cX11_readLine 53 = .ok (.getfield 31, 3) := dk_180 0 31 (dk_at dksX11_readLine_2 8 rfl rfl)
theorem dX11_readLine_56 : decode cX11_readLine 56 = .ok (.bipush 9, 2) := dk_16 9 (dk_at dksX11_readLine_2 11 rfl rfl)
theorem dX11_readLine_58 : decode cX11_readLine 58 = .ok (.dup2, 1) := dk_92 (dk_at dksX11_readLine_2 13 rfl rfl)
theorem dX11_readLine_59 : decode cX11_readLine 59 = .ok (.iaload, 1) := dk_46 (dk_at dksX11_readLine_2 14 rfl rfl)
theorem dX11_readLine_60 : decode cX11_readLine 60 = .ok (.iconst 1, 1) := dk_4 (dk_at dksX11_readLine_2 15 rfl rfl)
theorem dX11_readLine_61 : decode cX11_readLine 61 = .ok (.iadd, 1) := dk_96 (dk_at dksX11_readLine_2 16 rfl rfl)
theorem dX11_readLine_62 : decode cX11_readLine 62 = .ok (.iastore, 1) := dk_79 (dk_at dksX11_readLine_2 17 rfl rfl)
theorem dX11_readLine_63 : decode cX11_readLine 63 = .ok (.return_, 1) := dk_177 (dk_at dksX11_readLine_2 18 rfl rfl)
abbrev cX11_readFirst : ByteArray := prog_19_method_28_code
def yX11_readFirst : MethodName := ⟨RX11, "readFirst", "()V"⟩
def dkwX11_readFirst_3 : List UInt8 := [182, 0, 165, 79, 177]
abbrev dktX11_readFirst_3 : List UInt8 := dkwX11_readFirst_3 ++ []
def dkwX11_readFirst_2 : List UInt8 := [5, 42, 18, 171, 3, 16, 60, 182, 0, 165, 79, 42, 180, 0, 31, 6, 42, 18, 173, 3, 16, 100]
abbrev dktX11_readFirst_2 : List UInt8 := dkwX11_readFirst_2 ++ dktX11_readFirst_3
def dkwX11_readFirst_1 : List UInt8 := [180, 0, 31, 4, 42, 18, 169, 3, 42, 180, 0, 31, 3, 46, 4, 100, 182, 0, 165, 79, 42, 180, 0, 31]
abbrev dktX11_readFirst_1 : List UInt8 := dkwX11_readFirst_1 ++ dktX11_readFirst_2
def dkwX11_readFirst_0 : List UInt8 := [42, 18, 161, 182, 0, 154, 42, 180, 0, 31, 3, 42, 18, 163, 4, 16, 60, 182, 0, 165, 79, 42]
abbrev dktX11_readFirst_0 : List UInt8 := dkwX11_readFirst_0 ++ dktX11_readFirst_1
theorem dksX11_readFirst_0 : cX11_readFirst.data.toList.drop 0 = dktX11_readFirst_0 := by decide +kernel
theorem dksX11_readFirst_1 : cX11_readFirst.data.toList.drop 22 = dktX11_readFirst_1 := dk_seg dksX11_readFirst_0 22 rfl rfl
theorem dksX11_readFirst_2 : cX11_readFirst.data.toList.drop 46 = dktX11_readFirst_2 := dk_seg dksX11_readFirst_1 24 rfl rfl
theorem dksX11_readFirst_3 : cX11_readFirst.data.toList.drop 68 = dktX11_readFirst_3 := dk_seg dksX11_readFirst_2 22 rfl rfl
theorem dX11_readFirst_0 : decode cX11_readFirst 0 = .ok (.aload_n 0, 1) := dk_42 (dk_at dksX11_readFirst_0 0 rfl rfl)
theorem dX11_readFirst_1 : decode cX11_readFirst 1 = .ok (.ldc 161, 2) := dk_18 161 (dk_at dksX11_readFirst_0 1 rfl rfl)
theorem dX11_readFirst_3 : decode cX11_readFirst 3 = .ok (.invokevirtual 154, 3) := dk_182 0 154 (dk_at dksX11_readFirst_0 3 rfl rfl)
theorem dX11_readFirst_6 : decode cX11_readFirst 6 = .ok (.aload_n 0, 1) := dk_42 (dk_at dksX11_readFirst_0 6 rfl rfl)
theorem dX11_readFirst_7 : decode cX11_readFirst 7 = .ok (.getfield 31, 3) := dk_180 0 31 (dk_at dksX11_readFirst_0 7 rfl rfl)
theorem dX11_readFirst_10 : decode cX11_readFirst 10 = .ok (.iconst 0, 1) := dk_3 (dk_at dksX11_readFirst_0 10 rfl rfl)
theorem dX11_readFirst_11 : decode cX11_readFirst 11 = .ok (.aload_n 0, 1) := dk_42 (dk_at dksX11_readFirst_0 11 rfl rfl)
theorem dX11_readFirst_12 : decode cX11_readFirst 12 = .ok (.ldc 163, 2) := dk_18 163 (dk_at dksX11_readFirst_0 12 rfl rfl)
theorem dX11_readFirst_14 : decode cX11_readFirst 14 = .ok (.iconst 1, 1) := dk_4 (dk_at dksX11_readFirst_0 14 rfl rfl)
theorem dX11_readFirst_15 : decode cX11_readFirst 15 = .ok (.bipush 60, 2) := dk_16 60 (dk_at dksX11_readFirst_0 15 rfl rfl)
theorem dX11_readFirst_17 : decode cX11_readFirst 17 = .ok (.invokevirtual 165, 3) := dk_182 0 165 (dk_at dksX11_readFirst_0 17 rfl rfl)
theorem dX11_readFirst_20 : decode cX11_readFirst 20 = .ok (.iastore, 1) := dk_79 (dk_at dksX11_readFirst_0 20 rfl rfl)
theorem dX11_readFirst_21 : decode cX11_readFirst 21 = .ok (.aload_n 0, 1) := dk_42 (dk_at dksX11_readFirst_0 21 rfl rfl)
theorem dX11_readFirst_22 : decode cX11_readFirst 22 = .ok (.getfield 31, 3) := dk_180 0 31 (dk_at dksX11_readFirst_1 0 rfl rfl)
theorem dX11_readFirst_25 : decode cX11_readFirst 25 = .ok (.iconst 1, 1) := dk_4 (dk_at dksX11_readFirst_1 3 rfl rfl)
theorem dX11_readFirst_26 : decode cX11_readFirst 26 = .ok (.aload_n 0, 1) := dk_42 (dk_at dksX11_readFirst_1 4 rfl rfl)
theorem dX11_readFirst_27 : decode cX11_readFirst 27 = .ok (.ldc 169, 2) := dk_18 169 (dk_at dksX11_readFirst_1 5 rfl rfl)
theorem dX11_readFirst_29 : decode cX11_readFirst 29 = .ok (.iconst 0, 1) := dk_3 (dk_at dksX11_readFirst_1 7 rfl rfl)
theorem dX11_readFirst_30 : decode cX11_readFirst 30 = .ok (.aload_n 0, 1) := dk_42 (dk_at dksX11_readFirst_1 8 rfl rfl)
theorem dX11_readFirst_31 : decode cX11_readFirst 31 = .ok (.getfield 31, 3) := dk_180 0 31 (dk_at dksX11_readFirst_1 9 rfl rfl)
theorem dX11_readFirst_34 : decode cX11_readFirst 34 = .ok (.iconst 0, 1) := dk_3 (dk_at dksX11_readFirst_1 12 rfl rfl)
theorem dX11_readFirst_35 : decode cX11_readFirst 35 = .ok (.iaload, 1) := dk_46 (dk_at dksX11_readFirst_1 13 rfl rfl)
theorem dX11_readFirst_36 : decode cX11_readFirst 36 = .ok (.iconst 1, 1) := dk_4 (dk_at dksX11_readFirst_1 14 rfl rfl)
theorem dX11_readFirst_37 : decode cX11_readFirst 37 = .ok (.isub, 1) := dk_100 (dk_at dksX11_readFirst_1 15 rfl rfl)
theorem dX11_readFirst_38 : decode cX11_readFirst 38 = .ok (.invokevirtual 165, 3) := dk_182 0 165 (dk_at dksX11_readFirst_1 16 rfl rfl)
theorem dX11_readFirst_41 : decode cX11_readFirst 41 = .ok (.iastore, 1) := dk_79 (dk_at dksX11_readFirst_1 19 rfl rfl)
theorem dX11_readFirst_42 : decode cX11_readFirst 42 = .ok (.aload_n 0, 1) := dk_42 (dk_at dksX11_readFirst_1 20 rfl rfl)
theorem dX11_readFirst_43 : decode cX11_readFirst 43 = .ok (.getfield 31, 3) := dk_180 0 31 (dk_at dksX11_readFirst_1 21 rfl rfl)
theorem dX11_readFirst_46 : decode cX11_readFirst 46 = .ok (.iconst 2, 1) := dk_5 (dk_at dksX11_readFirst_2 0 rfl rfl)
theorem dX11_readFirst_47 : decode cX11_readFirst 47 = .ok (.aload_n 0, 1) := dk_42 (dk_at dksX11_readFirst_2 1 rfl rfl)
theorem dX11_readFirst_48 : decode cX11_readFirst 48 = .ok (.ldc 171, 2) := dk_18 171 (dk_at dksX11_readFirst_2 2 rfl rfl)
theorem dX11_readFirst_50 : decode cX11_readFirst 50 = .ok (.iconst 0, 1) := dk_3 (dk_at dksX11_readFirst_2 4 rfl rfl)
theorem dX11_readFirst_51 : decode cX11_readFirst 51 = .ok (.bipush 60, 2) := dk_16 60 (dk_at dksX11_readFirst_2 5 rfl rfl)
theorem dX11_readFirst_53 : decode cX11_readFirst 53 = .ok (.invokevirtual 165, 3) := dk_182 0 165 (dk_at dksX11_readFirst_2 7 rfl rfl)
theorem dX11_readFirst_56 : decode cX11_readFirst 56 = .ok (.iastore, 1) := dk_79 (dk_at dksX11_readFirst_2 10 rfl rfl)
theorem dX11_readFirst_57 : decode cX11_readFirst 57 = .ok (.aload_n 0, 1) := dk_42 (dk_at dksX11_readFirst_2 11 rfl rfl)
theorem dX11_readFirst_58 : decode cX11_readFirst 58 = .ok (.getfield 31, 3) := dk_180 0 31 (dk_at dksX11_readFirst_2 12 rfl rfl)
theorem dX11_readFirst_61 : decode cX11_readFirst 61 = .ok (.iconst 3, 1) := dk_6 (dk_at dksX11_readFirst_2 15 rfl rfl)
theorem dX11_readFirst_62 : decode cX11_readFirst 62 = .ok (.aload_n 0, 1) := dk_42 (dk_at dksX11_readFirst_2 16 rfl rfl)
theorem dX11_readFirst_63 : decode cX11_readFirst 63 = .ok (.ldc 173, 2) := dk_18 173 (dk_at dksX11_readFirst_2 17 rfl rfl)
theorem dX11_readFirst_65 : decode cX11_readFirst 65 = .ok (.iconst 0, 1) := dk_3 (dk_at dksX11_readFirst_2 19 rfl rfl)
theorem dX11_readFirst_66 : decode cX11_readFirst 66 = .ok (.bipush 100, 2) := dk_16 100 (dk_at dksX11_readFirst_2 20 rfl rfl)
theorem dX11_readFirst_68 : decode cX11_readFirst 68 = .ok (.invokevirtual 165, 3) := dk_182 0 165 (dk_at dksX11_readFirst_3 0 rfl rfl)
theorem dX11_readFirst_71 : decode cX11_readFirst 71 = .ok (.iastore, 1) := dk_79 (dk_at dksX11_readFirst_3 3 rfl rfl)
theorem dX11_readFirst_72 : decode cX11_readFirst 72 = .ok (.return_, 1) := dk_177 (dk_at dksX11_readFirst_3 4 rfl rfl)
abbrev cX11_needs : ByteArray := prog_19_method_24_code
def yX11_needs : MethodName := ⟨RX11, "needs", "(Ljava/lang/String;)V"⟩
def dkwX11_needs_0 : List UInt8 := [42, 43, 182, 0, 147, 154, 0, 8, 42, 4, 182, 0, 150, 177]
abbrev dktX11_needs_0 : List UInt8 := dkwX11_needs_0 ++ []
theorem dksX11_needs_0 : cX11_needs.data.toList.drop 0 = dktX11_needs_0 := by decide +kernel
theorem dX11_needs_0 : decode cX11_needs 0 = .ok (.aload_n 0, 1) := dk_42 (dk_at dksX11_needs_0 0 rfl rfl)
theorem dX11_needs_1 : decode cX11_needs 1 = .ok (.aload_n 1, 1) := dk_43 (dk_at dksX11_needs_0 1 rfl rfl)
theorem dX11_needs_2 : decode cX11_needs 2 = .ok (.invokevirtual 147, 3) := dk_182 0 147 (dk_at dksX11_needs_0 2 rfl rfl)
theorem dX11_needs_5 : decode cX11_needs 5 = .ok (.ifCond .ne 8, 3) := dk_154 0 8 (dk_at dksX11_needs_0 5 rfl rfl)
theorem dX11_needs_8 : decode cX11_needs 8 = .ok (.aload_n 0, 1) := dk_42 (dk_at dksX11_needs_0 8 rfl rfl)
theorem dX11_needs_9 : decode cX11_needs 9 = .ok (.iconst 1, 1) := dk_4 (dk_at dksX11_needs_0 9 rfl rfl)
theorem dX11_needs_10 : decode cX11_needs 10 = .ok (.invokevirtual 150, 3) := dk_182 0 150 (dk_at dksX11_needs_0 10 rfl rfl)
theorem dX11_needs_13 : decode cX11_needs 13 = .ok (.return_, 1) := dk_177 (dk_at dksX11_needs_0 13 rfl rfl)
abbrev cX11_takes : ByteArray := prog_19_method_23_code
def yX11_takes : MethodName := ⟨RX11, "takes", "(Ljava/lang/String;)Z"⟩
def dkwX11_takes_0 : List UInt8 := [42, 43, 182, 0, 140, 61, 28, 153, 0, 7, 42, 182, 0, 144, 28, 172]
abbrev dktX11_takes_0 : List UInt8 := dkwX11_takes_0 ++ []
theorem dksX11_takes_0 : cX11_takes.data.toList.drop 0 = dktX11_takes_0 := by decide +kernel
theorem dX11_takes_0 : decode cX11_takes 0 = .ok (.aload_n 0, 1) := dk_42 (dk_at dksX11_takes_0 0 rfl rfl)
theorem dX11_takes_1 : decode cX11_takes 1 = .ok (.aload_n 1, 1) := dk_43 (dk_at dksX11_takes_0 1 rfl rfl)
theorem dX11_takes_2 : decode cX11_takes 2 = .ok (.invokevirtual 140, 3) := dk_182 0 140 (dk_at dksX11_takes_0 2 rfl rfl)
theorem dX11_takes_5 : decode cX11_takes 5 = .ok (.istore_n 2, 1) := dk_61 (dk_at dksX11_takes_0 5 rfl rfl)
theorem dX11_takes_6 : decode cX11_takes 6 = .ok (.iload_n 2, 1) := dk_28 (dk_at dksX11_takes_0 6 rfl rfl)
theorem dX11_takes_7 : decode cX11_takes 7 = .ok (.ifCond .eq 7, 3) := dk_153 0 7 (dk_at dksX11_takes_0 7 rfl rfl)
theorem dX11_takes_10 : decode cX11_takes 10 = .ok (.aload_n 0, 1) := dk_42 (dk_at dksX11_takes_0 10 rfl rfl)
theorem dX11_takes_11 : decode cX11_takes 11 = .ok (.invokevirtual 144, 3) := dk_182 0 144 (dk_at dksX11_takes_0 11 rfl rfl)
theorem dX11_takes_14 : decode cX11_takes 14 = .ok (.iload_n 2, 1) := dk_28 (dk_at dksX11_takes_0 14 rfl rfl)
theorem dX11_takes_15 : decode cX11_takes 15 = .ok (.ireturn, 1) := dk_172 (dk_at dksX11_takes_0 15 rfl rfl)
abbrev cX11_is : ByteArray := prog_19_method_22_code
def yX11_is : MethodName := ⟨RX11, "is", "(Ljava/lang/String;)Z"⟩
def dkwX11_is_3 : List UInt8 := [167, 0, 4, 3, 61, 132, 3, 1, 167, 255, 216, 28, 172]
abbrev dktX11_is_3 : List UInt8 := dkwX11_is_3 ++ []
def dkwX11_is_2 : List UInt8 := [153, 0, 34, 42, 180, 0, 20, 42, 180, 0, 102, 29, 96, 51, 43, 29, 182, 0, 136, 160, 0, 7, 4]
abbrev dktX11_is_2 : List UInt8 := dkwX11_is_2 ++ dktX11_is_3
def dkwX11_is_1 : List UInt8 := [43, 182, 0, 131, 160, 0, 7, 4, 167, 0, 4, 3, 61, 3, 62, 29, 43, 182, 0, 131, 162, 0, 38, 28]
abbrev dktX11_is_1 : List UInt8 := dkwX11_is_1 ++ dktX11_is_2
def dkwX11_is_0 : List UInt8 := [42, 182, 0, 128, 153, 0, 31, 42, 180, 0, 105, 4, 160, 0, 23, 42, 180, 0, 95, 42, 180, 0, 102, 100]
abbrev dktX11_is_0 : List UInt8 := dkwX11_is_0 ++ dktX11_is_1
theorem dksX11_is_0 : cX11_is.data.toList.drop 0 = dktX11_is_0 := by decide +kernel
theorem dksX11_is_1 : cX11_is.data.toList.drop 24 = dktX11_is_1 := dk_seg dksX11_is_0 24 rfl rfl
theorem dksX11_is_2 : cX11_is.data.toList.drop 48 = dktX11_is_2 := dk_seg dksX11_is_1 24 rfl rfl
theorem dksX11_is_3 : cX11_is.data.toList.drop 71 = dktX11_is_3 := dk_seg dksX11_is_2 23 rfl rfl
theorem dX11_is_0 : decode cX11_is 0 = .ok (.aload_n 0, 1) := dk_42 (dk_at dksX11_is_0 0 rfl rfl)
theorem dX11_is_1 : decode cX11_is 1 = .ok (.invokevirtual 128, 3) := dk_182 0 128 (dk_at dksX11_is_0 1 rfl rfl)
theorem dX11_is_4 : decode cX11_is 4 = .ok (.ifCond .eq 31, 3) := dk_153 0 31 (dk_at dksX11_is_0 4 rfl rfl)
theorem dX11_is_7 : decode cX11_is 7 = .ok (.aload_n 0, 1) := dk_42 (dk_at dksX11_is_0 7 rfl rfl)
theorem dX11_is_8 : decode cX11_is 8 = .ok (.getfield 105, 3) := dk_180 0 105 (dk_at dksX11_is_0 8 rfl rfl)
theorem dX11_is_11 : decode cX11_is 11 = .ok (.iconst 1, 1) := dk_4 (dk_at dksX11_is_0 11 rfl rfl)
theorem dX11_is_12 : decode cX11_is 12 = .ok (.if_icmp .ne 23, 3) := dk_160 0 23 (dk_at dksX11_is_0 12 rfl rfl)
theorem dX11_is_15 : decode cX11_is 15 = .ok (.aload_n 0, 1) := dk_42 (dk_at dksX11_is_0 15 rfl rfl)
theorem dX11_is_16 : decode cX11_is 16 = .ok (.getfield 95, 3) := dk_180 0 95 (dk_at dksX11_is_0 16 rfl rfl)
theorem dX11_is_19 : decode cX11_is 19 = .ok (.aload_n 0, 1) := dk_42 (dk_at dksX11_is_0 19 rfl rfl)
theorem dX11_is_20 : decode cX11_is 20 = .ok (.getfield 102, 3) := dk_180 0 102 (dk_at dksX11_is_0 20 rfl rfl)
theorem dX11_is_23 : decode cX11_is 23 = .ok (.isub, 1) := dk_100 (dk_at dksX11_is_0 23 rfl rfl)
theorem dX11_is_24 : decode cX11_is 24 = .ok (.aload_n 1, 1) := dk_43 (dk_at dksX11_is_1 0 rfl rfl)
theorem dX11_is_25 : decode cX11_is 25 = .ok (.invokevirtual 131, 3) := dk_182 0 131 (dk_at dksX11_is_1 1 rfl rfl)
theorem dX11_is_28 : decode cX11_is 28 = .ok (.if_icmp .ne 7, 3) := dk_160 0 7 (dk_at dksX11_is_1 4 rfl rfl)
theorem dX11_is_31 : decode cX11_is 31 = .ok (.iconst 1, 1) := dk_4 (dk_at dksX11_is_1 7 rfl rfl)
theorem dX11_is_32 : decode cX11_is 32 = .ok (.goto 4, 3) := dk_167 0 4 (dk_at dksX11_is_1 8 rfl rfl)
theorem dX11_is_35 : decode cX11_is 35 = .ok (.iconst 0, 1) := dk_3 (dk_at dksX11_is_1 11 rfl rfl)
theorem dX11_is_36 : decode cX11_is 36 = .ok (.istore_n 2, 1) := dk_61 (dk_at dksX11_is_1 12 rfl rfl)
theorem dX11_is_37 : decode cX11_is 37 = .ok (.iconst 0, 1) := dk_3 (dk_at dksX11_is_1 13 rfl rfl)
theorem dX11_is_38 : decode cX11_is 38 = .ok (.istore_n 3, 1) := dk_62 (dk_at dksX11_is_1 14 rfl rfl)
theorem dX11_is_39 : decode cX11_is 39 = .ok (.iload_n 3, 1) := dk_29 (dk_at dksX11_is_1 15 rfl rfl)
theorem dX11_is_40 : decode cX11_is 40 = .ok (.aload_n 1, 1) := dk_43 (dk_at dksX11_is_1 16 rfl rfl)
theorem dX11_is_41 : decode cX11_is 41 = .ok (.invokevirtual 131, 3) := dk_182 0 131 (dk_at dksX11_is_1 17 rfl rfl)
theorem dX11_is_44 : decode cX11_is 44 = .ok (.if_icmp .ge 38, 3) := dk_162 0 38 (dk_at dksX11_is_1 20 rfl rfl)
theorem dX11_is_47 : decode cX11_is 47 = .ok (.iload_n 2, 1) := dk_28 (dk_at dksX11_is_1 23 rfl rfl)
theorem dX11_is_48 : decode cX11_is 48 = .ok (.ifCond .eq 34, 3) := dk_153 0 34 (dk_at dksX11_is_2 0 rfl rfl)
theorem dX11_is_51 : decode cX11_is 51 = .ok (.aload_n 0, 1) := dk_42 (dk_at dksX11_is_2 3 rfl rfl)
theorem dX11_is_52 : decode cX11_is 52 = .ok (.getfield 20, 3) := dk_180 0 20 (dk_at dksX11_is_2 4 rfl rfl)
theorem dX11_is_55 : decode cX11_is 55 = .ok (.aload_n 0, 1) := dk_42 (dk_at dksX11_is_2 7 rfl rfl)
theorem dX11_is_56 : decode cX11_is 56 = .ok (.getfield 102, 3) := dk_180 0 102 (dk_at dksX11_is_2 8 rfl rfl)
theorem dX11_is_59 : decode cX11_is 59 = .ok (.iload_n 3, 1) := dk_29 (dk_at dksX11_is_2 11 rfl rfl)
theorem dX11_is_60 : decode cX11_is 60 = .ok (.iadd, 1) := dk_96 (dk_at dksX11_is_2 12 rfl rfl)
theorem dX11_is_61 : decode cX11_is 61 = .ok (.baload, 1) := dk_51 (dk_at dksX11_is_2 13 rfl rfl)
theorem dX11_is_62 : decode cX11_is 62 = .ok (.aload_n 1, 1) := dk_43 (dk_at dksX11_is_2 14 rfl rfl)
theorem dX11_is_63 : decode cX11_is 63 = .ok (.iload_n 3, 1) := dk_29 (dk_at dksX11_is_2 15 rfl rfl)
theorem dX11_is_64 : decode cX11_is 64 = .ok (.invokevirtual 136, 3) := dk_182 0 136 (dk_at dksX11_is_2 16 rfl rfl)
theorem dX11_is_67 : decode cX11_is 67 = .ok (.if_icmp .ne 7, 3) := dk_160 0 7 (dk_at dksX11_is_2 19 rfl rfl)
theorem dX11_is_70 : decode cX11_is 70 = .ok (.iconst 1, 1) := dk_4 (dk_at dksX11_is_2 22 rfl rfl)
theorem dX11_is_71 : decode cX11_is 71 = .ok (.goto 4, 3) := dk_167 0 4 (dk_at dksX11_is_3 0 rfl rfl)
theorem dX11_is_74 : decode cX11_is 74 = .ok (.iconst 0, 1) := dk_3 (dk_at dksX11_is_3 3 rfl rfl)
theorem dX11_is_75 : decode cX11_is 75 = .ok (.istore_n 2, 1) := dk_61 (dk_at dksX11_is_3 4 rfl rfl)
theorem dX11_is_76 : decode cX11_is 76 = .ok (.iinc 3 1, 3) := dk_132 3 1 (dk_at dksX11_is_3 5 rfl rfl)
theorem dX11_is_79 : decode cX11_is 79 = .ok (.goto (-40), 3) := dk_167 255 216 (dk_at dksX11_is_3 8 rfl rfl)
theorem dX11_is_82 : decode cX11_is 82 = .ok (.iload_n 2, 1) := dk_28 (dk_at dksX11_is_3 11 rfl rfl)
theorem dX11_is_83 : decode cX11_is 83 = .ok (.ireturn, 1) := dk_172 (dk_at dksX11_is_3 12 rfl rfl)
abbrev cX11_errs : ByteArray := prog_19_method_21_code
def yX11_errs : MethodName := ⟨RX11, "errs", "(I)V"⟩
def dkwX11_errs_0 : List UInt8 := [42, 182, 0, 128, 154, 0, 4, 177, 42, 27, 181, 0, 125, 42, 42, 180, 0, 102, 181, 0, 27, 177]
abbrev dktX11_errs_0 : List UInt8 := dkwX11_errs_0 ++ []
theorem dksX11_errs_0 : cX11_errs.data.toList.drop 0 = dktX11_errs_0 := by decide +kernel
theorem dX11_errs_0 : decode cX11_errs 0 = .ok (.aload_n 0, 1) := dk_42 (dk_at dksX11_errs_0 0 rfl rfl)
theorem dX11_errs_1 : decode cX11_errs 1 = .ok (.invokevirtual 128, 3) := dk_182 0 128 (dk_at dksX11_errs_0 1 rfl rfl)
theorem dX11_errs_4 : decode cX11_errs 4 = .ok (.ifCond .ne 4, 3) := dk_154 0 4 (dk_at dksX11_errs_0 4 rfl rfl)
theorem dX11_errs_7 : decode cX11_errs 7 = .ok (.return_, 1) := dk_177 (dk_at dksX11_errs_0 7 rfl rfl)
theorem dX11_errs_8 : decode cX11_errs 8 = .ok (.aload_n 0, 1) := dk_42 (dk_at dksX11_errs_0 8 rfl rfl)
theorem dX11_errs_9 : decode cX11_errs 9 = .ok (.iload_n 1, 1) := dk_27 (dk_at dksX11_errs_0 9 rfl rfl)
theorem dX11_errs_10 : decode cX11_errs 10 = .ok (.putfield 125, 3) := dk_181 0 125 (dk_at dksX11_errs_0 10 rfl rfl)
theorem dX11_errs_13 : decode cX11_errs 13 = .ok (.aload_n 0, 1) := dk_42 (dk_at dksX11_errs_0 13 rfl rfl)
theorem dX11_errs_14 : decode cX11_errs 14 = .ok (.aload_n 0, 1) := dk_42 (dk_at dksX11_errs_0 14 rfl rfl)
theorem dX11_errs_15 : decode cX11_errs 15 = .ok (.getfield 102, 3) := dk_180 0 102 (dk_at dksX11_errs_0 15 rfl rfl)
theorem dX11_errs_18 : decode cX11_errs 18 = .ok (.putfield 27, 3) := dk_181 0 27 (dk_at dksX11_errs_0 18 rfl rfl)
theorem dX11_errs_21 : decode cX11_errs 21 = .ok (.return_, 1) := dk_177 (dk_at dksX11_errs_0 21 rfl rfl)
abbrev cX11_told : ByteArray := prog_19_method_26_code
def yX11_told : MethodName := ⟨RX11, "told", "(Ljava/lang/String;II)I"⟩
def dkwX11_told_0 : List UInt8 := [42, 43, 182, 0, 154, 42, 28, 29, 182, 0, 158, 172]
abbrev dktX11_told_0 : List UInt8 := dkwX11_told_0 ++ []
theorem dksX11_told_0 : cX11_told.data.toList.drop 0 = dktX11_told_0 := by decide +kernel
theorem dX11_told_0 : decode cX11_told 0 = .ok (.aload_n 0, 1) := dk_42 (dk_at dksX11_told_0 0 rfl rfl)
theorem dX11_told_1 : decode cX11_told 1 = .ok (.aload_n 1, 1) := dk_43 (dk_at dksX11_told_0 1 rfl rfl)
theorem dX11_told_2 : decode cX11_told 2 = .ok (.invokevirtual 154, 3) := dk_182 0 154 (dk_at dksX11_told_0 2 rfl rfl)
theorem dX11_told_5 : decode cX11_told 5 = .ok (.aload_n 0, 1) := dk_42 (dk_at dksX11_told_0 5 rfl rfl)
theorem dX11_told_6 : decode cX11_told 6 = .ok (.iload_n 2, 1) := dk_28 (dk_at dksX11_told_0 6 rfl rfl)
theorem dX11_told_7 : decode cX11_told 7 = .ok (.iload_n 3, 1) := dk_29 (dk_at dksX11_told_0 7 rfl rfl)
theorem dX11_told_8 : decode cX11_told 8 = .ok (.invokevirtual 158, 3) := dk_182 0 158 (dk_at dksX11_told_0 8 rfl rfl)
theorem dX11_told_11 : decode cX11_told 11 = .ok (.ireturn, 1) := dk_172 (dk_at dksX11_told_0 11 rfl rfl)
abbrev cX11_number : ByteArray := prog_19_method_25_code
def yX11_number : MethodName := ⟨RX11, "number", "(II)I"⟩
def dkwX11_number_2 : List UInt8 := [182, 0, 128, 154, 0, 5, 3, 172, 42, 180, 0, 116, 62, 42, 182, 0, 144, 29, 172]
abbrev dktX11_number_2 : List UInt8 := dkwX11_number_2 ++ []
def dkwX11_number_1 : List UInt8 := [153, 0, 23, 42, 180, 0, 116, 133, 27, 133, 28, 133, 184, 0, 70, 154, 0, 8, 42, 5, 182, 0, 150, 42]
abbrev dktX11_number_1 : List UInt8 := dkwX11_number_1 ++ dktX11_number_2
def dkwX11_number_0 : List UInt8 := [42, 182, 0, 128, 153, 0, 16, 42, 180, 0, 105, 5, 159, 0, 8, 42, 4, 182, 0, 150, 42, 182, 0, 128]
abbrev dktX11_number_0 : List UInt8 := dkwX11_number_0 ++ dktX11_number_1
theorem dksX11_number_0 : cX11_number.data.toList.drop 0 = dktX11_number_0 := by decide +kernel
theorem dksX11_number_1 : cX11_number.data.toList.drop 24 = dktX11_number_1 := dk_seg dksX11_number_0 24 rfl rfl
theorem dksX11_number_2 : cX11_number.data.toList.drop 48 = dktX11_number_2 := dk_seg dksX11_number_1 24 rfl rfl
theorem dX11_number_0 : decode cX11_number 0 = .ok (.aload_n 0, 1) := dk_42 (dk_at dksX11_number_0 0 rfl rfl)
theorem dX11_number_1 : decode cX11_number 1 = .ok (.invokevirtual 128, 3) := dk_182 0 128 (dk_at dksX11_number_0 1 rfl rfl)
theorem dX11_number_4 : decode cX11_number 4 = .ok (.ifCond .eq 16, 3) := dk_153 0 16 (dk_at dksX11_number_0 4 rfl rfl)
theorem dX11_number_7 : decode cX11_number 7 = .ok (.aload_n 0, 1) := dk_42 (dk_at dksX11_number_0 7 rfl rfl)
theorem dX11_number_8 : decode cX11_number 8 = .ok (.getfield 105, 3) := dk_180 0 105 (dk_at dksX11_number_0 8 rfl rfl)
theorem dX11_number_11 : decode cX11_number 11 = .ok (.iconst 2, 1) := dk_5 (dk_at dksX11_number_0 11 rfl rfl)
theorem dX11_number_12 : decode cX11_number 12 = .ok (.if_icmp .eq 8, 3) := dk_159 0 8 (dk_at dksX11_number_0 12 rfl rfl)
theorem dX11_number_15 : decode cX11_number 15 = .ok (.aload_n 0, 1) := dk_42 (dk_at dksX11_number_0 15 rfl rfl)
theorem dX11_number_16 : decode cX11_number 16 = .ok (.iconst 1, 1) := dk_4 (dk_at dksX11_number_0 16 rfl rfl)
theorem dX11_number_17 : decode cX11_number 17 = .ok (.invokevirtual 150, 3) := dk_182 0 150 (dk_at dksX11_number_0 17 rfl rfl)
theorem dX11_number_20 : decode cX11_number 20 = .ok (.aload_n 0, 1) := dk_42 (dk_at dksX11_number_0 20 rfl rfl)
theorem dX11_number_21 : decode cX11_number 21 = .ok (.invokevirtual 128, 3) := dk_182 0 128 (dk_at dksX11_number_0 21 rfl rfl)
theorem dX11_number_24 : decode cX11_number 24 = .ok (.ifCond .eq 23, 3) := dk_153 0 23 (dk_at dksX11_number_1 0 rfl rfl)
theorem dX11_number_27 : decode cX11_number 27 = .ok (.aload_n 0, 1) := dk_42 (dk_at dksX11_number_1 3 rfl rfl)
theorem dX11_number_28 : decode cX11_number 28 = .ok (.getfield 116, 3) := dk_180 0 116 (dk_at dksX11_number_1 4 rfl rfl)
theorem dX11_number_31 : decode cX11_number 31 = .ok (.i2l, 1) := dk_133 (dk_at dksX11_number_1 7 rfl rfl)
theorem dX11_number_32 : decode cX11_number 32 = .ok (.iload_n 1, 1) := dk_27 (dk_at dksX11_number_1 8 rfl rfl)
theorem dX11_number_33 : decode cX11_number 33 = .ok (.i2l, 1) := dk_133 (dk_at dksX11_number_1 9 rfl rfl)
theorem dX11_number_34 : decode cX11_number 34 = .ok (.iload_n 2, 1) := dk_28 (dk_at dksX11_number_1 10 rfl rfl)
theorem dX11_number_35 : decode cX11_number 35 = .ok (.i2l, 1) := dk_133 (dk_at dksX11_number_1 11 rfl rfl)
theorem dX11_number_36 : decode cX11_number 36 = .ok (.invokestatic 70, 3) := dk_184 0 70 (dk_at dksX11_number_1 12 rfl rfl)
theorem dX11_number_39 : decode cX11_number 39 = .ok (.ifCond .ne 8, 3) := dk_154 0 8 (dk_at dksX11_number_1 15 rfl rfl)
theorem dX11_number_42 : decode cX11_number 42 = .ok (.aload_n 0, 1) := dk_42 (dk_at dksX11_number_1 18 rfl rfl)
theorem dX11_number_43 : decode cX11_number 43 = .ok (.iconst 2, 1) := dk_5 (dk_at dksX11_number_1 19 rfl rfl)
theorem dX11_number_44 : decode cX11_number 44 = .ok (.invokevirtual 150, 3) := dk_182 0 150 (dk_at dksX11_number_1 20 rfl rfl)
theorem dX11_number_47 : decode cX11_number 47 = .ok (.aload_n 0, 1) := dk_42 (dk_at dksX11_number_1 23 rfl rfl)
theorem dX11_number_48 : decode cX11_number 48 = .ok (.invokevirtual 128, 3) := dk_182 0 128 (dk_at dksX11_number_2 0 rfl rfl)
theorem dX11_number_51 : decode cX11_number 51 = .ok (.ifCond .ne 5, 3) := dk_154 0 5 (dk_at dksX11_number_2 3 rfl rfl)
theorem dX11_number_54 : decode cX11_number 54 = .ok (.iconst 0, 1) := dk_3 (dk_at dksX11_number_2 6 rfl rfl)
theorem dX11_number_55 : decode cX11_number 55 = .ok (.ireturn, 1) := dk_172 (dk_at dksX11_number_2 7 rfl rfl)
theorem dX11_number_56 : decode cX11_number 56 = .ok (.aload_n 0, 1) := dk_42 (dk_at dksX11_number_2 8 rfl rfl)
theorem dX11_number_57 : decode cX11_number 57 = .ok (.getfield 116, 3) := dk_180 0 116 (dk_at dksX11_number_2 9 rfl rfl)
theorem dX11_number_60 : decode cX11_number 60 = .ok (.istore_n 3, 1) := dk_62 (dk_at dksX11_number_2 12 rfl rfl)
theorem dX11_number_61 : decode cX11_number 61 = .ok (.aload_n 0, 1) := dk_42 (dk_at dksX11_number_2 13 rfl rfl)
theorem dX11_number_62 : decode cX11_number 62 = .ok (.invokevirtual 144, 3) := dk_182 0 144 (dk_at dksX11_number_2 14 rfl rfl)
theorem dX11_number_65 : decode cX11_number 65 = .ok (.iload_n 3, 1) := dk_29 (dk_at dksX11_number_2 17 rfl rfl)
theorem dX11_number_66 : decode cX11_number 66 = .ok (.ireturn, 1) := dk_172 (dk_at dksX11_number_2 18 rfl rfl)
abbrev cX11_readNext : ByteArray := prog_19_method_34_code
def yX11_readNext : MethodName := ⟨RX11, "readNext", "()V"⟩
def dkwX11_readNext_13 : List UInt8 := [96, 79, 167, 0, 11, 42, 182, 0, 144, 42, 182, 0, 218, 177]
abbrev dktX11_readNext_13 : List UInt8 := dkwX11_readNext_13 ++ []
def dkwX11_readNext_12 : List UInt8 := [16, 107, 5, 42, 180, 0, 31, 16, 7, 46, 104, 96, 182, 0, 212, 42, 180, 0, 31, 16, 7, 92, 46, 4]
abbrev dktX11_readNext_12 : List UInt8 := dkwX11_readNext_12 ++ dktX11_readNext_13
def dkwX11_readNext_11 : List UInt8 := [182, 0, 147, 153, 0, 10, 42, 182, 0, 215, 167, 0, 50, 42, 18, 202, 182, 0, 147, 153, 0, 33, 42]
abbrev dktX11_readNext_11 : List UInt8 := dkwX11_readNext_11 ++ dktX11_readNext_12
def dkwX11_readNext_10 : List UInt8 := [8, 46, 104, 96, 182, 0, 212, 42, 180, 0, 31, 8, 92, 46, 4, 96, 79, 167, 0, 66, 42, 18, 200]
abbrev dktX11_readNext_10 : List UInt8 := dkwX11_readNext_10 ++ dktX11_readNext_11
def dkwX11_readNext_9 : List UInt8 := [42, 182, 0, 209, 167, 0, 103, 42, 18, 198, 182, 0, 147, 153, 0, 31, 42, 16, 67, 5, 42, 180, 0, 31]
abbrev dktX11_readNext_9 : List UInt8 := dkwX11_readNext_9 ++ dktX11_readNext_10
def dkwX11_readNext_8 : List UInt8 := [18, 194, 182, 0, 147, 153, 0, 10, 42, 182, 0, 206, 167, 0, 119, 42, 18, 196, 182, 0, 147, 153, 0, 10]
abbrev dktX11_readNext_8 : List UInt8 := dkwX11_readNext_8 ++ dktX11_readNext_9
def dkwX11_readNext_7 : List UInt8 := [180, 0, 31, 16, 8, 46, 8, 160, 0, 8, 42, 6, 182, 0, 150, 42, 182, 0, 128, 154, 0, 4, 177, 42]
abbrev dktX11_readNext_7 : List UInt8 := dkwX11_readNext_7 ++ dktX11_readNext_8
def dkwX11_readNext_6 : List UInt8 := [153, 0, 14, 42, 180, 0, 31, 16, 7, 46, 7, 159, 0, 23, 42, 18, 204, 182, 0, 140, 153, 0, 19, 42]
abbrev dktX11_readNext_6 : List UInt8 := dkwX11_readNext_6 ++ dktX11_readNext_7
def dkwX11_readNext_5 : List UInt8 := [180, 0, 31, 16, 6, 46, 16, 8, 160, 0, 8, 42, 6, 182, 0, 150, 42, 18, 202, 182, 0, 140]
abbrev dktX11_readNext_5 : List UInt8 := dkwX11_readNext_5 ++ dktX11_readNext_6
def dkwX11_readNext_4 : List UInt8 := [153, 0, 13, 42, 180, 0, 31, 8, 46, 7, 159, 0, 24, 42, 18, 200, 182, 0, 140, 153, 0, 20, 42]
abbrev dktX11_readNext_4 : List UInt8 := dkwX11_readNext_4 ++ dktX11_readNext_5
def dkwX11_readNext_3 : List UInt8 := [182, 0, 140, 153, 0, 14, 42, 180, 0, 31, 7, 46, 16, 9, 159, 0, 43, 42, 18, 198, 182, 0, 140]
abbrev dktX11_readNext_3 : List UInt8 := dkwX11_readNext_3 ++ dktX11_readNext_4
def dkwX11_readNext_2 : List UInt8 := [182, 0, 140, 153, 0, 7, 4, 167, 0, 4, 3, 60, 27, 154, 0, 8, 42, 4, 182, 0, 150, 42, 18, 196]
abbrev dktX11_readNext_2 : List UInt8 := dkwX11_readNext_2 ++ dktX11_readNext_3
def dkwX11_readNext_1 : List UInt8 := [154, 0, 30, 42, 18, 200, 182, 0, 140, 154, 0, 21, 42, 18, 202, 182, 0, 140, 154, 0, 12, 42, 18, 204]
abbrev dktX11_readNext_1 : List UInt8 := dkwX11_readNext_1 ++ dktX11_readNext_2
def dkwX11_readNext_0 : List UInt8 := [42, 18, 194, 182, 0, 140, 154, 0, 48, 42, 18, 196, 182, 0, 140, 154, 0, 39, 42, 18, 198, 182, 0, 140]
abbrev dktX11_readNext_0 : List UInt8 := dkwX11_readNext_0 ++ dktX11_readNext_1
theorem dksX11_readNext_0 : cX11_readNext.data.toList.drop 0 = dktX11_readNext_0 := by decide +kernel
theorem dksX11_readNext_1 : cX11_readNext.data.toList.drop 24 = dktX11_readNext_1 := dk_seg dksX11_readNext_0 24 rfl rfl
theorem dksX11_readNext_2 : cX11_readNext.data.toList.drop 48 = dktX11_readNext_2 := dk_seg dksX11_readNext_1 24 rfl rfl
theorem dksX11_readNext_3 : cX11_readNext.data.toList.drop 72 = dktX11_readNext_3 := dk_seg dksX11_readNext_2 24 rfl rfl
theorem dksX11_readNext_4 : cX11_readNext.data.toList.drop 95 = dktX11_readNext_4 := dk_seg dksX11_readNext_3 23 rfl rfl
theorem dksX11_readNext_5 : cX11_readNext.data.toList.drop 118 = dktX11_readNext_5 := dk_seg dksX11_readNext_4 23 rfl rfl
theorem dksX11_readNext_6 : cX11_readNext.data.toList.drop 140 = dktX11_readNext_6 := dk_seg dksX11_readNext_5 22 rfl rfl
theorem dksX11_readNext_7 : cX11_readNext.data.toList.drop 164 = dktX11_readNext_7 := dk_seg dksX11_readNext_6 24 rfl rfl
theorem dksX11_readNext_8 : cX11_readNext.data.toList.drop 188 = dktX11_readNext_8 := dk_seg dksX11_readNext_7 24 rfl rfl
theorem dksX11_readNext_9 : cX11_readNext.data.toList.drop 212 = dktX11_readNext_9 := dk_seg dksX11_readNext_8 24 rfl rfl
theorem dksX11_readNext_10 : cX11_readNext.data.toList.drop 236 = dktX11_readNext_10 := dk_seg dksX11_readNext_9 24 rfl rfl
theorem dksX11_readNext_11 : cX11_readNext.data.toList.drop 259 = dktX11_readNext_11 := dk_seg dksX11_readNext_10 23 rfl rfl
theorem dksX11_readNext_12 : cX11_readNext.data.toList.drop 282 = dktX11_readNext_12 := dk_seg dksX11_readNext_11 23 rfl rfl
theorem dksX11_readNext_13 : cX11_readNext.data.toList.drop 306 = dktX11_readNext_13 := dk_seg dksX11_readNext_12 24 rfl rfl
theorem dX11_readNext_0 : decode cX11_readNext 0 = .ok (.aload_n 0, 1) := dk_42 (dk_at dksX11_readNext_0 0 rfl rfl)
theorem dX11_readNext_1 : decode cX11_readNext 1 = .ok (.ldc 194, 2) := dk_18 194 (dk_at dksX11_readNext_0 1 rfl rfl)
theorem dX11_readNext_3 : decode cX11_readNext 3 = .ok (.invokevirtual 140, 3) := dk_182 0 140 (dk_at dksX11_readNext_0 3 rfl rfl)
theorem dX11_readNext_6 : decode cX11_readNext 6 = .ok (.ifCond .ne 48, 3) := dk_154 0 48 (dk_at dksX11_readNext_0 6 rfl rfl)
theorem dX11_readNext_9 : decode cX11_readNext 9 = .ok (.aload_n 0, 1) := dk_42 (dk_at dksX11_readNext_0 9 rfl rfl)
theorem dX11_readNext_10 : decode cX11_readNext 10 = .ok (.ldc 196, 2) := dk_18 196 (dk_at dksX11_readNext_0 10 rfl rfl)
theorem dX11_readNext_12 : decode cX11_readNext 12 = .ok (.invokevirtual 140, 3) := dk_182 0 140 (dk_at dksX11_readNext_0 12 rfl rfl)
theorem dX11_readNext_15 : decode cX11_readNext 15 = .ok (.ifCond .ne 39, 3) := dk_154 0 39 (dk_at dksX11_readNext_0 15 rfl rfl)
theorem dX11_readNext_18 : decode cX11_readNext 18 = .ok (.aload_n 0, 1) := dk_42 (dk_at dksX11_readNext_0 18 rfl rfl)
theorem dX11_readNext_19 : decode cX11_readNext 19 = .ok (.ldc 198, 2) := dk_18 198 (dk_at dksX11_readNext_0 19 rfl rfl)
theorem dX11_readNext_21 : decode cX11_readNext 21 = .ok (.invokevirtual 140, 3) := dk_182 0 140 (dk_at dksX11_readNext_0 21 rfl rfl)
theorem dX11_readNext_24 : decode cX11_readNext 24 = .ok (.ifCond .ne 30, 3) := dk_154 0 30 (dk_at dksX11_readNext_1 0 rfl rfl)
theorem dX11_readNext_27 : decode cX11_readNext 27 = .ok (.aload_n 0, 1) := dk_42 (dk_at dksX11_readNext_1 3 rfl rfl)
theorem dX11_readNext_28 : decode cX11_readNext 28 = .ok (.ldc 200, 2) := dk_18 200 (dk_at dksX11_readNext_1 4 rfl rfl)
theorem dX11_readNext_30 : decode cX11_readNext 30 = .ok (.invokevirtual 140, 3) := dk_182 0 140 (dk_at dksX11_readNext_1 6 rfl rfl)
theorem dX11_readNext_33 : decode cX11_readNext 33 = .ok (.ifCond .ne 21, 3) := dk_154 0 21 (dk_at dksX11_readNext_1 9 rfl rfl)
theorem dX11_readNext_36 : decode cX11_readNext 36 = .ok (.aload_n 0, 1) := dk_42 (dk_at dksX11_readNext_1 12 rfl rfl)
theorem dX11_readNext_37 : decode cX11_readNext 37 = .ok (.ldc 202, 2) := dk_18 202 (dk_at dksX11_readNext_1 13 rfl rfl)
theorem dX11_readNext_39 : decode cX11_readNext 39 = .ok (.invokevirtual 140, 3) := dk_182 0 140 (dk_at dksX11_readNext_1 15 rfl rfl)
theorem dX11_readNext_42 : decode cX11_readNext 42 = .ok (.ifCond .ne 12, 3) := dk_154 0 12 (dk_at dksX11_readNext_1 18 rfl rfl)
theorem dX11_readNext_45 : decode cX11_readNext 45 = .ok (.aload_n 0, 1) := dk_42 (dk_at dksX11_readNext_1 21 rfl rfl)
theorem dX11_readNext_46 : decode cX11_readNext 46 = .ok (.ldc 204, 2) := dk_18 204 (dk_at dksX11_readNext_1 22 rfl rfl)
theorem dX11_readNext_48 : decode cX11_readNext 48 = .ok (.invokevirtual 140, 3) := dk_182 0 140 (dk_at dksX11_readNext_2 0 rfl rfl)
theorem dX11_readNext_51 : decode cX11_readNext 51 = .ok (.ifCond .eq 7, 3) := dk_153 0 7 (dk_at dksX11_readNext_2 3 rfl rfl)
theorem dX11_readNext_54 : decode cX11_readNext 54 = .ok (.iconst 1, 1) := dk_4 (dk_at dksX11_readNext_2 6 rfl rfl)
theorem dX11_readNext_55 : decode cX11_readNext 55 = .ok (.goto 4, 3) := dk_167 0 4 (dk_at dksX11_readNext_2 7 rfl rfl)
theorem dX11_readNext_58 : decode cX11_readNext 58 = .ok (.iconst 0, 1) := dk_3 (dk_at dksX11_readNext_2 10 rfl rfl)
theorem dX11_readNext_59 : decode cX11_readNext 59 = .ok (.istore_n 1, 1) := dk_60 (dk_at dksX11_readNext_2 11 rfl rfl)
theorem dX11_readNext_60 : decode cX11_readNext 60 = .ok (.iload_n 1, 1) := dk_27 (dk_at dksX11_readNext_2 12 rfl rfl)
theorem dX11_readNext_61 : decode cX11_readNext 61 = .ok (.ifCond .ne 8, 3) := dk_154 0 8 (dk_at dksX11_readNext_2 13 rfl rfl)
theorem dX11_readNext_64 : decode cX11_readNext 64 = .ok (.aload_n 0, 1) := dk_42 (dk_at dksX11_readNext_2 16 rfl rfl)
theorem dX11_readNext_65 : decode cX11_readNext 65 = .ok (.iconst 1, 1) := dk_4 (dk_at dksX11_readNext_2 17 rfl rfl)
theorem dX11_readNext_66 : decode cX11_readNext 66 = .ok (.invokevirtual 150, 3) := dk_182 0 150 (dk_at dksX11_readNext_2 18 rfl rfl)
theorem dX11_readNext_69 : decode cX11_readNext 69 = .ok (.aload_n 0, 1) := dk_42 (dk_at dksX11_readNext_2 21 rfl rfl)
theorem dX11_readNext_70 : decode cX11_readNext 70 = .ok (.ldc 196, 2) := dk_18 196 (dk_at dksX11_readNext_2 22 rfl rfl)
theorem dX11_readNext_72 : decode cX11_readNext 72 = .ok (.invokevirtual 140, 3) := dk_182 0 140 (dk_at dksX11_readNext_3 0 rfl rfl)
theorem dX11_readNext_75 : decode cX11_readNext 75 = .ok (.ifCond .eq 14, 3) := dk_153 0 14 (dk_at dksX11_readNext_3 3 rfl rfl)
theorem dX11_readNext_78 : decode cX11_readNext 78 = .ok (.aload_n 0, 1) := dk_42 (dk_at dksX11_readNext_3 6 rfl rfl)
theorem dX11_readNext_79 : decode cX11_readNext 79 = .ok (.getfield 31, 3) := dk_180 0 31 (dk_at dksX11_readNext_3 7 rfl rfl)
theorem dX11_readNext_82 : decode cX11_readNext 82 = .ok (.iconst 4, 1) := dk_7 (dk_at dksX11_readNext_3 10 rfl rfl)
theorem dX11_readNext_83 : decode cX11_readNext 83 = .ok (.iaload, 1) := dk_46 (dk_at dksX11_readNext_3 11 rfl rfl)
theorem dX11_readNext_84 : decode cX11_readNext 84 = .ok (.bipush 9, 2) := dk_16 9 (dk_at dksX11_readNext_3 12 rfl rfl)
theorem dX11_readNext_86 : decode cX11_readNext 86 = .ok (.if_icmp .eq 43, 3) := dk_159 0 43 (dk_at dksX11_readNext_3 14 rfl rfl)
theorem dX11_readNext_89 : decode cX11_readNext 89 = .ok (.aload_n 0, 1) := dk_42 (dk_at dksX11_readNext_3 17 rfl rfl)
theorem dX11_readNext_90 : decode cX11_readNext 90 = .ok (.ldc 198, 2) := dk_18 198 (dk_at dksX11_readNext_3 18 rfl rfl)
theorem dX11_readNext_92 : decode cX11_readNext 92 = .ok (.invokevirtual 140, 3) := dk_182 0 140 (dk_at dksX11_readNext_3 20 rfl rfl)
theorem dX11_readNext_95 : decode cX11_readNext 95 = .ok (.ifCond .eq 13, 3) := dk_153 0 13 (dk_at dksX11_readNext_4 0 rfl rfl)
theorem dX11_readNext_98 : decode cX11_readNext 98 = .ok (.aload_n 0, 1) := dk_42 (dk_at dksX11_readNext_4 3 rfl rfl)
theorem dX11_readNext_99 : decode cX11_readNext 99 = .ok (.getfield 31, 3) := dk_180 0 31 (dk_at dksX11_readNext_4 4 rfl rfl)
theorem dX11_readNext_102 : decode cX11_readNext 102 = .ok (.iconst 5, 1) := dk_8 (dk_at dksX11_readNext_4 7 rfl rfl)
theorem dX11_readNext_103 : decode cX11_readNext 103 = .ok (.iaload, 1) := dk_46 (dk_at dksX11_readNext_4 8 rfl rfl)
theorem dX11_readNext_104 : decode cX11_readNext 104 = .ok (.iconst 4, 1) := dk_7 (dk_at dksX11_readNext_4 9 rfl rfl)
theorem dX11_readNext_105 : decode cX11_readNext 105 = .ok (.if_icmp .eq 24, 3) := dk_159 0 24 (dk_at dksX11_readNext_4 10 rfl rfl)
theorem dX11_readNext_108 : decode cX11_readNext 108 = .ok (.aload_n 0, 1) := dk_42 (dk_at dksX11_readNext_4 13 rfl rfl)
theorem dX11_readNext_109 : decode cX11_readNext 109 = .ok (.ldc 200, 2) := dk_18 200 (dk_at dksX11_readNext_4 14 rfl rfl)
theorem dX11_readNext_111 : decode cX11_readNext 111 = .ok (.invokevirtual 140, 3) := dk_182 0 140 (dk_at dksX11_readNext_4 16 rfl rfl)
theorem dX11_readNext_114 : decode cX11_readNext 114 = .ok (.ifCond .eq 20, 3) := dk_153 0 20 (dk_at dksX11_readNext_4 19 rfl rfl)
theorem dX11_readNext_117 : decode cX11_readNext 117 = .ok (.aload_n 0, 1) := dk_42 (dk_at dksX11_readNext_4 22 rfl rfl)
theorem dX11_readNext_118 : decode cX11_readNext 118 = .ok (.getfield 31, 3) := dk_180 0 31 (dk_at dksX11_readNext_5 0 rfl rfl)
theorem dX11_readNext_121 : decode cX11_readNext 121 = .ok (.bipush 6, 2) := dk_16 6 (dk_at dksX11_readNext_5 3 rfl rfl)
theorem dX11_readNext_123 : decode cX11_readNext 123 = .ok (.iaload, 1) := dk_46 (dk_at dksX11_readNext_5 5 rfl rfl)
theorem dX11_readNext_124 : decode cX11_readNext 124 = .ok (.bipush 8, 2) := dk_16 8 (dk_at dksX11_readNext_5 6 rfl rfl)
theorem dX11_readNext_126 : decode cX11_readNext 126 = .ok (.if_icmp .ne 8, 3) := dk_160 0 8 (dk_at dksX11_readNext_5 8 rfl rfl)
theorem dX11_readNext_129 : decode cX11_readNext 129 = .ok (.aload_n 0, 1) := dk_42 (dk_at dksX11_readNext_5 11 rfl rfl)
theorem dX11_readNext_130 : decode cX11_readNext 130 = .ok (.iconst 3, 1) := dk_6 (dk_at dksX11_readNext_5 12 rfl rfl)
theorem dX11_readNext_131 : decode cX11_readNext 131 = .ok (.invokevirtual 150, 3) := dk_182 0 150 (dk_at dksX11_readNext_5 13 rfl rfl)
theorem dX11_readNext_134 : decode cX11_readNext 134 = .ok (.aload_n 0, 1) := dk_42 (dk_at dksX11_readNext_5 16 rfl rfl)
theorem dX11_readNext_135 : decode cX11_readNext 135 = .ok (.ldc 202, 2) := dk_18 202 (dk_at dksX11_readNext_5 17 rfl rfl)
theorem dX11_readNext_137 : decode cX11_readNext 137 = .ok (.invokevirtual 140, 3) := dk_182 0 140 (dk_at dksX11_readNext_5 19 rfl rfl)
theorem dX11_readNext_140 : decode cX11_readNext 140 = .ok (.ifCond .eq 14, 3) := dk_153 0 14 (dk_at dksX11_readNext_6 0 rfl rfl)
theorem dX11_readNext_143 : decode cX11_readNext 143 = .ok (.aload_n 0, 1) := dk_42 (dk_at dksX11_readNext_6 3 rfl rfl)
theorem dX11_readNext_144 : decode cX11_readNext 144 = .ok (.getfield 31, 3) := dk_180 0 31 (dk_at dksX11_readNext_6 4 rfl rfl)
theorem dX11_readNext_147 : decode cX11_readNext 147 = .ok (.bipush 7, 2) := dk_16 7 (dk_at dksX11_readNext_6 7 rfl rfl)
theorem dX11_readNext_149 : decode cX11_readNext 149 = .ok (.iaload, 1) := dk_46 (dk_at dksX11_readNext_6 9 rfl rfl)
theorem dX11_readNext_150 : decode cX11_readNext 150 = .ok (.iconst 4, 1) := dk_7 (dk_at dksX11_readNext_6 10 rfl rfl)
theorem dX11_readNext_151 : decode cX11_readNext 151 = .ok (.if_icmp .eq 23, 3) := dk_159 0 23 (dk_at dksX11_readNext_6 11 rfl rfl)
theorem dX11_readNext_154 : decode cX11_readNext 154 = .ok (.aload_n 0, 1) := dk_42 (dk_at dksX11_readNext_6 14 rfl rfl)
theorem dX11_readNext_155 : decode cX11_readNext 155 = .ok (.ldc 204, 2) := dk_18 204 (dk_at dksX11_readNext_6 15 rfl rfl)
theorem dX11_readNext_157 : decode cX11_readNext 157 = .ok (.invokevirtual 140, 3) := dk_182 0 140 (dk_at dksX11_readNext_6 17 rfl rfl)
theorem dX11_readNext_160 : decode cX11_readNext 160 = .ok (.ifCond .eq 19, 3) := dk_153 0 19 (dk_at dksX11_readNext_6 20 rfl rfl)
theorem dX11_readNext_163 : decode cX11_readNext 163 = .ok (.aload_n 0, 1) := dk_42 (dk_at dksX11_readNext_6 23 rfl rfl)
theorem dX11_readNext_164 : decode cX11_readNext 164 = .ok (.getfield 31, 3) := dk_180 0 31 (dk_at dksX11_readNext_7 0 rfl rfl)
theorem dX11_readNext_167 : decode cX11_readNext 167 = .ok (.bipush 8, 2) := dk_16 8 (dk_at dksX11_readNext_7 3 rfl rfl)
theorem dX11_readNext_169 : decode cX11_readNext 169 = .ok (.iaload, 1) := dk_46 (dk_at dksX11_readNext_7 5 rfl rfl)
theorem dX11_readNext_170 : decode cX11_readNext 170 = .ok (.iconst 5, 1) := dk_8 (dk_at dksX11_readNext_7 6 rfl rfl)
theorem dX11_readNext_171 : decode cX11_readNext 171 = .ok (.if_icmp .ne 8, 3) := dk_160 0 8 (dk_at dksX11_readNext_7 7 rfl rfl)
theorem dX11_readNext_174 : decode cX11_readNext 174 = .ok (.aload_n 0, 1) := dk_42 (dk_at dksX11_readNext_7 10 rfl rfl)
theorem dX11_readNext_175 : decode cX11_readNext 175 = .ok (.iconst 3, 1) := dk_6 (dk_at dksX11_readNext_7 11 rfl rfl)
theorem dX11_readNext_176 : decode cX11_readNext 176 = .ok (.invokevirtual 150, 3) := dk_182 0 150 (dk_at dksX11_readNext_7 12 rfl rfl)
theorem dX11_readNext_179 : decode cX11_readNext 179 = .ok (.aload_n 0, 1) := dk_42 (dk_at dksX11_readNext_7 15 rfl rfl)
theorem dX11_readNext_180 : decode cX11_readNext 180 = .ok (.invokevirtual 128, 3) := dk_182 0 128 (dk_at dksX11_readNext_7 16 rfl rfl)
theorem dX11_readNext_183 : decode cX11_readNext 183 = .ok (.ifCond .ne 4, 3) := dk_154 0 4 (dk_at dksX11_readNext_7 19 rfl rfl)
theorem dX11_readNext_186 : decode cX11_readNext 186 = .ok (.return_, 1) := dk_177 (dk_at dksX11_readNext_7 22 rfl rfl)
theorem dX11_readNext_187 : decode cX11_readNext 187 = .ok (.aload_n 0, 1) := dk_42 (dk_at dksX11_readNext_7 23 rfl rfl)
theorem dX11_readNext_188 : decode cX11_readNext 188 = .ok (.ldc 194, 2) := dk_18 194 (dk_at dksX11_readNext_8 0 rfl rfl)
theorem dX11_readNext_190 : decode cX11_readNext 190 = .ok (.invokevirtual 147, 3) := dk_182 0 147 (dk_at dksX11_readNext_8 2 rfl rfl)
theorem dX11_readNext_193 : decode cX11_readNext 193 = .ok (.ifCond .eq 10, 3) := dk_153 0 10 (dk_at dksX11_readNext_8 5 rfl rfl)
theorem dX11_readNext_196 : decode cX11_readNext 196 = .ok (.aload_n 0, 1) := dk_42 (dk_at dksX11_readNext_8 8 rfl rfl)
theorem dX11_readNext_197 : decode cX11_readNext 197 = .ok (.invokevirtual 206, 3) := dk_182 0 206 (dk_at dksX11_readNext_8 9 rfl rfl)
theorem dX11_readNext_200 : decode cX11_readNext 200 = .ok (.goto 119, 3) := dk_167 0 119 (dk_at dksX11_readNext_8 12 rfl rfl)
theorem dX11_readNext_203 : decode cX11_readNext 203 = .ok (.aload_n 0, 1) := dk_42 (dk_at dksX11_readNext_8 15 rfl rfl)
theorem dX11_readNext_204 : decode cX11_readNext 204 = .ok (.ldc 196, 2) := dk_18 196 (dk_at dksX11_readNext_8 16 rfl rfl)
theorem dX11_readNext_206 : decode cX11_readNext 206 = .ok (.invokevirtual 147, 3) := dk_182 0 147 (dk_at dksX11_readNext_8 18 rfl rfl)
theorem dX11_readNext_209 : decode cX11_readNext 209 = .ok (.ifCond .eq 10, 3) := dk_153 0 10 (dk_at dksX11_readNext_8 21 rfl rfl)
theorem dX11_readNext_212 : decode cX11_readNext 212 = .ok (.aload_n 0, 1) := dk_42 (dk_at dksX11_readNext_9 0 rfl rfl)
theorem dX11_readNext_213 : decode cX11_readNext 213 = .ok (.invokevirtual 209, 3) := dk_182 0 209 (dk_at dksX11_readNext_9 1 rfl rfl)
theorem dX11_readNext_216 : decode cX11_readNext 216 = .ok (.goto 103, 3) := dk_167 0 103 (dk_at dksX11_readNext_9 4 rfl rfl)
theorem dX11_readNext_219 : decode cX11_readNext 219 = .ok (.aload_n 0, 1) := dk_42 (dk_at dksX11_readNext_9 7 rfl rfl)
theorem dX11_readNext_220 : decode cX11_readNext 220 = .ok (.ldc 198, 2) := dk_18 198 (dk_at dksX11_readNext_9 8 rfl rfl)
theorem dX11_readNext_222 : decode cX11_readNext 222 = .ok (.invokevirtual 147, 3) := dk_182 0 147 (dk_at dksX11_readNext_9 10 rfl rfl)
theorem dX11_readNext_225 : decode cX11_readNext 225 = .ok (.ifCond .eq 31, 3) := dk_153 0 31 (dk_at dksX11_readNext_9 13 rfl rfl)
theorem dX11_readNext_228 : decode cX11_readNext 228 = .ok (.aload_n 0, 1) := dk_42 (dk_at dksX11_readNext_9 16 rfl rfl)
theorem dX11_readNext_229 : decode cX11_readNext 229 = .ok (.bipush 67, 2) := dk_16 67 (dk_at dksX11_readNext_9 17 rfl rfl)
theorem dX11_readNext_231 : decode cX11_readNext 231 = .ok (.iconst 2, 1) := dk_5 (dk_at dksX11_readNext_9 19 rfl rfl)
theorem dX11_readNext_232 : decode cX11_readNext 232 = .ok (.aload_n 0, 1) := dk_42 (dk_at dksX11_readNext_9 20 rfl rfl)
theorem dX11_readNext_233 : decode cX11_readNext 233 = .ok (.getfield 31, 3) := dk_180 0 31 (dk_at dksX11_readNext_9 21 rfl rfl)
theorem dX11_readNext_236 : decode cX11_readNext 236 = .ok (.iconst 5, 1) := dk_8 (dk_at dksX11_readNext_10 0 rfl rfl)
theorem dX11_readNext_237 : decode cX11_readNext 237 = .ok (.iaload, 1) := dk_46 (dk_at dksX11_readNext_10 1 rfl rfl)
theorem dX11_readNext_238 : decode cX11_readNext 238 = .ok (.imul, 1) := dk_104 (dk_at dksX11_readNext_10 2 rfl rfl)
theorem dX11_readNext_239 : decode cX11_readNext 239 = .ok (.iadd, 1) := dk_96 (dk_at dksX11_readNext_10 3 rfl rfl)
theorem dX11_readNext_240 : decode cX11_readNext 240 = .ok (.invokevirtual 212, 3) := dk_182 0 212 (dk_at dksX11_readNext_10 4 rfl rfl)
theorem dX11_readNext_243 : decode cX11_readNext 243 = .ok (.aload_n 0, 1) := dk_42 (dk_at dksX11_readNext_10 7 rfl rfl)
theorem dX11_readNext_244 : decode cX11_readNext 244 = .ok (.getfield 31, 3) := dk_180 0 31 (dk_at dksX11_readNext_10 8 rfl rfl)
theorem dX11_readNext_247 : decode cX11_readNext 247 = .ok (.iconst 5, 1) := dk_8 (dk_at dksX11_readNext_10 11 rfl rfl)
theorem dX11_readNext_248 : decode cX11_readNext 248 = .ok (.dup2, 1) := dk_92 (dk_at dksX11_readNext_10 12 rfl rfl)
theorem dX11_readNext_249 : decode cX11_readNext 249 = .ok (.iaload, 1) := dk_46 (dk_at dksX11_readNext_10 13 rfl rfl)
theorem dX11_readNext_250 : decode cX11_readNext 250 = .ok (.iconst 1, 1) := dk_4 (dk_at dksX11_readNext_10 14 rfl rfl)
theorem dX11_readNext_251 : decode cX11_readNext 251 = .ok (.iadd, 1) := dk_96 (dk_at dksX11_readNext_10 15 rfl rfl)
theorem dX11_readNext_252 : decode cX11_readNext 252 = .ok (.iastore, 1) := dk_79 (dk_at dksX11_readNext_10 16 rfl rfl)
theorem dX11_readNext_253 : decode cX11_readNext 253 = .ok (.goto 66, 3) := dk_167 0 66 (dk_at dksX11_readNext_10 17 rfl rfl)
theorem dX11_readNext_256 : decode cX11_readNext 256 = .ok (.aload_n 0, 1) := dk_42 (dk_at dksX11_readNext_10 20 rfl rfl)
theorem dX11_readNext_257 : decode cX11_readNext 257 = .ok (.ldc 200, 2) := dk_18 200 (dk_at dksX11_readNext_10 21 rfl rfl)
theorem dX11_readNext_259 : decode cX11_readNext 259 = .ok (.invokevirtual 147, 3) := dk_182 0 147 (dk_at dksX11_readNext_11 0 rfl rfl)
theorem dX11_readNext_262 : decode cX11_readNext 262 = .ok (.ifCond .eq 10, 3) := dk_153 0 10 (dk_at dksX11_readNext_11 3 rfl rfl)
theorem dX11_readNext_265 : decode cX11_readNext 265 = .ok (.aload_n 0, 1) := dk_42 (dk_at dksX11_readNext_11 6 rfl rfl)
theorem dX11_readNext_266 : decode cX11_readNext 266 = .ok (.invokevirtual 215, 3) := dk_182 0 215 (dk_at dksX11_readNext_11 7 rfl rfl)
theorem dX11_readNext_269 : decode cX11_readNext 269 = .ok (.goto 50, 3) := dk_167 0 50 (dk_at dksX11_readNext_11 10 rfl rfl)
theorem dX11_readNext_272 : decode cX11_readNext 272 = .ok (.aload_n 0, 1) := dk_42 (dk_at dksX11_readNext_11 13 rfl rfl)
theorem dX11_readNext_273 : decode cX11_readNext 273 = .ok (.ldc 202, 2) := dk_18 202 (dk_at dksX11_readNext_11 14 rfl rfl)
theorem dX11_readNext_275 : decode cX11_readNext 275 = .ok (.invokevirtual 147, 3) := dk_182 0 147 (dk_at dksX11_readNext_11 16 rfl rfl)
theorem dX11_readNext_278 : decode cX11_readNext 278 = .ok (.ifCond .eq 33, 3) := dk_153 0 33 (dk_at dksX11_readNext_11 19 rfl rfl)
theorem dX11_readNext_281 : decode cX11_readNext 281 = .ok (.aload_n 0, 1) := dk_42 (dk_at dksX11_readNext_11 22 rfl rfl)
theorem dX11_readNext_282 : decode cX11_readNext 282 = .ok (.bipush 107, 2) := dk_16 107 (dk_at dksX11_readNext_12 0 rfl rfl)
theorem dX11_readNext_284 : decode cX11_readNext 284 = .ok (.iconst 2, 1) := dk_5 (dk_at dksX11_readNext_12 2 rfl rfl)
theorem dX11_readNext_285 : decode cX11_readNext 285 = .ok (.aload_n 0, 1) := dk_42 (dk_at dksX11_readNext_12 3 rfl rfl)
theorem dX11_readNext_286 : decode cX11_readNext 286 = .ok (.getfield 31, 3) := dk_180 0 31 (dk_at dksX11_readNext_12 4 rfl rfl)
theorem dX11_readNext_289 : decode cX11_readNext 289 = .ok (.bipush 7, 2) := dk_16 7 (dk_at dksX11_readNext_12 7 rfl rfl)
theorem dX11_readNext_291 : decode cX11_readNext 291 = .ok (.iaload, 1) := dk_46 (dk_at dksX11_readNext_12 9 rfl rfl)
theorem dX11_readNext_292 : decode cX11_readNext 292 = .ok (.imul, 1) := dk_104 (dk_at dksX11_readNext_12 10 rfl rfl)
theorem dX11_readNext_293 : decode cX11_readNext 293 = .ok (.iadd, 1) := dk_96 (dk_at dksX11_readNext_12 11 rfl rfl)
theorem dX11_readNext_294 : decode cX11_readNext 294 = .ok (.invokevirtual 212, 3) := dk_182 0 212 (dk_at dksX11_readNext_12 12 rfl rfl)
theorem dX11_readNext_297 : decode cX11_readNext 297 = .ok (.aload_n 0, 1) := dk_42 (dk_at dksX11_readNext_12 15 rfl rfl)
theorem dX11_readNext_298 : decode cX11_readNext 298 = .ok (.getfield 31, 3) := dk_180 0 31 (dk_at dksX11_readNext_12 16 rfl rfl)
theorem dX11_readNext_301 : decode cX11_readNext 301 = .ok (.bipush 7, 2) := dk_16 7 (dk_at dksX11_readNext_12 19 rfl rfl)
theorem dX11_readNext_303 : decode cX11_readNext 303 = .ok (.dup2, 1) := dk_92 (dk_at dksX11_readNext_12 21 rfl rfl)
theorem dX11_readNext_304 : decode cX11_readNext 304 = .ok (.iaload, 1) := dk_46 (dk_at dksX11_readNext_12 22 rfl rfl)
theorem dX11_readNext_305 : decode cX11_readNext 305 = .ok (.iconst 1, 1) := dk_4 (dk_at dksX11_readNext_12 23 rfl rfl)
theorem dX11_readNext_306 : decode cX11_readNext 306 = .ok (.iadd, 1) := dk_96 (dk_at dksX11_readNext_13 0 rfl rfl)
theorem dX11_readNext_307 : decode cX11_readNext 307 = .ok (.iastore, 1) := dk_79 (dk_at dksX11_readNext_13 1 rfl rfl)
theorem dX11_readNext_308 : decode cX11_readNext 308 = .ok (.goto 11, 3) := dk_167 0 11 (dk_at dksX11_readNext_13 2 rfl rfl)
theorem dX11_readNext_311 : decode cX11_readNext 311 = .ok (.aload_n 0, 1) := dk_42 (dk_at dksX11_readNext_13 5 rfl rfl)
theorem dX11_readNext_312 : decode cX11_readNext 312 = .ok (.invokevirtual 144, 3) := dk_182 0 144 (dk_at dksX11_readNext_13 6 rfl rfl)
theorem dX11_readNext_315 : decode cX11_readNext 315 = .ok (.aload_n 0, 1) := dk_42 (dk_at dksX11_readNext_13 9 rfl rfl)
theorem dX11_readNext_316 : decode cX11_readNext 316 = .ok (.invokevirtual 218, 3) := dk_182 0 218 (dk_at dksX11_readNext_13 10 rfl rfl)
theorem dX11_readNext_319 : decode cX11_readNext 319 = .ok (.return_, 1) := dk_177 (dk_at dksX11_readNext_13 13 rfl rfl)
abbrev cX11_readNeed : ByteArray := prog_19_method_29_code
def yX11_readNeed : MethodName := ⟨RX11, "readNeed", "()V"⟩
def dkwX11_readNeed_1 : List UInt8 := [180, 0, 31, 16, 11, 27, 96, 28, 79, 177]
abbrev dktX11_readNeed_1 : List UInt8 := dkwX11_readNeed_1 ++ []
def dkwX11_readNeed_0 : List UInt8 := [42, 3, 4, 182, 0, 158, 60, 42, 3, 17, 3, 231, 182, 0, 158, 61, 42, 182, 0, 128, 153, 0, 13, 42]
abbrev dktX11_readNeed_0 : List UInt8 := dkwX11_readNeed_0 ++ dktX11_readNeed_1
theorem dksX11_readNeed_0 : cX11_readNeed.data.toList.drop 0 = dktX11_readNeed_0 := by decide +kernel
theorem dksX11_readNeed_1 : cX11_readNeed.data.toList.drop 24 = dktX11_readNeed_1 := dk_seg dksX11_readNeed_0 24 rfl rfl
theorem dX11_readNeed_0 : decode cX11_readNeed 0 = .ok (.aload_n 0, 1) := dk_42 (dk_at dksX11_readNeed_0 0 rfl rfl)
theorem dX11_readNeed_1 : decode cX11_readNeed 1 = .ok (.iconst 0, 1) := dk_3 (dk_at dksX11_readNeed_0 1 rfl rfl)
theorem dX11_readNeed_2 : decode cX11_readNeed 2 = .ok (.iconst 1, 1) := dk_4 (dk_at dksX11_readNeed_0 2 rfl rfl)
theorem dX11_readNeed_3 : decode cX11_readNeed 3 = .ok (.invokevirtual 158, 3) := dk_182 0 158 (dk_at dksX11_readNeed_0 3 rfl rfl)
theorem dX11_readNeed_6 : decode cX11_readNeed 6 = .ok (.istore_n 1, 1) := dk_60 (dk_at dksX11_readNeed_0 6 rfl rfl)
theorem dX11_readNeed_7 : decode cX11_readNeed 7 = .ok (.aload_n 0, 1) := dk_42 (dk_at dksX11_readNeed_0 7 rfl rfl)
theorem dX11_readNeed_8 : decode cX11_readNeed 8 = .ok (.iconst 0, 1) := dk_3 (dk_at dksX11_readNeed_0 8 rfl rfl)
theorem dX11_readNeed_9 : decode cX11_readNeed 9 = .ok (.sipush 999, 3) := dk_17 3 231 (dk_at dksX11_readNeed_0 9 rfl rfl)
theorem dX11_readNeed_12 : decode cX11_readNeed 12 = .ok (.invokevirtual 158, 3) := dk_182 0 158 (dk_at dksX11_readNeed_0 12 rfl rfl)
theorem dX11_readNeed_15 : decode cX11_readNeed 15 = .ok (.istore_n 2, 1) := dk_61 (dk_at dksX11_readNeed_0 15 rfl rfl)
theorem dX11_readNeed_16 : decode cX11_readNeed 16 = .ok (.aload_n 0, 1) := dk_42 (dk_at dksX11_readNeed_0 16 rfl rfl)
theorem dX11_readNeed_17 : decode cX11_readNeed 17 = .ok (.invokevirtual 128, 3) := dk_182 0 128 (dk_at dksX11_readNeed_0 17 rfl rfl)
theorem dX11_readNeed_20 : decode cX11_readNeed 20 = .ok (.ifCond .eq 13, 3) := dk_153 0 13 (dk_at dksX11_readNeed_0 20 rfl rfl)
theorem dX11_readNeed_23 : decode cX11_readNeed 23 = .ok (.aload_n 0, 1) := dk_42 (dk_at dksX11_readNeed_0 23 rfl rfl)
theorem dX11_readNeed_24 : decode cX11_readNeed 24 = .ok (.getfield 31, 3) := dk_180 0 31 (dk_at dksX11_readNeed_1 0 rfl rfl)
theorem dX11_readNeed_27 : decode cX11_readNeed 27 = .ok (.bipush 11, 2) := dk_16 11 (dk_at dksX11_readNeed_1 3 rfl rfl)
theorem dX11_readNeed_29 : decode cX11_readNeed 29 = .ok (.iload_n 1, 1) := dk_27 (dk_at dksX11_readNeed_1 5 rfl rfl)
theorem dX11_readNeed_30 : decode cX11_readNeed 30 = .ok (.iadd, 1) := dk_96 (dk_at dksX11_readNeed_1 6 rfl rfl)
theorem dX11_readNeed_31 : decode cX11_readNeed 31 = .ok (.iload_n 2, 1) := dk_28 (dk_at dksX11_readNeed_1 7 rfl rfl)
theorem dX11_readNeed_32 : decode cX11_readNeed 32 = .ok (.iastore, 1) := dk_79 (dk_at dksX11_readNeed_1 8 rfl rfl)
theorem dX11_readNeed_33 : decode cX11_readNeed 33 = .ok (.return_, 1) := dk_177 (dk_at dksX11_readNeed_1 9 rfl rfl)
abbrev cX11_readTrain : ByteArray := prog_19_method_30_code
def yX11_readTrain : MethodName := ⟨RX11, "readTrain", "()V"⟩
def dkwX11_readTrain_5 : List UInt8 := [180, 0, 31, 7, 92, 46, 4, 96, 79, 177]
abbrev dktX11_readTrain_5 : List UInt8 := dkwX11_readTrain_5 ++ []
def dkwX11_readTrain_4 : List UInt8 := [182, 0, 165, 79, 42, 180, 0, 31, 27, 8, 96, 42, 18, 183, 3, 17, 3, 231, 182, 0, 165, 79, 42]
abbrev dktX11_readTrain_4 : List UInt8 := dkwX11_readTrain_4 ++ dktX11_readTrain_5
def dkwX11_readTrain_3 : List UInt8 := [18, 179, 3, 16, 100, 182, 0, 165, 79, 42, 180, 0, 31, 27, 7, 96, 42, 18, 181, 4, 16, 30]
abbrev dktX11_readTrain_3 : List UInt8 := dkwX11_readTrain_3 ++ dktX11_readTrain_4
def dkwX11_readTrain_2 : List UInt8 := [180, 0, 31, 27, 5, 96, 42, 18, 177, 3, 16, 59, 182, 0, 165, 79, 42, 180, 0, 31, 27, 6, 96, 42]
abbrev dktX11_readTrain_2 : List UInt8 := dkwX11_readTrain_2 ++ dktX11_readTrain_3
def dkwX11_readTrain_1 : List UInt8 := [182, 0, 158, 79, 42, 180, 0, 31, 27, 4, 96, 42, 18, 175, 4, 16, 99, 182, 0, 165, 79, 42]
abbrev dktX11_readTrain_1 : List UInt8 := dkwX11_readTrain_1 ++ dktX11_readTrain_2
def dkwX11_readTrain_0 : List UInt8 := [16, 13, 16, 6, 42, 180, 0, 31, 7, 46, 104, 96, 60, 42, 180, 0, 31, 27, 3, 96, 42, 3, 4]
abbrev dktX11_readTrain_0 : List UInt8 := dkwX11_readTrain_0 ++ dktX11_readTrain_1
theorem dksX11_readTrain_0 : cX11_readTrain.data.toList.drop 0 = dktX11_readTrain_0 := by decide +kernel
theorem dksX11_readTrain_1 : cX11_readTrain.data.toList.drop 23 = dktX11_readTrain_1 := dk_seg dksX11_readTrain_0 23 rfl rfl
theorem dksX11_readTrain_2 : cX11_readTrain.data.toList.drop 45 = dktX11_readTrain_2 := dk_seg dksX11_readTrain_1 22 rfl rfl
theorem dksX11_readTrain_3 : cX11_readTrain.data.toList.drop 69 = dktX11_readTrain_3 := dk_seg dksX11_readTrain_2 24 rfl rfl
theorem dksX11_readTrain_4 : cX11_readTrain.data.toList.drop 91 = dktX11_readTrain_4 := dk_seg dksX11_readTrain_3 22 rfl rfl
theorem dksX11_readTrain_5 : cX11_readTrain.data.toList.drop 114 = dktX11_readTrain_5 := dk_seg dksX11_readTrain_4 23 rfl rfl
theorem dX11_readTrain_0 : decode cX11_readTrain 0 = .ok (.bipush 13, 2) := dk_16 13 (dk_at dksX11_readTrain_0 0 rfl rfl)
theorem dX11_readTrain_2 : decode cX11_readTrain 2 = .ok (.bipush 6, 2) := dk_16 6 (dk_at dksX11_readTrain_0 2 rfl rfl)
theorem dX11_readTrain_4 : decode cX11_readTrain 4 = .ok (.aload_n 0, 1) := dk_42 (dk_at dksX11_readTrain_0 4 rfl rfl)
theorem dX11_readTrain_5 : decode cX11_readTrain 5 = .ok (.getfield 31, 3) := dk_180 0 31 (dk_at dksX11_readTrain_0 5 rfl rfl)
theorem dX11_readTrain_8 : decode cX11_readTrain 8 = .ok (.iconst 4, 1) := dk_7 (dk_at dksX11_readTrain_0 8 rfl rfl)
theorem dX11_readTrain_9 : decode cX11_readTrain 9 = .ok (.iaload, 1) := dk_46 (dk_at dksX11_readTrain_0 9 rfl rfl)
theorem dX11_readTrain_10 : decode cX11_readTrain 10 = .ok (.imul, 1) := dk_104 (dk_at dksX11_readTrain_0 10 rfl rfl)
theorem dX11_readTrain_11 : decode cX11_readTrain 11 = .ok (.iadd, 1) := dk_96 (dk_at dksX11_readTrain_0 11 rfl rfl)
theorem dX11_readTrain_12 : decode cX11_readTrain 12 = .ok (.istore_n 1, 1) := dk_60 (dk_at dksX11_readTrain_0 12 rfl rfl)
theorem dX11_readTrain_13 : decode cX11_readTrain 13 = .ok (.aload_n 0, 1) := dk_42 (dk_at dksX11_readTrain_0 13 rfl rfl)
theorem dX11_readTrain_14 : decode cX11_readTrain 14 = .ok (.getfield 31, 3) := dk_180 0 31 (dk_at dksX11_readTrain_0 14 rfl rfl)
theorem dX11_readTrain_17 : decode cX11_readTrain 17 = .ok (.iload_n 1, 1) := dk_27 (dk_at dksX11_readTrain_0 17 rfl rfl)
theorem dX11_readTrain_18 : decode cX11_readTrain 18 = .ok (.iconst 0, 1) := dk_3 (dk_at dksX11_readTrain_0 18 rfl rfl)
theorem dX11_readTrain_19 : decode cX11_readTrain 19 = .ok (.iadd, 1) := dk_96 (dk_at dksX11_readTrain_0 19 rfl rfl)
theorem dX11_readTrain_20 : decode cX11_readTrain 20 = .ok (.aload_n 0, 1) := dk_42 (dk_at dksX11_readTrain_0 20 rfl rfl)
theorem dX11_readTrain_21 : decode cX11_readTrain 21 = .ok (.iconst 0, 1) := dk_3 (dk_at dksX11_readTrain_0 21 rfl rfl)
theorem dX11_readTrain_22 : decode cX11_readTrain 22 = .ok (.iconst 1, 1) := dk_4 (dk_at dksX11_readTrain_0 22 rfl rfl)
theorem dX11_readTrain_23 : decode cX11_readTrain 23 = .ok (.invokevirtual 158, 3) := dk_182 0 158 (dk_at dksX11_readTrain_1 0 rfl rfl)
theorem dX11_readTrain_26 : decode cX11_readTrain 26 = .ok (.iastore, 1) := dk_79 (dk_at dksX11_readTrain_1 3 rfl rfl)
theorem dX11_readTrain_27 : decode cX11_readTrain 27 = .ok (.aload_n 0, 1) := dk_42 (dk_at dksX11_readTrain_1 4 rfl rfl)
theorem dX11_readTrain_28 : decode cX11_readTrain 28 = .ok (.getfield 31, 3) := dk_180 0 31 (dk_at dksX11_readTrain_1 5 rfl rfl)
theorem dX11_readTrain_31 : decode cX11_readTrain 31 = .ok (.iload_n 1, 1) := dk_27 (dk_at dksX11_readTrain_1 8 rfl rfl)
theorem dX11_readTrain_32 : decode cX11_readTrain 32 = .ok (.iconst 1, 1) := dk_4 (dk_at dksX11_readTrain_1 9 rfl rfl)
theorem dX11_readTrain_33 : decode cX11_readTrain 33 = .ok (.iadd, 1) := dk_96 (dk_at dksX11_readTrain_1 10 rfl rfl)
theorem dX11_readTrain_34 : decode cX11_readTrain 34 = .ok (.aload_n 0, 1) := dk_42 (dk_at dksX11_readTrain_1 11 rfl rfl)
theorem dX11_readTrain_35 : decode cX11_readTrain 35 = .ok (.ldc 175, 2) := dk_18 175 (dk_at dksX11_readTrain_1 12 rfl rfl)
theorem dX11_readTrain_37 : decode cX11_readTrain 37 = .ok (.iconst 1, 1) := dk_4 (dk_at dksX11_readTrain_1 14 rfl rfl)
theorem dX11_readTrain_38 : decode cX11_readTrain 38 = .ok (.bipush 99, 2) := dk_16 99 (dk_at dksX11_readTrain_1 15 rfl rfl)
theorem dX11_readTrain_40 : decode cX11_readTrain 40 = .ok (.invokevirtual 165, 3) := dk_182 0 165 (dk_at dksX11_readTrain_1 17 rfl rfl)
theorem dX11_readTrain_43 : decode cX11_readTrain 43 = .ok (.iastore, 1) := dk_79 (dk_at dksX11_readTrain_1 20 rfl rfl)
theorem dX11_readTrain_44 : decode cX11_readTrain 44 = .ok (.aload_n 0, 1) := dk_42 (dk_at dksX11_readTrain_1 21 rfl rfl)
theorem dX11_readTrain_45 : decode cX11_readTrain 45 = .ok (.getfield 31, 3) := dk_180 0 31 (dk_at dksX11_readTrain_2 0 rfl rfl)
theorem dX11_readTrain_48 : decode cX11_readTrain 48 = .ok (.iload_n 1, 1) := dk_27 (dk_at dksX11_readTrain_2 3 rfl rfl)
theorem dX11_readTrain_49 : decode cX11_readTrain 49 = .ok (.iconst 2, 1) := dk_5 (dk_at dksX11_readTrain_2 4 rfl rfl)
theorem dX11_readTrain_50 : decode cX11_readTrain 50 = .ok (.iadd, 1) := dk_96 (dk_at dksX11_readTrain_2 5 rfl rfl)
theorem dX11_readTrain_51 : decode cX11_readTrain 51 = .ok (.aload_n 0, 1) := dk_42 (dk_at dksX11_readTrain_2 6 rfl rfl)
theorem dX11_readTrain_52 : decode cX11_readTrain 52 = .ok (.ldc 177, 2) := dk_18 177 (dk_at dksX11_readTrain_2 7 rfl rfl)
theorem dX11_readTrain_54 : decode cX11_readTrain 54 = .ok (.iconst 0, 1) := dk_3 (dk_at dksX11_readTrain_2 9 rfl rfl)
theorem dX11_readTrain_55 : decode cX11_readTrain 55 = .ok (.bipush 59, 2) := dk_16 59 (dk_at dksX11_readTrain_2 10 rfl rfl)
theorem dX11_readTrain_57 : decode cX11_readTrain 57 = .ok (.invokevirtual 165, 3) := dk_182 0 165 (dk_at dksX11_readTrain_2 12 rfl rfl)
theorem dX11_readTrain_60 : decode cX11_readTrain 60 = .ok (.iastore, 1) := dk_79 (dk_at dksX11_readTrain_2 15 rfl rfl)
theorem dX11_readTrain_61 : decode cX11_readTrain 61 = .ok (.aload_n 0, 1) := dk_42 (dk_at dksX11_readTrain_2 16 rfl rfl)
theorem dX11_readTrain_62 : decode cX11_readTrain 62 = .ok (.getfield 31, 3) := dk_180 0 31 (dk_at dksX11_readTrain_2 17 rfl rfl)
theorem dX11_readTrain_65 : decode cX11_readTrain 65 = .ok (.iload_n 1, 1) := dk_27 (dk_at dksX11_readTrain_2 20 rfl rfl)
theorem dX11_readTrain_66 : decode cX11_readTrain 66 = .ok (.iconst 3, 1) := dk_6 (dk_at dksX11_readTrain_2 21 rfl rfl)
theorem dX11_readTrain_67 : decode cX11_readTrain 67 = .ok (.iadd, 1) := dk_96 (dk_at dksX11_readTrain_2 22 rfl rfl)
theorem dX11_readTrain_68 : decode cX11_readTrain 68 = .ok (.aload_n 0, 1) := dk_42 (dk_at dksX11_readTrain_2 23 rfl rfl)
theorem dX11_readTrain_69 : decode cX11_readTrain 69 = .ok (.ldc 179, 2) := dk_18 179 (dk_at dksX11_readTrain_3 0 rfl rfl)
theorem dX11_readTrain_71 : decode cX11_readTrain 71 = .ok (.iconst 0, 1) := dk_3 (dk_at dksX11_readTrain_3 2 rfl rfl)
theorem dX11_readTrain_72 : decode cX11_readTrain 72 = .ok (.bipush 100, 2) := dk_16 100 (dk_at dksX11_readTrain_3 3 rfl rfl)
theorem dX11_readTrain_74 : decode cX11_readTrain 74 = .ok (.invokevirtual 165, 3) := dk_182 0 165 (dk_at dksX11_readTrain_3 5 rfl rfl)
theorem dX11_readTrain_77 : decode cX11_readTrain 77 = .ok (.iastore, 1) := dk_79 (dk_at dksX11_readTrain_3 8 rfl rfl)
theorem dX11_readTrain_78 : decode cX11_readTrain 78 = .ok (.aload_n 0, 1) := dk_42 (dk_at dksX11_readTrain_3 9 rfl rfl)
theorem dX11_readTrain_79 : decode cX11_readTrain 79 = .ok (.getfield 31, 3) := dk_180 0 31 (dk_at dksX11_readTrain_3 10 rfl rfl)
theorem dX11_readTrain_82 : decode cX11_readTrain 82 = .ok (.iload_n 1, 1) := dk_27 (dk_at dksX11_readTrain_3 13 rfl rfl)
theorem dX11_readTrain_83 : decode cX11_readTrain 83 = .ok (.iconst 4, 1) := dk_7 (dk_at dksX11_readTrain_3 14 rfl rfl)
theorem dX11_readTrain_84 : decode cX11_readTrain 84 = .ok (.iadd, 1) := dk_96 (dk_at dksX11_readTrain_3 15 rfl rfl)
theorem dX11_readTrain_85 : decode cX11_readTrain 85 = .ok (.aload_n 0, 1) := dk_42 (dk_at dksX11_readTrain_3 16 rfl rfl)
theorem dX11_readTrain_86 : decode cX11_readTrain 86 = .ok (.ldc 181, 2) := dk_18 181 (dk_at dksX11_readTrain_3 17 rfl rfl)
theorem dX11_readTrain_88 : decode cX11_readTrain 88 = .ok (.iconst 1, 1) := dk_4 (dk_at dksX11_readTrain_3 19 rfl rfl)
theorem dX11_readTrain_89 : decode cX11_readTrain 89 = .ok (.bipush 30, 2) := dk_16 30 (dk_at dksX11_readTrain_3 20 rfl rfl)
theorem dX11_readTrain_91 : decode cX11_readTrain 91 = .ok (.invokevirtual 165, 3) := dk_182 0 165 (dk_at dksX11_readTrain_4 0 rfl rfl)
theorem dX11_readTrain_94 : decode cX11_readTrain 94 = .ok (.iastore, 1) := dk_79 (dk_at dksX11_readTrain_4 3 rfl rfl)
theorem dX11_readTrain_95 : decode cX11_readTrain 95 = .ok (.aload_n 0, 1) := dk_42 (dk_at dksX11_readTrain_4 4 rfl rfl)
theorem dX11_readTrain_96 : decode cX11_readTrain 96 = .ok (.getfield 31, 3) := dk_180 0 31 (dk_at dksX11_readTrain_4 5 rfl rfl)
theorem dX11_readTrain_99 : decode cX11_readTrain 99 = .ok (.iload_n 1, 1) := dk_27 (dk_at dksX11_readTrain_4 8 rfl rfl)
theorem dX11_readTrain_100 : decode cX11_readTrain 100 = .ok (.iconst 5, 1) := dk_8 (dk_at dksX11_readTrain_4 9 rfl rfl)
theorem dX11_readTrain_101 : decode cX11_readTrain 101 = .ok (.iadd, 1) := dk_96 (dk_at dksX11_readTrain_4 10 rfl rfl)
theorem dX11_readTrain_102 : decode cX11_readTrain 102 = .ok (.aload_n 0, 1) := dk_42 (dk_at dksX11_readTrain_4 11 rfl rfl)
theorem dX11_readTrain_103 : decode cX11_readTrain 103 = .ok (.ldc 183, 2) := dk_18 183 (dk_at dksX11_readTrain_4 12 rfl rfl)
theorem dX11_readTrain_105 : decode cX11_readTrain 105 = .ok (.iconst 0, 1) := dk_3 (dk_at dksX11_readTrain_4 14 rfl rfl)
theorem dX11_readTrain_106 : decode cX11_readTrain 106 = .ok (.sipush 999, 3) := dk_17 3 231 (dk_at dksX11_readTrain_4 15 rfl rfl)
theorem dX11_readTrain_109 : decode cX11_readTrain 109 = .ok (.invokevirtual 165, 3) := dk_182 0 165 (dk_at dksX11_readTrain_4 18 rfl rfl)
theorem dX11_readTrain_112 : decode cX11_readTrain 112 = .ok (.iastore, 1) := dk_79 (dk_at dksX11_readTrain_4 21 rfl rfl)
theorem dX11_readTrain_113 : decode cX11_readTrain 113 = .ok (.aload_n 0, 1) := dk_42 (dk_at dksX11_readTrain_4 22 rfl rfl)
theorem dX11_readTrain_114 : decode cX11_readTrain 114 = .ok (.getfield 31, 3) := dk_180 0 31 (dk_at dksX11_readTrain_5 0 rfl rfl)
theorem dX11_readTrain_117 : decode cX11_readTrain 117 = .ok (.iconst 4, 1) := dk_7 (dk_at dksX11_readTrain_5 3 rfl rfl)
theorem dX11_readTrain_118 : decode cX11_readTrain 118 = .ok (.dup2, 1) := dk_92 (dk_at dksX11_readTrain_5 4 rfl rfl)
theorem dX11_readTrain_119 : decode cX11_readTrain 119 = .ok (.iaload, 1) := dk_46 (dk_at dksX11_readTrain_5 5 rfl rfl)
theorem dX11_readTrain_120 : decode cX11_readTrain 120 = .ok (.iconst 1, 1) := dk_4 (dk_at dksX11_readTrain_5 6 rfl rfl)
theorem dX11_readTrain_121 : decode cX11_readTrain 121 = .ok (.iadd, 1) := dk_96 (dk_at dksX11_readTrain_5 7 rfl rfl)
theorem dX11_readTrain_122 : decode cX11_readTrain 122 = .ok (.iastore, 1) := dk_79 (dk_at dksX11_readTrain_5 8 rfl rfl)
theorem dX11_readTrain_123 : decode cX11_readTrain 123 = .ok (.return_, 1) := dk_177 (dk_at dksX11_readTrain_5 9 rfl rfl)
abbrev cX11_readBounds : ByteArray := prog_19_method_31_code
def yX11_readBounds : MethodName := ⟨RX11, "readBounds", "(I)V"⟩
def dkwX11_readBounds_1 : List UInt8 := [180, 0, 31, 27, 46, 16, 59, 182, 0, 165, 79, 177]
abbrev dktX11_readBounds_1 : List UInt8 := dkwX11_readBounds_1 ++ []
def dkwX11_readBounds_0 : List UInt8 := [42, 180, 0, 31, 27, 42, 3, 16, 59, 182, 0, 158, 79, 42, 180, 0, 31, 27, 4, 96, 42, 18, 185, 42]
abbrev dktX11_readBounds_0 : List UInt8 := dkwX11_readBounds_0 ++ dktX11_readBounds_1
theorem dksX11_readBounds_0 : cX11_readBounds.data.toList.drop 0 = dktX11_readBounds_0 := by decide +kernel
theorem dksX11_readBounds_1 : cX11_readBounds.data.toList.drop 24 = dktX11_readBounds_1 := dk_seg dksX11_readBounds_0 24 rfl rfl
theorem dX11_readBounds_0 : decode cX11_readBounds 0 = .ok (.aload_n 0, 1) := dk_42 (dk_at dksX11_readBounds_0 0 rfl rfl)
theorem dX11_readBounds_1 : decode cX11_readBounds 1 = .ok (.getfield 31, 3) := dk_180 0 31 (dk_at dksX11_readBounds_0 1 rfl rfl)
theorem dX11_readBounds_4 : decode cX11_readBounds 4 = .ok (.iload_n 1, 1) := dk_27 (dk_at dksX11_readBounds_0 4 rfl rfl)
theorem dX11_readBounds_5 : decode cX11_readBounds 5 = .ok (.aload_n 0, 1) := dk_42 (dk_at dksX11_readBounds_0 5 rfl rfl)
theorem dX11_readBounds_6 : decode cX11_readBounds 6 = .ok (.iconst 0, 1) := dk_3 (dk_at dksX11_readBounds_0 6 rfl rfl)
theorem dX11_readBounds_7 : decode cX11_readBounds 7 = .ok (.bipush 59, 2) := dk_16 59 (dk_at dksX11_readBounds_0 7 rfl rfl)
theorem dX11_readBounds_9 : decode cX11_readBounds 9 = .ok (.invokevirtual 158, 3) := dk_182 0 158 (dk_at dksX11_readBounds_0 9 rfl rfl)
theorem dX11_readBounds_12 : decode cX11_readBounds 12 = .ok (.iastore, 1) := dk_79 (dk_at dksX11_readBounds_0 12 rfl rfl)
theorem dX11_readBounds_13 : decode cX11_readBounds 13 = .ok (.aload_n 0, 1) := dk_42 (dk_at dksX11_readBounds_0 13 rfl rfl)
theorem dX11_readBounds_14 : decode cX11_readBounds 14 = .ok (.getfield 31, 3) := dk_180 0 31 (dk_at dksX11_readBounds_0 14 rfl rfl)
theorem dX11_readBounds_17 : decode cX11_readBounds 17 = .ok (.iload_n 1, 1) := dk_27 (dk_at dksX11_readBounds_0 17 rfl rfl)
theorem dX11_readBounds_18 : decode cX11_readBounds 18 = .ok (.iconst 1, 1) := dk_4 (dk_at dksX11_readBounds_0 18 rfl rfl)
theorem dX11_readBounds_19 : decode cX11_readBounds 19 = .ok (.iadd, 1) := dk_96 (dk_at dksX11_readBounds_0 19 rfl rfl)
theorem dX11_readBounds_20 : decode cX11_readBounds 20 = .ok (.aload_n 0, 1) := dk_42 (dk_at dksX11_readBounds_0 20 rfl rfl)
theorem dX11_readBounds_21 : decode cX11_readBounds 21 = .ok (.ldc 185, 2) := dk_18 185 (dk_at dksX11_readBounds_0 21 rfl rfl)
theorem dX11_readBounds_23 : decode cX11_readBounds 23 = .ok (.aload_n 0, 1) := dk_42 (dk_at dksX11_readBounds_0 23 rfl rfl)
theorem dX11_readBounds_24 : decode cX11_readBounds 24 = .ok (.getfield 31, 3) := dk_180 0 31 (dk_at dksX11_readBounds_1 0 rfl rfl)
theorem dX11_readBounds_27 : decode cX11_readBounds 27 = .ok (.iload_n 1, 1) := dk_27 (dk_at dksX11_readBounds_1 3 rfl rfl)
theorem dX11_readBounds_28 : decode cX11_readBounds 28 = .ok (.iaload, 1) := dk_46 (dk_at dksX11_readBounds_1 4 rfl rfl)
theorem dX11_readBounds_29 : decode cX11_readBounds 29 = .ok (.bipush 59, 2) := dk_16 59 (dk_at dksX11_readBounds_1 5 rfl rfl)
theorem dX11_readBounds_31 : decode cX11_readBounds 31 = .ok (.invokevirtual 165, 3) := dk_182 0 165 (dk_at dksX11_readBounds_1 7 rfl rfl)
theorem dX11_readBounds_34 : decode cX11_readBounds 34 = .ok (.iastore, 1) := dk_79 (dk_at dksX11_readBounds_1 10 rfl rfl)
theorem dX11_readBounds_35 : decode cX11_readBounds 35 = .ok (.return_, 1) := dk_177 (dk_at dksX11_readBounds_1 11 rfl rfl)
abbrev cX11_readAsk : ByteArray := prog_19_method_32_code
def yX11_readAsk : MethodName := ⟨RX11, "readAsk", "()V"⟩
def dkwX11_readAsk_3 : List UInt8 := [182, 0, 165, 79, 42, 180, 0, 31, 16, 6, 92, 46, 4, 96, 79, 177]
abbrev dktX11_readAsk_3 : List UInt8 := dkwX11_readAsk_3 ++ []
def dkwX11_readAsk_2 : List UInt8 := [96, 42, 18, 188, 4, 16, 20, 182, 0, 165, 79, 42, 180, 0, 31, 27, 6, 96, 42, 18, 190, 4, 16, 99]
abbrev dktX11_readAsk_2 : List UInt8 := dkwX11_readAsk_2 ++ dktX11_readAsk_3
def dkwX11_readAsk_1 : List UInt8 := [79, 42, 180, 0, 31, 27, 4, 96, 42, 18, 187, 3, 16, 59, 182, 0, 165, 79, 42, 180, 0, 31, 27, 5]
abbrev dktX11_readAsk_1 : List UInt8 := dkwX11_readAsk_1 ++ dktX11_readAsk_2
def dkwX11_readAsk_0 : List UInt8 := [16, 75, 7, 42, 180, 0, 31, 16, 6, 46, 104, 96, 60, 42, 180, 0, 31, 27, 42, 3, 4, 182, 0, 158]
abbrev dktX11_readAsk_0 : List UInt8 := dkwX11_readAsk_0 ++ dktX11_readAsk_1
theorem dksX11_readAsk_0 : cX11_readAsk.data.toList.drop 0 = dktX11_readAsk_0 := by decide +kernel
theorem dksX11_readAsk_1 : cX11_readAsk.data.toList.drop 24 = dktX11_readAsk_1 := dk_seg dksX11_readAsk_0 24 rfl rfl
theorem dksX11_readAsk_2 : cX11_readAsk.data.toList.drop 48 = dktX11_readAsk_2 := dk_seg dksX11_readAsk_1 24 rfl rfl
theorem dksX11_readAsk_3 : cX11_readAsk.data.toList.drop 72 = dktX11_readAsk_3 := dk_seg dksX11_readAsk_2 24 rfl rfl
theorem dX11_readAsk_0 : decode cX11_readAsk 0 = .ok (.bipush 75, 2) := dk_16 75 (dk_at dksX11_readAsk_0 0 rfl rfl)
theorem dX11_readAsk_2 : decode cX11_readAsk 2 = .ok (.iconst 4, 1) := dk_7 (dk_at dksX11_readAsk_0 2 rfl rfl)
theorem dX11_readAsk_3 : decode cX11_readAsk 3 = .ok (.aload_n 0, 1) := dk_42 (dk_at dksX11_readAsk_0 3 rfl rfl)
theorem dX11_readAsk_4 : decode cX11_readAsk 4 = .ok (.getfield 31, 3) := dk_180 0 31 (dk_at dksX11_readAsk_0 4 rfl rfl)
theorem dX11_readAsk_7 : decode cX11_readAsk 7 = .ok (.bipush 6, 2) := dk_16 6 (dk_at dksX11_readAsk_0 7 rfl rfl)
theorem dX11_readAsk_9 : decode cX11_readAsk 9 = .ok (.iaload, 1) := dk_46 (dk_at dksX11_readAsk_0 9 rfl rfl)
theorem dX11_readAsk_10 : decode cX11_readAsk 10 = .ok (.imul, 1) := dk_104 (dk_at dksX11_readAsk_0 10 rfl rfl)
theorem dX11_readAsk_11 : decode cX11_readAsk 11 = .ok (.iadd, 1) := dk_96 (dk_at dksX11_readAsk_0 11 rfl rfl)
theorem dX11_readAsk_12 : decode cX11_readAsk 12 = .ok (.istore_n 1, 1) := dk_60 (dk_at dksX11_readAsk_0 12 rfl rfl)
theorem dX11_readAsk_13 : decode cX11_readAsk 13 = .ok (.aload_n 0, 1) := dk_42 (dk_at dksX11_readAsk_0 13 rfl rfl)
theorem dX11_readAsk_14 : decode cX11_readAsk 14 = .ok (.getfield 31, 3) := dk_180 0 31 (dk_at dksX11_readAsk_0 14 rfl rfl)
theorem dX11_readAsk_17 : decode cX11_readAsk 17 = .ok (.iload_n 1, 1) := dk_27 (dk_at dksX11_readAsk_0 17 rfl rfl)
theorem dX11_readAsk_18 : decode cX11_readAsk 18 = .ok (.aload_n 0, 1) := dk_42 (dk_at dksX11_readAsk_0 18 rfl rfl)
theorem dX11_readAsk_19 : decode cX11_readAsk 19 = .ok (.iconst 0, 1) := dk_3 (dk_at dksX11_readAsk_0 19 rfl rfl)
theorem dX11_readAsk_20 : decode cX11_readAsk 20 = .ok (.iconst 1, 1) := dk_4 (dk_at dksX11_readAsk_0 20 rfl rfl)
theorem dX11_readAsk_21 : decode cX11_readAsk 21 = .ok (.invokevirtual 158, 3) := dk_182 0 158 (dk_at dksX11_readAsk_0 21 rfl rfl)
theorem dX11_readAsk_24 : decode cX11_readAsk 24 = .ok (.iastore, 1) := dk_79 (dk_at dksX11_readAsk_1 0 rfl rfl)
theorem dX11_readAsk_25 : decode cX11_readAsk 25 = .ok (.aload_n 0, 1) := dk_42 (dk_at dksX11_readAsk_1 1 rfl rfl)
theorem dX11_readAsk_26 : decode cX11_readAsk 26 = .ok (.getfield 31, 3) := dk_180 0 31 (dk_at dksX11_readAsk_1 2 rfl rfl)
theorem dX11_readAsk_29 : decode cX11_readAsk 29 = .ok (.iload_n 1, 1) := dk_27 (dk_at dksX11_readAsk_1 5 rfl rfl)
theorem dX11_readAsk_30 : decode cX11_readAsk 30 = .ok (.iconst 1, 1) := dk_4 (dk_at dksX11_readAsk_1 6 rfl rfl)
theorem dX11_readAsk_31 : decode cX11_readAsk 31 = .ok (.iadd, 1) := dk_96 (dk_at dksX11_readAsk_1 7 rfl rfl)
theorem dX11_readAsk_32 : decode cX11_readAsk 32 = .ok (.aload_n 0, 1) := dk_42 (dk_at dksX11_readAsk_1 8 rfl rfl)
theorem dX11_readAsk_33 : decode cX11_readAsk 33 = .ok (.ldc 187, 2) := dk_18 187 (dk_at dksX11_readAsk_1 9 rfl rfl)
theorem dX11_readAsk_35 : decode cX11_readAsk 35 = .ok (.iconst 0, 1) := dk_3 (dk_at dksX11_readAsk_1 11 rfl rfl)
theorem dX11_readAsk_36 : decode cX11_readAsk 36 = .ok (.bipush 59, 2) := dk_16 59 (dk_at dksX11_readAsk_1 12 rfl rfl)
theorem dX11_readAsk_38 : decode cX11_readAsk 38 = .ok (.invokevirtual 165, 3) := dk_182 0 165 (dk_at dksX11_readAsk_1 14 rfl rfl)
theorem dX11_readAsk_41 : decode cX11_readAsk 41 = .ok (.iastore, 1) := dk_79 (dk_at dksX11_readAsk_1 17 rfl rfl)
theorem dX11_readAsk_42 : decode cX11_readAsk 42 = .ok (.aload_n 0, 1) := dk_42 (dk_at dksX11_readAsk_1 18 rfl rfl)
theorem dX11_readAsk_43 : decode cX11_readAsk 43 = .ok (.getfield 31, 3) := dk_180 0 31 (dk_at dksX11_readAsk_1 19 rfl rfl)
theorem dX11_readAsk_46 : decode cX11_readAsk 46 = .ok (.iload_n 1, 1) := dk_27 (dk_at dksX11_readAsk_1 22 rfl rfl)
theorem dX11_readAsk_47 : decode cX11_readAsk 47 = .ok (.iconst 2, 1) := dk_5 (dk_at dksX11_readAsk_1 23 rfl rfl)
theorem dX11_readAsk_48 : decode cX11_readAsk 48 = .ok (.iadd, 1) := dk_96 (dk_at dksX11_readAsk_2 0 rfl rfl)
theorem dX11_readAsk_49 : decode cX11_readAsk 49 = .ok (.aload_n 0, 1) := dk_42 (dk_at dksX11_readAsk_2 1 rfl rfl)
theorem dX11_readAsk_50 : decode cX11_readAsk 50 = .ok (.ldc 188, 2) := dk_18 188 (dk_at dksX11_readAsk_2 2 rfl rfl)
theorem dX11_readAsk_52 : decode cX11_readAsk 52 = .ok (.iconst 1, 1) := dk_4 (dk_at dksX11_readAsk_2 4 rfl rfl)
theorem dX11_readAsk_53 : decode cX11_readAsk 53 = .ok (.bipush 20, 2) := dk_16 20 (dk_at dksX11_readAsk_2 5 rfl rfl)
theorem dX11_readAsk_55 : decode cX11_readAsk 55 = .ok (.invokevirtual 165, 3) := dk_182 0 165 (dk_at dksX11_readAsk_2 7 rfl rfl)
theorem dX11_readAsk_58 : decode cX11_readAsk 58 = .ok (.iastore, 1) := dk_79 (dk_at dksX11_readAsk_2 10 rfl rfl)
theorem dX11_readAsk_59 : decode cX11_readAsk 59 = .ok (.aload_n 0, 1) := dk_42 (dk_at dksX11_readAsk_2 11 rfl rfl)
theorem dX11_readAsk_60 : decode cX11_readAsk 60 = .ok (.getfield 31, 3) := dk_180 0 31 (dk_at dksX11_readAsk_2 12 rfl rfl)
theorem dX11_readAsk_63 : decode cX11_readAsk 63 = .ok (.iload_n 1, 1) := dk_27 (dk_at dksX11_readAsk_2 15 rfl rfl)
theorem dX11_readAsk_64 : decode cX11_readAsk 64 = .ok (.iconst 3, 1) := dk_6 (dk_at dksX11_readAsk_2 16 rfl rfl)
theorem dX11_readAsk_65 : decode cX11_readAsk 65 = .ok (.iadd, 1) := dk_96 (dk_at dksX11_readAsk_2 17 rfl rfl)
theorem dX11_readAsk_66 : decode cX11_readAsk 66 = .ok (.aload_n 0, 1) := dk_42 (dk_at dksX11_readAsk_2 18 rfl rfl)
theorem dX11_readAsk_67 : decode cX11_readAsk 67 = .ok (.ldc 190, 2) := dk_18 190 (dk_at dksX11_readAsk_2 19 rfl rfl)
theorem dX11_readAsk_69 : decode cX11_readAsk 69 = .ok (.iconst 1, 1) := dk_4 (dk_at dksX11_readAsk_2 21 rfl rfl)
theorem dX11_readAsk_70 : decode cX11_readAsk 70 = .ok (.bipush 99, 2) := dk_16 99 (dk_at dksX11_readAsk_2 22 rfl rfl)
theorem dX11_readAsk_72 : decode cX11_readAsk 72 = .ok (.invokevirtual 165, 3) := dk_182 0 165 (dk_at dksX11_readAsk_3 0 rfl rfl)
theorem dX11_readAsk_75 : decode cX11_readAsk 75 = .ok (.iastore, 1) := dk_79 (dk_at dksX11_readAsk_3 3 rfl rfl)
theorem dX11_readAsk_76 : decode cX11_readAsk 76 = .ok (.aload_n 0, 1) := dk_42 (dk_at dksX11_readAsk_3 4 rfl rfl)
theorem dX11_readAsk_77 : decode cX11_readAsk 77 = .ok (.getfield 31, 3) := dk_180 0 31 (dk_at dksX11_readAsk_3 5 rfl rfl)
theorem dX11_readAsk_80 : decode cX11_readAsk 80 = .ok (.bipush 6, 2) := dk_16 6 (dk_at dksX11_readAsk_3 8 rfl rfl)
theorem dX11_readAsk_82 : decode cX11_readAsk 82 = .ok (.dup2, 1) := dk_92 (dk_at dksX11_readAsk_3 10 rfl rfl)
theorem dX11_readAsk_83 : decode cX11_readAsk 83 = .ok (.iaload, 1) := dk_46 (dk_at dksX11_readAsk_3 11 rfl rfl)
theorem dX11_readAsk_84 : decode cX11_readAsk 84 = .ok (.iconst 1, 1) := dk_4 (dk_at dksX11_readAsk_3 12 rfl rfl)
theorem dX11_readAsk_85 : decode cX11_readAsk 85 = .ok (.iadd, 1) := dk_96 (dk_at dksX11_readAsk_3 13 rfl rfl)
theorem dX11_readAsk_86 : decode cX11_readAsk 86 = .ok (.iastore, 1) := dk_79 (dk_at dksX11_readAsk_3 14 rfl rfl)
theorem dX11_readAsk_87 : decode cX11_readAsk 87 = .ok (.return_, 1) := dk_177 (dk_at dksX11_readAsk_3 15 rfl rfl)
abbrev cX11_readSpy : ByteArray := prog_19_method_33_code
def yX11_readSpy : MethodName := ⟨RX11, "readSpy", "()V"⟩
def dkwX11_readSpy_3 : List UInt8 := [96, 79, 177]
abbrev dktX11_readSpy_3 : List UInt8 := dkwX11_readSpy_3 ++ []
def dkwX11_readSpy_2 : List UInt8 := [180, 0, 31, 16, 115, 42, 180, 0, 31, 16, 8, 46, 96, 27, 79, 42, 180, 0, 31, 16, 8, 92, 46, 4]
abbrev dktX11_readSpy_2 : List UInt8 := dkwX11_readSpy_2 ++ dktX11_readSpy_3
def dkwX11_readSpy_1 : List UInt8 := [182, 0, 128, 154, 0, 4, 177, 27, 4, 28, 120, 128, 60, 42, 180, 0, 105, 6, 160, 255, 223, 42]
abbrev dktX11_readSpy_1 : List UInt8 := dkwX11_readSpy_1 ++ dktX11_readSpy_2
def dkwX11_readSpy_0 : List UInt8 := [42, 18, 192, 182, 0, 154, 3, 60, 42, 3, 42, 180, 0, 31, 7, 46, 4, 100, 182, 0, 158, 61, 42]
abbrev dktX11_readSpy_0 : List UInt8 := dkwX11_readSpy_0 ++ dktX11_readSpy_1
theorem dksX11_readSpy_0 : cX11_readSpy.data.toList.drop 0 = dktX11_readSpy_0 := by decide +kernel
theorem dksX11_readSpy_1 : cX11_readSpy.data.toList.drop 23 = dktX11_readSpy_1 := dk_seg dksX11_readSpy_0 23 rfl rfl
theorem dksX11_readSpy_2 : cX11_readSpy.data.toList.drop 45 = dktX11_readSpy_2 := dk_seg dksX11_readSpy_1 22 rfl rfl
theorem dksX11_readSpy_3 : cX11_readSpy.data.toList.drop 69 = dktX11_readSpy_3 := dk_seg dksX11_readSpy_2 24 rfl rfl
theorem dX11_readSpy_0 : decode cX11_readSpy 0 = .ok (.aload_n 0, 1) := dk_42 (dk_at dksX11_readSpy_0 0 rfl rfl)
theorem dX11_readSpy_1 : decode cX11_readSpy 1 = .ok (.ldc 192, 2) := dk_18 192 (dk_at dksX11_readSpy_0 1 rfl rfl)
theorem dX11_readSpy_3 : decode cX11_readSpy 3 = .ok (.invokevirtual 154, 3) := dk_182 0 154 (dk_at dksX11_readSpy_0 3 rfl rfl)
theorem dX11_readSpy_6 : decode cX11_readSpy 6 = .ok (.iconst 0, 1) := dk_3 (dk_at dksX11_readSpy_0 6 rfl rfl)
theorem dX11_readSpy_7 : decode cX11_readSpy 7 = .ok (.istore_n 1, 1) := dk_60 (dk_at dksX11_readSpy_0 7 rfl rfl)
theorem dX11_readSpy_8 : decode cX11_readSpy 8 = .ok (.aload_n 0, 1) := dk_42 (dk_at dksX11_readSpy_0 8 rfl rfl)
theorem dX11_readSpy_9 : decode cX11_readSpy 9 = .ok (.iconst 0, 1) := dk_3 (dk_at dksX11_readSpy_0 9 rfl rfl)
theorem dX11_readSpy_10 : decode cX11_readSpy 10 = .ok (.aload_n 0, 1) := dk_42 (dk_at dksX11_readSpy_0 10 rfl rfl)
theorem dX11_readSpy_11 : decode cX11_readSpy 11 = .ok (.getfield 31, 3) := dk_180 0 31 (dk_at dksX11_readSpy_0 11 rfl rfl)
theorem dX11_readSpy_14 : decode cX11_readSpy 14 = .ok (.iconst 4, 1) := dk_7 (dk_at dksX11_readSpy_0 14 rfl rfl)
theorem dX11_readSpy_15 : decode cX11_readSpy 15 = .ok (.iaload, 1) := dk_46 (dk_at dksX11_readSpy_0 15 rfl rfl)
theorem dX11_readSpy_16 : decode cX11_readSpy 16 = .ok (.iconst 1, 1) := dk_4 (dk_at dksX11_readSpy_0 16 rfl rfl)
theorem dX11_readSpy_17 : decode cX11_readSpy 17 = .ok (.isub, 1) := dk_100 (dk_at dksX11_readSpy_0 17 rfl rfl)
theorem dX11_readSpy_18 : decode cX11_readSpy 18 = .ok (.invokevirtual 158, 3) := dk_182 0 158 (dk_at dksX11_readSpy_0 18 rfl rfl)
theorem dX11_readSpy_21 : decode cX11_readSpy 21 = .ok (.istore_n 2, 1) := dk_61 (dk_at dksX11_readSpy_0 21 rfl rfl)
theorem dX11_readSpy_22 : decode cX11_readSpy 22 = .ok (.aload_n 0, 1) := dk_42 (dk_at dksX11_readSpy_0 22 rfl rfl)
theorem dX11_readSpy_23 : decode cX11_readSpy 23 = .ok (.invokevirtual 128, 3) := dk_182 0 128 (dk_at dksX11_readSpy_1 0 rfl rfl)
theorem dX11_readSpy_26 : decode cX11_readSpy 26 = .ok (.ifCond .ne 4, 3) := dk_154 0 4 (dk_at dksX11_readSpy_1 3 rfl rfl)
theorem dX11_readSpy_29 : decode cX11_readSpy 29 = .ok (.return_, 1) := dk_177 (dk_at dksX11_readSpy_1 6 rfl rfl)
theorem dX11_readSpy_30 : decode cX11_readSpy 30 = .ok (.iload_n 1, 1) := dk_27 (dk_at dksX11_readSpy_1 7 rfl rfl)
theorem dX11_readSpy_31 : decode cX11_readSpy 31 = .ok (.iconst 1, 1) := dk_4 (dk_at dksX11_readSpy_1 8 rfl rfl)
theorem dX11_readSpy_32 : decode cX11_readSpy 32 = .ok (.iload_n 2, 1) := dk_28 (dk_at dksX11_readSpy_1 9 rfl rfl)
theorem dX11_readSpy_33 : decode cX11_readSpy 33 = .ok (.ishl, 1) := dk_120 (dk_at dksX11_readSpy_1 10 rfl rfl)
theorem dX11_readSpy_34 : decode cX11_readSpy 34 = .ok (.ior, 1) := dk_128 (dk_at dksX11_readSpy_1 11 rfl rfl)
theorem dX11_readSpy_35 : decode cX11_readSpy 35 = .ok (.istore_n 1, 1) := dk_60 (dk_at dksX11_readSpy_1 12 rfl rfl)
theorem dX11_readSpy_36 : decode cX11_readSpy 36 = .ok (.aload_n 0, 1) := dk_42 (dk_at dksX11_readSpy_1 13 rfl rfl)
theorem dX11_readSpy_37 : decode cX11_readSpy 37 = .ok (.getfield 105, 3) := dk_180 0 105 (dk_at dksX11_readSpy_1 14 rfl rfl)
theorem dX11_readSpy_40 : decode cX11_readSpy 40 = .ok (.iconst 3, 1) := dk_6 (dk_at dksX11_readSpy_1 17 rfl rfl)
theorem dX11_readSpy_41 : decode cX11_readSpy 41 = .ok (.if_icmp .ne (-33), 3) := dk_160 255 223 (dk_at dksX11_readSpy_1 18 rfl rfl)
theorem dX11_readSpy_44 : decode cX11_readSpy 44 = .ok (.aload_n 0, 1) := dk_42 (dk_at dksX11_readSpy_1 21 rfl rfl)
theorem dX11_readSpy_45 : decode cX11_readSpy 45 = .ok (.getfield 31, 3) := dk_180 0 31 (dk_at dksX11_readSpy_2 0 rfl rfl)
theorem dX11_readSpy_48 : decode cX11_readSpy 48 = .ok (.bipush 115, 2) := dk_16 115 (dk_at dksX11_readSpy_2 3 rfl rfl)
theorem dX11_readSpy_50 : decode cX11_readSpy 50 = .ok (.aload_n 0, 1) := dk_42 (dk_at dksX11_readSpy_2 5 rfl rfl)
theorem dX11_readSpy_51 : decode cX11_readSpy 51 = .ok (.getfield 31, 3) := dk_180 0 31 (dk_at dksX11_readSpy_2 6 rfl rfl)
theorem dX11_readSpy_54 : decode cX11_readSpy 54 = .ok (.bipush 8, 2) := dk_16 8 (dk_at dksX11_readSpy_2 9 rfl rfl)
theorem dX11_readSpy_56 : decode cX11_readSpy 56 = .ok (.iaload, 1) := dk_46 (dk_at dksX11_readSpy_2 11 rfl rfl)
theorem dX11_readSpy_57 : decode cX11_readSpy 57 = .ok (.iadd, 1) := dk_96 (dk_at dksX11_readSpy_2 12 rfl rfl)
theorem dX11_readSpy_58 : decode cX11_readSpy 58 = .ok (.iload_n 1, 1) := dk_27 (dk_at dksX11_readSpy_2 13 rfl rfl)
theorem dX11_readSpy_59 : decode cX11_readSpy 59 = .ok (.iastore, 1) := dk_79 (dk_at dksX11_readSpy_2 14 rfl rfl)
theorem dX11_readSpy_60 : decode cX11_readSpy 60 = .ok (.aload_n 0, 1) := dk_42 (dk_at dksX11_readSpy_2 15 rfl rfl)
theorem dX11_readSpy_61 : decode cX11_readSpy 61 = .ok (.getfield 31, 3) := dk_180 0 31 (dk_at dksX11_readSpy_2 16 rfl rfl)
theorem dX11_readSpy_64 : decode cX11_readSpy 64 = .ok (.bipush 8, 2) := dk_16 8 (dk_at dksX11_readSpy_2 19 rfl rfl)
theorem dX11_readSpy_66 : decode cX11_readSpy 66 = .ok (.dup2, 1) := dk_92 (dk_at dksX11_readSpy_2 21 rfl rfl)
theorem dX11_readSpy_67 : decode cX11_readSpy 67 = .ok (.iaload, 1) := dk_46 (dk_at dksX11_readSpy_2 22 rfl rfl)
theorem dX11_readSpy_68 : decode cX11_readSpy 68 = .ok (.iconst 1, 1) := dk_4 (dk_at dksX11_readSpy_2 23 rfl rfl)
theorem dX11_readSpy_69 : decode cX11_readSpy 69 = .ok (.iadd, 1) := dk_96 (dk_at dksX11_readSpy_3 0 rfl rfl)
theorem dX11_readSpy_70 : decode cX11_readSpy 70 = .ok (.iastore, 1) := dk_79 (dk_at dksX11_readSpy_3 1 rfl rfl)
theorem dX11_readSpy_71 : decode cX11_readSpy 71 = .ok (.return_, 1) := dk_177 (dk_at dksX11_readSpy_3 2 rfl rfl)
abbrev cX11_train : ByteArray := prog_19_method_37_code
def yX11_train : MethodName := ⟨RX11, "train", "(II)I"⟩
def dkwX11_train_1 : List UInt8 := [182, 0, 82, 167, 0, 5, 16, 254, 172]
abbrev dktX11_train_1 : List UInt8 := dkwX11_train_1 ++ []
def dkwX11_train_0 : List UInt8 := [42, 27, 182, 0, 230, 153, 0, 24, 28, 133, 9, 20, 0, 234, 184, 0, 70, 153, 0, 12, 42, 27, 28]
abbrev dktX11_train_0 : List UInt8 := dkwX11_train_0 ++ dktX11_train_1
theorem dksX11_train_0 : cX11_train.data.toList.drop 0 = dktX11_train_0 := by decide +kernel
theorem dksX11_train_1 : cX11_train.data.toList.drop 23 = dktX11_train_1 := dk_seg dksX11_train_0 23 rfl rfl
theorem dX11_train_0 : decode cX11_train 0 = .ok (.aload_n 0, 1) := dk_42 (dk_at dksX11_train_0 0 rfl rfl)
theorem dX11_train_1 : decode cX11_train 1 = .ok (.iload_n 1, 1) := dk_27 (dk_at dksX11_train_0 1 rfl rfl)
theorem dX11_train_2 : decode cX11_train 2 = .ok (.invokevirtual 230, 3) := dk_182 0 230 (dk_at dksX11_train_0 2 rfl rfl)
theorem dX11_train_5 : decode cX11_train 5 = .ok (.ifCond .eq 24, 3) := dk_153 0 24 (dk_at dksX11_train_0 5 rfl rfl)
theorem dX11_train_8 : decode cX11_train 8 = .ok (.iload_n 2, 1) := dk_28 (dk_at dksX11_train_0 8 rfl rfl)
theorem dX11_train_9 : decode cX11_train 9 = .ok (.i2l, 1) := dk_133 (dk_at dksX11_train_0 9 rfl rfl)
theorem dX11_train_10 : decode cX11_train 10 = .ok (.lconst 0, 1) := dk_9 (dk_at dksX11_train_0 10 rfl rfl)
theorem dX11_train_11 : decode cX11_train 11 = .ok (.ldc2_w 234, 3) := dk_20 0 234 (dk_at dksX11_train_0 11 rfl rfl)
theorem dX11_train_14 : decode cX11_train 14 = .ok (.invokestatic 70, 3) := dk_184 0 70 (dk_at dksX11_train_0 14 rfl rfl)
theorem dX11_train_17 : decode cX11_train 17 = .ok (.ifCond .eq 12, 3) := dk_153 0 12 (dk_at dksX11_train_0 17 rfl rfl)
theorem dX11_train_20 : decode cX11_train 20 = .ok (.aload_n 0, 1) := dk_42 (dk_at dksX11_train_0 20 rfl rfl)
theorem dX11_train_21 : decode cX11_train 21 = .ok (.iload_n 1, 1) := dk_27 (dk_at dksX11_train_0 21 rfl rfl)
theorem dX11_train_22 : decode cX11_train 22 = .ok (.iload_n 2, 1) := dk_28 (dk_at dksX11_train_0 22 rfl rfl)
theorem dX11_train_23 : decode cX11_train 23 = .ok (.invokevirtual 82, 3) := dk_182 0 82 (dk_at dksX11_train_1 0 rfl rfl)
theorem dX11_train_26 : decode cX11_train 26 = .ok (.goto 5, 3) := dk_167 0 5 (dk_at dksX11_train_1 3 rfl rfl)
theorem dX11_train_29 : decode cX11_train 29 = .ok (.bipush (-2), 2) := dk_16 254 (dk_at dksX11_train_1 6 rfl rfl)
theorem dX11_train_31 : decode cX11_train 31 = .ok (.ireturn, 1) := dk_172 (dk_at dksX11_train_1 8 rfl rfl)
abbrev cX11_isTrain : ByteArray := prog_19_method_10_code
def yX11_isTrain : MethodName := ⟨RX11, "isTrain", "(I)Z"⟩
def dkwX11_isTrain_0 : List UInt8 := [27, 133, 9, 42, 180, 0, 9, 7, 46, 4, 100, 133, 184, 0, 70, 172]
abbrev dktX11_isTrain_0 : List UInt8 := dkwX11_isTrain_0 ++ []
theorem dksX11_isTrain_0 : cX11_isTrain.data.toList.drop 0 = dktX11_isTrain_0 := by decide +kernel
theorem dX11_isTrain_0 : decode cX11_isTrain 0 = .ok (.iload_n 1, 1) := dk_27 (dk_at dksX11_isTrain_0 0 rfl rfl)
theorem dX11_isTrain_1 : decode cX11_isTrain 1 = .ok (.i2l, 1) := dk_133 (dk_at dksX11_isTrain_0 1 rfl rfl)
theorem dX11_isTrain_2 : decode cX11_isTrain 2 = .ok (.lconst 0, 1) := dk_9 (dk_at dksX11_isTrain_0 2 rfl rfl)
theorem dX11_isTrain_3 : decode cX11_isTrain 3 = .ok (.aload_n 0, 1) := dk_42 (dk_at dksX11_isTrain_0 3 rfl rfl)
theorem dX11_isTrain_4 : decode cX11_isTrain 4 = .ok (.getfield 9, 3) := dk_180 0 9 (dk_at dksX11_isTrain_0 4 rfl rfl)
theorem dX11_isTrain_7 : decode cX11_isTrain 7 = .ok (.iconst 4, 1) := dk_7 (dk_at dksX11_isTrain_0 7 rfl rfl)
theorem dX11_isTrain_8 : decode cX11_isTrain 8 = .ok (.iaload, 1) := dk_46 (dk_at dksX11_isTrain_0 8 rfl rfl)
theorem dX11_isTrain_9 : decode cX11_isTrain 9 = .ok (.iconst 1, 1) := dk_4 (dk_at dksX11_isTrain_0 9 rfl rfl)
theorem dX11_isTrain_10 : decode cX11_isTrain 10 = .ok (.isub, 1) := dk_100 (dk_at dksX11_isTrain_0 10 rfl rfl)
theorem dX11_isTrain_11 : decode cX11_isTrain 11 = .ok (.i2l, 1) := dk_133 (dk_at dksX11_isTrain_0 11 rfl rfl)
theorem dX11_isTrain_12 : decode cX11_isTrain 12 = .ok (.invokestatic 70, 3) := dk_184 0 70 (dk_at dksX11_isTrain_0 12 rfl rfl)
theorem dX11_isTrain_15 : decode cX11_isTrain 15 = .ok (.ireturn, 1) := dk_172 (dk_at dksX11_isTrain_0 15 rfl rfl)
abbrev cX11_of : ByteArray := prog_19_method_13_code
def yX11_of : MethodName := ⟨RX11, "of", "(II)I"⟩
def dkwX11_of_0 : List UInt8 := [42, 180, 0, 9, 16, 13, 16, 6, 27, 104, 96, 28, 96, 46, 172]
abbrev dktX11_of_0 : List UInt8 := dkwX11_of_0 ++ []
theorem dksX11_of_0 : cX11_of.data.toList.drop 0 = dktX11_of_0 := by decide +kernel
theorem dX11_of_0 : decode cX11_of 0 = .ok (.aload_n 0, 1) := dk_42 (dk_at dksX11_of_0 0 rfl rfl)
theorem dX11_of_1 : decode cX11_of 1 = .ok (.getfield 9, 3) := dk_180 0 9 (dk_at dksX11_of_0 1 rfl rfl)
theorem dX11_of_4 : decode cX11_of 4 = .ok (.bipush 13, 2) := dk_16 13 (dk_at dksX11_of_0 4 rfl rfl)
theorem dX11_of_6 : decode cX11_of 6 = .ok (.bipush 6, 2) := dk_16 6 (dk_at dksX11_of_0 6 rfl rfl)
theorem dX11_of_8 : decode cX11_of 8 = .ok (.iload_n 1, 1) := dk_27 (dk_at dksX11_of_0 8 rfl rfl)
theorem dX11_of_9 : decode cX11_of 9 = .ok (.imul, 1) := dk_104 (dk_at dksX11_of_0 9 rfl rfl)
theorem dX11_of_10 : decode cX11_of 10 = .ok (.iadd, 1) := dk_96 (dk_at dksX11_of_0 10 rfl rfl)
theorem dX11_of_11 : decode cX11_of 11 = .ok (.iload_n 2, 1) := dk_28 (dk_at dksX11_of_0 11 rfl rfl)
theorem dX11_of_12 : decode cX11_of 12 = .ok (.iadd, 1) := dk_96 (dk_at dksX11_of_0 12 rfl rfl)
theorem dX11_of_13 : decode cX11_of 13 = .ok (.iaload, 1) := dk_46 (dk_at dksX11_of_0 13 rfl rfl)
theorem dX11_of_14 : decode cX11_of 14 = .ok (.ireturn, 1) := dk_172 (dk_at dksX11_of_0 14 rfl rfl)
abbrev cX11_need : ByteArray := prog_19_method_38_code
def yX11_need : MethodName := ⟨RX11, "need", "(I)I"⟩
def dkwX11_need_0 : List UInt8 := [42, 27, 182, 0, 236, 153, 0, 15, 42, 180, 0, 9, 16, 11, 27, 96, 46, 167, 0, 5, 16, 254, 172]
abbrev dktX11_need_0 : List UInt8 := dkwX11_need_0 ++ []
theorem dksX11_need_0 : cX11_need.data.toList.drop 0 = dktX11_need_0 := by decide +kernel
theorem dX11_need_0 : decode cX11_need 0 = .ok (.aload_n 0, 1) := dk_42 (dk_at dksX11_need_0 0 rfl rfl)
theorem dX11_need_1 : decode cX11_need 1 = .ok (.iload_n 1, 1) := dk_27 (dk_at dksX11_need_0 1 rfl rfl)
theorem dX11_need_2 : decode cX11_need 2 = .ok (.invokevirtual 236, 3) := dk_182 0 236 (dk_at dksX11_need_0 2 rfl rfl)
theorem dX11_need_5 : decode cX11_need 5 = .ok (.ifCond .eq 15, 3) := dk_153 0 15 (dk_at dksX11_need_0 5 rfl rfl)
theorem dX11_need_8 : decode cX11_need 8 = .ok (.aload_n 0, 1) := dk_42 (dk_at dksX11_need_0 8 rfl rfl)
theorem dX11_need_9 : decode cX11_need 9 = .ok (.getfield 9, 3) := dk_180 0 9 (dk_at dksX11_need_0 9 rfl rfl)
theorem dX11_need_12 : decode cX11_need 12 = .ok (.bipush 11, 2) := dk_16 11 (dk_at dksX11_need_0 12 rfl rfl)
theorem dX11_need_14 : decode cX11_need 14 = .ok (.iload_n 1, 1) := dk_27 (dk_at dksX11_need_0 14 rfl rfl)
theorem dX11_need_15 : decode cX11_need 15 = .ok (.iadd, 1) := dk_96 (dk_at dksX11_need_0 15 rfl rfl)
theorem dX11_need_16 : decode cX11_need 16 = .ok (.iaload, 1) := dk_46 (dk_at dksX11_need_0 16 rfl rfl)
theorem dX11_need_17 : decode cX11_need 17 = .ok (.goto 5, 3) := dk_167 0 5 (dk_at dksX11_need_0 17 rfl rfl)
theorem dX11_need_20 : decode cX11_need 20 = .ok (.bipush (-2), 2) := dk_16 254 (dk_at dksX11_need_0 20 rfl rfl)
theorem dX11_need_22 : decode cX11_need 22 = .ok (.ireturn, 1) := dk_172 (dk_at dksX11_need_0 22 rfl rfl)
abbrev cX11_isSide : ByteArray := prog_19_method_9_code
def yX11_isSide : MethodName := ⟨RX11, "isSide", "(I)Z"⟩
def dkwX11_isSide_0 : List UInt8 := [42, 182, 0, 74, 153, 0, 17, 27, 133, 9, 10, 184, 0, 70, 153, 0, 7, 4, 167, 0, 4, 3, 172]
abbrev dktX11_isSide_0 : List UInt8 := dkwX11_isSide_0 ++ []
theorem dksX11_isSide_0 : cX11_isSide.data.toList.drop 0 = dktX11_isSide_0 := by decide +kernel
theorem dX11_isSide_0 : decode cX11_isSide 0 = .ok (.aload_n 0, 1) := dk_42 (dk_at dksX11_isSide_0 0 rfl rfl)
theorem dX11_isSide_1 : decode cX11_isSide 1 = .ok (.invokevirtual 74, 3) := dk_182 0 74 (dk_at dksX11_isSide_0 1 rfl rfl)
theorem dX11_isSide_4 : decode cX11_isSide 4 = .ok (.ifCond .eq 17, 3) := dk_153 0 17 (dk_at dksX11_isSide_0 4 rfl rfl)
theorem dX11_isSide_7 : decode cX11_isSide 7 = .ok (.iload_n 1, 1) := dk_27 (dk_at dksX11_isSide_0 7 rfl rfl)
theorem dX11_isSide_8 : decode cX11_isSide 8 = .ok (.i2l, 1) := dk_133 (dk_at dksX11_isSide_0 8 rfl rfl)
theorem dX11_isSide_9 : decode cX11_isSide 9 = .ok (.lconst 0, 1) := dk_9 (dk_at dksX11_isSide_0 9 rfl rfl)
theorem dX11_isSide_10 : decode cX11_isSide 10 = .ok (.lconst 1, 1) := dk_10 (dk_at dksX11_isSide_0 10 rfl rfl)
theorem dX11_isSide_11 : decode cX11_isSide 11 = .ok (.invokestatic 70, 3) := dk_184 0 70 (dk_at dksX11_isSide_0 11 rfl rfl)
theorem dX11_isSide_14 : decode cX11_isSide 14 = .ok (.ifCond .eq 7, 3) := dk_153 0 7 (dk_at dksX11_isSide_0 14 rfl rfl)
theorem dX11_isSide_17 : decode cX11_isSide 17 = .ok (.iconst 1, 1) := dk_4 (dk_at dksX11_isSide_0 17 rfl rfl)
theorem dX11_isSide_18 : decode cX11_isSide 18 = .ok (.goto 4, 3) := dk_167 0 4 (dk_at dksX11_isSide_0 18 rfl rfl)
theorem dX11_isSide_21 : decode cX11_isSide 21 = .ok (.iconst 0, 1) := dk_3 (dk_at dksX11_isSide_0 21 rfl rfl)
theorem dX11_isSide_22 : decode cX11_isSide 22 = .ok (.ireturn, 1) := dk_172 (dk_at dksX11_isSide_0 22 rfl rfl)
abbrev cX11_isWar : ByteArray := prog_19_method_8_code
def yX11_isWar : MethodName := ⟨RX11, "isWar", "()Z"⟩
def dkwX11_isWar_0 : List UInt8 := [42, 180, 0, 9, 16, 9, 46, 158, 0, 7, 4, 167, 0, 4, 3, 172]
abbrev dktX11_isWar_0 : List UInt8 := dkwX11_isWar_0 ++ []
theorem dksX11_isWar_0 : cX11_isWar.data.toList.drop 0 = dktX11_isWar_0 := by decide +kernel
theorem dX11_isWar_0 : decode cX11_isWar 0 = .ok (.aload_n 0, 1) := dk_42 (dk_at dksX11_isWar_0 0 rfl rfl)
theorem dX11_isWar_1 : decode cX11_isWar 1 = .ok (.getfield 9, 3) := dk_180 0 9 (dk_at dksX11_isWar_0 1 rfl rfl)
theorem dX11_isWar_4 : decode cX11_isWar 4 = .ok (.bipush 9, 2) := dk_16 9 (dk_at dksX11_isWar_0 4 rfl rfl)
theorem dX11_isWar_6 : decode cX11_isWar 6 = .ok (.iaload, 1) := dk_46 (dk_at dksX11_isWar_0 6 rfl rfl)
theorem dX11_isWar_7 : decode cX11_isWar 7 = .ok (.ifCond .le 7, 3) := dk_158 0 7 (dk_at dksX11_isWar_0 7 rfl rfl)
theorem dX11_isWar_10 : decode cX11_isWar 10 = .ok (.iconst 1, 1) := dk_4 (dk_at dksX11_isWar_0 10 rfl rfl)
theorem dX11_isWar_11 : decode cX11_isWar 11 = .ok (.goto 4, 3) := dk_167 0 4 (dk_at dksX11_isWar_0 11 rfl rfl)
theorem dX11_isWar_14 : decode cX11_isWar 14 = .ok (.iconst 0, 1) := dk_3 (dk_at dksX11_isWar_0 14 rfl rfl)
theorem dX11_isWar_15 : decode cX11_isWar 15 = .ok (.ireturn, 1) := dk_172 (dk_at dksX11_isWar_0 15 rfl rfl)
abbrev cX11_tea : ByteArray := prog_19_method_40_code
def yX11_tea : MethodName := ⟨RX11, "tea", "(I)I"⟩
def dkwX11_tea_1 : List UInt8 := [153, 0, 19, 42, 27, 182, 0, 239, 153, 0, 7, 4, 167, 0, 9, 3, 167, 0, 5, 16, 254, 172]
abbrev dktX11_tea_1 : List UInt8 := dkwX11_tea_1 ++ []
def dkwX11_tea_0 : List UInt8 := [42, 182, 0, 74, 153, 0, 37, 27, 133, 9, 42, 180, 0, 9, 3, 46, 4, 100, 133, 184, 0, 70]
abbrev dktX11_tea_0 : List UInt8 := dkwX11_tea_0 ++ dktX11_tea_1
theorem dksX11_tea_0 : cX11_tea.data.toList.drop 0 = dktX11_tea_0 := by decide +kernel
theorem dksX11_tea_1 : cX11_tea.data.toList.drop 22 = dktX11_tea_1 := dk_seg dksX11_tea_0 22 rfl rfl
theorem dX11_tea_0 : decode cX11_tea 0 = .ok (.aload_n 0, 1) := dk_42 (dk_at dksX11_tea_0 0 rfl rfl)
theorem dX11_tea_1 : decode cX11_tea 1 = .ok (.invokevirtual 74, 3) := dk_182 0 74 (dk_at dksX11_tea_0 1 rfl rfl)
theorem dX11_tea_4 : decode cX11_tea 4 = .ok (.ifCond .eq 37, 3) := dk_153 0 37 (dk_at dksX11_tea_0 4 rfl rfl)
theorem dX11_tea_7 : decode cX11_tea 7 = .ok (.iload_n 1, 1) := dk_27 (dk_at dksX11_tea_0 7 rfl rfl)
theorem dX11_tea_8 : decode cX11_tea 8 = .ok (.i2l, 1) := dk_133 (dk_at dksX11_tea_0 8 rfl rfl)
theorem dX11_tea_9 : decode cX11_tea 9 = .ok (.lconst 0, 1) := dk_9 (dk_at dksX11_tea_0 9 rfl rfl)
theorem dX11_tea_10 : decode cX11_tea 10 = .ok (.aload_n 0, 1) := dk_42 (dk_at dksX11_tea_0 10 rfl rfl)
theorem dX11_tea_11 : decode cX11_tea 11 = .ok (.getfield 9, 3) := dk_180 0 9 (dk_at dksX11_tea_0 11 rfl rfl)
theorem dX11_tea_14 : decode cX11_tea 14 = .ok (.iconst 0, 1) := dk_3 (dk_at dksX11_tea_0 14 rfl rfl)
theorem dX11_tea_15 : decode cX11_tea 15 = .ok (.iaload, 1) := dk_46 (dk_at dksX11_tea_0 15 rfl rfl)
theorem dX11_tea_16 : decode cX11_tea 16 = .ok (.iconst 1, 1) := dk_4 (dk_at dksX11_tea_0 16 rfl rfl)
theorem dX11_tea_17 : decode cX11_tea 17 = .ok (.isub, 1) := dk_100 (dk_at dksX11_tea_0 17 rfl rfl)
theorem dX11_tea_18 : decode cX11_tea 18 = .ok (.i2l, 1) := dk_133 (dk_at dksX11_tea_0 18 rfl rfl)
theorem dX11_tea_19 : decode cX11_tea 19 = .ok (.invokestatic 70, 3) := dk_184 0 70 (dk_at dksX11_tea_0 19 rfl rfl)
theorem dX11_tea_22 : decode cX11_tea 22 = .ok (.ifCond .eq 19, 3) := dk_153 0 19 (dk_at dksX11_tea_1 0 rfl rfl)
theorem dX11_tea_25 : decode cX11_tea 25 = .ok (.aload_n 0, 1) := dk_42 (dk_at dksX11_tea_1 3 rfl rfl)
theorem dX11_tea_26 : decode cX11_tea 26 = .ok (.iload_n 1, 1) := dk_27 (dk_at dksX11_tea_1 4 rfl rfl)
theorem dX11_tea_27 : decode cX11_tea 27 = .ok (.invokevirtual 239, 3) := dk_182 0 239 (dk_at dksX11_tea_1 5 rfl rfl)
theorem dX11_tea_30 : decode cX11_tea 30 = .ok (.ifCond .eq 7, 3) := dk_153 0 7 (dk_at dksX11_tea_1 8 rfl rfl)
theorem dX11_tea_33 : decode cX11_tea 33 = .ok (.iconst 1, 1) := dk_4 (dk_at dksX11_tea_1 11 rfl rfl)
theorem dX11_tea_34 : decode cX11_tea 34 = .ok (.goto 9, 3) := dk_167 0 9 (dk_at dksX11_tea_1 12 rfl rfl)
theorem dX11_tea_37 : decode cX11_tea 37 = .ok (.iconst 0, 1) := dk_3 (dk_at dksX11_tea_1 15 rfl rfl)
theorem dX11_tea_38 : decode cX11_tea 38 = .ok (.goto 5, 3) := dk_167 0 5 (dk_at dksX11_tea_1 16 rfl rfl)
theorem dX11_tea_41 : decode cX11_tea 41 = .ok (.bipush (-2), 2) := dk_16 254 (dk_at dksX11_tea_1 19 rfl rfl)
theorem dX11_tea_43 : decode cX11_tea 43 = .ok (.ireturn, 1) := dk_172 (dk_at dksX11_tea_1 21 rfl rfl)
abbrev cX11_isTea : ByteArray := prog_19_method_39_code
def yX11_isTea : MethodName := ⟨RX11, "isTea", "(I)Z"⟩
def dkwX11_isTea_2 : List UInt8 := [132, 2, 1, 167, 255, 207, 3, 172]
abbrev dktX11_isTea_2 : List UInt8 := dkwX11_isTea_2 ++ []
def dkwX11_isTea_1 : List UInt8 := [46, 133, 42, 180, 0, 9, 16, 67, 5, 28, 104, 96, 4, 96, 46, 133, 184, 0, 70, 153, 0, 5, 4, 172]
abbrev dktX11_isTea_1 : List UInt8 := dkwX11_isTea_1 ++ dktX11_isTea_2
def dkwX11_isTea_0 : List UInt8 := [3, 61, 28, 42, 180, 0, 9, 8, 46, 162, 0, 45, 27, 133, 42, 180, 0, 9, 16, 67, 5, 28, 104, 96]
abbrev dktX11_isTea_0 : List UInt8 := dkwX11_isTea_0 ++ dktX11_isTea_1
theorem dksX11_isTea_0 : cX11_isTea.data.toList.drop 0 = dktX11_isTea_0 := by decide +kernel
theorem dksX11_isTea_1 : cX11_isTea.data.toList.drop 24 = dktX11_isTea_1 := dk_seg dksX11_isTea_0 24 rfl rfl
theorem dksX11_isTea_2 : cX11_isTea.data.toList.drop 48 = dktX11_isTea_2 := dk_seg dksX11_isTea_1 24 rfl rfl
theorem dX11_isTea_0 : decode cX11_isTea 0 = .ok (.iconst 0, 1) := dk_3 (dk_at dksX11_isTea_0 0 rfl rfl)
theorem dX11_isTea_1 : decode cX11_isTea 1 = .ok (.istore_n 2, 1) := dk_61 (dk_at dksX11_isTea_0 1 rfl rfl)
theorem dX11_isTea_2 : decode cX11_isTea 2 = .ok (.iload_n 2, 1) := dk_28 (dk_at dksX11_isTea_0 2 rfl rfl)
theorem dX11_isTea_3 : decode cX11_isTea 3 = .ok (.aload_n 0, 1) := dk_42 (dk_at dksX11_isTea_0 3 rfl rfl)
theorem dX11_isTea_4 : decode cX11_isTea 4 = .ok (.getfield 9, 3) := dk_180 0 9 (dk_at dksX11_isTea_0 4 rfl rfl)
theorem dX11_isTea_7 : decode cX11_isTea 7 = .ok (.iconst 5, 1) := dk_8 (dk_at dksX11_isTea_0 7 rfl rfl)
theorem dX11_isTea_8 : decode cX11_isTea 8 = .ok (.iaload, 1) := dk_46 (dk_at dksX11_isTea_0 8 rfl rfl)
theorem dX11_isTea_9 : decode cX11_isTea 9 = .ok (.if_icmp .ge 45, 3) := dk_162 0 45 (dk_at dksX11_isTea_0 9 rfl rfl)
theorem dX11_isTea_12 : decode cX11_isTea 12 = .ok (.iload_n 1, 1) := dk_27 (dk_at dksX11_isTea_0 12 rfl rfl)
theorem dX11_isTea_13 : decode cX11_isTea 13 = .ok (.i2l, 1) := dk_133 (dk_at dksX11_isTea_0 13 rfl rfl)
theorem dX11_isTea_14 : decode cX11_isTea 14 = .ok (.aload_n 0, 1) := dk_42 (dk_at dksX11_isTea_0 14 rfl rfl)
theorem dX11_isTea_15 : decode cX11_isTea 15 = .ok (.getfield 9, 3) := dk_180 0 9 (dk_at dksX11_isTea_0 15 rfl rfl)
theorem dX11_isTea_18 : decode cX11_isTea 18 = .ok (.bipush 67, 2) := dk_16 67 (dk_at dksX11_isTea_0 18 rfl rfl)
theorem dX11_isTea_20 : decode cX11_isTea 20 = .ok (.iconst 2, 1) := dk_5 (dk_at dksX11_isTea_0 20 rfl rfl)
theorem dX11_isTea_21 : decode cX11_isTea 21 = .ok (.iload_n 2, 1) := dk_28 (dk_at dksX11_isTea_0 21 rfl rfl)
theorem dX11_isTea_22 : decode cX11_isTea 22 = .ok (.imul, 1) := dk_104 (dk_at dksX11_isTea_0 22 rfl rfl)
theorem dX11_isTea_23 : decode cX11_isTea 23 = .ok (.iadd, 1) := dk_96 (dk_at dksX11_isTea_0 23 rfl rfl)
theorem dX11_isTea_24 : decode cX11_isTea 24 = .ok (.iaload, 1) := dk_46 (dk_at dksX11_isTea_1 0 rfl rfl)
theorem dX11_isTea_25 : decode cX11_isTea 25 = .ok (.i2l, 1) := dk_133 (dk_at dksX11_isTea_1 1 rfl rfl)
theorem dX11_isTea_26 : decode cX11_isTea 26 = .ok (.aload_n 0, 1) := dk_42 (dk_at dksX11_isTea_1 2 rfl rfl)
theorem dX11_isTea_27 : decode cX11_isTea 27 = .ok (.getfield 9, 3) := dk_180 0 9 (dk_at dksX11_isTea_1 3 rfl rfl)
theorem dX11_isTea_30 : decode cX11_isTea 30 = .ok (.bipush 67, 2) := dk_16 67 (dk_at dksX11_isTea_1 6 rfl rfl)
theorem dX11_isTea_32 : decode cX11_isTea 32 = .ok (.iconst 2, 1) := dk_5 (dk_at dksX11_isTea_1 8 rfl rfl)
theorem dX11_isTea_33 : decode cX11_isTea 33 = .ok (.iload_n 2, 1) := dk_28 (dk_at dksX11_isTea_1 9 rfl rfl)
theorem dX11_isTea_34 : decode cX11_isTea 34 = .ok (.imul, 1) := dk_104 (dk_at dksX11_isTea_1 10 rfl rfl)
theorem dX11_isTea_35 : decode cX11_isTea 35 = .ok (.iadd, 1) := dk_96 (dk_at dksX11_isTea_1 11 rfl rfl)
theorem dX11_isTea_36 : decode cX11_isTea 36 = .ok (.iconst 1, 1) := dk_4 (dk_at dksX11_isTea_1 12 rfl rfl)
theorem dX11_isTea_37 : decode cX11_isTea 37 = .ok (.iadd, 1) := dk_96 (dk_at dksX11_isTea_1 13 rfl rfl)
theorem dX11_isTea_38 : decode cX11_isTea 38 = .ok (.iaload, 1) := dk_46 (dk_at dksX11_isTea_1 14 rfl rfl)
theorem dX11_isTea_39 : decode cX11_isTea 39 = .ok (.i2l, 1) := dk_133 (dk_at dksX11_isTea_1 15 rfl rfl)
theorem dX11_isTea_40 : decode cX11_isTea 40 = .ok (.invokestatic 70, 3) := dk_184 0 70 (dk_at dksX11_isTea_1 16 rfl rfl)
theorem dX11_isTea_43 : decode cX11_isTea 43 = .ok (.ifCond .eq 5, 3) := dk_153 0 5 (dk_at dksX11_isTea_1 19 rfl rfl)
theorem dX11_isTea_46 : decode cX11_isTea 46 = .ok (.iconst 1, 1) := dk_4 (dk_at dksX11_isTea_1 22 rfl rfl)
theorem dX11_isTea_47 : decode cX11_isTea 47 = .ok (.ireturn, 1) := dk_172 (dk_at dksX11_isTea_1 23 rfl rfl)
theorem dX11_isTea_48 : decode cX11_isTea 48 = .ok (.iinc 2 1, 3) := dk_132 2 1 (dk_at dksX11_isTea_2 0 rfl rfl)
theorem dX11_isTea_51 : decode cX11_isTea 51 = .ok (.goto (-49), 3) := dk_167 255 207 (dk_at dksX11_isTea_2 3 rfl rfl)
theorem dX11_isTea_54 : decode cX11_isTea 54 = .ok (.iconst 0, 1) := dk_3 (dk_at dksX11_isTea_2 6 rfl rfl)
theorem dX11_isTea_55 : decode cX11_isTea 55 = .ok (.ireturn, 1) := dk_172 (dk_at dksX11_isTea_2 7 rfl rfl)
abbrev cX11_cannon : ByteArray := prog_19_method_41_code
def yX11_cannon : MethodName := ⟨RX11, "cannon", "(II)I"⟩
def dkwX11_cannon_2 : List UInt8 := [167, 0, 5, 16, 254, 172]
abbrev dktX11_cannon_2 : List UInt8 := dkwX11_cannon_2 ++ []
def dkwX11_cannon_1 : List UInt8 := [20, 0, 242, 184, 0, 70, 153, 0, 19, 42, 180, 0, 9, 16, 75, 7, 27, 104, 96, 28, 96, 46]
abbrev dktX11_cannon_1 : List UInt8 := dkwX11_cannon_1 ++ dktX11_cannon_2
def dkwX11_cannon_0 : List UInt8 := [27, 133, 9, 42, 180, 0, 9, 16, 6, 46, 4, 100, 133, 184, 0, 70, 153, 0, 31, 28, 133, 9]
abbrev dktX11_cannon_0 : List UInt8 := dkwX11_cannon_0 ++ dktX11_cannon_1
theorem dksX11_cannon_0 : cX11_cannon.data.toList.drop 0 = dktX11_cannon_0 := by decide +kernel
theorem dksX11_cannon_1 : cX11_cannon.data.toList.drop 22 = dktX11_cannon_1 := dk_seg dksX11_cannon_0 22 rfl rfl
theorem dksX11_cannon_2 : cX11_cannon.data.toList.drop 44 = dktX11_cannon_2 := dk_seg dksX11_cannon_1 22 rfl rfl
theorem dX11_cannon_0 : decode cX11_cannon 0 = .ok (.iload_n 1, 1) := dk_27 (dk_at dksX11_cannon_0 0 rfl rfl)
theorem dX11_cannon_1 : decode cX11_cannon 1 = .ok (.i2l, 1) := dk_133 (dk_at dksX11_cannon_0 1 rfl rfl)
theorem dX11_cannon_2 : decode cX11_cannon 2 = .ok (.lconst 0, 1) := dk_9 (dk_at dksX11_cannon_0 2 rfl rfl)
theorem dX11_cannon_3 : decode cX11_cannon 3 = .ok (.aload_n 0, 1) := dk_42 (dk_at dksX11_cannon_0 3 rfl rfl)
theorem dX11_cannon_4 : decode cX11_cannon 4 = .ok (.getfield 9, 3) := dk_180 0 9 (dk_at dksX11_cannon_0 4 rfl rfl)
theorem dX11_cannon_7 : decode cX11_cannon 7 = .ok (.bipush 6, 2) := dk_16 6 (dk_at dksX11_cannon_0 7 rfl rfl)
theorem dX11_cannon_9 : decode cX11_cannon 9 = .ok (.iaload, 1) := dk_46 (dk_at dksX11_cannon_0 9 rfl rfl)
theorem dX11_cannon_10 : decode cX11_cannon 10 = .ok (.iconst 1, 1) := dk_4 (dk_at dksX11_cannon_0 10 rfl rfl)
theorem dX11_cannon_11 : decode cX11_cannon 11 = .ok (.isub, 1) := dk_100 (dk_at dksX11_cannon_0 11 rfl rfl)
theorem dX11_cannon_12 : decode cX11_cannon 12 = .ok (.i2l, 1) := dk_133 (dk_at dksX11_cannon_0 12 rfl rfl)
theorem dX11_cannon_13 : decode cX11_cannon 13 = .ok (.invokestatic 70, 3) := dk_184 0 70 (dk_at dksX11_cannon_0 13 rfl rfl)
theorem dX11_cannon_16 : decode cX11_cannon 16 = .ok (.ifCond .eq 31, 3) := dk_153 0 31 (dk_at dksX11_cannon_0 16 rfl rfl)
theorem dX11_cannon_19 : decode cX11_cannon 19 = .ok (.iload_n 2, 1) := dk_28 (dk_at dksX11_cannon_0 19 rfl rfl)
theorem dX11_cannon_20 : decode cX11_cannon 20 = .ok (.i2l, 1) := dk_133 (dk_at dksX11_cannon_0 20 rfl rfl)
theorem dX11_cannon_21 : decode cX11_cannon 21 = .ok (.lconst 0, 1) := dk_9 (dk_at dksX11_cannon_0 21 rfl rfl)
theorem dX11_cannon_22 : decode cX11_cannon 22 = .ok (.ldc2_w 242, 3) := dk_20 0 242 (dk_at dksX11_cannon_1 0 rfl rfl)
theorem dX11_cannon_25 : decode cX11_cannon 25 = .ok (.invokestatic 70, 3) := dk_184 0 70 (dk_at dksX11_cannon_1 3 rfl rfl)
theorem dX11_cannon_28 : decode cX11_cannon 28 = .ok (.ifCond .eq 19, 3) := dk_153 0 19 (dk_at dksX11_cannon_1 6 rfl rfl)
theorem dX11_cannon_31 : decode cX11_cannon 31 = .ok (.aload_n 0, 1) := dk_42 (dk_at dksX11_cannon_1 9 rfl rfl)
theorem dX11_cannon_32 : decode cX11_cannon 32 = .ok (.getfield 9, 3) := dk_180 0 9 (dk_at dksX11_cannon_1 10 rfl rfl)
theorem dX11_cannon_35 : decode cX11_cannon 35 = .ok (.bipush 75, 2) := dk_16 75 (dk_at dksX11_cannon_1 13 rfl rfl)
theorem dX11_cannon_37 : decode cX11_cannon 37 = .ok (.iconst 4, 1) := dk_7 (dk_at dksX11_cannon_1 15 rfl rfl)
theorem dX11_cannon_38 : decode cX11_cannon 38 = .ok (.iload_n 1, 1) := dk_27 (dk_at dksX11_cannon_1 16 rfl rfl)
theorem dX11_cannon_39 : decode cX11_cannon 39 = .ok (.imul, 1) := dk_104 (dk_at dksX11_cannon_1 17 rfl rfl)
theorem dX11_cannon_40 : decode cX11_cannon 40 = .ok (.iadd, 1) := dk_96 (dk_at dksX11_cannon_1 18 rfl rfl)
theorem dX11_cannon_41 : decode cX11_cannon 41 = .ok (.iload_n 2, 1) := dk_28 (dk_at dksX11_cannon_1 19 rfl rfl)
theorem dX11_cannon_42 : decode cX11_cannon 42 = .ok (.iadd, 1) := dk_96 (dk_at dksX11_cannon_1 20 rfl rfl)
theorem dX11_cannon_43 : decode cX11_cannon 43 = .ok (.iaload, 1) := dk_46 (dk_at dksX11_cannon_1 21 rfl rfl)
theorem dX11_cannon_44 : decode cX11_cannon 44 = .ok (.goto 5, 3) := dk_167 0 5 (dk_at dksX11_cannon_2 0 rfl rfl)
theorem dX11_cannon_47 : decode cX11_cannon 47 = .ok (.bipush (-2), 2) := dk_16 254 (dk_at dksX11_cannon_2 3 rfl rfl)
theorem dX11_cannon_49 : decode cX11_cannon 49 = .ok (.ireturn, 1) := dk_172 (dk_at dksX11_cannon_2 5 rfl rfl)
abbrev cX11_rule : ByteArray := prog_19_method_42_code
def yX11_rule : MethodName := ⟨RX11, "rule", "(II)I"⟩
def dkwX11_rule_2 : List UInt8 := [172]
abbrev dktX11_rule_2 : List UInt8 := dkwX11_rule_2 ++ []
def dkwX11_rule_1 : List UInt8 := [184, 0, 70, 153, 0, 19, 42, 180, 0, 9, 16, 107, 5, 27, 104, 96, 28, 96, 46, 167, 0, 5, 16, 254]
abbrev dktX11_rule_1 : List UInt8 := dkwX11_rule_1 ++ dktX11_rule_2
def dkwX11_rule_0 : List UInt8 := [27, 133, 9, 42, 180, 0, 9, 16, 7, 46, 4, 100, 133, 184, 0, 70, 153, 0, 29, 28, 133, 9, 10]
abbrev dktX11_rule_0 : List UInt8 := dkwX11_rule_0 ++ dktX11_rule_1
theorem dksX11_rule_0 : cX11_rule.data.toList.drop 0 = dktX11_rule_0 := by decide +kernel
theorem dksX11_rule_1 : cX11_rule.data.toList.drop 23 = dktX11_rule_1 := dk_seg dksX11_rule_0 23 rfl rfl
theorem dksX11_rule_2 : cX11_rule.data.toList.drop 47 = dktX11_rule_2 := dk_seg dksX11_rule_1 24 rfl rfl
theorem dX11_rule_0 : decode cX11_rule 0 = .ok (.iload_n 1, 1) := dk_27 (dk_at dksX11_rule_0 0 rfl rfl)
theorem dX11_rule_1 : decode cX11_rule 1 = .ok (.i2l, 1) := dk_133 (dk_at dksX11_rule_0 1 rfl rfl)
theorem dX11_rule_2 : decode cX11_rule 2 = .ok (.lconst 0, 1) := dk_9 (dk_at dksX11_rule_0 2 rfl rfl)
theorem dX11_rule_3 : decode cX11_rule 3 = .ok (.aload_n 0, 1) := dk_42 (dk_at dksX11_rule_0 3 rfl rfl)
theorem dX11_rule_4 : decode cX11_rule 4 = .ok (.getfield 9, 3) := dk_180 0 9 (dk_at dksX11_rule_0 4 rfl rfl)
theorem dX11_rule_7 : decode cX11_rule 7 = .ok (.bipush 7, 2) := dk_16 7 (dk_at dksX11_rule_0 7 rfl rfl)
theorem dX11_rule_9 : decode cX11_rule 9 = .ok (.iaload, 1) := dk_46 (dk_at dksX11_rule_0 9 rfl rfl)
theorem dX11_rule_10 : decode cX11_rule 10 = .ok (.iconst 1, 1) := dk_4 (dk_at dksX11_rule_0 10 rfl rfl)
theorem dX11_rule_11 : decode cX11_rule 11 = .ok (.isub, 1) := dk_100 (dk_at dksX11_rule_0 11 rfl rfl)
theorem dX11_rule_12 : decode cX11_rule 12 = .ok (.i2l, 1) := dk_133 (dk_at dksX11_rule_0 12 rfl rfl)
theorem dX11_rule_13 : decode cX11_rule 13 = .ok (.invokestatic 70, 3) := dk_184 0 70 (dk_at dksX11_rule_0 13 rfl rfl)
theorem dX11_rule_16 : decode cX11_rule 16 = .ok (.ifCond .eq 29, 3) := dk_153 0 29 (dk_at dksX11_rule_0 16 rfl rfl)
theorem dX11_rule_19 : decode cX11_rule 19 = .ok (.iload_n 2, 1) := dk_28 (dk_at dksX11_rule_0 19 rfl rfl)
theorem dX11_rule_20 : decode cX11_rule 20 = .ok (.i2l, 1) := dk_133 (dk_at dksX11_rule_0 20 rfl rfl)
theorem dX11_rule_21 : decode cX11_rule 21 = .ok (.lconst 0, 1) := dk_9 (dk_at dksX11_rule_0 21 rfl rfl)
theorem dX11_rule_22 : decode cX11_rule 22 = .ok (.lconst 1, 1) := dk_10 (dk_at dksX11_rule_0 22 rfl rfl)
theorem dX11_rule_23 : decode cX11_rule 23 = .ok (.invokestatic 70, 3) := dk_184 0 70 (dk_at dksX11_rule_1 0 rfl rfl)
theorem dX11_rule_26 : decode cX11_rule 26 = .ok (.ifCond .eq 19, 3) := dk_153 0 19 (dk_at dksX11_rule_1 3 rfl rfl)
theorem dX11_rule_29 : decode cX11_rule 29 = .ok (.aload_n 0, 1) := dk_42 (dk_at dksX11_rule_1 6 rfl rfl)
theorem dX11_rule_30 : decode cX11_rule 30 = .ok (.getfield 9, 3) := dk_180 0 9 (dk_at dksX11_rule_1 7 rfl rfl)
theorem dX11_rule_33 : decode cX11_rule 33 = .ok (.bipush 107, 2) := dk_16 107 (dk_at dksX11_rule_1 10 rfl rfl)
theorem dX11_rule_35 : decode cX11_rule 35 = .ok (.iconst 2, 1) := dk_5 (dk_at dksX11_rule_1 12 rfl rfl)
theorem dX11_rule_36 : decode cX11_rule 36 = .ok (.iload_n 1, 1) := dk_27 (dk_at dksX11_rule_1 13 rfl rfl)
theorem dX11_rule_37 : decode cX11_rule 37 = .ok (.imul, 1) := dk_104 (dk_at dksX11_rule_1 14 rfl rfl)
theorem dX11_rule_38 : decode cX11_rule 38 = .ok (.iadd, 1) := dk_96 (dk_at dksX11_rule_1 15 rfl rfl)
theorem dX11_rule_39 : decode cX11_rule 39 = .ok (.iload_n 2, 1) := dk_28 (dk_at dksX11_rule_1 16 rfl rfl)
theorem dX11_rule_40 : decode cX11_rule 40 = .ok (.iadd, 1) := dk_96 (dk_at dksX11_rule_1 17 rfl rfl)
theorem dX11_rule_41 : decode cX11_rule 41 = .ok (.iaload, 1) := dk_46 (dk_at dksX11_rule_1 18 rfl rfl)
theorem dX11_rule_42 : decode cX11_rule 42 = .ok (.goto 5, 3) := dk_167 0 5 (dk_at dksX11_rule_1 19 rfl rfl)
theorem dX11_rule_45 : decode cX11_rule 45 = .ok (.bipush (-2), 2) := dk_16 254 (dk_at dksX11_rule_1 22 rfl rfl)
theorem dX11_rule_47 : decode cX11_rule 47 = .ok (.ireturn, 1) := dk_172 (dk_at dksX11_rule_2 0 rfl rfl)
abbrev cX11_spy : ByteArray := prog_19_method_43_code
def yX11_spy : MethodName := ⟨RX11, "spy", "(I)I"⟩
def dkwX11_spy_1 : List UInt8 := [16, 115, 27, 96, 46, 167, 0, 5, 16, 254, 172]
abbrev dktX11_spy_1 : List UInt8 := dkwX11_spy_1 ++ []
def dkwX11_spy_0 : List UInt8 := [27, 133, 9, 42, 180, 0, 9, 16, 8, 46, 4, 100, 133, 184, 0, 70, 153, 0, 15, 42, 180, 0, 9]
abbrev dktX11_spy_0 : List UInt8 := dkwX11_spy_0 ++ dktX11_spy_1
theorem dksX11_spy_0 : cX11_spy.data.toList.drop 0 = dktX11_spy_0 := by decide +kernel
theorem dksX11_spy_1 : cX11_spy.data.toList.drop 23 = dktX11_spy_1 := dk_seg dksX11_spy_0 23 rfl rfl
theorem dX11_spy_0 : decode cX11_spy 0 = .ok (.iload_n 1, 1) := dk_27 (dk_at dksX11_spy_0 0 rfl rfl)
theorem dX11_spy_1 : decode cX11_spy 1 = .ok (.i2l, 1) := dk_133 (dk_at dksX11_spy_0 1 rfl rfl)
theorem dX11_spy_2 : decode cX11_spy 2 = .ok (.lconst 0, 1) := dk_9 (dk_at dksX11_spy_0 2 rfl rfl)
theorem dX11_spy_3 : decode cX11_spy 3 = .ok (.aload_n 0, 1) := dk_42 (dk_at dksX11_spy_0 3 rfl rfl)
theorem dX11_spy_4 : decode cX11_spy 4 = .ok (.getfield 9, 3) := dk_180 0 9 (dk_at dksX11_spy_0 4 rfl rfl)
theorem dX11_spy_7 : decode cX11_spy 7 = .ok (.bipush 8, 2) := dk_16 8 (dk_at dksX11_spy_0 7 rfl rfl)
theorem dX11_spy_9 : decode cX11_spy 9 = .ok (.iaload, 1) := dk_46 (dk_at dksX11_spy_0 9 rfl rfl)
theorem dX11_spy_10 : decode cX11_spy 10 = .ok (.iconst 1, 1) := dk_4 (dk_at dksX11_spy_0 10 rfl rfl)
theorem dX11_spy_11 : decode cX11_spy 11 = .ok (.isub, 1) := dk_100 (dk_at dksX11_spy_0 11 rfl rfl)
theorem dX11_spy_12 : decode cX11_spy 12 = .ok (.i2l, 1) := dk_133 (dk_at dksX11_spy_0 12 rfl rfl)
theorem dX11_spy_13 : decode cX11_spy 13 = .ok (.invokestatic 70, 3) := dk_184 0 70 (dk_at dksX11_spy_0 13 rfl rfl)
theorem dX11_spy_16 : decode cX11_spy 16 = .ok (.ifCond .eq 15, 3) := dk_153 0 15 (dk_at dksX11_spy_0 16 rfl rfl)
theorem dX11_spy_19 : decode cX11_spy 19 = .ok (.aload_n 0, 1) := dk_42 (dk_at dksX11_spy_0 19 rfl rfl)
theorem dX11_spy_20 : decode cX11_spy 20 = .ok (.getfield 9, 3) := dk_180 0 9 (dk_at dksX11_spy_0 20 rfl rfl)
theorem dX11_spy_23 : decode cX11_spy 23 = .ok (.bipush 115, 2) := dk_16 115 (dk_at dksX11_spy_1 0 rfl rfl)
theorem dX11_spy_25 : decode cX11_spy 25 = .ok (.iload_n 1, 1) := dk_27 (dk_at dksX11_spy_1 2 rfl rfl)
theorem dX11_spy_26 : decode cX11_spy 26 = .ok (.iadd, 1) := dk_96 (dk_at dksX11_spy_1 3 rfl rfl)
theorem dX11_spy_27 : decode cX11_spy 27 = .ok (.iaload, 1) := dk_46 (dk_at dksX11_spy_1 4 rfl rfl)
theorem dX11_spy_28 : decode cX11_spy 28 = .ok (.goto 5, 3) := dk_167 0 5 (dk_at dksX11_spy_1 5 rfl rfl)
theorem dX11_spy_31 : decode cX11_spy 31 = .ok (.bipush (-2), 2) := dk_16 254 (dk_at dksX11_spy_1 8 rfl rfl)
theorem dX11_spy_33 : decode cX11_spy 33 = .ok (.ireturn, 1) := dk_172 (dk_at dksX11_spy_1 10 rfl rfl)
abbrev cX11_men : ByteArray := prog_19_method_52_code
def yX11_men : MethodName := ⟨RX11, "men", "(III)I"⟩
def dkwX11_men_1 : List UInt8 := [27, 28, 29, 182, 0, 247, 167, 0, 5, 16, 254, 172]
abbrev dktX11_men_1 : List UInt8 := dkwX11_men_1 ++ []
def dkwX11_men_0 : List UInt8 := [42, 27, 182, 0, 236, 153, 0, 28, 28, 184, 1, 7, 153, 0, 21, 42, 29, 182, 1, 10, 153, 0, 13, 42]
abbrev dktX11_men_0 : List UInt8 := dkwX11_men_0 ++ dktX11_men_1
theorem dksX11_men_0 : cX11_men.data.toList.drop 0 = dktX11_men_0 := by decide +kernel
theorem dksX11_men_1 : cX11_men.data.toList.drop 24 = dktX11_men_1 := dk_seg dksX11_men_0 24 rfl rfl
theorem dX11_men_0 : decode cX11_men 0 = .ok (.aload_n 0, 1) := dk_42 (dk_at dksX11_men_0 0 rfl rfl)
theorem dX11_men_1 : decode cX11_men 1 = .ok (.iload_n 1, 1) := dk_27 (dk_at dksX11_men_0 1 rfl rfl)
theorem dX11_men_2 : decode cX11_men 2 = .ok (.invokevirtual 236, 3) := dk_182 0 236 (dk_at dksX11_men_0 2 rfl rfl)
theorem dX11_men_5 : decode cX11_men 5 = .ok (.ifCond .eq 28, 3) := dk_153 0 28 (dk_at dksX11_men_0 5 rfl rfl)
theorem dX11_men_8 : decode cX11_men 8 = .ok (.iload_n 2, 1) := dk_28 (dk_at dksX11_men_0 8 rfl rfl)
theorem dX11_men_9 : decode cX11_men 9 = .ok (.invokestatic 263, 3) := dk_184 1 7 (dk_at dksX11_men_0 9 rfl rfl)
theorem dX11_men_12 : decode cX11_men 12 = .ok (.ifCond .eq 21, 3) := dk_153 0 21 (dk_at dksX11_men_0 12 rfl rfl)
theorem dX11_men_15 : decode cX11_men 15 = .ok (.aload_n 0, 1) := dk_42 (dk_at dksX11_men_0 15 rfl rfl)
theorem dX11_men_16 : decode cX11_men 16 = .ok (.iload_n 3, 1) := dk_29 (dk_at dksX11_men_0 16 rfl rfl)
theorem dX11_men_17 : decode cX11_men 17 = .ok (.invokevirtual 266, 3) := dk_182 1 10 (dk_at dksX11_men_0 17 rfl rfl)
theorem dX11_men_20 : decode cX11_men 20 = .ok (.ifCond .eq 13, 3) := dk_153 0 13 (dk_at dksX11_men_0 20 rfl rfl)
theorem dX11_men_23 : decode cX11_men 23 = .ok (.aload_n 0, 1) := dk_42 (dk_at dksX11_men_0 23 rfl rfl)
theorem dX11_men_24 : decode cX11_men 24 = .ok (.iload_n 1, 1) := dk_27 (dk_at dksX11_men_1 0 rfl rfl)
theorem dX11_men_25 : decode cX11_men 25 = .ok (.iload_n 2, 1) := dk_28 (dk_at dksX11_men_1 1 rfl rfl)
theorem dX11_men_26 : decode cX11_men 26 = .ok (.iload_n 3, 1) := dk_29 (dk_at dksX11_men_1 2 rfl rfl)
theorem dX11_men_27 : decode cX11_men 27 = .ok (.invokevirtual 247, 3) := dk_182 0 247 (dk_at dksX11_men_1 3 rfl rfl)
theorem dX11_men_30 : decode cX11_men 30 = .ok (.goto 5, 3) := dk_167 0 5 (dk_at dksX11_men_1 6 rfl rfl)
theorem dX11_men_33 : decode cX11_men 33 = .ok (.bipush (-2), 2) := dk_16 254 (dk_at dksX11_men_1 9 rfl rfl)
theorem dX11_men_35 : decode cX11_men 35 = .ok (.ireturn, 1) := dk_172 (dk_at dksX11_men_1 11 rfl rfl)
abbrev cX11_isAny : ByteArray := prog_19_method_51_code
def yX11_isAny : MethodName := ⟨RX11, "isAny", "(I)Z"⟩
def dkwX11_isAny_0 : List UInt8 := [26, 133, 9, 20, 1, 5, 184, 0, 70, 172]
abbrev dktX11_isAny_0 : List UInt8 := dkwX11_isAny_0 ++ []
theorem dksX11_isAny_0 : cX11_isAny.data.toList.drop 0 = dktX11_isAny_0 := by decide +kernel
theorem dX11_isAny_0 : decode cX11_isAny 0 = .ok (.iload_n 0, 1) := dk_26 (dk_at dksX11_isAny_0 0 rfl rfl)
theorem dX11_isAny_1 : decode cX11_isAny 1 = .ok (.i2l, 1) := dk_133 (dk_at dksX11_isAny_0 1 rfl rfl)
theorem dX11_isAny_2 : decode cX11_isAny 2 = .ok (.lconst 0, 1) := dk_9 (dk_at dksX11_isAny_0 2 rfl rfl)
theorem dX11_isAny_3 : decode cX11_isAny 3 = .ok (.ldc2_w 261, 3) := dk_20 1 5 (dk_at dksX11_isAny_0 3 rfl rfl)
theorem dX11_isAny_6 : decode cX11_isAny 6 = .ok (.invokestatic 70, 3) := dk_184 0 70 (dk_at dksX11_isAny_0 6 rfl rfl)
theorem dX11_isAny_9 : decode cX11_isAny 9 = .ok (.ireturn, 1) := dk_172 (dk_at dksX11_isAny_0 9 rfl rfl)
abbrev cX11_areTrains : ByteArray := prog_19_method_12_code
def yX11_areTrains : MethodName := ⟨RX11, "areTrains", "(I)Z"⟩
def dkwX11_areTrains_1 : List UInt8 := [167, 0, 4, 3, 172]
abbrev dktX11_areTrains_1 : List UInt8 := dkwX11_areTrains_1 ++ []
def dkwX11_areTrains_0 : List UInt8 := [42, 182, 0, 74, 153, 0, 21, 27, 133, 9, 42, 182, 0, 78, 133, 184, 0, 70, 153, 0, 7, 4]
abbrev dktX11_areTrains_0 : List UInt8 := dkwX11_areTrains_0 ++ dktX11_areTrains_1
theorem dksX11_areTrains_0 : cX11_areTrains.data.toList.drop 0 = dktX11_areTrains_0 := by decide +kernel
theorem dksX11_areTrains_1 : cX11_areTrains.data.toList.drop 22 = dktX11_areTrains_1 := dk_seg dksX11_areTrains_0 22 rfl rfl
theorem dX11_areTrains_0 : decode cX11_areTrains 0 = .ok (.aload_n 0, 1) := dk_42 (dk_at dksX11_areTrains_0 0 rfl rfl)
theorem dX11_areTrains_1 : decode cX11_areTrains 1 = .ok (.invokevirtual 74, 3) := dk_182 0 74 (dk_at dksX11_areTrains_0 1 rfl rfl)
theorem dX11_areTrains_4 : decode cX11_areTrains 4 = .ok (.ifCond .eq 21, 3) := dk_153 0 21 (dk_at dksX11_areTrains_0 4 rfl rfl)
theorem dX11_areTrains_7 : decode cX11_areTrains 7 = .ok (.iload_n 1, 1) := dk_27 (dk_at dksX11_areTrains_0 7 rfl rfl)
theorem dX11_areTrains_8 : decode cX11_areTrains 8 = .ok (.i2l, 1) := dk_133 (dk_at dksX11_areTrains_0 8 rfl rfl)
theorem dX11_areTrains_9 : decode cX11_areTrains 9 = .ok (.lconst 0, 1) := dk_9 (dk_at dksX11_areTrains_0 9 rfl rfl)
theorem dX11_areTrains_10 : decode cX11_areTrains 10 = .ok (.aload_n 0, 1) := dk_42 (dk_at dksX11_areTrains_0 10 rfl rfl)
theorem dX11_areTrains_11 : decode cX11_areTrains 11 = .ok (.invokevirtual 78, 3) := dk_182 0 78 (dk_at dksX11_areTrains_0 11 rfl rfl)
theorem dX11_areTrains_14 : decode cX11_areTrains 14 = .ok (.i2l, 1) := dk_133 (dk_at dksX11_areTrains_0 14 rfl rfl)
theorem dX11_areTrains_15 : decode cX11_areTrains 15 = .ok (.invokestatic 70, 3) := dk_184 0 70 (dk_at dksX11_areTrains_0 15 rfl rfl)
theorem dX11_areTrains_18 : decode cX11_areTrains 18 = .ok (.ifCond .eq 7, 3) := dk_153 0 7 (dk_at dksX11_areTrains_0 18 rfl rfl)
theorem dX11_areTrains_21 : decode cX11_areTrains 21 = .ok (.iconst 1, 1) := dk_4 (dk_at dksX11_areTrains_0 21 rfl rfl)
theorem dX11_areTrains_22 : decode cX11_areTrains 22 = .ok (.goto 4, 3) := dk_167 0 4 (dk_at dksX11_areTrains_1 0 rfl rfl)
theorem dX11_areTrains_25 : decode cX11_areTrains 25 = .ok (.iconst 0, 1) := dk_3 (dk_at dksX11_areTrains_1 3 rfl rfl)
theorem dX11_areTrains_26 : decode cX11_areTrains 26 = .ok (.ireturn, 1) := dk_172 (dk_at dksX11_areTrains_1 4 rfl rfl)
abbrev cX11_allTrains : ByteArray := prog_19_method_11_code
def yX11_allTrains : MethodName := ⟨RX11, "allTrains", "()I"⟩
def dkwX11_allTrains_0 : List UInt8 := [4, 42, 180, 0, 9, 7, 46, 120, 4, 100, 172]
abbrev dktX11_allTrains_0 : List UInt8 := dkwX11_allTrains_0 ++ []
theorem dksX11_allTrains_0 : cX11_allTrains.data.toList.drop 0 = dktX11_allTrains_0 := by decide +kernel
theorem dX11_allTrains_0 : decode cX11_allTrains 0 = .ok (.iconst 1, 1) := dk_4 (dk_at dksX11_allTrains_0 0 rfl rfl)
theorem dX11_allTrains_1 : decode cX11_allTrains 1 = .ok (.aload_n 0, 1) := dk_42 (dk_at dksX11_allTrains_0 1 rfl rfl)
theorem dX11_allTrains_2 : decode cX11_allTrains 2 = .ok (.getfield 9, 3) := dk_180 0 9 (dk_at dksX11_allTrains_0 2 rfl rfl)
theorem dX11_allTrains_5 : decode cX11_allTrains 5 = .ok (.iconst 4, 1) := dk_7 (dk_at dksX11_allTrains_0 5 rfl rfl)
theorem dX11_allTrains_6 : decode cX11_allTrains 6 = .ok (.iaload, 1) := dk_46 (dk_at dksX11_allTrains_0 6 rfl rfl)
theorem dX11_allTrains_7 : decode cX11_allTrains 7 = .ok (.ishl, 1) := dk_120 (dk_at dksX11_allTrains_0 7 rfl rfl)
theorem dX11_allTrains_8 : decode cX11_allTrains 8 = .ok (.iconst 1, 1) := dk_4 (dk_at dksX11_allTrains_0 8 rfl rfl)
theorem dX11_allTrains_9 : decode cX11_allTrains 9 = .ok (.isub, 1) := dk_100 (dk_at dksX11_allTrains_0 9 rfl rfl)
theorem dX11_allTrains_10 : decode cX11_allTrains 10 = .ok (.ireturn, 1) := dk_172 (dk_at dksX11_allTrains_0 10 rfl rfl)
abbrev cX11_menOf : ByteArray := prog_19_method_45_code
def yX11_menOf : MethodName := ⟨RX11, "menOf", "(III)I"⟩
def dkwX11_menOf_2 : List UInt8 := [182, 0, 82, 167, 0, 4, 3, 96, 54, 4, 132, 5, 1, 167, 255, 204, 21, 4, 172]
abbrev dktX11_menOf_2 : List UInt8 := dkwX11_menOf_2 ++ []
def dkwX11_menOf_1 : List UInt8 := [182, 0, 82, 27, 160, 0, 24, 42, 21, 5, 29, 182, 0, 244, 28, 163, 0, 13, 42, 21, 5, 4]
abbrev dktX11_menOf_1 : List UInt8 := dkwX11_menOf_1 ++ dktX11_menOf_2
def dkwX11_menOf_0 : List UInt8 := [3, 54, 4, 3, 54, 5, 21, 5, 42, 180, 0, 9, 7, 46, 162, 0, 47, 21, 4, 42, 21, 5, 3]
abbrev dktX11_menOf_0 : List UInt8 := dkwX11_menOf_0 ++ dktX11_menOf_1
theorem dksX11_menOf_0 : cX11_menOf.data.toList.drop 0 = dktX11_menOf_0 := by decide +kernel
theorem dksX11_menOf_1 : cX11_menOf.data.toList.drop 23 = dktX11_menOf_1 := dk_seg dksX11_menOf_0 23 rfl rfl
theorem dksX11_menOf_2 : cX11_menOf.data.toList.drop 45 = dktX11_menOf_2 := dk_seg dksX11_menOf_1 22 rfl rfl
theorem dX11_menOf_0 : decode cX11_menOf 0 = .ok (.iconst 0, 1) := dk_3 (dk_at dksX11_menOf_0 0 rfl rfl)
theorem dX11_menOf_1 : decode cX11_menOf 1 = .ok (.istore 4, 2) := dk_54 4 (dk_at dksX11_menOf_0 1 rfl rfl)
theorem dX11_menOf_3 : decode cX11_menOf 3 = .ok (.iconst 0, 1) := dk_3 (dk_at dksX11_menOf_0 3 rfl rfl)
theorem dX11_menOf_4 : decode cX11_menOf 4 = .ok (.istore 5, 2) := dk_54 5 (dk_at dksX11_menOf_0 4 rfl rfl)
theorem dX11_menOf_6 : decode cX11_menOf 6 = .ok (.iload 5, 2) := dk_21 5 (dk_at dksX11_menOf_0 6 rfl rfl)
theorem dX11_menOf_8 : decode cX11_menOf 8 = .ok (.aload_n 0, 1) := dk_42 (dk_at dksX11_menOf_0 8 rfl rfl)
theorem dX11_menOf_9 : decode cX11_menOf 9 = .ok (.getfield 9, 3) := dk_180 0 9 (dk_at dksX11_menOf_0 9 rfl rfl)
theorem dX11_menOf_12 : decode cX11_menOf 12 = .ok (.iconst 4, 1) := dk_7 (dk_at dksX11_menOf_0 12 rfl rfl)
theorem dX11_menOf_13 : decode cX11_menOf 13 = .ok (.iaload, 1) := dk_46 (dk_at dksX11_menOf_0 13 rfl rfl)
theorem dX11_menOf_14 : decode cX11_menOf 14 = .ok (.if_icmp .ge 47, 3) := dk_162 0 47 (dk_at dksX11_menOf_0 14 rfl rfl)
theorem dX11_menOf_17 : decode cX11_menOf 17 = .ok (.iload 4, 2) := dk_21 4 (dk_at dksX11_menOf_0 17 rfl rfl)
theorem dX11_menOf_19 : decode cX11_menOf 19 = .ok (.aload_n 0, 1) := dk_42 (dk_at dksX11_menOf_0 19 rfl rfl)
theorem dX11_menOf_20 : decode cX11_menOf 20 = .ok (.iload 5, 2) := dk_21 5 (dk_at dksX11_menOf_0 20 rfl rfl)
theorem dX11_menOf_22 : decode cX11_menOf 22 = .ok (.iconst 0, 1) := dk_3 (dk_at dksX11_menOf_0 22 rfl rfl)
theorem dX11_menOf_23 : decode cX11_menOf 23 = .ok (.invokevirtual 82, 3) := dk_182 0 82 (dk_at dksX11_menOf_1 0 rfl rfl)
theorem dX11_menOf_26 : decode cX11_menOf 26 = .ok (.iload_n 1, 1) := dk_27 (dk_at dksX11_menOf_1 3 rfl rfl)
theorem dX11_menOf_27 : decode cX11_menOf 27 = .ok (.if_icmp .ne 24, 3) := dk_160 0 24 (dk_at dksX11_menOf_1 4 rfl rfl)
theorem dX11_menOf_30 : decode cX11_menOf 30 = .ok (.aload_n 0, 1) := dk_42 (dk_at dksX11_menOf_1 7 rfl rfl)
theorem dX11_menOf_31 : decode cX11_menOf 31 = .ok (.iload 5, 2) := dk_21 5 (dk_at dksX11_menOf_1 8 rfl rfl)
theorem dX11_menOf_33 : decode cX11_menOf 33 = .ok (.iload_n 3, 1) := dk_29 (dk_at dksX11_menOf_1 10 rfl rfl)
theorem dX11_menOf_34 : decode cX11_menOf 34 = .ok (.invokevirtual 244, 3) := dk_182 0 244 (dk_at dksX11_menOf_1 11 rfl rfl)
theorem dX11_menOf_37 : decode cX11_menOf 37 = .ok (.iload_n 2, 1) := dk_28 (dk_at dksX11_menOf_1 14 rfl rfl)
theorem dX11_menOf_38 : decode cX11_menOf 38 = .ok (.if_icmp .gt 13, 3) := dk_163 0 13 (dk_at dksX11_menOf_1 15 rfl rfl)
theorem dX11_menOf_41 : decode cX11_menOf 41 = .ok (.aload_n 0, 1) := dk_42 (dk_at dksX11_menOf_1 18 rfl rfl)
theorem dX11_menOf_42 : decode cX11_menOf 42 = .ok (.iload 5, 2) := dk_21 5 (dk_at dksX11_menOf_1 19 rfl rfl)
theorem dX11_menOf_44 : decode cX11_menOf 44 = .ok (.iconst 1, 1) := dk_4 (dk_at dksX11_menOf_1 21 rfl rfl)
theorem dX11_menOf_45 : decode cX11_menOf 45 = .ok (.invokevirtual 82, 3) := dk_182 0 82 (dk_at dksX11_menOf_2 0 rfl rfl)
theorem dX11_menOf_48 : decode cX11_menOf 48 = .ok (.goto 4, 3) := dk_167 0 4 (dk_at dksX11_menOf_2 3 rfl rfl)
theorem dX11_menOf_51 : decode cX11_menOf 51 = .ok (.iconst 0, 1) := dk_3 (dk_at dksX11_menOf_2 6 rfl rfl)
theorem dX11_menOf_52 : decode cX11_menOf 52 = .ok (.iadd, 1) := dk_96 (dk_at dksX11_menOf_2 7 rfl rfl)
theorem dX11_menOf_53 : decode cX11_menOf 53 = .ok (.istore 4, 2) := dk_54 4 (dk_at dksX11_menOf_2 8 rfl rfl)
theorem dX11_menOf_55 : decode cX11_menOf 55 = .ok (.iinc 5 1, 3) := dk_132 5 1 (dk_at dksX11_menOf_2 10 rfl rfl)
theorem dX11_menOf_58 : decode cX11_menOf 58 = .ok (.goto (-52), 3) := dk_167 255 204 (dk_at dksX11_menOf_2 13 rfl rfl)
theorem dX11_menOf_61 : decode cX11_menOf 61 = .ok (.iload 4, 2) := dk_21 4 (dk_at dksX11_menOf_2 16 rfl rfl)
theorem dX11_menOf_63 : decode cX11_menOf 63 = .ok (.ireturn, 1) := dk_172 (dk_at dksX11_menOf_2 18 rfl rfl)
abbrev cX11_comesAt : ByteArray := prog_19_method_44_code
def yX11_comesAt : MethodName := ⟨RX11, "comesAt", "(II)I"⟩
def dkwX11_comesAt_0 : List UInt8 := [42, 27, 5, 182, 0, 82, 28, 27, 184, 0, 86, 42, 27, 7, 182, 0, 82, 104, 96, 172]
abbrev dktX11_comesAt_0 : List UInt8 := dkwX11_comesAt_0 ++ []
theorem dksX11_comesAt_0 : cX11_comesAt.data.toList.drop 0 = dktX11_comesAt_0 := by decide +kernel
theorem dX11_comesAt_0 : decode cX11_comesAt 0 = .ok (.aload_n 0, 1) := dk_42 (dk_at dksX11_comesAt_0 0 rfl rfl)
theorem dX11_comesAt_1 : decode cX11_comesAt 1 = .ok (.iload_n 1, 1) := dk_27 (dk_at dksX11_comesAt_0 1 rfl rfl)
theorem dX11_comesAt_2 : decode cX11_comesAt 2 = .ok (.iconst 2, 1) := dk_5 (dk_at dksX11_comesAt_0 2 rfl rfl)
theorem dX11_comesAt_3 : decode cX11_comesAt 3 = .ok (.invokevirtual 82, 3) := dk_182 0 82 (dk_at dksX11_comesAt_0 3 rfl rfl)
theorem dX11_comesAt_6 : decode cX11_comesAt 6 = .ok (.iload_n 2, 1) := dk_28 (dk_at dksX11_comesAt_0 6 rfl rfl)
theorem dX11_comesAt_7 : decode cX11_comesAt 7 = .ok (.iload_n 1, 1) := dk_27 (dk_at dksX11_comesAt_0 7 rfl rfl)
theorem dX11_comesAt_8 : decode cX11_comesAt 8 = .ok (.invokestatic 86, 3) := dk_184 0 86 (dk_at dksX11_comesAt_0 8 rfl rfl)
theorem dX11_comesAt_11 : decode cX11_comesAt 11 = .ok (.aload_n 0, 1) := dk_42 (dk_at dksX11_comesAt_0 11 rfl rfl)
theorem dX11_comesAt_12 : decode cX11_comesAt 12 = .ok (.iload_n 1, 1) := dk_27 (dk_at dksX11_comesAt_0 12 rfl rfl)
theorem dX11_comesAt_13 : decode cX11_comesAt 13 = .ok (.iconst 4, 1) := dk_7 (dk_at dksX11_comesAt_0 13 rfl rfl)
theorem dX11_comesAt_14 : decode cX11_comesAt 14 = .ok (.invokevirtual 82, 3) := dk_182 0 82 (dk_at dksX11_comesAt_0 14 rfl rfl)
theorem dX11_comesAt_17 : decode cX11_comesAt 17 = .ok (.imul, 1) := dk_104 (dk_at dksX11_comesAt_0 17 rfl rfl)
theorem dX11_comesAt_18 : decode cX11_comesAt 18 = .ok (.iadd, 1) := dk_96 (dk_at dksX11_comesAt_0 18 rfl rfl)
theorem dX11_comesAt_19 : decode cX11_comesAt 19 = .ok (.ireturn, 1) := dk_172 (dk_at dksX11_comesAt_0 19 rfl rfl)
abbrev cX11_bit : ByteArray := prog_19_method_5_code
def yX11_bit : MethodName := ⟨RX11, "bit", "(II)I"⟩
def dkwX11_bit_0 : List UInt8 := [26, 27, 122, 4, 126, 172]
abbrev dktX11_bit_0 : List UInt8 := dkwX11_bit_0 ++ []
theorem dksX11_bit_0 : cX11_bit.data.toList.drop 0 = dktX11_bit_0 := by decide +kernel
theorem dX11_bit_0 : decode cX11_bit 0 = .ok (.iload_n 0, 1) := dk_26 (dk_at dksX11_bit_0 0 rfl rfl)
theorem dX11_bit_1 : decode cX11_bit 1 = .ok (.iload_n 1, 1) := dk_27 (dk_at dksX11_bit_0 1 rfl rfl)
theorem dX11_bit_2 : decode cX11_bit 2 = .ok (.ishr, 1) := dk_122 (dk_at dksX11_bit_0 2 rfl rfl)
theorem dX11_bit_3 : decode cX11_bit 3 = .ok (.iconst 1, 1) := dk_4 (dk_at dksX11_bit_0 3 rfl rfl)
theorem dX11_bit_4 : decode cX11_bit 4 = .ok (.iand, 1) := dk_126 (dk_at dksX11_bit_0 4 rfl rfl)
theorem dX11_bit_5 : decode cX11_bit 5 = .ok (.ireturn, 1) := dk_172 (dk_at dksX11_bit_0 5 rfl rfl)
abbrev cX11_front : ByteArray := prog_19_method_53_code
def yX11_front : MethodName := ⟨RX11, "front", "(II)I"⟩
def dkwX11_front_1 : List UInt8 := [42, 27, 28, 182, 0, 251, 167, 0, 6, 17, 252, 24, 172]
abbrev dktX11_front_1 : List UInt8 := dkwX11_front_1 ++ []
def dkwX11_front_0 : List UInt8 := [42, 28, 182, 1, 10, 153, 0, 28, 27, 133, 9, 42, 180, 0, 9, 3, 46, 133, 184, 0, 70, 153, 0, 12]
abbrev dktX11_front_0 : List UInt8 := dkwX11_front_0 ++ dktX11_front_1
theorem dksX11_front_0 : cX11_front.data.toList.drop 0 = dktX11_front_0 := by decide +kernel
theorem dksX11_front_1 : cX11_front.data.toList.drop 24 = dktX11_front_1 := dk_seg dksX11_front_0 24 rfl rfl
theorem dX11_front_0 : decode cX11_front 0 = .ok (.aload_n 0, 1) := dk_42 (dk_at dksX11_front_0 0 rfl rfl)
theorem dX11_front_1 : decode cX11_front 1 = .ok (.iload_n 2, 1) := dk_28 (dk_at dksX11_front_0 1 rfl rfl)
theorem dX11_front_2 : decode cX11_front 2 = .ok (.invokevirtual 266, 3) := dk_182 1 10 (dk_at dksX11_front_0 2 rfl rfl)
theorem dX11_front_5 : decode cX11_front 5 = .ok (.ifCond .eq 28, 3) := dk_153 0 28 (dk_at dksX11_front_0 5 rfl rfl)
theorem dX11_front_8 : decode cX11_front 8 = .ok (.iload_n 1, 1) := dk_27 (dk_at dksX11_front_0 8 rfl rfl)
theorem dX11_front_9 : decode cX11_front 9 = .ok (.i2l, 1) := dk_133 (dk_at dksX11_front_0 9 rfl rfl)
theorem dX11_front_10 : decode cX11_front 10 = .ok (.lconst 0, 1) := dk_9 (dk_at dksX11_front_0 10 rfl rfl)
theorem dX11_front_11 : decode cX11_front 11 = .ok (.aload_n 0, 1) := dk_42 (dk_at dksX11_front_0 11 rfl rfl)
theorem dX11_front_12 : decode cX11_front 12 = .ok (.getfield 9, 3) := dk_180 0 9 (dk_at dksX11_front_0 12 rfl rfl)
theorem dX11_front_15 : decode cX11_front 15 = .ok (.iconst 0, 1) := dk_3 (dk_at dksX11_front_0 15 rfl rfl)
theorem dX11_front_16 : decode cX11_front 16 = .ok (.iaload, 1) := dk_46 (dk_at dksX11_front_0 16 rfl rfl)
theorem dX11_front_17 : decode cX11_front 17 = .ok (.i2l, 1) := dk_133 (dk_at dksX11_front_0 17 rfl rfl)
theorem dX11_front_18 : decode cX11_front 18 = .ok (.invokestatic 70, 3) := dk_184 0 70 (dk_at dksX11_front_0 18 rfl rfl)
theorem dX11_front_21 : decode cX11_front 21 = .ok (.ifCond .eq 12, 3) := dk_153 0 12 (dk_at dksX11_front_0 21 rfl rfl)
theorem dX11_front_24 : decode cX11_front 24 = .ok (.aload_n 0, 1) := dk_42 (dk_at dksX11_front_1 0 rfl rfl)
theorem dX11_front_25 : decode cX11_front 25 = .ok (.iload_n 1, 1) := dk_27 (dk_at dksX11_front_1 1 rfl rfl)
theorem dX11_front_26 : decode cX11_front 26 = .ok (.iload_n 2, 1) := dk_28 (dk_at dksX11_front_1 2 rfl rfl)
theorem dX11_front_27 : decode cX11_front 27 = .ok (.invokevirtual 251, 3) := dk_182 0 251 (dk_at dksX11_front_1 3 rfl rfl)
theorem dX11_front_30 : decode cX11_front 30 = .ok (.goto 6, 3) := dk_167 0 6 (dk_at dksX11_front_1 6 rfl rfl)
theorem dX11_front_33 : decode cX11_front 33 = .ok (.sipush (-1000), 3) := dk_17 252 24 (dk_at dksX11_front_1 9 rfl rfl)
theorem dX11_front_36 : decode cX11_front 36 = .ok (.ireturn, 1) := dk_172 (dk_at dksX11_front_1 12 rfl rfl)
abbrev cX11_frontOf : ByteArray := prog_19_method_46_code
def yX11_frontOf : MethodName := ⟨RX11, "frontOf", "(II)I"⟩
def dkwX11_frontOf_3 : List UInt8 := [167, 0, 4, 3, 96, 79, 132, 3, 1, 167, 255, 185, 42, 180, 0, 34, 27, 46, 172]
abbrev dktX11_frontOf_3 : List UInt8 := dkwX11_frontOf_3 ++ []
def dkwX11_frontOf_2 : List UInt8 := [29, 4, 96, 42, 180, 0, 34, 29, 46, 21, 4, 158, 0, 7, 4, 167, 0, 13, 21, 4, 156, 0, 7, 2]
abbrev dktX11_frontOf_2 : List UInt8 := dkwX11_frontOf_2 ++ dktX11_frontOf_3
def dkwX11_frontOf_1 : List UInt8 := [167, 0, 18, 42, 3, 29, 28, 182, 0, 247, 42, 4, 29, 28, 182, 0, 247, 100, 54, 4, 42, 180, 0, 34]
abbrev dktX11_frontOf_1 : List UInt8 := dkwX11_frontOf_1 ++ dktX11_frontOf_2
def dkwX11_frontOf_0 : List UInt8 := [42, 180, 0, 34, 3, 3, 79, 3, 62, 29, 27, 162, 0, 72, 42, 29, 182, 0, 239, 153, 0, 7, 3]
abbrev dktX11_frontOf_0 : List UInt8 := dkwX11_frontOf_0 ++ dktX11_frontOf_1
theorem dksX11_frontOf_0 : cX11_frontOf.data.toList.drop 0 = dktX11_frontOf_0 := by decide +kernel
theorem dksX11_frontOf_1 : cX11_frontOf.data.toList.drop 23 = dktX11_frontOf_1 := dk_seg dksX11_frontOf_0 23 rfl rfl
theorem dksX11_frontOf_2 : cX11_frontOf.data.toList.drop 47 = dktX11_frontOf_2 := dk_seg dksX11_frontOf_1 24 rfl rfl
theorem dksX11_frontOf_3 : cX11_frontOf.data.toList.drop 71 = dktX11_frontOf_3 := dk_seg dksX11_frontOf_2 24 rfl rfl
theorem dX11_frontOf_0 : decode cX11_frontOf 0 = .ok (.aload_n 0, 1) := dk_42 (dk_at dksX11_frontOf_0 0 rfl rfl)
theorem dX11_frontOf_1 : decode cX11_frontOf 1 = .ok (.getfield 34, 3) := dk_180 0 34 (dk_at dksX11_frontOf_0 1 rfl rfl)
theorem dX11_frontOf_4 : decode cX11_frontOf 4 = .ok (.iconst 0, 1) := dk_3 (dk_at dksX11_frontOf_0 4 rfl rfl)
theorem dX11_frontOf_5 : decode cX11_frontOf 5 = .ok (.iconst 0, 1) := dk_3 (dk_at dksX11_frontOf_0 5 rfl rfl)
theorem dX11_frontOf_6 : decode cX11_frontOf 6 = .ok (.iastore, 1) := dk_79 (dk_at dksX11_frontOf_0 6 rfl rfl)
theorem dX11_frontOf_7 : decode cX11_frontOf 7 = .ok (.iconst 0, 1) := dk_3 (dk_at dksX11_frontOf_0 7 rfl rfl)
theorem dX11_frontOf_8 : decode cX11_frontOf 8 = .ok (.istore_n 3, 1) := dk_62 (dk_at dksX11_frontOf_0 8 rfl rfl)
theorem dX11_frontOf_9 : decode cX11_frontOf 9 = .ok (.iload_n 3, 1) := dk_29 (dk_at dksX11_frontOf_0 9 rfl rfl)
theorem dX11_frontOf_10 : decode cX11_frontOf 10 = .ok (.iload_n 1, 1) := dk_27 (dk_at dksX11_frontOf_0 10 rfl rfl)
theorem dX11_frontOf_11 : decode cX11_frontOf 11 = .ok (.if_icmp .ge 72, 3) := dk_162 0 72 (dk_at dksX11_frontOf_0 11 rfl rfl)
theorem dX11_frontOf_14 : decode cX11_frontOf 14 = .ok (.aload_n 0, 1) := dk_42 (dk_at dksX11_frontOf_0 14 rfl rfl)
theorem dX11_frontOf_15 : decode cX11_frontOf 15 = .ok (.iload_n 3, 1) := dk_29 (dk_at dksX11_frontOf_0 15 rfl rfl)
theorem dX11_frontOf_16 : decode cX11_frontOf 16 = .ok (.invokevirtual 239, 3) := dk_182 0 239 (dk_at dksX11_frontOf_0 16 rfl rfl)
theorem dX11_frontOf_19 : decode cX11_frontOf 19 = .ok (.ifCond .eq 7, 3) := dk_153 0 7 (dk_at dksX11_frontOf_0 19 rfl rfl)
theorem dX11_frontOf_22 : decode cX11_frontOf 22 = .ok (.iconst 0, 1) := dk_3 (dk_at dksX11_frontOf_0 22 rfl rfl)
theorem dX11_frontOf_23 : decode cX11_frontOf 23 = .ok (.goto 18, 3) := dk_167 0 18 (dk_at dksX11_frontOf_1 0 rfl rfl)
theorem dX11_frontOf_26 : decode cX11_frontOf 26 = .ok (.aload_n 0, 1) := dk_42 (dk_at dksX11_frontOf_1 3 rfl rfl)
theorem dX11_frontOf_27 : decode cX11_frontOf 27 = .ok (.iconst 0, 1) := dk_3 (dk_at dksX11_frontOf_1 4 rfl rfl)
theorem dX11_frontOf_28 : decode cX11_frontOf 28 = .ok (.iload_n 3, 1) := dk_29 (dk_at dksX11_frontOf_1 5 rfl rfl)
theorem dX11_frontOf_29 : decode cX11_frontOf 29 = .ok (.iload_n 2, 1) := dk_28 (dk_at dksX11_frontOf_1 6 rfl rfl)
theorem dX11_frontOf_30 : decode cX11_frontOf 30 = .ok (.invokevirtual 247, 3) := dk_182 0 247 (dk_at dksX11_frontOf_1 7 rfl rfl)
theorem dX11_frontOf_33 : decode cX11_frontOf 33 = .ok (.aload_n 0, 1) := dk_42 (dk_at dksX11_frontOf_1 10 rfl rfl)
theorem dX11_frontOf_34 : decode cX11_frontOf 34 = .ok (.iconst 1, 1) := dk_4 (dk_at dksX11_frontOf_1 11 rfl rfl)
theorem dX11_frontOf_35 : decode cX11_frontOf 35 = .ok (.iload_n 3, 1) := dk_29 (dk_at dksX11_frontOf_1 12 rfl rfl)
theorem dX11_frontOf_36 : decode cX11_frontOf 36 = .ok (.iload_n 2, 1) := dk_28 (dk_at dksX11_frontOf_1 13 rfl rfl)
theorem dX11_frontOf_37 : decode cX11_frontOf 37 = .ok (.invokevirtual 247, 3) := dk_182 0 247 (dk_at dksX11_frontOf_1 14 rfl rfl)
theorem dX11_frontOf_40 : decode cX11_frontOf 40 = .ok (.isub, 1) := dk_100 (dk_at dksX11_frontOf_1 17 rfl rfl)
theorem dX11_frontOf_41 : decode cX11_frontOf 41 = .ok (.istore 4, 2) := dk_54 4 (dk_at dksX11_frontOf_1 18 rfl rfl)
theorem dX11_frontOf_43 : decode cX11_frontOf 43 = .ok (.aload_n 0, 1) := dk_42 (dk_at dksX11_frontOf_1 20 rfl rfl)
theorem dX11_frontOf_44 : decode cX11_frontOf 44 = .ok (.getfield 34, 3) := dk_180 0 34 (dk_at dksX11_frontOf_1 21 rfl rfl)
theorem dX11_frontOf_47 : decode cX11_frontOf 47 = .ok (.iload_n 3, 1) := dk_29 (dk_at dksX11_frontOf_2 0 rfl rfl)
theorem dX11_frontOf_48 : decode cX11_frontOf 48 = .ok (.iconst 1, 1) := dk_4 (dk_at dksX11_frontOf_2 1 rfl rfl)
theorem dX11_frontOf_49 : decode cX11_frontOf 49 = .ok (.iadd, 1) := dk_96 (dk_at dksX11_frontOf_2 2 rfl rfl)
theorem dX11_frontOf_50 : decode cX11_frontOf 50 = .ok (.aload_n 0, 1) := dk_42 (dk_at dksX11_frontOf_2 3 rfl rfl)
theorem dX11_frontOf_51 : decode cX11_frontOf 51 = .ok (.getfield 34, 3) := dk_180 0 34 (dk_at dksX11_frontOf_2 4 rfl rfl)
theorem dX11_frontOf_54 : decode cX11_frontOf 54 = .ok (.iload_n 3, 1) := dk_29 (dk_at dksX11_frontOf_2 7 rfl rfl)
theorem dX11_frontOf_55 : decode cX11_frontOf 55 = .ok (.iaload, 1) := dk_46 (dk_at dksX11_frontOf_2 8 rfl rfl)
theorem dX11_frontOf_56 : decode cX11_frontOf 56 = .ok (.iload 4, 2) := dk_21 4 (dk_at dksX11_frontOf_2 9 rfl rfl)
theorem dX11_frontOf_58 : decode cX11_frontOf 58 = .ok (.ifCond .le 7, 3) := dk_158 0 7 (dk_at dksX11_frontOf_2 11 rfl rfl)
theorem dX11_frontOf_61 : decode cX11_frontOf 61 = .ok (.iconst 1, 1) := dk_4 (dk_at dksX11_frontOf_2 14 rfl rfl)
theorem dX11_frontOf_62 : decode cX11_frontOf 62 = .ok (.goto 13, 3) := dk_167 0 13 (dk_at dksX11_frontOf_2 15 rfl rfl)
theorem dX11_frontOf_65 : decode cX11_frontOf 65 = .ok (.iload 4, 2) := dk_21 4 (dk_at dksX11_frontOf_2 18 rfl rfl)
theorem dX11_frontOf_67 : decode cX11_frontOf 67 = .ok (.ifCond .ge 7, 3) := dk_156 0 7 (dk_at dksX11_frontOf_2 20 rfl rfl)
theorem dX11_frontOf_70 : decode cX11_frontOf 70 = .ok (.iconst (-1), 1) := dk_2 (dk_at dksX11_frontOf_2 23 rfl rfl)
theorem dX11_frontOf_71 : decode cX11_frontOf 71 = .ok (.goto 4, 3) := dk_167 0 4 (dk_at dksX11_frontOf_3 0 rfl rfl)
theorem dX11_frontOf_74 : decode cX11_frontOf 74 = .ok (.iconst 0, 1) := dk_3 (dk_at dksX11_frontOf_3 3 rfl rfl)
theorem dX11_frontOf_75 : decode cX11_frontOf 75 = .ok (.iadd, 1) := dk_96 (dk_at dksX11_frontOf_3 4 rfl rfl)
theorem dX11_frontOf_76 : decode cX11_frontOf 76 = .ok (.iastore, 1) := dk_79 (dk_at dksX11_frontOf_3 5 rfl rfl)
theorem dX11_frontOf_77 : decode cX11_frontOf 77 = .ok (.iinc 3 1, 3) := dk_132 3 1 (dk_at dksX11_frontOf_3 6 rfl rfl)
theorem dX11_frontOf_80 : decode cX11_frontOf 80 = .ok (.goto (-71), 3) := dk_167 255 185 (dk_at dksX11_frontOf_3 9 rfl rfl)
theorem dX11_frontOf_83 : decode cX11_frontOf 83 = .ok (.aload_n 0, 1) := dk_42 (dk_at dksX11_frontOf_3 12 rfl rfl)
theorem dX11_frontOf_84 : decode cX11_frontOf 84 = .ok (.getfield 34, 3) := dk_180 0 34 (dk_at dksX11_frontOf_3 13 rfl rfl)
theorem dX11_frontOf_87 : decode cX11_frontOf 87 = .ok (.iload_n 1, 1) := dk_27 (dk_at dksX11_frontOf_3 16 rfl rfl)
theorem dX11_frontOf_88 : decode cX11_frontOf 88 = .ok (.iaload, 1) := dk_46 (dk_at dksX11_frontOf_3 17 rfl rfl)
theorem dX11_frontOf_89 : decode cX11_frontOf 89 = .ok (.ireturn, 1) := dk_172 (dk_at dksX11_frontOf_3 18 rfl rfl)
abbrev cX11_late : ByteArray := prog_19_method_54_code
def yX11_late : MethodName := ⟨RX11, "late", "(I)I"⟩
def dkwX11_late_1 : List UInt8 := [27, 182, 0, 254, 153, 0, 7, 5, 167, 0, 4, 3, 96, 167, 0, 5, 16, 254, 172]
abbrev dktX11_late_1 : List UInt8 := dkwX11_late_1 ++ []
def dkwX11_late_0 : List UInt8 := [42, 27, 182, 1, 10, 153, 0, 35, 42, 3, 27, 182, 0, 254, 153, 0, 7, 4, 167, 0, 4, 3, 42, 4]
abbrev dktX11_late_0 : List UInt8 := dkwX11_late_0 ++ dktX11_late_1
theorem dksX11_late_0 : cX11_late.data.toList.drop 0 = dktX11_late_0 := by decide +kernel
theorem dksX11_late_1 : cX11_late.data.toList.drop 24 = dktX11_late_1 := dk_seg dksX11_late_0 24 rfl rfl
theorem dX11_late_0 : decode cX11_late 0 = .ok (.aload_n 0, 1) := dk_42 (dk_at dksX11_late_0 0 rfl rfl)
theorem dX11_late_1 : decode cX11_late 1 = .ok (.iload_n 1, 1) := dk_27 (dk_at dksX11_late_0 1 rfl rfl)
theorem dX11_late_2 : decode cX11_late 2 = .ok (.invokevirtual 266, 3) := dk_182 1 10 (dk_at dksX11_late_0 2 rfl rfl)
theorem dX11_late_5 : decode cX11_late 5 = .ok (.ifCond .eq 35, 3) := dk_153 0 35 (dk_at dksX11_late_0 5 rfl rfl)
theorem dX11_late_8 : decode cX11_late 8 = .ok (.aload_n 0, 1) := dk_42 (dk_at dksX11_late_0 8 rfl rfl)
theorem dX11_late_9 : decode cX11_late 9 = .ok (.iconst 0, 1) := dk_3 (dk_at dksX11_late_0 9 rfl rfl)
theorem dX11_late_10 : decode cX11_late 10 = .ok (.iload_n 1, 1) := dk_27 (dk_at dksX11_late_0 10 rfl rfl)
theorem dX11_late_11 : decode cX11_late 11 = .ok (.invokevirtual 254, 3) := dk_182 0 254 (dk_at dksX11_late_0 11 rfl rfl)
theorem dX11_late_14 : decode cX11_late 14 = .ok (.ifCond .eq 7, 3) := dk_153 0 7 (dk_at dksX11_late_0 14 rfl rfl)
theorem dX11_late_17 : decode cX11_late 17 = .ok (.iconst 1, 1) := dk_4 (dk_at dksX11_late_0 17 rfl rfl)
theorem dX11_late_18 : decode cX11_late 18 = .ok (.goto 4, 3) := dk_167 0 4 (dk_at dksX11_late_0 18 rfl rfl)
theorem dX11_late_21 : decode cX11_late 21 = .ok (.iconst 0, 1) := dk_3 (dk_at dksX11_late_0 21 rfl rfl)
theorem dX11_late_22 : decode cX11_late 22 = .ok (.aload_n 0, 1) := dk_42 (dk_at dksX11_late_0 22 rfl rfl)
theorem dX11_late_23 : decode cX11_late 23 = .ok (.iconst 1, 1) := dk_4 (dk_at dksX11_late_0 23 rfl rfl)
theorem dX11_late_24 : decode cX11_late 24 = .ok (.iload_n 1, 1) := dk_27 (dk_at dksX11_late_1 0 rfl rfl)
theorem dX11_late_25 : decode cX11_late 25 = .ok (.invokevirtual 254, 3) := dk_182 0 254 (dk_at dksX11_late_1 1 rfl rfl)
theorem dX11_late_28 : decode cX11_late 28 = .ok (.ifCond .eq 7, 3) := dk_153 0 7 (dk_at dksX11_late_1 4 rfl rfl)
theorem dX11_late_31 : decode cX11_late 31 = .ok (.iconst 2, 1) := dk_5 (dk_at dksX11_late_1 7 rfl rfl)
theorem dX11_late_32 : decode cX11_late 32 = .ok (.goto 4, 3) := dk_167 0 4 (dk_at dksX11_late_1 8 rfl rfl)
theorem dX11_late_35 : decode cX11_late 35 = .ok (.iconst 0, 1) := dk_3 (dk_at dksX11_late_1 11 rfl rfl)
theorem dX11_late_36 : decode cX11_late 36 = .ok (.iadd, 1) := dk_96 (dk_at dksX11_late_1 12 rfl rfl)
theorem dX11_late_37 : decode cX11_late 37 = .ok (.goto 5, 3) := dk_167 0 5 (dk_at dksX11_late_1 13 rfl rfl)
theorem dX11_late_40 : decode cX11_late 40 = .ok (.bipush (-2), 2) := dk_16 254 (dk_at dksX11_late_1 16 rfl rfl)
theorem dX11_late_42 : decode cX11_late 42 = .ok (.ireturn, 1) := dk_172 (dk_at dksX11_late_1 18 rfl rfl)
abbrev cX11_isLate : ByteArray := prog_19_method_49_code
def yX11_isLate : MethodName := ⟨RX11, "isLate", "(II)Z"⟩
def dkwX11_isLate_1 : List UInt8 := [4, 167, 0, 4, 3, 172]
abbrev dktX11_isLate_1 : List UInt8 := dkwX11_isLate_1 ++ []
def dkwX11_isLate_0 : List UInt8 := [42, 27, 42, 180, 0, 9, 4, 46, 28, 182, 0, 247, 42, 180, 0, 9, 16, 11, 27, 96, 46, 162, 0, 7]
abbrev dktX11_isLate_0 : List UInt8 := dkwX11_isLate_0 ++ dktX11_isLate_1
theorem dksX11_isLate_0 : cX11_isLate.data.toList.drop 0 = dktX11_isLate_0 := by decide +kernel
theorem dksX11_isLate_1 : cX11_isLate.data.toList.drop 24 = dktX11_isLate_1 := dk_seg dksX11_isLate_0 24 rfl rfl
theorem dX11_isLate_0 : decode cX11_isLate 0 = .ok (.aload_n 0, 1) := dk_42 (dk_at dksX11_isLate_0 0 rfl rfl)
theorem dX11_isLate_1 : decode cX11_isLate 1 = .ok (.iload_n 1, 1) := dk_27 (dk_at dksX11_isLate_0 1 rfl rfl)
theorem dX11_isLate_2 : decode cX11_isLate 2 = .ok (.aload_n 0, 1) := dk_42 (dk_at dksX11_isLate_0 2 rfl rfl)
theorem dX11_isLate_3 : decode cX11_isLate 3 = .ok (.getfield 9, 3) := dk_180 0 9 (dk_at dksX11_isLate_0 3 rfl rfl)
theorem dX11_isLate_6 : decode cX11_isLate 6 = .ok (.iconst 1, 1) := dk_4 (dk_at dksX11_isLate_0 6 rfl rfl)
theorem dX11_isLate_7 : decode cX11_isLate 7 = .ok (.iaload, 1) := dk_46 (dk_at dksX11_isLate_0 7 rfl rfl)
theorem dX11_isLate_8 : decode cX11_isLate 8 = .ok (.iload_n 2, 1) := dk_28 (dk_at dksX11_isLate_0 8 rfl rfl)
theorem dX11_isLate_9 : decode cX11_isLate 9 = .ok (.invokevirtual 247, 3) := dk_182 0 247 (dk_at dksX11_isLate_0 9 rfl rfl)
theorem dX11_isLate_12 : decode cX11_isLate 12 = .ok (.aload_n 0, 1) := dk_42 (dk_at dksX11_isLate_0 12 rfl rfl)
theorem dX11_isLate_13 : decode cX11_isLate 13 = .ok (.getfield 9, 3) := dk_180 0 9 (dk_at dksX11_isLate_0 13 rfl rfl)
theorem dX11_isLate_16 : decode cX11_isLate 16 = .ok (.bipush 11, 2) := dk_16 11 (dk_at dksX11_isLate_0 16 rfl rfl)
theorem dX11_isLate_18 : decode cX11_isLate 18 = .ok (.iload_n 1, 1) := dk_27 (dk_at dksX11_isLate_0 18 rfl rfl)
theorem dX11_isLate_19 : decode cX11_isLate 19 = .ok (.iadd, 1) := dk_96 (dk_at dksX11_isLate_0 19 rfl rfl)
theorem dX11_isLate_20 : decode cX11_isLate 20 = .ok (.iaload, 1) := dk_46 (dk_at dksX11_isLate_0 20 rfl rfl)
theorem dX11_isLate_21 : decode cX11_isLate 21 = .ok (.if_icmp .ge 7, 3) := dk_162 0 7 (dk_at dksX11_isLate_0 21 rfl rfl)
theorem dX11_isLate_24 : decode cX11_isLate 24 = .ok (.iconst 1, 1) := dk_4 (dk_at dksX11_isLate_1 0 rfl rfl)
theorem dX11_isLate_25 : decode cX11_isLate 25 = .ok (.goto 4, 3) := dk_167 0 4 (dk_at dksX11_isLate_1 1 rfl rfl)
theorem dX11_isLate_28 : decode cX11_isLate 28 = .ok (.iconst 0, 1) := dk_3 (dk_at dksX11_isLate_1 4 rfl rfl)
theorem dX11_isLate_29 : decode cX11_isLate 29 = .ok (.ireturn, 1) := dk_172 (dk_at dksX11_isLate_1 5 rfl rfl)
abbrev cX11_wins : ByteArray := prog_19_method_55_code
def yX11_wins : MethodName := ⟨RX11, "wins", "(I)I"⟩
def dkwX11_wins_0 : List UInt8 := [42, 27, 182, 1, 10, 153, 0, 11, 42, 27, 182, 1, 13, 167, 0, 5, 16, 254, 172]
abbrev dktX11_wins_0 : List UInt8 := dkwX11_wins_0 ++ []
theorem dksX11_wins_0 : cX11_wins.data.toList.drop 0 = dktX11_wins_0 := by decide +kernel
theorem dX11_wins_0 : decode cX11_wins 0 = .ok (.aload_n 0, 1) := dk_42 (dk_at dksX11_wins_0 0 rfl rfl)
theorem dX11_wins_1 : decode cX11_wins 1 = .ok (.iload_n 1, 1) := dk_27 (dk_at dksX11_wins_0 1 rfl rfl)
theorem dX11_wins_2 : decode cX11_wins 2 = .ok (.invokevirtual 266, 3) := dk_182 1 10 (dk_at dksX11_wins_0 2 rfl rfl)
theorem dX11_wins_5 : decode cX11_wins 5 = .ok (.ifCond .eq 11, 3) := dk_153 0 11 (dk_at dksX11_wins_0 5 rfl rfl)
theorem dX11_wins_8 : decode cX11_wins 8 = .ok (.aload_n 0, 1) := dk_42 (dk_at dksX11_wins_0 8 rfl rfl)
theorem dX11_wins_9 : decode cX11_wins 9 = .ok (.iload_n 1, 1) := dk_27 (dk_at dksX11_wins_0 9 rfl rfl)
theorem dX11_wins_10 : decode cX11_wins 10 = .ok (.invokevirtual 269, 3) := dk_182 1 13 (dk_at dksX11_wins_0 10 rfl rfl)
theorem dX11_wins_13 : decode cX11_wins 13 = .ok (.goto 5, 3) := dk_167 0 5 (dk_at dksX11_wins_0 13 rfl rfl)
theorem dX11_wins_16 : decode cX11_wins 16 = .ok (.bipush (-2), 2) := dk_16 254 (dk_at dksX11_wins_0 16 rfl rfl)
theorem dX11_wins_18 : decode cX11_wins 18 = .ok (.ireturn, 1) := dk_172 (dk_at dksX11_wins_0 18 rfl rfl)
abbrev cX11_winner : ByteArray := prog_19_method_50_code
def yX11_winner : MethodName := ⟨RX11, "winner", "(I)I"⟩
def dkwX11_winner_2 : List UInt8 := [156, 0, 7, 4, 167, 0, 4, 2, 172]
abbrev dktX11_winner_2 : List UInt8 := dkwX11_winner_2 ++ []
def dkwX11_winner_1 : List UInt8 := [167, 0, 4, 3, 172, 42, 27, 182, 1, 2, 54, 4, 21, 4, 158, 0, 7, 3, 167, 0, 13, 21, 4]
abbrev dktX11_winner_1 : List UInt8 := dkwX11_winner_1 ++ dktX11_winner_2
def dkwX11_winner_0 : List UInt8 := [42, 3, 27, 182, 0, 254, 61, 42, 4, 27, 182, 0, 254, 62, 28, 29, 159, 0, 13, 28, 153, 0, 7, 4]
abbrev dktX11_winner_0 : List UInt8 := dkwX11_winner_0 ++ dktX11_winner_1
theorem dksX11_winner_0 : cX11_winner.data.toList.drop 0 = dktX11_winner_0 := by decide +kernel
theorem dksX11_winner_1 : cX11_winner.data.toList.drop 24 = dktX11_winner_1 := dk_seg dksX11_winner_0 24 rfl rfl
theorem dksX11_winner_2 : cX11_winner.data.toList.drop 47 = dktX11_winner_2 := dk_seg dksX11_winner_1 23 rfl rfl
theorem dX11_winner_0 : decode cX11_winner 0 = .ok (.aload_n 0, 1) := dk_42 (dk_at dksX11_winner_0 0 rfl rfl)
theorem dX11_winner_1 : decode cX11_winner 1 = .ok (.iconst 0, 1) := dk_3 (dk_at dksX11_winner_0 1 rfl rfl)
theorem dX11_winner_2 : decode cX11_winner 2 = .ok (.iload_n 1, 1) := dk_27 (dk_at dksX11_winner_0 2 rfl rfl)
theorem dX11_winner_3 : decode cX11_winner 3 = .ok (.invokevirtual 254, 3) := dk_182 0 254 (dk_at dksX11_winner_0 3 rfl rfl)
theorem dX11_winner_6 : decode cX11_winner 6 = .ok (.istore_n 2, 1) := dk_61 (dk_at dksX11_winner_0 6 rfl rfl)
theorem dX11_winner_7 : decode cX11_winner 7 = .ok (.aload_n 0, 1) := dk_42 (dk_at dksX11_winner_0 7 rfl rfl)
theorem dX11_winner_8 : decode cX11_winner 8 = .ok (.iconst 1, 1) := dk_4 (dk_at dksX11_winner_0 8 rfl rfl)
theorem dX11_winner_9 : decode cX11_winner 9 = .ok (.iload_n 1, 1) := dk_27 (dk_at dksX11_winner_0 9 rfl rfl)
theorem dX11_winner_10 : decode cX11_winner 10 = .ok (.invokevirtual 254, 3) := dk_182 0 254 (dk_at dksX11_winner_0 10 rfl rfl)
theorem dX11_winner_13 : decode cX11_winner 13 = .ok (.istore_n 3, 1) := dk_62 (dk_at dksX11_winner_0 13 rfl rfl)
theorem dX11_winner_14 : decode cX11_winner 14 = .ok (.iload_n 2, 1) := dk_28 (dk_at dksX11_winner_0 14 rfl rfl)
theorem dX11_winner_15 : decode cX11_winner 15 = .ok (.iload_n 3, 1) := dk_29 (dk_at dksX11_winner_0 15 rfl rfl)
theorem dX11_winner_16 : decode cX11_winner 16 = .ok (.if_icmp .eq 13, 3) := dk_159 0 13 (dk_at dksX11_winner_0 16 rfl rfl)
theorem dX11_winner_19 : decode cX11_winner 19 = .ok (.iload_n 2, 1) := dk_28 (dk_at dksX11_winner_0 19 rfl rfl)
theorem dX11_winner_20 : decode cX11_winner 20 = .ok (.ifCond .eq 7, 3) := dk_153 0 7 (dk_at dksX11_winner_0 20 rfl rfl)
theorem dX11_winner_23 : decode cX11_winner 23 = .ok (.iconst 1, 1) := dk_4 (dk_at dksX11_winner_0 23 rfl rfl)
theorem dX11_winner_24 : decode cX11_winner 24 = .ok (.goto 4, 3) := dk_167 0 4 (dk_at dksX11_winner_1 0 rfl rfl)
theorem dX11_winner_27 : decode cX11_winner 27 = .ok (.iconst 0, 1) := dk_3 (dk_at dksX11_winner_1 3 rfl rfl)
theorem dX11_winner_28 : decode cX11_winner 28 = .ok (.ireturn, 1) := dk_172 (dk_at dksX11_winner_1 4 rfl rfl)
theorem dX11_winner_29 : decode cX11_winner 29 = .ok (.aload_n 0, 1) := dk_42 (dk_at dksX11_winner_1 5 rfl rfl)
theorem dX11_winner_30 : decode cX11_winner 30 = .ok (.iload_n 1, 1) := dk_27 (dk_at dksX11_winner_1 6 rfl rfl)
theorem dX11_winner_31 : decode cX11_winner 31 = .ok (.invokevirtual 258, 3) := dk_182 1 2 (dk_at dksX11_winner_1 7 rfl rfl)
theorem dX11_winner_34 : decode cX11_winner 34 = .ok (.istore 4, 2) := dk_54 4 (dk_at dksX11_winner_1 10 rfl rfl)
theorem dX11_winner_36 : decode cX11_winner 36 = .ok (.iload 4, 2) := dk_21 4 (dk_at dksX11_winner_1 12 rfl rfl)
theorem dX11_winner_38 : decode cX11_winner 38 = .ok (.ifCond .le 7, 3) := dk_158 0 7 (dk_at dksX11_winner_1 14 rfl rfl)
theorem dX11_winner_41 : decode cX11_winner 41 = .ok (.iconst 0, 1) := dk_3 (dk_at dksX11_winner_1 17 rfl rfl)
theorem dX11_winner_42 : decode cX11_winner 42 = .ok (.goto 13, 3) := dk_167 0 13 (dk_at dksX11_winner_1 18 rfl rfl)
theorem dX11_winner_45 : decode cX11_winner 45 = .ok (.iload 4, 2) := dk_21 4 (dk_at dksX11_winner_1 21 rfl rfl)
theorem dX11_winner_47 : decode cX11_winner 47 = .ok (.ifCond .ge 7, 3) := dk_156 0 7 (dk_at dksX11_winner_2 0 rfl rfl)
theorem dX11_winner_50 : decode cX11_winner 50 = .ok (.iconst 1, 1) := dk_4 (dk_at dksX11_winner_2 3 rfl rfl)
theorem dX11_winner_51 : decode cX11_winner 51 = .ok (.goto 4, 3) := dk_167 0 4 (dk_at dksX11_winner_2 4 rfl rfl)
theorem dX11_winner_54 : decode cX11_winner 54 = .ok (.iconst (-1), 1) := dk_2 (dk_at dksX11_winner_2 7 rfl rfl)
theorem dX11_winner_55 : decode cX11_winner 55 = .ok (.ireturn, 1) := dk_172 (dk_at dksX11_winner_2 8 rfl rfl)
abbrev cX11_lastFront : ByteArray := prog_19_method_47_code
def yX11_lastFront : MethodName := ⟨RX11, "lastFront", "(I)I"⟩
def dkwX11_lastFront_0 : List UInt8 := [42, 42, 180, 0, 9, 3, 46, 27, 182, 0, 251, 172]
abbrev dktX11_lastFront_0 : List UInt8 := dkwX11_lastFront_0 ++ []
theorem dksX11_lastFront_0 : cX11_lastFront.data.toList.drop 0 = dktX11_lastFront_0 := by decide +kernel
theorem dX11_lastFront_0 : decode cX11_lastFront 0 = .ok (.aload_n 0, 1) := dk_42 (dk_at dksX11_lastFront_0 0 rfl rfl)
theorem dX11_lastFront_1 : decode cX11_lastFront 1 = .ok (.aload_n 0, 1) := dk_42 (dk_at dksX11_lastFront_0 1 rfl rfl)
theorem dX11_lastFront_2 : decode cX11_lastFront 2 = .ok (.getfield 9, 3) := dk_180 0 9 (dk_at dksX11_lastFront_0 2 rfl rfl)
theorem dX11_lastFront_5 : decode cX11_lastFront 5 = .ok (.iconst 0, 1) := dk_3 (dk_at dksX11_lastFront_0 5 rfl rfl)
theorem dX11_lastFront_6 : decode cX11_lastFront 6 = .ok (.iaload, 1) := dk_46 (dk_at dksX11_lastFront_0 6 rfl rfl)
theorem dX11_lastFront_7 : decode cX11_lastFront 7 = .ok (.iload_n 1, 1) := dk_27 (dk_at dksX11_lastFront_0 7 rfl rfl)
theorem dX11_lastFront_8 : decode cX11_lastFront 8 = .ok (.invokevirtual 251, 3) := dk_182 0 251 (dk_at dksX11_lastFront_0 8 rfl rfl)
theorem dX11_lastFront_11 : decode cX11_lastFront 11 = .ok (.ireturn, 1) := dk_172 (dk_at dksX11_lastFront_0 11 rfl rfl)
abbrev cX11_peak : ByteArray := prog_19_method_56_code
def yX11_peak : MethodName := ⟨RX11, "peak", "(II)I"⟩
def dkwX11_peak_3 : List UInt8 := [132, 4, 1, 167, 255, 211, 29, 172]
abbrev dktX11_peak_3 : List UInt8 := dkwX11_peak_3 ++ []
def dkwX11_peak_2 : List UInt8 := [46, 184, 1, 16, 27, 42, 180, 0, 34, 29, 46, 184, 1, 16, 164, 0, 8, 21, 4, 167, 0, 4, 29, 62]
abbrev dktX11_peak_2 : List UInt8 := dkwX11_peak_2 ++ dktX11_peak_3
def dkwX11_peak_1 : List UInt8 := [87, 3, 62, 4, 54, 4, 21, 4, 42, 180, 0, 9, 3, 46, 163, 0, 40, 27, 42, 180, 0, 34, 21, 4]
abbrev dktX11_peak_1 : List UInt8 := dkwX11_peak_1 ++ dktX11_peak_2
def dkwX11_peak_0 : List UInt8 := [42, 27, 182, 0, 236, 153, 0, 11, 42, 28, 182, 1, 10, 154, 0, 6, 16, 254, 172, 42, 28, 182, 1, 2]
abbrev dktX11_peak_0 : List UInt8 := dkwX11_peak_0 ++ dktX11_peak_1
theorem dksX11_peak_0 : cX11_peak.data.toList.drop 0 = dktX11_peak_0 := by decide +kernel
theorem dksX11_peak_1 : cX11_peak.data.toList.drop 24 = dktX11_peak_1 := dk_seg dksX11_peak_0 24 rfl rfl
theorem dksX11_peak_2 : cX11_peak.data.toList.drop 48 = dktX11_peak_2 := dk_seg dksX11_peak_1 24 rfl rfl
theorem dksX11_peak_3 : cX11_peak.data.toList.drop 72 = dktX11_peak_3 := dk_seg dksX11_peak_2 24 rfl rfl
theorem dX11_peak_0 : decode cX11_peak 0 = .ok (.aload_n 0, 1) := dk_42 (dk_at dksX11_peak_0 0 rfl rfl)
theorem dX11_peak_1 : decode cX11_peak 1 = .ok (.iload_n 1, 1) := dk_27 (dk_at dksX11_peak_0 1 rfl rfl)
theorem dX11_peak_2 : decode cX11_peak 2 = .ok (.invokevirtual 236, 3) := dk_182 0 236 (dk_at dksX11_peak_0 2 rfl rfl)
theorem dX11_peak_5 : decode cX11_peak 5 = .ok (.ifCond .eq 11, 3) := dk_153 0 11 (dk_at dksX11_peak_0 5 rfl rfl)
theorem dX11_peak_8 : decode cX11_peak 8 = .ok (.aload_n 0, 1) := dk_42 (dk_at dksX11_peak_0 8 rfl rfl)
theorem dX11_peak_9 : decode cX11_peak 9 = .ok (.iload_n 2, 1) := dk_28 (dk_at dksX11_peak_0 9 rfl rfl)
theorem dX11_peak_10 : decode cX11_peak 10 = .ok (.invokevirtual 266, 3) := dk_182 1 10 (dk_at dksX11_peak_0 10 rfl rfl)
theorem dX11_peak_13 : decode cX11_peak 13 = .ok (.ifCond .ne 6, 3) := dk_154 0 6 (dk_at dksX11_peak_0 13 rfl rfl)
theorem dX11_peak_16 : decode cX11_peak 16 = .ok (.bipush (-2), 2) := dk_16 254 (dk_at dksX11_peak_0 16 rfl rfl)
theorem dX11_peak_18 : decode cX11_peak 18 = .ok (.ireturn, 1) := dk_172 (dk_at dksX11_peak_0 18 rfl rfl)
theorem dX11_peak_19 : decode cX11_peak 19 = .ok (.aload_n 0, 1) := dk_42 (dk_at dksX11_peak_0 19 rfl rfl)
theorem dX11_peak_20 : decode cX11_peak 20 = .ok (.iload_n 2, 1) := dk_28 (dk_at dksX11_peak_0 20 rfl rfl)
theorem dX11_peak_21 : decode cX11_peak 21 = .ok (.invokevirtual 258, 3) := dk_182 1 2 (dk_at dksX11_peak_0 21 rfl rfl)
theorem dX11_peak_24 : decode cX11_peak 24 = .ok (.pop, 1) := dk_87 (dk_at dksX11_peak_1 0 rfl rfl)
theorem dX11_peak_25 : decode cX11_peak 25 = .ok (.iconst 0, 1) := dk_3 (dk_at dksX11_peak_1 1 rfl rfl)
theorem dX11_peak_26 : decode cX11_peak 26 = .ok (.istore_n 3, 1) := dk_62 (dk_at dksX11_peak_1 2 rfl rfl)
theorem dX11_peak_27 : decode cX11_peak 27 = .ok (.iconst 1, 1) := dk_4 (dk_at dksX11_peak_1 3 rfl rfl)
theorem dX11_peak_28 : decode cX11_peak 28 = .ok (.istore 4, 2) := dk_54 4 (dk_at dksX11_peak_1 4 rfl rfl)
theorem dX11_peak_30 : decode cX11_peak 30 = .ok (.iload 4, 2) := dk_21 4 (dk_at dksX11_peak_1 6 rfl rfl)
theorem dX11_peak_32 : decode cX11_peak 32 = .ok (.aload_n 0, 1) := dk_42 (dk_at dksX11_peak_1 8 rfl rfl)
theorem dX11_peak_33 : decode cX11_peak 33 = .ok (.getfield 9, 3) := dk_180 0 9 (dk_at dksX11_peak_1 9 rfl rfl)
theorem dX11_peak_36 : decode cX11_peak 36 = .ok (.iconst 0, 1) := dk_3 (dk_at dksX11_peak_1 12 rfl rfl)
theorem dX11_peak_37 : decode cX11_peak 37 = .ok (.iaload, 1) := dk_46 (dk_at dksX11_peak_1 13 rfl rfl)
theorem dX11_peak_38 : decode cX11_peak 38 = .ok (.if_icmp .gt 40, 3) := dk_163 0 40 (dk_at dksX11_peak_1 14 rfl rfl)
theorem dX11_peak_41 : decode cX11_peak 41 = .ok (.iload_n 1, 1) := dk_27 (dk_at dksX11_peak_1 17 rfl rfl)
theorem dX11_peak_42 : decode cX11_peak 42 = .ok (.aload_n 0, 1) := dk_42 (dk_at dksX11_peak_1 18 rfl rfl)
theorem dX11_peak_43 : decode cX11_peak 43 = .ok (.getfield 34, 3) := dk_180 0 34 (dk_at dksX11_peak_1 19 rfl rfl)
theorem dX11_peak_46 : decode cX11_peak 46 = .ok (.iload 4, 2) := dk_21 4 (dk_at dksX11_peak_1 22 rfl rfl)
theorem dX11_peak_48 : decode cX11_peak 48 = .ok (.iaload, 1) := dk_46 (dk_at dksX11_peak_2 0 rfl rfl)
theorem dX11_peak_49 : decode cX11_peak 49 = .ok (.invokestatic 272, 3) := dk_184 1 16 (dk_at dksX11_peak_2 1 rfl rfl)
theorem dX11_peak_52 : decode cX11_peak 52 = .ok (.iload_n 1, 1) := dk_27 (dk_at dksX11_peak_2 4 rfl rfl)
theorem dX11_peak_53 : decode cX11_peak 53 = .ok (.aload_n 0, 1) := dk_42 (dk_at dksX11_peak_2 5 rfl rfl)
theorem dX11_peak_54 : decode cX11_peak 54 = .ok (.getfield 34, 3) := dk_180 0 34 (dk_at dksX11_peak_2 6 rfl rfl)
theorem dX11_peak_57 : decode cX11_peak 57 = .ok (.iload_n 3, 1) := dk_29 (dk_at dksX11_peak_2 9 rfl rfl)
theorem dX11_peak_58 : decode cX11_peak 58 = .ok (.iaload, 1) := dk_46 (dk_at dksX11_peak_2 10 rfl rfl)
theorem dX11_peak_59 : decode cX11_peak 59 = .ok (.invokestatic 272, 3) := dk_184 1 16 (dk_at dksX11_peak_2 11 rfl rfl)
theorem dX11_peak_62 : decode cX11_peak 62 = .ok (.if_icmp .le 8, 3) := dk_164 0 8 (dk_at dksX11_peak_2 14 rfl rfl)
theorem dX11_peak_65 : decode cX11_peak 65 = .ok (.iload 4, 2) := dk_21 4 (dk_at dksX11_peak_2 17 rfl rfl)
theorem dX11_peak_67 : decode cX11_peak 67 = .ok (.goto 4, 3) := dk_167 0 4 (dk_at dksX11_peak_2 19 rfl rfl)
theorem dX11_peak_70 : decode cX11_peak 70 = .ok (.iload_n 3, 1) := dk_29 (dk_at dksX11_peak_2 22 rfl rfl)
theorem dX11_peak_71 : decode cX11_peak 71 = .ok (.istore_n 3, 1) := dk_62 (dk_at dksX11_peak_2 23 rfl rfl)
theorem dX11_peak_72 : decode cX11_peak 72 = .ok (.iinc 4 1, 3) := dk_132 4 1 (dk_at dksX11_peak_3 0 rfl rfl)
theorem dX11_peak_75 : decode cX11_peak 75 = .ok (.goto (-45), 3) := dk_167 255 211 (dk_at dksX11_peak_3 3 rfl rfl)
theorem dX11_peak_78 : decode cX11_peak 78 = .ok (.iload_n 3, 1) := dk_29 (dk_at dksX11_peak_3 6 rfl rfl)
theorem dX11_peak_79 : decode cX11_peak 79 = .ok (.ireturn, 1) := dk_172 (dk_at dksX11_peak_3 7 rfl rfl)
abbrev cX11_goodBy : ByteArray := prog_19_method_48_code
def yX11_goodBy : MethodName := ⟨RX11, "goodBy", "(II)I"⟩
def dkwX11_goodBy_0 : List UInt8 := [26, 154, 0, 7, 27, 167, 0, 5, 27, 116, 172]
abbrev dktX11_goodBy_0 : List UInt8 := dkwX11_goodBy_0 ++ []
theorem dksX11_goodBy_0 : cX11_goodBy.data.toList.drop 0 = dktX11_goodBy_0 := by decide +kernel
theorem dX11_goodBy_0 : decode cX11_goodBy 0 = .ok (.iload_n 0, 1) := dk_26 (dk_at dksX11_goodBy_0 0 rfl rfl)
theorem dX11_goodBy_1 : decode cX11_goodBy 1 = .ok (.ifCond .ne 7, 3) := dk_154 0 7 (dk_at dksX11_goodBy_0 1 rfl rfl)
theorem dX11_goodBy_4 : decode cX11_goodBy 4 = .ok (.iload_n 1, 1) := dk_27 (dk_at dksX11_goodBy_0 4 rfl rfl)
theorem dX11_goodBy_5 : decode cX11_goodBy 5 = .ok (.goto 5, 3) := dk_167 0 5 (dk_at dksX11_goodBy_0 5 rfl rfl)
theorem dX11_goodBy_8 : decode cX11_goodBy 8 = .ok (.iload_n 1, 1) := dk_27 (dk_at dksX11_goodBy_0 8 rfl rfl)
theorem dX11_goodBy_9 : decode cX11_goodBy 9 = .ok (.ineg, 1) := dk_116 (dk_at dksX11_goodBy_0 9 rfl rfl)
theorem dX11_goodBy_10 : decode cX11_goodBy 10 = .ok (.ireturn, 1) := dk_172 (dk_at dksX11_goodBy_0 10 rfl rfl)
abbrev cX11_swings : ByteArray := prog_19_method_57_code
def yX11_swings : MethodName := ⟨RX11, "swings", "(I)I"⟩
def dkwX11_swings_4 : List UInt8 := [21, 5, 62, 132, 4, 1, 167, 255, 182, 28, 172]
abbrev dktX11_swings_4 : List UInt8 := dkwX11_swings_4 ++ []
def dkwX11_swings_3 : List UInt8 := [154, 0, 6, 167, 0, 24, 28, 29, 153, 0, 13, 29, 21, 5, 159, 0, 7, 4, 167, 0, 4, 3, 96, 61]
abbrev dktX11_swings_3 : List UInt8 := dkwX11_swings_3 ++ dktX11_swings_4
def dkwX11_swings_2 : List UInt8 := [167, 0, 18, 42, 180, 0, 34, 21, 4, 46, 156, 0, 7, 2, 167, 0, 4, 3, 54, 5, 21, 5]
abbrev dktX11_swings_2 : List UInt8 := dkwX11_swings_2 ++ dktX11_swings_3
def dkwX11_swings_1 : List UInt8 := [21, 4, 42, 180, 0, 9, 3, 46, 163, 0, 69, 42, 180, 0, 34, 21, 4, 46, 158, 0, 7, 4]
abbrev dktX11_swings_1 : List UInt8 := dkwX11_swings_1 ++ dktX11_swings_2
def dkwX11_swings_0 : List UInt8 := [42, 27, 182, 1, 10, 154, 0, 6, 16, 254, 172, 42, 27, 182, 1, 2, 87, 3, 61, 3, 62, 4, 54, 4]
abbrev dktX11_swings_0 : List UInt8 := dkwX11_swings_0 ++ dktX11_swings_1
theorem dksX11_swings_0 : cX11_swings.data.toList.drop 0 = dktX11_swings_0 := by decide +kernel
theorem dksX11_swings_1 : cX11_swings.data.toList.drop 24 = dktX11_swings_1 := dk_seg dksX11_swings_0 24 rfl rfl
theorem dksX11_swings_2 : cX11_swings.data.toList.drop 46 = dktX11_swings_2 := dk_seg dksX11_swings_1 22 rfl rfl
theorem dksX11_swings_3 : cX11_swings.data.toList.drop 68 = dktX11_swings_3 := dk_seg dksX11_swings_2 22 rfl rfl
theorem dksX11_swings_4 : cX11_swings.data.toList.drop 92 = dktX11_swings_4 := dk_seg dksX11_swings_3 24 rfl rfl
theorem dX11_swings_0 : decode cX11_swings 0 = .ok (.aload_n 0, 1) := dk_42 (dk_at dksX11_swings_0 0 rfl rfl)
theorem dX11_swings_1 : decode cX11_swings 1 = .ok (.iload_n 1, 1) := dk_27 (dk_at dksX11_swings_0 1 rfl rfl)
theorem dX11_swings_2 : decode cX11_swings 2 = .ok (.invokevirtual 266, 3) := dk_182 1 10 (dk_at dksX11_swings_0 2 rfl rfl)
theorem dX11_swings_5 : decode cX11_swings 5 = .ok (.ifCond .ne 6, 3) := dk_154 0 6 (dk_at dksX11_swings_0 5 rfl rfl)
theorem dX11_swings_8 : decode cX11_swings 8 = .ok (.bipush (-2), 2) := dk_16 254 (dk_at dksX11_swings_0 8 rfl rfl)
theorem dX11_swings_10 : decode cX11_swings 10 = .ok (.ireturn, 1) := dk_172 (dk_at dksX11_swings_0 10 rfl rfl)
theorem dX11_swings_11 : decode cX11_swings 11 = .ok (.aload_n 0, 1) := dk_42 (dk_at dksX11_swings_0 11 rfl rfl)
theorem dX11_swings_12 : decode cX11_swings 12 = .ok (.iload_n 1, 1) := dk_27 (dk_at dksX11_swings_0 12 rfl rfl)
theorem dX11_swings_13 : decode cX11_swings 13 = .ok (.invokevirtual 258, 3) := dk_182 1 2 (dk_at dksX11_swings_0 13 rfl rfl)
theorem dX11_swings_16 : decode cX11_swings 16 = .ok (.pop, 1) := dk_87 (dk_at dksX11_swings_0 16 rfl rfl)
theorem dX11_swings_17 : decode cX11_swings 17 = .ok (.iconst 0, 1) := dk_3 (dk_at dksX11_swings_0 17 rfl rfl)
theorem dX11_swings_18 : decode cX11_swings 18 = .ok (.istore_n 2, 1) := dk_61 (dk_at dksX11_swings_0 18 rfl rfl)
theorem dX11_swings_19 : decode cX11_swings 19 = .ok (.iconst 0, 1) := dk_3 (dk_at dksX11_swings_0 19 rfl rfl)
theorem dX11_swings_20 : decode cX11_swings 20 = .ok (.istore_n 3, 1) := dk_62 (dk_at dksX11_swings_0 20 rfl rfl)
theorem dX11_swings_21 : decode cX11_swings 21 = .ok (.iconst 1, 1) := dk_4 (dk_at dksX11_swings_0 21 rfl rfl)
theorem dX11_swings_22 : decode cX11_swings 22 = .ok (.istore 4, 2) := dk_54 4 (dk_at dksX11_swings_0 22 rfl rfl)
theorem dX11_swings_24 : decode cX11_swings 24 = .ok (.iload 4, 2) := dk_21 4 (dk_at dksX11_swings_1 0 rfl rfl)
theorem dX11_swings_26 : decode cX11_swings 26 = .ok (.aload_n 0, 1) := dk_42 (dk_at dksX11_swings_1 2 rfl rfl)
theorem dX11_swings_27 : decode cX11_swings 27 = .ok (.getfield 9, 3) := dk_180 0 9 (dk_at dksX11_swings_1 3 rfl rfl)
theorem dX11_swings_30 : decode cX11_swings 30 = .ok (.iconst 0, 1) := dk_3 (dk_at dksX11_swings_1 6 rfl rfl)
theorem dX11_swings_31 : decode cX11_swings 31 = .ok (.iaload, 1) := dk_46 (dk_at dksX11_swings_1 7 rfl rfl)
theorem dX11_swings_32 : decode cX11_swings 32 = .ok (.if_icmp .gt 69, 3) := dk_163 0 69 (dk_at dksX11_swings_1 8 rfl rfl)
theorem dX11_swings_35 : decode cX11_swings 35 = .ok (.aload_n 0, 1) := dk_42 (dk_at dksX11_swings_1 11 rfl rfl)
theorem dX11_swings_36 : decode cX11_swings 36 = .ok (.getfield 34, 3) := dk_180 0 34 (dk_at dksX11_swings_1 12 rfl rfl)
theorem dX11_swings_39 : decode cX11_swings 39 = .ok (.iload 4, 2) := dk_21 4 (dk_at dksX11_swings_1 15 rfl rfl)
theorem dX11_swings_41 : decode cX11_swings 41 = .ok (.iaload, 1) := dk_46 (dk_at dksX11_swings_1 17 rfl rfl)
theorem dX11_swings_42 : decode cX11_swings 42 = .ok (.ifCond .le 7, 3) := dk_158 0 7 (dk_at dksX11_swings_1 18 rfl rfl)
theorem dX11_swings_45 : decode cX11_swings 45 = .ok (.iconst 1, 1) := dk_4 (dk_at dksX11_swings_1 21 rfl rfl)
theorem dX11_swings_46 : decode cX11_swings 46 = .ok (.goto 18, 3) := dk_167 0 18 (dk_at dksX11_swings_2 0 rfl rfl)
theorem dX11_swings_49 : decode cX11_swings 49 = .ok (.aload_n 0, 1) := dk_42 (dk_at dksX11_swings_2 3 rfl rfl)
theorem dX11_swings_50 : decode cX11_swings 50 = .ok (.getfield 34, 3) := dk_180 0 34 (dk_at dksX11_swings_2 4 rfl rfl)
theorem dX11_swings_53 : decode cX11_swings 53 = .ok (.iload 4, 2) := dk_21 4 (dk_at dksX11_swings_2 7 rfl rfl)
theorem dX11_swings_55 : decode cX11_swings 55 = .ok (.iaload, 1) := dk_46 (dk_at dksX11_swings_2 9 rfl rfl)
theorem dX11_swings_56 : decode cX11_swings 56 = .ok (.ifCond .ge 7, 3) := dk_156 0 7 (dk_at dksX11_swings_2 10 rfl rfl)
theorem dX11_swings_59 : decode cX11_swings 59 = .ok (.iconst (-1), 1) := dk_2 (dk_at dksX11_swings_2 13 rfl rfl)
theorem dX11_swings_60 : decode cX11_swings 60 = .ok (.goto 4, 3) := dk_167 0 4 (dk_at dksX11_swings_2 14 rfl rfl)
theorem dX11_swings_63 : decode cX11_swings 63 = .ok (.iconst 0, 1) := dk_3 (dk_at dksX11_swings_2 17 rfl rfl)
theorem dX11_swings_64 : decode cX11_swings 64 = .ok (.istore 5, 2) := dk_54 5 (dk_at dksX11_swings_2 18 rfl rfl)
theorem dX11_swings_66 : decode cX11_swings 66 = .ok (.iload 5, 2) := dk_21 5 (dk_at dksX11_swings_2 20 rfl rfl)
theorem dX11_swings_68 : decode cX11_swings 68 = .ok (.ifCond .ne 6, 3) := dk_154 0 6 (dk_at dksX11_swings_3 0 rfl rfl)
theorem dX11_swings_71 : decode cX11_swings 71 = .ok (.goto 24, 3) := dk_167 0 24 (dk_at dksX11_swings_3 3 rfl rfl)
theorem dX11_swings_74 : decode cX11_swings 74 = .ok (.iload_n 2, 1) := dk_28 (dk_at dksX11_swings_3 6 rfl rfl)
theorem dX11_swings_75 : decode cX11_swings 75 = .ok (.iload_n 3, 1) := dk_29 (dk_at dksX11_swings_3 7 rfl rfl)
theorem dX11_swings_76 : decode cX11_swings 76 = .ok (.ifCond .eq 13, 3) := dk_153 0 13 (dk_at dksX11_swings_3 8 rfl rfl)
theorem dX11_swings_79 : decode cX11_swings 79 = .ok (.iload_n 3, 1) := dk_29 (dk_at dksX11_swings_3 11 rfl rfl)
theorem dX11_swings_80 : decode cX11_swings 80 = .ok (.iload 5, 2) := dk_21 5 (dk_at dksX11_swings_3 12 rfl rfl)
theorem dX11_swings_82 : decode cX11_swings 82 = .ok (.if_icmp .eq 7, 3) := dk_159 0 7 (dk_at dksX11_swings_3 14 rfl rfl)
theorem dX11_swings_85 : decode cX11_swings 85 = .ok (.iconst 1, 1) := dk_4 (dk_at dksX11_swings_3 17 rfl rfl)
theorem dX11_swings_86 : decode cX11_swings 86 = .ok (.goto 4, 3) := dk_167 0 4 (dk_at dksX11_swings_3 18 rfl rfl)
theorem dX11_swings_89 : decode cX11_swings 89 = .ok (.iconst 0, 1) := dk_3 (dk_at dksX11_swings_3 21 rfl rfl)
theorem dX11_swings_90 : decode cX11_swings 90 = .ok (.iadd, 1) := dk_96 (dk_at dksX11_swings_3 22 rfl rfl)
theorem dX11_swings_91 : decode cX11_swings 91 = .ok (.istore_n 2, 1) := dk_61 (dk_at dksX11_swings_3 23 rfl rfl)
theorem dX11_swings_92 : decode cX11_swings 92 = .ok (.iload 5, 2) := dk_21 5 (dk_at dksX11_swings_4 0 rfl rfl)
theorem dX11_swings_94 : decode cX11_swings 94 = .ok (.istore_n 3, 1) := dk_62 (dk_at dksX11_swings_4 2 rfl rfl)
theorem dX11_swings_95 : decode cX11_swings 95 = .ok (.iinc 4 1, 3) := dk_132 4 1 (dk_at dksX11_swings_4 3 rfl rfl)
theorem dX11_swings_98 : decode cX11_swings 98 = .ok (.goto (-74), 3) := dk_167 255 182 (dk_at dksX11_swings_4 6 rfl rfl)
theorem dX11_swings_101 : decode cX11_swings 101 = .ok (.iload_n 2, 1) := dk_28 (dk_at dksX11_swings_4 9 rfl rfl)
theorem dX11_swings_102 : decode cX11_swings 102 = .ok (.ireturn, 1) := dk_172 (dk_at dksX11_swings_4 10 rfl rfl)
abbrev cX11_since : ByteArray := prog_19_method_58_code
def yX11_since : MethodName := ⟨RX11, "since", "(II)I"⟩
def dkwX11_since_2 : List UInt8 := [132, 3, 1, 167, 255, 226, 2, 172]
abbrev dktX11_since_2 : List UInt8 := dkwX11_since_2 ++ []
def dkwX11_since_1 : List UInt8 := [162, 0, 30, 42, 27, 29, 28, 182, 0, 247, 42, 180, 0, 9, 16, 11, 27, 96, 46, 161, 0, 5, 29, 172]
abbrev dktX11_since_1 : List UInt8 := dkwX11_since_1 ++ dktX11_since_2
def dkwX11_since_0 : List UInt8 := [42, 27, 182, 0, 236, 153, 0, 11, 42, 28, 182, 1, 10, 154, 0, 6, 16, 254, 172, 3, 62, 29, 16, 100]
abbrev dktX11_since_0 : List UInt8 := dkwX11_since_0 ++ dktX11_since_1
theorem dksX11_since_0 : cX11_since.data.toList.drop 0 = dktX11_since_0 := by decide +kernel
theorem dksX11_since_1 : cX11_since.data.toList.drop 24 = dktX11_since_1 := dk_seg dksX11_since_0 24 rfl rfl
theorem dksX11_since_2 : cX11_since.data.toList.drop 48 = dktX11_since_2 := dk_seg dksX11_since_1 24 rfl rfl
theorem dX11_since_0 : decode cX11_since 0 = .ok (.aload_n 0, 1) := dk_42 (dk_at dksX11_since_0 0 rfl rfl)
theorem dX11_since_1 : decode cX11_since 1 = .ok (.iload_n 1, 1) := dk_27 (dk_at dksX11_since_0 1 rfl rfl)
theorem dX11_since_2 : decode cX11_since 2 = .ok (.invokevirtual 236, 3) := dk_182 0 236 (dk_at dksX11_since_0 2 rfl rfl)
theorem dX11_since_5 : decode cX11_since 5 = .ok (.ifCond .eq 11, 3) := dk_153 0 11 (dk_at dksX11_since_0 5 rfl rfl)
theorem dX11_since_8 : decode cX11_since 8 = .ok (.aload_n 0, 1) := dk_42 (dk_at dksX11_since_0 8 rfl rfl)
theorem dX11_since_9 : decode cX11_since 9 = .ok (.iload_n 2, 1) := dk_28 (dk_at dksX11_since_0 9 rfl rfl)
theorem dX11_since_10 : decode cX11_since 10 = .ok (.invokevirtual 266, 3) := dk_182 1 10 (dk_at dksX11_since_0 10 rfl rfl)
theorem dX11_since_13 : decode cX11_since 13 = .ok (.ifCond .ne 6, 3) := dk_154 0 6 (dk_at dksX11_since_0 13 rfl rfl)
theorem dX11_since_16 : decode cX11_since 16 = .ok (.bipush (-2), 2) := dk_16 254 (dk_at dksX11_since_0 16 rfl rfl)
theorem dX11_since_18 : decode cX11_since 18 = .ok (.ireturn, 1) := dk_172 (dk_at dksX11_since_0 18 rfl rfl)
theorem dX11_since_19 : decode cX11_since 19 = .ok (.iconst 0, 1) := dk_3 (dk_at dksX11_since_0 19 rfl rfl)
theorem dX11_since_20 : decode cX11_since 20 = .ok (.istore_n 3, 1) := dk_62 (dk_at dksX11_since_0 20 rfl rfl)
theorem dX11_since_21 : decode cX11_since 21 = .ok (.iload_n 3, 1) := dk_29 (dk_at dksX11_since_0 21 rfl rfl)
theorem dX11_since_22 : decode cX11_since 22 = .ok (.bipush 100, 2) := dk_16 100 (dk_at dksX11_since_0 22 rfl rfl)
theorem dX11_since_24 : decode cX11_since 24 = .ok (.if_icmp .ge 30, 3) := dk_162 0 30 (dk_at dksX11_since_1 0 rfl rfl)
theorem dX11_since_27 : decode cX11_since 27 = .ok (.aload_n 0, 1) := dk_42 (dk_at dksX11_since_1 3 rfl rfl)
theorem dX11_since_28 : decode cX11_since 28 = .ok (.iload_n 1, 1) := dk_27 (dk_at dksX11_since_1 4 rfl rfl)
theorem dX11_since_29 : decode cX11_since 29 = .ok (.iload_n 3, 1) := dk_29 (dk_at dksX11_since_1 5 rfl rfl)
theorem dX11_since_30 : decode cX11_since 30 = .ok (.iload_n 2, 1) := dk_28 (dk_at dksX11_since_1 6 rfl rfl)
theorem dX11_since_31 : decode cX11_since 31 = .ok (.invokevirtual 247, 3) := dk_182 0 247 (dk_at dksX11_since_1 7 rfl rfl)
theorem dX11_since_34 : decode cX11_since 34 = .ok (.aload_n 0, 1) := dk_42 (dk_at dksX11_since_1 10 rfl rfl)
theorem dX11_since_35 : decode cX11_since 35 = .ok (.getfield 9, 3) := dk_180 0 9 (dk_at dksX11_since_1 11 rfl rfl)
theorem dX11_since_38 : decode cX11_since 38 = .ok (.bipush 11, 2) := dk_16 11 (dk_at dksX11_since_1 14 rfl rfl)
theorem dX11_since_40 : decode cX11_since 40 = .ok (.iload_n 1, 1) := dk_27 (dk_at dksX11_since_1 16 rfl rfl)
theorem dX11_since_41 : decode cX11_since 41 = .ok (.iadd, 1) := dk_96 (dk_at dksX11_since_1 17 rfl rfl)
theorem dX11_since_42 : decode cX11_since 42 = .ok (.iaload, 1) := dk_46 (dk_at dksX11_since_1 18 rfl rfl)
theorem dX11_since_43 : decode cX11_since 43 = .ok (.if_icmp .lt 5, 3) := dk_161 0 5 (dk_at dksX11_since_1 19 rfl rfl)
theorem dX11_since_46 : decode cX11_since 46 = .ok (.iload_n 3, 1) := dk_29 (dk_at dksX11_since_1 22 rfl rfl)
theorem dX11_since_47 : decode cX11_since 47 = .ok (.ireturn, 1) := dk_172 (dk_at dksX11_since_1 23 rfl rfl)
theorem dX11_since_48 : decode cX11_since 48 = .ok (.iinc 3 1, 3) := dk_132 3 1 (dk_at dksX11_since_2 0 rfl rfl)
theorem dX11_since_51 : decode cX11_since 51 = .ok (.goto (-30), 3) := dk_167 255 226 (dk_at dksX11_since_2 3 rfl rfl)
theorem dX11_since_54 : decode cX11_since 54 = .ok (.iconst (-1), 1) := dk_2 (dk_at dksX11_since_2 6 rfl rfl)
theorem dX11_since_55 : decode cX11_since 55 = .ok (.ireturn, 1) := dk_172 (dk_at dksX11_since_2 7 rfl rfl)
abbrev cX11_comes : ByteArray := prog_19_method_59_code
def yX11_comes : MethodName := ⟨RX11, "comes", "(II)I"⟩
def dkwX11_comes_2 : List UInt8 := [21, 4, 120, 167, 0, 4, 3, 128, 62, 132, 4, 1, 167, 255, 220, 29, 172]
abbrev dktX11_comes_2 : List UInt8 := dkwX11_comes_2 ++ []
def dkwX11_comes_1 : List UInt8 := [21, 4, 42, 180, 0, 9, 7, 46, 162, 0, 31, 29, 42, 21, 4, 28, 182, 0, 244, 27, 160, 0, 10, 4]
abbrev dktX11_comes_1 : List UInt8 := dkwX11_comes_1 ++ dktX11_comes_2
def dkwX11_comes_0 : List UInt8 := [27, 184, 1, 7, 153, 0, 11, 42, 28, 182, 1, 10, 154, 0, 6, 16, 254, 172, 3, 62, 3, 54, 4]
abbrev dktX11_comes_0 : List UInt8 := dkwX11_comes_0 ++ dktX11_comes_1
theorem dksX11_comes_0 : cX11_comes.data.toList.drop 0 = dktX11_comes_0 := by decide +kernel
theorem dksX11_comes_1 : cX11_comes.data.toList.drop 23 = dktX11_comes_1 := dk_seg dksX11_comes_0 23 rfl rfl
theorem dksX11_comes_2 : cX11_comes.data.toList.drop 47 = dktX11_comes_2 := dk_seg dksX11_comes_1 24 rfl rfl
theorem dX11_comes_0 : decode cX11_comes 0 = .ok (.iload_n 1, 1) := dk_27 (dk_at dksX11_comes_0 0 rfl rfl)
theorem dX11_comes_1 : decode cX11_comes 1 = .ok (.invokestatic 263, 3) := dk_184 1 7 (dk_at dksX11_comes_0 1 rfl rfl)
theorem dX11_comes_4 : decode cX11_comes 4 = .ok (.ifCond .eq 11, 3) := dk_153 0 11 (dk_at dksX11_comes_0 4 rfl rfl)
theorem dX11_comes_7 : decode cX11_comes 7 = .ok (.aload_n 0, 1) := dk_42 (dk_at dksX11_comes_0 7 rfl rfl)
theorem dX11_comes_8 : decode cX11_comes 8 = .ok (.iload_n 2, 1) := dk_28 (dk_at dksX11_comes_0 8 rfl rfl)
theorem dX11_comes_9 : decode cX11_comes 9 = .ok (.invokevirtual 266, 3) := dk_182 1 10 (dk_at dksX11_comes_0 9 rfl rfl)
theorem dX11_comes_12 : decode cX11_comes 12 = .ok (.ifCond .ne 6, 3) := dk_154 0 6 (dk_at dksX11_comes_0 12 rfl rfl)
theorem dX11_comes_15 : decode cX11_comes 15 = .ok (.bipush (-2), 2) := dk_16 254 (dk_at dksX11_comes_0 15 rfl rfl)
theorem dX11_comes_17 : decode cX11_comes 17 = .ok (.ireturn, 1) := dk_172 (dk_at dksX11_comes_0 17 rfl rfl)
theorem dX11_comes_18 : decode cX11_comes 18 = .ok (.iconst 0, 1) := dk_3 (dk_at dksX11_comes_0 18 rfl rfl)
theorem dX11_comes_19 : decode cX11_comes 19 = .ok (.istore_n 3, 1) := dk_62 (dk_at dksX11_comes_0 19 rfl rfl)
theorem dX11_comes_20 : decode cX11_comes 20 = .ok (.iconst 0, 1) := dk_3 (dk_at dksX11_comes_0 20 rfl rfl)
theorem dX11_comes_21 : decode cX11_comes 21 = .ok (.istore 4, 2) := dk_54 4 (dk_at dksX11_comes_0 21 rfl rfl)
theorem dX11_comes_23 : decode cX11_comes 23 = .ok (.iload 4, 2) := dk_21 4 (dk_at dksX11_comes_1 0 rfl rfl)
theorem dX11_comes_25 : decode cX11_comes 25 = .ok (.aload_n 0, 1) := dk_42 (dk_at dksX11_comes_1 2 rfl rfl)
theorem dX11_comes_26 : decode cX11_comes 26 = .ok (.getfield 9, 3) := dk_180 0 9 (dk_at dksX11_comes_1 3 rfl rfl)
theorem dX11_comes_29 : decode cX11_comes 29 = .ok (.iconst 4, 1) := dk_7 (dk_at dksX11_comes_1 6 rfl rfl)
theorem dX11_comes_30 : decode cX11_comes 30 = .ok (.iaload, 1) := dk_46 (dk_at dksX11_comes_1 7 rfl rfl)
theorem dX11_comes_31 : decode cX11_comes 31 = .ok (.if_icmp .ge 31, 3) := dk_162 0 31 (dk_at dksX11_comes_1 8 rfl rfl)
theorem dX11_comes_34 : decode cX11_comes 34 = .ok (.iload_n 3, 1) := dk_29 (dk_at dksX11_comes_1 11 rfl rfl)
theorem dX11_comes_35 : decode cX11_comes 35 = .ok (.aload_n 0, 1) := dk_42 (dk_at dksX11_comes_1 12 rfl rfl)
theorem dX11_comes_36 : decode cX11_comes 36 = .ok (.iload 4, 2) := dk_21 4 (dk_at dksX11_comes_1 13 rfl rfl)
theorem dX11_comes_38 : decode cX11_comes 38 = .ok (.iload_n 2, 1) := dk_28 (dk_at dksX11_comes_1 15 rfl rfl)
theorem dX11_comes_39 : decode cX11_comes 39 = .ok (.invokevirtual 244, 3) := dk_182 0 244 (dk_at dksX11_comes_1 16 rfl rfl)
theorem dX11_comes_42 : decode cX11_comes 42 = .ok (.iload_n 1, 1) := dk_27 (dk_at dksX11_comes_1 19 rfl rfl)
theorem dX11_comes_43 : decode cX11_comes 43 = .ok (.if_icmp .ne 10, 3) := dk_160 0 10 (dk_at dksX11_comes_1 20 rfl rfl)
theorem dX11_comes_46 : decode cX11_comes 46 = .ok (.iconst 1, 1) := dk_4 (dk_at dksX11_comes_1 23 rfl rfl)
theorem dX11_comes_47 : decode cX11_comes 47 = .ok (.iload 4, 2) := dk_21 4 (dk_at dksX11_comes_2 0 rfl rfl)
theorem dX11_comes_49 : decode cX11_comes 49 = .ok (.ishl, 1) := dk_120 (dk_at dksX11_comes_2 2 rfl rfl)
theorem dX11_comes_50 : decode cX11_comes 50 = .ok (.goto 4, 3) := dk_167 0 4 (dk_at dksX11_comes_2 3 rfl rfl)
theorem dX11_comes_53 : decode cX11_comes 53 = .ok (.iconst 0, 1) := dk_3 (dk_at dksX11_comes_2 6 rfl rfl)
theorem dX11_comes_54 : decode cX11_comes 54 = .ok (.ior, 1) := dk_128 (dk_at dksX11_comes_2 7 rfl rfl)
theorem dX11_comes_55 : decode cX11_comes 55 = .ok (.istore_n 3, 1) := dk_62 (dk_at dksX11_comes_2 8 rfl rfl)
theorem dX11_comes_56 : decode cX11_comes 56 = .ok (.iinc 4 1, 3) := dk_132 4 1 (dk_at dksX11_comes_2 9 rfl rfl)
theorem dX11_comes_59 : decode cX11_comes 59 = .ok (.goto (-36), 3) := dk_167 255 220 (dk_at dksX11_comes_2 12 rfl rfl)
theorem dX11_comes_62 : decode cX11_comes 62 = .ok (.iload_n 3, 1) := dk_29 (dk_at dksX11_comes_2 15 rfl rfl)
theorem dX11_comes_63 : decode cX11_comes 63 = .ok (.ireturn, 1) := dk_172 (dk_at dksX11_comes_2 16 rfl rfl)
abbrev cX11_even : ByteArray := prog_19_method_60_code
def yX11_even : MethodName := ⟨RX11, "even", "(I)J"⟩
def dkwX11_even_2 : List UInt8 := [10, 21, 4, 121, 167, 0, 4, 9, 129, 65, 132, 4, 1, 167, 255, 212, 32, 173]
abbrev dktX11_even_2 : List UInt8 := dkwX11_even_2 ++ []
def dkwX11_even_1 : List UInt8 := [46, 162, 0, 39, 32, 42, 3, 21, 4, 27, 182, 0, 247, 42, 4, 21, 4, 27, 182, 0, 247, 160, 0, 10]
abbrev dktX11_even_1 : List UInt8 := dkwX11_even_1 ++ dktX11_even_2
def dkwX11_even_0 : List UInt8 := [42, 27, 182, 1, 10, 154, 0, 7, 20, 1, 19, 173, 9, 65, 3, 54, 4, 21, 4, 42, 180, 0, 9, 3]
abbrev dktX11_even_0 : List UInt8 := dkwX11_even_0 ++ dktX11_even_1
theorem dksX11_even_0 : cX11_even.data.toList.drop 0 = dktX11_even_0 := by decide +kernel
theorem dksX11_even_1 : cX11_even.data.toList.drop 24 = dktX11_even_1 := dk_seg dksX11_even_0 24 rfl rfl
theorem dksX11_even_2 : cX11_even.data.toList.drop 48 = dktX11_even_2 := dk_seg dksX11_even_1 24 rfl rfl
theorem dX11_even_0 : decode cX11_even 0 = .ok (.aload_n 0, 1) := dk_42 (dk_at dksX11_even_0 0 rfl rfl)
theorem dX11_even_1 : decode cX11_even 1 = .ok (.iload_n 1, 1) := dk_27 (dk_at dksX11_even_0 1 rfl rfl)
theorem dX11_even_2 : decode cX11_even 2 = .ok (.invokevirtual 266, 3) := dk_182 1 10 (dk_at dksX11_even_0 2 rfl rfl)
theorem dX11_even_5 : decode cX11_even 5 = .ok (.ifCond .ne 7, 3) := dk_154 0 7 (dk_at dksX11_even_0 5 rfl rfl)
theorem dX11_even_8 : decode cX11_even 8 = .ok (.ldc2_w 275, 3) := dk_20 1 19 (dk_at dksX11_even_0 8 rfl rfl)
theorem dX11_even_11 : decode cX11_even 11 = .ok (.lreturn, 1) := dk_173 (dk_at dksX11_even_0 11 rfl rfl)
theorem dX11_even_12 : decode cX11_even 12 = .ok (.lconst 0, 1) := dk_9 (dk_at dksX11_even_0 12 rfl rfl)
theorem dX11_even_13 : decode cX11_even 13 = .ok (.lstore_n 2, 1) := dk_65 (dk_at dksX11_even_0 13 rfl rfl)
theorem dX11_even_14 : decode cX11_even 14 = .ok (.iconst 0, 1) := dk_3 (dk_at dksX11_even_0 14 rfl rfl)
theorem dX11_even_15 : decode cX11_even 15 = .ok (.istore 4, 2) := dk_54 4 (dk_at dksX11_even_0 15 rfl rfl)
theorem dX11_even_17 : decode cX11_even 17 = .ok (.iload 4, 2) := dk_21 4 (dk_at dksX11_even_0 17 rfl rfl)
theorem dX11_even_19 : decode cX11_even 19 = .ok (.aload_n 0, 1) := dk_42 (dk_at dksX11_even_0 19 rfl rfl)
theorem dX11_even_20 : decode cX11_even 20 = .ok (.getfield 9, 3) := dk_180 0 9 (dk_at dksX11_even_0 20 rfl rfl)
theorem dX11_even_23 : decode cX11_even 23 = .ok (.iconst 0, 1) := dk_3 (dk_at dksX11_even_0 23 rfl rfl)
theorem dX11_even_24 : decode cX11_even 24 = .ok (.iaload, 1) := dk_46 (dk_at dksX11_even_1 0 rfl rfl)
theorem dX11_even_25 : decode cX11_even 25 = .ok (.if_icmp .ge 39, 3) := dk_162 0 39 (dk_at dksX11_even_1 1 rfl rfl)
theorem dX11_even_28 : decode cX11_even 28 = .ok (.lload_n 2, 1) := dk_32 (dk_at dksX11_even_1 4 rfl rfl)
theorem dX11_even_29 : decode cX11_even 29 = .ok (.aload_n 0, 1) := dk_42 (dk_at dksX11_even_1 5 rfl rfl)
theorem dX11_even_30 : decode cX11_even 30 = .ok (.iconst 0, 1) := dk_3 (dk_at dksX11_even_1 6 rfl rfl)
theorem dX11_even_31 : decode cX11_even 31 = .ok (.iload 4, 2) := dk_21 4 (dk_at dksX11_even_1 7 rfl rfl)
theorem dX11_even_33 : decode cX11_even 33 = .ok (.iload_n 1, 1) := dk_27 (dk_at dksX11_even_1 9 rfl rfl)
theorem dX11_even_34 : decode cX11_even 34 = .ok (.invokevirtual 247, 3) := dk_182 0 247 (dk_at dksX11_even_1 10 rfl rfl)
theorem dX11_even_37 : decode cX11_even 37 = .ok (.aload_n 0, 1) := dk_42 (dk_at dksX11_even_1 13 rfl rfl)
theorem dX11_even_38 : decode cX11_even 38 = .ok (.iconst 1, 1) := dk_4 (dk_at dksX11_even_1 14 rfl rfl)
theorem dX11_even_39 : decode cX11_even 39 = .ok (.iload 4, 2) := dk_21 4 (dk_at dksX11_even_1 15 rfl rfl)
theorem dX11_even_41 : decode cX11_even 41 = .ok (.iload_n 1, 1) := dk_27 (dk_at dksX11_even_1 17 rfl rfl)
theorem dX11_even_42 : decode cX11_even 42 = .ok (.invokevirtual 247, 3) := dk_182 0 247 (dk_at dksX11_even_1 18 rfl rfl)
theorem dX11_even_45 : decode cX11_even 45 = .ok (.if_icmp .ne 10, 3) := dk_160 0 10 (dk_at dksX11_even_1 21 rfl rfl)
theorem dX11_even_48 : decode cX11_even 48 = .ok (.lconst 1, 1) := dk_10 (dk_at dksX11_even_2 0 rfl rfl)
theorem dX11_even_49 : decode cX11_even 49 = .ok (.iload 4, 2) := dk_21 4 (dk_at dksX11_even_2 1 rfl rfl)
theorem dX11_even_51 : decode cX11_even 51 = .ok (.lshl, 1) := dk_121 (dk_at dksX11_even_2 3 rfl rfl)
theorem dX11_even_52 : decode cX11_even 52 = .ok (.goto 4, 3) := dk_167 0 4 (dk_at dksX11_even_2 4 rfl rfl)
theorem dX11_even_55 : decode cX11_even 55 = .ok (.lconst 0, 1) := dk_9 (dk_at dksX11_even_2 7 rfl rfl)
theorem dX11_even_56 : decode cX11_even 56 = .ok (.lor, 1) := dk_129 (dk_at dksX11_even_2 8 rfl rfl)
theorem dX11_even_57 : decode cX11_even 57 = .ok (.lstore_n 2, 1) := dk_65 (dk_at dksX11_even_2 9 rfl rfl)
theorem dX11_even_58 : decode cX11_even 58 = .ok (.iinc 4 1, 3) := dk_132 4 1 (dk_at dksX11_even_2 10 rfl rfl)
theorem dX11_even_61 : decode cX11_even 61 = .ok (.goto (-44), 3) := dk_167 255 212 (dk_at dksX11_even_2 13 rfl rfl)
theorem dX11_even_64 : decode cX11_even 64 = .ok (.lload_n 2, 1) := dk_32 (dk_at dksX11_even_2 16 rfl rfl)
theorem dX11_even_65 : decode cX11_even 65 = .ok (.lreturn, 1) := dk_173 (dk_at dksX11_even_2 17 rfl rfl)
abbrev cX11_worst : ByteArray := prog_19_method_62_code
def yX11_worst : MethodName := ⟨RX11, "worst", "(I)I"⟩
def dkwX11_worst_0 : List UInt8 := [42, 27, 182, 0, 236, 153, 0, 11, 42, 27, 182, 1, 28, 167, 0, 6, 17, 252, 24, 172]
abbrev dktX11_worst_0 : List UInt8 := dkwX11_worst_0 ++ []
theorem dksX11_worst_0 : cX11_worst.data.toList.drop 0 = dktX11_worst_0 := by decide +kernel
theorem dX11_worst_0 : decode cX11_worst 0 = .ok (.aload_n 0, 1) := dk_42 (dk_at dksX11_worst_0 0 rfl rfl)
theorem dX11_worst_1 : decode cX11_worst 1 = .ok (.iload_n 1, 1) := dk_27 (dk_at dksX11_worst_0 1 rfl rfl)
theorem dX11_worst_2 : decode cX11_worst 2 = .ok (.invokevirtual 236, 3) := dk_182 0 236 (dk_at dksX11_worst_0 2 rfl rfl)
theorem dX11_worst_5 : decode cX11_worst 5 = .ok (.ifCond .eq 11, 3) := dk_153 0 11 (dk_at dksX11_worst_0 5 rfl rfl)
theorem dX11_worst_8 : decode cX11_worst 8 = .ok (.aload_n 0, 1) := dk_42 (dk_at dksX11_worst_0 8 rfl rfl)
theorem dX11_worst_9 : decode cX11_worst 9 = .ok (.iload_n 1, 1) := dk_27 (dk_at dksX11_worst_0 9 rfl rfl)
theorem dX11_worst_10 : decode cX11_worst 10 = .ok (.invokevirtual 284, 3) := dk_182 1 28 (dk_at dksX11_worst_0 10 rfl rfl)
theorem dX11_worst_13 : decode cX11_worst 13 = .ok (.goto 6, 3) := dk_167 0 6 (dk_at dksX11_worst_0 13 rfl rfl)
theorem dX11_worst_16 : decode cX11_worst 16 = .ok (.sipush (-1000), 3) := dk_17 252 24 (dk_at dksX11_worst_0 16 rfl rfl)
theorem dX11_worst_19 : decode cX11_worst 19 = .ok (.ireturn, 1) := dk_172 (dk_at dksX11_worst_0 19 rfl rfl)
abbrev cX11_worstOf : ByteArray := prog_19_method_61_code
def yX11_worstOf : MethodName := ⟨RX11, "worstOf", "(I)I"⟩
def dkwX11_worstOf_3 : List UInt8 := [167, 255, 197, 28, 172]
abbrev dktX11_worstOf_3 : List UInt8 := dkwX11_worstOf_3 ++ []
def dkwX11_worstOf_2 : List UInt8 := [42, 180, 1, 21, 184, 1, 25, 161, 0, 6, 167, 0, 11, 21, 4, 61, 42, 29, 181, 1, 21, 132, 3, 1]
abbrev dktX11_worstOf_2 : List UInt8 := dkwX11_worstOf_2 ++ dktX11_worstOf_3
def dkwX11_worstOf_1 : List UInt8 := [182, 1, 2, 184, 1, 16, 54, 4, 21, 4, 28, 163, 0, 34, 21, 4, 28, 160, 0, 20, 29, 184, 1, 25]
abbrev dktX11_worstOf_1 : List UInt8 := dkwX11_worstOf_1 ++ dktX11_worstOf_2
def dkwX11_worstOf_0 : List UInt8 := [42, 3, 181, 1, 21, 19, 1, 24, 61, 3, 62, 29, 42, 182, 0, 78, 163, 0, 57, 27, 42, 29]
abbrev dktX11_worstOf_0 : List UInt8 := dkwX11_worstOf_0 ++ dktX11_worstOf_1
theorem dksX11_worstOf_0 : cX11_worstOf.data.toList.drop 0 = dktX11_worstOf_0 := by decide +kernel
theorem dksX11_worstOf_1 : cX11_worstOf.data.toList.drop 22 = dktX11_worstOf_1 := dk_seg dksX11_worstOf_0 22 rfl rfl
theorem dksX11_worstOf_2 : cX11_worstOf.data.toList.drop 46 = dktX11_worstOf_2 := dk_seg dksX11_worstOf_1 24 rfl rfl
theorem dksX11_worstOf_3 : cX11_worstOf.data.toList.drop 70 = dktX11_worstOf_3 := dk_seg dksX11_worstOf_2 24 rfl rfl
theorem dX11_worstOf_0 : decode cX11_worstOf 0 = .ok (.aload_n 0, 1) := dk_42 (dk_at dksX11_worstOf_0 0 rfl rfl)
theorem dX11_worstOf_1 : decode cX11_worstOf 1 = .ok (.iconst 0, 1) := dk_3 (dk_at dksX11_worstOf_0 1 rfl rfl)
theorem dX11_worstOf_2 : decode cX11_worstOf 2 = .ok (.putfield 277, 3) := dk_181 1 21 (dk_at dksX11_worstOf_0 2 rfl rfl)
theorem dX11_worstOf_5 : decode cX11_worstOf 5 = .ok (.ldc_w 280, 3) := dk_19 1 24 (dk_at dksX11_worstOf_0 5 rfl rfl)
theorem dX11_worstOf_8 : decode cX11_worstOf 8 = .ok (.istore_n 2, 1) := dk_61 (dk_at dksX11_worstOf_0 8 rfl rfl)
theorem dX11_worstOf_9 : decode cX11_worstOf 9 = .ok (.iconst 0, 1) := dk_3 (dk_at dksX11_worstOf_0 9 rfl rfl)
theorem dX11_worstOf_10 : decode cX11_worstOf 10 = .ok (.istore_n 3, 1) := dk_62 (dk_at dksX11_worstOf_0 10 rfl rfl)
theorem dX11_worstOf_11 : decode cX11_worstOf 11 = .ok (.iload_n 3, 1) := dk_29 (dk_at dksX11_worstOf_0 11 rfl rfl)
theorem dX11_worstOf_12 : decode cX11_worstOf 12 = .ok (.aload_n 0, 1) := dk_42 (dk_at dksX11_worstOf_0 12 rfl rfl)
theorem dX11_worstOf_13 : decode cX11_worstOf 13 = .ok (.invokevirtual 78, 3) := dk_182 0 78 (dk_at dksX11_worstOf_0 13 rfl rfl)
theorem dX11_worstOf_16 : decode cX11_worstOf 16 = .ok (.if_icmp .gt 57, 3) := dk_163 0 57 (dk_at dksX11_worstOf_0 16 rfl rfl)
theorem dX11_worstOf_19 : decode cX11_worstOf 19 = .ok (.iload_n 1, 1) := dk_27 (dk_at dksX11_worstOf_0 19 rfl rfl)
theorem dX11_worstOf_20 : decode cX11_worstOf 20 = .ok (.aload_n 0, 1) := dk_42 (dk_at dksX11_worstOf_0 20 rfl rfl)
theorem dX11_worstOf_21 : decode cX11_worstOf 21 = .ok (.iload_n 3, 1) := dk_29 (dk_at dksX11_worstOf_0 21 rfl rfl)
theorem dX11_worstOf_22 : decode cX11_worstOf 22 = .ok (.invokevirtual 258, 3) := dk_182 1 2 (dk_at dksX11_worstOf_1 0 rfl rfl)
theorem dX11_worstOf_25 : decode cX11_worstOf 25 = .ok (.invokestatic 272, 3) := dk_184 1 16 (dk_at dksX11_worstOf_1 3 rfl rfl)
theorem dX11_worstOf_28 : decode cX11_worstOf 28 = .ok (.istore 4, 2) := dk_54 4 (dk_at dksX11_worstOf_1 6 rfl rfl)
theorem dX11_worstOf_30 : decode cX11_worstOf 30 = .ok (.iload 4, 2) := dk_21 4 (dk_at dksX11_worstOf_1 8 rfl rfl)
theorem dX11_worstOf_32 : decode cX11_worstOf 32 = .ok (.iload_n 2, 1) := dk_28 (dk_at dksX11_worstOf_1 10 rfl rfl)
theorem dX11_worstOf_33 : decode cX11_worstOf 33 = .ok (.if_icmp .gt 34, 3) := dk_163 0 34 (dk_at dksX11_worstOf_1 11 rfl rfl)
theorem dX11_worstOf_36 : decode cX11_worstOf 36 = .ok (.iload 4, 2) := dk_21 4 (dk_at dksX11_worstOf_1 14 rfl rfl)
theorem dX11_worstOf_38 : decode cX11_worstOf 38 = .ok (.iload_n 2, 1) := dk_28 (dk_at dksX11_worstOf_1 16 rfl rfl)
theorem dX11_worstOf_39 : decode cX11_worstOf 39 = .ok (.if_icmp .ne 20, 3) := dk_160 0 20 (dk_at dksX11_worstOf_1 17 rfl rfl)
theorem dX11_worstOf_42 : decode cX11_worstOf 42 = .ok (.iload_n 3, 1) := dk_29 (dk_at dksX11_worstOf_1 20 rfl rfl)
theorem dX11_worstOf_43 : decode cX11_worstOf 43 = .ok (.invokestatic 281, 3) := dk_184 1 25 (dk_at dksX11_worstOf_1 21 rfl rfl)
theorem dX11_worstOf_46 : decode cX11_worstOf 46 = .ok (.aload_n 0, 1) := dk_42 (dk_at dksX11_worstOf_2 0 rfl rfl)
theorem dX11_worstOf_47 : decode cX11_worstOf 47 = .ok (.getfield 277, 3) := dk_180 1 21 (dk_at dksX11_worstOf_2 1 rfl rfl)
theorem dX11_worstOf_50 : decode cX11_worstOf 50 = .ok (.invokestatic 281, 3) := dk_184 1 25 (dk_at dksX11_worstOf_2 4 rfl rfl)
theorem dX11_worstOf_53 : decode cX11_worstOf 53 = .ok (.if_icmp .lt 6, 3) := dk_161 0 6 (dk_at dksX11_worstOf_2 7 rfl rfl)
theorem dX11_worstOf_56 : decode cX11_worstOf 56 = .ok (.goto 11, 3) := dk_167 0 11 (dk_at dksX11_worstOf_2 10 rfl rfl)
theorem dX11_worstOf_59 : decode cX11_worstOf 59 = .ok (.iload 4, 2) := dk_21 4 (dk_at dksX11_worstOf_2 13 rfl rfl)
theorem dX11_worstOf_61 : decode cX11_worstOf 61 = .ok (.istore_n 2, 1) := dk_61 (dk_at dksX11_worstOf_2 15 rfl rfl)
theorem dX11_worstOf_62 : decode cX11_worstOf 62 = .ok (.aload_n 0, 1) := dk_42 (dk_at dksX11_worstOf_2 16 rfl rfl)
theorem dX11_worstOf_63 : decode cX11_worstOf 63 = .ok (.iload_n 3, 1) := dk_29 (dk_at dksX11_worstOf_2 17 rfl rfl)
theorem dX11_worstOf_64 : decode cX11_worstOf 64 = .ok (.putfield 277, 3) := dk_181 1 21 (dk_at dksX11_worstOf_2 18 rfl rfl)
theorem dX11_worstOf_67 : decode cX11_worstOf 67 = .ok (.iinc 3 1, 3) := dk_132 3 1 (dk_at dksX11_worstOf_2 21 rfl rfl)
theorem dX11_worstOf_70 : decode cX11_worstOf 70 = .ok (.goto (-59), 3) := dk_167 255 197 (dk_at dksX11_worstOf_3 0 rfl rfl)
theorem dX11_worstOf_73 : decode cX11_worstOf 73 = .ok (.iload_n 2, 1) := dk_28 (dk_at dksX11_worstOf_3 3 rfl rfl)
theorem dX11_worstOf_74 : decode cX11_worstOf 74 = .ok (.ireturn, 1) := dk_172 (dk_at dksX11_worstOf_3 4 rfl rfl)
abbrev cX11_bits : ByteArray := prog_19_method_4_code
def yX11_bits : MethodName := ⟨RX11, "bits", "(I)I"⟩
def dkwX11_bits_1 : List UInt8 := [27, 172]
abbrev dktX11_bits_1 : List UInt8 := dkwX11_bits_1 ++ []
def dkwX11_bits_0 : List UInt8 := [3, 60, 3, 61, 28, 16, 12, 162, 0, 17, 27, 26, 28, 122, 4, 126, 96, 60, 132, 2, 1, 167, 255, 239]
abbrev dktX11_bits_0 : List UInt8 := dkwX11_bits_0 ++ dktX11_bits_1
theorem dksX11_bits_0 : cX11_bits.data.toList.drop 0 = dktX11_bits_0 := by decide +kernel
theorem dksX11_bits_1 : cX11_bits.data.toList.drop 24 = dktX11_bits_1 := dk_seg dksX11_bits_0 24 rfl rfl
theorem dX11_bits_0 : decode cX11_bits 0 = .ok (.iconst 0, 1) := dk_3 (dk_at dksX11_bits_0 0 rfl rfl)
theorem dX11_bits_1 : decode cX11_bits 1 = .ok (.istore_n 1, 1) := dk_60 (dk_at dksX11_bits_0 1 rfl rfl)
theorem dX11_bits_2 : decode cX11_bits 2 = .ok (.iconst 0, 1) := dk_3 (dk_at dksX11_bits_0 2 rfl rfl)
theorem dX11_bits_3 : decode cX11_bits 3 = .ok (.istore_n 2, 1) := dk_61 (dk_at dksX11_bits_0 3 rfl rfl)
theorem dX11_bits_4 : decode cX11_bits 4 = .ok (.iload_n 2, 1) := dk_28 (dk_at dksX11_bits_0 4 rfl rfl)
theorem dX11_bits_5 : decode cX11_bits 5 = .ok (.bipush 12, 2) := dk_16 12 (dk_at dksX11_bits_0 5 rfl rfl)
theorem dX11_bits_7 : decode cX11_bits 7 = .ok (.if_icmp .ge 17, 3) := dk_162 0 17 (dk_at dksX11_bits_0 7 rfl rfl)
theorem dX11_bits_10 : decode cX11_bits 10 = .ok (.iload_n 1, 1) := dk_27 (dk_at dksX11_bits_0 10 rfl rfl)
theorem dX11_bits_11 : decode cX11_bits 11 = .ok (.iload_n 0, 1) := dk_26 (dk_at dksX11_bits_0 11 rfl rfl)
theorem dX11_bits_12 : decode cX11_bits 12 = .ok (.iload_n 2, 1) := dk_28 (dk_at dksX11_bits_0 12 rfl rfl)
theorem dX11_bits_13 : decode cX11_bits 13 = .ok (.ishr, 1) := dk_122 (dk_at dksX11_bits_0 13 rfl rfl)
theorem dX11_bits_14 : decode cX11_bits 14 = .ok (.iconst 1, 1) := dk_4 (dk_at dksX11_bits_0 14 rfl rfl)
theorem dX11_bits_15 : decode cX11_bits 15 = .ok (.iand, 1) := dk_126 (dk_at dksX11_bits_0 15 rfl rfl)
theorem dX11_bits_16 : decode cX11_bits 16 = .ok (.iadd, 1) := dk_96 (dk_at dksX11_bits_0 16 rfl rfl)
theorem dX11_bits_17 : decode cX11_bits 17 = .ok (.istore_n 1, 1) := dk_60 (dk_at dksX11_bits_0 17 rfl rfl)
theorem dX11_bits_18 : decode cX11_bits 18 = .ok (.iinc 2 1, 3) := dk_132 2 1 (dk_at dksX11_bits_0 18 rfl rfl)
theorem dX11_bits_21 : decode cX11_bits 21 = .ok (.goto (-17), 3) := dk_167 255 239 (dk_at dksX11_bits_0 21 rfl rfl)
theorem dX11_bits_24 : decode cX11_bits 24 = .ok (.iload_n 1, 1) := dk_27 (dk_at dksX11_bits_1 0 rfl rfl)
theorem dX11_bits_25 : decode cX11_bits 25 = .ok (.ireturn, 1) := dk_172 (dk_at dksX11_bits_1 1 rfl rfl)
abbrev cX11_by : ByteArray := prog_19_method_63_code
def yX11_by : MethodName := ⟨RX11, "by", "(I)I"⟩
def dkwX11_by_0 : List UInt8 := [42, 27, 182, 0, 236, 154, 0, 6, 16, 254, 172, 42, 27, 182, 1, 28, 87, 42, 180, 1, 21, 172]
abbrev dktX11_by_0 : List UInt8 := dkwX11_by_0 ++ []
theorem dksX11_by_0 : cX11_by.data.toList.drop 0 = dktX11_by_0 := by decide +kernel
theorem dX11_by_0 : decode cX11_by 0 = .ok (.aload_n 0, 1) := dk_42 (dk_at dksX11_by_0 0 rfl rfl)
theorem dX11_by_1 : decode cX11_by 1 = .ok (.iload_n 1, 1) := dk_27 (dk_at dksX11_by_0 1 rfl rfl)
theorem dX11_by_2 : decode cX11_by 2 = .ok (.invokevirtual 236, 3) := dk_182 0 236 (dk_at dksX11_by_0 2 rfl rfl)
theorem dX11_by_5 : decode cX11_by 5 = .ok (.ifCond .ne 6, 3) := dk_154 0 6 (dk_at dksX11_by_0 5 rfl rfl)
theorem dX11_by_8 : decode cX11_by 8 = .ok (.bipush (-2), 2) := dk_16 254 (dk_at dksX11_by_0 8 rfl rfl)
theorem dX11_by_10 : decode cX11_by 10 = .ok (.ireturn, 1) := dk_172 (dk_at dksX11_by_0 10 rfl rfl)
theorem dX11_by_11 : decode cX11_by 11 = .ok (.aload_n 0, 1) := dk_42 (dk_at dksX11_by_0 11 rfl rfl)
theorem dX11_by_12 : decode cX11_by 12 = .ok (.iload_n 1, 1) := dk_27 (dk_at dksX11_by_0 12 rfl rfl)
theorem dX11_by_13 : decode cX11_by 13 = .ok (.invokevirtual 284, 3) := dk_182 1 28 (dk_at dksX11_by_0 13 rfl rfl)
theorem dX11_by_16 : decode cX11_by 16 = .ok (.pop, 1) := dk_87 (dk_at dksX11_by_0 16 rfl rfl)
theorem dX11_by_17 : decode cX11_by 17 = .ok (.aload_n 0, 1) := dk_42 (dk_at dksX11_by_0 17 rfl rfl)
theorem dX11_by_18 : decode cX11_by 18 = .ok (.getfield 277, 3) := dk_180 1 21 (dk_at dksX11_by_0 18 rfl rfl)
theorem dX11_by_21 : decode cX11_by 21 = .ok (.ireturn, 1) := dk_172 (dk_at dksX11_by_0 21 rfl rfl)
abbrev cX11_ways : ByteArray := prog_19_method_64_code
def yX11_ways : MethodName := ⟨RX11, "ways", "(I)I"⟩
def dkwX11_ways_1 : List UInt8 := [42, 29, 182, 1, 13, 27, 160, 0, 7, 4, 167, 0, 4, 3, 96, 61, 132, 3, 1, 167, 255, 228, 28, 172]
abbrev dktX11_ways_1 : List UInt8 := dkwX11_ways_1 ++ []
def dkwX11_ways_0 : List UInt8 := [42, 27, 182, 0, 236, 154, 0, 6, 16, 254, 172, 3, 61, 3, 62, 29, 42, 182, 0, 78, 163, 0, 26, 28]
abbrev dktX11_ways_0 : List UInt8 := dkwX11_ways_0 ++ dktX11_ways_1
theorem dksX11_ways_0 : cX11_ways.data.toList.drop 0 = dktX11_ways_0 := by decide +kernel
theorem dksX11_ways_1 : cX11_ways.data.toList.drop 24 = dktX11_ways_1 := dk_seg dksX11_ways_0 24 rfl rfl
theorem dX11_ways_0 : decode cX11_ways 0 = .ok (.aload_n 0, 1) := dk_42 (dk_at dksX11_ways_0 0 rfl rfl)
theorem dX11_ways_1 : decode cX11_ways 1 = .ok (.iload_n 1, 1) := dk_27 (dk_at dksX11_ways_0 1 rfl rfl)
theorem dX11_ways_2 : decode cX11_ways 2 = .ok (.invokevirtual 236, 3) := dk_182 0 236 (dk_at dksX11_ways_0 2 rfl rfl)
theorem dX11_ways_5 : decode cX11_ways 5 = .ok (.ifCond .ne 6, 3) := dk_154 0 6 (dk_at dksX11_ways_0 5 rfl rfl)
theorem dX11_ways_8 : decode cX11_ways 8 = .ok (.bipush (-2), 2) := dk_16 254 (dk_at dksX11_ways_0 8 rfl rfl)
theorem dX11_ways_10 : decode cX11_ways 10 = .ok (.ireturn, 1) := dk_172 (dk_at dksX11_ways_0 10 rfl rfl)
theorem dX11_ways_11 : decode cX11_ways 11 = .ok (.iconst 0, 1) := dk_3 (dk_at dksX11_ways_0 11 rfl rfl)
theorem dX11_ways_12 : decode cX11_ways 12 = .ok (.istore_n 2, 1) := dk_61 (dk_at dksX11_ways_0 12 rfl rfl)
theorem dX11_ways_13 : decode cX11_ways 13 = .ok (.iconst 0, 1) := dk_3 (dk_at dksX11_ways_0 13 rfl rfl)
theorem dX11_ways_14 : decode cX11_ways 14 = .ok (.istore_n 3, 1) := dk_62 (dk_at dksX11_ways_0 14 rfl rfl)
theorem dX11_ways_15 : decode cX11_ways 15 = .ok (.iload_n 3, 1) := dk_29 (dk_at dksX11_ways_0 15 rfl rfl)
theorem dX11_ways_16 : decode cX11_ways 16 = .ok (.aload_n 0, 1) := dk_42 (dk_at dksX11_ways_0 16 rfl rfl)
theorem dX11_ways_17 : decode cX11_ways 17 = .ok (.invokevirtual 78, 3) := dk_182 0 78 (dk_at dksX11_ways_0 17 rfl rfl)
theorem dX11_ways_20 : decode cX11_ways 20 = .ok (.if_icmp .gt 26, 3) := dk_163 0 26 (dk_at dksX11_ways_0 20 rfl rfl)
theorem dX11_ways_23 : decode cX11_ways 23 = .ok (.iload_n 2, 1) := dk_28 (dk_at dksX11_ways_0 23 rfl rfl)
theorem dX11_ways_24 : decode cX11_ways 24 = .ok (.aload_n 0, 1) := dk_42 (dk_at dksX11_ways_1 0 rfl rfl)
theorem dX11_ways_25 : decode cX11_ways 25 = .ok (.iload_n 3, 1) := dk_29 (dk_at dksX11_ways_1 1 rfl rfl)
theorem dX11_ways_26 : decode cX11_ways 26 = .ok (.invokevirtual 269, 3) := dk_182 1 13 (dk_at dksX11_ways_1 2 rfl rfl)
theorem dX11_ways_29 : decode cX11_ways 29 = .ok (.iload_n 1, 1) := dk_27 (dk_at dksX11_ways_1 5 rfl rfl)
theorem dX11_ways_30 : decode cX11_ways 30 = .ok (.if_icmp .ne 7, 3) := dk_160 0 7 (dk_at dksX11_ways_1 6 rfl rfl)
theorem dX11_ways_33 : decode cX11_ways 33 = .ok (.iconst 1, 1) := dk_4 (dk_at dksX11_ways_1 9 rfl rfl)
theorem dX11_ways_34 : decode cX11_ways 34 = .ok (.goto 4, 3) := dk_167 0 4 (dk_at dksX11_ways_1 10 rfl rfl)
theorem dX11_ways_37 : decode cX11_ways 37 = .ok (.iconst 0, 1) := dk_3 (dk_at dksX11_ways_1 13 rfl rfl)
theorem dX11_ways_38 : decode cX11_ways 38 = .ok (.iadd, 1) := dk_96 (dk_at dksX11_ways_1 14 rfl rfl)
theorem dX11_ways_39 : decode cX11_ways 39 = .ok (.istore_n 2, 1) := dk_61 (dk_at dksX11_ways_1 15 rfl rfl)
theorem dX11_ways_40 : decode cX11_ways 40 = .ok (.iinc 3 1, 3) := dk_132 3 1 (dk_at dksX11_ways_1 16 rfl rfl)
theorem dX11_ways_43 : decode cX11_ways 43 = .ok (.goto (-28), 3) := dk_167 255 228 (dk_at dksX11_ways_1 19 rfl rfl)
theorem dX11_ways_46 : decode cX11_ways 46 = .ok (.iload_n 2, 1) := dk_28 (dk_at dksX11_ways_1 22 rfl rfl)
theorem dX11_ways_47 : decode cX11_ways 47 = .ok (.ireturn, 1) := dk_172 (dk_at dksX11_ways_1 23 rfl rfl)
abbrev cX11_idle : ByteArray := prog_19_method_65_code
def yX11_idle : MethodName := ⟨RX11, "idle", "()I"⟩
def dkwX11_idle_4 : List UInt8 := [167, 255, 216, 132, 2, 1, 167, 255, 200, 27, 172]
abbrev dktX11_idle_4 : List UInt8 := dkwX11_idle_4 ++ []
def dkwX11_idle_3 : List UInt8 := [42, 180, 0, 37, 28, 4, 29, 120, 130, 46, 159, 0, 11, 27, 4, 29, 120, 2, 130, 126, 60, 132, 3, 1]
abbrev dktX11_idle_3 : List UInt8 := dkwX11_idle_3 ++ dktX11_idle_4
def dkwX11_idle_2 : List UInt8 := [182, 0, 78, 163, 0, 54, 3, 62, 29, 42, 180, 0, 9, 7, 46, 162, 0, 36, 42, 180, 0, 37, 28, 46]
abbrev dktX11_idle_2 : List UInt8 := dkwX11_idle_2 ++ dktX11_idle_3
def dkwX11_idle_1 : List UInt8 := [163, 0, 20, 42, 180, 0, 37, 28, 42, 28, 182, 1, 13, 79, 132, 2, 1, 167, 255, 234, 3, 61, 28, 42]
abbrev dktX11_idle_1 : List UInt8 := dkwX11_idle_1 ++ dktX11_idle_2
def dkwX11_idle_0 : List UInt8 := [42, 182, 0, 74, 154, 0, 6, 16, 254, 172, 42, 182, 0, 78, 60, 3, 61, 28, 42, 182, 0, 78]
abbrev dktX11_idle_0 : List UInt8 := dkwX11_idle_0 ++ dktX11_idle_1
theorem dksX11_idle_0 : cX11_idle.data.toList.drop 0 = dktX11_idle_0 := by decide +kernel
theorem dksX11_idle_1 : cX11_idle.data.toList.drop 22 = dktX11_idle_1 := dk_seg dksX11_idle_0 22 rfl rfl
theorem dksX11_idle_2 : cX11_idle.data.toList.drop 46 = dktX11_idle_2 := dk_seg dksX11_idle_1 24 rfl rfl
theorem dksX11_idle_3 : cX11_idle.data.toList.drop 70 = dktX11_idle_3 := dk_seg dksX11_idle_2 24 rfl rfl
theorem dksX11_idle_4 : cX11_idle.data.toList.drop 94 = dktX11_idle_4 := dk_seg dksX11_idle_3 24 rfl rfl
theorem dX11_idle_0 : decode cX11_idle 0 = .ok (.aload_n 0, 1) := dk_42 (dk_at dksX11_idle_0 0 rfl rfl)
theorem dX11_idle_1 : decode cX11_idle 1 = .ok (.invokevirtual 74, 3) := dk_182 0 74 (dk_at dksX11_idle_0 1 rfl rfl)
theorem dX11_idle_4 : decode cX11_idle 4 = .ok (.ifCond .ne 6, 3) := dk_154 0 6 (dk_at dksX11_idle_0 4 rfl rfl)
theorem dX11_idle_7 : decode cX11_idle 7 = .ok (.bipush (-2), 2) := dk_16 254 (dk_at dksX11_idle_0 7 rfl rfl)
theorem dX11_idle_9 : decode cX11_idle 9 = .ok (.ireturn, 1) := dk_172 (dk_at dksX11_idle_0 9 rfl rfl)
theorem dX11_idle_10 : decode cX11_idle 10 = .ok (.aload_n 0, 1) := dk_42 (dk_at dksX11_idle_0 10 rfl rfl)
theorem dX11_idle_11 : decode cX11_idle 11 = .ok (.invokevirtual 78, 3) := dk_182 0 78 (dk_at dksX11_idle_0 11 rfl rfl)
theorem dX11_idle_14 : decode cX11_idle 14 = .ok (.istore_n 1, 1) := dk_60 (dk_at dksX11_idle_0 14 rfl rfl)
theorem dX11_idle_15 : decode cX11_idle 15 = .ok (.iconst 0, 1) := dk_3 (dk_at dksX11_idle_0 15 rfl rfl)
theorem dX11_idle_16 : decode cX11_idle 16 = .ok (.istore_n 2, 1) := dk_61 (dk_at dksX11_idle_0 16 rfl rfl)
theorem dX11_idle_17 : decode cX11_idle 17 = .ok (.iload_n 2, 1) := dk_28 (dk_at dksX11_idle_0 17 rfl rfl)
theorem dX11_idle_18 : decode cX11_idle 18 = .ok (.aload_n 0, 1) := dk_42 (dk_at dksX11_idle_0 18 rfl rfl)
theorem dX11_idle_19 : decode cX11_idle 19 = .ok (.invokevirtual 78, 3) := dk_182 0 78 (dk_at dksX11_idle_0 19 rfl rfl)
theorem dX11_idle_22 : decode cX11_idle 22 = .ok (.if_icmp .gt 20, 3) := dk_163 0 20 (dk_at dksX11_idle_1 0 rfl rfl)
theorem dX11_idle_25 : decode cX11_idle 25 = .ok (.aload_n 0, 1) := dk_42 (dk_at dksX11_idle_1 3 rfl rfl)
theorem dX11_idle_26 : decode cX11_idle 26 = .ok (.getfield 37, 3) := dk_180 0 37 (dk_at dksX11_idle_1 4 rfl rfl)
theorem dX11_idle_29 : decode cX11_idle 29 = .ok (.iload_n 2, 1) := dk_28 (dk_at dksX11_idle_1 7 rfl rfl)
theorem dX11_idle_30 : decode cX11_idle 30 = .ok (.aload_n 0, 1) := dk_42 (dk_at dksX11_idle_1 8 rfl rfl)
theorem dX11_idle_31 : decode cX11_idle 31 = .ok (.iload_n 2, 1) := dk_28 (dk_at dksX11_idle_1 9 rfl rfl)
theorem dX11_idle_32 : decode cX11_idle 32 = .ok (.invokevirtual 269, 3) := dk_182 1 13 (dk_at dksX11_idle_1 10 rfl rfl)
theorem dX11_idle_35 : decode cX11_idle 35 = .ok (.iastore, 1) := dk_79 (dk_at dksX11_idle_1 13 rfl rfl)
theorem dX11_idle_36 : decode cX11_idle 36 = .ok (.iinc 2 1, 3) := dk_132 2 1 (dk_at dksX11_idle_1 14 rfl rfl)
theorem dX11_idle_39 : decode cX11_idle 39 = .ok (.goto (-22), 3) := dk_167 255 234 (dk_at dksX11_idle_1 17 rfl rfl)
theorem dX11_idle_42 : decode cX11_idle 42 = .ok (.iconst 0, 1) := dk_3 (dk_at dksX11_idle_1 20 rfl rfl)
theorem dX11_idle_43 : decode cX11_idle 43 = .ok (.istore_n 2, 1) := dk_61 (dk_at dksX11_idle_1 21 rfl rfl)
theorem dX11_idle_44 : decode cX11_idle 44 = .ok (.iload_n 2, 1) := dk_28 (dk_at dksX11_idle_1 22 rfl rfl)
theorem dX11_idle_45 : decode cX11_idle 45 = .ok (.aload_n 0, 1) := dk_42 (dk_at dksX11_idle_1 23 rfl rfl)
theorem dX11_idle_46 : decode cX11_idle 46 = .ok (.invokevirtual 78, 3) := dk_182 0 78 (dk_at dksX11_idle_2 0 rfl rfl)
theorem dX11_idle_49 : decode cX11_idle 49 = .ok (.if_icmp .gt 54, 3) := dk_163 0 54 (dk_at dksX11_idle_2 3 rfl rfl)
theorem dX11_idle_52 : decode cX11_idle 52 = .ok (.iconst 0, 1) := dk_3 (dk_at dksX11_idle_2 6 rfl rfl)
theorem dX11_idle_53 : decode cX11_idle 53 = .ok (.istore_n 3, 1) := dk_62 (dk_at dksX11_idle_2 7 rfl rfl)
theorem dX11_idle_54 : decode cX11_idle 54 = .ok (.iload_n 3, 1) := dk_29 (dk_at dksX11_idle_2 8 rfl rfl)
theorem dX11_idle_55 : decode cX11_idle 55 = .ok (.aload_n 0, 1) := dk_42 (dk_at dksX11_idle_2 9 rfl rfl)
theorem dX11_idle_56 : decode cX11_idle 56 = .ok (.getfield 9, 3) := dk_180 0 9 (dk_at dksX11_idle_2 10 rfl rfl)
theorem dX11_idle_59 : decode cX11_idle 59 = .ok (.iconst 4, 1) := dk_7 (dk_at dksX11_idle_2 13 rfl rfl)
theorem dX11_idle_60 : decode cX11_idle 60 = .ok (.iaload, 1) := dk_46 (dk_at dksX11_idle_2 14 rfl rfl)
theorem dX11_idle_61 : decode cX11_idle 61 = .ok (.if_icmp .ge 36, 3) := dk_162 0 36 (dk_at dksX11_idle_2 15 rfl rfl)
theorem dX11_idle_64 : decode cX11_idle 64 = .ok (.aload_n 0, 1) := dk_42 (dk_at dksX11_idle_2 18 rfl rfl)
theorem dX11_idle_65 : decode cX11_idle 65 = .ok (.getfield 37, 3) := dk_180 0 37 (dk_at dksX11_idle_2 19 rfl rfl)
theorem dX11_idle_68 : decode cX11_idle 68 = .ok (.iload_n 2, 1) := dk_28 (dk_at dksX11_idle_2 22 rfl rfl)
theorem dX11_idle_69 : decode cX11_idle 69 = .ok (.iaload, 1) := dk_46 (dk_at dksX11_idle_2 23 rfl rfl)
theorem dX11_idle_70 : decode cX11_idle 70 = .ok (.aload_n 0, 1) := dk_42 (dk_at dksX11_idle_3 0 rfl rfl)
theorem dX11_idle_71 : decode cX11_idle 71 = .ok (.getfield 37, 3) := dk_180 0 37 (dk_at dksX11_idle_3 1 rfl rfl)
theorem dX11_idle_74 : decode cX11_idle 74 = .ok (.iload_n 2, 1) := dk_28 (dk_at dksX11_idle_3 4 rfl rfl)
theorem dX11_idle_75 : decode cX11_idle 75 = .ok (.iconst 1, 1) := dk_4 (dk_at dksX11_idle_3 5 rfl rfl)
theorem dX11_idle_76 : decode cX11_idle 76 = .ok (.iload_n 3, 1) := dk_29 (dk_at dksX11_idle_3 6 rfl rfl)
theorem dX11_idle_77 : decode cX11_idle 77 = .ok (.ishl, 1) := dk_120 (dk_at dksX11_idle_3 7 rfl rfl)
theorem dX11_idle_78 : decode cX11_idle 78 = .ok (.ixor, 1) := dk_130 (dk_at dksX11_idle_3 8 rfl rfl)
theorem dX11_idle_79 : decode cX11_idle 79 = .ok (.iaload, 1) := dk_46 (dk_at dksX11_idle_3 9 rfl rfl)
theorem dX11_idle_80 : decode cX11_idle 80 = .ok (.if_icmp .eq 11, 3) := dk_159 0 11 (dk_at dksX11_idle_3 10 rfl rfl)
theorem dX11_idle_83 : decode cX11_idle 83 = .ok (.iload_n 1, 1) := dk_27 (dk_at dksX11_idle_3 13 rfl rfl)
theorem dX11_idle_84 : decode cX11_idle 84 = .ok (.iconst 1, 1) := dk_4 (dk_at dksX11_idle_3 14 rfl rfl)
theorem dX11_idle_85 : decode cX11_idle 85 = .ok (.iload_n 3, 1) := dk_29 (dk_at dksX11_idle_3 15 rfl rfl)
theorem dX11_idle_86 : decode cX11_idle 86 = .ok (.ishl, 1) := dk_120 (dk_at dksX11_idle_3 16 rfl rfl)
theorem dX11_idle_87 : decode cX11_idle 87 = .ok (.iconst (-1), 1) := dk_2 (dk_at dksX11_idle_3 17 rfl rfl)
theorem dX11_idle_88 : decode cX11_idle 88 = .ok (.ixor, 1) := dk_130 (dk_at dksX11_idle_3 18 rfl rfl)
theorem dX11_idle_89 : decode cX11_idle 89 = .ok (.iand, 1) := dk_126 (dk_at dksX11_idle_3 19 rfl rfl)
theorem dX11_idle_90 : decode cX11_idle 90 = .ok (.istore_n 1, 1) := dk_60 (dk_at dksX11_idle_3 20 rfl rfl)
theorem dX11_idle_91 : decode cX11_idle 91 = .ok (.iinc 3 1, 3) := dk_132 3 1 (dk_at dksX11_idle_3 21 rfl rfl)
theorem dX11_idle_94 : decode cX11_idle 94 = .ok (.goto (-40), 3) := dk_167 255 216 (dk_at dksX11_idle_4 0 rfl rfl)
theorem dX11_idle_97 : decode cX11_idle 97 = .ok (.iinc 2 1, 3) := dk_132 2 1 (dk_at dksX11_idle_4 3 rfl rfl)
theorem dX11_idle_100 : decode cX11_idle 100 = .ok (.goto (-56), 3) := dk_167 255 200 (dk_at dksX11_idle_4 6 rfl rfl)
theorem dX11_idle_103 : decode cX11_idle 103 = .ok (.iload_n 1, 1) := dk_27 (dk_at dksX11_idle_4 9 rfl rfl)
theorem dX11_idle_104 : decode cX11_idle 104 = .ok (.ireturn, 1) := dk_172 (dk_at dksX11_idle_4 10 rfl rfl)
abbrev cX11_enough : ByteArray := prog_19_method_70_code
def yX11_enough : MethodName := ⟨RX11, "enough", "(II)J"⟩
def dkwX11_enough_3 : List UInt8 := [184, 1, 45, 173]
abbrev dktX11_enough_3 : List UInt8 := dkwX11_enough_3 ++ []
def dkwX11_enough_2 : List UInt8 := [167, 0, 9, 42, 21, 5, 182, 1, 37, 97, 66, 132, 5, 1, 167, 255, 221, 33, 42, 182, 1, 41, 28]
abbrev dktX11_enough_2 : List UInt8 := dkwX11_enough_2 ++ dktX11_enough_3
def dkwX11_enough_1 : List UInt8 := [3, 54, 5, 21, 5, 42, 182, 0, 78, 163, 0, 32, 33, 42, 27, 21, 5, 182, 0, 254, 153, 0, 7, 9]
abbrev dktX11_enough_1 : List UInt8 := dkwX11_enough_1 ++ dktX11_enough_2
def dkwX11_enough_0 : List UInt8 := [42, 27, 182, 0, 236, 153, 0, 13, 28, 133, 9, 10, 184, 0, 70, 154, 0, 7, 20, 1, 19, 173, 9, 66]
abbrev dktX11_enough_0 : List UInt8 := dkwX11_enough_0 ++ dktX11_enough_1
theorem dksX11_enough_0 : cX11_enough.data.toList.drop 0 = dktX11_enough_0 := by decide +kernel
theorem dksX11_enough_1 : cX11_enough.data.toList.drop 24 = dktX11_enough_1 := dk_seg dksX11_enough_0 24 rfl rfl
theorem dksX11_enough_2 : cX11_enough.data.toList.drop 48 = dktX11_enough_2 := dk_seg dksX11_enough_1 24 rfl rfl
theorem dksX11_enough_3 : cX11_enough.data.toList.drop 71 = dktX11_enough_3 := dk_seg dksX11_enough_2 23 rfl rfl
theorem dX11_enough_0 : decode cX11_enough 0 = .ok (.aload_n 0, 1) := dk_42 (dk_at dksX11_enough_0 0 rfl rfl)
theorem dX11_enough_1 : decode cX11_enough 1 = .ok (.iload_n 1, 1) := dk_27 (dk_at dksX11_enough_0 1 rfl rfl)
theorem dX11_enough_2 : decode cX11_enough 2 = .ok (.invokevirtual 236, 3) := dk_182 0 236 (dk_at dksX11_enough_0 2 rfl rfl)
theorem dX11_enough_5 : decode cX11_enough 5 = .ok (.ifCond .eq 13, 3) := dk_153 0 13 (dk_at dksX11_enough_0 5 rfl rfl)
theorem dX11_enough_8 : decode cX11_enough 8 = .ok (.iload_n 2, 1) := dk_28 (dk_at dksX11_enough_0 8 rfl rfl)
theorem dX11_enough_9 : decode cX11_enough 9 = .ok (.i2l, 1) := dk_133 (dk_at dksX11_enough_0 9 rfl rfl)
theorem dX11_enough_10 : decode cX11_enough 10 = .ok (.lconst 0, 1) := dk_9 (dk_at dksX11_enough_0 10 rfl rfl)
theorem dX11_enough_11 : decode cX11_enough 11 = .ok (.lconst 1, 1) := dk_10 (dk_at dksX11_enough_0 11 rfl rfl)
theorem dX11_enough_12 : decode cX11_enough 12 = .ok (.invokestatic 70, 3) := dk_184 0 70 (dk_at dksX11_enough_0 12 rfl rfl)
theorem dX11_enough_15 : decode cX11_enough 15 = .ok (.ifCond .ne 7, 3) := dk_154 0 7 (dk_at dksX11_enough_0 15 rfl rfl)
theorem dX11_enough_18 : decode cX11_enough 18 = .ok (.ldc2_w 275, 3) := dk_20 1 19 (dk_at dksX11_enough_0 18 rfl rfl)
theorem dX11_enough_21 : decode cX11_enough 21 = .ok (.lreturn, 1) := dk_173 (dk_at dksX11_enough_0 21 rfl rfl)
theorem dX11_enough_22 : decode cX11_enough 22 = .ok (.lconst 0, 1) := dk_9 (dk_at dksX11_enough_0 22 rfl rfl)
theorem dX11_enough_23 : decode cX11_enough 23 = .ok (.lstore_n 3, 1) := dk_66 (dk_at dksX11_enough_0 23 rfl rfl)
theorem dX11_enough_24 : decode cX11_enough 24 = .ok (.iconst 0, 1) := dk_3 (dk_at dksX11_enough_1 0 rfl rfl)
theorem dX11_enough_25 : decode cX11_enough 25 = .ok (.istore 5, 2) := dk_54 5 (dk_at dksX11_enough_1 1 rfl rfl)
theorem dX11_enough_27 : decode cX11_enough 27 = .ok (.iload 5, 2) := dk_21 5 (dk_at dksX11_enough_1 3 rfl rfl)
theorem dX11_enough_29 : decode cX11_enough 29 = .ok (.aload_n 0, 1) := dk_42 (dk_at dksX11_enough_1 5 rfl rfl)
theorem dX11_enough_30 : decode cX11_enough 30 = .ok (.invokevirtual 78, 3) := dk_182 0 78 (dk_at dksX11_enough_1 6 rfl rfl)
theorem dX11_enough_33 : decode cX11_enough 33 = .ok (.if_icmp .gt 32, 3) := dk_163 0 32 (dk_at dksX11_enough_1 9 rfl rfl)
theorem dX11_enough_36 : decode cX11_enough 36 = .ok (.lload_n 3, 1) := dk_33 (dk_at dksX11_enough_1 12 rfl rfl)
theorem dX11_enough_37 : decode cX11_enough 37 = .ok (.aload_n 0, 1) := dk_42 (dk_at dksX11_enough_1 13 rfl rfl)
theorem dX11_enough_38 : decode cX11_enough 38 = .ok (.iload_n 1, 1) := dk_27 (dk_at dksX11_enough_1 14 rfl rfl)
theorem dX11_enough_39 : decode cX11_enough 39 = .ok (.iload 5, 2) := dk_21 5 (dk_at dksX11_enough_1 15 rfl rfl)
theorem dX11_enough_41 : decode cX11_enough 41 = .ok (.invokevirtual 254, 3) := dk_182 0 254 (dk_at dksX11_enough_1 17 rfl rfl)
theorem dX11_enough_44 : decode cX11_enough 44 = .ok (.ifCond .eq 7, 3) := dk_153 0 7 (dk_at dksX11_enough_1 20 rfl rfl)
theorem dX11_enough_47 : decode cX11_enough 47 = .ok (.lconst 0, 1) := dk_9 (dk_at dksX11_enough_1 23 rfl rfl)
theorem dX11_enough_48 : decode cX11_enough 48 = .ok (.goto 9, 3) := dk_167 0 9 (dk_at dksX11_enough_2 0 rfl rfl)
theorem dX11_enough_51 : decode cX11_enough 51 = .ok (.aload_n 0, 1) := dk_42 (dk_at dksX11_enough_2 3 rfl rfl)
theorem dX11_enough_52 : decode cX11_enough 52 = .ok (.iload 5, 2) := dk_21 5 (dk_at dksX11_enough_2 4 rfl rfl)
theorem dX11_enough_54 : decode cX11_enough 54 = .ok (.invokevirtual 293, 3) := dk_182 1 37 (dk_at dksX11_enough_2 6 rfl rfl)
theorem dX11_enough_57 : decode cX11_enough 57 = .ok (.ladd, 1) := dk_97 (dk_at dksX11_enough_2 9 rfl rfl)
theorem dX11_enough_58 : decode cX11_enough 58 = .ok (.lstore_n 3, 1) := dk_66 (dk_at dksX11_enough_2 10 rfl rfl)
theorem dX11_enough_59 : decode cX11_enough 59 = .ok (.iinc 5 1, 3) := dk_132 5 1 (dk_at dksX11_enough_2 11 rfl rfl)
theorem dX11_enough_62 : decode cX11_enough 62 = .ok (.goto (-35), 3) := dk_167 255 221 (dk_at dksX11_enough_2 14 rfl rfl)
theorem dX11_enough_65 : decode cX11_enough 65 = .ok (.lload_n 3, 1) := dk_33 (dk_at dksX11_enough_2 17 rfl rfl)
theorem dX11_enough_66 : decode cX11_enough 66 = .ok (.aload_n 0, 1) := dk_42 (dk_at dksX11_enough_2 18 rfl rfl)
theorem dX11_enough_67 : decode cX11_enough 67 = .ok (.invokevirtual 297, 3) := dk_182 1 41 (dk_at dksX11_enough_2 19 rfl rfl)
theorem dX11_enough_70 : decode cX11_enough 70 = .ok (.iload_n 2, 1) := dk_28 (dk_at dksX11_enough_2 22 rfl rfl)
theorem dX11_enough_71 : decode cX11_enough 71 = .ok (.invokestatic 301, 3) := dk_184 1 45 (dk_at dksX11_enough_3 0 rfl rfl)
theorem dX11_enough_74 : decode cX11_enough 74 = .ok (.lreturn, 1) := dk_173 (dk_at dksX11_enough_3 3 rfl rfl)
abbrev cX11_oftenOf : ByteArray := prog_19_method_68_code
def yX11_oftenOf : MethodName := ⟨RX11, "oftenOf", "(I)J"⟩
def dkwX11_oftenOf_2 : List UInt8 := [133, 105, 65, 132, 4, 1, 167, 255, 207, 32, 173]
abbrev dktX11_oftenOf_2 : List UInt8 := dkwX11_oftenOf_2 ++ []
def dkwX11_oftenOf_1 : List UInt8 := [160, 0, 14, 42, 21, 4, 6, 182, 0, 82, 133, 167, 0, 14, 16, 100, 42, 21, 4, 6, 182, 0, 82, 100]
abbrev dktX11_oftenOf_1 : List UInt8 := dkwX11_oftenOf_1 ++ dktX11_oftenOf_2
def dkwX11_oftenOf_0 : List UInt8 := [10, 65, 3, 54, 4, 21, 4, 42, 180, 0, 9, 7, 46, 162, 0, 44, 32, 27, 21, 4, 184, 0, 86, 4]
abbrev dktX11_oftenOf_0 : List UInt8 := dkwX11_oftenOf_0 ++ dktX11_oftenOf_1
theorem dksX11_oftenOf_0 : cX11_oftenOf.data.toList.drop 0 = dktX11_oftenOf_0 := by decide +kernel
theorem dksX11_oftenOf_1 : cX11_oftenOf.data.toList.drop 24 = dktX11_oftenOf_1 := dk_seg dksX11_oftenOf_0 24 rfl rfl
theorem dksX11_oftenOf_2 : cX11_oftenOf.data.toList.drop 48 = dktX11_oftenOf_2 := dk_seg dksX11_oftenOf_1 24 rfl rfl
theorem dX11_oftenOf_0 : decode cX11_oftenOf 0 = .ok (.lconst 1, 1) := dk_10 (dk_at dksX11_oftenOf_0 0 rfl rfl)
theorem dX11_oftenOf_1 : decode cX11_oftenOf 1 = .ok (.lstore_n 2, 1) := dk_65 (dk_at dksX11_oftenOf_0 1 rfl rfl)
theorem dX11_oftenOf_2 : decode cX11_oftenOf 2 = .ok (.iconst 0, 1) := dk_3 (dk_at dksX11_oftenOf_0 2 rfl rfl)
theorem dX11_oftenOf_3 : decode cX11_oftenOf 3 = .ok (.istore 4, 2) := dk_54 4 (dk_at dksX11_oftenOf_0 3 rfl rfl)
theorem dX11_oftenOf_5 : decode cX11_oftenOf 5 = .ok (.iload 4, 2) := dk_21 4 (dk_at dksX11_oftenOf_0 5 rfl rfl)
theorem dX11_oftenOf_7 : decode cX11_oftenOf 7 = .ok (.aload_n 0, 1) := dk_42 (dk_at dksX11_oftenOf_0 7 rfl rfl)
theorem dX11_oftenOf_8 : decode cX11_oftenOf 8 = .ok (.getfield 9, 3) := dk_180 0 9 (dk_at dksX11_oftenOf_0 8 rfl rfl)
theorem dX11_oftenOf_11 : decode cX11_oftenOf 11 = .ok (.iconst 4, 1) := dk_7 (dk_at dksX11_oftenOf_0 11 rfl rfl)
theorem dX11_oftenOf_12 : decode cX11_oftenOf 12 = .ok (.iaload, 1) := dk_46 (dk_at dksX11_oftenOf_0 12 rfl rfl)
theorem dX11_oftenOf_13 : decode cX11_oftenOf 13 = .ok (.if_icmp .ge 44, 3) := dk_162 0 44 (dk_at dksX11_oftenOf_0 13 rfl rfl)
theorem dX11_oftenOf_16 : decode cX11_oftenOf 16 = .ok (.lload_n 2, 1) := dk_32 (dk_at dksX11_oftenOf_0 16 rfl rfl)
theorem dX11_oftenOf_17 : decode cX11_oftenOf 17 = .ok (.iload_n 1, 1) := dk_27 (dk_at dksX11_oftenOf_0 17 rfl rfl)
theorem dX11_oftenOf_18 : decode cX11_oftenOf 18 = .ok (.iload 4, 2) := dk_21 4 (dk_at dksX11_oftenOf_0 18 rfl rfl)
theorem dX11_oftenOf_20 : decode cX11_oftenOf 20 = .ok (.invokestatic 86, 3) := dk_184 0 86 (dk_at dksX11_oftenOf_0 20 rfl rfl)
theorem dX11_oftenOf_23 : decode cX11_oftenOf 23 = .ok (.iconst 1, 1) := dk_4 (dk_at dksX11_oftenOf_0 23 rfl rfl)
theorem dX11_oftenOf_24 : decode cX11_oftenOf 24 = .ok (.if_icmp .ne 14, 3) := dk_160 0 14 (dk_at dksX11_oftenOf_1 0 rfl rfl)
theorem dX11_oftenOf_27 : decode cX11_oftenOf 27 = .ok (.aload_n 0, 1) := dk_42 (dk_at dksX11_oftenOf_1 3 rfl rfl)
theorem dX11_oftenOf_28 : decode cX11_oftenOf 28 = .ok (.iload 4, 2) := dk_21 4 (dk_at dksX11_oftenOf_1 4 rfl rfl)
theorem dX11_oftenOf_30 : decode cX11_oftenOf 30 = .ok (.iconst 3, 1) := dk_6 (dk_at dksX11_oftenOf_1 6 rfl rfl)
theorem dX11_oftenOf_31 : decode cX11_oftenOf 31 = .ok (.invokevirtual 82, 3) := dk_182 0 82 (dk_at dksX11_oftenOf_1 7 rfl rfl)
theorem dX11_oftenOf_34 : decode cX11_oftenOf 34 = .ok (.i2l, 1) := dk_133 (dk_at dksX11_oftenOf_1 10 rfl rfl)
theorem dX11_oftenOf_35 : decode cX11_oftenOf 35 = .ok (.goto 14, 3) := dk_167 0 14 (dk_at dksX11_oftenOf_1 11 rfl rfl)
theorem dX11_oftenOf_38 : decode cX11_oftenOf 38 = .ok (.bipush 100, 2) := dk_16 100 (dk_at dksX11_oftenOf_1 14 rfl rfl)
theorem dX11_oftenOf_40 : decode cX11_oftenOf 40 = .ok (.aload_n 0, 1) := dk_42 (dk_at dksX11_oftenOf_1 16 rfl rfl)
theorem dX11_oftenOf_41 : decode cX11_oftenOf 41 = .ok (.iload 4, 2) := dk_21 4 (dk_at dksX11_oftenOf_1 17 rfl rfl)
theorem dX11_oftenOf_43 : decode cX11_oftenOf 43 = .ok (.iconst 3, 1) := dk_6 (dk_at dksX11_oftenOf_1 19 rfl rfl)
theorem dX11_oftenOf_44 : decode cX11_oftenOf 44 = .ok (.invokevirtual 82, 3) := dk_182 0 82 (dk_at dksX11_oftenOf_1 20 rfl rfl)
theorem dX11_oftenOf_47 : decode cX11_oftenOf 47 = .ok (.isub, 1) := dk_100 (dk_at dksX11_oftenOf_1 23 rfl rfl)
theorem dX11_oftenOf_48 : decode cX11_oftenOf 48 = .ok (.i2l, 1) := dk_133 (dk_at dksX11_oftenOf_2 0 rfl rfl)
theorem dX11_oftenOf_49 : decode cX11_oftenOf 49 = .ok (.lmul, 1) := dk_105 (dk_at dksX11_oftenOf_2 1 rfl rfl)
theorem dX11_oftenOf_50 : decode cX11_oftenOf 50 = .ok (.lstore_n 2, 1) := dk_65 (dk_at dksX11_oftenOf_2 2 rfl rfl)
theorem dX11_oftenOf_51 : decode cX11_oftenOf 51 = .ok (.iinc 4 1, 3) := dk_132 4 1 (dk_at dksX11_oftenOf_2 3 rfl rfl)
theorem dX11_oftenOf_54 : decode cX11_oftenOf 54 = .ok (.goto (-49), 3) := dk_167 255 207 (dk_at dksX11_oftenOf_2 6 rfl rfl)
theorem dX11_oftenOf_57 : decode cX11_oftenOf 57 = .ok (.lload_n 2, 1) := dk_32 (dk_at dksX11_oftenOf_2 9 rfl rfl)
theorem dX11_oftenOf_58 : decode cX11_oftenOf 58 = .ok (.lreturn, 1) := dk_173 (dk_at dksX11_oftenOf_2 10 rfl rfl)
abbrev cX11_allOften : ByteArray := prog_19_method_69_code
def yX11_allOften : MethodName := ⟨RX11, "allOften", "()J"⟩
def dkwX11_allOften_1 : List UInt8 := [167, 255, 237, 31, 173]
abbrev dktX11_allOften_1 : List UInt8 := dkwX11_allOften_1 ++ []
def dkwX11_allOften_0 : List UInt8 := [10, 64, 3, 62, 29, 42, 180, 0, 9, 7, 46, 162, 0, 15, 31, 20, 1, 35, 105, 64, 132, 3, 1]
abbrev dktX11_allOften_0 : List UInt8 := dkwX11_allOften_0 ++ dktX11_allOften_1
theorem dksX11_allOften_0 : cX11_allOften.data.toList.drop 0 = dktX11_allOften_0 := by decide +kernel
theorem dksX11_allOften_1 : cX11_allOften.data.toList.drop 23 = dktX11_allOften_1 := dk_seg dksX11_allOften_0 23 rfl rfl
theorem dX11_allOften_0 : decode cX11_allOften 0 = .ok (.lconst 1, 1) := dk_10 (dk_at dksX11_allOften_0 0 rfl rfl)
theorem dX11_allOften_1 : decode cX11_allOften 1 = .ok (.lstore_n 1, 1) := dk_64 (dk_at dksX11_allOften_0 1 rfl rfl)
theorem dX11_allOften_2 : decode cX11_allOften 2 = .ok (.iconst 0, 1) := dk_3 (dk_at dksX11_allOften_0 2 rfl rfl)
theorem dX11_allOften_3 : decode cX11_allOften 3 = .ok (.istore_n 3, 1) := dk_62 (dk_at dksX11_allOften_0 3 rfl rfl)
theorem dX11_allOften_4 : decode cX11_allOften 4 = .ok (.iload_n 3, 1) := dk_29 (dk_at dksX11_allOften_0 4 rfl rfl)
theorem dX11_allOften_5 : decode cX11_allOften 5 = .ok (.aload_n 0, 1) := dk_42 (dk_at dksX11_allOften_0 5 rfl rfl)
theorem dX11_allOften_6 : decode cX11_allOften 6 = .ok (.getfield 9, 3) := dk_180 0 9 (dk_at dksX11_allOften_0 6 rfl rfl)
theorem dX11_allOften_9 : decode cX11_allOften 9 = .ok (.iconst 4, 1) := dk_7 (dk_at dksX11_allOften_0 9 rfl rfl)
theorem dX11_allOften_10 : decode cX11_allOften 10 = .ok (.iaload, 1) := dk_46 (dk_at dksX11_allOften_0 10 rfl rfl)
theorem dX11_allOften_11 : decode cX11_allOften 11 = .ok (.if_icmp .ge 15, 3) := dk_162 0 15 (dk_at dksX11_allOften_0 11 rfl rfl)
theorem dX11_allOften_14 : decode cX11_allOften 14 = .ok (.lload_n 1, 1) := dk_31 (dk_at dksX11_allOften_0 14 rfl rfl)
theorem dX11_allOften_15 : decode cX11_allOften 15 = .ok (.ldc2_w 291, 3) := dk_20 1 35 (dk_at dksX11_allOften_0 15 rfl rfl)
theorem dX11_allOften_18 : decode cX11_allOften 18 = .ok (.lmul, 1) := dk_105 (dk_at dksX11_allOften_0 18 rfl rfl)
theorem dX11_allOften_19 : decode cX11_allOften 19 = .ok (.lstore_n 1, 1) := dk_64 (dk_at dksX11_allOften_0 19 rfl rfl)
theorem dX11_allOften_20 : decode cX11_allOften 20 = .ok (.iinc 3 1, 3) := dk_132 3 1 (dk_at dksX11_allOften_0 20 rfl rfl)
theorem dX11_allOften_23 : decode cX11_allOften 23 = .ok (.goto (-19), 3) := dk_167 255 237 (dk_at dksX11_allOften_1 0 rfl rfl)
theorem dX11_allOften_26 : decode cX11_allOften 26 = .ok (.lload_n 1, 1) := dk_31 (dk_at dksX11_allOften_1 3 rfl rfl)
theorem dX11_allOften_27 : decode cX11_allOften 27 = .ok (.lreturn, 1) := dk_173 (dk_at dksX11_allOften_1 4 rfl rfl)
abbrev cX11_part : ByteArray := prog_19_method_67_code
def yX11_part : MethodName := ⟨RX11, "part", "(JJI)J"⟩
def dkwX11_part_0 : List UInt8 := [21, 4, 154, 0, 7, 30, 167, 0, 4, 32, 30, 32, 184, 1, 31, 109, 173]
abbrev dktX11_part_0 : List UInt8 := dkwX11_part_0 ++ []
theorem dksX11_part_0 : cX11_part.data.toList.drop 0 = dktX11_part_0 := by decide +kernel
theorem dX11_part_0 : decode cX11_part 0 = .ok (.iload 4, 2) := dk_21 4 (dk_at dksX11_part_0 0 rfl rfl)
theorem dX11_part_2 : decode cX11_part 2 = .ok (.ifCond .ne 7, 3) := dk_154 0 7 (dk_at dksX11_part_0 2 rfl rfl)
theorem dX11_part_5 : decode cX11_part 5 = .ok (.lload_n 0, 1) := dk_30 (dk_at dksX11_part_0 5 rfl rfl)
theorem dX11_part_6 : decode cX11_part 6 = .ok (.goto 4, 3) := dk_167 0 4 (dk_at dksX11_part_0 6 rfl rfl)
theorem dX11_part_9 : decode cX11_part 9 = .ok (.lload_n 2, 1) := dk_32 (dk_at dksX11_part_0 9 rfl rfl)
theorem dX11_part_10 : decode cX11_part 10 = .ok (.lload_n 0, 1) := dk_30 (dk_at dksX11_part_0 10 rfl rfl)
theorem dX11_part_11 : decode cX11_part 11 = .ok (.lload_n 2, 1) := dk_32 (dk_at dksX11_part_0 11 rfl rfl)
theorem dX11_part_12 : decode cX11_part 12 = .ok (.invokestatic 287, 3) := dk_184 1 31 (dk_at dksX11_part_0 12 rfl rfl)
theorem dX11_part_15 : decode cX11_part 15 = .ok (.ldiv, 1) := dk_109 (dk_at dksX11_part_0 15 rfl rfl)
theorem dX11_part_16 : decode cX11_part 16 = .ok (.lreturn, 1) := dk_173 (dk_at dksX11_part_0 16 rfl rfl)
abbrev cX11_divisor : ByteArray := prog_19_method_66_code
def yX11_divisor : MethodName := ⟨RX11, "divisor", "(JJ)J"⟩
def dkwX11_divisor_1 : List UInt8 := [22, 8, 55, 6, 167, 255, 234, 22, 4, 173]
abbrev dktX11_divisor_1 : List UInt8 := dkwX11_divisor_1 ++ []
def dkwX11_divisor_0 : List UInt8 := [30, 55, 4, 32, 55, 6, 22, 6, 9, 148, 153, 0, 21, 22, 4, 22, 6, 113, 55, 8, 22, 6, 55, 4]
abbrev dktX11_divisor_0 : List UInt8 := dkwX11_divisor_0 ++ dktX11_divisor_1
theorem dksX11_divisor_0 : cX11_divisor.data.toList.drop 0 = dktX11_divisor_0 := by decide +kernel
theorem dksX11_divisor_1 : cX11_divisor.data.toList.drop 24 = dktX11_divisor_1 := dk_seg dksX11_divisor_0 24 rfl rfl
theorem dX11_divisor_0 : decode cX11_divisor 0 = .ok (.lload_n 0, 1) := dk_30 (dk_at dksX11_divisor_0 0 rfl rfl)
theorem dX11_divisor_1 : decode cX11_divisor 1 = .ok (.lstore 4, 2) := dk_55 4 (dk_at dksX11_divisor_0 1 rfl rfl)
theorem dX11_divisor_3 : decode cX11_divisor 3 = .ok (.lload_n 2, 1) := dk_32 (dk_at dksX11_divisor_0 3 rfl rfl)
theorem dX11_divisor_4 : decode cX11_divisor 4 = .ok (.lstore 6, 2) := dk_55 6 (dk_at dksX11_divisor_0 4 rfl rfl)
theorem dX11_divisor_6 : decode cX11_divisor 6 = .ok (.lload 6, 2) := dk_22 6 (dk_at dksX11_divisor_0 6 rfl rfl)
theorem dX11_divisor_8 : decode cX11_divisor 8 = .ok (.lconst 0, 1) := dk_9 (dk_at dksX11_divisor_0 8 rfl rfl)
theorem dX11_divisor_9 : decode cX11_divisor 9 = .ok (.lcmp, 1) := dk_148 (dk_at dksX11_divisor_0 9 rfl rfl)
theorem dX11_divisor_10 : decode cX11_divisor 10 = .ok (.ifCond .eq 21, 3) := dk_153 0 21 (dk_at dksX11_divisor_0 10 rfl rfl)
theorem dX11_divisor_13 : decode cX11_divisor 13 = .ok (.lload 4, 2) := dk_22 4 (dk_at dksX11_divisor_0 13 rfl rfl)
theorem dX11_divisor_15 : decode cX11_divisor 15 = .ok (.lload 6, 2) := dk_22 6 (dk_at dksX11_divisor_0 15 rfl rfl)
theorem dX11_divisor_17 : decode cX11_divisor 17 = .ok (.lrem, 1) := dk_113 (dk_at dksX11_divisor_0 17 rfl rfl)
theorem dX11_divisor_18 : decode cX11_divisor 18 = .ok (.lstore 8, 2) := dk_55 8 (dk_at dksX11_divisor_0 18 rfl rfl)
theorem dX11_divisor_20 : decode cX11_divisor 20 = .ok (.lload 6, 2) := dk_22 6 (dk_at dksX11_divisor_0 20 rfl rfl)
theorem dX11_divisor_22 : decode cX11_divisor 22 = .ok (.lstore 4, 2) := dk_55 4 (dk_at dksX11_divisor_0 22 rfl rfl)
theorem dX11_divisor_24 : decode cX11_divisor 24 = .ok (.lload 8, 2) := dk_22 8 (dk_at dksX11_divisor_1 0 rfl rfl)
theorem dX11_divisor_26 : decode cX11_divisor 26 = .ok (.lstore 6, 2) := dk_55 6 (dk_at dksX11_divisor_1 2 rfl rfl)
theorem dX11_divisor_28 : decode cX11_divisor 28 = .ok (.goto (-22), 3) := dk_167 255 234 (dk_at dksX11_divisor_1 4 rfl rfl)
theorem dX11_divisor_31 : decode cX11_divisor 31 = .ok (.lload 4, 2) := dk_22 4 (dk_at dksX11_divisor_1 7 rfl rfl)
theorem dX11_divisor_33 : decode cX11_divisor 33 = .ok (.lreturn, 1) := dk_173 (dk_at dksX11_divisor_1 9 rfl rfl)
abbrev cX11_chance : ByteArray := prog_19_method_71_code
def yX11_chance : MethodName := ⟨RX11, "chance", "(II)J"⟩
def dkwX11_chance_3 : List UInt8 := [184, 1, 45, 173]
abbrev dktX11_chance_3 : List UInt8 := dkwX11_chance_3 ++ []
def dkwX11_chance_2 : List UInt8 := [21, 5, 182, 1, 37, 167, 0, 4, 9, 97, 66, 132, 5, 1, 167, 255, 221, 33, 42, 182, 1, 41, 28]
abbrev dktX11_chance_2 : List UInt8 := dkwX11_chance_2 ++ dktX11_chance_3
def dkwX11_chance_1 : List UInt8 := [3, 54, 5, 21, 5, 42, 182, 0, 78, 163, 0, 32, 33, 42, 21, 5, 182, 1, 13, 27, 160, 0, 12, 42]
abbrev dktX11_chance_1 : List UInt8 := dkwX11_chance_1 ++ dktX11_chance_2
def dkwX11_chance_0 : List UInt8 := [42, 27, 182, 0, 236, 153, 0, 13, 28, 133, 9, 10, 184, 0, 70, 154, 0, 7, 20, 1, 19, 173, 9, 66]
abbrev dktX11_chance_0 : List UInt8 := dkwX11_chance_0 ++ dktX11_chance_1
theorem dksX11_chance_0 : cX11_chance.data.toList.drop 0 = dktX11_chance_0 := by decide +kernel
theorem dksX11_chance_1 : cX11_chance.data.toList.drop 24 = dktX11_chance_1 := dk_seg dksX11_chance_0 24 rfl rfl
theorem dksX11_chance_2 : cX11_chance.data.toList.drop 48 = dktX11_chance_2 := dk_seg dksX11_chance_1 24 rfl rfl
theorem dksX11_chance_3 : cX11_chance.data.toList.drop 71 = dktX11_chance_3 := dk_seg dksX11_chance_2 23 rfl rfl
theorem dX11_chance_0 : decode cX11_chance 0 = .ok (.aload_n 0, 1) := dk_42 (dk_at dksX11_chance_0 0 rfl rfl)
theorem dX11_chance_1 : decode cX11_chance 1 = .ok (.iload_n 1, 1) := dk_27 (dk_at dksX11_chance_0 1 rfl rfl)
theorem dX11_chance_2 : decode cX11_chance 2 = .ok (.invokevirtual 236, 3) := dk_182 0 236 (dk_at dksX11_chance_0 2 rfl rfl)
theorem dX11_chance_5 : decode cX11_chance 5 = .ok (.ifCond .eq 13, 3) := dk_153 0 13 (dk_at dksX11_chance_0 5 rfl rfl)
theorem dX11_chance_8 : decode cX11_chance 8 = .ok (.iload_n 2, 1) := dk_28 (dk_at dksX11_chance_0 8 rfl rfl)
theorem dX11_chance_9 : decode cX11_chance 9 = .ok (.i2l, 1) := dk_133 (dk_at dksX11_chance_0 9 rfl rfl)
theorem dX11_chance_10 : decode cX11_chance 10 = .ok (.lconst 0, 1) := dk_9 (dk_at dksX11_chance_0 10 rfl rfl)
theorem dX11_chance_11 : decode cX11_chance 11 = .ok (.lconst 1, 1) := dk_10 (dk_at dksX11_chance_0 11 rfl rfl)
theorem dX11_chance_12 : decode cX11_chance 12 = .ok (.invokestatic 70, 3) := dk_184 0 70 (dk_at dksX11_chance_0 12 rfl rfl)
theorem dX11_chance_15 : decode cX11_chance 15 = .ok (.ifCond .ne 7, 3) := dk_154 0 7 (dk_at dksX11_chance_0 15 rfl rfl)
theorem dX11_chance_18 : decode cX11_chance 18 = .ok (.ldc2_w 275, 3) := dk_20 1 19 (dk_at dksX11_chance_0 18 rfl rfl)
theorem dX11_chance_21 : decode cX11_chance 21 = .ok (.lreturn, 1) := dk_173 (dk_at dksX11_chance_0 21 rfl rfl)
theorem dX11_chance_22 : decode cX11_chance 22 = .ok (.lconst 0, 1) := dk_9 (dk_at dksX11_chance_0 22 rfl rfl)
theorem dX11_chance_23 : decode cX11_chance 23 = .ok (.lstore_n 3, 1) := dk_66 (dk_at dksX11_chance_0 23 rfl rfl)
theorem dX11_chance_24 : decode cX11_chance 24 = .ok (.iconst 0, 1) := dk_3 (dk_at dksX11_chance_1 0 rfl rfl)
theorem dX11_chance_25 : decode cX11_chance 25 = .ok (.istore 5, 2) := dk_54 5 (dk_at dksX11_chance_1 1 rfl rfl)
theorem dX11_chance_27 : decode cX11_chance 27 = .ok (.iload 5, 2) := dk_21 5 (dk_at dksX11_chance_1 3 rfl rfl)
theorem dX11_chance_29 : decode cX11_chance 29 = .ok (.aload_n 0, 1) := dk_42 (dk_at dksX11_chance_1 5 rfl rfl)
theorem dX11_chance_30 : decode cX11_chance 30 = .ok (.invokevirtual 78, 3) := dk_182 0 78 (dk_at dksX11_chance_1 6 rfl rfl)
theorem dX11_chance_33 : decode cX11_chance 33 = .ok (.if_icmp .gt 32, 3) := dk_163 0 32 (dk_at dksX11_chance_1 9 rfl rfl)
theorem dX11_chance_36 : decode cX11_chance 36 = .ok (.lload_n 3, 1) := dk_33 (dk_at dksX11_chance_1 12 rfl rfl)
theorem dX11_chance_37 : decode cX11_chance 37 = .ok (.aload_n 0, 1) := dk_42 (dk_at dksX11_chance_1 13 rfl rfl)
theorem dX11_chance_38 : decode cX11_chance 38 = .ok (.iload 5, 2) := dk_21 5 (dk_at dksX11_chance_1 14 rfl rfl)
theorem dX11_chance_40 : decode cX11_chance 40 = .ok (.invokevirtual 269, 3) := dk_182 1 13 (dk_at dksX11_chance_1 16 rfl rfl)
theorem dX11_chance_43 : decode cX11_chance 43 = .ok (.iload_n 1, 1) := dk_27 (dk_at dksX11_chance_1 19 rfl rfl)
theorem dX11_chance_44 : decode cX11_chance 44 = .ok (.if_icmp .ne 12, 3) := dk_160 0 12 (dk_at dksX11_chance_1 20 rfl rfl)
theorem dX11_chance_47 : decode cX11_chance 47 = .ok (.aload_n 0, 1) := dk_42 (dk_at dksX11_chance_1 23 rfl rfl)
theorem dX11_chance_48 : decode cX11_chance 48 = .ok (.iload 5, 2) := dk_21 5 (dk_at dksX11_chance_2 0 rfl rfl)
theorem dX11_chance_50 : decode cX11_chance 50 = .ok (.invokevirtual 293, 3) := dk_182 1 37 (dk_at dksX11_chance_2 2 rfl rfl)
theorem dX11_chance_53 : decode cX11_chance 53 = .ok (.goto 4, 3) := dk_167 0 4 (dk_at dksX11_chance_2 5 rfl rfl)
theorem dX11_chance_56 : decode cX11_chance 56 = .ok (.lconst 0, 1) := dk_9 (dk_at dksX11_chance_2 8 rfl rfl)
theorem dX11_chance_57 : decode cX11_chance 57 = .ok (.ladd, 1) := dk_97 (dk_at dksX11_chance_2 9 rfl rfl)
theorem dX11_chance_58 : decode cX11_chance 58 = .ok (.lstore_n 3, 1) := dk_66 (dk_at dksX11_chance_2 10 rfl rfl)
theorem dX11_chance_59 : decode cX11_chance 59 = .ok (.iinc 5 1, 3) := dk_132 5 1 (dk_at dksX11_chance_2 11 rfl rfl)
theorem dX11_chance_62 : decode cX11_chance 62 = .ok (.goto (-35), 3) := dk_167 255 221 (dk_at dksX11_chance_2 14 rfl rfl)
theorem dX11_chance_65 : decode cX11_chance 65 = .ok (.lload_n 3, 1) := dk_33 (dk_at dksX11_chance_2 17 rfl rfl)
theorem dX11_chance_66 : decode cX11_chance 66 = .ok (.aload_n 0, 1) := dk_42 (dk_at dksX11_chance_2 18 rfl rfl)
theorem dX11_chance_67 : decode cX11_chance 67 = .ok (.invokevirtual 297, 3) := dk_182 1 41 (dk_at dksX11_chance_2 19 rfl rfl)
theorem dX11_chance_70 : decode cX11_chance 70 = .ok (.iload_n 2, 1) := dk_28 (dk_at dksX11_chance_2 22 rfl rfl)
theorem dX11_chance_71 : decode cX11_chance 71 = .ok (.invokestatic 301, 3) := dk_184 1 45 (dk_at dksX11_chance_3 0 rfl rfl)
theorem dX11_chance_74 : decode cX11_chance 74 = .ok (.lreturn, 1) := dk_173 (dk_at dksX11_chance_3 3 rfl rfl)
abbrev cX11_send : ByteArray := prog_19_method_77_code
def yX11_send : MethodName := ⟨RX11, "send", "(I)I"⟩
def dkwX11_send_0 : List UInt8 := [42, 27, 182, 0, 236, 154, 0, 6, 16, 254, 172, 42, 27, 4, 182, 1, 71, 42, 182, 1, 75, 172]
abbrev dktX11_send_0 : List UInt8 := dkwX11_send_0 ++ []
theorem dksX11_send_0 : cX11_send.data.toList.drop 0 = dktX11_send_0 := by decide +kernel
theorem dX11_send_0 : decode cX11_send 0 = .ok (.aload_n 0, 1) := dk_42 (dk_at dksX11_send_0 0 rfl rfl)
theorem dX11_send_1 : decode cX11_send 1 = .ok (.iload_n 1, 1) := dk_27 (dk_at dksX11_send_0 1 rfl rfl)
theorem dX11_send_2 : decode cX11_send 2 = .ok (.invokevirtual 236, 3) := dk_182 0 236 (dk_at dksX11_send_0 2 rfl rfl)
theorem dX11_send_5 : decode cX11_send 5 = .ok (.ifCond .ne 6, 3) := dk_154 0 6 (dk_at dksX11_send_0 5 rfl rfl)
theorem dX11_send_8 : decode cX11_send 8 = .ok (.bipush (-2), 2) := dk_16 254 (dk_at dksX11_send_0 8 rfl rfl)
theorem dX11_send_10 : decode cX11_send 10 = .ok (.ireturn, 1) := dk_172 (dk_at dksX11_send_0 10 rfl rfl)
theorem dX11_send_11 : decode cX11_send 11 = .ok (.aload_n 0, 1) := dk_42 (dk_at dksX11_send_0 11 rfl rfl)
theorem dX11_send_12 : decode cX11_send 12 = .ok (.iload_n 1, 1) := dk_27 (dk_at dksX11_send_0 12 rfl rfl)
theorem dX11_send_13 : decode cX11_send 13 = .ok (.iconst 1, 1) := dk_4 (dk_at dksX11_send_0 13 rfl rfl)
theorem dX11_send_14 : decode cX11_send 14 = .ok (.invokevirtual 327, 3) := dk_182 1 71 (dk_at dksX11_send_0 14 rfl rfl)
theorem dX11_send_17 : decode cX11_send 17 = .ok (.aload_n 0, 1) := dk_42 (dk_at dksX11_send_0 17 rfl rfl)
theorem dX11_send_18 : decode cX11_send 18 = .ok (.invokevirtual 331, 3) := dk_182 1 75 (dk_at dksX11_send_0 18 rfl rfl)
theorem dX11_send_21 : decode cX11_send 21 = .ok (.ireturn, 1) := dk_172 (dk_at dksX11_send_0 21 rfl rfl)
abbrev cX11_findSend : ByteArray := prog_19_method_76_code
def yX11_findSend : MethodName := ⟨RX11, "findSend", "(IZ)V"⟩
def dkwX11_findSend_2 : List UInt8 := [182, 1, 64, 167, 0, 8, 21, 4, 184, 1, 25, 21, 4, 182, 1, 67, 132, 4, 1, 167, 255, 204, 177]
abbrev dktX11_findSend_2 : List UInt8 := dkwX11_findSend_2 ++ []
def dkwX11_findSend_1 : List UInt8 := [130, 126, 154, 0, 37, 42, 27, 21, 4, 182, 1, 61, 153, 0, 27, 42, 28, 153, 0, 12, 42, 21, 4]
abbrev dktX11_findSend_1 : List UInt8 := dkwX11_findSend_1 ++ dktX11_findSend_2
def dkwX11_findSend_0 : List UInt8 := [42, 2, 181, 1, 52, 42, 27, 182, 1, 58, 62, 3, 54, 4, 21, 4, 29, 163, 0, 52, 21, 4, 29, 2]
abbrev dktX11_findSend_0 : List UInt8 := dkwX11_findSend_0 ++ dktX11_findSend_1
theorem dksX11_findSend_0 : cX11_findSend.data.toList.drop 0 = dktX11_findSend_0 := by decide +kernel
theorem dksX11_findSend_1 : cX11_findSend.data.toList.drop 24 = dktX11_findSend_1 := dk_seg dksX11_findSend_0 24 rfl rfl
theorem dksX11_findSend_2 : cX11_findSend.data.toList.drop 47 = dktX11_findSend_2 := dk_seg dksX11_findSend_1 23 rfl rfl
theorem dX11_findSend_0 : decode cX11_findSend 0 = .ok (.aload_n 0, 1) := dk_42 (dk_at dksX11_findSend_0 0 rfl rfl)
theorem dX11_findSend_1 : decode cX11_findSend 1 = .ok (.iconst (-1), 1) := dk_2 (dk_at dksX11_findSend_0 1 rfl rfl)
theorem dX11_findSend_2 : decode cX11_findSend 2 = .ok (.putfield 308, 3) := dk_181 1 52 (dk_at dksX11_findSend_0 2 rfl rfl)
theorem dX11_findSend_5 : decode cX11_findSend 5 = .ok (.aload_n 0, 1) := dk_42 (dk_at dksX11_findSend_0 5 rfl rfl)
theorem dX11_findSend_6 : decode cX11_findSend 6 = .ok (.iload_n 1, 1) := dk_27 (dk_at dksX11_findSend_0 6 rfl rfl)
theorem dX11_findSend_7 : decode cX11_findSend 7 = .ok (.invokevirtual 314, 3) := dk_182 1 58 (dk_at dksX11_findSend_0 7 rfl rfl)
theorem dX11_findSend_10 : decode cX11_findSend 10 = .ok (.istore_n 3, 1) := dk_62 (dk_at dksX11_findSend_0 10 rfl rfl)
theorem dX11_findSend_11 : decode cX11_findSend 11 = .ok (.iconst 0, 1) := dk_3 (dk_at dksX11_findSend_0 11 rfl rfl)
theorem dX11_findSend_12 : decode cX11_findSend 12 = .ok (.istore 4, 2) := dk_54 4 (dk_at dksX11_findSend_0 12 rfl rfl)
theorem dX11_findSend_14 : decode cX11_findSend 14 = .ok (.iload 4, 2) := dk_21 4 (dk_at dksX11_findSend_0 14 rfl rfl)
theorem dX11_findSend_16 : decode cX11_findSend 16 = .ok (.iload_n 3, 1) := dk_29 (dk_at dksX11_findSend_0 16 rfl rfl)
theorem dX11_findSend_17 : decode cX11_findSend 17 = .ok (.if_icmp .gt 52, 3) := dk_163 0 52 (dk_at dksX11_findSend_0 17 rfl rfl)
theorem dX11_findSend_20 : decode cX11_findSend 20 = .ok (.iload 4, 2) := dk_21 4 (dk_at dksX11_findSend_0 20 rfl rfl)
theorem dX11_findSend_22 : decode cX11_findSend 22 = .ok (.iload_n 3, 1) := dk_29 (dk_at dksX11_findSend_0 22 rfl rfl)
theorem dX11_findSend_23 : decode cX11_findSend 23 = .ok (.iconst (-1), 1) := dk_2 (dk_at dksX11_findSend_0 23 rfl rfl)
theorem dX11_findSend_24 : decode cX11_findSend 24 = .ok (.ixor, 1) := dk_130 (dk_at dksX11_findSend_1 0 rfl rfl)
theorem dX11_findSend_25 : decode cX11_findSend 25 = .ok (.iand, 1) := dk_126 (dk_at dksX11_findSend_1 1 rfl rfl)
theorem dX11_findSend_26 : decode cX11_findSend 26 = .ok (.ifCond .ne 37, 3) := dk_154 0 37 (dk_at dksX11_findSend_1 2 rfl rfl)
theorem dX11_findSend_29 : decode cX11_findSend 29 = .ok (.aload_n 0, 1) := dk_42 (dk_at dksX11_findSend_1 5 rfl rfl)
theorem dX11_findSend_30 : decode cX11_findSend 30 = .ok (.iload_n 1, 1) := dk_27 (dk_at dksX11_findSend_1 6 rfl rfl)
theorem dX11_findSend_31 : decode cX11_findSend 31 = .ok (.iload 4, 2) := dk_21 4 (dk_at dksX11_findSend_1 7 rfl rfl)
theorem dX11_findSend_33 : decode cX11_findSend 33 = .ok (.invokevirtual 317, 3) := dk_182 1 61 (dk_at dksX11_findSend_1 9 rfl rfl)
theorem dX11_findSend_36 : decode cX11_findSend 36 = .ok (.ifCond .eq 27, 3) := dk_153 0 27 (dk_at dksX11_findSend_1 12 rfl rfl)
theorem dX11_findSend_39 : decode cX11_findSend 39 = .ok (.aload_n 0, 1) := dk_42 (dk_at dksX11_findSend_1 15 rfl rfl)
theorem dX11_findSend_40 : decode cX11_findSend 40 = .ok (.iload_n 2, 1) := dk_28 (dk_at dksX11_findSend_1 16 rfl rfl)
theorem dX11_findSend_41 : decode cX11_findSend 41 = .ok (.ifCond .eq 12, 3) := dk_153 0 12 (dk_at dksX11_findSend_1 17 rfl rfl)
theorem dX11_findSend_44 : decode cX11_findSend 44 = .ok (.aload_n 0, 1) := dk_42 (dk_at dksX11_findSend_1 20 rfl rfl)
theorem dX11_findSend_45 : decode cX11_findSend 45 = .ok (.iload 4, 2) := dk_21 4 (dk_at dksX11_findSend_1 21 rfl rfl)
theorem dX11_findSend_47 : decode cX11_findSend 47 = .ok (.invokevirtual 320, 3) := dk_182 1 64 (dk_at dksX11_findSend_2 0 rfl rfl)
theorem dX11_findSend_50 : decode cX11_findSend 50 = .ok (.goto 8, 3) := dk_167 0 8 (dk_at dksX11_findSend_2 3 rfl rfl)
theorem dX11_findSend_53 : decode cX11_findSend 53 = .ok (.iload 4, 2) := dk_21 4 (dk_at dksX11_findSend_2 6 rfl rfl)
theorem dX11_findSend_55 : decode cX11_findSend 55 = .ok (.invokestatic 281, 3) := dk_184 1 25 (dk_at dksX11_findSend_2 8 rfl rfl)
theorem dX11_findSend_58 : decode cX11_findSend 58 = .ok (.iload 4, 2) := dk_21 4 (dk_at dksX11_findSend_2 11 rfl rfl)
theorem dX11_findSend_60 : decode cX11_findSend 60 = .ok (.invokevirtual 323, 3) := dk_182 1 67 (dk_at dksX11_findSend_2 13 rfl rfl)
theorem dX11_findSend_63 : decode cX11_findSend 63 = .ok (.iinc 4 1, 3) := dk_132 4 1 (dk_at dksX11_findSend_2 16 rfl rfl)
theorem dX11_findSend_66 : decode cX11_findSend 66 = .ok (.goto (-52), 3) := dk_167 255 204 (dk_at dksX11_findSend_2 19 rfl rfl)
theorem dX11_findSend_69 : decode cX11_findSend 69 = .ok (.return_, 1) := dk_177 (dk_at dksX11_findSend_2 22 rfl rfl)
abbrev cX11_trainsOf : ByteArray := prog_19_method_14_code
def yX11_trainsOf : MethodName := ⟨RX11, "trainsOf", "(I)I"⟩
def dkwX11_trainsOf_1 : List UInt8 := [160, 0, 9, 4, 29, 120, 167, 0, 4, 3, 128, 61, 132, 3, 1, 167, 255, 223, 28, 172]
abbrev dktX11_trainsOf_1 : List UInt8 := dkwX11_trainsOf_1 ++ []
def dkwX11_trainsOf_0 : List UInt8 := [3, 61, 3, 62, 29, 42, 180, 0, 9, 7, 46, 162, 0, 29, 28, 42, 29, 3, 182, 0, 82, 27]
abbrev dktX11_trainsOf_0 : List UInt8 := dkwX11_trainsOf_0 ++ dktX11_trainsOf_1
theorem dksX11_trainsOf_0 : cX11_trainsOf.data.toList.drop 0 = dktX11_trainsOf_0 := by decide +kernel
theorem dksX11_trainsOf_1 : cX11_trainsOf.data.toList.drop 22 = dktX11_trainsOf_1 := dk_seg dksX11_trainsOf_0 22 rfl rfl
theorem dX11_trainsOf_0 : decode cX11_trainsOf 0 = .ok (.iconst 0, 1) := dk_3 (dk_at dksX11_trainsOf_0 0 rfl rfl)
theorem dX11_trainsOf_1 : decode cX11_trainsOf 1 = .ok (.istore_n 2, 1) := dk_61 (dk_at dksX11_trainsOf_0 1 rfl rfl)
theorem dX11_trainsOf_2 : decode cX11_trainsOf 2 = .ok (.iconst 0, 1) := dk_3 (dk_at dksX11_trainsOf_0 2 rfl rfl)
theorem dX11_trainsOf_3 : decode cX11_trainsOf 3 = .ok (.istore_n 3, 1) := dk_62 (dk_at dksX11_trainsOf_0 3 rfl rfl)
theorem dX11_trainsOf_4 : decode cX11_trainsOf 4 = .ok (.iload_n 3, 1) := dk_29 (dk_at dksX11_trainsOf_0 4 rfl rfl)
theorem dX11_trainsOf_5 : decode cX11_trainsOf 5 = .ok (.aload_n 0, 1) := dk_42 (dk_at dksX11_trainsOf_0 5 rfl rfl)
theorem dX11_trainsOf_6 : decode cX11_trainsOf 6 = .ok (.getfield 9, 3) := dk_180 0 9 (dk_at dksX11_trainsOf_0 6 rfl rfl)
theorem dX11_trainsOf_9 : decode cX11_trainsOf 9 = .ok (.iconst 4, 1) := dk_7 (dk_at dksX11_trainsOf_0 9 rfl rfl)
theorem dX11_trainsOf_10 : decode cX11_trainsOf 10 = .ok (.iaload, 1) := dk_46 (dk_at dksX11_trainsOf_0 10 rfl rfl)
theorem dX11_trainsOf_11 : decode cX11_trainsOf 11 = .ok (.if_icmp .ge 29, 3) := dk_162 0 29 (dk_at dksX11_trainsOf_0 11 rfl rfl)
theorem dX11_trainsOf_14 : decode cX11_trainsOf 14 = .ok (.iload_n 2, 1) := dk_28 (dk_at dksX11_trainsOf_0 14 rfl rfl)
theorem dX11_trainsOf_15 : decode cX11_trainsOf 15 = .ok (.aload_n 0, 1) := dk_42 (dk_at dksX11_trainsOf_0 15 rfl rfl)
theorem dX11_trainsOf_16 : decode cX11_trainsOf 16 = .ok (.iload_n 3, 1) := dk_29 (dk_at dksX11_trainsOf_0 16 rfl rfl)
theorem dX11_trainsOf_17 : decode cX11_trainsOf 17 = .ok (.iconst 0, 1) := dk_3 (dk_at dksX11_trainsOf_0 17 rfl rfl)
theorem dX11_trainsOf_18 : decode cX11_trainsOf 18 = .ok (.invokevirtual 82, 3) := dk_182 0 82 (dk_at dksX11_trainsOf_0 18 rfl rfl)
theorem dX11_trainsOf_21 : decode cX11_trainsOf 21 = .ok (.iload_n 1, 1) := dk_27 (dk_at dksX11_trainsOf_0 21 rfl rfl)
theorem dX11_trainsOf_22 : decode cX11_trainsOf 22 = .ok (.if_icmp .ne 9, 3) := dk_160 0 9 (dk_at dksX11_trainsOf_1 0 rfl rfl)
theorem dX11_trainsOf_25 : decode cX11_trainsOf 25 = .ok (.iconst 1, 1) := dk_4 (dk_at dksX11_trainsOf_1 3 rfl rfl)
theorem dX11_trainsOf_26 : decode cX11_trainsOf 26 = .ok (.iload_n 3, 1) := dk_29 (dk_at dksX11_trainsOf_1 4 rfl rfl)
theorem dX11_trainsOf_27 : decode cX11_trainsOf 27 = .ok (.ishl, 1) := dk_120 (dk_at dksX11_trainsOf_1 5 rfl rfl)
theorem dX11_trainsOf_28 : decode cX11_trainsOf 28 = .ok (.goto 4, 3) := dk_167 0 4 (dk_at dksX11_trainsOf_1 6 rfl rfl)
theorem dX11_trainsOf_31 : decode cX11_trainsOf 31 = .ok (.iconst 0, 1) := dk_3 (dk_at dksX11_trainsOf_1 9 rfl rfl)
theorem dX11_trainsOf_32 : decode cX11_trainsOf 32 = .ok (.ior, 1) := dk_128 (dk_at dksX11_trainsOf_1 10 rfl rfl)
theorem dX11_trainsOf_33 : decode cX11_trainsOf 33 = .ok (.istore_n 2, 1) := dk_61 (dk_at dksX11_trainsOf_1 11 rfl rfl)
theorem dX11_trainsOf_34 : decode cX11_trainsOf 34 = .ok (.iinc 3 1, 3) := dk_132 3 1 (dk_at dksX11_trainsOf_1 12 rfl rfl)
theorem dX11_trainsOf_37 : decode cX11_trainsOf 37 = .ok (.goto (-33), 3) := dk_167 255 223 (dk_at dksX11_trainsOf_1 15 rfl rfl)
theorem dX11_trainsOf_40 : decode cX11_trainsOf 40 = .ok (.iload_n 2, 1) := dk_28 (dk_at dksX11_trainsOf_1 18 rfl rfl)
theorem dX11_trainsOf_41 : decode cX11_trainsOf 41 = .ok (.ireturn, 1) := dk_172 (dk_at dksX11_trainsOf_1 19 rfl rfl)
abbrev cX11_isSurely : ByteArray := prog_19_method_73_code
def yX11_isSurely : MethodName := ⟨RX11, "isSurely", "(II)Z"⟩
def dkwX11_isSurely_1 : List UInt8 := [167, 0, 4, 3, 172]
abbrev dktX11_isSurely_1 : List UInt8 := dkwX11_isSurely_1 ++ []
def dkwX11_isSurely_0 : List UInt8 := [42, 28, 42, 182, 0, 78, 182, 1, 49, 42, 180, 0, 9, 16, 11, 27, 96, 46, 161, 0, 7, 4]
abbrev dktX11_isSurely_0 : List UInt8 := dkwX11_isSurely_0 ++ dktX11_isSurely_1
theorem dksX11_isSurely_0 : cX11_isSurely.data.toList.drop 0 = dktX11_isSurely_0 := by decide +kernel
theorem dksX11_isSurely_1 : cX11_isSurely.data.toList.drop 22 = dktX11_isSurely_1 := dk_seg dksX11_isSurely_0 22 rfl rfl
theorem dX11_isSurely_0 : decode cX11_isSurely 0 = .ok (.aload_n 0, 1) := dk_42 (dk_at dksX11_isSurely_0 0 rfl rfl)
theorem dX11_isSurely_1 : decode cX11_isSurely 1 = .ok (.iload_n 2, 1) := dk_28 (dk_at dksX11_isSurely_0 1 rfl rfl)
theorem dX11_isSurely_2 : decode cX11_isSurely 2 = .ok (.aload_n 0, 1) := dk_42 (dk_at dksX11_isSurely_0 2 rfl rfl)
theorem dX11_isSurely_3 : decode cX11_isSurely 3 = .ok (.invokevirtual 78, 3) := dk_182 0 78 (dk_at dksX11_isSurely_0 3 rfl rfl)
theorem dX11_isSurely_6 : decode cX11_isSurely 6 = .ok (.invokevirtual 305, 3) := dk_182 1 49 (dk_at dksX11_isSurely_0 6 rfl rfl)
theorem dX11_isSurely_9 : decode cX11_isSurely 9 = .ok (.aload_n 0, 1) := dk_42 (dk_at dksX11_isSurely_0 9 rfl rfl)
theorem dX11_isSurely_10 : decode cX11_isSurely 10 = .ok (.getfield 9, 3) := dk_180 0 9 (dk_at dksX11_isSurely_0 10 rfl rfl)
theorem dX11_isSurely_13 : decode cX11_isSurely 13 = .ok (.bipush 11, 2) := dk_16 11 (dk_at dksX11_isSurely_0 13 rfl rfl)
theorem dX11_isSurely_15 : decode cX11_isSurely 15 = .ok (.iload_n 1, 1) := dk_27 (dk_at dksX11_isSurely_0 15 rfl rfl)
theorem dX11_isSurely_16 : decode cX11_isSurely 16 = .ok (.iadd, 1) := dk_96 (dk_at dksX11_isSurely_0 16 rfl rfl)
theorem dX11_isSurely_17 : decode cX11_isSurely 17 = .ok (.iaload, 1) := dk_46 (dk_at dksX11_isSurely_0 17 rfl rfl)
theorem dX11_isSurely_18 : decode cX11_isSurely 18 = .ok (.if_icmp .lt 7, 3) := dk_161 0 7 (dk_at dksX11_isSurely_0 18 rfl rfl)
theorem dX11_isSurely_21 : decode cX11_isSurely 21 = .ok (.iconst 1, 1) := dk_4 (dk_at dksX11_isSurely_0 21 rfl rfl)
theorem dX11_isSurely_22 : decode cX11_isSurely 22 = .ok (.goto 4, 3) := dk_167 0 4 (dk_at dksX11_isSurely_1 0 rfl rfl)
theorem dX11_isSurely_25 : decode cX11_isSurely 25 = .ok (.iconst 0, 1) := dk_3 (dk_at dksX11_isSurely_1 3 rfl rfl)
theorem dX11_isSurely_26 : decode cX11_isSurely 26 = .ok (.ireturn, 1) := dk_172 (dk_at dksX11_isSurely_1 4 rfl rfl)
abbrev cX11_menSent : ByteArray := prog_19_method_72_code
def yX11_menSent : MethodName := ⟨RX11, "menSent", "(II)I"⟩
def dkwX11_menSent_2 : List UInt8 := [182, 0, 82, 167, 0, 4, 3, 96, 62, 132, 4, 1, 167, 255, 202, 29, 172]
abbrev dktX11_menSent_2 : List UInt8 := dkwX11_menSent_2 ++ []
def dkwX11_menSent_1 : List UInt8 := [160, 0, 29, 42, 21, 4, 28, 182, 0, 244, 42, 180, 0, 9, 4, 46, 163, 0, 13, 42, 21, 4, 4]
abbrev dktX11_menSent_1 : List UInt8 := dkwX11_menSent_1 ++ dktX11_menSent_2
def dkwX11_menSent_0 : List UInt8 := [3, 62, 3, 54, 4, 21, 4, 42, 180, 0, 9, 7, 46, 162, 0, 49, 29, 27, 21, 4, 184, 0, 86, 4]
abbrev dktX11_menSent_0 : List UInt8 := dkwX11_menSent_0 ++ dktX11_menSent_1
theorem dksX11_menSent_0 : cX11_menSent.data.toList.drop 0 = dktX11_menSent_0 := by decide +kernel
theorem dksX11_menSent_1 : cX11_menSent.data.toList.drop 24 = dktX11_menSent_1 := dk_seg dksX11_menSent_0 24 rfl rfl
theorem dksX11_menSent_2 : cX11_menSent.data.toList.drop 47 = dktX11_menSent_2 := dk_seg dksX11_menSent_1 23 rfl rfl
theorem dX11_menSent_0 : decode cX11_menSent 0 = .ok (.iconst 0, 1) := dk_3 (dk_at dksX11_menSent_0 0 rfl rfl)
theorem dX11_menSent_1 : decode cX11_menSent 1 = .ok (.istore_n 3, 1) := dk_62 (dk_at dksX11_menSent_0 1 rfl rfl)
theorem dX11_menSent_2 : decode cX11_menSent 2 = .ok (.iconst 0, 1) := dk_3 (dk_at dksX11_menSent_0 2 rfl rfl)
theorem dX11_menSent_3 : decode cX11_menSent 3 = .ok (.istore 4, 2) := dk_54 4 (dk_at dksX11_menSent_0 3 rfl rfl)
theorem dX11_menSent_5 : decode cX11_menSent 5 = .ok (.iload 4, 2) := dk_21 4 (dk_at dksX11_menSent_0 5 rfl rfl)
theorem dX11_menSent_7 : decode cX11_menSent 7 = .ok (.aload_n 0, 1) := dk_42 (dk_at dksX11_menSent_0 7 rfl rfl)
theorem dX11_menSent_8 : decode cX11_menSent 8 = .ok (.getfield 9, 3) := dk_180 0 9 (dk_at dksX11_menSent_0 8 rfl rfl)
theorem dX11_menSent_11 : decode cX11_menSent 11 = .ok (.iconst 4, 1) := dk_7 (dk_at dksX11_menSent_0 11 rfl rfl)
theorem dX11_menSent_12 : decode cX11_menSent 12 = .ok (.iaload, 1) := dk_46 (dk_at dksX11_menSent_0 12 rfl rfl)
theorem dX11_menSent_13 : decode cX11_menSent 13 = .ok (.if_icmp .ge 49, 3) := dk_162 0 49 (dk_at dksX11_menSent_0 13 rfl rfl)
theorem dX11_menSent_16 : decode cX11_menSent 16 = .ok (.iload_n 3, 1) := dk_29 (dk_at dksX11_menSent_0 16 rfl rfl)
theorem dX11_menSent_17 : decode cX11_menSent 17 = .ok (.iload_n 1, 1) := dk_27 (dk_at dksX11_menSent_0 17 rfl rfl)
theorem dX11_menSent_18 : decode cX11_menSent 18 = .ok (.iload 4, 2) := dk_21 4 (dk_at dksX11_menSent_0 18 rfl rfl)
theorem dX11_menSent_20 : decode cX11_menSent 20 = .ok (.invokestatic 86, 3) := dk_184 0 86 (dk_at dksX11_menSent_0 20 rfl rfl)
theorem dX11_menSent_23 : decode cX11_menSent 23 = .ok (.iconst 1, 1) := dk_4 (dk_at dksX11_menSent_0 23 rfl rfl)
theorem dX11_menSent_24 : decode cX11_menSent 24 = .ok (.if_icmp .ne 29, 3) := dk_160 0 29 (dk_at dksX11_menSent_1 0 rfl rfl)
theorem dX11_menSent_27 : decode cX11_menSent 27 = .ok (.aload_n 0, 1) := dk_42 (dk_at dksX11_menSent_1 3 rfl rfl)
theorem dX11_menSent_28 : decode cX11_menSent 28 = .ok (.iload 4, 2) := dk_21 4 (dk_at dksX11_menSent_1 4 rfl rfl)
theorem dX11_menSent_30 : decode cX11_menSent 30 = .ok (.iload_n 2, 1) := dk_28 (dk_at dksX11_menSent_1 6 rfl rfl)
theorem dX11_menSent_31 : decode cX11_menSent 31 = .ok (.invokevirtual 244, 3) := dk_182 0 244 (dk_at dksX11_menSent_1 7 rfl rfl)
theorem dX11_menSent_34 : decode cX11_menSent 34 = .ok (.aload_n 0, 1) := dk_42 (dk_at dksX11_menSent_1 10 rfl rfl)
theorem dX11_menSent_35 : decode cX11_menSent 35 = .ok (.getfield 9, 3) := dk_180 0 9 (dk_at dksX11_menSent_1 11 rfl rfl)
theorem dX11_menSent_38 : decode cX11_menSent 38 = .ok (.iconst 1, 1) := dk_4 (dk_at dksX11_menSent_1 14 rfl rfl)
theorem dX11_menSent_39 : decode cX11_menSent 39 = .ok (.iaload, 1) := dk_46 (dk_at dksX11_menSent_1 15 rfl rfl)
theorem dX11_menSent_40 : decode cX11_menSent 40 = .ok (.if_icmp .gt 13, 3) := dk_163 0 13 (dk_at dksX11_menSent_1 16 rfl rfl)
theorem dX11_menSent_43 : decode cX11_menSent 43 = .ok (.aload_n 0, 1) := dk_42 (dk_at dksX11_menSent_1 19 rfl rfl)
theorem dX11_menSent_44 : decode cX11_menSent 44 = .ok (.iload 4, 2) := dk_21 4 (dk_at dksX11_menSent_1 20 rfl rfl)
theorem dX11_menSent_46 : decode cX11_menSent 46 = .ok (.iconst 1, 1) := dk_4 (dk_at dksX11_menSent_1 22 rfl rfl)
theorem dX11_menSent_47 : decode cX11_menSent 47 = .ok (.invokevirtual 82, 3) := dk_182 0 82 (dk_at dksX11_menSent_2 0 rfl rfl)
theorem dX11_menSent_50 : decode cX11_menSent 50 = .ok (.goto 4, 3) := dk_167 0 4 (dk_at dksX11_menSent_2 3 rfl rfl)
theorem dX11_menSent_53 : decode cX11_menSent 53 = .ok (.iconst 0, 1) := dk_3 (dk_at dksX11_menSent_2 6 rfl rfl)
theorem dX11_menSent_54 : decode cX11_menSent 54 = .ok (.iadd, 1) := dk_96 (dk_at dksX11_menSent_2 7 rfl rfl)
theorem dX11_menSent_55 : decode cX11_menSent 55 = .ok (.istore_n 3, 1) := dk_62 (dk_at dksX11_menSent_2 8 rfl rfl)
theorem dX11_menSent_56 : decode cX11_menSent 56 = .ok (.iinc 4 1, 3) := dk_132 4 1 (dk_at dksX11_menSent_2 9 rfl rfl)
theorem dX11_menSent_59 : decode cX11_menSent 59 = .ok (.goto (-54), 3) := dk_167 255 202 (dk_at dksX11_menSent_2 12 rfl rfl)
theorem dX11_menSent_62 : decode cX11_menSent 62 = .ok (.iload_n 3, 1) := dk_29 (dk_at dksX11_menSent_2 15 rfl rfl)
theorem dX11_menSent_63 : decode cX11_menSent 63 = .ok (.ireturn, 1) := dk_172 (dk_at dksX11_menSent_2 16 rfl rfl)
abbrev cX11_priceOf : ByteArray := prog_19_method_15_code
def yX11_priceOf : MethodName := ⟨RX11, "priceOf", "(I)I"⟩
def dkwX11_priceOf_1 : List UInt8 := [182, 0, 82, 104, 96, 61, 132, 3, 1, 167, 255, 228, 28, 172]
abbrev dktX11_priceOf_1 : List UInt8 := dkwX11_priceOf_1 ++ []
def dkwX11_priceOf_0 : List UInt8 := [3, 61, 3, 62, 29, 42, 180, 0, 9, 7, 46, 162, 0, 24, 28, 27, 29, 184, 0, 86, 42, 29, 8]
abbrev dktX11_priceOf_0 : List UInt8 := dkwX11_priceOf_0 ++ dktX11_priceOf_1
theorem dksX11_priceOf_0 : cX11_priceOf.data.toList.drop 0 = dktX11_priceOf_0 := by decide +kernel
theorem dksX11_priceOf_1 : cX11_priceOf.data.toList.drop 23 = dktX11_priceOf_1 := dk_seg dksX11_priceOf_0 23 rfl rfl
theorem dX11_priceOf_0 : decode cX11_priceOf 0 = .ok (.iconst 0, 1) := dk_3 (dk_at dksX11_priceOf_0 0 rfl rfl)
theorem dX11_priceOf_1 : decode cX11_priceOf 1 = .ok (.istore_n 2, 1) := dk_61 (dk_at dksX11_priceOf_0 1 rfl rfl)
theorem dX11_priceOf_2 : decode cX11_priceOf 2 = .ok (.iconst 0, 1) := dk_3 (dk_at dksX11_priceOf_0 2 rfl rfl)
theorem dX11_priceOf_3 : decode cX11_priceOf 3 = .ok (.istore_n 3, 1) := dk_62 (dk_at dksX11_priceOf_0 3 rfl rfl)
theorem dX11_priceOf_4 : decode cX11_priceOf 4 = .ok (.iload_n 3, 1) := dk_29 (dk_at dksX11_priceOf_0 4 rfl rfl)
theorem dX11_priceOf_5 : decode cX11_priceOf 5 = .ok (.aload_n 0, 1) := dk_42 (dk_at dksX11_priceOf_0 5 rfl rfl)
theorem dX11_priceOf_6 : decode cX11_priceOf 6 = .ok (.getfield 9, 3) := dk_180 0 9 (dk_at dksX11_priceOf_0 6 rfl rfl)
theorem dX11_priceOf_9 : decode cX11_priceOf 9 = .ok (.iconst 4, 1) := dk_7 (dk_at dksX11_priceOf_0 9 rfl rfl)
theorem dX11_priceOf_10 : decode cX11_priceOf 10 = .ok (.iaload, 1) := dk_46 (dk_at dksX11_priceOf_0 10 rfl rfl)
theorem dX11_priceOf_11 : decode cX11_priceOf 11 = .ok (.if_icmp .ge 24, 3) := dk_162 0 24 (dk_at dksX11_priceOf_0 11 rfl rfl)
theorem dX11_priceOf_14 : decode cX11_priceOf 14 = .ok (.iload_n 2, 1) := dk_28 (dk_at dksX11_priceOf_0 14 rfl rfl)
theorem dX11_priceOf_15 : decode cX11_priceOf 15 = .ok (.iload_n 1, 1) := dk_27 (dk_at dksX11_priceOf_0 15 rfl rfl)
theorem dX11_priceOf_16 : decode cX11_priceOf 16 = .ok (.iload_n 3, 1) := dk_29 (dk_at dksX11_priceOf_0 16 rfl rfl)
theorem dX11_priceOf_17 : decode cX11_priceOf 17 = .ok (.invokestatic 86, 3) := dk_184 0 86 (dk_at dksX11_priceOf_0 17 rfl rfl)
theorem dX11_priceOf_20 : decode cX11_priceOf 20 = .ok (.aload_n 0, 1) := dk_42 (dk_at dksX11_priceOf_0 20 rfl rfl)
theorem dX11_priceOf_21 : decode cX11_priceOf 21 = .ok (.iload_n 3, 1) := dk_29 (dk_at dksX11_priceOf_0 21 rfl rfl)
theorem dX11_priceOf_22 : decode cX11_priceOf 22 = .ok (.iconst 5, 1) := dk_8 (dk_at dksX11_priceOf_0 22 rfl rfl)
theorem dX11_priceOf_23 : decode cX11_priceOf 23 = .ok (.invokevirtual 82, 3) := dk_182 0 82 (dk_at dksX11_priceOf_1 0 rfl rfl)
theorem dX11_priceOf_26 : decode cX11_priceOf 26 = .ok (.imul, 1) := dk_104 (dk_at dksX11_priceOf_1 3 rfl rfl)
theorem dX11_priceOf_27 : decode cX11_priceOf 27 = .ok (.iadd, 1) := dk_96 (dk_at dksX11_priceOf_1 4 rfl rfl)
theorem dX11_priceOf_28 : decode cX11_priceOf 28 = .ok (.istore_n 2, 1) := dk_61 (dk_at dksX11_priceOf_1 5 rfl rfl)
theorem dX11_priceOf_29 : decode cX11_priceOf 29 = .ok (.iinc 3 1, 3) := dk_132 3 1 (dk_at dksX11_priceOf_1 6 rfl rfl)
theorem dX11_priceOf_32 : decode cX11_priceOf 32 = .ok (.goto (-28), 3) := dk_167 255 228 (dk_at dksX11_priceOf_1 9 rfl rfl)
theorem dX11_priceOf_35 : decode cX11_priceOf 35 = .ok (.iload_n 2, 1) := dk_28 (dk_at dksX11_priceOf_1 12 rfl rfl)
theorem dX11_priceOf_36 : decode cX11_priceOf 36 = .ok (.ireturn, 1) := dk_172 (dk_at dksX11_priceOf_1 13 rfl rfl)
abbrev cX11_take : ByteArray := prog_19_method_74_code
def yX11_take : MethodName := ⟨RX11, "take", "(II)V"⟩
def dkwX11_take_1 : List UInt8 := [181, 1, 52, 177]
abbrev dktX11_take_1 : List UInt8 := dkwX11_take_1 ++ []
def dkwX11_take_0 : List UInt8 := [42, 180, 1, 52, 2, 159, 0, 12, 27, 42, 180, 1, 55, 161, 0, 4, 177, 42, 27, 181, 1, 55, 42, 28]
abbrev dktX11_take_0 : List UInt8 := dkwX11_take_0 ++ dktX11_take_1
theorem dksX11_take_0 : cX11_take.data.toList.drop 0 = dktX11_take_0 := by decide +kernel
theorem dksX11_take_1 : cX11_take.data.toList.drop 24 = dktX11_take_1 := dk_seg dksX11_take_0 24 rfl rfl
theorem dX11_take_0 : decode cX11_take 0 = .ok (.aload_n 0, 1) := dk_42 (dk_at dksX11_take_0 0 rfl rfl)
theorem dX11_take_1 : decode cX11_take 1 = .ok (.getfield 308, 3) := dk_180 1 52 (dk_at dksX11_take_0 1 rfl rfl)
theorem dX11_take_4 : decode cX11_take 4 = .ok (.iconst (-1), 1) := dk_2 (dk_at dksX11_take_0 4 rfl rfl)
theorem dX11_take_5 : decode cX11_take 5 = .ok (.if_icmp .eq 12, 3) := dk_159 0 12 (dk_at dksX11_take_0 5 rfl rfl)
theorem dX11_take_8 : decode cX11_take 8 = .ok (.iload_n 1, 1) := dk_27 (dk_at dksX11_take_0 8 rfl rfl)
theorem dX11_take_9 : decode cX11_take 9 = .ok (.aload_n 0, 1) := dk_42 (dk_at dksX11_take_0 9 rfl rfl)
theorem dX11_take_10 : decode cX11_take 10 = .ok (.getfield 311, 3) := dk_180 1 55 (dk_at dksX11_take_0 10 rfl rfl)
theorem dX11_take_13 : decode cX11_take 13 = .ok (.if_icmp .lt 4, 3) := dk_161 0 4 (dk_at dksX11_take_0 13 rfl rfl)
theorem dX11_take_16 : decode cX11_take 16 = .ok (.return_, 1) := dk_177 (dk_at dksX11_take_0 16 rfl rfl)
theorem dX11_take_17 : decode cX11_take 17 = .ok (.aload_n 0, 1) := dk_42 (dk_at dksX11_take_0 17 rfl rfl)
theorem dX11_take_18 : decode cX11_take 18 = .ok (.iload_n 1, 1) := dk_27 (dk_at dksX11_take_0 18 rfl rfl)
theorem dX11_take_19 : decode cX11_take 19 = .ok (.putfield 311, 3) := dk_181 1 55 (dk_at dksX11_take_0 19 rfl rfl)
theorem dX11_take_22 : decode cX11_take 22 = .ok (.aload_n 0, 1) := dk_42 (dk_at dksX11_take_0 22 rfl rfl)
theorem dX11_take_23 : decode cX11_take 23 = .ok (.iload_n 2, 1) := dk_28 (dk_at dksX11_take_0 23 rfl rfl)
theorem dX11_take_24 : decode cX11_take 24 = .ok (.putfield 308, 3) := dk_181 1 52 (dk_at dksX11_take_1 0 rfl rfl)
theorem dX11_take_27 : decode cX11_take 27 = .ok (.return_, 1) := dk_177 (dk_at dksX11_take_1 3 rfl rfl)
abbrev cX11_orNone : ByteArray := prog_19_method_75_code
def yX11_orNone : MethodName := ⟨RX11, "orNone", "()I"⟩
def dkwX11_orNone_0 : List UInt8 := [42, 180, 1, 52, 2, 160, 0, 7, 2, 167, 0, 7, 42, 180, 1, 55, 172]
abbrev dktX11_orNone_0 : List UInt8 := dkwX11_orNone_0 ++ []
theorem dksX11_orNone_0 : cX11_orNone.data.toList.drop 0 = dktX11_orNone_0 := by decide +kernel
theorem dX11_orNone_0 : decode cX11_orNone 0 = .ok (.aload_n 0, 1) := dk_42 (dk_at dksX11_orNone_0 0 rfl rfl)
theorem dX11_orNone_1 : decode cX11_orNone 1 = .ok (.getfield 308, 3) := dk_180 1 52 (dk_at dksX11_orNone_0 1 rfl rfl)
theorem dX11_orNone_4 : decode cX11_orNone 4 = .ok (.iconst (-1), 1) := dk_2 (dk_at dksX11_orNone_0 4 rfl rfl)
theorem dX11_orNone_5 : decode cX11_orNone 5 = .ok (.if_icmp .ne 7, 3) := dk_160 0 7 (dk_at dksX11_orNone_0 5 rfl rfl)
theorem dX11_orNone_8 : decode cX11_orNone 8 = .ok (.iconst (-1), 1) := dk_2 (dk_at dksX11_orNone_0 8 rfl rfl)
theorem dX11_orNone_9 : decode cX11_orNone 9 = .ok (.goto 7, 3) := dk_167 0 7 (dk_at dksX11_orNone_0 9 rfl rfl)
theorem dX11_orNone_12 : decode cX11_orNone 12 = .ok (.aload_n 0, 1) := dk_42 (dk_at dksX11_orNone_0 12 rfl rfl)
theorem dX11_orNone_13 : decode cX11_orNone 13 = .ok (.getfield 311, 3) := dk_180 1 55 (dk_at dksX11_orNone_0 13 rfl rfl)
theorem dX11_orNone_16 : decode cX11_orNone 16 = .ok (.ireturn, 1) := dk_172 (dk_at dksX11_orNone_0 16 rfl rfl)
abbrev cX11_sent : ByteArray := prog_19_method_78_code
def yX11_sent : MethodName := ⟨RX11, "sent", "(I)I"⟩
def dkwX11_sent_0 : List UInt8 := [42, 27, 182, 0, 236, 154, 0, 6, 16, 254, 172, 42, 27, 4, 182, 1, 71, 42, 180, 1, 52, 172]
abbrev dktX11_sent_0 : List UInt8 := dkwX11_sent_0 ++ []
theorem dksX11_sent_0 : cX11_sent.data.toList.drop 0 = dktX11_sent_0 := by decide +kernel
theorem dX11_sent_0 : decode cX11_sent 0 = .ok (.aload_n 0, 1) := dk_42 (dk_at dksX11_sent_0 0 rfl rfl)
theorem dX11_sent_1 : decode cX11_sent 1 = .ok (.iload_n 1, 1) := dk_27 (dk_at dksX11_sent_0 1 rfl rfl)
theorem dX11_sent_2 : decode cX11_sent 2 = .ok (.invokevirtual 236, 3) := dk_182 0 236 (dk_at dksX11_sent_0 2 rfl rfl)
theorem dX11_sent_5 : decode cX11_sent 5 = .ok (.ifCond .ne 6, 3) := dk_154 0 6 (dk_at dksX11_sent_0 5 rfl rfl)
theorem dX11_sent_8 : decode cX11_sent 8 = .ok (.bipush (-2), 2) := dk_16 254 (dk_at dksX11_sent_0 8 rfl rfl)
theorem dX11_sent_10 : decode cX11_sent 10 = .ok (.ireturn, 1) := dk_172 (dk_at dksX11_sent_0 10 rfl rfl)
theorem dX11_sent_11 : decode cX11_sent 11 = .ok (.aload_n 0, 1) := dk_42 (dk_at dksX11_sent_0 11 rfl rfl)
theorem dX11_sent_12 : decode cX11_sent 12 = .ok (.iload_n 1, 1) := dk_27 (dk_at dksX11_sent_0 12 rfl rfl)
theorem dX11_sent_13 : decode cX11_sent 13 = .ok (.iconst 1, 1) := dk_4 (dk_at dksX11_sent_0 13 rfl rfl)
theorem dX11_sent_14 : decode cX11_sent 14 = .ok (.invokevirtual 327, 3) := dk_182 1 71 (dk_at dksX11_sent_0 14 rfl rfl)
theorem dX11_sent_17 : decode cX11_sent 17 = .ok (.aload_n 0, 1) := dk_42 (dk_at dksX11_sent_0 17 rfl rfl)
theorem dX11_sent_18 : decode cX11_sent 18 = .ok (.getfield 308, 3) := dk_180 1 52 (dk_at dksX11_sent_0 18 rfl rfl)
theorem dX11_sent_21 : decode cX11_sent 21 = .ok (.ireturn, 1) := dk_172 (dk_at dksX11_sent_0 21 rfl rfl)
abbrev cX11_fewest : ByteArray := prog_19_method_79_code
def yX11_fewest : MethodName := ⟨RX11, "fewest", "(I)I"⟩
def dkwX11_fewest_0 : List UInt8 := [42, 27, 182, 0, 236, 154, 0, 6, 16, 254, 172, 42, 27, 3, 182, 1, 71, 42, 182, 1, 75, 172]
abbrev dktX11_fewest_0 : List UInt8 := dkwX11_fewest_0 ++ []
theorem dksX11_fewest_0 : cX11_fewest.data.toList.drop 0 = dktX11_fewest_0 := by decide +kernel
theorem dX11_fewest_0 : decode cX11_fewest 0 = .ok (.aload_n 0, 1) := dk_42 (dk_at dksX11_fewest_0 0 rfl rfl)
theorem dX11_fewest_1 : decode cX11_fewest 1 = .ok (.iload_n 1, 1) := dk_27 (dk_at dksX11_fewest_0 1 rfl rfl)
theorem dX11_fewest_2 : decode cX11_fewest 2 = .ok (.invokevirtual 236, 3) := dk_182 0 236 (dk_at dksX11_fewest_0 2 rfl rfl)
theorem dX11_fewest_5 : decode cX11_fewest 5 = .ok (.ifCond .ne 6, 3) := dk_154 0 6 (dk_at dksX11_fewest_0 5 rfl rfl)
theorem dX11_fewest_8 : decode cX11_fewest 8 = .ok (.bipush (-2), 2) := dk_16 254 (dk_at dksX11_fewest_0 8 rfl rfl)
theorem dX11_fewest_10 : decode cX11_fewest 10 = .ok (.ireturn, 1) := dk_172 (dk_at dksX11_fewest_0 10 rfl rfl)
theorem dX11_fewest_11 : decode cX11_fewest 11 = .ok (.aload_n 0, 1) := dk_42 (dk_at dksX11_fewest_0 11 rfl rfl)
theorem dX11_fewest_12 : decode cX11_fewest 12 = .ok (.iload_n 1, 1) := dk_27 (dk_at dksX11_fewest_0 12 rfl rfl)
theorem dX11_fewest_13 : decode cX11_fewest 13 = .ok (.iconst 0, 1) := dk_3 (dk_at dksX11_fewest_0 13 rfl rfl)
theorem dX11_fewest_14 : decode cX11_fewest 14 = .ok (.invokevirtual 327, 3) := dk_182 1 71 (dk_at dksX11_fewest_0 14 rfl rfl)
theorem dX11_fewest_17 : decode cX11_fewest 17 = .ok (.aload_n 0, 1) := dk_42 (dk_at dksX11_fewest_0 17 rfl rfl)
theorem dX11_fewest_18 : decode cX11_fewest 18 = .ok (.invokevirtual 331, 3) := dk_182 1 75 (dk_at dksX11_fewest_0 18 rfl rfl)
theorem dX11_fewest_21 : decode cX11_fewest 21 = .ok (.ireturn, 1) := dk_172 (dk_at dksX11_fewest_0 21 rfl rfl)
abbrev cX11_risk : ByteArray := prog_19_method_83_code
def yX11_risk : MethodName := ⟨RX11, "risk", "(II)I"⟩
def dkwX11_risk_1 : List UInt8 := [27, 28, 182, 1, 86, 42, 182, 1, 75, 172]
abbrev dktX11_risk_1 : List UInt8 := dkwX11_risk_1 ++ []
def dkwX11_risk_0 : List UInt8 := [42, 27, 182, 0, 236, 153, 0, 15, 28, 133, 9, 20, 1, 35, 184, 0, 70, 154, 0, 6, 16, 254, 172, 42]
abbrev dktX11_risk_0 : List UInt8 := dkwX11_risk_0 ++ dktX11_risk_1
theorem dksX11_risk_0 : cX11_risk.data.toList.drop 0 = dktX11_risk_0 := by decide +kernel
theorem dksX11_risk_1 : cX11_risk.data.toList.drop 24 = dktX11_risk_1 := dk_seg dksX11_risk_0 24 rfl rfl
theorem dX11_risk_0 : decode cX11_risk 0 = .ok (.aload_n 0, 1) := dk_42 (dk_at dksX11_risk_0 0 rfl rfl)
theorem dX11_risk_1 : decode cX11_risk 1 = .ok (.iload_n 1, 1) := dk_27 (dk_at dksX11_risk_0 1 rfl rfl)
theorem dX11_risk_2 : decode cX11_risk 2 = .ok (.invokevirtual 236, 3) := dk_182 0 236 (dk_at dksX11_risk_0 2 rfl rfl)
theorem dX11_risk_5 : decode cX11_risk 5 = .ok (.ifCond .eq 15, 3) := dk_153 0 15 (dk_at dksX11_risk_0 5 rfl rfl)
theorem dX11_risk_8 : decode cX11_risk 8 = .ok (.iload_n 2, 1) := dk_28 (dk_at dksX11_risk_0 8 rfl rfl)
theorem dX11_risk_9 : decode cX11_risk 9 = .ok (.i2l, 1) := dk_133 (dk_at dksX11_risk_0 9 rfl rfl)
theorem dX11_risk_10 : decode cX11_risk 10 = .ok (.lconst 0, 1) := dk_9 (dk_at dksX11_risk_0 10 rfl rfl)
theorem dX11_risk_11 : decode cX11_risk 11 = .ok (.ldc2_w 291, 3) := dk_20 1 35 (dk_at dksX11_risk_0 11 rfl rfl)
theorem dX11_risk_14 : decode cX11_risk 14 = .ok (.invokestatic 70, 3) := dk_184 0 70 (dk_at dksX11_risk_0 14 rfl rfl)
theorem dX11_risk_17 : decode cX11_risk 17 = .ok (.ifCond .ne 6, 3) := dk_154 0 6 (dk_at dksX11_risk_0 17 rfl rfl)
theorem dX11_risk_20 : decode cX11_risk 20 = .ok (.bipush (-2), 2) := dk_16 254 (dk_at dksX11_risk_0 20 rfl rfl)
theorem dX11_risk_22 : decode cX11_risk 22 = .ok (.ireturn, 1) := dk_172 (dk_at dksX11_risk_0 22 rfl rfl)
theorem dX11_risk_23 : decode cX11_risk 23 = .ok (.aload_n 0, 1) := dk_42 (dk_at dksX11_risk_0 23 rfl rfl)
theorem dX11_risk_24 : decode cX11_risk 24 = .ok (.iload_n 1, 1) := dk_27 (dk_at dksX11_risk_1 0 rfl rfl)
theorem dX11_risk_25 : decode cX11_risk 25 = .ok (.iload_n 2, 1) := dk_28 (dk_at dksX11_risk_1 1 rfl rfl)
theorem dX11_risk_26 : decode cX11_risk 26 = .ok (.invokevirtual 342, 3) := dk_182 1 86 (dk_at dksX11_risk_1 2 rfl rfl)
theorem dX11_risk_29 : decode cX11_risk 29 = .ok (.aload_n 0, 1) := dk_42 (dk_at dksX11_risk_1 5 rfl rfl)
theorem dX11_risk_30 : decode cX11_risk 30 = .ok (.invokevirtual 331, 3) := dk_182 1 75 (dk_at dksX11_risk_1 6 rfl rfl)
theorem dX11_risk_33 : decode cX11_risk 33 = .ok (.ireturn, 1) := dk_172 (dk_at dksX11_risk_1 9 rfl rfl)
abbrev cX11_findRisk : ByteArray := prog_19_method_82_code
def yX11_findRisk : MethodName := ⟨RX11, "findRisk", "(II)V"⟩
def dkwX11_findRisk_3 : List UInt8 := [182, 1, 64, 21, 4, 182, 1, 67, 132, 4, 1, 167, 255, 190, 177]
abbrev dktX11_findRisk_3 : List UInt8 := dkwX11_findRisk_3 ++ []
def dkwX11_findRisk_2 : List UInt8 := [162, 0, 30, 42, 42, 27, 21, 4, 182, 1, 78, 28, 182, 1, 82, 153, 0, 15, 42, 42, 21, 4]
abbrev dktX11_findRisk_2 : List UInt8 := dkwX11_findRisk_2 ++ dktX11_findRisk_3
def dkwX11_findRisk_1 : List UInt8 := [130, 126, 154, 0, 51, 42, 180, 1, 52, 2, 159, 0, 16, 42, 21, 4, 182, 1, 64, 42, 180, 1, 55]
abbrev dktX11_findRisk_1 : List UInt8 := dkwX11_findRisk_1 ++ dktX11_findRisk_2
def dkwX11_findRisk_0 : List UInt8 := [42, 2, 181, 1, 52, 42, 27, 182, 1, 58, 62, 3, 54, 4, 21, 4, 29, 163, 0, 66, 21, 4, 29, 2]
abbrev dktX11_findRisk_0 : List UInt8 := dkwX11_findRisk_0 ++ dktX11_findRisk_1
theorem dksX11_findRisk_0 : cX11_findRisk.data.toList.drop 0 = dktX11_findRisk_0 := by decide +kernel
theorem dksX11_findRisk_1 : cX11_findRisk.data.toList.drop 24 = dktX11_findRisk_1 := dk_seg dksX11_findRisk_0 24 rfl rfl
theorem dksX11_findRisk_2 : cX11_findRisk.data.toList.drop 47 = dktX11_findRisk_2 := dk_seg dksX11_findRisk_1 23 rfl rfl
theorem dksX11_findRisk_3 : cX11_findRisk.data.toList.drop 69 = dktX11_findRisk_3 := dk_seg dksX11_findRisk_2 22 rfl rfl
theorem dX11_findRisk_0 : decode cX11_findRisk 0 = .ok (.aload_n 0, 1) := dk_42 (dk_at dksX11_findRisk_0 0 rfl rfl)
theorem dX11_findRisk_1 : decode cX11_findRisk 1 = .ok (.iconst (-1), 1) := dk_2 (dk_at dksX11_findRisk_0 1 rfl rfl)
theorem dX11_findRisk_2 : decode cX11_findRisk 2 = .ok (.putfield 308, 3) := dk_181 1 52 (dk_at dksX11_findRisk_0 2 rfl rfl)
theorem dX11_findRisk_5 : decode cX11_findRisk 5 = .ok (.aload_n 0, 1) := dk_42 (dk_at dksX11_findRisk_0 5 rfl rfl)
theorem dX11_findRisk_6 : decode cX11_findRisk 6 = .ok (.iload_n 1, 1) := dk_27 (dk_at dksX11_findRisk_0 6 rfl rfl)
theorem dX11_findRisk_7 : decode cX11_findRisk 7 = .ok (.invokevirtual 314, 3) := dk_182 1 58 (dk_at dksX11_findRisk_0 7 rfl rfl)
theorem dX11_findRisk_10 : decode cX11_findRisk 10 = .ok (.istore_n 3, 1) := dk_62 (dk_at dksX11_findRisk_0 10 rfl rfl)
theorem dX11_findRisk_11 : decode cX11_findRisk 11 = .ok (.iconst 0, 1) := dk_3 (dk_at dksX11_findRisk_0 11 rfl rfl)
theorem dX11_findRisk_12 : decode cX11_findRisk 12 = .ok (.istore 4, 2) := dk_54 4 (dk_at dksX11_findRisk_0 12 rfl rfl)
theorem dX11_findRisk_14 : decode cX11_findRisk 14 = .ok (.iload 4, 2) := dk_21 4 (dk_at dksX11_findRisk_0 14 rfl rfl)
theorem dX11_findRisk_16 : decode cX11_findRisk 16 = .ok (.iload_n 3, 1) := dk_29 (dk_at dksX11_findRisk_0 16 rfl rfl)
theorem dX11_findRisk_17 : decode cX11_findRisk 17 = .ok (.if_icmp .gt 66, 3) := dk_163 0 66 (dk_at dksX11_findRisk_0 17 rfl rfl)
theorem dX11_findRisk_20 : decode cX11_findRisk 20 = .ok (.iload 4, 2) := dk_21 4 (dk_at dksX11_findRisk_0 20 rfl rfl)
theorem dX11_findRisk_22 : decode cX11_findRisk 22 = .ok (.iload_n 3, 1) := dk_29 (dk_at dksX11_findRisk_0 22 rfl rfl)
theorem dX11_findRisk_23 : decode cX11_findRisk 23 = .ok (.iconst (-1), 1) := dk_2 (dk_at dksX11_findRisk_0 23 rfl rfl)
theorem dX11_findRisk_24 : decode cX11_findRisk 24 = .ok (.ixor, 1) := dk_130 (dk_at dksX11_findRisk_1 0 rfl rfl)
theorem dX11_findRisk_25 : decode cX11_findRisk 25 = .ok (.iand, 1) := dk_126 (dk_at dksX11_findRisk_1 1 rfl rfl)
theorem dX11_findRisk_26 : decode cX11_findRisk 26 = .ok (.ifCond .ne 51, 3) := dk_154 0 51 (dk_at dksX11_findRisk_1 2 rfl rfl)
theorem dX11_findRisk_29 : decode cX11_findRisk 29 = .ok (.aload_n 0, 1) := dk_42 (dk_at dksX11_findRisk_1 5 rfl rfl)
theorem dX11_findRisk_30 : decode cX11_findRisk 30 = .ok (.getfield 308, 3) := dk_180 1 52 (dk_at dksX11_findRisk_1 6 rfl rfl)
theorem dX11_findRisk_33 : decode cX11_findRisk 33 = .ok (.iconst (-1), 1) := dk_2 (dk_at dksX11_findRisk_1 9 rfl rfl)
theorem dX11_findRisk_34 : decode cX11_findRisk 34 = .ok (.if_icmp .eq 16, 3) := dk_159 0 16 (dk_at dksX11_findRisk_1 10 rfl rfl)
theorem dX11_findRisk_37 : decode cX11_findRisk 37 = .ok (.aload_n 0, 1) := dk_42 (dk_at dksX11_findRisk_1 13 rfl rfl)
theorem dX11_findRisk_38 : decode cX11_findRisk 38 = .ok (.iload 4, 2) := dk_21 4 (dk_at dksX11_findRisk_1 14 rfl rfl)
theorem dX11_findRisk_40 : decode cX11_findRisk 40 = .ok (.invokevirtual 320, 3) := dk_182 1 64 (dk_at dksX11_findRisk_1 16 rfl rfl)
theorem dX11_findRisk_43 : decode cX11_findRisk 43 = .ok (.aload_n 0, 1) := dk_42 (dk_at dksX11_findRisk_1 19 rfl rfl)
theorem dX11_findRisk_44 : decode cX11_findRisk 44 = .ok (.getfield 311, 3) := dk_180 1 55 (dk_at dksX11_findRisk_1 20 rfl rfl)
theorem dX11_findRisk_47 : decode cX11_findRisk 47 = .ok (.if_icmp .ge 30, 3) := dk_162 0 30 (dk_at dksX11_findRisk_2 0 rfl rfl)
theorem dX11_findRisk_50 : decode cX11_findRisk 50 = .ok (.aload_n 0, 1) := dk_42 (dk_at dksX11_findRisk_2 3 rfl rfl)
theorem dX11_findRisk_51 : decode cX11_findRisk 51 = .ok (.aload_n 0, 1) := dk_42 (dk_at dksX11_findRisk_2 4 rfl rfl)
theorem dX11_findRisk_52 : decode cX11_findRisk 52 = .ok (.iload_n 1, 1) := dk_27 (dk_at dksX11_findRisk_2 5 rfl rfl)
theorem dX11_findRisk_53 : decode cX11_findRisk 53 = .ok (.iload 4, 2) := dk_21 4 (dk_at dksX11_findRisk_2 6 rfl rfl)
theorem dX11_findRisk_55 : decode cX11_findRisk 55 = .ok (.invokevirtual 334, 3) := dk_182 1 78 (dk_at dksX11_findRisk_2 8 rfl rfl)
theorem dX11_findRisk_58 : decode cX11_findRisk 58 = .ok (.iload_n 2, 1) := dk_28 (dk_at dksX11_findRisk_2 11 rfl rfl)
theorem dX11_findRisk_59 : decode cX11_findRisk 59 = .ok (.invokevirtual 338, 3) := dk_182 1 82 (dk_at dksX11_findRisk_2 12 rfl rfl)
theorem dX11_findRisk_62 : decode cX11_findRisk 62 = .ok (.ifCond .eq 15, 3) := dk_153 0 15 (dk_at dksX11_findRisk_2 15 rfl rfl)
theorem dX11_findRisk_65 : decode cX11_findRisk 65 = .ok (.aload_n 0, 1) := dk_42 (dk_at dksX11_findRisk_2 18 rfl rfl)
theorem dX11_findRisk_66 : decode cX11_findRisk 66 = .ok (.aload_n 0, 1) := dk_42 (dk_at dksX11_findRisk_2 19 rfl rfl)
theorem dX11_findRisk_67 : decode cX11_findRisk 67 = .ok (.iload 4, 2) := dk_21 4 (dk_at dksX11_findRisk_2 20 rfl rfl)
theorem dX11_findRisk_69 : decode cX11_findRisk 69 = .ok (.invokevirtual 320, 3) := dk_182 1 64 (dk_at dksX11_findRisk_3 0 rfl rfl)
theorem dX11_findRisk_72 : decode cX11_findRisk 72 = .ok (.iload 4, 2) := dk_21 4 (dk_at dksX11_findRisk_3 3 rfl rfl)
theorem dX11_findRisk_74 : decode cX11_findRisk 74 = .ok (.invokevirtual 323, 3) := dk_182 1 67 (dk_at dksX11_findRisk_3 5 rfl rfl)
theorem dX11_findRisk_77 : decode cX11_findRisk 77 = .ok (.iinc 4 1, 3) := dk_132 4 1 (dk_at dksX11_findRisk_3 8 rfl rfl)
theorem dX11_findRisk_80 : decode cX11_findRisk 80 = .ok (.goto (-66), 3) := dk_167 255 190 (dk_at dksX11_findRisk_3 11 rfl rfl)
theorem dX11_findRisk_83 : decode cX11_findRisk 83 = .ok (.return_, 1) := dk_177 (dk_at dksX11_findRisk_3 14 rfl rfl)
abbrev cX11_enoughBy : ByteArray := prog_19_method_80_code
def yX11_enoughBy : MethodName := ⟨RX11, "enoughBy", "(II)J"⟩
def dkwX11_enoughBy_2 : List UInt8 := [132, 5, 1, 167, 255, 212, 33, 173]
abbrev dktX11_enoughBy_2 : List UInt8 := dkwX11_enoughBy_2 ++ []
def dkwX11_enoughBy_1 : List UInt8 := [180, 0, 9, 16, 11, 27, 96, 46, 161, 0, 12, 42, 21, 5, 182, 1, 37, 167, 0, 4, 9, 97, 66]
abbrev dktX11_enoughBy_1 : List UInt8 := dkwX11_enoughBy_1 ++ dktX11_enoughBy_2
def dkwX11_enoughBy_0 : List UInt8 := [9, 66, 3, 54, 5, 21, 5, 42, 182, 0, 78, 163, 0, 41, 33, 42, 28, 21, 5, 182, 1, 49, 42]
abbrev dktX11_enoughBy_0 : List UInt8 := dkwX11_enoughBy_0 ++ dktX11_enoughBy_1
theorem dksX11_enoughBy_0 : cX11_enoughBy.data.toList.drop 0 = dktX11_enoughBy_0 := by decide +kernel
theorem dksX11_enoughBy_1 : cX11_enoughBy.data.toList.drop 23 = dktX11_enoughBy_1 := dk_seg dksX11_enoughBy_0 23 rfl rfl
theorem dksX11_enoughBy_2 : cX11_enoughBy.data.toList.drop 46 = dktX11_enoughBy_2 := dk_seg dksX11_enoughBy_1 23 rfl rfl
theorem dX11_enoughBy_0 : decode cX11_enoughBy 0 = .ok (.lconst 0, 1) := dk_9 (dk_at dksX11_enoughBy_0 0 rfl rfl)
theorem dX11_enoughBy_1 : decode cX11_enoughBy 1 = .ok (.lstore_n 3, 1) := dk_66 (dk_at dksX11_enoughBy_0 1 rfl rfl)
theorem dX11_enoughBy_2 : decode cX11_enoughBy 2 = .ok (.iconst 0, 1) := dk_3 (dk_at dksX11_enoughBy_0 2 rfl rfl)
theorem dX11_enoughBy_3 : decode cX11_enoughBy 3 = .ok (.istore 5, 2) := dk_54 5 (dk_at dksX11_enoughBy_0 3 rfl rfl)
theorem dX11_enoughBy_5 : decode cX11_enoughBy 5 = .ok (.iload 5, 2) := dk_21 5 (dk_at dksX11_enoughBy_0 5 rfl rfl)
theorem dX11_enoughBy_7 : decode cX11_enoughBy 7 = .ok (.aload_n 0, 1) := dk_42 (dk_at dksX11_enoughBy_0 7 rfl rfl)
theorem dX11_enoughBy_8 : decode cX11_enoughBy 8 = .ok (.invokevirtual 78, 3) := dk_182 0 78 (dk_at dksX11_enoughBy_0 8 rfl rfl)
theorem dX11_enoughBy_11 : decode cX11_enoughBy 11 = .ok (.if_icmp .gt 41, 3) := dk_163 0 41 (dk_at dksX11_enoughBy_0 11 rfl rfl)
theorem dX11_enoughBy_14 : decode cX11_enoughBy 14 = .ok (.lload_n 3, 1) := dk_33 (dk_at dksX11_enoughBy_0 14 rfl rfl)
theorem dX11_enoughBy_15 : decode cX11_enoughBy 15 = .ok (.aload_n 0, 1) := dk_42 (dk_at dksX11_enoughBy_0 15 rfl rfl)
theorem dX11_enoughBy_16 : decode cX11_enoughBy 16 = .ok (.iload_n 2, 1) := dk_28 (dk_at dksX11_enoughBy_0 16 rfl rfl)
theorem dX11_enoughBy_17 : decode cX11_enoughBy 17 = .ok (.iload 5, 2) := dk_21 5 (dk_at dksX11_enoughBy_0 17 rfl rfl)
theorem dX11_enoughBy_19 : decode cX11_enoughBy 19 = .ok (.invokevirtual 305, 3) := dk_182 1 49 (dk_at dksX11_enoughBy_0 19 rfl rfl)
theorem dX11_enoughBy_22 : decode cX11_enoughBy 22 = .ok (.aload_n 0, 1) := dk_42 (dk_at dksX11_enoughBy_0 22 rfl rfl)
theorem dX11_enoughBy_23 : decode cX11_enoughBy 23 = .ok (.getfield 9, 3) := dk_180 0 9 (dk_at dksX11_enoughBy_1 0 rfl rfl)
theorem dX11_enoughBy_26 : decode cX11_enoughBy 26 = .ok (.bipush 11, 2) := dk_16 11 (dk_at dksX11_enoughBy_1 3 rfl rfl)
theorem dX11_enoughBy_28 : decode cX11_enoughBy 28 = .ok (.iload_n 1, 1) := dk_27 (dk_at dksX11_enoughBy_1 5 rfl rfl)
theorem dX11_enoughBy_29 : decode cX11_enoughBy 29 = .ok (.iadd, 1) := dk_96 (dk_at dksX11_enoughBy_1 6 rfl rfl)
theorem dX11_enoughBy_30 : decode cX11_enoughBy 30 = .ok (.iaload, 1) := dk_46 (dk_at dksX11_enoughBy_1 7 rfl rfl)
theorem dX11_enoughBy_31 : decode cX11_enoughBy 31 = .ok (.if_icmp .lt 12, 3) := dk_161 0 12 (dk_at dksX11_enoughBy_1 8 rfl rfl)
theorem dX11_enoughBy_34 : decode cX11_enoughBy 34 = .ok (.aload_n 0, 1) := dk_42 (dk_at dksX11_enoughBy_1 11 rfl rfl)
theorem dX11_enoughBy_35 : decode cX11_enoughBy 35 = .ok (.iload 5, 2) := dk_21 5 (dk_at dksX11_enoughBy_1 12 rfl rfl)
theorem dX11_enoughBy_37 : decode cX11_enoughBy 37 = .ok (.invokevirtual 293, 3) := dk_182 1 37 (dk_at dksX11_enoughBy_1 14 rfl rfl)
theorem dX11_enoughBy_40 : decode cX11_enoughBy 40 = .ok (.goto 4, 3) := dk_167 0 4 (dk_at dksX11_enoughBy_1 17 rfl rfl)
theorem dX11_enoughBy_43 : decode cX11_enoughBy 43 = .ok (.lconst 0, 1) := dk_9 (dk_at dksX11_enoughBy_1 20 rfl rfl)
theorem dX11_enoughBy_44 : decode cX11_enoughBy 44 = .ok (.ladd, 1) := dk_97 (dk_at dksX11_enoughBy_1 21 rfl rfl)
theorem dX11_enoughBy_45 : decode cX11_enoughBy 45 = .ok (.lstore_n 3, 1) := dk_66 (dk_at dksX11_enoughBy_1 22 rfl rfl)
theorem dX11_enoughBy_46 : decode cX11_enoughBy 46 = .ok (.iinc 5 1, 3) := dk_132 5 1 (dk_at dksX11_enoughBy_2 0 rfl rfl)
theorem dX11_enoughBy_49 : decode cX11_enoughBy 49 = .ok (.goto (-44), 3) := dk_167 255 212 (dk_at dksX11_enoughBy_2 3 rfl rfl)
theorem dX11_enoughBy_52 : decode cX11_enoughBy 52 = .ok (.lload_n 3, 1) := dk_33 (dk_at dksX11_enoughBy_2 6 rfl rfl)
theorem dX11_enoughBy_53 : decode cX11_enoughBy 53 = .ok (.lreturn, 1) := dk_173 (dk_at dksX11_enoughBy_2 7 rfl rfl)
abbrev cX11_isOften : ByteArray := prog_19_method_81_code
def yX11_isOften : MethodName := ⟨RX11, "isOften", "(JI)Z"⟩
def dkwX11_isOften_2 : List UInt8 := [3, 172]
abbrev dktX11_isOften_2 : List UInt8 := dkwX11_isOften_2 ++ []
def dkwX11_isOften_1 : List UInt8 := [3, 167, 0, 24, 31, 42, 182, 1, 41, 20, 1, 35, 109, 29, 133, 105, 148, 155, 0, 7, 4, 167, 0, 4]
abbrev dktX11_isOften_1 : List UInt8 := dkwX11_isOften_1 ++ dktX11_isOften_2
def dkwX11_isOften_0 : List UInt8 := [42, 180, 0, 9, 7, 46, 154, 0, 22, 31, 20, 1, 35, 105, 29, 133, 148, 155, 0, 7, 4, 167, 0, 28]
abbrev dktX11_isOften_0 : List UInt8 := dkwX11_isOften_0 ++ dktX11_isOften_1
theorem dksX11_isOften_0 : cX11_isOften.data.toList.drop 0 = dktX11_isOften_0 := by decide +kernel
theorem dksX11_isOften_1 : cX11_isOften.data.toList.drop 24 = dktX11_isOften_1 := dk_seg dksX11_isOften_0 24 rfl rfl
theorem dksX11_isOften_2 : cX11_isOften.data.toList.drop 48 = dktX11_isOften_2 := dk_seg dksX11_isOften_1 24 rfl rfl
theorem dX11_isOften_0 : decode cX11_isOften 0 = .ok (.aload_n 0, 1) := dk_42 (dk_at dksX11_isOften_0 0 rfl rfl)
theorem dX11_isOften_1 : decode cX11_isOften 1 = .ok (.getfield 9, 3) := dk_180 0 9 (dk_at dksX11_isOften_0 1 rfl rfl)
theorem dX11_isOften_4 : decode cX11_isOften 4 = .ok (.iconst 4, 1) := dk_7 (dk_at dksX11_isOften_0 4 rfl rfl)
theorem dX11_isOften_5 : decode cX11_isOften 5 = .ok (.iaload, 1) := dk_46 (dk_at dksX11_isOften_0 5 rfl rfl)
theorem dX11_isOften_6 : decode cX11_isOften 6 = .ok (.ifCond .ne 22, 3) := dk_154 0 22 (dk_at dksX11_isOften_0 6 rfl rfl)
theorem dX11_isOften_9 : decode cX11_isOften 9 = .ok (.lload_n 1, 1) := dk_31 (dk_at dksX11_isOften_0 9 rfl rfl)
theorem dX11_isOften_10 : decode cX11_isOften 10 = .ok (.ldc2_w 291, 3) := dk_20 1 35 (dk_at dksX11_isOften_0 10 rfl rfl)
theorem dX11_isOften_13 : decode cX11_isOften 13 = .ok (.lmul, 1) := dk_105 (dk_at dksX11_isOften_0 13 rfl rfl)
theorem dX11_isOften_14 : decode cX11_isOften 14 = .ok (.iload_n 3, 1) := dk_29 (dk_at dksX11_isOften_0 14 rfl rfl)
theorem dX11_isOften_15 : decode cX11_isOften 15 = .ok (.i2l, 1) := dk_133 (dk_at dksX11_isOften_0 15 rfl rfl)
theorem dX11_isOften_16 : decode cX11_isOften 16 = .ok (.lcmp, 1) := dk_148 (dk_at dksX11_isOften_0 16 rfl rfl)
theorem dX11_isOften_17 : decode cX11_isOften 17 = .ok (.ifCond .lt 7, 3) := dk_155 0 7 (dk_at dksX11_isOften_0 17 rfl rfl)
theorem dX11_isOften_20 : decode cX11_isOften 20 = .ok (.iconst 1, 1) := dk_4 (dk_at dksX11_isOften_0 20 rfl rfl)
theorem dX11_isOften_21 : decode cX11_isOften 21 = .ok (.goto 28, 3) := dk_167 0 28 (dk_at dksX11_isOften_0 21 rfl rfl)
theorem dX11_isOften_24 : decode cX11_isOften 24 = .ok (.iconst 0, 1) := dk_3 (dk_at dksX11_isOften_1 0 rfl rfl)
theorem dX11_isOften_25 : decode cX11_isOften 25 = .ok (.goto 24, 3) := dk_167 0 24 (dk_at dksX11_isOften_1 1 rfl rfl)
theorem dX11_isOften_28 : decode cX11_isOften 28 = .ok (.lload_n 1, 1) := dk_31 (dk_at dksX11_isOften_1 4 rfl rfl)
theorem dX11_isOften_29 : decode cX11_isOften 29 = .ok (.aload_n 0, 1) := dk_42 (dk_at dksX11_isOften_1 5 rfl rfl)
theorem dX11_isOften_30 : decode cX11_isOften 30 = .ok (.invokevirtual 297, 3) := dk_182 1 41 (dk_at dksX11_isOften_1 6 rfl rfl)
theorem dX11_isOften_33 : decode cX11_isOften 33 = .ok (.ldc2_w 291, 3) := dk_20 1 35 (dk_at dksX11_isOften_1 9 rfl rfl)
theorem dX11_isOften_36 : decode cX11_isOften 36 = .ok (.ldiv, 1) := dk_109 (dk_at dksX11_isOften_1 12 rfl rfl)
theorem dX11_isOften_37 : decode cX11_isOften 37 = .ok (.iload_n 3, 1) := dk_29 (dk_at dksX11_isOften_1 13 rfl rfl)
theorem dX11_isOften_38 : decode cX11_isOften 38 = .ok (.i2l, 1) := dk_133 (dk_at dksX11_isOften_1 14 rfl rfl)
theorem dX11_isOften_39 : decode cX11_isOften 39 = .ok (.lmul, 1) := dk_105 (dk_at dksX11_isOften_1 15 rfl rfl)
theorem dX11_isOften_40 : decode cX11_isOften 40 = .ok (.lcmp, 1) := dk_148 (dk_at dksX11_isOften_1 16 rfl rfl)
theorem dX11_isOften_41 : decode cX11_isOften 41 = .ok (.ifCond .lt 7, 3) := dk_155 0 7 (dk_at dksX11_isOften_1 17 rfl rfl)
theorem dX11_isOften_44 : decode cX11_isOften 44 = .ok (.iconst 1, 1) := dk_4 (dk_at dksX11_isOften_1 20 rfl rfl)
theorem dX11_isOften_45 : decode cX11_isOften 45 = .ok (.goto 4, 3) := dk_167 0 4 (dk_at dksX11_isOften_1 21 rfl rfl)
theorem dX11_isOften_48 : decode cX11_isOften 48 = .ok (.iconst 0, 1) := dk_3 (dk_at dksX11_isOften_2 0 rfl rfl)
theorem dX11_isOften_49 : decode cX11_isOften 49 = .ok (.ireturn, 1) := dk_172 (dk_at dksX11_isOften_2 1 rfl rfl)
abbrev cX11_risked : ByteArray := prog_19_method_84_code
def yX11_risked : MethodName := ⟨RX11, "risked", "(II)I"⟩
def dkwX11_risked_1 : List UInt8 := [27, 28, 182, 1, 86, 42, 180, 1, 52, 172]
abbrev dktX11_risked_1 : List UInt8 := dkwX11_risked_1 ++ []
def dkwX11_risked_0 : List UInt8 := [42, 27, 182, 0, 236, 153, 0, 15, 28, 133, 9, 20, 1, 35, 184, 0, 70, 154, 0, 6, 16, 254, 172, 42]
abbrev dktX11_risked_0 : List UInt8 := dkwX11_risked_0 ++ dktX11_risked_1
theorem dksX11_risked_0 : cX11_risked.data.toList.drop 0 = dktX11_risked_0 := by decide +kernel
theorem dksX11_risked_1 : cX11_risked.data.toList.drop 24 = dktX11_risked_1 := dk_seg dksX11_risked_0 24 rfl rfl
theorem dX11_risked_0 : decode cX11_risked 0 = .ok (.aload_n 0, 1) := dk_42 (dk_at dksX11_risked_0 0 rfl rfl)
theorem dX11_risked_1 : decode cX11_risked 1 = .ok (.iload_n 1, 1) := dk_27 (dk_at dksX11_risked_0 1 rfl rfl)
theorem dX11_risked_2 : decode cX11_risked 2 = .ok (.invokevirtual 236, 3) := dk_182 0 236 (dk_at dksX11_risked_0 2 rfl rfl)
theorem dX11_risked_5 : decode cX11_risked 5 = .ok (.ifCond .eq 15, 3) := dk_153 0 15 (dk_at dksX11_risked_0 5 rfl rfl)
theorem dX11_risked_8 : decode cX11_risked 8 = .ok (.iload_n 2, 1) := dk_28 (dk_at dksX11_risked_0 8 rfl rfl)
theorem dX11_risked_9 : decode cX11_risked 9 = .ok (.i2l, 1) := dk_133 (dk_at dksX11_risked_0 9 rfl rfl)
theorem dX11_risked_10 : decode cX11_risked 10 = .ok (.lconst 0, 1) := dk_9 (dk_at dksX11_risked_0 10 rfl rfl)
theorem dX11_risked_11 : decode cX11_risked 11 = .ok (.ldc2_w 291, 3) := dk_20 1 35 (dk_at dksX11_risked_0 11 rfl rfl)
theorem dX11_risked_14 : decode cX11_risked 14 = .ok (.invokestatic 70, 3) := dk_184 0 70 (dk_at dksX11_risked_0 14 rfl rfl)
theorem dX11_risked_17 : decode cX11_risked 17 = .ok (.ifCond .ne 6, 3) := dk_154 0 6 (dk_at dksX11_risked_0 17 rfl rfl)
theorem dX11_risked_20 : decode cX11_risked 20 = .ok (.bipush (-2), 2) := dk_16 254 (dk_at dksX11_risked_0 20 rfl rfl)
theorem dX11_risked_22 : decode cX11_risked 22 = .ok (.ireturn, 1) := dk_172 (dk_at dksX11_risked_0 22 rfl rfl)
theorem dX11_risked_23 : decode cX11_risked 23 = .ok (.aload_n 0, 1) := dk_42 (dk_at dksX11_risked_0 23 rfl rfl)
theorem dX11_risked_24 : decode cX11_risked 24 = .ok (.iload_n 1, 1) := dk_27 (dk_at dksX11_risked_1 0 rfl rfl)
theorem dX11_risked_25 : decode cX11_risked 25 = .ok (.iload_n 2, 1) := dk_28 (dk_at dksX11_risked_1 1 rfl rfl)
theorem dX11_risked_26 : decode cX11_risked 26 = .ok (.invokevirtual 342, 3) := dk_182 1 86 (dk_at dksX11_risked_1 2 rfl rfl)
theorem dX11_risked_29 : decode cX11_risked 29 = .ok (.aload_n 0, 1) := dk_42 (dk_at dksX11_risked_1 5 rfl rfl)
theorem dX11_risked_30 : decode cX11_risked 30 = .ok (.getfield 308, 3) := dk_180 1 52 (dk_at dksX11_risked_1 6 rfl rfl)
theorem dX11_risked_33 : decode cX11_risked 33 = .ok (.ireturn, 1) := dk_172 (dk_at dksX11_risked_1 9 rfl rfl)
abbrev cX11_bribe : ByteArray := prog_19_method_86_code
def yX11_bribe : MethodName := ⟨RX11, "bribe", "(I)I"⟩
def dkwX11_bribe_0 : List UInt8 := [42, 27, 182, 0, 236, 154, 0, 6, 16, 254, 172, 42, 27, 3, 182, 1, 89, 42, 182, 1, 75, 172]
abbrev dktX11_bribe_0 : List UInt8 := dkwX11_bribe_0 ++ []
theorem dksX11_bribe_0 : cX11_bribe.data.toList.drop 0 = dktX11_bribe_0 := by decide +kernel
theorem dX11_bribe_0 : decode cX11_bribe 0 = .ok (.aload_n 0, 1) := dk_42 (dk_at dksX11_bribe_0 0 rfl rfl)
theorem dX11_bribe_1 : decode cX11_bribe 1 = .ok (.iload_n 1, 1) := dk_27 (dk_at dksX11_bribe_0 1 rfl rfl)
theorem dX11_bribe_2 : decode cX11_bribe 2 = .ok (.invokevirtual 236, 3) := dk_182 0 236 (dk_at dksX11_bribe_0 2 rfl rfl)
theorem dX11_bribe_5 : decode cX11_bribe 5 = .ok (.ifCond .ne 6, 3) := dk_154 0 6 (dk_at dksX11_bribe_0 5 rfl rfl)
theorem dX11_bribe_8 : decode cX11_bribe 8 = .ok (.bipush (-2), 2) := dk_16 254 (dk_at dksX11_bribe_0 8 rfl rfl)
theorem dX11_bribe_10 : decode cX11_bribe 10 = .ok (.ireturn, 1) := dk_172 (dk_at dksX11_bribe_0 10 rfl rfl)
theorem dX11_bribe_11 : decode cX11_bribe 11 = .ok (.aload_n 0, 1) := dk_42 (dk_at dksX11_bribe_0 11 rfl rfl)
theorem dX11_bribe_12 : decode cX11_bribe 12 = .ok (.iload_n 1, 1) := dk_27 (dk_at dksX11_bribe_0 12 rfl rfl)
theorem dX11_bribe_13 : decode cX11_bribe 13 = .ok (.iconst 0, 1) := dk_3 (dk_at dksX11_bribe_0 13 rfl rfl)
theorem dX11_bribe_14 : decode cX11_bribe 14 = .ok (.invokevirtual 345, 3) := dk_182 1 89 (dk_at dksX11_bribe_0 14 rfl rfl)
theorem dX11_bribe_17 : decode cX11_bribe 17 = .ok (.aload_n 0, 1) := dk_42 (dk_at dksX11_bribe_0 17 rfl rfl)
theorem dX11_bribe_18 : decode cX11_bribe 18 = .ok (.invokevirtual 331, 3) := dk_182 1 75 (dk_at dksX11_bribe_0 18 rfl rfl)
theorem dX11_bribe_21 : decode cX11_bribe 21 = .ok (.ireturn, 1) := dk_172 (dk_at dksX11_bribe_0 21 rfl rfl)
abbrev cX11_findBribe : ByteArray := prog_19_method_85_code
def yX11_findBribe : MethodName := ⟨RX11, "findBribe", "(II)V"⟩
def dkwX11_findBribe_2 : List UInt8 := [182, 1, 64, 21, 4, 182, 1, 67, 132, 4, 1, 167, 255, 216, 177]
abbrev dktX11_findBribe_2 : List UInt8 := dkwX11_findBribe_2 ++ []
def dkwX11_findBribe_1 : List UInt8 := [21, 4, 29, 2, 130, 126, 154, 0, 25, 42, 27, 21, 4, 182, 0, 254, 153, 0, 15, 42, 42, 21, 4]
abbrev dktX11_findBribe_1 : List UInt8 := dkwX11_findBribe_1 ++ dktX11_findBribe_2
def dkwX11_findBribe_0 : List UInt8 := [42, 2, 181, 1, 52, 42, 27, 182, 1, 58, 28, 2, 130, 126, 62, 3, 54, 4, 21, 4, 29, 163, 0, 40]
abbrev dktX11_findBribe_0 : List UInt8 := dkwX11_findBribe_0 ++ dktX11_findBribe_1
theorem dksX11_findBribe_0 : cX11_findBribe.data.toList.drop 0 = dktX11_findBribe_0 := by decide +kernel
theorem dksX11_findBribe_1 : cX11_findBribe.data.toList.drop 24 = dktX11_findBribe_1 := dk_seg dksX11_findBribe_0 24 rfl rfl
theorem dksX11_findBribe_2 : cX11_findBribe.data.toList.drop 47 = dktX11_findBribe_2 := dk_seg dksX11_findBribe_1 23 rfl rfl
theorem dX11_findBribe_0 : decode cX11_findBribe 0 = .ok (.aload_n 0, 1) := dk_42 (dk_at dksX11_findBribe_0 0 rfl rfl)
theorem dX11_findBribe_1 : decode cX11_findBribe 1 = .ok (.iconst (-1), 1) := dk_2 (dk_at dksX11_findBribe_0 1 rfl rfl)
theorem dX11_findBribe_2 : decode cX11_findBribe 2 = .ok (.putfield 308, 3) := dk_181 1 52 (dk_at dksX11_findBribe_0 2 rfl rfl)
theorem dX11_findBribe_5 : decode cX11_findBribe 5 = .ok (.aload_n 0, 1) := dk_42 (dk_at dksX11_findBribe_0 5 rfl rfl)
theorem dX11_findBribe_6 : decode cX11_findBribe 6 = .ok (.iload_n 1, 1) := dk_27 (dk_at dksX11_findBribe_0 6 rfl rfl)
theorem dX11_findBribe_7 : decode cX11_findBribe 7 = .ok (.invokevirtual 314, 3) := dk_182 1 58 (dk_at dksX11_findBribe_0 7 rfl rfl)
theorem dX11_findBribe_10 : decode cX11_findBribe 10 = .ok (.iload_n 2, 1) := dk_28 (dk_at dksX11_findBribe_0 10 rfl rfl)
theorem dX11_findBribe_11 : decode cX11_findBribe 11 = .ok (.iconst (-1), 1) := dk_2 (dk_at dksX11_findBribe_0 11 rfl rfl)
theorem dX11_findBribe_12 : decode cX11_findBribe 12 = .ok (.ixor, 1) := dk_130 (dk_at dksX11_findBribe_0 12 rfl rfl)
theorem dX11_findBribe_13 : decode cX11_findBribe 13 = .ok (.iand, 1) := dk_126 (dk_at dksX11_findBribe_0 13 rfl rfl)
theorem dX11_findBribe_14 : decode cX11_findBribe 14 = .ok (.istore_n 3, 1) := dk_62 (dk_at dksX11_findBribe_0 14 rfl rfl)
theorem dX11_findBribe_15 : decode cX11_findBribe 15 = .ok (.iconst 0, 1) := dk_3 (dk_at dksX11_findBribe_0 15 rfl rfl)
theorem dX11_findBribe_16 : decode cX11_findBribe 16 = .ok (.istore 4, 2) := dk_54 4 (dk_at dksX11_findBribe_0 16 rfl rfl)
theorem dX11_findBribe_18 : decode cX11_findBribe 18 = .ok (.iload 4, 2) := dk_21 4 (dk_at dksX11_findBribe_0 18 rfl rfl)
theorem dX11_findBribe_20 : decode cX11_findBribe 20 = .ok (.iload_n 3, 1) := dk_29 (dk_at dksX11_findBribe_0 20 rfl rfl)
theorem dX11_findBribe_21 : decode cX11_findBribe 21 = .ok (.if_icmp .gt 40, 3) := dk_163 0 40 (dk_at dksX11_findBribe_0 21 rfl rfl)
theorem dX11_findBribe_24 : decode cX11_findBribe 24 = .ok (.iload 4, 2) := dk_21 4 (dk_at dksX11_findBribe_1 0 rfl rfl)
theorem dX11_findBribe_26 : decode cX11_findBribe 26 = .ok (.iload_n 3, 1) := dk_29 (dk_at dksX11_findBribe_1 2 rfl rfl)
theorem dX11_findBribe_27 : decode cX11_findBribe 27 = .ok (.iconst (-1), 1) := dk_2 (dk_at dksX11_findBribe_1 3 rfl rfl)
theorem dX11_findBribe_28 : decode cX11_findBribe 28 = .ok (.ixor, 1) := dk_130 (dk_at dksX11_findBribe_1 4 rfl rfl)
theorem dX11_findBribe_29 : decode cX11_findBribe 29 = .ok (.iand, 1) := dk_126 (dk_at dksX11_findBribe_1 5 rfl rfl)
theorem dX11_findBribe_30 : decode cX11_findBribe 30 = .ok (.ifCond .ne 25, 3) := dk_154 0 25 (dk_at dksX11_findBribe_1 6 rfl rfl)
theorem dX11_findBribe_33 : decode cX11_findBribe 33 = .ok (.aload_n 0, 1) := dk_42 (dk_at dksX11_findBribe_1 9 rfl rfl)
theorem dX11_findBribe_34 : decode cX11_findBribe 34 = .ok (.iload_n 1, 1) := dk_27 (dk_at dksX11_findBribe_1 10 rfl rfl)
theorem dX11_findBribe_35 : decode cX11_findBribe 35 = .ok (.iload 4, 2) := dk_21 4 (dk_at dksX11_findBribe_1 11 rfl rfl)
theorem dX11_findBribe_37 : decode cX11_findBribe 37 = .ok (.invokevirtual 254, 3) := dk_182 0 254 (dk_at dksX11_findBribe_1 13 rfl rfl)
theorem dX11_findBribe_40 : decode cX11_findBribe 40 = .ok (.ifCond .eq 15, 3) := dk_153 0 15 (dk_at dksX11_findBribe_1 16 rfl rfl)
theorem dX11_findBribe_43 : decode cX11_findBribe 43 = .ok (.aload_n 0, 1) := dk_42 (dk_at dksX11_findBribe_1 19 rfl rfl)
theorem dX11_findBribe_44 : decode cX11_findBribe 44 = .ok (.aload_n 0, 1) := dk_42 (dk_at dksX11_findBribe_1 20 rfl rfl)
theorem dX11_findBribe_45 : decode cX11_findBribe 45 = .ok (.iload 4, 2) := dk_21 4 (dk_at dksX11_findBribe_1 21 rfl rfl)
theorem dX11_findBribe_47 : decode cX11_findBribe 47 = .ok (.invokevirtual 320, 3) := dk_182 1 64 (dk_at dksX11_findBribe_2 0 rfl rfl)
theorem dX11_findBribe_50 : decode cX11_findBribe 50 = .ok (.iload 4, 2) := dk_21 4 (dk_at dksX11_findBribe_2 3 rfl rfl)
theorem dX11_findBribe_52 : decode cX11_findBribe 52 = .ok (.invokevirtual 323, 3) := dk_182 1 67 (dk_at dksX11_findBribe_2 5 rfl rfl)
theorem dX11_findBribe_55 : decode cX11_findBribe 55 = .ok (.iinc 4 1, 3) := dk_132 4 1 (dk_at dksX11_findBribe_2 8 rfl rfl)
theorem dX11_findBribe_58 : decode cX11_findBribe 58 = .ok (.goto (-40), 3) := dk_167 255 216 (dk_at dksX11_findBribe_2 11 rfl rfl)
theorem dX11_findBribe_61 : decode cX11_findBribe 61 = .ok (.return_, 1) := dk_177 (dk_at dksX11_findBribe_2 14 rfl rfl)
abbrev cX11_bribed : ByteArray := prog_19_method_87_code
def yX11_bribed : MethodName := ⟨RX11, "bribed", "(I)I"⟩
def dkwX11_bribed_0 : List UInt8 := [42, 27, 182, 0, 236, 154, 0, 6, 16, 254, 172, 42, 27, 3, 182, 1, 89, 42, 180, 1, 52, 172]
abbrev dktX11_bribed_0 : List UInt8 := dkwX11_bribed_0 ++ []
theorem dksX11_bribed_0 : cX11_bribed.data.toList.drop 0 = dktX11_bribed_0 := by decide +kernel
theorem dX11_bribed_0 : decode cX11_bribed 0 = .ok (.aload_n 0, 1) := dk_42 (dk_at dksX11_bribed_0 0 rfl rfl)
theorem dX11_bribed_1 : decode cX11_bribed 1 = .ok (.iload_n 1, 1) := dk_27 (dk_at dksX11_bribed_0 1 rfl rfl)
theorem dX11_bribed_2 : decode cX11_bribed 2 = .ok (.invokevirtual 236, 3) := dk_182 0 236 (dk_at dksX11_bribed_0 2 rfl rfl)
theorem dX11_bribed_5 : decode cX11_bribed 5 = .ok (.ifCond .ne 6, 3) := dk_154 0 6 (dk_at dksX11_bribed_0 5 rfl rfl)
theorem dX11_bribed_8 : decode cX11_bribed 8 = .ok (.bipush (-2), 2) := dk_16 254 (dk_at dksX11_bribed_0 8 rfl rfl)
theorem dX11_bribed_10 : decode cX11_bribed 10 = .ok (.ireturn, 1) := dk_172 (dk_at dksX11_bribed_0 10 rfl rfl)
theorem dX11_bribed_11 : decode cX11_bribed 11 = .ok (.aload_n 0, 1) := dk_42 (dk_at dksX11_bribed_0 11 rfl rfl)
theorem dX11_bribed_12 : decode cX11_bribed 12 = .ok (.iload_n 1, 1) := dk_27 (dk_at dksX11_bribed_0 12 rfl rfl)
theorem dX11_bribed_13 : decode cX11_bribed 13 = .ok (.iconst 0, 1) := dk_3 (dk_at dksX11_bribed_0 13 rfl rfl)
theorem dX11_bribed_14 : decode cX11_bribed 14 = .ok (.invokevirtual 345, 3) := dk_182 1 89 (dk_at dksX11_bribed_0 14 rfl rfl)
theorem dX11_bribed_17 : decode cX11_bribed 17 = .ok (.aload_n 0, 1) := dk_42 (dk_at dksX11_bribed_0 17 rfl rfl)
theorem dX11_bribed_18 : decode cX11_bribed 18 = .ok (.getfield 308, 3) := dk_180 1 52 (dk_at dksX11_bribed_0 18 rfl rfl)
theorem dX11_bribed_21 : decode cX11_bribed 21 = .ok (.ireturn, 1) := dk_172 (dk_at dksX11_bribed_0 21 rfl rfl)
abbrev cX11_guard : ByteArray := prog_19_method_89_code
def yX11_guard : MethodName := ⟨RX11, "guard", "(I)I"⟩
def dkwX11_guard_0 : List UInt8 := [42, 27, 182, 0, 236, 153, 0, 11, 42, 27, 182, 1, 95, 167, 0, 5, 16, 254, 172]
abbrev dktX11_guard_0 : List UInt8 := dkwX11_guard_0 ++ []
theorem dksX11_guard_0 : cX11_guard.data.toList.drop 0 = dktX11_guard_0 := by decide +kernel
theorem dX11_guard_0 : decode cX11_guard 0 = .ok (.aload_n 0, 1) := dk_42 (dk_at dksX11_guard_0 0 rfl rfl)
theorem dX11_guard_1 : decode cX11_guard 1 = .ok (.iload_n 1, 1) := dk_27 (dk_at dksX11_guard_0 1 rfl rfl)
theorem dX11_guard_2 : decode cX11_guard 2 = .ok (.invokevirtual 236, 3) := dk_182 0 236 (dk_at dksX11_guard_0 2 rfl rfl)
theorem dX11_guard_5 : decode cX11_guard 5 = .ok (.ifCond .eq 11, 3) := dk_153 0 11 (dk_at dksX11_guard_0 5 rfl rfl)
theorem dX11_guard_8 : decode cX11_guard 8 = .ok (.aload_n 0, 1) := dk_42 (dk_at dksX11_guard_0 8 rfl rfl)
theorem dX11_guard_9 : decode cX11_guard 9 = .ok (.iload_n 1, 1) := dk_27 (dk_at dksX11_guard_0 9 rfl rfl)
theorem dX11_guard_10 : decode cX11_guard 10 = .ok (.invokevirtual 351, 3) := dk_182 1 95 (dk_at dksX11_guard_0 10 rfl rfl)
theorem dX11_guard_13 : decode cX11_guard 13 = .ok (.goto 5, 3) := dk_167 0 5 (dk_at dksX11_guard_0 13 rfl rfl)
theorem dX11_guard_16 : decode cX11_guard 16 = .ok (.bipush (-2), 2) := dk_16 254 (dk_at dksX11_guard_0 16 rfl rfl)
theorem dX11_guard_18 : decode cX11_guard 18 = .ok (.ireturn, 1) := dk_172 (dk_at dksX11_guard_0 18 rfl rfl)
abbrev cX11_guardOf : ByteArray := prog_19_method_88_code
def yX11_guardOf : MethodName := ⟨RX11, "guardOf", "(I)I"⟩
def dkwX11_guardOf_4 : List UInt8 := [42, 21, 4, 181, 1, 92, 29, 61, 132, 3, 1, 167, 255, 182, 28, 172]
abbrev dktX11_guardOf_4 : List UInt8 := dkwX11_guardOf_4 ++ []
def dkwX11_guardOf_3 : List UInt8 := [19, 1, 24, 167, 0, 7, 42, 180, 1, 55, 54, 4, 21, 4, 42, 180, 1, 92, 163, 0, 6, 167, 0, 11]
abbrev dktX11_guardOf_3 : List UInt8 := dkwX11_guardOf_3 ++ dktX11_guardOf_4
def dkwX11_guardOf_2 : List UInt8 := [27, 159, 0, 6, 167, 0, 51, 42, 27, 4, 29, 120, 182, 1, 89, 42, 180, 1, 52, 2, 160, 0, 9]
abbrev dktX11_guardOf_2 : List UInt8 := dkwX11_guardOf_2 ++ dktX11_guardOf_3
def dkwX11_guardOf_1 : List UInt8 := [180, 1, 55, 181, 1, 92, 3, 62, 29, 42, 180, 0, 9, 7, 46, 162, 0, 70, 42, 29, 3, 182, 0, 82]
abbrev dktX11_guardOf_1 : List UInt8 := dkwX11_guardOf_1 ++ dktX11_guardOf_2
def dkwX11_guardOf_0 : List UInt8 := [42, 27, 3, 182, 1, 89, 2, 61, 42, 42, 180, 1, 52, 2, 160, 0, 9, 19, 1, 24, 167, 0, 7, 42]
abbrev dktX11_guardOf_0 : List UInt8 := dkwX11_guardOf_0 ++ dktX11_guardOf_1
theorem dksX11_guardOf_0 : cX11_guardOf.data.toList.drop 0 = dktX11_guardOf_0 := by decide +kernel
theorem dksX11_guardOf_1 : cX11_guardOf.data.toList.drop 24 = dktX11_guardOf_1 := dk_seg dksX11_guardOf_0 24 rfl rfl
theorem dksX11_guardOf_2 : cX11_guardOf.data.toList.drop 48 = dktX11_guardOf_2 := dk_seg dksX11_guardOf_1 24 rfl rfl
theorem dksX11_guardOf_3 : cX11_guardOf.data.toList.drop 71 = dktX11_guardOf_3 := dk_seg dksX11_guardOf_2 23 rfl rfl
theorem dksX11_guardOf_4 : cX11_guardOf.data.toList.drop 95 = dktX11_guardOf_4 := dk_seg dksX11_guardOf_3 24 rfl rfl
theorem dX11_guardOf_0 : decode cX11_guardOf 0 = .ok (.aload_n 0, 1) := dk_42 (dk_at dksX11_guardOf_0 0 rfl rfl)
theorem dX11_guardOf_1 : decode cX11_guardOf 1 = .ok (.iload_n 1, 1) := dk_27 (dk_at dksX11_guardOf_0 1 rfl rfl)
theorem dX11_guardOf_2 : decode cX11_guardOf 2 = .ok (.iconst 0, 1) := dk_3 (dk_at dksX11_guardOf_0 2 rfl rfl)
theorem dX11_guardOf_3 : decode cX11_guardOf 3 = .ok (.invokevirtual 345, 3) := dk_182 1 89 (dk_at dksX11_guardOf_0 3 rfl rfl)
theorem dX11_guardOf_6 : decode cX11_guardOf 6 = .ok (.iconst (-1), 1) := dk_2 (dk_at dksX11_guardOf_0 6 rfl rfl)
theorem dX11_guardOf_7 : decode cX11_guardOf 7 = .ok (.istore_n 2, 1) := dk_61 (dk_at dksX11_guardOf_0 7 rfl rfl)
theorem dX11_guardOf_8 : decode cX11_guardOf 8 = .ok (.aload_n 0, 1) := dk_42 (dk_at dksX11_guardOf_0 8 rfl rfl)
theorem dX11_guardOf_9 : decode cX11_guardOf 9 = .ok (.aload_n 0, 1) := dk_42 (dk_at dksX11_guardOf_0 9 rfl rfl)
theorem dX11_guardOf_10 : decode cX11_guardOf 10 = .ok (.getfield 308, 3) := dk_180 1 52 (dk_at dksX11_guardOf_0 10 rfl rfl)
theorem dX11_guardOf_13 : decode cX11_guardOf 13 = .ok (.iconst (-1), 1) := dk_2 (dk_at dksX11_guardOf_0 13 rfl rfl)
theorem dX11_guardOf_14 : decode cX11_guardOf 14 = .ok (.if_icmp .ne 9, 3) := dk_160 0 9 (dk_at dksX11_guardOf_0 14 rfl rfl)
theorem dX11_guardOf_17 : decode cX11_guardOf 17 = .ok (.ldc_w 280, 3) := dk_19 1 24 (dk_at dksX11_guardOf_0 17 rfl rfl)
theorem dX11_guardOf_20 : decode cX11_guardOf 20 = .ok (.goto 7, 3) := dk_167 0 7 (dk_at dksX11_guardOf_0 20 rfl rfl)
theorem dX11_guardOf_23 : decode cX11_guardOf 23 = .ok (.aload_n 0, 1) := dk_42 (dk_at dksX11_guardOf_0 23 rfl rfl)
theorem dX11_guardOf_24 : decode cX11_guardOf 24 = .ok (.getfield 311, 3) := dk_180 1 55 (dk_at dksX11_guardOf_1 0 rfl rfl)
theorem dX11_guardOf_27 : decode cX11_guardOf 27 = .ok (.putfield 348, 3) := dk_181 1 92 (dk_at dksX11_guardOf_1 3 rfl rfl)
theorem dX11_guardOf_30 : decode cX11_guardOf 30 = .ok (.iconst 0, 1) := dk_3 (dk_at dksX11_guardOf_1 6 rfl rfl)
theorem dX11_guardOf_31 : decode cX11_guardOf 31 = .ok (.istore_n 3, 1) := dk_62 (dk_at dksX11_guardOf_1 7 rfl rfl)
theorem dX11_guardOf_32 : decode cX11_guardOf 32 = .ok (.iload_n 3, 1) := dk_29 (dk_at dksX11_guardOf_1 8 rfl rfl)
theorem dX11_guardOf_33 : decode cX11_guardOf 33 = .ok (.aload_n 0, 1) := dk_42 (dk_at dksX11_guardOf_1 9 rfl rfl)
theorem dX11_guardOf_34 : decode cX11_guardOf 34 = .ok (.getfield 9, 3) := dk_180 0 9 (dk_at dksX11_guardOf_1 10 rfl rfl)
theorem dX11_guardOf_37 : decode cX11_guardOf 37 = .ok (.iconst 4, 1) := dk_7 (dk_at dksX11_guardOf_1 13 rfl rfl)
theorem dX11_guardOf_38 : decode cX11_guardOf 38 = .ok (.iaload, 1) := dk_46 (dk_at dksX11_guardOf_1 14 rfl rfl)
theorem dX11_guardOf_39 : decode cX11_guardOf 39 = .ok (.if_icmp .ge 70, 3) := dk_162 0 70 (dk_at dksX11_guardOf_1 15 rfl rfl)
theorem dX11_guardOf_42 : decode cX11_guardOf 42 = .ok (.aload_n 0, 1) := dk_42 (dk_at dksX11_guardOf_1 18 rfl rfl)
theorem dX11_guardOf_43 : decode cX11_guardOf 43 = .ok (.iload_n 3, 1) := dk_29 (dk_at dksX11_guardOf_1 19 rfl rfl)
theorem dX11_guardOf_44 : decode cX11_guardOf 44 = .ok (.iconst 0, 1) := dk_3 (dk_at dksX11_guardOf_1 20 rfl rfl)
theorem dX11_guardOf_45 : decode cX11_guardOf 45 = .ok (.invokevirtual 82, 3) := dk_182 0 82 (dk_at dksX11_guardOf_1 21 rfl rfl)
theorem dX11_guardOf_48 : decode cX11_guardOf 48 = .ok (.iload_n 1, 1) := dk_27 (dk_at dksX11_guardOf_2 0 rfl rfl)
theorem dX11_guardOf_49 : decode cX11_guardOf 49 = .ok (.if_icmp .eq 6, 3) := dk_159 0 6 (dk_at dksX11_guardOf_2 1 rfl rfl)
theorem dX11_guardOf_52 : decode cX11_guardOf 52 = .ok (.goto 51, 3) := dk_167 0 51 (dk_at dksX11_guardOf_2 4 rfl rfl)
theorem dX11_guardOf_55 : decode cX11_guardOf 55 = .ok (.aload_n 0, 1) := dk_42 (dk_at dksX11_guardOf_2 7 rfl rfl)
theorem dX11_guardOf_56 : decode cX11_guardOf 56 = .ok (.iload_n 1, 1) := dk_27 (dk_at dksX11_guardOf_2 8 rfl rfl)
theorem dX11_guardOf_57 : decode cX11_guardOf 57 = .ok (.iconst 1, 1) := dk_4 (dk_at dksX11_guardOf_2 9 rfl rfl)
theorem dX11_guardOf_58 : decode cX11_guardOf 58 = .ok (.iload_n 3, 1) := dk_29 (dk_at dksX11_guardOf_2 10 rfl rfl)
theorem dX11_guardOf_59 : decode cX11_guardOf 59 = .ok (.ishl, 1) := dk_120 (dk_at dksX11_guardOf_2 11 rfl rfl)
theorem dX11_guardOf_60 : decode cX11_guardOf 60 = .ok (.invokevirtual 345, 3) := dk_182 1 89 (dk_at dksX11_guardOf_2 12 rfl rfl)
theorem dX11_guardOf_63 : decode cX11_guardOf 63 = .ok (.aload_n 0, 1) := dk_42 (dk_at dksX11_guardOf_2 15 rfl rfl)
theorem dX11_guardOf_64 : decode cX11_guardOf 64 = .ok (.getfield 308, 3) := dk_180 1 52 (dk_at dksX11_guardOf_2 16 rfl rfl)
theorem dX11_guardOf_67 : decode cX11_guardOf 67 = .ok (.iconst (-1), 1) := dk_2 (dk_at dksX11_guardOf_2 19 rfl rfl)
theorem dX11_guardOf_68 : decode cX11_guardOf 68 = .ok (.if_icmp .ne 9, 3) := dk_160 0 9 (dk_at dksX11_guardOf_2 20 rfl rfl)
theorem dX11_guardOf_71 : decode cX11_guardOf 71 = .ok (.ldc_w 280, 3) := dk_19 1 24 (dk_at dksX11_guardOf_3 0 rfl rfl)
theorem dX11_guardOf_74 : decode cX11_guardOf 74 = .ok (.goto 7, 3) := dk_167 0 7 (dk_at dksX11_guardOf_3 3 rfl rfl)
theorem dX11_guardOf_77 : decode cX11_guardOf 77 = .ok (.aload_n 0, 1) := dk_42 (dk_at dksX11_guardOf_3 6 rfl rfl)
theorem dX11_guardOf_78 : decode cX11_guardOf 78 = .ok (.getfield 311, 3) := dk_180 1 55 (dk_at dksX11_guardOf_3 7 rfl rfl)
theorem dX11_guardOf_81 : decode cX11_guardOf 81 = .ok (.istore 4, 2) := dk_54 4 (dk_at dksX11_guardOf_3 10 rfl rfl)
theorem dX11_guardOf_83 : decode cX11_guardOf 83 = .ok (.iload 4, 2) := dk_21 4 (dk_at dksX11_guardOf_3 12 rfl rfl)
theorem dX11_guardOf_85 : decode cX11_guardOf 85 = .ok (.aload_n 0, 1) := dk_42 (dk_at dksX11_guardOf_3 14 rfl rfl)
theorem dX11_guardOf_86 : decode cX11_guardOf 86 = .ok (.getfield 348, 3) := dk_180 1 92 (dk_at dksX11_guardOf_3 15 rfl rfl)
theorem dX11_guardOf_89 : decode cX11_guardOf 89 = .ok (.if_icmp .gt 6, 3) := dk_163 0 6 (dk_at dksX11_guardOf_3 18 rfl rfl)
theorem dX11_guardOf_92 : decode cX11_guardOf 92 = .ok (.goto 11, 3) := dk_167 0 11 (dk_at dksX11_guardOf_3 21 rfl rfl)
theorem dX11_guardOf_95 : decode cX11_guardOf 95 = .ok (.aload_n 0, 1) := dk_42 (dk_at dksX11_guardOf_4 0 rfl rfl)
theorem dX11_guardOf_96 : decode cX11_guardOf 96 = .ok (.iload 4, 2) := dk_21 4 (dk_at dksX11_guardOf_4 1 rfl rfl)
theorem dX11_guardOf_98 : decode cX11_guardOf 98 = .ok (.putfield 348, 3) := dk_181 1 92 (dk_at dksX11_guardOf_4 3 rfl rfl)
theorem dX11_guardOf_101 : decode cX11_guardOf 101 = .ok (.iload_n 3, 1) := dk_29 (dk_at dksX11_guardOf_4 6 rfl rfl)
theorem dX11_guardOf_102 : decode cX11_guardOf 102 = .ok (.istore_n 2, 1) := dk_61 (dk_at dksX11_guardOf_4 7 rfl rfl)
theorem dX11_guardOf_103 : decode cX11_guardOf 103 = .ok (.iinc 3 1, 3) := dk_132 3 1 (dk_at dksX11_guardOf_4 8 rfl rfl)
theorem dX11_guardOf_106 : decode cX11_guardOf 106 = .ok (.goto (-74), 3) := dk_167 255 182 (dk_at dksX11_guardOf_4 11 rfl rfl)
theorem dX11_guardOf_109 : decode cX11_guardOf 109 = .ok (.iload_n 2, 1) := dk_28 (dk_at dksX11_guardOf_4 14 rfl rfl)
theorem dX11_guardOf_110 : decode cX11_guardOf 110 = .ok (.ireturn, 1) := dk_172 (dk_at dksX11_guardOf_4 15 rfl rfl)
abbrev cX11_guarded : ByteArray := prog_19_method_90_code
def yX11_guarded : MethodName := ⟨RX11, "guarded", "(I)I"⟩
def dkwX11_guarded_1 : List UInt8 := [19, 1, 24, 160, 0, 7, 2, 167, 0, 7, 42, 180, 1, 92, 172]
abbrev dktX11_guarded_1 : List UInt8 := dkwX11_guarded_1 ++ []
def dkwX11_guarded_0 : List UInt8 := [42, 27, 182, 0, 236, 153, 0, 12, 42, 27, 182, 1, 95, 2, 160, 0, 6, 16, 254, 172, 42, 180, 1, 92]
abbrev dktX11_guarded_0 : List UInt8 := dkwX11_guarded_0 ++ dktX11_guarded_1
theorem dksX11_guarded_0 : cX11_guarded.data.toList.drop 0 = dktX11_guarded_0 := by decide +kernel
theorem dksX11_guarded_1 : cX11_guarded.data.toList.drop 24 = dktX11_guarded_1 := dk_seg dksX11_guarded_0 24 rfl rfl
theorem dX11_guarded_0 : decode cX11_guarded 0 = .ok (.aload_n 0, 1) := dk_42 (dk_at dksX11_guarded_0 0 rfl rfl)
theorem dX11_guarded_1 : decode cX11_guarded 1 = .ok (.iload_n 1, 1) := dk_27 (dk_at dksX11_guarded_0 1 rfl rfl)
theorem dX11_guarded_2 : decode cX11_guarded 2 = .ok (.invokevirtual 236, 3) := dk_182 0 236 (dk_at dksX11_guarded_0 2 rfl rfl)
theorem dX11_guarded_5 : decode cX11_guarded 5 = .ok (.ifCond .eq 12, 3) := dk_153 0 12 (dk_at dksX11_guarded_0 5 rfl rfl)
theorem dX11_guarded_8 : decode cX11_guarded 8 = .ok (.aload_n 0, 1) := dk_42 (dk_at dksX11_guarded_0 8 rfl rfl)
theorem dX11_guarded_9 : decode cX11_guarded 9 = .ok (.iload_n 1, 1) := dk_27 (dk_at dksX11_guarded_0 9 rfl rfl)
theorem dX11_guarded_10 : decode cX11_guarded 10 = .ok (.invokevirtual 351, 3) := dk_182 1 95 (dk_at dksX11_guarded_0 10 rfl rfl)
theorem dX11_guarded_13 : decode cX11_guarded 13 = .ok (.iconst (-1), 1) := dk_2 (dk_at dksX11_guarded_0 13 rfl rfl)
theorem dX11_guarded_14 : decode cX11_guarded 14 = .ok (.if_icmp .ne 6, 3) := dk_160 0 6 (dk_at dksX11_guarded_0 14 rfl rfl)
theorem dX11_guarded_17 : decode cX11_guarded 17 = .ok (.bipush (-2), 2) := dk_16 254 (dk_at dksX11_guarded_0 17 rfl rfl)
theorem dX11_guarded_19 : decode cX11_guarded 19 = .ok (.ireturn, 1) := dk_172 (dk_at dksX11_guarded_0 19 rfl rfl)
theorem dX11_guarded_20 : decode cX11_guarded 20 = .ok (.aload_n 0, 1) := dk_42 (dk_at dksX11_guarded_0 20 rfl rfl)
theorem dX11_guarded_21 : decode cX11_guarded 21 = .ok (.getfield 348, 3) := dk_180 1 92 (dk_at dksX11_guarded_0 21 rfl rfl)
theorem dX11_guarded_24 : decode cX11_guarded 24 = .ok (.ldc_w 280, 3) := dk_19 1 24 (dk_at dksX11_guarded_1 0 rfl rfl)
theorem dX11_guarded_27 : decode cX11_guarded 27 = .ok (.if_icmp .ne 7, 3) := dk_160 0 7 (dk_at dksX11_guarded_1 3 rfl rfl)
theorem dX11_guarded_30 : decode cX11_guarded 30 = .ok (.iconst (-1), 1) := dk_2 (dk_at dksX11_guarded_1 6 rfl rfl)
theorem dX11_guarded_31 : decode cX11_guarded 31 = .ok (.goto 7, 3) := dk_167 0 7 (dk_at dksX11_guarded_1 7 rfl rfl)
theorem dX11_guarded_34 : decode cX11_guarded 34 = .ok (.aload_n 0, 1) := dk_42 (dk_at dksX11_guarded_1 10 rfl rfl)
theorem dX11_guarded_35 : decode cX11_guarded 35 = .ok (.getfield 348, 3) := dk_180 1 92 (dk_at dksX11_guarded_1 11 rfl rfl)
theorem dX11_guarded_38 : decode cX11_guarded 38 = .ok (.ireturn, 1) := dk_172 (dk_at dksX11_guarded_1 14 rfl rfl)
abbrev cX11_spoil : ByteArray := prog_19_method_95_code
def yX11_spoil : MethodName := ⟨RX11, "spoil", "(II)I"⟩
def dkwX11_spoil_1 : List UInt8 := [17, 252, 24, 172]
abbrev dktX11_spoil_1 : List UInt8 := dkwX11_spoil_1 ++ []
def dkwX11_spoil_0 : List UInt8 := [42, 27, 182, 0, 236, 153, 0, 19, 28, 184, 1, 110, 153, 0, 12, 42, 27, 28, 182, 1, 113, 167, 0, 6]
abbrev dktX11_spoil_0 : List UInt8 := dkwX11_spoil_0 ++ dktX11_spoil_1
theorem dksX11_spoil_0 : cX11_spoil.data.toList.drop 0 = dktX11_spoil_0 := by decide +kernel
theorem dksX11_spoil_1 : cX11_spoil.data.toList.drop 24 = dktX11_spoil_1 := dk_seg dksX11_spoil_0 24 rfl rfl
theorem dX11_spoil_0 : decode cX11_spoil 0 = .ok (.aload_n 0, 1) := dk_42 (dk_at dksX11_spoil_0 0 rfl rfl)
theorem dX11_spoil_1 : decode cX11_spoil 1 = .ok (.iload_n 1, 1) := dk_27 (dk_at dksX11_spoil_0 1 rfl rfl)
theorem dX11_spoil_2 : decode cX11_spoil 2 = .ok (.invokevirtual 236, 3) := dk_182 0 236 (dk_at dksX11_spoil_0 2 rfl rfl)
theorem dX11_spoil_5 : decode cX11_spoil 5 = .ok (.ifCond .eq 19, 3) := dk_153 0 19 (dk_at dksX11_spoil_0 5 rfl rfl)
theorem dX11_spoil_8 : decode cX11_spoil 8 = .ok (.iload_n 2, 1) := dk_28 (dk_at dksX11_spoil_0 8 rfl rfl)
theorem dX11_spoil_9 : decode cX11_spoil 9 = .ok (.invokestatic 366, 3) := dk_184 1 110 (dk_at dksX11_spoil_0 9 rfl rfl)
theorem dX11_spoil_12 : decode cX11_spoil 12 = .ok (.ifCond .eq 12, 3) := dk_153 0 12 (dk_at dksX11_spoil_0 12 rfl rfl)
theorem dX11_spoil_15 : decode cX11_spoil 15 = .ok (.aload_n 0, 1) := dk_42 (dk_at dksX11_spoil_0 15 rfl rfl)
theorem dX11_spoil_16 : decode cX11_spoil 16 = .ok (.iload_n 1, 1) := dk_27 (dk_at dksX11_spoil_0 16 rfl rfl)
theorem dX11_spoil_17 : decode cX11_spoil 17 = .ok (.iload_n 2, 1) := dk_28 (dk_at dksX11_spoil_0 17 rfl rfl)
theorem dX11_spoil_18 : decode cX11_spoil 18 = .ok (.invokevirtual 369, 3) := dk_182 1 113 (dk_at dksX11_spoil_0 18 rfl rfl)
theorem dX11_spoil_21 : decode cX11_spoil 21 = .ok (.goto 6, 3) := dk_167 0 6 (dk_at dksX11_spoil_0 21 rfl rfl)
theorem dX11_spoil_24 : decode cX11_spoil 24 = .ok (.sipush (-1000), 3) := dk_17 252 24 (dk_at dksX11_spoil_1 0 rfl rfl)
theorem dX11_spoil_27 : decode cX11_spoil 27 = .ok (.ireturn, 1) := dk_172 (dk_at dksX11_spoil_1 3 rfl rfl)
abbrev cX11_isPrice : ByteArray := prog_19_method_92_code
def yX11_isPrice : MethodName := ⟨RX11, "isPrice", "(I)Z"⟩
def dkwX11_isPrice_0 : List UInt8 := [26, 133, 9, 20, 1, 98, 184, 0, 70, 172]
abbrev dktX11_isPrice_0 : List UInt8 := dkwX11_isPrice_0 ++ []
theorem dksX11_isPrice_0 : cX11_isPrice.data.toList.drop 0 = dktX11_isPrice_0 := by decide +kernel
theorem dX11_isPrice_0 : decode cX11_isPrice 0 = .ok (.iload_n 0, 1) := dk_26 (dk_at dksX11_isPrice_0 0 rfl rfl)
theorem dX11_isPrice_1 : decode cX11_isPrice 1 = .ok (.i2l, 1) := dk_133 (dk_at dksX11_isPrice_0 1 rfl rfl)
theorem dX11_isPrice_2 : decode cX11_isPrice 2 = .ok (.lconst 0, 1) := dk_9 (dk_at dksX11_isPrice_0 2 rfl rfl)
theorem dX11_isPrice_3 : decode cX11_isPrice 3 = .ok (.ldc2_w 354, 3) := dk_20 1 98 (dk_at dksX11_isPrice_0 3 rfl rfl)
theorem dX11_isPrice_6 : decode cX11_isPrice 6 = .ok (.invokestatic 70, 3) := dk_184 0 70 (dk_at dksX11_isPrice_0 6 rfl rfl)
theorem dX11_isPrice_9 : decode cX11_isPrice 9 = .ok (.ireturn, 1) := dk_172 (dk_at dksX11_isPrice_0 9 rfl rfl)
abbrev cX11_spoilOf : ByteArray := prog_19_method_94_code
def yX11_spoilOf : MethodName := ⟨RX11, "spoilOf", "(II)I"⟩
def dkwX11_spoilOf_3 : List UInt8 := [167, 255, 197, 29, 172]
abbrev dktX11_spoilOf_3 : List UInt8 := dkwX11_spoilOf_3 ++ []
def dkwX11_spoilOf_2 : List UInt8 := [167, 0, 21, 27, 42, 180, 0, 40, 21, 4, 46, 184, 1, 16, 62, 42, 21, 4, 181, 1, 107, 132, 4, 1]
abbrev dktX11_spoilOf_2 : List UInt8 := dkwX11_spoilOf_2 ++ dktX11_spoilOf_3
def dkwX11_spoilOf_1 : List UInt8 := [28, 182, 1, 103, 153, 0, 39, 27, 42, 180, 0, 40, 21, 4, 46, 184, 1, 16, 29, 161, 0, 6]
abbrev dktX11_spoilOf_1 : List UInt8 := dkwX11_spoilOf_1 ++ dktX11_spoilOf_2
def dkwX11_spoilOf_0 : List UInt8 := [42, 182, 1, 100, 19, 1, 24, 62, 3, 54, 4, 21, 4, 42, 182, 0, 78, 163, 0, 56, 42, 27, 21, 4]
abbrev dktX11_spoilOf_0 : List UInt8 := dkwX11_spoilOf_0 ++ dktX11_spoilOf_1
theorem dksX11_spoilOf_0 : cX11_spoilOf.data.toList.drop 0 = dktX11_spoilOf_0 := by decide +kernel
theorem dksX11_spoilOf_1 : cX11_spoilOf.data.toList.drop 24 = dktX11_spoilOf_1 := dk_seg dksX11_spoilOf_0 24 rfl rfl
theorem dksX11_spoilOf_2 : cX11_spoilOf.data.toList.drop 46 = dktX11_spoilOf_2 := dk_seg dksX11_spoilOf_1 22 rfl rfl
theorem dksX11_spoilOf_3 : cX11_spoilOf.data.toList.drop 70 = dktX11_spoilOf_3 := dk_seg dksX11_spoilOf_2 24 rfl rfl
theorem dX11_spoilOf_0 : decode cX11_spoilOf 0 = .ok (.aload_n 0, 1) := dk_42 (dk_at dksX11_spoilOf_0 0 rfl rfl)
theorem dX11_spoilOf_1 : decode cX11_spoilOf 1 = .ok (.invokevirtual 356, 3) := dk_182 1 100 (dk_at dksX11_spoilOf_0 1 rfl rfl)
theorem dX11_spoilOf_4 : decode cX11_spoilOf 4 = .ok (.ldc_w 280, 3) := dk_19 1 24 (dk_at dksX11_spoilOf_0 4 rfl rfl)
theorem dX11_spoilOf_7 : decode cX11_spoilOf 7 = .ok (.istore_n 3, 1) := dk_62 (dk_at dksX11_spoilOf_0 7 rfl rfl)
theorem dX11_spoilOf_8 : decode cX11_spoilOf 8 = .ok (.iconst 0, 1) := dk_3 (dk_at dksX11_spoilOf_0 8 rfl rfl)
theorem dX11_spoilOf_9 : decode cX11_spoilOf 9 = .ok (.istore 4, 2) := dk_54 4 (dk_at dksX11_spoilOf_0 9 rfl rfl)
theorem dX11_spoilOf_11 : decode cX11_spoilOf 11 = .ok (.iload 4, 2) := dk_21 4 (dk_at dksX11_spoilOf_0 11 rfl rfl)
theorem dX11_spoilOf_13 : decode cX11_spoilOf 13 = .ok (.aload_n 0, 1) := dk_42 (dk_at dksX11_spoilOf_0 13 rfl rfl)
theorem dX11_spoilOf_14 : decode cX11_spoilOf 14 = .ok (.invokevirtual 78, 3) := dk_182 0 78 (dk_at dksX11_spoilOf_0 14 rfl rfl)
theorem dX11_spoilOf_17 : decode cX11_spoilOf 17 = .ok (.if_icmp .gt 56, 3) := dk_163 0 56 (dk_at dksX11_spoilOf_0 17 rfl rfl)
theorem dX11_spoilOf_20 : decode cX11_spoilOf 20 = .ok (.aload_n 0, 1) := dk_42 (dk_at dksX11_spoilOf_0 20 rfl rfl)
theorem dX11_spoilOf_21 : decode cX11_spoilOf 21 = .ok (.iload_n 1, 1) := dk_27 (dk_at dksX11_spoilOf_0 21 rfl rfl)
theorem dX11_spoilOf_22 : decode cX11_spoilOf 22 = .ok (.iload 4, 2) := dk_21 4 (dk_at dksX11_spoilOf_0 22 rfl rfl)
theorem dX11_spoilOf_24 : decode cX11_spoilOf 24 = .ok (.iload_n 2, 1) := dk_28 (dk_at dksX11_spoilOf_1 0 rfl rfl)
theorem dX11_spoilOf_25 : decode cX11_spoilOf 25 = .ok (.invokevirtual 359, 3) := dk_182 1 103 (dk_at dksX11_spoilOf_1 1 rfl rfl)
theorem dX11_spoilOf_28 : decode cX11_spoilOf 28 = .ok (.ifCond .eq 39, 3) := dk_153 0 39 (dk_at dksX11_spoilOf_1 4 rfl rfl)
theorem dX11_spoilOf_31 : decode cX11_spoilOf 31 = .ok (.iload_n 1, 1) := dk_27 (dk_at dksX11_spoilOf_1 7 rfl rfl)
theorem dX11_spoilOf_32 : decode cX11_spoilOf 32 = .ok (.aload_n 0, 1) := dk_42 (dk_at dksX11_spoilOf_1 8 rfl rfl)
theorem dX11_spoilOf_33 : decode cX11_spoilOf 33 = .ok (.getfield 40, 3) := dk_180 0 40 (dk_at dksX11_spoilOf_1 9 rfl rfl)
theorem dX11_spoilOf_36 : decode cX11_spoilOf 36 = .ok (.iload 4, 2) := dk_21 4 (dk_at dksX11_spoilOf_1 12 rfl rfl)
theorem dX11_spoilOf_38 : decode cX11_spoilOf 38 = .ok (.iaload, 1) := dk_46 (dk_at dksX11_spoilOf_1 14 rfl rfl)
theorem dX11_spoilOf_39 : decode cX11_spoilOf 39 = .ok (.invokestatic 272, 3) := dk_184 1 16 (dk_at dksX11_spoilOf_1 15 rfl rfl)
theorem dX11_spoilOf_42 : decode cX11_spoilOf 42 = .ok (.iload_n 3, 1) := dk_29 (dk_at dksX11_spoilOf_1 18 rfl rfl)
theorem dX11_spoilOf_43 : decode cX11_spoilOf 43 = .ok (.if_icmp .lt 6, 3) := dk_161 0 6 (dk_at dksX11_spoilOf_1 19 rfl rfl)
theorem dX11_spoilOf_46 : decode cX11_spoilOf 46 = .ok (.goto 21, 3) := dk_167 0 21 (dk_at dksX11_spoilOf_2 0 rfl rfl)
theorem dX11_spoilOf_49 : decode cX11_spoilOf 49 = .ok (.iload_n 1, 1) := dk_27 (dk_at dksX11_spoilOf_2 3 rfl rfl)
theorem dX11_spoilOf_50 : decode cX11_spoilOf 50 = .ok (.aload_n 0, 1) := dk_42 (dk_at dksX11_spoilOf_2 4 rfl rfl)
theorem dX11_spoilOf_51 : decode cX11_spoilOf 51 = .ok (.getfield 40, 3) := dk_180 0 40 (dk_at dksX11_spoilOf_2 5 rfl rfl)
theorem dX11_spoilOf_54 : decode cX11_spoilOf 54 = .ok (.iload 4, 2) := dk_21 4 (dk_at dksX11_spoilOf_2 8 rfl rfl)
theorem dX11_spoilOf_56 : decode cX11_spoilOf 56 = .ok (.iaload, 1) := dk_46 (dk_at dksX11_spoilOf_2 10 rfl rfl)
theorem dX11_spoilOf_57 : decode cX11_spoilOf 57 = .ok (.invokestatic 272, 3) := dk_184 1 16 (dk_at dksX11_spoilOf_2 11 rfl rfl)
theorem dX11_spoilOf_60 : decode cX11_spoilOf 60 = .ok (.istore_n 3, 1) := dk_62 (dk_at dksX11_spoilOf_2 14 rfl rfl)
theorem dX11_spoilOf_61 : decode cX11_spoilOf 61 = .ok (.aload_n 0, 1) := dk_42 (dk_at dksX11_spoilOf_2 15 rfl rfl)
theorem dX11_spoilOf_62 : decode cX11_spoilOf 62 = .ok (.iload 4, 2) := dk_21 4 (dk_at dksX11_spoilOf_2 16 rfl rfl)
theorem dX11_spoilOf_64 : decode cX11_spoilOf 64 = .ok (.putfield 363, 3) := dk_181 1 107 (dk_at dksX11_spoilOf_2 18 rfl rfl)
theorem dX11_spoilOf_67 : decode cX11_spoilOf 67 = .ok (.iinc 4 1, 3) := dk_132 4 1 (dk_at dksX11_spoilOf_2 21 rfl rfl)
theorem dX11_spoilOf_70 : decode cX11_spoilOf 70 = .ok (.goto (-59), 3) := dk_167 255 197 (dk_at dksX11_spoilOf_3 0 rfl rfl)
theorem dX11_spoilOf_73 : decode cX11_spoilOf 73 = .ok (.iload_n 3, 1) := dk_29 (dk_at dksX11_spoilOf_3 3 rfl rfl)
theorem dX11_spoilOf_74 : decode cX11_spoilOf 74 = .ok (.ireturn, 1) := dk_172 (dk_at dksX11_spoilOf_3 4 rfl rfl)
abbrev cX11_fillFronts : ByteArray := prog_19_method_91_code
def yX11_fillFronts : MethodName := ⟨RX11, "fillFronts", "()V"⟩
def dkwX11_fillFronts_1 : List UInt8 := [167, 255, 234, 177]
abbrev dktX11_fillFronts_1 : List UInt8 := dkwX11_fillFronts_1 ++ []
def dkwX11_fillFronts_0 : List UInt8 := [3, 60, 27, 42, 182, 0, 78, 163, 0, 20, 42, 180, 0, 40, 27, 42, 27, 182, 1, 2, 79, 132, 1, 1]
abbrev dktX11_fillFronts_0 : List UInt8 := dkwX11_fillFronts_0 ++ dktX11_fillFronts_1
theorem dksX11_fillFronts_0 : cX11_fillFronts.data.toList.drop 0 = dktX11_fillFronts_0 := by decide +kernel
theorem dksX11_fillFronts_1 : cX11_fillFronts.data.toList.drop 24 = dktX11_fillFronts_1 := dk_seg dksX11_fillFronts_0 24 rfl rfl
theorem dX11_fillFronts_0 : decode cX11_fillFronts 0 = .ok (.iconst 0, 1) := dk_3 (dk_at dksX11_fillFronts_0 0 rfl rfl)
theorem dX11_fillFronts_1 : decode cX11_fillFronts 1 = .ok (.istore_n 1, 1) := dk_60 (dk_at dksX11_fillFronts_0 1 rfl rfl)
theorem dX11_fillFronts_2 : decode cX11_fillFronts 2 = .ok (.iload_n 1, 1) := dk_27 (dk_at dksX11_fillFronts_0 2 rfl rfl)
theorem dX11_fillFronts_3 : decode cX11_fillFronts 3 = .ok (.aload_n 0, 1) := dk_42 (dk_at dksX11_fillFronts_0 3 rfl rfl)
theorem dX11_fillFronts_4 : decode cX11_fillFronts 4 = .ok (.invokevirtual 78, 3) := dk_182 0 78 (dk_at dksX11_fillFronts_0 4 rfl rfl)
theorem dX11_fillFronts_7 : decode cX11_fillFronts 7 = .ok (.if_icmp .gt 20, 3) := dk_163 0 20 (dk_at dksX11_fillFronts_0 7 rfl rfl)
theorem dX11_fillFronts_10 : decode cX11_fillFronts 10 = .ok (.aload_n 0, 1) := dk_42 (dk_at dksX11_fillFronts_0 10 rfl rfl)
theorem dX11_fillFronts_11 : decode cX11_fillFronts 11 = .ok (.getfield 40, 3) := dk_180 0 40 (dk_at dksX11_fillFronts_0 11 rfl rfl)
theorem dX11_fillFronts_14 : decode cX11_fillFronts 14 = .ok (.iload_n 1, 1) := dk_27 (dk_at dksX11_fillFronts_0 14 rfl rfl)
theorem dX11_fillFronts_15 : decode cX11_fillFronts 15 = .ok (.aload_n 0, 1) := dk_42 (dk_at dksX11_fillFronts_0 15 rfl rfl)
theorem dX11_fillFronts_16 : decode cX11_fillFronts 16 = .ok (.iload_n 1, 1) := dk_27 (dk_at dksX11_fillFronts_0 16 rfl rfl)
theorem dX11_fillFronts_17 : decode cX11_fillFronts 17 = .ok (.invokevirtual 258, 3) := dk_182 1 2 (dk_at dksX11_fillFronts_0 17 rfl rfl)
theorem dX11_fillFronts_20 : decode cX11_fillFronts 20 = .ok (.iastore, 1) := dk_79 (dk_at dksX11_fillFronts_0 20 rfl rfl)
theorem dX11_fillFronts_21 : decode cX11_fillFronts 21 = .ok (.iinc 1 1, 3) := dk_132 1 1 (dk_at dksX11_fillFronts_0 21 rfl rfl)
theorem dX11_fillFronts_24 : decode cX11_fillFronts 24 = .ok (.goto (-22), 3) := dk_167 255 234 (dk_at dksX11_fillFronts_1 0 rfl rfl)
theorem dX11_fillFronts_27 : decode cX11_fillFronts 27 = .ok (.return_, 1) := dk_177 (dk_at dksX11_fillFronts_1 3 rfl rfl)
abbrev cX11_isBought : ByteArray := prog_19_method_93_code
def yX11_isBought : MethodName := ⟨RX11, "isBought", "(III)Z"⟩
def dkwX11_isBought_1 : List UInt8 := [167, 0, 4, 3, 172]
abbrev dktX11_isBought_1 : List UInt8 := dkwX11_isBought_1 ++ []
def dkwX11_isBought_0 : List UInt8 := [28, 42, 27, 182, 1, 58, 2, 130, 126, 154, 0, 16, 42, 28, 182, 1, 64, 29, 163, 0, 7, 4]
abbrev dktX11_isBought_0 : List UInt8 := dkwX11_isBought_0 ++ dktX11_isBought_1
theorem dksX11_isBought_0 : cX11_isBought.data.toList.drop 0 = dktX11_isBought_0 := by decide +kernel
theorem dksX11_isBought_1 : cX11_isBought.data.toList.drop 22 = dktX11_isBought_1 := dk_seg dksX11_isBought_0 22 rfl rfl
theorem dX11_isBought_0 : decode cX11_isBought 0 = .ok (.iload_n 2, 1) := dk_28 (dk_at dksX11_isBought_0 0 rfl rfl)
theorem dX11_isBought_1 : decode cX11_isBought 1 = .ok (.aload_n 0, 1) := dk_42 (dk_at dksX11_isBought_0 1 rfl rfl)
theorem dX11_isBought_2 : decode cX11_isBought 2 = .ok (.iload_n 1, 1) := dk_27 (dk_at dksX11_isBought_0 2 rfl rfl)
theorem dX11_isBought_3 : decode cX11_isBought 3 = .ok (.invokevirtual 314, 3) := dk_182 1 58 (dk_at dksX11_isBought_0 3 rfl rfl)
theorem dX11_isBought_6 : decode cX11_isBought 6 = .ok (.iconst (-1), 1) := dk_2 (dk_at dksX11_isBought_0 6 rfl rfl)
theorem dX11_isBought_7 : decode cX11_isBought 7 = .ok (.ixor, 1) := dk_130 (dk_at dksX11_isBought_0 7 rfl rfl)
theorem dX11_isBought_8 : decode cX11_isBought 8 = .ok (.iand, 1) := dk_126 (dk_at dksX11_isBought_0 8 rfl rfl)
theorem dX11_isBought_9 : decode cX11_isBought 9 = .ok (.ifCond .ne 16, 3) := dk_154 0 16 (dk_at dksX11_isBought_0 9 rfl rfl)
theorem dX11_isBought_12 : decode cX11_isBought 12 = .ok (.aload_n 0, 1) := dk_42 (dk_at dksX11_isBought_0 12 rfl rfl)
theorem dX11_isBought_13 : decode cX11_isBought 13 = .ok (.iload_n 2, 1) := dk_28 (dk_at dksX11_isBought_0 13 rfl rfl)
theorem dX11_isBought_14 : decode cX11_isBought 14 = .ok (.invokevirtual 320, 3) := dk_182 1 64 (dk_at dksX11_isBought_0 14 rfl rfl)
theorem dX11_isBought_17 : decode cX11_isBought 17 = .ok (.iload_n 3, 1) := dk_29 (dk_at dksX11_isBought_0 17 rfl rfl)
theorem dX11_isBought_18 : decode cX11_isBought 18 = .ok (.if_icmp .gt 7, 3) := dk_163 0 7 (dk_at dksX11_isBought_0 18 rfl rfl)
theorem dX11_isBought_21 : decode cX11_isBought 21 = .ok (.iconst 1, 1) := dk_4 (dk_at dksX11_isBought_0 21 rfl rfl)
theorem dX11_isBought_22 : decode cX11_isBought 22 = .ok (.goto 4, 3) := dk_167 0 4 (dk_at dksX11_isBought_1 0 rfl rfl)
theorem dX11_isBought_25 : decode cX11_isBought 25 = .ok (.iconst 0, 1) := dk_3 (dk_at dksX11_isBought_1 3 rfl rfl)
theorem dX11_isBought_26 : decode cX11_isBought 26 = .ok (.ireturn, 1) := dk_172 (dk_at dksX11_isBought_1 4 rfl rfl)
abbrev cX11_spoils : ByteArray := prog_19_method_96_code
def yX11_spoils : MethodName := ⟨RX11, "spoils", "(II)I"⟩
def dkwX11_spoils_1 : List UInt8 := [87, 42, 180, 1, 107, 172]
abbrev dktX11_spoils_1 : List UInt8 := dkwX11_spoils_1 ++ []
def dkwX11_spoils_0 : List UInt8 := [42, 27, 182, 0, 236, 153, 0, 10, 28, 184, 1, 110, 154, 0, 6, 16, 254, 172, 42, 27, 28, 182, 1, 113]
abbrev dktX11_spoils_0 : List UInt8 := dkwX11_spoils_0 ++ dktX11_spoils_1
theorem dksX11_spoils_0 : cX11_spoils.data.toList.drop 0 = dktX11_spoils_0 := by decide +kernel
theorem dksX11_spoils_1 : cX11_spoils.data.toList.drop 24 = dktX11_spoils_1 := dk_seg dksX11_spoils_0 24 rfl rfl
theorem dX11_spoils_0 : decode cX11_spoils 0 = .ok (.aload_n 0, 1) := dk_42 (dk_at dksX11_spoils_0 0 rfl rfl)
theorem dX11_spoils_1 : decode cX11_spoils 1 = .ok (.iload_n 1, 1) := dk_27 (dk_at dksX11_spoils_0 1 rfl rfl)
theorem dX11_spoils_2 : decode cX11_spoils 2 = .ok (.invokevirtual 236, 3) := dk_182 0 236 (dk_at dksX11_spoils_0 2 rfl rfl)
theorem dX11_spoils_5 : decode cX11_spoils 5 = .ok (.ifCond .eq 10, 3) := dk_153 0 10 (dk_at dksX11_spoils_0 5 rfl rfl)
theorem dX11_spoils_8 : decode cX11_spoils 8 = .ok (.iload_n 2, 1) := dk_28 (dk_at dksX11_spoils_0 8 rfl rfl)
theorem dX11_spoils_9 : decode cX11_spoils 9 = .ok (.invokestatic 366, 3) := dk_184 1 110 (dk_at dksX11_spoils_0 9 rfl rfl)
theorem dX11_spoils_12 : decode cX11_spoils 12 = .ok (.ifCond .ne 6, 3) := dk_154 0 6 (dk_at dksX11_spoils_0 12 rfl rfl)
theorem dX11_spoils_15 : decode cX11_spoils 15 = .ok (.bipush (-2), 2) := dk_16 254 (dk_at dksX11_spoils_0 15 rfl rfl)
theorem dX11_spoils_17 : decode cX11_spoils 17 = .ok (.ireturn, 1) := dk_172 (dk_at dksX11_spoils_0 17 rfl rfl)
theorem dX11_spoils_18 : decode cX11_spoils 18 = .ok (.aload_n 0, 1) := dk_42 (dk_at dksX11_spoils_0 18 rfl rfl)
theorem dX11_spoils_19 : decode cX11_spoils 19 = .ok (.iload_n 1, 1) := dk_27 (dk_at dksX11_spoils_0 19 rfl rfl)
theorem dX11_spoils_20 : decode cX11_spoils 20 = .ok (.iload_n 2, 1) := dk_28 (dk_at dksX11_spoils_0 20 rfl rfl)
theorem dX11_spoils_21 : decode cX11_spoils 21 = .ok (.invokevirtual 369, 3) := dk_182 1 113 (dk_at dksX11_spoils_0 21 rfl rfl)
theorem dX11_spoils_24 : decode cX11_spoils 24 = .ok (.pop, 1) := dk_87 (dk_at dksX11_spoils_1 0 rfl rfl)
theorem dX11_spoils_25 : decode cX11_spoils 25 = .ok (.aload_n 0, 1) := dk_42 (dk_at dksX11_spoils_1 1 rfl rfl)
theorem dX11_spoils_26 : decode cX11_spoils 26 = .ok (.getfield 363, 3) := dk_180 1 107 (dk_at dksX11_spoils_1 2 rfl rfl)
theorem dX11_spoils_29 : decode cX11_spoils 29 = .ok (.ireturn, 1) := dk_172 (dk_at dksX11_spoils_1 5 rfl rfl)
abbrev cX11_answer : ByteArray := prog_19_method_98_code
def yX11_answer : MethodName := ⟨RX11, "answer", "(II)I"⟩
def dkwX11_answer_2 : List UInt8 := [153, 0, 16, 29, 42, 27, 21, 4, 28, 182, 1, 120, 184, 0, 120, 62, 132, 4, 1, 167, 255, 220, 29, 172]
abbrev dktX11_answer_2 : List UInt8 := dkwX11_answer_2 ++ []
def dkwX11_answer_1 : List UInt8 := [19, 1, 24, 62, 3, 54, 4, 21, 4, 42, 182, 0, 78, 163, 0, 33, 42, 27, 21, 4, 28, 182, 1, 103]
abbrev dktX11_answer_1 : List UInt8 := dkwX11_answer_1 ++ dktX11_answer_2
def dkwX11_answer_0 : List UInt8 := [42, 27, 182, 0, 236, 153, 0, 10, 28, 184, 1, 110, 154, 0, 7, 17, 252, 24, 172, 42, 182, 1, 100]
abbrev dktX11_answer_0 : List UInt8 := dkwX11_answer_0 ++ dktX11_answer_1
theorem dksX11_answer_0 : cX11_answer.data.toList.drop 0 = dktX11_answer_0 := by decide +kernel
theorem dksX11_answer_1 : cX11_answer.data.toList.drop 23 = dktX11_answer_1 := dk_seg dksX11_answer_0 23 rfl rfl
theorem dksX11_answer_2 : cX11_answer.data.toList.drop 47 = dktX11_answer_2 := dk_seg dksX11_answer_1 24 rfl rfl
theorem dX11_answer_0 : decode cX11_answer 0 = .ok (.aload_n 0, 1) := dk_42 (dk_at dksX11_answer_0 0 rfl rfl)
theorem dX11_answer_1 : decode cX11_answer 1 = .ok (.iload_n 1, 1) := dk_27 (dk_at dksX11_answer_0 1 rfl rfl)
theorem dX11_answer_2 : decode cX11_answer 2 = .ok (.invokevirtual 236, 3) := dk_182 0 236 (dk_at dksX11_answer_0 2 rfl rfl)
theorem dX11_answer_5 : decode cX11_answer 5 = .ok (.ifCond .eq 10, 3) := dk_153 0 10 (dk_at dksX11_answer_0 5 rfl rfl)
theorem dX11_answer_8 : decode cX11_answer 8 = .ok (.iload_n 2, 1) := dk_28 (dk_at dksX11_answer_0 8 rfl rfl)
theorem dX11_answer_9 : decode cX11_answer 9 = .ok (.invokestatic 366, 3) := dk_184 1 110 (dk_at dksX11_answer_0 9 rfl rfl)
theorem dX11_answer_12 : decode cX11_answer 12 = .ok (.ifCond .ne 7, 3) := dk_154 0 7 (dk_at dksX11_answer_0 12 rfl rfl)
theorem dX11_answer_15 : decode cX11_answer 15 = .ok (.sipush (-1000), 3) := dk_17 252 24 (dk_at dksX11_answer_0 15 rfl rfl)
theorem dX11_answer_18 : decode cX11_answer 18 = .ok (.ireturn, 1) := dk_172 (dk_at dksX11_answer_0 18 rfl rfl)
theorem dX11_answer_19 : decode cX11_answer 19 = .ok (.aload_n 0, 1) := dk_42 (dk_at dksX11_answer_0 19 rfl rfl)
theorem dX11_answer_20 : decode cX11_answer 20 = .ok (.invokevirtual 356, 3) := dk_182 1 100 (dk_at dksX11_answer_0 20 rfl rfl)
theorem dX11_answer_23 : decode cX11_answer 23 = .ok (.ldc_w 280, 3) := dk_19 1 24 (dk_at dksX11_answer_1 0 rfl rfl)
theorem dX11_answer_26 : decode cX11_answer 26 = .ok (.istore_n 3, 1) := dk_62 (dk_at dksX11_answer_1 3 rfl rfl)
theorem dX11_answer_27 : decode cX11_answer 27 = .ok (.iconst 0, 1) := dk_3 (dk_at dksX11_answer_1 4 rfl rfl)
theorem dX11_answer_28 : decode cX11_answer 28 = .ok (.istore 4, 2) := dk_54 4 (dk_at dksX11_answer_1 5 rfl rfl)
theorem dX11_answer_30 : decode cX11_answer 30 = .ok (.iload 4, 2) := dk_21 4 (dk_at dksX11_answer_1 7 rfl rfl)
theorem dX11_answer_32 : decode cX11_answer 32 = .ok (.aload_n 0, 1) := dk_42 (dk_at dksX11_answer_1 9 rfl rfl)
theorem dX11_answer_33 : decode cX11_answer 33 = .ok (.invokevirtual 78, 3) := dk_182 0 78 (dk_at dksX11_answer_1 10 rfl rfl)
theorem dX11_answer_36 : decode cX11_answer 36 = .ok (.if_icmp .gt 33, 3) := dk_163 0 33 (dk_at dksX11_answer_1 13 rfl rfl)
theorem dX11_answer_39 : decode cX11_answer 39 = .ok (.aload_n 0, 1) := dk_42 (dk_at dksX11_answer_1 16 rfl rfl)
theorem dX11_answer_40 : decode cX11_answer 40 = .ok (.iload_n 1, 1) := dk_27 (dk_at dksX11_answer_1 17 rfl rfl)
theorem dX11_answer_41 : decode cX11_answer 41 = .ok (.iload 4, 2) := dk_21 4 (dk_at dksX11_answer_1 18 rfl rfl)
theorem dX11_answer_43 : decode cX11_answer 43 = .ok (.iload_n 2, 1) := dk_28 (dk_at dksX11_answer_1 20 rfl rfl)
theorem dX11_answer_44 : decode cX11_answer 44 = .ok (.invokevirtual 359, 3) := dk_182 1 103 (dk_at dksX11_answer_1 21 rfl rfl)
theorem dX11_answer_47 : decode cX11_answer 47 = .ok (.ifCond .eq 16, 3) := dk_153 0 16 (dk_at dksX11_answer_2 0 rfl rfl)
theorem dX11_answer_50 : decode cX11_answer 50 = .ok (.iload_n 3, 1) := dk_29 (dk_at dksX11_answer_2 3 rfl rfl)
theorem dX11_answer_51 : decode cX11_answer 51 = .ok (.aload_n 0, 1) := dk_42 (dk_at dksX11_answer_2 4 rfl rfl)
theorem dX11_answer_52 : decode cX11_answer 52 = .ok (.iload_n 1, 1) := dk_27 (dk_at dksX11_answer_2 5 rfl rfl)
theorem dX11_answer_53 : decode cX11_answer 53 = .ok (.iload 4, 2) := dk_21 4 (dk_at dksX11_answer_2 6 rfl rfl)
theorem dX11_answer_55 : decode cX11_answer 55 = .ok (.iload_n 2, 1) := dk_28 (dk_at dksX11_answer_2 8 rfl rfl)
theorem dX11_answer_56 : decode cX11_answer 56 = .ok (.invokevirtual 376, 3) := dk_182 1 120 (dk_at dksX11_answer_2 9 rfl rfl)
theorem dX11_answer_59 : decode cX11_answer 59 = .ok (.invokestatic 120, 3) := dk_184 0 120 (dk_at dksX11_answer_2 12 rfl rfl)
theorem dX11_answer_62 : decode cX11_answer 62 = .ok (.istore_n 3, 1) := dk_62 (dk_at dksX11_answer_2 15 rfl rfl)
theorem dX11_answer_63 : decode cX11_answer 63 = .ok (.iinc 4 1, 3) := dk_132 4 1 (dk_at dksX11_answer_2 16 rfl rfl)
theorem dX11_answer_66 : decode cX11_answer 66 = .ok (.goto (-36), 3) := dk_167 255 220 (dk_at dksX11_answer_2 19 rfl rfl)
theorem dX11_answer_69 : decode cX11_answer 69 = .ok (.iload_n 3, 1) := dk_29 (dk_at dksX11_answer_2 22 rfl rfl)
theorem dX11_answer_70 : decode cX11_answer 70 = .ok (.ireturn, 1) := dk_172 (dk_at dksX11_answer_2 23 rfl rfl)
abbrev cX11_bestGood : ByteArray := prog_19_method_97_code
def yX11_bestGood : MethodName := ⟨RX11, "bestGood", "(III)I"⟩
def dkwX11_bestGood_2 : List UInt8 := [54, 4, 132, 5, 1, 167, 255, 211, 21, 4, 172]
abbrev dktX11_bestGood_2 : List UInt8 := dkwX11_bestGood_2 ++ []
def dkwX11_bestGood_1 : List UInt8 := [182, 1, 103, 153, 0, 23, 21, 4, 27, 42, 180, 0, 40, 28, 21, 5, 128, 46, 184, 1, 16, 184, 1, 117]
abbrev dktX11_bestGood_1 : List UInt8 := dkwX11_bestGood_1 ++ dktX11_bestGood_2
def dkwX11_bestGood_0 : List UInt8 := [19, 1, 116, 54, 4, 3, 54, 5, 21, 5, 42, 182, 0, 78, 163, 0, 42, 42, 4, 27, 100, 21, 5, 29]
abbrev dktX11_bestGood_0 : List UInt8 := dkwX11_bestGood_0 ++ dktX11_bestGood_1
theorem dksX11_bestGood_0 : cX11_bestGood.data.toList.drop 0 = dktX11_bestGood_0 := by decide +kernel
theorem dksX11_bestGood_1 : cX11_bestGood.data.toList.drop 24 = dktX11_bestGood_1 := dk_seg dksX11_bestGood_0 24 rfl rfl
theorem dksX11_bestGood_2 : cX11_bestGood.data.toList.drop 48 = dktX11_bestGood_2 := dk_seg dksX11_bestGood_1 24 rfl rfl
theorem dX11_bestGood_0 : decode cX11_bestGood 0 = .ok (.ldc_w 372, 3) := dk_19 1 116 (dk_at dksX11_bestGood_0 0 rfl rfl)
theorem dX11_bestGood_3 : decode cX11_bestGood 3 = .ok (.istore 4, 2) := dk_54 4 (dk_at dksX11_bestGood_0 3 rfl rfl)
theorem dX11_bestGood_5 : decode cX11_bestGood 5 = .ok (.iconst 0, 1) := dk_3 (dk_at dksX11_bestGood_0 5 rfl rfl)
theorem dX11_bestGood_6 : decode cX11_bestGood 6 = .ok (.istore 5, 2) := dk_54 5 (dk_at dksX11_bestGood_0 6 rfl rfl)
theorem dX11_bestGood_8 : decode cX11_bestGood 8 = .ok (.iload 5, 2) := dk_21 5 (dk_at dksX11_bestGood_0 8 rfl rfl)
theorem dX11_bestGood_10 : decode cX11_bestGood 10 = .ok (.aload_n 0, 1) := dk_42 (dk_at dksX11_bestGood_0 10 rfl rfl)
theorem dX11_bestGood_11 : decode cX11_bestGood 11 = .ok (.invokevirtual 78, 3) := dk_182 0 78 (dk_at dksX11_bestGood_0 11 rfl rfl)
theorem dX11_bestGood_14 : decode cX11_bestGood 14 = .ok (.if_icmp .gt 42, 3) := dk_163 0 42 (dk_at dksX11_bestGood_0 14 rfl rfl)
theorem dX11_bestGood_17 : decode cX11_bestGood 17 = .ok (.aload_n 0, 1) := dk_42 (dk_at dksX11_bestGood_0 17 rfl rfl)
theorem dX11_bestGood_18 : decode cX11_bestGood 18 = .ok (.iconst 1, 1) := dk_4 (dk_at dksX11_bestGood_0 18 rfl rfl)
theorem dX11_bestGood_19 : decode cX11_bestGood 19 = .ok (.iload_n 1, 1) := dk_27 (dk_at dksX11_bestGood_0 19 rfl rfl)
theorem dX11_bestGood_20 : decode cX11_bestGood 20 = .ok (.isub, 1) := dk_100 (dk_at dksX11_bestGood_0 20 rfl rfl)
theorem dX11_bestGood_21 : decode cX11_bestGood 21 = .ok (.iload 5, 2) := dk_21 5 (dk_at dksX11_bestGood_0 21 rfl rfl)
theorem dX11_bestGood_23 : decode cX11_bestGood 23 = .ok (.iload_n 3, 1) := dk_29 (dk_at dksX11_bestGood_0 23 rfl rfl)
theorem dX11_bestGood_24 : decode cX11_bestGood 24 = .ok (.invokevirtual 359, 3) := dk_182 1 103 (dk_at dksX11_bestGood_1 0 rfl rfl)
theorem dX11_bestGood_27 : decode cX11_bestGood 27 = .ok (.ifCond .eq 23, 3) := dk_153 0 23 (dk_at dksX11_bestGood_1 3 rfl rfl)
theorem dX11_bestGood_30 : decode cX11_bestGood 30 = .ok (.iload 4, 2) := dk_21 4 (dk_at dksX11_bestGood_1 6 rfl rfl)
theorem dX11_bestGood_32 : decode cX11_bestGood 32 = .ok (.iload_n 1, 1) := dk_27 (dk_at dksX11_bestGood_1 8 rfl rfl)
theorem dX11_bestGood_33 : decode cX11_bestGood 33 = .ok (.aload_n 0, 1) := dk_42 (dk_at dksX11_bestGood_1 9 rfl rfl)
theorem dX11_bestGood_34 : decode cX11_bestGood 34 = .ok (.getfield 40, 3) := dk_180 0 40 (dk_at dksX11_bestGood_1 10 rfl rfl)
theorem dX11_bestGood_37 : decode cX11_bestGood 37 = .ok (.iload_n 2, 1) := dk_28 (dk_at dksX11_bestGood_1 13 rfl rfl)
theorem dX11_bestGood_38 : decode cX11_bestGood 38 = .ok (.iload 5, 2) := dk_21 5 (dk_at dksX11_bestGood_1 14 rfl rfl)
theorem dX11_bestGood_40 : decode cX11_bestGood 40 = .ok (.ior, 1) := dk_128 (dk_at dksX11_bestGood_1 16 rfl rfl)
theorem dX11_bestGood_41 : decode cX11_bestGood 41 = .ok (.iaload, 1) := dk_46 (dk_at dksX11_bestGood_1 17 rfl rfl)
theorem dX11_bestGood_42 : decode cX11_bestGood 42 = .ok (.invokestatic 272, 3) := dk_184 1 16 (dk_at dksX11_bestGood_1 18 rfl rfl)
theorem dX11_bestGood_45 : decode cX11_bestGood 45 = .ok (.invokestatic 373, 3) := dk_184 1 117 (dk_at dksX11_bestGood_1 21 rfl rfl)
theorem dX11_bestGood_48 : decode cX11_bestGood 48 = .ok (.istore 4, 2) := dk_54 4 (dk_at dksX11_bestGood_2 0 rfl rfl)
theorem dX11_bestGood_50 : decode cX11_bestGood 50 = .ok (.iinc 5 1, 3) := dk_132 5 1 (dk_at dksX11_bestGood_2 2 rfl rfl)
theorem dX11_bestGood_53 : decode cX11_bestGood 53 = .ok (.goto (-45), 3) := dk_167 255 211 (dk_at dksX11_bestGood_2 5 rfl rfl)
theorem dX11_bestGood_56 : decode cX11_bestGood 56 = .ok (.iload 4, 2) := dk_21 4 (dk_at dksX11_bestGood_2 8 rfl rfl)
theorem dX11_bestGood_58 : decode cX11_bestGood 58 = .ok (.ireturn, 1) := dk_172 (dk_at dksX11_bestGood_2 10 rfl rfl)
abbrev cX11_rests : ByteArray := prog_19_method_99_code
def yX11_rests : MethodName := ⟨RX11, "rests", "(I)I"⟩
def dkwX11_rests_5 : List UInt8 := [167, 255, 195, 132, 3, 1, 167, 255, 156, 28, 172]
abbrev dktX11_rests_5 : List UInt8 := dkwX11_rests_5 ++ []
def dkwX11_rests_4 : List UInt8 := [29, 21, 5, 128, 46, 116, 42, 4, 21, 5, 27, 182, 1, 120, 160, 0, 6, 132, 2, 1, 132, 5, 1]
abbrev dktX11_rests_4 : List UInt8 := dkwX11_rests_4 ++ dktX11_rests_5
def dkwX11_rests_3 : List UInt8 := [182, 1, 103, 153, 0, 41, 42, 180, 0, 40, 29, 21, 5, 128, 46, 21, 4, 160, 0, 27, 42, 180, 0, 40]
abbrev dktX11_rests_3 : List UInt8 := dkwX11_rests_3 ++ dktX11_rests_4
def dkwX11_rests_2 : List UInt8 := [29, 27, 182, 1, 120, 54, 4, 3, 54, 5, 21, 5, 42, 182, 0, 78, 163, 0, 58, 42, 4, 21, 5, 27]
abbrev dktX11_rests_2 : List UInt8 := dkwX11_rests_2 ++ dktX11_rests_3
def dkwX11_rests_1 : List UInt8 := [62, 29, 42, 182, 0, 78, 163, 0, 98, 42, 3, 29, 27, 182, 1, 103, 154, 0, 6, 167, 0, 79, 42, 3]
abbrev dktX11_rests_1 : List UInt8 := dkwX11_rests_1 ++ dktX11_rests_2
def dkwX11_rests_0 : List UInt8 := [42, 182, 0, 74, 153, 0, 10, 27, 184, 1, 110, 154, 0, 6, 16, 254, 172, 42, 182, 1, 100, 3, 61, 3]
abbrev dktX11_rests_0 : List UInt8 := dkwX11_rests_0 ++ dktX11_rests_1
theorem dksX11_rests_0 : cX11_rests.data.toList.drop 0 = dktX11_rests_0 := by decide +kernel
theorem dksX11_rests_1 : cX11_rests.data.toList.drop 24 = dktX11_rests_1 := dk_seg dksX11_rests_0 24 rfl rfl
theorem dksX11_rests_2 : cX11_rests.data.toList.drop 48 = dktX11_rests_2 := dk_seg dksX11_rests_1 24 rfl rfl
theorem dksX11_rests_3 : cX11_rests.data.toList.drop 72 = dktX11_rests_3 := dk_seg dksX11_rests_2 24 rfl rfl
theorem dksX11_rests_4 : cX11_rests.data.toList.drop 96 = dktX11_rests_4 := dk_seg dksX11_rests_3 24 rfl rfl
theorem dksX11_rests_5 : cX11_rests.data.toList.drop 119 = dktX11_rests_5 := dk_seg dksX11_rests_4 23 rfl rfl
theorem dX11_rests_0 : decode cX11_rests 0 = .ok (.aload_n 0, 1) := dk_42 (dk_at dksX11_rests_0 0 rfl rfl)
theorem dX11_rests_1 : decode cX11_rests 1 = .ok (.invokevirtual 74, 3) := dk_182 0 74 (dk_at dksX11_rests_0 1 rfl rfl)
theorem dX11_rests_4 : decode cX11_rests 4 = .ok (.ifCond .eq 10, 3) := dk_153 0 10 (dk_at dksX11_rests_0 4 rfl rfl)
theorem dX11_rests_7 : decode cX11_rests 7 = .ok (.iload_n 1, 1) := dk_27 (dk_at dksX11_rests_0 7 rfl rfl)
theorem dX11_rests_8 : decode cX11_rests 8 = .ok (.invokestatic 366, 3) := dk_184 1 110 (dk_at dksX11_rests_0 8 rfl rfl)
theorem dX11_rests_11 : decode cX11_rests 11 = .ok (.ifCond .ne 6, 3) := dk_154 0 6 (dk_at dksX11_rests_0 11 rfl rfl)
theorem dX11_rests_14 : decode cX11_rests 14 = .ok (.bipush (-2), 2) := dk_16 254 (dk_at dksX11_rests_0 14 rfl rfl)
theorem dX11_rests_16 : decode cX11_rests 16 = .ok (.ireturn, 1) := dk_172 (dk_at dksX11_rests_0 16 rfl rfl)
theorem dX11_rests_17 : decode cX11_rests 17 = .ok (.aload_n 0, 1) := dk_42 (dk_at dksX11_rests_0 17 rfl rfl)
theorem dX11_rests_18 : decode cX11_rests 18 = .ok (.invokevirtual 356, 3) := dk_182 1 100 (dk_at dksX11_rests_0 18 rfl rfl)
theorem dX11_rests_21 : decode cX11_rests 21 = .ok (.iconst 0, 1) := dk_3 (dk_at dksX11_rests_0 21 rfl rfl)
theorem dX11_rests_22 : decode cX11_rests 22 = .ok (.istore_n 2, 1) := dk_61 (dk_at dksX11_rests_0 22 rfl rfl)
theorem dX11_rests_23 : decode cX11_rests 23 = .ok (.iconst 0, 1) := dk_3 (dk_at dksX11_rests_0 23 rfl rfl)
theorem dX11_rests_24 : decode cX11_rests 24 = .ok (.istore_n 3, 1) := dk_62 (dk_at dksX11_rests_1 0 rfl rfl)
theorem dX11_rests_25 : decode cX11_rests 25 = .ok (.iload_n 3, 1) := dk_29 (dk_at dksX11_rests_1 1 rfl rfl)
theorem dX11_rests_26 : decode cX11_rests 26 = .ok (.aload_n 0, 1) := dk_42 (dk_at dksX11_rests_1 2 rfl rfl)
theorem dX11_rests_27 : decode cX11_rests 27 = .ok (.invokevirtual 78, 3) := dk_182 0 78 (dk_at dksX11_rests_1 3 rfl rfl)
theorem dX11_rests_30 : decode cX11_rests 30 = .ok (.if_icmp .gt 98, 3) := dk_163 0 98 (dk_at dksX11_rests_1 6 rfl rfl)
theorem dX11_rests_33 : decode cX11_rests 33 = .ok (.aload_n 0, 1) := dk_42 (dk_at dksX11_rests_1 9 rfl rfl)
theorem dX11_rests_34 : decode cX11_rests 34 = .ok (.iconst 0, 1) := dk_3 (dk_at dksX11_rests_1 10 rfl rfl)
theorem dX11_rests_35 : decode cX11_rests 35 = .ok (.iload_n 3, 1) := dk_29 (dk_at dksX11_rests_1 11 rfl rfl)
theorem dX11_rests_36 : decode cX11_rests 36 = .ok (.iload_n 1, 1) := dk_27 (dk_at dksX11_rests_1 12 rfl rfl)
theorem dX11_rests_37 : decode cX11_rests 37 = .ok (.invokevirtual 359, 3) := dk_182 1 103 (dk_at dksX11_rests_1 13 rfl rfl)
theorem dX11_rests_40 : decode cX11_rests 40 = .ok (.ifCond .ne 6, 3) := dk_154 0 6 (dk_at dksX11_rests_1 16 rfl rfl)
theorem dX11_rests_43 : decode cX11_rests 43 = .ok (.goto 79, 3) := dk_167 0 79 (dk_at dksX11_rests_1 19 rfl rfl)
theorem dX11_rests_46 : decode cX11_rests 46 = .ok (.aload_n 0, 1) := dk_42 (dk_at dksX11_rests_1 22 rfl rfl)
theorem dX11_rests_47 : decode cX11_rests 47 = .ok (.iconst 0, 1) := dk_3 (dk_at dksX11_rests_1 23 rfl rfl)
theorem dX11_rests_48 : decode cX11_rests 48 = .ok (.iload_n 3, 1) := dk_29 (dk_at dksX11_rests_2 0 rfl rfl)
theorem dX11_rests_49 : decode cX11_rests 49 = .ok (.iload_n 1, 1) := dk_27 (dk_at dksX11_rests_2 1 rfl rfl)
theorem dX11_rests_50 : decode cX11_rests 50 = .ok (.invokevirtual 376, 3) := dk_182 1 120 (dk_at dksX11_rests_2 2 rfl rfl)
theorem dX11_rests_53 : decode cX11_rests 53 = .ok (.istore 4, 2) := dk_54 4 (dk_at dksX11_rests_2 5 rfl rfl)
theorem dX11_rests_55 : decode cX11_rests 55 = .ok (.iconst 0, 1) := dk_3 (dk_at dksX11_rests_2 7 rfl rfl)
theorem dX11_rests_56 : decode cX11_rests 56 = .ok (.istore 5, 2) := dk_54 5 (dk_at dksX11_rests_2 8 rfl rfl)
theorem dX11_rests_58 : decode cX11_rests 58 = .ok (.iload 5, 2) := dk_21 5 (dk_at dksX11_rests_2 10 rfl rfl)
theorem dX11_rests_60 : decode cX11_rests 60 = .ok (.aload_n 0, 1) := dk_42 (dk_at dksX11_rests_2 12 rfl rfl)
theorem dX11_rests_61 : decode cX11_rests 61 = .ok (.invokevirtual 78, 3) := dk_182 0 78 (dk_at dksX11_rests_2 13 rfl rfl)
theorem dX11_rests_64 : decode cX11_rests 64 = .ok (.if_icmp .gt 58, 3) := dk_163 0 58 (dk_at dksX11_rests_2 16 rfl rfl)
theorem dX11_rests_67 : decode cX11_rests 67 = .ok (.aload_n 0, 1) := dk_42 (dk_at dksX11_rests_2 19 rfl rfl)
theorem dX11_rests_68 : decode cX11_rests 68 = .ok (.iconst 1, 1) := dk_4 (dk_at dksX11_rests_2 20 rfl rfl)
theorem dX11_rests_69 : decode cX11_rests 69 = .ok (.iload 5, 2) := dk_21 5 (dk_at dksX11_rests_2 21 rfl rfl)
theorem dX11_rests_71 : decode cX11_rests 71 = .ok (.iload_n 1, 1) := dk_27 (dk_at dksX11_rests_2 23 rfl rfl)
theorem dX11_rests_72 : decode cX11_rests 72 = .ok (.invokevirtual 359, 3) := dk_182 1 103 (dk_at dksX11_rests_3 0 rfl rfl)
theorem dX11_rests_75 : decode cX11_rests 75 = .ok (.ifCond .eq 41, 3) := dk_153 0 41 (dk_at dksX11_rests_3 3 rfl rfl)
theorem dX11_rests_78 : decode cX11_rests 78 = .ok (.aload_n 0, 1) := dk_42 (dk_at dksX11_rests_3 6 rfl rfl)
theorem dX11_rests_79 : decode cX11_rests 79 = .ok (.getfield 40, 3) := dk_180 0 40 (dk_at dksX11_rests_3 7 rfl rfl)
theorem dX11_rests_82 : decode cX11_rests 82 = .ok (.iload_n 3, 1) := dk_29 (dk_at dksX11_rests_3 10 rfl rfl)
theorem dX11_rests_83 : decode cX11_rests 83 = .ok (.iload 5, 2) := dk_21 5 (dk_at dksX11_rests_3 11 rfl rfl)
theorem dX11_rests_85 : decode cX11_rests 85 = .ok (.ior, 1) := dk_128 (dk_at dksX11_rests_3 13 rfl rfl)
theorem dX11_rests_86 : decode cX11_rests 86 = .ok (.iaload, 1) := dk_46 (dk_at dksX11_rests_3 14 rfl rfl)
theorem dX11_rests_87 : decode cX11_rests 87 = .ok (.iload 4, 2) := dk_21 4 (dk_at dksX11_rests_3 15 rfl rfl)
theorem dX11_rests_89 : decode cX11_rests 89 = .ok (.if_icmp .ne 27, 3) := dk_160 0 27 (dk_at dksX11_rests_3 17 rfl rfl)
theorem dX11_rests_92 : decode cX11_rests 92 = .ok (.aload_n 0, 1) := dk_42 (dk_at dksX11_rests_3 20 rfl rfl)
theorem dX11_rests_93 : decode cX11_rests 93 = .ok (.getfield 40, 3) := dk_180 0 40 (dk_at dksX11_rests_3 21 rfl rfl)
theorem dX11_rests_96 : decode cX11_rests 96 = .ok (.iload_n 3, 1) := dk_29 (dk_at dksX11_rests_4 0 rfl rfl)
theorem dX11_rests_97 : decode cX11_rests 97 = .ok (.iload 5, 2) := dk_21 5 (dk_at dksX11_rests_4 1 rfl rfl)
theorem dX11_rests_99 : decode cX11_rests 99 = .ok (.ior, 1) := dk_128 (dk_at dksX11_rests_4 3 rfl rfl)
theorem dX11_rests_100 : decode cX11_rests 100 = .ok (.iaload, 1) := dk_46 (dk_at dksX11_rests_4 4 rfl rfl)
theorem dX11_rests_101 : decode cX11_rests 101 = .ok (.ineg, 1) := dk_116 (dk_at dksX11_rests_4 5 rfl rfl)
theorem dX11_rests_102 : decode cX11_rests 102 = .ok (.aload_n 0, 1) := dk_42 (dk_at dksX11_rests_4 6 rfl rfl)
theorem dX11_rests_103 : decode cX11_rests 103 = .ok (.iconst 1, 1) := dk_4 (dk_at dksX11_rests_4 7 rfl rfl)
theorem dX11_rests_104 : decode cX11_rests 104 = .ok (.iload 5, 2) := dk_21 5 (dk_at dksX11_rests_4 8 rfl rfl)
theorem dX11_rests_106 : decode cX11_rests 106 = .ok (.iload_n 1, 1) := dk_27 (dk_at dksX11_rests_4 10 rfl rfl)
theorem dX11_rests_107 : decode cX11_rests 107 = .ok (.invokevirtual 376, 3) := dk_182 1 120 (dk_at dksX11_rests_4 11 rfl rfl)
theorem dX11_rests_110 : decode cX11_rests 110 = .ok (.if_icmp .ne 6, 3) := dk_160 0 6 (dk_at dksX11_rests_4 14 rfl rfl)
theorem dX11_rests_113 : decode cX11_rests 113 = .ok (.iinc 2 1, 3) := dk_132 2 1 (dk_at dksX11_rests_4 17 rfl rfl)
theorem dX11_rests_116 : decode cX11_rests 116 = .ok (.iinc 5 1, 3) := dk_132 5 1 (dk_at dksX11_rests_4 20 rfl rfl)
theorem dX11_rests_119 : decode cX11_rests 119 = .ok (.goto (-61), 3) := dk_167 255 195 (dk_at dksX11_rests_5 0 rfl rfl)
theorem dX11_rests_122 : decode cX11_rests 122 = .ok (.iinc 3 1, 3) := dk_132 3 1 (dk_at dksX11_rests_5 3 rfl rfl)
theorem dX11_rests_125 : decode cX11_rests 125 = .ok (.goto (-100), 3) := dk_167 255 156 (dk_at dksX11_rests_5 6 rfl rfl)
theorem dX11_rests_128 : decode cX11_rests 128 = .ok (.iload_n 2, 1) := dk_28 (dk_at dksX11_rests_5 9 rfl rfl)
theorem dX11_rests_129 : decode cX11_rests 129 = .ok (.ireturn, 1) := dk_172 (dk_at dksX11_rests_5 10 rfl rfl)
abbrev cX11_hold : ByteArray := prog_19_method_104_code
def yX11_hold : MethodName := ⟨RX11, "hold", "(II)I"⟩
def dkwX11_hold_0 : List UInt8 := [27, 28, 184, 1, 131, 153, 0, 12, 42, 27, 28, 182, 1, 134, 167, 0, 6, 17, 252, 24, 172]
abbrev dktX11_hold_0 : List UInt8 := dkwX11_hold_0 ++ []
theorem dksX11_hold_0 : cX11_hold.data.toList.drop 0 = dktX11_hold_0 := by decide +kernel
theorem dX11_hold_0 : decode cX11_hold 0 = .ok (.iload_n 1, 1) := dk_27 (dk_at dksX11_hold_0 0 rfl rfl)
theorem dX11_hold_1 : decode cX11_hold 1 = .ok (.iload_n 2, 1) := dk_28 (dk_at dksX11_hold_0 1 rfl rfl)
theorem dX11_hold_2 : decode cX11_hold 2 = .ok (.invokestatic 387, 3) := dk_184 1 131 (dk_at dksX11_hold_0 2 rfl rfl)
theorem dX11_hold_5 : decode cX11_hold 5 = .ok (.ifCond .eq 12, 3) := dk_153 0 12 (dk_at dksX11_hold_0 5 rfl rfl)
theorem dX11_hold_8 : decode cX11_hold 8 = .ok (.aload_n 0, 1) := dk_42 (dk_at dksX11_hold_0 8 rfl rfl)
theorem dX11_hold_9 : decode cX11_hold 9 = .ok (.iload_n 1, 1) := dk_27 (dk_at dksX11_hold_0 9 rfl rfl)
theorem dX11_hold_10 : decode cX11_hold 10 = .ok (.iload_n 2, 1) := dk_28 (dk_at dksX11_hold_0 10 rfl rfl)
theorem dX11_hold_11 : decode cX11_hold 11 = .ok (.invokevirtual 390, 3) := dk_182 1 134 (dk_at dksX11_hold_0 11 rfl rfl)
theorem dX11_hold_14 : decode cX11_hold 14 = .ok (.goto 6, 3) := dk_167 0 6 (dk_at dksX11_hold_0 14 rfl rfl)
theorem dX11_hold_17 : decode cX11_hold 17 = .ok (.sipush (-1000), 3) := dk_17 252 24 (dk_at dksX11_hold_0 17 rfl rfl)
theorem dX11_hold_20 : decode cX11_hold 20 = .ok (.ireturn, 1) := dk_172 (dk_at dksX11_hold_0 20 rfl rfl)
abbrev cX11_areMen : ByteArray := prog_19_method_103_code
def yX11_areMen : MethodName := ⟨RX11, "areMen", "(II)Z"⟩
def dkwX11_areMen_1 : List UInt8 := [4, 167, 0, 4, 3, 172]
abbrev dktX11_areMen_1 : List UInt8 := dkwX11_areMen_1 ++ []
def dkwX11_areMen_0 : List UInt8 := [26, 133, 9, 20, 1, 129, 184, 0, 70, 153, 0, 19, 27, 133, 9, 20, 1, 129, 184, 0, 70, 153, 0, 7]
abbrev dktX11_areMen_0 : List UInt8 := dkwX11_areMen_0 ++ dktX11_areMen_1
theorem dksX11_areMen_0 : cX11_areMen.data.toList.drop 0 = dktX11_areMen_0 := by decide +kernel
theorem dksX11_areMen_1 : cX11_areMen.data.toList.drop 24 = dktX11_areMen_1 := dk_seg dksX11_areMen_0 24 rfl rfl
theorem dX11_areMen_0 : decode cX11_areMen 0 = .ok (.iload_n 0, 1) := dk_26 (dk_at dksX11_areMen_0 0 rfl rfl)
theorem dX11_areMen_1 : decode cX11_areMen 1 = .ok (.i2l, 1) := dk_133 (dk_at dksX11_areMen_0 1 rfl rfl)
theorem dX11_areMen_2 : decode cX11_areMen 2 = .ok (.lconst 0, 1) := dk_9 (dk_at dksX11_areMen_0 2 rfl rfl)
theorem dX11_areMen_3 : decode cX11_areMen 3 = .ok (.ldc2_w 385, 3) := dk_20 1 129 (dk_at dksX11_areMen_0 3 rfl rfl)
theorem dX11_areMen_6 : decode cX11_areMen 6 = .ok (.invokestatic 70, 3) := dk_184 0 70 (dk_at dksX11_areMen_0 6 rfl rfl)
theorem dX11_areMen_9 : decode cX11_areMen 9 = .ok (.ifCond .eq 19, 3) := dk_153 0 19 (dk_at dksX11_areMen_0 9 rfl rfl)
theorem dX11_areMen_12 : decode cX11_areMen 12 = .ok (.iload_n 1, 1) := dk_27 (dk_at dksX11_areMen_0 12 rfl rfl)
theorem dX11_areMen_13 : decode cX11_areMen 13 = .ok (.i2l, 1) := dk_133 (dk_at dksX11_areMen_0 13 rfl rfl)
theorem dX11_areMen_14 : decode cX11_areMen 14 = .ok (.lconst 0, 1) := dk_9 (dk_at dksX11_areMen_0 14 rfl rfl)
theorem dX11_areMen_15 : decode cX11_areMen 15 = .ok (.ldc2_w 385, 3) := dk_20 1 129 (dk_at dksX11_areMen_0 15 rfl rfl)
theorem dX11_areMen_18 : decode cX11_areMen 18 = .ok (.invokestatic 70, 3) := dk_184 0 70 (dk_at dksX11_areMen_0 18 rfl rfl)
theorem dX11_areMen_21 : decode cX11_areMen 21 = .ok (.ifCond .eq 7, 3) := dk_153 0 7 (dk_at dksX11_areMen_0 21 rfl rfl)
theorem dX11_areMen_24 : decode cX11_areMen 24 = .ok (.iconst 1, 1) := dk_4 (dk_at dksX11_areMen_1 0 rfl rfl)
theorem dX11_areMen_25 : decode cX11_areMen 25 = .ok (.goto 4, 3) := dk_167 0 4 (dk_at dksX11_areMen_1 1 rfl rfl)
theorem dX11_areMen_28 : decode cX11_areMen 28 = .ok (.iconst 0, 1) := dk_3 (dk_at dksX11_areMen_1 4 rfl rfl)
theorem dX11_areMen_29 : decode cX11_areMen 29 = .ok (.ireturn, 1) := dk_172 (dk_at dksX11_areMen_1 5 rfl rfl)
abbrev cX11_holdOf : ByteArray := prog_19_method_102_code
def yX11_holdOf : MethodName := ⟨RX11, "holdOf", "(II)I"⟩
def dkwX11_holdOf_6 : List UInt8 := [167, 255, 233, 42, 28, 182, 1, 126, 87, 29, 172]
abbrev dktX11_holdOf_6 : List UInt8 := dkwX11_holdOf_6 ++ []
def dkwX11_holdOf_5 : List UInt8 := [21, 4, 6, 162, 0, 23, 42, 180, 0, 43, 21, 4, 42, 180, 0, 46, 21, 4, 46, 79, 132, 4, 1]
abbrev dktX11_holdOf_5 : List UInt8 := dkwX11_holdOf_5 ++ dktX11_holdOf_6
def dkwX11_holdOf_4 : List UInt8 := [46, 79, 132, 7, 1, 167, 255, 233, 132, 5, 1, 167, 255, 167, 132, 4, 1, 167, 255, 152, 3, 54, 4]
abbrev dktX11_holdOf_4 : List UInt8 := dkwX11_holdOf_4 ++ dktX11_holdOf_5
def dkwX11_holdOf_3 : List UInt8 := [21, 6, 62, 3, 54, 7, 21, 7, 6, 162, 0, 23, 42, 180, 0, 46, 21, 7, 42, 180, 0, 43, 21, 7]
abbrev dktX11_holdOf_3 : List UInt8 := dkwX11_holdOf_3 ++ dktX11_holdOf_4
def dkwX11_holdOf_2 : List UInt8 := [27, 21, 4, 100, 21, 5, 100, 79, 42, 28, 182, 1, 126, 54, 6, 21, 6, 29, 163, 0, 6, 167, 0, 35]
abbrev dktX11_holdOf_2 : List UInt8 := dkwX11_holdOf_2 ++ dktX11_holdOf_3
def dkwX11_holdOf_1 : List UInt8 := [163, 0, 86, 42, 180, 0, 43, 3, 21, 4, 79, 42, 180, 0, 43, 4, 21, 5, 79, 42, 180, 0, 43, 5]
abbrev dktX11_holdOf_1 : List UInt8 := dkwX11_holdOf_1 ++ dktX11_holdOf_2
def dkwX11_holdOf_0 : List UInt8 := [19, 1, 116, 62, 3, 54, 4, 21, 4, 27, 163, 0, 104, 3, 54, 5, 21, 4, 21, 5, 96, 27]
abbrev dktX11_holdOf_0 : List UInt8 := dkwX11_holdOf_0 ++ dktX11_holdOf_1
theorem dksX11_holdOf_0 : cX11_holdOf.data.toList.drop 0 = dktX11_holdOf_0 := by decide +kernel
theorem dksX11_holdOf_1 : cX11_holdOf.data.toList.drop 22 = dktX11_holdOf_1 := dk_seg dksX11_holdOf_0 22 rfl rfl
theorem dksX11_holdOf_2 : cX11_holdOf.data.toList.drop 46 = dktX11_holdOf_2 := dk_seg dksX11_holdOf_1 24 rfl rfl
theorem dksX11_holdOf_3 : cX11_holdOf.data.toList.drop 70 = dktX11_holdOf_3 := dk_seg dksX11_holdOf_2 24 rfl rfl
theorem dksX11_holdOf_4 : cX11_holdOf.data.toList.drop 94 = dktX11_holdOf_4 := dk_seg dksX11_holdOf_3 24 rfl rfl
theorem dksX11_holdOf_5 : cX11_holdOf.data.toList.drop 117 = dktX11_holdOf_5 := dk_seg dksX11_holdOf_4 23 rfl rfl
theorem dksX11_holdOf_6 : cX11_holdOf.data.toList.drop 140 = dktX11_holdOf_6 := dk_seg dksX11_holdOf_5 23 rfl rfl
theorem dX11_holdOf_0 : decode cX11_holdOf 0 = .ok (.ldc_w 372, 3) := dk_19 1 116 (dk_at dksX11_holdOf_0 0 rfl rfl)
theorem dX11_holdOf_3 : decode cX11_holdOf 3 = .ok (.istore_n 3, 1) := dk_62 (dk_at dksX11_holdOf_0 3 rfl rfl)
theorem dX11_holdOf_4 : decode cX11_holdOf 4 = .ok (.iconst 0, 1) := dk_3 (dk_at dksX11_holdOf_0 4 rfl rfl)
theorem dX11_holdOf_5 : decode cX11_holdOf 5 = .ok (.istore 4, 2) := dk_54 4 (dk_at dksX11_holdOf_0 5 rfl rfl)
theorem dX11_holdOf_7 : decode cX11_holdOf 7 = .ok (.iload 4, 2) := dk_21 4 (dk_at dksX11_holdOf_0 7 rfl rfl)
theorem dX11_holdOf_9 : decode cX11_holdOf 9 = .ok (.iload_n 1, 1) := dk_27 (dk_at dksX11_holdOf_0 9 rfl rfl)
theorem dX11_holdOf_10 : decode cX11_holdOf 10 = .ok (.if_icmp .gt 104, 3) := dk_163 0 104 (dk_at dksX11_holdOf_0 10 rfl rfl)
theorem dX11_holdOf_13 : decode cX11_holdOf 13 = .ok (.iconst 0, 1) := dk_3 (dk_at dksX11_holdOf_0 13 rfl rfl)
theorem dX11_holdOf_14 : decode cX11_holdOf 14 = .ok (.istore 5, 2) := dk_54 5 (dk_at dksX11_holdOf_0 14 rfl rfl)
theorem dX11_holdOf_16 : decode cX11_holdOf 16 = .ok (.iload 4, 2) := dk_21 4 (dk_at dksX11_holdOf_0 16 rfl rfl)
theorem dX11_holdOf_18 : decode cX11_holdOf 18 = .ok (.iload 5, 2) := dk_21 5 (dk_at dksX11_holdOf_0 18 rfl rfl)
theorem dX11_holdOf_20 : decode cX11_holdOf 20 = .ok (.iadd, 1) := dk_96 (dk_at dksX11_holdOf_0 20 rfl rfl)
theorem dX11_holdOf_21 : decode cX11_holdOf 21 = .ok (.iload_n 1, 1) := dk_27 (dk_at dksX11_holdOf_0 21 rfl rfl)
theorem dX11_holdOf_22 : decode cX11_holdOf 22 = .ok (.if_icmp .gt 86, 3) := dk_163 0 86 (dk_at dksX11_holdOf_1 0 rfl rfl)
theorem dX11_holdOf_25 : decode cX11_holdOf 25 = .ok (.aload_n 0, 1) := dk_42 (dk_at dksX11_holdOf_1 3 rfl rfl)
theorem dX11_holdOf_26 : decode cX11_holdOf 26 = .ok (.getfield 43, 3) := dk_180 0 43 (dk_at dksX11_holdOf_1 4 rfl rfl)
theorem dX11_holdOf_29 : decode cX11_holdOf 29 = .ok (.iconst 0, 1) := dk_3 (dk_at dksX11_holdOf_1 7 rfl rfl)
theorem dX11_holdOf_30 : decode cX11_holdOf 30 = .ok (.iload 4, 2) := dk_21 4 (dk_at dksX11_holdOf_1 8 rfl rfl)
theorem dX11_holdOf_32 : decode cX11_holdOf 32 = .ok (.iastore, 1) := dk_79 (dk_at dksX11_holdOf_1 10 rfl rfl)
theorem dX11_holdOf_33 : decode cX11_holdOf 33 = .ok (.aload_n 0, 1) := dk_42 (dk_at dksX11_holdOf_1 11 rfl rfl)
theorem dX11_holdOf_34 : decode cX11_holdOf 34 = .ok (.getfield 43, 3) := dk_180 0 43 (dk_at dksX11_holdOf_1 12 rfl rfl)
theorem dX11_holdOf_37 : decode cX11_holdOf 37 = .ok (.iconst 1, 1) := dk_4 (dk_at dksX11_holdOf_1 15 rfl rfl)
theorem dX11_holdOf_38 : decode cX11_holdOf 38 = .ok (.iload 5, 2) := dk_21 5 (dk_at dksX11_holdOf_1 16 rfl rfl)
theorem dX11_holdOf_40 : decode cX11_holdOf 40 = .ok (.iastore, 1) := dk_79 (dk_at dksX11_holdOf_1 18 rfl rfl)
theorem dX11_holdOf_41 : decode cX11_holdOf 41 = .ok (.aload_n 0, 1) := dk_42 (dk_at dksX11_holdOf_1 19 rfl rfl)
theorem dX11_holdOf_42 : decode cX11_holdOf 42 = .ok (.getfield 43, 3) := dk_180 0 43 (dk_at dksX11_holdOf_1 20 rfl rfl)
theorem dX11_holdOf_45 : decode cX11_holdOf 45 = .ok (.iconst 2, 1) := dk_5 (dk_at dksX11_holdOf_1 23 rfl rfl)
theorem dX11_holdOf_46 : decode cX11_holdOf 46 = .ok (.iload_n 1, 1) := dk_27 (dk_at dksX11_holdOf_2 0 rfl rfl)
theorem dX11_holdOf_47 : decode cX11_holdOf 47 = .ok (.iload 4, 2) := dk_21 4 (dk_at dksX11_holdOf_2 1 rfl rfl)
theorem dX11_holdOf_49 : decode cX11_holdOf 49 = .ok (.isub, 1) := dk_100 (dk_at dksX11_holdOf_2 3 rfl rfl)
theorem dX11_holdOf_50 : decode cX11_holdOf 50 = .ok (.iload 5, 2) := dk_21 5 (dk_at dksX11_holdOf_2 4 rfl rfl)
theorem dX11_holdOf_52 : decode cX11_holdOf 52 = .ok (.isub, 1) := dk_100 (dk_at dksX11_holdOf_2 6 rfl rfl)
theorem dX11_holdOf_53 : decode cX11_holdOf 53 = .ok (.iastore, 1) := dk_79 (dk_at dksX11_holdOf_2 7 rfl rfl)
theorem dX11_holdOf_54 : decode cX11_holdOf 54 = .ok (.aload_n 0, 1) := dk_42 (dk_at dksX11_holdOf_2 8 rfl rfl)
theorem dX11_holdOf_55 : decode cX11_holdOf 55 = .ok (.iload_n 2, 1) := dk_28 (dk_at dksX11_holdOf_2 9 rfl rfl)
theorem dX11_holdOf_56 : decode cX11_holdOf 56 = .ok (.invokevirtual 382, 3) := dk_182 1 126 (dk_at dksX11_holdOf_2 10 rfl rfl)
theorem dX11_holdOf_59 : decode cX11_holdOf 59 = .ok (.istore 6, 2) := dk_54 6 (dk_at dksX11_holdOf_2 13 rfl rfl)
theorem dX11_holdOf_61 : decode cX11_holdOf 61 = .ok (.iload 6, 2) := dk_21 6 (dk_at dksX11_holdOf_2 15 rfl rfl)
theorem dX11_holdOf_63 : decode cX11_holdOf 63 = .ok (.iload_n 3, 1) := dk_29 (dk_at dksX11_holdOf_2 17 rfl rfl)
theorem dX11_holdOf_64 : decode cX11_holdOf 64 = .ok (.if_icmp .gt 6, 3) := dk_163 0 6 (dk_at dksX11_holdOf_2 18 rfl rfl)
theorem dX11_holdOf_67 : decode cX11_holdOf 67 = .ok (.goto 35, 3) := dk_167 0 35 (dk_at dksX11_holdOf_2 21 rfl rfl)
theorem dX11_holdOf_70 : decode cX11_holdOf 70 = .ok (.iload 6, 2) := dk_21 6 (dk_at dksX11_holdOf_3 0 rfl rfl)
theorem dX11_holdOf_72 : decode cX11_holdOf 72 = .ok (.istore_n 3, 1) := dk_62 (dk_at dksX11_holdOf_3 2 rfl rfl)
theorem dX11_holdOf_73 : decode cX11_holdOf 73 = .ok (.iconst 0, 1) := dk_3 (dk_at dksX11_holdOf_3 3 rfl rfl)
theorem dX11_holdOf_74 : decode cX11_holdOf 74 = .ok (.istore 7, 2) := dk_54 7 (dk_at dksX11_holdOf_3 4 rfl rfl)
theorem dX11_holdOf_76 : decode cX11_holdOf 76 = .ok (.iload 7, 2) := dk_21 7 (dk_at dksX11_holdOf_3 6 rfl rfl)
theorem dX11_holdOf_78 : decode cX11_holdOf 78 = .ok (.iconst 3, 1) := dk_6 (dk_at dksX11_holdOf_3 8 rfl rfl)
theorem dX11_holdOf_79 : decode cX11_holdOf 79 = .ok (.if_icmp .ge 23, 3) := dk_162 0 23 (dk_at dksX11_holdOf_3 9 rfl rfl)
theorem dX11_holdOf_82 : decode cX11_holdOf 82 = .ok (.aload_n 0, 1) := dk_42 (dk_at dksX11_holdOf_3 12 rfl rfl)
theorem dX11_holdOf_83 : decode cX11_holdOf 83 = .ok (.getfield 46, 3) := dk_180 0 46 (dk_at dksX11_holdOf_3 13 rfl rfl)
theorem dX11_holdOf_86 : decode cX11_holdOf 86 = .ok (.iload 7, 2) := dk_21 7 (dk_at dksX11_holdOf_3 16 rfl rfl)
theorem dX11_holdOf_88 : decode cX11_holdOf 88 = .ok (.aload_n 0, 1) := dk_42 (dk_at dksX11_holdOf_3 18 rfl rfl)
theorem dX11_holdOf_89 : decode cX11_holdOf 89 = .ok (.getfield 43, 3) := dk_180 0 43 (dk_at dksX11_holdOf_3 19 rfl rfl)
theorem dX11_holdOf_92 : decode cX11_holdOf 92 = .ok (.iload 7, 2) := dk_21 7 (dk_at dksX11_holdOf_3 22 rfl rfl)
theorem dX11_holdOf_94 : decode cX11_holdOf 94 = .ok (.iaload, 1) := dk_46 (dk_at dksX11_holdOf_4 0 rfl rfl)
theorem dX11_holdOf_95 : decode cX11_holdOf 95 = .ok (.iastore, 1) := dk_79 (dk_at dksX11_holdOf_4 1 rfl rfl)
theorem dX11_holdOf_96 : decode cX11_holdOf 96 = .ok (.iinc 7 1, 3) := dk_132 7 1 (dk_at dksX11_holdOf_4 2 rfl rfl)
theorem dX11_holdOf_99 : decode cX11_holdOf 99 = .ok (.goto (-23), 3) := dk_167 255 233 (dk_at dksX11_holdOf_4 5 rfl rfl)
theorem dX11_holdOf_102 : decode cX11_holdOf 102 = .ok (.iinc 5 1, 3) := dk_132 5 1 (dk_at dksX11_holdOf_4 8 rfl rfl)
theorem dX11_holdOf_105 : decode cX11_holdOf 105 = .ok (.goto (-89), 3) := dk_167 255 167 (dk_at dksX11_holdOf_4 11 rfl rfl)
theorem dX11_holdOf_108 : decode cX11_holdOf 108 = .ok (.iinc 4 1, 3) := dk_132 4 1 (dk_at dksX11_holdOf_4 14 rfl rfl)
theorem dX11_holdOf_111 : decode cX11_holdOf 111 = .ok (.goto (-104), 3) := dk_167 255 152 (dk_at dksX11_holdOf_4 17 rfl rfl)
theorem dX11_holdOf_114 : decode cX11_holdOf 114 = .ok (.iconst 0, 1) := dk_3 (dk_at dksX11_holdOf_4 20 rfl rfl)
theorem dX11_holdOf_115 : decode cX11_holdOf 115 = .ok (.istore 4, 2) := dk_54 4 (dk_at dksX11_holdOf_4 21 rfl rfl)
theorem dX11_holdOf_117 : decode cX11_holdOf 117 = .ok (.iload 4, 2) := dk_21 4 (dk_at dksX11_holdOf_5 0 rfl rfl)
theorem dX11_holdOf_119 : decode cX11_holdOf 119 = .ok (.iconst 3, 1) := dk_6 (dk_at dksX11_holdOf_5 2 rfl rfl)
theorem dX11_holdOf_120 : decode cX11_holdOf 120 = .ok (.if_icmp .ge 23, 3) := dk_162 0 23 (dk_at dksX11_holdOf_5 3 rfl rfl)
theorem dX11_holdOf_123 : decode cX11_holdOf 123 = .ok (.aload_n 0, 1) := dk_42 (dk_at dksX11_holdOf_5 6 rfl rfl)
theorem dX11_holdOf_124 : decode cX11_holdOf 124 = .ok (.getfield 43, 3) := dk_180 0 43 (dk_at dksX11_holdOf_5 7 rfl rfl)
theorem dX11_holdOf_127 : decode cX11_holdOf 127 = .ok (.iload 4, 2) := dk_21 4 (dk_at dksX11_holdOf_5 10 rfl rfl)
theorem dX11_holdOf_129 : decode cX11_holdOf 129 = .ok (.aload_n 0, 1) := dk_42 (dk_at dksX11_holdOf_5 12 rfl rfl)
theorem dX11_holdOf_130 : decode cX11_holdOf 130 = .ok (.getfield 46, 3) := dk_180 0 46 (dk_at dksX11_holdOf_5 13 rfl rfl)
theorem dX11_holdOf_133 : decode cX11_holdOf 133 = .ok (.iload 4, 2) := dk_21 4 (dk_at dksX11_holdOf_5 16 rfl rfl)
theorem dX11_holdOf_135 : decode cX11_holdOf 135 = .ok (.iaload, 1) := dk_46 (dk_at dksX11_holdOf_5 18 rfl rfl)
theorem dX11_holdOf_136 : decode cX11_holdOf 136 = .ok (.iastore, 1) := dk_79 (dk_at dksX11_holdOf_5 19 rfl rfl)
theorem dX11_holdOf_137 : decode cX11_holdOf 137 = .ok (.iinc 4 1, 3) := dk_132 4 1 (dk_at dksX11_holdOf_5 20 rfl rfl)
theorem dX11_holdOf_140 : decode cX11_holdOf 140 = .ok (.goto (-23), 3) := dk_167 255 233 (dk_at dksX11_holdOf_6 0 rfl rfl)
theorem dX11_holdOf_143 : decode cX11_holdOf 143 = .ok (.aload_n 0, 1) := dk_42 (dk_at dksX11_holdOf_6 3 rfl rfl)
theorem dX11_holdOf_144 : decode cX11_holdOf 144 = .ok (.iload_n 2, 1) := dk_28 (dk_at dksX11_holdOf_6 4 rfl rfl)
theorem dX11_holdOf_145 : decode cX11_holdOf 145 = .ok (.invokevirtual 382, 3) := dk_182 1 126 (dk_at dksX11_holdOf_6 5 rfl rfl)
theorem dX11_holdOf_148 : decode cX11_holdOf 148 = .ok (.pop, 1) := dk_87 (dk_at dksX11_holdOf_6 8 rfl rfl)
theorem dX11_holdOf_149 : decode cX11_holdOf 149 = .ok (.iload_n 3, 1) := dk_29 (dk_at dksX11_holdOf_6 9 rfl rfl)
theorem dX11_holdOf_150 : decode cX11_holdOf 150 = .ok (.ireturn, 1) := dk_172 (dk_at dksX11_holdOf_6 10 rfl rfl)
abbrev cX11_heldBy : ByteArray := prog_19_method_101_code
def yX11_heldBy : MethodName := ⟨RX11, "heldBy", "(I)I"⟩
def dkwX11_heldBy_5 : List UInt8 := [172]
abbrev dktX11_heldBy_5 : List UInt8 := dkwX11_heldBy_5 ++ []
def dkwX11_heldBy_4 : List UInt8 := [180, 0, 49, 5, 27, 29, 100, 21, 4, 100, 79, 132, 4, 1, 167, 255, 163, 132, 3, 1, 167, 255, 149, 28]
abbrev dktX11_heldBy_4 : List UInt8 := dkwX11_heldBy_4 ++ dktX11_heldBy_5
def dkwX11_heldBy_3 : List UInt8 := [167, 0, 33, 21, 5, 61, 42, 180, 0, 49, 3, 29, 79, 42, 180, 0, 49, 4, 21, 4, 79, 42]
abbrev dktX11_heldBy_3 : List UInt8 := dkwX11_heldBy_3 ++ dktX11_heldBy_4
def dkwX11_heldBy_2 : List UInt8 := [180, 0, 43, 5, 46, 27, 29, 100, 21, 4, 100, 100, 184, 1, 123, 96, 54, 5, 21, 5, 28, 161, 0, 6]
abbrev dktX11_heldBy_2 : List UInt8 := dkwX11_heldBy_2 ++ dktX11_heldBy_3
def dkwX11_heldBy_1 : List UInt8 := [180, 0, 43, 3, 46, 29, 100, 184, 1, 123, 42, 180, 0, 43, 4, 46, 21, 4, 100, 184, 1, 123, 96, 42]
abbrev dktX11_heldBy_1 : List UInt8 := dkwX11_heldBy_1 ++ dktX11_heldBy_2
def dkwX11_heldBy_0 : List UInt8 := [19, 1, 24, 61, 3, 62, 29, 27, 163, 0, 108, 3, 54, 4, 29, 21, 4, 96, 27, 163, 0, 91, 42]
abbrev dktX11_heldBy_0 : List UInt8 := dkwX11_heldBy_0 ++ dktX11_heldBy_1
theorem dksX11_heldBy_0 : cX11_heldBy.data.toList.drop 0 = dktX11_heldBy_0 := by decide +kernel
theorem dksX11_heldBy_1 : cX11_heldBy.data.toList.drop 23 = dktX11_heldBy_1 := dk_seg dksX11_heldBy_0 23 rfl rfl
theorem dksX11_heldBy_2 : cX11_heldBy.data.toList.drop 47 = dktX11_heldBy_2 := dk_seg dksX11_heldBy_1 24 rfl rfl
theorem dksX11_heldBy_3 : cX11_heldBy.data.toList.drop 71 = dktX11_heldBy_3 := dk_seg dksX11_heldBy_2 24 rfl rfl
theorem dksX11_heldBy_4 : cX11_heldBy.data.toList.drop 93 = dktX11_heldBy_4 := dk_seg dksX11_heldBy_3 22 rfl rfl
theorem dksX11_heldBy_5 : cX11_heldBy.data.toList.drop 117 = dktX11_heldBy_5 := dk_seg dksX11_heldBy_4 24 rfl rfl
theorem dX11_heldBy_0 : decode cX11_heldBy 0 = .ok (.ldc_w 280, 3) := dk_19 1 24 (dk_at dksX11_heldBy_0 0 rfl rfl)
theorem dX11_heldBy_3 : decode cX11_heldBy 3 = .ok (.istore_n 2, 1) := dk_61 (dk_at dksX11_heldBy_0 3 rfl rfl)
theorem dX11_heldBy_4 : decode cX11_heldBy 4 = .ok (.iconst 0, 1) := dk_3 (dk_at dksX11_heldBy_0 4 rfl rfl)
theorem dX11_heldBy_5 : decode cX11_heldBy 5 = .ok (.istore_n 3, 1) := dk_62 (dk_at dksX11_heldBy_0 5 rfl rfl)
theorem dX11_heldBy_6 : decode cX11_heldBy 6 = .ok (.iload_n 3, 1) := dk_29 (dk_at dksX11_heldBy_0 6 rfl rfl)
theorem dX11_heldBy_7 : decode cX11_heldBy 7 = .ok (.iload_n 1, 1) := dk_27 (dk_at dksX11_heldBy_0 7 rfl rfl)
theorem dX11_heldBy_8 : decode cX11_heldBy 8 = .ok (.if_icmp .gt 108, 3) := dk_163 0 108 (dk_at dksX11_heldBy_0 8 rfl rfl)
theorem dX11_heldBy_11 : decode cX11_heldBy 11 = .ok (.iconst 0, 1) := dk_3 (dk_at dksX11_heldBy_0 11 rfl rfl)
theorem dX11_heldBy_12 : decode cX11_heldBy 12 = .ok (.istore 4, 2) := dk_54 4 (dk_at dksX11_heldBy_0 12 rfl rfl)
theorem dX11_heldBy_14 : decode cX11_heldBy 14 = .ok (.iload_n 3, 1) := dk_29 (dk_at dksX11_heldBy_0 14 rfl rfl)
theorem dX11_heldBy_15 : decode cX11_heldBy 15 = .ok (.iload 4, 2) := dk_21 4 (dk_at dksX11_heldBy_0 15 rfl rfl)
theorem dX11_heldBy_17 : decode cX11_heldBy 17 = .ok (.iadd, 1) := dk_96 (dk_at dksX11_heldBy_0 17 rfl rfl)
theorem dX11_heldBy_18 : decode cX11_heldBy 18 = .ok (.iload_n 1, 1) := dk_27 (dk_at dksX11_heldBy_0 18 rfl rfl)
theorem dX11_heldBy_19 : decode cX11_heldBy 19 = .ok (.if_icmp .gt 91, 3) := dk_163 0 91 (dk_at dksX11_heldBy_0 19 rfl rfl)
theorem dX11_heldBy_22 : decode cX11_heldBy 22 = .ok (.aload_n 0, 1) := dk_42 (dk_at dksX11_heldBy_0 22 rfl rfl)
theorem dX11_heldBy_23 : decode cX11_heldBy 23 = .ok (.getfield 43, 3) := dk_180 0 43 (dk_at dksX11_heldBy_1 0 rfl rfl)
theorem dX11_heldBy_26 : decode cX11_heldBy 26 = .ok (.iconst 0, 1) := dk_3 (dk_at dksX11_heldBy_1 3 rfl rfl)
theorem dX11_heldBy_27 : decode cX11_heldBy 27 = .ok (.iaload, 1) := dk_46 (dk_at dksX11_heldBy_1 4 rfl rfl)
theorem dX11_heldBy_28 : decode cX11_heldBy 28 = .ok (.iload_n 3, 1) := dk_29 (dk_at dksX11_heldBy_1 5 rfl rfl)
theorem dX11_heldBy_29 : decode cX11_heldBy 29 = .ok (.isub, 1) := dk_100 (dk_at dksX11_heldBy_1 6 rfl rfl)
theorem dX11_heldBy_30 : decode cX11_heldBy 30 = .ok (.invokestatic 379, 3) := dk_184 1 123 (dk_at dksX11_heldBy_1 7 rfl rfl)
theorem dX11_heldBy_33 : decode cX11_heldBy 33 = .ok (.aload_n 0, 1) := dk_42 (dk_at dksX11_heldBy_1 10 rfl rfl)
theorem dX11_heldBy_34 : decode cX11_heldBy 34 = .ok (.getfield 43, 3) := dk_180 0 43 (dk_at dksX11_heldBy_1 11 rfl rfl)
theorem dX11_heldBy_37 : decode cX11_heldBy 37 = .ok (.iconst 1, 1) := dk_4 (dk_at dksX11_heldBy_1 14 rfl rfl)
theorem dX11_heldBy_38 : decode cX11_heldBy 38 = .ok (.iaload, 1) := dk_46 (dk_at dksX11_heldBy_1 15 rfl rfl)
theorem dX11_heldBy_39 : decode cX11_heldBy 39 = .ok (.iload 4, 2) := dk_21 4 (dk_at dksX11_heldBy_1 16 rfl rfl)
theorem dX11_heldBy_41 : decode cX11_heldBy 41 = .ok (.isub, 1) := dk_100 (dk_at dksX11_heldBy_1 18 rfl rfl)
theorem dX11_heldBy_42 : decode cX11_heldBy 42 = .ok (.invokestatic 379, 3) := dk_184 1 123 (dk_at dksX11_heldBy_1 19 rfl rfl)
theorem dX11_heldBy_45 : decode cX11_heldBy 45 = .ok (.iadd, 1) := dk_96 (dk_at dksX11_heldBy_1 22 rfl rfl)
theorem dX11_heldBy_46 : decode cX11_heldBy 46 = .ok (.aload_n 0, 1) := dk_42 (dk_at dksX11_heldBy_1 23 rfl rfl)
theorem dX11_heldBy_47 : decode cX11_heldBy 47 = .ok (.getfield 43, 3) := dk_180 0 43 (dk_at dksX11_heldBy_2 0 rfl rfl)
theorem dX11_heldBy_50 : decode cX11_heldBy 50 = .ok (.iconst 2, 1) := dk_5 (dk_at dksX11_heldBy_2 3 rfl rfl)
theorem dX11_heldBy_51 : decode cX11_heldBy 51 = .ok (.iaload, 1) := dk_46 (dk_at dksX11_heldBy_2 4 rfl rfl)
theorem dX11_heldBy_52 : decode cX11_heldBy 52 = .ok (.iload_n 1, 1) := dk_27 (dk_at dksX11_heldBy_2 5 rfl rfl)
theorem dX11_heldBy_53 : decode cX11_heldBy 53 = .ok (.iload_n 3, 1) := dk_29 (dk_at dksX11_heldBy_2 6 rfl rfl)
theorem dX11_heldBy_54 : decode cX11_heldBy 54 = .ok (.isub, 1) := dk_100 (dk_at dksX11_heldBy_2 7 rfl rfl)
theorem dX11_heldBy_55 : decode cX11_heldBy 55 = .ok (.iload 4, 2) := dk_21 4 (dk_at dksX11_heldBy_2 8 rfl rfl)
theorem dX11_heldBy_57 : decode cX11_heldBy 57 = .ok (.isub, 1) := dk_100 (dk_at dksX11_heldBy_2 10 rfl rfl)
theorem dX11_heldBy_58 : decode cX11_heldBy 58 = .ok (.isub, 1) := dk_100 (dk_at dksX11_heldBy_2 11 rfl rfl)
theorem dX11_heldBy_59 : decode cX11_heldBy 59 = .ok (.invokestatic 379, 3) := dk_184 1 123 (dk_at dksX11_heldBy_2 12 rfl rfl)
theorem dX11_heldBy_62 : decode cX11_heldBy 62 = .ok (.iadd, 1) := dk_96 (dk_at dksX11_heldBy_2 15 rfl rfl)
theorem dX11_heldBy_63 : decode cX11_heldBy 63 = .ok (.istore 5, 2) := dk_54 5 (dk_at dksX11_heldBy_2 16 rfl rfl)
theorem dX11_heldBy_65 : decode cX11_heldBy 65 = .ok (.iload 5, 2) := dk_21 5 (dk_at dksX11_heldBy_2 18 rfl rfl)
theorem dX11_heldBy_67 : decode cX11_heldBy 67 = .ok (.iload_n 2, 1) := dk_28 (dk_at dksX11_heldBy_2 20 rfl rfl)
theorem dX11_heldBy_68 : decode cX11_heldBy 68 = .ok (.if_icmp .lt 6, 3) := dk_161 0 6 (dk_at dksX11_heldBy_2 21 rfl rfl)
theorem dX11_heldBy_71 : decode cX11_heldBy 71 = .ok (.goto 33, 3) := dk_167 0 33 (dk_at dksX11_heldBy_3 0 rfl rfl)
theorem dX11_heldBy_74 : decode cX11_heldBy 74 = .ok (.iload 5, 2) := dk_21 5 (dk_at dksX11_heldBy_3 3 rfl rfl)
theorem dX11_heldBy_76 : decode cX11_heldBy 76 = .ok (.istore_n 2, 1) := dk_61 (dk_at dksX11_heldBy_3 5 rfl rfl)
theorem dX11_heldBy_77 : decode cX11_heldBy 77 = .ok (.aload_n 0, 1) := dk_42 (dk_at dksX11_heldBy_3 6 rfl rfl)
theorem dX11_heldBy_78 : decode cX11_heldBy 78 = .ok (.getfield 49, 3) := dk_180 0 49 (dk_at dksX11_heldBy_3 7 rfl rfl)
theorem dX11_heldBy_81 : decode cX11_heldBy 81 = .ok (.iconst 0, 1) := dk_3 (dk_at dksX11_heldBy_3 10 rfl rfl)
theorem dX11_heldBy_82 : decode cX11_heldBy 82 = .ok (.iload_n 3, 1) := dk_29 (dk_at dksX11_heldBy_3 11 rfl rfl)
theorem dX11_heldBy_83 : decode cX11_heldBy 83 = .ok (.iastore, 1) := dk_79 (dk_at dksX11_heldBy_3 12 rfl rfl)
theorem dX11_heldBy_84 : decode cX11_heldBy 84 = .ok (.aload_n 0, 1) := dk_42 (dk_at dksX11_heldBy_3 13 rfl rfl)
theorem dX11_heldBy_85 : decode cX11_heldBy 85 = .ok (.getfield 49, 3) := dk_180 0 49 (dk_at dksX11_heldBy_3 14 rfl rfl)
theorem dX11_heldBy_88 : decode cX11_heldBy 88 = .ok (.iconst 1, 1) := dk_4 (dk_at dksX11_heldBy_3 17 rfl rfl)
theorem dX11_heldBy_89 : decode cX11_heldBy 89 = .ok (.iload 4, 2) := dk_21 4 (dk_at dksX11_heldBy_3 18 rfl rfl)
theorem dX11_heldBy_91 : decode cX11_heldBy 91 = .ok (.iastore, 1) := dk_79 (dk_at dksX11_heldBy_3 20 rfl rfl)
theorem dX11_heldBy_92 : decode cX11_heldBy 92 = .ok (.aload_n 0, 1) := dk_42 (dk_at dksX11_heldBy_3 21 rfl rfl)
theorem dX11_heldBy_93 : decode cX11_heldBy 93 = .ok (.getfield 49, 3) := dk_180 0 49 (dk_at dksX11_heldBy_4 0 rfl rfl)
theorem dX11_heldBy_96 : decode cX11_heldBy 96 = .ok (.iconst 2, 1) := dk_5 (dk_at dksX11_heldBy_4 3 rfl rfl)
theorem dX11_heldBy_97 : decode cX11_heldBy 97 = .ok (.iload_n 1, 1) := dk_27 (dk_at dksX11_heldBy_4 4 rfl rfl)
theorem dX11_heldBy_98 : decode cX11_heldBy 98 = .ok (.iload_n 3, 1) := dk_29 (dk_at dksX11_heldBy_4 5 rfl rfl)
theorem dX11_heldBy_99 : decode cX11_heldBy 99 = .ok (.isub, 1) := dk_100 (dk_at dksX11_heldBy_4 6 rfl rfl)
theorem dX11_heldBy_100 : decode cX11_heldBy 100 = .ok (.iload 4, 2) := dk_21 4 (dk_at dksX11_heldBy_4 7 rfl rfl)
theorem dX11_heldBy_102 : decode cX11_heldBy 102 = .ok (.isub, 1) := dk_100 (dk_at dksX11_heldBy_4 9 rfl rfl)
theorem dX11_heldBy_103 : decode cX11_heldBy 103 = .ok (.iastore, 1) := dk_79 (dk_at dksX11_heldBy_4 10 rfl rfl)
theorem dX11_heldBy_104 : decode cX11_heldBy 104 = .ok (.iinc 4 1, 3) := dk_132 4 1 (dk_at dksX11_heldBy_4 11 rfl rfl)
theorem dX11_heldBy_107 : decode cX11_heldBy 107 = .ok (.goto (-93), 3) := dk_167 255 163 (dk_at dksX11_heldBy_4 14 rfl rfl)
theorem dX11_heldBy_110 : decode cX11_heldBy 110 = .ok (.iinc 3 1, 3) := dk_132 3 1 (dk_at dksX11_heldBy_4 17 rfl rfl)
theorem dX11_heldBy_113 : decode cX11_heldBy 113 = .ok (.goto (-107), 3) := dk_167 255 149 (dk_at dksX11_heldBy_4 20 rfl rfl)
theorem dX11_heldBy_116 : decode cX11_heldBy 116 = .ok (.iload_n 2, 1) := dk_28 (dk_at dksX11_heldBy_4 23 rfl rfl)
theorem dX11_heldBy_117 : decode cX11_heldBy 117 = .ok (.ireturn, 1) := dk_172 (dk_at dksX11_heldBy_5 0 rfl rfl)
abbrev cX11_valueOf : ByteArray := prog_19_method_100_code
def yX11_valueOf : MethodName := ⟨RX11, "valueOf", "(I)I"⟩
def dkwX11_valueOf_0 : List UInt8 := [26, 158, 0, 7, 4, 167, 0, 12, 26, 156, 0, 7, 2, 167, 0, 4, 3, 172]
abbrev dktX11_valueOf_0 : List UInt8 := dkwX11_valueOf_0 ++ []
theorem dksX11_valueOf_0 : cX11_valueOf.data.toList.drop 0 = dktX11_valueOf_0 := by decide +kernel
theorem dX11_valueOf_0 : decode cX11_valueOf 0 = .ok (.iload_n 0, 1) := dk_26 (dk_at dksX11_valueOf_0 0 rfl rfl)
theorem dX11_valueOf_1 : decode cX11_valueOf 1 = .ok (.ifCond .le 7, 3) := dk_158 0 7 (dk_at dksX11_valueOf_0 1 rfl rfl)
theorem dX11_valueOf_4 : decode cX11_valueOf 4 = .ok (.iconst 1, 1) := dk_4 (dk_at dksX11_valueOf_0 4 rfl rfl)
theorem dX11_valueOf_5 : decode cX11_valueOf 5 = .ok (.goto 12, 3) := dk_167 0 12 (dk_at dksX11_valueOf_0 5 rfl rfl)
theorem dX11_valueOf_8 : decode cX11_valueOf 8 = .ok (.iload_n 0, 1) := dk_26 (dk_at dksX11_valueOf_0 8 rfl rfl)
theorem dX11_valueOf_9 : decode cX11_valueOf 9 = .ok (.ifCond .ge 7, 3) := dk_156 0 7 (dk_at dksX11_valueOf_0 9 rfl rfl)
theorem dX11_valueOf_12 : decode cX11_valueOf 12 = .ok (.iconst (-1), 1) := dk_2 (dk_at dksX11_valueOf_0 12 rfl rfl)
theorem dX11_valueOf_13 : decode cX11_valueOf 13 = .ok (.goto 4, 3) := dk_167 0 4 (dk_at dksX11_valueOf_0 13 rfl rfl)
theorem dX11_valueOf_16 : decode cX11_valueOf 16 = .ok (.iconst 0, 1) := dk_3 (dk_at dksX11_valueOf_0 16 rfl rfl)
theorem dX11_valueOf_17 : decode cX11_valueOf 17 = .ok (.ireturn, 1) := dk_172 (dk_at dksX11_valueOf_0 17 rfl rfl)
abbrev cX11_holds : ByteArray := prog_19_method_105_code
def yX11_holds : MethodName := ⟨RX11, "holds", "(III)I"⟩
def dkwX11_holds_1 : List UInt8 := [27, 28, 182, 1, 134, 87, 42, 180, 0, 46, 29, 46, 172]
abbrev dktX11_holds_1 : List UInt8 := dkwX11_holds_1 ++ []
def dkwX11_holds_0 : List UInt8 := [27, 28, 184, 1, 131, 153, 0, 15, 29, 133, 9, 20, 0, 68, 184, 0, 70, 154, 0, 6, 16, 254, 172, 42]
abbrev dktX11_holds_0 : List UInt8 := dkwX11_holds_0 ++ dktX11_holds_1
theorem dksX11_holds_0 : cX11_holds.data.toList.drop 0 = dktX11_holds_0 := by decide +kernel
theorem dksX11_holds_1 : cX11_holds.data.toList.drop 24 = dktX11_holds_1 := dk_seg dksX11_holds_0 24 rfl rfl
theorem dX11_holds_0 : decode cX11_holds 0 = .ok (.iload_n 1, 1) := dk_27 (dk_at dksX11_holds_0 0 rfl rfl)
theorem dX11_holds_1 : decode cX11_holds 1 = .ok (.iload_n 2, 1) := dk_28 (dk_at dksX11_holds_0 1 rfl rfl)
theorem dX11_holds_2 : decode cX11_holds 2 = .ok (.invokestatic 387, 3) := dk_184 1 131 (dk_at dksX11_holds_0 2 rfl rfl)
theorem dX11_holds_5 : decode cX11_holds 5 = .ok (.ifCond .eq 15, 3) := dk_153 0 15 (dk_at dksX11_holds_0 5 rfl rfl)
theorem dX11_holds_8 : decode cX11_holds 8 = .ok (.iload_n 3, 1) := dk_29 (dk_at dksX11_holds_0 8 rfl rfl)
theorem dX11_holds_9 : decode cX11_holds 9 = .ok (.i2l, 1) := dk_133 (dk_at dksX11_holds_0 9 rfl rfl)
theorem dX11_holds_10 : decode cX11_holds 10 = .ok (.lconst 0, 1) := dk_9 (dk_at dksX11_holds_0 10 rfl rfl)
theorem dX11_holds_11 : decode cX11_holds 11 = .ok (.ldc2_w 68, 3) := dk_20 0 68 (dk_at dksX11_holds_0 11 rfl rfl)
theorem dX11_holds_14 : decode cX11_holds 14 = .ok (.invokestatic 70, 3) := dk_184 0 70 (dk_at dksX11_holds_0 14 rfl rfl)
theorem dX11_holds_17 : decode cX11_holds 17 = .ok (.ifCond .ne 6, 3) := dk_154 0 6 (dk_at dksX11_holds_0 17 rfl rfl)
theorem dX11_holds_20 : decode cX11_holds 20 = .ok (.bipush (-2), 2) := dk_16 254 (dk_at dksX11_holds_0 20 rfl rfl)
theorem dX11_holds_22 : decode cX11_holds 22 = .ok (.ireturn, 1) := dk_172 (dk_at dksX11_holds_0 22 rfl rfl)
theorem dX11_holds_23 : decode cX11_holds 23 = .ok (.aload_n 0, 1) := dk_42 (dk_at dksX11_holds_0 23 rfl rfl)
theorem dX11_holds_24 : decode cX11_holds 24 = .ok (.iload_n 1, 1) := dk_27 (dk_at dksX11_holds_1 0 rfl rfl)
theorem dX11_holds_25 : decode cX11_holds 25 = .ok (.iload_n 2, 1) := dk_28 (dk_at dksX11_holds_1 1 rfl rfl)
theorem dX11_holds_26 : decode cX11_holds 26 = .ok (.invokevirtual 390, 3) := dk_182 1 134 (dk_at dksX11_holds_1 2 rfl rfl)
theorem dX11_holds_29 : decode cX11_holds 29 = .ok (.pop, 1) := dk_87 (dk_at dksX11_holds_1 5 rfl rfl)
theorem dX11_holds_30 : decode cX11_holds 30 = .ok (.aload_n 0, 1) := dk_42 (dk_at dksX11_holds_1 6 rfl rfl)
theorem dX11_holds_31 : decode cX11_holds 31 = .ok (.getfield 46, 3) := dk_180 0 46 (dk_at dksX11_holds_1 7 rfl rfl)
theorem dX11_holds_34 : decode cX11_holds 34 = .ok (.iload_n 3, 1) := dk_29 (dk_at dksX11_holds_1 10 rfl rfl)
theorem dX11_holds_35 : decode cX11_holds 35 = .ok (.iaload, 1) := dk_46 (dk_at dksX11_holds_1 11 rfl rfl)
theorem dX11_holds_36 : decode cX11_holds 36 = .ok (.ireturn, 1) := dk_172 (dk_at dksX11_holds_1 12 rfl rfl)
abbrev cX11_reply : ByteArray := prog_19_method_106_code
def yX11_reply : MethodName := ⟨RX11, "reply", "(III)I"⟩
def dkwX11_reply_1 : List UInt8 := [27, 28, 182, 1, 134, 87, 42, 180, 0, 49, 29, 46, 172]
abbrev dktX11_reply_1 : List UInt8 := dkwX11_reply_1 ++ []
def dkwX11_reply_0 : List UInt8 := [27, 28, 184, 1, 131, 153, 0, 15, 29, 133, 9, 20, 0, 68, 184, 0, 70, 154, 0, 6, 16, 254, 172, 42]
abbrev dktX11_reply_0 : List UInt8 := dkwX11_reply_0 ++ dktX11_reply_1
theorem dksX11_reply_0 : cX11_reply.data.toList.drop 0 = dktX11_reply_0 := by decide +kernel
theorem dksX11_reply_1 : cX11_reply.data.toList.drop 24 = dktX11_reply_1 := dk_seg dksX11_reply_0 24 rfl rfl
theorem dX11_reply_0 : decode cX11_reply 0 = .ok (.iload_n 1, 1) := dk_27 (dk_at dksX11_reply_0 0 rfl rfl)
theorem dX11_reply_1 : decode cX11_reply 1 = .ok (.iload_n 2, 1) := dk_28 (dk_at dksX11_reply_0 1 rfl rfl)
theorem dX11_reply_2 : decode cX11_reply 2 = .ok (.invokestatic 387, 3) := dk_184 1 131 (dk_at dksX11_reply_0 2 rfl rfl)
theorem dX11_reply_5 : decode cX11_reply 5 = .ok (.ifCond .eq 15, 3) := dk_153 0 15 (dk_at dksX11_reply_0 5 rfl rfl)
theorem dX11_reply_8 : decode cX11_reply 8 = .ok (.iload_n 3, 1) := dk_29 (dk_at dksX11_reply_0 8 rfl rfl)
theorem dX11_reply_9 : decode cX11_reply 9 = .ok (.i2l, 1) := dk_133 (dk_at dksX11_reply_0 9 rfl rfl)
theorem dX11_reply_10 : decode cX11_reply 10 = .ok (.lconst 0, 1) := dk_9 (dk_at dksX11_reply_0 10 rfl rfl)
theorem dX11_reply_11 : decode cX11_reply 11 = .ok (.ldc2_w 68, 3) := dk_20 0 68 (dk_at dksX11_reply_0 11 rfl rfl)
theorem dX11_reply_14 : decode cX11_reply 14 = .ok (.invokestatic 70, 3) := dk_184 0 70 (dk_at dksX11_reply_0 14 rfl rfl)
theorem dX11_reply_17 : decode cX11_reply 17 = .ok (.ifCond .ne 6, 3) := dk_154 0 6 (dk_at dksX11_reply_0 17 rfl rfl)
theorem dX11_reply_20 : decode cX11_reply 20 = .ok (.bipush (-2), 2) := dk_16 254 (dk_at dksX11_reply_0 20 rfl rfl)
theorem dX11_reply_22 : decode cX11_reply 22 = .ok (.ireturn, 1) := dk_172 (dk_at dksX11_reply_0 22 rfl rfl)
theorem dX11_reply_23 : decode cX11_reply 23 = .ok (.aload_n 0, 1) := dk_42 (dk_at dksX11_reply_0 23 rfl rfl)
theorem dX11_reply_24 : decode cX11_reply 24 = .ok (.iload_n 1, 1) := dk_27 (dk_at dksX11_reply_1 0 rfl rfl)
theorem dX11_reply_25 : decode cX11_reply 25 = .ok (.iload_n 2, 1) := dk_28 (dk_at dksX11_reply_1 1 rfl rfl)
theorem dX11_reply_26 : decode cX11_reply 26 = .ok (.invokevirtual 390, 3) := dk_182 1 134 (dk_at dksX11_reply_1 2 rfl rfl)
theorem dX11_reply_29 : decode cX11_reply 29 = .ok (.pop, 1) := dk_87 (dk_at dksX11_reply_1 5 rfl rfl)
theorem dX11_reply_30 : decode cX11_reply 30 = .ok (.aload_n 0, 1) := dk_42 (dk_at dksX11_reply_1 6 rfl rfl)
theorem dX11_reply_31 : decode cX11_reply 31 = .ok (.getfield 49, 3) := dk_180 0 49 (dk_at dksX11_reply_1 7 rfl rfl)
theorem dX11_reply_34 : decode cX11_reply 34 = .ok (.iload_n 3, 1) := dk_29 (dk_at dksX11_reply_1 10 rfl rfl)
theorem dX11_reply_35 : decode cX11_reply 35 = .ok (.iaload, 1) := dk_46 (dk_at dksX11_reply_1 11 rfl rfl)
theorem dX11_reply_36 : decode cX11_reply 36 = .ok (.ireturn, 1) := dk_172 (dk_at dksX11_reply_1 12 rfl rfl)
abbrev cX11_readings : ByteArray := prog_19_method_111_code
def yX11_readings : MethodName := ⟨RX11, "readings", "(I)I"⟩
def dkwX11_readings_0 : List UInt8 := [42, 27, 182, 1, 145, 153, 0, 11, 42, 27, 182, 1, 148, 167, 0, 5, 16, 254, 172]
abbrev dktX11_readings_0 : List UInt8 := dkwX11_readings_0 ++ []
theorem dksX11_readings_0 : cX11_readings.data.toList.drop 0 = dktX11_readings_0 := by decide +kernel
theorem dX11_readings_0 : decode cX11_readings 0 = .ok (.aload_n 0, 1) := dk_42 (dk_at dksX11_readings_0 0 rfl rfl)
theorem dX11_readings_1 : decode cX11_readings 1 = .ok (.iload_n 1, 1) := dk_27 (dk_at dksX11_readings_0 1 rfl rfl)
theorem dX11_readings_2 : decode cX11_readings 2 = .ok (.invokevirtual 401, 3) := dk_182 1 145 (dk_at dksX11_readings_0 2 rfl rfl)
theorem dX11_readings_5 : decode cX11_readings 5 = .ok (.ifCond .eq 11, 3) := dk_153 0 11 (dk_at dksX11_readings_0 5 rfl rfl)
theorem dX11_readings_8 : decode cX11_readings 8 = .ok (.aload_n 0, 1) := dk_42 (dk_at dksX11_readings_0 8 rfl rfl)
theorem dX11_readings_9 : decode cX11_readings 9 = .ok (.iload_n 1, 1) := dk_27 (dk_at dksX11_readings_0 9 rfl rfl)
theorem dX11_readings_10 : decode cX11_readings 10 = .ok (.invokevirtual 404, 3) := dk_182 1 148 (dk_at dksX11_readings_0 10 rfl rfl)
theorem dX11_readings_13 : decode cX11_readings 13 = .ok (.goto 5, 3) := dk_167 0 5 (dk_at dksX11_readings_0 13 rfl rfl)
theorem dX11_readings_16 : decode cX11_readings 16 = .ok (.bipush (-2), 2) := dk_16 254 (dk_at dksX11_readings_0 16 rfl rfl)
theorem dX11_readings_18 : decode cX11_readings 18 = .ok (.ireturn, 1) := dk_172 (dk_at dksX11_readings_0 18 rfl rfl)
abbrev cX11_isSigned : ByteArray := prog_19_method_110_code
def yX11_isSigned : MethodName := ⟨RX11, "isSigned", "(I)Z"⟩
def dkwX11_isSigned_1 : List UInt8 := [172]
abbrev dktX11_isSigned_1 : List UInt8 := dkwX11_isSigned_1 ++ []
def dkwX11_isSigned_0 : List UInt8 := [42, 182, 0, 74, 153, 0, 19, 27, 133, 9, 20, 1, 143, 184, 0, 70, 153, 0, 7, 4, 167, 0, 4, 3]
abbrev dktX11_isSigned_0 : List UInt8 := dkwX11_isSigned_0 ++ dktX11_isSigned_1
theorem dksX11_isSigned_0 : cX11_isSigned.data.toList.drop 0 = dktX11_isSigned_0 := by decide +kernel
theorem dksX11_isSigned_1 : cX11_isSigned.data.toList.drop 24 = dktX11_isSigned_1 := dk_seg dksX11_isSigned_0 24 rfl rfl
theorem dX11_isSigned_0 : decode cX11_isSigned 0 = .ok (.aload_n 0, 1) := dk_42 (dk_at dksX11_isSigned_0 0 rfl rfl)
theorem dX11_isSigned_1 : decode cX11_isSigned 1 = .ok (.invokevirtual 74, 3) := dk_182 0 74 (dk_at dksX11_isSigned_0 1 rfl rfl)
theorem dX11_isSigned_4 : decode cX11_isSigned 4 = .ok (.ifCond .eq 19, 3) := dk_153 0 19 (dk_at dksX11_isSigned_0 4 rfl rfl)
theorem dX11_isSigned_7 : decode cX11_isSigned 7 = .ok (.iload_n 1, 1) := dk_27 (dk_at dksX11_isSigned_0 7 rfl rfl)
theorem dX11_isSigned_8 : decode cX11_isSigned 8 = .ok (.i2l, 1) := dk_133 (dk_at dksX11_isSigned_0 8 rfl rfl)
theorem dX11_isSigned_9 : decode cX11_isSigned 9 = .ok (.lconst 0, 1) := dk_9 (dk_at dksX11_isSigned_0 9 rfl rfl)
theorem dX11_isSigned_10 : decode cX11_isSigned 10 = .ok (.ldc2_w 399, 3) := dk_20 1 143 (dk_at dksX11_isSigned_0 10 rfl rfl)
theorem dX11_isSigned_13 : decode cX11_isSigned 13 = .ok (.invokestatic 70, 3) := dk_184 0 70 (dk_at dksX11_isSigned_0 13 rfl rfl)
theorem dX11_isSigned_16 : decode cX11_isSigned 16 = .ok (.ifCond .eq 7, 3) := dk_153 0 7 (dk_at dksX11_isSigned_0 16 rfl rfl)
theorem dX11_isSigned_19 : decode cX11_isSigned 19 = .ok (.iconst 1, 1) := dk_4 (dk_at dksX11_isSigned_0 19 rfl rfl)
theorem dX11_isSigned_20 : decode cX11_isSigned 20 = .ok (.goto 4, 3) := dk_167 0 4 (dk_at dksX11_isSigned_0 20 rfl rfl)
theorem dX11_isSigned_23 : decode cX11_isSigned 23 = .ok (.iconst 0, 1) := dk_3 (dk_at dksX11_isSigned_0 23 rfl rfl)
theorem dX11_isSigned_24 : decode cX11_isSigned 24 = .ok (.ireturn, 1) := dk_172 (dk_at dksX11_isSigned_1 0 rfl rfl)
abbrev cX11_readingsOf : ByteArray := prog_19_method_109_code
def yX11_readingsOf : MethodName := ⟨RX11, "readingsOf", "(I)I"⟩
def dkwX11_readingsOf_1 : List UInt8 := [167, 0, 4, 3, 96, 61, 132, 3, 1, 167, 255, 228, 28, 172]
abbrev dktX11_readingsOf_1 : List UInt8 := dkwX11_readingsOf_1 ++ []
def dkwX11_readingsOf_0 : List UInt8 := [3, 61, 3, 62, 29, 42, 182, 1, 137, 162, 0, 26, 28, 42, 27, 29, 182, 1, 140, 153, 0, 7, 4]
abbrev dktX11_readingsOf_0 : List UInt8 := dkwX11_readingsOf_0 ++ dktX11_readingsOf_1
theorem dksX11_readingsOf_0 : cX11_readingsOf.data.toList.drop 0 = dktX11_readingsOf_0 := by decide +kernel
theorem dksX11_readingsOf_1 : cX11_readingsOf.data.toList.drop 23 = dktX11_readingsOf_1 := dk_seg dksX11_readingsOf_0 23 rfl rfl
theorem dX11_readingsOf_0 : decode cX11_readingsOf 0 = .ok (.iconst 0, 1) := dk_3 (dk_at dksX11_readingsOf_0 0 rfl rfl)
theorem dX11_readingsOf_1 : decode cX11_readingsOf 1 = .ok (.istore_n 2, 1) := dk_61 (dk_at dksX11_readingsOf_0 1 rfl rfl)
theorem dX11_readingsOf_2 : decode cX11_readingsOf 2 = .ok (.iconst 0, 1) := dk_3 (dk_at dksX11_readingsOf_0 2 rfl rfl)
theorem dX11_readingsOf_3 : decode cX11_readingsOf 3 = .ok (.istore_n 3, 1) := dk_62 (dk_at dksX11_readingsOf_0 3 rfl rfl)
theorem dX11_readingsOf_4 : decode cX11_readingsOf 4 = .ok (.iload_n 3, 1) := dk_29 (dk_at dksX11_readingsOf_0 4 rfl rfl)
theorem dX11_readingsOf_5 : decode cX11_readingsOf 5 = .ok (.aload_n 0, 1) := dk_42 (dk_at dksX11_readingsOf_0 5 rfl rfl)
theorem dX11_readingsOf_6 : decode cX11_readingsOf 6 = .ok (.invokevirtual 393, 3) := dk_182 1 137 (dk_at dksX11_readingsOf_0 6 rfl rfl)
theorem dX11_readingsOf_9 : decode cX11_readingsOf 9 = .ok (.if_icmp .ge 26, 3) := dk_162 0 26 (dk_at dksX11_readingsOf_0 9 rfl rfl)
theorem dX11_readingsOf_12 : decode cX11_readingsOf 12 = .ok (.iload_n 2, 1) := dk_28 (dk_at dksX11_readingsOf_0 12 rfl rfl)
theorem dX11_readingsOf_13 : decode cX11_readingsOf 13 = .ok (.aload_n 0, 1) := dk_42 (dk_at dksX11_readingsOf_0 13 rfl rfl)
theorem dX11_readingsOf_14 : decode cX11_readingsOf 14 = .ok (.iload_n 1, 1) := dk_27 (dk_at dksX11_readingsOf_0 14 rfl rfl)
theorem dX11_readingsOf_15 : decode cX11_readingsOf 15 = .ok (.iload_n 3, 1) := dk_29 (dk_at dksX11_readingsOf_0 15 rfl rfl)
theorem dX11_readingsOf_16 : decode cX11_readingsOf 16 = .ok (.invokevirtual 396, 3) := dk_182 1 140 (dk_at dksX11_readingsOf_0 16 rfl rfl)
theorem dX11_readingsOf_19 : decode cX11_readingsOf 19 = .ok (.ifCond .eq 7, 3) := dk_153 0 7 (dk_at dksX11_readingsOf_0 19 rfl rfl)
theorem dX11_readingsOf_22 : decode cX11_readingsOf 22 = .ok (.iconst 1, 1) := dk_4 (dk_at dksX11_readingsOf_0 22 rfl rfl)
theorem dX11_readingsOf_23 : decode cX11_readingsOf 23 = .ok (.goto 4, 3) := dk_167 0 4 (dk_at dksX11_readingsOf_1 0 rfl rfl)
theorem dX11_readingsOf_26 : decode cX11_readingsOf 26 = .ok (.iconst 0, 1) := dk_3 (dk_at dksX11_readingsOf_1 3 rfl rfl)
theorem dX11_readingsOf_27 : decode cX11_readingsOf 27 = .ok (.iadd, 1) := dk_96 (dk_at dksX11_readingsOf_1 4 rfl rfl)
theorem dX11_readingsOf_28 : decode cX11_readingsOf 28 = .ok (.istore_n 2, 1) := dk_61 (dk_at dksX11_readingsOf_1 5 rfl rfl)
theorem dX11_readingsOf_29 : decode cX11_readingsOf 29 = .ok (.iinc 3 1, 3) := dk_132 3 1 (dk_at dksX11_readingsOf_1 6 rfl rfl)
theorem dX11_readingsOf_32 : decode cX11_readingsOf 32 = .ok (.goto (-28), 3) := dk_167 255 228 (dk_at dksX11_readingsOf_1 9 rfl rfl)
theorem dX11_readingsOf_35 : decode cX11_readingsOf 35 = .ok (.iload_n 2, 1) := dk_28 (dk_at dksX11_readingsOf_1 12 rfl rfl)
theorem dX11_readingsOf_36 : decode cX11_readingsOf 36 = .ok (.ireturn, 1) := dk_172 (dk_at dksX11_readingsOf_1 13 rfl rfl)
abbrev cX11_allReadings : ByteArray := prog_19_method_108_code
def yX11_allReadings : MethodName := ⟨RX11, "allReadings", "()I"⟩
def dkwX11_allReadings_0 : List UInt8 := [4, 5, 42, 180, 0, 9, 16, 7, 46, 104, 120, 172]
abbrev dktX11_allReadings_0 : List UInt8 := dkwX11_allReadings_0 ++ []
theorem dksX11_allReadings_0 : cX11_allReadings.data.toList.drop 0 = dktX11_allReadings_0 := by decide +kernel
theorem dX11_allReadings_0 : decode cX11_allReadings 0 = .ok (.iconst 1, 1) := dk_4 (dk_at dksX11_allReadings_0 0 rfl rfl)
theorem dX11_allReadings_1 : decode cX11_allReadings 1 = .ok (.iconst 2, 1) := dk_5 (dk_at dksX11_allReadings_0 1 rfl rfl)
theorem dX11_allReadings_2 : decode cX11_allReadings 2 = .ok (.aload_n 0, 1) := dk_42 (dk_at dksX11_allReadings_0 2 rfl rfl)
theorem dX11_allReadings_3 : decode cX11_allReadings 3 = .ok (.getfield 9, 3) := dk_180 0 9 (dk_at dksX11_allReadings_0 3 rfl rfl)
theorem dX11_allReadings_6 : decode cX11_allReadings 6 = .ok (.bipush 7, 2) := dk_16 7 (dk_at dksX11_allReadings_0 6 rfl rfl)
theorem dX11_allReadings_8 : decode cX11_allReadings 8 = .ok (.iaload, 1) := dk_46 (dk_at dksX11_allReadings_0 8 rfl rfl)
theorem dX11_allReadings_9 : decode cX11_allReadings 9 = .ok (.imul, 1) := dk_104 (dk_at dksX11_allReadings_0 9 rfl rfl)
theorem dX11_allReadings_10 : decode cX11_allReadings 10 = .ok (.ishl, 1) := dk_120 (dk_at dksX11_allReadings_0 10 rfl rfl)
theorem dX11_allReadings_11 : decode cX11_allReadings 11 = .ok (.ireturn, 1) := dk_172 (dk_at dksX11_allReadings_0 11 rfl rfl)
abbrev cX11_holdsBy : ByteArray := prog_19_method_107_code
def yX11_holdsBy : MethodName := ⟨RX11, "holdsBy", "(II)Z"⟩
def dkwX11_holdsBy_3 : List UInt8 := [184, 0, 70, 153, 0, 5, 3, 172, 132, 3, 1, 167, 255, 176, 4, 172]
abbrev dktX11_holdsBy_3 : List UInt8 := dkwX11_holdsBy_3 ++ []
def dkwX11_holdsBy_2 : List UInt8 := [46, 4, 100, 28, 5, 29, 104, 4, 96, 184, 0, 86, 96, 54, 5, 27, 133, 21, 4, 133, 21, 5, 133]
abbrev dktX11_holdsBy_2 : List UInt8 := dkwX11_holdsBy_2 ++ dktX11_holdsBy_3
def dkwX11_holdsBy_1 : List UInt8 := [4, 96, 28, 5, 29, 104, 184, 0, 86, 100, 54, 4, 42, 180, 0, 9, 16, 107, 5, 29, 104, 96, 4, 96]
abbrev dktX11_holdsBy_1 : List UInt8 := dkwX11_holdsBy_1 ++ dktX11_holdsBy_2
def dkwX11_holdsBy_0 : List UInt8 := [3, 62, 29, 42, 180, 0, 9, 16, 7, 46, 162, 0, 75, 42, 180, 0, 9, 16, 107, 5, 29, 104, 96, 46]
abbrev dktX11_holdsBy_0 : List UInt8 := dkwX11_holdsBy_0 ++ dktX11_holdsBy_1
theorem dksX11_holdsBy_0 : cX11_holdsBy.data.toList.drop 0 = dktX11_holdsBy_0 := by decide +kernel
theorem dksX11_holdsBy_1 : cX11_holdsBy.data.toList.drop 24 = dktX11_holdsBy_1 := dk_seg dksX11_holdsBy_0 24 rfl rfl
theorem dksX11_holdsBy_2 : cX11_holdsBy.data.toList.drop 48 = dktX11_holdsBy_2 := dk_seg dksX11_holdsBy_1 24 rfl rfl
theorem dksX11_holdsBy_3 : cX11_holdsBy.data.toList.drop 71 = dktX11_holdsBy_3 := dk_seg dksX11_holdsBy_2 23 rfl rfl
theorem dX11_holdsBy_0 : decode cX11_holdsBy 0 = .ok (.iconst 0, 1) := dk_3 (dk_at dksX11_holdsBy_0 0 rfl rfl)
theorem dX11_holdsBy_1 : decode cX11_holdsBy 1 = .ok (.istore_n 3, 1) := dk_62 (dk_at dksX11_holdsBy_0 1 rfl rfl)
theorem dX11_holdsBy_2 : decode cX11_holdsBy 2 = .ok (.iload_n 3, 1) := dk_29 (dk_at dksX11_holdsBy_0 2 rfl rfl)
theorem dX11_holdsBy_3 : decode cX11_holdsBy 3 = .ok (.aload_n 0, 1) := dk_42 (dk_at dksX11_holdsBy_0 3 rfl rfl)
theorem dX11_holdsBy_4 : decode cX11_holdsBy 4 = .ok (.getfield 9, 3) := dk_180 0 9 (dk_at dksX11_holdsBy_0 4 rfl rfl)
theorem dX11_holdsBy_7 : decode cX11_holdsBy 7 = .ok (.bipush 7, 2) := dk_16 7 (dk_at dksX11_holdsBy_0 7 rfl rfl)
theorem dX11_holdsBy_9 : decode cX11_holdsBy 9 = .ok (.iaload, 1) := dk_46 (dk_at dksX11_holdsBy_0 9 rfl rfl)
theorem dX11_holdsBy_10 : decode cX11_holdsBy 10 = .ok (.if_icmp .ge 75, 3) := dk_162 0 75 (dk_at dksX11_holdsBy_0 10 rfl rfl)
theorem dX11_holdsBy_13 : decode cX11_holdsBy 13 = .ok (.aload_n 0, 1) := dk_42 (dk_at dksX11_holdsBy_0 13 rfl rfl)
theorem dX11_holdsBy_14 : decode cX11_holdsBy 14 = .ok (.getfield 9, 3) := dk_180 0 9 (dk_at dksX11_holdsBy_0 14 rfl rfl)
theorem dX11_holdsBy_17 : decode cX11_holdsBy 17 = .ok (.bipush 107, 2) := dk_16 107 (dk_at dksX11_holdsBy_0 17 rfl rfl)
theorem dX11_holdsBy_19 : decode cX11_holdsBy 19 = .ok (.iconst 2, 1) := dk_5 (dk_at dksX11_holdsBy_0 19 rfl rfl)
theorem dX11_holdsBy_20 : decode cX11_holdsBy 20 = .ok (.iload_n 3, 1) := dk_29 (dk_at dksX11_holdsBy_0 20 rfl rfl)
theorem dX11_holdsBy_21 : decode cX11_holdsBy 21 = .ok (.imul, 1) := dk_104 (dk_at dksX11_holdsBy_0 21 rfl rfl)
theorem dX11_holdsBy_22 : decode cX11_holdsBy 22 = .ok (.iadd, 1) := dk_96 (dk_at dksX11_holdsBy_0 22 rfl rfl)
theorem dX11_holdsBy_23 : decode cX11_holdsBy 23 = .ok (.iaload, 1) := dk_46 (dk_at dksX11_holdsBy_0 23 rfl rfl)
theorem dX11_holdsBy_24 : decode cX11_holdsBy 24 = .ok (.iconst 1, 1) := dk_4 (dk_at dksX11_holdsBy_1 0 rfl rfl)
theorem dX11_holdsBy_25 : decode cX11_holdsBy 25 = .ok (.iadd, 1) := dk_96 (dk_at dksX11_holdsBy_1 1 rfl rfl)
theorem dX11_holdsBy_26 : decode cX11_holdsBy 26 = .ok (.iload_n 2, 1) := dk_28 (dk_at dksX11_holdsBy_1 2 rfl rfl)
theorem dX11_holdsBy_27 : decode cX11_holdsBy 27 = .ok (.iconst 2, 1) := dk_5 (dk_at dksX11_holdsBy_1 3 rfl rfl)
theorem dX11_holdsBy_28 : decode cX11_holdsBy 28 = .ok (.iload_n 3, 1) := dk_29 (dk_at dksX11_holdsBy_1 4 rfl rfl)
theorem dX11_holdsBy_29 : decode cX11_holdsBy 29 = .ok (.imul, 1) := dk_104 (dk_at dksX11_holdsBy_1 5 rfl rfl)
theorem dX11_holdsBy_30 : decode cX11_holdsBy 30 = .ok (.invokestatic 86, 3) := dk_184 0 86 (dk_at dksX11_holdsBy_1 6 rfl rfl)
theorem dX11_holdsBy_33 : decode cX11_holdsBy 33 = .ok (.isub, 1) := dk_100 (dk_at dksX11_holdsBy_1 9 rfl rfl)
theorem dX11_holdsBy_34 : decode cX11_holdsBy 34 = .ok (.istore 4, 2) := dk_54 4 (dk_at dksX11_holdsBy_1 10 rfl rfl)
theorem dX11_holdsBy_36 : decode cX11_holdsBy 36 = .ok (.aload_n 0, 1) := dk_42 (dk_at dksX11_holdsBy_1 12 rfl rfl)
theorem dX11_holdsBy_37 : decode cX11_holdsBy 37 = .ok (.getfield 9, 3) := dk_180 0 9 (dk_at dksX11_holdsBy_1 13 rfl rfl)
theorem dX11_holdsBy_40 : decode cX11_holdsBy 40 = .ok (.bipush 107, 2) := dk_16 107 (dk_at dksX11_holdsBy_1 16 rfl rfl)
theorem dX11_holdsBy_42 : decode cX11_holdsBy 42 = .ok (.iconst 2, 1) := dk_5 (dk_at dksX11_holdsBy_1 18 rfl rfl)
theorem dX11_holdsBy_43 : decode cX11_holdsBy 43 = .ok (.iload_n 3, 1) := dk_29 (dk_at dksX11_holdsBy_1 19 rfl rfl)
theorem dX11_holdsBy_44 : decode cX11_holdsBy 44 = .ok (.imul, 1) := dk_104 (dk_at dksX11_holdsBy_1 20 rfl rfl)
theorem dX11_holdsBy_45 : decode cX11_holdsBy 45 = .ok (.iadd, 1) := dk_96 (dk_at dksX11_holdsBy_1 21 rfl rfl)
theorem dX11_holdsBy_46 : decode cX11_holdsBy 46 = .ok (.iconst 1, 1) := dk_4 (dk_at dksX11_holdsBy_1 22 rfl rfl)
theorem dX11_holdsBy_47 : decode cX11_holdsBy 47 = .ok (.iadd, 1) := dk_96 (dk_at dksX11_holdsBy_1 23 rfl rfl)
theorem dX11_holdsBy_48 : decode cX11_holdsBy 48 = .ok (.iaload, 1) := dk_46 (dk_at dksX11_holdsBy_2 0 rfl rfl)
theorem dX11_holdsBy_49 : decode cX11_holdsBy 49 = .ok (.iconst 1, 1) := dk_4 (dk_at dksX11_holdsBy_2 1 rfl rfl)
theorem dX11_holdsBy_50 : decode cX11_holdsBy 50 = .ok (.isub, 1) := dk_100 (dk_at dksX11_holdsBy_2 2 rfl rfl)
theorem dX11_holdsBy_51 : decode cX11_holdsBy 51 = .ok (.iload_n 2, 1) := dk_28 (dk_at dksX11_holdsBy_2 3 rfl rfl)
theorem dX11_holdsBy_52 : decode cX11_holdsBy 52 = .ok (.iconst 2, 1) := dk_5 (dk_at dksX11_holdsBy_2 4 rfl rfl)
theorem dX11_holdsBy_53 : decode cX11_holdsBy 53 = .ok (.iload_n 3, 1) := dk_29 (dk_at dksX11_holdsBy_2 5 rfl rfl)
theorem dX11_holdsBy_54 : decode cX11_holdsBy 54 = .ok (.imul, 1) := dk_104 (dk_at dksX11_holdsBy_2 6 rfl rfl)
theorem dX11_holdsBy_55 : decode cX11_holdsBy 55 = .ok (.iconst 1, 1) := dk_4 (dk_at dksX11_holdsBy_2 7 rfl rfl)
theorem dX11_holdsBy_56 : decode cX11_holdsBy 56 = .ok (.iadd, 1) := dk_96 (dk_at dksX11_holdsBy_2 8 rfl rfl)
theorem dX11_holdsBy_57 : decode cX11_holdsBy 57 = .ok (.invokestatic 86, 3) := dk_184 0 86 (dk_at dksX11_holdsBy_2 9 rfl rfl)
theorem dX11_holdsBy_60 : decode cX11_holdsBy 60 = .ok (.iadd, 1) := dk_96 (dk_at dksX11_holdsBy_2 12 rfl rfl)
theorem dX11_holdsBy_61 : decode cX11_holdsBy 61 = .ok (.istore 5, 2) := dk_54 5 (dk_at dksX11_holdsBy_2 13 rfl rfl)
theorem dX11_holdsBy_63 : decode cX11_holdsBy 63 = .ok (.iload_n 1, 1) := dk_27 (dk_at dksX11_holdsBy_2 15 rfl rfl)
theorem dX11_holdsBy_64 : decode cX11_holdsBy 64 = .ok (.i2l, 1) := dk_133 (dk_at dksX11_holdsBy_2 16 rfl rfl)
theorem dX11_holdsBy_65 : decode cX11_holdsBy 65 = .ok (.iload 4, 2) := dk_21 4 (dk_at dksX11_holdsBy_2 17 rfl rfl)
theorem dX11_holdsBy_67 : decode cX11_holdsBy 67 = .ok (.i2l, 1) := dk_133 (dk_at dksX11_holdsBy_2 19 rfl rfl)
theorem dX11_holdsBy_68 : decode cX11_holdsBy 68 = .ok (.iload 5, 2) := dk_21 5 (dk_at dksX11_holdsBy_2 20 rfl rfl)
theorem dX11_holdsBy_70 : decode cX11_holdsBy 70 = .ok (.i2l, 1) := dk_133 (dk_at dksX11_holdsBy_2 22 rfl rfl)
theorem dX11_holdsBy_71 : decode cX11_holdsBy 71 = .ok (.invokestatic 70, 3) := dk_184 0 70 (dk_at dksX11_holdsBy_3 0 rfl rfl)
theorem dX11_holdsBy_74 : decode cX11_holdsBy 74 = .ok (.ifCond .eq 5, 3) := dk_153 0 5 (dk_at dksX11_holdsBy_3 3 rfl rfl)
theorem dX11_holdsBy_77 : decode cX11_holdsBy 77 = .ok (.iconst 0, 1) := dk_3 (dk_at dksX11_holdsBy_3 6 rfl rfl)
theorem dX11_holdsBy_78 : decode cX11_holdsBy 78 = .ok (.ireturn, 1) := dk_172 (dk_at dksX11_holdsBy_3 7 rfl rfl)
theorem dX11_holdsBy_79 : decode cX11_holdsBy 79 = .ok (.iinc 3 1, 3) := dk_132 3 1 (dk_at dksX11_holdsBy_3 8 rfl rfl)
theorem dX11_holdsBy_82 : decode cX11_holdsBy 82 = .ok (.goto (-80), 3) := dk_167 255 176 (dk_at dksX11_holdsBy_3 11 rfl rfl)
theorem dX11_holdsBy_85 : decode cX11_holdsBy 85 = .ok (.iconst 1, 1) := dk_4 (dk_at dksX11_holdsBy_3 14 rfl rfl)
theorem dX11_holdsBy_86 : decode cX11_holdsBy 86 = .ok (.ireturn, 1) := dk_172 (dk_at dksX11_holdsBy_3 15 rfl rfl)
abbrev cX11_loopholes : ByteArray := prog_19_method_112_code
def yX11_loopholes : MethodName := ⟨RX11, "loopholes", "()J"⟩
def dkwX11_loopholes_2 : List UInt8 := [9, 129, 64, 132, 3, 1, 167, 255, 217, 31, 173]
abbrev dktX11_loopholes_2 : List UInt8 := dkwX11_loopholes_2 ++ []
def dkwX11_loopholes_1 : List UInt8 := [182, 1, 148, 133, 10, 42, 182, 1, 137, 4, 100, 133, 184, 0, 70, 153, 0, 9, 10, 29, 121, 167, 0, 4]
abbrev dktX11_loopholes_1 : List UInt8 := dkwX11_loopholes_1 ++ dktX11_loopholes_2
def dkwX11_loopholes_0 : List UInt8 := [42, 182, 0, 74, 154, 0, 7, 20, 1, 19, 173, 9, 64, 3, 62, 29, 16, 60, 162, 0, 39, 31, 42, 29]
abbrev dktX11_loopholes_0 : List UInt8 := dkwX11_loopholes_0 ++ dktX11_loopholes_1
theorem dksX11_loopholes_0 : cX11_loopholes.data.toList.drop 0 = dktX11_loopholes_0 := by decide +kernel
theorem dksX11_loopholes_1 : cX11_loopholes.data.toList.drop 24 = dktX11_loopholes_1 := dk_seg dksX11_loopholes_0 24 rfl rfl
theorem dksX11_loopholes_2 : cX11_loopholes.data.toList.drop 48 = dktX11_loopholes_2 := dk_seg dksX11_loopholes_1 24 rfl rfl
theorem dX11_loopholes_0 : decode cX11_loopholes 0 = .ok (.aload_n 0, 1) := dk_42 (dk_at dksX11_loopholes_0 0 rfl rfl)
theorem dX11_loopholes_1 : decode cX11_loopholes 1 = .ok (.invokevirtual 74, 3) := dk_182 0 74 (dk_at dksX11_loopholes_0 1 rfl rfl)
theorem dX11_loopholes_4 : decode cX11_loopholes 4 = .ok (.ifCond .ne 7, 3) := dk_154 0 7 (dk_at dksX11_loopholes_0 4 rfl rfl)
theorem dX11_loopholes_7 : decode cX11_loopholes 7 = .ok (.ldc2_w 275, 3) := dk_20 1 19 (dk_at dksX11_loopholes_0 7 rfl rfl)
theorem dX11_loopholes_10 : decode cX11_loopholes 10 = .ok (.lreturn, 1) := dk_173 (dk_at dksX11_loopholes_0 10 rfl rfl)
theorem dX11_loopholes_11 : decode cX11_loopholes 11 = .ok (.lconst 0, 1) := dk_9 (dk_at dksX11_loopholes_0 11 rfl rfl)
theorem dX11_loopholes_12 : decode cX11_loopholes 12 = .ok (.lstore_n 1, 1) := dk_64 (dk_at dksX11_loopholes_0 12 rfl rfl)
theorem dX11_loopholes_13 : decode cX11_loopholes 13 = .ok (.iconst 0, 1) := dk_3 (dk_at dksX11_loopholes_0 13 rfl rfl)
theorem dX11_loopholes_14 : decode cX11_loopholes 14 = .ok (.istore_n 3, 1) := dk_62 (dk_at dksX11_loopholes_0 14 rfl rfl)
theorem dX11_loopholes_15 : decode cX11_loopholes 15 = .ok (.iload_n 3, 1) := dk_29 (dk_at dksX11_loopholes_0 15 rfl rfl)
theorem dX11_loopholes_16 : decode cX11_loopholes 16 = .ok (.bipush 60, 2) := dk_16 60 (dk_at dksX11_loopholes_0 16 rfl rfl)
theorem dX11_loopholes_18 : decode cX11_loopholes 18 = .ok (.if_icmp .ge 39, 3) := dk_162 0 39 (dk_at dksX11_loopholes_0 18 rfl rfl)
theorem dX11_loopholes_21 : decode cX11_loopholes 21 = .ok (.lload_n 1, 1) := dk_31 (dk_at dksX11_loopholes_0 21 rfl rfl)
theorem dX11_loopholes_22 : decode cX11_loopholes 22 = .ok (.aload_n 0, 1) := dk_42 (dk_at dksX11_loopholes_0 22 rfl rfl)
theorem dX11_loopholes_23 : decode cX11_loopholes 23 = .ok (.iload_n 3, 1) := dk_29 (dk_at dksX11_loopholes_0 23 rfl rfl)
theorem dX11_loopholes_24 : decode cX11_loopholes 24 = .ok (.invokevirtual 404, 3) := dk_182 1 148 (dk_at dksX11_loopholes_1 0 rfl rfl)
theorem dX11_loopholes_27 : decode cX11_loopholes 27 = .ok (.i2l, 1) := dk_133 (dk_at dksX11_loopholes_1 3 rfl rfl)
theorem dX11_loopholes_28 : decode cX11_loopholes 28 = .ok (.lconst 1, 1) := dk_10 (dk_at dksX11_loopholes_1 4 rfl rfl)
theorem dX11_loopholes_29 : decode cX11_loopholes 29 = .ok (.aload_n 0, 1) := dk_42 (dk_at dksX11_loopholes_1 5 rfl rfl)
theorem dX11_loopholes_30 : decode cX11_loopholes 30 = .ok (.invokevirtual 393, 3) := dk_182 1 137 (dk_at dksX11_loopholes_1 6 rfl rfl)
theorem dX11_loopholes_33 : decode cX11_loopholes 33 = .ok (.iconst 1, 1) := dk_4 (dk_at dksX11_loopholes_1 9 rfl rfl)
theorem dX11_loopholes_34 : decode cX11_loopholes 34 = .ok (.isub, 1) := dk_100 (dk_at dksX11_loopholes_1 10 rfl rfl)
theorem dX11_loopholes_35 : decode cX11_loopholes 35 = .ok (.i2l, 1) := dk_133 (dk_at dksX11_loopholes_1 11 rfl rfl)
theorem dX11_loopholes_36 : decode cX11_loopholes 36 = .ok (.invokestatic 70, 3) := dk_184 0 70 (dk_at dksX11_loopholes_1 12 rfl rfl)
theorem dX11_loopholes_39 : decode cX11_loopholes 39 = .ok (.ifCond .eq 9, 3) := dk_153 0 9 (dk_at dksX11_loopholes_1 15 rfl rfl)
theorem dX11_loopholes_42 : decode cX11_loopholes 42 = .ok (.lconst 1, 1) := dk_10 (dk_at dksX11_loopholes_1 18 rfl rfl)
theorem dX11_loopholes_43 : decode cX11_loopholes 43 = .ok (.iload_n 3, 1) := dk_29 (dk_at dksX11_loopholes_1 19 rfl rfl)
theorem dX11_loopholes_44 : decode cX11_loopholes 44 = .ok (.lshl, 1) := dk_121 (dk_at dksX11_loopholes_1 20 rfl rfl)
theorem dX11_loopholes_45 : decode cX11_loopholes 45 = .ok (.goto 4, 3) := dk_167 0 4 (dk_at dksX11_loopholes_1 21 rfl rfl)
theorem dX11_loopholes_48 : decode cX11_loopholes 48 = .ok (.lconst 0, 1) := dk_9 (dk_at dksX11_loopholes_2 0 rfl rfl)
theorem dX11_loopholes_49 : decode cX11_loopholes 49 = .ok (.lor, 1) := dk_129 (dk_at dksX11_loopholes_2 1 rfl rfl)
theorem dX11_loopholes_50 : decode cX11_loopholes 50 = .ok (.lstore_n 1, 1) := dk_64 (dk_at dksX11_loopholes_2 2 rfl rfl)
theorem dX11_loopholes_51 : decode cX11_loopholes 51 = .ok (.iinc 3 1, 3) := dk_132 3 1 (dk_at dksX11_loopholes_2 3 rfl rfl)
theorem dX11_loopholes_54 : decode cX11_loopholes 54 = .ok (.goto (-39), 3) := dk_167 255 217 (dk_at dksX11_loopholes_2 6 rfl rfl)
theorem dX11_loopholes_57 : decode cX11_loopholes 57 = .ok (.lload_n 1, 1) := dk_31 (dk_at dksX11_loopholes_2 9 rfl rfl)
theorem dX11_loopholes_58 : decode cX11_loopholes 58 = .ok (.lreturn, 1) := dk_173 (dk_at dksX11_loopholes_2 10 rfl rfl)
abbrev cX11_close : ByteArray := prog_19_method_114_code
def yX11_close : MethodName := ⟨RX11, "close", "(I)I"⟩
def dkwX11_close_1 : List UInt8 := [167, 0, 7, 28, 184, 1, 25, 172]
abbrev dktX11_close_1 : List UInt8 := dkwX11_close_1 ++ []
def dkwX11_close_0 : List UInt8 := [42, 27, 182, 1, 145, 154, 0, 6, 16, 254, 172, 42, 27, 182, 1, 151, 61, 28, 2, 160, 0, 7, 2]
abbrev dktX11_close_0 : List UInt8 := dkwX11_close_0 ++ dktX11_close_1
theorem dksX11_close_0 : cX11_close.data.toList.drop 0 = dktX11_close_0 := by decide +kernel
theorem dksX11_close_1 : cX11_close.data.toList.drop 23 = dktX11_close_1 := dk_seg dksX11_close_0 23 rfl rfl
theorem dX11_close_0 : decode cX11_close 0 = .ok (.aload_n 0, 1) := dk_42 (dk_at dksX11_close_0 0 rfl rfl)
theorem dX11_close_1 : decode cX11_close 1 = .ok (.iload_n 1, 1) := dk_27 (dk_at dksX11_close_0 1 rfl rfl)
theorem dX11_close_2 : decode cX11_close 2 = .ok (.invokevirtual 401, 3) := dk_182 1 145 (dk_at dksX11_close_0 2 rfl rfl)
theorem dX11_close_5 : decode cX11_close 5 = .ok (.ifCond .ne 6, 3) := dk_154 0 6 (dk_at dksX11_close_0 5 rfl rfl)
theorem dX11_close_8 : decode cX11_close 8 = .ok (.bipush (-2), 2) := dk_16 254 (dk_at dksX11_close_0 8 rfl rfl)
theorem dX11_close_10 : decode cX11_close 10 = .ok (.ireturn, 1) := dk_172 (dk_at dksX11_close_0 10 rfl rfl)
theorem dX11_close_11 : decode cX11_close 11 = .ok (.aload_n 0, 1) := dk_42 (dk_at dksX11_close_0 11 rfl rfl)
theorem dX11_close_12 : decode cX11_close 12 = .ok (.iload_n 1, 1) := dk_27 (dk_at dksX11_close_0 12 rfl rfl)
theorem dX11_close_13 : decode cX11_close 13 = .ok (.invokevirtual 407, 3) := dk_182 1 151 (dk_at dksX11_close_0 13 rfl rfl)
theorem dX11_close_16 : decode cX11_close 16 = .ok (.istore_n 2, 1) := dk_61 (dk_at dksX11_close_0 16 rfl rfl)
theorem dX11_close_17 : decode cX11_close 17 = .ok (.iload_n 2, 1) := dk_28 (dk_at dksX11_close_0 17 rfl rfl)
theorem dX11_close_18 : decode cX11_close 18 = .ok (.iconst (-1), 1) := dk_2 (dk_at dksX11_close_0 18 rfl rfl)
theorem dX11_close_19 : decode cX11_close 19 = .ok (.if_icmp .ne 7, 3) := dk_160 0 7 (dk_at dksX11_close_0 19 rfl rfl)
theorem dX11_close_22 : decode cX11_close 22 = .ok (.iconst (-1), 1) := dk_2 (dk_at dksX11_close_0 22 rfl rfl)
theorem dX11_close_23 : decode cX11_close 23 = .ok (.goto 7, 3) := dk_167 0 7 (dk_at dksX11_close_1 0 rfl rfl)
theorem dX11_close_26 : decode cX11_close 26 = .ok (.iload_n 2, 1) := dk_28 (dk_at dksX11_close_1 3 rfl rfl)
theorem dX11_close_27 : decode cX11_close 27 = .ok (.invokestatic 281, 3) := dk_184 1 25 (dk_at dksX11_close_1 4 rfl rfl)
theorem dX11_close_30 : decode cX11_close 30 = .ok (.ireturn, 1) := dk_172 (dk_at dksX11_close_1 7 rfl rfl)
abbrev cX11_closedOf : ByteArray := prog_19_method_113_code
def yX11_closedOf : MethodName := ⟨RX11, "closedOf", "(I)I"⟩
def dkwX11_closedOf_4 : List UInt8 := [132, 3, 1, 167, 255, 163, 28, 172]
abbrev dktX11_closedOf_4 : List UInt8 := dkwX11_closedOf_4 ++ []
def dkwX11_closedOf_3 : List UInt8 := [4, 167, 0, 4, 3, 54, 4, 132, 5, 1, 167, 255, 213, 21, 4, 153, 0, 7, 29, 167, 0, 4, 28, 61]
abbrev dktX11_closedOf_3 : List UInt8 := dkwX11_closedOf_3 ++ dktX11_closedOf_4
def dkwX11_closedOf_2 : List UInt8 := [21, 4, 153, 0, 35, 29, 21, 5, 2, 130, 126, 154, 0, 13, 42, 27, 21, 5, 182, 1, 140, 154, 0, 7]
abbrev dktX11_closedOf_2 : List UInt8 := dkwX11_closedOf_2 ++ dktX11_closedOf_3
def dkwX11_closedOf_1 : List UInt8 := [184, 1, 25, 161, 0, 6, 167, 0, 66, 4, 54, 4, 3, 54, 5, 21, 5, 42, 182, 1, 137, 162, 0, 40]
abbrev dktX11_closedOf_1 : List UInt8 := dkwX11_closedOf_1 ++ dktX11_closedOf_2
def dkwX11_closedOf_0 : List UInt8 := [2, 61, 3, 62, 29, 42, 182, 1, 137, 162, 0, 91, 28, 2, 159, 0, 17, 29, 184, 1, 25, 28]
abbrev dktX11_closedOf_0 : List UInt8 := dkwX11_closedOf_0 ++ dktX11_closedOf_1
theorem dksX11_closedOf_0 : cX11_closedOf.data.toList.drop 0 = dktX11_closedOf_0 := by decide +kernel
theorem dksX11_closedOf_1 : cX11_closedOf.data.toList.drop 22 = dktX11_closedOf_1 := dk_seg dksX11_closedOf_0 22 rfl rfl
theorem dksX11_closedOf_2 : cX11_closedOf.data.toList.drop 46 = dktX11_closedOf_2 := dk_seg dksX11_closedOf_1 24 rfl rfl
theorem dksX11_closedOf_3 : cX11_closedOf.data.toList.drop 70 = dktX11_closedOf_3 := dk_seg dksX11_closedOf_2 24 rfl rfl
theorem dksX11_closedOf_4 : cX11_closedOf.data.toList.drop 94 = dktX11_closedOf_4 := dk_seg dksX11_closedOf_3 24 rfl rfl
theorem dX11_closedOf_0 : decode cX11_closedOf 0 = .ok (.iconst (-1), 1) := dk_2 (dk_at dksX11_closedOf_0 0 rfl rfl)
theorem dX11_closedOf_1 : decode cX11_closedOf 1 = .ok (.istore_n 2, 1) := dk_61 (dk_at dksX11_closedOf_0 1 rfl rfl)
theorem dX11_closedOf_2 : decode cX11_closedOf 2 = .ok (.iconst 0, 1) := dk_3 (dk_at dksX11_closedOf_0 2 rfl rfl)
theorem dX11_closedOf_3 : decode cX11_closedOf 3 = .ok (.istore_n 3, 1) := dk_62 (dk_at dksX11_closedOf_0 3 rfl rfl)
theorem dX11_closedOf_4 : decode cX11_closedOf 4 = .ok (.iload_n 3, 1) := dk_29 (dk_at dksX11_closedOf_0 4 rfl rfl)
theorem dX11_closedOf_5 : decode cX11_closedOf 5 = .ok (.aload_n 0, 1) := dk_42 (dk_at dksX11_closedOf_0 5 rfl rfl)
theorem dX11_closedOf_6 : decode cX11_closedOf 6 = .ok (.invokevirtual 393, 3) := dk_182 1 137 (dk_at dksX11_closedOf_0 6 rfl rfl)
theorem dX11_closedOf_9 : decode cX11_closedOf 9 = .ok (.if_icmp .ge 91, 3) := dk_162 0 91 (dk_at dksX11_closedOf_0 9 rfl rfl)
theorem dX11_closedOf_12 : decode cX11_closedOf 12 = .ok (.iload_n 2, 1) := dk_28 (dk_at dksX11_closedOf_0 12 rfl rfl)
theorem dX11_closedOf_13 : decode cX11_closedOf 13 = .ok (.iconst (-1), 1) := dk_2 (dk_at dksX11_closedOf_0 13 rfl rfl)
theorem dX11_closedOf_14 : decode cX11_closedOf 14 = .ok (.if_icmp .eq 17, 3) := dk_159 0 17 (dk_at dksX11_closedOf_0 14 rfl rfl)
theorem dX11_closedOf_17 : decode cX11_closedOf 17 = .ok (.iload_n 3, 1) := dk_29 (dk_at dksX11_closedOf_0 17 rfl rfl)
theorem dX11_closedOf_18 : decode cX11_closedOf 18 = .ok (.invokestatic 281, 3) := dk_184 1 25 (dk_at dksX11_closedOf_0 18 rfl rfl)
theorem dX11_closedOf_21 : decode cX11_closedOf 21 = .ok (.iload_n 2, 1) := dk_28 (dk_at dksX11_closedOf_0 21 rfl rfl)
theorem dX11_closedOf_22 : decode cX11_closedOf 22 = .ok (.invokestatic 281, 3) := dk_184 1 25 (dk_at dksX11_closedOf_1 0 rfl rfl)
theorem dX11_closedOf_25 : decode cX11_closedOf 25 = .ok (.if_icmp .lt 6, 3) := dk_161 0 6 (dk_at dksX11_closedOf_1 3 rfl rfl)
theorem dX11_closedOf_28 : decode cX11_closedOf 28 = .ok (.goto 66, 3) := dk_167 0 66 (dk_at dksX11_closedOf_1 6 rfl rfl)
theorem dX11_closedOf_31 : decode cX11_closedOf 31 = .ok (.iconst 1, 1) := dk_4 (dk_at dksX11_closedOf_1 9 rfl rfl)
theorem dX11_closedOf_32 : decode cX11_closedOf 32 = .ok (.istore 4, 2) := dk_54 4 (dk_at dksX11_closedOf_1 10 rfl rfl)
theorem dX11_closedOf_34 : decode cX11_closedOf 34 = .ok (.iconst 0, 1) := dk_3 (dk_at dksX11_closedOf_1 12 rfl rfl)
theorem dX11_closedOf_35 : decode cX11_closedOf 35 = .ok (.istore 5, 2) := dk_54 5 (dk_at dksX11_closedOf_1 13 rfl rfl)
theorem dX11_closedOf_37 : decode cX11_closedOf 37 = .ok (.iload 5, 2) := dk_21 5 (dk_at dksX11_closedOf_1 15 rfl rfl)
theorem dX11_closedOf_39 : decode cX11_closedOf 39 = .ok (.aload_n 0, 1) := dk_42 (dk_at dksX11_closedOf_1 17 rfl rfl)
theorem dX11_closedOf_40 : decode cX11_closedOf 40 = .ok (.invokevirtual 393, 3) := dk_182 1 137 (dk_at dksX11_closedOf_1 18 rfl rfl)
theorem dX11_closedOf_43 : decode cX11_closedOf 43 = .ok (.if_icmp .ge 40, 3) := dk_162 0 40 (dk_at dksX11_closedOf_1 21 rfl rfl)
theorem dX11_closedOf_46 : decode cX11_closedOf 46 = .ok (.iload 4, 2) := dk_21 4 (dk_at dksX11_closedOf_2 0 rfl rfl)
theorem dX11_closedOf_48 : decode cX11_closedOf 48 = .ok (.ifCond .eq 35, 3) := dk_153 0 35 (dk_at dksX11_closedOf_2 2 rfl rfl)
theorem dX11_closedOf_51 : decode cX11_closedOf 51 = .ok (.iload_n 3, 1) := dk_29 (dk_at dksX11_closedOf_2 5 rfl rfl)
theorem dX11_closedOf_52 : decode cX11_closedOf 52 = .ok (.iload 5, 2) := dk_21 5 (dk_at dksX11_closedOf_2 6 rfl rfl)
theorem dX11_closedOf_54 : decode cX11_closedOf 54 = .ok (.iconst (-1), 1) := dk_2 (dk_at dksX11_closedOf_2 8 rfl rfl)
theorem dX11_closedOf_55 : decode cX11_closedOf 55 = .ok (.ixor, 1) := dk_130 (dk_at dksX11_closedOf_2 9 rfl rfl)
theorem dX11_closedOf_56 : decode cX11_closedOf 56 = .ok (.iand, 1) := dk_126 (dk_at dksX11_closedOf_2 10 rfl rfl)
theorem dX11_closedOf_57 : decode cX11_closedOf 57 = .ok (.ifCond .ne 13, 3) := dk_154 0 13 (dk_at dksX11_closedOf_2 11 rfl rfl)
theorem dX11_closedOf_60 : decode cX11_closedOf 60 = .ok (.aload_n 0, 1) := dk_42 (dk_at dksX11_closedOf_2 14 rfl rfl)
theorem dX11_closedOf_61 : decode cX11_closedOf 61 = .ok (.iload_n 1, 1) := dk_27 (dk_at dksX11_closedOf_2 15 rfl rfl)
theorem dX11_closedOf_62 : decode cX11_closedOf 62 = .ok (.iload 5, 2) := dk_21 5 (dk_at dksX11_closedOf_2 16 rfl rfl)
theorem dX11_closedOf_64 : decode cX11_closedOf 64 = .ok (.invokevirtual 396, 3) := dk_182 1 140 (dk_at dksX11_closedOf_2 18 rfl rfl)
theorem dX11_closedOf_67 : decode cX11_closedOf 67 = .ok (.ifCond .ne 7, 3) := dk_154 0 7 (dk_at dksX11_closedOf_2 21 rfl rfl)
theorem dX11_closedOf_70 : decode cX11_closedOf 70 = .ok (.iconst 1, 1) := dk_4 (dk_at dksX11_closedOf_3 0 rfl rfl)
theorem dX11_closedOf_71 : decode cX11_closedOf 71 = .ok (.goto 4, 3) := dk_167 0 4 (dk_at dksX11_closedOf_3 1 rfl rfl)
theorem dX11_closedOf_74 : decode cX11_closedOf 74 = .ok (.iconst 0, 1) := dk_3 (dk_at dksX11_closedOf_3 4 rfl rfl)
theorem dX11_closedOf_75 : decode cX11_closedOf 75 = .ok (.istore 4, 2) := dk_54 4 (dk_at dksX11_closedOf_3 5 rfl rfl)
theorem dX11_closedOf_77 : decode cX11_closedOf 77 = .ok (.iinc 5 1, 3) := dk_132 5 1 (dk_at dksX11_closedOf_3 7 rfl rfl)
theorem dX11_closedOf_80 : decode cX11_closedOf 80 = .ok (.goto (-43), 3) := dk_167 255 213 (dk_at dksX11_closedOf_3 10 rfl rfl)
theorem dX11_closedOf_83 : decode cX11_closedOf 83 = .ok (.iload 4, 2) := dk_21 4 (dk_at dksX11_closedOf_3 13 rfl rfl)
theorem dX11_closedOf_85 : decode cX11_closedOf 85 = .ok (.ifCond .eq 7, 3) := dk_153 0 7 (dk_at dksX11_closedOf_3 15 rfl rfl)
theorem dX11_closedOf_88 : decode cX11_closedOf 88 = .ok (.iload_n 3, 1) := dk_29 (dk_at dksX11_closedOf_3 18 rfl rfl)
theorem dX11_closedOf_89 : decode cX11_closedOf 89 = .ok (.goto 4, 3) := dk_167 0 4 (dk_at dksX11_closedOf_3 19 rfl rfl)
theorem dX11_closedOf_92 : decode cX11_closedOf 92 = .ok (.iload_n 2, 1) := dk_28 (dk_at dksX11_closedOf_3 22 rfl rfl)
theorem dX11_closedOf_93 : decode cX11_closedOf 93 = .ok (.istore_n 2, 1) := dk_61 (dk_at dksX11_closedOf_3 23 rfl rfl)
theorem dX11_closedOf_94 : decode cX11_closedOf 94 = .ok (.iinc 3 1, 3) := dk_132 3 1 (dk_at dksX11_closedOf_4 0 rfl rfl)
theorem dX11_closedOf_97 : decode cX11_closedOf 97 = .ok (.goto (-93), 3) := dk_167 255 163 (dk_at dksX11_closedOf_4 3 rfl rfl)
theorem dX11_closedOf_100 : decode cX11_closedOf 100 = .ok (.iload_n 2, 1) := dk_28 (dk_at dksX11_closedOf_4 6 rfl rfl)
theorem dX11_closedOf_101 : decode cX11_closedOf 101 = .ok (.ireturn, 1) := dk_172 (dk_at dksX11_closedOf_4 7 rfl rfl)
abbrev cX11_closed : ByteArray := prog_19_method_115_code
def yX11_closed : MethodName := ⟨RX11, "closed", "(I)I"⟩
def dkwX11_closed_0 : List UInt8 := [42, 27, 182, 1, 145, 153, 0, 11, 42, 27, 182, 1, 151, 167, 0, 5, 16, 254, 172]
abbrev dktX11_closed_0 : List UInt8 := dkwX11_closed_0 ++ []
theorem dksX11_closed_0 : cX11_closed.data.toList.drop 0 = dktX11_closed_0 := by decide +kernel
theorem dX11_closed_0 : decode cX11_closed 0 = .ok (.aload_n 0, 1) := dk_42 (dk_at dksX11_closed_0 0 rfl rfl)
theorem dX11_closed_1 : decode cX11_closed 1 = .ok (.iload_n 1, 1) := dk_27 (dk_at dksX11_closed_0 1 rfl rfl)
theorem dX11_closed_2 : decode cX11_closed 2 = .ok (.invokevirtual 401, 3) := dk_182 1 145 (dk_at dksX11_closed_0 2 rfl rfl)
theorem dX11_closed_5 : decode cX11_closed 5 = .ok (.ifCond .eq 11, 3) := dk_153 0 11 (dk_at dksX11_closed_0 5 rfl rfl)
theorem dX11_closed_8 : decode cX11_closed 8 = .ok (.aload_n 0, 1) := dk_42 (dk_at dksX11_closed_0 8 rfl rfl)
theorem dX11_closed_9 : decode cX11_closed 9 = .ok (.iload_n 1, 1) := dk_27 (dk_at dksX11_closed_0 9 rfl rfl)
theorem dX11_closed_10 : decode cX11_closed 10 = .ok (.invokevirtual 407, 3) := dk_182 1 151 (dk_at dksX11_closed_0 10 rfl rfl)
theorem dX11_closed_13 : decode cX11_closed 13 = .ok (.goto 5, 3) := dk_167 0 5 (dk_at dksX11_closed_0 13 rfl rfl)
theorem dX11_closed_16 : decode cX11_closed 16 = .ok (.bipush (-2), 2) := dk_16 254 (dk_at dksX11_closed_0 16 rfl rfl)
theorem dX11_closed_18 : decode cX11_closed 18 = .ok (.ireturn, 1) := dk_172 (dk_at dksX11_closed_0 18 rfl rfl)
abbrev cX11_signs : ByteArray := prog_19_method_116_code
def yX11_signs : MethodName := ⟨RX11, "signs", "()I"⟩
def dkwX11_signs_1 : List UInt8 := [182, 1, 137, 160, 0, 5, 27, 172, 132, 1, 1, 167, 255, 233, 2, 172]
abbrev dktX11_signs_1 : List UInt8 := dkwX11_signs_1 ++ []
def dkwX11_signs_0 : List UInt8 := [42, 182, 0, 74, 154, 0, 6, 16, 254, 172, 3, 60, 27, 16, 60, 162, 0, 23, 42, 27, 182, 1, 148, 42]
abbrev dktX11_signs_0 : List UInt8 := dkwX11_signs_0 ++ dktX11_signs_1
theorem dksX11_signs_0 : cX11_signs.data.toList.drop 0 = dktX11_signs_0 := by decide +kernel
theorem dksX11_signs_1 : cX11_signs.data.toList.drop 24 = dktX11_signs_1 := dk_seg dksX11_signs_0 24 rfl rfl
theorem dX11_signs_0 : decode cX11_signs 0 = .ok (.aload_n 0, 1) := dk_42 (dk_at dksX11_signs_0 0 rfl rfl)
theorem dX11_signs_1 : decode cX11_signs 1 = .ok (.invokevirtual 74, 3) := dk_182 0 74 (dk_at dksX11_signs_0 1 rfl rfl)
theorem dX11_signs_4 : decode cX11_signs 4 = .ok (.ifCond .ne 6, 3) := dk_154 0 6 (dk_at dksX11_signs_0 4 rfl rfl)
theorem dX11_signs_7 : decode cX11_signs 7 = .ok (.bipush (-2), 2) := dk_16 254 (dk_at dksX11_signs_0 7 rfl rfl)
theorem dX11_signs_9 : decode cX11_signs 9 = .ok (.ireturn, 1) := dk_172 (dk_at dksX11_signs_0 9 rfl rfl)
theorem dX11_signs_10 : decode cX11_signs 10 = .ok (.iconst 0, 1) := dk_3 (dk_at dksX11_signs_0 10 rfl rfl)
theorem dX11_signs_11 : decode cX11_signs 11 = .ok (.istore_n 1, 1) := dk_60 (dk_at dksX11_signs_0 11 rfl rfl)
theorem dX11_signs_12 : decode cX11_signs 12 = .ok (.iload_n 1, 1) := dk_27 (dk_at dksX11_signs_0 12 rfl rfl)
theorem dX11_signs_13 : decode cX11_signs 13 = .ok (.bipush 60, 2) := dk_16 60 (dk_at dksX11_signs_0 13 rfl rfl)
theorem dX11_signs_15 : decode cX11_signs 15 = .ok (.if_icmp .ge 23, 3) := dk_162 0 23 (dk_at dksX11_signs_0 15 rfl rfl)
theorem dX11_signs_18 : decode cX11_signs 18 = .ok (.aload_n 0, 1) := dk_42 (dk_at dksX11_signs_0 18 rfl rfl)
theorem dX11_signs_19 : decode cX11_signs 19 = .ok (.iload_n 1, 1) := dk_27 (dk_at dksX11_signs_0 19 rfl rfl)
theorem dX11_signs_20 : decode cX11_signs 20 = .ok (.invokevirtual 404, 3) := dk_182 1 148 (dk_at dksX11_signs_0 20 rfl rfl)
theorem dX11_signs_23 : decode cX11_signs 23 = .ok (.aload_n 0, 1) := dk_42 (dk_at dksX11_signs_0 23 rfl rfl)
theorem dX11_signs_24 : decode cX11_signs 24 = .ok (.invokevirtual 393, 3) := dk_182 1 137 (dk_at dksX11_signs_1 0 rfl rfl)
theorem dX11_signs_27 : decode cX11_signs 27 = .ok (.if_icmp .ne 5, 3) := dk_160 0 5 (dk_at dksX11_signs_1 3 rfl rfl)
theorem dX11_signs_30 : decode cX11_signs 30 = .ok (.iload_n 1, 1) := dk_27 (dk_at dksX11_signs_1 6 rfl rfl)
theorem dX11_signs_31 : decode cX11_signs 31 = .ok (.ireturn, 1) := dk_172 (dk_at dksX11_signs_1 7 rfl rfl)
theorem dX11_signs_32 : decode cX11_signs 32 = .ok (.iinc 1 1, 3) := dk_132 1 1 (dk_at dksX11_signs_1 8 rfl rfl)
theorem dX11_signs_35 : decode cX11_signs 35 = .ok (.goto (-23), 3) := dk_167 255 233 (dk_at dksX11_signs_1 11 rfl rfl)
theorem dX11_signs_38 : decode cX11_signs 38 = .ok (.iconst (-1), 1) := dk_2 (dk_at dksX11_signs_1 14 rfl rfl)
theorem dX11_signs_39 : decode cX11_signs 39 = .ok (.ireturn, 1) := dk_172 (dk_at dksX11_signs_1 15 rfl rfl)
abbrev cX11_treaties : ByteArray := prog_19_method_118_code
def yX11_treaties : MethodName := ⟨RX11, "treaties", "(I)J"⟩
def dkwX11_treaties_2 : List UInt8 := [153, 0, 12, 10, 21, 4, 4, 100, 121, 167, 0, 4, 9, 129, 65, 132, 4, 1, 167, 255, 214, 32, 173]
abbrev dktX11_treaties_2 : List UInt8 := dkwX11_treaties_2 ++ []
def dkwX11_treaties_1 : List UInt8 := [21, 4, 42, 180, 0, 9, 3, 46, 163, 0, 37, 32, 42, 21, 4, 42, 180, 0, 9, 5, 46, 182, 1, 157]
abbrev dktX11_treaties_1 : List UInt8 := dkwX11_treaties_1 ++ dktX11_treaties_2
def dkwX11_treaties_0 : List UInt8 := [42, 27, 182, 1, 10, 154, 0, 7, 20, 1, 19, 173, 42, 27, 182, 1, 2, 87, 9, 65, 4, 54, 4]
abbrev dktX11_treaties_0 : List UInt8 := dkwX11_treaties_0 ++ dktX11_treaties_1
theorem dksX11_treaties_0 : cX11_treaties.data.toList.drop 0 = dktX11_treaties_0 := by decide +kernel
theorem dksX11_treaties_1 : cX11_treaties.data.toList.drop 23 = dktX11_treaties_1 := dk_seg dksX11_treaties_0 23 rfl rfl
theorem dksX11_treaties_2 : cX11_treaties.data.toList.drop 47 = dktX11_treaties_2 := dk_seg dksX11_treaties_1 24 rfl rfl
theorem dX11_treaties_0 : decode cX11_treaties 0 = .ok (.aload_n 0, 1) := dk_42 (dk_at dksX11_treaties_0 0 rfl rfl)
theorem dX11_treaties_1 : decode cX11_treaties 1 = .ok (.iload_n 1, 1) := dk_27 (dk_at dksX11_treaties_0 1 rfl rfl)
theorem dX11_treaties_2 : decode cX11_treaties 2 = .ok (.invokevirtual 266, 3) := dk_182 1 10 (dk_at dksX11_treaties_0 2 rfl rfl)
theorem dX11_treaties_5 : decode cX11_treaties 5 = .ok (.ifCond .ne 7, 3) := dk_154 0 7 (dk_at dksX11_treaties_0 5 rfl rfl)
theorem dX11_treaties_8 : decode cX11_treaties 8 = .ok (.ldc2_w 275, 3) := dk_20 1 19 (dk_at dksX11_treaties_0 8 rfl rfl)
theorem dX11_treaties_11 : decode cX11_treaties 11 = .ok (.lreturn, 1) := dk_173 (dk_at dksX11_treaties_0 11 rfl rfl)
theorem dX11_treaties_12 : decode cX11_treaties 12 = .ok (.aload_n 0, 1) := dk_42 (dk_at dksX11_treaties_0 12 rfl rfl)
theorem dX11_treaties_13 : decode cX11_treaties 13 = .ok (.iload_n 1, 1) := dk_27 (dk_at dksX11_treaties_0 13 rfl rfl)
theorem dX11_treaties_14 : decode cX11_treaties 14 = .ok (.invokevirtual 258, 3) := dk_182 1 2 (dk_at dksX11_treaties_0 14 rfl rfl)
theorem dX11_treaties_17 : decode cX11_treaties 17 = .ok (.pop, 1) := dk_87 (dk_at dksX11_treaties_0 17 rfl rfl)
theorem dX11_treaties_18 : decode cX11_treaties 18 = .ok (.lconst 0, 1) := dk_9 (dk_at dksX11_treaties_0 18 rfl rfl)
theorem dX11_treaties_19 : decode cX11_treaties 19 = .ok (.lstore_n 2, 1) := dk_65 (dk_at dksX11_treaties_0 19 rfl rfl)
theorem dX11_treaties_20 : decode cX11_treaties 20 = .ok (.iconst 1, 1) := dk_4 (dk_at dksX11_treaties_0 20 rfl rfl)
theorem dX11_treaties_21 : decode cX11_treaties 21 = .ok (.istore 4, 2) := dk_54 4 (dk_at dksX11_treaties_0 21 rfl rfl)
theorem dX11_treaties_23 : decode cX11_treaties 23 = .ok (.iload 4, 2) := dk_21 4 (dk_at dksX11_treaties_1 0 rfl rfl)
theorem dX11_treaties_25 : decode cX11_treaties 25 = .ok (.aload_n 0, 1) := dk_42 (dk_at dksX11_treaties_1 2 rfl rfl)
theorem dX11_treaties_26 : decode cX11_treaties 26 = .ok (.getfield 9, 3) := dk_180 0 9 (dk_at dksX11_treaties_1 3 rfl rfl)
theorem dX11_treaties_29 : decode cX11_treaties 29 = .ok (.iconst 0, 1) := dk_3 (dk_at dksX11_treaties_1 6 rfl rfl)
theorem dX11_treaties_30 : decode cX11_treaties 30 = .ok (.iaload, 1) := dk_46 (dk_at dksX11_treaties_1 7 rfl rfl)
theorem dX11_treaties_31 : decode cX11_treaties 31 = .ok (.if_icmp .gt 37, 3) := dk_163 0 37 (dk_at dksX11_treaties_1 8 rfl rfl)
theorem dX11_treaties_34 : decode cX11_treaties 34 = .ok (.lload_n 2, 1) := dk_32 (dk_at dksX11_treaties_1 11 rfl rfl)
theorem dX11_treaties_35 : decode cX11_treaties 35 = .ok (.aload_n 0, 1) := dk_42 (dk_at dksX11_treaties_1 12 rfl rfl)
theorem dX11_treaties_36 : decode cX11_treaties 36 = .ok (.iload 4, 2) := dk_21 4 (dk_at dksX11_treaties_1 13 rfl rfl)
theorem dX11_treaties_38 : decode cX11_treaties 38 = .ok (.aload_n 0, 1) := dk_42 (dk_at dksX11_treaties_1 15 rfl rfl)
theorem dX11_treaties_39 : decode cX11_treaties 39 = .ok (.getfield 9, 3) := dk_180 0 9 (dk_at dksX11_treaties_1 16 rfl rfl)
theorem dX11_treaties_42 : decode cX11_treaties 42 = .ok (.iconst 2, 1) := dk_5 (dk_at dksX11_treaties_1 19 rfl rfl)
theorem dX11_treaties_43 : decode cX11_treaties 43 = .ok (.iaload, 1) := dk_46 (dk_at dksX11_treaties_1 20 rfl rfl)
theorem dX11_treaties_44 : decode cX11_treaties 44 = .ok (.invokevirtual 413, 3) := dk_182 1 157 (dk_at dksX11_treaties_1 21 rfl rfl)
theorem dX11_treaties_47 : decode cX11_treaties 47 = .ok (.ifCond .eq 12, 3) := dk_153 0 12 (dk_at dksX11_treaties_2 0 rfl rfl)
theorem dX11_treaties_50 : decode cX11_treaties 50 = .ok (.lconst 1, 1) := dk_10 (dk_at dksX11_treaties_2 3 rfl rfl)
theorem dX11_treaties_51 : decode cX11_treaties 51 = .ok (.iload 4, 2) := dk_21 4 (dk_at dksX11_treaties_2 4 rfl rfl)
theorem dX11_treaties_53 : decode cX11_treaties 53 = .ok (.iconst 1, 1) := dk_4 (dk_at dksX11_treaties_2 6 rfl rfl)
theorem dX11_treaties_54 : decode cX11_treaties 54 = .ok (.isub, 1) := dk_100 (dk_at dksX11_treaties_2 7 rfl rfl)
theorem dX11_treaties_55 : decode cX11_treaties 55 = .ok (.lshl, 1) := dk_121 (dk_at dksX11_treaties_2 8 rfl rfl)
theorem dX11_treaties_56 : decode cX11_treaties 56 = .ok (.goto 4, 3) := dk_167 0 4 (dk_at dksX11_treaties_2 9 rfl rfl)
theorem dX11_treaties_59 : decode cX11_treaties 59 = .ok (.lconst 0, 1) := dk_9 (dk_at dksX11_treaties_2 12 rfl rfl)
theorem dX11_treaties_60 : decode cX11_treaties 60 = .ok (.lor, 1) := dk_129 (dk_at dksX11_treaties_2 13 rfl rfl)
theorem dX11_treaties_61 : decode cX11_treaties 61 = .ok (.lstore_n 2, 1) := dk_65 (dk_at dksX11_treaties_2 14 rfl rfl)
theorem dX11_treaties_62 : decode cX11_treaties 62 = .ok (.iinc 4 1, 3) := dk_132 4 1 (dk_at dksX11_treaties_2 15 rfl rfl)
theorem dX11_treaties_65 : decode cX11_treaties 65 = .ok (.goto (-42), 3) := dk_167 255 214 (dk_at dksX11_treaties_2 18 rfl rfl)
theorem dX11_treaties_68 : decode cX11_treaties 68 = .ok (.lload_n 2, 1) := dk_32 (dk_at dksX11_treaties_2 21 rfl rfl)
theorem dX11_treaties_69 : decode cX11_treaties 69 = .ok (.lreturn, 1) := dk_173 (dk_at dksX11_treaties_2 22 rfl rfl)
abbrev cX11_isTreaty : ByteArray := prog_19_method_117_code
def yX11_isTreaty : MethodName := ⟨RX11, "isTreaty", "(II)Z"⟩
def dkwX11_isTreaty_1 : List UInt8 := [27, 46, 100, 184, 1, 154, 28, 164, 0, 5, 3, 172, 132, 3, 1, 167, 255, 221, 4, 172]
abbrev dktX11_isTreaty_1 : List UInt8 := dkwX11_isTreaty_1 ++ []
def dkwX11_isTreaty_0 : List UInt8 := [27, 4, 96, 62, 29, 42, 180, 0, 9, 3, 46, 163, 0, 31, 42, 180, 0, 34, 29, 46, 42, 180, 0, 34]
abbrev dktX11_isTreaty_0 : List UInt8 := dkwX11_isTreaty_0 ++ dktX11_isTreaty_1
theorem dksX11_isTreaty_0 : cX11_isTreaty.data.toList.drop 0 = dktX11_isTreaty_0 := by decide +kernel
theorem dksX11_isTreaty_1 : cX11_isTreaty.data.toList.drop 24 = dktX11_isTreaty_1 := dk_seg dksX11_isTreaty_0 24 rfl rfl
theorem dX11_isTreaty_0 : decode cX11_isTreaty 0 = .ok (.iload_n 1, 1) := dk_27 (dk_at dksX11_isTreaty_0 0 rfl rfl)
theorem dX11_isTreaty_1 : decode cX11_isTreaty 1 = .ok (.iconst 1, 1) := dk_4 (dk_at dksX11_isTreaty_0 1 rfl rfl)
theorem dX11_isTreaty_2 : decode cX11_isTreaty 2 = .ok (.iadd, 1) := dk_96 (dk_at dksX11_isTreaty_0 2 rfl rfl)
theorem dX11_isTreaty_3 : decode cX11_isTreaty 3 = .ok (.istore_n 3, 1) := dk_62 (dk_at dksX11_isTreaty_0 3 rfl rfl)
theorem dX11_isTreaty_4 : decode cX11_isTreaty 4 = .ok (.iload_n 3, 1) := dk_29 (dk_at dksX11_isTreaty_0 4 rfl rfl)
theorem dX11_isTreaty_5 : decode cX11_isTreaty 5 = .ok (.aload_n 0, 1) := dk_42 (dk_at dksX11_isTreaty_0 5 rfl rfl)
theorem dX11_isTreaty_6 : decode cX11_isTreaty 6 = .ok (.getfield 9, 3) := dk_180 0 9 (dk_at dksX11_isTreaty_0 6 rfl rfl)
theorem dX11_isTreaty_9 : decode cX11_isTreaty 9 = .ok (.iconst 0, 1) := dk_3 (dk_at dksX11_isTreaty_0 9 rfl rfl)
theorem dX11_isTreaty_10 : decode cX11_isTreaty 10 = .ok (.iaload, 1) := dk_46 (dk_at dksX11_isTreaty_0 10 rfl rfl)
theorem dX11_isTreaty_11 : decode cX11_isTreaty 11 = .ok (.if_icmp .gt 31, 3) := dk_163 0 31 (dk_at dksX11_isTreaty_0 11 rfl rfl)
theorem dX11_isTreaty_14 : decode cX11_isTreaty 14 = .ok (.aload_n 0, 1) := dk_42 (dk_at dksX11_isTreaty_0 14 rfl rfl)
theorem dX11_isTreaty_15 : decode cX11_isTreaty 15 = .ok (.getfield 34, 3) := dk_180 0 34 (dk_at dksX11_isTreaty_0 15 rfl rfl)
theorem dX11_isTreaty_18 : decode cX11_isTreaty 18 = .ok (.iload_n 3, 1) := dk_29 (dk_at dksX11_isTreaty_0 18 rfl rfl)
theorem dX11_isTreaty_19 : decode cX11_isTreaty 19 = .ok (.iaload, 1) := dk_46 (dk_at dksX11_isTreaty_0 19 rfl rfl)
theorem dX11_isTreaty_20 : decode cX11_isTreaty 20 = .ok (.aload_n 0, 1) := dk_42 (dk_at dksX11_isTreaty_0 20 rfl rfl)
theorem dX11_isTreaty_21 : decode cX11_isTreaty 21 = .ok (.getfield 34, 3) := dk_180 0 34 (dk_at dksX11_isTreaty_0 21 rfl rfl)
theorem dX11_isTreaty_24 : decode cX11_isTreaty 24 = .ok (.iload_n 1, 1) := dk_27 (dk_at dksX11_isTreaty_1 0 rfl rfl)
theorem dX11_isTreaty_25 : decode cX11_isTreaty 25 = .ok (.iaload, 1) := dk_46 (dk_at dksX11_isTreaty_1 1 rfl rfl)
theorem dX11_isTreaty_26 : decode cX11_isTreaty 26 = .ok (.isub, 1) := dk_100 (dk_at dksX11_isTreaty_1 2 rfl rfl)
theorem dX11_isTreaty_27 : decode cX11_isTreaty 27 = .ok (.invokestatic 410, 3) := dk_184 1 154 (dk_at dksX11_isTreaty_1 3 rfl rfl)
theorem dX11_isTreaty_30 : decode cX11_isTreaty 30 = .ok (.iload_n 2, 1) := dk_28 (dk_at dksX11_isTreaty_1 6 rfl rfl)
theorem dX11_isTreaty_31 : decode cX11_isTreaty 31 = .ok (.if_icmp .le 5, 3) := dk_164 0 5 (dk_at dksX11_isTreaty_1 7 rfl rfl)
theorem dX11_isTreaty_34 : decode cX11_isTreaty 34 = .ok (.iconst 0, 1) := dk_3 (dk_at dksX11_isTreaty_1 10 rfl rfl)
theorem dX11_isTreaty_35 : decode cX11_isTreaty 35 = .ok (.ireturn, 1) := dk_172 (dk_at dksX11_isTreaty_1 11 rfl rfl)
theorem dX11_isTreaty_36 : decode cX11_isTreaty 36 = .ok (.iinc 3 1, 3) := dk_132 3 1 (dk_at dksX11_isTreaty_1 12 rfl rfl)
theorem dX11_isTreaty_39 : decode cX11_isTreaty 39 = .ok (.goto (-35), 3) := dk_167 255 221 (dk_at dksX11_isTreaty_1 15 rfl rfl)
theorem dX11_isTreaty_42 : decode cX11_isTreaty 42 = .ok (.iconst 1, 1) := dk_4 (dk_at dksX11_isTreaty_1 18 rfl rfl)
theorem dX11_isTreaty_43 : decode cX11_isTreaty 43 = .ok (.ireturn, 1) := dk_172 (dk_at dksX11_isTreaty_1 19 rfl rfl)
abbrev cX11_price : ByteArray := prog_19_method_119_code
def yX11_price : MethodName := ⟨RX11, "price", "(II)I"⟩
def dkwX11_price_2 : List UInt8 := [153, 0, 5, 29, 172, 132, 3, 1, 167, 255, 236, 2, 172]
abbrev dktX11_price_2 : List UInt8 := dkwX11_price_2 ++ []
def dkwX11_price_1 : List UInt8 := [16, 254, 172, 42, 28, 182, 1, 2, 87, 3, 62, 29, 16, 60, 163, 0, 20, 42, 27, 29, 182, 1, 157]
abbrev dktX11_price_1 : List UInt8 := dkwX11_price_1 ++ dktX11_price_2
def dkwX11_price_0 : List UInt8 := [42, 28, 182, 1, 10, 153, 0, 19, 27, 133, 10, 42, 180, 0, 9, 3, 46, 133, 184, 0, 70, 154, 0, 6]
abbrev dktX11_price_0 : List UInt8 := dkwX11_price_0 ++ dktX11_price_1
theorem dksX11_price_0 : cX11_price.data.toList.drop 0 = dktX11_price_0 := by decide +kernel
theorem dksX11_price_1 : cX11_price.data.toList.drop 24 = dktX11_price_1 := dk_seg dksX11_price_0 24 rfl rfl
theorem dksX11_price_2 : cX11_price.data.toList.drop 47 = dktX11_price_2 := dk_seg dksX11_price_1 23 rfl rfl
theorem dX11_price_0 : decode cX11_price 0 = .ok (.aload_n 0, 1) := dk_42 (dk_at dksX11_price_0 0 rfl rfl)
theorem dX11_price_1 : decode cX11_price 1 = .ok (.iload_n 2, 1) := dk_28 (dk_at dksX11_price_0 1 rfl rfl)
theorem dX11_price_2 : decode cX11_price 2 = .ok (.invokevirtual 266, 3) := dk_182 1 10 (dk_at dksX11_price_0 2 rfl rfl)
theorem dX11_price_5 : decode cX11_price 5 = .ok (.ifCond .eq 19, 3) := dk_153 0 19 (dk_at dksX11_price_0 5 rfl rfl)
theorem dX11_price_8 : decode cX11_price 8 = .ok (.iload_n 1, 1) := dk_27 (dk_at dksX11_price_0 8 rfl rfl)
theorem dX11_price_9 : decode cX11_price 9 = .ok (.i2l, 1) := dk_133 (dk_at dksX11_price_0 9 rfl rfl)
theorem dX11_price_10 : decode cX11_price 10 = .ok (.lconst 1, 1) := dk_10 (dk_at dksX11_price_0 10 rfl rfl)
theorem dX11_price_11 : decode cX11_price 11 = .ok (.aload_n 0, 1) := dk_42 (dk_at dksX11_price_0 11 rfl rfl)
theorem dX11_price_12 : decode cX11_price 12 = .ok (.getfield 9, 3) := dk_180 0 9 (dk_at dksX11_price_0 12 rfl rfl)
theorem dX11_price_15 : decode cX11_price 15 = .ok (.iconst 0, 1) := dk_3 (dk_at dksX11_price_0 15 rfl rfl)
theorem dX11_price_16 : decode cX11_price 16 = .ok (.iaload, 1) := dk_46 (dk_at dksX11_price_0 16 rfl rfl)
theorem dX11_price_17 : decode cX11_price 17 = .ok (.i2l, 1) := dk_133 (dk_at dksX11_price_0 17 rfl rfl)
theorem dX11_price_18 : decode cX11_price 18 = .ok (.invokestatic 70, 3) := dk_184 0 70 (dk_at dksX11_price_0 18 rfl rfl)
theorem dX11_price_21 : decode cX11_price 21 = .ok (.ifCond .ne 6, 3) := dk_154 0 6 (dk_at dksX11_price_0 21 rfl rfl)
theorem dX11_price_24 : decode cX11_price 24 = .ok (.bipush (-2), 2) := dk_16 254 (dk_at dksX11_price_1 0 rfl rfl)
theorem dX11_price_26 : decode cX11_price 26 = .ok (.ireturn, 1) := dk_172 (dk_at dksX11_price_1 2 rfl rfl)
theorem dX11_price_27 : decode cX11_price 27 = .ok (.aload_n 0, 1) := dk_42 (dk_at dksX11_price_1 3 rfl rfl)
theorem dX11_price_28 : decode cX11_price 28 = .ok (.iload_n 2, 1) := dk_28 (dk_at dksX11_price_1 4 rfl rfl)
theorem dX11_price_29 : decode cX11_price 29 = .ok (.invokevirtual 258, 3) := dk_182 1 2 (dk_at dksX11_price_1 5 rfl rfl)
theorem dX11_price_32 : decode cX11_price 32 = .ok (.pop, 1) := dk_87 (dk_at dksX11_price_1 8 rfl rfl)
theorem dX11_price_33 : decode cX11_price 33 = .ok (.iconst 0, 1) := dk_3 (dk_at dksX11_price_1 9 rfl rfl)
theorem dX11_price_34 : decode cX11_price 34 = .ok (.istore_n 3, 1) := dk_62 (dk_at dksX11_price_1 10 rfl rfl)
theorem dX11_price_35 : decode cX11_price 35 = .ok (.iload_n 3, 1) := dk_29 (dk_at dksX11_price_1 11 rfl rfl)
theorem dX11_price_36 : decode cX11_price 36 = .ok (.bipush 60, 2) := dk_16 60 (dk_at dksX11_price_1 12 rfl rfl)
theorem dX11_price_38 : decode cX11_price 38 = .ok (.if_icmp .gt 20, 3) := dk_163 0 20 (dk_at dksX11_price_1 14 rfl rfl)
theorem dX11_price_41 : decode cX11_price 41 = .ok (.aload_n 0, 1) := dk_42 (dk_at dksX11_price_1 17 rfl rfl)
theorem dX11_price_42 : decode cX11_price 42 = .ok (.iload_n 1, 1) := dk_27 (dk_at dksX11_price_1 18 rfl rfl)
theorem dX11_price_43 : decode cX11_price 43 = .ok (.iload_n 3, 1) := dk_29 (dk_at dksX11_price_1 19 rfl rfl)
theorem dX11_price_44 : decode cX11_price 44 = .ok (.invokevirtual 413, 3) := dk_182 1 157 (dk_at dksX11_price_1 20 rfl rfl)
theorem dX11_price_47 : decode cX11_price 47 = .ok (.ifCond .eq 5, 3) := dk_153 0 5 (dk_at dksX11_price_2 0 rfl rfl)
theorem dX11_price_50 : decode cX11_price 50 = .ok (.iload_n 3, 1) := dk_29 (dk_at dksX11_price_2 3 rfl rfl)
theorem dX11_price_51 : decode cX11_price 51 = .ok (.ireturn, 1) := dk_172 (dk_at dksX11_price_2 4 rfl rfl)
theorem dX11_price_52 : decode cX11_price 52 = .ok (.iinc 3 1, 3) := dk_132 3 1 (dk_at dksX11_price_2 5 rfl rfl)
theorem dX11_price_55 : decode cX11_price 55 = .ok (.goto (-20), 3) := dk_167 255 236 (dk_at dksX11_price_2 8 rfl rfl)
theorem dX11_price_58 : decode cX11_price 58 = .ok (.iconst (-1), 1) := dk_2 (dk_at dksX11_price_2 11 rfl rfl)
theorem dX11_price_59 : decode cX11_price 59 = .ok (.ireturn, 1) := dk_172 (dk_at dksX11_price_2 12 rfl rfl)
abbrev cX11_spies : ByteArray := prog_19_method_122_code
def yX11_spies : MethodName := ⟨RX11, "spies", "(I)I"⟩
def dkwX11_spies_0 : List UInt8 := [42, 27, 182, 1, 10, 153, 0, 11, 42, 27, 182, 1, 160, 167, 0, 5, 16, 254, 172]
abbrev dktX11_spies_0 : List UInt8 := dkwX11_spies_0 ++ []
theorem dksX11_spies_0 : cX11_spies.data.toList.drop 0 = dktX11_spies_0 := by decide +kernel
theorem dX11_spies_0 : decode cX11_spies 0 = .ok (.aload_n 0, 1) := dk_42 (dk_at dksX11_spies_0 0 rfl rfl)
theorem dX11_spies_1 : decode cX11_spies 1 = .ok (.iload_n 1, 1) := dk_27 (dk_at dksX11_spies_0 1 rfl rfl)
theorem dX11_spies_2 : decode cX11_spies 2 = .ok (.invokevirtual 266, 3) := dk_182 1 10 (dk_at dksX11_spies_0 2 rfl rfl)
theorem dX11_spies_5 : decode cX11_spies 5 = .ok (.ifCond .eq 11, 3) := dk_153 0 11 (dk_at dksX11_spies_0 5 rfl rfl)
theorem dX11_spies_8 : decode cX11_spies 8 = .ok (.aload_n 0, 1) := dk_42 (dk_at dksX11_spies_0 8 rfl rfl)
theorem dX11_spies_9 : decode cX11_spies 9 = .ok (.iload_n 1, 1) := dk_27 (dk_at dksX11_spies_0 9 rfl rfl)
theorem dX11_spies_10 : decode cX11_spies 10 = .ok (.invokevirtual 416, 3) := dk_182 1 160 (dk_at dksX11_spies_0 10 rfl rfl)
theorem dX11_spies_13 : decode cX11_spies 13 = .ok (.goto 5, 3) := dk_167 0 5 (dk_at dksX11_spies_0 13 rfl rfl)
theorem dX11_spies_16 : decode cX11_spies 16 = .ok (.bipush (-2), 2) := dk_16 254 (dk_at dksX11_spies_0 16 rfl rfl)
theorem dX11_spies_18 : decode cX11_spies 18 = .ok (.ireturn, 1) := dk_172 (dk_at dksX11_spies_0 18 rfl rfl)
abbrev cX11_spiesBy : ByteArray := prog_19_method_120_code
def yX11_spiesBy : MethodName := ⟨RX11, "spiesBy", "(I)I"⟩
def dkwX11_spiesBy_2 : List UInt8 := [172]
abbrev dktX11_spiesBy_2 : List UInt8 := dkwX11_spiesBy_2 ++ []
def dkwX11_spiesBy_1 : List UInt8 := [96, 46, 2, 130, 126, 154, 0, 9, 4, 29, 120, 167, 0, 4, 3, 128, 61, 132, 3, 1, 167, 255, 216, 28]
abbrev dktX11_spiesBy_1 : List UInt8 := dkwX11_spiesBy_1 ++ dktX11_spiesBy_2
def dkwX11_spiesBy_0 : List UInt8 := [3, 61, 3, 62, 29, 42, 180, 0, 9, 16, 8, 46, 162, 0, 35, 28, 27, 42, 180, 0, 9, 16, 115, 29]
abbrev dktX11_spiesBy_0 : List UInt8 := dkwX11_spiesBy_0 ++ dktX11_spiesBy_1
theorem dksX11_spiesBy_0 : cX11_spiesBy.data.toList.drop 0 = dktX11_spiesBy_0 := by decide +kernel
theorem dksX11_spiesBy_1 : cX11_spiesBy.data.toList.drop 24 = dktX11_spiesBy_1 := dk_seg dksX11_spiesBy_0 24 rfl rfl
theorem dksX11_spiesBy_2 : cX11_spiesBy.data.toList.drop 48 = dktX11_spiesBy_2 := dk_seg dksX11_spiesBy_1 24 rfl rfl
theorem dX11_spiesBy_0 : decode cX11_spiesBy 0 = .ok (.iconst 0, 1) := dk_3 (dk_at dksX11_spiesBy_0 0 rfl rfl)
theorem dX11_spiesBy_1 : decode cX11_spiesBy 1 = .ok (.istore_n 2, 1) := dk_61 (dk_at dksX11_spiesBy_0 1 rfl rfl)
theorem dX11_spiesBy_2 : decode cX11_spiesBy 2 = .ok (.iconst 0, 1) := dk_3 (dk_at dksX11_spiesBy_0 2 rfl rfl)
theorem dX11_spiesBy_3 : decode cX11_spiesBy 3 = .ok (.istore_n 3, 1) := dk_62 (dk_at dksX11_spiesBy_0 3 rfl rfl)
theorem dX11_spiesBy_4 : decode cX11_spiesBy 4 = .ok (.iload_n 3, 1) := dk_29 (dk_at dksX11_spiesBy_0 4 rfl rfl)
theorem dX11_spiesBy_5 : decode cX11_spiesBy 5 = .ok (.aload_n 0, 1) := dk_42 (dk_at dksX11_spiesBy_0 5 rfl rfl)
theorem dX11_spiesBy_6 : decode cX11_spiesBy 6 = .ok (.getfield 9, 3) := dk_180 0 9 (dk_at dksX11_spiesBy_0 6 rfl rfl)
theorem dX11_spiesBy_9 : decode cX11_spiesBy 9 = .ok (.bipush 8, 2) := dk_16 8 (dk_at dksX11_spiesBy_0 9 rfl rfl)
theorem dX11_spiesBy_11 : decode cX11_spiesBy 11 = .ok (.iaload, 1) := dk_46 (dk_at dksX11_spiesBy_0 11 rfl rfl)
theorem dX11_spiesBy_12 : decode cX11_spiesBy 12 = .ok (.if_icmp .ge 35, 3) := dk_162 0 35 (dk_at dksX11_spiesBy_0 12 rfl rfl)
theorem dX11_spiesBy_15 : decode cX11_spiesBy 15 = .ok (.iload_n 2, 1) := dk_28 (dk_at dksX11_spiesBy_0 15 rfl rfl)
theorem dX11_spiesBy_16 : decode cX11_spiesBy 16 = .ok (.iload_n 1, 1) := dk_27 (dk_at dksX11_spiesBy_0 16 rfl rfl)
theorem dX11_spiesBy_17 : decode cX11_spiesBy 17 = .ok (.aload_n 0, 1) := dk_42 (dk_at dksX11_spiesBy_0 17 rfl rfl)
theorem dX11_spiesBy_18 : decode cX11_spiesBy 18 = .ok (.getfield 9, 3) := dk_180 0 9 (dk_at dksX11_spiesBy_0 18 rfl rfl)
theorem dX11_spiesBy_21 : decode cX11_spiesBy 21 = .ok (.bipush 115, 2) := dk_16 115 (dk_at dksX11_spiesBy_0 21 rfl rfl)
theorem dX11_spiesBy_23 : decode cX11_spiesBy 23 = .ok (.iload_n 3, 1) := dk_29 (dk_at dksX11_spiesBy_0 23 rfl rfl)
theorem dX11_spiesBy_24 : decode cX11_spiesBy 24 = .ok (.iadd, 1) := dk_96 (dk_at dksX11_spiesBy_1 0 rfl rfl)
theorem dX11_spiesBy_25 : decode cX11_spiesBy 25 = .ok (.iaload, 1) := dk_46 (dk_at dksX11_spiesBy_1 1 rfl rfl)
theorem dX11_spiesBy_26 : decode cX11_spiesBy 26 = .ok (.iconst (-1), 1) := dk_2 (dk_at dksX11_spiesBy_1 2 rfl rfl)
theorem dX11_spiesBy_27 : decode cX11_spiesBy 27 = .ok (.ixor, 1) := dk_130 (dk_at dksX11_spiesBy_1 3 rfl rfl)
theorem dX11_spiesBy_28 : decode cX11_spiesBy 28 = .ok (.iand, 1) := dk_126 (dk_at dksX11_spiesBy_1 4 rfl rfl)
theorem dX11_spiesBy_29 : decode cX11_spiesBy 29 = .ok (.ifCond .ne 9, 3) := dk_154 0 9 (dk_at dksX11_spiesBy_1 5 rfl rfl)
theorem dX11_spiesBy_32 : decode cX11_spiesBy 32 = .ok (.iconst 1, 1) := dk_4 (dk_at dksX11_spiesBy_1 8 rfl rfl)
theorem dX11_spiesBy_33 : decode cX11_spiesBy 33 = .ok (.iload_n 3, 1) := dk_29 (dk_at dksX11_spiesBy_1 9 rfl rfl)
theorem dX11_spiesBy_34 : decode cX11_spiesBy 34 = .ok (.ishl, 1) := dk_120 (dk_at dksX11_spiesBy_1 10 rfl rfl)
theorem dX11_spiesBy_35 : decode cX11_spiesBy 35 = .ok (.goto 4, 3) := dk_167 0 4 (dk_at dksX11_spiesBy_1 11 rfl rfl)
theorem dX11_spiesBy_38 : decode cX11_spiesBy 38 = .ok (.iconst 0, 1) := dk_3 (dk_at dksX11_spiesBy_1 14 rfl rfl)
theorem dX11_spiesBy_39 : decode cX11_spiesBy 39 = .ok (.ior, 1) := dk_128 (dk_at dksX11_spiesBy_1 15 rfl rfl)
theorem dX11_spiesBy_40 : decode cX11_spiesBy 40 = .ok (.istore_n 2, 1) := dk_61 (dk_at dksX11_spiesBy_1 16 rfl rfl)
theorem dX11_spiesBy_41 : decode cX11_spiesBy 41 = .ok (.iinc 3 1, 3) := dk_132 3 1 (dk_at dksX11_spiesBy_1 17 rfl rfl)
theorem dX11_spiesBy_44 : decode cX11_spiesBy 44 = .ok (.goto (-40), 3) := dk_167 255 216 (dk_at dksX11_spiesBy_1 20 rfl rfl)
theorem dX11_spiesBy_47 : decode cX11_spiesBy 47 = .ok (.iload_n 2, 1) := dk_28 (dk_at dksX11_spiesBy_1 23 rfl rfl)
theorem dX11_spiesBy_48 : decode cX11_spiesBy 48 = .ok (.ireturn, 1) := dk_172 (dk_at dksX11_spiesBy_2 0 rfl rfl)
abbrev cX11_watch : ByteArray := prog_19_method_124_code
def yX11_watch : MethodName := ⟨RX11, "watch", "(I)I"⟩
def dkwX11_watch_0 : List UInt8 := [42, 27, 182, 1, 10, 153, 0, 11, 42, 27, 182, 1, 169, 167, 0, 5, 16, 254, 172]
abbrev dktX11_watch_0 : List UInt8 := dkwX11_watch_0 ++ []
theorem dksX11_watch_0 : cX11_watch.data.toList.drop 0 = dktX11_watch_0 := by decide +kernel
theorem dX11_watch_0 : decode cX11_watch 0 = .ok (.aload_n 0, 1) := dk_42 (dk_at dksX11_watch_0 0 rfl rfl)
theorem dX11_watch_1 : decode cX11_watch 1 = .ok (.iload_n 1, 1) := dk_27 (dk_at dksX11_watch_0 1 rfl rfl)
theorem dX11_watch_2 : decode cX11_watch 2 = .ok (.invokevirtual 266, 3) := dk_182 1 10 (dk_at dksX11_watch_0 2 rfl rfl)
theorem dX11_watch_5 : decode cX11_watch 5 = .ok (.ifCond .eq 11, 3) := dk_153 0 11 (dk_at dksX11_watch_0 5 rfl rfl)
theorem dX11_watch_8 : decode cX11_watch 8 = .ok (.aload_n 0, 1) := dk_42 (dk_at dksX11_watch_0 8 rfl rfl)
theorem dX11_watch_9 : decode cX11_watch 9 = .ok (.iload_n 1, 1) := dk_27 (dk_at dksX11_watch_0 9 rfl rfl)
theorem dX11_watch_10 : decode cX11_watch 10 = .ok (.invokevirtual 425, 3) := dk_182 1 169 (dk_at dksX11_watch_0 10 rfl rfl)
theorem dX11_watch_13 : decode cX11_watch 13 = .ok (.goto 5, 3) := dk_167 0 5 (dk_at dksX11_watch_0 13 rfl rfl)
theorem dX11_watch_16 : decode cX11_watch 16 = .ok (.bipush (-2), 2) := dk_16 254 (dk_at dksX11_watch_0 16 rfl rfl)
theorem dX11_watch_18 : decode cX11_watch 18 = .ok (.ireturn, 1) := dk_172 (dk_at dksX11_watch_0 18 rfl rfl)
abbrev cX11_watchOf : ByteArray := prog_19_method_123_code
def yX11_watchOf : MethodName := ⟨RX11, "watchOf", "(I)I"⟩
def dkwX11_watchOf_4 : List UInt8 := [29, 172]
abbrev dktX11_watchOf_4 : List UInt8 := dkwX11_watchOf_4 ++ []
def dkwX11_watchOf_3 : List UInt8 := [180, 1, 163, 161, 0, 6, 167, 0, 12, 42, 21, 5, 181, 1, 163, 21, 4, 62, 132, 4, 1, 167, 255, 187]
abbrev dktX11_watchOf_3 : List UInt8 := dkwX11_watchOf_3 ++ dktX11_watchOf_4
def dkwX11_watchOf_2 : List UInt8 := [182, 1, 166, 100, 184, 1, 117, 54, 5, 27, 21, 4, 184, 0, 86, 4, 159, 0, 24, 21, 5, 42]
abbrev dktX11_watchOf_2 : List UInt8 := dkwX11_watchOf_2 ++ dktX11_watchOf_3
def dkwX11_watchOf_1 : List UInt8 := [180, 0, 9, 7, 46, 162, 0, 64, 42, 28, 21, 4, 182, 1, 166, 28, 184, 1, 25, 42, 28, 21, 4]
abbrev dktX11_watchOf_1 : List UInt8 := dkwX11_watchOf_1 ++ dktX11_watchOf_2
def dkwX11_watchOf_0 : List UInt8 := [42, 27, 182, 1, 160, 61, 42, 28, 184, 1, 25, 181, 1, 163, 2, 62, 3, 54, 4, 21, 4, 42]
abbrev dktX11_watchOf_0 : List UInt8 := dkwX11_watchOf_0 ++ dktX11_watchOf_1
theorem dksX11_watchOf_0 : cX11_watchOf.data.toList.drop 0 = dktX11_watchOf_0 := by decide +kernel
theorem dksX11_watchOf_1 : cX11_watchOf.data.toList.drop 22 = dktX11_watchOf_1 := dk_seg dksX11_watchOf_0 22 rfl rfl
theorem dksX11_watchOf_2 : cX11_watchOf.data.toList.drop 45 = dktX11_watchOf_2 := dk_seg dksX11_watchOf_1 23 rfl rfl
theorem dksX11_watchOf_3 : cX11_watchOf.data.toList.drop 67 = dktX11_watchOf_3 := dk_seg dksX11_watchOf_2 22 rfl rfl
theorem dksX11_watchOf_4 : cX11_watchOf.data.toList.drop 91 = dktX11_watchOf_4 := dk_seg dksX11_watchOf_3 24 rfl rfl
theorem dX11_watchOf_0 : decode cX11_watchOf 0 = .ok (.aload_n 0, 1) := dk_42 (dk_at dksX11_watchOf_0 0 rfl rfl)
theorem dX11_watchOf_1 : decode cX11_watchOf 1 = .ok (.iload_n 1, 1) := dk_27 (dk_at dksX11_watchOf_0 1 rfl rfl)
theorem dX11_watchOf_2 : decode cX11_watchOf 2 = .ok (.invokevirtual 416, 3) := dk_182 1 160 (dk_at dksX11_watchOf_0 2 rfl rfl)
theorem dX11_watchOf_5 : decode cX11_watchOf 5 = .ok (.istore_n 2, 1) := dk_61 (dk_at dksX11_watchOf_0 5 rfl rfl)
theorem dX11_watchOf_6 : decode cX11_watchOf 6 = .ok (.aload_n 0, 1) := dk_42 (dk_at dksX11_watchOf_0 6 rfl rfl)
theorem dX11_watchOf_7 : decode cX11_watchOf 7 = .ok (.iload_n 2, 1) := dk_28 (dk_at dksX11_watchOf_0 7 rfl rfl)
theorem dX11_watchOf_8 : decode cX11_watchOf 8 = .ok (.invokestatic 281, 3) := dk_184 1 25 (dk_at dksX11_watchOf_0 8 rfl rfl)
theorem dX11_watchOf_11 : decode cX11_watchOf 11 = .ok (.putfield 419, 3) := dk_181 1 163 (dk_at dksX11_watchOf_0 11 rfl rfl)
theorem dX11_watchOf_14 : decode cX11_watchOf 14 = .ok (.iconst (-1), 1) := dk_2 (dk_at dksX11_watchOf_0 14 rfl rfl)
theorem dX11_watchOf_15 : decode cX11_watchOf 15 = .ok (.istore_n 3, 1) := dk_62 (dk_at dksX11_watchOf_0 15 rfl rfl)
theorem dX11_watchOf_16 : decode cX11_watchOf 16 = .ok (.iconst 0, 1) := dk_3 (dk_at dksX11_watchOf_0 16 rfl rfl)
theorem dX11_watchOf_17 : decode cX11_watchOf 17 = .ok (.istore 4, 2) := dk_54 4 (dk_at dksX11_watchOf_0 17 rfl rfl)
theorem dX11_watchOf_19 : decode cX11_watchOf 19 = .ok (.iload 4, 2) := dk_21 4 (dk_at dksX11_watchOf_0 19 rfl rfl)
theorem dX11_watchOf_21 : decode cX11_watchOf 21 = .ok (.aload_n 0, 1) := dk_42 (dk_at dksX11_watchOf_0 21 rfl rfl)
theorem dX11_watchOf_22 : decode cX11_watchOf 22 = .ok (.getfield 9, 3) := dk_180 0 9 (dk_at dksX11_watchOf_1 0 rfl rfl)
theorem dX11_watchOf_25 : decode cX11_watchOf 25 = .ok (.iconst 4, 1) := dk_7 (dk_at dksX11_watchOf_1 3 rfl rfl)
theorem dX11_watchOf_26 : decode cX11_watchOf 26 = .ok (.iaload, 1) := dk_46 (dk_at dksX11_watchOf_1 4 rfl rfl)
theorem dX11_watchOf_27 : decode cX11_watchOf 27 = .ok (.if_icmp .ge 64, 3) := dk_162 0 64 (dk_at dksX11_watchOf_1 5 rfl rfl)
theorem dX11_watchOf_30 : decode cX11_watchOf 30 = .ok (.aload_n 0, 1) := dk_42 (dk_at dksX11_watchOf_1 8 rfl rfl)
theorem dX11_watchOf_31 : decode cX11_watchOf 31 = .ok (.iload_n 2, 1) := dk_28 (dk_at dksX11_watchOf_1 9 rfl rfl)
theorem dX11_watchOf_32 : decode cX11_watchOf 32 = .ok (.iload 4, 2) := dk_21 4 (dk_at dksX11_watchOf_1 10 rfl rfl)
theorem dX11_watchOf_34 : decode cX11_watchOf 34 = .ok (.invokevirtual 422, 3) := dk_182 1 166 (dk_at dksX11_watchOf_1 12 rfl rfl)
theorem dX11_watchOf_37 : decode cX11_watchOf 37 = .ok (.iload_n 2, 1) := dk_28 (dk_at dksX11_watchOf_1 15 rfl rfl)
theorem dX11_watchOf_38 : decode cX11_watchOf 38 = .ok (.invokestatic 281, 3) := dk_184 1 25 (dk_at dksX11_watchOf_1 16 rfl rfl)
theorem dX11_watchOf_41 : decode cX11_watchOf 41 = .ok (.aload_n 0, 1) := dk_42 (dk_at dksX11_watchOf_1 19 rfl rfl)
theorem dX11_watchOf_42 : decode cX11_watchOf 42 = .ok (.iload_n 2, 1) := dk_28 (dk_at dksX11_watchOf_1 20 rfl rfl)
theorem dX11_watchOf_43 : decode cX11_watchOf 43 = .ok (.iload 4, 2) := dk_21 4 (dk_at dksX11_watchOf_1 21 rfl rfl)
theorem dX11_watchOf_45 : decode cX11_watchOf 45 = .ok (.invokevirtual 422, 3) := dk_182 1 166 (dk_at dksX11_watchOf_2 0 rfl rfl)
theorem dX11_watchOf_48 : decode cX11_watchOf 48 = .ok (.isub, 1) := dk_100 (dk_at dksX11_watchOf_2 3 rfl rfl)
theorem dX11_watchOf_49 : decode cX11_watchOf 49 = .ok (.invokestatic 373, 3) := dk_184 1 117 (dk_at dksX11_watchOf_2 4 rfl rfl)
theorem dX11_watchOf_52 : decode cX11_watchOf 52 = .ok (.istore 5, 2) := dk_54 5 (dk_at dksX11_watchOf_2 7 rfl rfl)
theorem dX11_watchOf_54 : decode cX11_watchOf 54 = .ok (.iload_n 1, 1) := dk_27 (dk_at dksX11_watchOf_2 9 rfl rfl)
theorem dX11_watchOf_55 : decode cX11_watchOf 55 = .ok (.iload 4, 2) := dk_21 4 (dk_at dksX11_watchOf_2 10 rfl rfl)
theorem dX11_watchOf_57 : decode cX11_watchOf 57 = .ok (.invokestatic 86, 3) := dk_184 0 86 (dk_at dksX11_watchOf_2 12 rfl rfl)
theorem dX11_watchOf_60 : decode cX11_watchOf 60 = .ok (.iconst 1, 1) := dk_4 (dk_at dksX11_watchOf_2 15 rfl rfl)
theorem dX11_watchOf_61 : decode cX11_watchOf 61 = .ok (.if_icmp .eq 24, 3) := dk_159 0 24 (dk_at dksX11_watchOf_2 16 rfl rfl)
theorem dX11_watchOf_64 : decode cX11_watchOf 64 = .ok (.iload 5, 2) := dk_21 5 (dk_at dksX11_watchOf_2 19 rfl rfl)
theorem dX11_watchOf_66 : decode cX11_watchOf 66 = .ok (.aload_n 0, 1) := dk_42 (dk_at dksX11_watchOf_2 21 rfl rfl)
theorem dX11_watchOf_67 : decode cX11_watchOf 67 = .ok (.getfield 419, 3) := dk_180 1 163 (dk_at dksX11_watchOf_3 0 rfl rfl)
theorem dX11_watchOf_70 : decode cX11_watchOf 70 = .ok (.if_icmp .lt 6, 3) := dk_161 0 6 (dk_at dksX11_watchOf_3 3 rfl rfl)
theorem dX11_watchOf_73 : decode cX11_watchOf 73 = .ok (.goto 12, 3) := dk_167 0 12 (dk_at dksX11_watchOf_3 6 rfl rfl)
theorem dX11_watchOf_76 : decode cX11_watchOf 76 = .ok (.aload_n 0, 1) := dk_42 (dk_at dksX11_watchOf_3 9 rfl rfl)
theorem dX11_watchOf_77 : decode cX11_watchOf 77 = .ok (.iload 5, 2) := dk_21 5 (dk_at dksX11_watchOf_3 10 rfl rfl)
theorem dX11_watchOf_79 : decode cX11_watchOf 79 = .ok (.putfield 419, 3) := dk_181 1 163 (dk_at dksX11_watchOf_3 12 rfl rfl)
theorem dX11_watchOf_82 : decode cX11_watchOf 82 = .ok (.iload 4, 2) := dk_21 4 (dk_at dksX11_watchOf_3 15 rfl rfl)
theorem dX11_watchOf_84 : decode cX11_watchOf 84 = .ok (.istore_n 3, 1) := dk_62 (dk_at dksX11_watchOf_3 17 rfl rfl)
theorem dX11_watchOf_85 : decode cX11_watchOf 85 = .ok (.iinc 4 1, 3) := dk_132 4 1 (dk_at dksX11_watchOf_3 18 rfl rfl)
theorem dX11_watchOf_88 : decode cX11_watchOf 88 = .ok (.goto (-69), 3) := dk_167 255 187 (dk_at dksX11_watchOf_3 21 rfl rfl)
theorem dX11_watchOf_91 : decode cX11_watchOf 91 = .ok (.iload_n 3, 1) := dk_29 (dk_at dksX11_watchOf_4 0 rfl rfl)
theorem dX11_watchOf_92 : decode cX11_watchOf 92 = .ok (.ireturn, 1) := dk_172 (dk_at dksX11_watchOf_4 1 rfl rfl)
abbrev cX11_knowing : ByteArray := prog_19_method_121_code
def yX11_knowing : MethodName := ⟨RX11, "knowing", "(II)I"⟩
def dkwX11_knowing_2 : List UInt8 := [172]
abbrev dktX11_knowing_2 : List UInt8 := dkwX11_knowing_2 ++ []
def dkwX11_knowing_1 : List UInt8 := [42, 180, 0, 9, 16, 115, 21, 4, 96, 46, 28, 184, 0, 86, 104, 96, 62, 132, 4, 1, 167, 255, 217, 29]
abbrev dktX11_knowing_1 : List UInt8 := dkwX11_knowing_1 ++ dktX11_knowing_2
def dkwX11_knowing_0 : List UInt8 := [3, 62, 3, 54, 4, 21, 4, 42, 180, 0, 9, 16, 8, 46, 162, 0, 33, 29, 27, 21, 4, 184, 0, 86]
abbrev dktX11_knowing_0 : List UInt8 := dkwX11_knowing_0 ++ dktX11_knowing_1
theorem dksX11_knowing_0 : cX11_knowing.data.toList.drop 0 = dktX11_knowing_0 := by decide +kernel
theorem dksX11_knowing_1 : cX11_knowing.data.toList.drop 24 = dktX11_knowing_1 := dk_seg dksX11_knowing_0 24 rfl rfl
theorem dksX11_knowing_2 : cX11_knowing.data.toList.drop 48 = dktX11_knowing_2 := dk_seg dksX11_knowing_1 24 rfl rfl
theorem dX11_knowing_0 : decode cX11_knowing 0 = .ok (.iconst 0, 1) := dk_3 (dk_at dksX11_knowing_0 0 rfl rfl)
theorem dX11_knowing_1 : decode cX11_knowing 1 = .ok (.istore_n 3, 1) := dk_62 (dk_at dksX11_knowing_0 1 rfl rfl)
theorem dX11_knowing_2 : decode cX11_knowing 2 = .ok (.iconst 0, 1) := dk_3 (dk_at dksX11_knowing_0 2 rfl rfl)
theorem dX11_knowing_3 : decode cX11_knowing 3 = .ok (.istore 4, 2) := dk_54 4 (dk_at dksX11_knowing_0 3 rfl rfl)
theorem dX11_knowing_5 : decode cX11_knowing 5 = .ok (.iload 4, 2) := dk_21 4 (dk_at dksX11_knowing_0 5 rfl rfl)
theorem dX11_knowing_7 : decode cX11_knowing 7 = .ok (.aload_n 0, 1) := dk_42 (dk_at dksX11_knowing_0 7 rfl rfl)
theorem dX11_knowing_8 : decode cX11_knowing 8 = .ok (.getfield 9, 3) := dk_180 0 9 (dk_at dksX11_knowing_0 8 rfl rfl)
theorem dX11_knowing_11 : decode cX11_knowing 11 = .ok (.bipush 8, 2) := dk_16 8 (dk_at dksX11_knowing_0 11 rfl rfl)
theorem dX11_knowing_13 : decode cX11_knowing 13 = .ok (.iaload, 1) := dk_46 (dk_at dksX11_knowing_0 13 rfl rfl)
theorem dX11_knowing_14 : decode cX11_knowing 14 = .ok (.if_icmp .ge 33, 3) := dk_162 0 33 (dk_at dksX11_knowing_0 14 rfl rfl)
theorem dX11_knowing_17 : decode cX11_knowing 17 = .ok (.iload_n 3, 1) := dk_29 (dk_at dksX11_knowing_0 17 rfl rfl)
theorem dX11_knowing_18 : decode cX11_knowing 18 = .ok (.iload_n 1, 1) := dk_27 (dk_at dksX11_knowing_0 18 rfl rfl)
theorem dX11_knowing_19 : decode cX11_knowing 19 = .ok (.iload 4, 2) := dk_21 4 (dk_at dksX11_knowing_0 19 rfl rfl)
theorem dX11_knowing_21 : decode cX11_knowing 21 = .ok (.invokestatic 86, 3) := dk_184 0 86 (dk_at dksX11_knowing_0 21 rfl rfl)
theorem dX11_knowing_24 : decode cX11_knowing 24 = .ok (.aload_n 0, 1) := dk_42 (dk_at dksX11_knowing_1 0 rfl rfl)
theorem dX11_knowing_25 : decode cX11_knowing 25 = .ok (.getfield 9, 3) := dk_180 0 9 (dk_at dksX11_knowing_1 1 rfl rfl)
theorem dX11_knowing_28 : decode cX11_knowing 28 = .ok (.bipush 115, 2) := dk_16 115 (dk_at dksX11_knowing_1 4 rfl rfl)
theorem dX11_knowing_30 : decode cX11_knowing 30 = .ok (.iload 4, 2) := dk_21 4 (dk_at dksX11_knowing_1 6 rfl rfl)
theorem dX11_knowing_32 : decode cX11_knowing 32 = .ok (.iadd, 1) := dk_96 (dk_at dksX11_knowing_1 8 rfl rfl)
theorem dX11_knowing_33 : decode cX11_knowing 33 = .ok (.iaload, 1) := dk_46 (dk_at dksX11_knowing_1 9 rfl rfl)
theorem dX11_knowing_34 : decode cX11_knowing 34 = .ok (.iload_n 2, 1) := dk_28 (dk_at dksX11_knowing_1 10 rfl rfl)
theorem dX11_knowing_35 : decode cX11_knowing 35 = .ok (.invokestatic 86, 3) := dk_184 0 86 (dk_at dksX11_knowing_1 11 rfl rfl)
theorem dX11_knowing_38 : decode cX11_knowing 38 = .ok (.imul, 1) := dk_104 (dk_at dksX11_knowing_1 14 rfl rfl)
theorem dX11_knowing_39 : decode cX11_knowing 39 = .ok (.iadd, 1) := dk_96 (dk_at dksX11_knowing_1 15 rfl rfl)
theorem dX11_knowing_40 : decode cX11_knowing 40 = .ok (.istore_n 3, 1) := dk_62 (dk_at dksX11_knowing_1 16 rfl rfl)
theorem dX11_knowing_41 : decode cX11_knowing 41 = .ok (.iinc 4 1, 3) := dk_132 4 1 (dk_at dksX11_knowing_1 17 rfl rfl)
theorem dX11_knowing_44 : decode cX11_knowing 44 = .ok (.goto (-39), 3) := dk_167 255 217 (dk_at dksX11_knowing_1 20 rfl rfl)
theorem dX11_knowing_47 : decode cX11_knowing 47 = .ok (.iload_n 3, 1) := dk_29 (dk_at dksX11_knowing_1 23 rfl rfl)
theorem dX11_knowing_48 : decode cX11_knowing 48 = .ok (.ireturn, 1) := dk_172 (dk_at dksX11_knowing_2 0 rfl rfl)
abbrev cX11_leaves : ByteArray := prog_19_method_125_code
def yX11_leaves : MethodName := ⟨RX11, "leaves", "(I)I"⟩
def dkwX11_leaves_0 : List UInt8 := [42, 27, 182, 1, 10, 154, 0, 6, 16, 254, 172, 42, 27, 182, 1, 169, 87, 42, 180, 1, 163, 172]
abbrev dktX11_leaves_0 : List UInt8 := dkwX11_leaves_0 ++ []
theorem dksX11_leaves_0 : cX11_leaves.data.toList.drop 0 = dktX11_leaves_0 := by decide +kernel
theorem dX11_leaves_0 : decode cX11_leaves 0 = .ok (.aload_n 0, 1) := dk_42 (dk_at dksX11_leaves_0 0 rfl rfl)
theorem dX11_leaves_1 : decode cX11_leaves 1 = .ok (.iload_n 1, 1) := dk_27 (dk_at dksX11_leaves_0 1 rfl rfl)
theorem dX11_leaves_2 : decode cX11_leaves 2 = .ok (.invokevirtual 266, 3) := dk_182 1 10 (dk_at dksX11_leaves_0 2 rfl rfl)
theorem dX11_leaves_5 : decode cX11_leaves 5 = .ok (.ifCond .ne 6, 3) := dk_154 0 6 (dk_at dksX11_leaves_0 5 rfl rfl)
theorem dX11_leaves_8 : decode cX11_leaves 8 = .ok (.bipush (-2), 2) := dk_16 254 (dk_at dksX11_leaves_0 8 rfl rfl)
theorem dX11_leaves_10 : decode cX11_leaves 10 = .ok (.ireturn, 1) := dk_172 (dk_at dksX11_leaves_0 10 rfl rfl)
theorem dX11_leaves_11 : decode cX11_leaves 11 = .ok (.aload_n 0, 1) := dk_42 (dk_at dksX11_leaves_0 11 rfl rfl)
theorem dX11_leaves_12 : decode cX11_leaves 12 = .ok (.iload_n 1, 1) := dk_27 (dk_at dksX11_leaves_0 12 rfl rfl)
theorem dX11_leaves_13 : decode cX11_leaves 13 = .ok (.invokevirtual 425, 3) := dk_182 1 169 (dk_at dksX11_leaves_0 13 rfl rfl)
theorem dX11_leaves_16 : decode cX11_leaves 16 = .ok (.pop, 1) := dk_87 (dk_at dksX11_leaves_0 16 rfl rfl)
theorem dX11_leaves_17 : decode cX11_leaves 17 = .ok (.aload_n 0, 1) := dk_42 (dk_at dksX11_leaves_0 17 rfl rfl)
theorem dX11_leaves_18 : decode cX11_leaves 18 = .ok (.getfield 419, 3) := dk_180 1 163 (dk_at dksX11_leaves_0 18 rfl rfl)
theorem dX11_leaves_21 : decode cX11_leaves 21 = .ok (.ireturn, 1) := dk_172 (dk_at dksX11_leaves_0 21 rfl rfl)
abbrev cX11_known : ByteArray := prog_19_method_126_code
def yX11_known : MethodName := ⟨RX11, "known", "(II)I"⟩
def dkwX11_known_3 : List UInt8 := [161, 0, 10, 4, 21, 5, 120, 167, 0, 4, 3, 128, 54, 4, 132, 5, 1, 167, 255, 203, 21, 4, 172]
abbrev dktX11_known_3 : List UInt8 := dkwX11_known_3 ++ []
def dkwX11_known_2 : List UInt8 := [153, 0, 38, 21, 4, 42, 29, 21, 5, 182, 1, 166, 28, 154, 0, 10, 29, 184, 1, 25, 167, 0, 4, 4]
abbrev dktX11_known_2 : List UInt8 := dkwX11_known_2 ++ dktX11_known_3
def dkwX11_known_1 : List UInt8 := [182, 1, 160, 62, 3, 54, 4, 3, 54, 5, 21, 5, 42, 180, 0, 9, 7, 46, 162, 0, 48, 29]
abbrev dktX11_known_1 : List UInt8 := dkwX11_known_1 ++ dktX11_known_2
def dkwX11_known_0 : List UInt8 := [42, 27, 182, 1, 10, 153, 0, 13, 28, 133, 9, 10, 184, 0, 70, 154, 0, 6, 16, 254, 172, 42, 27]
abbrev dktX11_known_0 : List UInt8 := dkwX11_known_0 ++ dktX11_known_1
theorem dksX11_known_0 : cX11_known.data.toList.drop 0 = dktX11_known_0 := by decide +kernel
theorem dksX11_known_1 : cX11_known.data.toList.drop 23 = dktX11_known_1 := dk_seg dksX11_known_0 23 rfl rfl
theorem dksX11_known_2 : cX11_known.data.toList.drop 45 = dktX11_known_2 := dk_seg dksX11_known_1 22 rfl rfl
theorem dksX11_known_3 : cX11_known.data.toList.drop 69 = dktX11_known_3 := dk_seg dksX11_known_2 24 rfl rfl
theorem dX11_known_0 : decode cX11_known 0 = .ok (.aload_n 0, 1) := dk_42 (dk_at dksX11_known_0 0 rfl rfl)
theorem dX11_known_1 : decode cX11_known 1 = .ok (.iload_n 1, 1) := dk_27 (dk_at dksX11_known_0 1 rfl rfl)
theorem dX11_known_2 : decode cX11_known 2 = .ok (.invokevirtual 266, 3) := dk_182 1 10 (dk_at dksX11_known_0 2 rfl rfl)
theorem dX11_known_5 : decode cX11_known 5 = .ok (.ifCond .eq 13, 3) := dk_153 0 13 (dk_at dksX11_known_0 5 rfl rfl)
theorem dX11_known_8 : decode cX11_known 8 = .ok (.iload_n 2, 1) := dk_28 (dk_at dksX11_known_0 8 rfl rfl)
theorem dX11_known_9 : decode cX11_known 9 = .ok (.i2l, 1) := dk_133 (dk_at dksX11_known_0 9 rfl rfl)
theorem dX11_known_10 : decode cX11_known 10 = .ok (.lconst 0, 1) := dk_9 (dk_at dksX11_known_0 10 rfl rfl)
theorem dX11_known_11 : decode cX11_known 11 = .ok (.lconst 1, 1) := dk_10 (dk_at dksX11_known_0 11 rfl rfl)
theorem dX11_known_12 : decode cX11_known 12 = .ok (.invokestatic 70, 3) := dk_184 0 70 (dk_at dksX11_known_0 12 rfl rfl)
theorem dX11_known_15 : decode cX11_known 15 = .ok (.ifCond .ne 6, 3) := dk_154 0 6 (dk_at dksX11_known_0 15 rfl rfl)
theorem dX11_known_18 : decode cX11_known 18 = .ok (.bipush (-2), 2) := dk_16 254 (dk_at dksX11_known_0 18 rfl rfl)
theorem dX11_known_20 : decode cX11_known 20 = .ok (.ireturn, 1) := dk_172 (dk_at dksX11_known_0 20 rfl rfl)
theorem dX11_known_21 : decode cX11_known 21 = .ok (.aload_n 0, 1) := dk_42 (dk_at dksX11_known_0 21 rfl rfl)
theorem dX11_known_22 : decode cX11_known 22 = .ok (.iload_n 1, 1) := dk_27 (dk_at dksX11_known_0 22 rfl rfl)
theorem dX11_known_23 : decode cX11_known 23 = .ok (.invokevirtual 416, 3) := dk_182 1 160 (dk_at dksX11_known_1 0 rfl rfl)
theorem dX11_known_26 : decode cX11_known 26 = .ok (.istore_n 3, 1) := dk_62 (dk_at dksX11_known_1 3 rfl rfl)
theorem dX11_known_27 : decode cX11_known 27 = .ok (.iconst 0, 1) := dk_3 (dk_at dksX11_known_1 4 rfl rfl)
theorem dX11_known_28 : decode cX11_known 28 = .ok (.istore 4, 2) := dk_54 4 (dk_at dksX11_known_1 5 rfl rfl)
theorem dX11_known_30 : decode cX11_known 30 = .ok (.iconst 0, 1) := dk_3 (dk_at dksX11_known_1 7 rfl rfl)
theorem dX11_known_31 : decode cX11_known 31 = .ok (.istore 5, 2) := dk_54 5 (dk_at dksX11_known_1 8 rfl rfl)
theorem dX11_known_33 : decode cX11_known 33 = .ok (.iload 5, 2) := dk_21 5 (dk_at dksX11_known_1 10 rfl rfl)
theorem dX11_known_35 : decode cX11_known 35 = .ok (.aload_n 0, 1) := dk_42 (dk_at dksX11_known_1 12 rfl rfl)
theorem dX11_known_36 : decode cX11_known 36 = .ok (.getfield 9, 3) := dk_180 0 9 (dk_at dksX11_known_1 13 rfl rfl)
theorem dX11_known_39 : decode cX11_known 39 = .ok (.iconst 4, 1) := dk_7 (dk_at dksX11_known_1 16 rfl rfl)
theorem dX11_known_40 : decode cX11_known 40 = .ok (.iaload, 1) := dk_46 (dk_at dksX11_known_1 17 rfl rfl)
theorem dX11_known_41 : decode cX11_known 41 = .ok (.if_icmp .ge 48, 3) := dk_162 0 48 (dk_at dksX11_known_1 18 rfl rfl)
theorem dX11_known_44 : decode cX11_known 44 = .ok (.iload_n 3, 1) := dk_29 (dk_at dksX11_known_1 21 rfl rfl)
theorem dX11_known_45 : decode cX11_known 45 = .ok (.ifCond .eq 38, 3) := dk_153 0 38 (dk_at dksX11_known_2 0 rfl rfl)
theorem dX11_known_48 : decode cX11_known 48 = .ok (.iload 4, 2) := dk_21 4 (dk_at dksX11_known_2 3 rfl rfl)
theorem dX11_known_50 : decode cX11_known 50 = .ok (.aload_n 0, 1) := dk_42 (dk_at dksX11_known_2 5 rfl rfl)
theorem dX11_known_51 : decode cX11_known 51 = .ok (.iload_n 3, 1) := dk_29 (dk_at dksX11_known_2 6 rfl rfl)
theorem dX11_known_52 : decode cX11_known 52 = .ok (.iload 5, 2) := dk_21 5 (dk_at dksX11_known_2 7 rfl rfl)
theorem dX11_known_54 : decode cX11_known 54 = .ok (.invokevirtual 422, 3) := dk_182 1 166 (dk_at dksX11_known_2 9 rfl rfl)
theorem dX11_known_57 : decode cX11_known 57 = .ok (.iload_n 2, 1) := dk_28 (dk_at dksX11_known_2 12 rfl rfl)
theorem dX11_known_58 : decode cX11_known 58 = .ok (.ifCond .ne 10, 3) := dk_154 0 10 (dk_at dksX11_known_2 13 rfl rfl)
theorem dX11_known_61 : decode cX11_known 61 = .ok (.iload_n 3, 1) := dk_29 (dk_at dksX11_known_2 16 rfl rfl)
theorem dX11_known_62 : decode cX11_known 62 = .ok (.invokestatic 281, 3) := dk_184 1 25 (dk_at dksX11_known_2 17 rfl rfl)
theorem dX11_known_65 : decode cX11_known 65 = .ok (.goto 4, 3) := dk_167 0 4 (dk_at dksX11_known_2 20 rfl rfl)
theorem dX11_known_68 : decode cX11_known 68 = .ok (.iconst 1, 1) := dk_4 (dk_at dksX11_known_2 23 rfl rfl)
theorem dX11_known_69 : decode cX11_known 69 = .ok (.if_icmp .lt 10, 3) := dk_161 0 10 (dk_at dksX11_known_3 0 rfl rfl)
theorem dX11_known_72 : decode cX11_known 72 = .ok (.iconst 1, 1) := dk_4 (dk_at dksX11_known_3 3 rfl rfl)
theorem dX11_known_73 : decode cX11_known 73 = .ok (.iload 5, 2) := dk_21 5 (dk_at dksX11_known_3 4 rfl rfl)
theorem dX11_known_75 : decode cX11_known 75 = .ok (.ishl, 1) := dk_120 (dk_at dksX11_known_3 6 rfl rfl)
theorem dX11_known_76 : decode cX11_known 76 = .ok (.goto 4, 3) := dk_167 0 4 (dk_at dksX11_known_3 7 rfl rfl)
theorem dX11_known_79 : decode cX11_known 79 = .ok (.iconst 0, 1) := dk_3 (dk_at dksX11_known_3 10 rfl rfl)
theorem dX11_known_80 : decode cX11_known 80 = .ok (.ior, 1) := dk_128 (dk_at dksX11_known_3 11 rfl rfl)
theorem dX11_known_81 : decode cX11_known 81 = .ok (.istore 4, 2) := dk_54 4 (dk_at dksX11_known_3 12 rfl rfl)
theorem dX11_known_83 : decode cX11_known 83 = .ok (.iinc 5 1, 3) := dk_132 5 1 (dk_at dksX11_known_3 14 rfl rfl)
theorem dX11_known_86 : decode cX11_known 86 = .ok (.goto (-53), 3) := dk_167 255 203 (dk_at dksX11_known_3 17 rfl rfl)
theorem dX11_known_89 : decode cX11_known 89 = .ok (.iload 4, 2) := dk_21 4 (dk_at dksX11_known_3 20 rfl rfl)
theorem dX11_known_91 : decode cX11_known 91 = .ok (.ireturn, 1) := dk_172 (dk_at dksX11_known_3 22 rfl rfl)
abbrev cX11_grant : ByteArray := prog_19_method_132_code
def yX11_grant : MethodName := ⟨RX11, "grant", "()I"⟩
def dkwX11_grant_0 : List UInt8 := [42, 182, 0, 74, 153, 0, 11, 42, 3, 182, 1, 188, 167, 0, 5, 16, 254, 172]
abbrev dktX11_grant_0 : List UInt8 := dkwX11_grant_0 ++ []
theorem dksX11_grant_0 : cX11_grant.data.toList.drop 0 = dktX11_grant_0 := by decide +kernel
theorem dX11_grant_0 : decode cX11_grant 0 = .ok (.aload_n 0, 1) := dk_42 (dk_at dksX11_grant_0 0 rfl rfl)
theorem dX11_grant_1 : decode cX11_grant 1 = .ok (.invokevirtual 74, 3) := dk_182 0 74 (dk_at dksX11_grant_0 1 rfl rfl)
theorem dX11_grant_4 : decode cX11_grant 4 = .ok (.ifCond .eq 11, 3) := dk_153 0 11 (dk_at dksX11_grant_0 4 rfl rfl)
theorem dX11_grant_7 : decode cX11_grant 7 = .ok (.aload_n 0, 1) := dk_42 (dk_at dksX11_grant_0 7 rfl rfl)
theorem dX11_grant_8 : decode cX11_grant 8 = .ok (.iconst 0, 1) := dk_3 (dk_at dksX11_grant_0 8 rfl rfl)
theorem dX11_grant_9 : decode cX11_grant 9 = .ok (.invokevirtual 444, 3) := dk_182 1 188 (dk_at dksX11_grant_0 9 rfl rfl)
theorem dX11_grant_12 : decode cX11_grant 12 = .ok (.goto 5, 3) := dk_167 0 5 (dk_at dksX11_grant_0 12 rfl rfl)
theorem dX11_grant_15 : decode cX11_grant 15 = .ok (.bipush (-2), 2) := dk_16 254 (dk_at dksX11_grant_0 15 rfl rfl)
theorem dX11_grant_17 : decode cX11_grant 17 = .ok (.ireturn, 1) := dk_172 (dk_at dksX11_grant_0 17 rfl rfl)
abbrev cX11_grantOf : ByteArray := prog_19_method_131_code
def yX11_grantOf : MethodName := ⟨RX11, "grantOf", "(Z)I"⟩
def dkwX11_grantOf_4 : List UInt8 := [172]
abbrev dktX11_grantOf_4 : List UInt8 := dkwX11_grantOf_4 ++ []
def dkwX11_grantOf_3 : List UInt8 := [182, 1, 181, 154, 0, 6, 167, 0, 11, 21, 4, 61, 42, 29, 181, 1, 185, 132, 3, 1, 167, 255, 171, 28]
abbrev dktX11_grantOf_3 : List UInt8 := dkwX11_grantOf_3 ++ dktX11_grantOf_4
def dkwX11_grantOf_2 : List UInt8 := [182, 1, 172, 104, 96, 54, 4, 132, 5, 1, 167, 255, 222, 21, 4, 28, 164, 0, 23, 42, 29, 27]
abbrev dktX11_grantOf_2 : List UInt8 := dkwX11_grantOf_2 ++ dktX11_grantOf_3
def dkwX11_grantOf_1 : List UInt8 := [21, 5, 42, 180, 0, 9, 16, 6, 46, 162, 0, 28, 21, 4, 29, 21, 5, 184, 0, 86, 42, 21, 5, 6]
abbrev dktX11_grantOf_1 : List UInt8 := dkwX11_grantOf_1 ++ dktX11_grantOf_2
def dkwX11_grantOf_0 : List UInt8 := [2, 61, 3, 62, 29, 4, 42, 180, 0, 9, 16, 6, 46, 120, 162, 0, 78, 3, 54, 4, 3, 54, 5]
abbrev dktX11_grantOf_0 : List UInt8 := dkwX11_grantOf_0 ++ dktX11_grantOf_1
theorem dksX11_grantOf_0 : cX11_grantOf.data.toList.drop 0 = dktX11_grantOf_0 := by decide +kernel
theorem dksX11_grantOf_1 : cX11_grantOf.data.toList.drop 23 = dktX11_grantOf_1 := dk_seg dksX11_grantOf_0 23 rfl rfl
theorem dksX11_grantOf_2 : cX11_grantOf.data.toList.drop 47 = dktX11_grantOf_2 := dk_seg dksX11_grantOf_1 24 rfl rfl
theorem dksX11_grantOf_3 : cX11_grantOf.data.toList.drop 69 = dktX11_grantOf_3 := dk_seg dksX11_grantOf_2 22 rfl rfl
theorem dksX11_grantOf_4 : cX11_grantOf.data.toList.drop 93 = dktX11_grantOf_4 := dk_seg dksX11_grantOf_3 24 rfl rfl
theorem dX11_grantOf_0 : decode cX11_grantOf 0 = .ok (.iconst (-1), 1) := dk_2 (dk_at dksX11_grantOf_0 0 rfl rfl)
theorem dX11_grantOf_1 : decode cX11_grantOf 1 = .ok (.istore_n 2, 1) := dk_61 (dk_at dksX11_grantOf_0 1 rfl rfl)
theorem dX11_grantOf_2 : decode cX11_grantOf 2 = .ok (.iconst 0, 1) := dk_3 (dk_at dksX11_grantOf_0 2 rfl rfl)
theorem dX11_grantOf_3 : decode cX11_grantOf 3 = .ok (.istore_n 3, 1) := dk_62 (dk_at dksX11_grantOf_0 3 rfl rfl)
theorem dX11_grantOf_4 : decode cX11_grantOf 4 = .ok (.iload_n 3, 1) := dk_29 (dk_at dksX11_grantOf_0 4 rfl rfl)
theorem dX11_grantOf_5 : decode cX11_grantOf 5 = .ok (.iconst 1, 1) := dk_4 (dk_at dksX11_grantOf_0 5 rfl rfl)
theorem dX11_grantOf_6 : decode cX11_grantOf 6 = .ok (.aload_n 0, 1) := dk_42 (dk_at dksX11_grantOf_0 6 rfl rfl)
theorem dX11_grantOf_7 : decode cX11_grantOf 7 = .ok (.getfield 9, 3) := dk_180 0 9 (dk_at dksX11_grantOf_0 7 rfl rfl)
theorem dX11_grantOf_10 : decode cX11_grantOf 10 = .ok (.bipush 6, 2) := dk_16 6 (dk_at dksX11_grantOf_0 10 rfl rfl)
theorem dX11_grantOf_12 : decode cX11_grantOf 12 = .ok (.iaload, 1) := dk_46 (dk_at dksX11_grantOf_0 12 rfl rfl)
theorem dX11_grantOf_13 : decode cX11_grantOf 13 = .ok (.ishl, 1) := dk_120 (dk_at dksX11_grantOf_0 13 rfl rfl)
theorem dX11_grantOf_14 : decode cX11_grantOf 14 = .ok (.if_icmp .ge 78, 3) := dk_162 0 78 (dk_at dksX11_grantOf_0 14 rfl rfl)
theorem dX11_grantOf_17 : decode cX11_grantOf 17 = .ok (.iconst 0, 1) := dk_3 (dk_at dksX11_grantOf_0 17 rfl rfl)
theorem dX11_grantOf_18 : decode cX11_grantOf 18 = .ok (.istore 4, 2) := dk_54 4 (dk_at dksX11_grantOf_0 18 rfl rfl)
theorem dX11_grantOf_20 : decode cX11_grantOf 20 = .ok (.iconst 0, 1) := dk_3 (dk_at dksX11_grantOf_0 20 rfl rfl)
theorem dX11_grantOf_21 : decode cX11_grantOf 21 = .ok (.istore 5, 2) := dk_54 5 (dk_at dksX11_grantOf_0 21 rfl rfl)
theorem dX11_grantOf_23 : decode cX11_grantOf 23 = .ok (.iload 5, 2) := dk_21 5 (dk_at dksX11_grantOf_1 0 rfl rfl)
theorem dX11_grantOf_25 : decode cX11_grantOf 25 = .ok (.aload_n 0, 1) := dk_42 (dk_at dksX11_grantOf_1 2 rfl rfl)
theorem dX11_grantOf_26 : decode cX11_grantOf 26 = .ok (.getfield 9, 3) := dk_180 0 9 (dk_at dksX11_grantOf_1 3 rfl rfl)
theorem dX11_grantOf_29 : decode cX11_grantOf 29 = .ok (.bipush 6, 2) := dk_16 6 (dk_at dksX11_grantOf_1 6 rfl rfl)
theorem dX11_grantOf_31 : decode cX11_grantOf 31 = .ok (.iaload, 1) := dk_46 (dk_at dksX11_grantOf_1 8 rfl rfl)
theorem dX11_grantOf_32 : decode cX11_grantOf 32 = .ok (.if_icmp .ge 28, 3) := dk_162 0 28 (dk_at dksX11_grantOf_1 9 rfl rfl)
theorem dX11_grantOf_35 : decode cX11_grantOf 35 = .ok (.iload 4, 2) := dk_21 4 (dk_at dksX11_grantOf_1 12 rfl rfl)
theorem dX11_grantOf_37 : decode cX11_grantOf 37 = .ok (.iload_n 3, 1) := dk_29 (dk_at dksX11_grantOf_1 14 rfl rfl)
theorem dX11_grantOf_38 : decode cX11_grantOf 38 = .ok (.iload 5, 2) := dk_21 5 (dk_at dksX11_grantOf_1 15 rfl rfl)
theorem dX11_grantOf_40 : decode cX11_grantOf 40 = .ok (.invokestatic 86, 3) := dk_184 0 86 (dk_at dksX11_grantOf_1 17 rfl rfl)
theorem dX11_grantOf_43 : decode cX11_grantOf 43 = .ok (.aload_n 0, 1) := dk_42 (dk_at dksX11_grantOf_1 20 rfl rfl)
theorem dX11_grantOf_44 : decode cX11_grantOf 44 = .ok (.iload 5, 2) := dk_21 5 (dk_at dksX11_grantOf_1 21 rfl rfl)
theorem dX11_grantOf_46 : decode cX11_grantOf 46 = .ok (.iconst 3, 1) := dk_6 (dk_at dksX11_grantOf_1 23 rfl rfl)
theorem dX11_grantOf_47 : decode cX11_grantOf 47 = .ok (.invokevirtual 428, 3) := dk_182 1 172 (dk_at dksX11_grantOf_2 0 rfl rfl)
theorem dX11_grantOf_50 : decode cX11_grantOf 50 = .ok (.imul, 1) := dk_104 (dk_at dksX11_grantOf_2 3 rfl rfl)
theorem dX11_grantOf_51 : decode cX11_grantOf 51 = .ok (.iadd, 1) := dk_96 (dk_at dksX11_grantOf_2 4 rfl rfl)
theorem dX11_grantOf_52 : decode cX11_grantOf 52 = .ok (.istore 4, 2) := dk_54 4 (dk_at dksX11_grantOf_2 5 rfl rfl)
theorem dX11_grantOf_54 : decode cX11_grantOf 54 = .ok (.iinc 5 1, 3) := dk_132 5 1 (dk_at dksX11_grantOf_2 7 rfl rfl)
theorem dX11_grantOf_57 : decode cX11_grantOf 57 = .ok (.goto (-34), 3) := dk_167 255 222 (dk_at dksX11_grantOf_2 10 rfl rfl)
theorem dX11_grantOf_60 : decode cX11_grantOf 60 = .ok (.iload 4, 2) := dk_21 4 (dk_at dksX11_grantOf_2 13 rfl rfl)
theorem dX11_grantOf_62 : decode cX11_grantOf 62 = .ok (.iload_n 2, 1) := dk_28 (dk_at dksX11_grantOf_2 15 rfl rfl)
theorem dX11_grantOf_63 : decode cX11_grantOf 63 = .ok (.if_icmp .le 23, 3) := dk_164 0 23 (dk_at dksX11_grantOf_2 16 rfl rfl)
theorem dX11_grantOf_66 : decode cX11_grantOf 66 = .ok (.aload_n 0, 1) := dk_42 (dk_at dksX11_grantOf_2 19 rfl rfl)
theorem dX11_grantOf_67 : decode cX11_grantOf 67 = .ok (.iload_n 3, 1) := dk_29 (dk_at dksX11_grantOf_2 20 rfl rfl)
theorem dX11_grantOf_68 : decode cX11_grantOf 68 = .ok (.iload_n 1, 1) := dk_27 (dk_at dksX11_grantOf_2 21 rfl rfl)
theorem dX11_grantOf_69 : decode cX11_grantOf 69 = .ok (.invokevirtual 437, 3) := dk_182 1 181 (dk_at dksX11_grantOf_3 0 rfl rfl)
theorem dX11_grantOf_72 : decode cX11_grantOf 72 = .ok (.ifCond .ne 6, 3) := dk_154 0 6 (dk_at dksX11_grantOf_3 3 rfl rfl)
theorem dX11_grantOf_75 : decode cX11_grantOf 75 = .ok (.goto 11, 3) := dk_167 0 11 (dk_at dksX11_grantOf_3 6 rfl rfl)
theorem dX11_grantOf_78 : decode cX11_grantOf 78 = .ok (.iload 4, 2) := dk_21 4 (dk_at dksX11_grantOf_3 9 rfl rfl)
theorem dX11_grantOf_80 : decode cX11_grantOf 80 = .ok (.istore_n 2, 1) := dk_61 (dk_at dksX11_grantOf_3 11 rfl rfl)
theorem dX11_grantOf_81 : decode cX11_grantOf 81 = .ok (.aload_n 0, 1) := dk_42 (dk_at dksX11_grantOf_3 12 rfl rfl)
theorem dX11_grantOf_82 : decode cX11_grantOf 82 = .ok (.iload_n 3, 1) := dk_29 (dk_at dksX11_grantOf_3 13 rfl rfl)
theorem dX11_grantOf_83 : decode cX11_grantOf 83 = .ok (.putfield 441, 3) := dk_181 1 185 (dk_at dksX11_grantOf_3 14 rfl rfl)
theorem dX11_grantOf_86 : decode cX11_grantOf 86 = .ok (.iinc 3 1, 3) := dk_132 3 1 (dk_at dksX11_grantOf_3 17 rfl rfl)
theorem dX11_grantOf_89 : decode cX11_grantOf 89 = .ok (.goto (-85), 3) := dk_167 255 171 (dk_at dksX11_grantOf_3 20 rfl rfl)
theorem dX11_grantOf_92 : decode cX11_grantOf 92 = .ok (.iload_n 2, 1) := dk_28 (dk_at dksX11_grantOf_3 23 rfl rfl)
theorem dX11_grantOf_93 : decode cX11_grantOf 93 = .ok (.ireturn, 1) := dk_172 (dk_at dksX11_grantOf_4 0 rfl rfl)
abbrev cX11_ofAsk : ByteArray := prog_19_method_127_code
def yX11_ofAsk : MethodName := ⟨RX11, "ofAsk", "(II)I"⟩
def dkwX11_ofAsk_0 : List UInt8 := [42, 180, 0, 9, 16, 75, 7, 27, 104, 96, 28, 96, 46, 172]
abbrev dktX11_ofAsk_0 : List UInt8 := dkwX11_ofAsk_0 ++ []
theorem dksX11_ofAsk_0 : cX11_ofAsk.data.toList.drop 0 = dktX11_ofAsk_0 := by decide +kernel
theorem dX11_ofAsk_0 : decode cX11_ofAsk 0 = .ok (.aload_n 0, 1) := dk_42 (dk_at dksX11_ofAsk_0 0 rfl rfl)
theorem dX11_ofAsk_1 : decode cX11_ofAsk 1 = .ok (.getfield 9, 3) := dk_180 0 9 (dk_at dksX11_ofAsk_0 1 rfl rfl)
theorem dX11_ofAsk_4 : decode cX11_ofAsk 4 = .ok (.bipush 75, 2) := dk_16 75 (dk_at dksX11_ofAsk_0 4 rfl rfl)
theorem dX11_ofAsk_6 : decode cX11_ofAsk 6 = .ok (.iconst 4, 1) := dk_7 (dk_at dksX11_ofAsk_0 6 rfl rfl)
theorem dX11_ofAsk_7 : decode cX11_ofAsk 7 = .ok (.iload_n 1, 1) := dk_27 (dk_at dksX11_ofAsk_0 7 rfl rfl)
theorem dX11_ofAsk_8 : decode cX11_ofAsk 8 = .ok (.imul, 1) := dk_104 (dk_at dksX11_ofAsk_0 8 rfl rfl)
theorem dX11_ofAsk_9 : decode cX11_ofAsk 9 = .ok (.iadd, 1) := dk_96 (dk_at dksX11_ofAsk_0 9 rfl rfl)
theorem dX11_ofAsk_10 : decode cX11_ofAsk 10 = .ok (.iload_n 2, 1) := dk_28 (dk_at dksX11_ofAsk_0 10 rfl rfl)
theorem dX11_ofAsk_11 : decode cX11_ofAsk 11 = .ok (.iadd, 1) := dk_96 (dk_at dksX11_ofAsk_0 11 rfl rfl)
theorem dX11_ofAsk_12 : decode cX11_ofAsk 12 = .ok (.iaload, 1) := dk_46 (dk_at dksX11_ofAsk_0 12 rfl rfl)
theorem dX11_ofAsk_13 : decode cX11_ofAsk 13 = .ok (.ireturn, 1) := dk_172 (dk_at dksX11_ofAsk_0 13 rfl rfl)
abbrev cX11_canGrant : ByteArray := prog_19_method_130_code
def yX11_canGrant : MethodName := ⟨RX11, "canGrant", "(IZ)Z"⟩
def dkwX11_canGrant_3 : List UInt8 := [167, 255, 203, 29, 27, 184, 1, 25, 160, 0, 7, 4, 167, 0, 4, 3, 172]
abbrev dktX11_canGrant_3 : List UInt8 := dkwX11_canGrant_3 ++ []
def dkwX11_canGrant_2 : List UInt8 := [54, 4, 42, 21, 6, 182, 1, 178, 54, 5, 132, 3, 1, 42, 27, 21, 5, 182, 1, 175, 54, 6]
abbrev dktX11_canGrant_2 : List UInt8 := dkwX11_canGrant_2 ++ dktX11_canGrant_3
def dkwX11_canGrant_1 : List UInt8 := [153, 0, 17, 42, 21, 6, 3, 182, 1, 172, 21, 4, 160, 0, 5, 3, 172, 42, 21, 6, 3, 182, 1, 172]
abbrev dktX11_canGrant_1 : List UInt8 := dkwX11_canGrant_1 ++ dktX11_canGrant_2
def dkwX11_canGrant_0 : List UInt8 := [3, 62, 2, 54, 4, 3, 54, 5, 42, 27, 21, 5, 182, 1, 175, 54, 6, 21, 6, 2, 159, 0, 53, 28]
abbrev dktX11_canGrant_0 : List UInt8 := dkwX11_canGrant_0 ++ dktX11_canGrant_1
theorem dksX11_canGrant_0 : cX11_canGrant.data.toList.drop 0 = dktX11_canGrant_0 := by decide +kernel
theorem dksX11_canGrant_1 : cX11_canGrant.data.toList.drop 24 = dktX11_canGrant_1 := dk_seg dksX11_canGrant_0 24 rfl rfl
theorem dksX11_canGrant_2 : cX11_canGrant.data.toList.drop 48 = dktX11_canGrant_2 := dk_seg dksX11_canGrant_1 24 rfl rfl
theorem dksX11_canGrant_3 : cX11_canGrant.data.toList.drop 70 = dktX11_canGrant_3 := dk_seg dksX11_canGrant_2 22 rfl rfl
theorem dX11_canGrant_0 : decode cX11_canGrant 0 = .ok (.iconst 0, 1) := dk_3 (dk_at dksX11_canGrant_0 0 rfl rfl)
theorem dX11_canGrant_1 : decode cX11_canGrant 1 = .ok (.istore_n 3, 1) := dk_62 (dk_at dksX11_canGrant_0 1 rfl rfl)
theorem dX11_canGrant_2 : decode cX11_canGrant 2 = .ok (.iconst (-1), 1) := dk_2 (dk_at dksX11_canGrant_0 2 rfl rfl)
theorem dX11_canGrant_3 : decode cX11_canGrant 3 = .ok (.istore 4, 2) := dk_54 4 (dk_at dksX11_canGrant_0 3 rfl rfl)
theorem dX11_canGrant_5 : decode cX11_canGrant 5 = .ok (.iconst 0, 1) := dk_3 (dk_at dksX11_canGrant_0 5 rfl rfl)
theorem dX11_canGrant_6 : decode cX11_canGrant 6 = .ok (.istore 5, 2) := dk_54 5 (dk_at dksX11_canGrant_0 6 rfl rfl)
theorem dX11_canGrant_8 : decode cX11_canGrant 8 = .ok (.aload_n 0, 1) := dk_42 (dk_at dksX11_canGrant_0 8 rfl rfl)
theorem dX11_canGrant_9 : decode cX11_canGrant 9 = .ok (.iload_n 1, 1) := dk_27 (dk_at dksX11_canGrant_0 9 rfl rfl)
theorem dX11_canGrant_10 : decode cX11_canGrant 10 = .ok (.iload 5, 2) := dk_21 5 (dk_at dksX11_canGrant_0 10 rfl rfl)
theorem dX11_canGrant_12 : decode cX11_canGrant 12 = .ok (.invokevirtual 431, 3) := dk_182 1 175 (dk_at dksX11_canGrant_0 12 rfl rfl)
theorem dX11_canGrant_15 : decode cX11_canGrant 15 = .ok (.istore 6, 2) := dk_54 6 (dk_at dksX11_canGrant_0 15 rfl rfl)
theorem dX11_canGrant_17 : decode cX11_canGrant 17 = .ok (.iload 6, 2) := dk_21 6 (dk_at dksX11_canGrant_0 17 rfl rfl)
theorem dX11_canGrant_19 : decode cX11_canGrant 19 = .ok (.iconst (-1), 1) := dk_2 (dk_at dksX11_canGrant_0 19 rfl rfl)
theorem dX11_canGrant_20 : decode cX11_canGrant 20 = .ok (.if_icmp .eq 53, 3) := dk_159 0 53 (dk_at dksX11_canGrant_0 20 rfl rfl)
theorem dX11_canGrant_23 : decode cX11_canGrant 23 = .ok (.iload_n 2, 1) := dk_28 (dk_at dksX11_canGrant_0 23 rfl rfl)
theorem dX11_canGrant_24 : decode cX11_canGrant 24 = .ok (.ifCond .eq 17, 3) := dk_153 0 17 (dk_at dksX11_canGrant_1 0 rfl rfl)
theorem dX11_canGrant_27 : decode cX11_canGrant 27 = .ok (.aload_n 0, 1) := dk_42 (dk_at dksX11_canGrant_1 3 rfl rfl)
theorem dX11_canGrant_28 : decode cX11_canGrant 28 = .ok (.iload 6, 2) := dk_21 6 (dk_at dksX11_canGrant_1 4 rfl rfl)
theorem dX11_canGrant_30 : decode cX11_canGrant 30 = .ok (.iconst 0, 1) := dk_3 (dk_at dksX11_canGrant_1 6 rfl rfl)
theorem dX11_canGrant_31 : decode cX11_canGrant 31 = .ok (.invokevirtual 428, 3) := dk_182 1 172 (dk_at dksX11_canGrant_1 7 rfl rfl)
theorem dX11_canGrant_34 : decode cX11_canGrant 34 = .ok (.iload 4, 2) := dk_21 4 (dk_at dksX11_canGrant_1 10 rfl rfl)
theorem dX11_canGrant_36 : decode cX11_canGrant 36 = .ok (.if_icmp .ne 5, 3) := dk_160 0 5 (dk_at dksX11_canGrant_1 12 rfl rfl)
theorem dX11_canGrant_39 : decode cX11_canGrant 39 = .ok (.iconst 0, 1) := dk_3 (dk_at dksX11_canGrant_1 15 rfl rfl)
theorem dX11_canGrant_40 : decode cX11_canGrant 40 = .ok (.ireturn, 1) := dk_172 (dk_at dksX11_canGrant_1 16 rfl rfl)
theorem dX11_canGrant_41 : decode cX11_canGrant 41 = .ok (.aload_n 0, 1) := dk_42 (dk_at dksX11_canGrant_1 17 rfl rfl)
theorem dX11_canGrant_42 : decode cX11_canGrant 42 = .ok (.iload 6, 2) := dk_21 6 (dk_at dksX11_canGrant_1 18 rfl rfl)
theorem dX11_canGrant_44 : decode cX11_canGrant 44 = .ok (.iconst 0, 1) := dk_3 (dk_at dksX11_canGrant_1 20 rfl rfl)
theorem dX11_canGrant_45 : decode cX11_canGrant 45 = .ok (.invokevirtual 428, 3) := dk_182 1 172 (dk_at dksX11_canGrant_1 21 rfl rfl)
theorem dX11_canGrant_48 : decode cX11_canGrant 48 = .ok (.istore 4, 2) := dk_54 4 (dk_at dksX11_canGrant_2 0 rfl rfl)
theorem dX11_canGrant_50 : decode cX11_canGrant 50 = .ok (.aload_n 0, 1) := dk_42 (dk_at dksX11_canGrant_2 2 rfl rfl)
theorem dX11_canGrant_51 : decode cX11_canGrant 51 = .ok (.iload 6, 2) := dk_21 6 (dk_at dksX11_canGrant_2 3 rfl rfl)
theorem dX11_canGrant_53 : decode cX11_canGrant 53 = .ok (.invokevirtual 434, 3) := dk_182 1 178 (dk_at dksX11_canGrant_2 5 rfl rfl)
theorem dX11_canGrant_56 : decode cX11_canGrant 56 = .ok (.istore 5, 2) := dk_54 5 (dk_at dksX11_canGrant_2 8 rfl rfl)
theorem dX11_canGrant_58 : decode cX11_canGrant 58 = .ok (.iinc 3 1, 3) := dk_132 3 1 (dk_at dksX11_canGrant_2 10 rfl rfl)
theorem dX11_canGrant_61 : decode cX11_canGrant 61 = .ok (.aload_n 0, 1) := dk_42 (dk_at dksX11_canGrant_2 13 rfl rfl)
theorem dX11_canGrant_62 : decode cX11_canGrant 62 = .ok (.iload_n 1, 1) := dk_27 (dk_at dksX11_canGrant_2 14 rfl rfl)
theorem dX11_canGrant_63 : decode cX11_canGrant 63 = .ok (.iload 5, 2) := dk_21 5 (dk_at dksX11_canGrant_2 15 rfl rfl)
theorem dX11_canGrant_65 : decode cX11_canGrant 65 = .ok (.invokevirtual 431, 3) := dk_182 1 175 (dk_at dksX11_canGrant_2 17 rfl rfl)
theorem dX11_canGrant_68 : decode cX11_canGrant 68 = .ok (.istore 6, 2) := dk_54 6 (dk_at dksX11_canGrant_2 20 rfl rfl)
theorem dX11_canGrant_70 : decode cX11_canGrant 70 = .ok (.goto (-53), 3) := dk_167 255 203 (dk_at dksX11_canGrant_3 0 rfl rfl)
theorem dX11_canGrant_73 : decode cX11_canGrant 73 = .ok (.iload_n 3, 1) := dk_29 (dk_at dksX11_canGrant_3 3 rfl rfl)
theorem dX11_canGrant_74 : decode cX11_canGrant 74 = .ok (.iload_n 1, 1) := dk_27 (dk_at dksX11_canGrant_3 4 rfl rfl)
theorem dX11_canGrant_75 : decode cX11_canGrant 75 = .ok (.invokestatic 281, 3) := dk_184 1 25 (dk_at dksX11_canGrant_3 5 rfl rfl)
theorem dX11_canGrant_78 : decode cX11_canGrant 78 = .ok (.if_icmp .ne 7, 3) := dk_160 0 7 (dk_at dksX11_canGrant_3 8 rfl rfl)
theorem dX11_canGrant_81 : decode cX11_canGrant 81 = .ok (.iconst 1, 1) := dk_4 (dk_at dksX11_canGrant_3 11 rfl rfl)
theorem dX11_canGrant_82 : decode cX11_canGrant 82 = .ok (.goto 4, 3) := dk_167 0 4 (dk_at dksX11_canGrant_3 12 rfl rfl)
theorem dX11_canGrant_85 : decode cX11_canGrant 85 = .ok (.iconst 0, 1) := dk_3 (dk_at dksX11_canGrant_3 15 rfl rfl)
theorem dX11_canGrant_86 : decode cX11_canGrant 86 = .ok (.ireturn, 1) := dk_172 (dk_at dksX11_canGrant_3 16 rfl rfl)
abbrev cX11_nextAsk : ByteArray := prog_19_method_129_code
def yX11_nextAsk : MethodName := ⟨RX11, "nextAsk", "(II)I"⟩
def dkwX11_nextAsk_2 : List UInt8 := [182, 1, 172, 42, 29, 4, 182, 1, 172, 162, 0, 6, 21, 4, 62, 132, 4, 1, 167, 255, 196, 29, 172]
abbrev dktX11_nextAsk_2 : List UInt8 := dkwX11_nextAsk_2 ++ []
def dkwX11_nextAsk_1 : List UInt8 := [160, 0, 38, 42, 21, 4, 4, 182, 1, 172, 28, 161, 0, 27, 29, 2, 159, 0, 19, 42, 21, 4, 4]
abbrev dktX11_nextAsk_1 : List UInt8 := dkwX11_nextAsk_1 ++ dktX11_nextAsk_2
def dkwX11_nextAsk_0 : List UInt8 := [2, 62, 3, 54, 4, 21, 4, 42, 180, 0, 9, 16, 6, 46, 162, 0, 54, 27, 21, 4, 184, 0, 86, 4]
abbrev dktX11_nextAsk_0 : List UInt8 := dkwX11_nextAsk_0 ++ dktX11_nextAsk_1
theorem dksX11_nextAsk_0 : cX11_nextAsk.data.toList.drop 0 = dktX11_nextAsk_0 := by decide +kernel
theorem dksX11_nextAsk_1 : cX11_nextAsk.data.toList.drop 24 = dktX11_nextAsk_1 := dk_seg dksX11_nextAsk_0 24 rfl rfl
theorem dksX11_nextAsk_2 : cX11_nextAsk.data.toList.drop 47 = dktX11_nextAsk_2 := dk_seg dksX11_nextAsk_1 23 rfl rfl
theorem dX11_nextAsk_0 : decode cX11_nextAsk 0 = .ok (.iconst (-1), 1) := dk_2 (dk_at dksX11_nextAsk_0 0 rfl rfl)
theorem dX11_nextAsk_1 : decode cX11_nextAsk 1 = .ok (.istore_n 3, 1) := dk_62 (dk_at dksX11_nextAsk_0 1 rfl rfl)
theorem dX11_nextAsk_2 : decode cX11_nextAsk 2 = .ok (.iconst 0, 1) := dk_3 (dk_at dksX11_nextAsk_0 2 rfl rfl)
theorem dX11_nextAsk_3 : decode cX11_nextAsk 3 = .ok (.istore 4, 2) := dk_54 4 (dk_at dksX11_nextAsk_0 3 rfl rfl)
theorem dX11_nextAsk_5 : decode cX11_nextAsk 5 = .ok (.iload 4, 2) := dk_21 4 (dk_at dksX11_nextAsk_0 5 rfl rfl)
theorem dX11_nextAsk_7 : decode cX11_nextAsk 7 = .ok (.aload_n 0, 1) := dk_42 (dk_at dksX11_nextAsk_0 7 rfl rfl)
theorem dX11_nextAsk_8 : decode cX11_nextAsk 8 = .ok (.getfield 9, 3) := dk_180 0 9 (dk_at dksX11_nextAsk_0 8 rfl rfl)
theorem dX11_nextAsk_11 : decode cX11_nextAsk 11 = .ok (.bipush 6, 2) := dk_16 6 (dk_at dksX11_nextAsk_0 11 rfl rfl)
theorem dX11_nextAsk_13 : decode cX11_nextAsk 13 = .ok (.iaload, 1) := dk_46 (dk_at dksX11_nextAsk_0 13 rfl rfl)
theorem dX11_nextAsk_14 : decode cX11_nextAsk 14 = .ok (.if_icmp .ge 54, 3) := dk_162 0 54 (dk_at dksX11_nextAsk_0 14 rfl rfl)
theorem dX11_nextAsk_17 : decode cX11_nextAsk 17 = .ok (.iload_n 1, 1) := dk_27 (dk_at dksX11_nextAsk_0 17 rfl rfl)
theorem dX11_nextAsk_18 : decode cX11_nextAsk 18 = .ok (.iload 4, 2) := dk_21 4 (dk_at dksX11_nextAsk_0 18 rfl rfl)
theorem dX11_nextAsk_20 : decode cX11_nextAsk 20 = .ok (.invokestatic 86, 3) := dk_184 0 86 (dk_at dksX11_nextAsk_0 20 rfl rfl)
theorem dX11_nextAsk_23 : decode cX11_nextAsk 23 = .ok (.iconst 1, 1) := dk_4 (dk_at dksX11_nextAsk_0 23 rfl rfl)
theorem dX11_nextAsk_24 : decode cX11_nextAsk 24 = .ok (.if_icmp .ne 38, 3) := dk_160 0 38 (dk_at dksX11_nextAsk_1 0 rfl rfl)
theorem dX11_nextAsk_27 : decode cX11_nextAsk 27 = .ok (.aload_n 0, 1) := dk_42 (dk_at dksX11_nextAsk_1 3 rfl rfl)
theorem dX11_nextAsk_28 : decode cX11_nextAsk 28 = .ok (.iload 4, 2) := dk_21 4 (dk_at dksX11_nextAsk_1 4 rfl rfl)
theorem dX11_nextAsk_30 : decode cX11_nextAsk 30 = .ok (.iconst 1, 1) := dk_4 (dk_at dksX11_nextAsk_1 6 rfl rfl)
theorem dX11_nextAsk_31 : decode cX11_nextAsk 31 = .ok (.invokevirtual 428, 3) := dk_182 1 172 (dk_at dksX11_nextAsk_1 7 rfl rfl)
theorem dX11_nextAsk_34 : decode cX11_nextAsk 34 = .ok (.iload_n 2, 1) := dk_28 (dk_at dksX11_nextAsk_1 10 rfl rfl)
theorem dX11_nextAsk_35 : decode cX11_nextAsk 35 = .ok (.if_icmp .lt 27, 3) := dk_161 0 27 (dk_at dksX11_nextAsk_1 11 rfl rfl)
theorem dX11_nextAsk_38 : decode cX11_nextAsk 38 = .ok (.iload_n 3, 1) := dk_29 (dk_at dksX11_nextAsk_1 14 rfl rfl)
theorem dX11_nextAsk_39 : decode cX11_nextAsk 39 = .ok (.iconst (-1), 1) := dk_2 (dk_at dksX11_nextAsk_1 15 rfl rfl)
theorem dX11_nextAsk_40 : decode cX11_nextAsk 40 = .ok (.if_icmp .eq 19, 3) := dk_159 0 19 (dk_at dksX11_nextAsk_1 16 rfl rfl)
theorem dX11_nextAsk_43 : decode cX11_nextAsk 43 = .ok (.aload_n 0, 1) := dk_42 (dk_at dksX11_nextAsk_1 19 rfl rfl)
theorem dX11_nextAsk_44 : decode cX11_nextAsk 44 = .ok (.iload 4, 2) := dk_21 4 (dk_at dksX11_nextAsk_1 20 rfl rfl)
theorem dX11_nextAsk_46 : decode cX11_nextAsk 46 = .ok (.iconst 1, 1) := dk_4 (dk_at dksX11_nextAsk_1 22 rfl rfl)
theorem dX11_nextAsk_47 : decode cX11_nextAsk 47 = .ok (.invokevirtual 428, 3) := dk_182 1 172 (dk_at dksX11_nextAsk_2 0 rfl rfl)
theorem dX11_nextAsk_50 : decode cX11_nextAsk 50 = .ok (.aload_n 0, 1) := dk_42 (dk_at dksX11_nextAsk_2 3 rfl rfl)
theorem dX11_nextAsk_51 : decode cX11_nextAsk 51 = .ok (.iload_n 3, 1) := dk_29 (dk_at dksX11_nextAsk_2 4 rfl rfl)
theorem dX11_nextAsk_52 : decode cX11_nextAsk 52 = .ok (.iconst 1, 1) := dk_4 (dk_at dksX11_nextAsk_2 5 rfl rfl)
theorem dX11_nextAsk_53 : decode cX11_nextAsk 53 = .ok (.invokevirtual 428, 3) := dk_182 1 172 (dk_at dksX11_nextAsk_2 6 rfl rfl)
theorem dX11_nextAsk_56 : decode cX11_nextAsk 56 = .ok (.if_icmp .ge 6, 3) := dk_162 0 6 (dk_at dksX11_nextAsk_2 9 rfl rfl)
theorem dX11_nextAsk_59 : decode cX11_nextAsk 59 = .ok (.iload 4, 2) := dk_21 4 (dk_at dksX11_nextAsk_2 12 rfl rfl)
theorem dX11_nextAsk_61 : decode cX11_nextAsk 61 = .ok (.istore_n 3, 1) := dk_62 (dk_at dksX11_nextAsk_2 14 rfl rfl)
theorem dX11_nextAsk_62 : decode cX11_nextAsk 62 = .ok (.iinc 4 1, 3) := dk_132 4 1 (dk_at dksX11_nextAsk_2 15 rfl rfl)
theorem dX11_nextAsk_65 : decode cX11_nextAsk 65 = .ok (.goto (-60), 3) := dk_167 255 196 (dk_at dksX11_nextAsk_2 18 rfl rfl)
theorem dX11_nextAsk_68 : decode cX11_nextAsk 68 = .ok (.iload_n 3, 1) := dk_29 (dk_at dksX11_nextAsk_2 21 rfl rfl)
theorem dX11_nextAsk_69 : decode cX11_nextAsk 69 = .ok (.ireturn, 1) := dk_172 (dk_at dksX11_nextAsk_2 22 rfl rfl)
abbrev cX11_endOf : ByteArray := prog_19_method_128_code
def yX11_endOf : MethodName := ⟨RX11, "endOf", "(I)I"⟩
def dkwX11_endOf_0 : List UInt8 := [42, 27, 4, 182, 1, 172, 42, 27, 5, 182, 1, 172, 96, 172]
abbrev dktX11_endOf_0 : List UInt8 := dkwX11_endOf_0 ++ []
theorem dksX11_endOf_0 : cX11_endOf.data.toList.drop 0 = dktX11_endOf_0 := by decide +kernel
theorem dX11_endOf_0 : decode cX11_endOf 0 = .ok (.aload_n 0, 1) := dk_42 (dk_at dksX11_endOf_0 0 rfl rfl)
theorem dX11_endOf_1 : decode cX11_endOf 1 = .ok (.iload_n 1, 1) := dk_27 (dk_at dksX11_endOf_0 1 rfl rfl)
theorem dX11_endOf_2 : decode cX11_endOf 2 = .ok (.iconst 1, 1) := dk_4 (dk_at dksX11_endOf_0 2 rfl rfl)
theorem dX11_endOf_3 : decode cX11_endOf 3 = .ok (.invokevirtual 428, 3) := dk_182 1 172 (dk_at dksX11_endOf_0 3 rfl rfl)
theorem dX11_endOf_6 : decode cX11_endOf 6 = .ok (.aload_n 0, 1) := dk_42 (dk_at dksX11_endOf_0 6 rfl rfl)
theorem dX11_endOf_7 : decode cX11_endOf 7 = .ok (.iload_n 1, 1) := dk_27 (dk_at dksX11_endOf_0 7 rfl rfl)
theorem dX11_endOf_8 : decode cX11_endOf 8 = .ok (.iconst 2, 1) := dk_5 (dk_at dksX11_endOf_0 8 rfl rfl)
theorem dX11_endOf_9 : decode cX11_endOf 9 = .ok (.invokevirtual 428, 3) := dk_182 1 172 (dk_at dksX11_endOf_0 9 rfl rfl)
theorem dX11_endOf_12 : decode cX11_endOf 12 = .ok (.iadd, 1) := dk_96 (dk_at dksX11_endOf_0 12 rfl rfl)
theorem dX11_endOf_13 : decode cX11_endOf 13 = .ok (.ireturn, 1) := dk_172 (dk_at dksX11_endOf_0 13 rfl rfl)
abbrev cX11_granted : ByteArray := prog_19_method_133_code
def yX11_granted : MethodName := ⟨RX11, "granted", "()I"⟩
def dkwX11_granted_0 : List UInt8 := [42, 182, 0, 74, 154, 0, 6, 16, 254, 172, 42, 3, 182, 1, 188, 87, 42, 180, 1, 185, 172]
abbrev dktX11_granted_0 : List UInt8 := dkwX11_granted_0 ++ []
theorem dksX11_granted_0 : cX11_granted.data.toList.drop 0 = dktX11_granted_0 := by decide +kernel
theorem dX11_granted_0 : decode cX11_granted 0 = .ok (.aload_n 0, 1) := dk_42 (dk_at dksX11_granted_0 0 rfl rfl)
theorem dX11_granted_1 : decode cX11_granted 1 = .ok (.invokevirtual 74, 3) := dk_182 0 74 (dk_at dksX11_granted_0 1 rfl rfl)
theorem dX11_granted_4 : decode cX11_granted 4 = .ok (.ifCond .ne 6, 3) := dk_154 0 6 (dk_at dksX11_granted_0 4 rfl rfl)
theorem dX11_granted_7 : decode cX11_granted 7 = .ok (.bipush (-2), 2) := dk_16 254 (dk_at dksX11_granted_0 7 rfl rfl)
theorem dX11_granted_9 : decode cX11_granted 9 = .ok (.ireturn, 1) := dk_172 (dk_at dksX11_granted_0 9 rfl rfl)
theorem dX11_granted_10 : decode cX11_granted 10 = .ok (.aload_n 0, 1) := dk_42 (dk_at dksX11_granted_0 10 rfl rfl)
theorem dX11_granted_11 : decode cX11_granted 11 = .ok (.iconst 0, 1) := dk_3 (dk_at dksX11_granted_0 11 rfl rfl)
theorem dX11_granted_12 : decode cX11_granted 12 = .ok (.invokevirtual 444, 3) := dk_182 1 188 (dk_at dksX11_granted_0 12 rfl rfl)
theorem dX11_granted_15 : decode cX11_granted 15 = .ok (.pop, 1) := dk_87 (dk_at dksX11_granted_0 15 rfl rfl)
theorem dX11_granted_16 : decode cX11_granted 16 = .ok (.aload_n 0, 1) := dk_42 (dk_at dksX11_granted_0 16 rfl rfl)
theorem dX11_granted_17 : decode cX11_granted 17 = .ok (.getfield 441, 3) := dk_180 1 185 (dk_at dksX11_granted_0 17 rfl rfl)
theorem dX11_granted_20 : decode cX11_granted 20 = .ok (.ireturn, 1) := dk_172 (dk_at dksX11_granted_0 20 rfl rfl)
abbrev cX11_halves : ByteArray := prog_19_method_134_code
def yX11_halves : MethodName := ⟨RX11, "halves", "()I"⟩
def dkwX11_halves_0 : List UInt8 := [42, 182, 0, 74, 153, 0, 11, 42, 4, 182, 1, 188, 167, 0, 5, 16, 254, 172]
abbrev dktX11_halves_0 : List UInt8 := dkwX11_halves_0 ++ []
theorem dksX11_halves_0 : cX11_halves.data.toList.drop 0 = dktX11_halves_0 := by decide +kernel
theorem dX11_halves_0 : decode cX11_halves 0 = .ok (.aload_n 0, 1) := dk_42 (dk_at dksX11_halves_0 0 rfl rfl)
theorem dX11_halves_1 : decode cX11_halves 1 = .ok (.invokevirtual 74, 3) := dk_182 0 74 (dk_at dksX11_halves_0 1 rfl rfl)
theorem dX11_halves_4 : decode cX11_halves 4 = .ok (.ifCond .eq 11, 3) := dk_153 0 11 (dk_at dksX11_halves_0 4 rfl rfl)
theorem dX11_halves_7 : decode cX11_halves 7 = .ok (.aload_n 0, 1) := dk_42 (dk_at dksX11_halves_0 7 rfl rfl)
theorem dX11_halves_8 : decode cX11_halves 8 = .ok (.iconst 1, 1) := dk_4 (dk_at dksX11_halves_0 8 rfl rfl)
theorem dX11_halves_9 : decode cX11_halves 9 = .ok (.invokevirtual 444, 3) := dk_182 1 188 (dk_at dksX11_halves_0 9 rfl rfl)
theorem dX11_halves_12 : decode cX11_halves 12 = .ok (.goto 5, 3) := dk_167 0 5 (dk_at dksX11_halves_0 12 rfl rfl)
theorem dX11_halves_15 : decode cX11_halves 15 = .ok (.bipush (-2), 2) := dk_16 254 (dk_at dksX11_halves_0 15 rfl rfl)
theorem dX11_halves_17 : decode cX11_halves 17 = .ok (.ireturn, 1) := dk_172 (dk_at dksX11_halves_0 17 rfl rfl)
abbrev cX11_halved : ByteArray := prog_19_method_135_code
def yX11_halved : MethodName := ⟨RX11, "halved", "()I"⟩
def dkwX11_halved_0 : List UInt8 := [42, 182, 0, 74, 154, 0, 6, 16, 254, 172, 42, 4, 182, 1, 188, 87, 42, 180, 1, 185, 172]
abbrev dktX11_halved_0 : List UInt8 := dkwX11_halved_0 ++ []
theorem dksX11_halved_0 : cX11_halved.data.toList.drop 0 = dktX11_halved_0 := by decide +kernel
theorem dX11_halved_0 : decode cX11_halved 0 = .ok (.aload_n 0, 1) := dk_42 (dk_at dksX11_halved_0 0 rfl rfl)
theorem dX11_halved_1 : decode cX11_halved 1 = .ok (.invokevirtual 74, 3) := dk_182 0 74 (dk_at dksX11_halved_0 1 rfl rfl)
theorem dX11_halved_4 : decode cX11_halved 4 = .ok (.ifCond .ne 6, 3) := dk_154 0 6 (dk_at dksX11_halved_0 4 rfl rfl)
theorem dX11_halved_7 : decode cX11_halved 7 = .ok (.bipush (-2), 2) := dk_16 254 (dk_at dksX11_halved_0 7 rfl rfl)
theorem dX11_halved_9 : decode cX11_halved 9 = .ok (.ireturn, 1) := dk_172 (dk_at dksX11_halved_0 9 rfl rfl)
theorem dX11_halved_10 : decode cX11_halved 10 = .ok (.aload_n 0, 1) := dk_42 (dk_at dksX11_halved_0 10 rfl rfl)
theorem dX11_halved_11 : decode cX11_halved 11 = .ok (.iconst 1, 1) := dk_4 (dk_at dksX11_halved_0 11 rfl rfl)
theorem dX11_halved_12 : decode cX11_halved 12 = .ok (.invokevirtual 444, 3) := dk_182 1 188 (dk_at dksX11_halved_0 12 rfl rfl)
theorem dX11_halved_15 : decode cX11_halved 15 = .ok (.pop, 1) := dk_87 (dk_at dksX11_halved_0 15 rfl rfl)
theorem dX11_halved_16 : decode cX11_halved 16 = .ok (.aload_n 0, 1) := dk_42 (dk_at dksX11_halved_0 16 rfl rfl)
theorem dX11_halved_17 : decode cX11_halved 17 = .ok (.getfield 441, 3) := dk_180 1 185 (dk_at dksX11_halved_0 17 rfl rfl)
theorem dX11_halved_20 : decode cX11_halved 20 = .ok (.ireturn, 1) := dk_172 (dk_at dksX11_halved_0 20 rfl rfl)
abbrev cX11_dry : ByteArray := prog_19_method_136_code
def yX11_dry : MethodName := ⟨RX11, "dry", "(III)J"⟩
def dkwX11_dry_6 : List UInt8 := [173]
abbrev dktX11_dry_6 : List UInt8 := dkwX11_dry_6 ++ []
def dkwX11_dry_5 : List UInt8 := [55, 4, 22, 6, 20, 1, 35, 105, 55, 6, 132, 8, 1, 167, 255, 208, 22, 4, 22, 6, 29, 184, 1, 45]
abbrev dktX11_dry_5 : List UInt8 := dkwX11_dry_5 ++ dktX11_dry_6
def dkwX11_dry_4 : List UInt8 := [162, 0, 16, 16, 100, 42, 180, 0, 9, 6, 46, 100, 133, 167, 0, 10, 42, 180, 0, 9, 6, 46, 133, 105]
abbrev dktX11_dry_4 : List UInt8 := dkwX11_dry_4 ++ dktX11_dry_5
def dkwX11_dry_3 : List UInt8 := [109, 55, 4, 132, 8, 1, 167, 255, 231, 3, 54, 8, 21, 8, 27, 162, 0, 48, 22, 4, 21, 8, 28]
abbrev dktX11_dry_3 : List UInt8 := dkwX11_dry_3 ++ dktX11_dry_4
def dkwX11_dry_2 : List UInt8 := [55, 6, 3, 54, 8, 21, 8, 28, 162, 0, 25, 22, 4, 27, 21, 8, 100, 133, 105, 21, 8, 4, 96, 133]
abbrev dktX11_dry_2 : List UInt8 := dkwX11_dry_2 ++ dktX11_dry_3
def dkwX11_dry_1 : List UInt8 := [184, 0, 70, 153, 0, 13, 29, 133, 9, 10, 184, 0, 70, 154, 0, 7, 20, 1, 19, 173, 10, 55, 4, 10]
abbrev dktX11_dry_1 : List UInt8 := dkwX11_dry_1 ++ dktX11_dry_2
def dkwX11_dry_0 : List UInt8 := [42, 182, 0, 74, 153, 0, 36, 27, 133, 10, 20, 1, 129, 184, 0, 70, 153, 0, 24, 28, 133, 9, 27, 133]
abbrev dktX11_dry_0 : List UInt8 := dkwX11_dry_0 ++ dktX11_dry_1
theorem dksX11_dry_0 : cX11_dry.data.toList.drop 0 = dktX11_dry_0 := by decide +kernel
theorem dksX11_dry_1 : cX11_dry.data.toList.drop 24 = dktX11_dry_1 := dk_seg dksX11_dry_0 24 rfl rfl
theorem dksX11_dry_2 : cX11_dry.data.toList.drop 48 = dktX11_dry_2 := dk_seg dksX11_dry_1 24 rfl rfl
theorem dksX11_dry_3 : cX11_dry.data.toList.drop 72 = dktX11_dry_3 := dk_seg dksX11_dry_2 24 rfl rfl
theorem dksX11_dry_4 : cX11_dry.data.toList.drop 95 = dktX11_dry_4 := dk_seg dksX11_dry_3 23 rfl rfl
theorem dksX11_dry_5 : cX11_dry.data.toList.drop 119 = dktX11_dry_5 := dk_seg dksX11_dry_4 24 rfl rfl
theorem dksX11_dry_6 : cX11_dry.data.toList.drop 143 = dktX11_dry_6 := dk_seg dksX11_dry_5 24 rfl rfl
theorem dX11_dry_0 : decode cX11_dry 0 = .ok (.aload_n 0, 1) := dk_42 (dk_at dksX11_dry_0 0 rfl rfl)
theorem dX11_dry_1 : decode cX11_dry 1 = .ok (.invokevirtual 74, 3) := dk_182 0 74 (dk_at dksX11_dry_0 1 rfl rfl)
theorem dX11_dry_4 : decode cX11_dry 4 = .ok (.ifCond .eq 36, 3) := dk_153 0 36 (dk_at dksX11_dry_0 4 rfl rfl)
theorem dX11_dry_7 : decode cX11_dry 7 = .ok (.iload_n 1, 1) := dk_27 (dk_at dksX11_dry_0 7 rfl rfl)
theorem dX11_dry_8 : decode cX11_dry 8 = .ok (.i2l, 1) := dk_133 (dk_at dksX11_dry_0 8 rfl rfl)
theorem dX11_dry_9 : decode cX11_dry 9 = .ok (.lconst 1, 1) := dk_10 (dk_at dksX11_dry_0 9 rfl rfl)
theorem dX11_dry_10 : decode cX11_dry 10 = .ok (.ldc2_w 385, 3) := dk_20 1 129 (dk_at dksX11_dry_0 10 rfl rfl)
theorem dX11_dry_13 : decode cX11_dry 13 = .ok (.invokestatic 70, 3) := dk_184 0 70 (dk_at dksX11_dry_0 13 rfl rfl)
theorem dX11_dry_16 : decode cX11_dry 16 = .ok (.ifCond .eq 24, 3) := dk_153 0 24 (dk_at dksX11_dry_0 16 rfl rfl)
theorem dX11_dry_19 : decode cX11_dry 19 = .ok (.iload_n 2, 1) := dk_28 (dk_at dksX11_dry_0 19 rfl rfl)
theorem dX11_dry_20 : decode cX11_dry 20 = .ok (.i2l, 1) := dk_133 (dk_at dksX11_dry_0 20 rfl rfl)
theorem dX11_dry_21 : decode cX11_dry 21 = .ok (.lconst 0, 1) := dk_9 (dk_at dksX11_dry_0 21 rfl rfl)
theorem dX11_dry_22 : decode cX11_dry 22 = .ok (.iload_n 1, 1) := dk_27 (dk_at dksX11_dry_0 22 rfl rfl)
theorem dX11_dry_23 : decode cX11_dry 23 = .ok (.i2l, 1) := dk_133 (dk_at dksX11_dry_0 23 rfl rfl)
theorem dX11_dry_24 : decode cX11_dry 24 = .ok (.invokestatic 70, 3) := dk_184 0 70 (dk_at dksX11_dry_1 0 rfl rfl)
theorem dX11_dry_27 : decode cX11_dry 27 = .ok (.ifCond .eq 13, 3) := dk_153 0 13 (dk_at dksX11_dry_1 3 rfl rfl)
theorem dX11_dry_30 : decode cX11_dry 30 = .ok (.iload_n 3, 1) := dk_29 (dk_at dksX11_dry_1 6 rfl rfl)
theorem dX11_dry_31 : decode cX11_dry 31 = .ok (.i2l, 1) := dk_133 (dk_at dksX11_dry_1 7 rfl rfl)
theorem dX11_dry_32 : decode cX11_dry 32 = .ok (.lconst 0, 1) := dk_9 (dk_at dksX11_dry_1 8 rfl rfl)
theorem dX11_dry_33 : decode cX11_dry 33 = .ok (.lconst 1, 1) := dk_10 (dk_at dksX11_dry_1 9 rfl rfl)
theorem dX11_dry_34 : decode cX11_dry 34 = .ok (.invokestatic 70, 3) := dk_184 0 70 (dk_at dksX11_dry_1 10 rfl rfl)
theorem dX11_dry_37 : decode cX11_dry 37 = .ok (.ifCond .ne 7, 3) := dk_154 0 7 (dk_at dksX11_dry_1 13 rfl rfl)
theorem dX11_dry_40 : decode cX11_dry 40 = .ok (.ldc2_w 275, 3) := dk_20 1 19 (dk_at dksX11_dry_1 16 rfl rfl)
theorem dX11_dry_43 : decode cX11_dry 43 = .ok (.lreturn, 1) := dk_173 (dk_at dksX11_dry_1 19 rfl rfl)
theorem dX11_dry_44 : decode cX11_dry 44 = .ok (.lconst 1, 1) := dk_10 (dk_at dksX11_dry_1 20 rfl rfl)
theorem dX11_dry_45 : decode cX11_dry 45 = .ok (.lstore 4, 2) := dk_55 4 (dk_at dksX11_dry_1 21 rfl rfl)
theorem dX11_dry_47 : decode cX11_dry 47 = .ok (.lconst 1, 1) := dk_10 (dk_at dksX11_dry_1 23 rfl rfl)
theorem dX11_dry_48 : decode cX11_dry 48 = .ok (.lstore 6, 2) := dk_55 6 (dk_at dksX11_dry_2 0 rfl rfl)
theorem dX11_dry_50 : decode cX11_dry 50 = .ok (.iconst 0, 1) := dk_3 (dk_at dksX11_dry_2 2 rfl rfl)
theorem dX11_dry_51 : decode cX11_dry 51 = .ok (.istore 8, 2) := dk_54 8 (dk_at dksX11_dry_2 3 rfl rfl)
theorem dX11_dry_53 : decode cX11_dry 53 = .ok (.iload 8, 2) := dk_21 8 (dk_at dksX11_dry_2 5 rfl rfl)
theorem dX11_dry_55 : decode cX11_dry 55 = .ok (.iload_n 2, 1) := dk_28 (dk_at dksX11_dry_2 7 rfl rfl)
theorem dX11_dry_56 : decode cX11_dry 56 = .ok (.if_icmp .ge 25, 3) := dk_162 0 25 (dk_at dksX11_dry_2 8 rfl rfl)
theorem dX11_dry_59 : decode cX11_dry 59 = .ok (.lload 4, 2) := dk_22 4 (dk_at dksX11_dry_2 11 rfl rfl)
theorem dX11_dry_61 : decode cX11_dry 61 = .ok (.iload_n 1, 1) := dk_27 (dk_at dksX11_dry_2 13 rfl rfl)
theorem dX11_dry_62 : decode cX11_dry 62 = .ok (.iload 8, 2) := dk_21 8 (dk_at dksX11_dry_2 14 rfl rfl)
theorem dX11_dry_64 : decode cX11_dry 64 = .ok (.isub, 1) := dk_100 (dk_at dksX11_dry_2 16 rfl rfl)
theorem dX11_dry_65 : decode cX11_dry 65 = .ok (.i2l, 1) := dk_133 (dk_at dksX11_dry_2 17 rfl rfl)
theorem dX11_dry_66 : decode cX11_dry 66 = .ok (.lmul, 1) := dk_105 (dk_at dksX11_dry_2 18 rfl rfl)
theorem dX11_dry_67 : decode cX11_dry 67 = .ok (.iload 8, 2) := dk_21 8 (dk_at dksX11_dry_2 19 rfl rfl)
theorem dX11_dry_69 : decode cX11_dry 69 = .ok (.iconst 1, 1) := dk_4 (dk_at dksX11_dry_2 21 rfl rfl)
theorem dX11_dry_70 : decode cX11_dry 70 = .ok (.iadd, 1) := dk_96 (dk_at dksX11_dry_2 22 rfl rfl)
theorem dX11_dry_71 : decode cX11_dry 71 = .ok (.i2l, 1) := dk_133 (dk_at dksX11_dry_2 23 rfl rfl)
theorem dX11_dry_72 : decode cX11_dry 72 = .ok (.ldiv, 1) := dk_109 (dk_at dksX11_dry_3 0 rfl rfl)
theorem dX11_dry_73 : decode cX11_dry 73 = .ok (.lstore 4, 2) := dk_55 4 (dk_at dksX11_dry_3 1 rfl rfl)
theorem dX11_dry_75 : decode cX11_dry 75 = .ok (.iinc 8 1, 3) := dk_132 8 1 (dk_at dksX11_dry_3 3 rfl rfl)
theorem dX11_dry_78 : decode cX11_dry 78 = .ok (.goto (-25), 3) := dk_167 255 231 (dk_at dksX11_dry_3 6 rfl rfl)
theorem dX11_dry_81 : decode cX11_dry 81 = .ok (.iconst 0, 1) := dk_3 (dk_at dksX11_dry_3 9 rfl rfl)
theorem dX11_dry_82 : decode cX11_dry 82 = .ok (.istore 8, 2) := dk_54 8 (dk_at dksX11_dry_3 10 rfl rfl)
theorem dX11_dry_84 : decode cX11_dry 84 = .ok (.iload 8, 2) := dk_21 8 (dk_at dksX11_dry_3 12 rfl rfl)
theorem dX11_dry_86 : decode cX11_dry 86 = .ok (.iload_n 1, 1) := dk_27 (dk_at dksX11_dry_3 14 rfl rfl)
theorem dX11_dry_87 : decode cX11_dry 87 = .ok (.if_icmp .ge 48, 3) := dk_162 0 48 (dk_at dksX11_dry_3 15 rfl rfl)
theorem dX11_dry_90 : decode cX11_dry 90 = .ok (.lload 4, 2) := dk_22 4 (dk_at dksX11_dry_3 18 rfl rfl)
theorem dX11_dry_92 : decode cX11_dry 92 = .ok (.iload 8, 2) := dk_21 8 (dk_at dksX11_dry_3 20 rfl rfl)
theorem dX11_dry_94 : decode cX11_dry 94 = .ok (.iload_n 2, 1) := dk_28 (dk_at dksX11_dry_3 22 rfl rfl)
theorem dX11_dry_95 : decode cX11_dry 95 = .ok (.if_icmp .ge 16, 3) := dk_162 0 16 (dk_at dksX11_dry_4 0 rfl rfl)
theorem dX11_dry_98 : decode cX11_dry 98 = .ok (.bipush 100, 2) := dk_16 100 (dk_at dksX11_dry_4 3 rfl rfl)
theorem dX11_dry_100 : decode cX11_dry 100 = .ok (.aload_n 0, 1) := dk_42 (dk_at dksX11_dry_4 5 rfl rfl)
theorem dX11_dry_101 : decode cX11_dry 101 = .ok (.getfield 9, 3) := dk_180 0 9 (dk_at dksX11_dry_4 6 rfl rfl)
theorem dX11_dry_104 : decode cX11_dry 104 = .ok (.iconst 3, 1) := dk_6 (dk_at dksX11_dry_4 9 rfl rfl)
theorem dX11_dry_105 : decode cX11_dry 105 = .ok (.iaload, 1) := dk_46 (dk_at dksX11_dry_4 10 rfl rfl)
theorem dX11_dry_106 : decode cX11_dry 106 = .ok (.isub, 1) := dk_100 (dk_at dksX11_dry_4 11 rfl rfl)
theorem dX11_dry_107 : decode cX11_dry 107 = .ok (.i2l, 1) := dk_133 (dk_at dksX11_dry_4 12 rfl rfl)
theorem dX11_dry_108 : decode cX11_dry 108 = .ok (.goto 10, 3) := dk_167 0 10 (dk_at dksX11_dry_4 13 rfl rfl)
theorem dX11_dry_111 : decode cX11_dry 111 = .ok (.aload_n 0, 1) := dk_42 (dk_at dksX11_dry_4 16 rfl rfl)
theorem dX11_dry_112 : decode cX11_dry 112 = .ok (.getfield 9, 3) := dk_180 0 9 (dk_at dksX11_dry_4 17 rfl rfl)
theorem dX11_dry_115 : decode cX11_dry 115 = .ok (.iconst 3, 1) := dk_6 (dk_at dksX11_dry_4 20 rfl rfl)
theorem dX11_dry_116 : decode cX11_dry 116 = .ok (.iaload, 1) := dk_46 (dk_at dksX11_dry_4 21 rfl rfl)
theorem dX11_dry_117 : decode cX11_dry 117 = .ok (.i2l, 1) := dk_133 (dk_at dksX11_dry_4 22 rfl rfl)
theorem dX11_dry_118 : decode cX11_dry 118 = .ok (.lmul, 1) := dk_105 (dk_at dksX11_dry_4 23 rfl rfl)
theorem dX11_dry_119 : decode cX11_dry 119 = .ok (.lstore 4, 2) := dk_55 4 (dk_at dksX11_dry_5 0 rfl rfl)
theorem dX11_dry_121 : decode cX11_dry 121 = .ok (.lload 6, 2) := dk_22 6 (dk_at dksX11_dry_5 2 rfl rfl)
theorem dX11_dry_123 : decode cX11_dry 123 = .ok (.ldc2_w 291, 3) := dk_20 1 35 (dk_at dksX11_dry_5 4 rfl rfl)
theorem dX11_dry_126 : decode cX11_dry 126 = .ok (.lmul, 1) := dk_105 (dk_at dksX11_dry_5 7 rfl rfl)
theorem dX11_dry_127 : decode cX11_dry 127 = .ok (.lstore 6, 2) := dk_55 6 (dk_at dksX11_dry_5 8 rfl rfl)
theorem dX11_dry_129 : decode cX11_dry 129 = .ok (.iinc 8 1, 3) := dk_132 8 1 (dk_at dksX11_dry_5 10 rfl rfl)
theorem dX11_dry_132 : decode cX11_dry 132 = .ok (.goto (-48), 3) := dk_167 255 208 (dk_at dksX11_dry_5 13 rfl rfl)
theorem dX11_dry_135 : decode cX11_dry 135 = .ok (.lload 4, 2) := dk_22 4 (dk_at dksX11_dry_5 16 rfl rfl)
theorem dX11_dry_137 : decode cX11_dry 137 = .ok (.lload 6, 2) := dk_22 6 (dk_at dksX11_dry_5 18 rfl rfl)
theorem dX11_dry_139 : decode cX11_dry 139 = .ok (.iload_n 3, 1) := dk_29 (dk_at dksX11_dry_5 20 rfl rfl)
theorem dX11_dry_140 : decode cX11_dry 140 = .ok (.invokestatic 301, 3) := dk_184 1 45 (dk_at dksX11_dry_5 21 rfl rfl)
theorem dX11_dry_143 : decode cX11_dry 143 = .ok (.lreturn, 1) := dk_173 (dk_at dksX11_dry_6 0 rfl rfl)
abbrev cX11_insist : ByteArray := prog_19_method_137_code
def yX11_insist : MethodName := ⟨RX11, "insist", "(I)I"⟩
def dkwX11_insist_2 : List UInt8 := [28, 17, 39, 16, 16, 100, 27, 100, 104, 163, 0, 5, 29, 172, 132, 3, 1, 167, 255, 221, 2, 172]
abbrev dktX11_insist_2 : List UInt8 := dkwX11_insist_2 ++ []
def dkwX11_insist_1 : List UInt8 := [19, 1, 24, 61, 4, 62, 29, 16, 60, 163, 0, 35, 28, 42, 180, 0, 9, 6, 46, 104, 16, 100, 108, 61]
abbrev dktX11_insist_1 : List UInt8 := dkwX11_insist_1 ++ dktX11_insist_2
def dkwX11_insist_0 : List UInt8 := [42, 182, 0, 74, 153, 0, 15, 27, 133, 9, 20, 1, 35, 184, 0, 70, 154, 0, 6, 16, 254, 172]
abbrev dktX11_insist_0 : List UInt8 := dkwX11_insist_0 ++ dktX11_insist_1
theorem dksX11_insist_0 : cX11_insist.data.toList.drop 0 = dktX11_insist_0 := by decide +kernel
theorem dksX11_insist_1 : cX11_insist.data.toList.drop 22 = dktX11_insist_1 := dk_seg dksX11_insist_0 22 rfl rfl
theorem dksX11_insist_2 : cX11_insist.data.toList.drop 46 = dktX11_insist_2 := dk_seg dksX11_insist_1 24 rfl rfl
theorem dX11_insist_0 : decode cX11_insist 0 = .ok (.aload_n 0, 1) := dk_42 (dk_at dksX11_insist_0 0 rfl rfl)
theorem dX11_insist_1 : decode cX11_insist 1 = .ok (.invokevirtual 74, 3) := dk_182 0 74 (dk_at dksX11_insist_0 1 rfl rfl)
theorem dX11_insist_4 : decode cX11_insist 4 = .ok (.ifCond .eq 15, 3) := dk_153 0 15 (dk_at dksX11_insist_0 4 rfl rfl)
theorem dX11_insist_7 : decode cX11_insist 7 = .ok (.iload_n 1, 1) := dk_27 (dk_at dksX11_insist_0 7 rfl rfl)
theorem dX11_insist_8 : decode cX11_insist 8 = .ok (.i2l, 1) := dk_133 (dk_at dksX11_insist_0 8 rfl rfl)
theorem dX11_insist_9 : decode cX11_insist 9 = .ok (.lconst 0, 1) := dk_9 (dk_at dksX11_insist_0 9 rfl rfl)
theorem dX11_insist_10 : decode cX11_insist 10 = .ok (.ldc2_w 291, 3) := dk_20 1 35 (dk_at dksX11_insist_0 10 rfl rfl)
theorem dX11_insist_13 : decode cX11_insist 13 = .ok (.invokestatic 70, 3) := dk_184 0 70 (dk_at dksX11_insist_0 13 rfl rfl)
theorem dX11_insist_16 : decode cX11_insist 16 = .ok (.ifCond .ne 6, 3) := dk_154 0 6 (dk_at dksX11_insist_0 16 rfl rfl)
theorem dX11_insist_19 : decode cX11_insist 19 = .ok (.bipush (-2), 2) := dk_16 254 (dk_at dksX11_insist_0 19 rfl rfl)
theorem dX11_insist_21 : decode cX11_insist 21 = .ok (.ireturn, 1) := dk_172 (dk_at dksX11_insist_0 21 rfl rfl)
theorem dX11_insist_22 : decode cX11_insist 22 = .ok (.ldc_w 280, 3) := dk_19 1 24 (dk_at dksX11_insist_1 0 rfl rfl)
theorem dX11_insist_25 : decode cX11_insist 25 = .ok (.istore_n 2, 1) := dk_61 (dk_at dksX11_insist_1 3 rfl rfl)
theorem dX11_insist_26 : decode cX11_insist 26 = .ok (.iconst 1, 1) := dk_4 (dk_at dksX11_insist_1 4 rfl rfl)
theorem dX11_insist_27 : decode cX11_insist 27 = .ok (.istore_n 3, 1) := dk_62 (dk_at dksX11_insist_1 5 rfl rfl)
theorem dX11_insist_28 : decode cX11_insist 28 = .ok (.iload_n 3, 1) := dk_29 (dk_at dksX11_insist_1 6 rfl rfl)
theorem dX11_insist_29 : decode cX11_insist 29 = .ok (.bipush 60, 2) := dk_16 60 (dk_at dksX11_insist_1 7 rfl rfl)
theorem dX11_insist_31 : decode cX11_insist 31 = .ok (.if_icmp .gt 35, 3) := dk_163 0 35 (dk_at dksX11_insist_1 9 rfl rfl)
theorem dX11_insist_34 : decode cX11_insist 34 = .ok (.iload_n 2, 1) := dk_28 (dk_at dksX11_insist_1 12 rfl rfl)
theorem dX11_insist_35 : decode cX11_insist 35 = .ok (.aload_n 0, 1) := dk_42 (dk_at dksX11_insist_1 13 rfl rfl)
theorem dX11_insist_36 : decode cX11_insist 36 = .ok (.getfield 9, 3) := dk_180 0 9 (dk_at dksX11_insist_1 14 rfl rfl)
theorem dX11_insist_39 : decode cX11_insist 39 = .ok (.iconst 3, 1) := dk_6 (dk_at dksX11_insist_1 17 rfl rfl)
theorem dX11_insist_40 : decode cX11_insist 40 = .ok (.iaload, 1) := dk_46 (dk_at dksX11_insist_1 18 rfl rfl)
theorem dX11_insist_41 : decode cX11_insist 41 = .ok (.imul, 1) := dk_104 (dk_at dksX11_insist_1 19 rfl rfl)
theorem dX11_insist_42 : decode cX11_insist 42 = .ok (.bipush 100, 2) := dk_16 100 (dk_at dksX11_insist_1 20 rfl rfl)
theorem dX11_insist_44 : decode cX11_insist 44 = .ok (.idiv, 1) := dk_108 (dk_at dksX11_insist_1 22 rfl rfl)
theorem dX11_insist_45 : decode cX11_insist 45 = .ok (.istore_n 2, 1) := dk_61 (dk_at dksX11_insist_1 23 rfl rfl)
theorem dX11_insist_46 : decode cX11_insist 46 = .ok (.iload_n 2, 1) := dk_28 (dk_at dksX11_insist_2 0 rfl rfl)
theorem dX11_insist_47 : decode cX11_insist 47 = .ok (.sipush 10000, 3) := dk_17 39 16 (dk_at dksX11_insist_2 1 rfl rfl)
theorem dX11_insist_50 : decode cX11_insist 50 = .ok (.bipush 100, 2) := dk_16 100 (dk_at dksX11_insist_2 4 rfl rfl)
theorem dX11_insist_52 : decode cX11_insist 52 = .ok (.iload_n 1, 1) := dk_27 (dk_at dksX11_insist_2 6 rfl rfl)
theorem dX11_insist_53 : decode cX11_insist 53 = .ok (.isub, 1) := dk_100 (dk_at dksX11_insist_2 7 rfl rfl)
theorem dX11_insist_54 : decode cX11_insist 54 = .ok (.imul, 1) := dk_104 (dk_at dksX11_insist_2 8 rfl rfl)
theorem dX11_insist_55 : decode cX11_insist 55 = .ok (.if_icmp .gt 5, 3) := dk_163 0 5 (dk_at dksX11_insist_2 9 rfl rfl)
theorem dX11_insist_58 : decode cX11_insist 58 = .ok (.iload_n 3, 1) := dk_29 (dk_at dksX11_insist_2 12 rfl rfl)
theorem dX11_insist_59 : decode cX11_insist 59 = .ok (.ireturn, 1) := dk_172 (dk_at dksX11_insist_2 13 rfl rfl)
theorem dX11_insist_60 : decode cX11_insist 60 = .ok (.iinc 3 1, 3) := dk_132 3 1 (dk_at dksX11_insist_2 14 rfl rfl)
theorem dX11_insist_63 : decode cX11_insist 63 = .ok (.goto (-35), 3) := dk_167 255 221 (dk_at dksX11_insist_2 17 rfl rfl)
theorem dX11_insist_66 : decode cX11_insist 66 = .ok (.iconst (-1), 1) := dk_2 (dk_at dksX11_insist_2 20 rfl rfl)
theorem dX11_insist_67 : decode cX11_insist 67 = .ok (.ireturn, 1) := dk_172 (dk_at dksX11_insist_2 21 rfl rfl)
abbrev cX11_tell : ByteArray := prog_19_method_140_code
def yX11_tell : MethodName := ⟨RX11, "tell", "(III)I"⟩
def dkwX11_tell_3 : List UInt8 := [167, 0, 13, 28, 4, 160, 0, 7, 6, 167, 0, 4, 8, 96, 29, 182, 1, 195, 172]
abbrev dktX11_tell_3 : List UInt8 := dkwX11_tell_3 ++ []
def dkwX11_tell_2 : List UInt8 := [184, 0, 70, 154, 0, 6, 16, 254, 172, 42, 16, 13, 16, 6, 27, 104, 96, 28, 154, 0, 7, 5]
abbrev dktX11_tell_2 : List UInt8 := dkwX11_tell_2 ++ dktX11_tell_3
def dkwX11_tell_1 : List UInt8 := [154, 0, 9, 20, 1, 143, 167, 0, 17, 28, 4, 160, 0, 9, 20, 1, 35, 167, 0, 6, 20, 1, 98]
abbrev dktX11_tell_1 : List UInt8 := dkwX11_tell_1 ++ dktX11_tell_2
def dkwX11_tell_0 : List UInt8 := [42, 27, 182, 0, 230, 153, 0, 48, 28, 133, 9, 20, 0, 68, 184, 0, 70, 153, 0, 36, 29, 133, 9, 28]
abbrev dktX11_tell_0 : List UInt8 := dkwX11_tell_0 ++ dktX11_tell_1
theorem dksX11_tell_0 : cX11_tell.data.toList.drop 0 = dktX11_tell_0 := by decide +kernel
theorem dksX11_tell_1 : cX11_tell.data.toList.drop 24 = dktX11_tell_1 := dk_seg dksX11_tell_0 24 rfl rfl
theorem dksX11_tell_2 : cX11_tell.data.toList.drop 47 = dktX11_tell_2 := dk_seg dksX11_tell_1 23 rfl rfl
theorem dksX11_tell_3 : cX11_tell.data.toList.drop 69 = dktX11_tell_3 := dk_seg dksX11_tell_2 22 rfl rfl
theorem dX11_tell_0 : decode cX11_tell 0 = .ok (.aload_n 0, 1) := dk_42 (dk_at dksX11_tell_0 0 rfl rfl)
theorem dX11_tell_1 : decode cX11_tell 1 = .ok (.iload_n 1, 1) := dk_27 (dk_at dksX11_tell_0 1 rfl rfl)
theorem dX11_tell_2 : decode cX11_tell 2 = .ok (.invokevirtual 230, 3) := dk_182 0 230 (dk_at dksX11_tell_0 2 rfl rfl)
theorem dX11_tell_5 : decode cX11_tell 5 = .ok (.ifCond .eq 48, 3) := dk_153 0 48 (dk_at dksX11_tell_0 5 rfl rfl)
theorem dX11_tell_8 : decode cX11_tell 8 = .ok (.iload_n 2, 1) := dk_28 (dk_at dksX11_tell_0 8 rfl rfl)
theorem dX11_tell_9 : decode cX11_tell 9 = .ok (.i2l, 1) := dk_133 (dk_at dksX11_tell_0 9 rfl rfl)
theorem dX11_tell_10 : decode cX11_tell 10 = .ok (.lconst 0, 1) := dk_9 (dk_at dksX11_tell_0 10 rfl rfl)
theorem dX11_tell_11 : decode cX11_tell 11 = .ok (.ldc2_w 68, 3) := dk_20 0 68 (dk_at dksX11_tell_0 11 rfl rfl)
theorem dX11_tell_14 : decode cX11_tell 14 = .ok (.invokestatic 70, 3) := dk_184 0 70 (dk_at dksX11_tell_0 14 rfl rfl)
theorem dX11_tell_17 : decode cX11_tell 17 = .ok (.ifCond .eq 36, 3) := dk_153 0 36 (dk_at dksX11_tell_0 17 rfl rfl)
theorem dX11_tell_20 : decode cX11_tell 20 = .ok (.iload_n 3, 1) := dk_29 (dk_at dksX11_tell_0 20 rfl rfl)
theorem dX11_tell_21 : decode cX11_tell 21 = .ok (.i2l, 1) := dk_133 (dk_at dksX11_tell_0 21 rfl rfl)
theorem dX11_tell_22 : decode cX11_tell 22 = .ok (.lconst 0, 1) := dk_9 (dk_at dksX11_tell_0 22 rfl rfl)
theorem dX11_tell_23 : decode cX11_tell 23 = .ok (.iload_n 2, 1) := dk_28 (dk_at dksX11_tell_0 23 rfl rfl)
theorem dX11_tell_24 : decode cX11_tell 24 = .ok (.ifCond .ne 9, 3) := dk_154 0 9 (dk_at dksX11_tell_1 0 rfl rfl)
theorem dX11_tell_27 : decode cX11_tell 27 = .ok (.ldc2_w 399, 3) := dk_20 1 143 (dk_at dksX11_tell_1 3 rfl rfl)
theorem dX11_tell_30 : decode cX11_tell 30 = .ok (.goto 17, 3) := dk_167 0 17 (dk_at dksX11_tell_1 6 rfl rfl)
theorem dX11_tell_33 : decode cX11_tell 33 = .ok (.iload_n 2, 1) := dk_28 (dk_at dksX11_tell_1 9 rfl rfl)
theorem dX11_tell_34 : decode cX11_tell 34 = .ok (.iconst 1, 1) := dk_4 (dk_at dksX11_tell_1 10 rfl rfl)
theorem dX11_tell_35 : decode cX11_tell 35 = .ok (.if_icmp .ne 9, 3) := dk_160 0 9 (dk_at dksX11_tell_1 11 rfl rfl)
theorem dX11_tell_38 : decode cX11_tell 38 = .ok (.ldc2_w 291, 3) := dk_20 1 35 (dk_at dksX11_tell_1 14 rfl rfl)
theorem dX11_tell_41 : decode cX11_tell 41 = .ok (.goto 6, 3) := dk_167 0 6 (dk_at dksX11_tell_1 17 rfl rfl)
theorem dX11_tell_44 : decode cX11_tell 44 = .ok (.ldc2_w 354, 3) := dk_20 1 98 (dk_at dksX11_tell_1 20 rfl rfl)
theorem dX11_tell_47 : decode cX11_tell 47 = .ok (.invokestatic 70, 3) := dk_184 0 70 (dk_at dksX11_tell_2 0 rfl rfl)
theorem dX11_tell_50 : decode cX11_tell 50 = .ok (.ifCond .ne 6, 3) := dk_154 0 6 (dk_at dksX11_tell_2 3 rfl rfl)
theorem dX11_tell_53 : decode cX11_tell 53 = .ok (.bipush (-2), 2) := dk_16 254 (dk_at dksX11_tell_2 6 rfl rfl)
theorem dX11_tell_55 : decode cX11_tell 55 = .ok (.ireturn, 1) := dk_172 (dk_at dksX11_tell_2 8 rfl rfl)
theorem dX11_tell_56 : decode cX11_tell 56 = .ok (.aload_n 0, 1) := dk_42 (dk_at dksX11_tell_2 9 rfl rfl)
theorem dX11_tell_57 : decode cX11_tell 57 = .ok (.bipush 13, 2) := dk_16 13 (dk_at dksX11_tell_2 10 rfl rfl)
theorem dX11_tell_59 : decode cX11_tell 59 = .ok (.bipush 6, 2) := dk_16 6 (dk_at dksX11_tell_2 12 rfl rfl)
theorem dX11_tell_61 : decode cX11_tell 61 = .ok (.iload_n 1, 1) := dk_27 (dk_at dksX11_tell_2 14 rfl rfl)
theorem dX11_tell_62 : decode cX11_tell 62 = .ok (.imul, 1) := dk_104 (dk_at dksX11_tell_2 15 rfl rfl)
theorem dX11_tell_63 : decode cX11_tell 63 = .ok (.iadd, 1) := dk_96 (dk_at dksX11_tell_2 16 rfl rfl)
theorem dX11_tell_64 : decode cX11_tell 64 = .ok (.iload_n 2, 1) := dk_28 (dk_at dksX11_tell_2 17 rfl rfl)
theorem dX11_tell_65 : decode cX11_tell 65 = .ok (.ifCond .ne 7, 3) := dk_154 0 7 (dk_at dksX11_tell_2 18 rfl rfl)
theorem dX11_tell_68 : decode cX11_tell 68 = .ok (.iconst 2, 1) := dk_5 (dk_at dksX11_tell_2 21 rfl rfl)
theorem dX11_tell_69 : decode cX11_tell 69 = .ok (.goto 13, 3) := dk_167 0 13 (dk_at dksX11_tell_3 0 rfl rfl)
theorem dX11_tell_72 : decode cX11_tell 72 = .ok (.iload_n 2, 1) := dk_28 (dk_at dksX11_tell_3 3 rfl rfl)
theorem dX11_tell_73 : decode cX11_tell 73 = .ok (.iconst 1, 1) := dk_4 (dk_at dksX11_tell_3 4 rfl rfl)
theorem dX11_tell_74 : decode cX11_tell 74 = .ok (.if_icmp .ne 7, 3) := dk_160 0 7 (dk_at dksX11_tell_3 5 rfl rfl)
theorem dX11_tell_77 : decode cX11_tell 77 = .ok (.iconst 3, 1) := dk_6 (dk_at dksX11_tell_3 8 rfl rfl)
theorem dX11_tell_78 : decode cX11_tell 78 = .ok (.goto 4, 3) := dk_167 0 4 (dk_at dksX11_tell_3 9 rfl rfl)
theorem dX11_tell_81 : decode cX11_tell 81 = .ok (.iconst 5, 1) := dk_8 (dk_at dksX11_tell_3 12 rfl rfl)
theorem dX11_tell_82 : decode cX11_tell 82 = .ok (.iadd, 1) := dk_96 (dk_at dksX11_tell_3 13 rfl rfl)
theorem dX11_tell_83 : decode cX11_tell 83 = .ok (.iload_n 3, 1) := dk_29 (dk_at dksX11_tell_3 14 rfl rfl)
theorem dX11_tell_84 : decode cX11_tell 84 = .ok (.invokevirtual 451, 3) := dk_182 1 195 (dk_at dksX11_tell_3 15 rfl rfl)
theorem dX11_tell_87 : decode cX11_tell 87 = .ok (.ireturn, 1) := dk_172 (dk_at dksX11_tell_3 18 rfl rfl)
abbrev cX11_changed : ByteArray := prog_19_method_139_code
def yX11_changed : MethodName := ⟨RX11, "changed", "(II)I"⟩
def dkwX11_changed_1 : List UInt8 := [28, 182, 1, 192, 29, 172]
abbrev dktX11_changed_1 : List UInt8 := dkwX11_changed_1 ++ []
def dkwX11_changed_0 : List UInt8 := [42, 180, 0, 9, 16, 10, 46, 16, 60, 160, 0, 6, 16, 251, 172, 42, 180, 0, 9, 27, 46, 62, 42, 27]
abbrev dktX11_changed_0 : List UInt8 := dkwX11_changed_0 ++ dktX11_changed_1
theorem dksX11_changed_0 : cX11_changed.data.toList.drop 0 = dktX11_changed_0 := by decide +kernel
theorem dksX11_changed_1 : cX11_changed.data.toList.drop 24 = dktX11_changed_1 := dk_seg dksX11_changed_0 24 rfl rfl
theorem dX11_changed_0 : decode cX11_changed 0 = .ok (.aload_n 0, 1) := dk_42 (dk_at dksX11_changed_0 0 rfl rfl)
theorem dX11_changed_1 : decode cX11_changed 1 = .ok (.getfield 9, 3) := dk_180 0 9 (dk_at dksX11_changed_0 1 rfl rfl)
theorem dX11_changed_4 : decode cX11_changed 4 = .ok (.bipush 10, 2) := dk_16 10 (dk_at dksX11_changed_0 4 rfl rfl)
theorem dX11_changed_6 : decode cX11_changed 6 = .ok (.iaload, 1) := dk_46 (dk_at dksX11_changed_0 6 rfl rfl)
theorem dX11_changed_7 : decode cX11_changed 7 = .ok (.bipush 60, 2) := dk_16 60 (dk_at dksX11_changed_0 7 rfl rfl)
theorem dX11_changed_9 : decode cX11_changed 9 = .ok (.if_icmp .ne 6, 3) := dk_160 0 6 (dk_at dksX11_changed_0 9 rfl rfl)
theorem dX11_changed_12 : decode cX11_changed 12 = .ok (.bipush (-5), 2) := dk_16 251 (dk_at dksX11_changed_0 12 rfl rfl)
theorem dX11_changed_14 : decode cX11_changed 14 = .ok (.ireturn, 1) := dk_172 (dk_at dksX11_changed_0 14 rfl rfl)
theorem dX11_changed_15 : decode cX11_changed 15 = .ok (.aload_n 0, 1) := dk_42 (dk_at dksX11_changed_0 15 rfl rfl)
theorem dX11_changed_16 : decode cX11_changed 16 = .ok (.getfield 9, 3) := dk_180 0 9 (dk_at dksX11_changed_0 16 rfl rfl)
theorem dX11_changed_19 : decode cX11_changed 19 = .ok (.iload_n 1, 1) := dk_27 (dk_at dksX11_changed_0 19 rfl rfl)
theorem dX11_changed_20 : decode cX11_changed 20 = .ok (.iaload, 1) := dk_46 (dk_at dksX11_changed_0 20 rfl rfl)
theorem dX11_changed_21 : decode cX11_changed 21 = .ok (.istore_n 3, 1) := dk_62 (dk_at dksX11_changed_0 21 rfl rfl)
theorem dX11_changed_22 : decode cX11_changed 22 = .ok (.aload_n 0, 1) := dk_42 (dk_at dksX11_changed_0 22 rfl rfl)
theorem dX11_changed_23 : decode cX11_changed 23 = .ok (.iload_n 1, 1) := dk_27 (dk_at dksX11_changed_0 23 rfl rfl)
theorem dX11_changed_24 : decode cX11_changed 24 = .ok (.iload_n 2, 1) := dk_28 (dk_at dksX11_changed_1 0 rfl rfl)
theorem dX11_changed_25 : decode cX11_changed 25 = .ok (.invokevirtual 448, 3) := dk_182 1 192 (dk_at dksX11_changed_1 1 rfl rfl)
theorem dX11_changed_28 : decode cX11_changed 28 = .ok (.iload_n 3, 1) := dk_29 (dk_at dksX11_changed_1 4 rfl rfl)
theorem dX11_changed_29 : decode cX11_changed 29 = .ok (.ireturn, 1) := dk_172 (dk_at dksX11_changed_1 5 rfl rfl)
abbrev cX11_change : ByteArray := prog_19_method_138_code
def yX11_change : MethodName := ⟨RX11, "change", "(II)V"⟩
def dkwX11_change_2 : List UInt8 := [46, 4, 96, 79, 177]
abbrev dktX11_change_2 : List UInt8 := dkwX11_change_2 ++ []
def dkwX11_change_1 : List UInt8 := [29, 4, 96, 42, 180, 0, 9, 27, 46, 79, 42, 180, 0, 9, 27, 28, 79, 42, 180, 0, 9, 16, 10, 92]
abbrev dktX11_change_1 : List UInt8 := dkwX11_change_1 ++ dktX11_change_2
def dkwX11_change_0 : List UInt8 := [16, 120, 5, 42, 180, 0, 9, 16, 10, 46, 104, 96, 62, 42, 180, 0, 9, 29, 27, 79, 42, 180, 0, 9]
abbrev dktX11_change_0 : List UInt8 := dkwX11_change_0 ++ dktX11_change_1
theorem dksX11_change_0 : cX11_change.data.toList.drop 0 = dktX11_change_0 := by decide +kernel
theorem dksX11_change_1 : cX11_change.data.toList.drop 24 = dktX11_change_1 := dk_seg dksX11_change_0 24 rfl rfl
theorem dksX11_change_2 : cX11_change.data.toList.drop 48 = dktX11_change_2 := dk_seg dksX11_change_1 24 rfl rfl
theorem dX11_change_0 : decode cX11_change 0 = .ok (.bipush 120, 2) := dk_16 120 (dk_at dksX11_change_0 0 rfl rfl)
theorem dX11_change_2 : decode cX11_change 2 = .ok (.iconst 2, 1) := dk_5 (dk_at dksX11_change_0 2 rfl rfl)
theorem dX11_change_3 : decode cX11_change 3 = .ok (.aload_n 0, 1) := dk_42 (dk_at dksX11_change_0 3 rfl rfl)
theorem dX11_change_4 : decode cX11_change 4 = .ok (.getfield 9, 3) := dk_180 0 9 (dk_at dksX11_change_0 4 rfl rfl)
theorem dX11_change_7 : decode cX11_change 7 = .ok (.bipush 10, 2) := dk_16 10 (dk_at dksX11_change_0 7 rfl rfl)
theorem dX11_change_9 : decode cX11_change 9 = .ok (.iaload, 1) := dk_46 (dk_at dksX11_change_0 9 rfl rfl)
theorem dX11_change_10 : decode cX11_change 10 = .ok (.imul, 1) := dk_104 (dk_at dksX11_change_0 10 rfl rfl)
theorem dX11_change_11 : decode cX11_change 11 = .ok (.iadd, 1) := dk_96 (dk_at dksX11_change_0 11 rfl rfl)
theorem dX11_change_12 : decode cX11_change 12 = .ok (.istore_n 3, 1) := dk_62 (dk_at dksX11_change_0 12 rfl rfl)
theorem dX11_change_13 : decode cX11_change 13 = .ok (.aload_n 0, 1) := dk_42 (dk_at dksX11_change_0 13 rfl rfl)
theorem dX11_change_14 : decode cX11_change 14 = .ok (.getfield 9, 3) := dk_180 0 9 (dk_at dksX11_change_0 14 rfl rfl)
theorem dX11_change_17 : decode cX11_change 17 = .ok (.iload_n 3, 1) := dk_29 (dk_at dksX11_change_0 17 rfl rfl)
theorem dX11_change_18 : decode cX11_change 18 = .ok (.iload_n 1, 1) := dk_27 (dk_at dksX11_change_0 18 rfl rfl)
theorem dX11_change_19 : decode cX11_change 19 = .ok (.iastore, 1) := dk_79 (dk_at dksX11_change_0 19 rfl rfl)
theorem dX11_change_20 : decode cX11_change 20 = .ok (.aload_n 0, 1) := dk_42 (dk_at dksX11_change_0 20 rfl rfl)
theorem dX11_change_21 : decode cX11_change 21 = .ok (.getfield 9, 3) := dk_180 0 9 (dk_at dksX11_change_0 21 rfl rfl)
theorem dX11_change_24 : decode cX11_change 24 = .ok (.iload_n 3, 1) := dk_29 (dk_at dksX11_change_1 0 rfl rfl)
theorem dX11_change_25 : decode cX11_change 25 = .ok (.iconst 1, 1) := dk_4 (dk_at dksX11_change_1 1 rfl rfl)
theorem dX11_change_26 : decode cX11_change 26 = .ok (.iadd, 1) := dk_96 (dk_at dksX11_change_1 2 rfl rfl)
theorem dX11_change_27 : decode cX11_change 27 = .ok (.aload_n 0, 1) := dk_42 (dk_at dksX11_change_1 3 rfl rfl)
theorem dX11_change_28 : decode cX11_change 28 = .ok (.getfield 9, 3) := dk_180 0 9 (dk_at dksX11_change_1 4 rfl rfl)
theorem dX11_change_31 : decode cX11_change 31 = .ok (.iload_n 1, 1) := dk_27 (dk_at dksX11_change_1 7 rfl rfl)
theorem dX11_change_32 : decode cX11_change 32 = .ok (.iaload, 1) := dk_46 (dk_at dksX11_change_1 8 rfl rfl)
theorem dX11_change_33 : decode cX11_change 33 = .ok (.iastore, 1) := dk_79 (dk_at dksX11_change_1 9 rfl rfl)
theorem dX11_change_34 : decode cX11_change 34 = .ok (.aload_n 0, 1) := dk_42 (dk_at dksX11_change_1 10 rfl rfl)
theorem dX11_change_35 : decode cX11_change 35 = .ok (.getfield 9, 3) := dk_180 0 9 (dk_at dksX11_change_1 11 rfl rfl)
theorem dX11_change_38 : decode cX11_change 38 = .ok (.iload_n 1, 1) := dk_27 (dk_at dksX11_change_1 14 rfl rfl)
theorem dX11_change_39 : decode cX11_change 39 = .ok (.iload_n 2, 1) := dk_28 (dk_at dksX11_change_1 15 rfl rfl)
theorem dX11_change_40 : decode cX11_change 40 = .ok (.iastore, 1) := dk_79 (dk_at dksX11_change_1 16 rfl rfl)
theorem dX11_change_41 : decode cX11_change 41 = .ok (.aload_n 0, 1) := dk_42 (dk_at dksX11_change_1 17 rfl rfl)
theorem dX11_change_42 : decode cX11_change 42 = .ok (.getfield 9, 3) := dk_180 0 9 (dk_at dksX11_change_1 18 rfl rfl)
theorem dX11_change_45 : decode cX11_change 45 = .ok (.bipush 10, 2) := dk_16 10 (dk_at dksX11_change_1 21 rfl rfl)
theorem dX11_change_47 : decode cX11_change 47 = .ok (.dup2, 1) := dk_92 (dk_at dksX11_change_1 23 rfl rfl)
theorem dX11_change_48 : decode cX11_change 48 = .ok (.iaload, 1) := dk_46 (dk_at dksX11_change_2 0 rfl rfl)
theorem dX11_change_49 : decode cX11_change 49 = .ok (.iconst 1, 1) := dk_4 (dk_at dksX11_change_2 1 rfl rfl)
theorem dX11_change_50 : decode cX11_change 50 = .ok (.iadd, 1) := dk_96 (dk_at dksX11_change_2 2 rfl rfl)
theorem dX11_change_51 : decode cX11_change 51 = .ok (.iastore, 1) := dk_79 (dk_at dksX11_change_2 3 rfl rfl)
theorem dX11_change_52 : decode cX11_change 52 = .ok (.return_, 1) := dk_177 (dk_at dksX11_change_2 4 rfl rfl)
abbrev cX11_needs_2 : ByteArray := prog_19_method_141_code
def yX11_needs_2 : MethodName := ⟨RX11, "needs", "(II)I"⟩
def dkwX11_needs_2_1 : List UInt8 := [96, 28, 182, 1, 195, 167, 0, 5, 16, 254, 172]
abbrev dktX11_needs_2_1 : List UInt8 := dkwX11_needs_2_1 ++ []
def dkwX11_needs_2_0 : List UInt8 := [42, 27, 182, 0, 236, 153, 0, 27, 28, 133, 9, 20, 1, 98, 184, 0, 70, 153, 0, 15, 42, 16, 11, 27]
abbrev dktX11_needs_2_0 : List UInt8 := dkwX11_needs_2_0 ++ dktX11_needs_2_1
theorem dksX11_needs_2_0 : cX11_needs_2.data.toList.drop 0 = dktX11_needs_2_0 := by decide +kernel
theorem dksX11_needs_2_1 : cX11_needs_2.data.toList.drop 24 = dktX11_needs_2_1 := dk_seg dksX11_needs_2_0 24 rfl rfl
theorem dX11_needs_2_0 : decode cX11_needs_2 0 = .ok (.aload_n 0, 1) := dk_42 (dk_at dksX11_needs_2_0 0 rfl rfl)
theorem dX11_needs_2_1 : decode cX11_needs_2 1 = .ok (.iload_n 1, 1) := dk_27 (dk_at dksX11_needs_2_0 1 rfl rfl)
theorem dX11_needs_2_2 : decode cX11_needs_2 2 = .ok (.invokevirtual 236, 3) := dk_182 0 236 (dk_at dksX11_needs_2_0 2 rfl rfl)
theorem dX11_needs_2_5 : decode cX11_needs_2 5 = .ok (.ifCond .eq 27, 3) := dk_153 0 27 (dk_at dksX11_needs_2_0 5 rfl rfl)
theorem dX11_needs_2_8 : decode cX11_needs_2 8 = .ok (.iload_n 2, 1) := dk_28 (dk_at dksX11_needs_2_0 8 rfl rfl)
theorem dX11_needs_2_9 : decode cX11_needs_2 9 = .ok (.i2l, 1) := dk_133 (dk_at dksX11_needs_2_0 9 rfl rfl)
theorem dX11_needs_2_10 : decode cX11_needs_2 10 = .ok (.lconst 0, 1) := dk_9 (dk_at dksX11_needs_2_0 10 rfl rfl)
theorem dX11_needs_2_11 : decode cX11_needs_2 11 = .ok (.ldc2_w 354, 3) := dk_20 1 98 (dk_at dksX11_needs_2_0 11 rfl rfl)
theorem dX11_needs_2_14 : decode cX11_needs_2 14 = .ok (.invokestatic 70, 3) := dk_184 0 70 (dk_at dksX11_needs_2_0 14 rfl rfl)
theorem dX11_needs_2_17 : decode cX11_needs_2 17 = .ok (.ifCond .eq 15, 3) := dk_153 0 15 (dk_at dksX11_needs_2_0 17 rfl rfl)
theorem dX11_needs_2_20 : decode cX11_needs_2 20 = .ok (.aload_n 0, 1) := dk_42 (dk_at dksX11_needs_2_0 20 rfl rfl)
theorem dX11_needs_2_21 : decode cX11_needs_2 21 = .ok (.bipush 11, 2) := dk_16 11 (dk_at dksX11_needs_2_0 21 rfl rfl)
theorem dX11_needs_2_23 : decode cX11_needs_2 23 = .ok (.iload_n 1, 1) := dk_27 (dk_at dksX11_needs_2_0 23 rfl rfl)
theorem dX11_needs_2_24 : decode cX11_needs_2 24 = .ok (.iadd, 1) := dk_96 (dk_at dksX11_needs_2_1 0 rfl rfl)
theorem dX11_needs_2_25 : decode cX11_needs_2 25 = .ok (.iload_n 2, 1) := dk_28 (dk_at dksX11_needs_2_1 1 rfl rfl)
theorem dX11_needs_2_26 : decode cX11_needs_2 26 = .ok (.invokevirtual 451, 3) := dk_182 1 195 (dk_at dksX11_needs_2_1 2 rfl rfl)
theorem dX11_needs_2_29 : decode cX11_needs_2 29 = .ok (.goto 5, 3) := dk_167 0 5 (dk_at dksX11_needs_2_1 5 rfl rfl)
theorem dX11_needs_2_32 : decode cX11_needs_2 32 = .ok (.bipush (-2), 2) := dk_16 254 (dk_at dksX11_needs_2_1 8 rfl rfl)
theorem dX11_needs_2_34 : decode cX11_needs_2 34 = .ok (.ireturn, 1) := dk_172 (dk_at dksX11_needs_2_1 10 rfl rfl)
abbrev cX11_undo : ByteArray := prog_19_method_142_code
def yX11_undo : MethodName := ⟨RX11, "undo", "()I"⟩
def dkwX11_undo_3 : List UInt8 := [46, 172]
abbrev dktX11_undo_3 : List UInt8 := dkwX11_undo_3 ++ []
def dkwX11_undo_2 : List UInt8 := [180, 0, 9, 42, 180, 0, 9, 27, 46, 42, 180, 0, 9, 27, 4, 96, 46, 79, 42, 180, 0, 9, 16, 10]
abbrev dktX11_undo_2 : List UInt8 := dkwX11_undo_2 ++ dktX11_undo_3
def dkwX11_undo_1 : List UInt8 := [180, 0, 9, 16, 10, 92, 46, 4, 100, 79, 16, 120, 5, 42, 180, 0, 9, 16, 10, 46, 104, 96, 60, 42]
abbrev dktX11_undo_1 : List UInt8 := dkwX11_undo_1 ++ dktX11_undo_2
def dkwX11_undo_0 : List UInt8 := [42, 182, 0, 74, 154, 0, 6, 16, 254, 172, 42, 180, 0, 9, 16, 10, 46, 154, 0, 6, 16, 251, 172, 42]
abbrev dktX11_undo_0 : List UInt8 := dkwX11_undo_0 ++ dktX11_undo_1
theorem dksX11_undo_0 : cX11_undo.data.toList.drop 0 = dktX11_undo_0 := by decide +kernel
theorem dksX11_undo_1 : cX11_undo.data.toList.drop 24 = dktX11_undo_1 := dk_seg dksX11_undo_0 24 rfl rfl
theorem dksX11_undo_2 : cX11_undo.data.toList.drop 48 = dktX11_undo_2 := dk_seg dksX11_undo_1 24 rfl rfl
theorem dksX11_undo_3 : cX11_undo.data.toList.drop 72 = dktX11_undo_3 := dk_seg dksX11_undo_2 24 rfl rfl
theorem dX11_undo_0 : decode cX11_undo 0 = .ok (.aload_n 0, 1) := dk_42 (dk_at dksX11_undo_0 0 rfl rfl)
theorem dX11_undo_1 : decode cX11_undo 1 = .ok (.invokevirtual 74, 3) := dk_182 0 74 (dk_at dksX11_undo_0 1 rfl rfl)
theorem dX11_undo_4 : decode cX11_undo 4 = .ok (.ifCond .ne 6, 3) := dk_154 0 6 (dk_at dksX11_undo_0 4 rfl rfl)
theorem dX11_undo_7 : decode cX11_undo 7 = .ok (.bipush (-2), 2) := dk_16 254 (dk_at dksX11_undo_0 7 rfl rfl)
theorem dX11_undo_9 : decode cX11_undo 9 = .ok (.ireturn, 1) := dk_172 (dk_at dksX11_undo_0 9 rfl rfl)
theorem dX11_undo_10 : decode cX11_undo 10 = .ok (.aload_n 0, 1) := dk_42 (dk_at dksX11_undo_0 10 rfl rfl)
theorem dX11_undo_11 : decode cX11_undo 11 = .ok (.getfield 9, 3) := dk_180 0 9 (dk_at dksX11_undo_0 11 rfl rfl)
theorem dX11_undo_14 : decode cX11_undo 14 = .ok (.bipush 10, 2) := dk_16 10 (dk_at dksX11_undo_0 14 rfl rfl)
theorem dX11_undo_16 : decode cX11_undo 16 = .ok (.iaload, 1) := dk_46 (dk_at dksX11_undo_0 16 rfl rfl)
theorem dX11_undo_17 : decode cX11_undo 17 = .ok (.ifCond .ne 6, 3) := dk_154 0 6 (dk_at dksX11_undo_0 17 rfl rfl)
theorem dX11_undo_20 : decode cX11_undo 20 = .ok (.bipush (-5), 2) := dk_16 251 (dk_at dksX11_undo_0 20 rfl rfl)
theorem dX11_undo_22 : decode cX11_undo 22 = .ok (.ireturn, 1) := dk_172 (dk_at dksX11_undo_0 22 rfl rfl)
theorem dX11_undo_23 : decode cX11_undo 23 = .ok (.aload_n 0, 1) := dk_42 (dk_at dksX11_undo_0 23 rfl rfl)
theorem dX11_undo_24 : decode cX11_undo 24 = .ok (.getfield 9, 3) := dk_180 0 9 (dk_at dksX11_undo_1 0 rfl rfl)
theorem dX11_undo_27 : decode cX11_undo 27 = .ok (.bipush 10, 2) := dk_16 10 (dk_at dksX11_undo_1 3 rfl rfl)
theorem dX11_undo_29 : decode cX11_undo 29 = .ok (.dup2, 1) := dk_92 (dk_at dksX11_undo_1 5 rfl rfl)
theorem dX11_undo_30 : decode cX11_undo 30 = .ok (.iaload, 1) := dk_46 (dk_at dksX11_undo_1 6 rfl rfl)
theorem dX11_undo_31 : decode cX11_undo 31 = .ok (.iconst 1, 1) := dk_4 (dk_at dksX11_undo_1 7 rfl rfl)
theorem dX11_undo_32 : decode cX11_undo 32 = .ok (.isub, 1) := dk_100 (dk_at dksX11_undo_1 8 rfl rfl)
theorem dX11_undo_33 : decode cX11_undo 33 = .ok (.iastore, 1) := dk_79 (dk_at dksX11_undo_1 9 rfl rfl)
theorem dX11_undo_34 : decode cX11_undo 34 = .ok (.bipush 120, 2) := dk_16 120 (dk_at dksX11_undo_1 10 rfl rfl)
theorem dX11_undo_36 : decode cX11_undo 36 = .ok (.iconst 2, 1) := dk_5 (dk_at dksX11_undo_1 12 rfl rfl)
theorem dX11_undo_37 : decode cX11_undo 37 = .ok (.aload_n 0, 1) := dk_42 (dk_at dksX11_undo_1 13 rfl rfl)
theorem dX11_undo_38 : decode cX11_undo 38 = .ok (.getfield 9, 3) := dk_180 0 9 (dk_at dksX11_undo_1 14 rfl rfl)
theorem dX11_undo_41 : decode cX11_undo 41 = .ok (.bipush 10, 2) := dk_16 10 (dk_at dksX11_undo_1 17 rfl rfl)
theorem dX11_undo_43 : decode cX11_undo 43 = .ok (.iaload, 1) := dk_46 (dk_at dksX11_undo_1 19 rfl rfl)
theorem dX11_undo_44 : decode cX11_undo 44 = .ok (.imul, 1) := dk_104 (dk_at dksX11_undo_1 20 rfl rfl)
theorem dX11_undo_45 : decode cX11_undo 45 = .ok (.iadd, 1) := dk_96 (dk_at dksX11_undo_1 21 rfl rfl)
theorem dX11_undo_46 : decode cX11_undo 46 = .ok (.istore_n 1, 1) := dk_60 (dk_at dksX11_undo_1 22 rfl rfl)
theorem dX11_undo_47 : decode cX11_undo 47 = .ok (.aload_n 0, 1) := dk_42 (dk_at dksX11_undo_1 23 rfl rfl)
theorem dX11_undo_48 : decode cX11_undo 48 = .ok (.getfield 9, 3) := dk_180 0 9 (dk_at dksX11_undo_2 0 rfl rfl)
theorem dX11_undo_51 : decode cX11_undo 51 = .ok (.aload_n 0, 1) := dk_42 (dk_at dksX11_undo_2 3 rfl rfl)
theorem dX11_undo_52 : decode cX11_undo 52 = .ok (.getfield 9, 3) := dk_180 0 9 (dk_at dksX11_undo_2 4 rfl rfl)
theorem dX11_undo_55 : decode cX11_undo 55 = .ok (.iload_n 1, 1) := dk_27 (dk_at dksX11_undo_2 7 rfl rfl)
theorem dX11_undo_56 : decode cX11_undo 56 = .ok (.iaload, 1) := dk_46 (dk_at dksX11_undo_2 8 rfl rfl)
theorem dX11_undo_57 : decode cX11_undo 57 = .ok (.aload_n 0, 1) := dk_42 (dk_at dksX11_undo_2 9 rfl rfl)
theorem dX11_undo_58 : decode cX11_undo 58 = .ok (.getfield 9, 3) := dk_180 0 9 (dk_at dksX11_undo_2 10 rfl rfl)
theorem dX11_undo_61 : decode cX11_undo 61 = .ok (.iload_n 1, 1) := dk_27 (dk_at dksX11_undo_2 13 rfl rfl)
theorem dX11_undo_62 : decode cX11_undo 62 = .ok (.iconst 1, 1) := dk_4 (dk_at dksX11_undo_2 14 rfl rfl)
theorem dX11_undo_63 : decode cX11_undo 63 = .ok (.iadd, 1) := dk_96 (dk_at dksX11_undo_2 15 rfl rfl)
theorem dX11_undo_64 : decode cX11_undo 64 = .ok (.iaload, 1) := dk_46 (dk_at dksX11_undo_2 16 rfl rfl)
theorem dX11_undo_65 : decode cX11_undo 65 = .ok (.iastore, 1) := dk_79 (dk_at dksX11_undo_2 17 rfl rfl)
theorem dX11_undo_66 : decode cX11_undo 66 = .ok (.aload_n 0, 1) := dk_42 (dk_at dksX11_undo_2 18 rfl rfl)
theorem dX11_undo_67 : decode cX11_undo 67 = .ok (.getfield 9, 3) := dk_180 0 9 (dk_at dksX11_undo_2 19 rfl rfl)
theorem dX11_undo_70 : decode cX11_undo 70 = .ok (.bipush 10, 2) := dk_16 10 (dk_at dksX11_undo_2 22 rfl rfl)
theorem dX11_undo_72 : decode cX11_undo 72 = .ok (.iaload, 1) := dk_46 (dk_at dksX11_undo_3 0 rfl rfl)
theorem dX11_undo_73 : decode cX11_undo 73 = .ok (.ireturn, 1) := dk_172 (dk_at dksX11_undo_3 1 rfl rfl)
abbrev cX11_drawn : ByteArray := prog_19_method_145_code
def yX11_drawn : MethodName := ⟨RX11, "drawn", "(II)I"⟩
def dkwX11_drawn_2 : List UInt8 := [167, 0, 4, 3, 172, 28, 4, 160, 0, 11, 42, 29, 182, 1, 13, 167, 0, 8, 42, 29, 182, 1, 2, 172]
abbrev dktX11_drawn_2 : List UInt8 := dkwX11_drawn_2 ++ []
def dkwX11_drawn_1 : List UInt8 := [27, 133, 182, 1, 211, 62, 28, 154, 0, 5, 29, 172, 29, 2, 160, 0, 14, 28, 4, 160, 0, 7, 2]
abbrev dktX11_drawn_1 : List UInt8 := dkwX11_drawn_1 ++ dktX11_drawn_2
def dkwX11_drawn_0 : List UInt8 := [42, 27, 182, 1, 208, 153, 0, 15, 28, 133, 9, 20, 0, 68, 184, 0, 70, 154, 0, 6, 16, 254, 172, 42]
abbrev dktX11_drawn_0 : List UInt8 := dkwX11_drawn_0 ++ dktX11_drawn_1
theorem dksX11_drawn_0 : cX11_drawn.data.toList.drop 0 = dktX11_drawn_0 := by decide +kernel
theorem dksX11_drawn_1 : cX11_drawn.data.toList.drop 24 = dktX11_drawn_1 := dk_seg dksX11_drawn_0 24 rfl rfl
theorem dksX11_drawn_2 : cX11_drawn.data.toList.drop 47 = dktX11_drawn_2 := dk_seg dksX11_drawn_1 23 rfl rfl
theorem dX11_drawn_0 : decode cX11_drawn 0 = .ok (.aload_n 0, 1) := dk_42 (dk_at dksX11_drawn_0 0 rfl rfl)
theorem dX11_drawn_1 : decode cX11_drawn 1 = .ok (.iload_n 1, 1) := dk_27 (dk_at dksX11_drawn_0 1 rfl rfl)
theorem dX11_drawn_2 : decode cX11_drawn 2 = .ok (.invokevirtual 464, 3) := dk_182 1 208 (dk_at dksX11_drawn_0 2 rfl rfl)
theorem dX11_drawn_5 : decode cX11_drawn 5 = .ok (.ifCond .eq 15, 3) := dk_153 0 15 (dk_at dksX11_drawn_0 5 rfl rfl)
theorem dX11_drawn_8 : decode cX11_drawn 8 = .ok (.iload_n 2, 1) := dk_28 (dk_at dksX11_drawn_0 8 rfl rfl)
theorem dX11_drawn_9 : decode cX11_drawn 9 = .ok (.i2l, 1) := dk_133 (dk_at dksX11_drawn_0 9 rfl rfl)
theorem dX11_drawn_10 : decode cX11_drawn 10 = .ok (.lconst 0, 1) := dk_9 (dk_at dksX11_drawn_0 10 rfl rfl)
theorem dX11_drawn_11 : decode cX11_drawn 11 = .ok (.ldc2_w 68, 3) := dk_20 0 68 (dk_at dksX11_drawn_0 11 rfl rfl)
theorem dX11_drawn_14 : decode cX11_drawn 14 = .ok (.invokestatic 70, 3) := dk_184 0 70 (dk_at dksX11_drawn_0 14 rfl rfl)
theorem dX11_drawn_17 : decode cX11_drawn 17 = .ok (.ifCond .ne 6, 3) := dk_154 0 6 (dk_at dksX11_drawn_0 17 rfl rfl)
theorem dX11_drawn_20 : decode cX11_drawn 20 = .ok (.bipush (-2), 2) := dk_16 254 (dk_at dksX11_drawn_0 20 rfl rfl)
theorem dX11_drawn_22 : decode cX11_drawn 22 = .ok (.ireturn, 1) := dk_172 (dk_at dksX11_drawn_0 22 rfl rfl)
theorem dX11_drawn_23 : decode cX11_drawn 23 = .ok (.aload_n 0, 1) := dk_42 (dk_at dksX11_drawn_0 23 rfl rfl)
theorem dX11_drawn_24 : decode cX11_drawn 24 = .ok (.iload_n 1, 1) := dk_27 (dk_at dksX11_drawn_1 0 rfl rfl)
theorem dX11_drawn_25 : decode cX11_drawn 25 = .ok (.i2l, 1) := dk_133 (dk_at dksX11_drawn_1 1 rfl rfl)
theorem dX11_drawn_26 : decode cX11_drawn 26 = .ok (.invokevirtual 467, 3) := dk_182 1 211 (dk_at dksX11_drawn_1 2 rfl rfl)
theorem dX11_drawn_29 : decode cX11_drawn 29 = .ok (.istore_n 3, 1) := dk_62 (dk_at dksX11_drawn_1 5 rfl rfl)
theorem dX11_drawn_30 : decode cX11_drawn 30 = .ok (.iload_n 2, 1) := dk_28 (dk_at dksX11_drawn_1 6 rfl rfl)
theorem dX11_drawn_31 : decode cX11_drawn 31 = .ok (.ifCond .ne 5, 3) := dk_154 0 5 (dk_at dksX11_drawn_1 7 rfl rfl)
theorem dX11_drawn_34 : decode cX11_drawn 34 = .ok (.iload_n 3, 1) := dk_29 (dk_at dksX11_drawn_1 10 rfl rfl)
theorem dX11_drawn_35 : decode cX11_drawn 35 = .ok (.ireturn, 1) := dk_172 (dk_at dksX11_drawn_1 11 rfl rfl)
theorem dX11_drawn_36 : decode cX11_drawn 36 = .ok (.iload_n 3, 1) := dk_29 (dk_at dksX11_drawn_1 12 rfl rfl)
theorem dX11_drawn_37 : decode cX11_drawn 37 = .ok (.iconst (-1), 1) := dk_2 (dk_at dksX11_drawn_1 13 rfl rfl)
theorem dX11_drawn_38 : decode cX11_drawn 38 = .ok (.if_icmp .ne 14, 3) := dk_160 0 14 (dk_at dksX11_drawn_1 14 rfl rfl)
theorem dX11_drawn_41 : decode cX11_drawn 41 = .ok (.iload_n 2, 1) := dk_28 (dk_at dksX11_drawn_1 17 rfl rfl)
theorem dX11_drawn_42 : decode cX11_drawn 42 = .ok (.iconst 1, 1) := dk_4 (dk_at dksX11_drawn_1 18 rfl rfl)
theorem dX11_drawn_43 : decode cX11_drawn 43 = .ok (.if_icmp .ne 7, 3) := dk_160 0 7 (dk_at dksX11_drawn_1 19 rfl rfl)
theorem dX11_drawn_46 : decode cX11_drawn 46 = .ok (.iconst (-1), 1) := dk_2 (dk_at dksX11_drawn_1 22 rfl rfl)
theorem dX11_drawn_47 : decode cX11_drawn 47 = .ok (.goto 4, 3) := dk_167 0 4 (dk_at dksX11_drawn_2 0 rfl rfl)
theorem dX11_drawn_50 : decode cX11_drawn 50 = .ok (.iconst 0, 1) := dk_3 (dk_at dksX11_drawn_2 3 rfl rfl)
theorem dX11_drawn_51 : decode cX11_drawn 51 = .ok (.ireturn, 1) := dk_172 (dk_at dksX11_drawn_2 4 rfl rfl)
theorem dX11_drawn_52 : decode cX11_drawn 52 = .ok (.iload_n 2, 1) := dk_28 (dk_at dksX11_drawn_2 5 rfl rfl)
theorem dX11_drawn_53 : decode cX11_drawn 53 = .ok (.iconst 1, 1) := dk_4 (dk_at dksX11_drawn_2 6 rfl rfl)
theorem dX11_drawn_54 : decode cX11_drawn 54 = .ok (.if_icmp .ne 11, 3) := dk_160 0 11 (dk_at dksX11_drawn_2 7 rfl rfl)
theorem dX11_drawn_57 : decode cX11_drawn 57 = .ok (.aload_n 0, 1) := dk_42 (dk_at dksX11_drawn_2 10 rfl rfl)
theorem dX11_drawn_58 : decode cX11_drawn 58 = .ok (.iload_n 3, 1) := dk_29 (dk_at dksX11_drawn_2 11 rfl rfl)
theorem dX11_drawn_59 : decode cX11_drawn 59 = .ok (.invokevirtual 269, 3) := dk_182 1 13 (dk_at dksX11_drawn_2 12 rfl rfl)
theorem dX11_drawn_62 : decode cX11_drawn 62 = .ok (.goto 8, 3) := dk_167 0 8 (dk_at dksX11_drawn_2 15 rfl rfl)
theorem dX11_drawn_65 : decode cX11_drawn 65 = .ok (.aload_n 0, 1) := dk_42 (dk_at dksX11_drawn_2 18 rfl rfl)
theorem dX11_drawn_66 : decode cX11_drawn 66 = .ok (.iload_n 3, 1) := dk_29 (dk_at dksX11_drawn_2 19 rfl rfl)
theorem dX11_drawn_67 : decode cX11_drawn 67 = .ok (.invokevirtual 258, 3) := dk_182 1 2 (dk_at dksX11_drawn_2 20 rfl rfl)
theorem dX11_drawn_70 : decode cX11_drawn 70 = .ok (.ireturn, 1) := dk_172 (dk_at dksX11_drawn_2 23 rfl rfl)
abbrev cX11_isSeed : ByteArray := prog_19_method_144_code
def yX11_isSeed : MethodName := ⟨RX11, "isSeed", "(I)Z"⟩
def dkwX11_isSeed_1 : List UInt8 := [172]
abbrev dktX11_isSeed_1 : List UInt8 := dkwX11_isSeed_1 ++ []
def dkwX11_isSeed_0 : List UInt8 := [42, 182, 0, 74, 153, 0, 19, 27, 133, 9, 20, 1, 206, 184, 0, 70, 153, 0, 7, 4, 167, 0, 4, 3]
abbrev dktX11_isSeed_0 : List UInt8 := dkwX11_isSeed_0 ++ dktX11_isSeed_1
theorem dksX11_isSeed_0 : cX11_isSeed.data.toList.drop 0 = dktX11_isSeed_0 := by decide +kernel
theorem dksX11_isSeed_1 : cX11_isSeed.data.toList.drop 24 = dktX11_isSeed_1 := dk_seg dksX11_isSeed_0 24 rfl rfl
theorem dX11_isSeed_0 : decode cX11_isSeed 0 = .ok (.aload_n 0, 1) := dk_42 (dk_at dksX11_isSeed_0 0 rfl rfl)
theorem dX11_isSeed_1 : decode cX11_isSeed 1 = .ok (.invokevirtual 74, 3) := dk_182 0 74 (dk_at dksX11_isSeed_0 1 rfl rfl)
theorem dX11_isSeed_4 : decode cX11_isSeed 4 = .ok (.ifCond .eq 19, 3) := dk_153 0 19 (dk_at dksX11_isSeed_0 4 rfl rfl)
theorem dX11_isSeed_7 : decode cX11_isSeed 7 = .ok (.iload_n 1, 1) := dk_27 (dk_at dksX11_isSeed_0 7 rfl rfl)
theorem dX11_isSeed_8 : decode cX11_isSeed 8 = .ok (.i2l, 1) := dk_133 (dk_at dksX11_isSeed_0 8 rfl rfl)
theorem dX11_isSeed_9 : decode cX11_isSeed 9 = .ok (.lconst 0, 1) := dk_9 (dk_at dksX11_isSeed_0 9 rfl rfl)
theorem dX11_isSeed_10 : decode cX11_isSeed 10 = .ok (.ldc2_w 462, 3) := dk_20 1 206 (dk_at dksX11_isSeed_0 10 rfl rfl)
theorem dX11_isSeed_13 : decode cX11_isSeed 13 = .ok (.invokestatic 70, 3) := dk_184 0 70 (dk_at dksX11_isSeed_0 13 rfl rfl)
theorem dX11_isSeed_16 : decode cX11_isSeed 16 = .ok (.ifCond .eq 7, 3) := dk_153 0 7 (dk_at dksX11_isSeed_0 16 rfl rfl)
theorem dX11_isSeed_19 : decode cX11_isSeed 19 = .ok (.iconst 1, 1) := dk_4 (dk_at dksX11_isSeed_0 19 rfl rfl)
theorem dX11_isSeed_20 : decode cX11_isSeed 20 = .ok (.goto 4, 3) := dk_167 0 4 (dk_at dksX11_isSeed_0 20 rfl rfl)
theorem dX11_isSeed_23 : decode cX11_isSeed 23 = .ok (.iconst 0, 1) := dk_3 (dk_at dksX11_isSeed_0 23 rfl rfl)
theorem dX11_isSeed_24 : decode cX11_isSeed 24 = .ok (.ireturn, 1) := dk_172 (dk_at dksX11_isSeed_1 0 rfl rfl)
abbrev cX11_drawnDelays : ByteArray := prog_19_method_143_code
def yX11_drawnDelays : MethodName := ⟨RX11, "drawnDelays", "(J)I"⟩
def dkwX11_drawnDelays_4 : List UInt8 := [167, 0, 4, 3, 128, 54, 5, 132, 6, 1, 167, 255, 194, 21, 5, 172]
abbrev dktX11_drawnDelays_4 : List UInt8 := dkwX11_drawnDelays_4 ++ []
def dkwX11_drawnDelays_3 : List UInt8 := [20, 1, 204, 109, 20, 1, 35, 113, 42, 21, 6, 6, 182, 0, 82, 133, 148, 156, 0, 10, 4, 21, 6, 120]
abbrev dktX11_drawnDelays_3 : List UInt8 := dkwX11_drawnDelays_3 ++ dktX11_drawnDelays_4
def dkwX11_drawnDelays_2 : List UInt8 := [7, 46, 162, 0, 57, 20, 1, 198, 33, 105, 20, 1, 200, 97, 20, 1, 202, 113, 66, 21, 5, 33]
abbrev dktX11_drawnDelays_2 : List UInt8 := dkwX11_drawnDelays_2 ++ dktX11_drawnDelays_3
def dkwX11_drawnDelays_1 : List UInt8 := [180, 0, 9, 6, 46, 133, 148, 156, 0, 5, 2, 172, 3, 54, 5, 3, 54, 6, 21, 6, 42, 180, 0, 9]
abbrev dktX11_drawnDelays_1 : List UInt8 := dkwX11_drawnDelays_1 ++ dktX11_drawnDelays_2
def dkwX11_drawnDelays_0 : List UInt8 := [20, 1, 198, 31, 105, 20, 1, 200, 97, 20, 1, 202, 113, 66, 33, 20, 1, 204, 109, 20, 1, 35, 113, 42]
abbrev dktX11_drawnDelays_0 : List UInt8 := dkwX11_drawnDelays_0 ++ dktX11_drawnDelays_1
theorem dksX11_drawnDelays_0 : cX11_drawnDelays.data.toList.drop 0 = dktX11_drawnDelays_0 := by decide +kernel
theorem dksX11_drawnDelays_1 : cX11_drawnDelays.data.toList.drop 24 = dktX11_drawnDelays_1 := dk_seg dksX11_drawnDelays_0 24 rfl rfl
theorem dksX11_drawnDelays_2 : cX11_drawnDelays.data.toList.drop 48 = dktX11_drawnDelays_2 := dk_seg dksX11_drawnDelays_1 24 rfl rfl
theorem dksX11_drawnDelays_3 : cX11_drawnDelays.data.toList.drop 70 = dktX11_drawnDelays_3 := dk_seg dksX11_drawnDelays_2 22 rfl rfl
theorem dksX11_drawnDelays_4 : cX11_drawnDelays.data.toList.drop 94 = dktX11_drawnDelays_4 := dk_seg dksX11_drawnDelays_3 24 rfl rfl
theorem dX11_drawnDelays_0 : decode cX11_drawnDelays 0 = .ok (.ldc2_w 454, 3) := dk_20 1 198 (dk_at dksX11_drawnDelays_0 0 rfl rfl)
theorem dX11_drawnDelays_3 : decode cX11_drawnDelays 3 = .ok (.lload_n 1, 1) := dk_31 (dk_at dksX11_drawnDelays_0 3 rfl rfl)
theorem dX11_drawnDelays_4 : decode cX11_drawnDelays 4 = .ok (.lmul, 1) := dk_105 (dk_at dksX11_drawnDelays_0 4 rfl rfl)
theorem dX11_drawnDelays_5 : decode cX11_drawnDelays 5 = .ok (.ldc2_w 456, 3) := dk_20 1 200 (dk_at dksX11_drawnDelays_0 5 rfl rfl)
theorem dX11_drawnDelays_8 : decode cX11_drawnDelays 8 = .ok (.ladd, 1) := dk_97 (dk_at dksX11_drawnDelays_0 8 rfl rfl)
theorem dX11_drawnDelays_9 : decode cX11_drawnDelays 9 = .ok (.ldc2_w 458, 3) := dk_20 1 202 (dk_at dksX11_drawnDelays_0 9 rfl rfl)
theorem dX11_drawnDelays_12 : decode cX11_drawnDelays 12 = .ok (.lrem, 1) := dk_113 (dk_at dksX11_drawnDelays_0 12 rfl rfl)
theorem dX11_drawnDelays_13 : decode cX11_drawnDelays 13 = .ok (.lstore_n 3, 1) := dk_66 (dk_at dksX11_drawnDelays_0 13 rfl rfl)
theorem dX11_drawnDelays_14 : decode cX11_drawnDelays 14 = .ok (.lload_n 3, 1) := dk_33 (dk_at dksX11_drawnDelays_0 14 rfl rfl)
theorem dX11_drawnDelays_15 : decode cX11_drawnDelays 15 = .ok (.ldc2_w 460, 3) := dk_20 1 204 (dk_at dksX11_drawnDelays_0 15 rfl rfl)
theorem dX11_drawnDelays_18 : decode cX11_drawnDelays 18 = .ok (.ldiv, 1) := dk_109 (dk_at dksX11_drawnDelays_0 18 rfl rfl)
theorem dX11_drawnDelays_19 : decode cX11_drawnDelays 19 = .ok (.ldc2_w 291, 3) := dk_20 1 35 (dk_at dksX11_drawnDelays_0 19 rfl rfl)
theorem dX11_drawnDelays_22 : decode cX11_drawnDelays 22 = .ok (.lrem, 1) := dk_113 (dk_at dksX11_drawnDelays_0 22 rfl rfl)
theorem dX11_drawnDelays_23 : decode cX11_drawnDelays 23 = .ok (.aload_n 0, 1) := dk_42 (dk_at dksX11_drawnDelays_0 23 rfl rfl)
theorem dX11_drawnDelays_24 : decode cX11_drawnDelays 24 = .ok (.getfield 9, 3) := dk_180 0 9 (dk_at dksX11_drawnDelays_1 0 rfl rfl)
theorem dX11_drawnDelays_27 : decode cX11_drawnDelays 27 = .ok (.iconst 3, 1) := dk_6 (dk_at dksX11_drawnDelays_1 3 rfl rfl)
theorem dX11_drawnDelays_28 : decode cX11_drawnDelays 28 = .ok (.iaload, 1) := dk_46 (dk_at dksX11_drawnDelays_1 4 rfl rfl)
theorem dX11_drawnDelays_29 : decode cX11_drawnDelays 29 = .ok (.i2l, 1) := dk_133 (dk_at dksX11_drawnDelays_1 5 rfl rfl)
theorem dX11_drawnDelays_30 : decode cX11_drawnDelays 30 = .ok (.lcmp, 1) := dk_148 (dk_at dksX11_drawnDelays_1 6 rfl rfl)
theorem dX11_drawnDelays_31 : decode cX11_drawnDelays 31 = .ok (.ifCond .ge 5, 3) := dk_156 0 5 (dk_at dksX11_drawnDelays_1 7 rfl rfl)
theorem dX11_drawnDelays_34 : decode cX11_drawnDelays 34 = .ok (.iconst (-1), 1) := dk_2 (dk_at dksX11_drawnDelays_1 10 rfl rfl)
theorem dX11_drawnDelays_35 : decode cX11_drawnDelays 35 = .ok (.ireturn, 1) := dk_172 (dk_at dksX11_drawnDelays_1 11 rfl rfl)
theorem dX11_drawnDelays_36 : decode cX11_drawnDelays 36 = .ok (.iconst 0, 1) := dk_3 (dk_at dksX11_drawnDelays_1 12 rfl rfl)
theorem dX11_drawnDelays_37 : decode cX11_drawnDelays 37 = .ok (.istore 5, 2) := dk_54 5 (dk_at dksX11_drawnDelays_1 13 rfl rfl)
theorem dX11_drawnDelays_39 : decode cX11_drawnDelays 39 = .ok (.iconst 0, 1) := dk_3 (dk_at dksX11_drawnDelays_1 15 rfl rfl)
theorem dX11_drawnDelays_40 : decode cX11_drawnDelays 40 = .ok (.istore 6, 2) := dk_54 6 (dk_at dksX11_drawnDelays_1 16 rfl rfl)
theorem dX11_drawnDelays_42 : decode cX11_drawnDelays 42 = .ok (.iload 6, 2) := dk_21 6 (dk_at dksX11_drawnDelays_1 18 rfl rfl)
theorem dX11_drawnDelays_44 : decode cX11_drawnDelays 44 = .ok (.aload_n 0, 1) := dk_42 (dk_at dksX11_drawnDelays_1 20 rfl rfl)
theorem dX11_drawnDelays_45 : decode cX11_drawnDelays 45 = .ok (.getfield 9, 3) := dk_180 0 9 (dk_at dksX11_drawnDelays_1 21 rfl rfl)
theorem dX11_drawnDelays_48 : decode cX11_drawnDelays 48 = .ok (.iconst 4, 1) := dk_7 (dk_at dksX11_drawnDelays_2 0 rfl rfl)
theorem dX11_drawnDelays_49 : decode cX11_drawnDelays 49 = .ok (.iaload, 1) := dk_46 (dk_at dksX11_drawnDelays_2 1 rfl rfl)
theorem dX11_drawnDelays_50 : decode cX11_drawnDelays 50 = .ok (.if_icmp .ge 57, 3) := dk_162 0 57 (dk_at dksX11_drawnDelays_2 2 rfl rfl)
theorem dX11_drawnDelays_53 : decode cX11_drawnDelays 53 = .ok (.ldc2_w 454, 3) := dk_20 1 198 (dk_at dksX11_drawnDelays_2 5 rfl rfl)
theorem dX11_drawnDelays_56 : decode cX11_drawnDelays 56 = .ok (.lload_n 3, 1) := dk_33 (dk_at dksX11_drawnDelays_2 8 rfl rfl)
theorem dX11_drawnDelays_57 : decode cX11_drawnDelays 57 = .ok (.lmul, 1) := dk_105 (dk_at dksX11_drawnDelays_2 9 rfl rfl)
theorem dX11_drawnDelays_58 : decode cX11_drawnDelays 58 = .ok (.ldc2_w 456, 3) := dk_20 1 200 (dk_at dksX11_drawnDelays_2 10 rfl rfl)
theorem dX11_drawnDelays_61 : decode cX11_drawnDelays 61 = .ok (.ladd, 1) := dk_97 (dk_at dksX11_drawnDelays_2 13 rfl rfl)
theorem dX11_drawnDelays_62 : decode cX11_drawnDelays 62 = .ok (.ldc2_w 458, 3) := dk_20 1 202 (dk_at dksX11_drawnDelays_2 14 rfl rfl)
theorem dX11_drawnDelays_65 : decode cX11_drawnDelays 65 = .ok (.lrem, 1) := dk_113 (dk_at dksX11_drawnDelays_2 17 rfl rfl)
theorem dX11_drawnDelays_66 : decode cX11_drawnDelays 66 = .ok (.lstore_n 3, 1) := dk_66 (dk_at dksX11_drawnDelays_2 18 rfl rfl)
theorem dX11_drawnDelays_67 : decode cX11_drawnDelays 67 = .ok (.iload 5, 2) := dk_21 5 (dk_at dksX11_drawnDelays_2 19 rfl rfl)
theorem dX11_drawnDelays_69 : decode cX11_drawnDelays 69 = .ok (.lload_n 3, 1) := dk_33 (dk_at dksX11_drawnDelays_2 21 rfl rfl)
theorem dX11_drawnDelays_70 : decode cX11_drawnDelays 70 = .ok (.ldc2_w 460, 3) := dk_20 1 204 (dk_at dksX11_drawnDelays_3 0 rfl rfl)
theorem dX11_drawnDelays_73 : decode cX11_drawnDelays 73 = .ok (.ldiv, 1) := dk_109 (dk_at dksX11_drawnDelays_3 3 rfl rfl)
theorem dX11_drawnDelays_74 : decode cX11_drawnDelays 74 = .ok (.ldc2_w 291, 3) := dk_20 1 35 (dk_at dksX11_drawnDelays_3 4 rfl rfl)
theorem dX11_drawnDelays_77 : decode cX11_drawnDelays 77 = .ok (.lrem, 1) := dk_113 (dk_at dksX11_drawnDelays_3 7 rfl rfl)
theorem dX11_drawnDelays_78 : decode cX11_drawnDelays 78 = .ok (.aload_n 0, 1) := dk_42 (dk_at dksX11_drawnDelays_3 8 rfl rfl)
theorem dX11_drawnDelays_79 : decode cX11_drawnDelays 79 = .ok (.iload 6, 2) := dk_21 6 (dk_at dksX11_drawnDelays_3 9 rfl rfl)
theorem dX11_drawnDelays_81 : decode cX11_drawnDelays 81 = .ok (.iconst 3, 1) := dk_6 (dk_at dksX11_drawnDelays_3 11 rfl rfl)
theorem dX11_drawnDelays_82 : decode cX11_drawnDelays 82 = .ok (.invokevirtual 82, 3) := dk_182 0 82 (dk_at dksX11_drawnDelays_3 12 rfl rfl)
theorem dX11_drawnDelays_85 : decode cX11_drawnDelays 85 = .ok (.i2l, 1) := dk_133 (dk_at dksX11_drawnDelays_3 15 rfl rfl)
theorem dX11_drawnDelays_86 : decode cX11_drawnDelays 86 = .ok (.lcmp, 1) := dk_148 (dk_at dksX11_drawnDelays_3 16 rfl rfl)
theorem dX11_drawnDelays_87 : decode cX11_drawnDelays 87 = .ok (.ifCond .ge 10, 3) := dk_156 0 10 (dk_at dksX11_drawnDelays_3 17 rfl rfl)
theorem dX11_drawnDelays_90 : decode cX11_drawnDelays 90 = .ok (.iconst 1, 1) := dk_4 (dk_at dksX11_drawnDelays_3 20 rfl rfl)
theorem dX11_drawnDelays_91 : decode cX11_drawnDelays 91 = .ok (.iload 6, 2) := dk_21 6 (dk_at dksX11_drawnDelays_3 21 rfl rfl)
theorem dX11_drawnDelays_93 : decode cX11_drawnDelays 93 = .ok (.ishl, 1) := dk_120 (dk_at dksX11_drawnDelays_3 23 rfl rfl)
theorem dX11_drawnDelays_94 : decode cX11_drawnDelays 94 = .ok (.goto 4, 3) := dk_167 0 4 (dk_at dksX11_drawnDelays_4 0 rfl rfl)
theorem dX11_drawnDelays_97 : decode cX11_drawnDelays 97 = .ok (.iconst 0, 1) := dk_3 (dk_at dksX11_drawnDelays_4 3 rfl rfl)
theorem dX11_drawnDelays_98 : decode cX11_drawnDelays 98 = .ok (.ior, 1) := dk_128 (dk_at dksX11_drawnDelays_4 4 rfl rfl)
theorem dX11_drawnDelays_99 : decode cX11_drawnDelays 99 = .ok (.istore 5, 2) := dk_54 5 (dk_at dksX11_drawnDelays_4 5 rfl rfl)
theorem dX11_drawnDelays_101 : decode cX11_drawnDelays 101 = .ok (.iinc 6 1, 3) := dk_132 6 1 (dk_at dksX11_drawnDelays_4 7 rfl rfl)
theorem dX11_drawnDelays_104 : decode cX11_drawnDelays 104 = .ok (.goto (-62), 3) := dk_167 255 194 (dk_at dksX11_drawnDelays_4 10 rfl rfl)
theorem dX11_drawnDelays_107 : decode cX11_drawnDelays 107 = .ok (.iload 5, 2) := dk_21 5 (dk_at dksX11_drawnDelays_4 13 rfl rfl)
theorem dX11_drawnDelays_109 : decode cX11_drawnDelays 109 = .ok (.ireturn, 1) := dk_172 (dk_at dksX11_drawnDelays_4 15 rfl rfl)
abbrev cX11_luck : ByteArray := prog_19_method_146_code
def yX11_luck : MethodName := ⟨RX11, "luck", "(III)I"⟩
def dkwX11_luck_3 : List UInt8 := [160, 0, 7, 4, 167, 0, 4, 3, 96, 54, 4, 132, 5, 1, 167, 255, 209, 21, 4, 172]
abbrev dktX11_luck_3 : List UInt8 := dkwX11_luck_3 ++ []
def dkwX11_luck_2 : List UInt8 := [21, 5, 133, 97, 182, 1, 211, 54, 6, 21, 4, 21, 6, 2, 159, 0, 17, 42, 21, 6, 182, 1, 13, 29]
abbrev dktX11_luck_2 : List UInt8 := dkwX11_luck_2 ++ dktX11_luck_3
def dkwX11_luck_1 : List UInt8 := [182, 0, 236, 154, 0, 6, 16, 254, 172, 3, 54, 4, 3, 54, 5, 21, 5, 28, 162, 0, 47, 42, 27, 133]
abbrev dktX11_luck_1 : List UInt8 := dkwX11_luck_1 ++ dktX11_luck_2
def dkwX11_luck_0 : List UInt8 := [42, 27, 182, 1, 208, 153, 0, 23, 28, 133, 10, 20, 1, 215, 184, 0, 70, 153, 0, 11, 42, 29]
abbrev dktX11_luck_0 : List UInt8 := dkwX11_luck_0 ++ dktX11_luck_1
theorem dksX11_luck_0 : cX11_luck.data.toList.drop 0 = dktX11_luck_0 := by decide +kernel
theorem dksX11_luck_1 : cX11_luck.data.toList.drop 22 = dktX11_luck_1 := dk_seg dksX11_luck_0 22 rfl rfl
theorem dksX11_luck_2 : cX11_luck.data.toList.drop 46 = dktX11_luck_2 := dk_seg dksX11_luck_1 24 rfl rfl
theorem dksX11_luck_3 : cX11_luck.data.toList.drop 70 = dktX11_luck_3 := dk_seg dksX11_luck_2 24 rfl rfl
theorem dX11_luck_0 : decode cX11_luck 0 = .ok (.aload_n 0, 1) := dk_42 (dk_at dksX11_luck_0 0 rfl rfl)
theorem dX11_luck_1 : decode cX11_luck 1 = .ok (.iload_n 1, 1) := dk_27 (dk_at dksX11_luck_0 1 rfl rfl)
theorem dX11_luck_2 : decode cX11_luck 2 = .ok (.invokevirtual 464, 3) := dk_182 1 208 (dk_at dksX11_luck_0 2 rfl rfl)
theorem dX11_luck_5 : decode cX11_luck 5 = .ok (.ifCond .eq 23, 3) := dk_153 0 23 (dk_at dksX11_luck_0 5 rfl rfl)
theorem dX11_luck_8 : decode cX11_luck 8 = .ok (.iload_n 2, 1) := dk_28 (dk_at dksX11_luck_0 8 rfl rfl)
theorem dX11_luck_9 : decode cX11_luck 9 = .ok (.i2l, 1) := dk_133 (dk_at dksX11_luck_0 9 rfl rfl)
theorem dX11_luck_10 : decode cX11_luck 10 = .ok (.lconst 1, 1) := dk_10 (dk_at dksX11_luck_0 10 rfl rfl)
theorem dX11_luck_11 : decode cX11_luck 11 = .ok (.ldc2_w 471, 3) := dk_20 1 215 (dk_at dksX11_luck_0 11 rfl rfl)
theorem dX11_luck_14 : decode cX11_luck 14 = .ok (.invokestatic 70, 3) := dk_184 0 70 (dk_at dksX11_luck_0 14 rfl rfl)
theorem dX11_luck_17 : decode cX11_luck 17 = .ok (.ifCond .eq 11, 3) := dk_153 0 11 (dk_at dksX11_luck_0 17 rfl rfl)
theorem dX11_luck_20 : decode cX11_luck 20 = .ok (.aload_n 0, 1) := dk_42 (dk_at dksX11_luck_0 20 rfl rfl)
theorem dX11_luck_21 : decode cX11_luck 21 = .ok (.iload_n 3, 1) := dk_29 (dk_at dksX11_luck_0 21 rfl rfl)
theorem dX11_luck_22 : decode cX11_luck 22 = .ok (.invokevirtual 236, 3) := dk_182 0 236 (dk_at dksX11_luck_1 0 rfl rfl)
theorem dX11_luck_25 : decode cX11_luck 25 = .ok (.ifCond .ne 6, 3) := dk_154 0 6 (dk_at dksX11_luck_1 3 rfl rfl)
theorem dX11_luck_28 : decode cX11_luck 28 = .ok (.bipush (-2), 2) := dk_16 254 (dk_at dksX11_luck_1 6 rfl rfl)
theorem dX11_luck_30 : decode cX11_luck 30 = .ok (.ireturn, 1) := dk_172 (dk_at dksX11_luck_1 8 rfl rfl)
theorem dX11_luck_31 : decode cX11_luck 31 = .ok (.iconst 0, 1) := dk_3 (dk_at dksX11_luck_1 9 rfl rfl)
theorem dX11_luck_32 : decode cX11_luck 32 = .ok (.istore 4, 2) := dk_54 4 (dk_at dksX11_luck_1 10 rfl rfl)
theorem dX11_luck_34 : decode cX11_luck 34 = .ok (.iconst 0, 1) := dk_3 (dk_at dksX11_luck_1 12 rfl rfl)
theorem dX11_luck_35 : decode cX11_luck 35 = .ok (.istore 5, 2) := dk_54 5 (dk_at dksX11_luck_1 13 rfl rfl)
theorem dX11_luck_37 : decode cX11_luck 37 = .ok (.iload 5, 2) := dk_21 5 (dk_at dksX11_luck_1 15 rfl rfl)
theorem dX11_luck_39 : decode cX11_luck 39 = .ok (.iload_n 2, 1) := dk_28 (dk_at dksX11_luck_1 17 rfl rfl)
theorem dX11_luck_40 : decode cX11_luck 40 = .ok (.if_icmp .ge 47, 3) := dk_162 0 47 (dk_at dksX11_luck_1 18 rfl rfl)
theorem dX11_luck_43 : decode cX11_luck 43 = .ok (.aload_n 0, 1) := dk_42 (dk_at dksX11_luck_1 21 rfl rfl)
theorem dX11_luck_44 : decode cX11_luck 44 = .ok (.iload_n 1, 1) := dk_27 (dk_at dksX11_luck_1 22 rfl rfl)
theorem dX11_luck_45 : decode cX11_luck 45 = .ok (.i2l, 1) := dk_133 (dk_at dksX11_luck_1 23 rfl rfl)
theorem dX11_luck_46 : decode cX11_luck 46 = .ok (.iload 5, 2) := dk_21 5 (dk_at dksX11_luck_2 0 rfl rfl)
theorem dX11_luck_48 : decode cX11_luck 48 = .ok (.i2l, 1) := dk_133 (dk_at dksX11_luck_2 2 rfl rfl)
theorem dX11_luck_49 : decode cX11_luck 49 = .ok (.ladd, 1) := dk_97 (dk_at dksX11_luck_2 3 rfl rfl)
theorem dX11_luck_50 : decode cX11_luck 50 = .ok (.invokevirtual 467, 3) := dk_182 1 211 (dk_at dksX11_luck_2 4 rfl rfl)
theorem dX11_luck_53 : decode cX11_luck 53 = .ok (.istore 6, 2) := dk_54 6 (dk_at dksX11_luck_2 7 rfl rfl)
theorem dX11_luck_55 : decode cX11_luck 55 = .ok (.iload 4, 2) := dk_21 4 (dk_at dksX11_luck_2 9 rfl rfl)
theorem dX11_luck_57 : decode cX11_luck 57 = .ok (.iload 6, 2) := dk_21 6 (dk_at dksX11_luck_2 11 rfl rfl)
theorem dX11_luck_59 : decode cX11_luck 59 = .ok (.iconst (-1), 1) := dk_2 (dk_at dksX11_luck_2 13 rfl rfl)
theorem dX11_luck_60 : decode cX11_luck 60 = .ok (.if_icmp .eq 17, 3) := dk_159 0 17 (dk_at dksX11_luck_2 14 rfl rfl)
theorem dX11_luck_63 : decode cX11_luck 63 = .ok (.aload_n 0, 1) := dk_42 (dk_at dksX11_luck_2 17 rfl rfl)
theorem dX11_luck_64 : decode cX11_luck 64 = .ok (.iload 6, 2) := dk_21 6 (dk_at dksX11_luck_2 18 rfl rfl)
theorem dX11_luck_66 : decode cX11_luck 66 = .ok (.invokevirtual 269, 3) := dk_182 1 13 (dk_at dksX11_luck_2 20 rfl rfl)
theorem dX11_luck_69 : decode cX11_luck 69 = .ok (.iload_n 3, 1) := dk_29 (dk_at dksX11_luck_2 23 rfl rfl)
theorem dX11_luck_70 : decode cX11_luck 70 = .ok (.if_icmp .ne 7, 3) := dk_160 0 7 (dk_at dksX11_luck_3 0 rfl rfl)
theorem dX11_luck_73 : decode cX11_luck 73 = .ok (.iconst 1, 1) := dk_4 (dk_at dksX11_luck_3 3 rfl rfl)
theorem dX11_luck_74 : decode cX11_luck 74 = .ok (.goto 4, 3) := dk_167 0 4 (dk_at dksX11_luck_3 4 rfl rfl)
theorem dX11_luck_77 : decode cX11_luck 77 = .ok (.iconst 0, 1) := dk_3 (dk_at dksX11_luck_3 7 rfl rfl)
theorem dX11_luck_78 : decode cX11_luck 78 = .ok (.iadd, 1) := dk_96 (dk_at dksX11_luck_3 8 rfl rfl)
theorem dX11_luck_79 : decode cX11_luck 79 = .ok (.istore 4, 2) := dk_54 4 (dk_at dksX11_luck_3 9 rfl rfl)
theorem dX11_luck_81 : decode cX11_luck 81 = .ok (.iinc 5 1, 3) := dk_132 5 1 (dk_at dksX11_luck_3 11 rfl rfl)
theorem dX11_luck_84 : decode cX11_luck 84 = .ok (.goto (-47), 3) := dk_167 255 209 (dk_at dksX11_luck_3 14 rfl rfl)
theorem dX11_luck_87 : decode cX11_luck 87 = .ok (.iload 4, 2) := dk_21 4 (dk_at dksX11_luck_3 17 rfl rfl)
theorem dX11_luck_89 : decode cX11_luck 89 = .ok (.ireturn, 1) := dk_172 (dk_at dksX11_luck_3 19 rfl rfl)
abbrev cX11_count : ByteArray := prog_19_method_147_code
def yX11_count : MethodName := ⟨RX11, "count", "(I)I"⟩
def dkwX11_count_7 : List UInt8 := [28, 172, 2, 172]
abbrev dktX11_count_7 : List UInt8 := dkwX11_count_7 ++ []
def dkwX11_count_6 : List UInt8 := [28, 42, 180, 0, 52, 29, 46, 2, 160, 0, 7, 3, 167, 0, 4, 4, 96, 61, 132, 3, 1, 167, 255, 230]
abbrev dktX11_count_6 : List UInt8 := dkwX11_count_6 ++ dktX11_count_7
def dkwX11_count_5 : List UInt8 := [16, 9, 46, 172, 42, 180, 0, 89, 172, 42, 180, 0, 9, 16, 10, 46, 172, 3, 62, 29, 7, 162, 0, 27]
abbrev dktX11_count_5 : List UInt8 := dkwX11_count_5 ++ dktX11_count_6
def dkwX11_count_4 : List UInt8 := [16, 6, 46, 172, 42, 180, 0, 9, 16, 7, 46, 172, 42, 180, 0, 9, 16, 8, 46, 172, 42, 180, 0, 9]
abbrev dktX11_count_4 : List UInt8 := dkwX11_count_4 ++ dktX11_count_5
def dkwX11_count_3 : List UInt8 := [180, 0, 9, 6, 46, 172, 42, 180, 0, 9, 7, 46, 172, 42, 180, 0, 9, 8, 46, 172, 42, 180, 0, 9]
abbrev dktX11_count_3 : List UInt8 := dkwX11_count_3 ++ dktX11_count_4
def dkwX11_count_2 : List UInt8 := [42, 180, 0, 9, 3, 46, 172, 42, 180, 0, 9, 4, 46, 172, 42, 180, 0, 9, 5, 46, 172, 42]
abbrev dktX11_count_2 : List UInt8 := dkwX11_count_2 ++ dktX11_count_3
def dkwX11_count_1 : List UInt8 := [170, 0, 0, 0, 185, 0, 0, 0, 0, 0, 0, 0, 12, 0, 0, 0, 65, 0, 0, 0, 72, 0, 0, 0, 79, 0, 0, 0, 86, 0, 0, 0, 93, 0, 0, 0, 100, 0, 0, 0, 107, 0, 0, 0, 115, 0, 0, 0, 123, 0, 0, 0, 131, 0, 0, 0, 139, 0, 0, 0, 144, 0, 0, 0, 152]
abbrev dktX11_count_1 : List UInt8 := dkwX11_count_1 ++ dktX11_count_2
def dkwX11_count_0 : List UInt8 := [3, 61, 27]
abbrev dktX11_count_0 : List UInt8 := dkwX11_count_0 ++ dktX11_count_1
theorem dksX11_count_0 : cX11_count.data.toList.drop 0 = dktX11_count_0 := by decide +kernel
theorem dksX11_count_1 : cX11_count.data.toList.drop 3 = dktX11_count_1 := dk_seg dksX11_count_0 3 rfl rfl
theorem dksX11_count_2 : cX11_count.data.toList.drop 68 = dktX11_count_2 := dk_seg dksX11_count_1 65 rfl rfl
theorem dksX11_count_3 : cX11_count.data.toList.drop 90 = dktX11_count_3 := dk_seg dksX11_count_2 22 rfl rfl
theorem dksX11_count_4 : cX11_count.data.toList.drop 114 = dktX11_count_4 := dk_seg dksX11_count_3 24 rfl rfl
theorem dksX11_count_5 : cX11_count.data.toList.drop 138 = dktX11_count_5 := dk_seg dksX11_count_4 24 rfl rfl
theorem dksX11_count_6 : cX11_count.data.toList.drop 162 = dktX11_count_6 := dk_seg dksX11_count_5 24 rfl rfl
theorem dksX11_count_7 : cX11_count.data.toList.drop 186 = dktX11_count_7 := dk_seg dksX11_count_6 24 rfl rfl
theorem dX11_count_0 : decode cX11_count 0 = .ok (.iconst 0, 1) := dk_3 (dk_at dksX11_count_0 0 rfl rfl)
theorem dX11_count_1 : decode cX11_count 1 = .ok (.istore_n 2, 1) := dk_61 (dk_at dksX11_count_0 1 rfl rfl)
theorem dX11_count_2 : decode cX11_count 2 = .ok (.iload_n 1, 1) := dk_27 (dk_at dksX11_count_0 2 rfl rfl)
theorem dX11_count_3 : decode cX11_count 3 = .ok (.tableswitch 185 0 12 #[65, 72, 79, 86, 93, 100, 107, 115, 123, 131, 139, 144, 152], 65) := by decide +kernel
theorem dX11_count_68 : decode cX11_count 68 = .ok (.aload_n 0, 1) := dk_42 (dk_at dksX11_count_2 0 rfl rfl)
theorem dX11_count_69 : decode cX11_count 69 = .ok (.getfield 9, 3) := dk_180 0 9 (dk_at dksX11_count_2 1 rfl rfl)
theorem dX11_count_72 : decode cX11_count 72 = .ok (.iconst 0, 1) := dk_3 (dk_at dksX11_count_2 4 rfl rfl)
theorem dX11_count_73 : decode cX11_count 73 = .ok (.iaload, 1) := dk_46 (dk_at dksX11_count_2 5 rfl rfl)
theorem dX11_count_74 : decode cX11_count 74 = .ok (.ireturn, 1) := dk_172 (dk_at dksX11_count_2 6 rfl rfl)
theorem dX11_count_75 : decode cX11_count 75 = .ok (.aload_n 0, 1) := dk_42 (dk_at dksX11_count_2 7 rfl rfl)
theorem dX11_count_76 : decode cX11_count 76 = .ok (.getfield 9, 3) := dk_180 0 9 (dk_at dksX11_count_2 8 rfl rfl)
theorem dX11_count_79 : decode cX11_count 79 = .ok (.iconst 1, 1) := dk_4 (dk_at dksX11_count_2 11 rfl rfl)
theorem dX11_count_80 : decode cX11_count 80 = .ok (.iaload, 1) := dk_46 (dk_at dksX11_count_2 12 rfl rfl)
theorem dX11_count_81 : decode cX11_count 81 = .ok (.ireturn, 1) := dk_172 (dk_at dksX11_count_2 13 rfl rfl)
theorem dX11_count_82 : decode cX11_count 82 = .ok (.aload_n 0, 1) := dk_42 (dk_at dksX11_count_2 14 rfl rfl)
theorem dX11_count_83 : decode cX11_count 83 = .ok (.getfield 9, 3) := dk_180 0 9 (dk_at dksX11_count_2 15 rfl rfl)
theorem dX11_count_86 : decode cX11_count 86 = .ok (.iconst 2, 1) := dk_5 (dk_at dksX11_count_2 18 rfl rfl)
theorem dX11_count_87 : decode cX11_count 87 = .ok (.iaload, 1) := dk_46 (dk_at dksX11_count_2 19 rfl rfl)
theorem dX11_count_88 : decode cX11_count 88 = .ok (.ireturn, 1) := dk_172 (dk_at dksX11_count_2 20 rfl rfl)
theorem dX11_count_89 : decode cX11_count 89 = .ok (.aload_n 0, 1) := dk_42 (dk_at dksX11_count_2 21 rfl rfl)
theorem dX11_count_90 : decode cX11_count 90 = .ok (.getfield 9, 3) := dk_180 0 9 (dk_at dksX11_count_3 0 rfl rfl)
theorem dX11_count_93 : decode cX11_count 93 = .ok (.iconst 3, 1) := dk_6 (dk_at dksX11_count_3 3 rfl rfl)
theorem dX11_count_94 : decode cX11_count 94 = .ok (.iaload, 1) := dk_46 (dk_at dksX11_count_3 4 rfl rfl)
theorem dX11_count_95 : decode cX11_count 95 = .ok (.ireturn, 1) := dk_172 (dk_at dksX11_count_3 5 rfl rfl)
theorem dX11_count_96 : decode cX11_count 96 = .ok (.aload_n 0, 1) := dk_42 (dk_at dksX11_count_3 6 rfl rfl)
theorem dX11_count_97 : decode cX11_count 97 = .ok (.getfield 9, 3) := dk_180 0 9 (dk_at dksX11_count_3 7 rfl rfl)
theorem dX11_count_100 : decode cX11_count 100 = .ok (.iconst 4, 1) := dk_7 (dk_at dksX11_count_3 10 rfl rfl)
theorem dX11_count_101 : decode cX11_count 101 = .ok (.iaload, 1) := dk_46 (dk_at dksX11_count_3 11 rfl rfl)
theorem dX11_count_102 : decode cX11_count 102 = .ok (.ireturn, 1) := dk_172 (dk_at dksX11_count_3 12 rfl rfl)
theorem dX11_count_103 : decode cX11_count 103 = .ok (.aload_n 0, 1) := dk_42 (dk_at dksX11_count_3 13 rfl rfl)
theorem dX11_count_104 : decode cX11_count 104 = .ok (.getfield 9, 3) := dk_180 0 9 (dk_at dksX11_count_3 14 rfl rfl)
theorem dX11_count_107 : decode cX11_count 107 = .ok (.iconst 5, 1) := dk_8 (dk_at dksX11_count_3 17 rfl rfl)
theorem dX11_count_108 : decode cX11_count 108 = .ok (.iaload, 1) := dk_46 (dk_at dksX11_count_3 18 rfl rfl)
theorem dX11_count_109 : decode cX11_count 109 = .ok (.ireturn, 1) := dk_172 (dk_at dksX11_count_3 19 rfl rfl)
theorem dX11_count_110 : decode cX11_count 110 = .ok (.aload_n 0, 1) := dk_42 (dk_at dksX11_count_3 20 rfl rfl)
theorem dX11_count_111 : decode cX11_count 111 = .ok (.getfield 9, 3) := dk_180 0 9 (dk_at dksX11_count_3 21 rfl rfl)
theorem dX11_count_114 : decode cX11_count 114 = .ok (.bipush 6, 2) := dk_16 6 (dk_at dksX11_count_4 0 rfl rfl)
theorem dX11_count_116 : decode cX11_count 116 = .ok (.iaload, 1) := dk_46 (dk_at dksX11_count_4 2 rfl rfl)
theorem dX11_count_117 : decode cX11_count 117 = .ok (.ireturn, 1) := dk_172 (dk_at dksX11_count_4 3 rfl rfl)
theorem dX11_count_118 : decode cX11_count 118 = .ok (.aload_n 0, 1) := dk_42 (dk_at dksX11_count_4 4 rfl rfl)
theorem dX11_count_119 : decode cX11_count 119 = .ok (.getfield 9, 3) := dk_180 0 9 (dk_at dksX11_count_4 5 rfl rfl)
theorem dX11_count_122 : decode cX11_count 122 = .ok (.bipush 7, 2) := dk_16 7 (dk_at dksX11_count_4 8 rfl rfl)
theorem dX11_count_124 : decode cX11_count 124 = .ok (.iaload, 1) := dk_46 (dk_at dksX11_count_4 10 rfl rfl)
theorem dX11_count_125 : decode cX11_count 125 = .ok (.ireturn, 1) := dk_172 (dk_at dksX11_count_4 11 rfl rfl)
theorem dX11_count_126 : decode cX11_count 126 = .ok (.aload_n 0, 1) := dk_42 (dk_at dksX11_count_4 12 rfl rfl)
theorem dX11_count_127 : decode cX11_count 127 = .ok (.getfield 9, 3) := dk_180 0 9 (dk_at dksX11_count_4 13 rfl rfl)
theorem dX11_count_130 : decode cX11_count 130 = .ok (.bipush 8, 2) := dk_16 8 (dk_at dksX11_count_4 16 rfl rfl)
theorem dX11_count_132 : decode cX11_count 132 = .ok (.iaload, 1) := dk_46 (dk_at dksX11_count_4 18 rfl rfl)
theorem dX11_count_133 : decode cX11_count 133 = .ok (.ireturn, 1) := dk_172 (dk_at dksX11_count_4 19 rfl rfl)
theorem dX11_count_134 : decode cX11_count 134 = .ok (.aload_n 0, 1) := dk_42 (dk_at dksX11_count_4 20 rfl rfl)
theorem dX11_count_135 : decode cX11_count 135 = .ok (.getfield 9, 3) := dk_180 0 9 (dk_at dksX11_count_4 21 rfl rfl)
theorem dX11_count_138 : decode cX11_count 138 = .ok (.bipush 9, 2) := dk_16 9 (dk_at dksX11_count_5 0 rfl rfl)
theorem dX11_count_140 : decode cX11_count 140 = .ok (.iaload, 1) := dk_46 (dk_at dksX11_count_5 2 rfl rfl)
theorem dX11_count_141 : decode cX11_count 141 = .ok (.ireturn, 1) := dk_172 (dk_at dksX11_count_5 3 rfl rfl)
theorem dX11_count_142 : decode cX11_count 142 = .ok (.aload_n 0, 1) := dk_42 (dk_at dksX11_count_5 4 rfl rfl)
theorem dX11_count_143 : decode cX11_count 143 = .ok (.getfield 89, 3) := dk_180 0 89 (dk_at dksX11_count_5 5 rfl rfl)
theorem dX11_count_146 : decode cX11_count 146 = .ok (.ireturn, 1) := dk_172 (dk_at dksX11_count_5 8 rfl rfl)
theorem dX11_count_147 : decode cX11_count 147 = .ok (.aload_n 0, 1) := dk_42 (dk_at dksX11_count_5 9 rfl rfl)
theorem dX11_count_148 : decode cX11_count 148 = .ok (.getfield 9, 3) := dk_180 0 9 (dk_at dksX11_count_5 10 rfl rfl)
theorem dX11_count_151 : decode cX11_count 151 = .ok (.bipush 10, 2) := dk_16 10 (dk_at dksX11_count_5 13 rfl rfl)
theorem dX11_count_153 : decode cX11_count 153 = .ok (.iaload, 1) := dk_46 (dk_at dksX11_count_5 15 rfl rfl)
theorem dX11_count_154 : decode cX11_count 154 = .ok (.ireturn, 1) := dk_172 (dk_at dksX11_count_5 16 rfl rfl)
theorem dX11_count_155 : decode cX11_count 155 = .ok (.iconst 0, 1) := dk_3 (dk_at dksX11_count_5 17 rfl rfl)
theorem dX11_count_156 : decode cX11_count 156 = .ok (.istore_n 3, 1) := dk_62 (dk_at dksX11_count_5 18 rfl rfl)
theorem dX11_count_157 : decode cX11_count 157 = .ok (.iload_n 3, 1) := dk_29 (dk_at dksX11_count_5 19 rfl rfl)
theorem dX11_count_158 : decode cX11_count 158 = .ok (.iconst 4, 1) := dk_7 (dk_at dksX11_count_5 20 rfl rfl)
theorem dX11_count_159 : decode cX11_count 159 = .ok (.if_icmp .ge 27, 3) := dk_162 0 27 (dk_at dksX11_count_5 21 rfl rfl)
theorem dX11_count_162 : decode cX11_count 162 = .ok (.iload_n 2, 1) := dk_28 (dk_at dksX11_count_6 0 rfl rfl)
theorem dX11_count_163 : decode cX11_count 163 = .ok (.aload_n 0, 1) := dk_42 (dk_at dksX11_count_6 1 rfl rfl)
theorem dX11_count_164 : decode cX11_count 164 = .ok (.getfield 52, 3) := dk_180 0 52 (dk_at dksX11_count_6 2 rfl rfl)
theorem dX11_count_167 : decode cX11_count 167 = .ok (.iload_n 3, 1) := dk_29 (dk_at dksX11_count_6 5 rfl rfl)
theorem dX11_count_168 : decode cX11_count 168 = .ok (.iaload, 1) := dk_46 (dk_at dksX11_count_6 6 rfl rfl)
theorem dX11_count_169 : decode cX11_count 169 = .ok (.iconst (-1), 1) := dk_2 (dk_at dksX11_count_6 7 rfl rfl)
theorem dX11_count_170 : decode cX11_count 170 = .ok (.if_icmp .ne 7, 3) := dk_160 0 7 (dk_at dksX11_count_6 8 rfl rfl)
theorem dX11_count_173 : decode cX11_count 173 = .ok (.iconst 0, 1) := dk_3 (dk_at dksX11_count_6 11 rfl rfl)
theorem dX11_count_174 : decode cX11_count 174 = .ok (.goto 4, 3) := dk_167 0 4 (dk_at dksX11_count_6 12 rfl rfl)
theorem dX11_count_177 : decode cX11_count 177 = .ok (.iconst 1, 1) := dk_4 (dk_at dksX11_count_6 15 rfl rfl)
theorem dX11_count_178 : decode cX11_count 178 = .ok (.iadd, 1) := dk_96 (dk_at dksX11_count_6 16 rfl rfl)
theorem dX11_count_179 : decode cX11_count 179 = .ok (.istore_n 2, 1) := dk_61 (dk_at dksX11_count_6 17 rfl rfl)
theorem dX11_count_180 : decode cX11_count 180 = .ok (.iinc 3 1, 3) := dk_132 3 1 (dk_at dksX11_count_6 18 rfl rfl)
theorem dX11_count_183 : decode cX11_count 183 = .ok (.goto (-26), 3) := dk_167 255 230 (dk_at dksX11_count_6 21 rfl rfl)
theorem dX11_count_186 : decode cX11_count 186 = .ok (.iload_n 2, 1) := dk_28 (dk_at dksX11_count_7 0 rfl rfl)
theorem dX11_count_187 : decode cX11_count 187 = .ok (.ireturn, 1) := dk_172 (dk_at dksX11_count_7 1 rfl rfl)
theorem dX11_count_188 : decode cX11_count 188 = .ok (.iconst (-1), 1) := dk_2 (dk_at dksX11_count_7 2 rfl rfl)
theorem dX11_count_189 : decode cX11_count 189 = .ok (.ireturn, 1) := dk_172 (dk_at dksX11_count_7 3 rfl rfl)
abbrev cX11_row : ByteArray := prog_19_method_150_code
def yX11_row : MethodName := ⟨RX11, "row", "(III)I"⟩
def dkwX11_row_3 : List UInt8 := [9, 80, 132, 4, 1, 167, 255, 233, 3, 172]
abbrev dktX11_row_3 : List UInt8 := dkwX11_row_3 ++ []
def dkwX11_row_2 : List UInt8 := [27, 28, 79, 3, 54, 4, 21, 4, 16, 60, 162, 0, 22, 42, 180, 0, 58, 16, 60, 27, 104, 21, 4, 96]
abbrev dktX11_row_2 : List UInt8 := dkwX11_row_2 ++ dktX11_row_3
def dkwX11_row_1 : List UInt8 := [164, 0, 6, 16, 254, 172, 29, 156, 0, 6, 16, 253, 172, 42, 180, 0, 52, 27, 29, 79, 42, 180, 0, 55]
abbrev dktX11_row_1 : List UInt8 := dkwX11_row_1 ++ dktX11_row_2
def dkwX11_row_0 : List UInt8 := [27, 184, 1, 217, 153, 0, 21, 28, 133, 9, 20, 0, 242, 184, 0, 70, 153, 0, 9, 29, 16, 60]
abbrev dktX11_row_0 : List UInt8 := dkwX11_row_0 ++ dktX11_row_1
theorem dksX11_row_0 : cX11_row.data.toList.drop 0 = dktX11_row_0 := by decide +kernel
theorem dksX11_row_1 : cX11_row.data.toList.drop 22 = dktX11_row_1 := dk_seg dksX11_row_0 22 rfl rfl
theorem dksX11_row_2 : cX11_row.data.toList.drop 46 = dktX11_row_2 := dk_seg dksX11_row_1 24 rfl rfl
theorem dksX11_row_3 : cX11_row.data.toList.drop 70 = dktX11_row_3 := dk_seg dksX11_row_2 24 rfl rfl
theorem dX11_row_0 : decode cX11_row 0 = .ok (.iload_n 1, 1) := dk_27 (dk_at dksX11_row_0 0 rfl rfl)
theorem dX11_row_1 : decode cX11_row 1 = .ok (.invokestatic 473, 3) := dk_184 1 217 (dk_at dksX11_row_0 1 rfl rfl)
theorem dX11_row_4 : decode cX11_row 4 = .ok (.ifCond .eq 21, 3) := dk_153 0 21 (dk_at dksX11_row_0 4 rfl rfl)
theorem dX11_row_7 : decode cX11_row 7 = .ok (.iload_n 2, 1) := dk_28 (dk_at dksX11_row_0 7 rfl rfl)
theorem dX11_row_8 : decode cX11_row 8 = .ok (.i2l, 1) := dk_133 (dk_at dksX11_row_0 8 rfl rfl)
theorem dX11_row_9 : decode cX11_row 9 = .ok (.lconst 0, 1) := dk_9 (dk_at dksX11_row_0 9 rfl rfl)
theorem dX11_row_10 : decode cX11_row 10 = .ok (.ldc2_w 242, 3) := dk_20 0 242 (dk_at dksX11_row_0 10 rfl rfl)
theorem dX11_row_13 : decode cX11_row 13 = .ok (.invokestatic 70, 3) := dk_184 0 70 (dk_at dksX11_row_0 13 rfl rfl)
theorem dX11_row_16 : decode cX11_row 16 = .ok (.ifCond .eq 9, 3) := dk_153 0 9 (dk_at dksX11_row_0 16 rfl rfl)
theorem dX11_row_19 : decode cX11_row 19 = .ok (.iload_n 3, 1) := dk_29 (dk_at dksX11_row_0 19 rfl rfl)
theorem dX11_row_20 : decode cX11_row 20 = .ok (.bipush 60, 2) := dk_16 60 (dk_at dksX11_row_0 20 rfl rfl)
theorem dX11_row_22 : decode cX11_row 22 = .ok (.if_icmp .le 6, 3) := dk_164 0 6 (dk_at dksX11_row_1 0 rfl rfl)
theorem dX11_row_25 : decode cX11_row 25 = .ok (.bipush (-2), 2) := dk_16 254 (dk_at dksX11_row_1 3 rfl rfl)
theorem dX11_row_27 : decode cX11_row 27 = .ok (.ireturn, 1) := dk_172 (dk_at dksX11_row_1 5 rfl rfl)
theorem dX11_row_28 : decode cX11_row 28 = .ok (.iload_n 3, 1) := dk_29 (dk_at dksX11_row_1 6 rfl rfl)
theorem dX11_row_29 : decode cX11_row 29 = .ok (.ifCond .ge 6, 3) := dk_156 0 6 (dk_at dksX11_row_1 7 rfl rfl)
theorem dX11_row_32 : decode cX11_row 32 = .ok (.bipush (-3), 2) := dk_16 253 (dk_at dksX11_row_1 10 rfl rfl)
theorem dX11_row_34 : decode cX11_row 34 = .ok (.ireturn, 1) := dk_172 (dk_at dksX11_row_1 12 rfl rfl)
theorem dX11_row_35 : decode cX11_row 35 = .ok (.aload_n 0, 1) := dk_42 (dk_at dksX11_row_1 13 rfl rfl)
theorem dX11_row_36 : decode cX11_row 36 = .ok (.getfield 52, 3) := dk_180 0 52 (dk_at dksX11_row_1 14 rfl rfl)
theorem dX11_row_39 : decode cX11_row 39 = .ok (.iload_n 1, 1) := dk_27 (dk_at dksX11_row_1 17 rfl rfl)
theorem dX11_row_40 : decode cX11_row 40 = .ok (.iload_n 3, 1) := dk_29 (dk_at dksX11_row_1 18 rfl rfl)
theorem dX11_row_41 : decode cX11_row 41 = .ok (.iastore, 1) := dk_79 (dk_at dksX11_row_1 19 rfl rfl)
theorem dX11_row_42 : decode cX11_row 42 = .ok (.aload_n 0, 1) := dk_42 (dk_at dksX11_row_1 20 rfl rfl)
theorem dX11_row_43 : decode cX11_row 43 = .ok (.getfield 55, 3) := dk_180 0 55 (dk_at dksX11_row_1 21 rfl rfl)
theorem dX11_row_46 : decode cX11_row 46 = .ok (.iload_n 1, 1) := dk_27 (dk_at dksX11_row_2 0 rfl rfl)
theorem dX11_row_47 : decode cX11_row 47 = .ok (.iload_n 2, 1) := dk_28 (dk_at dksX11_row_2 1 rfl rfl)
theorem dX11_row_48 : decode cX11_row 48 = .ok (.iastore, 1) := dk_79 (dk_at dksX11_row_2 2 rfl rfl)
theorem dX11_row_49 : decode cX11_row 49 = .ok (.iconst 0, 1) := dk_3 (dk_at dksX11_row_2 3 rfl rfl)
theorem dX11_row_50 : decode cX11_row 50 = .ok (.istore 4, 2) := dk_54 4 (dk_at dksX11_row_2 4 rfl rfl)
theorem dX11_row_52 : decode cX11_row 52 = .ok (.iload 4, 2) := dk_21 4 (dk_at dksX11_row_2 6 rfl rfl)
theorem dX11_row_54 : decode cX11_row 54 = .ok (.bipush 60, 2) := dk_16 60 (dk_at dksX11_row_2 8 rfl rfl)
theorem dX11_row_56 : decode cX11_row 56 = .ok (.if_icmp .ge 22, 3) := dk_162 0 22 (dk_at dksX11_row_2 10 rfl rfl)
theorem dX11_row_59 : decode cX11_row 59 = .ok (.aload_n 0, 1) := dk_42 (dk_at dksX11_row_2 13 rfl rfl)
theorem dX11_row_60 : decode cX11_row 60 = .ok (.getfield 58, 3) := dk_180 0 58 (dk_at dksX11_row_2 14 rfl rfl)
theorem dX11_row_63 : decode cX11_row 63 = .ok (.bipush 60, 2) := dk_16 60 (dk_at dksX11_row_2 17 rfl rfl)
theorem dX11_row_65 : decode cX11_row 65 = .ok (.iload_n 1, 1) := dk_27 (dk_at dksX11_row_2 19 rfl rfl)
theorem dX11_row_66 : decode cX11_row 66 = .ok (.imul, 1) := dk_104 (dk_at dksX11_row_2 20 rfl rfl)
theorem dX11_row_67 : decode cX11_row 67 = .ok (.iload 4, 2) := dk_21 4 (dk_at dksX11_row_2 21 rfl rfl)
theorem dX11_row_69 : decode cX11_row 69 = .ok (.iadd, 1) := dk_96 (dk_at dksX11_row_2 23 rfl rfl)
theorem dX11_row_70 : decode cX11_row 70 = .ok (.lconst 0, 1) := dk_9 (dk_at dksX11_row_3 0 rfl rfl)
theorem dX11_row_71 : decode cX11_row 71 = .ok (.lastore, 1) := dk_80 (dk_at dksX11_row_3 1 rfl rfl)
theorem dX11_row_72 : decode cX11_row 72 = .ok (.iinc 4 1, 3) := dk_132 4 1 (dk_at dksX11_row_3 2 rfl rfl)
theorem dX11_row_75 : decode cX11_row 75 = .ok (.goto (-23), 3) := dk_167 255 233 (dk_at dksX11_row_3 5 rfl rfl)
theorem dX11_row_78 : decode cX11_row 78 = .ok (.iconst 0, 1) := dk_3 (dk_at dksX11_row_3 8 rfl rfl)
theorem dX11_row_79 : decode cX11_row 79 = .ok (.ireturn, 1) := dk_172 (dk_at dksX11_row_3 9 rfl rfl)
abbrev cX11_isSlot : ByteArray := prog_19_method_148_code
def yX11_isSlot : MethodName := ⟨RX11, "isSlot", "(I)Z"⟩
def dkwX11_isSlot_0 : List UInt8 := [26, 133, 9, 20, 0, 242, 184, 0, 70, 172]
abbrev dktX11_isSlot_0 : List UInt8 := dkwX11_isSlot_0 ++ []
theorem dksX11_isSlot_0 : cX11_isSlot.data.toList.drop 0 = dktX11_isSlot_0 := by decide +kernel
theorem dX11_isSlot_0 : decode cX11_isSlot 0 = .ok (.iload_n 0, 1) := dk_26 (dk_at dksX11_isSlot_0 0 rfl rfl)
theorem dX11_isSlot_1 : decode cX11_isSlot 1 = .ok (.i2l, 1) := dk_133 (dk_at dksX11_isSlot_0 1 rfl rfl)
theorem dX11_isSlot_2 : decode cX11_isSlot 2 = .ok (.lconst 0, 1) := dk_9 (dk_at dksX11_isSlot_0 2 rfl rfl)
theorem dX11_isSlot_3 : decode cX11_isSlot 3 = .ok (.ldc2_w 242, 3) := dk_20 0 242 (dk_at dksX11_isSlot_0 3 rfl rfl)
theorem dX11_isSlot_6 : decode cX11_isSlot 6 = .ok (.invokestatic 70, 3) := dk_184 0 70 (dk_at dksX11_isSlot_0 6 rfl rfl)
theorem dX11_isSlot_9 : decode cX11_isSlot 9 = .ok (.ireturn, 1) := dk_172 (dk_at dksX11_isSlot_0 9 rfl rfl)
abbrev cX11_write : ByteArray := prog_19_method_151_code
def yX11_write : MethodName := ⟨RX11, "write", "(IIJ)I"⟩
def dkwX11_write_2 : List UInt8 := [16, 60, 27, 104, 28, 96, 33, 42, 180, 0, 55, 27, 46, 184, 1, 220, 80, 3, 172]
abbrev dktX11_write_2 : List UInt8 := dkwX11_write_2 ++ []
def dkwX11_write_1 : List UInt8 := [133, 9, 42, 180, 0, 52, 27, 46, 4, 100, 133, 184, 0, 70, 154, 0, 6, 16, 249, 172, 42, 180, 0, 58]
abbrev dktX11_write_1 : List UInt8 := dkwX11_write_1 ++ dktX11_write_2
def dkwX11_write_0 : List UInt8 := [27, 184, 1, 217, 154, 0, 6, 16, 254, 172, 42, 180, 0, 52, 27, 46, 2, 160, 0, 6, 16, 250, 172, 28]
abbrev dktX11_write_0 : List UInt8 := dkwX11_write_0 ++ dktX11_write_1
theorem dksX11_write_0 : cX11_write.data.toList.drop 0 = dktX11_write_0 := by decide +kernel
theorem dksX11_write_1 : cX11_write.data.toList.drop 24 = dktX11_write_1 := dk_seg dksX11_write_0 24 rfl rfl
theorem dksX11_write_2 : cX11_write.data.toList.drop 48 = dktX11_write_2 := dk_seg dksX11_write_1 24 rfl rfl
theorem dX11_write_0 : decode cX11_write 0 = .ok (.iload_n 1, 1) := dk_27 (dk_at dksX11_write_0 0 rfl rfl)
theorem dX11_write_1 : decode cX11_write 1 = .ok (.invokestatic 473, 3) := dk_184 1 217 (dk_at dksX11_write_0 1 rfl rfl)
theorem dX11_write_4 : decode cX11_write 4 = .ok (.ifCond .ne 6, 3) := dk_154 0 6 (dk_at dksX11_write_0 4 rfl rfl)
theorem dX11_write_7 : decode cX11_write 7 = .ok (.bipush (-2), 2) := dk_16 254 (dk_at dksX11_write_0 7 rfl rfl)
theorem dX11_write_9 : decode cX11_write 9 = .ok (.ireturn, 1) := dk_172 (dk_at dksX11_write_0 9 rfl rfl)
theorem dX11_write_10 : decode cX11_write 10 = .ok (.aload_n 0, 1) := dk_42 (dk_at dksX11_write_0 10 rfl rfl)
theorem dX11_write_11 : decode cX11_write 11 = .ok (.getfield 52, 3) := dk_180 0 52 (dk_at dksX11_write_0 11 rfl rfl)
theorem dX11_write_14 : decode cX11_write 14 = .ok (.iload_n 1, 1) := dk_27 (dk_at dksX11_write_0 14 rfl rfl)
theorem dX11_write_15 : decode cX11_write 15 = .ok (.iaload, 1) := dk_46 (dk_at dksX11_write_0 15 rfl rfl)
theorem dX11_write_16 : decode cX11_write 16 = .ok (.iconst (-1), 1) := dk_2 (dk_at dksX11_write_0 16 rfl rfl)
theorem dX11_write_17 : decode cX11_write 17 = .ok (.if_icmp .ne 6, 3) := dk_160 0 6 (dk_at dksX11_write_0 17 rfl rfl)
theorem dX11_write_20 : decode cX11_write 20 = .ok (.bipush (-6), 2) := dk_16 250 (dk_at dksX11_write_0 20 rfl rfl)
theorem dX11_write_22 : decode cX11_write 22 = .ok (.ireturn, 1) := dk_172 (dk_at dksX11_write_0 22 rfl rfl)
theorem dX11_write_23 : decode cX11_write 23 = .ok (.iload_n 2, 1) := dk_28 (dk_at dksX11_write_0 23 rfl rfl)
theorem dX11_write_24 : decode cX11_write 24 = .ok (.i2l, 1) := dk_133 (dk_at dksX11_write_1 0 rfl rfl)
theorem dX11_write_25 : decode cX11_write 25 = .ok (.lconst 0, 1) := dk_9 (dk_at dksX11_write_1 1 rfl rfl)
theorem dX11_write_26 : decode cX11_write 26 = .ok (.aload_n 0, 1) := dk_42 (dk_at dksX11_write_1 2 rfl rfl)
theorem dX11_write_27 : decode cX11_write 27 = .ok (.getfield 52, 3) := dk_180 0 52 (dk_at dksX11_write_1 3 rfl rfl)
theorem dX11_write_30 : decode cX11_write 30 = .ok (.iload_n 1, 1) := dk_27 (dk_at dksX11_write_1 6 rfl rfl)
theorem dX11_write_31 : decode cX11_write 31 = .ok (.iaload, 1) := dk_46 (dk_at dksX11_write_1 7 rfl rfl)
theorem dX11_write_32 : decode cX11_write 32 = .ok (.iconst 1, 1) := dk_4 (dk_at dksX11_write_1 8 rfl rfl)
theorem dX11_write_33 : decode cX11_write 33 = .ok (.isub, 1) := dk_100 (dk_at dksX11_write_1 9 rfl rfl)
theorem dX11_write_34 : decode cX11_write 34 = .ok (.i2l, 1) := dk_133 (dk_at dksX11_write_1 10 rfl rfl)
theorem dX11_write_35 : decode cX11_write 35 = .ok (.invokestatic 70, 3) := dk_184 0 70 (dk_at dksX11_write_1 11 rfl rfl)
theorem dX11_write_38 : decode cX11_write 38 = .ok (.ifCond .ne 6, 3) := dk_154 0 6 (dk_at dksX11_write_1 14 rfl rfl)
theorem dX11_write_41 : decode cX11_write 41 = .ok (.bipush (-7), 2) := dk_16 249 (dk_at dksX11_write_1 17 rfl rfl)
theorem dX11_write_43 : decode cX11_write 43 = .ok (.ireturn, 1) := dk_172 (dk_at dksX11_write_1 19 rfl rfl)
theorem dX11_write_44 : decode cX11_write 44 = .ok (.aload_n 0, 1) := dk_42 (dk_at dksX11_write_1 20 rfl rfl)
theorem dX11_write_45 : decode cX11_write 45 = .ok (.getfield 58, 3) := dk_180 0 58 (dk_at dksX11_write_1 21 rfl rfl)
theorem dX11_write_48 : decode cX11_write 48 = .ok (.bipush 60, 2) := dk_16 60 (dk_at dksX11_write_2 0 rfl rfl)
theorem dX11_write_50 : decode cX11_write 50 = .ok (.iload_n 1, 1) := dk_27 (dk_at dksX11_write_2 2 rfl rfl)
theorem dX11_write_51 : decode cX11_write 51 = .ok (.imul, 1) := dk_104 (dk_at dksX11_write_2 3 rfl rfl)
theorem dX11_write_52 : decode cX11_write 52 = .ok (.iload_n 2, 1) := dk_28 (dk_at dksX11_write_2 4 rfl rfl)
theorem dX11_write_53 : decode cX11_write 53 = .ok (.iadd, 1) := dk_96 (dk_at dksX11_write_2 5 rfl rfl)
theorem dX11_write_54 : decode cX11_write 54 = .ok (.lload_n 3, 1) := dk_33 (dk_at dksX11_write_2 6 rfl rfl)
theorem dX11_write_55 : decode cX11_write 55 = .ok (.aload_n 0, 1) := dk_42 (dk_at dksX11_write_2 7 rfl rfl)
theorem dX11_write_56 : decode cX11_write 56 = .ok (.getfield 55, 3) := dk_180 0 55 (dk_at dksX11_write_2 8 rfl rfl)
theorem dX11_write_59 : decode cX11_write 59 = .ok (.iload_n 1, 1) := dk_27 (dk_at dksX11_write_2 11 rfl rfl)
theorem dX11_write_60 : decode cX11_write 60 = .ok (.iaload, 1) := dk_46 (dk_at dksX11_write_2 12 rfl rfl)
theorem dX11_write_61 : decode cX11_write 61 = .ok (.invokestatic 476, 3) := dk_184 1 220 (dk_at dksX11_write_2 13 rfl rfl)
theorem dX11_write_64 : decode cX11_write 64 = .ok (.lastore, 1) := dk_80 (dk_at dksX11_write_2 16 rfl rfl)
theorem dX11_write_65 : decode cX11_write 65 = .ok (.iconst 0, 1) := dk_3 (dk_at dksX11_write_2 17 rfl rfl)
theorem dX11_write_66 : decode cX11_write 66 = .ok (.ireturn, 1) := dk_172 (dk_at dksX11_write_2 18 rfl rfl)
abbrev cX11_cut : ByteArray := prog_19_method_149_code
def yX11_cut : MethodName := ⟨RX11, "cut", "(JI)J"⟩
def dkwX11_cut_0 : List UInt8 := [16, 64, 16, 8, 28, 120, 100, 62, 30, 29, 121, 29, 123, 173]
abbrev dktX11_cut_0 : List UInt8 := dkwX11_cut_0 ++ []
theorem dksX11_cut_0 : cX11_cut.data.toList.drop 0 = dktX11_cut_0 := by decide +kernel
theorem dX11_cut_0 : decode cX11_cut 0 = .ok (.bipush 64, 2) := dk_16 64 (dk_at dksX11_cut_0 0 rfl rfl)
theorem dX11_cut_2 : decode cX11_cut 2 = .ok (.bipush 8, 2) := dk_16 8 (dk_at dksX11_cut_0 2 rfl rfl)
theorem dX11_cut_4 : decode cX11_cut 4 = .ok (.iload_n 2, 1) := dk_28 (dk_at dksX11_cut_0 4 rfl rfl)
theorem dX11_cut_5 : decode cX11_cut 5 = .ok (.ishl, 1) := dk_120 (dk_at dksX11_cut_0 5 rfl rfl)
theorem dX11_cut_6 : decode cX11_cut 6 = .ok (.isub, 1) := dk_100 (dk_at dksX11_cut_0 6 rfl rfl)
theorem dX11_cut_7 : decode cX11_cut 7 = .ok (.istore_n 3, 1) := dk_62 (dk_at dksX11_cut_0 7 rfl rfl)
theorem dX11_cut_8 : decode cX11_cut 8 = .ok (.lload_n 0, 1) := dk_30 (dk_at dksX11_cut_0 8 rfl rfl)
theorem dX11_cut_9 : decode cX11_cut 9 = .ok (.iload_n 3, 1) := dk_29 (dk_at dksX11_cut_0 9 rfl rfl)
theorem dX11_cut_10 : decode cX11_cut 10 = .ok (.lshl, 1) := dk_121 (dk_at dksX11_cut_0 10 rfl rfl)
theorem dX11_cut_11 : decode cX11_cut 11 = .ok (.iload_n 3, 1) := dk_29 (dk_at dksX11_cut_0 11 rfl rfl)
theorem dX11_cut_12 : decode cX11_cut 12 = .ok (.lshr, 1) := dk_123 (dk_at dksX11_cut_0 12 rfl rfl)
theorem dX11_cut_13 : decode cX11_cut 13 = .ok (.lreturn, 1) := dk_173 (dk_at dksX11_cut_0 13 rfl rfl)
abbrev cX11_paste : ByteArray := prog_19_method_152_code
def yX11_paste : MethodName := ⟨RX11, "paste", "(IIIII)I"⟩
def dkwX11_paste_7 : List UInt8 := [29, 104, 21, 4, 96, 21, 6, 96, 42, 180, 0, 62, 21, 6, 47, 80, 132, 6, 1, 167, 255, 224, 3, 172]
abbrev dktX11_paste_7 : List UInt8 := dkwX11_paste_7 ++ []
def dkwX11_paste_6 : List UInt8 := [47, 80, 132, 6, 1, 167, 255, 225, 3, 54, 6, 21, 6, 21, 5, 162, 0, 31, 42, 180, 0, 58, 16, 60]
abbrev dktX11_paste_6 : List UInt8 := dkwX11_paste_6 ++ dktX11_paste_7
def dkwX11_paste_5 : List UInt8 := [21, 5, 162, 0, 30, 42, 180, 0, 62, 21, 6, 42, 180, 0, 58, 16, 60, 27, 104, 28, 96, 21, 6, 96]
abbrev dktX11_paste_5 : List UInt8 := dkwX11_paste_5 ++ dktX11_paste_6
def dkwX11_paste_4 : List UInt8 := [21, 5, 133, 97, 42, 180, 0, 52, 29, 46, 133, 148, 158, 0, 6, 16, 249, 172, 3, 54, 6, 21, 6]
abbrev dktX11_paste_4 : List UInt8 := dkwX11_paste_4 ++ dktX11_paste_5
def dkwX11_paste_3 : List UInt8 := [155, 0, 38, 28, 133, 21, 5, 133, 97, 42, 180, 0, 52, 27, 46, 133, 148, 157, 0, 21, 21, 4, 133]
abbrev dktX11_paste_3 : List UInt8 := dkwX11_paste_3 ++ dktX11_paste_4
def dkwX11_paste_2 : List UInt8 := [180, 0, 55, 29, 46, 159, 0, 6, 16, 248, 172, 28, 155, 0, 48, 21, 4, 155, 0, 43, 21, 5]
abbrev dktX11_paste_2 : List UInt8 := dkwX11_paste_2 ++ dktX11_paste_3
def dkwX11_paste_1 : List UInt8 := [159, 0, 13, 42, 180, 0, 52, 29, 46, 2, 160, 0, 6, 16, 250, 172, 42, 180, 0, 55, 27, 46, 42]
abbrev dktX11_paste_1 : List UInt8 := dkwX11_paste_1 ++ dktX11_paste_2
def dkwX11_paste_0 : List UInt8 := [27, 184, 1, 217, 153, 0, 10, 29, 184, 1, 217, 154, 0, 6, 16, 254, 172, 42, 180, 0, 52, 27, 46, 2]
abbrev dktX11_paste_0 : List UInt8 := dkwX11_paste_0 ++ dktX11_paste_1
theorem dksX11_paste_0 : cX11_paste.data.toList.drop 0 = dktX11_paste_0 := by decide +kernel
theorem dksX11_paste_1 : cX11_paste.data.toList.drop 24 = dktX11_paste_1 := dk_seg dksX11_paste_0 24 rfl rfl
theorem dksX11_paste_2 : cX11_paste.data.toList.drop 47 = dktX11_paste_2 := dk_seg dksX11_paste_1 23 rfl rfl
theorem dksX11_paste_3 : cX11_paste.data.toList.drop 69 = dktX11_paste_3 := dk_seg dksX11_paste_2 22 rfl rfl
theorem dksX11_paste_4 : cX11_paste.data.toList.drop 92 = dktX11_paste_4 := dk_seg dksX11_paste_3 23 rfl rfl
theorem dksX11_paste_5 : cX11_paste.data.toList.drop 115 = dktX11_paste_5 := dk_seg dksX11_paste_4 23 rfl rfl
theorem dksX11_paste_6 : cX11_paste.data.toList.drop 139 = dktX11_paste_6 := dk_seg dksX11_paste_5 24 rfl rfl
theorem dksX11_paste_7 : cX11_paste.data.toList.drop 163 = dktX11_paste_7 := dk_seg dksX11_paste_6 24 rfl rfl
theorem dX11_paste_0 : decode cX11_paste 0 = .ok (.iload_n 1, 1) := dk_27 (dk_at dksX11_paste_0 0 rfl rfl)
theorem dX11_paste_1 : decode cX11_paste 1 = .ok (.invokestatic 473, 3) := dk_184 1 217 (dk_at dksX11_paste_0 1 rfl rfl)
theorem dX11_paste_4 : decode cX11_paste 4 = .ok (.ifCond .eq 10, 3) := dk_153 0 10 (dk_at dksX11_paste_0 4 rfl rfl)
theorem dX11_paste_7 : decode cX11_paste 7 = .ok (.iload_n 3, 1) := dk_29 (dk_at dksX11_paste_0 7 rfl rfl)
theorem dX11_paste_8 : decode cX11_paste 8 = .ok (.invokestatic 473, 3) := dk_184 1 217 (dk_at dksX11_paste_0 8 rfl rfl)
theorem dX11_paste_11 : decode cX11_paste 11 = .ok (.ifCond .ne 6, 3) := dk_154 0 6 (dk_at dksX11_paste_0 11 rfl rfl)
theorem dX11_paste_14 : decode cX11_paste 14 = .ok (.bipush (-2), 2) := dk_16 254 (dk_at dksX11_paste_0 14 rfl rfl)
theorem dX11_paste_16 : decode cX11_paste 16 = .ok (.ireturn, 1) := dk_172 (dk_at dksX11_paste_0 16 rfl rfl)
theorem dX11_paste_17 : decode cX11_paste 17 = .ok (.aload_n 0, 1) := dk_42 (dk_at dksX11_paste_0 17 rfl rfl)
theorem dX11_paste_18 : decode cX11_paste 18 = .ok (.getfield 52, 3) := dk_180 0 52 (dk_at dksX11_paste_0 18 rfl rfl)
theorem dX11_paste_21 : decode cX11_paste 21 = .ok (.iload_n 1, 1) := dk_27 (dk_at dksX11_paste_0 21 rfl rfl)
theorem dX11_paste_22 : decode cX11_paste 22 = .ok (.iaload, 1) := dk_46 (dk_at dksX11_paste_0 22 rfl rfl)
theorem dX11_paste_23 : decode cX11_paste 23 = .ok (.iconst (-1), 1) := dk_2 (dk_at dksX11_paste_0 23 rfl rfl)
theorem dX11_paste_24 : decode cX11_paste 24 = .ok (.if_icmp .eq 13, 3) := dk_159 0 13 (dk_at dksX11_paste_1 0 rfl rfl)
theorem dX11_paste_27 : decode cX11_paste 27 = .ok (.aload_n 0, 1) := dk_42 (dk_at dksX11_paste_1 3 rfl rfl)
theorem dX11_paste_28 : decode cX11_paste 28 = .ok (.getfield 52, 3) := dk_180 0 52 (dk_at dksX11_paste_1 4 rfl rfl)
theorem dX11_paste_31 : decode cX11_paste 31 = .ok (.iload_n 3, 1) := dk_29 (dk_at dksX11_paste_1 7 rfl rfl)
theorem dX11_paste_32 : decode cX11_paste 32 = .ok (.iaload, 1) := dk_46 (dk_at dksX11_paste_1 8 rfl rfl)
theorem dX11_paste_33 : decode cX11_paste 33 = .ok (.iconst (-1), 1) := dk_2 (dk_at dksX11_paste_1 9 rfl rfl)
theorem dX11_paste_34 : decode cX11_paste 34 = .ok (.if_icmp .ne 6, 3) := dk_160 0 6 (dk_at dksX11_paste_1 10 rfl rfl)
theorem dX11_paste_37 : decode cX11_paste 37 = .ok (.bipush (-6), 2) := dk_16 250 (dk_at dksX11_paste_1 13 rfl rfl)
theorem dX11_paste_39 : decode cX11_paste 39 = .ok (.ireturn, 1) := dk_172 (dk_at dksX11_paste_1 15 rfl rfl)
theorem dX11_paste_40 : decode cX11_paste 40 = .ok (.aload_n 0, 1) := dk_42 (dk_at dksX11_paste_1 16 rfl rfl)
theorem dX11_paste_41 : decode cX11_paste 41 = .ok (.getfield 55, 3) := dk_180 0 55 (dk_at dksX11_paste_1 17 rfl rfl)
theorem dX11_paste_44 : decode cX11_paste 44 = .ok (.iload_n 1, 1) := dk_27 (dk_at dksX11_paste_1 20 rfl rfl)
theorem dX11_paste_45 : decode cX11_paste 45 = .ok (.iaload, 1) := dk_46 (dk_at dksX11_paste_1 21 rfl rfl)
theorem dX11_paste_46 : decode cX11_paste 46 = .ok (.aload_n 0, 1) := dk_42 (dk_at dksX11_paste_1 22 rfl rfl)
theorem dX11_paste_47 : decode cX11_paste 47 = .ok (.getfield 55, 3) := dk_180 0 55 (dk_at dksX11_paste_2 0 rfl rfl)
theorem dX11_paste_50 : decode cX11_paste 50 = .ok (.iload_n 3, 1) := dk_29 (dk_at dksX11_paste_2 3 rfl rfl)
theorem dX11_paste_51 : decode cX11_paste 51 = .ok (.iaload, 1) := dk_46 (dk_at dksX11_paste_2 4 rfl rfl)
theorem dX11_paste_52 : decode cX11_paste 52 = .ok (.if_icmp .eq 6, 3) := dk_159 0 6 (dk_at dksX11_paste_2 5 rfl rfl)
theorem dX11_paste_55 : decode cX11_paste 55 = .ok (.bipush (-8), 2) := dk_16 248 (dk_at dksX11_paste_2 8 rfl rfl)
theorem dX11_paste_57 : decode cX11_paste 57 = .ok (.ireturn, 1) := dk_172 (dk_at dksX11_paste_2 10 rfl rfl)
theorem dX11_paste_58 : decode cX11_paste 58 = .ok (.iload_n 2, 1) := dk_28 (dk_at dksX11_paste_2 11 rfl rfl)
theorem dX11_paste_59 : decode cX11_paste 59 = .ok (.ifCond .lt 48, 3) := dk_155 0 48 (dk_at dksX11_paste_2 12 rfl rfl)
theorem dX11_paste_62 : decode cX11_paste 62 = .ok (.iload 4, 2) := dk_21 4 (dk_at dksX11_paste_2 15 rfl rfl)
theorem dX11_paste_64 : decode cX11_paste 64 = .ok (.ifCond .lt 43, 3) := dk_155 0 43 (dk_at dksX11_paste_2 17 rfl rfl)
theorem dX11_paste_67 : decode cX11_paste 67 = .ok (.iload 5, 2) := dk_21 5 (dk_at dksX11_paste_2 20 rfl rfl)
theorem dX11_paste_69 : decode cX11_paste 69 = .ok (.ifCond .lt 38, 3) := dk_155 0 38 (dk_at dksX11_paste_3 0 rfl rfl)
theorem dX11_paste_72 : decode cX11_paste 72 = .ok (.iload_n 2, 1) := dk_28 (dk_at dksX11_paste_3 3 rfl rfl)
theorem dX11_paste_73 : decode cX11_paste 73 = .ok (.i2l, 1) := dk_133 (dk_at dksX11_paste_3 4 rfl rfl)
theorem dX11_paste_74 : decode cX11_paste 74 = .ok (.iload 5, 2) := dk_21 5 (dk_at dksX11_paste_3 5 rfl rfl)
theorem dX11_paste_76 : decode cX11_paste 76 = .ok (.i2l, 1) := dk_133 (dk_at dksX11_paste_3 7 rfl rfl)
theorem dX11_paste_77 : decode cX11_paste 77 = .ok (.ladd, 1) := dk_97 (dk_at dksX11_paste_3 8 rfl rfl)
theorem dX11_paste_78 : decode cX11_paste 78 = .ok (.aload_n 0, 1) := dk_42 (dk_at dksX11_paste_3 9 rfl rfl)
theorem dX11_paste_79 : decode cX11_paste 79 = .ok (.getfield 52, 3) := dk_180 0 52 (dk_at dksX11_paste_3 10 rfl rfl)
theorem dX11_paste_82 : decode cX11_paste 82 = .ok (.iload_n 1, 1) := dk_27 (dk_at dksX11_paste_3 13 rfl rfl)
theorem dX11_paste_83 : decode cX11_paste 83 = .ok (.iaload, 1) := dk_46 (dk_at dksX11_paste_3 14 rfl rfl)
theorem dX11_paste_84 : decode cX11_paste 84 = .ok (.i2l, 1) := dk_133 (dk_at dksX11_paste_3 15 rfl rfl)
theorem dX11_paste_85 : decode cX11_paste 85 = .ok (.lcmp, 1) := dk_148 (dk_at dksX11_paste_3 16 rfl rfl)
theorem dX11_paste_86 : decode cX11_paste 86 = .ok (.ifCond .gt 21, 3) := dk_157 0 21 (dk_at dksX11_paste_3 17 rfl rfl)
theorem dX11_paste_89 : decode cX11_paste 89 = .ok (.iload 4, 2) := dk_21 4 (dk_at dksX11_paste_3 20 rfl rfl)
theorem dX11_paste_91 : decode cX11_paste 91 = .ok (.i2l, 1) := dk_133 (dk_at dksX11_paste_3 22 rfl rfl)
theorem dX11_paste_92 : decode cX11_paste 92 = .ok (.iload 5, 2) := dk_21 5 (dk_at dksX11_paste_4 0 rfl rfl)
theorem dX11_paste_94 : decode cX11_paste 94 = .ok (.i2l, 1) := dk_133 (dk_at dksX11_paste_4 2 rfl rfl)
theorem dX11_paste_95 : decode cX11_paste 95 = .ok (.ladd, 1) := dk_97 (dk_at dksX11_paste_4 3 rfl rfl)
theorem dX11_paste_96 : decode cX11_paste 96 = .ok (.aload_n 0, 1) := dk_42 (dk_at dksX11_paste_4 4 rfl rfl)
theorem dX11_paste_97 : decode cX11_paste 97 = .ok (.getfield 52, 3) := dk_180 0 52 (dk_at dksX11_paste_4 5 rfl rfl)
theorem dX11_paste_100 : decode cX11_paste 100 = .ok (.iload_n 3, 1) := dk_29 (dk_at dksX11_paste_4 8 rfl rfl)
theorem dX11_paste_101 : decode cX11_paste 101 = .ok (.iaload, 1) := dk_46 (dk_at dksX11_paste_4 9 rfl rfl)
theorem dX11_paste_102 : decode cX11_paste 102 = .ok (.i2l, 1) := dk_133 (dk_at dksX11_paste_4 10 rfl rfl)
theorem dX11_paste_103 : decode cX11_paste 103 = .ok (.lcmp, 1) := dk_148 (dk_at dksX11_paste_4 11 rfl rfl)
theorem dX11_paste_104 : decode cX11_paste 104 = .ok (.ifCond .le 6, 3) := dk_158 0 6 (dk_at dksX11_paste_4 12 rfl rfl)
theorem dX11_paste_107 : decode cX11_paste 107 = .ok (.bipush (-7), 2) := dk_16 249 (dk_at dksX11_paste_4 15 rfl rfl)
theorem dX11_paste_109 : decode cX11_paste 109 = .ok (.ireturn, 1) := dk_172 (dk_at dksX11_paste_4 17 rfl rfl)
theorem dX11_paste_110 : decode cX11_paste 110 = .ok (.iconst 0, 1) := dk_3 (dk_at dksX11_paste_4 18 rfl rfl)
theorem dX11_paste_111 : decode cX11_paste 111 = .ok (.istore 6, 2) := dk_54 6 (dk_at dksX11_paste_4 19 rfl rfl)
theorem dX11_paste_113 : decode cX11_paste 113 = .ok (.iload 6, 2) := dk_21 6 (dk_at dksX11_paste_4 21 rfl rfl)
theorem dX11_paste_115 : decode cX11_paste 115 = .ok (.iload 5, 2) := dk_21 5 (dk_at dksX11_paste_5 0 rfl rfl)
theorem dX11_paste_117 : decode cX11_paste 117 = .ok (.if_icmp .ge 30, 3) := dk_162 0 30 (dk_at dksX11_paste_5 2 rfl rfl)
theorem dX11_paste_120 : decode cX11_paste 120 = .ok (.aload_n 0, 1) := dk_42 (dk_at dksX11_paste_5 5 rfl rfl)
theorem dX11_paste_121 : decode cX11_paste 121 = .ok (.getfield 62, 3) := dk_180 0 62 (dk_at dksX11_paste_5 6 rfl rfl)
theorem dX11_paste_124 : decode cX11_paste 124 = .ok (.iload 6, 2) := dk_21 6 (dk_at dksX11_paste_5 9 rfl rfl)
theorem dX11_paste_126 : decode cX11_paste 126 = .ok (.aload_n 0, 1) := dk_42 (dk_at dksX11_paste_5 11 rfl rfl)
theorem dX11_paste_127 : decode cX11_paste 127 = .ok (.getfield 58, 3) := dk_180 0 58 (dk_at dksX11_paste_5 12 rfl rfl)
theorem dX11_paste_130 : decode cX11_paste 130 = .ok (.bipush 60, 2) := dk_16 60 (dk_at dksX11_paste_5 15 rfl rfl)
theorem dX11_paste_132 : decode cX11_paste 132 = .ok (.iload_n 1, 1) := dk_27 (dk_at dksX11_paste_5 17 rfl rfl)
theorem dX11_paste_133 : decode cX11_paste 133 = .ok (.imul, 1) := dk_104 (dk_at dksX11_paste_5 18 rfl rfl)
theorem dX11_paste_134 : decode cX11_paste 134 = .ok (.iload_n 2, 1) := dk_28 (dk_at dksX11_paste_5 19 rfl rfl)
theorem dX11_paste_135 : decode cX11_paste 135 = .ok (.iadd, 1) := dk_96 (dk_at dksX11_paste_5 20 rfl rfl)
theorem dX11_paste_136 : decode cX11_paste 136 = .ok (.iload 6, 2) := dk_21 6 (dk_at dksX11_paste_5 21 rfl rfl)
theorem dX11_paste_138 : decode cX11_paste 138 = .ok (.iadd, 1) := dk_96 (dk_at dksX11_paste_5 23 rfl rfl)
theorem dX11_paste_139 : decode cX11_paste 139 = .ok (.laload, 1) := dk_47 (dk_at dksX11_paste_6 0 rfl rfl)
theorem dX11_paste_140 : decode cX11_paste 140 = .ok (.lastore, 1) := dk_80 (dk_at dksX11_paste_6 1 rfl rfl)
theorem dX11_paste_141 : decode cX11_paste 141 = .ok (.iinc 6 1, 3) := dk_132 6 1 (dk_at dksX11_paste_6 2 rfl rfl)
theorem dX11_paste_144 : decode cX11_paste 144 = .ok (.goto (-31), 3) := dk_167 255 225 (dk_at dksX11_paste_6 5 rfl rfl)
theorem dX11_paste_147 : decode cX11_paste 147 = .ok (.iconst 0, 1) := dk_3 (dk_at dksX11_paste_6 8 rfl rfl)
theorem dX11_paste_148 : decode cX11_paste 148 = .ok (.istore 6, 2) := dk_54 6 (dk_at dksX11_paste_6 9 rfl rfl)
theorem dX11_paste_150 : decode cX11_paste 150 = .ok (.iload 6, 2) := dk_21 6 (dk_at dksX11_paste_6 11 rfl rfl)
theorem dX11_paste_152 : decode cX11_paste 152 = .ok (.iload 5, 2) := dk_21 5 (dk_at dksX11_paste_6 13 rfl rfl)
theorem dX11_paste_154 : decode cX11_paste 154 = .ok (.if_icmp .ge 31, 3) := dk_162 0 31 (dk_at dksX11_paste_6 15 rfl rfl)
theorem dX11_paste_157 : decode cX11_paste 157 = .ok (.aload_n 0, 1) := dk_42 (dk_at dksX11_paste_6 18 rfl rfl)
theorem dX11_paste_158 : decode cX11_paste 158 = .ok (.getfield 58, 3) := dk_180 0 58 (dk_at dksX11_paste_6 19 rfl rfl)
theorem dX11_paste_161 : decode cX11_paste 161 = .ok (.bipush 60, 2) := dk_16 60 (dk_at dksX11_paste_6 22 rfl rfl)
theorem dX11_paste_163 : decode cX11_paste 163 = .ok (.iload_n 3, 1) := dk_29 (dk_at dksX11_paste_7 0 rfl rfl)
theorem dX11_paste_164 : decode cX11_paste 164 = .ok (.imul, 1) := dk_104 (dk_at dksX11_paste_7 1 rfl rfl)
theorem dX11_paste_165 : decode cX11_paste 165 = .ok (.iload 4, 2) := dk_21 4 (dk_at dksX11_paste_7 2 rfl rfl)
theorem dX11_paste_167 : decode cX11_paste 167 = .ok (.iadd, 1) := dk_96 (dk_at dksX11_paste_7 4 rfl rfl)
theorem dX11_paste_168 : decode cX11_paste 168 = .ok (.iload 6, 2) := dk_21 6 (dk_at dksX11_paste_7 5 rfl rfl)
theorem dX11_paste_170 : decode cX11_paste 170 = .ok (.iadd, 1) := dk_96 (dk_at dksX11_paste_7 7 rfl rfl)
theorem dX11_paste_171 : decode cX11_paste 171 = .ok (.aload_n 0, 1) := dk_42 (dk_at dksX11_paste_7 8 rfl rfl)
theorem dX11_paste_172 : decode cX11_paste 172 = .ok (.getfield 62, 3) := dk_180 0 62 (dk_at dksX11_paste_7 9 rfl rfl)
theorem dX11_paste_175 : decode cX11_paste 175 = .ok (.iload 6, 2) := dk_21 6 (dk_at dksX11_paste_7 12 rfl rfl)
theorem dX11_paste_177 : decode cX11_paste 177 = .ok (.laload, 1) := dk_47 (dk_at dksX11_paste_7 14 rfl rfl)
theorem dX11_paste_178 : decode cX11_paste 178 = .ok (.lastore, 1) := dk_80 (dk_at dksX11_paste_7 15 rfl rfl)
theorem dX11_paste_179 : decode cX11_paste 179 = .ok (.iinc 6 1, 3) := dk_132 6 1 (dk_at dksX11_paste_7 16 rfl rfl)
theorem dX11_paste_182 : decode cX11_paste 182 = .ok (.goto (-32), 3) := dk_167 255 224 (dk_at dksX11_paste_7 19 rfl rfl)
theorem dX11_paste_185 : decode cX11_paste 185 = .ok (.iconst 0, 1) := dk_3 (dk_at dksX11_paste_7 22 rfl rfl)
theorem dX11_paste_186 : decode cX11_paste 186 = .ok (.ireturn, 1) := dk_172 (dk_at dksX11_paste_7 23 rfl rfl)
theorem q148 : (Jvm.Cond.initialized "WarByHoursModel") ∈ lw_all := lw_g (lw_at lw_m1 15 rfl) rfl
theorem q974 : (Jvm.Cond.selects "WarByHoursModel" ({ cls := "java/lang/Object", name := "getClass", desc := "()Ljava/lang/Class;" } : Jvm.MethodName) ({ cls := "java/lang/Object", name := "getClass", desc := "()Ljava/lang/Class;" } : Jvm.MethodName)) ∈ lw_all := lw_g (lw_at lw_m4 121 rfl) rfl
theorem q1843 : (Jvm.Cond.instantiable "WarByHoursModel" (32 : Nat)) ∈ lw_all := lw_g (lw_at lw_m8 30 rfl) rfl
theorem q1845 : (Jvm.Cond.instanceMethod ({ cls := "WarByHoursModel", name := "<init>", desc := "()V" } : Jvm.MethodName)) ∈ lw_all := lw_g (lw_at lw_m8 32 rfl) rfl
theorem q1846 : (Jvm.Cond.code ({ cls := "WarByHoursModel", name := "<init>", desc := "()V" } : Jvm.MethodName) prog_19_method_1_code (1 : Nat) (Option.none : Option Jvm.ClassFile.FieldType)) ∈ lw_all := lw_g (lw_at lw_m8 33 rfl) rfl
theorem q1847 : (Jvm.Cond.methodLink "WarByHoursModel" (3 : Nat) ({ cls := "java/lang/Object", name := "<init>", desc := "()V" } : Jvm.MethodName)) ∈ lw_all := lw_g (lw_at lw_m8 34 rfl) rfl
theorem q1848 : (Jvm.Cond.fieldLink "WarByHoursModel" (9 : Nat) "WarByHoursModel" "world" "[I") ∈ lw_all := lw_g (lw_at lw_m8 35 rfl) rfl
theorem q1849 : (Jvm.Cond.fieldLink "WarByHoursModel" (13 : Nat) "WarByHoursModel" "images" "[I") ∈ lw_all := lw_g (lw_at lw_m8 36 rfl) rfl
theorem q1850 : (Jvm.Cond.fieldLink "WarByHoursModel" (16 : Nat) "WarByHoursModel" "hasImage" "[Z") ∈ lw_all := lw_g (lw_at lw_m8 37 rfl) rfl
theorem q1851 : (Jvm.Cond.fieldLink "WarByHoursModel" (20 : Nat) "WarByHoursModel" "tape" "[B") ∈ lw_all := lw_g (lw_at lw_m8 38 rfl) rfl
theorem q1852 : (Jvm.Cond.fieldLink "WarByHoursModel" (89 : Nat) "WarByHoursModel" "taped" "I") ∈ lw_all := lw_g (lw_at lw_m8 39 rfl) rfl
theorem q1853 : (Jvm.Cond.fieldLink "WarByHoursModel" (24 : Nat) "WarByHoursModel" "five" "[I") ∈ lw_all := lw_g (lw_at lw_m8 40 rfl) rfl
theorem q1854 : (Jvm.Cond.fieldLink "WarByHoursModel" (92 : Nat) "WarByHoursModel" "size" "I") ∈ lw_all := lw_g (lw_at lw_m8 41 rfl) rfl
theorem q1855 : (Jvm.Cond.fieldLink "WarByHoursModel" (95 : Nat) "WarByHoursModel" "at" "I") ∈ lw_all := lw_g (lw_at lw_m8 42 rfl) rfl
theorem q1856 : (Jvm.Cond.fieldLink "WarByHoursModel" (102 : Nat) "WarByHoursModel" "from" "I") ∈ lw_all := lw_g (lw_at lw_m8 43 rfl) rfl
theorem q1857 : (Jvm.Cond.fieldLink "WarByHoursModel" (105 : Nat) "WarByHoursModel" "token" "I") ∈ lw_all := lw_g (lw_at lw_m8 44 rfl) rfl
theorem q1858 : (Jvm.Cond.fieldLink "WarByHoursModel" (116 : Nat) "WarByHoursModel" "value" "I") ∈ lw_all := lw_g (lw_at lw_m8 45 rfl) rfl
theorem q1859 : (Jvm.Cond.fieldLink "WarByHoursModel" (125 : Nat) "WarByHoursModel" "faultKind" "I") ∈ lw_all := lw_g (lw_at lw_m8 46 rfl) rfl
theorem q1860 : (Jvm.Cond.fieldLink "WarByHoursModel" (27 : Nat) "WarByHoursModel" "faultPlace" "I") ∈ lw_all := lw_g (lw_at lw_m8 47 rfl) rfl
theorem q1861 : (Jvm.Cond.fieldLink "WarByHoursModel" (31 : Nat) "WarByHoursModel" "fresh" "[I") ∈ lw_all := lw_g (lw_at lw_m8 48 rfl) rfl
theorem q1862 : (Jvm.Cond.fieldLink "WarByHoursModel" (34 : Nat) "WarByHoursModel" "front" "[I") ∈ lw_all := lw_g (lw_at lw_m8 49 rfl) rfl
theorem q1863 : (Jvm.Cond.fieldLink "WarByHoursModel" (277 : Nat) "WarByHoursModel" "worstSet" "I") ∈ lw_all := lw_g (lw_at lw_m8 50 rfl) rfl
theorem q1864 : (Jvm.Cond.fieldLink "WarByHoursModel" (37 : Nat) "WarByHoursModel" "winners" "[I") ∈ lw_all := lw_g (lw_at lw_m8 51 rfl) rfl
theorem q1865 : (Jvm.Cond.fieldLink "WarByHoursModel" (311 : Nat) "WarByHoursModel" "leastPrice" "I") ∈ lw_all := lw_g (lw_at lw_m8 52 rfl) rfl
theorem q1866 : (Jvm.Cond.fieldLink "WarByHoursModel" (308 : Nat) "WarByHoursModel" "leastSet" "I") ∈ lw_all := lw_g (lw_at lw_m8 53 rfl) rfl
theorem q1867 : (Jvm.Cond.fieldLink "WarByHoursModel" (348 : Nat) "WarByHoursModel" "guardPrice" "I") ∈ lw_all := lw_g (lw_at lw_m8 54 rfl) rfl
theorem q1868 : (Jvm.Cond.fieldLink "WarByHoursModel" (40 : Nat) "WarByHoursModel" "fronts" "[I") ∈ lw_all := lw_g (lw_at lw_m8 55 rfl) rfl
theorem q1869 : (Jvm.Cond.fieldLink "WarByHoursModel" (363 : Nat) "WarByHoursModel" "spoiltSet" "I") ∈ lw_all := lw_g (lw_at lw_m8 56 rfl) rfl
theorem q1870 : (Jvm.Cond.fieldLink "WarByHoursModel" (43 : Nat) "WarByHoursModel" "put" "[I") ∈ lw_all := lw_g (lw_at lw_m8 57 rfl) rfl
theorem q1871 : (Jvm.Cond.fieldLink "WarByHoursModel" (46 : Nat) "WarByHoursModel" "firstPut" "[I") ∈ lw_all := lw_g (lw_at lw_m8 58 rfl) rfl
theorem q1872 : (Jvm.Cond.fieldLink "WarByHoursModel" (49 : Nat) "WarByHoursModel" "firstReply" "[I") ∈ lw_all := lw_g (lw_at lw_m8 59 rfl) rfl
theorem q1873 : (Jvm.Cond.fieldLink "WarByHoursModel" (419 : Nat) "WarByHoursModel" "watchWorst" "I") ∈ lw_all := lw_g (lw_at lw_m8 60 rfl) rfl
theorem q1874 : (Jvm.Cond.fieldLink "WarByHoursModel" (441 : Nat) "WarByHoursModel" "grantSet" "I") ∈ lw_all := lw_g (lw_at lw_m8 61 rfl) rfl
theorem q1875 : (Jvm.Cond.fieldLink "WarByHoursModel" (52 : Nat) "WarByHoursModel" "many" "[I") ∈ lw_all := lw_g (lw_at lw_m8 62 rfl) rfl
theorem q1876 : (Jvm.Cond.fieldLink "WarByHoursModel" (55 : Nat) "WarByHoursModel" "width" "[I") ∈ lw_all := lw_g (lw_at lw_m8 63 rfl) rfl
theorem q1877 : (Jvm.Cond.fieldLink "WarByHoursModel" (58 : Nat) "WarByHoursModel" "numbers" "[J") ∈ lw_all := lw_g (lw_at lw_m8 64 rfl) rfl
theorem q1878 : (Jvm.Cond.fieldLink "WarByHoursModel" (62 : Nat) "WarByHoursModel" "moving" "[J") ∈ lw_all := lw_g (lw_at lw_m8 65 rfl) rfl
theorem q1879 : (Jvm.Cond.lays "WarByHoursModel" "WarByHoursModel" "thrown" "I") ∈ lw_all := lw_g (lw_at lw_m8 66 rfl) rfl
theorem q1880 : (Jvm.Cond.soleField "WarByHoursModel" "thrown") ∈ lw_all := lw_g (lw_at lw_m8 67 rfl) rfl
theorem q1881 : (Jvm.Cond.laysFinal "WarByHoursModel" "WarByHoursModel" "world" "[I") ∈ lw_all := lw_g (lw_at lw_m8 68 rfl) rfl
theorem q1882 : (Jvm.Cond.soleField "WarByHoursModel" "world") ∈ lw_all := lw_g (lw_at lw_m8 69 rfl) rfl
theorem q1883 : (Jvm.Cond.laysFinal "WarByHoursModel" "WarByHoursModel" "images" "[I") ∈ lw_all := lw_g (lw_at lw_m8 70 rfl) rfl
theorem q1884 : (Jvm.Cond.soleField "WarByHoursModel" "images") ∈ lw_all := lw_g (lw_at lw_m8 71 rfl) rfl
theorem q1885 : (Jvm.Cond.laysFinal "WarByHoursModel" "WarByHoursModel" "hasImage" "[Z") ∈ lw_all := lw_g (lw_at lw_m8 72 rfl) rfl
theorem q1886 : (Jvm.Cond.soleField "WarByHoursModel" "hasImage") ∈ lw_all := lw_g (lw_at lw_m8 73 rfl) rfl
theorem q1887 : (Jvm.Cond.laysFinal "WarByHoursModel" "WarByHoursModel" "tape" "[B") ∈ lw_all := lw_g (lw_at lw_m8 74 rfl) rfl
theorem q1888 : (Jvm.Cond.soleField "WarByHoursModel" "tape") ∈ lw_all := lw_g (lw_at lw_m8 75 rfl) rfl
theorem q1889 : (Jvm.Cond.lays "WarByHoursModel" "WarByHoursModel" "taped" "I") ∈ lw_all := lw_g (lw_at lw_m8 76 rfl) rfl
theorem q1890 : (Jvm.Cond.soleField "WarByHoursModel" "taped") ∈ lw_all := lw_g (lw_at lw_m8 77 rfl) rfl
theorem q1891 : (Jvm.Cond.laysFinal "WarByHoursModel" "WarByHoursModel" "five" "[I") ∈ lw_all := lw_g (lw_at lw_m8 78 rfl) rfl
theorem q1892 : (Jvm.Cond.soleField "WarByHoursModel" "five") ∈ lw_all := lw_g (lw_at lw_m8 79 rfl) rfl
theorem q1893 : (Jvm.Cond.lays "WarByHoursModel" "WarByHoursModel" "size" "I") ∈ lw_all := lw_g (lw_at lw_m8 80 rfl) rfl
theorem q1894 : (Jvm.Cond.soleField "WarByHoursModel" "size") ∈ lw_all := lw_g (lw_at lw_m8 81 rfl) rfl
theorem q1895 : (Jvm.Cond.lays "WarByHoursModel" "WarByHoursModel" "at" "I") ∈ lw_all := lw_g (lw_at lw_m8 82 rfl) rfl
theorem q1896 : (Jvm.Cond.soleField "WarByHoursModel" "at") ∈ lw_all := lw_g (lw_at lw_m8 83 rfl) rfl
theorem q1897 : (Jvm.Cond.lays "WarByHoursModel" "WarByHoursModel" "from" "I") ∈ lw_all := lw_g (lw_at lw_m8 84 rfl) rfl
theorem q1898 : (Jvm.Cond.soleField "WarByHoursModel" "from") ∈ lw_all := lw_g (lw_at lw_m8 85 rfl) rfl
theorem q1899 : (Jvm.Cond.lays "WarByHoursModel" "WarByHoursModel" "token" "I") ∈ lw_all := lw_g (lw_at lw_m8 86 rfl) rfl
theorem q1900 : (Jvm.Cond.soleField "WarByHoursModel" "token") ∈ lw_all := lw_g (lw_at lw_m8 87 rfl) rfl
theorem q1901 : (Jvm.Cond.lays "WarByHoursModel" "WarByHoursModel" "value" "I") ∈ lw_all := lw_g (lw_at lw_m8 88 rfl) rfl
theorem q1902 : (Jvm.Cond.soleField "WarByHoursModel" "value") ∈ lw_all := lw_g (lw_at lw_m8 89 rfl) rfl
theorem q1903 : (Jvm.Cond.lays "WarByHoursModel" "WarByHoursModel" "faultKind" "I") ∈ lw_all := lw_g (lw_at lw_m8 90 rfl) rfl
theorem q1904 : (Jvm.Cond.soleField "WarByHoursModel" "faultKind") ∈ lw_all := lw_g (lw_at lw_m8 91 rfl) rfl
theorem q1905 : (Jvm.Cond.lays "WarByHoursModel" "WarByHoursModel" "faultPlace" "I") ∈ lw_all := lw_g (lw_at lw_m8 92 rfl) rfl
theorem q1906 : (Jvm.Cond.soleField "WarByHoursModel" "faultPlace") ∈ lw_all := lw_g (lw_at lw_m8 93 rfl) rfl
theorem q1907 : (Jvm.Cond.laysFinal "WarByHoursModel" "WarByHoursModel" "fresh" "[I") ∈ lw_all := lw_g (lw_at lw_m8 94 rfl) rfl
theorem q1908 : (Jvm.Cond.soleField "WarByHoursModel" "fresh") ∈ lw_all := lw_g (lw_at lw_m8 95 rfl) rfl
theorem q1909 : (Jvm.Cond.laysFinal "WarByHoursModel" "WarByHoursModel" "front" "[I") ∈ lw_all := lw_g (lw_at lw_m8 96 rfl) rfl
theorem q1910 : (Jvm.Cond.soleField "WarByHoursModel" "front") ∈ lw_all := lw_g (lw_at lw_m8 97 rfl) rfl
theorem q1911 : (Jvm.Cond.lays "WarByHoursModel" "WarByHoursModel" "worstSet" "I") ∈ lw_all := lw_g (lw_at lw_m8 98 rfl) rfl
theorem q1912 : (Jvm.Cond.soleField "WarByHoursModel" "worstSet") ∈ lw_all := lw_g (lw_at lw_m8 99 rfl) rfl
theorem q1913 : (Jvm.Cond.laysFinal "WarByHoursModel" "WarByHoursModel" "winners" "[I") ∈ lw_all := lw_g (lw_at lw_m8 100 rfl) rfl
theorem q1914 : (Jvm.Cond.soleField "WarByHoursModel" "winners") ∈ lw_all := lw_g (lw_at lw_m8 101 rfl) rfl
theorem q1915 : (Jvm.Cond.lays "WarByHoursModel" "WarByHoursModel" "leastPrice" "I") ∈ lw_all := lw_g (lw_at lw_m8 102 rfl) rfl
theorem q1916 : (Jvm.Cond.soleField "WarByHoursModel" "leastPrice") ∈ lw_all := lw_g (lw_at lw_m8 103 rfl) rfl
theorem q1917 : (Jvm.Cond.lays "WarByHoursModel" "WarByHoursModel" "leastSet" "I") ∈ lw_all := lw_g (lw_at lw_m8 104 rfl) rfl
theorem q1918 : (Jvm.Cond.soleField "WarByHoursModel" "leastSet") ∈ lw_all := lw_g (lw_at lw_m8 105 rfl) rfl
theorem q1919 : (Jvm.Cond.lays "WarByHoursModel" "WarByHoursModel" "guardPrice" "I") ∈ lw_all := lw_g (lw_at lw_m8 106 rfl) rfl
theorem q1920 : (Jvm.Cond.soleField "WarByHoursModel" "guardPrice") ∈ lw_all := lw_g (lw_at lw_m8 107 rfl) rfl
theorem q1921 : (Jvm.Cond.laysFinal "WarByHoursModel" "WarByHoursModel" "fronts" "[I") ∈ lw_all := lw_g (lw_at lw_m8 108 rfl) rfl
theorem q1922 : (Jvm.Cond.soleField "WarByHoursModel" "fronts") ∈ lw_all := lw_g (lw_at lw_m8 109 rfl) rfl
theorem q1923 : (Jvm.Cond.lays "WarByHoursModel" "WarByHoursModel" "spoiltSet" "I") ∈ lw_all := lw_g (lw_at lw_m8 110 rfl) rfl
theorem q1924 : (Jvm.Cond.soleField "WarByHoursModel" "spoiltSet") ∈ lw_all := lw_g (lw_at lw_m8 111 rfl) rfl
theorem q1925 : (Jvm.Cond.laysFinal "WarByHoursModel" "WarByHoursModel" "put" "[I") ∈ lw_all := lw_g (lw_at lw_m8 112 rfl) rfl
theorem q1926 : (Jvm.Cond.soleField "WarByHoursModel" "put") ∈ lw_all := lw_g (lw_at lw_m8 113 rfl) rfl
theorem q1927 : (Jvm.Cond.laysFinal "WarByHoursModel" "WarByHoursModel" "firstPut" "[I") ∈ lw_all := lw_g (lw_at lw_m8 114 rfl) rfl
theorem q1928 : (Jvm.Cond.soleField "WarByHoursModel" "firstPut") ∈ lw_all := lw_g (lw_at lw_m8 115 rfl) rfl
theorem q1929 : (Jvm.Cond.laysFinal "WarByHoursModel" "WarByHoursModel" "firstReply" "[I") ∈ lw_all := lw_g (lw_at lw_m8 116 rfl) rfl
theorem q1930 : (Jvm.Cond.soleField "WarByHoursModel" "firstReply") ∈ lw_all := lw_g (lw_at lw_m8 117 rfl) rfl
theorem q1931 : (Jvm.Cond.lays "WarByHoursModel" "WarByHoursModel" "watchWorst" "I") ∈ lw_all := lw_g (lw_at lw_m8 118 rfl) rfl
theorem q1932 : (Jvm.Cond.soleField "WarByHoursModel" "watchWorst") ∈ lw_all := lw_g (lw_at lw_m8 119 rfl) rfl
theorem q1933 : (Jvm.Cond.lays "WarByHoursModel" "WarByHoursModel" "grantSet" "I") ∈ lw_all := lw_g (lw_at lw_m8 120 rfl) rfl
theorem q1934 : (Jvm.Cond.soleField "WarByHoursModel" "grantSet") ∈ lw_all := lw_g (lw_at lw_m8 121 rfl) rfl
theorem q1935 : (Jvm.Cond.laysFinal "WarByHoursModel" "WarByHoursModel" "many" "[I") ∈ lw_all := lw_g (lw_at lw_m8 122 rfl) rfl
theorem q1936 : (Jvm.Cond.soleField "WarByHoursModel" "many") ∈ lw_all := lw_g (lw_at lw_m8 123 rfl) rfl
theorem q1937 : (Jvm.Cond.laysFinal "WarByHoursModel" "WarByHoursModel" "width" "[I") ∈ lw_all := lw_g (lw_at lw_m8 124 rfl) rfl
theorem q1938 : (Jvm.Cond.soleField "WarByHoursModel" "width") ∈ lw_all := lw_g (lw_at lw_m8 125 rfl) rfl
theorem q1939 : (Jvm.Cond.laysFinal "WarByHoursModel" "WarByHoursModel" "numbers" "[J") ∈ lw_all := lw_g (lw_at lw_m8 126 rfl) rfl
theorem q1940 : (Jvm.Cond.soleField "WarByHoursModel" "numbers") ∈ lw_all := lw_g (lw_at lw_m8 127 rfl) rfl
theorem q1941 : (Jvm.Cond.laysFinal "WarByHoursModel" "WarByHoursModel" "moving" "[J") ∈ lw_all := lw_g (lw_at lw_m8 128 rfl) rfl
theorem q1942 : (Jvm.Cond.soleField "WarByHoursModel" "moving") ∈ lw_all := lw_g (lw_at lw_m8 129 rfl) rfl
theorem q1943 : (Jvm.Cond.superclass "WarByHoursModel" "java/lang/Object") ∈ lw_all := lw_g (lw_at lw_m8 130 rfl) rfl
theorem q1946 : (Jvm.Cond.instanceMethod ({ cls := "WarByHoursModel", name := "image", desc := "(I)I" } : Jvm.MethodName)) ∈ lw_all := lw_g (lw_at lw_m8 133 rfl) rfl
theorem q1947 : (Jvm.Cond.selects "WarByHoursModel" ({ cls := "WarByHoursModel", name := "image", desc := "(I)I" } : Jvm.MethodName) ({ cls := "WarByHoursModel", name := "image", desc := "(I)I" } : Jvm.MethodName)) ∈ lw_all := lw_g (lw_at lw_m8 134 rfl) rfl
theorem q1948 : (Jvm.Cond.code ({ cls := "WarByHoursModel", name := "image", desc := "(I)I" } : Jvm.MethodName) prog_19_method_6_code (3 : Nat) (Option.some Jvm.ClassFile.FieldType.int)) ∈ lw_all := lw_g (lw_at lw_m8 135 rfl) rfl
theorem q1949 : (Jvm.Cond.constantLong "WarByHoursModel" (68 : Nat) (2 : Int64)) ∈ lw_all := lw_g (lw_at lw_m8 136 rfl) rfl
theorem q1950 : (Jvm.Cond.methodLink "WarByHoursModel" (70 : Nat) ({ cls := "WarByHoursModel", name := "in", desc := "(JJJ)Z" } : Jvm.MethodName)) ∈ lw_all := lw_g (lw_at lw_m8 137 rfl) rfl
theorem q1951 : (Jvm.Cond.static ({ cls := "WarByHoursModel", name := "in", desc := "(JJJ)Z" } : Jvm.MethodName)) ∈ lw_all := lw_g (lw_at lw_m8 138 rfl) rfl
theorem q1952 : (Jvm.Cond.code ({ cls := "WarByHoursModel", name := "in", desc := "(JJJ)Z" } : Jvm.MethodName) prog_19_method_3_code (6 : Nat) (Option.some Jvm.ClassFile.FieldType.boolean)) ∈ lw_all := lw_g (lw_at lw_m8 139 rfl) rfl
theorem q1954 : (Jvm.Cond.instanceMethod ({ cls := "WarByHoursModel", name := "back", desc := "(I)I" } : Jvm.MethodName)) ∈ lw_all := lw_g (lw_at lw_m8 141 rfl) rfl
theorem q1955 : (Jvm.Cond.selects "WarByHoursModel" ({ cls := "WarByHoursModel", name := "back", desc := "(I)I" } : Jvm.MethodName) ({ cls := "WarByHoursModel", name := "back", desc := "(I)I" } : Jvm.MethodName)) ∈ lw_all := lw_g (lw_at lw_m8 142 rfl) rfl
theorem q1956 : (Jvm.Cond.code ({ cls := "WarByHoursModel", name := "back", desc := "(I)I" } : Jvm.MethodName) prog_19_method_7_code (3 : Nat) (Option.some Jvm.ClassFile.FieldType.int)) ∈ lw_all := lw_g (lw_at lw_m8 143 rfl) rfl
theorem q1958 : (Jvm.Cond.instanceMethod ({ cls := "WarByHoursModel", name := "feed", desc := "(IIIII)I" } : Jvm.MethodName)) ∈ lw_all := lw_g (lw_at lw_m8 145 rfl) rfl
theorem q1959 : (Jvm.Cond.selects "WarByHoursModel" ({ cls := "WarByHoursModel", name := "feed", desc := "(IIIII)I" } : Jvm.MethodName) ({ cls := "WarByHoursModel", name := "feed", desc := "(IIIII)I" } : Jvm.MethodName)) ∈ lw_all := lw_g (lw_at lw_m8 146 rfl) rfl
theorem q1960 : (Jvm.Cond.code ({ cls := "WarByHoursModel", name := "feed", desc := "(IIIII)I" } : Jvm.MethodName) prog_19_method_16_code (7 : Nat) (Option.some Jvm.ClassFile.FieldType.int)) ∈ lw_all := lw_g (lw_at lw_m8 147 rfl) rfl
theorem q1962 : (Jvm.Cond.instanceMethod ({ cls := "WarByHoursModel", name := "end", desc := "(I)I" } : Jvm.MethodName)) ∈ lw_all := lw_g (lw_at lw_m8 149 rfl) rfl
theorem q1963 : (Jvm.Cond.selects "WarByHoursModel" ({ cls := "WarByHoursModel", name := "end", desc := "(I)I" } : Jvm.MethodName) ({ cls := "WarByHoursModel", name := "end", desc := "(I)I" } : Jvm.MethodName)) ∈ lw_all := lw_g (lw_at lw_m8 150 rfl) rfl
theorem q1964 : (Jvm.Cond.code ({ cls := "WarByHoursModel", name := "end", desc := "(I)I" } : Jvm.MethodName) prog_19_method_17_code (2 : Nat) (Option.some Jvm.ClassFile.FieldType.int)) ∈ lw_all := lw_g (lw_at lw_m8 151 rfl) rfl
theorem q1966 : (Jvm.Cond.instanceMethod ({ cls := "WarByHoursModel", name := "fault", desc := "(I)I" } : Jvm.MethodName)) ∈ lw_all := lw_g (lw_at lw_m8 153 rfl) rfl
theorem q1967 : (Jvm.Cond.selects "WarByHoursModel" ({ cls := "WarByHoursModel", name := "fault", desc := "(I)I" } : Jvm.MethodName) ({ cls := "WarByHoursModel", name := "fault", desc := "(I)I" } : Jvm.MethodName)) ∈ lw_all := lw_g (lw_at lw_m8 154 rfl) rfl
theorem q1968 : (Jvm.Cond.code ({ cls := "WarByHoursModel", name := "fault", desc := "(I)I" } : Jvm.MethodName) prog_19_method_27_code (2 : Nat) (Option.some Jvm.ClassFile.FieldType.int)) ∈ lw_all := lw_g (lw_at lw_m8 155 rfl) rfl
theorem q1970 : (Jvm.Cond.instanceMethod ({ cls := "WarByHoursModel", name := "war", desc := "()I" } : Jvm.MethodName)) ∈ lw_all := lw_g (lw_at lw_m8 157 rfl) rfl
theorem q1971 : (Jvm.Cond.selects "WarByHoursModel" ({ cls := "WarByHoursModel", name := "war", desc := "()I" } : Jvm.MethodName) ({ cls := "WarByHoursModel", name := "war", desc := "()I" } : Jvm.MethodName)) ∈ lw_all := lw_g (lw_at lw_m8 158 rfl) rfl
theorem q1972 : (Jvm.Cond.code ({ cls := "WarByHoursModel", name := "war", desc := "()I" } : Jvm.MethodName) prog_19_method_36_code (2 : Nat) (Option.some Jvm.ClassFile.FieldType.int)) ∈ lw_all := lw_g (lw_at lw_m8 159 rfl) rfl
theorem q1973 : (Jvm.Cond.methodLink "WarByHoursModel" (144 : Nat) ({ cls := "WarByHoursModel", name := "advance", desc := "()V" } : Jvm.MethodName)) ∈ lw_all := lw_g (lw_at lw_m8 160 rfl) rfl
theorem q1974 : (Jvm.Cond.privateMethod ({ cls := "WarByHoursModel", name := "advance", desc := "()V" } : Jvm.MethodName)) ∈ lw_tbl := lw_at lw_m8 161 rfl
theorem q1975 : (Jvm.Cond.instanceMethod ({ cls := "WarByHoursModel", name := "advance", desc := "()V" } : Jvm.MethodName)) ∈ lw_all := lw_g (lw_at lw_m8 162 rfl) rfl
theorem q1976 : (Jvm.Cond.code ({ cls := "WarByHoursModel", name := "advance", desc := "()V" } : Jvm.MethodName) prog_19_method_19_code (2 : Nat) (Option.none : Option Jvm.ClassFile.FieldType)) ∈ lw_all := lw_g (lw_at lw_m8 163 rfl) rfl
theorem q1977 : (Jvm.Cond.methodLink "WarByHoursModel" (98 : Nat) ({ cls := "WarByHoursModel", name := "see", desc := "(I)I" } : Jvm.MethodName)) ∈ lw_all := lw_g (lw_at lw_m8 164 rfl) rfl
theorem q1978 : (Jvm.Cond.privateMethod ({ cls := "WarByHoursModel", name := "see", desc := "(I)I" } : Jvm.MethodName)) ∈ lw_tbl := lw_at lw_m8 165 rfl
theorem q1979 : (Jvm.Cond.instanceMethod ({ cls := "WarByHoursModel", name := "see", desc := "(I)I" } : Jvm.MethodName)) ∈ lw_all := lw_g (lw_at lw_m8 166 rfl) rfl
theorem q1980 : (Jvm.Cond.code ({ cls := "WarByHoursModel", name := "see", desc := "(I)I" } : Jvm.MethodName) prog_19_method_18_code (2 : Nat) (Option.some Jvm.ClassFile.FieldType.int)) ∈ lw_all := lw_g (lw_at lw_m8 167 rfl) rfl
theorem q1981 : (Jvm.Cond.constantLong "WarByHoursModel" (108 : Nat) (97 : Int64)) ∈ lw_all := lw_g (lw_at lw_m8 168 rfl) rfl
theorem q1982 : (Jvm.Cond.constantLong "WarByHoursModel" (110 : Nat) (122 : Int64)) ∈ lw_all := lw_g (lw_at lw_m8 169 rfl) rfl
theorem q1983 : (Jvm.Cond.constantLong "WarByHoursModel" (112 : Nat) (48 : Int64)) ∈ lw_all := lw_g (lw_at lw_m8 170 rfl) rfl
theorem q1984 : (Jvm.Cond.constantLong "WarByHoursModel" (114 : Nat) (57 : Int64)) ∈ lw_all := lw_g (lw_at lw_m8 171 rfl) rfl
theorem q1985 : (Jvm.Cond.constant "WarByHoursModel" (119 : Nat) (99999 : Int32)) ∈ lw_all := lw_g (lw_at lw_m8 172 rfl) rfl
theorem q1986 : (Jvm.Cond.methodLink "WarByHoursModel" (120 : Nat) ({ cls := "java/lang/Math", name := "min", desc := "(II)I" } : Jvm.MethodName)) ∈ lw_all := lw_g (lw_at lw_m8 173 rfl) rfl
theorem q1987 : (Jvm.Cond.methodLink "WarByHoursModel" (128 : Nat) ({ cls := "WarByHoursModel", name := "good", desc := "()Z" } : Jvm.MethodName)) ∈ lw_all := lw_g (lw_at lw_m8 174 rfl) rfl
theorem q1988 : (Jvm.Cond.privateMethod ({ cls := "WarByHoursModel", name := "good", desc := "()Z" } : Jvm.MethodName)) ∈ lw_tbl := lw_at lw_m8 175 rfl
theorem q1989 : (Jvm.Cond.instanceMethod ({ cls := "WarByHoursModel", name := "good", desc := "()Z" } : Jvm.MethodName)) ∈ lw_all := lw_g (lw_at lw_m8 176 rfl) rfl
theorem q1990 : (Jvm.Cond.code ({ cls := "WarByHoursModel", name := "good", desc := "()Z" } : Jvm.MethodName) prog_19_method_20_code (1 : Nat) (Option.some Jvm.ClassFile.FieldType.boolean)) ∈ lw_all := lw_g (lw_at lw_m8 177 rfl) rfl
theorem q1991 : (Jvm.Cond.methodLink "WarByHoursModel" (227 : Nat) ({ cls := "WarByHoursModel", name := "readLine", desc := "()V" } : Jvm.MethodName)) ∈ lw_all := lw_g (lw_at lw_m8 178 rfl) rfl
theorem q1992 : (Jvm.Cond.privateMethod ({ cls := "WarByHoursModel", name := "readLine", desc := "()V" } : Jvm.MethodName)) ∈ lw_tbl := lw_at lw_m8 179 rfl
theorem q1993 : (Jvm.Cond.instanceMethod ({ cls := "WarByHoursModel", name := "readLine", desc := "()V" } : Jvm.MethodName)) ∈ lw_all := lw_g (lw_at lw_m8 180 rfl) rfl
theorem q1994 : (Jvm.Cond.code ({ cls := "WarByHoursModel", name := "readLine", desc := "()V" } : Jvm.MethodName) prog_19_method_35_code (1 : Nat) (Option.none : Option Jvm.ClassFile.FieldType)) ∈ lw_all := lw_g (lw_at lw_m8 181 rfl) rfl
theorem q1995 : (Jvm.Cond.methodLink "WarByHoursModel" (221 : Nat) ({ cls := "WarByHoursModel", name := "readFirst", desc := "()V" } : Jvm.MethodName)) ∈ lw_all := lw_g (lw_at lw_m8 182 rfl) rfl
theorem q1996 : (Jvm.Cond.privateMethod ({ cls := "WarByHoursModel", name := "readFirst", desc := "()V" } : Jvm.MethodName)) ∈ lw_tbl := lw_at lw_m8 183 rfl
theorem q1997 : (Jvm.Cond.instanceMethod ({ cls := "WarByHoursModel", name := "readFirst", desc := "()V" } : Jvm.MethodName)) ∈ lw_all := lw_g (lw_at lw_m8 184 rfl) rfl
theorem q1998 : (Jvm.Cond.code ({ cls := "WarByHoursModel", name := "readFirst", desc := "()V" } : Jvm.MethodName) prog_19_method_28_code (1 : Nat) (Option.none : Option Jvm.ClassFile.FieldType)) ∈ lw_all := lw_g (lw_at lw_m8 185 rfl) rfl
theorem q1999 : (Jvm.Cond.stringRef "WarByHoursModel" (161 : Nat) "war") ∈ lw_tbl := lw_at lw_m8 186 rfl
theorem q2000 : (Jvm.Cond.methodLink "WarByHoursModel" (154 : Nat) ({ cls := "WarByHoursModel", name := "needs", desc := "(Ljava/lang/String;)V" } : Jvm.MethodName)) ∈ lw_all := lw_g (lw_at lw_m8 187 rfl) rfl
theorem q2001 : (Jvm.Cond.privateMethod ({ cls := "WarByHoursModel", name := "needs", desc := "(Ljava/lang/String;)V" } : Jvm.MethodName)) ∈ lw_tbl := lw_at lw_m8 188 rfl
theorem q2002 : (Jvm.Cond.instanceMethod ({ cls := "WarByHoursModel", name := "needs", desc := "(Ljava/lang/String;)V" } : Jvm.MethodName)) ∈ lw_all := lw_g (lw_at lw_m8 189 rfl) rfl
theorem q2003 : (Jvm.Cond.code ({ cls := "WarByHoursModel", name := "needs", desc := "(Ljava/lang/String;)V" } : Jvm.MethodName) prog_19_method_24_code (2 : Nat) (Option.none : Option Jvm.ClassFile.FieldType)) ∈ lw_all := lw_g (lw_at lw_m8 190 rfl) rfl
theorem q2004 : (Jvm.Cond.methodLink "WarByHoursModel" (147 : Nat) ({ cls := "WarByHoursModel", name := "takes", desc := "(Ljava/lang/String;)Z" } : Jvm.MethodName)) ∈ lw_all := lw_g (lw_at lw_m8 191 rfl) rfl
theorem q2005 : (Jvm.Cond.privateMethod ({ cls := "WarByHoursModel", name := "takes", desc := "(Ljava/lang/String;)Z" } : Jvm.MethodName)) ∈ lw_tbl := lw_at lw_m8 192 rfl
theorem q2006 : (Jvm.Cond.instanceMethod ({ cls := "WarByHoursModel", name := "takes", desc := "(Ljava/lang/String;)Z" } : Jvm.MethodName)) ∈ lw_all := lw_g (lw_at lw_m8 193 rfl) rfl
theorem q2007 : (Jvm.Cond.code ({ cls := "WarByHoursModel", name := "takes", desc := "(Ljava/lang/String;)Z" } : Jvm.MethodName) prog_19_method_23_code (3 : Nat) (Option.some Jvm.ClassFile.FieldType.boolean)) ∈ lw_all := lw_g (lw_at lw_m8 194 rfl) rfl
theorem q2008 : (Jvm.Cond.methodLink "WarByHoursModel" (140 : Nat) ({ cls := "WarByHoursModel", name := "is", desc := "(Ljava/lang/String;)Z" } : Jvm.MethodName)) ∈ lw_all := lw_g (lw_at lw_m8 195 rfl) rfl
theorem q2009 : (Jvm.Cond.privateMethod ({ cls := "WarByHoursModel", name := "is", desc := "(Ljava/lang/String;)Z" } : Jvm.MethodName)) ∈ lw_tbl := lw_at lw_m8 196 rfl
theorem q2010 : (Jvm.Cond.instanceMethod ({ cls := "WarByHoursModel", name := "is", desc := "(Ljava/lang/String;)Z" } : Jvm.MethodName)) ∈ lw_all := lw_g (lw_at lw_m8 197 rfl) rfl
theorem q2011 : (Jvm.Cond.code ({ cls := "WarByHoursModel", name := "is", desc := "(Ljava/lang/String;)Z" } : Jvm.MethodName) prog_19_method_22_code (4 : Nat) (Option.some Jvm.ClassFile.FieldType.boolean)) ∈ lw_all := lw_g (lw_at lw_m8 198 rfl) rfl
theorem q2012 : (Jvm.Cond.methodLink "WarByHoursModel" (131 : Nat) ({ cls := "java/lang/String", name := "length", desc := "()I" } : Jvm.MethodName)) ∈ lw_all := lw_g (lw_at lw_m8 199 rfl) rfl
theorem q2013 : (Jvm.Cond.methodLink "WarByHoursModel" (136 : Nat) ({ cls := "java/lang/String", name := "charAt", desc := "(I)C" } : Jvm.MethodName)) ∈ lw_all := lw_g (lw_at lw_m8 200 rfl) rfl
theorem q2014 : (Jvm.Cond.methodLink "WarByHoursModel" (150 : Nat) ({ cls := "WarByHoursModel", name := "errs", desc := "(I)V" } : Jvm.MethodName)) ∈ lw_all := lw_g (lw_at lw_m8 201 rfl) rfl
theorem q2015 : (Jvm.Cond.privateMethod ({ cls := "WarByHoursModel", name := "errs", desc := "(I)V" } : Jvm.MethodName)) ∈ lw_tbl := lw_at lw_m8 202 rfl
theorem q2016 : (Jvm.Cond.instanceMethod ({ cls := "WarByHoursModel", name := "errs", desc := "(I)V" } : Jvm.MethodName)) ∈ lw_all := lw_g (lw_at lw_m8 203 rfl) rfl
theorem q2017 : (Jvm.Cond.code ({ cls := "WarByHoursModel", name := "errs", desc := "(I)V" } : Jvm.MethodName) prog_19_method_21_code (2 : Nat) (Option.none : Option Jvm.ClassFile.FieldType)) ∈ lw_all := lw_g (lw_at lw_m8 204 rfl) rfl
theorem q2018 : (Jvm.Cond.stringRef "WarByHoursModel" (163 : Nat) "minutes") ∈ lw_tbl := lw_at lw_m8 205 rfl
theorem q2019 : (Jvm.Cond.methodLink "WarByHoursModel" (165 : Nat) ({ cls := "WarByHoursModel", name := "told", desc := "(Ljava/lang/String;II)I" } : Jvm.MethodName)) ∈ lw_all := lw_g (lw_at lw_m8 206 rfl) rfl
theorem q2020 : (Jvm.Cond.privateMethod ({ cls := "WarByHoursModel", name := "told", desc := "(Ljava/lang/String;II)I" } : Jvm.MethodName)) ∈ lw_tbl := lw_at lw_m8 207 rfl
theorem q2021 : (Jvm.Cond.instanceMethod ({ cls := "WarByHoursModel", name := "told", desc := "(Ljava/lang/String;II)I" } : Jvm.MethodName)) ∈ lw_all := lw_g (lw_at lw_m8 208 rfl) rfl
theorem q2022 : (Jvm.Cond.code ({ cls := "WarByHoursModel", name := "told", desc := "(Ljava/lang/String;II)I" } : Jvm.MethodName) prog_19_method_26_code (4 : Nat) (Option.some Jvm.ClassFile.FieldType.int)) ∈ lw_all := lw_g (lw_at lw_m8 209 rfl) rfl
theorem q2023 : (Jvm.Cond.methodLink "WarByHoursModel" (158 : Nat) ({ cls := "WarByHoursModel", name := "number", desc := "(II)I" } : Jvm.MethodName)) ∈ lw_all := lw_g (lw_at lw_m8 210 rfl) rfl
theorem q2024 : (Jvm.Cond.privateMethod ({ cls := "WarByHoursModel", name := "number", desc := "(II)I" } : Jvm.MethodName)) ∈ lw_tbl := lw_at lw_m8 211 rfl
theorem q2025 : (Jvm.Cond.instanceMethod ({ cls := "WarByHoursModel", name := "number", desc := "(II)I" } : Jvm.MethodName)) ∈ lw_all := lw_g (lw_at lw_m8 212 rfl) rfl
theorem q2026 : (Jvm.Cond.code ({ cls := "WarByHoursModel", name := "number", desc := "(II)I" } : Jvm.MethodName) prog_19_method_25_code (4 : Nat) (Option.some Jvm.ClassFile.FieldType.int)) ∈ lw_all := lw_g (lw_at lw_m8 213 rfl) rfl
theorem q2027 : (Jvm.Cond.stringRef "WarByHoursModel" (169 : Nat) "late") ∈ lw_tbl := lw_at lw_m8 214 rfl
theorem q2028 : (Jvm.Cond.stringRef "WarByHoursModel" (171 : Nat) "peace") ∈ lw_tbl := lw_at lw_m8 215 rfl
theorem q2029 : (Jvm.Cond.stringRef "WarByHoursModel" (173 : Nat) "rain") ∈ lw_tbl := lw_at lw_m8 216 rfl
theorem q2030 : (Jvm.Cond.methodLink "WarByHoursModel" (224 : Nat) ({ cls := "WarByHoursModel", name := "readNext", desc := "()V" } : Jvm.MethodName)) ∈ lw_all := lw_g (lw_at lw_m8 217 rfl) rfl
theorem q2031 : (Jvm.Cond.privateMethod ({ cls := "WarByHoursModel", name := "readNext", desc := "()V" } : Jvm.MethodName)) ∈ lw_tbl := lw_at lw_m8 218 rfl
theorem q2032 : (Jvm.Cond.instanceMethod ({ cls := "WarByHoursModel", name := "readNext", desc := "()V" } : Jvm.MethodName)) ∈ lw_all := lw_g (lw_at lw_m8 219 rfl) rfl
theorem q2033 : (Jvm.Cond.code ({ cls := "WarByHoursModel", name := "readNext", desc := "()V" } : Jvm.MethodName) prog_19_method_34_code (2 : Nat) (Option.none : Option Jvm.ClassFile.FieldType)) ∈ lw_all := lw_g (lw_at lw_m8 220 rfl) rfl
theorem q2034 : (Jvm.Cond.stringRef "WarByHoursModel" (194 : Nat) "need") ∈ lw_tbl := lw_at lw_m8 221 rfl
theorem q2035 : (Jvm.Cond.stringRef "WarByHoursModel" (196 : Nat) "train") ∈ lw_tbl := lw_at lw_m8 222 rfl
theorem q2036 : (Jvm.Cond.stringRef "WarByHoursModel" (198 : Nat) "tea") ∈ lw_tbl := lw_at lw_m8 223 rfl
theorem q2037 : (Jvm.Cond.stringRef "WarByHoursModel" (200 : Nat) "cannon") ∈ lw_tbl := lw_at lw_m8 224 rfl
theorem q2038 : (Jvm.Cond.stringRef "WarByHoursModel" (202 : Nat) "rule") ∈ lw_tbl := lw_at lw_m8 225 rfl
theorem q2039 : (Jvm.Cond.stringRef "WarByHoursModel" (204 : Nat) "spy") ∈ lw_tbl := lw_at lw_m8 226 rfl
theorem q2040 : (Jvm.Cond.methodLink "WarByHoursModel" (206 : Nat) ({ cls := "WarByHoursModel", name := "readNeed", desc := "()V" } : Jvm.MethodName)) ∈ lw_all := lw_g (lw_at lw_m8 227 rfl) rfl
theorem q2041 : (Jvm.Cond.privateMethod ({ cls := "WarByHoursModel", name := "readNeed", desc := "()V" } : Jvm.MethodName)) ∈ lw_tbl := lw_at lw_m8 228 rfl
theorem q2042 : (Jvm.Cond.instanceMethod ({ cls := "WarByHoursModel", name := "readNeed", desc := "()V" } : Jvm.MethodName)) ∈ lw_all := lw_g (lw_at lw_m8 229 rfl) rfl
theorem q2043 : (Jvm.Cond.code ({ cls := "WarByHoursModel", name := "readNeed", desc := "()V" } : Jvm.MethodName) prog_19_method_29_code (3 : Nat) (Option.none : Option Jvm.ClassFile.FieldType)) ∈ lw_all := lw_g (lw_at lw_m8 230 rfl) rfl
theorem q2044 : (Jvm.Cond.methodLink "WarByHoursModel" (209 : Nat) ({ cls := "WarByHoursModel", name := "readTrain", desc := "()V" } : Jvm.MethodName)) ∈ lw_all := lw_g (lw_at lw_m8 231 rfl) rfl
theorem q2045 : (Jvm.Cond.privateMethod ({ cls := "WarByHoursModel", name := "readTrain", desc := "()V" } : Jvm.MethodName)) ∈ lw_tbl := lw_at lw_m8 232 rfl
theorem q2046 : (Jvm.Cond.instanceMethod ({ cls := "WarByHoursModel", name := "readTrain", desc := "()V" } : Jvm.MethodName)) ∈ lw_all := lw_g (lw_at lw_m8 233 rfl) rfl
theorem q2047 : (Jvm.Cond.code ({ cls := "WarByHoursModel", name := "readTrain", desc := "()V" } : Jvm.MethodName) prog_19_method_30_code (2 : Nat) (Option.none : Option Jvm.ClassFile.FieldType)) ∈ lw_all := lw_g (lw_at lw_m8 234 rfl) rfl
theorem q2048 : (Jvm.Cond.stringRef "WarByHoursModel" (175 : Nat) "men") ∈ lw_tbl := lw_at lw_m8 235 rfl
theorem q2049 : (Jvm.Cond.stringRef "WarByHoursModel" (177 : Nat) "due") ∈ lw_tbl := lw_at lw_m8 236 rfl
theorem q2050 : (Jvm.Cond.stringRef "WarByHoursModel" (179 : Nat) "odds") ∈ lw_tbl := lw_at lw_m8 237 rfl
theorem q2051 : (Jvm.Cond.stringRef "WarByHoursModel" (181 : Nat) "by") ∈ lw_tbl := lw_at lw_m8 238 rfl
theorem q2052 : (Jvm.Cond.stringRef "WarByHoursModel" (183 : Nat) "price") ∈ lw_tbl := lw_at lw_m8 239 rfl
theorem q2053 : (Jvm.Cond.methodLink "WarByHoursModel" (212 : Nat) ({ cls := "WarByHoursModel", name := "readBounds", desc := "(I)V" } : Jvm.MethodName)) ∈ lw_all := lw_g (lw_at lw_m9 0 rfl) rfl
theorem q2054 : (Jvm.Cond.privateMethod ({ cls := "WarByHoursModel", name := "readBounds", desc := "(I)V" } : Jvm.MethodName)) ∈ lw_tbl := lw_at lw_m9 1 rfl
theorem q2055 : (Jvm.Cond.instanceMethod ({ cls := "WarByHoursModel", name := "readBounds", desc := "(I)V" } : Jvm.MethodName)) ∈ lw_all := lw_g (lw_at lw_m9 2 rfl) rfl
theorem q2056 : (Jvm.Cond.code ({ cls := "WarByHoursModel", name := "readBounds", desc := "(I)V" } : Jvm.MethodName) prog_19_method_31_code (2 : Nat) (Option.none : Option Jvm.ClassFile.FieldType)) ∈ lw_all := lw_g (lw_at lw_m9 3 rfl) rfl
theorem q2057 : (Jvm.Cond.stringRef "WarByHoursModel" (185 : Nat) "to") ∈ lw_tbl := lw_at lw_m9 4 rfl
theorem q2058 : (Jvm.Cond.methodLink "WarByHoursModel" (215 : Nat) ({ cls := "WarByHoursModel", name := "readAsk", desc := "()V" } : Jvm.MethodName)) ∈ lw_all := lw_g (lw_at lw_m9 5 rfl) rfl
theorem q2059 : (Jvm.Cond.privateMethod ({ cls := "WarByHoursModel", name := "readAsk", desc := "()V" } : Jvm.MethodName)) ∈ lw_tbl := lw_at lw_m9 6 rfl
theorem q2060 : (Jvm.Cond.instanceMethod ({ cls := "WarByHoursModel", name := "readAsk", desc := "()V" } : Jvm.MethodName)) ∈ lw_all := lw_g (lw_at lw_m9 7 rfl) rfl
theorem q2061 : (Jvm.Cond.code ({ cls := "WarByHoursModel", name := "readAsk", desc := "()V" } : Jvm.MethodName) prog_19_method_32_code (2 : Nat) (Option.none : Option Jvm.ClassFile.FieldType)) ∈ lw_all := lw_g (lw_at lw_m9 8 rfl) rfl
theorem q2062 : (Jvm.Cond.stringRef "WarByHoursModel" (187 : Nat) "at") ∈ lw_tbl := lw_at lw_m9 9 rfl
theorem q2063 : (Jvm.Cond.stringRef "WarByHoursModel" (188 : Nat) "for") ∈ lw_tbl := lw_at lw_m9 10 rfl
theorem q2064 : (Jvm.Cond.stringRef "WarByHoursModel" (190 : Nat) "worth") ∈ lw_tbl := lw_at lw_m9 11 rfl
theorem q2065 : (Jvm.Cond.methodLink "WarByHoursModel" (218 : Nat) ({ cls := "WarByHoursModel", name := "readSpy", desc := "()V" } : Jvm.MethodName)) ∈ lw_all := lw_g (lw_at lw_m9 12 rfl) rfl
theorem q2066 : (Jvm.Cond.privateMethod ({ cls := "WarByHoursModel", name := "readSpy", desc := "()V" } : Jvm.MethodName)) ∈ lw_tbl := lw_at lw_m9 13 rfl
theorem q2067 : (Jvm.Cond.instanceMethod ({ cls := "WarByHoursModel", name := "readSpy", desc := "()V" } : Jvm.MethodName)) ∈ lw_all := lw_g (lw_at lw_m9 14 rfl) rfl
theorem q2068 : (Jvm.Cond.code ({ cls := "WarByHoursModel", name := "readSpy", desc := "()V" } : Jvm.MethodName) prog_19_method_33_code (3 : Nat) (Option.none : Option Jvm.ClassFile.FieldType)) ∈ lw_all := lw_g (lw_at lw_m9 15 rfl) rfl
theorem q2069 : (Jvm.Cond.stringRef "WarByHoursModel" (192 : Nat) "knows") ∈ lw_tbl := lw_at lw_m9 16 rfl
theorem q2071 : (Jvm.Cond.instanceMethod ({ cls := "WarByHoursModel", name := "train", desc := "(II)I" } : Jvm.MethodName)) ∈ lw_all := lw_g (lw_at lw_m9 18 rfl) rfl
theorem q2072 : (Jvm.Cond.selects "WarByHoursModel" ({ cls := "WarByHoursModel", name := "train", desc := "(II)I" } : Jvm.MethodName) ({ cls := "WarByHoursModel", name := "train", desc := "(II)I" } : Jvm.MethodName)) ∈ lw_all := lw_g (lw_at lw_m9 19 rfl) rfl
theorem q2073 : (Jvm.Cond.code ({ cls := "WarByHoursModel", name := "train", desc := "(II)I" } : Jvm.MethodName) prog_19_method_37_code (3 : Nat) (Option.some Jvm.ClassFile.FieldType.int)) ∈ lw_all := lw_g (lw_at lw_m9 20 rfl) rfl
theorem q2074 : (Jvm.Cond.methodLink "WarByHoursModel" (230 : Nat) ({ cls := "WarByHoursModel", name := "isTrain", desc := "(I)Z" } : Jvm.MethodName)) ∈ lw_all := lw_g (lw_at lw_m9 21 rfl) rfl
theorem q2075 : (Jvm.Cond.privateMethod ({ cls := "WarByHoursModel", name := "isTrain", desc := "(I)Z" } : Jvm.MethodName)) ∈ lw_tbl := lw_at lw_m9 22 rfl
theorem q2076 : (Jvm.Cond.instanceMethod ({ cls := "WarByHoursModel", name := "isTrain", desc := "(I)Z" } : Jvm.MethodName)) ∈ lw_all := lw_g (lw_at lw_m9 23 rfl) rfl
theorem q2077 : (Jvm.Cond.code ({ cls := "WarByHoursModel", name := "isTrain", desc := "(I)Z" } : Jvm.MethodName) prog_19_method_10_code (2 : Nat) (Option.some Jvm.ClassFile.FieldType.boolean)) ∈ lw_all := lw_g (lw_at lw_m9 24 rfl) rfl
theorem q2078 : (Jvm.Cond.constantLong "WarByHoursModel" (234 : Nat) (5 : Int64)) ∈ lw_all := lw_g (lw_at lw_m9 25 rfl) rfl
theorem q2079 : (Jvm.Cond.methodLink "WarByHoursModel" (82 : Nat) ({ cls := "WarByHoursModel", name := "of", desc := "(II)I" } : Jvm.MethodName)) ∈ lw_all := lw_g (lw_at lw_m9 26 rfl) rfl
theorem q2080 : (Jvm.Cond.privateMethod ({ cls := "WarByHoursModel", name := "of", desc := "(II)I" } : Jvm.MethodName)) ∈ lw_tbl := lw_at lw_m9 27 rfl
theorem q2081 : (Jvm.Cond.instanceMethod ({ cls := "WarByHoursModel", name := "of", desc := "(II)I" } : Jvm.MethodName)) ∈ lw_all := lw_g (lw_at lw_m9 28 rfl) rfl
theorem q2082 : (Jvm.Cond.code ({ cls := "WarByHoursModel", name := "of", desc := "(II)I" } : Jvm.MethodName) prog_19_method_13_code (3 : Nat) (Option.some Jvm.ClassFile.FieldType.int)) ∈ lw_all := lw_g (lw_at lw_m9 29 rfl) rfl
theorem q2084 : (Jvm.Cond.instanceMethod ({ cls := "WarByHoursModel", name := "need", desc := "(I)I" } : Jvm.MethodName)) ∈ lw_all := lw_g (lw_at lw_m9 31 rfl) rfl
theorem q2085 : (Jvm.Cond.selects "WarByHoursModel" ({ cls := "WarByHoursModel", name := "need", desc := "(I)I" } : Jvm.MethodName) ({ cls := "WarByHoursModel", name := "need", desc := "(I)I" } : Jvm.MethodName)) ∈ lw_all := lw_g (lw_at lw_m9 32 rfl) rfl
theorem q2086 : (Jvm.Cond.code ({ cls := "WarByHoursModel", name := "need", desc := "(I)I" } : Jvm.MethodName) prog_19_method_38_code (2 : Nat) (Option.some Jvm.ClassFile.FieldType.int)) ∈ lw_all := lw_g (lw_at lw_m9 33 rfl) rfl
theorem q2087 : (Jvm.Cond.methodLink "WarByHoursModel" (236 : Nat) ({ cls := "WarByHoursModel", name := "isSide", desc := "(I)Z" } : Jvm.MethodName)) ∈ lw_all := lw_g (lw_at lw_m9 34 rfl) rfl
theorem q2088 : (Jvm.Cond.privateMethod ({ cls := "WarByHoursModel", name := "isSide", desc := "(I)Z" } : Jvm.MethodName)) ∈ lw_tbl := lw_at lw_m9 35 rfl
theorem q2089 : (Jvm.Cond.instanceMethod ({ cls := "WarByHoursModel", name := "isSide", desc := "(I)Z" } : Jvm.MethodName)) ∈ lw_all := lw_g (lw_at lw_m9 36 rfl) rfl
theorem q2090 : (Jvm.Cond.code ({ cls := "WarByHoursModel", name := "isSide", desc := "(I)Z" } : Jvm.MethodName) prog_19_method_9_code (2 : Nat) (Option.some Jvm.ClassFile.FieldType.boolean)) ∈ lw_all := lw_g (lw_at lw_m9 37 rfl) rfl
theorem q2091 : (Jvm.Cond.methodLink "WarByHoursModel" (74 : Nat) ({ cls := "WarByHoursModel", name := "isWar", desc := "()Z" } : Jvm.MethodName)) ∈ lw_all := lw_g (lw_at lw_m9 38 rfl) rfl
theorem q2092 : (Jvm.Cond.privateMethod ({ cls := "WarByHoursModel", name := "isWar", desc := "()Z" } : Jvm.MethodName)) ∈ lw_tbl := lw_at lw_m9 39 rfl
theorem q2093 : (Jvm.Cond.instanceMethod ({ cls := "WarByHoursModel", name := "isWar", desc := "()Z" } : Jvm.MethodName)) ∈ lw_all := lw_g (lw_at lw_m9 40 rfl) rfl
theorem q2094 : (Jvm.Cond.code ({ cls := "WarByHoursModel", name := "isWar", desc := "()Z" } : Jvm.MethodName) prog_19_method_8_code (1 : Nat) (Option.some Jvm.ClassFile.FieldType.boolean)) ∈ lw_all := lw_g (lw_at lw_m9 41 rfl) rfl
theorem q2096 : (Jvm.Cond.instanceMethod ({ cls := "WarByHoursModel", name := "tea", desc := "(I)I" } : Jvm.MethodName)) ∈ lw_all := lw_g (lw_at lw_m9 43 rfl) rfl
theorem q2097 : (Jvm.Cond.selects "WarByHoursModel" ({ cls := "WarByHoursModel", name := "tea", desc := "(I)I" } : Jvm.MethodName) ({ cls := "WarByHoursModel", name := "tea", desc := "(I)I" } : Jvm.MethodName)) ∈ lw_all := lw_g (lw_at lw_m9 44 rfl) rfl
theorem q2098 : (Jvm.Cond.code ({ cls := "WarByHoursModel", name := "tea", desc := "(I)I" } : Jvm.MethodName) prog_19_method_40_code (2 : Nat) (Option.some Jvm.ClassFile.FieldType.int)) ∈ lw_all := lw_g (lw_at lw_m9 45 rfl) rfl
theorem q2099 : (Jvm.Cond.methodLink "WarByHoursModel" (239 : Nat) ({ cls := "WarByHoursModel", name := "isTea", desc := "(I)Z" } : Jvm.MethodName)) ∈ lw_all := lw_g (lw_at lw_m9 46 rfl) rfl
theorem q2100 : (Jvm.Cond.privateMethod ({ cls := "WarByHoursModel", name := "isTea", desc := "(I)Z" } : Jvm.MethodName)) ∈ lw_tbl := lw_at lw_m9 47 rfl
theorem q2101 : (Jvm.Cond.instanceMethod ({ cls := "WarByHoursModel", name := "isTea", desc := "(I)Z" } : Jvm.MethodName)) ∈ lw_all := lw_g (lw_at lw_m9 48 rfl) rfl
theorem q2102 : (Jvm.Cond.code ({ cls := "WarByHoursModel", name := "isTea", desc := "(I)Z" } : Jvm.MethodName) prog_19_method_39_code (3 : Nat) (Option.some Jvm.ClassFile.FieldType.boolean)) ∈ lw_all := lw_g (lw_at lw_m9 49 rfl) rfl
theorem q2104 : (Jvm.Cond.instanceMethod ({ cls := "WarByHoursModel", name := "cannon", desc := "(II)I" } : Jvm.MethodName)) ∈ lw_all := lw_g (lw_at lw_m9 51 rfl) rfl
theorem q2105 : (Jvm.Cond.selects "WarByHoursModel" ({ cls := "WarByHoursModel", name := "cannon", desc := "(II)I" } : Jvm.MethodName) ({ cls := "WarByHoursModel", name := "cannon", desc := "(II)I" } : Jvm.MethodName)) ∈ lw_all := lw_g (lw_at lw_m9 52 rfl) rfl
theorem q2106 : (Jvm.Cond.code ({ cls := "WarByHoursModel", name := "cannon", desc := "(II)I" } : Jvm.MethodName) prog_19_method_41_code (3 : Nat) (Option.some Jvm.ClassFile.FieldType.int)) ∈ lw_all := lw_g (lw_at lw_m9 53 rfl) rfl
theorem q2107 : (Jvm.Cond.constantLong "WarByHoursModel" (242 : Nat) (3 : Int64)) ∈ lw_all := lw_g (lw_at lw_m9 54 rfl) rfl
theorem q2109 : (Jvm.Cond.instanceMethod ({ cls := "WarByHoursModel", name := "rule", desc := "(II)I" } : Jvm.MethodName)) ∈ lw_all := lw_g (lw_at lw_m9 56 rfl) rfl
theorem q2110 : (Jvm.Cond.selects "WarByHoursModel" ({ cls := "WarByHoursModel", name := "rule", desc := "(II)I" } : Jvm.MethodName) ({ cls := "WarByHoursModel", name := "rule", desc := "(II)I" } : Jvm.MethodName)) ∈ lw_all := lw_g (lw_at lw_m9 57 rfl) rfl
theorem q2111 : (Jvm.Cond.code ({ cls := "WarByHoursModel", name := "rule", desc := "(II)I" } : Jvm.MethodName) prog_19_method_42_code (3 : Nat) (Option.some Jvm.ClassFile.FieldType.int)) ∈ lw_all := lw_g (lw_at lw_m9 58 rfl) rfl
theorem q2113 : (Jvm.Cond.instanceMethod ({ cls := "WarByHoursModel", name := "spy", desc := "(I)I" } : Jvm.MethodName)) ∈ lw_all := lw_g (lw_at lw_m9 60 rfl) rfl
theorem q2114 : (Jvm.Cond.selects "WarByHoursModel" ({ cls := "WarByHoursModel", name := "spy", desc := "(I)I" } : Jvm.MethodName) ({ cls := "WarByHoursModel", name := "spy", desc := "(I)I" } : Jvm.MethodName)) ∈ lw_all := lw_g (lw_at lw_m9 61 rfl) rfl
theorem q2115 : (Jvm.Cond.code ({ cls := "WarByHoursModel", name := "spy", desc := "(I)I" } : Jvm.MethodName) prog_19_method_43_code (2 : Nat) (Option.some Jvm.ClassFile.FieldType.int)) ∈ lw_all := lw_g (lw_at lw_m9 62 rfl) rfl
theorem q2117 : (Jvm.Cond.instanceMethod ({ cls := "WarByHoursModel", name := "men", desc := "(III)I" } : Jvm.MethodName)) ∈ lw_all := lw_g (lw_at lw_m9 64 rfl) rfl
theorem q2118 : (Jvm.Cond.selects "WarByHoursModel" ({ cls := "WarByHoursModel", name := "men", desc := "(III)I" } : Jvm.MethodName) ({ cls := "WarByHoursModel", name := "men", desc := "(III)I" } : Jvm.MethodName)) ∈ lw_all := lw_g (lw_at lw_m9 65 rfl) rfl
theorem q2119 : (Jvm.Cond.code ({ cls := "WarByHoursModel", name := "men", desc := "(III)I" } : Jvm.MethodName) prog_19_method_52_code (4 : Nat) (Option.some Jvm.ClassFile.FieldType.int)) ∈ lw_all := lw_g (lw_at lw_m9 66 rfl) rfl
theorem q2120 : (Jvm.Cond.methodLink "WarByHoursModel" (263 : Nat) ({ cls := "WarByHoursModel", name := "isAny", desc := "(I)Z" } : Jvm.MethodName)) ∈ lw_all := lw_g (lw_at lw_m9 67 rfl) rfl
theorem q2121 : (Jvm.Cond.static ({ cls := "WarByHoursModel", name := "isAny", desc := "(I)Z" } : Jvm.MethodName)) ∈ lw_all := lw_g (lw_at lw_m9 68 rfl) rfl
theorem q2122 : (Jvm.Cond.code ({ cls := "WarByHoursModel", name := "isAny", desc := "(I)Z" } : Jvm.MethodName) prog_19_method_51_code (1 : Nat) (Option.some Jvm.ClassFile.FieldType.boolean)) ∈ lw_all := lw_g (lw_at lw_m9 69 rfl) rfl
theorem q2123 : (Jvm.Cond.constantLong "WarByHoursModel" (261 : Nat) (99 : Int64)) ∈ lw_all := lw_g (lw_at lw_m9 70 rfl) rfl
theorem q2124 : (Jvm.Cond.methodLink "WarByHoursModel" (266 : Nat) ({ cls := "WarByHoursModel", name := "areTrains", desc := "(I)Z" } : Jvm.MethodName)) ∈ lw_all := lw_g (lw_at lw_m9 71 rfl) rfl
theorem q2125 : (Jvm.Cond.privateMethod ({ cls := "WarByHoursModel", name := "areTrains", desc := "(I)Z" } : Jvm.MethodName)) ∈ lw_tbl := lw_at lw_m9 72 rfl
theorem q2126 : (Jvm.Cond.instanceMethod ({ cls := "WarByHoursModel", name := "areTrains", desc := "(I)Z" } : Jvm.MethodName)) ∈ lw_all := lw_g (lw_at lw_m9 73 rfl) rfl
theorem q2127 : (Jvm.Cond.code ({ cls := "WarByHoursModel", name := "areTrains", desc := "(I)Z" } : Jvm.MethodName) prog_19_method_12_code (2 : Nat) (Option.some Jvm.ClassFile.FieldType.boolean)) ∈ lw_all := lw_g (lw_at lw_m9 74 rfl) rfl
theorem q2128 : (Jvm.Cond.methodLink "WarByHoursModel" (78 : Nat) ({ cls := "WarByHoursModel", name := "allTrains", desc := "()I" } : Jvm.MethodName)) ∈ lw_all := lw_g (lw_at lw_m9 75 rfl) rfl
theorem q2129 : (Jvm.Cond.privateMethod ({ cls := "WarByHoursModel", name := "allTrains", desc := "()I" } : Jvm.MethodName)) ∈ lw_tbl := lw_at lw_m9 76 rfl
theorem q2130 : (Jvm.Cond.instanceMethod ({ cls := "WarByHoursModel", name := "allTrains", desc := "()I" } : Jvm.MethodName)) ∈ lw_all := lw_g (lw_at lw_m9 77 rfl) rfl
theorem q2131 : (Jvm.Cond.code ({ cls := "WarByHoursModel", name := "allTrains", desc := "()I" } : Jvm.MethodName) prog_19_method_11_code (1 : Nat) (Option.some Jvm.ClassFile.FieldType.int)) ∈ lw_all := lw_g (lw_at lw_m9 78 rfl) rfl
theorem q2132 : (Jvm.Cond.methodLink "WarByHoursModel" (247 : Nat) ({ cls := "WarByHoursModel", name := "menOf", desc := "(III)I" } : Jvm.MethodName)) ∈ lw_all := lw_g (lw_at lw_m9 79 rfl) rfl
theorem q2133 : (Jvm.Cond.privateMethod ({ cls := "WarByHoursModel", name := "menOf", desc := "(III)I" } : Jvm.MethodName)) ∈ lw_tbl := lw_at lw_m9 80 rfl
theorem q2134 : (Jvm.Cond.instanceMethod ({ cls := "WarByHoursModel", name := "menOf", desc := "(III)I" } : Jvm.MethodName)) ∈ lw_all := lw_g (lw_at lw_m9 81 rfl) rfl
theorem q2135 : (Jvm.Cond.code ({ cls := "WarByHoursModel", name := "menOf", desc := "(III)I" } : Jvm.MethodName) prog_19_method_45_code (6 : Nat) (Option.some Jvm.ClassFile.FieldType.int)) ∈ lw_all := lw_g (lw_at lw_m9 82 rfl) rfl
theorem q2136 : (Jvm.Cond.methodLink "WarByHoursModel" (244 : Nat) ({ cls := "WarByHoursModel", name := "comesAt", desc := "(II)I" } : Jvm.MethodName)) ∈ lw_all := lw_g (lw_at lw_m9 83 rfl) rfl
theorem q2137 : (Jvm.Cond.privateMethod ({ cls := "WarByHoursModel", name := "comesAt", desc := "(II)I" } : Jvm.MethodName)) ∈ lw_tbl := lw_at lw_m9 84 rfl
theorem q2138 : (Jvm.Cond.instanceMethod ({ cls := "WarByHoursModel", name := "comesAt", desc := "(II)I" } : Jvm.MethodName)) ∈ lw_all := lw_g (lw_at lw_m9 85 rfl) rfl
theorem q2139 : (Jvm.Cond.code ({ cls := "WarByHoursModel", name := "comesAt", desc := "(II)I" } : Jvm.MethodName) prog_19_method_44_code (3 : Nat) (Option.some Jvm.ClassFile.FieldType.int)) ∈ lw_all := lw_g (lw_at lw_m9 86 rfl) rfl
theorem q2140 : (Jvm.Cond.methodLink "WarByHoursModel" (86 : Nat) ({ cls := "WarByHoursModel", name := "bit", desc := "(II)I" } : Jvm.MethodName)) ∈ lw_all := lw_g (lw_at lw_m9 87 rfl) rfl
theorem q2141 : (Jvm.Cond.static ({ cls := "WarByHoursModel", name := "bit", desc := "(II)I" } : Jvm.MethodName)) ∈ lw_all := lw_g (lw_at lw_m9 88 rfl) rfl
theorem q2142 : (Jvm.Cond.code ({ cls := "WarByHoursModel", name := "bit", desc := "(II)I" } : Jvm.MethodName) prog_19_method_5_code (2 : Nat) (Option.some Jvm.ClassFile.FieldType.int)) ∈ lw_all := lw_g (lw_at lw_m9 89 rfl) rfl
theorem q2144 : (Jvm.Cond.instanceMethod ({ cls := "WarByHoursModel", name := "front", desc := "(II)I" } : Jvm.MethodName)) ∈ lw_all := lw_g (lw_at lw_m9 91 rfl) rfl
theorem q2145 : (Jvm.Cond.selects "WarByHoursModel" ({ cls := "WarByHoursModel", name := "front", desc := "(II)I" } : Jvm.MethodName) ({ cls := "WarByHoursModel", name := "front", desc := "(II)I" } : Jvm.MethodName)) ∈ lw_all := lw_g (lw_at lw_m9 92 rfl) rfl
theorem q2146 : (Jvm.Cond.code ({ cls := "WarByHoursModel", name := "front", desc := "(II)I" } : Jvm.MethodName) prog_19_method_53_code (3 : Nat) (Option.some Jvm.ClassFile.FieldType.int)) ∈ lw_all := lw_g (lw_at lw_m9 93 rfl) rfl
theorem q2147 : (Jvm.Cond.methodLink "WarByHoursModel" (251 : Nat) ({ cls := "WarByHoursModel", name := "frontOf", desc := "(II)I" } : Jvm.MethodName)) ∈ lw_all := lw_g (lw_at lw_m9 94 rfl) rfl
theorem q2148 : (Jvm.Cond.privateMethod ({ cls := "WarByHoursModel", name := "frontOf", desc := "(II)I" } : Jvm.MethodName)) ∈ lw_tbl := lw_at lw_m9 95 rfl
theorem q2149 : (Jvm.Cond.instanceMethod ({ cls := "WarByHoursModel", name := "frontOf", desc := "(II)I" } : Jvm.MethodName)) ∈ lw_all := lw_g (lw_at lw_m9 96 rfl) rfl
theorem q2150 : (Jvm.Cond.code ({ cls := "WarByHoursModel", name := "frontOf", desc := "(II)I" } : Jvm.MethodName) prog_19_method_46_code (5 : Nat) (Option.some Jvm.ClassFile.FieldType.int)) ∈ lw_all := lw_g (lw_at lw_m9 97 rfl) rfl
theorem q2152 : (Jvm.Cond.instanceMethod ({ cls := "WarByHoursModel", name := "late", desc := "(I)I" } : Jvm.MethodName)) ∈ lw_all := lw_g (lw_at lw_m9 99 rfl) rfl
theorem q2153 : (Jvm.Cond.selects "WarByHoursModel" ({ cls := "WarByHoursModel", name := "late", desc := "(I)I" } : Jvm.MethodName) ({ cls := "WarByHoursModel", name := "late", desc := "(I)I" } : Jvm.MethodName)) ∈ lw_all := lw_g (lw_at lw_m9 100 rfl) rfl
theorem q2154 : (Jvm.Cond.code ({ cls := "WarByHoursModel", name := "late", desc := "(I)I" } : Jvm.MethodName) prog_19_method_54_code (2 : Nat) (Option.some Jvm.ClassFile.FieldType.int)) ∈ lw_all := lw_g (lw_at lw_m9 101 rfl) rfl
theorem q2155 : (Jvm.Cond.methodLink "WarByHoursModel" (254 : Nat) ({ cls := "WarByHoursModel", name := "isLate", desc := "(II)Z" } : Jvm.MethodName)) ∈ lw_all := lw_g (lw_at lw_m9 102 rfl) rfl
theorem q2156 : (Jvm.Cond.privateMethod ({ cls := "WarByHoursModel", name := "isLate", desc := "(II)Z" } : Jvm.MethodName)) ∈ lw_tbl := lw_at lw_m9 103 rfl
theorem q2157 : (Jvm.Cond.instanceMethod ({ cls := "WarByHoursModel", name := "isLate", desc := "(II)Z" } : Jvm.MethodName)) ∈ lw_all := lw_g (lw_at lw_m9 104 rfl) rfl
theorem q2158 : (Jvm.Cond.code ({ cls := "WarByHoursModel", name := "isLate", desc := "(II)Z" } : Jvm.MethodName) prog_19_method_49_code (3 : Nat) (Option.some Jvm.ClassFile.FieldType.boolean)) ∈ lw_all := lw_g (lw_at lw_m9 105 rfl) rfl
theorem q2160 : (Jvm.Cond.instanceMethod ({ cls := "WarByHoursModel", name := "wins", desc := "(I)I" } : Jvm.MethodName)) ∈ lw_all := lw_g (lw_at lw_m9 107 rfl) rfl
theorem q2161 : (Jvm.Cond.selects "WarByHoursModel" ({ cls := "WarByHoursModel", name := "wins", desc := "(I)I" } : Jvm.MethodName) ({ cls := "WarByHoursModel", name := "wins", desc := "(I)I" } : Jvm.MethodName)) ∈ lw_all := lw_g (lw_at lw_m9 108 rfl) rfl
theorem q2162 : (Jvm.Cond.code ({ cls := "WarByHoursModel", name := "wins", desc := "(I)I" } : Jvm.MethodName) prog_19_method_55_code (2 : Nat) (Option.some Jvm.ClassFile.FieldType.int)) ∈ lw_all := lw_g (lw_at lw_m9 109 rfl) rfl
theorem q2163 : (Jvm.Cond.methodLink "WarByHoursModel" (269 : Nat) ({ cls := "WarByHoursModel", name := "winner", desc := "(I)I" } : Jvm.MethodName)) ∈ lw_all := lw_g (lw_at lw_m9 110 rfl) rfl
theorem q2164 : (Jvm.Cond.privateMethod ({ cls := "WarByHoursModel", name := "winner", desc := "(I)I" } : Jvm.MethodName)) ∈ lw_tbl := lw_at lw_m9 111 rfl
theorem q2165 : (Jvm.Cond.instanceMethod ({ cls := "WarByHoursModel", name := "winner", desc := "(I)I" } : Jvm.MethodName)) ∈ lw_all := lw_g (lw_at lw_m9 112 rfl) rfl
theorem q2166 : (Jvm.Cond.code ({ cls := "WarByHoursModel", name := "winner", desc := "(I)I" } : Jvm.MethodName) prog_19_method_50_code (5 : Nat) (Option.some Jvm.ClassFile.FieldType.int)) ∈ lw_all := lw_g (lw_at lw_m9 113 rfl) rfl
theorem q2167 : (Jvm.Cond.methodLink "WarByHoursModel" (258 : Nat) ({ cls := "WarByHoursModel", name := "lastFront", desc := "(I)I" } : Jvm.MethodName)) ∈ lw_all := lw_g (lw_at lw_m9 114 rfl) rfl
theorem q2168 : (Jvm.Cond.privateMethod ({ cls := "WarByHoursModel", name := "lastFront", desc := "(I)I" } : Jvm.MethodName)) ∈ lw_tbl := lw_at lw_m9 115 rfl
theorem q2169 : (Jvm.Cond.instanceMethod ({ cls := "WarByHoursModel", name := "lastFront", desc := "(I)I" } : Jvm.MethodName)) ∈ lw_all := lw_g (lw_at lw_m9 116 rfl) rfl
theorem q2170 : (Jvm.Cond.code ({ cls := "WarByHoursModel", name := "lastFront", desc := "(I)I" } : Jvm.MethodName) prog_19_method_47_code (2 : Nat) (Option.some Jvm.ClassFile.FieldType.int)) ∈ lw_all := lw_g (lw_at lw_m9 117 rfl) rfl
theorem q2172 : (Jvm.Cond.instanceMethod ({ cls := "WarByHoursModel", name := "peak", desc := "(II)I" } : Jvm.MethodName)) ∈ lw_all := lw_g (lw_at lw_m9 119 rfl) rfl
theorem q2173 : (Jvm.Cond.selects "WarByHoursModel" ({ cls := "WarByHoursModel", name := "peak", desc := "(II)I" } : Jvm.MethodName) ({ cls := "WarByHoursModel", name := "peak", desc := "(II)I" } : Jvm.MethodName)) ∈ lw_all := lw_g (lw_at lw_m9 120 rfl) rfl
theorem q2174 : (Jvm.Cond.code ({ cls := "WarByHoursModel", name := "peak", desc := "(II)I" } : Jvm.MethodName) prog_19_method_56_code (5 : Nat) (Option.some Jvm.ClassFile.FieldType.int)) ∈ lw_all := lw_g (lw_at lw_m9 121 rfl) rfl
theorem q2175 : (Jvm.Cond.methodLink "WarByHoursModel" (272 : Nat) ({ cls := "WarByHoursModel", name := "goodBy", desc := "(II)I" } : Jvm.MethodName)) ∈ lw_all := lw_g (lw_at lw_m9 122 rfl) rfl
theorem q2176 : (Jvm.Cond.static ({ cls := "WarByHoursModel", name := "goodBy", desc := "(II)I" } : Jvm.MethodName)) ∈ lw_all := lw_g (lw_at lw_m9 123 rfl) rfl
theorem q2177 : (Jvm.Cond.code ({ cls := "WarByHoursModel", name := "goodBy", desc := "(II)I" } : Jvm.MethodName) prog_19_method_48_code (2 : Nat) (Option.some Jvm.ClassFile.FieldType.int)) ∈ lw_all := lw_g (lw_at lw_m9 124 rfl) rfl
theorem q2179 : (Jvm.Cond.instanceMethod ({ cls := "WarByHoursModel", name := "swings", desc := "(I)I" } : Jvm.MethodName)) ∈ lw_all := lw_g (lw_at lw_m9 126 rfl) rfl
theorem q2180 : (Jvm.Cond.selects "WarByHoursModel" ({ cls := "WarByHoursModel", name := "swings", desc := "(I)I" } : Jvm.MethodName) ({ cls := "WarByHoursModel", name := "swings", desc := "(I)I" } : Jvm.MethodName)) ∈ lw_all := lw_g (lw_at lw_m9 127 rfl) rfl
theorem q2181 : (Jvm.Cond.code ({ cls := "WarByHoursModel", name := "swings", desc := "(I)I" } : Jvm.MethodName) prog_19_method_57_code (6 : Nat) (Option.some Jvm.ClassFile.FieldType.int)) ∈ lw_all := lw_g (lw_at lw_m9 128 rfl) rfl
theorem q2183 : (Jvm.Cond.instanceMethod ({ cls := "WarByHoursModel", name := "since", desc := "(II)I" } : Jvm.MethodName)) ∈ lw_all := lw_g (lw_at lw_m9 130 rfl) rfl
theorem q2184 : (Jvm.Cond.selects "WarByHoursModel" ({ cls := "WarByHoursModel", name := "since", desc := "(II)I" } : Jvm.MethodName) ({ cls := "WarByHoursModel", name := "since", desc := "(II)I" } : Jvm.MethodName)) ∈ lw_all := lw_g (lw_at lw_m9 131 rfl) rfl
theorem q2185 : (Jvm.Cond.code ({ cls := "WarByHoursModel", name := "since", desc := "(II)I" } : Jvm.MethodName) prog_19_method_58_code (4 : Nat) (Option.some Jvm.ClassFile.FieldType.int)) ∈ lw_all := lw_g (lw_at lw_m9 132 rfl) rfl
theorem q2187 : (Jvm.Cond.instanceMethod ({ cls := "WarByHoursModel", name := "comes", desc := "(II)I" } : Jvm.MethodName)) ∈ lw_all := lw_g (lw_at lw_m9 134 rfl) rfl
theorem q2188 : (Jvm.Cond.selects "WarByHoursModel" ({ cls := "WarByHoursModel", name := "comes", desc := "(II)I" } : Jvm.MethodName) ({ cls := "WarByHoursModel", name := "comes", desc := "(II)I" } : Jvm.MethodName)) ∈ lw_all := lw_g (lw_at lw_m9 135 rfl) rfl
theorem q2189 : (Jvm.Cond.code ({ cls := "WarByHoursModel", name := "comes", desc := "(II)I" } : Jvm.MethodName) prog_19_method_59_code (5 : Nat) (Option.some Jvm.ClassFile.FieldType.int)) ∈ lw_all := lw_g (lw_at lw_m9 136 rfl) rfl
theorem q2191 : (Jvm.Cond.instanceMethod ({ cls := "WarByHoursModel", name := "even", desc := "(I)J" } : Jvm.MethodName)) ∈ lw_all := lw_g (lw_at lw_m9 138 rfl) rfl
theorem q2192 : (Jvm.Cond.selects "WarByHoursModel" ({ cls := "WarByHoursModel", name := "even", desc := "(I)J" } : Jvm.MethodName) ({ cls := "WarByHoursModel", name := "even", desc := "(I)J" } : Jvm.MethodName)) ∈ lw_all := lw_g (lw_at lw_m9 139 rfl) rfl
theorem q2193 : (Jvm.Cond.code ({ cls := "WarByHoursModel", name := "even", desc := "(I)J" } : Jvm.MethodName) prog_19_method_60_code (5 : Nat) (Option.some Jvm.ClassFile.FieldType.long)) ∈ lw_all := lw_g (lw_at lw_m9 140 rfl) rfl
theorem q2194 : (Jvm.Cond.constantLong "WarByHoursModel" (275 : Nat) (-2 : Int64)) ∈ lw_all := lw_g (lw_at lw_m9 141 rfl) rfl
theorem q2196 : (Jvm.Cond.instanceMethod ({ cls := "WarByHoursModel", name := "worst", desc := "(I)I" } : Jvm.MethodName)) ∈ lw_all := lw_g (lw_at lw_m9 143 rfl) rfl
theorem q2197 : (Jvm.Cond.selects "WarByHoursModel" ({ cls := "WarByHoursModel", name := "worst", desc := "(I)I" } : Jvm.MethodName) ({ cls := "WarByHoursModel", name := "worst", desc := "(I)I" } : Jvm.MethodName)) ∈ lw_all := lw_g (lw_at lw_m9 144 rfl) rfl
theorem q2198 : (Jvm.Cond.code ({ cls := "WarByHoursModel", name := "worst", desc := "(I)I" } : Jvm.MethodName) prog_19_method_62_code (2 : Nat) (Option.some Jvm.ClassFile.FieldType.int)) ∈ lw_all := lw_g (lw_at lw_m9 145 rfl) rfl
theorem q2199 : (Jvm.Cond.methodLink "WarByHoursModel" (284 : Nat) ({ cls := "WarByHoursModel", name := "worstOf", desc := "(I)I" } : Jvm.MethodName)) ∈ lw_all := lw_g (lw_at lw_m9 146 rfl) rfl
theorem q2200 : (Jvm.Cond.privateMethod ({ cls := "WarByHoursModel", name := "worstOf", desc := "(I)I" } : Jvm.MethodName)) ∈ lw_tbl := lw_at lw_m9 147 rfl
theorem q2201 : (Jvm.Cond.instanceMethod ({ cls := "WarByHoursModel", name := "worstOf", desc := "(I)I" } : Jvm.MethodName)) ∈ lw_all := lw_g (lw_at lw_m9 148 rfl) rfl
theorem q2202 : (Jvm.Cond.code ({ cls := "WarByHoursModel", name := "worstOf", desc := "(I)I" } : Jvm.MethodName) prog_19_method_61_code (5 : Nat) (Option.some Jvm.ClassFile.FieldType.int)) ∈ lw_all := lw_g (lw_at lw_m9 149 rfl) rfl
theorem q2203 : (Jvm.Cond.constant "WarByHoursModel" (280 : Nat) (1000000 : Int32)) ∈ lw_all := lw_g (lw_at lw_m9 150 rfl) rfl
theorem q2204 : (Jvm.Cond.methodLink "WarByHoursModel" (281 : Nat) ({ cls := "WarByHoursModel", name := "bits", desc := "(I)I" } : Jvm.MethodName)) ∈ lw_all := lw_g (lw_at lw_m9 151 rfl) rfl
theorem q2205 : (Jvm.Cond.static ({ cls := "WarByHoursModel", name := "bits", desc := "(I)I" } : Jvm.MethodName)) ∈ lw_all := lw_g (lw_at lw_m9 152 rfl) rfl
theorem q2206 : (Jvm.Cond.code ({ cls := "WarByHoursModel", name := "bits", desc := "(I)I" } : Jvm.MethodName) prog_19_method_4_code (3 : Nat) (Option.some Jvm.ClassFile.FieldType.int)) ∈ lw_all := lw_g (lw_at lw_m9 153 rfl) rfl
theorem q2208 : (Jvm.Cond.instanceMethod ({ cls := "WarByHoursModel", name := "by", desc := "(I)I" } : Jvm.MethodName)) ∈ lw_all := lw_g (lw_at lw_m9 155 rfl) rfl
theorem q2209 : (Jvm.Cond.selects "WarByHoursModel" ({ cls := "WarByHoursModel", name := "by", desc := "(I)I" } : Jvm.MethodName) ({ cls := "WarByHoursModel", name := "by", desc := "(I)I" } : Jvm.MethodName)) ∈ lw_all := lw_g (lw_at lw_m9 156 rfl) rfl
theorem q2210 : (Jvm.Cond.code ({ cls := "WarByHoursModel", name := "by", desc := "(I)I" } : Jvm.MethodName) prog_19_method_63_code (2 : Nat) (Option.some Jvm.ClassFile.FieldType.int)) ∈ lw_all := lw_g (lw_at lw_m9 157 rfl) rfl
theorem q2212 : (Jvm.Cond.instanceMethod ({ cls := "WarByHoursModel", name := "ways", desc := "(I)I" } : Jvm.MethodName)) ∈ lw_all := lw_g (lw_at lw_m9 159 rfl) rfl
theorem q2213 : (Jvm.Cond.selects "WarByHoursModel" ({ cls := "WarByHoursModel", name := "ways", desc := "(I)I" } : Jvm.MethodName) ({ cls := "WarByHoursModel", name := "ways", desc := "(I)I" } : Jvm.MethodName)) ∈ lw_all := lw_g (lw_at lw_m9 160 rfl) rfl
theorem q2214 : (Jvm.Cond.code ({ cls := "WarByHoursModel", name := "ways", desc := "(I)I" } : Jvm.MethodName) prog_19_method_64_code (4 : Nat) (Option.some Jvm.ClassFile.FieldType.int)) ∈ lw_all := lw_g (lw_at lw_m9 161 rfl) rfl
theorem q2216 : (Jvm.Cond.instanceMethod ({ cls := "WarByHoursModel", name := "idle", desc := "()I" } : Jvm.MethodName)) ∈ lw_all := lw_g (lw_at lw_m9 163 rfl) rfl
theorem q2217 : (Jvm.Cond.selects "WarByHoursModel" ({ cls := "WarByHoursModel", name := "idle", desc := "()I" } : Jvm.MethodName) ({ cls := "WarByHoursModel", name := "idle", desc := "()I" } : Jvm.MethodName)) ∈ lw_all := lw_g (lw_at lw_m9 164 rfl) rfl
theorem q2218 : (Jvm.Cond.code ({ cls := "WarByHoursModel", name := "idle", desc := "()I" } : Jvm.MethodName) prog_19_method_65_code (4 : Nat) (Option.some Jvm.ClassFile.FieldType.int)) ∈ lw_all := lw_g (lw_at lw_m9 165 rfl) rfl
theorem q2220 : (Jvm.Cond.instanceMethod ({ cls := "WarByHoursModel", name := "enough", desc := "(II)J" } : Jvm.MethodName)) ∈ lw_all := lw_g (lw_at lw_m9 167 rfl) rfl
theorem q2221 : (Jvm.Cond.selects "WarByHoursModel" ({ cls := "WarByHoursModel", name := "enough", desc := "(II)J" } : Jvm.MethodName) ({ cls := "WarByHoursModel", name := "enough", desc := "(II)J" } : Jvm.MethodName)) ∈ lw_all := lw_g (lw_at lw_m9 168 rfl) rfl
theorem q2222 : (Jvm.Cond.code ({ cls := "WarByHoursModel", name := "enough", desc := "(II)J" } : Jvm.MethodName) prog_19_method_70_code (6 : Nat) (Option.some Jvm.ClassFile.FieldType.long)) ∈ lw_all := lw_g (lw_at lw_m9 169 rfl) rfl
theorem q2223 : (Jvm.Cond.methodLink "WarByHoursModel" (293 : Nat) ({ cls := "WarByHoursModel", name := "oftenOf", desc := "(I)J" } : Jvm.MethodName)) ∈ lw_all := lw_g (lw_at lw_m9 170 rfl) rfl
theorem q2224 : (Jvm.Cond.privateMethod ({ cls := "WarByHoursModel", name := "oftenOf", desc := "(I)J" } : Jvm.MethodName)) ∈ lw_tbl := lw_at lw_m9 171 rfl
theorem q2225 : (Jvm.Cond.instanceMethod ({ cls := "WarByHoursModel", name := "oftenOf", desc := "(I)J" } : Jvm.MethodName)) ∈ lw_all := lw_g (lw_at lw_m9 172 rfl) rfl
theorem q2226 : (Jvm.Cond.code ({ cls := "WarByHoursModel", name := "oftenOf", desc := "(I)J" } : Jvm.MethodName) prog_19_method_68_code (5 : Nat) (Option.some Jvm.ClassFile.FieldType.long)) ∈ lw_all := lw_g (lw_at lw_m9 173 rfl) rfl
theorem q2227 : (Jvm.Cond.methodLink "WarByHoursModel" (297 : Nat) ({ cls := "WarByHoursModel", name := "allOften", desc := "()J" } : Jvm.MethodName)) ∈ lw_all := lw_g (lw_at lw_m9 174 rfl) rfl
theorem q2228 : (Jvm.Cond.privateMethod ({ cls := "WarByHoursModel", name := "allOften", desc := "()J" } : Jvm.MethodName)) ∈ lw_tbl := lw_at lw_m9 175 rfl
theorem q2229 : (Jvm.Cond.instanceMethod ({ cls := "WarByHoursModel", name := "allOften", desc := "()J" } : Jvm.MethodName)) ∈ lw_all := lw_g (lw_at lw_m9 176 rfl) rfl
theorem q2230 : (Jvm.Cond.code ({ cls := "WarByHoursModel", name := "allOften", desc := "()J" } : Jvm.MethodName) prog_19_method_69_code (4 : Nat) (Option.some Jvm.ClassFile.FieldType.long)) ∈ lw_all := lw_g (lw_at lw_m9 177 rfl) rfl
theorem q2231 : (Jvm.Cond.constantLong "WarByHoursModel" (291 : Nat) (100 : Int64)) ∈ lw_all := lw_g (lw_at lw_m9 178 rfl) rfl
theorem q2232 : (Jvm.Cond.methodLink "WarByHoursModel" (301 : Nat) ({ cls := "WarByHoursModel", name := "part", desc := "(JJI)J" } : Jvm.MethodName)) ∈ lw_all := lw_g (lw_at lw_m9 179 rfl) rfl
theorem q2233 : (Jvm.Cond.static ({ cls := "WarByHoursModel", name := "part", desc := "(JJI)J" } : Jvm.MethodName)) ∈ lw_all := lw_g (lw_at lw_m9 180 rfl) rfl
theorem q2234 : (Jvm.Cond.code ({ cls := "WarByHoursModel", name := "part", desc := "(JJI)J" } : Jvm.MethodName) prog_19_method_67_code (5 : Nat) (Option.some Jvm.ClassFile.FieldType.long)) ∈ lw_all := lw_g (lw_at lw_m9 181 rfl) rfl
theorem q2235 : (Jvm.Cond.methodLink "WarByHoursModel" (287 : Nat) ({ cls := "WarByHoursModel", name := "divisor", desc := "(JJ)J" } : Jvm.MethodName)) ∈ lw_all := lw_g (lw_at lw_m9 182 rfl) rfl
theorem q2236 : (Jvm.Cond.static ({ cls := "WarByHoursModel", name := "divisor", desc := "(JJ)J" } : Jvm.MethodName)) ∈ lw_all := lw_g (lw_at lw_m9 183 rfl) rfl
theorem q2237 : (Jvm.Cond.code ({ cls := "WarByHoursModel", name := "divisor", desc := "(JJ)J" } : Jvm.MethodName) prog_19_method_66_code (10 : Nat) (Option.some Jvm.ClassFile.FieldType.long)) ∈ lw_all := lw_g (lw_at lw_m9 184 rfl) rfl
theorem q2239 : (Jvm.Cond.instanceMethod ({ cls := "WarByHoursModel", name := "chance", desc := "(II)J" } : Jvm.MethodName)) ∈ lw_all := lw_g (lw_at lw_m9 186 rfl) rfl
theorem q2240 : (Jvm.Cond.selects "WarByHoursModel" ({ cls := "WarByHoursModel", name := "chance", desc := "(II)J" } : Jvm.MethodName) ({ cls := "WarByHoursModel", name := "chance", desc := "(II)J" } : Jvm.MethodName)) ∈ lw_all := lw_g (lw_at lw_m9 187 rfl) rfl
theorem q2241 : (Jvm.Cond.code ({ cls := "WarByHoursModel", name := "chance", desc := "(II)J" } : Jvm.MethodName) prog_19_method_71_code (6 : Nat) (Option.some Jvm.ClassFile.FieldType.long)) ∈ lw_all := lw_g (lw_at lw_m9 188 rfl) rfl
theorem q2243 : (Jvm.Cond.instanceMethod ({ cls := "WarByHoursModel", name := "send", desc := "(I)I" } : Jvm.MethodName)) ∈ lw_all := lw_g (lw_at lw_m9 190 rfl) rfl
theorem q2244 : (Jvm.Cond.selects "WarByHoursModel" ({ cls := "WarByHoursModel", name := "send", desc := "(I)I" } : Jvm.MethodName) ({ cls := "WarByHoursModel", name := "send", desc := "(I)I" } : Jvm.MethodName)) ∈ lw_all := lw_g (lw_at lw_m9 191 rfl) rfl
theorem q2245 : (Jvm.Cond.code ({ cls := "WarByHoursModel", name := "send", desc := "(I)I" } : Jvm.MethodName) prog_19_method_77_code (2 : Nat) (Option.some Jvm.ClassFile.FieldType.int)) ∈ lw_all := lw_g (lw_at lw_m9 192 rfl) rfl
theorem q2246 : (Jvm.Cond.methodLink "WarByHoursModel" (327 : Nat) ({ cls := "WarByHoursModel", name := "findSend", desc := "(IZ)V" } : Jvm.MethodName)) ∈ lw_all := lw_g (lw_at lw_m9 193 rfl) rfl
theorem q2247 : (Jvm.Cond.privateMethod ({ cls := "WarByHoursModel", name := "findSend", desc := "(IZ)V" } : Jvm.MethodName)) ∈ lw_tbl := lw_at lw_m9 194 rfl
theorem q2248 : (Jvm.Cond.instanceMethod ({ cls := "WarByHoursModel", name := "findSend", desc := "(IZ)V" } : Jvm.MethodName)) ∈ lw_all := lw_g (lw_at lw_m9 195 rfl) rfl
theorem q2249 : (Jvm.Cond.code ({ cls := "WarByHoursModel", name := "findSend", desc := "(IZ)V" } : Jvm.MethodName) prog_19_method_76_code (5 : Nat) (Option.none : Option Jvm.ClassFile.FieldType)) ∈ lw_all := lw_g (lw_at lw_m9 196 rfl) rfl
theorem q2250 : (Jvm.Cond.methodLink "WarByHoursModel" (314 : Nat) ({ cls := "WarByHoursModel", name := "trainsOf", desc := "(I)I" } : Jvm.MethodName)) ∈ lw_all := lw_g (lw_at lw_m9 197 rfl) rfl
theorem q2251 : (Jvm.Cond.privateMethod ({ cls := "WarByHoursModel", name := "trainsOf", desc := "(I)I" } : Jvm.MethodName)) ∈ lw_tbl := lw_at lw_m9 198 rfl
theorem q2252 : (Jvm.Cond.instanceMethod ({ cls := "WarByHoursModel", name := "trainsOf", desc := "(I)I" } : Jvm.MethodName)) ∈ lw_all := lw_g (lw_at lw_m9 199 rfl) rfl
theorem q2253 : (Jvm.Cond.code ({ cls := "WarByHoursModel", name := "trainsOf", desc := "(I)I" } : Jvm.MethodName) prog_19_method_14_code (4 : Nat) (Option.some Jvm.ClassFile.FieldType.int)) ∈ lw_all := lw_g (lw_at lw_m9 200 rfl) rfl
theorem q2254 : (Jvm.Cond.methodLink "WarByHoursModel" (317 : Nat) ({ cls := "WarByHoursModel", name := "isSurely", desc := "(II)Z" } : Jvm.MethodName)) ∈ lw_all := lw_g (lw_at lw_m9 201 rfl) rfl
theorem q2255 : (Jvm.Cond.privateMethod ({ cls := "WarByHoursModel", name := "isSurely", desc := "(II)Z" } : Jvm.MethodName)) ∈ lw_tbl := lw_at lw_m9 202 rfl
theorem q2256 : (Jvm.Cond.instanceMethod ({ cls := "WarByHoursModel", name := "isSurely", desc := "(II)Z" } : Jvm.MethodName)) ∈ lw_all := lw_g (lw_at lw_m9 203 rfl) rfl
theorem q2257 : (Jvm.Cond.code ({ cls := "WarByHoursModel", name := "isSurely", desc := "(II)Z" } : Jvm.MethodName) prog_19_method_73_code (3 : Nat) (Option.some Jvm.ClassFile.FieldType.boolean)) ∈ lw_all := lw_g (lw_at lw_m9 204 rfl) rfl
theorem q2258 : (Jvm.Cond.methodLink "WarByHoursModel" (305 : Nat) ({ cls := "WarByHoursModel", name := "menSent", desc := "(II)I" } : Jvm.MethodName)) ∈ lw_all := lw_g (lw_at lw_m9 205 rfl) rfl
theorem q2259 : (Jvm.Cond.privateMethod ({ cls := "WarByHoursModel", name := "menSent", desc := "(II)I" } : Jvm.MethodName)) ∈ lw_tbl := lw_at lw_m9 206 rfl
theorem q2260 : (Jvm.Cond.instanceMethod ({ cls := "WarByHoursModel", name := "menSent", desc := "(II)I" } : Jvm.MethodName)) ∈ lw_all := lw_g (lw_at lw_m9 207 rfl) rfl
theorem q2261 : (Jvm.Cond.code ({ cls := "WarByHoursModel", name := "menSent", desc := "(II)I" } : Jvm.MethodName) prog_19_method_72_code (5 : Nat) (Option.some Jvm.ClassFile.FieldType.int)) ∈ lw_all := lw_g (lw_at lw_m9 208 rfl) rfl
theorem q2262 : (Jvm.Cond.methodLink "WarByHoursModel" (320 : Nat) ({ cls := "WarByHoursModel", name := "priceOf", desc := "(I)I" } : Jvm.MethodName)) ∈ lw_all := lw_g (lw_at lw_m9 209 rfl) rfl
theorem q2263 : (Jvm.Cond.privateMethod ({ cls := "WarByHoursModel", name := "priceOf", desc := "(I)I" } : Jvm.MethodName)) ∈ lw_tbl := lw_at lw_m9 210 rfl
theorem q2264 : (Jvm.Cond.instanceMethod ({ cls := "WarByHoursModel", name := "priceOf", desc := "(I)I" } : Jvm.MethodName)) ∈ lw_all := lw_g (lw_at lw_m9 211 rfl) rfl
theorem q2265 : (Jvm.Cond.code ({ cls := "WarByHoursModel", name := "priceOf", desc := "(I)I" } : Jvm.MethodName) prog_19_method_15_code (4 : Nat) (Option.some Jvm.ClassFile.FieldType.int)) ∈ lw_all := lw_g (lw_at lw_m9 212 rfl) rfl
theorem q2266 : (Jvm.Cond.methodLink "WarByHoursModel" (323 : Nat) ({ cls := "WarByHoursModel", name := "take", desc := "(II)V" } : Jvm.MethodName)) ∈ lw_all := lw_g (lw_at lw_m9 213 rfl) rfl
theorem q2267 : (Jvm.Cond.privateMethod ({ cls := "WarByHoursModel", name := "take", desc := "(II)V" } : Jvm.MethodName)) ∈ lw_tbl := lw_at lw_m9 214 rfl
theorem q2268 : (Jvm.Cond.instanceMethod ({ cls := "WarByHoursModel", name := "take", desc := "(II)V" } : Jvm.MethodName)) ∈ lw_all := lw_g (lw_at lw_m9 215 rfl) rfl
theorem q2269 : (Jvm.Cond.code ({ cls := "WarByHoursModel", name := "take", desc := "(II)V" } : Jvm.MethodName) prog_19_method_74_code (3 : Nat) (Option.none : Option Jvm.ClassFile.FieldType)) ∈ lw_all := lw_g (lw_at lw_m9 216 rfl) rfl
theorem q2270 : (Jvm.Cond.methodLink "WarByHoursModel" (331 : Nat) ({ cls := "WarByHoursModel", name := "orNone", desc := "()I" } : Jvm.MethodName)) ∈ lw_all := lw_g (lw_at lw_m9 217 rfl) rfl
theorem q2271 : (Jvm.Cond.privateMethod ({ cls := "WarByHoursModel", name := "orNone", desc := "()I" } : Jvm.MethodName)) ∈ lw_tbl := lw_at lw_m9 218 rfl
theorem q2272 : (Jvm.Cond.instanceMethod ({ cls := "WarByHoursModel", name := "orNone", desc := "()I" } : Jvm.MethodName)) ∈ lw_all := lw_g (lw_at lw_m9 219 rfl) rfl
theorem q2273 : (Jvm.Cond.code ({ cls := "WarByHoursModel", name := "orNone", desc := "()I" } : Jvm.MethodName) prog_19_method_75_code (1 : Nat) (Option.some Jvm.ClassFile.FieldType.int)) ∈ lw_all := lw_g (lw_at lw_m9 220 rfl) rfl
theorem q2275 : (Jvm.Cond.instanceMethod ({ cls := "WarByHoursModel", name := "sent", desc := "(I)I" } : Jvm.MethodName)) ∈ lw_all := lw_g (lw_at lw_m9 222 rfl) rfl
theorem q2276 : (Jvm.Cond.selects "WarByHoursModel" ({ cls := "WarByHoursModel", name := "sent", desc := "(I)I" } : Jvm.MethodName) ({ cls := "WarByHoursModel", name := "sent", desc := "(I)I" } : Jvm.MethodName)) ∈ lw_all := lw_g (lw_at lw_m9 223 rfl) rfl
theorem q2277 : (Jvm.Cond.code ({ cls := "WarByHoursModel", name := "sent", desc := "(I)I" } : Jvm.MethodName) prog_19_method_78_code (2 : Nat) (Option.some Jvm.ClassFile.FieldType.int)) ∈ lw_all := lw_g (lw_at lw_m9 224 rfl) rfl
theorem q2279 : (Jvm.Cond.instanceMethod ({ cls := "WarByHoursModel", name := "fewest", desc := "(I)I" } : Jvm.MethodName)) ∈ lw_all := lw_g (lw_at lw_m9 226 rfl) rfl
theorem q2280 : (Jvm.Cond.selects "WarByHoursModel" ({ cls := "WarByHoursModel", name := "fewest", desc := "(I)I" } : Jvm.MethodName) ({ cls := "WarByHoursModel", name := "fewest", desc := "(I)I" } : Jvm.MethodName)) ∈ lw_all := lw_g (lw_at lw_m9 227 rfl) rfl
theorem q2281 : (Jvm.Cond.code ({ cls := "WarByHoursModel", name := "fewest", desc := "(I)I" } : Jvm.MethodName) prog_19_method_79_code (2 : Nat) (Option.some Jvm.ClassFile.FieldType.int)) ∈ lw_all := lw_g (lw_at lw_m9 228 rfl) rfl
theorem q2283 : (Jvm.Cond.instanceMethod ({ cls := "WarByHoursModel", name := "risk", desc := "(II)I" } : Jvm.MethodName)) ∈ lw_all := lw_g (lw_at lw_m9 230 rfl) rfl
theorem q2284 : (Jvm.Cond.selects "WarByHoursModel" ({ cls := "WarByHoursModel", name := "risk", desc := "(II)I" } : Jvm.MethodName) ({ cls := "WarByHoursModel", name := "risk", desc := "(II)I" } : Jvm.MethodName)) ∈ lw_all := lw_g (lw_at lw_m9 231 rfl) rfl
theorem q2285 : (Jvm.Cond.code ({ cls := "WarByHoursModel", name := "risk", desc := "(II)I" } : Jvm.MethodName) prog_19_method_83_code (3 : Nat) (Option.some Jvm.ClassFile.FieldType.int)) ∈ lw_all := lw_g (lw_at lw_m9 232 rfl) rfl
theorem q2286 : (Jvm.Cond.methodLink "WarByHoursModel" (342 : Nat) ({ cls := "WarByHoursModel", name := "findRisk", desc := "(II)V" } : Jvm.MethodName)) ∈ lw_all := lw_g (lw_at lw_m9 233 rfl) rfl
theorem q2287 : (Jvm.Cond.privateMethod ({ cls := "WarByHoursModel", name := "findRisk", desc := "(II)V" } : Jvm.MethodName)) ∈ lw_tbl := lw_at lw_m9 234 rfl
theorem q2288 : (Jvm.Cond.instanceMethod ({ cls := "WarByHoursModel", name := "findRisk", desc := "(II)V" } : Jvm.MethodName)) ∈ lw_all := lw_g (lw_at lw_m9 235 rfl) rfl
theorem q2289 : (Jvm.Cond.code ({ cls := "WarByHoursModel", name := "findRisk", desc := "(II)V" } : Jvm.MethodName) prog_19_method_82_code (5 : Nat) (Option.none : Option Jvm.ClassFile.FieldType)) ∈ lw_all := lw_g (lw_at lw_m9 236 rfl) rfl
theorem q2290 : (Jvm.Cond.methodLink "WarByHoursModel" (334 : Nat) ({ cls := "WarByHoursModel", name := "enoughBy", desc := "(II)J" } : Jvm.MethodName)) ∈ lw_all := lw_g (lw_at lw_m9 237 rfl) rfl
theorem q2291 : (Jvm.Cond.privateMethod ({ cls := "WarByHoursModel", name := "enoughBy", desc := "(II)J" } : Jvm.MethodName)) ∈ lw_tbl := lw_at lw_m9 238 rfl
theorem q2292 : (Jvm.Cond.instanceMethod ({ cls := "WarByHoursModel", name := "enoughBy", desc := "(II)J" } : Jvm.MethodName)) ∈ lw_all := lw_g (lw_at lw_m9 239 rfl) rfl
theorem q2293 : (Jvm.Cond.code ({ cls := "WarByHoursModel", name := "enoughBy", desc := "(II)J" } : Jvm.MethodName) prog_19_method_80_code (6 : Nat) (Option.some Jvm.ClassFile.FieldType.long)) ∈ lw_all := lw_g (lw_at lw_m10 0 rfl) rfl
theorem q2294 : (Jvm.Cond.methodLink "WarByHoursModel" (338 : Nat) ({ cls := "WarByHoursModel", name := "isOften", desc := "(JI)Z" } : Jvm.MethodName)) ∈ lw_all := lw_g (lw_at lw_m10 1 rfl) rfl
theorem q2295 : (Jvm.Cond.privateMethod ({ cls := "WarByHoursModel", name := "isOften", desc := "(JI)Z" } : Jvm.MethodName)) ∈ lw_tbl := lw_at lw_m10 2 rfl
theorem q2296 : (Jvm.Cond.instanceMethod ({ cls := "WarByHoursModel", name := "isOften", desc := "(JI)Z" } : Jvm.MethodName)) ∈ lw_all := lw_g (lw_at lw_m10 3 rfl) rfl
theorem q2297 : (Jvm.Cond.code ({ cls := "WarByHoursModel", name := "isOften", desc := "(JI)Z" } : Jvm.MethodName) prog_19_method_81_code (4 : Nat) (Option.some Jvm.ClassFile.FieldType.boolean)) ∈ lw_all := lw_g (lw_at lw_m10 4 rfl) rfl
theorem q2299 : (Jvm.Cond.instanceMethod ({ cls := "WarByHoursModel", name := "risked", desc := "(II)I" } : Jvm.MethodName)) ∈ lw_all := lw_g (lw_at lw_m10 6 rfl) rfl
theorem q2300 : (Jvm.Cond.selects "WarByHoursModel" ({ cls := "WarByHoursModel", name := "risked", desc := "(II)I" } : Jvm.MethodName) ({ cls := "WarByHoursModel", name := "risked", desc := "(II)I" } : Jvm.MethodName)) ∈ lw_all := lw_g (lw_at lw_m10 7 rfl) rfl
theorem q2301 : (Jvm.Cond.code ({ cls := "WarByHoursModel", name := "risked", desc := "(II)I" } : Jvm.MethodName) prog_19_method_84_code (3 : Nat) (Option.some Jvm.ClassFile.FieldType.int)) ∈ lw_all := lw_g (lw_at lw_m10 8 rfl) rfl
theorem q2303 : (Jvm.Cond.instanceMethod ({ cls := "WarByHoursModel", name := "bribe", desc := "(I)I" } : Jvm.MethodName)) ∈ lw_all := lw_g (lw_at lw_m10 10 rfl) rfl
theorem q2304 : (Jvm.Cond.selects "WarByHoursModel" ({ cls := "WarByHoursModel", name := "bribe", desc := "(I)I" } : Jvm.MethodName) ({ cls := "WarByHoursModel", name := "bribe", desc := "(I)I" } : Jvm.MethodName)) ∈ lw_all := lw_g (lw_at lw_m10 11 rfl) rfl
theorem q2305 : (Jvm.Cond.code ({ cls := "WarByHoursModel", name := "bribe", desc := "(I)I" } : Jvm.MethodName) prog_19_method_86_code (2 : Nat) (Option.some Jvm.ClassFile.FieldType.int)) ∈ lw_all := lw_g (lw_at lw_m10 12 rfl) rfl
theorem q2306 : (Jvm.Cond.methodLink "WarByHoursModel" (345 : Nat) ({ cls := "WarByHoursModel", name := "findBribe", desc := "(II)V" } : Jvm.MethodName)) ∈ lw_all := lw_g (lw_at lw_m10 13 rfl) rfl
theorem q2307 : (Jvm.Cond.privateMethod ({ cls := "WarByHoursModel", name := "findBribe", desc := "(II)V" } : Jvm.MethodName)) ∈ lw_tbl := lw_at lw_m10 14 rfl
theorem q2308 : (Jvm.Cond.instanceMethod ({ cls := "WarByHoursModel", name := "findBribe", desc := "(II)V" } : Jvm.MethodName)) ∈ lw_all := lw_g (lw_at lw_m10 15 rfl) rfl
theorem q2309 : (Jvm.Cond.code ({ cls := "WarByHoursModel", name := "findBribe", desc := "(II)V" } : Jvm.MethodName) prog_19_method_85_code (5 : Nat) (Option.none : Option Jvm.ClassFile.FieldType)) ∈ lw_all := lw_g (lw_at lw_m10 16 rfl) rfl
theorem q2311 : (Jvm.Cond.instanceMethod ({ cls := "WarByHoursModel", name := "bribed", desc := "(I)I" } : Jvm.MethodName)) ∈ lw_all := lw_g (lw_at lw_m10 18 rfl) rfl
theorem q2312 : (Jvm.Cond.selects "WarByHoursModel" ({ cls := "WarByHoursModel", name := "bribed", desc := "(I)I" } : Jvm.MethodName) ({ cls := "WarByHoursModel", name := "bribed", desc := "(I)I" } : Jvm.MethodName)) ∈ lw_all := lw_g (lw_at lw_m10 19 rfl) rfl
theorem q2313 : (Jvm.Cond.code ({ cls := "WarByHoursModel", name := "bribed", desc := "(I)I" } : Jvm.MethodName) prog_19_method_87_code (2 : Nat) (Option.some Jvm.ClassFile.FieldType.int)) ∈ lw_all := lw_g (lw_at lw_m10 20 rfl) rfl
theorem q2315 : (Jvm.Cond.instanceMethod ({ cls := "WarByHoursModel", name := "guard", desc := "(I)I" } : Jvm.MethodName)) ∈ lw_all := lw_g (lw_at lw_m10 22 rfl) rfl
theorem q2316 : (Jvm.Cond.selects "WarByHoursModel" ({ cls := "WarByHoursModel", name := "guard", desc := "(I)I" } : Jvm.MethodName) ({ cls := "WarByHoursModel", name := "guard", desc := "(I)I" } : Jvm.MethodName)) ∈ lw_all := lw_g (lw_at lw_m10 23 rfl) rfl
theorem q2317 : (Jvm.Cond.code ({ cls := "WarByHoursModel", name := "guard", desc := "(I)I" } : Jvm.MethodName) prog_19_method_89_code (2 : Nat) (Option.some Jvm.ClassFile.FieldType.int)) ∈ lw_all := lw_g (lw_at lw_m10 24 rfl) rfl
theorem q2318 : (Jvm.Cond.methodLink "WarByHoursModel" (351 : Nat) ({ cls := "WarByHoursModel", name := "guardOf", desc := "(I)I" } : Jvm.MethodName)) ∈ lw_all := lw_g (lw_at lw_m10 25 rfl) rfl
theorem q2319 : (Jvm.Cond.privateMethod ({ cls := "WarByHoursModel", name := "guardOf", desc := "(I)I" } : Jvm.MethodName)) ∈ lw_tbl := lw_at lw_m10 26 rfl
theorem q2320 : (Jvm.Cond.instanceMethod ({ cls := "WarByHoursModel", name := "guardOf", desc := "(I)I" } : Jvm.MethodName)) ∈ lw_all := lw_g (lw_at lw_m10 27 rfl) rfl
theorem q2321 : (Jvm.Cond.code ({ cls := "WarByHoursModel", name := "guardOf", desc := "(I)I" } : Jvm.MethodName) prog_19_method_88_code (5 : Nat) (Option.some Jvm.ClassFile.FieldType.int)) ∈ lw_all := lw_g (lw_at lw_m10 28 rfl) rfl
theorem q2323 : (Jvm.Cond.instanceMethod ({ cls := "WarByHoursModel", name := "guarded", desc := "(I)I" } : Jvm.MethodName)) ∈ lw_all := lw_g (lw_at lw_m10 30 rfl) rfl
theorem q2324 : (Jvm.Cond.selects "WarByHoursModel" ({ cls := "WarByHoursModel", name := "guarded", desc := "(I)I" } : Jvm.MethodName) ({ cls := "WarByHoursModel", name := "guarded", desc := "(I)I" } : Jvm.MethodName)) ∈ lw_all := lw_g (lw_at lw_m10 31 rfl) rfl
theorem q2325 : (Jvm.Cond.code ({ cls := "WarByHoursModel", name := "guarded", desc := "(I)I" } : Jvm.MethodName) prog_19_method_90_code (2 : Nat) (Option.some Jvm.ClassFile.FieldType.int)) ∈ lw_all := lw_g (lw_at lw_m10 32 rfl) rfl
theorem q2327 : (Jvm.Cond.instanceMethod ({ cls := "WarByHoursModel", name := "spoil", desc := "(II)I" } : Jvm.MethodName)) ∈ lw_all := lw_g (lw_at lw_m10 34 rfl) rfl
theorem q2328 : (Jvm.Cond.selects "WarByHoursModel" ({ cls := "WarByHoursModel", name := "spoil", desc := "(II)I" } : Jvm.MethodName) ({ cls := "WarByHoursModel", name := "spoil", desc := "(II)I" } : Jvm.MethodName)) ∈ lw_all := lw_g (lw_at lw_m10 35 rfl) rfl
theorem q2329 : (Jvm.Cond.code ({ cls := "WarByHoursModel", name := "spoil", desc := "(II)I" } : Jvm.MethodName) prog_19_method_95_code (3 : Nat) (Option.some Jvm.ClassFile.FieldType.int)) ∈ lw_all := lw_g (lw_at lw_m10 36 rfl) rfl
theorem q2330 : (Jvm.Cond.methodLink "WarByHoursModel" (366 : Nat) ({ cls := "WarByHoursModel", name := "isPrice", desc := "(I)Z" } : Jvm.MethodName)) ∈ lw_all := lw_g (lw_at lw_m10 37 rfl) rfl
theorem q2331 : (Jvm.Cond.static ({ cls := "WarByHoursModel", name := "isPrice", desc := "(I)Z" } : Jvm.MethodName)) ∈ lw_all := lw_g (lw_at lw_m10 38 rfl) rfl
theorem q2332 : (Jvm.Cond.code ({ cls := "WarByHoursModel", name := "isPrice", desc := "(I)Z" } : Jvm.MethodName) prog_19_method_92_code (1 : Nat) (Option.some Jvm.ClassFile.FieldType.boolean)) ∈ lw_all := lw_g (lw_at lw_m10 39 rfl) rfl
theorem q2333 : (Jvm.Cond.constantLong "WarByHoursModel" (354 : Nat) (999 : Int64)) ∈ lw_all := lw_g (lw_at lw_m10 40 rfl) rfl
theorem q2334 : (Jvm.Cond.methodLink "WarByHoursModel" (369 : Nat) ({ cls := "WarByHoursModel", name := "spoilOf", desc := "(II)I" } : Jvm.MethodName)) ∈ lw_all := lw_g (lw_at lw_m10 41 rfl) rfl
theorem q2335 : (Jvm.Cond.privateMethod ({ cls := "WarByHoursModel", name := "spoilOf", desc := "(II)I" } : Jvm.MethodName)) ∈ lw_tbl := lw_at lw_m10 42 rfl
theorem q2336 : (Jvm.Cond.instanceMethod ({ cls := "WarByHoursModel", name := "spoilOf", desc := "(II)I" } : Jvm.MethodName)) ∈ lw_all := lw_g (lw_at lw_m10 43 rfl) rfl
theorem q2337 : (Jvm.Cond.code ({ cls := "WarByHoursModel", name := "spoilOf", desc := "(II)I" } : Jvm.MethodName) prog_19_method_94_code (5 : Nat) (Option.some Jvm.ClassFile.FieldType.int)) ∈ lw_all := lw_g (lw_at lw_m10 44 rfl) rfl
theorem q2338 : (Jvm.Cond.methodLink "WarByHoursModel" (356 : Nat) ({ cls := "WarByHoursModel", name := "fillFronts", desc := "()V" } : Jvm.MethodName)) ∈ lw_all := lw_g (lw_at lw_m10 45 rfl) rfl
theorem q2339 : (Jvm.Cond.privateMethod ({ cls := "WarByHoursModel", name := "fillFronts", desc := "()V" } : Jvm.MethodName)) ∈ lw_tbl := lw_at lw_m10 46 rfl
theorem q2340 : (Jvm.Cond.instanceMethod ({ cls := "WarByHoursModel", name := "fillFronts", desc := "()V" } : Jvm.MethodName)) ∈ lw_all := lw_g (lw_at lw_m10 47 rfl) rfl
theorem q2341 : (Jvm.Cond.code ({ cls := "WarByHoursModel", name := "fillFronts", desc := "()V" } : Jvm.MethodName) prog_19_method_91_code (2 : Nat) (Option.none : Option Jvm.ClassFile.FieldType)) ∈ lw_all := lw_g (lw_at lw_m10 48 rfl) rfl
theorem q2342 : (Jvm.Cond.methodLink "WarByHoursModel" (359 : Nat) ({ cls := "WarByHoursModel", name := "isBought", desc := "(III)Z" } : Jvm.MethodName)) ∈ lw_all := lw_g (lw_at lw_m10 49 rfl) rfl
theorem q2343 : (Jvm.Cond.privateMethod ({ cls := "WarByHoursModel", name := "isBought", desc := "(III)Z" } : Jvm.MethodName)) ∈ lw_tbl := lw_at lw_m10 50 rfl
theorem q2344 : (Jvm.Cond.instanceMethod ({ cls := "WarByHoursModel", name := "isBought", desc := "(III)Z" } : Jvm.MethodName)) ∈ lw_all := lw_g (lw_at lw_m10 51 rfl) rfl
theorem q2345 : (Jvm.Cond.code ({ cls := "WarByHoursModel", name := "isBought", desc := "(III)Z" } : Jvm.MethodName) prog_19_method_93_code (4 : Nat) (Option.some Jvm.ClassFile.FieldType.boolean)) ∈ lw_all := lw_g (lw_at lw_m10 52 rfl) rfl
theorem q2347 : (Jvm.Cond.instanceMethod ({ cls := "WarByHoursModel", name := "spoils", desc := "(II)I" } : Jvm.MethodName)) ∈ lw_all := lw_g (lw_at lw_m10 54 rfl) rfl
theorem q2348 : (Jvm.Cond.selects "WarByHoursModel" ({ cls := "WarByHoursModel", name := "spoils", desc := "(II)I" } : Jvm.MethodName) ({ cls := "WarByHoursModel", name := "spoils", desc := "(II)I" } : Jvm.MethodName)) ∈ lw_all := lw_g (lw_at lw_m10 55 rfl) rfl
theorem q2349 : (Jvm.Cond.code ({ cls := "WarByHoursModel", name := "spoils", desc := "(II)I" } : Jvm.MethodName) prog_19_method_96_code (3 : Nat) (Option.some Jvm.ClassFile.FieldType.int)) ∈ lw_all := lw_g (lw_at lw_m10 56 rfl) rfl
theorem q2351 : (Jvm.Cond.instanceMethod ({ cls := "WarByHoursModel", name := "answer", desc := "(II)I" } : Jvm.MethodName)) ∈ lw_all := lw_g (lw_at lw_m10 58 rfl) rfl
theorem q2352 : (Jvm.Cond.selects "WarByHoursModel" ({ cls := "WarByHoursModel", name := "answer", desc := "(II)I" } : Jvm.MethodName) ({ cls := "WarByHoursModel", name := "answer", desc := "(II)I" } : Jvm.MethodName)) ∈ lw_all := lw_g (lw_at lw_m10 59 rfl) rfl
theorem q2353 : (Jvm.Cond.code ({ cls := "WarByHoursModel", name := "answer", desc := "(II)I" } : Jvm.MethodName) prog_19_method_98_code (5 : Nat) (Option.some Jvm.ClassFile.FieldType.int)) ∈ lw_all := lw_g (lw_at lw_m10 60 rfl) rfl
theorem q2354 : (Jvm.Cond.methodLink "WarByHoursModel" (376 : Nat) ({ cls := "WarByHoursModel", name := "bestGood", desc := "(III)I" } : Jvm.MethodName)) ∈ lw_all := lw_g (lw_at lw_m10 61 rfl) rfl
theorem q2355 : (Jvm.Cond.privateMethod ({ cls := "WarByHoursModel", name := "bestGood", desc := "(III)I" } : Jvm.MethodName)) ∈ lw_tbl := lw_at lw_m10 62 rfl
theorem q2356 : (Jvm.Cond.instanceMethod ({ cls := "WarByHoursModel", name := "bestGood", desc := "(III)I" } : Jvm.MethodName)) ∈ lw_all := lw_g (lw_at lw_m10 63 rfl) rfl
theorem q2357 : (Jvm.Cond.code ({ cls := "WarByHoursModel", name := "bestGood", desc := "(III)I" } : Jvm.MethodName) prog_19_method_97_code (6 : Nat) (Option.some Jvm.ClassFile.FieldType.int)) ∈ lw_all := lw_g (lw_at lw_m10 64 rfl) rfl
theorem q2358 : (Jvm.Cond.constant "WarByHoursModel" (372 : Nat) (-1000000 : Int32)) ∈ lw_all := lw_g (lw_at lw_m10 65 rfl) rfl
theorem q2359 : (Jvm.Cond.methodLink "WarByHoursModel" (373 : Nat) ({ cls := "java/lang/Math", name := "max", desc := "(II)I" } : Jvm.MethodName)) ∈ lw_all := lw_g (lw_at lw_m10 66 rfl) rfl
theorem q2361 : (Jvm.Cond.instanceMethod ({ cls := "WarByHoursModel", name := "rests", desc := "(I)I" } : Jvm.MethodName)) ∈ lw_all := lw_g (lw_at lw_m10 68 rfl) rfl
theorem q2362 : (Jvm.Cond.selects "WarByHoursModel" ({ cls := "WarByHoursModel", name := "rests", desc := "(I)I" } : Jvm.MethodName) ({ cls := "WarByHoursModel", name := "rests", desc := "(I)I" } : Jvm.MethodName)) ∈ lw_all := lw_g (lw_at lw_m10 69 rfl) rfl
theorem q2363 : (Jvm.Cond.code ({ cls := "WarByHoursModel", name := "rests", desc := "(I)I" } : Jvm.MethodName) prog_19_method_99_code (6 : Nat) (Option.some Jvm.ClassFile.FieldType.int)) ∈ lw_all := lw_g (lw_at lw_m10 70 rfl) rfl
theorem q2365 : (Jvm.Cond.instanceMethod ({ cls := "WarByHoursModel", name := "hold", desc := "(II)I" } : Jvm.MethodName)) ∈ lw_all := lw_g (lw_at lw_m10 72 rfl) rfl
theorem q2366 : (Jvm.Cond.selects "WarByHoursModel" ({ cls := "WarByHoursModel", name := "hold", desc := "(II)I" } : Jvm.MethodName) ({ cls := "WarByHoursModel", name := "hold", desc := "(II)I" } : Jvm.MethodName)) ∈ lw_all := lw_g (lw_at lw_m10 73 rfl) rfl
theorem q2367 : (Jvm.Cond.code ({ cls := "WarByHoursModel", name := "hold", desc := "(II)I" } : Jvm.MethodName) prog_19_method_104_code (3 : Nat) (Option.some Jvm.ClassFile.FieldType.int)) ∈ lw_all := lw_g (lw_at lw_m10 74 rfl) rfl
theorem q2368 : (Jvm.Cond.methodLink "WarByHoursModel" (387 : Nat) ({ cls := "WarByHoursModel", name := "areMen", desc := "(II)Z" } : Jvm.MethodName)) ∈ lw_all := lw_g (lw_at lw_m10 75 rfl) rfl
theorem q2369 : (Jvm.Cond.static ({ cls := "WarByHoursModel", name := "areMen", desc := "(II)Z" } : Jvm.MethodName)) ∈ lw_all := lw_g (lw_at lw_m10 76 rfl) rfl
theorem q2370 : (Jvm.Cond.code ({ cls := "WarByHoursModel", name := "areMen", desc := "(II)Z" } : Jvm.MethodName) prog_19_method_103_code (2 : Nat) (Option.some Jvm.ClassFile.FieldType.boolean)) ∈ lw_all := lw_g (lw_at lw_m10 77 rfl) rfl
theorem q2371 : (Jvm.Cond.constantLong "WarByHoursModel" (385 : Nat) (9 : Int64)) ∈ lw_all := lw_g (lw_at lw_m10 78 rfl) rfl
theorem q2372 : (Jvm.Cond.methodLink "WarByHoursModel" (390 : Nat) ({ cls := "WarByHoursModel", name := "holdOf", desc := "(II)I" } : Jvm.MethodName)) ∈ lw_all := lw_g (lw_at lw_m10 79 rfl) rfl
theorem q2373 : (Jvm.Cond.privateMethod ({ cls := "WarByHoursModel", name := "holdOf", desc := "(II)I" } : Jvm.MethodName)) ∈ lw_tbl := lw_at lw_m10 80 rfl
theorem q2374 : (Jvm.Cond.instanceMethod ({ cls := "WarByHoursModel", name := "holdOf", desc := "(II)I" } : Jvm.MethodName)) ∈ lw_all := lw_g (lw_at lw_m10 81 rfl) rfl
theorem q2375 : (Jvm.Cond.code ({ cls := "WarByHoursModel", name := "holdOf", desc := "(II)I" } : Jvm.MethodName) prog_19_method_102_code (8 : Nat) (Option.some Jvm.ClassFile.FieldType.int)) ∈ lw_all := lw_g (lw_at lw_m10 82 rfl) rfl
theorem q2376 : (Jvm.Cond.methodLink "WarByHoursModel" (382 : Nat) ({ cls := "WarByHoursModel", name := "heldBy", desc := "(I)I" } : Jvm.MethodName)) ∈ lw_all := lw_g (lw_at lw_m10 83 rfl) rfl
theorem q2377 : (Jvm.Cond.privateMethod ({ cls := "WarByHoursModel", name := "heldBy", desc := "(I)I" } : Jvm.MethodName)) ∈ lw_tbl := lw_at lw_m10 84 rfl
theorem q2378 : (Jvm.Cond.instanceMethod ({ cls := "WarByHoursModel", name := "heldBy", desc := "(I)I" } : Jvm.MethodName)) ∈ lw_all := lw_g (lw_at lw_m10 85 rfl) rfl
theorem q2379 : (Jvm.Cond.code ({ cls := "WarByHoursModel", name := "heldBy", desc := "(I)I" } : Jvm.MethodName) prog_19_method_101_code (6 : Nat) (Option.some Jvm.ClassFile.FieldType.int)) ∈ lw_all := lw_g (lw_at lw_m10 86 rfl) rfl
theorem q2380 : (Jvm.Cond.methodLink "WarByHoursModel" (379 : Nat) ({ cls := "WarByHoursModel", name := "valueOf", desc := "(I)I" } : Jvm.MethodName)) ∈ lw_all := lw_g (lw_at lw_m10 87 rfl) rfl
theorem q2381 : (Jvm.Cond.static ({ cls := "WarByHoursModel", name := "valueOf", desc := "(I)I" } : Jvm.MethodName)) ∈ lw_all := lw_g (lw_at lw_m10 88 rfl) rfl
theorem q2382 : (Jvm.Cond.code ({ cls := "WarByHoursModel", name := "valueOf", desc := "(I)I" } : Jvm.MethodName) prog_19_method_100_code (1 : Nat) (Option.some Jvm.ClassFile.FieldType.int)) ∈ lw_all := lw_g (lw_at lw_m10 89 rfl) rfl
theorem q2384 : (Jvm.Cond.instanceMethod ({ cls := "WarByHoursModel", name := "holds", desc := "(III)I" } : Jvm.MethodName)) ∈ lw_all := lw_g (lw_at lw_m10 91 rfl) rfl
theorem q2385 : (Jvm.Cond.selects "WarByHoursModel" ({ cls := "WarByHoursModel", name := "holds", desc := "(III)I" } : Jvm.MethodName) ({ cls := "WarByHoursModel", name := "holds", desc := "(III)I" } : Jvm.MethodName)) ∈ lw_all := lw_g (lw_at lw_m10 92 rfl) rfl
theorem q2386 : (Jvm.Cond.code ({ cls := "WarByHoursModel", name := "holds", desc := "(III)I" } : Jvm.MethodName) prog_19_method_105_code (4 : Nat) (Option.some Jvm.ClassFile.FieldType.int)) ∈ lw_all := lw_g (lw_at lw_m10 93 rfl) rfl
theorem q2388 : (Jvm.Cond.instanceMethod ({ cls := "WarByHoursModel", name := "reply", desc := "(III)I" } : Jvm.MethodName)) ∈ lw_all := lw_g (lw_at lw_m10 95 rfl) rfl
theorem q2389 : (Jvm.Cond.selects "WarByHoursModel" ({ cls := "WarByHoursModel", name := "reply", desc := "(III)I" } : Jvm.MethodName) ({ cls := "WarByHoursModel", name := "reply", desc := "(III)I" } : Jvm.MethodName)) ∈ lw_all := lw_g (lw_at lw_m10 96 rfl) rfl
theorem q2390 : (Jvm.Cond.code ({ cls := "WarByHoursModel", name := "reply", desc := "(III)I" } : Jvm.MethodName) prog_19_method_106_code (4 : Nat) (Option.some Jvm.ClassFile.FieldType.int)) ∈ lw_all := lw_g (lw_at lw_m10 97 rfl) rfl
theorem q2392 : (Jvm.Cond.instanceMethod ({ cls := "WarByHoursModel", name := "readings", desc := "(I)I" } : Jvm.MethodName)) ∈ lw_all := lw_g (lw_at lw_m10 99 rfl) rfl
theorem q2393 : (Jvm.Cond.selects "WarByHoursModel" ({ cls := "WarByHoursModel", name := "readings", desc := "(I)I" } : Jvm.MethodName) ({ cls := "WarByHoursModel", name := "readings", desc := "(I)I" } : Jvm.MethodName)) ∈ lw_all := lw_g (lw_at lw_m10 100 rfl) rfl
theorem q2394 : (Jvm.Cond.code ({ cls := "WarByHoursModel", name := "readings", desc := "(I)I" } : Jvm.MethodName) prog_19_method_111_code (2 : Nat) (Option.some Jvm.ClassFile.FieldType.int)) ∈ lw_all := lw_g (lw_at lw_m10 101 rfl) rfl
theorem q2395 : (Jvm.Cond.methodLink "WarByHoursModel" (401 : Nat) ({ cls := "WarByHoursModel", name := "isSigned", desc := "(I)Z" } : Jvm.MethodName)) ∈ lw_all := lw_g (lw_at lw_m10 102 rfl) rfl
theorem q2396 : (Jvm.Cond.privateMethod ({ cls := "WarByHoursModel", name := "isSigned", desc := "(I)Z" } : Jvm.MethodName)) ∈ lw_tbl := lw_at lw_m10 103 rfl
theorem q2397 : (Jvm.Cond.instanceMethod ({ cls := "WarByHoursModel", name := "isSigned", desc := "(I)Z" } : Jvm.MethodName)) ∈ lw_all := lw_g (lw_at lw_m10 104 rfl) rfl
theorem q2398 : (Jvm.Cond.code ({ cls := "WarByHoursModel", name := "isSigned", desc := "(I)Z" } : Jvm.MethodName) prog_19_method_110_code (2 : Nat) (Option.some Jvm.ClassFile.FieldType.boolean)) ∈ lw_all := lw_g (lw_at lw_m10 105 rfl) rfl
theorem q2399 : (Jvm.Cond.constantLong "WarByHoursModel" (399 : Nat) (59 : Int64)) ∈ lw_all := lw_g (lw_at lw_m10 106 rfl) rfl
theorem q2400 : (Jvm.Cond.methodLink "WarByHoursModel" (404 : Nat) ({ cls := "WarByHoursModel", name := "readingsOf", desc := "(I)I" } : Jvm.MethodName)) ∈ lw_all := lw_g (lw_at lw_m10 107 rfl) rfl
theorem q2401 : (Jvm.Cond.privateMethod ({ cls := "WarByHoursModel", name := "readingsOf", desc := "(I)I" } : Jvm.MethodName)) ∈ lw_tbl := lw_at lw_m10 108 rfl
theorem q2402 : (Jvm.Cond.instanceMethod ({ cls := "WarByHoursModel", name := "readingsOf", desc := "(I)I" } : Jvm.MethodName)) ∈ lw_all := lw_g (lw_at lw_m10 109 rfl) rfl
theorem q2403 : (Jvm.Cond.code ({ cls := "WarByHoursModel", name := "readingsOf", desc := "(I)I" } : Jvm.MethodName) prog_19_method_109_code (4 : Nat) (Option.some Jvm.ClassFile.FieldType.int)) ∈ lw_all := lw_g (lw_at lw_m10 110 rfl) rfl
theorem q2404 : (Jvm.Cond.methodLink "WarByHoursModel" (393 : Nat) ({ cls := "WarByHoursModel", name := "allReadings", desc := "()I" } : Jvm.MethodName)) ∈ lw_all := lw_g (lw_at lw_m10 111 rfl) rfl
theorem q2405 : (Jvm.Cond.privateMethod ({ cls := "WarByHoursModel", name := "allReadings", desc := "()I" } : Jvm.MethodName)) ∈ lw_tbl := lw_at lw_m10 112 rfl
theorem q2406 : (Jvm.Cond.instanceMethod ({ cls := "WarByHoursModel", name := "allReadings", desc := "()I" } : Jvm.MethodName)) ∈ lw_all := lw_g (lw_at lw_m10 113 rfl) rfl
theorem q2407 : (Jvm.Cond.code ({ cls := "WarByHoursModel", name := "allReadings", desc := "()I" } : Jvm.MethodName) prog_19_method_108_code (1 : Nat) (Option.some Jvm.ClassFile.FieldType.int)) ∈ lw_all := lw_g (lw_at lw_m10 114 rfl) rfl
theorem q2408 : (Jvm.Cond.methodLink "WarByHoursModel" (396 : Nat) ({ cls := "WarByHoursModel", name := "holdsBy", desc := "(II)Z" } : Jvm.MethodName)) ∈ lw_all := lw_g (lw_at lw_m10 115 rfl) rfl
theorem q2409 : (Jvm.Cond.privateMethod ({ cls := "WarByHoursModel", name := "holdsBy", desc := "(II)Z" } : Jvm.MethodName)) ∈ lw_tbl := lw_at lw_m10 116 rfl
theorem q2410 : (Jvm.Cond.instanceMethod ({ cls := "WarByHoursModel", name := "holdsBy", desc := "(II)Z" } : Jvm.MethodName)) ∈ lw_all := lw_g (lw_at lw_m10 117 rfl) rfl
theorem q2411 : (Jvm.Cond.code ({ cls := "WarByHoursModel", name := "holdsBy", desc := "(II)Z" } : Jvm.MethodName) prog_19_method_107_code (6 : Nat) (Option.some Jvm.ClassFile.FieldType.boolean)) ∈ lw_all := lw_g (lw_at lw_m10 118 rfl) rfl
theorem q2413 : (Jvm.Cond.instanceMethod ({ cls := "WarByHoursModel", name := "loopholes", desc := "()J" } : Jvm.MethodName)) ∈ lw_all := lw_g (lw_at lw_m10 120 rfl) rfl
theorem q2414 : (Jvm.Cond.selects "WarByHoursModel" ({ cls := "WarByHoursModel", name := "loopholes", desc := "()J" } : Jvm.MethodName) ({ cls := "WarByHoursModel", name := "loopholes", desc := "()J" } : Jvm.MethodName)) ∈ lw_all := lw_g (lw_at lw_m10 121 rfl) rfl
theorem q2415 : (Jvm.Cond.code ({ cls := "WarByHoursModel", name := "loopholes", desc := "()J" } : Jvm.MethodName) prog_19_method_112_code (4 : Nat) (Option.some Jvm.ClassFile.FieldType.long)) ∈ lw_all := lw_g (lw_at lw_m10 122 rfl) rfl
theorem q2417 : (Jvm.Cond.instanceMethod ({ cls := "WarByHoursModel", name := "close", desc := "(I)I" } : Jvm.MethodName)) ∈ lw_all := lw_g (lw_at lw_m10 124 rfl) rfl
theorem q2418 : (Jvm.Cond.selects "WarByHoursModel" ({ cls := "WarByHoursModel", name := "close", desc := "(I)I" } : Jvm.MethodName) ({ cls := "WarByHoursModel", name := "close", desc := "(I)I" } : Jvm.MethodName)) ∈ lw_all := lw_g (lw_at lw_m10 125 rfl) rfl
theorem q2419 : (Jvm.Cond.code ({ cls := "WarByHoursModel", name := "close", desc := "(I)I" } : Jvm.MethodName) prog_19_method_114_code (3 : Nat) (Option.some Jvm.ClassFile.FieldType.int)) ∈ lw_all := lw_g (lw_at lw_m10 126 rfl) rfl
theorem q2420 : (Jvm.Cond.methodLink "WarByHoursModel" (407 : Nat) ({ cls := "WarByHoursModel", name := "closedOf", desc := "(I)I" } : Jvm.MethodName)) ∈ lw_all := lw_g (lw_at lw_m10 127 rfl) rfl
theorem q2421 : (Jvm.Cond.privateMethod ({ cls := "WarByHoursModel", name := "closedOf", desc := "(I)I" } : Jvm.MethodName)) ∈ lw_tbl := lw_at lw_m10 128 rfl
theorem q2422 : (Jvm.Cond.instanceMethod ({ cls := "WarByHoursModel", name := "closedOf", desc := "(I)I" } : Jvm.MethodName)) ∈ lw_all := lw_g (lw_at lw_m10 129 rfl) rfl
theorem q2423 : (Jvm.Cond.code ({ cls := "WarByHoursModel", name := "closedOf", desc := "(I)I" } : Jvm.MethodName) prog_19_method_113_code (6 : Nat) (Option.some Jvm.ClassFile.FieldType.int)) ∈ lw_all := lw_g (lw_at lw_m10 130 rfl) rfl
theorem q2425 : (Jvm.Cond.instanceMethod ({ cls := "WarByHoursModel", name := "closed", desc := "(I)I" } : Jvm.MethodName)) ∈ lw_all := lw_g (lw_at lw_m10 132 rfl) rfl
theorem q2426 : (Jvm.Cond.selects "WarByHoursModel" ({ cls := "WarByHoursModel", name := "closed", desc := "(I)I" } : Jvm.MethodName) ({ cls := "WarByHoursModel", name := "closed", desc := "(I)I" } : Jvm.MethodName)) ∈ lw_all := lw_g (lw_at lw_m10 133 rfl) rfl
theorem q2427 : (Jvm.Cond.code ({ cls := "WarByHoursModel", name := "closed", desc := "(I)I" } : Jvm.MethodName) prog_19_method_115_code (2 : Nat) (Option.some Jvm.ClassFile.FieldType.int)) ∈ lw_all := lw_g (lw_at lw_m10 134 rfl) rfl
theorem q2429 : (Jvm.Cond.instanceMethod ({ cls := "WarByHoursModel", name := "signs", desc := "()I" } : Jvm.MethodName)) ∈ lw_all := lw_g (lw_at lw_m10 136 rfl) rfl
theorem q2430 : (Jvm.Cond.selects "WarByHoursModel" ({ cls := "WarByHoursModel", name := "signs", desc := "()I" } : Jvm.MethodName) ({ cls := "WarByHoursModel", name := "signs", desc := "()I" } : Jvm.MethodName)) ∈ lw_all := lw_g (lw_at lw_m10 137 rfl) rfl
theorem q2431 : (Jvm.Cond.code ({ cls := "WarByHoursModel", name := "signs", desc := "()I" } : Jvm.MethodName) prog_19_method_116_code (2 : Nat) (Option.some Jvm.ClassFile.FieldType.int)) ∈ lw_all := lw_g (lw_at lw_m10 138 rfl) rfl
theorem q2433 : (Jvm.Cond.instanceMethod ({ cls := "WarByHoursModel", name := "treaties", desc := "(I)J" } : Jvm.MethodName)) ∈ lw_all := lw_g (lw_at lw_m10 140 rfl) rfl
theorem q2434 : (Jvm.Cond.selects "WarByHoursModel" ({ cls := "WarByHoursModel", name := "treaties", desc := "(I)J" } : Jvm.MethodName) ({ cls := "WarByHoursModel", name := "treaties", desc := "(I)J" } : Jvm.MethodName)) ∈ lw_all := lw_g (lw_at lw_m10 141 rfl) rfl
theorem q2435 : (Jvm.Cond.code ({ cls := "WarByHoursModel", name := "treaties", desc := "(I)J" } : Jvm.MethodName) prog_19_method_118_code (5 : Nat) (Option.some Jvm.ClassFile.FieldType.long)) ∈ lw_all := lw_g (lw_at lw_m10 142 rfl) rfl
theorem q2436 : (Jvm.Cond.methodLink "WarByHoursModel" (413 : Nat) ({ cls := "WarByHoursModel", name := "isTreaty", desc := "(II)Z" } : Jvm.MethodName)) ∈ lw_all := lw_g (lw_at lw_m10 143 rfl) rfl
theorem q2437 : (Jvm.Cond.privateMethod ({ cls := "WarByHoursModel", name := "isTreaty", desc := "(II)Z" } : Jvm.MethodName)) ∈ lw_tbl := lw_at lw_m10 144 rfl
theorem q2438 : (Jvm.Cond.instanceMethod ({ cls := "WarByHoursModel", name := "isTreaty", desc := "(II)Z" } : Jvm.MethodName)) ∈ lw_all := lw_g (lw_at lw_m10 145 rfl) rfl
theorem q2439 : (Jvm.Cond.code ({ cls := "WarByHoursModel", name := "isTreaty", desc := "(II)Z" } : Jvm.MethodName) prog_19_method_117_code (4 : Nat) (Option.some Jvm.ClassFile.FieldType.boolean)) ∈ lw_all := lw_g (lw_at lw_m10 146 rfl) rfl
theorem q2440 : (Jvm.Cond.methodLink "WarByHoursModel" (410 : Nat) ({ cls := "java/lang/Math", name := "abs", desc := "(I)I" } : Jvm.MethodName)) ∈ lw_all := lw_g (lw_at lw_m10 147 rfl) rfl
theorem q2442 : (Jvm.Cond.instanceMethod ({ cls := "WarByHoursModel", name := "price", desc := "(II)I" } : Jvm.MethodName)) ∈ lw_all := lw_g (lw_at lw_m10 149 rfl) rfl
theorem q2443 : (Jvm.Cond.selects "WarByHoursModel" ({ cls := "WarByHoursModel", name := "price", desc := "(II)I" } : Jvm.MethodName) ({ cls := "WarByHoursModel", name := "price", desc := "(II)I" } : Jvm.MethodName)) ∈ lw_all := lw_g (lw_at lw_m10 150 rfl) rfl
theorem q2444 : (Jvm.Cond.code ({ cls := "WarByHoursModel", name := "price", desc := "(II)I" } : Jvm.MethodName) prog_19_method_119_code (4 : Nat) (Option.some Jvm.ClassFile.FieldType.int)) ∈ lw_all := lw_g (lw_at lw_m10 151 rfl) rfl
theorem q2446 : (Jvm.Cond.instanceMethod ({ cls := "WarByHoursModel", name := "spies", desc := "(I)I" } : Jvm.MethodName)) ∈ lw_all := lw_g (lw_at lw_m10 153 rfl) rfl
theorem q2447 : (Jvm.Cond.selects "WarByHoursModel" ({ cls := "WarByHoursModel", name := "spies", desc := "(I)I" } : Jvm.MethodName) ({ cls := "WarByHoursModel", name := "spies", desc := "(I)I" } : Jvm.MethodName)) ∈ lw_all := lw_g (lw_at lw_m10 154 rfl) rfl
theorem q2448 : (Jvm.Cond.code ({ cls := "WarByHoursModel", name := "spies", desc := "(I)I" } : Jvm.MethodName) prog_19_method_122_code (2 : Nat) (Option.some Jvm.ClassFile.FieldType.int)) ∈ lw_all := lw_g (lw_at lw_m10 155 rfl) rfl
theorem q2449 : (Jvm.Cond.methodLink "WarByHoursModel" (416 : Nat) ({ cls := "WarByHoursModel", name := "spiesBy", desc := "(I)I" } : Jvm.MethodName)) ∈ lw_all := lw_g (lw_at lw_m10 156 rfl) rfl
theorem q2450 : (Jvm.Cond.privateMethod ({ cls := "WarByHoursModel", name := "spiesBy", desc := "(I)I" } : Jvm.MethodName)) ∈ lw_tbl := lw_at lw_m10 157 rfl
theorem q2451 : (Jvm.Cond.instanceMethod ({ cls := "WarByHoursModel", name := "spiesBy", desc := "(I)I" } : Jvm.MethodName)) ∈ lw_all := lw_g (lw_at lw_m10 158 rfl) rfl
theorem q2452 : (Jvm.Cond.code ({ cls := "WarByHoursModel", name := "spiesBy", desc := "(I)I" } : Jvm.MethodName) prog_19_method_120_code (4 : Nat) (Option.some Jvm.ClassFile.FieldType.int)) ∈ lw_all := lw_g (lw_at lw_m10 159 rfl) rfl
theorem q2454 : (Jvm.Cond.instanceMethod ({ cls := "WarByHoursModel", name := "watch", desc := "(I)I" } : Jvm.MethodName)) ∈ lw_all := lw_g (lw_at lw_m10 161 rfl) rfl
theorem q2455 : (Jvm.Cond.selects "WarByHoursModel" ({ cls := "WarByHoursModel", name := "watch", desc := "(I)I" } : Jvm.MethodName) ({ cls := "WarByHoursModel", name := "watch", desc := "(I)I" } : Jvm.MethodName)) ∈ lw_all := lw_g (lw_at lw_m10 162 rfl) rfl
theorem q2456 : (Jvm.Cond.code ({ cls := "WarByHoursModel", name := "watch", desc := "(I)I" } : Jvm.MethodName) prog_19_method_124_code (2 : Nat) (Option.some Jvm.ClassFile.FieldType.int)) ∈ lw_all := lw_g (lw_at lw_m10 163 rfl) rfl
theorem q2457 : (Jvm.Cond.methodLink "WarByHoursModel" (425 : Nat) ({ cls := "WarByHoursModel", name := "watchOf", desc := "(I)I" } : Jvm.MethodName)) ∈ lw_all := lw_g (lw_at lw_m10 164 rfl) rfl
theorem q2458 : (Jvm.Cond.privateMethod ({ cls := "WarByHoursModel", name := "watchOf", desc := "(I)I" } : Jvm.MethodName)) ∈ lw_tbl := lw_at lw_m10 165 rfl
theorem q2459 : (Jvm.Cond.instanceMethod ({ cls := "WarByHoursModel", name := "watchOf", desc := "(I)I" } : Jvm.MethodName)) ∈ lw_all := lw_g (lw_at lw_m10 166 rfl) rfl
theorem q2460 : (Jvm.Cond.code ({ cls := "WarByHoursModel", name := "watchOf", desc := "(I)I" } : Jvm.MethodName) prog_19_method_123_code (6 : Nat) (Option.some Jvm.ClassFile.FieldType.int)) ∈ lw_all := lw_g (lw_at lw_m10 167 rfl) rfl
theorem q2461 : (Jvm.Cond.methodLink "WarByHoursModel" (422 : Nat) ({ cls := "WarByHoursModel", name := "knowing", desc := "(II)I" } : Jvm.MethodName)) ∈ lw_all := lw_g (lw_at lw_m10 168 rfl) rfl
theorem q2462 : (Jvm.Cond.privateMethod ({ cls := "WarByHoursModel", name := "knowing", desc := "(II)I" } : Jvm.MethodName)) ∈ lw_tbl := lw_at lw_m10 169 rfl
theorem q2463 : (Jvm.Cond.instanceMethod ({ cls := "WarByHoursModel", name := "knowing", desc := "(II)I" } : Jvm.MethodName)) ∈ lw_all := lw_g (lw_at lw_m10 170 rfl) rfl
theorem q2464 : (Jvm.Cond.code ({ cls := "WarByHoursModel", name := "knowing", desc := "(II)I" } : Jvm.MethodName) prog_19_method_121_code (5 : Nat) (Option.some Jvm.ClassFile.FieldType.int)) ∈ lw_all := lw_g (lw_at lw_m10 171 rfl) rfl
theorem q2466 : (Jvm.Cond.instanceMethod ({ cls := "WarByHoursModel", name := "leaves", desc := "(I)I" } : Jvm.MethodName)) ∈ lw_all := lw_g (lw_at lw_m10 173 rfl) rfl
theorem q2467 : (Jvm.Cond.selects "WarByHoursModel" ({ cls := "WarByHoursModel", name := "leaves", desc := "(I)I" } : Jvm.MethodName) ({ cls := "WarByHoursModel", name := "leaves", desc := "(I)I" } : Jvm.MethodName)) ∈ lw_all := lw_g (lw_at lw_m10 174 rfl) rfl
theorem q2468 : (Jvm.Cond.code ({ cls := "WarByHoursModel", name := "leaves", desc := "(I)I" } : Jvm.MethodName) prog_19_method_125_code (2 : Nat) (Option.some Jvm.ClassFile.FieldType.int)) ∈ lw_all := lw_g (lw_at lw_m10 175 rfl) rfl
theorem q2470 : (Jvm.Cond.instanceMethod ({ cls := "WarByHoursModel", name := "known", desc := "(II)I" } : Jvm.MethodName)) ∈ lw_all := lw_g (lw_at lw_m10 177 rfl) rfl
theorem q2471 : (Jvm.Cond.selects "WarByHoursModel" ({ cls := "WarByHoursModel", name := "known", desc := "(II)I" } : Jvm.MethodName) ({ cls := "WarByHoursModel", name := "known", desc := "(II)I" } : Jvm.MethodName)) ∈ lw_all := lw_g (lw_at lw_m10 178 rfl) rfl
theorem q2472 : (Jvm.Cond.code ({ cls := "WarByHoursModel", name := "known", desc := "(II)I" } : Jvm.MethodName) prog_19_method_126_code (6 : Nat) (Option.some Jvm.ClassFile.FieldType.int)) ∈ lw_all := lw_g (lw_at lw_m10 179 rfl) rfl
theorem q2474 : (Jvm.Cond.instanceMethod ({ cls := "WarByHoursModel", name := "grant", desc := "()I" } : Jvm.MethodName)) ∈ lw_all := lw_g (lw_at lw_m10 181 rfl) rfl
theorem q2475 : (Jvm.Cond.selects "WarByHoursModel" ({ cls := "WarByHoursModel", name := "grant", desc := "()I" } : Jvm.MethodName) ({ cls := "WarByHoursModel", name := "grant", desc := "()I" } : Jvm.MethodName)) ∈ lw_all := lw_g (lw_at lw_m10 182 rfl) rfl
theorem q2476 : (Jvm.Cond.code ({ cls := "WarByHoursModel", name := "grant", desc := "()I" } : Jvm.MethodName) prog_19_method_132_code (1 : Nat) (Option.some Jvm.ClassFile.FieldType.int)) ∈ lw_all := lw_g (lw_at lw_m10 183 rfl) rfl
theorem q2477 : (Jvm.Cond.methodLink "WarByHoursModel" (444 : Nat) ({ cls := "WarByHoursModel", name := "grantOf", desc := "(Z)I" } : Jvm.MethodName)) ∈ lw_all := lw_g (lw_at lw_m10 184 rfl) rfl
theorem q2478 : (Jvm.Cond.privateMethod ({ cls := "WarByHoursModel", name := "grantOf", desc := "(Z)I" } : Jvm.MethodName)) ∈ lw_tbl := lw_at lw_m10 185 rfl
theorem q2479 : (Jvm.Cond.instanceMethod ({ cls := "WarByHoursModel", name := "grantOf", desc := "(Z)I" } : Jvm.MethodName)) ∈ lw_all := lw_g (lw_at lw_m10 186 rfl) rfl
theorem q2480 : (Jvm.Cond.code ({ cls := "WarByHoursModel", name := "grantOf", desc := "(Z)I" } : Jvm.MethodName) prog_19_method_131_code (6 : Nat) (Option.some Jvm.ClassFile.FieldType.int)) ∈ lw_all := lw_g (lw_at lw_m10 187 rfl) rfl
theorem q2481 : (Jvm.Cond.methodLink "WarByHoursModel" (428 : Nat) ({ cls := "WarByHoursModel", name := "ofAsk", desc := "(II)I" } : Jvm.MethodName)) ∈ lw_all := lw_g (lw_at lw_m10 188 rfl) rfl
theorem q2482 : (Jvm.Cond.privateMethod ({ cls := "WarByHoursModel", name := "ofAsk", desc := "(II)I" } : Jvm.MethodName)) ∈ lw_tbl := lw_at lw_m10 189 rfl
theorem q2483 : (Jvm.Cond.instanceMethod ({ cls := "WarByHoursModel", name := "ofAsk", desc := "(II)I" } : Jvm.MethodName)) ∈ lw_all := lw_g (lw_at lw_m10 190 rfl) rfl
theorem q2484 : (Jvm.Cond.code ({ cls := "WarByHoursModel", name := "ofAsk", desc := "(II)I" } : Jvm.MethodName) prog_19_method_127_code (3 : Nat) (Option.some Jvm.ClassFile.FieldType.int)) ∈ lw_all := lw_g (lw_at lw_m10 191 rfl) rfl
theorem q2485 : (Jvm.Cond.methodLink "WarByHoursModel" (437 : Nat) ({ cls := "WarByHoursModel", name := "canGrant", desc := "(IZ)Z" } : Jvm.MethodName)) ∈ lw_all := lw_g (lw_at lw_m10 192 rfl) rfl
theorem q2486 : (Jvm.Cond.privateMethod ({ cls := "WarByHoursModel", name := "canGrant", desc := "(IZ)Z" } : Jvm.MethodName)) ∈ lw_tbl := lw_at lw_m10 193 rfl
theorem q2487 : (Jvm.Cond.instanceMethod ({ cls := "WarByHoursModel", name := "canGrant", desc := "(IZ)Z" } : Jvm.MethodName)) ∈ lw_all := lw_g (lw_at lw_m10 194 rfl) rfl
theorem q2488 : (Jvm.Cond.code ({ cls := "WarByHoursModel", name := "canGrant", desc := "(IZ)Z" } : Jvm.MethodName) prog_19_method_130_code (7 : Nat) (Option.some Jvm.ClassFile.FieldType.boolean)) ∈ lw_all := lw_g (lw_at lw_m10 195 rfl) rfl
theorem q2489 : (Jvm.Cond.methodLink "WarByHoursModel" (431 : Nat) ({ cls := "WarByHoursModel", name := "nextAsk", desc := "(II)I" } : Jvm.MethodName)) ∈ lw_all := lw_g (lw_at lw_m10 196 rfl) rfl
theorem q2490 : (Jvm.Cond.privateMethod ({ cls := "WarByHoursModel", name := "nextAsk", desc := "(II)I" } : Jvm.MethodName)) ∈ lw_tbl := lw_at lw_m10 197 rfl
theorem q2491 : (Jvm.Cond.instanceMethod ({ cls := "WarByHoursModel", name := "nextAsk", desc := "(II)I" } : Jvm.MethodName)) ∈ lw_all := lw_g (lw_at lw_m10 198 rfl) rfl
theorem q2492 : (Jvm.Cond.code ({ cls := "WarByHoursModel", name := "nextAsk", desc := "(II)I" } : Jvm.MethodName) prog_19_method_129_code (5 : Nat) (Option.some Jvm.ClassFile.FieldType.int)) ∈ lw_all := lw_g (lw_at lw_m10 199 rfl) rfl
theorem q2493 : (Jvm.Cond.methodLink "WarByHoursModel" (434 : Nat) ({ cls := "WarByHoursModel", name := "endOf", desc := "(I)I" } : Jvm.MethodName)) ∈ lw_all := lw_g (lw_at lw_m10 200 rfl) rfl
theorem q2494 : (Jvm.Cond.privateMethod ({ cls := "WarByHoursModel", name := "endOf", desc := "(I)I" } : Jvm.MethodName)) ∈ lw_tbl := lw_at lw_m10 201 rfl
theorem q2495 : (Jvm.Cond.instanceMethod ({ cls := "WarByHoursModel", name := "endOf", desc := "(I)I" } : Jvm.MethodName)) ∈ lw_all := lw_g (lw_at lw_m10 202 rfl) rfl
theorem q2496 : (Jvm.Cond.code ({ cls := "WarByHoursModel", name := "endOf", desc := "(I)I" } : Jvm.MethodName) prog_19_method_128_code (2 : Nat) (Option.some Jvm.ClassFile.FieldType.int)) ∈ lw_all := lw_g (lw_at lw_m10 203 rfl) rfl
theorem q2498 : (Jvm.Cond.instanceMethod ({ cls := "WarByHoursModel", name := "granted", desc := "()I" } : Jvm.MethodName)) ∈ lw_all := lw_g (lw_at lw_m10 205 rfl) rfl
theorem q2499 : (Jvm.Cond.selects "WarByHoursModel" ({ cls := "WarByHoursModel", name := "granted", desc := "()I" } : Jvm.MethodName) ({ cls := "WarByHoursModel", name := "granted", desc := "()I" } : Jvm.MethodName)) ∈ lw_all := lw_g (lw_at lw_m10 206 rfl) rfl
theorem q2500 : (Jvm.Cond.code ({ cls := "WarByHoursModel", name := "granted", desc := "()I" } : Jvm.MethodName) prog_19_method_133_code (1 : Nat) (Option.some Jvm.ClassFile.FieldType.int)) ∈ lw_all := lw_g (lw_at lw_m10 207 rfl) rfl
theorem q2502 : (Jvm.Cond.instanceMethod ({ cls := "WarByHoursModel", name := "halves", desc := "()I" } : Jvm.MethodName)) ∈ lw_all := lw_g (lw_at lw_m10 209 rfl) rfl
theorem q2503 : (Jvm.Cond.selects "WarByHoursModel" ({ cls := "WarByHoursModel", name := "halves", desc := "()I" } : Jvm.MethodName) ({ cls := "WarByHoursModel", name := "halves", desc := "()I" } : Jvm.MethodName)) ∈ lw_all := lw_g (lw_at lw_m10 210 rfl) rfl
theorem q2504 : (Jvm.Cond.code ({ cls := "WarByHoursModel", name := "halves", desc := "()I" } : Jvm.MethodName) prog_19_method_134_code (1 : Nat) (Option.some Jvm.ClassFile.FieldType.int)) ∈ lw_all := lw_g (lw_at lw_m10 211 rfl) rfl
theorem q2506 : (Jvm.Cond.instanceMethod ({ cls := "WarByHoursModel", name := "halved", desc := "()I" } : Jvm.MethodName)) ∈ lw_all := lw_g (lw_at lw_m10 213 rfl) rfl
theorem q2507 : (Jvm.Cond.selects "WarByHoursModel" ({ cls := "WarByHoursModel", name := "halved", desc := "()I" } : Jvm.MethodName) ({ cls := "WarByHoursModel", name := "halved", desc := "()I" } : Jvm.MethodName)) ∈ lw_all := lw_g (lw_at lw_m10 214 rfl) rfl
theorem q2508 : (Jvm.Cond.code ({ cls := "WarByHoursModel", name := "halved", desc := "()I" } : Jvm.MethodName) prog_19_method_135_code (1 : Nat) (Option.some Jvm.ClassFile.FieldType.int)) ∈ lw_all := lw_g (lw_at lw_m10 215 rfl) rfl
theorem q2510 : (Jvm.Cond.instanceMethod ({ cls := "WarByHoursModel", name := "dry", desc := "(III)J" } : Jvm.MethodName)) ∈ lw_all := lw_g (lw_at lw_m10 217 rfl) rfl
theorem q2511 : (Jvm.Cond.selects "WarByHoursModel" ({ cls := "WarByHoursModel", name := "dry", desc := "(III)J" } : Jvm.MethodName) ({ cls := "WarByHoursModel", name := "dry", desc := "(III)J" } : Jvm.MethodName)) ∈ lw_all := lw_g (lw_at lw_m10 218 rfl) rfl
theorem q2512 : (Jvm.Cond.code ({ cls := "WarByHoursModel", name := "dry", desc := "(III)J" } : Jvm.MethodName) prog_19_method_136_code (9 : Nat) (Option.some Jvm.ClassFile.FieldType.long)) ∈ lw_all := lw_g (lw_at lw_m10 219 rfl) rfl
theorem q2514 : (Jvm.Cond.instanceMethod ({ cls := "WarByHoursModel", name := "insist", desc := "(I)I" } : Jvm.MethodName)) ∈ lw_all := lw_g (lw_at lw_m10 221 rfl) rfl
theorem q2515 : (Jvm.Cond.selects "WarByHoursModel" ({ cls := "WarByHoursModel", name := "insist", desc := "(I)I" } : Jvm.MethodName) ({ cls := "WarByHoursModel", name := "insist", desc := "(I)I" } : Jvm.MethodName)) ∈ lw_all := lw_g (lw_at lw_m10 222 rfl) rfl
theorem q2516 : (Jvm.Cond.code ({ cls := "WarByHoursModel", name := "insist", desc := "(I)I" } : Jvm.MethodName) prog_19_method_137_code (4 : Nat) (Option.some Jvm.ClassFile.FieldType.int)) ∈ lw_all := lw_g (lw_at lw_m10 223 rfl) rfl
theorem q2518 : (Jvm.Cond.instanceMethod ({ cls := "WarByHoursModel", name := "tell", desc := "(III)I" } : Jvm.MethodName)) ∈ lw_all := lw_g (lw_at lw_m10 225 rfl) rfl
theorem q2519 : (Jvm.Cond.selects "WarByHoursModel" ({ cls := "WarByHoursModel", name := "tell", desc := "(III)I" } : Jvm.MethodName) ({ cls := "WarByHoursModel", name := "tell", desc := "(III)I" } : Jvm.MethodName)) ∈ lw_all := lw_g (lw_at lw_m10 226 rfl) rfl
theorem q2520 : (Jvm.Cond.code ({ cls := "WarByHoursModel", name := "tell", desc := "(III)I" } : Jvm.MethodName) prog_19_method_140_code (4 : Nat) (Option.some Jvm.ClassFile.FieldType.int)) ∈ lw_all := lw_g (lw_at lw_m10 227 rfl) rfl
theorem q2521 : (Jvm.Cond.methodLink "WarByHoursModel" (451 : Nat) ({ cls := "WarByHoursModel", name := "changed", desc := "(II)I" } : Jvm.MethodName)) ∈ lw_all := lw_g (lw_at lw_m10 228 rfl) rfl
theorem q2522 : (Jvm.Cond.privateMethod ({ cls := "WarByHoursModel", name := "changed", desc := "(II)I" } : Jvm.MethodName)) ∈ lw_tbl := lw_at lw_m10 229 rfl
theorem q2523 : (Jvm.Cond.instanceMethod ({ cls := "WarByHoursModel", name := "changed", desc := "(II)I" } : Jvm.MethodName)) ∈ lw_all := lw_g (lw_at lw_m10 230 rfl) rfl
theorem q2524 : (Jvm.Cond.code ({ cls := "WarByHoursModel", name := "changed", desc := "(II)I" } : Jvm.MethodName) prog_19_method_139_code (4 : Nat) (Option.some Jvm.ClassFile.FieldType.int)) ∈ lw_all := lw_g (lw_at lw_m10 231 rfl) rfl
theorem q2525 : (Jvm.Cond.methodLink "WarByHoursModel" (448 : Nat) ({ cls := "WarByHoursModel", name := "change", desc := "(II)V" } : Jvm.MethodName)) ∈ lw_all := lw_g (lw_at lw_m10 232 rfl) rfl
theorem q2526 : (Jvm.Cond.privateMethod ({ cls := "WarByHoursModel", name := "change", desc := "(II)V" } : Jvm.MethodName)) ∈ lw_tbl := lw_at lw_m10 233 rfl
theorem q2527 : (Jvm.Cond.instanceMethod ({ cls := "WarByHoursModel", name := "change", desc := "(II)V" } : Jvm.MethodName)) ∈ lw_all := lw_g (lw_at lw_m10 234 rfl) rfl
theorem q2528 : (Jvm.Cond.code ({ cls := "WarByHoursModel", name := "change", desc := "(II)V" } : Jvm.MethodName) prog_19_method_138_code (4 : Nat) (Option.none : Option Jvm.ClassFile.FieldType)) ∈ lw_all := lw_g (lw_at lw_m10 235 rfl) rfl
theorem q2530 : (Jvm.Cond.instanceMethod ({ cls := "WarByHoursModel", name := "needs", desc := "(II)I" } : Jvm.MethodName)) ∈ lw_all := lw_g (lw_at lw_m10 237 rfl) rfl
theorem q2531 : (Jvm.Cond.selects "WarByHoursModel" ({ cls := "WarByHoursModel", name := "needs", desc := "(II)I" } : Jvm.MethodName) ({ cls := "WarByHoursModel", name := "needs", desc := "(II)I" } : Jvm.MethodName)) ∈ lw_all := lw_g (lw_at lw_m10 238 rfl) rfl
theorem q2532 : (Jvm.Cond.code ({ cls := "WarByHoursModel", name := "needs", desc := "(II)I" } : Jvm.MethodName) prog_19_method_141_code (3 : Nat) (Option.some Jvm.ClassFile.FieldType.int)) ∈ lw_all := lw_g (lw_at lw_m10 239 rfl) rfl
theorem q2534 : (Jvm.Cond.instanceMethod ({ cls := "WarByHoursModel", name := "undo", desc := "()I" } : Jvm.MethodName)) ∈ lw_all := lw_g (lw_at lw_m11 1 rfl) rfl
theorem q2535 : (Jvm.Cond.selects "WarByHoursModel" ({ cls := "WarByHoursModel", name := "undo", desc := "()I" } : Jvm.MethodName) ({ cls := "WarByHoursModel", name := "undo", desc := "()I" } : Jvm.MethodName)) ∈ lw_all := lw_g (lw_at lw_m11 2 rfl) rfl
theorem q2536 : (Jvm.Cond.code ({ cls := "WarByHoursModel", name := "undo", desc := "()I" } : Jvm.MethodName) prog_19_method_142_code (2 : Nat) (Option.some Jvm.ClassFile.FieldType.int)) ∈ lw_all := lw_g (lw_at lw_m11 3 rfl) rfl
theorem q2538 : (Jvm.Cond.instanceMethod ({ cls := "WarByHoursModel", name := "drawn", desc := "(II)I" } : Jvm.MethodName)) ∈ lw_all := lw_g (lw_at lw_m11 5 rfl) rfl
theorem q2539 : (Jvm.Cond.selects "WarByHoursModel" ({ cls := "WarByHoursModel", name := "drawn", desc := "(II)I" } : Jvm.MethodName) ({ cls := "WarByHoursModel", name := "drawn", desc := "(II)I" } : Jvm.MethodName)) ∈ lw_all := lw_g (lw_at lw_m11 6 rfl) rfl
theorem q2540 : (Jvm.Cond.code ({ cls := "WarByHoursModel", name := "drawn", desc := "(II)I" } : Jvm.MethodName) prog_19_method_145_code (4 : Nat) (Option.some Jvm.ClassFile.FieldType.int)) ∈ lw_all := lw_g (lw_at lw_m11 7 rfl) rfl
theorem q2541 : (Jvm.Cond.methodLink "WarByHoursModel" (464 : Nat) ({ cls := "WarByHoursModel", name := "isSeed", desc := "(I)Z" } : Jvm.MethodName)) ∈ lw_all := lw_g (lw_at lw_m11 8 rfl) rfl
theorem q2542 : (Jvm.Cond.privateMethod ({ cls := "WarByHoursModel", name := "isSeed", desc := "(I)Z" } : Jvm.MethodName)) ∈ lw_tbl := lw_at lw_m11 9 rfl
theorem q2543 : (Jvm.Cond.instanceMethod ({ cls := "WarByHoursModel", name := "isSeed", desc := "(I)Z" } : Jvm.MethodName)) ∈ lw_all := lw_g (lw_at lw_m11 10 rfl) rfl
theorem q2544 : (Jvm.Cond.code ({ cls := "WarByHoursModel", name := "isSeed", desc := "(I)Z" } : Jvm.MethodName) prog_19_method_144_code (2 : Nat) (Option.some Jvm.ClassFile.FieldType.boolean)) ∈ lw_all := lw_g (lw_at lw_m11 11 rfl) rfl
theorem q2545 : (Jvm.Cond.constantLong "WarByHoursModel" (462 : Nat) (2000000000 : Int64)) ∈ lw_all := lw_g (lw_at lw_m11 12 rfl) rfl
theorem q2546 : (Jvm.Cond.methodLink "WarByHoursModel" (467 : Nat) ({ cls := "WarByHoursModel", name := "drawnDelays", desc := "(J)I" } : Jvm.MethodName)) ∈ lw_all := lw_g (lw_at lw_m11 13 rfl) rfl
theorem q2547 : (Jvm.Cond.privateMethod ({ cls := "WarByHoursModel", name := "drawnDelays", desc := "(J)I" } : Jvm.MethodName)) ∈ lw_tbl := lw_at lw_m11 14 rfl
theorem q2548 : (Jvm.Cond.instanceMethod ({ cls := "WarByHoursModel", name := "drawnDelays", desc := "(J)I" } : Jvm.MethodName)) ∈ lw_all := lw_g (lw_at lw_m11 15 rfl) rfl
theorem q2549 : (Jvm.Cond.code ({ cls := "WarByHoursModel", name := "drawnDelays", desc := "(J)I" } : Jvm.MethodName) prog_19_method_143_code (7 : Nat) (Option.some Jvm.ClassFile.FieldType.int)) ∈ lw_all := lw_g (lw_at lw_m11 16 rfl) rfl
theorem q2550 : (Jvm.Cond.constantLong "WarByHoursModel" (454 : Nat) (1103515245 : Int64)) ∈ lw_all := lw_g (lw_at lw_m11 17 rfl) rfl
theorem q2551 : (Jvm.Cond.constantLong "WarByHoursModel" (456 : Nat) (12345 : Int64)) ∈ lw_all := lw_g (lw_at lw_m11 18 rfl) rfl
theorem q2552 : (Jvm.Cond.constantLong "WarByHoursModel" (458 : Nat) (2147483648 : Int64)) ∈ lw_all := lw_g (lw_at lw_m11 19 rfl) rfl
theorem q2553 : (Jvm.Cond.constantLong "WarByHoursModel" (460 : Nat) (65536 : Int64)) ∈ lw_all := lw_g (lw_at lw_m11 20 rfl) rfl
theorem q2555 : (Jvm.Cond.instanceMethod ({ cls := "WarByHoursModel", name := "luck", desc := "(III)I" } : Jvm.MethodName)) ∈ lw_all := lw_g (lw_at lw_m11 22 rfl) rfl
theorem q2556 : (Jvm.Cond.selects "WarByHoursModel" ({ cls := "WarByHoursModel", name := "luck", desc := "(III)I" } : Jvm.MethodName) ({ cls := "WarByHoursModel", name := "luck", desc := "(III)I" } : Jvm.MethodName)) ∈ lw_all := lw_g (lw_at lw_m11 23 rfl) rfl
theorem q2557 : (Jvm.Cond.code ({ cls := "WarByHoursModel", name := "luck", desc := "(III)I" } : Jvm.MethodName) prog_19_method_146_code (7 : Nat) (Option.some Jvm.ClassFile.FieldType.int)) ∈ lw_all := lw_g (lw_at lw_m11 24 rfl) rfl
theorem q2558 : (Jvm.Cond.constantLong "WarByHoursModel" (471 : Nat) (20 : Int64)) ∈ lw_all := lw_g (lw_at lw_m11 25 rfl) rfl
theorem q2560 : (Jvm.Cond.instanceMethod ({ cls := "WarByHoursModel", name := "count", desc := "(I)I" } : Jvm.MethodName)) ∈ lw_all := lw_g (lw_at lw_m11 27 rfl) rfl
theorem q2561 : (Jvm.Cond.selects "WarByHoursModel" ({ cls := "WarByHoursModel", name := "count", desc := "(I)I" } : Jvm.MethodName) ({ cls := "WarByHoursModel", name := "count", desc := "(I)I" } : Jvm.MethodName)) ∈ lw_all := lw_g (lw_at lw_m11 28 rfl) rfl
theorem q2562 : (Jvm.Cond.code ({ cls := "WarByHoursModel", name := "count", desc := "(I)I" } : Jvm.MethodName) prog_19_method_147_code (4 : Nat) (Option.some Jvm.ClassFile.FieldType.int)) ∈ lw_all := lw_g (lw_at lw_m11 29 rfl) rfl
theorem q2564 : (Jvm.Cond.instanceMethod ({ cls := "WarByHoursModel", name := "row", desc := "(III)I" } : Jvm.MethodName)) ∈ lw_all := lw_g (lw_at lw_m11 31 rfl) rfl
theorem q2565 : (Jvm.Cond.selects "WarByHoursModel" ({ cls := "WarByHoursModel", name := "row", desc := "(III)I" } : Jvm.MethodName) ({ cls := "WarByHoursModel", name := "row", desc := "(III)I" } : Jvm.MethodName)) ∈ lw_all := lw_g (lw_at lw_m11 32 rfl) rfl
theorem q2566 : (Jvm.Cond.code ({ cls := "WarByHoursModel", name := "row", desc := "(III)I" } : Jvm.MethodName) prog_19_method_150_code (5 : Nat) (Option.some Jvm.ClassFile.FieldType.int)) ∈ lw_all := lw_g (lw_at lw_m11 33 rfl) rfl
theorem q2567 : (Jvm.Cond.methodLink "WarByHoursModel" (473 : Nat) ({ cls := "WarByHoursModel", name := "isSlot", desc := "(I)Z" } : Jvm.MethodName)) ∈ lw_all := lw_g (lw_at lw_m11 34 rfl) rfl
theorem q2568 : (Jvm.Cond.static ({ cls := "WarByHoursModel", name := "isSlot", desc := "(I)Z" } : Jvm.MethodName)) ∈ lw_all := lw_g (lw_at lw_m11 35 rfl) rfl
theorem q2569 : (Jvm.Cond.code ({ cls := "WarByHoursModel", name := "isSlot", desc := "(I)Z" } : Jvm.MethodName) prog_19_method_148_code (1 : Nat) (Option.some Jvm.ClassFile.FieldType.boolean)) ∈ lw_all := lw_g (lw_at lw_m11 36 rfl) rfl
theorem q2571 : (Jvm.Cond.instanceMethod ({ cls := "WarByHoursModel", name := "write", desc := "(IIJ)I" } : Jvm.MethodName)) ∈ lw_all := lw_g (lw_at lw_m11 38 rfl) rfl
theorem q2572 : (Jvm.Cond.selects "WarByHoursModel" ({ cls := "WarByHoursModel", name := "write", desc := "(IIJ)I" } : Jvm.MethodName) ({ cls := "WarByHoursModel", name := "write", desc := "(IIJ)I" } : Jvm.MethodName)) ∈ lw_all := lw_g (lw_at lw_m11 39 rfl) rfl
theorem q2573 : (Jvm.Cond.code ({ cls := "WarByHoursModel", name := "write", desc := "(IIJ)I" } : Jvm.MethodName) prog_19_method_151_code (5 : Nat) (Option.some Jvm.ClassFile.FieldType.int)) ∈ lw_all := lw_g (lw_at lw_m11 40 rfl) rfl
theorem q2574 : (Jvm.Cond.methodLink "WarByHoursModel" (476 : Nat) ({ cls := "WarByHoursModel", name := "cut", desc := "(JI)J" } : Jvm.MethodName)) ∈ lw_all := lw_g (lw_at lw_m11 41 rfl) rfl
theorem q2575 : (Jvm.Cond.static ({ cls := "WarByHoursModel", name := "cut", desc := "(JI)J" } : Jvm.MethodName)) ∈ lw_all := lw_g (lw_at lw_m11 42 rfl) rfl
theorem q2576 : (Jvm.Cond.code ({ cls := "WarByHoursModel", name := "cut", desc := "(JI)J" } : Jvm.MethodName) prog_19_method_149_code (4 : Nat) (Option.some Jvm.ClassFile.FieldType.long)) ∈ lw_all := lw_g (lw_at lw_m11 43 rfl) rfl
theorem q2578 : (Jvm.Cond.instanceMethod ({ cls := "WarByHoursModel", name := "paste", desc := "(IIIII)I" } : Jvm.MethodName)) ∈ lw_all := lw_g (lw_at lw_m11 45 rfl) rfl
theorem q2579 : (Jvm.Cond.selects "WarByHoursModel" ({ cls := "WarByHoursModel", name := "paste", desc := "(IIIII)I" } : Jvm.MethodName) ({ cls := "WarByHoursModel", name := "paste", desc := "(IIIII)I" } : Jvm.MethodName)) ∈ lw_all := lw_g (lw_at lw_m11 46 rfl) rfl
theorem q2580 : (Jvm.Cond.code ({ cls := "WarByHoursModel", name := "paste", desc := "(IIIII)I" } : Jvm.MethodName) prog_19_method_152_code (7 : Nat) (Option.some Jvm.ClassFile.FieldType.int)) ∈ lw_all := lw_g (lw_at lw_m11 47 rfl) rfl
theorem q2596 : (Jvm.Cond.castable "WarByHoursModel" "java/lang/Object") ∈ lw_tbl := lw_at lw_m11 63 rfl
theorem in_X11 : ∀ w ∈ wsX110, w ∈ lw_all := lw_in wsX110 [1879, 1881, 1883, 1885, 1887, 1889, 1891, 1893, 1895, 1897, 1899, 1901, 1903, 1905, 1907, 1909, 1911, 1913, 1915, 1917, 1919, 1921, 1923, 1925, 1927, 1929, 1931, 1933, 1935, 1937, 1939, 1941] (by decide +kernel) (by decide +kernel)
