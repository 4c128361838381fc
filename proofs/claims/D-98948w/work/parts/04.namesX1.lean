/-! SandKeepsSea -/
set_option maxRecDepth 100000
def RX1 : String := "SandKeepsSea"
def TX1 : u_T := fun k => match k with
  | 0 => ("SandKeepsSea", "now", "LSandKeepsSea$Beach;", true)
  | 1 => ("SandKeepsSea", "aside", "LSandKeepsSea$Beach;", true)
  | 2 => ("SandKeepsSea", "tried", "LSandKeepsSea$Beach;", true)
  | 3 => ("SandKeepsSea", "ahead", "[LSandKeepsSea$Beach;", true)
  | 4 => ("SandKeepsSea", "base", "[I", true)
  | 5 => ("SandKeepsSea", "dyke", "[I", true)
  | 6 => ("SandKeepsSea", "age", "[I", true)
  | 7 => ("SandKeepsSea", "skill", "[I", true)
  | 8 => ("SandKeepsSea", "friend", "[I", true)
  | 9 => ("SandKeepsSea", "cells", "I", false)
  | 10 => ("SandKeepsSea", "kids", "I", false)
  | 11 => ("SandKeepsSea", "wind", "I", false)
  | 12 => ("SandKeepsSea", "spades", "I", false)
  | 13 => ("SandKeepsSea", "came", "I", false)
  | 14 => ("SandKeepsSea", "undoMany", "I", false)
  | 15 => ("SandKeepsSea", "text", "[B", true)
  | 16 => ("SandKeepsSea", "typed", "I", false)
  | 17 => ("SandKeepsSea", "row", "[J", true)
  | 18 => ("SandKeepsSea", "rowMany", "I", false)
  | 19 => ("SandKeepsSea", "rule", "LSandKeepsSea$Rule;", false)
  | 20 => ("SandKeepsSea", "sand", "[I", true)
  | 21 => ("SandKeepsSea", "lastLevel", "I", false)
  | 22 => ("SandKeepsSea", "lastBroken", "I", false)
  | 23 => ("SandKeepsSea", "raised", "[I", true)
  | 24 => ("SandKeepsSea", "heap", "[I", true)
  | 25 => ("SandKeepsSea", "row0", "[I", true)
  | 26 => ("SandKeepsSea", "least", "[I", true)
  | 27 => ("SandKeepsSea", "been", "[I", true)
  | 28 => ("SandKeepsSea", "seenBits", "I", false)
  | 29 => ("SandKeepsSea", "found", "I", false)
  | 30 => ("SandKeepsSea", "drawn", "I", false)
  | _ => ("SandKeepsSea", "pages", "[LSandKeepsSea$Page;", true)
def tyX1 : Nat → FieldType := fun k => match k with
  | 0 => .object "SandKeepsSea$Beach"
  | 1 => .object "SandKeepsSea$Beach"
  | 2 => .object "SandKeepsSea$Beach"
  | 3 => .array (.object "SandKeepsSea$Beach")
  | 4 => .array .int
  | 5 => .array .int
  | 6 => .array .int
  | 7 => .array .int
  | 8 => .array .int
  | 9 => .int
  | 10 => .int
  | 11 => .int
  | 12 => .int
  | 13 => .int
  | 14 => .int
  | 15 => .array .byte
  | 16 => .int
  | 17 => .array .long
  | 18 => .int
  | 19 => .object "SandKeepsSea$Rule"
  | 20 => .array .int
  | 21 => .int
  | 22 => .int
  | 23 => .array .int
  | 24 => .array .int
  | 25 => .array .int
  | 26 => .array .int
  | 27 => .array .int
  | 28 => .int
  | 29 => .int
  | 30 => .int
  | _ => .array (.object "SandKeepsSea$Page")
abbrev wsX10 : List Cond := u_ws RX1 TX1 32
set_option maxRecDepth 100000 in
theorem nmX1 : ∀ a, a < 32 → ∀ b, b < 32 → a ≠ b → (TX1 a).2.1 ≠ (TX1 b).2.1 := by decide +kernel
set_option maxRecDepth 100000 in
theorem tyX1_ok : ∀ k, k < 32 → parseFieldDescriptor (TX1 k).2.2.1 = some (tyX1 k) := by decide +kernel
abbrev cX1_init : ByteArray := prog_1_method_3_code
def yX1_init : MethodName := ⟨RX1, "<init>", "()V"⟩
def dkwX1_init_8 : List UInt8 := [132, 1, 1, 167, 255, 234, 42, 180, 0, 10, 182, 0, 81, 177]
abbrev dktX1_init_8 : List UInt8 := dkwX1_init_8 ++ []
def dkwX1_init_7 : List UInt8 := [181, 0, 77, 3, 60, 27, 16, 15, 162, 0, 22, 42, 180, 0, 22, 27, 187, 0, 7, 89, 183, 0, 9, 83]
abbrev dktX1_init_7 : List UInt8 := dkwX1_init_7 ++ dktX1_init_8
def dkwX1_init_6 : List UInt8 := [181, 0, 66, 42, 16, 8, 188, 10, 181, 0, 69, 42, 16, 8, 188, 10, 181, 0, 72, 42, 6, 189, 0, 75]
abbrev dktX1_init_6 : List UInt8 := dkwX1_init_6 ++ dktX1_init_7
def dkwX1_init_5 : List UInt8 := [181, 0, 57, 42, 16, 12, 188, 10, 181, 0, 60, 42, 16, 12, 188, 10, 181, 0, 63, 42, 16, 8, 188, 10]
abbrev dktX1_init_5 : List UInt8 := dkwX1_init_5 ++ dktX1_init_6
def dkwX1_init_4 : List UInt8 := [181, 0, 46, 42, 16, 80, 188, 8, 181, 0, 49, 42, 16, 20, 188, 11, 181, 0, 53, 42, 16, 12, 188, 10]
abbrev dktX1_init_4 : List UInt8 := dkwX1_init_4 ++ dktX1_init_5
def dkwX1_init_3 : List UInt8 := [16, 8, 188, 10, 181, 0, 36, 42, 16, 8, 188, 10, 181, 0, 39, 42, 4, 181, 0, 42, 42, 5]
abbrev dktX1_init_3 : List UInt8 := dkwX1_init_3 ++ dktX1_init_4
def dkwX1_init_2 : List UInt8 := [16, 12, 188, 10, 181, 0, 26, 42, 16, 12, 188, 10, 181, 0, 30, 42, 16, 8, 188, 10, 181, 0, 33, 42]
abbrev dktX1_init_2 : List UInt8 := dkwX1_init_2 ++ dktX1_init_3
def dkwX1_init_1 : List UInt8 := [181, 0, 16, 42, 187, 0, 7, 89, 183, 0, 9, 181, 0, 19, 42, 16, 15, 189, 0, 7, 181, 0, 22, 42]
abbrev dktX1_init_1 : List UInt8 := dkwX1_init_1 ++ dktX1_init_2
def dkwX1_init_0 : List UInt8 := [42, 183, 0, 1, 42, 187, 0, 7, 89, 183, 0, 9, 181, 0, 10, 42, 187, 0, 7, 89, 183, 0, 9]
abbrev dktX1_init_0 : List UInt8 := dkwX1_init_0 ++ dktX1_init_1
theorem dksX1_init_0 : cX1_init.data.toList.drop 0 = dktX1_init_0 := by decide +kernel
theorem dksX1_init_1 : cX1_init.data.toList.drop 23 = dktX1_init_1 := dk_seg dksX1_init_0 23 rfl rfl
theorem dksX1_init_2 : cX1_init.data.toList.drop 47 = dktX1_init_2 := dk_seg dksX1_init_1 24 rfl rfl
theorem dksX1_init_3 : cX1_init.data.toList.drop 71 = dktX1_init_3 := dk_seg dksX1_init_2 24 rfl rfl
theorem dksX1_init_4 : cX1_init.data.toList.drop 93 = dktX1_init_4 := dk_seg dksX1_init_3 22 rfl rfl
theorem dksX1_init_5 : cX1_init.data.toList.drop 117 = dktX1_init_5 := dk_seg dksX1_init_4 24 rfl rfl
theorem dksX1_init_6 : cX1_init.data.toList.drop 141 = dktX1_init_6 := dk_seg dksX1_init_5 24 rfl rfl
theorem dksX1_init_7 : cX1_init.data.toList.drop 165 = dktX1_init_7 := dk_seg dksX1_init_6 24 rfl rfl
theorem dksX1_init_8 : cX1_init.data.toList.drop 189 = dktX1_init_8 := dk_seg dksX1_init_7 24 rfl rfl
theorem dX1_init_0 : decode cX1_init 0 = .ok (.aload_n 0, 1) := dk_42 (dk_at dksX1_init_0 0 rfl rfl)
theorem dX1_init_1 : decode cX1_init 1 = .ok (.invokespecial 1, 3) := dk_183 0 1 (dk_at dksX1_init_0 1 rfl rfl)
theorem dX1_init_4 : decode cX1_init 4 = .ok (.aload_n 0, 1) := dk_42 (dk_at dksX1_init_0 4 rfl rfl)
theorem dX1_init_5 : decode cX1_init 5 = .ok (.new 7, 3) := dk_187 0 7 (dk_at dksX1_init_0 5 rfl rfl)
theorem dX1_init_8 : decode cX1_init 8 = .ok (.dup, 1) := dk_89 (dk_at dksX1_init_0 8 rfl rfl)
theorem dX1_init_9 : decode cX1_init 9 = .ok (.invokespecial 9, 3) := dk_183 0 9 (dk_at dksX1_init_0 9 rfl rfl)
theorem dX1_init_12 : decode cX1_init 12 = .ok (.putfield 10, 3) := dk_181 0 10 (dk_at dksX1_init_0 12 rfl rfl)
theorem dX1_init_15 : decode cX1_init 15 = .ok (.aload_n 0, 1) := dk_42 (dk_at dksX1_init_0 15 rfl rfl)
theorem dX1_init_16 : decode cX1_init 16 = .ok (.new 7, 3) := dk_187 0 7 (dk_at dksX1_init_0 16 rfl rfl)
theorem dX1_init_19 : decode cX1_init 19 = .ok (.dup, 1) := dk_89 (dk_at dksX1_init_0 19 rfl rfl)
theorem dX1_init_20 : decode cX1_init 20 = .ok (.invokespecial 9, 3) := dk_183 0 9 (dk_at dksX1_init_0 20 rfl rfl)
theorem dX1_init_23 : decode cX1_init 23 = .ok (.putfield 16, 3) := dk_181 0 16 (dk_at dksX1_init_1 0 rfl rfl)
theorem dX1_init_26 : decode cX1_init 26 = .ok (.aload_n 0, 1) := dk_42 (dk_at dksX1_init_1 3 rfl rfl)
theorem dX1_init_27 : decode cX1_init 27 = .ok (.new 7, 3) := dk_187 0 7 (dk_at dksX1_init_1 4 rfl rfl)
theorem dX1_init_30 : decode cX1_init 30 = .ok (.dup, 1) := dk_89 (dk_at dksX1_init_1 7 rfl rfl)
theorem dX1_init_31 : decode cX1_init 31 = .ok (.invokespecial 9, 3) := dk_183 0 9 (dk_at dksX1_init_1 8 rfl rfl)
theorem dX1_init_34 : decode cX1_init 34 = .ok (.putfield 19, 3) := dk_181 0 19 (dk_at dksX1_init_1 11 rfl rfl)
theorem dX1_init_37 : decode cX1_init 37 = .ok (.aload_n 0, 1) := dk_42 (dk_at dksX1_init_1 14 rfl rfl)
theorem dX1_init_38 : decode cX1_init 38 = .ok (.bipush 15, 2) := dk_16 15 (dk_at dksX1_init_1 15 rfl rfl)
theorem dX1_init_40 : decode cX1_init 40 = .ok (.anewarray 7, 3) := dk_189 0 7 (dk_at dksX1_init_1 17 rfl rfl)
theorem dX1_init_43 : decode cX1_init 43 = .ok (.putfield 22, 3) := dk_181 0 22 (dk_at dksX1_init_1 20 rfl rfl)
theorem dX1_init_46 : decode cX1_init 46 = .ok (.aload_n 0, 1) := dk_42 (dk_at dksX1_init_1 23 rfl rfl)
theorem dX1_init_47 : decode cX1_init 47 = .ok (.bipush 12, 2) := dk_16 12 (dk_at dksX1_init_2 0 rfl rfl)
theorem dX1_init_49 : decode cX1_init 49 = .ok (.newarray .int, 2) := dk_188_10 (dk_at dksX1_init_2 2 rfl rfl)
theorem dX1_init_51 : decode cX1_init 51 = .ok (.putfield 26, 3) := dk_181 0 26 (dk_at dksX1_init_2 4 rfl rfl)
theorem dX1_init_54 : decode cX1_init 54 = .ok (.aload_n 0, 1) := dk_42 (dk_at dksX1_init_2 7 rfl rfl)
theorem dX1_init_55 : decode cX1_init 55 = .ok (.bipush 12, 2) := dk_16 12 (dk_at dksX1_init_2 8 rfl rfl)
theorem dX1_init_57 : decode cX1_init 57 = .ok (.newarray .int, 2) := dk_188_10 (dk_at dksX1_init_2 10 rfl rfl)
theorem dX1_init_59 : decode cX1_init 59 = .ok (.putfield 30, 3) := dk_181 0 30 (dk_at dksX1_init_2 12 rfl rfl)
theorem dX1_init_62 : decode cX1_init 62 = .ok (.aload_n 0, 1) := dk_42 (dk_at dksX1_init_2 15 rfl rfl)
theorem dX1_init_63 : decode cX1_init 63 = .ok (.bipush 8, 2) := dk_16 8 (dk_at dksX1_init_2 16 rfl rfl)
theorem dX1_init_65 : decode cX1_init 65 = .ok (.newarray .int, 2) := dk_188_10 (dk_at dksX1_init_2 18 rfl rfl)
theorem dX1_init_67 : decode cX1_init 67 = .ok (.putfield 33, 3) := dk_181 0 33 (dk_at dksX1_init_2 20 rfl rfl)
theorem dX1_init_70 : decode cX1_init 70 = .ok (.aload_n 0, 1) := dk_42 (dk_at dksX1_init_2 23 rfl rfl)
theorem dX1_init_71 : decode cX1_init 71 = .ok (.bipush 8, 2) := dk_16 8 (dk_at dksX1_init_3 0 rfl rfl)
theorem dX1_init_73 : decode cX1_init 73 = .ok (.newarray .int, 2) := dk_188_10 (dk_at dksX1_init_3 2 rfl rfl)
theorem dX1_init_75 : decode cX1_init 75 = .ok (.putfield 36, 3) := dk_181 0 36 (dk_at dksX1_init_3 4 rfl rfl)
theorem dX1_init_78 : decode cX1_init 78 = .ok (.aload_n 0, 1) := dk_42 (dk_at dksX1_init_3 7 rfl rfl)
theorem dX1_init_79 : decode cX1_init 79 = .ok (.bipush 8, 2) := dk_16 8 (dk_at dksX1_init_3 8 rfl rfl)
theorem dX1_init_81 : decode cX1_init 81 = .ok (.newarray .int, 2) := dk_188_10 (dk_at dksX1_init_3 10 rfl rfl)
theorem dX1_init_83 : decode cX1_init 83 = .ok (.putfield 39, 3) := dk_181 0 39 (dk_at dksX1_init_3 12 rfl rfl)
theorem dX1_init_86 : decode cX1_init 86 = .ok (.aload_n 0, 1) := dk_42 (dk_at dksX1_init_3 15 rfl rfl)
theorem dX1_init_87 : decode cX1_init 87 = .ok (.iconst 1, 1) := dk_4 (dk_at dksX1_init_3 16 rfl rfl)
theorem dX1_init_88 : decode cX1_init 88 = .ok (.putfield 42, 3) := dk_181 0 42 (dk_at dksX1_init_3 17 rfl rfl)
theorem dX1_init_91 : decode cX1_init 91 = .ok (.aload_n 0, 1) := dk_42 (dk_at dksX1_init_3 20 rfl rfl)
theorem dX1_init_92 : decode cX1_init 92 = .ok (.iconst 2, 1) := dk_5 (dk_at dksX1_init_3 21 rfl rfl)
theorem dX1_init_93 : decode cX1_init 93 = .ok (.putfield 46, 3) := dk_181 0 46 (dk_at dksX1_init_4 0 rfl rfl)
theorem dX1_init_96 : decode cX1_init 96 = .ok (.aload_n 0, 1) := dk_42 (dk_at dksX1_init_4 3 rfl rfl)
theorem dX1_init_97 : decode cX1_init 97 = .ok (.bipush 80, 2) := dk_16 80 (dk_at dksX1_init_4 4 rfl rfl)
theorem dX1_init_99 : decode cX1_init 99 = .ok (.newarray .byte, 2) := dk_188_8 (dk_at dksX1_init_4 6 rfl rfl)
theorem dX1_init_101 : decode cX1_init 101 = .ok (.putfield 49, 3) := dk_181 0 49 (dk_at dksX1_init_4 8 rfl rfl)
theorem dX1_init_104 : decode cX1_init 104 = .ok (.aload_n 0, 1) := dk_42 (dk_at dksX1_init_4 11 rfl rfl)
theorem dX1_init_105 : decode cX1_init 105 = .ok (.bipush 20, 2) := dk_16 20 (dk_at dksX1_init_4 12 rfl rfl)
theorem dX1_init_107 : decode cX1_init 107 = .ok (.newarray .long, 2) := dk_188_11 (dk_at dksX1_init_4 14 rfl rfl)
theorem dX1_init_109 : decode cX1_init 109 = .ok (.putfield 53, 3) := dk_181 0 53 (dk_at dksX1_init_4 16 rfl rfl)
theorem dX1_init_112 : decode cX1_init 112 = .ok (.aload_n 0, 1) := dk_42 (dk_at dksX1_init_4 19 rfl rfl)
theorem dX1_init_113 : decode cX1_init 113 = .ok (.bipush 12, 2) := dk_16 12 (dk_at dksX1_init_4 20 rfl rfl)
theorem dX1_init_115 : decode cX1_init 115 = .ok (.newarray .int, 2) := dk_188_10 (dk_at dksX1_init_4 22 rfl rfl)
theorem dX1_init_117 : decode cX1_init 117 = .ok (.putfield 57, 3) := dk_181 0 57 (dk_at dksX1_init_5 0 rfl rfl)
theorem dX1_init_120 : decode cX1_init 120 = .ok (.aload_n 0, 1) := dk_42 (dk_at dksX1_init_5 3 rfl rfl)
theorem dX1_init_121 : decode cX1_init 121 = .ok (.bipush 12, 2) := dk_16 12 (dk_at dksX1_init_5 4 rfl rfl)
theorem dX1_init_123 : decode cX1_init 123 = .ok (.newarray .int, 2) := dk_188_10 (dk_at dksX1_init_5 6 rfl rfl)
theorem dX1_init_125 : decode cX1_init 125 = .ok (.putfield 60, 3) := dk_181 0 60 (dk_at dksX1_init_5 8 rfl rfl)
theorem dX1_init_128 : decode cX1_init 128 = .ok (.aload_n 0, 1) := dk_42 (dk_at dksX1_init_5 11 rfl rfl)
theorem dX1_init_129 : decode cX1_init 129 = .ok (.bipush 12, 2) := dk_16 12 (dk_at dksX1_init_5 12 rfl rfl)
theorem dX1_init_131 : decode cX1_init 131 = .ok (.newarray .int, 2) := dk_188_10 (dk_at dksX1_init_5 14 rfl rfl)
theorem dX1_init_133 : decode cX1_init 133 = .ok (.putfield 63, 3) := dk_181 0 63 (dk_at dksX1_init_5 16 rfl rfl)
theorem dX1_init_136 : decode cX1_init 136 = .ok (.aload_n 0, 1) := dk_42 (dk_at dksX1_init_5 19 rfl rfl)
theorem dX1_init_137 : decode cX1_init 137 = .ok (.bipush 8, 2) := dk_16 8 (dk_at dksX1_init_5 20 rfl rfl)
theorem dX1_init_139 : decode cX1_init 139 = .ok (.newarray .int, 2) := dk_188_10 (dk_at dksX1_init_5 22 rfl rfl)
theorem dX1_init_141 : decode cX1_init 141 = .ok (.putfield 66, 3) := dk_181 0 66 (dk_at dksX1_init_6 0 rfl rfl)
theorem dX1_init_144 : decode cX1_init 144 = .ok (.aload_n 0, 1) := dk_42 (dk_at dksX1_init_6 3 rfl rfl)
theorem dX1_init_145 : decode cX1_init 145 = .ok (.bipush 8, 2) := dk_16 8 (dk_at dksX1_init_6 4 rfl rfl)
theorem dX1_init_147 : decode cX1_init 147 = .ok (.newarray .int, 2) := dk_188_10 (dk_at dksX1_init_6 6 rfl rfl)
theorem dX1_init_149 : decode cX1_init 149 = .ok (.putfield 69, 3) := dk_181 0 69 (dk_at dksX1_init_6 8 rfl rfl)
theorem dX1_init_152 : decode cX1_init 152 = .ok (.aload_n 0, 1) := dk_42 (dk_at dksX1_init_6 11 rfl rfl)
theorem dX1_init_153 : decode cX1_init 153 = .ok (.bipush 8, 2) := dk_16 8 (dk_at dksX1_init_6 12 rfl rfl)
theorem dX1_init_155 : decode cX1_init 155 = .ok (.newarray .int, 2) := dk_188_10 (dk_at dksX1_init_6 14 rfl rfl)
theorem dX1_init_157 : decode cX1_init 157 = .ok (.putfield 72, 3) := dk_181 0 72 (dk_at dksX1_init_6 16 rfl rfl)
theorem dX1_init_160 : decode cX1_init 160 = .ok (.aload_n 0, 1) := dk_42 (dk_at dksX1_init_6 19 rfl rfl)
theorem dX1_init_161 : decode cX1_init 161 = .ok (.iconst 3, 1) := dk_6 (dk_at dksX1_init_6 20 rfl rfl)
theorem dX1_init_162 : decode cX1_init 162 = .ok (.anewarray 75, 3) := dk_189 0 75 (dk_at dksX1_init_6 21 rfl rfl)
theorem dX1_init_165 : decode cX1_init 165 = .ok (.putfield 77, 3) := dk_181 0 77 (dk_at dksX1_init_7 0 rfl rfl)
theorem dX1_init_168 : decode cX1_init 168 = .ok (.iconst 0, 1) := dk_3 (dk_at dksX1_init_7 3 rfl rfl)
theorem dX1_init_169 : decode cX1_init 169 = .ok (.istore_n 1, 1) := dk_60 (dk_at dksX1_init_7 4 rfl rfl)
theorem dX1_init_170 : decode cX1_init 170 = .ok (.iload_n 1, 1) := dk_27 (dk_at dksX1_init_7 5 rfl rfl)
theorem dX1_init_171 : decode cX1_init 171 = .ok (.bipush 15, 2) := dk_16 15 (dk_at dksX1_init_7 6 rfl rfl)
theorem dX1_init_173 : decode cX1_init 173 = .ok (.if_icmp .ge 22, 3) := dk_162 0 22 (dk_at dksX1_init_7 8 rfl rfl)
theorem dX1_init_176 : decode cX1_init 176 = .ok (.aload_n 0, 1) := dk_42 (dk_at dksX1_init_7 11 rfl rfl)
theorem dX1_init_177 : decode cX1_init 177 = .ok (.getfield 22, 3) := dk_180 0 22 (dk_at dksX1_init_7 12 rfl rfl)
theorem dX1_init_180 : decode cX1_init 180 = .ok (.iload_n 1, 1) := dk_27 (dk_at dksX1_init_7 15 rfl rfl)
theorem dX1_init_181 : decode cX1_init 181 = .ok (.new 7, 3) := dk_187 0 7 (dk_at dksX1_init_7 16 rfl rfl)
theorem dX1_init_184 : decode cX1_init 184 = .ok (.dup, 1) := dk_89 (dk_at dksX1_init_7 19 rfl rfl)
theorem dX1_init_185 : decode cX1_init 185 = .ok (.invokespecial 9, 3) := dk_183 0 9 (dk_at dksX1_init_7 20 rfl rfl)
theorem dX1_init_188 : decode cX1_init 188 = .ok (.aastore, 1) := dk_83 (dk_at dksX1_init_7 23 rfl rfl)
theorem dX1_init_189 : decode cX1_init 189 = .ok (.iinc 1 1, 3) := dk_132 1 1 (dk_at dksX1_init_8 0 rfl rfl)
theorem dX1_init_192 : decode cX1_init 192 = .ok (.goto (-22), 3) := dk_167 255 234 (dk_at dksX1_init_8 3 rfl rfl)
theorem dX1_init_195 : decode cX1_init 195 = .ok (.aload_n 0, 1) := dk_42 (dk_at dksX1_init_8 6 rfl rfl)
theorem dX1_init_196 : decode cX1_init 196 = .ok (.getfield 10, 3) := dk_180 0 10 (dk_at dksX1_init_8 7 rfl rfl)
theorem dX1_init_199 : decode cX1_init 199 = .ok (.invokevirtual 81, 3) := dk_182 0 81 (dk_at dksX1_init_8 10 rfl rfl)
theorem dX1_init_202 : decode cX1_init 202 = .ok (.return_, 1) := dk_177 (dk_at dksX1_init_8 13 rfl rfl)
abbrev cX1_sign : ByteArray := prog_1_method_8_code
def yX1_sign : MethodName := ⟨RX1, "sign", "(I)I"⟩
def dkwX1_sign_2 : List UInt8 := [167, 255, 226, 42, 180, 0, 96, 172]
abbrev dktX1_sign_2 : List UInt8 := dkwX1_sign_2 ++ []
def dkwX1_sign_1 : List UInt8 := [42, 180, 0, 96, 27, 28, 122, 145, 84, 42, 89, 180, 0, 96, 4, 96, 181, 0, 96, 132, 2, 248]
abbrev dktX1_sign_1 : List UInt8 := dkwX1_sign_1 ++ dktX1_sign_2
def dkwX1_sign_0 : List UInt8 := [42, 180, 0, 96, 7, 96, 16, 80, 164, 0, 5, 2, 172, 16, 24, 61, 28, 155, 0, 32, 42, 180, 0, 49]
abbrev dktX1_sign_0 : List UInt8 := dkwX1_sign_0 ++ dktX1_sign_1
theorem dksX1_sign_0 : cX1_sign.data.toList.drop 0 = dktX1_sign_0 := by decide +kernel
theorem dksX1_sign_1 : cX1_sign.data.toList.drop 24 = dktX1_sign_1 := dk_seg dksX1_sign_0 24 rfl rfl
theorem dksX1_sign_2 : cX1_sign.data.toList.drop 46 = dktX1_sign_2 := dk_seg dksX1_sign_1 22 rfl rfl
theorem dX1_sign_0 : decode cX1_sign 0 = .ok (.aload_n 0, 1) := dk_42 (dk_at dksX1_sign_0 0 rfl rfl)
theorem dX1_sign_1 : decode cX1_sign 1 = .ok (.getfield 96, 3) := dk_180 0 96 (dk_at dksX1_sign_0 1 rfl rfl)
theorem dX1_sign_4 : decode cX1_sign 4 = .ok (.iconst 4, 1) := dk_7 (dk_at dksX1_sign_0 4 rfl rfl)
theorem dX1_sign_5 : decode cX1_sign 5 = .ok (.iadd, 1) := dk_96 (dk_at dksX1_sign_0 5 rfl rfl)
theorem dX1_sign_6 : decode cX1_sign 6 = .ok (.bipush 80, 2) := dk_16 80 (dk_at dksX1_sign_0 6 rfl rfl)
theorem dX1_sign_8 : decode cX1_sign 8 = .ok (.if_icmp .le 5, 3) := dk_164 0 5 (dk_at dksX1_sign_0 8 rfl rfl)
theorem dX1_sign_11 : decode cX1_sign 11 = .ok (.iconst (-1), 1) := dk_2 (dk_at dksX1_sign_0 11 rfl rfl)
theorem dX1_sign_12 : decode cX1_sign 12 = .ok (.ireturn, 1) := dk_172 (dk_at dksX1_sign_0 12 rfl rfl)
theorem dX1_sign_13 : decode cX1_sign 13 = .ok (.bipush 24, 2) := dk_16 24 (dk_at dksX1_sign_0 13 rfl rfl)
theorem dX1_sign_15 : decode cX1_sign 15 = .ok (.istore_n 2, 1) := dk_61 (dk_at dksX1_sign_0 15 rfl rfl)
theorem dX1_sign_16 : decode cX1_sign 16 = .ok (.iload_n 2, 1) := dk_28 (dk_at dksX1_sign_0 16 rfl rfl)
theorem dX1_sign_17 : decode cX1_sign 17 = .ok (.ifCond .lt 32, 3) := dk_155 0 32 (dk_at dksX1_sign_0 17 rfl rfl)
theorem dX1_sign_20 : decode cX1_sign 20 = .ok (.aload_n 0, 1) := dk_42 (dk_at dksX1_sign_0 20 rfl rfl)
theorem dX1_sign_21 : decode cX1_sign 21 = .ok (.getfield 49, 3) := dk_180 0 49 (dk_at dksX1_sign_0 21 rfl rfl)
theorem dX1_sign_24 : decode cX1_sign 24 = .ok (.aload_n 0, 1) := dk_42 (dk_at dksX1_sign_1 0 rfl rfl)
theorem dX1_sign_25 : decode cX1_sign 25 = .ok (.getfield 96, 3) := dk_180 0 96 (dk_at dksX1_sign_1 1 rfl rfl)
theorem dX1_sign_28 : decode cX1_sign 28 = .ok (.iload_n 1, 1) := dk_27 (dk_at dksX1_sign_1 4 rfl rfl)
theorem dX1_sign_29 : decode cX1_sign 29 = .ok (.iload_n 2, 1) := dk_28 (dk_at dksX1_sign_1 5 rfl rfl)
theorem dX1_sign_30 : decode cX1_sign 30 = .ok (.ishr, 1) := dk_122 (dk_at dksX1_sign_1 6 rfl rfl)
theorem dX1_sign_31 : decode cX1_sign 31 = .ok (.i2b, 1) := dk_145 (dk_at dksX1_sign_1 7 rfl rfl)
theorem dX1_sign_32 : decode cX1_sign 32 = .ok (.bastore, 1) := dk_84 (dk_at dksX1_sign_1 8 rfl rfl)
theorem dX1_sign_33 : decode cX1_sign 33 = .ok (.aload_n 0, 1) := dk_42 (dk_at dksX1_sign_1 9 rfl rfl)
theorem dX1_sign_34 : decode cX1_sign 34 = .ok (.dup, 1) := dk_89 (dk_at dksX1_sign_1 10 rfl rfl)
theorem dX1_sign_35 : decode cX1_sign 35 = .ok (.getfield 96, 3) := dk_180 0 96 (dk_at dksX1_sign_1 11 rfl rfl)
theorem dX1_sign_38 : decode cX1_sign 38 = .ok (.iconst 1, 1) := dk_4 (dk_at dksX1_sign_1 14 rfl rfl)
theorem dX1_sign_39 : decode cX1_sign 39 = .ok (.iadd, 1) := dk_96 (dk_at dksX1_sign_1 15 rfl rfl)
theorem dX1_sign_40 : decode cX1_sign 40 = .ok (.putfield 96, 3) := dk_181 0 96 (dk_at dksX1_sign_1 16 rfl rfl)
theorem dX1_sign_43 : decode cX1_sign 43 = .ok (.iinc 2 (-8), 3) := dk_132 2 248 (dk_at dksX1_sign_1 19 rfl rfl)
theorem dX1_sign_46 : decode cX1_sign 46 = .ok (.goto (-30), 3) := dk_167 255 226 (dk_at dksX1_sign_2 0 rfl rfl)
theorem dX1_sign_49 : decode cX1_sign 49 = .ok (.aload_n 0, 1) := dk_42 (dk_at dksX1_sign_2 3 rfl rfl)
theorem dX1_sign_50 : decode cX1_sign 50 = .ok (.getfield 96, 3) := dk_180 0 96 (dk_at dksX1_sign_2 4 rfl rfl)
theorem dX1_sign_53 : decode cX1_sign 53 = .ok (.ireturn, 1) := dk_172 (dk_at dksX1_sign_2 7 rfl rfl)
abbrev cX1_end : ByteArray := prog_1_method_9_code
def yX1_end : MethodName := ⟨RX1, "end", "(I)Z"⟩
def dkwX1_end_0 : List UInt8 := [27, 133, 9, 42, 180, 0, 96, 133, 184, 0, 87, 154, 0, 5, 3, 172, 42, 27, 181, 0, 96, 4, 172]
abbrev dktX1_end_0 : List UInt8 := dkwX1_end_0 ++ []
theorem dksX1_end_0 : cX1_end.data.toList.drop 0 = dktX1_end_0 := by decide +kernel
theorem dX1_end_0 : decode cX1_end 0 = .ok (.iload_n 1, 1) := dk_27 (dk_at dksX1_end_0 0 rfl rfl)
theorem dX1_end_1 : decode cX1_end 1 = .ok (.i2l, 1) := dk_133 (dk_at dksX1_end_0 1 rfl rfl)
theorem dX1_end_2 : decode cX1_end 2 = .ok (.lconst 0, 1) := dk_9 (dk_at dksX1_end_0 2 rfl rfl)
theorem dX1_end_3 : decode cX1_end 3 = .ok (.aload_n 0, 1) := dk_42 (dk_at dksX1_end_0 3 rfl rfl)
theorem dX1_end_4 : decode cX1_end 4 = .ok (.getfield 96, 3) := dk_180 0 96 (dk_at dksX1_end_0 4 rfl rfl)
theorem dX1_end_7 : decode cX1_end 7 = .ok (.i2l, 1) := dk_133 (dk_at dksX1_end_0 7 rfl rfl)
theorem dX1_end_8 : decode cX1_end 8 = .ok (.invokestatic 87, 3) := dk_184 0 87 (dk_at dksX1_end_0 8 rfl rfl)
theorem dX1_end_11 : decode cX1_end 11 = .ok (.ifCond .ne 5, 3) := dk_154 0 5 (dk_at dksX1_end_0 11 rfl rfl)
theorem dX1_end_14 : decode cX1_end 14 = .ok (.iconst 0, 1) := dk_3 (dk_at dksX1_end_0 14 rfl rfl)
theorem dX1_end_15 : decode cX1_end 15 = .ok (.ireturn, 1) := dk_172 (dk_at dksX1_end_0 15 rfl rfl)
theorem dX1_end_16 : decode cX1_end 16 = .ok (.aload_n 0, 1) := dk_42 (dk_at dksX1_end_0 16 rfl rfl)
theorem dX1_end_17 : decode cX1_end 17 = .ok (.iload_n 1, 1) := dk_27 (dk_at dksX1_end_0 17 rfl rfl)
theorem dX1_end_18 : decode cX1_end 18 = .ok (.putfield 96, 3) := dk_181 0 96 (dk_at dksX1_end_0 18 rfl rfl)
theorem dX1_end_21 : decode cX1_end 21 = .ok (.iconst 1, 1) := dk_4 (dk_at dksX1_end_0 21 rfl rfl)
theorem dX1_end_22 : decode cX1_end 22 = .ok (.ireturn, 1) := dk_172 (dk_at dksX1_end_0 22 rfl rfl)
abbrev cX1_in : ByteArray := prog_1_method_1_code
def yX1_in : MethodName := ⟨RX1, "in", "(JJJ)Z"⟩
def dkwX1_in_0 : List UInt8 := [30, 32, 148, 155, 0, 14, 30, 22, 4, 148, 157, 0, 7, 4, 167, 0, 4, 3, 172]
abbrev dktX1_in_0 : List UInt8 := dkwX1_in_0 ++ []
theorem dksX1_in_0 : cX1_in.data.toList.drop 0 = dktX1_in_0 := by decide +kernel
theorem dX1_in_0 : decode cX1_in 0 = .ok (.lload_n 0, 1) := dk_30 (dk_at dksX1_in_0 0 rfl rfl)
theorem dX1_in_1 : decode cX1_in 1 = .ok (.lload_n 2, 1) := dk_32 (dk_at dksX1_in_0 1 rfl rfl)
theorem dX1_in_2 : decode cX1_in 2 = .ok (.lcmp, 1) := dk_148 (dk_at dksX1_in_0 2 rfl rfl)
theorem dX1_in_3 : decode cX1_in 3 = .ok (.ifCond .lt 14, 3) := dk_155 0 14 (dk_at dksX1_in_0 3 rfl rfl)
theorem dX1_in_6 : decode cX1_in 6 = .ok (.lload_n 0, 1) := dk_30 (dk_at dksX1_in_0 6 rfl rfl)
theorem dX1_in_7 : decode cX1_in 7 = .ok (.lload 4, 2) := dk_22 4 (dk_at dksX1_in_0 7 rfl rfl)
theorem dX1_in_9 : decode cX1_in 9 = .ok (.lcmp, 1) := dk_148 (dk_at dksX1_in_0 9 rfl rfl)
theorem dX1_in_10 : decode cX1_in 10 = .ok (.ifCond .gt 7, 3) := dk_157 0 7 (dk_at dksX1_in_0 10 rfl rfl)
theorem dX1_in_13 : decode cX1_in 13 = .ok (.iconst 1, 1) := dk_4 (dk_at dksX1_in_0 13 rfl rfl)
theorem dX1_in_14 : decode cX1_in 14 = .ok (.goto 4, 3) := dk_167 0 4 (dk_at dksX1_in_0 14 rfl rfl)
theorem dX1_in_17 : decode cX1_in 17 = .ok (.iconst 0, 1) := dk_3 (dk_at dksX1_in_0 17 rfl rfl)
theorem dX1_in_18 : decode cX1_in 18 = .ok (.ireturn, 1) := dk_172 (dk_at dksX1_in_0 18 rfl rfl)
abbrev cX1_shore : ByteArray := prog_1_method_10_code
def yX1_shore : MethodName := ⟨RX1, "shore", "()I"⟩
def dkwX1_shore_4 : List UInt8 := [180, 0, 42, 172]
abbrev dktX1_shore_4 : List UInt8 := dkwX1_shore_4 ++ []
def dkwX1_shore_3 : List UInt8 := [182, 0, 81, 42, 3, 181, 0, 129, 42, 3, 181, 0, 132, 42, 180, 0, 77, 1, 184, 0, 135, 42]
abbrev dktX1_shore_3 : List UInt8 := dkwX1_shore_3 ++ dktX1_shore_4
def dkwX1_shore_2 : List UInt8 := [16, 12, 184, 0, 122, 43, 180, 0, 128, 3, 42, 180, 0, 30, 3, 16, 12, 184, 0, 122, 42, 180, 0, 10]
abbrev dktX1_shore_2 : List UInt8 := dkwX1_shore_2 ++ dktX1_shore_3
def dkwX1_shore_1 : List UInt8 := [180, 0, 115, 100, 172, 42, 43, 180, 0, 118, 181, 0, 42, 43, 180, 0, 121, 3, 42, 180, 0, 26, 3]
abbrev dktX1_shore_1 : List UInt8 := dkwX1_shore_1 ++ dktX1_shore_2
def dkwX1_shore_0 : List UInt8 := [187, 0, 102, 89, 183, 0, 104, 42, 16, 34, 182, 0, 105, 182, 0, 109, 76, 167, 0, 11, 77, 2, 44]
abbrev dktX1_shore_0 : List UInt8 := dkwX1_shore_0 ++ dktX1_shore_1
theorem dksX1_shore_0 : cX1_shore.data.toList.drop 0 = dktX1_shore_0 := by decide +kernel
theorem dksX1_shore_1 : cX1_shore.data.toList.drop 23 = dktX1_shore_1 := dk_seg dksX1_shore_0 23 rfl rfl
theorem dksX1_shore_2 : cX1_shore.data.toList.drop 46 = dktX1_shore_2 := dk_seg dksX1_shore_1 23 rfl rfl
theorem dksX1_shore_3 : cX1_shore.data.toList.drop 70 = dktX1_shore_3 := dk_seg dksX1_shore_2 24 rfl rfl
theorem dksX1_shore_4 : cX1_shore.data.toList.drop 92 = dktX1_shore_4 := dk_seg dksX1_shore_3 22 rfl rfl
theorem dX1_shore_0 : decode cX1_shore 0 = .ok (.new 102, 3) := dk_187 0 102 (dk_at dksX1_shore_0 0 rfl rfl)
theorem dX1_shore_3 : decode cX1_shore 3 = .ok (.dup, 1) := dk_89 (dk_at dksX1_shore_0 3 rfl rfl)
theorem dX1_shore_4 : decode cX1_shore 4 = .ok (.invokespecial 104, 3) := dk_183 0 104 (dk_at dksX1_shore_0 4 rfl rfl)
theorem dX1_shore_7 : decode cX1_shore 7 = .ok (.aload_n 0, 1) := dk_42 (dk_at dksX1_shore_0 7 rfl rfl)
theorem dX1_shore_8 : decode cX1_shore 8 = .ok (.bipush 34, 2) := dk_16 34 (dk_at dksX1_shore_0 8 rfl rfl)
theorem dX1_shore_10 : decode cX1_shore 10 = .ok (.invokevirtual 105, 3) := dk_182 0 105 (dk_at dksX1_shore_0 10 rfl rfl)
theorem dX1_shore_13 : decode cX1_shore 13 = .ok (.invokevirtual 109, 3) := dk_182 0 109 (dk_at dksX1_shore_0 13 rfl rfl)
theorem dX1_shore_16 : decode cX1_shore 16 = .ok (.astore_n 1, 1) := dk_76 (dk_at dksX1_shore_0 16 rfl rfl)
theorem dX1_shore_17 : decode cX1_shore 17 = .ok (.goto 11, 3) := dk_167 0 11 (dk_at dksX1_shore_0 17 rfl rfl)
theorem dX1_shore_20 : decode cX1_shore 20 = .ok (.astore_n 2, 1) := dk_77 (dk_at dksX1_shore_0 20 rfl rfl)
theorem dX1_shore_21 : decode cX1_shore 21 = .ok (.iconst (-1), 1) := dk_2 (dk_at dksX1_shore_0 21 rfl rfl)
theorem dX1_shore_22 : decode cX1_shore 22 = .ok (.aload_n 2, 1) := dk_44 (dk_at dksX1_shore_0 22 rfl rfl)
theorem dX1_shore_23 : decode cX1_shore 23 = .ok (.getfield 115, 3) := dk_180 0 115 (dk_at dksX1_shore_1 0 rfl rfl)
theorem dX1_shore_26 : decode cX1_shore 26 = .ok (.isub, 1) := dk_100 (dk_at dksX1_shore_1 3 rfl rfl)
theorem dX1_shore_27 : decode cX1_shore 27 = .ok (.ireturn, 1) := dk_172 (dk_at dksX1_shore_1 4 rfl rfl)
theorem dX1_shore_28 : decode cX1_shore 28 = .ok (.aload_n 0, 1) := dk_42 (dk_at dksX1_shore_1 5 rfl rfl)
theorem dX1_shore_29 : decode cX1_shore 29 = .ok (.aload_n 1, 1) := dk_43 (dk_at dksX1_shore_1 6 rfl rfl)
theorem dX1_shore_30 : decode cX1_shore 30 = .ok (.getfield 118, 3) := dk_180 0 118 (dk_at dksX1_shore_1 7 rfl rfl)
theorem dX1_shore_33 : decode cX1_shore 33 = .ok (.putfield 42, 3) := dk_181 0 42 (dk_at dksX1_shore_1 10 rfl rfl)
theorem dX1_shore_36 : decode cX1_shore 36 = .ok (.aload_n 1, 1) := dk_43 (dk_at dksX1_shore_1 13 rfl rfl)
theorem dX1_shore_37 : decode cX1_shore 37 = .ok (.getfield 121, 3) := dk_180 0 121 (dk_at dksX1_shore_1 14 rfl rfl)
theorem dX1_shore_40 : decode cX1_shore 40 = .ok (.iconst 0, 1) := dk_3 (dk_at dksX1_shore_1 17 rfl rfl)
theorem dX1_shore_41 : decode cX1_shore 41 = .ok (.aload_n 0, 1) := dk_42 (dk_at dksX1_shore_1 18 rfl rfl)
theorem dX1_shore_42 : decode cX1_shore 42 = .ok (.getfield 26, 3) := dk_180 0 26 (dk_at dksX1_shore_1 19 rfl rfl)
theorem dX1_shore_45 : decode cX1_shore 45 = .ok (.iconst 0, 1) := dk_3 (dk_at dksX1_shore_1 22 rfl rfl)
theorem dX1_shore_46 : decode cX1_shore 46 = .ok (.bipush 12, 2) := dk_16 12 (dk_at dksX1_shore_2 0 rfl rfl)
theorem dX1_shore_48 : decode cX1_shore 48 = .ok (.invokestatic 122, 3) := dk_184 0 122 (dk_at dksX1_shore_2 2 rfl rfl)
theorem dX1_shore_51 : decode cX1_shore 51 = .ok (.aload_n 1, 1) := dk_43 (dk_at dksX1_shore_2 5 rfl rfl)
theorem dX1_shore_52 : decode cX1_shore 52 = .ok (.getfield 128, 3) := dk_180 0 128 (dk_at dksX1_shore_2 6 rfl rfl)
theorem dX1_shore_55 : decode cX1_shore 55 = .ok (.iconst 0, 1) := dk_3 (dk_at dksX1_shore_2 9 rfl rfl)
theorem dX1_shore_56 : decode cX1_shore 56 = .ok (.aload_n 0, 1) := dk_42 (dk_at dksX1_shore_2 10 rfl rfl)
theorem dX1_shore_57 : decode cX1_shore 57 = .ok (.getfield 30, 3) := dk_180 0 30 (dk_at dksX1_shore_2 11 rfl rfl)
theorem dX1_shore_60 : decode cX1_shore 60 = .ok (.iconst 0, 1) := dk_3 (dk_at dksX1_shore_2 14 rfl rfl)
theorem dX1_shore_61 : decode cX1_shore 61 = .ok (.bipush 12, 2) := dk_16 12 (dk_at dksX1_shore_2 15 rfl rfl)
theorem dX1_shore_63 : decode cX1_shore 63 = .ok (.invokestatic 122, 3) := dk_184 0 122 (dk_at dksX1_shore_2 17 rfl rfl)
theorem dX1_shore_66 : decode cX1_shore 66 = .ok (.aload_n 0, 1) := dk_42 (dk_at dksX1_shore_2 20 rfl rfl)
theorem dX1_shore_67 : decode cX1_shore 67 = .ok (.getfield 10, 3) := dk_180 0 10 (dk_at dksX1_shore_2 21 rfl rfl)
theorem dX1_shore_70 : decode cX1_shore 70 = .ok (.invokevirtual 81, 3) := dk_182 0 81 (dk_at dksX1_shore_3 0 rfl rfl)
theorem dX1_shore_73 : decode cX1_shore 73 = .ok (.aload_n 0, 1) := dk_42 (dk_at dksX1_shore_3 3 rfl rfl)
theorem dX1_shore_74 : decode cX1_shore 74 = .ok (.iconst 0, 1) := dk_3 (dk_at dksX1_shore_3 4 rfl rfl)
theorem dX1_shore_75 : decode cX1_shore 75 = .ok (.putfield 129, 3) := dk_181 0 129 (dk_at dksX1_shore_3 5 rfl rfl)
theorem dX1_shore_78 : decode cX1_shore 78 = .ok (.aload_n 0, 1) := dk_42 (dk_at dksX1_shore_3 8 rfl rfl)
theorem dX1_shore_79 : decode cX1_shore 79 = .ok (.iconst 0, 1) := dk_3 (dk_at dksX1_shore_3 9 rfl rfl)
theorem dX1_shore_80 : decode cX1_shore 80 = .ok (.putfield 132, 3) := dk_181 0 132 (dk_at dksX1_shore_3 10 rfl rfl)
theorem dX1_shore_83 : decode cX1_shore 83 = .ok (.aload_n 0, 1) := dk_42 (dk_at dksX1_shore_3 13 rfl rfl)
theorem dX1_shore_84 : decode cX1_shore 84 = .ok (.getfield 77, 3) := dk_180 0 77 (dk_at dksX1_shore_3 14 rfl rfl)
theorem dX1_shore_87 : decode cX1_shore 87 = .ok (.aconst_null, 1) := dk_1 (dk_at dksX1_shore_3 17 rfl rfl)
theorem dX1_shore_88 : decode cX1_shore 88 = .ok (.invokestatic 135, 3) := dk_184 0 135 (dk_at dksX1_shore_3 18 rfl rfl)
theorem dX1_shore_91 : decode cX1_shore 91 = .ok (.aload_n 0, 1) := dk_42 (dk_at dksX1_shore_3 21 rfl rfl)
theorem dX1_shore_92 : decode cX1_shore 92 = .ok (.getfield 42, 3) := dk_180 0 42 (dk_at dksX1_shore_4 0 rfl rfl)
theorem dX1_shore_95 : decode cX1_shore 95 = .ok (.ireturn, 1) := dk_172 (dk_at dksX1_shore_4 3 rfl rfl)
abbrev cX1_words : ByteArray := prog_1_method_7_code
def yX1_words : MethodName := ⟨RX1, "words", "(I)LSandKeepsSea$Words;"⟩
def dkwX1_words_0 : List UInt8 := [187, 0, 94, 89, 42, 180, 0, 49, 42, 180, 0, 96, 27, 183, 0, 99, 77, 42, 3, 181, 0, 96, 44, 176]
abbrev dktX1_words_0 : List UInt8 := dkwX1_words_0 ++ []
theorem dksX1_words_0 : cX1_words.data.toList.drop 0 = dktX1_words_0 := by decide +kernel
theorem dX1_words_0 : decode cX1_words 0 = .ok (.new 94, 3) := dk_187 0 94 (dk_at dksX1_words_0 0 rfl rfl)
theorem dX1_words_3 : decode cX1_words 3 = .ok (.dup, 1) := dk_89 (dk_at dksX1_words_0 3 rfl rfl)
theorem dX1_words_4 : decode cX1_words 4 = .ok (.aload_n 0, 1) := dk_42 (dk_at dksX1_words_0 4 rfl rfl)
theorem dX1_words_5 : decode cX1_words 5 = .ok (.getfield 49, 3) := dk_180 0 49 (dk_at dksX1_words_0 5 rfl rfl)
theorem dX1_words_8 : decode cX1_words 8 = .ok (.aload_n 0, 1) := dk_42 (dk_at dksX1_words_0 8 rfl rfl)
theorem dX1_words_9 : decode cX1_words 9 = .ok (.getfield 96, 3) := dk_180 0 96 (dk_at dksX1_words_0 9 rfl rfl)
theorem dX1_words_12 : decode cX1_words 12 = .ok (.iload_n 1, 1) := dk_27 (dk_at dksX1_words_0 12 rfl rfl)
theorem dX1_words_13 : decode cX1_words 13 = .ok (.invokespecial 99, 3) := dk_183 0 99 (dk_at dksX1_words_0 13 rfl rfl)
theorem dX1_words_16 : decode cX1_words 16 = .ok (.astore_n 2, 1) := dk_77 (dk_at dksX1_words_0 16 rfl rfl)
theorem dX1_words_17 : decode cX1_words 17 = .ok (.aload_n 0, 1) := dk_42 (dk_at dksX1_words_0 17 rfl rfl)
theorem dX1_words_18 : decode cX1_words 18 = .ok (.iconst 0, 1) := dk_3 (dk_at dksX1_words_0 18 rfl rfl)
theorem dX1_words_19 : decode cX1_words 19 = .ok (.putfield 96, 3) := dk_181 0 96 (dk_at dksX1_words_0 19 rfl rfl)
theorem dX1_words_22 : decode cX1_words 22 = .ok (.aload_n 2, 1) := dk_44 (dk_at dksX1_words_0 22 rfl rfl)
theorem dX1_words_23 : decode cX1_words 23 = .ok (.areturn, 1) := dk_176 (dk_at dksX1_words_0 23 rfl rfl)
abbrev cX1_children : ByteArray := prog_1_method_11_code
def yX1_children : MethodName := ⟨RX1, "children", "()I"⟩
def dkwX1_children_10 : List UInt8 := [167, 255, 166, 42, 3, 181, 0, 132, 42, 89, 180, 0, 170, 4, 96, 181, 0, 170, 29, 172]
abbrev dktX1_children_10 : List UInt8 := dkwX1_children_10 ++ []
def dkwX1_children_9 : List UInt8 := [180, 0, 167, 42, 180, 0, 91, 8, 79, 132, 4, 1, 42, 89, 180, 0, 91, 4, 96, 181, 0, 91]
abbrev dktX1_children_9 : List UInt8 := dkwX1_children_9 ++ dktX1_children_10
def dkwX1_children_8 : List UInt8 := [44, 21, 4, 50, 5, 46, 79, 42, 180, 0, 10, 180, 0, 165, 42, 180, 0, 91, 2, 79, 42, 180, 0, 10]
abbrev dktX1_children_8 : List UInt8 := dkwX1_children_8 ++ dktX1_children_9
def dkwX1_children_7 : List UInt8 := [79, 42, 180, 0, 36, 42, 180, 0, 91, 44, 21, 4, 50, 4, 46, 79, 42, 180, 0, 39, 42, 180, 0, 91]
abbrev dktX1_children_7 : List UInt8 := dkwX1_children_7 ++ dktX1_children_8
def dkwX1_children_6 : List UInt8 := [172, 3, 54, 4, 21, 4, 29, 162, 0, 90, 42, 180, 0, 33, 42, 180, 0, 91, 44, 21, 4, 50, 3, 46]
abbrev dktX1_children_6 : List UInt8 := dkwX1_children_6 ++ dktX1_children_7
def dkwX1_children_5 : List UInt8 := [16, 59, 182, 0, 154, 154, 255, 159, 43, 182, 0, 162, 167, 0, 13, 58, 4, 2, 25, 4, 180, 0, 115, 100]
abbrev dktX1_children_5 : List UInt8 := dkwX1_children_5 ++ dktX1_children_6
def dkwX1_children_4 : List UInt8 := [153, 0, 7, 2, 167, 0, 15, 43, 16, 97, 42, 180, 0, 91, 29, 96, 182, 0, 158, 79, 132, 3, 1, 43]
abbrev dktX1_children_4 : List UInt8 := dkwX1_children_4 ++ dktX1_children_5
def dkwX1_children_3 : List UInt8 := [4, 43, 16, 49, 16, 9, 182, 0, 158, 4, 96, 79, 44, 29, 50, 5, 43, 16, 45, 182, 0, 154]
abbrev dktX1_children_3 : List UInt8 := dkwX1_children_3 ++ dktX1_children_4
def dkwX1_children_2 : List UInt8 := [50, 3, 43, 5, 7, 16, 13, 182, 0, 150, 79, 43, 43, 16, 44, 182, 0, 154, 182, 0, 146, 44, 29, 50]
abbrev dktX1_children_2 : List UInt8 := dkwX1_children_2 ++ dktX1_children_3
def dkwX1_children_1 : List UInt8 := [3, 62, 43, 42, 180, 0, 91, 29, 96, 16, 8, 162, 0, 7, 4, 167, 0, 4, 3, 182, 0, 146, 44, 29]
abbrev dktX1_children_1 : List UInt8 := dkwX1_children_1 ++ dktX1_children_2
def dkwX1_children_0 : List UInt8 := [42, 16, 47, 182, 0, 105, 76, 43, 180, 0, 141, 154, 0, 5, 3, 172, 16, 8, 6, 197, 0, 144, 2, 77]
abbrev dktX1_children_0 : List UInt8 := dkwX1_children_0 ++ dktX1_children_1
theorem dksX1_children_0 : cX1_children.data.toList.drop 0 = dktX1_children_0 := by decide +kernel
theorem dksX1_children_1 : cX1_children.data.toList.drop 24 = dktX1_children_1 := dk_seg dksX1_children_0 24 rfl rfl
theorem dksX1_children_2 : cX1_children.data.toList.drop 48 = dktX1_children_2 := dk_seg dksX1_children_1 24 rfl rfl
theorem dksX1_children_3 : cX1_children.data.toList.drop 72 = dktX1_children_3 := dk_seg dksX1_children_2 24 rfl rfl
theorem dksX1_children_4 : cX1_children.data.toList.drop 94 = dktX1_children_4 := dk_seg dksX1_children_3 22 rfl rfl
theorem dksX1_children_5 : cX1_children.data.toList.drop 118 = dktX1_children_5 := dk_seg dksX1_children_4 24 rfl rfl
theorem dksX1_children_6 : cX1_children.data.toList.drop 142 = dktX1_children_6 := dk_seg dksX1_children_5 24 rfl rfl
theorem dksX1_children_7 : cX1_children.data.toList.drop 166 = dktX1_children_7 := dk_seg dksX1_children_6 24 rfl rfl
theorem dksX1_children_8 : cX1_children.data.toList.drop 190 = dktX1_children_8 := dk_seg dksX1_children_7 24 rfl rfl
theorem dksX1_children_9 : cX1_children.data.toList.drop 214 = dktX1_children_9 := dk_seg dksX1_children_8 24 rfl rfl
theorem dksX1_children_10 : cX1_children.data.toList.drop 236 = dktX1_children_10 := dk_seg dksX1_children_9 22 rfl rfl
theorem dX1_children_0 : decode cX1_children 0 = .ok (.aload_n 0, 1) := dk_42 (dk_at dksX1_children_0 0 rfl rfl)
theorem dX1_children_1 : decode cX1_children 1 = .ok (.bipush 47, 2) := dk_16 47 (dk_at dksX1_children_0 1 rfl rfl)
theorem dX1_children_3 : decode cX1_children 3 = .ok (.invokevirtual 105, 3) := dk_182 0 105 (dk_at dksX1_children_0 3 rfl rfl)
theorem dX1_children_6 : decode cX1_children 6 = .ok (.astore_n 1, 1) := dk_76 (dk_at dksX1_children_0 6 rfl rfl)
theorem dX1_children_7 : decode cX1_children 7 = .ok (.aload_n 1, 1) := dk_43 (dk_at dksX1_children_0 7 rfl rfl)
theorem dX1_children_8 : decode cX1_children 8 = .ok (.getfield 141, 3) := dk_180 0 141 (dk_at dksX1_children_0 8 rfl rfl)
theorem dX1_children_11 : decode cX1_children 11 = .ok (.ifCond .ne 5, 3) := dk_154 0 5 (dk_at dksX1_children_0 11 rfl rfl)
theorem dX1_children_14 : decode cX1_children 14 = .ok (.iconst 0, 1) := dk_3 (dk_at dksX1_children_0 14 rfl rfl)
theorem dX1_children_15 : decode cX1_children 15 = .ok (.ireturn, 1) := dk_172 (dk_at dksX1_children_0 15 rfl rfl)
theorem dX1_children_16 : decode cX1_children 16 = .ok (.bipush 8, 2) := dk_16 8 (dk_at dksX1_children_0 16 rfl rfl)
theorem dX1_children_18 : decode cX1_children 18 = .ok (.iconst 3, 1) := dk_6 (dk_at dksX1_children_0 18 rfl rfl)
theorem dX1_children_19 : decode cX1_children 19 = .ok (.multianewarray 144 2, 4) := by decide +kernel
theorem dX1_children_23 : decode cX1_children 23 = .ok (.astore_n 2, 1) := dk_77 (dk_at dksX1_children_0 23 rfl rfl)
theorem dX1_children_24 : decode cX1_children 24 = .ok (.iconst 0, 1) := dk_3 (dk_at dksX1_children_1 0 rfl rfl)
theorem dX1_children_25 : decode cX1_children 25 = .ok (.istore_n 3, 1) := dk_62 (dk_at dksX1_children_1 1 rfl rfl)
theorem dX1_children_26 : decode cX1_children 26 = .ok (.aload_n 1, 1) := dk_43 (dk_at dksX1_children_1 2 rfl rfl)
theorem dX1_children_27 : decode cX1_children 27 = .ok (.aload_n 0, 1) := dk_42 (dk_at dksX1_children_1 3 rfl rfl)
theorem dX1_children_28 : decode cX1_children 28 = .ok (.getfield 91, 3) := dk_180 0 91 (dk_at dksX1_children_1 4 rfl rfl)
theorem dX1_children_31 : decode cX1_children 31 = .ok (.iload_n 3, 1) := dk_29 (dk_at dksX1_children_1 7 rfl rfl)
theorem dX1_children_32 : decode cX1_children 32 = .ok (.iadd, 1) := dk_96 (dk_at dksX1_children_1 8 rfl rfl)
theorem dX1_children_33 : decode cX1_children 33 = .ok (.bipush 8, 2) := dk_16 8 (dk_at dksX1_children_1 9 rfl rfl)
theorem dX1_children_35 : decode cX1_children 35 = .ok (.if_icmp .ge 7, 3) := dk_162 0 7 (dk_at dksX1_children_1 11 rfl rfl)
theorem dX1_children_38 : decode cX1_children 38 = .ok (.iconst 1, 1) := dk_4 (dk_at dksX1_children_1 14 rfl rfl)
theorem dX1_children_39 : decode cX1_children 39 = .ok (.goto 4, 3) := dk_167 0 4 (dk_at dksX1_children_1 15 rfl rfl)
theorem dX1_children_42 : decode cX1_children 42 = .ok (.iconst 0, 1) := dk_3 (dk_at dksX1_children_1 18 rfl rfl)
theorem dX1_children_43 : decode cX1_children 43 = .ok (.invokevirtual 146, 3) := dk_182 0 146 (dk_at dksX1_children_1 19 rfl rfl)
theorem dX1_children_46 : decode cX1_children 46 = .ok (.aload_n 2, 1) := dk_44 (dk_at dksX1_children_1 22 rfl rfl)
theorem dX1_children_47 : decode cX1_children 47 = .ok (.iload_n 3, 1) := dk_29 (dk_at dksX1_children_1 23 rfl rfl)
theorem dX1_children_48 : decode cX1_children 48 = .ok (.aaload, 1) := dk_50 (dk_at dksX1_children_2 0 rfl rfl)
theorem dX1_children_49 : decode cX1_children 49 = .ok (.iconst 0, 1) := dk_3 (dk_at dksX1_children_2 1 rfl rfl)
theorem dX1_children_50 : decode cX1_children 50 = .ok (.aload_n 1, 1) := dk_43 (dk_at dksX1_children_2 2 rfl rfl)
theorem dX1_children_51 : decode cX1_children 51 = .ok (.iconst 2, 1) := dk_5 (dk_at dksX1_children_2 3 rfl rfl)
theorem dX1_children_52 : decode cX1_children 52 = .ok (.iconst 4, 1) := dk_7 (dk_at dksX1_children_2 4 rfl rfl)
theorem dX1_children_53 : decode cX1_children 53 = .ok (.bipush 13, 2) := dk_16 13 (dk_at dksX1_children_2 5 rfl rfl)
theorem dX1_children_55 : decode cX1_children 55 = .ok (.invokevirtual 150, 3) := dk_182 0 150 (dk_at dksX1_children_2 7 rfl rfl)
theorem dX1_children_58 : decode cX1_children 58 = .ok (.iastore, 1) := dk_79 (dk_at dksX1_children_2 10 rfl rfl)
theorem dX1_children_59 : decode cX1_children 59 = .ok (.aload_n 1, 1) := dk_43 (dk_at dksX1_children_2 11 rfl rfl)
theorem dX1_children_60 : decode cX1_children 60 = .ok (.aload_n 1, 1) := dk_43 (dk_at dksX1_children_2 12 rfl rfl)
theorem dX1_children_61 : decode cX1_children 61 = .ok (.bipush 44, 2) := dk_16 44 (dk_at dksX1_children_2 13 rfl rfl)
theorem dX1_children_63 : decode cX1_children 63 = .ok (.invokevirtual 154, 3) := dk_182 0 154 (dk_at dksX1_children_2 15 rfl rfl)
theorem dX1_children_66 : decode cX1_children 66 = .ok (.invokevirtual 146, 3) := dk_182 0 146 (dk_at dksX1_children_2 18 rfl rfl)
theorem dX1_children_69 : decode cX1_children 69 = .ok (.aload_n 2, 1) := dk_44 (dk_at dksX1_children_2 21 rfl rfl)
theorem dX1_children_70 : decode cX1_children 70 = .ok (.iload_n 3, 1) := dk_29 (dk_at dksX1_children_2 22 rfl rfl)
theorem dX1_children_71 : decode cX1_children 71 = .ok (.aaload, 1) := dk_50 (dk_at dksX1_children_2 23 rfl rfl)
theorem dX1_children_72 : decode cX1_children 72 = .ok (.iconst 1, 1) := dk_4 (dk_at dksX1_children_3 0 rfl rfl)
theorem dX1_children_73 : decode cX1_children 73 = .ok (.aload_n 1, 1) := dk_43 (dk_at dksX1_children_3 1 rfl rfl)
theorem dX1_children_74 : decode cX1_children 74 = .ok (.bipush 49, 2) := dk_16 49 (dk_at dksX1_children_3 2 rfl rfl)
theorem dX1_children_76 : decode cX1_children 76 = .ok (.bipush 9, 2) := dk_16 9 (dk_at dksX1_children_3 4 rfl rfl)
theorem dX1_children_78 : decode cX1_children 78 = .ok (.invokevirtual 158, 3) := dk_182 0 158 (dk_at dksX1_children_3 6 rfl rfl)
theorem dX1_children_81 : decode cX1_children 81 = .ok (.iconst 1, 1) := dk_4 (dk_at dksX1_children_3 9 rfl rfl)
theorem dX1_children_82 : decode cX1_children 82 = .ok (.iadd, 1) := dk_96 (dk_at dksX1_children_3 10 rfl rfl)
theorem dX1_children_83 : decode cX1_children 83 = .ok (.iastore, 1) := dk_79 (dk_at dksX1_children_3 11 rfl rfl)
theorem dX1_children_84 : decode cX1_children 84 = .ok (.aload_n 2, 1) := dk_44 (dk_at dksX1_children_3 12 rfl rfl)
theorem dX1_children_85 : decode cX1_children 85 = .ok (.iload_n 3, 1) := dk_29 (dk_at dksX1_children_3 13 rfl rfl)
theorem dX1_children_86 : decode cX1_children 86 = .ok (.aaload, 1) := dk_50 (dk_at dksX1_children_3 14 rfl rfl)
theorem dX1_children_87 : decode cX1_children 87 = .ok (.iconst 2, 1) := dk_5 (dk_at dksX1_children_3 15 rfl rfl)
theorem dX1_children_88 : decode cX1_children 88 = .ok (.aload_n 1, 1) := dk_43 (dk_at dksX1_children_3 16 rfl rfl)
theorem dX1_children_89 : decode cX1_children 89 = .ok (.bipush 45, 2) := dk_16 45 (dk_at dksX1_children_3 17 rfl rfl)
theorem dX1_children_91 : decode cX1_children 91 = .ok (.invokevirtual 154, 3) := dk_182 0 154 (dk_at dksX1_children_3 19 rfl rfl)
theorem dX1_children_94 : decode cX1_children 94 = .ok (.ifCond .eq 7, 3) := dk_153 0 7 (dk_at dksX1_children_4 0 rfl rfl)
theorem dX1_children_97 : decode cX1_children 97 = .ok (.iconst (-1), 1) := dk_2 (dk_at dksX1_children_4 3 rfl rfl)
theorem dX1_children_98 : decode cX1_children 98 = .ok (.goto 15, 3) := dk_167 0 15 (dk_at dksX1_children_4 4 rfl rfl)
theorem dX1_children_101 : decode cX1_children 101 = .ok (.aload_n 1, 1) := dk_43 (dk_at dksX1_children_4 7 rfl rfl)
theorem dX1_children_102 : decode cX1_children 102 = .ok (.bipush 97, 2) := dk_16 97 (dk_at dksX1_children_4 8 rfl rfl)
theorem dX1_children_104 : decode cX1_children 104 = .ok (.aload_n 0, 1) := dk_42 (dk_at dksX1_children_4 10 rfl rfl)
theorem dX1_children_105 : decode cX1_children 105 = .ok (.getfield 91, 3) := dk_180 0 91 (dk_at dksX1_children_4 11 rfl rfl)
theorem dX1_children_108 : decode cX1_children 108 = .ok (.iload_n 3, 1) := dk_29 (dk_at dksX1_children_4 14 rfl rfl)
theorem dX1_children_109 : decode cX1_children 109 = .ok (.iadd, 1) := dk_96 (dk_at dksX1_children_4 15 rfl rfl)
theorem dX1_children_110 : decode cX1_children 110 = .ok (.invokevirtual 158, 3) := dk_182 0 158 (dk_at dksX1_children_4 16 rfl rfl)
theorem dX1_children_113 : decode cX1_children 113 = .ok (.iastore, 1) := dk_79 (dk_at dksX1_children_4 19 rfl rfl)
theorem dX1_children_114 : decode cX1_children 114 = .ok (.iinc 3 1, 3) := dk_132 3 1 (dk_at dksX1_children_4 20 rfl rfl)
theorem dX1_children_117 : decode cX1_children 117 = .ok (.aload_n 1, 1) := dk_43 (dk_at dksX1_children_4 23 rfl rfl)
theorem dX1_children_118 : decode cX1_children 118 = .ok (.bipush 59, 2) := dk_16 59 (dk_at dksX1_children_5 0 rfl rfl)
theorem dX1_children_120 : decode cX1_children 120 = .ok (.invokevirtual 154, 3) := dk_182 0 154 (dk_at dksX1_children_5 2 rfl rfl)
theorem dX1_children_123 : decode cX1_children 123 = .ok (.ifCond .ne (-97), 3) := dk_154 255 159 (dk_at dksX1_children_5 5 rfl rfl)
theorem dX1_children_126 : decode cX1_children 126 = .ok (.aload_n 1, 1) := dk_43 (dk_at dksX1_children_5 8 rfl rfl)
theorem dX1_children_127 : decode cX1_children 127 = .ok (.invokevirtual 162, 3) := dk_182 0 162 (dk_at dksX1_children_5 9 rfl rfl)
theorem dX1_children_130 : decode cX1_children 130 = .ok (.goto 13, 3) := dk_167 0 13 (dk_at dksX1_children_5 12 rfl rfl)
theorem dX1_children_133 : decode cX1_children 133 = .ok (.astore 4, 2) := dk_58 4 (dk_at dksX1_children_5 15 rfl rfl)
theorem dX1_children_135 : decode cX1_children 135 = .ok (.iconst (-1), 1) := dk_2 (dk_at dksX1_children_5 17 rfl rfl)
theorem dX1_children_136 : decode cX1_children 136 = .ok (.aload 4, 2) := dk_25 4 (dk_at dksX1_children_5 18 rfl rfl)
theorem dX1_children_138 : decode cX1_children 138 = .ok (.getfield 115, 3) := dk_180 0 115 (dk_at dksX1_children_5 20 rfl rfl)
theorem dX1_children_141 : decode cX1_children 141 = .ok (.isub, 1) := dk_100 (dk_at dksX1_children_5 23 rfl rfl)
theorem dX1_children_142 : decode cX1_children 142 = .ok (.ireturn, 1) := dk_172 (dk_at dksX1_children_6 0 rfl rfl)
theorem dX1_children_143 : decode cX1_children 143 = .ok (.iconst 0, 1) := dk_3 (dk_at dksX1_children_6 1 rfl rfl)
theorem dX1_children_144 : decode cX1_children 144 = .ok (.istore 4, 2) := dk_54 4 (dk_at dksX1_children_6 2 rfl rfl)
theorem dX1_children_146 : decode cX1_children 146 = .ok (.iload 4, 2) := dk_21 4 (dk_at dksX1_children_6 4 rfl rfl)
theorem dX1_children_148 : decode cX1_children 148 = .ok (.iload_n 3, 1) := dk_29 (dk_at dksX1_children_6 6 rfl rfl)
theorem dX1_children_149 : decode cX1_children 149 = .ok (.if_icmp .ge 90, 3) := dk_162 0 90 (dk_at dksX1_children_6 7 rfl rfl)
theorem dX1_children_152 : decode cX1_children 152 = .ok (.aload_n 0, 1) := dk_42 (dk_at dksX1_children_6 10 rfl rfl)
theorem dX1_children_153 : decode cX1_children 153 = .ok (.getfield 33, 3) := dk_180 0 33 (dk_at dksX1_children_6 11 rfl rfl)
theorem dX1_children_156 : decode cX1_children 156 = .ok (.aload_n 0, 1) := dk_42 (dk_at dksX1_children_6 14 rfl rfl)
theorem dX1_children_157 : decode cX1_children 157 = .ok (.getfield 91, 3) := dk_180 0 91 (dk_at dksX1_children_6 15 rfl rfl)
theorem dX1_children_160 : decode cX1_children 160 = .ok (.aload_n 2, 1) := dk_44 (dk_at dksX1_children_6 18 rfl rfl)
theorem dX1_children_161 : decode cX1_children 161 = .ok (.iload 4, 2) := dk_21 4 (dk_at dksX1_children_6 19 rfl rfl)
theorem dX1_children_163 : decode cX1_children 163 = .ok (.aaload, 1) := dk_50 (dk_at dksX1_children_6 21 rfl rfl)
theorem dX1_children_164 : decode cX1_children 164 = .ok (.iconst 0, 1) := dk_3 (dk_at dksX1_children_6 22 rfl rfl)
theorem dX1_children_165 : decode cX1_children 165 = .ok (.iaload, 1) := dk_46 (dk_at dksX1_children_6 23 rfl rfl)
theorem dX1_children_166 : decode cX1_children 166 = .ok (.iastore, 1) := dk_79 (dk_at dksX1_children_7 0 rfl rfl)
theorem dX1_children_167 : decode cX1_children 167 = .ok (.aload_n 0, 1) := dk_42 (dk_at dksX1_children_7 1 rfl rfl)
theorem dX1_children_168 : decode cX1_children 168 = .ok (.getfield 36, 3) := dk_180 0 36 (dk_at dksX1_children_7 2 rfl rfl)
theorem dX1_children_171 : decode cX1_children 171 = .ok (.aload_n 0, 1) := dk_42 (dk_at dksX1_children_7 5 rfl rfl)
theorem dX1_children_172 : decode cX1_children 172 = .ok (.getfield 91, 3) := dk_180 0 91 (dk_at dksX1_children_7 6 rfl rfl)
theorem dX1_children_175 : decode cX1_children 175 = .ok (.aload_n 2, 1) := dk_44 (dk_at dksX1_children_7 9 rfl rfl)
theorem dX1_children_176 : decode cX1_children 176 = .ok (.iload 4, 2) := dk_21 4 (dk_at dksX1_children_7 10 rfl rfl)
theorem dX1_children_178 : decode cX1_children 178 = .ok (.aaload, 1) := dk_50 (dk_at dksX1_children_7 12 rfl rfl)
theorem dX1_children_179 : decode cX1_children 179 = .ok (.iconst 1, 1) := dk_4 (dk_at dksX1_children_7 13 rfl rfl)
theorem dX1_children_180 : decode cX1_children 180 = .ok (.iaload, 1) := dk_46 (dk_at dksX1_children_7 14 rfl rfl)
theorem dX1_children_181 : decode cX1_children 181 = .ok (.iastore, 1) := dk_79 (dk_at dksX1_children_7 15 rfl rfl)
theorem dX1_children_182 : decode cX1_children 182 = .ok (.aload_n 0, 1) := dk_42 (dk_at dksX1_children_7 16 rfl rfl)
theorem dX1_children_183 : decode cX1_children 183 = .ok (.getfield 39, 3) := dk_180 0 39 (dk_at dksX1_children_7 17 rfl rfl)
theorem dX1_children_186 : decode cX1_children 186 = .ok (.aload_n 0, 1) := dk_42 (dk_at dksX1_children_7 20 rfl rfl)
theorem dX1_children_187 : decode cX1_children 187 = .ok (.getfield 91, 3) := dk_180 0 91 (dk_at dksX1_children_7 21 rfl rfl)
theorem dX1_children_190 : decode cX1_children 190 = .ok (.aload_n 2, 1) := dk_44 (dk_at dksX1_children_8 0 rfl rfl)
theorem dX1_children_191 : decode cX1_children 191 = .ok (.iload 4, 2) := dk_21 4 (dk_at dksX1_children_8 1 rfl rfl)
theorem dX1_children_193 : decode cX1_children 193 = .ok (.aaload, 1) := dk_50 (dk_at dksX1_children_8 3 rfl rfl)
theorem dX1_children_194 : decode cX1_children 194 = .ok (.iconst 2, 1) := dk_5 (dk_at dksX1_children_8 4 rfl rfl)
theorem dX1_children_195 : decode cX1_children 195 = .ok (.iaload, 1) := dk_46 (dk_at dksX1_children_8 5 rfl rfl)
theorem dX1_children_196 : decode cX1_children 196 = .ok (.iastore, 1) := dk_79 (dk_at dksX1_children_8 6 rfl rfl)
theorem dX1_children_197 : decode cX1_children 197 = .ok (.aload_n 0, 1) := dk_42 (dk_at dksX1_children_8 7 rfl rfl)
theorem dX1_children_198 : decode cX1_children 198 = .ok (.getfield 10, 3) := dk_180 0 10 (dk_at dksX1_children_8 8 rfl rfl)
theorem dX1_children_201 : decode cX1_children 201 = .ok (.getfield 165, 3) := dk_180 0 165 (dk_at dksX1_children_8 11 rfl rfl)
theorem dX1_children_204 : decode cX1_children 204 = .ok (.aload_n 0, 1) := dk_42 (dk_at dksX1_children_8 14 rfl rfl)
theorem dX1_children_205 : decode cX1_children 205 = .ok (.getfield 91, 3) := dk_180 0 91 (dk_at dksX1_children_8 15 rfl rfl)
theorem dX1_children_208 : decode cX1_children 208 = .ok (.iconst (-1), 1) := dk_2 (dk_at dksX1_children_8 18 rfl rfl)
theorem dX1_children_209 : decode cX1_children 209 = .ok (.iastore, 1) := dk_79 (dk_at dksX1_children_8 19 rfl rfl)
theorem dX1_children_210 : decode cX1_children 210 = .ok (.aload_n 0, 1) := dk_42 (dk_at dksX1_children_8 20 rfl rfl)
theorem dX1_children_211 : decode cX1_children 211 = .ok (.getfield 10, 3) := dk_180 0 10 (dk_at dksX1_children_8 21 rfl rfl)
theorem dX1_children_214 : decode cX1_children 214 = .ok (.getfield 167, 3) := dk_180 0 167 (dk_at dksX1_children_9 0 rfl rfl)
theorem dX1_children_217 : decode cX1_children 217 = .ok (.aload_n 0, 1) := dk_42 (dk_at dksX1_children_9 3 rfl rfl)
theorem dX1_children_218 : decode cX1_children 218 = .ok (.getfield 91, 3) := dk_180 0 91 (dk_at dksX1_children_9 4 rfl rfl)
theorem dX1_children_221 : decode cX1_children 221 = .ok (.iconst 5, 1) := dk_8 (dk_at dksX1_children_9 7 rfl rfl)
theorem dX1_children_222 : decode cX1_children 222 = .ok (.iastore, 1) := dk_79 (dk_at dksX1_children_9 8 rfl rfl)
theorem dX1_children_223 : decode cX1_children 223 = .ok (.iinc 4 1, 3) := dk_132 4 1 (dk_at dksX1_children_9 9 rfl rfl)
theorem dX1_children_226 : decode cX1_children 226 = .ok (.aload_n 0, 1) := dk_42 (dk_at dksX1_children_9 12 rfl rfl)
theorem dX1_children_227 : decode cX1_children 227 = .ok (.dup, 1) := dk_89 (dk_at dksX1_children_9 13 rfl rfl)
theorem dX1_children_228 : decode cX1_children 228 = .ok (.getfield 91, 3) := dk_180 0 91 (dk_at dksX1_children_9 14 rfl rfl)
theorem dX1_children_231 : decode cX1_children 231 = .ok (.iconst 1, 1) := dk_4 (dk_at dksX1_children_9 17 rfl rfl)
theorem dX1_children_232 : decode cX1_children 232 = .ok (.iadd, 1) := dk_96 (dk_at dksX1_children_9 18 rfl rfl)
theorem dX1_children_233 : decode cX1_children 233 = .ok (.putfield 91, 3) := dk_181 0 91 (dk_at dksX1_children_9 19 rfl rfl)
theorem dX1_children_236 : decode cX1_children 236 = .ok (.goto (-90), 3) := dk_167 255 166 (dk_at dksX1_children_10 0 rfl rfl)
theorem dX1_children_239 : decode cX1_children 239 = .ok (.aload_n 0, 1) := dk_42 (dk_at dksX1_children_10 3 rfl rfl)
theorem dX1_children_240 : decode cX1_children 240 = .ok (.iconst 0, 1) := dk_3 (dk_at dksX1_children_10 4 rfl rfl)
theorem dX1_children_241 : decode cX1_children 241 = .ok (.putfield 132, 3) := dk_181 0 132 (dk_at dksX1_children_10 5 rfl rfl)
theorem dX1_children_244 : decode cX1_children 244 = .ok (.aload_n 0, 1) := dk_42 (dk_at dksX1_children_10 8 rfl rfl)
theorem dX1_children_245 : decode cX1_children 245 = .ok (.dup, 1) := dk_89 (dk_at dksX1_children_10 9 rfl rfl)
theorem dX1_children_246 : decode cX1_children 246 = .ok (.getfield 170, 3) := dk_180 0 170 (dk_at dksX1_children_10 10 rfl rfl)
theorem dX1_children_249 : decode cX1_children 249 = .ok (.iconst 1, 1) := dk_4 (dk_at dksX1_children_10 13 rfl rfl)
theorem dX1_children_250 : decode cX1_children 250 = .ok (.iadd, 1) := dk_96 (dk_at dksX1_children_10 14 rfl rfl)
theorem dX1_children_251 : decode cX1_children 251 = .ok (.putfield 170, 3) := dk_181 0 170 (dk_at dksX1_children_10 15 rfl rfl)
theorem dX1_children_254 : decode cX1_children 254 = .ok (.iload_n 3, 1) := dk_29 (dk_at dksX1_children_10 18 rfl rfl)
theorem dX1_children_255 : decode cX1_children 255 = .ok (.ireturn, 1) := dk_172 (dk_at dksX1_children_10 19 rfl rfl)
abbrev cX1_rule : ByteArray := prog_1_method_12_code
def yX1_rule : MethodName := ⟨RX1, "rule", "()I"⟩
def dkwX1_rule_2 : List UInt8 := [181, 0, 178, 3, 172, 78, 2, 45, 180, 0, 115, 100, 172]
abbrev dktX1_rule_2 : List UInt8 := dkwX1_rule_2 ++ []
def dkwX1_rule_1 : List UInt8 := [154, 0, 10, 42, 1, 181, 0, 178, 3, 172, 42, 187, 0, 182, 89, 42, 43, 28, 183, 0, 184, 182, 0, 187]
abbrev dktX1_rule_1 : List UInt8 := dkwX1_rule_1 ++ dktX1_rule_2
def dkwX1_rule_0 : List UInt8 := [42, 180, 0, 49, 182, 0, 173, 192, 0, 174, 76, 42, 180, 0, 96, 61, 42, 3, 181, 0, 96, 28]
abbrev dktX1_rule_0 : List UInt8 := dkwX1_rule_0 ++ dktX1_rule_1
theorem dksX1_rule_0 : cX1_rule.data.toList.drop 0 = dktX1_rule_0 := by decide +kernel
theorem dksX1_rule_1 : cX1_rule.data.toList.drop 22 = dktX1_rule_1 := dk_seg dksX1_rule_0 22 rfl rfl
theorem dksX1_rule_2 : cX1_rule.data.toList.drop 46 = dktX1_rule_2 := dk_seg dksX1_rule_1 24 rfl rfl
theorem dX1_rule_0 : decode cX1_rule 0 = .ok (.aload_n 0, 1) := dk_42 (dk_at dksX1_rule_0 0 rfl rfl)
theorem dX1_rule_1 : decode cX1_rule 1 = .ok (.getfield 49, 3) := dk_180 0 49 (dk_at dksX1_rule_0 1 rfl rfl)
theorem dX1_rule_4 : decode cX1_rule 4 = .ok (.invokevirtual 173, 3) := dk_182 0 173 (dk_at dksX1_rule_0 4 rfl rfl)
theorem dX1_rule_7 : decode cX1_rule 7 = .ok (.checkcast 174, 3) := dk_192 0 174 (dk_at dksX1_rule_0 7 rfl rfl)
theorem dX1_rule_10 : decode cX1_rule 10 = .ok (.astore_n 1, 1) := dk_76 (dk_at dksX1_rule_0 10 rfl rfl)
theorem dX1_rule_11 : decode cX1_rule 11 = .ok (.aload_n 0, 1) := dk_42 (dk_at dksX1_rule_0 11 rfl rfl)
theorem dX1_rule_12 : decode cX1_rule 12 = .ok (.getfield 96, 3) := dk_180 0 96 (dk_at dksX1_rule_0 12 rfl rfl)
theorem dX1_rule_15 : decode cX1_rule 15 = .ok (.istore_n 2, 1) := dk_61 (dk_at dksX1_rule_0 15 rfl rfl)
theorem dX1_rule_16 : decode cX1_rule 16 = .ok (.aload_n 0, 1) := dk_42 (dk_at dksX1_rule_0 16 rfl rfl)
theorem dX1_rule_17 : decode cX1_rule 17 = .ok (.iconst 0, 1) := dk_3 (dk_at dksX1_rule_0 17 rfl rfl)
theorem dX1_rule_18 : decode cX1_rule 18 = .ok (.putfield 96, 3) := dk_181 0 96 (dk_at dksX1_rule_0 18 rfl rfl)
theorem dX1_rule_21 : decode cX1_rule 21 = .ok (.iload_n 2, 1) := dk_28 (dk_at dksX1_rule_0 21 rfl rfl)
theorem dX1_rule_22 : decode cX1_rule 22 = .ok (.ifCond .ne 10, 3) := dk_154 0 10 (dk_at dksX1_rule_1 0 rfl rfl)
theorem dX1_rule_25 : decode cX1_rule 25 = .ok (.aload_n 0, 1) := dk_42 (dk_at dksX1_rule_1 3 rfl rfl)
theorem dX1_rule_26 : decode cX1_rule 26 = .ok (.aconst_null, 1) := dk_1 (dk_at dksX1_rule_1 4 rfl rfl)
theorem dX1_rule_27 : decode cX1_rule 27 = .ok (.putfield 178, 3) := dk_181 0 178 (dk_at dksX1_rule_1 5 rfl rfl)
theorem dX1_rule_30 : decode cX1_rule 30 = .ok (.iconst 0, 1) := dk_3 (dk_at dksX1_rule_1 8 rfl rfl)
theorem dX1_rule_31 : decode cX1_rule 31 = .ok (.ireturn, 1) := dk_172 (dk_at dksX1_rule_1 9 rfl rfl)
theorem dX1_rule_32 : decode cX1_rule 32 = .ok (.aload_n 0, 1) := dk_42 (dk_at dksX1_rule_1 10 rfl rfl)
theorem dX1_rule_33 : decode cX1_rule 33 = .ok (.new 182, 3) := dk_187 0 182 (dk_at dksX1_rule_1 11 rfl rfl)
theorem dX1_rule_36 : decode cX1_rule 36 = .ok (.dup, 1) := dk_89 (dk_at dksX1_rule_1 14 rfl rfl)
theorem dX1_rule_37 : decode cX1_rule 37 = .ok (.aload_n 0, 1) := dk_42 (dk_at dksX1_rule_1 15 rfl rfl)
theorem dX1_rule_38 : decode cX1_rule 38 = .ok (.aload_n 1, 1) := dk_43 (dk_at dksX1_rule_1 16 rfl rfl)
theorem dX1_rule_39 : decode cX1_rule 39 = .ok (.iload_n 2, 1) := dk_28 (dk_at dksX1_rule_1 17 rfl rfl)
theorem dX1_rule_40 : decode cX1_rule 40 = .ok (.invokespecial 184, 3) := dk_183 0 184 (dk_at dksX1_rule_1 18 rfl rfl)
theorem dX1_rule_43 : decode cX1_rule 43 = .ok (.invokevirtual 187, 3) := dk_182 0 187 (dk_at dksX1_rule_1 21 rfl rfl)
theorem dX1_rule_46 : decode cX1_rule 46 = .ok (.putfield 178, 3) := dk_181 0 178 (dk_at dksX1_rule_2 0 rfl rfl)
theorem dX1_rule_49 : decode cX1_rule 49 = .ok (.iconst 0, 1) := dk_3 (dk_at dksX1_rule_2 3 rfl rfl)
theorem dX1_rule_50 : decode cX1_rule 50 = .ok (.ireturn, 1) := dk_172 (dk_at dksX1_rule_2 4 rfl rfl)
theorem dX1_rule_51 : decode cX1_rule 51 = .ok (.astore_n 3, 1) := dk_78 (dk_at dksX1_rule_2 5 rfl rfl)
theorem dX1_rule_52 : decode cX1_rule 52 = .ok (.iconst (-1), 1) := dk_2 (dk_at dksX1_rule_2 6 rfl rfl)
theorem dX1_rule_53 : decode cX1_rule 53 = .ok (.aload_n 3, 1) := dk_45 (dk_at dksX1_rule_2 7 rfl rfl)
theorem dX1_rule_54 : decode cX1_rule 54 = .ok (.getfield 115, 3) := dk_180 0 115 (dk_at dksX1_rule_2 8 rfl rfl)
theorem dX1_rule_57 : decode cX1_rule 57 = .ok (.isub, 1) := dk_100 (dk_at dksX1_rule_2 11 rfl rfl)
theorem dX1_rule_58 : decode cX1_rule 58 = .ok (.ireturn, 1) := dk_172 (dk_at dksX1_rule_2 12 rfl rfl)
abbrev cX1_set : ByteArray := prog_1_method_20_code
def yX1_set : MethodName := ⟨RX1, "set", "(II)I"⟩
def dkwX1_set_4 : List UInt8 := [2, 172, 42, 180, 0, 46, 62, 42, 28, 181, 0, 46, 29, 172, 2, 172]
abbrev dktX1_set_4 : List UInt8 := dkwX1_set_4 ++ []
def dkwX1_set_3 : List UInt8 := [29, 172, 28, 133, 42, 180, 0, 10, 180, 0, 224, 184, 0, 196, 133, 20, 1, 1, 184, 0, 87, 154, 0, 5]
abbrev dktX1_set_3 : List UInt8 := dkwX1_set_3 ++ dktX1_set_4
def dkwX1_set_2 : List UInt8 := [28, 133, 9, 20, 0, 255, 184, 0, 87, 154, 0, 5, 2, 172, 42, 180, 0, 190, 62, 42, 28, 181, 0, 190]
abbrev dktX1_set_2 : List UInt8 := dkwX1_set_2 ++ dktX1_set_3
def dkwX1_set_1 : List UInt8 := [171, 0, 0, 0, 0, 0, 89, 0, 0, 0, 2, 0, 0, 0, 0, 0, 0, 0, 27, 0, 0, 0, 1, 0, 0, 0, 53]
abbrev dktX1_set_1 : List UInt8 := dkwX1_set_1 ++ dktX1_set_2
def dkwX1_set_0 : List UInt8 := [27]
abbrev dktX1_set_0 : List UInt8 := dkwX1_set_0 ++ dktX1_set_1
theorem dksX1_set_0 : cX1_set.data.toList.drop 0 = dktX1_set_0 := by decide +kernel
theorem dksX1_set_1 : cX1_set.data.toList.drop 1 = dktX1_set_1 := dk_seg dksX1_set_0 1 rfl rfl
theorem dksX1_set_2 : cX1_set.data.toList.drop 28 = dktX1_set_2 := dk_seg dksX1_set_1 27 rfl rfl
theorem dksX1_set_3 : cX1_set.data.toList.drop 52 = dktX1_set_3 := dk_seg dksX1_set_2 24 rfl rfl
theorem dksX1_set_4 : cX1_set.data.toList.drop 76 = dktX1_set_4 := dk_seg dksX1_set_3 24 rfl rfl
theorem dX1_set_0 : decode cX1_set 0 = .ok (.iload_n 1, 1) := dk_27 (dk_at dksX1_set_0 0 rfl rfl)
theorem dX1_set_1 : decode cX1_set 1 = .ok (.lookupswitch 89 #[(0, 27), (1, 53)], 27) := by decide +kernel
theorem dX1_set_28 : decode cX1_set 28 = .ok (.iload_n 2, 1) := dk_28 (dk_at dksX1_set_2 0 rfl rfl)
theorem dX1_set_29 : decode cX1_set 29 = .ok (.i2l, 1) := dk_133 (dk_at dksX1_set_2 1 rfl rfl)
theorem dX1_set_30 : decode cX1_set 30 = .ok (.lconst 0, 1) := dk_9 (dk_at dksX1_set_2 2 rfl rfl)
theorem dX1_set_31 : decode cX1_set 31 = .ok (.ldc2_w 255, 3) := dk_20 0 255 (dk_at dksX1_set_2 3 rfl rfl)
theorem dX1_set_34 : decode cX1_set 34 = .ok (.invokestatic 87, 3) := dk_184 0 87 (dk_at dksX1_set_2 6 rfl rfl)
theorem dX1_set_37 : decode cX1_set 37 = .ok (.ifCond .ne 5, 3) := dk_154 0 5 (dk_at dksX1_set_2 9 rfl rfl)
theorem dX1_set_40 : decode cX1_set 40 = .ok (.iconst (-1), 1) := dk_2 (dk_at dksX1_set_2 12 rfl rfl)
theorem dX1_set_41 : decode cX1_set 41 = .ok (.ireturn, 1) := dk_172 (dk_at dksX1_set_2 13 rfl rfl)
theorem dX1_set_42 : decode cX1_set 42 = .ok (.aload_n 0, 1) := dk_42 (dk_at dksX1_set_2 14 rfl rfl)
theorem dX1_set_43 : decode cX1_set 43 = .ok (.getfield 190, 3) := dk_180 0 190 (dk_at dksX1_set_2 15 rfl rfl)
theorem dX1_set_46 : decode cX1_set 46 = .ok (.istore_n 3, 1) := dk_62 (dk_at dksX1_set_2 18 rfl rfl)
theorem dX1_set_47 : decode cX1_set 47 = .ok (.aload_n 0, 1) := dk_42 (dk_at dksX1_set_2 19 rfl rfl)
theorem dX1_set_48 : decode cX1_set 48 = .ok (.iload_n 2, 1) := dk_28 (dk_at dksX1_set_2 20 rfl rfl)
theorem dX1_set_49 : decode cX1_set 49 = .ok (.putfield 190, 3) := dk_181 0 190 (dk_at dksX1_set_2 21 rfl rfl)
theorem dX1_set_52 : decode cX1_set 52 = .ok (.iload_n 3, 1) := dk_29 (dk_at dksX1_set_3 0 rfl rfl)
theorem dX1_set_53 : decode cX1_set 53 = .ok (.ireturn, 1) := dk_172 (dk_at dksX1_set_3 1 rfl rfl)
theorem dX1_set_54 : decode cX1_set 54 = .ok (.iload_n 2, 1) := dk_28 (dk_at dksX1_set_3 2 rfl rfl)
theorem dX1_set_55 : decode cX1_set 55 = .ok (.i2l, 1) := dk_133 (dk_at dksX1_set_3 3 rfl rfl)
theorem dX1_set_56 : decode cX1_set 56 = .ok (.aload_n 0, 1) := dk_42 (dk_at dksX1_set_3 4 rfl rfl)
theorem dX1_set_57 : decode cX1_set 57 = .ok (.getfield 10, 3) := dk_180 0 10 (dk_at dksX1_set_3 5 rfl rfl)
theorem dX1_set_60 : decode cX1_set 60 = .ok (.getfield 224, 3) := dk_180 0 224 (dk_at dksX1_set_3 8 rfl rfl)
theorem dX1_set_63 : decode cX1_set 63 = .ok (.invokestatic 196, 3) := dk_184 0 196 (dk_at dksX1_set_3 11 rfl rfl)
theorem dX1_set_66 : decode cX1_set 66 = .ok (.i2l, 1) := dk_133 (dk_at dksX1_set_3 14 rfl rfl)
theorem dX1_set_67 : decode cX1_set 67 = .ok (.ldc2_w 257, 3) := dk_20 1 1 (dk_at dksX1_set_3 15 rfl rfl)
theorem dX1_set_70 : decode cX1_set 70 = .ok (.invokestatic 87, 3) := dk_184 0 87 (dk_at dksX1_set_3 18 rfl rfl)
theorem dX1_set_73 : decode cX1_set 73 = .ok (.ifCond .ne 5, 3) := dk_154 0 5 (dk_at dksX1_set_3 21 rfl rfl)
theorem dX1_set_76 : decode cX1_set 76 = .ok (.iconst (-1), 1) := dk_2 (dk_at dksX1_set_4 0 rfl rfl)
theorem dX1_set_77 : decode cX1_set 77 = .ok (.ireturn, 1) := dk_172 (dk_at dksX1_set_4 1 rfl rfl)
theorem dX1_set_78 : decode cX1_set 78 = .ok (.aload_n 0, 1) := dk_42 (dk_at dksX1_set_4 2 rfl rfl)
theorem dX1_set_79 : decode cX1_set 79 = .ok (.getfield 46, 3) := dk_180 0 46 (dk_at dksX1_set_4 3 rfl rfl)
theorem dX1_set_82 : decode cX1_set 82 = .ok (.istore_n 3, 1) := dk_62 (dk_at dksX1_set_4 6 rfl rfl)
theorem dX1_set_83 : decode cX1_set 83 = .ok (.aload_n 0, 1) := dk_42 (dk_at dksX1_set_4 7 rfl rfl)
theorem dX1_set_84 : decode cX1_set 84 = .ok (.iload_n 2, 1) := dk_28 (dk_at dksX1_set_4 8 rfl rfl)
theorem dX1_set_85 : decode cX1_set 85 = .ok (.putfield 46, 3) := dk_181 0 46 (dk_at dksX1_set_4 9 rfl rfl)
theorem dX1_set_88 : decode cX1_set 88 = .ok (.iload_n 3, 1) := dk_29 (dk_at dksX1_set_4 12 rfl rfl)
theorem dX1_set_89 : decode cX1_set 89 = .ok (.ireturn, 1) := dk_172 (dk_at dksX1_set_4 13 rfl rfl)
theorem dX1_set_90 : decode cX1_set 90 = .ok (.iconst (-1), 1) := dk_2 (dk_at dksX1_set_4 14 rfl rfl)
theorem dX1_set_91 : decode cX1_set 91 = .ok (.ireturn, 1) := dk_172 (dk_at dksX1_set_4 15 rfl rfl)
abbrev cX1_sheet : ByteArray := prog_1_method_23_code
def yX1_sheet : MethodName := ⟨RX1, "sheet", "(IIII)I"⟩
def dkwX1_sheet_5 : List UInt8 := [54, 6, 132, 7, 1, 167, 255, 188, 25, 5, 199, 0, 8, 16, 253, 167, 0, 5, 21, 6, 172]
abbrev dktX1_sheet_5 : List UInt8 := dkwX1_sheet_5 ++ []
def dkwX1_sheet_4 : List UInt8 := [184, 1, 14, 184, 0, 206, 184, 0, 211, 79, 21, 6, 42, 180, 0, 10, 180, 0, 167, 21, 7, 46, 96]
abbrev dktX1_sheet_4 : List UInt8 := dkwX1_sheet_4 ++ dktX1_sheet_5
def dkwX1_sheet_3 : List UInt8 := [25, 5, 198, 0, 9, 21, 7, 28, 161, 0, 7, 3, 167, 0, 19, 3, 16, 9, 25, 5, 21, 7]
abbrev dktX1_sheet_3 : List UInt8 := dkwX1_sheet_3 ++ dktX1_sheet_4
def dkwX1_sheet_2 : List UInt8 := [54, 6, 3, 54, 7, 21, 7, 42, 180, 0, 91, 162, 0, 65, 42, 180, 0, 10, 180, 0, 167, 21, 7]
abbrev dktX1_sheet_2 : List UInt8 := dkwX1_sheet_2 ++ dktX1_sheet_3
def dkwX1_sheet_1 : List UInt8 := [6, 162, 0, 21, 27, 28, 29, 21, 4, 184, 1, 8, 58, 5, 167, 0, 8, 58, 6, 16, 254, 172, 3]
abbrev dktX1_sheet_1 : List UInt8 := dkwX1_sheet_1 ++ dktX1_sheet_2
def dkwX1_sheet_0 : List UInt8 := [27, 133, 9, 20, 1, 6, 184, 0, 87, 153, 0, 9, 28, 16, 8, 164, 0, 5, 2, 172, 1, 58, 5, 27]
abbrev dktX1_sheet_0 : List UInt8 := dkwX1_sheet_0 ++ dktX1_sheet_1
theorem dksX1_sheet_0 : cX1_sheet.data.toList.drop 0 = dktX1_sheet_0 := by decide +kernel
theorem dksX1_sheet_1 : cX1_sheet.data.toList.drop 24 = dktX1_sheet_1 := dk_seg dksX1_sheet_0 24 rfl rfl
theorem dksX1_sheet_2 : cX1_sheet.data.toList.drop 47 = dktX1_sheet_2 := dk_seg dksX1_sheet_1 23 rfl rfl
theorem dksX1_sheet_3 : cX1_sheet.data.toList.drop 70 = dktX1_sheet_3 := dk_seg dksX1_sheet_2 23 rfl rfl
theorem dksX1_sheet_4 : cX1_sheet.data.toList.drop 92 = dktX1_sheet_4 := dk_seg dksX1_sheet_3 22 rfl rfl
theorem dksX1_sheet_5 : cX1_sheet.data.toList.drop 115 = dktX1_sheet_5 := dk_seg dksX1_sheet_4 23 rfl rfl
theorem dX1_sheet_0 : decode cX1_sheet 0 = .ok (.iload_n 1, 1) := dk_27 (dk_at dksX1_sheet_0 0 rfl rfl)
theorem dX1_sheet_1 : decode cX1_sheet 1 = .ok (.i2l, 1) := dk_133 (dk_at dksX1_sheet_0 1 rfl rfl)
theorem dX1_sheet_2 : decode cX1_sheet 2 = .ok (.lconst 0, 1) := dk_9 (dk_at dksX1_sheet_0 2 rfl rfl)
theorem dX1_sheet_3 : decode cX1_sheet 3 = .ok (.ldc2_w 262, 3) := dk_20 1 6 (dk_at dksX1_sheet_0 3 rfl rfl)
theorem dX1_sheet_6 : decode cX1_sheet 6 = .ok (.invokestatic 87, 3) := dk_184 0 87 (dk_at dksX1_sheet_0 6 rfl rfl)
theorem dX1_sheet_9 : decode cX1_sheet 9 = .ok (.ifCond .eq 9, 3) := dk_153 0 9 (dk_at dksX1_sheet_0 9 rfl rfl)
theorem dX1_sheet_12 : decode cX1_sheet 12 = .ok (.iload_n 2, 1) := dk_28 (dk_at dksX1_sheet_0 12 rfl rfl)
theorem dX1_sheet_13 : decode cX1_sheet 13 = .ok (.bipush 8, 2) := dk_16 8 (dk_at dksX1_sheet_0 13 rfl rfl)
theorem dX1_sheet_15 : decode cX1_sheet 15 = .ok (.if_icmp .le 5, 3) := dk_164 0 5 (dk_at dksX1_sheet_0 15 rfl rfl)
theorem dX1_sheet_18 : decode cX1_sheet 18 = .ok (.iconst (-1), 1) := dk_2 (dk_at dksX1_sheet_0 18 rfl rfl)
theorem dX1_sheet_19 : decode cX1_sheet 19 = .ok (.ireturn, 1) := dk_172 (dk_at dksX1_sheet_0 19 rfl rfl)
theorem dX1_sheet_20 : decode cX1_sheet 20 = .ok (.aconst_null, 1) := dk_1 (dk_at dksX1_sheet_0 20 rfl rfl)
theorem dX1_sheet_21 : decode cX1_sheet 21 = .ok (.astore 5, 2) := dk_58 5 (dk_at dksX1_sheet_0 21 rfl rfl)
theorem dX1_sheet_23 : decode cX1_sheet 23 = .ok (.iload_n 1, 1) := dk_27 (dk_at dksX1_sheet_0 23 rfl rfl)
theorem dX1_sheet_24 : decode cX1_sheet 24 = .ok (.iconst 3, 1) := dk_6 (dk_at dksX1_sheet_1 0 rfl rfl)
theorem dX1_sheet_25 : decode cX1_sheet 25 = .ok (.if_icmp .ge 21, 3) := dk_162 0 21 (dk_at dksX1_sheet_1 1 rfl rfl)
theorem dX1_sheet_28 : decode cX1_sheet 28 = .ok (.iload_n 1, 1) := dk_27 (dk_at dksX1_sheet_1 4 rfl rfl)
theorem dX1_sheet_29 : decode cX1_sheet 29 = .ok (.iload_n 2, 1) := dk_28 (dk_at dksX1_sheet_1 5 rfl rfl)
theorem dX1_sheet_30 : decode cX1_sheet 30 = .ok (.iload_n 3, 1) := dk_29 (dk_at dksX1_sheet_1 6 rfl rfl)
theorem dX1_sheet_31 : decode cX1_sheet 31 = .ok (.iload 4, 2) := dk_21 4 (dk_at dksX1_sheet_1 7 rfl rfl)
theorem dX1_sheet_33 : decode cX1_sheet 33 = .ok (.invokestatic 264, 3) := dk_184 1 8 (dk_at dksX1_sheet_1 9 rfl rfl)
theorem dX1_sheet_36 : decode cX1_sheet 36 = .ok (.astore 5, 2) := dk_58 5 (dk_at dksX1_sheet_1 12 rfl rfl)
theorem dX1_sheet_38 : decode cX1_sheet 38 = .ok (.goto 8, 3) := dk_167 0 8 (dk_at dksX1_sheet_1 14 rfl rfl)
theorem dX1_sheet_41 : decode cX1_sheet 41 = .ok (.astore 6, 2) := dk_58 6 (dk_at dksX1_sheet_1 17 rfl rfl)
theorem dX1_sheet_43 : decode cX1_sheet 43 = .ok (.bipush (-2), 2) := dk_16 254 (dk_at dksX1_sheet_1 19 rfl rfl)
theorem dX1_sheet_45 : decode cX1_sheet 45 = .ok (.ireturn, 1) := dk_172 (dk_at dksX1_sheet_1 21 rfl rfl)
theorem dX1_sheet_46 : decode cX1_sheet 46 = .ok (.iconst 0, 1) := dk_3 (dk_at dksX1_sheet_1 22 rfl rfl)
theorem dX1_sheet_47 : decode cX1_sheet 47 = .ok (.istore 6, 2) := dk_54 6 (dk_at dksX1_sheet_2 0 rfl rfl)
theorem dX1_sheet_49 : decode cX1_sheet 49 = .ok (.iconst 0, 1) := dk_3 (dk_at dksX1_sheet_2 2 rfl rfl)
theorem dX1_sheet_50 : decode cX1_sheet 50 = .ok (.istore 7, 2) := dk_54 7 (dk_at dksX1_sheet_2 3 rfl rfl)
theorem dX1_sheet_52 : decode cX1_sheet 52 = .ok (.iload 7, 2) := dk_21 7 (dk_at dksX1_sheet_2 5 rfl rfl)
theorem dX1_sheet_54 : decode cX1_sheet 54 = .ok (.aload_n 0, 1) := dk_42 (dk_at dksX1_sheet_2 7 rfl rfl)
theorem dX1_sheet_55 : decode cX1_sheet 55 = .ok (.getfield 91, 3) := dk_180 0 91 (dk_at dksX1_sheet_2 8 rfl rfl)
theorem dX1_sheet_58 : decode cX1_sheet 58 = .ok (.if_icmp .ge 65, 3) := dk_162 0 65 (dk_at dksX1_sheet_2 11 rfl rfl)
theorem dX1_sheet_61 : decode cX1_sheet 61 = .ok (.aload_n 0, 1) := dk_42 (dk_at dksX1_sheet_2 14 rfl rfl)
theorem dX1_sheet_62 : decode cX1_sheet 62 = .ok (.getfield 10, 3) := dk_180 0 10 (dk_at dksX1_sheet_2 15 rfl rfl)
theorem dX1_sheet_65 : decode cX1_sheet 65 = .ok (.getfield 167, 3) := dk_180 0 167 (dk_at dksX1_sheet_2 18 rfl rfl)
theorem dX1_sheet_68 : decode cX1_sheet 68 = .ok (.iload 7, 2) := dk_21 7 (dk_at dksX1_sheet_2 21 rfl rfl)
theorem dX1_sheet_70 : decode cX1_sheet 70 = .ok (.aload 5, 2) := dk_25 5 (dk_at dksX1_sheet_3 0 rfl rfl)
theorem dX1_sheet_72 : decode cX1_sheet 72 = .ok (.ifnull 9, 3) := dk_198 0 9 (dk_at dksX1_sheet_3 2 rfl rfl)
theorem dX1_sheet_75 : decode cX1_sheet 75 = .ok (.iload 7, 2) := dk_21 7 (dk_at dksX1_sheet_3 5 rfl rfl)
theorem dX1_sheet_77 : decode cX1_sheet 77 = .ok (.iload_n 2, 1) := dk_28 (dk_at dksX1_sheet_3 7 rfl rfl)
theorem dX1_sheet_78 : decode cX1_sheet 78 = .ok (.if_icmp .lt 7, 3) := dk_161 0 7 (dk_at dksX1_sheet_3 8 rfl rfl)
theorem dX1_sheet_81 : decode cX1_sheet 81 = .ok (.iconst 0, 1) := dk_3 (dk_at dksX1_sheet_3 11 rfl rfl)
theorem dX1_sheet_82 : decode cX1_sheet 82 = .ok (.goto 19, 3) := dk_167 0 19 (dk_at dksX1_sheet_3 12 rfl rfl)
theorem dX1_sheet_85 : decode cX1_sheet 85 = .ok (.iconst 0, 1) := dk_3 (dk_at dksX1_sheet_3 15 rfl rfl)
theorem dX1_sheet_86 : decode cX1_sheet 86 = .ok (.bipush 9, 2) := dk_16 9 (dk_at dksX1_sheet_3 16 rfl rfl)
theorem dX1_sheet_88 : decode cX1_sheet 88 = .ok (.aload 5, 2) := dk_25 5 (dk_at dksX1_sheet_3 18 rfl rfl)
theorem dX1_sheet_90 : decode cX1_sheet 90 = .ok (.iload 7, 2) := dk_21 7 (dk_at dksX1_sheet_3 20 rfl rfl)
theorem dX1_sheet_92 : decode cX1_sheet 92 = .ok (.invokestatic 270, 3) := dk_184 1 14 (dk_at dksX1_sheet_4 0 rfl rfl)
theorem dX1_sheet_95 : decode cX1_sheet 95 = .ok (.invokestatic 206, 3) := dk_184 0 206 (dk_at dksX1_sheet_4 3 rfl rfl)
theorem dX1_sheet_98 : decode cX1_sheet 98 = .ok (.invokestatic 211, 3) := dk_184 0 211 (dk_at dksX1_sheet_4 6 rfl rfl)
theorem dX1_sheet_101 : decode cX1_sheet 101 = .ok (.iastore, 1) := dk_79 (dk_at dksX1_sheet_4 9 rfl rfl)
theorem dX1_sheet_102 : decode cX1_sheet 102 = .ok (.iload 6, 2) := dk_21 6 (dk_at dksX1_sheet_4 10 rfl rfl)
theorem dX1_sheet_104 : decode cX1_sheet 104 = .ok (.aload_n 0, 1) := dk_42 (dk_at dksX1_sheet_4 12 rfl rfl)
theorem dX1_sheet_105 : decode cX1_sheet 105 = .ok (.getfield 10, 3) := dk_180 0 10 (dk_at dksX1_sheet_4 13 rfl rfl)
theorem dX1_sheet_108 : decode cX1_sheet 108 = .ok (.getfield 167, 3) := dk_180 0 167 (dk_at dksX1_sheet_4 16 rfl rfl)
theorem dX1_sheet_111 : decode cX1_sheet 111 = .ok (.iload 7, 2) := dk_21 7 (dk_at dksX1_sheet_4 19 rfl rfl)
theorem dX1_sheet_113 : decode cX1_sheet 113 = .ok (.iaload, 1) := dk_46 (dk_at dksX1_sheet_4 21 rfl rfl)
theorem dX1_sheet_114 : decode cX1_sheet 114 = .ok (.iadd, 1) := dk_96 (dk_at dksX1_sheet_4 22 rfl rfl)
theorem dX1_sheet_115 : decode cX1_sheet 115 = .ok (.istore 6, 2) := dk_54 6 (dk_at dksX1_sheet_5 0 rfl rfl)
theorem dX1_sheet_117 : decode cX1_sheet 117 = .ok (.iinc 7 1, 3) := dk_132 7 1 (dk_at dksX1_sheet_5 2 rfl rfl)
theorem dX1_sheet_120 : decode cX1_sheet 120 = .ok (.goto (-68), 3) := dk_167 255 188 (dk_at dksX1_sheet_5 5 rfl rfl)
theorem dX1_sheet_123 : decode cX1_sheet 123 = .ok (.aload 5, 2) := dk_25 5 (dk_at dksX1_sheet_5 8 rfl rfl)
theorem dX1_sheet_125 : decode cX1_sheet 125 = .ok (.ifnonnull 8, 3) := dk_199 0 8 (dk_at dksX1_sheet_5 10 rfl rfl)
theorem dX1_sheet_128 : decode cX1_sheet 128 = .ok (.bipush (-3), 2) := dk_16 253 (dk_at dksX1_sheet_5 13 rfl rfl)
theorem dX1_sheet_130 : decode cX1_sheet 130 = .ok (.goto 5, 3) := dk_167 0 5 (dk_at dksX1_sheet_5 15 rfl rfl)
theorem dX1_sheet_133 : decode cX1_sheet 133 = .ok (.iload 6, 2) := dk_21 6 (dk_at dksX1_sheet_5 18 rfl rfl)
theorem dX1_sheet_135 : decode cX1_sheet 135 = .ok (.ireturn, 1) := dk_172 (dk_at dksX1_sheet_5 20 rfl rfl)
abbrev cX1_rowOf : ByteArray := prog_1_method_21_code
def yX1_rowOf : MethodName := ⟨RX1, "rowOf", "(IIII)Ljava/lang/Object;"⟩
def dkwX1_rowOf_5 : List UInt8 := [167, 255, 234, 25, 5, 176]
abbrev dktX1_rowOf_5 : List UInt8 := dkwX1_rowOf_5 ++ []
def dkwX1_rowOf_4 : List UInt8 := [21, 6, 27, 162, 0, 22, 25, 5, 21, 6, 21, 4, 79, 132, 6, 1, 21, 4, 29, 96, 54, 4]
abbrev dktX1_rowOf_4 : List UInt8 := dkwX1_rowOf_4 ++ dktX1_rowOf_5
def dkwX1_rowOf_3 : List UInt8 := [86, 132, 6, 1, 21, 4, 29, 96, 54, 4, 167, 255, 233, 25, 5, 176, 27, 188, 10, 58, 5, 3, 54, 6]
abbrev dktX1_rowOf_3 : List UInt8 := dkwX1_rowOf_3 ++ dktX1_rowOf_4
def dkwX1_rowOf_2 : List UInt8 := [160, 0, 40, 27, 188, 9, 58, 5, 3, 54, 6, 21, 6, 27, 162, 0, 23, 25, 5, 21, 6, 21, 4, 147]
abbrev dktX1_rowOf_2 : List UInt8 := dkwX1_rowOf_2 ++ dktX1_rowOf_3
def dkwX1_rowOf_1 : List UInt8 := [21, 6, 21, 4, 145, 84, 132, 6, 1, 21, 4, 29, 96, 54, 4, 167, 255, 233, 25, 5, 176, 26, 4]
abbrev dktX1_rowOf_1 : List UInt8 := dkwX1_rowOf_1 ++ dktX1_rowOf_2
def dkwX1_rowOf_0 : List UInt8 := [28, 54, 4, 26, 154, 0, 40, 27, 188, 8, 58, 5, 3, 54, 6, 21, 6, 27, 162, 0, 23, 25, 5]
abbrev dktX1_rowOf_0 : List UInt8 := dkwX1_rowOf_0 ++ dktX1_rowOf_1
theorem dksX1_rowOf_0 : cX1_rowOf.data.toList.drop 0 = dktX1_rowOf_0 := by decide +kernel
theorem dksX1_rowOf_1 : cX1_rowOf.data.toList.drop 23 = dktX1_rowOf_1 := dk_seg dksX1_rowOf_0 23 rfl rfl
theorem dksX1_rowOf_2 : cX1_rowOf.data.toList.drop 46 = dktX1_rowOf_2 := dk_seg dksX1_rowOf_1 23 rfl rfl
theorem dksX1_rowOf_3 : cX1_rowOf.data.toList.drop 70 = dktX1_rowOf_3 := dk_seg dksX1_rowOf_2 24 rfl rfl
theorem dksX1_rowOf_4 : cX1_rowOf.data.toList.drop 94 = dktX1_rowOf_4 := dk_seg dksX1_rowOf_3 24 rfl rfl
theorem dksX1_rowOf_5 : cX1_rowOf.data.toList.drop 116 = dktX1_rowOf_5 := dk_seg dksX1_rowOf_4 22 rfl rfl
theorem dX1_rowOf_0 : decode cX1_rowOf 0 = .ok (.iload_n 2, 1) := dk_28 (dk_at dksX1_rowOf_0 0 rfl rfl)
theorem dX1_rowOf_1 : decode cX1_rowOf 1 = .ok (.istore 4, 2) := dk_54 4 (dk_at dksX1_rowOf_0 1 rfl rfl)
theorem dX1_rowOf_3 : decode cX1_rowOf 3 = .ok (.iload_n 0, 1) := dk_26 (dk_at dksX1_rowOf_0 3 rfl rfl)
theorem dX1_rowOf_4 : decode cX1_rowOf 4 = .ok (.ifCond .ne 40, 3) := dk_154 0 40 (dk_at dksX1_rowOf_0 4 rfl rfl)
theorem dX1_rowOf_7 : decode cX1_rowOf 7 = .ok (.iload_n 1, 1) := dk_27 (dk_at dksX1_rowOf_0 7 rfl rfl)
theorem dX1_rowOf_8 : decode cX1_rowOf 8 = .ok (.newarray .byte, 2) := dk_188_8 (dk_at dksX1_rowOf_0 8 rfl rfl)
theorem dX1_rowOf_10 : decode cX1_rowOf 10 = .ok (.astore 5, 2) := dk_58 5 (dk_at dksX1_rowOf_0 10 rfl rfl)
theorem dX1_rowOf_12 : decode cX1_rowOf 12 = .ok (.iconst 0, 1) := dk_3 (dk_at dksX1_rowOf_0 12 rfl rfl)
theorem dX1_rowOf_13 : decode cX1_rowOf 13 = .ok (.istore 6, 2) := dk_54 6 (dk_at dksX1_rowOf_0 13 rfl rfl)
theorem dX1_rowOf_15 : decode cX1_rowOf 15 = .ok (.iload 6, 2) := dk_21 6 (dk_at dksX1_rowOf_0 15 rfl rfl)
theorem dX1_rowOf_17 : decode cX1_rowOf 17 = .ok (.iload_n 1, 1) := dk_27 (dk_at dksX1_rowOf_0 17 rfl rfl)
theorem dX1_rowOf_18 : decode cX1_rowOf 18 = .ok (.if_icmp .ge 23, 3) := dk_162 0 23 (dk_at dksX1_rowOf_0 18 rfl rfl)
theorem dX1_rowOf_21 : decode cX1_rowOf 21 = .ok (.aload 5, 2) := dk_25 5 (dk_at dksX1_rowOf_0 21 rfl rfl)
theorem dX1_rowOf_23 : decode cX1_rowOf 23 = .ok (.iload 6, 2) := dk_21 6 (dk_at dksX1_rowOf_1 0 rfl rfl)
theorem dX1_rowOf_25 : decode cX1_rowOf 25 = .ok (.iload 4, 2) := dk_21 4 (dk_at dksX1_rowOf_1 2 rfl rfl)
theorem dX1_rowOf_27 : decode cX1_rowOf 27 = .ok (.i2b, 1) := dk_145 (dk_at dksX1_rowOf_1 4 rfl rfl)
theorem dX1_rowOf_28 : decode cX1_rowOf 28 = .ok (.bastore, 1) := dk_84 (dk_at dksX1_rowOf_1 5 rfl rfl)
theorem dX1_rowOf_29 : decode cX1_rowOf 29 = .ok (.iinc 6 1, 3) := dk_132 6 1 (dk_at dksX1_rowOf_1 6 rfl rfl)
theorem dX1_rowOf_32 : decode cX1_rowOf 32 = .ok (.iload 4, 2) := dk_21 4 (dk_at dksX1_rowOf_1 9 rfl rfl)
theorem dX1_rowOf_34 : decode cX1_rowOf 34 = .ok (.iload_n 3, 1) := dk_29 (dk_at dksX1_rowOf_1 11 rfl rfl)
theorem dX1_rowOf_35 : decode cX1_rowOf 35 = .ok (.iadd, 1) := dk_96 (dk_at dksX1_rowOf_1 12 rfl rfl)
theorem dX1_rowOf_36 : decode cX1_rowOf 36 = .ok (.istore 4, 2) := dk_54 4 (dk_at dksX1_rowOf_1 13 rfl rfl)
theorem dX1_rowOf_38 : decode cX1_rowOf 38 = .ok (.goto (-23), 3) := dk_167 255 233 (dk_at dksX1_rowOf_1 15 rfl rfl)
theorem dX1_rowOf_41 : decode cX1_rowOf 41 = .ok (.aload 5, 2) := dk_25 5 (dk_at dksX1_rowOf_1 18 rfl rfl)
theorem dX1_rowOf_43 : decode cX1_rowOf 43 = .ok (.areturn, 1) := dk_176 (dk_at dksX1_rowOf_1 20 rfl rfl)
theorem dX1_rowOf_44 : decode cX1_rowOf 44 = .ok (.iload_n 0, 1) := dk_26 (dk_at dksX1_rowOf_1 21 rfl rfl)
theorem dX1_rowOf_45 : decode cX1_rowOf 45 = .ok (.iconst 1, 1) := dk_4 (dk_at dksX1_rowOf_1 22 rfl rfl)
theorem dX1_rowOf_46 : decode cX1_rowOf 46 = .ok (.if_icmp .ne 40, 3) := dk_160 0 40 (dk_at dksX1_rowOf_2 0 rfl rfl)
theorem dX1_rowOf_49 : decode cX1_rowOf 49 = .ok (.iload_n 1, 1) := dk_27 (dk_at dksX1_rowOf_2 3 rfl rfl)
theorem dX1_rowOf_50 : decode cX1_rowOf 50 = .ok (.newarray .short, 2) := dk_188_9 (dk_at dksX1_rowOf_2 4 rfl rfl)
theorem dX1_rowOf_52 : decode cX1_rowOf 52 = .ok (.astore 5, 2) := dk_58 5 (dk_at dksX1_rowOf_2 6 rfl rfl)
theorem dX1_rowOf_54 : decode cX1_rowOf 54 = .ok (.iconst 0, 1) := dk_3 (dk_at dksX1_rowOf_2 8 rfl rfl)
theorem dX1_rowOf_55 : decode cX1_rowOf 55 = .ok (.istore 6, 2) := dk_54 6 (dk_at dksX1_rowOf_2 9 rfl rfl)
theorem dX1_rowOf_57 : decode cX1_rowOf 57 = .ok (.iload 6, 2) := dk_21 6 (dk_at dksX1_rowOf_2 11 rfl rfl)
theorem dX1_rowOf_59 : decode cX1_rowOf 59 = .ok (.iload_n 1, 1) := dk_27 (dk_at dksX1_rowOf_2 13 rfl rfl)
theorem dX1_rowOf_60 : decode cX1_rowOf 60 = .ok (.if_icmp .ge 23, 3) := dk_162 0 23 (dk_at dksX1_rowOf_2 14 rfl rfl)
theorem dX1_rowOf_63 : decode cX1_rowOf 63 = .ok (.aload 5, 2) := dk_25 5 (dk_at dksX1_rowOf_2 17 rfl rfl)
theorem dX1_rowOf_65 : decode cX1_rowOf 65 = .ok (.iload 6, 2) := dk_21 6 (dk_at dksX1_rowOf_2 19 rfl rfl)
theorem dX1_rowOf_67 : decode cX1_rowOf 67 = .ok (.iload 4, 2) := dk_21 4 (dk_at dksX1_rowOf_2 21 rfl rfl)
theorem dX1_rowOf_69 : decode cX1_rowOf 69 = .ok (.i2s, 1) := dk_147 (dk_at dksX1_rowOf_2 23 rfl rfl)
theorem dX1_rowOf_70 : decode cX1_rowOf 70 = .ok (.sastore, 1) := dk_86 (dk_at dksX1_rowOf_3 0 rfl rfl)
theorem dX1_rowOf_71 : decode cX1_rowOf 71 = .ok (.iinc 6 1, 3) := dk_132 6 1 (dk_at dksX1_rowOf_3 1 rfl rfl)
theorem dX1_rowOf_74 : decode cX1_rowOf 74 = .ok (.iload 4, 2) := dk_21 4 (dk_at dksX1_rowOf_3 4 rfl rfl)
theorem dX1_rowOf_76 : decode cX1_rowOf 76 = .ok (.iload_n 3, 1) := dk_29 (dk_at dksX1_rowOf_3 6 rfl rfl)
theorem dX1_rowOf_77 : decode cX1_rowOf 77 = .ok (.iadd, 1) := dk_96 (dk_at dksX1_rowOf_3 7 rfl rfl)
theorem dX1_rowOf_78 : decode cX1_rowOf 78 = .ok (.istore 4, 2) := dk_54 4 (dk_at dksX1_rowOf_3 8 rfl rfl)
theorem dX1_rowOf_80 : decode cX1_rowOf 80 = .ok (.goto (-23), 3) := dk_167 255 233 (dk_at dksX1_rowOf_3 10 rfl rfl)
theorem dX1_rowOf_83 : decode cX1_rowOf 83 = .ok (.aload 5, 2) := dk_25 5 (dk_at dksX1_rowOf_3 13 rfl rfl)
theorem dX1_rowOf_85 : decode cX1_rowOf 85 = .ok (.areturn, 1) := dk_176 (dk_at dksX1_rowOf_3 15 rfl rfl)
theorem dX1_rowOf_86 : decode cX1_rowOf 86 = .ok (.iload_n 1, 1) := dk_27 (dk_at dksX1_rowOf_3 16 rfl rfl)
theorem dX1_rowOf_87 : decode cX1_rowOf 87 = .ok (.newarray .int, 2) := dk_188_10 (dk_at dksX1_rowOf_3 17 rfl rfl)
theorem dX1_rowOf_89 : decode cX1_rowOf 89 = .ok (.astore 5, 2) := dk_58 5 (dk_at dksX1_rowOf_3 19 rfl rfl)
theorem dX1_rowOf_91 : decode cX1_rowOf 91 = .ok (.iconst 0, 1) := dk_3 (dk_at dksX1_rowOf_3 21 rfl rfl)
theorem dX1_rowOf_92 : decode cX1_rowOf 92 = .ok (.istore 6, 2) := dk_54 6 (dk_at dksX1_rowOf_3 22 rfl rfl)
theorem dX1_rowOf_94 : decode cX1_rowOf 94 = .ok (.iload 6, 2) := dk_21 6 (dk_at dksX1_rowOf_4 0 rfl rfl)
theorem dX1_rowOf_96 : decode cX1_rowOf 96 = .ok (.iload_n 1, 1) := dk_27 (dk_at dksX1_rowOf_4 2 rfl rfl)
theorem dX1_rowOf_97 : decode cX1_rowOf 97 = .ok (.if_icmp .ge 22, 3) := dk_162 0 22 (dk_at dksX1_rowOf_4 3 rfl rfl)
theorem dX1_rowOf_100 : decode cX1_rowOf 100 = .ok (.aload 5, 2) := dk_25 5 (dk_at dksX1_rowOf_4 6 rfl rfl)
theorem dX1_rowOf_102 : decode cX1_rowOf 102 = .ok (.iload 6, 2) := dk_21 6 (dk_at dksX1_rowOf_4 8 rfl rfl)
theorem dX1_rowOf_104 : decode cX1_rowOf 104 = .ok (.iload 4, 2) := dk_21 4 (dk_at dksX1_rowOf_4 10 rfl rfl)
theorem dX1_rowOf_106 : decode cX1_rowOf 106 = .ok (.iastore, 1) := dk_79 (dk_at dksX1_rowOf_4 12 rfl rfl)
theorem dX1_rowOf_107 : decode cX1_rowOf 107 = .ok (.iinc 6 1, 3) := dk_132 6 1 (dk_at dksX1_rowOf_4 13 rfl rfl)
theorem dX1_rowOf_110 : decode cX1_rowOf 110 = .ok (.iload 4, 2) := dk_21 4 (dk_at dksX1_rowOf_4 16 rfl rfl)
theorem dX1_rowOf_112 : decode cX1_rowOf 112 = .ok (.iload_n 3, 1) := dk_29 (dk_at dksX1_rowOf_4 18 rfl rfl)
theorem dX1_rowOf_113 : decode cX1_rowOf 113 = .ok (.iadd, 1) := dk_96 (dk_at dksX1_rowOf_4 19 rfl rfl)
theorem dX1_rowOf_114 : decode cX1_rowOf 114 = .ok (.istore 4, 2) := dk_54 4 (dk_at dksX1_rowOf_4 20 rfl rfl)
theorem dX1_rowOf_116 : decode cX1_rowOf 116 = .ok (.goto (-22), 3) := dk_167 255 234 (dk_at dksX1_rowOf_5 0 rfl rfl)
theorem dX1_rowOf_119 : decode cX1_rowOf 119 = .ok (.aload 5, 2) := dk_25 5 (dk_at dksX1_rowOf_5 3 rfl rfl)
theorem dX1_rowOf_121 : decode cX1_rowOf 121 = .ok (.areturn, 1) := dk_176 (dk_at dksX1_rowOf_5 5 rfl rfl)
abbrev cX1_entry : ByteArray := prog_1_method_22_code
def yX1_entry : MethodName := ⟨RX1, "entry", "(Ljava/lang/Object;I)I"⟩
def dkwX1_entry_1 : List UInt8 := [192, 1, 3, 27, 53, 167, 0, 9, 42, 192, 1, 5, 27, 46, 172]
abbrev dktX1_entry_1 : List UInt8 := dkwX1_entry_1 ++ []
def dkwX1_entry_0 : List UInt8 := [42, 193, 0, 174, 153, 0, 10, 42, 192, 0, 174, 27, 51, 172, 42, 193, 1, 3, 153, 0, 12, 42]
abbrev dktX1_entry_0 : List UInt8 := dkwX1_entry_0 ++ dktX1_entry_1
theorem dksX1_entry_0 : cX1_entry.data.toList.drop 0 = dktX1_entry_0 := by decide +kernel
theorem dksX1_entry_1 : cX1_entry.data.toList.drop 22 = dktX1_entry_1 := dk_seg dksX1_entry_0 22 rfl rfl
theorem dX1_entry_0 : decode cX1_entry 0 = .ok (.aload_n 0, 1) := dk_42 (dk_at dksX1_entry_0 0 rfl rfl)
theorem dX1_entry_1 : decode cX1_entry 1 = .ok (.instanceof 174, 3) := dk_193 0 174 (dk_at dksX1_entry_0 1 rfl rfl)
theorem dX1_entry_4 : decode cX1_entry 4 = .ok (.ifCond .eq 10, 3) := dk_153 0 10 (dk_at dksX1_entry_0 4 rfl rfl)
theorem dX1_entry_7 : decode cX1_entry 7 = .ok (.aload_n 0, 1) := dk_42 (dk_at dksX1_entry_0 7 rfl rfl)
theorem dX1_entry_8 : decode cX1_entry 8 = .ok (.checkcast 174, 3) := dk_192 0 174 (dk_at dksX1_entry_0 8 rfl rfl)
theorem dX1_entry_11 : decode cX1_entry 11 = .ok (.iload_n 1, 1) := dk_27 (dk_at dksX1_entry_0 11 rfl rfl)
theorem dX1_entry_12 : decode cX1_entry 12 = .ok (.baload, 1) := dk_51 (dk_at dksX1_entry_0 12 rfl rfl)
theorem dX1_entry_13 : decode cX1_entry 13 = .ok (.ireturn, 1) := dk_172 (dk_at dksX1_entry_0 13 rfl rfl)
theorem dX1_entry_14 : decode cX1_entry 14 = .ok (.aload_n 0, 1) := dk_42 (dk_at dksX1_entry_0 14 rfl rfl)
theorem dX1_entry_15 : decode cX1_entry 15 = .ok (.instanceof 259, 3) := dk_193 1 3 (dk_at dksX1_entry_0 15 rfl rfl)
theorem dX1_entry_18 : decode cX1_entry 18 = .ok (.ifCond .eq 12, 3) := dk_153 0 12 (dk_at dksX1_entry_0 18 rfl rfl)
theorem dX1_entry_21 : decode cX1_entry 21 = .ok (.aload_n 0, 1) := dk_42 (dk_at dksX1_entry_0 21 rfl rfl)
theorem dX1_entry_22 : decode cX1_entry 22 = .ok (.checkcast 259, 3) := dk_192 1 3 (dk_at dksX1_entry_1 0 rfl rfl)
theorem dX1_entry_25 : decode cX1_entry 25 = .ok (.iload_n 1, 1) := dk_27 (dk_at dksX1_entry_1 3 rfl rfl)
theorem dX1_entry_26 : decode cX1_entry 26 = .ok (.saload, 1) := dk_53 (dk_at dksX1_entry_1 4 rfl rfl)
theorem dX1_entry_27 : decode cX1_entry 27 = .ok (.goto 9, 3) := dk_167 0 9 (dk_at dksX1_entry_1 5 rfl rfl)
theorem dX1_entry_30 : decode cX1_entry 30 = .ok (.aload_n 0, 1) := dk_42 (dk_at dksX1_entry_1 8 rfl rfl)
theorem dX1_entry_31 : decode cX1_entry 31 = .ok (.checkcast 261, 3) := dk_192 1 5 (dk_at dksX1_entry_1 9 rfl rfl)
theorem dX1_entry_34 : decode cX1_entry 34 = .ok (.iload_n 1, 1) := dk_27 (dk_at dksX1_entry_1 12 rfl rfl)
theorem dX1_entry_35 : decode cX1_entry 35 = .ok (.iaload, 1) := dk_46 (dk_at dksX1_entry_1 13 rfl rfl)
theorem dX1_entry_36 : decode cX1_entry 36 = .ok (.ireturn, 1) := dk_172 (dk_at dksX1_entry_1 14 rfl rfl)
abbrev cX1_go : ByteArray := prog_1_method_26_code
def yX1_go : MethodName := ⟨RX1, "go", "(II)I"⟩
def dkwX1_go_2 : List UInt8 := [21, 4, 4, 96, 172]
abbrev dktX1_go_2 : List UInt8 := dkwX1_go_2 ++ []
def dkwX1_go_1 : List UInt8 := [182, 1, 26, 42, 180, 0, 10, 180, 0, 165, 27, 46, 54, 4, 42, 180, 0, 10, 180, 0, 165, 27, 28, 79]
abbrev dktX1_go_1 : List UInt8 := dkwX1_go_1 ++ dktX1_go_2
def dkwX1_go_0 : List UInt8 := [42, 42, 180, 0, 10, 27, 28, 182, 1, 22, 62, 29, 156, 0, 5, 29, 172, 42, 42, 180, 0, 10]
abbrev dktX1_go_0 : List UInt8 := dkwX1_go_0 ++ dktX1_go_1
theorem dksX1_go_0 : cX1_go.data.toList.drop 0 = dktX1_go_0 := by decide +kernel
theorem dksX1_go_1 : cX1_go.data.toList.drop 22 = dktX1_go_1 := dk_seg dksX1_go_0 22 rfl rfl
theorem dksX1_go_2 : cX1_go.data.toList.drop 46 = dktX1_go_2 := dk_seg dksX1_go_1 24 rfl rfl
theorem dX1_go_0 : decode cX1_go 0 = .ok (.aload_n 0, 1) := dk_42 (dk_at dksX1_go_0 0 rfl rfl)
theorem dX1_go_1 : decode cX1_go 1 = .ok (.aload_n 0, 1) := dk_42 (dk_at dksX1_go_0 1 rfl rfl)
theorem dX1_go_2 : decode cX1_go 2 = .ok (.getfield 10, 3) := dk_180 0 10 (dk_at dksX1_go_0 2 rfl rfl)
theorem dX1_go_5 : decode cX1_go 5 = .ok (.iload_n 1, 1) := dk_27 (dk_at dksX1_go_0 5 rfl rfl)
theorem dX1_go_6 : decode cX1_go 6 = .ok (.iload_n 2, 1) := dk_28 (dk_at dksX1_go_0 6 rfl rfl)
theorem dX1_go_7 : decode cX1_go 7 = .ok (.invokevirtual 278, 3) := dk_182 1 22 (dk_at dksX1_go_0 7 rfl rfl)
theorem dX1_go_10 : decode cX1_go 10 = .ok (.istore_n 3, 1) := dk_62 (dk_at dksX1_go_0 10 rfl rfl)
theorem dX1_go_11 : decode cX1_go 11 = .ok (.iload_n 3, 1) := dk_29 (dk_at dksX1_go_0 11 rfl rfl)
theorem dX1_go_12 : decode cX1_go 12 = .ok (.ifCond .ge 5, 3) := dk_156 0 5 (dk_at dksX1_go_0 12 rfl rfl)
theorem dX1_go_15 : decode cX1_go 15 = .ok (.iload_n 3, 1) := dk_29 (dk_at dksX1_go_0 15 rfl rfl)
theorem dX1_go_16 : decode cX1_go 16 = .ok (.ireturn, 1) := dk_172 (dk_at dksX1_go_0 16 rfl rfl)
theorem dX1_go_17 : decode cX1_go 17 = .ok (.aload_n 0, 1) := dk_42 (dk_at dksX1_go_0 17 rfl rfl)
theorem dX1_go_18 : decode cX1_go 18 = .ok (.aload_n 0, 1) := dk_42 (dk_at dksX1_go_0 18 rfl rfl)
theorem dX1_go_19 : decode cX1_go 19 = .ok (.getfield 10, 3) := dk_180 0 10 (dk_at dksX1_go_0 19 rfl rfl)
theorem dX1_go_22 : decode cX1_go 22 = .ok (.invokevirtual 282, 3) := dk_182 1 26 (dk_at dksX1_go_1 0 rfl rfl)
theorem dX1_go_25 : decode cX1_go 25 = .ok (.aload_n 0, 1) := dk_42 (dk_at dksX1_go_1 3 rfl rfl)
theorem dX1_go_26 : decode cX1_go 26 = .ok (.getfield 10, 3) := dk_180 0 10 (dk_at dksX1_go_1 4 rfl rfl)
theorem dX1_go_29 : decode cX1_go 29 = .ok (.getfield 165, 3) := dk_180 0 165 (dk_at dksX1_go_1 7 rfl rfl)
theorem dX1_go_32 : decode cX1_go 32 = .ok (.iload_n 1, 1) := dk_27 (dk_at dksX1_go_1 10 rfl rfl)
theorem dX1_go_33 : decode cX1_go 33 = .ok (.iaload, 1) := dk_46 (dk_at dksX1_go_1 11 rfl rfl)
theorem dX1_go_34 : decode cX1_go 34 = .ok (.istore 4, 2) := dk_54 4 (dk_at dksX1_go_1 12 rfl rfl)
theorem dX1_go_36 : decode cX1_go 36 = .ok (.aload_n 0, 1) := dk_42 (dk_at dksX1_go_1 14 rfl rfl)
theorem dX1_go_37 : decode cX1_go 37 = .ok (.getfield 10, 3) := dk_180 0 10 (dk_at dksX1_go_1 15 rfl rfl)
theorem dX1_go_40 : decode cX1_go 40 = .ok (.getfield 165, 3) := dk_180 0 165 (dk_at dksX1_go_1 18 rfl rfl)
theorem dX1_go_43 : decode cX1_go 43 = .ok (.iload_n 1, 1) := dk_27 (dk_at dksX1_go_1 21 rfl rfl)
theorem dX1_go_44 : decode cX1_go 44 = .ok (.iload_n 2, 1) := dk_28 (dk_at dksX1_go_1 22 rfl rfl)
theorem dX1_go_45 : decode cX1_go 45 = .ok (.iastore, 1) := dk_79 (dk_at dksX1_go_1 23 rfl rfl)
theorem dX1_go_46 : decode cX1_go 46 = .ok (.iload 4, 2) := dk_21 4 (dk_at dksX1_go_2 0 rfl rfl)
theorem dX1_go_48 : decode cX1_go 48 = .ok (.iconst 1, 1) := dk_4 (dk_at dksX1_go_2 2 rfl rfl)
theorem dX1_go_49 : decode cX1_go 49 = .ok (.iadd, 1) := dk_96 (dk_at dksX1_go_2 3 rfl rfl)
theorem dX1_go_50 : decode cX1_go 50 = .ok (.ireturn, 1) := dk_172 (dk_at dksX1_go_2 4 rfl rfl)
abbrev cX1_refusesGo : ByteArray := prog_1_method_25_code
def yX1_refusesGo : MethodName := ⟨RX1, "refusesGo", "(LSandKeepsSea$Beach;II)I"⟩
def dkwX1_refusesGo_2 : List UInt8 := [172]
abbrev dktX1_refusesGo_2 : List UInt8 := dkwX1_refusesGo_2 ++ []
def dkwX1_refusesGo_1 : List UInt8 := [154, 0, 8, 16, 254, 167, 0, 19, 43, 180, 0, 165, 28, 46, 29, 160, 0, 8, 16, 253, 167, 0, 4, 3]
abbrev dktX1_refusesGo_1 : List UInt8 := dkwX1_refusesGo_1 ++ dktX1_refusesGo_2
def dkwX1_refusesGo_0 : List UInt8 := [42, 28, 182, 0, 249, 153, 0, 11, 42, 29, 182, 0, 232, 154, 0, 5, 2, 172, 43, 180, 0, 167, 28, 46]
abbrev dktX1_refusesGo_0 : List UInt8 := dkwX1_refusesGo_0 ++ dktX1_refusesGo_1
theorem dksX1_refusesGo_0 : cX1_refusesGo.data.toList.drop 0 = dktX1_refusesGo_0 := by decide +kernel
theorem dksX1_refusesGo_1 : cX1_refusesGo.data.toList.drop 24 = dktX1_refusesGo_1 := dk_seg dksX1_refusesGo_0 24 rfl rfl
theorem dksX1_refusesGo_2 : cX1_refusesGo.data.toList.drop 48 = dktX1_refusesGo_2 := dk_seg dksX1_refusesGo_1 24 rfl rfl
theorem dX1_refusesGo_0 : decode cX1_refusesGo 0 = .ok (.aload_n 0, 1) := dk_42 (dk_at dksX1_refusesGo_0 0 rfl rfl)
theorem dX1_refusesGo_1 : decode cX1_refusesGo 1 = .ok (.iload_n 2, 1) := dk_28 (dk_at dksX1_refusesGo_0 1 rfl rfl)
theorem dX1_refusesGo_2 : decode cX1_refusesGo 2 = .ok (.invokevirtual 249, 3) := dk_182 0 249 (dk_at dksX1_refusesGo_0 2 rfl rfl)
theorem dX1_refusesGo_5 : decode cX1_refusesGo 5 = .ok (.ifCond .eq 11, 3) := dk_153 0 11 (dk_at dksX1_refusesGo_0 5 rfl rfl)
theorem dX1_refusesGo_8 : decode cX1_refusesGo 8 = .ok (.aload_n 0, 1) := dk_42 (dk_at dksX1_refusesGo_0 8 rfl rfl)
theorem dX1_refusesGo_9 : decode cX1_refusesGo 9 = .ok (.iload_n 3, 1) := dk_29 (dk_at dksX1_refusesGo_0 9 rfl rfl)
theorem dX1_refusesGo_10 : decode cX1_refusesGo 10 = .ok (.invokevirtual 232, 3) := dk_182 0 232 (dk_at dksX1_refusesGo_0 10 rfl rfl)
theorem dX1_refusesGo_13 : decode cX1_refusesGo 13 = .ok (.ifCond .ne 5, 3) := dk_154 0 5 (dk_at dksX1_refusesGo_0 13 rfl rfl)
theorem dX1_refusesGo_16 : decode cX1_refusesGo 16 = .ok (.iconst (-1), 1) := dk_2 (dk_at dksX1_refusesGo_0 16 rfl rfl)
theorem dX1_refusesGo_17 : decode cX1_refusesGo 17 = .ok (.ireturn, 1) := dk_172 (dk_at dksX1_refusesGo_0 17 rfl rfl)
theorem dX1_refusesGo_18 : decode cX1_refusesGo 18 = .ok (.aload_n 1, 1) := dk_43 (dk_at dksX1_refusesGo_0 18 rfl rfl)
theorem dX1_refusesGo_19 : decode cX1_refusesGo 19 = .ok (.getfield 167, 3) := dk_180 0 167 (dk_at dksX1_refusesGo_0 19 rfl rfl)
theorem dX1_refusesGo_22 : decode cX1_refusesGo 22 = .ok (.iload_n 2, 1) := dk_28 (dk_at dksX1_refusesGo_0 22 rfl rfl)
theorem dX1_refusesGo_23 : decode cX1_refusesGo 23 = .ok (.iaload, 1) := dk_46 (dk_at dksX1_refusesGo_0 23 rfl rfl)
theorem dX1_refusesGo_24 : decode cX1_refusesGo 24 = .ok (.ifCond .ne 8, 3) := dk_154 0 8 (dk_at dksX1_refusesGo_1 0 rfl rfl)
theorem dX1_refusesGo_27 : decode cX1_refusesGo 27 = .ok (.bipush (-2), 2) := dk_16 254 (dk_at dksX1_refusesGo_1 3 rfl rfl)
theorem dX1_refusesGo_29 : decode cX1_refusesGo 29 = .ok (.goto 19, 3) := dk_167 0 19 (dk_at dksX1_refusesGo_1 5 rfl rfl)
theorem dX1_refusesGo_32 : decode cX1_refusesGo 32 = .ok (.aload_n 1, 1) := dk_43 (dk_at dksX1_refusesGo_1 8 rfl rfl)
theorem dX1_refusesGo_33 : decode cX1_refusesGo 33 = .ok (.getfield 165, 3) := dk_180 0 165 (dk_at dksX1_refusesGo_1 9 rfl rfl)
theorem dX1_refusesGo_36 : decode cX1_refusesGo 36 = .ok (.iload_n 2, 1) := dk_28 (dk_at dksX1_refusesGo_1 12 rfl rfl)
theorem dX1_refusesGo_37 : decode cX1_refusesGo 37 = .ok (.iaload, 1) := dk_46 (dk_at dksX1_refusesGo_1 13 rfl rfl)
theorem dX1_refusesGo_38 : decode cX1_refusesGo 38 = .ok (.iload_n 3, 1) := dk_29 (dk_at dksX1_refusesGo_1 14 rfl rfl)
theorem dX1_refusesGo_39 : decode cX1_refusesGo 39 = .ok (.if_icmp .ne 8, 3) := dk_160 0 8 (dk_at dksX1_refusesGo_1 15 rfl rfl)
theorem dX1_refusesGo_42 : decode cX1_refusesGo 42 = .ok (.bipush (-3), 2) := dk_16 253 (dk_at dksX1_refusesGo_1 18 rfl rfl)
theorem dX1_refusesGo_44 : decode cX1_refusesGo 44 = .ok (.goto 4, 3) := dk_167 0 4 (dk_at dksX1_refusesGo_1 20 rfl rfl)
theorem dX1_refusesGo_47 : decode cX1_refusesGo 47 = .ok (.iconst 0, 1) := dk_3 (dk_at dksX1_refusesGo_1 23 rfl rfl)
theorem dX1_refusesGo_48 : decode cX1_refusesGo 48 = .ok (.ireturn, 1) := dk_172 (dk_at dksX1_refusesGo_2 0 rfl rfl)
abbrev cX1_isKid : ByteArray := prog_1_method_6_code
def yX1_isKid : MethodName := ⟨RX1, "isKid", "(I)Z"⟩
def dkwX1_isKid_0 : List UInt8 := [27, 133, 9, 42, 180, 0, 91, 4, 100, 133, 184, 0, 87, 172]
abbrev dktX1_isKid_0 : List UInt8 := dkwX1_isKid_0 ++ []
theorem dksX1_isKid_0 : cX1_isKid.data.toList.drop 0 = dktX1_isKid_0 := by decide +kernel
theorem dX1_isKid_0 : decode cX1_isKid 0 = .ok (.iload_n 1, 1) := dk_27 (dk_at dksX1_isKid_0 0 rfl rfl)
theorem dX1_isKid_1 : decode cX1_isKid 1 = .ok (.i2l, 1) := dk_133 (dk_at dksX1_isKid_0 1 rfl rfl)
theorem dX1_isKid_2 : decode cX1_isKid 2 = .ok (.lconst 0, 1) := dk_9 (dk_at dksX1_isKid_0 2 rfl rfl)
theorem dX1_isKid_3 : decode cX1_isKid 3 = .ok (.aload_n 0, 1) := dk_42 (dk_at dksX1_isKid_0 3 rfl rfl)
theorem dX1_isKid_4 : decode cX1_isKid 4 = .ok (.getfield 91, 3) := dk_180 0 91 (dk_at dksX1_isKid_0 4 rfl rfl)
theorem dX1_isKid_7 : decode cX1_isKid 7 = .ok (.iconst 1, 1) := dk_4 (dk_at dksX1_isKid_0 7 rfl rfl)
theorem dX1_isKid_8 : decode cX1_isKid 8 = .ok (.isub, 1) := dk_100 (dk_at dksX1_isKid_0 8 rfl rfl)
theorem dX1_isKid_9 : decode cX1_isKid 9 = .ok (.i2l, 1) := dk_133 (dk_at dksX1_isKid_0 9 rfl rfl)
theorem dX1_isKid_10 : decode cX1_isKid 10 = .ok (.invokestatic 87, 3) := dk_184 0 87 (dk_at dksX1_isKid_0 10 rfl rfl)
theorem dX1_isKid_13 : decode cX1_isKid 13 = .ok (.ireturn, 1) := dk_172 (dk_at dksX1_isKid_0 13 rfl rfl)
abbrev cX1_isCell : ByteArray := prog_1_method_5_code
def yX1_isCell : MethodName := ⟨RX1, "isCell", "(I)Z"⟩
def dkwX1_isCell_0 : List UInt8 := [27, 133, 9, 42, 180, 0, 42, 4, 100, 133, 184, 0, 87, 172]
abbrev dktX1_isCell_0 : List UInt8 := dkwX1_isCell_0 ++ []
theorem dksX1_isCell_0 : cX1_isCell.data.toList.drop 0 = dktX1_isCell_0 := by decide +kernel
theorem dX1_isCell_0 : decode cX1_isCell 0 = .ok (.iload_n 1, 1) := dk_27 (dk_at dksX1_isCell_0 0 rfl rfl)
theorem dX1_isCell_1 : decode cX1_isCell 1 = .ok (.i2l, 1) := dk_133 (dk_at dksX1_isCell_0 1 rfl rfl)
theorem dX1_isCell_2 : decode cX1_isCell 2 = .ok (.lconst 0, 1) := dk_9 (dk_at dksX1_isCell_0 2 rfl rfl)
theorem dX1_isCell_3 : decode cX1_isCell 3 = .ok (.aload_n 0, 1) := dk_42 (dk_at dksX1_isCell_0 3 rfl rfl)
theorem dX1_isCell_4 : decode cX1_isCell 4 = .ok (.getfield 42, 3) := dk_180 0 42 (dk_at dksX1_isCell_0 4 rfl rfl)
theorem dX1_isCell_7 : decode cX1_isCell 7 = .ok (.iconst 1, 1) := dk_4 (dk_at dksX1_isCell_0 7 rfl rfl)
theorem dX1_isCell_8 : decode cX1_isCell 8 = .ok (.isub, 1) := dk_100 (dk_at dksX1_isCell_0 8 rfl rfl)
theorem dX1_isCell_9 : decode cX1_isCell 9 = .ok (.i2l, 1) := dk_133 (dk_at dksX1_isCell_0 9 rfl rfl)
theorem dX1_isCell_10 : decode cX1_isCell 10 = .ok (.invokestatic 87, 3) := dk_184 0 87 (dk_at dksX1_isCell_0 10 rfl rfl)
theorem dX1_isCell_13 : decode cX1_isCell 13 = .ok (.ireturn, 1) := dk_172 (dk_at dksX1_isCell_0 13 rfl rfl)
abbrev cX1_remember : ByteArray := prog_1_method_24_code
def yX1_remember : MethodName := ⟨RX1, "remember", "(LSandKeepsSea$Beach;)V"⟩
def dkwX1_remember_3 : List UInt8 := [181, 0, 132, 177]
abbrev dktX1_remember_3 : List UInt8 := dkwX1_remember_3 ++ []
def dkwX1_remember_2 : List UInt8 := [181, 0, 132, 42, 180, 0, 22, 42, 180, 0, 132, 50, 43, 182, 1, 18, 42, 89, 180, 0, 132, 4, 96]
abbrev dktX1_remember_2 : List UInt8 := dkwX1_remember_2 ++ dktX1_remember_3
def dkwX1_remember_1 : List UInt8 := [180, 0, 22, 3, 16, 14, 184, 0, 122, 42, 180, 0, 22, 16, 14, 44, 83, 42, 89, 180, 0, 132, 4, 100]
abbrev dktX1_remember_1 : List UInt8 := dkwX1_remember_1 ++ dktX1_remember_2
def dkwX1_remember_0 : List UInt8 := [42, 180, 0, 132, 16, 15, 160, 0, 43, 42, 180, 0, 22, 3, 50, 77, 42, 180, 0, 22, 4, 42]
abbrev dktX1_remember_0 : List UInt8 := dkwX1_remember_0 ++ dktX1_remember_1
theorem dksX1_remember_0 : cX1_remember.data.toList.drop 0 = dktX1_remember_0 := by decide +kernel
theorem dksX1_remember_1 : cX1_remember.data.toList.drop 22 = dktX1_remember_1 := dk_seg dksX1_remember_0 22 rfl rfl
theorem dksX1_remember_2 : cX1_remember.data.toList.drop 46 = dktX1_remember_2 := dk_seg dksX1_remember_1 24 rfl rfl
theorem dksX1_remember_3 : cX1_remember.data.toList.drop 69 = dktX1_remember_3 := dk_seg dksX1_remember_2 23 rfl rfl
theorem dX1_remember_0 : decode cX1_remember 0 = .ok (.aload_n 0, 1) := dk_42 (dk_at dksX1_remember_0 0 rfl rfl)
theorem dX1_remember_1 : decode cX1_remember 1 = .ok (.getfield 132, 3) := dk_180 0 132 (dk_at dksX1_remember_0 1 rfl rfl)
theorem dX1_remember_4 : decode cX1_remember 4 = .ok (.bipush 15, 2) := dk_16 15 (dk_at dksX1_remember_0 4 rfl rfl)
theorem dX1_remember_6 : decode cX1_remember 6 = .ok (.if_icmp .ne 43, 3) := dk_160 0 43 (dk_at dksX1_remember_0 6 rfl rfl)
theorem dX1_remember_9 : decode cX1_remember 9 = .ok (.aload_n 0, 1) := dk_42 (dk_at dksX1_remember_0 9 rfl rfl)
theorem dX1_remember_10 : decode cX1_remember 10 = .ok (.getfield 22, 3) := dk_180 0 22 (dk_at dksX1_remember_0 10 rfl rfl)
theorem dX1_remember_13 : decode cX1_remember 13 = .ok (.iconst 0, 1) := dk_3 (dk_at dksX1_remember_0 13 rfl rfl)
theorem dX1_remember_14 : decode cX1_remember 14 = .ok (.aaload, 1) := dk_50 (dk_at dksX1_remember_0 14 rfl rfl)
theorem dX1_remember_15 : decode cX1_remember 15 = .ok (.astore_n 2, 1) := dk_77 (dk_at dksX1_remember_0 15 rfl rfl)
theorem dX1_remember_16 : decode cX1_remember 16 = .ok (.aload_n 0, 1) := dk_42 (dk_at dksX1_remember_0 16 rfl rfl)
theorem dX1_remember_17 : decode cX1_remember 17 = .ok (.getfield 22, 3) := dk_180 0 22 (dk_at dksX1_remember_0 17 rfl rfl)
theorem dX1_remember_20 : decode cX1_remember 20 = .ok (.iconst 1, 1) := dk_4 (dk_at dksX1_remember_0 20 rfl rfl)
theorem dX1_remember_21 : decode cX1_remember 21 = .ok (.aload_n 0, 1) := dk_42 (dk_at dksX1_remember_0 21 rfl rfl)
theorem dX1_remember_22 : decode cX1_remember 22 = .ok (.getfield 22, 3) := dk_180 0 22 (dk_at dksX1_remember_1 0 rfl rfl)
theorem dX1_remember_25 : decode cX1_remember 25 = .ok (.iconst 0, 1) := dk_3 (dk_at dksX1_remember_1 3 rfl rfl)
theorem dX1_remember_26 : decode cX1_remember 26 = .ok (.bipush 14, 2) := dk_16 14 (dk_at dksX1_remember_1 4 rfl rfl)
theorem dX1_remember_28 : decode cX1_remember 28 = .ok (.invokestatic 122, 3) := dk_184 0 122 (dk_at dksX1_remember_1 6 rfl rfl)
theorem dX1_remember_31 : decode cX1_remember 31 = .ok (.aload_n 0, 1) := dk_42 (dk_at dksX1_remember_1 9 rfl rfl)
theorem dX1_remember_32 : decode cX1_remember 32 = .ok (.getfield 22, 3) := dk_180 0 22 (dk_at dksX1_remember_1 10 rfl rfl)
theorem dX1_remember_35 : decode cX1_remember 35 = .ok (.bipush 14, 2) := dk_16 14 (dk_at dksX1_remember_1 13 rfl rfl)
theorem dX1_remember_37 : decode cX1_remember 37 = .ok (.aload_n 2, 1) := dk_44 (dk_at dksX1_remember_1 15 rfl rfl)
theorem dX1_remember_38 : decode cX1_remember 38 = .ok (.aastore, 1) := dk_83 (dk_at dksX1_remember_1 16 rfl rfl)
theorem dX1_remember_39 : decode cX1_remember 39 = .ok (.aload_n 0, 1) := dk_42 (dk_at dksX1_remember_1 17 rfl rfl)
theorem dX1_remember_40 : decode cX1_remember 40 = .ok (.dup, 1) := dk_89 (dk_at dksX1_remember_1 18 rfl rfl)
theorem dX1_remember_41 : decode cX1_remember 41 = .ok (.getfield 132, 3) := dk_180 0 132 (dk_at dksX1_remember_1 19 rfl rfl)
theorem dX1_remember_44 : decode cX1_remember 44 = .ok (.iconst 1, 1) := dk_4 (dk_at dksX1_remember_1 22 rfl rfl)
theorem dX1_remember_45 : decode cX1_remember 45 = .ok (.isub, 1) := dk_100 (dk_at dksX1_remember_1 23 rfl rfl)
theorem dX1_remember_46 : decode cX1_remember 46 = .ok (.putfield 132, 3) := dk_181 0 132 (dk_at dksX1_remember_2 0 rfl rfl)
theorem dX1_remember_49 : decode cX1_remember 49 = .ok (.aload_n 0, 1) := dk_42 (dk_at dksX1_remember_2 3 rfl rfl)
theorem dX1_remember_50 : decode cX1_remember 50 = .ok (.getfield 22, 3) := dk_180 0 22 (dk_at dksX1_remember_2 4 rfl rfl)
theorem dX1_remember_53 : decode cX1_remember 53 = .ok (.aload_n 0, 1) := dk_42 (dk_at dksX1_remember_2 7 rfl rfl)
theorem dX1_remember_54 : decode cX1_remember 54 = .ok (.getfield 132, 3) := dk_180 0 132 (dk_at dksX1_remember_2 8 rfl rfl)
theorem dX1_remember_57 : decode cX1_remember 57 = .ok (.aaload, 1) := dk_50 (dk_at dksX1_remember_2 11 rfl rfl)
theorem dX1_remember_58 : decode cX1_remember 58 = .ok (.aload_n 1, 1) := dk_43 (dk_at dksX1_remember_2 12 rfl rfl)
theorem dX1_remember_59 : decode cX1_remember 59 = .ok (.invokevirtual 274, 3) := dk_182 1 18 (dk_at dksX1_remember_2 13 rfl rfl)
theorem dX1_remember_62 : decode cX1_remember 62 = .ok (.aload_n 0, 1) := dk_42 (dk_at dksX1_remember_2 16 rfl rfl)
theorem dX1_remember_63 : decode cX1_remember 63 = .ok (.dup, 1) := dk_89 (dk_at dksX1_remember_2 17 rfl rfl)
theorem dX1_remember_64 : decode cX1_remember 64 = .ok (.getfield 132, 3) := dk_180 0 132 (dk_at dksX1_remember_2 18 rfl rfl)
theorem dX1_remember_67 : decode cX1_remember 67 = .ok (.iconst 1, 1) := dk_4 (dk_at dksX1_remember_2 21 rfl rfl)
theorem dX1_remember_68 : decode cX1_remember 68 = .ok (.iadd, 1) := dk_96 (dk_at dksX1_remember_2 22 rfl rfl)
theorem dX1_remember_69 : decode cX1_remember 69 = .ok (.putfield 132, 3) := dk_181 0 132 (dk_at dksX1_remember_3 0 rfl rfl)
theorem dX1_remember_72 : decode cX1_remember 72 = .ok (.return_, 1) := dk_177 (dk_at dksX1_remember_3 3 rfl rfl)
abbrev cX1_home : ByteArray := prog_1_method_28_code
def yX1_home : MethodName := ⟨RX1, "home", "(I)I"⟩
def dkwX1_home_1 : List UInt8 := [180, 0, 165, 27, 46, 62, 42, 180, 0, 10, 180, 0, 165, 27, 2, 79, 29, 172]
abbrev dktX1_home_1 : List UInt8 := dkwX1_home_1 ++ []
def dkwX1_home_0 : List UInt8 := [42, 27, 182, 1, 29, 61, 28, 156, 0, 5, 28, 172, 42, 42, 180, 0, 10, 182, 1, 26, 42, 180, 0, 10]
abbrev dktX1_home_0 : List UInt8 := dkwX1_home_0 ++ dktX1_home_1
theorem dksX1_home_0 : cX1_home.data.toList.drop 0 = dktX1_home_0 := by decide +kernel
theorem dksX1_home_1 : cX1_home.data.toList.drop 24 = dktX1_home_1 := dk_seg dksX1_home_0 24 rfl rfl
theorem dX1_home_0 : decode cX1_home 0 = .ok (.aload_n 0, 1) := dk_42 (dk_at dksX1_home_0 0 rfl rfl)
theorem dX1_home_1 : decode cX1_home 1 = .ok (.iload_n 1, 1) := dk_27 (dk_at dksX1_home_0 1 rfl rfl)
theorem dX1_home_2 : decode cX1_home 2 = .ok (.invokevirtual 285, 3) := dk_182 1 29 (dk_at dksX1_home_0 2 rfl rfl)
theorem dX1_home_5 : decode cX1_home 5 = .ok (.istore_n 2, 1) := dk_61 (dk_at dksX1_home_0 5 rfl rfl)
theorem dX1_home_6 : decode cX1_home 6 = .ok (.iload_n 2, 1) := dk_28 (dk_at dksX1_home_0 6 rfl rfl)
theorem dX1_home_7 : decode cX1_home 7 = .ok (.ifCond .ge 5, 3) := dk_156 0 5 (dk_at dksX1_home_0 7 rfl rfl)
theorem dX1_home_10 : decode cX1_home 10 = .ok (.iload_n 2, 1) := dk_28 (dk_at dksX1_home_0 10 rfl rfl)
theorem dX1_home_11 : decode cX1_home 11 = .ok (.ireturn, 1) := dk_172 (dk_at dksX1_home_0 11 rfl rfl)
theorem dX1_home_12 : decode cX1_home 12 = .ok (.aload_n 0, 1) := dk_42 (dk_at dksX1_home_0 12 rfl rfl)
theorem dX1_home_13 : decode cX1_home 13 = .ok (.aload_n 0, 1) := dk_42 (dk_at dksX1_home_0 13 rfl rfl)
theorem dX1_home_14 : decode cX1_home 14 = .ok (.getfield 10, 3) := dk_180 0 10 (dk_at dksX1_home_0 14 rfl rfl)
theorem dX1_home_17 : decode cX1_home 17 = .ok (.invokevirtual 282, 3) := dk_182 1 26 (dk_at dksX1_home_0 17 rfl rfl)
theorem dX1_home_20 : decode cX1_home 20 = .ok (.aload_n 0, 1) := dk_42 (dk_at dksX1_home_0 20 rfl rfl)
theorem dX1_home_21 : decode cX1_home 21 = .ok (.getfield 10, 3) := dk_180 0 10 (dk_at dksX1_home_0 21 rfl rfl)
theorem dX1_home_24 : decode cX1_home 24 = .ok (.getfield 165, 3) := dk_180 0 165 (dk_at dksX1_home_1 0 rfl rfl)
theorem dX1_home_27 : decode cX1_home 27 = .ok (.iload_n 1, 1) := dk_27 (dk_at dksX1_home_1 3 rfl rfl)
theorem dX1_home_28 : decode cX1_home 28 = .ok (.iaload, 1) := dk_46 (dk_at dksX1_home_1 4 rfl rfl)
theorem dX1_home_29 : decode cX1_home 29 = .ok (.istore_n 3, 1) := dk_62 (dk_at dksX1_home_1 5 rfl rfl)
theorem dX1_home_30 : decode cX1_home 30 = .ok (.aload_n 0, 1) := dk_42 (dk_at dksX1_home_1 6 rfl rfl)
theorem dX1_home_31 : decode cX1_home 31 = .ok (.getfield 10, 3) := dk_180 0 10 (dk_at dksX1_home_1 7 rfl rfl)
theorem dX1_home_34 : decode cX1_home 34 = .ok (.getfield 165, 3) := dk_180 0 165 (dk_at dksX1_home_1 10 rfl rfl)
theorem dX1_home_37 : decode cX1_home 37 = .ok (.iload_n 1, 1) := dk_27 (dk_at dksX1_home_1 13 rfl rfl)
theorem dX1_home_38 : decode cX1_home 38 = .ok (.iconst (-1), 1) := dk_2 (dk_at dksX1_home_1 14 rfl rfl)
theorem dX1_home_39 : decode cX1_home 39 = .ok (.iastore, 1) := dk_79 (dk_at dksX1_home_1 15 rfl rfl)
theorem dX1_home_40 : decode cX1_home 40 = .ok (.iload_n 3, 1) := dk_29 (dk_at dksX1_home_1 16 rfl rfl)
theorem dX1_home_41 : decode cX1_home 41 = .ok (.ireturn, 1) := dk_172 (dk_at dksX1_home_1 17 rfl rfl)
abbrev cX1_refusesHome : ByteArray := prog_1_method_27_code
def yX1_refusesHome : MethodName := ⟨RX1, "refusesHome", "(I)I"⟩
def dkwX1_refusesHome_1 : List UInt8 := [160, 0, 8, 16, 254, 167, 0, 4, 3, 172]
abbrev dktX1_refusesHome_1 : List UInt8 := dkwX1_refusesHome_1 ++ []
def dkwX1_refusesHome_0 : List UInt8 := [42, 27, 182, 0, 249, 154, 0, 7, 2, 167, 0, 22, 42, 180, 0, 10, 180, 0, 165, 27, 46, 2]
abbrev dktX1_refusesHome_0 : List UInt8 := dkwX1_refusesHome_0 ++ dktX1_refusesHome_1
theorem dksX1_refusesHome_0 : cX1_refusesHome.data.toList.drop 0 = dktX1_refusesHome_0 := by decide +kernel
theorem dksX1_refusesHome_1 : cX1_refusesHome.data.toList.drop 22 = dktX1_refusesHome_1 := dk_seg dksX1_refusesHome_0 22 rfl rfl
theorem dX1_refusesHome_0 : decode cX1_refusesHome 0 = .ok (.aload_n 0, 1) := dk_42 (dk_at dksX1_refusesHome_0 0 rfl rfl)
theorem dX1_refusesHome_1 : decode cX1_refusesHome 1 = .ok (.iload_n 1, 1) := dk_27 (dk_at dksX1_refusesHome_0 1 rfl rfl)
theorem dX1_refusesHome_2 : decode cX1_refusesHome 2 = .ok (.invokevirtual 249, 3) := dk_182 0 249 (dk_at dksX1_refusesHome_0 2 rfl rfl)
theorem dX1_refusesHome_5 : decode cX1_refusesHome 5 = .ok (.ifCond .ne 7, 3) := dk_154 0 7 (dk_at dksX1_refusesHome_0 5 rfl rfl)
theorem dX1_refusesHome_8 : decode cX1_refusesHome 8 = .ok (.iconst (-1), 1) := dk_2 (dk_at dksX1_refusesHome_0 8 rfl rfl)
theorem dX1_refusesHome_9 : decode cX1_refusesHome 9 = .ok (.goto 22, 3) := dk_167 0 22 (dk_at dksX1_refusesHome_0 9 rfl rfl)
theorem dX1_refusesHome_12 : decode cX1_refusesHome 12 = .ok (.aload_n 0, 1) := dk_42 (dk_at dksX1_refusesHome_0 12 rfl rfl)
theorem dX1_refusesHome_13 : decode cX1_refusesHome 13 = .ok (.getfield 10, 3) := dk_180 0 10 (dk_at dksX1_refusesHome_0 13 rfl rfl)
theorem dX1_refusesHome_16 : decode cX1_refusesHome 16 = .ok (.getfield 165, 3) := dk_180 0 165 (dk_at dksX1_refusesHome_0 16 rfl rfl)
theorem dX1_refusesHome_19 : decode cX1_refusesHome 19 = .ok (.iload_n 1, 1) := dk_27 (dk_at dksX1_refusesHome_0 19 rfl rfl)
theorem dX1_refusesHome_20 : decode cX1_refusesHome 20 = .ok (.iaload, 1) := dk_46 (dk_at dksX1_refusesHome_0 20 rfl rfl)
theorem dX1_refusesHome_21 : decode cX1_refusesHome 21 = .ok (.iconst (-1), 1) := dk_2 (dk_at dksX1_refusesHome_0 21 rfl rfl)
theorem dX1_refusesHome_22 : decode cX1_refusesHome 22 = .ok (.if_icmp .ne 8, 3) := dk_160 0 8 (dk_at dksX1_refusesHome_1 0 rfl rfl)
theorem dX1_refusesHome_25 : decode cX1_refusesHome 25 = .ok (.bipush (-2), 2) := dk_16 254 (dk_at dksX1_refusesHome_1 3 rfl rfl)
theorem dX1_refusesHome_27 : decode cX1_refusesHome 27 = .ok (.goto 4, 3) := dk_167 0 4 (dk_at dksX1_refusesHome_1 5 rfl rfl)
theorem dX1_refusesHome_30 : decode cX1_refusesHome 30 = .ok (.iconst 0, 1) := dk_3 (dk_at dksX1_refusesHome_1 8 rfl rfl)
theorem dX1_refusesHome_31 : decode cX1_refusesHome 31 = .ok (.ireturn, 1) := dk_172 (dk_at dksX1_refusesHome_1 9 rfl rfl)
abbrev cX1_spade : ByteArray := prog_1_method_30_code
def yX1_spade : MethodName := ⟨RX1, "spade", "(I)I"⟩
def dkwX1_spade_1 : List UInt8 := [89, 180, 0, 224, 4, 27, 120, 130, 181, 0, 224, 42, 180, 0, 10, 180, 0, 224, 184, 0, 196, 172]
abbrev dktX1_spade_1 : List UInt8 := dkwX1_spade_1 ++ []
def dkwX1_spade_0 : List UInt8 := [42, 27, 182, 1, 32, 61, 28, 156, 0, 5, 28, 172, 42, 42, 180, 0, 10, 182, 1, 26, 42, 180, 0, 10]
abbrev dktX1_spade_0 : List UInt8 := dkwX1_spade_0 ++ dktX1_spade_1
theorem dksX1_spade_0 : cX1_spade.data.toList.drop 0 = dktX1_spade_0 := by decide +kernel
theorem dksX1_spade_1 : cX1_spade.data.toList.drop 24 = dktX1_spade_1 := dk_seg dksX1_spade_0 24 rfl rfl
theorem dX1_spade_0 : decode cX1_spade 0 = .ok (.aload_n 0, 1) := dk_42 (dk_at dksX1_spade_0 0 rfl rfl)
theorem dX1_spade_1 : decode cX1_spade 1 = .ok (.iload_n 1, 1) := dk_27 (dk_at dksX1_spade_0 1 rfl rfl)
theorem dX1_spade_2 : decode cX1_spade 2 = .ok (.invokevirtual 288, 3) := dk_182 1 32 (dk_at dksX1_spade_0 2 rfl rfl)
theorem dX1_spade_5 : decode cX1_spade 5 = .ok (.istore_n 2, 1) := dk_61 (dk_at dksX1_spade_0 5 rfl rfl)
theorem dX1_spade_6 : decode cX1_spade 6 = .ok (.iload_n 2, 1) := dk_28 (dk_at dksX1_spade_0 6 rfl rfl)
theorem dX1_spade_7 : decode cX1_spade 7 = .ok (.ifCond .ge 5, 3) := dk_156 0 5 (dk_at dksX1_spade_0 7 rfl rfl)
theorem dX1_spade_10 : decode cX1_spade 10 = .ok (.iload_n 2, 1) := dk_28 (dk_at dksX1_spade_0 10 rfl rfl)
theorem dX1_spade_11 : decode cX1_spade 11 = .ok (.ireturn, 1) := dk_172 (dk_at dksX1_spade_0 11 rfl rfl)
theorem dX1_spade_12 : decode cX1_spade 12 = .ok (.aload_n 0, 1) := dk_42 (dk_at dksX1_spade_0 12 rfl rfl)
theorem dX1_spade_13 : decode cX1_spade 13 = .ok (.aload_n 0, 1) := dk_42 (dk_at dksX1_spade_0 13 rfl rfl)
theorem dX1_spade_14 : decode cX1_spade 14 = .ok (.getfield 10, 3) := dk_180 0 10 (dk_at dksX1_spade_0 14 rfl rfl)
theorem dX1_spade_17 : decode cX1_spade 17 = .ok (.invokevirtual 282, 3) := dk_182 1 26 (dk_at dksX1_spade_0 17 rfl rfl)
theorem dX1_spade_20 : decode cX1_spade 20 = .ok (.aload_n 0, 1) := dk_42 (dk_at dksX1_spade_0 20 rfl rfl)
theorem dX1_spade_21 : decode cX1_spade 21 = .ok (.getfield 10, 3) := dk_180 0 10 (dk_at dksX1_spade_0 21 rfl rfl)
theorem dX1_spade_24 : decode cX1_spade 24 = .ok (.dup, 1) := dk_89 (dk_at dksX1_spade_1 0 rfl rfl)
theorem dX1_spade_25 : decode cX1_spade 25 = .ok (.getfield 224, 3) := dk_180 0 224 (dk_at dksX1_spade_1 1 rfl rfl)
theorem dX1_spade_28 : decode cX1_spade 28 = .ok (.iconst 1, 1) := dk_4 (dk_at dksX1_spade_1 4 rfl rfl)
theorem dX1_spade_29 : decode cX1_spade 29 = .ok (.iload_n 1, 1) := dk_27 (dk_at dksX1_spade_1 5 rfl rfl)
theorem dX1_spade_30 : decode cX1_spade 30 = .ok (.ishl, 1) := dk_120 (dk_at dksX1_spade_1 6 rfl rfl)
theorem dX1_spade_31 : decode cX1_spade 31 = .ok (.ixor, 1) := dk_130 (dk_at dksX1_spade_1 7 rfl rfl)
theorem dX1_spade_32 : decode cX1_spade 32 = .ok (.putfield 224, 3) := dk_181 0 224 (dk_at dksX1_spade_1 8 rfl rfl)
theorem dX1_spade_35 : decode cX1_spade 35 = .ok (.aload_n 0, 1) := dk_42 (dk_at dksX1_spade_1 11 rfl rfl)
theorem dX1_spade_36 : decode cX1_spade 36 = .ok (.getfield 10, 3) := dk_180 0 10 (dk_at dksX1_spade_1 12 rfl rfl)
theorem dX1_spade_39 : decode cX1_spade 39 = .ok (.getfield 224, 3) := dk_180 0 224 (dk_at dksX1_spade_1 15 rfl rfl)
theorem dX1_spade_42 : decode cX1_spade 42 = .ok (.invokestatic 196, 3) := dk_184 0 196 (dk_at dksX1_spade_1 18 rfl rfl)
theorem dX1_spade_45 : decode cX1_spade 45 = .ok (.ireturn, 1) := dk_172 (dk_at dksX1_spade_1 21 rfl rfl)
abbrev cX1_refusesSpade : ByteArray := prog_1_method_29_code
def yX1_refusesSpade : MethodName := ⟨RX1, "refusesSpade", "(I)I"⟩
def dkwX1_refusesSpade_1 : List UInt8 := [42, 180, 0, 10, 180, 0, 224, 184, 0, 196, 42, 180, 0, 46, 161, 0, 8, 16, 254, 167, 0, 4, 3, 172]
abbrev dktX1_refusesSpade_1 : List UInt8 := dkwX1_refusesSpade_1 ++ []
def dkwX1_refusesSpade_0 : List UInt8 := [42, 27, 182, 0, 249, 154, 0, 5, 2, 172, 42, 180, 0, 10, 180, 0, 224, 27, 184, 0, 225, 154, 0, 25]
abbrev dktX1_refusesSpade_0 : List UInt8 := dkwX1_refusesSpade_0 ++ dktX1_refusesSpade_1
theorem dksX1_refusesSpade_0 : cX1_refusesSpade.data.toList.drop 0 = dktX1_refusesSpade_0 := by decide +kernel
theorem dksX1_refusesSpade_1 : cX1_refusesSpade.data.toList.drop 24 = dktX1_refusesSpade_1 := dk_seg dksX1_refusesSpade_0 24 rfl rfl
theorem dX1_refusesSpade_0 : decode cX1_refusesSpade 0 = .ok (.aload_n 0, 1) := dk_42 (dk_at dksX1_refusesSpade_0 0 rfl rfl)
theorem dX1_refusesSpade_1 : decode cX1_refusesSpade 1 = .ok (.iload_n 1, 1) := dk_27 (dk_at dksX1_refusesSpade_0 1 rfl rfl)
theorem dX1_refusesSpade_2 : decode cX1_refusesSpade 2 = .ok (.invokevirtual 249, 3) := dk_182 0 249 (dk_at dksX1_refusesSpade_0 2 rfl rfl)
theorem dX1_refusesSpade_5 : decode cX1_refusesSpade 5 = .ok (.ifCond .ne 5, 3) := dk_154 0 5 (dk_at dksX1_refusesSpade_0 5 rfl rfl)
theorem dX1_refusesSpade_8 : decode cX1_refusesSpade 8 = .ok (.iconst (-1), 1) := dk_2 (dk_at dksX1_refusesSpade_0 8 rfl rfl)
theorem dX1_refusesSpade_9 : decode cX1_refusesSpade 9 = .ok (.ireturn, 1) := dk_172 (dk_at dksX1_refusesSpade_0 9 rfl rfl)
theorem dX1_refusesSpade_10 : decode cX1_refusesSpade 10 = .ok (.aload_n 0, 1) := dk_42 (dk_at dksX1_refusesSpade_0 10 rfl rfl)
theorem dX1_refusesSpade_11 : decode cX1_refusesSpade 11 = .ok (.getfield 10, 3) := dk_180 0 10 (dk_at dksX1_refusesSpade_0 11 rfl rfl)
theorem dX1_refusesSpade_14 : decode cX1_refusesSpade 14 = .ok (.getfield 224, 3) := dk_180 0 224 (dk_at dksX1_refusesSpade_0 14 rfl rfl)
theorem dX1_refusesSpade_17 : decode cX1_refusesSpade 17 = .ok (.iload_n 1, 1) := dk_27 (dk_at dksX1_refusesSpade_0 17 rfl rfl)
theorem dX1_refusesSpade_18 : decode cX1_refusesSpade 18 = .ok (.invokestatic 225, 3) := dk_184 0 225 (dk_at dksX1_refusesSpade_0 18 rfl rfl)
theorem dX1_refusesSpade_21 : decode cX1_refusesSpade 21 = .ok (.ifCond .ne 25, 3) := dk_154 0 25 (dk_at dksX1_refusesSpade_0 21 rfl rfl)
theorem dX1_refusesSpade_24 : decode cX1_refusesSpade 24 = .ok (.aload_n 0, 1) := dk_42 (dk_at dksX1_refusesSpade_1 0 rfl rfl)
theorem dX1_refusesSpade_25 : decode cX1_refusesSpade 25 = .ok (.getfield 10, 3) := dk_180 0 10 (dk_at dksX1_refusesSpade_1 1 rfl rfl)
theorem dX1_refusesSpade_28 : decode cX1_refusesSpade 28 = .ok (.getfield 224, 3) := dk_180 0 224 (dk_at dksX1_refusesSpade_1 4 rfl rfl)
theorem dX1_refusesSpade_31 : decode cX1_refusesSpade 31 = .ok (.invokestatic 196, 3) := dk_184 0 196 (dk_at dksX1_refusesSpade_1 7 rfl rfl)
theorem dX1_refusesSpade_34 : decode cX1_refusesSpade 34 = .ok (.aload_n 0, 1) := dk_42 (dk_at dksX1_refusesSpade_1 10 rfl rfl)
theorem dX1_refusesSpade_35 : decode cX1_refusesSpade 35 = .ok (.getfield 46, 3) := dk_180 0 46 (dk_at dksX1_refusesSpade_1 11 rfl rfl)
theorem dX1_refusesSpade_38 : decode cX1_refusesSpade 38 = .ok (.if_icmp .lt 8, 3) := dk_161 0 8 (dk_at dksX1_refusesSpade_1 14 rfl rfl)
theorem dX1_refusesSpade_41 : decode cX1_refusesSpade 41 = .ok (.bipush (-2), 2) := dk_16 254 (dk_at dksX1_refusesSpade_1 17 rfl rfl)
theorem dX1_refusesSpade_43 : decode cX1_refusesSpade 43 = .ok (.goto 4, 3) := dk_167 0 4 (dk_at dksX1_refusesSpade_1 19 rfl rfl)
theorem dX1_refusesSpade_46 : decode cX1_refusesSpade 46 = .ok (.iconst 0, 1) := dk_3 (dk_at dksX1_refusesSpade_1 22 rfl rfl)
theorem dX1_refusesSpade_47 : decode cX1_refusesSpade 47 = .ok (.ireturn, 1) := dk_172 (dk_at dksX1_refusesSpade_1 23 rfl rfl)
abbrev cX1_has : ByteArray := prog_1_method_2_code
def yX1_has : MethodName := ⟨RX1, "has", "(II)Z"⟩
def dkwX1_has_0 : List UInt8 := [26, 27, 122, 4, 126, 4, 160, 0, 7, 4, 167, 0, 4, 3, 172]
abbrev dktX1_has_0 : List UInt8 := dkwX1_has_0 ++ []
theorem dksX1_has_0 : cX1_has.data.toList.drop 0 = dktX1_has_0 := by decide +kernel
theorem dX1_has_0 : decode cX1_has 0 = .ok (.iload_n 0, 1) := dk_26 (dk_at dksX1_has_0 0 rfl rfl)
theorem dX1_has_1 : decode cX1_has 1 = .ok (.iload_n 1, 1) := dk_27 (dk_at dksX1_has_0 1 rfl rfl)
theorem dX1_has_2 : decode cX1_has 2 = .ok (.ishr, 1) := dk_122 (dk_at dksX1_has_0 2 rfl rfl)
theorem dX1_has_3 : decode cX1_has 3 = .ok (.iconst 1, 1) := dk_4 (dk_at dksX1_has_0 3 rfl rfl)
theorem dX1_has_4 : decode cX1_has 4 = .ok (.iand, 1) := dk_126 (dk_at dksX1_has_0 4 rfl rfl)
theorem dX1_has_5 : decode cX1_has 5 = .ok (.iconst 1, 1) := dk_4 (dk_at dksX1_has_0 5 rfl rfl)
theorem dX1_has_6 : decode cX1_has 6 = .ok (.if_icmp .ne 7, 3) := dk_160 0 7 (dk_at dksX1_has_0 6 rfl rfl)
theorem dX1_has_9 : decode cX1_has 9 = .ok (.iconst 1, 1) := dk_4 (dk_at dksX1_has_0 9 rfl rfl)
theorem dX1_has_10 : decode cX1_has 10 = .ok (.goto 4, 3) := dk_167 0 4 (dk_at dksX1_has_0 10 rfl rfl)
theorem dX1_has_13 : decode cX1_has 13 = .ok (.iconst 0, 1) := dk_3 (dk_at dksX1_has_0 13 rfl rfl)
theorem dX1_has_14 : decode cX1_has 14 = .ok (.ireturn, 1) := dk_172 (dk_at dksX1_has_0 14 rfl rfl)
abbrev cX1_treat : ByteArray := prog_1_method_32_code
def yX1_treat : MethodName := ⟨RX1, "treat", "(I)I"⟩
def dkwX1_treat_1 : List UInt8 := [4, 182, 1, 35, 42, 180, 0, 10, 180, 0, 167, 27, 46, 172]
abbrev dktX1_treat_1 : List UInt8 := dkwX1_treat_1 ++ []
def dkwX1_treat_0 : List UInt8 := [42, 27, 182, 0, 249, 154, 0, 5, 2, 172, 42, 42, 180, 0, 10, 182, 1, 26, 42, 42, 180, 0, 10, 27]
abbrev dktX1_treat_0 : List UInt8 := dkwX1_treat_0 ++ dktX1_treat_1
theorem dksX1_treat_0 : cX1_treat.data.toList.drop 0 = dktX1_treat_0 := by decide +kernel
theorem dksX1_treat_1 : cX1_treat.data.toList.drop 24 = dktX1_treat_1 := dk_seg dksX1_treat_0 24 rfl rfl
theorem dX1_treat_0 : decode cX1_treat 0 = .ok (.aload_n 0, 1) := dk_42 (dk_at dksX1_treat_0 0 rfl rfl)
theorem dX1_treat_1 : decode cX1_treat 1 = .ok (.iload_n 1, 1) := dk_27 (dk_at dksX1_treat_0 1 rfl rfl)
theorem dX1_treat_2 : decode cX1_treat 2 = .ok (.invokevirtual 249, 3) := dk_182 0 249 (dk_at dksX1_treat_0 2 rfl rfl)
theorem dX1_treat_5 : decode cX1_treat 5 = .ok (.ifCond .ne 5, 3) := dk_154 0 5 (dk_at dksX1_treat_0 5 rfl rfl)
theorem dX1_treat_8 : decode cX1_treat 8 = .ok (.iconst (-1), 1) := dk_2 (dk_at dksX1_treat_0 8 rfl rfl)
theorem dX1_treat_9 : decode cX1_treat 9 = .ok (.ireturn, 1) := dk_172 (dk_at dksX1_treat_0 9 rfl rfl)
theorem dX1_treat_10 : decode cX1_treat 10 = .ok (.aload_n 0, 1) := dk_42 (dk_at dksX1_treat_0 10 rfl rfl)
theorem dX1_treat_11 : decode cX1_treat 11 = .ok (.aload_n 0, 1) := dk_42 (dk_at dksX1_treat_0 11 rfl rfl)
theorem dX1_treat_12 : decode cX1_treat 12 = .ok (.getfield 10, 3) := dk_180 0 10 (dk_at dksX1_treat_0 12 rfl rfl)
theorem dX1_treat_15 : decode cX1_treat 15 = .ok (.invokevirtual 282, 3) := dk_182 1 26 (dk_at dksX1_treat_0 15 rfl rfl)
theorem dX1_treat_18 : decode cX1_treat 18 = .ok (.aload_n 0, 1) := dk_42 (dk_at dksX1_treat_0 18 rfl rfl)
theorem dX1_treat_19 : decode cX1_treat 19 = .ok (.aload_n 0, 1) := dk_42 (dk_at dksX1_treat_0 19 rfl rfl)
theorem dX1_treat_20 : decode cX1_treat 20 = .ok (.getfield 10, 3) := dk_180 0 10 (dk_at dksX1_treat_0 20 rfl rfl)
theorem dX1_treat_23 : decode cX1_treat 23 = .ok (.iload_n 1, 1) := dk_27 (dk_at dksX1_treat_0 23 rfl rfl)
theorem dX1_treat_24 : decode cX1_treat 24 = .ok (.iconst 1, 1) := dk_4 (dk_at dksX1_treat_1 0 rfl rfl)
theorem dX1_treat_25 : decode cX1_treat 25 = .ok (.invokevirtual 291, 3) := dk_182 1 35 (dk_at dksX1_treat_1 1 rfl rfl)
theorem dX1_treat_28 : decode cX1_treat 28 = .ok (.aload_n 0, 1) := dk_42 (dk_at dksX1_treat_1 4 rfl rfl)
theorem dX1_treat_29 : decode cX1_treat 29 = .ok (.getfield 10, 3) := dk_180 0 10 (dk_at dksX1_treat_1 5 rfl rfl)
theorem dX1_treat_32 : decode cX1_treat 32 = .ok (.getfield 167, 3) := dk_180 0 167 (dk_at dksX1_treat_1 8 rfl rfl)
theorem dX1_treat_35 : decode cX1_treat 35 = .ok (.iload_n 1, 1) := dk_27 (dk_at dksX1_treat_1 11 rfl rfl)
theorem dX1_treat_36 : decode cX1_treat 36 = .ok (.iaload, 1) := dk_46 (dk_at dksX1_treat_1 12 rfl rfl)
theorem dX1_treat_37 : decode cX1_treat 37 = .ok (.ireturn, 1) := dk_172 (dk_at dksX1_treat_1 13 rfl rfl)
abbrev cX1_treats : ByteArray := prog_1_method_31_code
def yX1_treats : MethodName := ⟨RX1, "treats", "(LSandKeepsSea$Beach;II)V"⟩
def dkwX1_treats_0 : List UInt8 := [43, 180, 0, 167, 28, 16, 9, 43, 180, 0, 167, 28, 46, 6, 29, 104, 96, 184, 0, 206, 79, 177]
abbrev dktX1_treats_0 : List UInt8 := dkwX1_treats_0 ++ []
theorem dksX1_treats_0 : cX1_treats.data.toList.drop 0 = dktX1_treats_0 := by decide +kernel
theorem dX1_treats_0 : decode cX1_treats 0 = .ok (.aload_n 1, 1) := dk_43 (dk_at dksX1_treats_0 0 rfl rfl)
theorem dX1_treats_1 : decode cX1_treats 1 = .ok (.getfield 167, 3) := dk_180 0 167 (dk_at dksX1_treats_0 1 rfl rfl)
theorem dX1_treats_4 : decode cX1_treats 4 = .ok (.iload_n 2, 1) := dk_28 (dk_at dksX1_treats_0 4 rfl rfl)
theorem dX1_treats_5 : decode cX1_treats 5 = .ok (.bipush 9, 2) := dk_16 9 (dk_at dksX1_treats_0 5 rfl rfl)
theorem dX1_treats_7 : decode cX1_treats 7 = .ok (.aload_n 1, 1) := dk_43 (dk_at dksX1_treats_0 7 rfl rfl)
theorem dX1_treats_8 : decode cX1_treats 8 = .ok (.getfield 167, 3) := dk_180 0 167 (dk_at dksX1_treats_0 8 rfl rfl)
theorem dX1_treats_11 : decode cX1_treats 11 = .ok (.iload_n 2, 1) := dk_28 (dk_at dksX1_treats_0 11 rfl rfl)
theorem dX1_treats_12 : decode cX1_treats 12 = .ok (.iaload, 1) := dk_46 (dk_at dksX1_treats_0 12 rfl rfl)
theorem dX1_treats_13 : decode cX1_treats 13 = .ok (.iconst 3, 1) := dk_6 (dk_at dksX1_treats_0 13 rfl rfl)
theorem dX1_treats_14 : decode cX1_treats 14 = .ok (.iload_n 3, 1) := dk_29 (dk_at dksX1_treats_0 14 rfl rfl)
theorem dX1_treats_15 : decode cX1_treats 15 = .ok (.imul, 1) := dk_104 (dk_at dksX1_treats_0 15 rfl rfl)
theorem dX1_treats_16 : decode cX1_treats 16 = .ok (.iadd, 1) := dk_96 (dk_at dksX1_treats_0 16 rfl rfl)
theorem dX1_treats_17 : decode cX1_treats 17 = .ok (.invokestatic 206, 3) := dk_184 0 206 (dk_at dksX1_treats_0 17 rfl rfl)
theorem dX1_treats_20 : decode cX1_treats 20 = .ok (.iastore, 1) := dk_79 (dk_at dksX1_treats_0 20 rfl rfl)
theorem dX1_treats_21 : decode cX1_treats 21 = .ok (.return_, 1) := dk_177 (dk_at dksX1_treats_0 21 rfl rfl)
abbrev cX1_moat : ByteArray := prog_1_method_33_code
def yX1_moat : MethodName := ⟨RX1, "moat", "(I)I"⟩
def dkwX1_moat_1 : List UInt8 := [180, 0, 193, 4, 27, 120, 130, 181, 0, 193, 42, 180, 0, 10, 180, 0, 193, 184, 0, 196, 172]
abbrev dktX1_moat_1 : List UInt8 := dkwX1_moat_1 ++ []
def dkwX1_moat_0 : List UInt8 := [42, 27, 182, 0, 232, 154, 0, 5, 2, 172, 42, 42, 180, 0, 10, 182, 1, 26, 42, 180, 0, 10, 89]
abbrev dktX1_moat_0 : List UInt8 := dkwX1_moat_0 ++ dktX1_moat_1
theorem dksX1_moat_0 : cX1_moat.data.toList.drop 0 = dktX1_moat_0 := by decide +kernel
theorem dksX1_moat_1 : cX1_moat.data.toList.drop 23 = dktX1_moat_1 := dk_seg dksX1_moat_0 23 rfl rfl
theorem dX1_moat_0 : decode cX1_moat 0 = .ok (.aload_n 0, 1) := dk_42 (dk_at dksX1_moat_0 0 rfl rfl)
theorem dX1_moat_1 : decode cX1_moat 1 = .ok (.iload_n 1, 1) := dk_27 (dk_at dksX1_moat_0 1 rfl rfl)
theorem dX1_moat_2 : decode cX1_moat 2 = .ok (.invokevirtual 232, 3) := dk_182 0 232 (dk_at dksX1_moat_0 2 rfl rfl)
theorem dX1_moat_5 : decode cX1_moat 5 = .ok (.ifCond .ne 5, 3) := dk_154 0 5 (dk_at dksX1_moat_0 5 rfl rfl)
theorem dX1_moat_8 : decode cX1_moat 8 = .ok (.iconst (-1), 1) := dk_2 (dk_at dksX1_moat_0 8 rfl rfl)
theorem dX1_moat_9 : decode cX1_moat 9 = .ok (.ireturn, 1) := dk_172 (dk_at dksX1_moat_0 9 rfl rfl)
theorem dX1_moat_10 : decode cX1_moat 10 = .ok (.aload_n 0, 1) := dk_42 (dk_at dksX1_moat_0 10 rfl rfl)
theorem dX1_moat_11 : decode cX1_moat 11 = .ok (.aload_n 0, 1) := dk_42 (dk_at dksX1_moat_0 11 rfl rfl)
theorem dX1_moat_12 : decode cX1_moat 12 = .ok (.getfield 10, 3) := dk_180 0 10 (dk_at dksX1_moat_0 12 rfl rfl)
theorem dX1_moat_15 : decode cX1_moat 15 = .ok (.invokevirtual 282, 3) := dk_182 1 26 (dk_at dksX1_moat_0 15 rfl rfl)
theorem dX1_moat_18 : decode cX1_moat 18 = .ok (.aload_n 0, 1) := dk_42 (dk_at dksX1_moat_0 18 rfl rfl)
theorem dX1_moat_19 : decode cX1_moat 19 = .ok (.getfield 10, 3) := dk_180 0 10 (dk_at dksX1_moat_0 19 rfl rfl)
theorem dX1_moat_22 : decode cX1_moat 22 = .ok (.dup, 1) := dk_89 (dk_at dksX1_moat_0 22 rfl rfl)
theorem dX1_moat_23 : decode cX1_moat 23 = .ok (.getfield 193, 3) := dk_180 0 193 (dk_at dksX1_moat_1 0 rfl rfl)
theorem dX1_moat_26 : decode cX1_moat 26 = .ok (.iconst 1, 1) := dk_4 (dk_at dksX1_moat_1 3 rfl rfl)
theorem dX1_moat_27 : decode cX1_moat 27 = .ok (.iload_n 1, 1) := dk_27 (dk_at dksX1_moat_1 4 rfl rfl)
theorem dX1_moat_28 : decode cX1_moat 28 = .ok (.ishl, 1) := dk_120 (dk_at dksX1_moat_1 5 rfl rfl)
theorem dX1_moat_29 : decode cX1_moat 29 = .ok (.ixor, 1) := dk_130 (dk_at dksX1_moat_1 6 rfl rfl)
theorem dX1_moat_30 : decode cX1_moat 30 = .ok (.putfield 193, 3) := dk_181 0 193 (dk_at dksX1_moat_1 7 rfl rfl)
theorem dX1_moat_33 : decode cX1_moat 33 = .ok (.aload_n 0, 1) := dk_42 (dk_at dksX1_moat_1 10 rfl rfl)
theorem dX1_moat_34 : decode cX1_moat 34 = .ok (.getfield 10, 3) := dk_180 0 10 (dk_at dksX1_moat_1 11 rfl rfl)
theorem dX1_moat_37 : decode cX1_moat 37 = .ok (.getfield 193, 3) := dk_180 0 193 (dk_at dksX1_moat_1 14 rfl rfl)
theorem dX1_moat_40 : decode cX1_moat 40 = .ok (.invokestatic 196, 3) := dk_184 0 196 (dk_at dksX1_moat_1 17 rfl rfl)
theorem dX1_moat_43 : decode cX1_moat 43 = .ok (.ireturn, 1) := dk_172 (dk_at dksX1_moat_1 20 rfl rfl)
abbrev cX1_build : ByteArray := prog_1_method_36_code
def yX1_build : MethodName := ⟨RX1, "build", "(I)I"⟩
def dkwX1_build_3 : List UInt8 := [172]
abbrev dktX1_build_3 : List UInt8 := dkwX1_build_3 ++ []
def dkwX1_build_2 : List UInt8 := [181, 0, 84, 42, 42, 180, 0, 10, 42, 180, 0, 91, 182, 1, 48, 28, 2, 130, 126, 133, 182, 1, 54, 29]
abbrev dktX1_build_2 : List UInt8 := dkwX1_build_2 ++ dktX1_build_3
def dkwX1_build_1 : List UInt8 := [180, 0, 10, 42, 180, 0, 91, 182, 1, 48, 61, 42, 42, 180, 0, 10, 27, 182, 1, 51, 62, 42, 3]
abbrev dktX1_build_1 : List UInt8 := dkwX1_build_1 ++ dktX1_build_2
def dkwX1_build_0 : List UInt8 := [27, 133, 9, 20, 1, 46, 184, 0, 87, 154, 0, 5, 2, 172, 42, 42, 180, 0, 10, 182, 1, 26, 42]
abbrev dktX1_build_0 : List UInt8 := dkwX1_build_0 ++ dktX1_build_1
theorem dksX1_build_0 : cX1_build.data.toList.drop 0 = dktX1_build_0 := by decide +kernel
theorem dksX1_build_1 : cX1_build.data.toList.drop 23 = dktX1_build_1 := dk_seg dksX1_build_0 23 rfl rfl
theorem dksX1_build_2 : cX1_build.data.toList.drop 46 = dktX1_build_2 := dk_seg dksX1_build_1 23 rfl rfl
theorem dksX1_build_3 : cX1_build.data.toList.drop 70 = dktX1_build_3 := dk_seg dksX1_build_2 24 rfl rfl
theorem dX1_build_0 : decode cX1_build 0 = .ok (.iload_n 1, 1) := dk_27 (dk_at dksX1_build_0 0 rfl rfl)
theorem dX1_build_1 : decode cX1_build 1 = .ok (.i2l, 1) := dk_133 (dk_at dksX1_build_0 1 rfl rfl)
theorem dX1_build_2 : decode cX1_build 2 = .ok (.lconst 0, 1) := dk_9 (dk_at dksX1_build_0 2 rfl rfl)
theorem dX1_build_3 : decode cX1_build 3 = .ok (.ldc2_w 302, 3) := dk_20 1 46 (dk_at dksX1_build_0 3 rfl rfl)
theorem dX1_build_6 : decode cX1_build 6 = .ok (.invokestatic 87, 3) := dk_184 0 87 (dk_at dksX1_build_0 6 rfl rfl)
theorem dX1_build_9 : decode cX1_build 9 = .ok (.ifCond .ne 5, 3) := dk_154 0 5 (dk_at dksX1_build_0 9 rfl rfl)
theorem dX1_build_12 : decode cX1_build 12 = .ok (.iconst (-1), 1) := dk_2 (dk_at dksX1_build_0 12 rfl rfl)
theorem dX1_build_13 : decode cX1_build 13 = .ok (.ireturn, 1) := dk_172 (dk_at dksX1_build_0 13 rfl rfl)
theorem dX1_build_14 : decode cX1_build 14 = .ok (.aload_n 0, 1) := dk_42 (dk_at dksX1_build_0 14 rfl rfl)
theorem dX1_build_15 : decode cX1_build 15 = .ok (.aload_n 0, 1) := dk_42 (dk_at dksX1_build_0 15 rfl rfl)
theorem dX1_build_16 : decode cX1_build 16 = .ok (.getfield 10, 3) := dk_180 0 10 (dk_at dksX1_build_0 16 rfl rfl)
theorem dX1_build_19 : decode cX1_build 19 = .ok (.invokevirtual 282, 3) := dk_182 1 26 (dk_at dksX1_build_0 19 rfl rfl)
theorem dX1_build_22 : decode cX1_build 22 = .ok (.aload_n 0, 1) := dk_42 (dk_at dksX1_build_0 22 rfl rfl)
theorem dX1_build_23 : decode cX1_build 23 = .ok (.getfield 10, 3) := dk_180 0 10 (dk_at dksX1_build_1 0 rfl rfl)
theorem dX1_build_26 : decode cX1_build 26 = .ok (.aload_n 0, 1) := dk_42 (dk_at dksX1_build_1 3 rfl rfl)
theorem dX1_build_27 : decode cX1_build 27 = .ok (.getfield 91, 3) := dk_180 0 91 (dk_at dksX1_build_1 4 rfl rfl)
theorem dX1_build_30 : decode cX1_build 30 = .ok (.invokevirtual 304, 3) := dk_182 1 48 (dk_at dksX1_build_1 7 rfl rfl)
theorem dX1_build_33 : decode cX1_build 33 = .ok (.istore_n 2, 1) := dk_61 (dk_at dksX1_build_1 10 rfl rfl)
theorem dX1_build_34 : decode cX1_build 34 = .ok (.aload_n 0, 1) := dk_42 (dk_at dksX1_build_1 11 rfl rfl)
theorem dX1_build_35 : decode cX1_build 35 = .ok (.aload_n 0, 1) := dk_42 (dk_at dksX1_build_1 12 rfl rfl)
theorem dX1_build_36 : decode cX1_build 36 = .ok (.getfield 10, 3) := dk_180 0 10 (dk_at dksX1_build_1 13 rfl rfl)
theorem dX1_build_39 : decode cX1_build 39 = .ok (.iload_n 1, 1) := dk_27 (dk_at dksX1_build_1 16 rfl rfl)
theorem dX1_build_40 : decode cX1_build 40 = .ok (.invokevirtual 307, 3) := dk_182 1 51 (dk_at dksX1_build_1 17 rfl rfl)
theorem dX1_build_43 : decode cX1_build 43 = .ok (.istore_n 3, 1) := dk_62 (dk_at dksX1_build_1 20 rfl rfl)
theorem dX1_build_44 : decode cX1_build 44 = .ok (.aload_n 0, 1) := dk_42 (dk_at dksX1_build_1 21 rfl rfl)
theorem dX1_build_45 : decode cX1_build 45 = .ok (.iconst 0, 1) := dk_3 (dk_at dksX1_build_1 22 rfl rfl)
theorem dX1_build_46 : decode cX1_build 46 = .ok (.putfield 84, 3) := dk_181 0 84 (dk_at dksX1_build_2 0 rfl rfl)
theorem dX1_build_49 : decode cX1_build 49 = .ok (.aload_n 0, 1) := dk_42 (dk_at dksX1_build_2 3 rfl rfl)
theorem dX1_build_50 : decode cX1_build 50 = .ok (.aload_n 0, 1) := dk_42 (dk_at dksX1_build_2 4 rfl rfl)
theorem dX1_build_51 : decode cX1_build 51 = .ok (.getfield 10, 3) := dk_180 0 10 (dk_at dksX1_build_2 5 rfl rfl)
theorem dX1_build_54 : decode cX1_build 54 = .ok (.aload_n 0, 1) := dk_42 (dk_at dksX1_build_2 8 rfl rfl)
theorem dX1_build_55 : decode cX1_build 55 = .ok (.getfield 91, 3) := dk_180 0 91 (dk_at dksX1_build_2 9 rfl rfl)
theorem dX1_build_58 : decode cX1_build 58 = .ok (.invokevirtual 304, 3) := dk_182 1 48 (dk_at dksX1_build_2 12 rfl rfl)
theorem dX1_build_61 : decode cX1_build 61 = .ok (.iload_n 2, 1) := dk_28 (dk_at dksX1_build_2 15 rfl rfl)
theorem dX1_build_62 : decode cX1_build 62 = .ok (.iconst (-1), 1) := dk_2 (dk_at dksX1_build_2 16 rfl rfl)
theorem dX1_build_63 : decode cX1_build 63 = .ok (.ixor, 1) := dk_130 (dk_at dksX1_build_2 17 rfl rfl)
theorem dX1_build_64 : decode cX1_build 64 = .ok (.iand, 1) := dk_126 (dk_at dksX1_build_2 18 rfl rfl)
theorem dX1_build_65 : decode cX1_build 65 = .ok (.i2l, 1) := dk_133 (dk_at dksX1_build_2 19 rfl rfl)
theorem dX1_build_66 : decode cX1_build 66 = .ok (.invokevirtual 310, 3) := dk_182 1 54 (dk_at dksX1_build_2 20 rfl rfl)
theorem dX1_build_69 : decode cX1_build 69 = .ok (.iload_n 3, 1) := dk_29 (dk_at dksX1_build_2 23 rfl rfl)
theorem dX1_build_70 : decode cX1_build 70 = .ok (.ireturn, 1) := dk_172 (dk_at dksX1_build_3 0 rfl rfl)
abbrev cX1_goSpells : ByteArray := prog_1_method_35_code
def yX1_goSpells : MethodName := ⟨RX1, "goSpells", "(LSandKeepsSea$Beach;I)I"⟩
def dkwX1_goSpells_1 : List UInt8 := [167, 255, 239, 29, 172]
abbrev dktX1_goSpells_1 : List UInt8 := dkwX1_goSpells_1 ++ []
def dkwX1_goSpells_0 : List UInt8 := [3, 62, 3, 54, 4, 21, 4, 28, 162, 0, 17, 29, 42, 43, 182, 1, 42, 96, 62, 132, 4, 1]
abbrev dktX1_goSpells_0 : List UInt8 := dkwX1_goSpells_0 ++ dktX1_goSpells_1
theorem dksX1_goSpells_0 : cX1_goSpells.data.toList.drop 0 = dktX1_goSpells_0 := by decide +kernel
theorem dksX1_goSpells_1 : cX1_goSpells.data.toList.drop 22 = dktX1_goSpells_1 := dk_seg dksX1_goSpells_0 22 rfl rfl
theorem dX1_goSpells_0 : decode cX1_goSpells 0 = .ok (.iconst 0, 1) := dk_3 (dk_at dksX1_goSpells_0 0 rfl rfl)
theorem dX1_goSpells_1 : decode cX1_goSpells 1 = .ok (.istore_n 3, 1) := dk_62 (dk_at dksX1_goSpells_0 1 rfl rfl)
theorem dX1_goSpells_2 : decode cX1_goSpells 2 = .ok (.iconst 0, 1) := dk_3 (dk_at dksX1_goSpells_0 2 rfl rfl)
theorem dX1_goSpells_3 : decode cX1_goSpells 3 = .ok (.istore 4, 2) := dk_54 4 (dk_at dksX1_goSpells_0 3 rfl rfl)
theorem dX1_goSpells_5 : decode cX1_goSpells 5 = .ok (.iload 4, 2) := dk_21 4 (dk_at dksX1_goSpells_0 5 rfl rfl)
theorem dX1_goSpells_7 : decode cX1_goSpells 7 = .ok (.iload_n 2, 1) := dk_28 (dk_at dksX1_goSpells_0 7 rfl rfl)
theorem dX1_goSpells_8 : decode cX1_goSpells 8 = .ok (.if_icmp .ge 17, 3) := dk_162 0 17 (dk_at dksX1_goSpells_0 8 rfl rfl)
theorem dX1_goSpells_11 : decode cX1_goSpells 11 = .ok (.iload_n 3, 1) := dk_29 (dk_at dksX1_goSpells_0 11 rfl rfl)
theorem dX1_goSpells_12 : decode cX1_goSpells 12 = .ok (.aload_n 0, 1) := dk_42 (dk_at dksX1_goSpells_0 12 rfl rfl)
theorem dX1_goSpells_13 : decode cX1_goSpells 13 = .ok (.aload_n 1, 1) := dk_43 (dk_at dksX1_goSpells_0 13 rfl rfl)
theorem dX1_goSpells_14 : decode cX1_goSpells 14 = .ok (.invokevirtual 298, 3) := dk_182 1 42 (dk_at dksX1_goSpells_0 14 rfl rfl)
theorem dX1_goSpells_17 : decode cX1_goSpells 17 = .ok (.iadd, 1) := dk_96 (dk_at dksX1_goSpells_0 17 rfl rfl)
theorem dX1_goSpells_18 : decode cX1_goSpells 18 = .ok (.istore_n 3, 1) := dk_62 (dk_at dksX1_goSpells_0 18 rfl rfl)
theorem dX1_goSpells_19 : decode cX1_goSpells 19 = .ok (.iinc 4 1, 3) := dk_132 4 1 (dk_at dksX1_goSpells_0 19 rfl rfl)
theorem dX1_goSpells_22 : decode cX1_goSpells 22 = .ok (.goto (-17), 3) := dk_167 255 239 (dk_at dksX1_goSpells_1 0 rfl rfl)
theorem dX1_goSpells_25 : decode cX1_goSpells 25 = .ok (.iload_n 3, 1) := dk_29 (dk_at dksX1_goSpells_1 3 rfl rfl)
theorem dX1_goSpells_26 : decode cX1_goSpells 26 = .ok (.ireturn, 1) := dk_172 (dk_at dksX1_goSpells_1 4 rfl rfl)
abbrev cX1_goSpell : ByteArray := prog_1_method_34_code
def yX1_goSpell : MethodName := ⟨RX1, "goSpell", "(LSandKeepsSea$Beach;)I"⟩
def dkwX1_goSpell_7 : List UInt8 := [154, 0, 7, 2, 167, 0, 9, 43, 180, 0, 165, 29, 46, 79, 132, 3, 1, 167, 255, 189, 28, 172]
abbrev dktX1_goSpell_7 : List UInt8 := dkwX1_goSpell_7 ++ []
def dkwX1_goSpell_6 : List UInt8 := [180, 0, 167, 29, 46, 4, 100, 184, 0, 211, 79, 43, 180, 0, 165, 29, 43, 180, 0, 167, 29, 46]
abbrev dktX1_goSpell_6 : List UInt8 := dkwX1_goSpell_6 ++ dktX1_goSpell_7
def dkwX1_goSpell_5 : List UInt8 := [162, 0, 65, 43, 180, 0, 165, 29, 46, 2, 160, 0, 6, 167, 0, 46, 43, 180, 0, 167, 29, 3, 43]
abbrev dktX1_goSpell_5 : List UInt8 := dkwX1_goSpell_5 ++ dktX1_goSpell_6
def dkwX1_goSpell_4 : List UInt8 := [43, 180, 0, 214, 29, 46, 21, 4, 100, 96, 61, 132, 3, 1, 167, 255, 204, 3, 62, 29, 42, 180, 0, 91]
abbrev dktX1_goSpell_4 : List UInt8 := dkwX1_goSpell_4 ++ dktX1_goSpell_5
def dkwX1_goSpell_3 : List UInt8 := [54, 4, 43, 180, 0, 214, 29, 17, 3, 231, 21, 4, 42, 180, 0, 57, 29, 46, 96, 184, 0, 206, 79, 28]
abbrev dktX1_goSpell_3 : List UInt8 := dkwX1_goSpell_3 ++ dktX1_goSpell_4
def dkwX1_goSpell_2 : List UInt8 := [132, 2, 1, 167, 255, 215, 3, 61, 3, 62, 29, 42, 180, 0, 42, 162, 0, 50, 43, 180, 0, 214, 29, 46]
abbrev dktX1_goSpell_2 : List UInt8 := dkwX1_goSpell_2 ++ dktX1_goSpell_3
def dkwX1_goSpell_1 : List UInt8 := [2, 159, 0, 23, 42, 180, 0, 57, 43, 180, 0, 165, 28, 46, 92, 46, 42, 43, 28, 182, 0, 252, 96, 79]
abbrev dktX1_goSpell_1 : List UInt8 := dkwX1_goSpell_1 ++ dktX1_goSpell_2
def dkwX1_goSpell_0 : List UInt8 := [42, 180, 0, 57, 3, 184, 1, 39, 3, 61, 28, 42, 180, 0, 91, 162, 0, 39, 43, 180, 0, 165, 28, 46]
abbrev dktX1_goSpell_0 : List UInt8 := dkwX1_goSpell_0 ++ dktX1_goSpell_1
theorem dksX1_goSpell_0 : cX1_goSpell.data.toList.drop 0 = dktX1_goSpell_0 := by decide +kernel
theorem dksX1_goSpell_1 : cX1_goSpell.data.toList.drop 24 = dktX1_goSpell_1 := dk_seg dksX1_goSpell_0 24 rfl rfl
theorem dksX1_goSpell_2 : cX1_goSpell.data.toList.drop 48 = dktX1_goSpell_2 := dk_seg dksX1_goSpell_1 24 rfl rfl
theorem dksX1_goSpell_3 : cX1_goSpell.data.toList.drop 72 = dktX1_goSpell_3 := dk_seg dksX1_goSpell_2 24 rfl rfl
theorem dksX1_goSpell_4 : cX1_goSpell.data.toList.drop 96 = dktX1_goSpell_4 := dk_seg dksX1_goSpell_3 24 rfl rfl
theorem dksX1_goSpell_5 : cX1_goSpell.data.toList.drop 120 = dktX1_goSpell_5 := dk_seg dksX1_goSpell_4 24 rfl rfl
theorem dksX1_goSpell_6 : cX1_goSpell.data.toList.drop 143 = dktX1_goSpell_6 := dk_seg dksX1_goSpell_5 23 rfl rfl
theorem dksX1_goSpell_7 : cX1_goSpell.data.toList.drop 165 = dktX1_goSpell_7 := dk_seg dksX1_goSpell_6 22 rfl rfl
theorem dX1_goSpell_0 : decode cX1_goSpell 0 = .ok (.aload_n 0, 1) := dk_42 (dk_at dksX1_goSpell_0 0 rfl rfl)
theorem dX1_goSpell_1 : decode cX1_goSpell 1 = .ok (.getfield 57, 3) := dk_180 0 57 (dk_at dksX1_goSpell_0 1 rfl rfl)
theorem dX1_goSpell_4 : decode cX1_goSpell 4 = .ok (.iconst 0, 1) := dk_3 (dk_at dksX1_goSpell_0 4 rfl rfl)
theorem dX1_goSpell_5 : decode cX1_goSpell 5 = .ok (.invokestatic 295, 3) := dk_184 1 39 (dk_at dksX1_goSpell_0 5 rfl rfl)
theorem dX1_goSpell_8 : decode cX1_goSpell 8 = .ok (.iconst 0, 1) := dk_3 (dk_at dksX1_goSpell_0 8 rfl rfl)
theorem dX1_goSpell_9 : decode cX1_goSpell 9 = .ok (.istore_n 2, 1) := dk_61 (dk_at dksX1_goSpell_0 9 rfl rfl)
theorem dX1_goSpell_10 : decode cX1_goSpell 10 = .ok (.iload_n 2, 1) := dk_28 (dk_at dksX1_goSpell_0 10 rfl rfl)
theorem dX1_goSpell_11 : decode cX1_goSpell 11 = .ok (.aload_n 0, 1) := dk_42 (dk_at dksX1_goSpell_0 11 rfl rfl)
theorem dX1_goSpell_12 : decode cX1_goSpell 12 = .ok (.getfield 91, 3) := dk_180 0 91 (dk_at dksX1_goSpell_0 12 rfl rfl)
theorem dX1_goSpell_15 : decode cX1_goSpell 15 = .ok (.if_icmp .ge 39, 3) := dk_162 0 39 (dk_at dksX1_goSpell_0 15 rfl rfl)
theorem dX1_goSpell_18 : decode cX1_goSpell 18 = .ok (.aload_n 1, 1) := dk_43 (dk_at dksX1_goSpell_0 18 rfl rfl)
theorem dX1_goSpell_19 : decode cX1_goSpell 19 = .ok (.getfield 165, 3) := dk_180 0 165 (dk_at dksX1_goSpell_0 19 rfl rfl)
theorem dX1_goSpell_22 : decode cX1_goSpell 22 = .ok (.iload_n 2, 1) := dk_28 (dk_at dksX1_goSpell_0 22 rfl rfl)
theorem dX1_goSpell_23 : decode cX1_goSpell 23 = .ok (.iaload, 1) := dk_46 (dk_at dksX1_goSpell_0 23 rfl rfl)
theorem dX1_goSpell_24 : decode cX1_goSpell 24 = .ok (.iconst (-1), 1) := dk_2 (dk_at dksX1_goSpell_1 0 rfl rfl)
theorem dX1_goSpell_25 : decode cX1_goSpell 25 = .ok (.if_icmp .eq 23, 3) := dk_159 0 23 (dk_at dksX1_goSpell_1 1 rfl rfl)
theorem dX1_goSpell_28 : decode cX1_goSpell 28 = .ok (.aload_n 0, 1) := dk_42 (dk_at dksX1_goSpell_1 4 rfl rfl)
theorem dX1_goSpell_29 : decode cX1_goSpell 29 = .ok (.getfield 57, 3) := dk_180 0 57 (dk_at dksX1_goSpell_1 5 rfl rfl)
theorem dX1_goSpell_32 : decode cX1_goSpell 32 = .ok (.aload_n 1, 1) := dk_43 (dk_at dksX1_goSpell_1 8 rfl rfl)
theorem dX1_goSpell_33 : decode cX1_goSpell 33 = .ok (.getfield 165, 3) := dk_180 0 165 (dk_at dksX1_goSpell_1 9 rfl rfl)
theorem dX1_goSpell_36 : decode cX1_goSpell 36 = .ok (.iload_n 2, 1) := dk_28 (dk_at dksX1_goSpell_1 12 rfl rfl)
theorem dX1_goSpell_37 : decode cX1_goSpell 37 = .ok (.iaload, 1) := dk_46 (dk_at dksX1_goSpell_1 13 rfl rfl)
theorem dX1_goSpell_38 : decode cX1_goSpell 38 = .ok (.dup2, 1) := dk_92 (dk_at dksX1_goSpell_1 14 rfl rfl)
theorem dX1_goSpell_39 : decode cX1_goSpell 39 = .ok (.iaload, 1) := dk_46 (dk_at dksX1_goSpell_1 15 rfl rfl)
theorem dX1_goSpell_40 : decode cX1_goSpell 40 = .ok (.aload_n 0, 1) := dk_42 (dk_at dksX1_goSpell_1 16 rfl rfl)
theorem dX1_goSpell_41 : decode cX1_goSpell 41 = .ok (.aload_n 1, 1) := dk_43 (dk_at dksX1_goSpell_1 17 rfl rfl)
theorem dX1_goSpell_42 : decode cX1_goSpell 42 = .ok (.iload_n 2, 1) := dk_28 (dk_at dksX1_goSpell_1 18 rfl rfl)
theorem dX1_goSpell_43 : decode cX1_goSpell 43 = .ok (.invokevirtual 252, 3) := dk_182 0 252 (dk_at dksX1_goSpell_1 19 rfl rfl)
theorem dX1_goSpell_46 : decode cX1_goSpell 46 = .ok (.iadd, 1) := dk_96 (dk_at dksX1_goSpell_1 22 rfl rfl)
theorem dX1_goSpell_47 : decode cX1_goSpell 47 = .ok (.iastore, 1) := dk_79 (dk_at dksX1_goSpell_1 23 rfl rfl)
theorem dX1_goSpell_48 : decode cX1_goSpell 48 = .ok (.iinc 2 1, 3) := dk_132 2 1 (dk_at dksX1_goSpell_2 0 rfl rfl)
theorem dX1_goSpell_51 : decode cX1_goSpell 51 = .ok (.goto (-41), 3) := dk_167 255 215 (dk_at dksX1_goSpell_2 3 rfl rfl)
theorem dX1_goSpell_54 : decode cX1_goSpell 54 = .ok (.iconst 0, 1) := dk_3 (dk_at dksX1_goSpell_2 6 rfl rfl)
theorem dX1_goSpell_55 : decode cX1_goSpell 55 = .ok (.istore_n 2, 1) := dk_61 (dk_at dksX1_goSpell_2 7 rfl rfl)
theorem dX1_goSpell_56 : decode cX1_goSpell 56 = .ok (.iconst 0, 1) := dk_3 (dk_at dksX1_goSpell_2 8 rfl rfl)
theorem dX1_goSpell_57 : decode cX1_goSpell 57 = .ok (.istore_n 3, 1) := dk_62 (dk_at dksX1_goSpell_2 9 rfl rfl)
theorem dX1_goSpell_58 : decode cX1_goSpell 58 = .ok (.iload_n 3, 1) := dk_29 (dk_at dksX1_goSpell_2 10 rfl rfl)
theorem dX1_goSpell_59 : decode cX1_goSpell 59 = .ok (.aload_n 0, 1) := dk_42 (dk_at dksX1_goSpell_2 11 rfl rfl)
theorem dX1_goSpell_60 : decode cX1_goSpell 60 = .ok (.getfield 42, 3) := dk_180 0 42 (dk_at dksX1_goSpell_2 12 rfl rfl)
theorem dX1_goSpell_63 : decode cX1_goSpell 63 = .ok (.if_icmp .ge 50, 3) := dk_162 0 50 (dk_at dksX1_goSpell_2 15 rfl rfl)
theorem dX1_goSpell_66 : decode cX1_goSpell 66 = .ok (.aload_n 1, 1) := dk_43 (dk_at dksX1_goSpell_2 18 rfl rfl)
theorem dX1_goSpell_67 : decode cX1_goSpell 67 = .ok (.getfield 214, 3) := dk_180 0 214 (dk_at dksX1_goSpell_2 19 rfl rfl)
theorem dX1_goSpell_70 : decode cX1_goSpell 70 = .ok (.iload_n 3, 1) := dk_29 (dk_at dksX1_goSpell_2 22 rfl rfl)
theorem dX1_goSpell_71 : decode cX1_goSpell 71 = .ok (.iaload, 1) := dk_46 (dk_at dksX1_goSpell_2 23 rfl rfl)
theorem dX1_goSpell_72 : decode cX1_goSpell 72 = .ok (.istore 4, 2) := dk_54 4 (dk_at dksX1_goSpell_3 0 rfl rfl)
theorem dX1_goSpell_74 : decode cX1_goSpell 74 = .ok (.aload_n 1, 1) := dk_43 (dk_at dksX1_goSpell_3 2 rfl rfl)
theorem dX1_goSpell_75 : decode cX1_goSpell 75 = .ok (.getfield 214, 3) := dk_180 0 214 (dk_at dksX1_goSpell_3 3 rfl rfl)
theorem dX1_goSpell_78 : decode cX1_goSpell 78 = .ok (.iload_n 3, 1) := dk_29 (dk_at dksX1_goSpell_3 6 rfl rfl)
theorem dX1_goSpell_79 : decode cX1_goSpell 79 = .ok (.sipush 999, 3) := dk_17 3 231 (dk_at dksX1_goSpell_3 7 rfl rfl)
theorem dX1_goSpell_82 : decode cX1_goSpell 82 = .ok (.iload 4, 2) := dk_21 4 (dk_at dksX1_goSpell_3 10 rfl rfl)
theorem dX1_goSpell_84 : decode cX1_goSpell 84 = .ok (.aload_n 0, 1) := dk_42 (dk_at dksX1_goSpell_3 12 rfl rfl)
theorem dX1_goSpell_85 : decode cX1_goSpell 85 = .ok (.getfield 57, 3) := dk_180 0 57 (dk_at dksX1_goSpell_3 13 rfl rfl)
theorem dX1_goSpell_88 : decode cX1_goSpell 88 = .ok (.iload_n 3, 1) := dk_29 (dk_at dksX1_goSpell_3 16 rfl rfl)
theorem dX1_goSpell_89 : decode cX1_goSpell 89 = .ok (.iaload, 1) := dk_46 (dk_at dksX1_goSpell_3 17 rfl rfl)
theorem dX1_goSpell_90 : decode cX1_goSpell 90 = .ok (.iadd, 1) := dk_96 (dk_at dksX1_goSpell_3 18 rfl rfl)
theorem dX1_goSpell_91 : decode cX1_goSpell 91 = .ok (.invokestatic 206, 3) := dk_184 0 206 (dk_at dksX1_goSpell_3 19 rfl rfl)
theorem dX1_goSpell_94 : decode cX1_goSpell 94 = .ok (.iastore, 1) := dk_79 (dk_at dksX1_goSpell_3 22 rfl rfl)
theorem dX1_goSpell_95 : decode cX1_goSpell 95 = .ok (.iload_n 2, 1) := dk_28 (dk_at dksX1_goSpell_3 23 rfl rfl)
theorem dX1_goSpell_96 : decode cX1_goSpell 96 = .ok (.aload_n 1, 1) := dk_43 (dk_at dksX1_goSpell_4 0 rfl rfl)
theorem dX1_goSpell_97 : decode cX1_goSpell 97 = .ok (.getfield 214, 3) := dk_180 0 214 (dk_at dksX1_goSpell_4 1 rfl rfl)
theorem dX1_goSpell_100 : decode cX1_goSpell 100 = .ok (.iload_n 3, 1) := dk_29 (dk_at dksX1_goSpell_4 4 rfl rfl)
theorem dX1_goSpell_101 : decode cX1_goSpell 101 = .ok (.iaload, 1) := dk_46 (dk_at dksX1_goSpell_4 5 rfl rfl)
theorem dX1_goSpell_102 : decode cX1_goSpell 102 = .ok (.iload 4, 2) := dk_21 4 (dk_at dksX1_goSpell_4 6 rfl rfl)
theorem dX1_goSpell_104 : decode cX1_goSpell 104 = .ok (.isub, 1) := dk_100 (dk_at dksX1_goSpell_4 8 rfl rfl)
theorem dX1_goSpell_105 : decode cX1_goSpell 105 = .ok (.iadd, 1) := dk_96 (dk_at dksX1_goSpell_4 9 rfl rfl)
theorem dX1_goSpell_106 : decode cX1_goSpell 106 = .ok (.istore_n 2, 1) := dk_61 (dk_at dksX1_goSpell_4 10 rfl rfl)
theorem dX1_goSpell_107 : decode cX1_goSpell 107 = .ok (.iinc 3 1, 3) := dk_132 3 1 (dk_at dksX1_goSpell_4 11 rfl rfl)
theorem dX1_goSpell_110 : decode cX1_goSpell 110 = .ok (.goto (-52), 3) := dk_167 255 204 (dk_at dksX1_goSpell_4 14 rfl rfl)
theorem dX1_goSpell_113 : decode cX1_goSpell 113 = .ok (.iconst 0, 1) := dk_3 (dk_at dksX1_goSpell_4 17 rfl rfl)
theorem dX1_goSpell_114 : decode cX1_goSpell 114 = .ok (.istore_n 3, 1) := dk_62 (dk_at dksX1_goSpell_4 18 rfl rfl)
theorem dX1_goSpell_115 : decode cX1_goSpell 115 = .ok (.iload_n 3, 1) := dk_29 (dk_at dksX1_goSpell_4 19 rfl rfl)
theorem dX1_goSpell_116 : decode cX1_goSpell 116 = .ok (.aload_n 0, 1) := dk_42 (dk_at dksX1_goSpell_4 20 rfl rfl)
theorem dX1_goSpell_117 : decode cX1_goSpell 117 = .ok (.getfield 91, 3) := dk_180 0 91 (dk_at dksX1_goSpell_4 21 rfl rfl)
theorem dX1_goSpell_120 : decode cX1_goSpell 120 = .ok (.if_icmp .ge 65, 3) := dk_162 0 65 (dk_at dksX1_goSpell_5 0 rfl rfl)
theorem dX1_goSpell_123 : decode cX1_goSpell 123 = .ok (.aload_n 1, 1) := dk_43 (dk_at dksX1_goSpell_5 3 rfl rfl)
theorem dX1_goSpell_124 : decode cX1_goSpell 124 = .ok (.getfield 165, 3) := dk_180 0 165 (dk_at dksX1_goSpell_5 4 rfl rfl)
theorem dX1_goSpell_127 : decode cX1_goSpell 127 = .ok (.iload_n 3, 1) := dk_29 (dk_at dksX1_goSpell_5 7 rfl rfl)
theorem dX1_goSpell_128 : decode cX1_goSpell 128 = .ok (.iaload, 1) := dk_46 (dk_at dksX1_goSpell_5 8 rfl rfl)
theorem dX1_goSpell_129 : decode cX1_goSpell 129 = .ok (.iconst (-1), 1) := dk_2 (dk_at dksX1_goSpell_5 9 rfl rfl)
theorem dX1_goSpell_130 : decode cX1_goSpell 130 = .ok (.if_icmp .ne 6, 3) := dk_160 0 6 (dk_at dksX1_goSpell_5 10 rfl rfl)
theorem dX1_goSpell_133 : decode cX1_goSpell 133 = .ok (.goto 46, 3) := dk_167 0 46 (dk_at dksX1_goSpell_5 13 rfl rfl)
theorem dX1_goSpell_136 : decode cX1_goSpell 136 = .ok (.aload_n 1, 1) := dk_43 (dk_at dksX1_goSpell_5 16 rfl rfl)
theorem dX1_goSpell_137 : decode cX1_goSpell 137 = .ok (.getfield 167, 3) := dk_180 0 167 (dk_at dksX1_goSpell_5 17 rfl rfl)
theorem dX1_goSpell_140 : decode cX1_goSpell 140 = .ok (.iload_n 3, 1) := dk_29 (dk_at dksX1_goSpell_5 20 rfl rfl)
theorem dX1_goSpell_141 : decode cX1_goSpell 141 = .ok (.iconst 0, 1) := dk_3 (dk_at dksX1_goSpell_5 21 rfl rfl)
theorem dX1_goSpell_142 : decode cX1_goSpell 142 = .ok (.aload_n 1, 1) := dk_43 (dk_at dksX1_goSpell_5 22 rfl rfl)
theorem dX1_goSpell_143 : decode cX1_goSpell 143 = .ok (.getfield 167, 3) := dk_180 0 167 (dk_at dksX1_goSpell_6 0 rfl rfl)
theorem dX1_goSpell_146 : decode cX1_goSpell 146 = .ok (.iload_n 3, 1) := dk_29 (dk_at dksX1_goSpell_6 3 rfl rfl)
theorem dX1_goSpell_147 : decode cX1_goSpell 147 = .ok (.iaload, 1) := dk_46 (dk_at dksX1_goSpell_6 4 rfl rfl)
theorem dX1_goSpell_148 : decode cX1_goSpell 148 = .ok (.iconst 1, 1) := dk_4 (dk_at dksX1_goSpell_6 5 rfl rfl)
theorem dX1_goSpell_149 : decode cX1_goSpell 149 = .ok (.isub, 1) := dk_100 (dk_at dksX1_goSpell_6 6 rfl rfl)
theorem dX1_goSpell_150 : decode cX1_goSpell 150 = .ok (.invokestatic 211, 3) := dk_184 0 211 (dk_at dksX1_goSpell_6 7 rfl rfl)
theorem dX1_goSpell_153 : decode cX1_goSpell 153 = .ok (.iastore, 1) := dk_79 (dk_at dksX1_goSpell_6 10 rfl rfl)
theorem dX1_goSpell_154 : decode cX1_goSpell 154 = .ok (.aload_n 1, 1) := dk_43 (dk_at dksX1_goSpell_6 11 rfl rfl)
theorem dX1_goSpell_155 : decode cX1_goSpell 155 = .ok (.getfield 165, 3) := dk_180 0 165 (dk_at dksX1_goSpell_6 12 rfl rfl)
theorem dX1_goSpell_158 : decode cX1_goSpell 158 = .ok (.iload_n 3, 1) := dk_29 (dk_at dksX1_goSpell_6 15 rfl rfl)
theorem dX1_goSpell_159 : decode cX1_goSpell 159 = .ok (.aload_n 1, 1) := dk_43 (dk_at dksX1_goSpell_6 16 rfl rfl)
theorem dX1_goSpell_160 : decode cX1_goSpell 160 = .ok (.getfield 167, 3) := dk_180 0 167 (dk_at dksX1_goSpell_6 17 rfl rfl)
theorem dX1_goSpell_163 : decode cX1_goSpell 163 = .ok (.iload_n 3, 1) := dk_29 (dk_at dksX1_goSpell_6 20 rfl rfl)
theorem dX1_goSpell_164 : decode cX1_goSpell 164 = .ok (.iaload, 1) := dk_46 (dk_at dksX1_goSpell_6 21 rfl rfl)
theorem dX1_goSpell_165 : decode cX1_goSpell 165 = .ok (.ifCond .ne 7, 3) := dk_154 0 7 (dk_at dksX1_goSpell_7 0 rfl rfl)
theorem dX1_goSpell_168 : decode cX1_goSpell 168 = .ok (.iconst (-1), 1) := dk_2 (dk_at dksX1_goSpell_7 3 rfl rfl)
theorem dX1_goSpell_169 : decode cX1_goSpell 169 = .ok (.goto 9, 3) := dk_167 0 9 (dk_at dksX1_goSpell_7 4 rfl rfl)
theorem dX1_goSpell_172 : decode cX1_goSpell 172 = .ok (.aload_n 1, 1) := dk_43 (dk_at dksX1_goSpell_7 7 rfl rfl)
theorem dX1_goSpell_173 : decode cX1_goSpell 173 = .ok (.getfield 165, 3) := dk_180 0 165 (dk_at dksX1_goSpell_7 8 rfl rfl)
theorem dX1_goSpell_176 : decode cX1_goSpell 176 = .ok (.iload_n 3, 1) := dk_29 (dk_at dksX1_goSpell_7 11 rfl rfl)
theorem dX1_goSpell_177 : decode cX1_goSpell 177 = .ok (.iaload, 1) := dk_46 (dk_at dksX1_goSpell_7 12 rfl rfl)
theorem dX1_goSpell_178 : decode cX1_goSpell 178 = .ok (.iastore, 1) := dk_79 (dk_at dksX1_goSpell_7 13 rfl rfl)
theorem dX1_goSpell_179 : decode cX1_goSpell 179 = .ok (.iinc 3 1, 3) := dk_132 3 1 (dk_at dksX1_goSpell_7 14 rfl rfl)
theorem dX1_goSpell_182 : decode cX1_goSpell 182 = .ok (.goto (-67), 3) := dk_167 255 189 (dk_at dksX1_goSpell_7 17 rfl rfl)
theorem dX1_goSpell_185 : decode cX1_goSpell 185 = .ok (.iload_n 2, 1) := dk_28 (dk_at dksX1_goSpell_7 20 rfl rfl)
theorem dX1_goSpell_186 : decode cX1_goSpell 186 = .ok (.ireturn, 1) := dk_172 (dk_at dksX1_goSpell_7 21 rfl rfl)
abbrev cX1_bucketsOf : ByteArray := prog_1_method_17_code
def yX1_bucketsOf : MethodName := ⟨RX1, "bucketsOf", "(LSandKeepsSea$Beach;I)I"⟩
def dkwX1_bucketsOf_3 : List UInt8 := [28, 46, 16, 13, 160, 0, 9, 29, 5, 108, 167, 0, 4, 29, 172]
abbrev dktX1_bucketsOf_3 : List UInt8 := dkwX1_bucketsOf_3 ++ []
def dkwX1_bucketsOf_2 : List UInt8 := [167, 0, 4, 3, 96, 62, 43, 180, 0, 167, 28, 46, 6, 162, 0, 7, 29, 5, 108, 62, 42, 180, 0, 33]
abbrev dktX1_bucketsOf_2 : List UInt8 := dkwX1_bucketsOf_2 ++ dktX1_bucketsOf_3
def dkwX1_bucketsOf_1 : List UInt8 := [184, 0, 225, 153, 0, 7, 5, 167, 0, 4, 3, 96, 42, 43, 28, 182, 0, 228, 153, 0, 7, 4]
abbrev dktX1_bucketsOf_1 : List UInt8 := dkwX1_bucketsOf_1 ++ dktX1_bucketsOf_2
def dkwX1_bucketsOf_0 : List UInt8 := [43, 180, 0, 165, 28, 46, 2, 160, 0, 5, 3, 172, 42, 180, 0, 36, 28, 46, 43, 180, 0, 224, 28]
abbrev dktX1_bucketsOf_0 : List UInt8 := dkwX1_bucketsOf_0 ++ dktX1_bucketsOf_1
theorem dksX1_bucketsOf_0 : cX1_bucketsOf.data.toList.drop 0 = dktX1_bucketsOf_0 := by decide +kernel
theorem dksX1_bucketsOf_1 : cX1_bucketsOf.data.toList.drop 23 = dktX1_bucketsOf_1 := dk_seg dksX1_bucketsOf_0 23 rfl rfl
theorem dksX1_bucketsOf_2 : cX1_bucketsOf.data.toList.drop 45 = dktX1_bucketsOf_2 := dk_seg dksX1_bucketsOf_1 22 rfl rfl
theorem dksX1_bucketsOf_3 : cX1_bucketsOf.data.toList.drop 69 = dktX1_bucketsOf_3 := dk_seg dksX1_bucketsOf_2 24 rfl rfl
theorem dX1_bucketsOf_0 : decode cX1_bucketsOf 0 = .ok (.aload_n 1, 1) := dk_43 (dk_at dksX1_bucketsOf_0 0 rfl rfl)
theorem dX1_bucketsOf_1 : decode cX1_bucketsOf 1 = .ok (.getfield 165, 3) := dk_180 0 165 (dk_at dksX1_bucketsOf_0 1 rfl rfl)
theorem dX1_bucketsOf_4 : decode cX1_bucketsOf 4 = .ok (.iload_n 2, 1) := dk_28 (dk_at dksX1_bucketsOf_0 4 rfl rfl)
theorem dX1_bucketsOf_5 : decode cX1_bucketsOf 5 = .ok (.iaload, 1) := dk_46 (dk_at dksX1_bucketsOf_0 5 rfl rfl)
theorem dX1_bucketsOf_6 : decode cX1_bucketsOf 6 = .ok (.iconst (-1), 1) := dk_2 (dk_at dksX1_bucketsOf_0 6 rfl rfl)
theorem dX1_bucketsOf_7 : decode cX1_bucketsOf 7 = .ok (.if_icmp .ne 5, 3) := dk_160 0 5 (dk_at dksX1_bucketsOf_0 7 rfl rfl)
theorem dX1_bucketsOf_10 : decode cX1_bucketsOf 10 = .ok (.iconst 0, 1) := dk_3 (dk_at dksX1_bucketsOf_0 10 rfl rfl)
theorem dX1_bucketsOf_11 : decode cX1_bucketsOf 11 = .ok (.ireturn, 1) := dk_172 (dk_at dksX1_bucketsOf_0 11 rfl rfl)
theorem dX1_bucketsOf_12 : decode cX1_bucketsOf 12 = .ok (.aload_n 0, 1) := dk_42 (dk_at dksX1_bucketsOf_0 12 rfl rfl)
theorem dX1_bucketsOf_13 : decode cX1_bucketsOf 13 = .ok (.getfield 36, 3) := dk_180 0 36 (dk_at dksX1_bucketsOf_0 13 rfl rfl)
theorem dX1_bucketsOf_16 : decode cX1_bucketsOf 16 = .ok (.iload_n 2, 1) := dk_28 (dk_at dksX1_bucketsOf_0 16 rfl rfl)
theorem dX1_bucketsOf_17 : decode cX1_bucketsOf 17 = .ok (.iaload, 1) := dk_46 (dk_at dksX1_bucketsOf_0 17 rfl rfl)
theorem dX1_bucketsOf_18 : decode cX1_bucketsOf 18 = .ok (.aload_n 1, 1) := dk_43 (dk_at dksX1_bucketsOf_0 18 rfl rfl)
theorem dX1_bucketsOf_19 : decode cX1_bucketsOf 19 = .ok (.getfield 224, 3) := dk_180 0 224 (dk_at dksX1_bucketsOf_0 19 rfl rfl)
theorem dX1_bucketsOf_22 : decode cX1_bucketsOf 22 = .ok (.iload_n 2, 1) := dk_28 (dk_at dksX1_bucketsOf_0 22 rfl rfl)
theorem dX1_bucketsOf_23 : decode cX1_bucketsOf 23 = .ok (.invokestatic 225, 3) := dk_184 0 225 (dk_at dksX1_bucketsOf_1 0 rfl rfl)
theorem dX1_bucketsOf_26 : decode cX1_bucketsOf 26 = .ok (.ifCond .eq 7, 3) := dk_153 0 7 (dk_at dksX1_bucketsOf_1 3 rfl rfl)
theorem dX1_bucketsOf_29 : decode cX1_bucketsOf 29 = .ok (.iconst 2, 1) := dk_5 (dk_at dksX1_bucketsOf_1 6 rfl rfl)
theorem dX1_bucketsOf_30 : decode cX1_bucketsOf 30 = .ok (.goto 4, 3) := dk_167 0 4 (dk_at dksX1_bucketsOf_1 7 rfl rfl)
theorem dX1_bucketsOf_33 : decode cX1_bucketsOf 33 = .ok (.iconst 0, 1) := dk_3 (dk_at dksX1_bucketsOf_1 10 rfl rfl)
theorem dX1_bucketsOf_34 : decode cX1_bucketsOf 34 = .ok (.iadd, 1) := dk_96 (dk_at dksX1_bucketsOf_1 11 rfl rfl)
theorem dX1_bucketsOf_35 : decode cX1_bucketsOf 35 = .ok (.aload_n 0, 1) := dk_42 (dk_at dksX1_bucketsOf_1 12 rfl rfl)
theorem dX1_bucketsOf_36 : decode cX1_bucketsOf 36 = .ok (.aload_n 1, 1) := dk_43 (dk_at dksX1_bucketsOf_1 13 rfl rfl)
theorem dX1_bucketsOf_37 : decode cX1_bucketsOf 37 = .ok (.iload_n 2, 1) := dk_28 (dk_at dksX1_bucketsOf_1 14 rfl rfl)
theorem dX1_bucketsOf_38 : decode cX1_bucketsOf 38 = .ok (.invokevirtual 228, 3) := dk_182 0 228 (dk_at dksX1_bucketsOf_1 15 rfl rfl)
theorem dX1_bucketsOf_41 : decode cX1_bucketsOf 41 = .ok (.ifCond .eq 7, 3) := dk_153 0 7 (dk_at dksX1_bucketsOf_1 18 rfl rfl)
theorem dX1_bucketsOf_44 : decode cX1_bucketsOf 44 = .ok (.iconst 1, 1) := dk_4 (dk_at dksX1_bucketsOf_1 21 rfl rfl)
theorem dX1_bucketsOf_45 : decode cX1_bucketsOf 45 = .ok (.goto 4, 3) := dk_167 0 4 (dk_at dksX1_bucketsOf_2 0 rfl rfl)
theorem dX1_bucketsOf_48 : decode cX1_bucketsOf 48 = .ok (.iconst 0, 1) := dk_3 (dk_at dksX1_bucketsOf_2 3 rfl rfl)
theorem dX1_bucketsOf_49 : decode cX1_bucketsOf 49 = .ok (.iadd, 1) := dk_96 (dk_at dksX1_bucketsOf_2 4 rfl rfl)
theorem dX1_bucketsOf_50 : decode cX1_bucketsOf 50 = .ok (.istore_n 3, 1) := dk_62 (dk_at dksX1_bucketsOf_2 5 rfl rfl)
theorem dX1_bucketsOf_51 : decode cX1_bucketsOf 51 = .ok (.aload_n 1, 1) := dk_43 (dk_at dksX1_bucketsOf_2 6 rfl rfl)
theorem dX1_bucketsOf_52 : decode cX1_bucketsOf 52 = .ok (.getfield 167, 3) := dk_180 0 167 (dk_at dksX1_bucketsOf_2 7 rfl rfl)
theorem dX1_bucketsOf_55 : decode cX1_bucketsOf 55 = .ok (.iload_n 2, 1) := dk_28 (dk_at dksX1_bucketsOf_2 10 rfl rfl)
theorem dX1_bucketsOf_56 : decode cX1_bucketsOf 56 = .ok (.iaload, 1) := dk_46 (dk_at dksX1_bucketsOf_2 11 rfl rfl)
theorem dX1_bucketsOf_57 : decode cX1_bucketsOf 57 = .ok (.iconst 3, 1) := dk_6 (dk_at dksX1_bucketsOf_2 12 rfl rfl)
theorem dX1_bucketsOf_58 : decode cX1_bucketsOf 58 = .ok (.if_icmp .ge 7, 3) := dk_162 0 7 (dk_at dksX1_bucketsOf_2 13 rfl rfl)
theorem dX1_bucketsOf_61 : decode cX1_bucketsOf 61 = .ok (.iload_n 3, 1) := dk_29 (dk_at dksX1_bucketsOf_2 16 rfl rfl)
theorem dX1_bucketsOf_62 : decode cX1_bucketsOf 62 = .ok (.iconst 2, 1) := dk_5 (dk_at dksX1_bucketsOf_2 17 rfl rfl)
theorem dX1_bucketsOf_63 : decode cX1_bucketsOf 63 = .ok (.idiv, 1) := dk_108 (dk_at dksX1_bucketsOf_2 18 rfl rfl)
theorem dX1_bucketsOf_64 : decode cX1_bucketsOf 64 = .ok (.istore_n 3, 1) := dk_62 (dk_at dksX1_bucketsOf_2 19 rfl rfl)
theorem dX1_bucketsOf_65 : decode cX1_bucketsOf 65 = .ok (.aload_n 0, 1) := dk_42 (dk_at dksX1_bucketsOf_2 20 rfl rfl)
theorem dX1_bucketsOf_66 : decode cX1_bucketsOf 66 = .ok (.getfield 33, 3) := dk_180 0 33 (dk_at dksX1_bucketsOf_2 21 rfl rfl)
theorem dX1_bucketsOf_69 : decode cX1_bucketsOf 69 = .ok (.iload_n 2, 1) := dk_28 (dk_at dksX1_bucketsOf_3 0 rfl rfl)
theorem dX1_bucketsOf_70 : decode cX1_bucketsOf 70 = .ok (.iaload, 1) := dk_46 (dk_at dksX1_bucketsOf_3 1 rfl rfl)
theorem dX1_bucketsOf_71 : decode cX1_bucketsOf 71 = .ok (.bipush 13, 2) := dk_16 13 (dk_at dksX1_bucketsOf_3 2 rfl rfl)
theorem dX1_bucketsOf_73 : decode cX1_bucketsOf 73 = .ok (.if_icmp .ne 9, 3) := dk_160 0 9 (dk_at dksX1_bucketsOf_3 4 rfl rfl)
theorem dX1_bucketsOf_76 : decode cX1_bucketsOf 76 = .ok (.iload_n 3, 1) := dk_29 (dk_at dksX1_bucketsOf_3 7 rfl rfl)
theorem dX1_bucketsOf_77 : decode cX1_bucketsOf 77 = .ok (.iconst 2, 1) := dk_5 (dk_at dksX1_bucketsOf_3 8 rfl rfl)
theorem dX1_bucketsOf_78 : decode cX1_bucketsOf 78 = .ok (.idiv, 1) := dk_108 (dk_at dksX1_bucketsOf_3 9 rfl rfl)
theorem dX1_bucketsOf_79 : decode cX1_bucketsOf 79 = .ok (.goto 4, 3) := dk_167 0 4 (dk_at dksX1_bucketsOf_3 10 rfl rfl)
theorem dX1_bucketsOf_82 : decode cX1_bucketsOf 82 = .ok (.iload_n 3, 1) := dk_29 (dk_at dksX1_bucketsOf_3 13 rfl rfl)
theorem dX1_bucketsOf_83 : decode cX1_bucketsOf 83 = .ok (.ireturn, 1) := dk_172 (dk_at dksX1_bucketsOf_3 14 rfl rfl)
abbrev cX1_isBesideFriend : ByteArray := prog_1_method_16_code
def yX1_isBesideFriend : MethodName := ⟨RX1, "isBesideFriend", "(LSandKeepsSea$Beach;I)Z"⟩
def dkwX1_isBesideFriend_2 : List UInt8 := [100, 184, 0, 221, 4, 163, 0, 5, 4, 172, 132, 3, 1, 167, 255, 199, 3, 172]
abbrev dktX1_isBesideFriend_2 : List UInt8 := dkwX1_isBesideFriend_2 ++ []
def dkwX1_isBesideFriend_1 : List UInt8 := [159, 0, 34, 42, 28, 29, 182, 0, 217, 153, 0, 25, 43, 180, 0, 165, 29, 46, 43, 180, 0, 165, 28, 46]
abbrev dktX1_isBesideFriend_1 : List UInt8 := dkwX1_isBesideFriend_1 ++ dktX1_isBesideFriend_2
def dkwX1_isBesideFriend_0 : List UInt8 := [3, 62, 29, 42, 180, 0, 91, 162, 0, 55, 29, 28, 159, 0, 44, 43, 180, 0, 165, 29, 46, 2]
abbrev dktX1_isBesideFriend_0 : List UInt8 := dkwX1_isBesideFriend_0 ++ dktX1_isBesideFriend_1
theorem dksX1_isBesideFriend_0 : cX1_isBesideFriend.data.toList.drop 0 = dktX1_isBesideFriend_0 := by decide +kernel
theorem dksX1_isBesideFriend_1 : cX1_isBesideFriend.data.toList.drop 22 = dktX1_isBesideFriend_1 := dk_seg dksX1_isBesideFriend_0 22 rfl rfl
theorem dksX1_isBesideFriend_2 : cX1_isBesideFriend.data.toList.drop 46 = dktX1_isBesideFriend_2 := dk_seg dksX1_isBesideFriend_1 24 rfl rfl
theorem dX1_isBesideFriend_0 : decode cX1_isBesideFriend 0 = .ok (.iconst 0, 1) := dk_3 (dk_at dksX1_isBesideFriend_0 0 rfl rfl)
theorem dX1_isBesideFriend_1 : decode cX1_isBesideFriend 1 = .ok (.istore_n 3, 1) := dk_62 (dk_at dksX1_isBesideFriend_0 1 rfl rfl)
theorem dX1_isBesideFriend_2 : decode cX1_isBesideFriend 2 = .ok (.iload_n 3, 1) := dk_29 (dk_at dksX1_isBesideFriend_0 2 rfl rfl)
theorem dX1_isBesideFriend_3 : decode cX1_isBesideFriend 3 = .ok (.aload_n 0, 1) := dk_42 (dk_at dksX1_isBesideFriend_0 3 rfl rfl)
theorem dX1_isBesideFriend_4 : decode cX1_isBesideFriend 4 = .ok (.getfield 91, 3) := dk_180 0 91 (dk_at dksX1_isBesideFriend_0 4 rfl rfl)
theorem dX1_isBesideFriend_7 : decode cX1_isBesideFriend 7 = .ok (.if_icmp .ge 55, 3) := dk_162 0 55 (dk_at dksX1_isBesideFriend_0 7 rfl rfl)
theorem dX1_isBesideFriend_10 : decode cX1_isBesideFriend 10 = .ok (.iload_n 3, 1) := dk_29 (dk_at dksX1_isBesideFriend_0 10 rfl rfl)
theorem dX1_isBesideFriend_11 : decode cX1_isBesideFriend 11 = .ok (.iload_n 2, 1) := dk_28 (dk_at dksX1_isBesideFriend_0 11 rfl rfl)
theorem dX1_isBesideFriend_12 : decode cX1_isBesideFriend 12 = .ok (.if_icmp .eq 44, 3) := dk_159 0 44 (dk_at dksX1_isBesideFriend_0 12 rfl rfl)
theorem dX1_isBesideFriend_15 : decode cX1_isBesideFriend 15 = .ok (.aload_n 1, 1) := dk_43 (dk_at dksX1_isBesideFriend_0 15 rfl rfl)
theorem dX1_isBesideFriend_16 : decode cX1_isBesideFriend 16 = .ok (.getfield 165, 3) := dk_180 0 165 (dk_at dksX1_isBesideFriend_0 16 rfl rfl)
theorem dX1_isBesideFriend_19 : decode cX1_isBesideFriend 19 = .ok (.iload_n 3, 1) := dk_29 (dk_at dksX1_isBesideFriend_0 19 rfl rfl)
theorem dX1_isBesideFriend_20 : decode cX1_isBesideFriend 20 = .ok (.iaload, 1) := dk_46 (dk_at dksX1_isBesideFriend_0 20 rfl rfl)
theorem dX1_isBesideFriend_21 : decode cX1_isBesideFriend 21 = .ok (.iconst (-1), 1) := dk_2 (dk_at dksX1_isBesideFriend_0 21 rfl rfl)
theorem dX1_isBesideFriend_22 : decode cX1_isBesideFriend 22 = .ok (.if_icmp .eq 34, 3) := dk_159 0 34 (dk_at dksX1_isBesideFriend_1 0 rfl rfl)
theorem dX1_isBesideFriend_25 : decode cX1_isBesideFriend 25 = .ok (.aload_n 0, 1) := dk_42 (dk_at dksX1_isBesideFriend_1 3 rfl rfl)
theorem dX1_isBesideFriend_26 : decode cX1_isBesideFriend 26 = .ok (.iload_n 2, 1) := dk_28 (dk_at dksX1_isBesideFriend_1 4 rfl rfl)
theorem dX1_isBesideFriend_27 : decode cX1_isBesideFriend 27 = .ok (.iload_n 3, 1) := dk_29 (dk_at dksX1_isBesideFriend_1 5 rfl rfl)
theorem dX1_isBesideFriend_28 : decode cX1_isBesideFriend 28 = .ok (.invokevirtual 217, 3) := dk_182 0 217 (dk_at dksX1_isBesideFriend_1 6 rfl rfl)
theorem dX1_isBesideFriend_31 : decode cX1_isBesideFriend 31 = .ok (.ifCond .eq 25, 3) := dk_153 0 25 (dk_at dksX1_isBesideFriend_1 9 rfl rfl)
theorem dX1_isBesideFriend_34 : decode cX1_isBesideFriend 34 = .ok (.aload_n 1, 1) := dk_43 (dk_at dksX1_isBesideFriend_1 12 rfl rfl)
theorem dX1_isBesideFriend_35 : decode cX1_isBesideFriend 35 = .ok (.getfield 165, 3) := dk_180 0 165 (dk_at dksX1_isBesideFriend_1 13 rfl rfl)
theorem dX1_isBesideFriend_38 : decode cX1_isBesideFriend 38 = .ok (.iload_n 3, 1) := dk_29 (dk_at dksX1_isBesideFriend_1 16 rfl rfl)
theorem dX1_isBesideFriend_39 : decode cX1_isBesideFriend 39 = .ok (.iaload, 1) := dk_46 (dk_at dksX1_isBesideFriend_1 17 rfl rfl)
theorem dX1_isBesideFriend_40 : decode cX1_isBesideFriend 40 = .ok (.aload_n 1, 1) := dk_43 (dk_at dksX1_isBesideFriend_1 18 rfl rfl)
theorem dX1_isBesideFriend_41 : decode cX1_isBesideFriend 41 = .ok (.getfield 165, 3) := dk_180 0 165 (dk_at dksX1_isBesideFriend_1 19 rfl rfl)
theorem dX1_isBesideFriend_44 : decode cX1_isBesideFriend 44 = .ok (.iload_n 2, 1) := dk_28 (dk_at dksX1_isBesideFriend_1 22 rfl rfl)
theorem dX1_isBesideFriend_45 : decode cX1_isBesideFriend 45 = .ok (.iaload, 1) := dk_46 (dk_at dksX1_isBesideFriend_1 23 rfl rfl)
theorem dX1_isBesideFriend_46 : decode cX1_isBesideFriend 46 = .ok (.isub, 1) := dk_100 (dk_at dksX1_isBesideFriend_2 0 rfl rfl)
theorem dX1_isBesideFriend_47 : decode cX1_isBesideFriend 47 = .ok (.invokestatic 221, 3) := dk_184 0 221 (dk_at dksX1_isBesideFriend_2 1 rfl rfl)
theorem dX1_isBesideFriend_50 : decode cX1_isBesideFriend 50 = .ok (.iconst 1, 1) := dk_4 (dk_at dksX1_isBesideFriend_2 4 rfl rfl)
theorem dX1_isBesideFriend_51 : decode cX1_isBesideFriend 51 = .ok (.if_icmp .gt 5, 3) := dk_163 0 5 (dk_at dksX1_isBesideFriend_2 5 rfl rfl)
theorem dX1_isBesideFriend_54 : decode cX1_isBesideFriend 54 = .ok (.iconst 1, 1) := dk_4 (dk_at dksX1_isBesideFriend_2 8 rfl rfl)
theorem dX1_isBesideFriend_55 : decode cX1_isBesideFriend 55 = .ok (.ireturn, 1) := dk_172 (dk_at dksX1_isBesideFriend_2 9 rfl rfl)
theorem dX1_isBesideFriend_56 : decode cX1_isBesideFriend 56 = .ok (.iinc 3 1, 3) := dk_132 3 1 (dk_at dksX1_isBesideFriend_2 10 rfl rfl)
theorem dX1_isBesideFriend_59 : decode cX1_isBesideFriend 59 = .ok (.goto (-57), 3) := dk_167 255 199 (dk_at dksX1_isBesideFriend_2 13 rfl rfl)
theorem dX1_isBesideFriend_62 : decode cX1_isBesideFriend 62 = .ok (.iconst 0, 1) := dk_3 (dk_at dksX1_isBesideFriend_2 16 rfl rfl)
theorem dX1_isBesideFriend_63 : decode cX1_isBesideFriend 63 = .ok (.ireturn, 1) := dk_172 (dk_at dksX1_isBesideFriend_2 17 rfl rfl)
abbrev cX1_areFriends : ByteArray := prog_1_method_15_code
def yX1_areFriends : MethodName := ⟨RX1, "areFriends", "(II)Z"⟩
def dkwX1_areFriends_1 : List UInt8 := [3, 172]
abbrev dktX1_areFriends_1 : List UInt8 := dkwX1_areFriends_1 ++ []
def dkwX1_areFriends_0 : List UInt8 := [42, 180, 0, 39, 27, 46, 28, 159, 0, 13, 42, 180, 0, 39, 28, 46, 27, 160, 0, 7, 4, 167, 0, 4]
abbrev dktX1_areFriends_0 : List UInt8 := dkwX1_areFriends_0 ++ dktX1_areFriends_1
theorem dksX1_areFriends_0 : cX1_areFriends.data.toList.drop 0 = dktX1_areFriends_0 := by decide +kernel
theorem dksX1_areFriends_1 : cX1_areFriends.data.toList.drop 24 = dktX1_areFriends_1 := dk_seg dksX1_areFriends_0 24 rfl rfl
theorem dX1_areFriends_0 : decode cX1_areFriends 0 = .ok (.aload_n 0, 1) := dk_42 (dk_at dksX1_areFriends_0 0 rfl rfl)
theorem dX1_areFriends_1 : decode cX1_areFriends 1 = .ok (.getfield 39, 3) := dk_180 0 39 (dk_at dksX1_areFriends_0 1 rfl rfl)
theorem dX1_areFriends_4 : decode cX1_areFriends 4 = .ok (.iload_n 1, 1) := dk_27 (dk_at dksX1_areFriends_0 4 rfl rfl)
theorem dX1_areFriends_5 : decode cX1_areFriends 5 = .ok (.iaload, 1) := dk_46 (dk_at dksX1_areFriends_0 5 rfl rfl)
theorem dX1_areFriends_6 : decode cX1_areFriends 6 = .ok (.iload_n 2, 1) := dk_28 (dk_at dksX1_areFriends_0 6 rfl rfl)
theorem dX1_areFriends_7 : decode cX1_areFriends 7 = .ok (.if_icmp .eq 13, 3) := dk_159 0 13 (dk_at dksX1_areFriends_0 7 rfl rfl)
theorem dX1_areFriends_10 : decode cX1_areFriends 10 = .ok (.aload_n 0, 1) := dk_42 (dk_at dksX1_areFriends_0 10 rfl rfl)
theorem dX1_areFriends_11 : decode cX1_areFriends 11 = .ok (.getfield 39, 3) := dk_180 0 39 (dk_at dksX1_areFriends_0 11 rfl rfl)
theorem dX1_areFriends_14 : decode cX1_areFriends 14 = .ok (.iload_n 2, 1) := dk_28 (dk_at dksX1_areFriends_0 14 rfl rfl)
theorem dX1_areFriends_15 : decode cX1_areFriends 15 = .ok (.iaload, 1) := dk_46 (dk_at dksX1_areFriends_0 15 rfl rfl)
theorem dX1_areFriends_16 : decode cX1_areFriends 16 = .ok (.iload_n 1, 1) := dk_27 (dk_at dksX1_areFriends_0 16 rfl rfl)
theorem dX1_areFriends_17 : decode cX1_areFriends 17 = .ok (.if_icmp .ne 7, 3) := dk_160 0 7 (dk_at dksX1_areFriends_0 17 rfl rfl)
theorem dX1_areFriends_20 : decode cX1_areFriends 20 = .ok (.iconst 1, 1) := dk_4 (dk_at dksX1_areFriends_0 20 rfl rfl)
theorem dX1_areFriends_21 : decode cX1_areFriends 21 = .ok (.goto 4, 3) := dk_167 0 4 (dk_at dksX1_areFriends_0 21 rfl rfl)
theorem dX1_areFriends_24 : decode cX1_areFriends 24 = .ok (.iconst 0, 1) := dk_3 (dk_at dksX1_areFriends_1 0 rfl rfl)
theorem dX1_areFriends_25 : decode cX1_areFriends 25 = .ok (.ireturn, 1) := dk_172 (dk_at dksX1_areFriends_1 1 rfl rfl)
abbrev cX1_tell : ByteArray := prog_1_method_4_code
def yX1_tell : MethodName := ⟨RX1, "tell", "(J)V"⟩
def dkwX1_tell_0 : List UInt8 := [42, 180, 0, 53, 42, 180, 0, 84, 31, 80, 42, 89, 180, 0, 84, 4, 96, 181, 0, 84, 177]
abbrev dktX1_tell_0 : List UInt8 := dkwX1_tell_0 ++ []
theorem dksX1_tell_0 : cX1_tell.data.toList.drop 0 = dktX1_tell_0 := by decide +kernel
theorem dX1_tell_0 : decode cX1_tell 0 = .ok (.aload_n 0, 1) := dk_42 (dk_at dksX1_tell_0 0 rfl rfl)
theorem dX1_tell_1 : decode cX1_tell 1 = .ok (.getfield 53, 3) := dk_180 0 53 (dk_at dksX1_tell_0 1 rfl rfl)
theorem dX1_tell_4 : decode cX1_tell 4 = .ok (.aload_n 0, 1) := dk_42 (dk_at dksX1_tell_0 4 rfl rfl)
theorem dX1_tell_5 : decode cX1_tell 5 = .ok (.getfield 84, 3) := dk_180 0 84 (dk_at dksX1_tell_0 5 rfl rfl)
theorem dX1_tell_8 : decode cX1_tell 8 = .ok (.lload_n 1, 1) := dk_31 (dk_at dksX1_tell_0 8 rfl rfl)
theorem dX1_tell_9 : decode cX1_tell 9 = .ok (.lastore, 1) := dk_80 (dk_at dksX1_tell_0 9 rfl rfl)
theorem dX1_tell_10 : decode cX1_tell 10 = .ok (.aload_n 0, 1) := dk_42 (dk_at dksX1_tell_0 10 rfl rfl)
theorem dX1_tell_11 : decode cX1_tell 11 = .ok (.dup, 1) := dk_89 (dk_at dksX1_tell_0 11 rfl rfl)
theorem dX1_tell_12 : decode cX1_tell 12 = .ok (.getfield 84, 3) := dk_180 0 84 (dk_at dksX1_tell_0 12 rfl rfl)
theorem dX1_tell_15 : decode cX1_tell 15 = .ok (.iconst 1, 1) := dk_4 (dk_at dksX1_tell_0 15 rfl rfl)
theorem dX1_tell_16 : decode cX1_tell 16 = .ok (.iadd, 1) := dk_96 (dk_at dksX1_tell_0 16 rfl rfl)
theorem dX1_tell_17 : decode cX1_tell 17 = .ok (.putfield 84, 3) := dk_181 0 84 (dk_at dksX1_tell_0 17 rfl rfl)
theorem dX1_tell_20 : decode cX1_tell 20 = .ok (.return_, 1) := dk_177 (dk_at dksX1_tell_0 20 rfl rfl)
abbrev cX1_tide : ByteArray := prog_1_method_39_code
def yX1_tide : MethodName := ⟨RX1, "tide", "()I"⟩
def dkwX1_tide_3 : List UInt8 := [182, 1, 54, 29, 172]
abbrev dktX1_tide_3 : List UInt8 := dkwX1_tide_3 ++ []
def dkwX1_tide_2 : List UInt8 := [181, 0, 84, 42, 27, 133, 182, 1, 54, 42, 42, 180, 0, 10, 180, 0, 239, 184, 1, 71, 28, 100, 133]
abbrev dktX1_tide_2 : List UInt8 := dkwX1_tide_2 ++ dktX1_tide_3
def dkwX1_tide_1 : List UInt8 := [42, 180, 0, 10, 180, 0, 239, 184, 1, 71, 61, 42, 42, 180, 0, 10, 182, 1, 75, 62, 42, 3]
abbrev dktX1_tide_1 : List UInt8 := dkwX1_tide_1 ++ dktX1_tide_2
def dkwX1_tide_0 : List UInt8 := [42, 42, 180, 0, 10, 182, 1, 26, 42, 42, 180, 0, 10, 42, 180, 0, 10, 180, 1, 58, 182, 1, 61, 60]
abbrev dktX1_tide_0 : List UInt8 := dkwX1_tide_0 ++ dktX1_tide_1
theorem dksX1_tide_0 : cX1_tide.data.toList.drop 0 = dktX1_tide_0 := by decide +kernel
theorem dksX1_tide_1 : cX1_tide.data.toList.drop 24 = dktX1_tide_1 := dk_seg dksX1_tide_0 24 rfl rfl
theorem dksX1_tide_2 : cX1_tide.data.toList.drop 46 = dktX1_tide_2 := dk_seg dksX1_tide_1 22 rfl rfl
theorem dksX1_tide_3 : cX1_tide.data.toList.drop 69 = dktX1_tide_3 := dk_seg dksX1_tide_2 23 rfl rfl
theorem dX1_tide_0 : decode cX1_tide 0 = .ok (.aload_n 0, 1) := dk_42 (dk_at dksX1_tide_0 0 rfl rfl)
theorem dX1_tide_1 : decode cX1_tide 1 = .ok (.aload_n 0, 1) := dk_42 (dk_at dksX1_tide_0 1 rfl rfl)
theorem dX1_tide_2 : decode cX1_tide 2 = .ok (.getfield 10, 3) := dk_180 0 10 (dk_at dksX1_tide_0 2 rfl rfl)
theorem dX1_tide_5 : decode cX1_tide 5 = .ok (.invokevirtual 282, 3) := dk_182 1 26 (dk_at dksX1_tide_0 5 rfl rfl)
theorem dX1_tide_8 : decode cX1_tide 8 = .ok (.aload_n 0, 1) := dk_42 (dk_at dksX1_tide_0 8 rfl rfl)
theorem dX1_tide_9 : decode cX1_tide 9 = .ok (.aload_n 0, 1) := dk_42 (dk_at dksX1_tide_0 9 rfl rfl)
theorem dX1_tide_10 : decode cX1_tide 10 = .ok (.getfield 10, 3) := dk_180 0 10 (dk_at dksX1_tide_0 10 rfl rfl)
theorem dX1_tide_13 : decode cX1_tide 13 = .ok (.aload_n 0, 1) := dk_42 (dk_at dksX1_tide_0 13 rfl rfl)
theorem dX1_tide_14 : decode cX1_tide 14 = .ok (.getfield 10, 3) := dk_180 0 10 (dk_at dksX1_tide_0 14 rfl rfl)
theorem dX1_tide_17 : decode cX1_tide 17 = .ok (.getfield 314, 3) := dk_180 1 58 (dk_at dksX1_tide_0 17 rfl rfl)
theorem dX1_tide_20 : decode cX1_tide 20 = .ok (.invokevirtual 317, 3) := dk_182 1 61 (dk_at dksX1_tide_0 20 rfl rfl)
theorem dX1_tide_23 : decode cX1_tide 23 = .ok (.istore_n 1, 1) := dk_60 (dk_at dksX1_tide_0 23 rfl rfl)
theorem dX1_tide_24 : decode cX1_tide 24 = .ok (.aload_n 0, 1) := dk_42 (dk_at dksX1_tide_1 0 rfl rfl)
theorem dX1_tide_25 : decode cX1_tide 25 = .ok (.getfield 10, 3) := dk_180 0 10 (dk_at dksX1_tide_1 1 rfl rfl)
theorem dX1_tide_28 : decode cX1_tide 28 = .ok (.getfield 239, 3) := dk_180 0 239 (dk_at dksX1_tide_1 4 rfl rfl)
theorem dX1_tide_31 : decode cX1_tide 31 = .ok (.invokestatic 327, 3) := dk_184 1 71 (dk_at dksX1_tide_1 7 rfl rfl)
theorem dX1_tide_34 : decode cX1_tide 34 = .ok (.istore_n 2, 1) := dk_61 (dk_at dksX1_tide_1 10 rfl rfl)
theorem dX1_tide_35 : decode cX1_tide 35 = .ok (.aload_n 0, 1) := dk_42 (dk_at dksX1_tide_1 11 rfl rfl)
theorem dX1_tide_36 : decode cX1_tide 36 = .ok (.aload_n 0, 1) := dk_42 (dk_at dksX1_tide_1 12 rfl rfl)
theorem dX1_tide_37 : decode cX1_tide 37 = .ok (.getfield 10, 3) := dk_180 0 10 (dk_at dksX1_tide_1 13 rfl rfl)
theorem dX1_tide_40 : decode cX1_tide 40 = .ok (.invokevirtual 331, 3) := dk_182 1 75 (dk_at dksX1_tide_1 16 rfl rfl)
theorem dX1_tide_43 : decode cX1_tide 43 = .ok (.istore_n 3, 1) := dk_62 (dk_at dksX1_tide_1 19 rfl rfl)
theorem dX1_tide_44 : decode cX1_tide 44 = .ok (.aload_n 0, 1) := dk_42 (dk_at dksX1_tide_1 20 rfl rfl)
theorem dX1_tide_45 : decode cX1_tide 45 = .ok (.iconst 0, 1) := dk_3 (dk_at dksX1_tide_1 21 rfl rfl)
theorem dX1_tide_46 : decode cX1_tide 46 = .ok (.putfield 84, 3) := dk_181 0 84 (dk_at dksX1_tide_2 0 rfl rfl)
theorem dX1_tide_49 : decode cX1_tide 49 = .ok (.aload_n 0, 1) := dk_42 (dk_at dksX1_tide_2 3 rfl rfl)
theorem dX1_tide_50 : decode cX1_tide 50 = .ok (.iload_n 1, 1) := dk_27 (dk_at dksX1_tide_2 4 rfl rfl)
theorem dX1_tide_51 : decode cX1_tide 51 = .ok (.i2l, 1) := dk_133 (dk_at dksX1_tide_2 5 rfl rfl)
theorem dX1_tide_52 : decode cX1_tide 52 = .ok (.invokevirtual 310, 3) := dk_182 1 54 (dk_at dksX1_tide_2 6 rfl rfl)
theorem dX1_tide_55 : decode cX1_tide 55 = .ok (.aload_n 0, 1) := dk_42 (dk_at dksX1_tide_2 9 rfl rfl)
theorem dX1_tide_56 : decode cX1_tide 56 = .ok (.aload_n 0, 1) := dk_42 (dk_at dksX1_tide_2 10 rfl rfl)
theorem dX1_tide_57 : decode cX1_tide 57 = .ok (.getfield 10, 3) := dk_180 0 10 (dk_at dksX1_tide_2 11 rfl rfl)
theorem dX1_tide_60 : decode cX1_tide 60 = .ok (.getfield 239, 3) := dk_180 0 239 (dk_at dksX1_tide_2 14 rfl rfl)
theorem dX1_tide_63 : decode cX1_tide 63 = .ok (.invokestatic 327, 3) := dk_184 1 71 (dk_at dksX1_tide_2 17 rfl rfl)
theorem dX1_tide_66 : decode cX1_tide 66 = .ok (.iload_n 2, 1) := dk_28 (dk_at dksX1_tide_2 20 rfl rfl)
theorem dX1_tide_67 : decode cX1_tide 67 = .ok (.isub, 1) := dk_100 (dk_at dksX1_tide_2 21 rfl rfl)
theorem dX1_tide_68 : decode cX1_tide 68 = .ok (.i2l, 1) := dk_133 (dk_at dksX1_tide_2 22 rfl rfl)
theorem dX1_tide_69 : decode cX1_tide 69 = .ok (.invokevirtual 310, 3) := dk_182 1 54 (dk_at dksX1_tide_3 0 rfl rfl)
theorem dX1_tide_72 : decode cX1_tide 72 = .ok (.iload_n 3, 1) := dk_29 (dk_at dksX1_tide_3 3 rfl rfl)
theorem dX1_tide_73 : decode cX1_tide 73 = .ok (.ireturn, 1) := dk_172 (dk_at dksX1_tide_3 4 rfl rfl)
abbrev cX1_levelOf : ByteArray := prog_1_method_13_code
def yX1_levelOf : MethodName := ⟨RX1, "levelOf", "(LSandKeepsSea$Beach;I)I"⟩
def dkwX1_levelOf_2 : List UInt8 := [184, 0, 206, 184, 0, 211, 172]
abbrev dktX1_levelOf_2 : List UInt8 := dkwX1_levelOf_2 ++ []
def dkwX1_levelOf_1 : List UInt8 := [167, 0, 18, 42, 180, 0, 178, 28, 43, 180, 0, 193, 184, 0, 196, 182, 0, 202, 62, 3, 17, 3, 231, 29]
abbrev dktX1_levelOf_1 : List UInt8 := dkwX1_levelOf_1 ++ dktX1_levelOf_2
def dkwX1_levelOf_0 : List UInt8 := [42, 180, 0, 178, 199, 0, 23, 16, 30, 16, 10, 42, 180, 0, 190, 104, 96, 8, 28, 16, 8, 112, 104, 96]
abbrev dktX1_levelOf_0 : List UInt8 := dkwX1_levelOf_0 ++ dktX1_levelOf_1
theorem dksX1_levelOf_0 : cX1_levelOf.data.toList.drop 0 = dktX1_levelOf_0 := by decide +kernel
theorem dksX1_levelOf_1 : cX1_levelOf.data.toList.drop 24 = dktX1_levelOf_1 := dk_seg dksX1_levelOf_0 24 rfl rfl
theorem dksX1_levelOf_2 : cX1_levelOf.data.toList.drop 48 = dktX1_levelOf_2 := dk_seg dksX1_levelOf_1 24 rfl rfl
theorem dX1_levelOf_0 : decode cX1_levelOf 0 = .ok (.aload_n 0, 1) := dk_42 (dk_at dksX1_levelOf_0 0 rfl rfl)
theorem dX1_levelOf_1 : decode cX1_levelOf 1 = .ok (.getfield 178, 3) := dk_180 0 178 (dk_at dksX1_levelOf_0 1 rfl rfl)
theorem dX1_levelOf_4 : decode cX1_levelOf 4 = .ok (.ifnonnull 23, 3) := dk_199 0 23 (dk_at dksX1_levelOf_0 4 rfl rfl)
theorem dX1_levelOf_7 : decode cX1_levelOf 7 = .ok (.bipush 30, 2) := dk_16 30 (dk_at dksX1_levelOf_0 7 rfl rfl)
theorem dX1_levelOf_9 : decode cX1_levelOf 9 = .ok (.bipush 10, 2) := dk_16 10 (dk_at dksX1_levelOf_0 9 rfl rfl)
theorem dX1_levelOf_11 : decode cX1_levelOf 11 = .ok (.aload_n 0, 1) := dk_42 (dk_at dksX1_levelOf_0 11 rfl rfl)
theorem dX1_levelOf_12 : decode cX1_levelOf 12 = .ok (.getfield 190, 3) := dk_180 0 190 (dk_at dksX1_levelOf_0 12 rfl rfl)
theorem dX1_levelOf_15 : decode cX1_levelOf 15 = .ok (.imul, 1) := dk_104 (dk_at dksX1_levelOf_0 15 rfl rfl)
theorem dX1_levelOf_16 : decode cX1_levelOf 16 = .ok (.iadd, 1) := dk_96 (dk_at dksX1_levelOf_0 16 rfl rfl)
theorem dX1_levelOf_17 : decode cX1_levelOf 17 = .ok (.iconst 5, 1) := dk_8 (dk_at dksX1_levelOf_0 17 rfl rfl)
theorem dX1_levelOf_18 : decode cX1_levelOf 18 = .ok (.iload_n 2, 1) := dk_28 (dk_at dksX1_levelOf_0 18 rfl rfl)
theorem dX1_levelOf_19 : decode cX1_levelOf 19 = .ok (.bipush 8, 2) := dk_16 8 (dk_at dksX1_levelOf_0 19 rfl rfl)
theorem dX1_levelOf_21 : decode cX1_levelOf 21 = .ok (.irem, 1) := dk_112 (dk_at dksX1_levelOf_0 21 rfl rfl)
theorem dX1_levelOf_22 : decode cX1_levelOf 22 = .ok (.imul, 1) := dk_104 (dk_at dksX1_levelOf_0 22 rfl rfl)
theorem dX1_levelOf_23 : decode cX1_levelOf 23 = .ok (.iadd, 1) := dk_96 (dk_at dksX1_levelOf_0 23 rfl rfl)
theorem dX1_levelOf_24 : decode cX1_levelOf 24 = .ok (.goto 18, 3) := dk_167 0 18 (dk_at dksX1_levelOf_1 0 rfl rfl)
theorem dX1_levelOf_27 : decode cX1_levelOf 27 = .ok (.aload_n 0, 1) := dk_42 (dk_at dksX1_levelOf_1 3 rfl rfl)
theorem dX1_levelOf_28 : decode cX1_levelOf 28 = .ok (.getfield 178, 3) := dk_180 0 178 (dk_at dksX1_levelOf_1 4 rfl rfl)
theorem dX1_levelOf_31 : decode cX1_levelOf 31 = .ok (.iload_n 2, 1) := dk_28 (dk_at dksX1_levelOf_1 7 rfl rfl)
theorem dX1_levelOf_32 : decode cX1_levelOf 32 = .ok (.aload_n 1, 1) := dk_43 (dk_at dksX1_levelOf_1 8 rfl rfl)
theorem dX1_levelOf_33 : decode cX1_levelOf 33 = .ok (.getfield 193, 3) := dk_180 0 193 (dk_at dksX1_levelOf_1 9 rfl rfl)
theorem dX1_levelOf_36 : decode cX1_levelOf 36 = .ok (.invokestatic 196, 3) := dk_184 0 196 (dk_at dksX1_levelOf_1 12 rfl rfl)
theorem dX1_levelOf_39 : decode cX1_levelOf 39 = .ok (.invokevirtual 202, 3) := dk_182 0 202 (dk_at dksX1_levelOf_1 15 rfl rfl)
theorem dX1_levelOf_42 : decode cX1_levelOf 42 = .ok (.istore_n 3, 1) := dk_62 (dk_at dksX1_levelOf_1 18 rfl rfl)
theorem dX1_levelOf_43 : decode cX1_levelOf 43 = .ok (.iconst 0, 1) := dk_3 (dk_at dksX1_levelOf_1 19 rfl rfl)
theorem dX1_levelOf_44 : decode cX1_levelOf 44 = .ok (.sipush 999, 3) := dk_17 3 231 (dk_at dksX1_levelOf_1 20 rfl rfl)
theorem dX1_levelOf_47 : decode cX1_levelOf 47 = .ok (.iload_n 3, 1) := dk_29 (dk_at dksX1_levelOf_1 23 rfl rfl)
theorem dX1_levelOf_48 : decode cX1_levelOf 48 = .ok (.invokestatic 206, 3) := dk_184 0 206 (dk_at dksX1_levelOf_2 0 rfl rfl)
theorem dX1_levelOf_51 : decode cX1_levelOf 51 = .ok (.invokestatic 211, 3) := dk_184 0 211 (dk_at dksX1_levelOf_2 3 rfl rfl)
theorem dX1_levelOf_54 : decode cX1_levelOf 54 = .ok (.ireturn, 1) := dk_172 (dk_at dksX1_levelOf_2 6 rfl rfl)
abbrev cX1_goTide : ByteArray := prog_1_method_38_code
def yX1_goTide : MethodName := ⟨RX1, "goTide", "(LSandKeepsSea$Beach;)I"⟩
def dkwX1_goTide_7 : List UInt8 := [180, 0, 30, 182, 1, 67, 43, 89, 180, 1, 58, 4, 96, 181, 1, 58, 29, 172]
abbrev dktX1_goTide_7 : List UInt8 := dkwX1_goTide_7 ++ []
def dkwX1_goTide_6 : List UInt8 := [132, 4, 1, 167, 255, 133, 43, 89, 180, 0, 193, 29, 2, 130, 126, 181, 0, 193, 43, 42, 180, 0, 42, 42]
abbrev dktX1_goTide_6 : List UInt8 := dkwX1_goTide_6 ++ dktX1_goTide_7
def dkwX1_goTide_5 : List UInt8 := [54, 5, 43, 180, 0, 214, 21, 4, 3, 43, 180, 0, 214, 21, 4, 46, 21, 5, 100, 184, 0, 211, 79]
abbrev dktX1_goTide_5 : List UInt8 := dkwX1_goTide_5 ++ dktX1_goTide_6
def dkwX1_goTide_4 : List UInt8 := [104, 100, 184, 0, 211, 43, 180, 0, 193, 21, 4, 184, 0, 225, 153, 0, 8, 16, 8, 167, 0, 4, 7, 108]
abbrev dktX1_goTide_4 : List UInt8 := dkwX1_goTide_4 ++ dktX1_goTide_5
def dkwX1_goTide_3 : List UInt8 := [180, 0, 214, 21, 4, 92, 46, 5, 108, 79, 167, 0, 61, 3, 28, 16, 10, 42, 180, 0, 26, 21, 4, 46]
abbrev dktX1_goTide_3 : List UInt8 := dkwX1_goTide_3 ++ dktX1_goTide_4
def dkwX1_goTide_2 : List UInt8 := [43, 180, 0, 239, 21, 4, 46, 28, 96, 42, 43, 21, 4, 182, 0, 245, 100, 184, 0, 206, 79, 43]
abbrev dktX1_goTide_2 : List UInt8 := dkwX1_goTide_2 ++ dktX1_goTide_3
def dkwX1_goTide_1 : List UInt8 := [180, 0, 42, 162, 0, 120, 29, 21, 4, 184, 0, 225, 153, 0, 47, 43, 180, 0, 239, 21, 4, 17, 3, 231]
abbrev dktX1_goTide_1 : List UInt8 := dkwX1_goTide_1 ++ dktX1_goTide_2
def dkwX1_goTide_0 : List UInt8 := [42, 43, 43, 180, 1, 58, 182, 1, 61, 61, 42, 43, 28, 182, 1, 64, 62, 3, 54, 4, 21, 4, 42]
abbrev dktX1_goTide_0 : List UInt8 := dkwX1_goTide_0 ++ dktX1_goTide_1
theorem dksX1_goTide_0 : cX1_goTide.data.toList.drop 0 = dktX1_goTide_0 := by decide +kernel
theorem dksX1_goTide_1 : cX1_goTide.data.toList.drop 23 = dktX1_goTide_1 := dk_seg dksX1_goTide_0 23 rfl rfl
theorem dksX1_goTide_2 : cX1_goTide.data.toList.drop 47 = dktX1_goTide_2 := dk_seg dksX1_goTide_1 24 rfl rfl
theorem dksX1_goTide_3 : cX1_goTide.data.toList.drop 69 = dktX1_goTide_3 := dk_seg dksX1_goTide_2 22 rfl rfl
theorem dksX1_goTide_4 : cX1_goTide.data.toList.drop 93 = dktX1_goTide_4 := dk_seg dksX1_goTide_3 24 rfl rfl
theorem dksX1_goTide_5 : cX1_goTide.data.toList.drop 117 = dktX1_goTide_5 := dk_seg dksX1_goTide_4 24 rfl rfl
theorem dksX1_goTide_6 : cX1_goTide.data.toList.drop 140 = dktX1_goTide_6 := dk_seg dksX1_goTide_5 23 rfl rfl
theorem dksX1_goTide_7 : cX1_goTide.data.toList.drop 164 = dktX1_goTide_7 := dk_seg dksX1_goTide_6 24 rfl rfl
theorem dX1_goTide_0 : decode cX1_goTide 0 = .ok (.aload_n 0, 1) := dk_42 (dk_at dksX1_goTide_0 0 rfl rfl)
theorem dX1_goTide_1 : decode cX1_goTide 1 = .ok (.aload_n 1, 1) := dk_43 (dk_at dksX1_goTide_0 1 rfl rfl)
theorem dX1_goTide_2 : decode cX1_goTide 2 = .ok (.aload_n 1, 1) := dk_43 (dk_at dksX1_goTide_0 2 rfl rfl)
theorem dX1_goTide_3 : decode cX1_goTide 3 = .ok (.getfield 314, 3) := dk_180 1 58 (dk_at dksX1_goTide_0 3 rfl rfl)
theorem dX1_goTide_6 : decode cX1_goTide 6 = .ok (.invokevirtual 317, 3) := dk_182 1 61 (dk_at dksX1_goTide_0 6 rfl rfl)
theorem dX1_goTide_9 : decode cX1_goTide 9 = .ok (.istore_n 2, 1) := dk_61 (dk_at dksX1_goTide_0 9 rfl rfl)
theorem dX1_goTide_10 : decode cX1_goTide 10 = .ok (.aload_n 0, 1) := dk_42 (dk_at dksX1_goTide_0 10 rfl rfl)
theorem dX1_goTide_11 : decode cX1_goTide 11 = .ok (.aload_n 1, 1) := dk_43 (dk_at dksX1_goTide_0 11 rfl rfl)
theorem dX1_goTide_12 : decode cX1_goTide 12 = .ok (.iload_n 2, 1) := dk_28 (dk_at dksX1_goTide_0 12 rfl rfl)
theorem dX1_goTide_13 : decode cX1_goTide 13 = .ok (.invokevirtual 320, 3) := dk_182 1 64 (dk_at dksX1_goTide_0 13 rfl rfl)
theorem dX1_goTide_16 : decode cX1_goTide 16 = .ok (.istore_n 3, 1) := dk_62 (dk_at dksX1_goTide_0 16 rfl rfl)
theorem dX1_goTide_17 : decode cX1_goTide 17 = .ok (.iconst 0, 1) := dk_3 (dk_at dksX1_goTide_0 17 rfl rfl)
theorem dX1_goTide_18 : decode cX1_goTide 18 = .ok (.istore 4, 2) := dk_54 4 (dk_at dksX1_goTide_0 18 rfl rfl)
theorem dX1_goTide_20 : decode cX1_goTide 20 = .ok (.iload 4, 2) := dk_21 4 (dk_at dksX1_goTide_0 20 rfl rfl)
theorem dX1_goTide_22 : decode cX1_goTide 22 = .ok (.aload_n 0, 1) := dk_42 (dk_at dksX1_goTide_0 22 rfl rfl)
theorem dX1_goTide_23 : decode cX1_goTide 23 = .ok (.getfield 42, 3) := dk_180 0 42 (dk_at dksX1_goTide_1 0 rfl rfl)
theorem dX1_goTide_26 : decode cX1_goTide 26 = .ok (.if_icmp .ge 120, 3) := dk_162 0 120 (dk_at dksX1_goTide_1 3 rfl rfl)
theorem dX1_goTide_29 : decode cX1_goTide 29 = .ok (.iload_n 3, 1) := dk_29 (dk_at dksX1_goTide_1 6 rfl rfl)
theorem dX1_goTide_30 : decode cX1_goTide 30 = .ok (.iload 4, 2) := dk_21 4 (dk_at dksX1_goTide_1 7 rfl rfl)
theorem dX1_goTide_32 : decode cX1_goTide 32 = .ok (.invokestatic 225, 3) := dk_184 0 225 (dk_at dksX1_goTide_1 9 rfl rfl)
theorem dX1_goTide_35 : decode cX1_goTide 35 = .ok (.ifCond .eq 47, 3) := dk_153 0 47 (dk_at dksX1_goTide_1 12 rfl rfl)
theorem dX1_goTide_38 : decode cX1_goTide 38 = .ok (.aload_n 1, 1) := dk_43 (dk_at dksX1_goTide_1 15 rfl rfl)
theorem dX1_goTide_39 : decode cX1_goTide 39 = .ok (.getfield 239, 3) := dk_180 0 239 (dk_at dksX1_goTide_1 16 rfl rfl)
theorem dX1_goTide_42 : decode cX1_goTide 42 = .ok (.iload 4, 2) := dk_21 4 (dk_at dksX1_goTide_1 19 rfl rfl)
theorem dX1_goTide_44 : decode cX1_goTide 44 = .ok (.sipush 999, 3) := dk_17 3 231 (dk_at dksX1_goTide_1 21 rfl rfl)
theorem dX1_goTide_47 : decode cX1_goTide 47 = .ok (.aload_n 1, 1) := dk_43 (dk_at dksX1_goTide_2 0 rfl rfl)
theorem dX1_goTide_48 : decode cX1_goTide 48 = .ok (.getfield 239, 3) := dk_180 0 239 (dk_at dksX1_goTide_2 1 rfl rfl)
theorem dX1_goTide_51 : decode cX1_goTide 51 = .ok (.iload 4, 2) := dk_21 4 (dk_at dksX1_goTide_2 4 rfl rfl)
theorem dX1_goTide_53 : decode cX1_goTide 53 = .ok (.iaload, 1) := dk_46 (dk_at dksX1_goTide_2 6 rfl rfl)
theorem dX1_goTide_54 : decode cX1_goTide 54 = .ok (.iload_n 2, 1) := dk_28 (dk_at dksX1_goTide_2 7 rfl rfl)
theorem dX1_goTide_55 : decode cX1_goTide 55 = .ok (.iadd, 1) := dk_96 (dk_at dksX1_goTide_2 8 rfl rfl)
theorem dX1_goTide_56 : decode cX1_goTide 56 = .ok (.aload_n 0, 1) := dk_42 (dk_at dksX1_goTide_2 9 rfl rfl)
theorem dX1_goTide_57 : decode cX1_goTide 57 = .ok (.aload_n 1, 1) := dk_43 (dk_at dksX1_goTide_2 10 rfl rfl)
theorem dX1_goTide_58 : decode cX1_goTide 58 = .ok (.iload 4, 2) := dk_21 4 (dk_at dksX1_goTide_2 11 rfl rfl)
theorem dX1_goTide_60 : decode cX1_goTide 60 = .ok (.invokevirtual 245, 3) := dk_182 0 245 (dk_at dksX1_goTide_2 13 rfl rfl)
theorem dX1_goTide_63 : decode cX1_goTide 63 = .ok (.isub, 1) := dk_100 (dk_at dksX1_goTide_2 16 rfl rfl)
theorem dX1_goTide_64 : decode cX1_goTide 64 = .ok (.invokestatic 206, 3) := dk_184 0 206 (dk_at dksX1_goTide_2 17 rfl rfl)
theorem dX1_goTide_67 : decode cX1_goTide 67 = .ok (.iastore, 1) := dk_79 (dk_at dksX1_goTide_2 20 rfl rfl)
theorem dX1_goTide_68 : decode cX1_goTide 68 = .ok (.aload_n 1, 1) := dk_43 (dk_at dksX1_goTide_2 21 rfl rfl)
theorem dX1_goTide_69 : decode cX1_goTide 69 = .ok (.getfield 214, 3) := dk_180 0 214 (dk_at dksX1_goTide_3 0 rfl rfl)
theorem dX1_goTide_72 : decode cX1_goTide 72 = .ok (.iload 4, 2) := dk_21 4 (dk_at dksX1_goTide_3 3 rfl rfl)
theorem dX1_goTide_74 : decode cX1_goTide 74 = .ok (.dup2, 1) := dk_92 (dk_at dksX1_goTide_3 5 rfl rfl)
theorem dX1_goTide_75 : decode cX1_goTide 75 = .ok (.iaload, 1) := dk_46 (dk_at dksX1_goTide_3 6 rfl rfl)
theorem dX1_goTide_76 : decode cX1_goTide 76 = .ok (.iconst 2, 1) := dk_5 (dk_at dksX1_goTide_3 7 rfl rfl)
theorem dX1_goTide_77 : decode cX1_goTide 77 = .ok (.idiv, 1) := dk_108 (dk_at dksX1_goTide_3 8 rfl rfl)
theorem dX1_goTide_78 : decode cX1_goTide 78 = .ok (.iastore, 1) := dk_79 (dk_at dksX1_goTide_3 9 rfl rfl)
theorem dX1_goTide_79 : decode cX1_goTide 79 = .ok (.goto 61, 3) := dk_167 0 61 (dk_at dksX1_goTide_3 10 rfl rfl)
theorem dX1_goTide_82 : decode cX1_goTide 82 = .ok (.iconst 0, 1) := dk_3 (dk_at dksX1_goTide_3 13 rfl rfl)
theorem dX1_goTide_83 : decode cX1_goTide 83 = .ok (.iload_n 2, 1) := dk_28 (dk_at dksX1_goTide_3 14 rfl rfl)
theorem dX1_goTide_84 : decode cX1_goTide 84 = .ok (.bipush 10, 2) := dk_16 10 (dk_at dksX1_goTide_3 15 rfl rfl)
theorem dX1_goTide_86 : decode cX1_goTide 86 = .ok (.aload_n 0, 1) := dk_42 (dk_at dksX1_goTide_3 17 rfl rfl)
theorem dX1_goTide_87 : decode cX1_goTide 87 = .ok (.getfield 26, 3) := dk_180 0 26 (dk_at dksX1_goTide_3 18 rfl rfl)
theorem dX1_goTide_90 : decode cX1_goTide 90 = .ok (.iload 4, 2) := dk_21 4 (dk_at dksX1_goTide_3 21 rfl rfl)
theorem dX1_goTide_92 : decode cX1_goTide 92 = .ok (.iaload, 1) := dk_46 (dk_at dksX1_goTide_3 23 rfl rfl)
theorem dX1_goTide_93 : decode cX1_goTide 93 = .ok (.imul, 1) := dk_104 (dk_at dksX1_goTide_4 0 rfl rfl)
theorem dX1_goTide_94 : decode cX1_goTide 94 = .ok (.isub, 1) := dk_100 (dk_at dksX1_goTide_4 1 rfl rfl)
theorem dX1_goTide_95 : decode cX1_goTide 95 = .ok (.invokestatic 211, 3) := dk_184 0 211 (dk_at dksX1_goTide_4 2 rfl rfl)
theorem dX1_goTide_98 : decode cX1_goTide 98 = .ok (.aload_n 1, 1) := dk_43 (dk_at dksX1_goTide_4 5 rfl rfl)
theorem dX1_goTide_99 : decode cX1_goTide 99 = .ok (.getfield 193, 3) := dk_180 0 193 (dk_at dksX1_goTide_4 6 rfl rfl)
theorem dX1_goTide_102 : decode cX1_goTide 102 = .ok (.iload 4, 2) := dk_21 4 (dk_at dksX1_goTide_4 9 rfl rfl)
theorem dX1_goTide_104 : decode cX1_goTide 104 = .ok (.invokestatic 225, 3) := dk_184 0 225 (dk_at dksX1_goTide_4 11 rfl rfl)
theorem dX1_goTide_107 : decode cX1_goTide 107 = .ok (.ifCond .eq 8, 3) := dk_153 0 8 (dk_at dksX1_goTide_4 14 rfl rfl)
theorem dX1_goTide_110 : decode cX1_goTide 110 = .ok (.bipush 8, 2) := dk_16 8 (dk_at dksX1_goTide_4 17 rfl rfl)
theorem dX1_goTide_112 : decode cX1_goTide 112 = .ok (.goto 4, 3) := dk_167 0 4 (dk_at dksX1_goTide_4 19 rfl rfl)
theorem dX1_goTide_115 : decode cX1_goTide 115 = .ok (.iconst 4, 1) := dk_7 (dk_at dksX1_goTide_4 22 rfl rfl)
theorem dX1_goTide_116 : decode cX1_goTide 116 = .ok (.idiv, 1) := dk_108 (dk_at dksX1_goTide_4 23 rfl rfl)
theorem dX1_goTide_117 : decode cX1_goTide 117 = .ok (.istore 5, 2) := dk_54 5 (dk_at dksX1_goTide_5 0 rfl rfl)
theorem dX1_goTide_119 : decode cX1_goTide 119 = .ok (.aload_n 1, 1) := dk_43 (dk_at dksX1_goTide_5 2 rfl rfl)
theorem dX1_goTide_120 : decode cX1_goTide 120 = .ok (.getfield 214, 3) := dk_180 0 214 (dk_at dksX1_goTide_5 3 rfl rfl)
theorem dX1_goTide_123 : decode cX1_goTide 123 = .ok (.iload 4, 2) := dk_21 4 (dk_at dksX1_goTide_5 6 rfl rfl)
theorem dX1_goTide_125 : decode cX1_goTide 125 = .ok (.iconst 0, 1) := dk_3 (dk_at dksX1_goTide_5 8 rfl rfl)
theorem dX1_goTide_126 : decode cX1_goTide 126 = .ok (.aload_n 1, 1) := dk_43 (dk_at dksX1_goTide_5 9 rfl rfl)
theorem dX1_goTide_127 : decode cX1_goTide 127 = .ok (.getfield 214, 3) := dk_180 0 214 (dk_at dksX1_goTide_5 10 rfl rfl)
theorem dX1_goTide_130 : decode cX1_goTide 130 = .ok (.iload 4, 2) := dk_21 4 (dk_at dksX1_goTide_5 13 rfl rfl)
theorem dX1_goTide_132 : decode cX1_goTide 132 = .ok (.iaload, 1) := dk_46 (dk_at dksX1_goTide_5 15 rfl rfl)
theorem dX1_goTide_133 : decode cX1_goTide 133 = .ok (.iload 5, 2) := dk_21 5 (dk_at dksX1_goTide_5 16 rfl rfl)
theorem dX1_goTide_135 : decode cX1_goTide 135 = .ok (.isub, 1) := dk_100 (dk_at dksX1_goTide_5 18 rfl rfl)
theorem dX1_goTide_136 : decode cX1_goTide 136 = .ok (.invokestatic 211, 3) := dk_184 0 211 (dk_at dksX1_goTide_5 19 rfl rfl)
theorem dX1_goTide_139 : decode cX1_goTide 139 = .ok (.iastore, 1) := dk_79 (dk_at dksX1_goTide_5 22 rfl rfl)
theorem dX1_goTide_140 : decode cX1_goTide 140 = .ok (.iinc 4 1, 3) := dk_132 4 1 (dk_at dksX1_goTide_6 0 rfl rfl)
theorem dX1_goTide_143 : decode cX1_goTide 143 = .ok (.goto (-123), 3) := dk_167 255 133 (dk_at dksX1_goTide_6 3 rfl rfl)
theorem dX1_goTide_146 : decode cX1_goTide 146 = .ok (.aload_n 1, 1) := dk_43 (dk_at dksX1_goTide_6 6 rfl rfl)
theorem dX1_goTide_147 : decode cX1_goTide 147 = .ok (.dup, 1) := dk_89 (dk_at dksX1_goTide_6 7 rfl rfl)
theorem dX1_goTide_148 : decode cX1_goTide 148 = .ok (.getfield 193, 3) := dk_180 0 193 (dk_at dksX1_goTide_6 8 rfl rfl)
theorem dX1_goTide_151 : decode cX1_goTide 151 = .ok (.iload_n 3, 1) := dk_29 (dk_at dksX1_goTide_6 11 rfl rfl)
theorem dX1_goTide_152 : decode cX1_goTide 152 = .ok (.iconst (-1), 1) := dk_2 (dk_at dksX1_goTide_6 12 rfl rfl)
theorem dX1_goTide_153 : decode cX1_goTide 153 = .ok (.ixor, 1) := dk_130 (dk_at dksX1_goTide_6 13 rfl rfl)
theorem dX1_goTide_154 : decode cX1_goTide 154 = .ok (.iand, 1) := dk_126 (dk_at dksX1_goTide_6 14 rfl rfl)
theorem dX1_goTide_155 : decode cX1_goTide 155 = .ok (.putfield 193, 3) := dk_181 0 193 (dk_at dksX1_goTide_6 15 rfl rfl)
theorem dX1_goTide_158 : decode cX1_goTide 158 = .ok (.aload_n 1, 1) := dk_43 (dk_at dksX1_goTide_6 18 rfl rfl)
theorem dX1_goTide_159 : decode cX1_goTide 159 = .ok (.aload_n 0, 1) := dk_42 (dk_at dksX1_goTide_6 19 rfl rfl)
theorem dX1_goTide_160 : decode cX1_goTide 160 = .ok (.getfield 42, 3) := dk_180 0 42 (dk_at dksX1_goTide_6 20 rfl rfl)
theorem dX1_goTide_163 : decode cX1_goTide 163 = .ok (.aload_n 0, 1) := dk_42 (dk_at dksX1_goTide_6 23 rfl rfl)
theorem dX1_goTide_164 : decode cX1_goTide 164 = .ok (.getfield 30, 3) := dk_180 0 30 (dk_at dksX1_goTide_7 0 rfl rfl)
theorem dX1_goTide_167 : decode cX1_goTide 167 = .ok (.invokevirtual 323, 3) := dk_182 1 67 (dk_at dksX1_goTide_7 3 rfl rfl)
theorem dX1_goTide_170 : decode cX1_goTide 170 = .ok (.aload_n 1, 1) := dk_43 (dk_at dksX1_goTide_7 6 rfl rfl)
theorem dX1_goTide_171 : decode cX1_goTide 171 = .ok (.dup, 1) := dk_89 (dk_at dksX1_goTide_7 7 rfl rfl)
theorem dX1_goTide_172 : decode cX1_goTide 172 = .ok (.getfield 314, 3) := dk_180 1 58 (dk_at dksX1_goTide_7 8 rfl rfl)
theorem dX1_goTide_175 : decode cX1_goTide 175 = .ok (.iconst 1, 1) := dk_4 (dk_at dksX1_goTide_7 11 rfl rfl)
theorem dX1_goTide_176 : decode cX1_goTide 176 = .ok (.iadd, 1) := dk_96 (dk_at dksX1_goTide_7 12 rfl rfl)
theorem dX1_goTide_177 : decode cX1_goTide 177 = .ok (.putfield 314, 3) := dk_181 1 58 (dk_at dksX1_goTide_7 13 rfl rfl)
theorem dX1_goTide_180 : decode cX1_goTide 180 = .ok (.iload_n 3, 1) := dk_29 (dk_at dksX1_goTide_7 16 rfl rfl)
theorem dX1_goTide_181 : decode cX1_goTide 181 = .ok (.ireturn, 1) := dk_172 (dk_at dksX1_goTide_7 17 rfl rfl)
abbrev cX1_below : ByteArray := prog_1_method_37_code
def yX1_below : MethodName := ⟨RX1, "below", "(LSandKeepsSea$Beach;I)I"⟩
def dkwX1_below_1 : List UInt8 := [164, 0, 10, 4, 21, 4, 120, 167, 0, 4, 3, 128, 62, 132, 4, 1, 167, 255, 222, 29, 172]
abbrev dktX1_below_1 : List UInt8 := dkwX1_below_1 ++ []
def dkwX1_below_0 : List UInt8 := [3, 62, 3, 54, 4, 21, 4, 42, 180, 0, 42, 162, 0, 31, 29, 28, 42, 43, 21, 4, 182, 0, 245]
abbrev dktX1_below_0 : List UInt8 := dkwX1_below_0 ++ dktX1_below_1
theorem dksX1_below_0 : cX1_below.data.toList.drop 0 = dktX1_below_0 := by decide +kernel
theorem dksX1_below_1 : cX1_below.data.toList.drop 23 = dktX1_below_1 := dk_seg dksX1_below_0 23 rfl rfl
theorem dX1_below_0 : decode cX1_below 0 = .ok (.iconst 0, 1) := dk_3 (dk_at dksX1_below_0 0 rfl rfl)
theorem dX1_below_1 : decode cX1_below 1 = .ok (.istore_n 3, 1) := dk_62 (dk_at dksX1_below_0 1 rfl rfl)
theorem dX1_below_2 : decode cX1_below 2 = .ok (.iconst 0, 1) := dk_3 (dk_at dksX1_below_0 2 rfl rfl)
theorem dX1_below_3 : decode cX1_below 3 = .ok (.istore 4, 2) := dk_54 4 (dk_at dksX1_below_0 3 rfl rfl)
theorem dX1_below_5 : decode cX1_below 5 = .ok (.iload 4, 2) := dk_21 4 (dk_at dksX1_below_0 5 rfl rfl)
theorem dX1_below_7 : decode cX1_below 7 = .ok (.aload_n 0, 1) := dk_42 (dk_at dksX1_below_0 7 rfl rfl)
theorem dX1_below_8 : decode cX1_below 8 = .ok (.getfield 42, 3) := dk_180 0 42 (dk_at dksX1_below_0 8 rfl rfl)
theorem dX1_below_11 : decode cX1_below 11 = .ok (.if_icmp .ge 31, 3) := dk_162 0 31 (dk_at dksX1_below_0 11 rfl rfl)
theorem dX1_below_14 : decode cX1_below 14 = .ok (.iload_n 3, 1) := dk_29 (dk_at dksX1_below_0 14 rfl rfl)
theorem dX1_below_15 : decode cX1_below 15 = .ok (.iload_n 2, 1) := dk_28 (dk_at dksX1_below_0 15 rfl rfl)
theorem dX1_below_16 : decode cX1_below 16 = .ok (.aload_n 0, 1) := dk_42 (dk_at dksX1_below_0 16 rfl rfl)
theorem dX1_below_17 : decode cX1_below 17 = .ok (.aload_n 1, 1) := dk_43 (dk_at dksX1_below_0 17 rfl rfl)
theorem dX1_below_18 : decode cX1_below 18 = .ok (.iload 4, 2) := dk_21 4 (dk_at dksX1_below_0 18 rfl rfl)
theorem dX1_below_20 : decode cX1_below 20 = .ok (.invokevirtual 245, 3) := dk_182 0 245 (dk_at dksX1_below_0 20 rfl rfl)
theorem dX1_below_23 : decode cX1_below 23 = .ok (.if_icmp .le 10, 3) := dk_164 0 10 (dk_at dksX1_below_1 0 rfl rfl)
theorem dX1_below_26 : decode cX1_below 26 = .ok (.iconst 1, 1) := dk_4 (dk_at dksX1_below_1 3 rfl rfl)
theorem dX1_below_27 : decode cX1_below 27 = .ok (.iload 4, 2) := dk_21 4 (dk_at dksX1_below_1 4 rfl rfl)
theorem dX1_below_29 : decode cX1_below 29 = .ok (.ishl, 1) := dk_120 (dk_at dksX1_below_1 6 rfl rfl)
theorem dX1_below_30 : decode cX1_below 30 = .ok (.goto 4, 3) := dk_167 0 4 (dk_at dksX1_below_1 7 rfl rfl)
theorem dX1_below_33 : decode cX1_below 33 = .ok (.iconst 0, 1) := dk_3 (dk_at dksX1_below_1 10 rfl rfl)
theorem dX1_below_34 : decode cX1_below 34 = .ok (.ior, 1) := dk_128 (dk_at dksX1_below_1 11 rfl rfl)
theorem dX1_below_35 : decode cX1_below 35 = .ok (.istore_n 3, 1) := dk_62 (dk_at dksX1_below_1 12 rfl rfl)
theorem dX1_below_36 : decode cX1_below 36 = .ok (.iinc 4 1, 3) := dk_132 4 1 (dk_at dksX1_below_1 13 rfl rfl)
theorem dX1_below_39 : decode cX1_below 39 = .ok (.goto (-34), 3) := dk_167 255 222 (dk_at dksX1_below_1 16 rfl rfl)
theorem dX1_below_42 : decode cX1_below 42 = .ok (.iload_n 3, 1) := dk_29 (dk_at dksX1_below_1 19 rfl rfl)
theorem dX1_below_43 : decode cX1_below 43 = .ok (.ireturn, 1) := dk_172 (dk_at dksX1_below_1 20 rfl rfl)
abbrev cX1_topOf : ByteArray := prog_1_method_14_code
def yX1_topOf : MethodName := ⟨RX1, "topOf", "(LSandKeepsSea$Beach;I)I"⟩
def dkwX1_topOf_0 : List UInt8 := [16, 10, 42, 180, 0, 26, 28, 46, 104, 43, 180, 0, 214, 28, 46, 96, 172]
abbrev dktX1_topOf_0 : List UInt8 := dkwX1_topOf_0 ++ []
theorem dksX1_topOf_0 : cX1_topOf.data.toList.drop 0 = dktX1_topOf_0 := by decide +kernel
theorem dX1_topOf_0 : decode cX1_topOf 0 = .ok (.bipush 10, 2) := dk_16 10 (dk_at dksX1_topOf_0 0 rfl rfl)
theorem dX1_topOf_2 : decode cX1_topOf 2 = .ok (.aload_n 0, 1) := dk_42 (dk_at dksX1_topOf_0 2 rfl rfl)
theorem dX1_topOf_3 : decode cX1_topOf 3 = .ok (.getfield 26, 3) := dk_180 0 26 (dk_at dksX1_topOf_0 3 rfl rfl)
theorem dX1_topOf_6 : decode cX1_topOf 6 = .ok (.iload_n 2, 1) := dk_28 (dk_at dksX1_topOf_0 6 rfl rfl)
theorem dX1_topOf_7 : decode cX1_topOf 7 = .ok (.iaload, 1) := dk_46 (dk_at dksX1_topOf_0 7 rfl rfl)
theorem dX1_topOf_8 : decode cX1_topOf 8 = .ok (.imul, 1) := dk_104 (dk_at dksX1_topOf_0 8 rfl rfl)
theorem dX1_topOf_9 : decode cX1_topOf 9 = .ok (.aload_n 1, 1) := dk_43 (dk_at dksX1_topOf_0 9 rfl rfl)
theorem dX1_topOf_10 : decode cX1_topOf 10 = .ok (.getfield 214, 3) := dk_180 0 214 (dk_at dksX1_topOf_0 10 rfl rfl)
theorem dX1_topOf_13 : decode cX1_topOf 13 = .ok (.iload_n 2, 1) := dk_28 (dk_at dksX1_topOf_0 13 rfl rfl)
theorem dX1_topOf_14 : decode cX1_topOf 14 = .ok (.iaload, 1) := dk_46 (dk_at dksX1_topOf_0 14 rfl rfl)
theorem dX1_topOf_15 : decode cX1_topOf 15 = .ok (.iadd, 1) := dk_96 (dk_at dksX1_topOf_0 15 rfl rfl)
theorem dX1_topOf_16 : decode cX1_topOf 16 = .ok (.ireturn, 1) := dk_172 (dk_at dksX1_topOf_0 16 rfl rfl)
abbrev cX1_pump : ByteArray := prog_1_method_40_code
def yX1_pump : MethodName := ⟨RX1, "pump", "(I)I"⟩
def dkwX1_pump_3 : List UInt8 := [182, 1, 80, 184, 0, 196, 172]
abbrev dktX1_pump_3 : List UInt8 := dkwX1_pump_3 ++ []
def dkwX1_pump_2 : List UInt8 := [28, 46, 27, 100, 184, 0, 211, 79, 132, 2, 1, 167, 255, 221, 42, 180, 0, 10, 42, 180, 0, 42]
abbrev dktX1_pump_2 : List UInt8 := dkwX1_pump_2 ++ dktX1_pump_3
def dkwX1_pump_1 : List UInt8 := [28, 42, 180, 0, 42, 162, 0, 33, 42, 180, 0, 10, 180, 0, 239, 28, 3, 42, 180, 0, 10, 180, 0, 239]
abbrev dktX1_pump_1 : List UInt8 := dkwX1_pump_1 ++ dktX1_pump_2
def dkwX1_pump_0 : List UInt8 := [27, 133, 10, 20, 1, 78, 184, 0, 87, 154, 0, 5, 2, 172, 42, 42, 180, 0, 10, 182, 1, 26, 3, 61]
abbrev dktX1_pump_0 : List UInt8 := dkwX1_pump_0 ++ dktX1_pump_1
theorem dksX1_pump_0 : cX1_pump.data.toList.drop 0 = dktX1_pump_0 := by decide +kernel
theorem dksX1_pump_1 : cX1_pump.data.toList.drop 24 = dktX1_pump_1 := dk_seg dksX1_pump_0 24 rfl rfl
theorem dksX1_pump_2 : cX1_pump.data.toList.drop 48 = dktX1_pump_2 := dk_seg dksX1_pump_1 24 rfl rfl
theorem dksX1_pump_3 : cX1_pump.data.toList.drop 70 = dktX1_pump_3 := dk_seg dksX1_pump_2 22 rfl rfl
theorem dX1_pump_0 : decode cX1_pump 0 = .ok (.iload_n 1, 1) := dk_27 (dk_at dksX1_pump_0 0 rfl rfl)
theorem dX1_pump_1 : decode cX1_pump 1 = .ok (.i2l, 1) := dk_133 (dk_at dksX1_pump_0 1 rfl rfl)
theorem dX1_pump_2 : decode cX1_pump 2 = .ok (.lconst 1, 1) := dk_10 (dk_at dksX1_pump_0 2 rfl rfl)
theorem dX1_pump_3 : decode cX1_pump 3 = .ok (.ldc2_w 334, 3) := dk_20 1 78 (dk_at dksX1_pump_0 3 rfl rfl)
theorem dX1_pump_6 : decode cX1_pump 6 = .ok (.invokestatic 87, 3) := dk_184 0 87 (dk_at dksX1_pump_0 6 rfl rfl)
theorem dX1_pump_9 : decode cX1_pump 9 = .ok (.ifCond .ne 5, 3) := dk_154 0 5 (dk_at dksX1_pump_0 9 rfl rfl)
theorem dX1_pump_12 : decode cX1_pump 12 = .ok (.iconst (-1), 1) := dk_2 (dk_at dksX1_pump_0 12 rfl rfl)
theorem dX1_pump_13 : decode cX1_pump 13 = .ok (.ireturn, 1) := dk_172 (dk_at dksX1_pump_0 13 rfl rfl)
theorem dX1_pump_14 : decode cX1_pump 14 = .ok (.aload_n 0, 1) := dk_42 (dk_at dksX1_pump_0 14 rfl rfl)
theorem dX1_pump_15 : decode cX1_pump 15 = .ok (.aload_n 0, 1) := dk_42 (dk_at dksX1_pump_0 15 rfl rfl)
theorem dX1_pump_16 : decode cX1_pump 16 = .ok (.getfield 10, 3) := dk_180 0 10 (dk_at dksX1_pump_0 16 rfl rfl)
theorem dX1_pump_19 : decode cX1_pump 19 = .ok (.invokevirtual 282, 3) := dk_182 1 26 (dk_at dksX1_pump_0 19 rfl rfl)
theorem dX1_pump_22 : decode cX1_pump 22 = .ok (.iconst 0, 1) := dk_3 (dk_at dksX1_pump_0 22 rfl rfl)
theorem dX1_pump_23 : decode cX1_pump 23 = .ok (.istore_n 2, 1) := dk_61 (dk_at dksX1_pump_0 23 rfl rfl)
theorem dX1_pump_24 : decode cX1_pump 24 = .ok (.iload_n 2, 1) := dk_28 (dk_at dksX1_pump_1 0 rfl rfl)
theorem dX1_pump_25 : decode cX1_pump 25 = .ok (.aload_n 0, 1) := dk_42 (dk_at dksX1_pump_1 1 rfl rfl)
theorem dX1_pump_26 : decode cX1_pump 26 = .ok (.getfield 42, 3) := dk_180 0 42 (dk_at dksX1_pump_1 2 rfl rfl)
theorem dX1_pump_29 : decode cX1_pump 29 = .ok (.if_icmp .ge 33, 3) := dk_162 0 33 (dk_at dksX1_pump_1 5 rfl rfl)
theorem dX1_pump_32 : decode cX1_pump 32 = .ok (.aload_n 0, 1) := dk_42 (dk_at dksX1_pump_1 8 rfl rfl)
theorem dX1_pump_33 : decode cX1_pump 33 = .ok (.getfield 10, 3) := dk_180 0 10 (dk_at dksX1_pump_1 9 rfl rfl)
theorem dX1_pump_36 : decode cX1_pump 36 = .ok (.getfield 239, 3) := dk_180 0 239 (dk_at dksX1_pump_1 12 rfl rfl)
theorem dX1_pump_39 : decode cX1_pump 39 = .ok (.iload_n 2, 1) := dk_28 (dk_at dksX1_pump_1 15 rfl rfl)
theorem dX1_pump_40 : decode cX1_pump 40 = .ok (.iconst 0, 1) := dk_3 (dk_at dksX1_pump_1 16 rfl rfl)
theorem dX1_pump_41 : decode cX1_pump 41 = .ok (.aload_n 0, 1) := dk_42 (dk_at dksX1_pump_1 17 rfl rfl)
theorem dX1_pump_42 : decode cX1_pump 42 = .ok (.getfield 10, 3) := dk_180 0 10 (dk_at dksX1_pump_1 18 rfl rfl)
theorem dX1_pump_45 : decode cX1_pump 45 = .ok (.getfield 239, 3) := dk_180 0 239 (dk_at dksX1_pump_1 21 rfl rfl)
theorem dX1_pump_48 : decode cX1_pump 48 = .ok (.iload_n 2, 1) := dk_28 (dk_at dksX1_pump_2 0 rfl rfl)
theorem dX1_pump_49 : decode cX1_pump 49 = .ok (.iaload, 1) := dk_46 (dk_at dksX1_pump_2 1 rfl rfl)
theorem dX1_pump_50 : decode cX1_pump 50 = .ok (.iload_n 1, 1) := dk_27 (dk_at dksX1_pump_2 2 rfl rfl)
theorem dX1_pump_51 : decode cX1_pump 51 = .ok (.isub, 1) := dk_100 (dk_at dksX1_pump_2 3 rfl rfl)
theorem dX1_pump_52 : decode cX1_pump 52 = .ok (.invokestatic 211, 3) := dk_184 0 211 (dk_at dksX1_pump_2 4 rfl rfl)
theorem dX1_pump_55 : decode cX1_pump 55 = .ok (.iastore, 1) := dk_79 (dk_at dksX1_pump_2 7 rfl rfl)
theorem dX1_pump_56 : decode cX1_pump 56 = .ok (.iinc 2 1, 3) := dk_132 2 1 (dk_at dksX1_pump_2 8 rfl rfl)
theorem dX1_pump_59 : decode cX1_pump 59 = .ok (.goto (-35), 3) := dk_167 255 221 (dk_at dksX1_pump_2 11 rfl rfl)
theorem dX1_pump_62 : decode cX1_pump 62 = .ok (.aload_n 0, 1) := dk_42 (dk_at dksX1_pump_2 14 rfl rfl)
theorem dX1_pump_63 : decode cX1_pump 63 = .ok (.getfield 10, 3) := dk_180 0 10 (dk_at dksX1_pump_2 15 rfl rfl)
theorem dX1_pump_66 : decode cX1_pump 66 = .ok (.aload_n 0, 1) := dk_42 (dk_at dksX1_pump_2 18 rfl rfl)
theorem dX1_pump_67 : decode cX1_pump 67 = .ok (.getfield 42, 3) := dk_180 0 42 (dk_at dksX1_pump_2 19 rfl rfl)
theorem dX1_pump_70 : decode cX1_pump 70 = .ok (.invokevirtual 336, 3) := dk_182 1 80 (dk_at dksX1_pump_3 0 rfl rfl)
theorem dX1_pump_73 : decode cX1_pump 73 = .ok (.invokestatic 196, 3) := dk_184 0 196 (dk_at dksX1_pump_3 3 rfl rfl)
theorem dX1_pump_76 : decode cX1_pump 76 = .ok (.ireturn, 1) := dk_172 (dk_at dksX1_pump_3 6 rfl rfl)
abbrev cX1_summer : ByteArray := prog_1_method_41_code
def yX1_summer : MethodName := ⟨RX1, "summer", "()I"⟩
def dkwX1_summer_6 : List UInt8 := [182, 1, 54, 28, 172]
abbrev dktX1_summer_6 : List UInt8 := dkwX1_summer_6 ++ []
def dkwX1_summer_5 : List UInt8 := [167, 0, 4, 9, 182, 1, 54, 42, 42, 180, 0, 10, 42, 180, 0, 42, 182, 1, 80, 184, 0, 196, 133]
abbrev dktX1_summer_5 : List UInt8 := dkwX1_summer_5 ++ dktX1_summer_6
def dkwX1_summer_4 : List UInt8 := [42, 42, 180, 0, 16, 182, 1, 26, 42, 3, 181, 0, 84, 42, 28, 43, 180, 1, 90, 162, 0, 7, 10]
abbrev dktX1_summer_4 : List UInt8 := dkwX1_summer_4 ++ dktX1_summer_5
def dkwX1_summer_3 : List UInt8 := [28, 46, 43, 180, 1, 98, 28, 46, 182, 1, 101, 153, 0, 9, 132, 2, 1, 167, 255, 220, 28, 158, 0, 11]
abbrev dktX1_summer_3 : List UInt8 := dkwX1_summer_3 ++ dktX1_summer_4
def dkwX1_summer_2 : List UInt8 := [182, 1, 18, 3, 61, 28, 43, 180, 1, 90, 162, 0, 34, 42, 43, 180, 1, 91, 28, 52, 43, 180, 1, 95]
abbrev dktX1_summer_2 : List UInt8 := dkwX1_summer_2 ++ dktX1_summer_3
def dkwX1_summer_1 : List UInt8 := [182, 1, 88, 167, 0, 11, 77, 2, 44, 180, 0, 115, 100, 172, 42, 180, 0, 16, 42, 180, 0, 10]
abbrev dktX1_summer_1 : List UInt8 := dkwX1_summer_1 ++ dktX1_summer_2
def dkwX1_summer_0 : List UInt8 := [187, 1, 83, 89, 42, 180, 0, 49, 42, 180, 0, 96, 183, 1, 85, 76, 42, 3, 181, 0, 96, 43]
abbrev dktX1_summer_0 : List UInt8 := dkwX1_summer_0 ++ dktX1_summer_1
theorem dksX1_summer_0 : cX1_summer.data.toList.drop 0 = dktX1_summer_0 := by decide +kernel
theorem dksX1_summer_1 : cX1_summer.data.toList.drop 22 = dktX1_summer_1 := dk_seg dksX1_summer_0 22 rfl rfl
theorem dksX1_summer_2 : cX1_summer.data.toList.drop 44 = dktX1_summer_2 := dk_seg dksX1_summer_1 22 rfl rfl
theorem dksX1_summer_3 : cX1_summer.data.toList.drop 68 = dktX1_summer_3 := dk_seg dksX1_summer_2 24 rfl rfl
theorem dksX1_summer_4 : cX1_summer.data.toList.drop 92 = dktX1_summer_4 := dk_seg dksX1_summer_3 24 rfl rfl
theorem dksX1_summer_5 : cX1_summer.data.toList.drop 115 = dktX1_summer_5 := dk_seg dksX1_summer_4 23 rfl rfl
theorem dksX1_summer_6 : cX1_summer.data.toList.drop 138 = dktX1_summer_6 := dk_seg dksX1_summer_5 23 rfl rfl
theorem dX1_summer_0 : decode cX1_summer 0 = .ok (.new 339, 3) := dk_187 1 83 (dk_at dksX1_summer_0 0 rfl rfl)
theorem dX1_summer_3 : decode cX1_summer 3 = .ok (.dup, 1) := dk_89 (dk_at dksX1_summer_0 3 rfl rfl)
theorem dX1_summer_4 : decode cX1_summer 4 = .ok (.aload_n 0, 1) := dk_42 (dk_at dksX1_summer_0 4 rfl rfl)
theorem dX1_summer_5 : decode cX1_summer 5 = .ok (.getfield 49, 3) := dk_180 0 49 (dk_at dksX1_summer_0 5 rfl rfl)
theorem dX1_summer_8 : decode cX1_summer 8 = .ok (.aload_n 0, 1) := dk_42 (dk_at dksX1_summer_0 8 rfl rfl)
theorem dX1_summer_9 : decode cX1_summer 9 = .ok (.getfield 96, 3) := dk_180 0 96 (dk_at dksX1_summer_0 9 rfl rfl)
theorem dX1_summer_12 : decode cX1_summer 12 = .ok (.invokespecial 341, 3) := dk_183 1 85 (dk_at dksX1_summer_0 12 rfl rfl)
theorem dX1_summer_15 : decode cX1_summer 15 = .ok (.astore_n 1, 1) := dk_76 (dk_at dksX1_summer_0 15 rfl rfl)
theorem dX1_summer_16 : decode cX1_summer 16 = .ok (.aload_n 0, 1) := dk_42 (dk_at dksX1_summer_0 16 rfl rfl)
theorem dX1_summer_17 : decode cX1_summer 17 = .ok (.iconst 0, 1) := dk_3 (dk_at dksX1_summer_0 17 rfl rfl)
theorem dX1_summer_18 : decode cX1_summer 18 = .ok (.putfield 96, 3) := dk_181 0 96 (dk_at dksX1_summer_0 18 rfl rfl)
theorem dX1_summer_21 : decode cX1_summer 21 = .ok (.aload_n 1, 1) := dk_43 (dk_at dksX1_summer_0 21 rfl rfl)
theorem dX1_summer_22 : decode cX1_summer 22 = .ok (.invokevirtual 344, 3) := dk_182 1 88 (dk_at dksX1_summer_1 0 rfl rfl)
theorem dX1_summer_25 : decode cX1_summer 25 = .ok (.goto 11, 3) := dk_167 0 11 (dk_at dksX1_summer_1 3 rfl rfl)
theorem dX1_summer_28 : decode cX1_summer 28 = .ok (.astore_n 2, 1) := dk_77 (dk_at dksX1_summer_1 6 rfl rfl)
theorem dX1_summer_29 : decode cX1_summer 29 = .ok (.iconst (-1), 1) := dk_2 (dk_at dksX1_summer_1 7 rfl rfl)
theorem dX1_summer_30 : decode cX1_summer 30 = .ok (.aload_n 2, 1) := dk_44 (dk_at dksX1_summer_1 8 rfl rfl)
theorem dX1_summer_31 : decode cX1_summer 31 = .ok (.getfield 115, 3) := dk_180 0 115 (dk_at dksX1_summer_1 9 rfl rfl)
theorem dX1_summer_34 : decode cX1_summer 34 = .ok (.isub, 1) := dk_100 (dk_at dksX1_summer_1 12 rfl rfl)
theorem dX1_summer_35 : decode cX1_summer 35 = .ok (.ireturn, 1) := dk_172 (dk_at dksX1_summer_1 13 rfl rfl)
theorem dX1_summer_36 : decode cX1_summer 36 = .ok (.aload_n 0, 1) := dk_42 (dk_at dksX1_summer_1 14 rfl rfl)
theorem dX1_summer_37 : decode cX1_summer 37 = .ok (.getfield 16, 3) := dk_180 0 16 (dk_at dksX1_summer_1 15 rfl rfl)
theorem dX1_summer_40 : decode cX1_summer 40 = .ok (.aload_n 0, 1) := dk_42 (dk_at dksX1_summer_1 18 rfl rfl)
theorem dX1_summer_41 : decode cX1_summer 41 = .ok (.getfield 10, 3) := dk_180 0 10 (dk_at dksX1_summer_1 19 rfl rfl)
theorem dX1_summer_44 : decode cX1_summer 44 = .ok (.invokevirtual 274, 3) := dk_182 1 18 (dk_at dksX1_summer_2 0 rfl rfl)
theorem dX1_summer_47 : decode cX1_summer 47 = .ok (.iconst 0, 1) := dk_3 (dk_at dksX1_summer_2 3 rfl rfl)
theorem dX1_summer_48 : decode cX1_summer 48 = .ok (.istore_n 2, 1) := dk_61 (dk_at dksX1_summer_2 4 rfl rfl)
theorem dX1_summer_49 : decode cX1_summer 49 = .ok (.iload_n 2, 1) := dk_28 (dk_at dksX1_summer_2 5 rfl rfl)
theorem dX1_summer_50 : decode cX1_summer 50 = .ok (.aload_n 1, 1) := dk_43 (dk_at dksX1_summer_2 6 rfl rfl)
theorem dX1_summer_51 : decode cX1_summer 51 = .ok (.getfield 346, 3) := dk_180 1 90 (dk_at dksX1_summer_2 7 rfl rfl)
theorem dX1_summer_54 : decode cX1_summer 54 = .ok (.if_icmp .ge 34, 3) := dk_162 0 34 (dk_at dksX1_summer_2 10 rfl rfl)
theorem dX1_summer_57 : decode cX1_summer 57 = .ok (.aload_n 0, 1) := dk_42 (dk_at dksX1_summer_2 13 rfl rfl)
theorem dX1_summer_58 : decode cX1_summer 58 = .ok (.aload_n 1, 1) := dk_43 (dk_at dksX1_summer_2 14 rfl rfl)
theorem dX1_summer_59 : decode cX1_summer 59 = .ok (.getfield 347, 3) := dk_180 1 91 (dk_at dksX1_summer_2 15 rfl rfl)
theorem dX1_summer_62 : decode cX1_summer 62 = .ok (.iload_n 2, 1) := dk_28 (dk_at dksX1_summer_2 18 rfl rfl)
theorem dX1_summer_63 : decode cX1_summer 63 = .ok (.caload, 1) := dk_52 (dk_at dksX1_summer_2 19 rfl rfl)
theorem dX1_summer_64 : decode cX1_summer 64 = .ok (.aload_n 1, 1) := dk_43 (dk_at dksX1_summer_2 20 rfl rfl)
theorem dX1_summer_65 : decode cX1_summer 65 = .ok (.getfield 351, 3) := dk_180 1 95 (dk_at dksX1_summer_2 21 rfl rfl)
theorem dX1_summer_68 : decode cX1_summer 68 = .ok (.iload_n 2, 1) := dk_28 (dk_at dksX1_summer_3 0 rfl rfl)
theorem dX1_summer_69 : decode cX1_summer 69 = .ok (.iaload, 1) := dk_46 (dk_at dksX1_summer_3 1 rfl rfl)
theorem dX1_summer_70 : decode cX1_summer 70 = .ok (.aload_n 1, 1) := dk_43 (dk_at dksX1_summer_3 2 rfl rfl)
theorem dX1_summer_71 : decode cX1_summer 71 = .ok (.getfield 354, 3) := dk_180 1 98 (dk_at dksX1_summer_3 3 rfl rfl)
theorem dX1_summer_74 : decode cX1_summer 74 = .ok (.iload_n 2, 1) := dk_28 (dk_at dksX1_summer_3 6 rfl rfl)
theorem dX1_summer_75 : decode cX1_summer 75 = .ok (.iaload, 1) := dk_46 (dk_at dksX1_summer_3 7 rfl rfl)
theorem dX1_summer_76 : decode cX1_summer 76 = .ok (.invokevirtual 357, 3) := dk_182 1 101 (dk_at dksX1_summer_3 8 rfl rfl)
theorem dX1_summer_79 : decode cX1_summer 79 = .ok (.ifCond .eq 9, 3) := dk_153 0 9 (dk_at dksX1_summer_3 11 rfl rfl)
theorem dX1_summer_82 : decode cX1_summer 82 = .ok (.iinc 2 1, 3) := dk_132 2 1 (dk_at dksX1_summer_3 14 rfl rfl)
theorem dX1_summer_85 : decode cX1_summer 85 = .ok (.goto (-36), 3) := dk_167 255 220 (dk_at dksX1_summer_3 17 rfl rfl)
theorem dX1_summer_88 : decode cX1_summer 88 = .ok (.iload_n 2, 1) := dk_28 (dk_at dksX1_summer_3 20 rfl rfl)
theorem dX1_summer_89 : decode cX1_summer 89 = .ok (.ifCond .le 11, 3) := dk_158 0 11 (dk_at dksX1_summer_3 21 rfl rfl)
theorem dX1_summer_92 : decode cX1_summer 92 = .ok (.aload_n 0, 1) := dk_42 (dk_at dksX1_summer_4 0 rfl rfl)
theorem dX1_summer_93 : decode cX1_summer 93 = .ok (.aload_n 0, 1) := dk_42 (dk_at dksX1_summer_4 1 rfl rfl)
theorem dX1_summer_94 : decode cX1_summer 94 = .ok (.getfield 16, 3) := dk_180 0 16 (dk_at dksX1_summer_4 2 rfl rfl)
theorem dX1_summer_97 : decode cX1_summer 97 = .ok (.invokevirtual 282, 3) := dk_182 1 26 (dk_at dksX1_summer_4 5 rfl rfl)
theorem dX1_summer_100 : decode cX1_summer 100 = .ok (.aload_n 0, 1) := dk_42 (dk_at dksX1_summer_4 8 rfl rfl)
theorem dX1_summer_101 : decode cX1_summer 101 = .ok (.iconst 0, 1) := dk_3 (dk_at dksX1_summer_4 9 rfl rfl)
theorem dX1_summer_102 : decode cX1_summer 102 = .ok (.putfield 84, 3) := dk_181 0 84 (dk_at dksX1_summer_4 10 rfl rfl)
theorem dX1_summer_105 : decode cX1_summer 105 = .ok (.aload_n 0, 1) := dk_42 (dk_at dksX1_summer_4 13 rfl rfl)
theorem dX1_summer_106 : decode cX1_summer 106 = .ok (.iload_n 2, 1) := dk_28 (dk_at dksX1_summer_4 14 rfl rfl)
theorem dX1_summer_107 : decode cX1_summer 107 = .ok (.aload_n 1, 1) := dk_43 (dk_at dksX1_summer_4 15 rfl rfl)
theorem dX1_summer_108 : decode cX1_summer 108 = .ok (.getfield 346, 3) := dk_180 1 90 (dk_at dksX1_summer_4 16 rfl rfl)
theorem dX1_summer_111 : decode cX1_summer 111 = .ok (.if_icmp .ge 7, 3) := dk_162 0 7 (dk_at dksX1_summer_4 19 rfl rfl)
theorem dX1_summer_114 : decode cX1_summer 114 = .ok (.lconst 1, 1) := dk_10 (dk_at dksX1_summer_4 22 rfl rfl)
theorem dX1_summer_115 : decode cX1_summer 115 = .ok (.goto 4, 3) := dk_167 0 4 (dk_at dksX1_summer_5 0 rfl rfl)
theorem dX1_summer_118 : decode cX1_summer 118 = .ok (.lconst 0, 1) := dk_9 (dk_at dksX1_summer_5 3 rfl rfl)
theorem dX1_summer_119 : decode cX1_summer 119 = .ok (.invokevirtual 310, 3) := dk_182 1 54 (dk_at dksX1_summer_5 4 rfl rfl)
theorem dX1_summer_122 : decode cX1_summer 122 = .ok (.aload_n 0, 1) := dk_42 (dk_at dksX1_summer_5 7 rfl rfl)
theorem dX1_summer_123 : decode cX1_summer 123 = .ok (.aload_n 0, 1) := dk_42 (dk_at dksX1_summer_5 8 rfl rfl)
theorem dX1_summer_124 : decode cX1_summer 124 = .ok (.getfield 10, 3) := dk_180 0 10 (dk_at dksX1_summer_5 9 rfl rfl)
theorem dX1_summer_127 : decode cX1_summer 127 = .ok (.aload_n 0, 1) := dk_42 (dk_at dksX1_summer_5 12 rfl rfl)
theorem dX1_summer_128 : decode cX1_summer 128 = .ok (.getfield 42, 3) := dk_180 0 42 (dk_at dksX1_summer_5 13 rfl rfl)
theorem dX1_summer_131 : decode cX1_summer 131 = .ok (.invokevirtual 336, 3) := dk_182 1 80 (dk_at dksX1_summer_5 16 rfl rfl)
theorem dX1_summer_134 : decode cX1_summer 134 = .ok (.invokestatic 196, 3) := dk_184 0 196 (dk_at dksX1_summer_5 19 rfl rfl)
theorem dX1_summer_137 : decode cX1_summer 137 = .ok (.i2l, 1) := dk_133 (dk_at dksX1_summer_5 22 rfl rfl)
theorem dX1_summer_138 : decode cX1_summer 138 = .ok (.invokevirtual 310, 3) := dk_182 1 54 (dk_at dksX1_summer_6 0 rfl rfl)
theorem dX1_summer_141 : decode cX1_summer 141 = .ok (.iload_n 2, 1) := dk_28 (dk_at dksX1_summer_6 3 rfl rfl)
theorem dX1_summer_142 : decode cX1_summer 142 = .ok (.ireturn, 1) := dk_172 (dk_at dksX1_summer_6 4 rfl rfl)
abbrev cX1_act : ByteArray := prog_1_method_42_code
def yX1_act : MethodName := ⟨RX1, "act", "(CII)Z"⟩
def dkwX1_act_8 : List UInt8 := [180, 0, 10, 182, 1, 75, 87, 4, 172]
abbrev dktX1_act_8 : List UInt8 := dkwX1_act_8 ++ []
def dkwX1_act_7 : List UInt8 := [28, 120, 130, 181, 0, 193, 4, 172, 42, 42, 180, 0, 10, 28, 182, 1, 51, 87, 4, 172, 42, 42]
abbrev dktX1_act_7 : List UInt8 := dkwX1_act_7 ++ dktX1_act_8
def dkwX1_act_6 : List UInt8 := [182, 1, 35, 4, 172, 42, 28, 182, 0, 232, 154, 0, 5, 3, 172, 42, 180, 0, 10, 89, 180, 0, 193, 4]
abbrev dktX1_act_6 : List UInt8 := dkwX1_act_6 ++ dktX1_act_7
def dkwX1_act_5 : List UInt8 := [181, 0, 224, 4, 172, 42, 28, 182, 0, 249, 154, 0, 5, 3, 172, 42, 42, 180, 0, 10, 28, 4]
abbrev dktX1_act_5 : List UInt8 := dkwX1_act_5 ++ dktX1_act_6
def dkwX1_act_4 : List UInt8 := [172, 42, 28, 182, 1, 32, 156, 0, 5, 3, 172, 42, 180, 0, 10, 89, 180, 0, 224, 4, 28, 120, 130]
abbrev dktX1_act_4 : List UInt8 := dkwX1_act_4 ++ dktX1_act_5
def dkwX1_act_3 : List UInt8 := [79, 4, 172, 42, 28, 182, 1, 29, 156, 0, 5, 3, 172, 42, 180, 0, 10, 180, 0, 165, 28, 2, 79, 4]
abbrev dktX1_act_3 : List UInt8 := dkwX1_act_3 ++ dktX1_act_4
def dkwX1_act_2 : List UInt8 := [42, 42, 180, 0, 10, 28, 29, 182, 1, 22, 156, 0, 5, 3, 172, 42, 180, 0, 10, 180, 0, 165, 28, 29]
abbrev dktX1_act_2 : List UInt8 := dkwX1_act_2 ++ dktX1_act_3
def dkwX1_act_1 : List UInt8 := [170, 0, 0, 0, 0, 0, 228, 0, 0, 0, 98, 0, 0, 0, 116, 0, 0, 0, 216, 0, 0, 0, 228, 0, 0, 0, 228, 0, 0, 0, 228, 0, 0, 0, 228, 0, 0, 0, 91, 0, 0, 0, 118, 0, 0, 0, 228, 0, 0, 0, 228, 0, 0, 0, 228, 0, 0, 0, 228, 0, 0, 0, 189, 0, 0, 0, 228, 0, 0, 0, 228, 0, 0, 0, 228, 0, 0, 0, 228, 0, 0, 0, 228, 0, 0, 0, 140, 0, 0, 0, 167]
abbrev dktX1_act_1 : List UInt8 := dkwX1_act_1 ++ dktX1_act_2
def dkwX1_act_0 : List UInt8 := [27]
abbrev dktX1_act_0 : List UInt8 := dkwX1_act_0 ++ dktX1_act_1
theorem dksX1_act_0 : cX1_act.data.toList.drop 0 = dktX1_act_0 := by decide +kernel
theorem dksX1_act_1 : cX1_act.data.toList.drop 1 = dktX1_act_1 := dk_seg dksX1_act_0 1 rfl rfl
theorem dksX1_act_2 : cX1_act.data.toList.drop 92 = dktX1_act_2 := dk_seg dksX1_act_1 91 rfl rfl
theorem dksX1_act_3 : cX1_act.data.toList.drop 116 = dktX1_act_3 := dk_seg dksX1_act_2 24 rfl rfl
theorem dksX1_act_4 : cX1_act.data.toList.drop 140 = dktX1_act_4 := dk_seg dksX1_act_3 24 rfl rfl
theorem dksX1_act_5 : cX1_act.data.toList.drop 163 = dktX1_act_5 := dk_seg dksX1_act_4 23 rfl rfl
theorem dksX1_act_6 : cX1_act.data.toList.drop 185 = dktX1_act_6 := dk_seg dksX1_act_5 22 rfl rfl
theorem dksX1_act_7 : cX1_act.data.toList.drop 209 = dktX1_act_7 := dk_seg dksX1_act_6 24 rfl rfl
theorem dksX1_act_8 : cX1_act.data.toList.drop 231 = dktX1_act_8 := dk_seg dksX1_act_7 22 rfl rfl
theorem dX1_act_0 : decode cX1_act 0 = .ok (.iload_n 1, 1) := dk_27 (dk_at dksX1_act_0 0 rfl rfl)
theorem dX1_act_1 : decode cX1_act 1 = .ok (.tableswitch 228 98 116 #[216, 228, 228, 228, 228, 91, 118, 228, 228, 228, 228, 189, 228, 228, 228, 228, 228, 140, 167], 91) := by decide +kernel
theorem dX1_act_92 : decode cX1_act 92 = .ok (.aload_n 0, 1) := dk_42 (dk_at dksX1_act_2 0 rfl rfl)
theorem dX1_act_93 : decode cX1_act 93 = .ok (.aload_n 0, 1) := dk_42 (dk_at dksX1_act_2 1 rfl rfl)
theorem dX1_act_94 : decode cX1_act 94 = .ok (.getfield 10, 3) := dk_180 0 10 (dk_at dksX1_act_2 2 rfl rfl)
theorem dX1_act_97 : decode cX1_act 97 = .ok (.iload_n 2, 1) := dk_28 (dk_at dksX1_act_2 5 rfl rfl)
theorem dX1_act_98 : decode cX1_act 98 = .ok (.iload_n 3, 1) := dk_29 (dk_at dksX1_act_2 6 rfl rfl)
theorem dX1_act_99 : decode cX1_act 99 = .ok (.invokevirtual 278, 3) := dk_182 1 22 (dk_at dksX1_act_2 7 rfl rfl)
theorem dX1_act_102 : decode cX1_act 102 = .ok (.ifCond .ge 5, 3) := dk_156 0 5 (dk_at dksX1_act_2 10 rfl rfl)
theorem dX1_act_105 : decode cX1_act 105 = .ok (.iconst 0, 1) := dk_3 (dk_at dksX1_act_2 13 rfl rfl)
theorem dX1_act_106 : decode cX1_act 106 = .ok (.ireturn, 1) := dk_172 (dk_at dksX1_act_2 14 rfl rfl)
theorem dX1_act_107 : decode cX1_act 107 = .ok (.aload_n 0, 1) := dk_42 (dk_at dksX1_act_2 15 rfl rfl)
theorem dX1_act_108 : decode cX1_act 108 = .ok (.getfield 10, 3) := dk_180 0 10 (dk_at dksX1_act_2 16 rfl rfl)
theorem dX1_act_111 : decode cX1_act 111 = .ok (.getfield 165, 3) := dk_180 0 165 (dk_at dksX1_act_2 19 rfl rfl)
theorem dX1_act_114 : decode cX1_act 114 = .ok (.iload_n 2, 1) := dk_28 (dk_at dksX1_act_2 22 rfl rfl)
theorem dX1_act_115 : decode cX1_act 115 = .ok (.iload_n 3, 1) := dk_29 (dk_at dksX1_act_2 23 rfl rfl)
theorem dX1_act_116 : decode cX1_act 116 = .ok (.iastore, 1) := dk_79 (dk_at dksX1_act_3 0 rfl rfl)
theorem dX1_act_117 : decode cX1_act 117 = .ok (.iconst 1, 1) := dk_4 (dk_at dksX1_act_3 1 rfl rfl)
theorem dX1_act_118 : decode cX1_act 118 = .ok (.ireturn, 1) := dk_172 (dk_at dksX1_act_3 2 rfl rfl)
theorem dX1_act_119 : decode cX1_act 119 = .ok (.aload_n 0, 1) := dk_42 (dk_at dksX1_act_3 3 rfl rfl)
theorem dX1_act_120 : decode cX1_act 120 = .ok (.iload_n 2, 1) := dk_28 (dk_at dksX1_act_3 4 rfl rfl)
theorem dX1_act_121 : decode cX1_act 121 = .ok (.invokevirtual 285, 3) := dk_182 1 29 (dk_at dksX1_act_3 5 rfl rfl)
theorem dX1_act_124 : decode cX1_act 124 = .ok (.ifCond .ge 5, 3) := dk_156 0 5 (dk_at dksX1_act_3 8 rfl rfl)
theorem dX1_act_127 : decode cX1_act 127 = .ok (.iconst 0, 1) := dk_3 (dk_at dksX1_act_3 11 rfl rfl)
theorem dX1_act_128 : decode cX1_act 128 = .ok (.ireturn, 1) := dk_172 (dk_at dksX1_act_3 12 rfl rfl)
theorem dX1_act_129 : decode cX1_act 129 = .ok (.aload_n 0, 1) := dk_42 (dk_at dksX1_act_3 13 rfl rfl)
theorem dX1_act_130 : decode cX1_act 130 = .ok (.getfield 10, 3) := dk_180 0 10 (dk_at dksX1_act_3 14 rfl rfl)
theorem dX1_act_133 : decode cX1_act 133 = .ok (.getfield 165, 3) := dk_180 0 165 (dk_at dksX1_act_3 17 rfl rfl)
theorem dX1_act_136 : decode cX1_act 136 = .ok (.iload_n 2, 1) := dk_28 (dk_at dksX1_act_3 20 rfl rfl)
theorem dX1_act_137 : decode cX1_act 137 = .ok (.iconst (-1), 1) := dk_2 (dk_at dksX1_act_3 21 rfl rfl)
theorem dX1_act_138 : decode cX1_act 138 = .ok (.iastore, 1) := dk_79 (dk_at dksX1_act_3 22 rfl rfl)
theorem dX1_act_139 : decode cX1_act 139 = .ok (.iconst 1, 1) := dk_4 (dk_at dksX1_act_3 23 rfl rfl)
theorem dX1_act_140 : decode cX1_act 140 = .ok (.ireturn, 1) := dk_172 (dk_at dksX1_act_4 0 rfl rfl)
theorem dX1_act_141 : decode cX1_act 141 = .ok (.aload_n 0, 1) := dk_42 (dk_at dksX1_act_4 1 rfl rfl)
theorem dX1_act_142 : decode cX1_act 142 = .ok (.iload_n 2, 1) := dk_28 (dk_at dksX1_act_4 2 rfl rfl)
theorem dX1_act_143 : decode cX1_act 143 = .ok (.invokevirtual 288, 3) := dk_182 1 32 (dk_at dksX1_act_4 3 rfl rfl)
theorem dX1_act_146 : decode cX1_act 146 = .ok (.ifCond .ge 5, 3) := dk_156 0 5 (dk_at dksX1_act_4 6 rfl rfl)
theorem dX1_act_149 : decode cX1_act 149 = .ok (.iconst 0, 1) := dk_3 (dk_at dksX1_act_4 9 rfl rfl)
theorem dX1_act_150 : decode cX1_act 150 = .ok (.ireturn, 1) := dk_172 (dk_at dksX1_act_4 10 rfl rfl)
theorem dX1_act_151 : decode cX1_act 151 = .ok (.aload_n 0, 1) := dk_42 (dk_at dksX1_act_4 11 rfl rfl)
theorem dX1_act_152 : decode cX1_act 152 = .ok (.getfield 10, 3) := dk_180 0 10 (dk_at dksX1_act_4 12 rfl rfl)
theorem dX1_act_155 : decode cX1_act 155 = .ok (.dup, 1) := dk_89 (dk_at dksX1_act_4 15 rfl rfl)
theorem dX1_act_156 : decode cX1_act 156 = .ok (.getfield 224, 3) := dk_180 0 224 (dk_at dksX1_act_4 16 rfl rfl)
theorem dX1_act_159 : decode cX1_act 159 = .ok (.iconst 1, 1) := dk_4 (dk_at dksX1_act_4 19 rfl rfl)
theorem dX1_act_160 : decode cX1_act 160 = .ok (.iload_n 2, 1) := dk_28 (dk_at dksX1_act_4 20 rfl rfl)
theorem dX1_act_161 : decode cX1_act 161 = .ok (.ishl, 1) := dk_120 (dk_at dksX1_act_4 21 rfl rfl)
theorem dX1_act_162 : decode cX1_act 162 = .ok (.ixor, 1) := dk_130 (dk_at dksX1_act_4 22 rfl rfl)
theorem dX1_act_163 : decode cX1_act 163 = .ok (.putfield 224, 3) := dk_181 0 224 (dk_at dksX1_act_5 0 rfl rfl)
theorem dX1_act_166 : decode cX1_act 166 = .ok (.iconst 1, 1) := dk_4 (dk_at dksX1_act_5 3 rfl rfl)
theorem dX1_act_167 : decode cX1_act 167 = .ok (.ireturn, 1) := dk_172 (dk_at dksX1_act_5 4 rfl rfl)
theorem dX1_act_168 : decode cX1_act 168 = .ok (.aload_n 0, 1) := dk_42 (dk_at dksX1_act_5 5 rfl rfl)
theorem dX1_act_169 : decode cX1_act 169 = .ok (.iload_n 2, 1) := dk_28 (dk_at dksX1_act_5 6 rfl rfl)
theorem dX1_act_170 : decode cX1_act 170 = .ok (.invokevirtual 249, 3) := dk_182 0 249 (dk_at dksX1_act_5 7 rfl rfl)
theorem dX1_act_173 : decode cX1_act 173 = .ok (.ifCond .ne 5, 3) := dk_154 0 5 (dk_at dksX1_act_5 10 rfl rfl)
theorem dX1_act_176 : decode cX1_act 176 = .ok (.iconst 0, 1) := dk_3 (dk_at dksX1_act_5 13 rfl rfl)
theorem dX1_act_177 : decode cX1_act 177 = .ok (.ireturn, 1) := dk_172 (dk_at dksX1_act_5 14 rfl rfl)
theorem dX1_act_178 : decode cX1_act 178 = .ok (.aload_n 0, 1) := dk_42 (dk_at dksX1_act_5 15 rfl rfl)
theorem dX1_act_179 : decode cX1_act 179 = .ok (.aload_n 0, 1) := dk_42 (dk_at dksX1_act_5 16 rfl rfl)
theorem dX1_act_180 : decode cX1_act 180 = .ok (.getfield 10, 3) := dk_180 0 10 (dk_at dksX1_act_5 17 rfl rfl)
theorem dX1_act_183 : decode cX1_act 183 = .ok (.iload_n 2, 1) := dk_28 (dk_at dksX1_act_5 20 rfl rfl)
theorem dX1_act_184 : decode cX1_act 184 = .ok (.iconst 1, 1) := dk_4 (dk_at dksX1_act_5 21 rfl rfl)
theorem dX1_act_185 : decode cX1_act 185 = .ok (.invokevirtual 291, 3) := dk_182 1 35 (dk_at dksX1_act_6 0 rfl rfl)
theorem dX1_act_188 : decode cX1_act 188 = .ok (.iconst 1, 1) := dk_4 (dk_at dksX1_act_6 3 rfl rfl)
theorem dX1_act_189 : decode cX1_act 189 = .ok (.ireturn, 1) := dk_172 (dk_at dksX1_act_6 4 rfl rfl)
theorem dX1_act_190 : decode cX1_act 190 = .ok (.aload_n 0, 1) := dk_42 (dk_at dksX1_act_6 5 rfl rfl)
theorem dX1_act_191 : decode cX1_act 191 = .ok (.iload_n 2, 1) := dk_28 (dk_at dksX1_act_6 6 rfl rfl)
theorem dX1_act_192 : decode cX1_act 192 = .ok (.invokevirtual 232, 3) := dk_182 0 232 (dk_at dksX1_act_6 7 rfl rfl)
theorem dX1_act_195 : decode cX1_act 195 = .ok (.ifCond .ne 5, 3) := dk_154 0 5 (dk_at dksX1_act_6 10 rfl rfl)
theorem dX1_act_198 : decode cX1_act 198 = .ok (.iconst 0, 1) := dk_3 (dk_at dksX1_act_6 13 rfl rfl)
theorem dX1_act_199 : decode cX1_act 199 = .ok (.ireturn, 1) := dk_172 (dk_at dksX1_act_6 14 rfl rfl)
theorem dX1_act_200 : decode cX1_act 200 = .ok (.aload_n 0, 1) := dk_42 (dk_at dksX1_act_6 15 rfl rfl)
theorem dX1_act_201 : decode cX1_act 201 = .ok (.getfield 10, 3) := dk_180 0 10 (dk_at dksX1_act_6 16 rfl rfl)
theorem dX1_act_204 : decode cX1_act 204 = .ok (.dup, 1) := dk_89 (dk_at dksX1_act_6 19 rfl rfl)
theorem dX1_act_205 : decode cX1_act 205 = .ok (.getfield 193, 3) := dk_180 0 193 (dk_at dksX1_act_6 20 rfl rfl)
theorem dX1_act_208 : decode cX1_act 208 = .ok (.iconst 1, 1) := dk_4 (dk_at dksX1_act_6 23 rfl rfl)
theorem dX1_act_209 : decode cX1_act 209 = .ok (.iload_n 2, 1) := dk_28 (dk_at dksX1_act_7 0 rfl rfl)
theorem dX1_act_210 : decode cX1_act 210 = .ok (.ishl, 1) := dk_120 (dk_at dksX1_act_7 1 rfl rfl)
theorem dX1_act_211 : decode cX1_act 211 = .ok (.ixor, 1) := dk_130 (dk_at dksX1_act_7 2 rfl rfl)
theorem dX1_act_212 : decode cX1_act 212 = .ok (.putfield 193, 3) := dk_181 0 193 (dk_at dksX1_act_7 3 rfl rfl)
theorem dX1_act_215 : decode cX1_act 215 = .ok (.iconst 1, 1) := dk_4 (dk_at dksX1_act_7 6 rfl rfl)
theorem dX1_act_216 : decode cX1_act 216 = .ok (.ireturn, 1) := dk_172 (dk_at dksX1_act_7 7 rfl rfl)
theorem dX1_act_217 : decode cX1_act 217 = .ok (.aload_n 0, 1) := dk_42 (dk_at dksX1_act_7 8 rfl rfl)
theorem dX1_act_218 : decode cX1_act 218 = .ok (.aload_n 0, 1) := dk_42 (dk_at dksX1_act_7 9 rfl rfl)
theorem dX1_act_219 : decode cX1_act 219 = .ok (.getfield 10, 3) := dk_180 0 10 (dk_at dksX1_act_7 10 rfl rfl)
theorem dX1_act_222 : decode cX1_act 222 = .ok (.iload_n 2, 1) := dk_28 (dk_at dksX1_act_7 13 rfl rfl)
theorem dX1_act_223 : decode cX1_act 223 = .ok (.invokevirtual 307, 3) := dk_182 1 51 (dk_at dksX1_act_7 14 rfl rfl)
theorem dX1_act_226 : decode cX1_act 226 = .ok (.pop, 1) := dk_87 (dk_at dksX1_act_7 17 rfl rfl)
theorem dX1_act_227 : decode cX1_act 227 = .ok (.iconst 1, 1) := dk_4 (dk_at dksX1_act_7 18 rfl rfl)
theorem dX1_act_228 : decode cX1_act 228 = .ok (.ireturn, 1) := dk_172 (dk_at dksX1_act_7 19 rfl rfl)
theorem dX1_act_229 : decode cX1_act 229 = .ok (.aload_n 0, 1) := dk_42 (dk_at dksX1_act_7 20 rfl rfl)
theorem dX1_act_230 : decode cX1_act 230 = .ok (.aload_n 0, 1) := dk_42 (dk_at dksX1_act_7 21 rfl rfl)
theorem dX1_act_231 : decode cX1_act 231 = .ok (.getfield 10, 3) := dk_180 0 10 (dk_at dksX1_act_8 0 rfl rfl)
theorem dX1_act_234 : decode cX1_act 234 = .ok (.invokevirtual 331, 3) := dk_182 1 75 (dk_at dksX1_act_8 3 rfl rfl)
theorem dX1_act_237 : decode cX1_act 237 = .ok (.pop, 1) := dk_87 (dk_at dksX1_act_8 6 rfl rfl)
theorem dX1_act_238 : decode cX1_act 238 = .ok (.iconst 1, 1) := dk_4 (dk_at dksX1_act_8 7 rfl rfl)
theorem dX1_act_239 : decode cX1_act 239 = .ok (.ireturn, 1) := dk_172 (dk_at dksX1_act_8 8 rfl rfl)
abbrev cX1_undo : ByteArray := prog_1_method_43_code
def yX1_undo : MethodName := ⟨RX1, "undo", "()I"⟩
def dkwX1_undo_1 : List UInt8 := [180, 0, 22, 42, 180, 0, 132, 50, 182, 1, 18, 42, 180, 0, 132, 172]
abbrev dktX1_undo_1 : List UInt8 := dkwX1_undo_1 ++ []
def dkwX1_undo_0 : List UInt8 := [42, 180, 0, 132, 154, 0, 5, 2, 172, 42, 89, 180, 0, 132, 4, 100, 181, 0, 132, 42, 180, 0, 10, 42]
abbrev dktX1_undo_0 : List UInt8 := dkwX1_undo_0 ++ dktX1_undo_1
theorem dksX1_undo_0 : cX1_undo.data.toList.drop 0 = dktX1_undo_0 := by decide +kernel
theorem dksX1_undo_1 : cX1_undo.data.toList.drop 24 = dktX1_undo_1 := dk_seg dksX1_undo_0 24 rfl rfl
theorem dX1_undo_0 : decode cX1_undo 0 = .ok (.aload_n 0, 1) := dk_42 (dk_at dksX1_undo_0 0 rfl rfl)
theorem dX1_undo_1 : decode cX1_undo 1 = .ok (.getfield 132, 3) := dk_180 0 132 (dk_at dksX1_undo_0 1 rfl rfl)
theorem dX1_undo_4 : decode cX1_undo 4 = .ok (.ifCond .ne 5, 3) := dk_154 0 5 (dk_at dksX1_undo_0 4 rfl rfl)
theorem dX1_undo_7 : decode cX1_undo 7 = .ok (.iconst (-1), 1) := dk_2 (dk_at dksX1_undo_0 7 rfl rfl)
theorem dX1_undo_8 : decode cX1_undo 8 = .ok (.ireturn, 1) := dk_172 (dk_at dksX1_undo_0 8 rfl rfl)
theorem dX1_undo_9 : decode cX1_undo 9 = .ok (.aload_n 0, 1) := dk_42 (dk_at dksX1_undo_0 9 rfl rfl)
theorem dX1_undo_10 : decode cX1_undo 10 = .ok (.dup, 1) := dk_89 (dk_at dksX1_undo_0 10 rfl rfl)
theorem dX1_undo_11 : decode cX1_undo 11 = .ok (.getfield 132, 3) := dk_180 0 132 (dk_at dksX1_undo_0 11 rfl rfl)
theorem dX1_undo_14 : decode cX1_undo 14 = .ok (.iconst 1, 1) := dk_4 (dk_at dksX1_undo_0 14 rfl rfl)
theorem dX1_undo_15 : decode cX1_undo 15 = .ok (.isub, 1) := dk_100 (dk_at dksX1_undo_0 15 rfl rfl)
theorem dX1_undo_16 : decode cX1_undo 16 = .ok (.putfield 132, 3) := dk_181 0 132 (dk_at dksX1_undo_0 16 rfl rfl)
theorem dX1_undo_19 : decode cX1_undo 19 = .ok (.aload_n 0, 1) := dk_42 (dk_at dksX1_undo_0 19 rfl rfl)
theorem dX1_undo_20 : decode cX1_undo 20 = .ok (.getfield 10, 3) := dk_180 0 10 (dk_at dksX1_undo_0 20 rfl rfl)
theorem dX1_undo_23 : decode cX1_undo 23 = .ok (.aload_n 0, 1) := dk_42 (dk_at dksX1_undo_0 23 rfl rfl)
theorem dX1_undo_24 : decode cX1_undo 24 = .ok (.getfield 22, 3) := dk_180 0 22 (dk_at dksX1_undo_1 0 rfl rfl)
theorem dX1_undo_27 : decode cX1_undo 27 = .ok (.aload_n 0, 1) := dk_42 (dk_at dksX1_undo_1 3 rfl rfl)
theorem dX1_undo_28 : decode cX1_undo 28 = .ok (.getfield 132, 3) := dk_180 0 132 (dk_at dksX1_undo_1 4 rfl rfl)
theorem dX1_undo_31 : decode cX1_undo 31 = .ok (.aaload, 1) := dk_50 (dk_at dksX1_undo_1 7 rfl rfl)
theorem dX1_undo_32 : decode cX1_undo 32 = .ok (.invokevirtual 274, 3) := dk_182 1 18 (dk_at dksX1_undo_1 8 rfl rfl)
theorem dX1_undo_35 : decode cX1_undo 35 = .ok (.aload_n 0, 1) := dk_42 (dk_at dksX1_undo_1 11 rfl rfl)
theorem dX1_undo_36 : decode cX1_undo 36 = .ok (.getfield 132, 3) := dk_180 0 132 (dk_at dksX1_undo_1 12 rfl rfl)
theorem dX1_undo_39 : decode cX1_undo 39 = .ok (.ireturn, 1) := dk_172 (dk_at dksX1_undo_1 15 rfl rfl)
abbrev cX1_level : ByteArray := prog_1_method_44_code
def yX1_level : MethodName := ⟨RX1, "level", "(I)I"⟩
def dkwX1_level_2 : List UInt8 := [133, 182, 1, 54, 28, 172]
abbrev dktX1_level_2 : List UInt8 := dkwX1_level_2 ++ []
def dkwX1_level_1 : List UInt8 := [180, 1, 58, 27, 96, 182, 1, 61, 61, 42, 3, 181, 0, 84, 42, 42, 42, 180, 0, 10, 28, 182, 1, 64]
abbrev dktX1_level_1 : List UInt8 := dkwX1_level_1 ++ dktX1_level_2
def dkwX1_level_0 : List UInt8 := [27, 133, 9, 20, 1, 78, 184, 0, 87, 154, 0, 5, 2, 172, 42, 42, 180, 0, 10, 42, 180, 0, 10]
abbrev dktX1_level_0 : List UInt8 := dkwX1_level_0 ++ dktX1_level_1
theorem dksX1_level_0 : cX1_level.data.toList.drop 0 = dktX1_level_0 := by decide +kernel
theorem dksX1_level_1 : cX1_level.data.toList.drop 23 = dktX1_level_1 := dk_seg dksX1_level_0 23 rfl rfl
theorem dksX1_level_2 : cX1_level.data.toList.drop 47 = dktX1_level_2 := dk_seg dksX1_level_1 24 rfl rfl
theorem dX1_level_0 : decode cX1_level 0 = .ok (.iload_n 1, 1) := dk_27 (dk_at dksX1_level_0 0 rfl rfl)
theorem dX1_level_1 : decode cX1_level 1 = .ok (.i2l, 1) := dk_133 (dk_at dksX1_level_0 1 rfl rfl)
theorem dX1_level_2 : decode cX1_level 2 = .ok (.lconst 0, 1) := dk_9 (dk_at dksX1_level_0 2 rfl rfl)
theorem dX1_level_3 : decode cX1_level 3 = .ok (.ldc2_w 334, 3) := dk_20 1 78 (dk_at dksX1_level_0 3 rfl rfl)
theorem dX1_level_6 : decode cX1_level 6 = .ok (.invokestatic 87, 3) := dk_184 0 87 (dk_at dksX1_level_0 6 rfl rfl)
theorem dX1_level_9 : decode cX1_level 9 = .ok (.ifCond .ne 5, 3) := dk_154 0 5 (dk_at dksX1_level_0 9 rfl rfl)
theorem dX1_level_12 : decode cX1_level 12 = .ok (.iconst (-1), 1) := dk_2 (dk_at dksX1_level_0 12 rfl rfl)
theorem dX1_level_13 : decode cX1_level 13 = .ok (.ireturn, 1) := dk_172 (dk_at dksX1_level_0 13 rfl rfl)
theorem dX1_level_14 : decode cX1_level 14 = .ok (.aload_n 0, 1) := dk_42 (dk_at dksX1_level_0 14 rfl rfl)
theorem dX1_level_15 : decode cX1_level 15 = .ok (.aload_n 0, 1) := dk_42 (dk_at dksX1_level_0 15 rfl rfl)
theorem dX1_level_16 : decode cX1_level 16 = .ok (.getfield 10, 3) := dk_180 0 10 (dk_at dksX1_level_0 16 rfl rfl)
theorem dX1_level_19 : decode cX1_level 19 = .ok (.aload_n 0, 1) := dk_42 (dk_at dksX1_level_0 19 rfl rfl)
theorem dX1_level_20 : decode cX1_level 20 = .ok (.getfield 10, 3) := dk_180 0 10 (dk_at dksX1_level_0 20 rfl rfl)
theorem dX1_level_23 : decode cX1_level 23 = .ok (.getfield 314, 3) := dk_180 1 58 (dk_at dksX1_level_1 0 rfl rfl)
theorem dX1_level_26 : decode cX1_level 26 = .ok (.iload_n 1, 1) := dk_27 (dk_at dksX1_level_1 3 rfl rfl)
theorem dX1_level_27 : decode cX1_level 27 = .ok (.iadd, 1) := dk_96 (dk_at dksX1_level_1 4 rfl rfl)
theorem dX1_level_28 : decode cX1_level 28 = .ok (.invokevirtual 317, 3) := dk_182 1 61 (dk_at dksX1_level_1 5 rfl rfl)
theorem dX1_level_31 : decode cX1_level 31 = .ok (.istore_n 2, 1) := dk_61 (dk_at dksX1_level_1 8 rfl rfl)
theorem dX1_level_32 : decode cX1_level 32 = .ok (.aload_n 0, 1) := dk_42 (dk_at dksX1_level_1 9 rfl rfl)
theorem dX1_level_33 : decode cX1_level 33 = .ok (.iconst 0, 1) := dk_3 (dk_at dksX1_level_1 10 rfl rfl)
theorem dX1_level_34 : decode cX1_level 34 = .ok (.putfield 84, 3) := dk_181 0 84 (dk_at dksX1_level_1 11 rfl rfl)
theorem dX1_level_37 : decode cX1_level 37 = .ok (.aload_n 0, 1) := dk_42 (dk_at dksX1_level_1 14 rfl rfl)
theorem dX1_level_38 : decode cX1_level 38 = .ok (.aload_n 0, 1) := dk_42 (dk_at dksX1_level_1 15 rfl rfl)
theorem dX1_level_39 : decode cX1_level 39 = .ok (.aload_n 0, 1) := dk_42 (dk_at dksX1_level_1 16 rfl rfl)
theorem dX1_level_40 : decode cX1_level 40 = .ok (.getfield 10, 3) := dk_180 0 10 (dk_at dksX1_level_1 17 rfl rfl)
theorem dX1_level_43 : decode cX1_level 43 = .ok (.iload_n 2, 1) := dk_28 (dk_at dksX1_level_1 20 rfl rfl)
theorem dX1_level_44 : decode cX1_level 44 = .ok (.invokevirtual 320, 3) := dk_182 1 64 (dk_at dksX1_level_1 21 rfl rfl)
theorem dX1_level_47 : decode cX1_level 47 = .ok (.i2l, 1) := dk_133 (dk_at dksX1_level_2 0 rfl rfl)
theorem dX1_level_48 : decode cX1_level 48 = .ok (.invokevirtual 310, 3) := dk_182 1 54 (dk_at dksX1_level_2 1 rfl rfl)
theorem dX1_level_51 : decode cX1_level 51 = .ok (.iload_n 2, 1) := dk_28 (dk_at dksX1_level_2 4 rfl rfl)
theorem dX1_level_52 : decode cX1_level 52 = .ok (.ireturn, 1) := dk_172 (dk_at dksX1_level_2 5 rfl rfl)
abbrev cX1_holds : ByteArray := prog_1_method_46_code
def yX1_holds : MethodName := ⟨RX1, "holds", "()I"⟩
def dkwX1_holds_2 : List UInt8 := [27, 172]
abbrev dktX1_holds_2 : List UInt8 := dkwX1_holds_2 ++ []
def dkwX1_holds_1 : List UInt8 := [172, 42, 3, 181, 0, 84, 42, 42, 180, 1, 108, 133, 182, 1, 54, 42, 42, 180, 1, 105, 133, 182, 1, 54]
abbrev dktX1_holds_1 : List UInt8 := dkwX1_holds_1 ++ dktX1_holds_2
def dkwX1_holds_0 : List UInt8 := [42, 180, 0, 19, 42, 180, 0, 10, 182, 1, 18, 42, 182, 1, 111, 60, 27, 16, 99, 164, 0, 6, 16, 254]
abbrev dktX1_holds_0 : List UInt8 := dkwX1_holds_0 ++ dktX1_holds_1
theorem dksX1_holds_0 : cX1_holds.data.toList.drop 0 = dktX1_holds_0 := by decide +kernel
theorem dksX1_holds_1 : cX1_holds.data.toList.drop 24 = dktX1_holds_1 := dk_seg dksX1_holds_0 24 rfl rfl
theorem dksX1_holds_2 : cX1_holds.data.toList.drop 48 = dktX1_holds_2 := dk_seg dksX1_holds_1 24 rfl rfl
theorem dX1_holds_0 : decode cX1_holds 0 = .ok (.aload_n 0, 1) := dk_42 (dk_at dksX1_holds_0 0 rfl rfl)
theorem dX1_holds_1 : decode cX1_holds 1 = .ok (.getfield 19, 3) := dk_180 0 19 (dk_at dksX1_holds_0 1 rfl rfl)
theorem dX1_holds_4 : decode cX1_holds 4 = .ok (.aload_n 0, 1) := dk_42 (dk_at dksX1_holds_0 4 rfl rfl)
theorem dX1_holds_5 : decode cX1_holds 5 = .ok (.getfield 10, 3) := dk_180 0 10 (dk_at dksX1_holds_0 5 rfl rfl)
theorem dX1_holds_8 : decode cX1_holds 8 = .ok (.invokevirtual 274, 3) := dk_182 1 18 (dk_at dksX1_holds_0 8 rfl rfl)
theorem dX1_holds_11 : decode cX1_holds 11 = .ok (.aload_n 0, 1) := dk_42 (dk_at dksX1_holds_0 11 rfl rfl)
theorem dX1_holds_12 : decode cX1_holds 12 = .ok (.invokevirtual 367, 3) := dk_182 1 111 (dk_at dksX1_holds_0 12 rfl rfl)
theorem dX1_holds_15 : decode cX1_holds 15 = .ok (.istore_n 1, 1) := dk_60 (dk_at dksX1_holds_0 15 rfl rfl)
theorem dX1_holds_16 : decode cX1_holds 16 = .ok (.iload_n 1, 1) := dk_27 (dk_at dksX1_holds_0 16 rfl rfl)
theorem dX1_holds_17 : decode cX1_holds 17 = .ok (.bipush 99, 2) := dk_16 99 (dk_at dksX1_holds_0 17 rfl rfl)
theorem dX1_holds_19 : decode cX1_holds 19 = .ok (.if_icmp .le 6, 3) := dk_164 0 6 (dk_at dksX1_holds_0 19 rfl rfl)
theorem dX1_holds_22 : decode cX1_holds 22 = .ok (.bipush (-2), 2) := dk_16 254 (dk_at dksX1_holds_0 22 rfl rfl)
theorem dX1_holds_24 : decode cX1_holds 24 = .ok (.ireturn, 1) := dk_172 (dk_at dksX1_holds_1 0 rfl rfl)
theorem dX1_holds_25 : decode cX1_holds 25 = .ok (.aload_n 0, 1) := dk_42 (dk_at dksX1_holds_1 1 rfl rfl)
theorem dX1_holds_26 : decode cX1_holds 26 = .ok (.iconst 0, 1) := dk_3 (dk_at dksX1_holds_1 2 rfl rfl)
theorem dX1_holds_27 : decode cX1_holds 27 = .ok (.putfield 84, 3) := dk_181 0 84 (dk_at dksX1_holds_1 3 rfl rfl)
theorem dX1_holds_30 : decode cX1_holds 30 = .ok (.aload_n 0, 1) := dk_42 (dk_at dksX1_holds_1 6 rfl rfl)
theorem dX1_holds_31 : decode cX1_holds 31 = .ok (.aload_n 0, 1) := dk_42 (dk_at dksX1_holds_1 7 rfl rfl)
theorem dX1_holds_32 : decode cX1_holds 32 = .ok (.getfield 364, 3) := dk_180 1 108 (dk_at dksX1_holds_1 8 rfl rfl)
theorem dX1_holds_35 : decode cX1_holds 35 = .ok (.i2l, 1) := dk_133 (dk_at dksX1_holds_1 11 rfl rfl)
theorem dX1_holds_36 : decode cX1_holds 36 = .ok (.invokevirtual 310, 3) := dk_182 1 54 (dk_at dksX1_holds_1 12 rfl rfl)
theorem dX1_holds_39 : decode cX1_holds 39 = .ok (.aload_n 0, 1) := dk_42 (dk_at dksX1_holds_1 15 rfl rfl)
theorem dX1_holds_40 : decode cX1_holds 40 = .ok (.aload_n 0, 1) := dk_42 (dk_at dksX1_holds_1 16 rfl rfl)
theorem dX1_holds_41 : decode cX1_holds 41 = .ok (.getfield 361, 3) := dk_180 1 105 (dk_at dksX1_holds_1 17 rfl rfl)
theorem dX1_holds_44 : decode cX1_holds 44 = .ok (.i2l, 1) := dk_133 (dk_at dksX1_holds_1 20 rfl rfl)
theorem dX1_holds_45 : decode cX1_holds 45 = .ok (.invokevirtual 310, 3) := dk_182 1 54 (dk_at dksX1_holds_1 21 rfl rfl)
theorem dX1_holds_48 : decode cX1_holds 48 = .ok (.iload_n 1, 1) := dk_27 (dk_at dksX1_holds_2 0 rfl rfl)
theorem dX1_holds_49 : decode cX1_holds 49 = .ok (.ireturn, 1) := dk_172 (dk_at dksX1_holds_2 1 rfl rfl)
abbrev cX1_holdsOn : ByteArray := prog_1_method_45_code
def yX1_holdsOn : MethodName := ⟨RX1, "holdsOn", "()I"⟩
def dkwX1_holdsOn_2 : List UInt8 := [132, 1, 1, 167, 255, 207, 16, 100, 172]
abbrev dktX1_holdsOn_2 : List UInt8 := dkwX1_holdsOn_2 ++ []
def dkwX1_holdsOn_1 : List UInt8 := [181, 1, 105, 42, 42, 42, 180, 0, 19, 182, 1, 75, 181, 1, 108, 42, 180, 1, 108, 153, 0, 5, 27, 172]
abbrev dktX1_holdsOn_1 : List UInt8 := dkwX1_holdsOn_1 ++ dktX1_holdsOn_2
def dkwX1_holdsOn_0 : List UInt8 := [4, 60, 27, 16, 99, 163, 0, 49, 42, 42, 42, 180, 0, 19, 42, 180, 0, 19, 180, 1, 58, 182, 1, 61]
abbrev dktX1_holdsOn_0 : List UInt8 := dkwX1_holdsOn_0 ++ dktX1_holdsOn_1
theorem dksX1_holdsOn_0 : cX1_holdsOn.data.toList.drop 0 = dktX1_holdsOn_0 := by decide +kernel
theorem dksX1_holdsOn_1 : cX1_holdsOn.data.toList.drop 24 = dktX1_holdsOn_1 := dk_seg dksX1_holdsOn_0 24 rfl rfl
theorem dksX1_holdsOn_2 : cX1_holdsOn.data.toList.drop 48 = dktX1_holdsOn_2 := dk_seg dksX1_holdsOn_1 24 rfl rfl
theorem dX1_holdsOn_0 : decode cX1_holdsOn 0 = .ok (.iconst 1, 1) := dk_4 (dk_at dksX1_holdsOn_0 0 rfl rfl)
theorem dX1_holdsOn_1 : decode cX1_holdsOn 1 = .ok (.istore_n 1, 1) := dk_60 (dk_at dksX1_holdsOn_0 1 rfl rfl)
theorem dX1_holdsOn_2 : decode cX1_holdsOn 2 = .ok (.iload_n 1, 1) := dk_27 (dk_at dksX1_holdsOn_0 2 rfl rfl)
theorem dX1_holdsOn_3 : decode cX1_holdsOn 3 = .ok (.bipush 99, 2) := dk_16 99 (dk_at dksX1_holdsOn_0 3 rfl rfl)
theorem dX1_holdsOn_5 : decode cX1_holdsOn 5 = .ok (.if_icmp .gt 49, 3) := dk_163 0 49 (dk_at dksX1_holdsOn_0 5 rfl rfl)
theorem dX1_holdsOn_8 : decode cX1_holdsOn 8 = .ok (.aload_n 0, 1) := dk_42 (dk_at dksX1_holdsOn_0 8 rfl rfl)
theorem dX1_holdsOn_9 : decode cX1_holdsOn 9 = .ok (.aload_n 0, 1) := dk_42 (dk_at dksX1_holdsOn_0 9 rfl rfl)
theorem dX1_holdsOn_10 : decode cX1_holdsOn 10 = .ok (.aload_n 0, 1) := dk_42 (dk_at dksX1_holdsOn_0 10 rfl rfl)
theorem dX1_holdsOn_11 : decode cX1_holdsOn 11 = .ok (.getfield 19, 3) := dk_180 0 19 (dk_at dksX1_holdsOn_0 11 rfl rfl)
theorem dX1_holdsOn_14 : decode cX1_holdsOn 14 = .ok (.aload_n 0, 1) := dk_42 (dk_at dksX1_holdsOn_0 14 rfl rfl)
theorem dX1_holdsOn_15 : decode cX1_holdsOn 15 = .ok (.getfield 19, 3) := dk_180 0 19 (dk_at dksX1_holdsOn_0 15 rfl rfl)
theorem dX1_holdsOn_18 : decode cX1_holdsOn 18 = .ok (.getfield 314, 3) := dk_180 1 58 (dk_at dksX1_holdsOn_0 18 rfl rfl)
theorem dX1_holdsOn_21 : decode cX1_holdsOn 21 = .ok (.invokevirtual 317, 3) := dk_182 1 61 (dk_at dksX1_holdsOn_0 21 rfl rfl)
theorem dX1_holdsOn_24 : decode cX1_holdsOn 24 = .ok (.putfield 361, 3) := dk_181 1 105 (dk_at dksX1_holdsOn_1 0 rfl rfl)
theorem dX1_holdsOn_27 : decode cX1_holdsOn 27 = .ok (.aload_n 0, 1) := dk_42 (dk_at dksX1_holdsOn_1 3 rfl rfl)
theorem dX1_holdsOn_28 : decode cX1_holdsOn 28 = .ok (.aload_n 0, 1) := dk_42 (dk_at dksX1_holdsOn_1 4 rfl rfl)
theorem dX1_holdsOn_29 : decode cX1_holdsOn 29 = .ok (.aload_n 0, 1) := dk_42 (dk_at dksX1_holdsOn_1 5 rfl rfl)
theorem dX1_holdsOn_30 : decode cX1_holdsOn 30 = .ok (.getfield 19, 3) := dk_180 0 19 (dk_at dksX1_holdsOn_1 6 rfl rfl)
theorem dX1_holdsOn_33 : decode cX1_holdsOn 33 = .ok (.invokevirtual 331, 3) := dk_182 1 75 (dk_at dksX1_holdsOn_1 9 rfl rfl)
theorem dX1_holdsOn_36 : decode cX1_holdsOn 36 = .ok (.putfield 364, 3) := dk_181 1 108 (dk_at dksX1_holdsOn_1 12 rfl rfl)
theorem dX1_holdsOn_39 : decode cX1_holdsOn 39 = .ok (.aload_n 0, 1) := dk_42 (dk_at dksX1_holdsOn_1 15 rfl rfl)
theorem dX1_holdsOn_40 : decode cX1_holdsOn 40 = .ok (.getfield 364, 3) := dk_180 1 108 (dk_at dksX1_holdsOn_1 16 rfl rfl)
theorem dX1_holdsOn_43 : decode cX1_holdsOn 43 = .ok (.ifCond .eq 5, 3) := dk_153 0 5 (dk_at dksX1_holdsOn_1 19 rfl rfl)
theorem dX1_holdsOn_46 : decode cX1_holdsOn 46 = .ok (.iload_n 1, 1) := dk_27 (dk_at dksX1_holdsOn_1 22 rfl rfl)
theorem dX1_holdsOn_47 : decode cX1_holdsOn 47 = .ok (.ireturn, 1) := dk_172 (dk_at dksX1_holdsOn_1 23 rfl rfl)
theorem dX1_holdsOn_48 : decode cX1_holdsOn 48 = .ok (.iinc 1 1, 3) := dk_132 1 1 (dk_at dksX1_holdsOn_2 0 rfl rfl)
theorem dX1_holdsOn_51 : decode cX1_holdsOn 51 = .ok (.goto (-49), 3) := dk_167 255 207 (dk_at dksX1_holdsOn_2 3 rfl rfl)
theorem dX1_holdsOn_54 : decode cX1_holdsOn 54 = .ok (.bipush 100, 2) := dk_16 100 (dk_at dksX1_holdsOn_2 6 rfl rfl)
theorem dX1_holdsOn_56 : decode cX1_holdsOn 56 = .ok (.ireturn, 1) := dk_172 (dk_at dksX1_holdsOn_2 8 rfl rfl)
abbrev cX1_tides : ByteArray := prog_1_method_48_code
def yX1_tides : MethodName := ⟨RX1, "tides", "(I)I"⟩
def dkwX1_tides_3 : List UInt8 := [182, 1, 54, 28, 172]
abbrev dktX1_tides_3 : List UInt8 := dkwX1_tides_3 ++ []
def dkwX1_tides_2 : List UInt8 := [182, 1, 80, 184, 0, 196, 133, 182, 1, 54, 42, 42, 180, 0, 19, 180, 0, 239, 184, 1, 71, 133]
abbrev dktX1_tides_2 : List UInt8 := dkwX1_tides_2 ++ dktX1_tides_3
def dkwX1_tides_1 : List UInt8 := [182, 1, 18, 42, 27, 182, 1, 117, 61, 42, 3, 181, 0, 84, 42, 42, 180, 0, 19, 42, 180, 0, 42]
abbrev dktX1_tides_1 : List UInt8 := dkwX1_tides_1 ++ dktX1_tides_2
def dkwX1_tides_0 : List UInt8 := [27, 133, 9, 20, 1, 115, 184, 0, 87, 154, 0, 5, 2, 172, 42, 180, 0, 19, 42, 180, 0, 10]
abbrev dktX1_tides_0 : List UInt8 := dkwX1_tides_0 ++ dktX1_tides_1
theorem dksX1_tides_0 : cX1_tides.data.toList.drop 0 = dktX1_tides_0 := by decide +kernel
theorem dksX1_tides_1 : cX1_tides.data.toList.drop 22 = dktX1_tides_1 := dk_seg dksX1_tides_0 22 rfl rfl
theorem dksX1_tides_2 : cX1_tides.data.toList.drop 45 = dktX1_tides_2 := dk_seg dksX1_tides_1 23 rfl rfl
theorem dksX1_tides_3 : cX1_tides.data.toList.drop 67 = dktX1_tides_3 := dk_seg dksX1_tides_2 22 rfl rfl
theorem dX1_tides_0 : decode cX1_tides 0 = .ok (.iload_n 1, 1) := dk_27 (dk_at dksX1_tides_0 0 rfl rfl)
theorem dX1_tides_1 : decode cX1_tides 1 = .ok (.i2l, 1) := dk_133 (dk_at dksX1_tides_0 1 rfl rfl)
theorem dX1_tides_2 : decode cX1_tides 2 = .ok (.lconst 0, 1) := dk_9 (dk_at dksX1_tides_0 2 rfl rfl)
theorem dX1_tides_3 : decode cX1_tides 3 = .ok (.ldc2_w 371, 3) := dk_20 1 115 (dk_at dksX1_tides_0 3 rfl rfl)
theorem dX1_tides_6 : decode cX1_tides 6 = .ok (.invokestatic 87, 3) := dk_184 0 87 (dk_at dksX1_tides_0 6 rfl rfl)
theorem dX1_tides_9 : decode cX1_tides 9 = .ok (.ifCond .ne 5, 3) := dk_154 0 5 (dk_at dksX1_tides_0 9 rfl rfl)
theorem dX1_tides_12 : decode cX1_tides 12 = .ok (.iconst (-1), 1) := dk_2 (dk_at dksX1_tides_0 12 rfl rfl)
theorem dX1_tides_13 : decode cX1_tides 13 = .ok (.ireturn, 1) := dk_172 (dk_at dksX1_tides_0 13 rfl rfl)
theorem dX1_tides_14 : decode cX1_tides 14 = .ok (.aload_n 0, 1) := dk_42 (dk_at dksX1_tides_0 14 rfl rfl)
theorem dX1_tides_15 : decode cX1_tides 15 = .ok (.getfield 19, 3) := dk_180 0 19 (dk_at dksX1_tides_0 15 rfl rfl)
theorem dX1_tides_18 : decode cX1_tides 18 = .ok (.aload_n 0, 1) := dk_42 (dk_at dksX1_tides_0 18 rfl rfl)
theorem dX1_tides_19 : decode cX1_tides 19 = .ok (.getfield 10, 3) := dk_180 0 10 (dk_at dksX1_tides_0 19 rfl rfl)
theorem dX1_tides_22 : decode cX1_tides 22 = .ok (.invokevirtual 274, 3) := dk_182 1 18 (dk_at dksX1_tides_1 0 rfl rfl)
theorem dX1_tides_25 : decode cX1_tides 25 = .ok (.aload_n 0, 1) := dk_42 (dk_at dksX1_tides_1 3 rfl rfl)
theorem dX1_tides_26 : decode cX1_tides 26 = .ok (.iload_n 1, 1) := dk_27 (dk_at dksX1_tides_1 4 rfl rfl)
theorem dX1_tides_27 : decode cX1_tides 27 = .ok (.invokevirtual 373, 3) := dk_182 1 117 (dk_at dksX1_tides_1 5 rfl rfl)
theorem dX1_tides_30 : decode cX1_tides 30 = .ok (.istore_n 2, 1) := dk_61 (dk_at dksX1_tides_1 8 rfl rfl)
theorem dX1_tides_31 : decode cX1_tides 31 = .ok (.aload_n 0, 1) := dk_42 (dk_at dksX1_tides_1 9 rfl rfl)
theorem dX1_tides_32 : decode cX1_tides 32 = .ok (.iconst 0, 1) := dk_3 (dk_at dksX1_tides_1 10 rfl rfl)
theorem dX1_tides_33 : decode cX1_tides 33 = .ok (.putfield 84, 3) := dk_181 0 84 (dk_at dksX1_tides_1 11 rfl rfl)
theorem dX1_tides_36 : decode cX1_tides 36 = .ok (.aload_n 0, 1) := dk_42 (dk_at dksX1_tides_1 14 rfl rfl)
theorem dX1_tides_37 : decode cX1_tides 37 = .ok (.aload_n 0, 1) := dk_42 (dk_at dksX1_tides_1 15 rfl rfl)
theorem dX1_tides_38 : decode cX1_tides 38 = .ok (.getfield 19, 3) := dk_180 0 19 (dk_at dksX1_tides_1 16 rfl rfl)
theorem dX1_tides_41 : decode cX1_tides 41 = .ok (.aload_n 0, 1) := dk_42 (dk_at dksX1_tides_1 19 rfl rfl)
theorem dX1_tides_42 : decode cX1_tides 42 = .ok (.getfield 42, 3) := dk_180 0 42 (dk_at dksX1_tides_1 20 rfl rfl)
theorem dX1_tides_45 : decode cX1_tides 45 = .ok (.invokevirtual 336, 3) := dk_182 1 80 (dk_at dksX1_tides_2 0 rfl rfl)
theorem dX1_tides_48 : decode cX1_tides 48 = .ok (.invokestatic 196, 3) := dk_184 0 196 (dk_at dksX1_tides_2 3 rfl rfl)
theorem dX1_tides_51 : decode cX1_tides 51 = .ok (.i2l, 1) := dk_133 (dk_at dksX1_tides_2 6 rfl rfl)
theorem dX1_tides_52 : decode cX1_tides 52 = .ok (.invokevirtual 310, 3) := dk_182 1 54 (dk_at dksX1_tides_2 7 rfl rfl)
theorem dX1_tides_55 : decode cX1_tides 55 = .ok (.aload_n 0, 1) := dk_42 (dk_at dksX1_tides_2 10 rfl rfl)
theorem dX1_tides_56 : decode cX1_tides 56 = .ok (.aload_n 0, 1) := dk_42 (dk_at dksX1_tides_2 11 rfl rfl)
theorem dX1_tides_57 : decode cX1_tides 57 = .ok (.getfield 19, 3) := dk_180 0 19 (dk_at dksX1_tides_2 12 rfl rfl)
theorem dX1_tides_60 : decode cX1_tides 60 = .ok (.getfield 239, 3) := dk_180 0 239 (dk_at dksX1_tides_2 15 rfl rfl)
theorem dX1_tides_63 : decode cX1_tides 63 = .ok (.invokestatic 327, 3) := dk_184 1 71 (dk_at dksX1_tides_2 18 rfl rfl)
theorem dX1_tides_66 : decode cX1_tides 66 = .ok (.i2l, 1) := dk_133 (dk_at dksX1_tides_2 21 rfl rfl)
theorem dX1_tides_67 : decode cX1_tides 67 = .ok (.invokevirtual 310, 3) := dk_182 1 54 (dk_at dksX1_tides_3 0 rfl rfl)
theorem dX1_tides_70 : decode cX1_tides 70 = .ok (.iload_n 2, 1) := dk_28 (dk_at dksX1_tides_3 3 rfl rfl)
theorem dX1_tides_71 : decode cX1_tides 71 = .ok (.ireturn, 1) := dk_172 (dk_at dksX1_tides_3 4 rfl rfl)
abbrev cX1_breaks : ByteArray := prog_1_method_47_code
def yX1_breaks : MethodName := ⟨RX1, "breaks", "(I)I"⟩
def dkwX1_breaks_1 : List UInt8 := [167, 0, 4, 3, 96, 61, 132, 3, 1, 167, 255, 229, 28, 172]
abbrev dktX1_breaks_1 : List UInt8 := dkwX1_breaks_1 ++ []
def dkwX1_breaks_0 : List UInt8 := [3, 61, 3, 62, 29, 27, 162, 0, 28, 28, 42, 42, 180, 0, 19, 182, 1, 75, 153, 0, 7, 4]
abbrev dktX1_breaks_0 : List UInt8 := dkwX1_breaks_0 ++ dktX1_breaks_1
theorem dksX1_breaks_0 : cX1_breaks.data.toList.drop 0 = dktX1_breaks_0 := by decide +kernel
theorem dksX1_breaks_1 : cX1_breaks.data.toList.drop 22 = dktX1_breaks_1 := dk_seg dksX1_breaks_0 22 rfl rfl
theorem dX1_breaks_0 : decode cX1_breaks 0 = .ok (.iconst 0, 1) := dk_3 (dk_at dksX1_breaks_0 0 rfl rfl)
theorem dX1_breaks_1 : decode cX1_breaks 1 = .ok (.istore_n 2, 1) := dk_61 (dk_at dksX1_breaks_0 1 rfl rfl)
theorem dX1_breaks_2 : decode cX1_breaks 2 = .ok (.iconst 0, 1) := dk_3 (dk_at dksX1_breaks_0 2 rfl rfl)
theorem dX1_breaks_3 : decode cX1_breaks 3 = .ok (.istore_n 3, 1) := dk_62 (dk_at dksX1_breaks_0 3 rfl rfl)
theorem dX1_breaks_4 : decode cX1_breaks 4 = .ok (.iload_n 3, 1) := dk_29 (dk_at dksX1_breaks_0 4 rfl rfl)
theorem dX1_breaks_5 : decode cX1_breaks 5 = .ok (.iload_n 1, 1) := dk_27 (dk_at dksX1_breaks_0 5 rfl rfl)
theorem dX1_breaks_6 : decode cX1_breaks 6 = .ok (.if_icmp .ge 28, 3) := dk_162 0 28 (dk_at dksX1_breaks_0 6 rfl rfl)
theorem dX1_breaks_9 : decode cX1_breaks 9 = .ok (.iload_n 2, 1) := dk_28 (dk_at dksX1_breaks_0 9 rfl rfl)
theorem dX1_breaks_10 : decode cX1_breaks 10 = .ok (.aload_n 0, 1) := dk_42 (dk_at dksX1_breaks_0 10 rfl rfl)
theorem dX1_breaks_11 : decode cX1_breaks 11 = .ok (.aload_n 0, 1) := dk_42 (dk_at dksX1_breaks_0 11 rfl rfl)
theorem dX1_breaks_12 : decode cX1_breaks 12 = .ok (.getfield 19, 3) := dk_180 0 19 (dk_at dksX1_breaks_0 12 rfl rfl)
theorem dX1_breaks_15 : decode cX1_breaks 15 = .ok (.invokevirtual 331, 3) := dk_182 1 75 (dk_at dksX1_breaks_0 15 rfl rfl)
theorem dX1_breaks_18 : decode cX1_breaks 18 = .ok (.ifCond .eq 7, 3) := dk_153 0 7 (dk_at dksX1_breaks_0 18 rfl rfl)
theorem dX1_breaks_21 : decode cX1_breaks 21 = .ok (.iconst 1, 1) := dk_4 (dk_at dksX1_breaks_0 21 rfl rfl)
theorem dX1_breaks_22 : decode cX1_breaks 22 = .ok (.goto 4, 3) := dk_167 0 4 (dk_at dksX1_breaks_1 0 rfl rfl)
theorem dX1_breaks_25 : decode cX1_breaks 25 = .ok (.iconst 0, 1) := dk_3 (dk_at dksX1_breaks_1 3 rfl rfl)
theorem dX1_breaks_26 : decode cX1_breaks 26 = .ok (.iadd, 1) := dk_96 (dk_at dksX1_breaks_1 4 rfl rfl)
theorem dX1_breaks_27 : decode cX1_breaks 27 = .ok (.istore_n 2, 1) := dk_61 (dk_at dksX1_breaks_1 5 rfl rfl)
theorem dX1_breaks_28 : decode cX1_breaks 28 = .ok (.iinc 3 1, 3) := dk_132 3 1 (dk_at dksX1_breaks_1 6 rfl rfl)
theorem dX1_breaks_31 : decode cX1_breaks 31 = .ok (.goto (-27), 3) := dk_167 255 229 (dk_at dksX1_breaks_1 9 rfl rfl)
theorem dX1_breaks_34 : decode cX1_breaks 34 = .ok (.iload_n 2, 1) := dk_28 (dk_at dksX1_breaks_1 12 rfl rfl)
theorem dX1_breaks_35 : decode cX1_breaks 35 = .ok (.ireturn, 1) := dk_172 (dk_at dksX1_breaks_1 13 rfl rfl)
abbrev cX1_spells : ByteArray := prog_1_method_49_code
def yX1_spells : MethodName := ⟨RX1, "spells", "()I"⟩
def dkwX1_spells_2 : List UInt8 := [42, 180, 0, 19, 182, 1, 42, 87, 132, 1, 1, 167, 255, 210, 16, 254, 172]
abbrev dktX1_spells_2 : List UInt8 := dkwX1_spells_2 ++ []
def dkwX1_spells_1 : List UInt8 := [42, 42, 180, 0, 19, 42, 180, 0, 19, 180, 1, 58, 182, 1, 61, 182, 1, 64, 154, 0, 5, 27, 172, 42]
abbrev dktX1_spells_1 : List UInt8 := dkwX1_spells_1 ++ dktX1_spells_2
def dkwX1_spells_0 : List UInt8 := [42, 180, 0, 19, 42, 180, 0, 10, 182, 1, 18, 3, 60, 27, 16, 30, 163, 0, 46, 42, 42, 180, 0, 19]
abbrev dktX1_spells_0 : List UInt8 := dkwX1_spells_0 ++ dktX1_spells_1
theorem dksX1_spells_0 : cX1_spells.data.toList.drop 0 = dktX1_spells_0 := by decide +kernel
theorem dksX1_spells_1 : cX1_spells.data.toList.drop 24 = dktX1_spells_1 := dk_seg dksX1_spells_0 24 rfl rfl
theorem dksX1_spells_2 : cX1_spells.data.toList.drop 48 = dktX1_spells_2 := dk_seg dksX1_spells_1 24 rfl rfl
theorem dX1_spells_0 : decode cX1_spells 0 = .ok (.aload_n 0, 1) := dk_42 (dk_at dksX1_spells_0 0 rfl rfl)
theorem dX1_spells_1 : decode cX1_spells 1 = .ok (.getfield 19, 3) := dk_180 0 19 (dk_at dksX1_spells_0 1 rfl rfl)
theorem dX1_spells_4 : decode cX1_spells 4 = .ok (.aload_n 0, 1) := dk_42 (dk_at dksX1_spells_0 4 rfl rfl)
theorem dX1_spells_5 : decode cX1_spells 5 = .ok (.getfield 10, 3) := dk_180 0 10 (dk_at dksX1_spells_0 5 rfl rfl)
theorem dX1_spells_8 : decode cX1_spells 8 = .ok (.invokevirtual 274, 3) := dk_182 1 18 (dk_at dksX1_spells_0 8 rfl rfl)
theorem dX1_spells_11 : decode cX1_spells 11 = .ok (.iconst 0, 1) := dk_3 (dk_at dksX1_spells_0 11 rfl rfl)
theorem dX1_spells_12 : decode cX1_spells 12 = .ok (.istore_n 1, 1) := dk_60 (dk_at dksX1_spells_0 12 rfl rfl)
theorem dX1_spells_13 : decode cX1_spells 13 = .ok (.iload_n 1, 1) := dk_27 (dk_at dksX1_spells_0 13 rfl rfl)
theorem dX1_spells_14 : decode cX1_spells 14 = .ok (.bipush 30, 2) := dk_16 30 (dk_at dksX1_spells_0 14 rfl rfl)
theorem dX1_spells_16 : decode cX1_spells 16 = .ok (.if_icmp .gt 46, 3) := dk_163 0 46 (dk_at dksX1_spells_0 16 rfl rfl)
theorem dX1_spells_19 : decode cX1_spells 19 = .ok (.aload_n 0, 1) := dk_42 (dk_at dksX1_spells_0 19 rfl rfl)
theorem dX1_spells_20 : decode cX1_spells 20 = .ok (.aload_n 0, 1) := dk_42 (dk_at dksX1_spells_0 20 rfl rfl)
theorem dX1_spells_21 : decode cX1_spells 21 = .ok (.getfield 19, 3) := dk_180 0 19 (dk_at dksX1_spells_0 21 rfl rfl)
theorem dX1_spells_24 : decode cX1_spells 24 = .ok (.aload_n 0, 1) := dk_42 (dk_at dksX1_spells_1 0 rfl rfl)
theorem dX1_spells_25 : decode cX1_spells 25 = .ok (.aload_n 0, 1) := dk_42 (dk_at dksX1_spells_1 1 rfl rfl)
theorem dX1_spells_26 : decode cX1_spells 26 = .ok (.getfield 19, 3) := dk_180 0 19 (dk_at dksX1_spells_1 2 rfl rfl)
theorem dX1_spells_29 : decode cX1_spells 29 = .ok (.aload_n 0, 1) := dk_42 (dk_at dksX1_spells_1 5 rfl rfl)
theorem dX1_spells_30 : decode cX1_spells 30 = .ok (.getfield 19, 3) := dk_180 0 19 (dk_at dksX1_spells_1 6 rfl rfl)
theorem dX1_spells_33 : decode cX1_spells 33 = .ok (.getfield 314, 3) := dk_180 1 58 (dk_at dksX1_spells_1 9 rfl rfl)
theorem dX1_spells_36 : decode cX1_spells 36 = .ok (.invokevirtual 317, 3) := dk_182 1 61 (dk_at dksX1_spells_1 12 rfl rfl)
theorem dX1_spells_39 : decode cX1_spells 39 = .ok (.invokevirtual 320, 3) := dk_182 1 64 (dk_at dksX1_spells_1 15 rfl rfl)
theorem dX1_spells_42 : decode cX1_spells 42 = .ok (.ifCond .ne 5, 3) := dk_154 0 5 (dk_at dksX1_spells_1 18 rfl rfl)
theorem dX1_spells_45 : decode cX1_spells 45 = .ok (.iload_n 1, 1) := dk_27 (dk_at dksX1_spells_1 21 rfl rfl)
theorem dX1_spells_46 : decode cX1_spells 46 = .ok (.ireturn, 1) := dk_172 (dk_at dksX1_spells_1 22 rfl rfl)
theorem dX1_spells_47 : decode cX1_spells 47 = .ok (.aload_n 0, 1) := dk_42 (dk_at dksX1_spells_1 23 rfl rfl)
theorem dX1_spells_48 : decode cX1_spells 48 = .ok (.aload_n 0, 1) := dk_42 (dk_at dksX1_spells_2 0 rfl rfl)
theorem dX1_spells_49 : decode cX1_spells 49 = .ok (.getfield 19, 3) := dk_180 0 19 (dk_at dksX1_spells_2 1 rfl rfl)
theorem dX1_spells_52 : decode cX1_spells 52 = .ok (.invokevirtual 298, 3) := dk_182 1 42 (dk_at dksX1_spells_2 4 rfl rfl)
theorem dX1_spells_55 : decode cX1_spells 55 = .ok (.pop, 1) := dk_87 (dk_at dksX1_spells_2 7 rfl rfl)
theorem dX1_spells_56 : decode cX1_spells 56 = .ok (.iinc 1 1, 3) := dk_132 1 1 (dk_at dksX1_spells_2 8 rfl rfl)
theorem dX1_spells_59 : decode cX1_spells 59 = .ok (.goto (-46), 3) := dk_167 255 210 (dk_at dksX1_spells_2 11 rfl rfl)
theorem dX1_spells_62 : decode cX1_spells 62 = .ok (.bipush (-2), 2) := dk_16 254 (dk_at dksX1_spells_2 14 rfl rfl)
theorem dX1_spells_64 : decode cX1_spells 64 = .ok (.ireturn, 1) := dk_172 (dk_at dksX1_spells_2 16 rfl rfl)
abbrev cX1_floods : ByteArray := prog_1_method_52_code
def yX1_floods : MethodName := ⟨RX1, "floods", "(II)I"⟩
def dkwX1_floods_2 : List UInt8 := [182, 1, 54, 29, 172]
abbrev dktX1_floods_2 : List UInt8 := dkwX1_floods_2 ++ []
def dkwX1_floods_1 : List UInt8 := [181, 0, 84, 42, 29, 184, 0, 196, 133, 182, 1, 54, 42, 42, 180, 0, 19, 180, 0, 239, 184, 1, 71, 133]
abbrev dktX1_floods_1 : List UInt8 := dkwX1_floods_1 ++ dktX1_floods_2
def dkwX1_floods_0 : List UInt8 := [42, 27, 28, 182, 1, 122, 154, 0, 5, 2, 172, 42, 27, 28, 42, 180, 0, 30, 182, 1, 125, 62, 42, 3]
abbrev dktX1_floods_0 : List UInt8 := dkwX1_floods_0 ++ dktX1_floods_1
theorem dksX1_floods_0 : cX1_floods.data.toList.drop 0 = dktX1_floods_0 := by decide +kernel
theorem dksX1_floods_1 : cX1_floods.data.toList.drop 24 = dktX1_floods_1 := dk_seg dksX1_floods_0 24 rfl rfl
theorem dksX1_floods_2 : cX1_floods.data.toList.drop 48 = dktX1_floods_2 := dk_seg dksX1_floods_1 24 rfl rfl
theorem dX1_floods_0 : decode cX1_floods 0 = .ok (.aload_n 0, 1) := dk_42 (dk_at dksX1_floods_0 0 rfl rfl)
theorem dX1_floods_1 : decode cX1_floods 1 = .ok (.iload_n 1, 1) := dk_27 (dk_at dksX1_floods_0 1 rfl rfl)
theorem dX1_floods_2 : decode cX1_floods 2 = .ok (.iload_n 2, 1) := dk_28 (dk_at dksX1_floods_0 2 rfl rfl)
theorem dX1_floods_3 : decode cX1_floods 3 = .ok (.invokevirtual 378, 3) := dk_182 1 122 (dk_at dksX1_floods_0 3 rfl rfl)
theorem dX1_floods_6 : decode cX1_floods 6 = .ok (.ifCond .ne 5, 3) := dk_154 0 5 (dk_at dksX1_floods_0 6 rfl rfl)
theorem dX1_floods_9 : decode cX1_floods 9 = .ok (.iconst (-1), 1) := dk_2 (dk_at dksX1_floods_0 9 rfl rfl)
theorem dX1_floods_10 : decode cX1_floods 10 = .ok (.ireturn, 1) := dk_172 (dk_at dksX1_floods_0 10 rfl rfl)
theorem dX1_floods_11 : decode cX1_floods 11 = .ok (.aload_n 0, 1) := dk_42 (dk_at dksX1_floods_0 11 rfl rfl)
theorem dX1_floods_12 : decode cX1_floods 12 = .ok (.iload_n 1, 1) := dk_27 (dk_at dksX1_floods_0 12 rfl rfl)
theorem dX1_floods_13 : decode cX1_floods 13 = .ok (.iload_n 2, 1) := dk_28 (dk_at dksX1_floods_0 13 rfl rfl)
theorem dX1_floods_14 : decode cX1_floods 14 = .ok (.aload_n 0, 1) := dk_42 (dk_at dksX1_floods_0 14 rfl rfl)
theorem dX1_floods_15 : decode cX1_floods 15 = .ok (.getfield 30, 3) := dk_180 0 30 (dk_at dksX1_floods_0 15 rfl rfl)
theorem dX1_floods_18 : decode cX1_floods 18 = .ok (.invokevirtual 381, 3) := dk_182 1 125 (dk_at dksX1_floods_0 18 rfl rfl)
theorem dX1_floods_21 : decode cX1_floods 21 = .ok (.istore_n 3, 1) := dk_62 (dk_at dksX1_floods_0 21 rfl rfl)
theorem dX1_floods_22 : decode cX1_floods 22 = .ok (.aload_n 0, 1) := dk_42 (dk_at dksX1_floods_0 22 rfl rfl)
theorem dX1_floods_23 : decode cX1_floods 23 = .ok (.iconst 0, 1) := dk_3 (dk_at dksX1_floods_0 23 rfl rfl)
theorem dX1_floods_24 : decode cX1_floods 24 = .ok (.putfield 84, 3) := dk_181 0 84 (dk_at dksX1_floods_1 0 rfl rfl)
theorem dX1_floods_27 : decode cX1_floods 27 = .ok (.aload_n 0, 1) := dk_42 (dk_at dksX1_floods_1 3 rfl rfl)
theorem dX1_floods_28 : decode cX1_floods 28 = .ok (.iload_n 3, 1) := dk_29 (dk_at dksX1_floods_1 4 rfl rfl)
theorem dX1_floods_29 : decode cX1_floods 29 = .ok (.invokestatic 196, 3) := dk_184 0 196 (dk_at dksX1_floods_1 5 rfl rfl)
theorem dX1_floods_32 : decode cX1_floods 32 = .ok (.i2l, 1) := dk_133 (dk_at dksX1_floods_1 8 rfl rfl)
theorem dX1_floods_33 : decode cX1_floods 33 = .ok (.invokevirtual 310, 3) := dk_182 1 54 (dk_at dksX1_floods_1 9 rfl rfl)
theorem dX1_floods_36 : decode cX1_floods 36 = .ok (.aload_n 0, 1) := dk_42 (dk_at dksX1_floods_1 12 rfl rfl)
theorem dX1_floods_37 : decode cX1_floods 37 = .ok (.aload_n 0, 1) := dk_42 (dk_at dksX1_floods_1 13 rfl rfl)
theorem dX1_floods_38 : decode cX1_floods 38 = .ok (.getfield 19, 3) := dk_180 0 19 (dk_at dksX1_floods_1 14 rfl rfl)
theorem dX1_floods_41 : decode cX1_floods 41 = .ok (.getfield 239, 3) := dk_180 0 239 (dk_at dksX1_floods_1 17 rfl rfl)
theorem dX1_floods_44 : decode cX1_floods 44 = .ok (.invokestatic 327, 3) := dk_184 1 71 (dk_at dksX1_floods_1 20 rfl rfl)
theorem dX1_floods_47 : decode cX1_floods 47 = .ok (.i2l, 1) := dk_133 (dk_at dksX1_floods_1 23 rfl rfl)
theorem dX1_floods_48 : decode cX1_floods 48 = .ok (.invokevirtual 310, 3) := dk_182 1 54 (dk_at dksX1_floods_2 0 rfl rfl)
theorem dX1_floods_51 : decode cX1_floods 51 = .ok (.iload_n 3, 1) := dk_29 (dk_at dksX1_floods_2 3 rfl rfl)
theorem dX1_floods_52 : decode cX1_floods 52 = .ok (.ireturn, 1) := dk_172 (dk_at dksX1_floods_2 4 rfl rfl)
abbrev cX1_isFlood : ByteArray := prog_1_method_51_code
def yX1_isFlood : MethodName := ⟨RX1, "isFlood", "(II)Z"⟩
def dkwX1_isFlood_1 : List UInt8 := [3, 172]
abbrev dktX1_isFlood_1 : List UInt8 := dkwX1_isFlood_1 ++ []
def dkwX1_isFlood_0 : List UInt8 := [42, 27, 182, 0, 232, 153, 0, 19, 28, 133, 10, 20, 1, 120, 184, 0, 87, 153, 0, 7, 4, 167, 0, 4]
abbrev dktX1_isFlood_0 : List UInt8 := dkwX1_isFlood_0 ++ dktX1_isFlood_1
theorem dksX1_isFlood_0 : cX1_isFlood.data.toList.drop 0 = dktX1_isFlood_0 := by decide +kernel
theorem dksX1_isFlood_1 : cX1_isFlood.data.toList.drop 24 = dktX1_isFlood_1 := dk_seg dksX1_isFlood_0 24 rfl rfl
theorem dX1_isFlood_0 : decode cX1_isFlood 0 = .ok (.aload_n 0, 1) := dk_42 (dk_at dksX1_isFlood_0 0 rfl rfl)
theorem dX1_isFlood_1 : decode cX1_isFlood 1 = .ok (.iload_n 1, 1) := dk_27 (dk_at dksX1_isFlood_0 1 rfl rfl)
theorem dX1_isFlood_2 : decode cX1_isFlood 2 = .ok (.invokevirtual 232, 3) := dk_182 0 232 (dk_at dksX1_isFlood_0 2 rfl rfl)
theorem dX1_isFlood_5 : decode cX1_isFlood 5 = .ok (.ifCond .eq 19, 3) := dk_153 0 19 (dk_at dksX1_isFlood_0 5 rfl rfl)
theorem dX1_isFlood_8 : decode cX1_isFlood 8 = .ok (.iload_n 2, 1) := dk_28 (dk_at dksX1_isFlood_0 8 rfl rfl)
theorem dX1_isFlood_9 : decode cX1_isFlood 9 = .ok (.i2l, 1) := dk_133 (dk_at dksX1_isFlood_0 9 rfl rfl)
theorem dX1_isFlood_10 : decode cX1_isFlood 10 = .ok (.lconst 1, 1) := dk_10 (dk_at dksX1_isFlood_0 10 rfl rfl)
theorem dX1_isFlood_11 : decode cX1_isFlood 11 = .ok (.ldc2_w 376, 3) := dk_20 1 120 (dk_at dksX1_isFlood_0 11 rfl rfl)
theorem dX1_isFlood_14 : decode cX1_isFlood 14 = .ok (.invokestatic 87, 3) := dk_184 0 87 (dk_at dksX1_isFlood_0 14 rfl rfl)
theorem dX1_isFlood_17 : decode cX1_isFlood 17 = .ok (.ifCond .eq 7, 3) := dk_153 0 7 (dk_at dksX1_isFlood_0 17 rfl rfl)
theorem dX1_isFlood_20 : decode cX1_isFlood 20 = .ok (.iconst 1, 1) := dk_4 (dk_at dksX1_isFlood_0 20 rfl rfl)
theorem dX1_isFlood_21 : decode cX1_isFlood 21 = .ok (.goto 4, 3) := dk_167 0 4 (dk_at dksX1_isFlood_0 21 rfl rfl)
theorem dX1_isFlood_24 : decode cX1_isFlood 24 = .ok (.iconst 0, 1) := dk_3 (dk_at dksX1_isFlood_1 0 rfl rfl)
theorem dX1_isFlood_25 : decode cX1_isFlood 25 = .ok (.ireturn, 1) := dk_172 (dk_at dksX1_isFlood_1 1 rfl rfl)
abbrev cX1_floodedBy : ByteArray := prog_1_method_50_code
def yX1_floodedBy : MethodName := ⟨RX1, "floodedBy", "(II[I)I"⟩
def dkwX1_floodedBy_1 : List UInt8 := [180, 0, 19, 42, 180, 0, 42, 45, 182, 1, 67, 42, 180, 0, 19, 42, 180, 0, 42, 182, 1, 80, 172]
abbrev dktX1_floodedBy_1 : List UInt8 := dkwX1_floodedBy_1 ++ []
def dkwX1_floodedBy_0 : List UInt8 := [42, 180, 0, 19, 180, 0, 239, 3, 184, 1, 39, 42, 180, 0, 19, 180, 0, 239, 27, 28, 79, 42]
abbrev dktX1_floodedBy_0 : List UInt8 := dkwX1_floodedBy_0 ++ dktX1_floodedBy_1
theorem dksX1_floodedBy_0 : cX1_floodedBy.data.toList.drop 0 = dktX1_floodedBy_0 := by decide +kernel
theorem dksX1_floodedBy_1 : cX1_floodedBy.data.toList.drop 22 = dktX1_floodedBy_1 := dk_seg dksX1_floodedBy_0 22 rfl rfl
theorem dX1_floodedBy_0 : decode cX1_floodedBy 0 = .ok (.aload_n 0, 1) := dk_42 (dk_at dksX1_floodedBy_0 0 rfl rfl)
theorem dX1_floodedBy_1 : decode cX1_floodedBy 1 = .ok (.getfield 19, 3) := dk_180 0 19 (dk_at dksX1_floodedBy_0 1 rfl rfl)
theorem dX1_floodedBy_4 : decode cX1_floodedBy 4 = .ok (.getfield 239, 3) := dk_180 0 239 (dk_at dksX1_floodedBy_0 4 rfl rfl)
theorem dX1_floodedBy_7 : decode cX1_floodedBy 7 = .ok (.iconst 0, 1) := dk_3 (dk_at dksX1_floodedBy_0 7 rfl rfl)
theorem dX1_floodedBy_8 : decode cX1_floodedBy 8 = .ok (.invokestatic 295, 3) := dk_184 1 39 (dk_at dksX1_floodedBy_0 8 rfl rfl)
theorem dX1_floodedBy_11 : decode cX1_floodedBy 11 = .ok (.aload_n 0, 1) := dk_42 (dk_at dksX1_floodedBy_0 11 rfl rfl)
theorem dX1_floodedBy_12 : decode cX1_floodedBy 12 = .ok (.getfield 19, 3) := dk_180 0 19 (dk_at dksX1_floodedBy_0 12 rfl rfl)
theorem dX1_floodedBy_15 : decode cX1_floodedBy 15 = .ok (.getfield 239, 3) := dk_180 0 239 (dk_at dksX1_floodedBy_0 15 rfl rfl)
theorem dX1_floodedBy_18 : decode cX1_floodedBy 18 = .ok (.iload_n 1, 1) := dk_27 (dk_at dksX1_floodedBy_0 18 rfl rfl)
theorem dX1_floodedBy_19 : decode cX1_floodedBy 19 = .ok (.iload_n 2, 1) := dk_28 (dk_at dksX1_floodedBy_0 19 rfl rfl)
theorem dX1_floodedBy_20 : decode cX1_floodedBy 20 = .ok (.iastore, 1) := dk_79 (dk_at dksX1_floodedBy_0 20 rfl rfl)
theorem dX1_floodedBy_21 : decode cX1_floodedBy 21 = .ok (.aload_n 0, 1) := dk_42 (dk_at dksX1_floodedBy_0 21 rfl rfl)
theorem dX1_floodedBy_22 : decode cX1_floodedBy 22 = .ok (.getfield 19, 3) := dk_180 0 19 (dk_at dksX1_floodedBy_1 0 rfl rfl)
theorem dX1_floodedBy_25 : decode cX1_floodedBy 25 = .ok (.aload_n 0, 1) := dk_42 (dk_at dksX1_floodedBy_1 3 rfl rfl)
theorem dX1_floodedBy_26 : decode cX1_floodedBy 26 = .ok (.getfield 42, 3) := dk_180 0 42 (dk_at dksX1_floodedBy_1 4 rfl rfl)
theorem dX1_floodedBy_29 : decode cX1_floodedBy 29 = .ok (.aload_n 3, 1) := dk_45 (dk_at dksX1_floodedBy_1 7 rfl rfl)
theorem dX1_floodedBy_30 : decode cX1_floodedBy 30 = .ok (.invokevirtual 323, 3) := dk_182 1 67 (dk_at dksX1_floodedBy_1 8 rfl rfl)
theorem dX1_floodedBy_33 : decode cX1_floodedBy 33 = .ok (.aload_n 0, 1) := dk_42 (dk_at dksX1_floodedBy_1 11 rfl rfl)
theorem dX1_floodedBy_34 : decode cX1_floodedBy 34 = .ok (.getfield 19, 3) := dk_180 0 19 (dk_at dksX1_floodedBy_1 12 rfl rfl)
theorem dX1_floodedBy_37 : decode cX1_floodedBy 37 = .ok (.aload_n 0, 1) := dk_42 (dk_at dksX1_floodedBy_1 15 rfl rfl)
theorem dX1_floodedBy_38 : decode cX1_floodedBy 38 = .ok (.getfield 42, 3) := dk_180 0 42 (dk_at dksX1_floodedBy_1 16 rfl rfl)
theorem dX1_floodedBy_41 : decode cX1_floodedBy 41 = .ok (.invokevirtual 336, 3) := dk_182 1 80 (dk_at dksX1_floodedBy_1 19 rfl rfl)
theorem dX1_floodedBy_44 : decode cX1_floodedBy 44 = .ok (.ireturn, 1) := dk_172 (dk_at dksX1_floodedBy_1 22 rfl rfl)
abbrev cX1_raise : ByteArray := prog_1_method_53_code
def yX1_raise : MethodName := ⟨RX1, "raise", "(II)I"⟩
def dkwX1_raise_6 : List UInt8 := [182, 1, 54, 29, 184, 0, 196, 172]
abbrev dktX1_raise_6 : List UInt8 := dkwX1_raise_6 ++ []
def dkwX1_raise_5 : List UInt8 := [132, 4, 1, 167, 255, 154, 29, 2, 160, 0, 6, 16, 254, 172, 42, 3, 181, 0, 84, 42, 29, 133]
abbrev dktX1_raise_5 : List UInt8 := dkwX1_raise_5 ++ dktX1_raise_6
def dkwX1_raise_4 : List UInt8 := [167, 255, 215, 42, 27, 28, 42, 180, 0, 60, 182, 1, 125, 4, 27, 120, 160, 0, 6, 21, 4, 62]
abbrev dktX1_raise_4 : List UInt8 := dkwX1_raise_4 ++ dktX1_raise_5
def dkwX1_raise_3 : List UInt8 := [21, 5, 184, 0, 225, 153, 0, 8, 16, 9, 167, 0, 10, 42, 180, 0, 30, 21, 5, 46, 79, 132, 5, 1]
abbrev dktX1_raise_3 : List UInt8 := dkwX1_raise_3 ++ dktX1_raise_4
def dkwX1_raise_2 : List UInt8 := [167, 0, 69, 3, 54, 5, 21, 5, 42, 180, 0, 42, 162, 0, 38, 42, 180, 0, 60, 21, 5, 21, 4]
abbrev dktX1_raise_2 : List UInt8 := dkwX1_raise_2 ++ dktX1_raise_3
def dkwX1_raise_1 : List UInt8 := [100, 120, 162, 0, 95, 29, 2, 159, 0, 18, 21, 4, 184, 0, 196, 29, 184, 0, 196, 161, 0, 6]
abbrev dktX1_raise_1 : List UInt8 := dkwX1_raise_1 ++ dktX1_raise_2
def dkwX1_raise_0 : List UInt8 := [42, 27, 28, 182, 1, 122, 154, 0, 5, 2, 172, 2, 62, 3, 54, 4, 21, 4, 4, 42, 180, 0, 42, 4]
abbrev dktX1_raise_0 : List UInt8 := dkwX1_raise_0 ++ dktX1_raise_1
theorem dksX1_raise_0 : cX1_raise.data.toList.drop 0 = dktX1_raise_0 := by decide +kernel
theorem dksX1_raise_1 : cX1_raise.data.toList.drop 24 = dktX1_raise_1 := dk_seg dksX1_raise_0 24 rfl rfl
theorem dksX1_raise_2 : cX1_raise.data.toList.drop 46 = dktX1_raise_2 := dk_seg dksX1_raise_1 22 rfl rfl
theorem dksX1_raise_3 : cX1_raise.data.toList.drop 69 = dktX1_raise_3 := dk_seg dksX1_raise_2 23 rfl rfl
theorem dksX1_raise_4 : cX1_raise.data.toList.drop 93 = dktX1_raise_4 := dk_seg dksX1_raise_3 24 rfl rfl
theorem dksX1_raise_5 : cX1_raise.data.toList.drop 115 = dktX1_raise_5 := dk_seg dksX1_raise_4 22 rfl rfl
theorem dksX1_raise_6 : cX1_raise.data.toList.drop 137 = dktX1_raise_6 := dk_seg dksX1_raise_5 22 rfl rfl
theorem dX1_raise_0 : decode cX1_raise 0 = .ok (.aload_n 0, 1) := dk_42 (dk_at dksX1_raise_0 0 rfl rfl)
theorem dX1_raise_1 : decode cX1_raise 1 = .ok (.iload_n 1, 1) := dk_27 (dk_at dksX1_raise_0 1 rfl rfl)
theorem dX1_raise_2 : decode cX1_raise 2 = .ok (.iload_n 2, 1) := dk_28 (dk_at dksX1_raise_0 2 rfl rfl)
theorem dX1_raise_3 : decode cX1_raise 3 = .ok (.invokevirtual 378, 3) := dk_182 1 122 (dk_at dksX1_raise_0 3 rfl rfl)
theorem dX1_raise_6 : decode cX1_raise 6 = .ok (.ifCond .ne 5, 3) := dk_154 0 5 (dk_at dksX1_raise_0 6 rfl rfl)
theorem dX1_raise_9 : decode cX1_raise 9 = .ok (.iconst (-1), 1) := dk_2 (dk_at dksX1_raise_0 9 rfl rfl)
theorem dX1_raise_10 : decode cX1_raise 10 = .ok (.ireturn, 1) := dk_172 (dk_at dksX1_raise_0 10 rfl rfl)
theorem dX1_raise_11 : decode cX1_raise 11 = .ok (.iconst (-1), 1) := dk_2 (dk_at dksX1_raise_0 11 rfl rfl)
theorem dX1_raise_12 : decode cX1_raise 12 = .ok (.istore_n 3, 1) := dk_62 (dk_at dksX1_raise_0 12 rfl rfl)
theorem dX1_raise_13 : decode cX1_raise 13 = .ok (.iconst 0, 1) := dk_3 (dk_at dksX1_raise_0 13 rfl rfl)
theorem dX1_raise_14 : decode cX1_raise 14 = .ok (.istore 4, 2) := dk_54 4 (dk_at dksX1_raise_0 14 rfl rfl)
theorem dX1_raise_16 : decode cX1_raise 16 = .ok (.iload 4, 2) := dk_21 4 (dk_at dksX1_raise_0 16 rfl rfl)
theorem dX1_raise_18 : decode cX1_raise 18 = .ok (.iconst 1, 1) := dk_4 (dk_at dksX1_raise_0 18 rfl rfl)
theorem dX1_raise_19 : decode cX1_raise 19 = .ok (.aload_n 0, 1) := dk_42 (dk_at dksX1_raise_0 19 rfl rfl)
theorem dX1_raise_20 : decode cX1_raise 20 = .ok (.getfield 42, 3) := dk_180 0 42 (dk_at dksX1_raise_0 20 rfl rfl)
theorem dX1_raise_23 : decode cX1_raise 23 = .ok (.iconst 1, 1) := dk_4 (dk_at dksX1_raise_0 23 rfl rfl)
theorem dX1_raise_24 : decode cX1_raise 24 = .ok (.isub, 1) := dk_100 (dk_at dksX1_raise_1 0 rfl rfl)
theorem dX1_raise_25 : decode cX1_raise 25 = .ok (.ishl, 1) := dk_120 (dk_at dksX1_raise_1 1 rfl rfl)
theorem dX1_raise_26 : decode cX1_raise 26 = .ok (.if_icmp .ge 95, 3) := dk_162 0 95 (dk_at dksX1_raise_1 2 rfl rfl)
theorem dX1_raise_29 : decode cX1_raise 29 = .ok (.iload_n 3, 1) := dk_29 (dk_at dksX1_raise_1 5 rfl rfl)
theorem dX1_raise_30 : decode cX1_raise 30 = .ok (.iconst (-1), 1) := dk_2 (dk_at dksX1_raise_1 6 rfl rfl)
theorem dX1_raise_31 : decode cX1_raise 31 = .ok (.if_icmp .eq 18, 3) := dk_159 0 18 (dk_at dksX1_raise_1 7 rfl rfl)
theorem dX1_raise_34 : decode cX1_raise 34 = .ok (.iload 4, 2) := dk_21 4 (dk_at dksX1_raise_1 10 rfl rfl)
theorem dX1_raise_36 : decode cX1_raise 36 = .ok (.invokestatic 196, 3) := dk_184 0 196 (dk_at dksX1_raise_1 12 rfl rfl)
theorem dX1_raise_39 : decode cX1_raise 39 = .ok (.iload_n 3, 1) := dk_29 (dk_at dksX1_raise_1 15 rfl rfl)
theorem dX1_raise_40 : decode cX1_raise 40 = .ok (.invokestatic 196, 3) := dk_184 0 196 (dk_at dksX1_raise_1 16 rfl rfl)
theorem dX1_raise_43 : decode cX1_raise 43 = .ok (.if_icmp .lt 6, 3) := dk_161 0 6 (dk_at dksX1_raise_1 19 rfl rfl)
theorem dX1_raise_46 : decode cX1_raise 46 = .ok (.goto 69, 3) := dk_167 0 69 (dk_at dksX1_raise_2 0 rfl rfl)
theorem dX1_raise_49 : decode cX1_raise 49 = .ok (.iconst 0, 1) := dk_3 (dk_at dksX1_raise_2 3 rfl rfl)
theorem dX1_raise_50 : decode cX1_raise 50 = .ok (.istore 5, 2) := dk_54 5 (dk_at dksX1_raise_2 4 rfl rfl)
theorem dX1_raise_52 : decode cX1_raise 52 = .ok (.iload 5, 2) := dk_21 5 (dk_at dksX1_raise_2 6 rfl rfl)
theorem dX1_raise_54 : decode cX1_raise 54 = .ok (.aload_n 0, 1) := dk_42 (dk_at dksX1_raise_2 8 rfl rfl)
theorem dX1_raise_55 : decode cX1_raise 55 = .ok (.getfield 42, 3) := dk_180 0 42 (dk_at dksX1_raise_2 9 rfl rfl)
theorem dX1_raise_58 : decode cX1_raise 58 = .ok (.if_icmp .ge 38, 3) := dk_162 0 38 (dk_at dksX1_raise_2 12 rfl rfl)
theorem dX1_raise_61 : decode cX1_raise 61 = .ok (.aload_n 0, 1) := dk_42 (dk_at dksX1_raise_2 15 rfl rfl)
theorem dX1_raise_62 : decode cX1_raise 62 = .ok (.getfield 60, 3) := dk_180 0 60 (dk_at dksX1_raise_2 16 rfl rfl)
theorem dX1_raise_65 : decode cX1_raise 65 = .ok (.iload 5, 2) := dk_21 5 (dk_at dksX1_raise_2 19 rfl rfl)
theorem dX1_raise_67 : decode cX1_raise 67 = .ok (.iload 4, 2) := dk_21 4 (dk_at dksX1_raise_2 21 rfl rfl)
theorem dX1_raise_69 : decode cX1_raise 69 = .ok (.iload 5, 2) := dk_21 5 (dk_at dksX1_raise_3 0 rfl rfl)
theorem dX1_raise_71 : decode cX1_raise 71 = .ok (.invokestatic 225, 3) := dk_184 0 225 (dk_at dksX1_raise_3 2 rfl rfl)
theorem dX1_raise_74 : decode cX1_raise 74 = .ok (.ifCond .eq 8, 3) := dk_153 0 8 (dk_at dksX1_raise_3 5 rfl rfl)
theorem dX1_raise_77 : decode cX1_raise 77 = .ok (.bipush 9, 2) := dk_16 9 (dk_at dksX1_raise_3 8 rfl rfl)
theorem dX1_raise_79 : decode cX1_raise 79 = .ok (.goto 10, 3) := dk_167 0 10 (dk_at dksX1_raise_3 10 rfl rfl)
theorem dX1_raise_82 : decode cX1_raise 82 = .ok (.aload_n 0, 1) := dk_42 (dk_at dksX1_raise_3 13 rfl rfl)
theorem dX1_raise_83 : decode cX1_raise 83 = .ok (.getfield 30, 3) := dk_180 0 30 (dk_at dksX1_raise_3 14 rfl rfl)
theorem dX1_raise_86 : decode cX1_raise 86 = .ok (.iload 5, 2) := dk_21 5 (dk_at dksX1_raise_3 17 rfl rfl)
theorem dX1_raise_88 : decode cX1_raise 88 = .ok (.iaload, 1) := dk_46 (dk_at dksX1_raise_3 19 rfl rfl)
theorem dX1_raise_89 : decode cX1_raise 89 = .ok (.iastore, 1) := dk_79 (dk_at dksX1_raise_3 20 rfl rfl)
theorem dX1_raise_90 : decode cX1_raise 90 = .ok (.iinc 5 1, 3) := dk_132 5 1 (dk_at dksX1_raise_3 21 rfl rfl)
theorem dX1_raise_93 : decode cX1_raise 93 = .ok (.goto (-41), 3) := dk_167 255 215 (dk_at dksX1_raise_4 0 rfl rfl)
theorem dX1_raise_96 : decode cX1_raise 96 = .ok (.aload_n 0, 1) := dk_42 (dk_at dksX1_raise_4 3 rfl rfl)
theorem dX1_raise_97 : decode cX1_raise 97 = .ok (.iload_n 1, 1) := dk_27 (dk_at dksX1_raise_4 4 rfl rfl)
theorem dX1_raise_98 : decode cX1_raise 98 = .ok (.iload_n 2, 1) := dk_28 (dk_at dksX1_raise_4 5 rfl rfl)
theorem dX1_raise_99 : decode cX1_raise 99 = .ok (.aload_n 0, 1) := dk_42 (dk_at dksX1_raise_4 6 rfl rfl)
theorem dX1_raise_100 : decode cX1_raise 100 = .ok (.getfield 60, 3) := dk_180 0 60 (dk_at dksX1_raise_4 7 rfl rfl)
theorem dX1_raise_103 : decode cX1_raise 103 = .ok (.invokevirtual 381, 3) := dk_182 1 125 (dk_at dksX1_raise_4 10 rfl rfl)
theorem dX1_raise_106 : decode cX1_raise 106 = .ok (.iconst 1, 1) := dk_4 (dk_at dksX1_raise_4 13 rfl rfl)
theorem dX1_raise_107 : decode cX1_raise 107 = .ok (.iload_n 1, 1) := dk_27 (dk_at dksX1_raise_4 14 rfl rfl)
theorem dX1_raise_108 : decode cX1_raise 108 = .ok (.ishl, 1) := dk_120 (dk_at dksX1_raise_4 15 rfl rfl)
theorem dX1_raise_109 : decode cX1_raise 109 = .ok (.if_icmp .ne 6, 3) := dk_160 0 6 (dk_at dksX1_raise_4 16 rfl rfl)
theorem dX1_raise_112 : decode cX1_raise 112 = .ok (.iload 4, 2) := dk_21 4 (dk_at dksX1_raise_4 19 rfl rfl)
theorem dX1_raise_114 : decode cX1_raise 114 = .ok (.istore_n 3, 1) := dk_62 (dk_at dksX1_raise_4 21 rfl rfl)
theorem dX1_raise_115 : decode cX1_raise 115 = .ok (.iinc 4 1, 3) := dk_132 4 1 (dk_at dksX1_raise_5 0 rfl rfl)
theorem dX1_raise_118 : decode cX1_raise 118 = .ok (.goto (-102), 3) := dk_167 255 154 (dk_at dksX1_raise_5 3 rfl rfl)
theorem dX1_raise_121 : decode cX1_raise 121 = .ok (.iload_n 3, 1) := dk_29 (dk_at dksX1_raise_5 6 rfl rfl)
theorem dX1_raise_122 : decode cX1_raise 122 = .ok (.iconst (-1), 1) := dk_2 (dk_at dksX1_raise_5 7 rfl rfl)
theorem dX1_raise_123 : decode cX1_raise 123 = .ok (.if_icmp .ne 6, 3) := dk_160 0 6 (dk_at dksX1_raise_5 8 rfl rfl)
theorem dX1_raise_126 : decode cX1_raise 126 = .ok (.bipush (-2), 2) := dk_16 254 (dk_at dksX1_raise_5 11 rfl rfl)
theorem dX1_raise_128 : decode cX1_raise 128 = .ok (.ireturn, 1) := dk_172 (dk_at dksX1_raise_5 13 rfl rfl)
theorem dX1_raise_129 : decode cX1_raise 129 = .ok (.aload_n 0, 1) := dk_42 (dk_at dksX1_raise_5 14 rfl rfl)
theorem dX1_raise_130 : decode cX1_raise 130 = .ok (.iconst 0, 1) := dk_3 (dk_at dksX1_raise_5 15 rfl rfl)
theorem dX1_raise_131 : decode cX1_raise 131 = .ok (.putfield 84, 3) := dk_181 0 84 (dk_at dksX1_raise_5 16 rfl rfl)
theorem dX1_raise_134 : decode cX1_raise 134 = .ok (.aload_n 0, 1) := dk_42 (dk_at dksX1_raise_5 19 rfl rfl)
theorem dX1_raise_135 : decode cX1_raise 135 = .ok (.iload_n 3, 1) := dk_29 (dk_at dksX1_raise_5 20 rfl rfl)
theorem dX1_raise_136 : decode cX1_raise 136 = .ok (.i2l, 1) := dk_133 (dk_at dksX1_raise_5 21 rfl rfl)
theorem dX1_raise_137 : decode cX1_raise 137 = .ok (.invokevirtual 310, 3) := dk_182 1 54 (dk_at dksX1_raise_6 0 rfl rfl)
theorem dX1_raise_140 : decode cX1_raise 140 = .ok (.iload_n 3, 1) := dk_29 (dk_at dksX1_raise_6 3 rfl rfl)
theorem dX1_raise_141 : decode cX1_raise 141 = .ok (.invokestatic 196, 3) := dk_184 0 196 (dk_at dksX1_raise_6 4 rfl rfl)
theorem dX1_raise_144 : decode cX1_raise 144 = .ok (.ireturn, 1) := dk_172 (dk_at dksX1_raise_6 7 rfl rfl)
abbrev cX1_crew : ByteArray := prog_1_method_54_code
def yX1_crew : MethodName := ⟨RX1, "crew", "(II)I"⟩
def dkwX1_crew_4 : List UInt8 := [182, 1, 54, 132, 5, 1, 167, 255, 232, 21, 4, 172]
abbrev dktX1_crew_4 : List UInt8 := dkwX1_crew_4 ++ []
def dkwX1_crew_3 : List UInt8 := [181, 0, 84, 3, 54, 5, 21, 5, 42, 180, 0, 91, 162, 0, 21, 42, 45, 180, 1, 137, 21, 5, 46, 133]
abbrev dktX1_crew_3 : List UInt8 := dkwX1_crew_3 ++ dktX1_crew_4
def dkwX1_crew_2 : List UInt8 := [27, 28, 183, 1, 131, 78, 45, 182, 1, 134, 54, 4, 21, 4, 16, 254, 160, 0, 6, 16, 254, 172, 42, 3]
abbrev dktX1_crew_2 : List UInt8 := dkwX1_crew_2 ++ dktX1_crew_3
def dkwX1_crew_1 : List UInt8 := [184, 0, 87, 154, 0, 5, 2, 172, 27, 184, 0, 196, 7, 164, 0, 6, 16, 253, 172, 187, 1, 129, 89, 42]
abbrev dktX1_crew_1 : List UInt8 := dkwX1_crew_1 ++ dktX1_crew_2
def dkwX1_crew_0 : List UInt8 := [27, 133, 9, 4, 42, 180, 0, 91, 120, 4, 100, 133, 184, 0, 87, 153, 0, 15, 28, 133, 10, 20, 0, 255]
abbrev dktX1_crew_0 : List UInt8 := dkwX1_crew_0 ++ dktX1_crew_1
theorem dksX1_crew_0 : cX1_crew.data.toList.drop 0 = dktX1_crew_0 := by decide +kernel
theorem dksX1_crew_1 : cX1_crew.data.toList.drop 24 = dktX1_crew_1 := dk_seg dksX1_crew_0 24 rfl rfl
theorem dksX1_crew_2 : cX1_crew.data.toList.drop 48 = dktX1_crew_2 := dk_seg dksX1_crew_1 24 rfl rfl
theorem dksX1_crew_3 : cX1_crew.data.toList.drop 72 = dktX1_crew_3 := dk_seg dksX1_crew_2 24 rfl rfl
theorem dksX1_crew_4 : cX1_crew.data.toList.drop 96 = dktX1_crew_4 := dk_seg dksX1_crew_3 24 rfl rfl
theorem dX1_crew_0 : decode cX1_crew 0 = .ok (.iload_n 1, 1) := dk_27 (dk_at dksX1_crew_0 0 rfl rfl)
theorem dX1_crew_1 : decode cX1_crew 1 = .ok (.i2l, 1) := dk_133 (dk_at dksX1_crew_0 1 rfl rfl)
theorem dX1_crew_2 : decode cX1_crew 2 = .ok (.lconst 0, 1) := dk_9 (dk_at dksX1_crew_0 2 rfl rfl)
theorem dX1_crew_3 : decode cX1_crew 3 = .ok (.iconst 1, 1) := dk_4 (dk_at dksX1_crew_0 3 rfl rfl)
theorem dX1_crew_4 : decode cX1_crew 4 = .ok (.aload_n 0, 1) := dk_42 (dk_at dksX1_crew_0 4 rfl rfl)
theorem dX1_crew_5 : decode cX1_crew 5 = .ok (.getfield 91, 3) := dk_180 0 91 (dk_at dksX1_crew_0 5 rfl rfl)
theorem dX1_crew_8 : decode cX1_crew 8 = .ok (.ishl, 1) := dk_120 (dk_at dksX1_crew_0 8 rfl rfl)
theorem dX1_crew_9 : decode cX1_crew 9 = .ok (.iconst 1, 1) := dk_4 (dk_at dksX1_crew_0 9 rfl rfl)
theorem dX1_crew_10 : decode cX1_crew 10 = .ok (.isub, 1) := dk_100 (dk_at dksX1_crew_0 10 rfl rfl)
theorem dX1_crew_11 : decode cX1_crew 11 = .ok (.i2l, 1) := dk_133 (dk_at dksX1_crew_0 11 rfl rfl)
theorem dX1_crew_12 : decode cX1_crew 12 = .ok (.invokestatic 87, 3) := dk_184 0 87 (dk_at dksX1_crew_0 12 rfl rfl)
theorem dX1_crew_15 : decode cX1_crew 15 = .ok (.ifCond .eq 15, 3) := dk_153 0 15 (dk_at dksX1_crew_0 15 rfl rfl)
theorem dX1_crew_18 : decode cX1_crew 18 = .ok (.iload_n 2, 1) := dk_28 (dk_at dksX1_crew_0 18 rfl rfl)
theorem dX1_crew_19 : decode cX1_crew 19 = .ok (.i2l, 1) := dk_133 (dk_at dksX1_crew_0 19 rfl rfl)
theorem dX1_crew_20 : decode cX1_crew 20 = .ok (.lconst 1, 1) := dk_10 (dk_at dksX1_crew_0 20 rfl rfl)
theorem dX1_crew_21 : decode cX1_crew 21 = .ok (.ldc2_w 255, 3) := dk_20 0 255 (dk_at dksX1_crew_0 21 rfl rfl)
theorem dX1_crew_24 : decode cX1_crew 24 = .ok (.invokestatic 87, 3) := dk_184 0 87 (dk_at dksX1_crew_1 0 rfl rfl)
theorem dX1_crew_27 : decode cX1_crew 27 = .ok (.ifCond .ne 5, 3) := dk_154 0 5 (dk_at dksX1_crew_1 3 rfl rfl)
theorem dX1_crew_30 : decode cX1_crew 30 = .ok (.iconst (-1), 1) := dk_2 (dk_at dksX1_crew_1 6 rfl rfl)
theorem dX1_crew_31 : decode cX1_crew 31 = .ok (.ireturn, 1) := dk_172 (dk_at dksX1_crew_1 7 rfl rfl)
theorem dX1_crew_32 : decode cX1_crew 32 = .ok (.iload_n 1, 1) := dk_27 (dk_at dksX1_crew_1 8 rfl rfl)
theorem dX1_crew_33 : decode cX1_crew 33 = .ok (.invokestatic 196, 3) := dk_184 0 196 (dk_at dksX1_crew_1 9 rfl rfl)
theorem dX1_crew_36 : decode cX1_crew 36 = .ok (.iconst 4, 1) := dk_7 (dk_at dksX1_crew_1 12 rfl rfl)
theorem dX1_crew_37 : decode cX1_crew 37 = .ok (.if_icmp .le 6, 3) := dk_164 0 6 (dk_at dksX1_crew_1 13 rfl rfl)
theorem dX1_crew_40 : decode cX1_crew 40 = .ok (.bipush (-3), 2) := dk_16 253 (dk_at dksX1_crew_1 16 rfl rfl)
theorem dX1_crew_42 : decode cX1_crew 42 = .ok (.ireturn, 1) := dk_172 (dk_at dksX1_crew_1 18 rfl rfl)
theorem dX1_crew_43 : decode cX1_crew 43 = .ok (.new 385, 3) := dk_187 1 129 (dk_at dksX1_crew_1 19 rfl rfl)
theorem dX1_crew_46 : decode cX1_crew 46 = .ok (.dup, 1) := dk_89 (dk_at dksX1_crew_1 22 rfl rfl)
theorem dX1_crew_47 : decode cX1_crew 47 = .ok (.aload_n 0, 1) := dk_42 (dk_at dksX1_crew_1 23 rfl rfl)
theorem dX1_crew_48 : decode cX1_crew 48 = .ok (.iload_n 1, 1) := dk_27 (dk_at dksX1_crew_2 0 rfl rfl)
theorem dX1_crew_49 : decode cX1_crew 49 = .ok (.iload_n 2, 1) := dk_28 (dk_at dksX1_crew_2 1 rfl rfl)
theorem dX1_crew_50 : decode cX1_crew 50 = .ok (.invokespecial 387, 3) := dk_183 1 131 (dk_at dksX1_crew_2 2 rfl rfl)
theorem dX1_crew_53 : decode cX1_crew 53 = .ok (.astore_n 3, 1) := dk_78 (dk_at dksX1_crew_2 5 rfl rfl)
theorem dX1_crew_54 : decode cX1_crew 54 = .ok (.aload_n 3, 1) := dk_45 (dk_at dksX1_crew_2 6 rfl rfl)
theorem dX1_crew_55 : decode cX1_crew 55 = .ok (.invokevirtual 390, 3) := dk_182 1 134 (dk_at dksX1_crew_2 7 rfl rfl)
theorem dX1_crew_58 : decode cX1_crew 58 = .ok (.istore 4, 2) := dk_54 4 (dk_at dksX1_crew_2 10 rfl rfl)
theorem dX1_crew_60 : decode cX1_crew 60 = .ok (.iload 4, 2) := dk_21 4 (dk_at dksX1_crew_2 12 rfl rfl)
theorem dX1_crew_62 : decode cX1_crew 62 = .ok (.bipush (-2), 2) := dk_16 254 (dk_at dksX1_crew_2 14 rfl rfl)
theorem dX1_crew_64 : decode cX1_crew 64 = .ok (.if_icmp .ne 6, 3) := dk_160 0 6 (dk_at dksX1_crew_2 16 rfl rfl)
theorem dX1_crew_67 : decode cX1_crew 67 = .ok (.bipush (-2), 2) := dk_16 254 (dk_at dksX1_crew_2 19 rfl rfl)
theorem dX1_crew_69 : decode cX1_crew 69 = .ok (.ireturn, 1) := dk_172 (dk_at dksX1_crew_2 21 rfl rfl)
theorem dX1_crew_70 : decode cX1_crew 70 = .ok (.aload_n 0, 1) := dk_42 (dk_at dksX1_crew_2 22 rfl rfl)
theorem dX1_crew_71 : decode cX1_crew 71 = .ok (.iconst 0, 1) := dk_3 (dk_at dksX1_crew_2 23 rfl rfl)
theorem dX1_crew_72 : decode cX1_crew 72 = .ok (.putfield 84, 3) := dk_181 0 84 (dk_at dksX1_crew_3 0 rfl rfl)
theorem dX1_crew_75 : decode cX1_crew 75 = .ok (.iconst 0, 1) := dk_3 (dk_at dksX1_crew_3 3 rfl rfl)
theorem dX1_crew_76 : decode cX1_crew 76 = .ok (.istore 5, 2) := dk_54 5 (dk_at dksX1_crew_3 4 rfl rfl)
theorem dX1_crew_78 : decode cX1_crew 78 = .ok (.iload 5, 2) := dk_21 5 (dk_at dksX1_crew_3 6 rfl rfl)
theorem dX1_crew_80 : decode cX1_crew 80 = .ok (.aload_n 0, 1) := dk_42 (dk_at dksX1_crew_3 8 rfl rfl)
theorem dX1_crew_81 : decode cX1_crew 81 = .ok (.getfield 91, 3) := dk_180 0 91 (dk_at dksX1_crew_3 9 rfl rfl)
theorem dX1_crew_84 : decode cX1_crew 84 = .ok (.if_icmp .ge 21, 3) := dk_162 0 21 (dk_at dksX1_crew_3 12 rfl rfl)
theorem dX1_crew_87 : decode cX1_crew 87 = .ok (.aload_n 0, 1) := dk_42 (dk_at dksX1_crew_3 15 rfl rfl)
theorem dX1_crew_88 : decode cX1_crew 88 = .ok (.aload_n 3, 1) := dk_45 (dk_at dksX1_crew_3 16 rfl rfl)
theorem dX1_crew_89 : decode cX1_crew 89 = .ok (.getfield 393, 3) := dk_180 1 137 (dk_at dksX1_crew_3 17 rfl rfl)
theorem dX1_crew_92 : decode cX1_crew 92 = .ok (.iload 5, 2) := dk_21 5 (dk_at dksX1_crew_3 20 rfl rfl)
theorem dX1_crew_94 : decode cX1_crew 94 = .ok (.iaload, 1) := dk_46 (dk_at dksX1_crew_3 22 rfl rfl)
theorem dX1_crew_95 : decode cX1_crew 95 = .ok (.i2l, 1) := dk_133 (dk_at dksX1_crew_3 23 rfl rfl)
theorem dX1_crew_96 : decode cX1_crew 96 = .ok (.invokevirtual 310, 3) := dk_182 1 54 (dk_at dksX1_crew_4 0 rfl rfl)
theorem dX1_crew_99 : decode cX1_crew 99 = .ok (.iinc 5 1, 3) := dk_132 5 1 (dk_at dksX1_crew_4 3 rfl rfl)
theorem dX1_crew_102 : decode cX1_crew 102 = .ok (.goto (-24), 3) := dk_167 255 232 (dk_at dksX1_crew_4 6 rfl rfl)
theorem dX1_crew_105 : decode cX1_crew 105 = .ok (.iload 4, 2) := dk_21 4 (dk_at dksX1_crew_4 9 rfl rfl)
theorem dX1_crew_107 : decode cX1_crew 107 = .ok (.ireturn, 1) := dk_172 (dk_at dksX1_crew_4 11 rfl rfl)
abbrev cX1_post : ByteArray := prog_1_method_55_code
def yX1_post : MethodName := ⟨RX1, "post", "(II)I"⟩
def dkwX1_post_3 : List UInt8 := [182, 1, 54, 21, 4, 172]
abbrev dktX1_post_3 : List UInt8 := dkwX1_post_3 ++ []
def dkwX1_post_2 : List UInt8 := [78, 45, 182, 1, 143, 54, 4, 42, 3, 181, 0, 84, 42, 17, 3, 232, 45, 180, 1, 144, 96, 133]
abbrev dktX1_post_2 : List UInt8 := dkwX1_post_2 ++ dktX1_post_3
def dkwX1_post_1 : List UInt8 := [180, 0, 10, 180, 0, 167, 27, 46, 154, 0, 6, 16, 254, 172, 187, 1, 140, 89, 42, 27, 28, 183, 1, 142]
abbrev dktX1_post_1 : List UInt8 := dkwX1_post_1 ++ dktX1_post_2
def dkwX1_post_0 : List UInt8 := [42, 27, 182, 0, 249, 153, 0, 15, 28, 133, 10, 20, 0, 255, 184, 0, 87, 154, 0, 5, 2, 172, 42]
abbrev dktX1_post_0 : List UInt8 := dkwX1_post_0 ++ dktX1_post_1
theorem dksX1_post_0 : cX1_post.data.toList.drop 0 = dktX1_post_0 := by decide +kernel
theorem dksX1_post_1 : cX1_post.data.toList.drop 23 = dktX1_post_1 := dk_seg dksX1_post_0 23 rfl rfl
theorem dksX1_post_2 : cX1_post.data.toList.drop 47 = dktX1_post_2 := dk_seg dksX1_post_1 24 rfl rfl
theorem dksX1_post_3 : cX1_post.data.toList.drop 69 = dktX1_post_3 := dk_seg dksX1_post_2 22 rfl rfl
theorem dX1_post_0 : decode cX1_post 0 = .ok (.aload_n 0, 1) := dk_42 (dk_at dksX1_post_0 0 rfl rfl)
theorem dX1_post_1 : decode cX1_post 1 = .ok (.iload_n 1, 1) := dk_27 (dk_at dksX1_post_0 1 rfl rfl)
theorem dX1_post_2 : decode cX1_post 2 = .ok (.invokevirtual 249, 3) := dk_182 0 249 (dk_at dksX1_post_0 2 rfl rfl)
theorem dX1_post_5 : decode cX1_post 5 = .ok (.ifCond .eq 15, 3) := dk_153 0 15 (dk_at dksX1_post_0 5 rfl rfl)
theorem dX1_post_8 : decode cX1_post 8 = .ok (.iload_n 2, 1) := dk_28 (dk_at dksX1_post_0 8 rfl rfl)
theorem dX1_post_9 : decode cX1_post 9 = .ok (.i2l, 1) := dk_133 (dk_at dksX1_post_0 9 rfl rfl)
theorem dX1_post_10 : decode cX1_post 10 = .ok (.lconst 1, 1) := dk_10 (dk_at dksX1_post_0 10 rfl rfl)
theorem dX1_post_11 : decode cX1_post 11 = .ok (.ldc2_w 255, 3) := dk_20 0 255 (dk_at dksX1_post_0 11 rfl rfl)
theorem dX1_post_14 : decode cX1_post 14 = .ok (.invokestatic 87, 3) := dk_184 0 87 (dk_at dksX1_post_0 14 rfl rfl)
theorem dX1_post_17 : decode cX1_post 17 = .ok (.ifCond .ne 5, 3) := dk_154 0 5 (dk_at dksX1_post_0 17 rfl rfl)
theorem dX1_post_20 : decode cX1_post 20 = .ok (.iconst (-1), 1) := dk_2 (dk_at dksX1_post_0 20 rfl rfl)
theorem dX1_post_21 : decode cX1_post 21 = .ok (.ireturn, 1) := dk_172 (dk_at dksX1_post_0 21 rfl rfl)
theorem dX1_post_22 : decode cX1_post 22 = .ok (.aload_n 0, 1) := dk_42 (dk_at dksX1_post_0 22 rfl rfl)
theorem dX1_post_23 : decode cX1_post 23 = .ok (.getfield 10, 3) := dk_180 0 10 (dk_at dksX1_post_1 0 rfl rfl)
theorem dX1_post_26 : decode cX1_post 26 = .ok (.getfield 167, 3) := dk_180 0 167 (dk_at dksX1_post_1 3 rfl rfl)
theorem dX1_post_29 : decode cX1_post 29 = .ok (.iload_n 1, 1) := dk_27 (dk_at dksX1_post_1 6 rfl rfl)
theorem dX1_post_30 : decode cX1_post 30 = .ok (.iaload, 1) := dk_46 (dk_at dksX1_post_1 7 rfl rfl)
theorem dX1_post_31 : decode cX1_post 31 = .ok (.ifCond .ne 6, 3) := dk_154 0 6 (dk_at dksX1_post_1 8 rfl rfl)
theorem dX1_post_34 : decode cX1_post 34 = .ok (.bipush (-2), 2) := dk_16 254 (dk_at dksX1_post_1 11 rfl rfl)
theorem dX1_post_36 : decode cX1_post 36 = .ok (.ireturn, 1) := dk_172 (dk_at dksX1_post_1 13 rfl rfl)
theorem dX1_post_37 : decode cX1_post 37 = .ok (.new 396, 3) := dk_187 1 140 (dk_at dksX1_post_1 14 rfl rfl)
theorem dX1_post_40 : decode cX1_post 40 = .ok (.dup, 1) := dk_89 (dk_at dksX1_post_1 17 rfl rfl)
theorem dX1_post_41 : decode cX1_post 41 = .ok (.aload_n 0, 1) := dk_42 (dk_at dksX1_post_1 18 rfl rfl)
theorem dX1_post_42 : decode cX1_post 42 = .ok (.iload_n 1, 1) := dk_27 (dk_at dksX1_post_1 19 rfl rfl)
theorem dX1_post_43 : decode cX1_post 43 = .ok (.iload_n 2, 1) := dk_28 (dk_at dksX1_post_1 20 rfl rfl)
theorem dX1_post_44 : decode cX1_post 44 = .ok (.invokespecial 398, 3) := dk_183 1 142 (dk_at dksX1_post_1 21 rfl rfl)
theorem dX1_post_47 : decode cX1_post 47 = .ok (.astore_n 3, 1) := dk_78 (dk_at dksX1_post_2 0 rfl rfl)
theorem dX1_post_48 : decode cX1_post 48 = .ok (.aload_n 3, 1) := dk_45 (dk_at dksX1_post_2 1 rfl rfl)
theorem dX1_post_49 : decode cX1_post 49 = .ok (.invokevirtual 399, 3) := dk_182 1 143 (dk_at dksX1_post_2 2 rfl rfl)
theorem dX1_post_52 : decode cX1_post 52 = .ok (.istore 4, 2) := dk_54 4 (dk_at dksX1_post_2 5 rfl rfl)
theorem dX1_post_54 : decode cX1_post 54 = .ok (.aload_n 0, 1) := dk_42 (dk_at dksX1_post_2 7 rfl rfl)
theorem dX1_post_55 : decode cX1_post 55 = .ok (.iconst 0, 1) := dk_3 (dk_at dksX1_post_2 8 rfl rfl)
theorem dX1_post_56 : decode cX1_post 56 = .ok (.putfield 84, 3) := dk_181 0 84 (dk_at dksX1_post_2 9 rfl rfl)
theorem dX1_post_59 : decode cX1_post 59 = .ok (.aload_n 0, 1) := dk_42 (dk_at dksX1_post_2 12 rfl rfl)
theorem dX1_post_60 : decode cX1_post 60 = .ok (.sipush 1000, 3) := dk_17 3 232 (dk_at dksX1_post_2 13 rfl rfl)
theorem dX1_post_63 : decode cX1_post 63 = .ok (.aload_n 3, 1) := dk_45 (dk_at dksX1_post_2 16 rfl rfl)
theorem dX1_post_64 : decode cX1_post 64 = .ok (.getfield 400, 3) := dk_180 1 144 (dk_at dksX1_post_2 17 rfl rfl)
theorem dX1_post_67 : decode cX1_post 67 = .ok (.iadd, 1) := dk_96 (dk_at dksX1_post_2 20 rfl rfl)
theorem dX1_post_68 : decode cX1_post 68 = .ok (.i2l, 1) := dk_133 (dk_at dksX1_post_2 21 rfl rfl)
theorem dX1_post_69 : decode cX1_post 69 = .ok (.invokevirtual 310, 3) := dk_182 1 54 (dk_at dksX1_post_3 0 rfl rfl)
theorem dX1_post_72 : decode cX1_post 72 = .ok (.iload 4, 2) := dk_21 4 (dk_at dksX1_post_3 3 rfl rfl)
theorem dX1_post_74 : decode cX1_post 74 = .ok (.ireturn, 1) := dk_172 (dk_at dksX1_post_3 5 rfl rfl)
abbrev cX1_moats : ByteArray := prog_1_method_56_code
def yX1_moats : MethodName := ⟨RX1, "moats", "(I)I"⟩
def dkwX1_moats_4 : List UInt8 := [132, 4, 1, 167, 255, 189, 42, 3, 181, 0, 84, 42, 28, 133, 182, 1, 54, 29, 172]
abbrev dktX1_moats_4 : List UInt8 := dkwX1_moats_4 ++ []
def dkwX1_moats_3 : List UInt8 := [181, 0, 193, 42, 182, 1, 111, 54, 5, 21, 5, 29, 163, 0, 6, 167, 0, 9, 21, 4, 61, 21, 5, 62]
abbrev dktX1_moats_3 : List UInt8 := dkwX1_moats_3 ++ dktX1_moats_4
def dkwX1_moats_2 : List UInt8 := [27, 159, 0, 6, 167, 0, 44, 42, 180, 0, 19, 42, 180, 0, 10, 182, 1, 18, 42, 180, 0, 19, 21, 4]
abbrev dktX1_moats_2 : List UInt8 := dkwX1_moats_2 ++ dktX1_moats_3
def dkwX1_moats_1 : List UInt8 := [172, 2, 61, 2, 62, 3, 54, 4, 21, 4, 4, 42, 180, 0, 42, 120, 162, 0, 62, 21, 4, 184, 0, 196]
abbrev dktX1_moats_1 : List UInt8 := dkwX1_moats_1 ++ dktX1_moats_2
def dkwX1_moats_0 : List UInt8 := [27, 133, 9, 20, 1, 147, 184, 0, 87, 154, 0, 5, 2, 172, 27, 42, 180, 0, 42, 164, 0, 6, 16, 254]
abbrev dktX1_moats_0 : List UInt8 := dkwX1_moats_0 ++ dktX1_moats_1
theorem dksX1_moats_0 : cX1_moats.data.toList.drop 0 = dktX1_moats_0 := by decide +kernel
theorem dksX1_moats_1 : cX1_moats.data.toList.drop 24 = dktX1_moats_1 := dk_seg dksX1_moats_0 24 rfl rfl
theorem dksX1_moats_2 : cX1_moats.data.toList.drop 48 = dktX1_moats_2 := dk_seg dksX1_moats_1 24 rfl rfl
theorem dksX1_moats_3 : cX1_moats.data.toList.drop 72 = dktX1_moats_3 := dk_seg dksX1_moats_2 24 rfl rfl
theorem dksX1_moats_4 : cX1_moats.data.toList.drop 96 = dktX1_moats_4 := dk_seg dksX1_moats_3 24 rfl rfl
theorem dX1_moats_0 : decode cX1_moats 0 = .ok (.iload_n 1, 1) := dk_27 (dk_at dksX1_moats_0 0 rfl rfl)
theorem dX1_moats_1 : decode cX1_moats 1 = .ok (.i2l, 1) := dk_133 (dk_at dksX1_moats_0 1 rfl rfl)
theorem dX1_moats_2 : decode cX1_moats 2 = .ok (.lconst 0, 1) := dk_9 (dk_at dksX1_moats_0 2 rfl rfl)
theorem dX1_moats_3 : decode cX1_moats 3 = .ok (.ldc2_w 403, 3) := dk_20 1 147 (dk_at dksX1_moats_0 3 rfl rfl)
theorem dX1_moats_6 : decode cX1_moats 6 = .ok (.invokestatic 87, 3) := dk_184 0 87 (dk_at dksX1_moats_0 6 rfl rfl)
theorem dX1_moats_9 : decode cX1_moats 9 = .ok (.ifCond .ne 5, 3) := dk_154 0 5 (dk_at dksX1_moats_0 9 rfl rfl)
theorem dX1_moats_12 : decode cX1_moats 12 = .ok (.iconst (-1), 1) := dk_2 (dk_at dksX1_moats_0 12 rfl rfl)
theorem dX1_moats_13 : decode cX1_moats 13 = .ok (.ireturn, 1) := dk_172 (dk_at dksX1_moats_0 13 rfl rfl)
theorem dX1_moats_14 : decode cX1_moats 14 = .ok (.iload_n 1, 1) := dk_27 (dk_at dksX1_moats_0 14 rfl rfl)
theorem dX1_moats_15 : decode cX1_moats 15 = .ok (.aload_n 0, 1) := dk_42 (dk_at dksX1_moats_0 15 rfl rfl)
theorem dX1_moats_16 : decode cX1_moats 16 = .ok (.getfield 42, 3) := dk_180 0 42 (dk_at dksX1_moats_0 16 rfl rfl)
theorem dX1_moats_19 : decode cX1_moats 19 = .ok (.if_icmp .le 6, 3) := dk_164 0 6 (dk_at dksX1_moats_0 19 rfl rfl)
theorem dX1_moats_22 : decode cX1_moats 22 = .ok (.bipush (-2), 2) := dk_16 254 (dk_at dksX1_moats_0 22 rfl rfl)
theorem dX1_moats_24 : decode cX1_moats 24 = .ok (.ireturn, 1) := dk_172 (dk_at dksX1_moats_1 0 rfl rfl)
theorem dX1_moats_25 : decode cX1_moats 25 = .ok (.iconst (-1), 1) := dk_2 (dk_at dksX1_moats_1 1 rfl rfl)
theorem dX1_moats_26 : decode cX1_moats 26 = .ok (.istore_n 2, 1) := dk_61 (dk_at dksX1_moats_1 2 rfl rfl)
theorem dX1_moats_27 : decode cX1_moats 27 = .ok (.iconst (-1), 1) := dk_2 (dk_at dksX1_moats_1 3 rfl rfl)
theorem dX1_moats_28 : decode cX1_moats 28 = .ok (.istore_n 3, 1) := dk_62 (dk_at dksX1_moats_1 4 rfl rfl)
theorem dX1_moats_29 : decode cX1_moats 29 = .ok (.iconst 0, 1) := dk_3 (dk_at dksX1_moats_1 5 rfl rfl)
theorem dX1_moats_30 : decode cX1_moats 30 = .ok (.istore 4, 2) := dk_54 4 (dk_at dksX1_moats_1 6 rfl rfl)
theorem dX1_moats_32 : decode cX1_moats 32 = .ok (.iload 4, 2) := dk_21 4 (dk_at dksX1_moats_1 8 rfl rfl)
theorem dX1_moats_34 : decode cX1_moats 34 = .ok (.iconst 1, 1) := dk_4 (dk_at dksX1_moats_1 10 rfl rfl)
theorem dX1_moats_35 : decode cX1_moats 35 = .ok (.aload_n 0, 1) := dk_42 (dk_at dksX1_moats_1 11 rfl rfl)
theorem dX1_moats_36 : decode cX1_moats 36 = .ok (.getfield 42, 3) := dk_180 0 42 (dk_at dksX1_moats_1 12 rfl rfl)
theorem dX1_moats_39 : decode cX1_moats 39 = .ok (.ishl, 1) := dk_120 (dk_at dksX1_moats_1 15 rfl rfl)
theorem dX1_moats_40 : decode cX1_moats 40 = .ok (.if_icmp .ge 62, 3) := dk_162 0 62 (dk_at dksX1_moats_1 16 rfl rfl)
theorem dX1_moats_43 : decode cX1_moats 43 = .ok (.iload 4, 2) := dk_21 4 (dk_at dksX1_moats_1 19 rfl rfl)
theorem dX1_moats_45 : decode cX1_moats 45 = .ok (.invokestatic 196, 3) := dk_184 0 196 (dk_at dksX1_moats_1 21 rfl rfl)
theorem dX1_moats_48 : decode cX1_moats 48 = .ok (.iload_n 1, 1) := dk_27 (dk_at dksX1_moats_2 0 rfl rfl)
theorem dX1_moats_49 : decode cX1_moats 49 = .ok (.if_icmp .eq 6, 3) := dk_159 0 6 (dk_at dksX1_moats_2 1 rfl rfl)
theorem dX1_moats_52 : decode cX1_moats 52 = .ok (.goto 44, 3) := dk_167 0 44 (dk_at dksX1_moats_2 4 rfl rfl)
theorem dX1_moats_55 : decode cX1_moats 55 = .ok (.aload_n 0, 1) := dk_42 (dk_at dksX1_moats_2 7 rfl rfl)
theorem dX1_moats_56 : decode cX1_moats 56 = .ok (.getfield 19, 3) := dk_180 0 19 (dk_at dksX1_moats_2 8 rfl rfl)
theorem dX1_moats_59 : decode cX1_moats 59 = .ok (.aload_n 0, 1) := dk_42 (dk_at dksX1_moats_2 11 rfl rfl)
theorem dX1_moats_60 : decode cX1_moats 60 = .ok (.getfield 10, 3) := dk_180 0 10 (dk_at dksX1_moats_2 12 rfl rfl)
theorem dX1_moats_63 : decode cX1_moats 63 = .ok (.invokevirtual 274, 3) := dk_182 1 18 (dk_at dksX1_moats_2 15 rfl rfl)
theorem dX1_moats_66 : decode cX1_moats 66 = .ok (.aload_n 0, 1) := dk_42 (dk_at dksX1_moats_2 18 rfl rfl)
theorem dX1_moats_67 : decode cX1_moats 67 = .ok (.getfield 19, 3) := dk_180 0 19 (dk_at dksX1_moats_2 19 rfl rfl)
theorem dX1_moats_70 : decode cX1_moats 70 = .ok (.iload 4, 2) := dk_21 4 (dk_at dksX1_moats_2 22 rfl rfl)
theorem dX1_moats_72 : decode cX1_moats 72 = .ok (.putfield 193, 3) := dk_181 0 193 (dk_at dksX1_moats_3 0 rfl rfl)
theorem dX1_moats_75 : decode cX1_moats 75 = .ok (.aload_n 0, 1) := dk_42 (dk_at dksX1_moats_3 3 rfl rfl)
theorem dX1_moats_76 : decode cX1_moats 76 = .ok (.invokevirtual 367, 3) := dk_182 1 111 (dk_at dksX1_moats_3 4 rfl rfl)
theorem dX1_moats_79 : decode cX1_moats 79 = .ok (.istore 5, 2) := dk_54 5 (dk_at dksX1_moats_3 7 rfl rfl)
theorem dX1_moats_81 : decode cX1_moats 81 = .ok (.iload 5, 2) := dk_21 5 (dk_at dksX1_moats_3 9 rfl rfl)
theorem dX1_moats_83 : decode cX1_moats 83 = .ok (.iload_n 3, 1) := dk_29 (dk_at dksX1_moats_3 11 rfl rfl)
theorem dX1_moats_84 : decode cX1_moats 84 = .ok (.if_icmp .gt 6, 3) := dk_163 0 6 (dk_at dksX1_moats_3 12 rfl rfl)
theorem dX1_moats_87 : decode cX1_moats 87 = .ok (.goto 9, 3) := dk_167 0 9 (dk_at dksX1_moats_3 15 rfl rfl)
theorem dX1_moats_90 : decode cX1_moats 90 = .ok (.iload 4, 2) := dk_21 4 (dk_at dksX1_moats_3 18 rfl rfl)
theorem dX1_moats_92 : decode cX1_moats 92 = .ok (.istore_n 2, 1) := dk_61 (dk_at dksX1_moats_3 20 rfl rfl)
theorem dX1_moats_93 : decode cX1_moats 93 = .ok (.iload 5, 2) := dk_21 5 (dk_at dksX1_moats_3 21 rfl rfl)
theorem dX1_moats_95 : decode cX1_moats 95 = .ok (.istore_n 3, 1) := dk_62 (dk_at dksX1_moats_3 23 rfl rfl)
theorem dX1_moats_96 : decode cX1_moats 96 = .ok (.iinc 4 1, 3) := dk_132 4 1 (dk_at dksX1_moats_4 0 rfl rfl)
theorem dX1_moats_99 : decode cX1_moats 99 = .ok (.goto (-67), 3) := dk_167 255 189 (dk_at dksX1_moats_4 3 rfl rfl)
theorem dX1_moats_102 : decode cX1_moats 102 = .ok (.aload_n 0, 1) := dk_42 (dk_at dksX1_moats_4 6 rfl rfl)
theorem dX1_moats_103 : decode cX1_moats 103 = .ok (.iconst 0, 1) := dk_3 (dk_at dksX1_moats_4 7 rfl rfl)
theorem dX1_moats_104 : decode cX1_moats 104 = .ok (.putfield 84, 3) := dk_181 0 84 (dk_at dksX1_moats_4 8 rfl rfl)
theorem dX1_moats_107 : decode cX1_moats 107 = .ok (.aload_n 0, 1) := dk_42 (dk_at dksX1_moats_4 11 rfl rfl)
theorem dX1_moats_108 : decode cX1_moats 108 = .ok (.iload_n 2, 1) := dk_28 (dk_at dksX1_moats_4 12 rfl rfl)
theorem dX1_moats_109 : decode cX1_moats 109 = .ok (.i2l, 1) := dk_133 (dk_at dksX1_moats_4 13 rfl rfl)
theorem dX1_moats_110 : decode cX1_moats 110 = .ok (.invokevirtual 310, 3) := dk_182 1 54 (dk_at dksX1_moats_4 14 rfl rfl)
theorem dX1_moats_113 : decode cX1_moats 113 = .ok (.iload_n 3, 1) := dk_29 (dk_at dksX1_moats_4 17 rfl rfl)
theorem dX1_moats_114 : decode cX1_moats 114 = .ok (.ireturn, 1) := dk_172 (dk_at dksX1_moats_4 18 rfl rfl)
abbrev cX1_spades : ByteArray := prog_1_method_58_code
def yX1_spades : MethodName := ⟨RX1, "spades", "()I"⟩
def dkwX1_spades_3 : List UInt8 := [61, 132, 3, 1, 167, 255, 191, 42, 3, 181, 0, 84, 42, 27, 133, 182, 1, 54, 28, 172]
abbrev dktX1_spades_3 : List UInt8 := dkwX1_spades_3 ++ []
def dkwX1_spades_2 : List UInt8 := [21, 4, 28, 160, 0, 17, 29, 184, 0, 196, 27, 184, 0, 196, 161, 0, 6, 167, 0, 8, 29, 60, 21, 4]
abbrev dktX1_spades_2 : List UInt8 := dkwX1_spades_2 ++ dktX1_spades_3
def dkwX1_spades_1 : List UInt8 := [42, 180, 0, 46, 164, 0, 6, 167, 0, 41, 42, 29, 182, 1, 149, 54, 4, 21, 4, 28, 161, 0, 28]
abbrev dktX1_spades_1 : List UInt8 := dkwX1_spades_1 ++ dktX1_spades_2
def dkwX1_spades_0 : List UInt8 := [3, 60, 42, 3, 182, 1, 149, 61, 4, 62, 29, 4, 42, 180, 0, 91, 120, 162, 0, 61, 29, 184, 0, 196]
abbrev dktX1_spades_0 : List UInt8 := dkwX1_spades_0 ++ dktX1_spades_1
theorem dksX1_spades_0 : cX1_spades.data.toList.drop 0 = dktX1_spades_0 := by decide +kernel
theorem dksX1_spades_1 : cX1_spades.data.toList.drop 24 = dktX1_spades_1 := dk_seg dksX1_spades_0 24 rfl rfl
theorem dksX1_spades_2 : cX1_spades.data.toList.drop 47 = dktX1_spades_2 := dk_seg dksX1_spades_1 23 rfl rfl
theorem dksX1_spades_3 : cX1_spades.data.toList.drop 71 = dktX1_spades_3 := dk_seg dksX1_spades_2 24 rfl rfl
theorem dX1_spades_0 : decode cX1_spades 0 = .ok (.iconst 0, 1) := dk_3 (dk_at dksX1_spades_0 0 rfl rfl)
theorem dX1_spades_1 : decode cX1_spades 1 = .ok (.istore_n 1, 1) := dk_60 (dk_at dksX1_spades_0 1 rfl rfl)
theorem dX1_spades_2 : decode cX1_spades 2 = .ok (.aload_n 0, 1) := dk_42 (dk_at dksX1_spades_0 2 rfl rfl)
theorem dX1_spades_3 : decode cX1_spades 3 = .ok (.iconst 0, 1) := dk_3 (dk_at dksX1_spades_0 3 rfl rfl)
theorem dX1_spades_4 : decode cX1_spades 4 = .ok (.invokevirtual 405, 3) := dk_182 1 149 (dk_at dksX1_spades_0 4 rfl rfl)
theorem dX1_spades_7 : decode cX1_spades 7 = .ok (.istore_n 2, 1) := dk_61 (dk_at dksX1_spades_0 7 rfl rfl)
theorem dX1_spades_8 : decode cX1_spades 8 = .ok (.iconst 1, 1) := dk_4 (dk_at dksX1_spades_0 8 rfl rfl)
theorem dX1_spades_9 : decode cX1_spades 9 = .ok (.istore_n 3, 1) := dk_62 (dk_at dksX1_spades_0 9 rfl rfl)
theorem dX1_spades_10 : decode cX1_spades 10 = .ok (.iload_n 3, 1) := dk_29 (dk_at dksX1_spades_0 10 rfl rfl)
theorem dX1_spades_11 : decode cX1_spades 11 = .ok (.iconst 1, 1) := dk_4 (dk_at dksX1_spades_0 11 rfl rfl)
theorem dX1_spades_12 : decode cX1_spades 12 = .ok (.aload_n 0, 1) := dk_42 (dk_at dksX1_spades_0 12 rfl rfl)
theorem dX1_spades_13 : decode cX1_spades 13 = .ok (.getfield 91, 3) := dk_180 0 91 (dk_at dksX1_spades_0 13 rfl rfl)
theorem dX1_spades_16 : decode cX1_spades 16 = .ok (.ishl, 1) := dk_120 (dk_at dksX1_spades_0 16 rfl rfl)
theorem dX1_spades_17 : decode cX1_spades 17 = .ok (.if_icmp .ge 61, 3) := dk_162 0 61 (dk_at dksX1_spades_0 17 rfl rfl)
theorem dX1_spades_20 : decode cX1_spades 20 = .ok (.iload_n 3, 1) := dk_29 (dk_at dksX1_spades_0 20 rfl rfl)
theorem dX1_spades_21 : decode cX1_spades 21 = .ok (.invokestatic 196, 3) := dk_184 0 196 (dk_at dksX1_spades_0 21 rfl rfl)
theorem dX1_spades_24 : decode cX1_spades 24 = .ok (.aload_n 0, 1) := dk_42 (dk_at dksX1_spades_1 0 rfl rfl)
theorem dX1_spades_25 : decode cX1_spades 25 = .ok (.getfield 46, 3) := dk_180 0 46 (dk_at dksX1_spades_1 1 rfl rfl)
theorem dX1_spades_28 : decode cX1_spades 28 = .ok (.if_icmp .le 6, 3) := dk_164 0 6 (dk_at dksX1_spades_1 4 rfl rfl)
theorem dX1_spades_31 : decode cX1_spades 31 = .ok (.goto 41, 3) := dk_167 0 41 (dk_at dksX1_spades_1 7 rfl rfl)
theorem dX1_spades_34 : decode cX1_spades 34 = .ok (.aload_n 0, 1) := dk_42 (dk_at dksX1_spades_1 10 rfl rfl)
theorem dX1_spades_35 : decode cX1_spades 35 = .ok (.iload_n 3, 1) := dk_29 (dk_at dksX1_spades_1 11 rfl rfl)
theorem dX1_spades_36 : decode cX1_spades 36 = .ok (.invokevirtual 405, 3) := dk_182 1 149 (dk_at dksX1_spades_1 12 rfl rfl)
theorem dX1_spades_39 : decode cX1_spades 39 = .ok (.istore 4, 2) := dk_54 4 (dk_at dksX1_spades_1 15 rfl rfl)
theorem dX1_spades_41 : decode cX1_spades 41 = .ok (.iload 4, 2) := dk_21 4 (dk_at dksX1_spades_1 17 rfl rfl)
theorem dX1_spades_43 : decode cX1_spades 43 = .ok (.iload_n 2, 1) := dk_28 (dk_at dksX1_spades_1 19 rfl rfl)
theorem dX1_spades_44 : decode cX1_spades 44 = .ok (.if_icmp .lt 28, 3) := dk_161 0 28 (dk_at dksX1_spades_1 20 rfl rfl)
theorem dX1_spades_47 : decode cX1_spades 47 = .ok (.iload 4, 2) := dk_21 4 (dk_at dksX1_spades_2 0 rfl rfl)
theorem dX1_spades_49 : decode cX1_spades 49 = .ok (.iload_n 2, 1) := dk_28 (dk_at dksX1_spades_2 2 rfl rfl)
theorem dX1_spades_50 : decode cX1_spades 50 = .ok (.if_icmp .ne 17, 3) := dk_160 0 17 (dk_at dksX1_spades_2 3 rfl rfl)
theorem dX1_spades_53 : decode cX1_spades 53 = .ok (.iload_n 3, 1) := dk_29 (dk_at dksX1_spades_2 6 rfl rfl)
theorem dX1_spades_54 : decode cX1_spades 54 = .ok (.invokestatic 196, 3) := dk_184 0 196 (dk_at dksX1_spades_2 7 rfl rfl)
theorem dX1_spades_57 : decode cX1_spades 57 = .ok (.iload_n 1, 1) := dk_27 (dk_at dksX1_spades_2 10 rfl rfl)
theorem dX1_spades_58 : decode cX1_spades 58 = .ok (.invokestatic 196, 3) := dk_184 0 196 (dk_at dksX1_spades_2 11 rfl rfl)
theorem dX1_spades_61 : decode cX1_spades 61 = .ok (.if_icmp .lt 6, 3) := dk_161 0 6 (dk_at dksX1_spades_2 14 rfl rfl)
theorem dX1_spades_64 : decode cX1_spades 64 = .ok (.goto 8, 3) := dk_167 0 8 (dk_at dksX1_spades_2 17 rfl rfl)
theorem dX1_spades_67 : decode cX1_spades 67 = .ok (.iload_n 3, 1) := dk_29 (dk_at dksX1_spades_2 20 rfl rfl)
theorem dX1_spades_68 : decode cX1_spades 68 = .ok (.istore_n 1, 1) := dk_60 (dk_at dksX1_spades_2 21 rfl rfl)
theorem dX1_spades_69 : decode cX1_spades 69 = .ok (.iload 4, 2) := dk_21 4 (dk_at dksX1_spades_2 22 rfl rfl)
theorem dX1_spades_71 : decode cX1_spades 71 = .ok (.istore_n 2, 1) := dk_61 (dk_at dksX1_spades_3 0 rfl rfl)
theorem dX1_spades_72 : decode cX1_spades 72 = .ok (.iinc 3 1, 3) := dk_132 3 1 (dk_at dksX1_spades_3 1 rfl rfl)
theorem dX1_spades_75 : decode cX1_spades 75 = .ok (.goto (-65), 3) := dk_167 255 191 (dk_at dksX1_spades_3 4 rfl rfl)
theorem dX1_spades_78 : decode cX1_spades 78 = .ok (.aload_n 0, 1) := dk_42 (dk_at dksX1_spades_3 7 rfl rfl)
theorem dX1_spades_79 : decode cX1_spades 79 = .ok (.iconst 0, 1) := dk_3 (dk_at dksX1_spades_3 8 rfl rfl)
theorem dX1_spades_80 : decode cX1_spades 80 = .ok (.putfield 84, 3) := dk_181 0 84 (dk_at dksX1_spades_3 9 rfl rfl)
theorem dX1_spades_83 : decode cX1_spades 83 = .ok (.aload_n 0, 1) := dk_42 (dk_at dksX1_spades_3 12 rfl rfl)
theorem dX1_spades_84 : decode cX1_spades 84 = .ok (.iload_n 1, 1) := dk_27 (dk_at dksX1_spades_3 13 rfl rfl)
theorem dX1_spades_85 : decode cX1_spades 85 = .ok (.i2l, 1) := dk_133 (dk_at dksX1_spades_3 14 rfl rfl)
theorem dX1_spades_86 : decode cX1_spades 86 = .ok (.invokevirtual 310, 3) := dk_182 1 54 (dk_at dksX1_spades_3 15 rfl rfl)
theorem dX1_spades_89 : decode cX1_spades 89 = .ok (.iload_n 2, 1) := dk_28 (dk_at dksX1_spades_3 18 rfl rfl)
theorem dX1_spades_90 : decode cX1_spades 90 = .ok (.ireturn, 1) := dk_172 (dk_at dksX1_spades_3 19 rfl rfl)
abbrev cX1_bucketsBy : ByteArray := prog_1_method_57_code
def yX1_bucketsBy : MethodName := ⟨RX1, "bucketsBy", "(I)I"⟩
def dkwX1_bucketsBy_2 : List UInt8 := [167, 255, 233, 28, 172]
abbrev dktX1_bucketsBy_2 : List UInt8 := dkwX1_bucketsBy_2 ++ []
def dkwX1_bucketsBy_1 : List UInt8 := [42, 180, 0, 91, 162, 0, 21, 28, 42, 42, 180, 0, 19, 29, 182, 0, 252, 96, 61, 132, 3, 1]
abbrev dktX1_bucketsBy_1 : List UInt8 := dkwX1_bucketsBy_1 ++ dktX1_bucketsBy_2
def dkwX1_bucketsBy_0 : List UInt8 := [42, 180, 0, 19, 42, 180, 0, 10, 182, 1, 18, 42, 180, 0, 19, 27, 181, 0, 224, 3, 61, 3, 62, 29]
abbrev dktX1_bucketsBy_0 : List UInt8 := dkwX1_bucketsBy_0 ++ dktX1_bucketsBy_1
theorem dksX1_bucketsBy_0 : cX1_bucketsBy.data.toList.drop 0 = dktX1_bucketsBy_0 := by decide +kernel
theorem dksX1_bucketsBy_1 : cX1_bucketsBy.data.toList.drop 24 = dktX1_bucketsBy_1 := dk_seg dksX1_bucketsBy_0 24 rfl rfl
theorem dksX1_bucketsBy_2 : cX1_bucketsBy.data.toList.drop 46 = dktX1_bucketsBy_2 := dk_seg dksX1_bucketsBy_1 22 rfl rfl
theorem dX1_bucketsBy_0 : decode cX1_bucketsBy 0 = .ok (.aload_n 0, 1) := dk_42 (dk_at dksX1_bucketsBy_0 0 rfl rfl)
theorem dX1_bucketsBy_1 : decode cX1_bucketsBy 1 = .ok (.getfield 19, 3) := dk_180 0 19 (dk_at dksX1_bucketsBy_0 1 rfl rfl)
theorem dX1_bucketsBy_4 : decode cX1_bucketsBy 4 = .ok (.aload_n 0, 1) := dk_42 (dk_at dksX1_bucketsBy_0 4 rfl rfl)
theorem dX1_bucketsBy_5 : decode cX1_bucketsBy 5 = .ok (.getfield 10, 3) := dk_180 0 10 (dk_at dksX1_bucketsBy_0 5 rfl rfl)
theorem dX1_bucketsBy_8 : decode cX1_bucketsBy 8 = .ok (.invokevirtual 274, 3) := dk_182 1 18 (dk_at dksX1_bucketsBy_0 8 rfl rfl)
theorem dX1_bucketsBy_11 : decode cX1_bucketsBy 11 = .ok (.aload_n 0, 1) := dk_42 (dk_at dksX1_bucketsBy_0 11 rfl rfl)
theorem dX1_bucketsBy_12 : decode cX1_bucketsBy 12 = .ok (.getfield 19, 3) := dk_180 0 19 (dk_at dksX1_bucketsBy_0 12 rfl rfl)
theorem dX1_bucketsBy_15 : decode cX1_bucketsBy 15 = .ok (.iload_n 1, 1) := dk_27 (dk_at dksX1_bucketsBy_0 15 rfl rfl)
theorem dX1_bucketsBy_16 : decode cX1_bucketsBy 16 = .ok (.putfield 224, 3) := dk_181 0 224 (dk_at dksX1_bucketsBy_0 16 rfl rfl)
theorem dX1_bucketsBy_19 : decode cX1_bucketsBy 19 = .ok (.iconst 0, 1) := dk_3 (dk_at dksX1_bucketsBy_0 19 rfl rfl)
theorem dX1_bucketsBy_20 : decode cX1_bucketsBy 20 = .ok (.istore_n 2, 1) := dk_61 (dk_at dksX1_bucketsBy_0 20 rfl rfl)
theorem dX1_bucketsBy_21 : decode cX1_bucketsBy 21 = .ok (.iconst 0, 1) := dk_3 (dk_at dksX1_bucketsBy_0 21 rfl rfl)
theorem dX1_bucketsBy_22 : decode cX1_bucketsBy 22 = .ok (.istore_n 3, 1) := dk_62 (dk_at dksX1_bucketsBy_0 22 rfl rfl)
theorem dX1_bucketsBy_23 : decode cX1_bucketsBy 23 = .ok (.iload_n 3, 1) := dk_29 (dk_at dksX1_bucketsBy_0 23 rfl rfl)
theorem dX1_bucketsBy_24 : decode cX1_bucketsBy 24 = .ok (.aload_n 0, 1) := dk_42 (dk_at dksX1_bucketsBy_1 0 rfl rfl)
theorem dX1_bucketsBy_25 : decode cX1_bucketsBy 25 = .ok (.getfield 91, 3) := dk_180 0 91 (dk_at dksX1_bucketsBy_1 1 rfl rfl)
theorem dX1_bucketsBy_28 : decode cX1_bucketsBy 28 = .ok (.if_icmp .ge 21, 3) := dk_162 0 21 (dk_at dksX1_bucketsBy_1 4 rfl rfl)
theorem dX1_bucketsBy_31 : decode cX1_bucketsBy 31 = .ok (.iload_n 2, 1) := dk_28 (dk_at dksX1_bucketsBy_1 7 rfl rfl)
theorem dX1_bucketsBy_32 : decode cX1_bucketsBy 32 = .ok (.aload_n 0, 1) := dk_42 (dk_at dksX1_bucketsBy_1 8 rfl rfl)
theorem dX1_bucketsBy_33 : decode cX1_bucketsBy 33 = .ok (.aload_n 0, 1) := dk_42 (dk_at dksX1_bucketsBy_1 9 rfl rfl)
theorem dX1_bucketsBy_34 : decode cX1_bucketsBy 34 = .ok (.getfield 19, 3) := dk_180 0 19 (dk_at dksX1_bucketsBy_1 10 rfl rfl)
theorem dX1_bucketsBy_37 : decode cX1_bucketsBy 37 = .ok (.iload_n 3, 1) := dk_29 (dk_at dksX1_bucketsBy_1 13 rfl rfl)
theorem dX1_bucketsBy_38 : decode cX1_bucketsBy 38 = .ok (.invokevirtual 252, 3) := dk_182 0 252 (dk_at dksX1_bucketsBy_1 14 rfl rfl)
theorem dX1_bucketsBy_41 : decode cX1_bucketsBy 41 = .ok (.iadd, 1) := dk_96 (dk_at dksX1_bucketsBy_1 17 rfl rfl)
theorem dX1_bucketsBy_42 : decode cX1_bucketsBy 42 = .ok (.istore_n 2, 1) := dk_61 (dk_at dksX1_bucketsBy_1 18 rfl rfl)
theorem dX1_bucketsBy_43 : decode cX1_bucketsBy 43 = .ok (.iinc 3 1, 3) := dk_132 3 1 (dk_at dksX1_bucketsBy_1 19 rfl rfl)
theorem dX1_bucketsBy_46 : decode cX1_bucketsBy 46 = .ok (.goto (-23), 3) := dk_167 255 233 (dk_at dksX1_bucketsBy_2 0 rfl rfl)
theorem dX1_bucketsBy_49 : decode cX1_bucketsBy 49 = .ok (.iload_n 2, 1) := dk_28 (dk_at dksX1_bucketsBy_2 3 rfl rfl)
theorem dX1_bucketsBy_50 : decode cX1_bucketsBy 50 = .ok (.ireturn, 1) := dk_172 (dk_at dksX1_bucketsBy_2 4 rfl rfl)
abbrev cX1_treats_2 : ByteArray := prog_1_method_59_code
def yX1_treats_2 : MethodName := ⟨RX1, "treats", "(I)I"⟩
def dkwX1_treats_2_5 : List UInt8 := [167, 255, 217, 42, 21, 4, 133, 182, 1, 54, 28, 21, 4, 96, 61, 132, 3, 1, 167, 255, 177, 28, 172]
abbrev dktX1_treats_2_5 : List UInt8 := dkwX1_treats_2_5 ++ []
def dkwX1_treats_2_4 : List UInt8 := [180, 0, 167, 29, 46, 27, 163, 0, 19, 42, 42, 180, 0, 19, 29, 4, 182, 1, 35, 132, 4, 1]
abbrev dktX1_treats_2_4 : List UInt8 := dkwX1_treats_2_4 ++ dktX1_treats_2_5
def dkwX1_treats_2_3 : List UInt8 := [182, 1, 18, 3, 54, 4, 42, 180, 0, 19, 180, 0, 165, 29, 46, 2, 159, 0, 32, 42, 180, 0, 19]
abbrev dktX1_treats_2_3 : List UInt8 := dkwX1_treats_2_3 ++ dktX1_treats_2_4
def dkwX1_treats_2_2 : List UInt8 := [42, 3, 181, 0, 84, 3, 62, 29, 42, 180, 0, 91, 162, 0, 77, 42, 180, 0, 19, 42, 180, 0, 10]
abbrev dktX1_treats_2_2 : List UInt8 := dkwX1_treats_2_2 ++ dktX1_treats_2_3
def dkwX1_treats_2_1 : List UInt8 := [180, 0, 10, 42, 180, 0, 91, 182, 1, 48, 4, 42, 180, 0, 91, 120, 4, 100, 159, 0, 6, 16, 254, 172]
abbrev dktX1_treats_2_1 : List UInt8 := dkwX1_treats_2_1 ++ dktX1_treats_2_2
def dkwX1_treats_2_0 : List UInt8 := [27, 133, 10, 20, 0, 255, 184, 0, 87, 154, 0, 5, 2, 172, 3, 61, 27, 16, 9, 160, 0, 28, 42]
abbrev dktX1_treats_2_0 : List UInt8 := dkwX1_treats_2_0 ++ dktX1_treats_2_1
theorem dksX1_treats_2_0 : cX1_treats_2.data.toList.drop 0 = dktX1_treats_2_0 := by decide +kernel
theorem dksX1_treats_2_1 : cX1_treats_2.data.toList.drop 23 = dktX1_treats_2_1 := dk_seg dksX1_treats_2_0 23 rfl rfl
theorem dksX1_treats_2_2 : cX1_treats_2.data.toList.drop 47 = dktX1_treats_2_2 := dk_seg dksX1_treats_2_1 24 rfl rfl
theorem dksX1_treats_2_3 : cX1_treats_2.data.toList.drop 70 = dktX1_treats_2_3 := dk_seg dksX1_treats_2_2 23 rfl rfl
theorem dksX1_treats_2_4 : cX1_treats_2.data.toList.drop 93 = dktX1_treats_2_4 := dk_seg dksX1_treats_2_3 23 rfl rfl
theorem dksX1_treats_2_5 : cX1_treats_2.data.toList.drop 115 = dktX1_treats_2_5 := dk_seg dksX1_treats_2_4 22 rfl rfl
theorem dX1_treats_2_0 : decode cX1_treats_2 0 = .ok (.iload_n 1, 1) := dk_27 (dk_at dksX1_treats_2_0 0 rfl rfl)
theorem dX1_treats_2_1 : decode cX1_treats_2 1 = .ok (.i2l, 1) := dk_133 (dk_at dksX1_treats_2_0 1 rfl rfl)
theorem dX1_treats_2_2 : decode cX1_treats_2 2 = .ok (.lconst 1, 1) := dk_10 (dk_at dksX1_treats_2_0 2 rfl rfl)
theorem dX1_treats_2_3 : decode cX1_treats_2 3 = .ok (.ldc2_w 255, 3) := dk_20 0 255 (dk_at dksX1_treats_2_0 3 rfl rfl)
theorem dX1_treats_2_6 : decode cX1_treats_2 6 = .ok (.invokestatic 87, 3) := dk_184 0 87 (dk_at dksX1_treats_2_0 6 rfl rfl)
theorem dX1_treats_2_9 : decode cX1_treats_2 9 = .ok (.ifCond .ne 5, 3) := dk_154 0 5 (dk_at dksX1_treats_2_0 9 rfl rfl)
theorem dX1_treats_2_12 : decode cX1_treats_2 12 = .ok (.iconst (-1), 1) := dk_2 (dk_at dksX1_treats_2_0 12 rfl rfl)
theorem dX1_treats_2_13 : decode cX1_treats_2 13 = .ok (.ireturn, 1) := dk_172 (dk_at dksX1_treats_2_0 13 rfl rfl)
theorem dX1_treats_2_14 : decode cX1_treats_2 14 = .ok (.iconst 0, 1) := dk_3 (dk_at dksX1_treats_2_0 14 rfl rfl)
theorem dX1_treats_2_15 : decode cX1_treats_2 15 = .ok (.istore_n 2, 1) := dk_61 (dk_at dksX1_treats_2_0 15 rfl rfl)
theorem dX1_treats_2_16 : decode cX1_treats_2 16 = .ok (.iload_n 1, 1) := dk_27 (dk_at dksX1_treats_2_0 16 rfl rfl)
theorem dX1_treats_2_17 : decode cX1_treats_2 17 = .ok (.bipush 9, 2) := dk_16 9 (dk_at dksX1_treats_2_0 17 rfl rfl)
theorem dX1_treats_2_19 : decode cX1_treats_2 19 = .ok (.if_icmp .ne 28, 3) := dk_160 0 28 (dk_at dksX1_treats_2_0 19 rfl rfl)
theorem dX1_treats_2_22 : decode cX1_treats_2 22 = .ok (.aload_n 0, 1) := dk_42 (dk_at dksX1_treats_2_0 22 rfl rfl)
theorem dX1_treats_2_23 : decode cX1_treats_2 23 = .ok (.getfield 10, 3) := dk_180 0 10 (dk_at dksX1_treats_2_1 0 rfl rfl)
theorem dX1_treats_2_26 : decode cX1_treats_2 26 = .ok (.aload_n 0, 1) := dk_42 (dk_at dksX1_treats_2_1 3 rfl rfl)
theorem dX1_treats_2_27 : decode cX1_treats_2 27 = .ok (.getfield 91, 3) := dk_180 0 91 (dk_at dksX1_treats_2_1 4 rfl rfl)
theorem dX1_treats_2_30 : decode cX1_treats_2 30 = .ok (.invokevirtual 304, 3) := dk_182 1 48 (dk_at dksX1_treats_2_1 7 rfl rfl)
theorem dX1_treats_2_33 : decode cX1_treats_2 33 = .ok (.iconst 1, 1) := dk_4 (dk_at dksX1_treats_2_1 10 rfl rfl)
theorem dX1_treats_2_34 : decode cX1_treats_2 34 = .ok (.aload_n 0, 1) := dk_42 (dk_at dksX1_treats_2_1 11 rfl rfl)
theorem dX1_treats_2_35 : decode cX1_treats_2 35 = .ok (.getfield 91, 3) := dk_180 0 91 (dk_at dksX1_treats_2_1 12 rfl rfl)
theorem dX1_treats_2_38 : decode cX1_treats_2 38 = .ok (.ishl, 1) := dk_120 (dk_at dksX1_treats_2_1 15 rfl rfl)
theorem dX1_treats_2_39 : decode cX1_treats_2 39 = .ok (.iconst 1, 1) := dk_4 (dk_at dksX1_treats_2_1 16 rfl rfl)
theorem dX1_treats_2_40 : decode cX1_treats_2 40 = .ok (.isub, 1) := dk_100 (dk_at dksX1_treats_2_1 17 rfl rfl)
theorem dX1_treats_2_41 : decode cX1_treats_2 41 = .ok (.if_icmp .eq 6, 3) := dk_159 0 6 (dk_at dksX1_treats_2_1 18 rfl rfl)
theorem dX1_treats_2_44 : decode cX1_treats_2 44 = .ok (.bipush (-2), 2) := dk_16 254 (dk_at dksX1_treats_2_1 21 rfl rfl)
theorem dX1_treats_2_46 : decode cX1_treats_2 46 = .ok (.ireturn, 1) := dk_172 (dk_at dksX1_treats_2_1 23 rfl rfl)
theorem dX1_treats_2_47 : decode cX1_treats_2 47 = .ok (.aload_n 0, 1) := dk_42 (dk_at dksX1_treats_2_2 0 rfl rfl)
theorem dX1_treats_2_48 : decode cX1_treats_2 48 = .ok (.iconst 0, 1) := dk_3 (dk_at dksX1_treats_2_2 1 rfl rfl)
theorem dX1_treats_2_49 : decode cX1_treats_2 49 = .ok (.putfield 84, 3) := dk_181 0 84 (dk_at dksX1_treats_2_2 2 rfl rfl)
theorem dX1_treats_2_52 : decode cX1_treats_2 52 = .ok (.iconst 0, 1) := dk_3 (dk_at dksX1_treats_2_2 5 rfl rfl)
theorem dX1_treats_2_53 : decode cX1_treats_2 53 = .ok (.istore_n 3, 1) := dk_62 (dk_at dksX1_treats_2_2 6 rfl rfl)
theorem dX1_treats_2_54 : decode cX1_treats_2 54 = .ok (.iload_n 3, 1) := dk_29 (dk_at dksX1_treats_2_2 7 rfl rfl)
theorem dX1_treats_2_55 : decode cX1_treats_2 55 = .ok (.aload_n 0, 1) := dk_42 (dk_at dksX1_treats_2_2 8 rfl rfl)
theorem dX1_treats_2_56 : decode cX1_treats_2 56 = .ok (.getfield 91, 3) := dk_180 0 91 (dk_at dksX1_treats_2_2 9 rfl rfl)
theorem dX1_treats_2_59 : decode cX1_treats_2 59 = .ok (.if_icmp .ge 77, 3) := dk_162 0 77 (dk_at dksX1_treats_2_2 12 rfl rfl)
theorem dX1_treats_2_62 : decode cX1_treats_2 62 = .ok (.aload_n 0, 1) := dk_42 (dk_at dksX1_treats_2_2 15 rfl rfl)
theorem dX1_treats_2_63 : decode cX1_treats_2 63 = .ok (.getfield 19, 3) := dk_180 0 19 (dk_at dksX1_treats_2_2 16 rfl rfl)
theorem dX1_treats_2_66 : decode cX1_treats_2 66 = .ok (.aload_n 0, 1) := dk_42 (dk_at dksX1_treats_2_2 19 rfl rfl)
theorem dX1_treats_2_67 : decode cX1_treats_2 67 = .ok (.getfield 10, 3) := dk_180 0 10 (dk_at dksX1_treats_2_2 20 rfl rfl)
theorem dX1_treats_2_70 : decode cX1_treats_2 70 = .ok (.invokevirtual 274, 3) := dk_182 1 18 (dk_at dksX1_treats_2_3 0 rfl rfl)
theorem dX1_treats_2_73 : decode cX1_treats_2 73 = .ok (.iconst 0, 1) := dk_3 (dk_at dksX1_treats_2_3 3 rfl rfl)
theorem dX1_treats_2_74 : decode cX1_treats_2 74 = .ok (.istore 4, 2) := dk_54 4 (dk_at dksX1_treats_2_3 4 rfl rfl)
theorem dX1_treats_2_76 : decode cX1_treats_2 76 = .ok (.aload_n 0, 1) := dk_42 (dk_at dksX1_treats_2_3 6 rfl rfl)
theorem dX1_treats_2_77 : decode cX1_treats_2 77 = .ok (.getfield 19, 3) := dk_180 0 19 (dk_at dksX1_treats_2_3 7 rfl rfl)
theorem dX1_treats_2_80 : decode cX1_treats_2 80 = .ok (.getfield 165, 3) := dk_180 0 165 (dk_at dksX1_treats_2_3 10 rfl rfl)
theorem dX1_treats_2_83 : decode cX1_treats_2 83 = .ok (.iload_n 3, 1) := dk_29 (dk_at dksX1_treats_2_3 13 rfl rfl)
theorem dX1_treats_2_84 : decode cX1_treats_2 84 = .ok (.iaload, 1) := dk_46 (dk_at dksX1_treats_2_3 14 rfl rfl)
theorem dX1_treats_2_85 : decode cX1_treats_2 85 = .ok (.iconst (-1), 1) := dk_2 (dk_at dksX1_treats_2_3 15 rfl rfl)
theorem dX1_treats_2_86 : decode cX1_treats_2 86 = .ok (.if_icmp .eq 32, 3) := dk_159 0 32 (dk_at dksX1_treats_2_3 16 rfl rfl)
theorem dX1_treats_2_89 : decode cX1_treats_2 89 = .ok (.aload_n 0, 1) := dk_42 (dk_at dksX1_treats_2_3 19 rfl rfl)
theorem dX1_treats_2_90 : decode cX1_treats_2 90 = .ok (.getfield 19, 3) := dk_180 0 19 (dk_at dksX1_treats_2_3 20 rfl rfl)
theorem dX1_treats_2_93 : decode cX1_treats_2 93 = .ok (.getfield 167, 3) := dk_180 0 167 (dk_at dksX1_treats_2_4 0 rfl rfl)
theorem dX1_treats_2_96 : decode cX1_treats_2 96 = .ok (.iload_n 3, 1) := dk_29 (dk_at dksX1_treats_2_4 3 rfl rfl)
theorem dX1_treats_2_97 : decode cX1_treats_2 97 = .ok (.iaload, 1) := dk_46 (dk_at dksX1_treats_2_4 4 rfl rfl)
theorem dX1_treats_2_98 : decode cX1_treats_2 98 = .ok (.iload_n 1, 1) := dk_27 (dk_at dksX1_treats_2_4 5 rfl rfl)
theorem dX1_treats_2_99 : decode cX1_treats_2 99 = .ok (.if_icmp .gt 19, 3) := dk_163 0 19 (dk_at dksX1_treats_2_4 6 rfl rfl)
theorem dX1_treats_2_102 : decode cX1_treats_2 102 = .ok (.aload_n 0, 1) := dk_42 (dk_at dksX1_treats_2_4 9 rfl rfl)
theorem dX1_treats_2_103 : decode cX1_treats_2 103 = .ok (.aload_n 0, 1) := dk_42 (dk_at dksX1_treats_2_4 10 rfl rfl)
theorem dX1_treats_2_104 : decode cX1_treats_2 104 = .ok (.getfield 19, 3) := dk_180 0 19 (dk_at dksX1_treats_2_4 11 rfl rfl)
theorem dX1_treats_2_107 : decode cX1_treats_2 107 = .ok (.iload_n 3, 1) := dk_29 (dk_at dksX1_treats_2_4 14 rfl rfl)
theorem dX1_treats_2_108 : decode cX1_treats_2 108 = .ok (.iconst 1, 1) := dk_4 (dk_at dksX1_treats_2_4 15 rfl rfl)
theorem dX1_treats_2_109 : decode cX1_treats_2 109 = .ok (.invokevirtual 291, 3) := dk_182 1 35 (dk_at dksX1_treats_2_4 16 rfl rfl)
theorem dX1_treats_2_112 : decode cX1_treats_2 112 = .ok (.iinc 4 1, 3) := dk_132 4 1 (dk_at dksX1_treats_2_4 19 rfl rfl)
theorem dX1_treats_2_115 : decode cX1_treats_2 115 = .ok (.goto (-39), 3) := dk_167 255 217 (dk_at dksX1_treats_2_5 0 rfl rfl)
theorem dX1_treats_2_118 : decode cX1_treats_2 118 = .ok (.aload_n 0, 1) := dk_42 (dk_at dksX1_treats_2_5 3 rfl rfl)
theorem dX1_treats_2_119 : decode cX1_treats_2 119 = .ok (.iload 4, 2) := dk_21 4 (dk_at dksX1_treats_2_5 4 rfl rfl)
theorem dX1_treats_2_121 : decode cX1_treats_2 121 = .ok (.i2l, 1) := dk_133 (dk_at dksX1_treats_2_5 6 rfl rfl)
theorem dX1_treats_2_122 : decode cX1_treats_2 122 = .ok (.invokevirtual 310, 3) := dk_182 1 54 (dk_at dksX1_treats_2_5 7 rfl rfl)
theorem dX1_treats_2_125 : decode cX1_treats_2 125 = .ok (.iload_n 2, 1) := dk_28 (dk_at dksX1_treats_2_5 10 rfl rfl)
theorem dX1_treats_2_126 : decode cX1_treats_2 126 = .ok (.iload 4, 2) := dk_21 4 (dk_at dksX1_treats_2_5 11 rfl rfl)
theorem dX1_treats_2_128 : decode cX1_treats_2 128 = .ok (.iadd, 1) := dk_96 (dk_at dksX1_treats_2_5 13 rfl rfl)
theorem dX1_treats_2_129 : decode cX1_treats_2 129 = .ok (.istore_n 2, 1) := dk_61 (dk_at dksX1_treats_2_5 14 rfl rfl)
theorem dX1_treats_2_130 : decode cX1_treats_2 130 = .ok (.iinc 3 1, 3) := dk_132 3 1 (dk_at dksX1_treats_2_5 15 rfl rfl)
theorem dX1_treats_2_133 : decode cX1_treats_2 133 = .ok (.goto (-79), 3) := dk_167 255 177 (dk_at dksX1_treats_2_5 18 rfl rfl)
theorem dX1_treats_2_136 : decode cX1_treats_2 136 = .ok (.iload_n 2, 1) := dk_28 (dk_at dksX1_treats_2_5 21 rfl rfl)
theorem dX1_treats_2_137 : decode cX1_treats_2 137 = .ok (.ireturn, 1) := dk_172 (dk_at dksX1_treats_2_5 22 rfl rfl)
abbrev cX1_work : ByteArray := prog_1_method_60_code
def yX1_work : MethodName := ⟨RX1, "work", "(I)I"⟩
def dkwX1_work_3 : List UInt8 := [46, 100, 133, 182, 1, 54, 132, 3, 1, 167, 255, 221, 28, 172]
abbrev dktX1_work_3 : List UInt8 := dkwX1_work_3 ++ []
def dkwX1_work_2 : List UInt8 := [180, 0, 42, 162, 0, 33, 42, 42, 180, 0, 19, 180, 0, 214, 29, 46, 42, 180, 0, 10, 180, 0, 214, 29]
abbrev dktX1_work_2 : List UInt8 := dkwX1_work_2 ++ dktX1_work_3
def dkwX1_work_1 : List UInt8 := [182, 1, 18, 42, 42, 180, 0, 19, 27, 182, 1, 51, 61, 42, 3, 181, 0, 84, 3, 62, 29, 42]
abbrev dktX1_work_1 : List UInt8 := dkwX1_work_1 ++ dktX1_work_2
def dkwX1_work_0 : List UInt8 := [27, 133, 9, 20, 1, 46, 184, 0, 87, 154, 0, 5, 2, 172, 42, 180, 0, 19, 42, 180, 0, 10]
abbrev dktX1_work_0 : List UInt8 := dkwX1_work_0 ++ dktX1_work_1
theorem dksX1_work_0 : cX1_work.data.toList.drop 0 = dktX1_work_0 := by decide +kernel
theorem dksX1_work_1 : cX1_work.data.toList.drop 22 = dktX1_work_1 := dk_seg dksX1_work_0 22 rfl rfl
theorem dksX1_work_2 : cX1_work.data.toList.drop 44 = dktX1_work_2 := dk_seg dksX1_work_1 22 rfl rfl
theorem dksX1_work_3 : cX1_work.data.toList.drop 68 = dktX1_work_3 := dk_seg dksX1_work_2 24 rfl rfl
theorem dX1_work_0 : decode cX1_work 0 = .ok (.iload_n 1, 1) := dk_27 (dk_at dksX1_work_0 0 rfl rfl)
theorem dX1_work_1 : decode cX1_work 1 = .ok (.i2l, 1) := dk_133 (dk_at dksX1_work_0 1 rfl rfl)
theorem dX1_work_2 : decode cX1_work 2 = .ok (.lconst 0, 1) := dk_9 (dk_at dksX1_work_0 2 rfl rfl)
theorem dX1_work_3 : decode cX1_work 3 = .ok (.ldc2_w 302, 3) := dk_20 1 46 (dk_at dksX1_work_0 3 rfl rfl)
theorem dX1_work_6 : decode cX1_work 6 = .ok (.invokestatic 87, 3) := dk_184 0 87 (dk_at dksX1_work_0 6 rfl rfl)
theorem dX1_work_9 : decode cX1_work 9 = .ok (.ifCond .ne 5, 3) := dk_154 0 5 (dk_at dksX1_work_0 9 rfl rfl)
theorem dX1_work_12 : decode cX1_work 12 = .ok (.iconst (-1), 1) := dk_2 (dk_at dksX1_work_0 12 rfl rfl)
theorem dX1_work_13 : decode cX1_work 13 = .ok (.ireturn, 1) := dk_172 (dk_at dksX1_work_0 13 rfl rfl)
theorem dX1_work_14 : decode cX1_work 14 = .ok (.aload_n 0, 1) := dk_42 (dk_at dksX1_work_0 14 rfl rfl)
theorem dX1_work_15 : decode cX1_work 15 = .ok (.getfield 19, 3) := dk_180 0 19 (dk_at dksX1_work_0 15 rfl rfl)
theorem dX1_work_18 : decode cX1_work 18 = .ok (.aload_n 0, 1) := dk_42 (dk_at dksX1_work_0 18 rfl rfl)
theorem dX1_work_19 : decode cX1_work 19 = .ok (.getfield 10, 3) := dk_180 0 10 (dk_at dksX1_work_0 19 rfl rfl)
theorem dX1_work_22 : decode cX1_work 22 = .ok (.invokevirtual 274, 3) := dk_182 1 18 (dk_at dksX1_work_1 0 rfl rfl)
theorem dX1_work_25 : decode cX1_work 25 = .ok (.aload_n 0, 1) := dk_42 (dk_at dksX1_work_1 3 rfl rfl)
theorem dX1_work_26 : decode cX1_work 26 = .ok (.aload_n 0, 1) := dk_42 (dk_at dksX1_work_1 4 rfl rfl)
theorem dX1_work_27 : decode cX1_work 27 = .ok (.getfield 19, 3) := dk_180 0 19 (dk_at dksX1_work_1 5 rfl rfl)
theorem dX1_work_30 : decode cX1_work 30 = .ok (.iload_n 1, 1) := dk_27 (dk_at dksX1_work_1 8 rfl rfl)
theorem dX1_work_31 : decode cX1_work 31 = .ok (.invokevirtual 307, 3) := dk_182 1 51 (dk_at dksX1_work_1 9 rfl rfl)
theorem dX1_work_34 : decode cX1_work 34 = .ok (.istore_n 2, 1) := dk_61 (dk_at dksX1_work_1 12 rfl rfl)
theorem dX1_work_35 : decode cX1_work 35 = .ok (.aload_n 0, 1) := dk_42 (dk_at dksX1_work_1 13 rfl rfl)
theorem dX1_work_36 : decode cX1_work 36 = .ok (.iconst 0, 1) := dk_3 (dk_at dksX1_work_1 14 rfl rfl)
theorem dX1_work_37 : decode cX1_work 37 = .ok (.putfield 84, 3) := dk_181 0 84 (dk_at dksX1_work_1 15 rfl rfl)
theorem dX1_work_40 : decode cX1_work 40 = .ok (.iconst 0, 1) := dk_3 (dk_at dksX1_work_1 18 rfl rfl)
theorem dX1_work_41 : decode cX1_work 41 = .ok (.istore_n 3, 1) := dk_62 (dk_at dksX1_work_1 19 rfl rfl)
theorem dX1_work_42 : decode cX1_work 42 = .ok (.iload_n 3, 1) := dk_29 (dk_at dksX1_work_1 20 rfl rfl)
theorem dX1_work_43 : decode cX1_work 43 = .ok (.aload_n 0, 1) := dk_42 (dk_at dksX1_work_1 21 rfl rfl)
theorem dX1_work_44 : decode cX1_work 44 = .ok (.getfield 42, 3) := dk_180 0 42 (dk_at dksX1_work_2 0 rfl rfl)
theorem dX1_work_47 : decode cX1_work 47 = .ok (.if_icmp .ge 33, 3) := dk_162 0 33 (dk_at dksX1_work_2 3 rfl rfl)
theorem dX1_work_50 : decode cX1_work 50 = .ok (.aload_n 0, 1) := dk_42 (dk_at dksX1_work_2 6 rfl rfl)
theorem dX1_work_51 : decode cX1_work 51 = .ok (.aload_n 0, 1) := dk_42 (dk_at dksX1_work_2 7 rfl rfl)
theorem dX1_work_52 : decode cX1_work 52 = .ok (.getfield 19, 3) := dk_180 0 19 (dk_at dksX1_work_2 8 rfl rfl)
theorem dX1_work_55 : decode cX1_work 55 = .ok (.getfield 214, 3) := dk_180 0 214 (dk_at dksX1_work_2 11 rfl rfl)
theorem dX1_work_58 : decode cX1_work 58 = .ok (.iload_n 3, 1) := dk_29 (dk_at dksX1_work_2 14 rfl rfl)
theorem dX1_work_59 : decode cX1_work 59 = .ok (.iaload, 1) := dk_46 (dk_at dksX1_work_2 15 rfl rfl)
theorem dX1_work_60 : decode cX1_work 60 = .ok (.aload_n 0, 1) := dk_42 (dk_at dksX1_work_2 16 rfl rfl)
theorem dX1_work_61 : decode cX1_work 61 = .ok (.getfield 10, 3) := dk_180 0 10 (dk_at dksX1_work_2 17 rfl rfl)
theorem dX1_work_64 : decode cX1_work 64 = .ok (.getfield 214, 3) := dk_180 0 214 (dk_at dksX1_work_2 20 rfl rfl)
theorem dX1_work_67 : decode cX1_work 67 = .ok (.iload_n 3, 1) := dk_29 (dk_at dksX1_work_2 23 rfl rfl)
theorem dX1_work_68 : decode cX1_work 68 = .ok (.iaload, 1) := dk_46 (dk_at dksX1_work_3 0 rfl rfl)
theorem dX1_work_69 : decode cX1_work 69 = .ok (.isub, 1) := dk_100 (dk_at dksX1_work_3 1 rfl rfl)
theorem dX1_work_70 : decode cX1_work 70 = .ok (.i2l, 1) := dk_133 (dk_at dksX1_work_3 2 rfl rfl)
theorem dX1_work_71 : decode cX1_work 71 = .ok (.invokevirtual 310, 3) := dk_182 1 54 (dk_at dksX1_work_3 3 rfl rfl)
theorem dX1_work_74 : decode cX1_work 74 = .ok (.iinc 3 1, 3) := dk_132 3 1 (dk_at dksX1_work_3 6 rfl rfl)
theorem dX1_work_77 : decode cX1_work 77 = .ok (.goto (-35), 3) := dk_167 255 221 (dk_at dksX1_work_3 9 rfl rfl)
theorem dX1_work_80 : decode cX1_work 80 = .ok (.iload_n 2, 1) := dk_28 (dk_at dksX1_work_3 12 rfl rfl)
theorem dX1_work_81 : decode cX1_work 81 = .ok (.ireturn, 1) := dk_172 (dk_at dksX1_work_3 13 rfl rfl)
abbrev cX1_law : ByteArray := prog_1_method_61_code
def yX1_law : MethodName := ⟨RX1, "law", "()I"⟩
def dkwX1_law_6 : List UInt8 := [21, 4, 133, 182, 1, 54, 21, 5, 21, 4, 100, 172]
abbrev dktX1_law_6 : List UInt8 := dkwX1_law_6 ++ []
def dkwX1_law_5 : List UInt8 := [58, 8, 42, 43, 181, 0, 178, 25, 8, 191, 42, 3, 181, 0, 84, 42, 21, 5, 133, 182, 1, 54, 42]
abbrev dktX1_law_5 : List UInt8 := dkwX1_law_5 ++ dktX1_law_6
def dkwX1_law_4 : List UInt8 := [167, 0, 34, 58, 6, 17, 216, 240, 25, 6, 180, 0, 115, 100, 54, 7, 42, 43, 181, 0, 178, 21, 7, 172]
abbrev dktX1_law_4 : List UInt8 := dkwX1_law_4 ++ dktX1_law_5
def dkwX1_law_3 : List UInt8 := [180, 0, 19, 42, 180, 0, 10, 182, 1, 18, 42, 16, 20, 182, 1, 117, 54, 5, 42, 43, 181, 0, 178]
abbrev dktX1_law_3 : List UInt8 := dkwX1_law_3 ++ dktX1_law_4
def dkwX1_law_2 : List UInt8 := [154, 0, 7, 1, 167, 0, 16, 187, 0, 182, 89, 42, 44, 29, 183, 0, 184, 182, 0, 187, 181, 0, 178, 42]
abbrev dktX1_law_2 : List UInt8 := dkwX1_law_2 ++ dktX1_law_3
def dkwX1_law_1 : List UInt8 := [181, 0, 96, 42, 180, 0, 19, 42, 180, 0, 10, 182, 1, 18, 42, 16, 20, 182, 1, 117, 54, 4, 42, 29]
abbrev dktX1_law_1 : List UInt8 := dkwX1_law_1 ++ dktX1_law_2
def dkwX1_law_0 : List UInt8 := [42, 180, 0, 178, 76, 42, 180, 0, 49, 182, 0, 173, 192, 0, 174, 77, 42, 180, 0, 96, 62, 42, 3]
abbrev dktX1_law_0 : List UInt8 := dkwX1_law_0 ++ dktX1_law_1
theorem dksX1_law_0 : cX1_law.data.toList.drop 0 = dktX1_law_0 := by decide +kernel
theorem dksX1_law_1 : cX1_law.data.toList.drop 23 = dktX1_law_1 := dk_seg dksX1_law_0 23 rfl rfl
theorem dksX1_law_2 : cX1_law.data.toList.drop 47 = dktX1_law_2 := dk_seg dksX1_law_1 24 rfl rfl
theorem dksX1_law_3 : cX1_law.data.toList.drop 71 = dktX1_law_3 := dk_seg dksX1_law_2 24 rfl rfl
theorem dksX1_law_4 : cX1_law.data.toList.drop 94 = dktX1_law_4 := dk_seg dksX1_law_3 23 rfl rfl
theorem dksX1_law_5 : cX1_law.data.toList.drop 118 = dktX1_law_5 := dk_seg dksX1_law_4 24 rfl rfl
theorem dksX1_law_6 : cX1_law.data.toList.drop 141 = dktX1_law_6 := dk_seg dksX1_law_5 23 rfl rfl
theorem dX1_law_0 : decode cX1_law 0 = .ok (.aload_n 0, 1) := dk_42 (dk_at dksX1_law_0 0 rfl rfl)
theorem dX1_law_1 : decode cX1_law 1 = .ok (.getfield 178, 3) := dk_180 0 178 (dk_at dksX1_law_0 1 rfl rfl)
theorem dX1_law_4 : decode cX1_law 4 = .ok (.astore_n 1, 1) := dk_76 (dk_at dksX1_law_0 4 rfl rfl)
theorem dX1_law_5 : decode cX1_law 5 = .ok (.aload_n 0, 1) := dk_42 (dk_at dksX1_law_0 5 rfl rfl)
theorem dX1_law_6 : decode cX1_law 6 = .ok (.getfield 49, 3) := dk_180 0 49 (dk_at dksX1_law_0 6 rfl rfl)
theorem dX1_law_9 : decode cX1_law 9 = .ok (.invokevirtual 173, 3) := dk_182 0 173 (dk_at dksX1_law_0 9 rfl rfl)
theorem dX1_law_12 : decode cX1_law 12 = .ok (.checkcast 174, 3) := dk_192 0 174 (dk_at dksX1_law_0 12 rfl rfl)
theorem dX1_law_15 : decode cX1_law 15 = .ok (.astore_n 2, 1) := dk_77 (dk_at dksX1_law_0 15 rfl rfl)
theorem dX1_law_16 : decode cX1_law 16 = .ok (.aload_n 0, 1) := dk_42 (dk_at dksX1_law_0 16 rfl rfl)
theorem dX1_law_17 : decode cX1_law 17 = .ok (.getfield 96, 3) := dk_180 0 96 (dk_at dksX1_law_0 17 rfl rfl)
theorem dX1_law_20 : decode cX1_law 20 = .ok (.istore_n 3, 1) := dk_62 (dk_at dksX1_law_0 20 rfl rfl)
theorem dX1_law_21 : decode cX1_law 21 = .ok (.aload_n 0, 1) := dk_42 (dk_at dksX1_law_0 21 rfl rfl)
theorem dX1_law_22 : decode cX1_law 22 = .ok (.iconst 0, 1) := dk_3 (dk_at dksX1_law_0 22 rfl rfl)
theorem dX1_law_23 : decode cX1_law 23 = .ok (.putfield 96, 3) := dk_181 0 96 (dk_at dksX1_law_1 0 rfl rfl)
theorem dX1_law_26 : decode cX1_law 26 = .ok (.aload_n 0, 1) := dk_42 (dk_at dksX1_law_1 3 rfl rfl)
theorem dX1_law_27 : decode cX1_law 27 = .ok (.getfield 19, 3) := dk_180 0 19 (dk_at dksX1_law_1 4 rfl rfl)
theorem dX1_law_30 : decode cX1_law 30 = .ok (.aload_n 0, 1) := dk_42 (dk_at dksX1_law_1 7 rfl rfl)
theorem dX1_law_31 : decode cX1_law 31 = .ok (.getfield 10, 3) := dk_180 0 10 (dk_at dksX1_law_1 8 rfl rfl)
theorem dX1_law_34 : decode cX1_law 34 = .ok (.invokevirtual 274, 3) := dk_182 1 18 (dk_at dksX1_law_1 11 rfl rfl)
theorem dX1_law_37 : decode cX1_law 37 = .ok (.aload_n 0, 1) := dk_42 (dk_at dksX1_law_1 14 rfl rfl)
theorem dX1_law_38 : decode cX1_law 38 = .ok (.bipush 20, 2) := dk_16 20 (dk_at dksX1_law_1 15 rfl rfl)
theorem dX1_law_40 : decode cX1_law 40 = .ok (.invokevirtual 373, 3) := dk_182 1 117 (dk_at dksX1_law_1 17 rfl rfl)
theorem dX1_law_43 : decode cX1_law 43 = .ok (.istore 4, 2) := dk_54 4 (dk_at dksX1_law_1 20 rfl rfl)
theorem dX1_law_45 : decode cX1_law 45 = .ok (.aload_n 0, 1) := dk_42 (dk_at dksX1_law_1 22 rfl rfl)
theorem dX1_law_46 : decode cX1_law 46 = .ok (.iload_n 3, 1) := dk_29 (dk_at dksX1_law_1 23 rfl rfl)
theorem dX1_law_47 : decode cX1_law 47 = .ok (.ifCond .ne 7, 3) := dk_154 0 7 (dk_at dksX1_law_2 0 rfl rfl)
theorem dX1_law_50 : decode cX1_law 50 = .ok (.aconst_null, 1) := dk_1 (dk_at dksX1_law_2 3 rfl rfl)
theorem dX1_law_51 : decode cX1_law 51 = .ok (.goto 16, 3) := dk_167 0 16 (dk_at dksX1_law_2 4 rfl rfl)
theorem dX1_law_54 : decode cX1_law 54 = .ok (.new 182, 3) := dk_187 0 182 (dk_at dksX1_law_2 7 rfl rfl)
theorem dX1_law_57 : decode cX1_law 57 = .ok (.dup, 1) := dk_89 (dk_at dksX1_law_2 10 rfl rfl)
theorem dX1_law_58 : decode cX1_law 58 = .ok (.aload_n 0, 1) := dk_42 (dk_at dksX1_law_2 11 rfl rfl)
theorem dX1_law_59 : decode cX1_law 59 = .ok (.aload_n 2, 1) := dk_44 (dk_at dksX1_law_2 12 rfl rfl)
theorem dX1_law_60 : decode cX1_law 60 = .ok (.iload_n 3, 1) := dk_29 (dk_at dksX1_law_2 13 rfl rfl)
theorem dX1_law_61 : decode cX1_law 61 = .ok (.invokespecial 184, 3) := dk_183 0 184 (dk_at dksX1_law_2 14 rfl rfl)
theorem dX1_law_64 : decode cX1_law 64 = .ok (.invokevirtual 187, 3) := dk_182 0 187 (dk_at dksX1_law_2 17 rfl rfl)
theorem dX1_law_67 : decode cX1_law 67 = .ok (.putfield 178, 3) := dk_181 0 178 (dk_at dksX1_law_2 20 rfl rfl)
theorem dX1_law_70 : decode cX1_law 70 = .ok (.aload_n 0, 1) := dk_42 (dk_at dksX1_law_2 23 rfl rfl)
theorem dX1_law_71 : decode cX1_law 71 = .ok (.getfield 19, 3) := dk_180 0 19 (dk_at dksX1_law_3 0 rfl rfl)
theorem dX1_law_74 : decode cX1_law 74 = .ok (.aload_n 0, 1) := dk_42 (dk_at dksX1_law_3 3 rfl rfl)
theorem dX1_law_75 : decode cX1_law 75 = .ok (.getfield 10, 3) := dk_180 0 10 (dk_at dksX1_law_3 4 rfl rfl)
theorem dX1_law_78 : decode cX1_law 78 = .ok (.invokevirtual 274, 3) := dk_182 1 18 (dk_at dksX1_law_3 7 rfl rfl)
theorem dX1_law_81 : decode cX1_law 81 = .ok (.aload_n 0, 1) := dk_42 (dk_at dksX1_law_3 10 rfl rfl)
theorem dX1_law_82 : decode cX1_law 82 = .ok (.bipush 20, 2) := dk_16 20 (dk_at dksX1_law_3 11 rfl rfl)
theorem dX1_law_84 : decode cX1_law 84 = .ok (.invokevirtual 373, 3) := dk_182 1 117 (dk_at dksX1_law_3 13 rfl rfl)
theorem dX1_law_87 : decode cX1_law 87 = .ok (.istore 5, 2) := dk_54 5 (dk_at dksX1_law_3 16 rfl rfl)
theorem dX1_law_89 : decode cX1_law 89 = .ok (.aload_n 0, 1) := dk_42 (dk_at dksX1_law_3 18 rfl rfl)
theorem dX1_law_90 : decode cX1_law 90 = .ok (.aload_n 1, 1) := dk_43 (dk_at dksX1_law_3 19 rfl rfl)
theorem dX1_law_91 : decode cX1_law 91 = .ok (.putfield 178, 3) := dk_181 0 178 (dk_at dksX1_law_3 20 rfl rfl)
theorem dX1_law_94 : decode cX1_law 94 = .ok (.goto 34, 3) := dk_167 0 34 (dk_at dksX1_law_4 0 rfl rfl)
theorem dX1_law_97 : decode cX1_law 97 = .ok (.astore 6, 2) := dk_58 6 (dk_at dksX1_law_4 3 rfl rfl)
theorem dX1_law_99 : decode cX1_law 99 = .ok (.sipush (-10000), 3) := dk_17 216 240 (dk_at dksX1_law_4 5 rfl rfl)
theorem dX1_law_102 : decode cX1_law 102 = .ok (.aload 6, 2) := dk_25 6 (dk_at dksX1_law_4 8 rfl rfl)
theorem dX1_law_104 : decode cX1_law 104 = .ok (.getfield 115, 3) := dk_180 0 115 (dk_at dksX1_law_4 10 rfl rfl)
theorem dX1_law_107 : decode cX1_law 107 = .ok (.isub, 1) := dk_100 (dk_at dksX1_law_4 13 rfl rfl)
theorem dX1_law_108 : decode cX1_law 108 = .ok (.istore 7, 2) := dk_54 7 (dk_at dksX1_law_4 14 rfl rfl)
theorem dX1_law_110 : decode cX1_law 110 = .ok (.aload_n 0, 1) := dk_42 (dk_at dksX1_law_4 16 rfl rfl)
theorem dX1_law_111 : decode cX1_law 111 = .ok (.aload_n 1, 1) := dk_43 (dk_at dksX1_law_4 17 rfl rfl)
theorem dX1_law_112 : decode cX1_law 112 = .ok (.putfield 178, 3) := dk_181 0 178 (dk_at dksX1_law_4 18 rfl rfl)
theorem dX1_law_115 : decode cX1_law 115 = .ok (.iload 7, 2) := dk_21 7 (dk_at dksX1_law_4 21 rfl rfl)
theorem dX1_law_117 : decode cX1_law 117 = .ok (.ireturn, 1) := dk_172 (dk_at dksX1_law_4 23 rfl rfl)
theorem dX1_law_118 : decode cX1_law 118 = .ok (.astore 8, 2) := dk_58 8 (dk_at dksX1_law_5 0 rfl rfl)
theorem dX1_law_120 : decode cX1_law 120 = .ok (.aload_n 0, 1) := dk_42 (dk_at dksX1_law_5 2 rfl rfl)
theorem dX1_law_121 : decode cX1_law 121 = .ok (.aload_n 1, 1) := dk_43 (dk_at dksX1_law_5 3 rfl rfl)
theorem dX1_law_122 : decode cX1_law 122 = .ok (.putfield 178, 3) := dk_181 0 178 (dk_at dksX1_law_5 4 rfl rfl)
theorem dX1_law_125 : decode cX1_law 125 = .ok (.aload 8, 2) := dk_25 8 (dk_at dksX1_law_5 7 rfl rfl)
theorem dX1_law_127 : decode cX1_law 127 = .ok (.athrow, 1) := dk_191 (dk_at dksX1_law_5 9 rfl rfl)
theorem dX1_law_128 : decode cX1_law 128 = .ok (.aload_n 0, 1) := dk_42 (dk_at dksX1_law_5 10 rfl rfl)
theorem dX1_law_129 : decode cX1_law 129 = .ok (.iconst 0, 1) := dk_3 (dk_at dksX1_law_5 11 rfl rfl)
theorem dX1_law_130 : decode cX1_law 130 = .ok (.putfield 84, 3) := dk_181 0 84 (dk_at dksX1_law_5 12 rfl rfl)
theorem dX1_law_133 : decode cX1_law 133 = .ok (.aload_n 0, 1) := dk_42 (dk_at dksX1_law_5 15 rfl rfl)
theorem dX1_law_134 : decode cX1_law 134 = .ok (.iload 5, 2) := dk_21 5 (dk_at dksX1_law_5 16 rfl rfl)
theorem dX1_law_136 : decode cX1_law 136 = .ok (.i2l, 1) := dk_133 (dk_at dksX1_law_5 18 rfl rfl)
theorem dX1_law_137 : decode cX1_law 137 = .ok (.invokevirtual 310, 3) := dk_182 1 54 (dk_at dksX1_law_5 19 rfl rfl)
theorem dX1_law_140 : decode cX1_law 140 = .ok (.aload_n 0, 1) := dk_42 (dk_at dksX1_law_5 22 rfl rfl)
theorem dX1_law_141 : decode cX1_law 141 = .ok (.iload 4, 2) := dk_21 4 (dk_at dksX1_law_6 0 rfl rfl)
theorem dX1_law_143 : decode cX1_law 143 = .ok (.i2l, 1) := dk_133 (dk_at dksX1_law_6 2 rfl rfl)
theorem dX1_law_144 : decode cX1_law 144 = .ok (.invokevirtual 310, 3) := dk_182 1 54 (dk_at dksX1_law_6 3 rfl rfl)
theorem dX1_law_147 : decode cX1_law 147 = .ok (.iload 5, 2) := dk_21 5 (dk_at dksX1_law_6 6 rfl rfl)
theorem dX1_law_149 : decode cX1_law 149 = .ok (.iload 4, 2) := dk_21 4 (dk_at dksX1_law_6 8 rfl rfl)
theorem dX1_law_151 : decode cX1_law 151 = .ok (.isub, 1) := dk_100 (dk_at dksX1_law_6 10 rfl rfl)
theorem dX1_law_152 : decode cX1_law 152 = .ok (.ireturn, 1) := dk_172 (dk_at dksX1_law_6 11 rfl rfl)
abbrev cX1_seen : ByteArray := prog_1_method_62_code
def yX1_seen : MethodName := ⟨RX1, "seen", "(II)I"⟩
def dkwX1_seen_2 : List UInt8 := [27, 28, 79, 42, 89, 180, 0, 129, 4, 27, 120, 128, 181, 0, 129, 42, 180, 0, 129, 184, 0, 196, 172]
abbrev dktX1_seen_2 : List UInt8 := dkwX1_seen_2 ++ []
def dkwX1_seen_1 : List UInt8 := [27, 184, 0, 225, 154, 0, 16, 42, 180, 0, 129, 184, 0, 196, 7, 160, 0, 5, 2, 172, 42, 180, 0, 63]
abbrev dktX1_seen_1 : List UInt8 := dkwX1_seen_1 ++ dktX1_seen_2
def dkwX1_seen_0 : List UInt8 := [42, 27, 182, 0, 232, 153, 0, 37, 28, 133, 9, 20, 1, 78, 184, 0, 87, 153, 0, 25, 42, 180, 0, 129]
abbrev dktX1_seen_0 : List UInt8 := dkwX1_seen_0 ++ dktX1_seen_1
theorem dksX1_seen_0 : cX1_seen.data.toList.drop 0 = dktX1_seen_0 := by decide +kernel
theorem dksX1_seen_1 : cX1_seen.data.toList.drop 24 = dktX1_seen_1 := dk_seg dksX1_seen_0 24 rfl rfl
theorem dksX1_seen_2 : cX1_seen.data.toList.drop 48 = dktX1_seen_2 := dk_seg dksX1_seen_1 24 rfl rfl
theorem dX1_seen_0 : decode cX1_seen 0 = .ok (.aload_n 0, 1) := dk_42 (dk_at dksX1_seen_0 0 rfl rfl)
theorem dX1_seen_1 : decode cX1_seen 1 = .ok (.iload_n 1, 1) := dk_27 (dk_at dksX1_seen_0 1 rfl rfl)
theorem dX1_seen_2 : decode cX1_seen 2 = .ok (.invokevirtual 232, 3) := dk_182 0 232 (dk_at dksX1_seen_0 2 rfl rfl)
theorem dX1_seen_5 : decode cX1_seen 5 = .ok (.ifCond .eq 37, 3) := dk_153 0 37 (dk_at dksX1_seen_0 5 rfl rfl)
theorem dX1_seen_8 : decode cX1_seen 8 = .ok (.iload_n 2, 1) := dk_28 (dk_at dksX1_seen_0 8 rfl rfl)
theorem dX1_seen_9 : decode cX1_seen 9 = .ok (.i2l, 1) := dk_133 (dk_at dksX1_seen_0 9 rfl rfl)
theorem dX1_seen_10 : decode cX1_seen 10 = .ok (.lconst 0, 1) := dk_9 (dk_at dksX1_seen_0 10 rfl rfl)
theorem dX1_seen_11 : decode cX1_seen 11 = .ok (.ldc2_w 334, 3) := dk_20 1 78 (dk_at dksX1_seen_0 11 rfl rfl)
theorem dX1_seen_14 : decode cX1_seen 14 = .ok (.invokestatic 87, 3) := dk_184 0 87 (dk_at dksX1_seen_0 14 rfl rfl)
theorem dX1_seen_17 : decode cX1_seen 17 = .ok (.ifCond .eq 25, 3) := dk_153 0 25 (dk_at dksX1_seen_0 17 rfl rfl)
theorem dX1_seen_20 : decode cX1_seen 20 = .ok (.aload_n 0, 1) := dk_42 (dk_at dksX1_seen_0 20 rfl rfl)
theorem dX1_seen_21 : decode cX1_seen 21 = .ok (.getfield 129, 3) := dk_180 0 129 (dk_at dksX1_seen_0 21 rfl rfl)
theorem dX1_seen_24 : decode cX1_seen 24 = .ok (.iload_n 1, 1) := dk_27 (dk_at dksX1_seen_1 0 rfl rfl)
theorem dX1_seen_25 : decode cX1_seen 25 = .ok (.invokestatic 225, 3) := dk_184 0 225 (dk_at dksX1_seen_1 1 rfl rfl)
theorem dX1_seen_28 : decode cX1_seen 28 = .ok (.ifCond .ne 16, 3) := dk_154 0 16 (dk_at dksX1_seen_1 4 rfl rfl)
theorem dX1_seen_31 : decode cX1_seen 31 = .ok (.aload_n 0, 1) := dk_42 (dk_at dksX1_seen_1 7 rfl rfl)
theorem dX1_seen_32 : decode cX1_seen 32 = .ok (.getfield 129, 3) := dk_180 0 129 (dk_at dksX1_seen_1 8 rfl rfl)
theorem dX1_seen_35 : decode cX1_seen 35 = .ok (.invokestatic 196, 3) := dk_184 0 196 (dk_at dksX1_seen_1 11 rfl rfl)
theorem dX1_seen_38 : decode cX1_seen 38 = .ok (.iconst 4, 1) := dk_7 (dk_at dksX1_seen_1 14 rfl rfl)
theorem dX1_seen_39 : decode cX1_seen 39 = .ok (.if_icmp .ne 5, 3) := dk_160 0 5 (dk_at dksX1_seen_1 15 rfl rfl)
theorem dX1_seen_42 : decode cX1_seen 42 = .ok (.iconst (-1), 1) := dk_2 (dk_at dksX1_seen_1 18 rfl rfl)
theorem dX1_seen_43 : decode cX1_seen 43 = .ok (.ireturn, 1) := dk_172 (dk_at dksX1_seen_1 19 rfl rfl)
theorem dX1_seen_44 : decode cX1_seen 44 = .ok (.aload_n 0, 1) := dk_42 (dk_at dksX1_seen_1 20 rfl rfl)
theorem dX1_seen_45 : decode cX1_seen 45 = .ok (.getfield 63, 3) := dk_180 0 63 (dk_at dksX1_seen_1 21 rfl rfl)
theorem dX1_seen_48 : decode cX1_seen 48 = .ok (.iload_n 1, 1) := dk_27 (dk_at dksX1_seen_2 0 rfl rfl)
theorem dX1_seen_49 : decode cX1_seen 49 = .ok (.iload_n 2, 1) := dk_28 (dk_at dksX1_seen_2 1 rfl rfl)
theorem dX1_seen_50 : decode cX1_seen 50 = .ok (.iastore, 1) := dk_79 (dk_at dksX1_seen_2 2 rfl rfl)
theorem dX1_seen_51 : decode cX1_seen 51 = .ok (.aload_n 0, 1) := dk_42 (dk_at dksX1_seen_2 3 rfl rfl)
theorem dX1_seen_52 : decode cX1_seen 52 = .ok (.dup, 1) := dk_89 (dk_at dksX1_seen_2 4 rfl rfl)
theorem dX1_seen_53 : decode cX1_seen 53 = .ok (.getfield 129, 3) := dk_180 0 129 (dk_at dksX1_seen_2 5 rfl rfl)
theorem dX1_seen_56 : decode cX1_seen 56 = .ok (.iconst 1, 1) := dk_4 (dk_at dksX1_seen_2 8 rfl rfl)
theorem dX1_seen_57 : decode cX1_seen 57 = .ok (.iload_n 1, 1) := dk_27 (dk_at dksX1_seen_2 9 rfl rfl)
theorem dX1_seen_58 : decode cX1_seen 58 = .ok (.ishl, 1) := dk_120 (dk_at dksX1_seen_2 10 rfl rfl)
theorem dX1_seen_59 : decode cX1_seen 59 = .ok (.ior, 1) := dk_128 (dk_at dksX1_seen_2 11 rfl rfl)
theorem dX1_seen_60 : decode cX1_seen 60 = .ok (.putfield 129, 3) := dk_181 0 129 (dk_at dksX1_seen_2 12 rfl rfl)
theorem dX1_seen_63 : decode cX1_seen 63 = .ok (.aload_n 0, 1) := dk_42 (dk_at dksX1_seen_2 15 rfl rfl)
theorem dX1_seen_64 : decode cX1_seen 64 = .ok (.getfield 129, 3) := dk_180 0 129 (dk_at dksX1_seen_2 16 rfl rfl)
theorem dX1_seen_67 : decode cX1_seen 67 = .ok (.invokestatic 196, 3) := dk_184 0 196 (dk_at dksX1_seen_2 19 rfl rfl)
theorem dX1_seen_70 : decode cX1_seen 70 = .ok (.ireturn, 1) := dk_172 (dk_at dksX1_seen_2 22 rfl rfl)
abbrev cX1_forget : ByteArray := prog_1_method_63_code
def yX1_forget : MethodName := ⟨RX1, "forget", "()I"⟩
def dkwX1_forget_0 : List UInt8 := [42, 180, 0, 129, 184, 0, 196, 60, 42, 3, 181, 0, 129, 27, 172]
abbrev dktX1_forget_0 : List UInt8 := dkwX1_forget_0 ++ []
theorem dksX1_forget_0 : cX1_forget.data.toList.drop 0 = dktX1_forget_0 := by decide +kernel
theorem dX1_forget_0 : decode cX1_forget 0 = .ok (.aload_n 0, 1) := dk_42 (dk_at dksX1_forget_0 0 rfl rfl)
theorem dX1_forget_1 : decode cX1_forget 1 = .ok (.getfield 129, 3) := dk_180 0 129 (dk_at dksX1_forget_0 1 rfl rfl)
theorem dX1_forget_4 : decode cX1_forget 4 = .ok (.invokestatic 196, 3) := dk_184 0 196 (dk_at dksX1_forget_0 4 rfl rfl)
theorem dX1_forget_7 : decode cX1_forget 7 = .ok (.istore_n 1, 1) := dk_60 (dk_at dksX1_forget_0 7 rfl rfl)
theorem dX1_forget_8 : decode cX1_forget 8 = .ok (.aload_n 0, 1) := dk_42 (dk_at dksX1_forget_0 8 rfl rfl)
theorem dX1_forget_9 : decode cX1_forget 9 = .ok (.iconst 0, 1) := dk_3 (dk_at dksX1_forget_0 9 rfl rfl)
theorem dX1_forget_10 : decode cX1_forget 10 = .ok (.putfield 129, 3) := dk_181 0 129 (dk_at dksX1_forget_0 10 rfl rfl)
theorem dX1_forget_13 : decode cX1_forget 13 = .ok (.iload_n 1, 1) := dk_27 (dk_at dksX1_forget_0 13 rfl rfl)
theorem dX1_forget_14 : decode cX1_forget 14 = .ok (.ireturn, 1) := dk_172 (dk_at dksX1_forget_0 14 rfl rfl)
abbrev cX1_ways : ByteArray := prog_1_method_66_code
def yX1_ways : MethodName := ⟨RX1, "ways", "()I"⟩
def dkwX1_ways_2 : List UInt8 := [172]
abbrev dktX1_ways_2 : List UInt8 := dkwX1_ways_2 ++ []
def dkwX1_ways_1 : List UInt8 := [158, 0, 20, 42, 42, 180, 0, 69, 27, 46, 133, 182, 1, 54, 132, 1, 1, 167, 255, 227, 42, 180, 1, 152]
abbrev dktX1_ways_1 : List UInt8 := dkwX1_ways_1 ++ dktX1_ways_2
def dkwX1_ways_0 : List UInt8 := [42, 182, 1, 159, 42, 3, 181, 0, 84, 3, 60, 27, 42, 180, 0, 91, 162, 0, 27, 42, 180, 1, 152]
abbrev dktX1_ways_0 : List UInt8 := dkwX1_ways_0 ++ dktX1_ways_1
theorem dksX1_ways_0 : cX1_ways.data.toList.drop 0 = dktX1_ways_0 := by decide +kernel
theorem dksX1_ways_1 : cX1_ways.data.toList.drop 23 = dktX1_ways_1 := dk_seg dksX1_ways_0 23 rfl rfl
theorem dksX1_ways_2 : cX1_ways.data.toList.drop 47 = dktX1_ways_2 := dk_seg dksX1_ways_1 24 rfl rfl
theorem dX1_ways_0 : decode cX1_ways 0 = .ok (.aload_n 0, 1) := dk_42 (dk_at dksX1_ways_0 0 rfl rfl)
theorem dX1_ways_1 : decode cX1_ways 1 = .ok (.invokevirtual 415, 3) := dk_182 1 159 (dk_at dksX1_ways_0 1 rfl rfl)
theorem dX1_ways_4 : decode cX1_ways 4 = .ok (.aload_n 0, 1) := dk_42 (dk_at dksX1_ways_0 4 rfl rfl)
theorem dX1_ways_5 : decode cX1_ways 5 = .ok (.iconst 0, 1) := dk_3 (dk_at dksX1_ways_0 5 rfl rfl)
theorem dX1_ways_6 : decode cX1_ways 6 = .ok (.putfield 84, 3) := dk_181 0 84 (dk_at dksX1_ways_0 6 rfl rfl)
theorem dX1_ways_9 : decode cX1_ways 9 = .ok (.iconst 0, 1) := dk_3 (dk_at dksX1_ways_0 9 rfl rfl)
theorem dX1_ways_10 : decode cX1_ways 10 = .ok (.istore_n 1, 1) := dk_60 (dk_at dksX1_ways_0 10 rfl rfl)
theorem dX1_ways_11 : decode cX1_ways 11 = .ok (.iload_n 1, 1) := dk_27 (dk_at dksX1_ways_0 11 rfl rfl)
theorem dX1_ways_12 : decode cX1_ways 12 = .ok (.aload_n 0, 1) := dk_42 (dk_at dksX1_ways_0 12 rfl rfl)
theorem dX1_ways_13 : decode cX1_ways 13 = .ok (.getfield 91, 3) := dk_180 0 91 (dk_at dksX1_ways_0 13 rfl rfl)
theorem dX1_ways_16 : decode cX1_ways 16 = .ok (.if_icmp .ge 27, 3) := dk_162 0 27 (dk_at dksX1_ways_0 16 rfl rfl)
theorem dX1_ways_19 : decode cX1_ways 19 = .ok (.aload_n 0, 1) := dk_42 (dk_at dksX1_ways_0 19 rfl rfl)
theorem dX1_ways_20 : decode cX1_ways 20 = .ok (.getfield 408, 3) := dk_180 1 152 (dk_at dksX1_ways_0 20 rfl rfl)
theorem dX1_ways_23 : decode cX1_ways 23 = .ok (.ifCond .le 20, 3) := dk_158 0 20 (dk_at dksX1_ways_1 0 rfl rfl)
theorem dX1_ways_26 : decode cX1_ways 26 = .ok (.aload_n 0, 1) := dk_42 (dk_at dksX1_ways_1 3 rfl rfl)
theorem dX1_ways_27 : decode cX1_ways 27 = .ok (.aload_n 0, 1) := dk_42 (dk_at dksX1_ways_1 4 rfl rfl)
theorem dX1_ways_28 : decode cX1_ways 28 = .ok (.getfield 69, 3) := dk_180 0 69 (dk_at dksX1_ways_1 5 rfl rfl)
theorem dX1_ways_31 : decode cX1_ways 31 = .ok (.iload_n 1, 1) := dk_27 (dk_at dksX1_ways_1 8 rfl rfl)
theorem dX1_ways_32 : decode cX1_ways 32 = .ok (.iaload, 1) := dk_46 (dk_at dksX1_ways_1 9 rfl rfl)
theorem dX1_ways_33 : decode cX1_ways 33 = .ok (.i2l, 1) := dk_133 (dk_at dksX1_ways_1 10 rfl rfl)
theorem dX1_ways_34 : decode cX1_ways 34 = .ok (.invokevirtual 310, 3) := dk_182 1 54 (dk_at dksX1_ways_1 11 rfl rfl)
theorem dX1_ways_37 : decode cX1_ways 37 = .ok (.iinc 1 1, 3) := dk_132 1 1 (dk_at dksX1_ways_1 14 rfl rfl)
theorem dX1_ways_40 : decode cX1_ways 40 = .ok (.goto (-29), 3) := dk_167 255 227 (dk_at dksX1_ways_1 17 rfl rfl)
theorem dX1_ways_43 : decode cX1_ways 43 = .ok (.aload_n 0, 1) := dk_42 (dk_at dksX1_ways_1 20 rfl rfl)
theorem dX1_ways_44 : decode cX1_ways 44 = .ok (.getfield 408, 3) := dk_180 1 152 (dk_at dksX1_ways_1 21 rfl rfl)
theorem dX1_ways_47 : decode cX1_ways 47 = .ok (.ireturn, 1) := dk_172 (dk_at dksX1_ways_2 0 rfl rfl)
abbrev cX1_findWays : ByteArray := prog_1_method_65_code
def yX1_findWays : MethodName := ⟨RX1, "findWays", "()V"⟩
def dkwX1_findWays_0 : List UInt8 := [42, 3, 181, 1, 152, 42, 180, 0, 72, 3, 184, 1, 39, 42, 3, 182, 1, 155, 177]
abbrev dktX1_findWays_0 : List UInt8 := dkwX1_findWays_0 ++ []
theorem dksX1_findWays_0 : cX1_findWays.data.toList.drop 0 = dktX1_findWays_0 := by decide +kernel
theorem dX1_findWays_0 : decode cX1_findWays 0 = .ok (.aload_n 0, 1) := dk_42 (dk_at dksX1_findWays_0 0 rfl rfl)
theorem dX1_findWays_1 : decode cX1_findWays 1 = .ok (.iconst 0, 1) := dk_3 (dk_at dksX1_findWays_0 1 rfl rfl)
theorem dX1_findWays_2 : decode cX1_findWays 2 = .ok (.putfield 408, 3) := dk_181 1 152 (dk_at dksX1_findWays_0 2 rfl rfl)
theorem dX1_findWays_5 : decode cX1_findWays 5 = .ok (.aload_n 0, 1) := dk_42 (dk_at dksX1_findWays_0 5 rfl rfl)
theorem dX1_findWays_6 : decode cX1_findWays 6 = .ok (.getfield 72, 3) := dk_180 0 72 (dk_at dksX1_findWays_0 6 rfl rfl)
theorem dX1_findWays_9 : decode cX1_findWays 9 = .ok (.iconst 0, 1) := dk_3 (dk_at dksX1_findWays_0 9 rfl rfl)
theorem dX1_findWays_10 : decode cX1_findWays 10 = .ok (.invokestatic 295, 3) := dk_184 1 39 (dk_at dksX1_findWays_0 10 rfl rfl)
theorem dX1_findWays_13 : decode cX1_findWays 13 = .ok (.aload_n 0, 1) := dk_42 (dk_at dksX1_findWays_0 13 rfl rfl)
theorem dX1_findWays_14 : decode cX1_findWays 14 = .ok (.iconst 0, 1) := dk_3 (dk_at dksX1_findWays_0 14 rfl rfl)
theorem dX1_findWays_15 : decode cX1_findWays 15 = .ok (.invokevirtual 411, 3) := dk_182 1 155 (dk_at dksX1_findWays_0 15 rfl rfl)
theorem dX1_findWays_18 : decode cX1_findWays 18 = .ok (.return_, 1) := dk_177 (dk_at dksX1_findWays_0 18 rfl rfl)
abbrev cX1_goWays : ByteArray := prog_1_method_64_code
def yX1_goWays : MethodName := ⟨RX1, "goWays", "(I)V"⟩
def dkwX1_goWays_9 : List UInt8 := [27, 46, 96, 79, 132, 2, 1, 167, 255, 172, 177]
abbrev dktX1_goWays_9 : List UInt8 := dkwX1_goWays_9 ++ []
def dkwX1_goWays_8 : List UInt8 := [180, 0, 66, 27, 28, 79, 42, 27, 4, 96, 182, 1, 155, 42, 180, 0, 63, 28, 92, 46, 42, 180, 0, 36]
abbrev dktX1_goWays_8 : List UInt8 := dkwX1_goWays_8 ++ dktX1_goWays_9
def dkwX1_goWays_7 : List UInt8 := [162, 0, 6, 167, 0, 47, 42, 180, 0, 63, 28, 92, 46, 42, 180, 0, 36, 27, 46, 100, 79, 42]
abbrev dktX1_goWays_7 : List UInt8 := dkwX1_goWays_7 ++ dktX1_goWays_8
def dkwX1_goWays_6 : List UInt8 := [180, 0, 129, 28, 184, 0, 225, 153, 0, 65, 42, 180, 0, 63, 28, 46, 42, 180, 0, 36, 27, 46]
abbrev dktX1_goWays_6 : List UInt8 := dkwX1_goWays_6 ++ dktX1_goWays_7
def dkwX1_goWays_5 : List UInt8 := [180, 0, 66, 27, 2, 79, 42, 27, 4, 96, 182, 1, 155, 3, 61, 28, 42, 180, 0, 42, 162, 0, 82, 42]
abbrev dktX1_goWays_5 : List UInt8 := dkwX1_goWays_5 ++ dktX1_goWays_6
def dkwX1_goWays_4 : List UInt8 := [96, 120, 128, 79, 132, 2, 1, 167, 255, 226, 42, 89, 180, 1, 152, 4, 96, 181, 1, 152, 177, 42]
abbrev dktX1_goWays_4 : List UInt8 := dkwX1_goWays_4 ++ dktX1_goWays_5
def dkwX1_goWays_3 : List UInt8 := [61, 28, 42, 180, 0, 91, 162, 0, 28, 42, 180, 0, 72, 28, 92, 46, 4, 42, 180, 0, 66, 28, 46, 4]
abbrev dktX1_goWays_3 : List UInt8 := dkwX1_goWays_3 ++ dktX1_goWays_4
def dkwX1_goWays_2 : List UInt8 := [180, 1, 152, 154, 0, 20, 42, 180, 0, 66, 3, 42, 180, 0, 69, 3, 42, 180, 0, 91, 184, 0, 122, 3]
abbrev dktX1_goWays_2 : List UInt8 := dkwX1_goWays_2 ++ dktX1_goWays_3
def dkwX1_goWays_1 : List UInt8 := [184, 0, 225, 153, 0, 13, 42, 180, 0, 63, 28, 46, 153, 0, 4, 177, 132, 2, 1, 167, 255, 224, 42]
abbrev dktX1_goWays_1 : List UInt8 := dkwX1_goWays_1 ++ dktX1_goWays_2
def dkwX1_goWays_0 : List UInt8 := [27, 42, 180, 0, 91, 160, 0, 110, 3, 61, 28, 42, 180, 0, 42, 162, 0, 30, 42, 180, 0, 129, 28]
abbrev dktX1_goWays_0 : List UInt8 := dkwX1_goWays_0 ++ dktX1_goWays_1
theorem dksX1_goWays_0 : cX1_goWays.data.toList.drop 0 = dktX1_goWays_0 := by decide +kernel
theorem dksX1_goWays_1 : cX1_goWays.data.toList.drop 23 = dktX1_goWays_1 := dk_seg dksX1_goWays_0 23 rfl rfl
theorem dksX1_goWays_2 : cX1_goWays.data.toList.drop 46 = dktX1_goWays_2 := dk_seg dksX1_goWays_1 23 rfl rfl
theorem dksX1_goWays_3 : cX1_goWays.data.toList.drop 70 = dktX1_goWays_3 := dk_seg dksX1_goWays_2 24 rfl rfl
theorem dksX1_goWays_4 : cX1_goWays.data.toList.drop 94 = dktX1_goWays_4 := dk_seg dksX1_goWays_3 24 rfl rfl
theorem dksX1_goWays_5 : cX1_goWays.data.toList.drop 116 = dktX1_goWays_5 := dk_seg dksX1_goWays_4 22 rfl rfl
theorem dksX1_goWays_6 : cX1_goWays.data.toList.drop 140 = dktX1_goWays_6 := dk_seg dksX1_goWays_5 24 rfl rfl
theorem dksX1_goWays_7 : cX1_goWays.data.toList.drop 162 = dktX1_goWays_7 := dk_seg dksX1_goWays_6 22 rfl rfl
theorem dksX1_goWays_8 : cX1_goWays.data.toList.drop 184 = dktX1_goWays_8 := dk_seg dksX1_goWays_7 22 rfl rfl
theorem dksX1_goWays_9 : cX1_goWays.data.toList.drop 208 = dktX1_goWays_9 := dk_seg dksX1_goWays_8 24 rfl rfl
theorem dX1_goWays_0 : decode cX1_goWays 0 = .ok (.iload_n 1, 1) := dk_27 (dk_at dksX1_goWays_0 0 rfl rfl)
theorem dX1_goWays_1 : decode cX1_goWays 1 = .ok (.aload_n 0, 1) := dk_42 (dk_at dksX1_goWays_0 1 rfl rfl)
theorem dX1_goWays_2 : decode cX1_goWays 2 = .ok (.getfield 91, 3) := dk_180 0 91 (dk_at dksX1_goWays_0 2 rfl rfl)
theorem dX1_goWays_5 : decode cX1_goWays 5 = .ok (.if_icmp .ne 110, 3) := dk_160 0 110 (dk_at dksX1_goWays_0 5 rfl rfl)
theorem dX1_goWays_8 : decode cX1_goWays 8 = .ok (.iconst 0, 1) := dk_3 (dk_at dksX1_goWays_0 8 rfl rfl)
theorem dX1_goWays_9 : decode cX1_goWays 9 = .ok (.istore_n 2, 1) := dk_61 (dk_at dksX1_goWays_0 9 rfl rfl)
theorem dX1_goWays_10 : decode cX1_goWays 10 = .ok (.iload_n 2, 1) := dk_28 (dk_at dksX1_goWays_0 10 rfl rfl)
theorem dX1_goWays_11 : decode cX1_goWays 11 = .ok (.aload_n 0, 1) := dk_42 (dk_at dksX1_goWays_0 11 rfl rfl)
theorem dX1_goWays_12 : decode cX1_goWays 12 = .ok (.getfield 42, 3) := dk_180 0 42 (dk_at dksX1_goWays_0 12 rfl rfl)
theorem dX1_goWays_15 : decode cX1_goWays 15 = .ok (.if_icmp .ge 30, 3) := dk_162 0 30 (dk_at dksX1_goWays_0 15 rfl rfl)
theorem dX1_goWays_18 : decode cX1_goWays 18 = .ok (.aload_n 0, 1) := dk_42 (dk_at dksX1_goWays_0 18 rfl rfl)
theorem dX1_goWays_19 : decode cX1_goWays 19 = .ok (.getfield 129, 3) := dk_180 0 129 (dk_at dksX1_goWays_0 19 rfl rfl)
theorem dX1_goWays_22 : decode cX1_goWays 22 = .ok (.iload_n 2, 1) := dk_28 (dk_at dksX1_goWays_0 22 rfl rfl)
theorem dX1_goWays_23 : decode cX1_goWays 23 = .ok (.invokestatic 225, 3) := dk_184 0 225 (dk_at dksX1_goWays_1 0 rfl rfl)
theorem dX1_goWays_26 : decode cX1_goWays 26 = .ok (.ifCond .eq 13, 3) := dk_153 0 13 (dk_at dksX1_goWays_1 3 rfl rfl)
theorem dX1_goWays_29 : decode cX1_goWays 29 = .ok (.aload_n 0, 1) := dk_42 (dk_at dksX1_goWays_1 6 rfl rfl)
theorem dX1_goWays_30 : decode cX1_goWays 30 = .ok (.getfield 63, 3) := dk_180 0 63 (dk_at dksX1_goWays_1 7 rfl rfl)
theorem dX1_goWays_33 : decode cX1_goWays 33 = .ok (.iload_n 2, 1) := dk_28 (dk_at dksX1_goWays_1 10 rfl rfl)
theorem dX1_goWays_34 : decode cX1_goWays 34 = .ok (.iaload, 1) := dk_46 (dk_at dksX1_goWays_1 11 rfl rfl)
theorem dX1_goWays_35 : decode cX1_goWays 35 = .ok (.ifCond .eq 4, 3) := dk_153 0 4 (dk_at dksX1_goWays_1 12 rfl rfl)
theorem dX1_goWays_38 : decode cX1_goWays 38 = .ok (.return_, 1) := dk_177 (dk_at dksX1_goWays_1 15 rfl rfl)
theorem dX1_goWays_39 : decode cX1_goWays 39 = .ok (.iinc 2 1, 3) := dk_132 2 1 (dk_at dksX1_goWays_1 16 rfl rfl)
theorem dX1_goWays_42 : decode cX1_goWays 42 = .ok (.goto (-32), 3) := dk_167 255 224 (dk_at dksX1_goWays_1 19 rfl rfl)
theorem dX1_goWays_45 : decode cX1_goWays 45 = .ok (.aload_n 0, 1) := dk_42 (dk_at dksX1_goWays_1 22 rfl rfl)
theorem dX1_goWays_46 : decode cX1_goWays 46 = .ok (.getfield 408, 3) := dk_180 1 152 (dk_at dksX1_goWays_2 0 rfl rfl)
theorem dX1_goWays_49 : decode cX1_goWays 49 = .ok (.ifCond .ne 20, 3) := dk_154 0 20 (dk_at dksX1_goWays_2 3 rfl rfl)
theorem dX1_goWays_52 : decode cX1_goWays 52 = .ok (.aload_n 0, 1) := dk_42 (dk_at dksX1_goWays_2 6 rfl rfl)
theorem dX1_goWays_53 : decode cX1_goWays 53 = .ok (.getfield 66, 3) := dk_180 0 66 (dk_at dksX1_goWays_2 7 rfl rfl)
theorem dX1_goWays_56 : decode cX1_goWays 56 = .ok (.iconst 0, 1) := dk_3 (dk_at dksX1_goWays_2 10 rfl rfl)
theorem dX1_goWays_57 : decode cX1_goWays 57 = .ok (.aload_n 0, 1) := dk_42 (dk_at dksX1_goWays_2 11 rfl rfl)
theorem dX1_goWays_58 : decode cX1_goWays 58 = .ok (.getfield 69, 3) := dk_180 0 69 (dk_at dksX1_goWays_2 12 rfl rfl)
theorem dX1_goWays_61 : decode cX1_goWays 61 = .ok (.iconst 0, 1) := dk_3 (dk_at dksX1_goWays_2 15 rfl rfl)
theorem dX1_goWays_62 : decode cX1_goWays 62 = .ok (.aload_n 0, 1) := dk_42 (dk_at dksX1_goWays_2 16 rfl rfl)
theorem dX1_goWays_63 : decode cX1_goWays 63 = .ok (.getfield 91, 3) := dk_180 0 91 (dk_at dksX1_goWays_2 17 rfl rfl)
theorem dX1_goWays_66 : decode cX1_goWays 66 = .ok (.invokestatic 122, 3) := dk_184 0 122 (dk_at dksX1_goWays_2 20 rfl rfl)
theorem dX1_goWays_69 : decode cX1_goWays 69 = .ok (.iconst 0, 1) := dk_3 (dk_at dksX1_goWays_2 23 rfl rfl)
theorem dX1_goWays_70 : decode cX1_goWays 70 = .ok (.istore_n 2, 1) := dk_61 (dk_at dksX1_goWays_3 0 rfl rfl)
theorem dX1_goWays_71 : decode cX1_goWays 71 = .ok (.iload_n 2, 1) := dk_28 (dk_at dksX1_goWays_3 1 rfl rfl)
theorem dX1_goWays_72 : decode cX1_goWays 72 = .ok (.aload_n 0, 1) := dk_42 (dk_at dksX1_goWays_3 2 rfl rfl)
theorem dX1_goWays_73 : decode cX1_goWays 73 = .ok (.getfield 91, 3) := dk_180 0 91 (dk_at dksX1_goWays_3 3 rfl rfl)
theorem dX1_goWays_76 : decode cX1_goWays 76 = .ok (.if_icmp .ge 28, 3) := dk_162 0 28 (dk_at dksX1_goWays_3 6 rfl rfl)
theorem dX1_goWays_79 : decode cX1_goWays 79 = .ok (.aload_n 0, 1) := dk_42 (dk_at dksX1_goWays_3 9 rfl rfl)
theorem dX1_goWays_80 : decode cX1_goWays 80 = .ok (.getfield 72, 3) := dk_180 0 72 (dk_at dksX1_goWays_3 10 rfl rfl)
theorem dX1_goWays_83 : decode cX1_goWays 83 = .ok (.iload_n 2, 1) := dk_28 (dk_at dksX1_goWays_3 13 rfl rfl)
theorem dX1_goWays_84 : decode cX1_goWays 84 = .ok (.dup2, 1) := dk_92 (dk_at dksX1_goWays_3 14 rfl rfl)
theorem dX1_goWays_85 : decode cX1_goWays 85 = .ok (.iaload, 1) := dk_46 (dk_at dksX1_goWays_3 15 rfl rfl)
theorem dX1_goWays_86 : decode cX1_goWays 86 = .ok (.iconst 1, 1) := dk_4 (dk_at dksX1_goWays_3 16 rfl rfl)
theorem dX1_goWays_87 : decode cX1_goWays 87 = .ok (.aload_n 0, 1) := dk_42 (dk_at dksX1_goWays_3 17 rfl rfl)
theorem dX1_goWays_88 : decode cX1_goWays 88 = .ok (.getfield 66, 3) := dk_180 0 66 (dk_at dksX1_goWays_3 18 rfl rfl)
theorem dX1_goWays_91 : decode cX1_goWays 91 = .ok (.iload_n 2, 1) := dk_28 (dk_at dksX1_goWays_3 21 rfl rfl)
theorem dX1_goWays_92 : decode cX1_goWays 92 = .ok (.iaload, 1) := dk_46 (dk_at dksX1_goWays_3 22 rfl rfl)
theorem dX1_goWays_93 : decode cX1_goWays 93 = .ok (.iconst 1, 1) := dk_4 (dk_at dksX1_goWays_3 23 rfl rfl)
theorem dX1_goWays_94 : decode cX1_goWays 94 = .ok (.iadd, 1) := dk_96 (dk_at dksX1_goWays_4 0 rfl rfl)
theorem dX1_goWays_95 : decode cX1_goWays 95 = .ok (.ishl, 1) := dk_120 (dk_at dksX1_goWays_4 1 rfl rfl)
theorem dX1_goWays_96 : decode cX1_goWays 96 = .ok (.ior, 1) := dk_128 (dk_at dksX1_goWays_4 2 rfl rfl)
theorem dX1_goWays_97 : decode cX1_goWays 97 = .ok (.iastore, 1) := dk_79 (dk_at dksX1_goWays_4 3 rfl rfl)
theorem dX1_goWays_98 : decode cX1_goWays 98 = .ok (.iinc 2 1, 3) := dk_132 2 1 (dk_at dksX1_goWays_4 4 rfl rfl)
theorem dX1_goWays_101 : decode cX1_goWays 101 = .ok (.goto (-30), 3) := dk_167 255 226 (dk_at dksX1_goWays_4 7 rfl rfl)
theorem dX1_goWays_104 : decode cX1_goWays 104 = .ok (.aload_n 0, 1) := dk_42 (dk_at dksX1_goWays_4 10 rfl rfl)
theorem dX1_goWays_105 : decode cX1_goWays 105 = .ok (.dup, 1) := dk_89 (dk_at dksX1_goWays_4 11 rfl rfl)
theorem dX1_goWays_106 : decode cX1_goWays 106 = .ok (.getfield 408, 3) := dk_180 1 152 (dk_at dksX1_goWays_4 12 rfl rfl)
theorem dX1_goWays_109 : decode cX1_goWays 109 = .ok (.iconst 1, 1) := dk_4 (dk_at dksX1_goWays_4 15 rfl rfl)
theorem dX1_goWays_110 : decode cX1_goWays 110 = .ok (.iadd, 1) := dk_96 (dk_at dksX1_goWays_4 16 rfl rfl)
theorem dX1_goWays_111 : decode cX1_goWays 111 = .ok (.putfield 408, 3) := dk_181 1 152 (dk_at dksX1_goWays_4 17 rfl rfl)
theorem dX1_goWays_114 : decode cX1_goWays 114 = .ok (.return_, 1) := dk_177 (dk_at dksX1_goWays_4 20 rfl rfl)
theorem dX1_goWays_115 : decode cX1_goWays 115 = .ok (.aload_n 0, 1) := dk_42 (dk_at dksX1_goWays_4 21 rfl rfl)
theorem dX1_goWays_116 : decode cX1_goWays 116 = .ok (.getfield 66, 3) := dk_180 0 66 (dk_at dksX1_goWays_5 0 rfl rfl)
theorem dX1_goWays_119 : decode cX1_goWays 119 = .ok (.iload_n 1, 1) := dk_27 (dk_at dksX1_goWays_5 3 rfl rfl)
theorem dX1_goWays_120 : decode cX1_goWays 120 = .ok (.iconst (-1), 1) := dk_2 (dk_at dksX1_goWays_5 4 rfl rfl)
theorem dX1_goWays_121 : decode cX1_goWays 121 = .ok (.iastore, 1) := dk_79 (dk_at dksX1_goWays_5 5 rfl rfl)
theorem dX1_goWays_122 : decode cX1_goWays 122 = .ok (.aload_n 0, 1) := dk_42 (dk_at dksX1_goWays_5 6 rfl rfl)
theorem dX1_goWays_123 : decode cX1_goWays 123 = .ok (.iload_n 1, 1) := dk_27 (dk_at dksX1_goWays_5 7 rfl rfl)
theorem dX1_goWays_124 : decode cX1_goWays 124 = .ok (.iconst 1, 1) := dk_4 (dk_at dksX1_goWays_5 8 rfl rfl)
theorem dX1_goWays_125 : decode cX1_goWays 125 = .ok (.iadd, 1) := dk_96 (dk_at dksX1_goWays_5 9 rfl rfl)
theorem dX1_goWays_126 : decode cX1_goWays 126 = .ok (.invokevirtual 411, 3) := dk_182 1 155 (dk_at dksX1_goWays_5 10 rfl rfl)
theorem dX1_goWays_129 : decode cX1_goWays 129 = .ok (.iconst 0, 1) := dk_3 (dk_at dksX1_goWays_5 13 rfl rfl)
theorem dX1_goWays_130 : decode cX1_goWays 130 = .ok (.istore_n 2, 1) := dk_61 (dk_at dksX1_goWays_5 14 rfl rfl)
theorem dX1_goWays_131 : decode cX1_goWays 131 = .ok (.iload_n 2, 1) := dk_28 (dk_at dksX1_goWays_5 15 rfl rfl)
theorem dX1_goWays_132 : decode cX1_goWays 132 = .ok (.aload_n 0, 1) := dk_42 (dk_at dksX1_goWays_5 16 rfl rfl)
theorem dX1_goWays_133 : decode cX1_goWays 133 = .ok (.getfield 42, 3) := dk_180 0 42 (dk_at dksX1_goWays_5 17 rfl rfl)
theorem dX1_goWays_136 : decode cX1_goWays 136 = .ok (.if_icmp .ge 82, 3) := dk_162 0 82 (dk_at dksX1_goWays_5 20 rfl rfl)
theorem dX1_goWays_139 : decode cX1_goWays 139 = .ok (.aload_n 0, 1) := dk_42 (dk_at dksX1_goWays_5 23 rfl rfl)
theorem dX1_goWays_140 : decode cX1_goWays 140 = .ok (.getfield 129, 3) := dk_180 0 129 (dk_at dksX1_goWays_6 0 rfl rfl)
theorem dX1_goWays_143 : decode cX1_goWays 143 = .ok (.iload_n 2, 1) := dk_28 (dk_at dksX1_goWays_6 3 rfl rfl)
theorem dX1_goWays_144 : decode cX1_goWays 144 = .ok (.invokestatic 225, 3) := dk_184 0 225 (dk_at dksX1_goWays_6 4 rfl rfl)
theorem dX1_goWays_147 : decode cX1_goWays 147 = .ok (.ifCond .eq 65, 3) := dk_153 0 65 (dk_at dksX1_goWays_6 7 rfl rfl)
theorem dX1_goWays_150 : decode cX1_goWays 150 = .ok (.aload_n 0, 1) := dk_42 (dk_at dksX1_goWays_6 10 rfl rfl)
theorem dX1_goWays_151 : decode cX1_goWays 151 = .ok (.getfield 63, 3) := dk_180 0 63 (dk_at dksX1_goWays_6 11 rfl rfl)
theorem dX1_goWays_154 : decode cX1_goWays 154 = .ok (.iload_n 2, 1) := dk_28 (dk_at dksX1_goWays_6 14 rfl rfl)
theorem dX1_goWays_155 : decode cX1_goWays 155 = .ok (.iaload, 1) := dk_46 (dk_at dksX1_goWays_6 15 rfl rfl)
theorem dX1_goWays_156 : decode cX1_goWays 156 = .ok (.aload_n 0, 1) := dk_42 (dk_at dksX1_goWays_6 16 rfl rfl)
theorem dX1_goWays_157 : decode cX1_goWays 157 = .ok (.getfield 36, 3) := dk_180 0 36 (dk_at dksX1_goWays_6 17 rfl rfl)
theorem dX1_goWays_160 : decode cX1_goWays 160 = .ok (.iload_n 1, 1) := dk_27 (dk_at dksX1_goWays_6 20 rfl rfl)
theorem dX1_goWays_161 : decode cX1_goWays 161 = .ok (.iaload, 1) := dk_46 (dk_at dksX1_goWays_6 21 rfl rfl)
theorem dX1_goWays_162 : decode cX1_goWays 162 = .ok (.if_icmp .ge 6, 3) := dk_162 0 6 (dk_at dksX1_goWays_7 0 rfl rfl)
theorem dX1_goWays_165 : decode cX1_goWays 165 = .ok (.goto 47, 3) := dk_167 0 47 (dk_at dksX1_goWays_7 3 rfl rfl)
theorem dX1_goWays_168 : decode cX1_goWays 168 = .ok (.aload_n 0, 1) := dk_42 (dk_at dksX1_goWays_7 6 rfl rfl)
theorem dX1_goWays_169 : decode cX1_goWays 169 = .ok (.getfield 63, 3) := dk_180 0 63 (dk_at dksX1_goWays_7 7 rfl rfl)
theorem dX1_goWays_172 : decode cX1_goWays 172 = .ok (.iload_n 2, 1) := dk_28 (dk_at dksX1_goWays_7 10 rfl rfl)
theorem dX1_goWays_173 : decode cX1_goWays 173 = .ok (.dup2, 1) := dk_92 (dk_at dksX1_goWays_7 11 rfl rfl)
theorem dX1_goWays_174 : decode cX1_goWays 174 = .ok (.iaload, 1) := dk_46 (dk_at dksX1_goWays_7 12 rfl rfl)
theorem dX1_goWays_175 : decode cX1_goWays 175 = .ok (.aload_n 0, 1) := dk_42 (dk_at dksX1_goWays_7 13 rfl rfl)
theorem dX1_goWays_176 : decode cX1_goWays 176 = .ok (.getfield 36, 3) := dk_180 0 36 (dk_at dksX1_goWays_7 14 rfl rfl)
theorem dX1_goWays_179 : decode cX1_goWays 179 = .ok (.iload_n 1, 1) := dk_27 (dk_at dksX1_goWays_7 17 rfl rfl)
theorem dX1_goWays_180 : decode cX1_goWays 180 = .ok (.iaload, 1) := dk_46 (dk_at dksX1_goWays_7 18 rfl rfl)
theorem dX1_goWays_181 : decode cX1_goWays 181 = .ok (.isub, 1) := dk_100 (dk_at dksX1_goWays_7 19 rfl rfl)
theorem dX1_goWays_182 : decode cX1_goWays 182 = .ok (.iastore, 1) := dk_79 (dk_at dksX1_goWays_7 20 rfl rfl)
theorem dX1_goWays_183 : decode cX1_goWays 183 = .ok (.aload_n 0, 1) := dk_42 (dk_at dksX1_goWays_7 21 rfl rfl)
theorem dX1_goWays_184 : decode cX1_goWays 184 = .ok (.getfield 66, 3) := dk_180 0 66 (dk_at dksX1_goWays_8 0 rfl rfl)
theorem dX1_goWays_187 : decode cX1_goWays 187 = .ok (.iload_n 1, 1) := dk_27 (dk_at dksX1_goWays_8 3 rfl rfl)
theorem dX1_goWays_188 : decode cX1_goWays 188 = .ok (.iload_n 2, 1) := dk_28 (dk_at dksX1_goWays_8 4 rfl rfl)
theorem dX1_goWays_189 : decode cX1_goWays 189 = .ok (.iastore, 1) := dk_79 (dk_at dksX1_goWays_8 5 rfl rfl)
theorem dX1_goWays_190 : decode cX1_goWays 190 = .ok (.aload_n 0, 1) := dk_42 (dk_at dksX1_goWays_8 6 rfl rfl)
theorem dX1_goWays_191 : decode cX1_goWays 191 = .ok (.iload_n 1, 1) := dk_27 (dk_at dksX1_goWays_8 7 rfl rfl)
theorem dX1_goWays_192 : decode cX1_goWays 192 = .ok (.iconst 1, 1) := dk_4 (dk_at dksX1_goWays_8 8 rfl rfl)
theorem dX1_goWays_193 : decode cX1_goWays 193 = .ok (.iadd, 1) := dk_96 (dk_at dksX1_goWays_8 9 rfl rfl)
theorem dX1_goWays_194 : decode cX1_goWays 194 = .ok (.invokevirtual 411, 3) := dk_182 1 155 (dk_at dksX1_goWays_8 10 rfl rfl)
theorem dX1_goWays_197 : decode cX1_goWays 197 = .ok (.aload_n 0, 1) := dk_42 (dk_at dksX1_goWays_8 13 rfl rfl)
theorem dX1_goWays_198 : decode cX1_goWays 198 = .ok (.getfield 63, 3) := dk_180 0 63 (dk_at dksX1_goWays_8 14 rfl rfl)
theorem dX1_goWays_201 : decode cX1_goWays 201 = .ok (.iload_n 2, 1) := dk_28 (dk_at dksX1_goWays_8 17 rfl rfl)
theorem dX1_goWays_202 : decode cX1_goWays 202 = .ok (.dup2, 1) := dk_92 (dk_at dksX1_goWays_8 18 rfl rfl)
theorem dX1_goWays_203 : decode cX1_goWays 203 = .ok (.iaload, 1) := dk_46 (dk_at dksX1_goWays_8 19 rfl rfl)
theorem dX1_goWays_204 : decode cX1_goWays 204 = .ok (.aload_n 0, 1) := dk_42 (dk_at dksX1_goWays_8 20 rfl rfl)
theorem dX1_goWays_205 : decode cX1_goWays 205 = .ok (.getfield 36, 3) := dk_180 0 36 (dk_at dksX1_goWays_8 21 rfl rfl)
theorem dX1_goWays_208 : decode cX1_goWays 208 = .ok (.iload_n 1, 1) := dk_27 (dk_at dksX1_goWays_9 0 rfl rfl)
theorem dX1_goWays_209 : decode cX1_goWays 209 = .ok (.iaload, 1) := dk_46 (dk_at dksX1_goWays_9 1 rfl rfl)
theorem dX1_goWays_210 : decode cX1_goWays 210 = .ok (.iadd, 1) := dk_96 (dk_at dksX1_goWays_9 2 rfl rfl)
theorem dX1_goWays_211 : decode cX1_goWays 211 = .ok (.iastore, 1) := dk_79 (dk_at dksX1_goWays_9 3 rfl rfl)
theorem dX1_goWays_212 : decode cX1_goWays 212 = .ok (.iinc 2 1, 3) := dk_132 2 1 (dk_at dksX1_goWays_9 4 rfl rfl)
theorem dX1_goWays_215 : decode cX1_goWays 215 = .ok (.goto (-84), 3) := dk_167 255 172 (dk_at dksX1_goWays_9 7 rfl rfl)
theorem dX1_goWays_218 : decode cX1_goWays 218 = .ok (.return_, 1) := dk_177 (dk_at dksX1_goWays_9 10 rfl rfl)
abbrev cX1_was : ByteArray := prog_1_method_67_code
def yX1_was : MethodName := ⟨RX1, "was", "(I)I"⟩
def dkwX1_was_1 : List UInt8 := [27, 46, 4, 126, 133, 182, 1, 54, 42, 180, 0, 72, 27, 46, 4, 122, 172]
abbrev dktX1_was_1 : List UInt8 := dkwX1_was_1 ++ []
def dkwX1_was_0 : List UInt8 := [42, 27, 182, 0, 249, 154, 0, 5, 2, 172, 42, 182, 1, 159, 42, 3, 181, 0, 84, 42, 42, 180, 0, 72]
abbrev dktX1_was_0 : List UInt8 := dkwX1_was_0 ++ dktX1_was_1
theorem dksX1_was_0 : cX1_was.data.toList.drop 0 = dktX1_was_0 := by decide +kernel
theorem dksX1_was_1 : cX1_was.data.toList.drop 24 = dktX1_was_1 := dk_seg dksX1_was_0 24 rfl rfl
theorem dX1_was_0 : decode cX1_was 0 = .ok (.aload_n 0, 1) := dk_42 (dk_at dksX1_was_0 0 rfl rfl)
theorem dX1_was_1 : decode cX1_was 1 = .ok (.iload_n 1, 1) := dk_27 (dk_at dksX1_was_0 1 rfl rfl)
theorem dX1_was_2 : decode cX1_was 2 = .ok (.invokevirtual 249, 3) := dk_182 0 249 (dk_at dksX1_was_0 2 rfl rfl)
theorem dX1_was_5 : decode cX1_was 5 = .ok (.ifCond .ne 5, 3) := dk_154 0 5 (dk_at dksX1_was_0 5 rfl rfl)
theorem dX1_was_8 : decode cX1_was 8 = .ok (.iconst (-1), 1) := dk_2 (dk_at dksX1_was_0 8 rfl rfl)
theorem dX1_was_9 : decode cX1_was 9 = .ok (.ireturn, 1) := dk_172 (dk_at dksX1_was_0 9 rfl rfl)
theorem dX1_was_10 : decode cX1_was 10 = .ok (.aload_n 0, 1) := dk_42 (dk_at dksX1_was_0 10 rfl rfl)
theorem dX1_was_11 : decode cX1_was 11 = .ok (.invokevirtual 415, 3) := dk_182 1 159 (dk_at dksX1_was_0 11 rfl rfl)
theorem dX1_was_14 : decode cX1_was 14 = .ok (.aload_n 0, 1) := dk_42 (dk_at dksX1_was_0 14 rfl rfl)
theorem dX1_was_15 : decode cX1_was 15 = .ok (.iconst 0, 1) := dk_3 (dk_at dksX1_was_0 15 rfl rfl)
theorem dX1_was_16 : decode cX1_was 16 = .ok (.putfield 84, 3) := dk_181 0 84 (dk_at dksX1_was_0 16 rfl rfl)
theorem dX1_was_19 : decode cX1_was 19 = .ok (.aload_n 0, 1) := dk_42 (dk_at dksX1_was_0 19 rfl rfl)
theorem dX1_was_20 : decode cX1_was 20 = .ok (.aload_n 0, 1) := dk_42 (dk_at dksX1_was_0 20 rfl rfl)
theorem dX1_was_21 : decode cX1_was 21 = .ok (.getfield 72, 3) := dk_180 0 72 (dk_at dksX1_was_0 21 rfl rfl)
theorem dX1_was_24 : decode cX1_was 24 = .ok (.iload_n 1, 1) := dk_27 (dk_at dksX1_was_1 0 rfl rfl)
theorem dX1_was_25 : decode cX1_was 25 = .ok (.iaload, 1) := dk_46 (dk_at dksX1_was_1 1 rfl rfl)
theorem dX1_was_26 : decode cX1_was 26 = .ok (.iconst 1, 1) := dk_4 (dk_at dksX1_was_1 2 rfl rfl)
theorem dX1_was_27 : decode cX1_was 27 = .ok (.iand, 1) := dk_126 (dk_at dksX1_was_1 3 rfl rfl)
theorem dX1_was_28 : decode cX1_was 28 = .ok (.i2l, 1) := dk_133 (dk_at dksX1_was_1 4 rfl rfl)
theorem dX1_was_29 : decode cX1_was 29 = .ok (.invokevirtual 310, 3) := dk_182 1 54 (dk_at dksX1_was_1 5 rfl rfl)
theorem dX1_was_32 : decode cX1_was 32 = .ok (.aload_n 0, 1) := dk_42 (dk_at dksX1_was_1 8 rfl rfl)
theorem dX1_was_33 : decode cX1_was 33 = .ok (.getfield 72, 3) := dk_180 0 72 (dk_at dksX1_was_1 9 rfl rfl)
theorem dX1_was_36 : decode cX1_was 36 = .ok (.iload_n 1, 1) := dk_27 (dk_at dksX1_was_1 12 rfl rfl)
theorem dX1_was_37 : decode cX1_was 37 = .ok (.iaload, 1) := dk_46 (dk_at dksX1_was_1 13 rfl rfl)
theorem dX1_was_38 : decode cX1_was 38 = .ok (.iconst 1, 1) := dk_4 (dk_at dksX1_was_1 14 rfl rfl)
theorem dX1_was_39 : decode cX1_was 39 = .ok (.ishr, 1) := dk_122 (dk_at dksX1_was_1 15 rfl rfl)
theorem dX1_was_40 : decode cX1_was 40 = .ok (.ireturn, 1) := dk_172 (dk_at dksX1_was_1 16 rfl rfl)
abbrev cX1_rain : ByteArray := prog_1_method_70_code
def yX1_rain : MethodName := ⟨RX1, "rain", "(III)I"⟩
def dkwX1_rain_8 : List UInt8 := [28, 47, 22, 7, 109, 182, 1, 54, 42, 22, 5, 22, 7, 109, 182, 1, 54, 3, 172]
abbrev dktX1_rain_8 : List UInt8 := dkwX1_rain_8 ++ []
def dkwX1_rain_7 : List UInt8 := [184, 1, 170, 55, 5, 25, 4, 28, 47, 22, 5, 184, 1, 162, 55, 7, 42, 3, 181, 0, 84, 42, 25, 4]
abbrev dktX1_rain_7 : List UInt8 := dkwX1_rain_7 ++ dktX1_rain_8
def dkwX1_rain_6 : List UInt8 := [132, 8, 255, 167, 255, 233, 25, 4, 3, 22, 6, 80, 132, 5, 1, 167, 255, 154, 20, 1, 168, 27]
abbrev dktX1_rain_6 : List UInt8 := dkwX1_rain_6 ++ dktX1_rain_7
def dkwX1_rain_5 : List UInt8 := [54, 8, 21, 8, 158, 0, 24, 25, 4, 21, 8, 25, 4, 21, 8, 4, 100, 47, 29, 133, 105, 80]
abbrev dktX1_rain_5 : List UInt8 := dkwX1_rain_5 ++ dktX1_rain_6
def dkwX1_rain_4 : List UInt8 := [28, 25, 4, 28, 47, 20, 1, 168, 105, 25, 4, 28, 4, 100, 47, 29, 133, 105, 97, 80, 28, 4, 100]
abbrev dktX1_rain_4 : List UInt8 := dkwX1_rain_4 ++ dktX1_rain_5
def dkwX1_rain_3 : List UInt8 := [22, 6, 25, 4, 21, 8, 47, 16, 10, 29, 100, 133, 105, 97, 55, 6, 132, 8, 1, 167, 255, 231, 25, 4]
abbrev dktX1_rain_3 : List UInt8 := dkwX1_rain_3 ++ dktX1_rain_4
def dkwX1_rain_2 : List UInt8 := [10, 80, 3, 54, 5, 21, 5, 27, 162, 0, 102, 9, 55, 6, 3, 54, 8, 21, 8, 28, 162, 0, 25]
abbrev dktX1_rain_2 : List UInt8 := dkwX1_rain_2 ++ dktX1_rain_3
def dkwX1_rain_1 : List UInt8 := [29, 133, 9, 20, 1, 168, 184, 0, 87, 154, 0, 5, 2, 172, 28, 4, 96, 188, 11, 58, 4, 25, 4, 3]
abbrev dktX1_rain_1 : List UInt8 := dkwX1_rain_1 ++ dktX1_rain_2
def dkwX1_rain_0 : List UInt8 := [27, 133, 10, 20, 1, 166, 184, 0, 87, 153, 0, 27, 28, 133, 10, 20, 1, 166, 184, 0, 87, 153, 0, 15]
abbrev dktX1_rain_0 : List UInt8 := dkwX1_rain_0 ++ dktX1_rain_1
theorem dksX1_rain_0 : cX1_rain.data.toList.drop 0 = dktX1_rain_0 := by decide +kernel
theorem dksX1_rain_1 : cX1_rain.data.toList.drop 24 = dktX1_rain_1 := dk_seg dksX1_rain_0 24 rfl rfl
theorem dksX1_rain_2 : cX1_rain.data.toList.drop 48 = dktX1_rain_2 := dk_seg dksX1_rain_1 24 rfl rfl
theorem dksX1_rain_3 : cX1_rain.data.toList.drop 71 = dktX1_rain_3 := dk_seg dksX1_rain_2 23 rfl rfl
theorem dksX1_rain_4 : cX1_rain.data.toList.drop 95 = dktX1_rain_4 := dk_seg dksX1_rain_3 24 rfl rfl
theorem dksX1_rain_5 : cX1_rain.data.toList.drop 118 = dktX1_rain_5 := dk_seg dksX1_rain_4 23 rfl rfl
theorem dksX1_rain_6 : cX1_rain.data.toList.drop 140 = dktX1_rain_6 := dk_seg dksX1_rain_5 22 rfl rfl
theorem dksX1_rain_7 : cX1_rain.data.toList.drop 162 = dktX1_rain_7 := dk_seg dksX1_rain_6 22 rfl rfl
theorem dksX1_rain_8 : cX1_rain.data.toList.drop 186 = dktX1_rain_8 := dk_seg dksX1_rain_7 24 rfl rfl
theorem dX1_rain_0 : decode cX1_rain 0 = .ok (.iload_n 1, 1) := dk_27 (dk_at dksX1_rain_0 0 rfl rfl)
theorem dX1_rain_1 : decode cX1_rain 1 = .ok (.i2l, 1) := dk_133 (dk_at dksX1_rain_0 1 rfl rfl)
theorem dX1_rain_2 : decode cX1_rain 2 = .ok (.lconst 1, 1) := dk_10 (dk_at dksX1_rain_0 2 rfl rfl)
theorem dX1_rain_3 : decode cX1_rain 3 = .ok (.ldc2_w 422, 3) := dk_20 1 166 (dk_at dksX1_rain_0 3 rfl rfl)
theorem dX1_rain_6 : decode cX1_rain 6 = .ok (.invokestatic 87, 3) := dk_184 0 87 (dk_at dksX1_rain_0 6 rfl rfl)
theorem dX1_rain_9 : decode cX1_rain 9 = .ok (.ifCond .eq 27, 3) := dk_153 0 27 (dk_at dksX1_rain_0 9 rfl rfl)
theorem dX1_rain_12 : decode cX1_rain 12 = .ok (.iload_n 2, 1) := dk_28 (dk_at dksX1_rain_0 12 rfl rfl)
theorem dX1_rain_13 : decode cX1_rain 13 = .ok (.i2l, 1) := dk_133 (dk_at dksX1_rain_0 13 rfl rfl)
theorem dX1_rain_14 : decode cX1_rain 14 = .ok (.lconst 1, 1) := dk_10 (dk_at dksX1_rain_0 14 rfl rfl)
theorem dX1_rain_15 : decode cX1_rain 15 = .ok (.ldc2_w 422, 3) := dk_20 1 166 (dk_at dksX1_rain_0 15 rfl rfl)
theorem dX1_rain_18 : decode cX1_rain 18 = .ok (.invokestatic 87, 3) := dk_184 0 87 (dk_at dksX1_rain_0 18 rfl rfl)
theorem dX1_rain_21 : decode cX1_rain 21 = .ok (.ifCond .eq 15, 3) := dk_153 0 15 (dk_at dksX1_rain_0 21 rfl rfl)
theorem dX1_rain_24 : decode cX1_rain 24 = .ok (.iload_n 3, 1) := dk_29 (dk_at dksX1_rain_1 0 rfl rfl)
theorem dX1_rain_25 : decode cX1_rain 25 = .ok (.i2l, 1) := dk_133 (dk_at dksX1_rain_1 1 rfl rfl)
theorem dX1_rain_26 : decode cX1_rain 26 = .ok (.lconst 0, 1) := dk_9 (dk_at dksX1_rain_1 2 rfl rfl)
theorem dX1_rain_27 : decode cX1_rain 27 = .ok (.ldc2_w 424, 3) := dk_20 1 168 (dk_at dksX1_rain_1 3 rfl rfl)
theorem dX1_rain_30 : decode cX1_rain 30 = .ok (.invokestatic 87, 3) := dk_184 0 87 (dk_at dksX1_rain_1 6 rfl rfl)
theorem dX1_rain_33 : decode cX1_rain 33 = .ok (.ifCond .ne 5, 3) := dk_154 0 5 (dk_at dksX1_rain_1 9 rfl rfl)
theorem dX1_rain_36 : decode cX1_rain 36 = .ok (.iconst (-1), 1) := dk_2 (dk_at dksX1_rain_1 12 rfl rfl)
theorem dX1_rain_37 : decode cX1_rain 37 = .ok (.ireturn, 1) := dk_172 (dk_at dksX1_rain_1 13 rfl rfl)
theorem dX1_rain_38 : decode cX1_rain 38 = .ok (.iload_n 2, 1) := dk_28 (dk_at dksX1_rain_1 14 rfl rfl)
theorem dX1_rain_39 : decode cX1_rain 39 = .ok (.iconst 1, 1) := dk_4 (dk_at dksX1_rain_1 15 rfl rfl)
theorem dX1_rain_40 : decode cX1_rain 40 = .ok (.iadd, 1) := dk_96 (dk_at dksX1_rain_1 16 rfl rfl)
theorem dX1_rain_41 : decode cX1_rain 41 = .ok (.newarray .long, 2) := dk_188_11 (dk_at dksX1_rain_1 17 rfl rfl)
theorem dX1_rain_43 : decode cX1_rain 43 = .ok (.astore 4, 2) := dk_58 4 (dk_at dksX1_rain_1 19 rfl rfl)
theorem dX1_rain_45 : decode cX1_rain 45 = .ok (.aload 4, 2) := dk_25 4 (dk_at dksX1_rain_1 21 rfl rfl)
theorem dX1_rain_47 : decode cX1_rain 47 = .ok (.iconst 0, 1) := dk_3 (dk_at dksX1_rain_1 23 rfl rfl)
theorem dX1_rain_48 : decode cX1_rain 48 = .ok (.lconst 1, 1) := dk_10 (dk_at dksX1_rain_2 0 rfl rfl)
theorem dX1_rain_49 : decode cX1_rain 49 = .ok (.lastore, 1) := dk_80 (dk_at dksX1_rain_2 1 rfl rfl)
theorem dX1_rain_50 : decode cX1_rain 50 = .ok (.iconst 0, 1) := dk_3 (dk_at dksX1_rain_2 2 rfl rfl)
theorem dX1_rain_51 : decode cX1_rain 51 = .ok (.istore 5, 2) := dk_54 5 (dk_at dksX1_rain_2 3 rfl rfl)
theorem dX1_rain_53 : decode cX1_rain 53 = .ok (.iload 5, 2) := dk_21 5 (dk_at dksX1_rain_2 5 rfl rfl)
theorem dX1_rain_55 : decode cX1_rain 55 = .ok (.iload_n 1, 1) := dk_27 (dk_at dksX1_rain_2 7 rfl rfl)
theorem dX1_rain_56 : decode cX1_rain 56 = .ok (.if_icmp .ge 102, 3) := dk_162 0 102 (dk_at dksX1_rain_2 8 rfl rfl)
theorem dX1_rain_59 : decode cX1_rain 59 = .ok (.lconst 0, 1) := dk_9 (dk_at dksX1_rain_2 11 rfl rfl)
theorem dX1_rain_60 : decode cX1_rain 60 = .ok (.lstore 6, 2) := dk_55 6 (dk_at dksX1_rain_2 12 rfl rfl)
theorem dX1_rain_62 : decode cX1_rain 62 = .ok (.iconst 0, 1) := dk_3 (dk_at dksX1_rain_2 14 rfl rfl)
theorem dX1_rain_63 : decode cX1_rain 63 = .ok (.istore 8, 2) := dk_54 8 (dk_at dksX1_rain_2 15 rfl rfl)
theorem dX1_rain_65 : decode cX1_rain 65 = .ok (.iload 8, 2) := dk_21 8 (dk_at dksX1_rain_2 17 rfl rfl)
theorem dX1_rain_67 : decode cX1_rain 67 = .ok (.iload_n 2, 1) := dk_28 (dk_at dksX1_rain_2 19 rfl rfl)
theorem dX1_rain_68 : decode cX1_rain 68 = .ok (.if_icmp .ge 25, 3) := dk_162 0 25 (dk_at dksX1_rain_2 20 rfl rfl)
theorem dX1_rain_71 : decode cX1_rain 71 = .ok (.lload 6, 2) := dk_22 6 (dk_at dksX1_rain_3 0 rfl rfl)
theorem dX1_rain_73 : decode cX1_rain 73 = .ok (.aload 4, 2) := dk_25 4 (dk_at dksX1_rain_3 2 rfl rfl)
theorem dX1_rain_75 : decode cX1_rain 75 = .ok (.iload 8, 2) := dk_21 8 (dk_at dksX1_rain_3 4 rfl rfl)
theorem dX1_rain_77 : decode cX1_rain 77 = .ok (.laload, 1) := dk_47 (dk_at dksX1_rain_3 6 rfl rfl)
theorem dX1_rain_78 : decode cX1_rain 78 = .ok (.bipush 10, 2) := dk_16 10 (dk_at dksX1_rain_3 7 rfl rfl)
theorem dX1_rain_80 : decode cX1_rain 80 = .ok (.iload_n 3, 1) := dk_29 (dk_at dksX1_rain_3 9 rfl rfl)
theorem dX1_rain_81 : decode cX1_rain 81 = .ok (.isub, 1) := dk_100 (dk_at dksX1_rain_3 10 rfl rfl)
theorem dX1_rain_82 : decode cX1_rain 82 = .ok (.i2l, 1) := dk_133 (dk_at dksX1_rain_3 11 rfl rfl)
theorem dX1_rain_83 : decode cX1_rain 83 = .ok (.lmul, 1) := dk_105 (dk_at dksX1_rain_3 12 rfl rfl)
theorem dX1_rain_84 : decode cX1_rain 84 = .ok (.ladd, 1) := dk_97 (dk_at dksX1_rain_3 13 rfl rfl)
theorem dX1_rain_85 : decode cX1_rain 85 = .ok (.lstore 6, 2) := dk_55 6 (dk_at dksX1_rain_3 14 rfl rfl)
theorem dX1_rain_87 : decode cX1_rain 87 = .ok (.iinc 8 1, 3) := dk_132 8 1 (dk_at dksX1_rain_3 16 rfl rfl)
theorem dX1_rain_90 : decode cX1_rain 90 = .ok (.goto (-25), 3) := dk_167 255 231 (dk_at dksX1_rain_3 19 rfl rfl)
theorem dX1_rain_93 : decode cX1_rain 93 = .ok (.aload 4, 2) := dk_25 4 (dk_at dksX1_rain_3 22 rfl rfl)
theorem dX1_rain_95 : decode cX1_rain 95 = .ok (.iload_n 2, 1) := dk_28 (dk_at dksX1_rain_4 0 rfl rfl)
theorem dX1_rain_96 : decode cX1_rain 96 = .ok (.aload 4, 2) := dk_25 4 (dk_at dksX1_rain_4 1 rfl rfl)
theorem dX1_rain_98 : decode cX1_rain 98 = .ok (.iload_n 2, 1) := dk_28 (dk_at dksX1_rain_4 3 rfl rfl)
theorem dX1_rain_99 : decode cX1_rain 99 = .ok (.laload, 1) := dk_47 (dk_at dksX1_rain_4 4 rfl rfl)
theorem dX1_rain_100 : decode cX1_rain 100 = .ok (.ldc2_w 424, 3) := dk_20 1 168 (dk_at dksX1_rain_4 5 rfl rfl)
theorem dX1_rain_103 : decode cX1_rain 103 = .ok (.lmul, 1) := dk_105 (dk_at dksX1_rain_4 8 rfl rfl)
theorem dX1_rain_104 : decode cX1_rain 104 = .ok (.aload 4, 2) := dk_25 4 (dk_at dksX1_rain_4 9 rfl rfl)
theorem dX1_rain_106 : decode cX1_rain 106 = .ok (.iload_n 2, 1) := dk_28 (dk_at dksX1_rain_4 11 rfl rfl)
theorem dX1_rain_107 : decode cX1_rain 107 = .ok (.iconst 1, 1) := dk_4 (dk_at dksX1_rain_4 12 rfl rfl)
theorem dX1_rain_108 : decode cX1_rain 108 = .ok (.isub, 1) := dk_100 (dk_at dksX1_rain_4 13 rfl rfl)
theorem dX1_rain_109 : decode cX1_rain 109 = .ok (.laload, 1) := dk_47 (dk_at dksX1_rain_4 14 rfl rfl)
theorem dX1_rain_110 : decode cX1_rain 110 = .ok (.iload_n 3, 1) := dk_29 (dk_at dksX1_rain_4 15 rfl rfl)
theorem dX1_rain_111 : decode cX1_rain 111 = .ok (.i2l, 1) := dk_133 (dk_at dksX1_rain_4 16 rfl rfl)
theorem dX1_rain_112 : decode cX1_rain 112 = .ok (.lmul, 1) := dk_105 (dk_at dksX1_rain_4 17 rfl rfl)
theorem dX1_rain_113 : decode cX1_rain 113 = .ok (.ladd, 1) := dk_97 (dk_at dksX1_rain_4 18 rfl rfl)
theorem dX1_rain_114 : decode cX1_rain 114 = .ok (.lastore, 1) := dk_80 (dk_at dksX1_rain_4 19 rfl rfl)
theorem dX1_rain_115 : decode cX1_rain 115 = .ok (.iload_n 2, 1) := dk_28 (dk_at dksX1_rain_4 20 rfl rfl)
theorem dX1_rain_116 : decode cX1_rain 116 = .ok (.iconst 1, 1) := dk_4 (dk_at dksX1_rain_4 21 rfl rfl)
theorem dX1_rain_117 : decode cX1_rain 117 = .ok (.isub, 1) := dk_100 (dk_at dksX1_rain_4 22 rfl rfl)
theorem dX1_rain_118 : decode cX1_rain 118 = .ok (.istore 8, 2) := dk_54 8 (dk_at dksX1_rain_5 0 rfl rfl)
theorem dX1_rain_120 : decode cX1_rain 120 = .ok (.iload 8, 2) := dk_21 8 (dk_at dksX1_rain_5 2 rfl rfl)
theorem dX1_rain_122 : decode cX1_rain 122 = .ok (.ifCond .le 24, 3) := dk_158 0 24 (dk_at dksX1_rain_5 4 rfl rfl)
theorem dX1_rain_125 : decode cX1_rain 125 = .ok (.aload 4, 2) := dk_25 4 (dk_at dksX1_rain_5 7 rfl rfl)
theorem dX1_rain_127 : decode cX1_rain 127 = .ok (.iload 8, 2) := dk_21 8 (dk_at dksX1_rain_5 9 rfl rfl)
theorem dX1_rain_129 : decode cX1_rain 129 = .ok (.aload 4, 2) := dk_25 4 (dk_at dksX1_rain_5 11 rfl rfl)
theorem dX1_rain_131 : decode cX1_rain 131 = .ok (.iload 8, 2) := dk_21 8 (dk_at dksX1_rain_5 13 rfl rfl)
theorem dX1_rain_133 : decode cX1_rain 133 = .ok (.iconst 1, 1) := dk_4 (dk_at dksX1_rain_5 15 rfl rfl)
theorem dX1_rain_134 : decode cX1_rain 134 = .ok (.isub, 1) := dk_100 (dk_at dksX1_rain_5 16 rfl rfl)
theorem dX1_rain_135 : decode cX1_rain 135 = .ok (.laload, 1) := dk_47 (dk_at dksX1_rain_5 17 rfl rfl)
theorem dX1_rain_136 : decode cX1_rain 136 = .ok (.iload_n 3, 1) := dk_29 (dk_at dksX1_rain_5 18 rfl rfl)
theorem dX1_rain_137 : decode cX1_rain 137 = .ok (.i2l, 1) := dk_133 (dk_at dksX1_rain_5 19 rfl rfl)
theorem dX1_rain_138 : decode cX1_rain 138 = .ok (.lmul, 1) := dk_105 (dk_at dksX1_rain_5 20 rfl rfl)
theorem dX1_rain_139 : decode cX1_rain 139 = .ok (.lastore, 1) := dk_80 (dk_at dksX1_rain_5 21 rfl rfl)
theorem dX1_rain_140 : decode cX1_rain 140 = .ok (.iinc 8 (-1), 3) := dk_132 8 255 (dk_at dksX1_rain_6 0 rfl rfl)
theorem dX1_rain_143 : decode cX1_rain 143 = .ok (.goto (-23), 3) := dk_167 255 233 (dk_at dksX1_rain_6 3 rfl rfl)
theorem dX1_rain_146 : decode cX1_rain 146 = .ok (.aload 4, 2) := dk_25 4 (dk_at dksX1_rain_6 6 rfl rfl)
theorem dX1_rain_148 : decode cX1_rain 148 = .ok (.iconst 0, 1) := dk_3 (dk_at dksX1_rain_6 8 rfl rfl)
theorem dX1_rain_149 : decode cX1_rain 149 = .ok (.lload 6, 2) := dk_22 6 (dk_at dksX1_rain_6 9 rfl rfl)
theorem dX1_rain_151 : decode cX1_rain 151 = .ok (.lastore, 1) := dk_80 (dk_at dksX1_rain_6 11 rfl rfl)
theorem dX1_rain_152 : decode cX1_rain 152 = .ok (.iinc 5 1, 3) := dk_132 5 1 (dk_at dksX1_rain_6 12 rfl rfl)
theorem dX1_rain_155 : decode cX1_rain 155 = .ok (.goto (-102), 3) := dk_167 255 154 (dk_at dksX1_rain_6 15 rfl rfl)
theorem dX1_rain_158 : decode cX1_rain 158 = .ok (.ldc2_w 424, 3) := dk_20 1 168 (dk_at dksX1_rain_6 18 rfl rfl)
theorem dX1_rain_161 : decode cX1_rain 161 = .ok (.iload_n 1, 1) := dk_27 (dk_at dksX1_rain_6 21 rfl rfl)
theorem dX1_rain_162 : decode cX1_rain 162 = .ok (.invokestatic 426, 3) := dk_184 1 170 (dk_at dksX1_rain_7 0 rfl rfl)
theorem dX1_rain_165 : decode cX1_rain 165 = .ok (.lstore 5, 2) := dk_55 5 (dk_at dksX1_rain_7 3 rfl rfl)
theorem dX1_rain_167 : decode cX1_rain 167 = .ok (.aload 4, 2) := dk_25 4 (dk_at dksX1_rain_7 5 rfl rfl)
theorem dX1_rain_169 : decode cX1_rain 169 = .ok (.iload_n 2, 1) := dk_28 (dk_at dksX1_rain_7 7 rfl rfl)
theorem dX1_rain_170 : decode cX1_rain 170 = .ok (.laload, 1) := dk_47 (dk_at dksX1_rain_7 8 rfl rfl)
theorem dX1_rain_171 : decode cX1_rain 171 = .ok (.lload 5, 2) := dk_22 5 (dk_at dksX1_rain_7 9 rfl rfl)
theorem dX1_rain_173 : decode cX1_rain 173 = .ok (.invokestatic 418, 3) := dk_184 1 162 (dk_at dksX1_rain_7 11 rfl rfl)
theorem dX1_rain_176 : decode cX1_rain 176 = .ok (.lstore 7, 2) := dk_55 7 (dk_at dksX1_rain_7 14 rfl rfl)
theorem dX1_rain_178 : decode cX1_rain 178 = .ok (.aload_n 0, 1) := dk_42 (dk_at dksX1_rain_7 16 rfl rfl)
theorem dX1_rain_179 : decode cX1_rain 179 = .ok (.iconst 0, 1) := dk_3 (dk_at dksX1_rain_7 17 rfl rfl)
theorem dX1_rain_180 : decode cX1_rain 180 = .ok (.putfield 84, 3) := dk_181 0 84 (dk_at dksX1_rain_7 18 rfl rfl)
theorem dX1_rain_183 : decode cX1_rain 183 = .ok (.aload_n 0, 1) := dk_42 (dk_at dksX1_rain_7 21 rfl rfl)
theorem dX1_rain_184 : decode cX1_rain 184 = .ok (.aload 4, 2) := dk_25 4 (dk_at dksX1_rain_7 22 rfl rfl)
theorem dX1_rain_186 : decode cX1_rain 186 = .ok (.iload_n 2, 1) := dk_28 (dk_at dksX1_rain_8 0 rfl rfl)
theorem dX1_rain_187 : decode cX1_rain 187 = .ok (.laload, 1) := dk_47 (dk_at dksX1_rain_8 1 rfl rfl)
theorem dX1_rain_188 : decode cX1_rain 188 = .ok (.lload 7, 2) := dk_22 7 (dk_at dksX1_rain_8 2 rfl rfl)
theorem dX1_rain_190 : decode cX1_rain 190 = .ok (.ldiv, 1) := dk_109 (dk_at dksX1_rain_8 4 rfl rfl)
theorem dX1_rain_191 : decode cX1_rain 191 = .ok (.invokevirtual 310, 3) := dk_182 1 54 (dk_at dksX1_rain_8 5 rfl rfl)
theorem dX1_rain_194 : decode cX1_rain 194 = .ok (.aload_n 0, 1) := dk_42 (dk_at dksX1_rain_8 8 rfl rfl)
theorem dX1_rain_195 : decode cX1_rain 195 = .ok (.lload 5, 2) := dk_22 5 (dk_at dksX1_rain_8 9 rfl rfl)
theorem dX1_rain_197 : decode cX1_rain 197 = .ok (.lload 7, 2) := dk_22 7 (dk_at dksX1_rain_8 11 rfl rfl)
theorem dX1_rain_199 : decode cX1_rain 199 = .ok (.ldiv, 1) := dk_109 (dk_at dksX1_rain_8 13 rfl rfl)
theorem dX1_rain_200 : decode cX1_rain 200 = .ok (.invokevirtual 310, 3) := dk_182 1 54 (dk_at dksX1_rain_8 14 rfl rfl)
theorem dX1_rain_203 : decode cX1_rain 203 = .ok (.iconst 0, 1) := dk_3 (dk_at dksX1_rain_8 17 rfl rfl)
theorem dX1_rain_204 : decode cX1_rain 204 = .ok (.ireturn, 1) := dk_172 (dk_at dksX1_rain_8 18 rfl rfl)
abbrev cX1_power : ByteArray := prog_1_method_69_code
def yX1_power : MethodName := ⟨RX1, "power", "(JI)J"⟩
def dkwX1_power_0 : List UInt8 := [10, 66, 3, 54, 5, 21, 5, 28, 162, 0, 13, 33, 30, 105, 66, 132, 5, 1, 167, 255, 243, 33, 173]
abbrev dktX1_power_0 : List UInt8 := dkwX1_power_0 ++ []
theorem dksX1_power_0 : cX1_power.data.toList.drop 0 = dktX1_power_0 := by decide +kernel
theorem dX1_power_0 : decode cX1_power 0 = .ok (.lconst 1, 1) := dk_10 (dk_at dksX1_power_0 0 rfl rfl)
theorem dX1_power_1 : decode cX1_power 1 = .ok (.lstore_n 3, 1) := dk_66 (dk_at dksX1_power_0 1 rfl rfl)
theorem dX1_power_2 : decode cX1_power 2 = .ok (.iconst 0, 1) := dk_3 (dk_at dksX1_power_0 2 rfl rfl)
theorem dX1_power_3 : decode cX1_power 3 = .ok (.istore 5, 2) := dk_54 5 (dk_at dksX1_power_0 3 rfl rfl)
theorem dX1_power_5 : decode cX1_power 5 = .ok (.iload 5, 2) := dk_21 5 (dk_at dksX1_power_0 5 rfl rfl)
theorem dX1_power_7 : decode cX1_power 7 = .ok (.iload_n 2, 1) := dk_28 (dk_at dksX1_power_0 7 rfl rfl)
theorem dX1_power_8 : decode cX1_power 8 = .ok (.if_icmp .ge 13, 3) := dk_162 0 13 (dk_at dksX1_power_0 8 rfl rfl)
theorem dX1_power_11 : decode cX1_power 11 = .ok (.lload_n 3, 1) := dk_33 (dk_at dksX1_power_0 11 rfl rfl)
theorem dX1_power_12 : decode cX1_power 12 = .ok (.lload_n 0, 1) := dk_30 (dk_at dksX1_power_0 12 rfl rfl)
theorem dX1_power_13 : decode cX1_power 13 = .ok (.lmul, 1) := dk_105 (dk_at dksX1_power_0 13 rfl rfl)
theorem dX1_power_14 : decode cX1_power 14 = .ok (.lstore_n 3, 1) := dk_66 (dk_at dksX1_power_0 14 rfl rfl)
theorem dX1_power_15 : decode cX1_power 15 = .ok (.iinc 5 1, 3) := dk_132 5 1 (dk_at dksX1_power_0 15 rfl rfl)
theorem dX1_power_18 : decode cX1_power 18 = .ok (.goto (-13), 3) := dk_167 255 243 (dk_at dksX1_power_0 18 rfl rfl)
theorem dX1_power_21 : decode cX1_power 21 = .ok (.lload_n 3, 1) := dk_33 (dk_at dksX1_power_0 21 rfl rfl)
theorem dX1_power_22 : decode cX1_power 22 = .ok (.lreturn, 1) := dk_173 (dk_at dksX1_power_0 22 rfl rfl)
abbrev cX1_common : ByteArray := prog_1_method_68_code
def yX1_common : MethodName := ⟨RX1, "common", "(JJ)J"⟩
def dkwX1_common_0 : List UInt8 := [32, 9, 148, 154, 0, 7, 30, 167, 0, 10, 32, 30, 32, 113, 184, 1, 162, 173]
abbrev dktX1_common_0 : List UInt8 := dkwX1_common_0 ++ []
theorem dksX1_common_0 : cX1_common.data.toList.drop 0 = dktX1_common_0 := by decide +kernel
theorem dX1_common_0 : decode cX1_common 0 = .ok (.lload_n 2, 1) := dk_32 (dk_at dksX1_common_0 0 rfl rfl)
theorem dX1_common_1 : decode cX1_common 1 = .ok (.lconst 0, 1) := dk_9 (dk_at dksX1_common_0 1 rfl rfl)
theorem dX1_common_2 : decode cX1_common 2 = .ok (.lcmp, 1) := dk_148 (dk_at dksX1_common_0 2 rfl rfl)
theorem dX1_common_3 : decode cX1_common 3 = .ok (.ifCond .ne 7, 3) := dk_154 0 7 (dk_at dksX1_common_0 3 rfl rfl)
theorem dX1_common_6 : decode cX1_common 6 = .ok (.lload_n 0, 1) := dk_30 (dk_at dksX1_common_0 6 rfl rfl)
theorem dX1_common_7 : decode cX1_common 7 = .ok (.goto 10, 3) := dk_167 0 10 (dk_at dksX1_common_0 7 rfl rfl)
theorem dX1_common_10 : decode cX1_common 10 = .ok (.lload_n 2, 1) := dk_32 (dk_at dksX1_common_0 10 rfl rfl)
theorem dX1_common_11 : decode cX1_common 11 = .ok (.lload_n 0, 1) := dk_30 (dk_at dksX1_common_0 11 rfl rfl)
theorem dX1_common_12 : decode cX1_common 12 = .ok (.lload_n 2, 1) := dk_32 (dk_at dksX1_common_0 12 rfl rfl)
theorem dX1_common_13 : decode cX1_common 13 = .ok (.lrem, 1) := dk_113 (dk_at dksX1_common_0 13 rfl rfl)
theorem dX1_common_14 : decode cX1_common 14 = .ok (.invokestatic 418, 3) := dk_184 1 162 (dk_at dksX1_common_0 14 rfl rfl)
theorem dX1_common_17 : decode cX1_common 17 = .ok (.lreturn, 1) := dk_173 (dk_at dksX1_common_0 17 rfl rfl)
abbrev cX1_rests : ByteArray := prog_1_method_73_code
def yX1_rests : MethodName := ⟨RX1, "rests", "(II)I"⟩
def dkwX1_rests_4 : List UInt8 := [182, 1, 54, 132, 3, 1, 132, 5, 1, 167, 255, 198, 132, 4, 1, 167, 255, 182, 29, 172]
abbrev dktX1_rests_4 : List UInt8 := dkwX1_rests_4 ++ []
def dkwX1_rests_3 : List UInt8 := [184, 1, 178, 154, 0, 6, 167, 0, 24, 29, 154, 0, 17, 42, 21, 4, 133, 182, 1, 54, 42, 21, 5, 133]
abbrev dktX1_rests_3 : List UInt8 := dkwX1_rests_3 ++ dktX1_rests_4
def dkwX1_rests_2 : List UInt8 := [16, 9, 163, 0, 57, 21, 4, 21, 5, 27, 28, 184, 1, 178, 153, 0, 39, 21, 5, 21, 4, 27, 28]
abbrev dktX1_rests_2 : List UInt8 := dkwX1_rests_2 ++ dktX1_rests_3
def dkwX1_rests_1 : List UInt8 := [2, 172, 3, 62, 42, 3, 181, 0, 84, 3, 54, 4, 21, 4, 16, 9, 163, 0, 73, 3, 54, 5, 21, 5]
abbrev dktX1_rests_1 : List UInt8 := dkwX1_rests_1 ++ dktX1_rests_2
def dkwX1_rests_0 : List UInt8 := [27, 133, 10, 20, 1, 78, 184, 0, 87, 153, 0, 15, 28, 133, 9, 20, 0, 255, 184, 0, 87, 154, 0, 5]
abbrev dktX1_rests_0 : List UInt8 := dkwX1_rests_0 ++ dktX1_rests_1
theorem dksX1_rests_0 : cX1_rests.data.toList.drop 0 = dktX1_rests_0 := by decide +kernel
theorem dksX1_rests_1 : cX1_rests.data.toList.drop 24 = dktX1_rests_1 := dk_seg dksX1_rests_0 24 rfl rfl
theorem dksX1_rests_2 : cX1_rests.data.toList.drop 48 = dktX1_rests_2 := dk_seg dksX1_rests_1 24 rfl rfl
theorem dksX1_rests_3 : cX1_rests.data.toList.drop 71 = dktX1_rests_3 := dk_seg dksX1_rests_2 23 rfl rfl
theorem dksX1_rests_4 : cX1_rests.data.toList.drop 95 = dktX1_rests_4 := dk_seg dksX1_rests_3 24 rfl rfl
theorem dX1_rests_0 : decode cX1_rests 0 = .ok (.iload_n 1, 1) := dk_27 (dk_at dksX1_rests_0 0 rfl rfl)
theorem dX1_rests_1 : decode cX1_rests 1 = .ok (.i2l, 1) := dk_133 (dk_at dksX1_rests_0 1 rfl rfl)
theorem dX1_rests_2 : decode cX1_rests 2 = .ok (.lconst 1, 1) := dk_10 (dk_at dksX1_rests_0 2 rfl rfl)
theorem dX1_rests_3 : decode cX1_rests 3 = .ok (.ldc2_w 334, 3) := dk_20 1 78 (dk_at dksX1_rests_0 3 rfl rfl)
theorem dX1_rests_6 : decode cX1_rests 6 = .ok (.invokestatic 87, 3) := dk_184 0 87 (dk_at dksX1_rests_0 6 rfl rfl)
theorem dX1_rests_9 : decode cX1_rests 9 = .ok (.ifCond .eq 15, 3) := dk_153 0 15 (dk_at dksX1_rests_0 9 rfl rfl)
theorem dX1_rests_12 : decode cX1_rests 12 = .ok (.iload_n 2, 1) := dk_28 (dk_at dksX1_rests_0 12 rfl rfl)
theorem dX1_rests_13 : decode cX1_rests 13 = .ok (.i2l, 1) := dk_133 (dk_at dksX1_rests_0 13 rfl rfl)
theorem dX1_rests_14 : decode cX1_rests 14 = .ok (.lconst 0, 1) := dk_9 (dk_at dksX1_rests_0 14 rfl rfl)
theorem dX1_rests_15 : decode cX1_rests 15 = .ok (.ldc2_w 255, 3) := dk_20 0 255 (dk_at dksX1_rests_0 15 rfl rfl)
theorem dX1_rests_18 : decode cX1_rests 18 = .ok (.invokestatic 87, 3) := dk_184 0 87 (dk_at dksX1_rests_0 18 rfl rfl)
theorem dX1_rests_21 : decode cX1_rests 21 = .ok (.ifCond .ne 5, 3) := dk_154 0 5 (dk_at dksX1_rests_0 21 rfl rfl)
theorem dX1_rests_24 : decode cX1_rests 24 = .ok (.iconst (-1), 1) := dk_2 (dk_at dksX1_rests_1 0 rfl rfl)
theorem dX1_rests_25 : decode cX1_rests 25 = .ok (.ireturn, 1) := dk_172 (dk_at dksX1_rests_1 1 rfl rfl)
theorem dX1_rests_26 : decode cX1_rests 26 = .ok (.iconst 0, 1) := dk_3 (dk_at dksX1_rests_1 2 rfl rfl)
theorem dX1_rests_27 : decode cX1_rests 27 = .ok (.istore_n 3, 1) := dk_62 (dk_at dksX1_rests_1 3 rfl rfl)
theorem dX1_rests_28 : decode cX1_rests 28 = .ok (.aload_n 0, 1) := dk_42 (dk_at dksX1_rests_1 4 rfl rfl)
theorem dX1_rests_29 : decode cX1_rests 29 = .ok (.iconst 0, 1) := dk_3 (dk_at dksX1_rests_1 5 rfl rfl)
theorem dX1_rests_30 : decode cX1_rests 30 = .ok (.putfield 84, 3) := dk_181 0 84 (dk_at dksX1_rests_1 6 rfl rfl)
theorem dX1_rests_33 : decode cX1_rests 33 = .ok (.iconst 0, 1) := dk_3 (dk_at dksX1_rests_1 9 rfl rfl)
theorem dX1_rests_34 : decode cX1_rests 34 = .ok (.istore 4, 2) := dk_54 4 (dk_at dksX1_rests_1 10 rfl rfl)
theorem dX1_rests_36 : decode cX1_rests 36 = .ok (.iload 4, 2) := dk_21 4 (dk_at dksX1_rests_1 12 rfl rfl)
theorem dX1_rests_38 : decode cX1_rests 38 = .ok (.bipush 9, 2) := dk_16 9 (dk_at dksX1_rests_1 14 rfl rfl)
theorem dX1_rests_40 : decode cX1_rests 40 = .ok (.if_icmp .gt 73, 3) := dk_163 0 73 (dk_at dksX1_rests_1 16 rfl rfl)
theorem dX1_rests_43 : decode cX1_rests 43 = .ok (.iconst 0, 1) := dk_3 (dk_at dksX1_rests_1 19 rfl rfl)
theorem dX1_rests_44 : decode cX1_rests 44 = .ok (.istore 5, 2) := dk_54 5 (dk_at dksX1_rests_1 20 rfl rfl)
theorem dX1_rests_46 : decode cX1_rests 46 = .ok (.iload 5, 2) := dk_21 5 (dk_at dksX1_rests_1 22 rfl rfl)
theorem dX1_rests_48 : decode cX1_rests 48 = .ok (.bipush 9, 2) := dk_16 9 (dk_at dksX1_rests_2 0 rfl rfl)
theorem dX1_rests_50 : decode cX1_rests 50 = .ok (.if_icmp .gt 57, 3) := dk_163 0 57 (dk_at dksX1_rests_2 2 rfl rfl)
theorem dX1_rests_53 : decode cX1_rests 53 = .ok (.iload 4, 2) := dk_21 4 (dk_at dksX1_rests_2 5 rfl rfl)
theorem dX1_rests_55 : decode cX1_rests 55 = .ok (.iload 5, 2) := dk_21 5 (dk_at dksX1_rests_2 7 rfl rfl)
theorem dX1_rests_57 : decode cX1_rests 57 = .ok (.iload_n 1, 1) := dk_27 (dk_at dksX1_rests_2 9 rfl rfl)
theorem dX1_rests_58 : decode cX1_rests 58 = .ok (.iload_n 2, 1) := dk_28 (dk_at dksX1_rests_2 10 rfl rfl)
theorem dX1_rests_59 : decode cX1_rests 59 = .ok (.invokestatic 434, 3) := dk_184 1 178 (dk_at dksX1_rests_2 11 rfl rfl)
theorem dX1_rests_62 : decode cX1_rests 62 = .ok (.ifCond .eq 39, 3) := dk_153 0 39 (dk_at dksX1_rests_2 14 rfl rfl)
theorem dX1_rests_65 : decode cX1_rests 65 = .ok (.iload 5, 2) := dk_21 5 (dk_at dksX1_rests_2 17 rfl rfl)
theorem dX1_rests_67 : decode cX1_rests 67 = .ok (.iload 4, 2) := dk_21 4 (dk_at dksX1_rests_2 19 rfl rfl)
theorem dX1_rests_69 : decode cX1_rests 69 = .ok (.iload_n 1, 1) := dk_27 (dk_at dksX1_rests_2 21 rfl rfl)
theorem dX1_rests_70 : decode cX1_rests 70 = .ok (.iload_n 2, 1) := dk_28 (dk_at dksX1_rests_2 22 rfl rfl)
theorem dX1_rests_71 : decode cX1_rests 71 = .ok (.invokestatic 434, 3) := dk_184 1 178 (dk_at dksX1_rests_3 0 rfl rfl)
theorem dX1_rests_74 : decode cX1_rests 74 = .ok (.ifCond .ne 6, 3) := dk_154 0 6 (dk_at dksX1_rests_3 3 rfl rfl)
theorem dX1_rests_77 : decode cX1_rests 77 = .ok (.goto 24, 3) := dk_167 0 24 (dk_at dksX1_rests_3 6 rfl rfl)
theorem dX1_rests_80 : decode cX1_rests 80 = .ok (.iload_n 3, 1) := dk_29 (dk_at dksX1_rests_3 9 rfl rfl)
theorem dX1_rests_81 : decode cX1_rests 81 = .ok (.ifCond .ne 17, 3) := dk_154 0 17 (dk_at dksX1_rests_3 10 rfl rfl)
theorem dX1_rests_84 : decode cX1_rests 84 = .ok (.aload_n 0, 1) := dk_42 (dk_at dksX1_rests_3 13 rfl rfl)
theorem dX1_rests_85 : decode cX1_rests 85 = .ok (.iload 4, 2) := dk_21 4 (dk_at dksX1_rests_3 14 rfl rfl)
theorem dX1_rests_87 : decode cX1_rests 87 = .ok (.i2l, 1) := dk_133 (dk_at dksX1_rests_3 16 rfl rfl)
theorem dX1_rests_88 : decode cX1_rests 88 = .ok (.invokevirtual 310, 3) := dk_182 1 54 (dk_at dksX1_rests_3 17 rfl rfl)
theorem dX1_rests_91 : decode cX1_rests 91 = .ok (.aload_n 0, 1) := dk_42 (dk_at dksX1_rests_3 20 rfl rfl)
theorem dX1_rests_92 : decode cX1_rests 92 = .ok (.iload 5, 2) := dk_21 5 (dk_at dksX1_rests_3 21 rfl rfl)
theorem dX1_rests_94 : decode cX1_rests 94 = .ok (.i2l, 1) := dk_133 (dk_at dksX1_rests_3 23 rfl rfl)
theorem dX1_rests_95 : decode cX1_rests 95 = .ok (.invokevirtual 310, 3) := dk_182 1 54 (dk_at dksX1_rests_4 0 rfl rfl)
theorem dX1_rests_98 : decode cX1_rests 98 = .ok (.iinc 3 1, 3) := dk_132 3 1 (dk_at dksX1_rests_4 3 rfl rfl)
theorem dX1_rests_101 : decode cX1_rests 101 = .ok (.iinc 5 1, 3) := dk_132 5 1 (dk_at dksX1_rests_4 6 rfl rfl)
theorem dX1_rests_104 : decode cX1_rests 104 = .ok (.goto (-58), 3) := dk_167 255 198 (dk_at dksX1_rests_4 9 rfl rfl)
theorem dX1_rests_107 : decode cX1_rests 107 = .ok (.iinc 4 1, 3) := dk_132 4 1 (dk_at dksX1_rests_4 12 rfl rfl)
theorem dX1_rests_110 : decode cX1_rests 110 = .ok (.goto (-74), 3) := dk_167 255 182 (dk_at dksX1_rests_4 15 rfl rfl)
theorem dX1_rests_113 : decode cX1_rests 113 = .ok (.iload_n 3, 1) := dk_29 (dk_at dksX1_rests_4 18 rfl rfl)
theorem dX1_rests_114 : decode cX1_rests 114 = .ok (.ireturn, 1) := dk_172 (dk_at dksX1_rests_4 19 rfl rfl)
abbrev cX1_isBest : ByteArray := prog_1_method_72_code
def yX1_isBest : MethodName := ⟨RX1, "isBest", "(IIII)Z"⟩
def dkwX1_isBest_1 : List UInt8 := [184, 1, 174, 164, 0, 5, 3, 172, 132, 4, 1, 167, 255, 226, 4, 172]
abbrev dktX1_isBest_1 : List UInt8 := dkwX1_isBest_1 ++ []
def dkwX1_isBest_0 : List UInt8 := [3, 54, 4, 21, 4, 16, 9, 163, 0, 29, 21, 4, 27, 28, 29, 184, 1, 174, 26, 27, 28, 29]
abbrev dktX1_isBest_0 : List UInt8 := dkwX1_isBest_0 ++ dktX1_isBest_1
theorem dksX1_isBest_0 : cX1_isBest.data.toList.drop 0 = dktX1_isBest_0 := by decide +kernel
theorem dksX1_isBest_1 : cX1_isBest.data.toList.drop 22 = dktX1_isBest_1 := dk_seg dksX1_isBest_0 22 rfl rfl
theorem dX1_isBest_0 : decode cX1_isBest 0 = .ok (.iconst 0, 1) := dk_3 (dk_at dksX1_isBest_0 0 rfl rfl)
theorem dX1_isBest_1 : decode cX1_isBest 1 = .ok (.istore 4, 2) := dk_54 4 (dk_at dksX1_isBest_0 1 rfl rfl)
theorem dX1_isBest_3 : decode cX1_isBest 3 = .ok (.iload 4, 2) := dk_21 4 (dk_at dksX1_isBest_0 3 rfl rfl)
theorem dX1_isBest_5 : decode cX1_isBest 5 = .ok (.bipush 9, 2) := dk_16 9 (dk_at dksX1_isBest_0 5 rfl rfl)
theorem dX1_isBest_7 : decode cX1_isBest 7 = .ok (.if_icmp .gt 29, 3) := dk_163 0 29 (dk_at dksX1_isBest_0 7 rfl rfl)
theorem dX1_isBest_10 : decode cX1_isBest 10 = .ok (.iload 4, 2) := dk_21 4 (dk_at dksX1_isBest_0 10 rfl rfl)
theorem dX1_isBest_12 : decode cX1_isBest 12 = .ok (.iload_n 1, 1) := dk_27 (dk_at dksX1_isBest_0 12 rfl rfl)
theorem dX1_isBest_13 : decode cX1_isBest 13 = .ok (.iload_n 2, 1) := dk_28 (dk_at dksX1_isBest_0 13 rfl rfl)
theorem dX1_isBest_14 : decode cX1_isBest 14 = .ok (.iload_n 3, 1) := dk_29 (dk_at dksX1_isBest_0 14 rfl rfl)
theorem dX1_isBest_15 : decode cX1_isBest 15 = .ok (.invokestatic 430, 3) := dk_184 1 174 (dk_at dksX1_isBest_0 15 rfl rfl)
theorem dX1_isBest_18 : decode cX1_isBest 18 = .ok (.iload_n 0, 1) := dk_26 (dk_at dksX1_isBest_0 18 rfl rfl)
theorem dX1_isBest_19 : decode cX1_isBest 19 = .ok (.iload_n 1, 1) := dk_27 (dk_at dksX1_isBest_0 19 rfl rfl)
theorem dX1_isBest_20 : decode cX1_isBest 20 = .ok (.iload_n 2, 1) := dk_28 (dk_at dksX1_isBest_0 20 rfl rfl)
theorem dX1_isBest_21 : decode cX1_isBest 21 = .ok (.iload_n 3, 1) := dk_29 (dk_at dksX1_isBest_0 21 rfl rfl)
theorem dX1_isBest_22 : decode cX1_isBest 22 = .ok (.invokestatic 430, 3) := dk_184 1 174 (dk_at dksX1_isBest_1 0 rfl rfl)
theorem dX1_isBest_25 : decode cX1_isBest 25 = .ok (.if_icmp .le 5, 3) := dk_164 0 5 (dk_at dksX1_isBest_1 3 rfl rfl)
theorem dX1_isBest_28 : decode cX1_isBest 28 = .ok (.iconst 0, 1) := dk_3 (dk_at dksX1_isBest_1 6 rfl rfl)
theorem dX1_isBest_29 : decode cX1_isBest 29 = .ok (.ireturn, 1) := dk_172 (dk_at dksX1_isBest_1 7 rfl rfl)
theorem dX1_isBest_30 : decode cX1_isBest 30 = .ok (.iinc 4 1, 3) := dk_132 4 1 (dk_at dksX1_isBest_1 8 rfl rfl)
theorem dX1_isBest_33 : decode cX1_isBest 33 = .ok (.goto (-30), 3) := dk_167 255 226 (dk_at dksX1_isBest_1 11 rfl rfl)
theorem dX1_isBest_36 : decode cX1_isBest 36 = .ok (.iconst 1, 1) := dk_4 (dk_at dksX1_isBest_1 14 rfl rfl)
theorem dX1_isBest_37 : decode cX1_isBest 37 = .ok (.ireturn, 1) := dk_172 (dk_at dksX1_isBest_1 15 rfl rfl)
abbrev cX1_gets : ByteArray := prog_1_method_71_code
def yX1_gets : MethodName := ⟨RX1, "gets", "(IIII)I"⟩
def dkwX1_gets_0 : List UInt8 := [26, 27, 96, 154, 0, 7, 3, 167, 0, 10, 28, 26, 104, 26, 27, 96, 108, 29, 26, 104, 100, 172]
abbrev dktX1_gets_0 : List UInt8 := dkwX1_gets_0 ++ []
theorem dksX1_gets_0 : cX1_gets.data.toList.drop 0 = dktX1_gets_0 := by decide +kernel
theorem dX1_gets_0 : decode cX1_gets 0 = .ok (.iload_n 0, 1) := dk_26 (dk_at dksX1_gets_0 0 rfl rfl)
theorem dX1_gets_1 : decode cX1_gets 1 = .ok (.iload_n 1, 1) := dk_27 (dk_at dksX1_gets_0 1 rfl rfl)
theorem dX1_gets_2 : decode cX1_gets 2 = .ok (.iadd, 1) := dk_96 (dk_at dksX1_gets_0 2 rfl rfl)
theorem dX1_gets_3 : decode cX1_gets 3 = .ok (.ifCond .ne 7, 3) := dk_154 0 7 (dk_at dksX1_gets_0 3 rfl rfl)
theorem dX1_gets_6 : decode cX1_gets 6 = .ok (.iconst 0, 1) := dk_3 (dk_at dksX1_gets_0 6 rfl rfl)
theorem dX1_gets_7 : decode cX1_gets 7 = .ok (.goto 10, 3) := dk_167 0 10 (dk_at dksX1_gets_0 7 rfl rfl)
theorem dX1_gets_10 : decode cX1_gets 10 = .ok (.iload_n 2, 1) := dk_28 (dk_at dksX1_gets_0 10 rfl rfl)
theorem dX1_gets_11 : decode cX1_gets 11 = .ok (.iload_n 0, 1) := dk_26 (dk_at dksX1_gets_0 11 rfl rfl)
theorem dX1_gets_12 : decode cX1_gets 12 = .ok (.imul, 1) := dk_104 (dk_at dksX1_gets_0 12 rfl rfl)
theorem dX1_gets_13 : decode cX1_gets 13 = .ok (.iload_n 0, 1) := dk_26 (dk_at dksX1_gets_0 13 rfl rfl)
theorem dX1_gets_14 : decode cX1_gets 14 = .ok (.iload_n 1, 1) := dk_27 (dk_at dksX1_gets_0 14 rfl rfl)
theorem dX1_gets_15 : decode cX1_gets 15 = .ok (.iadd, 1) := dk_96 (dk_at dksX1_gets_0 15 rfl rfl)
theorem dX1_gets_16 : decode cX1_gets 16 = .ok (.idiv, 1) := dk_108 (dk_at dksX1_gets_0 16 rfl rfl)
theorem dX1_gets_17 : decode cX1_gets 17 = .ok (.iload_n 3, 1) := dk_29 (dk_at dksX1_gets_0 17 rfl rfl)
theorem dX1_gets_18 : decode cX1_gets 18 = .ok (.iload_n 0, 1) := dk_26 (dk_at dksX1_gets_0 18 rfl rfl)
theorem dX1_gets_19 : decode cX1_gets 19 = .ok (.imul, 1) := dk_104 (dk_at dksX1_gets_0 19 rfl rfl)
theorem dX1_gets_20 : decode cX1_gets 20 = .ok (.isub, 1) := dk_100 (dk_at dksX1_gets_0 20 rfl rfl)
theorem dX1_gets_21 : decode cX1_gets 21 = .ok (.ireturn, 1) := dk_172 (dk_at dksX1_gets_0 21 rfl rfl)
abbrev cX1_summers : ByteArray := prog_1_method_75_code
def yX1_summers : MethodName := ⟨RX1, "summers", "(II)I"⟩
def dkwX1_summers_8 : List UInt8 := [182, 1, 48, 184, 0, 196, 133, 182, 1, 54, 29, 172]
abbrev dktX1_summers_8 : List UInt8 := dkwX1_summers_8 ++ []
def dkwX1_summers_7 : List UInt8 := [180, 0, 42, 182, 1, 80, 184, 0, 196, 133, 182, 1, 54, 42, 42, 180, 0, 19, 42, 180, 0, 91]
abbrev dktX1_summers_7 : List UInt8 := dkwX1_summers_7 ++ dktX1_summers_8
def dkwX1_summers_6 : List UInt8 := [167, 0, 4, 3, 96, 62, 132, 4, 1, 167, 255, 142, 42, 3, 181, 0, 84, 42, 42, 180, 0, 19, 42]
abbrev dktX1_summers_6 : List UInt8 := dkwX1_summers_6 ++ dktX1_summers_7
def dkwX1_summers_5 : List UInt8 := [21, 7, 79, 21, 5, 6, 160, 0, 22, 29, 42, 42, 180, 0, 19, 182, 1, 75, 153, 0, 7, 4]
abbrev dktX1_summers_5 : List UInt8 := dkwX1_summers_5 ++ dktX1_summers_6
def dkwX1_summers_4 : List UInt8 := [54, 7, 42, 180, 0, 19, 180, 0, 167, 21, 6, 46, 158, 0, 15, 42, 180, 0, 19, 180, 0, 165, 21, 6]
abbrev dktX1_summers_4 : List UInt8 := dkwX1_summers_4 ++ dktX1_summers_5
def dkwX1_summers_3 : List UInt8 := [180, 0, 91, 158, 0, 48, 42, 42, 180, 0, 91, 182, 1, 186, 54, 6, 42, 42, 180, 0, 42, 182, 1, 186]
abbrev dktX1_summers_3 : List UInt8 := dkwX1_summers_3 ++ dktX1_summers_4
def dkwX1_summers_2 : List UInt8 := [54, 5, 21, 5, 5, 162, 0, 12, 42, 42, 180, 0, 19, 182, 1, 42, 87, 21, 5, 5, 160, 0, 55, 42]
abbrev dktX1_summers_2 : List UInt8 := dkwX1_summers_2 ++ dktX1_summers_3
def dkwX1_summers_1 : List UInt8 := [180, 0, 19, 42, 180, 0, 10, 182, 1, 18, 3, 54, 4, 21, 4, 28, 162, 0, 114, 42, 7, 182, 1, 186]
abbrev dktX1_summers_1 : List UInt8 := dkwX1_summers_1 ++ dktX1_summers_2
def dkwX1_summers_0 : List UInt8 := [28, 133, 10, 20, 1, 115, 184, 0, 87, 154, 0, 5, 2, 172, 42, 27, 181, 1, 182, 3, 62, 42]
abbrev dktX1_summers_0 : List UInt8 := dkwX1_summers_0 ++ dktX1_summers_1
theorem dksX1_summers_0 : cX1_summers.data.toList.drop 0 = dktX1_summers_0 := by decide +kernel
theorem dksX1_summers_1 : cX1_summers.data.toList.drop 22 = dktX1_summers_1 := dk_seg dksX1_summers_0 22 rfl rfl
theorem dksX1_summers_2 : cX1_summers.data.toList.drop 46 = dktX1_summers_2 := dk_seg dksX1_summers_1 24 rfl rfl
theorem dksX1_summers_3 : cX1_summers.data.toList.drop 70 = dktX1_summers_3 := dk_seg dksX1_summers_2 24 rfl rfl
theorem dksX1_summers_4 : cX1_summers.data.toList.drop 94 = dktX1_summers_4 := dk_seg dksX1_summers_3 24 rfl rfl
theorem dksX1_summers_5 : cX1_summers.data.toList.drop 118 = dktX1_summers_5 := dk_seg dksX1_summers_4 24 rfl rfl
theorem dksX1_summers_6 : cX1_summers.data.toList.drop 140 = dktX1_summers_6 := dk_seg dksX1_summers_5 22 rfl rfl
theorem dksX1_summers_7 : cX1_summers.data.toList.drop 163 = dktX1_summers_7 := dk_seg dksX1_summers_6 23 rfl rfl
theorem dksX1_summers_8 : cX1_summers.data.toList.drop 185 = dktX1_summers_8 := dk_seg dksX1_summers_7 22 rfl rfl
theorem dX1_summers_0 : decode cX1_summers 0 = .ok (.iload_n 2, 1) := dk_28 (dk_at dksX1_summers_0 0 rfl rfl)
theorem dX1_summers_1 : decode cX1_summers 1 = .ok (.i2l, 1) := dk_133 (dk_at dksX1_summers_0 1 rfl rfl)
theorem dX1_summers_2 : decode cX1_summers 2 = .ok (.lconst 1, 1) := dk_10 (dk_at dksX1_summers_0 2 rfl rfl)
theorem dX1_summers_3 : decode cX1_summers 3 = .ok (.ldc2_w 371, 3) := dk_20 1 115 (dk_at dksX1_summers_0 3 rfl rfl)
theorem dX1_summers_6 : decode cX1_summers 6 = .ok (.invokestatic 87, 3) := dk_184 0 87 (dk_at dksX1_summers_0 6 rfl rfl)
theorem dX1_summers_9 : decode cX1_summers 9 = .ok (.ifCond .ne 5, 3) := dk_154 0 5 (dk_at dksX1_summers_0 9 rfl rfl)
theorem dX1_summers_12 : decode cX1_summers 12 = .ok (.iconst (-1), 1) := dk_2 (dk_at dksX1_summers_0 12 rfl rfl)
theorem dX1_summers_13 : decode cX1_summers 13 = .ok (.ireturn, 1) := dk_172 (dk_at dksX1_summers_0 13 rfl rfl)
theorem dX1_summers_14 : decode cX1_summers 14 = .ok (.aload_n 0, 1) := dk_42 (dk_at dksX1_summers_0 14 rfl rfl)
theorem dX1_summers_15 : decode cX1_summers 15 = .ok (.iload_n 1, 1) := dk_27 (dk_at dksX1_summers_0 15 rfl rfl)
theorem dX1_summers_16 : decode cX1_summers 16 = .ok (.putfield 438, 3) := dk_181 1 182 (dk_at dksX1_summers_0 16 rfl rfl)
theorem dX1_summers_19 : decode cX1_summers 19 = .ok (.iconst 0, 1) := dk_3 (dk_at dksX1_summers_0 19 rfl rfl)
theorem dX1_summers_20 : decode cX1_summers 20 = .ok (.istore_n 3, 1) := dk_62 (dk_at dksX1_summers_0 20 rfl rfl)
theorem dX1_summers_21 : decode cX1_summers 21 = .ok (.aload_n 0, 1) := dk_42 (dk_at dksX1_summers_0 21 rfl rfl)
theorem dX1_summers_22 : decode cX1_summers 22 = .ok (.getfield 19, 3) := dk_180 0 19 (dk_at dksX1_summers_1 0 rfl rfl)
theorem dX1_summers_25 : decode cX1_summers 25 = .ok (.aload_n 0, 1) := dk_42 (dk_at dksX1_summers_1 3 rfl rfl)
theorem dX1_summers_26 : decode cX1_summers 26 = .ok (.getfield 10, 3) := dk_180 0 10 (dk_at dksX1_summers_1 4 rfl rfl)
theorem dX1_summers_29 : decode cX1_summers 29 = .ok (.invokevirtual 274, 3) := dk_182 1 18 (dk_at dksX1_summers_1 7 rfl rfl)
theorem dX1_summers_32 : decode cX1_summers 32 = .ok (.iconst 0, 1) := dk_3 (dk_at dksX1_summers_1 10 rfl rfl)
theorem dX1_summers_33 : decode cX1_summers 33 = .ok (.istore 4, 2) := dk_54 4 (dk_at dksX1_summers_1 11 rfl rfl)
theorem dX1_summers_35 : decode cX1_summers 35 = .ok (.iload 4, 2) := dk_21 4 (dk_at dksX1_summers_1 13 rfl rfl)
theorem dX1_summers_37 : decode cX1_summers 37 = .ok (.iload_n 2, 1) := dk_28 (dk_at dksX1_summers_1 15 rfl rfl)
theorem dX1_summers_38 : decode cX1_summers 38 = .ok (.if_icmp .ge 114, 3) := dk_162 0 114 (dk_at dksX1_summers_1 16 rfl rfl)
theorem dX1_summers_41 : decode cX1_summers 41 = .ok (.aload_n 0, 1) := dk_42 (dk_at dksX1_summers_1 19 rfl rfl)
theorem dX1_summers_42 : decode cX1_summers 42 = .ok (.iconst 4, 1) := dk_7 (dk_at dksX1_summers_1 20 rfl rfl)
theorem dX1_summers_43 : decode cX1_summers 43 = .ok (.invokevirtual 442, 3) := dk_182 1 186 (dk_at dksX1_summers_1 21 rfl rfl)
theorem dX1_summers_46 : decode cX1_summers 46 = .ok (.istore 5, 2) := dk_54 5 (dk_at dksX1_summers_2 0 rfl rfl)
theorem dX1_summers_48 : decode cX1_summers 48 = .ok (.iload 5, 2) := dk_21 5 (dk_at dksX1_summers_2 2 rfl rfl)
theorem dX1_summers_50 : decode cX1_summers 50 = .ok (.iconst 2, 1) := dk_5 (dk_at dksX1_summers_2 4 rfl rfl)
theorem dX1_summers_51 : decode cX1_summers 51 = .ok (.if_icmp .ge 12, 3) := dk_162 0 12 (dk_at dksX1_summers_2 5 rfl rfl)
theorem dX1_summers_54 : decode cX1_summers 54 = .ok (.aload_n 0, 1) := dk_42 (dk_at dksX1_summers_2 8 rfl rfl)
theorem dX1_summers_55 : decode cX1_summers 55 = .ok (.aload_n 0, 1) := dk_42 (dk_at dksX1_summers_2 9 rfl rfl)
theorem dX1_summers_56 : decode cX1_summers 56 = .ok (.getfield 19, 3) := dk_180 0 19 (dk_at dksX1_summers_2 10 rfl rfl)
theorem dX1_summers_59 : decode cX1_summers 59 = .ok (.invokevirtual 298, 3) := dk_182 1 42 (dk_at dksX1_summers_2 13 rfl rfl)
theorem dX1_summers_62 : decode cX1_summers 62 = .ok (.pop, 1) := dk_87 (dk_at dksX1_summers_2 16 rfl rfl)
theorem dX1_summers_63 : decode cX1_summers 63 = .ok (.iload 5, 2) := dk_21 5 (dk_at dksX1_summers_2 17 rfl rfl)
theorem dX1_summers_65 : decode cX1_summers 65 = .ok (.iconst 2, 1) := dk_5 (dk_at dksX1_summers_2 19 rfl rfl)
theorem dX1_summers_66 : decode cX1_summers 66 = .ok (.if_icmp .ne 55, 3) := dk_160 0 55 (dk_at dksX1_summers_2 20 rfl rfl)
theorem dX1_summers_69 : decode cX1_summers 69 = .ok (.aload_n 0, 1) := dk_42 (dk_at dksX1_summers_2 23 rfl rfl)
theorem dX1_summers_70 : decode cX1_summers 70 = .ok (.getfield 91, 3) := dk_180 0 91 (dk_at dksX1_summers_3 0 rfl rfl)
theorem dX1_summers_73 : decode cX1_summers 73 = .ok (.ifCond .le 48, 3) := dk_158 0 48 (dk_at dksX1_summers_3 3 rfl rfl)
theorem dX1_summers_76 : decode cX1_summers 76 = .ok (.aload_n 0, 1) := dk_42 (dk_at dksX1_summers_3 6 rfl rfl)
theorem dX1_summers_77 : decode cX1_summers 77 = .ok (.aload_n 0, 1) := dk_42 (dk_at dksX1_summers_3 7 rfl rfl)
theorem dX1_summers_78 : decode cX1_summers 78 = .ok (.getfield 91, 3) := dk_180 0 91 (dk_at dksX1_summers_3 8 rfl rfl)
theorem dX1_summers_81 : decode cX1_summers 81 = .ok (.invokevirtual 442, 3) := dk_182 1 186 (dk_at dksX1_summers_3 11 rfl rfl)
theorem dX1_summers_84 : decode cX1_summers 84 = .ok (.istore 6, 2) := dk_54 6 (dk_at dksX1_summers_3 14 rfl rfl)
theorem dX1_summers_86 : decode cX1_summers 86 = .ok (.aload_n 0, 1) := dk_42 (dk_at dksX1_summers_3 16 rfl rfl)
theorem dX1_summers_87 : decode cX1_summers 87 = .ok (.aload_n 0, 1) := dk_42 (dk_at dksX1_summers_3 17 rfl rfl)
theorem dX1_summers_88 : decode cX1_summers 88 = .ok (.getfield 42, 3) := dk_180 0 42 (dk_at dksX1_summers_3 18 rfl rfl)
theorem dX1_summers_91 : decode cX1_summers 91 = .ok (.invokevirtual 442, 3) := dk_182 1 186 (dk_at dksX1_summers_3 21 rfl rfl)
theorem dX1_summers_94 : decode cX1_summers 94 = .ok (.istore 7, 2) := dk_54 7 (dk_at dksX1_summers_4 0 rfl rfl)
theorem dX1_summers_96 : decode cX1_summers 96 = .ok (.aload_n 0, 1) := dk_42 (dk_at dksX1_summers_4 2 rfl rfl)
theorem dX1_summers_97 : decode cX1_summers 97 = .ok (.getfield 19, 3) := dk_180 0 19 (dk_at dksX1_summers_4 3 rfl rfl)
theorem dX1_summers_100 : decode cX1_summers 100 = .ok (.getfield 167, 3) := dk_180 0 167 (dk_at dksX1_summers_4 6 rfl rfl)
theorem dX1_summers_103 : decode cX1_summers 103 = .ok (.iload 6, 2) := dk_21 6 (dk_at dksX1_summers_4 9 rfl rfl)
theorem dX1_summers_105 : decode cX1_summers 105 = .ok (.iaload, 1) := dk_46 (dk_at dksX1_summers_4 11 rfl rfl)
theorem dX1_summers_106 : decode cX1_summers 106 = .ok (.ifCond .le 15, 3) := dk_158 0 15 (dk_at dksX1_summers_4 12 rfl rfl)
theorem dX1_summers_109 : decode cX1_summers 109 = .ok (.aload_n 0, 1) := dk_42 (dk_at dksX1_summers_4 15 rfl rfl)
theorem dX1_summers_110 : decode cX1_summers 110 = .ok (.getfield 19, 3) := dk_180 0 19 (dk_at dksX1_summers_4 16 rfl rfl)
theorem dX1_summers_113 : decode cX1_summers 113 = .ok (.getfield 165, 3) := dk_180 0 165 (dk_at dksX1_summers_4 19 rfl rfl)
theorem dX1_summers_116 : decode cX1_summers 116 = .ok (.iload 6, 2) := dk_21 6 (dk_at dksX1_summers_4 22 rfl rfl)
theorem dX1_summers_118 : decode cX1_summers 118 = .ok (.iload 7, 2) := dk_21 7 (dk_at dksX1_summers_5 0 rfl rfl)
theorem dX1_summers_120 : decode cX1_summers 120 = .ok (.iastore, 1) := dk_79 (dk_at dksX1_summers_5 2 rfl rfl)
theorem dX1_summers_121 : decode cX1_summers 121 = .ok (.iload 5, 2) := dk_21 5 (dk_at dksX1_summers_5 3 rfl rfl)
theorem dX1_summers_123 : decode cX1_summers 123 = .ok (.iconst 3, 1) := dk_6 (dk_at dksX1_summers_5 5 rfl rfl)
theorem dX1_summers_124 : decode cX1_summers 124 = .ok (.if_icmp .ne 22, 3) := dk_160 0 22 (dk_at dksX1_summers_5 6 rfl rfl)
theorem dX1_summers_127 : decode cX1_summers 127 = .ok (.iload_n 3, 1) := dk_29 (dk_at dksX1_summers_5 9 rfl rfl)
theorem dX1_summers_128 : decode cX1_summers 128 = .ok (.aload_n 0, 1) := dk_42 (dk_at dksX1_summers_5 10 rfl rfl)
theorem dX1_summers_129 : decode cX1_summers 129 = .ok (.aload_n 0, 1) := dk_42 (dk_at dksX1_summers_5 11 rfl rfl)
theorem dX1_summers_130 : decode cX1_summers 130 = .ok (.getfield 19, 3) := dk_180 0 19 (dk_at dksX1_summers_5 12 rfl rfl)
theorem dX1_summers_133 : decode cX1_summers 133 = .ok (.invokevirtual 331, 3) := dk_182 1 75 (dk_at dksX1_summers_5 15 rfl rfl)
theorem dX1_summers_136 : decode cX1_summers 136 = .ok (.ifCond .eq 7, 3) := dk_153 0 7 (dk_at dksX1_summers_5 18 rfl rfl)
theorem dX1_summers_139 : decode cX1_summers 139 = .ok (.iconst 1, 1) := dk_4 (dk_at dksX1_summers_5 21 rfl rfl)
theorem dX1_summers_140 : decode cX1_summers 140 = .ok (.goto 4, 3) := dk_167 0 4 (dk_at dksX1_summers_6 0 rfl rfl)
theorem dX1_summers_143 : decode cX1_summers 143 = .ok (.iconst 0, 1) := dk_3 (dk_at dksX1_summers_6 3 rfl rfl)
theorem dX1_summers_144 : decode cX1_summers 144 = .ok (.iadd, 1) := dk_96 (dk_at dksX1_summers_6 4 rfl rfl)
theorem dX1_summers_145 : decode cX1_summers 145 = .ok (.istore_n 3, 1) := dk_62 (dk_at dksX1_summers_6 5 rfl rfl)
theorem dX1_summers_146 : decode cX1_summers 146 = .ok (.iinc 4 1, 3) := dk_132 4 1 (dk_at dksX1_summers_6 6 rfl rfl)
theorem dX1_summers_149 : decode cX1_summers 149 = .ok (.goto (-114), 3) := dk_167 255 142 (dk_at dksX1_summers_6 9 rfl rfl)
theorem dX1_summers_152 : decode cX1_summers 152 = .ok (.aload_n 0, 1) := dk_42 (dk_at dksX1_summers_6 12 rfl rfl)
theorem dX1_summers_153 : decode cX1_summers 153 = .ok (.iconst 0, 1) := dk_3 (dk_at dksX1_summers_6 13 rfl rfl)
theorem dX1_summers_154 : decode cX1_summers 154 = .ok (.putfield 84, 3) := dk_181 0 84 (dk_at dksX1_summers_6 14 rfl rfl)
theorem dX1_summers_157 : decode cX1_summers 157 = .ok (.aload_n 0, 1) := dk_42 (dk_at dksX1_summers_6 17 rfl rfl)
theorem dX1_summers_158 : decode cX1_summers 158 = .ok (.aload_n 0, 1) := dk_42 (dk_at dksX1_summers_6 18 rfl rfl)
theorem dX1_summers_159 : decode cX1_summers 159 = .ok (.getfield 19, 3) := dk_180 0 19 (dk_at dksX1_summers_6 19 rfl rfl)
theorem dX1_summers_162 : decode cX1_summers 162 = .ok (.aload_n 0, 1) := dk_42 (dk_at dksX1_summers_6 22 rfl rfl)
theorem dX1_summers_163 : decode cX1_summers 163 = .ok (.getfield 42, 3) := dk_180 0 42 (dk_at dksX1_summers_7 0 rfl rfl)
theorem dX1_summers_166 : decode cX1_summers 166 = .ok (.invokevirtual 336, 3) := dk_182 1 80 (dk_at dksX1_summers_7 3 rfl rfl)
theorem dX1_summers_169 : decode cX1_summers 169 = .ok (.invokestatic 196, 3) := dk_184 0 196 (dk_at dksX1_summers_7 6 rfl rfl)
theorem dX1_summers_172 : decode cX1_summers 172 = .ok (.i2l, 1) := dk_133 (dk_at dksX1_summers_7 9 rfl rfl)
theorem dX1_summers_173 : decode cX1_summers 173 = .ok (.invokevirtual 310, 3) := dk_182 1 54 (dk_at dksX1_summers_7 10 rfl rfl)
theorem dX1_summers_176 : decode cX1_summers 176 = .ok (.aload_n 0, 1) := dk_42 (dk_at dksX1_summers_7 13 rfl rfl)
theorem dX1_summers_177 : decode cX1_summers 177 = .ok (.aload_n 0, 1) := dk_42 (dk_at dksX1_summers_7 14 rfl rfl)
theorem dX1_summers_178 : decode cX1_summers 178 = .ok (.getfield 19, 3) := dk_180 0 19 (dk_at dksX1_summers_7 15 rfl rfl)
theorem dX1_summers_181 : decode cX1_summers 181 = .ok (.aload_n 0, 1) := dk_42 (dk_at dksX1_summers_7 18 rfl rfl)
theorem dX1_summers_182 : decode cX1_summers 182 = .ok (.getfield 91, 3) := dk_180 0 91 (dk_at dksX1_summers_7 19 rfl rfl)
theorem dX1_summers_185 : decode cX1_summers 185 = .ok (.invokevirtual 304, 3) := dk_182 1 48 (dk_at dksX1_summers_8 0 rfl rfl)
theorem dX1_summers_188 : decode cX1_summers 188 = .ok (.invokestatic 196, 3) := dk_184 0 196 (dk_at dksX1_summers_8 3 rfl rfl)
theorem dX1_summers_191 : decode cX1_summers 191 = .ok (.i2l, 1) := dk_133 (dk_at dksX1_summers_8 6 rfl rfl)
theorem dX1_summers_192 : decode cX1_summers 192 = .ok (.invokevirtual 310, 3) := dk_182 1 54 (dk_at dksX1_summers_8 7 rfl rfl)
theorem dX1_summers_195 : decode cX1_summers 195 = .ok (.iload_n 3, 1) := dk_29 (dk_at dksX1_summers_8 10 rfl rfl)
theorem dX1_summers_196 : decode cX1_summers 196 = .ok (.ireturn, 1) := dk_172 (dk_at dksX1_summers_8 11 rfl rfl)
abbrev cX1_draw : ByteArray := prog_1_method_74_code
def yX1_draw : MethodName := ⟨RX1, "draw", "(I)I"⟩
def dkwX1_draw_1 : List UInt8 := [112, 172]
abbrev dktX1_draw_1 : List UInt8 := dkwX1_draw_1 ++ []
def dkwX1_draw_0 : List UInt8 := [42, 42, 180, 1, 182, 19, 1, 185, 104, 17, 48, 57, 96, 181, 1, 182, 42, 180, 1, 182, 16, 16, 124, 27]
abbrev dktX1_draw_0 : List UInt8 := dkwX1_draw_0 ++ dktX1_draw_1
theorem dksX1_draw_0 : cX1_draw.data.toList.drop 0 = dktX1_draw_0 := by decide +kernel
theorem dksX1_draw_1 : cX1_draw.data.toList.drop 24 = dktX1_draw_1 := dk_seg dksX1_draw_0 24 rfl rfl
theorem dX1_draw_0 : decode cX1_draw 0 = .ok (.aload_n 0, 1) := dk_42 (dk_at dksX1_draw_0 0 rfl rfl)
theorem dX1_draw_1 : decode cX1_draw 1 = .ok (.aload_n 0, 1) := dk_42 (dk_at dksX1_draw_0 1 rfl rfl)
theorem dX1_draw_2 : decode cX1_draw 2 = .ok (.getfield 438, 3) := dk_180 1 182 (dk_at dksX1_draw_0 2 rfl rfl)
theorem dX1_draw_5 : decode cX1_draw 5 = .ok (.ldc_w 441, 3) := dk_19 1 185 (dk_at dksX1_draw_0 5 rfl rfl)
theorem dX1_draw_8 : decode cX1_draw 8 = .ok (.imul, 1) := dk_104 (dk_at dksX1_draw_0 8 rfl rfl)
theorem dX1_draw_9 : decode cX1_draw 9 = .ok (.sipush 12345, 3) := dk_17 48 57 (dk_at dksX1_draw_0 9 rfl rfl)
theorem dX1_draw_12 : decode cX1_draw 12 = .ok (.iadd, 1) := dk_96 (dk_at dksX1_draw_0 12 rfl rfl)
theorem dX1_draw_13 : decode cX1_draw 13 = .ok (.putfield 438, 3) := dk_181 1 182 (dk_at dksX1_draw_0 13 rfl rfl)
theorem dX1_draw_16 : decode cX1_draw 16 = .ok (.aload_n 0, 1) := dk_42 (dk_at dksX1_draw_0 16 rfl rfl)
theorem dX1_draw_17 : decode cX1_draw 17 = .ok (.getfield 438, 3) := dk_180 1 182 (dk_at dksX1_draw_0 17 rfl rfl)
theorem dX1_draw_20 : decode cX1_draw 20 = .ok (.bipush 16, 2) := dk_16 16 (dk_at dksX1_draw_0 20 rfl rfl)
theorem dX1_draw_22 : decode cX1_draw 22 = .ok (.iushr, 1) := dk_124 (dk_at dksX1_draw_0 22 rfl rfl)
theorem dX1_draw_23 : decode cX1_draw 23 = .ok (.iload_n 1, 1) := dk_27 (dk_at dksX1_draw_0 23 rfl rfl)
theorem dX1_draw_24 : decode cX1_draw 24 = .ok (.irem, 1) := dk_112 (dk_at dksX1_draw_1 0 rfl rfl)
theorem dX1_draw_25 : decode cX1_draw 25 = .ok (.ireturn, 1) := dk_172 (dk_at dksX1_draw_1 1 rfl rfl)
abbrev cX1_keep : ByteArray := prog_1_method_76_code
def yX1_keep : MethodName := ⟨RX1, "keep", "(I)Z"⟩
def dkwX1_keep_1 : List UInt8 := [183, 1, 191, 83, 4, 172]
abbrev dktX1_keep_1 : List UInt8 := dkwX1_keep_1 ++ []
def dkwX1_keep_0 : List UInt8 := [27, 133, 9, 20, 1, 189, 184, 0, 87, 154, 0, 5, 3, 172, 42, 180, 0, 77, 27, 187, 0, 75, 89, 42]
abbrev dktX1_keep_0 : List UInt8 := dkwX1_keep_0 ++ dktX1_keep_1
theorem dksX1_keep_0 : cX1_keep.data.toList.drop 0 = dktX1_keep_0 := by decide +kernel
theorem dksX1_keep_1 : cX1_keep.data.toList.drop 24 = dktX1_keep_1 := dk_seg dksX1_keep_0 24 rfl rfl
theorem dX1_keep_0 : decode cX1_keep 0 = .ok (.iload_n 1, 1) := dk_27 (dk_at dksX1_keep_0 0 rfl rfl)
theorem dX1_keep_1 : decode cX1_keep 1 = .ok (.i2l, 1) := dk_133 (dk_at dksX1_keep_0 1 rfl rfl)
theorem dX1_keep_2 : decode cX1_keep 2 = .ok (.lconst 0, 1) := dk_9 (dk_at dksX1_keep_0 2 rfl rfl)
theorem dX1_keep_3 : decode cX1_keep 3 = .ok (.ldc2_w 445, 3) := dk_20 1 189 (dk_at dksX1_keep_0 3 rfl rfl)
theorem dX1_keep_6 : decode cX1_keep 6 = .ok (.invokestatic 87, 3) := dk_184 0 87 (dk_at dksX1_keep_0 6 rfl rfl)
theorem dX1_keep_9 : decode cX1_keep 9 = .ok (.ifCond .ne 5, 3) := dk_154 0 5 (dk_at dksX1_keep_0 9 rfl rfl)
theorem dX1_keep_12 : decode cX1_keep 12 = .ok (.iconst 0, 1) := dk_3 (dk_at dksX1_keep_0 12 rfl rfl)
theorem dX1_keep_13 : decode cX1_keep 13 = .ok (.ireturn, 1) := dk_172 (dk_at dksX1_keep_0 13 rfl rfl)
theorem dX1_keep_14 : decode cX1_keep 14 = .ok (.aload_n 0, 1) := dk_42 (dk_at dksX1_keep_0 14 rfl rfl)
theorem dX1_keep_15 : decode cX1_keep 15 = .ok (.getfield 77, 3) := dk_180 0 77 (dk_at dksX1_keep_0 15 rfl rfl)
theorem dX1_keep_18 : decode cX1_keep 18 = .ok (.iload_n 1, 1) := dk_27 (dk_at dksX1_keep_0 18 rfl rfl)
theorem dX1_keep_19 : decode cX1_keep 19 = .ok (.new 75, 3) := dk_187 0 75 (dk_at dksX1_keep_0 19 rfl rfl)
theorem dX1_keep_22 : decode cX1_keep 22 = .ok (.dup, 1) := dk_89 (dk_at dksX1_keep_0 22 rfl rfl)
theorem dX1_keep_23 : decode cX1_keep 23 = .ok (.aload_n 0, 1) := dk_42 (dk_at dksX1_keep_0 23 rfl rfl)
theorem dX1_keep_24 : decode cX1_keep 24 = .ok (.invokespecial 447, 3) := dk_183 1 191 (dk_at dksX1_keep_1 0 rfl rfl)
theorem dX1_keep_27 : decode cX1_keep 27 = .ok (.aastore, 1) := dk_83 (dk_at dksX1_keep_1 3 rfl rfl)
theorem dX1_keep_28 : decode cX1_keep 28 = .ok (.iconst 1, 1) := dk_4 (dk_at dksX1_keep_1 4 rfl rfl)
theorem dX1_keep_29 : decode cX1_keep 29 = .ok (.ireturn, 1) := dk_172 (dk_at dksX1_keep_1 5 rfl rfl)
abbrev cX1_again : ByteArray := prog_1_method_77_code
def yX1_again : MethodName := ⟨RX1, "again", "(I)Z"⟩
def dkwX1_again_2 : List UInt8 := [180, 0, 77, 27, 50, 180, 1, 197, 182, 1, 18, 42, 3, 181, 0, 132, 4, 172]
abbrev dktX1_again_2 : List UInt8 := dkwX1_again_2 ++ []
def dkwX1_again_1 : List UInt8 := [180, 0, 77, 27, 50, 180, 1, 194, 42, 180, 0, 170, 159, 0, 5, 3, 172, 42, 180, 0, 10, 42]
abbrev dktX1_again_1 : List UInt8 := dkwX1_again_1 ++ dktX1_again_2
def dkwX1_again_0 : List UInt8 := [27, 133, 9, 20, 1, 189, 184, 0, 87, 153, 0, 28, 42, 180, 0, 77, 27, 50, 198, 0, 19, 42]
abbrev dktX1_again_0 : List UInt8 := dkwX1_again_0 ++ dktX1_again_1
theorem dksX1_again_0 : cX1_again.data.toList.drop 0 = dktX1_again_0 := by decide +kernel
theorem dksX1_again_1 : cX1_again.data.toList.drop 22 = dktX1_again_1 := dk_seg dksX1_again_0 22 rfl rfl
theorem dksX1_again_2 : cX1_again.data.toList.drop 44 = dktX1_again_2 := dk_seg dksX1_again_1 22 rfl rfl
theorem dX1_again_0 : decode cX1_again 0 = .ok (.iload_n 1, 1) := dk_27 (dk_at dksX1_again_0 0 rfl rfl)
theorem dX1_again_1 : decode cX1_again 1 = .ok (.i2l, 1) := dk_133 (dk_at dksX1_again_0 1 rfl rfl)
theorem dX1_again_2 : decode cX1_again 2 = .ok (.lconst 0, 1) := dk_9 (dk_at dksX1_again_0 2 rfl rfl)
theorem dX1_again_3 : decode cX1_again 3 = .ok (.ldc2_w 445, 3) := dk_20 1 189 (dk_at dksX1_again_0 3 rfl rfl)
theorem dX1_again_6 : decode cX1_again 6 = .ok (.invokestatic 87, 3) := dk_184 0 87 (dk_at dksX1_again_0 6 rfl rfl)
theorem dX1_again_9 : decode cX1_again 9 = .ok (.ifCond .eq 28, 3) := dk_153 0 28 (dk_at dksX1_again_0 9 rfl rfl)
theorem dX1_again_12 : decode cX1_again 12 = .ok (.aload_n 0, 1) := dk_42 (dk_at dksX1_again_0 12 rfl rfl)
theorem dX1_again_13 : decode cX1_again 13 = .ok (.getfield 77, 3) := dk_180 0 77 (dk_at dksX1_again_0 13 rfl rfl)
theorem dX1_again_16 : decode cX1_again 16 = .ok (.iload_n 1, 1) := dk_27 (dk_at dksX1_again_0 16 rfl rfl)
theorem dX1_again_17 : decode cX1_again 17 = .ok (.aaload, 1) := dk_50 (dk_at dksX1_again_0 17 rfl rfl)
theorem dX1_again_18 : decode cX1_again 18 = .ok (.ifnull 19, 3) := dk_198 0 19 (dk_at dksX1_again_0 18 rfl rfl)
theorem dX1_again_21 : decode cX1_again 21 = .ok (.aload_n 0, 1) := dk_42 (dk_at dksX1_again_0 21 rfl rfl)
theorem dX1_again_22 : decode cX1_again 22 = .ok (.getfield 77, 3) := dk_180 0 77 (dk_at dksX1_again_1 0 rfl rfl)
theorem dX1_again_25 : decode cX1_again 25 = .ok (.iload_n 1, 1) := dk_27 (dk_at dksX1_again_1 3 rfl rfl)
theorem dX1_again_26 : decode cX1_again 26 = .ok (.aaload, 1) := dk_50 (dk_at dksX1_again_1 4 rfl rfl)
theorem dX1_again_27 : decode cX1_again 27 = .ok (.getfield 450, 3) := dk_180 1 194 (dk_at dksX1_again_1 5 rfl rfl)
theorem dX1_again_30 : decode cX1_again 30 = .ok (.aload_n 0, 1) := dk_42 (dk_at dksX1_again_1 8 rfl rfl)
theorem dX1_again_31 : decode cX1_again 31 = .ok (.getfield 170, 3) := dk_180 0 170 (dk_at dksX1_again_1 9 rfl rfl)
theorem dX1_again_34 : decode cX1_again 34 = .ok (.if_icmp .eq 5, 3) := dk_159 0 5 (dk_at dksX1_again_1 12 rfl rfl)
theorem dX1_again_37 : decode cX1_again 37 = .ok (.iconst 0, 1) := dk_3 (dk_at dksX1_again_1 15 rfl rfl)
theorem dX1_again_38 : decode cX1_again 38 = .ok (.ireturn, 1) := dk_172 (dk_at dksX1_again_1 16 rfl rfl)
theorem dX1_again_39 : decode cX1_again 39 = .ok (.aload_n 0, 1) := dk_42 (dk_at dksX1_again_1 17 rfl rfl)
theorem dX1_again_40 : decode cX1_again 40 = .ok (.getfield 10, 3) := dk_180 0 10 (dk_at dksX1_again_1 18 rfl rfl)
theorem dX1_again_43 : decode cX1_again 43 = .ok (.aload_n 0, 1) := dk_42 (dk_at dksX1_again_1 21 rfl rfl)
theorem dX1_again_44 : decode cX1_again 44 = .ok (.getfield 77, 3) := dk_180 0 77 (dk_at dksX1_again_2 0 rfl rfl)
theorem dX1_again_47 : decode cX1_again 47 = .ok (.iload_n 1, 1) := dk_27 (dk_at dksX1_again_2 3 rfl rfl)
theorem dX1_again_48 : decode cX1_again 48 = .ok (.aaload, 1) := dk_50 (dk_at dksX1_again_2 4 rfl rfl)
theorem dX1_again_49 : decode cX1_again 49 = .ok (.getfield 453, 3) := dk_180 1 197 (dk_at dksX1_again_2 5 rfl rfl)
theorem dX1_again_52 : decode cX1_again 52 = .ok (.invokevirtual 274, 3) := dk_182 1 18 (dk_at dksX1_again_2 8 rfl rfl)
theorem dX1_again_55 : decode cX1_again 55 = .ok (.aload_n 0, 1) := dk_42 (dk_at dksX1_again_2 11 rfl rfl)
theorem dX1_again_56 : decode cX1_again 56 = .ok (.iconst 0, 1) := dk_3 (dk_at dksX1_again_2 12 rfl rfl)
theorem dX1_again_57 : decode cX1_again 57 = .ok (.putfield 132, 3) := dk_181 0 132 (dk_at dksX1_again_2 13 rfl rfl)
theorem dX1_again_60 : decode cX1_again 60 = .ok (.iconst 1, 1) := dk_4 (dk_at dksX1_again_2 16 rfl rfl)
theorem dX1_again_61 : decode cX1_again 61 = .ok (.ireturn, 1) := dk_172 (dk_at dksX1_again_2 17 rfl rfl)
abbrev cX1_count : ByteArray := prog_1_method_78_code
def yX1_count : MethodName := ⟨RX1, "count", "(I)I"⟩
def dkwX1_count_6 : List UInt8 := [180, 0, 96, 172, 16, 156, 172]
abbrev dktX1_count_6 : List UInt8 := dkwX1_count_6 ++ []
def dkwX1_count_5 : List UInt8 := [180, 0, 214, 184, 1, 71, 172, 42, 180, 0, 129, 172, 42, 180, 0, 132, 172, 42, 180, 0, 84, 172, 42]
abbrev dktX1_count_5 : List UInt8 := dkwX1_count_5 ++ dktX1_count_6
def dkwX1_count_4 : List UInt8 := [42, 180, 0, 42, 182, 1, 80, 172, 42, 180, 0, 10, 42, 180, 0, 91, 182, 1, 48, 172, 42, 180, 0, 10]
abbrev dktX1_count_4 : List UInt8 := dkwX1_count_4 ++ dktX1_count_5
def dkwX1_count_3 : List UInt8 := [180, 0, 46, 172, 42, 180, 0, 10, 180, 0, 224, 172, 42, 180, 0, 10, 180, 0, 193, 172, 42, 180, 0, 10]
abbrev dktX1_count_3 : List UInt8 := dkwX1_count_3 ++ dktX1_count_4
def dkwX1_count_2 : List UInt8 := [42, 180, 0, 42, 172, 42, 180, 0, 91, 172, 42, 180, 0, 10, 180, 1, 58, 172, 42, 180, 0, 190, 172, 42]
abbrev dktX1_count_2 : List UInt8 := dkwX1_count_2 ++ dktX1_count_3
def dkwX1_count_1 : List UInt8 := [170, 0, 0, 0, 0, 0, 170, 0, 0, 0, 0, 0, 0, 0, 13, 0, 0, 0, 71, 0, 0, 0, 76, 0, 0, 0, 81, 0, 0, 0, 89, 0, 0, 0, 94, 0, 0, 0, 99, 0, 0, 0, 107, 0, 0, 0, 115, 0, 0, 0, 127, 0, 0, 0, 139, 0, 0, 0, 150, 0, 0, 0, 155, 0, 0, 0, 160, 0, 0, 0, 165]
abbrev dktX1_count_1 : List UInt8 := dkwX1_count_1 ++ dktX1_count_2
def dkwX1_count_0 : List UInt8 := [27]
abbrev dktX1_count_0 : List UInt8 := dkwX1_count_0 ++ dktX1_count_1
theorem dksX1_count_0 : cX1_count.data.toList.drop 0 = dktX1_count_0 := by decide +kernel
theorem dksX1_count_1 : cX1_count.data.toList.drop 1 = dktX1_count_1 := dk_seg dksX1_count_0 1 rfl rfl
theorem dksX1_count_2 : cX1_count.data.toList.drop 72 = dktX1_count_2 := dk_seg dksX1_count_1 71 rfl rfl
theorem dksX1_count_3 : cX1_count.data.toList.drop 96 = dktX1_count_3 := dk_seg dksX1_count_2 24 rfl rfl
theorem dksX1_count_4 : cX1_count.data.toList.drop 120 = dktX1_count_4 := dk_seg dksX1_count_3 24 rfl rfl
theorem dksX1_count_5 : cX1_count.data.toList.drop 144 = dktX1_count_5 := dk_seg dksX1_count_4 24 rfl rfl
theorem dksX1_count_6 : cX1_count.data.toList.drop 167 = dktX1_count_6 := dk_seg dksX1_count_5 23 rfl rfl
theorem dX1_count_0 : decode cX1_count 0 = .ok (.iload_n 1, 1) := dk_27 (dk_at dksX1_count_0 0 rfl rfl)
theorem dX1_count_1 : decode cX1_count 1 = .ok (.tableswitch 170 0 13 #[71, 76, 81, 89, 94, 99, 107, 115, 127, 139, 150, 155, 160, 165], 71) := by decide +kernel
theorem dX1_count_72 : decode cX1_count 72 = .ok (.aload_n 0, 1) := dk_42 (dk_at dksX1_count_2 0 rfl rfl)
theorem dX1_count_73 : decode cX1_count 73 = .ok (.getfield 42, 3) := dk_180 0 42 (dk_at dksX1_count_2 1 rfl rfl)
theorem dX1_count_76 : decode cX1_count 76 = .ok (.ireturn, 1) := dk_172 (dk_at dksX1_count_2 4 rfl rfl)
theorem dX1_count_77 : decode cX1_count 77 = .ok (.aload_n 0, 1) := dk_42 (dk_at dksX1_count_2 5 rfl rfl)
theorem dX1_count_78 : decode cX1_count 78 = .ok (.getfield 91, 3) := dk_180 0 91 (dk_at dksX1_count_2 6 rfl rfl)
theorem dX1_count_81 : decode cX1_count 81 = .ok (.ireturn, 1) := dk_172 (dk_at dksX1_count_2 9 rfl rfl)
theorem dX1_count_82 : decode cX1_count 82 = .ok (.aload_n 0, 1) := dk_42 (dk_at dksX1_count_2 10 rfl rfl)
theorem dX1_count_83 : decode cX1_count 83 = .ok (.getfield 10, 3) := dk_180 0 10 (dk_at dksX1_count_2 11 rfl rfl)
theorem dX1_count_86 : decode cX1_count 86 = .ok (.getfield 314, 3) := dk_180 1 58 (dk_at dksX1_count_2 14 rfl rfl)
theorem dX1_count_89 : decode cX1_count 89 = .ok (.ireturn, 1) := dk_172 (dk_at dksX1_count_2 17 rfl rfl)
theorem dX1_count_90 : decode cX1_count 90 = .ok (.aload_n 0, 1) := dk_42 (dk_at dksX1_count_2 18 rfl rfl)
theorem dX1_count_91 : decode cX1_count 91 = .ok (.getfield 190, 3) := dk_180 0 190 (dk_at dksX1_count_2 19 rfl rfl)
theorem dX1_count_94 : decode cX1_count 94 = .ok (.ireturn, 1) := dk_172 (dk_at dksX1_count_2 22 rfl rfl)
theorem dX1_count_95 : decode cX1_count 95 = .ok (.aload_n 0, 1) := dk_42 (dk_at dksX1_count_2 23 rfl rfl)
theorem dX1_count_96 : decode cX1_count 96 = .ok (.getfield 46, 3) := dk_180 0 46 (dk_at dksX1_count_3 0 rfl rfl)
theorem dX1_count_99 : decode cX1_count 99 = .ok (.ireturn, 1) := dk_172 (dk_at dksX1_count_3 3 rfl rfl)
theorem dX1_count_100 : decode cX1_count 100 = .ok (.aload_n 0, 1) := dk_42 (dk_at dksX1_count_3 4 rfl rfl)
theorem dX1_count_101 : decode cX1_count 101 = .ok (.getfield 10, 3) := dk_180 0 10 (dk_at dksX1_count_3 5 rfl rfl)
theorem dX1_count_104 : decode cX1_count 104 = .ok (.getfield 224, 3) := dk_180 0 224 (dk_at dksX1_count_3 8 rfl rfl)
theorem dX1_count_107 : decode cX1_count 107 = .ok (.ireturn, 1) := dk_172 (dk_at dksX1_count_3 11 rfl rfl)
theorem dX1_count_108 : decode cX1_count 108 = .ok (.aload_n 0, 1) := dk_42 (dk_at dksX1_count_3 12 rfl rfl)
theorem dX1_count_109 : decode cX1_count 109 = .ok (.getfield 10, 3) := dk_180 0 10 (dk_at dksX1_count_3 13 rfl rfl)
theorem dX1_count_112 : decode cX1_count 112 = .ok (.getfield 193, 3) := dk_180 0 193 (dk_at dksX1_count_3 16 rfl rfl)
theorem dX1_count_115 : decode cX1_count 115 = .ok (.ireturn, 1) := dk_172 (dk_at dksX1_count_3 19 rfl rfl)
theorem dX1_count_116 : decode cX1_count 116 = .ok (.aload_n 0, 1) := dk_42 (dk_at dksX1_count_3 20 rfl rfl)
theorem dX1_count_117 : decode cX1_count 117 = .ok (.getfield 10, 3) := dk_180 0 10 (dk_at dksX1_count_3 21 rfl rfl)
theorem dX1_count_120 : decode cX1_count 120 = .ok (.aload_n 0, 1) := dk_42 (dk_at dksX1_count_4 0 rfl rfl)
theorem dX1_count_121 : decode cX1_count 121 = .ok (.getfield 42, 3) := dk_180 0 42 (dk_at dksX1_count_4 1 rfl rfl)
theorem dX1_count_124 : decode cX1_count 124 = .ok (.invokevirtual 336, 3) := dk_182 1 80 (dk_at dksX1_count_4 4 rfl rfl)
theorem dX1_count_127 : decode cX1_count 127 = .ok (.ireturn, 1) := dk_172 (dk_at dksX1_count_4 7 rfl rfl)
theorem dX1_count_128 : decode cX1_count 128 = .ok (.aload_n 0, 1) := dk_42 (dk_at dksX1_count_4 8 rfl rfl)
theorem dX1_count_129 : decode cX1_count 129 = .ok (.getfield 10, 3) := dk_180 0 10 (dk_at dksX1_count_4 9 rfl rfl)
theorem dX1_count_132 : decode cX1_count 132 = .ok (.aload_n 0, 1) := dk_42 (dk_at dksX1_count_4 12 rfl rfl)
theorem dX1_count_133 : decode cX1_count 133 = .ok (.getfield 91, 3) := dk_180 0 91 (dk_at dksX1_count_4 13 rfl rfl)
theorem dX1_count_136 : decode cX1_count 136 = .ok (.invokevirtual 304, 3) := dk_182 1 48 (dk_at dksX1_count_4 16 rfl rfl)
theorem dX1_count_139 : decode cX1_count 139 = .ok (.ireturn, 1) := dk_172 (dk_at dksX1_count_4 19 rfl rfl)
theorem dX1_count_140 : decode cX1_count 140 = .ok (.aload_n 0, 1) := dk_42 (dk_at dksX1_count_4 20 rfl rfl)
theorem dX1_count_141 : decode cX1_count 141 = .ok (.getfield 10, 3) := dk_180 0 10 (dk_at dksX1_count_4 21 rfl rfl)
theorem dX1_count_144 : decode cX1_count 144 = .ok (.getfield 214, 3) := dk_180 0 214 (dk_at dksX1_count_5 0 rfl rfl)
theorem dX1_count_147 : decode cX1_count 147 = .ok (.invokestatic 327, 3) := dk_184 1 71 (dk_at dksX1_count_5 3 rfl rfl)
theorem dX1_count_150 : decode cX1_count 150 = .ok (.ireturn, 1) := dk_172 (dk_at dksX1_count_5 6 rfl rfl)
theorem dX1_count_151 : decode cX1_count 151 = .ok (.aload_n 0, 1) := dk_42 (dk_at dksX1_count_5 7 rfl rfl)
theorem dX1_count_152 : decode cX1_count 152 = .ok (.getfield 129, 3) := dk_180 0 129 (dk_at dksX1_count_5 8 rfl rfl)
theorem dX1_count_155 : decode cX1_count 155 = .ok (.ireturn, 1) := dk_172 (dk_at dksX1_count_5 11 rfl rfl)
theorem dX1_count_156 : decode cX1_count 156 = .ok (.aload_n 0, 1) := dk_42 (dk_at dksX1_count_5 12 rfl rfl)
theorem dX1_count_157 : decode cX1_count 157 = .ok (.getfield 132, 3) := dk_180 0 132 (dk_at dksX1_count_5 13 rfl rfl)
theorem dX1_count_160 : decode cX1_count 160 = .ok (.ireturn, 1) := dk_172 (dk_at dksX1_count_5 16 rfl rfl)
theorem dX1_count_161 : decode cX1_count 161 = .ok (.aload_n 0, 1) := dk_42 (dk_at dksX1_count_5 17 rfl rfl)
theorem dX1_count_162 : decode cX1_count 162 = .ok (.getfield 84, 3) := dk_180 0 84 (dk_at dksX1_count_5 18 rfl rfl)
theorem dX1_count_165 : decode cX1_count 165 = .ok (.ireturn, 1) := dk_172 (dk_at dksX1_count_5 21 rfl rfl)
theorem dX1_count_166 : decode cX1_count 166 = .ok (.aload_n 0, 1) := dk_42 (dk_at dksX1_count_5 22 rfl rfl)
theorem dX1_count_167 : decode cX1_count 167 = .ok (.getfield 96, 3) := dk_180 0 96 (dk_at dksX1_count_6 0 rfl rfl)
theorem dX1_count_170 : decode cX1_count 170 = .ok (.ireturn, 1) := dk_172 (dk_at dksX1_count_6 3 rfl rfl)
theorem dX1_count_171 : decode cX1_count 171 = .ok (.bipush (-100), 2) := dk_16 156 (dk_at dksX1_count_6 4 rfl rfl)
theorem dX1_count_173 : decode cX1_count 173 = .ok (.ireturn, 1) := dk_172 (dk_at dksX1_count_6 6 rfl rfl)
abbrev cX1_cell : ByteArray := prog_1_method_18_code
def yX1_cell : MethodName := ⟨RX1, "cell", "(II)I"⟩
def dkwX1_cell_5 : List UInt8 := [187, 0, 236, 89, 183, 0, 238, 191]
abbrev dktX1_cell_5 : List UInt8 := dkwX1_cell_5 ++ []
def dkwX1_cell_4 : List UInt8 := [180, 0, 10, 27, 42, 180, 0, 91, 182, 0, 242, 172, 42, 42, 180, 0, 10, 27, 182, 0, 245, 172]
abbrev dktX1_cell_4 : List UInt8 := dkwX1_cell_4 ++ dktX1_cell_5
def dkwX1_cell_3 : List UInt8 := [27, 122, 4, 126, 172, 42, 180, 0, 10, 180, 0, 239, 27, 46, 172, 42, 180, 0, 30, 27, 46, 172, 42]
abbrev dktX1_cell_3 : List UInt8 := dkwX1_cell_3 ++ dktX1_cell_4
def dkwX1_cell_2 : List UInt8 := [42, 180, 0, 26, 27, 46, 172, 42, 180, 0, 10, 180, 0, 214, 27, 46, 172, 42, 180, 0, 10, 180, 0, 193]
abbrev dktX1_cell_2 : List UInt8 := dkwX1_cell_2 ++ dktX1_cell_3
def dkwX1_cell_1 : List UInt8 := [170, 0, 0, 0, 0, 0, 112, 0, 0, 0, 0, 0, 0, 0, 6, 0, 0, 0, 43, 0, 0, 0, 50, 0, 0, 0, 60, 0, 0, 0, 72, 0, 0, 0, 82, 0, 0, 0, 89, 0, 0, 0, 102]
abbrev dktX1_cell_1 : List UInt8 := dkwX1_cell_1 ++ dktX1_cell_2
def dkwX1_cell_0 : List UInt8 := [42, 27, 182, 0, 232, 154, 0, 11, 187, 0, 236, 89, 183, 0, 238, 191, 28]
abbrev dktX1_cell_0 : List UInt8 := dkwX1_cell_0 ++ dktX1_cell_1
theorem dksX1_cell_0 : cX1_cell.data.toList.drop 0 = dktX1_cell_0 := by decide +kernel
theorem dksX1_cell_1 : cX1_cell.data.toList.drop 17 = dktX1_cell_1 := dk_seg dksX1_cell_0 17 rfl rfl
theorem dksX1_cell_2 : cX1_cell.data.toList.drop 60 = dktX1_cell_2 := dk_seg dksX1_cell_1 43 rfl rfl
theorem dksX1_cell_3 : cX1_cell.data.toList.drop 84 = dktX1_cell_3 := dk_seg dksX1_cell_2 24 rfl rfl
theorem dksX1_cell_4 : cX1_cell.data.toList.drop 107 = dktX1_cell_4 := dk_seg dksX1_cell_3 23 rfl rfl
theorem dksX1_cell_5 : cX1_cell.data.toList.drop 129 = dktX1_cell_5 := dk_seg dksX1_cell_4 22 rfl rfl
theorem dX1_cell_0 : decode cX1_cell 0 = .ok (.aload_n 0, 1) := dk_42 (dk_at dksX1_cell_0 0 rfl rfl)
theorem dX1_cell_1 : decode cX1_cell 1 = .ok (.iload_n 1, 1) := dk_27 (dk_at dksX1_cell_0 1 rfl rfl)
theorem dX1_cell_2 : decode cX1_cell 2 = .ok (.invokevirtual 232, 3) := dk_182 0 232 (dk_at dksX1_cell_0 2 rfl rfl)
theorem dX1_cell_5 : decode cX1_cell 5 = .ok (.ifCond .ne 11, 3) := dk_154 0 11 (dk_at dksX1_cell_0 5 rfl rfl)
theorem dX1_cell_8 : decode cX1_cell 8 = .ok (.new 236, 3) := dk_187 0 236 (dk_at dksX1_cell_0 8 rfl rfl)
theorem dX1_cell_11 : decode cX1_cell 11 = .ok (.dup, 1) := dk_89 (dk_at dksX1_cell_0 11 rfl rfl)
theorem dX1_cell_12 : decode cX1_cell 12 = .ok (.invokespecial 238, 3) := dk_183 0 238 (dk_at dksX1_cell_0 12 rfl rfl)
theorem dX1_cell_15 : decode cX1_cell 15 = .ok (.athrow, 1) := dk_191 (dk_at dksX1_cell_0 15 rfl rfl)
theorem dX1_cell_16 : decode cX1_cell 16 = .ok (.iload_n 2, 1) := dk_28 (dk_at dksX1_cell_0 16 rfl rfl)
theorem dX1_cell_17 : decode cX1_cell 17 = .ok (.tableswitch 112 0 6 #[43, 50, 60, 72, 82, 89, 102], 43) := by decide +kernel
theorem dX1_cell_60 : decode cX1_cell 60 = .ok (.aload_n 0, 1) := dk_42 (dk_at dksX1_cell_2 0 rfl rfl)
theorem dX1_cell_61 : decode cX1_cell 61 = .ok (.getfield 26, 3) := dk_180 0 26 (dk_at dksX1_cell_2 1 rfl rfl)
theorem dX1_cell_64 : decode cX1_cell 64 = .ok (.iload_n 1, 1) := dk_27 (dk_at dksX1_cell_2 4 rfl rfl)
theorem dX1_cell_65 : decode cX1_cell 65 = .ok (.iaload, 1) := dk_46 (dk_at dksX1_cell_2 5 rfl rfl)
theorem dX1_cell_66 : decode cX1_cell 66 = .ok (.ireturn, 1) := dk_172 (dk_at dksX1_cell_2 6 rfl rfl)
theorem dX1_cell_67 : decode cX1_cell 67 = .ok (.aload_n 0, 1) := dk_42 (dk_at dksX1_cell_2 7 rfl rfl)
theorem dX1_cell_68 : decode cX1_cell 68 = .ok (.getfield 10, 3) := dk_180 0 10 (dk_at dksX1_cell_2 8 rfl rfl)
theorem dX1_cell_71 : decode cX1_cell 71 = .ok (.getfield 214, 3) := dk_180 0 214 (dk_at dksX1_cell_2 11 rfl rfl)
theorem dX1_cell_74 : decode cX1_cell 74 = .ok (.iload_n 1, 1) := dk_27 (dk_at dksX1_cell_2 14 rfl rfl)
theorem dX1_cell_75 : decode cX1_cell 75 = .ok (.iaload, 1) := dk_46 (dk_at dksX1_cell_2 15 rfl rfl)
theorem dX1_cell_76 : decode cX1_cell 76 = .ok (.ireturn, 1) := dk_172 (dk_at dksX1_cell_2 16 rfl rfl)
theorem dX1_cell_77 : decode cX1_cell 77 = .ok (.aload_n 0, 1) := dk_42 (dk_at dksX1_cell_2 17 rfl rfl)
theorem dX1_cell_78 : decode cX1_cell 78 = .ok (.getfield 10, 3) := dk_180 0 10 (dk_at dksX1_cell_2 18 rfl rfl)
theorem dX1_cell_81 : decode cX1_cell 81 = .ok (.getfield 193, 3) := dk_180 0 193 (dk_at dksX1_cell_2 21 rfl rfl)
theorem dX1_cell_84 : decode cX1_cell 84 = .ok (.iload_n 1, 1) := dk_27 (dk_at dksX1_cell_3 0 rfl rfl)
theorem dX1_cell_85 : decode cX1_cell 85 = .ok (.ishr, 1) := dk_122 (dk_at dksX1_cell_3 1 rfl rfl)
theorem dX1_cell_86 : decode cX1_cell 86 = .ok (.iconst 1, 1) := dk_4 (dk_at dksX1_cell_3 2 rfl rfl)
theorem dX1_cell_87 : decode cX1_cell 87 = .ok (.iand, 1) := dk_126 (dk_at dksX1_cell_3 3 rfl rfl)
theorem dX1_cell_88 : decode cX1_cell 88 = .ok (.ireturn, 1) := dk_172 (dk_at dksX1_cell_3 4 rfl rfl)
theorem dX1_cell_89 : decode cX1_cell 89 = .ok (.aload_n 0, 1) := dk_42 (dk_at dksX1_cell_3 5 rfl rfl)
theorem dX1_cell_90 : decode cX1_cell 90 = .ok (.getfield 10, 3) := dk_180 0 10 (dk_at dksX1_cell_3 6 rfl rfl)
theorem dX1_cell_93 : decode cX1_cell 93 = .ok (.getfield 239, 3) := dk_180 0 239 (dk_at dksX1_cell_3 9 rfl rfl)
theorem dX1_cell_96 : decode cX1_cell 96 = .ok (.iload_n 1, 1) := dk_27 (dk_at dksX1_cell_3 12 rfl rfl)
theorem dX1_cell_97 : decode cX1_cell 97 = .ok (.iaload, 1) := dk_46 (dk_at dksX1_cell_3 13 rfl rfl)
theorem dX1_cell_98 : decode cX1_cell 98 = .ok (.ireturn, 1) := dk_172 (dk_at dksX1_cell_3 14 rfl rfl)
theorem dX1_cell_99 : decode cX1_cell 99 = .ok (.aload_n 0, 1) := dk_42 (dk_at dksX1_cell_3 15 rfl rfl)
theorem dX1_cell_100 : decode cX1_cell 100 = .ok (.getfield 30, 3) := dk_180 0 30 (dk_at dksX1_cell_3 16 rfl rfl)
theorem dX1_cell_103 : decode cX1_cell 103 = .ok (.iload_n 1, 1) := dk_27 (dk_at dksX1_cell_3 19 rfl rfl)
theorem dX1_cell_104 : decode cX1_cell 104 = .ok (.iaload, 1) := dk_46 (dk_at dksX1_cell_3 20 rfl rfl)
theorem dX1_cell_105 : decode cX1_cell 105 = .ok (.ireturn, 1) := dk_172 (dk_at dksX1_cell_3 21 rfl rfl)
theorem dX1_cell_106 : decode cX1_cell 106 = .ok (.aload_n 0, 1) := dk_42 (dk_at dksX1_cell_3 22 rfl rfl)
theorem dX1_cell_107 : decode cX1_cell 107 = .ok (.getfield 10, 3) := dk_180 0 10 (dk_at dksX1_cell_4 0 rfl rfl)
theorem dX1_cell_110 : decode cX1_cell 110 = .ok (.iload_n 1, 1) := dk_27 (dk_at dksX1_cell_4 3 rfl rfl)
theorem dX1_cell_111 : decode cX1_cell 111 = .ok (.aload_n 0, 1) := dk_42 (dk_at dksX1_cell_4 4 rfl rfl)
theorem dX1_cell_112 : decode cX1_cell 112 = .ok (.getfield 91, 3) := dk_180 0 91 (dk_at dksX1_cell_4 5 rfl rfl)
theorem dX1_cell_115 : decode cX1_cell 115 = .ok (.invokevirtual 242, 3) := dk_182 0 242 (dk_at dksX1_cell_4 8 rfl rfl)
theorem dX1_cell_118 : decode cX1_cell 118 = .ok (.ireturn, 1) := dk_172 (dk_at dksX1_cell_4 11 rfl rfl)
theorem dX1_cell_119 : decode cX1_cell 119 = .ok (.aload_n 0, 1) := dk_42 (dk_at dksX1_cell_4 12 rfl rfl)
theorem dX1_cell_120 : decode cX1_cell 120 = .ok (.aload_n 0, 1) := dk_42 (dk_at dksX1_cell_4 13 rfl rfl)
theorem dX1_cell_121 : decode cX1_cell 121 = .ok (.getfield 10, 3) := dk_180 0 10 (dk_at dksX1_cell_4 14 rfl rfl)
theorem dX1_cell_124 : decode cX1_cell 124 = .ok (.iload_n 1, 1) := dk_27 (dk_at dksX1_cell_4 17 rfl rfl)
theorem dX1_cell_125 : decode cX1_cell 125 = .ok (.invokevirtual 245, 3) := dk_182 0 245 (dk_at dksX1_cell_4 18 rfl rfl)
theorem dX1_cell_128 : decode cX1_cell 128 = .ok (.ireturn, 1) := dk_172 (dk_at dksX1_cell_4 21 rfl rfl)
theorem dX1_cell_129 : decode cX1_cell 129 = .ok (.new 236, 3) := dk_187 0 236 (dk_at dksX1_cell_5 0 rfl rfl)
theorem dX1_cell_132 : decode cX1_cell 132 = .ok (.dup, 1) := dk_89 (dk_at dksX1_cell_5 3 rfl rfl)
theorem dX1_cell_133 : decode cX1_cell 133 = .ok (.invokespecial 238, 3) := dk_183 0 238 (dk_at dksX1_cell_5 4 rfl rfl)
theorem dX1_cell_136 : decode cX1_cell 136 = .ok (.athrow, 1) := dk_191 (dk_at dksX1_cell_5 7 rfl rfl)
abbrev cX1_child : ByteArray := prog_1_method_19_code
def yX1_child : MethodName := ⟨RX1, "child", "(II)I"⟩
def dkwX1_child_5 : List UInt8 := [183, 0, 238, 191]
abbrev dktX1_child_5 : List UInt8 := dkwX1_child_5 ++ []
def dkwX1_child_4 : List UInt8 := [180, 0, 10, 180, 0, 165, 27, 46, 172, 42, 42, 180, 0, 10, 27, 182, 0, 252, 172, 187, 0, 236, 89]
abbrev dktX1_child_4 : List UInt8 := dkwX1_child_4 ++ dktX1_child_5
def dkwX1_child_3 : List UInt8 := [180, 0, 10, 180, 0, 167, 27, 46, 172, 42, 180, 0, 10, 180, 0, 224, 27, 122, 4, 126, 172, 42]
abbrev dktX1_child_3 : List UInt8 := dkwX1_child_3 ++ dktX1_child_4
def dkwX1_child_2 : List UInt8 := [42, 180, 0, 33, 27, 46, 172, 42, 180, 0, 36, 27, 46, 172, 42, 180, 0, 39, 27, 46, 172, 42]
abbrev dktX1_child_2 : List UInt8 := dkwX1_child_2 ++ dktX1_child_3
def dkwX1_child_1 : List UInt8 := [170, 0, 0, 0, 0, 0, 106, 0, 0, 0, 0, 0, 0, 0, 6, 0, 0, 0, 43, 0, 0, 0, 50, 0, 0, 0, 57, 0, 0, 0, 64, 0, 0, 0, 74, 0, 0, 0, 86, 0, 0, 0, 96]
abbrev dktX1_child_1 : List UInt8 := dkwX1_child_1 ++ dktX1_child_2
def dkwX1_child_0 : List UInt8 := [42, 27, 182, 0, 249, 154, 0, 11, 187, 0, 236, 89, 183, 0, 238, 191, 28]
abbrev dktX1_child_0 : List UInt8 := dkwX1_child_0 ++ dktX1_child_1
theorem dksX1_child_0 : cX1_child.data.toList.drop 0 = dktX1_child_0 := by decide +kernel
theorem dksX1_child_1 : cX1_child.data.toList.drop 17 = dktX1_child_1 := dk_seg dksX1_child_0 17 rfl rfl
theorem dksX1_child_2 : cX1_child.data.toList.drop 60 = dktX1_child_2 := dk_seg dksX1_child_1 43 rfl rfl
theorem dksX1_child_3 : cX1_child.data.toList.drop 82 = dktX1_child_3 := dk_seg dksX1_child_2 22 rfl rfl
theorem dksX1_child_4 : cX1_child.data.toList.drop 104 = dktX1_child_4 := dk_seg dksX1_child_3 22 rfl rfl
theorem dksX1_child_5 : cX1_child.data.toList.drop 127 = dktX1_child_5 := dk_seg dksX1_child_4 23 rfl rfl
theorem dX1_child_0 : decode cX1_child 0 = .ok (.aload_n 0, 1) := dk_42 (dk_at dksX1_child_0 0 rfl rfl)
theorem dX1_child_1 : decode cX1_child 1 = .ok (.iload_n 1, 1) := dk_27 (dk_at dksX1_child_0 1 rfl rfl)
theorem dX1_child_2 : decode cX1_child 2 = .ok (.invokevirtual 249, 3) := dk_182 0 249 (dk_at dksX1_child_0 2 rfl rfl)
theorem dX1_child_5 : decode cX1_child 5 = .ok (.ifCond .ne 11, 3) := dk_154 0 11 (dk_at dksX1_child_0 5 rfl rfl)
theorem dX1_child_8 : decode cX1_child 8 = .ok (.new 236, 3) := dk_187 0 236 (dk_at dksX1_child_0 8 rfl rfl)
theorem dX1_child_11 : decode cX1_child 11 = .ok (.dup, 1) := dk_89 (dk_at dksX1_child_0 11 rfl rfl)
theorem dX1_child_12 : decode cX1_child 12 = .ok (.invokespecial 238, 3) := dk_183 0 238 (dk_at dksX1_child_0 12 rfl rfl)
theorem dX1_child_15 : decode cX1_child 15 = .ok (.athrow, 1) := dk_191 (dk_at dksX1_child_0 15 rfl rfl)
theorem dX1_child_16 : decode cX1_child 16 = .ok (.iload_n 2, 1) := dk_28 (dk_at dksX1_child_0 16 rfl rfl)
theorem dX1_child_17 : decode cX1_child 17 = .ok (.tableswitch 106 0 6 #[43, 50, 57, 64, 74, 86, 96], 43) := by decide +kernel
theorem dX1_child_60 : decode cX1_child 60 = .ok (.aload_n 0, 1) := dk_42 (dk_at dksX1_child_2 0 rfl rfl)
theorem dX1_child_61 : decode cX1_child 61 = .ok (.getfield 33, 3) := dk_180 0 33 (dk_at dksX1_child_2 1 rfl rfl)
theorem dX1_child_64 : decode cX1_child 64 = .ok (.iload_n 1, 1) := dk_27 (dk_at dksX1_child_2 4 rfl rfl)
theorem dX1_child_65 : decode cX1_child 65 = .ok (.iaload, 1) := dk_46 (dk_at dksX1_child_2 5 rfl rfl)
theorem dX1_child_66 : decode cX1_child 66 = .ok (.ireturn, 1) := dk_172 (dk_at dksX1_child_2 6 rfl rfl)
theorem dX1_child_67 : decode cX1_child 67 = .ok (.aload_n 0, 1) := dk_42 (dk_at dksX1_child_2 7 rfl rfl)
theorem dX1_child_68 : decode cX1_child 68 = .ok (.getfield 36, 3) := dk_180 0 36 (dk_at dksX1_child_2 8 rfl rfl)
theorem dX1_child_71 : decode cX1_child 71 = .ok (.iload_n 1, 1) := dk_27 (dk_at dksX1_child_2 11 rfl rfl)
theorem dX1_child_72 : decode cX1_child 72 = .ok (.iaload, 1) := dk_46 (dk_at dksX1_child_2 12 rfl rfl)
theorem dX1_child_73 : decode cX1_child 73 = .ok (.ireturn, 1) := dk_172 (dk_at dksX1_child_2 13 rfl rfl)
theorem dX1_child_74 : decode cX1_child 74 = .ok (.aload_n 0, 1) := dk_42 (dk_at dksX1_child_2 14 rfl rfl)
theorem dX1_child_75 : decode cX1_child 75 = .ok (.getfield 39, 3) := dk_180 0 39 (dk_at dksX1_child_2 15 rfl rfl)
theorem dX1_child_78 : decode cX1_child 78 = .ok (.iload_n 1, 1) := dk_27 (dk_at dksX1_child_2 18 rfl rfl)
theorem dX1_child_79 : decode cX1_child 79 = .ok (.iaload, 1) := dk_46 (dk_at dksX1_child_2 19 rfl rfl)
theorem dX1_child_80 : decode cX1_child 80 = .ok (.ireturn, 1) := dk_172 (dk_at dksX1_child_2 20 rfl rfl)
theorem dX1_child_81 : decode cX1_child 81 = .ok (.aload_n 0, 1) := dk_42 (dk_at dksX1_child_2 21 rfl rfl)
theorem dX1_child_82 : decode cX1_child 82 = .ok (.getfield 10, 3) := dk_180 0 10 (dk_at dksX1_child_3 0 rfl rfl)
theorem dX1_child_85 : decode cX1_child 85 = .ok (.getfield 167, 3) := dk_180 0 167 (dk_at dksX1_child_3 3 rfl rfl)
theorem dX1_child_88 : decode cX1_child 88 = .ok (.iload_n 1, 1) := dk_27 (dk_at dksX1_child_3 6 rfl rfl)
theorem dX1_child_89 : decode cX1_child 89 = .ok (.iaload, 1) := dk_46 (dk_at dksX1_child_3 7 rfl rfl)
theorem dX1_child_90 : decode cX1_child 90 = .ok (.ireturn, 1) := dk_172 (dk_at dksX1_child_3 8 rfl rfl)
theorem dX1_child_91 : decode cX1_child 91 = .ok (.aload_n 0, 1) := dk_42 (dk_at dksX1_child_3 9 rfl rfl)
theorem dX1_child_92 : decode cX1_child 92 = .ok (.getfield 10, 3) := dk_180 0 10 (dk_at dksX1_child_3 10 rfl rfl)
theorem dX1_child_95 : decode cX1_child 95 = .ok (.getfield 224, 3) := dk_180 0 224 (dk_at dksX1_child_3 13 rfl rfl)
theorem dX1_child_98 : decode cX1_child 98 = .ok (.iload_n 1, 1) := dk_27 (dk_at dksX1_child_3 16 rfl rfl)
theorem dX1_child_99 : decode cX1_child 99 = .ok (.ishr, 1) := dk_122 (dk_at dksX1_child_3 17 rfl rfl)
theorem dX1_child_100 : decode cX1_child 100 = .ok (.iconst 1, 1) := dk_4 (dk_at dksX1_child_3 18 rfl rfl)
theorem dX1_child_101 : decode cX1_child 101 = .ok (.iand, 1) := dk_126 (dk_at dksX1_child_3 19 rfl rfl)
theorem dX1_child_102 : decode cX1_child 102 = .ok (.ireturn, 1) := dk_172 (dk_at dksX1_child_3 20 rfl rfl)
theorem dX1_child_103 : decode cX1_child 103 = .ok (.aload_n 0, 1) := dk_42 (dk_at dksX1_child_3 21 rfl rfl)
theorem dX1_child_104 : decode cX1_child 104 = .ok (.getfield 10, 3) := dk_180 0 10 (dk_at dksX1_child_4 0 rfl rfl)
theorem dX1_child_107 : decode cX1_child 107 = .ok (.getfield 165, 3) := dk_180 0 165 (dk_at dksX1_child_4 3 rfl rfl)
theorem dX1_child_110 : decode cX1_child 110 = .ok (.iload_n 1, 1) := dk_27 (dk_at dksX1_child_4 6 rfl rfl)
theorem dX1_child_111 : decode cX1_child 111 = .ok (.iaload, 1) := dk_46 (dk_at dksX1_child_4 7 rfl rfl)
theorem dX1_child_112 : decode cX1_child 112 = .ok (.ireturn, 1) := dk_172 (dk_at dksX1_child_4 8 rfl rfl)
theorem dX1_child_113 : decode cX1_child 113 = .ok (.aload_n 0, 1) := dk_42 (dk_at dksX1_child_4 9 rfl rfl)
theorem dX1_child_114 : decode cX1_child 114 = .ok (.aload_n 0, 1) := dk_42 (dk_at dksX1_child_4 10 rfl rfl)
theorem dX1_child_115 : decode cX1_child 115 = .ok (.getfield 10, 3) := dk_180 0 10 (dk_at dksX1_child_4 11 rfl rfl)
theorem dX1_child_118 : decode cX1_child 118 = .ok (.iload_n 1, 1) := dk_27 (dk_at dksX1_child_4 14 rfl rfl)
theorem dX1_child_119 : decode cX1_child 119 = .ok (.invokevirtual 252, 3) := dk_182 0 252 (dk_at dksX1_child_4 15 rfl rfl)
theorem dX1_child_122 : decode cX1_child 122 = .ok (.ireturn, 1) := dk_172 (dk_at dksX1_child_4 18 rfl rfl)
theorem dX1_child_123 : decode cX1_child 123 = .ok (.new 236, 3) := dk_187 0 236 (dk_at dksX1_child_4 19 rfl rfl)
theorem dX1_child_126 : decode cX1_child 126 = .ok (.dup, 1) := dk_89 (dk_at dksX1_child_4 22 rfl rfl)
theorem dX1_child_127 : decode cX1_child 127 = .ok (.invokespecial 238, 3) := dk_183 0 238 (dk_at dksX1_child_5 0 rfl rfl)
theorem dX1_child_130 : decode cX1_child 130 = .ok (.athrow, 1) := dk_191 (dk_at dksX1_child_5 3 rfl rfl)
abbrev cX1_row : ByteArray := prog_1_method_79_code
def yX1_row : MethodName := ⟨RX1, "row", "(I)J"⟩
def dkwX1_row_1 : List UInt8 := [42, 180, 0, 53, 27, 47, 173]
abbrev dktX1_row_1 : List UInt8 := dkwX1_row_1 ++ []
def dkwX1_row_0 : List UInt8 := [27, 133, 9, 42, 180, 0, 84, 4, 100, 133, 184, 0, 87, 154, 0, 11, 187, 0, 236, 89, 183, 0, 238, 191]
abbrev dktX1_row_0 : List UInt8 := dkwX1_row_0 ++ dktX1_row_1
theorem dksX1_row_0 : cX1_row.data.toList.drop 0 = dktX1_row_0 := by decide +kernel
theorem dksX1_row_1 : cX1_row.data.toList.drop 24 = dktX1_row_1 := dk_seg dksX1_row_0 24 rfl rfl
theorem dX1_row_0 : decode cX1_row 0 = .ok (.iload_n 1, 1) := dk_27 (dk_at dksX1_row_0 0 rfl rfl)
theorem dX1_row_1 : decode cX1_row 1 = .ok (.i2l, 1) := dk_133 (dk_at dksX1_row_0 1 rfl rfl)
theorem dX1_row_2 : decode cX1_row 2 = .ok (.lconst 0, 1) := dk_9 (dk_at dksX1_row_0 2 rfl rfl)
theorem dX1_row_3 : decode cX1_row 3 = .ok (.aload_n 0, 1) := dk_42 (dk_at dksX1_row_0 3 rfl rfl)
theorem dX1_row_4 : decode cX1_row 4 = .ok (.getfield 84, 3) := dk_180 0 84 (dk_at dksX1_row_0 4 rfl rfl)
theorem dX1_row_7 : decode cX1_row 7 = .ok (.iconst 1, 1) := dk_4 (dk_at dksX1_row_0 7 rfl rfl)
theorem dX1_row_8 : decode cX1_row 8 = .ok (.isub, 1) := dk_100 (dk_at dksX1_row_0 8 rfl rfl)
theorem dX1_row_9 : decode cX1_row 9 = .ok (.i2l, 1) := dk_133 (dk_at dksX1_row_0 9 rfl rfl)
theorem dX1_row_10 : decode cX1_row 10 = .ok (.invokestatic 87, 3) := dk_184 0 87 (dk_at dksX1_row_0 10 rfl rfl)
theorem dX1_row_13 : decode cX1_row 13 = .ok (.ifCond .ne 11, 3) := dk_154 0 11 (dk_at dksX1_row_0 13 rfl rfl)
theorem dX1_row_16 : decode cX1_row 16 = .ok (.new 236, 3) := dk_187 0 236 (dk_at dksX1_row_0 16 rfl rfl)
theorem dX1_row_19 : decode cX1_row 19 = .ok (.dup, 1) := dk_89 (dk_at dksX1_row_0 19 rfl rfl)
theorem dX1_row_20 : decode cX1_row 20 = .ok (.invokespecial 238, 3) := dk_183 0 238 (dk_at dksX1_row_0 20 rfl rfl)
theorem dX1_row_23 : decode cX1_row 23 = .ok (.athrow, 1) := dk_191 (dk_at dksX1_row_0 23 rfl rfl)
theorem dX1_row_24 : decode cX1_row 24 = .ok (.aload_n 0, 1) := dk_42 (dk_at dksX1_row_1 0 rfl rfl)
theorem dX1_row_25 : decode cX1_row 25 = .ok (.getfield 53, 3) := dk_180 0 53 (dk_at dksX1_row_1 1 rfl rfl)
theorem dX1_row_28 : decode cX1_row 28 = .ok (.iload_n 1, 1) := dk_27 (dk_at dksX1_row_1 4 rfl rfl)
theorem dX1_row_29 : decode cX1_row 29 = .ok (.laload, 1) := dk_47 (dk_at dksX1_row_1 5 rfl rfl)
theorem dX1_row_30 : decode cX1_row 30 = .ok (.lreturn, 1) := dk_173 (dk_at dksX1_row_1 6 rfl rfl)
theorem q94 : (Jvm.Cond.initialized "SandKeepsSea") ∈ lw_all := lw_g (lw_at lw_m1 1 rfl) rfl
theorem q121 : (Jvm.Cond.instantiable "SandKeepsSea" (32 : Nat)) ∈ lw_all := lw_g (lw_at lw_m1 28 rfl) rfl
theorem q123 : (Jvm.Cond.instanceMethod ({ cls := "SandKeepsSea", name := "<init>", desc := "()V" } : Jvm.MethodName)) ∈ lw_all := lw_g (lw_at lw_m1 30 rfl) rfl
theorem q124 : (Jvm.Cond.code ({ cls := "SandKeepsSea", name := "<init>", desc := "()V" } : Jvm.MethodName) prog_1_method_3_code (2 : Nat) (Option.none : Option Jvm.ClassFile.FieldType)) ∈ lw_all := lw_g (lw_at lw_m1 31 rfl) rfl
theorem q125 : (Jvm.Cond.methodLink "SandKeepsSea" (1 : Nat) ({ cls := "java/lang/Object", name := "<init>", desc := "()V" } : Jvm.MethodName)) ∈ lw_all := lw_g (lw_at lw_m1 32 rfl) rfl
theorem q128 : (Jvm.Cond.classLink "SandKeepsSea" (7 : Nat) "SandKeepsSea$Beach") ∈ lw_all := lw_g (lw_at lw_m1 35 rfl) rfl
theorem q130 : (Jvm.Cond.methodLinkNest "SandKeepsSea" (9 : Nat) ({ cls := "SandKeepsSea$Beach", name := "<init>", desc := "()V" } : Jvm.MethodName) "SandKeepsSea") ∈ lw_tbl := lw_at lw_m1 37 rfl
theorem q135 : (Jvm.Cond.fieldLink "SandKeepsSea" (214 : Nat) "SandKeepsSea$Beach" "wall" "[I") ∈ lw_all := lw_g (lw_at lw_m1 42 rfl) rfl
theorem q137 : (Jvm.Cond.fieldLink "SandKeepsSea" (239 : Nat) "SandKeepsSea$Beach" "depth" "[I") ∈ lw_all := lw_g (lw_at lw_m1 44 rfl) rfl
theorem q141 : (Jvm.Cond.fieldLink "SandKeepsSea" (165 : Nat) "SandKeepsSea$Beach" "at" "[I") ∈ lw_all := lw_g (lw_at lw_m1 48 rfl) rfl
theorem q144 : (Jvm.Cond.fieldLink "SandKeepsSea" (167 : Nat) "SandKeepsSea$Beach" "mood" "[I") ∈ lw_all := lw_g (lw_at lw_m1 51 rfl) rfl
theorem q146 : (Jvm.Cond.fieldLink "SandKeepsSea" (193 : Nat) "SandKeepsSea$Beach" "moats" "I") ∈ lw_all := lw_g (lw_at lw_m1 53 rfl) rfl
theorem q148 : (Jvm.Cond.fieldLink "SandKeepsSea" (224 : Nat) "SandKeepsSea$Beach" "spades" "I") ∈ lw_all := lw_g (lw_at lw_m1 55 rfl) rfl
theorem q151 : (Jvm.Cond.fieldLink "SandKeepsSea" (314 : Nat) "SandKeepsSea$Beach" "tide" "I") ∈ lw_all := lw_g (lw_at lw_m1 58 rfl) rfl
theorem q169 : (Jvm.Cond.classLink "SandKeepsSea" (75 : Nat) "SandKeepsSea$Page") ∈ lw_all := lw_g (lw_at lw_m1 76 rfl) rfl
theorem q171 : (Jvm.Cond.methodLink "SandKeepsSea" (81 : Nat) ({ cls := "SandKeepsSea$Beach", name := "clear", desc := "()V" } : Jvm.MethodName)) ∈ lw_all := lw_g (lw_at lw_m1 78 rfl) rfl
theorem q180 : (Jvm.Cond.fieldLink "SandKeepsSea" (10 : Nat) "SandKeepsSea" "now" "LSandKeepsSea$Beach;") ∈ lw_all := lw_g (lw_at lw_m1 87 rfl) rfl
theorem q183 : (Jvm.Cond.fieldLink "SandKeepsSea" (16 : Nat) "SandKeepsSea" "aside" "LSandKeepsSea$Beach;") ∈ lw_all := lw_g (lw_at lw_m1 90 rfl) rfl
theorem q186 : (Jvm.Cond.fieldLink "SandKeepsSea" (19 : Nat) "SandKeepsSea" "tried" "LSandKeepsSea$Beach;") ∈ lw_all := lw_g (lw_at lw_m1 93 rfl) rfl
theorem q187 : (Jvm.Cond.fieldLink "SandKeepsSea" (22 : Nat) "SandKeepsSea" "ahead" "[LSandKeepsSea$Beach;") ∈ lw_all := lw_g (lw_at lw_m1 94 rfl) rfl
theorem q188 : (Jvm.Cond.fieldLink "SandKeepsSea" (26 : Nat) "SandKeepsSea" "base" "[I") ∈ lw_all := lw_g (lw_at lw_m1 95 rfl) rfl
theorem q189 : (Jvm.Cond.fieldLink "SandKeepsSea" (30 : Nat) "SandKeepsSea" "dyke" "[I") ∈ lw_all := lw_g (lw_at lw_m1 96 rfl) rfl
theorem q190 : (Jvm.Cond.fieldLink "SandKeepsSea" (33 : Nat) "SandKeepsSea" "age" "[I") ∈ lw_all := lw_g (lw_at lw_m1 97 rfl) rfl
theorem q191 : (Jvm.Cond.fieldLink "SandKeepsSea" (36 : Nat) "SandKeepsSea" "skill" "[I") ∈ lw_all := lw_g (lw_at lw_m1 98 rfl) rfl
theorem q192 : (Jvm.Cond.fieldLink "SandKeepsSea" (39 : Nat) "SandKeepsSea" "friend" "[I") ∈ lw_all := lw_g (lw_at lw_m1 99 rfl) rfl
theorem q195 : (Jvm.Cond.fieldLink "SandKeepsSea" (42 : Nat) "SandKeepsSea" "cells" "I") ∈ lw_all := lw_g (lw_at lw_m1 102 rfl) rfl
theorem q199 : (Jvm.Cond.fieldLink "SandKeepsSea" (91 : Nat) "SandKeepsSea" "kids" "I") ∈ lw_all := lw_g (lw_at lw_m1 106 rfl) rfl
theorem q201 : (Jvm.Cond.fieldLink "SandKeepsSea" (190 : Nat) "SandKeepsSea" "wind" "I") ∈ lw_all := lw_g (lw_at lw_m1 108 rfl) rfl
theorem q202 : (Jvm.Cond.fieldLink "SandKeepsSea" (46 : Nat) "SandKeepsSea" "spades" "I") ∈ lw_all := lw_g (lw_at lw_m1 109 rfl) rfl
theorem q204 : (Jvm.Cond.fieldLink "SandKeepsSea" (170 : Nat) "SandKeepsSea" "came" "I") ∈ lw_all := lw_g (lw_at lw_m1 111 rfl) rfl
theorem q205 : (Jvm.Cond.fieldLink "SandKeepsSea" (132 : Nat) "SandKeepsSea" "undoMany" "I") ∈ lw_all := lw_g (lw_at lw_m1 112 rfl) rfl
theorem q206 : (Jvm.Cond.fieldLink "SandKeepsSea" (49 : Nat) "SandKeepsSea" "text" "[B") ∈ lw_all := lw_g (lw_at lw_m1 113 rfl) rfl
theorem q207 : (Jvm.Cond.fieldLink "SandKeepsSea" (96 : Nat) "SandKeepsSea" "typed" "I") ∈ lw_all := lw_g (lw_at lw_m1 114 rfl) rfl
theorem q208 : (Jvm.Cond.fieldLink "SandKeepsSea" (53 : Nat) "SandKeepsSea" "row" "[J") ∈ lw_all := lw_g (lw_at lw_m1 115 rfl) rfl
theorem q209 : (Jvm.Cond.fieldLink "SandKeepsSea" (84 : Nat) "SandKeepsSea" "rowMany" "I") ∈ lw_all := lw_g (lw_at lw_m1 116 rfl) rfl
theorem q210 : (Jvm.Cond.fieldLink "SandKeepsSea" (178 : Nat) "SandKeepsSea" "rule" "LSandKeepsSea$Rule;") ∈ lw_all := lw_g (lw_at lw_m1 117 rfl) rfl
theorem q211 : (Jvm.Cond.fieldLink "SandKeepsSea" (57 : Nat) "SandKeepsSea" "sand" "[I") ∈ lw_all := lw_g (lw_at lw_m1 118 rfl) rfl
theorem q212 : (Jvm.Cond.fieldLink "SandKeepsSea" (361 : Nat) "SandKeepsSea" "lastLevel" "I") ∈ lw_all := lw_g (lw_at lw_m1 119 rfl) rfl
theorem q213 : (Jvm.Cond.fieldLink "SandKeepsSea" (364 : Nat) "SandKeepsSea" "lastBroken" "I") ∈ lw_all := lw_g (lw_at lw_m1 120 rfl) rfl
theorem q214 : (Jvm.Cond.fieldLink "SandKeepsSea" (60 : Nat) "SandKeepsSea" "raised" "[I") ∈ lw_all := lw_g (lw_at lw_m1 121 rfl) rfl
theorem q215 : (Jvm.Cond.fieldLink "SandKeepsSea" (63 : Nat) "SandKeepsSea" "heap" "[I") ∈ lw_all := lw_g (lw_at lw_m1 122 rfl) rfl
theorem q216 : (Jvm.Cond.fieldLink "SandKeepsSea" (66 : Nat) "SandKeepsSea" "row0" "[I") ∈ lw_all := lw_g (lw_at lw_m1 123 rfl) rfl
theorem q217 : (Jvm.Cond.fieldLink "SandKeepsSea" (69 : Nat) "SandKeepsSea" "least" "[I") ∈ lw_all := lw_g (lw_at lw_m1 124 rfl) rfl
theorem q218 : (Jvm.Cond.fieldLink "SandKeepsSea" (72 : Nat) "SandKeepsSea" "been" "[I") ∈ lw_all := lw_g (lw_at lw_m1 125 rfl) rfl
theorem q219 : (Jvm.Cond.fieldLink "SandKeepsSea" (129 : Nat) "SandKeepsSea" "seenBits" "I") ∈ lw_all := lw_g (lw_at lw_m1 126 rfl) rfl
theorem q220 : (Jvm.Cond.fieldLink "SandKeepsSea" (408 : Nat) "SandKeepsSea" "found" "I") ∈ lw_all := lw_g (lw_at lw_m1 127 rfl) rfl
theorem q221 : (Jvm.Cond.fieldLink "SandKeepsSea" (438 : Nat) "SandKeepsSea" "drawn" "I") ∈ lw_all := lw_g (lw_at lw_m1 128 rfl) rfl
theorem q222 : (Jvm.Cond.fieldLink "SandKeepsSea" (77 : Nat) "SandKeepsSea" "pages" "[LSandKeepsSea$Page;") ∈ lw_all := lw_g (lw_at lw_m1 129 rfl) rfl
theorem q223 : (Jvm.Cond.laysFinal "SandKeepsSea" "SandKeepsSea" "now" "LSandKeepsSea$Beach;") ∈ lw_all := lw_g (lw_at lw_m1 130 rfl) rfl
theorem q224 : (Jvm.Cond.soleField "SandKeepsSea" "now") ∈ lw_all := lw_g (lw_at lw_m1 131 rfl) rfl
theorem q225 : (Jvm.Cond.laysFinal "SandKeepsSea" "SandKeepsSea" "aside" "LSandKeepsSea$Beach;") ∈ lw_all := lw_g (lw_at lw_m1 132 rfl) rfl
theorem q226 : (Jvm.Cond.soleField "SandKeepsSea" "aside") ∈ lw_all := lw_g (lw_at lw_m1 133 rfl) rfl
theorem q227 : (Jvm.Cond.laysFinal "SandKeepsSea" "SandKeepsSea" "tried" "LSandKeepsSea$Beach;") ∈ lw_all := lw_g (lw_at lw_m1 134 rfl) rfl
theorem q228 : (Jvm.Cond.soleField "SandKeepsSea" "tried") ∈ lw_all := lw_g (lw_at lw_m1 135 rfl) rfl
theorem q229 : (Jvm.Cond.laysFinal "SandKeepsSea" "SandKeepsSea" "ahead" "[LSandKeepsSea$Beach;") ∈ lw_all := lw_g (lw_at lw_m1 136 rfl) rfl
theorem q230 : (Jvm.Cond.soleField "SandKeepsSea" "ahead") ∈ lw_all := lw_g (lw_at lw_m1 137 rfl) rfl
theorem q231 : (Jvm.Cond.laysFinal "SandKeepsSea" "SandKeepsSea" "base" "[I") ∈ lw_all := lw_g (lw_at lw_m1 138 rfl) rfl
theorem q232 : (Jvm.Cond.soleField "SandKeepsSea" "base") ∈ lw_all := lw_g (lw_at lw_m1 139 rfl) rfl
theorem q233 : (Jvm.Cond.laysFinal "SandKeepsSea" "SandKeepsSea" "dyke" "[I") ∈ lw_all := lw_g (lw_at lw_m1 140 rfl) rfl
theorem q234 : (Jvm.Cond.soleField "SandKeepsSea" "dyke") ∈ lw_all := lw_g (lw_at lw_m1 141 rfl) rfl
theorem q235 : (Jvm.Cond.laysFinal "SandKeepsSea" "SandKeepsSea" "age" "[I") ∈ lw_all := lw_g (lw_at lw_m1 142 rfl) rfl
theorem q236 : (Jvm.Cond.soleField "SandKeepsSea" "age") ∈ lw_all := lw_g (lw_at lw_m1 143 rfl) rfl
theorem q237 : (Jvm.Cond.laysFinal "SandKeepsSea" "SandKeepsSea" "skill" "[I") ∈ lw_all := lw_g (lw_at lw_m1 144 rfl) rfl
theorem q238 : (Jvm.Cond.soleField "SandKeepsSea" "skill") ∈ lw_all := lw_g (lw_at lw_m1 145 rfl) rfl
theorem q239 : (Jvm.Cond.laysFinal "SandKeepsSea" "SandKeepsSea" "friend" "[I") ∈ lw_all := lw_g (lw_at lw_m1 146 rfl) rfl
theorem q240 : (Jvm.Cond.soleField "SandKeepsSea" "friend") ∈ lw_all := lw_g (lw_at lw_m1 147 rfl) rfl
theorem q241 : (Jvm.Cond.lays "SandKeepsSea" "SandKeepsSea" "cells" "I") ∈ lw_all := lw_g (lw_at lw_m1 148 rfl) rfl
theorem q242 : (Jvm.Cond.soleField "SandKeepsSea" "cells") ∈ lw_all := lw_g (lw_at lw_m1 149 rfl) rfl
theorem q243 : (Jvm.Cond.lays "SandKeepsSea" "SandKeepsSea" "kids" "I") ∈ lw_all := lw_g (lw_at lw_m1 150 rfl) rfl
theorem q244 : (Jvm.Cond.soleField "SandKeepsSea" "kids") ∈ lw_all := lw_g (lw_at lw_m1 151 rfl) rfl
theorem q245 : (Jvm.Cond.lays "SandKeepsSea" "SandKeepsSea" "wind" "I") ∈ lw_all := lw_g (lw_at lw_m1 152 rfl) rfl
theorem q246 : (Jvm.Cond.soleField "SandKeepsSea" "wind") ∈ lw_all := lw_g (lw_at lw_m1 153 rfl) rfl
theorem q247 : (Jvm.Cond.lays "SandKeepsSea" "SandKeepsSea" "spades" "I") ∈ lw_all := lw_g (lw_at lw_m1 154 rfl) rfl
theorem q248 : (Jvm.Cond.soleField "SandKeepsSea" "spades") ∈ lw_all := lw_g (lw_at lw_m1 155 rfl) rfl
theorem q249 : (Jvm.Cond.lays "SandKeepsSea" "SandKeepsSea" "came" "I") ∈ lw_all := lw_g (lw_at lw_m1 156 rfl) rfl
theorem q250 : (Jvm.Cond.soleField "SandKeepsSea" "came") ∈ lw_all := lw_g (lw_at lw_m1 157 rfl) rfl
theorem q251 : (Jvm.Cond.lays "SandKeepsSea" "SandKeepsSea" "undoMany" "I") ∈ lw_all := lw_g (lw_at lw_m1 158 rfl) rfl
theorem q252 : (Jvm.Cond.soleField "SandKeepsSea" "undoMany") ∈ lw_all := lw_g (lw_at lw_m1 159 rfl) rfl
theorem q253 : (Jvm.Cond.laysFinal "SandKeepsSea" "SandKeepsSea" "text" "[B") ∈ lw_all := lw_g (lw_at lw_m1 160 rfl) rfl
theorem q254 : (Jvm.Cond.soleField "SandKeepsSea" "text") ∈ lw_all := lw_g (lw_at lw_m1 161 rfl) rfl
theorem q255 : (Jvm.Cond.lays "SandKeepsSea" "SandKeepsSea" "typed" "I") ∈ lw_all := lw_g (lw_at lw_m1 162 rfl) rfl
theorem q256 : (Jvm.Cond.soleField "SandKeepsSea" "typed") ∈ lw_all := lw_g (lw_at lw_m1 163 rfl) rfl
theorem q257 : (Jvm.Cond.laysFinal "SandKeepsSea" "SandKeepsSea" "row" "[J") ∈ lw_all := lw_g (lw_at lw_m1 164 rfl) rfl
theorem q258 : (Jvm.Cond.soleField "SandKeepsSea" "row") ∈ lw_all := lw_g (lw_at lw_m1 165 rfl) rfl
theorem q259 : (Jvm.Cond.lays "SandKeepsSea" "SandKeepsSea" "rowMany" "I") ∈ lw_all := lw_g (lw_at lw_m1 166 rfl) rfl
theorem q260 : (Jvm.Cond.soleField "SandKeepsSea" "rowMany") ∈ lw_all := lw_g (lw_at lw_m1 167 rfl) rfl
theorem q261 : (Jvm.Cond.lays "SandKeepsSea" "SandKeepsSea" "rule" "LSandKeepsSea$Rule;") ∈ lw_all := lw_g (lw_at lw_m1 168 rfl) rfl
theorem q262 : (Jvm.Cond.soleField "SandKeepsSea" "rule") ∈ lw_all := lw_g (lw_at lw_m1 169 rfl) rfl
theorem q263 : (Jvm.Cond.laysFinal "SandKeepsSea" "SandKeepsSea" "sand" "[I") ∈ lw_all := lw_g (lw_at lw_m1 170 rfl) rfl
theorem q264 : (Jvm.Cond.soleField "SandKeepsSea" "sand") ∈ lw_all := lw_g (lw_at lw_m1 171 rfl) rfl
theorem q265 : (Jvm.Cond.lays "SandKeepsSea" "SandKeepsSea" "lastLevel" "I") ∈ lw_all := lw_g (lw_at lw_m1 172 rfl) rfl
theorem q266 : (Jvm.Cond.soleField "SandKeepsSea" "lastLevel") ∈ lw_all := lw_g (lw_at lw_m1 173 rfl) rfl
theorem q267 : (Jvm.Cond.lays "SandKeepsSea" "SandKeepsSea" "lastBroken" "I") ∈ lw_all := lw_g (lw_at lw_m1 174 rfl) rfl
theorem q268 : (Jvm.Cond.soleField "SandKeepsSea" "lastBroken") ∈ lw_all := lw_g (lw_at lw_m1 175 rfl) rfl
theorem q269 : (Jvm.Cond.laysFinal "SandKeepsSea" "SandKeepsSea" "raised" "[I") ∈ lw_all := lw_g (lw_at lw_m1 176 rfl) rfl
theorem q270 : (Jvm.Cond.soleField "SandKeepsSea" "raised") ∈ lw_all := lw_g (lw_at lw_m1 177 rfl) rfl
theorem q271 : (Jvm.Cond.laysFinal "SandKeepsSea" "SandKeepsSea" "heap" "[I") ∈ lw_all := lw_g (lw_at lw_m1 178 rfl) rfl
theorem q272 : (Jvm.Cond.soleField "SandKeepsSea" "heap") ∈ lw_all := lw_g (lw_at lw_m1 179 rfl) rfl
theorem q273 : (Jvm.Cond.laysFinal "SandKeepsSea" "SandKeepsSea" "row0" "[I") ∈ lw_all := lw_g (lw_at lw_m1 180 rfl) rfl
theorem q274 : (Jvm.Cond.soleField "SandKeepsSea" "row0") ∈ lw_all := lw_g (lw_at lw_m1 181 rfl) rfl
theorem q275 : (Jvm.Cond.laysFinal "SandKeepsSea" "SandKeepsSea" "least" "[I") ∈ lw_all := lw_g (lw_at lw_m1 182 rfl) rfl
theorem q276 : (Jvm.Cond.soleField "SandKeepsSea" "least") ∈ lw_all := lw_g (lw_at lw_m1 183 rfl) rfl
theorem q277 : (Jvm.Cond.laysFinal "SandKeepsSea" "SandKeepsSea" "been" "[I") ∈ lw_all := lw_g (lw_at lw_m1 184 rfl) rfl
theorem q278 : (Jvm.Cond.soleField "SandKeepsSea" "been") ∈ lw_all := lw_g (lw_at lw_m1 185 rfl) rfl
theorem q279 : (Jvm.Cond.lays "SandKeepsSea" "SandKeepsSea" "seenBits" "I") ∈ lw_all := lw_g (lw_at lw_m1 186 rfl) rfl
theorem q280 : (Jvm.Cond.soleField "SandKeepsSea" "seenBits") ∈ lw_all := lw_g (lw_at lw_m1 187 rfl) rfl
theorem q281 : (Jvm.Cond.lays "SandKeepsSea" "SandKeepsSea" "found" "I") ∈ lw_all := lw_g (lw_at lw_m1 188 rfl) rfl
theorem q282 : (Jvm.Cond.soleField "SandKeepsSea" "found") ∈ lw_all := lw_g (lw_at lw_m1 189 rfl) rfl
theorem q283 : (Jvm.Cond.lays "SandKeepsSea" "SandKeepsSea" "drawn" "I") ∈ lw_all := lw_g (lw_at lw_m1 190 rfl) rfl
theorem q284 : (Jvm.Cond.soleField "SandKeepsSea" "drawn") ∈ lw_all := lw_g (lw_at lw_m1 191 rfl) rfl
theorem q285 : (Jvm.Cond.laysFinal "SandKeepsSea" "SandKeepsSea" "pages" "[LSandKeepsSea$Page;") ∈ lw_all := lw_g (lw_at lw_m1 192 rfl) rfl
theorem q286 : (Jvm.Cond.soleField "SandKeepsSea" "pages") ∈ lw_all := lw_g (lw_at lw_m1 193 rfl) rfl
theorem q287 : (Jvm.Cond.superclass "SandKeepsSea" "java/lang/Object") ∈ lw_all := lw_g (lw_at lw_m1 194 rfl) rfl
theorem q291 : (Jvm.Cond.instanceMethod ({ cls := "SandKeepsSea", name := "sign", desc := "(I)I" } : Jvm.MethodName)) ∈ lw_all := lw_g (lw_at lw_m1 198 rfl) rfl
theorem q292 : (Jvm.Cond.selects "SandKeepsSea" ({ cls := "SandKeepsSea", name := "sign", desc := "(I)I" } : Jvm.MethodName) ({ cls := "SandKeepsSea", name := "sign", desc := "(I)I" } : Jvm.MethodName)) ∈ lw_all := lw_g (lw_at lw_m1 199 rfl) rfl
theorem q293 : (Jvm.Cond.code ({ cls := "SandKeepsSea", name := "sign", desc := "(I)I" } : Jvm.MethodName) prog_1_method_8_code (3 : Nat) (Option.some Jvm.ClassFile.FieldType.int)) ∈ lw_all := lw_g (lw_at lw_m1 200 rfl) rfl
theorem q295 : (Jvm.Cond.instanceMethod ({ cls := "SandKeepsSea", name := "end", desc := "(I)Z" } : Jvm.MethodName)) ∈ lw_all := lw_g (lw_at lw_m1 202 rfl) rfl
theorem q296 : (Jvm.Cond.selects "SandKeepsSea" ({ cls := "SandKeepsSea", name := "end", desc := "(I)Z" } : Jvm.MethodName) ({ cls := "SandKeepsSea", name := "end", desc := "(I)Z" } : Jvm.MethodName)) ∈ lw_all := lw_g (lw_at lw_m1 203 rfl) rfl
theorem q297 : (Jvm.Cond.code ({ cls := "SandKeepsSea", name := "end", desc := "(I)Z" } : Jvm.MethodName) prog_1_method_9_code (2 : Nat) (Option.some Jvm.ClassFile.FieldType.boolean)) ∈ lw_all := lw_g (lw_at lw_m1 204 rfl) rfl
theorem q298 : (Jvm.Cond.methodLink "SandKeepsSea" (87 : Nat) ({ cls := "SandKeepsSea", name := "in", desc := "(JJJ)Z" } : Jvm.MethodName)) ∈ lw_all := lw_g (lw_at lw_m1 205 rfl) rfl
theorem q299 : (Jvm.Cond.static ({ cls := "SandKeepsSea", name := "in", desc := "(JJJ)Z" } : Jvm.MethodName)) ∈ lw_all := lw_g (lw_at lw_m1 206 rfl) rfl
theorem q300 : (Jvm.Cond.code ({ cls := "SandKeepsSea", name := "in", desc := "(JJJ)Z" } : Jvm.MethodName) prog_1_method_1_code (6 : Nat) (Option.some Jvm.ClassFile.FieldType.boolean)) ∈ lw_all := lw_g (lw_at lw_m1 207 rfl) rfl
theorem q302 : (Jvm.Cond.instanceMethod ({ cls := "SandKeepsSea", name := "shore", desc := "()I" } : Jvm.MethodName)) ∈ lw_all := lw_g (lw_at lw_m1 209 rfl) rfl
theorem q303 : (Jvm.Cond.selects "SandKeepsSea" ({ cls := "SandKeepsSea", name := "shore", desc := "()I" } : Jvm.MethodName) ({ cls := "SandKeepsSea", name := "shore", desc := "()I" } : Jvm.MethodName)) ∈ lw_all := lw_g (lw_at lw_m1 210 rfl) rfl
theorem q304 : (Jvm.Cond.codeWith ({ cls := "SandKeepsSea", name := "shore", desc := "()I" } : Jvm.MethodName) prog_1_method_10_code (3 : Nat) (Option.some Jvm.ClassFile.FieldType.int) [((0 : Nat), (17 : Nat), (20 : Nat), (113 : Nat))]) ∈ lw_all := lw_g (lw_at lw_m1 211 rfl) rfl
theorem q305 : (Jvm.Cond.classLink "SandKeepsSea" (113 : Nat) "SandKeepsSea$Fault") ∈ lw_all := lw_g (lw_at lw_m1 212 rfl) rfl
theorem q306 : (Jvm.Cond.classLink "SandKeepsSea" (102 : Nat) "SandKeepsSea$Shore") ∈ lw_all := lw_g (lw_at lw_m1 213 rfl) rfl
theorem q308 : (Jvm.Cond.methodLinkNest "SandKeepsSea" (104 : Nat) ({ cls := "SandKeepsSea$Shore", name := "<init>", desc := "()V" } : Jvm.MethodName) "SandKeepsSea") ∈ lw_tbl := lw_at lw_m1 215 rfl
theorem q313 : (Jvm.Cond.fieldLink "SandKeepsSea" (121 : Nat) "SandKeepsSea$Shore" "base" "[I") ∈ lw_all := lw_g (lw_at lw_m1 220 rfl) rfl
theorem q315 : (Jvm.Cond.fieldLink "SandKeepsSea" (128 : Nat) "SandKeepsSea$Shore" "dyke" "[I") ∈ lw_all := lw_g (lw_at lw_m1 222 rfl) rfl
theorem q317 : (Jvm.Cond.fieldLink "SandKeepsSea" (118 : Nat) "SandKeepsSea$Shore" "many" "I") ∈ lw_all := lw_g (lw_at lw_m1 224 rfl) rfl
theorem q325 : (Jvm.Cond.methodLink "SandKeepsSea" (105 : Nat) ({ cls := "SandKeepsSea", name := "words", desc := "(I)LSandKeepsSea$Words;" } : Jvm.MethodName)) ∈ lw_all := lw_g (lw_at lw_m1 232 rfl) rfl
theorem q326 : (Jvm.Cond.privateMethod ({ cls := "SandKeepsSea", name := "words", desc := "(I)LSandKeepsSea$Words;" } : Jvm.MethodName)) ∈ lw_tbl := lw_at lw_m1 233 rfl
theorem q327 : (Jvm.Cond.instanceMethod ({ cls := "SandKeepsSea", name := "words", desc := "(I)LSandKeepsSea$Words;" } : Jvm.MethodName)) ∈ lw_all := lw_g (lw_at lw_m1 234 rfl) rfl
theorem q328 : (Jvm.Cond.code ({ cls := "SandKeepsSea", name := "words", desc := "(I)LSandKeepsSea$Words;" } : Jvm.MethodName) prog_1_method_7_code (3 : Nat) (Option.some (Jvm.ClassFile.FieldType.object "SandKeepsSea$Words"))) ∈ lw_all := lw_g (lw_at lw_m1 235 rfl) rfl
theorem q329 : (Jvm.Cond.classLink "SandKeepsSea" (94 : Nat) "SandKeepsSea$Words") ∈ lw_all := lw_g (lw_at lw_m1 236 rfl) rfl
theorem q331 : (Jvm.Cond.methodLink "SandKeepsSea" (99 : Nat) ({ cls := "SandKeepsSea$Words", name := "<init>", desc := "([BII)V" } : Jvm.MethodName)) ∈ lw_all := lw_g (lw_at lw_m1 238 rfl) rfl
theorem q340 : (Jvm.Cond.fieldLink "SandKeepsSea" (141 : Nat) "SandKeepsSea$Words" "size" "I") ∈ lw_all := lw_g (lw_at lw_m2 7 rfl) rfl
theorem q358 : (Jvm.Cond.methodLink "SandKeepsSea" (109 : Nat) ({ cls := "SandKeepsSea$Shore", name := "read", desc := "(LSandKeepsSea$Words;)LSandKeepsSea$Shore;" } : Jvm.MethodName)) ∈ lw_all := lw_g (lw_at lw_m2 25 rfl) rfl
theorem q416 : (Jvm.Cond.fieldLinkNest "SandKeepsSea" (115 : Nat) "SandKeepsSea$Fault" "at" "I" "SandKeepsSea") ∈ lw_tbl := lw_at lw_m2 83 rfl
theorem q466 : (Jvm.Cond.methodLink "SandKeepsSea" (122 : Nat) ({ cls := "java/lang/System", name := "arraycopy", desc := "(Ljava/lang/Object;ILjava/lang/Object;II)V" } : Jvm.MethodName)) ∈ lw_all := lw_g (lw_at lw_m2 133 rfl) rfl
theorem q469 : (Jvm.Cond.methodLink "SandKeepsSea" (135 : Nat) ({ cls := "java/util/Arrays", name := "fill", desc := "([Ljava/lang/Object;Ljava/lang/Object;)V" } : Jvm.MethodName)) ∈ lw_all := lw_g (lw_at lw_m2 136 rfl) rfl
theorem q473 : (Jvm.Cond.instanceMethod ({ cls := "SandKeepsSea", name := "children", desc := "()I" } : Jvm.MethodName)) ∈ lw_all := lw_g (lw_at lw_m2 140 rfl) rfl
theorem q474 : (Jvm.Cond.selects "SandKeepsSea" ({ cls := "SandKeepsSea", name := "children", desc := "()I" } : Jvm.MethodName) ({ cls := "SandKeepsSea", name := "children", desc := "()I" } : Jvm.MethodName)) ∈ lw_all := lw_g (lw_at lw_m2 141 rfl) rfl
theorem q475 : (Jvm.Cond.codeWith ({ cls := "SandKeepsSea", name := "children", desc := "()I" } : Jvm.MethodName) prog_1_method_11_code (5 : Nat) (Option.some Jvm.ClassFile.FieldType.int) [((26 : Nat), (130 : Nat), (133 : Nat), (113 : Nat))]) ∈ lw_all := lw_g (lw_at lw_m2 142 rfl) rfl
theorem q476 : (Jvm.Cond.classLink "SandKeepsSea" (144 : Nat) "[[I") ∈ lw_all := lw_g (lw_at lw_m2 143 rfl) rfl
theorem q478 : (Jvm.Cond.methodLink "SandKeepsSea" (146 : Nat) ({ cls := "SandKeepsSea$Words", name := "need", desc := "(Z)V" } : Jvm.MethodName)) ∈ lw_all := lw_g (lw_at lw_m2 145 rfl) rfl
theorem q479 : (Jvm.Cond.methodLink "SandKeepsSea" (150 : Nat) ({ cls := "SandKeepsSea$Words", name := "number", desc := "(III)I" } : Jvm.MethodName)) ∈ lw_all := lw_g (lw_at lw_m2 146 rfl) rfl
theorem q496 : (Jvm.Cond.methodLink "SandKeepsSea" (154 : Nat) ({ cls := "SandKeepsSea$Words", name := "passes", desc := "(C)Z" } : Jvm.MethodName)) ∈ lw_all := lw_g (lw_at lw_m2 163 rfl) rfl
theorem q497 : (Jvm.Cond.methodLink "SandKeepsSea" (158 : Nat) ({ cls := "SandKeepsSea$Words", name := "one", desc := "(CI)I" } : Jvm.MethodName)) ∈ lw_all := lw_g (lw_at lw_m2 164 rfl) rfl
theorem q498 : (Jvm.Cond.methodLink "SandKeepsSea" (162 : Nat) ({ cls := "SandKeepsSea$Words", name := "needEnd", desc := "()V" } : Jvm.MethodName)) ∈ lw_all := lw_g (lw_at lw_m2 165 rfl) rfl
theorem q500 : (Jvm.Cond.instanceMethod ({ cls := "SandKeepsSea", name := "rule", desc := "()I" } : Jvm.MethodName)) ∈ lw_all := lw_g (lw_at lw_m2 167 rfl) rfl
theorem q501 : (Jvm.Cond.selects "SandKeepsSea" ({ cls := "SandKeepsSea", name := "rule", desc := "()I" } : Jvm.MethodName) ({ cls := "SandKeepsSea", name := "rule", desc := "()I" } : Jvm.MethodName)) ∈ lw_all := lw_g (lw_at lw_m2 168 rfl) rfl
theorem q502 : (Jvm.Cond.codeWith ({ cls := "SandKeepsSea", name := "rule", desc := "()I" } : Jvm.MethodName) prog_1_method_12_code (4 : Nat) (Option.some Jvm.ClassFile.FieldType.int) [((32 : Nat), (50 : Nat), (51 : Nat), (113 : Nat))]) ∈ lw_all := lw_g (lw_at lw_m2 169 rfl) rfl
theorem q503 : (Jvm.Cond.methodLink "SandKeepsSea" (173 : Nat) ({ cls := "[B", name := "clone", desc := "()Ljava/lang/Object;" } : Jvm.MethodName)) ∈ lw_all := lw_g (lw_at lw_m2 170 rfl) rfl
theorem q509 : (Jvm.Cond.classLink "SandKeepsSea" (174 : Nat) "[B") ∈ lw_all := lw_g (lw_at lw_m2 176 rfl) rfl
theorem q510 : (Jvm.Cond.classLink "SandKeepsSea" (182 : Nat) "SandKeepsSea$Rule") ∈ lw_all := lw_g (lw_at lw_m2 177 rfl) rfl
theorem q512 : (Jvm.Cond.methodLink "SandKeepsSea" (184 : Nat) ({ cls := "SandKeepsSea$Rule", name := "<init>", desc := "(LSandKeepsSea;[BI)V" } : Jvm.MethodName)) ∈ lw_all := lw_g (lw_at lw_m2 179 rfl) rfl
theorem q533 : (Jvm.Cond.methodLink "SandKeepsSea" (187 : Nat) ({ cls := "SandKeepsSea$Rule", name := "read", desc := "()LSandKeepsSea$Rule;" } : Jvm.MethodName)) ∈ lw_all := lw_g (lw_at lw_m2 200 rfl) rfl
theorem q581 : (Jvm.Cond.instanceMethod ({ cls := "SandKeepsSea", name := "set", desc := "(II)I" } : Jvm.MethodName)) ∈ lw_all := lw_g (lw_at lw_m3 8 rfl) rfl
theorem q582 : (Jvm.Cond.selects "SandKeepsSea" ({ cls := "SandKeepsSea", name := "set", desc := "(II)I" } : Jvm.MethodName) ({ cls := "SandKeepsSea", name := "set", desc := "(II)I" } : Jvm.MethodName)) ∈ lw_all := lw_g (lw_at lw_m3 9 rfl) rfl
theorem q583 : (Jvm.Cond.code ({ cls := "SandKeepsSea", name := "set", desc := "(II)I" } : Jvm.MethodName) prog_1_method_20_code (4 : Nat) (Option.some Jvm.ClassFile.FieldType.int)) ∈ lw_all := lw_g (lw_at lw_m3 10 rfl) rfl
theorem q584 : (Jvm.Cond.constantLong "SandKeepsSea" (255 : Nat) (9 : Int64)) ∈ lw_all := lw_g (lw_at lw_m3 11 rfl) rfl
theorem q585 : (Jvm.Cond.methodLink "SandKeepsSea" (196 : Nat) ({ cls := "java/lang/Integer", name := "bitCount", desc := "(I)I" } : Jvm.MethodName)) ∈ lw_all := lw_g (lw_at lw_m3 12 rfl) rfl
theorem q591 : (Jvm.Cond.constantLong "SandKeepsSea" (257 : Nat) (8 : Int64)) ∈ lw_all := lw_g (lw_at lw_m3 18 rfl) rfl
theorem q593 : (Jvm.Cond.instanceMethod ({ cls := "SandKeepsSea", name := "sheet", desc := "(IIII)I" } : Jvm.MethodName)) ∈ lw_all := lw_g (lw_at lw_m3 20 rfl) rfl
theorem q594 : (Jvm.Cond.selects "SandKeepsSea" ({ cls := "SandKeepsSea", name := "sheet", desc := "(IIII)I" } : Jvm.MethodName) ({ cls := "SandKeepsSea", name := "sheet", desc := "(IIII)I" } : Jvm.MethodName)) ∈ lw_all := lw_g (lw_at lw_m3 21 rfl) rfl
theorem q595 : (Jvm.Cond.codeWith ({ cls := "SandKeepsSea", name := "sheet", desc := "(IIII)I" } : Jvm.MethodName) prog_1_method_23_code (8 : Nat) (Option.some Jvm.ClassFile.FieldType.int) [((28 : Nat), (38 : Nat), (41 : Nat), (268 : Nat))]) ∈ lw_all := lw_g (lw_at lw_m3 22 rfl) rfl
theorem q596 : (Jvm.Cond.classLink "SandKeepsSea" (268 : Nat) "java/lang/NegativeArraySizeException") ∈ lw_all := lw_g (lw_at lw_m3 23 rfl) rfl
theorem q625 : (Jvm.Cond.constantLong "SandKeepsSea" (262 : Nat) (3 : Int64)) ∈ lw_all := lw_g (lw_at lw_m3 52 rfl) rfl
theorem q626 : (Jvm.Cond.methodLink "SandKeepsSea" (264 : Nat) ({ cls := "SandKeepsSea", name := "rowOf", desc := "(IIII)Ljava/lang/Object;" } : Jvm.MethodName)) ∈ lw_all := lw_g (lw_at lw_m3 53 rfl) rfl
theorem q627 : (Jvm.Cond.static ({ cls := "SandKeepsSea", name := "rowOf", desc := "(IIII)Ljava/lang/Object;" } : Jvm.MethodName)) ∈ lw_all := lw_g (lw_at lw_m3 54 rfl) rfl
theorem q628 : (Jvm.Cond.code ({ cls := "SandKeepsSea", name := "rowOf", desc := "(IIII)Ljava/lang/Object;" } : Jvm.MethodName) prog_1_method_21_code (7 : Nat) (Option.some (Jvm.ClassFile.FieldType.object "java/lang/Object"))) ∈ lw_all := lw_g (lw_at lw_m3 55 rfl) rfl
theorem q629 : (Jvm.Cond.methodLink "SandKeepsSea" (270 : Nat) ({ cls := "SandKeepsSea", name := "entry", desc := "(Ljava/lang/Object;I)I" } : Jvm.MethodName)) ∈ lw_all := lw_g (lw_at lw_m3 56 rfl) rfl
theorem q630 : (Jvm.Cond.static ({ cls := "SandKeepsSea", name := "entry", desc := "(Ljava/lang/Object;I)I" } : Jvm.MethodName)) ∈ lw_all := lw_g (lw_at lw_m3 57 rfl) rfl
theorem q631 : (Jvm.Cond.code ({ cls := "SandKeepsSea", name := "entry", desc := "(Ljava/lang/Object;I)I" } : Jvm.MethodName) prog_1_method_22_code (2 : Nat) (Option.some Jvm.ClassFile.FieldType.int)) ∈ lw_all := lw_g (lw_at lw_m3 58 rfl) rfl
theorem q632 : (Jvm.Cond.classLink "SandKeepsSea" (259 : Nat) "[S") ∈ lw_all := lw_g (lw_at lw_m3 59 rfl) rfl
theorem q633 : (Jvm.Cond.classLink "SandKeepsSea" (261 : Nat) "[I") ∈ lw_all := lw_g (lw_at lw_m3 60 rfl) rfl
theorem q634 : (Jvm.Cond.methodLink "SandKeepsSea" (206 : Nat) ({ cls := "java/lang/Math", name := "min", desc := "(II)I" } : Jvm.MethodName)) ∈ lw_all := lw_g (lw_at lw_m3 61 rfl) rfl
theorem q635 : (Jvm.Cond.methodLink "SandKeepsSea" (211 : Nat) ({ cls := "java/lang/Math", name := "max", desc := "(II)I" } : Jvm.MethodName)) ∈ lw_all := lw_g (lw_at lw_m3 62 rfl) rfl
theorem q640 : (Jvm.Cond.instanceMethod ({ cls := "SandKeepsSea", name := "go", desc := "(II)I" } : Jvm.MethodName)) ∈ lw_all := lw_g (lw_at lw_m3 67 rfl) rfl
theorem q641 : (Jvm.Cond.selects "SandKeepsSea" ({ cls := "SandKeepsSea", name := "go", desc := "(II)I" } : Jvm.MethodName) ({ cls := "SandKeepsSea", name := "go", desc := "(II)I" } : Jvm.MethodName)) ∈ lw_all := lw_g (lw_at lw_m3 68 rfl) rfl
theorem q642 : (Jvm.Cond.code ({ cls := "SandKeepsSea", name := "go", desc := "(II)I" } : Jvm.MethodName) prog_1_method_26_code (5 : Nat) (Option.some Jvm.ClassFile.FieldType.int)) ∈ lw_all := lw_g (lw_at lw_m3 69 rfl) rfl
theorem q643 : (Jvm.Cond.methodLink "SandKeepsSea" (278 : Nat) ({ cls := "SandKeepsSea", name := "refusesGo", desc := "(LSandKeepsSea$Beach;II)I" } : Jvm.MethodName)) ∈ lw_all := lw_g (lw_at lw_m3 70 rfl) rfl
theorem q644 : (Jvm.Cond.privateMethod ({ cls := "SandKeepsSea", name := "refusesGo", desc := "(LSandKeepsSea$Beach;II)I" } : Jvm.MethodName)) ∈ lw_tbl := lw_at lw_m3 71 rfl
theorem q645 : (Jvm.Cond.instanceMethod ({ cls := "SandKeepsSea", name := "refusesGo", desc := "(LSandKeepsSea$Beach;II)I" } : Jvm.MethodName)) ∈ lw_all := lw_g (lw_at lw_m3 72 rfl) rfl
theorem q646 : (Jvm.Cond.code ({ cls := "SandKeepsSea", name := "refusesGo", desc := "(LSandKeepsSea$Beach;II)I" } : Jvm.MethodName) prog_1_method_25_code (4 : Nat) (Option.some Jvm.ClassFile.FieldType.int)) ∈ lw_all := lw_g (lw_at lw_m3 73 rfl) rfl
theorem q647 : (Jvm.Cond.methodLink "SandKeepsSea" (249 : Nat) ({ cls := "SandKeepsSea", name := "isKid", desc := "(I)Z" } : Jvm.MethodName)) ∈ lw_all := lw_g (lw_at lw_m3 74 rfl) rfl
theorem q648 : (Jvm.Cond.privateMethod ({ cls := "SandKeepsSea", name := "isKid", desc := "(I)Z" } : Jvm.MethodName)) ∈ lw_tbl := lw_at lw_m3 75 rfl
theorem q649 : (Jvm.Cond.instanceMethod ({ cls := "SandKeepsSea", name := "isKid", desc := "(I)Z" } : Jvm.MethodName)) ∈ lw_all := lw_g (lw_at lw_m3 76 rfl) rfl
theorem q650 : (Jvm.Cond.code ({ cls := "SandKeepsSea", name := "isKid", desc := "(I)Z" } : Jvm.MethodName) prog_1_method_6_code (2 : Nat) (Option.some Jvm.ClassFile.FieldType.boolean)) ∈ lw_all := lw_g (lw_at lw_m3 77 rfl) rfl
theorem q651 : (Jvm.Cond.methodLink "SandKeepsSea" (232 : Nat) ({ cls := "SandKeepsSea", name := "isCell", desc := "(I)Z" } : Jvm.MethodName)) ∈ lw_all := lw_g (lw_at lw_m3 78 rfl) rfl
theorem q652 : (Jvm.Cond.privateMethod ({ cls := "SandKeepsSea", name := "isCell", desc := "(I)Z" } : Jvm.MethodName)) ∈ lw_tbl := lw_at lw_m3 79 rfl
theorem q653 : (Jvm.Cond.instanceMethod ({ cls := "SandKeepsSea", name := "isCell", desc := "(I)Z" } : Jvm.MethodName)) ∈ lw_all := lw_g (lw_at lw_m3 80 rfl) rfl
theorem q654 : (Jvm.Cond.code ({ cls := "SandKeepsSea", name := "isCell", desc := "(I)Z" } : Jvm.MethodName) prog_1_method_5_code (2 : Nat) (Option.some Jvm.ClassFile.FieldType.boolean)) ∈ lw_all := lw_g (lw_at lw_m3 81 rfl) rfl
theorem q655 : (Jvm.Cond.methodLink "SandKeepsSea" (282 : Nat) ({ cls := "SandKeepsSea", name := "remember", desc := "(LSandKeepsSea$Beach;)V" } : Jvm.MethodName)) ∈ lw_all := lw_g (lw_at lw_m3 82 rfl) rfl
theorem q656 : (Jvm.Cond.privateMethod ({ cls := "SandKeepsSea", name := "remember", desc := "(LSandKeepsSea$Beach;)V" } : Jvm.MethodName)) ∈ lw_tbl := lw_at lw_m3 83 rfl
theorem q657 : (Jvm.Cond.instanceMethod ({ cls := "SandKeepsSea", name := "remember", desc := "(LSandKeepsSea$Beach;)V" } : Jvm.MethodName)) ∈ lw_all := lw_g (lw_at lw_m3 84 rfl) rfl
theorem q658 : (Jvm.Cond.code ({ cls := "SandKeepsSea", name := "remember", desc := "(LSandKeepsSea$Beach;)V" } : Jvm.MethodName) prog_1_method_24_code (3 : Nat) (Option.none : Option Jvm.ClassFile.FieldType)) ∈ lw_all := lw_g (lw_at lw_m3 85 rfl) rfl
theorem q659 : (Jvm.Cond.methodLink "SandKeepsSea" (274 : Nat) ({ cls := "SandKeepsSea$Beach", name := "be", desc := "(LSandKeepsSea$Beach;)V" } : Jvm.MethodName)) ∈ lw_all := lw_g (lw_at lw_m3 86 rfl) rfl
theorem q665 : (Jvm.Cond.instanceMethod ({ cls := "SandKeepsSea", name := "home", desc := "(I)I" } : Jvm.MethodName)) ∈ lw_all := lw_g (lw_at lw_m3 92 rfl) rfl
theorem q666 : (Jvm.Cond.selects "SandKeepsSea" ({ cls := "SandKeepsSea", name := "home", desc := "(I)I" } : Jvm.MethodName) ({ cls := "SandKeepsSea", name := "home", desc := "(I)I" } : Jvm.MethodName)) ∈ lw_all := lw_g (lw_at lw_m3 93 rfl) rfl
theorem q667 : (Jvm.Cond.code ({ cls := "SandKeepsSea", name := "home", desc := "(I)I" } : Jvm.MethodName) prog_1_method_28_code (4 : Nat) (Option.some Jvm.ClassFile.FieldType.int)) ∈ lw_all := lw_g (lw_at lw_m3 94 rfl) rfl
theorem q668 : (Jvm.Cond.methodLink "SandKeepsSea" (285 : Nat) ({ cls := "SandKeepsSea", name := "refusesHome", desc := "(I)I" } : Jvm.MethodName)) ∈ lw_all := lw_g (lw_at lw_m3 95 rfl) rfl
theorem q669 : (Jvm.Cond.privateMethod ({ cls := "SandKeepsSea", name := "refusesHome", desc := "(I)I" } : Jvm.MethodName)) ∈ lw_tbl := lw_at lw_m3 96 rfl
theorem q670 : (Jvm.Cond.instanceMethod ({ cls := "SandKeepsSea", name := "refusesHome", desc := "(I)I" } : Jvm.MethodName)) ∈ lw_all := lw_g (lw_at lw_m3 97 rfl) rfl
theorem q671 : (Jvm.Cond.code ({ cls := "SandKeepsSea", name := "refusesHome", desc := "(I)I" } : Jvm.MethodName) prog_1_method_27_code (2 : Nat) (Option.some Jvm.ClassFile.FieldType.int)) ∈ lw_all := lw_g (lw_at lw_m3 98 rfl) rfl
theorem q673 : (Jvm.Cond.instanceMethod ({ cls := "SandKeepsSea", name := "spade", desc := "(I)I" } : Jvm.MethodName)) ∈ lw_all := lw_g (lw_at lw_m3 100 rfl) rfl
theorem q674 : (Jvm.Cond.selects "SandKeepsSea" ({ cls := "SandKeepsSea", name := "spade", desc := "(I)I" } : Jvm.MethodName) ({ cls := "SandKeepsSea", name := "spade", desc := "(I)I" } : Jvm.MethodName)) ∈ lw_all := lw_g (lw_at lw_m3 101 rfl) rfl
theorem q675 : (Jvm.Cond.code ({ cls := "SandKeepsSea", name := "spade", desc := "(I)I" } : Jvm.MethodName) prog_1_method_30_code (3 : Nat) (Option.some Jvm.ClassFile.FieldType.int)) ∈ lw_all := lw_g (lw_at lw_m3 102 rfl) rfl
theorem q676 : (Jvm.Cond.methodLink "SandKeepsSea" (288 : Nat) ({ cls := "SandKeepsSea", name := "refusesSpade", desc := "(I)I" } : Jvm.MethodName)) ∈ lw_all := lw_g (lw_at lw_m3 103 rfl) rfl
theorem q677 : (Jvm.Cond.privateMethod ({ cls := "SandKeepsSea", name := "refusesSpade", desc := "(I)I" } : Jvm.MethodName)) ∈ lw_tbl := lw_at lw_m3 104 rfl
theorem q678 : (Jvm.Cond.instanceMethod ({ cls := "SandKeepsSea", name := "refusesSpade", desc := "(I)I" } : Jvm.MethodName)) ∈ lw_all := lw_g (lw_at lw_m3 105 rfl) rfl
theorem q679 : (Jvm.Cond.code ({ cls := "SandKeepsSea", name := "refusesSpade", desc := "(I)I" } : Jvm.MethodName) prog_1_method_29_code (2 : Nat) (Option.some Jvm.ClassFile.FieldType.int)) ∈ lw_all := lw_g (lw_at lw_m3 106 rfl) rfl
theorem q680 : (Jvm.Cond.methodLink "SandKeepsSea" (225 : Nat) ({ cls := "SandKeepsSea", name := "has", desc := "(II)Z" } : Jvm.MethodName)) ∈ lw_all := lw_g (lw_at lw_m3 107 rfl) rfl
theorem q681 : (Jvm.Cond.static ({ cls := "SandKeepsSea", name := "has", desc := "(II)Z" } : Jvm.MethodName)) ∈ lw_all := lw_g (lw_at lw_m3 108 rfl) rfl
theorem q682 : (Jvm.Cond.code ({ cls := "SandKeepsSea", name := "has", desc := "(II)Z" } : Jvm.MethodName) prog_1_method_2_code (2 : Nat) (Option.some Jvm.ClassFile.FieldType.boolean)) ∈ lw_all := lw_g (lw_at lw_m3 109 rfl) rfl
theorem q684 : (Jvm.Cond.instanceMethod ({ cls := "SandKeepsSea", name := "treat", desc := "(I)I" } : Jvm.MethodName)) ∈ lw_all := lw_g (lw_at lw_m3 111 rfl) rfl
theorem q685 : (Jvm.Cond.selects "SandKeepsSea" ({ cls := "SandKeepsSea", name := "treat", desc := "(I)I" } : Jvm.MethodName) ({ cls := "SandKeepsSea", name := "treat", desc := "(I)I" } : Jvm.MethodName)) ∈ lw_all := lw_g (lw_at lw_m3 112 rfl) rfl
theorem q686 : (Jvm.Cond.code ({ cls := "SandKeepsSea", name := "treat", desc := "(I)I" } : Jvm.MethodName) prog_1_method_32_code (2 : Nat) (Option.some Jvm.ClassFile.FieldType.int)) ∈ lw_all := lw_g (lw_at lw_m3 113 rfl) rfl
theorem q687 : (Jvm.Cond.methodLink "SandKeepsSea" (291 : Nat) ({ cls := "SandKeepsSea", name := "treats", desc := "(LSandKeepsSea$Beach;II)V" } : Jvm.MethodName)) ∈ lw_all := lw_g (lw_at lw_m3 114 rfl) rfl
theorem q688 : (Jvm.Cond.privateMethod ({ cls := "SandKeepsSea", name := "treats", desc := "(LSandKeepsSea$Beach;II)V" } : Jvm.MethodName)) ∈ lw_tbl := lw_at lw_m3 115 rfl
theorem q689 : (Jvm.Cond.instanceMethod ({ cls := "SandKeepsSea", name := "treats", desc := "(LSandKeepsSea$Beach;II)V" } : Jvm.MethodName)) ∈ lw_all := lw_g (lw_at lw_m3 116 rfl) rfl
theorem q690 : (Jvm.Cond.code ({ cls := "SandKeepsSea", name := "treats", desc := "(LSandKeepsSea$Beach;II)V" } : Jvm.MethodName) prog_1_method_31_code (4 : Nat) (Option.none : Option Jvm.ClassFile.FieldType)) ∈ lw_all := lw_g (lw_at lw_m3 117 rfl) rfl
theorem q692 : (Jvm.Cond.instanceMethod ({ cls := "SandKeepsSea", name := "moat", desc := "(I)I" } : Jvm.MethodName)) ∈ lw_all := lw_g (lw_at lw_m3 119 rfl) rfl
theorem q693 : (Jvm.Cond.selects "SandKeepsSea" ({ cls := "SandKeepsSea", name := "moat", desc := "(I)I" } : Jvm.MethodName) ({ cls := "SandKeepsSea", name := "moat", desc := "(I)I" } : Jvm.MethodName)) ∈ lw_all := lw_g (lw_at lw_m3 120 rfl) rfl
theorem q694 : (Jvm.Cond.code ({ cls := "SandKeepsSea", name := "moat", desc := "(I)I" } : Jvm.MethodName) prog_1_method_33_code (2 : Nat) (Option.some Jvm.ClassFile.FieldType.int)) ∈ lw_all := lw_g (lw_at lw_m3 121 rfl) rfl
theorem q696 : (Jvm.Cond.instanceMethod ({ cls := "SandKeepsSea", name := "build", desc := "(I)I" } : Jvm.MethodName)) ∈ lw_all := lw_g (lw_at lw_m3 123 rfl) rfl
theorem q697 : (Jvm.Cond.selects "SandKeepsSea" ({ cls := "SandKeepsSea", name := "build", desc := "(I)I" } : Jvm.MethodName) ({ cls := "SandKeepsSea", name := "build", desc := "(I)I" } : Jvm.MethodName)) ∈ lw_all := lw_g (lw_at lw_m3 124 rfl) rfl
theorem q698 : (Jvm.Cond.code ({ cls := "SandKeepsSea", name := "build", desc := "(I)I" } : Jvm.MethodName) prog_1_method_36_code (4 : Nat) (Option.some Jvm.ClassFile.FieldType.int)) ∈ lw_all := lw_g (lw_at lw_m3 125 rfl) rfl
theorem q699 : (Jvm.Cond.constantLong "SandKeepsSea" (302 : Nat) (30 : Int64)) ∈ lw_all := lw_g (lw_at lw_m3 126 rfl) rfl
theorem q700 : (Jvm.Cond.methodLink "SandKeepsSea" (304 : Nat) ({ cls := "SandKeepsSea$Beach", name := "atHome", desc := "(I)I" } : Jvm.MethodName)) ∈ lw_all := lw_g (lw_at lw_m3 127 rfl) rfl
theorem q704 : (Jvm.Cond.methodLink "SandKeepsSea" (307 : Nat) ({ cls := "SandKeepsSea", name := "goSpells", desc := "(LSandKeepsSea$Beach;I)I" } : Jvm.MethodName)) ∈ lw_all := lw_g (lw_at lw_m3 131 rfl) rfl
theorem q705 : (Jvm.Cond.privateMethod ({ cls := "SandKeepsSea", name := "goSpells", desc := "(LSandKeepsSea$Beach;I)I" } : Jvm.MethodName)) ∈ lw_tbl := lw_at lw_m3 132 rfl
theorem q706 : (Jvm.Cond.instanceMethod ({ cls := "SandKeepsSea", name := "goSpells", desc := "(LSandKeepsSea$Beach;I)I" } : Jvm.MethodName)) ∈ lw_all := lw_g (lw_at lw_m3 133 rfl) rfl
theorem q707 : (Jvm.Cond.code ({ cls := "SandKeepsSea", name := "goSpells", desc := "(LSandKeepsSea$Beach;I)I" } : Jvm.MethodName) prog_1_method_35_code (5 : Nat) (Option.some Jvm.ClassFile.FieldType.int)) ∈ lw_all := lw_g (lw_at lw_m3 134 rfl) rfl
theorem q708 : (Jvm.Cond.methodLink "SandKeepsSea" (298 : Nat) ({ cls := "SandKeepsSea", name := "goSpell", desc := "(LSandKeepsSea$Beach;)I" } : Jvm.MethodName)) ∈ lw_all := lw_g (lw_at lw_m3 135 rfl) rfl
theorem q709 : (Jvm.Cond.privateMethod ({ cls := "SandKeepsSea", name := "goSpell", desc := "(LSandKeepsSea$Beach;)I" } : Jvm.MethodName)) ∈ lw_tbl := lw_at lw_m3 136 rfl
theorem q710 : (Jvm.Cond.instanceMethod ({ cls := "SandKeepsSea", name := "goSpell", desc := "(LSandKeepsSea$Beach;)I" } : Jvm.MethodName)) ∈ lw_all := lw_g (lw_at lw_m3 137 rfl) rfl
theorem q711 : (Jvm.Cond.code ({ cls := "SandKeepsSea", name := "goSpell", desc := "(LSandKeepsSea$Beach;)I" } : Jvm.MethodName) prog_1_method_34_code (5 : Nat) (Option.some Jvm.ClassFile.FieldType.int)) ∈ lw_all := lw_g (lw_at lw_m3 138 rfl) rfl
theorem q712 : (Jvm.Cond.methodLink "SandKeepsSea" (295 : Nat) ({ cls := "java/util/Arrays", name := "fill", desc := "([II)V" } : Jvm.MethodName)) ∈ lw_all := lw_g (lw_at lw_m3 139 rfl) rfl
theorem q713 : (Jvm.Cond.methodLink "SandKeepsSea" (252 : Nat) ({ cls := "SandKeepsSea", name := "bucketsOf", desc := "(LSandKeepsSea$Beach;I)I" } : Jvm.MethodName)) ∈ lw_all := lw_g (lw_at lw_m3 140 rfl) rfl
theorem q714 : (Jvm.Cond.privateMethod ({ cls := "SandKeepsSea", name := "bucketsOf", desc := "(LSandKeepsSea$Beach;I)I" } : Jvm.MethodName)) ∈ lw_tbl := lw_at lw_m3 141 rfl
theorem q715 : (Jvm.Cond.instanceMethod ({ cls := "SandKeepsSea", name := "bucketsOf", desc := "(LSandKeepsSea$Beach;I)I" } : Jvm.MethodName)) ∈ lw_all := lw_g (lw_at lw_m3 142 rfl) rfl
theorem q716 : (Jvm.Cond.code ({ cls := "SandKeepsSea", name := "bucketsOf", desc := "(LSandKeepsSea$Beach;I)I" } : Jvm.MethodName) prog_1_method_17_code (4 : Nat) (Option.some Jvm.ClassFile.FieldType.int)) ∈ lw_all := lw_g (lw_at lw_m3 143 rfl) rfl
theorem q717 : (Jvm.Cond.methodLink "SandKeepsSea" (228 : Nat) ({ cls := "SandKeepsSea", name := "isBesideFriend", desc := "(LSandKeepsSea$Beach;I)Z" } : Jvm.MethodName)) ∈ lw_all := lw_g (lw_at lw_m3 144 rfl) rfl
theorem q718 : (Jvm.Cond.privateMethod ({ cls := "SandKeepsSea", name := "isBesideFriend", desc := "(LSandKeepsSea$Beach;I)Z" } : Jvm.MethodName)) ∈ lw_tbl := lw_at lw_m3 145 rfl
theorem q719 : (Jvm.Cond.instanceMethod ({ cls := "SandKeepsSea", name := "isBesideFriend", desc := "(LSandKeepsSea$Beach;I)Z" } : Jvm.MethodName)) ∈ lw_all := lw_g (lw_at lw_m3 146 rfl) rfl
theorem q720 : (Jvm.Cond.code ({ cls := "SandKeepsSea", name := "isBesideFriend", desc := "(LSandKeepsSea$Beach;I)Z" } : Jvm.MethodName) prog_1_method_16_code (4 : Nat) (Option.some Jvm.ClassFile.FieldType.boolean)) ∈ lw_all := lw_g (lw_at lw_m3 147 rfl) rfl
theorem q721 : (Jvm.Cond.methodLink "SandKeepsSea" (217 : Nat) ({ cls := "SandKeepsSea", name := "areFriends", desc := "(II)Z" } : Jvm.MethodName)) ∈ lw_all := lw_g (lw_at lw_m3 148 rfl) rfl
theorem q722 : (Jvm.Cond.privateMethod ({ cls := "SandKeepsSea", name := "areFriends", desc := "(II)Z" } : Jvm.MethodName)) ∈ lw_tbl := lw_at lw_m3 149 rfl
theorem q723 : (Jvm.Cond.instanceMethod ({ cls := "SandKeepsSea", name := "areFriends", desc := "(II)Z" } : Jvm.MethodName)) ∈ lw_all := lw_g (lw_at lw_m3 150 rfl) rfl
theorem q724 : (Jvm.Cond.code ({ cls := "SandKeepsSea", name := "areFriends", desc := "(II)Z" } : Jvm.MethodName) prog_1_method_15_code (3 : Nat) (Option.some Jvm.ClassFile.FieldType.boolean)) ∈ lw_all := lw_g (lw_at lw_m3 151 rfl) rfl
theorem q725 : (Jvm.Cond.methodLink "SandKeepsSea" (221 : Nat) ({ cls := "java/lang/Math", name := "abs", desc := "(I)I" } : Jvm.MethodName)) ∈ lw_all := lw_g (lw_at lw_m3 152 rfl) rfl
theorem q728 : (Jvm.Cond.methodLink "SandKeepsSea" (310 : Nat) ({ cls := "SandKeepsSea", name := "tell", desc := "(J)V" } : Jvm.MethodName)) ∈ lw_all := lw_g (lw_at lw_m3 155 rfl) rfl
theorem q729 : (Jvm.Cond.privateMethod ({ cls := "SandKeepsSea", name := "tell", desc := "(J)V" } : Jvm.MethodName)) ∈ lw_tbl := lw_at lw_m3 156 rfl
theorem q730 : (Jvm.Cond.instanceMethod ({ cls := "SandKeepsSea", name := "tell", desc := "(J)V" } : Jvm.MethodName)) ∈ lw_all := lw_g (lw_at lw_m3 157 rfl) rfl
theorem q731 : (Jvm.Cond.code ({ cls := "SandKeepsSea", name := "tell", desc := "(J)V" } : Jvm.MethodName) prog_1_method_4_code (3 : Nat) (Option.none : Option Jvm.ClassFile.FieldType)) ∈ lw_all := lw_g (lw_at lw_m3 158 rfl) rfl
theorem q733 : (Jvm.Cond.instanceMethod ({ cls := "SandKeepsSea", name := "tide", desc := "()I" } : Jvm.MethodName)) ∈ lw_all := lw_g (lw_at lw_m3 160 rfl) rfl
theorem q734 : (Jvm.Cond.selects "SandKeepsSea" ({ cls := "SandKeepsSea", name := "tide", desc := "()I" } : Jvm.MethodName) ({ cls := "SandKeepsSea", name := "tide", desc := "()I" } : Jvm.MethodName)) ∈ lw_all := lw_g (lw_at lw_m3 161 rfl) rfl
theorem q735 : (Jvm.Cond.code ({ cls := "SandKeepsSea", name := "tide", desc := "()I" } : Jvm.MethodName) prog_1_method_39_code (4 : Nat) (Option.some Jvm.ClassFile.FieldType.int)) ∈ lw_all := lw_g (lw_at lw_m3 162 rfl) rfl
theorem q736 : (Jvm.Cond.methodLink "SandKeepsSea" (317 : Nat) ({ cls := "SandKeepsSea", name := "levelOf", desc := "(LSandKeepsSea$Beach;I)I" } : Jvm.MethodName)) ∈ lw_all := lw_g (lw_at lw_m3 163 rfl) rfl
theorem q737 : (Jvm.Cond.privateMethod ({ cls := "SandKeepsSea", name := "levelOf", desc := "(LSandKeepsSea$Beach;I)I" } : Jvm.MethodName)) ∈ lw_tbl := lw_at lw_m3 164 rfl
theorem q738 : (Jvm.Cond.instanceMethod ({ cls := "SandKeepsSea", name := "levelOf", desc := "(LSandKeepsSea$Beach;I)I" } : Jvm.MethodName)) ∈ lw_all := lw_g (lw_at lw_m3 165 rfl) rfl
theorem q739 : (Jvm.Cond.code ({ cls := "SandKeepsSea", name := "levelOf", desc := "(LSandKeepsSea$Beach;I)I" } : Jvm.MethodName) prog_1_method_13_code (4 : Nat) (Option.some Jvm.ClassFile.FieldType.int)) ∈ lw_all := lw_g (lw_at lw_m3 166 rfl) rfl
theorem q740 : (Jvm.Cond.methodLink "SandKeepsSea" (202 : Nat) ({ cls := "SandKeepsSea$Rule", name := "of", desc := "(II)I" } : Jvm.MethodName)) ∈ lw_all := lw_g (lw_at lw_m3 167 rfl) rfl
theorem q745 : (Jvm.Cond.methodLink "SandKeepsSea" (327 : Nat) ({ cls := "SandKeepsSea$Beach", name := "sum", desc := "([I)I" } : Jvm.MethodName)) ∈ lw_all := lw_g (lw_at lw_m3 172 rfl) rfl
theorem q748 : (Jvm.Cond.methodLink "SandKeepsSea" (331 : Nat) ({ cls := "SandKeepsSea", name := "goTide", desc := "(LSandKeepsSea$Beach;)I" } : Jvm.MethodName)) ∈ lw_all := lw_g (lw_at lw_m3 175 rfl) rfl
theorem q749 : (Jvm.Cond.privateMethod ({ cls := "SandKeepsSea", name := "goTide", desc := "(LSandKeepsSea$Beach;)I" } : Jvm.MethodName)) ∈ lw_tbl := lw_at lw_m3 176 rfl
theorem q750 : (Jvm.Cond.instanceMethod ({ cls := "SandKeepsSea", name := "goTide", desc := "(LSandKeepsSea$Beach;)I" } : Jvm.MethodName)) ∈ lw_all := lw_g (lw_at lw_m3 177 rfl) rfl
theorem q751 : (Jvm.Cond.code ({ cls := "SandKeepsSea", name := "goTide", desc := "(LSandKeepsSea$Beach;)I" } : Jvm.MethodName) prog_1_method_38_code (6 : Nat) (Option.some Jvm.ClassFile.FieldType.int)) ∈ lw_all := lw_g (lw_at lw_m3 178 rfl) rfl
theorem q752 : (Jvm.Cond.methodLink "SandKeepsSea" (320 : Nat) ({ cls := "SandKeepsSea", name := "below", desc := "(LSandKeepsSea$Beach;I)I" } : Jvm.MethodName)) ∈ lw_all := lw_g (lw_at lw_m3 179 rfl) rfl
theorem q753 : (Jvm.Cond.privateMethod ({ cls := "SandKeepsSea", name := "below", desc := "(LSandKeepsSea$Beach;I)I" } : Jvm.MethodName)) ∈ lw_tbl := lw_at lw_m3 180 rfl
theorem q754 : (Jvm.Cond.instanceMethod ({ cls := "SandKeepsSea", name := "below", desc := "(LSandKeepsSea$Beach;I)I" } : Jvm.MethodName)) ∈ lw_all := lw_g (lw_at lw_m3 181 rfl) rfl
theorem q755 : (Jvm.Cond.code ({ cls := "SandKeepsSea", name := "below", desc := "(LSandKeepsSea$Beach;I)I" } : Jvm.MethodName) prog_1_method_37_code (5 : Nat) (Option.some Jvm.ClassFile.FieldType.int)) ∈ lw_all := lw_g (lw_at lw_m3 182 rfl) rfl
theorem q756 : (Jvm.Cond.methodLink "SandKeepsSea" (245 : Nat) ({ cls := "SandKeepsSea", name := "topOf", desc := "(LSandKeepsSea$Beach;I)I" } : Jvm.MethodName)) ∈ lw_all := lw_g (lw_at lw_m3 183 rfl) rfl
theorem q757 : (Jvm.Cond.privateMethod ({ cls := "SandKeepsSea", name := "topOf", desc := "(LSandKeepsSea$Beach;I)I" } : Jvm.MethodName)) ∈ lw_tbl := lw_at lw_m3 184 rfl
theorem q758 : (Jvm.Cond.instanceMethod ({ cls := "SandKeepsSea", name := "topOf", desc := "(LSandKeepsSea$Beach;I)I" } : Jvm.MethodName)) ∈ lw_all := lw_g (lw_at lw_m3 185 rfl) rfl
theorem q759 : (Jvm.Cond.code ({ cls := "SandKeepsSea", name := "topOf", desc := "(LSandKeepsSea$Beach;I)I" } : Jvm.MethodName) prog_1_method_14_code (3 : Nat) (Option.some Jvm.ClassFile.FieldType.int)) ∈ lw_all := lw_g (lw_at lw_m3 186 rfl) rfl
theorem q760 : (Jvm.Cond.methodLink "SandKeepsSea" (323 : Nat) ({ cls := "SandKeepsSea$Beach", name := "flow", desc := "(I[I)V" } : Jvm.MethodName)) ∈ lw_all := lw_g (lw_at lw_m3 187 rfl) rfl
theorem q769 : (Jvm.Cond.instanceMethod ({ cls := "SandKeepsSea", name := "pump", desc := "(I)I" } : Jvm.MethodName)) ∈ lw_all := lw_g (lw_at lw_m3 196 rfl) rfl
theorem q770 : (Jvm.Cond.selects "SandKeepsSea" ({ cls := "SandKeepsSea", name := "pump", desc := "(I)I" } : Jvm.MethodName) ({ cls := "SandKeepsSea", name := "pump", desc := "(I)I" } : Jvm.MethodName)) ∈ lw_all := lw_g (lw_at lw_m3 197 rfl) rfl
theorem q771 : (Jvm.Cond.code ({ cls := "SandKeepsSea", name := "pump", desc := "(I)I" } : Jvm.MethodName) prog_1_method_40_code (3 : Nat) (Option.some Jvm.ClassFile.FieldType.int)) ∈ lw_all := lw_g (lw_at lw_m3 198 rfl) rfl
theorem q772 : (Jvm.Cond.constantLong "SandKeepsSea" (334 : Nat) (99 : Int64)) ∈ lw_all := lw_g (lw_at lw_m3 199 rfl) rfl
theorem q773 : (Jvm.Cond.methodLink "SandKeepsSea" (336 : Nat) ({ cls := "SandKeepsSea$Beach", name := "wet", desc := "(I)I" } : Jvm.MethodName)) ∈ lw_all := lw_g (lw_at lw_m3 200 rfl) rfl
theorem q778 : (Jvm.Cond.instanceMethod ({ cls := "SandKeepsSea", name := "summer", desc := "()I" } : Jvm.MethodName)) ∈ lw_all := lw_g (lw_at lw_m3 205 rfl) rfl
theorem q779 : (Jvm.Cond.selects "SandKeepsSea" ({ cls := "SandKeepsSea", name := "summer", desc := "()I" } : Jvm.MethodName) ({ cls := "SandKeepsSea", name := "summer", desc := "()I" } : Jvm.MethodName)) ∈ lw_all := lw_g (lw_at lw_m3 206 rfl) rfl
theorem q780 : (Jvm.Cond.codeWith ({ cls := "SandKeepsSea", name := "summer", desc := "()I" } : Jvm.MethodName) prog_1_method_41_code (3 : Nat) (Option.some Jvm.ClassFile.FieldType.int) [((21 : Nat), (25 : Nat), (28 : Nat), (113 : Nat))]) ∈ lw_all := lw_g (lw_at lw_m3 207 rfl) rfl
theorem q781 : (Jvm.Cond.classLink "SandKeepsSea" (339 : Nat) "SandKeepsSea$Order") ∈ lw_all := lw_g (lw_at lw_m3 208 rfl) rfl
theorem q783 : (Jvm.Cond.methodLink "SandKeepsSea" (341 : Nat) ({ cls := "SandKeepsSea$Order", name := "<init>", desc := "([BI)V" } : Jvm.MethodName)) ∈ lw_all := lw_g (lw_at lw_m3 210 rfl) rfl
theorem q788 : (Jvm.Cond.fieldLink "SandKeepsSea" (347 : Nat) "SandKeepsSea$Order" "acts" "[C") ∈ lw_all := lw_g (lw_at lw_m3 215 rfl) rfl
theorem q790 : (Jvm.Cond.fieldLink "SandKeepsSea" (351 : Nat) "SandKeepsSea$Order" "first" "[I") ∈ lw_all := lw_g (lw_at lw_m3 217 rfl) rfl
theorem q792 : (Jvm.Cond.fieldLink "SandKeepsSea" (354 : Nat) "SandKeepsSea$Order" "second" "[I") ∈ lw_all := lw_g (lw_at lw_m3 219 rfl) rfl
theorem q794 : (Jvm.Cond.fieldLink "SandKeepsSea" (346 : Nat) "SandKeepsSea$Order" "many" "I") ∈ lw_all := lw_g (lw_at lw_m3 221 rfl) rfl
theorem q809 : (Jvm.Cond.methodLink "SandKeepsSea" (344 : Nat) ({ cls := "SandKeepsSea$Order", name := "read", desc := "()V" } : Jvm.MethodName)) ∈ lw_all := lw_g (lw_at lw_m3 236 rfl) rfl
theorem q913 : (Jvm.Cond.methodLink "SandKeepsSea" (357 : Nat) ({ cls := "SandKeepsSea", name := "act", desc := "(CII)Z" } : Jvm.MethodName)) ∈ lw_all := lw_g (lw_at lw_m4 100 rfl) rfl
theorem q914 : (Jvm.Cond.privateMethod ({ cls := "SandKeepsSea", name := "act", desc := "(CII)Z" } : Jvm.MethodName)) ∈ lw_tbl := lw_at lw_m4 101 rfl
theorem q915 : (Jvm.Cond.instanceMethod ({ cls := "SandKeepsSea", name := "act", desc := "(CII)Z" } : Jvm.MethodName)) ∈ lw_all := lw_g (lw_at lw_m4 102 rfl) rfl
theorem q916 : (Jvm.Cond.code ({ cls := "SandKeepsSea", name := "act", desc := "(CII)Z" } : Jvm.MethodName) prog_1_method_42_code (4 : Nat) (Option.some Jvm.ClassFile.FieldType.boolean)) ∈ lw_all := lw_g (lw_at lw_m4 103 rfl) rfl
theorem q918 : (Jvm.Cond.instanceMethod ({ cls := "SandKeepsSea", name := "undo", desc := "()I" } : Jvm.MethodName)) ∈ lw_all := lw_g (lw_at lw_m4 105 rfl) rfl
theorem q919 : (Jvm.Cond.selects "SandKeepsSea" ({ cls := "SandKeepsSea", name := "undo", desc := "()I" } : Jvm.MethodName) ({ cls := "SandKeepsSea", name := "undo", desc := "()I" } : Jvm.MethodName)) ∈ lw_all := lw_g (lw_at lw_m4 106 rfl) rfl
theorem q920 : (Jvm.Cond.code ({ cls := "SandKeepsSea", name := "undo", desc := "()I" } : Jvm.MethodName) prog_1_method_43_code (1 : Nat) (Option.some Jvm.ClassFile.FieldType.int)) ∈ lw_all := lw_g (lw_at lw_m4 107 rfl) rfl
theorem q922 : (Jvm.Cond.instanceMethod ({ cls := "SandKeepsSea", name := "level", desc := "(I)I" } : Jvm.MethodName)) ∈ lw_all := lw_g (lw_at lw_m4 109 rfl) rfl
theorem q923 : (Jvm.Cond.selects "SandKeepsSea" ({ cls := "SandKeepsSea", name := "level", desc := "(I)I" } : Jvm.MethodName) ({ cls := "SandKeepsSea", name := "level", desc := "(I)I" } : Jvm.MethodName)) ∈ lw_all := lw_g (lw_at lw_m4 110 rfl) rfl
theorem q924 : (Jvm.Cond.code ({ cls := "SandKeepsSea", name := "level", desc := "(I)I" } : Jvm.MethodName) prog_1_method_44_code (3 : Nat) (Option.some Jvm.ClassFile.FieldType.int)) ∈ lw_all := lw_g (lw_at lw_m4 111 rfl) rfl
theorem q926 : (Jvm.Cond.instanceMethod ({ cls := "SandKeepsSea", name := "holds", desc := "()I" } : Jvm.MethodName)) ∈ lw_all := lw_g (lw_at lw_m4 113 rfl) rfl
theorem q927 : (Jvm.Cond.selects "SandKeepsSea" ({ cls := "SandKeepsSea", name := "holds", desc := "()I" } : Jvm.MethodName) ({ cls := "SandKeepsSea", name := "holds", desc := "()I" } : Jvm.MethodName)) ∈ lw_all := lw_g (lw_at lw_m4 114 rfl) rfl
theorem q928 : (Jvm.Cond.code ({ cls := "SandKeepsSea", name := "holds", desc := "()I" } : Jvm.MethodName) prog_1_method_46_code (2 : Nat) (Option.some Jvm.ClassFile.FieldType.int)) ∈ lw_all := lw_g (lw_at lw_m4 115 rfl) rfl
theorem q929 : (Jvm.Cond.methodLink "SandKeepsSea" (367 : Nat) ({ cls := "SandKeepsSea", name := "holdsOn", desc := "()I" } : Jvm.MethodName)) ∈ lw_all := lw_g (lw_at lw_m4 116 rfl) rfl
theorem q930 : (Jvm.Cond.privateMethod ({ cls := "SandKeepsSea", name := "holdsOn", desc := "()I" } : Jvm.MethodName)) ∈ lw_tbl := lw_at lw_m4 117 rfl
theorem q931 : (Jvm.Cond.instanceMethod ({ cls := "SandKeepsSea", name := "holdsOn", desc := "()I" } : Jvm.MethodName)) ∈ lw_all := lw_g (lw_at lw_m4 118 rfl) rfl
theorem q932 : (Jvm.Cond.code ({ cls := "SandKeepsSea", name := "holdsOn", desc := "()I" } : Jvm.MethodName) prog_1_method_45_code (2 : Nat) (Option.some Jvm.ClassFile.FieldType.int)) ∈ lw_all := lw_g (lw_at lw_m4 119 rfl) rfl
theorem q934 : (Jvm.Cond.instanceMethod ({ cls := "SandKeepsSea", name := "tides", desc := "(I)I" } : Jvm.MethodName)) ∈ lw_all := lw_g (lw_at lw_m4 121 rfl) rfl
theorem q935 : (Jvm.Cond.selects "SandKeepsSea" ({ cls := "SandKeepsSea", name := "tides", desc := "(I)I" } : Jvm.MethodName) ({ cls := "SandKeepsSea", name := "tides", desc := "(I)I" } : Jvm.MethodName)) ∈ lw_all := lw_g (lw_at lw_m4 122 rfl) rfl
theorem q936 : (Jvm.Cond.code ({ cls := "SandKeepsSea", name := "tides", desc := "(I)I" } : Jvm.MethodName) prog_1_method_48_code (3 : Nat) (Option.some Jvm.ClassFile.FieldType.int)) ∈ lw_all := lw_g (lw_at lw_m4 123 rfl) rfl
theorem q937 : (Jvm.Cond.constantLong "SandKeepsSea" (371 : Nat) (60 : Int64)) ∈ lw_all := lw_g (lw_at lw_m4 124 rfl) rfl
theorem q938 : (Jvm.Cond.methodLink "SandKeepsSea" (373 : Nat) ({ cls := "SandKeepsSea", name := "breaks", desc := "(I)I" } : Jvm.MethodName)) ∈ lw_all := lw_g (lw_at lw_m4 125 rfl) rfl
theorem q939 : (Jvm.Cond.privateMethod ({ cls := "SandKeepsSea", name := "breaks", desc := "(I)I" } : Jvm.MethodName)) ∈ lw_tbl := lw_at lw_m4 126 rfl
theorem q940 : (Jvm.Cond.instanceMethod ({ cls := "SandKeepsSea", name := "breaks", desc := "(I)I" } : Jvm.MethodName)) ∈ lw_all := lw_g (lw_at lw_m4 127 rfl) rfl
theorem q941 : (Jvm.Cond.code ({ cls := "SandKeepsSea", name := "breaks", desc := "(I)I" } : Jvm.MethodName) prog_1_method_47_code (4 : Nat) (Option.some Jvm.ClassFile.FieldType.int)) ∈ lw_all := lw_g (lw_at lw_m4 128 rfl) rfl
theorem q943 : (Jvm.Cond.instanceMethod ({ cls := "SandKeepsSea", name := "spells", desc := "()I" } : Jvm.MethodName)) ∈ lw_all := lw_g (lw_at lw_m4 130 rfl) rfl
theorem q944 : (Jvm.Cond.selects "SandKeepsSea" ({ cls := "SandKeepsSea", name := "spells", desc := "()I" } : Jvm.MethodName) ({ cls := "SandKeepsSea", name := "spells", desc := "()I" } : Jvm.MethodName)) ∈ lw_all := lw_g (lw_at lw_m4 131 rfl) rfl
theorem q945 : (Jvm.Cond.code ({ cls := "SandKeepsSea", name := "spells", desc := "()I" } : Jvm.MethodName) prog_1_method_49_code (2 : Nat) (Option.some Jvm.ClassFile.FieldType.int)) ∈ lw_all := lw_g (lw_at lw_m4 132 rfl) rfl
theorem q947 : (Jvm.Cond.instanceMethod ({ cls := "SandKeepsSea", name := "floods", desc := "(II)I" } : Jvm.MethodName)) ∈ lw_all := lw_g (lw_at lw_m4 134 rfl) rfl
theorem q948 : (Jvm.Cond.selects "SandKeepsSea" ({ cls := "SandKeepsSea", name := "floods", desc := "(II)I" } : Jvm.MethodName) ({ cls := "SandKeepsSea", name := "floods", desc := "(II)I" } : Jvm.MethodName)) ∈ lw_all := lw_g (lw_at lw_m4 135 rfl) rfl
theorem q949 : (Jvm.Cond.code ({ cls := "SandKeepsSea", name := "floods", desc := "(II)I" } : Jvm.MethodName) prog_1_method_52_code (4 : Nat) (Option.some Jvm.ClassFile.FieldType.int)) ∈ lw_all := lw_g (lw_at lw_m4 136 rfl) rfl
theorem q950 : (Jvm.Cond.methodLink "SandKeepsSea" (378 : Nat) ({ cls := "SandKeepsSea", name := "isFlood", desc := "(II)Z" } : Jvm.MethodName)) ∈ lw_all := lw_g (lw_at lw_m4 137 rfl) rfl
theorem q951 : (Jvm.Cond.privateMethod ({ cls := "SandKeepsSea", name := "isFlood", desc := "(II)Z" } : Jvm.MethodName)) ∈ lw_tbl := lw_at lw_m4 138 rfl
theorem q952 : (Jvm.Cond.instanceMethod ({ cls := "SandKeepsSea", name := "isFlood", desc := "(II)Z" } : Jvm.MethodName)) ∈ lw_all := lw_g (lw_at lw_m4 139 rfl) rfl
theorem q953 : (Jvm.Cond.code ({ cls := "SandKeepsSea", name := "isFlood", desc := "(II)Z" } : Jvm.MethodName) prog_1_method_51_code (3 : Nat) (Option.some Jvm.ClassFile.FieldType.boolean)) ∈ lw_all := lw_g (lw_at lw_m4 140 rfl) rfl
theorem q954 : (Jvm.Cond.constantLong "SandKeepsSea" (376 : Nat) (999 : Int64)) ∈ lw_all := lw_g (lw_at lw_m4 141 rfl) rfl
theorem q955 : (Jvm.Cond.methodLink "SandKeepsSea" (381 : Nat) ({ cls := "SandKeepsSea", name := "floodedBy", desc := "(II[I)I" } : Jvm.MethodName)) ∈ lw_all := lw_g (lw_at lw_m4 142 rfl) rfl
theorem q956 : (Jvm.Cond.privateMethod ({ cls := "SandKeepsSea", name := "floodedBy", desc := "(II[I)I" } : Jvm.MethodName)) ∈ lw_tbl := lw_at lw_m4 143 rfl
theorem q957 : (Jvm.Cond.instanceMethod ({ cls := "SandKeepsSea", name := "floodedBy", desc := "(II[I)I" } : Jvm.MethodName)) ∈ lw_all := lw_g (lw_at lw_m4 144 rfl) rfl
theorem q958 : (Jvm.Cond.code ({ cls := "SandKeepsSea", name := "floodedBy", desc := "(II[I)I" } : Jvm.MethodName) prog_1_method_50_code (4 : Nat) (Option.some Jvm.ClassFile.FieldType.int)) ∈ lw_all := lw_g (lw_at lw_m4 145 rfl) rfl
theorem q960 : (Jvm.Cond.instanceMethod ({ cls := "SandKeepsSea", name := "raise", desc := "(II)I" } : Jvm.MethodName)) ∈ lw_all := lw_g (lw_at lw_m4 147 rfl) rfl
theorem q961 : (Jvm.Cond.selects "SandKeepsSea" ({ cls := "SandKeepsSea", name := "raise", desc := "(II)I" } : Jvm.MethodName) ({ cls := "SandKeepsSea", name := "raise", desc := "(II)I" } : Jvm.MethodName)) ∈ lw_all := lw_g (lw_at lw_m4 148 rfl) rfl
theorem q962 : (Jvm.Cond.code ({ cls := "SandKeepsSea", name := "raise", desc := "(II)I" } : Jvm.MethodName) prog_1_method_53_code (6 : Nat) (Option.some Jvm.ClassFile.FieldType.int)) ∈ lw_all := lw_g (lw_at lw_m4 149 rfl) rfl
theorem q964 : (Jvm.Cond.instanceMethod ({ cls := "SandKeepsSea", name := "crew", desc := "(II)I" } : Jvm.MethodName)) ∈ lw_all := lw_g (lw_at lw_m4 151 rfl) rfl
theorem q965 : (Jvm.Cond.selects "SandKeepsSea" ({ cls := "SandKeepsSea", name := "crew", desc := "(II)I" } : Jvm.MethodName) ({ cls := "SandKeepsSea", name := "crew", desc := "(II)I" } : Jvm.MethodName)) ∈ lw_all := lw_g (lw_at lw_m4 152 rfl) rfl
theorem q966 : (Jvm.Cond.code ({ cls := "SandKeepsSea", name := "crew", desc := "(II)I" } : Jvm.MethodName) prog_1_method_54_code (6 : Nat) (Option.some Jvm.ClassFile.FieldType.int)) ∈ lw_all := lw_g (lw_at lw_m4 153 rfl) rfl
theorem q967 : (Jvm.Cond.classLink "SandKeepsSea" (385 : Nat) "SandKeepsSea$Crew") ∈ lw_all := lw_g (lw_at lw_m4 154 rfl) rfl
theorem q969 : (Jvm.Cond.methodLink "SandKeepsSea" (387 : Nat) ({ cls := "SandKeepsSea$Crew", name := "<init>", desc := "(LSandKeepsSea;II)V" } : Jvm.MethodName)) ∈ lw_all := lw_g (lw_at lw_m4 156 rfl) rfl
theorem q979 : (Jvm.Cond.fieldLink "SandKeepsSea" (393 : Nat) "SandKeepsSea$Crew" "where" "[I") ∈ lw_all := lw_g (lw_at lw_m4 166 rfl) rfl
theorem q997 : (Jvm.Cond.methodLink "SandKeepsSea" (390 : Nat) ({ cls := "SandKeepsSea$Crew", name := "best", desc := "()I" } : Jvm.MethodName)) ∈ lw_all := lw_g (lw_at lw_m4 184 rfl) rfl
theorem q1023 : (Jvm.Cond.instanceMethod ({ cls := "SandKeepsSea", name := "post", desc := "(II)I" } : Jvm.MethodName)) ∈ lw_all := lw_g (lw_at lw_m4 210 rfl) rfl
theorem q1024 : (Jvm.Cond.selects "SandKeepsSea" ({ cls := "SandKeepsSea", name := "post", desc := "(II)I" } : Jvm.MethodName) ({ cls := "SandKeepsSea", name := "post", desc := "(II)I" } : Jvm.MethodName)) ∈ lw_all := lw_g (lw_at lw_m4 211 rfl) rfl
theorem q1025 : (Jvm.Cond.code ({ cls := "SandKeepsSea", name := "post", desc := "(II)I" } : Jvm.MethodName) prog_1_method_55_code (5 : Nat) (Option.some Jvm.ClassFile.FieldType.int)) ∈ lw_all := lw_g (lw_at lw_m4 212 rfl) rfl
theorem q1026 : (Jvm.Cond.classLink "SandKeepsSea" (396 : Nat) "SandKeepsSea$Post") ∈ lw_all := lw_g (lw_at lw_m4 213 rfl) rfl
theorem q1028 : (Jvm.Cond.methodLink "SandKeepsSea" (398 : Nat) ({ cls := "SandKeepsSea$Post", name := "<init>", desc := "(LSandKeepsSea;II)V" } : Jvm.MethodName)) ∈ lw_all := lw_g (lw_at lw_m4 215 rfl) rfl
theorem q1035 : (Jvm.Cond.fieldLink "SandKeepsSea" (400 : Nat) "SandKeepsSea$Post" "most" "I") ∈ lw_all := lw_g (lw_at lw_m4 222 rfl) rfl
theorem q1046 : (Jvm.Cond.methodLink "SandKeepsSea" (399 : Nat) ({ cls := "SandKeepsSea$Post", name := "best", desc := "()I" } : Jvm.MethodName)) ∈ lw_all := lw_g (lw_at lw_m4 233 rfl) rfl
theorem q1056 : (Jvm.Cond.instanceMethod ({ cls := "SandKeepsSea", name := "moats", desc := "(I)I" } : Jvm.MethodName)) ∈ lw_all := lw_g (lw_at lw_m5 3 rfl) rfl
theorem q1057 : (Jvm.Cond.selects "SandKeepsSea" ({ cls := "SandKeepsSea", name := "moats", desc := "(I)I" } : Jvm.MethodName) ({ cls := "SandKeepsSea", name := "moats", desc := "(I)I" } : Jvm.MethodName)) ∈ lw_all := lw_g (lw_at lw_m5 4 rfl) rfl
theorem q1058 : (Jvm.Cond.code ({ cls := "SandKeepsSea", name := "moats", desc := "(I)I" } : Jvm.MethodName) prog_1_method_56_code (6 : Nat) (Option.some Jvm.ClassFile.FieldType.int)) ∈ lw_all := lw_g (lw_at lw_m5 5 rfl) rfl
theorem q1059 : (Jvm.Cond.constantLong "SandKeepsSea" (403 : Nat) (4 : Int64)) ∈ lw_all := lw_g (lw_at lw_m5 6 rfl) rfl
theorem q1061 : (Jvm.Cond.instanceMethod ({ cls := "SandKeepsSea", name := "spades", desc := "()I" } : Jvm.MethodName)) ∈ lw_all := lw_g (lw_at lw_m5 8 rfl) rfl
theorem q1062 : (Jvm.Cond.selects "SandKeepsSea" ({ cls := "SandKeepsSea", name := "spades", desc := "()I" } : Jvm.MethodName) ({ cls := "SandKeepsSea", name := "spades", desc := "()I" } : Jvm.MethodName)) ∈ lw_all := lw_g (lw_at lw_m5 9 rfl) rfl
theorem q1063 : (Jvm.Cond.code ({ cls := "SandKeepsSea", name := "spades", desc := "()I" } : Jvm.MethodName) prog_1_method_58_code (5 : Nat) (Option.some Jvm.ClassFile.FieldType.int)) ∈ lw_all := lw_g (lw_at lw_m5 10 rfl) rfl
theorem q1064 : (Jvm.Cond.methodLink "SandKeepsSea" (405 : Nat) ({ cls := "SandKeepsSea", name := "bucketsBy", desc := "(I)I" } : Jvm.MethodName)) ∈ lw_all := lw_g (lw_at lw_m5 11 rfl) rfl
theorem q1065 : (Jvm.Cond.privateMethod ({ cls := "SandKeepsSea", name := "bucketsBy", desc := "(I)I" } : Jvm.MethodName)) ∈ lw_tbl := lw_at lw_m5 12 rfl
theorem q1066 : (Jvm.Cond.instanceMethod ({ cls := "SandKeepsSea", name := "bucketsBy", desc := "(I)I" } : Jvm.MethodName)) ∈ lw_all := lw_g (lw_at lw_m5 13 rfl) rfl
theorem q1067 : (Jvm.Cond.code ({ cls := "SandKeepsSea", name := "bucketsBy", desc := "(I)I" } : Jvm.MethodName) prog_1_method_57_code (4 : Nat) (Option.some Jvm.ClassFile.FieldType.int)) ∈ lw_all := lw_g (lw_at lw_m5 14 rfl) rfl
theorem q1069 : (Jvm.Cond.instanceMethod ({ cls := "SandKeepsSea", name := "treats", desc := "(I)I" } : Jvm.MethodName)) ∈ lw_all := lw_g (lw_at lw_m5 16 rfl) rfl
theorem q1070 : (Jvm.Cond.selects "SandKeepsSea" ({ cls := "SandKeepsSea", name := "treats", desc := "(I)I" } : Jvm.MethodName) ({ cls := "SandKeepsSea", name := "treats", desc := "(I)I" } : Jvm.MethodName)) ∈ lw_all := lw_g (lw_at lw_m5 17 rfl) rfl
theorem q1071 : (Jvm.Cond.code ({ cls := "SandKeepsSea", name := "treats", desc := "(I)I" } : Jvm.MethodName) prog_1_method_59_code (5 : Nat) (Option.some Jvm.ClassFile.FieldType.int)) ∈ lw_all := lw_g (lw_at lw_m5 18 rfl) rfl
theorem q1073 : (Jvm.Cond.instanceMethod ({ cls := "SandKeepsSea", name := "work", desc := "(I)I" } : Jvm.MethodName)) ∈ lw_all := lw_g (lw_at lw_m5 20 rfl) rfl
theorem q1074 : (Jvm.Cond.selects "SandKeepsSea" ({ cls := "SandKeepsSea", name := "work", desc := "(I)I" } : Jvm.MethodName) ({ cls := "SandKeepsSea", name := "work", desc := "(I)I" } : Jvm.MethodName)) ∈ lw_all := lw_g (lw_at lw_m5 21 rfl) rfl
theorem q1075 : (Jvm.Cond.code ({ cls := "SandKeepsSea", name := "work", desc := "(I)I" } : Jvm.MethodName) prog_1_method_60_code (4 : Nat) (Option.some Jvm.ClassFile.FieldType.int)) ∈ lw_all := lw_g (lw_at lw_m5 22 rfl) rfl
theorem q1077 : (Jvm.Cond.instanceMethod ({ cls := "SandKeepsSea", name := "law", desc := "()I" } : Jvm.MethodName)) ∈ lw_all := lw_g (lw_at lw_m5 24 rfl) rfl
theorem q1078 : (Jvm.Cond.selects "SandKeepsSea" ({ cls := "SandKeepsSea", name := "law", desc := "()I" } : Jvm.MethodName) ({ cls := "SandKeepsSea", name := "law", desc := "()I" } : Jvm.MethodName)) ∈ lw_all := lw_g (lw_at lw_m5 25 rfl) rfl
theorem q1079 : (Jvm.Cond.codeWith ({ cls := "SandKeepsSea", name := "law", desc := "()I" } : Jvm.MethodName) prog_1_method_61_code (9 : Nat) (Option.some Jvm.ClassFile.FieldType.int) [((45 : Nat), (89 : Nat), (97 : Nat), (113 : Nat)), ((45 : Nat), (89 : Nat), (118 : Nat), (0 : Nat)), ((97 : Nat), (110 : Nat), (118 : Nat), (0 : Nat)), ((118 : Nat), (120 : Nat), (118 : Nat), (0 : Nat))]) ∈ lw_all := lw_g (lw_at lw_m5 26 rfl) rfl
theorem q1081 : (Jvm.Cond.instanceMethod ({ cls := "SandKeepsSea", name := "seen", desc := "(II)I" } : Jvm.MethodName)) ∈ lw_all := lw_g (lw_at lw_m5 28 rfl) rfl
theorem q1082 : (Jvm.Cond.selects "SandKeepsSea" ({ cls := "SandKeepsSea", name := "seen", desc := "(II)I" } : Jvm.MethodName) ({ cls := "SandKeepsSea", name := "seen", desc := "(II)I" } : Jvm.MethodName)) ∈ lw_all := lw_g (lw_at lw_m5 29 rfl) rfl
theorem q1083 : (Jvm.Cond.code ({ cls := "SandKeepsSea", name := "seen", desc := "(II)I" } : Jvm.MethodName) prog_1_method_62_code (3 : Nat) (Option.some Jvm.ClassFile.FieldType.int)) ∈ lw_all := lw_g (lw_at lw_m5 30 rfl) rfl
theorem q1085 : (Jvm.Cond.instanceMethod ({ cls := "SandKeepsSea", name := "forget", desc := "()I" } : Jvm.MethodName)) ∈ lw_all := lw_g (lw_at lw_m5 32 rfl) rfl
theorem q1086 : (Jvm.Cond.selects "SandKeepsSea" ({ cls := "SandKeepsSea", name := "forget", desc := "()I" } : Jvm.MethodName) ({ cls := "SandKeepsSea", name := "forget", desc := "()I" } : Jvm.MethodName)) ∈ lw_all := lw_g (lw_at lw_m5 33 rfl) rfl
theorem q1087 : (Jvm.Cond.code ({ cls := "SandKeepsSea", name := "forget", desc := "()I" } : Jvm.MethodName) prog_1_method_63_code (2 : Nat) (Option.some Jvm.ClassFile.FieldType.int)) ∈ lw_all := lw_g (lw_at lw_m5 34 rfl) rfl
theorem q1089 : (Jvm.Cond.instanceMethod ({ cls := "SandKeepsSea", name := "ways", desc := "()I" } : Jvm.MethodName)) ∈ lw_all := lw_g (lw_at lw_m5 36 rfl) rfl
theorem q1090 : (Jvm.Cond.selects "SandKeepsSea" ({ cls := "SandKeepsSea", name := "ways", desc := "()I" } : Jvm.MethodName) ({ cls := "SandKeepsSea", name := "ways", desc := "()I" } : Jvm.MethodName)) ∈ lw_all := lw_g (lw_at lw_m5 37 rfl) rfl
theorem q1091 : (Jvm.Cond.code ({ cls := "SandKeepsSea", name := "ways", desc := "()I" } : Jvm.MethodName) prog_1_method_66_code (2 : Nat) (Option.some Jvm.ClassFile.FieldType.int)) ∈ lw_all := lw_g (lw_at lw_m5 38 rfl) rfl
theorem q1092 : (Jvm.Cond.methodLink "SandKeepsSea" (415 : Nat) ({ cls := "SandKeepsSea", name := "findWays", desc := "()V" } : Jvm.MethodName)) ∈ lw_all := lw_g (lw_at lw_m5 39 rfl) rfl
theorem q1093 : (Jvm.Cond.privateMethod ({ cls := "SandKeepsSea", name := "findWays", desc := "()V" } : Jvm.MethodName)) ∈ lw_tbl := lw_at lw_m5 40 rfl
theorem q1094 : (Jvm.Cond.instanceMethod ({ cls := "SandKeepsSea", name := "findWays", desc := "()V" } : Jvm.MethodName)) ∈ lw_all := lw_g (lw_at lw_m5 41 rfl) rfl
theorem q1095 : (Jvm.Cond.code ({ cls := "SandKeepsSea", name := "findWays", desc := "()V" } : Jvm.MethodName) prog_1_method_65_code (1 : Nat) (Option.none : Option Jvm.ClassFile.FieldType)) ∈ lw_all := lw_g (lw_at lw_m5 42 rfl) rfl
theorem q1096 : (Jvm.Cond.methodLink "SandKeepsSea" (411 : Nat) ({ cls := "SandKeepsSea", name := "goWays", desc := "(I)V" } : Jvm.MethodName)) ∈ lw_all := lw_g (lw_at lw_m5 43 rfl) rfl
theorem q1097 : (Jvm.Cond.privateMethod ({ cls := "SandKeepsSea", name := "goWays", desc := "(I)V" } : Jvm.MethodName)) ∈ lw_tbl := lw_at lw_m5 44 rfl
theorem q1098 : (Jvm.Cond.instanceMethod ({ cls := "SandKeepsSea", name := "goWays", desc := "(I)V" } : Jvm.MethodName)) ∈ lw_all := lw_g (lw_at lw_m5 45 rfl) rfl
theorem q1099 : (Jvm.Cond.code ({ cls := "SandKeepsSea", name := "goWays", desc := "(I)V" } : Jvm.MethodName) prog_1_method_64_code (3 : Nat) (Option.none : Option Jvm.ClassFile.FieldType)) ∈ lw_all := lw_g (lw_at lw_m5 46 rfl) rfl
theorem q1101 : (Jvm.Cond.instanceMethod ({ cls := "SandKeepsSea", name := "was", desc := "(I)I" } : Jvm.MethodName)) ∈ lw_all := lw_g (lw_at lw_m5 48 rfl) rfl
theorem q1102 : (Jvm.Cond.selects "SandKeepsSea" ({ cls := "SandKeepsSea", name := "was", desc := "(I)I" } : Jvm.MethodName) ({ cls := "SandKeepsSea", name := "was", desc := "(I)I" } : Jvm.MethodName)) ∈ lw_all := lw_g (lw_at lw_m5 49 rfl) rfl
theorem q1103 : (Jvm.Cond.code ({ cls := "SandKeepsSea", name := "was", desc := "(I)I" } : Jvm.MethodName) prog_1_method_67_code (2 : Nat) (Option.some Jvm.ClassFile.FieldType.int)) ∈ lw_all := lw_g (lw_at lw_m5 50 rfl) rfl
theorem q1105 : (Jvm.Cond.instanceMethod ({ cls := "SandKeepsSea", name := "rain", desc := "(III)I" } : Jvm.MethodName)) ∈ lw_all := lw_g (lw_at lw_m5 52 rfl) rfl
theorem q1106 : (Jvm.Cond.selects "SandKeepsSea" ({ cls := "SandKeepsSea", name := "rain", desc := "(III)I" } : Jvm.MethodName) ({ cls := "SandKeepsSea", name := "rain", desc := "(III)I" } : Jvm.MethodName)) ∈ lw_all := lw_g (lw_at lw_m5 53 rfl) rfl
theorem q1107 : (Jvm.Cond.code ({ cls := "SandKeepsSea", name := "rain", desc := "(III)I" } : Jvm.MethodName) prog_1_method_70_code (9 : Nat) (Option.some Jvm.ClassFile.FieldType.int)) ∈ lw_all := lw_g (lw_at lw_m5 54 rfl) rfl
theorem q1108 : (Jvm.Cond.constantLong "SandKeepsSea" (422 : Nat) (12 : Int64)) ∈ lw_all := lw_g (lw_at lw_m5 55 rfl) rfl
theorem q1109 : (Jvm.Cond.constantLong "SandKeepsSea" (424 : Nat) (10 : Int64)) ∈ lw_all := lw_g (lw_at lw_m5 56 rfl) rfl
theorem q1110 : (Jvm.Cond.methodLink "SandKeepsSea" (426 : Nat) ({ cls := "SandKeepsSea", name := "power", desc := "(JI)J" } : Jvm.MethodName)) ∈ lw_all := lw_g (lw_at lw_m5 57 rfl) rfl
theorem q1111 : (Jvm.Cond.static ({ cls := "SandKeepsSea", name := "power", desc := "(JI)J" } : Jvm.MethodName)) ∈ lw_all := lw_g (lw_at lw_m5 58 rfl) rfl
theorem q1112 : (Jvm.Cond.code ({ cls := "SandKeepsSea", name := "power", desc := "(JI)J" } : Jvm.MethodName) prog_1_method_69_code (6 : Nat) (Option.some Jvm.ClassFile.FieldType.long)) ∈ lw_all := lw_g (lw_at lw_m5 59 rfl) rfl
theorem q1113 : (Jvm.Cond.methodLink "SandKeepsSea" (418 : Nat) ({ cls := "SandKeepsSea", name := "common", desc := "(JJ)J" } : Jvm.MethodName)) ∈ lw_all := lw_g (lw_at lw_m5 60 rfl) rfl
theorem q1114 : (Jvm.Cond.static ({ cls := "SandKeepsSea", name := "common", desc := "(JJ)J" } : Jvm.MethodName)) ∈ lw_all := lw_g (lw_at lw_m5 61 rfl) rfl
theorem q1115 : (Jvm.Cond.code ({ cls := "SandKeepsSea", name := "common", desc := "(JJ)J" } : Jvm.MethodName) prog_1_method_68_code (4 : Nat) (Option.some Jvm.ClassFile.FieldType.long)) ∈ lw_all := lw_g (lw_at lw_m5 62 rfl) rfl
theorem q1117 : (Jvm.Cond.instanceMethod ({ cls := "SandKeepsSea", name := "rests", desc := "(II)I" } : Jvm.MethodName)) ∈ lw_all := lw_g (lw_at lw_m5 64 rfl) rfl
theorem q1118 : (Jvm.Cond.selects "SandKeepsSea" ({ cls := "SandKeepsSea", name := "rests", desc := "(II)I" } : Jvm.MethodName) ({ cls := "SandKeepsSea", name := "rests", desc := "(II)I" } : Jvm.MethodName)) ∈ lw_all := lw_g (lw_at lw_m5 65 rfl) rfl
theorem q1119 : (Jvm.Cond.code ({ cls := "SandKeepsSea", name := "rests", desc := "(II)I" } : Jvm.MethodName) prog_1_method_73_code (6 : Nat) (Option.some Jvm.ClassFile.FieldType.int)) ∈ lw_all := lw_g (lw_at lw_m5 66 rfl) rfl
theorem q1120 : (Jvm.Cond.methodLink "SandKeepsSea" (434 : Nat) ({ cls := "SandKeepsSea", name := "isBest", desc := "(IIII)Z" } : Jvm.MethodName)) ∈ lw_all := lw_g (lw_at lw_m5 67 rfl) rfl
theorem q1121 : (Jvm.Cond.static ({ cls := "SandKeepsSea", name := "isBest", desc := "(IIII)Z" } : Jvm.MethodName)) ∈ lw_all := lw_g (lw_at lw_m5 68 rfl) rfl
theorem q1122 : (Jvm.Cond.code ({ cls := "SandKeepsSea", name := "isBest", desc := "(IIII)Z" } : Jvm.MethodName) prog_1_method_72_code (5 : Nat) (Option.some Jvm.ClassFile.FieldType.boolean)) ∈ lw_all := lw_g (lw_at lw_m5 69 rfl) rfl
theorem q1123 : (Jvm.Cond.methodLink "SandKeepsSea" (430 : Nat) ({ cls := "SandKeepsSea", name := "gets", desc := "(IIII)I" } : Jvm.MethodName)) ∈ lw_all := lw_g (lw_at lw_m5 70 rfl) rfl
theorem q1124 : (Jvm.Cond.static ({ cls := "SandKeepsSea", name := "gets", desc := "(IIII)I" } : Jvm.MethodName)) ∈ lw_all := lw_g (lw_at lw_m5 71 rfl) rfl
theorem q1125 : (Jvm.Cond.code ({ cls := "SandKeepsSea", name := "gets", desc := "(IIII)I" } : Jvm.MethodName) prog_1_method_71_code (4 : Nat) (Option.some Jvm.ClassFile.FieldType.int)) ∈ lw_all := lw_g (lw_at lw_m5 72 rfl) rfl
theorem q1127 : (Jvm.Cond.instanceMethod ({ cls := "SandKeepsSea", name := "summers", desc := "(II)I" } : Jvm.MethodName)) ∈ lw_all := lw_g (lw_at lw_m5 74 rfl) rfl
theorem q1128 : (Jvm.Cond.selects "SandKeepsSea" ({ cls := "SandKeepsSea", name := "summers", desc := "(II)I" } : Jvm.MethodName) ({ cls := "SandKeepsSea", name := "summers", desc := "(II)I" } : Jvm.MethodName)) ∈ lw_all := lw_g (lw_at lw_m5 75 rfl) rfl
theorem q1129 : (Jvm.Cond.code ({ cls := "SandKeepsSea", name := "summers", desc := "(II)I" } : Jvm.MethodName) prog_1_method_75_code (8 : Nat) (Option.some Jvm.ClassFile.FieldType.int)) ∈ lw_all := lw_g (lw_at lw_m5 76 rfl) rfl
theorem q1130 : (Jvm.Cond.methodLink "SandKeepsSea" (442 : Nat) ({ cls := "SandKeepsSea", name := "draw", desc := "(I)I" } : Jvm.MethodName)) ∈ lw_all := lw_g (lw_at lw_m5 77 rfl) rfl
theorem q1131 : (Jvm.Cond.privateMethod ({ cls := "SandKeepsSea", name := "draw", desc := "(I)I" } : Jvm.MethodName)) ∈ lw_tbl := lw_at lw_m5 78 rfl
theorem q1132 : (Jvm.Cond.instanceMethod ({ cls := "SandKeepsSea", name := "draw", desc := "(I)I" } : Jvm.MethodName)) ∈ lw_all := lw_g (lw_at lw_m5 79 rfl) rfl
theorem q1133 : (Jvm.Cond.code ({ cls := "SandKeepsSea", name := "draw", desc := "(I)I" } : Jvm.MethodName) prog_1_method_74_code (2 : Nat) (Option.some Jvm.ClassFile.FieldType.int)) ∈ lw_all := lw_g (lw_at lw_m5 80 rfl) rfl
theorem q1134 : (Jvm.Cond.constant "SandKeepsSea" (441 : Nat) (1103515245 : Int32)) ∈ lw_all := lw_g (lw_at lw_m5 81 rfl) rfl
theorem q1136 : (Jvm.Cond.instanceMethod ({ cls := "SandKeepsSea", name := "keep", desc := "(I)Z" } : Jvm.MethodName)) ∈ lw_all := lw_g (lw_at lw_m5 83 rfl) rfl
theorem q1137 : (Jvm.Cond.selects "SandKeepsSea" ({ cls := "SandKeepsSea", name := "keep", desc := "(I)Z" } : Jvm.MethodName) ({ cls := "SandKeepsSea", name := "keep", desc := "(I)Z" } : Jvm.MethodName)) ∈ lw_all := lw_g (lw_at lw_m5 84 rfl) rfl
theorem q1138 : (Jvm.Cond.code ({ cls := "SandKeepsSea", name := "keep", desc := "(I)Z" } : Jvm.MethodName) prog_1_method_76_code (2 : Nat) (Option.some Jvm.ClassFile.FieldType.boolean)) ∈ lw_all := lw_g (lw_at lw_m5 85 rfl) rfl
theorem q1139 : (Jvm.Cond.constantLong "SandKeepsSea" (445 : Nat) (2 : Int64)) ∈ lw_all := lw_g (lw_at lw_m5 86 rfl) rfl
theorem q1141 : (Jvm.Cond.methodLink "SandKeepsSea" (447 : Nat) ({ cls := "SandKeepsSea$Page", name := "<init>", desc := "(LSandKeepsSea;)V" } : Jvm.MethodName)) ∈ lw_all := lw_g (lw_at lw_m5 88 rfl) rfl
theorem q1149 : (Jvm.Cond.fieldLinkNest "SandKeepsSea" (453 : Nat) "SandKeepsSea$Page" "was" "LSandKeepsSea$Beach;" "SandKeepsSea") ∈ lw_tbl := lw_at lw_m5 96 rfl
theorem q1151 : (Jvm.Cond.fieldLinkNest "SandKeepsSea" (450 : Nat) "SandKeepsSea$Page" "since" "I" "SandKeepsSea") ∈ lw_tbl := lw_at lw_m5 98 rfl
theorem q1161 : (Jvm.Cond.instanceMethod ({ cls := "SandKeepsSea", name := "again", desc := "(I)Z" } : Jvm.MethodName)) ∈ lw_all := lw_g (lw_at lw_m5 108 rfl) rfl
theorem q1162 : (Jvm.Cond.selects "SandKeepsSea" ({ cls := "SandKeepsSea", name := "again", desc := "(I)Z" } : Jvm.MethodName) ({ cls := "SandKeepsSea", name := "again", desc := "(I)Z" } : Jvm.MethodName)) ∈ lw_all := lw_g (lw_at lw_m5 109 rfl) rfl
theorem q1163 : (Jvm.Cond.code ({ cls := "SandKeepsSea", name := "again", desc := "(I)Z" } : Jvm.MethodName) prog_1_method_77_code (2 : Nat) (Option.some Jvm.ClassFile.FieldType.boolean)) ∈ lw_all := lw_g (lw_at lw_m5 110 rfl) rfl
theorem q1165 : (Jvm.Cond.instanceMethod ({ cls := "SandKeepsSea", name := "count", desc := "(I)I" } : Jvm.MethodName)) ∈ lw_all := lw_g (lw_at lw_m5 112 rfl) rfl
theorem q1166 : (Jvm.Cond.selects "SandKeepsSea" ({ cls := "SandKeepsSea", name := "count", desc := "(I)I" } : Jvm.MethodName) ({ cls := "SandKeepsSea", name := "count", desc := "(I)I" } : Jvm.MethodName)) ∈ lw_all := lw_g (lw_at lw_m5 113 rfl) rfl
theorem q1167 : (Jvm.Cond.code ({ cls := "SandKeepsSea", name := "count", desc := "(I)I" } : Jvm.MethodName) prog_1_method_78_code (2 : Nat) (Option.some Jvm.ClassFile.FieldType.int)) ∈ lw_all := lw_g (lw_at lw_m5 114 rfl) rfl
theorem q1173 : (Jvm.Cond.instanceMethod ({ cls := "SandKeepsSea", name := "cell", desc := "(II)I" } : Jvm.MethodName)) ∈ lw_all := lw_g (lw_at lw_m5 120 rfl) rfl
theorem q1174 : (Jvm.Cond.selects "SandKeepsSea" ({ cls := "SandKeepsSea", name := "cell", desc := "(II)I" } : Jvm.MethodName) ({ cls := "SandKeepsSea", name := "cell", desc := "(II)I" } : Jvm.MethodName)) ∈ lw_all := lw_g (lw_at lw_m5 121 rfl) rfl
theorem q1175 : (Jvm.Cond.code ({ cls := "SandKeepsSea", name := "cell", desc := "(II)I" } : Jvm.MethodName) prog_1_method_18_code (3 : Nat) (Option.some Jvm.ClassFile.FieldType.int)) ∈ lw_all := lw_g (lw_at lw_m5 122 rfl) rfl
theorem q1176 : (Jvm.Cond.classLink "SandKeepsSea" (236 : Nat) "java/util/NoSuchElementException") ∈ lw_all := lw_g (lw_at lw_m5 123 rfl) rfl
theorem q1185 : (Jvm.Cond.methodLink "SandKeepsSea" (238 : Nat) ({ cls := "java/util/NoSuchElementException", name := "<init>", desc := "()V" } : Jvm.MethodName)) ∈ lw_all := lw_g (lw_at lw_m5 132 rfl) rfl
theorem q1194 : (Jvm.Cond.methodLink "SandKeepsSea" (242 : Nat) ({ cls := "SandKeepsSea$Beach", name := "those", desc := "(II)I" } : Jvm.MethodName)) ∈ lw_all := lw_g (lw_at lw_m5 141 rfl) rfl
theorem q1202 : (Jvm.Cond.instanceMethod ({ cls := "SandKeepsSea", name := "child", desc := "(II)I" } : Jvm.MethodName)) ∈ lw_all := lw_g (lw_at lw_m5 149 rfl) rfl
theorem q1203 : (Jvm.Cond.selects "SandKeepsSea" ({ cls := "SandKeepsSea", name := "child", desc := "(II)I" } : Jvm.MethodName) ({ cls := "SandKeepsSea", name := "child", desc := "(II)I" } : Jvm.MethodName)) ∈ lw_all := lw_g (lw_at lw_m5 150 rfl) rfl
theorem q1204 : (Jvm.Cond.code ({ cls := "SandKeepsSea", name := "child", desc := "(II)I" } : Jvm.MethodName) prog_1_method_19_code (3 : Nat) (Option.some Jvm.ClassFile.FieldType.int)) ∈ lw_all := lw_g (lw_at lw_m5 151 rfl) rfl
theorem q1209 : (Jvm.Cond.instanceMethod ({ cls := "SandKeepsSea", name := "row", desc := "(I)J" } : Jvm.MethodName)) ∈ lw_all := lw_g (lw_at lw_m5 156 rfl) rfl
theorem q1210 : (Jvm.Cond.selects "SandKeepsSea" ({ cls := "SandKeepsSea", name := "row", desc := "(I)J" } : Jvm.MethodName) ({ cls := "SandKeepsSea", name := "row", desc := "(I)J" } : Jvm.MethodName)) ∈ lw_all := lw_g (lw_at lw_m5 157 rfl) rfl
theorem q1211 : (Jvm.Cond.code ({ cls := "SandKeepsSea", name := "row", desc := "(I)J" } : Jvm.MethodName) prog_1_method_79_code (2 : Nat) (Option.some Jvm.ClassFile.FieldType.long)) ∈ lw_all := lw_g (lw_at lw_m5 158 rfl) rfl
theorem q1865 : (Jvm.Cond.castable "SandKeepsSea" "java/lang/Object") ∈ lw_tbl := lw_at lw_m8 92 rfl
theorem in_X1 : ∀ w ∈ wsX10, w ∈ lw_all := lw_in wsX10 [223, 225, 227, 229, 231, 233, 235, 237, 239, 241, 243, 245, 247, 249, 251, 253, 255, 257, 259, 261, 263, 265, 267, 269, 271, 273, 275, 277, 279, 281, 283, 285] (by decide +kernel) (by decide +kernel)
