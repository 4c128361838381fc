/-! SandKeepsSeaModel -/
set_option maxRecDepth 100000
def RX3 : String := "SandKeepsSeaModel"
def TX3 : u_T := fun k => match k with
  | 0 => ("SandKeepsSeaModel", "thrown", "I", false)
  | 1 => ("SandKeepsSeaModel", "rows", "I", false)
  | 2 => ("SandKeepsSeaModel", "row", "[J", true)
  | 3 => ("SandKeepsSeaModel", "cells", "I", false)
  | 4 => ("SandKeepsSeaModel", "children", "I", false)
  | 5 => ("SandKeepsSeaModel", "changes", "I", false)
  | 6 => ("SandKeepsSeaModel", "base", "[I", true)
  | 7 => ("SandKeepsSeaModel", "dyke", "[I", true)
  | 8 => ("SandKeepsSeaModel", "age", "[I", true)
  | 9 => ("SandKeepsSeaModel", "skill", "[I", true)
  | 10 => ("SandKeepsSeaModel", "friend", "[I", true)
  | 11 => ("SandKeepsSeaModel", "fixed", "[I", true)
  | 12 => ("SandKeepsSeaModel", "now", "[I", true)
  | 13 => ("SandKeepsSeaModel", "then", "[I", true)
  | 14 => ("SandKeepsSeaModel", "tape", "[I", true)
  | 15 => ("SandKeepsSeaModel", "taped", "I", false)
  | 16 => ("SandKeepsSeaModel", "at", "I", false)
  | 17 => ("SandKeepsSeaModel", "to", "I", false)
  | 18 => ("SandKeepsSeaModel", "nest", "I", false)
  | 19 => ("SandKeepsSeaModel", "read", "[I", true)
  | 20 => ("SandKeepsSeaModel", "readMany", "I", false)
  | 21 => ("SandKeepsSeaModel", "code", "[I", true)
  | 22 => ("SandKeepsSeaModel", "readCode", "[I", true)
  | 23 => ("SandKeepsSeaModel", "codeLong", "I", false)
  | 24 => ("SandKeepsSeaModel", "readLong", "I", false)
  | 25 => ("SandKeepsSeaModel", "stack", "[I", true)
  | 26 => ("SandKeepsSeaModel", "asked", "[I", true)
  | 27 => ("SandKeepsSeaModel", "undos", "I", false)
  | 28 => ("SandKeepsSeaModel", "undone", "[I", true)
  | 29 => ("SandKeepsSeaModel", "wentHome", "I", false)
  | 30 => ("SandKeepsSeaModel", "gets", "[I", true)
  | 31 => ("SandKeepsSeaModel", "tideLevel", "I", false)
  | 32 => ("SandKeepsSeaModel", "actSign", "[I", true)
  | 33 => ("SandKeepsSeaModel", "actOne", "[I", true)
  | 34 => ("SandKeepsSeaModel", "actTwo", "[I", true)
  | 35 => ("SandKeepsSeaModel", "acts", "I", false)
  | 36 => ("SandKeepsSeaModel", "firstBreaks", "I", false)
  | 37 => ("SandKeepsSeaModel", "wasDyke", "[I", true)
  | 38 => ("SandKeepsSeaModel", "post", "[I", true)
  | 39 => ("SandKeepsSeaModel", "bestPost", "[I", true)
  | 40 => ("SandKeepsSeaModel", "bestCrew", "I", false)
  | 41 => ("SandKeepsSeaModel", "wasCode", "[I", true)
  | 42 => ("SandKeepsSeaModel", "sights", "I", false)
  | 43 => ("SandKeepsSeaModel", "sightOf", "[I", true)
  | 44 => ("SandKeepsSeaModel", "built", "[I", true)
  | 45 => ("SandKeepsSeaModel", "place", "[I", true)
  | 46 => ("SandKeepsSeaModel", "firstPlace", "[I", true)
  | 47 => ("SandKeepsSeaModel", "canBe", "[I", true)
  | 48 => ("SandKeepsSeaModel", "wayMany", "I", false)
  | 49 => ("SandKeepsSeaModel", "random", "I", false)
  | 50 => ("SandKeepsSeaModel", "isKept", "[Z", true)
  | 51 => ("SandKeepsSeaModel", "keptChanges", "[I", true)
  | _ => ("SandKeepsSeaModel", "kept", "[I", true)
def tyX3 : Nat → FieldType := fun k => match k with
  | 0 => .int
  | 1 => .int
  | 2 => .array .long
  | 3 => .int
  | 4 => .int
  | 5 => .int
  | 6 => .array .int
  | 7 => .array .int
  | 8 => .array .int
  | 9 => .array .int
  | 10 => .array .int
  | 11 => .array .int
  | 12 => .array .int
  | 13 => .array .int
  | 14 => .array .int
  | 15 => .int
  | 16 => .int
  | 17 => .int
  | 18 => .int
  | 19 => .array .int
  | 20 => .int
  | 21 => .array .int
  | 22 => .array .int
  | 23 => .int
  | 24 => .int
  | 25 => .array .int
  | 26 => .array .int
  | 27 => .int
  | 28 => .array .int
  | 29 => .int
  | 30 => .array .int
  | 31 => .int
  | 32 => .array .int
  | 33 => .array .int
  | 34 => .array .int
  | 35 => .int
  | 36 => .int
  | 37 => .array .int
  | 38 => .array .int
  | 39 => .array .int
  | 40 => .int
  | 41 => .array .int
  | 42 => .int
  | 43 => .array .int
  | 44 => .array .int
  | 45 => .array .int
  | 46 => .array .int
  | 47 => .array .int
  | 48 => .int
  | 49 => .int
  | 50 => .array .boolean
  | 51 => .array .int
  | _ => .array .int
abbrev wsX30 : List Cond := u_ws RX3 TX3 53
set_option maxRecDepth 100000 in
theorem nmX3 : ∀ a, a < 53 → ∀ b, b < 53 → a ≠ b → (TX3 a).2.1 ≠ (TX3 b).2.1 := by decide +kernel
set_option maxRecDepth 100000 in
theorem tyX3_ok : ∀ k, k < 53 → parseFieldDescriptor (TX3 k).2.2.1 = some (tyX3 k) := by decide +kernel
abbrev cX3_init : ByteArray := prog_13_method_1_code
def yX3_init : MethodName := ⟨RX3, "<init>", "()V"⟩
def dkwX3_init_11 : List UInt8 := [181, 0, 106, 42, 17, 0, 129, 188, 10, 181, 0, 109, 177]
abbrev dktX3_init_11 : List UInt8 := dkwX3_init_11 ++ []
def dkwX3_init_10 : List UInt8 := [181, 0, 96, 42, 16, 8, 188, 10, 181, 0, 99, 42, 6, 188, 4, 181, 0, 102, 42, 6, 188, 10]
abbrev dktX3_init_10 : List UInt8 := dkwX3_init_10 ++ dktX3_init_11
def dkwX3_init_9 : List UInt8 := [181, 0, 87, 42, 16, 12, 188, 10, 181, 0, 90, 42, 16, 8, 188, 10, 181, 0, 93, 42, 16, 8, 188, 10]
abbrev dktX3_init_9 : List UInt8 := dkwX3_init_9 ++ dktX3_init_10
def dkwX3_init_8 : List UInt8 := [181, 0, 78, 42, 16, 8, 188, 10, 181, 0, 81, 42, 16, 80, 188, 10, 181, 0, 84, 42, 16, 12, 188, 10]
abbrev dktX3_init_8 : List UInt8 := dkwX3_init_8 ++ dktX3_init_9
def dkwX3_init_7 : List UInt8 := [181, 0, 69, 42, 16, 60, 188, 10, 181, 0, 72, 42, 16, 12, 188, 10, 181, 0, 75, 42, 16, 8, 188, 10]
abbrev dktX3_init_7 : List UInt8 := dkwX3_init_7 ++ dktX3_init_8
def dkwX3_init_6 : List UInt8 := [181, 0, 60, 42, 16, 12, 188, 10, 181, 0, 63, 42, 16, 60, 188, 10, 181, 0, 66, 42, 16, 60, 188, 10]
abbrev dktX3_init_6 : List UInt8 := dkwX3_init_6 ++ dktX3_init_7
def dkwX3_init_5 : List UInt8 := [181, 0, 51, 42, 16, 80, 188, 10, 181, 0, 54, 42, 7, 188, 10, 181, 0, 57, 42, 17, 2, 176, 188, 10]
abbrev dktX3_init_5 : List UInt8 := dkwX3_init_5 ++ dktX3_init_6
def dkwX3_init_4 : List UInt8 := [181, 0, 42, 42, 16, 36, 188, 10, 181, 0, 45, 42, 16, 80, 188, 10, 181, 0, 48, 42, 16, 80, 188, 10]
abbrev dktX3_init_4 : List UInt8 := dkwX3_init_4 ++ dktX3_init_5
def dkwX3_init_3 : List UInt8 := [181, 0, 33, 42, 16, 43, 188, 10, 181, 0, 36, 42, 16, 43, 188, 10, 181, 0, 39, 42, 16, 80, 188, 10]
abbrev dktX3_init_3 : List UInt8 := dkwX3_init_3 ++ dktX3_init_4
def dkwX3_init_2 : List UInt8 := [181, 0, 27, 42, 16, 8, 188, 10, 181, 0, 30, 42, 5, 188, 10, 89, 3, 3, 79, 89, 4, 5, 79]
abbrev dktX3_init_2 : List UInt8 := dkwX3_init_2 ++ dktX3_init_3
def dkwX3_init_1 : List UInt8 := [181, 0, 17, 42, 16, 12, 188, 10, 181, 0, 21, 42, 16, 8, 188, 10, 181, 0, 24, 42, 16, 8, 188, 10]
abbrev dktX3_init_1 : List UInt8 := dkwX3_init_1 ++ dktX3_init_2
def dkwX3_init_0 : List UInt8 := [42, 183, 0, 3, 42, 16, 24, 188, 11, 181, 0, 9, 42, 4, 181, 0, 13, 42, 16, 12, 188, 10]
abbrev dktX3_init_0 : List UInt8 := dkwX3_init_0 ++ dktX3_init_1
theorem dksX3_init_0 : cX3_init.data.toList.drop 0 = dktX3_init_0 := by decide +kernel
theorem dksX3_init_1 : cX3_init.data.toList.drop 22 = dktX3_init_1 := dk_seg dksX3_init_0 22 rfl rfl
theorem dksX3_init_2 : cX3_init.data.toList.drop 46 = dktX3_init_2 := dk_seg dksX3_init_1 24 rfl rfl
theorem dksX3_init_3 : cX3_init.data.toList.drop 69 = dktX3_init_3 := dk_seg dksX3_init_2 23 rfl rfl
theorem dksX3_init_4 : cX3_init.data.toList.drop 93 = dktX3_init_4 := dk_seg dksX3_init_3 24 rfl rfl
theorem dksX3_init_5 : cX3_init.data.toList.drop 117 = dktX3_init_5 := dk_seg dksX3_init_4 24 rfl rfl
theorem dksX3_init_6 : cX3_init.data.toList.drop 141 = dktX3_init_6 := dk_seg dksX3_init_5 24 rfl rfl
theorem dksX3_init_7 : cX3_init.data.toList.drop 165 = dktX3_init_7 := dk_seg dksX3_init_6 24 rfl rfl
theorem dksX3_init_8 : cX3_init.data.toList.drop 189 = dktX3_init_8 := dk_seg dksX3_init_7 24 rfl rfl
theorem dksX3_init_9 : cX3_init.data.toList.drop 213 = dktX3_init_9 := dk_seg dksX3_init_8 24 rfl rfl
theorem dksX3_init_10 : cX3_init.data.toList.drop 237 = dktX3_init_10 := dk_seg dksX3_init_9 24 rfl rfl
theorem dksX3_init_11 : cX3_init.data.toList.drop 259 = dktX3_init_11 := dk_seg dksX3_init_10 22 rfl rfl
theorem dX3_init_0 : decode cX3_init 0 = .ok (.aload_n 0, 1) := dk_42 (dk_at dksX3_init_0 0 rfl rfl)
theorem dX3_init_1 : decode cX3_init 1 = .ok (.invokespecial 3, 3) := dk_183 0 3 (dk_at dksX3_init_0 1 rfl rfl)
theorem dX3_init_4 : decode cX3_init 4 = .ok (.aload_n 0, 1) := dk_42 (dk_at dksX3_init_0 4 rfl rfl)
theorem dX3_init_5 : decode cX3_init 5 = .ok (.bipush 24, 2) := dk_16 24 (dk_at dksX3_init_0 5 rfl rfl)
theorem dX3_init_7 : decode cX3_init 7 = .ok (.newarray .long, 2) := dk_188_11 (dk_at dksX3_init_0 7 rfl rfl)
theorem dX3_init_9 : decode cX3_init 9 = .ok (.putfield 9, 3) := dk_181 0 9 (dk_at dksX3_init_0 9 rfl rfl)
theorem dX3_init_12 : decode cX3_init 12 = .ok (.aload_n 0, 1) := dk_42 (dk_at dksX3_init_0 12 rfl rfl)
theorem dX3_init_13 : decode cX3_init 13 = .ok (.iconst 1, 1) := dk_4 (dk_at dksX3_init_0 13 rfl rfl)
theorem dX3_init_14 : decode cX3_init 14 = .ok (.putfield 13, 3) := dk_181 0 13 (dk_at dksX3_init_0 14 rfl rfl)
theorem dX3_init_17 : decode cX3_init 17 = .ok (.aload_n 0, 1) := dk_42 (dk_at dksX3_init_0 17 rfl rfl)
theorem dX3_init_18 : decode cX3_init 18 = .ok (.bipush 12, 2) := dk_16 12 (dk_at dksX3_init_0 18 rfl rfl)
theorem dX3_init_20 : decode cX3_init 20 = .ok (.newarray .int, 2) := dk_188_10 (dk_at dksX3_init_0 20 rfl rfl)
theorem dX3_init_22 : decode cX3_init 22 = .ok (.putfield 17, 3) := dk_181 0 17 (dk_at dksX3_init_1 0 rfl rfl)
theorem dX3_init_25 : decode cX3_init 25 = .ok (.aload_n 0, 1) := dk_42 (dk_at dksX3_init_1 3 rfl rfl)
theorem dX3_init_26 : decode cX3_init 26 = .ok (.bipush 12, 2) := dk_16 12 (dk_at dksX3_init_1 4 rfl rfl)
theorem dX3_init_28 : decode cX3_init 28 = .ok (.newarray .int, 2) := dk_188_10 (dk_at dksX3_init_1 6 rfl rfl)
theorem dX3_init_30 : decode cX3_init 30 = .ok (.putfield 21, 3) := dk_181 0 21 (dk_at dksX3_init_1 8 rfl rfl)
theorem dX3_init_33 : decode cX3_init 33 = .ok (.aload_n 0, 1) := dk_42 (dk_at dksX3_init_1 11 rfl rfl)
theorem dX3_init_34 : decode cX3_init 34 = .ok (.bipush 8, 2) := dk_16 8 (dk_at dksX3_init_1 12 rfl rfl)
theorem dX3_init_36 : decode cX3_init 36 = .ok (.newarray .int, 2) := dk_188_10 (dk_at dksX3_init_1 14 rfl rfl)
theorem dX3_init_38 : decode cX3_init 38 = .ok (.putfield 24, 3) := dk_181 0 24 (dk_at dksX3_init_1 16 rfl rfl)
theorem dX3_init_41 : decode cX3_init 41 = .ok (.aload_n 0, 1) := dk_42 (dk_at dksX3_init_1 19 rfl rfl)
theorem dX3_init_42 : decode cX3_init 42 = .ok (.bipush 8, 2) := dk_16 8 (dk_at dksX3_init_1 20 rfl rfl)
theorem dX3_init_44 : decode cX3_init 44 = .ok (.newarray .int, 2) := dk_188_10 (dk_at dksX3_init_1 22 rfl rfl)
theorem dX3_init_46 : decode cX3_init 46 = .ok (.putfield 27, 3) := dk_181 0 27 (dk_at dksX3_init_2 0 rfl rfl)
theorem dX3_init_49 : decode cX3_init 49 = .ok (.aload_n 0, 1) := dk_42 (dk_at dksX3_init_2 3 rfl rfl)
theorem dX3_init_50 : decode cX3_init 50 = .ok (.bipush 8, 2) := dk_16 8 (dk_at dksX3_init_2 4 rfl rfl)
theorem dX3_init_52 : decode cX3_init 52 = .ok (.newarray .int, 2) := dk_188_10 (dk_at dksX3_init_2 6 rfl rfl)
theorem dX3_init_54 : decode cX3_init 54 = .ok (.putfield 30, 3) := dk_181 0 30 (dk_at dksX3_init_2 8 rfl rfl)
theorem dX3_init_57 : decode cX3_init 57 = .ok (.aload_n 0, 1) := dk_42 (dk_at dksX3_init_2 11 rfl rfl)
theorem dX3_init_58 : decode cX3_init 58 = .ok (.iconst 2, 1) := dk_5 (dk_at dksX3_init_2 12 rfl rfl)
theorem dX3_init_59 : decode cX3_init 59 = .ok (.newarray .int, 2) := dk_188_10 (dk_at dksX3_init_2 13 rfl rfl)
theorem dX3_init_61 : decode cX3_init 61 = .ok (.dup, 1) := dk_89 (dk_at dksX3_init_2 15 rfl rfl)
theorem dX3_init_62 : decode cX3_init 62 = .ok (.iconst 0, 1) := dk_3 (dk_at dksX3_init_2 16 rfl rfl)
theorem dX3_init_63 : decode cX3_init 63 = .ok (.iconst 0, 1) := dk_3 (dk_at dksX3_init_2 17 rfl rfl)
theorem dX3_init_64 : decode cX3_init 64 = .ok (.iastore, 1) := dk_79 (dk_at dksX3_init_2 18 rfl rfl)
theorem dX3_init_65 : decode cX3_init 65 = .ok (.dup, 1) := dk_89 (dk_at dksX3_init_2 19 rfl rfl)
theorem dX3_init_66 : decode cX3_init 66 = .ok (.iconst 1, 1) := dk_4 (dk_at dksX3_init_2 20 rfl rfl)
theorem dX3_init_67 : decode cX3_init 67 = .ok (.iconst 2, 1) := dk_5 (dk_at dksX3_init_2 21 rfl rfl)
theorem dX3_init_68 : decode cX3_init 68 = .ok (.iastore, 1) := dk_79 (dk_at dksX3_init_2 22 rfl rfl)
theorem dX3_init_69 : decode cX3_init 69 = .ok (.putfield 33, 3) := dk_181 0 33 (dk_at dksX3_init_3 0 rfl rfl)
theorem dX3_init_72 : decode cX3_init 72 = .ok (.aload_n 0, 1) := dk_42 (dk_at dksX3_init_3 3 rfl rfl)
theorem dX3_init_73 : decode cX3_init 73 = .ok (.bipush 43, 2) := dk_16 43 (dk_at dksX3_init_3 4 rfl rfl)
theorem dX3_init_75 : decode cX3_init 75 = .ok (.newarray .int, 2) := dk_188_10 (dk_at dksX3_init_3 6 rfl rfl)
theorem dX3_init_77 : decode cX3_init 77 = .ok (.putfield 36, 3) := dk_181 0 36 (dk_at dksX3_init_3 8 rfl rfl)
theorem dX3_init_80 : decode cX3_init 80 = .ok (.aload_n 0, 1) := dk_42 (dk_at dksX3_init_3 11 rfl rfl)
theorem dX3_init_81 : decode cX3_init 81 = .ok (.bipush 43, 2) := dk_16 43 (dk_at dksX3_init_3 12 rfl rfl)
theorem dX3_init_83 : decode cX3_init 83 = .ok (.newarray .int, 2) := dk_188_10 (dk_at dksX3_init_3 14 rfl rfl)
theorem dX3_init_85 : decode cX3_init 85 = .ok (.putfield 39, 3) := dk_181 0 39 (dk_at dksX3_init_3 16 rfl rfl)
theorem dX3_init_88 : decode cX3_init 88 = .ok (.aload_n 0, 1) := dk_42 (dk_at dksX3_init_3 19 rfl rfl)
theorem dX3_init_89 : decode cX3_init 89 = .ok (.bipush 80, 2) := dk_16 80 (dk_at dksX3_init_3 20 rfl rfl)
theorem dX3_init_91 : decode cX3_init 91 = .ok (.newarray .int, 2) := dk_188_10 (dk_at dksX3_init_3 22 rfl rfl)
theorem dX3_init_93 : decode cX3_init 93 = .ok (.putfield 42, 3) := dk_181 0 42 (dk_at dksX3_init_4 0 rfl rfl)
theorem dX3_init_96 : decode cX3_init 96 = .ok (.aload_n 0, 1) := dk_42 (dk_at dksX3_init_4 3 rfl rfl)
theorem dX3_init_97 : decode cX3_init 97 = .ok (.bipush 36, 2) := dk_16 36 (dk_at dksX3_init_4 4 rfl rfl)
theorem dX3_init_99 : decode cX3_init 99 = .ok (.newarray .int, 2) := dk_188_10 (dk_at dksX3_init_4 6 rfl rfl)
theorem dX3_init_101 : decode cX3_init 101 = .ok (.putfield 45, 3) := dk_181 0 45 (dk_at dksX3_init_4 8 rfl rfl)
theorem dX3_init_104 : decode cX3_init 104 = .ok (.aload_n 0, 1) := dk_42 (dk_at dksX3_init_4 11 rfl rfl)
theorem dX3_init_105 : decode cX3_init 105 = .ok (.bipush 80, 2) := dk_16 80 (dk_at dksX3_init_4 12 rfl rfl)
theorem dX3_init_107 : decode cX3_init 107 = .ok (.newarray .int, 2) := dk_188_10 (dk_at dksX3_init_4 14 rfl rfl)
theorem dX3_init_109 : decode cX3_init 109 = .ok (.putfield 48, 3) := dk_181 0 48 (dk_at dksX3_init_4 16 rfl rfl)
theorem dX3_init_112 : decode cX3_init 112 = .ok (.aload_n 0, 1) := dk_42 (dk_at dksX3_init_4 19 rfl rfl)
theorem dX3_init_113 : decode cX3_init 113 = .ok (.bipush 80, 2) := dk_16 80 (dk_at dksX3_init_4 20 rfl rfl)
theorem dX3_init_115 : decode cX3_init 115 = .ok (.newarray .int, 2) := dk_188_10 (dk_at dksX3_init_4 22 rfl rfl)
theorem dX3_init_117 : decode cX3_init 117 = .ok (.putfield 51, 3) := dk_181 0 51 (dk_at dksX3_init_5 0 rfl rfl)
theorem dX3_init_120 : decode cX3_init 120 = .ok (.aload_n 0, 1) := dk_42 (dk_at dksX3_init_5 3 rfl rfl)
theorem dX3_init_121 : decode cX3_init 121 = .ok (.bipush 80, 2) := dk_16 80 (dk_at dksX3_init_5 4 rfl rfl)
theorem dX3_init_123 : decode cX3_init 123 = .ok (.newarray .int, 2) := dk_188_10 (dk_at dksX3_init_5 6 rfl rfl)
theorem dX3_init_125 : decode cX3_init 125 = .ok (.putfield 54, 3) := dk_181 0 54 (dk_at dksX3_init_5 8 rfl rfl)
theorem dX3_init_128 : decode cX3_init 128 = .ok (.aload_n 0, 1) := dk_42 (dk_at dksX3_init_5 11 rfl rfl)
theorem dX3_init_129 : decode cX3_init 129 = .ok (.iconst 4, 1) := dk_7 (dk_at dksX3_init_5 12 rfl rfl)
theorem dX3_init_130 : decode cX3_init 130 = .ok (.newarray .int, 2) := dk_188_10 (dk_at dksX3_init_5 13 rfl rfl)
theorem dX3_init_132 : decode cX3_init 132 = .ok (.putfield 57, 3) := dk_181 0 57 (dk_at dksX3_init_5 15 rfl rfl)
theorem dX3_init_135 : decode cX3_init 135 = .ok (.aload_n 0, 1) := dk_42 (dk_at dksX3_init_5 18 rfl rfl)
theorem dX3_init_136 : decode cX3_init 136 = .ok (.sipush 688, 3) := dk_17 2 176 (dk_at dksX3_init_5 19 rfl rfl)
theorem dX3_init_139 : decode cX3_init 139 = .ok (.newarray .int, 2) := dk_188_10 (dk_at dksX3_init_5 22 rfl rfl)
theorem dX3_init_141 : decode cX3_init 141 = .ok (.putfield 60, 3) := dk_181 0 60 (dk_at dksX3_init_6 0 rfl rfl)
theorem dX3_init_144 : decode cX3_init 144 = .ok (.aload_n 0, 1) := dk_42 (dk_at dksX3_init_6 3 rfl rfl)
theorem dX3_init_145 : decode cX3_init 145 = .ok (.bipush 12, 2) := dk_16 12 (dk_at dksX3_init_6 4 rfl rfl)
theorem dX3_init_147 : decode cX3_init 147 = .ok (.newarray .int, 2) := dk_188_10 (dk_at dksX3_init_6 6 rfl rfl)
theorem dX3_init_149 : decode cX3_init 149 = .ok (.putfield 63, 3) := dk_181 0 63 (dk_at dksX3_init_6 8 rfl rfl)
theorem dX3_init_152 : decode cX3_init 152 = .ok (.aload_n 0, 1) := dk_42 (dk_at dksX3_init_6 11 rfl rfl)
theorem dX3_init_153 : decode cX3_init 153 = .ok (.bipush 60, 2) := dk_16 60 (dk_at dksX3_init_6 12 rfl rfl)
theorem dX3_init_155 : decode cX3_init 155 = .ok (.newarray .int, 2) := dk_188_10 (dk_at dksX3_init_6 14 rfl rfl)
theorem dX3_init_157 : decode cX3_init 157 = .ok (.putfield 66, 3) := dk_181 0 66 (dk_at dksX3_init_6 16 rfl rfl)
theorem dX3_init_160 : decode cX3_init 160 = .ok (.aload_n 0, 1) := dk_42 (dk_at dksX3_init_6 19 rfl rfl)
theorem dX3_init_161 : decode cX3_init 161 = .ok (.bipush 60, 2) := dk_16 60 (dk_at dksX3_init_6 20 rfl rfl)
theorem dX3_init_163 : decode cX3_init 163 = .ok (.newarray .int, 2) := dk_188_10 (dk_at dksX3_init_6 22 rfl rfl)
theorem dX3_init_165 : decode cX3_init 165 = .ok (.putfield 69, 3) := dk_181 0 69 (dk_at dksX3_init_7 0 rfl rfl)
theorem dX3_init_168 : decode cX3_init 168 = .ok (.aload_n 0, 1) := dk_42 (dk_at dksX3_init_7 3 rfl rfl)
theorem dX3_init_169 : decode cX3_init 169 = .ok (.bipush 60, 2) := dk_16 60 (dk_at dksX3_init_7 4 rfl rfl)
theorem dX3_init_171 : decode cX3_init 171 = .ok (.newarray .int, 2) := dk_188_10 (dk_at dksX3_init_7 6 rfl rfl)
theorem dX3_init_173 : decode cX3_init 173 = .ok (.putfield 72, 3) := dk_181 0 72 (dk_at dksX3_init_7 8 rfl rfl)
theorem dX3_init_176 : decode cX3_init 176 = .ok (.aload_n 0, 1) := dk_42 (dk_at dksX3_init_7 11 rfl rfl)
theorem dX3_init_177 : decode cX3_init 177 = .ok (.bipush 12, 2) := dk_16 12 (dk_at dksX3_init_7 12 rfl rfl)
theorem dX3_init_179 : decode cX3_init 179 = .ok (.newarray .int, 2) := dk_188_10 (dk_at dksX3_init_7 14 rfl rfl)
theorem dX3_init_181 : decode cX3_init 181 = .ok (.putfield 75, 3) := dk_181 0 75 (dk_at dksX3_init_7 16 rfl rfl)
theorem dX3_init_184 : decode cX3_init 184 = .ok (.aload_n 0, 1) := dk_42 (dk_at dksX3_init_7 19 rfl rfl)
theorem dX3_init_185 : decode cX3_init 185 = .ok (.bipush 8, 2) := dk_16 8 (dk_at dksX3_init_7 20 rfl rfl)
theorem dX3_init_187 : decode cX3_init 187 = .ok (.newarray .int, 2) := dk_188_10 (dk_at dksX3_init_7 22 rfl rfl)
theorem dX3_init_189 : decode cX3_init 189 = .ok (.putfield 78, 3) := dk_181 0 78 (dk_at dksX3_init_8 0 rfl rfl)
theorem dX3_init_192 : decode cX3_init 192 = .ok (.aload_n 0, 1) := dk_42 (dk_at dksX3_init_8 3 rfl rfl)
theorem dX3_init_193 : decode cX3_init 193 = .ok (.bipush 8, 2) := dk_16 8 (dk_at dksX3_init_8 4 rfl rfl)
theorem dX3_init_195 : decode cX3_init 195 = .ok (.newarray .int, 2) := dk_188_10 (dk_at dksX3_init_8 6 rfl rfl)
theorem dX3_init_197 : decode cX3_init 197 = .ok (.putfield 81, 3) := dk_181 0 81 (dk_at dksX3_init_8 8 rfl rfl)
theorem dX3_init_200 : decode cX3_init 200 = .ok (.aload_n 0, 1) := dk_42 (dk_at dksX3_init_8 11 rfl rfl)
theorem dX3_init_201 : decode cX3_init 201 = .ok (.bipush 80, 2) := dk_16 80 (dk_at dksX3_init_8 12 rfl rfl)
theorem dX3_init_203 : decode cX3_init 203 = .ok (.newarray .int, 2) := dk_188_10 (dk_at dksX3_init_8 14 rfl rfl)
theorem dX3_init_205 : decode cX3_init 205 = .ok (.putfield 84, 3) := dk_181 0 84 (dk_at dksX3_init_8 16 rfl rfl)
theorem dX3_init_208 : decode cX3_init 208 = .ok (.aload_n 0, 1) := dk_42 (dk_at dksX3_init_8 19 rfl rfl)
theorem dX3_init_209 : decode cX3_init 209 = .ok (.bipush 12, 2) := dk_16 12 (dk_at dksX3_init_8 20 rfl rfl)
theorem dX3_init_211 : decode cX3_init 211 = .ok (.newarray .int, 2) := dk_188_10 (dk_at dksX3_init_8 22 rfl rfl)
theorem dX3_init_213 : decode cX3_init 213 = .ok (.putfield 87, 3) := dk_181 0 87 (dk_at dksX3_init_9 0 rfl rfl)
theorem dX3_init_216 : decode cX3_init 216 = .ok (.aload_n 0, 1) := dk_42 (dk_at dksX3_init_9 3 rfl rfl)
theorem dX3_init_217 : decode cX3_init 217 = .ok (.bipush 12, 2) := dk_16 12 (dk_at dksX3_init_9 4 rfl rfl)
theorem dX3_init_219 : decode cX3_init 219 = .ok (.newarray .int, 2) := dk_188_10 (dk_at dksX3_init_9 6 rfl rfl)
theorem dX3_init_221 : decode cX3_init 221 = .ok (.putfield 90, 3) := dk_181 0 90 (dk_at dksX3_init_9 8 rfl rfl)
theorem dX3_init_224 : decode cX3_init 224 = .ok (.aload_n 0, 1) := dk_42 (dk_at dksX3_init_9 11 rfl rfl)
theorem dX3_init_225 : decode cX3_init 225 = .ok (.bipush 8, 2) := dk_16 8 (dk_at dksX3_init_9 12 rfl rfl)
theorem dX3_init_227 : decode cX3_init 227 = .ok (.newarray .int, 2) := dk_188_10 (dk_at dksX3_init_9 14 rfl rfl)
theorem dX3_init_229 : decode cX3_init 229 = .ok (.putfield 93, 3) := dk_181 0 93 (dk_at dksX3_init_9 16 rfl rfl)
theorem dX3_init_232 : decode cX3_init 232 = .ok (.aload_n 0, 1) := dk_42 (dk_at dksX3_init_9 19 rfl rfl)
theorem dX3_init_233 : decode cX3_init 233 = .ok (.bipush 8, 2) := dk_16 8 (dk_at dksX3_init_9 20 rfl rfl)
theorem dX3_init_235 : decode cX3_init 235 = .ok (.newarray .int, 2) := dk_188_10 (dk_at dksX3_init_9 22 rfl rfl)
theorem dX3_init_237 : decode cX3_init 237 = .ok (.putfield 96, 3) := dk_181 0 96 (dk_at dksX3_init_10 0 rfl rfl)
theorem dX3_init_240 : decode cX3_init 240 = .ok (.aload_n 0, 1) := dk_42 (dk_at dksX3_init_10 3 rfl rfl)
theorem dX3_init_241 : decode cX3_init 241 = .ok (.bipush 8, 2) := dk_16 8 (dk_at dksX3_init_10 4 rfl rfl)
theorem dX3_init_243 : decode cX3_init 243 = .ok (.newarray .int, 2) := dk_188_10 (dk_at dksX3_init_10 6 rfl rfl)
theorem dX3_init_245 : decode cX3_init 245 = .ok (.putfield 99, 3) := dk_181 0 99 (dk_at dksX3_init_10 8 rfl rfl)
theorem dX3_init_248 : decode cX3_init 248 = .ok (.aload_n 0, 1) := dk_42 (dk_at dksX3_init_10 11 rfl rfl)
theorem dX3_init_249 : decode cX3_init 249 = .ok (.iconst 3, 1) := dk_6 (dk_at dksX3_init_10 12 rfl rfl)
theorem dX3_init_250 : decode cX3_init 250 = .ok (.newarray .boolean, 2) := dk_188_4 (dk_at dksX3_init_10 13 rfl rfl)
theorem dX3_init_252 : decode cX3_init 252 = .ok (.putfield 102, 3) := dk_181 0 102 (dk_at dksX3_init_10 15 rfl rfl)
theorem dX3_init_255 : decode cX3_init 255 = .ok (.aload_n 0, 1) := dk_42 (dk_at dksX3_init_10 18 rfl rfl)
theorem dX3_init_256 : decode cX3_init 256 = .ok (.iconst 3, 1) := dk_6 (dk_at dksX3_init_10 19 rfl rfl)
theorem dX3_init_257 : decode cX3_init 257 = .ok (.newarray .int, 2) := dk_188_10 (dk_at dksX3_init_10 20 rfl rfl)
theorem dX3_init_259 : decode cX3_init 259 = .ok (.putfield 106, 3) := dk_181 0 106 (dk_at dksX3_init_11 0 rfl rfl)
theorem dX3_init_262 : decode cX3_init 262 = .ok (.aload_n 0, 1) := dk_42 (dk_at dksX3_init_11 3 rfl rfl)
theorem dX3_init_263 : decode cX3_init 263 = .ok (.sipush 129, 3) := dk_17 0 129 (dk_at dksX3_init_11 4 rfl rfl)
theorem dX3_init_266 : decode cX3_init 266 = .ok (.newarray .int, 2) := dk_188_10 (dk_at dksX3_init_11 7 rfl rfl)
theorem dX3_init_268 : decode cX3_init 268 = .ok (.putfield 109, 3) := dk_181 0 109 (dk_at dksX3_init_11 9 rfl rfl)
theorem dX3_init_271 : decode cX3_init 271 = .ok (.return_, 1) := dk_177 (dk_at dksX3_init_11 12 rfl rfl)
abbrev cX3_thrown : ByteArray := prog_13_method_2_code
def yX3_thrown : MethodName := ⟨RX3, "thrown", "()I"⟩
theorem dX3_thrown_0 : decode cX3_thrown 0 = .ok (.aload_n 0, 1) := by decide +kernel
theorem dX3_thrown_1 : decode cX3_thrown 1 = .ok (.getfield 112, 3) := by decide +kernel
theorem dX3_thrown_4 : decode cX3_thrown 4 = .ok (.ireturn, 1) := by decide +kernel
abbrev cX3_sign : ByteArray := prog_13_method_18_code
def yX3_sign : MethodName := ⟨RX3, "sign", "(I)I"⟩
def dkwX3_sign_2 : List UInt8 := [132, 2, 1, 167, 255, 224, 42, 89, 180, 0, 133, 7, 96, 181, 0, 133, 42, 180, 0, 133, 172]
abbrev dktX3_sign_2 : List UInt8 := dkwX3_sign_2 ++ []
def dkwX3_sign_1 : List UInt8 := [180, 0, 42, 42, 180, 0, 133, 28, 96, 27, 16, 24, 16, 8, 28, 104, 100, 122, 17, 0, 255, 126, 79]
abbrev dktX3_sign_1 : List UInt8 := dkwX3_sign_1 ++ dktX3_sign_2
def dkwX3_sign_0 : List UInt8 := [42, 3, 181, 0, 112, 42, 180, 0, 133, 16, 76, 164, 0, 5, 2, 172, 3, 61, 28, 7, 162, 0, 33, 42]
abbrev dktX3_sign_0 : List UInt8 := dkwX3_sign_0 ++ dktX3_sign_1
theorem dksX3_sign_0 : cX3_sign.data.toList.drop 0 = dktX3_sign_0 := by decide +kernel
theorem dksX3_sign_1 : cX3_sign.data.toList.drop 24 = dktX3_sign_1 := dk_seg dksX3_sign_0 24 rfl rfl
theorem dksX3_sign_2 : cX3_sign.data.toList.drop 47 = dktX3_sign_2 := dk_seg dksX3_sign_1 23 rfl rfl
theorem dX3_sign_0 : decode cX3_sign 0 = .ok (.aload_n 0, 1) := dk_42 (dk_at dksX3_sign_0 0 rfl rfl)
theorem dX3_sign_1 : decode cX3_sign 1 = .ok (.iconst 0, 1) := dk_3 (dk_at dksX3_sign_0 1 rfl rfl)
theorem dX3_sign_2 : decode cX3_sign 2 = .ok (.putfield 112, 3) := dk_181 0 112 (dk_at dksX3_sign_0 2 rfl rfl)
theorem dX3_sign_5 : decode cX3_sign 5 = .ok (.aload_n 0, 1) := dk_42 (dk_at dksX3_sign_0 5 rfl rfl)
theorem dX3_sign_6 : decode cX3_sign 6 = .ok (.getfield 133, 3) := dk_180 0 133 (dk_at dksX3_sign_0 6 rfl rfl)
theorem dX3_sign_9 : decode cX3_sign 9 = .ok (.bipush 76, 2) := dk_16 76 (dk_at dksX3_sign_0 9 rfl rfl)
theorem dX3_sign_11 : decode cX3_sign 11 = .ok (.if_icmp .le 5, 3) := dk_164 0 5 (dk_at dksX3_sign_0 11 rfl rfl)
theorem dX3_sign_14 : decode cX3_sign 14 = .ok (.iconst (-1), 1) := dk_2 (dk_at dksX3_sign_0 14 rfl rfl)
theorem dX3_sign_15 : decode cX3_sign 15 = .ok (.ireturn, 1) := dk_172 (dk_at dksX3_sign_0 15 rfl rfl)
theorem dX3_sign_16 : decode cX3_sign 16 = .ok (.iconst 0, 1) := dk_3 (dk_at dksX3_sign_0 16 rfl rfl)
theorem dX3_sign_17 : decode cX3_sign 17 = .ok (.istore_n 2, 1) := dk_61 (dk_at dksX3_sign_0 17 rfl rfl)
theorem dX3_sign_18 : decode cX3_sign 18 = .ok (.iload_n 2, 1) := dk_28 (dk_at dksX3_sign_0 18 rfl rfl)
theorem dX3_sign_19 : decode cX3_sign 19 = .ok (.iconst 4, 1) := dk_7 (dk_at dksX3_sign_0 19 rfl rfl)
theorem dX3_sign_20 : decode cX3_sign 20 = .ok (.if_icmp .ge 33, 3) := dk_162 0 33 (dk_at dksX3_sign_0 20 rfl rfl)
theorem dX3_sign_23 : decode cX3_sign 23 = .ok (.aload_n 0, 1) := dk_42 (dk_at dksX3_sign_0 23 rfl rfl)
theorem dX3_sign_24 : decode cX3_sign 24 = .ok (.getfield 42, 3) := dk_180 0 42 (dk_at dksX3_sign_1 0 rfl rfl)
theorem dX3_sign_27 : decode cX3_sign 27 = .ok (.aload_n 0, 1) := dk_42 (dk_at dksX3_sign_1 3 rfl rfl)
theorem dX3_sign_28 : decode cX3_sign 28 = .ok (.getfield 133, 3) := dk_180 0 133 (dk_at dksX3_sign_1 4 rfl rfl)
theorem dX3_sign_31 : decode cX3_sign 31 = .ok (.iload_n 2, 1) := dk_28 (dk_at dksX3_sign_1 7 rfl rfl)
theorem dX3_sign_32 : decode cX3_sign 32 = .ok (.iadd, 1) := dk_96 (dk_at dksX3_sign_1 8 rfl rfl)
theorem dX3_sign_33 : decode cX3_sign 33 = .ok (.iload_n 1, 1) := dk_27 (dk_at dksX3_sign_1 9 rfl rfl)
theorem dX3_sign_34 : decode cX3_sign 34 = .ok (.bipush 24, 2) := dk_16 24 (dk_at dksX3_sign_1 10 rfl rfl)
theorem dX3_sign_36 : decode cX3_sign 36 = .ok (.bipush 8, 2) := dk_16 8 (dk_at dksX3_sign_1 12 rfl rfl)
theorem dX3_sign_38 : decode cX3_sign 38 = .ok (.iload_n 2, 1) := dk_28 (dk_at dksX3_sign_1 14 rfl rfl)
theorem dX3_sign_39 : decode cX3_sign 39 = .ok (.imul, 1) := dk_104 (dk_at dksX3_sign_1 15 rfl rfl)
theorem dX3_sign_40 : decode cX3_sign 40 = .ok (.isub, 1) := dk_100 (dk_at dksX3_sign_1 16 rfl rfl)
theorem dX3_sign_41 : decode cX3_sign 41 = .ok (.ishr, 1) := dk_122 (dk_at dksX3_sign_1 17 rfl rfl)
theorem dX3_sign_42 : decode cX3_sign 42 = .ok (.sipush 255, 3) := dk_17 0 255 (dk_at dksX3_sign_1 18 rfl rfl)
theorem dX3_sign_45 : decode cX3_sign 45 = .ok (.iand, 1) := dk_126 (dk_at dksX3_sign_1 21 rfl rfl)
theorem dX3_sign_46 : decode cX3_sign 46 = .ok (.iastore, 1) := dk_79 (dk_at dksX3_sign_1 22 rfl rfl)
theorem dX3_sign_47 : decode cX3_sign 47 = .ok (.iinc 2 1, 3) := dk_132 2 1 (dk_at dksX3_sign_2 0 rfl rfl)
theorem dX3_sign_50 : decode cX3_sign 50 = .ok (.goto (-32), 3) := dk_167 255 224 (dk_at dksX3_sign_2 3 rfl rfl)
theorem dX3_sign_53 : decode cX3_sign 53 = .ok (.aload_n 0, 1) := dk_42 (dk_at dksX3_sign_2 6 rfl rfl)
theorem dX3_sign_54 : decode cX3_sign 54 = .ok (.dup, 1) := dk_89 (dk_at dksX3_sign_2 7 rfl rfl)
theorem dX3_sign_55 : decode cX3_sign 55 = .ok (.getfield 133, 3) := dk_180 0 133 (dk_at dksX3_sign_2 8 rfl rfl)
theorem dX3_sign_58 : decode cX3_sign 58 = .ok (.iconst 4, 1) := dk_7 (dk_at dksX3_sign_2 11 rfl rfl)
theorem dX3_sign_59 : decode cX3_sign 59 = .ok (.iadd, 1) := dk_96 (dk_at dksX3_sign_2 12 rfl rfl)
theorem dX3_sign_60 : decode cX3_sign 60 = .ok (.putfield 133, 3) := dk_181 0 133 (dk_at dksX3_sign_2 13 rfl rfl)
theorem dX3_sign_63 : decode cX3_sign 63 = .ok (.aload_n 0, 1) := dk_42 (dk_at dksX3_sign_2 16 rfl rfl)
theorem dX3_sign_64 : decode cX3_sign 64 = .ok (.getfield 133, 3) := dk_180 0 133 (dk_at dksX3_sign_2 17 rfl rfl)
theorem dX3_sign_67 : decode cX3_sign 67 = .ok (.ireturn, 1) := dk_172 (dk_at dksX3_sign_2 20 rfl rfl)
abbrev cX3_end : ByteArray := prog_13_method_19_code
def yX3_end : MethodName := ⟨RX3, "end", "(I)Z"⟩
def dkwX3_end_1 : List UInt8 := [181, 0, 133, 4, 172]
abbrev dktX3_end_1 : List UInt8 := dkwX3_end_1 ++ []
def dkwX3_end_0 : List UInt8 := [42, 3, 181, 0, 112, 27, 133, 9, 42, 180, 0, 133, 133, 184, 0, 122, 154, 0, 5, 3, 172, 42, 27]
abbrev dktX3_end_0 : List UInt8 := dkwX3_end_0 ++ dktX3_end_1
theorem dksX3_end_0 : cX3_end.data.toList.drop 0 = dktX3_end_0 := by decide +kernel
theorem dksX3_end_1 : cX3_end.data.toList.drop 23 = dktX3_end_1 := dk_seg dksX3_end_0 23 rfl rfl
theorem dX3_end_0 : decode cX3_end 0 = .ok (.aload_n 0, 1) := dk_42 (dk_at dksX3_end_0 0 rfl rfl)
theorem dX3_end_1 : decode cX3_end 1 = .ok (.iconst 0, 1) := dk_3 (dk_at dksX3_end_0 1 rfl rfl)
theorem dX3_end_2 : decode cX3_end 2 = .ok (.putfield 112, 3) := dk_181 0 112 (dk_at dksX3_end_0 2 rfl rfl)
theorem dX3_end_5 : decode cX3_end 5 = .ok (.iload_n 1, 1) := dk_27 (dk_at dksX3_end_0 5 rfl rfl)
theorem dX3_end_6 : decode cX3_end 6 = .ok (.i2l, 1) := dk_133 (dk_at dksX3_end_0 6 rfl rfl)
theorem dX3_end_7 : decode cX3_end 7 = .ok (.lconst 0, 1) := dk_9 (dk_at dksX3_end_0 7 rfl rfl)
theorem dX3_end_8 : decode cX3_end 8 = .ok (.aload_n 0, 1) := dk_42 (dk_at dksX3_end_0 8 rfl rfl)
theorem dX3_end_9 : decode cX3_end 9 = .ok (.getfield 133, 3) := dk_180 0 133 (dk_at dksX3_end_0 9 rfl rfl)
theorem dX3_end_12 : decode cX3_end 12 = .ok (.i2l, 1) := dk_133 (dk_at dksX3_end_0 12 rfl rfl)
theorem dX3_end_13 : decode cX3_end 13 = .ok (.invokestatic 122, 3) := dk_184 0 122 (dk_at dksX3_end_0 13 rfl rfl)
theorem dX3_end_16 : decode cX3_end 16 = .ok (.ifCond .ne 5, 3) := dk_154 0 5 (dk_at dksX3_end_0 16 rfl rfl)
theorem dX3_end_19 : decode cX3_end 19 = .ok (.iconst 0, 1) := dk_3 (dk_at dksX3_end_0 19 rfl rfl)
theorem dX3_end_20 : decode cX3_end 20 = .ok (.ireturn, 1) := dk_172 (dk_at dksX3_end_0 20 rfl rfl)
theorem dX3_end_21 : decode cX3_end 21 = .ok (.aload_n 0, 1) := dk_42 (dk_at dksX3_end_0 21 rfl rfl)
theorem dX3_end_22 : decode cX3_end 22 = .ok (.iload_n 1, 1) := dk_27 (dk_at dksX3_end_0 22 rfl rfl)
theorem dX3_end_23 : decode cX3_end 23 = .ok (.putfield 133, 3) := dk_181 0 133 (dk_at dksX3_end_1 0 rfl rfl)
theorem dX3_end_26 : decode cX3_end 26 = .ok (.iconst 1, 1) := dk_4 (dk_at dksX3_end_1 3 rfl rfl)
theorem dX3_end_27 : decode cX3_end 27 = .ok (.ireturn, 1) := dk_172 (dk_at dksX3_end_1 4 rfl rfl)
abbrev cX3_in : ByteArray := prog_13_method_4_code
def yX3_in : MethodName := ⟨RX3, "in", "(JJJ)Z"⟩
def dkwX3_in_0 : List UInt8 := [30, 32, 148, 155, 0, 14, 30, 22, 4, 148, 157, 0, 7, 4, 167, 0, 4, 3, 172]
abbrev dktX3_in_0 : List UInt8 := dkwX3_in_0 ++ []
theorem dksX3_in_0 : cX3_in.data.toList.drop 0 = dktX3_in_0 := by decide +kernel
theorem dX3_in_0 : decode cX3_in 0 = .ok (.lload_n 0, 1) := dk_30 (dk_at dksX3_in_0 0 rfl rfl)
theorem dX3_in_1 : decode cX3_in 1 = .ok (.lload_n 2, 1) := dk_32 (dk_at dksX3_in_0 1 rfl rfl)
theorem dX3_in_2 : decode cX3_in 2 = .ok (.lcmp, 1) := dk_148 (dk_at dksX3_in_0 2 rfl rfl)
theorem dX3_in_3 : decode cX3_in 3 = .ok (.ifCond .lt 14, 3) := dk_155 0 14 (dk_at dksX3_in_0 3 rfl rfl)
theorem dX3_in_6 : decode cX3_in 6 = .ok (.lload_n 0, 1) := dk_30 (dk_at dksX3_in_0 6 rfl rfl)
theorem dX3_in_7 : decode cX3_in 7 = .ok (.lload 4, 2) := dk_22 4 (dk_at dksX3_in_0 7 rfl rfl)
theorem dX3_in_9 : decode cX3_in 9 = .ok (.lcmp, 1) := dk_148 (dk_at dksX3_in_0 9 rfl rfl)
theorem dX3_in_10 : decode cX3_in 10 = .ok (.ifCond .gt 7, 3) := dk_157 0 7 (dk_at dksX3_in_0 10 rfl rfl)
theorem dX3_in_13 : decode cX3_in 13 = .ok (.iconst 1, 1) := dk_4 (dk_at dksX3_in_0 13 rfl rfl)
theorem dX3_in_14 : decode cX3_in 14 = .ok (.goto 4, 3) := dk_167 0 4 (dk_at dksX3_in_0 14 rfl rfl)
theorem dX3_in_17 : decode cX3_in 17 = .ok (.iconst 0, 1) := dk_3 (dk_at dksX3_in_0 17 rfl rfl)
theorem dX3_in_18 : decode cX3_in 18 = .ok (.ireturn, 1) := dk_172 (dk_at dksX3_in_0 18 rfl rfl)
abbrev cX3_shore : ByteArray := prog_13_method_29_code
def yX3_shore : MethodName := ⟨RX3, "shore", "()I"⟩
def dkwX3_shore_13 : List UInt8 := [3, 181, 0, 188, 42, 3, 181, 0, 191, 42, 89, 180, 0, 194, 4, 96, 181, 0, 194, 42, 180, 0, 13, 172]
abbrev dktX3_shore_13 : List UInt8 := dkwX3_shore_13 ++ []
def dkwX3_shore_12 : List UInt8 := [162, 0, 23, 42, 180, 0, 36, 16, 25, 5, 29, 104, 96, 3, 96, 2, 79, 132, 3, 1, 167, 255, 231, 42]
abbrev dktX3_shore_12 : List UInt8 := dkwX3_shore_12 ++ dktX3_shore_13
def dkwX3_shore_11 : List UInt8 := [180, 0, 36, 16, 12, 3, 79, 42, 180, 0, 36, 16, 42, 3, 79, 3, 62, 29, 42, 180, 0, 126]
abbrev dktX3_shore_11 : List UInt8 := dkwX3_shore_11 ++ dktX3_shore_12
def dkwX3_shore_10 : List UInt8 := [180, 0, 36, 29, 3, 79, 42, 180, 0, 36, 16, 13, 29, 96, 3, 79, 132, 3, 1, 167, 255, 180, 42]
abbrev dktX3_shore_10 : List UInt8 := dkwX3_shore_10 ++ dktX3_shore_11
def dkwX3_shore_9 : List UInt8 := [27, 4, 100, 162, 0, 16, 42, 180, 0, 45, 5, 29, 104, 4, 96, 46, 167, 0, 4, 3, 79, 42]
abbrev dktX3_shore_9 : List UInt8 := dkwX3_shore_9 ++ dktX3_shore_10
def dkwX3_shore_8 : List UInt8 := [29, 27, 162, 0, 14, 42, 180, 0, 45, 5, 29, 104, 46, 167, 0, 4, 3, 79, 42, 180, 0, 21, 29, 29]
abbrev dktX3_shore_8 : List UInt8 := dkwX3_shore_8 ++ dktX3_shore_9
def dkwX3_shore_7 : List UInt8 := [42, 180, 0, 136, 100, 172, 42, 27, 181, 0, 13, 3, 62, 29, 16, 12, 162, 0, 76, 42, 180, 0, 17, 29]
abbrev dktX3_shore_7 : List UInt8 := dkwX3_shore_7 ++ dktX3_shore_8
def dkwX3_shore_6 : List UInt8 := [155, 0, 7, 4, 167, 0, 4, 3, 61, 27, 28, 184, 0, 151, 96, 60, 167, 255, 113, 28, 154, 0, 10, 2]
abbrev dktX3_shore_6 : List UInt8 := dkwX3_shore_6 ++ dktX3_shore_7
def dkwX3_shore_5 : List UInt8 := [153, 255, 153, 42, 180, 0, 45, 5, 27, 104, 42, 4, 182, 0, 177, 79, 42, 180, 0, 45, 5, 27, 104, 46]
abbrev dktX3_shore_5 : List UInt8 := dkwX3_shore_5 ++ dktX3_shore_6
def dkwX3_shore_4 : List UInt8 := [182, 0, 177, 79, 42, 180, 0, 45, 5, 27, 104, 4, 100, 46, 155, 0, 7, 4, 167, 0, 4, 3, 61, 28]
abbrev dktX3_shore_4 : List UInt8 := dkwX3_shore_4 ++ dktX3_shore_5
def dkwX3_shore_3 : List UInt8 := [27, 158, 0, 46, 42, 16, 124, 182, 0, 184, 153, 0, 37, 42, 180, 0, 45, 5, 27, 104, 4, 100, 42, 4]
abbrev dktX3_shore_3 : List UInt8 := dkwX3_shore_3 ++ dktX3_shore_4
def dkwX3_shore_2 : List UInt8 := [180, 0, 45, 5, 27, 104, 2, 79, 27, 16, 12, 162, 0, 7, 4, 167, 0, 4, 3, 61, 28, 153, 0, 50]
abbrev dktX3_shore_2 : List UInt8 := dkwX3_shore_2 ++ dktX3_shore_3
def dkwX3_shore_1 : List UInt8 := [42, 180, 0, 136, 42, 180, 0, 148, 162, 0, 130, 42, 180, 0, 45, 5, 27, 104, 4, 96, 3, 79, 42]
abbrev dktX3_shore_1 : List UInt8 := dkwX3_shore_1 ++ dktX3_shore_2
def dkwX3_shore_0 : List UInt8 := [42, 3, 181, 0, 112, 42, 16, 80, 182, 0, 181, 87, 3, 60, 4, 61, 28, 153, 0, 145, 27, 153, 0, 14]
abbrev dktX3_shore_0 : List UInt8 := dkwX3_shore_0 ++ dktX3_shore_1
theorem dksX3_shore_0 : cX3_shore.data.toList.drop 0 = dktX3_shore_0 := by decide +kernel
theorem dksX3_shore_1 : cX3_shore.data.toList.drop 24 = dktX3_shore_1 := dk_seg dksX3_shore_0 24 rfl rfl
theorem dksX3_shore_2 : cX3_shore.data.toList.drop 47 = dktX3_shore_2 := dk_seg dksX3_shore_1 23 rfl rfl
theorem dksX3_shore_3 : cX3_shore.data.toList.drop 71 = dktX3_shore_3 := dk_seg dksX3_shore_2 24 rfl rfl
theorem dksX3_shore_4 : cX3_shore.data.toList.drop 95 = dktX3_shore_4 := dk_seg dksX3_shore_3 24 rfl rfl
theorem dksX3_shore_5 : cX3_shore.data.toList.drop 119 = dktX3_shore_5 := dk_seg dksX3_shore_4 24 rfl rfl
theorem dksX3_shore_6 : cX3_shore.data.toList.drop 143 = dktX3_shore_6 := dk_seg dksX3_shore_5 24 rfl rfl
theorem dksX3_shore_7 : cX3_shore.data.toList.drop 167 = dktX3_shore_7 := dk_seg dksX3_shore_6 24 rfl rfl
theorem dksX3_shore_8 : cX3_shore.data.toList.drop 191 = dktX3_shore_8 := dk_seg dksX3_shore_7 24 rfl rfl
theorem dksX3_shore_9 : cX3_shore.data.toList.drop 215 = dktX3_shore_9 := dk_seg dksX3_shore_8 24 rfl rfl
theorem dksX3_shore_10 : cX3_shore.data.toList.drop 237 = dktX3_shore_10 := dk_seg dksX3_shore_9 22 rfl rfl
theorem dksX3_shore_11 : cX3_shore.data.toList.drop 260 = dktX3_shore_11 := dk_seg dksX3_shore_10 23 rfl rfl
theorem dksX3_shore_12 : cX3_shore.data.toList.drop 282 = dktX3_shore_12 := dk_seg dksX3_shore_11 22 rfl rfl
theorem dksX3_shore_13 : cX3_shore.data.toList.drop 306 = dktX3_shore_13 := dk_seg dksX3_shore_12 24 rfl rfl
theorem dX3_shore_0 : decode cX3_shore 0 = .ok (.aload_n 0, 1) := dk_42 (dk_at dksX3_shore_0 0 rfl rfl)
theorem dX3_shore_1 : decode cX3_shore 1 = .ok (.iconst 0, 1) := dk_3 (dk_at dksX3_shore_0 1 rfl rfl)
theorem dX3_shore_2 : decode cX3_shore 2 = .ok (.putfield 112, 3) := dk_181 0 112 (dk_at dksX3_shore_0 2 rfl rfl)
theorem dX3_shore_5 : decode cX3_shore 5 = .ok (.aload_n 0, 1) := dk_42 (dk_at dksX3_shore_0 5 rfl rfl)
theorem dX3_shore_6 : decode cX3_shore 6 = .ok (.bipush 80, 2) := dk_16 80 (dk_at dksX3_shore_0 6 rfl rfl)
theorem dX3_shore_8 : decode cX3_shore 8 = .ok (.invokevirtual 181, 3) := dk_182 0 181 (dk_at dksX3_shore_0 8 rfl rfl)
theorem dX3_shore_11 : decode cX3_shore 11 = .ok (.pop, 1) := dk_87 (dk_at dksX3_shore_0 11 rfl rfl)
theorem dX3_shore_12 : decode cX3_shore 12 = .ok (.iconst 0, 1) := dk_3 (dk_at dksX3_shore_0 12 rfl rfl)
theorem dX3_shore_13 : decode cX3_shore 13 = .ok (.istore_n 1, 1) := dk_60 (dk_at dksX3_shore_0 13 rfl rfl)
theorem dX3_shore_14 : decode cX3_shore 14 = .ok (.iconst 1, 1) := dk_4 (dk_at dksX3_shore_0 14 rfl rfl)
theorem dX3_shore_15 : decode cX3_shore 15 = .ok (.istore_n 2, 1) := dk_61 (dk_at dksX3_shore_0 15 rfl rfl)
theorem dX3_shore_16 : decode cX3_shore 16 = .ok (.iload_n 2, 1) := dk_28 (dk_at dksX3_shore_0 16 rfl rfl)
theorem dX3_shore_17 : decode cX3_shore 17 = .ok (.ifCond .eq 145, 3) := dk_153 0 145 (dk_at dksX3_shore_0 17 rfl rfl)
theorem dX3_shore_20 : decode cX3_shore 20 = .ok (.iload_n 1, 1) := dk_27 (dk_at dksX3_shore_0 20 rfl rfl)
theorem dX3_shore_21 : decode cX3_shore 21 = .ok (.ifCond .eq 14, 3) := dk_153 0 14 (dk_at dksX3_shore_0 21 rfl rfl)
theorem dX3_shore_24 : decode cX3_shore 24 = .ok (.aload_n 0, 1) := dk_42 (dk_at dksX3_shore_1 0 rfl rfl)
theorem dX3_shore_25 : decode cX3_shore 25 = .ok (.getfield 136, 3) := dk_180 0 136 (dk_at dksX3_shore_1 1 rfl rfl)
theorem dX3_shore_28 : decode cX3_shore 28 = .ok (.aload_n 0, 1) := dk_42 (dk_at dksX3_shore_1 4 rfl rfl)
theorem dX3_shore_29 : decode cX3_shore 29 = .ok (.getfield 148, 3) := dk_180 0 148 (dk_at dksX3_shore_1 5 rfl rfl)
theorem dX3_shore_32 : decode cX3_shore 32 = .ok (.if_icmp .ge 130, 3) := dk_162 0 130 (dk_at dksX3_shore_1 8 rfl rfl)
theorem dX3_shore_35 : decode cX3_shore 35 = .ok (.aload_n 0, 1) := dk_42 (dk_at dksX3_shore_1 11 rfl rfl)
theorem dX3_shore_36 : decode cX3_shore 36 = .ok (.getfield 45, 3) := dk_180 0 45 (dk_at dksX3_shore_1 12 rfl rfl)
theorem dX3_shore_39 : decode cX3_shore 39 = .ok (.iconst 2, 1) := dk_5 (dk_at dksX3_shore_1 15 rfl rfl)
theorem dX3_shore_40 : decode cX3_shore 40 = .ok (.iload_n 1, 1) := dk_27 (dk_at dksX3_shore_1 16 rfl rfl)
theorem dX3_shore_41 : decode cX3_shore 41 = .ok (.imul, 1) := dk_104 (dk_at dksX3_shore_1 17 rfl rfl)
theorem dX3_shore_42 : decode cX3_shore 42 = .ok (.iconst 1, 1) := dk_4 (dk_at dksX3_shore_1 18 rfl rfl)
theorem dX3_shore_43 : decode cX3_shore 43 = .ok (.iadd, 1) := dk_96 (dk_at dksX3_shore_1 19 rfl rfl)
theorem dX3_shore_44 : decode cX3_shore 44 = .ok (.iconst 0, 1) := dk_3 (dk_at dksX3_shore_1 20 rfl rfl)
theorem dX3_shore_45 : decode cX3_shore 45 = .ok (.iastore, 1) := dk_79 (dk_at dksX3_shore_1 21 rfl rfl)
theorem dX3_shore_46 : decode cX3_shore 46 = .ok (.aload_n 0, 1) := dk_42 (dk_at dksX3_shore_1 22 rfl rfl)
theorem dX3_shore_47 : decode cX3_shore 47 = .ok (.getfield 45, 3) := dk_180 0 45 (dk_at dksX3_shore_2 0 rfl rfl)
theorem dX3_shore_50 : decode cX3_shore 50 = .ok (.iconst 2, 1) := dk_5 (dk_at dksX3_shore_2 3 rfl rfl)
theorem dX3_shore_51 : decode cX3_shore 51 = .ok (.iload_n 1, 1) := dk_27 (dk_at dksX3_shore_2 4 rfl rfl)
theorem dX3_shore_52 : decode cX3_shore 52 = .ok (.imul, 1) := dk_104 (dk_at dksX3_shore_2 5 rfl rfl)
theorem dX3_shore_53 : decode cX3_shore 53 = .ok (.iconst (-1), 1) := dk_2 (dk_at dksX3_shore_2 6 rfl rfl)
theorem dX3_shore_54 : decode cX3_shore 54 = .ok (.iastore, 1) := dk_79 (dk_at dksX3_shore_2 7 rfl rfl)
theorem dX3_shore_55 : decode cX3_shore 55 = .ok (.iload_n 1, 1) := dk_27 (dk_at dksX3_shore_2 8 rfl rfl)
theorem dX3_shore_56 : decode cX3_shore 56 = .ok (.bipush 12, 2) := dk_16 12 (dk_at dksX3_shore_2 9 rfl rfl)
theorem dX3_shore_58 : decode cX3_shore 58 = .ok (.if_icmp .ge 7, 3) := dk_162 0 7 (dk_at dksX3_shore_2 11 rfl rfl)
theorem dX3_shore_61 : decode cX3_shore 61 = .ok (.iconst 1, 1) := dk_4 (dk_at dksX3_shore_2 14 rfl rfl)
theorem dX3_shore_62 : decode cX3_shore 62 = .ok (.goto 4, 3) := dk_167 0 4 (dk_at dksX3_shore_2 15 rfl rfl)
theorem dX3_shore_65 : decode cX3_shore 65 = .ok (.iconst 0, 1) := dk_3 (dk_at dksX3_shore_2 18 rfl rfl)
theorem dX3_shore_66 : decode cX3_shore 66 = .ok (.istore_n 2, 1) := dk_61 (dk_at dksX3_shore_2 19 rfl rfl)
theorem dX3_shore_67 : decode cX3_shore 67 = .ok (.iload_n 2, 1) := dk_28 (dk_at dksX3_shore_2 20 rfl rfl)
theorem dX3_shore_68 : decode cX3_shore 68 = .ok (.ifCond .eq 50, 3) := dk_153 0 50 (dk_at dksX3_shore_2 21 rfl rfl)
theorem dX3_shore_71 : decode cX3_shore 71 = .ok (.iload_n 1, 1) := dk_27 (dk_at dksX3_shore_3 0 rfl rfl)
theorem dX3_shore_72 : decode cX3_shore 72 = .ok (.ifCond .le 46, 3) := dk_158 0 46 (dk_at dksX3_shore_3 1 rfl rfl)
theorem dX3_shore_75 : decode cX3_shore 75 = .ok (.aload_n 0, 1) := dk_42 (dk_at dksX3_shore_3 4 rfl rfl)
theorem dX3_shore_76 : decode cX3_shore 76 = .ok (.bipush 124, 2) := dk_16 124 (dk_at dksX3_shore_3 5 rfl rfl)
theorem dX3_shore_78 : decode cX3_shore 78 = .ok (.invokevirtual 184, 3) := dk_182 0 184 (dk_at dksX3_shore_3 7 rfl rfl)
theorem dX3_shore_81 : decode cX3_shore 81 = .ok (.ifCond .eq 37, 3) := dk_153 0 37 (dk_at dksX3_shore_3 10 rfl rfl)
theorem dX3_shore_84 : decode cX3_shore 84 = .ok (.aload_n 0, 1) := dk_42 (dk_at dksX3_shore_3 13 rfl rfl)
theorem dX3_shore_85 : decode cX3_shore 85 = .ok (.getfield 45, 3) := dk_180 0 45 (dk_at dksX3_shore_3 14 rfl rfl)
theorem dX3_shore_88 : decode cX3_shore 88 = .ok (.iconst 2, 1) := dk_5 (dk_at dksX3_shore_3 17 rfl rfl)
theorem dX3_shore_89 : decode cX3_shore 89 = .ok (.iload_n 1, 1) := dk_27 (dk_at dksX3_shore_3 18 rfl rfl)
theorem dX3_shore_90 : decode cX3_shore 90 = .ok (.imul, 1) := dk_104 (dk_at dksX3_shore_3 19 rfl rfl)
theorem dX3_shore_91 : decode cX3_shore 91 = .ok (.iconst 1, 1) := dk_4 (dk_at dksX3_shore_3 20 rfl rfl)
theorem dX3_shore_92 : decode cX3_shore 92 = .ok (.isub, 1) := dk_100 (dk_at dksX3_shore_3 21 rfl rfl)
theorem dX3_shore_93 : decode cX3_shore 93 = .ok (.aload_n 0, 1) := dk_42 (dk_at dksX3_shore_3 22 rfl rfl)
theorem dX3_shore_94 : decode cX3_shore 94 = .ok (.iconst 1, 1) := dk_4 (dk_at dksX3_shore_3 23 rfl rfl)
theorem dX3_shore_95 : decode cX3_shore 95 = .ok (.invokevirtual 177, 3) := dk_182 0 177 (dk_at dksX3_shore_4 0 rfl rfl)
theorem dX3_shore_98 : decode cX3_shore 98 = .ok (.iastore, 1) := dk_79 (dk_at dksX3_shore_4 3 rfl rfl)
theorem dX3_shore_99 : decode cX3_shore 99 = .ok (.aload_n 0, 1) := dk_42 (dk_at dksX3_shore_4 4 rfl rfl)
theorem dX3_shore_100 : decode cX3_shore 100 = .ok (.getfield 45, 3) := dk_180 0 45 (dk_at dksX3_shore_4 5 rfl rfl)
theorem dX3_shore_103 : decode cX3_shore 103 = .ok (.iconst 2, 1) := dk_5 (dk_at dksX3_shore_4 8 rfl rfl)
theorem dX3_shore_104 : decode cX3_shore 104 = .ok (.iload_n 1, 1) := dk_27 (dk_at dksX3_shore_4 9 rfl rfl)
theorem dX3_shore_105 : decode cX3_shore 105 = .ok (.imul, 1) := dk_104 (dk_at dksX3_shore_4 10 rfl rfl)
theorem dX3_shore_106 : decode cX3_shore 106 = .ok (.iconst 1, 1) := dk_4 (dk_at dksX3_shore_4 11 rfl rfl)
theorem dX3_shore_107 : decode cX3_shore 107 = .ok (.isub, 1) := dk_100 (dk_at dksX3_shore_4 12 rfl rfl)
theorem dX3_shore_108 : decode cX3_shore 108 = .ok (.iaload, 1) := dk_46 (dk_at dksX3_shore_4 13 rfl rfl)
theorem dX3_shore_109 : decode cX3_shore 109 = .ok (.ifCond .lt 7, 3) := dk_155 0 7 (dk_at dksX3_shore_4 14 rfl rfl)
theorem dX3_shore_112 : decode cX3_shore 112 = .ok (.iconst 1, 1) := dk_4 (dk_at dksX3_shore_4 17 rfl rfl)
theorem dX3_shore_113 : decode cX3_shore 113 = .ok (.goto 4, 3) := dk_167 0 4 (dk_at dksX3_shore_4 18 rfl rfl)
theorem dX3_shore_116 : decode cX3_shore 116 = .ok (.iconst 0, 1) := dk_3 (dk_at dksX3_shore_4 21 rfl rfl)
theorem dX3_shore_117 : decode cX3_shore 117 = .ok (.istore_n 2, 1) := dk_61 (dk_at dksX3_shore_4 22 rfl rfl)
theorem dX3_shore_118 : decode cX3_shore 118 = .ok (.iload_n 2, 1) := dk_28 (dk_at dksX3_shore_4 23 rfl rfl)
theorem dX3_shore_119 : decode cX3_shore 119 = .ok (.ifCond .eq (-103), 3) := dk_153 255 153 (dk_at dksX3_shore_5 0 rfl rfl)
theorem dX3_shore_122 : decode cX3_shore 122 = .ok (.aload_n 0, 1) := dk_42 (dk_at dksX3_shore_5 3 rfl rfl)
theorem dX3_shore_123 : decode cX3_shore 123 = .ok (.getfield 45, 3) := dk_180 0 45 (dk_at dksX3_shore_5 4 rfl rfl)
theorem dX3_shore_126 : decode cX3_shore 126 = .ok (.iconst 2, 1) := dk_5 (dk_at dksX3_shore_5 7 rfl rfl)
theorem dX3_shore_127 : decode cX3_shore 127 = .ok (.iload_n 1, 1) := dk_27 (dk_at dksX3_shore_5 8 rfl rfl)
theorem dX3_shore_128 : decode cX3_shore 128 = .ok (.imul, 1) := dk_104 (dk_at dksX3_shore_5 9 rfl rfl)
theorem dX3_shore_129 : decode cX3_shore 129 = .ok (.aload_n 0, 1) := dk_42 (dk_at dksX3_shore_5 10 rfl rfl)
theorem dX3_shore_130 : decode cX3_shore 130 = .ok (.iconst 1, 1) := dk_4 (dk_at dksX3_shore_5 11 rfl rfl)
theorem dX3_shore_131 : decode cX3_shore 131 = .ok (.invokevirtual 177, 3) := dk_182 0 177 (dk_at dksX3_shore_5 12 rfl rfl)
theorem dX3_shore_134 : decode cX3_shore 134 = .ok (.iastore, 1) := dk_79 (dk_at dksX3_shore_5 15 rfl rfl)
theorem dX3_shore_135 : decode cX3_shore 135 = .ok (.aload_n 0, 1) := dk_42 (dk_at dksX3_shore_5 16 rfl rfl)
theorem dX3_shore_136 : decode cX3_shore 136 = .ok (.getfield 45, 3) := dk_180 0 45 (dk_at dksX3_shore_5 17 rfl rfl)
theorem dX3_shore_139 : decode cX3_shore 139 = .ok (.iconst 2, 1) := dk_5 (dk_at dksX3_shore_5 20 rfl rfl)
theorem dX3_shore_140 : decode cX3_shore 140 = .ok (.iload_n 1, 1) := dk_27 (dk_at dksX3_shore_5 21 rfl rfl)
theorem dX3_shore_141 : decode cX3_shore 141 = .ok (.imul, 1) := dk_104 (dk_at dksX3_shore_5 22 rfl rfl)
theorem dX3_shore_142 : decode cX3_shore 142 = .ok (.iaload, 1) := dk_46 (dk_at dksX3_shore_5 23 rfl rfl)
theorem dX3_shore_143 : decode cX3_shore 143 = .ok (.ifCond .lt 7, 3) := dk_155 0 7 (dk_at dksX3_shore_6 0 rfl rfl)
theorem dX3_shore_146 : decode cX3_shore 146 = .ok (.iconst 1, 1) := dk_4 (dk_at dksX3_shore_6 3 rfl rfl)
theorem dX3_shore_147 : decode cX3_shore 147 = .ok (.goto 4, 3) := dk_167 0 4 (dk_at dksX3_shore_6 4 rfl rfl)
theorem dX3_shore_150 : decode cX3_shore 150 = .ok (.iconst 0, 1) := dk_3 (dk_at dksX3_shore_6 7 rfl rfl)
theorem dX3_shore_151 : decode cX3_shore 151 = .ok (.istore_n 2, 1) := dk_61 (dk_at dksX3_shore_6 8 rfl rfl)
theorem dX3_shore_152 : decode cX3_shore 152 = .ok (.iload_n 1, 1) := dk_27 (dk_at dksX3_shore_6 9 rfl rfl)
theorem dX3_shore_153 : decode cX3_shore 153 = .ok (.iload_n 2, 1) := dk_28 (dk_at dksX3_shore_6 10 rfl rfl)
theorem dX3_shore_154 : decode cX3_shore 154 = .ok (.invokestatic 151, 3) := dk_184 0 151 (dk_at dksX3_shore_6 11 rfl rfl)
theorem dX3_shore_157 : decode cX3_shore 157 = .ok (.iadd, 1) := dk_96 (dk_at dksX3_shore_6 14 rfl rfl)
theorem dX3_shore_158 : decode cX3_shore 158 = .ok (.istore_n 1, 1) := dk_60 (dk_at dksX3_shore_6 15 rfl rfl)
theorem dX3_shore_159 : decode cX3_shore 159 = .ok (.goto (-143), 3) := dk_167 255 113 (dk_at dksX3_shore_6 16 rfl rfl)
theorem dX3_shore_162 : decode cX3_shore 162 = .ok (.iload_n 2, 1) := dk_28 (dk_at dksX3_shore_6 19 rfl rfl)
theorem dX3_shore_163 : decode cX3_shore 163 = .ok (.ifCond .ne 10, 3) := dk_154 0 10 (dk_at dksX3_shore_6 20 rfl rfl)
theorem dX3_shore_166 : decode cX3_shore 166 = .ok (.iconst (-1), 1) := dk_2 (dk_at dksX3_shore_6 23 rfl rfl)
theorem dX3_shore_167 : decode cX3_shore 167 = .ok (.aload_n 0, 1) := dk_42 (dk_at dksX3_shore_7 0 rfl rfl)
theorem dX3_shore_168 : decode cX3_shore 168 = .ok (.getfield 136, 3) := dk_180 0 136 (dk_at dksX3_shore_7 1 rfl rfl)
theorem dX3_shore_171 : decode cX3_shore 171 = .ok (.isub, 1) := dk_100 (dk_at dksX3_shore_7 4 rfl rfl)
theorem dX3_shore_172 : decode cX3_shore 172 = .ok (.ireturn, 1) := dk_172 (dk_at dksX3_shore_7 5 rfl rfl)
theorem dX3_shore_173 : decode cX3_shore 173 = .ok (.aload_n 0, 1) := dk_42 (dk_at dksX3_shore_7 6 rfl rfl)
theorem dX3_shore_174 : decode cX3_shore 174 = .ok (.iload_n 1, 1) := dk_27 (dk_at dksX3_shore_7 7 rfl rfl)
theorem dX3_shore_175 : decode cX3_shore 175 = .ok (.putfield 13, 3) := dk_181 0 13 (dk_at dksX3_shore_7 8 rfl rfl)
theorem dX3_shore_178 : decode cX3_shore 178 = .ok (.iconst 0, 1) := dk_3 (dk_at dksX3_shore_7 11 rfl rfl)
theorem dX3_shore_179 : decode cX3_shore 179 = .ok (.istore_n 3, 1) := dk_62 (dk_at dksX3_shore_7 12 rfl rfl)
theorem dX3_shore_180 : decode cX3_shore 180 = .ok (.iload_n 3, 1) := dk_29 (dk_at dksX3_shore_7 13 rfl rfl)
theorem dX3_shore_181 : decode cX3_shore 181 = .ok (.bipush 12, 2) := dk_16 12 (dk_at dksX3_shore_7 14 rfl rfl)
theorem dX3_shore_183 : decode cX3_shore 183 = .ok (.if_icmp .ge 76, 3) := dk_162 0 76 (dk_at dksX3_shore_7 16 rfl rfl)
theorem dX3_shore_186 : decode cX3_shore 186 = .ok (.aload_n 0, 1) := dk_42 (dk_at dksX3_shore_7 19 rfl rfl)
theorem dX3_shore_187 : decode cX3_shore 187 = .ok (.getfield 17, 3) := dk_180 0 17 (dk_at dksX3_shore_7 20 rfl rfl)
theorem dX3_shore_190 : decode cX3_shore 190 = .ok (.iload_n 3, 1) := dk_29 (dk_at dksX3_shore_7 23 rfl rfl)
theorem dX3_shore_191 : decode cX3_shore 191 = .ok (.iload_n 3, 1) := dk_29 (dk_at dksX3_shore_8 0 rfl rfl)
theorem dX3_shore_192 : decode cX3_shore 192 = .ok (.iload_n 1, 1) := dk_27 (dk_at dksX3_shore_8 1 rfl rfl)
theorem dX3_shore_193 : decode cX3_shore 193 = .ok (.if_icmp .ge 14, 3) := dk_162 0 14 (dk_at dksX3_shore_8 2 rfl rfl)
theorem dX3_shore_196 : decode cX3_shore 196 = .ok (.aload_n 0, 1) := dk_42 (dk_at dksX3_shore_8 5 rfl rfl)
theorem dX3_shore_197 : decode cX3_shore 197 = .ok (.getfield 45, 3) := dk_180 0 45 (dk_at dksX3_shore_8 6 rfl rfl)
theorem dX3_shore_200 : decode cX3_shore 200 = .ok (.iconst 2, 1) := dk_5 (dk_at dksX3_shore_8 9 rfl rfl)
theorem dX3_shore_201 : decode cX3_shore 201 = .ok (.iload_n 3, 1) := dk_29 (dk_at dksX3_shore_8 10 rfl rfl)
theorem dX3_shore_202 : decode cX3_shore 202 = .ok (.imul, 1) := dk_104 (dk_at dksX3_shore_8 11 rfl rfl)
theorem dX3_shore_203 : decode cX3_shore 203 = .ok (.iaload, 1) := dk_46 (dk_at dksX3_shore_8 12 rfl rfl)
theorem dX3_shore_204 : decode cX3_shore 204 = .ok (.goto 4, 3) := dk_167 0 4 (dk_at dksX3_shore_8 13 rfl rfl)
theorem dX3_shore_207 : decode cX3_shore 207 = .ok (.iconst 0, 1) := dk_3 (dk_at dksX3_shore_8 16 rfl rfl)
theorem dX3_shore_208 : decode cX3_shore 208 = .ok (.iastore, 1) := dk_79 (dk_at dksX3_shore_8 17 rfl rfl)
theorem dX3_shore_209 : decode cX3_shore 209 = .ok (.aload_n 0, 1) := dk_42 (dk_at dksX3_shore_8 18 rfl rfl)
theorem dX3_shore_210 : decode cX3_shore 210 = .ok (.getfield 21, 3) := dk_180 0 21 (dk_at dksX3_shore_8 19 rfl rfl)
theorem dX3_shore_213 : decode cX3_shore 213 = .ok (.iload_n 3, 1) := dk_29 (dk_at dksX3_shore_8 22 rfl rfl)
theorem dX3_shore_214 : decode cX3_shore 214 = .ok (.iload_n 3, 1) := dk_29 (dk_at dksX3_shore_8 23 rfl rfl)
theorem dX3_shore_215 : decode cX3_shore 215 = .ok (.iload_n 1, 1) := dk_27 (dk_at dksX3_shore_9 0 rfl rfl)
theorem dX3_shore_216 : decode cX3_shore 216 = .ok (.iconst 1, 1) := dk_4 (dk_at dksX3_shore_9 1 rfl rfl)
theorem dX3_shore_217 : decode cX3_shore 217 = .ok (.isub, 1) := dk_100 (dk_at dksX3_shore_9 2 rfl rfl)
theorem dX3_shore_218 : decode cX3_shore 218 = .ok (.if_icmp .ge 16, 3) := dk_162 0 16 (dk_at dksX3_shore_9 3 rfl rfl)
theorem dX3_shore_221 : decode cX3_shore 221 = .ok (.aload_n 0, 1) := dk_42 (dk_at dksX3_shore_9 6 rfl rfl)
theorem dX3_shore_222 : decode cX3_shore 222 = .ok (.getfield 45, 3) := dk_180 0 45 (dk_at dksX3_shore_9 7 rfl rfl)
theorem dX3_shore_225 : decode cX3_shore 225 = .ok (.iconst 2, 1) := dk_5 (dk_at dksX3_shore_9 10 rfl rfl)
theorem dX3_shore_226 : decode cX3_shore 226 = .ok (.iload_n 3, 1) := dk_29 (dk_at dksX3_shore_9 11 rfl rfl)
theorem dX3_shore_227 : decode cX3_shore 227 = .ok (.imul, 1) := dk_104 (dk_at dksX3_shore_9 12 rfl rfl)
theorem dX3_shore_228 : decode cX3_shore 228 = .ok (.iconst 1, 1) := dk_4 (dk_at dksX3_shore_9 13 rfl rfl)
theorem dX3_shore_229 : decode cX3_shore 229 = .ok (.iadd, 1) := dk_96 (dk_at dksX3_shore_9 14 rfl rfl)
theorem dX3_shore_230 : decode cX3_shore 230 = .ok (.iaload, 1) := dk_46 (dk_at dksX3_shore_9 15 rfl rfl)
theorem dX3_shore_231 : decode cX3_shore 231 = .ok (.goto 4, 3) := dk_167 0 4 (dk_at dksX3_shore_9 16 rfl rfl)
theorem dX3_shore_234 : decode cX3_shore 234 = .ok (.iconst 0, 1) := dk_3 (dk_at dksX3_shore_9 19 rfl rfl)
theorem dX3_shore_235 : decode cX3_shore 235 = .ok (.iastore, 1) := dk_79 (dk_at dksX3_shore_9 20 rfl rfl)
theorem dX3_shore_236 : decode cX3_shore 236 = .ok (.aload_n 0, 1) := dk_42 (dk_at dksX3_shore_9 21 rfl rfl)
theorem dX3_shore_237 : decode cX3_shore 237 = .ok (.getfield 36, 3) := dk_180 0 36 (dk_at dksX3_shore_10 0 rfl rfl)
theorem dX3_shore_240 : decode cX3_shore 240 = .ok (.iload_n 3, 1) := dk_29 (dk_at dksX3_shore_10 3 rfl rfl)
theorem dX3_shore_241 : decode cX3_shore 241 = .ok (.iconst 0, 1) := dk_3 (dk_at dksX3_shore_10 4 rfl rfl)
theorem dX3_shore_242 : decode cX3_shore 242 = .ok (.iastore, 1) := dk_79 (dk_at dksX3_shore_10 5 rfl rfl)
theorem dX3_shore_243 : decode cX3_shore 243 = .ok (.aload_n 0, 1) := dk_42 (dk_at dksX3_shore_10 6 rfl rfl)
theorem dX3_shore_244 : decode cX3_shore 244 = .ok (.getfield 36, 3) := dk_180 0 36 (dk_at dksX3_shore_10 7 rfl rfl)
theorem dX3_shore_247 : decode cX3_shore 247 = .ok (.bipush 13, 2) := dk_16 13 (dk_at dksX3_shore_10 10 rfl rfl)
theorem dX3_shore_249 : decode cX3_shore 249 = .ok (.iload_n 3, 1) := dk_29 (dk_at dksX3_shore_10 12 rfl rfl)
theorem dX3_shore_250 : decode cX3_shore 250 = .ok (.iadd, 1) := dk_96 (dk_at dksX3_shore_10 13 rfl rfl)
theorem dX3_shore_251 : decode cX3_shore 251 = .ok (.iconst 0, 1) := dk_3 (dk_at dksX3_shore_10 14 rfl rfl)
theorem dX3_shore_252 : decode cX3_shore 252 = .ok (.iastore, 1) := dk_79 (dk_at dksX3_shore_10 15 rfl rfl)
theorem dX3_shore_253 : decode cX3_shore 253 = .ok (.iinc 3 1, 3) := dk_132 3 1 (dk_at dksX3_shore_10 16 rfl rfl)
theorem dX3_shore_256 : decode cX3_shore 256 = .ok (.goto (-76), 3) := dk_167 255 180 (dk_at dksX3_shore_10 19 rfl rfl)
theorem dX3_shore_259 : decode cX3_shore 259 = .ok (.aload_n 0, 1) := dk_42 (dk_at dksX3_shore_10 22 rfl rfl)
theorem dX3_shore_260 : decode cX3_shore 260 = .ok (.getfield 36, 3) := dk_180 0 36 (dk_at dksX3_shore_11 0 rfl rfl)
theorem dX3_shore_263 : decode cX3_shore 263 = .ok (.bipush 12, 2) := dk_16 12 (dk_at dksX3_shore_11 3 rfl rfl)
theorem dX3_shore_265 : decode cX3_shore 265 = .ok (.iconst 0, 1) := dk_3 (dk_at dksX3_shore_11 5 rfl rfl)
theorem dX3_shore_266 : decode cX3_shore 266 = .ok (.iastore, 1) := dk_79 (dk_at dksX3_shore_11 6 rfl rfl)
theorem dX3_shore_267 : decode cX3_shore 267 = .ok (.aload_n 0, 1) := dk_42 (dk_at dksX3_shore_11 7 rfl rfl)
theorem dX3_shore_268 : decode cX3_shore 268 = .ok (.getfield 36, 3) := dk_180 0 36 (dk_at dksX3_shore_11 8 rfl rfl)
theorem dX3_shore_271 : decode cX3_shore 271 = .ok (.bipush 42, 2) := dk_16 42 (dk_at dksX3_shore_11 11 rfl rfl)
theorem dX3_shore_273 : decode cX3_shore 273 = .ok (.iconst 0, 1) := dk_3 (dk_at dksX3_shore_11 13 rfl rfl)
theorem dX3_shore_274 : decode cX3_shore 274 = .ok (.iastore, 1) := dk_79 (dk_at dksX3_shore_11 14 rfl rfl)
theorem dX3_shore_275 : decode cX3_shore 275 = .ok (.iconst 0, 1) := dk_3 (dk_at dksX3_shore_11 15 rfl rfl)
theorem dX3_shore_276 : decode cX3_shore 276 = .ok (.istore_n 3, 1) := dk_62 (dk_at dksX3_shore_11 16 rfl rfl)
theorem dX3_shore_277 : decode cX3_shore 277 = .ok (.iload_n 3, 1) := dk_29 (dk_at dksX3_shore_11 17 rfl rfl)
theorem dX3_shore_278 : decode cX3_shore 278 = .ok (.aload_n 0, 1) := dk_42 (dk_at dksX3_shore_11 18 rfl rfl)
theorem dX3_shore_279 : decode cX3_shore 279 = .ok (.getfield 126, 3) := dk_180 0 126 (dk_at dksX3_shore_11 19 rfl rfl)
theorem dX3_shore_282 : decode cX3_shore 282 = .ok (.if_icmp .ge 23, 3) := dk_162 0 23 (dk_at dksX3_shore_12 0 rfl rfl)
theorem dX3_shore_285 : decode cX3_shore 285 = .ok (.aload_n 0, 1) := dk_42 (dk_at dksX3_shore_12 3 rfl rfl)
theorem dX3_shore_286 : decode cX3_shore 286 = .ok (.getfield 36, 3) := dk_180 0 36 (dk_at dksX3_shore_12 4 rfl rfl)
theorem dX3_shore_289 : decode cX3_shore 289 = .ok (.bipush 25, 2) := dk_16 25 (dk_at dksX3_shore_12 7 rfl rfl)
theorem dX3_shore_291 : decode cX3_shore 291 = .ok (.iconst 2, 1) := dk_5 (dk_at dksX3_shore_12 9 rfl rfl)
theorem dX3_shore_292 : decode cX3_shore 292 = .ok (.iload_n 3, 1) := dk_29 (dk_at dksX3_shore_12 10 rfl rfl)
theorem dX3_shore_293 : decode cX3_shore 293 = .ok (.imul, 1) := dk_104 (dk_at dksX3_shore_12 11 rfl rfl)
theorem dX3_shore_294 : decode cX3_shore 294 = .ok (.iadd, 1) := dk_96 (dk_at dksX3_shore_12 12 rfl rfl)
theorem dX3_shore_295 : decode cX3_shore 295 = .ok (.iconst 0, 1) := dk_3 (dk_at dksX3_shore_12 13 rfl rfl)
theorem dX3_shore_296 : decode cX3_shore 296 = .ok (.iadd, 1) := dk_96 (dk_at dksX3_shore_12 14 rfl rfl)
theorem dX3_shore_297 : decode cX3_shore 297 = .ok (.iconst (-1), 1) := dk_2 (dk_at dksX3_shore_12 15 rfl rfl)
theorem dX3_shore_298 : decode cX3_shore 298 = .ok (.iastore, 1) := dk_79 (dk_at dksX3_shore_12 16 rfl rfl)
theorem dX3_shore_299 : decode cX3_shore 299 = .ok (.iinc 3 1, 3) := dk_132 3 1 (dk_at dksX3_shore_12 17 rfl rfl)
theorem dX3_shore_302 : decode cX3_shore 302 = .ok (.goto (-25), 3) := dk_167 255 231 (dk_at dksX3_shore_12 20 rfl rfl)
theorem dX3_shore_305 : decode cX3_shore 305 = .ok (.aload_n 0, 1) := dk_42 (dk_at dksX3_shore_12 23 rfl rfl)
theorem dX3_shore_306 : decode cX3_shore 306 = .ok (.iconst 0, 1) := dk_3 (dk_at dksX3_shore_13 0 rfl rfl)
theorem dX3_shore_307 : decode cX3_shore 307 = .ok (.putfield 188, 3) := dk_181 0 188 (dk_at dksX3_shore_13 1 rfl rfl)
theorem dX3_shore_310 : decode cX3_shore 310 = .ok (.aload_n 0, 1) := dk_42 (dk_at dksX3_shore_13 4 rfl rfl)
theorem dX3_shore_311 : decode cX3_shore 311 = .ok (.iconst 0, 1) := dk_3 (dk_at dksX3_shore_13 5 rfl rfl)
theorem dX3_shore_312 : decode cX3_shore 312 = .ok (.putfield 191, 3) := dk_181 0 191 (dk_at dksX3_shore_13 6 rfl rfl)
theorem dX3_shore_315 : decode cX3_shore 315 = .ok (.aload_n 0, 1) := dk_42 (dk_at dksX3_shore_13 9 rfl rfl)
theorem dX3_shore_316 : decode cX3_shore 316 = .ok (.dup, 1) := dk_89 (dk_at dksX3_shore_13 10 rfl rfl)
theorem dX3_shore_317 : decode cX3_shore 317 = .ok (.getfield 194, 3) := dk_180 0 194 (dk_at dksX3_shore_13 11 rfl rfl)
theorem dX3_shore_320 : decode cX3_shore 320 = .ok (.iconst 1, 1) := dk_4 (dk_at dksX3_shore_13 14 rfl rfl)
theorem dX3_shore_321 : decode cX3_shore 321 = .ok (.iadd, 1) := dk_96 (dk_at dksX3_shore_13 15 rfl rfl)
theorem dX3_shore_322 : decode cX3_shore 322 = .ok (.putfield 194, 3) := dk_181 0 194 (dk_at dksX3_shore_13 16 rfl rfl)
theorem dX3_shore_325 : decode cX3_shore 325 = .ok (.aload_n 0, 1) := dk_42 (dk_at dksX3_shore_13 19 rfl rfl)
theorem dX3_shore_326 : decode cX3_shore 326 = .ok (.getfield 13, 3) := dk_180 0 13 (dk_at dksX3_shore_13 20 rfl rfl)
theorem dX3_shore_329 : decode cX3_shore 329 = .ok (.ireturn, 1) := dk_172 (dk_at dksX3_shore_13 23 rfl rfl)
abbrev cX3_begins : ByteArray := prog_13_method_20_code
def yX3_begins : MethodName := ⟨RX3, "begins", "(I)I"⟩
def dkwX3_begins_1 : List UInt8 := [184, 0, 142, 181, 0, 148, 28, 172]
abbrev dktX3_begins_1 : List UInt8 := dkwX3_begins_1 ++ []
def dkwX3_begins_0 : List UInt8 := [42, 180, 0, 133, 61, 42, 3, 181, 0, 133, 42, 3, 181, 0, 136, 42, 3, 181, 0, 139, 42, 28, 27]
abbrev dktX3_begins_0 : List UInt8 := dkwX3_begins_0 ++ dktX3_begins_1
theorem dksX3_begins_0 : cX3_begins.data.toList.drop 0 = dktX3_begins_0 := by decide +kernel
theorem dksX3_begins_1 : cX3_begins.data.toList.drop 23 = dktX3_begins_1 := dk_seg dksX3_begins_0 23 rfl rfl
theorem dX3_begins_0 : decode cX3_begins 0 = .ok (.aload_n 0, 1) := dk_42 (dk_at dksX3_begins_0 0 rfl rfl)
theorem dX3_begins_1 : decode cX3_begins 1 = .ok (.getfield 133, 3) := dk_180 0 133 (dk_at dksX3_begins_0 1 rfl rfl)
theorem dX3_begins_4 : decode cX3_begins 4 = .ok (.istore_n 2, 1) := dk_61 (dk_at dksX3_begins_0 4 rfl rfl)
theorem dX3_begins_5 : decode cX3_begins 5 = .ok (.aload_n 0, 1) := dk_42 (dk_at dksX3_begins_0 5 rfl rfl)
theorem dX3_begins_6 : decode cX3_begins 6 = .ok (.iconst 0, 1) := dk_3 (dk_at dksX3_begins_0 6 rfl rfl)
theorem dX3_begins_7 : decode cX3_begins 7 = .ok (.putfield 133, 3) := dk_181 0 133 (dk_at dksX3_begins_0 7 rfl rfl)
theorem dX3_begins_10 : decode cX3_begins 10 = .ok (.aload_n 0, 1) := dk_42 (dk_at dksX3_begins_0 10 rfl rfl)
theorem dX3_begins_11 : decode cX3_begins 11 = .ok (.iconst 0, 1) := dk_3 (dk_at dksX3_begins_0 11 rfl rfl)
theorem dX3_begins_12 : decode cX3_begins 12 = .ok (.putfield 136, 3) := dk_181 0 136 (dk_at dksX3_begins_0 12 rfl rfl)
theorem dX3_begins_15 : decode cX3_begins 15 = .ok (.aload_n 0, 1) := dk_42 (dk_at dksX3_begins_0 15 rfl rfl)
theorem dX3_begins_16 : decode cX3_begins 16 = .ok (.iconst 0, 1) := dk_3 (dk_at dksX3_begins_0 16 rfl rfl)
theorem dX3_begins_17 : decode cX3_begins 17 = .ok (.putfield 139, 3) := dk_181 0 139 (dk_at dksX3_begins_0 17 rfl rfl)
theorem dX3_begins_20 : decode cX3_begins 20 = .ok (.aload_n 0, 1) := dk_42 (dk_at dksX3_begins_0 20 rfl rfl)
theorem dX3_begins_21 : decode cX3_begins 21 = .ok (.iload_n 2, 1) := dk_28 (dk_at dksX3_begins_0 21 rfl rfl)
theorem dX3_begins_22 : decode cX3_begins 22 = .ok (.iload_n 1, 1) := dk_27 (dk_at dksX3_begins_0 22 rfl rfl)
theorem dX3_begins_23 : decode cX3_begins 23 = .ok (.invokestatic 142, 3) := dk_184 0 142 (dk_at dksX3_begins_1 0 rfl rfl)
theorem dX3_begins_26 : decode cX3_begins 26 = .ok (.putfield 148, 3) := dk_181 0 148 (dk_at dksX3_begins_1 3 rfl rfl)
theorem dX3_begins_29 : decode cX3_begins 29 = .ok (.iload_n 2, 1) := dk_28 (dk_at dksX3_begins_1 6 rfl rfl)
theorem dX3_begins_30 : decode cX3_begins 30 = .ok (.ireturn, 1) := dk_172 (dk_at dksX3_begins_1 7 rfl rfl)
abbrev cX3_takes : ByteArray := prog_13_method_21_code
def yX3_takes : MethodName := ⟨RX3, "takes", "(I)Z"⟩
def dkwX3_takes_1 : List UInt8 := [4, 167, 0, 4, 3, 61, 42, 89, 180, 0, 136, 28, 184, 0, 151, 96, 181, 0, 136, 28, 172]
abbrev dktX3_takes_1 : List UInt8 := dkwX3_takes_1 ++ []
def dkwX3_takes_0 : List UInt8 := [42, 180, 0, 136, 42, 180, 0, 148, 162, 0, 20, 42, 180, 0, 42, 42, 180, 0, 136, 46, 27, 160, 0, 7]
abbrev dktX3_takes_0 : List UInt8 := dkwX3_takes_0 ++ dktX3_takes_1
theorem dksX3_takes_0 : cX3_takes.data.toList.drop 0 = dktX3_takes_0 := by decide +kernel
theorem dksX3_takes_1 : cX3_takes.data.toList.drop 24 = dktX3_takes_1 := dk_seg dksX3_takes_0 24 rfl rfl
theorem dX3_takes_0 : decode cX3_takes 0 = .ok (.aload_n 0, 1) := dk_42 (dk_at dksX3_takes_0 0 rfl rfl)
theorem dX3_takes_1 : decode cX3_takes 1 = .ok (.getfield 136, 3) := dk_180 0 136 (dk_at dksX3_takes_0 1 rfl rfl)
theorem dX3_takes_4 : decode cX3_takes 4 = .ok (.aload_n 0, 1) := dk_42 (dk_at dksX3_takes_0 4 rfl rfl)
theorem dX3_takes_5 : decode cX3_takes 5 = .ok (.getfield 148, 3) := dk_180 0 148 (dk_at dksX3_takes_0 5 rfl rfl)
theorem dX3_takes_8 : decode cX3_takes 8 = .ok (.if_icmp .ge 20, 3) := dk_162 0 20 (dk_at dksX3_takes_0 8 rfl rfl)
theorem dX3_takes_11 : decode cX3_takes 11 = .ok (.aload_n 0, 1) := dk_42 (dk_at dksX3_takes_0 11 rfl rfl)
theorem dX3_takes_12 : decode cX3_takes 12 = .ok (.getfield 42, 3) := dk_180 0 42 (dk_at dksX3_takes_0 12 rfl rfl)
theorem dX3_takes_15 : decode cX3_takes 15 = .ok (.aload_n 0, 1) := dk_42 (dk_at dksX3_takes_0 15 rfl rfl)
theorem dX3_takes_16 : decode cX3_takes 16 = .ok (.getfield 136, 3) := dk_180 0 136 (dk_at dksX3_takes_0 16 rfl rfl)
theorem dX3_takes_19 : decode cX3_takes 19 = .ok (.iaload, 1) := dk_46 (dk_at dksX3_takes_0 19 rfl rfl)
theorem dX3_takes_20 : decode cX3_takes 20 = .ok (.iload_n 1, 1) := dk_27 (dk_at dksX3_takes_0 20 rfl rfl)
theorem dX3_takes_21 : decode cX3_takes 21 = .ok (.if_icmp .ne 7, 3) := dk_160 0 7 (dk_at dksX3_takes_0 21 rfl rfl)
theorem dX3_takes_24 : decode cX3_takes 24 = .ok (.iconst 1, 1) := dk_4 (dk_at dksX3_takes_1 0 rfl rfl)
theorem dX3_takes_25 : decode cX3_takes 25 = .ok (.goto 4, 3) := dk_167 0 4 (dk_at dksX3_takes_1 1 rfl rfl)
theorem dX3_takes_28 : decode cX3_takes 28 = .ok (.iconst 0, 1) := dk_3 (dk_at dksX3_takes_1 4 rfl rfl)
theorem dX3_takes_29 : decode cX3_takes 29 = .ok (.istore_n 2, 1) := dk_61 (dk_at dksX3_takes_1 5 rfl rfl)
theorem dX3_takes_30 : decode cX3_takes 30 = .ok (.aload_n 0, 1) := dk_42 (dk_at dksX3_takes_1 6 rfl rfl)
theorem dX3_takes_31 : decode cX3_takes 31 = .ok (.dup, 1) := dk_89 (dk_at dksX3_takes_1 7 rfl rfl)
theorem dX3_takes_32 : decode cX3_takes 32 = .ok (.getfield 136, 3) := dk_180 0 136 (dk_at dksX3_takes_1 8 rfl rfl)
theorem dX3_takes_35 : decode cX3_takes 35 = .ok (.iload_n 2, 1) := dk_28 (dk_at dksX3_takes_1 11 rfl rfl)
theorem dX3_takes_36 : decode cX3_takes 36 = .ok (.invokestatic 151, 3) := dk_184 0 151 (dk_at dksX3_takes_1 12 rfl rfl)
theorem dX3_takes_39 : decode cX3_takes 39 = .ok (.iadd, 1) := dk_96 (dk_at dksX3_takes_1 15 rfl rfl)
theorem dX3_takes_40 : decode cX3_takes 40 = .ok (.putfield 136, 3) := dk_181 0 136 (dk_at dksX3_takes_1 16 rfl rfl)
theorem dX3_takes_43 : decode cX3_takes 43 = .ok (.iload_n 2, 1) := dk_28 (dk_at dksX3_takes_1 19 rfl rfl)
theorem dX3_takes_44 : decode cX3_takes 44 = .ok (.ireturn, 1) := dk_172 (dk_at dksX3_takes_1 20 rfl rfl)
abbrev cX3_flag : ByteArray := prog_13_method_6_code
def yX3_flag : MethodName := ⟨RX3, "flag", "(Z)I"⟩
def dkwX3_flag_0 : List UInt8 := [26, 153, 0, 7, 4, 167, 0, 4, 3, 172]
abbrev dktX3_flag_0 : List UInt8 := dkwX3_flag_0 ++ []
theorem dksX3_flag_0 : cX3_flag.data.toList.drop 0 = dktX3_flag_0 := by decide +kernel
theorem dX3_flag_0 : decode cX3_flag 0 = .ok (.iload_n 0, 1) := dk_26 (dk_at dksX3_flag_0 0 rfl rfl)
theorem dX3_flag_1 : decode cX3_flag 1 = .ok (.ifCond .eq 7, 3) := dk_153 0 7 (dk_at dksX3_flag_0 1 rfl rfl)
theorem dX3_flag_4 : decode cX3_flag 4 = .ok (.iconst 1, 1) := dk_4 (dk_at dksX3_flag_0 4 rfl rfl)
theorem dX3_flag_5 : decode cX3_flag 5 = .ok (.goto 4, 3) := dk_167 0 4 (dk_at dksX3_flag_0 5 rfl rfl)
theorem dX3_flag_8 : decode cX3_flag 8 = .ok (.iconst 0, 1) := dk_3 (dk_at dksX3_flag_0 8 rfl rfl)
theorem dX3_flag_9 : decode cX3_flag 9 = .ok (.ireturn, 1) := dk_172 (dk_at dksX3_flag_0 9 rfl rfl)
abbrev cX3_number : ByteArray := prog_13_method_25_code
def yX3_number : MethodName := ⟨RX3, "number", "(I)I"⟩
def dkwX3_number_2 : List UInt8 := [180, 0, 136, 4, 96, 181, 0, 136, 132, 3, 1, 167, 255, 213, 28, 172]
abbrev dktX3_number_2 : List UInt8 := dkwX3_number_2 ++ []
def dkwX3_number_1 : List UInt8 := [153, 0, 37, 16, 10, 28, 104, 42, 180, 0, 42, 42, 180, 0, 136, 46, 96, 16, 48, 100, 61, 42, 89]
abbrev dktX3_number_1 : List UInt8 := dkwX3_number_1 ++ dktX3_number_2
def dkwX3_number_0 : List UInt8 := [42, 182, 0, 173, 154, 0, 5, 2, 172, 3, 61, 3, 62, 29, 27, 162, 0, 44, 42, 182, 0, 173]
abbrev dktX3_number_0 : List UInt8 := dkwX3_number_0 ++ dktX3_number_1
theorem dksX3_number_0 : cX3_number.data.toList.drop 0 = dktX3_number_0 := by decide +kernel
theorem dksX3_number_1 : cX3_number.data.toList.drop 22 = dktX3_number_1 := dk_seg dksX3_number_0 22 rfl rfl
theorem dksX3_number_2 : cX3_number.data.toList.drop 45 = dktX3_number_2 := dk_seg dksX3_number_1 23 rfl rfl
theorem dX3_number_0 : decode cX3_number 0 = .ok (.aload_n 0, 1) := dk_42 (dk_at dksX3_number_0 0 rfl rfl)
theorem dX3_number_1 : decode cX3_number 1 = .ok (.invokevirtual 173, 3) := dk_182 0 173 (dk_at dksX3_number_0 1 rfl rfl)
theorem dX3_number_4 : decode cX3_number 4 = .ok (.ifCond .ne 5, 3) := dk_154 0 5 (dk_at dksX3_number_0 4 rfl rfl)
theorem dX3_number_7 : decode cX3_number 7 = .ok (.iconst (-1), 1) := dk_2 (dk_at dksX3_number_0 7 rfl rfl)
theorem dX3_number_8 : decode cX3_number 8 = .ok (.ireturn, 1) := dk_172 (dk_at dksX3_number_0 8 rfl rfl)
theorem dX3_number_9 : decode cX3_number 9 = .ok (.iconst 0, 1) := dk_3 (dk_at dksX3_number_0 9 rfl rfl)
theorem dX3_number_10 : decode cX3_number 10 = .ok (.istore_n 2, 1) := dk_61 (dk_at dksX3_number_0 10 rfl rfl)
theorem dX3_number_11 : decode cX3_number 11 = .ok (.iconst 0, 1) := dk_3 (dk_at dksX3_number_0 11 rfl rfl)
theorem dX3_number_12 : decode cX3_number 12 = .ok (.istore_n 3, 1) := dk_62 (dk_at dksX3_number_0 12 rfl rfl)
theorem dX3_number_13 : decode cX3_number 13 = .ok (.iload_n 3, 1) := dk_29 (dk_at dksX3_number_0 13 rfl rfl)
theorem dX3_number_14 : decode cX3_number 14 = .ok (.iload_n 1, 1) := dk_27 (dk_at dksX3_number_0 14 rfl rfl)
theorem dX3_number_15 : decode cX3_number 15 = .ok (.if_icmp .ge 44, 3) := dk_162 0 44 (dk_at dksX3_number_0 15 rfl rfl)
theorem dX3_number_18 : decode cX3_number 18 = .ok (.aload_n 0, 1) := dk_42 (dk_at dksX3_number_0 18 rfl rfl)
theorem dX3_number_19 : decode cX3_number 19 = .ok (.invokevirtual 173, 3) := dk_182 0 173 (dk_at dksX3_number_0 19 rfl rfl)
theorem dX3_number_22 : decode cX3_number 22 = .ok (.ifCond .eq 37, 3) := dk_153 0 37 (dk_at dksX3_number_1 0 rfl rfl)
theorem dX3_number_25 : decode cX3_number 25 = .ok (.bipush 10, 2) := dk_16 10 (dk_at dksX3_number_1 3 rfl rfl)
theorem dX3_number_27 : decode cX3_number 27 = .ok (.iload_n 2, 1) := dk_28 (dk_at dksX3_number_1 5 rfl rfl)
theorem dX3_number_28 : decode cX3_number 28 = .ok (.imul, 1) := dk_104 (dk_at dksX3_number_1 6 rfl rfl)
theorem dX3_number_29 : decode cX3_number 29 = .ok (.aload_n 0, 1) := dk_42 (dk_at dksX3_number_1 7 rfl rfl)
theorem dX3_number_30 : decode cX3_number 30 = .ok (.getfield 42, 3) := dk_180 0 42 (dk_at dksX3_number_1 8 rfl rfl)
theorem dX3_number_33 : decode cX3_number 33 = .ok (.aload_n 0, 1) := dk_42 (dk_at dksX3_number_1 11 rfl rfl)
theorem dX3_number_34 : decode cX3_number 34 = .ok (.getfield 136, 3) := dk_180 0 136 (dk_at dksX3_number_1 12 rfl rfl)
theorem dX3_number_37 : decode cX3_number 37 = .ok (.iaload, 1) := dk_46 (dk_at dksX3_number_1 15 rfl rfl)
theorem dX3_number_38 : decode cX3_number 38 = .ok (.iadd, 1) := dk_96 (dk_at dksX3_number_1 16 rfl rfl)
theorem dX3_number_39 : decode cX3_number 39 = .ok (.bipush 48, 2) := dk_16 48 (dk_at dksX3_number_1 17 rfl rfl)
theorem dX3_number_41 : decode cX3_number 41 = .ok (.isub, 1) := dk_100 (dk_at dksX3_number_1 19 rfl rfl)
theorem dX3_number_42 : decode cX3_number 42 = .ok (.istore_n 2, 1) := dk_61 (dk_at dksX3_number_1 20 rfl rfl)
theorem dX3_number_43 : decode cX3_number 43 = .ok (.aload_n 0, 1) := dk_42 (dk_at dksX3_number_1 21 rfl rfl)
theorem dX3_number_44 : decode cX3_number 44 = .ok (.dup, 1) := dk_89 (dk_at dksX3_number_1 22 rfl rfl)
theorem dX3_number_45 : decode cX3_number 45 = .ok (.getfield 136, 3) := dk_180 0 136 (dk_at dksX3_number_2 0 rfl rfl)
theorem dX3_number_48 : decode cX3_number 48 = .ok (.iconst 1, 1) := dk_4 (dk_at dksX3_number_2 3 rfl rfl)
theorem dX3_number_49 : decode cX3_number 49 = .ok (.iadd, 1) := dk_96 (dk_at dksX3_number_2 4 rfl rfl)
theorem dX3_number_50 : decode cX3_number 50 = .ok (.putfield 136, 3) := dk_181 0 136 (dk_at dksX3_number_2 5 rfl rfl)
theorem dX3_number_53 : decode cX3_number 53 = .ok (.iinc 3 1, 3) := dk_132 3 1 (dk_at dksX3_number_2 8 rfl rfl)
theorem dX3_number_56 : decode cX3_number 56 = .ok (.goto (-43), 3) := dk_167 255 213 (dk_at dksX3_number_2 11 rfl rfl)
theorem dX3_number_59 : decode cX3_number 59 = .ok (.iload_n 2, 1) := dk_28 (dk_at dksX3_number_2 14 rfl rfl)
theorem dX3_number_60 : decode cX3_number 60 = .ok (.ireturn, 1) := dk_172 (dk_at dksX3_number_2 15 rfl rfl)
abbrev cX3_isDigit : ByteArray := prog_13_method_22_code
def yX3_isDigit : MethodName := ⟨RX3, "isDigit", "()Z"⟩
def dkwX3_isDigit_1 : List UInt8 := [20, 0, 157, 184, 0, 122, 153, 0, 7, 4, 167, 0, 4, 3, 172]
abbrev dktX3_isDigit_1 : List UInt8 := dkwX3_isDigit_1 ++ []
def dkwX3_isDigit_0 : List UInt8 := [42, 180, 0, 136, 42, 180, 0, 148, 162, 0, 29, 42, 180, 0, 42, 42, 180, 0, 136, 46, 133, 20, 0, 155]
abbrev dktX3_isDigit_0 : List UInt8 := dkwX3_isDigit_0 ++ dktX3_isDigit_1
theorem dksX3_isDigit_0 : cX3_isDigit.data.toList.drop 0 = dktX3_isDigit_0 := by decide +kernel
theorem dksX3_isDigit_1 : cX3_isDigit.data.toList.drop 24 = dktX3_isDigit_1 := dk_seg dksX3_isDigit_0 24 rfl rfl
theorem dX3_isDigit_0 : decode cX3_isDigit 0 = .ok (.aload_n 0, 1) := dk_42 (dk_at dksX3_isDigit_0 0 rfl rfl)
theorem dX3_isDigit_1 : decode cX3_isDigit 1 = .ok (.getfield 136, 3) := dk_180 0 136 (dk_at dksX3_isDigit_0 1 rfl rfl)
theorem dX3_isDigit_4 : decode cX3_isDigit 4 = .ok (.aload_n 0, 1) := dk_42 (dk_at dksX3_isDigit_0 4 rfl rfl)
theorem dX3_isDigit_5 : decode cX3_isDigit 5 = .ok (.getfield 148, 3) := dk_180 0 148 (dk_at dksX3_isDigit_0 5 rfl rfl)
theorem dX3_isDigit_8 : decode cX3_isDigit 8 = .ok (.if_icmp .ge 29, 3) := dk_162 0 29 (dk_at dksX3_isDigit_0 8 rfl rfl)
theorem dX3_isDigit_11 : decode cX3_isDigit 11 = .ok (.aload_n 0, 1) := dk_42 (dk_at dksX3_isDigit_0 11 rfl rfl)
theorem dX3_isDigit_12 : decode cX3_isDigit 12 = .ok (.getfield 42, 3) := dk_180 0 42 (dk_at dksX3_isDigit_0 12 rfl rfl)
theorem dX3_isDigit_15 : decode cX3_isDigit 15 = .ok (.aload_n 0, 1) := dk_42 (dk_at dksX3_isDigit_0 15 rfl rfl)
theorem dX3_isDigit_16 : decode cX3_isDigit 16 = .ok (.getfield 136, 3) := dk_180 0 136 (dk_at dksX3_isDigit_0 16 rfl rfl)
theorem dX3_isDigit_19 : decode cX3_isDigit 19 = .ok (.iaload, 1) := dk_46 (dk_at dksX3_isDigit_0 19 rfl rfl)
theorem dX3_isDigit_20 : decode cX3_isDigit 20 = .ok (.i2l, 1) := dk_133 (dk_at dksX3_isDigit_0 20 rfl rfl)
theorem dX3_isDigit_21 : decode cX3_isDigit 21 = .ok (.ldc2_w 155, 3) := dk_20 0 155 (dk_at dksX3_isDigit_0 21 rfl rfl)
theorem dX3_isDigit_24 : decode cX3_isDigit 24 = .ok (.ldc2_w 157, 3) := dk_20 0 157 (dk_at dksX3_isDigit_1 0 rfl rfl)
theorem dX3_isDigit_27 : decode cX3_isDigit 27 = .ok (.invokestatic 122, 3) := dk_184 0 122 (dk_at dksX3_isDigit_1 3 rfl rfl)
theorem dX3_isDigit_30 : decode cX3_isDigit 30 = .ok (.ifCond .eq 7, 3) := dk_153 0 7 (dk_at dksX3_isDigit_1 6 rfl rfl)
theorem dX3_isDigit_33 : decode cX3_isDigit 33 = .ok (.iconst 1, 1) := dk_4 (dk_at dksX3_isDigit_1 9 rfl rfl)
theorem dX3_isDigit_34 : decode cX3_isDigit 34 = .ok (.goto 4, 3) := dk_167 0 4 (dk_at dksX3_isDigit_1 10 rfl rfl)
theorem dX3_isDigit_37 : decode cX3_isDigit 37 = .ok (.iconst 0, 1) := dk_3 (dk_at dksX3_isDigit_1 13 rfl rfl)
theorem dX3_isDigit_38 : decode cX3_isDigit 38 = .ok (.ireturn, 1) := dk_172 (dk_at dksX3_isDigit_1 14 rfl rfl)
abbrev cX3_children : ByteArray := prog_13_method_31_code
def yX3_children : MethodName := ⟨RX3, "children", "()I"⟩
def dkwX3_children_9 : List UInt8 := [180, 0, 194, 4, 96, 181, 0, 194, 42, 180, 0, 197, 172]
abbrev dktX3_children_9 : List UInt8 := dkwX3_children_9 ++ []
def dkwX3_children_8 : List UInt8 := [181, 0, 126, 132, 5, 1, 167, 255, 142, 42, 180, 0, 197, 158, 0, 18, 42, 3, 181, 0, 191, 42, 89]
abbrev dktX3_children_8 : List UInt8 := dkwX3_children_8 ++ dktX3_children_9
def dkwX3_children_7 : List UInt8 := [42, 180, 0, 36, 16, 25, 5, 42, 180, 0, 126, 104, 96, 4, 96, 8, 79, 42, 89, 180, 0, 126, 4, 96]
abbrev dktX3_children_7 : List UInt8 := dkwX3_children_7 ++ dktX3_children_8
def dkwX3_children_6 : List UInt8 := [21, 5, 104, 5, 96, 46, 79, 42, 180, 0, 36, 16, 25, 5, 42, 180, 0, 126, 104, 96, 3, 96, 2, 79]
abbrev dktX3_children_6 : List UInt8 := dkwX3_children_6 ++ dktX3_children_7
def dkwX3_children_5 : List UInt8 := [180, 0, 45, 6, 21, 5, 104, 4, 96, 46, 79, 42, 180, 0, 30, 42, 180, 0, 126, 42, 180, 0, 45, 6]
abbrev dktX3_children_5 : List UInt8 := dkwX3_children_5 ++ dktX3_children_6
def dkwX3_children_4 : List UInt8 := [180, 0, 126, 42, 180, 0, 45, 6, 21, 5, 104, 46, 79, 42, 180, 0, 27, 42, 180, 0, 126, 42]
abbrev dktX3_children_4 : List UInt8 := dkwX3_children_4 ++ dktX3_children_5
def dkwX3_children_3 : List UInt8 := [156, 0, 6, 21, 4, 172, 3, 54, 5, 21, 5, 42, 180, 0, 197, 162, 0, 111, 42, 180, 0, 24, 42]
abbrev dktX3_children_3 : List UInt8 := dkwX3_children_3 ++ dktX3_children_4
def dkwX3_children_2 : List UInt8 := [153, 0, 7, 4, 167, 0, 4, 3, 62, 167, 255, 228, 42, 27, 16, 47, 28, 182, 0, 210, 54, 4, 21, 4]
abbrev dktX3_children_2 : List UInt8 := dkwX3_children_2 ++ dktX3_children_3
def dkwX3_children_1 : List UInt8 := [167, 0, 4, 3, 62, 29, 153, 0, 30, 42, 182, 0, 207, 61, 28, 153, 0, 16, 42, 16, 59, 182, 0, 184]
abbrev dktX3_children_1 : List UInt8 := dkwX3_children_1 ++ dktX3_children_2
def dkwX3_children_0 : List UInt8 := [42, 3, 181, 0, 112, 42, 16, 47, 182, 0, 181, 60, 42, 3, 181, 0, 197, 4, 61, 27, 158, 0, 7, 4]
abbrev dktX3_children_0 : List UInt8 := dkwX3_children_0 ++ dktX3_children_1
theorem dksX3_children_0 : cX3_children.data.toList.drop 0 = dktX3_children_0 := by decide +kernel
theorem dksX3_children_1 : cX3_children.data.toList.drop 24 = dktX3_children_1 := dk_seg dksX3_children_0 24 rfl rfl
theorem dksX3_children_2 : cX3_children.data.toList.drop 48 = dktX3_children_2 := dk_seg dksX3_children_1 24 rfl rfl
theorem dksX3_children_3 : cX3_children.data.toList.drop 72 = dktX3_children_3 := dk_seg dksX3_children_2 24 rfl rfl
theorem dksX3_children_4 : cX3_children.data.toList.drop 95 = dktX3_children_4 := dk_seg dksX3_children_3 23 rfl rfl
theorem dksX3_children_5 : cX3_children.data.toList.drop 117 = dktX3_children_5 := dk_seg dksX3_children_4 22 rfl rfl
theorem dksX3_children_6 : cX3_children.data.toList.drop 141 = dktX3_children_6 := dk_seg dksX3_children_5 24 rfl rfl
theorem dksX3_children_7 : cX3_children.data.toList.drop 165 = dktX3_children_7 := dk_seg dksX3_children_6 24 rfl rfl
theorem dksX3_children_8 : cX3_children.data.toList.drop 189 = dktX3_children_8 := dk_seg dksX3_children_7 24 rfl rfl
theorem dksX3_children_9 : cX3_children.data.toList.drop 212 = dktX3_children_9 := dk_seg dksX3_children_8 23 rfl rfl
theorem dX3_children_0 : decode cX3_children 0 = .ok (.aload_n 0, 1) := dk_42 (dk_at dksX3_children_0 0 rfl rfl)
theorem dX3_children_1 : decode cX3_children 1 = .ok (.iconst 0, 1) := dk_3 (dk_at dksX3_children_0 1 rfl rfl)
theorem dX3_children_2 : decode cX3_children 2 = .ok (.putfield 112, 3) := dk_181 0 112 (dk_at dksX3_children_0 2 rfl rfl)
theorem dX3_children_5 : decode cX3_children 5 = .ok (.aload_n 0, 1) := dk_42 (dk_at dksX3_children_0 5 rfl rfl)
theorem dX3_children_6 : decode cX3_children 6 = .ok (.bipush 47, 2) := dk_16 47 (dk_at dksX3_children_0 6 rfl rfl)
theorem dX3_children_8 : decode cX3_children 8 = .ok (.invokevirtual 181, 3) := dk_182 0 181 (dk_at dksX3_children_0 8 rfl rfl)
theorem dX3_children_11 : decode cX3_children 11 = .ok (.istore_n 1, 1) := dk_60 (dk_at dksX3_children_0 11 rfl rfl)
theorem dX3_children_12 : decode cX3_children 12 = .ok (.aload_n 0, 1) := dk_42 (dk_at dksX3_children_0 12 rfl rfl)
theorem dX3_children_13 : decode cX3_children 13 = .ok (.iconst 0, 1) := dk_3 (dk_at dksX3_children_0 13 rfl rfl)
theorem dX3_children_14 : decode cX3_children 14 = .ok (.putfield 197, 3) := dk_181 0 197 (dk_at dksX3_children_0 14 rfl rfl)
theorem dX3_children_17 : decode cX3_children 17 = .ok (.iconst 1, 1) := dk_4 (dk_at dksX3_children_0 17 rfl rfl)
theorem dX3_children_18 : decode cX3_children 18 = .ok (.istore_n 2, 1) := dk_61 (dk_at dksX3_children_0 18 rfl rfl)
theorem dX3_children_19 : decode cX3_children 19 = .ok (.iload_n 1, 1) := dk_27 (dk_at dksX3_children_0 19 rfl rfl)
theorem dX3_children_20 : decode cX3_children 20 = .ok (.ifCond .le 7, 3) := dk_158 0 7 (dk_at dksX3_children_0 20 rfl rfl)
theorem dX3_children_23 : decode cX3_children 23 = .ok (.iconst 1, 1) := dk_4 (dk_at dksX3_children_0 23 rfl rfl)
theorem dX3_children_24 : decode cX3_children 24 = .ok (.goto 4, 3) := dk_167 0 4 (dk_at dksX3_children_1 0 rfl rfl)
theorem dX3_children_27 : decode cX3_children 27 = .ok (.iconst 0, 1) := dk_3 (dk_at dksX3_children_1 3 rfl rfl)
theorem dX3_children_28 : decode cX3_children 28 = .ok (.istore_n 3, 1) := dk_62 (dk_at dksX3_children_1 4 rfl rfl)
theorem dX3_children_29 : decode cX3_children 29 = .ok (.iload_n 3, 1) := dk_29 (dk_at dksX3_children_1 5 rfl rfl)
theorem dX3_children_30 : decode cX3_children 30 = .ok (.ifCond .eq 30, 3) := dk_153 0 30 (dk_at dksX3_children_1 6 rfl rfl)
theorem dX3_children_33 : decode cX3_children 33 = .ok (.aload_n 0, 1) := dk_42 (dk_at dksX3_children_1 9 rfl rfl)
theorem dX3_children_34 : decode cX3_children 34 = .ok (.invokevirtual 207, 3) := dk_182 0 207 (dk_at dksX3_children_1 10 rfl rfl)
theorem dX3_children_37 : decode cX3_children 37 = .ok (.istore_n 2, 1) := dk_61 (dk_at dksX3_children_1 13 rfl rfl)
theorem dX3_children_38 : decode cX3_children 38 = .ok (.iload_n 2, 1) := dk_28 (dk_at dksX3_children_1 14 rfl rfl)
theorem dX3_children_39 : decode cX3_children 39 = .ok (.ifCond .eq 16, 3) := dk_153 0 16 (dk_at dksX3_children_1 15 rfl rfl)
theorem dX3_children_42 : decode cX3_children 42 = .ok (.aload_n 0, 1) := dk_42 (dk_at dksX3_children_1 18 rfl rfl)
theorem dX3_children_43 : decode cX3_children 43 = .ok (.bipush 59, 2) := dk_16 59 (dk_at dksX3_children_1 19 rfl rfl)
theorem dX3_children_45 : decode cX3_children 45 = .ok (.invokevirtual 184, 3) := dk_182 0 184 (dk_at dksX3_children_1 21 rfl rfl)
theorem dX3_children_48 : decode cX3_children 48 = .ok (.ifCond .eq 7, 3) := dk_153 0 7 (dk_at dksX3_children_2 0 rfl rfl)
theorem dX3_children_51 : decode cX3_children 51 = .ok (.iconst 1, 1) := dk_4 (dk_at dksX3_children_2 3 rfl rfl)
theorem dX3_children_52 : decode cX3_children 52 = .ok (.goto 4, 3) := dk_167 0 4 (dk_at dksX3_children_2 4 rfl rfl)
theorem dX3_children_55 : decode cX3_children 55 = .ok (.iconst 0, 1) := dk_3 (dk_at dksX3_children_2 7 rfl rfl)
theorem dX3_children_56 : decode cX3_children 56 = .ok (.istore_n 3, 1) := dk_62 (dk_at dksX3_children_2 8 rfl rfl)
theorem dX3_children_57 : decode cX3_children 57 = .ok (.goto (-28), 3) := dk_167 255 228 (dk_at dksX3_children_2 9 rfl rfl)
theorem dX3_children_60 : decode cX3_children 60 = .ok (.aload_n 0, 1) := dk_42 (dk_at dksX3_children_2 12 rfl rfl)
theorem dX3_children_61 : decode cX3_children 61 = .ok (.iload_n 1, 1) := dk_27 (dk_at dksX3_children_2 13 rfl rfl)
theorem dX3_children_62 : decode cX3_children 62 = .ok (.bipush 47, 2) := dk_16 47 (dk_at dksX3_children_2 14 rfl rfl)
theorem dX3_children_64 : decode cX3_children 64 = .ok (.iload_n 2, 1) := dk_28 (dk_at dksX3_children_2 16 rfl rfl)
theorem dX3_children_65 : decode cX3_children 65 = .ok (.invokevirtual 210, 3) := dk_182 0 210 (dk_at dksX3_children_2 17 rfl rfl)
theorem dX3_children_68 : decode cX3_children 68 = .ok (.istore 4, 2) := dk_54 4 (dk_at dksX3_children_2 20 rfl rfl)
theorem dX3_children_70 : decode cX3_children 70 = .ok (.iload 4, 2) := dk_21 4 (dk_at dksX3_children_2 22 rfl rfl)
theorem dX3_children_72 : decode cX3_children 72 = .ok (.ifCond .ge 6, 3) := dk_156 0 6 (dk_at dksX3_children_3 0 rfl rfl)
theorem dX3_children_75 : decode cX3_children 75 = .ok (.iload 4, 2) := dk_21 4 (dk_at dksX3_children_3 3 rfl rfl)
theorem dX3_children_77 : decode cX3_children 77 = .ok (.ireturn, 1) := dk_172 (dk_at dksX3_children_3 5 rfl rfl)
theorem dX3_children_78 : decode cX3_children 78 = .ok (.iconst 0, 1) := dk_3 (dk_at dksX3_children_3 6 rfl rfl)
theorem dX3_children_79 : decode cX3_children 79 = .ok (.istore 5, 2) := dk_54 5 (dk_at dksX3_children_3 7 rfl rfl)
theorem dX3_children_81 : decode cX3_children 81 = .ok (.iload 5, 2) := dk_21 5 (dk_at dksX3_children_3 9 rfl rfl)
theorem dX3_children_83 : decode cX3_children 83 = .ok (.aload_n 0, 1) := dk_42 (dk_at dksX3_children_3 11 rfl rfl)
theorem dX3_children_84 : decode cX3_children 84 = .ok (.getfield 197, 3) := dk_180 0 197 (dk_at dksX3_children_3 12 rfl rfl)
theorem dX3_children_87 : decode cX3_children 87 = .ok (.if_icmp .ge 111, 3) := dk_162 0 111 (dk_at dksX3_children_3 15 rfl rfl)
theorem dX3_children_90 : decode cX3_children 90 = .ok (.aload_n 0, 1) := dk_42 (dk_at dksX3_children_3 18 rfl rfl)
theorem dX3_children_91 : decode cX3_children 91 = .ok (.getfield 24, 3) := dk_180 0 24 (dk_at dksX3_children_3 19 rfl rfl)
theorem dX3_children_94 : decode cX3_children 94 = .ok (.aload_n 0, 1) := dk_42 (dk_at dksX3_children_3 22 rfl rfl)
theorem dX3_children_95 : decode cX3_children 95 = .ok (.getfield 126, 3) := dk_180 0 126 (dk_at dksX3_children_4 0 rfl rfl)
theorem dX3_children_98 : decode cX3_children 98 = .ok (.aload_n 0, 1) := dk_42 (dk_at dksX3_children_4 3 rfl rfl)
theorem dX3_children_99 : decode cX3_children 99 = .ok (.getfield 45, 3) := dk_180 0 45 (dk_at dksX3_children_4 4 rfl rfl)
theorem dX3_children_102 : decode cX3_children 102 = .ok (.iconst 3, 1) := dk_6 (dk_at dksX3_children_4 7 rfl rfl)
theorem dX3_children_103 : decode cX3_children 103 = .ok (.iload 5, 2) := dk_21 5 (dk_at dksX3_children_4 8 rfl rfl)
theorem dX3_children_105 : decode cX3_children 105 = .ok (.imul, 1) := dk_104 (dk_at dksX3_children_4 10 rfl rfl)
theorem dX3_children_106 : decode cX3_children 106 = .ok (.iaload, 1) := dk_46 (dk_at dksX3_children_4 11 rfl rfl)
theorem dX3_children_107 : decode cX3_children 107 = .ok (.iastore, 1) := dk_79 (dk_at dksX3_children_4 12 rfl rfl)
theorem dX3_children_108 : decode cX3_children 108 = .ok (.aload_n 0, 1) := dk_42 (dk_at dksX3_children_4 13 rfl rfl)
theorem dX3_children_109 : decode cX3_children 109 = .ok (.getfield 27, 3) := dk_180 0 27 (dk_at dksX3_children_4 14 rfl rfl)
theorem dX3_children_112 : decode cX3_children 112 = .ok (.aload_n 0, 1) := dk_42 (dk_at dksX3_children_4 17 rfl rfl)
theorem dX3_children_113 : decode cX3_children 113 = .ok (.getfield 126, 3) := dk_180 0 126 (dk_at dksX3_children_4 18 rfl rfl)
theorem dX3_children_116 : decode cX3_children 116 = .ok (.aload_n 0, 1) := dk_42 (dk_at dksX3_children_4 21 rfl rfl)
theorem dX3_children_117 : decode cX3_children 117 = .ok (.getfield 45, 3) := dk_180 0 45 (dk_at dksX3_children_5 0 rfl rfl)
theorem dX3_children_120 : decode cX3_children 120 = .ok (.iconst 3, 1) := dk_6 (dk_at dksX3_children_5 3 rfl rfl)
theorem dX3_children_121 : decode cX3_children 121 = .ok (.iload 5, 2) := dk_21 5 (dk_at dksX3_children_5 4 rfl rfl)
theorem dX3_children_123 : decode cX3_children 123 = .ok (.imul, 1) := dk_104 (dk_at dksX3_children_5 6 rfl rfl)
theorem dX3_children_124 : decode cX3_children 124 = .ok (.iconst 1, 1) := dk_4 (dk_at dksX3_children_5 7 rfl rfl)
theorem dX3_children_125 : decode cX3_children 125 = .ok (.iadd, 1) := dk_96 (dk_at dksX3_children_5 8 rfl rfl)
theorem dX3_children_126 : decode cX3_children 126 = .ok (.iaload, 1) := dk_46 (dk_at dksX3_children_5 9 rfl rfl)
theorem dX3_children_127 : decode cX3_children 127 = .ok (.iastore, 1) := dk_79 (dk_at dksX3_children_5 10 rfl rfl)
theorem dX3_children_128 : decode cX3_children 128 = .ok (.aload_n 0, 1) := dk_42 (dk_at dksX3_children_5 11 rfl rfl)
theorem dX3_children_129 : decode cX3_children 129 = .ok (.getfield 30, 3) := dk_180 0 30 (dk_at dksX3_children_5 12 rfl rfl)
theorem dX3_children_132 : decode cX3_children 132 = .ok (.aload_n 0, 1) := dk_42 (dk_at dksX3_children_5 15 rfl rfl)
theorem dX3_children_133 : decode cX3_children 133 = .ok (.getfield 126, 3) := dk_180 0 126 (dk_at dksX3_children_5 16 rfl rfl)
theorem dX3_children_136 : decode cX3_children 136 = .ok (.aload_n 0, 1) := dk_42 (dk_at dksX3_children_5 19 rfl rfl)
theorem dX3_children_137 : decode cX3_children 137 = .ok (.getfield 45, 3) := dk_180 0 45 (dk_at dksX3_children_5 20 rfl rfl)
theorem dX3_children_140 : decode cX3_children 140 = .ok (.iconst 3, 1) := dk_6 (dk_at dksX3_children_5 23 rfl rfl)
theorem dX3_children_141 : decode cX3_children 141 = .ok (.iload 5, 2) := dk_21 5 (dk_at dksX3_children_6 0 rfl rfl)
theorem dX3_children_143 : decode cX3_children 143 = .ok (.imul, 1) := dk_104 (dk_at dksX3_children_6 2 rfl rfl)
theorem dX3_children_144 : decode cX3_children 144 = .ok (.iconst 2, 1) := dk_5 (dk_at dksX3_children_6 3 rfl rfl)
theorem dX3_children_145 : decode cX3_children 145 = .ok (.iadd, 1) := dk_96 (dk_at dksX3_children_6 4 rfl rfl)
theorem dX3_children_146 : decode cX3_children 146 = .ok (.iaload, 1) := dk_46 (dk_at dksX3_children_6 5 rfl rfl)
theorem dX3_children_147 : decode cX3_children 147 = .ok (.iastore, 1) := dk_79 (dk_at dksX3_children_6 6 rfl rfl)
theorem dX3_children_148 : decode cX3_children 148 = .ok (.aload_n 0, 1) := dk_42 (dk_at dksX3_children_6 7 rfl rfl)
theorem dX3_children_149 : decode cX3_children 149 = .ok (.getfield 36, 3) := dk_180 0 36 (dk_at dksX3_children_6 8 rfl rfl)
theorem dX3_children_152 : decode cX3_children 152 = .ok (.bipush 25, 2) := dk_16 25 (dk_at dksX3_children_6 11 rfl rfl)
theorem dX3_children_154 : decode cX3_children 154 = .ok (.iconst 2, 1) := dk_5 (dk_at dksX3_children_6 13 rfl rfl)
theorem dX3_children_155 : decode cX3_children 155 = .ok (.aload_n 0, 1) := dk_42 (dk_at dksX3_children_6 14 rfl rfl)
theorem dX3_children_156 : decode cX3_children 156 = .ok (.getfield 126, 3) := dk_180 0 126 (dk_at dksX3_children_6 15 rfl rfl)
theorem dX3_children_159 : decode cX3_children 159 = .ok (.imul, 1) := dk_104 (dk_at dksX3_children_6 18 rfl rfl)
theorem dX3_children_160 : decode cX3_children 160 = .ok (.iadd, 1) := dk_96 (dk_at dksX3_children_6 19 rfl rfl)
theorem dX3_children_161 : decode cX3_children 161 = .ok (.iconst 0, 1) := dk_3 (dk_at dksX3_children_6 20 rfl rfl)
theorem dX3_children_162 : decode cX3_children 162 = .ok (.iadd, 1) := dk_96 (dk_at dksX3_children_6 21 rfl rfl)
theorem dX3_children_163 : decode cX3_children 163 = .ok (.iconst (-1), 1) := dk_2 (dk_at dksX3_children_6 22 rfl rfl)
theorem dX3_children_164 : decode cX3_children 164 = .ok (.iastore, 1) := dk_79 (dk_at dksX3_children_6 23 rfl rfl)
theorem dX3_children_165 : decode cX3_children 165 = .ok (.aload_n 0, 1) := dk_42 (dk_at dksX3_children_7 0 rfl rfl)
theorem dX3_children_166 : decode cX3_children 166 = .ok (.getfield 36, 3) := dk_180 0 36 (dk_at dksX3_children_7 1 rfl rfl)
theorem dX3_children_169 : decode cX3_children 169 = .ok (.bipush 25, 2) := dk_16 25 (dk_at dksX3_children_7 4 rfl rfl)
theorem dX3_children_171 : decode cX3_children 171 = .ok (.iconst 2, 1) := dk_5 (dk_at dksX3_children_7 6 rfl rfl)
theorem dX3_children_172 : decode cX3_children 172 = .ok (.aload_n 0, 1) := dk_42 (dk_at dksX3_children_7 7 rfl rfl)
theorem dX3_children_173 : decode cX3_children 173 = .ok (.getfield 126, 3) := dk_180 0 126 (dk_at dksX3_children_7 8 rfl rfl)
theorem dX3_children_176 : decode cX3_children 176 = .ok (.imul, 1) := dk_104 (dk_at dksX3_children_7 11 rfl rfl)
theorem dX3_children_177 : decode cX3_children 177 = .ok (.iadd, 1) := dk_96 (dk_at dksX3_children_7 12 rfl rfl)
theorem dX3_children_178 : decode cX3_children 178 = .ok (.iconst 1, 1) := dk_4 (dk_at dksX3_children_7 13 rfl rfl)
theorem dX3_children_179 : decode cX3_children 179 = .ok (.iadd, 1) := dk_96 (dk_at dksX3_children_7 14 rfl rfl)
theorem dX3_children_180 : decode cX3_children 180 = .ok (.iconst 5, 1) := dk_8 (dk_at dksX3_children_7 15 rfl rfl)
theorem dX3_children_181 : decode cX3_children 181 = .ok (.iastore, 1) := dk_79 (dk_at dksX3_children_7 16 rfl rfl)
theorem dX3_children_182 : decode cX3_children 182 = .ok (.aload_n 0, 1) := dk_42 (dk_at dksX3_children_7 17 rfl rfl)
theorem dX3_children_183 : decode cX3_children 183 = .ok (.dup, 1) := dk_89 (dk_at dksX3_children_7 18 rfl rfl)
theorem dX3_children_184 : decode cX3_children 184 = .ok (.getfield 126, 3) := dk_180 0 126 (dk_at dksX3_children_7 19 rfl rfl)
theorem dX3_children_187 : decode cX3_children 187 = .ok (.iconst 1, 1) := dk_4 (dk_at dksX3_children_7 22 rfl rfl)
theorem dX3_children_188 : decode cX3_children 188 = .ok (.iadd, 1) := dk_96 (dk_at dksX3_children_7 23 rfl rfl)
theorem dX3_children_189 : decode cX3_children 189 = .ok (.putfield 126, 3) := dk_181 0 126 (dk_at dksX3_children_8 0 rfl rfl)
theorem dX3_children_192 : decode cX3_children 192 = .ok (.iinc 5 1, 3) := dk_132 5 1 (dk_at dksX3_children_8 3 rfl rfl)
theorem dX3_children_195 : decode cX3_children 195 = .ok (.goto (-114), 3) := dk_167 255 142 (dk_at dksX3_children_8 6 rfl rfl)
theorem dX3_children_198 : decode cX3_children 198 = .ok (.aload_n 0, 1) := dk_42 (dk_at dksX3_children_8 9 rfl rfl)
theorem dX3_children_199 : decode cX3_children 199 = .ok (.getfield 197, 3) := dk_180 0 197 (dk_at dksX3_children_8 10 rfl rfl)
theorem dX3_children_202 : decode cX3_children 202 = .ok (.ifCond .le 18, 3) := dk_158 0 18 (dk_at dksX3_children_8 13 rfl rfl)
theorem dX3_children_205 : decode cX3_children 205 = .ok (.aload_n 0, 1) := dk_42 (dk_at dksX3_children_8 16 rfl rfl)
theorem dX3_children_206 : decode cX3_children 206 = .ok (.iconst 0, 1) := dk_3 (dk_at dksX3_children_8 17 rfl rfl)
theorem dX3_children_207 : decode cX3_children 207 = .ok (.putfield 191, 3) := dk_181 0 191 (dk_at dksX3_children_8 18 rfl rfl)
theorem dX3_children_210 : decode cX3_children 210 = .ok (.aload_n 0, 1) := dk_42 (dk_at dksX3_children_8 21 rfl rfl)
theorem dX3_children_211 : decode cX3_children 211 = .ok (.dup, 1) := dk_89 (dk_at dksX3_children_8 22 rfl rfl)
theorem dX3_children_212 : decode cX3_children 212 = .ok (.getfield 194, 3) := dk_180 0 194 (dk_at dksX3_children_9 0 rfl rfl)
theorem dX3_children_215 : decode cX3_children 215 = .ok (.iconst 1, 1) := dk_4 (dk_at dksX3_children_9 3 rfl rfl)
theorem dX3_children_216 : decode cX3_children 216 = .ok (.iadd, 1) := dk_96 (dk_at dksX3_children_9 4 rfl rfl)
theorem dX3_children_217 : decode cX3_children 217 = .ok (.putfield 194, 3) := dk_181 0 194 (dk_at dksX3_children_9 5 rfl rfl)
theorem dX3_children_220 : decode cX3_children 220 = .ok (.aload_n 0, 1) := dk_42 (dk_at dksX3_children_9 8 rfl rfl)
theorem dX3_children_221 : decode cX3_children 221 = .ok (.getfield 197, 3) := dk_180 0 197 (dk_at dksX3_children_9 9 rfl rfl)
theorem dX3_children_224 : decode cX3_children 224 = .ok (.ireturn, 1) := dk_172 (dk_at dksX3_children_9 12 rfl rfl)
abbrev cX3_readsChild : ByteArray := prog_13_method_30_code
def yX3_readsChild : MethodName := ⟨RX3, "readsChild", "()Z"⟩
def dkwX3_readsChild_6 : List UInt8 := [42, 180, 0, 45, 27, 5, 96, 46, 155, 0, 7, 4, 167, 0, 4, 3, 172]
abbrev dktX3_readsChild_6 : List UInt8 := dkwX3_readsChild_6 ++ []
def dkwX3_readsChild_5 : List UInt8 := [180, 0, 197, 96, 4, 100, 182, 0, 204, 79, 42, 89, 180, 0, 197, 4, 96, 181, 0, 197, 28, 154, 0, 14]
abbrev dktX3_readsChild_5 : List UInt8 := dkwX3_readsChild_5 ++ dktX3_readsChild_6
def dkwX3_readsChild_4 : List UInt8 := [42, 180, 0, 45, 27, 5, 96, 28, 153, 0, 7, 2, 167, 0, 21, 42, 16, 97, 3, 42, 180, 0, 126, 42]
abbrev dktX3_readsChild_4 : List UInt8 := dkwX3_readsChild_4 ++ dktX3_readsChild_5
def dkwX3_readsChild_3 : List UInt8 := [182, 0, 204, 79, 42, 180, 0, 45, 27, 4, 96, 46, 156, 0, 5, 3, 172, 42, 16, 45, 182, 0, 184, 61]
abbrev dktX3_readsChild_3 : List UInt8 := dkwX3_readsChild_3 ++ dktX3_readsChild_4
def dkwX3_readsChild_2 : List UInt8 := [16, 44, 182, 0, 184, 154, 0, 5, 3, 172, 42, 180, 0, 45, 27, 4, 96, 42, 16, 48, 4, 16, 9]
abbrev dktX3_readsChild_2 : List UInt8 := dkwX3_readsChild_2 ++ dktX3_readsChild_3
def dkwX3_readsChild_1 : List UInt8 := [180, 0, 45, 27, 42, 5, 7, 16, 13, 182, 0, 200, 79, 42, 180, 0, 45, 27, 46, 155, 0, 12, 42]
abbrev dktX3_readsChild_1 : List UInt8 := dkwX3_readsChild_1 ++ dktX3_readsChild_2
def dkwX3_readsChild_0 : List UInt8 := [42, 180, 0, 126, 42, 180, 0, 197, 96, 16, 8, 160, 0, 5, 3, 172, 6, 42, 180, 0, 197, 104, 60, 42]
abbrev dktX3_readsChild_0 : List UInt8 := dkwX3_readsChild_0 ++ dktX3_readsChild_1
theorem dksX3_readsChild_0 : cX3_readsChild.data.toList.drop 0 = dktX3_readsChild_0 := by decide +kernel
theorem dksX3_readsChild_1 : cX3_readsChild.data.toList.drop 24 = dktX3_readsChild_1 := dk_seg dksX3_readsChild_0 24 rfl rfl
theorem dksX3_readsChild_2 : cX3_readsChild.data.toList.drop 47 = dktX3_readsChild_2 := dk_seg dksX3_readsChild_1 23 rfl rfl
theorem dksX3_readsChild_3 : cX3_readsChild.data.toList.drop 70 = dktX3_readsChild_3 := dk_seg dksX3_readsChild_2 23 rfl rfl
theorem dksX3_readsChild_4 : cX3_readsChild.data.toList.drop 94 = dktX3_readsChild_4 := dk_seg dksX3_readsChild_3 24 rfl rfl
theorem dksX3_readsChild_5 : cX3_readsChild.data.toList.drop 118 = dktX3_readsChild_5 := dk_seg dksX3_readsChild_4 24 rfl rfl
theorem dksX3_readsChild_6 : cX3_readsChild.data.toList.drop 142 = dktX3_readsChild_6 := dk_seg dksX3_readsChild_5 24 rfl rfl
theorem dX3_readsChild_0 : decode cX3_readsChild 0 = .ok (.aload_n 0, 1) := dk_42 (dk_at dksX3_readsChild_0 0 rfl rfl)
theorem dX3_readsChild_1 : decode cX3_readsChild 1 = .ok (.getfield 126, 3) := dk_180 0 126 (dk_at dksX3_readsChild_0 1 rfl rfl)
theorem dX3_readsChild_4 : decode cX3_readsChild 4 = .ok (.aload_n 0, 1) := dk_42 (dk_at dksX3_readsChild_0 4 rfl rfl)
theorem dX3_readsChild_5 : decode cX3_readsChild 5 = .ok (.getfield 197, 3) := dk_180 0 197 (dk_at dksX3_readsChild_0 5 rfl rfl)
theorem dX3_readsChild_8 : decode cX3_readsChild 8 = .ok (.iadd, 1) := dk_96 (dk_at dksX3_readsChild_0 8 rfl rfl)
theorem dX3_readsChild_9 : decode cX3_readsChild 9 = .ok (.bipush 8, 2) := dk_16 8 (dk_at dksX3_readsChild_0 9 rfl rfl)
theorem dX3_readsChild_11 : decode cX3_readsChild 11 = .ok (.if_icmp .ne 5, 3) := dk_160 0 5 (dk_at dksX3_readsChild_0 11 rfl rfl)
theorem dX3_readsChild_14 : decode cX3_readsChild 14 = .ok (.iconst 0, 1) := dk_3 (dk_at dksX3_readsChild_0 14 rfl rfl)
theorem dX3_readsChild_15 : decode cX3_readsChild 15 = .ok (.ireturn, 1) := dk_172 (dk_at dksX3_readsChild_0 15 rfl rfl)
theorem dX3_readsChild_16 : decode cX3_readsChild 16 = .ok (.iconst 3, 1) := dk_6 (dk_at dksX3_readsChild_0 16 rfl rfl)
theorem dX3_readsChild_17 : decode cX3_readsChild 17 = .ok (.aload_n 0, 1) := dk_42 (dk_at dksX3_readsChild_0 17 rfl rfl)
theorem dX3_readsChild_18 : decode cX3_readsChild 18 = .ok (.getfield 197, 3) := dk_180 0 197 (dk_at dksX3_readsChild_0 18 rfl rfl)
theorem dX3_readsChild_21 : decode cX3_readsChild 21 = .ok (.imul, 1) := dk_104 (dk_at dksX3_readsChild_0 21 rfl rfl)
theorem dX3_readsChild_22 : decode cX3_readsChild 22 = .ok (.istore_n 1, 1) := dk_60 (dk_at dksX3_readsChild_0 22 rfl rfl)
theorem dX3_readsChild_23 : decode cX3_readsChild 23 = .ok (.aload_n 0, 1) := dk_42 (dk_at dksX3_readsChild_0 23 rfl rfl)
theorem dX3_readsChild_24 : decode cX3_readsChild 24 = .ok (.getfield 45, 3) := dk_180 0 45 (dk_at dksX3_readsChild_1 0 rfl rfl)
theorem dX3_readsChild_27 : decode cX3_readsChild 27 = .ok (.iload_n 1, 1) := dk_27 (dk_at dksX3_readsChild_1 3 rfl rfl)
theorem dX3_readsChild_28 : decode cX3_readsChild 28 = .ok (.aload_n 0, 1) := dk_42 (dk_at dksX3_readsChild_1 4 rfl rfl)
theorem dX3_readsChild_29 : decode cX3_readsChild 29 = .ok (.iconst 2, 1) := dk_5 (dk_at dksX3_readsChild_1 5 rfl rfl)
theorem dX3_readsChild_30 : decode cX3_readsChild 30 = .ok (.iconst 4, 1) := dk_7 (dk_at dksX3_readsChild_1 6 rfl rfl)
theorem dX3_readsChild_31 : decode cX3_readsChild 31 = .ok (.bipush 13, 2) := dk_16 13 (dk_at dksX3_readsChild_1 7 rfl rfl)
theorem dX3_readsChild_33 : decode cX3_readsChild 33 = .ok (.invokevirtual 200, 3) := dk_182 0 200 (dk_at dksX3_readsChild_1 9 rfl rfl)
theorem dX3_readsChild_36 : decode cX3_readsChild 36 = .ok (.iastore, 1) := dk_79 (dk_at dksX3_readsChild_1 12 rfl rfl)
theorem dX3_readsChild_37 : decode cX3_readsChild 37 = .ok (.aload_n 0, 1) := dk_42 (dk_at dksX3_readsChild_1 13 rfl rfl)
theorem dX3_readsChild_38 : decode cX3_readsChild 38 = .ok (.getfield 45, 3) := dk_180 0 45 (dk_at dksX3_readsChild_1 14 rfl rfl)
theorem dX3_readsChild_41 : decode cX3_readsChild 41 = .ok (.iload_n 1, 1) := dk_27 (dk_at dksX3_readsChild_1 17 rfl rfl)
theorem dX3_readsChild_42 : decode cX3_readsChild 42 = .ok (.iaload, 1) := dk_46 (dk_at dksX3_readsChild_1 18 rfl rfl)
theorem dX3_readsChild_43 : decode cX3_readsChild 43 = .ok (.ifCond .lt 12, 3) := dk_155 0 12 (dk_at dksX3_readsChild_1 19 rfl rfl)
theorem dX3_readsChild_46 : decode cX3_readsChild 46 = .ok (.aload_n 0, 1) := dk_42 (dk_at dksX3_readsChild_1 22 rfl rfl)
theorem dX3_readsChild_47 : decode cX3_readsChild 47 = .ok (.bipush 44, 2) := dk_16 44 (dk_at dksX3_readsChild_2 0 rfl rfl)
theorem dX3_readsChild_49 : decode cX3_readsChild 49 = .ok (.invokevirtual 184, 3) := dk_182 0 184 (dk_at dksX3_readsChild_2 2 rfl rfl)
theorem dX3_readsChild_52 : decode cX3_readsChild 52 = .ok (.ifCond .ne 5, 3) := dk_154 0 5 (dk_at dksX3_readsChild_2 5 rfl rfl)
theorem dX3_readsChild_55 : decode cX3_readsChild 55 = .ok (.iconst 0, 1) := dk_3 (dk_at dksX3_readsChild_2 8 rfl rfl)
theorem dX3_readsChild_56 : decode cX3_readsChild 56 = .ok (.ireturn, 1) := dk_172 (dk_at dksX3_readsChild_2 9 rfl rfl)
theorem dX3_readsChild_57 : decode cX3_readsChild 57 = .ok (.aload_n 0, 1) := dk_42 (dk_at dksX3_readsChild_2 10 rfl rfl)
theorem dX3_readsChild_58 : decode cX3_readsChild 58 = .ok (.getfield 45, 3) := dk_180 0 45 (dk_at dksX3_readsChild_2 11 rfl rfl)
theorem dX3_readsChild_61 : decode cX3_readsChild 61 = .ok (.iload_n 1, 1) := dk_27 (dk_at dksX3_readsChild_2 14 rfl rfl)
theorem dX3_readsChild_62 : decode cX3_readsChild 62 = .ok (.iconst 1, 1) := dk_4 (dk_at dksX3_readsChild_2 15 rfl rfl)
theorem dX3_readsChild_63 : decode cX3_readsChild 63 = .ok (.iadd, 1) := dk_96 (dk_at dksX3_readsChild_2 16 rfl rfl)
theorem dX3_readsChild_64 : decode cX3_readsChild 64 = .ok (.aload_n 0, 1) := dk_42 (dk_at dksX3_readsChild_2 17 rfl rfl)
theorem dX3_readsChild_65 : decode cX3_readsChild 65 = .ok (.bipush 48, 2) := dk_16 48 (dk_at dksX3_readsChild_2 18 rfl rfl)
theorem dX3_readsChild_67 : decode cX3_readsChild 67 = .ok (.iconst 1, 1) := dk_4 (dk_at dksX3_readsChild_2 20 rfl rfl)
theorem dX3_readsChild_68 : decode cX3_readsChild 68 = .ok (.bipush 9, 2) := dk_16 9 (dk_at dksX3_readsChild_2 21 rfl rfl)
theorem dX3_readsChild_70 : decode cX3_readsChild 70 = .ok (.invokevirtual 204, 3) := dk_182 0 204 (dk_at dksX3_readsChild_3 0 rfl rfl)
theorem dX3_readsChild_73 : decode cX3_readsChild 73 = .ok (.iastore, 1) := dk_79 (dk_at dksX3_readsChild_3 3 rfl rfl)
theorem dX3_readsChild_74 : decode cX3_readsChild 74 = .ok (.aload_n 0, 1) := dk_42 (dk_at dksX3_readsChild_3 4 rfl rfl)
theorem dX3_readsChild_75 : decode cX3_readsChild 75 = .ok (.getfield 45, 3) := dk_180 0 45 (dk_at dksX3_readsChild_3 5 rfl rfl)
theorem dX3_readsChild_78 : decode cX3_readsChild 78 = .ok (.iload_n 1, 1) := dk_27 (dk_at dksX3_readsChild_3 8 rfl rfl)
theorem dX3_readsChild_79 : decode cX3_readsChild 79 = .ok (.iconst 1, 1) := dk_4 (dk_at dksX3_readsChild_3 9 rfl rfl)
theorem dX3_readsChild_80 : decode cX3_readsChild 80 = .ok (.iadd, 1) := dk_96 (dk_at dksX3_readsChild_3 10 rfl rfl)
theorem dX3_readsChild_81 : decode cX3_readsChild 81 = .ok (.iaload, 1) := dk_46 (dk_at dksX3_readsChild_3 11 rfl rfl)
theorem dX3_readsChild_82 : decode cX3_readsChild 82 = .ok (.ifCond .ge 5, 3) := dk_156 0 5 (dk_at dksX3_readsChild_3 12 rfl rfl)
theorem dX3_readsChild_85 : decode cX3_readsChild 85 = .ok (.iconst 0, 1) := dk_3 (dk_at dksX3_readsChild_3 15 rfl rfl)
theorem dX3_readsChild_86 : decode cX3_readsChild 86 = .ok (.ireturn, 1) := dk_172 (dk_at dksX3_readsChild_3 16 rfl rfl)
theorem dX3_readsChild_87 : decode cX3_readsChild 87 = .ok (.aload_n 0, 1) := dk_42 (dk_at dksX3_readsChild_3 17 rfl rfl)
theorem dX3_readsChild_88 : decode cX3_readsChild 88 = .ok (.bipush 45, 2) := dk_16 45 (dk_at dksX3_readsChild_3 18 rfl rfl)
theorem dX3_readsChild_90 : decode cX3_readsChild 90 = .ok (.invokevirtual 184, 3) := dk_182 0 184 (dk_at dksX3_readsChild_3 20 rfl rfl)
theorem dX3_readsChild_93 : decode cX3_readsChild 93 = .ok (.istore_n 2, 1) := dk_61 (dk_at dksX3_readsChild_3 23 rfl rfl)
theorem dX3_readsChild_94 : decode cX3_readsChild 94 = .ok (.aload_n 0, 1) := dk_42 (dk_at dksX3_readsChild_4 0 rfl rfl)
theorem dX3_readsChild_95 : decode cX3_readsChild 95 = .ok (.getfield 45, 3) := dk_180 0 45 (dk_at dksX3_readsChild_4 1 rfl rfl)
theorem dX3_readsChild_98 : decode cX3_readsChild 98 = .ok (.iload_n 1, 1) := dk_27 (dk_at dksX3_readsChild_4 4 rfl rfl)
theorem dX3_readsChild_99 : decode cX3_readsChild 99 = .ok (.iconst 2, 1) := dk_5 (dk_at dksX3_readsChild_4 5 rfl rfl)
theorem dX3_readsChild_100 : decode cX3_readsChild 100 = .ok (.iadd, 1) := dk_96 (dk_at dksX3_readsChild_4 6 rfl rfl)
theorem dX3_readsChild_101 : decode cX3_readsChild 101 = .ok (.iload_n 2, 1) := dk_28 (dk_at dksX3_readsChild_4 7 rfl rfl)
theorem dX3_readsChild_102 : decode cX3_readsChild 102 = .ok (.ifCond .eq 7, 3) := dk_153 0 7 (dk_at dksX3_readsChild_4 8 rfl rfl)
theorem dX3_readsChild_105 : decode cX3_readsChild 105 = .ok (.iconst (-1), 1) := dk_2 (dk_at dksX3_readsChild_4 11 rfl rfl)
theorem dX3_readsChild_106 : decode cX3_readsChild 106 = .ok (.goto 21, 3) := dk_167 0 21 (dk_at dksX3_readsChild_4 12 rfl rfl)
theorem dX3_readsChild_109 : decode cX3_readsChild 109 = .ok (.aload_n 0, 1) := dk_42 (dk_at dksX3_readsChild_4 15 rfl rfl)
theorem dX3_readsChild_110 : decode cX3_readsChild 110 = .ok (.bipush 97, 2) := dk_16 97 (dk_at dksX3_readsChild_4 16 rfl rfl)
theorem dX3_readsChild_112 : decode cX3_readsChild 112 = .ok (.iconst 0, 1) := dk_3 (dk_at dksX3_readsChild_4 18 rfl rfl)
theorem dX3_readsChild_113 : decode cX3_readsChild 113 = .ok (.aload_n 0, 1) := dk_42 (dk_at dksX3_readsChild_4 19 rfl rfl)
theorem dX3_readsChild_114 : decode cX3_readsChild 114 = .ok (.getfield 126, 3) := dk_180 0 126 (dk_at dksX3_readsChild_4 20 rfl rfl)
theorem dX3_readsChild_117 : decode cX3_readsChild 117 = .ok (.aload_n 0, 1) := dk_42 (dk_at dksX3_readsChild_4 23 rfl rfl)
theorem dX3_readsChild_118 : decode cX3_readsChild 118 = .ok (.getfield 197, 3) := dk_180 0 197 (dk_at dksX3_readsChild_5 0 rfl rfl)
theorem dX3_readsChild_121 : decode cX3_readsChild 121 = .ok (.iadd, 1) := dk_96 (dk_at dksX3_readsChild_5 3 rfl rfl)
theorem dX3_readsChild_122 : decode cX3_readsChild 122 = .ok (.iconst 1, 1) := dk_4 (dk_at dksX3_readsChild_5 4 rfl rfl)
theorem dX3_readsChild_123 : decode cX3_readsChild 123 = .ok (.isub, 1) := dk_100 (dk_at dksX3_readsChild_5 5 rfl rfl)
theorem dX3_readsChild_124 : decode cX3_readsChild 124 = .ok (.invokevirtual 204, 3) := dk_182 0 204 (dk_at dksX3_readsChild_5 6 rfl rfl)
theorem dX3_readsChild_127 : decode cX3_readsChild 127 = .ok (.iastore, 1) := dk_79 (dk_at dksX3_readsChild_5 9 rfl rfl)
theorem dX3_readsChild_128 : decode cX3_readsChild 128 = .ok (.aload_n 0, 1) := dk_42 (dk_at dksX3_readsChild_5 10 rfl rfl)
theorem dX3_readsChild_129 : decode cX3_readsChild 129 = .ok (.dup, 1) := dk_89 (dk_at dksX3_readsChild_5 11 rfl rfl)
theorem dX3_readsChild_130 : decode cX3_readsChild 130 = .ok (.getfield 197, 3) := dk_180 0 197 (dk_at dksX3_readsChild_5 12 rfl rfl)
theorem dX3_readsChild_133 : decode cX3_readsChild 133 = .ok (.iconst 1, 1) := dk_4 (dk_at dksX3_readsChild_5 15 rfl rfl)
theorem dX3_readsChild_134 : decode cX3_readsChild 134 = .ok (.iadd, 1) := dk_96 (dk_at dksX3_readsChild_5 16 rfl rfl)
theorem dX3_readsChild_135 : decode cX3_readsChild 135 = .ok (.putfield 197, 3) := dk_181 0 197 (dk_at dksX3_readsChild_5 17 rfl rfl)
theorem dX3_readsChild_138 : decode cX3_readsChild 138 = .ok (.iload_n 2, 1) := dk_28 (dk_at dksX3_readsChild_5 20 rfl rfl)
theorem dX3_readsChild_139 : decode cX3_readsChild 139 = .ok (.ifCond .ne 14, 3) := dk_154 0 14 (dk_at dksX3_readsChild_5 21 rfl rfl)
theorem dX3_readsChild_142 : decode cX3_readsChild 142 = .ok (.aload_n 0, 1) := dk_42 (dk_at dksX3_readsChild_6 0 rfl rfl)
theorem dX3_readsChild_143 : decode cX3_readsChild 143 = .ok (.getfield 45, 3) := dk_180 0 45 (dk_at dksX3_readsChild_6 1 rfl rfl)
theorem dX3_readsChild_146 : decode cX3_readsChild 146 = .ok (.iload_n 1, 1) := dk_27 (dk_at dksX3_readsChild_6 4 rfl rfl)
theorem dX3_readsChild_147 : decode cX3_readsChild 147 = .ok (.iconst 2, 1) := dk_5 (dk_at dksX3_readsChild_6 5 rfl rfl)
theorem dX3_readsChild_148 : decode cX3_readsChild 148 = .ok (.iadd, 1) := dk_96 (dk_at dksX3_readsChild_6 6 rfl rfl)
theorem dX3_readsChild_149 : decode cX3_readsChild 149 = .ok (.iaload, 1) := dk_46 (dk_at dksX3_readsChild_6 7 rfl rfl)
theorem dX3_readsChild_150 : decode cX3_readsChild 150 = .ok (.ifCond .lt 7, 3) := dk_155 0 7 (dk_at dksX3_readsChild_6 8 rfl rfl)
theorem dX3_readsChild_153 : decode cX3_readsChild 153 = .ok (.iconst 1, 1) := dk_4 (dk_at dksX3_readsChild_6 11 rfl rfl)
theorem dX3_readsChild_154 : decode cX3_readsChild 154 = .ok (.goto 4, 3) := dk_167 0 4 (dk_at dksX3_readsChild_6 12 rfl rfl)
theorem dX3_readsChild_157 : decode cX3_readsChild 157 = .ok (.iconst 0, 1) := dk_3 (dk_at dksX3_readsChild_6 15 rfl rfl)
theorem dX3_readsChild_158 : decode cX3_readsChild 158 = .ok (.ireturn, 1) := dk_172 (dk_at dksX3_readsChild_6 16 rfl rfl)
abbrev cX3_numberIn : ByteArray := prog_13_method_26_code
def yX3_numberIn : MethodName := ⟨RX3, "numberIn", "(III)I"⟩
def dkwX3_numberIn_1 : List UInt8 := [153, 0, 6, 21, 4, 172, 42, 89, 180, 0, 136, 4, 100, 181, 0, 136, 2, 172]
abbrev dktX3_numberIn_1 : List UInt8 := dkwX3_numberIn_1 ++ []
def dkwX3_numberIn_0 : List UInt8 := [42, 27, 182, 0, 177, 54, 4, 21, 4, 155, 0, 16, 21, 4, 133, 28, 133, 29, 133, 184, 0, 122]
abbrev dktX3_numberIn_0 : List UInt8 := dkwX3_numberIn_0 ++ dktX3_numberIn_1
theorem dksX3_numberIn_0 : cX3_numberIn.data.toList.drop 0 = dktX3_numberIn_0 := by decide +kernel
theorem dksX3_numberIn_1 : cX3_numberIn.data.toList.drop 22 = dktX3_numberIn_1 := dk_seg dksX3_numberIn_0 22 rfl rfl
theorem dX3_numberIn_0 : decode cX3_numberIn 0 = .ok (.aload_n 0, 1) := dk_42 (dk_at dksX3_numberIn_0 0 rfl rfl)
theorem dX3_numberIn_1 : decode cX3_numberIn 1 = .ok (.iload_n 1, 1) := dk_27 (dk_at dksX3_numberIn_0 1 rfl rfl)
theorem dX3_numberIn_2 : decode cX3_numberIn 2 = .ok (.invokevirtual 177, 3) := dk_182 0 177 (dk_at dksX3_numberIn_0 2 rfl rfl)
theorem dX3_numberIn_5 : decode cX3_numberIn 5 = .ok (.istore 4, 2) := dk_54 4 (dk_at dksX3_numberIn_0 5 rfl rfl)
theorem dX3_numberIn_7 : decode cX3_numberIn 7 = .ok (.iload 4, 2) := dk_21 4 (dk_at dksX3_numberIn_0 7 rfl rfl)
theorem dX3_numberIn_9 : decode cX3_numberIn 9 = .ok (.ifCond .lt 16, 3) := dk_155 0 16 (dk_at dksX3_numberIn_0 9 rfl rfl)
theorem dX3_numberIn_12 : decode cX3_numberIn 12 = .ok (.iload 4, 2) := dk_21 4 (dk_at dksX3_numberIn_0 12 rfl rfl)
theorem dX3_numberIn_14 : decode cX3_numberIn 14 = .ok (.i2l, 1) := dk_133 (dk_at dksX3_numberIn_0 14 rfl rfl)
theorem dX3_numberIn_15 : decode cX3_numberIn 15 = .ok (.iload_n 2, 1) := dk_28 (dk_at dksX3_numberIn_0 15 rfl rfl)
theorem dX3_numberIn_16 : decode cX3_numberIn 16 = .ok (.i2l, 1) := dk_133 (dk_at dksX3_numberIn_0 16 rfl rfl)
theorem dX3_numberIn_17 : decode cX3_numberIn 17 = .ok (.iload_n 3, 1) := dk_29 (dk_at dksX3_numberIn_0 17 rfl rfl)
theorem dX3_numberIn_18 : decode cX3_numberIn 18 = .ok (.i2l, 1) := dk_133 (dk_at dksX3_numberIn_0 18 rfl rfl)
theorem dX3_numberIn_19 : decode cX3_numberIn 19 = .ok (.invokestatic 122, 3) := dk_184 0 122 (dk_at dksX3_numberIn_0 19 rfl rfl)
theorem dX3_numberIn_22 : decode cX3_numberIn 22 = .ok (.ifCond .eq 6, 3) := dk_153 0 6 (dk_at dksX3_numberIn_1 0 rfl rfl)
theorem dX3_numberIn_25 : decode cX3_numberIn 25 = .ok (.iload 4, 2) := dk_21 4 (dk_at dksX3_numberIn_1 3 rfl rfl)
theorem dX3_numberIn_27 : decode cX3_numberIn 27 = .ok (.ireturn, 1) := dk_172 (dk_at dksX3_numberIn_1 5 rfl rfl)
theorem dX3_numberIn_28 : decode cX3_numberIn 28 = .ok (.aload_n 0, 1) := dk_42 (dk_at dksX3_numberIn_1 6 rfl rfl)
theorem dX3_numberIn_29 : decode cX3_numberIn 29 = .ok (.dup, 1) := dk_89 (dk_at dksX3_numberIn_1 7 rfl rfl)
theorem dX3_numberIn_30 : decode cX3_numberIn 30 = .ok (.getfield 136, 3) := dk_180 0 136 (dk_at dksX3_numberIn_1 8 rfl rfl)
theorem dX3_numberIn_33 : decode cX3_numberIn 33 = .ok (.iconst 1, 1) := dk_4 (dk_at dksX3_numberIn_1 11 rfl rfl)
theorem dX3_numberIn_34 : decode cX3_numberIn 34 = .ok (.isub, 1) := dk_100 (dk_at dksX3_numberIn_1 12 rfl rfl)
theorem dX3_numberIn_35 : decode cX3_numberIn 35 = .ok (.putfield 136, 3) := dk_181 0 136 (dk_at dksX3_numberIn_1 13 rfl rfl)
theorem dX3_numberIn_38 : decode cX3_numberIn 38 = .ok (.iconst (-1), 1) := dk_2 (dk_at dksX3_numberIn_1 16 rfl rfl)
theorem dX3_numberIn_39 : decode cX3_numberIn 39 = .ok (.ireturn, 1) := dk_172 (dk_at dksX3_numberIn_1 17 rfl rfl)
abbrev cX3_signIn : ByteArray := prog_13_method_27_code
def yX3_signIn : MethodName := ⟨RX3, "signIn", "(III)I"⟩
def dkwX3_signIn_2 : List UInt8 := [180, 0, 42, 42, 180, 0, 136, 4, 100, 46, 27, 100, 172]
abbrev dktX3_signIn_2 : List UInt8 := dkwX3_signIn_2 ++ []
def dkwX3_signIn_1 : List UInt8 := [133, 29, 133, 184, 0, 122, 154, 0, 5, 2, 172, 42, 89, 180, 0, 136, 4, 96, 181, 0, 136, 42]
abbrev dktX3_signIn_1 : List UInt8 := dkwX3_signIn_1 ++ dktX3_signIn_2
def dkwX3_signIn_0 : List UInt8 := [42, 180, 0, 136, 42, 180, 0, 148, 162, 0, 25, 42, 180, 0, 42, 42, 180, 0, 136, 46, 27, 100, 133, 28]
abbrev dktX3_signIn_0 : List UInt8 := dkwX3_signIn_0 ++ dktX3_signIn_1
theorem dksX3_signIn_0 : cX3_signIn.data.toList.drop 0 = dktX3_signIn_0 := by decide +kernel
theorem dksX3_signIn_1 : cX3_signIn.data.toList.drop 24 = dktX3_signIn_1 := dk_seg dksX3_signIn_0 24 rfl rfl
theorem dksX3_signIn_2 : cX3_signIn.data.toList.drop 46 = dktX3_signIn_2 := dk_seg dksX3_signIn_1 22 rfl rfl
theorem dX3_signIn_0 : decode cX3_signIn 0 = .ok (.aload_n 0, 1) := dk_42 (dk_at dksX3_signIn_0 0 rfl rfl)
theorem dX3_signIn_1 : decode cX3_signIn 1 = .ok (.getfield 136, 3) := dk_180 0 136 (dk_at dksX3_signIn_0 1 rfl rfl)
theorem dX3_signIn_4 : decode cX3_signIn 4 = .ok (.aload_n 0, 1) := dk_42 (dk_at dksX3_signIn_0 4 rfl rfl)
theorem dX3_signIn_5 : decode cX3_signIn 5 = .ok (.getfield 148, 3) := dk_180 0 148 (dk_at dksX3_signIn_0 5 rfl rfl)
theorem dX3_signIn_8 : decode cX3_signIn 8 = .ok (.if_icmp .ge 25, 3) := dk_162 0 25 (dk_at dksX3_signIn_0 8 rfl rfl)
theorem dX3_signIn_11 : decode cX3_signIn 11 = .ok (.aload_n 0, 1) := dk_42 (dk_at dksX3_signIn_0 11 rfl rfl)
theorem dX3_signIn_12 : decode cX3_signIn 12 = .ok (.getfield 42, 3) := dk_180 0 42 (dk_at dksX3_signIn_0 12 rfl rfl)
theorem dX3_signIn_15 : decode cX3_signIn 15 = .ok (.aload_n 0, 1) := dk_42 (dk_at dksX3_signIn_0 15 rfl rfl)
theorem dX3_signIn_16 : decode cX3_signIn 16 = .ok (.getfield 136, 3) := dk_180 0 136 (dk_at dksX3_signIn_0 16 rfl rfl)
theorem dX3_signIn_19 : decode cX3_signIn 19 = .ok (.iaload, 1) := dk_46 (dk_at dksX3_signIn_0 19 rfl rfl)
theorem dX3_signIn_20 : decode cX3_signIn 20 = .ok (.iload_n 1, 1) := dk_27 (dk_at dksX3_signIn_0 20 rfl rfl)
theorem dX3_signIn_21 : decode cX3_signIn 21 = .ok (.isub, 1) := dk_100 (dk_at dksX3_signIn_0 21 rfl rfl)
theorem dX3_signIn_22 : decode cX3_signIn 22 = .ok (.i2l, 1) := dk_133 (dk_at dksX3_signIn_0 22 rfl rfl)
theorem dX3_signIn_23 : decode cX3_signIn 23 = .ok (.iload_n 2, 1) := dk_28 (dk_at dksX3_signIn_0 23 rfl rfl)
theorem dX3_signIn_24 : decode cX3_signIn 24 = .ok (.i2l, 1) := dk_133 (dk_at dksX3_signIn_1 0 rfl rfl)
theorem dX3_signIn_25 : decode cX3_signIn 25 = .ok (.iload_n 3, 1) := dk_29 (dk_at dksX3_signIn_1 1 rfl rfl)
theorem dX3_signIn_26 : decode cX3_signIn 26 = .ok (.i2l, 1) := dk_133 (dk_at dksX3_signIn_1 2 rfl rfl)
theorem dX3_signIn_27 : decode cX3_signIn 27 = .ok (.invokestatic 122, 3) := dk_184 0 122 (dk_at dksX3_signIn_1 3 rfl rfl)
theorem dX3_signIn_30 : decode cX3_signIn 30 = .ok (.ifCond .ne 5, 3) := dk_154 0 5 (dk_at dksX3_signIn_1 6 rfl rfl)
theorem dX3_signIn_33 : decode cX3_signIn 33 = .ok (.iconst (-1), 1) := dk_2 (dk_at dksX3_signIn_1 9 rfl rfl)
theorem dX3_signIn_34 : decode cX3_signIn 34 = .ok (.ireturn, 1) := dk_172 (dk_at dksX3_signIn_1 10 rfl rfl)
theorem dX3_signIn_35 : decode cX3_signIn 35 = .ok (.aload_n 0, 1) := dk_42 (dk_at dksX3_signIn_1 11 rfl rfl)
theorem dX3_signIn_36 : decode cX3_signIn 36 = .ok (.dup, 1) := dk_89 (dk_at dksX3_signIn_1 12 rfl rfl)
theorem dX3_signIn_37 : decode cX3_signIn 37 = .ok (.getfield 136, 3) := dk_180 0 136 (dk_at dksX3_signIn_1 13 rfl rfl)
theorem dX3_signIn_40 : decode cX3_signIn 40 = .ok (.iconst 1, 1) := dk_4 (dk_at dksX3_signIn_1 16 rfl rfl)
theorem dX3_signIn_41 : decode cX3_signIn 41 = .ok (.iadd, 1) := dk_96 (dk_at dksX3_signIn_1 17 rfl rfl)
theorem dX3_signIn_42 : decode cX3_signIn 42 = .ok (.putfield 136, 3) := dk_181 0 136 (dk_at dksX3_signIn_1 18 rfl rfl)
theorem dX3_signIn_45 : decode cX3_signIn 45 = .ok (.aload_n 0, 1) := dk_42 (dk_at dksX3_signIn_1 21 rfl rfl)
theorem dX3_signIn_46 : decode cX3_signIn 46 = .ok (.getfield 42, 3) := dk_180 0 42 (dk_at dksX3_signIn_2 0 rfl rfl)
theorem dX3_signIn_49 : decode cX3_signIn 49 = .ok (.aload_n 0, 1) := dk_42 (dk_at dksX3_signIn_2 3 rfl rfl)
theorem dX3_signIn_50 : decode cX3_signIn 50 = .ok (.getfield 136, 3) := dk_180 0 136 (dk_at dksX3_signIn_2 4 rfl rfl)
theorem dX3_signIn_53 : decode cX3_signIn 53 = .ok (.iconst 1, 1) := dk_4 (dk_at dksX3_signIn_2 7 rfl rfl)
theorem dX3_signIn_54 : decode cX3_signIn 54 = .ok (.isub, 1) := dk_100 (dk_at dksX3_signIn_2 8 rfl rfl)
theorem dX3_signIn_55 : decode cX3_signIn 55 = .ok (.iaload, 1) := dk_46 (dk_at dksX3_signIn_2 9 rfl rfl)
theorem dX3_signIn_56 : decode cX3_signIn 56 = .ok (.iload_n 1, 1) := dk_27 (dk_at dksX3_signIn_2 10 rfl rfl)
theorem dX3_signIn_57 : decode cX3_signIn 57 = .ok (.isub, 1) := dk_100 (dk_at dksX3_signIn_2 11 rfl rfl)
theorem dX3_signIn_58 : decode cX3_signIn 58 = .ok (.ireturn, 1) := dk_172 (dk_at dksX3_signIn_2 12 rfl rfl)
abbrev cX3_faultOf : ByteArray := prog_13_method_28_code
def yX3_faultOf : MethodName := ⟨RX3, "faultOf", "(IIZ)I"⟩
def dkwX3_faultOf_2 : List UInt8 := [153, 0, 7, 3, 167, 0, 9, 2, 42, 180, 0, 136, 100, 172]
abbrev dktX3_faultOf_2 : List UInt8 := dkwX3_faultOf_2 ++ []
def dkwX3_faultOf_1 : List UInt8 := [164, 0, 20, 21, 4, 154, 0, 11, 42, 180, 0, 136, 28, 161, 0, 7, 2, 28, 100, 172, 21, 4]
abbrev dktX3_faultOf_1 : List UInt8 := dkwX3_faultOf_1 ++ dktX3_faultOf_2
def dkwX3_faultOf_0 : List UInt8 := [29, 153, 0, 18, 42, 180, 0, 136, 42, 180, 0, 148, 160, 0, 7, 4, 167, 0, 4, 3, 54, 4, 27, 28]
abbrev dktX3_faultOf_0 : List UInt8 := dkwX3_faultOf_0 ++ dktX3_faultOf_1
theorem dksX3_faultOf_0 : cX3_faultOf.data.toList.drop 0 = dktX3_faultOf_0 := by decide +kernel
theorem dksX3_faultOf_1 : cX3_faultOf.data.toList.drop 24 = dktX3_faultOf_1 := dk_seg dksX3_faultOf_0 24 rfl rfl
theorem dksX3_faultOf_2 : cX3_faultOf.data.toList.drop 46 = dktX3_faultOf_2 := dk_seg dksX3_faultOf_1 22 rfl rfl
theorem dX3_faultOf_0 : decode cX3_faultOf 0 = .ok (.iload_n 3, 1) := dk_29 (dk_at dksX3_faultOf_0 0 rfl rfl)
theorem dX3_faultOf_1 : decode cX3_faultOf 1 = .ok (.ifCond .eq 18, 3) := dk_153 0 18 (dk_at dksX3_faultOf_0 1 rfl rfl)
theorem dX3_faultOf_4 : decode cX3_faultOf 4 = .ok (.aload_n 0, 1) := dk_42 (dk_at dksX3_faultOf_0 4 rfl rfl)
theorem dX3_faultOf_5 : decode cX3_faultOf 5 = .ok (.getfield 136, 3) := dk_180 0 136 (dk_at dksX3_faultOf_0 5 rfl rfl)
theorem dX3_faultOf_8 : decode cX3_faultOf 8 = .ok (.aload_n 0, 1) := dk_42 (dk_at dksX3_faultOf_0 8 rfl rfl)
theorem dX3_faultOf_9 : decode cX3_faultOf 9 = .ok (.getfield 148, 3) := dk_180 0 148 (dk_at dksX3_faultOf_0 9 rfl rfl)
theorem dX3_faultOf_12 : decode cX3_faultOf 12 = .ok (.if_icmp .ne 7, 3) := dk_160 0 7 (dk_at dksX3_faultOf_0 12 rfl rfl)
theorem dX3_faultOf_15 : decode cX3_faultOf 15 = .ok (.iconst 1, 1) := dk_4 (dk_at dksX3_faultOf_0 15 rfl rfl)
theorem dX3_faultOf_16 : decode cX3_faultOf 16 = .ok (.goto 4, 3) := dk_167 0 4 (dk_at dksX3_faultOf_0 16 rfl rfl)
theorem dX3_faultOf_19 : decode cX3_faultOf 19 = .ok (.iconst 0, 1) := dk_3 (dk_at dksX3_faultOf_0 19 rfl rfl)
theorem dX3_faultOf_20 : decode cX3_faultOf 20 = .ok (.istore 4, 2) := dk_54 4 (dk_at dksX3_faultOf_0 20 rfl rfl)
theorem dX3_faultOf_22 : decode cX3_faultOf 22 = .ok (.iload_n 1, 1) := dk_27 (dk_at dksX3_faultOf_0 22 rfl rfl)
theorem dX3_faultOf_23 : decode cX3_faultOf 23 = .ok (.iload_n 2, 1) := dk_28 (dk_at dksX3_faultOf_0 23 rfl rfl)
theorem dX3_faultOf_24 : decode cX3_faultOf 24 = .ok (.if_icmp .le 20, 3) := dk_164 0 20 (dk_at dksX3_faultOf_1 0 rfl rfl)
theorem dX3_faultOf_27 : decode cX3_faultOf 27 = .ok (.iload 4, 2) := dk_21 4 (dk_at dksX3_faultOf_1 3 rfl rfl)
theorem dX3_faultOf_29 : decode cX3_faultOf 29 = .ok (.ifCond .ne 11, 3) := dk_154 0 11 (dk_at dksX3_faultOf_1 5 rfl rfl)
theorem dX3_faultOf_32 : decode cX3_faultOf 32 = .ok (.aload_n 0, 1) := dk_42 (dk_at dksX3_faultOf_1 8 rfl rfl)
theorem dX3_faultOf_33 : decode cX3_faultOf 33 = .ok (.getfield 136, 3) := dk_180 0 136 (dk_at dksX3_faultOf_1 9 rfl rfl)
theorem dX3_faultOf_36 : decode cX3_faultOf 36 = .ok (.iload_n 2, 1) := dk_28 (dk_at dksX3_faultOf_1 12 rfl rfl)
theorem dX3_faultOf_37 : decode cX3_faultOf 37 = .ok (.if_icmp .lt 7, 3) := dk_161 0 7 (dk_at dksX3_faultOf_1 13 rfl rfl)
theorem dX3_faultOf_40 : decode cX3_faultOf 40 = .ok (.iconst (-1), 1) := dk_2 (dk_at dksX3_faultOf_1 16 rfl rfl)
theorem dX3_faultOf_41 : decode cX3_faultOf 41 = .ok (.iload_n 2, 1) := dk_28 (dk_at dksX3_faultOf_1 17 rfl rfl)
theorem dX3_faultOf_42 : decode cX3_faultOf 42 = .ok (.isub, 1) := dk_100 (dk_at dksX3_faultOf_1 18 rfl rfl)
theorem dX3_faultOf_43 : decode cX3_faultOf 43 = .ok (.ireturn, 1) := dk_172 (dk_at dksX3_faultOf_1 19 rfl rfl)
theorem dX3_faultOf_44 : decode cX3_faultOf 44 = .ok (.iload 4, 2) := dk_21 4 (dk_at dksX3_faultOf_1 20 rfl rfl)
theorem dX3_faultOf_46 : decode cX3_faultOf 46 = .ok (.ifCond .eq 7, 3) := dk_153 0 7 (dk_at dksX3_faultOf_2 0 rfl rfl)
theorem dX3_faultOf_49 : decode cX3_faultOf 49 = .ok (.iconst 0, 1) := dk_3 (dk_at dksX3_faultOf_2 3 rfl rfl)
theorem dX3_faultOf_50 : decode cX3_faultOf 50 = .ok (.goto 9, 3) := dk_167 0 9 (dk_at dksX3_faultOf_2 4 rfl rfl)
theorem dX3_faultOf_53 : decode cX3_faultOf 53 = .ok (.iconst (-1), 1) := dk_2 (dk_at dksX3_faultOf_2 7 rfl rfl)
theorem dX3_faultOf_54 : decode cX3_faultOf 54 = .ok (.aload_n 0, 1) := dk_42 (dk_at dksX3_faultOf_2 8 rfl rfl)
theorem dX3_faultOf_55 : decode cX3_faultOf 55 = .ok (.getfield 136, 3) := dk_180 0 136 (dk_at dksX3_faultOf_2 9 rfl rfl)
theorem dX3_faultOf_58 : decode cX3_faultOf 58 = .ok (.isub, 1) := dk_100 (dk_at dksX3_faultOf_2 12 rfl rfl)
theorem dX3_faultOf_59 : decode cX3_faultOf 59 = .ok (.ireturn, 1) := dk_172 (dk_at dksX3_faultOf_2 13 rfl rfl)
abbrev cX3_rule : ByteArray := prog_13_method_37_code
def yX3_rule : MethodName := ⟨RX3, "rule", "()I"⟩
def dkwX3_rule_1 : List UInt8 := [182, 0, 244, 27, 172]
abbrev dktX3_rule_1 : List UInt8 := dkwX3_rule_1 ++ []
def dkwX3_rule_0 : List UInt8 := [42, 3, 181, 0, 112, 42, 182, 0, 241, 60, 27, 154, 0, 15, 42, 42, 180, 0, 51, 42, 180, 0, 214]
abbrev dktX3_rule_0 : List UInt8 := dkwX3_rule_0 ++ dktX3_rule_1
theorem dksX3_rule_0 : cX3_rule.data.toList.drop 0 = dktX3_rule_0 := by decide +kernel
theorem dksX3_rule_1 : cX3_rule.data.toList.drop 23 = dktX3_rule_1 := dk_seg dksX3_rule_0 23 rfl rfl
theorem dX3_rule_0 : decode cX3_rule 0 = .ok (.aload_n 0, 1) := dk_42 (dk_at dksX3_rule_0 0 rfl rfl)
theorem dX3_rule_1 : decode cX3_rule 1 = .ok (.iconst 0, 1) := dk_3 (dk_at dksX3_rule_0 1 rfl rfl)
theorem dX3_rule_2 : decode cX3_rule 2 = .ok (.putfield 112, 3) := dk_181 0 112 (dk_at dksX3_rule_0 2 rfl rfl)
theorem dX3_rule_5 : decode cX3_rule 5 = .ok (.aload_n 0, 1) := dk_42 (dk_at dksX3_rule_0 5 rfl rfl)
theorem dX3_rule_6 : decode cX3_rule 6 = .ok (.invokevirtual 241, 3) := dk_182 0 241 (dk_at dksX3_rule_0 6 rfl rfl)
theorem dX3_rule_9 : decode cX3_rule 9 = .ok (.istore_n 1, 1) := dk_60 (dk_at dksX3_rule_0 9 rfl rfl)
theorem dX3_rule_10 : decode cX3_rule 10 = .ok (.iload_n 1, 1) := dk_27 (dk_at dksX3_rule_0 10 rfl rfl)
theorem dX3_rule_11 : decode cX3_rule 11 = .ok (.ifCond .ne 15, 3) := dk_154 0 15 (dk_at dksX3_rule_0 11 rfl rfl)
theorem dX3_rule_14 : decode cX3_rule 14 = .ok (.aload_n 0, 1) := dk_42 (dk_at dksX3_rule_0 14 rfl rfl)
theorem dX3_rule_15 : decode cX3_rule 15 = .ok (.aload_n 0, 1) := dk_42 (dk_at dksX3_rule_0 15 rfl rfl)
theorem dX3_rule_16 : decode cX3_rule 16 = .ok (.getfield 51, 3) := dk_180 0 51 (dk_at dksX3_rule_0 16 rfl rfl)
theorem dX3_rule_19 : decode cX3_rule 19 = .ok (.aload_n 0, 1) := dk_42 (dk_at dksX3_rule_0 19 rfl rfl)
theorem dX3_rule_20 : decode cX3_rule 20 = .ok (.getfield 214, 3) := dk_180 0 214 (dk_at dksX3_rule_0 20 rfl rfl)
theorem dX3_rule_23 : decode cX3_rule 23 = .ok (.invokevirtual 244, 3) := dk_182 0 244 (dk_at dksX3_rule_1 0 rfl rfl)
theorem dX3_rule_26 : decode cX3_rule 26 = .ok (.iload_n 1, 1) := dk_27 (dk_at dksX3_rule_1 3 rfl rfl)
theorem dX3_rule_27 : decode cX3_rule 27 = .ok (.ireturn, 1) := dk_172 (dk_at dksX3_rule_1 4 rfl rfl)
abbrev cX3_readsRule : ByteArray := prog_13_method_35_code
def yX3_readsRule : MethodName := ⟨RX3, "readsRule", "()I"⟩
def dkwX3_readsRule_1 : List UInt8 := [4, 167, 0, 4, 3, 61, 42, 27, 16, 40, 28, 182, 0, 210, 172]
abbrev dktX3_readsRule_1 : List UInt8 := dkwX3_readsRule_1 ++ []
def dkwX3_readsRule_0 : List UInt8 := [42, 16, 40, 182, 0, 181, 60, 42, 3, 181, 0, 214, 27, 153, 0, 11, 42, 3, 182, 0, 229, 153, 0, 7]
abbrev dktX3_readsRule_0 : List UInt8 := dkwX3_readsRule_0 ++ dktX3_readsRule_1
theorem dksX3_readsRule_0 : cX3_readsRule.data.toList.drop 0 = dktX3_readsRule_0 := by decide +kernel
theorem dksX3_readsRule_1 : cX3_readsRule.data.toList.drop 24 = dktX3_readsRule_1 := dk_seg dksX3_readsRule_0 24 rfl rfl
theorem dX3_readsRule_0 : decode cX3_readsRule 0 = .ok (.aload_n 0, 1) := dk_42 (dk_at dksX3_readsRule_0 0 rfl rfl)
theorem dX3_readsRule_1 : decode cX3_readsRule 1 = .ok (.bipush 40, 2) := dk_16 40 (dk_at dksX3_readsRule_0 1 rfl rfl)
theorem dX3_readsRule_3 : decode cX3_readsRule 3 = .ok (.invokevirtual 181, 3) := dk_182 0 181 (dk_at dksX3_readsRule_0 3 rfl rfl)
theorem dX3_readsRule_6 : decode cX3_readsRule 6 = .ok (.istore_n 1, 1) := dk_60 (dk_at dksX3_readsRule_0 6 rfl rfl)
theorem dX3_readsRule_7 : decode cX3_readsRule 7 = .ok (.aload_n 0, 1) := dk_42 (dk_at dksX3_readsRule_0 7 rfl rfl)
theorem dX3_readsRule_8 : decode cX3_readsRule 8 = .ok (.iconst 0, 1) := dk_3 (dk_at dksX3_readsRule_0 8 rfl rfl)
theorem dX3_readsRule_9 : decode cX3_readsRule 9 = .ok (.putfield 214, 3) := dk_181 0 214 (dk_at dksX3_readsRule_0 9 rfl rfl)
theorem dX3_readsRule_12 : decode cX3_readsRule 12 = .ok (.iload_n 1, 1) := dk_27 (dk_at dksX3_readsRule_0 12 rfl rfl)
theorem dX3_readsRule_13 : decode cX3_readsRule 13 = .ok (.ifCond .eq 11, 3) := dk_153 0 11 (dk_at dksX3_readsRule_0 13 rfl rfl)
theorem dX3_readsRule_16 : decode cX3_readsRule 16 = .ok (.aload_n 0, 1) := dk_42 (dk_at dksX3_readsRule_0 16 rfl rfl)
theorem dX3_readsRule_17 : decode cX3_readsRule 17 = .ok (.iconst 0, 1) := dk_3 (dk_at dksX3_readsRule_0 17 rfl rfl)
theorem dX3_readsRule_18 : decode cX3_readsRule 18 = .ok (.invokevirtual 229, 3) := dk_182 0 229 (dk_at dksX3_readsRule_0 18 rfl rfl)
theorem dX3_readsRule_21 : decode cX3_readsRule 21 = .ok (.ifCond .eq 7, 3) := dk_153 0 7 (dk_at dksX3_readsRule_0 21 rfl rfl)
theorem dX3_readsRule_24 : decode cX3_readsRule 24 = .ok (.iconst 1, 1) := dk_4 (dk_at dksX3_readsRule_1 0 rfl rfl)
theorem dX3_readsRule_25 : decode cX3_readsRule 25 = .ok (.goto 4, 3) := dk_167 0 4 (dk_at dksX3_readsRule_1 1 rfl rfl)
theorem dX3_readsRule_28 : decode cX3_readsRule 28 = .ok (.iconst 0, 1) := dk_3 (dk_at dksX3_readsRule_1 4 rfl rfl)
theorem dX3_readsRule_29 : decode cX3_readsRule 29 = .ok (.istore_n 2, 1) := dk_61 (dk_at dksX3_readsRule_1 5 rfl rfl)
theorem dX3_readsRule_30 : decode cX3_readsRule 30 = .ok (.aload_n 0, 1) := dk_42 (dk_at dksX3_readsRule_1 6 rfl rfl)
theorem dX3_readsRule_31 : decode cX3_readsRule 31 = .ok (.iload_n 1, 1) := dk_27 (dk_at dksX3_readsRule_1 7 rfl rfl)
theorem dX3_readsRule_32 : decode cX3_readsRule 32 = .ok (.bipush 40, 2) := dk_16 40 (dk_at dksX3_readsRule_1 8 rfl rfl)
theorem dX3_readsRule_34 : decode cX3_readsRule 34 = .ok (.iload_n 2, 1) := dk_28 (dk_at dksX3_readsRule_1 10 rfl rfl)
theorem dX3_readsRule_35 : decode cX3_readsRule 35 = .ok (.invokevirtual 210, 3) := dk_182 0 210 (dk_at dksX3_readsRule_1 11 rfl rfl)
theorem dX3_readsRule_38 : decode cX3_readsRule 38 = .ok (.ireturn, 1) := dk_172 (dk_at dksX3_readsRule_1 14 rfl rfl)
abbrev cX3_readsRank : ByteArray := prog_13_method_34_code
def yX3_readsRank : MethodName := ⟨RX3, "readsRank", "(I)Z"⟩
def dkwX3_readsRank_4 : List UInt8 := [96, 182, 0, 220, 27, 158, 0, 7, 4, 167, 0, 4, 3, 61, 167, 255, 170, 4, 172]
abbrev dktX3_readsRank_4 : List UInt8 := dkwX3_readsRank_4 ++ []
def dkwX3_readsRank_3 : List UInt8 := [42, 17, 7, 208, 29, 96, 27, 154, 0, 7, 3, 167, 0, 13, 27, 4, 160, 0, 7, 6, 167, 0, 4, 8]
abbrev dktX3_readsRank_3 : List UInt8 := dkwX3_readsRank_3 ++ dktX3_readsRank_4
def dkwX3_readsRank_2 : List UInt8 := [18, 236, 182, 0, 226, 62, 29, 156, 0, 5, 4, 172, 42, 27, 4, 96, 182, 0, 229, 154, 0, 5, 3, 172]
abbrev dktX3_readsRank_2 : List UInt8 := dkwX3_readsRank_2 ++ dktX3_readsRank_3
def dkwX3_readsRank_1 : List UInt8 := [28, 153, 0, 88, 42, 27, 154, 0, 8, 18, 232, 167, 0, 15, 27, 4, 160, 0, 8, 18, 234, 167, 0, 5]
abbrev dktX3_readsRank_1 : List UInt8 := dkwX3_readsRank_1 ++ dktX3_readsRank_2
def dkwX3_readsRank_0 : List UInt8 := [27, 6, 160, 0, 8, 42, 182, 0, 217, 172, 42, 27, 4, 96, 182, 0, 229, 154, 0, 5, 3, 172, 4, 61]
abbrev dktX3_readsRank_0 : List UInt8 := dkwX3_readsRank_0 ++ dktX3_readsRank_1
theorem dksX3_readsRank_0 : cX3_readsRank.data.toList.drop 0 = dktX3_readsRank_0 := by decide +kernel
theorem dksX3_readsRank_1 : cX3_readsRank.data.toList.drop 24 = dktX3_readsRank_1 := dk_seg dksX3_readsRank_0 24 rfl rfl
theorem dksX3_readsRank_2 : cX3_readsRank.data.toList.drop 48 = dktX3_readsRank_2 := dk_seg dksX3_readsRank_1 24 rfl rfl
theorem dksX3_readsRank_3 : cX3_readsRank.data.toList.drop 72 = dktX3_readsRank_3 := dk_seg dksX3_readsRank_2 24 rfl rfl
theorem dksX3_readsRank_4 : cX3_readsRank.data.toList.drop 96 = dktX3_readsRank_4 := dk_seg dksX3_readsRank_3 24 rfl rfl
theorem dX3_readsRank_0 : decode cX3_readsRank 0 = .ok (.iload_n 1, 1) := dk_27 (dk_at dksX3_readsRank_0 0 rfl rfl)
theorem dX3_readsRank_1 : decode cX3_readsRank 1 = .ok (.iconst 3, 1) := dk_6 (dk_at dksX3_readsRank_0 1 rfl rfl)
theorem dX3_readsRank_2 : decode cX3_readsRank 2 = .ok (.if_icmp .ne 8, 3) := dk_160 0 8 (dk_at dksX3_readsRank_0 2 rfl rfl)
theorem dX3_readsRank_5 : decode cX3_readsRank 5 = .ok (.aload_n 0, 1) := dk_42 (dk_at dksX3_readsRank_0 5 rfl rfl)
theorem dX3_readsRank_6 : decode cX3_readsRank 6 = .ok (.invokevirtual 217, 3) := dk_182 0 217 (dk_at dksX3_readsRank_0 6 rfl rfl)
theorem dX3_readsRank_9 : decode cX3_readsRank 9 = .ok (.ireturn, 1) := dk_172 (dk_at dksX3_readsRank_0 9 rfl rfl)
theorem dX3_readsRank_10 : decode cX3_readsRank 10 = .ok (.aload_n 0, 1) := dk_42 (dk_at dksX3_readsRank_0 10 rfl rfl)
theorem dX3_readsRank_11 : decode cX3_readsRank 11 = .ok (.iload_n 1, 1) := dk_27 (dk_at dksX3_readsRank_0 11 rfl rfl)
theorem dX3_readsRank_12 : decode cX3_readsRank 12 = .ok (.iconst 1, 1) := dk_4 (dk_at dksX3_readsRank_0 12 rfl rfl)
theorem dX3_readsRank_13 : decode cX3_readsRank 13 = .ok (.iadd, 1) := dk_96 (dk_at dksX3_readsRank_0 13 rfl rfl)
theorem dX3_readsRank_14 : decode cX3_readsRank 14 = .ok (.invokevirtual 229, 3) := dk_182 0 229 (dk_at dksX3_readsRank_0 14 rfl rfl)
theorem dX3_readsRank_17 : decode cX3_readsRank 17 = .ok (.ifCond .ne 5, 3) := dk_154 0 5 (dk_at dksX3_readsRank_0 17 rfl rfl)
theorem dX3_readsRank_20 : decode cX3_readsRank 20 = .ok (.iconst 0, 1) := dk_3 (dk_at dksX3_readsRank_0 20 rfl rfl)
theorem dX3_readsRank_21 : decode cX3_readsRank 21 = .ok (.ireturn, 1) := dk_172 (dk_at dksX3_readsRank_0 21 rfl rfl)
theorem dX3_readsRank_22 : decode cX3_readsRank 22 = .ok (.iconst 1, 1) := dk_4 (dk_at dksX3_readsRank_0 22 rfl rfl)
theorem dX3_readsRank_23 : decode cX3_readsRank 23 = .ok (.istore_n 2, 1) := dk_61 (dk_at dksX3_readsRank_0 23 rfl rfl)
theorem dX3_readsRank_24 : decode cX3_readsRank 24 = .ok (.iload_n 2, 1) := dk_28 (dk_at dksX3_readsRank_1 0 rfl rfl)
theorem dX3_readsRank_25 : decode cX3_readsRank 25 = .ok (.ifCond .eq 88, 3) := dk_153 0 88 (dk_at dksX3_readsRank_1 1 rfl rfl)
theorem dX3_readsRank_28 : decode cX3_readsRank 28 = .ok (.aload_n 0, 1) := dk_42 (dk_at dksX3_readsRank_1 4 rfl rfl)
theorem dX3_readsRank_29 : decode cX3_readsRank 29 = .ok (.iload_n 1, 1) := dk_27 (dk_at dksX3_readsRank_1 5 rfl rfl)
theorem dX3_readsRank_30 : decode cX3_readsRank 30 = .ok (.ifCond .ne 8, 3) := dk_154 0 8 (dk_at dksX3_readsRank_1 6 rfl rfl)
theorem dX3_readsRank_33 : decode cX3_readsRank 33 = .ok (.ldc 232, 2) := dk_18 232 (dk_at dksX3_readsRank_1 9 rfl rfl)
theorem dX3_readsRank_35 : decode cX3_readsRank 35 = .ok (.goto 15, 3) := dk_167 0 15 (dk_at dksX3_readsRank_1 11 rfl rfl)
theorem dX3_readsRank_38 : decode cX3_readsRank 38 = .ok (.iload_n 1, 1) := dk_27 (dk_at dksX3_readsRank_1 14 rfl rfl)
theorem dX3_readsRank_39 : decode cX3_readsRank 39 = .ok (.iconst 1, 1) := dk_4 (dk_at dksX3_readsRank_1 15 rfl rfl)
theorem dX3_readsRank_40 : decode cX3_readsRank 40 = .ok (.if_icmp .ne 8, 3) := dk_160 0 8 (dk_at dksX3_readsRank_1 16 rfl rfl)
theorem dX3_readsRank_43 : decode cX3_readsRank 43 = .ok (.ldc 234, 2) := dk_18 234 (dk_at dksX3_readsRank_1 19 rfl rfl)
theorem dX3_readsRank_45 : decode cX3_readsRank 45 = .ok (.goto 5, 3) := dk_167 0 5 (dk_at dksX3_readsRank_1 21 rfl rfl)
theorem dX3_readsRank_48 : decode cX3_readsRank 48 = .ok (.ldc 236, 2) := dk_18 236 (dk_at dksX3_readsRank_2 0 rfl rfl)
theorem dX3_readsRank_50 : decode cX3_readsRank 50 = .ok (.invokevirtual 226, 3) := dk_182 0 226 (dk_at dksX3_readsRank_2 2 rfl rfl)
theorem dX3_readsRank_53 : decode cX3_readsRank 53 = .ok (.istore_n 3, 1) := dk_62 (dk_at dksX3_readsRank_2 5 rfl rfl)
theorem dX3_readsRank_54 : decode cX3_readsRank 54 = .ok (.iload_n 3, 1) := dk_29 (dk_at dksX3_readsRank_2 6 rfl rfl)
theorem dX3_readsRank_55 : decode cX3_readsRank 55 = .ok (.ifCond .ge 5, 3) := dk_156 0 5 (dk_at dksX3_readsRank_2 7 rfl rfl)
theorem dX3_readsRank_58 : decode cX3_readsRank 58 = .ok (.iconst 1, 1) := dk_4 (dk_at dksX3_readsRank_2 10 rfl rfl)
theorem dX3_readsRank_59 : decode cX3_readsRank 59 = .ok (.ireturn, 1) := dk_172 (dk_at dksX3_readsRank_2 11 rfl rfl)
theorem dX3_readsRank_60 : decode cX3_readsRank 60 = .ok (.aload_n 0, 1) := dk_42 (dk_at dksX3_readsRank_2 12 rfl rfl)
theorem dX3_readsRank_61 : decode cX3_readsRank 61 = .ok (.iload_n 1, 1) := dk_27 (dk_at dksX3_readsRank_2 13 rfl rfl)
theorem dX3_readsRank_62 : decode cX3_readsRank 62 = .ok (.iconst 1, 1) := dk_4 (dk_at dksX3_readsRank_2 14 rfl rfl)
theorem dX3_readsRank_63 : decode cX3_readsRank 63 = .ok (.iadd, 1) := dk_96 (dk_at dksX3_readsRank_2 15 rfl rfl)
theorem dX3_readsRank_64 : decode cX3_readsRank 64 = .ok (.invokevirtual 229, 3) := dk_182 0 229 (dk_at dksX3_readsRank_2 16 rfl rfl)
theorem dX3_readsRank_67 : decode cX3_readsRank 67 = .ok (.ifCond .ne 5, 3) := dk_154 0 5 (dk_at dksX3_readsRank_2 19 rfl rfl)
theorem dX3_readsRank_70 : decode cX3_readsRank 70 = .ok (.iconst 0, 1) := dk_3 (dk_at dksX3_readsRank_2 22 rfl rfl)
theorem dX3_readsRank_71 : decode cX3_readsRank 71 = .ok (.ireturn, 1) := dk_172 (dk_at dksX3_readsRank_2 23 rfl rfl)
theorem dX3_readsRank_72 : decode cX3_readsRank 72 = .ok (.aload_n 0, 1) := dk_42 (dk_at dksX3_readsRank_3 0 rfl rfl)
theorem dX3_readsRank_73 : decode cX3_readsRank 73 = .ok (.sipush 2000, 3) := dk_17 7 208 (dk_at dksX3_readsRank_3 1 rfl rfl)
theorem dX3_readsRank_76 : decode cX3_readsRank 76 = .ok (.iload_n 3, 1) := dk_29 (dk_at dksX3_readsRank_3 4 rfl rfl)
theorem dX3_readsRank_77 : decode cX3_readsRank 77 = .ok (.iadd, 1) := dk_96 (dk_at dksX3_readsRank_3 5 rfl rfl)
theorem dX3_readsRank_78 : decode cX3_readsRank 78 = .ok (.iload_n 1, 1) := dk_27 (dk_at dksX3_readsRank_3 6 rfl rfl)
theorem dX3_readsRank_79 : decode cX3_readsRank 79 = .ok (.ifCond .ne 7, 3) := dk_154 0 7 (dk_at dksX3_readsRank_3 7 rfl rfl)
theorem dX3_readsRank_82 : decode cX3_readsRank 82 = .ok (.iconst 0, 1) := dk_3 (dk_at dksX3_readsRank_3 10 rfl rfl)
theorem dX3_readsRank_83 : decode cX3_readsRank 83 = .ok (.goto 13, 3) := dk_167 0 13 (dk_at dksX3_readsRank_3 11 rfl rfl)
theorem dX3_readsRank_86 : decode cX3_readsRank 86 = .ok (.iload_n 1, 1) := dk_27 (dk_at dksX3_readsRank_3 14 rfl rfl)
theorem dX3_readsRank_87 : decode cX3_readsRank 87 = .ok (.iconst 1, 1) := dk_4 (dk_at dksX3_readsRank_3 15 rfl rfl)
theorem dX3_readsRank_88 : decode cX3_readsRank 88 = .ok (.if_icmp .ne 7, 3) := dk_160 0 7 (dk_at dksX3_readsRank_3 16 rfl rfl)
theorem dX3_readsRank_91 : decode cX3_readsRank 91 = .ok (.iconst 3, 1) := dk_6 (dk_at dksX3_readsRank_3 19 rfl rfl)
theorem dX3_readsRank_92 : decode cX3_readsRank 92 = .ok (.goto 4, 3) := dk_167 0 4 (dk_at dksX3_readsRank_3 20 rfl rfl)
theorem dX3_readsRank_95 : decode cX3_readsRank 95 = .ok (.iconst 5, 1) := dk_8 (dk_at dksX3_readsRank_3 23 rfl rfl)
theorem dX3_readsRank_96 : decode cX3_readsRank 96 = .ok (.iadd, 1) := dk_96 (dk_at dksX3_readsRank_4 0 rfl rfl)
theorem dX3_readsRank_97 : decode cX3_readsRank 97 = .ok (.invokevirtual 220, 3) := dk_182 0 220 (dk_at dksX3_readsRank_4 1 rfl rfl)
theorem dX3_readsRank_100 : decode cX3_readsRank 100 = .ok (.iload_n 1, 1) := dk_27 (dk_at dksX3_readsRank_4 4 rfl rfl)
theorem dX3_readsRank_101 : decode cX3_readsRank 101 = .ok (.ifCond .le 7, 3) := dk_158 0 7 (dk_at dksX3_readsRank_4 5 rfl rfl)
theorem dX3_readsRank_104 : decode cX3_readsRank 104 = .ok (.iconst 1, 1) := dk_4 (dk_at dksX3_readsRank_4 8 rfl rfl)
theorem dX3_readsRank_105 : decode cX3_readsRank 105 = .ok (.goto 4, 3) := dk_167 0 4 (dk_at dksX3_readsRank_4 9 rfl rfl)
theorem dX3_readsRank_108 : decode cX3_readsRank 108 = .ok (.iconst 0, 1) := dk_3 (dk_at dksX3_readsRank_4 12 rfl rfl)
theorem dX3_readsRank_109 : decode cX3_readsRank 109 = .ok (.istore_n 2, 1) := dk_61 (dk_at dksX3_readsRank_4 13 rfl rfl)
theorem dX3_readsRank_110 : decode cX3_readsRank 110 = .ok (.goto (-86), 3) := dk_167 255 170 (dk_at dksX3_readsRank_4 14 rfl rfl)
theorem dX3_readsRank_113 : decode cX3_readsRank 113 = .ok (.iconst 1, 1) := dk_4 (dk_at dksX3_readsRank_4 17 rfl rfl)
theorem dX3_readsRank_114 : decode cX3_readsRank 114 = .ok (.ireturn, 1) := dk_172 (dk_at dksX3_readsRank_4 18 rfl rfl)
abbrev cX3_readsThing : ByteArray := prog_13_method_33_code
def yX3_readsThing : MethodName := ⟨RX3, "readsThing", "()Z"⟩
def dkwX3_readsThing_5 : List UInt8 := [181, 0, 139, 4, 172]
abbrev dktX3_readsThing_5 : List UInt8 := dkwX3_readsThing_5 ++ []
def dkwX3_readsThing_4 : List UInt8 := [182, 0, 229, 153, 0, 12, 42, 16, 41, 182, 0, 184, 154, 0, 5, 3, 172, 42, 89, 180, 0, 139, 4, 100]
abbrev dktX3_readsThing_4 : List UInt8 := dkwX3_readsThing_4 ++ dktX3_readsThing_5
def dkwX3_readsThing_3 : List UInt8 := [16, 40, 182, 0, 184, 154, 0, 5, 3, 172, 42, 89, 180, 0, 139, 4, 96, 181, 0, 139, 42, 3]
abbrev dktX3_readsThing_3 : List UInt8 := dkwX3_readsThing_3 ++ dktX3_readsThing_4
def dkwX3_readsThing_2 : List UInt8 := [27, 155, 0, 14, 42, 17, 3, 232, 27, 96, 182, 0, 220, 4, 172, 42, 180, 0, 139, 7, 159, 0, 12, 42]
abbrev dktX3_readsThing_2 : List UInt8 := dkwX3_readsThing_2 ++ dktX3_readsThing_3
def dkwX3_readsThing_1 : List UInt8 := [182, 0, 173, 153, 0, 14, 42, 42, 6, 182, 0, 177, 182, 0, 220, 4, 172, 42, 18, 224, 182, 0, 226, 60]
abbrev dktX3_readsThing_1 : List UInt8 := dkwX3_readsThing_1 ++ dktX3_readsThing_2
def dkwX3_readsThing_0 : List UInt8 := [42, 16, 45, 182, 0, 184, 153, 0, 17, 42, 182, 0, 217, 60, 42, 17, 11, 184, 182, 0, 220, 27, 172, 42]
abbrev dktX3_readsThing_0 : List UInt8 := dkwX3_readsThing_0 ++ dktX3_readsThing_1
theorem dksX3_readsThing_0 : cX3_readsThing.data.toList.drop 0 = dktX3_readsThing_0 := by decide +kernel
theorem dksX3_readsThing_1 : cX3_readsThing.data.toList.drop 24 = dktX3_readsThing_1 := dk_seg dksX3_readsThing_0 24 rfl rfl
theorem dksX3_readsThing_2 : cX3_readsThing.data.toList.drop 48 = dktX3_readsThing_2 := dk_seg dksX3_readsThing_1 24 rfl rfl
theorem dksX3_readsThing_3 : cX3_readsThing.data.toList.drop 72 = dktX3_readsThing_3 := dk_seg dksX3_readsThing_2 24 rfl rfl
theorem dksX3_readsThing_4 : cX3_readsThing.data.toList.drop 94 = dktX3_readsThing_4 := dk_seg dksX3_readsThing_3 22 rfl rfl
theorem dksX3_readsThing_5 : cX3_readsThing.data.toList.drop 118 = dktX3_readsThing_5 := dk_seg dksX3_readsThing_4 24 rfl rfl
theorem dX3_readsThing_0 : decode cX3_readsThing 0 = .ok (.aload_n 0, 1) := dk_42 (dk_at dksX3_readsThing_0 0 rfl rfl)
theorem dX3_readsThing_1 : decode cX3_readsThing 1 = .ok (.bipush 45, 2) := dk_16 45 (dk_at dksX3_readsThing_0 1 rfl rfl)
theorem dX3_readsThing_3 : decode cX3_readsThing 3 = .ok (.invokevirtual 184, 3) := dk_182 0 184 (dk_at dksX3_readsThing_0 3 rfl rfl)
theorem dX3_readsThing_6 : decode cX3_readsThing 6 = .ok (.ifCond .eq 17, 3) := dk_153 0 17 (dk_at dksX3_readsThing_0 6 rfl rfl)
theorem dX3_readsThing_9 : decode cX3_readsThing 9 = .ok (.aload_n 0, 1) := dk_42 (dk_at dksX3_readsThing_0 9 rfl rfl)
theorem dX3_readsThing_10 : decode cX3_readsThing 10 = .ok (.invokevirtual 217, 3) := dk_182 0 217 (dk_at dksX3_readsThing_0 10 rfl rfl)
theorem dX3_readsThing_13 : decode cX3_readsThing 13 = .ok (.istore_n 1, 1) := dk_60 (dk_at dksX3_readsThing_0 13 rfl rfl)
theorem dX3_readsThing_14 : decode cX3_readsThing 14 = .ok (.aload_n 0, 1) := dk_42 (dk_at dksX3_readsThing_0 14 rfl rfl)
theorem dX3_readsThing_15 : decode cX3_readsThing 15 = .ok (.sipush 3000, 3) := dk_17 11 184 (dk_at dksX3_readsThing_0 15 rfl rfl)
theorem dX3_readsThing_18 : decode cX3_readsThing 18 = .ok (.invokevirtual 220, 3) := dk_182 0 220 (dk_at dksX3_readsThing_0 18 rfl rfl)
theorem dX3_readsThing_21 : decode cX3_readsThing 21 = .ok (.iload_n 1, 1) := dk_27 (dk_at dksX3_readsThing_0 21 rfl rfl)
theorem dX3_readsThing_22 : decode cX3_readsThing 22 = .ok (.ireturn, 1) := dk_172 (dk_at dksX3_readsThing_0 22 rfl rfl)
theorem dX3_readsThing_23 : decode cX3_readsThing 23 = .ok (.aload_n 0, 1) := dk_42 (dk_at dksX3_readsThing_0 23 rfl rfl)
theorem dX3_readsThing_24 : decode cX3_readsThing 24 = .ok (.invokevirtual 173, 3) := dk_182 0 173 (dk_at dksX3_readsThing_1 0 rfl rfl)
theorem dX3_readsThing_27 : decode cX3_readsThing 27 = .ok (.ifCond .eq 14, 3) := dk_153 0 14 (dk_at dksX3_readsThing_1 3 rfl rfl)
theorem dX3_readsThing_30 : decode cX3_readsThing 30 = .ok (.aload_n 0, 1) := dk_42 (dk_at dksX3_readsThing_1 6 rfl rfl)
theorem dX3_readsThing_31 : decode cX3_readsThing 31 = .ok (.aload_n 0, 1) := dk_42 (dk_at dksX3_readsThing_1 7 rfl rfl)
theorem dX3_readsThing_32 : decode cX3_readsThing 32 = .ok (.iconst 3, 1) := dk_6 (dk_at dksX3_readsThing_1 8 rfl rfl)
theorem dX3_readsThing_33 : decode cX3_readsThing 33 = .ok (.invokevirtual 177, 3) := dk_182 0 177 (dk_at dksX3_readsThing_1 9 rfl rfl)
theorem dX3_readsThing_36 : decode cX3_readsThing 36 = .ok (.invokevirtual 220, 3) := dk_182 0 220 (dk_at dksX3_readsThing_1 12 rfl rfl)
theorem dX3_readsThing_39 : decode cX3_readsThing 39 = .ok (.iconst 1, 1) := dk_4 (dk_at dksX3_readsThing_1 15 rfl rfl)
theorem dX3_readsThing_40 : decode cX3_readsThing 40 = .ok (.ireturn, 1) := dk_172 (dk_at dksX3_readsThing_1 16 rfl rfl)
theorem dX3_readsThing_41 : decode cX3_readsThing 41 = .ok (.aload_n 0, 1) := dk_42 (dk_at dksX3_readsThing_1 17 rfl rfl)
theorem dX3_readsThing_42 : decode cX3_readsThing 42 = .ok (.ldc 224, 2) := dk_18 224 (dk_at dksX3_readsThing_1 18 rfl rfl)
theorem dX3_readsThing_44 : decode cX3_readsThing 44 = .ok (.invokevirtual 226, 3) := dk_182 0 226 (dk_at dksX3_readsThing_1 20 rfl rfl)
theorem dX3_readsThing_47 : decode cX3_readsThing 47 = .ok (.istore_n 1, 1) := dk_60 (dk_at dksX3_readsThing_1 23 rfl rfl)
theorem dX3_readsThing_48 : decode cX3_readsThing 48 = .ok (.iload_n 1, 1) := dk_27 (dk_at dksX3_readsThing_2 0 rfl rfl)
theorem dX3_readsThing_49 : decode cX3_readsThing 49 = .ok (.ifCond .lt 14, 3) := dk_155 0 14 (dk_at dksX3_readsThing_2 1 rfl rfl)
theorem dX3_readsThing_52 : decode cX3_readsThing 52 = .ok (.aload_n 0, 1) := dk_42 (dk_at dksX3_readsThing_2 4 rfl rfl)
theorem dX3_readsThing_53 : decode cX3_readsThing 53 = .ok (.sipush 1000, 3) := dk_17 3 232 (dk_at dksX3_readsThing_2 5 rfl rfl)
theorem dX3_readsThing_56 : decode cX3_readsThing 56 = .ok (.iload_n 1, 1) := dk_27 (dk_at dksX3_readsThing_2 8 rfl rfl)
theorem dX3_readsThing_57 : decode cX3_readsThing 57 = .ok (.iadd, 1) := dk_96 (dk_at dksX3_readsThing_2 9 rfl rfl)
theorem dX3_readsThing_58 : decode cX3_readsThing 58 = .ok (.invokevirtual 220, 3) := dk_182 0 220 (dk_at dksX3_readsThing_2 10 rfl rfl)
theorem dX3_readsThing_61 : decode cX3_readsThing 61 = .ok (.iconst 1, 1) := dk_4 (dk_at dksX3_readsThing_2 13 rfl rfl)
theorem dX3_readsThing_62 : decode cX3_readsThing 62 = .ok (.ireturn, 1) := dk_172 (dk_at dksX3_readsThing_2 14 rfl rfl)
theorem dX3_readsThing_63 : decode cX3_readsThing 63 = .ok (.aload_n 0, 1) := dk_42 (dk_at dksX3_readsThing_2 15 rfl rfl)
theorem dX3_readsThing_64 : decode cX3_readsThing 64 = .ok (.getfield 139, 3) := dk_180 0 139 (dk_at dksX3_readsThing_2 16 rfl rfl)
theorem dX3_readsThing_67 : decode cX3_readsThing 67 = .ok (.iconst 4, 1) := dk_7 (dk_at dksX3_readsThing_2 19 rfl rfl)
theorem dX3_readsThing_68 : decode cX3_readsThing 68 = .ok (.if_icmp .eq 12, 3) := dk_159 0 12 (dk_at dksX3_readsThing_2 20 rfl rfl)
theorem dX3_readsThing_71 : decode cX3_readsThing 71 = .ok (.aload_n 0, 1) := dk_42 (dk_at dksX3_readsThing_2 23 rfl rfl)
theorem dX3_readsThing_72 : decode cX3_readsThing 72 = .ok (.bipush 40, 2) := dk_16 40 (dk_at dksX3_readsThing_3 0 rfl rfl)
theorem dX3_readsThing_74 : decode cX3_readsThing 74 = .ok (.invokevirtual 184, 3) := dk_182 0 184 (dk_at dksX3_readsThing_3 2 rfl rfl)
theorem dX3_readsThing_77 : decode cX3_readsThing 77 = .ok (.ifCond .ne 5, 3) := dk_154 0 5 (dk_at dksX3_readsThing_3 5 rfl rfl)
theorem dX3_readsThing_80 : decode cX3_readsThing 80 = .ok (.iconst 0, 1) := dk_3 (dk_at dksX3_readsThing_3 8 rfl rfl)
theorem dX3_readsThing_81 : decode cX3_readsThing 81 = .ok (.ireturn, 1) := dk_172 (dk_at dksX3_readsThing_3 9 rfl rfl)
theorem dX3_readsThing_82 : decode cX3_readsThing 82 = .ok (.aload_n 0, 1) := dk_42 (dk_at dksX3_readsThing_3 10 rfl rfl)
theorem dX3_readsThing_83 : decode cX3_readsThing 83 = .ok (.dup, 1) := dk_89 (dk_at dksX3_readsThing_3 11 rfl rfl)
theorem dX3_readsThing_84 : decode cX3_readsThing 84 = .ok (.getfield 139, 3) := dk_180 0 139 (dk_at dksX3_readsThing_3 12 rfl rfl)
theorem dX3_readsThing_87 : decode cX3_readsThing 87 = .ok (.iconst 1, 1) := dk_4 (dk_at dksX3_readsThing_3 15 rfl rfl)
theorem dX3_readsThing_88 : decode cX3_readsThing 88 = .ok (.iadd, 1) := dk_96 (dk_at dksX3_readsThing_3 16 rfl rfl)
theorem dX3_readsThing_89 : decode cX3_readsThing 89 = .ok (.putfield 139, 3) := dk_181 0 139 (dk_at dksX3_readsThing_3 17 rfl rfl)
theorem dX3_readsThing_92 : decode cX3_readsThing 92 = .ok (.aload_n 0, 1) := dk_42 (dk_at dksX3_readsThing_3 20 rfl rfl)
theorem dX3_readsThing_93 : decode cX3_readsThing 93 = .ok (.iconst 0, 1) := dk_3 (dk_at dksX3_readsThing_3 21 rfl rfl)
theorem dX3_readsThing_94 : decode cX3_readsThing 94 = .ok (.invokevirtual 229, 3) := dk_182 0 229 (dk_at dksX3_readsThing_4 0 rfl rfl)
theorem dX3_readsThing_97 : decode cX3_readsThing 97 = .ok (.ifCond .eq 12, 3) := dk_153 0 12 (dk_at dksX3_readsThing_4 3 rfl rfl)
theorem dX3_readsThing_100 : decode cX3_readsThing 100 = .ok (.aload_n 0, 1) := dk_42 (dk_at dksX3_readsThing_4 6 rfl rfl)
theorem dX3_readsThing_101 : decode cX3_readsThing 101 = .ok (.bipush 41, 2) := dk_16 41 (dk_at dksX3_readsThing_4 7 rfl rfl)
theorem dX3_readsThing_103 : decode cX3_readsThing 103 = .ok (.invokevirtual 184, 3) := dk_182 0 184 (dk_at dksX3_readsThing_4 9 rfl rfl)
theorem dX3_readsThing_106 : decode cX3_readsThing 106 = .ok (.ifCond .ne 5, 3) := dk_154 0 5 (dk_at dksX3_readsThing_4 12 rfl rfl)
theorem dX3_readsThing_109 : decode cX3_readsThing 109 = .ok (.iconst 0, 1) := dk_3 (dk_at dksX3_readsThing_4 15 rfl rfl)
theorem dX3_readsThing_110 : decode cX3_readsThing 110 = .ok (.ireturn, 1) := dk_172 (dk_at dksX3_readsThing_4 16 rfl rfl)
theorem dX3_readsThing_111 : decode cX3_readsThing 111 = .ok (.aload_n 0, 1) := dk_42 (dk_at dksX3_readsThing_4 17 rfl rfl)
theorem dX3_readsThing_112 : decode cX3_readsThing 112 = .ok (.dup, 1) := dk_89 (dk_at dksX3_readsThing_4 18 rfl rfl)
theorem dX3_readsThing_113 : decode cX3_readsThing 113 = .ok (.getfield 139, 3) := dk_180 0 139 (dk_at dksX3_readsThing_4 19 rfl rfl)
theorem dX3_readsThing_116 : decode cX3_readsThing 116 = .ok (.iconst 1, 1) := dk_4 (dk_at dksX3_readsThing_4 22 rfl rfl)
theorem dX3_readsThing_117 : decode cX3_readsThing 117 = .ok (.isub, 1) := dk_100 (dk_at dksX3_readsThing_4 23 rfl rfl)
theorem dX3_readsThing_118 : decode cX3_readsThing 118 = .ok (.putfield 139, 3) := dk_181 0 139 (dk_at dksX3_readsThing_5 0 rfl rfl)
theorem dX3_readsThing_121 : decode cX3_readsThing 121 = .ok (.iconst 1, 1) := dk_4 (dk_at dksX3_readsThing_5 3 rfl rfl)
theorem dX3_readsThing_122 : decode cX3_readsThing 122 = .ok (.ireturn, 1) := dk_172 (dk_at dksX3_readsThing_5 4 rfl rfl)
abbrev cX3_codes : ByteArray := prog_13_method_32_code
def yX3_codes : MethodName := ⟨RX3, "codes", "(I)V"⟩
def dkwX3_codes_0 : List UInt8 := [42, 180, 0, 51, 42, 180, 0, 214, 27, 79, 42, 89, 180, 0, 214, 4, 96, 181, 0, 214, 177]
abbrev dktX3_codes_0 : List UInt8 := dkwX3_codes_0 ++ []
theorem dksX3_codes_0 : cX3_codes.data.toList.drop 0 = dktX3_codes_0 := by decide +kernel
theorem dX3_codes_0 : decode cX3_codes 0 = .ok (.aload_n 0, 1) := dk_42 (dk_at dksX3_codes_0 0 rfl rfl)
theorem dX3_codes_1 : decode cX3_codes 1 = .ok (.getfield 51, 3) := dk_180 0 51 (dk_at dksX3_codes_0 1 rfl rfl)
theorem dX3_codes_4 : decode cX3_codes 4 = .ok (.aload_n 0, 1) := dk_42 (dk_at dksX3_codes_0 4 rfl rfl)
theorem dX3_codes_5 : decode cX3_codes 5 = .ok (.getfield 214, 3) := dk_180 0 214 (dk_at dksX3_codes_0 5 rfl rfl)
theorem dX3_codes_8 : decode cX3_codes 8 = .ok (.iload_n 1, 1) := dk_27 (dk_at dksX3_codes_0 8 rfl rfl)
theorem dX3_codes_9 : decode cX3_codes 9 = .ok (.iastore, 1) := dk_79 (dk_at dksX3_codes_0 9 rfl rfl)
theorem dX3_codes_10 : decode cX3_codes 10 = .ok (.aload_n 0, 1) := dk_42 (dk_at dksX3_codes_0 10 rfl rfl)
theorem dX3_codes_11 : decode cX3_codes 11 = .ok (.dup, 1) := dk_89 (dk_at dksX3_codes_0 11 rfl rfl)
theorem dX3_codes_12 : decode cX3_codes 12 = .ok (.getfield 214, 3) := dk_180 0 214 (dk_at dksX3_codes_0 12 rfl rfl)
theorem dX3_codes_15 : decode cX3_codes 15 = .ok (.iconst 1, 1) := dk_4 (dk_at dksX3_codes_0 15 rfl rfl)
theorem dX3_codes_16 : decode cX3_codes 16 = .ok (.iadd, 1) := dk_96 (dk_at dksX3_codes_0 16 rfl rfl)
theorem dX3_codes_17 : decode cX3_codes 17 = .ok (.putfield 214, 3) := dk_181 0 214 (dk_at dksX3_codes_0 17 rfl rfl)
theorem dX3_codes_20 : decode cX3_codes 20 = .ok (.return_, 1) := dk_177 (dk_at dksX3_codes_0 20 rfl rfl)
abbrev cX3_takesOf : ByteArray := prog_13_method_24_code
def yX3_takesOf : MethodName := ⟨RX3, "takesOf", "(Ljava/lang/String;)I"⟩
def dkwX3_takesOf_1 : List UInt8 := [181, 0, 136, 28, 172]
abbrev dktX3_takesOf_1 : List UInt8 := dkwX3_takesOf_1 ++ []
def dkwX3_takesOf_0 : List UInt8 := [42, 43, 182, 0, 169, 61, 42, 89, 180, 0, 136, 28, 155, 0, 7, 4, 167, 0, 4, 3, 184, 0, 151, 96]
abbrev dktX3_takesOf_0 : List UInt8 := dkwX3_takesOf_0 ++ dktX3_takesOf_1
theorem dksX3_takesOf_0 : cX3_takesOf.data.toList.drop 0 = dktX3_takesOf_0 := by decide +kernel
theorem dksX3_takesOf_1 : cX3_takesOf.data.toList.drop 24 = dktX3_takesOf_1 := dk_seg dksX3_takesOf_0 24 rfl rfl
theorem dX3_takesOf_0 : decode cX3_takesOf 0 = .ok (.aload_n 0, 1) := dk_42 (dk_at dksX3_takesOf_0 0 rfl rfl)
theorem dX3_takesOf_1 : decode cX3_takesOf 1 = .ok (.aload_n 1, 1) := dk_43 (dk_at dksX3_takesOf_0 1 rfl rfl)
theorem dX3_takesOf_2 : decode cX3_takesOf 2 = .ok (.invokevirtual 169, 3) := dk_182 0 169 (dk_at dksX3_takesOf_0 2 rfl rfl)
theorem dX3_takesOf_5 : decode cX3_takesOf 5 = .ok (.istore_n 2, 1) := dk_61 (dk_at dksX3_takesOf_0 5 rfl rfl)
theorem dX3_takesOf_6 : decode cX3_takesOf 6 = .ok (.aload_n 0, 1) := dk_42 (dk_at dksX3_takesOf_0 6 rfl rfl)
theorem dX3_takesOf_7 : decode cX3_takesOf 7 = .ok (.dup, 1) := dk_89 (dk_at dksX3_takesOf_0 7 rfl rfl)
theorem dX3_takesOf_8 : decode cX3_takesOf 8 = .ok (.getfield 136, 3) := dk_180 0 136 (dk_at dksX3_takesOf_0 8 rfl rfl)
theorem dX3_takesOf_11 : decode cX3_takesOf 11 = .ok (.iload_n 2, 1) := dk_28 (dk_at dksX3_takesOf_0 11 rfl rfl)
theorem dX3_takesOf_12 : decode cX3_takesOf 12 = .ok (.ifCond .lt 7, 3) := dk_155 0 7 (dk_at dksX3_takesOf_0 12 rfl rfl)
theorem dX3_takesOf_15 : decode cX3_takesOf 15 = .ok (.iconst 1, 1) := dk_4 (dk_at dksX3_takesOf_0 15 rfl rfl)
theorem dX3_takesOf_16 : decode cX3_takesOf 16 = .ok (.goto 4, 3) := dk_167 0 4 (dk_at dksX3_takesOf_0 16 rfl rfl)
theorem dX3_takesOf_19 : decode cX3_takesOf 19 = .ok (.iconst 0, 1) := dk_3 (dk_at dksX3_takesOf_0 19 rfl rfl)
theorem dX3_takesOf_20 : decode cX3_takesOf 20 = .ok (.invokestatic 151, 3) := dk_184 0 151 (dk_at dksX3_takesOf_0 20 rfl rfl)
theorem dX3_takesOf_23 : decode cX3_takesOf 23 = .ok (.iadd, 1) := dk_96 (dk_at dksX3_takesOf_0 23 rfl rfl)
theorem dX3_takesOf_24 : decode cX3_takesOf 24 = .ok (.putfield 136, 3) := dk_181 0 136 (dk_at dksX3_takesOf_1 0 rfl rfl)
theorem dX3_takesOf_27 : decode cX3_takesOf 27 = .ok (.iload_n 2, 1) := dk_28 (dk_at dksX3_takesOf_1 3 rfl rfl)
theorem dX3_takesOf_28 : decode cX3_takesOf 28 = .ok (.ireturn, 1) := dk_172 (dk_at dksX3_takesOf_1 4 rfl rfl)
abbrev cX3_among : ByteArray := prog_13_method_23_code
def yX3_among : MethodName := ⟨RX3, "among", "(Ljava/lang/String;)I"⟩
def dkwX3_among_2 : List UInt8 := [172]
abbrev dktX3_among_2 : List UInt8 := dkwX3_among_2 ++ []
def dkwX3_among_1 : List UInt8 := [182, 0, 165, 42, 180, 0, 42, 42, 180, 0, 136, 46, 160, 0, 5, 28, 172, 132, 2, 1, 167, 255, 215, 2]
abbrev dktX3_among_1 : List UInt8 := dkwX3_among_1 ++ dktX3_among_2
def dkwX3_among_0 : List UInt8 := [3, 61, 28, 43, 182, 0, 159, 162, 0, 39, 42, 180, 0, 136, 42, 180, 0, 148, 162, 0, 28, 43, 28]
abbrev dktX3_among_0 : List UInt8 := dkwX3_among_0 ++ dktX3_among_1
theorem dksX3_among_0 : cX3_among.data.toList.drop 0 = dktX3_among_0 := by decide +kernel
theorem dksX3_among_1 : cX3_among.data.toList.drop 23 = dktX3_among_1 := dk_seg dksX3_among_0 23 rfl rfl
theorem dksX3_among_2 : cX3_among.data.toList.drop 47 = dktX3_among_2 := dk_seg dksX3_among_1 24 rfl rfl
theorem dX3_among_0 : decode cX3_among 0 = .ok (.iconst 0, 1) := dk_3 (dk_at dksX3_among_0 0 rfl rfl)
theorem dX3_among_1 : decode cX3_among 1 = .ok (.istore_n 2, 1) := dk_61 (dk_at dksX3_among_0 1 rfl rfl)
theorem dX3_among_2 : decode cX3_among 2 = .ok (.iload_n 2, 1) := dk_28 (dk_at dksX3_among_0 2 rfl rfl)
theorem dX3_among_3 : decode cX3_among 3 = .ok (.aload_n 1, 1) := dk_43 (dk_at dksX3_among_0 3 rfl rfl)
theorem dX3_among_4 : decode cX3_among 4 = .ok (.invokevirtual 159, 3) := dk_182 0 159 (dk_at dksX3_among_0 4 rfl rfl)
theorem dX3_among_7 : decode cX3_among 7 = .ok (.if_icmp .ge 39, 3) := dk_162 0 39 (dk_at dksX3_among_0 7 rfl rfl)
theorem dX3_among_10 : decode cX3_among 10 = .ok (.aload_n 0, 1) := dk_42 (dk_at dksX3_among_0 10 rfl rfl)
theorem dX3_among_11 : decode cX3_among 11 = .ok (.getfield 136, 3) := dk_180 0 136 (dk_at dksX3_among_0 11 rfl rfl)
theorem dX3_among_14 : decode cX3_among 14 = .ok (.aload_n 0, 1) := dk_42 (dk_at dksX3_among_0 14 rfl rfl)
theorem dX3_among_15 : decode cX3_among 15 = .ok (.getfield 148, 3) := dk_180 0 148 (dk_at dksX3_among_0 15 rfl rfl)
theorem dX3_among_18 : decode cX3_among 18 = .ok (.if_icmp .ge 28, 3) := dk_162 0 28 (dk_at dksX3_among_0 18 rfl rfl)
theorem dX3_among_21 : decode cX3_among 21 = .ok (.aload_n 1, 1) := dk_43 (dk_at dksX3_among_0 21 rfl rfl)
theorem dX3_among_22 : decode cX3_among 22 = .ok (.iload_n 2, 1) := dk_28 (dk_at dksX3_among_0 22 rfl rfl)
theorem dX3_among_23 : decode cX3_among 23 = .ok (.invokevirtual 165, 3) := dk_182 0 165 (dk_at dksX3_among_1 0 rfl rfl)
theorem dX3_among_26 : decode cX3_among 26 = .ok (.aload_n 0, 1) := dk_42 (dk_at dksX3_among_1 3 rfl rfl)
theorem dX3_among_27 : decode cX3_among 27 = .ok (.getfield 42, 3) := dk_180 0 42 (dk_at dksX3_among_1 4 rfl rfl)
theorem dX3_among_30 : decode cX3_among 30 = .ok (.aload_n 0, 1) := dk_42 (dk_at dksX3_among_1 7 rfl rfl)
theorem dX3_among_31 : decode cX3_among 31 = .ok (.getfield 136, 3) := dk_180 0 136 (dk_at dksX3_among_1 8 rfl rfl)
theorem dX3_among_34 : decode cX3_among 34 = .ok (.iaload, 1) := dk_46 (dk_at dksX3_among_1 11 rfl rfl)
theorem dX3_among_35 : decode cX3_among 35 = .ok (.if_icmp .ne 5, 3) := dk_160 0 5 (dk_at dksX3_among_1 12 rfl rfl)
theorem dX3_among_38 : decode cX3_among 38 = .ok (.iload_n 2, 1) := dk_28 (dk_at dksX3_among_1 15 rfl rfl)
theorem dX3_among_39 : decode cX3_among 39 = .ok (.ireturn, 1) := dk_172 (dk_at dksX3_among_1 16 rfl rfl)
theorem dX3_among_40 : decode cX3_among 40 = .ok (.iinc 2 1, 3) := dk_132 2 1 (dk_at dksX3_among_1 17 rfl rfl)
theorem dX3_among_43 : decode cX3_among 43 = .ok (.goto (-41), 3) := dk_167 255 215 (dk_at dksX3_among_1 20 rfl rfl)
theorem dX3_among_46 : decode cX3_among 46 = .ok (.iconst (-1), 1) := dk_2 (dk_at dksX3_among_1 23 rfl rfl)
theorem dX3_among_47 : decode cX3_among 47 = .ok (.ireturn, 1) := dk_172 (dk_at dksX3_among_2 0 rfl rfl)
abbrev cX3_laysCode : ByteArray := prog_13_method_36_code
def yX3_laysCode : MethodName := ⟨RX3, "laysCode", "([II)V"⟩
def dkwX3_laysCode_1 : List UInt8 := [167, 255, 239, 177]
abbrev dktX3_laysCode_1 : List UInt8 := dkwX3_laysCode_1 ++ []
def dkwX3_laysCode_0 : List UInt8 := [42, 28, 181, 0, 238, 3, 62, 29, 28, 162, 0, 18, 42, 180, 0, 48, 29, 43, 29, 46, 79, 132, 3, 1]
abbrev dktX3_laysCode_0 : List UInt8 := dkwX3_laysCode_0 ++ dktX3_laysCode_1
theorem dksX3_laysCode_0 : cX3_laysCode.data.toList.drop 0 = dktX3_laysCode_0 := by decide +kernel
theorem dksX3_laysCode_1 : cX3_laysCode.data.toList.drop 24 = dktX3_laysCode_1 := dk_seg dksX3_laysCode_0 24 rfl rfl
theorem dX3_laysCode_0 : decode cX3_laysCode 0 = .ok (.aload_n 0, 1) := dk_42 (dk_at dksX3_laysCode_0 0 rfl rfl)
theorem dX3_laysCode_1 : decode cX3_laysCode 1 = .ok (.iload_n 2, 1) := dk_28 (dk_at dksX3_laysCode_0 1 rfl rfl)
theorem dX3_laysCode_2 : decode cX3_laysCode 2 = .ok (.putfield 238, 3) := dk_181 0 238 (dk_at dksX3_laysCode_0 2 rfl rfl)
theorem dX3_laysCode_5 : decode cX3_laysCode 5 = .ok (.iconst 0, 1) := dk_3 (dk_at dksX3_laysCode_0 5 rfl rfl)
theorem dX3_laysCode_6 : decode cX3_laysCode 6 = .ok (.istore_n 3, 1) := dk_62 (dk_at dksX3_laysCode_0 6 rfl rfl)
theorem dX3_laysCode_7 : decode cX3_laysCode 7 = .ok (.iload_n 3, 1) := dk_29 (dk_at dksX3_laysCode_0 7 rfl rfl)
theorem dX3_laysCode_8 : decode cX3_laysCode 8 = .ok (.iload_n 2, 1) := dk_28 (dk_at dksX3_laysCode_0 8 rfl rfl)
theorem dX3_laysCode_9 : decode cX3_laysCode 9 = .ok (.if_icmp .ge 18, 3) := dk_162 0 18 (dk_at dksX3_laysCode_0 9 rfl rfl)
theorem dX3_laysCode_12 : decode cX3_laysCode 12 = .ok (.aload_n 0, 1) := dk_42 (dk_at dksX3_laysCode_0 12 rfl rfl)
theorem dX3_laysCode_13 : decode cX3_laysCode 13 = .ok (.getfield 48, 3) := dk_180 0 48 (dk_at dksX3_laysCode_0 13 rfl rfl)
theorem dX3_laysCode_16 : decode cX3_laysCode 16 = .ok (.iload_n 3, 1) := dk_29 (dk_at dksX3_laysCode_0 16 rfl rfl)
theorem dX3_laysCode_17 : decode cX3_laysCode 17 = .ok (.aload_n 1, 1) := dk_43 (dk_at dksX3_laysCode_0 17 rfl rfl)
theorem dX3_laysCode_18 : decode cX3_laysCode 18 = .ok (.iload_n 3, 1) := dk_29 (dk_at dksX3_laysCode_0 18 rfl rfl)
theorem dX3_laysCode_19 : decode cX3_laysCode 19 = .ok (.iaload, 1) := dk_46 (dk_at dksX3_laysCode_0 19 rfl rfl)
theorem dX3_laysCode_20 : decode cX3_laysCode 20 = .ok (.iastore, 1) := dk_79 (dk_at dksX3_laysCode_0 20 rfl rfl)
theorem dX3_laysCode_21 : decode cX3_laysCode 21 = .ok (.iinc 3 1, 3) := dk_132 3 1 (dk_at dksX3_laysCode_0 21 rfl rfl)
theorem dX3_laysCode_24 : decode cX3_laysCode 24 = .ok (.goto (-17), 3) := dk_167 255 239 (dk_at dksX3_laysCode_1 0 rfl rfl)
theorem dX3_laysCode_27 : decode cX3_laysCode 27 = .ok (.return_, 1) := dk_177 (dk_at dksX3_laysCode_1 3 rfl rfl)
abbrev cX3_cell : ByteArray := prog_13_method_44_code
def yX3_cell : MethodName := ⟨RX3, "cell", "(II)I"⟩
def dkwX3_cell_5 : List UInt8 := [42, 42, 180, 0, 36, 27, 182, 1, 32, 172, 42, 42, 180, 0, 36, 27, 182, 1, 35, 172]
abbrev dktX3_cell_5 : List UInt8 := dkwX3_cell_5 ++ []
def dkwX3_cell_4 : List UInt8 := [184, 1, 13, 184, 0, 151, 172, 42, 180, 0, 36, 16, 13, 27, 96, 46, 172, 42, 180, 0, 21, 27, 46, 172]
abbrev dktX3_cell_4 : List UInt8 := dkwX3_cell_4 ++ dktX3_cell_5
def dkwX3_cell_3 : List UInt8 := [42, 180, 0, 17, 27, 46, 172, 42, 180, 0, 36, 27, 46, 172, 42, 180, 0, 36, 16, 12, 46, 27]
abbrev dktX3_cell_3 : List UInt8 := dkwX3_cell_3 ++ dktX3_cell_4
def dkwX3_cell_2 : List UInt8 := [170, 0, 0, 0, 93, 0, 0, 0, 0, 0, 0, 0, 5, 0, 0, 0, 37, 0, 0, 0, 44, 0, 0, 0, 51, 0, 0, 0, 66, 0, 0, 0, 76, 0, 0, 0, 83]
abbrev dktX3_cell_2 : List UInt8 := dkwX3_cell_2 ++ dktX3_cell_3
def dkwX3_cell_1 : List UInt8 := [154, 0, 8, 42, 182, 1, 29, 172, 28]
abbrev dktX3_cell_1 : List UInt8 := dkwX3_cell_1 ++ dktX3_cell_2
def dkwX3_cell_0 : List UInt8 := [42, 3, 181, 0, 112, 42, 27, 182, 1, 24, 153, 0, 15, 28, 133, 9, 20, 1, 27, 184, 0, 122]
abbrev dktX3_cell_0 : List UInt8 := dkwX3_cell_0 ++ dktX3_cell_1
theorem dksX3_cell_0 : cX3_cell.data.toList.drop 0 = dktX3_cell_0 := by decide +kernel
theorem dksX3_cell_1 : cX3_cell.data.toList.drop 22 = dktX3_cell_1 := dk_seg dksX3_cell_0 22 rfl rfl
theorem dksX3_cell_2 : cX3_cell.data.toList.drop 31 = dktX3_cell_2 := dk_seg dksX3_cell_1 9 rfl rfl
theorem dksX3_cell_3 : cX3_cell.data.toList.drop 68 = dktX3_cell_3 := dk_seg dksX3_cell_2 37 rfl rfl
theorem dksX3_cell_4 : cX3_cell.data.toList.drop 90 = dktX3_cell_4 := dk_seg dksX3_cell_3 22 rfl rfl
theorem dksX3_cell_5 : cX3_cell.data.toList.drop 114 = dktX3_cell_5 := dk_seg dksX3_cell_4 24 rfl rfl
theorem dX3_cell_0 : decode cX3_cell 0 = .ok (.aload_n 0, 1) := dk_42 (dk_at dksX3_cell_0 0 rfl rfl)
theorem dX3_cell_1 : decode cX3_cell 1 = .ok (.iconst 0, 1) := dk_3 (dk_at dksX3_cell_0 1 rfl rfl)
theorem dX3_cell_2 : decode cX3_cell 2 = .ok (.putfield 112, 3) := dk_181 0 112 (dk_at dksX3_cell_0 2 rfl rfl)
theorem dX3_cell_5 : decode cX3_cell 5 = .ok (.aload_n 0, 1) := dk_42 (dk_at dksX3_cell_0 5 rfl rfl)
theorem dX3_cell_6 : decode cX3_cell 6 = .ok (.iload_n 1, 1) := dk_27 (dk_at dksX3_cell_0 6 rfl rfl)
theorem dX3_cell_7 : decode cX3_cell 7 = .ok (.invokevirtual 280, 3) := dk_182 1 24 (dk_at dksX3_cell_0 7 rfl rfl)
theorem dX3_cell_10 : decode cX3_cell 10 = .ok (.ifCond .eq 15, 3) := dk_153 0 15 (dk_at dksX3_cell_0 10 rfl rfl)
theorem dX3_cell_13 : decode cX3_cell 13 = .ok (.iload_n 2, 1) := dk_28 (dk_at dksX3_cell_0 13 rfl rfl)
theorem dX3_cell_14 : decode cX3_cell 14 = .ok (.i2l, 1) := dk_133 (dk_at dksX3_cell_0 14 rfl rfl)
theorem dX3_cell_15 : decode cX3_cell 15 = .ok (.lconst 0, 1) := dk_9 (dk_at dksX3_cell_0 15 rfl rfl)
theorem dX3_cell_16 : decode cX3_cell 16 = .ok (.ldc2_w 283, 3) := dk_20 1 27 (dk_at dksX3_cell_0 16 rfl rfl)
theorem dX3_cell_19 : decode cX3_cell 19 = .ok (.invokestatic 122, 3) := dk_184 0 122 (dk_at dksX3_cell_0 19 rfl rfl)
theorem dX3_cell_22 : decode cX3_cell 22 = .ok (.ifCond .ne 8, 3) := dk_154 0 8 (dk_at dksX3_cell_1 0 rfl rfl)
theorem dX3_cell_25 : decode cX3_cell 25 = .ok (.aload_n 0, 1) := dk_42 (dk_at dksX3_cell_1 3 rfl rfl)
theorem dX3_cell_26 : decode cX3_cell 26 = .ok (.invokevirtual 285, 3) := dk_182 1 29 (dk_at dksX3_cell_1 4 rfl rfl)
theorem dX3_cell_29 : decode cX3_cell 29 = .ok (.ireturn, 1) := dk_172 (dk_at dksX3_cell_1 7 rfl rfl)
theorem dX3_cell_30 : decode cX3_cell 30 = .ok (.iload_n 2, 1) := dk_28 (dk_at dksX3_cell_1 8 rfl rfl)
theorem dX3_cell_31 : decode cX3_cell 31 = .ok (.tableswitch 93 0 5 #[37, 44, 51, 66, 76, 83], 37) := by decide +kernel
theorem dX3_cell_68 : decode cX3_cell 68 = .ok (.aload_n 0, 1) := dk_42 (dk_at dksX3_cell_3 0 rfl rfl)
theorem dX3_cell_69 : decode cX3_cell 69 = .ok (.getfield 17, 3) := dk_180 0 17 (dk_at dksX3_cell_3 1 rfl rfl)
theorem dX3_cell_72 : decode cX3_cell 72 = .ok (.iload_n 1, 1) := dk_27 (dk_at dksX3_cell_3 4 rfl rfl)
theorem dX3_cell_73 : decode cX3_cell 73 = .ok (.iaload, 1) := dk_46 (dk_at dksX3_cell_3 5 rfl rfl)
theorem dX3_cell_74 : decode cX3_cell 74 = .ok (.ireturn, 1) := dk_172 (dk_at dksX3_cell_3 6 rfl rfl)
theorem dX3_cell_75 : decode cX3_cell 75 = .ok (.aload_n 0, 1) := dk_42 (dk_at dksX3_cell_3 7 rfl rfl)
theorem dX3_cell_76 : decode cX3_cell 76 = .ok (.getfield 36, 3) := dk_180 0 36 (dk_at dksX3_cell_3 8 rfl rfl)
theorem dX3_cell_79 : decode cX3_cell 79 = .ok (.iload_n 1, 1) := dk_27 (dk_at dksX3_cell_3 11 rfl rfl)
theorem dX3_cell_80 : decode cX3_cell 80 = .ok (.iaload, 1) := dk_46 (dk_at dksX3_cell_3 12 rfl rfl)
theorem dX3_cell_81 : decode cX3_cell 81 = .ok (.ireturn, 1) := dk_172 (dk_at dksX3_cell_3 13 rfl rfl)
theorem dX3_cell_82 : decode cX3_cell 82 = .ok (.aload_n 0, 1) := dk_42 (dk_at dksX3_cell_3 14 rfl rfl)
theorem dX3_cell_83 : decode cX3_cell 83 = .ok (.getfield 36, 3) := dk_180 0 36 (dk_at dksX3_cell_3 15 rfl rfl)
theorem dX3_cell_86 : decode cX3_cell 86 = .ok (.bipush 12, 2) := dk_16 12 (dk_at dksX3_cell_3 18 rfl rfl)
theorem dX3_cell_88 : decode cX3_cell 88 = .ok (.iaload, 1) := dk_46 (dk_at dksX3_cell_3 20 rfl rfl)
theorem dX3_cell_89 : decode cX3_cell 89 = .ok (.iload_n 1, 1) := dk_27 (dk_at dksX3_cell_3 21 rfl rfl)
theorem dX3_cell_90 : decode cX3_cell 90 = .ok (.invokestatic 269, 3) := dk_184 1 13 (dk_at dksX3_cell_4 0 rfl rfl)
theorem dX3_cell_93 : decode cX3_cell 93 = .ok (.invokestatic 151, 3) := dk_184 0 151 (dk_at dksX3_cell_4 3 rfl rfl)
theorem dX3_cell_96 : decode cX3_cell 96 = .ok (.ireturn, 1) := dk_172 (dk_at dksX3_cell_4 6 rfl rfl)
theorem dX3_cell_97 : decode cX3_cell 97 = .ok (.aload_n 0, 1) := dk_42 (dk_at dksX3_cell_4 7 rfl rfl)
theorem dX3_cell_98 : decode cX3_cell 98 = .ok (.getfield 36, 3) := dk_180 0 36 (dk_at dksX3_cell_4 8 rfl rfl)
theorem dX3_cell_101 : decode cX3_cell 101 = .ok (.bipush 13, 2) := dk_16 13 (dk_at dksX3_cell_4 11 rfl rfl)
theorem dX3_cell_103 : decode cX3_cell 103 = .ok (.iload_n 1, 1) := dk_27 (dk_at dksX3_cell_4 13 rfl rfl)
theorem dX3_cell_104 : decode cX3_cell 104 = .ok (.iadd, 1) := dk_96 (dk_at dksX3_cell_4 14 rfl rfl)
theorem dX3_cell_105 : decode cX3_cell 105 = .ok (.iaload, 1) := dk_46 (dk_at dksX3_cell_4 15 rfl rfl)
theorem dX3_cell_106 : decode cX3_cell 106 = .ok (.ireturn, 1) := dk_172 (dk_at dksX3_cell_4 16 rfl rfl)
theorem dX3_cell_107 : decode cX3_cell 107 = .ok (.aload_n 0, 1) := dk_42 (dk_at dksX3_cell_4 17 rfl rfl)
theorem dX3_cell_108 : decode cX3_cell 108 = .ok (.getfield 21, 3) := dk_180 0 21 (dk_at dksX3_cell_4 18 rfl rfl)
theorem dX3_cell_111 : decode cX3_cell 111 = .ok (.iload_n 1, 1) := dk_27 (dk_at dksX3_cell_4 21 rfl rfl)
theorem dX3_cell_112 : decode cX3_cell 112 = .ok (.iaload, 1) := dk_46 (dk_at dksX3_cell_4 22 rfl rfl)
theorem dX3_cell_113 : decode cX3_cell 113 = .ok (.ireturn, 1) := dk_172 (dk_at dksX3_cell_4 23 rfl rfl)
theorem dX3_cell_114 : decode cX3_cell 114 = .ok (.aload_n 0, 1) := dk_42 (dk_at dksX3_cell_5 0 rfl rfl)
theorem dX3_cell_115 : decode cX3_cell 115 = .ok (.aload_n 0, 1) := dk_42 (dk_at dksX3_cell_5 1 rfl rfl)
theorem dX3_cell_116 : decode cX3_cell 116 = .ok (.getfield 36, 3) := dk_180 0 36 (dk_at dksX3_cell_5 2 rfl rfl)
theorem dX3_cell_119 : decode cX3_cell 119 = .ok (.iload_n 1, 1) := dk_27 (dk_at dksX3_cell_5 5 rfl rfl)
theorem dX3_cell_120 : decode cX3_cell 120 = .ok (.invokevirtual 288, 3) := dk_182 1 32 (dk_at dksX3_cell_5 6 rfl rfl)
theorem dX3_cell_123 : decode cX3_cell 123 = .ok (.ireturn, 1) := dk_172 (dk_at dksX3_cell_5 9 rfl rfl)
theorem dX3_cell_124 : decode cX3_cell 124 = .ok (.aload_n 0, 1) := dk_42 (dk_at dksX3_cell_5 10 rfl rfl)
theorem dX3_cell_125 : decode cX3_cell 125 = .ok (.aload_n 0, 1) := dk_42 (dk_at dksX3_cell_5 11 rfl rfl)
theorem dX3_cell_126 : decode cX3_cell 126 = .ok (.getfield 36, 3) := dk_180 0 36 (dk_at dksX3_cell_5 12 rfl rfl)
theorem dX3_cell_129 : decode cX3_cell 129 = .ok (.iload_n 1, 1) := dk_27 (dk_at dksX3_cell_5 15 rfl rfl)
theorem dX3_cell_130 : decode cX3_cell 130 = .ok (.invokevirtual 291, 3) := dk_182 1 35 (dk_at dksX3_cell_5 16 rfl rfl)
theorem dX3_cell_133 : decode cX3_cell 133 = .ok (.ireturn, 1) := dk_172 (dk_at dksX3_cell_5 19 rfl rfl)
abbrev cX3_isCell : ByteArray := prog_13_method_9_code
def yX3_isCell : MethodName := ⟨RX3, "isCell", "(I)Z"⟩
def dkwX3_isCell_0 : List UInt8 := [27, 133, 9, 42, 180, 0, 13, 4, 100, 133, 184, 0, 122, 172]
abbrev dktX3_isCell_0 : List UInt8 := dkwX3_isCell_0 ++ []
theorem dksX3_isCell_0 : cX3_isCell.data.toList.drop 0 = dktX3_isCell_0 := by decide +kernel
theorem dX3_isCell_0 : decode cX3_isCell 0 = .ok (.iload_n 1, 1) := dk_27 (dk_at dksX3_isCell_0 0 rfl rfl)
theorem dX3_isCell_1 : decode cX3_isCell 1 = .ok (.i2l, 1) := dk_133 (dk_at dksX3_isCell_0 1 rfl rfl)
theorem dX3_isCell_2 : decode cX3_isCell 2 = .ok (.lconst 0, 1) := dk_9 (dk_at dksX3_isCell_0 2 rfl rfl)
theorem dX3_isCell_3 : decode cX3_isCell 3 = .ok (.aload_n 0, 1) := dk_42 (dk_at dksX3_isCell_0 3 rfl rfl)
theorem dX3_isCell_4 : decode cX3_isCell 4 = .ok (.getfield 13, 3) := dk_180 0 13 (dk_at dksX3_isCell_0 4 rfl rfl)
theorem dX3_isCell_7 : decode cX3_isCell 7 = .ok (.iconst 1, 1) := dk_4 (dk_at dksX3_isCell_0 7 rfl rfl)
theorem dX3_isCell_8 : decode cX3_isCell 8 = .ok (.isub, 1) := dk_100 (dk_at dksX3_isCell_0 8 rfl rfl)
theorem dX3_isCell_9 : decode cX3_isCell 9 = .ok (.i2l, 1) := dk_133 (dk_at dksX3_isCell_0 9 rfl rfl)
theorem dX3_isCell_10 : decode cX3_isCell 10 = .ok (.invokestatic 122, 3) := dk_184 0 122 (dk_at dksX3_isCell_0 10 rfl rfl)
theorem dX3_isCell_13 : decode cX3_isCell 13 = .ok (.ireturn, 1) := dk_172 (dk_at dksX3_isCell_0 13 rfl rfl)
abbrev cX3_refuse : ByteArray := prog_13_method_3_code
def yX3_refuse : MethodName := ⟨RX3, "refuse", "()I"⟩
def dkwX3_refuse_0 : List UInt8 := [42, 4, 181, 0, 112, 3, 172]
abbrev dktX3_refuse_0 : List UInt8 := dkwX3_refuse_0 ++ []
theorem dksX3_refuse_0 : cX3_refuse.data.toList.drop 0 = dktX3_refuse_0 := by decide +kernel
theorem dX3_refuse_0 : decode cX3_refuse 0 = .ok (.aload_n 0, 1) := dk_42 (dk_at dksX3_refuse_0 0 rfl rfl)
theorem dX3_refuse_1 : decode cX3_refuse 1 = .ok (.iconst 1, 1) := dk_4 (dk_at dksX3_refuse_0 1 rfl rfl)
theorem dX3_refuse_2 : decode cX3_refuse 2 = .ok (.putfield 112, 3) := dk_181 0 112 (dk_at dksX3_refuse_0 2 rfl rfl)
theorem dX3_refuse_5 : decode cX3_refuse 5 = .ok (.iconst 0, 1) := dk_3 (dk_at dksX3_refuse_0 5 rfl rfl)
theorem dX3_refuse_6 : decode cX3_refuse 6 = .ok (.ireturn, 1) := dk_172 (dk_at dksX3_refuse_0 6 rfl rfl)
abbrev cX3_has : ByteArray := prog_13_method_5_code
def yX3_has : MethodName := ⟨RX3, "has", "(II)Z"⟩
def dkwX3_has_0 : List UInt8 := [26, 27, 122, 4, 126, 4, 160, 0, 7, 4, 167, 0, 4, 3, 172]
abbrev dktX3_has_0 : List UInt8 := dkwX3_has_0 ++ []
theorem dksX3_has_0 : cX3_has.data.toList.drop 0 = dktX3_has_0 := by decide +kernel
theorem dX3_has_0 : decode cX3_has 0 = .ok (.iload_n 0, 1) := dk_26 (dk_at dksX3_has_0 0 rfl rfl)
theorem dX3_has_1 : decode cX3_has 1 = .ok (.iload_n 1, 1) := dk_27 (dk_at dksX3_has_0 1 rfl rfl)
theorem dX3_has_2 : decode cX3_has 2 = .ok (.ishr, 1) := dk_122 (dk_at dksX3_has_0 2 rfl rfl)
theorem dX3_has_3 : decode cX3_has 3 = .ok (.iconst 1, 1) := dk_4 (dk_at dksX3_has_0 3 rfl rfl)
theorem dX3_has_4 : decode cX3_has 4 = .ok (.iand, 1) := dk_126 (dk_at dksX3_has_0 4 rfl rfl)
theorem dX3_has_5 : decode cX3_has 5 = .ok (.iconst 1, 1) := dk_4 (dk_at dksX3_has_0 5 rfl rfl)
theorem dX3_has_6 : decode cX3_has 6 = .ok (.if_icmp .ne 7, 3) := dk_160 0 7 (dk_at dksX3_has_0 6 rfl rfl)
theorem dX3_has_9 : decode cX3_has 9 = .ok (.iconst 1, 1) := dk_4 (dk_at dksX3_has_0 9 rfl rfl)
theorem dX3_has_10 : decode cX3_has 10 = .ok (.goto 4, 3) := dk_167 0 4 (dk_at dksX3_has_0 10 rfl rfl)
theorem dX3_has_13 : decode cX3_has 13 = .ok (.iconst 0, 1) := dk_3 (dk_at dksX3_has_0 13 rfl rfl)
theorem dX3_has_14 : decode cX3_has 14 = .ok (.ireturn, 1) := dk_172 (dk_at dksX3_has_0 14 rfl rfl)
abbrev cX3_childrenAt : ByteArray := prog_13_method_14_code
def yX3_childrenAt : MethodName := ⟨RX3, "childrenAt", "([II)I"⟩
def dkwX3_childrenAt_1 : List UInt8 := [160, 0, 10, 4, 21, 4, 120, 167, 0, 4, 3, 128, 62, 132, 4, 1, 167, 255, 223, 29, 172]
abbrev dktX3_childrenAt_1 : List UInt8 := dkwX3_childrenAt_1 ++ []
def dkwX3_childrenAt_0 : List UInt8 := [3, 62, 3, 54, 4, 21, 4, 42, 180, 0, 126, 162, 0, 30, 29, 43, 21, 4, 184, 0, 129, 28]
abbrev dktX3_childrenAt_0 : List UInt8 := dkwX3_childrenAt_0 ++ dktX3_childrenAt_1
theorem dksX3_childrenAt_0 : cX3_childrenAt.data.toList.drop 0 = dktX3_childrenAt_0 := by decide +kernel
theorem dksX3_childrenAt_1 : cX3_childrenAt.data.toList.drop 22 = dktX3_childrenAt_1 := dk_seg dksX3_childrenAt_0 22 rfl rfl
theorem dX3_childrenAt_0 : decode cX3_childrenAt 0 = .ok (.iconst 0, 1) := dk_3 (dk_at dksX3_childrenAt_0 0 rfl rfl)
theorem dX3_childrenAt_1 : decode cX3_childrenAt 1 = .ok (.istore_n 3, 1) := dk_62 (dk_at dksX3_childrenAt_0 1 rfl rfl)
theorem dX3_childrenAt_2 : decode cX3_childrenAt 2 = .ok (.iconst 0, 1) := dk_3 (dk_at dksX3_childrenAt_0 2 rfl rfl)
theorem dX3_childrenAt_3 : decode cX3_childrenAt 3 = .ok (.istore 4, 2) := dk_54 4 (dk_at dksX3_childrenAt_0 3 rfl rfl)
theorem dX3_childrenAt_5 : decode cX3_childrenAt 5 = .ok (.iload 4, 2) := dk_21 4 (dk_at dksX3_childrenAt_0 5 rfl rfl)
theorem dX3_childrenAt_7 : decode cX3_childrenAt 7 = .ok (.aload_n 0, 1) := dk_42 (dk_at dksX3_childrenAt_0 7 rfl rfl)
theorem dX3_childrenAt_8 : decode cX3_childrenAt 8 = .ok (.getfield 126, 3) := dk_180 0 126 (dk_at dksX3_childrenAt_0 8 rfl rfl)
theorem dX3_childrenAt_11 : decode cX3_childrenAt 11 = .ok (.if_icmp .ge 30, 3) := dk_162 0 30 (dk_at dksX3_childrenAt_0 11 rfl rfl)
theorem dX3_childrenAt_14 : decode cX3_childrenAt 14 = .ok (.iload_n 3, 1) := dk_29 (dk_at dksX3_childrenAt_0 14 rfl rfl)
theorem dX3_childrenAt_15 : decode cX3_childrenAt 15 = .ok (.aload_n 1, 1) := dk_43 (dk_at dksX3_childrenAt_0 15 rfl rfl)
theorem dX3_childrenAt_16 : decode cX3_childrenAt 16 = .ok (.iload 4, 2) := dk_21 4 (dk_at dksX3_childrenAt_0 16 rfl rfl)
theorem dX3_childrenAt_18 : decode cX3_childrenAt 18 = .ok (.invokestatic 129, 3) := dk_184 0 129 (dk_at dksX3_childrenAt_0 18 rfl rfl)
theorem dX3_childrenAt_21 : decode cX3_childrenAt 21 = .ok (.iload_n 2, 1) := dk_28 (dk_at dksX3_childrenAt_0 21 rfl rfl)
theorem dX3_childrenAt_22 : decode cX3_childrenAt 22 = .ok (.if_icmp .ne 10, 3) := dk_160 0 10 (dk_at dksX3_childrenAt_1 0 rfl rfl)
theorem dX3_childrenAt_25 : decode cX3_childrenAt 25 = .ok (.iconst 1, 1) := dk_4 (dk_at dksX3_childrenAt_1 3 rfl rfl)
theorem dX3_childrenAt_26 : decode cX3_childrenAt 26 = .ok (.iload 4, 2) := dk_21 4 (dk_at dksX3_childrenAt_1 4 rfl rfl)
theorem dX3_childrenAt_28 : decode cX3_childrenAt 28 = .ok (.ishl, 1) := dk_120 (dk_at dksX3_childrenAt_1 6 rfl rfl)
theorem dX3_childrenAt_29 : decode cX3_childrenAt 29 = .ok (.goto 4, 3) := dk_167 0 4 (dk_at dksX3_childrenAt_1 7 rfl rfl)
theorem dX3_childrenAt_32 : decode cX3_childrenAt 32 = .ok (.iconst 0, 1) := dk_3 (dk_at dksX3_childrenAt_1 10 rfl rfl)
theorem dX3_childrenAt_33 : decode cX3_childrenAt 33 = .ok (.ior, 1) := dk_128 (dk_at dksX3_childrenAt_1 11 rfl rfl)
theorem dX3_childrenAt_34 : decode cX3_childrenAt 34 = .ok (.istore_n 3, 1) := dk_62 (dk_at dksX3_childrenAt_1 12 rfl rfl)
theorem dX3_childrenAt_35 : decode cX3_childrenAt 35 = .ok (.iinc 4 1, 3) := dk_132 4 1 (dk_at dksX3_childrenAt_1 13 rfl rfl)
theorem dX3_childrenAt_38 : decode cX3_childrenAt 38 = .ok (.goto (-33), 3) := dk_167 255 223 (dk_at dksX3_childrenAt_1 16 rfl rfl)
theorem dX3_childrenAt_41 : decode cX3_childrenAt 41 = .ok (.iload_n 3, 1) := dk_29 (dk_at dksX3_childrenAt_1 19 rfl rfl)
theorem dX3_childrenAt_42 : decode cX3_childrenAt 42 = .ok (.ireturn, 1) := dk_172 (dk_at dksX3_childrenAt_1 20 rfl rfl)
abbrev cX3_atOf : ByteArray := prog_13_method_11_code
def yX3_atOf : MethodName := ⟨RX3, "atOf", "([II)I"⟩
def dkwX3_atOf_0 : List UInt8 := [42, 16, 25, 5, 27, 104, 96, 3, 96, 46, 172]
abbrev dktX3_atOf_0 : List UInt8 := dkwX3_atOf_0 ++ []
theorem dksX3_atOf_0 : cX3_atOf.data.toList.drop 0 = dktX3_atOf_0 := by decide +kernel
theorem dX3_atOf_0 : decode cX3_atOf 0 = .ok (.aload_n 0, 1) := dk_42 (dk_at dksX3_atOf_0 0 rfl rfl)
theorem dX3_atOf_1 : decode cX3_atOf 1 = .ok (.bipush 25, 2) := dk_16 25 (dk_at dksX3_atOf_0 1 rfl rfl)
theorem dX3_atOf_3 : decode cX3_atOf 3 = .ok (.iconst 2, 1) := dk_5 (dk_at dksX3_atOf_0 3 rfl rfl)
theorem dX3_atOf_4 : decode cX3_atOf 4 = .ok (.iload_n 1, 1) := dk_27 (dk_at dksX3_atOf_0 4 rfl rfl)
theorem dX3_atOf_5 : decode cX3_atOf 5 = .ok (.imul, 1) := dk_104 (dk_at dksX3_atOf_0 5 rfl rfl)
theorem dX3_atOf_6 : decode cX3_atOf 6 = .ok (.iadd, 1) := dk_96 (dk_at dksX3_atOf_0 6 rfl rfl)
theorem dX3_atOf_7 : decode cX3_atOf 7 = .ok (.iconst 0, 1) := dk_3 (dk_at dksX3_atOf_0 7 rfl rfl)
theorem dX3_atOf_8 : decode cX3_atOf 8 = .ok (.iadd, 1) := dk_96 (dk_at dksX3_atOf_0 8 rfl rfl)
theorem dX3_atOf_9 : decode cX3_atOf 9 = .ok (.iaload, 1) := dk_46 (dk_at dksX3_atOf_0 9 rfl rfl)
theorem dX3_atOf_10 : decode cX3_atOf 10 = .ok (.ireturn, 1) := dk_172 (dk_at dksX3_atOf_0 10 rfl rfl)
abbrev cX3_topOf : ByteArray := prog_13_method_13_code
def yX3_topOf : MethodName := ⟨RX3, "topOf", "([II)I"⟩
def dkwX3_topOf_0 : List UInt8 := [16, 10, 42, 180, 0, 17, 28, 46, 104, 43, 28, 46, 96, 172]
abbrev dktX3_topOf_0 : List UInt8 := dkwX3_topOf_0 ++ []
theorem dksX3_topOf_0 : cX3_topOf.data.toList.drop 0 = dktX3_topOf_0 := by decide +kernel
theorem dX3_topOf_0 : decode cX3_topOf 0 = .ok (.bipush 10, 2) := dk_16 10 (dk_at dksX3_topOf_0 0 rfl rfl)
theorem dX3_topOf_2 : decode cX3_topOf 2 = .ok (.aload_n 0, 1) := dk_42 (dk_at dksX3_topOf_0 2 rfl rfl)
theorem dX3_topOf_3 : decode cX3_topOf 3 = .ok (.getfield 17, 3) := dk_180 0 17 (dk_at dksX3_topOf_0 3 rfl rfl)
theorem dX3_topOf_6 : decode cX3_topOf 6 = .ok (.iload_n 2, 1) := dk_28 (dk_at dksX3_topOf_0 6 rfl rfl)
theorem dX3_topOf_7 : decode cX3_topOf 7 = .ok (.iaload, 1) := dk_46 (dk_at dksX3_topOf_0 7 rfl rfl)
theorem dX3_topOf_8 : decode cX3_topOf 8 = .ok (.imul, 1) := dk_104 (dk_at dksX3_topOf_0 8 rfl rfl)
theorem dX3_topOf_9 : decode cX3_topOf 9 = .ok (.aload_n 1, 1) := dk_43 (dk_at dksX3_topOf_0 9 rfl rfl)
theorem dX3_topOf_10 : decode cX3_topOf 10 = .ok (.iload_n 2, 1) := dk_28 (dk_at dksX3_topOf_0 10 rfl rfl)
theorem dX3_topOf_11 : decode cX3_topOf 11 = .ok (.iaload, 1) := dk_46 (dk_at dksX3_topOf_0 11 rfl rfl)
theorem dX3_topOf_12 : decode cX3_topOf 12 = .ok (.iadd, 1) := dk_96 (dk_at dksX3_topOf_0 12 rfl rfl)
theorem dX3_topOf_13 : decode cX3_topOf 13 = .ok (.ireturn, 1) := dk_172 (dk_at dksX3_topOf_0 13 rfl rfl)
abbrev cX3_child : ByteArray := prog_13_method_45_code
def yX3_child : MethodName := ⟨RX3, "child", "(II)I"⟩
def dkwX3_child_5 : List UInt8 := [180, 0, 36, 27, 184, 0, 129, 172, 42, 42, 180, 0, 36, 27, 182, 1, 41, 172]
abbrev dktX3_child_5 : List UInt8 := dkwX3_child_5 ++ []
def dkwX3_child_4 : List UInt8 := [180, 0, 36, 27, 184, 1, 21, 172, 42, 180, 0, 36, 16, 41, 46, 27, 184, 1, 13, 184, 0, 151, 172, 42]
abbrev dktX3_child_4 : List UInt8 := dkwX3_child_4 ++ dktX3_child_5
def dkwX3_child_3 : List UInt8 := [42, 180, 0, 24, 27, 46, 172, 42, 180, 0, 27, 27, 46, 172, 42, 180, 0, 30, 27, 46, 172, 42]
abbrev dktX3_child_3 : List UInt8 := dkwX3_child_3 ++ dktX3_child_4
def dkwX3_child_2 : List UInt8 := [170, 0, 0, 0, 91, 0, 0, 0, 0, 0, 0, 0, 5, 0, 0, 0, 37, 0, 0, 0, 44, 0, 0, 0, 51, 0, 0, 0, 58, 0, 0, 0, 67, 0, 0, 0, 82]
abbrev dktX3_child_2 : List UInt8 := dkwX3_child_2 ++ dktX3_child_3
def dkwX3_child_1 : List UInt8 := [154, 0, 8, 42, 182, 1, 29, 172, 28]
abbrev dktX3_child_1 : List UInt8 := dkwX3_child_1 ++ dktX3_child_2
def dkwX3_child_0 : List UInt8 := [42, 3, 181, 0, 112, 42, 27, 182, 1, 38, 153, 0, 15, 28, 133, 9, 20, 1, 27, 184, 0, 122]
abbrev dktX3_child_0 : List UInt8 := dkwX3_child_0 ++ dktX3_child_1
theorem dksX3_child_0 : cX3_child.data.toList.drop 0 = dktX3_child_0 := by decide +kernel
theorem dksX3_child_1 : cX3_child.data.toList.drop 22 = dktX3_child_1 := dk_seg dksX3_child_0 22 rfl rfl
theorem dksX3_child_2 : cX3_child.data.toList.drop 31 = dktX3_child_2 := dk_seg dksX3_child_1 9 rfl rfl
theorem dksX3_child_3 : cX3_child.data.toList.drop 68 = dktX3_child_3 := dk_seg dksX3_child_2 37 rfl rfl
theorem dksX3_child_4 : cX3_child.data.toList.drop 90 = dktX3_child_4 := dk_seg dksX3_child_3 22 rfl rfl
theorem dksX3_child_5 : cX3_child.data.toList.drop 114 = dktX3_child_5 := dk_seg dksX3_child_4 24 rfl rfl
theorem dX3_child_0 : decode cX3_child 0 = .ok (.aload_n 0, 1) := dk_42 (dk_at dksX3_child_0 0 rfl rfl)
theorem dX3_child_1 : decode cX3_child 1 = .ok (.iconst 0, 1) := dk_3 (dk_at dksX3_child_0 1 rfl rfl)
theorem dX3_child_2 : decode cX3_child 2 = .ok (.putfield 112, 3) := dk_181 0 112 (dk_at dksX3_child_0 2 rfl rfl)
theorem dX3_child_5 : decode cX3_child 5 = .ok (.aload_n 0, 1) := dk_42 (dk_at dksX3_child_0 5 rfl rfl)
theorem dX3_child_6 : decode cX3_child 6 = .ok (.iload_n 1, 1) := dk_27 (dk_at dksX3_child_0 6 rfl rfl)
theorem dX3_child_7 : decode cX3_child 7 = .ok (.invokevirtual 294, 3) := dk_182 1 38 (dk_at dksX3_child_0 7 rfl rfl)
theorem dX3_child_10 : decode cX3_child 10 = .ok (.ifCond .eq 15, 3) := dk_153 0 15 (dk_at dksX3_child_0 10 rfl rfl)
theorem dX3_child_13 : decode cX3_child 13 = .ok (.iload_n 2, 1) := dk_28 (dk_at dksX3_child_0 13 rfl rfl)
theorem dX3_child_14 : decode cX3_child 14 = .ok (.i2l, 1) := dk_133 (dk_at dksX3_child_0 14 rfl rfl)
theorem dX3_child_15 : decode cX3_child 15 = .ok (.lconst 0, 1) := dk_9 (dk_at dksX3_child_0 15 rfl rfl)
theorem dX3_child_16 : decode cX3_child 16 = .ok (.ldc2_w 283, 3) := dk_20 1 27 (dk_at dksX3_child_0 16 rfl rfl)
theorem dX3_child_19 : decode cX3_child 19 = .ok (.invokestatic 122, 3) := dk_184 0 122 (dk_at dksX3_child_0 19 rfl rfl)
theorem dX3_child_22 : decode cX3_child 22 = .ok (.ifCond .ne 8, 3) := dk_154 0 8 (dk_at dksX3_child_1 0 rfl rfl)
theorem dX3_child_25 : decode cX3_child 25 = .ok (.aload_n 0, 1) := dk_42 (dk_at dksX3_child_1 3 rfl rfl)
theorem dX3_child_26 : decode cX3_child 26 = .ok (.invokevirtual 285, 3) := dk_182 1 29 (dk_at dksX3_child_1 4 rfl rfl)
theorem dX3_child_29 : decode cX3_child 29 = .ok (.ireturn, 1) := dk_172 (dk_at dksX3_child_1 7 rfl rfl)
theorem dX3_child_30 : decode cX3_child 30 = .ok (.iload_n 2, 1) := dk_28 (dk_at dksX3_child_1 8 rfl rfl)
theorem dX3_child_31 : decode cX3_child 31 = .ok (.tableswitch 91 0 5 #[37, 44, 51, 58, 67, 82], 37) := by decide +kernel
theorem dX3_child_68 : decode cX3_child 68 = .ok (.aload_n 0, 1) := dk_42 (dk_at dksX3_child_3 0 rfl rfl)
theorem dX3_child_69 : decode cX3_child 69 = .ok (.getfield 24, 3) := dk_180 0 24 (dk_at dksX3_child_3 1 rfl rfl)
theorem dX3_child_72 : decode cX3_child 72 = .ok (.iload_n 1, 1) := dk_27 (dk_at dksX3_child_3 4 rfl rfl)
theorem dX3_child_73 : decode cX3_child 73 = .ok (.iaload, 1) := dk_46 (dk_at dksX3_child_3 5 rfl rfl)
theorem dX3_child_74 : decode cX3_child 74 = .ok (.ireturn, 1) := dk_172 (dk_at dksX3_child_3 6 rfl rfl)
theorem dX3_child_75 : decode cX3_child 75 = .ok (.aload_n 0, 1) := dk_42 (dk_at dksX3_child_3 7 rfl rfl)
theorem dX3_child_76 : decode cX3_child 76 = .ok (.getfield 27, 3) := dk_180 0 27 (dk_at dksX3_child_3 8 rfl rfl)
theorem dX3_child_79 : decode cX3_child 79 = .ok (.iload_n 1, 1) := dk_27 (dk_at dksX3_child_3 11 rfl rfl)
theorem dX3_child_80 : decode cX3_child 80 = .ok (.iaload, 1) := dk_46 (dk_at dksX3_child_3 12 rfl rfl)
theorem dX3_child_81 : decode cX3_child 81 = .ok (.ireturn, 1) := dk_172 (dk_at dksX3_child_3 13 rfl rfl)
theorem dX3_child_82 : decode cX3_child 82 = .ok (.aload_n 0, 1) := dk_42 (dk_at dksX3_child_3 14 rfl rfl)
theorem dX3_child_83 : decode cX3_child 83 = .ok (.getfield 30, 3) := dk_180 0 30 (dk_at dksX3_child_3 15 rfl rfl)
theorem dX3_child_86 : decode cX3_child 86 = .ok (.iload_n 1, 1) := dk_27 (dk_at dksX3_child_3 18 rfl rfl)
theorem dX3_child_87 : decode cX3_child 87 = .ok (.iaload, 1) := dk_46 (dk_at dksX3_child_3 19 rfl rfl)
theorem dX3_child_88 : decode cX3_child 88 = .ok (.ireturn, 1) := dk_172 (dk_at dksX3_child_3 20 rfl rfl)
theorem dX3_child_89 : decode cX3_child 89 = .ok (.aload_n 0, 1) := dk_42 (dk_at dksX3_child_3 21 rfl rfl)
theorem dX3_child_90 : decode cX3_child 90 = .ok (.getfield 36, 3) := dk_180 0 36 (dk_at dksX3_child_4 0 rfl rfl)
theorem dX3_child_93 : decode cX3_child 93 = .ok (.iload_n 1, 1) := dk_27 (dk_at dksX3_child_4 3 rfl rfl)
theorem dX3_child_94 : decode cX3_child 94 = .ok (.invokestatic 277, 3) := dk_184 1 21 (dk_at dksX3_child_4 4 rfl rfl)
theorem dX3_child_97 : decode cX3_child 97 = .ok (.ireturn, 1) := dk_172 (dk_at dksX3_child_4 7 rfl rfl)
theorem dX3_child_98 : decode cX3_child 98 = .ok (.aload_n 0, 1) := dk_42 (dk_at dksX3_child_4 8 rfl rfl)
theorem dX3_child_99 : decode cX3_child 99 = .ok (.getfield 36, 3) := dk_180 0 36 (dk_at dksX3_child_4 9 rfl rfl)
theorem dX3_child_102 : decode cX3_child 102 = .ok (.bipush 41, 2) := dk_16 41 (dk_at dksX3_child_4 12 rfl rfl)
theorem dX3_child_104 : decode cX3_child 104 = .ok (.iaload, 1) := dk_46 (dk_at dksX3_child_4 14 rfl rfl)
theorem dX3_child_105 : decode cX3_child 105 = .ok (.iload_n 1, 1) := dk_27 (dk_at dksX3_child_4 15 rfl rfl)
theorem dX3_child_106 : decode cX3_child 106 = .ok (.invokestatic 269, 3) := dk_184 1 13 (dk_at dksX3_child_4 16 rfl rfl)
theorem dX3_child_109 : decode cX3_child 109 = .ok (.invokestatic 151, 3) := dk_184 0 151 (dk_at dksX3_child_4 19 rfl rfl)
theorem dX3_child_112 : decode cX3_child 112 = .ok (.ireturn, 1) := dk_172 (dk_at dksX3_child_4 22 rfl rfl)
theorem dX3_child_113 : decode cX3_child 113 = .ok (.aload_n 0, 1) := dk_42 (dk_at dksX3_child_4 23 rfl rfl)
theorem dX3_child_114 : decode cX3_child 114 = .ok (.getfield 36, 3) := dk_180 0 36 (dk_at dksX3_child_5 0 rfl rfl)
theorem dX3_child_117 : decode cX3_child 117 = .ok (.iload_n 1, 1) := dk_27 (dk_at dksX3_child_5 3 rfl rfl)
theorem dX3_child_118 : decode cX3_child 118 = .ok (.invokestatic 129, 3) := dk_184 0 129 (dk_at dksX3_child_5 4 rfl rfl)
theorem dX3_child_121 : decode cX3_child 121 = .ok (.ireturn, 1) := dk_172 (dk_at dksX3_child_5 7 rfl rfl)
theorem dX3_child_122 : decode cX3_child 122 = .ok (.aload_n 0, 1) := dk_42 (dk_at dksX3_child_5 8 rfl rfl)
theorem dX3_child_123 : decode cX3_child 123 = .ok (.aload_n 0, 1) := dk_42 (dk_at dksX3_child_5 9 rfl rfl)
theorem dX3_child_124 : decode cX3_child 124 = .ok (.getfield 36, 3) := dk_180 0 36 (dk_at dksX3_child_5 10 rfl rfl)
theorem dX3_child_127 : decode cX3_child 127 = .ok (.iload_n 1, 1) := dk_27 (dk_at dksX3_child_5 13 rfl rfl)
theorem dX3_child_128 : decode cX3_child 128 = .ok (.invokevirtual 297, 3) := dk_182 1 41 (dk_at dksX3_child_5 14 rfl rfl)
theorem dX3_child_131 : decode cX3_child 131 = .ok (.ireturn, 1) := dk_172 (dk_at dksX3_child_5 17 rfl rfl)
abbrev cX3_isChild : ByteArray := prog_13_method_10_code
def yX3_isChild : MethodName := ⟨RX3, "isChild", "(I)Z"⟩
def dkwX3_isChild_0 : List UInt8 := [27, 133, 9, 42, 180, 0, 126, 4, 100, 133, 184, 0, 122, 172]
abbrev dktX3_isChild_0 : List UInt8 := dkwX3_isChild_0 ++ []
theorem dksX3_isChild_0 : cX3_isChild.data.toList.drop 0 = dktX3_isChild_0 := by decide +kernel
theorem dX3_isChild_0 : decode cX3_isChild 0 = .ok (.iload_n 1, 1) := dk_27 (dk_at dksX3_isChild_0 0 rfl rfl)
theorem dX3_isChild_1 : decode cX3_isChild 1 = .ok (.i2l, 1) := dk_133 (dk_at dksX3_isChild_0 1 rfl rfl)
theorem dX3_isChild_2 : decode cX3_isChild 2 = .ok (.lconst 0, 1) := dk_9 (dk_at dksX3_isChild_0 2 rfl rfl)
theorem dX3_isChild_3 : decode cX3_isChild 3 = .ok (.aload_n 0, 1) := dk_42 (dk_at dksX3_isChild_0 3 rfl rfl)
theorem dX3_isChild_4 : decode cX3_isChild 4 = .ok (.getfield 126, 3) := dk_180 0 126 (dk_at dksX3_isChild_0 4 rfl rfl)
theorem dX3_isChild_7 : decode cX3_isChild 7 = .ok (.iconst 1, 1) := dk_4 (dk_at dksX3_isChild_0 7 rfl rfl)
theorem dX3_isChild_8 : decode cX3_isChild 8 = .ok (.isub, 1) := dk_100 (dk_at dksX3_isChild_0 8 rfl rfl)
theorem dX3_isChild_9 : decode cX3_isChild 9 = .ok (.i2l, 1) := dk_133 (dk_at dksX3_isChild_0 9 rfl rfl)
theorem dX3_isChild_10 : decode cX3_isChild 10 = .ok (.invokestatic 122, 3) := dk_184 0 122 (dk_at dksX3_isChild_0 10 rfl rfl)
theorem dX3_isChild_13 : decode cX3_isChild 13 = .ok (.ireturn, 1) := dk_172 (dk_at dksX3_isChild_0 13 rfl rfl)
abbrev cX3_moodOf : ByteArray := prog_13_method_12_code
def yX3_moodOf : MethodName := ⟨RX3, "moodOf", "([II)I"⟩
def dkwX3_moodOf_0 : List UInt8 := [42, 16, 25, 5, 27, 104, 96, 4, 96, 46, 172]
abbrev dktX3_moodOf_0 : List UInt8 := dkwX3_moodOf_0 ++ []
theorem dksX3_moodOf_0 : cX3_moodOf.data.toList.drop 0 = dktX3_moodOf_0 := by decide +kernel
theorem dX3_moodOf_0 : decode cX3_moodOf 0 = .ok (.aload_n 0, 1) := dk_42 (dk_at dksX3_moodOf_0 0 rfl rfl)
theorem dX3_moodOf_1 : decode cX3_moodOf 1 = .ok (.bipush 25, 2) := dk_16 25 (dk_at dksX3_moodOf_0 1 rfl rfl)
theorem dX3_moodOf_3 : decode cX3_moodOf 3 = .ok (.iconst 2, 1) := dk_5 (dk_at dksX3_moodOf_0 3 rfl rfl)
theorem dX3_moodOf_4 : decode cX3_moodOf 4 = .ok (.iload_n 1, 1) := dk_27 (dk_at dksX3_moodOf_0 4 rfl rfl)
theorem dX3_moodOf_5 : decode cX3_moodOf 5 = .ok (.imul, 1) := dk_104 (dk_at dksX3_moodOf_0 5 rfl rfl)
theorem dX3_moodOf_6 : decode cX3_moodOf 6 = .ok (.iadd, 1) := dk_96 (dk_at dksX3_moodOf_0 6 rfl rfl)
theorem dX3_moodOf_7 : decode cX3_moodOf 7 = .ok (.iconst 1, 1) := dk_4 (dk_at dksX3_moodOf_0 7 rfl rfl)
theorem dX3_moodOf_8 : decode cX3_moodOf 8 = .ok (.iadd, 1) := dk_96 (dk_at dksX3_moodOf_0 8 rfl rfl)
theorem dX3_moodOf_9 : decode cX3_moodOf 9 = .ok (.iaload, 1) := dk_46 (dk_at dksX3_moodOf_0 9 rfl rfl)
theorem dX3_moodOf_10 : decode cX3_moodOf 10 = .ok (.ireturn, 1) := dk_172 (dk_at dksX3_moodOf_0 10 rfl rfl)
abbrev cX3_bucketsOf : ByteArray := prog_13_method_43_code
def yX3_bucketsOf : MethodName := ⟨RX3, "bucketsOf", "([II)I"⟩
def dkwX3_bucketsOf_3 : List UInt8 := [5, 108, 167, 0, 4, 29, 172]
abbrev dktX3_bucketsOf_3 : List UInt8 := dkwX3_bucketsOf_3 ++ []
def dkwX3_bucketsOf_2 : List UInt8 := [6, 162, 0, 9, 29, 5, 108, 167, 0, 4, 29, 62, 42, 180, 0, 24, 28, 46, 16, 13, 160, 0, 9, 29]
abbrev dktX3_bucketsOf_2 : List UInt8 := dkwX3_bucketsOf_2 ++ dktX3_bucketsOf_3
def dkwX3_bucketsOf_1 : List UInt8 := [184, 1, 13, 184, 0, 151, 104, 96, 42, 43, 28, 182, 1, 17, 184, 0, 151, 96, 62, 43, 28, 184, 1, 21]
abbrev dktX3_bucketsOf_1 : List UInt8 := dkwX3_bucketsOf_1 ++ dktX3_bucketsOf_2
def dkwX3_bucketsOf_0 : List UInt8 := [43, 28, 184, 0, 129, 156, 0, 5, 3, 172, 42, 180, 0, 27, 28, 46, 5, 43, 16, 41, 46, 28]
abbrev dktX3_bucketsOf_0 : List UInt8 := dkwX3_bucketsOf_0 ++ dktX3_bucketsOf_1
theorem dksX3_bucketsOf_0 : cX3_bucketsOf.data.toList.drop 0 = dktX3_bucketsOf_0 := by decide +kernel
theorem dksX3_bucketsOf_1 : cX3_bucketsOf.data.toList.drop 22 = dktX3_bucketsOf_1 := dk_seg dksX3_bucketsOf_0 22 rfl rfl
theorem dksX3_bucketsOf_2 : cX3_bucketsOf.data.toList.drop 46 = dktX3_bucketsOf_2 := dk_seg dksX3_bucketsOf_1 24 rfl rfl
theorem dksX3_bucketsOf_3 : cX3_bucketsOf.data.toList.drop 70 = dktX3_bucketsOf_3 := dk_seg dksX3_bucketsOf_2 24 rfl rfl
theorem dX3_bucketsOf_0 : decode cX3_bucketsOf 0 = .ok (.aload_n 1, 1) := dk_43 (dk_at dksX3_bucketsOf_0 0 rfl rfl)
theorem dX3_bucketsOf_1 : decode cX3_bucketsOf 1 = .ok (.iload_n 2, 1) := dk_28 (dk_at dksX3_bucketsOf_0 1 rfl rfl)
theorem dX3_bucketsOf_2 : decode cX3_bucketsOf 2 = .ok (.invokestatic 129, 3) := dk_184 0 129 (dk_at dksX3_bucketsOf_0 2 rfl rfl)
theorem dX3_bucketsOf_5 : decode cX3_bucketsOf 5 = .ok (.ifCond .ge 5, 3) := dk_156 0 5 (dk_at dksX3_bucketsOf_0 5 rfl rfl)
theorem dX3_bucketsOf_8 : decode cX3_bucketsOf 8 = .ok (.iconst 0, 1) := dk_3 (dk_at dksX3_bucketsOf_0 8 rfl rfl)
theorem dX3_bucketsOf_9 : decode cX3_bucketsOf 9 = .ok (.ireturn, 1) := dk_172 (dk_at dksX3_bucketsOf_0 9 rfl rfl)
theorem dX3_bucketsOf_10 : decode cX3_bucketsOf 10 = .ok (.aload_n 0, 1) := dk_42 (dk_at dksX3_bucketsOf_0 10 rfl rfl)
theorem dX3_bucketsOf_11 : decode cX3_bucketsOf 11 = .ok (.getfield 27, 3) := dk_180 0 27 (dk_at dksX3_bucketsOf_0 11 rfl rfl)
theorem dX3_bucketsOf_14 : decode cX3_bucketsOf 14 = .ok (.iload_n 2, 1) := dk_28 (dk_at dksX3_bucketsOf_0 14 rfl rfl)
theorem dX3_bucketsOf_15 : decode cX3_bucketsOf 15 = .ok (.iaload, 1) := dk_46 (dk_at dksX3_bucketsOf_0 15 rfl rfl)
theorem dX3_bucketsOf_16 : decode cX3_bucketsOf 16 = .ok (.iconst 2, 1) := dk_5 (dk_at dksX3_bucketsOf_0 16 rfl rfl)
theorem dX3_bucketsOf_17 : decode cX3_bucketsOf 17 = .ok (.aload_n 1, 1) := dk_43 (dk_at dksX3_bucketsOf_0 17 rfl rfl)
theorem dX3_bucketsOf_18 : decode cX3_bucketsOf 18 = .ok (.bipush 41, 2) := dk_16 41 (dk_at dksX3_bucketsOf_0 18 rfl rfl)
theorem dX3_bucketsOf_20 : decode cX3_bucketsOf 20 = .ok (.iaload, 1) := dk_46 (dk_at dksX3_bucketsOf_0 20 rfl rfl)
theorem dX3_bucketsOf_21 : decode cX3_bucketsOf 21 = .ok (.iload_n 2, 1) := dk_28 (dk_at dksX3_bucketsOf_0 21 rfl rfl)
theorem dX3_bucketsOf_22 : decode cX3_bucketsOf 22 = .ok (.invokestatic 269, 3) := dk_184 1 13 (dk_at dksX3_bucketsOf_1 0 rfl rfl)
theorem dX3_bucketsOf_25 : decode cX3_bucketsOf 25 = .ok (.invokestatic 151, 3) := dk_184 0 151 (dk_at dksX3_bucketsOf_1 3 rfl rfl)
theorem dX3_bucketsOf_28 : decode cX3_bucketsOf 28 = .ok (.imul, 1) := dk_104 (dk_at dksX3_bucketsOf_1 6 rfl rfl)
theorem dX3_bucketsOf_29 : decode cX3_bucketsOf 29 = .ok (.iadd, 1) := dk_96 (dk_at dksX3_bucketsOf_1 7 rfl rfl)
theorem dX3_bucketsOf_30 : decode cX3_bucketsOf 30 = .ok (.aload_n 0, 1) := dk_42 (dk_at dksX3_bucketsOf_1 8 rfl rfl)
theorem dX3_bucketsOf_31 : decode cX3_bucketsOf 31 = .ok (.aload_n 1, 1) := dk_43 (dk_at dksX3_bucketsOf_1 9 rfl rfl)
theorem dX3_bucketsOf_32 : decode cX3_bucketsOf 32 = .ok (.iload_n 2, 1) := dk_28 (dk_at dksX3_bucketsOf_1 10 rfl rfl)
theorem dX3_bucketsOf_33 : decode cX3_bucketsOf 33 = .ok (.invokevirtual 273, 3) := dk_182 1 17 (dk_at dksX3_bucketsOf_1 11 rfl rfl)
theorem dX3_bucketsOf_36 : decode cX3_bucketsOf 36 = .ok (.invokestatic 151, 3) := dk_184 0 151 (dk_at dksX3_bucketsOf_1 14 rfl rfl)
theorem dX3_bucketsOf_39 : decode cX3_bucketsOf 39 = .ok (.iadd, 1) := dk_96 (dk_at dksX3_bucketsOf_1 17 rfl rfl)
theorem dX3_bucketsOf_40 : decode cX3_bucketsOf 40 = .ok (.istore_n 3, 1) := dk_62 (dk_at dksX3_bucketsOf_1 18 rfl rfl)
theorem dX3_bucketsOf_41 : decode cX3_bucketsOf 41 = .ok (.aload_n 1, 1) := dk_43 (dk_at dksX3_bucketsOf_1 19 rfl rfl)
theorem dX3_bucketsOf_42 : decode cX3_bucketsOf 42 = .ok (.iload_n 2, 1) := dk_28 (dk_at dksX3_bucketsOf_1 20 rfl rfl)
theorem dX3_bucketsOf_43 : decode cX3_bucketsOf 43 = .ok (.invokestatic 277, 3) := dk_184 1 21 (dk_at dksX3_bucketsOf_1 21 rfl rfl)
theorem dX3_bucketsOf_46 : decode cX3_bucketsOf 46 = .ok (.iconst 3, 1) := dk_6 (dk_at dksX3_bucketsOf_2 0 rfl rfl)
theorem dX3_bucketsOf_47 : decode cX3_bucketsOf 47 = .ok (.if_icmp .ge 9, 3) := dk_162 0 9 (dk_at dksX3_bucketsOf_2 1 rfl rfl)
theorem dX3_bucketsOf_50 : decode cX3_bucketsOf 50 = .ok (.iload_n 3, 1) := dk_29 (dk_at dksX3_bucketsOf_2 4 rfl rfl)
theorem dX3_bucketsOf_51 : decode cX3_bucketsOf 51 = .ok (.iconst 2, 1) := dk_5 (dk_at dksX3_bucketsOf_2 5 rfl rfl)
theorem dX3_bucketsOf_52 : decode cX3_bucketsOf 52 = .ok (.idiv, 1) := dk_108 (dk_at dksX3_bucketsOf_2 6 rfl rfl)
theorem dX3_bucketsOf_53 : decode cX3_bucketsOf 53 = .ok (.goto 4, 3) := dk_167 0 4 (dk_at dksX3_bucketsOf_2 7 rfl rfl)
theorem dX3_bucketsOf_56 : decode cX3_bucketsOf 56 = .ok (.iload_n 3, 1) := dk_29 (dk_at dksX3_bucketsOf_2 10 rfl rfl)
theorem dX3_bucketsOf_57 : decode cX3_bucketsOf 57 = .ok (.istore_n 3, 1) := dk_62 (dk_at dksX3_bucketsOf_2 11 rfl rfl)
theorem dX3_bucketsOf_58 : decode cX3_bucketsOf 58 = .ok (.aload_n 0, 1) := dk_42 (dk_at dksX3_bucketsOf_2 12 rfl rfl)
theorem dX3_bucketsOf_59 : decode cX3_bucketsOf 59 = .ok (.getfield 24, 3) := dk_180 0 24 (dk_at dksX3_bucketsOf_2 13 rfl rfl)
theorem dX3_bucketsOf_62 : decode cX3_bucketsOf 62 = .ok (.iload_n 2, 1) := dk_28 (dk_at dksX3_bucketsOf_2 16 rfl rfl)
theorem dX3_bucketsOf_63 : decode cX3_bucketsOf 63 = .ok (.iaload, 1) := dk_46 (dk_at dksX3_bucketsOf_2 17 rfl rfl)
theorem dX3_bucketsOf_64 : decode cX3_bucketsOf 64 = .ok (.bipush 13, 2) := dk_16 13 (dk_at dksX3_bucketsOf_2 18 rfl rfl)
theorem dX3_bucketsOf_66 : decode cX3_bucketsOf 66 = .ok (.if_icmp .ne 9, 3) := dk_160 0 9 (dk_at dksX3_bucketsOf_2 20 rfl rfl)
theorem dX3_bucketsOf_69 : decode cX3_bucketsOf 69 = .ok (.iload_n 3, 1) := dk_29 (dk_at dksX3_bucketsOf_2 23 rfl rfl)
theorem dX3_bucketsOf_70 : decode cX3_bucketsOf 70 = .ok (.iconst 2, 1) := dk_5 (dk_at dksX3_bucketsOf_3 0 rfl rfl)
theorem dX3_bucketsOf_71 : decode cX3_bucketsOf 71 = .ok (.idiv, 1) := dk_108 (dk_at dksX3_bucketsOf_3 1 rfl rfl)
theorem dX3_bucketsOf_72 : decode cX3_bucketsOf 72 = .ok (.goto 4, 3) := dk_167 0 4 (dk_at dksX3_bucketsOf_3 2 rfl rfl)
theorem dX3_bucketsOf_75 : decode cX3_bucketsOf 75 = .ok (.iload_n 3, 1) := dk_29 (dk_at dksX3_bucketsOf_3 5 rfl rfl)
theorem dX3_bucketsOf_76 : decode cX3_bucketsOf 76 = .ok (.ireturn, 1) := dk_172 (dk_at dksX3_bucketsOf_3 6 rfl rfl)
abbrev cX3_hasFriend : ByteArray := prog_13_method_42_code
def yX3_hasFriend : MethodName := ⟨RX3, "hasFriend", "([II)Z"⟩
def dkwX3_hasFriend_2 : List UInt8 := [182, 1, 9, 153, 0, 7, 4, 167, 0, 4, 3, 62, 132, 4, 1, 167, 255, 212, 29, 172]
abbrev dktX3_hasFriend_2 : List UInt8 := dkwX3_hasFriend_2 ++ []
def dkwX3_hasFriend_1 : List UInt8 := [162, 0, 41, 29, 154, 0, 25, 42, 180, 0, 30, 21, 4, 46, 28, 160, 0, 18, 42, 43, 28, 21, 4]
abbrev dktX3_hasFriend_1 : List UInt8 := dkwX3_hasFriend_1 ++ dktX3_hasFriend_2
def dkwX3_hasFriend_0 : List UInt8 := [42, 43, 28, 42, 180, 0, 30, 28, 46, 182, 1, 9, 62, 3, 54, 4, 21, 4, 42, 180, 0, 126]
abbrev dktX3_hasFriend_0 : List UInt8 := dkwX3_hasFriend_0 ++ dktX3_hasFriend_1
theorem dksX3_hasFriend_0 : cX3_hasFriend.data.toList.drop 0 = dktX3_hasFriend_0 := by decide +kernel
theorem dksX3_hasFriend_1 : cX3_hasFriend.data.toList.drop 22 = dktX3_hasFriend_1 := dk_seg dksX3_hasFriend_0 22 rfl rfl
theorem dksX3_hasFriend_2 : cX3_hasFriend.data.toList.drop 45 = dktX3_hasFriend_2 := dk_seg dksX3_hasFriend_1 23 rfl rfl
theorem dX3_hasFriend_0 : decode cX3_hasFriend 0 = .ok (.aload_n 0, 1) := dk_42 (dk_at dksX3_hasFriend_0 0 rfl rfl)
theorem dX3_hasFriend_1 : decode cX3_hasFriend 1 = .ok (.aload_n 1, 1) := dk_43 (dk_at dksX3_hasFriend_0 1 rfl rfl)
theorem dX3_hasFriend_2 : decode cX3_hasFriend 2 = .ok (.iload_n 2, 1) := dk_28 (dk_at dksX3_hasFriend_0 2 rfl rfl)
theorem dX3_hasFriend_3 : decode cX3_hasFriend 3 = .ok (.aload_n 0, 1) := dk_42 (dk_at dksX3_hasFriend_0 3 rfl rfl)
theorem dX3_hasFriend_4 : decode cX3_hasFriend 4 = .ok (.getfield 30, 3) := dk_180 0 30 (dk_at dksX3_hasFriend_0 4 rfl rfl)
theorem dX3_hasFriend_7 : decode cX3_hasFriend 7 = .ok (.iload_n 2, 1) := dk_28 (dk_at dksX3_hasFriend_0 7 rfl rfl)
theorem dX3_hasFriend_8 : decode cX3_hasFriend 8 = .ok (.iaload, 1) := dk_46 (dk_at dksX3_hasFriend_0 8 rfl rfl)
theorem dX3_hasFriend_9 : decode cX3_hasFriend 9 = .ok (.invokevirtual 265, 3) := dk_182 1 9 (dk_at dksX3_hasFriend_0 9 rfl rfl)
theorem dX3_hasFriend_12 : decode cX3_hasFriend 12 = .ok (.istore_n 3, 1) := dk_62 (dk_at dksX3_hasFriend_0 12 rfl rfl)
theorem dX3_hasFriend_13 : decode cX3_hasFriend 13 = .ok (.iconst 0, 1) := dk_3 (dk_at dksX3_hasFriend_0 13 rfl rfl)
theorem dX3_hasFriend_14 : decode cX3_hasFriend 14 = .ok (.istore 4, 2) := dk_54 4 (dk_at dksX3_hasFriend_0 14 rfl rfl)
theorem dX3_hasFriend_16 : decode cX3_hasFriend 16 = .ok (.iload 4, 2) := dk_21 4 (dk_at dksX3_hasFriend_0 16 rfl rfl)
theorem dX3_hasFriend_18 : decode cX3_hasFriend 18 = .ok (.aload_n 0, 1) := dk_42 (dk_at dksX3_hasFriend_0 18 rfl rfl)
theorem dX3_hasFriend_19 : decode cX3_hasFriend 19 = .ok (.getfield 126, 3) := dk_180 0 126 (dk_at dksX3_hasFriend_0 19 rfl rfl)
theorem dX3_hasFriend_22 : decode cX3_hasFriend 22 = .ok (.if_icmp .ge 41, 3) := dk_162 0 41 (dk_at dksX3_hasFriend_1 0 rfl rfl)
theorem dX3_hasFriend_25 : decode cX3_hasFriend 25 = .ok (.iload_n 3, 1) := dk_29 (dk_at dksX3_hasFriend_1 3 rfl rfl)
theorem dX3_hasFriend_26 : decode cX3_hasFriend 26 = .ok (.ifCond .ne 25, 3) := dk_154 0 25 (dk_at dksX3_hasFriend_1 4 rfl rfl)
theorem dX3_hasFriend_29 : decode cX3_hasFriend 29 = .ok (.aload_n 0, 1) := dk_42 (dk_at dksX3_hasFriend_1 7 rfl rfl)
theorem dX3_hasFriend_30 : decode cX3_hasFriend 30 = .ok (.getfield 30, 3) := dk_180 0 30 (dk_at dksX3_hasFriend_1 8 rfl rfl)
theorem dX3_hasFriend_33 : decode cX3_hasFriend 33 = .ok (.iload 4, 2) := dk_21 4 (dk_at dksX3_hasFriend_1 11 rfl rfl)
theorem dX3_hasFriend_35 : decode cX3_hasFriend 35 = .ok (.iaload, 1) := dk_46 (dk_at dksX3_hasFriend_1 13 rfl rfl)
theorem dX3_hasFriend_36 : decode cX3_hasFriend 36 = .ok (.iload_n 2, 1) := dk_28 (dk_at dksX3_hasFriend_1 14 rfl rfl)
theorem dX3_hasFriend_37 : decode cX3_hasFriend 37 = .ok (.if_icmp .ne 18, 3) := dk_160 0 18 (dk_at dksX3_hasFriend_1 15 rfl rfl)
theorem dX3_hasFriend_40 : decode cX3_hasFriend 40 = .ok (.aload_n 0, 1) := dk_42 (dk_at dksX3_hasFriend_1 18 rfl rfl)
theorem dX3_hasFriend_41 : decode cX3_hasFriend 41 = .ok (.aload_n 1, 1) := dk_43 (dk_at dksX3_hasFriend_1 19 rfl rfl)
theorem dX3_hasFriend_42 : decode cX3_hasFriend 42 = .ok (.iload_n 2, 1) := dk_28 (dk_at dksX3_hasFriend_1 20 rfl rfl)
theorem dX3_hasFriend_43 : decode cX3_hasFriend 43 = .ok (.iload 4, 2) := dk_21 4 (dk_at dksX3_hasFriend_1 21 rfl rfl)
theorem dX3_hasFriend_45 : decode cX3_hasFriend 45 = .ok (.invokevirtual 265, 3) := dk_182 1 9 (dk_at dksX3_hasFriend_2 0 rfl rfl)
theorem dX3_hasFriend_48 : decode cX3_hasFriend 48 = .ok (.ifCond .eq 7, 3) := dk_153 0 7 (dk_at dksX3_hasFriend_2 3 rfl rfl)
theorem dX3_hasFriend_51 : decode cX3_hasFriend 51 = .ok (.iconst 1, 1) := dk_4 (dk_at dksX3_hasFriend_2 6 rfl rfl)
theorem dX3_hasFriend_52 : decode cX3_hasFriend 52 = .ok (.goto 4, 3) := dk_167 0 4 (dk_at dksX3_hasFriend_2 7 rfl rfl)
theorem dX3_hasFriend_55 : decode cX3_hasFriend 55 = .ok (.iconst 0, 1) := dk_3 (dk_at dksX3_hasFriend_2 10 rfl rfl)
theorem dX3_hasFriend_56 : decode cX3_hasFriend 56 = .ok (.istore_n 3, 1) := dk_62 (dk_at dksX3_hasFriend_2 11 rfl rfl)
theorem dX3_hasFriend_57 : decode cX3_hasFriend 57 = .ok (.iinc 4 1, 3) := dk_132 4 1 (dk_at dksX3_hasFriend_2 12 rfl rfl)
theorem dX3_hasFriend_60 : decode cX3_hasFriend 60 = .ok (.goto (-44), 3) := dk_167 255 212 (dk_at dksX3_hasFriend_2 15 rfl rfl)
theorem dX3_hasFriend_63 : decode cX3_hasFriend 63 = .ok (.iload_n 3, 1) := dk_29 (dk_at dksX3_hasFriend_2 18 rfl rfl)
theorem dX3_hasFriend_64 : decode cX3_hasFriend 64 = .ok (.ireturn, 1) := dk_172 (dk_at dksX3_hasFriend_2 19 rfl rfl)
abbrev cX3_areNear : ByteArray := prog_13_method_41_code
def yX3_areNear : MethodName := ⟨RX3, "areNear", "([III)Z"⟩
def dkwX3_areNear_1 : List UInt8 := [43, 28, 184, 0, 129, 43, 29, 184, 0, 129, 100, 184, 1, 6, 4, 163, 0, 7, 4, 167, 0, 4, 3, 172]
abbrev dktX3_areNear_1 : List UInt8 := dkwX3_areNear_1 ++ []
def dkwX3_areNear_0 : List UInt8 := [28, 155, 0, 45, 29, 155, 0, 41, 43, 28, 184, 0, 129, 155, 0, 33, 43, 29, 184, 0, 129, 155, 0, 25]
abbrev dktX3_areNear_0 : List UInt8 := dkwX3_areNear_0 ++ dktX3_areNear_1
theorem dksX3_areNear_0 : cX3_areNear.data.toList.drop 0 = dktX3_areNear_0 := by decide +kernel
theorem dksX3_areNear_1 : cX3_areNear.data.toList.drop 24 = dktX3_areNear_1 := dk_seg dksX3_areNear_0 24 rfl rfl
theorem dX3_areNear_0 : decode cX3_areNear 0 = .ok (.iload_n 2, 1) := dk_28 (dk_at dksX3_areNear_0 0 rfl rfl)
theorem dX3_areNear_1 : decode cX3_areNear 1 = .ok (.ifCond .lt 45, 3) := dk_155 0 45 (dk_at dksX3_areNear_0 1 rfl rfl)
theorem dX3_areNear_4 : decode cX3_areNear 4 = .ok (.iload_n 3, 1) := dk_29 (dk_at dksX3_areNear_0 4 rfl rfl)
theorem dX3_areNear_5 : decode cX3_areNear 5 = .ok (.ifCond .lt 41, 3) := dk_155 0 41 (dk_at dksX3_areNear_0 5 rfl rfl)
theorem dX3_areNear_8 : decode cX3_areNear 8 = .ok (.aload_n 1, 1) := dk_43 (dk_at dksX3_areNear_0 8 rfl rfl)
theorem dX3_areNear_9 : decode cX3_areNear 9 = .ok (.iload_n 2, 1) := dk_28 (dk_at dksX3_areNear_0 9 rfl rfl)
theorem dX3_areNear_10 : decode cX3_areNear 10 = .ok (.invokestatic 129, 3) := dk_184 0 129 (dk_at dksX3_areNear_0 10 rfl rfl)
theorem dX3_areNear_13 : decode cX3_areNear 13 = .ok (.ifCond .lt 33, 3) := dk_155 0 33 (dk_at dksX3_areNear_0 13 rfl rfl)
theorem dX3_areNear_16 : decode cX3_areNear 16 = .ok (.aload_n 1, 1) := dk_43 (dk_at dksX3_areNear_0 16 rfl rfl)
theorem dX3_areNear_17 : decode cX3_areNear 17 = .ok (.iload_n 3, 1) := dk_29 (dk_at dksX3_areNear_0 17 rfl rfl)
theorem dX3_areNear_18 : decode cX3_areNear 18 = .ok (.invokestatic 129, 3) := dk_184 0 129 (dk_at dksX3_areNear_0 18 rfl rfl)
theorem dX3_areNear_21 : decode cX3_areNear 21 = .ok (.ifCond .lt 25, 3) := dk_155 0 25 (dk_at dksX3_areNear_0 21 rfl rfl)
theorem dX3_areNear_24 : decode cX3_areNear 24 = .ok (.aload_n 1, 1) := dk_43 (dk_at dksX3_areNear_1 0 rfl rfl)
theorem dX3_areNear_25 : decode cX3_areNear 25 = .ok (.iload_n 2, 1) := dk_28 (dk_at dksX3_areNear_1 1 rfl rfl)
theorem dX3_areNear_26 : decode cX3_areNear 26 = .ok (.invokestatic 129, 3) := dk_184 0 129 (dk_at dksX3_areNear_1 2 rfl rfl)
theorem dX3_areNear_29 : decode cX3_areNear 29 = .ok (.aload_n 1, 1) := dk_43 (dk_at dksX3_areNear_1 5 rfl rfl)
theorem dX3_areNear_30 : decode cX3_areNear 30 = .ok (.iload_n 3, 1) := dk_29 (dk_at dksX3_areNear_1 6 rfl rfl)
theorem dX3_areNear_31 : decode cX3_areNear 31 = .ok (.invokestatic 129, 3) := dk_184 0 129 (dk_at dksX3_areNear_1 7 rfl rfl)
theorem dX3_areNear_34 : decode cX3_areNear 34 = .ok (.isub, 1) := dk_100 (dk_at dksX3_areNear_1 10 rfl rfl)
theorem dX3_areNear_35 : decode cX3_areNear 35 = .ok (.invokestatic 262, 3) := dk_184 1 6 (dk_at dksX3_areNear_1 11 rfl rfl)
theorem dX3_areNear_38 : decode cX3_areNear 38 = .ok (.iconst 1, 1) := dk_4 (dk_at dksX3_areNear_1 14 rfl rfl)
theorem dX3_areNear_39 : decode cX3_areNear 39 = .ok (.if_icmp .gt 7, 3) := dk_163 0 7 (dk_at dksX3_areNear_1 15 rfl rfl)
theorem dX3_areNear_42 : decode cX3_areNear 42 = .ok (.iconst 1, 1) := dk_4 (dk_at dksX3_areNear_1 18 rfl rfl)
theorem dX3_areNear_43 : decode cX3_areNear 43 = .ok (.goto 4, 3) := dk_167 0 4 (dk_at dksX3_areNear_1 19 rfl rfl)
theorem dX3_areNear_46 : decode cX3_areNear 46 = .ok (.iconst 0, 1) := dk_3 (dk_at dksX3_areNear_1 22 rfl rfl)
theorem dX3_areNear_47 : decode cX3_areNear 47 = .ok (.ireturn, 1) := dk_172 (dk_at dksX3_areNear_1 23 rfl rfl)
abbrev cX3_set : ByteArray := prog_13_method_46_code
def yX3_set : MethodName := ⟨RX3, "set", "(II)I"⟩
def dkwX3_set_3 : List UInt8 := [180, 0, 33, 27, 28, 79, 21, 4, 172]
abbrev dktX3_set_3 : List UInt8 := dkwX3_set_3 ++ []
def dkwX3_set_2 : List UInt8 := [167, 0, 6, 20, 1, 46, 184, 0, 122, 154, 0, 5, 2, 172, 42, 180, 0, 33, 27, 46, 54, 4, 42]
abbrev dktX3_set_2 : List UInt8 := dkwX3_set_2 ++ dktX3_set_3
def dkwX3_set_1 : List UInt8 := [62, 27, 133, 9, 10, 184, 0, 122, 153, 0, 27, 28, 133, 29, 133, 27, 4, 160, 0, 9, 20, 1, 44]
abbrev dktX3_set_1 : List UInt8 := dkwX3_set_1 ++ dktX3_set_2
def dkwX3_set_0 : List UInt8 := [42, 3, 181, 0, 112, 27, 4, 160, 0, 16, 42, 180, 0, 36, 16, 41, 46, 184, 0, 251, 167, 0, 4, 3]
abbrev dktX3_set_0 : List UInt8 := dkwX3_set_0 ++ dktX3_set_1
theorem dksX3_set_0 : cX3_set.data.toList.drop 0 = dktX3_set_0 := by decide +kernel
theorem dksX3_set_1 : cX3_set.data.toList.drop 24 = dktX3_set_1 := dk_seg dksX3_set_0 24 rfl rfl
theorem dksX3_set_2 : cX3_set.data.toList.drop 47 = dktX3_set_2 := dk_seg dksX3_set_1 23 rfl rfl
theorem dksX3_set_3 : cX3_set.data.toList.drop 70 = dktX3_set_3 := dk_seg dksX3_set_2 23 rfl rfl
theorem dX3_set_0 : decode cX3_set 0 = .ok (.aload_n 0, 1) := dk_42 (dk_at dksX3_set_0 0 rfl rfl)
theorem dX3_set_1 : decode cX3_set 1 = .ok (.iconst 0, 1) := dk_3 (dk_at dksX3_set_0 1 rfl rfl)
theorem dX3_set_2 : decode cX3_set 2 = .ok (.putfield 112, 3) := dk_181 0 112 (dk_at dksX3_set_0 2 rfl rfl)
theorem dX3_set_5 : decode cX3_set 5 = .ok (.iload_n 1, 1) := dk_27 (dk_at dksX3_set_0 5 rfl rfl)
theorem dX3_set_6 : decode cX3_set 6 = .ok (.iconst 1, 1) := dk_4 (dk_at dksX3_set_0 6 rfl rfl)
theorem dX3_set_7 : decode cX3_set 7 = .ok (.if_icmp .ne 16, 3) := dk_160 0 16 (dk_at dksX3_set_0 7 rfl rfl)
theorem dX3_set_10 : decode cX3_set 10 = .ok (.aload_n 0, 1) := dk_42 (dk_at dksX3_set_0 10 rfl rfl)
theorem dX3_set_11 : decode cX3_set 11 = .ok (.getfield 36, 3) := dk_180 0 36 (dk_at dksX3_set_0 11 rfl rfl)
theorem dX3_set_14 : decode cX3_set 14 = .ok (.bipush 41, 2) := dk_16 41 (dk_at dksX3_set_0 14 rfl rfl)
theorem dX3_set_16 : decode cX3_set 16 = .ok (.iaload, 1) := dk_46 (dk_at dksX3_set_0 16 rfl rfl)
theorem dX3_set_17 : decode cX3_set 17 = .ok (.invokestatic 251, 3) := dk_184 0 251 (dk_at dksX3_set_0 17 rfl rfl)
theorem dX3_set_20 : decode cX3_set 20 = .ok (.goto 4, 3) := dk_167 0 4 (dk_at dksX3_set_0 20 rfl rfl)
theorem dX3_set_23 : decode cX3_set 23 = .ok (.iconst 0, 1) := dk_3 (dk_at dksX3_set_0 23 rfl rfl)
theorem dX3_set_24 : decode cX3_set 24 = .ok (.istore_n 3, 1) := dk_62 (dk_at dksX3_set_1 0 rfl rfl)
theorem dX3_set_25 : decode cX3_set 25 = .ok (.iload_n 1, 1) := dk_27 (dk_at dksX3_set_1 1 rfl rfl)
theorem dX3_set_26 : decode cX3_set 26 = .ok (.i2l, 1) := dk_133 (dk_at dksX3_set_1 2 rfl rfl)
theorem dX3_set_27 : decode cX3_set 27 = .ok (.lconst 0, 1) := dk_9 (dk_at dksX3_set_1 3 rfl rfl)
theorem dX3_set_28 : decode cX3_set 28 = .ok (.lconst 1, 1) := dk_10 (dk_at dksX3_set_1 4 rfl rfl)
theorem dX3_set_29 : decode cX3_set 29 = .ok (.invokestatic 122, 3) := dk_184 0 122 (dk_at dksX3_set_1 5 rfl rfl)
theorem dX3_set_32 : decode cX3_set 32 = .ok (.ifCond .eq 27, 3) := dk_153 0 27 (dk_at dksX3_set_1 8 rfl rfl)
theorem dX3_set_35 : decode cX3_set 35 = .ok (.iload_n 2, 1) := dk_28 (dk_at dksX3_set_1 11 rfl rfl)
theorem dX3_set_36 : decode cX3_set 36 = .ok (.i2l, 1) := dk_133 (dk_at dksX3_set_1 12 rfl rfl)
theorem dX3_set_37 : decode cX3_set 37 = .ok (.iload_n 3, 1) := dk_29 (dk_at dksX3_set_1 13 rfl rfl)
theorem dX3_set_38 : decode cX3_set 38 = .ok (.i2l, 1) := dk_133 (dk_at dksX3_set_1 14 rfl rfl)
theorem dX3_set_39 : decode cX3_set 39 = .ok (.iload_n 1, 1) := dk_27 (dk_at dksX3_set_1 15 rfl rfl)
theorem dX3_set_40 : decode cX3_set 40 = .ok (.iconst 1, 1) := dk_4 (dk_at dksX3_set_1 16 rfl rfl)
theorem dX3_set_41 : decode cX3_set 41 = .ok (.if_icmp .ne 9, 3) := dk_160 0 9 (dk_at dksX3_set_1 17 rfl rfl)
theorem dX3_set_44 : decode cX3_set 44 = .ok (.ldc2_w 300, 3) := dk_20 1 44 (dk_at dksX3_set_1 20 rfl rfl)
theorem dX3_set_47 : decode cX3_set 47 = .ok (.goto 6, 3) := dk_167 0 6 (dk_at dksX3_set_2 0 rfl rfl)
theorem dX3_set_50 : decode cX3_set 50 = .ok (.ldc2_w 302, 3) := dk_20 1 46 (dk_at dksX3_set_2 3 rfl rfl)
theorem dX3_set_53 : decode cX3_set 53 = .ok (.invokestatic 122, 3) := dk_184 0 122 (dk_at dksX3_set_2 6 rfl rfl)
theorem dX3_set_56 : decode cX3_set 56 = .ok (.ifCond .ne 5, 3) := dk_154 0 5 (dk_at dksX3_set_2 9 rfl rfl)
theorem dX3_set_59 : decode cX3_set 59 = .ok (.iconst (-1), 1) := dk_2 (dk_at dksX3_set_2 12 rfl rfl)
theorem dX3_set_60 : decode cX3_set 60 = .ok (.ireturn, 1) := dk_172 (dk_at dksX3_set_2 13 rfl rfl)
theorem dX3_set_61 : decode cX3_set 61 = .ok (.aload_n 0, 1) := dk_42 (dk_at dksX3_set_2 14 rfl rfl)
theorem dX3_set_62 : decode cX3_set 62 = .ok (.getfield 33, 3) := dk_180 0 33 (dk_at dksX3_set_2 15 rfl rfl)
theorem dX3_set_65 : decode cX3_set 65 = .ok (.iload_n 1, 1) := dk_27 (dk_at dksX3_set_2 18 rfl rfl)
theorem dX3_set_66 : decode cX3_set 66 = .ok (.iaload, 1) := dk_46 (dk_at dksX3_set_2 19 rfl rfl)
theorem dX3_set_67 : decode cX3_set 67 = .ok (.istore 4, 2) := dk_54 4 (dk_at dksX3_set_2 20 rfl rfl)
theorem dX3_set_69 : decode cX3_set 69 = .ok (.aload_n 0, 1) := dk_42 (dk_at dksX3_set_2 22 rfl rfl)
theorem dX3_set_70 : decode cX3_set 70 = .ok (.getfield 33, 3) := dk_180 0 33 (dk_at dksX3_set_3 0 rfl rfl)
theorem dX3_set_73 : decode cX3_set 73 = .ok (.iload_n 1, 1) := dk_27 (dk_at dksX3_set_3 3 rfl rfl)
theorem dX3_set_74 : decode cX3_set 74 = .ok (.iload_n 2, 1) := dk_28 (dk_at dksX3_set_3 4 rfl rfl)
theorem dX3_set_75 : decode cX3_set 75 = .ok (.iastore, 1) := dk_79 (dk_at dksX3_set_3 5 rfl rfl)
theorem dX3_set_76 : decode cX3_set 76 = .ok (.iload 4, 2) := dk_21 4 (dk_at dksX3_set_3 6 rfl rfl)
theorem dX3_set_78 : decode cX3_set 78 = .ok (.ireturn, 1) := dk_172 (dk_at dksX3_set_3 8 rfl rfl)
abbrev cX3_sheet : ByteArray := prog_13_method_47_code
def yX3_sheet : MethodName := ⟨RX3, "sheet", "(IIII)I"⟩
def dkwX3_sheet_6 : List UInt8 := [132, 7, 1, 167, 255, 158, 27, 6, 160, 0, 8, 16, 253, 167, 0, 5, 21, 5, 172]
abbrev dktX3_sheet_6 : List UInt8 := dkwX3_sheet_6 ++ []
def dkwX3_sheet_5 : List UInt8 := [79, 21, 5, 42, 180, 0, 36, 21, 7, 184, 1, 21, 96, 54, 5, 21, 6, 21, 4, 96, 54, 6]
abbrev dktX3_sheet_5 : List UInt8 := dkwX3_sheet_5 ++ dktX3_sheet_6
def dkwX3_sheet_4 : List UInt8 := [159, 0, 9, 21, 7, 28, 161, 0, 7, 3, 167, 0, 14, 3, 16, 9, 21, 8, 184, 0, 142, 184, 1, 3]
abbrev dktX3_sheet_4 : List UInt8 := dkwX3_sheet_4 ++ dktX3_sheet_5
def dkwX3_sheet_3 : List UInt8 := [147, 167, 0, 5, 21, 6, 54, 8, 42, 180, 0, 36, 16, 25, 5, 21, 7, 104, 96, 4, 96, 27, 6]
abbrev dktX3_sheet_3 : List UInt8 := dkwX3_sheet_3 ++ dktX3_sheet_4
def dkwX3_sheet_2 : List UInt8 := [42, 180, 0, 126, 162, 0, 95, 27, 154, 0, 9, 21, 6, 145, 167, 0, 16, 27, 4, 160, 0, 9, 21, 6]
abbrev dktX3_sheet_2 : List UInt8 := dkwX3_sheet_2 ++ dktX3_sheet_3
def dkwX3_sheet_1 : List UInt8 := [172, 27, 6, 159, 0, 10, 28, 156, 0, 6, 16, 254, 172, 3, 54, 5, 29, 54, 6, 3, 54, 7, 21, 7]
abbrev dktX3_sheet_1 : List UInt8 := dkwX3_sheet_1 ++ dktX3_sheet_2
def dkwX3_sheet_0 : List UInt8 := [42, 3, 181, 0, 112, 27, 133, 9, 20, 1, 48, 184, 0, 122, 153, 0, 9, 28, 16, 8, 164, 0, 5, 2]
abbrev dktX3_sheet_0 : List UInt8 := dkwX3_sheet_0 ++ dktX3_sheet_1
theorem dksX3_sheet_0 : cX3_sheet.data.toList.drop 0 = dktX3_sheet_0 := by decide +kernel
theorem dksX3_sheet_1 : cX3_sheet.data.toList.drop 24 = dktX3_sheet_1 := dk_seg dksX3_sheet_0 24 rfl rfl
theorem dksX3_sheet_2 : cX3_sheet.data.toList.drop 48 = dktX3_sheet_2 := dk_seg dksX3_sheet_1 24 rfl rfl
theorem dksX3_sheet_3 : cX3_sheet.data.toList.drop 72 = dktX3_sheet_3 := dk_seg dksX3_sheet_2 24 rfl rfl
theorem dksX3_sheet_4 : cX3_sheet.data.toList.drop 95 = dktX3_sheet_4 := dk_seg dksX3_sheet_3 23 rfl rfl
theorem dksX3_sheet_5 : cX3_sheet.data.toList.drop 119 = dktX3_sheet_5 := dk_seg dksX3_sheet_4 24 rfl rfl
theorem dksX3_sheet_6 : cX3_sheet.data.toList.drop 141 = dktX3_sheet_6 := dk_seg dksX3_sheet_5 22 rfl rfl
theorem dX3_sheet_0 : decode cX3_sheet 0 = .ok (.aload_n 0, 1) := dk_42 (dk_at dksX3_sheet_0 0 rfl rfl)
theorem dX3_sheet_1 : decode cX3_sheet 1 = .ok (.iconst 0, 1) := dk_3 (dk_at dksX3_sheet_0 1 rfl rfl)
theorem dX3_sheet_2 : decode cX3_sheet 2 = .ok (.putfield 112, 3) := dk_181 0 112 (dk_at dksX3_sheet_0 2 rfl rfl)
theorem dX3_sheet_5 : decode cX3_sheet 5 = .ok (.iload_n 1, 1) := dk_27 (dk_at dksX3_sheet_0 5 rfl rfl)
theorem dX3_sheet_6 : decode cX3_sheet 6 = .ok (.i2l, 1) := dk_133 (dk_at dksX3_sheet_0 6 rfl rfl)
theorem dX3_sheet_7 : decode cX3_sheet 7 = .ok (.lconst 0, 1) := dk_9 (dk_at dksX3_sheet_0 7 rfl rfl)
theorem dX3_sheet_8 : decode cX3_sheet 8 = .ok (.ldc2_w 304, 3) := dk_20 1 48 (dk_at dksX3_sheet_0 8 rfl rfl)
theorem dX3_sheet_11 : decode cX3_sheet 11 = .ok (.invokestatic 122, 3) := dk_184 0 122 (dk_at dksX3_sheet_0 11 rfl rfl)
theorem dX3_sheet_14 : decode cX3_sheet 14 = .ok (.ifCond .eq 9, 3) := dk_153 0 9 (dk_at dksX3_sheet_0 14 rfl rfl)
theorem dX3_sheet_17 : decode cX3_sheet 17 = .ok (.iload_n 2, 1) := dk_28 (dk_at dksX3_sheet_0 17 rfl rfl)
theorem dX3_sheet_18 : decode cX3_sheet 18 = .ok (.bipush 8, 2) := dk_16 8 (dk_at dksX3_sheet_0 18 rfl rfl)
theorem dX3_sheet_20 : decode cX3_sheet 20 = .ok (.if_icmp .le 5, 3) := dk_164 0 5 (dk_at dksX3_sheet_0 20 rfl rfl)
theorem dX3_sheet_23 : decode cX3_sheet 23 = .ok (.iconst (-1), 1) := dk_2 (dk_at dksX3_sheet_0 23 rfl rfl)
theorem dX3_sheet_24 : decode cX3_sheet 24 = .ok (.ireturn, 1) := dk_172 (dk_at dksX3_sheet_1 0 rfl rfl)
theorem dX3_sheet_25 : decode cX3_sheet 25 = .ok (.iload_n 1, 1) := dk_27 (dk_at dksX3_sheet_1 1 rfl rfl)
theorem dX3_sheet_26 : decode cX3_sheet 26 = .ok (.iconst 3, 1) := dk_6 (dk_at dksX3_sheet_1 2 rfl rfl)
theorem dX3_sheet_27 : decode cX3_sheet 27 = .ok (.if_icmp .eq 10, 3) := dk_159 0 10 (dk_at dksX3_sheet_1 3 rfl rfl)
theorem dX3_sheet_30 : decode cX3_sheet 30 = .ok (.iload_n 2, 1) := dk_28 (dk_at dksX3_sheet_1 6 rfl rfl)
theorem dX3_sheet_31 : decode cX3_sheet 31 = .ok (.ifCond .ge 6, 3) := dk_156 0 6 (dk_at dksX3_sheet_1 7 rfl rfl)
theorem dX3_sheet_34 : decode cX3_sheet 34 = .ok (.bipush (-2), 2) := dk_16 254 (dk_at dksX3_sheet_1 10 rfl rfl)
theorem dX3_sheet_36 : decode cX3_sheet 36 = .ok (.ireturn, 1) := dk_172 (dk_at dksX3_sheet_1 12 rfl rfl)
theorem dX3_sheet_37 : decode cX3_sheet 37 = .ok (.iconst 0, 1) := dk_3 (dk_at dksX3_sheet_1 13 rfl rfl)
theorem dX3_sheet_38 : decode cX3_sheet 38 = .ok (.istore 5, 2) := dk_54 5 (dk_at dksX3_sheet_1 14 rfl rfl)
theorem dX3_sheet_40 : decode cX3_sheet 40 = .ok (.iload_n 3, 1) := dk_29 (dk_at dksX3_sheet_1 16 rfl rfl)
theorem dX3_sheet_41 : decode cX3_sheet 41 = .ok (.istore 6, 2) := dk_54 6 (dk_at dksX3_sheet_1 17 rfl rfl)
theorem dX3_sheet_43 : decode cX3_sheet 43 = .ok (.iconst 0, 1) := dk_3 (dk_at dksX3_sheet_1 19 rfl rfl)
theorem dX3_sheet_44 : decode cX3_sheet 44 = .ok (.istore 7, 2) := dk_54 7 (dk_at dksX3_sheet_1 20 rfl rfl)
theorem dX3_sheet_46 : decode cX3_sheet 46 = .ok (.iload 7, 2) := dk_21 7 (dk_at dksX3_sheet_1 22 rfl rfl)
theorem dX3_sheet_48 : decode cX3_sheet 48 = .ok (.aload_n 0, 1) := dk_42 (dk_at dksX3_sheet_2 0 rfl rfl)
theorem dX3_sheet_49 : decode cX3_sheet 49 = .ok (.getfield 126, 3) := dk_180 0 126 (dk_at dksX3_sheet_2 1 rfl rfl)
theorem dX3_sheet_52 : decode cX3_sheet 52 = .ok (.if_icmp .ge 95, 3) := dk_162 0 95 (dk_at dksX3_sheet_2 4 rfl rfl)
theorem dX3_sheet_55 : decode cX3_sheet 55 = .ok (.iload_n 1, 1) := dk_27 (dk_at dksX3_sheet_2 7 rfl rfl)
theorem dX3_sheet_56 : decode cX3_sheet 56 = .ok (.ifCond .ne 9, 3) := dk_154 0 9 (dk_at dksX3_sheet_2 8 rfl rfl)
theorem dX3_sheet_59 : decode cX3_sheet 59 = .ok (.iload 6, 2) := dk_21 6 (dk_at dksX3_sheet_2 11 rfl rfl)
theorem dX3_sheet_61 : decode cX3_sheet 61 = .ok (.i2b, 1) := dk_145 (dk_at dksX3_sheet_2 13 rfl rfl)
theorem dX3_sheet_62 : decode cX3_sheet 62 = .ok (.goto 16, 3) := dk_167 0 16 (dk_at dksX3_sheet_2 14 rfl rfl)
theorem dX3_sheet_65 : decode cX3_sheet 65 = .ok (.iload_n 1, 1) := dk_27 (dk_at dksX3_sheet_2 17 rfl rfl)
theorem dX3_sheet_66 : decode cX3_sheet 66 = .ok (.iconst 1, 1) := dk_4 (dk_at dksX3_sheet_2 18 rfl rfl)
theorem dX3_sheet_67 : decode cX3_sheet 67 = .ok (.if_icmp .ne 9, 3) := dk_160 0 9 (dk_at dksX3_sheet_2 19 rfl rfl)
theorem dX3_sheet_70 : decode cX3_sheet 70 = .ok (.iload 6, 2) := dk_21 6 (dk_at dksX3_sheet_2 22 rfl rfl)
theorem dX3_sheet_72 : decode cX3_sheet 72 = .ok (.i2s, 1) := dk_147 (dk_at dksX3_sheet_3 0 rfl rfl)
theorem dX3_sheet_73 : decode cX3_sheet 73 = .ok (.goto 5, 3) := dk_167 0 5 (dk_at dksX3_sheet_3 1 rfl rfl)
theorem dX3_sheet_76 : decode cX3_sheet 76 = .ok (.iload 6, 2) := dk_21 6 (dk_at dksX3_sheet_3 4 rfl rfl)
theorem dX3_sheet_78 : decode cX3_sheet 78 = .ok (.istore 8, 2) := dk_54 8 (dk_at dksX3_sheet_3 6 rfl rfl)
theorem dX3_sheet_80 : decode cX3_sheet 80 = .ok (.aload_n 0, 1) := dk_42 (dk_at dksX3_sheet_3 8 rfl rfl)
theorem dX3_sheet_81 : decode cX3_sheet 81 = .ok (.getfield 36, 3) := dk_180 0 36 (dk_at dksX3_sheet_3 9 rfl rfl)
theorem dX3_sheet_84 : decode cX3_sheet 84 = .ok (.bipush 25, 2) := dk_16 25 (dk_at dksX3_sheet_3 12 rfl rfl)
theorem dX3_sheet_86 : decode cX3_sheet 86 = .ok (.iconst 2, 1) := dk_5 (dk_at dksX3_sheet_3 14 rfl rfl)
theorem dX3_sheet_87 : decode cX3_sheet 87 = .ok (.iload 7, 2) := dk_21 7 (dk_at dksX3_sheet_3 15 rfl rfl)
theorem dX3_sheet_89 : decode cX3_sheet 89 = .ok (.imul, 1) := dk_104 (dk_at dksX3_sheet_3 17 rfl rfl)
theorem dX3_sheet_90 : decode cX3_sheet 90 = .ok (.iadd, 1) := dk_96 (dk_at dksX3_sheet_3 18 rfl rfl)
theorem dX3_sheet_91 : decode cX3_sheet 91 = .ok (.iconst 1, 1) := dk_4 (dk_at dksX3_sheet_3 19 rfl rfl)
theorem dX3_sheet_92 : decode cX3_sheet 92 = .ok (.iadd, 1) := dk_96 (dk_at dksX3_sheet_3 20 rfl rfl)
theorem dX3_sheet_93 : decode cX3_sheet 93 = .ok (.iload_n 1, 1) := dk_27 (dk_at dksX3_sheet_3 21 rfl rfl)
theorem dX3_sheet_94 : decode cX3_sheet 94 = .ok (.iconst 3, 1) := dk_6 (dk_at dksX3_sheet_3 22 rfl rfl)
theorem dX3_sheet_95 : decode cX3_sheet 95 = .ok (.if_icmp .eq 9, 3) := dk_159 0 9 (dk_at dksX3_sheet_4 0 rfl rfl)
theorem dX3_sheet_98 : decode cX3_sheet 98 = .ok (.iload 7, 2) := dk_21 7 (dk_at dksX3_sheet_4 3 rfl rfl)
theorem dX3_sheet_100 : decode cX3_sheet 100 = .ok (.iload_n 2, 1) := dk_28 (dk_at dksX3_sheet_4 5 rfl rfl)
theorem dX3_sheet_101 : decode cX3_sheet 101 = .ok (.if_icmp .lt 7, 3) := dk_161 0 7 (dk_at dksX3_sheet_4 6 rfl rfl)
theorem dX3_sheet_104 : decode cX3_sheet 104 = .ok (.iconst 0, 1) := dk_3 (dk_at dksX3_sheet_4 9 rfl rfl)
theorem dX3_sheet_105 : decode cX3_sheet 105 = .ok (.goto 14, 3) := dk_167 0 14 (dk_at dksX3_sheet_4 10 rfl rfl)
theorem dX3_sheet_108 : decode cX3_sheet 108 = .ok (.iconst 0, 1) := dk_3 (dk_at dksX3_sheet_4 13 rfl rfl)
theorem dX3_sheet_109 : decode cX3_sheet 109 = .ok (.bipush 9, 2) := dk_16 9 (dk_at dksX3_sheet_4 14 rfl rfl)
theorem dX3_sheet_111 : decode cX3_sheet 111 = .ok (.iload 8, 2) := dk_21 8 (dk_at dksX3_sheet_4 16 rfl rfl)
theorem dX3_sheet_113 : decode cX3_sheet 113 = .ok (.invokestatic 142, 3) := dk_184 0 142 (dk_at dksX3_sheet_4 18 rfl rfl)
theorem dX3_sheet_116 : decode cX3_sheet 116 = .ok (.invokestatic 259, 3) := dk_184 1 3 (dk_at dksX3_sheet_4 21 rfl rfl)
theorem dX3_sheet_119 : decode cX3_sheet 119 = .ok (.iastore, 1) := dk_79 (dk_at dksX3_sheet_5 0 rfl rfl)
theorem dX3_sheet_120 : decode cX3_sheet 120 = .ok (.iload 5, 2) := dk_21 5 (dk_at dksX3_sheet_5 1 rfl rfl)
theorem dX3_sheet_122 : decode cX3_sheet 122 = .ok (.aload_n 0, 1) := dk_42 (dk_at dksX3_sheet_5 3 rfl rfl)
theorem dX3_sheet_123 : decode cX3_sheet 123 = .ok (.getfield 36, 3) := dk_180 0 36 (dk_at dksX3_sheet_5 4 rfl rfl)
theorem dX3_sheet_126 : decode cX3_sheet 126 = .ok (.iload 7, 2) := dk_21 7 (dk_at dksX3_sheet_5 7 rfl rfl)
theorem dX3_sheet_128 : decode cX3_sheet 128 = .ok (.invokestatic 277, 3) := dk_184 1 21 (dk_at dksX3_sheet_5 9 rfl rfl)
theorem dX3_sheet_131 : decode cX3_sheet 131 = .ok (.iadd, 1) := dk_96 (dk_at dksX3_sheet_5 12 rfl rfl)
theorem dX3_sheet_132 : decode cX3_sheet 132 = .ok (.istore 5, 2) := dk_54 5 (dk_at dksX3_sheet_5 13 rfl rfl)
theorem dX3_sheet_134 : decode cX3_sheet 134 = .ok (.iload 6, 2) := dk_21 6 (dk_at dksX3_sheet_5 15 rfl rfl)
theorem dX3_sheet_136 : decode cX3_sheet 136 = .ok (.iload 4, 2) := dk_21 4 (dk_at dksX3_sheet_5 17 rfl rfl)
theorem dX3_sheet_138 : decode cX3_sheet 138 = .ok (.iadd, 1) := dk_96 (dk_at dksX3_sheet_5 19 rfl rfl)
theorem dX3_sheet_139 : decode cX3_sheet 139 = .ok (.istore 6, 2) := dk_54 6 (dk_at dksX3_sheet_5 20 rfl rfl)
theorem dX3_sheet_141 : decode cX3_sheet 141 = .ok (.iinc 7 1, 3) := dk_132 7 1 (dk_at dksX3_sheet_6 0 rfl rfl)
theorem dX3_sheet_144 : decode cX3_sheet 144 = .ok (.goto (-98), 3) := dk_167 255 158 (dk_at dksX3_sheet_6 3 rfl rfl)
theorem dX3_sheet_147 : decode cX3_sheet 147 = .ok (.iload_n 1, 1) := dk_27 (dk_at dksX3_sheet_6 6 rfl rfl)
theorem dX3_sheet_148 : decode cX3_sheet 148 = .ok (.iconst 3, 1) := dk_6 (dk_at dksX3_sheet_6 7 rfl rfl)
theorem dX3_sheet_149 : decode cX3_sheet 149 = .ok (.if_icmp .ne 8, 3) := dk_160 0 8 (dk_at dksX3_sheet_6 8 rfl rfl)
theorem dX3_sheet_152 : decode cX3_sheet 152 = .ok (.bipush (-3), 2) := dk_16 253 (dk_at dksX3_sheet_6 11 rfl rfl)
theorem dX3_sheet_154 : decode cX3_sheet 154 = .ok (.goto 5, 3) := dk_167 0 5 (dk_at dksX3_sheet_6 13 rfl rfl)
theorem dX3_sheet_157 : decode cX3_sheet 157 = .ok (.iload 5, 2) := dk_21 5 (dk_at dksX3_sheet_6 16 rfl rfl)
theorem dX3_sheet_159 : decode cX3_sheet 159 = .ok (.ireturn, 1) := dk_172 (dk_at dksX3_sheet_6 18 rfl rfl)
abbrev cX3_undo : ByteArray := prog_13_method_51_code
def yX3_undo : MethodName := ⟨RX3, "undo", "()I"⟩
def dkwX3_undo_2 : List UInt8 := [27, 96, 46, 79, 132, 1, 1, 167, 255, 227, 42, 180, 0, 191, 172]
abbrev dktX3_undo_2 : List UInt8 := dkwX3_undo_2 ++ []
def dkwX3_undo_1 : List UInt8 := [3, 60, 27, 16, 43, 162, 0, 29, 42, 180, 0, 36, 27, 42, 180, 0, 60, 16, 43, 42, 180, 0, 191, 104]
abbrev dktX3_undo_1 : List UInt8 := dkwX3_undo_1 ++ dktX3_undo_2
def dkwX3_undo_0 : List UInt8 := [42, 3, 181, 0, 112, 42, 180, 0, 191, 154, 0, 5, 2, 172, 42, 89, 180, 0, 191, 4, 100, 181, 0, 191]
abbrev dktX3_undo_0 : List UInt8 := dkwX3_undo_0 ++ dktX3_undo_1
theorem dksX3_undo_0 : cX3_undo.data.toList.drop 0 = dktX3_undo_0 := by decide +kernel
theorem dksX3_undo_1 : cX3_undo.data.toList.drop 24 = dktX3_undo_1 := dk_seg dksX3_undo_0 24 rfl rfl
theorem dksX3_undo_2 : cX3_undo.data.toList.drop 48 = dktX3_undo_2 := dk_seg dksX3_undo_1 24 rfl rfl
theorem dX3_undo_0 : decode cX3_undo 0 = .ok (.aload_n 0, 1) := dk_42 (dk_at dksX3_undo_0 0 rfl rfl)
theorem dX3_undo_1 : decode cX3_undo 1 = .ok (.iconst 0, 1) := dk_3 (dk_at dksX3_undo_0 1 rfl rfl)
theorem dX3_undo_2 : decode cX3_undo 2 = .ok (.putfield 112, 3) := dk_181 0 112 (dk_at dksX3_undo_0 2 rfl rfl)
theorem dX3_undo_5 : decode cX3_undo 5 = .ok (.aload_n 0, 1) := dk_42 (dk_at dksX3_undo_0 5 rfl rfl)
theorem dX3_undo_6 : decode cX3_undo 6 = .ok (.getfield 191, 3) := dk_180 0 191 (dk_at dksX3_undo_0 6 rfl rfl)
theorem dX3_undo_9 : decode cX3_undo 9 = .ok (.ifCond .ne 5, 3) := dk_154 0 5 (dk_at dksX3_undo_0 9 rfl rfl)
theorem dX3_undo_12 : decode cX3_undo 12 = .ok (.iconst (-1), 1) := dk_2 (dk_at dksX3_undo_0 12 rfl rfl)
theorem dX3_undo_13 : decode cX3_undo 13 = .ok (.ireturn, 1) := dk_172 (dk_at dksX3_undo_0 13 rfl rfl)
theorem dX3_undo_14 : decode cX3_undo 14 = .ok (.aload_n 0, 1) := dk_42 (dk_at dksX3_undo_0 14 rfl rfl)
theorem dX3_undo_15 : decode cX3_undo 15 = .ok (.dup, 1) := dk_89 (dk_at dksX3_undo_0 15 rfl rfl)
theorem dX3_undo_16 : decode cX3_undo 16 = .ok (.getfield 191, 3) := dk_180 0 191 (dk_at dksX3_undo_0 16 rfl rfl)
theorem dX3_undo_19 : decode cX3_undo 19 = .ok (.iconst 1, 1) := dk_4 (dk_at dksX3_undo_0 19 rfl rfl)
theorem dX3_undo_20 : decode cX3_undo 20 = .ok (.isub, 1) := dk_100 (dk_at dksX3_undo_0 20 rfl rfl)
theorem dX3_undo_21 : decode cX3_undo 21 = .ok (.putfield 191, 3) := dk_181 0 191 (dk_at dksX3_undo_0 21 rfl rfl)
theorem dX3_undo_24 : decode cX3_undo 24 = .ok (.iconst 0, 1) := dk_3 (dk_at dksX3_undo_1 0 rfl rfl)
theorem dX3_undo_25 : decode cX3_undo 25 = .ok (.istore_n 1, 1) := dk_60 (dk_at dksX3_undo_1 1 rfl rfl)
theorem dX3_undo_26 : decode cX3_undo 26 = .ok (.iload_n 1, 1) := dk_27 (dk_at dksX3_undo_1 2 rfl rfl)
theorem dX3_undo_27 : decode cX3_undo 27 = .ok (.bipush 43, 2) := dk_16 43 (dk_at dksX3_undo_1 3 rfl rfl)
theorem dX3_undo_29 : decode cX3_undo 29 = .ok (.if_icmp .ge 29, 3) := dk_162 0 29 (dk_at dksX3_undo_1 5 rfl rfl)
theorem dX3_undo_32 : decode cX3_undo 32 = .ok (.aload_n 0, 1) := dk_42 (dk_at dksX3_undo_1 8 rfl rfl)
theorem dX3_undo_33 : decode cX3_undo 33 = .ok (.getfield 36, 3) := dk_180 0 36 (dk_at dksX3_undo_1 9 rfl rfl)
theorem dX3_undo_36 : decode cX3_undo 36 = .ok (.iload_n 1, 1) := dk_27 (dk_at dksX3_undo_1 12 rfl rfl)
theorem dX3_undo_37 : decode cX3_undo 37 = .ok (.aload_n 0, 1) := dk_42 (dk_at dksX3_undo_1 13 rfl rfl)
theorem dX3_undo_38 : decode cX3_undo 38 = .ok (.getfield 60, 3) := dk_180 0 60 (dk_at dksX3_undo_1 14 rfl rfl)
theorem dX3_undo_41 : decode cX3_undo 41 = .ok (.bipush 43, 2) := dk_16 43 (dk_at dksX3_undo_1 17 rfl rfl)
theorem dX3_undo_43 : decode cX3_undo 43 = .ok (.aload_n 0, 1) := dk_42 (dk_at dksX3_undo_1 19 rfl rfl)
theorem dX3_undo_44 : decode cX3_undo 44 = .ok (.getfield 191, 3) := dk_180 0 191 (dk_at dksX3_undo_1 20 rfl rfl)
theorem dX3_undo_47 : decode cX3_undo 47 = .ok (.imul, 1) := dk_104 (dk_at dksX3_undo_1 23 rfl rfl)
theorem dX3_undo_48 : decode cX3_undo 48 = .ok (.iload_n 1, 1) := dk_27 (dk_at dksX3_undo_2 0 rfl rfl)
theorem dX3_undo_49 : decode cX3_undo 49 = .ok (.iadd, 1) := dk_96 (dk_at dksX3_undo_2 1 rfl rfl)
theorem dX3_undo_50 : decode cX3_undo 50 = .ok (.iaload, 1) := dk_46 (dk_at dksX3_undo_2 2 rfl rfl)
theorem dX3_undo_51 : decode cX3_undo 51 = .ok (.iastore, 1) := dk_79 (dk_at dksX3_undo_2 3 rfl rfl)
theorem dX3_undo_52 : decode cX3_undo 52 = .ok (.iinc 1 1, 3) := dk_132 1 1 (dk_at dksX3_undo_2 4 rfl rfl)
theorem dX3_undo_55 : decode cX3_undo 55 = .ok (.goto (-29), 3) := dk_167 255 227 (dk_at dksX3_undo_2 7 rfl rfl)
theorem dX3_undo_58 : decode cX3_undo 58 = .ok (.aload_n 0, 1) := dk_42 (dk_at dksX3_undo_2 10 rfl rfl)
theorem dX3_undo_59 : decode cX3_undo 59 = .ok (.getfield 191, 3) := dk_180 0 191 (dk_at dksX3_undo_2 11 rfl rfl)
theorem dX3_undo_62 : decode cX3_undo 62 = .ok (.ireturn, 1) := dk_172 (dk_at dksX3_undo_2 14 rfl rfl)
abbrev cX3_go : ByteArray := prog_13_method_62_code
def yX3_go : MethodName := ⟨RX3, "go", "(II)I"⟩
def dkwX3_go_0 : List UInt8 := [42, 3, 181, 0, 112, 42, 182, 1, 72, 42, 42, 42, 180, 0, 36, 27, 28, 182, 1, 75, 182, 1, 79, 172]
abbrev dktX3_go_0 : List UInt8 := dkwX3_go_0 ++ []
theorem dksX3_go_0 : cX3_go.data.toList.drop 0 = dktX3_go_0 := by decide +kernel
theorem dX3_go_0 : decode cX3_go 0 = .ok (.aload_n 0, 1) := dk_42 (dk_at dksX3_go_0 0 rfl rfl)
theorem dX3_go_1 : decode cX3_go 1 = .ok (.iconst 0, 1) := dk_3 (dk_at dksX3_go_0 1 rfl rfl)
theorem dX3_go_2 : decode cX3_go 2 = .ok (.putfield 112, 3) := dk_181 0 112 (dk_at dksX3_go_0 2 rfl rfl)
theorem dX3_go_5 : decode cX3_go 5 = .ok (.aload_n 0, 1) := dk_42 (dk_at dksX3_go_0 5 rfl rfl)
theorem dX3_go_6 : decode cX3_go 6 = .ok (.invokevirtual 328, 3) := dk_182 1 72 (dk_at dksX3_go_0 6 rfl rfl)
theorem dX3_go_9 : decode cX3_go 9 = .ok (.aload_n 0, 1) := dk_42 (dk_at dksX3_go_0 9 rfl rfl)
theorem dX3_go_10 : decode cX3_go 10 = .ok (.aload_n 0, 1) := dk_42 (dk_at dksX3_go_0 10 rfl rfl)
theorem dX3_go_11 : decode cX3_go 11 = .ok (.aload_n 0, 1) := dk_42 (dk_at dksX3_go_0 11 rfl rfl)
theorem dX3_go_12 : decode cX3_go 12 = .ok (.getfield 36, 3) := dk_180 0 36 (dk_at dksX3_go_0 12 rfl rfl)
theorem dX3_go_15 : decode cX3_go 15 = .ok (.iload_n 1, 1) := dk_27 (dk_at dksX3_go_0 15 rfl rfl)
theorem dX3_go_16 : decode cX3_go 16 = .ok (.iload_n 2, 1) := dk_28 (dk_at dksX3_go_0 16 rfl rfl)
theorem dX3_go_17 : decode cX3_go 17 = .ok (.invokevirtual 331, 3) := dk_182 1 75 (dk_at dksX3_go_0 17 rfl rfl)
theorem dX3_go_20 : decode cX3_go 20 = .ok (.invokevirtual 335, 3) := dk_182 1 79 (dk_at dksX3_go_0 20 rfl rfl)
theorem dX3_go_23 : decode cX3_go 23 = .ok (.ireturn, 1) := dk_172 (dk_at dksX3_go_0 23 rfl rfl)
abbrev cX3_putsBy : ByteArray := prog_13_method_48_code
def yX3_putsBy : MethodName := ⟨RX3, "putsBy", "()V"⟩
def dkwX3_putsBy_1 : List UInt8 := [180, 0, 36, 27, 46, 79, 132, 1, 1, 167, 255, 227, 177]
abbrev dktX3_putsBy_1 : List UInt8 := dkwX3_putsBy_1 ++ []
def dkwX3_putsBy_0 : List UInt8 := [3, 60, 27, 16, 43, 162, 0, 29, 42, 180, 0, 60, 16, 43, 42, 180, 0, 191, 104, 27, 96, 42]
abbrev dktX3_putsBy_0 : List UInt8 := dkwX3_putsBy_0 ++ dktX3_putsBy_1
theorem dksX3_putsBy_0 : cX3_putsBy.data.toList.drop 0 = dktX3_putsBy_0 := by decide +kernel
theorem dksX3_putsBy_1 : cX3_putsBy.data.toList.drop 22 = dktX3_putsBy_1 := dk_seg dksX3_putsBy_0 22 rfl rfl
theorem dX3_putsBy_0 : decode cX3_putsBy 0 = .ok (.iconst 0, 1) := dk_3 (dk_at dksX3_putsBy_0 0 rfl rfl)
theorem dX3_putsBy_1 : decode cX3_putsBy 1 = .ok (.istore_n 1, 1) := dk_60 (dk_at dksX3_putsBy_0 1 rfl rfl)
theorem dX3_putsBy_2 : decode cX3_putsBy 2 = .ok (.iload_n 1, 1) := dk_27 (dk_at dksX3_putsBy_0 2 rfl rfl)
theorem dX3_putsBy_3 : decode cX3_putsBy 3 = .ok (.bipush 43, 2) := dk_16 43 (dk_at dksX3_putsBy_0 3 rfl rfl)
theorem dX3_putsBy_5 : decode cX3_putsBy 5 = .ok (.if_icmp .ge 29, 3) := dk_162 0 29 (dk_at dksX3_putsBy_0 5 rfl rfl)
theorem dX3_putsBy_8 : decode cX3_putsBy 8 = .ok (.aload_n 0, 1) := dk_42 (dk_at dksX3_putsBy_0 8 rfl rfl)
theorem dX3_putsBy_9 : decode cX3_putsBy 9 = .ok (.getfield 60, 3) := dk_180 0 60 (dk_at dksX3_putsBy_0 9 rfl rfl)
theorem dX3_putsBy_12 : decode cX3_putsBy 12 = .ok (.bipush 43, 2) := dk_16 43 (dk_at dksX3_putsBy_0 12 rfl rfl)
theorem dX3_putsBy_14 : decode cX3_putsBy 14 = .ok (.aload_n 0, 1) := dk_42 (dk_at dksX3_putsBy_0 14 rfl rfl)
theorem dX3_putsBy_15 : decode cX3_putsBy 15 = .ok (.getfield 191, 3) := dk_180 0 191 (dk_at dksX3_putsBy_0 15 rfl rfl)
theorem dX3_putsBy_18 : decode cX3_putsBy 18 = .ok (.imul, 1) := dk_104 (dk_at dksX3_putsBy_0 18 rfl rfl)
theorem dX3_putsBy_19 : decode cX3_putsBy 19 = .ok (.iload_n 1, 1) := dk_27 (dk_at dksX3_putsBy_0 19 rfl rfl)
theorem dX3_putsBy_20 : decode cX3_putsBy 20 = .ok (.iadd, 1) := dk_96 (dk_at dksX3_putsBy_0 20 rfl rfl)
theorem dX3_putsBy_21 : decode cX3_putsBy 21 = .ok (.aload_n 0, 1) := dk_42 (dk_at dksX3_putsBy_0 21 rfl rfl)
theorem dX3_putsBy_22 : decode cX3_putsBy 22 = .ok (.getfield 36, 3) := dk_180 0 36 (dk_at dksX3_putsBy_1 0 rfl rfl)
theorem dX3_putsBy_25 : decode cX3_putsBy 25 = .ok (.iload_n 1, 1) := dk_27 (dk_at dksX3_putsBy_1 3 rfl rfl)
theorem dX3_putsBy_26 : decode cX3_putsBy 26 = .ok (.iaload, 1) := dk_46 (dk_at dksX3_putsBy_1 4 rfl rfl)
theorem dX3_putsBy_27 : decode cX3_putsBy 27 = .ok (.iastore, 1) := dk_79 (dk_at dksX3_putsBy_1 5 rfl rfl)
theorem dX3_putsBy_28 : decode cX3_putsBy 28 = .ok (.iinc 1 1, 3) := dk_132 1 1 (dk_at dksX3_putsBy_1 6 rfl rfl)
theorem dX3_putsBy_31 : decode cX3_putsBy 31 = .ok (.goto (-29), 3) := dk_167 255 227 (dk_at dksX3_putsBy_1 9 rfl rfl)
theorem dX3_putsBy_34 : decode cX3_putsBy 34 = .ok (.return_, 1) := dk_177 (dk_at dksX3_putsBy_1 12 rfl rfl)
abbrev cX3_goes : ByteArray := prog_13_method_57_code
def yX3_goes : MethodName := ⟨RX3, "goes", "([III)I"⟩
def dkwX3_goes_2 : List UInt8 := [16, 25, 5, 28, 104, 96, 3, 96, 29, 79, 21, 4, 4, 96, 172]
abbrev dktX3_goes_2 : List UInt8 := dkwX3_goes_2 ++ []
def dkwX3_goes_1 : List UInt8 := [54, 4, 43, 28, 184, 1, 21, 154, 0, 6, 16, 254, 172, 21, 4, 29, 160, 0, 6, 16, 253, 172, 43]
abbrev dktX3_goes_1 : List UInt8 := dkwX3_goes_1 ++ dktX3_goes_2
def dkwX3_goes_0 : List UInt8 := [42, 28, 182, 1, 38, 153, 0, 11, 42, 29, 182, 1, 24, 154, 0, 5, 2, 172, 43, 28, 184, 0, 129]
abbrev dktX3_goes_0 : List UInt8 := dkwX3_goes_0 ++ dktX3_goes_1
theorem dksX3_goes_0 : cX3_goes.data.toList.drop 0 = dktX3_goes_0 := by decide +kernel
theorem dksX3_goes_1 : cX3_goes.data.toList.drop 23 = dktX3_goes_1 := dk_seg dksX3_goes_0 23 rfl rfl
theorem dksX3_goes_2 : cX3_goes.data.toList.drop 46 = dktX3_goes_2 := dk_seg dksX3_goes_1 23 rfl rfl
theorem dX3_goes_0 : decode cX3_goes 0 = .ok (.aload_n 0, 1) := dk_42 (dk_at dksX3_goes_0 0 rfl rfl)
theorem dX3_goes_1 : decode cX3_goes 1 = .ok (.iload_n 2, 1) := dk_28 (dk_at dksX3_goes_0 1 rfl rfl)
theorem dX3_goes_2 : decode cX3_goes 2 = .ok (.invokevirtual 294, 3) := dk_182 1 38 (dk_at dksX3_goes_0 2 rfl rfl)
theorem dX3_goes_5 : decode cX3_goes 5 = .ok (.ifCond .eq 11, 3) := dk_153 0 11 (dk_at dksX3_goes_0 5 rfl rfl)
theorem dX3_goes_8 : decode cX3_goes 8 = .ok (.aload_n 0, 1) := dk_42 (dk_at dksX3_goes_0 8 rfl rfl)
theorem dX3_goes_9 : decode cX3_goes 9 = .ok (.iload_n 3, 1) := dk_29 (dk_at dksX3_goes_0 9 rfl rfl)
theorem dX3_goes_10 : decode cX3_goes 10 = .ok (.invokevirtual 280, 3) := dk_182 1 24 (dk_at dksX3_goes_0 10 rfl rfl)
theorem dX3_goes_13 : decode cX3_goes 13 = .ok (.ifCond .ne 5, 3) := dk_154 0 5 (dk_at dksX3_goes_0 13 rfl rfl)
theorem dX3_goes_16 : decode cX3_goes 16 = .ok (.iconst (-1), 1) := dk_2 (dk_at dksX3_goes_0 16 rfl rfl)
theorem dX3_goes_17 : decode cX3_goes 17 = .ok (.ireturn, 1) := dk_172 (dk_at dksX3_goes_0 17 rfl rfl)
theorem dX3_goes_18 : decode cX3_goes 18 = .ok (.aload_n 1, 1) := dk_43 (dk_at dksX3_goes_0 18 rfl rfl)
theorem dX3_goes_19 : decode cX3_goes 19 = .ok (.iload_n 2, 1) := dk_28 (dk_at dksX3_goes_0 19 rfl rfl)
theorem dX3_goes_20 : decode cX3_goes 20 = .ok (.invokestatic 129, 3) := dk_184 0 129 (dk_at dksX3_goes_0 20 rfl rfl)
theorem dX3_goes_23 : decode cX3_goes 23 = .ok (.istore 4, 2) := dk_54 4 (dk_at dksX3_goes_1 0 rfl rfl)
theorem dX3_goes_25 : decode cX3_goes 25 = .ok (.aload_n 1, 1) := dk_43 (dk_at dksX3_goes_1 2 rfl rfl)
theorem dX3_goes_26 : decode cX3_goes 26 = .ok (.iload_n 2, 1) := dk_28 (dk_at dksX3_goes_1 3 rfl rfl)
theorem dX3_goes_27 : decode cX3_goes 27 = .ok (.invokestatic 277, 3) := dk_184 1 21 (dk_at dksX3_goes_1 4 rfl rfl)
theorem dX3_goes_30 : decode cX3_goes 30 = .ok (.ifCond .ne 6, 3) := dk_154 0 6 (dk_at dksX3_goes_1 7 rfl rfl)
theorem dX3_goes_33 : decode cX3_goes 33 = .ok (.bipush (-2), 2) := dk_16 254 (dk_at dksX3_goes_1 10 rfl rfl)
theorem dX3_goes_35 : decode cX3_goes 35 = .ok (.ireturn, 1) := dk_172 (dk_at dksX3_goes_1 12 rfl rfl)
theorem dX3_goes_36 : decode cX3_goes 36 = .ok (.iload 4, 2) := dk_21 4 (dk_at dksX3_goes_1 13 rfl rfl)
theorem dX3_goes_38 : decode cX3_goes 38 = .ok (.iload_n 3, 1) := dk_29 (dk_at dksX3_goes_1 15 rfl rfl)
theorem dX3_goes_39 : decode cX3_goes 39 = .ok (.if_icmp .ne 6, 3) := dk_160 0 6 (dk_at dksX3_goes_1 16 rfl rfl)
theorem dX3_goes_42 : decode cX3_goes 42 = .ok (.bipush (-3), 2) := dk_16 253 (dk_at dksX3_goes_1 19 rfl rfl)
theorem dX3_goes_44 : decode cX3_goes 44 = .ok (.ireturn, 1) := dk_172 (dk_at dksX3_goes_1 21 rfl rfl)
theorem dX3_goes_45 : decode cX3_goes 45 = .ok (.aload_n 1, 1) := dk_43 (dk_at dksX3_goes_1 22 rfl rfl)
theorem dX3_goes_46 : decode cX3_goes 46 = .ok (.bipush 25, 2) := dk_16 25 (dk_at dksX3_goes_2 0 rfl rfl)
theorem dX3_goes_48 : decode cX3_goes 48 = .ok (.iconst 2, 1) := dk_5 (dk_at dksX3_goes_2 2 rfl rfl)
theorem dX3_goes_49 : decode cX3_goes 49 = .ok (.iload_n 2, 1) := dk_28 (dk_at dksX3_goes_2 3 rfl rfl)
theorem dX3_goes_50 : decode cX3_goes 50 = .ok (.imul, 1) := dk_104 (dk_at dksX3_goes_2 4 rfl rfl)
theorem dX3_goes_51 : decode cX3_goes 51 = .ok (.iadd, 1) := dk_96 (dk_at dksX3_goes_2 5 rfl rfl)
theorem dX3_goes_52 : decode cX3_goes 52 = .ok (.iconst 0, 1) := dk_3 (dk_at dksX3_goes_2 6 rfl rfl)
theorem dX3_goes_53 : decode cX3_goes 53 = .ok (.iadd, 1) := dk_96 (dk_at dksX3_goes_2 7 rfl rfl)
theorem dX3_goes_54 : decode cX3_goes 54 = .ok (.iload_n 3, 1) := dk_29 (dk_at dksX3_goes_2 8 rfl rfl)
theorem dX3_goes_55 : decode cX3_goes 55 = .ok (.iastore, 1) := dk_79 (dk_at dksX3_goes_2 9 rfl rfl)
theorem dX3_goes_56 : decode cX3_goes 56 = .ok (.iload 4, 2) := dk_21 4 (dk_at dksX3_goes_2 10 rfl rfl)
theorem dX3_goes_58 : decode cX3_goes 58 = .ok (.iconst 1, 1) := dk_4 (dk_at dksX3_goes_2 12 rfl rfl)
theorem dX3_goes_59 : decode cX3_goes 59 = .ok (.iadd, 1) := dk_96 (dk_at dksX3_goes_2 13 rfl rfl)
theorem dX3_goes_60 : decode cX3_goes 60 = .ok (.ireturn, 1) := dk_172 (dk_at dksX3_goes_2 14 rfl rfl)
abbrev cX3_counts : ByteArray := prog_13_method_50_code
def yX3_counts : MethodName := ⟨RX3, "counts", "(I)I"⟩
def dkwX3_counts_0 : List UInt8 := [27, 156, 0, 7, 27, 167, 0, 8, 42, 27, 182, 1, 50, 172]
abbrev dktX3_counts_0 : List UInt8 := dkwX3_counts_0 ++ []
theorem dksX3_counts_0 : cX3_counts.data.toList.drop 0 = dktX3_counts_0 := by decide +kernel
theorem dX3_counts_0 : decode cX3_counts 0 = .ok (.iload_n 1, 1) := dk_27 (dk_at dksX3_counts_0 0 rfl rfl)
theorem dX3_counts_1 : decode cX3_counts 1 = .ok (.ifCond .ge 7, 3) := dk_156 0 7 (dk_at dksX3_counts_0 1 rfl rfl)
theorem dX3_counts_4 : decode cX3_counts 4 = .ok (.iload_n 1, 1) := dk_27 (dk_at dksX3_counts_0 4 rfl rfl)
theorem dX3_counts_5 : decode cX3_counts 5 = .ok (.goto 8, 3) := dk_167 0 8 (dk_at dksX3_counts_0 5 rfl rfl)
theorem dX3_counts_8 : decode cX3_counts 8 = .ok (.aload_n 0, 1) := dk_42 (dk_at dksX3_counts_0 8 rfl rfl)
theorem dX3_counts_9 : decode cX3_counts 9 = .ok (.iload_n 1, 1) := dk_27 (dk_at dksX3_counts_0 9 rfl rfl)
theorem dX3_counts_10 : decode cX3_counts 10 = .ok (.invokevirtual 306, 3) := dk_182 1 50 (dk_at dksX3_counts_0 10 rfl rfl)
theorem dX3_counts_13 : decode cX3_counts 13 = .ok (.ireturn, 1) := dk_172 (dk_at dksX3_counts_0 13 rfl rfl)
abbrev cX3_adds : ByteArray := prog_13_method_49_code
def yX3_adds : MethodName := ⟨RX3, "adds", "(I)I"⟩
def dkwX3_adds_2 : List UInt8 := [167, 255, 231, 42, 89, 180, 0, 191, 4, 100, 181, 0, 191, 27, 172]
abbrev dktX3_adds_2 : List UInt8 := dkwX3_adds_2 ++ []
def dkwX3_adds_1 : List UInt8 := [17, 2, 133, 162, 0, 24, 42, 180, 0, 60, 28, 42, 180, 0, 60, 28, 16, 43, 96, 46, 79, 132, 2, 1]
abbrev dktX3_adds_1 : List UInt8 := dkwX3_adds_1 ++ dktX3_adds_2
def dkwX3_adds_0 : List UInt8 := [42, 89, 180, 0, 191, 4, 96, 181, 0, 191, 42, 180, 0, 191, 16, 15, 164, 0, 43, 3, 61, 28]
abbrev dktX3_adds_0 : List UInt8 := dkwX3_adds_0 ++ dktX3_adds_1
theorem dksX3_adds_0 : cX3_adds.data.toList.drop 0 = dktX3_adds_0 := by decide +kernel
theorem dksX3_adds_1 : cX3_adds.data.toList.drop 22 = dktX3_adds_1 := dk_seg dksX3_adds_0 22 rfl rfl
theorem dksX3_adds_2 : cX3_adds.data.toList.drop 46 = dktX3_adds_2 := dk_seg dksX3_adds_1 24 rfl rfl
theorem dX3_adds_0 : decode cX3_adds 0 = .ok (.aload_n 0, 1) := dk_42 (dk_at dksX3_adds_0 0 rfl rfl)
theorem dX3_adds_1 : decode cX3_adds 1 = .ok (.dup, 1) := dk_89 (dk_at dksX3_adds_0 1 rfl rfl)
theorem dX3_adds_2 : decode cX3_adds 2 = .ok (.getfield 191, 3) := dk_180 0 191 (dk_at dksX3_adds_0 2 rfl rfl)
theorem dX3_adds_5 : decode cX3_adds 5 = .ok (.iconst 1, 1) := dk_4 (dk_at dksX3_adds_0 5 rfl rfl)
theorem dX3_adds_6 : decode cX3_adds 6 = .ok (.iadd, 1) := dk_96 (dk_at dksX3_adds_0 6 rfl rfl)
theorem dX3_adds_7 : decode cX3_adds 7 = .ok (.putfield 191, 3) := dk_181 0 191 (dk_at dksX3_adds_0 7 rfl rfl)
theorem dX3_adds_10 : decode cX3_adds 10 = .ok (.aload_n 0, 1) := dk_42 (dk_at dksX3_adds_0 10 rfl rfl)
theorem dX3_adds_11 : decode cX3_adds 11 = .ok (.getfield 191, 3) := dk_180 0 191 (dk_at dksX3_adds_0 11 rfl rfl)
theorem dX3_adds_14 : decode cX3_adds 14 = .ok (.bipush 15, 2) := dk_16 15 (dk_at dksX3_adds_0 14 rfl rfl)
theorem dX3_adds_16 : decode cX3_adds 16 = .ok (.if_icmp .le 43, 3) := dk_164 0 43 (dk_at dksX3_adds_0 16 rfl rfl)
theorem dX3_adds_19 : decode cX3_adds 19 = .ok (.iconst 0, 1) := dk_3 (dk_at dksX3_adds_0 19 rfl rfl)
theorem dX3_adds_20 : decode cX3_adds 20 = .ok (.istore_n 2, 1) := dk_61 (dk_at dksX3_adds_0 20 rfl rfl)
theorem dX3_adds_21 : decode cX3_adds 21 = .ok (.iload_n 2, 1) := dk_28 (dk_at dksX3_adds_0 21 rfl rfl)
theorem dX3_adds_22 : decode cX3_adds 22 = .ok (.sipush 645, 3) := dk_17 2 133 (dk_at dksX3_adds_1 0 rfl rfl)
theorem dX3_adds_25 : decode cX3_adds 25 = .ok (.if_icmp .ge 24, 3) := dk_162 0 24 (dk_at dksX3_adds_1 3 rfl rfl)
theorem dX3_adds_28 : decode cX3_adds 28 = .ok (.aload_n 0, 1) := dk_42 (dk_at dksX3_adds_1 6 rfl rfl)
theorem dX3_adds_29 : decode cX3_adds 29 = .ok (.getfield 60, 3) := dk_180 0 60 (dk_at dksX3_adds_1 7 rfl rfl)
theorem dX3_adds_32 : decode cX3_adds 32 = .ok (.iload_n 2, 1) := dk_28 (dk_at dksX3_adds_1 10 rfl rfl)
theorem dX3_adds_33 : decode cX3_adds 33 = .ok (.aload_n 0, 1) := dk_42 (dk_at dksX3_adds_1 11 rfl rfl)
theorem dX3_adds_34 : decode cX3_adds 34 = .ok (.getfield 60, 3) := dk_180 0 60 (dk_at dksX3_adds_1 12 rfl rfl)
theorem dX3_adds_37 : decode cX3_adds 37 = .ok (.iload_n 2, 1) := dk_28 (dk_at dksX3_adds_1 15 rfl rfl)
theorem dX3_adds_38 : decode cX3_adds 38 = .ok (.bipush 43, 2) := dk_16 43 (dk_at dksX3_adds_1 16 rfl rfl)
theorem dX3_adds_40 : decode cX3_adds 40 = .ok (.iadd, 1) := dk_96 (dk_at dksX3_adds_1 18 rfl rfl)
theorem dX3_adds_41 : decode cX3_adds 41 = .ok (.iaload, 1) := dk_46 (dk_at dksX3_adds_1 19 rfl rfl)
theorem dX3_adds_42 : decode cX3_adds 42 = .ok (.iastore, 1) := dk_79 (dk_at dksX3_adds_1 20 rfl rfl)
theorem dX3_adds_43 : decode cX3_adds 43 = .ok (.iinc 2 1, 3) := dk_132 2 1 (dk_at dksX3_adds_1 21 rfl rfl)
theorem dX3_adds_46 : decode cX3_adds 46 = .ok (.goto (-25), 3) := dk_167 255 231 (dk_at dksX3_adds_2 0 rfl rfl)
theorem dX3_adds_49 : decode cX3_adds 49 = .ok (.aload_n 0, 1) := dk_42 (dk_at dksX3_adds_2 3 rfl rfl)
theorem dX3_adds_50 : decode cX3_adds 50 = .ok (.dup, 1) := dk_89 (dk_at dksX3_adds_2 4 rfl rfl)
theorem dX3_adds_51 : decode cX3_adds 51 = .ok (.getfield 191, 3) := dk_180 0 191 (dk_at dksX3_adds_2 5 rfl rfl)
theorem dX3_adds_54 : decode cX3_adds 54 = .ok (.iconst 1, 1) := dk_4 (dk_at dksX3_adds_2 8 rfl rfl)
theorem dX3_adds_55 : decode cX3_adds 55 = .ok (.isub, 1) := dk_100 (dk_at dksX3_adds_2 9 rfl rfl)
theorem dX3_adds_56 : decode cX3_adds 56 = .ok (.putfield 191, 3) := dk_181 0 191 (dk_at dksX3_adds_2 10 rfl rfl)
theorem dX3_adds_59 : decode cX3_adds 59 = .ok (.iload_n 1, 1) := dk_27 (dk_at dksX3_adds_2 13 rfl rfl)
theorem dX3_adds_60 : decode cX3_adds 60 = .ok (.ireturn, 1) := dk_172 (dk_at dksX3_adds_2 14 rfl rfl)
abbrev cX3_home : ByteArray := prog_13_method_63_code
def yX3_home : MethodName := ⟨RX3, "home", "(I)I"⟩
def dkwX3_home_0 : List UInt8 := [42, 3, 181, 0, 112, 42, 182, 1, 72, 42, 42, 27, 182, 1, 82, 182, 1, 79, 172]
abbrev dktX3_home_0 : List UInt8 := dkwX3_home_0 ++ []
theorem dksX3_home_0 : cX3_home.data.toList.drop 0 = dktX3_home_0 := by decide +kernel
theorem dX3_home_0 : decode cX3_home 0 = .ok (.aload_n 0, 1) := dk_42 (dk_at dksX3_home_0 0 rfl rfl)
theorem dX3_home_1 : decode cX3_home 1 = .ok (.iconst 0, 1) := dk_3 (dk_at dksX3_home_0 1 rfl rfl)
theorem dX3_home_2 : decode cX3_home 2 = .ok (.putfield 112, 3) := dk_181 0 112 (dk_at dksX3_home_0 2 rfl rfl)
theorem dX3_home_5 : decode cX3_home 5 = .ok (.aload_n 0, 1) := dk_42 (dk_at dksX3_home_0 5 rfl rfl)
theorem dX3_home_6 : decode cX3_home 6 = .ok (.invokevirtual 328, 3) := dk_182 1 72 (dk_at dksX3_home_0 6 rfl rfl)
theorem dX3_home_9 : decode cX3_home 9 = .ok (.aload_n 0, 1) := dk_42 (dk_at dksX3_home_0 9 rfl rfl)
theorem dX3_home_10 : decode cX3_home 10 = .ok (.aload_n 0, 1) := dk_42 (dk_at dksX3_home_0 10 rfl rfl)
theorem dX3_home_11 : decode cX3_home 11 = .ok (.iload_n 1, 1) := dk_27 (dk_at dksX3_home_0 11 rfl rfl)
theorem dX3_home_12 : decode cX3_home 12 = .ok (.invokevirtual 338, 3) := dk_182 1 82 (dk_at dksX3_home_0 12 rfl rfl)
theorem dX3_home_15 : decode cX3_home 15 = .ok (.invokevirtual 335, 3) := dk_182 1 79 (dk_at dksX3_home_0 15 rfl rfl)
theorem dX3_home_18 : decode cX3_home 18 = .ok (.ireturn, 1) := dk_172 (dk_at dksX3_home_0 18 rfl rfl)
abbrev cX3_goesHome : ByteArray := prog_13_method_58_code
def yX3_goesHome : MethodName := ⟨RX3, "goesHome", "(I)I"⟩
def dkwX3_goesHome_1 : List UInt8 := [16, 25, 5, 27, 104, 96, 3, 96, 2, 79, 28, 156, 0, 8, 16, 254, 167, 0, 4, 28, 172]
abbrev dktX3_goesHome_1 : List UInt8 := dkwX3_goesHome_1 ++ []
def dkwX3_goesHome_0 : List UInt8 := [42, 27, 182, 1, 38, 154, 0, 5, 2, 172, 42, 180, 0, 36, 27, 184, 0, 129, 61, 42, 180, 0, 36]
abbrev dktX3_goesHome_0 : List UInt8 := dkwX3_goesHome_0 ++ dktX3_goesHome_1
theorem dksX3_goesHome_0 : cX3_goesHome.data.toList.drop 0 = dktX3_goesHome_0 := by decide +kernel
theorem dksX3_goesHome_1 : cX3_goesHome.data.toList.drop 23 = dktX3_goesHome_1 := dk_seg dksX3_goesHome_0 23 rfl rfl
theorem dX3_goesHome_0 : decode cX3_goesHome 0 = .ok (.aload_n 0, 1) := dk_42 (dk_at dksX3_goesHome_0 0 rfl rfl)
theorem dX3_goesHome_1 : decode cX3_goesHome 1 = .ok (.iload_n 1, 1) := dk_27 (dk_at dksX3_goesHome_0 1 rfl rfl)
theorem dX3_goesHome_2 : decode cX3_goesHome 2 = .ok (.invokevirtual 294, 3) := dk_182 1 38 (dk_at dksX3_goesHome_0 2 rfl rfl)
theorem dX3_goesHome_5 : decode cX3_goesHome 5 = .ok (.ifCond .ne 5, 3) := dk_154 0 5 (dk_at dksX3_goesHome_0 5 rfl rfl)
theorem dX3_goesHome_8 : decode cX3_goesHome 8 = .ok (.iconst (-1), 1) := dk_2 (dk_at dksX3_goesHome_0 8 rfl rfl)
theorem dX3_goesHome_9 : decode cX3_goesHome 9 = .ok (.ireturn, 1) := dk_172 (dk_at dksX3_goesHome_0 9 rfl rfl)
theorem dX3_goesHome_10 : decode cX3_goesHome 10 = .ok (.aload_n 0, 1) := dk_42 (dk_at dksX3_goesHome_0 10 rfl rfl)
theorem dX3_goesHome_11 : decode cX3_goesHome 11 = .ok (.getfield 36, 3) := dk_180 0 36 (dk_at dksX3_goesHome_0 11 rfl rfl)
theorem dX3_goesHome_14 : decode cX3_goesHome 14 = .ok (.iload_n 1, 1) := dk_27 (dk_at dksX3_goesHome_0 14 rfl rfl)
theorem dX3_goesHome_15 : decode cX3_goesHome 15 = .ok (.invokestatic 129, 3) := dk_184 0 129 (dk_at dksX3_goesHome_0 15 rfl rfl)
theorem dX3_goesHome_18 : decode cX3_goesHome 18 = .ok (.istore_n 2, 1) := dk_61 (dk_at dksX3_goesHome_0 18 rfl rfl)
theorem dX3_goesHome_19 : decode cX3_goesHome 19 = .ok (.aload_n 0, 1) := dk_42 (dk_at dksX3_goesHome_0 19 rfl rfl)
theorem dX3_goesHome_20 : decode cX3_goesHome 20 = .ok (.getfield 36, 3) := dk_180 0 36 (dk_at dksX3_goesHome_0 20 rfl rfl)
theorem dX3_goesHome_23 : decode cX3_goesHome 23 = .ok (.bipush 25, 2) := dk_16 25 (dk_at dksX3_goesHome_1 0 rfl rfl)
theorem dX3_goesHome_25 : decode cX3_goesHome 25 = .ok (.iconst 2, 1) := dk_5 (dk_at dksX3_goesHome_1 2 rfl rfl)
theorem dX3_goesHome_26 : decode cX3_goesHome 26 = .ok (.iload_n 1, 1) := dk_27 (dk_at dksX3_goesHome_1 3 rfl rfl)
theorem dX3_goesHome_27 : decode cX3_goesHome 27 = .ok (.imul, 1) := dk_104 (dk_at dksX3_goesHome_1 4 rfl rfl)
theorem dX3_goesHome_28 : decode cX3_goesHome 28 = .ok (.iadd, 1) := dk_96 (dk_at dksX3_goesHome_1 5 rfl rfl)
theorem dX3_goesHome_29 : decode cX3_goesHome 29 = .ok (.iconst 0, 1) := dk_3 (dk_at dksX3_goesHome_1 6 rfl rfl)
theorem dX3_goesHome_30 : decode cX3_goesHome 30 = .ok (.iadd, 1) := dk_96 (dk_at dksX3_goesHome_1 7 rfl rfl)
theorem dX3_goesHome_31 : decode cX3_goesHome 31 = .ok (.iconst (-1), 1) := dk_2 (dk_at dksX3_goesHome_1 8 rfl rfl)
theorem dX3_goesHome_32 : decode cX3_goesHome 32 = .ok (.iastore, 1) := dk_79 (dk_at dksX3_goesHome_1 9 rfl rfl)
theorem dX3_goesHome_33 : decode cX3_goesHome 33 = .ok (.iload_n 2, 1) := dk_28 (dk_at dksX3_goesHome_1 10 rfl rfl)
theorem dX3_goesHome_34 : decode cX3_goesHome 34 = .ok (.ifCond .ge 8, 3) := dk_156 0 8 (dk_at dksX3_goesHome_1 11 rfl rfl)
theorem dX3_goesHome_37 : decode cX3_goesHome 37 = .ok (.bipush (-2), 2) := dk_16 254 (dk_at dksX3_goesHome_1 14 rfl rfl)
theorem dX3_goesHome_39 : decode cX3_goesHome 39 = .ok (.goto 4, 3) := dk_167 0 4 (dk_at dksX3_goesHome_1 16 rfl rfl)
theorem dX3_goesHome_42 : decode cX3_goesHome 42 = .ok (.iload_n 2, 1) := dk_28 (dk_at dksX3_goesHome_1 19 rfl rfl)
theorem dX3_goesHome_43 : decode cX3_goesHome 43 = .ok (.ireturn, 1) := dk_172 (dk_at dksX3_goesHome_1 20 rfl rfl)
abbrev cX3_spade : ByteArray := prog_13_method_64_code
def yX3_spade : MethodName := ⟨RX3, "spade", "(I)I"⟩
def dkwX3_spade_0 : List UInt8 := [42, 3, 181, 0, 112, 42, 182, 1, 72, 42, 42, 27, 182, 1, 85, 182, 1, 79, 172]
abbrev dktX3_spade_0 : List UInt8 := dkwX3_spade_0 ++ []
theorem dksX3_spade_0 : cX3_spade.data.toList.drop 0 = dktX3_spade_0 := by decide +kernel
theorem dX3_spade_0 : decode cX3_spade 0 = .ok (.aload_n 0, 1) := dk_42 (dk_at dksX3_spade_0 0 rfl rfl)
theorem dX3_spade_1 : decode cX3_spade 1 = .ok (.iconst 0, 1) := dk_3 (dk_at dksX3_spade_0 1 rfl rfl)
theorem dX3_spade_2 : decode cX3_spade 2 = .ok (.putfield 112, 3) := dk_181 0 112 (dk_at dksX3_spade_0 2 rfl rfl)
theorem dX3_spade_5 : decode cX3_spade 5 = .ok (.aload_n 0, 1) := dk_42 (dk_at dksX3_spade_0 5 rfl rfl)
theorem dX3_spade_6 : decode cX3_spade 6 = .ok (.invokevirtual 328, 3) := dk_182 1 72 (dk_at dksX3_spade_0 6 rfl rfl)
theorem dX3_spade_9 : decode cX3_spade 9 = .ok (.aload_n 0, 1) := dk_42 (dk_at dksX3_spade_0 9 rfl rfl)
theorem dX3_spade_10 : decode cX3_spade 10 = .ok (.aload_n 0, 1) := dk_42 (dk_at dksX3_spade_0 10 rfl rfl)
theorem dX3_spade_11 : decode cX3_spade 11 = .ok (.iload_n 1, 1) := dk_27 (dk_at dksX3_spade_0 11 rfl rfl)
theorem dX3_spade_12 : decode cX3_spade 12 = .ok (.invokevirtual 341, 3) := dk_182 1 85 (dk_at dksX3_spade_0 12 rfl rfl)
theorem dX3_spade_15 : decode cX3_spade 15 = .ok (.invokevirtual 335, 3) := dk_182 1 79 (dk_at dksX3_spade_0 15 rfl rfl)
theorem dX3_spade_18 : decode cX3_spade 18 = .ok (.ireturn, 1) := dk_172 (dk_at dksX3_spade_0 18 rfl rfl)
abbrev cX3_spadeFor : ByteArray := prog_13_method_59_code
def yX3_spadeFor : MethodName := ⟨RX3, "spadeFor", "(I)I"⟩
def dkwX3_spadeFor_2 : List UInt8 := [180, 0, 36, 16, 41, 92, 46, 4, 27, 120, 130, 79, 42, 180, 0, 36, 16, 41, 46, 184, 0, 251, 172]
abbrev dktX3_spadeFor_2 : List UInt8 := dkwX3_spadeFor_2 ++ []
def dkwX3_spadeFor_1 : List UInt8 := [42, 180, 0, 36, 16, 41, 46, 184, 0, 251, 42, 180, 0, 33, 4, 46, 161, 0, 6, 16, 254, 172, 42]
abbrev dktX3_spadeFor_1 : List UInt8 := dkwX3_spadeFor_1 ++ dktX3_spadeFor_2
def dkwX3_spadeFor_0 : List UInt8 := [42, 27, 182, 1, 38, 154, 0, 5, 2, 172, 42, 180, 0, 36, 16, 41, 46, 27, 184, 1, 13, 154, 0, 25]
abbrev dktX3_spadeFor_0 : List UInt8 := dkwX3_spadeFor_0 ++ dktX3_spadeFor_1
theorem dksX3_spadeFor_0 : cX3_spadeFor.data.toList.drop 0 = dktX3_spadeFor_0 := by decide +kernel
theorem dksX3_spadeFor_1 : cX3_spadeFor.data.toList.drop 24 = dktX3_spadeFor_1 := dk_seg dksX3_spadeFor_0 24 rfl rfl
theorem dksX3_spadeFor_2 : cX3_spadeFor.data.toList.drop 47 = dktX3_spadeFor_2 := dk_seg dksX3_spadeFor_1 23 rfl rfl
theorem dX3_spadeFor_0 : decode cX3_spadeFor 0 = .ok (.aload_n 0, 1) := dk_42 (dk_at dksX3_spadeFor_0 0 rfl rfl)
theorem dX3_spadeFor_1 : decode cX3_spadeFor 1 = .ok (.iload_n 1, 1) := dk_27 (dk_at dksX3_spadeFor_0 1 rfl rfl)
theorem dX3_spadeFor_2 : decode cX3_spadeFor 2 = .ok (.invokevirtual 294, 3) := dk_182 1 38 (dk_at dksX3_spadeFor_0 2 rfl rfl)
theorem dX3_spadeFor_5 : decode cX3_spadeFor 5 = .ok (.ifCond .ne 5, 3) := dk_154 0 5 (dk_at dksX3_spadeFor_0 5 rfl rfl)
theorem dX3_spadeFor_8 : decode cX3_spadeFor 8 = .ok (.iconst (-1), 1) := dk_2 (dk_at dksX3_spadeFor_0 8 rfl rfl)
theorem dX3_spadeFor_9 : decode cX3_spadeFor 9 = .ok (.ireturn, 1) := dk_172 (dk_at dksX3_spadeFor_0 9 rfl rfl)
theorem dX3_spadeFor_10 : decode cX3_spadeFor 10 = .ok (.aload_n 0, 1) := dk_42 (dk_at dksX3_spadeFor_0 10 rfl rfl)
theorem dX3_spadeFor_11 : decode cX3_spadeFor 11 = .ok (.getfield 36, 3) := dk_180 0 36 (dk_at dksX3_spadeFor_0 11 rfl rfl)
theorem dX3_spadeFor_14 : decode cX3_spadeFor 14 = .ok (.bipush 41, 2) := dk_16 41 (dk_at dksX3_spadeFor_0 14 rfl rfl)
theorem dX3_spadeFor_16 : decode cX3_spadeFor 16 = .ok (.iaload, 1) := dk_46 (dk_at dksX3_spadeFor_0 16 rfl rfl)
theorem dX3_spadeFor_17 : decode cX3_spadeFor 17 = .ok (.iload_n 1, 1) := dk_27 (dk_at dksX3_spadeFor_0 17 rfl rfl)
theorem dX3_spadeFor_18 : decode cX3_spadeFor 18 = .ok (.invokestatic 269, 3) := dk_184 1 13 (dk_at dksX3_spadeFor_0 18 rfl rfl)
theorem dX3_spadeFor_21 : decode cX3_spadeFor 21 = .ok (.ifCond .ne 25, 3) := dk_154 0 25 (dk_at dksX3_spadeFor_0 21 rfl rfl)
theorem dX3_spadeFor_24 : decode cX3_spadeFor 24 = .ok (.aload_n 0, 1) := dk_42 (dk_at dksX3_spadeFor_1 0 rfl rfl)
theorem dX3_spadeFor_25 : decode cX3_spadeFor 25 = .ok (.getfield 36, 3) := dk_180 0 36 (dk_at dksX3_spadeFor_1 1 rfl rfl)
theorem dX3_spadeFor_28 : decode cX3_spadeFor 28 = .ok (.bipush 41, 2) := dk_16 41 (dk_at dksX3_spadeFor_1 4 rfl rfl)
theorem dX3_spadeFor_30 : decode cX3_spadeFor 30 = .ok (.iaload, 1) := dk_46 (dk_at dksX3_spadeFor_1 6 rfl rfl)
theorem dX3_spadeFor_31 : decode cX3_spadeFor 31 = .ok (.invokestatic 251, 3) := dk_184 0 251 (dk_at dksX3_spadeFor_1 7 rfl rfl)
theorem dX3_spadeFor_34 : decode cX3_spadeFor 34 = .ok (.aload_n 0, 1) := dk_42 (dk_at dksX3_spadeFor_1 10 rfl rfl)
theorem dX3_spadeFor_35 : decode cX3_spadeFor 35 = .ok (.getfield 33, 3) := dk_180 0 33 (dk_at dksX3_spadeFor_1 11 rfl rfl)
theorem dX3_spadeFor_38 : decode cX3_spadeFor 38 = .ok (.iconst 1, 1) := dk_4 (dk_at dksX3_spadeFor_1 14 rfl rfl)
theorem dX3_spadeFor_39 : decode cX3_spadeFor 39 = .ok (.iaload, 1) := dk_46 (dk_at dksX3_spadeFor_1 15 rfl rfl)
theorem dX3_spadeFor_40 : decode cX3_spadeFor 40 = .ok (.if_icmp .lt 6, 3) := dk_161 0 6 (dk_at dksX3_spadeFor_1 16 rfl rfl)
theorem dX3_spadeFor_43 : decode cX3_spadeFor 43 = .ok (.bipush (-2), 2) := dk_16 254 (dk_at dksX3_spadeFor_1 19 rfl rfl)
theorem dX3_spadeFor_45 : decode cX3_spadeFor 45 = .ok (.ireturn, 1) := dk_172 (dk_at dksX3_spadeFor_1 21 rfl rfl)
theorem dX3_spadeFor_46 : decode cX3_spadeFor 46 = .ok (.aload_n 0, 1) := dk_42 (dk_at dksX3_spadeFor_1 22 rfl rfl)
theorem dX3_spadeFor_47 : decode cX3_spadeFor 47 = .ok (.getfield 36, 3) := dk_180 0 36 (dk_at dksX3_spadeFor_2 0 rfl rfl)
theorem dX3_spadeFor_50 : decode cX3_spadeFor 50 = .ok (.bipush 41, 2) := dk_16 41 (dk_at dksX3_spadeFor_2 3 rfl rfl)
theorem dX3_spadeFor_52 : decode cX3_spadeFor 52 = .ok (.dup2, 1) := dk_92 (dk_at dksX3_spadeFor_2 5 rfl rfl)
theorem dX3_spadeFor_53 : decode cX3_spadeFor 53 = .ok (.iaload, 1) := dk_46 (dk_at dksX3_spadeFor_2 6 rfl rfl)
theorem dX3_spadeFor_54 : decode cX3_spadeFor 54 = .ok (.iconst 1, 1) := dk_4 (dk_at dksX3_spadeFor_2 7 rfl rfl)
theorem dX3_spadeFor_55 : decode cX3_spadeFor 55 = .ok (.iload_n 1, 1) := dk_27 (dk_at dksX3_spadeFor_2 8 rfl rfl)
theorem dX3_spadeFor_56 : decode cX3_spadeFor 56 = .ok (.ishl, 1) := dk_120 (dk_at dksX3_spadeFor_2 9 rfl rfl)
theorem dX3_spadeFor_57 : decode cX3_spadeFor 57 = .ok (.ixor, 1) := dk_130 (dk_at dksX3_spadeFor_2 10 rfl rfl)
theorem dX3_spadeFor_58 : decode cX3_spadeFor 58 = .ok (.iastore, 1) := dk_79 (dk_at dksX3_spadeFor_2 11 rfl rfl)
theorem dX3_spadeFor_59 : decode cX3_spadeFor 59 = .ok (.aload_n 0, 1) := dk_42 (dk_at dksX3_spadeFor_2 12 rfl rfl)
theorem dX3_spadeFor_60 : decode cX3_spadeFor 60 = .ok (.getfield 36, 3) := dk_180 0 36 (dk_at dksX3_spadeFor_2 13 rfl rfl)
theorem dX3_spadeFor_63 : decode cX3_spadeFor 63 = .ok (.bipush 41, 2) := dk_16 41 (dk_at dksX3_spadeFor_2 16 rfl rfl)
theorem dX3_spadeFor_65 : decode cX3_spadeFor 65 = .ok (.iaload, 1) := dk_46 (dk_at dksX3_spadeFor_2 18 rfl rfl)
theorem dX3_spadeFor_66 : decode cX3_spadeFor 66 = .ok (.invokestatic 251, 3) := dk_184 0 251 (dk_at dksX3_spadeFor_2 19 rfl rfl)
theorem dX3_spadeFor_69 : decode cX3_spadeFor 69 = .ok (.ireturn, 1) := dk_172 (dk_at dksX3_spadeFor_2 22 rfl rfl)
abbrev cX3_treat : ByteArray := prog_13_method_65_code
def yX3_treat : MethodName := ⟨RX3, "treat", "(I)I"⟩
def dkwX3_treat_0 : List UInt8 := [42, 3, 181, 0, 112, 42, 182, 1, 72, 42, 42, 27, 182, 1, 88, 182, 1, 79, 172]
abbrev dktX3_treat_0 : List UInt8 := dkwX3_treat_0 ++ []
theorem dksX3_treat_0 : cX3_treat.data.toList.drop 0 = dktX3_treat_0 := by decide +kernel
theorem dX3_treat_0 : decode cX3_treat 0 = .ok (.aload_n 0, 1) := dk_42 (dk_at dksX3_treat_0 0 rfl rfl)
theorem dX3_treat_1 : decode cX3_treat 1 = .ok (.iconst 0, 1) := dk_3 (dk_at dksX3_treat_0 1 rfl rfl)
theorem dX3_treat_2 : decode cX3_treat 2 = .ok (.putfield 112, 3) := dk_181 0 112 (dk_at dksX3_treat_0 2 rfl rfl)
theorem dX3_treat_5 : decode cX3_treat 5 = .ok (.aload_n 0, 1) := dk_42 (dk_at dksX3_treat_0 5 rfl rfl)
theorem dX3_treat_6 : decode cX3_treat 6 = .ok (.invokevirtual 328, 3) := dk_182 1 72 (dk_at dksX3_treat_0 6 rfl rfl)
theorem dX3_treat_9 : decode cX3_treat 9 = .ok (.aload_n 0, 1) := dk_42 (dk_at dksX3_treat_0 9 rfl rfl)
theorem dX3_treat_10 : decode cX3_treat 10 = .ok (.aload_n 0, 1) := dk_42 (dk_at dksX3_treat_0 10 rfl rfl)
theorem dX3_treat_11 : decode cX3_treat 11 = .ok (.iload_n 1, 1) := dk_27 (dk_at dksX3_treat_0 11 rfl rfl)
theorem dX3_treat_12 : decode cX3_treat 12 = .ok (.invokevirtual 344, 3) := dk_182 1 88 (dk_at dksX3_treat_0 12 rfl rfl)
theorem dX3_treat_15 : decode cX3_treat 15 = .ok (.invokevirtual 335, 3) := dk_182 1 79 (dk_at dksX3_treat_0 15 rfl rfl)
theorem dX3_treat_18 : decode cX3_treat 18 = .ok (.ireturn, 1) := dk_172 (dk_at dksX3_treat_0 18 rfl rfl)
abbrev cX3_treatsOne : ByteArray := prog_13_method_60_code
def yX3_treatsOne : MethodName := ⟨RX3, "treatsOne", "(I)I"⟩
def dkwX3_treatsOne_1 : List UInt8 := [42, 180, 0, 36, 27, 184, 1, 21, 6, 96, 184, 0, 142, 79, 42, 180, 0, 36, 27, 184, 1, 21, 172]
abbrev dktX3_treatsOne_1 : List UInt8 := dkwX3_treatsOne_1 ++ []
def dkwX3_treatsOne_0 : List UInt8 := [42, 27, 182, 1, 38, 154, 0, 5, 2, 172, 42, 180, 0, 36, 16, 25, 5, 27, 104, 96, 4, 96, 16, 9]
abbrev dktX3_treatsOne_0 : List UInt8 := dkwX3_treatsOne_0 ++ dktX3_treatsOne_1
theorem dksX3_treatsOne_0 : cX3_treatsOne.data.toList.drop 0 = dktX3_treatsOne_0 := by decide +kernel
theorem dksX3_treatsOne_1 : cX3_treatsOne.data.toList.drop 24 = dktX3_treatsOne_1 := dk_seg dksX3_treatsOne_0 24 rfl rfl
theorem dX3_treatsOne_0 : decode cX3_treatsOne 0 = .ok (.aload_n 0, 1) := dk_42 (dk_at dksX3_treatsOne_0 0 rfl rfl)
theorem dX3_treatsOne_1 : decode cX3_treatsOne 1 = .ok (.iload_n 1, 1) := dk_27 (dk_at dksX3_treatsOne_0 1 rfl rfl)
theorem dX3_treatsOne_2 : decode cX3_treatsOne 2 = .ok (.invokevirtual 294, 3) := dk_182 1 38 (dk_at dksX3_treatsOne_0 2 rfl rfl)
theorem dX3_treatsOne_5 : decode cX3_treatsOne 5 = .ok (.ifCond .ne 5, 3) := dk_154 0 5 (dk_at dksX3_treatsOne_0 5 rfl rfl)
theorem dX3_treatsOne_8 : decode cX3_treatsOne 8 = .ok (.iconst (-1), 1) := dk_2 (dk_at dksX3_treatsOne_0 8 rfl rfl)
theorem dX3_treatsOne_9 : decode cX3_treatsOne 9 = .ok (.ireturn, 1) := dk_172 (dk_at dksX3_treatsOne_0 9 rfl rfl)
theorem dX3_treatsOne_10 : decode cX3_treatsOne 10 = .ok (.aload_n 0, 1) := dk_42 (dk_at dksX3_treatsOne_0 10 rfl rfl)
theorem dX3_treatsOne_11 : decode cX3_treatsOne 11 = .ok (.getfield 36, 3) := dk_180 0 36 (dk_at dksX3_treatsOne_0 11 rfl rfl)
theorem dX3_treatsOne_14 : decode cX3_treatsOne 14 = .ok (.bipush 25, 2) := dk_16 25 (dk_at dksX3_treatsOne_0 14 rfl rfl)
theorem dX3_treatsOne_16 : decode cX3_treatsOne 16 = .ok (.iconst 2, 1) := dk_5 (dk_at dksX3_treatsOne_0 16 rfl rfl)
theorem dX3_treatsOne_17 : decode cX3_treatsOne 17 = .ok (.iload_n 1, 1) := dk_27 (dk_at dksX3_treatsOne_0 17 rfl rfl)
theorem dX3_treatsOne_18 : decode cX3_treatsOne 18 = .ok (.imul, 1) := dk_104 (dk_at dksX3_treatsOne_0 18 rfl rfl)
theorem dX3_treatsOne_19 : decode cX3_treatsOne 19 = .ok (.iadd, 1) := dk_96 (dk_at dksX3_treatsOne_0 19 rfl rfl)
theorem dX3_treatsOne_20 : decode cX3_treatsOne 20 = .ok (.iconst 1, 1) := dk_4 (dk_at dksX3_treatsOne_0 20 rfl rfl)
theorem dX3_treatsOne_21 : decode cX3_treatsOne 21 = .ok (.iadd, 1) := dk_96 (dk_at dksX3_treatsOne_0 21 rfl rfl)
theorem dX3_treatsOne_22 : decode cX3_treatsOne 22 = .ok (.bipush 9, 2) := dk_16 9 (dk_at dksX3_treatsOne_0 22 rfl rfl)
theorem dX3_treatsOne_24 : decode cX3_treatsOne 24 = .ok (.aload_n 0, 1) := dk_42 (dk_at dksX3_treatsOne_1 0 rfl rfl)
theorem dX3_treatsOne_25 : decode cX3_treatsOne 25 = .ok (.getfield 36, 3) := dk_180 0 36 (dk_at dksX3_treatsOne_1 1 rfl rfl)
theorem dX3_treatsOne_28 : decode cX3_treatsOne 28 = .ok (.iload_n 1, 1) := dk_27 (dk_at dksX3_treatsOne_1 4 rfl rfl)
theorem dX3_treatsOne_29 : decode cX3_treatsOne 29 = .ok (.invokestatic 277, 3) := dk_184 1 21 (dk_at dksX3_treatsOne_1 5 rfl rfl)
theorem dX3_treatsOne_32 : decode cX3_treatsOne 32 = .ok (.iconst 3, 1) := dk_6 (dk_at dksX3_treatsOne_1 8 rfl rfl)
theorem dX3_treatsOne_33 : decode cX3_treatsOne 33 = .ok (.iadd, 1) := dk_96 (dk_at dksX3_treatsOne_1 9 rfl rfl)
theorem dX3_treatsOne_34 : decode cX3_treatsOne 34 = .ok (.invokestatic 142, 3) := dk_184 0 142 (dk_at dksX3_treatsOne_1 10 rfl rfl)
theorem dX3_treatsOne_37 : decode cX3_treatsOne 37 = .ok (.iastore, 1) := dk_79 (dk_at dksX3_treatsOne_1 13 rfl rfl)
theorem dX3_treatsOne_38 : decode cX3_treatsOne 38 = .ok (.aload_n 0, 1) := dk_42 (dk_at dksX3_treatsOne_1 14 rfl rfl)
theorem dX3_treatsOne_39 : decode cX3_treatsOne 39 = .ok (.getfield 36, 3) := dk_180 0 36 (dk_at dksX3_treatsOne_1 15 rfl rfl)
theorem dX3_treatsOne_42 : decode cX3_treatsOne 42 = .ok (.iload_n 1, 1) := dk_27 (dk_at dksX3_treatsOne_1 18 rfl rfl)
theorem dX3_treatsOne_43 : decode cX3_treatsOne 43 = .ok (.invokestatic 277, 3) := dk_184 1 21 (dk_at dksX3_treatsOne_1 19 rfl rfl)
theorem dX3_treatsOne_46 : decode cX3_treatsOne 46 = .ok (.ireturn, 1) := dk_172 (dk_at dksX3_treatsOne_1 22 rfl rfl)
abbrev cX3_moat : ByteArray := prog_13_method_66_code
def yX3_moat : MethodName := ⟨RX3, "moat", "(I)I"⟩
def dkwX3_moat_0 : List UInt8 := [42, 3, 181, 0, 112, 42, 182, 1, 72, 42, 42, 27, 182, 1, 91, 182, 1, 79, 172]
abbrev dktX3_moat_0 : List UInt8 := dkwX3_moat_0 ++ []
theorem dksX3_moat_0 : cX3_moat.data.toList.drop 0 = dktX3_moat_0 := by decide +kernel
theorem dX3_moat_0 : decode cX3_moat 0 = .ok (.aload_n 0, 1) := dk_42 (dk_at dksX3_moat_0 0 rfl rfl)
theorem dX3_moat_1 : decode cX3_moat 1 = .ok (.iconst 0, 1) := dk_3 (dk_at dksX3_moat_0 1 rfl rfl)
theorem dX3_moat_2 : decode cX3_moat 2 = .ok (.putfield 112, 3) := dk_181 0 112 (dk_at dksX3_moat_0 2 rfl rfl)
theorem dX3_moat_5 : decode cX3_moat 5 = .ok (.aload_n 0, 1) := dk_42 (dk_at dksX3_moat_0 5 rfl rfl)
theorem dX3_moat_6 : decode cX3_moat 6 = .ok (.invokevirtual 328, 3) := dk_182 1 72 (dk_at dksX3_moat_0 6 rfl rfl)
theorem dX3_moat_9 : decode cX3_moat 9 = .ok (.aload_n 0, 1) := dk_42 (dk_at dksX3_moat_0 9 rfl rfl)
theorem dX3_moat_10 : decode cX3_moat 10 = .ok (.aload_n 0, 1) := dk_42 (dk_at dksX3_moat_0 10 rfl rfl)
theorem dX3_moat_11 : decode cX3_moat 11 = .ok (.iload_n 1, 1) := dk_27 (dk_at dksX3_moat_0 11 rfl rfl)
theorem dX3_moat_12 : decode cX3_moat 12 = .ok (.invokevirtual 347, 3) := dk_182 1 91 (dk_at dksX3_moat_0 12 rfl rfl)
theorem dX3_moat_15 : decode cX3_moat 15 = .ok (.invokevirtual 335, 3) := dk_182 1 79 (dk_at dksX3_moat_0 15 rfl rfl)
theorem dX3_moat_18 : decode cX3_moat 18 = .ok (.ireturn, 1) := dk_172 (dk_at dksX3_moat_0 18 rfl rfl)
abbrev cX3_digs : ByteArray := prog_13_method_61_code
def yX3_digs : MethodName := ⟨RX3, "digs", "(I)I"⟩
def dkwX3_digs_1 : List UInt8 := [180, 0, 36, 16, 12, 46, 184, 0, 251, 172]
abbrev dktX3_digs_1 : List UInt8 := dkwX3_digs_1 ++ []
def dkwX3_digs_0 : List UInt8 := [42, 27, 182, 1, 24, 154, 0, 5, 2, 172, 42, 180, 0, 36, 16, 12, 92, 46, 4, 27, 120, 130, 79, 42]
abbrev dktX3_digs_0 : List UInt8 := dkwX3_digs_0 ++ dktX3_digs_1
theorem dksX3_digs_0 : cX3_digs.data.toList.drop 0 = dktX3_digs_0 := by decide +kernel
theorem dksX3_digs_1 : cX3_digs.data.toList.drop 24 = dktX3_digs_1 := dk_seg dksX3_digs_0 24 rfl rfl
theorem dX3_digs_0 : decode cX3_digs 0 = .ok (.aload_n 0, 1) := dk_42 (dk_at dksX3_digs_0 0 rfl rfl)
theorem dX3_digs_1 : decode cX3_digs 1 = .ok (.iload_n 1, 1) := dk_27 (dk_at dksX3_digs_0 1 rfl rfl)
theorem dX3_digs_2 : decode cX3_digs 2 = .ok (.invokevirtual 280, 3) := dk_182 1 24 (dk_at dksX3_digs_0 2 rfl rfl)
theorem dX3_digs_5 : decode cX3_digs 5 = .ok (.ifCond .ne 5, 3) := dk_154 0 5 (dk_at dksX3_digs_0 5 rfl rfl)
theorem dX3_digs_8 : decode cX3_digs 8 = .ok (.iconst (-1), 1) := dk_2 (dk_at dksX3_digs_0 8 rfl rfl)
theorem dX3_digs_9 : decode cX3_digs 9 = .ok (.ireturn, 1) := dk_172 (dk_at dksX3_digs_0 9 rfl rfl)
theorem dX3_digs_10 : decode cX3_digs 10 = .ok (.aload_n 0, 1) := dk_42 (dk_at dksX3_digs_0 10 rfl rfl)
theorem dX3_digs_11 : decode cX3_digs 11 = .ok (.getfield 36, 3) := dk_180 0 36 (dk_at dksX3_digs_0 11 rfl rfl)
theorem dX3_digs_14 : decode cX3_digs 14 = .ok (.bipush 12, 2) := dk_16 12 (dk_at dksX3_digs_0 14 rfl rfl)
theorem dX3_digs_16 : decode cX3_digs 16 = .ok (.dup2, 1) := dk_92 (dk_at dksX3_digs_0 16 rfl rfl)
theorem dX3_digs_17 : decode cX3_digs 17 = .ok (.iaload, 1) := dk_46 (dk_at dksX3_digs_0 17 rfl rfl)
theorem dX3_digs_18 : decode cX3_digs 18 = .ok (.iconst 1, 1) := dk_4 (dk_at dksX3_digs_0 18 rfl rfl)
theorem dX3_digs_19 : decode cX3_digs 19 = .ok (.iload_n 1, 1) := dk_27 (dk_at dksX3_digs_0 19 rfl rfl)
theorem dX3_digs_20 : decode cX3_digs 20 = .ok (.ishl, 1) := dk_120 (dk_at dksX3_digs_0 20 rfl rfl)
theorem dX3_digs_21 : decode cX3_digs 21 = .ok (.ixor, 1) := dk_130 (dk_at dksX3_digs_0 21 rfl rfl)
theorem dX3_digs_22 : decode cX3_digs 22 = .ok (.iastore, 1) := dk_79 (dk_at dksX3_digs_0 22 rfl rfl)
theorem dX3_digs_23 : decode cX3_digs 23 = .ok (.aload_n 0, 1) := dk_42 (dk_at dksX3_digs_0 23 rfl rfl)
theorem dX3_digs_24 : decode cX3_digs 24 = .ok (.getfield 36, 3) := dk_180 0 36 (dk_at dksX3_digs_1 0 rfl rfl)
theorem dX3_digs_27 : decode cX3_digs 27 = .ok (.bipush 12, 2) := dk_16 12 (dk_at dksX3_digs_1 3 rfl rfl)
theorem dX3_digs_29 : decode cX3_digs 29 = .ok (.iaload, 1) := dk_46 (dk_at dksX3_digs_1 5 rfl rfl)
theorem dX3_digs_30 : decode cX3_digs 30 = .ok (.invokestatic 251, 3) := dk_184 0 251 (dk_at dksX3_digs_1 6 rfl rfl)
theorem dX3_digs_33 : decode cX3_digs 33 = .ok (.ireturn, 1) := dk_172 (dk_at dksX3_digs_1 9 rfl rfl)
abbrev cX3_build : ByteArray := prog_13_method_67_code
def yX3_build : MethodName := ⟨RX3, "build", "(I)I"⟩
def dkwX3_build_3 : List UInt8 := [182, 1, 50, 172]
abbrev dktX3_build_3 : List UInt8 := dkwX3_build_3 ++ []
def dkwX3_build_2 : List UInt8 := [181, 0, 119, 42, 42, 180, 1, 53, 133, 182, 1, 103, 42, 42, 42, 180, 0, 36, 182, 1, 96, 28, 100]
abbrev dktX3_build_2 : List UInt8 := dkwX3_build_2 ++ dktX3_build_3
def dkwX3_build_1 : List UInt8 := [42, 180, 0, 36, 182, 1, 96, 61, 42, 3, 181, 1, 53, 42, 42, 180, 0, 36, 27, 182, 1, 100, 42, 3]
abbrev dktX3_build_1 : List UInt8 := dkwX3_build_1 ++ dktX3_build_2
def dkwX3_build_0 : List UInt8 := [42, 3, 181, 0, 112, 27, 133, 9, 20, 1, 94, 184, 0, 122, 154, 0, 5, 2, 172, 42, 182, 1, 72, 42]
abbrev dktX3_build_0 : List UInt8 := dkwX3_build_0 ++ dktX3_build_1
theorem dksX3_build_0 : cX3_build.data.toList.drop 0 = dktX3_build_0 := by decide +kernel
theorem dksX3_build_1 : cX3_build.data.toList.drop 24 = dktX3_build_1 := dk_seg dksX3_build_0 24 rfl rfl
theorem dksX3_build_2 : cX3_build.data.toList.drop 48 = dktX3_build_2 := dk_seg dksX3_build_1 24 rfl rfl
theorem dksX3_build_3 : cX3_build.data.toList.drop 71 = dktX3_build_3 := dk_seg dksX3_build_2 23 rfl rfl
theorem dX3_build_0 : decode cX3_build 0 = .ok (.aload_n 0, 1) := dk_42 (dk_at dksX3_build_0 0 rfl rfl)
theorem dX3_build_1 : decode cX3_build 1 = .ok (.iconst 0, 1) := dk_3 (dk_at dksX3_build_0 1 rfl rfl)
theorem dX3_build_2 : decode cX3_build 2 = .ok (.putfield 112, 3) := dk_181 0 112 (dk_at dksX3_build_0 2 rfl rfl)
theorem dX3_build_5 : decode cX3_build 5 = .ok (.iload_n 1, 1) := dk_27 (dk_at dksX3_build_0 5 rfl rfl)
theorem dX3_build_6 : decode cX3_build 6 = .ok (.i2l, 1) := dk_133 (dk_at dksX3_build_0 6 rfl rfl)
theorem dX3_build_7 : decode cX3_build 7 = .ok (.lconst 0, 1) := dk_9 (dk_at dksX3_build_0 7 rfl rfl)
theorem dX3_build_8 : decode cX3_build 8 = .ok (.ldc2_w 350, 3) := dk_20 1 94 (dk_at dksX3_build_0 8 rfl rfl)
theorem dX3_build_11 : decode cX3_build 11 = .ok (.invokestatic 122, 3) := dk_184 0 122 (dk_at dksX3_build_0 11 rfl rfl)
theorem dX3_build_14 : decode cX3_build 14 = .ok (.ifCond .ne 5, 3) := dk_154 0 5 (dk_at dksX3_build_0 14 rfl rfl)
theorem dX3_build_17 : decode cX3_build 17 = .ok (.iconst (-1), 1) := dk_2 (dk_at dksX3_build_0 17 rfl rfl)
theorem dX3_build_18 : decode cX3_build 18 = .ok (.ireturn, 1) := dk_172 (dk_at dksX3_build_0 18 rfl rfl)
theorem dX3_build_19 : decode cX3_build 19 = .ok (.aload_n 0, 1) := dk_42 (dk_at dksX3_build_0 19 rfl rfl)
theorem dX3_build_20 : decode cX3_build 20 = .ok (.invokevirtual 328, 3) := dk_182 1 72 (dk_at dksX3_build_0 20 rfl rfl)
theorem dX3_build_23 : decode cX3_build 23 = .ok (.aload_n 0, 1) := dk_42 (dk_at dksX3_build_0 23 rfl rfl)
theorem dX3_build_24 : decode cX3_build 24 = .ok (.aload_n 0, 1) := dk_42 (dk_at dksX3_build_1 0 rfl rfl)
theorem dX3_build_25 : decode cX3_build 25 = .ok (.getfield 36, 3) := dk_180 0 36 (dk_at dksX3_build_1 1 rfl rfl)
theorem dX3_build_28 : decode cX3_build 28 = .ok (.invokevirtual 352, 3) := dk_182 1 96 (dk_at dksX3_build_1 4 rfl rfl)
theorem dX3_build_31 : decode cX3_build 31 = .ok (.istore_n 2, 1) := dk_61 (dk_at dksX3_build_1 7 rfl rfl)
theorem dX3_build_32 : decode cX3_build 32 = .ok (.aload_n 0, 1) := dk_42 (dk_at dksX3_build_1 8 rfl rfl)
theorem dX3_build_33 : decode cX3_build 33 = .ok (.iconst 0, 1) := dk_3 (dk_at dksX3_build_1 9 rfl rfl)
theorem dX3_build_34 : decode cX3_build 34 = .ok (.putfield 309, 3) := dk_181 1 53 (dk_at dksX3_build_1 10 rfl rfl)
theorem dX3_build_37 : decode cX3_build 37 = .ok (.aload_n 0, 1) := dk_42 (dk_at dksX3_build_1 13 rfl rfl)
theorem dX3_build_38 : decode cX3_build 38 = .ok (.aload_n 0, 1) := dk_42 (dk_at dksX3_build_1 14 rfl rfl)
theorem dX3_build_39 : decode cX3_build 39 = .ok (.getfield 36, 3) := dk_180 0 36 (dk_at dksX3_build_1 15 rfl rfl)
theorem dX3_build_42 : decode cX3_build 42 = .ok (.iload_n 1, 1) := dk_27 (dk_at dksX3_build_1 18 rfl rfl)
theorem dX3_build_43 : decode cX3_build 43 = .ok (.invokevirtual 356, 3) := dk_182 1 100 (dk_at dksX3_build_1 19 rfl rfl)
theorem dX3_build_46 : decode cX3_build 46 = .ok (.aload_n 0, 1) := dk_42 (dk_at dksX3_build_1 22 rfl rfl)
theorem dX3_build_47 : decode cX3_build 47 = .ok (.iconst 0, 1) := dk_3 (dk_at dksX3_build_1 23 rfl rfl)
theorem dX3_build_48 : decode cX3_build 48 = .ok (.putfield 119, 3) := dk_181 0 119 (dk_at dksX3_build_2 0 rfl rfl)
theorem dX3_build_51 : decode cX3_build 51 = .ok (.aload_n 0, 1) := dk_42 (dk_at dksX3_build_2 3 rfl rfl)
theorem dX3_build_52 : decode cX3_build 52 = .ok (.aload_n 0, 1) := dk_42 (dk_at dksX3_build_2 4 rfl rfl)
theorem dX3_build_53 : decode cX3_build 53 = .ok (.getfield 309, 3) := dk_180 1 53 (dk_at dksX3_build_2 5 rfl rfl)
theorem dX3_build_56 : decode cX3_build 56 = .ok (.i2l, 1) := dk_133 (dk_at dksX3_build_2 8 rfl rfl)
theorem dX3_build_57 : decode cX3_build 57 = .ok (.invokevirtual 359, 3) := dk_182 1 103 (dk_at dksX3_build_2 9 rfl rfl)
theorem dX3_build_60 : decode cX3_build 60 = .ok (.aload_n 0, 1) := dk_42 (dk_at dksX3_build_2 12 rfl rfl)
theorem dX3_build_61 : decode cX3_build 61 = .ok (.aload_n 0, 1) := dk_42 (dk_at dksX3_build_2 13 rfl rfl)
theorem dX3_build_62 : decode cX3_build 62 = .ok (.aload_n 0, 1) := dk_42 (dk_at dksX3_build_2 14 rfl rfl)
theorem dX3_build_63 : decode cX3_build 63 = .ok (.getfield 36, 3) := dk_180 0 36 (dk_at dksX3_build_2 15 rfl rfl)
theorem dX3_build_66 : decode cX3_build 66 = .ok (.invokevirtual 352, 3) := dk_182 1 96 (dk_at dksX3_build_2 18 rfl rfl)
theorem dX3_build_69 : decode cX3_build 69 = .ok (.iload_n 2, 1) := dk_28 (dk_at dksX3_build_2 21 rfl rfl)
theorem dX3_build_70 : decode cX3_build 70 = .ok (.isub, 1) := dk_100 (dk_at dksX3_build_2 22 rfl rfl)
theorem dX3_build_71 : decode cX3_build 71 = .ok (.invokevirtual 306, 3) := dk_182 1 50 (dk_at dksX3_build_3 0 rfl rfl)
theorem dX3_build_74 : decode cX3_build 74 = .ok (.ireturn, 1) := dk_172 (dk_at dksX3_build_3 3 rfl rfl)
abbrev cX3_wallAll : ByteArray := prog_13_method_17_code
def yX3_wallAll : MethodName := ⟨RX3, "wallAll", "([I)I"⟩
def dkwX3_wallAll_1 : List UInt8 := [28, 172]
abbrev dktX3_wallAll_1 : List UInt8 := dkwX3_wallAll_1 ++ []
def dkwX3_wallAll_0 : List UInt8 := [3, 61, 3, 62, 29, 42, 180, 0, 13, 162, 0, 15, 28, 43, 29, 46, 96, 61, 132, 3, 1, 167, 255, 239]
abbrev dktX3_wallAll_0 : List UInt8 := dkwX3_wallAll_0 ++ dktX3_wallAll_1
theorem dksX3_wallAll_0 : cX3_wallAll.data.toList.drop 0 = dktX3_wallAll_0 := by decide +kernel
theorem dksX3_wallAll_1 : cX3_wallAll.data.toList.drop 24 = dktX3_wallAll_1 := dk_seg dksX3_wallAll_0 24 rfl rfl
theorem dX3_wallAll_0 : decode cX3_wallAll 0 = .ok (.iconst 0, 1) := dk_3 (dk_at dksX3_wallAll_0 0 rfl rfl)
theorem dX3_wallAll_1 : decode cX3_wallAll 1 = .ok (.istore_n 2, 1) := dk_61 (dk_at dksX3_wallAll_0 1 rfl rfl)
theorem dX3_wallAll_2 : decode cX3_wallAll 2 = .ok (.iconst 0, 1) := dk_3 (dk_at dksX3_wallAll_0 2 rfl rfl)
theorem dX3_wallAll_3 : decode cX3_wallAll 3 = .ok (.istore_n 3, 1) := dk_62 (dk_at dksX3_wallAll_0 3 rfl rfl)
theorem dX3_wallAll_4 : decode cX3_wallAll 4 = .ok (.iload_n 3, 1) := dk_29 (dk_at dksX3_wallAll_0 4 rfl rfl)
theorem dX3_wallAll_5 : decode cX3_wallAll 5 = .ok (.aload_n 0, 1) := dk_42 (dk_at dksX3_wallAll_0 5 rfl rfl)
theorem dX3_wallAll_6 : decode cX3_wallAll 6 = .ok (.getfield 13, 3) := dk_180 0 13 (dk_at dksX3_wallAll_0 6 rfl rfl)
theorem dX3_wallAll_9 : decode cX3_wallAll 9 = .ok (.if_icmp .ge 15, 3) := dk_162 0 15 (dk_at dksX3_wallAll_0 9 rfl rfl)
theorem dX3_wallAll_12 : decode cX3_wallAll 12 = .ok (.iload_n 2, 1) := dk_28 (dk_at dksX3_wallAll_0 12 rfl rfl)
theorem dX3_wallAll_13 : decode cX3_wallAll 13 = .ok (.aload_n 1, 1) := dk_43 (dk_at dksX3_wallAll_0 13 rfl rfl)
theorem dX3_wallAll_14 : decode cX3_wallAll 14 = .ok (.iload_n 3, 1) := dk_29 (dk_at dksX3_wallAll_0 14 rfl rfl)
theorem dX3_wallAll_15 : decode cX3_wallAll 15 = .ok (.iaload, 1) := dk_46 (dk_at dksX3_wallAll_0 15 rfl rfl)
theorem dX3_wallAll_16 : decode cX3_wallAll 16 = .ok (.iadd, 1) := dk_96 (dk_at dksX3_wallAll_0 16 rfl rfl)
theorem dX3_wallAll_17 : decode cX3_wallAll 17 = .ok (.istore_n 2, 1) := dk_61 (dk_at dksX3_wallAll_0 17 rfl rfl)
theorem dX3_wallAll_18 : decode cX3_wallAll 18 = .ok (.iinc 3 1, 3) := dk_132 3 1 (dk_at dksX3_wallAll_0 18 rfl rfl)
theorem dX3_wallAll_21 : decode cX3_wallAll 21 = .ok (.goto (-17), 3) := dk_167 255 239 (dk_at dksX3_wallAll_0 21 rfl rfl)
theorem dX3_wallAll_24 : decode cX3_wallAll 24 = .ok (.iload_n 2, 1) := dk_28 (dk_at dksX3_wallAll_1 0 rfl rfl)
theorem dX3_wallAll_25 : decode cX3_wallAll 25 = .ok (.ireturn, 1) := dk_172 (dk_at dksX3_wallAll_1 1 rfl rfl)
abbrev cX3_builds : ByteArray := prog_13_method_53_code
def yX3_builds : MethodName := ⟨RX3, "builds", "([II)V"⟩
def dkwX3_builds_0 : List UInt8 := [3, 62, 29, 28, 162, 0, 14, 42, 43, 182, 1, 56, 132, 3, 1, 167, 255, 243, 177]
abbrev dktX3_builds_0 : List UInt8 := dkwX3_builds_0 ++ []
theorem dksX3_builds_0 : cX3_builds.data.toList.drop 0 = dktX3_builds_0 := by decide +kernel
theorem dX3_builds_0 : decode cX3_builds 0 = .ok (.iconst 0, 1) := dk_3 (dk_at dksX3_builds_0 0 rfl rfl)
theorem dX3_builds_1 : decode cX3_builds 1 = .ok (.istore_n 3, 1) := dk_62 (dk_at dksX3_builds_0 1 rfl rfl)
theorem dX3_builds_2 : decode cX3_builds 2 = .ok (.iload_n 3, 1) := dk_29 (dk_at dksX3_builds_0 2 rfl rfl)
theorem dX3_builds_3 : decode cX3_builds 3 = .ok (.iload_n 2, 1) := dk_28 (dk_at dksX3_builds_0 3 rfl rfl)
theorem dX3_builds_4 : decode cX3_builds 4 = .ok (.if_icmp .ge 14, 3) := dk_162 0 14 (dk_at dksX3_builds_0 4 rfl rfl)
theorem dX3_builds_7 : decode cX3_builds 7 = .ok (.aload_n 0, 1) := dk_42 (dk_at dksX3_builds_0 7 rfl rfl)
theorem dX3_builds_8 : decode cX3_builds 8 = .ok (.aload_n 1, 1) := dk_43 (dk_at dksX3_builds_0 8 rfl rfl)
theorem dX3_builds_9 : decode cX3_builds 9 = .ok (.invokevirtual 312, 3) := dk_182 1 56 (dk_at dksX3_builds_0 9 rfl rfl)
theorem dX3_builds_12 : decode cX3_builds 12 = .ok (.iinc 3 1, 3) := dk_132 3 1 (dk_at dksX3_builds_0 12 rfl rfl)
theorem dX3_builds_15 : decode cX3_builds 15 = .ok (.goto (-13), 3) := dk_167 255 243 (dk_at dksX3_builds_0 15 rfl rfl)
theorem dX3_builds_18 : decode cX3_builds 18 = .ok (.return_, 1) := dk_177 (dk_at dksX3_builds_0 18 rfl rfl)
abbrev cX3_spellGoes : ByteArray := prog_13_method_52_code
def yX3_spellGoes : MethodName := ⟨RX3, "spellGoes", "([I)V"⟩
def dkwX3_spellGoes_7 : List UInt8 := [2, 79, 132, 2, 1, 167, 255, 188, 177]
abbrev dktX3_spellGoes_7 : List UInt8 := dkwX3_spellGoes_7 ++ []
def dkwX3_spellGoes_6 : List UInt8 := [43, 29, 4, 96, 46, 154, 0, 21, 42, 89, 180, 1, 53, 4, 28, 120, 128, 181, 1, 53, 43, 29, 3, 96]
abbrev dktX3_spellGoes_6 : List UInt8 := dkwX3_spellGoes_6 ++ dktX3_spellGoes_7
def dkwX3_spellGoes_5 : List UInt8 := [43, 29, 3, 96, 46, 155, 0, 45, 43, 29, 4, 96, 3, 43, 29, 4, 96, 46, 4, 100, 184, 1, 3, 79]
abbrev dktX3_spellGoes_5 : List UInt8 := dkwX3_spellGoes_5 ++ dktX3_spellGoes_6
def dkwX3_spellGoes_4 : List UInt8 := [79, 132, 2, 1, 167, 255, 226, 3, 61, 28, 42, 180, 0, 126, 162, 0, 66, 16, 25, 5, 28, 104, 96, 62]
abbrev dktX3_spellGoes_4 : List UInt8 := dkwX3_spellGoes_4 ++ dktX3_spellGoes_5
def dkwX3_spellGoes_3 : List UInt8 := [180, 0, 13, 162, 0, 28, 43, 28, 17, 3, 231, 43, 28, 46, 42, 180, 0, 63, 28, 46, 96, 184, 0, 142]
abbrev dktX3_spellGoes_3 : List UInt8 := dkwX3_spellGoes_3 ++ dktX3_spellGoes_4
def dkwX3_spellGoes_2 : List UInt8 := [184, 0, 129, 92, 46, 42, 43, 28, 182, 1, 41, 96, 79, 132, 2, 1, 167, 255, 218, 3, 61, 28, 42]
abbrev dktX3_spellGoes_2 : List UInt8 := dkwX3_spellGoes_2 ++ dktX3_spellGoes_3
def dkwX3_spellGoes_1 : List UInt8 := [61, 28, 42, 180, 0, 126, 162, 0, 36, 43, 28, 184, 0, 129, 155, 0, 22, 42, 180, 0, 63, 43, 28]
abbrev dktX3_spellGoes_1 : List UInt8 := dkwX3_spellGoes_1 ++ dktX3_spellGoes_2
def dkwX3_spellGoes_0 : List UInt8 := [3, 61, 28, 42, 180, 0, 13, 162, 0, 16, 42, 180, 0, 63, 28, 3, 79, 132, 2, 1, 167, 255, 238, 3]
abbrev dktX3_spellGoes_0 : List UInt8 := dkwX3_spellGoes_0 ++ dktX3_spellGoes_1
theorem dksX3_spellGoes_0 : cX3_spellGoes.data.toList.drop 0 = dktX3_spellGoes_0 := by decide +kernel
theorem dksX3_spellGoes_1 : cX3_spellGoes.data.toList.drop 24 = dktX3_spellGoes_1 := dk_seg dksX3_spellGoes_0 24 rfl rfl
theorem dksX3_spellGoes_2 : cX3_spellGoes.data.toList.drop 47 = dktX3_spellGoes_2 := dk_seg dksX3_spellGoes_1 23 rfl rfl
theorem dksX3_spellGoes_3 : cX3_spellGoes.data.toList.drop 70 = dktX3_spellGoes_3 := dk_seg dksX3_spellGoes_2 23 rfl rfl
theorem dksX3_spellGoes_4 : cX3_spellGoes.data.toList.drop 94 = dktX3_spellGoes_4 := dk_seg dksX3_spellGoes_3 24 rfl rfl
theorem dksX3_spellGoes_5 : cX3_spellGoes.data.toList.drop 118 = dktX3_spellGoes_5 := dk_seg dksX3_spellGoes_4 24 rfl rfl
theorem dksX3_spellGoes_6 : cX3_spellGoes.data.toList.drop 142 = dktX3_spellGoes_6 := dk_seg dksX3_spellGoes_5 24 rfl rfl
theorem dksX3_spellGoes_7 : cX3_spellGoes.data.toList.drop 166 = dktX3_spellGoes_7 := dk_seg dksX3_spellGoes_6 24 rfl rfl
theorem dX3_spellGoes_0 : decode cX3_spellGoes 0 = .ok (.iconst 0, 1) := dk_3 (dk_at dksX3_spellGoes_0 0 rfl rfl)
theorem dX3_spellGoes_1 : decode cX3_spellGoes 1 = .ok (.istore_n 2, 1) := dk_61 (dk_at dksX3_spellGoes_0 1 rfl rfl)
theorem dX3_spellGoes_2 : decode cX3_spellGoes 2 = .ok (.iload_n 2, 1) := dk_28 (dk_at dksX3_spellGoes_0 2 rfl rfl)
theorem dX3_spellGoes_3 : decode cX3_spellGoes 3 = .ok (.aload_n 0, 1) := dk_42 (dk_at dksX3_spellGoes_0 3 rfl rfl)
theorem dX3_spellGoes_4 : decode cX3_spellGoes 4 = .ok (.getfield 13, 3) := dk_180 0 13 (dk_at dksX3_spellGoes_0 4 rfl rfl)
theorem dX3_spellGoes_7 : decode cX3_spellGoes 7 = .ok (.if_icmp .ge 16, 3) := dk_162 0 16 (dk_at dksX3_spellGoes_0 7 rfl rfl)
theorem dX3_spellGoes_10 : decode cX3_spellGoes 10 = .ok (.aload_n 0, 1) := dk_42 (dk_at dksX3_spellGoes_0 10 rfl rfl)
theorem dX3_spellGoes_11 : decode cX3_spellGoes 11 = .ok (.getfield 63, 3) := dk_180 0 63 (dk_at dksX3_spellGoes_0 11 rfl rfl)
theorem dX3_spellGoes_14 : decode cX3_spellGoes 14 = .ok (.iload_n 2, 1) := dk_28 (dk_at dksX3_spellGoes_0 14 rfl rfl)
theorem dX3_spellGoes_15 : decode cX3_spellGoes 15 = .ok (.iconst 0, 1) := dk_3 (dk_at dksX3_spellGoes_0 15 rfl rfl)
theorem dX3_spellGoes_16 : decode cX3_spellGoes 16 = .ok (.iastore, 1) := dk_79 (dk_at dksX3_spellGoes_0 16 rfl rfl)
theorem dX3_spellGoes_17 : decode cX3_spellGoes 17 = .ok (.iinc 2 1, 3) := dk_132 2 1 (dk_at dksX3_spellGoes_0 17 rfl rfl)
theorem dX3_spellGoes_20 : decode cX3_spellGoes 20 = .ok (.goto (-18), 3) := dk_167 255 238 (dk_at dksX3_spellGoes_0 20 rfl rfl)
theorem dX3_spellGoes_23 : decode cX3_spellGoes 23 = .ok (.iconst 0, 1) := dk_3 (dk_at dksX3_spellGoes_0 23 rfl rfl)
theorem dX3_spellGoes_24 : decode cX3_spellGoes 24 = .ok (.istore_n 2, 1) := dk_61 (dk_at dksX3_spellGoes_1 0 rfl rfl)
theorem dX3_spellGoes_25 : decode cX3_spellGoes 25 = .ok (.iload_n 2, 1) := dk_28 (dk_at dksX3_spellGoes_1 1 rfl rfl)
theorem dX3_spellGoes_26 : decode cX3_spellGoes 26 = .ok (.aload_n 0, 1) := dk_42 (dk_at dksX3_spellGoes_1 2 rfl rfl)
theorem dX3_spellGoes_27 : decode cX3_spellGoes 27 = .ok (.getfield 126, 3) := dk_180 0 126 (dk_at dksX3_spellGoes_1 3 rfl rfl)
theorem dX3_spellGoes_30 : decode cX3_spellGoes 30 = .ok (.if_icmp .ge 36, 3) := dk_162 0 36 (dk_at dksX3_spellGoes_1 6 rfl rfl)
theorem dX3_spellGoes_33 : decode cX3_spellGoes 33 = .ok (.aload_n 1, 1) := dk_43 (dk_at dksX3_spellGoes_1 9 rfl rfl)
theorem dX3_spellGoes_34 : decode cX3_spellGoes 34 = .ok (.iload_n 2, 1) := dk_28 (dk_at dksX3_spellGoes_1 10 rfl rfl)
theorem dX3_spellGoes_35 : decode cX3_spellGoes 35 = .ok (.invokestatic 129, 3) := dk_184 0 129 (dk_at dksX3_spellGoes_1 11 rfl rfl)
theorem dX3_spellGoes_38 : decode cX3_spellGoes 38 = .ok (.ifCond .lt 22, 3) := dk_155 0 22 (dk_at dksX3_spellGoes_1 14 rfl rfl)
theorem dX3_spellGoes_41 : decode cX3_spellGoes 41 = .ok (.aload_n 0, 1) := dk_42 (dk_at dksX3_spellGoes_1 17 rfl rfl)
theorem dX3_spellGoes_42 : decode cX3_spellGoes 42 = .ok (.getfield 63, 3) := dk_180 0 63 (dk_at dksX3_spellGoes_1 18 rfl rfl)
theorem dX3_spellGoes_45 : decode cX3_spellGoes 45 = .ok (.aload_n 1, 1) := dk_43 (dk_at dksX3_spellGoes_1 21 rfl rfl)
theorem dX3_spellGoes_46 : decode cX3_spellGoes 46 = .ok (.iload_n 2, 1) := dk_28 (dk_at dksX3_spellGoes_1 22 rfl rfl)
theorem dX3_spellGoes_47 : decode cX3_spellGoes 47 = .ok (.invokestatic 129, 3) := dk_184 0 129 (dk_at dksX3_spellGoes_2 0 rfl rfl)
theorem dX3_spellGoes_50 : decode cX3_spellGoes 50 = .ok (.dup2, 1) := dk_92 (dk_at dksX3_spellGoes_2 3 rfl rfl)
theorem dX3_spellGoes_51 : decode cX3_spellGoes 51 = .ok (.iaload, 1) := dk_46 (dk_at dksX3_spellGoes_2 4 rfl rfl)
theorem dX3_spellGoes_52 : decode cX3_spellGoes 52 = .ok (.aload_n 0, 1) := dk_42 (dk_at dksX3_spellGoes_2 5 rfl rfl)
theorem dX3_spellGoes_53 : decode cX3_spellGoes 53 = .ok (.aload_n 1, 1) := dk_43 (dk_at dksX3_spellGoes_2 6 rfl rfl)
theorem dX3_spellGoes_54 : decode cX3_spellGoes 54 = .ok (.iload_n 2, 1) := dk_28 (dk_at dksX3_spellGoes_2 7 rfl rfl)
theorem dX3_spellGoes_55 : decode cX3_spellGoes 55 = .ok (.invokevirtual 297, 3) := dk_182 1 41 (dk_at dksX3_spellGoes_2 8 rfl rfl)
theorem dX3_spellGoes_58 : decode cX3_spellGoes 58 = .ok (.iadd, 1) := dk_96 (dk_at dksX3_spellGoes_2 11 rfl rfl)
theorem dX3_spellGoes_59 : decode cX3_spellGoes 59 = .ok (.iastore, 1) := dk_79 (dk_at dksX3_spellGoes_2 12 rfl rfl)
theorem dX3_spellGoes_60 : decode cX3_spellGoes 60 = .ok (.iinc 2 1, 3) := dk_132 2 1 (dk_at dksX3_spellGoes_2 13 rfl rfl)
theorem dX3_spellGoes_63 : decode cX3_spellGoes 63 = .ok (.goto (-38), 3) := dk_167 255 218 (dk_at dksX3_spellGoes_2 16 rfl rfl)
theorem dX3_spellGoes_66 : decode cX3_spellGoes 66 = .ok (.iconst 0, 1) := dk_3 (dk_at dksX3_spellGoes_2 19 rfl rfl)
theorem dX3_spellGoes_67 : decode cX3_spellGoes 67 = .ok (.istore_n 2, 1) := dk_61 (dk_at dksX3_spellGoes_2 20 rfl rfl)
theorem dX3_spellGoes_68 : decode cX3_spellGoes 68 = .ok (.iload_n 2, 1) := dk_28 (dk_at dksX3_spellGoes_2 21 rfl rfl)
theorem dX3_spellGoes_69 : decode cX3_spellGoes 69 = .ok (.aload_n 0, 1) := dk_42 (dk_at dksX3_spellGoes_2 22 rfl rfl)
theorem dX3_spellGoes_70 : decode cX3_spellGoes 70 = .ok (.getfield 13, 3) := dk_180 0 13 (dk_at dksX3_spellGoes_3 0 rfl rfl)
theorem dX3_spellGoes_73 : decode cX3_spellGoes 73 = .ok (.if_icmp .ge 28, 3) := dk_162 0 28 (dk_at dksX3_spellGoes_3 3 rfl rfl)
theorem dX3_spellGoes_76 : decode cX3_spellGoes 76 = .ok (.aload_n 1, 1) := dk_43 (dk_at dksX3_spellGoes_3 6 rfl rfl)
theorem dX3_spellGoes_77 : decode cX3_spellGoes 77 = .ok (.iload_n 2, 1) := dk_28 (dk_at dksX3_spellGoes_3 7 rfl rfl)
theorem dX3_spellGoes_78 : decode cX3_spellGoes 78 = .ok (.sipush 999, 3) := dk_17 3 231 (dk_at dksX3_spellGoes_3 8 rfl rfl)
theorem dX3_spellGoes_81 : decode cX3_spellGoes 81 = .ok (.aload_n 1, 1) := dk_43 (dk_at dksX3_spellGoes_3 11 rfl rfl)
theorem dX3_spellGoes_82 : decode cX3_spellGoes 82 = .ok (.iload_n 2, 1) := dk_28 (dk_at dksX3_spellGoes_3 12 rfl rfl)
theorem dX3_spellGoes_83 : decode cX3_spellGoes 83 = .ok (.iaload, 1) := dk_46 (dk_at dksX3_spellGoes_3 13 rfl rfl)
theorem dX3_spellGoes_84 : decode cX3_spellGoes 84 = .ok (.aload_n 0, 1) := dk_42 (dk_at dksX3_spellGoes_3 14 rfl rfl)
theorem dX3_spellGoes_85 : decode cX3_spellGoes 85 = .ok (.getfield 63, 3) := dk_180 0 63 (dk_at dksX3_spellGoes_3 15 rfl rfl)
theorem dX3_spellGoes_88 : decode cX3_spellGoes 88 = .ok (.iload_n 2, 1) := dk_28 (dk_at dksX3_spellGoes_3 18 rfl rfl)
theorem dX3_spellGoes_89 : decode cX3_spellGoes 89 = .ok (.iaload, 1) := dk_46 (dk_at dksX3_spellGoes_3 19 rfl rfl)
theorem dX3_spellGoes_90 : decode cX3_spellGoes 90 = .ok (.iadd, 1) := dk_96 (dk_at dksX3_spellGoes_3 20 rfl rfl)
theorem dX3_spellGoes_91 : decode cX3_spellGoes 91 = .ok (.invokestatic 142, 3) := dk_184 0 142 (dk_at dksX3_spellGoes_3 21 rfl rfl)
theorem dX3_spellGoes_94 : decode cX3_spellGoes 94 = .ok (.iastore, 1) := dk_79 (dk_at dksX3_spellGoes_4 0 rfl rfl)
theorem dX3_spellGoes_95 : decode cX3_spellGoes 95 = .ok (.iinc 2 1, 3) := dk_132 2 1 (dk_at dksX3_spellGoes_4 1 rfl rfl)
theorem dX3_spellGoes_98 : decode cX3_spellGoes 98 = .ok (.goto (-30), 3) := dk_167 255 226 (dk_at dksX3_spellGoes_4 4 rfl rfl)
theorem dX3_spellGoes_101 : decode cX3_spellGoes 101 = .ok (.iconst 0, 1) := dk_3 (dk_at dksX3_spellGoes_4 7 rfl rfl)
theorem dX3_spellGoes_102 : decode cX3_spellGoes 102 = .ok (.istore_n 2, 1) := dk_61 (dk_at dksX3_spellGoes_4 8 rfl rfl)
theorem dX3_spellGoes_103 : decode cX3_spellGoes 103 = .ok (.iload_n 2, 1) := dk_28 (dk_at dksX3_spellGoes_4 9 rfl rfl)
theorem dX3_spellGoes_104 : decode cX3_spellGoes 104 = .ok (.aload_n 0, 1) := dk_42 (dk_at dksX3_spellGoes_4 10 rfl rfl)
theorem dX3_spellGoes_105 : decode cX3_spellGoes 105 = .ok (.getfield 126, 3) := dk_180 0 126 (dk_at dksX3_spellGoes_4 11 rfl rfl)
theorem dX3_spellGoes_108 : decode cX3_spellGoes 108 = .ok (.if_icmp .ge 66, 3) := dk_162 0 66 (dk_at dksX3_spellGoes_4 14 rfl rfl)
theorem dX3_spellGoes_111 : decode cX3_spellGoes 111 = .ok (.bipush 25, 2) := dk_16 25 (dk_at dksX3_spellGoes_4 17 rfl rfl)
theorem dX3_spellGoes_113 : decode cX3_spellGoes 113 = .ok (.iconst 2, 1) := dk_5 (dk_at dksX3_spellGoes_4 19 rfl rfl)
theorem dX3_spellGoes_114 : decode cX3_spellGoes 114 = .ok (.iload_n 2, 1) := dk_28 (dk_at dksX3_spellGoes_4 20 rfl rfl)
theorem dX3_spellGoes_115 : decode cX3_spellGoes 115 = .ok (.imul, 1) := dk_104 (dk_at dksX3_spellGoes_4 21 rfl rfl)
theorem dX3_spellGoes_116 : decode cX3_spellGoes 116 = .ok (.iadd, 1) := dk_96 (dk_at dksX3_spellGoes_4 22 rfl rfl)
theorem dX3_spellGoes_117 : decode cX3_spellGoes 117 = .ok (.istore_n 3, 1) := dk_62 (dk_at dksX3_spellGoes_4 23 rfl rfl)
theorem dX3_spellGoes_118 : decode cX3_spellGoes 118 = .ok (.aload_n 1, 1) := dk_43 (dk_at dksX3_spellGoes_5 0 rfl rfl)
theorem dX3_spellGoes_119 : decode cX3_spellGoes 119 = .ok (.iload_n 3, 1) := dk_29 (dk_at dksX3_spellGoes_5 1 rfl rfl)
theorem dX3_spellGoes_120 : decode cX3_spellGoes 120 = .ok (.iconst 0, 1) := dk_3 (dk_at dksX3_spellGoes_5 2 rfl rfl)
theorem dX3_spellGoes_121 : decode cX3_spellGoes 121 = .ok (.iadd, 1) := dk_96 (dk_at dksX3_spellGoes_5 3 rfl rfl)
theorem dX3_spellGoes_122 : decode cX3_spellGoes 122 = .ok (.iaload, 1) := dk_46 (dk_at dksX3_spellGoes_5 4 rfl rfl)
theorem dX3_spellGoes_123 : decode cX3_spellGoes 123 = .ok (.ifCond .lt 45, 3) := dk_155 0 45 (dk_at dksX3_spellGoes_5 5 rfl rfl)
theorem dX3_spellGoes_126 : decode cX3_spellGoes 126 = .ok (.aload_n 1, 1) := dk_43 (dk_at dksX3_spellGoes_5 8 rfl rfl)
theorem dX3_spellGoes_127 : decode cX3_spellGoes 127 = .ok (.iload_n 3, 1) := dk_29 (dk_at dksX3_spellGoes_5 9 rfl rfl)
theorem dX3_spellGoes_128 : decode cX3_spellGoes 128 = .ok (.iconst 1, 1) := dk_4 (dk_at dksX3_spellGoes_5 10 rfl rfl)
theorem dX3_spellGoes_129 : decode cX3_spellGoes 129 = .ok (.iadd, 1) := dk_96 (dk_at dksX3_spellGoes_5 11 rfl rfl)
theorem dX3_spellGoes_130 : decode cX3_spellGoes 130 = .ok (.iconst 0, 1) := dk_3 (dk_at dksX3_spellGoes_5 12 rfl rfl)
theorem dX3_spellGoes_131 : decode cX3_spellGoes 131 = .ok (.aload_n 1, 1) := dk_43 (dk_at dksX3_spellGoes_5 13 rfl rfl)
theorem dX3_spellGoes_132 : decode cX3_spellGoes 132 = .ok (.iload_n 3, 1) := dk_29 (dk_at dksX3_spellGoes_5 14 rfl rfl)
theorem dX3_spellGoes_133 : decode cX3_spellGoes 133 = .ok (.iconst 1, 1) := dk_4 (dk_at dksX3_spellGoes_5 15 rfl rfl)
theorem dX3_spellGoes_134 : decode cX3_spellGoes 134 = .ok (.iadd, 1) := dk_96 (dk_at dksX3_spellGoes_5 16 rfl rfl)
theorem dX3_spellGoes_135 : decode cX3_spellGoes 135 = .ok (.iaload, 1) := dk_46 (dk_at dksX3_spellGoes_5 17 rfl rfl)
theorem dX3_spellGoes_136 : decode cX3_spellGoes 136 = .ok (.iconst 1, 1) := dk_4 (dk_at dksX3_spellGoes_5 18 rfl rfl)
theorem dX3_spellGoes_137 : decode cX3_spellGoes 137 = .ok (.isub, 1) := dk_100 (dk_at dksX3_spellGoes_5 19 rfl rfl)
theorem dX3_spellGoes_138 : decode cX3_spellGoes 138 = .ok (.invokestatic 259, 3) := dk_184 1 3 (dk_at dksX3_spellGoes_5 20 rfl rfl)
theorem dX3_spellGoes_141 : decode cX3_spellGoes 141 = .ok (.iastore, 1) := dk_79 (dk_at dksX3_spellGoes_5 23 rfl rfl)
theorem dX3_spellGoes_142 : decode cX3_spellGoes 142 = .ok (.aload_n 1, 1) := dk_43 (dk_at dksX3_spellGoes_6 0 rfl rfl)
theorem dX3_spellGoes_143 : decode cX3_spellGoes 143 = .ok (.iload_n 3, 1) := dk_29 (dk_at dksX3_spellGoes_6 1 rfl rfl)
theorem dX3_spellGoes_144 : decode cX3_spellGoes 144 = .ok (.iconst 1, 1) := dk_4 (dk_at dksX3_spellGoes_6 2 rfl rfl)
theorem dX3_spellGoes_145 : decode cX3_spellGoes 145 = .ok (.iadd, 1) := dk_96 (dk_at dksX3_spellGoes_6 3 rfl rfl)
theorem dX3_spellGoes_146 : decode cX3_spellGoes 146 = .ok (.iaload, 1) := dk_46 (dk_at dksX3_spellGoes_6 4 rfl rfl)
theorem dX3_spellGoes_147 : decode cX3_spellGoes 147 = .ok (.ifCond .ne 21, 3) := dk_154 0 21 (dk_at dksX3_spellGoes_6 5 rfl rfl)
theorem dX3_spellGoes_150 : decode cX3_spellGoes 150 = .ok (.aload_n 0, 1) := dk_42 (dk_at dksX3_spellGoes_6 8 rfl rfl)
theorem dX3_spellGoes_151 : decode cX3_spellGoes 151 = .ok (.dup, 1) := dk_89 (dk_at dksX3_spellGoes_6 9 rfl rfl)
theorem dX3_spellGoes_152 : decode cX3_spellGoes 152 = .ok (.getfield 309, 3) := dk_180 1 53 (dk_at dksX3_spellGoes_6 10 rfl rfl)
theorem dX3_spellGoes_155 : decode cX3_spellGoes 155 = .ok (.iconst 1, 1) := dk_4 (dk_at dksX3_spellGoes_6 13 rfl rfl)
theorem dX3_spellGoes_156 : decode cX3_spellGoes 156 = .ok (.iload_n 2, 1) := dk_28 (dk_at dksX3_spellGoes_6 14 rfl rfl)
theorem dX3_spellGoes_157 : decode cX3_spellGoes 157 = .ok (.ishl, 1) := dk_120 (dk_at dksX3_spellGoes_6 15 rfl rfl)
theorem dX3_spellGoes_158 : decode cX3_spellGoes 158 = .ok (.ior, 1) := dk_128 (dk_at dksX3_spellGoes_6 16 rfl rfl)
theorem dX3_spellGoes_159 : decode cX3_spellGoes 159 = .ok (.putfield 309, 3) := dk_181 1 53 (dk_at dksX3_spellGoes_6 17 rfl rfl)
theorem dX3_spellGoes_162 : decode cX3_spellGoes 162 = .ok (.aload_n 1, 1) := dk_43 (dk_at dksX3_spellGoes_6 20 rfl rfl)
theorem dX3_spellGoes_163 : decode cX3_spellGoes 163 = .ok (.iload_n 3, 1) := dk_29 (dk_at dksX3_spellGoes_6 21 rfl rfl)
theorem dX3_spellGoes_164 : decode cX3_spellGoes 164 = .ok (.iconst 0, 1) := dk_3 (dk_at dksX3_spellGoes_6 22 rfl rfl)
theorem dX3_spellGoes_165 : decode cX3_spellGoes 165 = .ok (.iadd, 1) := dk_96 (dk_at dksX3_spellGoes_6 23 rfl rfl)
theorem dX3_spellGoes_166 : decode cX3_spellGoes 166 = .ok (.iconst (-1), 1) := dk_2 (dk_at dksX3_spellGoes_7 0 rfl rfl)
theorem dX3_spellGoes_167 : decode cX3_spellGoes 167 = .ok (.iastore, 1) := dk_79 (dk_at dksX3_spellGoes_7 1 rfl rfl)
theorem dX3_spellGoes_168 : decode cX3_spellGoes 168 = .ok (.iinc 2 1, 3) := dk_132 2 1 (dk_at dksX3_spellGoes_7 2 rfl rfl)
theorem dX3_spellGoes_171 : decode cX3_spellGoes 171 = .ok (.goto (-68), 3) := dk_167 255 188 (dk_at dksX3_spellGoes_7 5 rfl rfl)
theorem dX3_spellGoes_174 : decode cX3_spellGoes 174 = .ok (.return_, 1) := dk_177 (dk_at dksX3_spellGoes_7 8 rfl rfl)
abbrev cX3_enters : ByteArray := prog_13_method_8_code
def yX3_enters : MethodName := ⟨RX3, "enters", "(J)V"⟩
def dkwX3_enters_0 : List UInt8 := [42, 180, 0, 9, 42, 180, 0, 119, 31, 80, 42, 89, 180, 0, 119, 4, 96, 181, 0, 119, 177]
abbrev dktX3_enters_0 : List UInt8 := dkwX3_enters_0 ++ []
theorem dksX3_enters_0 : cX3_enters.data.toList.drop 0 = dktX3_enters_0 := by decide +kernel
theorem dX3_enters_0 : decode cX3_enters 0 = .ok (.aload_n 0, 1) := dk_42 (dk_at dksX3_enters_0 0 rfl rfl)
theorem dX3_enters_1 : decode cX3_enters 1 = .ok (.getfield 9, 3) := dk_180 0 9 (dk_at dksX3_enters_0 1 rfl rfl)
theorem dX3_enters_4 : decode cX3_enters 4 = .ok (.aload_n 0, 1) := dk_42 (dk_at dksX3_enters_0 4 rfl rfl)
theorem dX3_enters_5 : decode cX3_enters 5 = .ok (.getfield 119, 3) := dk_180 0 119 (dk_at dksX3_enters_0 5 rfl rfl)
theorem dX3_enters_8 : decode cX3_enters 8 = .ok (.lload_n 1, 1) := dk_31 (dk_at dksX3_enters_0 8 rfl rfl)
theorem dX3_enters_9 : decode cX3_enters 9 = .ok (.lastore, 1) := dk_80 (dk_at dksX3_enters_0 9 rfl rfl)
theorem dX3_enters_10 : decode cX3_enters 10 = .ok (.aload_n 0, 1) := dk_42 (dk_at dksX3_enters_0 10 rfl rfl)
theorem dX3_enters_11 : decode cX3_enters 11 = .ok (.dup, 1) := dk_89 (dk_at dksX3_enters_0 11 rfl rfl)
theorem dX3_enters_12 : decode cX3_enters 12 = .ok (.getfield 119, 3) := dk_180 0 119 (dk_at dksX3_enters_0 12 rfl rfl)
theorem dX3_enters_15 : decode cX3_enters 15 = .ok (.iconst 1, 1) := dk_4 (dk_at dksX3_enters_0 15 rfl rfl)
theorem dX3_enters_16 : decode cX3_enters 16 = .ok (.iadd, 1) := dk_96 (dk_at dksX3_enters_0 16 rfl rfl)
theorem dX3_enters_17 : decode cX3_enters 17 = .ok (.putfield 119, 3) := dk_181 0 119 (dk_at dksX3_enters_0 17 rfl rfl)
theorem dX3_enters_20 : decode cX3_enters 20 = .ok (.return_, 1) := dk_177 (dk_at dksX3_enters_0 20 rfl rfl)
abbrev cX3_tide : ByteArray := prog_13_method_68_code
def yX3_tide : MethodName := ⟨RX3, "tide", "()I"⟩
def dkwX3_tide_2 : List UInt8 := [182, 1, 107, 27, 100, 133, 182, 1, 103, 42, 28, 182, 1, 50, 172]
abbrev dktX3_tide_2 : List UInt8 := dkwX3_tide_2 ++ []
def dkwX3_tide_1 : List UInt8 := [182, 1, 110, 61, 42, 3, 181, 0, 119, 42, 42, 180, 1, 63, 133, 182, 1, 103, 42, 42, 42, 180, 0, 36]
abbrev dktX3_tide_1 : List UInt8 := dkwX3_tide_1 ++ dktX3_tide_2
def dkwX3_tide_0 : List UInt8 := [42, 3, 181, 0, 112, 42, 182, 1, 72, 42, 42, 180, 0, 36, 182, 1, 107, 60, 42, 42, 180, 0, 36]
abbrev dktX3_tide_0 : List UInt8 := dkwX3_tide_0 ++ dktX3_tide_1
theorem dksX3_tide_0 : cX3_tide.data.toList.drop 0 = dktX3_tide_0 := by decide +kernel
theorem dksX3_tide_1 : cX3_tide.data.toList.drop 23 = dktX3_tide_1 := dk_seg dksX3_tide_0 23 rfl rfl
theorem dksX3_tide_2 : cX3_tide.data.toList.drop 47 = dktX3_tide_2 := dk_seg dksX3_tide_1 24 rfl rfl
theorem dX3_tide_0 : decode cX3_tide 0 = .ok (.aload_n 0, 1) := dk_42 (dk_at dksX3_tide_0 0 rfl rfl)
theorem dX3_tide_1 : decode cX3_tide 1 = .ok (.iconst 0, 1) := dk_3 (dk_at dksX3_tide_0 1 rfl rfl)
theorem dX3_tide_2 : decode cX3_tide 2 = .ok (.putfield 112, 3) := dk_181 0 112 (dk_at dksX3_tide_0 2 rfl rfl)
theorem dX3_tide_5 : decode cX3_tide 5 = .ok (.aload_n 0, 1) := dk_42 (dk_at dksX3_tide_0 5 rfl rfl)
theorem dX3_tide_6 : decode cX3_tide 6 = .ok (.invokevirtual 328, 3) := dk_182 1 72 (dk_at dksX3_tide_0 6 rfl rfl)
theorem dX3_tide_9 : decode cX3_tide 9 = .ok (.aload_n 0, 1) := dk_42 (dk_at dksX3_tide_0 9 rfl rfl)
theorem dX3_tide_10 : decode cX3_tide 10 = .ok (.aload_n 0, 1) := dk_42 (dk_at dksX3_tide_0 10 rfl rfl)
theorem dX3_tide_11 : decode cX3_tide 11 = .ok (.getfield 36, 3) := dk_180 0 36 (dk_at dksX3_tide_0 11 rfl rfl)
theorem dX3_tide_14 : decode cX3_tide 14 = .ok (.invokevirtual 363, 3) := dk_182 1 107 (dk_at dksX3_tide_0 14 rfl rfl)
theorem dX3_tide_17 : decode cX3_tide 17 = .ok (.istore_n 1, 1) := dk_60 (dk_at dksX3_tide_0 17 rfl rfl)
theorem dX3_tide_18 : decode cX3_tide 18 = .ok (.aload_n 0, 1) := dk_42 (dk_at dksX3_tide_0 18 rfl rfl)
theorem dX3_tide_19 : decode cX3_tide 19 = .ok (.aload_n 0, 1) := dk_42 (dk_at dksX3_tide_0 19 rfl rfl)
theorem dX3_tide_20 : decode cX3_tide 20 = .ok (.getfield 36, 3) := dk_180 0 36 (dk_at dksX3_tide_0 20 rfl rfl)
theorem dX3_tide_23 : decode cX3_tide 23 = .ok (.invokevirtual 366, 3) := dk_182 1 110 (dk_at dksX3_tide_1 0 rfl rfl)
theorem dX3_tide_26 : decode cX3_tide 26 = .ok (.istore_n 2, 1) := dk_61 (dk_at dksX3_tide_1 3 rfl rfl)
theorem dX3_tide_27 : decode cX3_tide 27 = .ok (.aload_n 0, 1) := dk_42 (dk_at dksX3_tide_1 4 rfl rfl)
theorem dX3_tide_28 : decode cX3_tide 28 = .ok (.iconst 0, 1) := dk_3 (dk_at dksX3_tide_1 5 rfl rfl)
theorem dX3_tide_29 : decode cX3_tide 29 = .ok (.putfield 119, 3) := dk_181 0 119 (dk_at dksX3_tide_1 6 rfl rfl)
theorem dX3_tide_32 : decode cX3_tide 32 = .ok (.aload_n 0, 1) := dk_42 (dk_at dksX3_tide_1 9 rfl rfl)
theorem dX3_tide_33 : decode cX3_tide 33 = .ok (.aload_n 0, 1) := dk_42 (dk_at dksX3_tide_1 10 rfl rfl)
theorem dX3_tide_34 : decode cX3_tide 34 = .ok (.getfield 319, 3) := dk_180 1 63 (dk_at dksX3_tide_1 11 rfl rfl)
theorem dX3_tide_37 : decode cX3_tide 37 = .ok (.i2l, 1) := dk_133 (dk_at dksX3_tide_1 14 rfl rfl)
theorem dX3_tide_38 : decode cX3_tide 38 = .ok (.invokevirtual 359, 3) := dk_182 1 103 (dk_at dksX3_tide_1 15 rfl rfl)
theorem dX3_tide_41 : decode cX3_tide 41 = .ok (.aload_n 0, 1) := dk_42 (dk_at dksX3_tide_1 18 rfl rfl)
theorem dX3_tide_42 : decode cX3_tide 42 = .ok (.aload_n 0, 1) := dk_42 (dk_at dksX3_tide_1 19 rfl rfl)
theorem dX3_tide_43 : decode cX3_tide 43 = .ok (.aload_n 0, 1) := dk_42 (dk_at dksX3_tide_1 20 rfl rfl)
theorem dX3_tide_44 : decode cX3_tide 44 = .ok (.getfield 36, 3) := dk_180 0 36 (dk_at dksX3_tide_1 21 rfl rfl)
theorem dX3_tide_47 : decode cX3_tide 47 = .ok (.invokevirtual 363, 3) := dk_182 1 107 (dk_at dksX3_tide_2 0 rfl rfl)
theorem dX3_tide_50 : decode cX3_tide 50 = .ok (.iload_n 1, 1) := dk_27 (dk_at dksX3_tide_2 3 rfl rfl)
theorem dX3_tide_51 : decode cX3_tide 51 = .ok (.isub, 1) := dk_100 (dk_at dksX3_tide_2 4 rfl rfl)
theorem dX3_tide_52 : decode cX3_tide 52 = .ok (.i2l, 1) := dk_133 (dk_at dksX3_tide_2 5 rfl rfl)
theorem dX3_tide_53 : decode cX3_tide 53 = .ok (.invokevirtual 359, 3) := dk_182 1 103 (dk_at dksX3_tide_2 6 rfl rfl)
theorem dX3_tide_56 : decode cX3_tide 56 = .ok (.aload_n 0, 1) := dk_42 (dk_at dksX3_tide_2 9 rfl rfl)
theorem dX3_tide_57 : decode cX3_tide 57 = .ok (.iload_n 2, 1) := dk_28 (dk_at dksX3_tide_2 10 rfl rfl)
theorem dX3_tide_58 : decode cX3_tide 58 = .ok (.invokevirtual 306, 3) := dk_182 1 50 (dk_at dksX3_tide_2 11 rfl rfl)
theorem dX3_tide_61 : decode cX3_tide 61 = .ok (.ireturn, 1) := dk_172 (dk_at dksX3_tide_2 14 rfl rfl)
abbrev cX3_deepAll : ByteArray := prog_13_method_16_code
def yX3_deepAll : MethodName := ⟨RX3, "deepAll", "([I)I"⟩
def dkwX3_deepAll_1 : List UInt8 := [167, 255, 236, 28, 172]
abbrev dktX3_deepAll_1 : List UInt8 := dkwX3_deepAll_1 ++ []
def dkwX3_deepAll_0 : List UInt8 := [3, 61, 3, 62, 29, 42, 180, 0, 13, 162, 0, 18, 28, 43, 16, 13, 29, 96, 46, 96, 61, 132, 3, 1]
abbrev dktX3_deepAll_0 : List UInt8 := dkwX3_deepAll_0 ++ dktX3_deepAll_1
theorem dksX3_deepAll_0 : cX3_deepAll.data.toList.drop 0 = dktX3_deepAll_0 := by decide +kernel
theorem dksX3_deepAll_1 : cX3_deepAll.data.toList.drop 24 = dktX3_deepAll_1 := dk_seg dksX3_deepAll_0 24 rfl rfl
theorem dX3_deepAll_0 : decode cX3_deepAll 0 = .ok (.iconst 0, 1) := dk_3 (dk_at dksX3_deepAll_0 0 rfl rfl)
theorem dX3_deepAll_1 : decode cX3_deepAll 1 = .ok (.istore_n 2, 1) := dk_61 (dk_at dksX3_deepAll_0 1 rfl rfl)
theorem dX3_deepAll_2 : decode cX3_deepAll 2 = .ok (.iconst 0, 1) := dk_3 (dk_at dksX3_deepAll_0 2 rfl rfl)
theorem dX3_deepAll_3 : decode cX3_deepAll 3 = .ok (.istore_n 3, 1) := dk_62 (dk_at dksX3_deepAll_0 3 rfl rfl)
theorem dX3_deepAll_4 : decode cX3_deepAll 4 = .ok (.iload_n 3, 1) := dk_29 (dk_at dksX3_deepAll_0 4 rfl rfl)
theorem dX3_deepAll_5 : decode cX3_deepAll 5 = .ok (.aload_n 0, 1) := dk_42 (dk_at dksX3_deepAll_0 5 rfl rfl)
theorem dX3_deepAll_6 : decode cX3_deepAll 6 = .ok (.getfield 13, 3) := dk_180 0 13 (dk_at dksX3_deepAll_0 6 rfl rfl)
theorem dX3_deepAll_9 : decode cX3_deepAll 9 = .ok (.if_icmp .ge 18, 3) := dk_162 0 18 (dk_at dksX3_deepAll_0 9 rfl rfl)
theorem dX3_deepAll_12 : decode cX3_deepAll 12 = .ok (.iload_n 2, 1) := dk_28 (dk_at dksX3_deepAll_0 12 rfl rfl)
theorem dX3_deepAll_13 : decode cX3_deepAll 13 = .ok (.aload_n 1, 1) := dk_43 (dk_at dksX3_deepAll_0 13 rfl rfl)
theorem dX3_deepAll_14 : decode cX3_deepAll 14 = .ok (.bipush 13, 2) := dk_16 13 (dk_at dksX3_deepAll_0 14 rfl rfl)
theorem dX3_deepAll_16 : decode cX3_deepAll 16 = .ok (.iload_n 3, 1) := dk_29 (dk_at dksX3_deepAll_0 16 rfl rfl)
theorem dX3_deepAll_17 : decode cX3_deepAll 17 = .ok (.iadd, 1) := dk_96 (dk_at dksX3_deepAll_0 17 rfl rfl)
theorem dX3_deepAll_18 : decode cX3_deepAll 18 = .ok (.iaload, 1) := dk_46 (dk_at dksX3_deepAll_0 18 rfl rfl)
theorem dX3_deepAll_19 : decode cX3_deepAll 19 = .ok (.iadd, 1) := dk_96 (dk_at dksX3_deepAll_0 19 rfl rfl)
theorem dX3_deepAll_20 : decode cX3_deepAll 20 = .ok (.istore_n 2, 1) := dk_61 (dk_at dksX3_deepAll_0 20 rfl rfl)
theorem dX3_deepAll_21 : decode cX3_deepAll 21 = .ok (.iinc 3 1, 3) := dk_132 3 1 (dk_at dksX3_deepAll_0 21 rfl rfl)
theorem dX3_deepAll_24 : decode cX3_deepAll 24 = .ok (.goto (-20), 3) := dk_167 255 236 (dk_at dksX3_deepAll_1 0 rfl rfl)
theorem dX3_deepAll_27 : decode cX3_deepAll 27 = .ok (.iload_n 2, 1) := dk_28 (dk_at dksX3_deepAll_1 3 rfl rfl)
theorem dX3_deepAll_28 : decode cX3_deepAll 28 = .ok (.ireturn, 1) := dk_172 (dk_at dksX3_deepAll_1 4 rfl rfl)
abbrev cX3_tideComes : ByteArray := prog_13_method_56_code
def yX3_tideComes : MethodName := ⟨RX3, "tideComes", "([I)I"⟩
def dkwX3_tideComes_6 : List UInt8 := [92, 46, 28, 2, 130, 126, 79, 42, 43, 182, 1, 69, 43, 16, 42, 92, 46, 4, 96, 79, 28, 172]
abbrev dktX3_tideComes_6 : List UInt8 := dkwX3_tideComes_6 ++ []
def dkwX3_tideComes_5 : List UInt8 := [54, 4, 43, 29, 3, 43, 29, 46, 21, 4, 100, 184, 1, 3, 79, 132, 3, 1, 167, 255, 146, 43, 16, 12]
abbrev dktX3_tideComes_5 : List UInt8 := dkwX3_tideComes_5 ++ dktX3_tideComes_6
def dkwX3_tideComes_4 : List UInt8 := [104, 100, 184, 1, 3, 43, 16, 12, 46, 29, 184, 1, 13, 153, 0, 8, 16, 8, 167, 0, 4, 7, 108]
abbrev dktX3_tideComes_4 : List UInt8 := dkwX3_tideComes_4 ++ dktX3_tideComes_5
def dkwX3_tideComes_3 : List UInt8 := [79, 43, 29, 92, 46, 5, 108, 79, 167, 0, 54, 3, 42, 180, 1, 63, 16, 10, 42, 180, 0, 17, 29, 46]
abbrev dktX3_tideComes_3 : List UInt8 := dkwX3_tideComes_3 ++ dktX3_tideComes_4
def dkwX3_tideComes_2 : List UInt8 := [17, 3, 231, 43, 16, 13, 29, 96, 46, 42, 180, 1, 63, 96, 42, 43, 29, 182, 1, 35, 100, 184, 0, 142]
abbrev dktX3_tideComes_2 : List UInt8 := dkwX3_tideComes_2 ++ dktX3_tideComes_3
def dkwX3_tideComes_1 : List UInt8 := [62, 29, 42, 180, 0, 13, 162, 0, 108, 28, 29, 184, 1, 13, 153, 0, 43, 43, 16, 13, 29, 96]
abbrev dktX3_tideComes_1 : List UInt8 := dkwX3_tideComes_1 ++ dktX3_tideComes_2
def dkwX3_tideComes_0 : List UInt8 := [42, 42, 43, 43, 16, 42, 46, 182, 1, 60, 181, 1, 63, 42, 43, 42, 180, 1, 63, 182, 1, 66, 61, 3]
abbrev dktX3_tideComes_0 : List UInt8 := dkwX3_tideComes_0 ++ dktX3_tideComes_1
theorem dksX3_tideComes_0 : cX3_tideComes.data.toList.drop 0 = dktX3_tideComes_0 := by decide +kernel
theorem dksX3_tideComes_1 : cX3_tideComes.data.toList.drop 24 = dktX3_tideComes_1 := dk_seg dksX3_tideComes_0 24 rfl rfl
theorem dksX3_tideComes_2 : cX3_tideComes.data.toList.drop 46 = dktX3_tideComes_2 := dk_seg dksX3_tideComes_1 22 rfl rfl
theorem dksX3_tideComes_3 : cX3_tideComes.data.toList.drop 70 = dktX3_tideComes_3 := dk_seg dksX3_tideComes_2 24 rfl rfl
theorem dksX3_tideComes_4 : cX3_tideComes.data.toList.drop 94 = dktX3_tideComes_4 := dk_seg dksX3_tideComes_3 24 rfl rfl
theorem dksX3_tideComes_5 : cX3_tideComes.data.toList.drop 117 = dktX3_tideComes_5 := dk_seg dksX3_tideComes_4 23 rfl rfl
theorem dksX3_tideComes_6 : cX3_tideComes.data.toList.drop 141 = dktX3_tideComes_6 := dk_seg dksX3_tideComes_5 24 rfl rfl
theorem dX3_tideComes_0 : decode cX3_tideComes 0 = .ok (.aload_n 0, 1) := dk_42 (dk_at dksX3_tideComes_0 0 rfl rfl)
theorem dX3_tideComes_1 : decode cX3_tideComes 1 = .ok (.aload_n 0, 1) := dk_42 (dk_at dksX3_tideComes_0 1 rfl rfl)
theorem dX3_tideComes_2 : decode cX3_tideComes 2 = .ok (.aload_n 1, 1) := dk_43 (dk_at dksX3_tideComes_0 2 rfl rfl)
theorem dX3_tideComes_3 : decode cX3_tideComes 3 = .ok (.aload_n 1, 1) := dk_43 (dk_at dksX3_tideComes_0 3 rfl rfl)
theorem dX3_tideComes_4 : decode cX3_tideComes 4 = .ok (.bipush 42, 2) := dk_16 42 (dk_at dksX3_tideComes_0 4 rfl rfl)
theorem dX3_tideComes_6 : decode cX3_tideComes 6 = .ok (.iaload, 1) := dk_46 (dk_at dksX3_tideComes_0 6 rfl rfl)
theorem dX3_tideComes_7 : decode cX3_tideComes 7 = .ok (.invokevirtual 316, 3) := dk_182 1 60 (dk_at dksX3_tideComes_0 7 rfl rfl)
theorem dX3_tideComes_10 : decode cX3_tideComes 10 = .ok (.putfield 319, 3) := dk_181 1 63 (dk_at dksX3_tideComes_0 10 rfl rfl)
theorem dX3_tideComes_13 : decode cX3_tideComes 13 = .ok (.aload_n 0, 1) := dk_42 (dk_at dksX3_tideComes_0 13 rfl rfl)
theorem dX3_tideComes_14 : decode cX3_tideComes 14 = .ok (.aload_n 1, 1) := dk_43 (dk_at dksX3_tideComes_0 14 rfl rfl)
theorem dX3_tideComes_15 : decode cX3_tideComes 15 = .ok (.aload_n 0, 1) := dk_42 (dk_at dksX3_tideComes_0 15 rfl rfl)
theorem dX3_tideComes_16 : decode cX3_tideComes 16 = .ok (.getfield 319, 3) := dk_180 1 63 (dk_at dksX3_tideComes_0 16 rfl rfl)
theorem dX3_tideComes_19 : decode cX3_tideComes 19 = .ok (.invokevirtual 322, 3) := dk_182 1 66 (dk_at dksX3_tideComes_0 19 rfl rfl)
theorem dX3_tideComes_22 : decode cX3_tideComes 22 = .ok (.istore_n 2, 1) := dk_61 (dk_at dksX3_tideComes_0 22 rfl rfl)
theorem dX3_tideComes_23 : decode cX3_tideComes 23 = .ok (.iconst 0, 1) := dk_3 (dk_at dksX3_tideComes_0 23 rfl rfl)
theorem dX3_tideComes_24 : decode cX3_tideComes 24 = .ok (.istore_n 3, 1) := dk_62 (dk_at dksX3_tideComes_1 0 rfl rfl)
theorem dX3_tideComes_25 : decode cX3_tideComes 25 = .ok (.iload_n 3, 1) := dk_29 (dk_at dksX3_tideComes_1 1 rfl rfl)
theorem dX3_tideComes_26 : decode cX3_tideComes 26 = .ok (.aload_n 0, 1) := dk_42 (dk_at dksX3_tideComes_1 2 rfl rfl)
theorem dX3_tideComes_27 : decode cX3_tideComes 27 = .ok (.getfield 13, 3) := dk_180 0 13 (dk_at dksX3_tideComes_1 3 rfl rfl)
theorem dX3_tideComes_30 : decode cX3_tideComes 30 = .ok (.if_icmp .ge 108, 3) := dk_162 0 108 (dk_at dksX3_tideComes_1 6 rfl rfl)
theorem dX3_tideComes_33 : decode cX3_tideComes 33 = .ok (.iload_n 2, 1) := dk_28 (dk_at dksX3_tideComes_1 9 rfl rfl)
theorem dX3_tideComes_34 : decode cX3_tideComes 34 = .ok (.iload_n 3, 1) := dk_29 (dk_at dksX3_tideComes_1 10 rfl rfl)
theorem dX3_tideComes_35 : decode cX3_tideComes 35 = .ok (.invokestatic 269, 3) := dk_184 1 13 (dk_at dksX3_tideComes_1 11 rfl rfl)
theorem dX3_tideComes_38 : decode cX3_tideComes 38 = .ok (.ifCond .eq 43, 3) := dk_153 0 43 (dk_at dksX3_tideComes_1 14 rfl rfl)
theorem dX3_tideComes_41 : decode cX3_tideComes 41 = .ok (.aload_n 1, 1) := dk_43 (dk_at dksX3_tideComes_1 17 rfl rfl)
theorem dX3_tideComes_42 : decode cX3_tideComes 42 = .ok (.bipush 13, 2) := dk_16 13 (dk_at dksX3_tideComes_1 18 rfl rfl)
theorem dX3_tideComes_44 : decode cX3_tideComes 44 = .ok (.iload_n 3, 1) := dk_29 (dk_at dksX3_tideComes_1 20 rfl rfl)
theorem dX3_tideComes_45 : decode cX3_tideComes 45 = .ok (.iadd, 1) := dk_96 (dk_at dksX3_tideComes_1 21 rfl rfl)
theorem dX3_tideComes_46 : decode cX3_tideComes 46 = .ok (.sipush 999, 3) := dk_17 3 231 (dk_at dksX3_tideComes_2 0 rfl rfl)
theorem dX3_tideComes_49 : decode cX3_tideComes 49 = .ok (.aload_n 1, 1) := dk_43 (dk_at dksX3_tideComes_2 3 rfl rfl)
theorem dX3_tideComes_50 : decode cX3_tideComes 50 = .ok (.bipush 13, 2) := dk_16 13 (dk_at dksX3_tideComes_2 4 rfl rfl)
theorem dX3_tideComes_52 : decode cX3_tideComes 52 = .ok (.iload_n 3, 1) := dk_29 (dk_at dksX3_tideComes_2 6 rfl rfl)
theorem dX3_tideComes_53 : decode cX3_tideComes 53 = .ok (.iadd, 1) := dk_96 (dk_at dksX3_tideComes_2 7 rfl rfl)
theorem dX3_tideComes_54 : decode cX3_tideComes 54 = .ok (.iaload, 1) := dk_46 (dk_at dksX3_tideComes_2 8 rfl rfl)
theorem dX3_tideComes_55 : decode cX3_tideComes 55 = .ok (.aload_n 0, 1) := dk_42 (dk_at dksX3_tideComes_2 9 rfl rfl)
theorem dX3_tideComes_56 : decode cX3_tideComes 56 = .ok (.getfield 319, 3) := dk_180 1 63 (dk_at dksX3_tideComes_2 10 rfl rfl)
theorem dX3_tideComes_59 : decode cX3_tideComes 59 = .ok (.iadd, 1) := dk_96 (dk_at dksX3_tideComes_2 13 rfl rfl)
theorem dX3_tideComes_60 : decode cX3_tideComes 60 = .ok (.aload_n 0, 1) := dk_42 (dk_at dksX3_tideComes_2 14 rfl rfl)
theorem dX3_tideComes_61 : decode cX3_tideComes 61 = .ok (.aload_n 1, 1) := dk_43 (dk_at dksX3_tideComes_2 15 rfl rfl)
theorem dX3_tideComes_62 : decode cX3_tideComes 62 = .ok (.iload_n 3, 1) := dk_29 (dk_at dksX3_tideComes_2 16 rfl rfl)
theorem dX3_tideComes_63 : decode cX3_tideComes 63 = .ok (.invokevirtual 291, 3) := dk_182 1 35 (dk_at dksX3_tideComes_2 17 rfl rfl)
theorem dX3_tideComes_66 : decode cX3_tideComes 66 = .ok (.isub, 1) := dk_100 (dk_at dksX3_tideComes_2 20 rfl rfl)
theorem dX3_tideComes_67 : decode cX3_tideComes 67 = .ok (.invokestatic 142, 3) := dk_184 0 142 (dk_at dksX3_tideComes_2 21 rfl rfl)
theorem dX3_tideComes_70 : decode cX3_tideComes 70 = .ok (.iastore, 1) := dk_79 (dk_at dksX3_tideComes_3 0 rfl rfl)
theorem dX3_tideComes_71 : decode cX3_tideComes 71 = .ok (.aload_n 1, 1) := dk_43 (dk_at dksX3_tideComes_3 1 rfl rfl)
theorem dX3_tideComes_72 : decode cX3_tideComes 72 = .ok (.iload_n 3, 1) := dk_29 (dk_at dksX3_tideComes_3 2 rfl rfl)
theorem dX3_tideComes_73 : decode cX3_tideComes 73 = .ok (.dup2, 1) := dk_92 (dk_at dksX3_tideComes_3 3 rfl rfl)
theorem dX3_tideComes_74 : decode cX3_tideComes 74 = .ok (.iaload, 1) := dk_46 (dk_at dksX3_tideComes_3 4 rfl rfl)
theorem dX3_tideComes_75 : decode cX3_tideComes 75 = .ok (.iconst 2, 1) := dk_5 (dk_at dksX3_tideComes_3 5 rfl rfl)
theorem dX3_tideComes_76 : decode cX3_tideComes 76 = .ok (.idiv, 1) := dk_108 (dk_at dksX3_tideComes_3 6 rfl rfl)
theorem dX3_tideComes_77 : decode cX3_tideComes 77 = .ok (.iastore, 1) := dk_79 (dk_at dksX3_tideComes_3 7 rfl rfl)
theorem dX3_tideComes_78 : decode cX3_tideComes 78 = .ok (.goto 54, 3) := dk_167 0 54 (dk_at dksX3_tideComes_3 8 rfl rfl)
theorem dX3_tideComes_81 : decode cX3_tideComes 81 = .ok (.iconst 0, 1) := dk_3 (dk_at dksX3_tideComes_3 11 rfl rfl)
theorem dX3_tideComes_82 : decode cX3_tideComes 82 = .ok (.aload_n 0, 1) := dk_42 (dk_at dksX3_tideComes_3 12 rfl rfl)
theorem dX3_tideComes_83 : decode cX3_tideComes 83 = .ok (.getfield 319, 3) := dk_180 1 63 (dk_at dksX3_tideComes_3 13 rfl rfl)
theorem dX3_tideComes_86 : decode cX3_tideComes 86 = .ok (.bipush 10, 2) := dk_16 10 (dk_at dksX3_tideComes_3 16 rfl rfl)
theorem dX3_tideComes_88 : decode cX3_tideComes 88 = .ok (.aload_n 0, 1) := dk_42 (dk_at dksX3_tideComes_3 18 rfl rfl)
theorem dX3_tideComes_89 : decode cX3_tideComes 89 = .ok (.getfield 17, 3) := dk_180 0 17 (dk_at dksX3_tideComes_3 19 rfl rfl)
theorem dX3_tideComes_92 : decode cX3_tideComes 92 = .ok (.iload_n 3, 1) := dk_29 (dk_at dksX3_tideComes_3 22 rfl rfl)
theorem dX3_tideComes_93 : decode cX3_tideComes 93 = .ok (.iaload, 1) := dk_46 (dk_at dksX3_tideComes_3 23 rfl rfl)
theorem dX3_tideComes_94 : decode cX3_tideComes 94 = .ok (.imul, 1) := dk_104 (dk_at dksX3_tideComes_4 0 rfl rfl)
theorem dX3_tideComes_95 : decode cX3_tideComes 95 = .ok (.isub, 1) := dk_100 (dk_at dksX3_tideComes_4 1 rfl rfl)
theorem dX3_tideComes_96 : decode cX3_tideComes 96 = .ok (.invokestatic 259, 3) := dk_184 1 3 (dk_at dksX3_tideComes_4 2 rfl rfl)
theorem dX3_tideComes_99 : decode cX3_tideComes 99 = .ok (.aload_n 1, 1) := dk_43 (dk_at dksX3_tideComes_4 5 rfl rfl)
theorem dX3_tideComes_100 : decode cX3_tideComes 100 = .ok (.bipush 12, 2) := dk_16 12 (dk_at dksX3_tideComes_4 6 rfl rfl)
theorem dX3_tideComes_102 : decode cX3_tideComes 102 = .ok (.iaload, 1) := dk_46 (dk_at dksX3_tideComes_4 8 rfl rfl)
theorem dX3_tideComes_103 : decode cX3_tideComes 103 = .ok (.iload_n 3, 1) := dk_29 (dk_at dksX3_tideComes_4 9 rfl rfl)
theorem dX3_tideComes_104 : decode cX3_tideComes 104 = .ok (.invokestatic 269, 3) := dk_184 1 13 (dk_at dksX3_tideComes_4 10 rfl rfl)
theorem dX3_tideComes_107 : decode cX3_tideComes 107 = .ok (.ifCond .eq 8, 3) := dk_153 0 8 (dk_at dksX3_tideComes_4 13 rfl rfl)
theorem dX3_tideComes_110 : decode cX3_tideComes 110 = .ok (.bipush 8, 2) := dk_16 8 (dk_at dksX3_tideComes_4 16 rfl rfl)
theorem dX3_tideComes_112 : decode cX3_tideComes 112 = .ok (.goto 4, 3) := dk_167 0 4 (dk_at dksX3_tideComes_4 18 rfl rfl)
theorem dX3_tideComes_115 : decode cX3_tideComes 115 = .ok (.iconst 4, 1) := dk_7 (dk_at dksX3_tideComes_4 21 rfl rfl)
theorem dX3_tideComes_116 : decode cX3_tideComes 116 = .ok (.idiv, 1) := dk_108 (dk_at dksX3_tideComes_4 22 rfl rfl)
theorem dX3_tideComes_117 : decode cX3_tideComes 117 = .ok (.istore 4, 2) := dk_54 4 (dk_at dksX3_tideComes_5 0 rfl rfl)
theorem dX3_tideComes_119 : decode cX3_tideComes 119 = .ok (.aload_n 1, 1) := dk_43 (dk_at dksX3_tideComes_5 2 rfl rfl)
theorem dX3_tideComes_120 : decode cX3_tideComes 120 = .ok (.iload_n 3, 1) := dk_29 (dk_at dksX3_tideComes_5 3 rfl rfl)
theorem dX3_tideComes_121 : decode cX3_tideComes 121 = .ok (.iconst 0, 1) := dk_3 (dk_at dksX3_tideComes_5 4 rfl rfl)
theorem dX3_tideComes_122 : decode cX3_tideComes 122 = .ok (.aload_n 1, 1) := dk_43 (dk_at dksX3_tideComes_5 5 rfl rfl)
theorem dX3_tideComes_123 : decode cX3_tideComes 123 = .ok (.iload_n 3, 1) := dk_29 (dk_at dksX3_tideComes_5 6 rfl rfl)
theorem dX3_tideComes_124 : decode cX3_tideComes 124 = .ok (.iaload, 1) := dk_46 (dk_at dksX3_tideComes_5 7 rfl rfl)
theorem dX3_tideComes_125 : decode cX3_tideComes 125 = .ok (.iload 4, 2) := dk_21 4 (dk_at dksX3_tideComes_5 8 rfl rfl)
theorem dX3_tideComes_127 : decode cX3_tideComes 127 = .ok (.isub, 1) := dk_100 (dk_at dksX3_tideComes_5 10 rfl rfl)
theorem dX3_tideComes_128 : decode cX3_tideComes 128 = .ok (.invokestatic 259, 3) := dk_184 1 3 (dk_at dksX3_tideComes_5 11 rfl rfl)
theorem dX3_tideComes_131 : decode cX3_tideComes 131 = .ok (.iastore, 1) := dk_79 (dk_at dksX3_tideComes_5 14 rfl rfl)
theorem dX3_tideComes_132 : decode cX3_tideComes 132 = .ok (.iinc 3 1, 3) := dk_132 3 1 (dk_at dksX3_tideComes_5 15 rfl rfl)
theorem dX3_tideComes_135 : decode cX3_tideComes 135 = .ok (.goto (-110), 3) := dk_167 255 146 (dk_at dksX3_tideComes_5 18 rfl rfl)
theorem dX3_tideComes_138 : decode cX3_tideComes 138 = .ok (.aload_n 1, 1) := dk_43 (dk_at dksX3_tideComes_5 21 rfl rfl)
theorem dX3_tideComes_139 : decode cX3_tideComes 139 = .ok (.bipush 12, 2) := dk_16 12 (dk_at dksX3_tideComes_5 22 rfl rfl)
theorem dX3_tideComes_141 : decode cX3_tideComes 141 = .ok (.dup2, 1) := dk_92 (dk_at dksX3_tideComes_6 0 rfl rfl)
theorem dX3_tideComes_142 : decode cX3_tideComes 142 = .ok (.iaload, 1) := dk_46 (dk_at dksX3_tideComes_6 1 rfl rfl)
theorem dX3_tideComes_143 : decode cX3_tideComes 143 = .ok (.iload_n 2, 1) := dk_28 (dk_at dksX3_tideComes_6 2 rfl rfl)
theorem dX3_tideComes_144 : decode cX3_tideComes 144 = .ok (.iconst (-1), 1) := dk_2 (dk_at dksX3_tideComes_6 3 rfl rfl)
theorem dX3_tideComes_145 : decode cX3_tideComes 145 = .ok (.ixor, 1) := dk_130 (dk_at dksX3_tideComes_6 4 rfl rfl)
theorem dX3_tideComes_146 : decode cX3_tideComes 146 = .ok (.iand, 1) := dk_126 (dk_at dksX3_tideComes_6 5 rfl rfl)
theorem dX3_tideComes_147 : decode cX3_tideComes 147 = .ok (.iastore, 1) := dk_79 (dk_at dksX3_tideComes_6 6 rfl rfl)
theorem dX3_tideComes_148 : decode cX3_tideComes 148 = .ok (.aload_n 0, 1) := dk_42 (dk_at dksX3_tideComes_6 7 rfl rfl)
theorem dX3_tideComes_149 : decode cX3_tideComes 149 = .ok (.aload_n 1, 1) := dk_43 (dk_at dksX3_tideComes_6 8 rfl rfl)
theorem dX3_tideComes_150 : decode cX3_tideComes 150 = .ok (.invokevirtual 325, 3) := dk_182 1 69 (dk_at dksX3_tideComes_6 9 rfl rfl)
theorem dX3_tideComes_153 : decode cX3_tideComes 153 = .ok (.aload_n 1, 1) := dk_43 (dk_at dksX3_tideComes_6 12 rfl rfl)
theorem dX3_tideComes_154 : decode cX3_tideComes 154 = .ok (.bipush 42, 2) := dk_16 42 (dk_at dksX3_tideComes_6 13 rfl rfl)
theorem dX3_tideComes_156 : decode cX3_tideComes 156 = .ok (.dup2, 1) := dk_92 (dk_at dksX3_tideComes_6 15 rfl rfl)
theorem dX3_tideComes_157 : decode cX3_tideComes 157 = .ok (.iaload, 1) := dk_46 (dk_at dksX3_tideComes_6 16 rfl rfl)
theorem dX3_tideComes_158 : decode cX3_tideComes 158 = .ok (.iconst 1, 1) := dk_4 (dk_at dksX3_tideComes_6 17 rfl rfl)
theorem dX3_tideComes_159 : decode cX3_tideComes 159 = .ok (.iadd, 1) := dk_96 (dk_at dksX3_tideComes_6 18 rfl rfl)
theorem dX3_tideComes_160 : decode cX3_tideComes 160 = .ok (.iastore, 1) := dk_79 (dk_at dksX3_tideComes_6 19 rfl rfl)
theorem dX3_tideComes_161 : decode cX3_tideComes 161 = .ok (.iload_n 2, 1) := dk_28 (dk_at dksX3_tideComes_6 20 rfl rfl)
theorem dX3_tideComes_162 : decode cX3_tideComes 162 = .ok (.ireturn, 1) := dk_172 (dk_at dksX3_tideComes_6 21 rfl rfl)
abbrev cX3_levelOf : ByteArray := prog_13_method_40_code
def yX3_levelOf : MethodName := ⟨RX3, "levelOf", "([II)I"⟩
def dkwX3_levelOf_2 : List UInt8 := [17, 3, 231, 42, 182, 1, 0, 184, 0, 142, 184, 1, 3, 172]
abbrev dktX3_levelOf_2 : List UInt8 := dkwX3_levelOf_2 ++ []
def dkwX3_levelOf_1 : List UInt8 := [180, 0, 57, 5, 42, 180, 0, 13, 79, 42, 180, 0, 57, 6, 43, 16, 12, 46, 184, 0, 251, 79, 3]
abbrev dktX3_levelOf_1 : List UInt8 := dkwX3_levelOf_1 ++ dktX3_levelOf_2
def dkwX3_levelOf_0 : List UInt8 := [42, 180, 0, 57, 3, 28, 16, 8, 112, 79, 42, 180, 0, 57, 4, 42, 180, 0, 33, 3, 46, 79, 42]
abbrev dktX3_levelOf_0 : List UInt8 := dkwX3_levelOf_0 ++ dktX3_levelOf_1
theorem dksX3_levelOf_0 : cX3_levelOf.data.toList.drop 0 = dktX3_levelOf_0 := by decide +kernel
theorem dksX3_levelOf_1 : cX3_levelOf.data.toList.drop 23 = dktX3_levelOf_1 := dk_seg dksX3_levelOf_0 23 rfl rfl
theorem dksX3_levelOf_2 : cX3_levelOf.data.toList.drop 46 = dktX3_levelOf_2 := dk_seg dksX3_levelOf_1 23 rfl rfl
theorem dX3_levelOf_0 : decode cX3_levelOf 0 = .ok (.aload_n 0, 1) := dk_42 (dk_at dksX3_levelOf_0 0 rfl rfl)
theorem dX3_levelOf_1 : decode cX3_levelOf 1 = .ok (.getfield 57, 3) := dk_180 0 57 (dk_at dksX3_levelOf_0 1 rfl rfl)
theorem dX3_levelOf_4 : decode cX3_levelOf 4 = .ok (.iconst 0, 1) := dk_3 (dk_at dksX3_levelOf_0 4 rfl rfl)
theorem dX3_levelOf_5 : decode cX3_levelOf 5 = .ok (.iload_n 2, 1) := dk_28 (dk_at dksX3_levelOf_0 5 rfl rfl)
theorem dX3_levelOf_6 : decode cX3_levelOf 6 = .ok (.bipush 8, 2) := dk_16 8 (dk_at dksX3_levelOf_0 6 rfl rfl)
theorem dX3_levelOf_8 : decode cX3_levelOf 8 = .ok (.irem, 1) := dk_112 (dk_at dksX3_levelOf_0 8 rfl rfl)
theorem dX3_levelOf_9 : decode cX3_levelOf 9 = .ok (.iastore, 1) := dk_79 (dk_at dksX3_levelOf_0 9 rfl rfl)
theorem dX3_levelOf_10 : decode cX3_levelOf 10 = .ok (.aload_n 0, 1) := dk_42 (dk_at dksX3_levelOf_0 10 rfl rfl)
theorem dX3_levelOf_11 : decode cX3_levelOf 11 = .ok (.getfield 57, 3) := dk_180 0 57 (dk_at dksX3_levelOf_0 11 rfl rfl)
theorem dX3_levelOf_14 : decode cX3_levelOf 14 = .ok (.iconst 1, 1) := dk_4 (dk_at dksX3_levelOf_0 14 rfl rfl)
theorem dX3_levelOf_15 : decode cX3_levelOf 15 = .ok (.aload_n 0, 1) := dk_42 (dk_at dksX3_levelOf_0 15 rfl rfl)
theorem dX3_levelOf_16 : decode cX3_levelOf 16 = .ok (.getfield 33, 3) := dk_180 0 33 (dk_at dksX3_levelOf_0 16 rfl rfl)
theorem dX3_levelOf_19 : decode cX3_levelOf 19 = .ok (.iconst 0, 1) := dk_3 (dk_at dksX3_levelOf_0 19 rfl rfl)
theorem dX3_levelOf_20 : decode cX3_levelOf 20 = .ok (.iaload, 1) := dk_46 (dk_at dksX3_levelOf_0 20 rfl rfl)
theorem dX3_levelOf_21 : decode cX3_levelOf 21 = .ok (.iastore, 1) := dk_79 (dk_at dksX3_levelOf_0 21 rfl rfl)
theorem dX3_levelOf_22 : decode cX3_levelOf 22 = .ok (.aload_n 0, 1) := dk_42 (dk_at dksX3_levelOf_0 22 rfl rfl)
theorem dX3_levelOf_23 : decode cX3_levelOf 23 = .ok (.getfield 57, 3) := dk_180 0 57 (dk_at dksX3_levelOf_1 0 rfl rfl)
theorem dX3_levelOf_26 : decode cX3_levelOf 26 = .ok (.iconst 2, 1) := dk_5 (dk_at dksX3_levelOf_1 3 rfl rfl)
theorem dX3_levelOf_27 : decode cX3_levelOf 27 = .ok (.aload_n 0, 1) := dk_42 (dk_at dksX3_levelOf_1 4 rfl rfl)
theorem dX3_levelOf_28 : decode cX3_levelOf 28 = .ok (.getfield 13, 3) := dk_180 0 13 (dk_at dksX3_levelOf_1 5 rfl rfl)
theorem dX3_levelOf_31 : decode cX3_levelOf 31 = .ok (.iastore, 1) := dk_79 (dk_at dksX3_levelOf_1 8 rfl rfl)
theorem dX3_levelOf_32 : decode cX3_levelOf 32 = .ok (.aload_n 0, 1) := dk_42 (dk_at dksX3_levelOf_1 9 rfl rfl)
theorem dX3_levelOf_33 : decode cX3_levelOf 33 = .ok (.getfield 57, 3) := dk_180 0 57 (dk_at dksX3_levelOf_1 10 rfl rfl)
theorem dX3_levelOf_36 : decode cX3_levelOf 36 = .ok (.iconst 3, 1) := dk_6 (dk_at dksX3_levelOf_1 13 rfl rfl)
theorem dX3_levelOf_37 : decode cX3_levelOf 37 = .ok (.aload_n 1, 1) := dk_43 (dk_at dksX3_levelOf_1 14 rfl rfl)
theorem dX3_levelOf_38 : decode cX3_levelOf 38 = .ok (.bipush 12, 2) := dk_16 12 (dk_at dksX3_levelOf_1 15 rfl rfl)
theorem dX3_levelOf_40 : decode cX3_levelOf 40 = .ok (.iaload, 1) := dk_46 (dk_at dksX3_levelOf_1 17 rfl rfl)
theorem dX3_levelOf_41 : decode cX3_levelOf 41 = .ok (.invokestatic 251, 3) := dk_184 0 251 (dk_at dksX3_levelOf_1 18 rfl rfl)
theorem dX3_levelOf_44 : decode cX3_levelOf 44 = .ok (.iastore, 1) := dk_79 (dk_at dksX3_levelOf_1 21 rfl rfl)
theorem dX3_levelOf_45 : decode cX3_levelOf 45 = .ok (.iconst 0, 1) := dk_3 (dk_at dksX3_levelOf_1 22 rfl rfl)
theorem dX3_levelOf_46 : decode cX3_levelOf 46 = .ok (.sipush 999, 3) := dk_17 3 231 (dk_at dksX3_levelOf_2 0 rfl rfl)
theorem dX3_levelOf_49 : decode cX3_levelOf 49 = .ok (.aload_n 0, 1) := dk_42 (dk_at dksX3_levelOf_2 3 rfl rfl)
theorem dX3_levelOf_50 : decode cX3_levelOf 50 = .ok (.invokevirtual 256, 3) := dk_182 1 0 (dk_at dksX3_levelOf_2 4 rfl rfl)
theorem dX3_levelOf_53 : decode cX3_levelOf 53 = .ok (.invokestatic 142, 3) := dk_184 0 142 (dk_at dksX3_levelOf_2 7 rfl rfl)
theorem dX3_levelOf_56 : decode cX3_levelOf 56 = .ok (.invokestatic 259, 3) := dk_184 1 3 (dk_at dksX3_levelOf_2 10 rfl rfl)
theorem dX3_levelOf_59 : decode cX3_levelOf 59 = .ok (.ireturn, 1) := dk_172 (dk_at dksX3_levelOf_2 13 rfl rfl)
abbrev cX3_ruled : ByteArray := prog_13_method_39_code
def yX3_ruled : MethodName := ⟨RX3, "ruled", "()I"⟩
def dkwX3_ruled_6 : List UInt8 := [4, 46, 104, 96, 8, 42, 180, 0, 57, 3, 46, 104, 96, 167, 0, 9, 42, 180, 0, 54, 3, 46, 172]
abbrev dktX3_ruled_6 : List UInt8 := dkwX3_ruled_6 ++ []
def dkwX3_ruled_5 : List UInt8 := [132, 1, 1, 132, 2, 1, 167, 255, 138, 42, 180, 0, 238, 154, 0, 27, 16, 30, 16, 10, 42, 180, 0, 57]
abbrev dktX3_ruled_5 : List UInt8 := dkwX3_ruled_5 ++ dktX3_ruled_6
def dkwX3_ruled_4 : List UInt8 := [27, 29, 17, 3, 232, 161, 0, 16, 42, 180, 0, 57, 29, 17, 3, 232, 100, 46, 167, 0, 4, 29, 79]
abbrev dktX3_ruled_4 : List UInt8 := dkwX3_ruled_4 ++ dktX3_ruled_5
def dkwX3_ruled_3 : List UInt8 := [180, 0, 54, 27, 4, 100, 46, 42, 180, 0, 54, 27, 46, 184, 0, 248, 79, 167, 0, 33, 42, 180, 0, 54]
abbrev dktX3_ruled_3 : List UInt8 := dkwX3_ruled_3 ++ dktX3_ruled_4
def dkwX3_ruled_2 : List UInt8 := [17, 7, 208, 161, 0, 39, 132, 1, 255, 42, 180, 0, 54, 27, 4, 100, 29, 17, 7, 208, 100, 42]
abbrev dktX3_ruled_2 : List UInt8 := dkwX3_ruled_2 ++ dktX3_ruled_3
def dkwX3_ruled_1 : List UInt8 := [160, 0, 23, 42, 180, 0, 54, 27, 4, 100, 42, 180, 0, 54, 27, 4, 100, 46, 116, 79, 167, 0, 76, 29]
abbrev dktX3_ruled_1 : List UInt8 := dkwX3_ruled_1 ++ dktX3_ruled_2
def dkwX3_ruled_0 : List UInt8 := [3, 60, 3, 61, 28, 42, 180, 0, 238, 162, 0, 116, 42, 180, 0, 48, 28, 46, 62, 29, 17, 11, 184]
abbrev dktX3_ruled_0 : List UInt8 := dkwX3_ruled_0 ++ dktX3_ruled_1
theorem dksX3_ruled_0 : cX3_ruled.data.toList.drop 0 = dktX3_ruled_0 := by decide +kernel
theorem dksX3_ruled_1 : cX3_ruled.data.toList.drop 23 = dktX3_ruled_1 := dk_seg dksX3_ruled_0 23 rfl rfl
theorem dksX3_ruled_2 : cX3_ruled.data.toList.drop 47 = dktX3_ruled_2 := dk_seg dksX3_ruled_1 24 rfl rfl
theorem dksX3_ruled_3 : cX3_ruled.data.toList.drop 69 = dktX3_ruled_3 := dk_seg dksX3_ruled_2 22 rfl rfl
theorem dksX3_ruled_4 : cX3_ruled.data.toList.drop 93 = dktX3_ruled_4 := dk_seg dksX3_ruled_3 24 rfl rfl
theorem dksX3_ruled_5 : cX3_ruled.data.toList.drop 116 = dktX3_ruled_5 := dk_seg dksX3_ruled_4 23 rfl rfl
theorem dksX3_ruled_6 : cX3_ruled.data.toList.drop 140 = dktX3_ruled_6 := dk_seg dksX3_ruled_5 24 rfl rfl
theorem dX3_ruled_0 : decode cX3_ruled 0 = .ok (.iconst 0, 1) := dk_3 (dk_at dksX3_ruled_0 0 rfl rfl)
theorem dX3_ruled_1 : decode cX3_ruled 1 = .ok (.istore_n 1, 1) := dk_60 (dk_at dksX3_ruled_0 1 rfl rfl)
theorem dX3_ruled_2 : decode cX3_ruled 2 = .ok (.iconst 0, 1) := dk_3 (dk_at dksX3_ruled_0 2 rfl rfl)
theorem dX3_ruled_3 : decode cX3_ruled 3 = .ok (.istore_n 2, 1) := dk_61 (dk_at dksX3_ruled_0 3 rfl rfl)
theorem dX3_ruled_4 : decode cX3_ruled 4 = .ok (.iload_n 2, 1) := dk_28 (dk_at dksX3_ruled_0 4 rfl rfl)
theorem dX3_ruled_5 : decode cX3_ruled 5 = .ok (.aload_n 0, 1) := dk_42 (dk_at dksX3_ruled_0 5 rfl rfl)
theorem dX3_ruled_6 : decode cX3_ruled 6 = .ok (.getfield 238, 3) := dk_180 0 238 (dk_at dksX3_ruled_0 6 rfl rfl)
theorem dX3_ruled_9 : decode cX3_ruled 9 = .ok (.if_icmp .ge 116, 3) := dk_162 0 116 (dk_at dksX3_ruled_0 9 rfl rfl)
theorem dX3_ruled_12 : decode cX3_ruled 12 = .ok (.aload_n 0, 1) := dk_42 (dk_at dksX3_ruled_0 12 rfl rfl)
theorem dX3_ruled_13 : decode cX3_ruled 13 = .ok (.getfield 48, 3) := dk_180 0 48 (dk_at dksX3_ruled_0 13 rfl rfl)
theorem dX3_ruled_16 : decode cX3_ruled 16 = .ok (.iload_n 2, 1) := dk_28 (dk_at dksX3_ruled_0 16 rfl rfl)
theorem dX3_ruled_17 : decode cX3_ruled 17 = .ok (.iaload, 1) := dk_46 (dk_at dksX3_ruled_0 17 rfl rfl)
theorem dX3_ruled_18 : decode cX3_ruled 18 = .ok (.istore_n 3, 1) := dk_62 (dk_at dksX3_ruled_0 18 rfl rfl)
theorem dX3_ruled_19 : decode cX3_ruled 19 = .ok (.iload_n 3, 1) := dk_29 (dk_at dksX3_ruled_0 19 rfl rfl)
theorem dX3_ruled_20 : decode cX3_ruled 20 = .ok (.sipush 3000, 3) := dk_17 11 184 (dk_at dksX3_ruled_0 20 rfl rfl)
theorem dX3_ruled_23 : decode cX3_ruled 23 = .ok (.if_icmp .ne 23, 3) := dk_160 0 23 (dk_at dksX3_ruled_1 0 rfl rfl)
theorem dX3_ruled_26 : decode cX3_ruled 26 = .ok (.aload_n 0, 1) := dk_42 (dk_at dksX3_ruled_1 3 rfl rfl)
theorem dX3_ruled_27 : decode cX3_ruled 27 = .ok (.getfield 54, 3) := dk_180 0 54 (dk_at dksX3_ruled_1 4 rfl rfl)
theorem dX3_ruled_30 : decode cX3_ruled 30 = .ok (.iload_n 1, 1) := dk_27 (dk_at dksX3_ruled_1 7 rfl rfl)
theorem dX3_ruled_31 : decode cX3_ruled 31 = .ok (.iconst 1, 1) := dk_4 (dk_at dksX3_ruled_1 8 rfl rfl)
theorem dX3_ruled_32 : decode cX3_ruled 32 = .ok (.isub, 1) := dk_100 (dk_at dksX3_ruled_1 9 rfl rfl)
theorem dX3_ruled_33 : decode cX3_ruled 33 = .ok (.aload_n 0, 1) := dk_42 (dk_at dksX3_ruled_1 10 rfl rfl)
theorem dX3_ruled_34 : decode cX3_ruled 34 = .ok (.getfield 54, 3) := dk_180 0 54 (dk_at dksX3_ruled_1 11 rfl rfl)
theorem dX3_ruled_37 : decode cX3_ruled 37 = .ok (.iload_n 1, 1) := dk_27 (dk_at dksX3_ruled_1 14 rfl rfl)
theorem dX3_ruled_38 : decode cX3_ruled 38 = .ok (.iconst 1, 1) := dk_4 (dk_at dksX3_ruled_1 15 rfl rfl)
theorem dX3_ruled_39 : decode cX3_ruled 39 = .ok (.isub, 1) := dk_100 (dk_at dksX3_ruled_1 16 rfl rfl)
theorem dX3_ruled_40 : decode cX3_ruled 40 = .ok (.iaload, 1) := dk_46 (dk_at dksX3_ruled_1 17 rfl rfl)
theorem dX3_ruled_41 : decode cX3_ruled 41 = .ok (.ineg, 1) := dk_116 (dk_at dksX3_ruled_1 18 rfl rfl)
theorem dX3_ruled_42 : decode cX3_ruled 42 = .ok (.iastore, 1) := dk_79 (dk_at dksX3_ruled_1 19 rfl rfl)
theorem dX3_ruled_43 : decode cX3_ruled 43 = .ok (.goto 76, 3) := dk_167 0 76 (dk_at dksX3_ruled_1 20 rfl rfl)
theorem dX3_ruled_46 : decode cX3_ruled 46 = .ok (.iload_n 3, 1) := dk_29 (dk_at dksX3_ruled_1 23 rfl rfl)
theorem dX3_ruled_47 : decode cX3_ruled 47 = .ok (.sipush 2000, 3) := dk_17 7 208 (dk_at dksX3_ruled_2 0 rfl rfl)
theorem dX3_ruled_50 : decode cX3_ruled 50 = .ok (.if_icmp .lt 39, 3) := dk_161 0 39 (dk_at dksX3_ruled_2 3 rfl rfl)
theorem dX3_ruled_53 : decode cX3_ruled 53 = .ok (.iinc 1 (-1), 3) := dk_132 1 255 (dk_at dksX3_ruled_2 6 rfl rfl)
theorem dX3_ruled_56 : decode cX3_ruled 56 = .ok (.aload_n 0, 1) := dk_42 (dk_at dksX3_ruled_2 9 rfl rfl)
theorem dX3_ruled_57 : decode cX3_ruled 57 = .ok (.getfield 54, 3) := dk_180 0 54 (dk_at dksX3_ruled_2 10 rfl rfl)
theorem dX3_ruled_60 : decode cX3_ruled 60 = .ok (.iload_n 1, 1) := dk_27 (dk_at dksX3_ruled_2 13 rfl rfl)
theorem dX3_ruled_61 : decode cX3_ruled 61 = .ok (.iconst 1, 1) := dk_4 (dk_at dksX3_ruled_2 14 rfl rfl)
theorem dX3_ruled_62 : decode cX3_ruled 62 = .ok (.isub, 1) := dk_100 (dk_at dksX3_ruled_2 15 rfl rfl)
theorem dX3_ruled_63 : decode cX3_ruled 63 = .ok (.iload_n 3, 1) := dk_29 (dk_at dksX3_ruled_2 16 rfl rfl)
theorem dX3_ruled_64 : decode cX3_ruled 64 = .ok (.sipush 2000, 3) := dk_17 7 208 (dk_at dksX3_ruled_2 17 rfl rfl)
theorem dX3_ruled_67 : decode cX3_ruled 67 = .ok (.isub, 1) := dk_100 (dk_at dksX3_ruled_2 20 rfl rfl)
theorem dX3_ruled_68 : decode cX3_ruled 68 = .ok (.aload_n 0, 1) := dk_42 (dk_at dksX3_ruled_2 21 rfl rfl)
theorem dX3_ruled_69 : decode cX3_ruled 69 = .ok (.getfield 54, 3) := dk_180 0 54 (dk_at dksX3_ruled_3 0 rfl rfl)
theorem dX3_ruled_72 : decode cX3_ruled 72 = .ok (.iload_n 1, 1) := dk_27 (dk_at dksX3_ruled_3 3 rfl rfl)
theorem dX3_ruled_73 : decode cX3_ruled 73 = .ok (.iconst 1, 1) := dk_4 (dk_at dksX3_ruled_3 4 rfl rfl)
theorem dX3_ruled_74 : decode cX3_ruled 74 = .ok (.isub, 1) := dk_100 (dk_at dksX3_ruled_3 5 rfl rfl)
theorem dX3_ruled_75 : decode cX3_ruled 75 = .ok (.iaload, 1) := dk_46 (dk_at dksX3_ruled_3 6 rfl rfl)
theorem dX3_ruled_76 : decode cX3_ruled 76 = .ok (.aload_n 0, 1) := dk_42 (dk_at dksX3_ruled_3 7 rfl rfl)
theorem dX3_ruled_77 : decode cX3_ruled 77 = .ok (.getfield 54, 3) := dk_180 0 54 (dk_at dksX3_ruled_3 8 rfl rfl)
theorem dX3_ruled_80 : decode cX3_ruled 80 = .ok (.iload_n 1, 1) := dk_27 (dk_at dksX3_ruled_3 11 rfl rfl)
theorem dX3_ruled_81 : decode cX3_ruled 81 = .ok (.iaload, 1) := dk_46 (dk_at dksX3_ruled_3 12 rfl rfl)
theorem dX3_ruled_82 : decode cX3_ruled 82 = .ok (.invokestatic 248, 3) := dk_184 0 248 (dk_at dksX3_ruled_3 13 rfl rfl)
theorem dX3_ruled_85 : decode cX3_ruled 85 = .ok (.iastore, 1) := dk_79 (dk_at dksX3_ruled_3 16 rfl rfl)
theorem dX3_ruled_86 : decode cX3_ruled 86 = .ok (.goto 33, 3) := dk_167 0 33 (dk_at dksX3_ruled_3 17 rfl rfl)
theorem dX3_ruled_89 : decode cX3_ruled 89 = .ok (.aload_n 0, 1) := dk_42 (dk_at dksX3_ruled_3 20 rfl rfl)
theorem dX3_ruled_90 : decode cX3_ruled 90 = .ok (.getfield 54, 3) := dk_180 0 54 (dk_at dksX3_ruled_3 21 rfl rfl)
theorem dX3_ruled_93 : decode cX3_ruled 93 = .ok (.iload_n 1, 1) := dk_27 (dk_at dksX3_ruled_4 0 rfl rfl)
theorem dX3_ruled_94 : decode cX3_ruled 94 = .ok (.iload_n 3, 1) := dk_29 (dk_at dksX3_ruled_4 1 rfl rfl)
theorem dX3_ruled_95 : decode cX3_ruled 95 = .ok (.sipush 1000, 3) := dk_17 3 232 (dk_at dksX3_ruled_4 2 rfl rfl)
theorem dX3_ruled_98 : decode cX3_ruled 98 = .ok (.if_icmp .lt 16, 3) := dk_161 0 16 (dk_at dksX3_ruled_4 5 rfl rfl)
theorem dX3_ruled_101 : decode cX3_ruled 101 = .ok (.aload_n 0, 1) := dk_42 (dk_at dksX3_ruled_4 8 rfl rfl)
theorem dX3_ruled_102 : decode cX3_ruled 102 = .ok (.getfield 57, 3) := dk_180 0 57 (dk_at dksX3_ruled_4 9 rfl rfl)
theorem dX3_ruled_105 : decode cX3_ruled 105 = .ok (.iload_n 3, 1) := dk_29 (dk_at dksX3_ruled_4 12 rfl rfl)
theorem dX3_ruled_106 : decode cX3_ruled 106 = .ok (.sipush 1000, 3) := dk_17 3 232 (dk_at dksX3_ruled_4 13 rfl rfl)
theorem dX3_ruled_109 : decode cX3_ruled 109 = .ok (.isub, 1) := dk_100 (dk_at dksX3_ruled_4 16 rfl rfl)
theorem dX3_ruled_110 : decode cX3_ruled 110 = .ok (.iaload, 1) := dk_46 (dk_at dksX3_ruled_4 17 rfl rfl)
theorem dX3_ruled_111 : decode cX3_ruled 111 = .ok (.goto 4, 3) := dk_167 0 4 (dk_at dksX3_ruled_4 18 rfl rfl)
theorem dX3_ruled_114 : decode cX3_ruled 114 = .ok (.iload_n 3, 1) := dk_29 (dk_at dksX3_ruled_4 21 rfl rfl)
theorem dX3_ruled_115 : decode cX3_ruled 115 = .ok (.iastore, 1) := dk_79 (dk_at dksX3_ruled_4 22 rfl rfl)
theorem dX3_ruled_116 : decode cX3_ruled 116 = .ok (.iinc 1 1, 3) := dk_132 1 1 (dk_at dksX3_ruled_5 0 rfl rfl)
theorem dX3_ruled_119 : decode cX3_ruled 119 = .ok (.iinc 2 1, 3) := dk_132 2 1 (dk_at dksX3_ruled_5 3 rfl rfl)
theorem dX3_ruled_122 : decode cX3_ruled 122 = .ok (.goto (-118), 3) := dk_167 255 138 (dk_at dksX3_ruled_5 6 rfl rfl)
theorem dX3_ruled_125 : decode cX3_ruled 125 = .ok (.aload_n 0, 1) := dk_42 (dk_at dksX3_ruled_5 9 rfl rfl)
theorem dX3_ruled_126 : decode cX3_ruled 126 = .ok (.getfield 238, 3) := dk_180 0 238 (dk_at dksX3_ruled_5 10 rfl rfl)
theorem dX3_ruled_129 : decode cX3_ruled 129 = .ok (.ifCond .ne 27, 3) := dk_154 0 27 (dk_at dksX3_ruled_5 13 rfl rfl)
theorem dX3_ruled_132 : decode cX3_ruled 132 = .ok (.bipush 30, 2) := dk_16 30 (dk_at dksX3_ruled_5 16 rfl rfl)
theorem dX3_ruled_134 : decode cX3_ruled 134 = .ok (.bipush 10, 2) := dk_16 10 (dk_at dksX3_ruled_5 18 rfl rfl)
theorem dX3_ruled_136 : decode cX3_ruled 136 = .ok (.aload_n 0, 1) := dk_42 (dk_at dksX3_ruled_5 20 rfl rfl)
theorem dX3_ruled_137 : decode cX3_ruled 137 = .ok (.getfield 57, 3) := dk_180 0 57 (dk_at dksX3_ruled_5 21 rfl rfl)
theorem dX3_ruled_140 : decode cX3_ruled 140 = .ok (.iconst 1, 1) := dk_4 (dk_at dksX3_ruled_6 0 rfl rfl)
theorem dX3_ruled_141 : decode cX3_ruled 141 = .ok (.iaload, 1) := dk_46 (dk_at dksX3_ruled_6 1 rfl rfl)
theorem dX3_ruled_142 : decode cX3_ruled 142 = .ok (.imul, 1) := dk_104 (dk_at dksX3_ruled_6 2 rfl rfl)
theorem dX3_ruled_143 : decode cX3_ruled 143 = .ok (.iadd, 1) := dk_96 (dk_at dksX3_ruled_6 3 rfl rfl)
theorem dX3_ruled_144 : decode cX3_ruled 144 = .ok (.iconst 5, 1) := dk_8 (dk_at dksX3_ruled_6 4 rfl rfl)
theorem dX3_ruled_145 : decode cX3_ruled 145 = .ok (.aload_n 0, 1) := dk_42 (dk_at dksX3_ruled_6 5 rfl rfl)
theorem dX3_ruled_146 : decode cX3_ruled 146 = .ok (.getfield 57, 3) := dk_180 0 57 (dk_at dksX3_ruled_6 6 rfl rfl)
theorem dX3_ruled_149 : decode cX3_ruled 149 = .ok (.iconst 0, 1) := dk_3 (dk_at dksX3_ruled_6 9 rfl rfl)
theorem dX3_ruled_150 : decode cX3_ruled 150 = .ok (.iaload, 1) := dk_46 (dk_at dksX3_ruled_6 10 rfl rfl)
theorem dX3_ruled_151 : decode cX3_ruled 151 = .ok (.imul, 1) := dk_104 (dk_at dksX3_ruled_6 11 rfl rfl)
theorem dX3_ruled_152 : decode cX3_ruled 152 = .ok (.iadd, 1) := dk_96 (dk_at dksX3_ruled_6 12 rfl rfl)
theorem dX3_ruled_153 : decode cX3_ruled 153 = .ok (.goto 9, 3) := dk_167 0 9 (dk_at dksX3_ruled_6 13 rfl rfl)
theorem dX3_ruled_156 : decode cX3_ruled 156 = .ok (.aload_n 0, 1) := dk_42 (dk_at dksX3_ruled_6 16 rfl rfl)
theorem dX3_ruled_157 : decode cX3_ruled 157 = .ok (.getfield 54, 3) := dk_180 0 54 (dk_at dksX3_ruled_6 17 rfl rfl)
theorem dX3_ruled_160 : decode cX3_ruled 160 = .ok (.iconst 0, 1) := dk_3 (dk_at dksX3_ruled_6 20 rfl rfl)
theorem dX3_ruled_161 : decode cX3_ruled 161 = .ok (.iaload, 1) := dk_46 (dk_at dksX3_ruled_6 21 rfl rfl)
theorem dX3_ruled_162 : decode cX3_ruled 162 = .ok (.ireturn, 1) := dk_172 (dk_at dksX3_ruled_6 22 rfl rfl)
abbrev cX3_worked : ByteArray := prog_13_method_38_code
def yX3_worked : MethodName := ⟨RX3, "worked", "(III)I"⟩
def dkwX3_worked_4 : List UInt8 := [100, 172, 27, 28, 104, 172, 28, 154, 0, 7, 3, 167, 0, 6, 27, 28, 108, 172]
abbrev dktX3_worked_4 : List UInt8 := dkwX3_worked_4 ++ []
def dkwX3_worked_3 : List UInt8 := [184, 0, 151, 172, 27, 28, 160, 0, 7, 4, 167, 0, 4, 3, 184, 0, 151, 172, 27, 28, 96, 172, 27, 28]
abbrev dktX3_worked_3 : List UInt8 := dkwX3_worked_3 ++ dktX3_worked_4
def dkwX3_worked_2 : List UInt8 := [27, 28, 162, 0, 7, 4, 167, 0, 4, 3, 184, 0, 151, 172, 27, 28, 164, 0, 7, 4, 167, 0, 4, 3]
abbrev dktX3_worked_2 : List UInt8 := dkwX3_worked_2 ++ dktX3_worked_3
def dkwX3_worked_1 : List UInt8 := [170, 0, 0, 0, 0, 0, 93, 0, 0, 0, 0, 0, 0, 0, 5, 0, 0, 0, 39, 0, 0, 0, 53, 0, 0, 0, 67, 0, 0, 0, 81, 0, 0, 0, 85, 0, 0, 0, 89]
abbrev dktX3_worked_1 : List UInt8 := dkwX3_worked_1 ++ dktX3_worked_2
def dkwX3_worked_0 : List UInt8 := [26]
abbrev dktX3_worked_0 : List UInt8 := dkwX3_worked_0 ++ dktX3_worked_1
theorem dksX3_worked_0 : cX3_worked.data.toList.drop 0 = dktX3_worked_0 := by decide +kernel
theorem dksX3_worked_1 : cX3_worked.data.toList.drop 1 = dktX3_worked_1 := dk_seg dksX3_worked_0 1 rfl rfl
theorem dksX3_worked_2 : cX3_worked.data.toList.drop 40 = dktX3_worked_2 := dk_seg dksX3_worked_1 39 rfl rfl
theorem dksX3_worked_3 : cX3_worked.data.toList.drop 64 = dktX3_worked_3 := dk_seg dksX3_worked_2 24 rfl rfl
theorem dksX3_worked_4 : cX3_worked.data.toList.drop 88 = dktX3_worked_4 := dk_seg dksX3_worked_3 24 rfl rfl
theorem dX3_worked_0 : decode cX3_worked 0 = .ok (.iload_n 0, 1) := dk_26 (dk_at dksX3_worked_0 0 rfl rfl)
theorem dX3_worked_1 : decode cX3_worked 1 = .ok (.tableswitch 93 0 5 #[39, 53, 67, 81, 85, 89], 39) := by decide +kernel
theorem dX3_worked_40 : decode cX3_worked 40 = .ok (.iload_n 1, 1) := dk_27 (dk_at dksX3_worked_2 0 rfl rfl)
theorem dX3_worked_41 : decode cX3_worked 41 = .ok (.iload_n 2, 1) := dk_28 (dk_at dksX3_worked_2 1 rfl rfl)
theorem dX3_worked_42 : decode cX3_worked 42 = .ok (.if_icmp .ge 7, 3) := dk_162 0 7 (dk_at dksX3_worked_2 2 rfl rfl)
theorem dX3_worked_45 : decode cX3_worked 45 = .ok (.iconst 1, 1) := dk_4 (dk_at dksX3_worked_2 5 rfl rfl)
theorem dX3_worked_46 : decode cX3_worked 46 = .ok (.goto 4, 3) := dk_167 0 4 (dk_at dksX3_worked_2 6 rfl rfl)
theorem dX3_worked_49 : decode cX3_worked 49 = .ok (.iconst 0, 1) := dk_3 (dk_at dksX3_worked_2 9 rfl rfl)
theorem dX3_worked_50 : decode cX3_worked 50 = .ok (.invokestatic 151, 3) := dk_184 0 151 (dk_at dksX3_worked_2 10 rfl rfl)
theorem dX3_worked_53 : decode cX3_worked 53 = .ok (.ireturn, 1) := dk_172 (dk_at dksX3_worked_2 13 rfl rfl)
theorem dX3_worked_54 : decode cX3_worked 54 = .ok (.iload_n 1, 1) := dk_27 (dk_at dksX3_worked_2 14 rfl rfl)
theorem dX3_worked_55 : decode cX3_worked 55 = .ok (.iload_n 2, 1) := dk_28 (dk_at dksX3_worked_2 15 rfl rfl)
theorem dX3_worked_56 : decode cX3_worked 56 = .ok (.if_icmp .le 7, 3) := dk_164 0 7 (dk_at dksX3_worked_2 16 rfl rfl)
theorem dX3_worked_59 : decode cX3_worked 59 = .ok (.iconst 1, 1) := dk_4 (dk_at dksX3_worked_2 19 rfl rfl)
theorem dX3_worked_60 : decode cX3_worked 60 = .ok (.goto 4, 3) := dk_167 0 4 (dk_at dksX3_worked_2 20 rfl rfl)
theorem dX3_worked_63 : decode cX3_worked 63 = .ok (.iconst 0, 1) := dk_3 (dk_at dksX3_worked_2 23 rfl rfl)
theorem dX3_worked_64 : decode cX3_worked 64 = .ok (.invokestatic 151, 3) := dk_184 0 151 (dk_at dksX3_worked_3 0 rfl rfl)
theorem dX3_worked_67 : decode cX3_worked 67 = .ok (.ireturn, 1) := dk_172 (dk_at dksX3_worked_3 3 rfl rfl)
theorem dX3_worked_68 : decode cX3_worked 68 = .ok (.iload_n 1, 1) := dk_27 (dk_at dksX3_worked_3 4 rfl rfl)
theorem dX3_worked_69 : decode cX3_worked 69 = .ok (.iload_n 2, 1) := dk_28 (dk_at dksX3_worked_3 5 rfl rfl)
theorem dX3_worked_70 : decode cX3_worked 70 = .ok (.if_icmp .ne 7, 3) := dk_160 0 7 (dk_at dksX3_worked_3 6 rfl rfl)
theorem dX3_worked_73 : decode cX3_worked 73 = .ok (.iconst 1, 1) := dk_4 (dk_at dksX3_worked_3 9 rfl rfl)
theorem dX3_worked_74 : decode cX3_worked 74 = .ok (.goto 4, 3) := dk_167 0 4 (dk_at dksX3_worked_3 10 rfl rfl)
theorem dX3_worked_77 : decode cX3_worked 77 = .ok (.iconst 0, 1) := dk_3 (dk_at dksX3_worked_3 13 rfl rfl)
theorem dX3_worked_78 : decode cX3_worked 78 = .ok (.invokestatic 151, 3) := dk_184 0 151 (dk_at dksX3_worked_3 14 rfl rfl)
theorem dX3_worked_81 : decode cX3_worked 81 = .ok (.ireturn, 1) := dk_172 (dk_at dksX3_worked_3 17 rfl rfl)
theorem dX3_worked_82 : decode cX3_worked 82 = .ok (.iload_n 1, 1) := dk_27 (dk_at dksX3_worked_3 18 rfl rfl)
theorem dX3_worked_83 : decode cX3_worked 83 = .ok (.iload_n 2, 1) := dk_28 (dk_at dksX3_worked_3 19 rfl rfl)
theorem dX3_worked_84 : decode cX3_worked 84 = .ok (.iadd, 1) := dk_96 (dk_at dksX3_worked_3 20 rfl rfl)
theorem dX3_worked_85 : decode cX3_worked 85 = .ok (.ireturn, 1) := dk_172 (dk_at dksX3_worked_3 21 rfl rfl)
theorem dX3_worked_86 : decode cX3_worked 86 = .ok (.iload_n 1, 1) := dk_27 (dk_at dksX3_worked_3 22 rfl rfl)
theorem dX3_worked_87 : decode cX3_worked 87 = .ok (.iload_n 2, 1) := dk_28 (dk_at dksX3_worked_3 23 rfl rfl)
theorem dX3_worked_88 : decode cX3_worked 88 = .ok (.isub, 1) := dk_100 (dk_at dksX3_worked_4 0 rfl rfl)
theorem dX3_worked_89 : decode cX3_worked 89 = .ok (.ireturn, 1) := dk_172 (dk_at dksX3_worked_4 1 rfl rfl)
theorem dX3_worked_90 : decode cX3_worked 90 = .ok (.iload_n 1, 1) := dk_27 (dk_at dksX3_worked_4 2 rfl rfl)
theorem dX3_worked_91 : decode cX3_worked 91 = .ok (.iload_n 2, 1) := dk_28 (dk_at dksX3_worked_4 3 rfl rfl)
theorem dX3_worked_92 : decode cX3_worked 92 = .ok (.imul, 1) := dk_104 (dk_at dksX3_worked_4 4 rfl rfl)
theorem dX3_worked_93 : decode cX3_worked 93 = .ok (.ireturn, 1) := dk_172 (dk_at dksX3_worked_4 5 rfl rfl)
theorem dX3_worked_94 : decode cX3_worked 94 = .ok (.iload_n 2, 1) := dk_28 (dk_at dksX3_worked_4 6 rfl rfl)
theorem dX3_worked_95 : decode cX3_worked 95 = .ok (.ifCond .ne 7, 3) := dk_154 0 7 (dk_at dksX3_worked_4 7 rfl rfl)
theorem dX3_worked_98 : decode cX3_worked 98 = .ok (.iconst 0, 1) := dk_3 (dk_at dksX3_worked_4 10 rfl rfl)
theorem dX3_worked_99 : decode cX3_worked 99 = .ok (.goto 6, 3) := dk_167 0 6 (dk_at dksX3_worked_4 11 rfl rfl)
theorem dX3_worked_102 : decode cX3_worked 102 = .ok (.iload_n 1, 1) := dk_27 (dk_at dksX3_worked_4 14 rfl rfl)
theorem dX3_worked_103 : decode cX3_worked 103 = .ok (.iload_n 2, 1) := dk_28 (dk_at dksX3_worked_4 15 rfl rfl)
theorem dX3_worked_104 : decode cX3_worked 104 = .ok (.idiv, 1) := dk_108 (dk_at dksX3_worked_4 16 rfl rfl)
theorem dX3_worked_105 : decode cX3_worked 105 = .ok (.ireturn, 1) := dk_172 (dk_at dksX3_worked_4 17 rfl rfl)
abbrev cX3_lowBy : ByteArray := prog_13_method_54_code
def yX3_lowBy : MethodName := ⟨RX3, "lowBy", "([II)I"⟩
def dkwX3_lowBy_1 : List UInt8 := [162, 0, 10, 4, 21, 4, 120, 167, 0, 4, 3, 128, 62, 132, 4, 1, 167, 255, 222, 29, 172]
abbrev dktX3_lowBy_1 : List UInt8 := dkwX3_lowBy_1 ++ []
def dkwX3_lowBy_0 : List UInt8 := [3, 62, 3, 54, 4, 21, 4, 42, 180, 0, 13, 162, 0, 31, 29, 42, 43, 21, 4, 182, 1, 35, 28]
abbrev dktX3_lowBy_0 : List UInt8 := dkwX3_lowBy_0 ++ dktX3_lowBy_1
theorem dksX3_lowBy_0 : cX3_lowBy.data.toList.drop 0 = dktX3_lowBy_0 := by decide +kernel
theorem dksX3_lowBy_1 : cX3_lowBy.data.toList.drop 23 = dktX3_lowBy_1 := dk_seg dksX3_lowBy_0 23 rfl rfl
theorem dX3_lowBy_0 : decode cX3_lowBy 0 = .ok (.iconst 0, 1) := dk_3 (dk_at dksX3_lowBy_0 0 rfl rfl)
theorem dX3_lowBy_1 : decode cX3_lowBy 1 = .ok (.istore_n 3, 1) := dk_62 (dk_at dksX3_lowBy_0 1 rfl rfl)
theorem dX3_lowBy_2 : decode cX3_lowBy 2 = .ok (.iconst 0, 1) := dk_3 (dk_at dksX3_lowBy_0 2 rfl rfl)
theorem dX3_lowBy_3 : decode cX3_lowBy 3 = .ok (.istore 4, 2) := dk_54 4 (dk_at dksX3_lowBy_0 3 rfl rfl)
theorem dX3_lowBy_5 : decode cX3_lowBy 5 = .ok (.iload 4, 2) := dk_21 4 (dk_at dksX3_lowBy_0 5 rfl rfl)
theorem dX3_lowBy_7 : decode cX3_lowBy 7 = .ok (.aload_n 0, 1) := dk_42 (dk_at dksX3_lowBy_0 7 rfl rfl)
theorem dX3_lowBy_8 : decode cX3_lowBy 8 = .ok (.getfield 13, 3) := dk_180 0 13 (dk_at dksX3_lowBy_0 8 rfl rfl)
theorem dX3_lowBy_11 : decode cX3_lowBy 11 = .ok (.if_icmp .ge 31, 3) := dk_162 0 31 (dk_at dksX3_lowBy_0 11 rfl rfl)
theorem dX3_lowBy_14 : decode cX3_lowBy 14 = .ok (.iload_n 3, 1) := dk_29 (dk_at dksX3_lowBy_0 14 rfl rfl)
theorem dX3_lowBy_15 : decode cX3_lowBy 15 = .ok (.aload_n 0, 1) := dk_42 (dk_at dksX3_lowBy_0 15 rfl rfl)
theorem dX3_lowBy_16 : decode cX3_lowBy 16 = .ok (.aload_n 1, 1) := dk_43 (dk_at dksX3_lowBy_0 16 rfl rfl)
theorem dX3_lowBy_17 : decode cX3_lowBy 17 = .ok (.iload 4, 2) := dk_21 4 (dk_at dksX3_lowBy_0 17 rfl rfl)
theorem dX3_lowBy_19 : decode cX3_lowBy 19 = .ok (.invokevirtual 291, 3) := dk_182 1 35 (dk_at dksX3_lowBy_0 19 rfl rfl)
theorem dX3_lowBy_22 : decode cX3_lowBy 22 = .ok (.iload_n 2, 1) := dk_28 (dk_at dksX3_lowBy_0 22 rfl rfl)
theorem dX3_lowBy_23 : decode cX3_lowBy 23 = .ok (.if_icmp .ge 10, 3) := dk_162 0 10 (dk_at dksX3_lowBy_1 0 rfl rfl)
theorem dX3_lowBy_26 : decode cX3_lowBy 26 = .ok (.iconst 1, 1) := dk_4 (dk_at dksX3_lowBy_1 3 rfl rfl)
theorem dX3_lowBy_27 : decode cX3_lowBy 27 = .ok (.iload 4, 2) := dk_21 4 (dk_at dksX3_lowBy_1 4 rfl rfl)
theorem dX3_lowBy_29 : decode cX3_lowBy 29 = .ok (.ishl, 1) := dk_120 (dk_at dksX3_lowBy_1 6 rfl rfl)
theorem dX3_lowBy_30 : decode cX3_lowBy 30 = .ok (.goto 4, 3) := dk_167 0 4 (dk_at dksX3_lowBy_1 7 rfl rfl)
theorem dX3_lowBy_33 : decode cX3_lowBy 33 = .ok (.iconst 0, 1) := dk_3 (dk_at dksX3_lowBy_1 10 rfl rfl)
theorem dX3_lowBy_34 : decode cX3_lowBy 34 = .ok (.ior, 1) := dk_128 (dk_at dksX3_lowBy_1 11 rfl rfl)
theorem dX3_lowBy_35 : decode cX3_lowBy 35 = .ok (.istore_n 3, 1) := dk_62 (dk_at dksX3_lowBy_1 12 rfl rfl)
theorem dX3_lowBy_36 : decode cX3_lowBy 36 = .ok (.iinc 4 1, 3) := dk_132 4 1 (dk_at dksX3_lowBy_1 13 rfl rfl)
theorem dX3_lowBy_39 : decode cX3_lowBy 39 = .ok (.goto (-34), 3) := dk_167 255 222 (dk_at dksX3_lowBy_1 16 rfl rfl)
theorem dX3_lowBy_42 : decode cX3_lowBy 42 = .ok (.iload_n 3, 1) := dk_29 (dk_at dksX3_lowBy_1 19 rfl rfl)
theorem dX3_lowBy_43 : decode cX3_lowBy 43 = .ok (.ireturn, 1) := dk_172 (dk_at dksX3_lowBy_1 20 rfl rfl)
abbrev cX3_waterGoes : ByteArray := prog_13_method_55_code
def yX3_waterGoes : MethodName := ⟨RX3, "waterGoes", "([I)V"⟩
def dkwX3_waterGoes_4 : List UInt8 := [167, 255, 172, 167, 255, 161, 177]
abbrev dktX3_waterGoes_4 : List UInt8 := dkwX3_waterGoes_4 ++ []
def dkwX3_waterGoes_3 : List UInt8 := [54, 6, 21, 5, 43, 21, 6, 46, 164, 0, 11, 43, 21, 6, 21, 5, 79, 4, 61, 132, 3, 1]
abbrev dktX3_waterGoes_3 : List UInt8 := dkwX3_waterGoes_3 ++ dktX3_waterGoes_4
def dkwX3_waterGoes_2 : List UInt8 := [54, 5, 43, 21, 4, 46, 43, 21, 4, 4, 96, 46, 162, 0, 8, 21, 4, 167, 0, 7, 21, 4, 4, 96]
abbrev dktX3_waterGoes_2 : List UInt8 := dkwX3_waterGoes_2 ++ dktX3_waterGoes_3
def dkwX3_waterGoes_1 : List UInt8 := [54, 4, 43, 21, 4, 46, 43, 21, 4, 4, 96, 46, 184, 1, 3, 42, 180, 0, 21, 29, 46, 100, 4, 100]
abbrev dktX3_waterGoes_1 : List UInt8 := dkwX3_waterGoes_1 ++ dktX3_waterGoes_2
def dkwX3_waterGoes_0 : List UInt8 := [4, 61, 28, 153, 0, 97, 3, 61, 3, 62, 29, 4, 96, 42, 180, 0, 13, 162, 0, 80, 16, 13, 29, 96]
abbrev dktX3_waterGoes_0 : List UInt8 := dkwX3_waterGoes_0 ++ dktX3_waterGoes_1
theorem dksX3_waterGoes_0 : cX3_waterGoes.data.toList.drop 0 = dktX3_waterGoes_0 := by decide +kernel
theorem dksX3_waterGoes_1 : cX3_waterGoes.data.toList.drop 24 = dktX3_waterGoes_1 := dk_seg dksX3_waterGoes_0 24 rfl rfl
theorem dksX3_waterGoes_2 : cX3_waterGoes.data.toList.drop 48 = dktX3_waterGoes_2 := dk_seg dksX3_waterGoes_1 24 rfl rfl
theorem dksX3_waterGoes_3 : cX3_waterGoes.data.toList.drop 72 = dktX3_waterGoes_3 := dk_seg dksX3_waterGoes_2 24 rfl rfl
theorem dksX3_waterGoes_4 : cX3_waterGoes.data.toList.drop 94 = dktX3_waterGoes_4 := dk_seg dksX3_waterGoes_3 22 rfl rfl
theorem dX3_waterGoes_0 : decode cX3_waterGoes 0 = .ok (.iconst 1, 1) := dk_4 (dk_at dksX3_waterGoes_0 0 rfl rfl)
theorem dX3_waterGoes_1 : decode cX3_waterGoes 1 = .ok (.istore_n 2, 1) := dk_61 (dk_at dksX3_waterGoes_0 1 rfl rfl)
theorem dX3_waterGoes_2 : decode cX3_waterGoes 2 = .ok (.iload_n 2, 1) := dk_28 (dk_at dksX3_waterGoes_0 2 rfl rfl)
theorem dX3_waterGoes_3 : decode cX3_waterGoes 3 = .ok (.ifCond .eq 97, 3) := dk_153 0 97 (dk_at dksX3_waterGoes_0 3 rfl rfl)
theorem dX3_waterGoes_6 : decode cX3_waterGoes 6 = .ok (.iconst 0, 1) := dk_3 (dk_at dksX3_waterGoes_0 6 rfl rfl)
theorem dX3_waterGoes_7 : decode cX3_waterGoes 7 = .ok (.istore_n 2, 1) := dk_61 (dk_at dksX3_waterGoes_0 7 rfl rfl)
theorem dX3_waterGoes_8 : decode cX3_waterGoes 8 = .ok (.iconst 0, 1) := dk_3 (dk_at dksX3_waterGoes_0 8 rfl rfl)
theorem dX3_waterGoes_9 : decode cX3_waterGoes 9 = .ok (.istore_n 3, 1) := dk_62 (dk_at dksX3_waterGoes_0 9 rfl rfl)
theorem dX3_waterGoes_10 : decode cX3_waterGoes 10 = .ok (.iload_n 3, 1) := dk_29 (dk_at dksX3_waterGoes_0 10 rfl rfl)
theorem dX3_waterGoes_11 : decode cX3_waterGoes 11 = .ok (.iconst 1, 1) := dk_4 (dk_at dksX3_waterGoes_0 11 rfl rfl)
theorem dX3_waterGoes_12 : decode cX3_waterGoes 12 = .ok (.iadd, 1) := dk_96 (dk_at dksX3_waterGoes_0 12 rfl rfl)
theorem dX3_waterGoes_13 : decode cX3_waterGoes 13 = .ok (.aload_n 0, 1) := dk_42 (dk_at dksX3_waterGoes_0 13 rfl rfl)
theorem dX3_waterGoes_14 : decode cX3_waterGoes 14 = .ok (.getfield 13, 3) := dk_180 0 13 (dk_at dksX3_waterGoes_0 14 rfl rfl)
theorem dX3_waterGoes_17 : decode cX3_waterGoes 17 = .ok (.if_icmp .ge 80, 3) := dk_162 0 80 (dk_at dksX3_waterGoes_0 17 rfl rfl)
theorem dX3_waterGoes_20 : decode cX3_waterGoes 20 = .ok (.bipush 13, 2) := dk_16 13 (dk_at dksX3_waterGoes_0 20 rfl rfl)
theorem dX3_waterGoes_22 : decode cX3_waterGoes 22 = .ok (.iload_n 3, 1) := dk_29 (dk_at dksX3_waterGoes_0 22 rfl rfl)
theorem dX3_waterGoes_23 : decode cX3_waterGoes 23 = .ok (.iadd, 1) := dk_96 (dk_at dksX3_waterGoes_0 23 rfl rfl)
theorem dX3_waterGoes_24 : decode cX3_waterGoes 24 = .ok (.istore 4, 2) := dk_54 4 (dk_at dksX3_waterGoes_1 0 rfl rfl)
theorem dX3_waterGoes_26 : decode cX3_waterGoes 26 = .ok (.aload_n 1, 1) := dk_43 (dk_at dksX3_waterGoes_1 2 rfl rfl)
theorem dX3_waterGoes_27 : decode cX3_waterGoes 27 = .ok (.iload 4, 2) := dk_21 4 (dk_at dksX3_waterGoes_1 3 rfl rfl)
theorem dX3_waterGoes_29 : decode cX3_waterGoes 29 = .ok (.iaload, 1) := dk_46 (dk_at dksX3_waterGoes_1 5 rfl rfl)
theorem dX3_waterGoes_30 : decode cX3_waterGoes 30 = .ok (.aload_n 1, 1) := dk_43 (dk_at dksX3_waterGoes_1 6 rfl rfl)
theorem dX3_waterGoes_31 : decode cX3_waterGoes 31 = .ok (.iload 4, 2) := dk_21 4 (dk_at dksX3_waterGoes_1 7 rfl rfl)
theorem dX3_waterGoes_33 : decode cX3_waterGoes 33 = .ok (.iconst 1, 1) := dk_4 (dk_at dksX3_waterGoes_1 9 rfl rfl)
theorem dX3_waterGoes_34 : decode cX3_waterGoes 34 = .ok (.iadd, 1) := dk_96 (dk_at dksX3_waterGoes_1 10 rfl rfl)
theorem dX3_waterGoes_35 : decode cX3_waterGoes 35 = .ok (.iaload, 1) := dk_46 (dk_at dksX3_waterGoes_1 11 rfl rfl)
theorem dX3_waterGoes_36 : decode cX3_waterGoes 36 = .ok (.invokestatic 259, 3) := dk_184 1 3 (dk_at dksX3_waterGoes_1 12 rfl rfl)
theorem dX3_waterGoes_39 : decode cX3_waterGoes 39 = .ok (.aload_n 0, 1) := dk_42 (dk_at dksX3_waterGoes_1 15 rfl rfl)
theorem dX3_waterGoes_40 : decode cX3_waterGoes 40 = .ok (.getfield 21, 3) := dk_180 0 21 (dk_at dksX3_waterGoes_1 16 rfl rfl)
theorem dX3_waterGoes_43 : decode cX3_waterGoes 43 = .ok (.iload_n 3, 1) := dk_29 (dk_at dksX3_waterGoes_1 19 rfl rfl)
theorem dX3_waterGoes_44 : decode cX3_waterGoes 44 = .ok (.iaload, 1) := dk_46 (dk_at dksX3_waterGoes_1 20 rfl rfl)
theorem dX3_waterGoes_45 : decode cX3_waterGoes 45 = .ok (.isub, 1) := dk_100 (dk_at dksX3_waterGoes_1 21 rfl rfl)
theorem dX3_waterGoes_46 : decode cX3_waterGoes 46 = .ok (.iconst 1, 1) := dk_4 (dk_at dksX3_waterGoes_1 22 rfl rfl)
theorem dX3_waterGoes_47 : decode cX3_waterGoes 47 = .ok (.isub, 1) := dk_100 (dk_at dksX3_waterGoes_1 23 rfl rfl)
theorem dX3_waterGoes_48 : decode cX3_waterGoes 48 = .ok (.istore 5, 2) := dk_54 5 (dk_at dksX3_waterGoes_2 0 rfl rfl)
theorem dX3_waterGoes_50 : decode cX3_waterGoes 50 = .ok (.aload_n 1, 1) := dk_43 (dk_at dksX3_waterGoes_2 2 rfl rfl)
theorem dX3_waterGoes_51 : decode cX3_waterGoes 51 = .ok (.iload 4, 2) := dk_21 4 (dk_at dksX3_waterGoes_2 3 rfl rfl)
theorem dX3_waterGoes_53 : decode cX3_waterGoes 53 = .ok (.iaload, 1) := dk_46 (dk_at dksX3_waterGoes_2 5 rfl rfl)
theorem dX3_waterGoes_54 : decode cX3_waterGoes 54 = .ok (.aload_n 1, 1) := dk_43 (dk_at dksX3_waterGoes_2 6 rfl rfl)
theorem dX3_waterGoes_55 : decode cX3_waterGoes 55 = .ok (.iload 4, 2) := dk_21 4 (dk_at dksX3_waterGoes_2 7 rfl rfl)
theorem dX3_waterGoes_57 : decode cX3_waterGoes 57 = .ok (.iconst 1, 1) := dk_4 (dk_at dksX3_waterGoes_2 9 rfl rfl)
theorem dX3_waterGoes_58 : decode cX3_waterGoes 58 = .ok (.iadd, 1) := dk_96 (dk_at dksX3_waterGoes_2 10 rfl rfl)
theorem dX3_waterGoes_59 : decode cX3_waterGoes 59 = .ok (.iaload, 1) := dk_46 (dk_at dksX3_waterGoes_2 11 rfl rfl)
theorem dX3_waterGoes_60 : decode cX3_waterGoes 60 = .ok (.if_icmp .ge 8, 3) := dk_162 0 8 (dk_at dksX3_waterGoes_2 12 rfl rfl)
theorem dX3_waterGoes_63 : decode cX3_waterGoes 63 = .ok (.iload 4, 2) := dk_21 4 (dk_at dksX3_waterGoes_2 15 rfl rfl)
theorem dX3_waterGoes_65 : decode cX3_waterGoes 65 = .ok (.goto 7, 3) := dk_167 0 7 (dk_at dksX3_waterGoes_2 17 rfl rfl)
theorem dX3_waterGoes_68 : decode cX3_waterGoes 68 = .ok (.iload 4, 2) := dk_21 4 (dk_at dksX3_waterGoes_2 20 rfl rfl)
theorem dX3_waterGoes_70 : decode cX3_waterGoes 70 = .ok (.iconst 1, 1) := dk_4 (dk_at dksX3_waterGoes_2 22 rfl rfl)
theorem dX3_waterGoes_71 : decode cX3_waterGoes 71 = .ok (.iadd, 1) := dk_96 (dk_at dksX3_waterGoes_2 23 rfl rfl)
theorem dX3_waterGoes_72 : decode cX3_waterGoes 72 = .ok (.istore 6, 2) := dk_54 6 (dk_at dksX3_waterGoes_3 0 rfl rfl)
theorem dX3_waterGoes_74 : decode cX3_waterGoes 74 = .ok (.iload 5, 2) := dk_21 5 (dk_at dksX3_waterGoes_3 2 rfl rfl)
theorem dX3_waterGoes_76 : decode cX3_waterGoes 76 = .ok (.aload_n 1, 1) := dk_43 (dk_at dksX3_waterGoes_3 4 rfl rfl)
theorem dX3_waterGoes_77 : decode cX3_waterGoes 77 = .ok (.iload 6, 2) := dk_21 6 (dk_at dksX3_waterGoes_3 5 rfl rfl)
theorem dX3_waterGoes_79 : decode cX3_waterGoes 79 = .ok (.iaload, 1) := dk_46 (dk_at dksX3_waterGoes_3 7 rfl rfl)
theorem dX3_waterGoes_80 : decode cX3_waterGoes 80 = .ok (.if_icmp .le 11, 3) := dk_164 0 11 (dk_at dksX3_waterGoes_3 8 rfl rfl)
theorem dX3_waterGoes_83 : decode cX3_waterGoes 83 = .ok (.aload_n 1, 1) := dk_43 (dk_at dksX3_waterGoes_3 11 rfl rfl)
theorem dX3_waterGoes_84 : decode cX3_waterGoes 84 = .ok (.iload 6, 2) := dk_21 6 (dk_at dksX3_waterGoes_3 12 rfl rfl)
theorem dX3_waterGoes_86 : decode cX3_waterGoes 86 = .ok (.iload 5, 2) := dk_21 5 (dk_at dksX3_waterGoes_3 14 rfl rfl)
theorem dX3_waterGoes_88 : decode cX3_waterGoes 88 = .ok (.iastore, 1) := dk_79 (dk_at dksX3_waterGoes_3 16 rfl rfl)
theorem dX3_waterGoes_89 : decode cX3_waterGoes 89 = .ok (.iconst 1, 1) := dk_4 (dk_at dksX3_waterGoes_3 17 rfl rfl)
theorem dX3_waterGoes_90 : decode cX3_waterGoes 90 = .ok (.istore_n 2, 1) := dk_61 (dk_at dksX3_waterGoes_3 18 rfl rfl)
theorem dX3_waterGoes_91 : decode cX3_waterGoes 91 = .ok (.iinc 3 1, 3) := dk_132 3 1 (dk_at dksX3_waterGoes_3 19 rfl rfl)
theorem dX3_waterGoes_94 : decode cX3_waterGoes 94 = .ok (.goto (-84), 3) := dk_167 255 172 (dk_at dksX3_waterGoes_4 0 rfl rfl)
theorem dX3_waterGoes_97 : decode cX3_waterGoes 97 = .ok (.goto (-95), 3) := dk_167 255 161 (dk_at dksX3_waterGoes_4 3 rfl rfl)
theorem dX3_waterGoes_100 : decode cX3_waterGoes 100 = .ok (.return_, 1) := dk_177 (dk_at dksX3_waterGoes_4 6 rfl rfl)
abbrev cX3_pump : ByteArray := prog_13_method_69_code
def yX3_pump : MethodName := ⟨RX3, "pump", "(I)I"⟩
def dkwX3_pump_3 : List UInt8 := [184, 0, 251, 182, 1, 50, 172]
abbrev dktX3_pump_3 : List UInt8 := dkwX3_pump_3 ++ []
def dkwX3_pump_2 : List UInt8 := [28, 96, 46, 27, 100, 184, 1, 3, 79, 132, 2, 1, 167, 255, 221, 42, 42, 42, 180, 0, 36, 182, 1, 115]
abbrev dktX3_pump_2 : List UInt8 := dkwX3_pump_2 ++ dktX3_pump_3
def dkwX3_pump_1 : List UInt8 := [61, 28, 42, 180, 0, 13, 162, 0, 33, 42, 180, 0, 36, 16, 13, 28, 96, 3, 42, 180, 0, 36, 16, 13]
abbrev dktX3_pump_1 : List UInt8 := dkwX3_pump_1 ++ dktX3_pump_2
def dkwX3_pump_0 : List UInt8 := [42, 3, 181, 0, 112, 27, 133, 10, 20, 1, 113, 184, 0, 122, 154, 0, 5, 2, 172, 42, 182, 1, 72, 3]
abbrev dktX3_pump_0 : List UInt8 := dkwX3_pump_0 ++ dktX3_pump_1
theorem dksX3_pump_0 : cX3_pump.data.toList.drop 0 = dktX3_pump_0 := by decide +kernel
theorem dksX3_pump_1 : cX3_pump.data.toList.drop 24 = dktX3_pump_1 := dk_seg dksX3_pump_0 24 rfl rfl
theorem dksX3_pump_2 : cX3_pump.data.toList.drop 48 = dktX3_pump_2 := dk_seg dksX3_pump_1 24 rfl rfl
theorem dksX3_pump_3 : cX3_pump.data.toList.drop 72 = dktX3_pump_3 := dk_seg dksX3_pump_2 24 rfl rfl
theorem dX3_pump_0 : decode cX3_pump 0 = .ok (.aload_n 0, 1) := dk_42 (dk_at dksX3_pump_0 0 rfl rfl)
theorem dX3_pump_1 : decode cX3_pump 1 = .ok (.iconst 0, 1) := dk_3 (dk_at dksX3_pump_0 1 rfl rfl)
theorem dX3_pump_2 : decode cX3_pump 2 = .ok (.putfield 112, 3) := dk_181 0 112 (dk_at dksX3_pump_0 2 rfl rfl)
theorem dX3_pump_5 : decode cX3_pump 5 = .ok (.iload_n 1, 1) := dk_27 (dk_at dksX3_pump_0 5 rfl rfl)
theorem dX3_pump_6 : decode cX3_pump 6 = .ok (.i2l, 1) := dk_133 (dk_at dksX3_pump_0 6 rfl rfl)
theorem dX3_pump_7 : decode cX3_pump 7 = .ok (.lconst 1, 1) := dk_10 (dk_at dksX3_pump_0 7 rfl rfl)
theorem dX3_pump_8 : decode cX3_pump 8 = .ok (.ldc2_w 369, 3) := dk_20 1 113 (dk_at dksX3_pump_0 8 rfl rfl)
theorem dX3_pump_11 : decode cX3_pump 11 = .ok (.invokestatic 122, 3) := dk_184 0 122 (dk_at dksX3_pump_0 11 rfl rfl)
theorem dX3_pump_14 : decode cX3_pump 14 = .ok (.ifCond .ne 5, 3) := dk_154 0 5 (dk_at dksX3_pump_0 14 rfl rfl)
theorem dX3_pump_17 : decode cX3_pump 17 = .ok (.iconst (-1), 1) := dk_2 (dk_at dksX3_pump_0 17 rfl rfl)
theorem dX3_pump_18 : decode cX3_pump 18 = .ok (.ireturn, 1) := dk_172 (dk_at dksX3_pump_0 18 rfl rfl)
theorem dX3_pump_19 : decode cX3_pump 19 = .ok (.aload_n 0, 1) := dk_42 (dk_at dksX3_pump_0 19 rfl rfl)
theorem dX3_pump_20 : decode cX3_pump 20 = .ok (.invokevirtual 328, 3) := dk_182 1 72 (dk_at dksX3_pump_0 20 rfl rfl)
theorem dX3_pump_23 : decode cX3_pump 23 = .ok (.iconst 0, 1) := dk_3 (dk_at dksX3_pump_0 23 rfl rfl)
theorem dX3_pump_24 : decode cX3_pump 24 = .ok (.istore_n 2, 1) := dk_61 (dk_at dksX3_pump_1 0 rfl rfl)
theorem dX3_pump_25 : decode cX3_pump 25 = .ok (.iload_n 2, 1) := dk_28 (dk_at dksX3_pump_1 1 rfl rfl)
theorem dX3_pump_26 : decode cX3_pump 26 = .ok (.aload_n 0, 1) := dk_42 (dk_at dksX3_pump_1 2 rfl rfl)
theorem dX3_pump_27 : decode cX3_pump 27 = .ok (.getfield 13, 3) := dk_180 0 13 (dk_at dksX3_pump_1 3 rfl rfl)
theorem dX3_pump_30 : decode cX3_pump 30 = .ok (.if_icmp .ge 33, 3) := dk_162 0 33 (dk_at dksX3_pump_1 6 rfl rfl)
theorem dX3_pump_33 : decode cX3_pump 33 = .ok (.aload_n 0, 1) := dk_42 (dk_at dksX3_pump_1 9 rfl rfl)
theorem dX3_pump_34 : decode cX3_pump 34 = .ok (.getfield 36, 3) := dk_180 0 36 (dk_at dksX3_pump_1 10 rfl rfl)
theorem dX3_pump_37 : decode cX3_pump 37 = .ok (.bipush 13, 2) := dk_16 13 (dk_at dksX3_pump_1 13 rfl rfl)
theorem dX3_pump_39 : decode cX3_pump 39 = .ok (.iload_n 2, 1) := dk_28 (dk_at dksX3_pump_1 15 rfl rfl)
theorem dX3_pump_40 : decode cX3_pump 40 = .ok (.iadd, 1) := dk_96 (dk_at dksX3_pump_1 16 rfl rfl)
theorem dX3_pump_41 : decode cX3_pump 41 = .ok (.iconst 0, 1) := dk_3 (dk_at dksX3_pump_1 17 rfl rfl)
theorem dX3_pump_42 : decode cX3_pump 42 = .ok (.aload_n 0, 1) := dk_42 (dk_at dksX3_pump_1 18 rfl rfl)
theorem dX3_pump_43 : decode cX3_pump 43 = .ok (.getfield 36, 3) := dk_180 0 36 (dk_at dksX3_pump_1 19 rfl rfl)
theorem dX3_pump_46 : decode cX3_pump 46 = .ok (.bipush 13, 2) := dk_16 13 (dk_at dksX3_pump_1 22 rfl rfl)
theorem dX3_pump_48 : decode cX3_pump 48 = .ok (.iload_n 2, 1) := dk_28 (dk_at dksX3_pump_2 0 rfl rfl)
theorem dX3_pump_49 : decode cX3_pump 49 = .ok (.iadd, 1) := dk_96 (dk_at dksX3_pump_2 1 rfl rfl)
theorem dX3_pump_50 : decode cX3_pump 50 = .ok (.iaload, 1) := dk_46 (dk_at dksX3_pump_2 2 rfl rfl)
theorem dX3_pump_51 : decode cX3_pump 51 = .ok (.iload_n 1, 1) := dk_27 (dk_at dksX3_pump_2 3 rfl rfl)
theorem dX3_pump_52 : decode cX3_pump 52 = .ok (.isub, 1) := dk_100 (dk_at dksX3_pump_2 4 rfl rfl)
theorem dX3_pump_53 : decode cX3_pump 53 = .ok (.invokestatic 259, 3) := dk_184 1 3 (dk_at dksX3_pump_2 5 rfl rfl)
theorem dX3_pump_56 : decode cX3_pump 56 = .ok (.iastore, 1) := dk_79 (dk_at dksX3_pump_2 8 rfl rfl)
theorem dX3_pump_57 : decode cX3_pump 57 = .ok (.iinc 2 1, 3) := dk_132 2 1 (dk_at dksX3_pump_2 9 rfl rfl)
theorem dX3_pump_60 : decode cX3_pump 60 = .ok (.goto (-35), 3) := dk_167 255 221 (dk_at dksX3_pump_2 12 rfl rfl)
theorem dX3_pump_63 : decode cX3_pump 63 = .ok (.aload_n 0, 1) := dk_42 (dk_at dksX3_pump_2 15 rfl rfl)
theorem dX3_pump_64 : decode cX3_pump 64 = .ok (.aload_n 0, 1) := dk_42 (dk_at dksX3_pump_2 16 rfl rfl)
theorem dX3_pump_65 : decode cX3_pump 65 = .ok (.aload_n 0, 1) := dk_42 (dk_at dksX3_pump_2 17 rfl rfl)
theorem dX3_pump_66 : decode cX3_pump 66 = .ok (.getfield 36, 3) := dk_180 0 36 (dk_at dksX3_pump_2 18 rfl rfl)
theorem dX3_pump_69 : decode cX3_pump 69 = .ok (.invokevirtual 371, 3) := dk_182 1 115 (dk_at dksX3_pump_2 21 rfl rfl)
theorem dX3_pump_72 : decode cX3_pump 72 = .ok (.invokestatic 251, 3) := dk_184 0 251 (dk_at dksX3_pump_3 0 rfl rfl)
theorem dX3_pump_75 : decode cX3_pump 75 = .ok (.invokevirtual 306, 3) := dk_182 1 50 (dk_at dksX3_pump_3 3 rfl rfl)
theorem dX3_pump_78 : decode cX3_pump 78 = .ok (.ireturn, 1) := dk_172 (dk_at dksX3_pump_3 6 rfl rfl)
abbrev cX3_wet : ByteArray := prog_13_method_15_code
def yX3_wet : MethodName := ⟨RX3, "wet", "([I)I"⟩
def dkwX3_wet_1 : List UInt8 := [120, 167, 0, 4, 3, 128, 61, 132, 3, 1, 167, 255, 226, 28, 172]
abbrev dktX3_wet_1 : List UInt8 := dkwX3_wet_1 ++ []
def dkwX3_wet_0 : List UInt8 := [3, 61, 3, 62, 29, 42, 180, 0, 13, 162, 0, 28, 28, 43, 16, 13, 29, 96, 46, 158, 0, 9, 4, 29]
abbrev dktX3_wet_0 : List UInt8 := dkwX3_wet_0 ++ dktX3_wet_1
theorem dksX3_wet_0 : cX3_wet.data.toList.drop 0 = dktX3_wet_0 := by decide +kernel
theorem dksX3_wet_1 : cX3_wet.data.toList.drop 24 = dktX3_wet_1 := dk_seg dksX3_wet_0 24 rfl rfl
theorem dX3_wet_0 : decode cX3_wet 0 = .ok (.iconst 0, 1) := dk_3 (dk_at dksX3_wet_0 0 rfl rfl)
theorem dX3_wet_1 : decode cX3_wet 1 = .ok (.istore_n 2, 1) := dk_61 (dk_at dksX3_wet_0 1 rfl rfl)
theorem dX3_wet_2 : decode cX3_wet 2 = .ok (.iconst 0, 1) := dk_3 (dk_at dksX3_wet_0 2 rfl rfl)
theorem dX3_wet_3 : decode cX3_wet 3 = .ok (.istore_n 3, 1) := dk_62 (dk_at dksX3_wet_0 3 rfl rfl)
theorem dX3_wet_4 : decode cX3_wet 4 = .ok (.iload_n 3, 1) := dk_29 (dk_at dksX3_wet_0 4 rfl rfl)
theorem dX3_wet_5 : decode cX3_wet 5 = .ok (.aload_n 0, 1) := dk_42 (dk_at dksX3_wet_0 5 rfl rfl)
theorem dX3_wet_6 : decode cX3_wet 6 = .ok (.getfield 13, 3) := dk_180 0 13 (dk_at dksX3_wet_0 6 rfl rfl)
theorem dX3_wet_9 : decode cX3_wet 9 = .ok (.if_icmp .ge 28, 3) := dk_162 0 28 (dk_at dksX3_wet_0 9 rfl rfl)
theorem dX3_wet_12 : decode cX3_wet 12 = .ok (.iload_n 2, 1) := dk_28 (dk_at dksX3_wet_0 12 rfl rfl)
theorem dX3_wet_13 : decode cX3_wet 13 = .ok (.aload_n 1, 1) := dk_43 (dk_at dksX3_wet_0 13 rfl rfl)
theorem dX3_wet_14 : decode cX3_wet 14 = .ok (.bipush 13, 2) := dk_16 13 (dk_at dksX3_wet_0 14 rfl rfl)
theorem dX3_wet_16 : decode cX3_wet 16 = .ok (.iload_n 3, 1) := dk_29 (dk_at dksX3_wet_0 16 rfl rfl)
theorem dX3_wet_17 : decode cX3_wet 17 = .ok (.iadd, 1) := dk_96 (dk_at dksX3_wet_0 17 rfl rfl)
theorem dX3_wet_18 : decode cX3_wet 18 = .ok (.iaload, 1) := dk_46 (dk_at dksX3_wet_0 18 rfl rfl)
theorem dX3_wet_19 : decode cX3_wet 19 = .ok (.ifCond .le 9, 3) := dk_158 0 9 (dk_at dksX3_wet_0 19 rfl rfl)
theorem dX3_wet_22 : decode cX3_wet 22 = .ok (.iconst 1, 1) := dk_4 (dk_at dksX3_wet_0 22 rfl rfl)
theorem dX3_wet_23 : decode cX3_wet 23 = .ok (.iload_n 3, 1) := dk_29 (dk_at dksX3_wet_0 23 rfl rfl)
theorem dX3_wet_24 : decode cX3_wet 24 = .ok (.ishl, 1) := dk_120 (dk_at dksX3_wet_1 0 rfl rfl)
theorem dX3_wet_25 : decode cX3_wet 25 = .ok (.goto 4, 3) := dk_167 0 4 (dk_at dksX3_wet_1 1 rfl rfl)
theorem dX3_wet_28 : decode cX3_wet 28 = .ok (.iconst 0, 1) := dk_3 (dk_at dksX3_wet_1 4 rfl rfl)
theorem dX3_wet_29 : decode cX3_wet 29 = .ok (.ior, 1) := dk_128 (dk_at dksX3_wet_1 5 rfl rfl)
theorem dX3_wet_30 : decode cX3_wet 30 = .ok (.istore_n 2, 1) := dk_61 (dk_at dksX3_wet_1 6 rfl rfl)
theorem dX3_wet_31 : decode cX3_wet 31 = .ok (.iinc 3 1, 3) := dk_132 3 1 (dk_at dksX3_wet_1 7 rfl rfl)
theorem dX3_wet_34 : decode cX3_wet 34 = .ok (.goto (-30), 3) := dk_167 255 226 (dk_at dksX3_wet_1 10 rfl rfl)
theorem dX3_wet_37 : decode cX3_wet 37 = .ok (.iload_n 2, 1) := dk_28 (dk_at dksX3_wet_1 13 rfl rfl)
theorem dX3_wet_38 : decode cX3_wet 38 = .ok (.ireturn, 1) := dk_172 (dk_at dksX3_wet_1 14 rfl rfl)
abbrev cX3_summer : ByteArray := prog_13_method_72_code
def yX3_summer : MethodName := ⟨RX3, "summer", "()I"⟩
def dkwX3_summer_6 : List UInt8 := [167, 0, 4, 3, 172]
abbrev dktX3_summer_6 : List UInt8 := dkwX3_summer_6 ++ []
def dkwX3_summer_5 : List UInt8 := [180, 0, 36, 182, 1, 115, 184, 0, 251, 133, 182, 1, 103, 21, 4, 158, 0, 12, 42, 21, 4, 182, 1, 50]
abbrev dktX3_summer_5 : List UInt8 := dkwX3_summer_5 ++ dktX3_summer_6
def dkwX3_summer_4 : List UInt8 := [21, 4, 42, 180, 1, 118, 162, 0, 7, 4, 167, 0, 4, 3, 184, 0, 151, 133, 182, 1, 103, 42, 42, 42]
abbrev dktX3_summer_4 : List UInt8 := dkwX3_summer_4 ++ dktX3_summer_5
def dkwX3_summer_3 : List UInt8 := [162, 0, 18, 42, 21, 4, 182, 1, 130, 153, 0, 9, 132, 4, 1, 167, 255, 235, 42, 3, 181, 0, 119, 42]
abbrev dktX3_summer_3 : List UInt8 := dkwX3_summer_3 ++ dktX3_summer_4
def dkwX3_summer_2 : List UInt8 := [182, 0, 210, 62, 29, 156, 0, 5, 29, 172, 42, 182, 1, 72, 3, 54, 4, 21, 4, 42, 180, 1, 118]
abbrev dktX3_summer_2 : List UInt8 := dkwX3_summer_2 ++ dktX3_summer_3
def dkwX3_summer_1 : List UInt8 := [180, 0, 136, 42, 180, 0, 148, 162, 0, 11, 42, 182, 1, 127, 61, 167, 255, 236, 42, 27, 16, 60, 28]
abbrev dktX3_summer_1 : List UInt8 := dkwX3_summer_1 ++ dktX3_summer_2
def dkwX3_summer_0 : List UInt8 := [42, 3, 181, 0, 112, 42, 16, 60, 182, 0, 181, 60, 42, 3, 181, 1, 118, 4, 61, 28, 153, 0, 22, 42]
abbrev dktX3_summer_0 : List UInt8 := dkwX3_summer_0 ++ dktX3_summer_1
theorem dksX3_summer_0 : cX3_summer.data.toList.drop 0 = dktX3_summer_0 := by decide +kernel
theorem dksX3_summer_1 : cX3_summer.data.toList.drop 24 = dktX3_summer_1 := dk_seg dksX3_summer_0 24 rfl rfl
theorem dksX3_summer_2 : cX3_summer.data.toList.drop 47 = dktX3_summer_2 := dk_seg dksX3_summer_1 23 rfl rfl
theorem dksX3_summer_3 : cX3_summer.data.toList.drop 70 = dktX3_summer_3 := dk_seg dksX3_summer_2 23 rfl rfl
theorem dksX3_summer_4 : cX3_summer.data.toList.drop 94 = dktX3_summer_4 := dk_seg dksX3_summer_3 24 rfl rfl
theorem dksX3_summer_5 : cX3_summer.data.toList.drop 118 = dktX3_summer_5 := dk_seg dksX3_summer_4 24 rfl rfl
theorem dksX3_summer_6 : cX3_summer.data.toList.drop 142 = dktX3_summer_6 := dk_seg dksX3_summer_5 24 rfl rfl
theorem dX3_summer_0 : decode cX3_summer 0 = .ok (.aload_n 0, 1) := dk_42 (dk_at dksX3_summer_0 0 rfl rfl)
theorem dX3_summer_1 : decode cX3_summer 1 = .ok (.iconst 0, 1) := dk_3 (dk_at dksX3_summer_0 1 rfl rfl)
theorem dX3_summer_2 : decode cX3_summer 2 = .ok (.putfield 112, 3) := dk_181 0 112 (dk_at dksX3_summer_0 2 rfl rfl)
theorem dX3_summer_5 : decode cX3_summer 5 = .ok (.aload_n 0, 1) := dk_42 (dk_at dksX3_summer_0 5 rfl rfl)
theorem dX3_summer_6 : decode cX3_summer 6 = .ok (.bipush 60, 2) := dk_16 60 (dk_at dksX3_summer_0 6 rfl rfl)
theorem dX3_summer_8 : decode cX3_summer 8 = .ok (.invokevirtual 181, 3) := dk_182 0 181 (dk_at dksX3_summer_0 8 rfl rfl)
theorem dX3_summer_11 : decode cX3_summer 11 = .ok (.istore_n 1, 1) := dk_60 (dk_at dksX3_summer_0 11 rfl rfl)
theorem dX3_summer_12 : decode cX3_summer 12 = .ok (.aload_n 0, 1) := dk_42 (dk_at dksX3_summer_0 12 rfl rfl)
theorem dX3_summer_13 : decode cX3_summer 13 = .ok (.iconst 0, 1) := dk_3 (dk_at dksX3_summer_0 13 rfl rfl)
theorem dX3_summer_14 : decode cX3_summer 14 = .ok (.putfield 374, 3) := dk_181 1 118 (dk_at dksX3_summer_0 14 rfl rfl)
theorem dX3_summer_17 : decode cX3_summer 17 = .ok (.iconst 1, 1) := dk_4 (dk_at dksX3_summer_0 17 rfl rfl)
theorem dX3_summer_18 : decode cX3_summer 18 = .ok (.istore_n 2, 1) := dk_61 (dk_at dksX3_summer_0 18 rfl rfl)
theorem dX3_summer_19 : decode cX3_summer 19 = .ok (.iload_n 2, 1) := dk_28 (dk_at dksX3_summer_0 19 rfl rfl)
theorem dX3_summer_20 : decode cX3_summer 20 = .ok (.ifCond .eq 22, 3) := dk_153 0 22 (dk_at dksX3_summer_0 20 rfl rfl)
theorem dX3_summer_23 : decode cX3_summer 23 = .ok (.aload_n 0, 1) := dk_42 (dk_at dksX3_summer_0 23 rfl rfl)
theorem dX3_summer_24 : decode cX3_summer 24 = .ok (.getfield 136, 3) := dk_180 0 136 (dk_at dksX3_summer_1 0 rfl rfl)
theorem dX3_summer_27 : decode cX3_summer 27 = .ok (.aload_n 0, 1) := dk_42 (dk_at dksX3_summer_1 3 rfl rfl)
theorem dX3_summer_28 : decode cX3_summer 28 = .ok (.getfield 148, 3) := dk_180 0 148 (dk_at dksX3_summer_1 4 rfl rfl)
theorem dX3_summer_31 : decode cX3_summer 31 = .ok (.if_icmp .ge 11, 3) := dk_162 0 11 (dk_at dksX3_summer_1 7 rfl rfl)
theorem dX3_summer_34 : decode cX3_summer 34 = .ok (.aload_n 0, 1) := dk_42 (dk_at dksX3_summer_1 10 rfl rfl)
theorem dX3_summer_35 : decode cX3_summer 35 = .ok (.invokevirtual 383, 3) := dk_182 1 127 (dk_at dksX3_summer_1 11 rfl rfl)
theorem dX3_summer_38 : decode cX3_summer 38 = .ok (.istore_n 2, 1) := dk_61 (dk_at dksX3_summer_1 14 rfl rfl)
theorem dX3_summer_39 : decode cX3_summer 39 = .ok (.goto (-20), 3) := dk_167 255 236 (dk_at dksX3_summer_1 15 rfl rfl)
theorem dX3_summer_42 : decode cX3_summer 42 = .ok (.aload_n 0, 1) := dk_42 (dk_at dksX3_summer_1 18 rfl rfl)
theorem dX3_summer_43 : decode cX3_summer 43 = .ok (.iload_n 1, 1) := dk_27 (dk_at dksX3_summer_1 19 rfl rfl)
theorem dX3_summer_44 : decode cX3_summer 44 = .ok (.bipush 60, 2) := dk_16 60 (dk_at dksX3_summer_1 20 rfl rfl)
theorem dX3_summer_46 : decode cX3_summer 46 = .ok (.iload_n 2, 1) := dk_28 (dk_at dksX3_summer_1 22 rfl rfl)
theorem dX3_summer_47 : decode cX3_summer 47 = .ok (.invokevirtual 210, 3) := dk_182 0 210 (dk_at dksX3_summer_2 0 rfl rfl)
theorem dX3_summer_50 : decode cX3_summer 50 = .ok (.istore_n 3, 1) := dk_62 (dk_at dksX3_summer_2 3 rfl rfl)
theorem dX3_summer_51 : decode cX3_summer 51 = .ok (.iload_n 3, 1) := dk_29 (dk_at dksX3_summer_2 4 rfl rfl)
theorem dX3_summer_52 : decode cX3_summer 52 = .ok (.ifCond .ge 5, 3) := dk_156 0 5 (dk_at dksX3_summer_2 5 rfl rfl)
theorem dX3_summer_55 : decode cX3_summer 55 = .ok (.iload_n 3, 1) := dk_29 (dk_at dksX3_summer_2 8 rfl rfl)
theorem dX3_summer_56 : decode cX3_summer 56 = .ok (.ireturn, 1) := dk_172 (dk_at dksX3_summer_2 9 rfl rfl)
theorem dX3_summer_57 : decode cX3_summer 57 = .ok (.aload_n 0, 1) := dk_42 (dk_at dksX3_summer_2 10 rfl rfl)
theorem dX3_summer_58 : decode cX3_summer 58 = .ok (.invokevirtual 328, 3) := dk_182 1 72 (dk_at dksX3_summer_2 11 rfl rfl)
theorem dX3_summer_61 : decode cX3_summer 61 = .ok (.iconst 0, 1) := dk_3 (dk_at dksX3_summer_2 14 rfl rfl)
theorem dX3_summer_62 : decode cX3_summer 62 = .ok (.istore 4, 2) := dk_54 4 (dk_at dksX3_summer_2 15 rfl rfl)
theorem dX3_summer_64 : decode cX3_summer 64 = .ok (.iload 4, 2) := dk_21 4 (dk_at dksX3_summer_2 17 rfl rfl)
theorem dX3_summer_66 : decode cX3_summer 66 = .ok (.aload_n 0, 1) := dk_42 (dk_at dksX3_summer_2 19 rfl rfl)
theorem dX3_summer_67 : decode cX3_summer 67 = .ok (.getfield 374, 3) := dk_180 1 118 (dk_at dksX3_summer_2 20 rfl rfl)
theorem dX3_summer_70 : decode cX3_summer 70 = .ok (.if_icmp .ge 18, 3) := dk_162 0 18 (dk_at dksX3_summer_3 0 rfl rfl)
theorem dX3_summer_73 : decode cX3_summer 73 = .ok (.aload_n 0, 1) := dk_42 (dk_at dksX3_summer_3 3 rfl rfl)
theorem dX3_summer_74 : decode cX3_summer 74 = .ok (.iload 4, 2) := dk_21 4 (dk_at dksX3_summer_3 4 rfl rfl)
theorem dX3_summer_76 : decode cX3_summer 76 = .ok (.invokevirtual 386, 3) := dk_182 1 130 (dk_at dksX3_summer_3 6 rfl rfl)
theorem dX3_summer_79 : decode cX3_summer 79 = .ok (.ifCond .eq 9, 3) := dk_153 0 9 (dk_at dksX3_summer_3 9 rfl rfl)
theorem dX3_summer_82 : decode cX3_summer 82 = .ok (.iinc 4 1, 3) := dk_132 4 1 (dk_at dksX3_summer_3 12 rfl rfl)
theorem dX3_summer_85 : decode cX3_summer 85 = .ok (.goto (-21), 3) := dk_167 255 235 (dk_at dksX3_summer_3 15 rfl rfl)
theorem dX3_summer_88 : decode cX3_summer 88 = .ok (.aload_n 0, 1) := dk_42 (dk_at dksX3_summer_3 18 rfl rfl)
theorem dX3_summer_89 : decode cX3_summer 89 = .ok (.iconst 0, 1) := dk_3 (dk_at dksX3_summer_3 19 rfl rfl)
theorem dX3_summer_90 : decode cX3_summer 90 = .ok (.putfield 119, 3) := dk_181 0 119 (dk_at dksX3_summer_3 20 rfl rfl)
theorem dX3_summer_93 : decode cX3_summer 93 = .ok (.aload_n 0, 1) := dk_42 (dk_at dksX3_summer_3 23 rfl rfl)
theorem dX3_summer_94 : decode cX3_summer 94 = .ok (.iload 4, 2) := dk_21 4 (dk_at dksX3_summer_4 0 rfl rfl)
theorem dX3_summer_96 : decode cX3_summer 96 = .ok (.aload_n 0, 1) := dk_42 (dk_at dksX3_summer_4 2 rfl rfl)
theorem dX3_summer_97 : decode cX3_summer 97 = .ok (.getfield 374, 3) := dk_180 1 118 (dk_at dksX3_summer_4 3 rfl rfl)
theorem dX3_summer_100 : decode cX3_summer 100 = .ok (.if_icmp .ge 7, 3) := dk_162 0 7 (dk_at dksX3_summer_4 6 rfl rfl)
theorem dX3_summer_103 : decode cX3_summer 103 = .ok (.iconst 1, 1) := dk_4 (dk_at dksX3_summer_4 9 rfl rfl)
theorem dX3_summer_104 : decode cX3_summer 104 = .ok (.goto 4, 3) := dk_167 0 4 (dk_at dksX3_summer_4 10 rfl rfl)
theorem dX3_summer_107 : decode cX3_summer 107 = .ok (.iconst 0, 1) := dk_3 (dk_at dksX3_summer_4 13 rfl rfl)
theorem dX3_summer_108 : decode cX3_summer 108 = .ok (.invokestatic 151, 3) := dk_184 0 151 (dk_at dksX3_summer_4 14 rfl rfl)
theorem dX3_summer_111 : decode cX3_summer 111 = .ok (.i2l, 1) := dk_133 (dk_at dksX3_summer_4 17 rfl rfl)
theorem dX3_summer_112 : decode cX3_summer 112 = .ok (.invokevirtual 359, 3) := dk_182 1 103 (dk_at dksX3_summer_4 18 rfl rfl)
theorem dX3_summer_115 : decode cX3_summer 115 = .ok (.aload_n 0, 1) := dk_42 (dk_at dksX3_summer_4 21 rfl rfl)
theorem dX3_summer_116 : decode cX3_summer 116 = .ok (.aload_n 0, 1) := dk_42 (dk_at dksX3_summer_4 22 rfl rfl)
theorem dX3_summer_117 : decode cX3_summer 117 = .ok (.aload_n 0, 1) := dk_42 (dk_at dksX3_summer_4 23 rfl rfl)
theorem dX3_summer_118 : decode cX3_summer 118 = .ok (.getfield 36, 3) := dk_180 0 36 (dk_at dksX3_summer_5 0 rfl rfl)
theorem dX3_summer_121 : decode cX3_summer 121 = .ok (.invokevirtual 371, 3) := dk_182 1 115 (dk_at dksX3_summer_5 3 rfl rfl)
theorem dX3_summer_124 : decode cX3_summer 124 = .ok (.invokestatic 251, 3) := dk_184 0 251 (dk_at dksX3_summer_5 6 rfl rfl)
theorem dX3_summer_127 : decode cX3_summer 127 = .ok (.i2l, 1) := dk_133 (dk_at dksX3_summer_5 9 rfl rfl)
theorem dX3_summer_128 : decode cX3_summer 128 = .ok (.invokevirtual 359, 3) := dk_182 1 103 (dk_at dksX3_summer_5 10 rfl rfl)
theorem dX3_summer_131 : decode cX3_summer 131 = .ok (.iload 4, 2) := dk_21 4 (dk_at dksX3_summer_5 13 rfl rfl)
theorem dX3_summer_133 : decode cX3_summer 133 = .ok (.ifCond .le 12, 3) := dk_158 0 12 (dk_at dksX3_summer_5 15 rfl rfl)
theorem dX3_summer_136 : decode cX3_summer 136 = .ok (.aload_n 0, 1) := dk_42 (dk_at dksX3_summer_5 18 rfl rfl)
theorem dX3_summer_137 : decode cX3_summer 137 = .ok (.iload 4, 2) := dk_21 4 (dk_at dksX3_summer_5 19 rfl rfl)
theorem dX3_summer_139 : decode cX3_summer 139 = .ok (.invokevirtual 306, 3) := dk_182 1 50 (dk_at dksX3_summer_5 21 rfl rfl)
theorem dX3_summer_142 : decode cX3_summer 142 = .ok (.goto 4, 3) := dk_167 0 4 (dk_at dksX3_summer_6 0 rfl rfl)
theorem dX3_summer_145 : decode cX3_summer 145 = .ok (.iconst 0, 1) := dk_3 (dk_at dksX3_summer_6 3 rfl rfl)
theorem dX3_summer_146 : decode cX3_summer 146 = .ok (.ireturn, 1) := dk_172 (dk_at dksX3_summer_6 4 rfl rfl)
abbrev cX3_readsAct : ByteArray := prog_13_method_70_code
def yX3_readsAct : MethodName := ⟨RX3, "readsAct", "()Z"⟩
def dkwX3_readsAct_7 : List UInt8 := [155, 0, 7, 4, 167, 0, 4, 3, 172]
abbrev dktX3_readsAct_7 : List UInt8 := dkwX3_readsAct_7 ++ []
def dkwX3_readsAct_6 : List UInt8 := [167, 0, 4, 3, 172, 42, 180, 0, 72, 27, 42, 19, 1, 125, 182, 0, 226, 79, 42, 180, 0, 72, 27, 46]
abbrev dktX3_readsAct_6 : List UInt8 := dkwX3_readsAct_6 ++ dktX3_readsAct_7
def dkwX3_readsAct_5 : List UInt8 := [46, 155, 0, 12, 42, 180, 0, 66, 27, 46, 153, 0, 18, 42, 180, 0, 69, 27, 46, 155, 0, 7, 4]
abbrev dktX3_readsAct_5 : List UInt8 := dkwX3_readsAct_5 ++ dktX3_readsAct_6
def dkwX3_readsAct_4 : List UInt8 := [160, 0, 13, 42, 19, 1, 125, 182, 0, 226, 167, 0, 8, 42, 4, 182, 0, 177, 79, 42, 180, 0, 69, 27]
abbrev dktX3_readsAct_4 : List UInt8 := dkwX3_readsAct_4 ++ dktX3_readsAct_5
def dkwX3_readsAct_3 : List UInt8 := [27, 46, 7, 162, 0, 13, 42, 19, 1, 123, 182, 0, 226, 167, 0, 28, 42, 180, 0, 66, 27, 46, 7]
abbrev dktX3_readsAct_3 : List UInt8 := dkwX3_readsAct_3 ++ dktX3_readsAct_4
def dkwX3_readsAct_2 : List UInt8 := [42, 180, 0, 66, 27, 46, 155, 0, 7, 4, 167, 0, 4, 3, 172, 42, 180, 0, 69, 27, 42, 180, 0, 66]
abbrev dktX3_readsAct_2 : List UInt8 := dkwX3_readsAct_2 ++ dktX3_readsAct_3
def dkwX3_readsAct_1 : List UInt8 := [96, 181, 1, 118, 42, 180, 0, 66, 27, 46, 155, 0, 14, 42, 180, 0, 66, 27, 46, 16, 6, 160, 0, 18]
abbrev dktX3_readsAct_1 : List UInt8 := dkwX3_readsAct_1 ++ dktX3_readsAct_2
def dkwX3_readsAct_0 : List UInt8 := [42, 180, 1, 118, 60, 42, 180, 0, 66, 27, 42, 19, 1, 121, 182, 0, 226, 79, 42, 89, 180, 1, 118, 4]
abbrev dktX3_readsAct_0 : List UInt8 := dkwX3_readsAct_0 ++ dktX3_readsAct_1
theorem dksX3_readsAct_0 : cX3_readsAct.data.toList.drop 0 = dktX3_readsAct_0 := by decide +kernel
theorem dksX3_readsAct_1 : cX3_readsAct.data.toList.drop 24 = dktX3_readsAct_1 := dk_seg dksX3_readsAct_0 24 rfl rfl
theorem dksX3_readsAct_2 : cX3_readsAct.data.toList.drop 48 = dktX3_readsAct_2 := dk_seg dksX3_readsAct_1 24 rfl rfl
theorem dksX3_readsAct_3 : cX3_readsAct.data.toList.drop 72 = dktX3_readsAct_3 := dk_seg dksX3_readsAct_2 24 rfl rfl
theorem dksX3_readsAct_4 : cX3_readsAct.data.toList.drop 95 = dktX3_readsAct_4 := dk_seg dksX3_readsAct_3 23 rfl rfl
theorem dksX3_readsAct_5 : cX3_readsAct.data.toList.drop 119 = dktX3_readsAct_5 := dk_seg dksX3_readsAct_4 24 rfl rfl
theorem dksX3_readsAct_6 : cX3_readsAct.data.toList.drop 142 = dktX3_readsAct_6 := dk_seg dksX3_readsAct_5 23 rfl rfl
theorem dksX3_readsAct_7 : cX3_readsAct.data.toList.drop 166 = dktX3_readsAct_7 := dk_seg dksX3_readsAct_6 24 rfl rfl
theorem dX3_readsAct_0 : decode cX3_readsAct 0 = .ok (.aload_n 0, 1) := dk_42 (dk_at dksX3_readsAct_0 0 rfl rfl)
theorem dX3_readsAct_1 : decode cX3_readsAct 1 = .ok (.getfield 374, 3) := dk_180 1 118 (dk_at dksX3_readsAct_0 1 rfl rfl)
theorem dX3_readsAct_4 : decode cX3_readsAct 4 = .ok (.istore_n 1, 1) := dk_60 (dk_at dksX3_readsAct_0 4 rfl rfl)
theorem dX3_readsAct_5 : decode cX3_readsAct 5 = .ok (.aload_n 0, 1) := dk_42 (dk_at dksX3_readsAct_0 5 rfl rfl)
theorem dX3_readsAct_6 : decode cX3_readsAct 6 = .ok (.getfield 66, 3) := dk_180 0 66 (dk_at dksX3_readsAct_0 6 rfl rfl)
theorem dX3_readsAct_9 : decode cX3_readsAct 9 = .ok (.iload_n 1, 1) := dk_27 (dk_at dksX3_readsAct_0 9 rfl rfl)
theorem dX3_readsAct_10 : decode cX3_readsAct 10 = .ok (.aload_n 0, 1) := dk_42 (dk_at dksX3_readsAct_0 10 rfl rfl)
theorem dX3_readsAct_11 : decode cX3_readsAct 11 = .ok (.ldc_w 377, 3) := dk_19 1 121 (dk_at dksX3_readsAct_0 11 rfl rfl)
theorem dX3_readsAct_14 : decode cX3_readsAct 14 = .ok (.invokevirtual 226, 3) := dk_182 0 226 (dk_at dksX3_readsAct_0 14 rfl rfl)
theorem dX3_readsAct_17 : decode cX3_readsAct 17 = .ok (.iastore, 1) := dk_79 (dk_at dksX3_readsAct_0 17 rfl rfl)
theorem dX3_readsAct_18 : decode cX3_readsAct 18 = .ok (.aload_n 0, 1) := dk_42 (dk_at dksX3_readsAct_0 18 rfl rfl)
theorem dX3_readsAct_19 : decode cX3_readsAct 19 = .ok (.dup, 1) := dk_89 (dk_at dksX3_readsAct_0 19 rfl rfl)
theorem dX3_readsAct_20 : decode cX3_readsAct 20 = .ok (.getfield 374, 3) := dk_180 1 118 (dk_at dksX3_readsAct_0 20 rfl rfl)
theorem dX3_readsAct_23 : decode cX3_readsAct 23 = .ok (.iconst 1, 1) := dk_4 (dk_at dksX3_readsAct_0 23 rfl rfl)
theorem dX3_readsAct_24 : decode cX3_readsAct 24 = .ok (.iadd, 1) := dk_96 (dk_at dksX3_readsAct_1 0 rfl rfl)
theorem dX3_readsAct_25 : decode cX3_readsAct 25 = .ok (.putfield 374, 3) := dk_181 1 118 (dk_at dksX3_readsAct_1 1 rfl rfl)
theorem dX3_readsAct_28 : decode cX3_readsAct 28 = .ok (.aload_n 0, 1) := dk_42 (dk_at dksX3_readsAct_1 4 rfl rfl)
theorem dX3_readsAct_29 : decode cX3_readsAct 29 = .ok (.getfield 66, 3) := dk_180 0 66 (dk_at dksX3_readsAct_1 5 rfl rfl)
theorem dX3_readsAct_32 : decode cX3_readsAct 32 = .ok (.iload_n 1, 1) := dk_27 (dk_at dksX3_readsAct_1 8 rfl rfl)
theorem dX3_readsAct_33 : decode cX3_readsAct 33 = .ok (.iaload, 1) := dk_46 (dk_at dksX3_readsAct_1 9 rfl rfl)
theorem dX3_readsAct_34 : decode cX3_readsAct 34 = .ok (.ifCond .lt 14, 3) := dk_155 0 14 (dk_at dksX3_readsAct_1 10 rfl rfl)
theorem dX3_readsAct_37 : decode cX3_readsAct 37 = .ok (.aload_n 0, 1) := dk_42 (dk_at dksX3_readsAct_1 13 rfl rfl)
theorem dX3_readsAct_38 : decode cX3_readsAct 38 = .ok (.getfield 66, 3) := dk_180 0 66 (dk_at dksX3_readsAct_1 14 rfl rfl)
theorem dX3_readsAct_41 : decode cX3_readsAct 41 = .ok (.iload_n 1, 1) := dk_27 (dk_at dksX3_readsAct_1 17 rfl rfl)
theorem dX3_readsAct_42 : decode cX3_readsAct 42 = .ok (.iaload, 1) := dk_46 (dk_at dksX3_readsAct_1 18 rfl rfl)
theorem dX3_readsAct_43 : decode cX3_readsAct 43 = .ok (.bipush 6, 2) := dk_16 6 (dk_at dksX3_readsAct_1 19 rfl rfl)
theorem dX3_readsAct_45 : decode cX3_readsAct 45 = .ok (.if_icmp .ne 18, 3) := dk_160 0 18 (dk_at dksX3_readsAct_1 21 rfl rfl)
theorem dX3_readsAct_48 : decode cX3_readsAct 48 = .ok (.aload_n 0, 1) := dk_42 (dk_at dksX3_readsAct_2 0 rfl rfl)
theorem dX3_readsAct_49 : decode cX3_readsAct 49 = .ok (.getfield 66, 3) := dk_180 0 66 (dk_at dksX3_readsAct_2 1 rfl rfl)
theorem dX3_readsAct_52 : decode cX3_readsAct 52 = .ok (.iload_n 1, 1) := dk_27 (dk_at dksX3_readsAct_2 4 rfl rfl)
theorem dX3_readsAct_53 : decode cX3_readsAct 53 = .ok (.iaload, 1) := dk_46 (dk_at dksX3_readsAct_2 5 rfl rfl)
theorem dX3_readsAct_54 : decode cX3_readsAct 54 = .ok (.ifCond .lt 7, 3) := dk_155 0 7 (dk_at dksX3_readsAct_2 6 rfl rfl)
theorem dX3_readsAct_57 : decode cX3_readsAct 57 = .ok (.iconst 1, 1) := dk_4 (dk_at dksX3_readsAct_2 9 rfl rfl)
theorem dX3_readsAct_58 : decode cX3_readsAct 58 = .ok (.goto 4, 3) := dk_167 0 4 (dk_at dksX3_readsAct_2 10 rfl rfl)
theorem dX3_readsAct_61 : decode cX3_readsAct 61 = .ok (.iconst 0, 1) := dk_3 (dk_at dksX3_readsAct_2 13 rfl rfl)
theorem dX3_readsAct_62 : decode cX3_readsAct 62 = .ok (.ireturn, 1) := dk_172 (dk_at dksX3_readsAct_2 14 rfl rfl)
theorem dX3_readsAct_63 : decode cX3_readsAct 63 = .ok (.aload_n 0, 1) := dk_42 (dk_at dksX3_readsAct_2 15 rfl rfl)
theorem dX3_readsAct_64 : decode cX3_readsAct 64 = .ok (.getfield 69, 3) := dk_180 0 69 (dk_at dksX3_readsAct_2 16 rfl rfl)
theorem dX3_readsAct_67 : decode cX3_readsAct 67 = .ok (.iload_n 1, 1) := dk_27 (dk_at dksX3_readsAct_2 19 rfl rfl)
theorem dX3_readsAct_68 : decode cX3_readsAct 68 = .ok (.aload_n 0, 1) := dk_42 (dk_at dksX3_readsAct_2 20 rfl rfl)
theorem dX3_readsAct_69 : decode cX3_readsAct 69 = .ok (.getfield 66, 3) := dk_180 0 66 (dk_at dksX3_readsAct_2 21 rfl rfl)
theorem dX3_readsAct_72 : decode cX3_readsAct 72 = .ok (.iload_n 1, 1) := dk_27 (dk_at dksX3_readsAct_3 0 rfl rfl)
theorem dX3_readsAct_73 : decode cX3_readsAct 73 = .ok (.iaload, 1) := dk_46 (dk_at dksX3_readsAct_3 1 rfl rfl)
theorem dX3_readsAct_74 : decode cX3_readsAct 74 = .ok (.iconst 4, 1) := dk_7 (dk_at dksX3_readsAct_3 2 rfl rfl)
theorem dX3_readsAct_75 : decode cX3_readsAct 75 = .ok (.if_icmp .ge 13, 3) := dk_162 0 13 (dk_at dksX3_readsAct_3 3 rfl rfl)
theorem dX3_readsAct_78 : decode cX3_readsAct 78 = .ok (.aload_n 0, 1) := dk_42 (dk_at dksX3_readsAct_3 6 rfl rfl)
theorem dX3_readsAct_79 : decode cX3_readsAct 79 = .ok (.ldc_w 379, 3) := dk_19 1 123 (dk_at dksX3_readsAct_3 7 rfl rfl)
theorem dX3_readsAct_82 : decode cX3_readsAct 82 = .ok (.invokevirtual 226, 3) := dk_182 0 226 (dk_at dksX3_readsAct_3 10 rfl rfl)
theorem dX3_readsAct_85 : decode cX3_readsAct 85 = .ok (.goto 28, 3) := dk_167 0 28 (dk_at dksX3_readsAct_3 13 rfl rfl)
theorem dX3_readsAct_88 : decode cX3_readsAct 88 = .ok (.aload_n 0, 1) := dk_42 (dk_at dksX3_readsAct_3 16 rfl rfl)
theorem dX3_readsAct_89 : decode cX3_readsAct 89 = .ok (.getfield 66, 3) := dk_180 0 66 (dk_at dksX3_readsAct_3 17 rfl rfl)
theorem dX3_readsAct_92 : decode cX3_readsAct 92 = .ok (.iload_n 1, 1) := dk_27 (dk_at dksX3_readsAct_3 20 rfl rfl)
theorem dX3_readsAct_93 : decode cX3_readsAct 93 = .ok (.iaload, 1) := dk_46 (dk_at dksX3_readsAct_3 21 rfl rfl)
theorem dX3_readsAct_94 : decode cX3_readsAct 94 = .ok (.iconst 4, 1) := dk_7 (dk_at dksX3_readsAct_3 22 rfl rfl)
theorem dX3_readsAct_95 : decode cX3_readsAct 95 = .ok (.if_icmp .ne 13, 3) := dk_160 0 13 (dk_at dksX3_readsAct_4 0 rfl rfl)
theorem dX3_readsAct_98 : decode cX3_readsAct 98 = .ok (.aload_n 0, 1) := dk_42 (dk_at dksX3_readsAct_4 3 rfl rfl)
theorem dX3_readsAct_99 : decode cX3_readsAct 99 = .ok (.ldc_w 381, 3) := dk_19 1 125 (dk_at dksX3_readsAct_4 4 rfl rfl)
theorem dX3_readsAct_102 : decode cX3_readsAct 102 = .ok (.invokevirtual 226, 3) := dk_182 0 226 (dk_at dksX3_readsAct_4 7 rfl rfl)
theorem dX3_readsAct_105 : decode cX3_readsAct 105 = .ok (.goto 8, 3) := dk_167 0 8 (dk_at dksX3_readsAct_4 10 rfl rfl)
theorem dX3_readsAct_108 : decode cX3_readsAct 108 = .ok (.aload_n 0, 1) := dk_42 (dk_at dksX3_readsAct_4 13 rfl rfl)
theorem dX3_readsAct_109 : decode cX3_readsAct 109 = .ok (.iconst 1, 1) := dk_4 (dk_at dksX3_readsAct_4 14 rfl rfl)
theorem dX3_readsAct_110 : decode cX3_readsAct 110 = .ok (.invokevirtual 177, 3) := dk_182 0 177 (dk_at dksX3_readsAct_4 15 rfl rfl)
theorem dX3_readsAct_113 : decode cX3_readsAct 113 = .ok (.iastore, 1) := dk_79 (dk_at dksX3_readsAct_4 18 rfl rfl)
theorem dX3_readsAct_114 : decode cX3_readsAct 114 = .ok (.aload_n 0, 1) := dk_42 (dk_at dksX3_readsAct_4 19 rfl rfl)
theorem dX3_readsAct_115 : decode cX3_readsAct 115 = .ok (.getfield 69, 3) := dk_180 0 69 (dk_at dksX3_readsAct_4 20 rfl rfl)
theorem dX3_readsAct_118 : decode cX3_readsAct 118 = .ok (.iload_n 1, 1) := dk_27 (dk_at dksX3_readsAct_4 23 rfl rfl)
theorem dX3_readsAct_119 : decode cX3_readsAct 119 = .ok (.iaload, 1) := dk_46 (dk_at dksX3_readsAct_5 0 rfl rfl)
theorem dX3_readsAct_120 : decode cX3_readsAct 120 = .ok (.ifCond .lt 12, 3) := dk_155 0 12 (dk_at dksX3_readsAct_5 1 rfl rfl)
theorem dX3_readsAct_123 : decode cX3_readsAct 123 = .ok (.aload_n 0, 1) := dk_42 (dk_at dksX3_readsAct_5 4 rfl rfl)
theorem dX3_readsAct_124 : decode cX3_readsAct 124 = .ok (.getfield 66, 3) := dk_180 0 66 (dk_at dksX3_readsAct_5 5 rfl rfl)
theorem dX3_readsAct_127 : decode cX3_readsAct 127 = .ok (.iload_n 1, 1) := dk_27 (dk_at dksX3_readsAct_5 8 rfl rfl)
theorem dX3_readsAct_128 : decode cX3_readsAct 128 = .ok (.iaload, 1) := dk_46 (dk_at dksX3_readsAct_5 9 rfl rfl)
theorem dX3_readsAct_129 : decode cX3_readsAct 129 = .ok (.ifCond .eq 18, 3) := dk_153 0 18 (dk_at dksX3_readsAct_5 10 rfl rfl)
theorem dX3_readsAct_132 : decode cX3_readsAct 132 = .ok (.aload_n 0, 1) := dk_42 (dk_at dksX3_readsAct_5 13 rfl rfl)
theorem dX3_readsAct_133 : decode cX3_readsAct 133 = .ok (.getfield 69, 3) := dk_180 0 69 (dk_at dksX3_readsAct_5 14 rfl rfl)
theorem dX3_readsAct_136 : decode cX3_readsAct 136 = .ok (.iload_n 1, 1) := dk_27 (dk_at dksX3_readsAct_5 17 rfl rfl)
theorem dX3_readsAct_137 : decode cX3_readsAct 137 = .ok (.iaload, 1) := dk_46 (dk_at dksX3_readsAct_5 18 rfl rfl)
theorem dX3_readsAct_138 : decode cX3_readsAct 138 = .ok (.ifCond .lt 7, 3) := dk_155 0 7 (dk_at dksX3_readsAct_5 19 rfl rfl)
theorem dX3_readsAct_141 : decode cX3_readsAct 141 = .ok (.iconst 1, 1) := dk_4 (dk_at dksX3_readsAct_5 22 rfl rfl)
theorem dX3_readsAct_142 : decode cX3_readsAct 142 = .ok (.goto 4, 3) := dk_167 0 4 (dk_at dksX3_readsAct_6 0 rfl rfl)
theorem dX3_readsAct_145 : decode cX3_readsAct 145 = .ok (.iconst 0, 1) := dk_3 (dk_at dksX3_readsAct_6 3 rfl rfl)
theorem dX3_readsAct_146 : decode cX3_readsAct 146 = .ok (.ireturn, 1) := dk_172 (dk_at dksX3_readsAct_6 4 rfl rfl)
theorem dX3_readsAct_147 : decode cX3_readsAct 147 = .ok (.aload_n 0, 1) := dk_42 (dk_at dksX3_readsAct_6 5 rfl rfl)
theorem dX3_readsAct_148 : decode cX3_readsAct 148 = .ok (.getfield 72, 3) := dk_180 0 72 (dk_at dksX3_readsAct_6 6 rfl rfl)
theorem dX3_readsAct_151 : decode cX3_readsAct 151 = .ok (.iload_n 1, 1) := dk_27 (dk_at dksX3_readsAct_6 9 rfl rfl)
theorem dX3_readsAct_152 : decode cX3_readsAct 152 = .ok (.aload_n 0, 1) := dk_42 (dk_at dksX3_readsAct_6 10 rfl rfl)
theorem dX3_readsAct_153 : decode cX3_readsAct 153 = .ok (.ldc_w 381, 3) := dk_19 1 125 (dk_at dksX3_readsAct_6 11 rfl rfl)
theorem dX3_readsAct_156 : decode cX3_readsAct 156 = .ok (.invokevirtual 226, 3) := dk_182 0 226 (dk_at dksX3_readsAct_6 14 rfl rfl)
theorem dX3_readsAct_159 : decode cX3_readsAct 159 = .ok (.iastore, 1) := dk_79 (dk_at dksX3_readsAct_6 17 rfl rfl)
theorem dX3_readsAct_160 : decode cX3_readsAct 160 = .ok (.aload_n 0, 1) := dk_42 (dk_at dksX3_readsAct_6 18 rfl rfl)
theorem dX3_readsAct_161 : decode cX3_readsAct 161 = .ok (.getfield 72, 3) := dk_180 0 72 (dk_at dksX3_readsAct_6 19 rfl rfl)
theorem dX3_readsAct_164 : decode cX3_readsAct 164 = .ok (.iload_n 1, 1) := dk_27 (dk_at dksX3_readsAct_6 22 rfl rfl)
theorem dX3_readsAct_165 : decode cX3_readsAct 165 = .ok (.iaload, 1) := dk_46 (dk_at dksX3_readsAct_6 23 rfl rfl)
theorem dX3_readsAct_166 : decode cX3_readsAct 166 = .ok (.ifCond .lt 7, 3) := dk_155 0 7 (dk_at dksX3_readsAct_7 0 rfl rfl)
theorem dX3_readsAct_169 : decode cX3_readsAct 169 = .ok (.iconst 1, 1) := dk_4 (dk_at dksX3_readsAct_7 3 rfl rfl)
theorem dX3_readsAct_170 : decode cX3_readsAct 170 = .ok (.goto 4, 3) := dk_167 0 4 (dk_at dksX3_readsAct_7 4 rfl rfl)
theorem dX3_readsAct_173 : decode cX3_readsAct 173 = .ok (.iconst 0, 1) := dk_3 (dk_at dksX3_readsAct_7 7 rfl rfl)
theorem dX3_readsAct_174 : decode cX3_readsAct 174 = .ok (.ireturn, 1) := dk_172 (dk_at dksX3_readsAct_7 8 rfl rfl)
abbrev cX3_does : ByteArray := prog_13_method_71_code
def yX3_does : MethodName := ⟨RX3, "does", "(I)Z"⟩
def dkwX3_does_6 : List UInt8 := [180, 0, 36, 182, 1, 110, 87, 4, 172]
abbrev dktX3_does_6 : List UInt8 := dkwX3_does_6 ++ []
def dkwX3_does_5 : List UInt8 := [155, 0, 7, 4, 167, 0, 4, 3, 172, 42, 42, 180, 0, 36, 28, 182, 1, 100, 4, 172, 42, 42]
abbrev dktX3_does_5 : List UInt8 := dkwX3_does_5 ++ dktX3_does_6
def dkwX3_does_4 : List UInt8 := [167, 0, 4, 3, 172, 42, 28, 182, 1, 88, 155, 0, 7, 4, 167, 0, 4, 3, 172, 42, 28, 182, 1, 91]
abbrev dktX3_does_4 : List UInt8 := dkwX3_does_4 ++ dktX3_does_5
def dkwX3_does_3 : List UInt8 := [42, 28, 182, 1, 82, 155, 0, 7, 4, 167, 0, 4, 3, 172, 42, 28, 182, 1, 85, 155, 0, 7, 4]
abbrev dktX3_does_3 : List UInt8 := dkwX3_does_3 ++ dktX3_does_4
def dkwX3_does_2 : List UInt8 := [42, 42, 180, 0, 36, 28, 42, 180, 0, 72, 27, 46, 182, 1, 75, 155, 0, 7, 4, 167, 0, 4, 3, 172]
abbrev dktX3_does_2 : List UInt8 := dkwX3_does_2 ++ dktX3_does_3
def dkwX3_does_1 : List UInt8 := [170, 0, 0, 0, 0, 0, 130, 0, 0, 0, 0, 0, 0, 0, 5, 0, 0, 0, 39, 0, 0, 0, 63, 0, 0, 0, 77, 0, 0, 0, 91, 0, 0, 0, 105, 0, 0, 0, 119]
abbrev dktX3_does_1 : List UInt8 := dkwX3_does_1 ++ dktX3_does_2
def dkwX3_does_0 : List UInt8 := [42, 180, 0, 69, 27, 46, 61, 42, 180, 0, 66, 27, 46]
abbrev dktX3_does_0 : List UInt8 := dkwX3_does_0 ++ dktX3_does_1
theorem dksX3_does_0 : cX3_does.data.toList.drop 0 = dktX3_does_0 := by decide +kernel
theorem dksX3_does_1 : cX3_does.data.toList.drop 13 = dktX3_does_1 := dk_seg dksX3_does_0 13 rfl rfl
theorem dksX3_does_2 : cX3_does.data.toList.drop 52 = dktX3_does_2 := dk_seg dksX3_does_1 39 rfl rfl
theorem dksX3_does_3 : cX3_does.data.toList.drop 76 = dktX3_does_3 := dk_seg dksX3_does_2 24 rfl rfl
theorem dksX3_does_4 : cX3_does.data.toList.drop 99 = dktX3_does_4 := dk_seg dksX3_does_3 23 rfl rfl
theorem dksX3_does_5 : cX3_does.data.toList.drop 123 = dktX3_does_5 := dk_seg dksX3_does_4 24 rfl rfl
theorem dksX3_does_6 : cX3_does.data.toList.drop 145 = dktX3_does_6 := dk_seg dksX3_does_5 22 rfl rfl
theorem dX3_does_0 : decode cX3_does 0 = .ok (.aload_n 0, 1) := dk_42 (dk_at dksX3_does_0 0 rfl rfl)
theorem dX3_does_1 : decode cX3_does 1 = .ok (.getfield 69, 3) := dk_180 0 69 (dk_at dksX3_does_0 1 rfl rfl)
theorem dX3_does_4 : decode cX3_does 4 = .ok (.iload_n 1, 1) := dk_27 (dk_at dksX3_does_0 4 rfl rfl)
theorem dX3_does_5 : decode cX3_does 5 = .ok (.iaload, 1) := dk_46 (dk_at dksX3_does_0 5 rfl rfl)
theorem dX3_does_6 : decode cX3_does 6 = .ok (.istore_n 2, 1) := dk_61 (dk_at dksX3_does_0 6 rfl rfl)
theorem dX3_does_7 : decode cX3_does 7 = .ok (.aload_n 0, 1) := dk_42 (dk_at dksX3_does_0 7 rfl rfl)
theorem dX3_does_8 : decode cX3_does 8 = .ok (.getfield 66, 3) := dk_180 0 66 (dk_at dksX3_does_0 8 rfl rfl)
theorem dX3_does_11 : decode cX3_does 11 = .ok (.iload_n 1, 1) := dk_27 (dk_at dksX3_does_0 11 rfl rfl)
theorem dX3_does_12 : decode cX3_does 12 = .ok (.iaload, 1) := dk_46 (dk_at dksX3_does_0 12 rfl rfl)
theorem dX3_does_13 : decode cX3_does 13 = .ok (.tableswitch 130 0 5 #[39, 63, 77, 91, 105, 119], 39) := by decide +kernel
theorem dX3_does_52 : decode cX3_does 52 = .ok (.aload_n 0, 1) := dk_42 (dk_at dksX3_does_2 0 rfl rfl)
theorem dX3_does_53 : decode cX3_does 53 = .ok (.aload_n 0, 1) := dk_42 (dk_at dksX3_does_2 1 rfl rfl)
theorem dX3_does_54 : decode cX3_does 54 = .ok (.getfield 36, 3) := dk_180 0 36 (dk_at dksX3_does_2 2 rfl rfl)
theorem dX3_does_57 : decode cX3_does 57 = .ok (.iload_n 2, 1) := dk_28 (dk_at dksX3_does_2 5 rfl rfl)
theorem dX3_does_58 : decode cX3_does 58 = .ok (.aload_n 0, 1) := dk_42 (dk_at dksX3_does_2 6 rfl rfl)
theorem dX3_does_59 : decode cX3_does 59 = .ok (.getfield 72, 3) := dk_180 0 72 (dk_at dksX3_does_2 7 rfl rfl)
theorem dX3_does_62 : decode cX3_does 62 = .ok (.iload_n 1, 1) := dk_27 (dk_at dksX3_does_2 10 rfl rfl)
theorem dX3_does_63 : decode cX3_does 63 = .ok (.iaload, 1) := dk_46 (dk_at dksX3_does_2 11 rfl rfl)
theorem dX3_does_64 : decode cX3_does 64 = .ok (.invokevirtual 331, 3) := dk_182 1 75 (dk_at dksX3_does_2 12 rfl rfl)
theorem dX3_does_67 : decode cX3_does 67 = .ok (.ifCond .lt 7, 3) := dk_155 0 7 (dk_at dksX3_does_2 15 rfl rfl)
theorem dX3_does_70 : decode cX3_does 70 = .ok (.iconst 1, 1) := dk_4 (dk_at dksX3_does_2 18 rfl rfl)
theorem dX3_does_71 : decode cX3_does 71 = .ok (.goto 4, 3) := dk_167 0 4 (dk_at dksX3_does_2 19 rfl rfl)
theorem dX3_does_74 : decode cX3_does 74 = .ok (.iconst 0, 1) := dk_3 (dk_at dksX3_does_2 22 rfl rfl)
theorem dX3_does_75 : decode cX3_does 75 = .ok (.ireturn, 1) := dk_172 (dk_at dksX3_does_2 23 rfl rfl)
theorem dX3_does_76 : decode cX3_does 76 = .ok (.aload_n 0, 1) := dk_42 (dk_at dksX3_does_3 0 rfl rfl)
theorem dX3_does_77 : decode cX3_does 77 = .ok (.iload_n 2, 1) := dk_28 (dk_at dksX3_does_3 1 rfl rfl)
theorem dX3_does_78 : decode cX3_does 78 = .ok (.invokevirtual 338, 3) := dk_182 1 82 (dk_at dksX3_does_3 2 rfl rfl)
theorem dX3_does_81 : decode cX3_does 81 = .ok (.ifCond .lt 7, 3) := dk_155 0 7 (dk_at dksX3_does_3 5 rfl rfl)
theorem dX3_does_84 : decode cX3_does 84 = .ok (.iconst 1, 1) := dk_4 (dk_at dksX3_does_3 8 rfl rfl)
theorem dX3_does_85 : decode cX3_does 85 = .ok (.goto 4, 3) := dk_167 0 4 (dk_at dksX3_does_3 9 rfl rfl)
theorem dX3_does_88 : decode cX3_does 88 = .ok (.iconst 0, 1) := dk_3 (dk_at dksX3_does_3 12 rfl rfl)
theorem dX3_does_89 : decode cX3_does 89 = .ok (.ireturn, 1) := dk_172 (dk_at dksX3_does_3 13 rfl rfl)
theorem dX3_does_90 : decode cX3_does 90 = .ok (.aload_n 0, 1) := dk_42 (dk_at dksX3_does_3 14 rfl rfl)
theorem dX3_does_91 : decode cX3_does 91 = .ok (.iload_n 2, 1) := dk_28 (dk_at dksX3_does_3 15 rfl rfl)
theorem dX3_does_92 : decode cX3_does 92 = .ok (.invokevirtual 341, 3) := dk_182 1 85 (dk_at dksX3_does_3 16 rfl rfl)
theorem dX3_does_95 : decode cX3_does 95 = .ok (.ifCond .lt 7, 3) := dk_155 0 7 (dk_at dksX3_does_3 19 rfl rfl)
theorem dX3_does_98 : decode cX3_does 98 = .ok (.iconst 1, 1) := dk_4 (dk_at dksX3_does_3 22 rfl rfl)
theorem dX3_does_99 : decode cX3_does 99 = .ok (.goto 4, 3) := dk_167 0 4 (dk_at dksX3_does_4 0 rfl rfl)
theorem dX3_does_102 : decode cX3_does 102 = .ok (.iconst 0, 1) := dk_3 (dk_at dksX3_does_4 3 rfl rfl)
theorem dX3_does_103 : decode cX3_does 103 = .ok (.ireturn, 1) := dk_172 (dk_at dksX3_does_4 4 rfl rfl)
theorem dX3_does_104 : decode cX3_does 104 = .ok (.aload_n 0, 1) := dk_42 (dk_at dksX3_does_4 5 rfl rfl)
theorem dX3_does_105 : decode cX3_does 105 = .ok (.iload_n 2, 1) := dk_28 (dk_at dksX3_does_4 6 rfl rfl)
theorem dX3_does_106 : decode cX3_does 106 = .ok (.invokevirtual 344, 3) := dk_182 1 88 (dk_at dksX3_does_4 7 rfl rfl)
theorem dX3_does_109 : decode cX3_does 109 = .ok (.ifCond .lt 7, 3) := dk_155 0 7 (dk_at dksX3_does_4 10 rfl rfl)
theorem dX3_does_112 : decode cX3_does 112 = .ok (.iconst 1, 1) := dk_4 (dk_at dksX3_does_4 13 rfl rfl)
theorem dX3_does_113 : decode cX3_does 113 = .ok (.goto 4, 3) := dk_167 0 4 (dk_at dksX3_does_4 14 rfl rfl)
theorem dX3_does_116 : decode cX3_does 116 = .ok (.iconst 0, 1) := dk_3 (dk_at dksX3_does_4 17 rfl rfl)
theorem dX3_does_117 : decode cX3_does 117 = .ok (.ireturn, 1) := dk_172 (dk_at dksX3_does_4 18 rfl rfl)
theorem dX3_does_118 : decode cX3_does 118 = .ok (.aload_n 0, 1) := dk_42 (dk_at dksX3_does_4 19 rfl rfl)
theorem dX3_does_119 : decode cX3_does 119 = .ok (.iload_n 2, 1) := dk_28 (dk_at dksX3_does_4 20 rfl rfl)
theorem dX3_does_120 : decode cX3_does 120 = .ok (.invokevirtual 347, 3) := dk_182 1 91 (dk_at dksX3_does_4 21 rfl rfl)
theorem dX3_does_123 : decode cX3_does 123 = .ok (.ifCond .lt 7, 3) := dk_155 0 7 (dk_at dksX3_does_5 0 rfl rfl)
theorem dX3_does_126 : decode cX3_does 126 = .ok (.iconst 1, 1) := dk_4 (dk_at dksX3_does_5 3 rfl rfl)
theorem dX3_does_127 : decode cX3_does 127 = .ok (.goto 4, 3) := dk_167 0 4 (dk_at dksX3_does_5 4 rfl rfl)
theorem dX3_does_130 : decode cX3_does 130 = .ok (.iconst 0, 1) := dk_3 (dk_at dksX3_does_5 7 rfl rfl)
theorem dX3_does_131 : decode cX3_does 131 = .ok (.ireturn, 1) := dk_172 (dk_at dksX3_does_5 8 rfl rfl)
theorem dX3_does_132 : decode cX3_does 132 = .ok (.aload_n 0, 1) := dk_42 (dk_at dksX3_does_5 9 rfl rfl)
theorem dX3_does_133 : decode cX3_does 133 = .ok (.aload_n 0, 1) := dk_42 (dk_at dksX3_does_5 10 rfl rfl)
theorem dX3_does_134 : decode cX3_does 134 = .ok (.getfield 36, 3) := dk_180 0 36 (dk_at dksX3_does_5 11 rfl rfl)
theorem dX3_does_137 : decode cX3_does 137 = .ok (.iload_n 2, 1) := dk_28 (dk_at dksX3_does_5 14 rfl rfl)
theorem dX3_does_138 : decode cX3_does 138 = .ok (.invokevirtual 356, 3) := dk_182 1 100 (dk_at dksX3_does_5 15 rfl rfl)
theorem dX3_does_141 : decode cX3_does 141 = .ok (.iconst 1, 1) := dk_4 (dk_at dksX3_does_5 18 rfl rfl)
theorem dX3_does_142 : decode cX3_does 142 = .ok (.ireturn, 1) := dk_172 (dk_at dksX3_does_5 19 rfl rfl)
theorem dX3_does_143 : decode cX3_does 143 = .ok (.aload_n 0, 1) := dk_42 (dk_at dksX3_does_5 20 rfl rfl)
theorem dX3_does_144 : decode cX3_does 144 = .ok (.aload_n 0, 1) := dk_42 (dk_at dksX3_does_5 21 rfl rfl)
theorem dX3_does_145 : decode cX3_does 145 = .ok (.getfield 36, 3) := dk_180 0 36 (dk_at dksX3_does_6 0 rfl rfl)
theorem dX3_does_148 : decode cX3_does 148 = .ok (.invokevirtual 366, 3) := dk_182 1 110 (dk_at dksX3_does_6 3 rfl rfl)
theorem dX3_does_151 : decode cX3_does 151 = .ok (.pop, 1) := dk_87 (dk_at dksX3_does_6 6 rfl rfl)
theorem dX3_does_152 : decode cX3_does 152 = .ok (.iconst 1, 1) := dk_4 (dk_at dksX3_does_6 7 rfl rfl)
theorem dX3_does_153 : decode cX3_does 153 = .ok (.ireturn, 1) := dk_172 (dk_at dksX3_does_6 8 rfl rfl)
abbrev cX3_level : ByteArray := prog_13_method_74_code
def yX3_level : MethodName := ⟨RX3, "level", "(I)I"⟩
def dkwX3_level_2 : List UInt8 := [28, 182, 1, 66, 133, 182, 1, 103, 28, 172]
abbrev dktX3_level_2 : List UInt8 := dkwX3_level_2 ++ []
def dkwX3_level_1 : List UInt8 := [42, 180, 0, 36, 16, 42, 46, 27, 96, 182, 1, 60, 61, 42, 3, 181, 0, 119, 42, 42, 42, 180, 0, 36]
abbrev dktX3_level_1 : List UInt8 := dkwX3_level_1 ++ dktX3_level_2
def dkwX3_level_0 : List UInt8 := [42, 3, 181, 0, 112, 27, 133, 9, 20, 1, 113, 184, 0, 122, 154, 0, 5, 2, 172, 42, 42, 180, 0, 36]
abbrev dktX3_level_0 : List UInt8 := dkwX3_level_0 ++ dktX3_level_1
theorem dksX3_level_0 : cX3_level.data.toList.drop 0 = dktX3_level_0 := by decide +kernel
theorem dksX3_level_1 : cX3_level.data.toList.drop 24 = dktX3_level_1 := dk_seg dksX3_level_0 24 rfl rfl
theorem dksX3_level_2 : cX3_level.data.toList.drop 48 = dktX3_level_2 := dk_seg dksX3_level_1 24 rfl rfl
theorem dX3_level_0 : decode cX3_level 0 = .ok (.aload_n 0, 1) := dk_42 (dk_at dksX3_level_0 0 rfl rfl)
theorem dX3_level_1 : decode cX3_level 1 = .ok (.iconst 0, 1) := dk_3 (dk_at dksX3_level_0 1 rfl rfl)
theorem dX3_level_2 : decode cX3_level 2 = .ok (.putfield 112, 3) := dk_181 0 112 (dk_at dksX3_level_0 2 rfl rfl)
theorem dX3_level_5 : decode cX3_level 5 = .ok (.iload_n 1, 1) := dk_27 (dk_at dksX3_level_0 5 rfl rfl)
theorem dX3_level_6 : decode cX3_level 6 = .ok (.i2l, 1) := dk_133 (dk_at dksX3_level_0 6 rfl rfl)
theorem dX3_level_7 : decode cX3_level 7 = .ok (.lconst 0, 1) := dk_9 (dk_at dksX3_level_0 7 rfl rfl)
theorem dX3_level_8 : decode cX3_level 8 = .ok (.ldc2_w 369, 3) := dk_20 1 113 (dk_at dksX3_level_0 8 rfl rfl)
theorem dX3_level_11 : decode cX3_level 11 = .ok (.invokestatic 122, 3) := dk_184 0 122 (dk_at dksX3_level_0 11 rfl rfl)
theorem dX3_level_14 : decode cX3_level 14 = .ok (.ifCond .ne 5, 3) := dk_154 0 5 (dk_at dksX3_level_0 14 rfl rfl)
theorem dX3_level_17 : decode cX3_level 17 = .ok (.iconst (-1), 1) := dk_2 (dk_at dksX3_level_0 17 rfl rfl)
theorem dX3_level_18 : decode cX3_level 18 = .ok (.ireturn, 1) := dk_172 (dk_at dksX3_level_0 18 rfl rfl)
theorem dX3_level_19 : decode cX3_level 19 = .ok (.aload_n 0, 1) := dk_42 (dk_at dksX3_level_0 19 rfl rfl)
theorem dX3_level_20 : decode cX3_level 20 = .ok (.aload_n 0, 1) := dk_42 (dk_at dksX3_level_0 20 rfl rfl)
theorem dX3_level_21 : decode cX3_level 21 = .ok (.getfield 36, 3) := dk_180 0 36 (dk_at dksX3_level_0 21 rfl rfl)
theorem dX3_level_24 : decode cX3_level 24 = .ok (.aload_n 0, 1) := dk_42 (dk_at dksX3_level_1 0 rfl rfl)
theorem dX3_level_25 : decode cX3_level 25 = .ok (.getfield 36, 3) := dk_180 0 36 (dk_at dksX3_level_1 1 rfl rfl)
theorem dX3_level_28 : decode cX3_level 28 = .ok (.bipush 42, 2) := dk_16 42 (dk_at dksX3_level_1 4 rfl rfl)
theorem dX3_level_30 : decode cX3_level 30 = .ok (.iaload, 1) := dk_46 (dk_at dksX3_level_1 6 rfl rfl)
theorem dX3_level_31 : decode cX3_level 31 = .ok (.iload_n 1, 1) := dk_27 (dk_at dksX3_level_1 7 rfl rfl)
theorem dX3_level_32 : decode cX3_level 32 = .ok (.iadd, 1) := dk_96 (dk_at dksX3_level_1 8 rfl rfl)
theorem dX3_level_33 : decode cX3_level 33 = .ok (.invokevirtual 316, 3) := dk_182 1 60 (dk_at dksX3_level_1 9 rfl rfl)
theorem dX3_level_36 : decode cX3_level 36 = .ok (.istore_n 2, 1) := dk_61 (dk_at dksX3_level_1 12 rfl rfl)
theorem dX3_level_37 : decode cX3_level 37 = .ok (.aload_n 0, 1) := dk_42 (dk_at dksX3_level_1 13 rfl rfl)
theorem dX3_level_38 : decode cX3_level 38 = .ok (.iconst 0, 1) := dk_3 (dk_at dksX3_level_1 14 rfl rfl)
theorem dX3_level_39 : decode cX3_level 39 = .ok (.putfield 119, 3) := dk_181 0 119 (dk_at dksX3_level_1 15 rfl rfl)
theorem dX3_level_42 : decode cX3_level 42 = .ok (.aload_n 0, 1) := dk_42 (dk_at dksX3_level_1 18 rfl rfl)
theorem dX3_level_43 : decode cX3_level 43 = .ok (.aload_n 0, 1) := dk_42 (dk_at dksX3_level_1 19 rfl rfl)
theorem dX3_level_44 : decode cX3_level 44 = .ok (.aload_n 0, 1) := dk_42 (dk_at dksX3_level_1 20 rfl rfl)
theorem dX3_level_45 : decode cX3_level 45 = .ok (.getfield 36, 3) := dk_180 0 36 (dk_at dksX3_level_1 21 rfl rfl)
theorem dX3_level_48 : decode cX3_level 48 = .ok (.iload_n 2, 1) := dk_28 (dk_at dksX3_level_2 0 rfl rfl)
theorem dX3_level_49 : decode cX3_level 49 = .ok (.invokevirtual 322, 3) := dk_182 1 66 (dk_at dksX3_level_2 1 rfl rfl)
theorem dX3_level_52 : decode cX3_level 52 = .ok (.i2l, 1) := dk_133 (dk_at dksX3_level_2 4 rfl rfl)
theorem dX3_level_53 : decode cX3_level 53 = .ok (.invokevirtual 359, 3) := dk_182 1 103 (dk_at dksX3_level_2 5 rfl rfl)
theorem dX3_level_56 : decode cX3_level 56 = .ok (.iload_n 2, 1) := dk_28 (dk_at dksX3_level_2 8 rfl rfl)
theorem dX3_level_57 : decode cX3_level 57 = .ok (.ireturn, 1) := dk_172 (dk_at dksX3_level_2 9 rfl rfl)
abbrev cX3_holds : ByteArray := prog_13_method_76_code
def yX3_holds : MethodName := ⟨RX3, "holds", "()I"⟩
def dkwX3_holds_1 : List UInt8 := [3, 181, 0, 119, 42, 42, 180, 1, 133, 133, 182, 1, 103, 42, 42, 180, 1, 63, 133, 182, 1, 103, 27, 172]
abbrev dktX3_holds_1 : List UInt8 := dkwX3_holds_1 ++ []
def dkwX3_holds_0 : List UInt8 := [42, 3, 181, 0, 112, 42, 182, 1, 136, 42, 182, 1, 139, 60, 27, 16, 99, 164, 0, 6, 16, 254, 172, 42]
abbrev dktX3_holds_0 : List UInt8 := dkwX3_holds_0 ++ dktX3_holds_1
theorem dksX3_holds_0 : cX3_holds.data.toList.drop 0 = dktX3_holds_0 := by decide +kernel
theorem dksX3_holds_1 : cX3_holds.data.toList.drop 24 = dktX3_holds_1 := dk_seg dksX3_holds_0 24 rfl rfl
theorem dX3_holds_0 : decode cX3_holds 0 = .ok (.aload_n 0, 1) := dk_42 (dk_at dksX3_holds_0 0 rfl rfl)
theorem dX3_holds_1 : decode cX3_holds 1 = .ok (.iconst 0, 1) := dk_3 (dk_at dksX3_holds_0 1 rfl rfl)
theorem dX3_holds_2 : decode cX3_holds 2 = .ok (.putfield 112, 3) := dk_181 0 112 (dk_at dksX3_holds_0 2 rfl rfl)
theorem dX3_holds_5 : decode cX3_holds 5 = .ok (.aload_n 0, 1) := dk_42 (dk_at dksX3_holds_0 5 rfl rfl)
theorem dX3_holds_6 : decode cX3_holds 6 = .ok (.invokevirtual 392, 3) := dk_182 1 136 (dk_at dksX3_holds_0 6 rfl rfl)
theorem dX3_holds_9 : decode cX3_holds 9 = .ok (.aload_n 0, 1) := dk_42 (dk_at dksX3_holds_0 9 rfl rfl)
theorem dX3_holds_10 : decode cX3_holds 10 = .ok (.invokevirtual 395, 3) := dk_182 1 139 (dk_at dksX3_holds_0 10 rfl rfl)
theorem dX3_holds_13 : decode cX3_holds 13 = .ok (.istore_n 1, 1) := dk_60 (dk_at dksX3_holds_0 13 rfl rfl)
theorem dX3_holds_14 : decode cX3_holds 14 = .ok (.iload_n 1, 1) := dk_27 (dk_at dksX3_holds_0 14 rfl rfl)
theorem dX3_holds_15 : decode cX3_holds 15 = .ok (.bipush 99, 2) := dk_16 99 (dk_at dksX3_holds_0 15 rfl rfl)
theorem dX3_holds_17 : decode cX3_holds 17 = .ok (.if_icmp .le 6, 3) := dk_164 0 6 (dk_at dksX3_holds_0 17 rfl rfl)
theorem dX3_holds_20 : decode cX3_holds 20 = .ok (.bipush (-2), 2) := dk_16 254 (dk_at dksX3_holds_0 20 rfl rfl)
theorem dX3_holds_22 : decode cX3_holds 22 = .ok (.ireturn, 1) := dk_172 (dk_at dksX3_holds_0 22 rfl rfl)
theorem dX3_holds_23 : decode cX3_holds 23 = .ok (.aload_n 0, 1) := dk_42 (dk_at dksX3_holds_0 23 rfl rfl)
theorem dX3_holds_24 : decode cX3_holds 24 = .ok (.iconst 0, 1) := dk_3 (dk_at dksX3_holds_1 0 rfl rfl)
theorem dX3_holds_25 : decode cX3_holds 25 = .ok (.putfield 119, 3) := dk_181 0 119 (dk_at dksX3_holds_1 1 rfl rfl)
theorem dX3_holds_28 : decode cX3_holds 28 = .ok (.aload_n 0, 1) := dk_42 (dk_at dksX3_holds_1 4 rfl rfl)
theorem dX3_holds_29 : decode cX3_holds 29 = .ok (.aload_n 0, 1) := dk_42 (dk_at dksX3_holds_1 5 rfl rfl)
theorem dX3_holds_30 : decode cX3_holds 30 = .ok (.getfield 389, 3) := dk_180 1 133 (dk_at dksX3_holds_1 6 rfl rfl)
theorem dX3_holds_33 : decode cX3_holds 33 = .ok (.i2l, 1) := dk_133 (dk_at dksX3_holds_1 9 rfl rfl)
theorem dX3_holds_34 : decode cX3_holds 34 = .ok (.invokevirtual 359, 3) := dk_182 1 103 (dk_at dksX3_holds_1 10 rfl rfl)
theorem dX3_holds_37 : decode cX3_holds 37 = .ok (.aload_n 0, 1) := dk_42 (dk_at dksX3_holds_1 13 rfl rfl)
theorem dX3_holds_38 : decode cX3_holds 38 = .ok (.aload_n 0, 1) := dk_42 (dk_at dksX3_holds_1 14 rfl rfl)
theorem dX3_holds_39 : decode cX3_holds 39 = .ok (.getfield 319, 3) := dk_180 1 63 (dk_at dksX3_holds_1 15 rfl rfl)
theorem dX3_holds_42 : decode cX3_holds 42 = .ok (.i2l, 1) := dk_133 (dk_at dksX3_holds_1 18 rfl rfl)
theorem dX3_holds_43 : decode cX3_holds 43 = .ok (.invokevirtual 359, 3) := dk_182 1 103 (dk_at dksX3_holds_1 19 rfl rfl)
theorem dX3_holds_46 : decode cX3_holds 46 = .ok (.iload_n 1, 1) := dk_27 (dk_at dksX3_holds_1 22 rfl rfl)
theorem dX3_holds_47 : decode cX3_holds 47 = .ok (.ireturn, 1) := dk_172 (dk_at dksX3_holds_1 23 rfl rfl)
abbrev cX3_puts : ByteArray := prog_13_method_73_code
def yX3_puts : MethodName := ⟨RX3, "puts", "()V"⟩
def dkwX3_puts_1 : List UInt8 := [167, 255, 235, 177]
abbrev dktX3_puts_1 : List UInt8 := dkwX3_puts_1 ++ []
def dkwX3_puts_0 : List UInt8 := [3, 60, 27, 16, 43, 162, 0, 21, 42, 180, 0, 39, 27, 42, 180, 0, 36, 27, 46, 79, 132, 1, 1]
abbrev dktX3_puts_0 : List UInt8 := dkwX3_puts_0 ++ dktX3_puts_1
theorem dksX3_puts_0 : cX3_puts.data.toList.drop 0 = dktX3_puts_0 := by decide +kernel
theorem dksX3_puts_1 : cX3_puts.data.toList.drop 23 = dktX3_puts_1 := dk_seg dksX3_puts_0 23 rfl rfl
theorem dX3_puts_0 : decode cX3_puts 0 = .ok (.iconst 0, 1) := dk_3 (dk_at dksX3_puts_0 0 rfl rfl)
theorem dX3_puts_1 : decode cX3_puts 1 = .ok (.istore_n 1, 1) := dk_60 (dk_at dksX3_puts_0 1 rfl rfl)
theorem dX3_puts_2 : decode cX3_puts 2 = .ok (.iload_n 1, 1) := dk_27 (dk_at dksX3_puts_0 2 rfl rfl)
theorem dX3_puts_3 : decode cX3_puts 3 = .ok (.bipush 43, 2) := dk_16 43 (dk_at dksX3_puts_0 3 rfl rfl)
theorem dX3_puts_5 : decode cX3_puts 5 = .ok (.if_icmp .ge 21, 3) := dk_162 0 21 (dk_at dksX3_puts_0 5 rfl rfl)
theorem dX3_puts_8 : decode cX3_puts 8 = .ok (.aload_n 0, 1) := dk_42 (dk_at dksX3_puts_0 8 rfl rfl)
theorem dX3_puts_9 : decode cX3_puts 9 = .ok (.getfield 39, 3) := dk_180 0 39 (dk_at dksX3_puts_0 9 rfl rfl)
theorem dX3_puts_12 : decode cX3_puts 12 = .ok (.iload_n 1, 1) := dk_27 (dk_at dksX3_puts_0 12 rfl rfl)
theorem dX3_puts_13 : decode cX3_puts 13 = .ok (.aload_n 0, 1) := dk_42 (dk_at dksX3_puts_0 13 rfl rfl)
theorem dX3_puts_14 : decode cX3_puts 14 = .ok (.getfield 36, 3) := dk_180 0 36 (dk_at dksX3_puts_0 14 rfl rfl)
theorem dX3_puts_17 : decode cX3_puts 17 = .ok (.iload_n 1, 1) := dk_27 (dk_at dksX3_puts_0 17 rfl rfl)
theorem dX3_puts_18 : decode cX3_puts 18 = .ok (.iaload, 1) := dk_46 (dk_at dksX3_puts_0 18 rfl rfl)
theorem dX3_puts_19 : decode cX3_puts 19 = .ok (.iastore, 1) := dk_79 (dk_at dksX3_puts_0 19 rfl rfl)
theorem dX3_puts_20 : decode cX3_puts 20 = .ok (.iinc 1 1, 3) := dk_132 1 1 (dk_at dksX3_puts_0 20 rfl rfl)
theorem dX3_puts_23 : decode cX3_puts 23 = .ok (.goto (-21), 3) := dk_167 255 235 (dk_at dksX3_puts_1 0 rfl rfl)
theorem dX3_puts_26 : decode cX3_puts 26 = .ok (.return_, 1) := dk_177 (dk_at dksX3_puts_1 3 rfl rfl)
abbrev cX3_breaksIn : ByteArray := prog_13_method_75_code
def yX3_breaksIn : MethodName := ⟨RX3, "breaksIn", "()I"⟩
def dkwX3_breaksIn_1 : List UInt8 := [153, 0, 5, 27, 172, 132, 1, 1, 167, 255, 226, 16, 100, 172]
abbrev dktX3_breaksIn_1 : List UInt8 := dkwX3_breaksIn_1 ++ []
def dkwX3_breaksIn_0 : List UInt8 := [4, 60, 27, 16, 99, 163, 0, 30, 42, 42, 42, 180, 0, 39, 182, 1, 110, 181, 1, 133, 42, 180, 1, 133]
abbrev dktX3_breaksIn_0 : List UInt8 := dkwX3_breaksIn_0 ++ dktX3_breaksIn_1
theorem dksX3_breaksIn_0 : cX3_breaksIn.data.toList.drop 0 = dktX3_breaksIn_0 := by decide +kernel
theorem dksX3_breaksIn_1 : cX3_breaksIn.data.toList.drop 24 = dktX3_breaksIn_1 := dk_seg dksX3_breaksIn_0 24 rfl rfl
theorem dX3_breaksIn_0 : decode cX3_breaksIn 0 = .ok (.iconst 1, 1) := dk_4 (dk_at dksX3_breaksIn_0 0 rfl rfl)
theorem dX3_breaksIn_1 : decode cX3_breaksIn 1 = .ok (.istore_n 1, 1) := dk_60 (dk_at dksX3_breaksIn_0 1 rfl rfl)
theorem dX3_breaksIn_2 : decode cX3_breaksIn 2 = .ok (.iload_n 1, 1) := dk_27 (dk_at dksX3_breaksIn_0 2 rfl rfl)
theorem dX3_breaksIn_3 : decode cX3_breaksIn 3 = .ok (.bipush 99, 2) := dk_16 99 (dk_at dksX3_breaksIn_0 3 rfl rfl)
theorem dX3_breaksIn_5 : decode cX3_breaksIn 5 = .ok (.if_icmp .gt 30, 3) := dk_163 0 30 (dk_at dksX3_breaksIn_0 5 rfl rfl)
theorem dX3_breaksIn_8 : decode cX3_breaksIn 8 = .ok (.aload_n 0, 1) := dk_42 (dk_at dksX3_breaksIn_0 8 rfl rfl)
theorem dX3_breaksIn_9 : decode cX3_breaksIn 9 = .ok (.aload_n 0, 1) := dk_42 (dk_at dksX3_breaksIn_0 9 rfl rfl)
theorem dX3_breaksIn_10 : decode cX3_breaksIn 10 = .ok (.aload_n 0, 1) := dk_42 (dk_at dksX3_breaksIn_0 10 rfl rfl)
theorem dX3_breaksIn_11 : decode cX3_breaksIn 11 = .ok (.getfield 39, 3) := dk_180 0 39 (dk_at dksX3_breaksIn_0 11 rfl rfl)
theorem dX3_breaksIn_14 : decode cX3_breaksIn 14 = .ok (.invokevirtual 366, 3) := dk_182 1 110 (dk_at dksX3_breaksIn_0 14 rfl rfl)
theorem dX3_breaksIn_17 : decode cX3_breaksIn 17 = .ok (.putfield 389, 3) := dk_181 1 133 (dk_at dksX3_breaksIn_0 17 rfl rfl)
theorem dX3_breaksIn_20 : decode cX3_breaksIn 20 = .ok (.aload_n 0, 1) := dk_42 (dk_at dksX3_breaksIn_0 20 rfl rfl)
theorem dX3_breaksIn_21 : decode cX3_breaksIn 21 = .ok (.getfield 389, 3) := dk_180 1 133 (dk_at dksX3_breaksIn_0 21 rfl rfl)
theorem dX3_breaksIn_24 : decode cX3_breaksIn 24 = .ok (.ifCond .eq 5, 3) := dk_153 0 5 (dk_at dksX3_breaksIn_1 0 rfl rfl)
theorem dX3_breaksIn_27 : decode cX3_breaksIn 27 = .ok (.iload_n 1, 1) := dk_27 (dk_at dksX3_breaksIn_1 3 rfl rfl)
theorem dX3_breaksIn_28 : decode cX3_breaksIn 28 = .ok (.ireturn, 1) := dk_172 (dk_at dksX3_breaksIn_1 4 rfl rfl)
theorem dX3_breaksIn_29 : decode cX3_breaksIn 29 = .ok (.iinc 1 1, 3) := dk_132 1 1 (dk_at dksX3_breaksIn_1 5 rfl rfl)
theorem dX3_breaksIn_32 : decode cX3_breaksIn 32 = .ok (.goto (-30), 3) := dk_167 255 226 (dk_at dksX3_breaksIn_1 8 rfl rfl)
theorem dX3_breaksIn_35 : decode cX3_breaksIn 35 = .ok (.bipush 100, 2) := dk_16 100 (dk_at dksX3_breaksIn_1 11 rfl rfl)
theorem dX3_breaksIn_37 : decode cX3_breaksIn 37 = .ok (.ireturn, 1) := dk_172 (dk_at dksX3_breaksIn_1 13 rfl rfl)
abbrev cX3_tides : ByteArray := prog_13_method_78_code
def yX3_tides : MethodName := ⟨RX3, "tides", "(I)I"⟩
def dkwX3_tides_2 : List UInt8 := [42, 180, 0, 39, 182, 1, 107, 133, 182, 1, 103, 28, 172]
abbrev dktX3_tides_2 : List UInt8 := dkwX3_tides_2 ++ []
def dkwX3_tides_1 : List UInt8 := [61, 42, 3, 181, 0, 119, 42, 42, 42, 180, 0, 39, 182, 1, 115, 184, 0, 251, 133, 182, 1, 103, 42, 42]
abbrev dktX3_tides_1 : List UInt8 := dkwX3_tides_1 ++ dktX3_tides_2
def dkwX3_tides_0 : List UInt8 := [42, 3, 181, 0, 112, 27, 133, 9, 20, 1, 142, 184, 0, 122, 154, 0, 5, 2, 172, 42, 27, 182, 1, 144]
abbrev dktX3_tides_0 : List UInt8 := dkwX3_tides_0 ++ dktX3_tides_1
theorem dksX3_tides_0 : cX3_tides.data.toList.drop 0 = dktX3_tides_0 := by decide +kernel
theorem dksX3_tides_1 : cX3_tides.data.toList.drop 24 = dktX3_tides_1 := dk_seg dksX3_tides_0 24 rfl rfl
theorem dksX3_tides_2 : cX3_tides.data.toList.drop 48 = dktX3_tides_2 := dk_seg dksX3_tides_1 24 rfl rfl
theorem dX3_tides_0 : decode cX3_tides 0 = .ok (.aload_n 0, 1) := dk_42 (dk_at dksX3_tides_0 0 rfl rfl)
theorem dX3_tides_1 : decode cX3_tides 1 = .ok (.iconst 0, 1) := dk_3 (dk_at dksX3_tides_0 1 rfl rfl)
theorem dX3_tides_2 : decode cX3_tides 2 = .ok (.putfield 112, 3) := dk_181 0 112 (dk_at dksX3_tides_0 2 rfl rfl)
theorem dX3_tides_5 : decode cX3_tides 5 = .ok (.iload_n 1, 1) := dk_27 (dk_at dksX3_tides_0 5 rfl rfl)
theorem dX3_tides_6 : decode cX3_tides 6 = .ok (.i2l, 1) := dk_133 (dk_at dksX3_tides_0 6 rfl rfl)
theorem dX3_tides_7 : decode cX3_tides 7 = .ok (.lconst 0, 1) := dk_9 (dk_at dksX3_tides_0 7 rfl rfl)
theorem dX3_tides_8 : decode cX3_tides 8 = .ok (.ldc2_w 398, 3) := dk_20 1 142 (dk_at dksX3_tides_0 8 rfl rfl)
theorem dX3_tides_11 : decode cX3_tides 11 = .ok (.invokestatic 122, 3) := dk_184 0 122 (dk_at dksX3_tides_0 11 rfl rfl)
theorem dX3_tides_14 : decode cX3_tides 14 = .ok (.ifCond .ne 5, 3) := dk_154 0 5 (dk_at dksX3_tides_0 14 rfl rfl)
theorem dX3_tides_17 : decode cX3_tides 17 = .ok (.iconst (-1), 1) := dk_2 (dk_at dksX3_tides_0 17 rfl rfl)
theorem dX3_tides_18 : decode cX3_tides 18 = .ok (.ireturn, 1) := dk_172 (dk_at dksX3_tides_0 18 rfl rfl)
theorem dX3_tides_19 : decode cX3_tides 19 = .ok (.aload_n 0, 1) := dk_42 (dk_at dksX3_tides_0 19 rfl rfl)
theorem dX3_tides_20 : decode cX3_tides 20 = .ok (.iload_n 1, 1) := dk_27 (dk_at dksX3_tides_0 20 rfl rfl)
theorem dX3_tides_21 : decode cX3_tides 21 = .ok (.invokevirtual 400, 3) := dk_182 1 144 (dk_at dksX3_tides_0 21 rfl rfl)
theorem dX3_tides_24 : decode cX3_tides 24 = .ok (.istore_n 2, 1) := dk_61 (dk_at dksX3_tides_1 0 rfl rfl)
theorem dX3_tides_25 : decode cX3_tides 25 = .ok (.aload_n 0, 1) := dk_42 (dk_at dksX3_tides_1 1 rfl rfl)
theorem dX3_tides_26 : decode cX3_tides 26 = .ok (.iconst 0, 1) := dk_3 (dk_at dksX3_tides_1 2 rfl rfl)
theorem dX3_tides_27 : decode cX3_tides 27 = .ok (.putfield 119, 3) := dk_181 0 119 (dk_at dksX3_tides_1 3 rfl rfl)
theorem dX3_tides_30 : decode cX3_tides 30 = .ok (.aload_n 0, 1) := dk_42 (dk_at dksX3_tides_1 6 rfl rfl)
theorem dX3_tides_31 : decode cX3_tides 31 = .ok (.aload_n 0, 1) := dk_42 (dk_at dksX3_tides_1 7 rfl rfl)
theorem dX3_tides_32 : decode cX3_tides 32 = .ok (.aload_n 0, 1) := dk_42 (dk_at dksX3_tides_1 8 rfl rfl)
theorem dX3_tides_33 : decode cX3_tides 33 = .ok (.getfield 39, 3) := dk_180 0 39 (dk_at dksX3_tides_1 9 rfl rfl)
theorem dX3_tides_36 : decode cX3_tides 36 = .ok (.invokevirtual 371, 3) := dk_182 1 115 (dk_at dksX3_tides_1 12 rfl rfl)
theorem dX3_tides_39 : decode cX3_tides 39 = .ok (.invokestatic 251, 3) := dk_184 0 251 (dk_at dksX3_tides_1 15 rfl rfl)
theorem dX3_tides_42 : decode cX3_tides 42 = .ok (.i2l, 1) := dk_133 (dk_at dksX3_tides_1 18 rfl rfl)
theorem dX3_tides_43 : decode cX3_tides 43 = .ok (.invokevirtual 359, 3) := dk_182 1 103 (dk_at dksX3_tides_1 19 rfl rfl)
theorem dX3_tides_46 : decode cX3_tides 46 = .ok (.aload_n 0, 1) := dk_42 (dk_at dksX3_tides_1 22 rfl rfl)
theorem dX3_tides_47 : decode cX3_tides 47 = .ok (.aload_n 0, 1) := dk_42 (dk_at dksX3_tides_1 23 rfl rfl)
theorem dX3_tides_48 : decode cX3_tides 48 = .ok (.aload_n 0, 1) := dk_42 (dk_at dksX3_tides_2 0 rfl rfl)
theorem dX3_tides_49 : decode cX3_tides 49 = .ok (.getfield 39, 3) := dk_180 0 39 (dk_at dksX3_tides_2 1 rfl rfl)
theorem dX3_tides_52 : decode cX3_tides 52 = .ok (.invokevirtual 363, 3) := dk_182 1 107 (dk_at dksX3_tides_2 4 rfl rfl)
theorem dX3_tides_55 : decode cX3_tides 55 = .ok (.i2l, 1) := dk_133 (dk_at dksX3_tides_2 7 rfl rfl)
theorem dX3_tides_56 : decode cX3_tides 56 = .ok (.invokevirtual 359, 3) := dk_182 1 103 (dk_at dksX3_tides_2 8 rfl rfl)
theorem dX3_tides_59 : decode cX3_tides 59 = .ok (.iload_n 2, 1) := dk_28 (dk_at dksX3_tides_2 11 rfl rfl)
theorem dX3_tides_60 : decode cX3_tides 60 = .ok (.ireturn, 1) := dk_172 (dk_at dksX3_tides_2 12 rfl rfl)
abbrev cX3_breakMany : ByteArray := prog_13_method_77_code
def yX3_breakMany : MethodName := ⟨RX3, "breakMany", "(I)I"⟩
def dkwX3_breakMany_1 : List UInt8 := [153, 0, 7, 4, 167, 0, 4, 3, 184, 0, 151, 96, 61, 132, 3, 1, 167, 255, 226, 28, 172]
abbrev dktX3_breakMany_1 : List UInt8 := dkwX3_breakMany_1 ++ []
def dkwX3_breakMany_0 : List UInt8 := [3, 61, 42, 182, 1, 136, 3, 62, 29, 27, 162, 0, 31, 28, 42, 42, 180, 0, 39, 182, 1, 110]
abbrev dktX3_breakMany_0 : List UInt8 := dkwX3_breakMany_0 ++ dktX3_breakMany_1
theorem dksX3_breakMany_0 : cX3_breakMany.data.toList.drop 0 = dktX3_breakMany_0 := by decide +kernel
theorem dksX3_breakMany_1 : cX3_breakMany.data.toList.drop 22 = dktX3_breakMany_1 := dk_seg dksX3_breakMany_0 22 rfl rfl
theorem dX3_breakMany_0 : decode cX3_breakMany 0 = .ok (.iconst 0, 1) := dk_3 (dk_at dksX3_breakMany_0 0 rfl rfl)
theorem dX3_breakMany_1 : decode cX3_breakMany 1 = .ok (.istore_n 2, 1) := dk_61 (dk_at dksX3_breakMany_0 1 rfl rfl)
theorem dX3_breakMany_2 : decode cX3_breakMany 2 = .ok (.aload_n 0, 1) := dk_42 (dk_at dksX3_breakMany_0 2 rfl rfl)
theorem dX3_breakMany_3 : decode cX3_breakMany 3 = .ok (.invokevirtual 392, 3) := dk_182 1 136 (dk_at dksX3_breakMany_0 3 rfl rfl)
theorem dX3_breakMany_6 : decode cX3_breakMany 6 = .ok (.iconst 0, 1) := dk_3 (dk_at dksX3_breakMany_0 6 rfl rfl)
theorem dX3_breakMany_7 : decode cX3_breakMany 7 = .ok (.istore_n 3, 1) := dk_62 (dk_at dksX3_breakMany_0 7 rfl rfl)
theorem dX3_breakMany_8 : decode cX3_breakMany 8 = .ok (.iload_n 3, 1) := dk_29 (dk_at dksX3_breakMany_0 8 rfl rfl)
theorem dX3_breakMany_9 : decode cX3_breakMany 9 = .ok (.iload_n 1, 1) := dk_27 (dk_at dksX3_breakMany_0 9 rfl rfl)
theorem dX3_breakMany_10 : decode cX3_breakMany 10 = .ok (.if_icmp .ge 31, 3) := dk_162 0 31 (dk_at dksX3_breakMany_0 10 rfl rfl)
theorem dX3_breakMany_13 : decode cX3_breakMany 13 = .ok (.iload_n 2, 1) := dk_28 (dk_at dksX3_breakMany_0 13 rfl rfl)
theorem dX3_breakMany_14 : decode cX3_breakMany 14 = .ok (.aload_n 0, 1) := dk_42 (dk_at dksX3_breakMany_0 14 rfl rfl)
theorem dX3_breakMany_15 : decode cX3_breakMany 15 = .ok (.aload_n 0, 1) := dk_42 (dk_at dksX3_breakMany_0 15 rfl rfl)
theorem dX3_breakMany_16 : decode cX3_breakMany 16 = .ok (.getfield 39, 3) := dk_180 0 39 (dk_at dksX3_breakMany_0 16 rfl rfl)
theorem dX3_breakMany_19 : decode cX3_breakMany 19 = .ok (.invokevirtual 366, 3) := dk_182 1 110 (dk_at dksX3_breakMany_0 19 rfl rfl)
theorem dX3_breakMany_22 : decode cX3_breakMany 22 = .ok (.ifCond .eq 7, 3) := dk_153 0 7 (dk_at dksX3_breakMany_1 0 rfl rfl)
theorem dX3_breakMany_25 : decode cX3_breakMany 25 = .ok (.iconst 1, 1) := dk_4 (dk_at dksX3_breakMany_1 3 rfl rfl)
theorem dX3_breakMany_26 : decode cX3_breakMany 26 = .ok (.goto 4, 3) := dk_167 0 4 (dk_at dksX3_breakMany_1 4 rfl rfl)
theorem dX3_breakMany_29 : decode cX3_breakMany 29 = .ok (.iconst 0, 1) := dk_3 (dk_at dksX3_breakMany_1 7 rfl rfl)
theorem dX3_breakMany_30 : decode cX3_breakMany 30 = .ok (.invokestatic 151, 3) := dk_184 0 151 (dk_at dksX3_breakMany_1 8 rfl rfl)
theorem dX3_breakMany_33 : decode cX3_breakMany 33 = .ok (.iadd, 1) := dk_96 (dk_at dksX3_breakMany_1 11 rfl rfl)
theorem dX3_breakMany_34 : decode cX3_breakMany 34 = .ok (.istore_n 2, 1) := dk_61 (dk_at dksX3_breakMany_1 12 rfl rfl)
theorem dX3_breakMany_35 : decode cX3_breakMany 35 = .ok (.iinc 3 1, 3) := dk_132 3 1 (dk_at dksX3_breakMany_1 13 rfl rfl)
theorem dX3_breakMany_38 : decode cX3_breakMany 38 = .ok (.goto (-30), 3) := dk_167 255 226 (dk_at dksX3_breakMany_1 16 rfl rfl)
theorem dX3_breakMany_41 : decode cX3_breakMany 41 = .ok (.iload_n 2, 1) := dk_28 (dk_at dksX3_breakMany_1 19 rfl rfl)
theorem dX3_breakMany_42 : decode cX3_breakMany 42 = .ok (.ireturn, 1) := dk_172 (dk_at dksX3_breakMany_1 20 rfl rfl)
abbrev cX3_spells : ByteArray := prog_13_method_80_code
def yX3_spells : MethodName := ⟨RX3, "spells", "()I"⟩
def dkwX3_spells_2 : List UInt8 := [172]
abbrev dktX3_spells_2 : List UInt8 := dkwX3_spells_2 ++ []
def dkwX3_spells_1 : List UInt8 := [182, 1, 147, 153, 0, 5, 27, 172, 42, 42, 180, 0, 39, 182, 1, 56, 132, 1, 1, 167, 255, 226, 16, 254]
abbrev dktX3_spells_1 : List UInt8 := dkwX3_spells_1 ++ dktX3_spells_2
def dkwX3_spells_0 : List UInt8 := [42, 3, 181, 0, 112, 42, 182, 1, 136, 3, 60, 27, 16, 30, 163, 0, 30, 42, 42, 180, 0, 39]
abbrev dktX3_spells_0 : List UInt8 := dkwX3_spells_0 ++ dktX3_spells_1
theorem dksX3_spells_0 : cX3_spells.data.toList.drop 0 = dktX3_spells_0 := by decide +kernel
theorem dksX3_spells_1 : cX3_spells.data.toList.drop 22 = dktX3_spells_1 := dk_seg dksX3_spells_0 22 rfl rfl
theorem dksX3_spells_2 : cX3_spells.data.toList.drop 46 = dktX3_spells_2 := dk_seg dksX3_spells_1 24 rfl rfl
theorem dX3_spells_0 : decode cX3_spells 0 = .ok (.aload_n 0, 1) := dk_42 (dk_at dksX3_spells_0 0 rfl rfl)
theorem dX3_spells_1 : decode cX3_spells 1 = .ok (.iconst 0, 1) := dk_3 (dk_at dksX3_spells_0 1 rfl rfl)
theorem dX3_spells_2 : decode cX3_spells 2 = .ok (.putfield 112, 3) := dk_181 0 112 (dk_at dksX3_spells_0 2 rfl rfl)
theorem dX3_spells_5 : decode cX3_spells 5 = .ok (.aload_n 0, 1) := dk_42 (dk_at dksX3_spells_0 5 rfl rfl)
theorem dX3_spells_6 : decode cX3_spells 6 = .ok (.invokevirtual 392, 3) := dk_182 1 136 (dk_at dksX3_spells_0 6 rfl rfl)
theorem dX3_spells_9 : decode cX3_spells 9 = .ok (.iconst 0, 1) := dk_3 (dk_at dksX3_spells_0 9 rfl rfl)
theorem dX3_spells_10 : decode cX3_spells 10 = .ok (.istore_n 1, 1) := dk_60 (dk_at dksX3_spells_0 10 rfl rfl)
theorem dX3_spells_11 : decode cX3_spells 11 = .ok (.iload_n 1, 1) := dk_27 (dk_at dksX3_spells_0 11 rfl rfl)
theorem dX3_spells_12 : decode cX3_spells 12 = .ok (.bipush 30, 2) := dk_16 30 (dk_at dksX3_spells_0 12 rfl rfl)
theorem dX3_spells_14 : decode cX3_spells 14 = .ok (.if_icmp .gt 30, 3) := dk_163 0 30 (dk_at dksX3_spells_0 14 rfl rfl)
theorem dX3_spells_17 : decode cX3_spells 17 = .ok (.aload_n 0, 1) := dk_42 (dk_at dksX3_spells_0 17 rfl rfl)
theorem dX3_spells_18 : decode cX3_spells 18 = .ok (.aload_n 0, 1) := dk_42 (dk_at dksX3_spells_0 18 rfl rfl)
theorem dX3_spells_19 : decode cX3_spells 19 = .ok (.getfield 39, 3) := dk_180 0 39 (dk_at dksX3_spells_0 19 rfl rfl)
theorem dX3_spells_22 : decode cX3_spells 22 = .ok (.invokevirtual 403, 3) := dk_182 1 147 (dk_at dksX3_spells_1 0 rfl rfl)
theorem dX3_spells_25 : decode cX3_spells 25 = .ok (.ifCond .eq 5, 3) := dk_153 0 5 (dk_at dksX3_spells_1 3 rfl rfl)
theorem dX3_spells_28 : decode cX3_spells 28 = .ok (.iload_n 1, 1) := dk_27 (dk_at dksX3_spells_1 6 rfl rfl)
theorem dX3_spells_29 : decode cX3_spells 29 = .ok (.ireturn, 1) := dk_172 (dk_at dksX3_spells_1 7 rfl rfl)
theorem dX3_spells_30 : decode cX3_spells 30 = .ok (.aload_n 0, 1) := dk_42 (dk_at dksX3_spells_1 8 rfl rfl)
theorem dX3_spells_31 : decode cX3_spells 31 = .ok (.aload_n 0, 1) := dk_42 (dk_at dksX3_spells_1 9 rfl rfl)
theorem dX3_spells_32 : decode cX3_spells 32 = .ok (.getfield 39, 3) := dk_180 0 39 (dk_at dksX3_spells_1 10 rfl rfl)
theorem dX3_spells_35 : decode cX3_spells 35 = .ok (.invokevirtual 312, 3) := dk_182 1 56 (dk_at dksX3_spells_1 13 rfl rfl)
theorem dX3_spells_38 : decode cX3_spells 38 = .ok (.iinc 1 1, 3) := dk_132 1 1 (dk_at dksX3_spells_1 16 rfl rfl)
theorem dX3_spells_41 : decode cX3_spells 41 = .ok (.goto (-30), 3) := dk_167 255 226 (dk_at dksX3_spells_1 19 rfl rfl)
theorem dX3_spells_44 : decode cX3_spells 44 = .ok (.bipush (-2), 2) := dk_16 254 (dk_at dksX3_spells_1 22 rfl rfl)
theorem dX3_spells_46 : decode cX3_spells 46 = .ok (.ireturn, 1) := dk_172 (dk_at dksX3_spells_2 0 rfl rfl)
abbrev cX3_isHigh : ByteArray := prog_13_method_79_code
def yX3_isHigh : MethodName := ⟨RX3, "isHigh", "([I)Z"⟩
def dkwX3_isHigh_0 : List UInt8 := [42, 43, 42, 43, 43, 16, 42, 46, 182, 1, 60, 182, 1, 66, 154, 0, 7, 4, 167, 0, 4, 3, 172]
abbrev dktX3_isHigh_0 : List UInt8 := dkwX3_isHigh_0 ++ []
theorem dksX3_isHigh_0 : cX3_isHigh.data.toList.drop 0 = dktX3_isHigh_0 := by decide +kernel
theorem dX3_isHigh_0 : decode cX3_isHigh 0 = .ok (.aload_n 0, 1) := dk_42 (dk_at dksX3_isHigh_0 0 rfl rfl)
theorem dX3_isHigh_1 : decode cX3_isHigh 1 = .ok (.aload_n 1, 1) := dk_43 (dk_at dksX3_isHigh_0 1 rfl rfl)
theorem dX3_isHigh_2 : decode cX3_isHigh 2 = .ok (.aload_n 0, 1) := dk_42 (dk_at dksX3_isHigh_0 2 rfl rfl)
theorem dX3_isHigh_3 : decode cX3_isHigh 3 = .ok (.aload_n 1, 1) := dk_43 (dk_at dksX3_isHigh_0 3 rfl rfl)
theorem dX3_isHigh_4 : decode cX3_isHigh 4 = .ok (.aload_n 1, 1) := dk_43 (dk_at dksX3_isHigh_0 4 rfl rfl)
theorem dX3_isHigh_5 : decode cX3_isHigh 5 = .ok (.bipush 42, 2) := dk_16 42 (dk_at dksX3_isHigh_0 5 rfl rfl)
theorem dX3_isHigh_7 : decode cX3_isHigh 7 = .ok (.iaload, 1) := dk_46 (dk_at dksX3_isHigh_0 7 rfl rfl)
theorem dX3_isHigh_8 : decode cX3_isHigh 8 = .ok (.invokevirtual 316, 3) := dk_182 1 60 (dk_at dksX3_isHigh_0 8 rfl rfl)
theorem dX3_isHigh_11 : decode cX3_isHigh 11 = .ok (.invokevirtual 322, 3) := dk_182 1 66 (dk_at dksX3_isHigh_0 11 rfl rfl)
theorem dX3_isHigh_14 : decode cX3_isHigh 14 = .ok (.ifCond .ne 7, 3) := dk_154 0 7 (dk_at dksX3_isHigh_0 14 rfl rfl)
theorem dX3_isHigh_17 : decode cX3_isHigh 17 = .ok (.iconst 1, 1) := dk_4 (dk_at dksX3_isHigh_0 17 rfl rfl)
theorem dX3_isHigh_18 : decode cX3_isHigh 18 = .ok (.goto 4, 3) := dk_167 0 4 (dk_at dksX3_isHigh_0 18 rfl rfl)
theorem dX3_isHigh_21 : decode cX3_isHigh 21 = .ok (.iconst 0, 1) := dk_3 (dk_at dksX3_isHigh_0 21 rfl rfl)
theorem dX3_isHigh_22 : decode cX3_isHigh 22 = .ok (.ireturn, 1) := dk_172 (dk_at dksX3_isHigh_0 22 rfl rfl)
abbrev cX3_floods : ByteArray := prog_13_method_83_code
def yX3_floods : MethodName := ⟨RX3, "floods", "(II)I"⟩
def dkwX3_floods_2 : List UInt8 := [180, 0, 39, 182, 1, 107, 133, 182, 1, 103, 42, 42, 180, 0, 39, 182, 1, 115, 172]
abbrev dktX3_floods_2 : List UInt8 := dkwX3_floods_2 ++ []
def dkwX3_floods_1 : List UInt8 := [181, 0, 119, 42, 42, 42, 180, 0, 39, 182, 1, 115, 184, 0, 251, 133, 182, 1, 103, 42, 42, 42]
abbrev dktX3_floods_1 : List UInt8 := dkwX3_floods_1 ++ dktX3_floods_2
def dkwX3_floods_0 : List UInt8 := [42, 3, 181, 0, 112, 42, 27, 28, 182, 1, 153, 154, 0, 5, 2, 172, 42, 27, 28, 182, 1, 156, 42, 3]
abbrev dktX3_floods_0 : List UInt8 := dkwX3_floods_0 ++ dktX3_floods_1
theorem dksX3_floods_0 : cX3_floods.data.toList.drop 0 = dktX3_floods_0 := by decide +kernel
theorem dksX3_floods_1 : cX3_floods.data.toList.drop 24 = dktX3_floods_1 := dk_seg dksX3_floods_0 24 rfl rfl
theorem dksX3_floods_2 : cX3_floods.data.toList.drop 46 = dktX3_floods_2 := dk_seg dksX3_floods_1 22 rfl rfl
theorem dX3_floods_0 : decode cX3_floods 0 = .ok (.aload_n 0, 1) := dk_42 (dk_at dksX3_floods_0 0 rfl rfl)
theorem dX3_floods_1 : decode cX3_floods 1 = .ok (.iconst 0, 1) := dk_3 (dk_at dksX3_floods_0 1 rfl rfl)
theorem dX3_floods_2 : decode cX3_floods 2 = .ok (.putfield 112, 3) := dk_181 0 112 (dk_at dksX3_floods_0 2 rfl rfl)
theorem dX3_floods_5 : decode cX3_floods 5 = .ok (.aload_n 0, 1) := dk_42 (dk_at dksX3_floods_0 5 rfl rfl)
theorem dX3_floods_6 : decode cX3_floods 6 = .ok (.iload_n 1, 1) := dk_27 (dk_at dksX3_floods_0 6 rfl rfl)
theorem dX3_floods_7 : decode cX3_floods 7 = .ok (.iload_n 2, 1) := dk_28 (dk_at dksX3_floods_0 7 rfl rfl)
theorem dX3_floods_8 : decode cX3_floods 8 = .ok (.invokevirtual 409, 3) := dk_182 1 153 (dk_at dksX3_floods_0 8 rfl rfl)
theorem dX3_floods_11 : decode cX3_floods 11 = .ok (.ifCond .ne 5, 3) := dk_154 0 5 (dk_at dksX3_floods_0 11 rfl rfl)
theorem dX3_floods_14 : decode cX3_floods 14 = .ok (.iconst (-1), 1) := dk_2 (dk_at dksX3_floods_0 14 rfl rfl)
theorem dX3_floods_15 : decode cX3_floods 15 = .ok (.ireturn, 1) := dk_172 (dk_at dksX3_floods_0 15 rfl rfl)
theorem dX3_floods_16 : decode cX3_floods 16 = .ok (.aload_n 0, 1) := dk_42 (dk_at dksX3_floods_0 16 rfl rfl)
theorem dX3_floods_17 : decode cX3_floods 17 = .ok (.iload_n 1, 1) := dk_27 (dk_at dksX3_floods_0 17 rfl rfl)
theorem dX3_floods_18 : decode cX3_floods 18 = .ok (.iload_n 2, 1) := dk_28 (dk_at dksX3_floods_0 18 rfl rfl)
theorem dX3_floods_19 : decode cX3_floods 19 = .ok (.invokevirtual 412, 3) := dk_182 1 156 (dk_at dksX3_floods_0 19 rfl rfl)
theorem dX3_floods_22 : decode cX3_floods 22 = .ok (.aload_n 0, 1) := dk_42 (dk_at dksX3_floods_0 22 rfl rfl)
theorem dX3_floods_23 : decode cX3_floods 23 = .ok (.iconst 0, 1) := dk_3 (dk_at dksX3_floods_0 23 rfl rfl)
theorem dX3_floods_24 : decode cX3_floods 24 = .ok (.putfield 119, 3) := dk_181 0 119 (dk_at dksX3_floods_1 0 rfl rfl)
theorem dX3_floods_27 : decode cX3_floods 27 = .ok (.aload_n 0, 1) := dk_42 (dk_at dksX3_floods_1 3 rfl rfl)
theorem dX3_floods_28 : decode cX3_floods 28 = .ok (.aload_n 0, 1) := dk_42 (dk_at dksX3_floods_1 4 rfl rfl)
theorem dX3_floods_29 : decode cX3_floods 29 = .ok (.aload_n 0, 1) := dk_42 (dk_at dksX3_floods_1 5 rfl rfl)
theorem dX3_floods_30 : decode cX3_floods 30 = .ok (.getfield 39, 3) := dk_180 0 39 (dk_at dksX3_floods_1 6 rfl rfl)
theorem dX3_floods_33 : decode cX3_floods 33 = .ok (.invokevirtual 371, 3) := dk_182 1 115 (dk_at dksX3_floods_1 9 rfl rfl)
theorem dX3_floods_36 : decode cX3_floods 36 = .ok (.invokestatic 251, 3) := dk_184 0 251 (dk_at dksX3_floods_1 12 rfl rfl)
theorem dX3_floods_39 : decode cX3_floods 39 = .ok (.i2l, 1) := dk_133 (dk_at dksX3_floods_1 15 rfl rfl)
theorem dX3_floods_40 : decode cX3_floods 40 = .ok (.invokevirtual 359, 3) := dk_182 1 103 (dk_at dksX3_floods_1 16 rfl rfl)
theorem dX3_floods_43 : decode cX3_floods 43 = .ok (.aload_n 0, 1) := dk_42 (dk_at dksX3_floods_1 19 rfl rfl)
theorem dX3_floods_44 : decode cX3_floods 44 = .ok (.aload_n 0, 1) := dk_42 (dk_at dksX3_floods_1 20 rfl rfl)
theorem dX3_floods_45 : decode cX3_floods 45 = .ok (.aload_n 0, 1) := dk_42 (dk_at dksX3_floods_1 21 rfl rfl)
theorem dX3_floods_46 : decode cX3_floods 46 = .ok (.getfield 39, 3) := dk_180 0 39 (dk_at dksX3_floods_2 0 rfl rfl)
theorem dX3_floods_49 : decode cX3_floods 49 = .ok (.invokevirtual 363, 3) := dk_182 1 107 (dk_at dksX3_floods_2 3 rfl rfl)
theorem dX3_floods_52 : decode cX3_floods 52 = .ok (.i2l, 1) := dk_133 (dk_at dksX3_floods_2 6 rfl rfl)
theorem dX3_floods_53 : decode cX3_floods 53 = .ok (.invokevirtual 359, 3) := dk_182 1 103 (dk_at dksX3_floods_2 7 rfl rfl)
theorem dX3_floods_56 : decode cX3_floods 56 = .ok (.aload_n 0, 1) := dk_42 (dk_at dksX3_floods_2 10 rfl rfl)
theorem dX3_floods_57 : decode cX3_floods 57 = .ok (.aload_n 0, 1) := dk_42 (dk_at dksX3_floods_2 11 rfl rfl)
theorem dX3_floods_58 : decode cX3_floods 58 = .ok (.getfield 39, 3) := dk_180 0 39 (dk_at dksX3_floods_2 12 rfl rfl)
theorem dX3_floods_61 : decode cX3_floods 61 = .ok (.invokevirtual 371, 3) := dk_182 1 115 (dk_at dksX3_floods_2 15 rfl rfl)
theorem dX3_floods_64 : decode cX3_floods 64 = .ok (.ireturn, 1) := dk_172 (dk_at dksX3_floods_2 18 rfl rfl)
abbrev cX3_canFlood : ByteArray := prog_13_method_82_code
def yX3_canFlood : MethodName := ⟨RX3, "canFlood", "(II)Z"⟩
def dkwX3_canFlood_1 : List UInt8 := [3, 172]
abbrev dktX3_canFlood_1 : List UInt8 := dkwX3_canFlood_1 ++ []
def dkwX3_canFlood_0 : List UInt8 := [42, 27, 182, 1, 24, 153, 0, 19, 28, 133, 10, 20, 1, 151, 184, 0, 122, 153, 0, 7, 4, 167, 0, 4]
abbrev dktX3_canFlood_0 : List UInt8 := dkwX3_canFlood_0 ++ dktX3_canFlood_1
theorem dksX3_canFlood_0 : cX3_canFlood.data.toList.drop 0 = dktX3_canFlood_0 := by decide +kernel
theorem dksX3_canFlood_1 : cX3_canFlood.data.toList.drop 24 = dktX3_canFlood_1 := dk_seg dksX3_canFlood_0 24 rfl rfl
theorem dX3_canFlood_0 : decode cX3_canFlood 0 = .ok (.aload_n 0, 1) := dk_42 (dk_at dksX3_canFlood_0 0 rfl rfl)
theorem dX3_canFlood_1 : decode cX3_canFlood 1 = .ok (.iload_n 1, 1) := dk_27 (dk_at dksX3_canFlood_0 1 rfl rfl)
theorem dX3_canFlood_2 : decode cX3_canFlood 2 = .ok (.invokevirtual 280, 3) := dk_182 1 24 (dk_at dksX3_canFlood_0 2 rfl rfl)
theorem dX3_canFlood_5 : decode cX3_canFlood 5 = .ok (.ifCond .eq 19, 3) := dk_153 0 19 (dk_at dksX3_canFlood_0 5 rfl rfl)
theorem dX3_canFlood_8 : decode cX3_canFlood 8 = .ok (.iload_n 2, 1) := dk_28 (dk_at dksX3_canFlood_0 8 rfl rfl)
theorem dX3_canFlood_9 : decode cX3_canFlood 9 = .ok (.i2l, 1) := dk_133 (dk_at dksX3_canFlood_0 9 rfl rfl)
theorem dX3_canFlood_10 : decode cX3_canFlood 10 = .ok (.lconst 1, 1) := dk_10 (dk_at dksX3_canFlood_0 10 rfl rfl)
theorem dX3_canFlood_11 : decode cX3_canFlood 11 = .ok (.ldc2_w 407, 3) := dk_20 1 151 (dk_at dksX3_canFlood_0 11 rfl rfl)
theorem dX3_canFlood_14 : decode cX3_canFlood 14 = .ok (.invokestatic 122, 3) := dk_184 0 122 (dk_at dksX3_canFlood_0 14 rfl rfl)
theorem dX3_canFlood_17 : decode cX3_canFlood 17 = .ok (.ifCond .eq 7, 3) := dk_153 0 7 (dk_at dksX3_canFlood_0 17 rfl rfl)
theorem dX3_canFlood_20 : decode cX3_canFlood 20 = .ok (.iconst 1, 1) := dk_4 (dk_at dksX3_canFlood_0 20 rfl rfl)
theorem dX3_canFlood_21 : decode cX3_canFlood 21 = .ok (.goto 4, 3) := dk_167 0 4 (dk_at dksX3_canFlood_0 21 rfl rfl)
theorem dX3_canFlood_24 : decode cX3_canFlood 24 = .ok (.iconst 0, 1) := dk_3 (dk_at dksX3_canFlood_1 0 rfl rfl)
theorem dX3_canFlood_25 : decode cX3_canFlood 25 = .ok (.ireturn, 1) := dk_172 (dk_at dksX3_canFlood_1 1 rfl rfl)
abbrev cX3_floodsFrom : ByteArray := prog_13_method_81_code
def yX3_floodsFrom : MethodName := ⟨RX3, "floodsFrom", "(II)V"⟩
def dkwX3_floodsFrom_1 : List UInt8 := [167, 0, 4, 3, 79, 132, 3, 1, 167, 255, 226, 42, 42, 180, 0, 39, 182, 1, 69, 177]
abbrev dktX3_floodsFrom_1 : List UInt8 := dkwX3_floodsFrom_1 ++ []
def dkwX3_floodsFrom_0 : List UInt8 := [3, 62, 29, 42, 180, 0, 13, 162, 0, 28, 42, 180, 0, 39, 16, 13, 29, 96, 29, 27, 160, 0, 7, 28]
abbrev dktX3_floodsFrom_0 : List UInt8 := dkwX3_floodsFrom_0 ++ dktX3_floodsFrom_1
theorem dksX3_floodsFrom_0 : cX3_floodsFrom.data.toList.drop 0 = dktX3_floodsFrom_0 := by decide +kernel
theorem dksX3_floodsFrom_1 : cX3_floodsFrom.data.toList.drop 24 = dktX3_floodsFrom_1 := dk_seg dksX3_floodsFrom_0 24 rfl rfl
theorem dX3_floodsFrom_0 : decode cX3_floodsFrom 0 = .ok (.iconst 0, 1) := dk_3 (dk_at dksX3_floodsFrom_0 0 rfl rfl)
theorem dX3_floodsFrom_1 : decode cX3_floodsFrom 1 = .ok (.istore_n 3, 1) := dk_62 (dk_at dksX3_floodsFrom_0 1 rfl rfl)
theorem dX3_floodsFrom_2 : decode cX3_floodsFrom 2 = .ok (.iload_n 3, 1) := dk_29 (dk_at dksX3_floodsFrom_0 2 rfl rfl)
theorem dX3_floodsFrom_3 : decode cX3_floodsFrom 3 = .ok (.aload_n 0, 1) := dk_42 (dk_at dksX3_floodsFrom_0 3 rfl rfl)
theorem dX3_floodsFrom_4 : decode cX3_floodsFrom 4 = .ok (.getfield 13, 3) := dk_180 0 13 (dk_at dksX3_floodsFrom_0 4 rfl rfl)
theorem dX3_floodsFrom_7 : decode cX3_floodsFrom 7 = .ok (.if_icmp .ge 28, 3) := dk_162 0 28 (dk_at dksX3_floodsFrom_0 7 rfl rfl)
theorem dX3_floodsFrom_10 : decode cX3_floodsFrom 10 = .ok (.aload_n 0, 1) := dk_42 (dk_at dksX3_floodsFrom_0 10 rfl rfl)
theorem dX3_floodsFrom_11 : decode cX3_floodsFrom 11 = .ok (.getfield 39, 3) := dk_180 0 39 (dk_at dksX3_floodsFrom_0 11 rfl rfl)
theorem dX3_floodsFrom_14 : decode cX3_floodsFrom 14 = .ok (.bipush 13, 2) := dk_16 13 (dk_at dksX3_floodsFrom_0 14 rfl rfl)
theorem dX3_floodsFrom_16 : decode cX3_floodsFrom 16 = .ok (.iload_n 3, 1) := dk_29 (dk_at dksX3_floodsFrom_0 16 rfl rfl)
theorem dX3_floodsFrom_17 : decode cX3_floodsFrom 17 = .ok (.iadd, 1) := dk_96 (dk_at dksX3_floodsFrom_0 17 rfl rfl)
theorem dX3_floodsFrom_18 : decode cX3_floodsFrom 18 = .ok (.iload_n 3, 1) := dk_29 (dk_at dksX3_floodsFrom_0 18 rfl rfl)
theorem dX3_floodsFrom_19 : decode cX3_floodsFrom 19 = .ok (.iload_n 1, 1) := dk_27 (dk_at dksX3_floodsFrom_0 19 rfl rfl)
theorem dX3_floodsFrom_20 : decode cX3_floodsFrom 20 = .ok (.if_icmp .ne 7, 3) := dk_160 0 7 (dk_at dksX3_floodsFrom_0 20 rfl rfl)
theorem dX3_floodsFrom_23 : decode cX3_floodsFrom 23 = .ok (.iload_n 2, 1) := dk_28 (dk_at dksX3_floodsFrom_0 23 rfl rfl)
theorem dX3_floodsFrom_24 : decode cX3_floodsFrom 24 = .ok (.goto 4, 3) := dk_167 0 4 (dk_at dksX3_floodsFrom_1 0 rfl rfl)
theorem dX3_floodsFrom_27 : decode cX3_floodsFrom 27 = .ok (.iconst 0, 1) := dk_3 (dk_at dksX3_floodsFrom_1 3 rfl rfl)
theorem dX3_floodsFrom_28 : decode cX3_floodsFrom 28 = .ok (.iastore, 1) := dk_79 (dk_at dksX3_floodsFrom_1 4 rfl rfl)
theorem dX3_floodsFrom_29 : decode cX3_floodsFrom 29 = .ok (.iinc 3 1, 3) := dk_132 3 1 (dk_at dksX3_floodsFrom_1 5 rfl rfl)
theorem dX3_floodsFrom_32 : decode cX3_floodsFrom 32 = .ok (.goto (-30), 3) := dk_167 255 226 (dk_at dksX3_floodsFrom_1 8 rfl rfl)
theorem dX3_floodsFrom_35 : decode cX3_floodsFrom 35 = .ok (.aload_n 0, 1) := dk_42 (dk_at dksX3_floodsFrom_1 11 rfl rfl)
theorem dX3_floodsFrom_36 : decode cX3_floodsFrom 36 = .ok (.aload_n 0, 1) := dk_42 (dk_at dksX3_floodsFrom_1 12 rfl rfl)
theorem dX3_floodsFrom_37 : decode cX3_floodsFrom 37 = .ok (.getfield 39, 3) := dk_180 0 39 (dk_at dksX3_floodsFrom_1 13 rfl rfl)
theorem dX3_floodsFrom_40 : decode cX3_floodsFrom 40 = .ok (.invokevirtual 325, 3) := dk_182 1 69 (dk_at dksX3_floodsFrom_1 16 rfl rfl)
theorem dX3_floodsFrom_43 : decode cX3_floodsFrom 43 = .ok (.return_, 1) := dk_177 (dk_at dksX3_floodsFrom_1 19 rfl rfl)
abbrev cX3_raise : ByteArray := prog_13_method_84_code
def yX3_raise : MethodName := ⟨RX3, "raise", "(II)I"⟩
def dkwX3_raise_8 : List UInt8 := [156, 0, 6, 16, 254, 172, 42, 3, 181, 0, 119, 42, 29, 133, 182, 1, 103, 29, 184, 0, 251, 172]
abbrev dktX3_raise_8 : List UInt8 := dkwX3_raise_8 ++ []
def dkwX3_raise_7 : List UInt8 := [162, 0, 23, 42, 180, 0, 21, 21, 4, 42, 180, 0, 75, 21, 4, 46, 79, 132, 4, 1, 167, 255, 232, 29]
abbrev dktX3_raise_7 : List UInt8 := dkwX3_raise_7 ++ dktX3_raise_8
def dkwX3_raise_6 : List UInt8 := [160, 0, 8, 21, 4, 167, 0, 4, 29, 62, 132, 4, 1, 167, 255, 148, 3, 54, 4, 21, 4, 16, 12]
abbrev dktX3_raise_6 : List UInt8 := dkwX3_raise_6 ++ dktX3_raise_7
def dkwX3_raise_5 : List UInt8 := [79, 132, 5, 1, 167, 255, 213, 42, 27, 28, 182, 1, 156, 42, 42, 180, 0, 39, 182, 1, 115, 4, 27, 120]
abbrev dktX3_raise_5 : List UInt8 := dkwX3_raise_5 ++ dktX3_raise_6
def dkwX3_raise_4 : List UInt8 := [21, 5, 21, 4, 21, 5, 184, 1, 13, 153, 0, 8, 16, 9, 167, 0, 10, 42, 180, 0, 75, 21, 5, 46]
abbrev dktX3_raise_4 : List UInt8 := dkwX3_raise_4 ++ dktX3_raise_5
def dkwX3_raise_3 : List UInt8 := [184, 0, 251, 162, 0, 79, 3, 54, 5, 21, 5, 42, 180, 0, 13, 4, 100, 162, 0, 38, 42, 180, 0, 21]
abbrev dktX3_raise_3 : List UInt8 := dkwX3_raise_3 ++ dktX3_raise_4
def dkwX3_raise_2 : List UInt8 := [21, 4, 4, 42, 180, 0, 13, 4, 100, 120, 162, 0, 101, 29, 155, 0, 15, 21, 4, 184, 0, 251, 29]
abbrev dktX3_raise_2 : List UInt8 := dkwX3_raise_2 ++ dktX3_raise_3
def dkwX3_raise_1 : List UInt8 := [42, 180, 0, 75, 29, 42, 180, 0, 21, 29, 46, 79, 132, 3, 1, 167, 255, 235, 2, 62, 3, 54, 4]
abbrev dktX3_raise_1 : List UInt8 := dkwX3_raise_1 ++ dktX3_raise_2
def dkwX3_raise_0 : List UInt8 := [42, 3, 181, 0, 112, 42, 27, 28, 182, 1, 153, 154, 0, 5, 2, 172, 3, 62, 29, 16, 12, 162, 0, 21]
abbrev dktX3_raise_0 : List UInt8 := dkwX3_raise_0 ++ dktX3_raise_1
theorem dksX3_raise_0 : cX3_raise.data.toList.drop 0 = dktX3_raise_0 := by decide +kernel
theorem dksX3_raise_1 : cX3_raise.data.toList.drop 24 = dktX3_raise_1 := dk_seg dksX3_raise_0 24 rfl rfl
theorem dksX3_raise_2 : cX3_raise.data.toList.drop 47 = dktX3_raise_2 := dk_seg dksX3_raise_1 23 rfl rfl
theorem dksX3_raise_3 : cX3_raise.data.toList.drop 70 = dktX3_raise_3 := dk_seg dksX3_raise_2 23 rfl rfl
theorem dksX3_raise_4 : cX3_raise.data.toList.drop 94 = dktX3_raise_4 := dk_seg dksX3_raise_3 24 rfl rfl
theorem dksX3_raise_5 : cX3_raise.data.toList.drop 118 = dktX3_raise_5 := dk_seg dksX3_raise_4 24 rfl rfl
theorem dksX3_raise_6 : cX3_raise.data.toList.drop 142 = dktX3_raise_6 := dk_seg dksX3_raise_5 24 rfl rfl
theorem dksX3_raise_7 : cX3_raise.data.toList.drop 165 = dktX3_raise_7 := dk_seg dksX3_raise_6 23 rfl rfl
theorem dksX3_raise_8 : cX3_raise.data.toList.drop 189 = dktX3_raise_8 := dk_seg dksX3_raise_7 24 rfl rfl
theorem dX3_raise_0 : decode cX3_raise 0 = .ok (.aload_n 0, 1) := dk_42 (dk_at dksX3_raise_0 0 rfl rfl)
theorem dX3_raise_1 : decode cX3_raise 1 = .ok (.iconst 0, 1) := dk_3 (dk_at dksX3_raise_0 1 rfl rfl)
theorem dX3_raise_2 : decode cX3_raise 2 = .ok (.putfield 112, 3) := dk_181 0 112 (dk_at dksX3_raise_0 2 rfl rfl)
theorem dX3_raise_5 : decode cX3_raise 5 = .ok (.aload_n 0, 1) := dk_42 (dk_at dksX3_raise_0 5 rfl rfl)
theorem dX3_raise_6 : decode cX3_raise 6 = .ok (.iload_n 1, 1) := dk_27 (dk_at dksX3_raise_0 6 rfl rfl)
theorem dX3_raise_7 : decode cX3_raise 7 = .ok (.iload_n 2, 1) := dk_28 (dk_at dksX3_raise_0 7 rfl rfl)
theorem dX3_raise_8 : decode cX3_raise 8 = .ok (.invokevirtual 409, 3) := dk_182 1 153 (dk_at dksX3_raise_0 8 rfl rfl)
theorem dX3_raise_11 : decode cX3_raise 11 = .ok (.ifCond .ne 5, 3) := dk_154 0 5 (dk_at dksX3_raise_0 11 rfl rfl)
theorem dX3_raise_14 : decode cX3_raise 14 = .ok (.iconst (-1), 1) := dk_2 (dk_at dksX3_raise_0 14 rfl rfl)
theorem dX3_raise_15 : decode cX3_raise 15 = .ok (.ireturn, 1) := dk_172 (dk_at dksX3_raise_0 15 rfl rfl)
theorem dX3_raise_16 : decode cX3_raise 16 = .ok (.iconst 0, 1) := dk_3 (dk_at dksX3_raise_0 16 rfl rfl)
theorem dX3_raise_17 : decode cX3_raise 17 = .ok (.istore_n 3, 1) := dk_62 (dk_at dksX3_raise_0 17 rfl rfl)
theorem dX3_raise_18 : decode cX3_raise 18 = .ok (.iload_n 3, 1) := dk_29 (dk_at dksX3_raise_0 18 rfl rfl)
theorem dX3_raise_19 : decode cX3_raise 19 = .ok (.bipush 12, 2) := dk_16 12 (dk_at dksX3_raise_0 19 rfl rfl)
theorem dX3_raise_21 : decode cX3_raise 21 = .ok (.if_icmp .ge 21, 3) := dk_162 0 21 (dk_at dksX3_raise_0 21 rfl rfl)
theorem dX3_raise_24 : decode cX3_raise 24 = .ok (.aload_n 0, 1) := dk_42 (dk_at dksX3_raise_1 0 rfl rfl)
theorem dX3_raise_25 : decode cX3_raise 25 = .ok (.getfield 75, 3) := dk_180 0 75 (dk_at dksX3_raise_1 1 rfl rfl)
theorem dX3_raise_28 : decode cX3_raise 28 = .ok (.iload_n 3, 1) := dk_29 (dk_at dksX3_raise_1 4 rfl rfl)
theorem dX3_raise_29 : decode cX3_raise 29 = .ok (.aload_n 0, 1) := dk_42 (dk_at dksX3_raise_1 5 rfl rfl)
theorem dX3_raise_30 : decode cX3_raise 30 = .ok (.getfield 21, 3) := dk_180 0 21 (dk_at dksX3_raise_1 6 rfl rfl)
theorem dX3_raise_33 : decode cX3_raise 33 = .ok (.iload_n 3, 1) := dk_29 (dk_at dksX3_raise_1 9 rfl rfl)
theorem dX3_raise_34 : decode cX3_raise 34 = .ok (.iaload, 1) := dk_46 (dk_at dksX3_raise_1 10 rfl rfl)
theorem dX3_raise_35 : decode cX3_raise 35 = .ok (.iastore, 1) := dk_79 (dk_at dksX3_raise_1 11 rfl rfl)
theorem dX3_raise_36 : decode cX3_raise 36 = .ok (.iinc 3 1, 3) := dk_132 3 1 (dk_at dksX3_raise_1 12 rfl rfl)
theorem dX3_raise_39 : decode cX3_raise 39 = .ok (.goto (-21), 3) := dk_167 255 235 (dk_at dksX3_raise_1 15 rfl rfl)
theorem dX3_raise_42 : decode cX3_raise 42 = .ok (.iconst (-1), 1) := dk_2 (dk_at dksX3_raise_1 18 rfl rfl)
theorem dX3_raise_43 : decode cX3_raise 43 = .ok (.istore_n 3, 1) := dk_62 (dk_at dksX3_raise_1 19 rfl rfl)
theorem dX3_raise_44 : decode cX3_raise 44 = .ok (.iconst 0, 1) := dk_3 (dk_at dksX3_raise_1 20 rfl rfl)
theorem dX3_raise_45 : decode cX3_raise 45 = .ok (.istore 4, 2) := dk_54 4 (dk_at dksX3_raise_1 21 rfl rfl)
theorem dX3_raise_47 : decode cX3_raise 47 = .ok (.iload 4, 2) := dk_21 4 (dk_at dksX3_raise_2 0 rfl rfl)
theorem dX3_raise_49 : decode cX3_raise 49 = .ok (.iconst 1, 1) := dk_4 (dk_at dksX3_raise_2 2 rfl rfl)
theorem dX3_raise_50 : decode cX3_raise 50 = .ok (.aload_n 0, 1) := dk_42 (dk_at dksX3_raise_2 3 rfl rfl)
theorem dX3_raise_51 : decode cX3_raise 51 = .ok (.getfield 13, 3) := dk_180 0 13 (dk_at dksX3_raise_2 4 rfl rfl)
theorem dX3_raise_54 : decode cX3_raise 54 = .ok (.iconst 1, 1) := dk_4 (dk_at dksX3_raise_2 7 rfl rfl)
theorem dX3_raise_55 : decode cX3_raise 55 = .ok (.isub, 1) := dk_100 (dk_at dksX3_raise_2 8 rfl rfl)
theorem dX3_raise_56 : decode cX3_raise 56 = .ok (.ishl, 1) := dk_120 (dk_at dksX3_raise_2 9 rfl rfl)
theorem dX3_raise_57 : decode cX3_raise 57 = .ok (.if_icmp .ge 101, 3) := dk_162 0 101 (dk_at dksX3_raise_2 10 rfl rfl)
theorem dX3_raise_60 : decode cX3_raise 60 = .ok (.iload_n 3, 1) := dk_29 (dk_at dksX3_raise_2 13 rfl rfl)
theorem dX3_raise_61 : decode cX3_raise 61 = .ok (.ifCond .lt 15, 3) := dk_155 0 15 (dk_at dksX3_raise_2 14 rfl rfl)
theorem dX3_raise_64 : decode cX3_raise 64 = .ok (.iload 4, 2) := dk_21 4 (dk_at dksX3_raise_2 17 rfl rfl)
theorem dX3_raise_66 : decode cX3_raise 66 = .ok (.invokestatic 251, 3) := dk_184 0 251 (dk_at dksX3_raise_2 19 rfl rfl)
theorem dX3_raise_69 : decode cX3_raise 69 = .ok (.iload_n 3, 1) := dk_29 (dk_at dksX3_raise_2 22 rfl rfl)
theorem dX3_raise_70 : decode cX3_raise 70 = .ok (.invokestatic 251, 3) := dk_184 0 251 (dk_at dksX3_raise_3 0 rfl rfl)
theorem dX3_raise_73 : decode cX3_raise 73 = .ok (.if_icmp .ge 79, 3) := dk_162 0 79 (dk_at dksX3_raise_3 3 rfl rfl)
theorem dX3_raise_76 : decode cX3_raise 76 = .ok (.iconst 0, 1) := dk_3 (dk_at dksX3_raise_3 6 rfl rfl)
theorem dX3_raise_77 : decode cX3_raise 77 = .ok (.istore 5, 2) := dk_54 5 (dk_at dksX3_raise_3 7 rfl rfl)
theorem dX3_raise_79 : decode cX3_raise 79 = .ok (.iload 5, 2) := dk_21 5 (dk_at dksX3_raise_3 9 rfl rfl)
theorem dX3_raise_81 : decode cX3_raise 81 = .ok (.aload_n 0, 1) := dk_42 (dk_at dksX3_raise_3 11 rfl rfl)
theorem dX3_raise_82 : decode cX3_raise 82 = .ok (.getfield 13, 3) := dk_180 0 13 (dk_at dksX3_raise_3 12 rfl rfl)
theorem dX3_raise_85 : decode cX3_raise 85 = .ok (.iconst 1, 1) := dk_4 (dk_at dksX3_raise_3 15 rfl rfl)
theorem dX3_raise_86 : decode cX3_raise 86 = .ok (.isub, 1) := dk_100 (dk_at dksX3_raise_3 16 rfl rfl)
theorem dX3_raise_87 : decode cX3_raise 87 = .ok (.if_icmp .ge 38, 3) := dk_162 0 38 (dk_at dksX3_raise_3 17 rfl rfl)
theorem dX3_raise_90 : decode cX3_raise 90 = .ok (.aload_n 0, 1) := dk_42 (dk_at dksX3_raise_3 20 rfl rfl)
theorem dX3_raise_91 : decode cX3_raise 91 = .ok (.getfield 21, 3) := dk_180 0 21 (dk_at dksX3_raise_3 21 rfl rfl)
theorem dX3_raise_94 : decode cX3_raise 94 = .ok (.iload 5, 2) := dk_21 5 (dk_at dksX3_raise_4 0 rfl rfl)
theorem dX3_raise_96 : decode cX3_raise 96 = .ok (.iload 4, 2) := dk_21 4 (dk_at dksX3_raise_4 2 rfl rfl)
theorem dX3_raise_98 : decode cX3_raise 98 = .ok (.iload 5, 2) := dk_21 5 (dk_at dksX3_raise_4 4 rfl rfl)
theorem dX3_raise_100 : decode cX3_raise 100 = .ok (.invokestatic 269, 3) := dk_184 1 13 (dk_at dksX3_raise_4 6 rfl rfl)
theorem dX3_raise_103 : decode cX3_raise 103 = .ok (.ifCond .eq 8, 3) := dk_153 0 8 (dk_at dksX3_raise_4 9 rfl rfl)
theorem dX3_raise_106 : decode cX3_raise 106 = .ok (.bipush 9, 2) := dk_16 9 (dk_at dksX3_raise_4 12 rfl rfl)
theorem dX3_raise_108 : decode cX3_raise 108 = .ok (.goto 10, 3) := dk_167 0 10 (dk_at dksX3_raise_4 14 rfl rfl)
theorem dX3_raise_111 : decode cX3_raise 111 = .ok (.aload_n 0, 1) := dk_42 (dk_at dksX3_raise_4 17 rfl rfl)
theorem dX3_raise_112 : decode cX3_raise 112 = .ok (.getfield 75, 3) := dk_180 0 75 (dk_at dksX3_raise_4 18 rfl rfl)
theorem dX3_raise_115 : decode cX3_raise 115 = .ok (.iload 5, 2) := dk_21 5 (dk_at dksX3_raise_4 21 rfl rfl)
theorem dX3_raise_117 : decode cX3_raise 117 = .ok (.iaload, 1) := dk_46 (dk_at dksX3_raise_4 23 rfl rfl)
theorem dX3_raise_118 : decode cX3_raise 118 = .ok (.iastore, 1) := dk_79 (dk_at dksX3_raise_5 0 rfl rfl)
theorem dX3_raise_119 : decode cX3_raise 119 = .ok (.iinc 5 1, 3) := dk_132 5 1 (dk_at dksX3_raise_5 1 rfl rfl)
theorem dX3_raise_122 : decode cX3_raise 122 = .ok (.goto (-43), 3) := dk_167 255 213 (dk_at dksX3_raise_5 4 rfl rfl)
theorem dX3_raise_125 : decode cX3_raise 125 = .ok (.aload_n 0, 1) := dk_42 (dk_at dksX3_raise_5 7 rfl rfl)
theorem dX3_raise_126 : decode cX3_raise 126 = .ok (.iload_n 1, 1) := dk_27 (dk_at dksX3_raise_5 8 rfl rfl)
theorem dX3_raise_127 : decode cX3_raise 127 = .ok (.iload_n 2, 1) := dk_28 (dk_at dksX3_raise_5 9 rfl rfl)
theorem dX3_raise_128 : decode cX3_raise 128 = .ok (.invokevirtual 412, 3) := dk_182 1 156 (dk_at dksX3_raise_5 10 rfl rfl)
theorem dX3_raise_131 : decode cX3_raise 131 = .ok (.aload_n 0, 1) := dk_42 (dk_at dksX3_raise_5 13 rfl rfl)
theorem dX3_raise_132 : decode cX3_raise 132 = .ok (.aload_n 0, 1) := dk_42 (dk_at dksX3_raise_5 14 rfl rfl)
theorem dX3_raise_133 : decode cX3_raise 133 = .ok (.getfield 39, 3) := dk_180 0 39 (dk_at dksX3_raise_5 15 rfl rfl)
theorem dX3_raise_136 : decode cX3_raise 136 = .ok (.invokevirtual 371, 3) := dk_182 1 115 (dk_at dksX3_raise_5 18 rfl rfl)
theorem dX3_raise_139 : decode cX3_raise 139 = .ok (.iconst 1, 1) := dk_4 (dk_at dksX3_raise_5 21 rfl rfl)
theorem dX3_raise_140 : decode cX3_raise 140 = .ok (.iload_n 1, 1) := dk_27 (dk_at dksX3_raise_5 22 rfl rfl)
theorem dX3_raise_141 : decode cX3_raise 141 = .ok (.ishl, 1) := dk_120 (dk_at dksX3_raise_5 23 rfl rfl)
theorem dX3_raise_142 : decode cX3_raise 142 = .ok (.if_icmp .ne 8, 3) := dk_160 0 8 (dk_at dksX3_raise_6 0 rfl rfl)
theorem dX3_raise_145 : decode cX3_raise 145 = .ok (.iload 4, 2) := dk_21 4 (dk_at dksX3_raise_6 3 rfl rfl)
theorem dX3_raise_147 : decode cX3_raise 147 = .ok (.goto 4, 3) := dk_167 0 4 (dk_at dksX3_raise_6 5 rfl rfl)
theorem dX3_raise_150 : decode cX3_raise 150 = .ok (.iload_n 3, 1) := dk_29 (dk_at dksX3_raise_6 8 rfl rfl)
theorem dX3_raise_151 : decode cX3_raise 151 = .ok (.istore_n 3, 1) := dk_62 (dk_at dksX3_raise_6 9 rfl rfl)
theorem dX3_raise_152 : decode cX3_raise 152 = .ok (.iinc 4 1, 3) := dk_132 4 1 (dk_at dksX3_raise_6 10 rfl rfl)
theorem dX3_raise_155 : decode cX3_raise 155 = .ok (.goto (-108), 3) := dk_167 255 148 (dk_at dksX3_raise_6 13 rfl rfl)
theorem dX3_raise_158 : decode cX3_raise 158 = .ok (.iconst 0, 1) := dk_3 (dk_at dksX3_raise_6 16 rfl rfl)
theorem dX3_raise_159 : decode cX3_raise 159 = .ok (.istore 4, 2) := dk_54 4 (dk_at dksX3_raise_6 17 rfl rfl)
theorem dX3_raise_161 : decode cX3_raise 161 = .ok (.iload 4, 2) := dk_21 4 (dk_at dksX3_raise_6 19 rfl rfl)
theorem dX3_raise_163 : decode cX3_raise 163 = .ok (.bipush 12, 2) := dk_16 12 (dk_at dksX3_raise_6 21 rfl rfl)
theorem dX3_raise_165 : decode cX3_raise 165 = .ok (.if_icmp .ge 23, 3) := dk_162 0 23 (dk_at dksX3_raise_7 0 rfl rfl)
theorem dX3_raise_168 : decode cX3_raise 168 = .ok (.aload_n 0, 1) := dk_42 (dk_at dksX3_raise_7 3 rfl rfl)
theorem dX3_raise_169 : decode cX3_raise 169 = .ok (.getfield 21, 3) := dk_180 0 21 (dk_at dksX3_raise_7 4 rfl rfl)
theorem dX3_raise_172 : decode cX3_raise 172 = .ok (.iload 4, 2) := dk_21 4 (dk_at dksX3_raise_7 7 rfl rfl)
theorem dX3_raise_174 : decode cX3_raise 174 = .ok (.aload_n 0, 1) := dk_42 (dk_at dksX3_raise_7 9 rfl rfl)
theorem dX3_raise_175 : decode cX3_raise 175 = .ok (.getfield 75, 3) := dk_180 0 75 (dk_at dksX3_raise_7 10 rfl rfl)
theorem dX3_raise_178 : decode cX3_raise 178 = .ok (.iload 4, 2) := dk_21 4 (dk_at dksX3_raise_7 13 rfl rfl)
theorem dX3_raise_180 : decode cX3_raise 180 = .ok (.iaload, 1) := dk_46 (dk_at dksX3_raise_7 15 rfl rfl)
theorem dX3_raise_181 : decode cX3_raise 181 = .ok (.iastore, 1) := dk_79 (dk_at dksX3_raise_7 16 rfl rfl)
theorem dX3_raise_182 : decode cX3_raise 182 = .ok (.iinc 4 1, 3) := dk_132 4 1 (dk_at dksX3_raise_7 17 rfl rfl)
theorem dX3_raise_185 : decode cX3_raise 185 = .ok (.goto (-24), 3) := dk_167 255 232 (dk_at dksX3_raise_7 20 rfl rfl)
theorem dX3_raise_188 : decode cX3_raise 188 = .ok (.iload_n 3, 1) := dk_29 (dk_at dksX3_raise_7 23 rfl rfl)
theorem dX3_raise_189 : decode cX3_raise 189 = .ok (.ifCond .ge 6, 3) := dk_156 0 6 (dk_at dksX3_raise_8 0 rfl rfl)
theorem dX3_raise_192 : decode cX3_raise 192 = .ok (.bipush (-2), 2) := dk_16 254 (dk_at dksX3_raise_8 3 rfl rfl)
theorem dX3_raise_194 : decode cX3_raise 194 = .ok (.ireturn, 1) := dk_172 (dk_at dksX3_raise_8 5 rfl rfl)
theorem dX3_raise_195 : decode cX3_raise 195 = .ok (.aload_n 0, 1) := dk_42 (dk_at dksX3_raise_8 6 rfl rfl)
theorem dX3_raise_196 : decode cX3_raise 196 = .ok (.iconst 0, 1) := dk_3 (dk_at dksX3_raise_8 7 rfl rfl)
theorem dX3_raise_197 : decode cX3_raise 197 = .ok (.putfield 119, 3) := dk_181 0 119 (dk_at dksX3_raise_8 8 rfl rfl)
theorem dX3_raise_200 : decode cX3_raise 200 = .ok (.aload_n 0, 1) := dk_42 (dk_at dksX3_raise_8 11 rfl rfl)
theorem dX3_raise_201 : decode cX3_raise 201 = .ok (.iload_n 3, 1) := dk_29 (dk_at dksX3_raise_8 12 rfl rfl)
theorem dX3_raise_202 : decode cX3_raise 202 = .ok (.i2l, 1) := dk_133 (dk_at dksX3_raise_8 13 rfl rfl)
theorem dX3_raise_203 : decode cX3_raise 203 = .ok (.invokevirtual 359, 3) := dk_182 1 103 (dk_at dksX3_raise_8 14 rfl rfl)
theorem dX3_raise_206 : decode cX3_raise 206 = .ok (.iload_n 3, 1) := dk_29 (dk_at dksX3_raise_8 17 rfl rfl)
theorem dX3_raise_207 : decode cX3_raise 207 = .ok (.invokestatic 251, 3) := dk_184 0 251 (dk_at dksX3_raise_8 18 rfl rfl)
theorem dX3_raise_210 : decode cX3_raise 210 = .ok (.ireturn, 1) := dk_172 (dk_at dksX3_raise_8 21 rfl rfl)
abbrev cX3_crew : ByteArray := prog_13_method_87_code
def yX3_crew : MethodName := ⟨RX3, "crew", "(II)I"⟩
def dkwX3_crew_4 : List UInt8 := [180, 0, 81, 29, 46, 133, 182, 1, 103, 132, 3, 1, 167, 255, 234, 42, 180, 1, 160, 172]
abbrev dktX3_crew_4 : List UInt8 := dkwX3_crew_4 ++ []
def dkwX3_crew_3 : List UInt8 := [160, 0, 6, 16, 254, 172, 42, 3, 181, 0, 119, 3, 62, 29, 42, 180, 0, 126, 162, 0, 20, 42, 42]
abbrev dktX3_crew_3 : List UInt8 := dkwX3_crew_3 ++ dktX3_crew_4
def dkwX3_crew_2 : List UInt8 := [42, 19, 1, 170, 181, 1, 160, 42, 3, 27, 3, 28, 182, 1, 166, 42, 180, 1, 160, 19, 1, 170]
abbrev dktX3_crew_2 : List UInt8 := dkwX3_crew_2 ++ dktX3_crew_3
def dkwX3_crew_1 : List UInt8 := [133, 10, 20, 1, 46, 184, 0, 122, 154, 0, 5, 2, 172, 27, 184, 0, 251, 7, 164, 0, 6, 16, 253, 172]
abbrev dktX3_crew_1 : List UInt8 := dkwX3_crew_1 ++ dktX3_crew_2
def dkwX3_crew_0 : List UInt8 := [42, 3, 181, 0, 112, 27, 133, 9, 4, 42, 180, 0, 126, 120, 4, 100, 133, 184, 0, 122, 153, 0, 15, 28]
abbrev dktX3_crew_0 : List UInt8 := dkwX3_crew_0 ++ dktX3_crew_1
theorem dksX3_crew_0 : cX3_crew.data.toList.drop 0 = dktX3_crew_0 := by decide +kernel
theorem dksX3_crew_1 : cX3_crew.data.toList.drop 24 = dktX3_crew_1 := dk_seg dksX3_crew_0 24 rfl rfl
theorem dksX3_crew_2 : cX3_crew.data.toList.drop 48 = dktX3_crew_2 := dk_seg dksX3_crew_1 24 rfl rfl
theorem dksX3_crew_3 : cX3_crew.data.toList.drop 70 = dktX3_crew_3 := dk_seg dksX3_crew_2 22 rfl rfl
theorem dksX3_crew_4 : cX3_crew.data.toList.drop 93 = dktX3_crew_4 := dk_seg dksX3_crew_3 23 rfl rfl
theorem dX3_crew_0 : decode cX3_crew 0 = .ok (.aload_n 0, 1) := dk_42 (dk_at dksX3_crew_0 0 rfl rfl)
theorem dX3_crew_1 : decode cX3_crew 1 = .ok (.iconst 0, 1) := dk_3 (dk_at dksX3_crew_0 1 rfl rfl)
theorem dX3_crew_2 : decode cX3_crew 2 = .ok (.putfield 112, 3) := dk_181 0 112 (dk_at dksX3_crew_0 2 rfl rfl)
theorem dX3_crew_5 : decode cX3_crew 5 = .ok (.iload_n 1, 1) := dk_27 (dk_at dksX3_crew_0 5 rfl rfl)
theorem dX3_crew_6 : decode cX3_crew 6 = .ok (.i2l, 1) := dk_133 (dk_at dksX3_crew_0 6 rfl rfl)
theorem dX3_crew_7 : decode cX3_crew 7 = .ok (.lconst 0, 1) := dk_9 (dk_at dksX3_crew_0 7 rfl rfl)
theorem dX3_crew_8 : decode cX3_crew 8 = .ok (.iconst 1, 1) := dk_4 (dk_at dksX3_crew_0 8 rfl rfl)
theorem dX3_crew_9 : decode cX3_crew 9 = .ok (.aload_n 0, 1) := dk_42 (dk_at dksX3_crew_0 9 rfl rfl)
theorem dX3_crew_10 : decode cX3_crew 10 = .ok (.getfield 126, 3) := dk_180 0 126 (dk_at dksX3_crew_0 10 rfl rfl)
theorem dX3_crew_13 : decode cX3_crew 13 = .ok (.ishl, 1) := dk_120 (dk_at dksX3_crew_0 13 rfl rfl)
theorem dX3_crew_14 : decode cX3_crew 14 = .ok (.iconst 1, 1) := dk_4 (dk_at dksX3_crew_0 14 rfl rfl)
theorem dX3_crew_15 : decode cX3_crew 15 = .ok (.isub, 1) := dk_100 (dk_at dksX3_crew_0 15 rfl rfl)
theorem dX3_crew_16 : decode cX3_crew 16 = .ok (.i2l, 1) := dk_133 (dk_at dksX3_crew_0 16 rfl rfl)
theorem dX3_crew_17 : decode cX3_crew 17 = .ok (.invokestatic 122, 3) := dk_184 0 122 (dk_at dksX3_crew_0 17 rfl rfl)
theorem dX3_crew_20 : decode cX3_crew 20 = .ok (.ifCond .eq 15, 3) := dk_153 0 15 (dk_at dksX3_crew_0 20 rfl rfl)
theorem dX3_crew_23 : decode cX3_crew 23 = .ok (.iload_n 2, 1) := dk_28 (dk_at dksX3_crew_0 23 rfl rfl)
theorem dX3_crew_24 : decode cX3_crew 24 = .ok (.i2l, 1) := dk_133 (dk_at dksX3_crew_1 0 rfl rfl)
theorem dX3_crew_25 : decode cX3_crew 25 = .ok (.lconst 1, 1) := dk_10 (dk_at dksX3_crew_1 1 rfl rfl)
theorem dX3_crew_26 : decode cX3_crew 26 = .ok (.ldc2_w 302, 3) := dk_20 1 46 (dk_at dksX3_crew_1 2 rfl rfl)
theorem dX3_crew_29 : decode cX3_crew 29 = .ok (.invokestatic 122, 3) := dk_184 0 122 (dk_at dksX3_crew_1 5 rfl rfl)
theorem dX3_crew_32 : decode cX3_crew 32 = .ok (.ifCond .ne 5, 3) := dk_154 0 5 (dk_at dksX3_crew_1 8 rfl rfl)
theorem dX3_crew_35 : decode cX3_crew 35 = .ok (.iconst (-1), 1) := dk_2 (dk_at dksX3_crew_1 11 rfl rfl)
theorem dX3_crew_36 : decode cX3_crew 36 = .ok (.ireturn, 1) := dk_172 (dk_at dksX3_crew_1 12 rfl rfl)
theorem dX3_crew_37 : decode cX3_crew 37 = .ok (.iload_n 1, 1) := dk_27 (dk_at dksX3_crew_1 13 rfl rfl)
theorem dX3_crew_38 : decode cX3_crew 38 = .ok (.invokestatic 251, 3) := dk_184 0 251 (dk_at dksX3_crew_1 14 rfl rfl)
theorem dX3_crew_41 : decode cX3_crew 41 = .ok (.iconst 4, 1) := dk_7 (dk_at dksX3_crew_1 17 rfl rfl)
theorem dX3_crew_42 : decode cX3_crew 42 = .ok (.if_icmp .le 6, 3) := dk_164 0 6 (dk_at dksX3_crew_1 18 rfl rfl)
theorem dX3_crew_45 : decode cX3_crew 45 = .ok (.bipush (-3), 2) := dk_16 253 (dk_at dksX3_crew_1 21 rfl rfl)
theorem dX3_crew_47 : decode cX3_crew 47 = .ok (.ireturn, 1) := dk_172 (dk_at dksX3_crew_1 23 rfl rfl)
theorem dX3_crew_48 : decode cX3_crew 48 = .ok (.aload_n 0, 1) := dk_42 (dk_at dksX3_crew_2 0 rfl rfl)
theorem dX3_crew_49 : decode cX3_crew 49 = .ok (.ldc_w 426, 3) := dk_19 1 170 (dk_at dksX3_crew_2 1 rfl rfl)
theorem dX3_crew_52 : decode cX3_crew 52 = .ok (.putfield 416, 3) := dk_181 1 160 (dk_at dksX3_crew_2 4 rfl rfl)
theorem dX3_crew_55 : decode cX3_crew 55 = .ok (.aload_n 0, 1) := dk_42 (dk_at dksX3_crew_2 7 rfl rfl)
theorem dX3_crew_56 : decode cX3_crew 56 = .ok (.iconst 0, 1) := dk_3 (dk_at dksX3_crew_2 8 rfl rfl)
theorem dX3_crew_57 : decode cX3_crew 57 = .ok (.iload_n 1, 1) := dk_27 (dk_at dksX3_crew_2 9 rfl rfl)
theorem dX3_crew_58 : decode cX3_crew 58 = .ok (.iconst 0, 1) := dk_3 (dk_at dksX3_crew_2 10 rfl rfl)
theorem dX3_crew_59 : decode cX3_crew 59 = .ok (.iload_n 2, 1) := dk_28 (dk_at dksX3_crew_2 11 rfl rfl)
theorem dX3_crew_60 : decode cX3_crew 60 = .ok (.invokevirtual 422, 3) := dk_182 1 166 (dk_at dksX3_crew_2 12 rfl rfl)
theorem dX3_crew_63 : decode cX3_crew 63 = .ok (.aload_n 0, 1) := dk_42 (dk_at dksX3_crew_2 15 rfl rfl)
theorem dX3_crew_64 : decode cX3_crew 64 = .ok (.getfield 416, 3) := dk_180 1 160 (dk_at dksX3_crew_2 16 rfl rfl)
theorem dX3_crew_67 : decode cX3_crew 67 = .ok (.ldc_w 426, 3) := dk_19 1 170 (dk_at dksX3_crew_2 19 rfl rfl)
theorem dX3_crew_70 : decode cX3_crew 70 = .ok (.if_icmp .ne 6, 3) := dk_160 0 6 (dk_at dksX3_crew_3 0 rfl rfl)
theorem dX3_crew_73 : decode cX3_crew 73 = .ok (.bipush (-2), 2) := dk_16 254 (dk_at dksX3_crew_3 3 rfl rfl)
theorem dX3_crew_75 : decode cX3_crew 75 = .ok (.ireturn, 1) := dk_172 (dk_at dksX3_crew_3 5 rfl rfl)
theorem dX3_crew_76 : decode cX3_crew 76 = .ok (.aload_n 0, 1) := dk_42 (dk_at dksX3_crew_3 6 rfl rfl)
theorem dX3_crew_77 : decode cX3_crew 77 = .ok (.iconst 0, 1) := dk_3 (dk_at dksX3_crew_3 7 rfl rfl)
theorem dX3_crew_78 : decode cX3_crew 78 = .ok (.putfield 119, 3) := dk_181 0 119 (dk_at dksX3_crew_3 8 rfl rfl)
theorem dX3_crew_81 : decode cX3_crew 81 = .ok (.iconst 0, 1) := dk_3 (dk_at dksX3_crew_3 11 rfl rfl)
theorem dX3_crew_82 : decode cX3_crew 82 = .ok (.istore_n 3, 1) := dk_62 (dk_at dksX3_crew_3 12 rfl rfl)
theorem dX3_crew_83 : decode cX3_crew 83 = .ok (.iload_n 3, 1) := dk_29 (dk_at dksX3_crew_3 13 rfl rfl)
theorem dX3_crew_84 : decode cX3_crew 84 = .ok (.aload_n 0, 1) := dk_42 (dk_at dksX3_crew_3 14 rfl rfl)
theorem dX3_crew_85 : decode cX3_crew 85 = .ok (.getfield 126, 3) := dk_180 0 126 (dk_at dksX3_crew_3 15 rfl rfl)
theorem dX3_crew_88 : decode cX3_crew 88 = .ok (.if_icmp .ge 20, 3) := dk_162 0 20 (dk_at dksX3_crew_3 18 rfl rfl)
theorem dX3_crew_91 : decode cX3_crew 91 = .ok (.aload_n 0, 1) := dk_42 (dk_at dksX3_crew_3 21 rfl rfl)
theorem dX3_crew_92 : decode cX3_crew 92 = .ok (.aload_n 0, 1) := dk_42 (dk_at dksX3_crew_3 22 rfl rfl)
theorem dX3_crew_93 : decode cX3_crew 93 = .ok (.getfield 81, 3) := dk_180 0 81 (dk_at dksX3_crew_4 0 rfl rfl)
theorem dX3_crew_96 : decode cX3_crew 96 = .ok (.iload_n 3, 1) := dk_29 (dk_at dksX3_crew_4 3 rfl rfl)
theorem dX3_crew_97 : decode cX3_crew 97 = .ok (.iaload, 1) := dk_46 (dk_at dksX3_crew_4 4 rfl rfl)
theorem dX3_crew_98 : decode cX3_crew 98 = .ok (.i2l, 1) := dk_133 (dk_at dksX3_crew_4 5 rfl rfl)
theorem dX3_crew_99 : decode cX3_crew 99 = .ok (.invokevirtual 359, 3) := dk_182 1 103 (dk_at dksX3_crew_4 6 rfl rfl)
theorem dX3_crew_102 : decode cX3_crew 102 = .ok (.iinc 3 1, 3) := dk_132 3 1 (dk_at dksX3_crew_4 9 rfl rfl)
theorem dX3_crew_105 : decode cX3_crew 105 = .ok (.goto (-22), 3) := dk_167 255 234 (dk_at dksX3_crew_4 12 rfl rfl)
theorem dX3_crew_108 : decode cX3_crew 108 = .ok (.aload_n 0, 1) := dk_42 (dk_at dksX3_crew_4 15 rfl rfl)
theorem dX3_crew_109 : decode cX3_crew 109 = .ok (.getfield 416, 3) := dk_180 1 160 (dk_at dksX3_crew_4 16 rfl rfl)
theorem dX3_crew_112 : decode cX3_crew 112 = .ok (.ireturn, 1) := dk_172 (dk_at dksX3_crew_4 19 rfl rfl)
abbrev cX3_crewsFrom : ByteArray := prog_13_method_86_code
def yX3_crewsFrom : MethodName := ⟨RX3, "crewsFrom", "(IIII)V"⟩
def dkwX3_crewsFrom_5 : List UInt8 := [21, 5, 79, 42, 27, 4, 96, 28, 29, 4, 96, 21, 4, 182, 1, 166, 132, 5, 1, 167, 255, 204, 177]
abbrev dktX3_crewsFrom_5 : List UInt8 := dkwX3_crewsFrom_5 ++ []
def dkwX3_crewsFrom_4 : List UInt8 := [27, 184, 1, 13, 153, 0, 41, 42, 180, 0, 36, 27, 184, 1, 21, 158, 0, 30, 42, 180, 0, 78, 27]
abbrev dktX3_crewsFrom_4 : List UInt8 := dkwX3_crewsFrom_4 ++ dktX3_crewsFrom_5
def dkwX3_crewsFrom_3 : List UInt8 := [42, 27, 4, 96, 28, 29, 21, 4, 182, 1, 166, 3, 54, 5, 21, 5, 42, 180, 0, 13, 162, 0, 49, 28]
abbrev dktX3_crewsFrom_3 : List UInt8 := dkwX3_crewsFrom_3 ++ dktX3_crewsFrom_4
def dkwX3_crewsFrom_2 : List UInt8 := [21, 5, 42, 180, 0, 78, 21, 5, 46, 79, 132, 5, 1, 167, 255, 230, 177, 42, 180, 0, 78, 27, 2, 79]
abbrev dktX3_crewsFrom_2 : List UInt8 := dkwX3_crewsFrom_2 ++ dktX3_crewsFrom_3
def dkwX3_crewsFrom_1 : List UInt8 := [153, 0, 40, 42, 29, 181, 1, 160, 3, 54, 5, 21, 5, 42, 180, 0, 126, 162, 0, 23, 42, 180, 0, 81]
abbrev dktX3_crewsFrom_1 : List UInt8 := dkwX3_crewsFrom_1 ++ dktX3_crewsFrom_2
def dkwX3_crewsFrom_0 : List UInt8 := [29, 42, 180, 1, 160, 161, 0, 4, 177, 27, 42, 180, 0, 126, 160, 0, 50, 42, 21, 4, 182, 1, 163]
abbrev dktX3_crewsFrom_0 : List UInt8 := dkwX3_crewsFrom_0 ++ dktX3_crewsFrom_1
theorem dksX3_crewsFrom_0 : cX3_crewsFrom.data.toList.drop 0 = dktX3_crewsFrom_0 := by decide +kernel
theorem dksX3_crewsFrom_1 : cX3_crewsFrom.data.toList.drop 23 = dktX3_crewsFrom_1 := dk_seg dksX3_crewsFrom_0 23 rfl rfl
theorem dksX3_crewsFrom_2 : cX3_crewsFrom.data.toList.drop 47 = dktX3_crewsFrom_2 := dk_seg dksX3_crewsFrom_1 24 rfl rfl
theorem dksX3_crewsFrom_3 : cX3_crewsFrom.data.toList.drop 71 = dktX3_crewsFrom_3 := dk_seg dksX3_crewsFrom_2 24 rfl rfl
theorem dksX3_crewsFrom_4 : cX3_crewsFrom.data.toList.drop 95 = dktX3_crewsFrom_4 := dk_seg dksX3_crewsFrom_3 24 rfl rfl
theorem dksX3_crewsFrom_5 : cX3_crewsFrom.data.toList.drop 118 = dktX3_crewsFrom_5 := dk_seg dksX3_crewsFrom_4 23 rfl rfl
theorem dX3_crewsFrom_0 : decode cX3_crewsFrom 0 = .ok (.iload_n 3, 1) := dk_29 (dk_at dksX3_crewsFrom_0 0 rfl rfl)
theorem dX3_crewsFrom_1 : decode cX3_crewsFrom 1 = .ok (.aload_n 0, 1) := dk_42 (dk_at dksX3_crewsFrom_0 1 rfl rfl)
theorem dX3_crewsFrom_2 : decode cX3_crewsFrom 2 = .ok (.getfield 416, 3) := dk_180 1 160 (dk_at dksX3_crewsFrom_0 2 rfl rfl)
theorem dX3_crewsFrom_5 : decode cX3_crewsFrom 5 = .ok (.if_icmp .lt 4, 3) := dk_161 0 4 (dk_at dksX3_crewsFrom_0 5 rfl rfl)
theorem dX3_crewsFrom_8 : decode cX3_crewsFrom 8 = .ok (.return_, 1) := dk_177 (dk_at dksX3_crewsFrom_0 8 rfl rfl)
theorem dX3_crewsFrom_9 : decode cX3_crewsFrom 9 = .ok (.iload_n 1, 1) := dk_27 (dk_at dksX3_crewsFrom_0 9 rfl rfl)
theorem dX3_crewsFrom_10 : decode cX3_crewsFrom 10 = .ok (.aload_n 0, 1) := dk_42 (dk_at dksX3_crewsFrom_0 10 rfl rfl)
theorem dX3_crewsFrom_11 : decode cX3_crewsFrom 11 = .ok (.getfield 126, 3) := dk_180 0 126 (dk_at dksX3_crewsFrom_0 11 rfl rfl)
theorem dX3_crewsFrom_14 : decode cX3_crewsFrom 14 = .ok (.if_icmp .ne 50, 3) := dk_160 0 50 (dk_at dksX3_crewsFrom_0 14 rfl rfl)
theorem dX3_crewsFrom_17 : decode cX3_crewsFrom 17 = .ok (.aload_n 0, 1) := dk_42 (dk_at dksX3_crewsFrom_0 17 rfl rfl)
theorem dX3_crewsFrom_18 : decode cX3_crewsFrom 18 = .ok (.iload 4, 2) := dk_21 4 (dk_at dksX3_crewsFrom_0 18 rfl rfl)
theorem dX3_crewsFrom_20 : decode cX3_crewsFrom 20 = .ok (.invokevirtual 419, 3) := dk_182 1 163 (dk_at dksX3_crewsFrom_0 20 rfl rfl)
theorem dX3_crewsFrom_23 : decode cX3_crewsFrom 23 = .ok (.ifCond .eq 40, 3) := dk_153 0 40 (dk_at dksX3_crewsFrom_1 0 rfl rfl)
theorem dX3_crewsFrom_26 : decode cX3_crewsFrom 26 = .ok (.aload_n 0, 1) := dk_42 (dk_at dksX3_crewsFrom_1 3 rfl rfl)
theorem dX3_crewsFrom_27 : decode cX3_crewsFrom 27 = .ok (.iload_n 3, 1) := dk_29 (dk_at dksX3_crewsFrom_1 4 rfl rfl)
theorem dX3_crewsFrom_28 : decode cX3_crewsFrom 28 = .ok (.putfield 416, 3) := dk_181 1 160 (dk_at dksX3_crewsFrom_1 5 rfl rfl)
theorem dX3_crewsFrom_31 : decode cX3_crewsFrom 31 = .ok (.iconst 0, 1) := dk_3 (dk_at dksX3_crewsFrom_1 8 rfl rfl)
theorem dX3_crewsFrom_32 : decode cX3_crewsFrom 32 = .ok (.istore 5, 2) := dk_54 5 (dk_at dksX3_crewsFrom_1 9 rfl rfl)
theorem dX3_crewsFrom_34 : decode cX3_crewsFrom 34 = .ok (.iload 5, 2) := dk_21 5 (dk_at dksX3_crewsFrom_1 11 rfl rfl)
theorem dX3_crewsFrom_36 : decode cX3_crewsFrom 36 = .ok (.aload_n 0, 1) := dk_42 (dk_at dksX3_crewsFrom_1 13 rfl rfl)
theorem dX3_crewsFrom_37 : decode cX3_crewsFrom 37 = .ok (.getfield 126, 3) := dk_180 0 126 (dk_at dksX3_crewsFrom_1 14 rfl rfl)
theorem dX3_crewsFrom_40 : decode cX3_crewsFrom 40 = .ok (.if_icmp .ge 23, 3) := dk_162 0 23 (dk_at dksX3_crewsFrom_1 17 rfl rfl)
theorem dX3_crewsFrom_43 : decode cX3_crewsFrom 43 = .ok (.aload_n 0, 1) := dk_42 (dk_at dksX3_crewsFrom_1 20 rfl rfl)
theorem dX3_crewsFrom_44 : decode cX3_crewsFrom 44 = .ok (.getfield 81, 3) := dk_180 0 81 (dk_at dksX3_crewsFrom_1 21 rfl rfl)
theorem dX3_crewsFrom_47 : decode cX3_crewsFrom 47 = .ok (.iload 5, 2) := dk_21 5 (dk_at dksX3_crewsFrom_2 0 rfl rfl)
theorem dX3_crewsFrom_49 : decode cX3_crewsFrom 49 = .ok (.aload_n 0, 1) := dk_42 (dk_at dksX3_crewsFrom_2 2 rfl rfl)
theorem dX3_crewsFrom_50 : decode cX3_crewsFrom 50 = .ok (.getfield 78, 3) := dk_180 0 78 (dk_at dksX3_crewsFrom_2 3 rfl rfl)
theorem dX3_crewsFrom_53 : decode cX3_crewsFrom 53 = .ok (.iload 5, 2) := dk_21 5 (dk_at dksX3_crewsFrom_2 6 rfl rfl)
theorem dX3_crewsFrom_55 : decode cX3_crewsFrom 55 = .ok (.iaload, 1) := dk_46 (dk_at dksX3_crewsFrom_2 8 rfl rfl)
theorem dX3_crewsFrom_56 : decode cX3_crewsFrom 56 = .ok (.iastore, 1) := dk_79 (dk_at dksX3_crewsFrom_2 9 rfl rfl)
theorem dX3_crewsFrom_57 : decode cX3_crewsFrom 57 = .ok (.iinc 5 1, 3) := dk_132 5 1 (dk_at dksX3_crewsFrom_2 10 rfl rfl)
theorem dX3_crewsFrom_60 : decode cX3_crewsFrom 60 = .ok (.goto (-26), 3) := dk_167 255 230 (dk_at dksX3_crewsFrom_2 13 rfl rfl)
theorem dX3_crewsFrom_63 : decode cX3_crewsFrom 63 = .ok (.return_, 1) := dk_177 (dk_at dksX3_crewsFrom_2 16 rfl rfl)
theorem dX3_crewsFrom_64 : decode cX3_crewsFrom 64 = .ok (.aload_n 0, 1) := dk_42 (dk_at dksX3_crewsFrom_2 17 rfl rfl)
theorem dX3_crewsFrom_65 : decode cX3_crewsFrom 65 = .ok (.getfield 78, 3) := dk_180 0 78 (dk_at dksX3_crewsFrom_2 18 rfl rfl)
theorem dX3_crewsFrom_68 : decode cX3_crewsFrom 68 = .ok (.iload_n 1, 1) := dk_27 (dk_at dksX3_crewsFrom_2 21 rfl rfl)
theorem dX3_crewsFrom_69 : decode cX3_crewsFrom 69 = .ok (.iconst (-1), 1) := dk_2 (dk_at dksX3_crewsFrom_2 22 rfl rfl)
theorem dX3_crewsFrom_70 : decode cX3_crewsFrom 70 = .ok (.iastore, 1) := dk_79 (dk_at dksX3_crewsFrom_2 23 rfl rfl)
theorem dX3_crewsFrom_71 : decode cX3_crewsFrom 71 = .ok (.aload_n 0, 1) := dk_42 (dk_at dksX3_crewsFrom_3 0 rfl rfl)
theorem dX3_crewsFrom_72 : decode cX3_crewsFrom 72 = .ok (.iload_n 1, 1) := dk_27 (dk_at dksX3_crewsFrom_3 1 rfl rfl)
theorem dX3_crewsFrom_73 : decode cX3_crewsFrom 73 = .ok (.iconst 1, 1) := dk_4 (dk_at dksX3_crewsFrom_3 2 rfl rfl)
theorem dX3_crewsFrom_74 : decode cX3_crewsFrom 74 = .ok (.iadd, 1) := dk_96 (dk_at dksX3_crewsFrom_3 3 rfl rfl)
theorem dX3_crewsFrom_75 : decode cX3_crewsFrom 75 = .ok (.iload_n 2, 1) := dk_28 (dk_at dksX3_crewsFrom_3 4 rfl rfl)
theorem dX3_crewsFrom_76 : decode cX3_crewsFrom 76 = .ok (.iload_n 3, 1) := dk_29 (dk_at dksX3_crewsFrom_3 5 rfl rfl)
theorem dX3_crewsFrom_77 : decode cX3_crewsFrom 77 = .ok (.iload 4, 2) := dk_21 4 (dk_at dksX3_crewsFrom_3 6 rfl rfl)
theorem dX3_crewsFrom_79 : decode cX3_crewsFrom 79 = .ok (.invokevirtual 422, 3) := dk_182 1 166 (dk_at dksX3_crewsFrom_3 8 rfl rfl)
theorem dX3_crewsFrom_82 : decode cX3_crewsFrom 82 = .ok (.iconst 0, 1) := dk_3 (dk_at dksX3_crewsFrom_3 11 rfl rfl)
theorem dX3_crewsFrom_83 : decode cX3_crewsFrom 83 = .ok (.istore 5, 2) := dk_54 5 (dk_at dksX3_crewsFrom_3 12 rfl rfl)
theorem dX3_crewsFrom_85 : decode cX3_crewsFrom 85 = .ok (.iload 5, 2) := dk_21 5 (dk_at dksX3_crewsFrom_3 14 rfl rfl)
theorem dX3_crewsFrom_87 : decode cX3_crewsFrom 87 = .ok (.aload_n 0, 1) := dk_42 (dk_at dksX3_crewsFrom_3 16 rfl rfl)
theorem dX3_crewsFrom_88 : decode cX3_crewsFrom 88 = .ok (.getfield 13, 3) := dk_180 0 13 (dk_at dksX3_crewsFrom_3 17 rfl rfl)
theorem dX3_crewsFrom_91 : decode cX3_crewsFrom 91 = .ok (.if_icmp .ge 49, 3) := dk_162 0 49 (dk_at dksX3_crewsFrom_3 20 rfl rfl)
theorem dX3_crewsFrom_94 : decode cX3_crewsFrom 94 = .ok (.iload_n 2, 1) := dk_28 (dk_at dksX3_crewsFrom_3 23 rfl rfl)
theorem dX3_crewsFrom_95 : decode cX3_crewsFrom 95 = .ok (.iload_n 1, 1) := dk_27 (dk_at dksX3_crewsFrom_4 0 rfl rfl)
theorem dX3_crewsFrom_96 : decode cX3_crewsFrom 96 = .ok (.invokestatic 269, 3) := dk_184 1 13 (dk_at dksX3_crewsFrom_4 1 rfl rfl)
theorem dX3_crewsFrom_99 : decode cX3_crewsFrom 99 = .ok (.ifCond .eq 41, 3) := dk_153 0 41 (dk_at dksX3_crewsFrom_4 4 rfl rfl)
theorem dX3_crewsFrom_102 : decode cX3_crewsFrom 102 = .ok (.aload_n 0, 1) := dk_42 (dk_at dksX3_crewsFrom_4 7 rfl rfl)
theorem dX3_crewsFrom_103 : decode cX3_crewsFrom 103 = .ok (.getfield 36, 3) := dk_180 0 36 (dk_at dksX3_crewsFrom_4 8 rfl rfl)
theorem dX3_crewsFrom_106 : decode cX3_crewsFrom 106 = .ok (.iload_n 1, 1) := dk_27 (dk_at dksX3_crewsFrom_4 11 rfl rfl)
theorem dX3_crewsFrom_107 : decode cX3_crewsFrom 107 = .ok (.invokestatic 277, 3) := dk_184 1 21 (dk_at dksX3_crewsFrom_4 12 rfl rfl)
theorem dX3_crewsFrom_110 : decode cX3_crewsFrom 110 = .ok (.ifCond .le 30, 3) := dk_158 0 30 (dk_at dksX3_crewsFrom_4 15 rfl rfl)
theorem dX3_crewsFrom_113 : decode cX3_crewsFrom 113 = .ok (.aload_n 0, 1) := dk_42 (dk_at dksX3_crewsFrom_4 18 rfl rfl)
theorem dX3_crewsFrom_114 : decode cX3_crewsFrom 114 = .ok (.getfield 78, 3) := dk_180 0 78 (dk_at dksX3_crewsFrom_4 19 rfl rfl)
theorem dX3_crewsFrom_117 : decode cX3_crewsFrom 117 = .ok (.iload_n 1, 1) := dk_27 (dk_at dksX3_crewsFrom_4 22 rfl rfl)
theorem dX3_crewsFrom_118 : decode cX3_crewsFrom 118 = .ok (.iload 5, 2) := dk_21 5 (dk_at dksX3_crewsFrom_5 0 rfl rfl)
theorem dX3_crewsFrom_120 : decode cX3_crewsFrom 120 = .ok (.iastore, 1) := dk_79 (dk_at dksX3_crewsFrom_5 2 rfl rfl)
theorem dX3_crewsFrom_121 : decode cX3_crewsFrom 121 = .ok (.aload_n 0, 1) := dk_42 (dk_at dksX3_crewsFrom_5 3 rfl rfl)
theorem dX3_crewsFrom_122 : decode cX3_crewsFrom 122 = .ok (.iload_n 1, 1) := dk_27 (dk_at dksX3_crewsFrom_5 4 rfl rfl)
theorem dX3_crewsFrom_123 : decode cX3_crewsFrom 123 = .ok (.iconst 1, 1) := dk_4 (dk_at dksX3_crewsFrom_5 5 rfl rfl)
theorem dX3_crewsFrom_124 : decode cX3_crewsFrom 124 = .ok (.iadd, 1) := dk_96 (dk_at dksX3_crewsFrom_5 6 rfl rfl)
theorem dX3_crewsFrom_125 : decode cX3_crewsFrom 125 = .ok (.iload_n 2, 1) := dk_28 (dk_at dksX3_crewsFrom_5 7 rfl rfl)
theorem dX3_crewsFrom_126 : decode cX3_crewsFrom 126 = .ok (.iload_n 3, 1) := dk_29 (dk_at dksX3_crewsFrom_5 8 rfl rfl)
theorem dX3_crewsFrom_127 : decode cX3_crewsFrom 127 = .ok (.iconst 1, 1) := dk_4 (dk_at dksX3_crewsFrom_5 9 rfl rfl)
theorem dX3_crewsFrom_128 : decode cX3_crewsFrom 128 = .ok (.iadd, 1) := dk_96 (dk_at dksX3_crewsFrom_5 10 rfl rfl)
theorem dX3_crewsFrom_129 : decode cX3_crewsFrom 129 = .ok (.iload 4, 2) := dk_21 4 (dk_at dksX3_crewsFrom_5 11 rfl rfl)
theorem dX3_crewsFrom_131 : decode cX3_crewsFrom 131 = .ok (.invokevirtual 422, 3) := dk_182 1 166 (dk_at dksX3_crewsFrom_5 13 rfl rfl)
theorem dX3_crewsFrom_134 : decode cX3_crewsFrom 134 = .ok (.iinc 5 1, 3) := dk_132 5 1 (dk_at dksX3_crewsFrom_5 16 rfl rfl)
theorem dX3_crewsFrom_137 : decode cX3_crewsFrom 137 = .ok (.goto (-52), 3) := dk_167 255 204 (dk_at dksX3_crewsFrom_5 19 rfl rfl)
theorem dX3_crewsFrom_140 : decode cX3_crewsFrom 140 = .ok (.return_, 1) := dk_177 (dk_at dksX3_crewsFrom_5 22 rfl rfl)
abbrev cX3_crewHolds : ByteArray := prog_13_method_85_code
def yX3_crewHolds : MethodName := ⟨RX3, "crewHolds", "(I)Z"⟩
def dkwX3_crewHolds_2 : List UInt8 := [42, 42, 180, 0, 39, 182, 1, 147, 172]
abbrev dktX3_crewHolds_2 : List UInt8 := dkwX3_crewHolds_2 ++ []
def dkwX3_crewHolds_1 : List UInt8 := [3, 96, 42, 180, 0, 78, 28, 46, 79, 132, 2, 1, 167, 255, 226, 42, 42, 180, 0, 39, 27, 182, 1, 100]
abbrev dktX3_crewHolds_1 : List UInt8 := dkwX3_crewHolds_1 ++ dktX3_crewHolds_2
def dkwX3_crewHolds_0 : List UInt8 := [42, 182, 1, 136, 3, 61, 28, 42, 180, 0, 126, 162, 0, 28, 42, 180, 0, 39, 16, 25, 5, 28, 104, 96]
abbrev dktX3_crewHolds_0 : List UInt8 := dkwX3_crewHolds_0 ++ dktX3_crewHolds_1
theorem dksX3_crewHolds_0 : cX3_crewHolds.data.toList.drop 0 = dktX3_crewHolds_0 := by decide +kernel
theorem dksX3_crewHolds_1 : cX3_crewHolds.data.toList.drop 24 = dktX3_crewHolds_1 := dk_seg dksX3_crewHolds_0 24 rfl rfl
theorem dksX3_crewHolds_2 : cX3_crewHolds.data.toList.drop 48 = dktX3_crewHolds_2 := dk_seg dksX3_crewHolds_1 24 rfl rfl
theorem dX3_crewHolds_0 : decode cX3_crewHolds 0 = .ok (.aload_n 0, 1) := dk_42 (dk_at dksX3_crewHolds_0 0 rfl rfl)
theorem dX3_crewHolds_1 : decode cX3_crewHolds 1 = .ok (.invokevirtual 392, 3) := dk_182 1 136 (dk_at dksX3_crewHolds_0 1 rfl rfl)
theorem dX3_crewHolds_4 : decode cX3_crewHolds 4 = .ok (.iconst 0, 1) := dk_3 (dk_at dksX3_crewHolds_0 4 rfl rfl)
theorem dX3_crewHolds_5 : decode cX3_crewHolds 5 = .ok (.istore_n 2, 1) := dk_61 (dk_at dksX3_crewHolds_0 5 rfl rfl)
theorem dX3_crewHolds_6 : decode cX3_crewHolds 6 = .ok (.iload_n 2, 1) := dk_28 (dk_at dksX3_crewHolds_0 6 rfl rfl)
theorem dX3_crewHolds_7 : decode cX3_crewHolds 7 = .ok (.aload_n 0, 1) := dk_42 (dk_at dksX3_crewHolds_0 7 rfl rfl)
theorem dX3_crewHolds_8 : decode cX3_crewHolds 8 = .ok (.getfield 126, 3) := dk_180 0 126 (dk_at dksX3_crewHolds_0 8 rfl rfl)
theorem dX3_crewHolds_11 : decode cX3_crewHolds 11 = .ok (.if_icmp .ge 28, 3) := dk_162 0 28 (dk_at dksX3_crewHolds_0 11 rfl rfl)
theorem dX3_crewHolds_14 : decode cX3_crewHolds 14 = .ok (.aload_n 0, 1) := dk_42 (dk_at dksX3_crewHolds_0 14 rfl rfl)
theorem dX3_crewHolds_15 : decode cX3_crewHolds 15 = .ok (.getfield 39, 3) := dk_180 0 39 (dk_at dksX3_crewHolds_0 15 rfl rfl)
theorem dX3_crewHolds_18 : decode cX3_crewHolds 18 = .ok (.bipush 25, 2) := dk_16 25 (dk_at dksX3_crewHolds_0 18 rfl rfl)
theorem dX3_crewHolds_20 : decode cX3_crewHolds 20 = .ok (.iconst 2, 1) := dk_5 (dk_at dksX3_crewHolds_0 20 rfl rfl)
theorem dX3_crewHolds_21 : decode cX3_crewHolds 21 = .ok (.iload_n 2, 1) := dk_28 (dk_at dksX3_crewHolds_0 21 rfl rfl)
theorem dX3_crewHolds_22 : decode cX3_crewHolds 22 = .ok (.imul, 1) := dk_104 (dk_at dksX3_crewHolds_0 22 rfl rfl)
theorem dX3_crewHolds_23 : decode cX3_crewHolds 23 = .ok (.iadd, 1) := dk_96 (dk_at dksX3_crewHolds_0 23 rfl rfl)
theorem dX3_crewHolds_24 : decode cX3_crewHolds 24 = .ok (.iconst 0, 1) := dk_3 (dk_at dksX3_crewHolds_1 0 rfl rfl)
theorem dX3_crewHolds_25 : decode cX3_crewHolds 25 = .ok (.iadd, 1) := dk_96 (dk_at dksX3_crewHolds_1 1 rfl rfl)
theorem dX3_crewHolds_26 : decode cX3_crewHolds 26 = .ok (.aload_n 0, 1) := dk_42 (dk_at dksX3_crewHolds_1 2 rfl rfl)
theorem dX3_crewHolds_27 : decode cX3_crewHolds 27 = .ok (.getfield 78, 3) := dk_180 0 78 (dk_at dksX3_crewHolds_1 3 rfl rfl)
theorem dX3_crewHolds_30 : decode cX3_crewHolds 30 = .ok (.iload_n 2, 1) := dk_28 (dk_at dksX3_crewHolds_1 6 rfl rfl)
theorem dX3_crewHolds_31 : decode cX3_crewHolds 31 = .ok (.iaload, 1) := dk_46 (dk_at dksX3_crewHolds_1 7 rfl rfl)
theorem dX3_crewHolds_32 : decode cX3_crewHolds 32 = .ok (.iastore, 1) := dk_79 (dk_at dksX3_crewHolds_1 8 rfl rfl)
theorem dX3_crewHolds_33 : decode cX3_crewHolds 33 = .ok (.iinc 2 1, 3) := dk_132 2 1 (dk_at dksX3_crewHolds_1 9 rfl rfl)
theorem dX3_crewHolds_36 : decode cX3_crewHolds 36 = .ok (.goto (-30), 3) := dk_167 255 226 (dk_at dksX3_crewHolds_1 12 rfl rfl)
theorem dX3_crewHolds_39 : decode cX3_crewHolds 39 = .ok (.aload_n 0, 1) := dk_42 (dk_at dksX3_crewHolds_1 15 rfl rfl)
theorem dX3_crewHolds_40 : decode cX3_crewHolds 40 = .ok (.aload_n 0, 1) := dk_42 (dk_at dksX3_crewHolds_1 16 rfl rfl)
theorem dX3_crewHolds_41 : decode cX3_crewHolds 41 = .ok (.getfield 39, 3) := dk_180 0 39 (dk_at dksX3_crewHolds_1 17 rfl rfl)
theorem dX3_crewHolds_44 : decode cX3_crewHolds 44 = .ok (.iload_n 1, 1) := dk_27 (dk_at dksX3_crewHolds_1 20 rfl rfl)
theorem dX3_crewHolds_45 : decode cX3_crewHolds 45 = .ok (.invokevirtual 356, 3) := dk_182 1 100 (dk_at dksX3_crewHolds_1 21 rfl rfl)
theorem dX3_crewHolds_48 : decode cX3_crewHolds 48 = .ok (.aload_n 0, 1) := dk_42 (dk_at dksX3_crewHolds_2 0 rfl rfl)
theorem dX3_crewHolds_49 : decode cX3_crewHolds 49 = .ok (.aload_n 0, 1) := dk_42 (dk_at dksX3_crewHolds_2 1 rfl rfl)
theorem dX3_crewHolds_50 : decode cX3_crewHolds 50 = .ok (.getfield 39, 3) := dk_180 0 39 (dk_at dksX3_crewHolds_2 2 rfl rfl)
theorem dX3_crewHolds_53 : decode cX3_crewHolds 53 = .ok (.invokevirtual 403, 3) := dk_182 1 147 (dk_at dksX3_crewHolds_2 5 rfl rfl)
theorem dX3_crewHolds_56 : decode cX3_crewHolds 56 = .ok (.ireturn, 1) := dk_172 (dk_at dksX3_crewHolds_2 8 rfl rfl)
abbrev cX3_post : ByteArray := prog_13_method_88_code
def yX3_post : MethodName := ⟨RX3, "post", "(II)I"⟩
def dkwX3_post_8 : List UInt8 := [96, 133, 182, 1, 103, 29, 172]
abbrev dktX3_post_8 : List UInt8 := dkwX3_post_8 ++ []
def dkwX3_post_7 : List UInt8 := [21, 7, 184, 1, 3, 54, 4, 132, 5, 1, 167, 255, 133, 42, 3, 181, 0, 119, 42, 17, 3, 232, 21, 4]
abbrev dktX3_post_7 : List UInt8 := dkwX3_post_7 ++ dktX3_post_8
def dkwX3_post_6 : List UInt8 := [54, 7, 132, 8, 1, 167, 255, 224, 21, 7, 21, 4, 164, 0, 8, 21, 5, 167, 0, 4, 29, 62, 21, 4]
abbrev dktX3_post_6 : List UInt8 := dkwX3_post_6 ++ dktX3_post_7
def dkwX3_post_5 : List UInt8 := [180, 0, 13, 162, 0, 29, 21, 7, 42, 42, 180, 0, 39, 21, 8, 182, 1, 35, 21, 6, 100, 184, 0, 142]
abbrev dktX3_post_5 : List UInt8 := dkwX3_post_5 ++ dktX3_post_6
def dkwX3_post_4 : List UInt8 := [180, 0, 39, 16, 42, 46, 182, 1, 60, 54, 6, 19, 1, 170, 54, 7, 3, 54, 8, 21, 8, 42]
abbrev dktX3_post_4 : List UInt8 := dkwX3_post_4 ++ dktX3_post_5
def dkwX3_post_3 : List UInt8 := [5, 27, 104, 96, 3, 96, 21, 5, 79, 42, 42, 180, 0, 39, 28, 182, 1, 100, 42, 42, 180, 0, 39, 42]
abbrev dktX3_post_3 : List UInt8 := dkwX3_post_3 ++ dktX3_post_4
def dkwX3_post_2 : List UInt8 := [54, 4, 3, 54, 5, 21, 5, 42, 180, 0, 13, 162, 0, 120, 42, 182, 1, 136, 42, 180, 0, 39, 16, 25]
abbrev dktX3_post_2 : List UInt8 := dkwX3_post_2 ++ dktX3_post_3
def dkwX3_post_1 : List UInt8 := [154, 0, 5, 2, 172, 42, 180, 0, 36, 27, 184, 1, 21, 154, 0, 6, 16, 254, 172, 2, 62, 19, 1, 171]
abbrev dktX3_post_1 : List UInt8 := dkwX3_post_1 ++ dktX3_post_2
def dkwX3_post_0 : List UInt8 := [42, 3, 181, 0, 112, 42, 27, 182, 1, 38, 153, 0, 15, 28, 133, 10, 20, 1, 46, 184, 0, 122]
abbrev dktX3_post_0 : List UInt8 := dkwX3_post_0 ++ dktX3_post_1
theorem dksX3_post_0 : cX3_post.data.toList.drop 0 = dktX3_post_0 := by decide +kernel
theorem dksX3_post_1 : cX3_post.data.toList.drop 22 = dktX3_post_1 := dk_seg dksX3_post_0 22 rfl rfl
theorem dksX3_post_2 : cX3_post.data.toList.drop 46 = dktX3_post_2 := dk_seg dksX3_post_1 24 rfl rfl
theorem dksX3_post_3 : cX3_post.data.toList.drop 70 = dktX3_post_3 := dk_seg dksX3_post_2 24 rfl rfl
theorem dksX3_post_4 : cX3_post.data.toList.drop 94 = dktX3_post_4 := dk_seg dksX3_post_3 24 rfl rfl
theorem dksX3_post_5 : cX3_post.data.toList.drop 116 = dktX3_post_5 := dk_seg dksX3_post_4 22 rfl rfl
theorem dksX3_post_6 : cX3_post.data.toList.drop 140 = dktX3_post_6 := dk_seg dksX3_post_5 24 rfl rfl
theorem dksX3_post_7 : cX3_post.data.toList.drop 164 = dktX3_post_7 := dk_seg dksX3_post_6 24 rfl rfl
theorem dksX3_post_8 : cX3_post.data.toList.drop 188 = dktX3_post_8 := dk_seg dksX3_post_7 24 rfl rfl
theorem dX3_post_0 : decode cX3_post 0 = .ok (.aload_n 0, 1) := dk_42 (dk_at dksX3_post_0 0 rfl rfl)
theorem dX3_post_1 : decode cX3_post 1 = .ok (.iconst 0, 1) := dk_3 (dk_at dksX3_post_0 1 rfl rfl)
theorem dX3_post_2 : decode cX3_post 2 = .ok (.putfield 112, 3) := dk_181 0 112 (dk_at dksX3_post_0 2 rfl rfl)
theorem dX3_post_5 : decode cX3_post 5 = .ok (.aload_n 0, 1) := dk_42 (dk_at dksX3_post_0 5 rfl rfl)
theorem dX3_post_6 : decode cX3_post 6 = .ok (.iload_n 1, 1) := dk_27 (dk_at dksX3_post_0 6 rfl rfl)
theorem dX3_post_7 : decode cX3_post 7 = .ok (.invokevirtual 294, 3) := dk_182 1 38 (dk_at dksX3_post_0 7 rfl rfl)
theorem dX3_post_10 : decode cX3_post 10 = .ok (.ifCond .eq 15, 3) := dk_153 0 15 (dk_at dksX3_post_0 10 rfl rfl)
theorem dX3_post_13 : decode cX3_post 13 = .ok (.iload_n 2, 1) := dk_28 (dk_at dksX3_post_0 13 rfl rfl)
theorem dX3_post_14 : decode cX3_post 14 = .ok (.i2l, 1) := dk_133 (dk_at dksX3_post_0 14 rfl rfl)
theorem dX3_post_15 : decode cX3_post 15 = .ok (.lconst 1, 1) := dk_10 (dk_at dksX3_post_0 15 rfl rfl)
theorem dX3_post_16 : decode cX3_post 16 = .ok (.ldc2_w 302, 3) := dk_20 1 46 (dk_at dksX3_post_0 16 rfl rfl)
theorem dX3_post_19 : decode cX3_post 19 = .ok (.invokestatic 122, 3) := dk_184 0 122 (dk_at dksX3_post_0 19 rfl rfl)
theorem dX3_post_22 : decode cX3_post 22 = .ok (.ifCond .ne 5, 3) := dk_154 0 5 (dk_at dksX3_post_1 0 rfl rfl)
theorem dX3_post_25 : decode cX3_post 25 = .ok (.iconst (-1), 1) := dk_2 (dk_at dksX3_post_1 3 rfl rfl)
theorem dX3_post_26 : decode cX3_post 26 = .ok (.ireturn, 1) := dk_172 (dk_at dksX3_post_1 4 rfl rfl)
theorem dX3_post_27 : decode cX3_post 27 = .ok (.aload_n 0, 1) := dk_42 (dk_at dksX3_post_1 5 rfl rfl)
theorem dX3_post_28 : decode cX3_post 28 = .ok (.getfield 36, 3) := dk_180 0 36 (dk_at dksX3_post_1 6 rfl rfl)
theorem dX3_post_31 : decode cX3_post 31 = .ok (.iload_n 1, 1) := dk_27 (dk_at dksX3_post_1 9 rfl rfl)
theorem dX3_post_32 : decode cX3_post 32 = .ok (.invokestatic 277, 3) := dk_184 1 21 (dk_at dksX3_post_1 10 rfl rfl)
theorem dX3_post_35 : decode cX3_post 35 = .ok (.ifCond .ne 6, 3) := dk_154 0 6 (dk_at dksX3_post_1 13 rfl rfl)
theorem dX3_post_38 : decode cX3_post 38 = .ok (.bipush (-2), 2) := dk_16 254 (dk_at dksX3_post_1 16 rfl rfl)
theorem dX3_post_40 : decode cX3_post 40 = .ok (.ireturn, 1) := dk_172 (dk_at dksX3_post_1 18 rfl rfl)
theorem dX3_post_41 : decode cX3_post 41 = .ok (.iconst (-1), 1) := dk_2 (dk_at dksX3_post_1 19 rfl rfl)
theorem dX3_post_42 : decode cX3_post 42 = .ok (.istore_n 3, 1) := dk_62 (dk_at dksX3_post_1 20 rfl rfl)
theorem dX3_post_43 : decode cX3_post 43 = .ok (.ldc_w 427, 3) := dk_19 1 171 (dk_at dksX3_post_1 21 rfl rfl)
theorem dX3_post_46 : decode cX3_post 46 = .ok (.istore 4, 2) := dk_54 4 (dk_at dksX3_post_2 0 rfl rfl)
theorem dX3_post_48 : decode cX3_post 48 = .ok (.iconst 0, 1) := dk_3 (dk_at dksX3_post_2 2 rfl rfl)
theorem dX3_post_49 : decode cX3_post 49 = .ok (.istore 5, 2) := dk_54 5 (dk_at dksX3_post_2 3 rfl rfl)
theorem dX3_post_51 : decode cX3_post 51 = .ok (.iload 5, 2) := dk_21 5 (dk_at dksX3_post_2 5 rfl rfl)
theorem dX3_post_53 : decode cX3_post 53 = .ok (.aload_n 0, 1) := dk_42 (dk_at dksX3_post_2 7 rfl rfl)
theorem dX3_post_54 : decode cX3_post 54 = .ok (.getfield 13, 3) := dk_180 0 13 (dk_at dksX3_post_2 8 rfl rfl)
theorem dX3_post_57 : decode cX3_post 57 = .ok (.if_icmp .ge 120, 3) := dk_162 0 120 (dk_at dksX3_post_2 11 rfl rfl)
theorem dX3_post_60 : decode cX3_post 60 = .ok (.aload_n 0, 1) := dk_42 (dk_at dksX3_post_2 14 rfl rfl)
theorem dX3_post_61 : decode cX3_post 61 = .ok (.invokevirtual 392, 3) := dk_182 1 136 (dk_at dksX3_post_2 15 rfl rfl)
theorem dX3_post_64 : decode cX3_post 64 = .ok (.aload_n 0, 1) := dk_42 (dk_at dksX3_post_2 18 rfl rfl)
theorem dX3_post_65 : decode cX3_post 65 = .ok (.getfield 39, 3) := dk_180 0 39 (dk_at dksX3_post_2 19 rfl rfl)
theorem dX3_post_68 : decode cX3_post 68 = .ok (.bipush 25, 2) := dk_16 25 (dk_at dksX3_post_2 22 rfl rfl)
theorem dX3_post_70 : decode cX3_post 70 = .ok (.iconst 2, 1) := dk_5 (dk_at dksX3_post_3 0 rfl rfl)
theorem dX3_post_71 : decode cX3_post 71 = .ok (.iload_n 1, 1) := dk_27 (dk_at dksX3_post_3 1 rfl rfl)
theorem dX3_post_72 : decode cX3_post 72 = .ok (.imul, 1) := dk_104 (dk_at dksX3_post_3 2 rfl rfl)
theorem dX3_post_73 : decode cX3_post 73 = .ok (.iadd, 1) := dk_96 (dk_at dksX3_post_3 3 rfl rfl)
theorem dX3_post_74 : decode cX3_post 74 = .ok (.iconst 0, 1) := dk_3 (dk_at dksX3_post_3 4 rfl rfl)
theorem dX3_post_75 : decode cX3_post 75 = .ok (.iadd, 1) := dk_96 (dk_at dksX3_post_3 5 rfl rfl)
theorem dX3_post_76 : decode cX3_post 76 = .ok (.iload 5, 2) := dk_21 5 (dk_at dksX3_post_3 6 rfl rfl)
theorem dX3_post_78 : decode cX3_post 78 = .ok (.iastore, 1) := dk_79 (dk_at dksX3_post_3 8 rfl rfl)
theorem dX3_post_79 : decode cX3_post 79 = .ok (.aload_n 0, 1) := dk_42 (dk_at dksX3_post_3 9 rfl rfl)
theorem dX3_post_80 : decode cX3_post 80 = .ok (.aload_n 0, 1) := dk_42 (dk_at dksX3_post_3 10 rfl rfl)
theorem dX3_post_81 : decode cX3_post 81 = .ok (.getfield 39, 3) := dk_180 0 39 (dk_at dksX3_post_3 11 rfl rfl)
theorem dX3_post_84 : decode cX3_post 84 = .ok (.iload_n 2, 1) := dk_28 (dk_at dksX3_post_3 14 rfl rfl)
theorem dX3_post_85 : decode cX3_post 85 = .ok (.invokevirtual 356, 3) := dk_182 1 100 (dk_at dksX3_post_3 15 rfl rfl)
theorem dX3_post_88 : decode cX3_post 88 = .ok (.aload_n 0, 1) := dk_42 (dk_at dksX3_post_3 18 rfl rfl)
theorem dX3_post_89 : decode cX3_post 89 = .ok (.aload_n 0, 1) := dk_42 (dk_at dksX3_post_3 19 rfl rfl)
theorem dX3_post_90 : decode cX3_post 90 = .ok (.getfield 39, 3) := dk_180 0 39 (dk_at dksX3_post_3 20 rfl rfl)
theorem dX3_post_93 : decode cX3_post 93 = .ok (.aload_n 0, 1) := dk_42 (dk_at dksX3_post_3 23 rfl rfl)
theorem dX3_post_94 : decode cX3_post 94 = .ok (.getfield 39, 3) := dk_180 0 39 (dk_at dksX3_post_4 0 rfl rfl)
theorem dX3_post_97 : decode cX3_post 97 = .ok (.bipush 42, 2) := dk_16 42 (dk_at dksX3_post_4 3 rfl rfl)
theorem dX3_post_99 : decode cX3_post 99 = .ok (.iaload, 1) := dk_46 (dk_at dksX3_post_4 5 rfl rfl)
theorem dX3_post_100 : decode cX3_post 100 = .ok (.invokevirtual 316, 3) := dk_182 1 60 (dk_at dksX3_post_4 6 rfl rfl)
theorem dX3_post_103 : decode cX3_post 103 = .ok (.istore 6, 2) := dk_54 6 (dk_at dksX3_post_4 9 rfl rfl)
theorem dX3_post_105 : decode cX3_post 105 = .ok (.ldc_w 426, 3) := dk_19 1 170 (dk_at dksX3_post_4 11 rfl rfl)
theorem dX3_post_108 : decode cX3_post 108 = .ok (.istore 7, 2) := dk_54 7 (dk_at dksX3_post_4 14 rfl rfl)
theorem dX3_post_110 : decode cX3_post 110 = .ok (.iconst 0, 1) := dk_3 (dk_at dksX3_post_4 16 rfl rfl)
theorem dX3_post_111 : decode cX3_post 111 = .ok (.istore 8, 2) := dk_54 8 (dk_at dksX3_post_4 17 rfl rfl)
theorem dX3_post_113 : decode cX3_post 113 = .ok (.iload 8, 2) := dk_21 8 (dk_at dksX3_post_4 19 rfl rfl)
theorem dX3_post_115 : decode cX3_post 115 = .ok (.aload_n 0, 1) := dk_42 (dk_at dksX3_post_4 21 rfl rfl)
theorem dX3_post_116 : decode cX3_post 116 = .ok (.getfield 13, 3) := dk_180 0 13 (dk_at dksX3_post_5 0 rfl rfl)
theorem dX3_post_119 : decode cX3_post 119 = .ok (.if_icmp .ge 29, 3) := dk_162 0 29 (dk_at dksX3_post_5 3 rfl rfl)
theorem dX3_post_122 : decode cX3_post 122 = .ok (.iload 7, 2) := dk_21 7 (dk_at dksX3_post_5 6 rfl rfl)
theorem dX3_post_124 : decode cX3_post 124 = .ok (.aload_n 0, 1) := dk_42 (dk_at dksX3_post_5 8 rfl rfl)
theorem dX3_post_125 : decode cX3_post 125 = .ok (.aload_n 0, 1) := dk_42 (dk_at dksX3_post_5 9 rfl rfl)
theorem dX3_post_126 : decode cX3_post 126 = .ok (.getfield 39, 3) := dk_180 0 39 (dk_at dksX3_post_5 10 rfl rfl)
theorem dX3_post_129 : decode cX3_post 129 = .ok (.iload 8, 2) := dk_21 8 (dk_at dksX3_post_5 13 rfl rfl)
theorem dX3_post_131 : decode cX3_post 131 = .ok (.invokevirtual 291, 3) := dk_182 1 35 (dk_at dksX3_post_5 15 rfl rfl)
theorem dX3_post_134 : decode cX3_post 134 = .ok (.iload 6, 2) := dk_21 6 (dk_at dksX3_post_5 18 rfl rfl)
theorem dX3_post_136 : decode cX3_post 136 = .ok (.isub, 1) := dk_100 (dk_at dksX3_post_5 20 rfl rfl)
theorem dX3_post_137 : decode cX3_post 137 = .ok (.invokestatic 142, 3) := dk_184 0 142 (dk_at dksX3_post_5 21 rfl rfl)
theorem dX3_post_140 : decode cX3_post 140 = .ok (.istore 7, 2) := dk_54 7 (dk_at dksX3_post_6 0 rfl rfl)
theorem dX3_post_142 : decode cX3_post 142 = .ok (.iinc 8 1, 3) := dk_132 8 1 (dk_at dksX3_post_6 2 rfl rfl)
theorem dX3_post_145 : decode cX3_post 145 = .ok (.goto (-32), 3) := dk_167 255 224 (dk_at dksX3_post_6 5 rfl rfl)
theorem dX3_post_148 : decode cX3_post 148 = .ok (.iload 7, 2) := dk_21 7 (dk_at dksX3_post_6 8 rfl rfl)
theorem dX3_post_150 : decode cX3_post 150 = .ok (.iload 4, 2) := dk_21 4 (dk_at dksX3_post_6 10 rfl rfl)
theorem dX3_post_152 : decode cX3_post 152 = .ok (.if_icmp .le 8, 3) := dk_164 0 8 (dk_at dksX3_post_6 12 rfl rfl)
theorem dX3_post_155 : decode cX3_post 155 = .ok (.iload 5, 2) := dk_21 5 (dk_at dksX3_post_6 15 rfl rfl)
theorem dX3_post_157 : decode cX3_post 157 = .ok (.goto 4, 3) := dk_167 0 4 (dk_at dksX3_post_6 17 rfl rfl)
theorem dX3_post_160 : decode cX3_post 160 = .ok (.iload_n 3, 1) := dk_29 (dk_at dksX3_post_6 20 rfl rfl)
theorem dX3_post_161 : decode cX3_post 161 = .ok (.istore_n 3, 1) := dk_62 (dk_at dksX3_post_6 21 rfl rfl)
theorem dX3_post_162 : decode cX3_post 162 = .ok (.iload 4, 2) := dk_21 4 (dk_at dksX3_post_6 22 rfl rfl)
theorem dX3_post_164 : decode cX3_post 164 = .ok (.iload 7, 2) := dk_21 7 (dk_at dksX3_post_7 0 rfl rfl)
theorem dX3_post_166 : decode cX3_post 166 = .ok (.invokestatic 259, 3) := dk_184 1 3 (dk_at dksX3_post_7 2 rfl rfl)
theorem dX3_post_169 : decode cX3_post 169 = .ok (.istore 4, 2) := dk_54 4 (dk_at dksX3_post_7 5 rfl rfl)
theorem dX3_post_171 : decode cX3_post 171 = .ok (.iinc 5 1, 3) := dk_132 5 1 (dk_at dksX3_post_7 7 rfl rfl)
theorem dX3_post_174 : decode cX3_post 174 = .ok (.goto (-123), 3) := dk_167 255 133 (dk_at dksX3_post_7 10 rfl rfl)
theorem dX3_post_177 : decode cX3_post 177 = .ok (.aload_n 0, 1) := dk_42 (dk_at dksX3_post_7 13 rfl rfl)
theorem dX3_post_178 : decode cX3_post 178 = .ok (.iconst 0, 1) := dk_3 (dk_at dksX3_post_7 14 rfl rfl)
theorem dX3_post_179 : decode cX3_post 179 = .ok (.putfield 119, 3) := dk_181 0 119 (dk_at dksX3_post_7 15 rfl rfl)
theorem dX3_post_182 : decode cX3_post 182 = .ok (.aload_n 0, 1) := dk_42 (dk_at dksX3_post_7 18 rfl rfl)
theorem dX3_post_183 : decode cX3_post 183 = .ok (.sipush 1000, 3) := dk_17 3 232 (dk_at dksX3_post_7 19 rfl rfl)
theorem dX3_post_186 : decode cX3_post 186 = .ok (.iload 4, 2) := dk_21 4 (dk_at dksX3_post_7 22 rfl rfl)
theorem dX3_post_188 : decode cX3_post 188 = .ok (.iadd, 1) := dk_96 (dk_at dksX3_post_8 0 rfl rfl)
theorem dX3_post_189 : decode cX3_post 189 = .ok (.i2l, 1) := dk_133 (dk_at dksX3_post_8 1 rfl rfl)
theorem dX3_post_190 : decode cX3_post 190 = .ok (.invokevirtual 359, 3) := dk_182 1 103 (dk_at dksX3_post_8 2 rfl rfl)
theorem dX3_post_193 : decode cX3_post 193 = .ok (.iload_n 3, 1) := dk_29 (dk_at dksX3_post_8 5 rfl rfl)
theorem dX3_post_194 : decode cX3_post 194 = .ok (.ireturn, 1) := dk_172 (dk_at dksX3_post_8 6 rfl rfl)
abbrev cX3_moats : ByteArray := prog_13_method_89_code
def yX3_moats : MethodName := ⟨RX3, "moats", "(I)I"⟩
def dkwX3_moats_4 : List UInt8 := [62, 132, 4, 1, 167, 255, 194, 42, 3, 181, 0, 119, 42, 28, 133, 182, 1, 103, 29, 172]
abbrev dktX3_moats_4 : List UInt8 := dkwX3_moats_4 ++ []
def dkwX3_moats_3 : List UInt8 := [182, 1, 139, 54, 5, 21, 5, 29, 164, 0, 8, 21, 4, 167, 0, 4, 28, 61, 29, 21, 5, 184, 1, 3]
abbrev dktX3_moats_3 : List UInt8 := dkwX3_moats_3 ++ dktX3_moats_4
def dkwX3_moats_2 : List UInt8 := [21, 4, 184, 0, 251, 27, 160, 0, 42, 42, 182, 1, 136, 42, 180, 0, 39, 16, 12, 21, 4, 79, 42]
abbrev dktX3_moats_2 : List UInt8 := dkwX3_moats_2 ++ dktX3_moats_3
def dkwX3_moats_1 : List UInt8 := [164, 0, 6, 16, 254, 172, 2, 61, 2, 62, 3, 54, 4, 21, 4, 4, 42, 180, 0, 13, 120, 162, 0, 57]
abbrev dktX3_moats_1 : List UInt8 := dkwX3_moats_1 ++ dktX3_moats_2
def dkwX3_moats_0 : List UInt8 := [42, 3, 181, 0, 112, 27, 133, 9, 20, 1, 172, 184, 0, 122, 154, 0, 5, 2, 172, 27, 42, 180, 0, 13]
abbrev dktX3_moats_0 : List UInt8 := dkwX3_moats_0 ++ dktX3_moats_1
theorem dksX3_moats_0 : cX3_moats.data.toList.drop 0 = dktX3_moats_0 := by decide +kernel
theorem dksX3_moats_1 : cX3_moats.data.toList.drop 24 = dktX3_moats_1 := dk_seg dksX3_moats_0 24 rfl rfl
theorem dksX3_moats_2 : cX3_moats.data.toList.drop 48 = dktX3_moats_2 := dk_seg dksX3_moats_1 24 rfl rfl
theorem dksX3_moats_3 : cX3_moats.data.toList.drop 71 = dktX3_moats_3 := dk_seg dksX3_moats_2 23 rfl rfl
theorem dksX3_moats_4 : cX3_moats.data.toList.drop 95 = dktX3_moats_4 := dk_seg dksX3_moats_3 24 rfl rfl
theorem dX3_moats_0 : decode cX3_moats 0 = .ok (.aload_n 0, 1) := dk_42 (dk_at dksX3_moats_0 0 rfl rfl)
theorem dX3_moats_1 : decode cX3_moats 1 = .ok (.iconst 0, 1) := dk_3 (dk_at dksX3_moats_0 1 rfl rfl)
theorem dX3_moats_2 : decode cX3_moats 2 = .ok (.putfield 112, 3) := dk_181 0 112 (dk_at dksX3_moats_0 2 rfl rfl)
theorem dX3_moats_5 : decode cX3_moats 5 = .ok (.iload_n 1, 1) := dk_27 (dk_at dksX3_moats_0 5 rfl rfl)
theorem dX3_moats_6 : decode cX3_moats 6 = .ok (.i2l, 1) := dk_133 (dk_at dksX3_moats_0 6 rfl rfl)
theorem dX3_moats_7 : decode cX3_moats 7 = .ok (.lconst 0, 1) := dk_9 (dk_at dksX3_moats_0 7 rfl rfl)
theorem dX3_moats_8 : decode cX3_moats 8 = .ok (.ldc2_w 428, 3) := dk_20 1 172 (dk_at dksX3_moats_0 8 rfl rfl)
theorem dX3_moats_11 : decode cX3_moats 11 = .ok (.invokestatic 122, 3) := dk_184 0 122 (dk_at dksX3_moats_0 11 rfl rfl)
theorem dX3_moats_14 : decode cX3_moats 14 = .ok (.ifCond .ne 5, 3) := dk_154 0 5 (dk_at dksX3_moats_0 14 rfl rfl)
theorem dX3_moats_17 : decode cX3_moats 17 = .ok (.iconst (-1), 1) := dk_2 (dk_at dksX3_moats_0 17 rfl rfl)
theorem dX3_moats_18 : decode cX3_moats 18 = .ok (.ireturn, 1) := dk_172 (dk_at dksX3_moats_0 18 rfl rfl)
theorem dX3_moats_19 : decode cX3_moats 19 = .ok (.iload_n 1, 1) := dk_27 (dk_at dksX3_moats_0 19 rfl rfl)
theorem dX3_moats_20 : decode cX3_moats 20 = .ok (.aload_n 0, 1) := dk_42 (dk_at dksX3_moats_0 20 rfl rfl)
theorem dX3_moats_21 : decode cX3_moats 21 = .ok (.getfield 13, 3) := dk_180 0 13 (dk_at dksX3_moats_0 21 rfl rfl)
theorem dX3_moats_24 : decode cX3_moats 24 = .ok (.if_icmp .le 6, 3) := dk_164 0 6 (dk_at dksX3_moats_1 0 rfl rfl)
theorem dX3_moats_27 : decode cX3_moats 27 = .ok (.bipush (-2), 2) := dk_16 254 (dk_at dksX3_moats_1 3 rfl rfl)
theorem dX3_moats_29 : decode cX3_moats 29 = .ok (.ireturn, 1) := dk_172 (dk_at dksX3_moats_1 5 rfl rfl)
theorem dX3_moats_30 : decode cX3_moats 30 = .ok (.iconst (-1), 1) := dk_2 (dk_at dksX3_moats_1 6 rfl rfl)
theorem dX3_moats_31 : decode cX3_moats 31 = .ok (.istore_n 2, 1) := dk_61 (dk_at dksX3_moats_1 7 rfl rfl)
theorem dX3_moats_32 : decode cX3_moats 32 = .ok (.iconst (-1), 1) := dk_2 (dk_at dksX3_moats_1 8 rfl rfl)
theorem dX3_moats_33 : decode cX3_moats 33 = .ok (.istore_n 3, 1) := dk_62 (dk_at dksX3_moats_1 9 rfl rfl)
theorem dX3_moats_34 : decode cX3_moats 34 = .ok (.iconst 0, 1) := dk_3 (dk_at dksX3_moats_1 10 rfl rfl)
theorem dX3_moats_35 : decode cX3_moats 35 = .ok (.istore 4, 2) := dk_54 4 (dk_at dksX3_moats_1 11 rfl rfl)
theorem dX3_moats_37 : decode cX3_moats 37 = .ok (.iload 4, 2) := dk_21 4 (dk_at dksX3_moats_1 13 rfl rfl)
theorem dX3_moats_39 : decode cX3_moats 39 = .ok (.iconst 1, 1) := dk_4 (dk_at dksX3_moats_1 15 rfl rfl)
theorem dX3_moats_40 : decode cX3_moats 40 = .ok (.aload_n 0, 1) := dk_42 (dk_at dksX3_moats_1 16 rfl rfl)
theorem dX3_moats_41 : decode cX3_moats 41 = .ok (.getfield 13, 3) := dk_180 0 13 (dk_at dksX3_moats_1 17 rfl rfl)
theorem dX3_moats_44 : decode cX3_moats 44 = .ok (.ishl, 1) := dk_120 (dk_at dksX3_moats_1 20 rfl rfl)
theorem dX3_moats_45 : decode cX3_moats 45 = .ok (.if_icmp .ge 57, 3) := dk_162 0 57 (dk_at dksX3_moats_1 21 rfl rfl)
theorem dX3_moats_48 : decode cX3_moats 48 = .ok (.iload 4, 2) := dk_21 4 (dk_at dksX3_moats_2 0 rfl rfl)
theorem dX3_moats_50 : decode cX3_moats 50 = .ok (.invokestatic 251, 3) := dk_184 0 251 (dk_at dksX3_moats_2 2 rfl rfl)
theorem dX3_moats_53 : decode cX3_moats 53 = .ok (.iload_n 1, 1) := dk_27 (dk_at dksX3_moats_2 5 rfl rfl)
theorem dX3_moats_54 : decode cX3_moats 54 = .ok (.if_icmp .ne 42, 3) := dk_160 0 42 (dk_at dksX3_moats_2 6 rfl rfl)
theorem dX3_moats_57 : decode cX3_moats 57 = .ok (.aload_n 0, 1) := dk_42 (dk_at dksX3_moats_2 9 rfl rfl)
theorem dX3_moats_58 : decode cX3_moats 58 = .ok (.invokevirtual 392, 3) := dk_182 1 136 (dk_at dksX3_moats_2 10 rfl rfl)
theorem dX3_moats_61 : decode cX3_moats 61 = .ok (.aload_n 0, 1) := dk_42 (dk_at dksX3_moats_2 13 rfl rfl)
theorem dX3_moats_62 : decode cX3_moats 62 = .ok (.getfield 39, 3) := dk_180 0 39 (dk_at dksX3_moats_2 14 rfl rfl)
theorem dX3_moats_65 : decode cX3_moats 65 = .ok (.bipush 12, 2) := dk_16 12 (dk_at dksX3_moats_2 17 rfl rfl)
theorem dX3_moats_67 : decode cX3_moats 67 = .ok (.iload 4, 2) := dk_21 4 (dk_at dksX3_moats_2 19 rfl rfl)
theorem dX3_moats_69 : decode cX3_moats 69 = .ok (.iastore, 1) := dk_79 (dk_at dksX3_moats_2 21 rfl rfl)
theorem dX3_moats_70 : decode cX3_moats 70 = .ok (.aload_n 0, 1) := dk_42 (dk_at dksX3_moats_2 22 rfl rfl)
theorem dX3_moats_71 : decode cX3_moats 71 = .ok (.invokevirtual 395, 3) := dk_182 1 139 (dk_at dksX3_moats_3 0 rfl rfl)
theorem dX3_moats_74 : decode cX3_moats 74 = .ok (.istore 5, 2) := dk_54 5 (dk_at dksX3_moats_3 3 rfl rfl)
theorem dX3_moats_76 : decode cX3_moats 76 = .ok (.iload 5, 2) := dk_21 5 (dk_at dksX3_moats_3 5 rfl rfl)
theorem dX3_moats_78 : decode cX3_moats 78 = .ok (.iload_n 3, 1) := dk_29 (dk_at dksX3_moats_3 7 rfl rfl)
theorem dX3_moats_79 : decode cX3_moats 79 = .ok (.if_icmp .le 8, 3) := dk_164 0 8 (dk_at dksX3_moats_3 8 rfl rfl)
theorem dX3_moats_82 : decode cX3_moats 82 = .ok (.iload 4, 2) := dk_21 4 (dk_at dksX3_moats_3 11 rfl rfl)
theorem dX3_moats_84 : decode cX3_moats 84 = .ok (.goto 4, 3) := dk_167 0 4 (dk_at dksX3_moats_3 13 rfl rfl)
theorem dX3_moats_87 : decode cX3_moats 87 = .ok (.iload_n 2, 1) := dk_28 (dk_at dksX3_moats_3 16 rfl rfl)
theorem dX3_moats_88 : decode cX3_moats 88 = .ok (.istore_n 2, 1) := dk_61 (dk_at dksX3_moats_3 17 rfl rfl)
theorem dX3_moats_89 : decode cX3_moats 89 = .ok (.iload_n 3, 1) := dk_29 (dk_at dksX3_moats_3 18 rfl rfl)
theorem dX3_moats_90 : decode cX3_moats 90 = .ok (.iload 5, 2) := dk_21 5 (dk_at dksX3_moats_3 19 rfl rfl)
theorem dX3_moats_92 : decode cX3_moats 92 = .ok (.invokestatic 259, 3) := dk_184 1 3 (dk_at dksX3_moats_3 21 rfl rfl)
theorem dX3_moats_95 : decode cX3_moats 95 = .ok (.istore_n 3, 1) := dk_62 (dk_at dksX3_moats_4 0 rfl rfl)
theorem dX3_moats_96 : decode cX3_moats 96 = .ok (.iinc 4 1, 3) := dk_132 4 1 (dk_at dksX3_moats_4 1 rfl rfl)
theorem dX3_moats_99 : decode cX3_moats 99 = .ok (.goto (-62), 3) := dk_167 255 194 (dk_at dksX3_moats_4 4 rfl rfl)
theorem dX3_moats_102 : decode cX3_moats 102 = .ok (.aload_n 0, 1) := dk_42 (dk_at dksX3_moats_4 7 rfl rfl)
theorem dX3_moats_103 : decode cX3_moats 103 = .ok (.iconst 0, 1) := dk_3 (dk_at dksX3_moats_4 8 rfl rfl)
theorem dX3_moats_104 : decode cX3_moats 104 = .ok (.putfield 119, 3) := dk_181 0 119 (dk_at dksX3_moats_4 9 rfl rfl)
theorem dX3_moats_107 : decode cX3_moats 107 = .ok (.aload_n 0, 1) := dk_42 (dk_at dksX3_moats_4 12 rfl rfl)
theorem dX3_moats_108 : decode cX3_moats 108 = .ok (.iload_n 2, 1) := dk_28 (dk_at dksX3_moats_4 13 rfl rfl)
theorem dX3_moats_109 : decode cX3_moats 109 = .ok (.i2l, 1) := dk_133 (dk_at dksX3_moats_4 14 rfl rfl)
theorem dX3_moats_110 : decode cX3_moats 110 = .ok (.invokevirtual 359, 3) := dk_182 1 103 (dk_at dksX3_moats_4 15 rfl rfl)
theorem dX3_moats_113 : decode cX3_moats 113 = .ok (.iload_n 3, 1) := dk_29 (dk_at dksX3_moats_4 18 rfl rfl)
theorem dX3_moats_114 : decode cX3_moats 114 = .ok (.ireturn, 1) := dk_172 (dk_at dksX3_moats_4 19 rfl rfl)
abbrev cX3_spades : ByteArray := prog_13_method_91_code
def yX3_spades : MethodName := ⟨RX3, "spades", "()I"⟩
def dkwX3_spades_5 : List UInt8 := [181, 0, 119, 42, 27, 133, 182, 1, 103, 28, 172]
abbrev dktX3_spades_5 : List UInt8 := dkwX3_spades_5 ++ []
def dkwX3_spades_4 : List UInt8 := [153, 0, 7, 29, 167, 0, 4, 27, 60, 28, 21, 4, 184, 1, 3, 61, 132, 3, 1, 167, 255, 160, 42, 3]
abbrev dktX3_spades_4 : List UInt8 := dkwX3_spades_4 ++ dktX3_spades_5
def dkwX3_spades_3 : List UInt8 := [160, 0, 18, 29, 184, 0, 251, 27, 184, 0, 251, 162, 0, 7, 4, 167, 0, 4, 3, 54, 5, 21, 5]
abbrev dktX3_spades_3 : List UInt8 := dkwX3_spades_3 ++ dktX3_spades_4
def dkwX3_spades_2 : List UInt8 := [2, 167, 0, 11, 42, 42, 180, 0, 39, 182, 1, 174, 54, 4, 21, 4, 28, 163, 0, 20, 21, 4, 28]
abbrev dktX3_spades_2 : List UInt8 := dkwX3_spades_2 ++ dktX3_spades_3
def dkwX3_spades_1 : List UInt8 := [162, 0, 92, 42, 180, 0, 39, 16, 41, 29, 79, 29, 184, 0, 251, 42, 180, 0, 33, 4, 46, 164, 0, 7]
abbrev dktX3_spades_1 : List UInt8 := dkwX3_spades_1 ++ dktX3_spades_2
def dkwX3_spades_0 : List UInt8 := [42, 3, 181, 0, 112, 42, 182, 1, 136, 3, 60, 2, 61, 3, 62, 29, 4, 42, 180, 0, 126, 120]
abbrev dktX3_spades_0 : List UInt8 := dkwX3_spades_0 ++ dktX3_spades_1
theorem dksX3_spades_0 : cX3_spades.data.toList.drop 0 = dktX3_spades_0 := by decide +kernel
theorem dksX3_spades_1 : cX3_spades.data.toList.drop 22 = dktX3_spades_1 := dk_seg dksX3_spades_0 22 rfl rfl
theorem dksX3_spades_2 : cX3_spades.data.toList.drop 46 = dktX3_spades_2 := dk_seg dksX3_spades_1 24 rfl rfl
theorem dksX3_spades_3 : cX3_spades.data.toList.drop 69 = dktX3_spades_3 := dk_seg dksX3_spades_2 23 rfl rfl
theorem dksX3_spades_4 : cX3_spades.data.toList.drop 92 = dktX3_spades_4 := dk_seg dksX3_spades_3 23 rfl rfl
theorem dksX3_spades_5 : cX3_spades.data.toList.drop 116 = dktX3_spades_5 := dk_seg dksX3_spades_4 24 rfl rfl
theorem dX3_spades_0 : decode cX3_spades 0 = .ok (.aload_n 0, 1) := dk_42 (dk_at dksX3_spades_0 0 rfl rfl)
theorem dX3_spades_1 : decode cX3_spades 1 = .ok (.iconst 0, 1) := dk_3 (dk_at dksX3_spades_0 1 rfl rfl)
theorem dX3_spades_2 : decode cX3_spades 2 = .ok (.putfield 112, 3) := dk_181 0 112 (dk_at dksX3_spades_0 2 rfl rfl)
theorem dX3_spades_5 : decode cX3_spades 5 = .ok (.aload_n 0, 1) := dk_42 (dk_at dksX3_spades_0 5 rfl rfl)
theorem dX3_spades_6 : decode cX3_spades 6 = .ok (.invokevirtual 392, 3) := dk_182 1 136 (dk_at dksX3_spades_0 6 rfl rfl)
theorem dX3_spades_9 : decode cX3_spades 9 = .ok (.iconst 0, 1) := dk_3 (dk_at dksX3_spades_0 9 rfl rfl)
theorem dX3_spades_10 : decode cX3_spades 10 = .ok (.istore_n 1, 1) := dk_60 (dk_at dksX3_spades_0 10 rfl rfl)
theorem dX3_spades_11 : decode cX3_spades 11 = .ok (.iconst (-1), 1) := dk_2 (dk_at dksX3_spades_0 11 rfl rfl)
theorem dX3_spades_12 : decode cX3_spades 12 = .ok (.istore_n 2, 1) := dk_61 (dk_at dksX3_spades_0 12 rfl rfl)
theorem dX3_spades_13 : decode cX3_spades 13 = .ok (.iconst 0, 1) := dk_3 (dk_at dksX3_spades_0 13 rfl rfl)
theorem dX3_spades_14 : decode cX3_spades 14 = .ok (.istore_n 3, 1) := dk_62 (dk_at dksX3_spades_0 14 rfl rfl)
theorem dX3_spades_15 : decode cX3_spades 15 = .ok (.iload_n 3, 1) := dk_29 (dk_at dksX3_spades_0 15 rfl rfl)
theorem dX3_spades_16 : decode cX3_spades 16 = .ok (.iconst 1, 1) := dk_4 (dk_at dksX3_spades_0 16 rfl rfl)
theorem dX3_spades_17 : decode cX3_spades 17 = .ok (.aload_n 0, 1) := dk_42 (dk_at dksX3_spades_0 17 rfl rfl)
theorem dX3_spades_18 : decode cX3_spades 18 = .ok (.getfield 126, 3) := dk_180 0 126 (dk_at dksX3_spades_0 18 rfl rfl)
theorem dX3_spades_21 : decode cX3_spades 21 = .ok (.ishl, 1) := dk_120 (dk_at dksX3_spades_0 21 rfl rfl)
theorem dX3_spades_22 : decode cX3_spades 22 = .ok (.if_icmp .ge 92, 3) := dk_162 0 92 (dk_at dksX3_spades_1 0 rfl rfl)
theorem dX3_spades_25 : decode cX3_spades 25 = .ok (.aload_n 0, 1) := dk_42 (dk_at dksX3_spades_1 3 rfl rfl)
theorem dX3_spades_26 : decode cX3_spades 26 = .ok (.getfield 39, 3) := dk_180 0 39 (dk_at dksX3_spades_1 4 rfl rfl)
theorem dX3_spades_29 : decode cX3_spades 29 = .ok (.bipush 41, 2) := dk_16 41 (dk_at dksX3_spades_1 7 rfl rfl)
theorem dX3_spades_31 : decode cX3_spades 31 = .ok (.iload_n 3, 1) := dk_29 (dk_at dksX3_spades_1 9 rfl rfl)
theorem dX3_spades_32 : decode cX3_spades 32 = .ok (.iastore, 1) := dk_79 (dk_at dksX3_spades_1 10 rfl rfl)
theorem dX3_spades_33 : decode cX3_spades 33 = .ok (.iload_n 3, 1) := dk_29 (dk_at dksX3_spades_1 11 rfl rfl)
theorem dX3_spades_34 : decode cX3_spades 34 = .ok (.invokestatic 251, 3) := dk_184 0 251 (dk_at dksX3_spades_1 12 rfl rfl)
theorem dX3_spades_37 : decode cX3_spades 37 = .ok (.aload_n 0, 1) := dk_42 (dk_at dksX3_spades_1 15 rfl rfl)
theorem dX3_spades_38 : decode cX3_spades 38 = .ok (.getfield 33, 3) := dk_180 0 33 (dk_at dksX3_spades_1 16 rfl rfl)
theorem dX3_spades_41 : decode cX3_spades 41 = .ok (.iconst 1, 1) := dk_4 (dk_at dksX3_spades_1 19 rfl rfl)
theorem dX3_spades_42 : decode cX3_spades 42 = .ok (.iaload, 1) := dk_46 (dk_at dksX3_spades_1 20 rfl rfl)
theorem dX3_spades_43 : decode cX3_spades 43 = .ok (.if_icmp .le 7, 3) := dk_164 0 7 (dk_at dksX3_spades_1 21 rfl rfl)
theorem dX3_spades_46 : decode cX3_spades 46 = .ok (.iconst (-1), 1) := dk_2 (dk_at dksX3_spades_2 0 rfl rfl)
theorem dX3_spades_47 : decode cX3_spades 47 = .ok (.goto 11, 3) := dk_167 0 11 (dk_at dksX3_spades_2 1 rfl rfl)
theorem dX3_spades_50 : decode cX3_spades 50 = .ok (.aload_n 0, 1) := dk_42 (dk_at dksX3_spades_2 4 rfl rfl)
theorem dX3_spades_51 : decode cX3_spades 51 = .ok (.aload_n 0, 1) := dk_42 (dk_at dksX3_spades_2 5 rfl rfl)
theorem dX3_spades_52 : decode cX3_spades 52 = .ok (.getfield 39, 3) := dk_180 0 39 (dk_at dksX3_spades_2 6 rfl rfl)
theorem dX3_spades_55 : decode cX3_spades 55 = .ok (.invokevirtual 430, 3) := dk_182 1 174 (dk_at dksX3_spades_2 9 rfl rfl)
theorem dX3_spades_58 : decode cX3_spades 58 = .ok (.istore 4, 2) := dk_54 4 (dk_at dksX3_spades_2 12 rfl rfl)
theorem dX3_spades_60 : decode cX3_spades 60 = .ok (.iload 4, 2) := dk_21 4 (dk_at dksX3_spades_2 14 rfl rfl)
theorem dX3_spades_62 : decode cX3_spades 62 = .ok (.iload_n 2, 1) := dk_28 (dk_at dksX3_spades_2 16 rfl rfl)
theorem dX3_spades_63 : decode cX3_spades 63 = .ok (.if_icmp .gt 20, 3) := dk_163 0 20 (dk_at dksX3_spades_2 17 rfl rfl)
theorem dX3_spades_66 : decode cX3_spades 66 = .ok (.iload 4, 2) := dk_21 4 (dk_at dksX3_spades_2 20 rfl rfl)
theorem dX3_spades_68 : decode cX3_spades 68 = .ok (.iload_n 2, 1) := dk_28 (dk_at dksX3_spades_2 22 rfl rfl)
theorem dX3_spades_69 : decode cX3_spades 69 = .ok (.if_icmp .ne 18, 3) := dk_160 0 18 (dk_at dksX3_spades_3 0 rfl rfl)
theorem dX3_spades_72 : decode cX3_spades 72 = .ok (.iload_n 3, 1) := dk_29 (dk_at dksX3_spades_3 3 rfl rfl)
theorem dX3_spades_73 : decode cX3_spades 73 = .ok (.invokestatic 251, 3) := dk_184 0 251 (dk_at dksX3_spades_3 4 rfl rfl)
theorem dX3_spades_76 : decode cX3_spades 76 = .ok (.iload_n 1, 1) := dk_27 (dk_at dksX3_spades_3 7 rfl rfl)
theorem dX3_spades_77 : decode cX3_spades 77 = .ok (.invokestatic 251, 3) := dk_184 0 251 (dk_at dksX3_spades_3 8 rfl rfl)
theorem dX3_spades_80 : decode cX3_spades 80 = .ok (.if_icmp .ge 7, 3) := dk_162 0 7 (dk_at dksX3_spades_3 11 rfl rfl)
theorem dX3_spades_83 : decode cX3_spades 83 = .ok (.iconst 1, 1) := dk_4 (dk_at dksX3_spades_3 14 rfl rfl)
theorem dX3_spades_84 : decode cX3_spades 84 = .ok (.goto 4, 3) := dk_167 0 4 (dk_at dksX3_spades_3 15 rfl rfl)
theorem dX3_spades_87 : decode cX3_spades 87 = .ok (.iconst 0, 1) := dk_3 (dk_at dksX3_spades_3 18 rfl rfl)
theorem dX3_spades_88 : decode cX3_spades 88 = .ok (.istore 5, 2) := dk_54 5 (dk_at dksX3_spades_3 19 rfl rfl)
theorem dX3_spades_90 : decode cX3_spades 90 = .ok (.iload 5, 2) := dk_21 5 (dk_at dksX3_spades_3 21 rfl rfl)
theorem dX3_spades_92 : decode cX3_spades 92 = .ok (.ifCond .eq 7, 3) := dk_153 0 7 (dk_at dksX3_spades_4 0 rfl rfl)
theorem dX3_spades_95 : decode cX3_spades 95 = .ok (.iload_n 3, 1) := dk_29 (dk_at dksX3_spades_4 3 rfl rfl)
theorem dX3_spades_96 : decode cX3_spades 96 = .ok (.goto 4, 3) := dk_167 0 4 (dk_at dksX3_spades_4 4 rfl rfl)
theorem dX3_spades_99 : decode cX3_spades 99 = .ok (.iload_n 1, 1) := dk_27 (dk_at dksX3_spades_4 7 rfl rfl)
theorem dX3_spades_100 : decode cX3_spades 100 = .ok (.istore_n 1, 1) := dk_60 (dk_at dksX3_spades_4 8 rfl rfl)
theorem dX3_spades_101 : decode cX3_spades 101 = .ok (.iload_n 2, 1) := dk_28 (dk_at dksX3_spades_4 9 rfl rfl)
theorem dX3_spades_102 : decode cX3_spades 102 = .ok (.iload 4, 2) := dk_21 4 (dk_at dksX3_spades_4 10 rfl rfl)
theorem dX3_spades_104 : decode cX3_spades 104 = .ok (.invokestatic 259, 3) := dk_184 1 3 (dk_at dksX3_spades_4 12 rfl rfl)
theorem dX3_spades_107 : decode cX3_spades 107 = .ok (.istore_n 2, 1) := dk_61 (dk_at dksX3_spades_4 15 rfl rfl)
theorem dX3_spades_108 : decode cX3_spades 108 = .ok (.iinc 3 1, 3) := dk_132 3 1 (dk_at dksX3_spades_4 16 rfl rfl)
theorem dX3_spades_111 : decode cX3_spades 111 = .ok (.goto (-96), 3) := dk_167 255 160 (dk_at dksX3_spades_4 19 rfl rfl)
theorem dX3_spades_114 : decode cX3_spades 114 = .ok (.aload_n 0, 1) := dk_42 (dk_at dksX3_spades_4 22 rfl rfl)
theorem dX3_spades_115 : decode cX3_spades 115 = .ok (.iconst 0, 1) := dk_3 (dk_at dksX3_spades_4 23 rfl rfl)
theorem dX3_spades_116 : decode cX3_spades 116 = .ok (.putfield 119, 3) := dk_181 0 119 (dk_at dksX3_spades_5 0 rfl rfl)
theorem dX3_spades_119 : decode cX3_spades 119 = .ok (.aload_n 0, 1) := dk_42 (dk_at dksX3_spades_5 3 rfl rfl)
theorem dX3_spades_120 : decode cX3_spades 120 = .ok (.iload_n 1, 1) := dk_27 (dk_at dksX3_spades_5 4 rfl rfl)
theorem dX3_spades_121 : decode cX3_spades 121 = .ok (.i2l, 1) := dk_133 (dk_at dksX3_spades_5 5 rfl rfl)
theorem dX3_spades_122 : decode cX3_spades 122 = .ok (.invokevirtual 359, 3) := dk_182 1 103 (dk_at dksX3_spades_5 6 rfl rfl)
theorem dX3_spades_125 : decode cX3_spades 125 = .ok (.iload_n 2, 1) := dk_28 (dk_at dksX3_spades_5 9 rfl rfl)
theorem dX3_spades_126 : decode cX3_spades 126 = .ok (.ireturn, 1) := dk_172 (dk_at dksX3_spades_5 10 rfl rfl)
abbrev cX3_bucketsAll : ByteArray := prog_13_method_90_code
def yX3_bucketsAll : MethodName := ⟨RX3, "bucketsAll", "([I)I"⟩
def dkwX3_bucketsAll_1 : List UInt8 := [167, 255, 236, 28, 172]
abbrev dktX3_bucketsAll_1 : List UInt8 := dkwX3_bucketsAll_1 ++ []
def dkwX3_bucketsAll_0 : List UInt8 := [3, 61, 3, 62, 29, 42, 180, 0, 126, 162, 0, 18, 28, 42, 43, 29, 182, 1, 41, 96, 61, 132, 3, 1]
abbrev dktX3_bucketsAll_0 : List UInt8 := dkwX3_bucketsAll_0 ++ dktX3_bucketsAll_1
theorem dksX3_bucketsAll_0 : cX3_bucketsAll.data.toList.drop 0 = dktX3_bucketsAll_0 := by decide +kernel
theorem dksX3_bucketsAll_1 : cX3_bucketsAll.data.toList.drop 24 = dktX3_bucketsAll_1 := dk_seg dksX3_bucketsAll_0 24 rfl rfl
theorem dX3_bucketsAll_0 : decode cX3_bucketsAll 0 = .ok (.iconst 0, 1) := dk_3 (dk_at dksX3_bucketsAll_0 0 rfl rfl)
theorem dX3_bucketsAll_1 : decode cX3_bucketsAll 1 = .ok (.istore_n 2, 1) := dk_61 (dk_at dksX3_bucketsAll_0 1 rfl rfl)
theorem dX3_bucketsAll_2 : decode cX3_bucketsAll 2 = .ok (.iconst 0, 1) := dk_3 (dk_at dksX3_bucketsAll_0 2 rfl rfl)
theorem dX3_bucketsAll_3 : decode cX3_bucketsAll 3 = .ok (.istore_n 3, 1) := dk_62 (dk_at dksX3_bucketsAll_0 3 rfl rfl)
theorem dX3_bucketsAll_4 : decode cX3_bucketsAll 4 = .ok (.iload_n 3, 1) := dk_29 (dk_at dksX3_bucketsAll_0 4 rfl rfl)
theorem dX3_bucketsAll_5 : decode cX3_bucketsAll 5 = .ok (.aload_n 0, 1) := dk_42 (dk_at dksX3_bucketsAll_0 5 rfl rfl)
theorem dX3_bucketsAll_6 : decode cX3_bucketsAll 6 = .ok (.getfield 126, 3) := dk_180 0 126 (dk_at dksX3_bucketsAll_0 6 rfl rfl)
theorem dX3_bucketsAll_9 : decode cX3_bucketsAll 9 = .ok (.if_icmp .ge 18, 3) := dk_162 0 18 (dk_at dksX3_bucketsAll_0 9 rfl rfl)
theorem dX3_bucketsAll_12 : decode cX3_bucketsAll 12 = .ok (.iload_n 2, 1) := dk_28 (dk_at dksX3_bucketsAll_0 12 rfl rfl)
theorem dX3_bucketsAll_13 : decode cX3_bucketsAll 13 = .ok (.aload_n 0, 1) := dk_42 (dk_at dksX3_bucketsAll_0 13 rfl rfl)
theorem dX3_bucketsAll_14 : decode cX3_bucketsAll 14 = .ok (.aload_n 1, 1) := dk_43 (dk_at dksX3_bucketsAll_0 14 rfl rfl)
theorem dX3_bucketsAll_15 : decode cX3_bucketsAll 15 = .ok (.iload_n 3, 1) := dk_29 (dk_at dksX3_bucketsAll_0 15 rfl rfl)
theorem dX3_bucketsAll_16 : decode cX3_bucketsAll 16 = .ok (.invokevirtual 297, 3) := dk_182 1 41 (dk_at dksX3_bucketsAll_0 16 rfl rfl)
theorem dX3_bucketsAll_19 : decode cX3_bucketsAll 19 = .ok (.iadd, 1) := dk_96 (dk_at dksX3_bucketsAll_0 19 rfl rfl)
theorem dX3_bucketsAll_20 : decode cX3_bucketsAll 20 = .ok (.istore_n 2, 1) := dk_61 (dk_at dksX3_bucketsAll_0 20 rfl rfl)
theorem dX3_bucketsAll_21 : decode cX3_bucketsAll 21 = .ok (.iinc 3 1, 3) := dk_132 3 1 (dk_at dksX3_bucketsAll_0 21 rfl rfl)
theorem dX3_bucketsAll_24 : decode cX3_bucketsAll 24 = .ok (.goto (-20), 3) := dk_167 255 236 (dk_at dksX3_bucketsAll_1 0 rfl rfl)
theorem dX3_bucketsAll_27 : decode cX3_bucketsAll 27 = .ok (.iload_n 2, 1) := dk_28 (dk_at dksX3_bucketsAll_1 3 rfl rfl)
theorem dX3_bucketsAll_28 : decode cX3_bucketsAll 28 = .ok (.ireturn, 1) := dk_172 (dk_at dksX3_bucketsAll_1 4 rfl rfl)
abbrev cX3_treats : ByteArray := prog_13_method_92_code
def yX3_treats : MethodName := ⟨RX3, "treats", "(I)I"⟩
def dkwX3_treats_5 : List UInt8 := [21, 4, 133, 182, 1, 103, 132, 3, 1, 167, 255, 191, 28, 172]
abbrev dktX3_treats_5 : List UInt8 := dkwX3_treats_5 ++ []
def dkwX3_treats_4 : List UInt8 := [6, 21, 4, 104, 96, 184, 0, 142, 27, 163, 0, 9, 132, 4, 1, 167, 255, 220, 28, 21, 4, 96, 61, 42]
abbrev dktX3_treats_4 : List UInt8 := dkwX3_treats_4 ++ dktX3_treats_5
def dkwX3_treats_3 : List UInt8 := [3, 54, 4, 42, 180, 0, 36, 29, 184, 0, 129, 155, 0, 31, 16, 9, 42, 180, 0, 36, 29, 184, 1, 21]
abbrev dktX3_treats_3 : List UInt8 := dkwX3_treats_3 ++ dktX3_treats_4
def dkwX3_treats_2 : List UInt8 := [16, 254, 172, 132, 3, 1, 167, 255, 225, 42, 3, 181, 0, 119, 3, 62, 29, 42, 180, 0, 126, 162, 0, 63]
abbrev dktX3_treats_2 : List UInt8 := dkwX3_treats_2 ++ dktX3_treats_3
def dkwX3_treats_1 : List UInt8 := [42, 180, 0, 126, 162, 0, 29, 42, 180, 0, 36, 29, 184, 0, 129, 155, 0, 12, 27, 16, 9, 160, 0, 6]
abbrev dktX3_treats_1 : List UInt8 := dkwX3_treats_1 ++ dktX3_treats_2
def dkwX3_treats_0 : List UInt8 := [42, 3, 181, 0, 112, 27, 133, 10, 20, 1, 46, 184, 0, 122, 154, 0, 5, 2, 172, 3, 61, 3, 62, 29]
abbrev dktX3_treats_0 : List UInt8 := dkwX3_treats_0 ++ dktX3_treats_1
theorem dksX3_treats_0 : cX3_treats.data.toList.drop 0 = dktX3_treats_0 := by decide +kernel
theorem dksX3_treats_1 : cX3_treats.data.toList.drop 24 = dktX3_treats_1 := dk_seg dksX3_treats_0 24 rfl rfl
theorem dksX3_treats_2 : cX3_treats.data.toList.drop 48 = dktX3_treats_2 := dk_seg dksX3_treats_1 24 rfl rfl
theorem dksX3_treats_3 : cX3_treats.data.toList.drop 72 = dktX3_treats_3 := dk_seg dksX3_treats_2 24 rfl rfl
theorem dksX3_treats_4 : cX3_treats.data.toList.drop 96 = dktX3_treats_4 := dk_seg dksX3_treats_3 24 rfl rfl
theorem dksX3_treats_5 : cX3_treats.data.toList.drop 120 = dktX3_treats_5 := dk_seg dksX3_treats_4 24 rfl rfl
theorem dX3_treats_0 : decode cX3_treats 0 = .ok (.aload_n 0, 1) := dk_42 (dk_at dksX3_treats_0 0 rfl rfl)
theorem dX3_treats_1 : decode cX3_treats 1 = .ok (.iconst 0, 1) := dk_3 (dk_at dksX3_treats_0 1 rfl rfl)
theorem dX3_treats_2 : decode cX3_treats 2 = .ok (.putfield 112, 3) := dk_181 0 112 (dk_at dksX3_treats_0 2 rfl rfl)
theorem dX3_treats_5 : decode cX3_treats 5 = .ok (.iload_n 1, 1) := dk_27 (dk_at dksX3_treats_0 5 rfl rfl)
theorem dX3_treats_6 : decode cX3_treats 6 = .ok (.i2l, 1) := dk_133 (dk_at dksX3_treats_0 6 rfl rfl)
theorem dX3_treats_7 : decode cX3_treats 7 = .ok (.lconst 1, 1) := dk_10 (dk_at dksX3_treats_0 7 rfl rfl)
theorem dX3_treats_8 : decode cX3_treats 8 = .ok (.ldc2_w 302, 3) := dk_20 1 46 (dk_at dksX3_treats_0 8 rfl rfl)
theorem dX3_treats_11 : decode cX3_treats 11 = .ok (.invokestatic 122, 3) := dk_184 0 122 (dk_at dksX3_treats_0 11 rfl rfl)
theorem dX3_treats_14 : decode cX3_treats 14 = .ok (.ifCond .ne 5, 3) := dk_154 0 5 (dk_at dksX3_treats_0 14 rfl rfl)
theorem dX3_treats_17 : decode cX3_treats 17 = .ok (.iconst (-1), 1) := dk_2 (dk_at dksX3_treats_0 17 rfl rfl)
theorem dX3_treats_18 : decode cX3_treats 18 = .ok (.ireturn, 1) := dk_172 (dk_at dksX3_treats_0 18 rfl rfl)
theorem dX3_treats_19 : decode cX3_treats 19 = .ok (.iconst 0, 1) := dk_3 (dk_at dksX3_treats_0 19 rfl rfl)
theorem dX3_treats_20 : decode cX3_treats 20 = .ok (.istore_n 2, 1) := dk_61 (dk_at dksX3_treats_0 20 rfl rfl)
theorem dX3_treats_21 : decode cX3_treats 21 = .ok (.iconst 0, 1) := dk_3 (dk_at dksX3_treats_0 21 rfl rfl)
theorem dX3_treats_22 : decode cX3_treats 22 = .ok (.istore_n 3, 1) := dk_62 (dk_at dksX3_treats_0 22 rfl rfl)
theorem dX3_treats_23 : decode cX3_treats 23 = .ok (.iload_n 3, 1) := dk_29 (dk_at dksX3_treats_0 23 rfl rfl)
theorem dX3_treats_24 : decode cX3_treats 24 = .ok (.aload_n 0, 1) := dk_42 (dk_at dksX3_treats_1 0 rfl rfl)
theorem dX3_treats_25 : decode cX3_treats 25 = .ok (.getfield 126, 3) := dk_180 0 126 (dk_at dksX3_treats_1 1 rfl rfl)
theorem dX3_treats_28 : decode cX3_treats 28 = .ok (.if_icmp .ge 29, 3) := dk_162 0 29 (dk_at dksX3_treats_1 4 rfl rfl)
theorem dX3_treats_31 : decode cX3_treats 31 = .ok (.aload_n 0, 1) := dk_42 (dk_at dksX3_treats_1 7 rfl rfl)
theorem dX3_treats_32 : decode cX3_treats 32 = .ok (.getfield 36, 3) := dk_180 0 36 (dk_at dksX3_treats_1 8 rfl rfl)
theorem dX3_treats_35 : decode cX3_treats 35 = .ok (.iload_n 3, 1) := dk_29 (dk_at dksX3_treats_1 11 rfl rfl)
theorem dX3_treats_36 : decode cX3_treats 36 = .ok (.invokestatic 129, 3) := dk_184 0 129 (dk_at dksX3_treats_1 12 rfl rfl)
theorem dX3_treats_39 : decode cX3_treats 39 = .ok (.ifCond .lt 12, 3) := dk_155 0 12 (dk_at dksX3_treats_1 15 rfl rfl)
theorem dX3_treats_42 : decode cX3_treats 42 = .ok (.iload_n 1, 1) := dk_27 (dk_at dksX3_treats_1 18 rfl rfl)
theorem dX3_treats_43 : decode cX3_treats 43 = .ok (.bipush 9, 2) := dk_16 9 (dk_at dksX3_treats_1 19 rfl rfl)
theorem dX3_treats_45 : decode cX3_treats 45 = .ok (.if_icmp .ne 6, 3) := dk_160 0 6 (dk_at dksX3_treats_1 21 rfl rfl)
theorem dX3_treats_48 : decode cX3_treats 48 = .ok (.bipush (-2), 2) := dk_16 254 (dk_at dksX3_treats_2 0 rfl rfl)
theorem dX3_treats_50 : decode cX3_treats 50 = .ok (.ireturn, 1) := dk_172 (dk_at dksX3_treats_2 2 rfl rfl)
theorem dX3_treats_51 : decode cX3_treats 51 = .ok (.iinc 3 1, 3) := dk_132 3 1 (dk_at dksX3_treats_2 3 rfl rfl)
theorem dX3_treats_54 : decode cX3_treats 54 = .ok (.goto (-31), 3) := dk_167 255 225 (dk_at dksX3_treats_2 6 rfl rfl)
theorem dX3_treats_57 : decode cX3_treats 57 = .ok (.aload_n 0, 1) := dk_42 (dk_at dksX3_treats_2 9 rfl rfl)
theorem dX3_treats_58 : decode cX3_treats 58 = .ok (.iconst 0, 1) := dk_3 (dk_at dksX3_treats_2 10 rfl rfl)
theorem dX3_treats_59 : decode cX3_treats 59 = .ok (.putfield 119, 3) := dk_181 0 119 (dk_at dksX3_treats_2 11 rfl rfl)
theorem dX3_treats_62 : decode cX3_treats 62 = .ok (.iconst 0, 1) := dk_3 (dk_at dksX3_treats_2 14 rfl rfl)
theorem dX3_treats_63 : decode cX3_treats 63 = .ok (.istore_n 3, 1) := dk_62 (dk_at dksX3_treats_2 15 rfl rfl)
theorem dX3_treats_64 : decode cX3_treats 64 = .ok (.iload_n 3, 1) := dk_29 (dk_at dksX3_treats_2 16 rfl rfl)
theorem dX3_treats_65 : decode cX3_treats 65 = .ok (.aload_n 0, 1) := dk_42 (dk_at dksX3_treats_2 17 rfl rfl)
theorem dX3_treats_66 : decode cX3_treats 66 = .ok (.getfield 126, 3) := dk_180 0 126 (dk_at dksX3_treats_2 18 rfl rfl)
theorem dX3_treats_69 : decode cX3_treats 69 = .ok (.if_icmp .ge 63, 3) := dk_162 0 63 (dk_at dksX3_treats_2 21 rfl rfl)
theorem dX3_treats_72 : decode cX3_treats 72 = .ok (.iconst 0, 1) := dk_3 (dk_at dksX3_treats_3 0 rfl rfl)
theorem dX3_treats_73 : decode cX3_treats 73 = .ok (.istore 4, 2) := dk_54 4 (dk_at dksX3_treats_3 1 rfl rfl)
theorem dX3_treats_75 : decode cX3_treats 75 = .ok (.aload_n 0, 1) := dk_42 (dk_at dksX3_treats_3 3 rfl rfl)
theorem dX3_treats_76 : decode cX3_treats 76 = .ok (.getfield 36, 3) := dk_180 0 36 (dk_at dksX3_treats_3 4 rfl rfl)
theorem dX3_treats_79 : decode cX3_treats 79 = .ok (.iload_n 3, 1) := dk_29 (dk_at dksX3_treats_3 7 rfl rfl)
theorem dX3_treats_80 : decode cX3_treats 80 = .ok (.invokestatic 129, 3) := dk_184 0 129 (dk_at dksX3_treats_3 8 rfl rfl)
theorem dX3_treats_83 : decode cX3_treats 83 = .ok (.ifCond .lt 31, 3) := dk_155 0 31 (dk_at dksX3_treats_3 11 rfl rfl)
theorem dX3_treats_86 : decode cX3_treats 86 = .ok (.bipush 9, 2) := dk_16 9 (dk_at dksX3_treats_3 14 rfl rfl)
theorem dX3_treats_88 : decode cX3_treats 88 = .ok (.aload_n 0, 1) := dk_42 (dk_at dksX3_treats_3 16 rfl rfl)
theorem dX3_treats_89 : decode cX3_treats 89 = .ok (.getfield 36, 3) := dk_180 0 36 (dk_at dksX3_treats_3 17 rfl rfl)
theorem dX3_treats_92 : decode cX3_treats 92 = .ok (.iload_n 3, 1) := dk_29 (dk_at dksX3_treats_3 20 rfl rfl)
theorem dX3_treats_93 : decode cX3_treats 93 = .ok (.invokestatic 277, 3) := dk_184 1 21 (dk_at dksX3_treats_3 21 rfl rfl)
theorem dX3_treats_96 : decode cX3_treats 96 = .ok (.iconst 3, 1) := dk_6 (dk_at dksX3_treats_4 0 rfl rfl)
theorem dX3_treats_97 : decode cX3_treats 97 = .ok (.iload 4, 2) := dk_21 4 (dk_at dksX3_treats_4 1 rfl rfl)
theorem dX3_treats_99 : decode cX3_treats 99 = .ok (.imul, 1) := dk_104 (dk_at dksX3_treats_4 3 rfl rfl)
theorem dX3_treats_100 : decode cX3_treats 100 = .ok (.iadd, 1) := dk_96 (dk_at dksX3_treats_4 4 rfl rfl)
theorem dX3_treats_101 : decode cX3_treats 101 = .ok (.invokestatic 142, 3) := dk_184 0 142 (dk_at dksX3_treats_4 5 rfl rfl)
theorem dX3_treats_104 : decode cX3_treats 104 = .ok (.iload_n 1, 1) := dk_27 (dk_at dksX3_treats_4 8 rfl rfl)
theorem dX3_treats_105 : decode cX3_treats 105 = .ok (.if_icmp .gt 9, 3) := dk_163 0 9 (dk_at dksX3_treats_4 9 rfl rfl)
theorem dX3_treats_108 : decode cX3_treats 108 = .ok (.iinc 4 1, 3) := dk_132 4 1 (dk_at dksX3_treats_4 12 rfl rfl)
theorem dX3_treats_111 : decode cX3_treats 111 = .ok (.goto (-36), 3) := dk_167 255 220 (dk_at dksX3_treats_4 15 rfl rfl)
theorem dX3_treats_114 : decode cX3_treats 114 = .ok (.iload_n 2, 1) := dk_28 (dk_at dksX3_treats_4 18 rfl rfl)
theorem dX3_treats_115 : decode cX3_treats 115 = .ok (.iload 4, 2) := dk_21 4 (dk_at dksX3_treats_4 19 rfl rfl)
theorem dX3_treats_117 : decode cX3_treats 117 = .ok (.iadd, 1) := dk_96 (dk_at dksX3_treats_4 21 rfl rfl)
theorem dX3_treats_118 : decode cX3_treats 118 = .ok (.istore_n 2, 1) := dk_61 (dk_at dksX3_treats_4 22 rfl rfl)
theorem dX3_treats_119 : decode cX3_treats 119 = .ok (.aload_n 0, 1) := dk_42 (dk_at dksX3_treats_4 23 rfl rfl)
theorem dX3_treats_120 : decode cX3_treats 120 = .ok (.iload 4, 2) := dk_21 4 (dk_at dksX3_treats_5 0 rfl rfl)
theorem dX3_treats_122 : decode cX3_treats 122 = .ok (.i2l, 1) := dk_133 (dk_at dksX3_treats_5 2 rfl rfl)
theorem dX3_treats_123 : decode cX3_treats 123 = .ok (.invokevirtual 359, 3) := dk_182 1 103 (dk_at dksX3_treats_5 3 rfl rfl)
theorem dX3_treats_126 : decode cX3_treats 126 = .ok (.iinc 3 1, 3) := dk_132 3 1 (dk_at dksX3_treats_5 6 rfl rfl)
theorem dX3_treats_129 : decode cX3_treats 129 = .ok (.goto (-65), 3) := dk_167 255 191 (dk_at dksX3_treats_5 9 rfl rfl)
theorem dX3_treats_132 : decode cX3_treats 132 = .ok (.iload_n 2, 1) := dk_28 (dk_at dksX3_treats_5 12 rfl rfl)
theorem dX3_treats_133 : decode cX3_treats 133 = .ok (.ireturn, 1) := dk_172 (dk_at dksX3_treats_5 13 rfl rfl)
abbrev cX3_work : ByteArray := prog_13_method_93_code
def yX3_work : MethodName := ⟨RX3, "work", "(I)I"⟩
def dkwX3_work_3 : List UInt8 := [42, 180, 0, 39, 182, 1, 96, 42, 42, 180, 0, 36, 182, 1, 96, 100, 172]
abbrev dktX3_work_3 : List UInt8 := dkwX3_work_3 ++ []
def dkwX3_work_2 : List UInt8 := [42, 180, 0, 39, 28, 46, 42, 180, 0, 36, 28, 46, 100, 133, 182, 1, 103, 132, 2, 1, 167, 255, 227, 42]
abbrev dktX3_work_2 : List UInt8 := dkwX3_work_2 ++ dktX3_work_3
def dkwX3_work_1 : List UInt8 := [42, 180, 0, 39, 27, 182, 1, 100, 42, 3, 181, 0, 119, 3, 61, 28, 42, 180, 0, 13, 162, 0, 27, 42]
abbrev dktX3_work_1 : List UInt8 := dkwX3_work_1 ++ dktX3_work_2
def dkwX3_work_0 : List UInt8 := [42, 3, 181, 0, 112, 27, 133, 9, 20, 1, 94, 184, 0, 122, 154, 0, 5, 2, 172, 42, 182, 1, 136, 42]
abbrev dktX3_work_0 : List UInt8 := dkwX3_work_0 ++ dktX3_work_1
theorem dksX3_work_0 : cX3_work.data.toList.drop 0 = dktX3_work_0 := by decide +kernel
theorem dksX3_work_1 : cX3_work.data.toList.drop 24 = dktX3_work_1 := dk_seg dksX3_work_0 24 rfl rfl
theorem dksX3_work_2 : cX3_work.data.toList.drop 48 = dktX3_work_2 := dk_seg dksX3_work_1 24 rfl rfl
theorem dksX3_work_3 : cX3_work.data.toList.drop 72 = dktX3_work_3 := dk_seg dksX3_work_2 24 rfl rfl
theorem dX3_work_0 : decode cX3_work 0 = .ok (.aload_n 0, 1) := dk_42 (dk_at dksX3_work_0 0 rfl rfl)
theorem dX3_work_1 : decode cX3_work 1 = .ok (.iconst 0, 1) := dk_3 (dk_at dksX3_work_0 1 rfl rfl)
theorem dX3_work_2 : decode cX3_work 2 = .ok (.putfield 112, 3) := dk_181 0 112 (dk_at dksX3_work_0 2 rfl rfl)
theorem dX3_work_5 : decode cX3_work 5 = .ok (.iload_n 1, 1) := dk_27 (dk_at dksX3_work_0 5 rfl rfl)
theorem dX3_work_6 : decode cX3_work 6 = .ok (.i2l, 1) := dk_133 (dk_at dksX3_work_0 6 rfl rfl)
theorem dX3_work_7 : decode cX3_work 7 = .ok (.lconst 0, 1) := dk_9 (dk_at dksX3_work_0 7 rfl rfl)
theorem dX3_work_8 : decode cX3_work 8 = .ok (.ldc2_w 350, 3) := dk_20 1 94 (dk_at dksX3_work_0 8 rfl rfl)
theorem dX3_work_11 : decode cX3_work 11 = .ok (.invokestatic 122, 3) := dk_184 0 122 (dk_at dksX3_work_0 11 rfl rfl)
theorem dX3_work_14 : decode cX3_work 14 = .ok (.ifCond .ne 5, 3) := dk_154 0 5 (dk_at dksX3_work_0 14 rfl rfl)
theorem dX3_work_17 : decode cX3_work 17 = .ok (.iconst (-1), 1) := dk_2 (dk_at dksX3_work_0 17 rfl rfl)
theorem dX3_work_18 : decode cX3_work 18 = .ok (.ireturn, 1) := dk_172 (dk_at dksX3_work_0 18 rfl rfl)
theorem dX3_work_19 : decode cX3_work 19 = .ok (.aload_n 0, 1) := dk_42 (dk_at dksX3_work_0 19 rfl rfl)
theorem dX3_work_20 : decode cX3_work 20 = .ok (.invokevirtual 392, 3) := dk_182 1 136 (dk_at dksX3_work_0 20 rfl rfl)
theorem dX3_work_23 : decode cX3_work 23 = .ok (.aload_n 0, 1) := dk_42 (dk_at dksX3_work_0 23 rfl rfl)
theorem dX3_work_24 : decode cX3_work 24 = .ok (.aload_n 0, 1) := dk_42 (dk_at dksX3_work_1 0 rfl rfl)
theorem dX3_work_25 : decode cX3_work 25 = .ok (.getfield 39, 3) := dk_180 0 39 (dk_at dksX3_work_1 1 rfl rfl)
theorem dX3_work_28 : decode cX3_work 28 = .ok (.iload_n 1, 1) := dk_27 (dk_at dksX3_work_1 4 rfl rfl)
theorem dX3_work_29 : decode cX3_work 29 = .ok (.invokevirtual 356, 3) := dk_182 1 100 (dk_at dksX3_work_1 5 rfl rfl)
theorem dX3_work_32 : decode cX3_work 32 = .ok (.aload_n 0, 1) := dk_42 (dk_at dksX3_work_1 8 rfl rfl)
theorem dX3_work_33 : decode cX3_work 33 = .ok (.iconst 0, 1) := dk_3 (dk_at dksX3_work_1 9 rfl rfl)
theorem dX3_work_34 : decode cX3_work 34 = .ok (.putfield 119, 3) := dk_181 0 119 (dk_at dksX3_work_1 10 rfl rfl)
theorem dX3_work_37 : decode cX3_work 37 = .ok (.iconst 0, 1) := dk_3 (dk_at dksX3_work_1 13 rfl rfl)
theorem dX3_work_38 : decode cX3_work 38 = .ok (.istore_n 2, 1) := dk_61 (dk_at dksX3_work_1 14 rfl rfl)
theorem dX3_work_39 : decode cX3_work 39 = .ok (.iload_n 2, 1) := dk_28 (dk_at dksX3_work_1 15 rfl rfl)
theorem dX3_work_40 : decode cX3_work 40 = .ok (.aload_n 0, 1) := dk_42 (dk_at dksX3_work_1 16 rfl rfl)
theorem dX3_work_41 : decode cX3_work 41 = .ok (.getfield 13, 3) := dk_180 0 13 (dk_at dksX3_work_1 17 rfl rfl)
theorem dX3_work_44 : decode cX3_work 44 = .ok (.if_icmp .ge 27, 3) := dk_162 0 27 (dk_at dksX3_work_1 20 rfl rfl)
theorem dX3_work_47 : decode cX3_work 47 = .ok (.aload_n 0, 1) := dk_42 (dk_at dksX3_work_1 23 rfl rfl)
theorem dX3_work_48 : decode cX3_work 48 = .ok (.aload_n 0, 1) := dk_42 (dk_at dksX3_work_2 0 rfl rfl)
theorem dX3_work_49 : decode cX3_work 49 = .ok (.getfield 39, 3) := dk_180 0 39 (dk_at dksX3_work_2 1 rfl rfl)
theorem dX3_work_52 : decode cX3_work 52 = .ok (.iload_n 2, 1) := dk_28 (dk_at dksX3_work_2 4 rfl rfl)
theorem dX3_work_53 : decode cX3_work 53 = .ok (.iaload, 1) := dk_46 (dk_at dksX3_work_2 5 rfl rfl)
theorem dX3_work_54 : decode cX3_work 54 = .ok (.aload_n 0, 1) := dk_42 (dk_at dksX3_work_2 6 rfl rfl)
theorem dX3_work_55 : decode cX3_work 55 = .ok (.getfield 36, 3) := dk_180 0 36 (dk_at dksX3_work_2 7 rfl rfl)
theorem dX3_work_58 : decode cX3_work 58 = .ok (.iload_n 2, 1) := dk_28 (dk_at dksX3_work_2 10 rfl rfl)
theorem dX3_work_59 : decode cX3_work 59 = .ok (.iaload, 1) := dk_46 (dk_at dksX3_work_2 11 rfl rfl)
theorem dX3_work_60 : decode cX3_work 60 = .ok (.isub, 1) := dk_100 (dk_at dksX3_work_2 12 rfl rfl)
theorem dX3_work_61 : decode cX3_work 61 = .ok (.i2l, 1) := dk_133 (dk_at dksX3_work_2 13 rfl rfl)
theorem dX3_work_62 : decode cX3_work 62 = .ok (.invokevirtual 359, 3) := dk_182 1 103 (dk_at dksX3_work_2 14 rfl rfl)
theorem dX3_work_65 : decode cX3_work 65 = .ok (.iinc 2 1, 3) := dk_132 2 1 (dk_at dksX3_work_2 17 rfl rfl)
theorem dX3_work_68 : decode cX3_work 68 = .ok (.goto (-29), 3) := dk_167 255 227 (dk_at dksX3_work_2 20 rfl rfl)
theorem dX3_work_71 : decode cX3_work 71 = .ok (.aload_n 0, 1) := dk_42 (dk_at dksX3_work_2 23 rfl rfl)
theorem dX3_work_72 : decode cX3_work 72 = .ok (.aload_n 0, 1) := dk_42 (dk_at dksX3_work_3 0 rfl rfl)
theorem dX3_work_73 : decode cX3_work 73 = .ok (.getfield 39, 3) := dk_180 0 39 (dk_at dksX3_work_3 1 rfl rfl)
theorem dX3_work_76 : decode cX3_work 76 = .ok (.invokevirtual 352, 3) := dk_182 1 96 (dk_at dksX3_work_3 4 rfl rfl)
theorem dX3_work_79 : decode cX3_work 79 = .ok (.aload_n 0, 1) := dk_42 (dk_at dksX3_work_3 7 rfl rfl)
theorem dX3_work_80 : decode cX3_work 80 = .ok (.aload_n 0, 1) := dk_42 (dk_at dksX3_work_3 8 rfl rfl)
theorem dX3_work_81 : decode cX3_work 81 = .ok (.getfield 36, 3) := dk_180 0 36 (dk_at dksX3_work_3 9 rfl rfl)
theorem dX3_work_84 : decode cX3_work 84 = .ok (.invokevirtual 352, 3) := dk_182 1 96 (dk_at dksX3_work_3 12 rfl rfl)
theorem dX3_work_87 : decode cX3_work 87 = .ok (.isub, 1) := dk_100 (dk_at dksX3_work_3 15 rfl rfl)
theorem dX3_work_88 : decode cX3_work 88 = .ok (.ireturn, 1) := dk_172 (dk_at dksX3_work_3 16 rfl rfl)
abbrev cX3_law : ByteArray := prog_13_method_94_code
def yX3_law : MethodName := ⟨RX3, "law", "()I"⟩
def dkwX3_law_4 : List UInt8 := [42, 3, 181, 0, 119, 42, 21, 4, 133, 182, 1, 103, 42, 28, 133, 182, 1, 103, 21, 4, 28, 100, 172]
abbrev dktX3_law_4 : List UInt8 := dkwX3_law_4 ++ []
def dkwX3_law_3 : List UInt8 := [42, 180, 0, 214, 182, 0, 244, 42, 16, 20, 182, 1, 144, 54, 4, 42, 42, 180, 0, 84, 29, 182, 0, 244]
abbrev dktX3_law_3 : List UInt8 := dkwX3_law_3 ++ dktX3_law_4
def dkwX3_law_2 : List UInt8 := [180, 0, 84, 21, 4, 42, 180, 0, 48, 21, 4, 46, 79, 132, 4, 1, 167, 255, 230, 42, 42, 180, 0, 51]
abbrev dktX3_law_2 : List UInt8 := dkwX3_law_2 ++ dktX3_law_3
def dkwX3_law_1 : List UInt8 := [16, 20, 182, 1, 144, 61, 42, 180, 0, 238, 62, 3, 54, 4, 21, 4, 42, 180, 0, 238, 162, 0, 23, 42]
abbrev dktX3_law_1 : List UInt8 := dkwX3_law_1 ++ dktX3_law_2
def dkwX3_law_0 : List UInt8 := [42, 3, 181, 0, 112, 42, 182, 0, 241, 60, 27, 156, 0, 11, 27, 4, 96, 17, 39, 16, 100, 172, 42]
abbrev dktX3_law_0 : List UInt8 := dkwX3_law_0 ++ dktX3_law_1
theorem dksX3_law_0 : cX3_law.data.toList.drop 0 = dktX3_law_0 := by decide +kernel
theorem dksX3_law_1 : cX3_law.data.toList.drop 23 = dktX3_law_1 := dk_seg dksX3_law_0 23 rfl rfl
theorem dksX3_law_2 : cX3_law.data.toList.drop 47 = dktX3_law_2 := dk_seg dksX3_law_1 24 rfl rfl
theorem dksX3_law_3 : cX3_law.data.toList.drop 71 = dktX3_law_3 := dk_seg dksX3_law_2 24 rfl rfl
theorem dksX3_law_4 : cX3_law.data.toList.drop 95 = dktX3_law_4 := dk_seg dksX3_law_3 24 rfl rfl
theorem dX3_law_0 : decode cX3_law 0 = .ok (.aload_n 0, 1) := dk_42 (dk_at dksX3_law_0 0 rfl rfl)
theorem dX3_law_1 : decode cX3_law 1 = .ok (.iconst 0, 1) := dk_3 (dk_at dksX3_law_0 1 rfl rfl)
theorem dX3_law_2 : decode cX3_law 2 = .ok (.putfield 112, 3) := dk_181 0 112 (dk_at dksX3_law_0 2 rfl rfl)
theorem dX3_law_5 : decode cX3_law 5 = .ok (.aload_n 0, 1) := dk_42 (dk_at dksX3_law_0 5 rfl rfl)
theorem dX3_law_6 : decode cX3_law 6 = .ok (.invokevirtual 241, 3) := dk_182 0 241 (dk_at dksX3_law_0 6 rfl rfl)
theorem dX3_law_9 : decode cX3_law 9 = .ok (.istore_n 1, 1) := dk_60 (dk_at dksX3_law_0 9 rfl rfl)
theorem dX3_law_10 : decode cX3_law 10 = .ok (.iload_n 1, 1) := dk_27 (dk_at dksX3_law_0 10 rfl rfl)
theorem dX3_law_11 : decode cX3_law 11 = .ok (.ifCond .ge 11, 3) := dk_156 0 11 (dk_at dksX3_law_0 11 rfl rfl)
theorem dX3_law_14 : decode cX3_law 14 = .ok (.iload_n 1, 1) := dk_27 (dk_at dksX3_law_0 14 rfl rfl)
theorem dX3_law_15 : decode cX3_law 15 = .ok (.iconst 1, 1) := dk_4 (dk_at dksX3_law_0 15 rfl rfl)
theorem dX3_law_16 : decode cX3_law 16 = .ok (.iadd, 1) := dk_96 (dk_at dksX3_law_0 16 rfl rfl)
theorem dX3_law_17 : decode cX3_law 17 = .ok (.sipush 10000, 3) := dk_17 39 16 (dk_at dksX3_law_0 17 rfl rfl)
theorem dX3_law_20 : decode cX3_law 20 = .ok (.isub, 1) := dk_100 (dk_at dksX3_law_0 20 rfl rfl)
theorem dX3_law_21 : decode cX3_law 21 = .ok (.ireturn, 1) := dk_172 (dk_at dksX3_law_0 21 rfl rfl)
theorem dX3_law_22 : decode cX3_law 22 = .ok (.aload_n 0, 1) := dk_42 (dk_at dksX3_law_0 22 rfl rfl)
theorem dX3_law_23 : decode cX3_law 23 = .ok (.bipush 20, 2) := dk_16 20 (dk_at dksX3_law_1 0 rfl rfl)
theorem dX3_law_25 : decode cX3_law 25 = .ok (.invokevirtual 400, 3) := dk_182 1 144 (dk_at dksX3_law_1 2 rfl rfl)
theorem dX3_law_28 : decode cX3_law 28 = .ok (.istore_n 2, 1) := dk_61 (dk_at dksX3_law_1 5 rfl rfl)
theorem dX3_law_29 : decode cX3_law 29 = .ok (.aload_n 0, 1) := dk_42 (dk_at dksX3_law_1 6 rfl rfl)
theorem dX3_law_30 : decode cX3_law 30 = .ok (.getfield 238, 3) := dk_180 0 238 (dk_at dksX3_law_1 7 rfl rfl)
theorem dX3_law_33 : decode cX3_law 33 = .ok (.istore_n 3, 1) := dk_62 (dk_at dksX3_law_1 10 rfl rfl)
theorem dX3_law_34 : decode cX3_law 34 = .ok (.iconst 0, 1) := dk_3 (dk_at dksX3_law_1 11 rfl rfl)
theorem dX3_law_35 : decode cX3_law 35 = .ok (.istore 4, 2) := dk_54 4 (dk_at dksX3_law_1 12 rfl rfl)
theorem dX3_law_37 : decode cX3_law 37 = .ok (.iload 4, 2) := dk_21 4 (dk_at dksX3_law_1 14 rfl rfl)
theorem dX3_law_39 : decode cX3_law 39 = .ok (.aload_n 0, 1) := dk_42 (dk_at dksX3_law_1 16 rfl rfl)
theorem dX3_law_40 : decode cX3_law 40 = .ok (.getfield 238, 3) := dk_180 0 238 (dk_at dksX3_law_1 17 rfl rfl)
theorem dX3_law_43 : decode cX3_law 43 = .ok (.if_icmp .ge 23, 3) := dk_162 0 23 (dk_at dksX3_law_1 20 rfl rfl)
theorem dX3_law_46 : decode cX3_law 46 = .ok (.aload_n 0, 1) := dk_42 (dk_at dksX3_law_1 23 rfl rfl)
theorem dX3_law_47 : decode cX3_law 47 = .ok (.getfield 84, 3) := dk_180 0 84 (dk_at dksX3_law_2 0 rfl rfl)
theorem dX3_law_50 : decode cX3_law 50 = .ok (.iload 4, 2) := dk_21 4 (dk_at dksX3_law_2 3 rfl rfl)
theorem dX3_law_52 : decode cX3_law 52 = .ok (.aload_n 0, 1) := dk_42 (dk_at dksX3_law_2 5 rfl rfl)
theorem dX3_law_53 : decode cX3_law 53 = .ok (.getfield 48, 3) := dk_180 0 48 (dk_at dksX3_law_2 6 rfl rfl)
theorem dX3_law_56 : decode cX3_law 56 = .ok (.iload 4, 2) := dk_21 4 (dk_at dksX3_law_2 9 rfl rfl)
theorem dX3_law_58 : decode cX3_law 58 = .ok (.iaload, 1) := dk_46 (dk_at dksX3_law_2 11 rfl rfl)
theorem dX3_law_59 : decode cX3_law 59 = .ok (.iastore, 1) := dk_79 (dk_at dksX3_law_2 12 rfl rfl)
theorem dX3_law_60 : decode cX3_law 60 = .ok (.iinc 4 1, 3) := dk_132 4 1 (dk_at dksX3_law_2 13 rfl rfl)
theorem dX3_law_63 : decode cX3_law 63 = .ok (.goto (-26), 3) := dk_167 255 230 (dk_at dksX3_law_2 16 rfl rfl)
theorem dX3_law_66 : decode cX3_law 66 = .ok (.aload_n 0, 1) := dk_42 (dk_at dksX3_law_2 19 rfl rfl)
theorem dX3_law_67 : decode cX3_law 67 = .ok (.aload_n 0, 1) := dk_42 (dk_at dksX3_law_2 20 rfl rfl)
theorem dX3_law_68 : decode cX3_law 68 = .ok (.getfield 51, 3) := dk_180 0 51 (dk_at dksX3_law_2 21 rfl rfl)
theorem dX3_law_71 : decode cX3_law 71 = .ok (.aload_n 0, 1) := dk_42 (dk_at dksX3_law_3 0 rfl rfl)
theorem dX3_law_72 : decode cX3_law 72 = .ok (.getfield 214, 3) := dk_180 0 214 (dk_at dksX3_law_3 1 rfl rfl)
theorem dX3_law_75 : decode cX3_law 75 = .ok (.invokevirtual 244, 3) := dk_182 0 244 (dk_at dksX3_law_3 4 rfl rfl)
theorem dX3_law_78 : decode cX3_law 78 = .ok (.aload_n 0, 1) := dk_42 (dk_at dksX3_law_3 7 rfl rfl)
theorem dX3_law_79 : decode cX3_law 79 = .ok (.bipush 20, 2) := dk_16 20 (dk_at dksX3_law_3 8 rfl rfl)
theorem dX3_law_81 : decode cX3_law 81 = .ok (.invokevirtual 400, 3) := dk_182 1 144 (dk_at dksX3_law_3 10 rfl rfl)
theorem dX3_law_84 : decode cX3_law 84 = .ok (.istore 4, 2) := dk_54 4 (dk_at dksX3_law_3 13 rfl rfl)
theorem dX3_law_86 : decode cX3_law 86 = .ok (.aload_n 0, 1) := dk_42 (dk_at dksX3_law_3 15 rfl rfl)
theorem dX3_law_87 : decode cX3_law 87 = .ok (.aload_n 0, 1) := dk_42 (dk_at dksX3_law_3 16 rfl rfl)
theorem dX3_law_88 : decode cX3_law 88 = .ok (.getfield 84, 3) := dk_180 0 84 (dk_at dksX3_law_3 17 rfl rfl)
theorem dX3_law_91 : decode cX3_law 91 = .ok (.iload_n 3, 1) := dk_29 (dk_at dksX3_law_3 20 rfl rfl)
theorem dX3_law_92 : decode cX3_law 92 = .ok (.invokevirtual 244, 3) := dk_182 0 244 (dk_at dksX3_law_3 21 rfl rfl)
theorem dX3_law_95 : decode cX3_law 95 = .ok (.aload_n 0, 1) := dk_42 (dk_at dksX3_law_4 0 rfl rfl)
theorem dX3_law_96 : decode cX3_law 96 = .ok (.iconst 0, 1) := dk_3 (dk_at dksX3_law_4 1 rfl rfl)
theorem dX3_law_97 : decode cX3_law 97 = .ok (.putfield 119, 3) := dk_181 0 119 (dk_at dksX3_law_4 2 rfl rfl)
theorem dX3_law_100 : decode cX3_law 100 = .ok (.aload_n 0, 1) := dk_42 (dk_at dksX3_law_4 5 rfl rfl)
theorem dX3_law_101 : decode cX3_law 101 = .ok (.iload 4, 2) := dk_21 4 (dk_at dksX3_law_4 6 rfl rfl)
theorem dX3_law_103 : decode cX3_law 103 = .ok (.i2l, 1) := dk_133 (dk_at dksX3_law_4 8 rfl rfl)
theorem dX3_law_104 : decode cX3_law 104 = .ok (.invokevirtual 359, 3) := dk_182 1 103 (dk_at dksX3_law_4 9 rfl rfl)
theorem dX3_law_107 : decode cX3_law 107 = .ok (.aload_n 0, 1) := dk_42 (dk_at dksX3_law_4 12 rfl rfl)
theorem dX3_law_108 : decode cX3_law 108 = .ok (.iload_n 2, 1) := dk_28 (dk_at dksX3_law_4 13 rfl rfl)
theorem dX3_law_109 : decode cX3_law 109 = .ok (.i2l, 1) := dk_133 (dk_at dksX3_law_4 14 rfl rfl)
theorem dX3_law_110 : decode cX3_law 110 = .ok (.invokevirtual 359, 3) := dk_182 1 103 (dk_at dksX3_law_4 15 rfl rfl)
theorem dX3_law_113 : decode cX3_law 113 = .ok (.iload 4, 2) := dk_21 4 (dk_at dksX3_law_4 18 rfl rfl)
theorem dX3_law_115 : decode cX3_law 115 = .ok (.iload_n 2, 1) := dk_28 (dk_at dksX3_law_4 20 rfl rfl)
theorem dX3_law_116 : decode cX3_law 116 = .ok (.isub, 1) := dk_100 (dk_at dksX3_law_4 21 rfl rfl)
theorem dX3_law_117 : decode cX3_law 117 = .ok (.ireturn, 1) := dk_172 (dk_at dksX3_law_4 22 rfl rfl)
abbrev cX3_seen : ByteArray := prog_13_method_95_code
def yX3_seen : MethodName := ⟨RX3, "seen", "(II)I"⟩
def dkwX3_seen_3 : List UInt8 := [42, 180, 0, 188, 184, 0, 251, 172]
abbrev dktX3_seen_3 : List UInt8 := dkwX3_seen_3 ++ []
def dkwX3_seen_2 : List UInt8 := [160, 0, 5, 2, 172, 42, 89, 180, 0, 188, 4, 27, 120, 128, 181, 0, 188, 42, 180, 0, 87, 27, 28, 79]
abbrev dktX3_seen_2 : List UInt8 := dkwX3_seen_2 ++ dktX3_seen_3
def dkwX3_seen_1 : List UInt8 := [153, 0, 25, 42, 180, 0, 188, 27, 184, 1, 13, 154, 0, 16, 42, 180, 0, 188, 184, 0, 251, 7]
abbrev dktX3_seen_1 : List UInt8 := dkwX3_seen_1 ++ dktX3_seen_2
def dkwX3_seen_0 : List UInt8 := [42, 3, 181, 0, 112, 42, 27, 182, 1, 24, 153, 0, 37, 28, 133, 9, 20, 1, 113, 184, 0, 122]
abbrev dktX3_seen_0 : List UInt8 := dkwX3_seen_0 ++ dktX3_seen_1
theorem dksX3_seen_0 : cX3_seen.data.toList.drop 0 = dktX3_seen_0 := by decide +kernel
theorem dksX3_seen_1 : cX3_seen.data.toList.drop 22 = dktX3_seen_1 := dk_seg dksX3_seen_0 22 rfl rfl
theorem dksX3_seen_2 : cX3_seen.data.toList.drop 44 = dktX3_seen_2 := dk_seg dksX3_seen_1 22 rfl rfl
theorem dksX3_seen_3 : cX3_seen.data.toList.drop 68 = dktX3_seen_3 := dk_seg dksX3_seen_2 24 rfl rfl
theorem dX3_seen_0 : decode cX3_seen 0 = .ok (.aload_n 0, 1) := dk_42 (dk_at dksX3_seen_0 0 rfl rfl)
theorem dX3_seen_1 : decode cX3_seen 1 = .ok (.iconst 0, 1) := dk_3 (dk_at dksX3_seen_0 1 rfl rfl)
theorem dX3_seen_2 : decode cX3_seen 2 = .ok (.putfield 112, 3) := dk_181 0 112 (dk_at dksX3_seen_0 2 rfl rfl)
theorem dX3_seen_5 : decode cX3_seen 5 = .ok (.aload_n 0, 1) := dk_42 (dk_at dksX3_seen_0 5 rfl rfl)
theorem dX3_seen_6 : decode cX3_seen 6 = .ok (.iload_n 1, 1) := dk_27 (dk_at dksX3_seen_0 6 rfl rfl)
theorem dX3_seen_7 : decode cX3_seen 7 = .ok (.invokevirtual 280, 3) := dk_182 1 24 (dk_at dksX3_seen_0 7 rfl rfl)
theorem dX3_seen_10 : decode cX3_seen 10 = .ok (.ifCond .eq 37, 3) := dk_153 0 37 (dk_at dksX3_seen_0 10 rfl rfl)
theorem dX3_seen_13 : decode cX3_seen 13 = .ok (.iload_n 2, 1) := dk_28 (dk_at dksX3_seen_0 13 rfl rfl)
theorem dX3_seen_14 : decode cX3_seen 14 = .ok (.i2l, 1) := dk_133 (dk_at dksX3_seen_0 14 rfl rfl)
theorem dX3_seen_15 : decode cX3_seen 15 = .ok (.lconst 0, 1) := dk_9 (dk_at dksX3_seen_0 15 rfl rfl)
theorem dX3_seen_16 : decode cX3_seen 16 = .ok (.ldc2_w 369, 3) := dk_20 1 113 (dk_at dksX3_seen_0 16 rfl rfl)
theorem dX3_seen_19 : decode cX3_seen 19 = .ok (.invokestatic 122, 3) := dk_184 0 122 (dk_at dksX3_seen_0 19 rfl rfl)
theorem dX3_seen_22 : decode cX3_seen 22 = .ok (.ifCond .eq 25, 3) := dk_153 0 25 (dk_at dksX3_seen_1 0 rfl rfl)
theorem dX3_seen_25 : decode cX3_seen 25 = .ok (.aload_n 0, 1) := dk_42 (dk_at dksX3_seen_1 3 rfl rfl)
theorem dX3_seen_26 : decode cX3_seen 26 = .ok (.getfield 188, 3) := dk_180 0 188 (dk_at dksX3_seen_1 4 rfl rfl)
theorem dX3_seen_29 : decode cX3_seen 29 = .ok (.iload_n 1, 1) := dk_27 (dk_at dksX3_seen_1 7 rfl rfl)
theorem dX3_seen_30 : decode cX3_seen 30 = .ok (.invokestatic 269, 3) := dk_184 1 13 (dk_at dksX3_seen_1 8 rfl rfl)
theorem dX3_seen_33 : decode cX3_seen 33 = .ok (.ifCond .ne 16, 3) := dk_154 0 16 (dk_at dksX3_seen_1 11 rfl rfl)
theorem dX3_seen_36 : decode cX3_seen 36 = .ok (.aload_n 0, 1) := dk_42 (dk_at dksX3_seen_1 14 rfl rfl)
theorem dX3_seen_37 : decode cX3_seen 37 = .ok (.getfield 188, 3) := dk_180 0 188 (dk_at dksX3_seen_1 15 rfl rfl)
theorem dX3_seen_40 : decode cX3_seen 40 = .ok (.invokestatic 251, 3) := dk_184 0 251 (dk_at dksX3_seen_1 18 rfl rfl)
theorem dX3_seen_43 : decode cX3_seen 43 = .ok (.iconst 4, 1) := dk_7 (dk_at dksX3_seen_1 21 rfl rfl)
theorem dX3_seen_44 : decode cX3_seen 44 = .ok (.if_icmp .ne 5, 3) := dk_160 0 5 (dk_at dksX3_seen_2 0 rfl rfl)
theorem dX3_seen_47 : decode cX3_seen 47 = .ok (.iconst (-1), 1) := dk_2 (dk_at dksX3_seen_2 3 rfl rfl)
theorem dX3_seen_48 : decode cX3_seen 48 = .ok (.ireturn, 1) := dk_172 (dk_at dksX3_seen_2 4 rfl rfl)
theorem dX3_seen_49 : decode cX3_seen 49 = .ok (.aload_n 0, 1) := dk_42 (dk_at dksX3_seen_2 5 rfl rfl)
theorem dX3_seen_50 : decode cX3_seen 50 = .ok (.dup, 1) := dk_89 (dk_at dksX3_seen_2 6 rfl rfl)
theorem dX3_seen_51 : decode cX3_seen 51 = .ok (.getfield 188, 3) := dk_180 0 188 (dk_at dksX3_seen_2 7 rfl rfl)
theorem dX3_seen_54 : decode cX3_seen 54 = .ok (.iconst 1, 1) := dk_4 (dk_at dksX3_seen_2 10 rfl rfl)
theorem dX3_seen_55 : decode cX3_seen 55 = .ok (.iload_n 1, 1) := dk_27 (dk_at dksX3_seen_2 11 rfl rfl)
theorem dX3_seen_56 : decode cX3_seen 56 = .ok (.ishl, 1) := dk_120 (dk_at dksX3_seen_2 12 rfl rfl)
theorem dX3_seen_57 : decode cX3_seen 57 = .ok (.ior, 1) := dk_128 (dk_at dksX3_seen_2 13 rfl rfl)
theorem dX3_seen_58 : decode cX3_seen 58 = .ok (.putfield 188, 3) := dk_181 0 188 (dk_at dksX3_seen_2 14 rfl rfl)
theorem dX3_seen_61 : decode cX3_seen 61 = .ok (.aload_n 0, 1) := dk_42 (dk_at dksX3_seen_2 17 rfl rfl)
theorem dX3_seen_62 : decode cX3_seen 62 = .ok (.getfield 87, 3) := dk_180 0 87 (dk_at dksX3_seen_2 18 rfl rfl)
theorem dX3_seen_65 : decode cX3_seen 65 = .ok (.iload_n 1, 1) := dk_27 (dk_at dksX3_seen_2 21 rfl rfl)
theorem dX3_seen_66 : decode cX3_seen 66 = .ok (.iload_n 2, 1) := dk_28 (dk_at dksX3_seen_2 22 rfl rfl)
theorem dX3_seen_67 : decode cX3_seen 67 = .ok (.iastore, 1) := dk_79 (dk_at dksX3_seen_2 23 rfl rfl)
theorem dX3_seen_68 : decode cX3_seen 68 = .ok (.aload_n 0, 1) := dk_42 (dk_at dksX3_seen_3 0 rfl rfl)
theorem dX3_seen_69 : decode cX3_seen 69 = .ok (.getfield 188, 3) := dk_180 0 188 (dk_at dksX3_seen_3 1 rfl rfl)
theorem dX3_seen_72 : decode cX3_seen 72 = .ok (.invokestatic 251, 3) := dk_184 0 251 (dk_at dksX3_seen_3 4 rfl rfl)
theorem dX3_seen_75 : decode cX3_seen 75 = .ok (.ireturn, 1) := dk_172 (dk_at dksX3_seen_3 7 rfl rfl)
abbrev cX3_forget : ByteArray := prog_13_method_96_code
def yX3_forget : MethodName := ⟨RX3, "forget", "()I"⟩
def dkwX3_forget_0 : List UInt8 := [42, 3, 181, 0, 112, 42, 180, 0, 188, 184, 0, 251, 60, 42, 3, 181, 0, 188, 27, 172]
abbrev dktX3_forget_0 : List UInt8 := dkwX3_forget_0 ++ []
theorem dksX3_forget_0 : cX3_forget.data.toList.drop 0 = dktX3_forget_0 := by decide +kernel
theorem dX3_forget_0 : decode cX3_forget 0 = .ok (.aload_n 0, 1) := dk_42 (dk_at dksX3_forget_0 0 rfl rfl)
theorem dX3_forget_1 : decode cX3_forget 1 = .ok (.iconst 0, 1) := dk_3 (dk_at dksX3_forget_0 1 rfl rfl)
theorem dX3_forget_2 : decode cX3_forget 2 = .ok (.putfield 112, 3) := dk_181 0 112 (dk_at dksX3_forget_0 2 rfl rfl)
theorem dX3_forget_5 : decode cX3_forget 5 = .ok (.aload_n 0, 1) := dk_42 (dk_at dksX3_forget_0 5 rfl rfl)
theorem dX3_forget_6 : decode cX3_forget 6 = .ok (.getfield 188, 3) := dk_180 0 188 (dk_at dksX3_forget_0 6 rfl rfl)
theorem dX3_forget_9 : decode cX3_forget 9 = .ok (.invokestatic 251, 3) := dk_184 0 251 (dk_at dksX3_forget_0 9 rfl rfl)
theorem dX3_forget_12 : decode cX3_forget 12 = .ok (.istore_n 1, 1) := dk_60 (dk_at dksX3_forget_0 12 rfl rfl)
theorem dX3_forget_13 : decode cX3_forget 13 = .ok (.aload_n 0, 1) := dk_42 (dk_at dksX3_forget_0 13 rfl rfl)
theorem dX3_forget_14 : decode cX3_forget 14 = .ok (.iconst 0, 1) := dk_3 (dk_at dksX3_forget_0 14 rfl rfl)
theorem dX3_forget_15 : decode cX3_forget 15 = .ok (.putfield 188, 3) := dk_181 0 188 (dk_at dksX3_forget_0 15 rfl rfl)
theorem dX3_forget_18 : decode cX3_forget 18 = .ok (.iload_n 1, 1) := dk_27 (dk_at dksX3_forget_0 18 rfl rfl)
theorem dX3_forget_19 : decode cX3_forget 19 = .ok (.ireturn, 1) := dk_172 (dk_at dksX3_forget_0 19 rfl rfl)
abbrev cX3_ways : ByteArray := prog_13_method_100_code
def yX3_ways : MethodName := ⟨RX3, "ways", "()I"⟩
def dkwX3_ways_2 : List UInt8 := [42, 180, 1, 180, 172]
abbrev dktX3_ways_2 : List UInt8 := dkwX3_ways_2 ++ []
def dkwX3_ways_1 : List UInt8 := [42, 180, 1, 180, 158, 0, 20, 42, 42, 180, 0, 96, 27, 46, 133, 182, 1, 103, 132, 1, 1, 167, 255, 227]
abbrev dktX3_ways_1 : List UInt8 := dkwX3_ways_1 ++ dktX3_ways_2
def dkwX3_ways_0 : List UInt8 := [42, 3, 181, 0, 112, 42, 182, 1, 186, 42, 3, 181, 0, 119, 3, 60, 27, 42, 180, 0, 126, 162, 0, 27]
abbrev dktX3_ways_0 : List UInt8 := dkwX3_ways_0 ++ dktX3_ways_1
theorem dksX3_ways_0 : cX3_ways.data.toList.drop 0 = dktX3_ways_0 := by decide +kernel
theorem dksX3_ways_1 : cX3_ways.data.toList.drop 24 = dktX3_ways_1 := dk_seg dksX3_ways_0 24 rfl rfl
theorem dksX3_ways_2 : cX3_ways.data.toList.drop 48 = dktX3_ways_2 := dk_seg dksX3_ways_1 24 rfl rfl
theorem dX3_ways_0 : decode cX3_ways 0 = .ok (.aload_n 0, 1) := dk_42 (dk_at dksX3_ways_0 0 rfl rfl)
theorem dX3_ways_1 : decode cX3_ways 1 = .ok (.iconst 0, 1) := dk_3 (dk_at dksX3_ways_0 1 rfl rfl)
theorem dX3_ways_2 : decode cX3_ways 2 = .ok (.putfield 112, 3) := dk_181 0 112 (dk_at dksX3_ways_0 2 rfl rfl)
theorem dX3_ways_5 : decode cX3_ways 5 = .ok (.aload_n 0, 1) := dk_42 (dk_at dksX3_ways_0 5 rfl rfl)
theorem dX3_ways_6 : decode cX3_ways 6 = .ok (.invokevirtual 442, 3) := dk_182 1 186 (dk_at dksX3_ways_0 6 rfl rfl)
theorem dX3_ways_9 : decode cX3_ways 9 = .ok (.aload_n 0, 1) := dk_42 (dk_at dksX3_ways_0 9 rfl rfl)
theorem dX3_ways_10 : decode cX3_ways 10 = .ok (.iconst 0, 1) := dk_3 (dk_at dksX3_ways_0 10 rfl rfl)
theorem dX3_ways_11 : decode cX3_ways 11 = .ok (.putfield 119, 3) := dk_181 0 119 (dk_at dksX3_ways_0 11 rfl rfl)
theorem dX3_ways_14 : decode cX3_ways 14 = .ok (.iconst 0, 1) := dk_3 (dk_at dksX3_ways_0 14 rfl rfl)
theorem dX3_ways_15 : decode cX3_ways 15 = .ok (.istore_n 1, 1) := dk_60 (dk_at dksX3_ways_0 15 rfl rfl)
theorem dX3_ways_16 : decode cX3_ways 16 = .ok (.iload_n 1, 1) := dk_27 (dk_at dksX3_ways_0 16 rfl rfl)
theorem dX3_ways_17 : decode cX3_ways 17 = .ok (.aload_n 0, 1) := dk_42 (dk_at dksX3_ways_0 17 rfl rfl)
theorem dX3_ways_18 : decode cX3_ways 18 = .ok (.getfield 126, 3) := dk_180 0 126 (dk_at dksX3_ways_0 18 rfl rfl)
theorem dX3_ways_21 : decode cX3_ways 21 = .ok (.if_icmp .ge 27, 3) := dk_162 0 27 (dk_at dksX3_ways_0 21 rfl rfl)
theorem dX3_ways_24 : decode cX3_ways 24 = .ok (.aload_n 0, 1) := dk_42 (dk_at dksX3_ways_1 0 rfl rfl)
theorem dX3_ways_25 : decode cX3_ways 25 = .ok (.getfield 436, 3) := dk_180 1 180 (dk_at dksX3_ways_1 1 rfl rfl)
theorem dX3_ways_28 : decode cX3_ways 28 = .ok (.ifCond .le 20, 3) := dk_158 0 20 (dk_at dksX3_ways_1 4 rfl rfl)
theorem dX3_ways_31 : decode cX3_ways 31 = .ok (.aload_n 0, 1) := dk_42 (dk_at dksX3_ways_1 7 rfl rfl)
theorem dX3_ways_32 : decode cX3_ways 32 = .ok (.aload_n 0, 1) := dk_42 (dk_at dksX3_ways_1 8 rfl rfl)
theorem dX3_ways_33 : decode cX3_ways 33 = .ok (.getfield 96, 3) := dk_180 0 96 (dk_at dksX3_ways_1 9 rfl rfl)
theorem dX3_ways_36 : decode cX3_ways 36 = .ok (.iload_n 1, 1) := dk_27 (dk_at dksX3_ways_1 12 rfl rfl)
theorem dX3_ways_37 : decode cX3_ways 37 = .ok (.iaload, 1) := dk_46 (dk_at dksX3_ways_1 13 rfl rfl)
theorem dX3_ways_38 : decode cX3_ways 38 = .ok (.i2l, 1) := dk_133 (dk_at dksX3_ways_1 14 rfl rfl)
theorem dX3_ways_39 : decode cX3_ways 39 = .ok (.invokevirtual 359, 3) := dk_182 1 103 (dk_at dksX3_ways_1 15 rfl rfl)
theorem dX3_ways_42 : decode cX3_ways 42 = .ok (.iinc 1 1, 3) := dk_132 1 1 (dk_at dksX3_ways_1 18 rfl rfl)
theorem dX3_ways_45 : decode cX3_ways 45 = .ok (.goto (-29), 3) := dk_167 255 227 (dk_at dksX3_ways_1 21 rfl rfl)
theorem dX3_ways_48 : decode cX3_ways 48 = .ok (.aload_n 0, 1) := dk_42 (dk_at dksX3_ways_2 0 rfl rfl)
theorem dX3_ways_49 : decode cX3_ways 49 = .ok (.getfield 436, 3) := dk_180 1 180 (dk_at dksX3_ways_2 1 rfl rfl)
theorem dX3_ways_52 : decode cX3_ways 52 = .ok (.ireturn, 1) := dk_172 (dk_at dksX3_ways_2 4 rfl rfl)
abbrev cX3_laysPlaces : ByteArray := prog_13_method_99_code
def yX3_laysPlaces : MethodName := ⟨RX3, "laysPlaces", "()V"⟩
def dkwX3_laysPlaces_2 : List UInt8 := [132, 1, 1, 167, 255, 238, 42, 3, 182, 1, 183, 177]
abbrev dktX3_laysPlaces_2 : List UInt8 := dkwX3_laysPlaces_2 ++ []
def dkwX3_laysPlaces_1 : List UInt8 := [132, 1, 1, 167, 255, 238, 3, 60, 27, 42, 180, 0, 13, 162, 0, 16, 42, 180, 0, 90, 27, 3, 79]
abbrev dktX3_laysPlaces_1 : List UInt8 := dkwX3_laysPlaces_1 ++ dktX3_laysPlaces_2
def dkwX3_laysPlaces_0 : List UInt8 := [42, 3, 181, 1, 180, 3, 60, 27, 42, 180, 0, 126, 162, 0, 16, 42, 180, 0, 99, 27, 3, 79]
abbrev dktX3_laysPlaces_0 : List UInt8 := dkwX3_laysPlaces_0 ++ dktX3_laysPlaces_1
theorem dksX3_laysPlaces_0 : cX3_laysPlaces.data.toList.drop 0 = dktX3_laysPlaces_0 := by decide +kernel
theorem dksX3_laysPlaces_1 : cX3_laysPlaces.data.toList.drop 22 = dktX3_laysPlaces_1 := dk_seg dksX3_laysPlaces_0 22 rfl rfl
theorem dksX3_laysPlaces_2 : cX3_laysPlaces.data.toList.drop 45 = dktX3_laysPlaces_2 := dk_seg dksX3_laysPlaces_1 23 rfl rfl
theorem dX3_laysPlaces_0 : decode cX3_laysPlaces 0 = .ok (.aload_n 0, 1) := dk_42 (dk_at dksX3_laysPlaces_0 0 rfl rfl)
theorem dX3_laysPlaces_1 : decode cX3_laysPlaces 1 = .ok (.iconst 0, 1) := dk_3 (dk_at dksX3_laysPlaces_0 1 rfl rfl)
theorem dX3_laysPlaces_2 : decode cX3_laysPlaces 2 = .ok (.putfield 436, 3) := dk_181 1 180 (dk_at dksX3_laysPlaces_0 2 rfl rfl)
theorem dX3_laysPlaces_5 : decode cX3_laysPlaces 5 = .ok (.iconst 0, 1) := dk_3 (dk_at dksX3_laysPlaces_0 5 rfl rfl)
theorem dX3_laysPlaces_6 : decode cX3_laysPlaces 6 = .ok (.istore_n 1, 1) := dk_60 (dk_at dksX3_laysPlaces_0 6 rfl rfl)
theorem dX3_laysPlaces_7 : decode cX3_laysPlaces 7 = .ok (.iload_n 1, 1) := dk_27 (dk_at dksX3_laysPlaces_0 7 rfl rfl)
theorem dX3_laysPlaces_8 : decode cX3_laysPlaces 8 = .ok (.aload_n 0, 1) := dk_42 (dk_at dksX3_laysPlaces_0 8 rfl rfl)
theorem dX3_laysPlaces_9 : decode cX3_laysPlaces 9 = .ok (.getfield 126, 3) := dk_180 0 126 (dk_at dksX3_laysPlaces_0 9 rfl rfl)
theorem dX3_laysPlaces_12 : decode cX3_laysPlaces 12 = .ok (.if_icmp .ge 16, 3) := dk_162 0 16 (dk_at dksX3_laysPlaces_0 12 rfl rfl)
theorem dX3_laysPlaces_15 : decode cX3_laysPlaces 15 = .ok (.aload_n 0, 1) := dk_42 (dk_at dksX3_laysPlaces_0 15 rfl rfl)
theorem dX3_laysPlaces_16 : decode cX3_laysPlaces 16 = .ok (.getfield 99, 3) := dk_180 0 99 (dk_at dksX3_laysPlaces_0 16 rfl rfl)
theorem dX3_laysPlaces_19 : decode cX3_laysPlaces 19 = .ok (.iload_n 1, 1) := dk_27 (dk_at dksX3_laysPlaces_0 19 rfl rfl)
theorem dX3_laysPlaces_20 : decode cX3_laysPlaces 20 = .ok (.iconst 0, 1) := dk_3 (dk_at dksX3_laysPlaces_0 20 rfl rfl)
theorem dX3_laysPlaces_21 : decode cX3_laysPlaces 21 = .ok (.iastore, 1) := dk_79 (dk_at dksX3_laysPlaces_0 21 rfl rfl)
theorem dX3_laysPlaces_22 : decode cX3_laysPlaces 22 = .ok (.iinc 1 1, 3) := dk_132 1 1 (dk_at dksX3_laysPlaces_1 0 rfl rfl)
theorem dX3_laysPlaces_25 : decode cX3_laysPlaces 25 = .ok (.goto (-18), 3) := dk_167 255 238 (dk_at dksX3_laysPlaces_1 3 rfl rfl)
theorem dX3_laysPlaces_28 : decode cX3_laysPlaces 28 = .ok (.iconst 0, 1) := dk_3 (dk_at dksX3_laysPlaces_1 6 rfl rfl)
theorem dX3_laysPlaces_29 : decode cX3_laysPlaces 29 = .ok (.istore_n 1, 1) := dk_60 (dk_at dksX3_laysPlaces_1 7 rfl rfl)
theorem dX3_laysPlaces_30 : decode cX3_laysPlaces 30 = .ok (.iload_n 1, 1) := dk_27 (dk_at dksX3_laysPlaces_1 8 rfl rfl)
theorem dX3_laysPlaces_31 : decode cX3_laysPlaces 31 = .ok (.aload_n 0, 1) := dk_42 (dk_at dksX3_laysPlaces_1 9 rfl rfl)
theorem dX3_laysPlaces_32 : decode cX3_laysPlaces 32 = .ok (.getfield 13, 3) := dk_180 0 13 (dk_at dksX3_laysPlaces_1 10 rfl rfl)
theorem dX3_laysPlaces_35 : decode cX3_laysPlaces 35 = .ok (.if_icmp .ge 16, 3) := dk_162 0 16 (dk_at dksX3_laysPlaces_1 13 rfl rfl)
theorem dX3_laysPlaces_38 : decode cX3_laysPlaces 38 = .ok (.aload_n 0, 1) := dk_42 (dk_at dksX3_laysPlaces_1 16 rfl rfl)
theorem dX3_laysPlaces_39 : decode cX3_laysPlaces 39 = .ok (.getfield 90, 3) := dk_180 0 90 (dk_at dksX3_laysPlaces_1 17 rfl rfl)
theorem dX3_laysPlaces_42 : decode cX3_laysPlaces 42 = .ok (.iload_n 1, 1) := dk_27 (dk_at dksX3_laysPlaces_1 20 rfl rfl)
theorem dX3_laysPlaces_43 : decode cX3_laysPlaces 43 = .ok (.iconst 0, 1) := dk_3 (dk_at dksX3_laysPlaces_1 21 rfl rfl)
theorem dX3_laysPlaces_44 : decode cX3_laysPlaces 44 = .ok (.iastore, 1) := dk_79 (dk_at dksX3_laysPlaces_1 22 rfl rfl)
theorem dX3_laysPlaces_45 : decode cX3_laysPlaces 45 = .ok (.iinc 1 1, 3) := dk_132 1 1 (dk_at dksX3_laysPlaces_2 0 rfl rfl)
theorem dX3_laysPlaces_48 : decode cX3_laysPlaces 48 = .ok (.goto (-18), 3) := dk_167 255 238 (dk_at dksX3_laysPlaces_2 3 rfl rfl)
theorem dX3_laysPlaces_51 : decode cX3_laysPlaces 51 = .ok (.aload_n 0, 1) := dk_42 (dk_at dksX3_laysPlaces_2 6 rfl rfl)
theorem dX3_laysPlaces_52 : decode cX3_laysPlaces 52 = .ok (.iconst 0, 1) := dk_3 (dk_at dksX3_laysPlaces_2 7 rfl rfl)
theorem dX3_laysPlaces_53 : decode cX3_laysPlaces 53 = .ok (.invokevirtual 439, 3) := dk_182 1 183 (dk_at dksX3_laysPlaces_2 8 rfl rfl)
theorem dX3_laysPlaces_56 : decode cX3_laysPlaces 56 = .ok (.return_, 1) := dk_177 (dk_at dksX3_laysPlaces_2 11 rfl rfl)
abbrev cX3_placesFrom : ByteArray := prog_13_method_98_code
def yX3_placesFrom : MethodName := ⟨RX3, "placesFrom", "(I)V"⟩
def dkwX3_placesFrom_8 : List UInt8 := [132, 2, 1, 167, 255, 168, 177]
abbrev dktX3_placesFrom_8 : List UInt8 := dkwX3_placesFrom_8 ++ []
def dkwX3_placesFrom_7 : List UInt8 := [96, 79, 42, 27, 4, 96, 182, 1, 183, 42, 180, 0, 90, 28, 92, 46, 42, 180, 0, 27, 27, 46, 100, 79]
abbrev dktX3_placesFrom_7 : List UInt8 := dkwX3_placesFrom_7 ++ dktX3_placesFrom_8
def dkwX3_placesFrom_6 : List UInt8 := [46, 163, 0, 47, 42, 180, 0, 93, 27, 28, 79, 42, 180, 0, 90, 28, 92, 46, 42, 180, 0, 27, 27, 46]
abbrev dktX3_placesFrom_6 : List UInt8 := dkwX3_placesFrom_6 ++ dktX3_placesFrom_7
def dkwX3_placesFrom_5 : List UInt8 := [184, 1, 13, 153, 0, 69, 42, 180, 0, 90, 28, 46, 42, 180, 0, 27, 27, 46, 96, 42, 180, 0, 87, 28]
abbrev dktX3_placesFrom_5 : List UInt8 := dkwX3_placesFrom_5 ++ dktX3_placesFrom_6
def dkwX3_placesFrom_4 : List UInt8 := [2, 79, 42, 27, 4, 96, 182, 1, 183, 3, 61, 28, 42, 180, 0, 13, 162, 0, 86, 42, 180, 0, 188, 28]
abbrev dktX3_placesFrom_4 : List UInt8 := dkwX3_placesFrom_4 ++ dktX3_placesFrom_5
def dkwX3_placesFrom_3 : List UInt8 := [128, 79, 132, 2, 1, 167, 255, 198, 42, 89, 180, 1, 180, 4, 96, 181, 1, 180, 177, 42, 180, 0, 93, 27]
abbrev dktX3_placesFrom_3 : List UInt8 := dkwX3_placesFrom_3 ++ dktX3_placesFrom_4
def dkwX3_placesFrom_2 : List UInt8 := [42, 180, 0, 96, 28, 46, 79, 42, 180, 0, 99, 28, 92, 46, 4, 42, 180, 0, 93, 28, 46, 4, 96, 120]
abbrev dktX3_placesFrom_2 : List UInt8 := dkwX3_placesFrom_2 ++ dktX3_placesFrom_3
def dkwX3_placesFrom_1 : List UInt8 := [162, 0, 56, 42, 180, 0, 96, 28, 42, 180, 1, 180, 154, 0, 12, 42, 180, 0, 93, 28, 46, 167, 0, 9]
abbrev dktX3_placesFrom_1 : List UInt8 := dkwX3_placesFrom_1 ++ dktX3_placesFrom_2
def dkwX3_placesFrom_0 : List UInt8 := [27, 42, 180, 0, 126, 160, 0, 84, 42, 182, 1, 177, 153, 0, 76, 3, 61, 28, 42, 180, 0, 126]
abbrev dktX3_placesFrom_0 : List UInt8 := dkwX3_placesFrom_0 ++ dktX3_placesFrom_1
theorem dksX3_placesFrom_0 : cX3_placesFrom.data.toList.drop 0 = dktX3_placesFrom_0 := by decide +kernel
theorem dksX3_placesFrom_1 : cX3_placesFrom.data.toList.drop 22 = dktX3_placesFrom_1 := dk_seg dksX3_placesFrom_0 22 rfl rfl
theorem dksX3_placesFrom_2 : cX3_placesFrom.data.toList.drop 46 = dktX3_placesFrom_2 := dk_seg dksX3_placesFrom_1 24 rfl rfl
theorem dksX3_placesFrom_3 : cX3_placesFrom.data.toList.drop 70 = dktX3_placesFrom_3 := dk_seg dksX3_placesFrom_2 24 rfl rfl
theorem dksX3_placesFrom_4 : cX3_placesFrom.data.toList.drop 94 = dktX3_placesFrom_4 := dk_seg dksX3_placesFrom_3 24 rfl rfl
theorem dksX3_placesFrom_5 : cX3_placesFrom.data.toList.drop 118 = dktX3_placesFrom_5 := dk_seg dksX3_placesFrom_4 24 rfl rfl
theorem dksX3_placesFrom_6 : cX3_placesFrom.data.toList.drop 142 = dktX3_placesFrom_6 := dk_seg dksX3_placesFrom_5 24 rfl rfl
theorem dksX3_placesFrom_7 : cX3_placesFrom.data.toList.drop 166 = dktX3_placesFrom_7 := dk_seg dksX3_placesFrom_6 24 rfl rfl
theorem dksX3_placesFrom_8 : cX3_placesFrom.data.toList.drop 190 = dktX3_placesFrom_8 := dk_seg dksX3_placesFrom_7 24 rfl rfl
theorem dX3_placesFrom_0 : decode cX3_placesFrom 0 = .ok (.iload_n 1, 1) := dk_27 (dk_at dksX3_placesFrom_0 0 rfl rfl)
theorem dX3_placesFrom_1 : decode cX3_placesFrom 1 = .ok (.aload_n 0, 1) := dk_42 (dk_at dksX3_placesFrom_0 1 rfl rfl)
theorem dX3_placesFrom_2 : decode cX3_placesFrom 2 = .ok (.getfield 126, 3) := dk_180 0 126 (dk_at dksX3_placesFrom_0 2 rfl rfl)
theorem dX3_placesFrom_5 : decode cX3_placesFrom 5 = .ok (.if_icmp .ne 84, 3) := dk_160 0 84 (dk_at dksX3_placesFrom_0 5 rfl rfl)
theorem dX3_placesFrom_8 : decode cX3_placesFrom 8 = .ok (.aload_n 0, 1) := dk_42 (dk_at dksX3_placesFrom_0 8 rfl rfl)
theorem dX3_placesFrom_9 : decode cX3_placesFrom 9 = .ok (.invokevirtual 433, 3) := dk_182 1 177 (dk_at dksX3_placesFrom_0 9 rfl rfl)
theorem dX3_placesFrom_12 : decode cX3_placesFrom 12 = .ok (.ifCond .eq 76, 3) := dk_153 0 76 (dk_at dksX3_placesFrom_0 12 rfl rfl)
theorem dX3_placesFrom_15 : decode cX3_placesFrom 15 = .ok (.iconst 0, 1) := dk_3 (dk_at dksX3_placesFrom_0 15 rfl rfl)
theorem dX3_placesFrom_16 : decode cX3_placesFrom 16 = .ok (.istore_n 2, 1) := dk_61 (dk_at dksX3_placesFrom_0 16 rfl rfl)
theorem dX3_placesFrom_17 : decode cX3_placesFrom 17 = .ok (.iload_n 2, 1) := dk_28 (dk_at dksX3_placesFrom_0 17 rfl rfl)
theorem dX3_placesFrom_18 : decode cX3_placesFrom 18 = .ok (.aload_n 0, 1) := dk_42 (dk_at dksX3_placesFrom_0 18 rfl rfl)
theorem dX3_placesFrom_19 : decode cX3_placesFrom 19 = .ok (.getfield 126, 3) := dk_180 0 126 (dk_at dksX3_placesFrom_0 19 rfl rfl)
theorem dX3_placesFrom_22 : decode cX3_placesFrom 22 = .ok (.if_icmp .ge 56, 3) := dk_162 0 56 (dk_at dksX3_placesFrom_1 0 rfl rfl)
theorem dX3_placesFrom_25 : decode cX3_placesFrom 25 = .ok (.aload_n 0, 1) := dk_42 (dk_at dksX3_placesFrom_1 3 rfl rfl)
theorem dX3_placesFrom_26 : decode cX3_placesFrom 26 = .ok (.getfield 96, 3) := dk_180 0 96 (dk_at dksX3_placesFrom_1 4 rfl rfl)
theorem dX3_placesFrom_29 : decode cX3_placesFrom 29 = .ok (.iload_n 2, 1) := dk_28 (dk_at dksX3_placesFrom_1 7 rfl rfl)
theorem dX3_placesFrom_30 : decode cX3_placesFrom 30 = .ok (.aload_n 0, 1) := dk_42 (dk_at dksX3_placesFrom_1 8 rfl rfl)
theorem dX3_placesFrom_31 : decode cX3_placesFrom 31 = .ok (.getfield 436, 3) := dk_180 1 180 (dk_at dksX3_placesFrom_1 9 rfl rfl)
theorem dX3_placesFrom_34 : decode cX3_placesFrom 34 = .ok (.ifCond .ne 12, 3) := dk_154 0 12 (dk_at dksX3_placesFrom_1 12 rfl rfl)
theorem dX3_placesFrom_37 : decode cX3_placesFrom 37 = .ok (.aload_n 0, 1) := dk_42 (dk_at dksX3_placesFrom_1 15 rfl rfl)
theorem dX3_placesFrom_38 : decode cX3_placesFrom 38 = .ok (.getfield 93, 3) := dk_180 0 93 (dk_at dksX3_placesFrom_1 16 rfl rfl)
theorem dX3_placesFrom_41 : decode cX3_placesFrom 41 = .ok (.iload_n 2, 1) := dk_28 (dk_at dksX3_placesFrom_1 19 rfl rfl)
theorem dX3_placesFrom_42 : decode cX3_placesFrom 42 = .ok (.iaload, 1) := dk_46 (dk_at dksX3_placesFrom_1 20 rfl rfl)
theorem dX3_placesFrom_43 : decode cX3_placesFrom 43 = .ok (.goto 9, 3) := dk_167 0 9 (dk_at dksX3_placesFrom_1 21 rfl rfl)
theorem dX3_placesFrom_46 : decode cX3_placesFrom 46 = .ok (.aload_n 0, 1) := dk_42 (dk_at dksX3_placesFrom_2 0 rfl rfl)
theorem dX3_placesFrom_47 : decode cX3_placesFrom 47 = .ok (.getfield 96, 3) := dk_180 0 96 (dk_at dksX3_placesFrom_2 1 rfl rfl)
theorem dX3_placesFrom_50 : decode cX3_placesFrom 50 = .ok (.iload_n 2, 1) := dk_28 (dk_at dksX3_placesFrom_2 4 rfl rfl)
theorem dX3_placesFrom_51 : decode cX3_placesFrom 51 = .ok (.iaload, 1) := dk_46 (dk_at dksX3_placesFrom_2 5 rfl rfl)
theorem dX3_placesFrom_52 : decode cX3_placesFrom 52 = .ok (.iastore, 1) := dk_79 (dk_at dksX3_placesFrom_2 6 rfl rfl)
theorem dX3_placesFrom_53 : decode cX3_placesFrom 53 = .ok (.aload_n 0, 1) := dk_42 (dk_at dksX3_placesFrom_2 7 rfl rfl)
theorem dX3_placesFrom_54 : decode cX3_placesFrom 54 = .ok (.getfield 99, 3) := dk_180 0 99 (dk_at dksX3_placesFrom_2 8 rfl rfl)
theorem dX3_placesFrom_57 : decode cX3_placesFrom 57 = .ok (.iload_n 2, 1) := dk_28 (dk_at dksX3_placesFrom_2 11 rfl rfl)
theorem dX3_placesFrom_58 : decode cX3_placesFrom 58 = .ok (.dup2, 1) := dk_92 (dk_at dksX3_placesFrom_2 12 rfl rfl)
theorem dX3_placesFrom_59 : decode cX3_placesFrom 59 = .ok (.iaload, 1) := dk_46 (dk_at dksX3_placesFrom_2 13 rfl rfl)
theorem dX3_placesFrom_60 : decode cX3_placesFrom 60 = .ok (.iconst 1, 1) := dk_4 (dk_at dksX3_placesFrom_2 14 rfl rfl)
theorem dX3_placesFrom_61 : decode cX3_placesFrom 61 = .ok (.aload_n 0, 1) := dk_42 (dk_at dksX3_placesFrom_2 15 rfl rfl)
theorem dX3_placesFrom_62 : decode cX3_placesFrom 62 = .ok (.getfield 93, 3) := dk_180 0 93 (dk_at dksX3_placesFrom_2 16 rfl rfl)
theorem dX3_placesFrom_65 : decode cX3_placesFrom 65 = .ok (.iload_n 2, 1) := dk_28 (dk_at dksX3_placesFrom_2 19 rfl rfl)
theorem dX3_placesFrom_66 : decode cX3_placesFrom 66 = .ok (.iaload, 1) := dk_46 (dk_at dksX3_placesFrom_2 20 rfl rfl)
theorem dX3_placesFrom_67 : decode cX3_placesFrom 67 = .ok (.iconst 1, 1) := dk_4 (dk_at dksX3_placesFrom_2 21 rfl rfl)
theorem dX3_placesFrom_68 : decode cX3_placesFrom 68 = .ok (.iadd, 1) := dk_96 (dk_at dksX3_placesFrom_2 22 rfl rfl)
theorem dX3_placesFrom_69 : decode cX3_placesFrom 69 = .ok (.ishl, 1) := dk_120 (dk_at dksX3_placesFrom_2 23 rfl rfl)
theorem dX3_placesFrom_70 : decode cX3_placesFrom 70 = .ok (.ior, 1) := dk_128 (dk_at dksX3_placesFrom_3 0 rfl rfl)
theorem dX3_placesFrom_71 : decode cX3_placesFrom 71 = .ok (.iastore, 1) := dk_79 (dk_at dksX3_placesFrom_3 1 rfl rfl)
theorem dX3_placesFrom_72 : decode cX3_placesFrom 72 = .ok (.iinc 2 1, 3) := dk_132 2 1 (dk_at dksX3_placesFrom_3 2 rfl rfl)
theorem dX3_placesFrom_75 : decode cX3_placesFrom 75 = .ok (.goto (-58), 3) := dk_167 255 198 (dk_at dksX3_placesFrom_3 5 rfl rfl)
theorem dX3_placesFrom_78 : decode cX3_placesFrom 78 = .ok (.aload_n 0, 1) := dk_42 (dk_at dksX3_placesFrom_3 8 rfl rfl)
theorem dX3_placesFrom_79 : decode cX3_placesFrom 79 = .ok (.dup, 1) := dk_89 (dk_at dksX3_placesFrom_3 9 rfl rfl)
theorem dX3_placesFrom_80 : decode cX3_placesFrom 80 = .ok (.getfield 436, 3) := dk_180 1 180 (dk_at dksX3_placesFrom_3 10 rfl rfl)
theorem dX3_placesFrom_83 : decode cX3_placesFrom 83 = .ok (.iconst 1, 1) := dk_4 (dk_at dksX3_placesFrom_3 13 rfl rfl)
theorem dX3_placesFrom_84 : decode cX3_placesFrom 84 = .ok (.iadd, 1) := dk_96 (dk_at dksX3_placesFrom_3 14 rfl rfl)
theorem dX3_placesFrom_85 : decode cX3_placesFrom 85 = .ok (.putfield 436, 3) := dk_181 1 180 (dk_at dksX3_placesFrom_3 15 rfl rfl)
theorem dX3_placesFrom_88 : decode cX3_placesFrom 88 = .ok (.return_, 1) := dk_177 (dk_at dksX3_placesFrom_3 18 rfl rfl)
theorem dX3_placesFrom_89 : decode cX3_placesFrom 89 = .ok (.aload_n 0, 1) := dk_42 (dk_at dksX3_placesFrom_3 19 rfl rfl)
theorem dX3_placesFrom_90 : decode cX3_placesFrom 90 = .ok (.getfield 93, 3) := dk_180 0 93 (dk_at dksX3_placesFrom_3 20 rfl rfl)
theorem dX3_placesFrom_93 : decode cX3_placesFrom 93 = .ok (.iload_n 1, 1) := dk_27 (dk_at dksX3_placesFrom_3 23 rfl rfl)
theorem dX3_placesFrom_94 : decode cX3_placesFrom 94 = .ok (.iconst (-1), 1) := dk_2 (dk_at dksX3_placesFrom_4 0 rfl rfl)
theorem dX3_placesFrom_95 : decode cX3_placesFrom 95 = .ok (.iastore, 1) := dk_79 (dk_at dksX3_placesFrom_4 1 rfl rfl)
theorem dX3_placesFrom_96 : decode cX3_placesFrom 96 = .ok (.aload_n 0, 1) := dk_42 (dk_at dksX3_placesFrom_4 2 rfl rfl)
theorem dX3_placesFrom_97 : decode cX3_placesFrom 97 = .ok (.iload_n 1, 1) := dk_27 (dk_at dksX3_placesFrom_4 3 rfl rfl)
theorem dX3_placesFrom_98 : decode cX3_placesFrom 98 = .ok (.iconst 1, 1) := dk_4 (dk_at dksX3_placesFrom_4 4 rfl rfl)
theorem dX3_placesFrom_99 : decode cX3_placesFrom 99 = .ok (.iadd, 1) := dk_96 (dk_at dksX3_placesFrom_4 5 rfl rfl)
theorem dX3_placesFrom_100 : decode cX3_placesFrom 100 = .ok (.invokevirtual 439, 3) := dk_182 1 183 (dk_at dksX3_placesFrom_4 6 rfl rfl)
theorem dX3_placesFrom_103 : decode cX3_placesFrom 103 = .ok (.iconst 0, 1) := dk_3 (dk_at dksX3_placesFrom_4 9 rfl rfl)
theorem dX3_placesFrom_104 : decode cX3_placesFrom 104 = .ok (.istore_n 2, 1) := dk_61 (dk_at dksX3_placesFrom_4 10 rfl rfl)
theorem dX3_placesFrom_105 : decode cX3_placesFrom 105 = .ok (.iload_n 2, 1) := dk_28 (dk_at dksX3_placesFrom_4 11 rfl rfl)
theorem dX3_placesFrom_106 : decode cX3_placesFrom 106 = .ok (.aload_n 0, 1) := dk_42 (dk_at dksX3_placesFrom_4 12 rfl rfl)
theorem dX3_placesFrom_107 : decode cX3_placesFrom 107 = .ok (.getfield 13, 3) := dk_180 0 13 (dk_at dksX3_placesFrom_4 13 rfl rfl)
theorem dX3_placesFrom_110 : decode cX3_placesFrom 110 = .ok (.if_icmp .ge 86, 3) := dk_162 0 86 (dk_at dksX3_placesFrom_4 16 rfl rfl)
theorem dX3_placesFrom_113 : decode cX3_placesFrom 113 = .ok (.aload_n 0, 1) := dk_42 (dk_at dksX3_placesFrom_4 19 rfl rfl)
theorem dX3_placesFrom_114 : decode cX3_placesFrom 114 = .ok (.getfield 188, 3) := dk_180 0 188 (dk_at dksX3_placesFrom_4 20 rfl rfl)
theorem dX3_placesFrom_117 : decode cX3_placesFrom 117 = .ok (.iload_n 2, 1) := dk_28 (dk_at dksX3_placesFrom_4 23 rfl rfl)
theorem dX3_placesFrom_118 : decode cX3_placesFrom 118 = .ok (.invokestatic 269, 3) := dk_184 1 13 (dk_at dksX3_placesFrom_5 0 rfl rfl)
theorem dX3_placesFrom_121 : decode cX3_placesFrom 121 = .ok (.ifCond .eq 69, 3) := dk_153 0 69 (dk_at dksX3_placesFrom_5 3 rfl rfl)
theorem dX3_placesFrom_124 : decode cX3_placesFrom 124 = .ok (.aload_n 0, 1) := dk_42 (dk_at dksX3_placesFrom_5 6 rfl rfl)
theorem dX3_placesFrom_125 : decode cX3_placesFrom 125 = .ok (.getfield 90, 3) := dk_180 0 90 (dk_at dksX3_placesFrom_5 7 rfl rfl)
theorem dX3_placesFrom_128 : decode cX3_placesFrom 128 = .ok (.iload_n 2, 1) := dk_28 (dk_at dksX3_placesFrom_5 10 rfl rfl)
theorem dX3_placesFrom_129 : decode cX3_placesFrom 129 = .ok (.iaload, 1) := dk_46 (dk_at dksX3_placesFrom_5 11 rfl rfl)
theorem dX3_placesFrom_130 : decode cX3_placesFrom 130 = .ok (.aload_n 0, 1) := dk_42 (dk_at dksX3_placesFrom_5 12 rfl rfl)
theorem dX3_placesFrom_131 : decode cX3_placesFrom 131 = .ok (.getfield 27, 3) := dk_180 0 27 (dk_at dksX3_placesFrom_5 13 rfl rfl)
theorem dX3_placesFrom_134 : decode cX3_placesFrom 134 = .ok (.iload_n 1, 1) := dk_27 (dk_at dksX3_placesFrom_5 16 rfl rfl)
theorem dX3_placesFrom_135 : decode cX3_placesFrom 135 = .ok (.iaload, 1) := dk_46 (dk_at dksX3_placesFrom_5 17 rfl rfl)
theorem dX3_placesFrom_136 : decode cX3_placesFrom 136 = .ok (.iadd, 1) := dk_96 (dk_at dksX3_placesFrom_5 18 rfl rfl)
theorem dX3_placesFrom_137 : decode cX3_placesFrom 137 = .ok (.aload_n 0, 1) := dk_42 (dk_at dksX3_placesFrom_5 19 rfl rfl)
theorem dX3_placesFrom_138 : decode cX3_placesFrom 138 = .ok (.getfield 87, 3) := dk_180 0 87 (dk_at dksX3_placesFrom_5 20 rfl rfl)
theorem dX3_placesFrom_141 : decode cX3_placesFrom 141 = .ok (.iload_n 2, 1) := dk_28 (dk_at dksX3_placesFrom_5 23 rfl rfl)
theorem dX3_placesFrom_142 : decode cX3_placesFrom 142 = .ok (.iaload, 1) := dk_46 (dk_at dksX3_placesFrom_6 0 rfl rfl)
theorem dX3_placesFrom_143 : decode cX3_placesFrom 143 = .ok (.if_icmp .gt 47, 3) := dk_163 0 47 (dk_at dksX3_placesFrom_6 1 rfl rfl)
theorem dX3_placesFrom_146 : decode cX3_placesFrom 146 = .ok (.aload_n 0, 1) := dk_42 (dk_at dksX3_placesFrom_6 4 rfl rfl)
theorem dX3_placesFrom_147 : decode cX3_placesFrom 147 = .ok (.getfield 93, 3) := dk_180 0 93 (dk_at dksX3_placesFrom_6 5 rfl rfl)
theorem dX3_placesFrom_150 : decode cX3_placesFrom 150 = .ok (.iload_n 1, 1) := dk_27 (dk_at dksX3_placesFrom_6 8 rfl rfl)
theorem dX3_placesFrom_151 : decode cX3_placesFrom 151 = .ok (.iload_n 2, 1) := dk_28 (dk_at dksX3_placesFrom_6 9 rfl rfl)
theorem dX3_placesFrom_152 : decode cX3_placesFrom 152 = .ok (.iastore, 1) := dk_79 (dk_at dksX3_placesFrom_6 10 rfl rfl)
theorem dX3_placesFrom_153 : decode cX3_placesFrom 153 = .ok (.aload_n 0, 1) := dk_42 (dk_at dksX3_placesFrom_6 11 rfl rfl)
theorem dX3_placesFrom_154 : decode cX3_placesFrom 154 = .ok (.getfield 90, 3) := dk_180 0 90 (dk_at dksX3_placesFrom_6 12 rfl rfl)
theorem dX3_placesFrom_157 : decode cX3_placesFrom 157 = .ok (.iload_n 2, 1) := dk_28 (dk_at dksX3_placesFrom_6 15 rfl rfl)
theorem dX3_placesFrom_158 : decode cX3_placesFrom 158 = .ok (.dup2, 1) := dk_92 (dk_at dksX3_placesFrom_6 16 rfl rfl)
theorem dX3_placesFrom_159 : decode cX3_placesFrom 159 = .ok (.iaload, 1) := dk_46 (dk_at dksX3_placesFrom_6 17 rfl rfl)
theorem dX3_placesFrom_160 : decode cX3_placesFrom 160 = .ok (.aload_n 0, 1) := dk_42 (dk_at dksX3_placesFrom_6 18 rfl rfl)
theorem dX3_placesFrom_161 : decode cX3_placesFrom 161 = .ok (.getfield 27, 3) := dk_180 0 27 (dk_at dksX3_placesFrom_6 19 rfl rfl)
theorem dX3_placesFrom_164 : decode cX3_placesFrom 164 = .ok (.iload_n 1, 1) := dk_27 (dk_at dksX3_placesFrom_6 22 rfl rfl)
theorem dX3_placesFrom_165 : decode cX3_placesFrom 165 = .ok (.iaload, 1) := dk_46 (dk_at dksX3_placesFrom_6 23 rfl rfl)
theorem dX3_placesFrom_166 : decode cX3_placesFrom 166 = .ok (.iadd, 1) := dk_96 (dk_at dksX3_placesFrom_7 0 rfl rfl)
theorem dX3_placesFrom_167 : decode cX3_placesFrom 167 = .ok (.iastore, 1) := dk_79 (dk_at dksX3_placesFrom_7 1 rfl rfl)
theorem dX3_placesFrom_168 : decode cX3_placesFrom 168 = .ok (.aload_n 0, 1) := dk_42 (dk_at dksX3_placesFrom_7 2 rfl rfl)
theorem dX3_placesFrom_169 : decode cX3_placesFrom 169 = .ok (.iload_n 1, 1) := dk_27 (dk_at dksX3_placesFrom_7 3 rfl rfl)
theorem dX3_placesFrom_170 : decode cX3_placesFrom 170 = .ok (.iconst 1, 1) := dk_4 (dk_at dksX3_placesFrom_7 4 rfl rfl)
theorem dX3_placesFrom_171 : decode cX3_placesFrom 171 = .ok (.iadd, 1) := dk_96 (dk_at dksX3_placesFrom_7 5 rfl rfl)
theorem dX3_placesFrom_172 : decode cX3_placesFrom 172 = .ok (.invokevirtual 439, 3) := dk_182 1 183 (dk_at dksX3_placesFrom_7 6 rfl rfl)
theorem dX3_placesFrom_175 : decode cX3_placesFrom 175 = .ok (.aload_n 0, 1) := dk_42 (dk_at dksX3_placesFrom_7 9 rfl rfl)
theorem dX3_placesFrom_176 : decode cX3_placesFrom 176 = .ok (.getfield 90, 3) := dk_180 0 90 (dk_at dksX3_placesFrom_7 10 rfl rfl)
theorem dX3_placesFrom_179 : decode cX3_placesFrom 179 = .ok (.iload_n 2, 1) := dk_28 (dk_at dksX3_placesFrom_7 13 rfl rfl)
theorem dX3_placesFrom_180 : decode cX3_placesFrom 180 = .ok (.dup2, 1) := dk_92 (dk_at dksX3_placesFrom_7 14 rfl rfl)
theorem dX3_placesFrom_181 : decode cX3_placesFrom 181 = .ok (.iaload, 1) := dk_46 (dk_at dksX3_placesFrom_7 15 rfl rfl)
theorem dX3_placesFrom_182 : decode cX3_placesFrom 182 = .ok (.aload_n 0, 1) := dk_42 (dk_at dksX3_placesFrom_7 16 rfl rfl)
theorem dX3_placesFrom_183 : decode cX3_placesFrom 183 = .ok (.getfield 27, 3) := dk_180 0 27 (dk_at dksX3_placesFrom_7 17 rfl rfl)
theorem dX3_placesFrom_186 : decode cX3_placesFrom 186 = .ok (.iload_n 1, 1) := dk_27 (dk_at dksX3_placesFrom_7 20 rfl rfl)
theorem dX3_placesFrom_187 : decode cX3_placesFrom 187 = .ok (.iaload, 1) := dk_46 (dk_at dksX3_placesFrom_7 21 rfl rfl)
theorem dX3_placesFrom_188 : decode cX3_placesFrom 188 = .ok (.isub, 1) := dk_100 (dk_at dksX3_placesFrom_7 22 rfl rfl)
theorem dX3_placesFrom_189 : decode cX3_placesFrom 189 = .ok (.iastore, 1) := dk_79 (dk_at dksX3_placesFrom_7 23 rfl rfl)
theorem dX3_placesFrom_190 : decode cX3_placesFrom 190 = .ok (.iinc 2 1, 3) := dk_132 2 1 (dk_at dksX3_placesFrom_8 0 rfl rfl)
theorem dX3_placesFrom_193 : decode cX3_placesFrom 193 = .ok (.goto (-88), 3) := dk_167 255 168 (dk_at dksX3_placesFrom_8 3 rfl rfl)
theorem dX3_placesFrom_196 : decode cX3_placesFrom 196 = .ok (.return_, 1) := dk_177 (dk_at dksX3_placesFrom_8 6 rfl rfl)
abbrev cX3_isAsSeen : ByteArray := prog_13_method_97_code
def yX3_isAsSeen : MethodName := ⟨RX3, "isAsSeen", "()Z"⟩
def dkwX3_isAsSeen_2 : List UInt8 := [132, 2, 1, 167, 255, 209, 27, 172]
abbrev dktX3_isAsSeen_2 : List UInt8 := dkwX3_isAsSeen_2 ++ []
def dkwX3_isAsSeen_1 : List UInt8 := [153, 0, 18, 42, 180, 0, 90, 28, 46, 42, 180, 0, 87, 28, 46, 160, 0, 7, 4, 167, 0, 4, 3, 60]
abbrev dktX3_isAsSeen_1 : List UInt8 := dkwX3_isAsSeen_1 ++ dktX3_isAsSeen_2
def dkwX3_isAsSeen_0 : List UInt8 := [4, 60, 3, 61, 28, 42, 180, 0, 13, 162, 0, 45, 27, 153, 0, 33, 42, 180, 0, 188, 28, 184, 1, 13]
abbrev dktX3_isAsSeen_0 : List UInt8 := dkwX3_isAsSeen_0 ++ dktX3_isAsSeen_1
theorem dksX3_isAsSeen_0 : cX3_isAsSeen.data.toList.drop 0 = dktX3_isAsSeen_0 := by decide +kernel
theorem dksX3_isAsSeen_1 : cX3_isAsSeen.data.toList.drop 24 = dktX3_isAsSeen_1 := dk_seg dksX3_isAsSeen_0 24 rfl rfl
theorem dksX3_isAsSeen_2 : cX3_isAsSeen.data.toList.drop 48 = dktX3_isAsSeen_2 := dk_seg dksX3_isAsSeen_1 24 rfl rfl
theorem dX3_isAsSeen_0 : decode cX3_isAsSeen 0 = .ok (.iconst 1, 1) := dk_4 (dk_at dksX3_isAsSeen_0 0 rfl rfl)
theorem dX3_isAsSeen_1 : decode cX3_isAsSeen 1 = .ok (.istore_n 1, 1) := dk_60 (dk_at dksX3_isAsSeen_0 1 rfl rfl)
theorem dX3_isAsSeen_2 : decode cX3_isAsSeen 2 = .ok (.iconst 0, 1) := dk_3 (dk_at dksX3_isAsSeen_0 2 rfl rfl)
theorem dX3_isAsSeen_3 : decode cX3_isAsSeen 3 = .ok (.istore_n 2, 1) := dk_61 (dk_at dksX3_isAsSeen_0 3 rfl rfl)
theorem dX3_isAsSeen_4 : decode cX3_isAsSeen 4 = .ok (.iload_n 2, 1) := dk_28 (dk_at dksX3_isAsSeen_0 4 rfl rfl)
theorem dX3_isAsSeen_5 : decode cX3_isAsSeen 5 = .ok (.aload_n 0, 1) := dk_42 (dk_at dksX3_isAsSeen_0 5 rfl rfl)
theorem dX3_isAsSeen_6 : decode cX3_isAsSeen 6 = .ok (.getfield 13, 3) := dk_180 0 13 (dk_at dksX3_isAsSeen_0 6 rfl rfl)
theorem dX3_isAsSeen_9 : decode cX3_isAsSeen 9 = .ok (.if_icmp .ge 45, 3) := dk_162 0 45 (dk_at dksX3_isAsSeen_0 9 rfl rfl)
theorem dX3_isAsSeen_12 : decode cX3_isAsSeen 12 = .ok (.iload_n 1, 1) := dk_27 (dk_at dksX3_isAsSeen_0 12 rfl rfl)
theorem dX3_isAsSeen_13 : decode cX3_isAsSeen 13 = .ok (.ifCond .eq 33, 3) := dk_153 0 33 (dk_at dksX3_isAsSeen_0 13 rfl rfl)
theorem dX3_isAsSeen_16 : decode cX3_isAsSeen 16 = .ok (.aload_n 0, 1) := dk_42 (dk_at dksX3_isAsSeen_0 16 rfl rfl)
theorem dX3_isAsSeen_17 : decode cX3_isAsSeen 17 = .ok (.getfield 188, 3) := dk_180 0 188 (dk_at dksX3_isAsSeen_0 17 rfl rfl)
theorem dX3_isAsSeen_20 : decode cX3_isAsSeen 20 = .ok (.iload_n 2, 1) := dk_28 (dk_at dksX3_isAsSeen_0 20 rfl rfl)
theorem dX3_isAsSeen_21 : decode cX3_isAsSeen 21 = .ok (.invokestatic 269, 3) := dk_184 1 13 (dk_at dksX3_isAsSeen_0 21 rfl rfl)
theorem dX3_isAsSeen_24 : decode cX3_isAsSeen 24 = .ok (.ifCond .eq 18, 3) := dk_153 0 18 (dk_at dksX3_isAsSeen_1 0 rfl rfl)
theorem dX3_isAsSeen_27 : decode cX3_isAsSeen 27 = .ok (.aload_n 0, 1) := dk_42 (dk_at dksX3_isAsSeen_1 3 rfl rfl)
theorem dX3_isAsSeen_28 : decode cX3_isAsSeen 28 = .ok (.getfield 90, 3) := dk_180 0 90 (dk_at dksX3_isAsSeen_1 4 rfl rfl)
theorem dX3_isAsSeen_31 : decode cX3_isAsSeen 31 = .ok (.iload_n 2, 1) := dk_28 (dk_at dksX3_isAsSeen_1 7 rfl rfl)
theorem dX3_isAsSeen_32 : decode cX3_isAsSeen 32 = .ok (.iaload, 1) := dk_46 (dk_at dksX3_isAsSeen_1 8 rfl rfl)
theorem dX3_isAsSeen_33 : decode cX3_isAsSeen 33 = .ok (.aload_n 0, 1) := dk_42 (dk_at dksX3_isAsSeen_1 9 rfl rfl)
theorem dX3_isAsSeen_34 : decode cX3_isAsSeen 34 = .ok (.getfield 87, 3) := dk_180 0 87 (dk_at dksX3_isAsSeen_1 10 rfl rfl)
theorem dX3_isAsSeen_37 : decode cX3_isAsSeen 37 = .ok (.iload_n 2, 1) := dk_28 (dk_at dksX3_isAsSeen_1 13 rfl rfl)
theorem dX3_isAsSeen_38 : decode cX3_isAsSeen 38 = .ok (.iaload, 1) := dk_46 (dk_at dksX3_isAsSeen_1 14 rfl rfl)
theorem dX3_isAsSeen_39 : decode cX3_isAsSeen 39 = .ok (.if_icmp .ne 7, 3) := dk_160 0 7 (dk_at dksX3_isAsSeen_1 15 rfl rfl)
theorem dX3_isAsSeen_42 : decode cX3_isAsSeen 42 = .ok (.iconst 1, 1) := dk_4 (dk_at dksX3_isAsSeen_1 18 rfl rfl)
theorem dX3_isAsSeen_43 : decode cX3_isAsSeen 43 = .ok (.goto 4, 3) := dk_167 0 4 (dk_at dksX3_isAsSeen_1 19 rfl rfl)
theorem dX3_isAsSeen_46 : decode cX3_isAsSeen 46 = .ok (.iconst 0, 1) := dk_3 (dk_at dksX3_isAsSeen_1 22 rfl rfl)
theorem dX3_isAsSeen_47 : decode cX3_isAsSeen 47 = .ok (.istore_n 1, 1) := dk_60 (dk_at dksX3_isAsSeen_1 23 rfl rfl)
theorem dX3_isAsSeen_48 : decode cX3_isAsSeen 48 = .ok (.iinc 2 1, 3) := dk_132 2 1 (dk_at dksX3_isAsSeen_2 0 rfl rfl)
theorem dX3_isAsSeen_51 : decode cX3_isAsSeen 51 = .ok (.goto (-47), 3) := dk_167 255 209 (dk_at dksX3_isAsSeen_2 3 rfl rfl)
theorem dX3_isAsSeen_54 : decode cX3_isAsSeen 54 = .ok (.iload_n 1, 1) := dk_27 (dk_at dksX3_isAsSeen_2 6 rfl rfl)
theorem dX3_isAsSeen_55 : decode cX3_isAsSeen 55 = .ok (.ireturn, 1) := dk_172 (dk_at dksX3_isAsSeen_2 7 rfl rfl)
abbrev cX3_was : ByteArray := prog_13_method_101_code
def yX3_was : MethodName := ⟨RX3, "was", "(I)I"⟩
def dkwX3_was_1 : List UInt8 := [42, 42, 180, 0, 99, 27, 46, 4, 126, 133, 182, 1, 103, 42, 180, 0, 99, 27, 46, 4, 122, 172]
abbrev dktX3_was_1 : List UInt8 := dkwX3_was_1 ++ []
def dkwX3_was_0 : List UInt8 := [42, 3, 181, 0, 112, 42, 27, 182, 1, 38, 154, 0, 5, 2, 172, 42, 182, 1, 186, 42, 3, 181, 0, 119]
abbrev dktX3_was_0 : List UInt8 := dkwX3_was_0 ++ dktX3_was_1
theorem dksX3_was_0 : cX3_was.data.toList.drop 0 = dktX3_was_0 := by decide +kernel
theorem dksX3_was_1 : cX3_was.data.toList.drop 24 = dktX3_was_1 := dk_seg dksX3_was_0 24 rfl rfl
theorem dX3_was_0 : decode cX3_was 0 = .ok (.aload_n 0, 1) := dk_42 (dk_at dksX3_was_0 0 rfl rfl)
theorem dX3_was_1 : decode cX3_was 1 = .ok (.iconst 0, 1) := dk_3 (dk_at dksX3_was_0 1 rfl rfl)
theorem dX3_was_2 : decode cX3_was 2 = .ok (.putfield 112, 3) := dk_181 0 112 (dk_at dksX3_was_0 2 rfl rfl)
theorem dX3_was_5 : decode cX3_was 5 = .ok (.aload_n 0, 1) := dk_42 (dk_at dksX3_was_0 5 rfl rfl)
theorem dX3_was_6 : decode cX3_was 6 = .ok (.iload_n 1, 1) := dk_27 (dk_at dksX3_was_0 6 rfl rfl)
theorem dX3_was_7 : decode cX3_was 7 = .ok (.invokevirtual 294, 3) := dk_182 1 38 (dk_at dksX3_was_0 7 rfl rfl)
theorem dX3_was_10 : decode cX3_was 10 = .ok (.ifCond .ne 5, 3) := dk_154 0 5 (dk_at dksX3_was_0 10 rfl rfl)
theorem dX3_was_13 : decode cX3_was 13 = .ok (.iconst (-1), 1) := dk_2 (dk_at dksX3_was_0 13 rfl rfl)
theorem dX3_was_14 : decode cX3_was 14 = .ok (.ireturn, 1) := dk_172 (dk_at dksX3_was_0 14 rfl rfl)
theorem dX3_was_15 : decode cX3_was 15 = .ok (.aload_n 0, 1) := dk_42 (dk_at dksX3_was_0 15 rfl rfl)
theorem dX3_was_16 : decode cX3_was 16 = .ok (.invokevirtual 442, 3) := dk_182 1 186 (dk_at dksX3_was_0 16 rfl rfl)
theorem dX3_was_19 : decode cX3_was 19 = .ok (.aload_n 0, 1) := dk_42 (dk_at dksX3_was_0 19 rfl rfl)
theorem dX3_was_20 : decode cX3_was 20 = .ok (.iconst 0, 1) := dk_3 (dk_at dksX3_was_0 20 rfl rfl)
theorem dX3_was_21 : decode cX3_was 21 = .ok (.putfield 119, 3) := dk_181 0 119 (dk_at dksX3_was_0 21 rfl rfl)
theorem dX3_was_24 : decode cX3_was 24 = .ok (.aload_n 0, 1) := dk_42 (dk_at dksX3_was_1 0 rfl rfl)
theorem dX3_was_25 : decode cX3_was 25 = .ok (.aload_n 0, 1) := dk_42 (dk_at dksX3_was_1 1 rfl rfl)
theorem dX3_was_26 : decode cX3_was 26 = .ok (.getfield 99, 3) := dk_180 0 99 (dk_at dksX3_was_1 2 rfl rfl)
theorem dX3_was_29 : decode cX3_was 29 = .ok (.iload_n 1, 1) := dk_27 (dk_at dksX3_was_1 5 rfl rfl)
theorem dX3_was_30 : decode cX3_was 30 = .ok (.iaload, 1) := dk_46 (dk_at dksX3_was_1 6 rfl rfl)
theorem dX3_was_31 : decode cX3_was 31 = .ok (.iconst 1, 1) := dk_4 (dk_at dksX3_was_1 7 rfl rfl)
theorem dX3_was_32 : decode cX3_was 32 = .ok (.iand, 1) := dk_126 (dk_at dksX3_was_1 8 rfl rfl)
theorem dX3_was_33 : decode cX3_was 33 = .ok (.i2l, 1) := dk_133 (dk_at dksX3_was_1 9 rfl rfl)
theorem dX3_was_34 : decode cX3_was 34 = .ok (.invokevirtual 359, 3) := dk_182 1 103 (dk_at dksX3_was_1 10 rfl rfl)
theorem dX3_was_37 : decode cX3_was 37 = .ok (.aload_n 0, 1) := dk_42 (dk_at dksX3_was_1 13 rfl rfl)
theorem dX3_was_38 : decode cX3_was 38 = .ok (.getfield 99, 3) := dk_180 0 99 (dk_at dksX3_was_1 14 rfl rfl)
theorem dX3_was_41 : decode cX3_was 41 = .ok (.iload_n 1, 1) := dk_27 (dk_at dksX3_was_1 17 rfl rfl)
theorem dX3_was_42 : decode cX3_was 42 = .ok (.iaload, 1) := dk_46 (dk_at dksX3_was_1 18 rfl rfl)
theorem dX3_was_43 : decode cX3_was 43 = .ok (.iconst 1, 1) := dk_4 (dk_at dksX3_was_1 19 rfl rfl)
theorem dX3_was_44 : decode cX3_was 44 = .ok (.ishr, 1) := dk_122 (dk_at dksX3_was_1 20 rfl rfl)
theorem dX3_was_45 : decode cX3_was 45 = .ok (.ireturn, 1) := dk_172 (dk_at dksX3_was_1 21 rfl rfl)
abbrev cX3_rain : ByteArray := prog_13_method_103_code
def yX3_rain : MethodName := ⟨RX3, "rain", "(III)I"⟩
def dkwX3_rain_7 : List UInt8 := [22, 4, 22, 8, 109, 182, 1, 103, 42, 22, 6, 22, 8, 109, 182, 1, 103, 3, 172]
abbrev dktX3_rain_7 : List UInt8 := dkwX3_rain_7 ++ []
def dkwX3_rain_6 : List UInt8 := [55, 4, 132, 8, 1, 167, 255, 185, 22, 4, 22, 6, 184, 0, 115, 55, 8, 42, 3, 181, 0, 119, 42]
abbrev dktX3_rain_6 : List UInt8 := dkwX3_rain_6 ++ dktX3_rain_7
def dkwX3_rain_5 : List UInt8 := [29, 133, 167, 0, 8, 16, 10, 29, 100, 133, 105, 55, 9, 132, 11, 1, 167, 255, 222, 22, 4, 22, 9, 97]
abbrev dktX3_rain_5 : List UInt8 := dkwX3_rain_5 ++ dktX3_rain_6
def dkwX3_rain_4 : List UInt8 := [133, 55, 9, 3, 54, 11, 21, 11, 27, 162, 0, 34, 22, 9, 21, 8, 21, 11, 184, 1, 13, 153, 0, 8]
abbrev dktX3_rain_4 : List UInt8 := dkwX3_rain_4 ++ dktX3_rain_5
def dkwX3_rain_3 : List UInt8 := [167, 255, 239, 3, 54, 8, 21, 8, 4, 27, 120, 162, 0, 69, 21, 8, 27, 28, 184, 1, 193, 184, 0, 151]
abbrev dktX3_rain_3 : List UInt8 := dkwX3_rain_3 ++ dktX3_rain_4
def dkwX3_rain_2 : List UInt8 := [55, 6, 3, 54, 8, 21, 8, 27, 162, 0, 17, 22, 6, 20, 1, 191, 105, 55, 6, 132, 8, 1]
abbrev dktX3_rain_2 : List UInt8 := dkwX3_rain_2 ++ dktX3_rain_3
def dkwX3_rain_1 : List UInt8 := [184, 0, 122, 153, 0, 15, 29, 133, 9, 20, 1, 191, 184, 0, 122, 154, 0, 5, 2, 172, 9, 55, 4, 10]
abbrev dktX3_rain_1 : List UInt8 := dkwX3_rain_1 ++ dktX3_rain_2
def dkwX3_rain_0 : List UInt8 := [42, 3, 181, 0, 112, 27, 133, 10, 20, 1, 189, 184, 0, 122, 153, 0, 27, 28, 133, 10, 20, 1, 189]
abbrev dktX3_rain_0 : List UInt8 := dkwX3_rain_0 ++ dktX3_rain_1
theorem dksX3_rain_0 : cX3_rain.data.toList.drop 0 = dktX3_rain_0 := by decide +kernel
theorem dksX3_rain_1 : cX3_rain.data.toList.drop 23 = dktX3_rain_1 := dk_seg dksX3_rain_0 23 rfl rfl
theorem dksX3_rain_2 : cX3_rain.data.toList.drop 47 = dktX3_rain_2 := dk_seg dksX3_rain_1 24 rfl rfl
theorem dksX3_rain_3 : cX3_rain.data.toList.drop 69 = dktX3_rain_3 := dk_seg dksX3_rain_2 22 rfl rfl
theorem dksX3_rain_4 : cX3_rain.data.toList.drop 93 = dktX3_rain_4 := dk_seg dksX3_rain_3 24 rfl rfl
theorem dksX3_rain_5 : cX3_rain.data.toList.drop 117 = dktX3_rain_5 := dk_seg dksX3_rain_4 24 rfl rfl
theorem dksX3_rain_6 : cX3_rain.data.toList.drop 141 = dktX3_rain_6 := dk_seg dksX3_rain_5 24 rfl rfl
theorem dksX3_rain_7 : cX3_rain.data.toList.drop 164 = dktX3_rain_7 := dk_seg dksX3_rain_6 23 rfl rfl
theorem dX3_rain_0 : decode cX3_rain 0 = .ok (.aload_n 0, 1) := dk_42 (dk_at dksX3_rain_0 0 rfl rfl)
theorem dX3_rain_1 : decode cX3_rain 1 = .ok (.iconst 0, 1) := dk_3 (dk_at dksX3_rain_0 1 rfl rfl)
theorem dX3_rain_2 : decode cX3_rain 2 = .ok (.putfield 112, 3) := dk_181 0 112 (dk_at dksX3_rain_0 2 rfl rfl)
theorem dX3_rain_5 : decode cX3_rain 5 = .ok (.iload_n 1, 1) := dk_27 (dk_at dksX3_rain_0 5 rfl rfl)
theorem dX3_rain_6 : decode cX3_rain 6 = .ok (.i2l, 1) := dk_133 (dk_at dksX3_rain_0 6 rfl rfl)
theorem dX3_rain_7 : decode cX3_rain 7 = .ok (.lconst 1, 1) := dk_10 (dk_at dksX3_rain_0 7 rfl rfl)
theorem dX3_rain_8 : decode cX3_rain 8 = .ok (.ldc2_w 445, 3) := dk_20 1 189 (dk_at dksX3_rain_0 8 rfl rfl)
theorem dX3_rain_11 : decode cX3_rain 11 = .ok (.invokestatic 122, 3) := dk_184 0 122 (dk_at dksX3_rain_0 11 rfl rfl)
theorem dX3_rain_14 : decode cX3_rain 14 = .ok (.ifCond .eq 27, 3) := dk_153 0 27 (dk_at dksX3_rain_0 14 rfl rfl)
theorem dX3_rain_17 : decode cX3_rain 17 = .ok (.iload_n 2, 1) := dk_28 (dk_at dksX3_rain_0 17 rfl rfl)
theorem dX3_rain_18 : decode cX3_rain 18 = .ok (.i2l, 1) := dk_133 (dk_at dksX3_rain_0 18 rfl rfl)
theorem dX3_rain_19 : decode cX3_rain 19 = .ok (.lconst 1, 1) := dk_10 (dk_at dksX3_rain_0 19 rfl rfl)
theorem dX3_rain_20 : decode cX3_rain 20 = .ok (.ldc2_w 445, 3) := dk_20 1 189 (dk_at dksX3_rain_0 20 rfl rfl)
theorem dX3_rain_23 : decode cX3_rain 23 = .ok (.invokestatic 122, 3) := dk_184 0 122 (dk_at dksX3_rain_1 0 rfl rfl)
theorem dX3_rain_26 : decode cX3_rain 26 = .ok (.ifCond .eq 15, 3) := dk_153 0 15 (dk_at dksX3_rain_1 3 rfl rfl)
theorem dX3_rain_29 : decode cX3_rain 29 = .ok (.iload_n 3, 1) := dk_29 (dk_at dksX3_rain_1 6 rfl rfl)
theorem dX3_rain_30 : decode cX3_rain 30 = .ok (.i2l, 1) := dk_133 (dk_at dksX3_rain_1 7 rfl rfl)
theorem dX3_rain_31 : decode cX3_rain 31 = .ok (.lconst 0, 1) := dk_9 (dk_at dksX3_rain_1 8 rfl rfl)
theorem dX3_rain_32 : decode cX3_rain 32 = .ok (.ldc2_w 447, 3) := dk_20 1 191 (dk_at dksX3_rain_1 9 rfl rfl)
theorem dX3_rain_35 : decode cX3_rain 35 = .ok (.invokestatic 122, 3) := dk_184 0 122 (dk_at dksX3_rain_1 12 rfl rfl)
theorem dX3_rain_38 : decode cX3_rain 38 = .ok (.ifCond .ne 5, 3) := dk_154 0 5 (dk_at dksX3_rain_1 15 rfl rfl)
theorem dX3_rain_41 : decode cX3_rain 41 = .ok (.iconst (-1), 1) := dk_2 (dk_at dksX3_rain_1 18 rfl rfl)
theorem dX3_rain_42 : decode cX3_rain 42 = .ok (.ireturn, 1) := dk_172 (dk_at dksX3_rain_1 19 rfl rfl)
theorem dX3_rain_43 : decode cX3_rain 43 = .ok (.lconst 0, 1) := dk_9 (dk_at dksX3_rain_1 20 rfl rfl)
theorem dX3_rain_44 : decode cX3_rain 44 = .ok (.lstore 4, 2) := dk_55 4 (dk_at dksX3_rain_1 21 rfl rfl)
theorem dX3_rain_46 : decode cX3_rain 46 = .ok (.lconst 1, 1) := dk_10 (dk_at dksX3_rain_1 23 rfl rfl)
theorem dX3_rain_47 : decode cX3_rain 47 = .ok (.lstore 6, 2) := dk_55 6 (dk_at dksX3_rain_2 0 rfl rfl)
theorem dX3_rain_49 : decode cX3_rain 49 = .ok (.iconst 0, 1) := dk_3 (dk_at dksX3_rain_2 2 rfl rfl)
theorem dX3_rain_50 : decode cX3_rain 50 = .ok (.istore 8, 2) := dk_54 8 (dk_at dksX3_rain_2 3 rfl rfl)
theorem dX3_rain_52 : decode cX3_rain 52 = .ok (.iload 8, 2) := dk_21 8 (dk_at dksX3_rain_2 5 rfl rfl)
theorem dX3_rain_54 : decode cX3_rain 54 = .ok (.iload_n 1, 1) := dk_27 (dk_at dksX3_rain_2 7 rfl rfl)
theorem dX3_rain_55 : decode cX3_rain 55 = .ok (.if_icmp .ge 17, 3) := dk_162 0 17 (dk_at dksX3_rain_2 8 rfl rfl)
theorem dX3_rain_58 : decode cX3_rain 58 = .ok (.lload 6, 2) := dk_22 6 (dk_at dksX3_rain_2 11 rfl rfl)
theorem dX3_rain_60 : decode cX3_rain 60 = .ok (.ldc2_w 447, 3) := dk_20 1 191 (dk_at dksX3_rain_2 13 rfl rfl)
theorem dX3_rain_63 : decode cX3_rain 63 = .ok (.lmul, 1) := dk_105 (dk_at dksX3_rain_2 16 rfl rfl)
theorem dX3_rain_64 : decode cX3_rain 64 = .ok (.lstore 6, 2) := dk_55 6 (dk_at dksX3_rain_2 17 rfl rfl)
theorem dX3_rain_66 : decode cX3_rain 66 = .ok (.iinc 8 1, 3) := dk_132 8 1 (dk_at dksX3_rain_2 19 rfl rfl)
theorem dX3_rain_69 : decode cX3_rain 69 = .ok (.goto (-17), 3) := dk_167 255 239 (dk_at dksX3_rain_3 0 rfl rfl)
theorem dX3_rain_72 : decode cX3_rain 72 = .ok (.iconst 0, 1) := dk_3 (dk_at dksX3_rain_3 3 rfl rfl)
theorem dX3_rain_73 : decode cX3_rain 73 = .ok (.istore 8, 2) := dk_54 8 (dk_at dksX3_rain_3 4 rfl rfl)
theorem dX3_rain_75 : decode cX3_rain 75 = .ok (.iload 8, 2) := dk_21 8 (dk_at dksX3_rain_3 6 rfl rfl)
theorem dX3_rain_77 : decode cX3_rain 77 = .ok (.iconst 1, 1) := dk_4 (dk_at dksX3_rain_3 8 rfl rfl)
theorem dX3_rain_78 : decode cX3_rain 78 = .ok (.iload_n 1, 1) := dk_27 (dk_at dksX3_rain_3 9 rfl rfl)
theorem dX3_rain_79 : decode cX3_rain 79 = .ok (.ishl, 1) := dk_120 (dk_at dksX3_rain_3 10 rfl rfl)
theorem dX3_rain_80 : decode cX3_rain 80 = .ok (.if_icmp .ge 69, 3) := dk_162 0 69 (dk_at dksX3_rain_3 11 rfl rfl)
theorem dX3_rain_83 : decode cX3_rain 83 = .ok (.iload 8, 2) := dk_21 8 (dk_at dksX3_rain_3 14 rfl rfl)
theorem dX3_rain_85 : decode cX3_rain 85 = .ok (.iload_n 1, 1) := dk_27 (dk_at dksX3_rain_3 16 rfl rfl)
theorem dX3_rain_86 : decode cX3_rain 86 = .ok (.iload_n 2, 1) := dk_28 (dk_at dksX3_rain_3 17 rfl rfl)
theorem dX3_rain_87 : decode cX3_rain 87 = .ok (.invokestatic 449, 3) := dk_184 1 193 (dk_at dksX3_rain_3 18 rfl rfl)
theorem dX3_rain_90 : decode cX3_rain 90 = .ok (.invokestatic 151, 3) := dk_184 0 151 (dk_at dksX3_rain_3 21 rfl rfl)
theorem dX3_rain_93 : decode cX3_rain 93 = .ok (.i2l, 1) := dk_133 (dk_at dksX3_rain_4 0 rfl rfl)
theorem dX3_rain_94 : decode cX3_rain 94 = .ok (.lstore 9, 2) := dk_55 9 (dk_at dksX3_rain_4 1 rfl rfl)
theorem dX3_rain_96 : decode cX3_rain 96 = .ok (.iconst 0, 1) := dk_3 (dk_at dksX3_rain_4 3 rfl rfl)
theorem dX3_rain_97 : decode cX3_rain 97 = .ok (.istore 11, 2) := dk_54 11 (dk_at dksX3_rain_4 4 rfl rfl)
theorem dX3_rain_99 : decode cX3_rain 99 = .ok (.iload 11, 2) := dk_21 11 (dk_at dksX3_rain_4 6 rfl rfl)
theorem dX3_rain_101 : decode cX3_rain 101 = .ok (.iload_n 1, 1) := dk_27 (dk_at dksX3_rain_4 8 rfl rfl)
theorem dX3_rain_102 : decode cX3_rain 102 = .ok (.if_icmp .ge 34, 3) := dk_162 0 34 (dk_at dksX3_rain_4 9 rfl rfl)
theorem dX3_rain_105 : decode cX3_rain 105 = .ok (.lload 9, 2) := dk_22 9 (dk_at dksX3_rain_4 12 rfl rfl)
theorem dX3_rain_107 : decode cX3_rain 107 = .ok (.iload 8, 2) := dk_21 8 (dk_at dksX3_rain_4 14 rfl rfl)
theorem dX3_rain_109 : decode cX3_rain 109 = .ok (.iload 11, 2) := dk_21 11 (dk_at dksX3_rain_4 16 rfl rfl)
theorem dX3_rain_111 : decode cX3_rain 111 = .ok (.invokestatic 269, 3) := dk_184 1 13 (dk_at dksX3_rain_4 18 rfl rfl)
theorem dX3_rain_114 : decode cX3_rain 114 = .ok (.ifCond .eq 8, 3) := dk_153 0 8 (dk_at dksX3_rain_4 21 rfl rfl)
theorem dX3_rain_117 : decode cX3_rain 117 = .ok (.iload_n 3, 1) := dk_29 (dk_at dksX3_rain_5 0 rfl rfl)
theorem dX3_rain_118 : decode cX3_rain 118 = .ok (.i2l, 1) := dk_133 (dk_at dksX3_rain_5 1 rfl rfl)
theorem dX3_rain_119 : decode cX3_rain 119 = .ok (.goto 8, 3) := dk_167 0 8 (dk_at dksX3_rain_5 2 rfl rfl)
theorem dX3_rain_122 : decode cX3_rain 122 = .ok (.bipush 10, 2) := dk_16 10 (dk_at dksX3_rain_5 5 rfl rfl)
theorem dX3_rain_124 : decode cX3_rain 124 = .ok (.iload_n 3, 1) := dk_29 (dk_at dksX3_rain_5 7 rfl rfl)
theorem dX3_rain_125 : decode cX3_rain 125 = .ok (.isub, 1) := dk_100 (dk_at dksX3_rain_5 8 rfl rfl)
theorem dX3_rain_126 : decode cX3_rain 126 = .ok (.i2l, 1) := dk_133 (dk_at dksX3_rain_5 9 rfl rfl)
theorem dX3_rain_127 : decode cX3_rain 127 = .ok (.lmul, 1) := dk_105 (dk_at dksX3_rain_5 10 rfl rfl)
theorem dX3_rain_128 : decode cX3_rain 128 = .ok (.lstore 9, 2) := dk_55 9 (dk_at dksX3_rain_5 11 rfl rfl)
theorem dX3_rain_130 : decode cX3_rain 130 = .ok (.iinc 11 1, 3) := dk_132 11 1 (dk_at dksX3_rain_5 13 rfl rfl)
theorem dX3_rain_133 : decode cX3_rain 133 = .ok (.goto (-34), 3) := dk_167 255 222 (dk_at dksX3_rain_5 16 rfl rfl)
theorem dX3_rain_136 : decode cX3_rain 136 = .ok (.lload 4, 2) := dk_22 4 (dk_at dksX3_rain_5 19 rfl rfl)
theorem dX3_rain_138 : decode cX3_rain 138 = .ok (.lload 9, 2) := dk_22 9 (dk_at dksX3_rain_5 21 rfl rfl)
theorem dX3_rain_140 : decode cX3_rain 140 = .ok (.ladd, 1) := dk_97 (dk_at dksX3_rain_5 23 rfl rfl)
theorem dX3_rain_141 : decode cX3_rain 141 = .ok (.lstore 4, 2) := dk_55 4 (dk_at dksX3_rain_6 0 rfl rfl)
theorem dX3_rain_143 : decode cX3_rain 143 = .ok (.iinc 8 1, 3) := dk_132 8 1 (dk_at dksX3_rain_6 2 rfl rfl)
theorem dX3_rain_146 : decode cX3_rain 146 = .ok (.goto (-71), 3) := dk_167 255 185 (dk_at dksX3_rain_6 5 rfl rfl)
theorem dX3_rain_149 : decode cX3_rain 149 = .ok (.lload 4, 2) := dk_22 4 (dk_at dksX3_rain_6 8 rfl rfl)
theorem dX3_rain_151 : decode cX3_rain 151 = .ok (.lload 6, 2) := dk_22 6 (dk_at dksX3_rain_6 10 rfl rfl)
theorem dX3_rain_153 : decode cX3_rain 153 = .ok (.invokestatic 115, 3) := dk_184 0 115 (dk_at dksX3_rain_6 12 rfl rfl)
theorem dX3_rain_156 : decode cX3_rain 156 = .ok (.lstore 8, 2) := dk_55 8 (dk_at dksX3_rain_6 15 rfl rfl)
theorem dX3_rain_158 : decode cX3_rain 158 = .ok (.aload_n 0, 1) := dk_42 (dk_at dksX3_rain_6 17 rfl rfl)
theorem dX3_rain_159 : decode cX3_rain 159 = .ok (.iconst 0, 1) := dk_3 (dk_at dksX3_rain_6 18 rfl rfl)
theorem dX3_rain_160 : decode cX3_rain 160 = .ok (.putfield 119, 3) := dk_181 0 119 (dk_at dksX3_rain_6 19 rfl rfl)
theorem dX3_rain_163 : decode cX3_rain 163 = .ok (.aload_n 0, 1) := dk_42 (dk_at dksX3_rain_6 22 rfl rfl)
theorem dX3_rain_164 : decode cX3_rain 164 = .ok (.lload 4, 2) := dk_22 4 (dk_at dksX3_rain_7 0 rfl rfl)
theorem dX3_rain_166 : decode cX3_rain 166 = .ok (.lload 8, 2) := dk_22 8 (dk_at dksX3_rain_7 2 rfl rfl)
theorem dX3_rain_168 : decode cX3_rain 168 = .ok (.ldiv, 1) := dk_109 (dk_at dksX3_rain_7 4 rfl rfl)
theorem dX3_rain_169 : decode cX3_rain 169 = .ok (.invokevirtual 359, 3) := dk_182 1 103 (dk_at dksX3_rain_7 5 rfl rfl)
theorem dX3_rain_172 : decode cX3_rain 172 = .ok (.aload_n 0, 1) := dk_42 (dk_at dksX3_rain_7 8 rfl rfl)
theorem dX3_rain_173 : decode cX3_rain 173 = .ok (.lload 6, 2) := dk_22 6 (dk_at dksX3_rain_7 9 rfl rfl)
theorem dX3_rain_175 : decode cX3_rain 175 = .ok (.lload 8, 2) := dk_22 8 (dk_at dksX3_rain_7 11 rfl rfl)
theorem dX3_rain_177 : decode cX3_rain 177 = .ok (.ldiv, 1) := dk_109 (dk_at dksX3_rain_7 13 rfl rfl)
theorem dX3_rain_178 : decode cX3_rain 178 = .ok (.invokevirtual 359, 3) := dk_182 1 103 (dk_at dksX3_rain_7 14 rfl rfl)
theorem dX3_rain_181 : decode cX3_rain 181 = .ok (.iconst 0, 1) := dk_3 (dk_at dksX3_rain_7 17 rfl rfl)
theorem dX3_rain_182 : decode cX3_rain 182 = .ok (.ireturn, 1) := dk_172 (dk_at dksX3_rain_7 18 rfl rfl)
abbrev cX3_hasRun : ByteArray := prog_13_method_102_code
def yX3_hasRun : MethodName := ⟨RX3, "hasRun", "(III)Z"⟩
def dkwX3_hasRun_2 : List UInt8 := [132, 5, 1, 167, 255, 213, 21, 4, 172]
abbrev dktX3_hasRun_2 : List UInt8 := dkwX3_hasRun_2 ++ []
def dkwX3_hasRun_1 : List UInt8 := [4, 96, 167, 0, 4, 3, 62, 21, 4, 154, 0, 8, 29, 28, 161, 0, 7, 4, 167, 0, 4, 3, 54, 4]
abbrev dktX3_hasRun_1 : List UInt8 := dkwX3_hasRun_1 ++ dktX3_hasRun_2
def dkwX3_hasRun_0 : List UInt8 := [3, 62, 3, 54, 4, 3, 54, 5, 21, 5, 27, 162, 0, 43, 26, 21, 5, 184, 1, 13, 153, 0, 9, 29]
abbrev dktX3_hasRun_0 : List UInt8 := dkwX3_hasRun_0 ++ dktX3_hasRun_1
theorem dksX3_hasRun_0 : cX3_hasRun.data.toList.drop 0 = dktX3_hasRun_0 := by decide +kernel
theorem dksX3_hasRun_1 : cX3_hasRun.data.toList.drop 24 = dktX3_hasRun_1 := dk_seg dksX3_hasRun_0 24 rfl rfl
theorem dksX3_hasRun_2 : cX3_hasRun.data.toList.drop 48 = dktX3_hasRun_2 := dk_seg dksX3_hasRun_1 24 rfl rfl
theorem dX3_hasRun_0 : decode cX3_hasRun 0 = .ok (.iconst 0, 1) := dk_3 (dk_at dksX3_hasRun_0 0 rfl rfl)
theorem dX3_hasRun_1 : decode cX3_hasRun 1 = .ok (.istore_n 3, 1) := dk_62 (dk_at dksX3_hasRun_0 1 rfl rfl)
theorem dX3_hasRun_2 : decode cX3_hasRun 2 = .ok (.iconst 0, 1) := dk_3 (dk_at dksX3_hasRun_0 2 rfl rfl)
theorem dX3_hasRun_3 : decode cX3_hasRun 3 = .ok (.istore 4, 2) := dk_54 4 (dk_at dksX3_hasRun_0 3 rfl rfl)
theorem dX3_hasRun_5 : decode cX3_hasRun 5 = .ok (.iconst 0, 1) := dk_3 (dk_at dksX3_hasRun_0 5 rfl rfl)
theorem dX3_hasRun_6 : decode cX3_hasRun 6 = .ok (.istore 5, 2) := dk_54 5 (dk_at dksX3_hasRun_0 6 rfl rfl)
theorem dX3_hasRun_8 : decode cX3_hasRun 8 = .ok (.iload 5, 2) := dk_21 5 (dk_at dksX3_hasRun_0 8 rfl rfl)
theorem dX3_hasRun_10 : decode cX3_hasRun 10 = .ok (.iload_n 1, 1) := dk_27 (dk_at dksX3_hasRun_0 10 rfl rfl)
theorem dX3_hasRun_11 : decode cX3_hasRun 11 = .ok (.if_icmp .ge 43, 3) := dk_162 0 43 (dk_at dksX3_hasRun_0 11 rfl rfl)
theorem dX3_hasRun_14 : decode cX3_hasRun 14 = .ok (.iload_n 0, 1) := dk_26 (dk_at dksX3_hasRun_0 14 rfl rfl)
theorem dX3_hasRun_15 : decode cX3_hasRun 15 = .ok (.iload 5, 2) := dk_21 5 (dk_at dksX3_hasRun_0 15 rfl rfl)
theorem dX3_hasRun_17 : decode cX3_hasRun 17 = .ok (.invokestatic 269, 3) := dk_184 1 13 (dk_at dksX3_hasRun_0 17 rfl rfl)
theorem dX3_hasRun_20 : decode cX3_hasRun 20 = .ok (.ifCond .eq 9, 3) := dk_153 0 9 (dk_at dksX3_hasRun_0 20 rfl rfl)
theorem dX3_hasRun_23 : decode cX3_hasRun 23 = .ok (.iload_n 3, 1) := dk_29 (dk_at dksX3_hasRun_0 23 rfl rfl)
theorem dX3_hasRun_24 : decode cX3_hasRun 24 = .ok (.iconst 1, 1) := dk_4 (dk_at dksX3_hasRun_1 0 rfl rfl)
theorem dX3_hasRun_25 : decode cX3_hasRun 25 = .ok (.iadd, 1) := dk_96 (dk_at dksX3_hasRun_1 1 rfl rfl)
theorem dX3_hasRun_26 : decode cX3_hasRun 26 = .ok (.goto 4, 3) := dk_167 0 4 (dk_at dksX3_hasRun_1 2 rfl rfl)
theorem dX3_hasRun_29 : decode cX3_hasRun 29 = .ok (.iconst 0, 1) := dk_3 (dk_at dksX3_hasRun_1 5 rfl rfl)
theorem dX3_hasRun_30 : decode cX3_hasRun 30 = .ok (.istore_n 3, 1) := dk_62 (dk_at dksX3_hasRun_1 6 rfl rfl)
theorem dX3_hasRun_31 : decode cX3_hasRun 31 = .ok (.iload 4, 2) := dk_21 4 (dk_at dksX3_hasRun_1 7 rfl rfl)
theorem dX3_hasRun_33 : decode cX3_hasRun 33 = .ok (.ifCond .ne 8, 3) := dk_154 0 8 (dk_at dksX3_hasRun_1 9 rfl rfl)
theorem dX3_hasRun_36 : decode cX3_hasRun 36 = .ok (.iload_n 3, 1) := dk_29 (dk_at dksX3_hasRun_1 12 rfl rfl)
theorem dX3_hasRun_37 : decode cX3_hasRun 37 = .ok (.iload_n 2, 1) := dk_28 (dk_at dksX3_hasRun_1 13 rfl rfl)
theorem dX3_hasRun_38 : decode cX3_hasRun 38 = .ok (.if_icmp .lt 7, 3) := dk_161 0 7 (dk_at dksX3_hasRun_1 14 rfl rfl)
theorem dX3_hasRun_41 : decode cX3_hasRun 41 = .ok (.iconst 1, 1) := dk_4 (dk_at dksX3_hasRun_1 17 rfl rfl)
theorem dX3_hasRun_42 : decode cX3_hasRun 42 = .ok (.goto 4, 3) := dk_167 0 4 (dk_at dksX3_hasRun_1 18 rfl rfl)
theorem dX3_hasRun_45 : decode cX3_hasRun 45 = .ok (.iconst 0, 1) := dk_3 (dk_at dksX3_hasRun_1 21 rfl rfl)
theorem dX3_hasRun_46 : decode cX3_hasRun 46 = .ok (.istore 4, 2) := dk_54 4 (dk_at dksX3_hasRun_1 22 rfl rfl)
theorem dX3_hasRun_48 : decode cX3_hasRun 48 = .ok (.iinc 5 1, 3) := dk_132 5 1 (dk_at dksX3_hasRun_2 0 rfl rfl)
theorem dX3_hasRun_51 : decode cX3_hasRun 51 = .ok (.goto (-43), 3) := dk_167 255 213 (dk_at dksX3_hasRun_2 3 rfl rfl)
theorem dX3_hasRun_54 : decode cX3_hasRun 54 = .ok (.iload 4, 2) := dk_21 4 (dk_at dksX3_hasRun_2 6 rfl rfl)
theorem dX3_hasRun_56 : decode cX3_hasRun 56 = .ok (.ireturn, 1) := dk_172 (dk_at dksX3_hasRun_2 8 rfl rfl)
abbrev cX3_common : ByteArray := prog_13_method_7_code
def yX3_common : MethodName := ⟨RX3, "common", "(JJ)J"⟩
def dkwX3_common_0 : List UInt8 := [32, 9, 148, 154, 0, 7, 30, 167, 0, 10, 32, 30, 32, 113, 184, 0, 115, 173]
abbrev dktX3_common_0 : List UInt8 := dkwX3_common_0 ++ []
theorem dksX3_common_0 : cX3_common.data.toList.drop 0 = dktX3_common_0 := by decide +kernel
theorem dX3_common_0 : decode cX3_common 0 = .ok (.lload_n 2, 1) := dk_32 (dk_at dksX3_common_0 0 rfl rfl)
theorem dX3_common_1 : decode cX3_common 1 = .ok (.lconst 0, 1) := dk_9 (dk_at dksX3_common_0 1 rfl rfl)
theorem dX3_common_2 : decode cX3_common 2 = .ok (.lcmp, 1) := dk_148 (dk_at dksX3_common_0 2 rfl rfl)
theorem dX3_common_3 : decode cX3_common 3 = .ok (.ifCond .ne 7, 3) := dk_154 0 7 (dk_at dksX3_common_0 3 rfl rfl)
theorem dX3_common_6 : decode cX3_common 6 = .ok (.lload_n 0, 1) := dk_30 (dk_at dksX3_common_0 6 rfl rfl)
theorem dX3_common_7 : decode cX3_common 7 = .ok (.goto 10, 3) := dk_167 0 10 (dk_at dksX3_common_0 7 rfl rfl)
theorem dX3_common_10 : decode cX3_common 10 = .ok (.lload_n 2, 1) := dk_32 (dk_at dksX3_common_0 10 rfl rfl)
theorem dX3_common_11 : decode cX3_common 11 = .ok (.lload_n 0, 1) := dk_30 (dk_at dksX3_common_0 11 rfl rfl)
theorem dX3_common_12 : decode cX3_common 12 = .ok (.lload_n 2, 1) := dk_32 (dk_at dksX3_common_0 12 rfl rfl)
theorem dX3_common_13 : decode cX3_common 13 = .ok (.lrem, 1) := dk_113 (dk_at dksX3_common_0 13 rfl rfl)
theorem dX3_common_14 : decode cX3_common 14 = .ok (.invokestatic 115, 3) := dk_184 0 115 (dk_at dksX3_common_0 14 rfl rfl)
theorem dX3_common_17 : decode cX3_common 17 = .ok (.lreturn, 1) := dk_173 (dk_at dksX3_common_0 17 rfl rfl)
abbrev cX3_rests : ByteArray := prog_13_method_106_code
def yX3_rests : MethodName := ⟨RX3, "rests", "(II)I"⟩
def dkwX3_rests_5 : List UInt8 := [167, 255, 185, 29, 172]
abbrev dktX3_rests_5 : List UInt8 := dkwX3_rests_5 ++ []
def dkwX3_rests_4 : List UInt8 := [182, 1, 103, 42, 21, 5, 133, 182, 1, 103, 132, 3, 1, 132, 5, 1, 167, 255, 201, 132, 4, 1]
abbrev dktX3_rests_4 : List UInt8 := dkwX3_rests_4 ++ dktX3_rests_5
def dkwX3_rests_3 : List UInt8 := [153, 0, 36, 21, 5, 21, 4, 27, 28, 184, 1, 201, 153, 0, 24, 29, 154, 0, 17, 42, 21, 4, 133]
abbrev dktX3_rests_3 : List UInt8 := dkwX3_rests_3 ++ dktX3_rests_4
def dkwX3_rests_2 : List UInt8 := [163, 0, 70, 3, 54, 5, 21, 5, 16, 9, 163, 0, 54, 21, 4, 21, 5, 27, 28, 184, 1, 201]
abbrev dktX3_rests_2 : List UInt8 := dkwX3_rests_2 ++ dktX3_rests_3
def dkwX3_rests_1 : List UInt8 := [184, 0, 122, 154, 0, 5, 2, 172, 3, 62, 42, 3, 181, 0, 119, 3, 54, 4, 21, 4, 16, 9]
abbrev dktX3_rests_1 : List UInt8 := dkwX3_rests_1 ++ dktX3_rests_2
def dkwX3_rests_0 : List UInt8 := [42, 3, 181, 0, 112, 27, 133, 10, 20, 1, 113, 184, 0, 122, 153, 0, 15, 28, 133, 9, 20, 1, 46]
abbrev dktX3_rests_0 : List UInt8 := dkwX3_rests_0 ++ dktX3_rests_1
theorem dksX3_rests_0 : cX3_rests.data.toList.drop 0 = dktX3_rests_0 := by decide +kernel
theorem dksX3_rests_1 : cX3_rests.data.toList.drop 23 = dktX3_rests_1 := dk_seg dksX3_rests_0 23 rfl rfl
theorem dksX3_rests_2 : cX3_rests.data.toList.drop 45 = dktX3_rests_2 := dk_seg dksX3_rests_1 22 rfl rfl
theorem dksX3_rests_3 : cX3_rests.data.toList.drop 67 = dktX3_rests_3 := dk_seg dksX3_rests_2 22 rfl rfl
theorem dksX3_rests_4 : cX3_rests.data.toList.drop 90 = dktX3_rests_4 := dk_seg dksX3_rests_3 23 rfl rfl
theorem dksX3_rests_5 : cX3_rests.data.toList.drop 112 = dktX3_rests_5 := dk_seg dksX3_rests_4 22 rfl rfl
theorem dX3_rests_0 : decode cX3_rests 0 = .ok (.aload_n 0, 1) := dk_42 (dk_at dksX3_rests_0 0 rfl rfl)
theorem dX3_rests_1 : decode cX3_rests 1 = .ok (.iconst 0, 1) := dk_3 (dk_at dksX3_rests_0 1 rfl rfl)
theorem dX3_rests_2 : decode cX3_rests 2 = .ok (.putfield 112, 3) := dk_181 0 112 (dk_at dksX3_rests_0 2 rfl rfl)
theorem dX3_rests_5 : decode cX3_rests 5 = .ok (.iload_n 1, 1) := dk_27 (dk_at dksX3_rests_0 5 rfl rfl)
theorem dX3_rests_6 : decode cX3_rests 6 = .ok (.i2l, 1) := dk_133 (dk_at dksX3_rests_0 6 rfl rfl)
theorem dX3_rests_7 : decode cX3_rests 7 = .ok (.lconst 1, 1) := dk_10 (dk_at dksX3_rests_0 7 rfl rfl)
theorem dX3_rests_8 : decode cX3_rests 8 = .ok (.ldc2_w 369, 3) := dk_20 1 113 (dk_at dksX3_rests_0 8 rfl rfl)
theorem dX3_rests_11 : decode cX3_rests 11 = .ok (.invokestatic 122, 3) := dk_184 0 122 (dk_at dksX3_rests_0 11 rfl rfl)
theorem dX3_rests_14 : decode cX3_rests 14 = .ok (.ifCond .eq 15, 3) := dk_153 0 15 (dk_at dksX3_rests_0 14 rfl rfl)
theorem dX3_rests_17 : decode cX3_rests 17 = .ok (.iload_n 2, 1) := dk_28 (dk_at dksX3_rests_0 17 rfl rfl)
theorem dX3_rests_18 : decode cX3_rests 18 = .ok (.i2l, 1) := dk_133 (dk_at dksX3_rests_0 18 rfl rfl)
theorem dX3_rests_19 : decode cX3_rests 19 = .ok (.lconst 0, 1) := dk_9 (dk_at dksX3_rests_0 19 rfl rfl)
theorem dX3_rests_20 : decode cX3_rests 20 = .ok (.ldc2_w 302, 3) := dk_20 1 46 (dk_at dksX3_rests_0 20 rfl rfl)
theorem dX3_rests_23 : decode cX3_rests 23 = .ok (.invokestatic 122, 3) := dk_184 0 122 (dk_at dksX3_rests_1 0 rfl rfl)
theorem dX3_rests_26 : decode cX3_rests 26 = .ok (.ifCond .ne 5, 3) := dk_154 0 5 (dk_at dksX3_rests_1 3 rfl rfl)
theorem dX3_rests_29 : decode cX3_rests 29 = .ok (.iconst (-1), 1) := dk_2 (dk_at dksX3_rests_1 6 rfl rfl)
theorem dX3_rests_30 : decode cX3_rests 30 = .ok (.ireturn, 1) := dk_172 (dk_at dksX3_rests_1 7 rfl rfl)
theorem dX3_rests_31 : decode cX3_rests 31 = .ok (.iconst 0, 1) := dk_3 (dk_at dksX3_rests_1 8 rfl rfl)
theorem dX3_rests_32 : decode cX3_rests 32 = .ok (.istore_n 3, 1) := dk_62 (dk_at dksX3_rests_1 9 rfl rfl)
theorem dX3_rests_33 : decode cX3_rests 33 = .ok (.aload_n 0, 1) := dk_42 (dk_at dksX3_rests_1 10 rfl rfl)
theorem dX3_rests_34 : decode cX3_rests 34 = .ok (.iconst 0, 1) := dk_3 (dk_at dksX3_rests_1 11 rfl rfl)
theorem dX3_rests_35 : decode cX3_rests 35 = .ok (.putfield 119, 3) := dk_181 0 119 (dk_at dksX3_rests_1 12 rfl rfl)
theorem dX3_rests_38 : decode cX3_rests 38 = .ok (.iconst 0, 1) := dk_3 (dk_at dksX3_rests_1 15 rfl rfl)
theorem dX3_rests_39 : decode cX3_rests 39 = .ok (.istore 4, 2) := dk_54 4 (dk_at dksX3_rests_1 16 rfl rfl)
theorem dX3_rests_41 : decode cX3_rests 41 = .ok (.iload 4, 2) := dk_21 4 (dk_at dksX3_rests_1 18 rfl rfl)
theorem dX3_rests_43 : decode cX3_rests 43 = .ok (.bipush 9, 2) := dk_16 9 (dk_at dksX3_rests_1 20 rfl rfl)
theorem dX3_rests_45 : decode cX3_rests 45 = .ok (.if_icmp .gt 70, 3) := dk_163 0 70 (dk_at dksX3_rests_2 0 rfl rfl)
theorem dX3_rests_48 : decode cX3_rests 48 = .ok (.iconst 0, 1) := dk_3 (dk_at dksX3_rests_2 3 rfl rfl)
theorem dX3_rests_49 : decode cX3_rests 49 = .ok (.istore 5, 2) := dk_54 5 (dk_at dksX3_rests_2 4 rfl rfl)
theorem dX3_rests_51 : decode cX3_rests 51 = .ok (.iload 5, 2) := dk_21 5 (dk_at dksX3_rests_2 6 rfl rfl)
theorem dX3_rests_53 : decode cX3_rests 53 = .ok (.bipush 9, 2) := dk_16 9 (dk_at dksX3_rests_2 8 rfl rfl)
theorem dX3_rests_55 : decode cX3_rests 55 = .ok (.if_icmp .gt 54, 3) := dk_163 0 54 (dk_at dksX3_rests_2 10 rfl rfl)
theorem dX3_rests_58 : decode cX3_rests 58 = .ok (.iload 4, 2) := dk_21 4 (dk_at dksX3_rests_2 13 rfl rfl)
theorem dX3_rests_60 : decode cX3_rests 60 = .ok (.iload 5, 2) := dk_21 5 (dk_at dksX3_rests_2 15 rfl rfl)
theorem dX3_rests_62 : decode cX3_rests 62 = .ok (.iload_n 1, 1) := dk_27 (dk_at dksX3_rests_2 17 rfl rfl)
theorem dX3_rests_63 : decode cX3_rests 63 = .ok (.iload_n 2, 1) := dk_28 (dk_at dksX3_rests_2 18 rfl rfl)
theorem dX3_rests_64 : decode cX3_rests 64 = .ok (.invokestatic 457, 3) := dk_184 1 201 (dk_at dksX3_rests_2 19 rfl rfl)
theorem dX3_rests_67 : decode cX3_rests 67 = .ok (.ifCond .eq 36, 3) := dk_153 0 36 (dk_at dksX3_rests_3 0 rfl rfl)
theorem dX3_rests_70 : decode cX3_rests 70 = .ok (.iload 5, 2) := dk_21 5 (dk_at dksX3_rests_3 3 rfl rfl)
theorem dX3_rests_72 : decode cX3_rests 72 = .ok (.iload 4, 2) := dk_21 4 (dk_at dksX3_rests_3 5 rfl rfl)
theorem dX3_rests_74 : decode cX3_rests 74 = .ok (.iload_n 1, 1) := dk_27 (dk_at dksX3_rests_3 7 rfl rfl)
theorem dX3_rests_75 : decode cX3_rests 75 = .ok (.iload_n 2, 1) := dk_28 (dk_at dksX3_rests_3 8 rfl rfl)
theorem dX3_rests_76 : decode cX3_rests 76 = .ok (.invokestatic 457, 3) := dk_184 1 201 (dk_at dksX3_rests_3 9 rfl rfl)
theorem dX3_rests_79 : decode cX3_rests 79 = .ok (.ifCond .eq 24, 3) := dk_153 0 24 (dk_at dksX3_rests_3 12 rfl rfl)
theorem dX3_rests_82 : decode cX3_rests 82 = .ok (.iload_n 3, 1) := dk_29 (dk_at dksX3_rests_3 15 rfl rfl)
theorem dX3_rests_83 : decode cX3_rests 83 = .ok (.ifCond .ne 17, 3) := dk_154 0 17 (dk_at dksX3_rests_3 16 rfl rfl)
theorem dX3_rests_86 : decode cX3_rests 86 = .ok (.aload_n 0, 1) := dk_42 (dk_at dksX3_rests_3 19 rfl rfl)
theorem dX3_rests_87 : decode cX3_rests 87 = .ok (.iload 4, 2) := dk_21 4 (dk_at dksX3_rests_3 20 rfl rfl)
theorem dX3_rests_89 : decode cX3_rests 89 = .ok (.i2l, 1) := dk_133 (dk_at dksX3_rests_3 22 rfl rfl)
theorem dX3_rests_90 : decode cX3_rests 90 = .ok (.invokevirtual 359, 3) := dk_182 1 103 (dk_at dksX3_rests_4 0 rfl rfl)
theorem dX3_rests_93 : decode cX3_rests 93 = .ok (.aload_n 0, 1) := dk_42 (dk_at dksX3_rests_4 3 rfl rfl)
theorem dX3_rests_94 : decode cX3_rests 94 = .ok (.iload 5, 2) := dk_21 5 (dk_at dksX3_rests_4 4 rfl rfl)
theorem dX3_rests_96 : decode cX3_rests 96 = .ok (.i2l, 1) := dk_133 (dk_at dksX3_rests_4 6 rfl rfl)
theorem dX3_rests_97 : decode cX3_rests 97 = .ok (.invokevirtual 359, 3) := dk_182 1 103 (dk_at dksX3_rests_4 7 rfl rfl)
theorem dX3_rests_100 : decode cX3_rests 100 = .ok (.iinc 3 1, 3) := dk_132 3 1 (dk_at dksX3_rests_4 10 rfl rfl)
theorem dX3_rests_103 : decode cX3_rests 103 = .ok (.iinc 5 1, 3) := dk_132 5 1 (dk_at dksX3_rests_4 13 rfl rfl)
theorem dX3_rests_106 : decode cX3_rests 106 = .ok (.goto (-55), 3) := dk_167 255 201 (dk_at dksX3_rests_4 16 rfl rfl)
theorem dX3_rests_109 : decode cX3_rests 109 = .ok (.iinc 4 1, 3) := dk_132 4 1 (dk_at dksX3_rests_4 19 rfl rfl)
theorem dX3_rests_112 : decode cX3_rests 112 = .ok (.goto (-71), 3) := dk_167 255 185 (dk_at dksX3_rests_5 0 rfl rfl)
theorem dX3_rests_115 : decode cX3_rests 115 = .ok (.iload_n 3, 1) := dk_29 (dk_at dksX3_rests_5 3 rfl rfl)
theorem dX3_rests_116 : decode cX3_rests 116 = .ok (.ireturn, 1) := dk_172 (dk_at dksX3_rests_5 4 rfl rfl)
abbrev cX3_isRest : ByteArray := prog_13_method_105_code
def yX3_isRest : MethodName := ⟨RX3, "isRest", "(IIII)Z"⟩
def dkwX3_isRest_2 : List UInt8 := [167, 255, 216, 21, 4, 172]
abbrev dktX3_isRest_2 : List UInt8 := dkwX3_isRest_2 ++ []
def dkwX3_isRest_1 : List UInt8 := [184, 1, 197, 26, 27, 28, 29, 184, 1, 197, 163, 0, 7, 4, 167, 0, 4, 3, 54, 4, 132, 5, 1]
abbrev dktX3_isRest_1 : List UInt8 := dkwX3_isRest_1 ++ dktX3_isRest_2
def dkwX3_isRest_0 : List UInt8 := [4, 54, 4, 3, 54, 5, 21, 5, 16, 9, 163, 0, 39, 21, 4, 153, 0, 25, 21, 5, 27, 28, 29]
abbrev dktX3_isRest_0 : List UInt8 := dkwX3_isRest_0 ++ dktX3_isRest_1
theorem dksX3_isRest_0 : cX3_isRest.data.toList.drop 0 = dktX3_isRest_0 := by decide +kernel
theorem dksX3_isRest_1 : cX3_isRest.data.toList.drop 23 = dktX3_isRest_1 := dk_seg dksX3_isRest_0 23 rfl rfl
theorem dksX3_isRest_2 : cX3_isRest.data.toList.drop 46 = dktX3_isRest_2 := dk_seg dksX3_isRest_1 23 rfl rfl
theorem dX3_isRest_0 : decode cX3_isRest 0 = .ok (.iconst 1, 1) := dk_4 (dk_at dksX3_isRest_0 0 rfl rfl)
theorem dX3_isRest_1 : decode cX3_isRest 1 = .ok (.istore 4, 2) := dk_54 4 (dk_at dksX3_isRest_0 1 rfl rfl)
theorem dX3_isRest_3 : decode cX3_isRest 3 = .ok (.iconst 0, 1) := dk_3 (dk_at dksX3_isRest_0 3 rfl rfl)
theorem dX3_isRest_4 : decode cX3_isRest 4 = .ok (.istore 5, 2) := dk_54 5 (dk_at dksX3_isRest_0 4 rfl rfl)
theorem dX3_isRest_6 : decode cX3_isRest 6 = .ok (.iload 5, 2) := dk_21 5 (dk_at dksX3_isRest_0 6 rfl rfl)
theorem dX3_isRest_8 : decode cX3_isRest 8 = .ok (.bipush 9, 2) := dk_16 9 (dk_at dksX3_isRest_0 8 rfl rfl)
theorem dX3_isRest_10 : decode cX3_isRest 10 = .ok (.if_icmp .gt 39, 3) := dk_163 0 39 (dk_at dksX3_isRest_0 10 rfl rfl)
theorem dX3_isRest_13 : decode cX3_isRest 13 = .ok (.iload 4, 2) := dk_21 4 (dk_at dksX3_isRest_0 13 rfl rfl)
theorem dX3_isRest_15 : decode cX3_isRest 15 = .ok (.ifCond .eq 25, 3) := dk_153 0 25 (dk_at dksX3_isRest_0 15 rfl rfl)
theorem dX3_isRest_18 : decode cX3_isRest 18 = .ok (.iload 5, 2) := dk_21 5 (dk_at dksX3_isRest_0 18 rfl rfl)
theorem dX3_isRest_20 : decode cX3_isRest 20 = .ok (.iload_n 1, 1) := dk_27 (dk_at dksX3_isRest_0 20 rfl rfl)
theorem dX3_isRest_21 : decode cX3_isRest 21 = .ok (.iload_n 2, 1) := dk_28 (dk_at dksX3_isRest_0 21 rfl rfl)
theorem dX3_isRest_22 : decode cX3_isRest 22 = .ok (.iload_n 3, 1) := dk_29 (dk_at dksX3_isRest_0 22 rfl rfl)
theorem dX3_isRest_23 : decode cX3_isRest 23 = .ok (.invokestatic 453, 3) := dk_184 1 197 (dk_at dksX3_isRest_1 0 rfl rfl)
theorem dX3_isRest_26 : decode cX3_isRest 26 = .ok (.iload_n 0, 1) := dk_26 (dk_at dksX3_isRest_1 3 rfl rfl)
theorem dX3_isRest_27 : decode cX3_isRest 27 = .ok (.iload_n 1, 1) := dk_27 (dk_at dksX3_isRest_1 4 rfl rfl)
theorem dX3_isRest_28 : decode cX3_isRest 28 = .ok (.iload_n 2, 1) := dk_28 (dk_at dksX3_isRest_1 5 rfl rfl)
theorem dX3_isRest_29 : decode cX3_isRest 29 = .ok (.iload_n 3, 1) := dk_29 (dk_at dksX3_isRest_1 6 rfl rfl)
theorem dX3_isRest_30 : decode cX3_isRest 30 = .ok (.invokestatic 453, 3) := dk_184 1 197 (dk_at dksX3_isRest_1 7 rfl rfl)
theorem dX3_isRest_33 : decode cX3_isRest 33 = .ok (.if_icmp .gt 7, 3) := dk_163 0 7 (dk_at dksX3_isRest_1 10 rfl rfl)
theorem dX3_isRest_36 : decode cX3_isRest 36 = .ok (.iconst 1, 1) := dk_4 (dk_at dksX3_isRest_1 13 rfl rfl)
theorem dX3_isRest_37 : decode cX3_isRest 37 = .ok (.goto 4, 3) := dk_167 0 4 (dk_at dksX3_isRest_1 14 rfl rfl)
theorem dX3_isRest_40 : decode cX3_isRest 40 = .ok (.iconst 0, 1) := dk_3 (dk_at dksX3_isRest_1 17 rfl rfl)
theorem dX3_isRest_41 : decode cX3_isRest 41 = .ok (.istore 4, 2) := dk_54 4 (dk_at dksX3_isRest_1 18 rfl rfl)
theorem dX3_isRest_43 : decode cX3_isRest 43 = .ok (.iinc 5 1, 3) := dk_132 5 1 (dk_at dksX3_isRest_1 20 rfl rfl)
theorem dX3_isRest_46 : decode cX3_isRest 46 = .ok (.goto (-40), 3) := dk_167 255 216 (dk_at dksX3_isRest_2 0 rfl rfl)
theorem dX3_isRest_49 : decode cX3_isRest 49 = .ok (.iload 4, 2) := dk_21 4 (dk_at dksX3_isRest_2 3 rfl rfl)
theorem dX3_isRest_51 : decode cX3_isRest 51 = .ok (.ireturn, 1) := dk_172 (dk_at dksX3_isRest_2 5 rfl rfl)
abbrev cX3_earns : ByteArray := prog_13_method_104_code
def yX3_earns : MethodName := ⟨RX3, "earns", "(IIII)I"⟩
def dkwX3_earns_0 : List UInt8 := [26, 27, 96, 154, 0, 7, 3, 167, 0, 14, 28, 26, 104, 26, 27, 96, 108, 29, 26, 104, 100, 172]
abbrev dktX3_earns_0 : List UInt8 := dkwX3_earns_0 ++ []
theorem dksX3_earns_0 : cX3_earns.data.toList.drop 0 = dktX3_earns_0 := by decide +kernel
theorem dX3_earns_0 : decode cX3_earns 0 = .ok (.iload_n 0, 1) := dk_26 (dk_at dksX3_earns_0 0 rfl rfl)
theorem dX3_earns_1 : decode cX3_earns 1 = .ok (.iload_n 1, 1) := dk_27 (dk_at dksX3_earns_0 1 rfl rfl)
theorem dX3_earns_2 : decode cX3_earns 2 = .ok (.iadd, 1) := dk_96 (dk_at dksX3_earns_0 2 rfl rfl)
theorem dX3_earns_3 : decode cX3_earns 3 = .ok (.ifCond .ne 7, 3) := dk_154 0 7 (dk_at dksX3_earns_0 3 rfl rfl)
theorem dX3_earns_6 : decode cX3_earns 6 = .ok (.iconst 0, 1) := dk_3 (dk_at dksX3_earns_0 6 rfl rfl)
theorem dX3_earns_7 : decode cX3_earns 7 = .ok (.goto 14, 3) := dk_167 0 14 (dk_at dksX3_earns_0 7 rfl rfl)
theorem dX3_earns_10 : decode cX3_earns 10 = .ok (.iload_n 2, 1) := dk_28 (dk_at dksX3_earns_0 10 rfl rfl)
theorem dX3_earns_11 : decode cX3_earns 11 = .ok (.iload_n 0, 1) := dk_26 (dk_at dksX3_earns_0 11 rfl rfl)
theorem dX3_earns_12 : decode cX3_earns 12 = .ok (.imul, 1) := dk_104 (dk_at dksX3_earns_0 12 rfl rfl)
theorem dX3_earns_13 : decode cX3_earns 13 = .ok (.iload_n 0, 1) := dk_26 (dk_at dksX3_earns_0 13 rfl rfl)
theorem dX3_earns_14 : decode cX3_earns 14 = .ok (.iload_n 1, 1) := dk_27 (dk_at dksX3_earns_0 14 rfl rfl)
theorem dX3_earns_15 : decode cX3_earns 15 = .ok (.iadd, 1) := dk_96 (dk_at dksX3_earns_0 15 rfl rfl)
theorem dX3_earns_16 : decode cX3_earns 16 = .ok (.idiv, 1) := dk_108 (dk_at dksX3_earns_0 16 rfl rfl)
theorem dX3_earns_17 : decode cX3_earns 17 = .ok (.iload_n 3, 1) := dk_29 (dk_at dksX3_earns_0 17 rfl rfl)
theorem dX3_earns_18 : decode cX3_earns 18 = .ok (.iload_n 0, 1) := dk_26 (dk_at dksX3_earns_0 18 rfl rfl)
theorem dX3_earns_19 : decode cX3_earns 19 = .ok (.imul, 1) := dk_104 (dk_at dksX3_earns_0 19 rfl rfl)
theorem dX3_earns_20 : decode cX3_earns 20 = .ok (.isub, 1) := dk_100 (dk_at dksX3_earns_0 20 rfl rfl)
theorem dX3_earns_21 : decode cX3_earns 21 = .ok (.ireturn, 1) := dk_172 (dk_at dksX3_earns_0 21 rfl rfl)
abbrev cX3_summers : ByteArray := prog_13_method_108_code
def yX3_summers : MethodName := ⟨RX3, "summers", "(II)I"⟩
def dkwX3_summers_7 : List UInt8 := [184, 0, 251, 133, 182, 1, 103, 29, 172]
abbrev dktX3_summers_7 : List UInt8 := dkwX3_summers_7 ++ []
def dkwX3_summers_6 : List UInt8 := [42, 180, 0, 39, 182, 1, 115, 184, 0, 251, 133, 182, 1, 103, 42, 42, 42, 180, 0, 39, 2, 182, 1, 32]
abbrev dktX3_summers_6 : List UInt8 := dkwX3_summers_6 ++ dktX3_summers_7
def dkwX3_summers_5 : List UInt8 := [42, 180, 0, 13, 182, 1, 209, 182, 1, 75, 87, 132, 4, 1, 167, 255, 156, 42, 3, 181, 0, 119, 42, 42]
abbrev dktX3_summers_5 : List UInt8 := dkwX3_summers_5 ++ dktX3_summers_6
def dkwX3_summers_4 : List UInt8 := [180, 0, 126, 158, 0, 32, 42, 42, 180, 0, 126, 182, 1, 209, 54, 6, 42, 42, 180, 0, 39, 21, 6, 42]
abbrev dktX3_summers_4 : List UInt8 := dkwX3_summers_4 ++ dktX3_summers_5
def dkwX3_summers_3 : List UInt8 := [180, 0, 39, 182, 1, 110, 153, 0, 7, 4, 167, 0, 4, 3, 184, 0, 151, 96, 62, 167, 0, 39, 42]
abbrev dktX3_summers_3 : List UInt8 := dkwX3_summers_3 ++ dktX3_summers_4
def dkwX3_summers_2 : List UInt8 := [5, 162, 0, 14, 42, 42, 180, 0, 39, 182, 1, 56, 167, 0, 70, 21, 5, 6, 160, 0, 28, 29, 42, 42]
abbrev dktX3_summers_2 : List UInt8 := dkwX3_summers_2 ++ dktX3_summers_3
def dkwX3_summers_1 : List UInt8 := [3, 62, 42, 182, 1, 136, 3, 54, 4, 21, 4, 28, 162, 0, 100, 42, 7, 182, 1, 209, 54, 5, 21, 5]
abbrev dktX3_summers_1 : List UInt8 := dkwX3_summers_1 ++ dktX3_summers_2
def dkwX3_summers_0 : List UInt8 := [42, 3, 181, 0, 112, 28, 133, 10, 20, 1, 142, 184, 0, 122, 154, 0, 5, 2, 172, 42, 27, 181, 1, 205]
abbrev dktX3_summers_0 : List UInt8 := dkwX3_summers_0 ++ dktX3_summers_1
theorem dksX3_summers_0 : cX3_summers.data.toList.drop 0 = dktX3_summers_0 := by decide +kernel
theorem dksX3_summers_1 : cX3_summers.data.toList.drop 24 = dktX3_summers_1 := dk_seg dksX3_summers_0 24 rfl rfl
theorem dksX3_summers_2 : cX3_summers.data.toList.drop 48 = dktX3_summers_2 := dk_seg dksX3_summers_1 24 rfl rfl
theorem dksX3_summers_3 : cX3_summers.data.toList.drop 72 = dktX3_summers_3 := dk_seg dksX3_summers_2 24 rfl rfl
theorem dksX3_summers_4 : cX3_summers.data.toList.drop 95 = dktX3_summers_4 := dk_seg dksX3_summers_3 23 rfl rfl
theorem dksX3_summers_5 : cX3_summers.data.toList.drop 119 = dktX3_summers_5 := dk_seg dksX3_summers_4 24 rfl rfl
theorem dksX3_summers_6 : cX3_summers.data.toList.drop 143 = dktX3_summers_6 := dk_seg dksX3_summers_5 24 rfl rfl
theorem dksX3_summers_7 : cX3_summers.data.toList.drop 167 = dktX3_summers_7 := dk_seg dksX3_summers_6 24 rfl rfl
theorem dX3_summers_0 : decode cX3_summers 0 = .ok (.aload_n 0, 1) := dk_42 (dk_at dksX3_summers_0 0 rfl rfl)
theorem dX3_summers_1 : decode cX3_summers 1 = .ok (.iconst 0, 1) := dk_3 (dk_at dksX3_summers_0 1 rfl rfl)
theorem dX3_summers_2 : decode cX3_summers 2 = .ok (.putfield 112, 3) := dk_181 0 112 (dk_at dksX3_summers_0 2 rfl rfl)
theorem dX3_summers_5 : decode cX3_summers 5 = .ok (.iload_n 2, 1) := dk_28 (dk_at dksX3_summers_0 5 rfl rfl)
theorem dX3_summers_6 : decode cX3_summers 6 = .ok (.i2l, 1) := dk_133 (dk_at dksX3_summers_0 6 rfl rfl)
theorem dX3_summers_7 : decode cX3_summers 7 = .ok (.lconst 1, 1) := dk_10 (dk_at dksX3_summers_0 7 rfl rfl)
theorem dX3_summers_8 : decode cX3_summers 8 = .ok (.ldc2_w 398, 3) := dk_20 1 142 (dk_at dksX3_summers_0 8 rfl rfl)
theorem dX3_summers_11 : decode cX3_summers 11 = .ok (.invokestatic 122, 3) := dk_184 0 122 (dk_at dksX3_summers_0 11 rfl rfl)
theorem dX3_summers_14 : decode cX3_summers 14 = .ok (.ifCond .ne 5, 3) := dk_154 0 5 (dk_at dksX3_summers_0 14 rfl rfl)
theorem dX3_summers_17 : decode cX3_summers 17 = .ok (.iconst (-1), 1) := dk_2 (dk_at dksX3_summers_0 17 rfl rfl)
theorem dX3_summers_18 : decode cX3_summers 18 = .ok (.ireturn, 1) := dk_172 (dk_at dksX3_summers_0 18 rfl rfl)
theorem dX3_summers_19 : decode cX3_summers 19 = .ok (.aload_n 0, 1) := dk_42 (dk_at dksX3_summers_0 19 rfl rfl)
theorem dX3_summers_20 : decode cX3_summers 20 = .ok (.iload_n 1, 1) := dk_27 (dk_at dksX3_summers_0 20 rfl rfl)
theorem dX3_summers_21 : decode cX3_summers 21 = .ok (.putfield 461, 3) := dk_181 1 205 (dk_at dksX3_summers_0 21 rfl rfl)
theorem dX3_summers_24 : decode cX3_summers 24 = .ok (.iconst 0, 1) := dk_3 (dk_at dksX3_summers_1 0 rfl rfl)
theorem dX3_summers_25 : decode cX3_summers 25 = .ok (.istore_n 3, 1) := dk_62 (dk_at dksX3_summers_1 1 rfl rfl)
theorem dX3_summers_26 : decode cX3_summers 26 = .ok (.aload_n 0, 1) := dk_42 (dk_at dksX3_summers_1 2 rfl rfl)
theorem dX3_summers_27 : decode cX3_summers 27 = .ok (.invokevirtual 392, 3) := dk_182 1 136 (dk_at dksX3_summers_1 3 rfl rfl)
theorem dX3_summers_30 : decode cX3_summers 30 = .ok (.iconst 0, 1) := dk_3 (dk_at dksX3_summers_1 6 rfl rfl)
theorem dX3_summers_31 : decode cX3_summers 31 = .ok (.istore 4, 2) := dk_54 4 (dk_at dksX3_summers_1 7 rfl rfl)
theorem dX3_summers_33 : decode cX3_summers 33 = .ok (.iload 4, 2) := dk_21 4 (dk_at dksX3_summers_1 9 rfl rfl)
theorem dX3_summers_35 : decode cX3_summers 35 = .ok (.iload_n 2, 1) := dk_28 (dk_at dksX3_summers_1 11 rfl rfl)
theorem dX3_summers_36 : decode cX3_summers 36 = .ok (.if_icmp .ge 100, 3) := dk_162 0 100 (dk_at dksX3_summers_1 12 rfl rfl)
theorem dX3_summers_39 : decode cX3_summers 39 = .ok (.aload_n 0, 1) := dk_42 (dk_at dksX3_summers_1 15 rfl rfl)
theorem dX3_summers_40 : decode cX3_summers 40 = .ok (.iconst 4, 1) := dk_7 (dk_at dksX3_summers_1 16 rfl rfl)
theorem dX3_summers_41 : decode cX3_summers 41 = .ok (.invokevirtual 465, 3) := dk_182 1 209 (dk_at dksX3_summers_1 17 rfl rfl)
theorem dX3_summers_44 : decode cX3_summers 44 = .ok (.istore 5, 2) := dk_54 5 (dk_at dksX3_summers_1 20 rfl rfl)
theorem dX3_summers_46 : decode cX3_summers 46 = .ok (.iload 5, 2) := dk_21 5 (dk_at dksX3_summers_1 22 rfl rfl)
theorem dX3_summers_48 : decode cX3_summers 48 = .ok (.iconst 2, 1) := dk_5 (dk_at dksX3_summers_2 0 rfl rfl)
theorem dX3_summers_49 : decode cX3_summers 49 = .ok (.if_icmp .ge 14, 3) := dk_162 0 14 (dk_at dksX3_summers_2 1 rfl rfl)
theorem dX3_summers_52 : decode cX3_summers 52 = .ok (.aload_n 0, 1) := dk_42 (dk_at dksX3_summers_2 4 rfl rfl)
theorem dX3_summers_53 : decode cX3_summers 53 = .ok (.aload_n 0, 1) := dk_42 (dk_at dksX3_summers_2 5 rfl rfl)
theorem dX3_summers_54 : decode cX3_summers 54 = .ok (.getfield 39, 3) := dk_180 0 39 (dk_at dksX3_summers_2 6 rfl rfl)
theorem dX3_summers_57 : decode cX3_summers 57 = .ok (.invokevirtual 312, 3) := dk_182 1 56 (dk_at dksX3_summers_2 9 rfl rfl)
theorem dX3_summers_60 : decode cX3_summers 60 = .ok (.goto 70, 3) := dk_167 0 70 (dk_at dksX3_summers_2 12 rfl rfl)
theorem dX3_summers_63 : decode cX3_summers 63 = .ok (.iload 5, 2) := dk_21 5 (dk_at dksX3_summers_2 15 rfl rfl)
theorem dX3_summers_65 : decode cX3_summers 65 = .ok (.iconst 3, 1) := dk_6 (dk_at dksX3_summers_2 17 rfl rfl)
theorem dX3_summers_66 : decode cX3_summers 66 = .ok (.if_icmp .ne 28, 3) := dk_160 0 28 (dk_at dksX3_summers_2 18 rfl rfl)
theorem dX3_summers_69 : decode cX3_summers 69 = .ok (.iload_n 3, 1) := dk_29 (dk_at dksX3_summers_2 21 rfl rfl)
theorem dX3_summers_70 : decode cX3_summers 70 = .ok (.aload_n 0, 1) := dk_42 (dk_at dksX3_summers_2 22 rfl rfl)
theorem dX3_summers_71 : decode cX3_summers 71 = .ok (.aload_n 0, 1) := dk_42 (dk_at dksX3_summers_2 23 rfl rfl)
theorem dX3_summers_72 : decode cX3_summers 72 = .ok (.getfield 39, 3) := dk_180 0 39 (dk_at dksX3_summers_3 0 rfl rfl)
theorem dX3_summers_75 : decode cX3_summers 75 = .ok (.invokevirtual 366, 3) := dk_182 1 110 (dk_at dksX3_summers_3 3 rfl rfl)
theorem dX3_summers_78 : decode cX3_summers 78 = .ok (.ifCond .eq 7, 3) := dk_153 0 7 (dk_at dksX3_summers_3 6 rfl rfl)
theorem dX3_summers_81 : decode cX3_summers 81 = .ok (.iconst 1, 1) := dk_4 (dk_at dksX3_summers_3 9 rfl rfl)
theorem dX3_summers_82 : decode cX3_summers 82 = .ok (.goto 4, 3) := dk_167 0 4 (dk_at dksX3_summers_3 10 rfl rfl)
theorem dX3_summers_85 : decode cX3_summers 85 = .ok (.iconst 0, 1) := dk_3 (dk_at dksX3_summers_3 13 rfl rfl)
theorem dX3_summers_86 : decode cX3_summers 86 = .ok (.invokestatic 151, 3) := dk_184 0 151 (dk_at dksX3_summers_3 14 rfl rfl)
theorem dX3_summers_89 : decode cX3_summers 89 = .ok (.iadd, 1) := dk_96 (dk_at dksX3_summers_3 17 rfl rfl)
theorem dX3_summers_90 : decode cX3_summers 90 = .ok (.istore_n 3, 1) := dk_62 (dk_at dksX3_summers_3 18 rfl rfl)
theorem dX3_summers_91 : decode cX3_summers 91 = .ok (.goto 39, 3) := dk_167 0 39 (dk_at dksX3_summers_3 19 rfl rfl)
theorem dX3_summers_94 : decode cX3_summers 94 = .ok (.aload_n 0, 1) := dk_42 (dk_at dksX3_summers_3 22 rfl rfl)
theorem dX3_summers_95 : decode cX3_summers 95 = .ok (.getfield 126, 3) := dk_180 0 126 (dk_at dksX3_summers_4 0 rfl rfl)
theorem dX3_summers_98 : decode cX3_summers 98 = .ok (.ifCond .le 32, 3) := dk_158 0 32 (dk_at dksX3_summers_4 3 rfl rfl)
theorem dX3_summers_101 : decode cX3_summers 101 = .ok (.aload_n 0, 1) := dk_42 (dk_at dksX3_summers_4 6 rfl rfl)
theorem dX3_summers_102 : decode cX3_summers 102 = .ok (.aload_n 0, 1) := dk_42 (dk_at dksX3_summers_4 7 rfl rfl)
theorem dX3_summers_103 : decode cX3_summers 103 = .ok (.getfield 126, 3) := dk_180 0 126 (dk_at dksX3_summers_4 8 rfl rfl)
theorem dX3_summers_106 : decode cX3_summers 106 = .ok (.invokevirtual 465, 3) := dk_182 1 209 (dk_at dksX3_summers_4 11 rfl rfl)
theorem dX3_summers_109 : decode cX3_summers 109 = .ok (.istore 6, 2) := dk_54 6 (dk_at dksX3_summers_4 14 rfl rfl)
theorem dX3_summers_111 : decode cX3_summers 111 = .ok (.aload_n 0, 1) := dk_42 (dk_at dksX3_summers_4 16 rfl rfl)
theorem dX3_summers_112 : decode cX3_summers 112 = .ok (.aload_n 0, 1) := dk_42 (dk_at dksX3_summers_4 17 rfl rfl)
theorem dX3_summers_113 : decode cX3_summers 113 = .ok (.getfield 39, 3) := dk_180 0 39 (dk_at dksX3_summers_4 18 rfl rfl)
theorem dX3_summers_116 : decode cX3_summers 116 = .ok (.iload 6, 2) := dk_21 6 (dk_at dksX3_summers_4 21 rfl rfl)
theorem dX3_summers_118 : decode cX3_summers 118 = .ok (.aload_n 0, 1) := dk_42 (dk_at dksX3_summers_4 23 rfl rfl)
theorem dX3_summers_119 : decode cX3_summers 119 = .ok (.aload_n 0, 1) := dk_42 (dk_at dksX3_summers_5 0 rfl rfl)
theorem dX3_summers_120 : decode cX3_summers 120 = .ok (.getfield 13, 3) := dk_180 0 13 (dk_at dksX3_summers_5 1 rfl rfl)
theorem dX3_summers_123 : decode cX3_summers 123 = .ok (.invokevirtual 465, 3) := dk_182 1 209 (dk_at dksX3_summers_5 4 rfl rfl)
theorem dX3_summers_126 : decode cX3_summers 126 = .ok (.invokevirtual 331, 3) := dk_182 1 75 (dk_at dksX3_summers_5 7 rfl rfl)
theorem dX3_summers_129 : decode cX3_summers 129 = .ok (.pop, 1) := dk_87 (dk_at dksX3_summers_5 10 rfl rfl)
theorem dX3_summers_130 : decode cX3_summers 130 = .ok (.iinc 4 1, 3) := dk_132 4 1 (dk_at dksX3_summers_5 11 rfl rfl)
theorem dX3_summers_133 : decode cX3_summers 133 = .ok (.goto (-100), 3) := dk_167 255 156 (dk_at dksX3_summers_5 14 rfl rfl)
theorem dX3_summers_136 : decode cX3_summers 136 = .ok (.aload_n 0, 1) := dk_42 (dk_at dksX3_summers_5 17 rfl rfl)
theorem dX3_summers_137 : decode cX3_summers 137 = .ok (.iconst 0, 1) := dk_3 (dk_at dksX3_summers_5 18 rfl rfl)
theorem dX3_summers_138 : decode cX3_summers 138 = .ok (.putfield 119, 3) := dk_181 0 119 (dk_at dksX3_summers_5 19 rfl rfl)
theorem dX3_summers_141 : decode cX3_summers 141 = .ok (.aload_n 0, 1) := dk_42 (dk_at dksX3_summers_5 22 rfl rfl)
theorem dX3_summers_142 : decode cX3_summers 142 = .ok (.aload_n 0, 1) := dk_42 (dk_at dksX3_summers_5 23 rfl rfl)
theorem dX3_summers_143 : decode cX3_summers 143 = .ok (.aload_n 0, 1) := dk_42 (dk_at dksX3_summers_6 0 rfl rfl)
theorem dX3_summers_144 : decode cX3_summers 144 = .ok (.getfield 39, 3) := dk_180 0 39 (dk_at dksX3_summers_6 1 rfl rfl)
theorem dX3_summers_147 : decode cX3_summers 147 = .ok (.invokevirtual 371, 3) := dk_182 1 115 (dk_at dksX3_summers_6 4 rfl rfl)
theorem dX3_summers_150 : decode cX3_summers 150 = .ok (.invokestatic 251, 3) := dk_184 0 251 (dk_at dksX3_summers_6 7 rfl rfl)
theorem dX3_summers_153 : decode cX3_summers 153 = .ok (.i2l, 1) := dk_133 (dk_at dksX3_summers_6 10 rfl rfl)
theorem dX3_summers_154 : decode cX3_summers 154 = .ok (.invokevirtual 359, 3) := dk_182 1 103 (dk_at dksX3_summers_6 11 rfl rfl)
theorem dX3_summers_157 : decode cX3_summers 157 = .ok (.aload_n 0, 1) := dk_42 (dk_at dksX3_summers_6 14 rfl rfl)
theorem dX3_summers_158 : decode cX3_summers 158 = .ok (.aload_n 0, 1) := dk_42 (dk_at dksX3_summers_6 15 rfl rfl)
theorem dX3_summers_159 : decode cX3_summers 159 = .ok (.aload_n 0, 1) := dk_42 (dk_at dksX3_summers_6 16 rfl rfl)
theorem dX3_summers_160 : decode cX3_summers 160 = .ok (.getfield 39, 3) := dk_180 0 39 (dk_at dksX3_summers_6 17 rfl rfl)
theorem dX3_summers_163 : decode cX3_summers 163 = .ok (.iconst (-1), 1) := dk_2 (dk_at dksX3_summers_6 20 rfl rfl)
theorem dX3_summers_164 : decode cX3_summers 164 = .ok (.invokevirtual 288, 3) := dk_182 1 32 (dk_at dksX3_summers_6 21 rfl rfl)
theorem dX3_summers_167 : decode cX3_summers 167 = .ok (.invokestatic 251, 3) := dk_184 0 251 (dk_at dksX3_summers_7 0 rfl rfl)
theorem dX3_summers_170 : decode cX3_summers 170 = .ok (.i2l, 1) := dk_133 (dk_at dksX3_summers_7 3 rfl rfl)
theorem dX3_summers_171 : decode cX3_summers 171 = .ok (.invokevirtual 359, 3) := dk_182 1 103 (dk_at dksX3_summers_7 4 rfl rfl)
theorem dX3_summers_174 : decode cX3_summers 174 = .ok (.iload_n 3, 1) := dk_29 (dk_at dksX3_summers_7 7 rfl rfl)
theorem dX3_summers_175 : decode cX3_summers 175 = .ok (.ireturn, 1) := dk_172 (dk_at dksX3_summers_7 8 rfl rfl)
abbrev cX3_draws : ByteArray := prog_13_method_107_code
def yX3_draws : MethodName := ⟨RX3, "draws", "(I)I"⟩
def dkwX3_draws_1 : List UInt8 := [112, 172]
abbrev dktX3_draws_1 : List UInt8 := dkwX3_draws_1 ++ []
def dkwX3_draws_0 : List UInt8 := [42, 42, 180, 1, 205, 19, 1, 208, 104, 17, 48, 57, 96, 181, 1, 205, 42, 180, 1, 205, 16, 16, 124, 27]
abbrev dktX3_draws_0 : List UInt8 := dkwX3_draws_0 ++ dktX3_draws_1
theorem dksX3_draws_0 : cX3_draws.data.toList.drop 0 = dktX3_draws_0 := by decide +kernel
theorem dksX3_draws_1 : cX3_draws.data.toList.drop 24 = dktX3_draws_1 := dk_seg dksX3_draws_0 24 rfl rfl
theorem dX3_draws_0 : decode cX3_draws 0 = .ok (.aload_n 0, 1) := dk_42 (dk_at dksX3_draws_0 0 rfl rfl)
theorem dX3_draws_1 : decode cX3_draws 1 = .ok (.aload_n 0, 1) := dk_42 (dk_at dksX3_draws_0 1 rfl rfl)
theorem dX3_draws_2 : decode cX3_draws 2 = .ok (.getfield 461, 3) := dk_180 1 205 (dk_at dksX3_draws_0 2 rfl rfl)
theorem dX3_draws_5 : decode cX3_draws 5 = .ok (.ldc_w 464, 3) := dk_19 1 208 (dk_at dksX3_draws_0 5 rfl rfl)
theorem dX3_draws_8 : decode cX3_draws 8 = .ok (.imul, 1) := dk_104 (dk_at dksX3_draws_0 8 rfl rfl)
theorem dX3_draws_9 : decode cX3_draws 9 = .ok (.sipush 12345, 3) := dk_17 48 57 (dk_at dksX3_draws_0 9 rfl rfl)
theorem dX3_draws_12 : decode cX3_draws 12 = .ok (.iadd, 1) := dk_96 (dk_at dksX3_draws_0 12 rfl rfl)
theorem dX3_draws_13 : decode cX3_draws 13 = .ok (.putfield 461, 3) := dk_181 1 205 (dk_at dksX3_draws_0 13 rfl rfl)
theorem dX3_draws_16 : decode cX3_draws 16 = .ok (.aload_n 0, 1) := dk_42 (dk_at dksX3_draws_0 16 rfl rfl)
theorem dX3_draws_17 : decode cX3_draws 17 = .ok (.getfield 461, 3) := dk_180 1 205 (dk_at dksX3_draws_0 17 rfl rfl)
theorem dX3_draws_20 : decode cX3_draws 20 = .ok (.bipush 16, 2) := dk_16 16 (dk_at dksX3_draws_0 20 rfl rfl)
theorem dX3_draws_22 : decode cX3_draws 22 = .ok (.iushr, 1) := dk_124 (dk_at dksX3_draws_0 22 rfl rfl)
theorem dX3_draws_23 : decode cX3_draws 23 = .ok (.iload_n 1, 1) := dk_27 (dk_at dksX3_draws_0 23 rfl rfl)
theorem dX3_draws_24 : decode cX3_draws 24 = .ok (.irem, 1) := dk_112 (dk_at dksX3_draws_1 0 rfl rfl)
theorem dX3_draws_25 : decode cX3_draws 25 = .ok (.ireturn, 1) := dk_172 (dk_at dksX3_draws_1 1 rfl rfl)
abbrev cX3_keep : ByteArray := prog_13_method_109_code
def yX3_keep : MethodName := ⟨RX3, "keep", "(I)Z"⟩
def dkwX3_keep_2 : List UInt8 := [16, 43, 27, 104, 28, 96, 42, 180, 0, 36, 28, 46, 79, 132, 2, 1, 167, 255, 230, 4, 172]
abbrev dktX3_keep_2 : List UInt8 := dkwX3_keep_2 ++ []
def dkwX3_keep_1 : List UInt8 := [4, 84, 42, 180, 0, 106, 27, 42, 180, 0, 194, 79, 3, 61, 28, 16, 43, 162, 0, 26, 42, 180, 0, 109]
abbrev dktX3_keep_1 : List UInt8 := dkwX3_keep_1 ++ dktX3_keep_2
def dkwX3_keep_0 : List UInt8 := [42, 3, 181, 0, 112, 27, 133, 9, 20, 1, 212, 184, 0, 122, 154, 0, 5, 3, 172, 42, 180, 0, 102, 27]
abbrev dktX3_keep_0 : List UInt8 := dkwX3_keep_0 ++ dktX3_keep_1
theorem dksX3_keep_0 : cX3_keep.data.toList.drop 0 = dktX3_keep_0 := by decide +kernel
theorem dksX3_keep_1 : cX3_keep.data.toList.drop 24 = dktX3_keep_1 := dk_seg dksX3_keep_0 24 rfl rfl
theorem dksX3_keep_2 : cX3_keep.data.toList.drop 48 = dktX3_keep_2 := dk_seg dksX3_keep_1 24 rfl rfl
theorem dX3_keep_0 : decode cX3_keep 0 = .ok (.aload_n 0, 1) := dk_42 (dk_at dksX3_keep_0 0 rfl rfl)
theorem dX3_keep_1 : decode cX3_keep 1 = .ok (.iconst 0, 1) := dk_3 (dk_at dksX3_keep_0 1 rfl rfl)
theorem dX3_keep_2 : decode cX3_keep 2 = .ok (.putfield 112, 3) := dk_181 0 112 (dk_at dksX3_keep_0 2 rfl rfl)
theorem dX3_keep_5 : decode cX3_keep 5 = .ok (.iload_n 1, 1) := dk_27 (dk_at dksX3_keep_0 5 rfl rfl)
theorem dX3_keep_6 : decode cX3_keep 6 = .ok (.i2l, 1) := dk_133 (dk_at dksX3_keep_0 6 rfl rfl)
theorem dX3_keep_7 : decode cX3_keep 7 = .ok (.lconst 0, 1) := dk_9 (dk_at dksX3_keep_0 7 rfl rfl)
theorem dX3_keep_8 : decode cX3_keep 8 = .ok (.ldc2_w 468, 3) := dk_20 1 212 (dk_at dksX3_keep_0 8 rfl rfl)
theorem dX3_keep_11 : decode cX3_keep 11 = .ok (.invokestatic 122, 3) := dk_184 0 122 (dk_at dksX3_keep_0 11 rfl rfl)
theorem dX3_keep_14 : decode cX3_keep 14 = .ok (.ifCond .ne 5, 3) := dk_154 0 5 (dk_at dksX3_keep_0 14 rfl rfl)
theorem dX3_keep_17 : decode cX3_keep 17 = .ok (.iconst 0, 1) := dk_3 (dk_at dksX3_keep_0 17 rfl rfl)
theorem dX3_keep_18 : decode cX3_keep 18 = .ok (.ireturn, 1) := dk_172 (dk_at dksX3_keep_0 18 rfl rfl)
theorem dX3_keep_19 : decode cX3_keep 19 = .ok (.aload_n 0, 1) := dk_42 (dk_at dksX3_keep_0 19 rfl rfl)
theorem dX3_keep_20 : decode cX3_keep 20 = .ok (.getfield 102, 3) := dk_180 0 102 (dk_at dksX3_keep_0 20 rfl rfl)
theorem dX3_keep_23 : decode cX3_keep 23 = .ok (.iload_n 1, 1) := dk_27 (dk_at dksX3_keep_0 23 rfl rfl)
theorem dX3_keep_24 : decode cX3_keep 24 = .ok (.iconst 1, 1) := dk_4 (dk_at dksX3_keep_1 0 rfl rfl)
theorem dX3_keep_25 : decode cX3_keep 25 = .ok (.bastore, 1) := dk_84 (dk_at dksX3_keep_1 1 rfl rfl)
theorem dX3_keep_26 : decode cX3_keep 26 = .ok (.aload_n 0, 1) := dk_42 (dk_at dksX3_keep_1 2 rfl rfl)
theorem dX3_keep_27 : decode cX3_keep 27 = .ok (.getfield 106, 3) := dk_180 0 106 (dk_at dksX3_keep_1 3 rfl rfl)
theorem dX3_keep_30 : decode cX3_keep 30 = .ok (.iload_n 1, 1) := dk_27 (dk_at dksX3_keep_1 6 rfl rfl)
theorem dX3_keep_31 : decode cX3_keep 31 = .ok (.aload_n 0, 1) := dk_42 (dk_at dksX3_keep_1 7 rfl rfl)
theorem dX3_keep_32 : decode cX3_keep 32 = .ok (.getfield 194, 3) := dk_180 0 194 (dk_at dksX3_keep_1 8 rfl rfl)
theorem dX3_keep_35 : decode cX3_keep 35 = .ok (.iastore, 1) := dk_79 (dk_at dksX3_keep_1 11 rfl rfl)
theorem dX3_keep_36 : decode cX3_keep 36 = .ok (.iconst 0, 1) := dk_3 (dk_at dksX3_keep_1 12 rfl rfl)
theorem dX3_keep_37 : decode cX3_keep 37 = .ok (.istore_n 2, 1) := dk_61 (dk_at dksX3_keep_1 13 rfl rfl)
theorem dX3_keep_38 : decode cX3_keep 38 = .ok (.iload_n 2, 1) := dk_28 (dk_at dksX3_keep_1 14 rfl rfl)
theorem dX3_keep_39 : decode cX3_keep 39 = .ok (.bipush 43, 2) := dk_16 43 (dk_at dksX3_keep_1 15 rfl rfl)
theorem dX3_keep_41 : decode cX3_keep 41 = .ok (.if_icmp .ge 26, 3) := dk_162 0 26 (dk_at dksX3_keep_1 17 rfl rfl)
theorem dX3_keep_44 : decode cX3_keep 44 = .ok (.aload_n 0, 1) := dk_42 (dk_at dksX3_keep_1 20 rfl rfl)
theorem dX3_keep_45 : decode cX3_keep 45 = .ok (.getfield 109, 3) := dk_180 0 109 (dk_at dksX3_keep_1 21 rfl rfl)
theorem dX3_keep_48 : decode cX3_keep 48 = .ok (.bipush 43, 2) := dk_16 43 (dk_at dksX3_keep_2 0 rfl rfl)
theorem dX3_keep_50 : decode cX3_keep 50 = .ok (.iload_n 1, 1) := dk_27 (dk_at dksX3_keep_2 2 rfl rfl)
theorem dX3_keep_51 : decode cX3_keep 51 = .ok (.imul, 1) := dk_104 (dk_at dksX3_keep_2 3 rfl rfl)
theorem dX3_keep_52 : decode cX3_keep 52 = .ok (.iload_n 2, 1) := dk_28 (dk_at dksX3_keep_2 4 rfl rfl)
theorem dX3_keep_53 : decode cX3_keep 53 = .ok (.iadd, 1) := dk_96 (dk_at dksX3_keep_2 5 rfl rfl)
theorem dX3_keep_54 : decode cX3_keep 54 = .ok (.aload_n 0, 1) := dk_42 (dk_at dksX3_keep_2 6 rfl rfl)
theorem dX3_keep_55 : decode cX3_keep 55 = .ok (.getfield 36, 3) := dk_180 0 36 (dk_at dksX3_keep_2 7 rfl rfl)
theorem dX3_keep_58 : decode cX3_keep 58 = .ok (.iload_n 2, 1) := dk_28 (dk_at dksX3_keep_2 10 rfl rfl)
theorem dX3_keep_59 : decode cX3_keep 59 = .ok (.iaload, 1) := dk_46 (dk_at dksX3_keep_2 11 rfl rfl)
theorem dX3_keep_60 : decode cX3_keep 60 = .ok (.iastore, 1) := dk_79 (dk_at dksX3_keep_2 12 rfl rfl)
theorem dX3_keep_61 : decode cX3_keep 61 = .ok (.iinc 2 1, 3) := dk_132 2 1 (dk_at dksX3_keep_2 13 rfl rfl)
theorem dX3_keep_64 : decode cX3_keep 64 = .ok (.goto (-26), 3) := dk_167 255 230 (dk_at dksX3_keep_2 16 rfl rfl)
theorem dX3_keep_67 : decode cX3_keep 67 = .ok (.iconst 1, 1) := dk_4 (dk_at dksX3_keep_2 19 rfl rfl)
theorem dX3_keep_68 : decode cX3_keep 68 = .ok (.ireturn, 1) := dk_172 (dk_at dksX3_keep_2 20 rfl rfl)
abbrev cX3_again : ByteArray := prog_13_method_110_code
def yX3_again : MethodName := ⟨RX3, "again", "(I)Z"⟩
def dkwX3_again_3 : List UInt8 := [167, 255, 230, 42, 3, 181, 0, 191, 4, 172]
abbrev dktX3_again_3 : List UInt8 := dkwX3_again_3 ++ []
def dkwX3_again_2 : List UInt8 := [162, 0, 26, 42, 180, 0, 36, 28, 42, 180, 0, 109, 16, 43, 27, 104, 28, 96, 46, 79, 132, 2, 1]
abbrev dktX3_again_2 : List UInt8 := dkwX3_again_2 ++ dktX3_again_3
def dkwX3_again_1 : List UInt8 := [153, 0, 16, 42, 180, 0, 106, 27, 46, 42, 180, 0, 194, 159, 0, 5, 3, 172, 3, 61, 28, 16, 43]
abbrev dktX3_again_1 : List UInt8 := dkwX3_again_1 ++ dktX3_again_2
def dkwX3_again_0 : List UInt8 := [42, 3, 181, 0, 112, 27, 133, 9, 20, 1, 212, 184, 0, 122, 153, 0, 25, 42, 180, 0, 102, 27, 51]
abbrev dktX3_again_0 : List UInt8 := dkwX3_again_0 ++ dktX3_again_1
theorem dksX3_again_0 : cX3_again.data.toList.drop 0 = dktX3_again_0 := by decide +kernel
theorem dksX3_again_1 : cX3_again.data.toList.drop 23 = dktX3_again_1 := dk_seg dksX3_again_0 23 rfl rfl
theorem dksX3_again_2 : cX3_again.data.toList.drop 46 = dktX3_again_2 := dk_seg dksX3_again_1 23 rfl rfl
theorem dksX3_again_3 : cX3_again.data.toList.drop 69 = dktX3_again_3 := dk_seg dksX3_again_2 23 rfl rfl
theorem dX3_again_0 : decode cX3_again 0 = .ok (.aload_n 0, 1) := dk_42 (dk_at dksX3_again_0 0 rfl rfl)
theorem dX3_again_1 : decode cX3_again 1 = .ok (.iconst 0, 1) := dk_3 (dk_at dksX3_again_0 1 rfl rfl)
theorem dX3_again_2 : decode cX3_again 2 = .ok (.putfield 112, 3) := dk_181 0 112 (dk_at dksX3_again_0 2 rfl rfl)
theorem dX3_again_5 : decode cX3_again 5 = .ok (.iload_n 1, 1) := dk_27 (dk_at dksX3_again_0 5 rfl rfl)
theorem dX3_again_6 : decode cX3_again 6 = .ok (.i2l, 1) := dk_133 (dk_at dksX3_again_0 6 rfl rfl)
theorem dX3_again_7 : decode cX3_again 7 = .ok (.lconst 0, 1) := dk_9 (dk_at dksX3_again_0 7 rfl rfl)
theorem dX3_again_8 : decode cX3_again 8 = .ok (.ldc2_w 468, 3) := dk_20 1 212 (dk_at dksX3_again_0 8 rfl rfl)
theorem dX3_again_11 : decode cX3_again 11 = .ok (.invokestatic 122, 3) := dk_184 0 122 (dk_at dksX3_again_0 11 rfl rfl)
theorem dX3_again_14 : decode cX3_again 14 = .ok (.ifCond .eq 25, 3) := dk_153 0 25 (dk_at dksX3_again_0 14 rfl rfl)
theorem dX3_again_17 : decode cX3_again 17 = .ok (.aload_n 0, 1) := dk_42 (dk_at dksX3_again_0 17 rfl rfl)
theorem dX3_again_18 : decode cX3_again 18 = .ok (.getfield 102, 3) := dk_180 0 102 (dk_at dksX3_again_0 18 rfl rfl)
theorem dX3_again_21 : decode cX3_again 21 = .ok (.iload_n 1, 1) := dk_27 (dk_at dksX3_again_0 21 rfl rfl)
theorem dX3_again_22 : decode cX3_again 22 = .ok (.baload, 1) := dk_51 (dk_at dksX3_again_0 22 rfl rfl)
theorem dX3_again_23 : decode cX3_again 23 = .ok (.ifCond .eq 16, 3) := dk_153 0 16 (dk_at dksX3_again_1 0 rfl rfl)
theorem dX3_again_26 : decode cX3_again 26 = .ok (.aload_n 0, 1) := dk_42 (dk_at dksX3_again_1 3 rfl rfl)
theorem dX3_again_27 : decode cX3_again 27 = .ok (.getfield 106, 3) := dk_180 0 106 (dk_at dksX3_again_1 4 rfl rfl)
theorem dX3_again_30 : decode cX3_again 30 = .ok (.iload_n 1, 1) := dk_27 (dk_at dksX3_again_1 7 rfl rfl)
theorem dX3_again_31 : decode cX3_again 31 = .ok (.iaload, 1) := dk_46 (dk_at dksX3_again_1 8 rfl rfl)
theorem dX3_again_32 : decode cX3_again 32 = .ok (.aload_n 0, 1) := dk_42 (dk_at dksX3_again_1 9 rfl rfl)
theorem dX3_again_33 : decode cX3_again 33 = .ok (.getfield 194, 3) := dk_180 0 194 (dk_at dksX3_again_1 10 rfl rfl)
theorem dX3_again_36 : decode cX3_again 36 = .ok (.if_icmp .eq 5, 3) := dk_159 0 5 (dk_at dksX3_again_1 13 rfl rfl)
theorem dX3_again_39 : decode cX3_again 39 = .ok (.iconst 0, 1) := dk_3 (dk_at dksX3_again_1 16 rfl rfl)
theorem dX3_again_40 : decode cX3_again 40 = .ok (.ireturn, 1) := dk_172 (dk_at dksX3_again_1 17 rfl rfl)
theorem dX3_again_41 : decode cX3_again 41 = .ok (.iconst 0, 1) := dk_3 (dk_at dksX3_again_1 18 rfl rfl)
theorem dX3_again_42 : decode cX3_again 42 = .ok (.istore_n 2, 1) := dk_61 (dk_at dksX3_again_1 19 rfl rfl)
theorem dX3_again_43 : decode cX3_again 43 = .ok (.iload_n 2, 1) := dk_28 (dk_at dksX3_again_1 20 rfl rfl)
theorem dX3_again_44 : decode cX3_again 44 = .ok (.bipush 43, 2) := dk_16 43 (dk_at dksX3_again_1 21 rfl rfl)
theorem dX3_again_46 : decode cX3_again 46 = .ok (.if_icmp .ge 26, 3) := dk_162 0 26 (dk_at dksX3_again_2 0 rfl rfl)
theorem dX3_again_49 : decode cX3_again 49 = .ok (.aload_n 0, 1) := dk_42 (dk_at dksX3_again_2 3 rfl rfl)
theorem dX3_again_50 : decode cX3_again 50 = .ok (.getfield 36, 3) := dk_180 0 36 (dk_at dksX3_again_2 4 rfl rfl)
theorem dX3_again_53 : decode cX3_again 53 = .ok (.iload_n 2, 1) := dk_28 (dk_at dksX3_again_2 7 rfl rfl)
theorem dX3_again_54 : decode cX3_again 54 = .ok (.aload_n 0, 1) := dk_42 (dk_at dksX3_again_2 8 rfl rfl)
theorem dX3_again_55 : decode cX3_again 55 = .ok (.getfield 109, 3) := dk_180 0 109 (dk_at dksX3_again_2 9 rfl rfl)
theorem dX3_again_58 : decode cX3_again 58 = .ok (.bipush 43, 2) := dk_16 43 (dk_at dksX3_again_2 12 rfl rfl)
theorem dX3_again_60 : decode cX3_again 60 = .ok (.iload_n 1, 1) := dk_27 (dk_at dksX3_again_2 14 rfl rfl)
theorem dX3_again_61 : decode cX3_again 61 = .ok (.imul, 1) := dk_104 (dk_at dksX3_again_2 15 rfl rfl)
theorem dX3_again_62 : decode cX3_again 62 = .ok (.iload_n 2, 1) := dk_28 (dk_at dksX3_again_2 16 rfl rfl)
theorem dX3_again_63 : decode cX3_again 63 = .ok (.iadd, 1) := dk_96 (dk_at dksX3_again_2 17 rfl rfl)
theorem dX3_again_64 : decode cX3_again 64 = .ok (.iaload, 1) := dk_46 (dk_at dksX3_again_2 18 rfl rfl)
theorem dX3_again_65 : decode cX3_again 65 = .ok (.iastore, 1) := dk_79 (dk_at dksX3_again_2 19 rfl rfl)
theorem dX3_again_66 : decode cX3_again 66 = .ok (.iinc 2 1, 3) := dk_132 2 1 (dk_at dksX3_again_2 20 rfl rfl)
theorem dX3_again_69 : decode cX3_again 69 = .ok (.goto (-26), 3) := dk_167 255 230 (dk_at dksX3_again_3 0 rfl rfl)
theorem dX3_again_72 : decode cX3_again 72 = .ok (.aload_n 0, 1) := dk_42 (dk_at dksX3_again_3 3 rfl rfl)
theorem dX3_again_73 : decode cX3_again 73 = .ok (.iconst 0, 1) := dk_3 (dk_at dksX3_again_3 4 rfl rfl)
theorem dX3_again_74 : decode cX3_again 74 = .ok (.putfield 191, 3) := dk_181 0 191 (dk_at dksX3_again_3 5 rfl rfl)
theorem dX3_again_77 : decode cX3_again 77 = .ok (.iconst 1, 1) := dk_4 (dk_at dksX3_again_3 8 rfl rfl)
theorem dX3_again_78 : decode cX3_again 78 = .ok (.ireturn, 1) := dk_172 (dk_at dksX3_again_3 9 rfl rfl)
abbrev cX3_count : ByteArray := prog_13_method_111_code
def yX3_count : MethodName := ⟨RX3, "count", "(I)I"⟩
def dkwX3_count_6 : List UInt8 := [16, 156, 172]
abbrev dktX3_count_6 : List UInt8 := dkwX3_count_6 ++ []
def dkwX3_count_5 : List UInt8 := [182, 1, 96, 172, 42, 180, 0, 188, 172, 42, 180, 0, 191, 172, 42, 180, 0, 119, 172, 42, 180, 0, 133, 172]
abbrev dktX3_count_5 : List UInt8 := dkwX3_count_5 ++ dktX3_count_6
def dkwX3_count_4 : List UInt8 := [42, 42, 180, 0, 36, 182, 1, 115, 172, 42, 42, 180, 0, 36, 2, 182, 1, 32, 172, 42, 42, 180, 0, 36]
abbrev dktX3_count_4 : List UInt8 := dkwX3_count_4 ++ dktX3_count_5
def dkwX3_count_3 : List UInt8 := [172, 42, 180, 0, 33, 4, 46, 172, 42, 180, 0, 36, 16, 41, 46, 172, 42, 180, 0, 36, 16, 12, 46, 172]
abbrev dktX3_count_3 : List UInt8 := dkwX3_count_3 ++ dktX3_count_4
def dkwX3_count_2 : List UInt8 := [42, 180, 0, 13, 172, 42, 180, 0, 126, 172, 42, 180, 0, 36, 16, 42, 46, 172, 42, 180, 0, 33, 3, 46]
abbrev dktX3_count_2 : List UInt8 := dkwX3_count_2 ++ dktX3_count_3
def dkwX3_count_1 : List UInt8 := [170, 0, 0, 0, 0, 166, 0, 0, 0, 0, 0, 0, 0, 13, 0, 0, 0, 70, 0, 0, 0, 75, 0, 0, 0, 80, 0, 0, 0, 88, 0, 0, 0, 95, 0, 0, 0, 102, 0, 0, 0, 110, 0, 0, 0, 118, 0, 0, 0, 127, 0, 0, 0, 137, 0, 0, 0, 146, 0, 0, 0, 151, 0, 0, 0, 156, 0, 0, 0, 161]
abbrev dktX3_count_1 : List UInt8 := dkwX3_count_1 ++ dktX3_count_2
def dkwX3_count_0 : List UInt8 := [42, 3, 181, 0, 112, 27]
abbrev dktX3_count_0 : List UInt8 := dkwX3_count_0 ++ dktX3_count_1
theorem dksX3_count_0 : cX3_count.data.toList.drop 0 = dktX3_count_0 := by decide +kernel
theorem dksX3_count_1 : cX3_count.data.toList.drop 6 = dktX3_count_1 := dk_seg dksX3_count_0 6 rfl rfl
theorem dksX3_count_2 : cX3_count.data.toList.drop 76 = dktX3_count_2 := dk_seg dksX3_count_1 70 rfl rfl
theorem dksX3_count_3 : cX3_count.data.toList.drop 100 = dktX3_count_3 := dk_seg dksX3_count_2 24 rfl rfl
theorem dksX3_count_4 : cX3_count.data.toList.drop 124 = dktX3_count_4 := dk_seg dksX3_count_3 24 rfl rfl
theorem dksX3_count_5 : cX3_count.data.toList.drop 148 = dktX3_count_5 := dk_seg dksX3_count_4 24 rfl rfl
theorem dksX3_count_6 : cX3_count.data.toList.drop 172 = dktX3_count_6 := dk_seg dksX3_count_5 24 rfl rfl
theorem dX3_count_0 : decode cX3_count 0 = .ok (.aload_n 0, 1) := dk_42 (dk_at dksX3_count_0 0 rfl rfl)
theorem dX3_count_1 : decode cX3_count 1 = .ok (.iconst 0, 1) := dk_3 (dk_at dksX3_count_0 1 rfl rfl)
theorem dX3_count_2 : decode cX3_count 2 = .ok (.putfield 112, 3) := dk_181 0 112 (dk_at dksX3_count_0 2 rfl rfl)
theorem dX3_count_5 : decode cX3_count 5 = .ok (.iload_n 1, 1) := dk_27 (dk_at dksX3_count_0 5 rfl rfl)
theorem dX3_count_6 : decode cX3_count 6 = .ok (.tableswitch 166 0 13 #[70, 75, 80, 88, 95, 102, 110, 118, 127, 137, 146, 151, 156, 161], 70) := by decide +kernel
theorem dX3_count_76 : decode cX3_count 76 = .ok (.aload_n 0, 1) := dk_42 (dk_at dksX3_count_2 0 rfl rfl)
theorem dX3_count_77 : decode cX3_count 77 = .ok (.getfield 13, 3) := dk_180 0 13 (dk_at dksX3_count_2 1 rfl rfl)
theorem dX3_count_80 : decode cX3_count 80 = .ok (.ireturn, 1) := dk_172 (dk_at dksX3_count_2 4 rfl rfl)
theorem dX3_count_81 : decode cX3_count 81 = .ok (.aload_n 0, 1) := dk_42 (dk_at dksX3_count_2 5 rfl rfl)
theorem dX3_count_82 : decode cX3_count 82 = .ok (.getfield 126, 3) := dk_180 0 126 (dk_at dksX3_count_2 6 rfl rfl)
theorem dX3_count_85 : decode cX3_count 85 = .ok (.ireturn, 1) := dk_172 (dk_at dksX3_count_2 9 rfl rfl)
theorem dX3_count_86 : decode cX3_count 86 = .ok (.aload_n 0, 1) := dk_42 (dk_at dksX3_count_2 10 rfl rfl)
theorem dX3_count_87 : decode cX3_count 87 = .ok (.getfield 36, 3) := dk_180 0 36 (dk_at dksX3_count_2 11 rfl rfl)
theorem dX3_count_90 : decode cX3_count 90 = .ok (.bipush 42, 2) := dk_16 42 (dk_at dksX3_count_2 14 rfl rfl)
theorem dX3_count_92 : decode cX3_count 92 = .ok (.iaload, 1) := dk_46 (dk_at dksX3_count_2 16 rfl rfl)
theorem dX3_count_93 : decode cX3_count 93 = .ok (.ireturn, 1) := dk_172 (dk_at dksX3_count_2 17 rfl rfl)
theorem dX3_count_94 : decode cX3_count 94 = .ok (.aload_n 0, 1) := dk_42 (dk_at dksX3_count_2 18 rfl rfl)
theorem dX3_count_95 : decode cX3_count 95 = .ok (.getfield 33, 3) := dk_180 0 33 (dk_at dksX3_count_2 19 rfl rfl)
theorem dX3_count_98 : decode cX3_count 98 = .ok (.iconst 0, 1) := dk_3 (dk_at dksX3_count_2 22 rfl rfl)
theorem dX3_count_99 : decode cX3_count 99 = .ok (.iaload, 1) := dk_46 (dk_at dksX3_count_2 23 rfl rfl)
theorem dX3_count_100 : decode cX3_count 100 = .ok (.ireturn, 1) := dk_172 (dk_at dksX3_count_3 0 rfl rfl)
theorem dX3_count_101 : decode cX3_count 101 = .ok (.aload_n 0, 1) := dk_42 (dk_at dksX3_count_3 1 rfl rfl)
theorem dX3_count_102 : decode cX3_count 102 = .ok (.getfield 33, 3) := dk_180 0 33 (dk_at dksX3_count_3 2 rfl rfl)
theorem dX3_count_105 : decode cX3_count 105 = .ok (.iconst 1, 1) := dk_4 (dk_at dksX3_count_3 5 rfl rfl)
theorem dX3_count_106 : decode cX3_count 106 = .ok (.iaload, 1) := dk_46 (dk_at dksX3_count_3 6 rfl rfl)
theorem dX3_count_107 : decode cX3_count 107 = .ok (.ireturn, 1) := dk_172 (dk_at dksX3_count_3 7 rfl rfl)
theorem dX3_count_108 : decode cX3_count 108 = .ok (.aload_n 0, 1) := dk_42 (dk_at dksX3_count_3 8 rfl rfl)
theorem dX3_count_109 : decode cX3_count 109 = .ok (.getfield 36, 3) := dk_180 0 36 (dk_at dksX3_count_3 9 rfl rfl)
theorem dX3_count_112 : decode cX3_count 112 = .ok (.bipush 41, 2) := dk_16 41 (dk_at dksX3_count_3 12 rfl rfl)
theorem dX3_count_114 : decode cX3_count 114 = .ok (.iaload, 1) := dk_46 (dk_at dksX3_count_3 14 rfl rfl)
theorem dX3_count_115 : decode cX3_count 115 = .ok (.ireturn, 1) := dk_172 (dk_at dksX3_count_3 15 rfl rfl)
theorem dX3_count_116 : decode cX3_count 116 = .ok (.aload_n 0, 1) := dk_42 (dk_at dksX3_count_3 16 rfl rfl)
theorem dX3_count_117 : decode cX3_count 117 = .ok (.getfield 36, 3) := dk_180 0 36 (dk_at dksX3_count_3 17 rfl rfl)
theorem dX3_count_120 : decode cX3_count 120 = .ok (.bipush 12, 2) := dk_16 12 (dk_at dksX3_count_3 20 rfl rfl)
theorem dX3_count_122 : decode cX3_count 122 = .ok (.iaload, 1) := dk_46 (dk_at dksX3_count_3 22 rfl rfl)
theorem dX3_count_123 : decode cX3_count 123 = .ok (.ireturn, 1) := dk_172 (dk_at dksX3_count_3 23 rfl rfl)
theorem dX3_count_124 : decode cX3_count 124 = .ok (.aload_n 0, 1) := dk_42 (dk_at dksX3_count_4 0 rfl rfl)
theorem dX3_count_125 : decode cX3_count 125 = .ok (.aload_n 0, 1) := dk_42 (dk_at dksX3_count_4 1 rfl rfl)
theorem dX3_count_126 : decode cX3_count 126 = .ok (.getfield 36, 3) := dk_180 0 36 (dk_at dksX3_count_4 2 rfl rfl)
theorem dX3_count_129 : decode cX3_count 129 = .ok (.invokevirtual 371, 3) := dk_182 1 115 (dk_at dksX3_count_4 5 rfl rfl)
theorem dX3_count_132 : decode cX3_count 132 = .ok (.ireturn, 1) := dk_172 (dk_at dksX3_count_4 8 rfl rfl)
theorem dX3_count_133 : decode cX3_count 133 = .ok (.aload_n 0, 1) := dk_42 (dk_at dksX3_count_4 9 rfl rfl)
theorem dX3_count_134 : decode cX3_count 134 = .ok (.aload_n 0, 1) := dk_42 (dk_at dksX3_count_4 10 rfl rfl)
theorem dX3_count_135 : decode cX3_count 135 = .ok (.getfield 36, 3) := dk_180 0 36 (dk_at dksX3_count_4 11 rfl rfl)
theorem dX3_count_138 : decode cX3_count 138 = .ok (.iconst (-1), 1) := dk_2 (dk_at dksX3_count_4 14 rfl rfl)
theorem dX3_count_139 : decode cX3_count 139 = .ok (.invokevirtual 288, 3) := dk_182 1 32 (dk_at dksX3_count_4 15 rfl rfl)
theorem dX3_count_142 : decode cX3_count 142 = .ok (.ireturn, 1) := dk_172 (dk_at dksX3_count_4 18 rfl rfl)
theorem dX3_count_143 : decode cX3_count 143 = .ok (.aload_n 0, 1) := dk_42 (dk_at dksX3_count_4 19 rfl rfl)
theorem dX3_count_144 : decode cX3_count 144 = .ok (.aload_n 0, 1) := dk_42 (dk_at dksX3_count_4 20 rfl rfl)
theorem dX3_count_145 : decode cX3_count 145 = .ok (.getfield 36, 3) := dk_180 0 36 (dk_at dksX3_count_4 21 rfl rfl)
theorem dX3_count_148 : decode cX3_count 148 = .ok (.invokevirtual 352, 3) := dk_182 1 96 (dk_at dksX3_count_5 0 rfl rfl)
theorem dX3_count_151 : decode cX3_count 151 = .ok (.ireturn, 1) := dk_172 (dk_at dksX3_count_5 3 rfl rfl)
theorem dX3_count_152 : decode cX3_count 152 = .ok (.aload_n 0, 1) := dk_42 (dk_at dksX3_count_5 4 rfl rfl)
theorem dX3_count_153 : decode cX3_count 153 = .ok (.getfield 188, 3) := dk_180 0 188 (dk_at dksX3_count_5 5 rfl rfl)
theorem dX3_count_156 : decode cX3_count 156 = .ok (.ireturn, 1) := dk_172 (dk_at dksX3_count_5 8 rfl rfl)
theorem dX3_count_157 : decode cX3_count 157 = .ok (.aload_n 0, 1) := dk_42 (dk_at dksX3_count_5 9 rfl rfl)
theorem dX3_count_158 : decode cX3_count 158 = .ok (.getfield 191, 3) := dk_180 0 191 (dk_at dksX3_count_5 10 rfl rfl)
theorem dX3_count_161 : decode cX3_count 161 = .ok (.ireturn, 1) := dk_172 (dk_at dksX3_count_5 13 rfl rfl)
theorem dX3_count_162 : decode cX3_count 162 = .ok (.aload_n 0, 1) := dk_42 (dk_at dksX3_count_5 14 rfl rfl)
theorem dX3_count_163 : decode cX3_count 163 = .ok (.getfield 119, 3) := dk_180 0 119 (dk_at dksX3_count_5 15 rfl rfl)
theorem dX3_count_166 : decode cX3_count 166 = .ok (.ireturn, 1) := dk_172 (dk_at dksX3_count_5 18 rfl rfl)
theorem dX3_count_167 : decode cX3_count 167 = .ok (.aload_n 0, 1) := dk_42 (dk_at dksX3_count_5 19 rfl rfl)
theorem dX3_count_168 : decode cX3_count 168 = .ok (.getfield 133, 3) := dk_180 0 133 (dk_at dksX3_count_5 20 rfl rfl)
theorem dX3_count_171 : decode cX3_count 171 = .ok (.ireturn, 1) := dk_172 (dk_at dksX3_count_5 23 rfl rfl)
theorem dX3_count_172 : decode cX3_count 172 = .ok (.bipush (-100), 2) := dk_16 156 (dk_at dksX3_count_6 0 rfl rfl)
theorem dX3_count_174 : decode cX3_count 174 = .ok (.ireturn, 1) := dk_172 (dk_at dksX3_count_6 2 rfl rfl)
abbrev cX3_row : ByteArray := prog_13_method_112_code
def yX3_row : MethodName := ⟨RX3, "row", "(I)J"⟩
def dkwX3_row_1 : List UInt8 := [181, 0, 112, 9, 173, 42, 180, 0, 9, 27, 47, 173]
abbrev dktX3_row_1 : List UInt8 := dkwX3_row_1 ++ []
def dkwX3_row_0 : List UInt8 := [42, 3, 181, 0, 112, 27, 133, 9, 42, 180, 0, 119, 4, 100, 133, 184, 0, 122, 154, 0, 10, 42, 4]
abbrev dktX3_row_0 : List UInt8 := dkwX3_row_0 ++ dktX3_row_1
theorem dksX3_row_0 : cX3_row.data.toList.drop 0 = dktX3_row_0 := by decide +kernel
theorem dksX3_row_1 : cX3_row.data.toList.drop 23 = dktX3_row_1 := dk_seg dksX3_row_0 23 rfl rfl
theorem dX3_row_0 : decode cX3_row 0 = .ok (.aload_n 0, 1) := dk_42 (dk_at dksX3_row_0 0 rfl rfl)
theorem dX3_row_1 : decode cX3_row 1 = .ok (.iconst 0, 1) := dk_3 (dk_at dksX3_row_0 1 rfl rfl)
theorem dX3_row_2 : decode cX3_row 2 = .ok (.putfield 112, 3) := dk_181 0 112 (dk_at dksX3_row_0 2 rfl rfl)
theorem dX3_row_5 : decode cX3_row 5 = .ok (.iload_n 1, 1) := dk_27 (dk_at dksX3_row_0 5 rfl rfl)
theorem dX3_row_6 : decode cX3_row 6 = .ok (.i2l, 1) := dk_133 (dk_at dksX3_row_0 6 rfl rfl)
theorem dX3_row_7 : decode cX3_row 7 = .ok (.lconst 0, 1) := dk_9 (dk_at dksX3_row_0 7 rfl rfl)
theorem dX3_row_8 : decode cX3_row 8 = .ok (.aload_n 0, 1) := dk_42 (dk_at dksX3_row_0 8 rfl rfl)
theorem dX3_row_9 : decode cX3_row 9 = .ok (.getfield 119, 3) := dk_180 0 119 (dk_at dksX3_row_0 9 rfl rfl)
theorem dX3_row_12 : decode cX3_row 12 = .ok (.iconst 1, 1) := dk_4 (dk_at dksX3_row_0 12 rfl rfl)
theorem dX3_row_13 : decode cX3_row 13 = .ok (.isub, 1) := dk_100 (dk_at dksX3_row_0 13 rfl rfl)
theorem dX3_row_14 : decode cX3_row 14 = .ok (.i2l, 1) := dk_133 (dk_at dksX3_row_0 14 rfl rfl)
theorem dX3_row_15 : decode cX3_row 15 = .ok (.invokestatic 122, 3) := dk_184 0 122 (dk_at dksX3_row_0 15 rfl rfl)
theorem dX3_row_18 : decode cX3_row 18 = .ok (.ifCond .ne 10, 3) := dk_154 0 10 (dk_at dksX3_row_0 18 rfl rfl)
theorem dX3_row_21 : decode cX3_row 21 = .ok (.aload_n 0, 1) := dk_42 (dk_at dksX3_row_0 21 rfl rfl)
theorem dX3_row_22 : decode cX3_row 22 = .ok (.iconst 1, 1) := dk_4 (dk_at dksX3_row_0 22 rfl rfl)
theorem dX3_row_23 : decode cX3_row 23 = .ok (.putfield 112, 3) := dk_181 0 112 (dk_at dksX3_row_1 0 rfl rfl)
theorem dX3_row_26 : decode cX3_row 26 = .ok (.lconst 0, 1) := dk_9 (dk_at dksX3_row_1 3 rfl rfl)
theorem dX3_row_27 : decode cX3_row 27 = .ok (.lreturn, 1) := dk_173 (dk_at dksX3_row_1 4 rfl rfl)
theorem dX3_row_28 : decode cX3_row 28 = .ok (.aload_n 0, 1) := dk_42 (dk_at dksX3_row_1 5 rfl rfl)
theorem dX3_row_29 : decode cX3_row 29 = .ok (.getfield 9, 3) := dk_180 0 9 (dk_at dksX3_row_1 6 rfl rfl)
theorem dX3_row_32 : decode cX3_row 32 = .ok (.iload_n 1, 1) := dk_27 (dk_at dksX3_row_1 9 rfl rfl)
theorem dX3_row_33 : decode cX3_row 33 = .ok (.laload, 1) := dk_47 (dk_at dksX3_row_1 10 rfl rfl)
theorem dX3_row_34 : decode cX3_row 34 = .ok (.lreturn, 1) := dk_173 (dk_at dksX3_row_1 11 rfl rfl)
theorem q97 : (Jvm.Cond.initialized "SandKeepsSeaModel") ∈ lw_all := lw_g (lw_at lw_m1 4 rfl) rfl
theorem q1213 : (Jvm.Cond.instantiable "SandKeepsSeaModel" (53 : Nat)) ∈ lw_all := lw_g (lw_at lw_m5 160 rfl) rfl
theorem q1215 : (Jvm.Cond.instanceMethod ({ cls := "SandKeepsSeaModel", name := "<init>", desc := "()V" } : Jvm.MethodName)) ∈ lw_all := lw_g (lw_at lw_m5 162 rfl) rfl
theorem q1216 : (Jvm.Cond.code ({ cls := "SandKeepsSeaModel", name := "<init>", desc := "()V" } : Jvm.MethodName) prog_13_method_1_code (1 : Nat) (Option.none : Option Jvm.ClassFile.FieldType)) ∈ lw_all := lw_g (lw_at lw_m5 163 rfl) rfl
theorem q1217 : (Jvm.Cond.methodLink "SandKeepsSeaModel" (3 : Nat) ({ cls := "java/lang/Object", name := "<init>", desc := "()V" } : Jvm.MethodName)) ∈ lw_all := lw_g (lw_at lw_m5 164 rfl) rfl
theorem q1218 : (Jvm.Cond.fieldLink "SandKeepsSeaModel" (112 : Nat) "SandKeepsSeaModel" "thrown" "I") ∈ lw_all := lw_g (lw_at lw_m5 165 rfl) rfl
theorem q1219 : (Jvm.Cond.fieldLink "SandKeepsSeaModel" (119 : Nat) "SandKeepsSeaModel" "rows" "I") ∈ lw_all := lw_g (lw_at lw_m5 166 rfl) rfl
theorem q1220 : (Jvm.Cond.fieldLink "SandKeepsSeaModel" (9 : Nat) "SandKeepsSeaModel" "row" "[J") ∈ lw_all := lw_g (lw_at lw_m5 167 rfl) rfl
theorem q1221 : (Jvm.Cond.fieldLink "SandKeepsSeaModel" (13 : Nat) "SandKeepsSeaModel" "cells" "I") ∈ lw_all := lw_g (lw_at lw_m5 168 rfl) rfl
theorem q1222 : (Jvm.Cond.fieldLink "SandKeepsSeaModel" (126 : Nat) "SandKeepsSeaModel" "children" "I") ∈ lw_all := lw_g (lw_at lw_m5 169 rfl) rfl
theorem q1223 : (Jvm.Cond.fieldLink "SandKeepsSeaModel" (194 : Nat) "SandKeepsSeaModel" "changes" "I") ∈ lw_all := lw_g (lw_at lw_m5 170 rfl) rfl
theorem q1224 : (Jvm.Cond.fieldLink "SandKeepsSeaModel" (17 : Nat) "SandKeepsSeaModel" "base" "[I") ∈ lw_all := lw_g (lw_at lw_m5 171 rfl) rfl
theorem q1225 : (Jvm.Cond.fieldLink "SandKeepsSeaModel" (21 : Nat) "SandKeepsSeaModel" "dyke" "[I") ∈ lw_all := lw_g (lw_at lw_m5 172 rfl) rfl
theorem q1226 : (Jvm.Cond.fieldLink "SandKeepsSeaModel" (24 : Nat) "SandKeepsSeaModel" "age" "[I") ∈ lw_all := lw_g (lw_at lw_m5 173 rfl) rfl
theorem q1227 : (Jvm.Cond.fieldLink "SandKeepsSeaModel" (27 : Nat) "SandKeepsSeaModel" "skill" "[I") ∈ lw_all := lw_g (lw_at lw_m5 174 rfl) rfl
theorem q1228 : (Jvm.Cond.fieldLink "SandKeepsSeaModel" (30 : Nat) "SandKeepsSeaModel" "friend" "[I") ∈ lw_all := lw_g (lw_at lw_m5 175 rfl) rfl
theorem q1229 : (Jvm.Cond.fieldLink "SandKeepsSeaModel" (33 : Nat) "SandKeepsSeaModel" "fixed" "[I") ∈ lw_all := lw_g (lw_at lw_m5 176 rfl) rfl
theorem q1230 : (Jvm.Cond.fieldLink "SandKeepsSeaModel" (36 : Nat) "SandKeepsSeaModel" "now" "[I") ∈ lw_all := lw_g (lw_at lw_m5 177 rfl) rfl
theorem q1231 : (Jvm.Cond.fieldLink "SandKeepsSeaModel" (39 : Nat) "SandKeepsSeaModel" "then" "[I") ∈ lw_all := lw_g (lw_at lw_m5 178 rfl) rfl
theorem q1232 : (Jvm.Cond.fieldLink "SandKeepsSeaModel" (42 : Nat) "SandKeepsSeaModel" "tape" "[I") ∈ lw_all := lw_g (lw_at lw_m5 179 rfl) rfl
theorem q1233 : (Jvm.Cond.fieldLink "SandKeepsSeaModel" (133 : Nat) "SandKeepsSeaModel" "taped" "I") ∈ lw_all := lw_g (lw_at lw_m5 180 rfl) rfl
theorem q1234 : (Jvm.Cond.fieldLink "SandKeepsSeaModel" (136 : Nat) "SandKeepsSeaModel" "at" "I") ∈ lw_all := lw_g (lw_at lw_m5 181 rfl) rfl
theorem q1235 : (Jvm.Cond.fieldLink "SandKeepsSeaModel" (148 : Nat) "SandKeepsSeaModel" "to" "I") ∈ lw_all := lw_g (lw_at lw_m5 182 rfl) rfl
theorem q1236 : (Jvm.Cond.fieldLink "SandKeepsSeaModel" (139 : Nat) "SandKeepsSeaModel" "nest" "I") ∈ lw_all := lw_g (lw_at lw_m5 183 rfl) rfl
theorem q1237 : (Jvm.Cond.fieldLink "SandKeepsSeaModel" (45 : Nat) "SandKeepsSeaModel" "read" "[I") ∈ lw_all := lw_g (lw_at lw_m5 184 rfl) rfl
theorem q1238 : (Jvm.Cond.fieldLink "SandKeepsSeaModel" (197 : Nat) "SandKeepsSeaModel" "readMany" "I") ∈ lw_all := lw_g (lw_at lw_m5 185 rfl) rfl
theorem q1239 : (Jvm.Cond.fieldLink "SandKeepsSeaModel" (48 : Nat) "SandKeepsSeaModel" "code" "[I") ∈ lw_all := lw_g (lw_at lw_m5 186 rfl) rfl
theorem q1240 : (Jvm.Cond.fieldLink "SandKeepsSeaModel" (51 : Nat) "SandKeepsSeaModel" "readCode" "[I") ∈ lw_all := lw_g (lw_at lw_m5 187 rfl) rfl
theorem q1241 : (Jvm.Cond.fieldLink "SandKeepsSeaModel" (238 : Nat) "SandKeepsSeaModel" "codeLong" "I") ∈ lw_all := lw_g (lw_at lw_m5 188 rfl) rfl
theorem q1242 : (Jvm.Cond.fieldLink "SandKeepsSeaModel" (214 : Nat) "SandKeepsSeaModel" "readLong" "I") ∈ lw_all := lw_g (lw_at lw_m5 189 rfl) rfl
theorem q1243 : (Jvm.Cond.fieldLink "SandKeepsSeaModel" (54 : Nat) "SandKeepsSeaModel" "stack" "[I") ∈ lw_all := lw_g (lw_at lw_m5 190 rfl) rfl
theorem q1244 : (Jvm.Cond.fieldLink "SandKeepsSeaModel" (57 : Nat) "SandKeepsSeaModel" "asked" "[I") ∈ lw_all := lw_g (lw_at lw_m5 191 rfl) rfl
theorem q1245 : (Jvm.Cond.fieldLink "SandKeepsSeaModel" (191 : Nat) "SandKeepsSeaModel" "undos" "I") ∈ lw_all := lw_g (lw_at lw_m5 192 rfl) rfl
theorem q1246 : (Jvm.Cond.fieldLink "SandKeepsSeaModel" (60 : Nat) "SandKeepsSeaModel" "undone" "[I") ∈ lw_all := lw_g (lw_at lw_m5 193 rfl) rfl
theorem q1247 : (Jvm.Cond.fieldLink "SandKeepsSeaModel" (309 : Nat) "SandKeepsSeaModel" "wentHome" "I") ∈ lw_all := lw_g (lw_at lw_m5 194 rfl) rfl
theorem q1248 : (Jvm.Cond.fieldLink "SandKeepsSeaModel" (63 : Nat) "SandKeepsSeaModel" "gets" "[I") ∈ lw_all := lw_g (lw_at lw_m5 195 rfl) rfl
theorem q1249 : (Jvm.Cond.fieldLink "SandKeepsSeaModel" (319 : Nat) "SandKeepsSeaModel" "tideLevel" "I") ∈ lw_all := lw_g (lw_at lw_m5 196 rfl) rfl
theorem q1250 : (Jvm.Cond.fieldLink "SandKeepsSeaModel" (66 : Nat) "SandKeepsSeaModel" "actSign" "[I") ∈ lw_all := lw_g (lw_at lw_m5 197 rfl) rfl
theorem q1251 : (Jvm.Cond.fieldLink "SandKeepsSeaModel" (69 : Nat) "SandKeepsSeaModel" "actOne" "[I") ∈ lw_all := lw_g (lw_at lw_m5 198 rfl) rfl
theorem q1252 : (Jvm.Cond.fieldLink "SandKeepsSeaModel" (72 : Nat) "SandKeepsSeaModel" "actTwo" "[I") ∈ lw_all := lw_g (lw_at lw_m5 199 rfl) rfl
theorem q1253 : (Jvm.Cond.fieldLink "SandKeepsSeaModel" (374 : Nat) "SandKeepsSeaModel" "acts" "I") ∈ lw_all := lw_g (lw_at lw_m5 200 rfl) rfl
theorem q1254 : (Jvm.Cond.fieldLink "SandKeepsSeaModel" (389 : Nat) "SandKeepsSeaModel" "firstBreaks" "I") ∈ lw_all := lw_g (lw_at lw_m5 201 rfl) rfl
theorem q1255 : (Jvm.Cond.fieldLink "SandKeepsSeaModel" (75 : Nat) "SandKeepsSeaModel" "wasDyke" "[I") ∈ lw_all := lw_g (lw_at lw_m5 202 rfl) rfl
theorem q1256 : (Jvm.Cond.fieldLink "SandKeepsSeaModel" (78 : Nat) "SandKeepsSeaModel" "post" "[I") ∈ lw_all := lw_g (lw_at lw_m5 203 rfl) rfl
theorem q1257 : (Jvm.Cond.fieldLink "SandKeepsSeaModel" (81 : Nat) "SandKeepsSeaModel" "bestPost" "[I") ∈ lw_all := lw_g (lw_at lw_m5 204 rfl) rfl
theorem q1258 : (Jvm.Cond.fieldLink "SandKeepsSeaModel" (416 : Nat) "SandKeepsSeaModel" "bestCrew" "I") ∈ lw_all := lw_g (lw_at lw_m5 205 rfl) rfl
theorem q1259 : (Jvm.Cond.fieldLink "SandKeepsSeaModel" (84 : Nat) "SandKeepsSeaModel" "wasCode" "[I") ∈ lw_all := lw_g (lw_at lw_m5 206 rfl) rfl
theorem q1260 : (Jvm.Cond.fieldLink "SandKeepsSeaModel" (188 : Nat) "SandKeepsSeaModel" "sights" "I") ∈ lw_all := lw_g (lw_at lw_m5 207 rfl) rfl
theorem q1261 : (Jvm.Cond.fieldLink "SandKeepsSeaModel" (87 : Nat) "SandKeepsSeaModel" "sightOf" "[I") ∈ lw_all := lw_g (lw_at lw_m5 208 rfl) rfl
theorem q1262 : (Jvm.Cond.fieldLink "SandKeepsSeaModel" (90 : Nat) "SandKeepsSeaModel" "built" "[I") ∈ lw_all := lw_g (lw_at lw_m5 209 rfl) rfl
theorem q1263 : (Jvm.Cond.fieldLink "SandKeepsSeaModel" (93 : Nat) "SandKeepsSeaModel" "place" "[I") ∈ lw_all := lw_g (lw_at lw_m5 210 rfl) rfl
theorem q1264 : (Jvm.Cond.fieldLink "SandKeepsSeaModel" (96 : Nat) "SandKeepsSeaModel" "firstPlace" "[I") ∈ lw_all := lw_g (lw_at lw_m5 211 rfl) rfl
theorem q1265 : (Jvm.Cond.fieldLink "SandKeepsSeaModel" (99 : Nat) "SandKeepsSeaModel" "canBe" "[I") ∈ lw_all := lw_g (lw_at lw_m5 212 rfl) rfl
theorem q1266 : (Jvm.Cond.fieldLink "SandKeepsSeaModel" (436 : Nat) "SandKeepsSeaModel" "wayMany" "I") ∈ lw_all := lw_g (lw_at lw_m5 213 rfl) rfl
theorem q1267 : (Jvm.Cond.fieldLink "SandKeepsSeaModel" (461 : Nat) "SandKeepsSeaModel" "random" "I") ∈ lw_all := lw_g (lw_at lw_m5 214 rfl) rfl
theorem q1268 : (Jvm.Cond.fieldLink "SandKeepsSeaModel" (102 : Nat) "SandKeepsSeaModel" "isKept" "[Z") ∈ lw_all := lw_g (lw_at lw_m5 215 rfl) rfl
theorem q1269 : (Jvm.Cond.fieldLink "SandKeepsSeaModel" (106 : Nat) "SandKeepsSeaModel" "keptChanges" "[I") ∈ lw_all := lw_g (lw_at lw_m5 216 rfl) rfl
theorem q1270 : (Jvm.Cond.fieldLink "SandKeepsSeaModel" (109 : Nat) "SandKeepsSeaModel" "kept" "[I") ∈ lw_all := lw_g (lw_at lw_m5 217 rfl) rfl
theorem q1271 : (Jvm.Cond.lays "SandKeepsSeaModel" "SandKeepsSeaModel" "thrown" "I") ∈ lw_all := lw_g (lw_at lw_m5 218 rfl) rfl
theorem q1272 : (Jvm.Cond.soleField "SandKeepsSeaModel" "thrown") ∈ lw_all := lw_g (lw_at lw_m5 219 rfl) rfl
theorem q1273 : (Jvm.Cond.lays "SandKeepsSeaModel" "SandKeepsSeaModel" "rows" "I") ∈ lw_all := lw_g (lw_at lw_m5 220 rfl) rfl
theorem q1274 : (Jvm.Cond.soleField "SandKeepsSeaModel" "rows") ∈ lw_all := lw_g (lw_at lw_m5 221 rfl) rfl
theorem q1275 : (Jvm.Cond.laysFinal "SandKeepsSeaModel" "SandKeepsSeaModel" "row" "[J") ∈ lw_all := lw_g (lw_at lw_m5 222 rfl) rfl
theorem q1276 : (Jvm.Cond.soleField "SandKeepsSeaModel" "row") ∈ lw_all := lw_g (lw_at lw_m5 223 rfl) rfl
theorem q1277 : (Jvm.Cond.lays "SandKeepsSeaModel" "SandKeepsSeaModel" "cells" "I") ∈ lw_all := lw_g (lw_at lw_m5 224 rfl) rfl
theorem q1278 : (Jvm.Cond.soleField "SandKeepsSeaModel" "cells") ∈ lw_all := lw_g (lw_at lw_m5 225 rfl) rfl
theorem q1279 : (Jvm.Cond.lays "SandKeepsSeaModel" "SandKeepsSeaModel" "children" "I") ∈ lw_all := lw_g (lw_at lw_m5 226 rfl) rfl
theorem q1280 : (Jvm.Cond.soleField "SandKeepsSeaModel" "children") ∈ lw_all := lw_g (lw_at lw_m5 227 rfl) rfl
theorem q1281 : (Jvm.Cond.lays "SandKeepsSeaModel" "SandKeepsSeaModel" "changes" "I") ∈ lw_all := lw_g (lw_at lw_m5 228 rfl) rfl
theorem q1282 : (Jvm.Cond.soleField "SandKeepsSeaModel" "changes") ∈ lw_all := lw_g (lw_at lw_m5 229 rfl) rfl
theorem q1283 : (Jvm.Cond.laysFinal "SandKeepsSeaModel" "SandKeepsSeaModel" "base" "[I") ∈ lw_all := lw_g (lw_at lw_m5 230 rfl) rfl
theorem q1284 : (Jvm.Cond.soleField "SandKeepsSeaModel" "base") ∈ lw_all := lw_g (lw_at lw_m5 231 rfl) rfl
theorem q1285 : (Jvm.Cond.laysFinal "SandKeepsSeaModel" "SandKeepsSeaModel" "dyke" "[I") ∈ lw_all := lw_g (lw_at lw_m5 232 rfl) rfl
theorem q1286 : (Jvm.Cond.soleField "SandKeepsSeaModel" "dyke") ∈ lw_all := lw_g (lw_at lw_m5 233 rfl) rfl
theorem q1287 : (Jvm.Cond.laysFinal "SandKeepsSeaModel" "SandKeepsSeaModel" "age" "[I") ∈ lw_all := lw_g (lw_at lw_m5 234 rfl) rfl
theorem q1288 : (Jvm.Cond.soleField "SandKeepsSeaModel" "age") ∈ lw_all := lw_g (lw_at lw_m5 235 rfl) rfl
theorem q1289 : (Jvm.Cond.laysFinal "SandKeepsSeaModel" "SandKeepsSeaModel" "skill" "[I") ∈ lw_all := lw_g (lw_at lw_m5 236 rfl) rfl
theorem q1290 : (Jvm.Cond.soleField "SandKeepsSeaModel" "skill") ∈ lw_all := lw_g (lw_at lw_m5 237 rfl) rfl
theorem q1291 : (Jvm.Cond.laysFinal "SandKeepsSeaModel" "SandKeepsSeaModel" "friend" "[I") ∈ lw_all := lw_g (lw_at lw_m5 238 rfl) rfl
theorem q1292 : (Jvm.Cond.soleField "SandKeepsSeaModel" "friend") ∈ lw_all := lw_g (lw_at lw_m5 239 rfl) rfl
theorem q1293 : (Jvm.Cond.laysFinal "SandKeepsSeaModel" "SandKeepsSeaModel" "fixed" "[I") ∈ lw_all := lw_g (lw_at lw_m6 0 rfl) rfl
theorem q1294 : (Jvm.Cond.soleField "SandKeepsSeaModel" "fixed") ∈ lw_all := lw_g (lw_at lw_m6 1 rfl) rfl
theorem q1295 : (Jvm.Cond.laysFinal "SandKeepsSeaModel" "SandKeepsSeaModel" "now" "[I") ∈ lw_all := lw_g (lw_at lw_m6 2 rfl) rfl
theorem q1296 : (Jvm.Cond.soleField "SandKeepsSeaModel" "now") ∈ lw_all := lw_g (lw_at lw_m6 3 rfl) rfl
theorem q1297 : (Jvm.Cond.laysFinal "SandKeepsSeaModel" "SandKeepsSeaModel" "then" "[I") ∈ lw_all := lw_g (lw_at lw_m6 4 rfl) rfl
theorem q1298 : (Jvm.Cond.soleField "SandKeepsSeaModel" "then") ∈ lw_all := lw_g (lw_at lw_m6 5 rfl) rfl
theorem q1299 : (Jvm.Cond.laysFinal "SandKeepsSeaModel" "SandKeepsSeaModel" "tape" "[I") ∈ lw_all := lw_g (lw_at lw_m6 6 rfl) rfl
theorem q1300 : (Jvm.Cond.soleField "SandKeepsSeaModel" "tape") ∈ lw_all := lw_g (lw_at lw_m6 7 rfl) rfl
theorem q1301 : (Jvm.Cond.lays "SandKeepsSeaModel" "SandKeepsSeaModel" "taped" "I") ∈ lw_all := lw_g (lw_at lw_m6 8 rfl) rfl
theorem q1302 : (Jvm.Cond.soleField "SandKeepsSeaModel" "taped") ∈ lw_all := lw_g (lw_at lw_m6 9 rfl) rfl
theorem q1303 : (Jvm.Cond.lays "SandKeepsSeaModel" "SandKeepsSeaModel" "at" "I") ∈ lw_all := lw_g (lw_at lw_m6 10 rfl) rfl
theorem q1304 : (Jvm.Cond.soleField "SandKeepsSeaModel" "at") ∈ lw_all := lw_g (lw_at lw_m6 11 rfl) rfl
theorem q1305 : (Jvm.Cond.lays "SandKeepsSeaModel" "SandKeepsSeaModel" "to" "I") ∈ lw_all := lw_g (lw_at lw_m6 12 rfl) rfl
theorem q1306 : (Jvm.Cond.soleField "SandKeepsSeaModel" "to") ∈ lw_all := lw_g (lw_at lw_m6 13 rfl) rfl
theorem q1307 : (Jvm.Cond.lays "SandKeepsSeaModel" "SandKeepsSeaModel" "nest" "I") ∈ lw_all := lw_g (lw_at lw_m6 14 rfl) rfl
theorem q1308 : (Jvm.Cond.soleField "SandKeepsSeaModel" "nest") ∈ lw_all := lw_g (lw_at lw_m6 15 rfl) rfl
theorem q1309 : (Jvm.Cond.laysFinal "SandKeepsSeaModel" "SandKeepsSeaModel" "read" "[I") ∈ lw_all := lw_g (lw_at lw_m6 16 rfl) rfl
theorem q1310 : (Jvm.Cond.soleField "SandKeepsSeaModel" "read") ∈ lw_all := lw_g (lw_at lw_m6 17 rfl) rfl
theorem q1311 : (Jvm.Cond.lays "SandKeepsSeaModel" "SandKeepsSeaModel" "readMany" "I") ∈ lw_all := lw_g (lw_at lw_m6 18 rfl) rfl
theorem q1312 : (Jvm.Cond.soleField "SandKeepsSeaModel" "readMany") ∈ lw_all := lw_g (lw_at lw_m6 19 rfl) rfl
theorem q1313 : (Jvm.Cond.laysFinal "SandKeepsSeaModel" "SandKeepsSeaModel" "code" "[I") ∈ lw_all := lw_g (lw_at lw_m6 20 rfl) rfl
theorem q1314 : (Jvm.Cond.soleField "SandKeepsSeaModel" "code") ∈ lw_all := lw_g (lw_at lw_m6 21 rfl) rfl
theorem q1315 : (Jvm.Cond.laysFinal "SandKeepsSeaModel" "SandKeepsSeaModel" "readCode" "[I") ∈ lw_all := lw_g (lw_at lw_m6 22 rfl) rfl
theorem q1316 : (Jvm.Cond.soleField "SandKeepsSeaModel" "readCode") ∈ lw_all := lw_g (lw_at lw_m6 23 rfl) rfl
theorem q1317 : (Jvm.Cond.lays "SandKeepsSeaModel" "SandKeepsSeaModel" "codeLong" "I") ∈ lw_all := lw_g (lw_at lw_m6 24 rfl) rfl
theorem q1318 : (Jvm.Cond.soleField "SandKeepsSeaModel" "codeLong") ∈ lw_all := lw_g (lw_at lw_m6 25 rfl) rfl
theorem q1319 : (Jvm.Cond.lays "SandKeepsSeaModel" "SandKeepsSeaModel" "readLong" "I") ∈ lw_all := lw_g (lw_at lw_m6 26 rfl) rfl
theorem q1320 : (Jvm.Cond.soleField "SandKeepsSeaModel" "readLong") ∈ lw_all := lw_g (lw_at lw_m6 27 rfl) rfl
theorem q1321 : (Jvm.Cond.laysFinal "SandKeepsSeaModel" "SandKeepsSeaModel" "stack" "[I") ∈ lw_all := lw_g (lw_at lw_m6 28 rfl) rfl
theorem q1322 : (Jvm.Cond.soleField "SandKeepsSeaModel" "stack") ∈ lw_all := lw_g (lw_at lw_m6 29 rfl) rfl
theorem q1323 : (Jvm.Cond.laysFinal "SandKeepsSeaModel" "SandKeepsSeaModel" "asked" "[I") ∈ lw_all := lw_g (lw_at lw_m6 30 rfl) rfl
theorem q1324 : (Jvm.Cond.soleField "SandKeepsSeaModel" "asked") ∈ lw_all := lw_g (lw_at lw_m6 31 rfl) rfl
theorem q1325 : (Jvm.Cond.lays "SandKeepsSeaModel" "SandKeepsSeaModel" "undos" "I") ∈ lw_all := lw_g (lw_at lw_m6 32 rfl) rfl
theorem q1326 : (Jvm.Cond.soleField "SandKeepsSeaModel" "undos") ∈ lw_all := lw_g (lw_at lw_m6 33 rfl) rfl
theorem q1327 : (Jvm.Cond.laysFinal "SandKeepsSeaModel" "SandKeepsSeaModel" "undone" "[I") ∈ lw_all := lw_g (lw_at lw_m6 34 rfl) rfl
theorem q1328 : (Jvm.Cond.soleField "SandKeepsSeaModel" "undone") ∈ lw_all := lw_g (lw_at lw_m6 35 rfl) rfl
theorem q1329 : (Jvm.Cond.lays "SandKeepsSeaModel" "SandKeepsSeaModel" "wentHome" "I") ∈ lw_all := lw_g (lw_at lw_m6 36 rfl) rfl
theorem q1330 : (Jvm.Cond.soleField "SandKeepsSeaModel" "wentHome") ∈ lw_all := lw_g (lw_at lw_m6 37 rfl) rfl
theorem q1331 : (Jvm.Cond.laysFinal "SandKeepsSeaModel" "SandKeepsSeaModel" "gets" "[I") ∈ lw_all := lw_g (lw_at lw_m6 38 rfl) rfl
theorem q1332 : (Jvm.Cond.soleField "SandKeepsSeaModel" "gets") ∈ lw_all := lw_g (lw_at lw_m6 39 rfl) rfl
theorem q1333 : (Jvm.Cond.lays "SandKeepsSeaModel" "SandKeepsSeaModel" "tideLevel" "I") ∈ lw_all := lw_g (lw_at lw_m6 40 rfl) rfl
theorem q1334 : (Jvm.Cond.soleField "SandKeepsSeaModel" "tideLevel") ∈ lw_all := lw_g (lw_at lw_m6 41 rfl) rfl
theorem q1335 : (Jvm.Cond.laysFinal "SandKeepsSeaModel" "SandKeepsSeaModel" "actSign" "[I") ∈ lw_all := lw_g (lw_at lw_m6 42 rfl) rfl
theorem q1336 : (Jvm.Cond.soleField "SandKeepsSeaModel" "actSign") ∈ lw_all := lw_g (lw_at lw_m6 43 rfl) rfl
theorem q1337 : (Jvm.Cond.laysFinal "SandKeepsSeaModel" "SandKeepsSeaModel" "actOne" "[I") ∈ lw_all := lw_g (lw_at lw_m6 44 rfl) rfl
theorem q1338 : (Jvm.Cond.soleField "SandKeepsSeaModel" "actOne") ∈ lw_all := lw_g (lw_at lw_m6 45 rfl) rfl
theorem q1339 : (Jvm.Cond.laysFinal "SandKeepsSeaModel" "SandKeepsSeaModel" "actTwo" "[I") ∈ lw_all := lw_g (lw_at lw_m6 46 rfl) rfl
theorem q1340 : (Jvm.Cond.soleField "SandKeepsSeaModel" "actTwo") ∈ lw_all := lw_g (lw_at lw_m6 47 rfl) rfl
theorem q1341 : (Jvm.Cond.lays "SandKeepsSeaModel" "SandKeepsSeaModel" "acts" "I") ∈ lw_all := lw_g (lw_at lw_m6 48 rfl) rfl
theorem q1342 : (Jvm.Cond.soleField "SandKeepsSeaModel" "acts") ∈ lw_all := lw_g (lw_at lw_m6 49 rfl) rfl
theorem q1343 : (Jvm.Cond.lays "SandKeepsSeaModel" "SandKeepsSeaModel" "firstBreaks" "I") ∈ lw_all := lw_g (lw_at lw_m6 50 rfl) rfl
theorem q1344 : (Jvm.Cond.soleField "SandKeepsSeaModel" "firstBreaks") ∈ lw_all := lw_g (lw_at lw_m6 51 rfl) rfl
theorem q1345 : (Jvm.Cond.laysFinal "SandKeepsSeaModel" "SandKeepsSeaModel" "wasDyke" "[I") ∈ lw_all := lw_g (lw_at lw_m6 52 rfl) rfl
theorem q1346 : (Jvm.Cond.soleField "SandKeepsSeaModel" "wasDyke") ∈ lw_all := lw_g (lw_at lw_m6 53 rfl) rfl
theorem q1347 : (Jvm.Cond.laysFinal "SandKeepsSeaModel" "SandKeepsSeaModel" "post" "[I") ∈ lw_all := lw_g (lw_at lw_m6 54 rfl) rfl
theorem q1348 : (Jvm.Cond.soleField "SandKeepsSeaModel" "post") ∈ lw_all := lw_g (lw_at lw_m6 55 rfl) rfl
theorem q1349 : (Jvm.Cond.laysFinal "SandKeepsSeaModel" "SandKeepsSeaModel" "bestPost" "[I") ∈ lw_all := lw_g (lw_at lw_m6 56 rfl) rfl
theorem q1350 : (Jvm.Cond.soleField "SandKeepsSeaModel" "bestPost") ∈ lw_all := lw_g (lw_at lw_m6 57 rfl) rfl
theorem q1351 : (Jvm.Cond.lays "SandKeepsSeaModel" "SandKeepsSeaModel" "bestCrew" "I") ∈ lw_all := lw_g (lw_at lw_m6 58 rfl) rfl
theorem q1352 : (Jvm.Cond.soleField "SandKeepsSeaModel" "bestCrew") ∈ lw_all := lw_g (lw_at lw_m6 59 rfl) rfl
theorem q1353 : (Jvm.Cond.laysFinal "SandKeepsSeaModel" "SandKeepsSeaModel" "wasCode" "[I") ∈ lw_all := lw_g (lw_at lw_m6 60 rfl) rfl
theorem q1354 : (Jvm.Cond.soleField "SandKeepsSeaModel" "wasCode") ∈ lw_all := lw_g (lw_at lw_m6 61 rfl) rfl
theorem q1355 : (Jvm.Cond.lays "SandKeepsSeaModel" "SandKeepsSeaModel" "sights" "I") ∈ lw_all := lw_g (lw_at lw_m6 62 rfl) rfl
theorem q1356 : (Jvm.Cond.soleField "SandKeepsSeaModel" "sights") ∈ lw_all := lw_g (lw_at lw_m6 63 rfl) rfl
theorem q1357 : (Jvm.Cond.laysFinal "SandKeepsSeaModel" "SandKeepsSeaModel" "sightOf" "[I") ∈ lw_all := lw_g (lw_at lw_m6 64 rfl) rfl
theorem q1358 : (Jvm.Cond.soleField "SandKeepsSeaModel" "sightOf") ∈ lw_all := lw_g (lw_at lw_m6 65 rfl) rfl
theorem q1359 : (Jvm.Cond.laysFinal "SandKeepsSeaModel" "SandKeepsSeaModel" "built" "[I") ∈ lw_all := lw_g (lw_at lw_m6 66 rfl) rfl
theorem q1360 : (Jvm.Cond.soleField "SandKeepsSeaModel" "built") ∈ lw_all := lw_g (lw_at lw_m6 67 rfl) rfl
theorem q1361 : (Jvm.Cond.laysFinal "SandKeepsSeaModel" "SandKeepsSeaModel" "place" "[I") ∈ lw_all := lw_g (lw_at lw_m6 68 rfl) rfl
theorem q1362 : (Jvm.Cond.soleField "SandKeepsSeaModel" "place") ∈ lw_all := lw_g (lw_at lw_m6 69 rfl) rfl
theorem q1363 : (Jvm.Cond.laysFinal "SandKeepsSeaModel" "SandKeepsSeaModel" "firstPlace" "[I") ∈ lw_all := lw_g (lw_at lw_m6 70 rfl) rfl
theorem q1364 : (Jvm.Cond.soleField "SandKeepsSeaModel" "firstPlace") ∈ lw_all := lw_g (lw_at lw_m6 71 rfl) rfl
theorem q1365 : (Jvm.Cond.laysFinal "SandKeepsSeaModel" "SandKeepsSeaModel" "canBe" "[I") ∈ lw_all := lw_g (lw_at lw_m6 72 rfl) rfl
theorem q1366 : (Jvm.Cond.soleField "SandKeepsSeaModel" "canBe") ∈ lw_all := lw_g (lw_at lw_m6 73 rfl) rfl
theorem q1367 : (Jvm.Cond.lays "SandKeepsSeaModel" "SandKeepsSeaModel" "wayMany" "I") ∈ lw_all := lw_g (lw_at lw_m6 74 rfl) rfl
theorem q1368 : (Jvm.Cond.soleField "SandKeepsSeaModel" "wayMany") ∈ lw_all := lw_g (lw_at lw_m6 75 rfl) rfl
theorem q1369 : (Jvm.Cond.lays "SandKeepsSeaModel" "SandKeepsSeaModel" "random" "I") ∈ lw_all := lw_g (lw_at lw_m6 76 rfl) rfl
theorem q1370 : (Jvm.Cond.soleField "SandKeepsSeaModel" "random") ∈ lw_all := lw_g (lw_at lw_m6 77 rfl) rfl
theorem q1371 : (Jvm.Cond.laysFinal "SandKeepsSeaModel" "SandKeepsSeaModel" "isKept" "[Z") ∈ lw_all := lw_g (lw_at lw_m6 78 rfl) rfl
theorem q1372 : (Jvm.Cond.soleField "SandKeepsSeaModel" "isKept") ∈ lw_all := lw_g (lw_at lw_m6 79 rfl) rfl
theorem q1373 : (Jvm.Cond.laysFinal "SandKeepsSeaModel" "SandKeepsSeaModel" "keptChanges" "[I") ∈ lw_all := lw_g (lw_at lw_m6 80 rfl) rfl
theorem q1374 : (Jvm.Cond.soleField "SandKeepsSeaModel" "keptChanges") ∈ lw_all := lw_g (lw_at lw_m6 81 rfl) rfl
theorem q1375 : (Jvm.Cond.laysFinal "SandKeepsSeaModel" "SandKeepsSeaModel" "kept" "[I") ∈ lw_all := lw_g (lw_at lw_m6 82 rfl) rfl
theorem q1376 : (Jvm.Cond.soleField "SandKeepsSeaModel" "kept") ∈ lw_all := lw_g (lw_at lw_m6 83 rfl) rfl
theorem q1377 : (Jvm.Cond.superclass "SandKeepsSeaModel" "java/lang/Object") ∈ lw_all := lw_g (lw_at lw_m6 84 rfl) rfl
theorem q1380 : (Jvm.Cond.instanceMethod ({ cls := "SandKeepsSeaModel", name := "thrown", desc := "()I" } : Jvm.MethodName)) ∈ lw_all := lw_g (lw_at lw_m6 87 rfl) rfl
theorem q1381 : (Jvm.Cond.selects "SandKeepsSeaModel" ({ cls := "SandKeepsSeaModel", name := "thrown", desc := "()I" } : Jvm.MethodName) ({ cls := "SandKeepsSeaModel", name := "thrown", desc := "()I" } : Jvm.MethodName)) ∈ lw_all := lw_g (lw_at lw_m6 88 rfl) rfl
theorem q1382 : (Jvm.Cond.code ({ cls := "SandKeepsSeaModel", name := "thrown", desc := "()I" } : Jvm.MethodName) prog_13_method_2_code (1 : Nat) (Option.some Jvm.ClassFile.FieldType.int)) ∈ lw_all := lw_g (lw_at lw_m6 89 rfl) rfl
theorem q1384 : (Jvm.Cond.instanceMethod ({ cls := "SandKeepsSeaModel", name := "sign", desc := "(I)I" } : Jvm.MethodName)) ∈ lw_all := lw_g (lw_at lw_m6 91 rfl) rfl
theorem q1385 : (Jvm.Cond.selects "SandKeepsSeaModel" ({ cls := "SandKeepsSeaModel", name := "sign", desc := "(I)I" } : Jvm.MethodName) ({ cls := "SandKeepsSeaModel", name := "sign", desc := "(I)I" } : Jvm.MethodName)) ∈ lw_all := lw_g (lw_at lw_m6 92 rfl) rfl
theorem q1386 : (Jvm.Cond.code ({ cls := "SandKeepsSeaModel", name := "sign", desc := "(I)I" } : Jvm.MethodName) prog_13_method_18_code (3 : Nat) (Option.some Jvm.ClassFile.FieldType.int)) ∈ lw_all := lw_g (lw_at lw_m6 93 rfl) rfl
theorem q1388 : (Jvm.Cond.instanceMethod ({ cls := "SandKeepsSeaModel", name := "end", desc := "(I)Z" } : Jvm.MethodName)) ∈ lw_all := lw_g (lw_at lw_m6 95 rfl) rfl
theorem q1389 : (Jvm.Cond.selects "SandKeepsSeaModel" ({ cls := "SandKeepsSeaModel", name := "end", desc := "(I)Z" } : Jvm.MethodName) ({ cls := "SandKeepsSeaModel", name := "end", desc := "(I)Z" } : Jvm.MethodName)) ∈ lw_all := lw_g (lw_at lw_m6 96 rfl) rfl
theorem q1390 : (Jvm.Cond.code ({ cls := "SandKeepsSeaModel", name := "end", desc := "(I)Z" } : Jvm.MethodName) prog_13_method_19_code (2 : Nat) (Option.some Jvm.ClassFile.FieldType.boolean)) ∈ lw_all := lw_g (lw_at lw_m6 97 rfl) rfl
theorem q1391 : (Jvm.Cond.methodLink "SandKeepsSeaModel" (122 : Nat) ({ cls := "SandKeepsSeaModel", name := "in", desc := "(JJJ)Z" } : Jvm.MethodName)) ∈ lw_all := lw_g (lw_at lw_m6 98 rfl) rfl
theorem q1392 : (Jvm.Cond.static ({ cls := "SandKeepsSeaModel", name := "in", desc := "(JJJ)Z" } : Jvm.MethodName)) ∈ lw_all := lw_g (lw_at lw_m6 99 rfl) rfl
theorem q1393 : (Jvm.Cond.code ({ cls := "SandKeepsSeaModel", name := "in", desc := "(JJJ)Z" } : Jvm.MethodName) prog_13_method_4_code (6 : Nat) (Option.some Jvm.ClassFile.FieldType.boolean)) ∈ lw_all := lw_g (lw_at lw_m6 100 rfl) rfl
theorem q1395 : (Jvm.Cond.instanceMethod ({ cls := "SandKeepsSeaModel", name := "shore", desc := "()I" } : Jvm.MethodName)) ∈ lw_all := lw_g (lw_at lw_m6 102 rfl) rfl
theorem q1396 : (Jvm.Cond.selects "SandKeepsSeaModel" ({ cls := "SandKeepsSeaModel", name := "shore", desc := "()I" } : Jvm.MethodName) ({ cls := "SandKeepsSeaModel", name := "shore", desc := "()I" } : Jvm.MethodName)) ∈ lw_all := lw_g (lw_at lw_m6 103 rfl) rfl
theorem q1397 : (Jvm.Cond.code ({ cls := "SandKeepsSeaModel", name := "shore", desc := "()I" } : Jvm.MethodName) prog_13_method_29_code (4 : Nat) (Option.some Jvm.ClassFile.FieldType.int)) ∈ lw_all := lw_g (lw_at lw_m6 104 rfl) rfl
theorem q1398 : (Jvm.Cond.methodLink "SandKeepsSeaModel" (181 : Nat) ({ cls := "SandKeepsSeaModel", name := "begins", desc := "(I)I" } : Jvm.MethodName)) ∈ lw_all := lw_g (lw_at lw_m6 105 rfl) rfl
theorem q1399 : (Jvm.Cond.privateMethod ({ cls := "SandKeepsSeaModel", name := "begins", desc := "(I)I" } : Jvm.MethodName)) ∈ lw_tbl := lw_at lw_m6 106 rfl
theorem q1400 : (Jvm.Cond.instanceMethod ({ cls := "SandKeepsSeaModel", name := "begins", desc := "(I)I" } : Jvm.MethodName)) ∈ lw_all := lw_g (lw_at lw_m6 107 rfl) rfl
theorem q1401 : (Jvm.Cond.code ({ cls := "SandKeepsSeaModel", name := "begins", desc := "(I)I" } : Jvm.MethodName) prog_13_method_20_code (3 : Nat) (Option.some Jvm.ClassFile.FieldType.int)) ∈ lw_all := lw_g (lw_at lw_m6 108 rfl) rfl
theorem q1402 : (Jvm.Cond.methodLink "SandKeepsSeaModel" (142 : Nat) ({ cls := "java/lang/Math", name := "min", desc := "(II)I" } : Jvm.MethodName)) ∈ lw_all := lw_g (lw_at lw_m6 109 rfl) rfl
theorem q1403 : (Jvm.Cond.methodLink "SandKeepsSeaModel" (184 : Nat) ({ cls := "SandKeepsSeaModel", name := "takes", desc := "(I)Z" } : Jvm.MethodName)) ∈ lw_all := lw_g (lw_at lw_m6 110 rfl) rfl
theorem q1404 : (Jvm.Cond.privateMethod ({ cls := "SandKeepsSeaModel", name := "takes", desc := "(I)Z" } : Jvm.MethodName)) ∈ lw_tbl := lw_at lw_m6 111 rfl
theorem q1405 : (Jvm.Cond.instanceMethod ({ cls := "SandKeepsSeaModel", name := "takes", desc := "(I)Z" } : Jvm.MethodName)) ∈ lw_all := lw_g (lw_at lw_m6 112 rfl) rfl
theorem q1406 : (Jvm.Cond.code ({ cls := "SandKeepsSeaModel", name := "takes", desc := "(I)Z" } : Jvm.MethodName) prog_13_method_21_code (3 : Nat) (Option.some Jvm.ClassFile.FieldType.boolean)) ∈ lw_all := lw_g (lw_at lw_m6 113 rfl) rfl
theorem q1407 : (Jvm.Cond.methodLink "SandKeepsSeaModel" (151 : Nat) ({ cls := "SandKeepsSeaModel", name := "flag", desc := "(Z)I" } : Jvm.MethodName)) ∈ lw_all := lw_g (lw_at lw_m6 114 rfl) rfl
theorem q1408 : (Jvm.Cond.static ({ cls := "SandKeepsSeaModel", name := "flag", desc := "(Z)I" } : Jvm.MethodName)) ∈ lw_all := lw_g (lw_at lw_m6 115 rfl) rfl
theorem q1409 : (Jvm.Cond.code ({ cls := "SandKeepsSeaModel", name := "flag", desc := "(Z)I" } : Jvm.MethodName) prog_13_method_6_code (1 : Nat) (Option.some Jvm.ClassFile.FieldType.int)) ∈ lw_all := lw_g (lw_at lw_m6 116 rfl) rfl
theorem q1410 : (Jvm.Cond.methodLink "SandKeepsSeaModel" (177 : Nat) ({ cls := "SandKeepsSeaModel", name := "number", desc := "(I)I" } : Jvm.MethodName)) ∈ lw_all := lw_g (lw_at lw_m6 117 rfl) rfl
theorem q1411 : (Jvm.Cond.privateMethod ({ cls := "SandKeepsSeaModel", name := "number", desc := "(I)I" } : Jvm.MethodName)) ∈ lw_tbl := lw_at lw_m6 118 rfl
theorem q1412 : (Jvm.Cond.instanceMethod ({ cls := "SandKeepsSeaModel", name := "number", desc := "(I)I" } : Jvm.MethodName)) ∈ lw_all := lw_g (lw_at lw_m6 119 rfl) rfl
theorem q1413 : (Jvm.Cond.code ({ cls := "SandKeepsSeaModel", name := "number", desc := "(I)I" } : Jvm.MethodName) prog_13_method_25_code (4 : Nat) (Option.some Jvm.ClassFile.FieldType.int)) ∈ lw_all := lw_g (lw_at lw_m6 120 rfl) rfl
theorem q1414 : (Jvm.Cond.methodLink "SandKeepsSeaModel" (173 : Nat) ({ cls := "SandKeepsSeaModel", name := "isDigit", desc := "()Z" } : Jvm.MethodName)) ∈ lw_all := lw_g (lw_at lw_m6 121 rfl) rfl
theorem q1415 : (Jvm.Cond.privateMethod ({ cls := "SandKeepsSeaModel", name := "isDigit", desc := "()Z" } : Jvm.MethodName)) ∈ lw_tbl := lw_at lw_m6 122 rfl
theorem q1416 : (Jvm.Cond.instanceMethod ({ cls := "SandKeepsSeaModel", name := "isDigit", desc := "()Z" } : Jvm.MethodName)) ∈ lw_all := lw_g (lw_at lw_m6 123 rfl) rfl
theorem q1417 : (Jvm.Cond.code ({ cls := "SandKeepsSeaModel", name := "isDigit", desc := "()Z" } : Jvm.MethodName) prog_13_method_22_code (1 : Nat) (Option.some Jvm.ClassFile.FieldType.boolean)) ∈ lw_all := lw_g (lw_at lw_m6 124 rfl) rfl
theorem q1418 : (Jvm.Cond.constantLong "SandKeepsSeaModel" (155 : Nat) (48 : Int64)) ∈ lw_all := lw_g (lw_at lw_m6 125 rfl) rfl
theorem q1419 : (Jvm.Cond.constantLong "SandKeepsSeaModel" (157 : Nat) (57 : Int64)) ∈ lw_all := lw_g (lw_at lw_m6 126 rfl) rfl
theorem q1421 : (Jvm.Cond.instanceMethod ({ cls := "SandKeepsSeaModel", name := "children", desc := "()I" } : Jvm.MethodName)) ∈ lw_all := lw_g (lw_at lw_m6 128 rfl) rfl
theorem q1422 : (Jvm.Cond.selects "SandKeepsSeaModel" ({ cls := "SandKeepsSeaModel", name := "children", desc := "()I" } : Jvm.MethodName) ({ cls := "SandKeepsSeaModel", name := "children", desc := "()I" } : Jvm.MethodName)) ∈ lw_all := lw_g (lw_at lw_m6 129 rfl) rfl
theorem q1423 : (Jvm.Cond.code ({ cls := "SandKeepsSeaModel", name := "children", desc := "()I" } : Jvm.MethodName) prog_13_method_31_code (6 : Nat) (Option.some Jvm.ClassFile.FieldType.int)) ∈ lw_all := lw_g (lw_at lw_m6 130 rfl) rfl
theorem q1424 : (Jvm.Cond.methodLink "SandKeepsSeaModel" (207 : Nat) ({ cls := "SandKeepsSeaModel", name := "readsChild", desc := "()Z" } : Jvm.MethodName)) ∈ lw_all := lw_g (lw_at lw_m6 131 rfl) rfl
theorem q1425 : (Jvm.Cond.privateMethod ({ cls := "SandKeepsSeaModel", name := "readsChild", desc := "()Z" } : Jvm.MethodName)) ∈ lw_tbl := lw_at lw_m6 132 rfl
theorem q1426 : (Jvm.Cond.instanceMethod ({ cls := "SandKeepsSeaModel", name := "readsChild", desc := "()Z" } : Jvm.MethodName)) ∈ lw_all := lw_g (lw_at lw_m6 133 rfl) rfl
theorem q1427 : (Jvm.Cond.code ({ cls := "SandKeepsSeaModel", name := "readsChild", desc := "()Z" } : Jvm.MethodName) prog_13_method_30_code (3 : Nat) (Option.some Jvm.ClassFile.FieldType.boolean)) ∈ lw_all := lw_g (lw_at lw_m6 134 rfl) rfl
theorem q1428 : (Jvm.Cond.methodLink "SandKeepsSeaModel" (200 : Nat) ({ cls := "SandKeepsSeaModel", name := "numberIn", desc := "(III)I" } : Jvm.MethodName)) ∈ lw_all := lw_g (lw_at lw_m6 135 rfl) rfl
theorem q1429 : (Jvm.Cond.privateMethod ({ cls := "SandKeepsSeaModel", name := "numberIn", desc := "(III)I" } : Jvm.MethodName)) ∈ lw_tbl := lw_at lw_m6 136 rfl
theorem q1430 : (Jvm.Cond.instanceMethod ({ cls := "SandKeepsSeaModel", name := "numberIn", desc := "(III)I" } : Jvm.MethodName)) ∈ lw_all := lw_g (lw_at lw_m6 137 rfl) rfl
theorem q1431 : (Jvm.Cond.code ({ cls := "SandKeepsSeaModel", name := "numberIn", desc := "(III)I" } : Jvm.MethodName) prog_13_method_26_code (5 : Nat) (Option.some Jvm.ClassFile.FieldType.int)) ∈ lw_all := lw_g (lw_at lw_m6 138 rfl) rfl
theorem q1432 : (Jvm.Cond.methodLink "SandKeepsSeaModel" (204 : Nat) ({ cls := "SandKeepsSeaModel", name := "signIn", desc := "(III)I" } : Jvm.MethodName)) ∈ lw_all := lw_g (lw_at lw_m6 139 rfl) rfl
theorem q1433 : (Jvm.Cond.privateMethod ({ cls := "SandKeepsSeaModel", name := "signIn", desc := "(III)I" } : Jvm.MethodName)) ∈ lw_tbl := lw_at lw_m6 140 rfl
theorem q1434 : (Jvm.Cond.instanceMethod ({ cls := "SandKeepsSeaModel", name := "signIn", desc := "(III)I" } : Jvm.MethodName)) ∈ lw_all := lw_g (lw_at lw_m6 141 rfl) rfl
theorem q1435 : (Jvm.Cond.code ({ cls := "SandKeepsSeaModel", name := "signIn", desc := "(III)I" } : Jvm.MethodName) prog_13_method_27_code (4 : Nat) (Option.some Jvm.ClassFile.FieldType.int)) ∈ lw_all := lw_g (lw_at lw_m6 142 rfl) rfl
theorem q1436 : (Jvm.Cond.methodLink "SandKeepsSeaModel" (210 : Nat) ({ cls := "SandKeepsSeaModel", name := "faultOf", desc := "(IIZ)I" } : Jvm.MethodName)) ∈ lw_all := lw_g (lw_at lw_m6 143 rfl) rfl
theorem q1437 : (Jvm.Cond.privateMethod ({ cls := "SandKeepsSeaModel", name := "faultOf", desc := "(IIZ)I" } : Jvm.MethodName)) ∈ lw_tbl := lw_at lw_m6 144 rfl
theorem q1438 : (Jvm.Cond.instanceMethod ({ cls := "SandKeepsSeaModel", name := "faultOf", desc := "(IIZ)I" } : Jvm.MethodName)) ∈ lw_all := lw_g (lw_at lw_m6 145 rfl) rfl
theorem q1439 : (Jvm.Cond.code ({ cls := "SandKeepsSeaModel", name := "faultOf", desc := "(IIZ)I" } : Jvm.MethodName) prog_13_method_28_code (5 : Nat) (Option.some Jvm.ClassFile.FieldType.int)) ∈ lw_all := lw_g (lw_at lw_m6 146 rfl) rfl
theorem q1441 : (Jvm.Cond.instanceMethod ({ cls := "SandKeepsSeaModel", name := "rule", desc := "()I" } : Jvm.MethodName)) ∈ lw_all := lw_g (lw_at lw_m6 148 rfl) rfl
theorem q1442 : (Jvm.Cond.selects "SandKeepsSeaModel" ({ cls := "SandKeepsSeaModel", name := "rule", desc := "()I" } : Jvm.MethodName) ({ cls := "SandKeepsSeaModel", name := "rule", desc := "()I" } : Jvm.MethodName)) ∈ lw_all := lw_g (lw_at lw_m6 149 rfl) rfl
theorem q1443 : (Jvm.Cond.code ({ cls := "SandKeepsSeaModel", name := "rule", desc := "()I" } : Jvm.MethodName) prog_13_method_37_code (2 : Nat) (Option.some Jvm.ClassFile.FieldType.int)) ∈ lw_all := lw_g (lw_at lw_m6 150 rfl) rfl
theorem q1444 : (Jvm.Cond.methodLink "SandKeepsSeaModel" (241 : Nat) ({ cls := "SandKeepsSeaModel", name := "readsRule", desc := "()I" } : Jvm.MethodName)) ∈ lw_all := lw_g (lw_at lw_m6 151 rfl) rfl
theorem q1445 : (Jvm.Cond.privateMethod ({ cls := "SandKeepsSeaModel", name := "readsRule", desc := "()I" } : Jvm.MethodName)) ∈ lw_tbl := lw_at lw_m6 152 rfl
theorem q1446 : (Jvm.Cond.instanceMethod ({ cls := "SandKeepsSeaModel", name := "readsRule", desc := "()I" } : Jvm.MethodName)) ∈ lw_all := lw_g (lw_at lw_m6 153 rfl) rfl
theorem q1447 : (Jvm.Cond.code ({ cls := "SandKeepsSeaModel", name := "readsRule", desc := "()I" } : Jvm.MethodName) prog_13_method_35_code (3 : Nat) (Option.some Jvm.ClassFile.FieldType.int)) ∈ lw_all := lw_g (lw_at lw_m6 154 rfl) rfl
theorem q1448 : (Jvm.Cond.methodLink "SandKeepsSeaModel" (229 : Nat) ({ cls := "SandKeepsSeaModel", name := "readsRank", desc := "(I)Z" } : Jvm.MethodName)) ∈ lw_all := lw_g (lw_at lw_m6 155 rfl) rfl
theorem q1449 : (Jvm.Cond.privateMethod ({ cls := "SandKeepsSeaModel", name := "readsRank", desc := "(I)Z" } : Jvm.MethodName)) ∈ lw_tbl := lw_at lw_m6 156 rfl
theorem q1450 : (Jvm.Cond.instanceMethod ({ cls := "SandKeepsSeaModel", name := "readsRank", desc := "(I)Z" } : Jvm.MethodName)) ∈ lw_all := lw_g (lw_at lw_m6 157 rfl) rfl
theorem q1451 : (Jvm.Cond.code ({ cls := "SandKeepsSeaModel", name := "readsRank", desc := "(I)Z" } : Jvm.MethodName) prog_13_method_34_code (4 : Nat) (Option.some Jvm.ClassFile.FieldType.boolean)) ∈ lw_all := lw_g (lw_at lw_m6 158 rfl) rfl
theorem q1452 : (Jvm.Cond.methodLink "SandKeepsSeaModel" (217 : Nat) ({ cls := "SandKeepsSeaModel", name := "readsThing", desc := "()Z" } : Jvm.MethodName)) ∈ lw_all := lw_g (lw_at lw_m6 159 rfl) rfl
theorem q1453 : (Jvm.Cond.privateMethod ({ cls := "SandKeepsSeaModel", name := "readsThing", desc := "()Z" } : Jvm.MethodName)) ∈ lw_tbl := lw_at lw_m6 160 rfl
theorem q1454 : (Jvm.Cond.instanceMethod ({ cls := "SandKeepsSeaModel", name := "readsThing", desc := "()Z" } : Jvm.MethodName)) ∈ lw_all := lw_g (lw_at lw_m6 161 rfl) rfl
theorem q1455 : (Jvm.Cond.code ({ cls := "SandKeepsSeaModel", name := "readsThing", desc := "()Z" } : Jvm.MethodName) prog_13_method_33_code (2 : Nat) (Option.some Jvm.ClassFile.FieldType.boolean)) ∈ lw_all := lw_g (lw_at lw_m6 162 rfl) rfl
theorem q1456 : (Jvm.Cond.methodLink "SandKeepsSeaModel" (220 : Nat) ({ cls := "SandKeepsSeaModel", name := "codes", desc := "(I)V" } : Jvm.MethodName)) ∈ lw_all := lw_g (lw_at lw_m6 163 rfl) rfl
theorem q1457 : (Jvm.Cond.privateMethod ({ cls := "SandKeepsSeaModel", name := "codes", desc := "(I)V" } : Jvm.MethodName)) ∈ lw_tbl := lw_at lw_m6 164 rfl
theorem q1458 : (Jvm.Cond.instanceMethod ({ cls := "SandKeepsSeaModel", name := "codes", desc := "(I)V" } : Jvm.MethodName)) ∈ lw_all := lw_g (lw_at lw_m6 165 rfl) rfl
theorem q1459 : (Jvm.Cond.code ({ cls := "SandKeepsSeaModel", name := "codes", desc := "(I)V" } : Jvm.MethodName) prog_13_method_32_code (2 : Nat) (Option.none : Option Jvm.ClassFile.FieldType)) ∈ lw_all := lw_g (lw_at lw_m6 166 rfl) rfl
theorem q1460 : (Jvm.Cond.stringRef "SandKeepsSeaModel" (224 : Nat) "nwcm") ∈ lw_tbl := lw_at lw_m6 167 rfl
theorem q1461 : (Jvm.Cond.methodLink "SandKeepsSeaModel" (226 : Nat) ({ cls := "SandKeepsSeaModel", name := "takesOf", desc := "(Ljava/lang/String;)I" } : Jvm.MethodName)) ∈ lw_all := lw_g (lw_at lw_m6 168 rfl) rfl
theorem q1462 : (Jvm.Cond.privateMethod ({ cls := "SandKeepsSeaModel", name := "takesOf", desc := "(Ljava/lang/String;)I" } : Jvm.MethodName)) ∈ lw_tbl := lw_at lw_m6 169 rfl
theorem q1463 : (Jvm.Cond.instanceMethod ({ cls := "SandKeepsSeaModel", name := "takesOf", desc := "(Ljava/lang/String;)I" } : Jvm.MethodName)) ∈ lw_all := lw_g (lw_at lw_m6 170 rfl) rfl
theorem q1464 : (Jvm.Cond.code ({ cls := "SandKeepsSeaModel", name := "takesOf", desc := "(Ljava/lang/String;)I" } : Jvm.MethodName) prog_13_method_24_code (3 : Nat) (Option.some Jvm.ClassFile.FieldType.int)) ∈ lw_all := lw_g (lw_at lw_m6 171 rfl) rfl
theorem q1465 : (Jvm.Cond.methodLink "SandKeepsSeaModel" (169 : Nat) ({ cls := "SandKeepsSeaModel", name := "among", desc := "(Ljava/lang/String;)I" } : Jvm.MethodName)) ∈ lw_all := lw_g (lw_at lw_m6 172 rfl) rfl
theorem q1466 : (Jvm.Cond.privateMethod ({ cls := "SandKeepsSeaModel", name := "among", desc := "(Ljava/lang/String;)I" } : Jvm.MethodName)) ∈ lw_tbl := lw_at lw_m6 173 rfl
theorem q1467 : (Jvm.Cond.instanceMethod ({ cls := "SandKeepsSeaModel", name := "among", desc := "(Ljava/lang/String;)I" } : Jvm.MethodName)) ∈ lw_all := lw_g (lw_at lw_m6 174 rfl) rfl
theorem q1468 : (Jvm.Cond.code ({ cls := "SandKeepsSeaModel", name := "among", desc := "(Ljava/lang/String;)I" } : Jvm.MethodName) prog_13_method_23_code (3 : Nat) (Option.some Jvm.ClassFile.FieldType.int)) ∈ lw_all := lw_g (lw_at lw_m6 175 rfl) rfl
theorem q1469 : (Jvm.Cond.methodLink "SandKeepsSeaModel" (159 : Nat) ({ cls := "java/lang/String", name := "length", desc := "()I" } : Jvm.MethodName)) ∈ lw_all := lw_g (lw_at lw_m6 176 rfl) rfl
theorem q1470 : (Jvm.Cond.methodLink "SandKeepsSeaModel" (165 : Nat) ({ cls := "java/lang/String", name := "charAt", desc := "(I)C" } : Jvm.MethodName)) ∈ lw_all := lw_g (lw_at lw_m6 177 rfl) rfl
theorem q1490 : (Jvm.Cond.stringRef "SandKeepsSeaModel" (232 : Nat) "<>=") ∈ lw_tbl := lw_at lw_m6 197 rfl
theorem q1491 : (Jvm.Cond.stringRef "SandKeepsSeaModel" (234 : Nat) "+-") ∈ lw_tbl := lw_at lw_m6 198 rfl
theorem q1492 : (Jvm.Cond.stringRef "SandKeepsSeaModel" (236 : Nat) "*/") ∈ lw_tbl := lw_at lw_m6 199 rfl
theorem q1493 : (Jvm.Cond.methodLink "SandKeepsSeaModel" (244 : Nat) ({ cls := "SandKeepsSeaModel", name := "laysCode", desc := "([II)V" } : Jvm.MethodName)) ∈ lw_all := lw_g (lw_at lw_m6 200 rfl) rfl
theorem q1494 : (Jvm.Cond.privateMethod ({ cls := "SandKeepsSeaModel", name := "laysCode", desc := "([II)V" } : Jvm.MethodName)) ∈ lw_tbl := lw_at lw_m6 201 rfl
theorem q1495 : (Jvm.Cond.instanceMethod ({ cls := "SandKeepsSeaModel", name := "laysCode", desc := "([II)V" } : Jvm.MethodName)) ∈ lw_all := lw_g (lw_at lw_m6 202 rfl) rfl
theorem q1496 : (Jvm.Cond.code ({ cls := "SandKeepsSeaModel", name := "laysCode", desc := "([II)V" } : Jvm.MethodName) prog_13_method_36_code (4 : Nat) (Option.none : Option Jvm.ClassFile.FieldType)) ∈ lw_all := lw_g (lw_at lw_m6 203 rfl) rfl
theorem q1498 : (Jvm.Cond.instanceMethod ({ cls := "SandKeepsSeaModel", name := "cell", desc := "(II)I" } : Jvm.MethodName)) ∈ lw_all := lw_g (lw_at lw_m6 205 rfl) rfl
theorem q1499 : (Jvm.Cond.selects "SandKeepsSeaModel" ({ cls := "SandKeepsSeaModel", name := "cell", desc := "(II)I" } : Jvm.MethodName) ({ cls := "SandKeepsSeaModel", name := "cell", desc := "(II)I" } : Jvm.MethodName)) ∈ lw_all := lw_g (lw_at lw_m6 206 rfl) rfl
theorem q1500 : (Jvm.Cond.code ({ cls := "SandKeepsSeaModel", name := "cell", desc := "(II)I" } : Jvm.MethodName) prog_13_method_44_code (3 : Nat) (Option.some Jvm.ClassFile.FieldType.int)) ∈ lw_all := lw_g (lw_at lw_m6 207 rfl) rfl
theorem q1501 : (Jvm.Cond.methodLink "SandKeepsSeaModel" (280 : Nat) ({ cls := "SandKeepsSeaModel", name := "isCell", desc := "(I)Z" } : Jvm.MethodName)) ∈ lw_all := lw_g (lw_at lw_m6 208 rfl) rfl
theorem q1502 : (Jvm.Cond.privateMethod ({ cls := "SandKeepsSeaModel", name := "isCell", desc := "(I)Z" } : Jvm.MethodName)) ∈ lw_tbl := lw_at lw_m6 209 rfl
theorem q1503 : (Jvm.Cond.instanceMethod ({ cls := "SandKeepsSeaModel", name := "isCell", desc := "(I)Z" } : Jvm.MethodName)) ∈ lw_all := lw_g (lw_at lw_m6 210 rfl) rfl
theorem q1504 : (Jvm.Cond.code ({ cls := "SandKeepsSeaModel", name := "isCell", desc := "(I)Z" } : Jvm.MethodName) prog_13_method_9_code (2 : Nat) (Option.some Jvm.ClassFile.FieldType.boolean)) ∈ lw_all := lw_g (lw_at lw_m6 211 rfl) rfl
theorem q1505 : (Jvm.Cond.constantLong "SandKeepsSeaModel" (283 : Nat) (6 : Int64)) ∈ lw_all := lw_g (lw_at lw_m6 212 rfl) rfl
theorem q1506 : (Jvm.Cond.methodLink "SandKeepsSeaModel" (285 : Nat) ({ cls := "SandKeepsSeaModel", name := "refuse", desc := "()I" } : Jvm.MethodName)) ∈ lw_all := lw_g (lw_at lw_m6 213 rfl) rfl
theorem q1507 : (Jvm.Cond.privateMethod ({ cls := "SandKeepsSeaModel", name := "refuse", desc := "()I" } : Jvm.MethodName)) ∈ lw_tbl := lw_at lw_m6 214 rfl
theorem q1508 : (Jvm.Cond.instanceMethod ({ cls := "SandKeepsSeaModel", name := "refuse", desc := "()I" } : Jvm.MethodName)) ∈ lw_all := lw_g (lw_at lw_m6 215 rfl) rfl
theorem q1509 : (Jvm.Cond.code ({ cls := "SandKeepsSeaModel", name := "refuse", desc := "()I" } : Jvm.MethodName) prog_13_method_3_code (1 : Nat) (Option.some Jvm.ClassFile.FieldType.int)) ∈ lw_all := lw_g (lw_at lw_m6 216 rfl) rfl
theorem q1510 : (Jvm.Cond.methodLink "SandKeepsSeaModel" (269 : Nat) ({ cls := "SandKeepsSeaModel", name := "has", desc := "(II)Z" } : Jvm.MethodName)) ∈ lw_all := lw_g (lw_at lw_m6 217 rfl) rfl
theorem q1511 : (Jvm.Cond.static ({ cls := "SandKeepsSeaModel", name := "has", desc := "(II)Z" } : Jvm.MethodName)) ∈ lw_all := lw_g (lw_at lw_m6 218 rfl) rfl
theorem q1512 : (Jvm.Cond.code ({ cls := "SandKeepsSeaModel", name := "has", desc := "(II)Z" } : Jvm.MethodName) prog_13_method_5_code (2 : Nat) (Option.some Jvm.ClassFile.FieldType.boolean)) ∈ lw_all := lw_g (lw_at lw_m6 219 rfl) rfl
theorem q1513 : (Jvm.Cond.methodLink "SandKeepsSeaModel" (288 : Nat) ({ cls := "SandKeepsSeaModel", name := "childrenAt", desc := "([II)I" } : Jvm.MethodName)) ∈ lw_all := lw_g (lw_at lw_m6 220 rfl) rfl
theorem q1514 : (Jvm.Cond.privateMethod ({ cls := "SandKeepsSeaModel", name := "childrenAt", desc := "([II)I" } : Jvm.MethodName)) ∈ lw_tbl := lw_at lw_m6 221 rfl
theorem q1515 : (Jvm.Cond.instanceMethod ({ cls := "SandKeepsSeaModel", name := "childrenAt", desc := "([II)I" } : Jvm.MethodName)) ∈ lw_all := lw_g (lw_at lw_m6 222 rfl) rfl
theorem q1516 : (Jvm.Cond.code ({ cls := "SandKeepsSeaModel", name := "childrenAt", desc := "([II)I" } : Jvm.MethodName) prog_13_method_14_code (5 : Nat) (Option.some Jvm.ClassFile.FieldType.int)) ∈ lw_all := lw_g (lw_at lw_m6 223 rfl) rfl
theorem q1517 : (Jvm.Cond.methodLink "SandKeepsSeaModel" (129 : Nat) ({ cls := "SandKeepsSeaModel", name := "atOf", desc := "([II)I" } : Jvm.MethodName)) ∈ lw_all := lw_g (lw_at lw_m6 224 rfl) rfl
theorem q1518 : (Jvm.Cond.static ({ cls := "SandKeepsSeaModel", name := "atOf", desc := "([II)I" } : Jvm.MethodName)) ∈ lw_all := lw_g (lw_at lw_m6 225 rfl) rfl
theorem q1519 : (Jvm.Cond.code ({ cls := "SandKeepsSeaModel", name := "atOf", desc := "([II)I" } : Jvm.MethodName) prog_13_method_11_code (2 : Nat) (Option.some Jvm.ClassFile.FieldType.int)) ∈ lw_all := lw_g (lw_at lw_m6 226 rfl) rfl
theorem q1520 : (Jvm.Cond.methodLink "SandKeepsSeaModel" (291 : Nat) ({ cls := "SandKeepsSeaModel", name := "topOf", desc := "([II)I" } : Jvm.MethodName)) ∈ lw_all := lw_g (lw_at lw_m6 227 rfl) rfl
theorem q1521 : (Jvm.Cond.privateMethod ({ cls := "SandKeepsSeaModel", name := "topOf", desc := "([II)I" } : Jvm.MethodName)) ∈ lw_tbl := lw_at lw_m6 228 rfl
theorem q1522 : (Jvm.Cond.instanceMethod ({ cls := "SandKeepsSeaModel", name := "topOf", desc := "([II)I" } : Jvm.MethodName)) ∈ lw_all := lw_g (lw_at lw_m6 229 rfl) rfl
theorem q1523 : (Jvm.Cond.code ({ cls := "SandKeepsSeaModel", name := "topOf", desc := "([II)I" } : Jvm.MethodName) prog_13_method_13_code (3 : Nat) (Option.some Jvm.ClassFile.FieldType.int)) ∈ lw_all := lw_g (lw_at lw_m6 230 rfl) rfl
theorem q1525 : (Jvm.Cond.instanceMethod ({ cls := "SandKeepsSeaModel", name := "child", desc := "(II)I" } : Jvm.MethodName)) ∈ lw_all := lw_g (lw_at lw_m6 232 rfl) rfl
theorem q1526 : (Jvm.Cond.selects "SandKeepsSeaModel" ({ cls := "SandKeepsSeaModel", name := "child", desc := "(II)I" } : Jvm.MethodName) ({ cls := "SandKeepsSeaModel", name := "child", desc := "(II)I" } : Jvm.MethodName)) ∈ lw_all := lw_g (lw_at lw_m6 233 rfl) rfl
theorem q1527 : (Jvm.Cond.code ({ cls := "SandKeepsSeaModel", name := "child", desc := "(II)I" } : Jvm.MethodName) prog_13_method_45_code (3 : Nat) (Option.some Jvm.ClassFile.FieldType.int)) ∈ lw_all := lw_g (lw_at lw_m6 234 rfl) rfl
theorem q1528 : (Jvm.Cond.methodLink "SandKeepsSeaModel" (294 : Nat) ({ cls := "SandKeepsSeaModel", name := "isChild", desc := "(I)Z" } : Jvm.MethodName)) ∈ lw_all := lw_g (lw_at lw_m6 235 rfl) rfl
theorem q1529 : (Jvm.Cond.privateMethod ({ cls := "SandKeepsSeaModel", name := "isChild", desc := "(I)Z" } : Jvm.MethodName)) ∈ lw_tbl := lw_at lw_m6 236 rfl
theorem q1530 : (Jvm.Cond.instanceMethod ({ cls := "SandKeepsSeaModel", name := "isChild", desc := "(I)Z" } : Jvm.MethodName)) ∈ lw_all := lw_g (lw_at lw_m6 237 rfl) rfl
theorem q1531 : (Jvm.Cond.code ({ cls := "SandKeepsSeaModel", name := "isChild", desc := "(I)Z" } : Jvm.MethodName) prog_13_method_10_code (2 : Nat) (Option.some Jvm.ClassFile.FieldType.boolean)) ∈ lw_all := lw_g (lw_at lw_m6 238 rfl) rfl
theorem q1532 : (Jvm.Cond.methodLink "SandKeepsSeaModel" (277 : Nat) ({ cls := "SandKeepsSeaModel", name := "moodOf", desc := "([II)I" } : Jvm.MethodName)) ∈ lw_all := lw_g (lw_at lw_m6 239 rfl) rfl
theorem q1533 : (Jvm.Cond.static ({ cls := "SandKeepsSeaModel", name := "moodOf", desc := "([II)I" } : Jvm.MethodName)) ∈ lw_all := lw_g (lw_at lw_m7 0 rfl) rfl
theorem q1534 : (Jvm.Cond.code ({ cls := "SandKeepsSeaModel", name := "moodOf", desc := "([II)I" } : Jvm.MethodName) prog_13_method_12_code (2 : Nat) (Option.some Jvm.ClassFile.FieldType.int)) ∈ lw_all := lw_g (lw_at lw_m7 1 rfl) rfl
theorem q1535 : (Jvm.Cond.methodLink "SandKeepsSeaModel" (297 : Nat) ({ cls := "SandKeepsSeaModel", name := "bucketsOf", desc := "([II)I" } : Jvm.MethodName)) ∈ lw_all := lw_g (lw_at lw_m7 2 rfl) rfl
theorem q1536 : (Jvm.Cond.privateMethod ({ cls := "SandKeepsSeaModel", name := "bucketsOf", desc := "([II)I" } : Jvm.MethodName)) ∈ lw_tbl := lw_at lw_m7 3 rfl
theorem q1537 : (Jvm.Cond.instanceMethod ({ cls := "SandKeepsSeaModel", name := "bucketsOf", desc := "([II)I" } : Jvm.MethodName)) ∈ lw_all := lw_g (lw_at lw_m7 4 rfl) rfl
theorem q1538 : (Jvm.Cond.code ({ cls := "SandKeepsSeaModel", name := "bucketsOf", desc := "([II)I" } : Jvm.MethodName) prog_13_method_43_code (4 : Nat) (Option.some Jvm.ClassFile.FieldType.int)) ∈ lw_all := lw_g (lw_at lw_m7 5 rfl) rfl
theorem q1539 : (Jvm.Cond.methodLink "SandKeepsSeaModel" (273 : Nat) ({ cls := "SandKeepsSeaModel", name := "hasFriend", desc := "([II)Z" } : Jvm.MethodName)) ∈ lw_all := lw_g (lw_at lw_m7 6 rfl) rfl
theorem q1540 : (Jvm.Cond.privateMethod ({ cls := "SandKeepsSeaModel", name := "hasFriend", desc := "([II)Z" } : Jvm.MethodName)) ∈ lw_tbl := lw_at lw_m7 7 rfl
theorem q1541 : (Jvm.Cond.instanceMethod ({ cls := "SandKeepsSeaModel", name := "hasFriend", desc := "([II)Z" } : Jvm.MethodName)) ∈ lw_all := lw_g (lw_at lw_m7 8 rfl) rfl
theorem q1542 : (Jvm.Cond.code ({ cls := "SandKeepsSeaModel", name := "hasFriend", desc := "([II)Z" } : Jvm.MethodName) prog_13_method_42_code (5 : Nat) (Option.some Jvm.ClassFile.FieldType.boolean)) ∈ lw_all := lw_g (lw_at lw_m7 9 rfl) rfl
theorem q1543 : (Jvm.Cond.methodLink "SandKeepsSeaModel" (265 : Nat) ({ cls := "SandKeepsSeaModel", name := "areNear", desc := "([III)Z" } : Jvm.MethodName)) ∈ lw_all := lw_g (lw_at lw_m7 10 rfl) rfl
theorem q1544 : (Jvm.Cond.privateMethod ({ cls := "SandKeepsSeaModel", name := "areNear", desc := "([III)Z" } : Jvm.MethodName)) ∈ lw_tbl := lw_at lw_m7 11 rfl
theorem q1545 : (Jvm.Cond.instanceMethod ({ cls := "SandKeepsSeaModel", name := "areNear", desc := "([III)Z" } : Jvm.MethodName)) ∈ lw_all := lw_g (lw_at lw_m7 12 rfl) rfl
theorem q1546 : (Jvm.Cond.code ({ cls := "SandKeepsSeaModel", name := "areNear", desc := "([III)Z" } : Jvm.MethodName) prog_13_method_41_code (4 : Nat) (Option.some Jvm.ClassFile.FieldType.boolean)) ∈ lw_all := lw_g (lw_at lw_m7 13 rfl) rfl
theorem q1547 : (Jvm.Cond.methodLink "SandKeepsSeaModel" (262 : Nat) ({ cls := "java/lang/Math", name := "abs", desc := "(I)I" } : Jvm.MethodName)) ∈ lw_all := lw_g (lw_at lw_m7 14 rfl) rfl
theorem q1549 : (Jvm.Cond.instanceMethod ({ cls := "SandKeepsSeaModel", name := "set", desc := "(II)I" } : Jvm.MethodName)) ∈ lw_all := lw_g (lw_at lw_m7 16 rfl) rfl
theorem q1550 : (Jvm.Cond.selects "SandKeepsSeaModel" ({ cls := "SandKeepsSeaModel", name := "set", desc := "(II)I" } : Jvm.MethodName) ({ cls := "SandKeepsSeaModel", name := "set", desc := "(II)I" } : Jvm.MethodName)) ∈ lw_all := lw_g (lw_at lw_m7 17 rfl) rfl
theorem q1551 : (Jvm.Cond.code ({ cls := "SandKeepsSeaModel", name := "set", desc := "(II)I" } : Jvm.MethodName) prog_13_method_46_code (5 : Nat) (Option.some Jvm.ClassFile.FieldType.int)) ∈ lw_all := lw_g (lw_at lw_m7 18 rfl) rfl
theorem q1552 : (Jvm.Cond.methodLink "SandKeepsSeaModel" (251 : Nat) ({ cls := "java/lang/Integer", name := "bitCount", desc := "(I)I" } : Jvm.MethodName)) ∈ lw_all := lw_g (lw_at lw_m7 19 rfl) rfl
theorem q1553 : (Jvm.Cond.constantLong "SandKeepsSeaModel" (300 : Nat) (8 : Int64)) ∈ lw_all := lw_g (lw_at lw_m7 20 rfl) rfl
theorem q1554 : (Jvm.Cond.constantLong "SandKeepsSeaModel" (302 : Nat) (9 : Int64)) ∈ lw_all := lw_g (lw_at lw_m7 21 rfl) rfl
theorem q1556 : (Jvm.Cond.instanceMethod ({ cls := "SandKeepsSeaModel", name := "sheet", desc := "(IIII)I" } : Jvm.MethodName)) ∈ lw_all := lw_g (lw_at lw_m7 23 rfl) rfl
theorem q1557 : (Jvm.Cond.selects "SandKeepsSeaModel" ({ cls := "SandKeepsSeaModel", name := "sheet", desc := "(IIII)I" } : Jvm.MethodName) ({ cls := "SandKeepsSeaModel", name := "sheet", desc := "(IIII)I" } : Jvm.MethodName)) ∈ lw_all := lw_g (lw_at lw_m7 24 rfl) rfl
theorem q1558 : (Jvm.Cond.code ({ cls := "SandKeepsSeaModel", name := "sheet", desc := "(IIII)I" } : Jvm.MethodName) prog_13_method_47_code (9 : Nat) (Option.some Jvm.ClassFile.FieldType.int)) ∈ lw_all := lw_g (lw_at lw_m7 25 rfl) rfl
theorem q1559 : (Jvm.Cond.constantLong "SandKeepsSeaModel" (304 : Nat) (3 : Int64)) ∈ lw_all := lw_g (lw_at lw_m7 26 rfl) rfl
theorem q1560 : (Jvm.Cond.methodLink "SandKeepsSeaModel" (259 : Nat) ({ cls := "java/lang/Math", name := "max", desc := "(II)I" } : Jvm.MethodName)) ∈ lw_all := lw_g (lw_at lw_m7 27 rfl) rfl
theorem q1562 : (Jvm.Cond.instanceMethod ({ cls := "SandKeepsSeaModel", name := "undo", desc := "()I" } : Jvm.MethodName)) ∈ lw_all := lw_g (lw_at lw_m7 29 rfl) rfl
theorem q1563 : (Jvm.Cond.selects "SandKeepsSeaModel" ({ cls := "SandKeepsSeaModel", name := "undo", desc := "()I" } : Jvm.MethodName) ({ cls := "SandKeepsSeaModel", name := "undo", desc := "()I" } : Jvm.MethodName)) ∈ lw_all := lw_g (lw_at lw_m7 30 rfl) rfl
theorem q1564 : (Jvm.Cond.code ({ cls := "SandKeepsSeaModel", name := "undo", desc := "()I" } : Jvm.MethodName) prog_13_method_51_code (2 : Nat) (Option.some Jvm.ClassFile.FieldType.int)) ∈ lw_all := lw_g (lw_at lw_m7 31 rfl) rfl
theorem q1566 : (Jvm.Cond.instanceMethod ({ cls := "SandKeepsSeaModel", name := "go", desc := "(II)I" } : Jvm.MethodName)) ∈ lw_all := lw_g (lw_at lw_m7 33 rfl) rfl
theorem q1567 : (Jvm.Cond.selects "SandKeepsSeaModel" ({ cls := "SandKeepsSeaModel", name := "go", desc := "(II)I" } : Jvm.MethodName) ({ cls := "SandKeepsSeaModel", name := "go", desc := "(II)I" } : Jvm.MethodName)) ∈ lw_all := lw_g (lw_at lw_m7 34 rfl) rfl
theorem q1568 : (Jvm.Cond.code ({ cls := "SandKeepsSeaModel", name := "go", desc := "(II)I" } : Jvm.MethodName) prog_13_method_62_code (3 : Nat) (Option.some Jvm.ClassFile.FieldType.int)) ∈ lw_all := lw_g (lw_at lw_m7 35 rfl) rfl
theorem q1569 : (Jvm.Cond.methodLink "SandKeepsSeaModel" (328 : Nat) ({ cls := "SandKeepsSeaModel", name := "putsBy", desc := "()V" } : Jvm.MethodName)) ∈ lw_all := lw_g (lw_at lw_m7 36 rfl) rfl
theorem q1570 : (Jvm.Cond.privateMethod ({ cls := "SandKeepsSeaModel", name := "putsBy", desc := "()V" } : Jvm.MethodName)) ∈ lw_tbl := lw_at lw_m7 37 rfl
theorem q1571 : (Jvm.Cond.instanceMethod ({ cls := "SandKeepsSeaModel", name := "putsBy", desc := "()V" } : Jvm.MethodName)) ∈ lw_all := lw_g (lw_at lw_m7 38 rfl) rfl
theorem q1572 : (Jvm.Cond.code ({ cls := "SandKeepsSeaModel", name := "putsBy", desc := "()V" } : Jvm.MethodName) prog_13_method_48_code (2 : Nat) (Option.none : Option Jvm.ClassFile.FieldType)) ∈ lw_all := lw_g (lw_at lw_m7 39 rfl) rfl
theorem q1573 : (Jvm.Cond.methodLink "SandKeepsSeaModel" (331 : Nat) ({ cls := "SandKeepsSeaModel", name := "goes", desc := "([III)I" } : Jvm.MethodName)) ∈ lw_all := lw_g (lw_at lw_m7 40 rfl) rfl
theorem q1574 : (Jvm.Cond.privateMethod ({ cls := "SandKeepsSeaModel", name := "goes", desc := "([III)I" } : Jvm.MethodName)) ∈ lw_tbl := lw_at lw_m7 41 rfl
theorem q1575 : (Jvm.Cond.instanceMethod ({ cls := "SandKeepsSeaModel", name := "goes", desc := "([III)I" } : Jvm.MethodName)) ∈ lw_all := lw_g (lw_at lw_m7 42 rfl) rfl
theorem q1576 : (Jvm.Cond.code ({ cls := "SandKeepsSeaModel", name := "goes", desc := "([III)I" } : Jvm.MethodName) prog_13_method_57_code (5 : Nat) (Option.some Jvm.ClassFile.FieldType.int)) ∈ lw_all := lw_g (lw_at lw_m7 43 rfl) rfl
theorem q1577 : (Jvm.Cond.methodLink "SandKeepsSeaModel" (335 : Nat) ({ cls := "SandKeepsSeaModel", name := "counts", desc := "(I)I" } : Jvm.MethodName)) ∈ lw_all := lw_g (lw_at lw_m7 44 rfl) rfl
theorem q1578 : (Jvm.Cond.privateMethod ({ cls := "SandKeepsSeaModel", name := "counts", desc := "(I)I" } : Jvm.MethodName)) ∈ lw_tbl := lw_at lw_m7 45 rfl
theorem q1579 : (Jvm.Cond.instanceMethod ({ cls := "SandKeepsSeaModel", name := "counts", desc := "(I)I" } : Jvm.MethodName)) ∈ lw_all := lw_g (lw_at lw_m7 46 rfl) rfl
theorem q1580 : (Jvm.Cond.code ({ cls := "SandKeepsSeaModel", name := "counts", desc := "(I)I" } : Jvm.MethodName) prog_13_method_50_code (2 : Nat) (Option.some Jvm.ClassFile.FieldType.int)) ∈ lw_all := lw_g (lw_at lw_m7 47 rfl) rfl
theorem q1581 : (Jvm.Cond.methodLink "SandKeepsSeaModel" (306 : Nat) ({ cls := "SandKeepsSeaModel", name := "adds", desc := "(I)I" } : Jvm.MethodName)) ∈ lw_all := lw_g (lw_at lw_m7 48 rfl) rfl
theorem q1582 : (Jvm.Cond.privateMethod ({ cls := "SandKeepsSeaModel", name := "adds", desc := "(I)I" } : Jvm.MethodName)) ∈ lw_tbl := lw_at lw_m7 49 rfl
theorem q1583 : (Jvm.Cond.instanceMethod ({ cls := "SandKeepsSeaModel", name := "adds", desc := "(I)I" } : Jvm.MethodName)) ∈ lw_all := lw_g (lw_at lw_m7 50 rfl) rfl
theorem q1584 : (Jvm.Cond.code ({ cls := "SandKeepsSeaModel", name := "adds", desc := "(I)I" } : Jvm.MethodName) prog_13_method_49_code (3 : Nat) (Option.some Jvm.ClassFile.FieldType.int)) ∈ lw_all := lw_g (lw_at lw_m7 51 rfl) rfl
theorem q1586 : (Jvm.Cond.instanceMethod ({ cls := "SandKeepsSeaModel", name := "home", desc := "(I)I" } : Jvm.MethodName)) ∈ lw_all := lw_g (lw_at lw_m7 53 rfl) rfl
theorem q1587 : (Jvm.Cond.selects "SandKeepsSeaModel" ({ cls := "SandKeepsSeaModel", name := "home", desc := "(I)I" } : Jvm.MethodName) ({ cls := "SandKeepsSeaModel", name := "home", desc := "(I)I" } : Jvm.MethodName)) ∈ lw_all := lw_g (lw_at lw_m7 54 rfl) rfl
theorem q1588 : (Jvm.Cond.code ({ cls := "SandKeepsSeaModel", name := "home", desc := "(I)I" } : Jvm.MethodName) prog_13_method_63_code (2 : Nat) (Option.some Jvm.ClassFile.FieldType.int)) ∈ lw_all := lw_g (lw_at lw_m7 55 rfl) rfl
theorem q1589 : (Jvm.Cond.methodLink "SandKeepsSeaModel" (338 : Nat) ({ cls := "SandKeepsSeaModel", name := "goesHome", desc := "(I)I" } : Jvm.MethodName)) ∈ lw_all := lw_g (lw_at lw_m7 56 rfl) rfl
theorem q1590 : (Jvm.Cond.privateMethod ({ cls := "SandKeepsSeaModel", name := "goesHome", desc := "(I)I" } : Jvm.MethodName)) ∈ lw_tbl := lw_at lw_m7 57 rfl
theorem q1591 : (Jvm.Cond.instanceMethod ({ cls := "SandKeepsSeaModel", name := "goesHome", desc := "(I)I" } : Jvm.MethodName)) ∈ lw_all := lw_g (lw_at lw_m7 58 rfl) rfl
theorem q1592 : (Jvm.Cond.code ({ cls := "SandKeepsSeaModel", name := "goesHome", desc := "(I)I" } : Jvm.MethodName) prog_13_method_58_code (3 : Nat) (Option.some Jvm.ClassFile.FieldType.int)) ∈ lw_all := lw_g (lw_at lw_m7 59 rfl) rfl
theorem q1594 : (Jvm.Cond.instanceMethod ({ cls := "SandKeepsSeaModel", name := "spade", desc := "(I)I" } : Jvm.MethodName)) ∈ lw_all := lw_g (lw_at lw_m7 61 rfl) rfl
theorem q1595 : (Jvm.Cond.selects "SandKeepsSeaModel" ({ cls := "SandKeepsSeaModel", name := "spade", desc := "(I)I" } : Jvm.MethodName) ({ cls := "SandKeepsSeaModel", name := "spade", desc := "(I)I" } : Jvm.MethodName)) ∈ lw_all := lw_g (lw_at lw_m7 62 rfl) rfl
theorem q1596 : (Jvm.Cond.code ({ cls := "SandKeepsSeaModel", name := "spade", desc := "(I)I" } : Jvm.MethodName) prog_13_method_64_code (2 : Nat) (Option.some Jvm.ClassFile.FieldType.int)) ∈ lw_all := lw_g (lw_at lw_m7 63 rfl) rfl
theorem q1597 : (Jvm.Cond.methodLink "SandKeepsSeaModel" (341 : Nat) ({ cls := "SandKeepsSeaModel", name := "spadeFor", desc := "(I)I" } : Jvm.MethodName)) ∈ lw_all := lw_g (lw_at lw_m7 64 rfl) rfl
theorem q1598 : (Jvm.Cond.privateMethod ({ cls := "SandKeepsSeaModel", name := "spadeFor", desc := "(I)I" } : Jvm.MethodName)) ∈ lw_tbl := lw_at lw_m7 65 rfl
theorem q1599 : (Jvm.Cond.instanceMethod ({ cls := "SandKeepsSeaModel", name := "spadeFor", desc := "(I)I" } : Jvm.MethodName)) ∈ lw_all := lw_g (lw_at lw_m7 66 rfl) rfl
theorem q1600 : (Jvm.Cond.code ({ cls := "SandKeepsSeaModel", name := "spadeFor", desc := "(I)I" } : Jvm.MethodName) prog_13_method_59_code (2 : Nat) (Option.some Jvm.ClassFile.FieldType.int)) ∈ lw_all := lw_g (lw_at lw_m7 67 rfl) rfl
theorem q1602 : (Jvm.Cond.instanceMethod ({ cls := "SandKeepsSeaModel", name := "treat", desc := "(I)I" } : Jvm.MethodName)) ∈ lw_all := lw_g (lw_at lw_m7 69 rfl) rfl
theorem q1603 : (Jvm.Cond.selects "SandKeepsSeaModel" ({ cls := "SandKeepsSeaModel", name := "treat", desc := "(I)I" } : Jvm.MethodName) ({ cls := "SandKeepsSeaModel", name := "treat", desc := "(I)I" } : Jvm.MethodName)) ∈ lw_all := lw_g (lw_at lw_m7 70 rfl) rfl
theorem q1604 : (Jvm.Cond.code ({ cls := "SandKeepsSeaModel", name := "treat", desc := "(I)I" } : Jvm.MethodName) prog_13_method_65_code (2 : Nat) (Option.some Jvm.ClassFile.FieldType.int)) ∈ lw_all := lw_g (lw_at lw_m7 71 rfl) rfl
theorem q1605 : (Jvm.Cond.methodLink "SandKeepsSeaModel" (344 : Nat) ({ cls := "SandKeepsSeaModel", name := "treatsOne", desc := "(I)I" } : Jvm.MethodName)) ∈ lw_all := lw_g (lw_at lw_m7 72 rfl) rfl
theorem q1606 : (Jvm.Cond.privateMethod ({ cls := "SandKeepsSeaModel", name := "treatsOne", desc := "(I)I" } : Jvm.MethodName)) ∈ lw_tbl := lw_at lw_m7 73 rfl
theorem q1607 : (Jvm.Cond.instanceMethod ({ cls := "SandKeepsSeaModel", name := "treatsOne", desc := "(I)I" } : Jvm.MethodName)) ∈ lw_all := lw_g (lw_at lw_m7 74 rfl) rfl
theorem q1608 : (Jvm.Cond.code ({ cls := "SandKeepsSeaModel", name := "treatsOne", desc := "(I)I" } : Jvm.MethodName) prog_13_method_60_code (2 : Nat) (Option.some Jvm.ClassFile.FieldType.int)) ∈ lw_all := lw_g (lw_at lw_m7 75 rfl) rfl
theorem q1610 : (Jvm.Cond.instanceMethod ({ cls := "SandKeepsSeaModel", name := "moat", desc := "(I)I" } : Jvm.MethodName)) ∈ lw_all := lw_g (lw_at lw_m7 77 rfl) rfl
theorem q1611 : (Jvm.Cond.selects "SandKeepsSeaModel" ({ cls := "SandKeepsSeaModel", name := "moat", desc := "(I)I" } : Jvm.MethodName) ({ cls := "SandKeepsSeaModel", name := "moat", desc := "(I)I" } : Jvm.MethodName)) ∈ lw_all := lw_g (lw_at lw_m7 78 rfl) rfl
theorem q1612 : (Jvm.Cond.code ({ cls := "SandKeepsSeaModel", name := "moat", desc := "(I)I" } : Jvm.MethodName) prog_13_method_66_code (2 : Nat) (Option.some Jvm.ClassFile.FieldType.int)) ∈ lw_all := lw_g (lw_at lw_m7 79 rfl) rfl
theorem q1613 : (Jvm.Cond.methodLink "SandKeepsSeaModel" (347 : Nat) ({ cls := "SandKeepsSeaModel", name := "digs", desc := "(I)I" } : Jvm.MethodName)) ∈ lw_all := lw_g (lw_at lw_m7 80 rfl) rfl
theorem q1614 : (Jvm.Cond.privateMethod ({ cls := "SandKeepsSeaModel", name := "digs", desc := "(I)I" } : Jvm.MethodName)) ∈ lw_tbl := lw_at lw_m7 81 rfl
theorem q1615 : (Jvm.Cond.instanceMethod ({ cls := "SandKeepsSeaModel", name := "digs", desc := "(I)I" } : Jvm.MethodName)) ∈ lw_all := lw_g (lw_at lw_m7 82 rfl) rfl
theorem q1616 : (Jvm.Cond.code ({ cls := "SandKeepsSeaModel", name := "digs", desc := "(I)I" } : Jvm.MethodName) prog_13_method_61_code (2 : Nat) (Option.some Jvm.ClassFile.FieldType.int)) ∈ lw_all := lw_g (lw_at lw_m7 83 rfl) rfl
theorem q1618 : (Jvm.Cond.instanceMethod ({ cls := "SandKeepsSeaModel", name := "build", desc := "(I)I" } : Jvm.MethodName)) ∈ lw_all := lw_g (lw_at lw_m7 85 rfl) rfl
theorem q1619 : (Jvm.Cond.selects "SandKeepsSeaModel" ({ cls := "SandKeepsSeaModel", name := "build", desc := "(I)I" } : Jvm.MethodName) ({ cls := "SandKeepsSeaModel", name := "build", desc := "(I)I" } : Jvm.MethodName)) ∈ lw_all := lw_g (lw_at lw_m7 86 rfl) rfl
theorem q1620 : (Jvm.Cond.code ({ cls := "SandKeepsSeaModel", name := "build", desc := "(I)I" } : Jvm.MethodName) prog_13_method_67_code (3 : Nat) (Option.some Jvm.ClassFile.FieldType.int)) ∈ lw_all := lw_g (lw_at lw_m7 87 rfl) rfl
theorem q1621 : (Jvm.Cond.constantLong "SandKeepsSeaModel" (350 : Nat) (30 : Int64)) ∈ lw_all := lw_g (lw_at lw_m7 88 rfl) rfl
theorem q1622 : (Jvm.Cond.methodLink "SandKeepsSeaModel" (352 : Nat) ({ cls := "SandKeepsSeaModel", name := "wallAll", desc := "([I)I" } : Jvm.MethodName)) ∈ lw_all := lw_g (lw_at lw_m7 89 rfl) rfl
theorem q1623 : (Jvm.Cond.privateMethod ({ cls := "SandKeepsSeaModel", name := "wallAll", desc := "([I)I" } : Jvm.MethodName)) ∈ lw_tbl := lw_at lw_m7 90 rfl
theorem q1624 : (Jvm.Cond.instanceMethod ({ cls := "SandKeepsSeaModel", name := "wallAll", desc := "([I)I" } : Jvm.MethodName)) ∈ lw_all := lw_g (lw_at lw_m7 91 rfl) rfl
theorem q1625 : (Jvm.Cond.code ({ cls := "SandKeepsSeaModel", name := "wallAll", desc := "([I)I" } : Jvm.MethodName) prog_13_method_17_code (4 : Nat) (Option.some Jvm.ClassFile.FieldType.int)) ∈ lw_all := lw_g (lw_at lw_m7 92 rfl) rfl
theorem q1626 : (Jvm.Cond.methodLink "SandKeepsSeaModel" (356 : Nat) ({ cls := "SandKeepsSeaModel", name := "builds", desc := "([II)V" } : Jvm.MethodName)) ∈ lw_all := lw_g (lw_at lw_m7 93 rfl) rfl
theorem q1627 : (Jvm.Cond.privateMethod ({ cls := "SandKeepsSeaModel", name := "builds", desc := "([II)V" } : Jvm.MethodName)) ∈ lw_tbl := lw_at lw_m7 94 rfl
theorem q1628 : (Jvm.Cond.instanceMethod ({ cls := "SandKeepsSeaModel", name := "builds", desc := "([II)V" } : Jvm.MethodName)) ∈ lw_all := lw_g (lw_at lw_m7 95 rfl) rfl
theorem q1629 : (Jvm.Cond.code ({ cls := "SandKeepsSeaModel", name := "builds", desc := "([II)V" } : Jvm.MethodName) prog_13_method_53_code (4 : Nat) (Option.none : Option Jvm.ClassFile.FieldType)) ∈ lw_all := lw_g (lw_at lw_m7 96 rfl) rfl
theorem q1630 : (Jvm.Cond.methodLink "SandKeepsSeaModel" (312 : Nat) ({ cls := "SandKeepsSeaModel", name := "spellGoes", desc := "([I)V" } : Jvm.MethodName)) ∈ lw_all := lw_g (lw_at lw_m7 97 rfl) rfl
theorem q1631 : (Jvm.Cond.privateMethod ({ cls := "SandKeepsSeaModel", name := "spellGoes", desc := "([I)V" } : Jvm.MethodName)) ∈ lw_tbl := lw_at lw_m7 98 rfl
theorem q1632 : (Jvm.Cond.instanceMethod ({ cls := "SandKeepsSeaModel", name := "spellGoes", desc := "([I)V" } : Jvm.MethodName)) ∈ lw_all := lw_g (lw_at lw_m7 99 rfl) rfl
theorem q1633 : (Jvm.Cond.code ({ cls := "SandKeepsSeaModel", name := "spellGoes", desc := "([I)V" } : Jvm.MethodName) prog_13_method_52_code (4 : Nat) (Option.none : Option Jvm.ClassFile.FieldType)) ∈ lw_all := lw_g (lw_at lw_m7 100 rfl) rfl
theorem q1634 : (Jvm.Cond.methodLink "SandKeepsSeaModel" (359 : Nat) ({ cls := "SandKeepsSeaModel", name := "enters", desc := "(J)V" } : Jvm.MethodName)) ∈ lw_all := lw_g (lw_at lw_m7 101 rfl) rfl
theorem q1635 : (Jvm.Cond.privateMethod ({ cls := "SandKeepsSeaModel", name := "enters", desc := "(J)V" } : Jvm.MethodName)) ∈ lw_tbl := lw_at lw_m7 102 rfl
theorem q1636 : (Jvm.Cond.instanceMethod ({ cls := "SandKeepsSeaModel", name := "enters", desc := "(J)V" } : Jvm.MethodName)) ∈ lw_all := lw_g (lw_at lw_m7 103 rfl) rfl
theorem q1637 : (Jvm.Cond.code ({ cls := "SandKeepsSeaModel", name := "enters", desc := "(J)V" } : Jvm.MethodName) prog_13_method_8_code (3 : Nat) (Option.none : Option Jvm.ClassFile.FieldType)) ∈ lw_all := lw_g (lw_at lw_m7 104 rfl) rfl
theorem q1639 : (Jvm.Cond.instanceMethod ({ cls := "SandKeepsSeaModel", name := "tide", desc := "()I" } : Jvm.MethodName)) ∈ lw_all := lw_g (lw_at lw_m7 106 rfl) rfl
theorem q1640 : (Jvm.Cond.selects "SandKeepsSeaModel" ({ cls := "SandKeepsSeaModel", name := "tide", desc := "()I" } : Jvm.MethodName) ({ cls := "SandKeepsSeaModel", name := "tide", desc := "()I" } : Jvm.MethodName)) ∈ lw_all := lw_g (lw_at lw_m7 107 rfl) rfl
theorem q1641 : (Jvm.Cond.code ({ cls := "SandKeepsSeaModel", name := "tide", desc := "()I" } : Jvm.MethodName) prog_13_method_68_code (3 : Nat) (Option.some Jvm.ClassFile.FieldType.int)) ∈ lw_all := lw_g (lw_at lw_m7 108 rfl) rfl
theorem q1642 : (Jvm.Cond.methodLink "SandKeepsSeaModel" (363 : Nat) ({ cls := "SandKeepsSeaModel", name := "deepAll", desc := "([I)I" } : Jvm.MethodName)) ∈ lw_all := lw_g (lw_at lw_m7 109 rfl) rfl
theorem q1643 : (Jvm.Cond.privateMethod ({ cls := "SandKeepsSeaModel", name := "deepAll", desc := "([I)I" } : Jvm.MethodName)) ∈ lw_tbl := lw_at lw_m7 110 rfl
theorem q1644 : (Jvm.Cond.instanceMethod ({ cls := "SandKeepsSeaModel", name := "deepAll", desc := "([I)I" } : Jvm.MethodName)) ∈ lw_all := lw_g (lw_at lw_m7 111 rfl) rfl
theorem q1645 : (Jvm.Cond.code ({ cls := "SandKeepsSeaModel", name := "deepAll", desc := "([I)I" } : Jvm.MethodName) prog_13_method_16_code (4 : Nat) (Option.some Jvm.ClassFile.FieldType.int)) ∈ lw_all := lw_g (lw_at lw_m7 112 rfl) rfl
theorem q1646 : (Jvm.Cond.methodLink "SandKeepsSeaModel" (366 : Nat) ({ cls := "SandKeepsSeaModel", name := "tideComes", desc := "([I)I" } : Jvm.MethodName)) ∈ lw_all := lw_g (lw_at lw_m7 113 rfl) rfl
theorem q1647 : (Jvm.Cond.privateMethod ({ cls := "SandKeepsSeaModel", name := "tideComes", desc := "([I)I" } : Jvm.MethodName)) ∈ lw_tbl := lw_at lw_m7 114 rfl
theorem q1648 : (Jvm.Cond.instanceMethod ({ cls := "SandKeepsSeaModel", name := "tideComes", desc := "([I)I" } : Jvm.MethodName)) ∈ lw_all := lw_g (lw_at lw_m7 115 rfl) rfl
theorem q1649 : (Jvm.Cond.code ({ cls := "SandKeepsSeaModel", name := "tideComes", desc := "([I)I" } : Jvm.MethodName) prog_13_method_56_code (5 : Nat) (Option.some Jvm.ClassFile.FieldType.int)) ∈ lw_all := lw_g (lw_at lw_m7 116 rfl) rfl
theorem q1650 : (Jvm.Cond.methodLink "SandKeepsSeaModel" (316 : Nat) ({ cls := "SandKeepsSeaModel", name := "levelOf", desc := "([II)I" } : Jvm.MethodName)) ∈ lw_all := lw_g (lw_at lw_m7 117 rfl) rfl
theorem q1651 : (Jvm.Cond.privateMethod ({ cls := "SandKeepsSeaModel", name := "levelOf", desc := "([II)I" } : Jvm.MethodName)) ∈ lw_tbl := lw_at lw_m7 118 rfl
theorem q1652 : (Jvm.Cond.instanceMethod ({ cls := "SandKeepsSeaModel", name := "levelOf", desc := "([II)I" } : Jvm.MethodName)) ∈ lw_all := lw_g (lw_at lw_m7 119 rfl) rfl
theorem q1653 : (Jvm.Cond.code ({ cls := "SandKeepsSeaModel", name := "levelOf", desc := "([II)I" } : Jvm.MethodName) prog_13_method_40_code (3 : Nat) (Option.some Jvm.ClassFile.FieldType.int)) ∈ lw_all := lw_g (lw_at lw_m7 120 rfl) rfl
theorem q1654 : (Jvm.Cond.methodLink "SandKeepsSeaModel" (256 : Nat) ({ cls := "SandKeepsSeaModel", name := "ruled", desc := "()I" } : Jvm.MethodName)) ∈ lw_all := lw_g (lw_at lw_m7 121 rfl) rfl
theorem q1655 : (Jvm.Cond.privateMethod ({ cls := "SandKeepsSeaModel", name := "ruled", desc := "()I" } : Jvm.MethodName)) ∈ lw_tbl := lw_at lw_m7 122 rfl
theorem q1656 : (Jvm.Cond.instanceMethod ({ cls := "SandKeepsSeaModel", name := "ruled", desc := "()I" } : Jvm.MethodName)) ∈ lw_all := lw_g (lw_at lw_m7 123 rfl) rfl
theorem q1657 : (Jvm.Cond.code ({ cls := "SandKeepsSeaModel", name := "ruled", desc := "()I" } : Jvm.MethodName) prog_13_method_39_code (4 : Nat) (Option.some Jvm.ClassFile.FieldType.int)) ∈ lw_all := lw_g (lw_at lw_m7 124 rfl) rfl
theorem q1658 : (Jvm.Cond.methodLink "SandKeepsSeaModel" (248 : Nat) ({ cls := "SandKeepsSeaModel", name := "worked", desc := "(III)I" } : Jvm.MethodName)) ∈ lw_all := lw_g (lw_at lw_m7 125 rfl) rfl
theorem q1659 : (Jvm.Cond.static ({ cls := "SandKeepsSeaModel", name := "worked", desc := "(III)I" } : Jvm.MethodName)) ∈ lw_all := lw_g (lw_at lw_m7 126 rfl) rfl
theorem q1660 : (Jvm.Cond.code ({ cls := "SandKeepsSeaModel", name := "worked", desc := "(III)I" } : Jvm.MethodName) prog_13_method_38_code (3 : Nat) (Option.some Jvm.ClassFile.FieldType.int)) ∈ lw_all := lw_g (lw_at lw_m7 127 rfl) rfl
theorem q1661 : (Jvm.Cond.methodLink "SandKeepsSeaModel" (322 : Nat) ({ cls := "SandKeepsSeaModel", name := "lowBy", desc := "([II)I" } : Jvm.MethodName)) ∈ lw_all := lw_g (lw_at lw_m7 128 rfl) rfl
theorem q1662 : (Jvm.Cond.privateMethod ({ cls := "SandKeepsSeaModel", name := "lowBy", desc := "([II)I" } : Jvm.MethodName)) ∈ lw_tbl := lw_at lw_m7 129 rfl
theorem q1663 : (Jvm.Cond.instanceMethod ({ cls := "SandKeepsSeaModel", name := "lowBy", desc := "([II)I" } : Jvm.MethodName)) ∈ lw_all := lw_g (lw_at lw_m7 130 rfl) rfl
theorem q1664 : (Jvm.Cond.code ({ cls := "SandKeepsSeaModel", name := "lowBy", desc := "([II)I" } : Jvm.MethodName) prog_13_method_54_code (5 : Nat) (Option.some Jvm.ClassFile.FieldType.int)) ∈ lw_all := lw_g (lw_at lw_m7 131 rfl) rfl
theorem q1665 : (Jvm.Cond.methodLink "SandKeepsSeaModel" (325 : Nat) ({ cls := "SandKeepsSeaModel", name := "waterGoes", desc := "([I)V" } : Jvm.MethodName)) ∈ lw_all := lw_g (lw_at lw_m7 132 rfl) rfl
theorem q1666 : (Jvm.Cond.privateMethod ({ cls := "SandKeepsSeaModel", name := "waterGoes", desc := "([I)V" } : Jvm.MethodName)) ∈ lw_tbl := lw_at lw_m7 133 rfl
theorem q1667 : (Jvm.Cond.instanceMethod ({ cls := "SandKeepsSeaModel", name := "waterGoes", desc := "([I)V" } : Jvm.MethodName)) ∈ lw_all := lw_g (lw_at lw_m7 134 rfl) rfl
theorem q1668 : (Jvm.Cond.code ({ cls := "SandKeepsSeaModel", name := "waterGoes", desc := "([I)V" } : Jvm.MethodName) prog_13_method_55_code (7 : Nat) (Option.none : Option Jvm.ClassFile.FieldType)) ∈ lw_all := lw_g (lw_at lw_m7 135 rfl) rfl
theorem q1670 : (Jvm.Cond.instanceMethod ({ cls := "SandKeepsSeaModel", name := "pump", desc := "(I)I" } : Jvm.MethodName)) ∈ lw_all := lw_g (lw_at lw_m7 137 rfl) rfl
theorem q1671 : (Jvm.Cond.selects "SandKeepsSeaModel" ({ cls := "SandKeepsSeaModel", name := "pump", desc := "(I)I" } : Jvm.MethodName) ({ cls := "SandKeepsSeaModel", name := "pump", desc := "(I)I" } : Jvm.MethodName)) ∈ lw_all := lw_g (lw_at lw_m7 138 rfl) rfl
theorem q1672 : (Jvm.Cond.code ({ cls := "SandKeepsSeaModel", name := "pump", desc := "(I)I" } : Jvm.MethodName) prog_13_method_69_code (3 : Nat) (Option.some Jvm.ClassFile.FieldType.int)) ∈ lw_all := lw_g (lw_at lw_m7 139 rfl) rfl
theorem q1673 : (Jvm.Cond.constantLong "SandKeepsSeaModel" (369 : Nat) (99 : Int64)) ∈ lw_all := lw_g (lw_at lw_m7 140 rfl) rfl
theorem q1674 : (Jvm.Cond.methodLink "SandKeepsSeaModel" (371 : Nat) ({ cls := "SandKeepsSeaModel", name := "wet", desc := "([I)I" } : Jvm.MethodName)) ∈ lw_all := lw_g (lw_at lw_m7 141 rfl) rfl
theorem q1675 : (Jvm.Cond.privateMethod ({ cls := "SandKeepsSeaModel", name := "wet", desc := "([I)I" } : Jvm.MethodName)) ∈ lw_tbl := lw_at lw_m7 142 rfl
theorem q1676 : (Jvm.Cond.instanceMethod ({ cls := "SandKeepsSeaModel", name := "wet", desc := "([I)I" } : Jvm.MethodName)) ∈ lw_all := lw_g (lw_at lw_m7 143 rfl) rfl
theorem q1677 : (Jvm.Cond.code ({ cls := "SandKeepsSeaModel", name := "wet", desc := "([I)I" } : Jvm.MethodName) prog_13_method_15_code (4 : Nat) (Option.some Jvm.ClassFile.FieldType.int)) ∈ lw_all := lw_g (lw_at lw_m7 144 rfl) rfl
theorem q1679 : (Jvm.Cond.instanceMethod ({ cls := "SandKeepsSeaModel", name := "summer", desc := "()I" } : Jvm.MethodName)) ∈ lw_all := lw_g (lw_at lw_m7 146 rfl) rfl
theorem q1680 : (Jvm.Cond.selects "SandKeepsSeaModel" ({ cls := "SandKeepsSeaModel", name := "summer", desc := "()I" } : Jvm.MethodName) ({ cls := "SandKeepsSeaModel", name := "summer", desc := "()I" } : Jvm.MethodName)) ∈ lw_all := lw_g (lw_at lw_m7 147 rfl) rfl
theorem q1681 : (Jvm.Cond.code ({ cls := "SandKeepsSeaModel", name := "summer", desc := "()I" } : Jvm.MethodName) prog_13_method_72_code (5 : Nat) (Option.some Jvm.ClassFile.FieldType.int)) ∈ lw_all := lw_g (lw_at lw_m7 148 rfl) rfl
theorem q1682 : (Jvm.Cond.methodLink "SandKeepsSeaModel" (383 : Nat) ({ cls := "SandKeepsSeaModel", name := "readsAct", desc := "()Z" } : Jvm.MethodName)) ∈ lw_all := lw_g (lw_at lw_m7 149 rfl) rfl
theorem q1683 : (Jvm.Cond.privateMethod ({ cls := "SandKeepsSeaModel", name := "readsAct", desc := "()Z" } : Jvm.MethodName)) ∈ lw_tbl := lw_at lw_m7 150 rfl
theorem q1684 : (Jvm.Cond.instanceMethod ({ cls := "SandKeepsSeaModel", name := "readsAct", desc := "()Z" } : Jvm.MethodName)) ∈ lw_all := lw_g (lw_at lw_m7 151 rfl) rfl
theorem q1685 : (Jvm.Cond.code ({ cls := "SandKeepsSeaModel", name := "readsAct", desc := "()Z" } : Jvm.MethodName) prog_13_method_70_code (2 : Nat) (Option.some Jvm.ClassFile.FieldType.boolean)) ∈ lw_all := lw_g (lw_at lw_m7 152 rfl) rfl
theorem q1686 : (Jvm.Cond.stringRef "SandKeepsSeaModel" (377 : Nat) "ghstmbw") ∈ lw_tbl := lw_at lw_m7 153 rfl
theorem q1687 : (Jvm.Cond.stringRef "SandKeepsSeaModel" (379 : Nat) "abcdefgh") ∈ lw_tbl := lw_at lw_m7 154 rfl
theorem q1688 : (Jvm.Cond.stringRef "SandKeepsSeaModel" (381 : Nat) "abcdefghijkl") ∈ lw_tbl := lw_at lw_m7 155 rfl
theorem q1689 : (Jvm.Cond.methodLink "SandKeepsSeaModel" (386 : Nat) ({ cls := "SandKeepsSeaModel", name := "does", desc := "(I)Z" } : Jvm.MethodName)) ∈ lw_all := lw_g (lw_at lw_m7 156 rfl) rfl
theorem q1690 : (Jvm.Cond.privateMethod ({ cls := "SandKeepsSeaModel", name := "does", desc := "(I)Z" } : Jvm.MethodName)) ∈ lw_tbl := lw_at lw_m7 157 rfl
theorem q1691 : (Jvm.Cond.instanceMethod ({ cls := "SandKeepsSeaModel", name := "does", desc := "(I)Z" } : Jvm.MethodName)) ∈ lw_all := lw_g (lw_at lw_m7 158 rfl) rfl
theorem q1692 : (Jvm.Cond.code ({ cls := "SandKeepsSeaModel", name := "does", desc := "(I)Z" } : Jvm.MethodName) prog_13_method_71_code (3 : Nat) (Option.some Jvm.ClassFile.FieldType.boolean)) ∈ lw_all := lw_g (lw_at lw_m7 159 rfl) rfl
theorem q1694 : (Jvm.Cond.instanceMethod ({ cls := "SandKeepsSeaModel", name := "level", desc := "(I)I" } : Jvm.MethodName)) ∈ lw_all := lw_g (lw_at lw_m7 161 rfl) rfl
theorem q1695 : (Jvm.Cond.selects "SandKeepsSeaModel" ({ cls := "SandKeepsSeaModel", name := "level", desc := "(I)I" } : Jvm.MethodName) ({ cls := "SandKeepsSeaModel", name := "level", desc := "(I)I" } : Jvm.MethodName)) ∈ lw_all := lw_g (lw_at lw_m7 162 rfl) rfl
theorem q1696 : (Jvm.Cond.code ({ cls := "SandKeepsSeaModel", name := "level", desc := "(I)I" } : Jvm.MethodName) prog_13_method_74_code (3 : Nat) (Option.some Jvm.ClassFile.FieldType.int)) ∈ lw_all := lw_g (lw_at lw_m7 163 rfl) rfl
theorem q1698 : (Jvm.Cond.instanceMethod ({ cls := "SandKeepsSeaModel", name := "holds", desc := "()I" } : Jvm.MethodName)) ∈ lw_all := lw_g (lw_at lw_m7 165 rfl) rfl
theorem q1699 : (Jvm.Cond.selects "SandKeepsSeaModel" ({ cls := "SandKeepsSeaModel", name := "holds", desc := "()I" } : Jvm.MethodName) ({ cls := "SandKeepsSeaModel", name := "holds", desc := "()I" } : Jvm.MethodName)) ∈ lw_all := lw_g (lw_at lw_m7 166 rfl) rfl
theorem q1700 : (Jvm.Cond.code ({ cls := "SandKeepsSeaModel", name := "holds", desc := "()I" } : Jvm.MethodName) prog_13_method_76_code (2 : Nat) (Option.some Jvm.ClassFile.FieldType.int)) ∈ lw_all := lw_g (lw_at lw_m7 167 rfl) rfl
theorem q1701 : (Jvm.Cond.methodLink "SandKeepsSeaModel" (392 : Nat) ({ cls := "SandKeepsSeaModel", name := "puts", desc := "()V" } : Jvm.MethodName)) ∈ lw_all := lw_g (lw_at lw_m7 168 rfl) rfl
theorem q1702 : (Jvm.Cond.privateMethod ({ cls := "SandKeepsSeaModel", name := "puts", desc := "()V" } : Jvm.MethodName)) ∈ lw_tbl := lw_at lw_m7 169 rfl
theorem q1703 : (Jvm.Cond.instanceMethod ({ cls := "SandKeepsSeaModel", name := "puts", desc := "()V" } : Jvm.MethodName)) ∈ lw_all := lw_g (lw_at lw_m7 170 rfl) rfl
theorem q1704 : (Jvm.Cond.code ({ cls := "SandKeepsSeaModel", name := "puts", desc := "()V" } : Jvm.MethodName) prog_13_method_73_code (2 : Nat) (Option.none : Option Jvm.ClassFile.FieldType)) ∈ lw_all := lw_g (lw_at lw_m7 171 rfl) rfl
theorem q1705 : (Jvm.Cond.methodLink "SandKeepsSeaModel" (395 : Nat) ({ cls := "SandKeepsSeaModel", name := "breaksIn", desc := "()I" } : Jvm.MethodName)) ∈ lw_all := lw_g (lw_at lw_m7 172 rfl) rfl
theorem q1706 : (Jvm.Cond.privateMethod ({ cls := "SandKeepsSeaModel", name := "breaksIn", desc := "()I" } : Jvm.MethodName)) ∈ lw_tbl := lw_at lw_m7 173 rfl
theorem q1707 : (Jvm.Cond.instanceMethod ({ cls := "SandKeepsSeaModel", name := "breaksIn", desc := "()I" } : Jvm.MethodName)) ∈ lw_all := lw_g (lw_at lw_m7 174 rfl) rfl
theorem q1708 : (Jvm.Cond.code ({ cls := "SandKeepsSeaModel", name := "breaksIn", desc := "()I" } : Jvm.MethodName) prog_13_method_75_code (2 : Nat) (Option.some Jvm.ClassFile.FieldType.int)) ∈ lw_all := lw_g (lw_at lw_m7 175 rfl) rfl
theorem q1710 : (Jvm.Cond.instanceMethod ({ cls := "SandKeepsSeaModel", name := "tides", desc := "(I)I" } : Jvm.MethodName)) ∈ lw_all := lw_g (lw_at lw_m7 177 rfl) rfl
theorem q1711 : (Jvm.Cond.selects "SandKeepsSeaModel" ({ cls := "SandKeepsSeaModel", name := "tides", desc := "(I)I" } : Jvm.MethodName) ({ cls := "SandKeepsSeaModel", name := "tides", desc := "(I)I" } : Jvm.MethodName)) ∈ lw_all := lw_g (lw_at lw_m7 178 rfl) rfl
theorem q1712 : (Jvm.Cond.code ({ cls := "SandKeepsSeaModel", name := "tides", desc := "(I)I" } : Jvm.MethodName) prog_13_method_78_code (3 : Nat) (Option.some Jvm.ClassFile.FieldType.int)) ∈ lw_all := lw_g (lw_at lw_m7 179 rfl) rfl
theorem q1713 : (Jvm.Cond.constantLong "SandKeepsSeaModel" (398 : Nat) (60 : Int64)) ∈ lw_all := lw_g (lw_at lw_m7 180 rfl) rfl
theorem q1714 : (Jvm.Cond.methodLink "SandKeepsSeaModel" (400 : Nat) ({ cls := "SandKeepsSeaModel", name := "breakMany", desc := "(I)I" } : Jvm.MethodName)) ∈ lw_all := lw_g (lw_at lw_m7 181 rfl) rfl
theorem q1715 : (Jvm.Cond.privateMethod ({ cls := "SandKeepsSeaModel", name := "breakMany", desc := "(I)I" } : Jvm.MethodName)) ∈ lw_tbl := lw_at lw_m7 182 rfl
theorem q1716 : (Jvm.Cond.instanceMethod ({ cls := "SandKeepsSeaModel", name := "breakMany", desc := "(I)I" } : Jvm.MethodName)) ∈ lw_all := lw_g (lw_at lw_m7 183 rfl) rfl
theorem q1717 : (Jvm.Cond.code ({ cls := "SandKeepsSeaModel", name := "breakMany", desc := "(I)I" } : Jvm.MethodName) prog_13_method_77_code (4 : Nat) (Option.some Jvm.ClassFile.FieldType.int)) ∈ lw_all := lw_g (lw_at lw_m7 184 rfl) rfl
theorem q1719 : (Jvm.Cond.instanceMethod ({ cls := "SandKeepsSeaModel", name := "spells", desc := "()I" } : Jvm.MethodName)) ∈ lw_all := lw_g (lw_at lw_m7 186 rfl) rfl
theorem q1720 : (Jvm.Cond.selects "SandKeepsSeaModel" ({ cls := "SandKeepsSeaModel", name := "spells", desc := "()I" } : Jvm.MethodName) ({ cls := "SandKeepsSeaModel", name := "spells", desc := "()I" } : Jvm.MethodName)) ∈ lw_all := lw_g (lw_at lw_m7 187 rfl) rfl
theorem q1721 : (Jvm.Cond.code ({ cls := "SandKeepsSeaModel", name := "spells", desc := "()I" } : Jvm.MethodName) prog_13_method_80_code (2 : Nat) (Option.some Jvm.ClassFile.FieldType.int)) ∈ lw_all := lw_g (lw_at lw_m7 188 rfl) rfl
theorem q1722 : (Jvm.Cond.methodLink "SandKeepsSeaModel" (403 : Nat) ({ cls := "SandKeepsSeaModel", name := "isHigh", desc := "([I)Z" } : Jvm.MethodName)) ∈ lw_all := lw_g (lw_at lw_m7 189 rfl) rfl
theorem q1723 : (Jvm.Cond.privateMethod ({ cls := "SandKeepsSeaModel", name := "isHigh", desc := "([I)Z" } : Jvm.MethodName)) ∈ lw_tbl := lw_at lw_m7 190 rfl
theorem q1724 : (Jvm.Cond.instanceMethod ({ cls := "SandKeepsSeaModel", name := "isHigh", desc := "([I)Z" } : Jvm.MethodName)) ∈ lw_all := lw_g (lw_at lw_m7 191 rfl) rfl
theorem q1725 : (Jvm.Cond.code ({ cls := "SandKeepsSeaModel", name := "isHigh", desc := "([I)Z" } : Jvm.MethodName) prog_13_method_79_code (2 : Nat) (Option.some Jvm.ClassFile.FieldType.boolean)) ∈ lw_all := lw_g (lw_at lw_m7 192 rfl) rfl
theorem q1727 : (Jvm.Cond.instanceMethod ({ cls := "SandKeepsSeaModel", name := "floods", desc := "(II)I" } : Jvm.MethodName)) ∈ lw_all := lw_g (lw_at lw_m7 194 rfl) rfl
theorem q1728 : (Jvm.Cond.selects "SandKeepsSeaModel" ({ cls := "SandKeepsSeaModel", name := "floods", desc := "(II)I" } : Jvm.MethodName) ({ cls := "SandKeepsSeaModel", name := "floods", desc := "(II)I" } : Jvm.MethodName)) ∈ lw_all := lw_g (lw_at lw_m7 195 rfl) rfl
theorem q1729 : (Jvm.Cond.code ({ cls := "SandKeepsSeaModel", name := "floods", desc := "(II)I" } : Jvm.MethodName) prog_13_method_83_code (3 : Nat) (Option.some Jvm.ClassFile.FieldType.int)) ∈ lw_all := lw_g (lw_at lw_m7 196 rfl) rfl
theorem q1730 : (Jvm.Cond.methodLink "SandKeepsSeaModel" (409 : Nat) ({ cls := "SandKeepsSeaModel", name := "canFlood", desc := "(II)Z" } : Jvm.MethodName)) ∈ lw_all := lw_g (lw_at lw_m7 197 rfl) rfl
theorem q1731 : (Jvm.Cond.privateMethod ({ cls := "SandKeepsSeaModel", name := "canFlood", desc := "(II)Z" } : Jvm.MethodName)) ∈ lw_tbl := lw_at lw_m7 198 rfl
theorem q1732 : (Jvm.Cond.instanceMethod ({ cls := "SandKeepsSeaModel", name := "canFlood", desc := "(II)Z" } : Jvm.MethodName)) ∈ lw_all := lw_g (lw_at lw_m7 199 rfl) rfl
theorem q1733 : (Jvm.Cond.code ({ cls := "SandKeepsSeaModel", name := "canFlood", desc := "(II)Z" } : Jvm.MethodName) prog_13_method_82_code (3 : Nat) (Option.some Jvm.ClassFile.FieldType.boolean)) ∈ lw_all := lw_g (lw_at lw_m7 200 rfl) rfl
theorem q1734 : (Jvm.Cond.constantLong "SandKeepsSeaModel" (407 : Nat) (999 : Int64)) ∈ lw_all := lw_g (lw_at lw_m7 201 rfl) rfl
theorem q1735 : (Jvm.Cond.methodLink "SandKeepsSeaModel" (412 : Nat) ({ cls := "SandKeepsSeaModel", name := "floodsFrom", desc := "(II)V" } : Jvm.MethodName)) ∈ lw_all := lw_g (lw_at lw_m7 202 rfl) rfl
theorem q1736 : (Jvm.Cond.privateMethod ({ cls := "SandKeepsSeaModel", name := "floodsFrom", desc := "(II)V" } : Jvm.MethodName)) ∈ lw_tbl := lw_at lw_m7 203 rfl
theorem q1737 : (Jvm.Cond.instanceMethod ({ cls := "SandKeepsSeaModel", name := "floodsFrom", desc := "(II)V" } : Jvm.MethodName)) ∈ lw_all := lw_g (lw_at lw_m7 204 rfl) rfl
theorem q1738 : (Jvm.Cond.code ({ cls := "SandKeepsSeaModel", name := "floodsFrom", desc := "(II)V" } : Jvm.MethodName) prog_13_method_81_code (4 : Nat) (Option.none : Option Jvm.ClassFile.FieldType)) ∈ lw_all := lw_g (lw_at lw_m7 205 rfl) rfl
theorem q1740 : (Jvm.Cond.instanceMethod ({ cls := "SandKeepsSeaModel", name := "raise", desc := "(II)I" } : Jvm.MethodName)) ∈ lw_all := lw_g (lw_at lw_m7 207 rfl) rfl
theorem q1741 : (Jvm.Cond.selects "SandKeepsSeaModel" ({ cls := "SandKeepsSeaModel", name := "raise", desc := "(II)I" } : Jvm.MethodName) ({ cls := "SandKeepsSeaModel", name := "raise", desc := "(II)I" } : Jvm.MethodName)) ∈ lw_all := lw_g (lw_at lw_m7 208 rfl) rfl
theorem q1742 : (Jvm.Cond.code ({ cls := "SandKeepsSeaModel", name := "raise", desc := "(II)I" } : Jvm.MethodName) prog_13_method_84_code (6 : Nat) (Option.some Jvm.ClassFile.FieldType.int)) ∈ lw_all := lw_g (lw_at lw_m7 209 rfl) rfl
theorem q1744 : (Jvm.Cond.instanceMethod ({ cls := "SandKeepsSeaModel", name := "crew", desc := "(II)I" } : Jvm.MethodName)) ∈ lw_all := lw_g (lw_at lw_m7 211 rfl) rfl
theorem q1745 : (Jvm.Cond.selects "SandKeepsSeaModel" ({ cls := "SandKeepsSeaModel", name := "crew", desc := "(II)I" } : Jvm.MethodName) ({ cls := "SandKeepsSeaModel", name := "crew", desc := "(II)I" } : Jvm.MethodName)) ∈ lw_all := lw_g (lw_at lw_m7 212 rfl) rfl
theorem q1746 : (Jvm.Cond.code ({ cls := "SandKeepsSeaModel", name := "crew", desc := "(II)I" } : Jvm.MethodName) prog_13_method_87_code (4 : Nat) (Option.some Jvm.ClassFile.FieldType.int)) ∈ lw_all := lw_g (lw_at lw_m7 213 rfl) rfl
theorem q1747 : (Jvm.Cond.constant "SandKeepsSeaModel" (426 : Nat) (1000000 : Int32)) ∈ lw_all := lw_g (lw_at lw_m7 214 rfl) rfl
theorem q1748 : (Jvm.Cond.methodLink "SandKeepsSeaModel" (422 : Nat) ({ cls := "SandKeepsSeaModel", name := "crewsFrom", desc := "(IIII)V" } : Jvm.MethodName)) ∈ lw_all := lw_g (lw_at lw_m7 215 rfl) rfl
theorem q1749 : (Jvm.Cond.privateMethod ({ cls := "SandKeepsSeaModel", name := "crewsFrom", desc := "(IIII)V" } : Jvm.MethodName)) ∈ lw_tbl := lw_at lw_m7 216 rfl
theorem q1750 : (Jvm.Cond.instanceMethod ({ cls := "SandKeepsSeaModel", name := "crewsFrom", desc := "(IIII)V" } : Jvm.MethodName)) ∈ lw_all := lw_g (lw_at lw_m7 217 rfl) rfl
theorem q1751 : (Jvm.Cond.code ({ cls := "SandKeepsSeaModel", name := "crewsFrom", desc := "(IIII)V" } : Jvm.MethodName) prog_13_method_86_code (6 : Nat) (Option.none : Option Jvm.ClassFile.FieldType)) ∈ lw_all := lw_g (lw_at lw_m7 218 rfl) rfl
theorem q1752 : (Jvm.Cond.methodLink "SandKeepsSeaModel" (419 : Nat) ({ cls := "SandKeepsSeaModel", name := "crewHolds", desc := "(I)Z" } : Jvm.MethodName)) ∈ lw_all := lw_g (lw_at lw_m7 219 rfl) rfl
theorem q1753 : (Jvm.Cond.privateMethod ({ cls := "SandKeepsSeaModel", name := "crewHolds", desc := "(I)Z" } : Jvm.MethodName)) ∈ lw_tbl := lw_at lw_m7 220 rfl
theorem q1754 : (Jvm.Cond.instanceMethod ({ cls := "SandKeepsSeaModel", name := "crewHolds", desc := "(I)Z" } : Jvm.MethodName)) ∈ lw_all := lw_g (lw_at lw_m7 221 rfl) rfl
theorem q1755 : (Jvm.Cond.code ({ cls := "SandKeepsSeaModel", name := "crewHolds", desc := "(I)Z" } : Jvm.MethodName) prog_13_method_85_code (3 : Nat) (Option.some Jvm.ClassFile.FieldType.boolean)) ∈ lw_all := lw_g (lw_at lw_m7 222 rfl) rfl
theorem q1757 : (Jvm.Cond.instanceMethod ({ cls := "SandKeepsSeaModel", name := "post", desc := "(II)I" } : Jvm.MethodName)) ∈ lw_all := lw_g (lw_at lw_m7 224 rfl) rfl
theorem q1758 : (Jvm.Cond.selects "SandKeepsSeaModel" ({ cls := "SandKeepsSeaModel", name := "post", desc := "(II)I" } : Jvm.MethodName) ({ cls := "SandKeepsSeaModel", name := "post", desc := "(II)I" } : Jvm.MethodName)) ∈ lw_all := lw_g (lw_at lw_m7 225 rfl) rfl
theorem q1759 : (Jvm.Cond.code ({ cls := "SandKeepsSeaModel", name := "post", desc := "(II)I" } : Jvm.MethodName) prog_13_method_88_code (9 : Nat) (Option.some Jvm.ClassFile.FieldType.int)) ∈ lw_all := lw_g (lw_at lw_m7 226 rfl) rfl
theorem q1760 : (Jvm.Cond.constant "SandKeepsSeaModel" (427 : Nat) (-1000000 : Int32)) ∈ lw_all := lw_g (lw_at lw_m7 227 rfl) rfl
theorem q1762 : (Jvm.Cond.instanceMethod ({ cls := "SandKeepsSeaModel", name := "moats", desc := "(I)I" } : Jvm.MethodName)) ∈ lw_all := lw_g (lw_at lw_m7 229 rfl) rfl
theorem q1763 : (Jvm.Cond.selects "SandKeepsSeaModel" ({ cls := "SandKeepsSeaModel", name := "moats", desc := "(I)I" } : Jvm.MethodName) ({ cls := "SandKeepsSeaModel", name := "moats", desc := "(I)I" } : Jvm.MethodName)) ∈ lw_all := lw_g (lw_at lw_m7 230 rfl) rfl
theorem q1764 : (Jvm.Cond.code ({ cls := "SandKeepsSeaModel", name := "moats", desc := "(I)I" } : Jvm.MethodName) prog_13_method_89_code (6 : Nat) (Option.some Jvm.ClassFile.FieldType.int)) ∈ lw_all := lw_g (lw_at lw_m7 231 rfl) rfl
theorem q1765 : (Jvm.Cond.constantLong "SandKeepsSeaModel" (428 : Nat) (4 : Int64)) ∈ lw_all := lw_g (lw_at lw_m7 232 rfl) rfl
theorem q1767 : (Jvm.Cond.instanceMethod ({ cls := "SandKeepsSeaModel", name := "spades", desc := "()I" } : Jvm.MethodName)) ∈ lw_all := lw_g (lw_at lw_m7 234 rfl) rfl
theorem q1768 : (Jvm.Cond.selects "SandKeepsSeaModel" ({ cls := "SandKeepsSeaModel", name := "spades", desc := "()I" } : Jvm.MethodName) ({ cls := "SandKeepsSeaModel", name := "spades", desc := "()I" } : Jvm.MethodName)) ∈ lw_all := lw_g (lw_at lw_m7 235 rfl) rfl
theorem q1769 : (Jvm.Cond.code ({ cls := "SandKeepsSeaModel", name := "spades", desc := "()I" } : Jvm.MethodName) prog_13_method_91_code (6 : Nat) (Option.some Jvm.ClassFile.FieldType.int)) ∈ lw_all := lw_g (lw_at lw_m7 236 rfl) rfl
theorem q1770 : (Jvm.Cond.methodLink "SandKeepsSeaModel" (430 : Nat) ({ cls := "SandKeepsSeaModel", name := "bucketsAll", desc := "([I)I" } : Jvm.MethodName)) ∈ lw_all := lw_g (lw_at lw_m7 237 rfl) rfl
theorem q1771 : (Jvm.Cond.privateMethod ({ cls := "SandKeepsSeaModel", name := "bucketsAll", desc := "([I)I" } : Jvm.MethodName)) ∈ lw_tbl := lw_at lw_m7 238 rfl
theorem q1772 : (Jvm.Cond.instanceMethod ({ cls := "SandKeepsSeaModel", name := "bucketsAll", desc := "([I)I" } : Jvm.MethodName)) ∈ lw_all := lw_g (lw_at lw_m7 239 rfl) rfl
theorem q1773 : (Jvm.Cond.code ({ cls := "SandKeepsSeaModel", name := "bucketsAll", desc := "([I)I" } : Jvm.MethodName) prog_13_method_90_code (4 : Nat) (Option.some Jvm.ClassFile.FieldType.int)) ∈ lw_all := lw_g (lw_at lw_m8 0 rfl) rfl
theorem q1775 : (Jvm.Cond.instanceMethod ({ cls := "SandKeepsSeaModel", name := "treats", desc := "(I)I" } : Jvm.MethodName)) ∈ lw_all := lw_g (lw_at lw_m8 2 rfl) rfl
theorem q1776 : (Jvm.Cond.selects "SandKeepsSeaModel" ({ cls := "SandKeepsSeaModel", name := "treats", desc := "(I)I" } : Jvm.MethodName) ({ cls := "SandKeepsSeaModel", name := "treats", desc := "(I)I" } : Jvm.MethodName)) ∈ lw_all := lw_g (lw_at lw_m8 3 rfl) rfl
theorem q1777 : (Jvm.Cond.code ({ cls := "SandKeepsSeaModel", name := "treats", desc := "(I)I" } : Jvm.MethodName) prog_13_method_92_code (5 : Nat) (Option.some Jvm.ClassFile.FieldType.int)) ∈ lw_all := lw_g (lw_at lw_m8 4 rfl) rfl
theorem q1779 : (Jvm.Cond.instanceMethod ({ cls := "SandKeepsSeaModel", name := "work", desc := "(I)I" } : Jvm.MethodName)) ∈ lw_all := lw_g (lw_at lw_m8 6 rfl) rfl
theorem q1780 : (Jvm.Cond.selects "SandKeepsSeaModel" ({ cls := "SandKeepsSeaModel", name := "work", desc := "(I)I" } : Jvm.MethodName) ({ cls := "SandKeepsSeaModel", name := "work", desc := "(I)I" } : Jvm.MethodName)) ∈ lw_all := lw_g (lw_at lw_m8 7 rfl) rfl
theorem q1781 : (Jvm.Cond.code ({ cls := "SandKeepsSeaModel", name := "work", desc := "(I)I" } : Jvm.MethodName) prog_13_method_93_code (3 : Nat) (Option.some Jvm.ClassFile.FieldType.int)) ∈ lw_all := lw_g (lw_at lw_m8 8 rfl) rfl
theorem q1783 : (Jvm.Cond.instanceMethod ({ cls := "SandKeepsSeaModel", name := "law", desc := "()I" } : Jvm.MethodName)) ∈ lw_all := lw_g (lw_at lw_m8 10 rfl) rfl
theorem q1784 : (Jvm.Cond.selects "SandKeepsSeaModel" ({ cls := "SandKeepsSeaModel", name := "law", desc := "()I" } : Jvm.MethodName) ({ cls := "SandKeepsSeaModel", name := "law", desc := "()I" } : Jvm.MethodName)) ∈ lw_all := lw_g (lw_at lw_m8 11 rfl) rfl
theorem q1785 : (Jvm.Cond.code ({ cls := "SandKeepsSeaModel", name := "law", desc := "()I" } : Jvm.MethodName) prog_13_method_94_code (5 : Nat) (Option.some Jvm.ClassFile.FieldType.int)) ∈ lw_all := lw_g (lw_at lw_m8 12 rfl) rfl
theorem q1787 : (Jvm.Cond.instanceMethod ({ cls := "SandKeepsSeaModel", name := "seen", desc := "(II)I" } : Jvm.MethodName)) ∈ lw_all := lw_g (lw_at lw_m8 14 rfl) rfl
theorem q1788 : (Jvm.Cond.selects "SandKeepsSeaModel" ({ cls := "SandKeepsSeaModel", name := "seen", desc := "(II)I" } : Jvm.MethodName) ({ cls := "SandKeepsSeaModel", name := "seen", desc := "(II)I" } : Jvm.MethodName)) ∈ lw_all := lw_g (lw_at lw_m8 15 rfl) rfl
theorem q1789 : (Jvm.Cond.code ({ cls := "SandKeepsSeaModel", name := "seen", desc := "(II)I" } : Jvm.MethodName) prog_13_method_95_code (3 : Nat) (Option.some Jvm.ClassFile.FieldType.int)) ∈ lw_all := lw_g (lw_at lw_m8 16 rfl) rfl
theorem q1791 : (Jvm.Cond.instanceMethod ({ cls := "SandKeepsSeaModel", name := "forget", desc := "()I" } : Jvm.MethodName)) ∈ lw_all := lw_g (lw_at lw_m8 18 rfl) rfl
theorem q1792 : (Jvm.Cond.selects "SandKeepsSeaModel" ({ cls := "SandKeepsSeaModel", name := "forget", desc := "()I" } : Jvm.MethodName) ({ cls := "SandKeepsSeaModel", name := "forget", desc := "()I" } : Jvm.MethodName)) ∈ lw_all := lw_g (lw_at lw_m8 19 rfl) rfl
theorem q1793 : (Jvm.Cond.code ({ cls := "SandKeepsSeaModel", name := "forget", desc := "()I" } : Jvm.MethodName) prog_13_method_96_code (2 : Nat) (Option.some Jvm.ClassFile.FieldType.int)) ∈ lw_all := lw_g (lw_at lw_m8 20 rfl) rfl
theorem q1795 : (Jvm.Cond.instanceMethod ({ cls := "SandKeepsSeaModel", name := "ways", desc := "()I" } : Jvm.MethodName)) ∈ lw_all := lw_g (lw_at lw_m8 22 rfl) rfl
theorem q1796 : (Jvm.Cond.selects "SandKeepsSeaModel" ({ cls := "SandKeepsSeaModel", name := "ways", desc := "()I" } : Jvm.MethodName) ({ cls := "SandKeepsSeaModel", name := "ways", desc := "()I" } : Jvm.MethodName)) ∈ lw_all := lw_g (lw_at lw_m8 23 rfl) rfl
theorem q1797 : (Jvm.Cond.code ({ cls := "SandKeepsSeaModel", name := "ways", desc := "()I" } : Jvm.MethodName) prog_13_method_100_code (2 : Nat) (Option.some Jvm.ClassFile.FieldType.int)) ∈ lw_all := lw_g (lw_at lw_m8 24 rfl) rfl
theorem q1798 : (Jvm.Cond.methodLink "SandKeepsSeaModel" (442 : Nat) ({ cls := "SandKeepsSeaModel", name := "laysPlaces", desc := "()V" } : Jvm.MethodName)) ∈ lw_all := lw_g (lw_at lw_m8 25 rfl) rfl
theorem q1799 : (Jvm.Cond.privateMethod ({ cls := "SandKeepsSeaModel", name := "laysPlaces", desc := "()V" } : Jvm.MethodName)) ∈ lw_tbl := lw_at lw_m8 26 rfl
theorem q1800 : (Jvm.Cond.instanceMethod ({ cls := "SandKeepsSeaModel", name := "laysPlaces", desc := "()V" } : Jvm.MethodName)) ∈ lw_all := lw_g (lw_at lw_m8 27 rfl) rfl
theorem q1801 : (Jvm.Cond.code ({ cls := "SandKeepsSeaModel", name := "laysPlaces", desc := "()V" } : Jvm.MethodName) prog_13_method_99_code (2 : Nat) (Option.none : Option Jvm.ClassFile.FieldType)) ∈ lw_all := lw_g (lw_at lw_m8 28 rfl) rfl
theorem q1802 : (Jvm.Cond.methodLink "SandKeepsSeaModel" (439 : Nat) ({ cls := "SandKeepsSeaModel", name := "placesFrom", desc := "(I)V" } : Jvm.MethodName)) ∈ lw_all := lw_g (lw_at lw_m8 29 rfl) rfl
theorem q1803 : (Jvm.Cond.privateMethod ({ cls := "SandKeepsSeaModel", name := "placesFrom", desc := "(I)V" } : Jvm.MethodName)) ∈ lw_tbl := lw_at lw_m8 30 rfl
theorem q1804 : (Jvm.Cond.instanceMethod ({ cls := "SandKeepsSeaModel", name := "placesFrom", desc := "(I)V" } : Jvm.MethodName)) ∈ lw_all := lw_g (lw_at lw_m8 31 rfl) rfl
theorem q1805 : (Jvm.Cond.code ({ cls := "SandKeepsSeaModel", name := "placesFrom", desc := "(I)V" } : Jvm.MethodName) prog_13_method_98_code (3 : Nat) (Option.none : Option Jvm.ClassFile.FieldType)) ∈ lw_all := lw_g (lw_at lw_m8 32 rfl) rfl
theorem q1806 : (Jvm.Cond.methodLink "SandKeepsSeaModel" (433 : Nat) ({ cls := "SandKeepsSeaModel", name := "isAsSeen", desc := "()Z" } : Jvm.MethodName)) ∈ lw_all := lw_g (lw_at lw_m8 33 rfl) rfl
theorem q1807 : (Jvm.Cond.privateMethod ({ cls := "SandKeepsSeaModel", name := "isAsSeen", desc := "()Z" } : Jvm.MethodName)) ∈ lw_tbl := lw_at lw_m8 34 rfl
theorem q1808 : (Jvm.Cond.instanceMethod ({ cls := "SandKeepsSeaModel", name := "isAsSeen", desc := "()Z" } : Jvm.MethodName)) ∈ lw_all := lw_g (lw_at lw_m8 35 rfl) rfl
theorem q1809 : (Jvm.Cond.code ({ cls := "SandKeepsSeaModel", name := "isAsSeen", desc := "()Z" } : Jvm.MethodName) prog_13_method_97_code (3 : Nat) (Option.some Jvm.ClassFile.FieldType.boolean)) ∈ lw_all := lw_g (lw_at lw_m8 36 rfl) rfl
theorem q1811 : (Jvm.Cond.instanceMethod ({ cls := "SandKeepsSeaModel", name := "was", desc := "(I)I" } : Jvm.MethodName)) ∈ lw_all := lw_g (lw_at lw_m8 38 rfl) rfl
theorem q1812 : (Jvm.Cond.selects "SandKeepsSeaModel" ({ cls := "SandKeepsSeaModel", name := "was", desc := "(I)I" } : Jvm.MethodName) ({ cls := "SandKeepsSeaModel", name := "was", desc := "(I)I" } : Jvm.MethodName)) ∈ lw_all := lw_g (lw_at lw_m8 39 rfl) rfl
theorem q1813 : (Jvm.Cond.code ({ cls := "SandKeepsSeaModel", name := "was", desc := "(I)I" } : Jvm.MethodName) prog_13_method_101_code (2 : Nat) (Option.some Jvm.ClassFile.FieldType.int)) ∈ lw_all := lw_g (lw_at lw_m8 40 rfl) rfl
theorem q1815 : (Jvm.Cond.instanceMethod ({ cls := "SandKeepsSeaModel", name := "rain", desc := "(III)I" } : Jvm.MethodName)) ∈ lw_all := lw_g (lw_at lw_m8 42 rfl) rfl
theorem q1816 : (Jvm.Cond.selects "SandKeepsSeaModel" ({ cls := "SandKeepsSeaModel", name := "rain", desc := "(III)I" } : Jvm.MethodName) ({ cls := "SandKeepsSeaModel", name := "rain", desc := "(III)I" } : Jvm.MethodName)) ∈ lw_all := lw_g (lw_at lw_m8 43 rfl) rfl
theorem q1817 : (Jvm.Cond.code ({ cls := "SandKeepsSeaModel", name := "rain", desc := "(III)I" } : Jvm.MethodName) prog_13_method_103_code (12 : Nat) (Option.some Jvm.ClassFile.FieldType.int)) ∈ lw_all := lw_g (lw_at lw_m8 44 rfl) rfl
theorem q1818 : (Jvm.Cond.constantLong "SandKeepsSeaModel" (445 : Nat) (12 : Int64)) ∈ lw_all := lw_g (lw_at lw_m8 45 rfl) rfl
theorem q1819 : (Jvm.Cond.constantLong "SandKeepsSeaModel" (447 : Nat) (10 : Int64)) ∈ lw_all := lw_g (lw_at lw_m8 46 rfl) rfl
theorem q1820 : (Jvm.Cond.methodLink "SandKeepsSeaModel" (449 : Nat) ({ cls := "SandKeepsSeaModel", name := "hasRun", desc := "(III)Z" } : Jvm.MethodName)) ∈ lw_all := lw_g (lw_at lw_m8 47 rfl) rfl
theorem q1821 : (Jvm.Cond.static ({ cls := "SandKeepsSeaModel", name := "hasRun", desc := "(III)Z" } : Jvm.MethodName)) ∈ lw_all := lw_g (lw_at lw_m8 48 rfl) rfl
theorem q1822 : (Jvm.Cond.code ({ cls := "SandKeepsSeaModel", name := "hasRun", desc := "(III)Z" } : Jvm.MethodName) prog_13_method_102_code (6 : Nat) (Option.some Jvm.ClassFile.FieldType.boolean)) ∈ lw_all := lw_g (lw_at lw_m8 49 rfl) rfl
theorem q1823 : (Jvm.Cond.methodLink "SandKeepsSeaModel" (115 : Nat) ({ cls := "SandKeepsSeaModel", name := "common", desc := "(JJ)J" } : Jvm.MethodName)) ∈ lw_all := lw_g (lw_at lw_m8 50 rfl) rfl
theorem q1824 : (Jvm.Cond.static ({ cls := "SandKeepsSeaModel", name := "common", desc := "(JJ)J" } : Jvm.MethodName)) ∈ lw_all := lw_g (lw_at lw_m8 51 rfl) rfl
theorem q1825 : (Jvm.Cond.code ({ cls := "SandKeepsSeaModel", name := "common", desc := "(JJ)J" } : Jvm.MethodName) prog_13_method_7_code (4 : Nat) (Option.some Jvm.ClassFile.FieldType.long)) ∈ lw_all := lw_g (lw_at lw_m8 52 rfl) rfl
theorem q1827 : (Jvm.Cond.instanceMethod ({ cls := "SandKeepsSeaModel", name := "rests", desc := "(II)I" } : Jvm.MethodName)) ∈ lw_all := lw_g (lw_at lw_m8 54 rfl) rfl
theorem q1828 : (Jvm.Cond.selects "SandKeepsSeaModel" ({ cls := "SandKeepsSeaModel", name := "rests", desc := "(II)I" } : Jvm.MethodName) ({ cls := "SandKeepsSeaModel", name := "rests", desc := "(II)I" } : Jvm.MethodName)) ∈ lw_all := lw_g (lw_at lw_m8 55 rfl) rfl
theorem q1829 : (Jvm.Cond.code ({ cls := "SandKeepsSeaModel", name := "rests", desc := "(II)I" } : Jvm.MethodName) prog_13_method_106_code (6 : Nat) (Option.some Jvm.ClassFile.FieldType.int)) ∈ lw_all := lw_g (lw_at lw_m8 56 rfl) rfl
theorem q1830 : (Jvm.Cond.methodLink "SandKeepsSeaModel" (457 : Nat) ({ cls := "SandKeepsSeaModel", name := "isRest", desc := "(IIII)Z" } : Jvm.MethodName)) ∈ lw_all := lw_g (lw_at lw_m8 57 rfl) rfl
theorem q1831 : (Jvm.Cond.static ({ cls := "SandKeepsSeaModel", name := "isRest", desc := "(IIII)Z" } : Jvm.MethodName)) ∈ lw_all := lw_g (lw_at lw_m8 58 rfl) rfl
theorem q1832 : (Jvm.Cond.code ({ cls := "SandKeepsSeaModel", name := "isRest", desc := "(IIII)Z" } : Jvm.MethodName) prog_13_method_105_code (6 : Nat) (Option.some Jvm.ClassFile.FieldType.boolean)) ∈ lw_all := lw_g (lw_at lw_m8 59 rfl) rfl
theorem q1833 : (Jvm.Cond.methodLink "SandKeepsSeaModel" (453 : Nat) ({ cls := "SandKeepsSeaModel", name := "earns", desc := "(IIII)I" } : Jvm.MethodName)) ∈ lw_all := lw_g (lw_at lw_m8 60 rfl) rfl
theorem q1834 : (Jvm.Cond.static ({ cls := "SandKeepsSeaModel", name := "earns", desc := "(IIII)I" } : Jvm.MethodName)) ∈ lw_all := lw_g (lw_at lw_m8 61 rfl) rfl
theorem q1835 : (Jvm.Cond.code ({ cls := "SandKeepsSeaModel", name := "earns", desc := "(IIII)I" } : Jvm.MethodName) prog_13_method_104_code (4 : Nat) (Option.some Jvm.ClassFile.FieldType.int)) ∈ lw_all := lw_g (lw_at lw_m8 62 rfl) rfl
theorem q1837 : (Jvm.Cond.instanceMethod ({ cls := "SandKeepsSeaModel", name := "summers", desc := "(II)I" } : Jvm.MethodName)) ∈ lw_all := lw_g (lw_at lw_m8 64 rfl) rfl
theorem q1838 : (Jvm.Cond.selects "SandKeepsSeaModel" ({ cls := "SandKeepsSeaModel", name := "summers", desc := "(II)I" } : Jvm.MethodName) ({ cls := "SandKeepsSeaModel", name := "summers", desc := "(II)I" } : Jvm.MethodName)) ∈ lw_all := lw_g (lw_at lw_m8 65 rfl) rfl
theorem q1839 : (Jvm.Cond.code ({ cls := "SandKeepsSeaModel", name := "summers", desc := "(II)I" } : Jvm.MethodName) prog_13_method_108_code (7 : Nat) (Option.some Jvm.ClassFile.FieldType.int)) ∈ lw_all := lw_g (lw_at lw_m8 66 rfl) rfl
theorem q1840 : (Jvm.Cond.methodLink "SandKeepsSeaModel" (465 : Nat) ({ cls := "SandKeepsSeaModel", name := "draws", desc := "(I)I" } : Jvm.MethodName)) ∈ lw_all := lw_g (lw_at lw_m8 67 rfl) rfl
theorem q1841 : (Jvm.Cond.privateMethod ({ cls := "SandKeepsSeaModel", name := "draws", desc := "(I)I" } : Jvm.MethodName)) ∈ lw_tbl := lw_at lw_m8 68 rfl
theorem q1842 : (Jvm.Cond.instanceMethod ({ cls := "SandKeepsSeaModel", name := "draws", desc := "(I)I" } : Jvm.MethodName)) ∈ lw_all := lw_g (lw_at lw_m8 69 rfl) rfl
theorem q1843 : (Jvm.Cond.code ({ cls := "SandKeepsSeaModel", name := "draws", desc := "(I)I" } : Jvm.MethodName) prog_13_method_107_code (2 : Nat) (Option.some Jvm.ClassFile.FieldType.int)) ∈ lw_all := lw_g (lw_at lw_m8 70 rfl) rfl
theorem q1844 : (Jvm.Cond.constant "SandKeepsSeaModel" (464 : Nat) (1103515245 : Int32)) ∈ lw_all := lw_g (lw_at lw_m8 71 rfl) rfl
theorem q1846 : (Jvm.Cond.instanceMethod ({ cls := "SandKeepsSeaModel", name := "keep", desc := "(I)Z" } : Jvm.MethodName)) ∈ lw_all := lw_g (lw_at lw_m8 73 rfl) rfl
theorem q1847 : (Jvm.Cond.selects "SandKeepsSeaModel" ({ cls := "SandKeepsSeaModel", name := "keep", desc := "(I)Z" } : Jvm.MethodName) ({ cls := "SandKeepsSeaModel", name := "keep", desc := "(I)Z" } : Jvm.MethodName)) ∈ lw_all := lw_g (lw_at lw_m8 74 rfl) rfl
theorem q1848 : (Jvm.Cond.code ({ cls := "SandKeepsSeaModel", name := "keep", desc := "(I)Z" } : Jvm.MethodName) prog_13_method_109_code (3 : Nat) (Option.some Jvm.ClassFile.FieldType.boolean)) ∈ lw_all := lw_g (lw_at lw_m8 75 rfl) rfl
theorem q1849 : (Jvm.Cond.constantLong "SandKeepsSeaModel" (468 : Nat) (2 : Int64)) ∈ lw_all := lw_g (lw_at lw_m8 76 rfl) rfl
theorem q1851 : (Jvm.Cond.instanceMethod ({ cls := "SandKeepsSeaModel", name := "again", desc := "(I)Z" } : Jvm.MethodName)) ∈ lw_all := lw_g (lw_at lw_m8 78 rfl) rfl
theorem q1852 : (Jvm.Cond.selects "SandKeepsSeaModel" ({ cls := "SandKeepsSeaModel", name := "again", desc := "(I)Z" } : Jvm.MethodName) ({ cls := "SandKeepsSeaModel", name := "again", desc := "(I)Z" } : Jvm.MethodName)) ∈ lw_all := lw_g (lw_at lw_m8 79 rfl) rfl
theorem q1853 : (Jvm.Cond.code ({ cls := "SandKeepsSeaModel", name := "again", desc := "(I)Z" } : Jvm.MethodName) prog_13_method_110_code (3 : Nat) (Option.some Jvm.ClassFile.FieldType.boolean)) ∈ lw_all := lw_g (lw_at lw_m8 80 rfl) rfl
theorem q1855 : (Jvm.Cond.instanceMethod ({ cls := "SandKeepsSeaModel", name := "count", desc := "(I)I" } : Jvm.MethodName)) ∈ lw_all := lw_g (lw_at lw_m8 82 rfl) rfl
theorem q1856 : (Jvm.Cond.selects "SandKeepsSeaModel" ({ cls := "SandKeepsSeaModel", name := "count", desc := "(I)I" } : Jvm.MethodName) ({ cls := "SandKeepsSeaModel", name := "count", desc := "(I)I" } : Jvm.MethodName)) ∈ lw_all := lw_g (lw_at lw_m8 83 rfl) rfl
theorem q1857 : (Jvm.Cond.code ({ cls := "SandKeepsSeaModel", name := "count", desc := "(I)I" } : Jvm.MethodName) prog_13_method_111_code (2 : Nat) (Option.some Jvm.ClassFile.FieldType.int)) ∈ lw_all := lw_g (lw_at lw_m8 84 rfl) rfl
theorem q1859 : (Jvm.Cond.instanceMethod ({ cls := "SandKeepsSeaModel", name := "row", desc := "(I)J" } : Jvm.MethodName)) ∈ lw_all := lw_g (lw_at lw_m8 86 rfl) rfl
theorem q1860 : (Jvm.Cond.selects "SandKeepsSeaModel" ({ cls := "SandKeepsSeaModel", name := "row", desc := "(I)J" } : Jvm.MethodName) ({ cls := "SandKeepsSeaModel", name := "row", desc := "(I)J" } : Jvm.MethodName)) ∈ lw_all := lw_g (lw_at lw_m8 87 rfl) rfl
theorem q1861 : (Jvm.Cond.code ({ cls := "SandKeepsSeaModel", name := "row", desc := "(I)J" } : Jvm.MethodName) prog_13_method_112_code (2 : Nat) (Option.some Jvm.ClassFile.FieldType.long)) ∈ lw_all := lw_g (lw_at lw_m8 88 rfl) rfl
theorem q1867 : (Jvm.Cond.castable "SandKeepsSeaModel" "java/lang/Object") ∈ lw_tbl := lw_at lw_m8 94 rfl
theorem in_X3 : ∀ w ∈ wsX30, w ∈ lw_all := lw_in wsX30 [1271, 1273, 1275, 1277, 1279, 1281, 1283, 1285, 1287, 1289, 1291, 1293, 1295, 1297, 1299, 1301, 1303, 1305, 1307, 1309, 1311, 1313, 1315, 1317, 1319, 1321, 1323, 1325, 1327, 1329, 1331, 1333, 1335, 1337, 1339, 1341, 1343, 1345, 1347, 1349, 1351, 1353, 1355, 1357, 1359, 1361, 1363, 1365, 1367, 1369, 1371, 1373, 1375] (by decide +kernel) (by decide +kernel)
