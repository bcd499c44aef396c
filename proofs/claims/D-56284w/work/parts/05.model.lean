/-! ScheduleAnalyzerModel -/
set_option maxRecDepth 100000
def RX4 : String := "ScheduleAnalyzerModel"
def TX4 : u_T := fun k => match k with
  | 0 => ("ScheduleAnalyzerModel", "now", "[I", true)
  | 1 => ("ScheduleAnalyzerModel", "before", "[I", true)
  | 2 => ("ScheduleAnalyzerModel", "saved", "[I", true)
  | 3 => ("ScheduleAnalyzerModel", "history", "[I", true)
  | 4 => ("ScheduleAnalyzerModel", "thrown", "I", false)
  | 5 => ("ScheduleAnalyzerModel", "depth", "I", false)
  | 6 => ("ScheduleAnalyzerModel", "wrongAt", "I", false)
  | 7 => ("ScheduleAnalyzerModel", "isSaved", "Z", false)
  | 8 => ("ScheduleAnalyzerModel", "input", "[I", true)
  | 9 => ("ScheduleAnalyzerModel", "length", "I", false)
  | 10 => ("ScheduleAnalyzerModel", "at", "I", false)
  | 11 => ("ScheduleAnalyzerModel", "read", "[I", true)
  | 12 => ("ScheduleAnalyzerModel", "readCount", "I", false)
  | 13 => ("ScheduleAnalyzerModel", "kinds", "[I", true)
  | 14 => ("ScheduleAnalyzerModel", "who", "[I", true)
  | 15 => ("ScheduleAnalyzerModel", "what", "[I", true)
  | 16 => ("ScheduleAnalyzerModel", "ahead", "[I", true)
  | 17 => ("ScheduleAnalyzerModel", "order", "[I", true)
  | 18 => ("ScheduleAnalyzerModel", "ways", "[I", true)
  | 19 => ("ScheduleAnalyzerModel", "many", "I", false)
  | 20 => ("ScheduleAnalyzerModel", "present", "I", false)
  | 21 => ("ScheduleAnalyzerModel", "status", "[I", true)
  | 22 => ("ScheduleAnalyzerModel", "readers", "[I", true)
  | 23 => ("ScheduleAnalyzerModel", "writers", "[I", true)
  | 24 => ("ScheduleAnalyzerModel", "out", "[I", true)
  | 25 => ("ScheduleAnalyzerModel", "waitsFor", "[I", true)
  | 26 => ("ScheduleAnalyzerModel", "outCount", "I", false)
  | 27 => ("ScheduleAnalyzerModel", "victims", "I", false)
  | 28 => ("ScheduleAnalyzerModel", "waited", "I", false)
  | 29 => ("ScheduleAnalyzerModel", "sequence", "[I", true)
  | 30 => ("ScheduleAnalyzerModel", "place", "[I", true)
  | 31 => ("ScheduleAnalyzerModel", "perm", "[I", true)
  | 32 => ("ScheduleAnalyzerModel", "cells", "[I", true)
  | 33 => ("ScheduleAnalyzerModel", "registers", "[I", true)
  | 34 => ("ScheduleAnalyzerModel", "replaced", "[I", true)
  | 35 => ("ScheduleAnalyzerModel", "line", "[I", true)
  | _ => ("ScheduleAnalyzerModel", "lineLength", "I", false)
def tyX4 : Nat → FieldType := fun k => match k with
  | 0 => .array .int
  | 1 => .array .int
  | 2 => .array .int
  | 3 => .array .int
  | 4 => .int
  | 5 => .int
  | 6 => .int
  | 7 => .boolean
  | 8 => .array .int
  | 9 => .int
  | 10 => .int
  | 11 => .array .int
  | 12 => .int
  | 13 => .array .int
  | 14 => .array .int
  | 15 => .array .int
  | 16 => .array .int
  | 17 => .array .int
  | 18 => .array .int
  | 19 => .int
  | 20 => .int
  | 21 => .array .int
  | 22 => .array .int
  | 23 => .array .int
  | 24 => .array .int
  | 25 => .array .int
  | 26 => .int
  | 27 => .int
  | 28 => .int
  | 29 => .array .int
  | 30 => .array .int
  | 31 => .array .int
  | 32 => .array .int
  | 33 => .array .int
  | 34 => .array .int
  | 35 => .array .int
  | _ => .int
abbrev wsX40 : List Cond := u_ws RX4 TX4 37
set_option maxRecDepth 100000 in
theorem nmX4 : ∀ a, a < 37 → ∀ b, b < 37 → a ≠ b → (TX4 a).2.1 ≠ (TX4 b).2.1 := by decide +kernel
set_option maxRecDepth 100000 in
theorem tyX4_ok : ∀ k, k < 37 → parseFieldDescriptor (TX4 k).2.2.1 = some (tyX4 k) := by decide +kernel
abbrev cX4_init : ByteArray := prog_12_method_1_code
def yX4_init : MethodName := ⟨RX4, "<init>", "()V"⟩
def dkwX4_init_11 : List UInt8 := [177]
abbrev dktX4_init_11 : List UInt8 := dkwX4_init_11 ++ []
def dkwX4_init_10 : List UInt8 := [181, 0, 111, 42, 16, 20, 188, 10, 181, 0, 114, 42, 16, 80, 188, 10, 181, 0, 117, 42, 3, 181, 0, 120]
abbrev dktX4_init_10 : List UInt8 := dkwX4_init_10 ++ dktX4_init_11
def dkwX4_init_9 : List UInt8 := [181, 0, 102, 42, 8, 188, 10, 181, 0, 105, 42, 7, 188, 10, 181, 0, 108, 42, 16, 6, 188, 10]
abbrev dktX4_init_9 : List UInt8 := dkwX4_init_9 ++ dktX4_init_10
def dkwX4_init_8 : List UInt8 := [42, 3, 181, 0, 93, 42, 3, 181, 0, 96, 42, 16, 20, 188, 10, 181, 0, 99, 42, 16, 20, 188, 10]
abbrev dktX4_init_8 : List UInt8 := dkwX4_init_8 ++ dktX4_init_9
def dkwX4_init_7 : List UInt8 := [181, 0, 81, 42, 16, 32, 188, 10, 181, 0, 84, 42, 16, 6, 188, 10, 181, 0, 87, 42, 3, 181, 0, 90]
abbrev dktX4_init_7 : List UInt8 := dkwX4_init_7 ++ dktX4_init_8
def dkwX4_init_6 : List UInt8 := [3, 181, 0, 72, 42, 16, 20, 188, 10, 181, 0, 75, 42, 7, 188, 10, 181, 0, 78, 42, 7, 188, 10]
abbrev dktX4_init_6 : List UInt8 := dkwX4_init_6 ++ dktX4_init_7
def dkwX4_init_5 : List UInt8 := [181, 0, 60, 42, 8, 188, 10, 181, 0, 63, 42, 16, 64, 188, 10, 181, 0, 66, 42, 3, 181, 0, 69, 42]
abbrev dktX4_init_5 : List UInt8 := dkwX4_init_5 ++ dktX4_init_6
def dkwX4_init_4 : List UInt8 := [181, 0, 51, 42, 16, 20, 188, 10, 181, 0, 54, 42, 16, 20, 188, 10, 181, 0, 57, 42, 16, 6, 188, 10]
abbrev dktX4_init_4 : List UInt8 := dkwX4_init_4 ++ dktX4_init_5
def dkwX4_init_3 : List UInt8 := [3, 181, 0, 42, 42, 16, 32, 188, 10, 181, 0, 45, 42, 3, 181, 0, 48, 42, 16, 20, 188, 10]
abbrev dktX4_init_3 : List UInt8 := dkwX4_init_3 ++ dktX4_init_4
def dkwX4_init_2 : List UInt8 := [42, 2, 181, 0, 29, 42, 3, 181, 0, 32, 42, 16, 60, 188, 10, 181, 0, 36, 42, 3, 181, 0, 39, 42]
abbrev dktX4_init_2 : List UInt8 := dkwX4_init_2 ++ dktX4_init_3
def dkwX4_init_1 : List UInt8 := [188, 10, 181, 0, 16, 42, 17, 2, 192, 188, 10, 181, 0, 19, 42, 3, 181, 0, 22, 42, 3, 181, 0, 26]
abbrev dktX4_init_1 : List UInt8 := dkwX4_init_1 ++ dktX4_init_2
def dkwX4_init_0 : List UInt8 := [42, 183, 0, 1, 42, 16, 88, 188, 10, 181, 0, 7, 42, 16, 88, 188, 10, 181, 0, 13, 42, 16, 88]
abbrev dktX4_init_0 : List UInt8 := dkwX4_init_0 ++ dktX4_init_1
theorem dksX4_init_0 : cX4_init.data.toList.drop 0 = dktX4_init_0 := by decide +kernel
theorem dksX4_init_1 : cX4_init.data.toList.drop 23 = dktX4_init_1 := dk_seg dksX4_init_0 23 rfl rfl
theorem dksX4_init_2 : cX4_init.data.toList.drop 47 = dktX4_init_2 := dk_seg dksX4_init_1 24 rfl rfl
theorem dksX4_init_3 : cX4_init.data.toList.drop 71 = dktX4_init_3 := dk_seg dksX4_init_2 24 rfl rfl
theorem dksX4_init_4 : cX4_init.data.toList.drop 93 = dktX4_init_4 := dk_seg dksX4_init_3 22 rfl rfl
theorem dksX4_init_5 : cX4_init.data.toList.drop 117 = dktX4_init_5 := dk_seg dksX4_init_4 24 rfl rfl
theorem dksX4_init_6 : cX4_init.data.toList.drop 141 = dktX4_init_6 := dk_seg dksX4_init_5 24 rfl rfl
theorem dksX4_init_7 : cX4_init.data.toList.drop 164 = dktX4_init_7 := dk_seg dksX4_init_6 23 rfl rfl
theorem dksX4_init_8 : cX4_init.data.toList.drop 188 = dktX4_init_8 := dk_seg dksX4_init_7 24 rfl rfl
theorem dksX4_init_9 : cX4_init.data.toList.drop 211 = dktX4_init_9 := dk_seg dksX4_init_8 23 rfl rfl
theorem dksX4_init_10 : cX4_init.data.toList.drop 233 = dktX4_init_10 := dk_seg dksX4_init_9 22 rfl rfl
theorem dksX4_init_11 : cX4_init.data.toList.drop 257 = dktX4_init_11 := dk_seg dksX4_init_10 24 rfl rfl
theorem dX4_init_0 : decode cX4_init 0 = .ok (.aload_n 0, 1) := dk_42 (dk_at dksX4_init_0 0 rfl rfl)
theorem dX4_init_1 : decode cX4_init 1 = .ok (.invokespecial 1, 3) := dk_183 0 1 (dk_at dksX4_init_0 1 rfl rfl)
theorem dX4_init_4 : decode cX4_init 4 = .ok (.aload_n 0, 1) := dk_42 (dk_at dksX4_init_0 4 rfl rfl)
theorem dX4_init_5 : decode cX4_init 5 = .ok (.bipush 88, 2) := dk_16 88 (dk_at dksX4_init_0 5 rfl rfl)
theorem dX4_init_7 : decode cX4_init 7 = .ok (.newarray .int, 2) := dk_188_10 (dk_at dksX4_init_0 7 rfl rfl)
theorem dX4_init_9 : decode cX4_init 9 = .ok (.putfield 7, 3) := dk_181 0 7 (dk_at dksX4_init_0 9 rfl rfl)
theorem dX4_init_12 : decode cX4_init 12 = .ok (.aload_n 0, 1) := dk_42 (dk_at dksX4_init_0 12 rfl rfl)
theorem dX4_init_13 : decode cX4_init 13 = .ok (.bipush 88, 2) := dk_16 88 (dk_at dksX4_init_0 13 rfl rfl)
theorem dX4_init_15 : decode cX4_init 15 = .ok (.newarray .int, 2) := dk_188_10 (dk_at dksX4_init_0 15 rfl rfl)
theorem dX4_init_17 : decode cX4_init 17 = .ok (.putfield 13, 3) := dk_181 0 13 (dk_at dksX4_init_0 17 rfl rfl)
theorem dX4_init_20 : decode cX4_init 20 = .ok (.aload_n 0, 1) := dk_42 (dk_at dksX4_init_0 20 rfl rfl)
theorem dX4_init_21 : decode cX4_init 21 = .ok (.bipush 88, 2) := dk_16 88 (dk_at dksX4_init_0 21 rfl rfl)
theorem dX4_init_23 : decode cX4_init 23 = .ok (.newarray .int, 2) := dk_188_10 (dk_at dksX4_init_1 0 rfl rfl)
theorem dX4_init_25 : decode cX4_init 25 = .ok (.putfield 16, 3) := dk_181 0 16 (dk_at dksX4_init_1 2 rfl rfl)
theorem dX4_init_28 : decode cX4_init 28 = .ok (.aload_n 0, 1) := dk_42 (dk_at dksX4_init_1 5 rfl rfl)
theorem dX4_init_29 : decode cX4_init 29 = .ok (.sipush 704, 3) := dk_17 2 192 (dk_at dksX4_init_1 6 rfl rfl)
theorem dX4_init_32 : decode cX4_init 32 = .ok (.newarray .int, 2) := dk_188_10 (dk_at dksX4_init_1 9 rfl rfl)
theorem dX4_init_34 : decode cX4_init 34 = .ok (.putfield 19, 3) := dk_181 0 19 (dk_at dksX4_init_1 11 rfl rfl)
theorem dX4_init_37 : decode cX4_init 37 = .ok (.aload_n 0, 1) := dk_42 (dk_at dksX4_init_1 14 rfl rfl)
theorem dX4_init_38 : decode cX4_init 38 = .ok (.iconst 0, 1) := dk_3 (dk_at dksX4_init_1 15 rfl rfl)
theorem dX4_init_39 : decode cX4_init 39 = .ok (.putfield 22, 3) := dk_181 0 22 (dk_at dksX4_init_1 16 rfl rfl)
theorem dX4_init_42 : decode cX4_init 42 = .ok (.aload_n 0, 1) := dk_42 (dk_at dksX4_init_1 19 rfl rfl)
theorem dX4_init_43 : decode cX4_init 43 = .ok (.iconst 0, 1) := dk_3 (dk_at dksX4_init_1 20 rfl rfl)
theorem dX4_init_44 : decode cX4_init 44 = .ok (.putfield 26, 3) := dk_181 0 26 (dk_at dksX4_init_1 21 rfl rfl)
theorem dX4_init_47 : decode cX4_init 47 = .ok (.aload_n 0, 1) := dk_42 (dk_at dksX4_init_2 0 rfl rfl)
theorem dX4_init_48 : decode cX4_init 48 = .ok (.iconst (-1), 1) := dk_2 (dk_at dksX4_init_2 1 rfl rfl)
theorem dX4_init_49 : decode cX4_init 49 = .ok (.putfield 29, 3) := dk_181 0 29 (dk_at dksX4_init_2 2 rfl rfl)
theorem dX4_init_52 : decode cX4_init 52 = .ok (.aload_n 0, 1) := dk_42 (dk_at dksX4_init_2 5 rfl rfl)
theorem dX4_init_53 : decode cX4_init 53 = .ok (.iconst 0, 1) := dk_3 (dk_at dksX4_init_2 6 rfl rfl)
theorem dX4_init_54 : decode cX4_init 54 = .ok (.putfield 32, 3) := dk_181 0 32 (dk_at dksX4_init_2 7 rfl rfl)
theorem dX4_init_57 : decode cX4_init 57 = .ok (.aload_n 0, 1) := dk_42 (dk_at dksX4_init_2 10 rfl rfl)
theorem dX4_init_58 : decode cX4_init 58 = .ok (.bipush 60, 2) := dk_16 60 (dk_at dksX4_init_2 11 rfl rfl)
theorem dX4_init_60 : decode cX4_init 60 = .ok (.newarray .int, 2) := dk_188_10 (dk_at dksX4_init_2 13 rfl rfl)
theorem dX4_init_62 : decode cX4_init 62 = .ok (.putfield 36, 3) := dk_181 0 36 (dk_at dksX4_init_2 15 rfl rfl)
theorem dX4_init_65 : decode cX4_init 65 = .ok (.aload_n 0, 1) := dk_42 (dk_at dksX4_init_2 18 rfl rfl)
theorem dX4_init_66 : decode cX4_init 66 = .ok (.iconst 0, 1) := dk_3 (dk_at dksX4_init_2 19 rfl rfl)
theorem dX4_init_67 : decode cX4_init 67 = .ok (.putfield 39, 3) := dk_181 0 39 (dk_at dksX4_init_2 20 rfl rfl)
theorem dX4_init_70 : decode cX4_init 70 = .ok (.aload_n 0, 1) := dk_42 (dk_at dksX4_init_2 23 rfl rfl)
theorem dX4_init_71 : decode cX4_init 71 = .ok (.iconst 0, 1) := dk_3 (dk_at dksX4_init_3 0 rfl rfl)
theorem dX4_init_72 : decode cX4_init 72 = .ok (.putfield 42, 3) := dk_181 0 42 (dk_at dksX4_init_3 1 rfl rfl)
theorem dX4_init_75 : decode cX4_init 75 = .ok (.aload_n 0, 1) := dk_42 (dk_at dksX4_init_3 4 rfl rfl)
theorem dX4_init_76 : decode cX4_init 76 = .ok (.bipush 32, 2) := dk_16 32 (dk_at dksX4_init_3 5 rfl rfl)
theorem dX4_init_78 : decode cX4_init 78 = .ok (.newarray .int, 2) := dk_188_10 (dk_at dksX4_init_3 7 rfl rfl)
theorem dX4_init_80 : decode cX4_init 80 = .ok (.putfield 45, 3) := dk_181 0 45 (dk_at dksX4_init_3 9 rfl rfl)
theorem dX4_init_83 : decode cX4_init 83 = .ok (.aload_n 0, 1) := dk_42 (dk_at dksX4_init_3 12 rfl rfl)
theorem dX4_init_84 : decode cX4_init 84 = .ok (.iconst 0, 1) := dk_3 (dk_at dksX4_init_3 13 rfl rfl)
theorem dX4_init_85 : decode cX4_init 85 = .ok (.putfield 48, 3) := dk_181 0 48 (dk_at dksX4_init_3 14 rfl rfl)
theorem dX4_init_88 : decode cX4_init 88 = .ok (.aload_n 0, 1) := dk_42 (dk_at dksX4_init_3 17 rfl rfl)
theorem dX4_init_89 : decode cX4_init 89 = .ok (.bipush 20, 2) := dk_16 20 (dk_at dksX4_init_3 18 rfl rfl)
theorem dX4_init_91 : decode cX4_init 91 = .ok (.newarray .int, 2) := dk_188_10 (dk_at dksX4_init_3 20 rfl rfl)
theorem dX4_init_93 : decode cX4_init 93 = .ok (.putfield 51, 3) := dk_181 0 51 (dk_at dksX4_init_4 0 rfl rfl)
theorem dX4_init_96 : decode cX4_init 96 = .ok (.aload_n 0, 1) := dk_42 (dk_at dksX4_init_4 3 rfl rfl)
theorem dX4_init_97 : decode cX4_init 97 = .ok (.bipush 20, 2) := dk_16 20 (dk_at dksX4_init_4 4 rfl rfl)
theorem dX4_init_99 : decode cX4_init 99 = .ok (.newarray .int, 2) := dk_188_10 (dk_at dksX4_init_4 6 rfl rfl)
theorem dX4_init_101 : decode cX4_init 101 = .ok (.putfield 54, 3) := dk_181 0 54 (dk_at dksX4_init_4 8 rfl rfl)
theorem dX4_init_104 : decode cX4_init 104 = .ok (.aload_n 0, 1) := dk_42 (dk_at dksX4_init_4 11 rfl rfl)
theorem dX4_init_105 : decode cX4_init 105 = .ok (.bipush 20, 2) := dk_16 20 (dk_at dksX4_init_4 12 rfl rfl)
theorem dX4_init_107 : decode cX4_init 107 = .ok (.newarray .int, 2) := dk_188_10 (dk_at dksX4_init_4 14 rfl rfl)
theorem dX4_init_109 : decode cX4_init 109 = .ok (.putfield 57, 3) := dk_181 0 57 (dk_at dksX4_init_4 16 rfl rfl)
theorem dX4_init_112 : decode cX4_init 112 = .ok (.aload_n 0, 1) := dk_42 (dk_at dksX4_init_4 19 rfl rfl)
theorem dX4_init_113 : decode cX4_init 113 = .ok (.bipush 6, 2) := dk_16 6 (dk_at dksX4_init_4 20 rfl rfl)
theorem dX4_init_115 : decode cX4_init 115 = .ok (.newarray .int, 2) := dk_188_10 (dk_at dksX4_init_4 22 rfl rfl)
theorem dX4_init_117 : decode cX4_init 117 = .ok (.putfield 60, 3) := dk_181 0 60 (dk_at dksX4_init_5 0 rfl rfl)
theorem dX4_init_120 : decode cX4_init 120 = .ok (.aload_n 0, 1) := dk_42 (dk_at dksX4_init_5 3 rfl rfl)
theorem dX4_init_121 : decode cX4_init 121 = .ok (.iconst 5, 1) := dk_8 (dk_at dksX4_init_5 4 rfl rfl)
theorem dX4_init_122 : decode cX4_init 122 = .ok (.newarray .int, 2) := dk_188_10 (dk_at dksX4_init_5 5 rfl rfl)
theorem dX4_init_124 : decode cX4_init 124 = .ok (.putfield 63, 3) := dk_181 0 63 (dk_at dksX4_init_5 7 rfl rfl)
theorem dX4_init_127 : decode cX4_init 127 = .ok (.aload_n 0, 1) := dk_42 (dk_at dksX4_init_5 10 rfl rfl)
theorem dX4_init_128 : decode cX4_init 128 = .ok (.bipush 64, 2) := dk_16 64 (dk_at dksX4_init_5 11 rfl rfl)
theorem dX4_init_130 : decode cX4_init 130 = .ok (.newarray .int, 2) := dk_188_10 (dk_at dksX4_init_5 13 rfl rfl)
theorem dX4_init_132 : decode cX4_init 132 = .ok (.putfield 66, 3) := dk_181 0 66 (dk_at dksX4_init_5 15 rfl rfl)
theorem dX4_init_135 : decode cX4_init 135 = .ok (.aload_n 0, 1) := dk_42 (dk_at dksX4_init_5 18 rfl rfl)
theorem dX4_init_136 : decode cX4_init 136 = .ok (.iconst 0, 1) := dk_3 (dk_at dksX4_init_5 19 rfl rfl)
theorem dX4_init_137 : decode cX4_init 137 = .ok (.putfield 69, 3) := dk_181 0 69 (dk_at dksX4_init_5 20 rfl rfl)
theorem dX4_init_140 : decode cX4_init 140 = .ok (.aload_n 0, 1) := dk_42 (dk_at dksX4_init_5 23 rfl rfl)
theorem dX4_init_141 : decode cX4_init 141 = .ok (.iconst 0, 1) := dk_3 (dk_at dksX4_init_6 0 rfl rfl)
theorem dX4_init_142 : decode cX4_init 142 = .ok (.putfield 72, 3) := dk_181 0 72 (dk_at dksX4_init_6 1 rfl rfl)
theorem dX4_init_145 : decode cX4_init 145 = .ok (.aload_n 0, 1) := dk_42 (dk_at dksX4_init_6 4 rfl rfl)
theorem dX4_init_146 : decode cX4_init 146 = .ok (.bipush 20, 2) := dk_16 20 (dk_at dksX4_init_6 5 rfl rfl)
theorem dX4_init_148 : decode cX4_init 148 = .ok (.newarray .int, 2) := dk_188_10 (dk_at dksX4_init_6 7 rfl rfl)
theorem dX4_init_150 : decode cX4_init 150 = .ok (.putfield 75, 3) := dk_181 0 75 (dk_at dksX4_init_6 9 rfl rfl)
theorem dX4_init_153 : decode cX4_init 153 = .ok (.aload_n 0, 1) := dk_42 (dk_at dksX4_init_6 12 rfl rfl)
theorem dX4_init_154 : decode cX4_init 154 = .ok (.iconst 4, 1) := dk_7 (dk_at dksX4_init_6 13 rfl rfl)
theorem dX4_init_155 : decode cX4_init 155 = .ok (.newarray .int, 2) := dk_188_10 (dk_at dksX4_init_6 14 rfl rfl)
theorem dX4_init_157 : decode cX4_init 157 = .ok (.putfield 78, 3) := dk_181 0 78 (dk_at dksX4_init_6 16 rfl rfl)
theorem dX4_init_160 : decode cX4_init 160 = .ok (.aload_n 0, 1) := dk_42 (dk_at dksX4_init_6 19 rfl rfl)
theorem dX4_init_161 : decode cX4_init 161 = .ok (.iconst 4, 1) := dk_7 (dk_at dksX4_init_6 20 rfl rfl)
theorem dX4_init_162 : decode cX4_init 162 = .ok (.newarray .int, 2) := dk_188_10 (dk_at dksX4_init_6 21 rfl rfl)
theorem dX4_init_164 : decode cX4_init 164 = .ok (.putfield 81, 3) := dk_181 0 81 (dk_at dksX4_init_7 0 rfl rfl)
theorem dX4_init_167 : decode cX4_init 167 = .ok (.aload_n 0, 1) := dk_42 (dk_at dksX4_init_7 3 rfl rfl)
theorem dX4_init_168 : decode cX4_init 168 = .ok (.bipush 32, 2) := dk_16 32 (dk_at dksX4_init_7 4 rfl rfl)
theorem dX4_init_170 : decode cX4_init 170 = .ok (.newarray .int, 2) := dk_188_10 (dk_at dksX4_init_7 6 rfl rfl)
theorem dX4_init_172 : decode cX4_init 172 = .ok (.putfield 84, 3) := dk_181 0 84 (dk_at dksX4_init_7 8 rfl rfl)
theorem dX4_init_175 : decode cX4_init 175 = .ok (.aload_n 0, 1) := dk_42 (dk_at dksX4_init_7 11 rfl rfl)
theorem dX4_init_176 : decode cX4_init 176 = .ok (.bipush 6, 2) := dk_16 6 (dk_at dksX4_init_7 12 rfl rfl)
theorem dX4_init_178 : decode cX4_init 178 = .ok (.newarray .int, 2) := dk_188_10 (dk_at dksX4_init_7 14 rfl rfl)
theorem dX4_init_180 : decode cX4_init 180 = .ok (.putfield 87, 3) := dk_181 0 87 (dk_at dksX4_init_7 16 rfl rfl)
theorem dX4_init_183 : decode cX4_init 183 = .ok (.aload_n 0, 1) := dk_42 (dk_at dksX4_init_7 19 rfl rfl)
theorem dX4_init_184 : decode cX4_init 184 = .ok (.iconst 0, 1) := dk_3 (dk_at dksX4_init_7 20 rfl rfl)
theorem dX4_init_185 : decode cX4_init 185 = .ok (.putfield 90, 3) := dk_181 0 90 (dk_at dksX4_init_7 21 rfl rfl)
theorem dX4_init_188 : decode cX4_init 188 = .ok (.aload_n 0, 1) := dk_42 (dk_at dksX4_init_8 0 rfl rfl)
theorem dX4_init_189 : decode cX4_init 189 = .ok (.iconst 0, 1) := dk_3 (dk_at dksX4_init_8 1 rfl rfl)
theorem dX4_init_190 : decode cX4_init 190 = .ok (.putfield 93, 3) := dk_181 0 93 (dk_at dksX4_init_8 2 rfl rfl)
theorem dX4_init_193 : decode cX4_init 193 = .ok (.aload_n 0, 1) := dk_42 (dk_at dksX4_init_8 5 rfl rfl)
theorem dX4_init_194 : decode cX4_init 194 = .ok (.iconst 0, 1) := dk_3 (dk_at dksX4_init_8 6 rfl rfl)
theorem dX4_init_195 : decode cX4_init 195 = .ok (.putfield 96, 3) := dk_181 0 96 (dk_at dksX4_init_8 7 rfl rfl)
theorem dX4_init_198 : decode cX4_init 198 = .ok (.aload_n 0, 1) := dk_42 (dk_at dksX4_init_8 10 rfl rfl)
theorem dX4_init_199 : decode cX4_init 199 = .ok (.bipush 20, 2) := dk_16 20 (dk_at dksX4_init_8 11 rfl rfl)
theorem dX4_init_201 : decode cX4_init 201 = .ok (.newarray .int, 2) := dk_188_10 (dk_at dksX4_init_8 13 rfl rfl)
theorem dX4_init_203 : decode cX4_init 203 = .ok (.putfield 99, 3) := dk_181 0 99 (dk_at dksX4_init_8 15 rfl rfl)
theorem dX4_init_206 : decode cX4_init 206 = .ok (.aload_n 0, 1) := dk_42 (dk_at dksX4_init_8 18 rfl rfl)
theorem dX4_init_207 : decode cX4_init 207 = .ok (.bipush 20, 2) := dk_16 20 (dk_at dksX4_init_8 19 rfl rfl)
theorem dX4_init_209 : decode cX4_init 209 = .ok (.newarray .int, 2) := dk_188_10 (dk_at dksX4_init_8 21 rfl rfl)
theorem dX4_init_211 : decode cX4_init 211 = .ok (.putfield 102, 3) := dk_181 0 102 (dk_at dksX4_init_9 0 rfl rfl)
theorem dX4_init_214 : decode cX4_init 214 = .ok (.aload_n 0, 1) := dk_42 (dk_at dksX4_init_9 3 rfl rfl)
theorem dX4_init_215 : decode cX4_init 215 = .ok (.iconst 5, 1) := dk_8 (dk_at dksX4_init_9 4 rfl rfl)
theorem dX4_init_216 : decode cX4_init 216 = .ok (.newarray .int, 2) := dk_188_10 (dk_at dksX4_init_9 5 rfl rfl)
theorem dX4_init_218 : decode cX4_init 218 = .ok (.putfield 105, 3) := dk_181 0 105 (dk_at dksX4_init_9 7 rfl rfl)
theorem dX4_init_221 : decode cX4_init 221 = .ok (.aload_n 0, 1) := dk_42 (dk_at dksX4_init_9 10 rfl rfl)
theorem dX4_init_222 : decode cX4_init 222 = .ok (.iconst 4, 1) := dk_7 (dk_at dksX4_init_9 11 rfl rfl)
theorem dX4_init_223 : decode cX4_init 223 = .ok (.newarray .int, 2) := dk_188_10 (dk_at dksX4_init_9 12 rfl rfl)
theorem dX4_init_225 : decode cX4_init 225 = .ok (.putfield 108, 3) := dk_181 0 108 (dk_at dksX4_init_9 14 rfl rfl)
theorem dX4_init_228 : decode cX4_init 228 = .ok (.aload_n 0, 1) := dk_42 (dk_at dksX4_init_9 17 rfl rfl)
theorem dX4_init_229 : decode cX4_init 229 = .ok (.bipush 6, 2) := dk_16 6 (dk_at dksX4_init_9 18 rfl rfl)
theorem dX4_init_231 : decode cX4_init 231 = .ok (.newarray .int, 2) := dk_188_10 (dk_at dksX4_init_9 20 rfl rfl)
theorem dX4_init_233 : decode cX4_init 233 = .ok (.putfield 111, 3) := dk_181 0 111 (dk_at dksX4_init_10 0 rfl rfl)
theorem dX4_init_236 : decode cX4_init 236 = .ok (.aload_n 0, 1) := dk_42 (dk_at dksX4_init_10 3 rfl rfl)
theorem dX4_init_237 : decode cX4_init 237 = .ok (.bipush 20, 2) := dk_16 20 (dk_at dksX4_init_10 4 rfl rfl)
theorem dX4_init_239 : decode cX4_init 239 = .ok (.newarray .int, 2) := dk_188_10 (dk_at dksX4_init_10 6 rfl rfl)
theorem dX4_init_241 : decode cX4_init 241 = .ok (.putfield 114, 3) := dk_181 0 114 (dk_at dksX4_init_10 8 rfl rfl)
theorem dX4_init_244 : decode cX4_init 244 = .ok (.aload_n 0, 1) := dk_42 (dk_at dksX4_init_10 11 rfl rfl)
theorem dX4_init_245 : decode cX4_init 245 = .ok (.bipush 80, 2) := dk_16 80 (dk_at dksX4_init_10 12 rfl rfl)
theorem dX4_init_247 : decode cX4_init 247 = .ok (.newarray .int, 2) := dk_188_10 (dk_at dksX4_init_10 14 rfl rfl)
theorem dX4_init_249 : decode cX4_init 249 = .ok (.putfield 117, 3) := dk_181 0 117 (dk_at dksX4_init_10 16 rfl rfl)
theorem dX4_init_252 : decode cX4_init 252 = .ok (.aload_n 0, 1) := dk_42 (dk_at dksX4_init_10 19 rfl rfl)
theorem dX4_init_253 : decode cX4_init 253 = .ok (.iconst 0, 1) := dk_3 (dk_at dksX4_init_10 20 rfl rfl)
theorem dX4_init_254 : decode cX4_init 254 = .ok (.putfield 120, 3) := dk_181 0 120 (dk_at dksX4_init_10 21 rfl rfl)
theorem dX4_init_257 : decode cX4_init 257 = .ok (.return_, 1) := dk_177 (dk_at dksX4_init_11 0 rfl rfl)
abbrev cX4_thrown : ByteArray := prog_12_method_2_code
def yX4_thrown : MethodName := ⟨RX4, "thrown", "()I"⟩
theorem dX4_thrown_0 : decode cX4_thrown 0 = .ok (.aload_n 0, 1) := by decide +kernel
theorem dX4_thrown_1 : decode cX4_thrown 1 = .ok (.getfield 22, 3) := by decide +kernel
theorem dX4_thrown_4 : decode cX4_thrown 4 = .ok (.ireturn, 1) := by decide +kernel
abbrev cX4_append : ByteArray := prog_12_method_24_code
def yX4_append : MethodName := ⟨RX4, "append", "(C)I"⟩
def dkwX4_append_2 : List UInt8 := [42, 180, 0, 39, 27, 79, 42, 89, 180, 0, 39, 4, 96, 181, 0, 39, 42, 180, 0, 39, 172]
abbrev dktX4_append_2 : List UInt8 := dkwX4_append_2 ++ []
def dkwX4_append_1 : List UInt8 := [160, 0, 7, 5, 167, 0, 4, 3, 181, 0, 22, 42, 180, 0, 22, 158, 0, 5, 3, 172, 42, 180, 0, 36]
abbrev dktX4_append_1 : List UInt8 := dkwX4_append_1 ++ dktX4_append_2
def dkwX4_append_0 : List UInt8 := [42, 27, 16, 32, 16, 126, 184, 0, 127, 154, 0, 7, 4, 167, 0, 17, 42, 180, 0, 39, 16, 60]
abbrev dktX4_append_0 : List UInt8 := dkwX4_append_0 ++ dktX4_append_1
theorem dksX4_append_0 : cX4_append.data.toList.drop 0 = dktX4_append_0 := by decide +kernel
theorem dksX4_append_1 : cX4_append.data.toList.drop 22 = dktX4_append_1 := dk_seg dksX4_append_0 22 rfl rfl
theorem dksX4_append_2 : cX4_append.data.toList.drop 46 = dktX4_append_2 := dk_seg dksX4_append_1 24 rfl rfl
theorem dX4_append_0 : decode cX4_append 0 = .ok (.aload_n 0, 1) := dk_42 (dk_at dksX4_append_0 0 rfl rfl)
theorem dX4_append_1 : decode cX4_append 1 = .ok (.iload_n 1, 1) := dk_27 (dk_at dksX4_append_0 1 rfl rfl)
theorem dX4_append_2 : decode cX4_append 2 = .ok (.bipush 32, 2) := dk_16 32 (dk_at dksX4_append_0 2 rfl rfl)
theorem dX4_append_4 : decode cX4_append 4 = .ok (.bipush 126, 2) := dk_16 126 (dk_at dksX4_append_0 4 rfl rfl)
theorem dX4_append_6 : decode cX4_append 6 = .ok (.invokestatic 127, 3) := dk_184 0 127 (dk_at dksX4_append_0 6 rfl rfl)
theorem dX4_append_9 : decode cX4_append 9 = .ok (.ifCond .ne 7, 3) := dk_154 0 7 (dk_at dksX4_append_0 9 rfl rfl)
theorem dX4_append_12 : decode cX4_append 12 = .ok (.iconst 1, 1) := dk_4 (dk_at dksX4_append_0 12 rfl rfl)
theorem dX4_append_13 : decode cX4_append 13 = .ok (.goto 17, 3) := dk_167 0 17 (dk_at dksX4_append_0 13 rfl rfl)
theorem dX4_append_16 : decode cX4_append 16 = .ok (.aload_n 0, 1) := dk_42 (dk_at dksX4_append_0 16 rfl rfl)
theorem dX4_append_17 : decode cX4_append 17 = .ok (.getfield 39, 3) := dk_180 0 39 (dk_at dksX4_append_0 17 rfl rfl)
theorem dX4_append_20 : decode cX4_append 20 = .ok (.bipush 60, 2) := dk_16 60 (dk_at dksX4_append_0 20 rfl rfl)
theorem dX4_append_22 : decode cX4_append 22 = .ok (.if_icmp .ne 7, 3) := dk_160 0 7 (dk_at dksX4_append_1 0 rfl rfl)
theorem dX4_append_25 : decode cX4_append 25 = .ok (.iconst 2, 1) := dk_5 (dk_at dksX4_append_1 3 rfl rfl)
theorem dX4_append_26 : decode cX4_append 26 = .ok (.goto 4, 3) := dk_167 0 4 (dk_at dksX4_append_1 4 rfl rfl)
theorem dX4_append_29 : decode cX4_append 29 = .ok (.iconst 0, 1) := dk_3 (dk_at dksX4_append_1 7 rfl rfl)
theorem dX4_append_30 : decode cX4_append 30 = .ok (.putfield 22, 3) := dk_181 0 22 (dk_at dksX4_append_1 8 rfl rfl)
theorem dX4_append_33 : decode cX4_append 33 = .ok (.aload_n 0, 1) := dk_42 (dk_at dksX4_append_1 11 rfl rfl)
theorem dX4_append_34 : decode cX4_append 34 = .ok (.getfield 22, 3) := dk_180 0 22 (dk_at dksX4_append_1 12 rfl rfl)
theorem dX4_append_37 : decode cX4_append 37 = .ok (.ifCond .le 5, 3) := dk_158 0 5 (dk_at dksX4_append_1 15 rfl rfl)
theorem dX4_append_40 : decode cX4_append 40 = .ok (.iconst 0, 1) := dk_3 (dk_at dksX4_append_1 18 rfl rfl)
theorem dX4_append_41 : decode cX4_append 41 = .ok (.ireturn, 1) := dk_172 (dk_at dksX4_append_1 19 rfl rfl)
theorem dX4_append_42 : decode cX4_append 42 = .ok (.aload_n 0, 1) := dk_42 (dk_at dksX4_append_1 20 rfl rfl)
theorem dX4_append_43 : decode cX4_append 43 = .ok (.getfield 36, 3) := dk_180 0 36 (dk_at dksX4_append_1 21 rfl rfl)
theorem dX4_append_46 : decode cX4_append 46 = .ok (.aload_n 0, 1) := dk_42 (dk_at dksX4_append_2 0 rfl rfl)
theorem dX4_append_47 : decode cX4_append 47 = .ok (.getfield 39, 3) := dk_180 0 39 (dk_at dksX4_append_2 1 rfl rfl)
theorem dX4_append_50 : decode cX4_append 50 = .ok (.iload_n 1, 1) := dk_27 (dk_at dksX4_append_2 4 rfl rfl)
theorem dX4_append_51 : decode cX4_append 51 = .ok (.iastore, 1) := dk_79 (dk_at dksX4_append_2 5 rfl rfl)
theorem dX4_append_52 : decode cX4_append 52 = .ok (.aload_n 0, 1) := dk_42 (dk_at dksX4_append_2 6 rfl rfl)
theorem dX4_append_53 : decode cX4_append 53 = .ok (.dup, 1) := dk_89 (dk_at dksX4_append_2 7 rfl rfl)
theorem dX4_append_54 : decode cX4_append 54 = .ok (.getfield 39, 3) := dk_180 0 39 (dk_at dksX4_append_2 8 rfl rfl)
theorem dX4_append_57 : decode cX4_append 57 = .ok (.iconst 1, 1) := dk_4 (dk_at dksX4_append_2 11 rfl rfl)
theorem dX4_append_58 : decode cX4_append 58 = .ok (.iadd, 1) := dk_96 (dk_at dksX4_append_2 12 rfl rfl)
theorem dX4_append_59 : decode cX4_append 59 = .ok (.putfield 39, 3) := dk_181 0 39 (dk_at dksX4_append_2 13 rfl rfl)
theorem dX4_append_62 : decode cX4_append 62 = .ok (.aload_n 0, 1) := dk_42 (dk_at dksX4_append_2 16 rfl rfl)
theorem dX4_append_63 : decode cX4_append 63 = .ok (.getfield 39, 3) := dk_180 0 39 (dk_at dksX4_append_2 17 rfl rfl)
theorem dX4_append_66 : decode cX4_append 66 = .ok (.ireturn, 1) := dk_172 (dk_at dksX4_append_2 20 rfl rfl)
abbrev cX4_in : ByteArray := prog_12_method_3_code
def yX4_in : MethodName := ⟨RX4, "in", "(III)Z"⟩
def dkwX4_in_0 : List UInt8 := [26, 27, 161, 0, 12, 26, 28, 163, 0, 7, 4, 167, 0, 4, 3, 172]
abbrev dktX4_in_0 : List UInt8 := dkwX4_in_0 ++ []
theorem dksX4_in_0 : cX4_in.data.toList.drop 0 = dktX4_in_0 := by decide +kernel
theorem dX4_in_0 : decode cX4_in 0 = .ok (.iload_n 0, 1) := dk_26 (dk_at dksX4_in_0 0 rfl rfl)
theorem dX4_in_1 : decode cX4_in 1 = .ok (.iload_n 1, 1) := dk_27 (dk_at dksX4_in_0 1 rfl rfl)
theorem dX4_in_2 : decode cX4_in 2 = .ok (.if_icmp .lt 12, 3) := dk_161 0 12 (dk_at dksX4_in_0 2 rfl rfl)
theorem dX4_in_5 : decode cX4_in 5 = .ok (.iload_n 0, 1) := dk_26 (dk_at dksX4_in_0 5 rfl rfl)
theorem dX4_in_6 : decode cX4_in 6 = .ok (.iload_n 2, 1) := dk_28 (dk_at dksX4_in_0 6 rfl rfl)
theorem dX4_in_7 : decode cX4_in 7 = .ok (.if_icmp .gt 7, 3) := dk_163 0 7 (dk_at dksX4_in_0 7 rfl rfl)
theorem dX4_in_10 : decode cX4_in 10 = .ok (.iconst 1, 1) := dk_4 (dk_at dksX4_in_0 10 rfl rfl)
theorem dX4_in_11 : decode cX4_in 11 = .ok (.goto 4, 3) := dk_167 0 4 (dk_at dksX4_in_0 11 rfl rfl)
theorem dX4_in_14 : decode cX4_in 14 = .ok (.iconst 0, 1) := dk_3 (dk_at dksX4_in_0 14 rfl rfl)
theorem dX4_in_15 : decode cX4_in 15 = .ok (.ireturn, 1) := dk_172 (dk_at dksX4_in_0 15 rfl rfl)
abbrev cX4_clearBuffer : ByteArray := prog_12_method_25_code
def yX4_clearBuffer : MethodName := ⟨RX4, "clearBuffer", "()I"⟩
def dkwX4_clearBuffer_0 : List UInt8 := [42, 3, 181, 0, 22, 42, 180, 0, 39, 60, 42, 3, 181, 0, 39, 27, 172]
abbrev dktX4_clearBuffer_0 : List UInt8 := dkwX4_clearBuffer_0 ++ []
theorem dksX4_clearBuffer_0 : cX4_clearBuffer.data.toList.drop 0 = dktX4_clearBuffer_0 := by decide +kernel
theorem dX4_clearBuffer_0 : decode cX4_clearBuffer 0 = .ok (.aload_n 0, 1) := dk_42 (dk_at dksX4_clearBuffer_0 0 rfl rfl)
theorem dX4_clearBuffer_1 : decode cX4_clearBuffer 1 = .ok (.iconst 0, 1) := dk_3 (dk_at dksX4_clearBuffer_0 1 rfl rfl)
theorem dX4_clearBuffer_2 : decode cX4_clearBuffer 2 = .ok (.putfield 22, 3) := dk_181 0 22 (dk_at dksX4_clearBuffer_0 2 rfl rfl)
theorem dX4_clearBuffer_5 : decode cX4_clearBuffer 5 = .ok (.aload_n 0, 1) := dk_42 (dk_at dksX4_clearBuffer_0 5 rfl rfl)
theorem dX4_clearBuffer_6 : decode cX4_clearBuffer 6 = .ok (.getfield 39, 3) := dk_180 0 39 (dk_at dksX4_clearBuffer_0 6 rfl rfl)
theorem dX4_clearBuffer_9 : decode cX4_clearBuffer 9 = .ok (.istore_n 1, 1) := dk_60 (dk_at dksX4_clearBuffer_0 9 rfl rfl)
theorem dX4_clearBuffer_10 : decode cX4_clearBuffer 10 = .ok (.aload_n 0, 1) := dk_42 (dk_at dksX4_clearBuffer_0 10 rfl rfl)
theorem dX4_clearBuffer_11 : decode cX4_clearBuffer 11 = .ok (.iconst 0, 1) := dk_3 (dk_at dksX4_clearBuffer_0 11 rfl rfl)
theorem dX4_clearBuffer_12 : decode cX4_clearBuffer 12 = .ok (.putfield 39, 3) := dk_181 0 39 (dk_at dksX4_clearBuffer_0 12 rfl rfl)
theorem dX4_clearBuffer_15 : decode cX4_clearBuffer 15 = .ok (.iload_n 1, 1) := dk_27 (dk_at dksX4_clearBuffer_0 15 rfl rfl)
theorem dX4_clearBuffer_16 : decode cX4_clearBuffer 16 = .ok (.ireturn, 1) := dk_172 (dk_at dksX4_clearBuffer_0 16 rfl rfl)
abbrev cX4_write : ByteArray := prog_12_method_33_code
def yX4_write : MethodName := ⟨RX4, "write", "(I)I"⟩
def dkwX4_write_3 : List UInt8 := [42, 42, 27, 182, 0, 189, 182, 0, 192, 172]
abbrev dktX4_write_3 : List UInt8 := dkwX4_write_3 ++ []
def dkwX4_write_2 : List UInt8 := [154, 0, 9, 42, 5, 182, 0, 180, 172, 42, 182, 0, 186, 153, 0, 11, 42, 6, 182, 0, 180, 167, 0, 12]
abbrev dktX4_write_2 : List UInt8 := dkwX4_write_2 ++ dktX4_write_3
def dkwX4_write_1 : List UInt8 := [153, 0, 10, 42, 180, 0, 29, 167, 0, 7, 42, 180, 0, 42, 181, 0, 29, 42, 3, 181, 0, 39, 28]
abbrev dktX4_write_1 : List UInt8 := dkwX4_write_1 ++ dktX4_write_2
def dkwX4_write_0 : List UInt8 := [42, 182, 0, 177, 27, 184, 0, 131, 154, 0, 9, 42, 4, 182, 0, 180, 172, 42, 182, 0, 183, 61, 42, 28]
abbrev dktX4_write_0 : List UInt8 := dkwX4_write_0 ++ dktX4_write_1
theorem dksX4_write_0 : cX4_write.data.toList.drop 0 = dktX4_write_0 := by decide +kernel
theorem dksX4_write_1 : cX4_write.data.toList.drop 24 = dktX4_write_1 := dk_seg dksX4_write_0 24 rfl rfl
theorem dksX4_write_2 : cX4_write.data.toList.drop 47 = dktX4_write_2 := dk_seg dksX4_write_1 23 rfl rfl
theorem dksX4_write_3 : cX4_write.data.toList.drop 71 = dktX4_write_3 := dk_seg dksX4_write_2 24 rfl rfl
theorem dX4_write_0 : decode cX4_write 0 = .ok (.aload_n 0, 1) := dk_42 (dk_at dksX4_write_0 0 rfl rfl)
theorem dX4_write_1 : decode cX4_write 1 = .ok (.invokevirtual 177, 3) := dk_182 0 177 (dk_at dksX4_write_0 1 rfl rfl)
theorem dX4_write_4 : decode cX4_write 4 = .ok (.iload_n 1, 1) := dk_27 (dk_at dksX4_write_0 4 rfl rfl)
theorem dX4_write_5 : decode cX4_write 5 = .ok (.invokestatic 131, 3) := dk_184 0 131 (dk_at dksX4_write_0 5 rfl rfl)
theorem dX4_write_8 : decode cX4_write 8 = .ok (.ifCond .ne 9, 3) := dk_154 0 9 (dk_at dksX4_write_0 8 rfl rfl)
theorem dX4_write_11 : decode cX4_write 11 = .ok (.aload_n 0, 1) := dk_42 (dk_at dksX4_write_0 11 rfl rfl)
theorem dX4_write_12 : decode cX4_write 12 = .ok (.iconst 1, 1) := dk_4 (dk_at dksX4_write_0 12 rfl rfl)
theorem dX4_write_13 : decode cX4_write 13 = .ok (.invokevirtual 180, 3) := dk_182 0 180 (dk_at dksX4_write_0 13 rfl rfl)
theorem dX4_write_16 : decode cX4_write 16 = .ok (.ireturn, 1) := dk_172 (dk_at dksX4_write_0 16 rfl rfl)
theorem dX4_write_17 : decode cX4_write 17 = .ok (.aload_n 0, 1) := dk_42 (dk_at dksX4_write_0 17 rfl rfl)
theorem dX4_write_18 : decode cX4_write 18 = .ok (.invokevirtual 183, 3) := dk_182 0 183 (dk_at dksX4_write_0 18 rfl rfl)
theorem dX4_write_21 : decode cX4_write 21 = .ok (.istore_n 2, 1) := dk_61 (dk_at dksX4_write_0 21 rfl rfl)
theorem dX4_write_22 : decode cX4_write 22 = .ok (.aload_n 0, 1) := dk_42 (dk_at dksX4_write_0 22 rfl rfl)
theorem dX4_write_23 : decode cX4_write 23 = .ok (.iload_n 2, 1) := dk_28 (dk_at dksX4_write_0 23 rfl rfl)
theorem dX4_write_24 : decode cX4_write 24 = .ok (.ifCond .eq 10, 3) := dk_153 0 10 (dk_at dksX4_write_1 0 rfl rfl)
theorem dX4_write_27 : decode cX4_write 27 = .ok (.aload_n 0, 1) := dk_42 (dk_at dksX4_write_1 3 rfl rfl)
theorem dX4_write_28 : decode cX4_write 28 = .ok (.getfield 29, 3) := dk_180 0 29 (dk_at dksX4_write_1 4 rfl rfl)
theorem dX4_write_31 : decode cX4_write 31 = .ok (.goto 7, 3) := dk_167 0 7 (dk_at dksX4_write_1 7 rfl rfl)
theorem dX4_write_34 : decode cX4_write 34 = .ok (.aload_n 0, 1) := dk_42 (dk_at dksX4_write_1 10 rfl rfl)
theorem dX4_write_35 : decode cX4_write 35 = .ok (.getfield 42, 3) := dk_180 0 42 (dk_at dksX4_write_1 11 rfl rfl)
theorem dX4_write_38 : decode cX4_write 38 = .ok (.putfield 29, 3) := dk_181 0 29 (dk_at dksX4_write_1 14 rfl rfl)
theorem dX4_write_41 : decode cX4_write 41 = .ok (.aload_n 0, 1) := dk_42 (dk_at dksX4_write_1 17 rfl rfl)
theorem dX4_write_42 : decode cX4_write 42 = .ok (.iconst 0, 1) := dk_3 (dk_at dksX4_write_1 18 rfl rfl)
theorem dX4_write_43 : decode cX4_write 43 = .ok (.putfield 39, 3) := dk_181 0 39 (dk_at dksX4_write_1 19 rfl rfl)
theorem dX4_write_46 : decode cX4_write 46 = .ok (.iload_n 2, 1) := dk_28 (dk_at dksX4_write_1 22 rfl rfl)
theorem dX4_write_47 : decode cX4_write 47 = .ok (.ifCond .ne 9, 3) := dk_154 0 9 (dk_at dksX4_write_2 0 rfl rfl)
theorem dX4_write_50 : decode cX4_write 50 = .ok (.aload_n 0, 1) := dk_42 (dk_at dksX4_write_2 3 rfl rfl)
theorem dX4_write_51 : decode cX4_write 51 = .ok (.iconst 2, 1) := dk_5 (dk_at dksX4_write_2 4 rfl rfl)
theorem dX4_write_52 : decode cX4_write 52 = .ok (.invokevirtual 180, 3) := dk_182 0 180 (dk_at dksX4_write_2 5 rfl rfl)
theorem dX4_write_55 : decode cX4_write 55 = .ok (.ireturn, 1) := dk_172 (dk_at dksX4_write_2 8 rfl rfl)
theorem dX4_write_56 : decode cX4_write 56 = .ok (.aload_n 0, 1) := dk_42 (dk_at dksX4_write_2 9 rfl rfl)
theorem dX4_write_57 : decode cX4_write 57 = .ok (.invokevirtual 186, 3) := dk_182 0 186 (dk_at dksX4_write_2 10 rfl rfl)
theorem dX4_write_60 : decode cX4_write 60 = .ok (.ifCond .eq 11, 3) := dk_153 0 11 (dk_at dksX4_write_2 13 rfl rfl)
theorem dX4_write_63 : decode cX4_write 63 = .ok (.aload_n 0, 1) := dk_42 (dk_at dksX4_write_2 16 rfl rfl)
theorem dX4_write_64 : decode cX4_write 64 = .ok (.iconst 3, 1) := dk_6 (dk_at dksX4_write_2 17 rfl rfl)
theorem dX4_write_65 : decode cX4_write 65 = .ok (.invokevirtual 180, 3) := dk_182 0 180 (dk_at dksX4_write_2 18 rfl rfl)
theorem dX4_write_68 : decode cX4_write 68 = .ok (.goto 12, 3) := dk_167 0 12 (dk_at dksX4_write_2 21 rfl rfl)
theorem dX4_write_71 : decode cX4_write 71 = .ok (.aload_n 0, 1) := dk_42 (dk_at dksX4_write_3 0 rfl rfl)
theorem dX4_write_72 : decode cX4_write 72 = .ok (.aload_n 0, 1) := dk_42 (dk_at dksX4_write_3 1 rfl rfl)
theorem dX4_write_73 : decode cX4_write 73 = .ok (.iload_n 1, 1) := dk_27 (dk_at dksX4_write_3 2 rfl rfl)
theorem dX4_write_74 : decode cX4_write 74 = .ok (.invokevirtual 189, 3) := dk_182 0 189 (dk_at dksX4_write_3 3 rfl rfl)
theorem dX4_write_77 : decode cX4_write 77 = .ok (.invokevirtual 192, 3) := dk_182 0 192 (dk_at dksX4_write_3 6 rfl rfl)
theorem dX4_write_80 : decode cX4_write 80 = .ok (.ireturn, 1) := dk_172 (dk_at dksX4_write_3 9 rfl rfl)
abbrev cX4_begin : ByteArray := prog_12_method_6_code
def yX4_begin : MethodName := ⟨RX4, "begin", "()V"⟩
def dkwX4_begin_0 : List UInt8 := [42, 3, 181, 0, 22, 42, 180, 0, 7, 3, 42, 180, 0, 13, 3, 184, 0, 123, 177]
abbrev dktX4_begin_0 : List UInt8 := dkwX4_begin_0 ++ []
theorem dksX4_begin_0 : cX4_begin.data.toList.drop 0 = dktX4_begin_0 := by decide +kernel
theorem dX4_begin_0 : decode cX4_begin 0 = .ok (.aload_n 0, 1) := dk_42 (dk_at dksX4_begin_0 0 rfl rfl)
theorem dX4_begin_1 : decode cX4_begin 1 = .ok (.iconst 0, 1) := dk_3 (dk_at dksX4_begin_0 1 rfl rfl)
theorem dX4_begin_2 : decode cX4_begin 2 = .ok (.putfield 22, 3) := dk_181 0 22 (dk_at dksX4_begin_0 2 rfl rfl)
theorem dX4_begin_5 : decode cX4_begin 5 = .ok (.aload_n 0, 1) := dk_42 (dk_at dksX4_begin_0 5 rfl rfl)
theorem dX4_begin_6 : decode cX4_begin 6 = .ok (.getfield 7, 3) := dk_180 0 7 (dk_at dksX4_begin_0 6 rfl rfl)
theorem dX4_begin_9 : decode cX4_begin 9 = .ok (.iconst 0, 1) := dk_3 (dk_at dksX4_begin_0 9 rfl rfl)
theorem dX4_begin_10 : decode cX4_begin 10 = .ok (.aload_n 0, 1) := dk_42 (dk_at dksX4_begin_0 10 rfl rfl)
theorem dX4_begin_11 : decode cX4_begin 11 = .ok (.getfield 13, 3) := dk_180 0 13 (dk_at dksX4_begin_0 11 rfl rfl)
theorem dX4_begin_14 : decode cX4_begin 14 = .ok (.iconst 0, 1) := dk_3 (dk_at dksX4_begin_0 14 rfl rfl)
theorem dX4_begin_15 : decode cX4_begin 15 = .ok (.invokestatic 123, 3) := dk_184 0 123 (dk_at dksX4_begin_0 15 rfl rfl)
theorem dX4_begin_18 : decode cX4_begin 18 = .ok (.return_, 1) := dk_177 (dk_at dksX4_begin_0 18 rfl rfl)
abbrev cX4_copyAll : ByteArray := prog_12_method_4_code
def yX4_copyAll : MethodName := ⟨RX4, "copyAll", "([II[II)V"⟩
def dkwX4_copyAll_1 : List UInt8 := [132, 4, 1, 167, 255, 234, 177]
abbrev dktX4_copyAll_1 : List UInt8 := dkwX4_copyAll_1 ++ []
def dkwX4_copyAll_0 : List UInt8 := [3, 54, 4, 21, 4, 16, 88, 162, 0, 21, 44, 29, 21, 4, 96, 42, 27, 21, 4, 96, 46, 79]
abbrev dktX4_copyAll_0 : List UInt8 := dkwX4_copyAll_0 ++ dktX4_copyAll_1
theorem dksX4_copyAll_0 : cX4_copyAll.data.toList.drop 0 = dktX4_copyAll_0 := by decide +kernel
theorem dksX4_copyAll_1 : cX4_copyAll.data.toList.drop 22 = dktX4_copyAll_1 := dk_seg dksX4_copyAll_0 22 rfl rfl
theorem dX4_copyAll_0 : decode cX4_copyAll 0 = .ok (.iconst 0, 1) := dk_3 (dk_at dksX4_copyAll_0 0 rfl rfl)
theorem dX4_copyAll_1 : decode cX4_copyAll 1 = .ok (.istore 4, 2) := dk_54 4 (dk_at dksX4_copyAll_0 1 rfl rfl)
theorem dX4_copyAll_3 : decode cX4_copyAll 3 = .ok (.iload 4, 2) := dk_21 4 (dk_at dksX4_copyAll_0 3 rfl rfl)
theorem dX4_copyAll_5 : decode cX4_copyAll 5 = .ok (.bipush 88, 2) := dk_16 88 (dk_at dksX4_copyAll_0 5 rfl rfl)
theorem dX4_copyAll_7 : decode cX4_copyAll 7 = .ok (.if_icmp .ge 21, 3) := dk_162 0 21 (dk_at dksX4_copyAll_0 7 rfl rfl)
theorem dX4_copyAll_10 : decode cX4_copyAll 10 = .ok (.aload_n 2, 1) := dk_44 (dk_at dksX4_copyAll_0 10 rfl rfl)
theorem dX4_copyAll_11 : decode cX4_copyAll 11 = .ok (.iload_n 3, 1) := dk_29 (dk_at dksX4_copyAll_0 11 rfl rfl)
theorem dX4_copyAll_12 : decode cX4_copyAll 12 = .ok (.iload 4, 2) := dk_21 4 (dk_at dksX4_copyAll_0 12 rfl rfl)
theorem dX4_copyAll_14 : decode cX4_copyAll 14 = .ok (.iadd, 1) := dk_96 (dk_at dksX4_copyAll_0 14 rfl rfl)
theorem dX4_copyAll_15 : decode cX4_copyAll 15 = .ok (.aload_n 0, 1) := dk_42 (dk_at dksX4_copyAll_0 15 rfl rfl)
theorem dX4_copyAll_16 : decode cX4_copyAll 16 = .ok (.iload_n 1, 1) := dk_27 (dk_at dksX4_copyAll_0 16 rfl rfl)
theorem dX4_copyAll_17 : decode cX4_copyAll 17 = .ok (.iload 4, 2) := dk_21 4 (dk_at dksX4_copyAll_0 17 rfl rfl)
theorem dX4_copyAll_19 : decode cX4_copyAll 19 = .ok (.iadd, 1) := dk_96 (dk_at dksX4_copyAll_0 19 rfl rfl)
theorem dX4_copyAll_20 : decode cX4_copyAll 20 = .ok (.iaload, 1) := dk_46 (dk_at dksX4_copyAll_0 20 rfl rfl)
theorem dX4_copyAll_21 : decode cX4_copyAll 21 = .ok (.iastore, 1) := dk_79 (dk_at dksX4_copyAll_0 21 rfl rfl)
theorem dX4_copyAll_22 : decode cX4_copyAll 22 = .ok (.iinc 4 1, 3) := dk_132 4 1 (dk_at dksX4_copyAll_1 0 rfl rfl)
theorem dX4_copyAll_25 : decode cX4_copyAll 25 = .ok (.goto (-22), 3) := dk_167 255 234 (dk_at dksX4_copyAll_1 3 rfl rfl)
theorem dX4_copyAll_28 : decode cX4_copyAll 28 = .ok (.return_, 1) := dk_177 (dk_at dksX4_copyAll_1 6 rfl rfl)
abbrev cX4_isSlot : ByteArray := prog_12_method_10_code
def yX4_isSlot : MethodName := ⟨RX4, "isSlot", "(I)Z"⟩
def dkwX4_isSlot_0 : List UInt8 := [26, 3, 6, 184, 0, 127, 172]
abbrev dktX4_isSlot_0 : List UInt8 := dkwX4_isSlot_0 ++ []
theorem dksX4_isSlot_0 : cX4_isSlot.data.toList.drop 0 = dktX4_isSlot_0 := by decide +kernel
theorem dX4_isSlot_0 : decode cX4_isSlot 0 = .ok (.iload_n 0, 1) := dk_26 (dk_at dksX4_isSlot_0 0 rfl rfl)
theorem dX4_isSlot_1 : decode cX4_isSlot 1 = .ok (.iconst 0, 1) := dk_3 (dk_at dksX4_isSlot_0 1 rfl rfl)
theorem dX4_isSlot_2 : decode cX4_isSlot 2 = .ok (.iconst 3, 1) := dk_6 (dk_at dksX4_isSlot_0 2 rfl rfl)
theorem dX4_isSlot_3 : decode cX4_isSlot 3 = .ok (.invokestatic 127, 3) := dk_184 0 127 (dk_at dksX4_isSlot_0 3 rfl rfl)
theorem dX4_isSlot_6 : decode cX4_isSlot 6 = .ok (.ireturn, 1) := dk_172 (dk_at dksX4_isSlot_0 6 rfl rfl)
abbrev cX4_fail : ByteArray := prog_12_method_5_code
def yX4_fail : MethodName := ⟨RX4, "fail", "(I)I"⟩
def dkwX4_fail_0 : List UInt8 := [42, 27, 181, 0, 22, 3, 172]
abbrev dktX4_fail_0 : List UInt8 := dkwX4_fail_0 ++ []
theorem dksX4_fail_0 : cX4_fail.data.toList.drop 0 = dktX4_fail_0 := by decide +kernel
theorem dX4_fail_0 : decode cX4_fail 0 = .ok (.aload_n 0, 1) := dk_42 (dk_at dksX4_fail_0 0 rfl rfl)
theorem dX4_fail_1 : decode cX4_fail 1 = .ok (.iload_n 1, 1) := dk_27 (dk_at dksX4_fail_0 1 rfl rfl)
theorem dX4_fail_2 : decode cX4_fail 2 = .ok (.putfield 22, 3) := dk_181 0 22 (dk_at dksX4_fail_0 2 rfl rfl)
theorem dX4_fail_5 : decode cX4_fail 5 = .ok (.iconst 0, 1) := dk_3 (dk_at dksX4_fail_0 5 rfl rfl)
theorem dX4_fail_6 : decode cX4_fail 6 = .ok (.ireturn, 1) := dk_172 (dk_at dksX4_fail_0 6 rfl rfl)
abbrev cX4_readsAll : ByteArray := prog_12_method_30_code
def yX4_readsAll : MethodName := ⟨RX4, "readsAll", "()Z"⟩
def dkwX4_readsAll_2 : List UInt8 := [42, 180, 0, 42, 42, 180, 0, 39, 160, 0, 7, 4, 167, 0, 4, 3, 172]
abbrev dktX4_readsAll_2 : List UInt8 := dkwX4_readsAll_2 ++ []
def dkwX4_readsAll_1 : List UInt8 := [16, 32, 160, 0, 22, 42, 89, 180, 0, 42, 4, 96, 181, 0, 42, 42, 182, 0, 170, 154, 255, 233, 3, 172]
abbrev dktX4_readsAll_1 : List UInt8 := dkwX4_readsAll_1 ++ dktX4_readsAll_2
def dkwX4_readsAll_0 : List UInt8 := [42, 3, 181, 0, 42, 42, 3, 181, 0, 48, 42, 182, 0, 170, 154, 0, 5, 3, 172, 42, 182, 0, 153]
abbrev dktX4_readsAll_0 : List UInt8 := dkwX4_readsAll_0 ++ dktX4_readsAll_1
theorem dksX4_readsAll_0 : cX4_readsAll.data.toList.drop 0 = dktX4_readsAll_0 := by decide +kernel
theorem dksX4_readsAll_1 : cX4_readsAll.data.toList.drop 23 = dktX4_readsAll_1 := dk_seg dksX4_readsAll_0 23 rfl rfl
theorem dksX4_readsAll_2 : cX4_readsAll.data.toList.drop 47 = dktX4_readsAll_2 := dk_seg dksX4_readsAll_1 24 rfl rfl
theorem dX4_readsAll_0 : decode cX4_readsAll 0 = .ok (.aload_n 0, 1) := dk_42 (dk_at dksX4_readsAll_0 0 rfl rfl)
theorem dX4_readsAll_1 : decode cX4_readsAll 1 = .ok (.iconst 0, 1) := dk_3 (dk_at dksX4_readsAll_0 1 rfl rfl)
theorem dX4_readsAll_2 : decode cX4_readsAll 2 = .ok (.putfield 42, 3) := dk_181 0 42 (dk_at dksX4_readsAll_0 2 rfl rfl)
theorem dX4_readsAll_5 : decode cX4_readsAll 5 = .ok (.aload_n 0, 1) := dk_42 (dk_at dksX4_readsAll_0 5 rfl rfl)
theorem dX4_readsAll_6 : decode cX4_readsAll 6 = .ok (.iconst 0, 1) := dk_3 (dk_at dksX4_readsAll_0 6 rfl rfl)
theorem dX4_readsAll_7 : decode cX4_readsAll 7 = .ok (.putfield 48, 3) := dk_181 0 48 (dk_at dksX4_readsAll_0 7 rfl rfl)
theorem dX4_readsAll_10 : decode cX4_readsAll 10 = .ok (.aload_n 0, 1) := dk_42 (dk_at dksX4_readsAll_0 10 rfl rfl)
theorem dX4_readsAll_11 : decode cX4_readsAll 11 = .ok (.invokevirtual 170, 3) := dk_182 0 170 (dk_at dksX4_readsAll_0 11 rfl rfl)
theorem dX4_readsAll_14 : decode cX4_readsAll 14 = .ok (.ifCond .ne 5, 3) := dk_154 0 5 (dk_at dksX4_readsAll_0 14 rfl rfl)
theorem dX4_readsAll_17 : decode cX4_readsAll 17 = .ok (.iconst 0, 1) := dk_3 (dk_at dksX4_readsAll_0 17 rfl rfl)
theorem dX4_readsAll_18 : decode cX4_readsAll 18 = .ok (.ireturn, 1) := dk_172 (dk_at dksX4_readsAll_0 18 rfl rfl)
theorem dX4_readsAll_19 : decode cX4_readsAll 19 = .ok (.aload_n 0, 1) := dk_42 (dk_at dksX4_readsAll_0 19 rfl rfl)
theorem dX4_readsAll_20 : decode cX4_readsAll 20 = .ok (.invokevirtual 153, 3) := dk_182 0 153 (dk_at dksX4_readsAll_0 20 rfl rfl)
theorem dX4_readsAll_23 : decode cX4_readsAll 23 = .ok (.bipush 32, 2) := dk_16 32 (dk_at dksX4_readsAll_1 0 rfl rfl)
theorem dX4_readsAll_25 : decode cX4_readsAll 25 = .ok (.if_icmp .ne 22, 3) := dk_160 0 22 (dk_at dksX4_readsAll_1 2 rfl rfl)
theorem dX4_readsAll_28 : decode cX4_readsAll 28 = .ok (.aload_n 0, 1) := dk_42 (dk_at dksX4_readsAll_1 5 rfl rfl)
theorem dX4_readsAll_29 : decode cX4_readsAll 29 = .ok (.dup, 1) := dk_89 (dk_at dksX4_readsAll_1 6 rfl rfl)
theorem dX4_readsAll_30 : decode cX4_readsAll 30 = .ok (.getfield 42, 3) := dk_180 0 42 (dk_at dksX4_readsAll_1 7 rfl rfl)
theorem dX4_readsAll_33 : decode cX4_readsAll 33 = .ok (.iconst 1, 1) := dk_4 (dk_at dksX4_readsAll_1 10 rfl rfl)
theorem dX4_readsAll_34 : decode cX4_readsAll 34 = .ok (.iadd, 1) := dk_96 (dk_at dksX4_readsAll_1 11 rfl rfl)
theorem dX4_readsAll_35 : decode cX4_readsAll 35 = .ok (.putfield 42, 3) := dk_181 0 42 (dk_at dksX4_readsAll_1 12 rfl rfl)
theorem dX4_readsAll_38 : decode cX4_readsAll 38 = .ok (.aload_n 0, 1) := dk_42 (dk_at dksX4_readsAll_1 15 rfl rfl)
theorem dX4_readsAll_39 : decode cX4_readsAll 39 = .ok (.invokevirtual 170, 3) := dk_182 0 170 (dk_at dksX4_readsAll_1 16 rfl rfl)
theorem dX4_readsAll_42 : decode cX4_readsAll 42 = .ok (.ifCond .ne (-23), 3) := dk_154 255 233 (dk_at dksX4_readsAll_1 19 rfl rfl)
theorem dX4_readsAll_45 : decode cX4_readsAll 45 = .ok (.iconst 0, 1) := dk_3 (dk_at dksX4_readsAll_1 22 rfl rfl)
theorem dX4_readsAll_46 : decode cX4_readsAll 46 = .ok (.ireturn, 1) := dk_172 (dk_at dksX4_readsAll_1 23 rfl rfl)
theorem dX4_readsAll_47 : decode cX4_readsAll 47 = .ok (.aload_n 0, 1) := dk_42 (dk_at dksX4_readsAll_2 0 rfl rfl)
theorem dX4_readsAll_48 : decode cX4_readsAll 48 = .ok (.getfield 42, 3) := dk_180 0 42 (dk_at dksX4_readsAll_2 1 rfl rfl)
theorem dX4_readsAll_51 : decode cX4_readsAll 51 = .ok (.aload_n 0, 1) := dk_42 (dk_at dksX4_readsAll_2 4 rfl rfl)
theorem dX4_readsAll_52 : decode cX4_readsAll 52 = .ok (.getfield 39, 3) := dk_180 0 39 (dk_at dksX4_readsAll_2 5 rfl rfl)
theorem dX4_readsAll_55 : decode cX4_readsAll 55 = .ok (.if_icmp .ne 7, 3) := dk_160 0 7 (dk_at dksX4_readsAll_2 8 rfl rfl)
theorem dX4_readsAll_58 : decode cX4_readsAll 58 = .ok (.iconst 1, 1) := dk_4 (dk_at dksX4_readsAll_2 11 rfl rfl)
theorem dX4_readsAll_59 : decode cX4_readsAll 59 = .ok (.goto 4, 3) := dk_167 0 4 (dk_at dksX4_readsAll_2 12 rfl rfl)
theorem dX4_readsAll_62 : decode cX4_readsAll 62 = .ok (.iconst 0, 1) := dk_3 (dk_at dksX4_readsAll_2 15 rfl rfl)
theorem dX4_readsAll_63 : decode cX4_readsAll 63 = .ok (.ireturn, 1) := dk_172 (dk_at dksX4_readsAll_2 16 rfl rfl)
abbrev cX4_readsOperation : ByteArray := prog_12_method_29_code
def yX4_readsOperation : MethodName := ⟨RX4, "readsOperation", "()Z"⟩
def dkwX4_readsOperation_4 : List UInt8 := [180, 0, 48, 27, 28, 29, 184, 0, 166, 79, 42, 89, 180, 0, 48, 4, 96, 181, 0, 48, 4, 172]
abbrev dktX4_readsOperation_4 : List UInt8 := dkwX4_readsOperation_4 ++ []
def dkwX4_readsOperation_3 : List UInt8 := [182, 0, 153, 16, 97, 100, 62, 42, 89, 180, 0, 42, 4, 96, 181, 0, 42, 42, 180, 0, 45, 42]
abbrev dktX4_readsOperation_3 : List UInt8 := dkwX4_readsOperation_3 ++ dktX4_readsOperation_4
def dkwX4_readsOperation_2 : List UInt8 := [181, 0, 42, 3, 62, 27, 5, 162, 0, 33, 42, 182, 0, 153, 184, 0, 163, 154, 0, 5, 3, 172, 42]
abbrev dktX4_readsOperation_2 : List UInt8 := dkwX4_readsOperation_2 ++ dktX4_readsOperation_3
def dkwX4_readsOperation_1 : List UInt8 := [42, 182, 0, 153, 16, 48, 100, 61, 28, 184, 0, 160, 154, 0, 5, 3, 172, 42, 89, 180, 0, 42, 4, 96]
abbrev dktX4_readsOperation_1 : List UInt8 := dkwX4_readsOperation_1 ++ dktX4_readsOperation_2
def dkwX4_readsOperation_0 : List UInt8 := [42, 182, 0, 153, 184, 0, 157, 60, 27, 156, 0, 5, 3, 172, 42, 89, 180, 0, 42, 4, 96, 181, 0, 42]
abbrev dktX4_readsOperation_0 : List UInt8 := dkwX4_readsOperation_0 ++ dktX4_readsOperation_1
theorem dksX4_readsOperation_0 : cX4_readsOperation.data.toList.drop 0 = dktX4_readsOperation_0 := by decide +kernel
theorem dksX4_readsOperation_1 : cX4_readsOperation.data.toList.drop 24 = dktX4_readsOperation_1 := dk_seg dksX4_readsOperation_0 24 rfl rfl
theorem dksX4_readsOperation_2 : cX4_readsOperation.data.toList.drop 48 = dktX4_readsOperation_2 := dk_seg dksX4_readsOperation_1 24 rfl rfl
theorem dksX4_readsOperation_3 : cX4_readsOperation.data.toList.drop 71 = dktX4_readsOperation_3 := dk_seg dksX4_readsOperation_2 23 rfl rfl
theorem dksX4_readsOperation_4 : cX4_readsOperation.data.toList.drop 93 = dktX4_readsOperation_4 := dk_seg dksX4_readsOperation_3 22 rfl rfl
theorem dX4_readsOperation_0 : decode cX4_readsOperation 0 = .ok (.aload_n 0, 1) := dk_42 (dk_at dksX4_readsOperation_0 0 rfl rfl)
theorem dX4_readsOperation_1 : decode cX4_readsOperation 1 = .ok (.invokevirtual 153, 3) := dk_182 0 153 (dk_at dksX4_readsOperation_0 1 rfl rfl)
theorem dX4_readsOperation_4 : decode cX4_readsOperation 4 = .ok (.invokestatic 157, 3) := dk_184 0 157 (dk_at dksX4_readsOperation_0 4 rfl rfl)
theorem dX4_readsOperation_7 : decode cX4_readsOperation 7 = .ok (.istore_n 1, 1) := dk_60 (dk_at dksX4_readsOperation_0 7 rfl rfl)
theorem dX4_readsOperation_8 : decode cX4_readsOperation 8 = .ok (.iload_n 1, 1) := dk_27 (dk_at dksX4_readsOperation_0 8 rfl rfl)
theorem dX4_readsOperation_9 : decode cX4_readsOperation 9 = .ok (.ifCond .ge 5, 3) := dk_156 0 5 (dk_at dksX4_readsOperation_0 9 rfl rfl)
theorem dX4_readsOperation_12 : decode cX4_readsOperation 12 = .ok (.iconst 0, 1) := dk_3 (dk_at dksX4_readsOperation_0 12 rfl rfl)
theorem dX4_readsOperation_13 : decode cX4_readsOperation 13 = .ok (.ireturn, 1) := dk_172 (dk_at dksX4_readsOperation_0 13 rfl rfl)
theorem dX4_readsOperation_14 : decode cX4_readsOperation 14 = .ok (.aload_n 0, 1) := dk_42 (dk_at dksX4_readsOperation_0 14 rfl rfl)
theorem dX4_readsOperation_15 : decode cX4_readsOperation 15 = .ok (.dup, 1) := dk_89 (dk_at dksX4_readsOperation_0 15 rfl rfl)
theorem dX4_readsOperation_16 : decode cX4_readsOperation 16 = .ok (.getfield 42, 3) := dk_180 0 42 (dk_at dksX4_readsOperation_0 16 rfl rfl)
theorem dX4_readsOperation_19 : decode cX4_readsOperation 19 = .ok (.iconst 1, 1) := dk_4 (dk_at dksX4_readsOperation_0 19 rfl rfl)
theorem dX4_readsOperation_20 : decode cX4_readsOperation 20 = .ok (.iadd, 1) := dk_96 (dk_at dksX4_readsOperation_0 20 rfl rfl)
theorem dX4_readsOperation_21 : decode cX4_readsOperation 21 = .ok (.putfield 42, 3) := dk_181 0 42 (dk_at dksX4_readsOperation_0 21 rfl rfl)
theorem dX4_readsOperation_24 : decode cX4_readsOperation 24 = .ok (.aload_n 0, 1) := dk_42 (dk_at dksX4_readsOperation_1 0 rfl rfl)
theorem dX4_readsOperation_25 : decode cX4_readsOperation 25 = .ok (.invokevirtual 153, 3) := dk_182 0 153 (dk_at dksX4_readsOperation_1 1 rfl rfl)
theorem dX4_readsOperation_28 : decode cX4_readsOperation 28 = .ok (.bipush 48, 2) := dk_16 48 (dk_at dksX4_readsOperation_1 4 rfl rfl)
theorem dX4_readsOperation_30 : decode cX4_readsOperation 30 = .ok (.isub, 1) := dk_100 (dk_at dksX4_readsOperation_1 6 rfl rfl)
theorem dX4_readsOperation_31 : decode cX4_readsOperation 31 = .ok (.istore_n 2, 1) := dk_61 (dk_at dksX4_readsOperation_1 7 rfl rfl)
theorem dX4_readsOperation_32 : decode cX4_readsOperation 32 = .ok (.iload_n 2, 1) := dk_28 (dk_at dksX4_readsOperation_1 8 rfl rfl)
theorem dX4_readsOperation_33 : decode cX4_readsOperation 33 = .ok (.invokestatic 160, 3) := dk_184 0 160 (dk_at dksX4_readsOperation_1 9 rfl rfl)
theorem dX4_readsOperation_36 : decode cX4_readsOperation 36 = .ok (.ifCond .ne 5, 3) := dk_154 0 5 (dk_at dksX4_readsOperation_1 12 rfl rfl)
theorem dX4_readsOperation_39 : decode cX4_readsOperation 39 = .ok (.iconst 0, 1) := dk_3 (dk_at dksX4_readsOperation_1 15 rfl rfl)
theorem dX4_readsOperation_40 : decode cX4_readsOperation 40 = .ok (.ireturn, 1) := dk_172 (dk_at dksX4_readsOperation_1 16 rfl rfl)
theorem dX4_readsOperation_41 : decode cX4_readsOperation 41 = .ok (.aload_n 0, 1) := dk_42 (dk_at dksX4_readsOperation_1 17 rfl rfl)
theorem dX4_readsOperation_42 : decode cX4_readsOperation 42 = .ok (.dup, 1) := dk_89 (dk_at dksX4_readsOperation_1 18 rfl rfl)
theorem dX4_readsOperation_43 : decode cX4_readsOperation 43 = .ok (.getfield 42, 3) := dk_180 0 42 (dk_at dksX4_readsOperation_1 19 rfl rfl)
theorem dX4_readsOperation_46 : decode cX4_readsOperation 46 = .ok (.iconst 1, 1) := dk_4 (dk_at dksX4_readsOperation_1 22 rfl rfl)
theorem dX4_readsOperation_47 : decode cX4_readsOperation 47 = .ok (.iadd, 1) := dk_96 (dk_at dksX4_readsOperation_1 23 rfl rfl)
theorem dX4_readsOperation_48 : decode cX4_readsOperation 48 = .ok (.putfield 42, 3) := dk_181 0 42 (dk_at dksX4_readsOperation_2 0 rfl rfl)
theorem dX4_readsOperation_51 : decode cX4_readsOperation 51 = .ok (.iconst 0, 1) := dk_3 (dk_at dksX4_readsOperation_2 3 rfl rfl)
theorem dX4_readsOperation_52 : decode cX4_readsOperation 52 = .ok (.istore_n 3, 1) := dk_62 (dk_at dksX4_readsOperation_2 4 rfl rfl)
theorem dX4_readsOperation_53 : decode cX4_readsOperation 53 = .ok (.iload_n 1, 1) := dk_27 (dk_at dksX4_readsOperation_2 5 rfl rfl)
theorem dX4_readsOperation_54 : decode cX4_readsOperation 54 = .ok (.iconst 2, 1) := dk_5 (dk_at dksX4_readsOperation_2 6 rfl rfl)
theorem dX4_readsOperation_55 : decode cX4_readsOperation 55 = .ok (.if_icmp .ge 33, 3) := dk_162 0 33 (dk_at dksX4_readsOperation_2 7 rfl rfl)
theorem dX4_readsOperation_58 : decode cX4_readsOperation 58 = .ok (.aload_n 0, 1) := dk_42 (dk_at dksX4_readsOperation_2 10 rfl rfl)
theorem dX4_readsOperation_59 : decode cX4_readsOperation 59 = .ok (.invokevirtual 153, 3) := dk_182 0 153 (dk_at dksX4_readsOperation_2 11 rfl rfl)
theorem dX4_readsOperation_62 : decode cX4_readsOperation 62 = .ok (.invokestatic 163, 3) := dk_184 0 163 (dk_at dksX4_readsOperation_2 14 rfl rfl)
theorem dX4_readsOperation_65 : decode cX4_readsOperation 65 = .ok (.ifCond .ne 5, 3) := dk_154 0 5 (dk_at dksX4_readsOperation_2 17 rfl rfl)
theorem dX4_readsOperation_68 : decode cX4_readsOperation 68 = .ok (.iconst 0, 1) := dk_3 (dk_at dksX4_readsOperation_2 20 rfl rfl)
theorem dX4_readsOperation_69 : decode cX4_readsOperation 69 = .ok (.ireturn, 1) := dk_172 (dk_at dksX4_readsOperation_2 21 rfl rfl)
theorem dX4_readsOperation_70 : decode cX4_readsOperation 70 = .ok (.aload_n 0, 1) := dk_42 (dk_at dksX4_readsOperation_2 22 rfl rfl)
theorem dX4_readsOperation_71 : decode cX4_readsOperation 71 = .ok (.invokevirtual 153, 3) := dk_182 0 153 (dk_at dksX4_readsOperation_3 0 rfl rfl)
theorem dX4_readsOperation_74 : decode cX4_readsOperation 74 = .ok (.bipush 97, 2) := dk_16 97 (dk_at dksX4_readsOperation_3 3 rfl rfl)
theorem dX4_readsOperation_76 : decode cX4_readsOperation 76 = .ok (.isub, 1) := dk_100 (dk_at dksX4_readsOperation_3 5 rfl rfl)
theorem dX4_readsOperation_77 : decode cX4_readsOperation 77 = .ok (.istore_n 3, 1) := dk_62 (dk_at dksX4_readsOperation_3 6 rfl rfl)
theorem dX4_readsOperation_78 : decode cX4_readsOperation 78 = .ok (.aload_n 0, 1) := dk_42 (dk_at dksX4_readsOperation_3 7 rfl rfl)
theorem dX4_readsOperation_79 : decode cX4_readsOperation 79 = .ok (.dup, 1) := dk_89 (dk_at dksX4_readsOperation_3 8 rfl rfl)
theorem dX4_readsOperation_80 : decode cX4_readsOperation 80 = .ok (.getfield 42, 3) := dk_180 0 42 (dk_at dksX4_readsOperation_3 9 rfl rfl)
theorem dX4_readsOperation_83 : decode cX4_readsOperation 83 = .ok (.iconst 1, 1) := dk_4 (dk_at dksX4_readsOperation_3 12 rfl rfl)
theorem dX4_readsOperation_84 : decode cX4_readsOperation 84 = .ok (.iadd, 1) := dk_96 (dk_at dksX4_readsOperation_3 13 rfl rfl)
theorem dX4_readsOperation_85 : decode cX4_readsOperation 85 = .ok (.putfield 42, 3) := dk_181 0 42 (dk_at dksX4_readsOperation_3 14 rfl rfl)
theorem dX4_readsOperation_88 : decode cX4_readsOperation 88 = .ok (.aload_n 0, 1) := dk_42 (dk_at dksX4_readsOperation_3 17 rfl rfl)
theorem dX4_readsOperation_89 : decode cX4_readsOperation 89 = .ok (.getfield 45, 3) := dk_180 0 45 (dk_at dksX4_readsOperation_3 18 rfl rfl)
theorem dX4_readsOperation_92 : decode cX4_readsOperation 92 = .ok (.aload_n 0, 1) := dk_42 (dk_at dksX4_readsOperation_3 21 rfl rfl)
theorem dX4_readsOperation_93 : decode cX4_readsOperation 93 = .ok (.getfield 48, 3) := dk_180 0 48 (dk_at dksX4_readsOperation_4 0 rfl rfl)
theorem dX4_readsOperation_96 : decode cX4_readsOperation 96 = .ok (.iload_n 1, 1) := dk_27 (dk_at dksX4_readsOperation_4 3 rfl rfl)
theorem dX4_readsOperation_97 : decode cX4_readsOperation 97 = .ok (.iload_n 2, 1) := dk_28 (dk_at dksX4_readsOperation_4 4 rfl rfl)
theorem dX4_readsOperation_98 : decode cX4_readsOperation 98 = .ok (.iload_n 3, 1) := dk_29 (dk_at dksX4_readsOperation_4 5 rfl rfl)
theorem dX4_readsOperation_99 : decode cX4_readsOperation 99 = .ok (.invokestatic 166, 3) := dk_184 0 166 (dk_at dksX4_readsOperation_4 6 rfl rfl)
theorem dX4_readsOperation_102 : decode cX4_readsOperation 102 = .ok (.iastore, 1) := dk_79 (dk_at dksX4_readsOperation_4 9 rfl rfl)
theorem dX4_readsOperation_103 : decode cX4_readsOperation 103 = .ok (.aload_n 0, 1) := dk_42 (dk_at dksX4_readsOperation_4 10 rfl rfl)
theorem dX4_readsOperation_104 : decode cX4_readsOperation 104 = .ok (.dup, 1) := dk_89 (dk_at dksX4_readsOperation_4 11 rfl rfl)
theorem dX4_readsOperation_105 : decode cX4_readsOperation 105 = .ok (.getfield 48, 3) := dk_180 0 48 (dk_at dksX4_readsOperation_4 12 rfl rfl)
theorem dX4_readsOperation_108 : decode cX4_readsOperation 108 = .ok (.iconst 1, 1) := dk_4 (dk_at dksX4_readsOperation_4 15 rfl rfl)
theorem dX4_readsOperation_109 : decode cX4_readsOperation 109 = .ok (.iadd, 1) := dk_96 (dk_at dksX4_readsOperation_4 16 rfl rfl)
theorem dX4_readsOperation_110 : decode cX4_readsOperation 110 = .ok (.putfield 48, 3) := dk_181 0 48 (dk_at dksX4_readsOperation_4 17 rfl rfl)
theorem dX4_readsOperation_113 : decode cX4_readsOperation 113 = .ok (.iconst 1, 1) := dk_4 (dk_at dksX4_readsOperation_4 20 rfl rfl)
theorem dX4_readsOperation_114 : decode cX4_readsOperation 114 = .ok (.ireturn, 1) := dk_172 (dk_at dksX4_readsOperation_4 21 rfl rfl)
abbrev cX4_mark : ByteArray := prog_12_method_26_code
def yX4_mark : MethodName := ⟨RX4, "mark", "()I"⟩
def dkwX4_mark_1 : List UInt8 := [172]
abbrev dktX4_mark_1 : List UInt8 := dkwX4_mark_1 ++ []
def dkwX4_mark_0 : List UInt8 := [42, 180, 0, 42, 42, 180, 0, 39, 162, 0, 15, 42, 180, 0, 36, 42, 180, 0, 42, 46, 167, 0, 4, 2]
abbrev dktX4_mark_0 : List UInt8 := dkwX4_mark_0 ++ dktX4_mark_1
theorem dksX4_mark_0 : cX4_mark.data.toList.drop 0 = dktX4_mark_0 := by decide +kernel
theorem dksX4_mark_1 : cX4_mark.data.toList.drop 24 = dktX4_mark_1 := dk_seg dksX4_mark_0 24 rfl rfl
theorem dX4_mark_0 : decode cX4_mark 0 = .ok (.aload_n 0, 1) := dk_42 (dk_at dksX4_mark_0 0 rfl rfl)
theorem dX4_mark_1 : decode cX4_mark 1 = .ok (.getfield 42, 3) := dk_180 0 42 (dk_at dksX4_mark_0 1 rfl rfl)
theorem dX4_mark_4 : decode cX4_mark 4 = .ok (.aload_n 0, 1) := dk_42 (dk_at dksX4_mark_0 4 rfl rfl)
theorem dX4_mark_5 : decode cX4_mark 5 = .ok (.getfield 39, 3) := dk_180 0 39 (dk_at dksX4_mark_0 5 rfl rfl)
theorem dX4_mark_8 : decode cX4_mark 8 = .ok (.if_icmp .ge 15, 3) := dk_162 0 15 (dk_at dksX4_mark_0 8 rfl rfl)
theorem dX4_mark_11 : decode cX4_mark 11 = .ok (.aload_n 0, 1) := dk_42 (dk_at dksX4_mark_0 11 rfl rfl)
theorem dX4_mark_12 : decode cX4_mark 12 = .ok (.getfield 36, 3) := dk_180 0 36 (dk_at dksX4_mark_0 12 rfl rfl)
theorem dX4_mark_15 : decode cX4_mark 15 = .ok (.aload_n 0, 1) := dk_42 (dk_at dksX4_mark_0 15 rfl rfl)
theorem dX4_mark_16 : decode cX4_mark 16 = .ok (.getfield 42, 3) := dk_180 0 42 (dk_at dksX4_mark_0 16 rfl rfl)
theorem dX4_mark_19 : decode cX4_mark 19 = .ok (.iaload, 1) := dk_46 (dk_at dksX4_mark_0 19 rfl rfl)
theorem dX4_mark_20 : decode cX4_mark 20 = .ok (.goto 4, 3) := dk_167 0 4 (dk_at dksX4_mark_0 20 rfl rfl)
theorem dX4_mark_23 : decode cX4_mark 23 = .ok (.iconst (-1), 1) := dk_2 (dk_at dksX4_mark_0 23 rfl rfl)
theorem dX4_mark_24 : decode cX4_mark 24 = .ok (.ireturn, 1) := dk_172 (dk_at dksX4_mark_1 0 rfl rfl)
abbrev cX4_kindOfLetter : ByteArray := prog_12_method_27_code
def yX4_kindOfLetter : MethodName := ⟨RX4, "kindOfLetter", "(I)I"⟩
def dkwX4_kindOfLetter_1 : List UInt8 := [160, 0, 7, 5, 167, 0, 14, 26, 16, 120, 160, 0, 7, 6, 167, 0, 4, 2, 172]
abbrev dktX4_kindOfLetter_1 : List UInt8 := dkwX4_kindOfLetter_1 ++ []
def dkwX4_kindOfLetter_0 : List UInt8 := [26, 16, 114, 160, 0, 7, 3, 167, 0, 34, 26, 16, 119, 160, 0, 7, 4, 167, 0, 24, 26, 16, 99]
abbrev dktX4_kindOfLetter_0 : List UInt8 := dkwX4_kindOfLetter_0 ++ dktX4_kindOfLetter_1
theorem dksX4_kindOfLetter_0 : cX4_kindOfLetter.data.toList.drop 0 = dktX4_kindOfLetter_0 := by decide +kernel
theorem dksX4_kindOfLetter_1 : cX4_kindOfLetter.data.toList.drop 23 = dktX4_kindOfLetter_1 := dk_seg dksX4_kindOfLetter_0 23 rfl rfl
theorem dX4_kindOfLetter_0 : decode cX4_kindOfLetter 0 = .ok (.iload_n 0, 1) := dk_26 (dk_at dksX4_kindOfLetter_0 0 rfl rfl)
theorem dX4_kindOfLetter_1 : decode cX4_kindOfLetter 1 = .ok (.bipush 114, 2) := dk_16 114 (dk_at dksX4_kindOfLetter_0 1 rfl rfl)
theorem dX4_kindOfLetter_3 : decode cX4_kindOfLetter 3 = .ok (.if_icmp .ne 7, 3) := dk_160 0 7 (dk_at dksX4_kindOfLetter_0 3 rfl rfl)
theorem dX4_kindOfLetter_6 : decode cX4_kindOfLetter 6 = .ok (.iconst 0, 1) := dk_3 (dk_at dksX4_kindOfLetter_0 6 rfl rfl)
theorem dX4_kindOfLetter_7 : decode cX4_kindOfLetter 7 = .ok (.goto 34, 3) := dk_167 0 34 (dk_at dksX4_kindOfLetter_0 7 rfl rfl)
theorem dX4_kindOfLetter_10 : decode cX4_kindOfLetter 10 = .ok (.iload_n 0, 1) := dk_26 (dk_at dksX4_kindOfLetter_0 10 rfl rfl)
theorem dX4_kindOfLetter_11 : decode cX4_kindOfLetter 11 = .ok (.bipush 119, 2) := dk_16 119 (dk_at dksX4_kindOfLetter_0 11 rfl rfl)
theorem dX4_kindOfLetter_13 : decode cX4_kindOfLetter 13 = .ok (.if_icmp .ne 7, 3) := dk_160 0 7 (dk_at dksX4_kindOfLetter_0 13 rfl rfl)
theorem dX4_kindOfLetter_16 : decode cX4_kindOfLetter 16 = .ok (.iconst 1, 1) := dk_4 (dk_at dksX4_kindOfLetter_0 16 rfl rfl)
theorem dX4_kindOfLetter_17 : decode cX4_kindOfLetter 17 = .ok (.goto 24, 3) := dk_167 0 24 (dk_at dksX4_kindOfLetter_0 17 rfl rfl)
theorem dX4_kindOfLetter_20 : decode cX4_kindOfLetter 20 = .ok (.iload_n 0, 1) := dk_26 (dk_at dksX4_kindOfLetter_0 20 rfl rfl)
theorem dX4_kindOfLetter_21 : decode cX4_kindOfLetter 21 = .ok (.bipush 99, 2) := dk_16 99 (dk_at dksX4_kindOfLetter_0 21 rfl rfl)
theorem dX4_kindOfLetter_23 : decode cX4_kindOfLetter 23 = .ok (.if_icmp .ne 7, 3) := dk_160 0 7 (dk_at dksX4_kindOfLetter_1 0 rfl rfl)
theorem dX4_kindOfLetter_26 : decode cX4_kindOfLetter 26 = .ok (.iconst 2, 1) := dk_5 (dk_at dksX4_kindOfLetter_1 3 rfl rfl)
theorem dX4_kindOfLetter_27 : decode cX4_kindOfLetter 27 = .ok (.goto 14, 3) := dk_167 0 14 (dk_at dksX4_kindOfLetter_1 4 rfl rfl)
theorem dX4_kindOfLetter_30 : decode cX4_kindOfLetter 30 = .ok (.iload_n 0, 1) := dk_26 (dk_at dksX4_kindOfLetter_1 7 rfl rfl)
theorem dX4_kindOfLetter_31 : decode cX4_kindOfLetter 31 = .ok (.bipush 120, 2) := dk_16 120 (dk_at dksX4_kindOfLetter_1 8 rfl rfl)
theorem dX4_kindOfLetter_33 : decode cX4_kindOfLetter 33 = .ok (.if_icmp .ne 7, 3) := dk_160 0 7 (dk_at dksX4_kindOfLetter_1 10 rfl rfl)
theorem dX4_kindOfLetter_36 : decode cX4_kindOfLetter 36 = .ok (.iconst 3, 1) := dk_6 (dk_at dksX4_kindOfLetter_1 13 rfl rfl)
theorem dX4_kindOfLetter_37 : decode cX4_kindOfLetter 37 = .ok (.goto 4, 3) := dk_167 0 4 (dk_at dksX4_kindOfLetter_1 14 rfl rfl)
theorem dX4_kindOfLetter_40 : decode cX4_kindOfLetter 40 = .ok (.iconst (-1), 1) := dk_2 (dk_at dksX4_kindOfLetter_1 17 rfl rfl)
theorem dX4_kindOfLetter_41 : decode cX4_kindOfLetter 41 = .ok (.ireturn, 1) := dk_172 (dk_at dksX4_kindOfLetter_1 18 rfl rfl)
abbrev cX4_isTransaction : ByteArray := prog_12_method_11_code
def yX4_isTransaction : MethodName := ⟨RX4, "isTransaction", "(I)Z"⟩
def dkwX4_isTransaction_0 : List UInt8 := [26, 4, 8, 184, 0, 127, 172]
abbrev dktX4_isTransaction_0 : List UInt8 := dkwX4_isTransaction_0 ++ []
theorem dksX4_isTransaction_0 : cX4_isTransaction.data.toList.drop 0 = dktX4_isTransaction_0 := by decide +kernel
theorem dX4_isTransaction_0 : decode cX4_isTransaction 0 = .ok (.iload_n 0, 1) := dk_26 (dk_at dksX4_isTransaction_0 0 rfl rfl)
theorem dX4_isTransaction_1 : decode cX4_isTransaction 1 = .ok (.iconst 1, 1) := dk_4 (dk_at dksX4_isTransaction_0 1 rfl rfl)
theorem dX4_isTransaction_2 : decode cX4_isTransaction 2 = .ok (.iconst 5, 1) := dk_8 (dk_at dksX4_isTransaction_0 2 rfl rfl)
theorem dX4_isTransaction_3 : decode cX4_isTransaction 3 = .ok (.invokestatic 127, 3) := dk_184 0 127 (dk_at dksX4_isTransaction_0 3 rfl rfl)
theorem dX4_isTransaction_6 : decode cX4_isTransaction 6 = .ok (.ireturn, 1) := dk_172 (dk_at dksX4_isTransaction_0 6 rfl rfl)
abbrev cX4_isItem : ByteArray := prog_12_method_12_code
def yX4_isItem : MethodName := ⟨RX4, "isItem", "(I)Z"⟩
def dkwX4_isItem_0 : List UInt8 := [26, 16, 97, 16, 100, 184, 0, 127, 172]
abbrev dktX4_isItem_0 : List UInt8 := dkwX4_isItem_0 ++ []
theorem dksX4_isItem_0 : cX4_isItem.data.toList.drop 0 = dktX4_isItem_0 := by decide +kernel
theorem dX4_isItem_0 : decode cX4_isItem 0 = .ok (.iload_n 0, 1) := dk_26 (dk_at dksX4_isItem_0 0 rfl rfl)
theorem dX4_isItem_1 : decode cX4_isItem 1 = .ok (.bipush 97, 2) := dk_16 97 (dk_at dksX4_isItem_0 1 rfl rfl)
theorem dX4_isItem_3 : decode cX4_isItem 3 = .ok (.bipush 100, 2) := dk_16 100 (dk_at dksX4_isItem_0 3 rfl rfl)
theorem dX4_isItem_5 : decode cX4_isItem 5 = .ok (.invokestatic 127, 3) := dk_184 0 127 (dk_at dksX4_isItem_0 5 rfl rfl)
theorem dX4_isItem_8 : decode cX4_isItem 8 = .ok (.ireturn, 1) := dk_172 (dk_at dksX4_isItem_0 8 rfl rfl)
abbrev cX4_coded : ByteArray := prog_12_method_15_code
def yX4_coded : MethodName := ⟨RX4, "coded", "(III)I"⟩
def dkwX4_coded_0 : List UInt8 := [16, 100, 26, 104, 16, 10, 27, 104, 96, 28, 96, 172]
abbrev dktX4_coded_0 : List UInt8 := dkwX4_coded_0 ++ []
theorem dksX4_coded_0 : cX4_coded.data.toList.drop 0 = dktX4_coded_0 := by decide +kernel
theorem dX4_coded_0 : decode cX4_coded 0 = .ok (.bipush 100, 2) := dk_16 100 (dk_at dksX4_coded_0 0 rfl rfl)
theorem dX4_coded_2 : decode cX4_coded 2 = .ok (.iload_n 0, 1) := dk_26 (dk_at dksX4_coded_0 2 rfl rfl)
theorem dX4_coded_3 : decode cX4_coded 3 = .ok (.imul, 1) := dk_104 (dk_at dksX4_coded_0 3 rfl rfl)
theorem dX4_coded_4 : decode cX4_coded 4 = .ok (.bipush 10, 2) := dk_16 10 (dk_at dksX4_coded_0 4 rfl rfl)
theorem dX4_coded_6 : decode cX4_coded 6 = .ok (.iload_n 1, 1) := dk_27 (dk_at dksX4_coded_0 6 rfl rfl)
theorem dX4_coded_7 : decode cX4_coded 7 = .ok (.imul, 1) := dk_104 (dk_at dksX4_coded_0 7 rfl rfl)
theorem dX4_coded_8 : decode cX4_coded 8 = .ok (.iadd, 1) := dk_96 (dk_at dksX4_coded_0 8 rfl rfl)
theorem dX4_coded_9 : decode cX4_coded 9 = .ok (.iload_n 2, 1) := dk_28 (dk_at dksX4_coded_0 9 rfl rfl)
theorem dX4_coded_10 : decode cX4_coded 10 = .ok (.iadd, 1) := dk_96 (dk_at dksX4_coded_0 10 rfl rfl)
theorem dX4_coded_11 : decode cX4_coded 11 = .ok (.ireturn, 1) := dk_172 (dk_at dksX4_coded_0 11 rfl rfl)
abbrev cX4_isNoSchedule : ByteArray := prog_12_method_31_code
def yX4_isNoSchedule : MethodName := ⟨RX4, "isNoSchedule", "()Z"⟩
def dkwX4_isNoSchedule_3 : List UInt8 := [167, 0, 4, 3, 172]
abbrev dktX4_isNoSchedule_3 : List UInt8 := dkwX4_isNoSchedule_3 ++ []
def dkwX4_isNoSchedule_2 : List UInt8 := [167, 0, 4, 3, 128, 60, 132, 2, 1, 167, 255, 204, 42, 180, 0, 48, 16, 20, 164, 0, 7, 4]
abbrev dktX4_isNoSchedule_2 : List UInt8 := dkwX4_isNoSchedule_2 ++ dktX4_isNoSchedule_3
def dkwX4_isNoSchedule_1 : List UInt8 := [27, 29, 126, 153, 0, 5, 4, 172, 27, 42, 180, 0, 45, 28, 46, 184, 0, 146, 5, 161, 0, 7, 29]
abbrev dktX4_isNoSchedule_1 : List UInt8 := dkwX4_isNoSchedule_1 ++ dktX4_isNoSchedule_2
def dkwX4_isNoSchedule_0 : List UInt8 := [3, 60, 3, 61, 28, 42, 180, 0, 48, 162, 0, 50, 4, 42, 180, 0, 45, 28, 46, 184, 0, 143, 120, 62]
abbrev dktX4_isNoSchedule_0 : List UInt8 := dkwX4_isNoSchedule_0 ++ dktX4_isNoSchedule_1
theorem dksX4_isNoSchedule_0 : cX4_isNoSchedule.data.toList.drop 0 = dktX4_isNoSchedule_0 := by decide +kernel
theorem dksX4_isNoSchedule_1 : cX4_isNoSchedule.data.toList.drop 24 = dktX4_isNoSchedule_1 := dk_seg dksX4_isNoSchedule_0 24 rfl rfl
theorem dksX4_isNoSchedule_2 : cX4_isNoSchedule.data.toList.drop 47 = dktX4_isNoSchedule_2 := dk_seg dksX4_isNoSchedule_1 23 rfl rfl
theorem dksX4_isNoSchedule_3 : cX4_isNoSchedule.data.toList.drop 69 = dktX4_isNoSchedule_3 := dk_seg dksX4_isNoSchedule_2 22 rfl rfl
theorem dX4_isNoSchedule_0 : decode cX4_isNoSchedule 0 = .ok (.iconst 0, 1) := dk_3 (dk_at dksX4_isNoSchedule_0 0 rfl rfl)
theorem dX4_isNoSchedule_1 : decode cX4_isNoSchedule 1 = .ok (.istore_n 1, 1) := dk_60 (dk_at dksX4_isNoSchedule_0 1 rfl rfl)
theorem dX4_isNoSchedule_2 : decode cX4_isNoSchedule 2 = .ok (.iconst 0, 1) := dk_3 (dk_at dksX4_isNoSchedule_0 2 rfl rfl)
theorem dX4_isNoSchedule_3 : decode cX4_isNoSchedule 3 = .ok (.istore_n 2, 1) := dk_61 (dk_at dksX4_isNoSchedule_0 3 rfl rfl)
theorem dX4_isNoSchedule_4 : decode cX4_isNoSchedule 4 = .ok (.iload_n 2, 1) := dk_28 (dk_at dksX4_isNoSchedule_0 4 rfl rfl)
theorem dX4_isNoSchedule_5 : decode cX4_isNoSchedule 5 = .ok (.aload_n 0, 1) := dk_42 (dk_at dksX4_isNoSchedule_0 5 rfl rfl)
theorem dX4_isNoSchedule_6 : decode cX4_isNoSchedule 6 = .ok (.getfield 48, 3) := dk_180 0 48 (dk_at dksX4_isNoSchedule_0 6 rfl rfl)
theorem dX4_isNoSchedule_9 : decode cX4_isNoSchedule 9 = .ok (.if_icmp .ge 50, 3) := dk_162 0 50 (dk_at dksX4_isNoSchedule_0 9 rfl rfl)
theorem dX4_isNoSchedule_12 : decode cX4_isNoSchedule 12 = .ok (.iconst 1, 1) := dk_4 (dk_at dksX4_isNoSchedule_0 12 rfl rfl)
theorem dX4_isNoSchedule_13 : decode cX4_isNoSchedule 13 = .ok (.aload_n 0, 1) := dk_42 (dk_at dksX4_isNoSchedule_0 13 rfl rfl)
theorem dX4_isNoSchedule_14 : decode cX4_isNoSchedule 14 = .ok (.getfield 45, 3) := dk_180 0 45 (dk_at dksX4_isNoSchedule_0 14 rfl rfl)
theorem dX4_isNoSchedule_17 : decode cX4_isNoSchedule 17 = .ok (.iload_n 2, 1) := dk_28 (dk_at dksX4_isNoSchedule_0 17 rfl rfl)
theorem dX4_isNoSchedule_18 : decode cX4_isNoSchedule 18 = .ok (.iaload, 1) := dk_46 (dk_at dksX4_isNoSchedule_0 18 rfl rfl)
theorem dX4_isNoSchedule_19 : decode cX4_isNoSchedule 19 = .ok (.invokestatic 143, 3) := dk_184 0 143 (dk_at dksX4_isNoSchedule_0 19 rfl rfl)
theorem dX4_isNoSchedule_22 : decode cX4_isNoSchedule 22 = .ok (.ishl, 1) := dk_120 (dk_at dksX4_isNoSchedule_0 22 rfl rfl)
theorem dX4_isNoSchedule_23 : decode cX4_isNoSchedule 23 = .ok (.istore_n 3, 1) := dk_62 (dk_at dksX4_isNoSchedule_0 23 rfl rfl)
theorem dX4_isNoSchedule_24 : decode cX4_isNoSchedule 24 = .ok (.iload_n 1, 1) := dk_27 (dk_at dksX4_isNoSchedule_1 0 rfl rfl)
theorem dX4_isNoSchedule_25 : decode cX4_isNoSchedule 25 = .ok (.iload_n 3, 1) := dk_29 (dk_at dksX4_isNoSchedule_1 1 rfl rfl)
theorem dX4_isNoSchedule_26 : decode cX4_isNoSchedule 26 = .ok (.iand, 1) := dk_126 (dk_at dksX4_isNoSchedule_1 2 rfl rfl)
theorem dX4_isNoSchedule_27 : decode cX4_isNoSchedule 27 = .ok (.ifCond .eq 5, 3) := dk_153 0 5 (dk_at dksX4_isNoSchedule_1 3 rfl rfl)
theorem dX4_isNoSchedule_30 : decode cX4_isNoSchedule 30 = .ok (.iconst 1, 1) := dk_4 (dk_at dksX4_isNoSchedule_1 6 rfl rfl)
theorem dX4_isNoSchedule_31 : decode cX4_isNoSchedule 31 = .ok (.ireturn, 1) := dk_172 (dk_at dksX4_isNoSchedule_1 7 rfl rfl)
theorem dX4_isNoSchedule_32 : decode cX4_isNoSchedule 32 = .ok (.iload_n 1, 1) := dk_27 (dk_at dksX4_isNoSchedule_1 8 rfl rfl)
theorem dX4_isNoSchedule_33 : decode cX4_isNoSchedule 33 = .ok (.aload_n 0, 1) := dk_42 (dk_at dksX4_isNoSchedule_1 9 rfl rfl)
theorem dX4_isNoSchedule_34 : decode cX4_isNoSchedule 34 = .ok (.getfield 45, 3) := dk_180 0 45 (dk_at dksX4_isNoSchedule_1 10 rfl rfl)
theorem dX4_isNoSchedule_37 : decode cX4_isNoSchedule 37 = .ok (.iload_n 2, 1) := dk_28 (dk_at dksX4_isNoSchedule_1 13 rfl rfl)
theorem dX4_isNoSchedule_38 : decode cX4_isNoSchedule 38 = .ok (.iaload, 1) := dk_46 (dk_at dksX4_isNoSchedule_1 14 rfl rfl)
theorem dX4_isNoSchedule_39 : decode cX4_isNoSchedule 39 = .ok (.invokestatic 146, 3) := dk_184 0 146 (dk_at dksX4_isNoSchedule_1 15 rfl rfl)
theorem dX4_isNoSchedule_42 : decode cX4_isNoSchedule 42 = .ok (.iconst 2, 1) := dk_5 (dk_at dksX4_isNoSchedule_1 18 rfl rfl)
theorem dX4_isNoSchedule_43 : decode cX4_isNoSchedule 43 = .ok (.if_icmp .lt 7, 3) := dk_161 0 7 (dk_at dksX4_isNoSchedule_1 19 rfl rfl)
theorem dX4_isNoSchedule_46 : decode cX4_isNoSchedule 46 = .ok (.iload_n 3, 1) := dk_29 (dk_at dksX4_isNoSchedule_1 22 rfl rfl)
theorem dX4_isNoSchedule_47 : decode cX4_isNoSchedule 47 = .ok (.goto 4, 3) := dk_167 0 4 (dk_at dksX4_isNoSchedule_2 0 rfl rfl)
theorem dX4_isNoSchedule_50 : decode cX4_isNoSchedule 50 = .ok (.iconst 0, 1) := dk_3 (dk_at dksX4_isNoSchedule_2 3 rfl rfl)
theorem dX4_isNoSchedule_51 : decode cX4_isNoSchedule 51 = .ok (.ior, 1) := dk_128 (dk_at dksX4_isNoSchedule_2 4 rfl rfl)
theorem dX4_isNoSchedule_52 : decode cX4_isNoSchedule 52 = .ok (.istore_n 1, 1) := dk_60 (dk_at dksX4_isNoSchedule_2 5 rfl rfl)
theorem dX4_isNoSchedule_53 : decode cX4_isNoSchedule 53 = .ok (.iinc 2 1, 3) := dk_132 2 1 (dk_at dksX4_isNoSchedule_2 6 rfl rfl)
theorem dX4_isNoSchedule_56 : decode cX4_isNoSchedule 56 = .ok (.goto (-52), 3) := dk_167 255 204 (dk_at dksX4_isNoSchedule_2 9 rfl rfl)
theorem dX4_isNoSchedule_59 : decode cX4_isNoSchedule 59 = .ok (.aload_n 0, 1) := dk_42 (dk_at dksX4_isNoSchedule_2 12 rfl rfl)
theorem dX4_isNoSchedule_60 : decode cX4_isNoSchedule 60 = .ok (.getfield 48, 3) := dk_180 0 48 (dk_at dksX4_isNoSchedule_2 13 rfl rfl)
theorem dX4_isNoSchedule_63 : decode cX4_isNoSchedule 63 = .ok (.bipush 20, 2) := dk_16 20 (dk_at dksX4_isNoSchedule_2 16 rfl rfl)
theorem dX4_isNoSchedule_65 : decode cX4_isNoSchedule 65 = .ok (.if_icmp .le 7, 3) := dk_164 0 7 (dk_at dksX4_isNoSchedule_2 18 rfl rfl)
theorem dX4_isNoSchedule_68 : decode cX4_isNoSchedule 68 = .ok (.iconst 1, 1) := dk_4 (dk_at dksX4_isNoSchedule_2 21 rfl rfl)
theorem dX4_isNoSchedule_69 : decode cX4_isNoSchedule 69 = .ok (.goto 4, 3) := dk_167 0 4 (dk_at dksX4_isNoSchedule_3 0 rfl rfl)
theorem dX4_isNoSchedule_72 : decode cX4_isNoSchedule 72 = .ok (.iconst 0, 1) := dk_3 (dk_at dksX4_isNoSchedule_3 3 rfl rfl)
theorem dX4_isNoSchedule_73 : decode cX4_isNoSchedule 73 = .ok (.ireturn, 1) := dk_172 (dk_at dksX4_isNoSchedule_3 4 rfl rfl)
abbrev cX4_transactionOf : ByteArray := prog_12_method_17_code
def yX4_transactionOf : MethodName := ⟨RX4, "transactionOf", "(I)I"⟩
def dkwX4_transactionOf_0 : List UInt8 := [26, 16, 10, 108, 16, 10, 112, 172]
abbrev dktX4_transactionOf_0 : List UInt8 := dkwX4_transactionOf_0 ++ []
theorem dksX4_transactionOf_0 : cX4_transactionOf.data.toList.drop 0 = dktX4_transactionOf_0 := by decide +kernel
theorem dX4_transactionOf_0 : decode cX4_transactionOf 0 = .ok (.iload_n 0, 1) := dk_26 (dk_at dksX4_transactionOf_0 0 rfl rfl)
theorem dX4_transactionOf_1 : decode cX4_transactionOf 1 = .ok (.bipush 10, 2) := dk_16 10 (dk_at dksX4_transactionOf_0 1 rfl rfl)
theorem dX4_transactionOf_3 : decode cX4_transactionOf 3 = .ok (.idiv, 1) := dk_108 (dk_at dksX4_transactionOf_0 3 rfl rfl)
theorem dX4_transactionOf_4 : decode cX4_transactionOf 4 = .ok (.bipush 10, 2) := dk_16 10 (dk_at dksX4_transactionOf_0 4 rfl rfl)
theorem dX4_transactionOf_6 : decode cX4_transactionOf 6 = .ok (.irem, 1) := dk_112 (dk_at dksX4_transactionOf_0 6 rfl rfl)
theorem dX4_transactionOf_7 : decode cX4_transactionOf 7 = .ok (.ireturn, 1) := dk_172 (dk_at dksX4_transactionOf_0 7 rfl rfl)
abbrev cX4_kindOf : ByteArray := prog_12_method_16_code
def yX4_kindOf : MethodName := ⟨RX4, "kindOf", "(I)I"⟩
def dkwX4_kindOf_0 : List UInt8 := [26, 16, 100, 108, 172]
abbrev dktX4_kindOf_0 : List UInt8 := dkwX4_kindOf_0 ++ []
theorem dksX4_kindOf_0 : cX4_kindOf.data.toList.drop 0 = dktX4_kindOf_0 := by decide +kernel
theorem dX4_kindOf_0 : decode cX4_kindOf 0 = .ok (.iload_n 0, 1) := dk_26 (dk_at dksX4_kindOf_0 0 rfl rfl)
theorem dX4_kindOf_1 : decode cX4_kindOf 1 = .ok (.bipush 100, 2) := dk_16 100 (dk_at dksX4_kindOf_0 1 rfl rfl)
theorem dX4_kindOf_3 : decode cX4_kindOf 3 = .ok (.idiv, 1) := dk_108 (dk_at dksX4_kindOf_0 3 rfl rfl)
theorem dX4_kindOf_4 : decode cX4_kindOf 4 = .ok (.ireturn, 1) := dk_172 (dk_at dksX4_kindOf_0 4 rfl rfl)
abbrev cX4_writes : ByteArray := prog_12_method_32_code
def yX4_writes : MethodName := ⟨RX4, "writes", "(I)I"⟩
def dkwX4_writes_1 : List UInt8 := [42, 180, 0, 45, 29, 46, 182, 0, 174, 61, 132, 3, 1, 167, 255, 233, 42, 180, 0, 48, 172]
abbrev dktX4_writes_1 : List UInt8 := dkwX4_writes_1 ++ []
def dkwX4_writes_0 : List UInt8 := [42, 180, 0, 7, 16, 21, 27, 104, 3, 79, 3, 61, 3, 62, 29, 42, 180, 0, 48, 162, 0, 21, 42, 27]
abbrev dktX4_writes_0 : List UInt8 := dkwX4_writes_0 ++ dktX4_writes_1
theorem dksX4_writes_0 : cX4_writes.data.toList.drop 0 = dktX4_writes_0 := by decide +kernel
theorem dksX4_writes_1 : cX4_writes.data.toList.drop 24 = dktX4_writes_1 := dk_seg dksX4_writes_0 24 rfl rfl
theorem dX4_writes_0 : decode cX4_writes 0 = .ok (.aload_n 0, 1) := dk_42 (dk_at dksX4_writes_0 0 rfl rfl)
theorem dX4_writes_1 : decode cX4_writes 1 = .ok (.getfield 7, 3) := dk_180 0 7 (dk_at dksX4_writes_0 1 rfl rfl)
theorem dX4_writes_4 : decode cX4_writes 4 = .ok (.bipush 21, 2) := dk_16 21 (dk_at dksX4_writes_0 4 rfl rfl)
theorem dX4_writes_6 : decode cX4_writes 6 = .ok (.iload_n 1, 1) := dk_27 (dk_at dksX4_writes_0 6 rfl rfl)
theorem dX4_writes_7 : decode cX4_writes 7 = .ok (.imul, 1) := dk_104 (dk_at dksX4_writes_0 7 rfl rfl)
theorem dX4_writes_8 : decode cX4_writes 8 = .ok (.iconst 0, 1) := dk_3 (dk_at dksX4_writes_0 8 rfl rfl)
theorem dX4_writes_9 : decode cX4_writes 9 = .ok (.iastore, 1) := dk_79 (dk_at dksX4_writes_0 9 rfl rfl)
theorem dX4_writes_10 : decode cX4_writes 10 = .ok (.iconst 0, 1) := dk_3 (dk_at dksX4_writes_0 10 rfl rfl)
theorem dX4_writes_11 : decode cX4_writes 11 = .ok (.istore_n 2, 1) := dk_61 (dk_at dksX4_writes_0 11 rfl rfl)
theorem dX4_writes_12 : decode cX4_writes 12 = .ok (.iconst 0, 1) := dk_3 (dk_at dksX4_writes_0 12 rfl rfl)
theorem dX4_writes_13 : decode cX4_writes 13 = .ok (.istore_n 3, 1) := dk_62 (dk_at dksX4_writes_0 13 rfl rfl)
theorem dX4_writes_14 : decode cX4_writes 14 = .ok (.iload_n 3, 1) := dk_29 (dk_at dksX4_writes_0 14 rfl rfl)
theorem dX4_writes_15 : decode cX4_writes 15 = .ok (.aload_n 0, 1) := dk_42 (dk_at dksX4_writes_0 15 rfl rfl)
theorem dX4_writes_16 : decode cX4_writes 16 = .ok (.getfield 48, 3) := dk_180 0 48 (dk_at dksX4_writes_0 16 rfl rfl)
theorem dX4_writes_19 : decode cX4_writes 19 = .ok (.if_icmp .ge 21, 3) := dk_162 0 21 (dk_at dksX4_writes_0 19 rfl rfl)
theorem dX4_writes_22 : decode cX4_writes 22 = .ok (.aload_n 0, 1) := dk_42 (dk_at dksX4_writes_0 22 rfl rfl)
theorem dX4_writes_23 : decode cX4_writes 23 = .ok (.iload_n 1, 1) := dk_27 (dk_at dksX4_writes_0 23 rfl rfl)
theorem dX4_writes_24 : decode cX4_writes 24 = .ok (.aload_n 0, 1) := dk_42 (dk_at dksX4_writes_1 0 rfl rfl)
theorem dX4_writes_25 : decode cX4_writes 25 = .ok (.getfield 45, 3) := dk_180 0 45 (dk_at dksX4_writes_1 1 rfl rfl)
theorem dX4_writes_28 : decode cX4_writes 28 = .ok (.iload_n 3, 1) := dk_29 (dk_at dksX4_writes_1 4 rfl rfl)
theorem dX4_writes_29 : decode cX4_writes 29 = .ok (.iaload, 1) := dk_46 (dk_at dksX4_writes_1 5 rfl rfl)
theorem dX4_writes_30 : decode cX4_writes 30 = .ok (.invokevirtual 174, 3) := dk_182 0 174 (dk_at dksX4_writes_1 6 rfl rfl)
theorem dX4_writes_33 : decode cX4_writes 33 = .ok (.istore_n 2, 1) := dk_61 (dk_at dksX4_writes_1 9 rfl rfl)
theorem dX4_writes_34 : decode cX4_writes 34 = .ok (.iinc 3 1, 3) := dk_132 3 1 (dk_at dksX4_writes_1 10 rfl rfl)
theorem dX4_writes_37 : decode cX4_writes 37 = .ok (.goto (-23), 3) := dk_167 255 233 (dk_at dksX4_writes_1 13 rfl rfl)
theorem dX4_writes_40 : decode cX4_writes 40 = .ok (.aload_n 0, 1) := dk_42 (dk_at dksX4_writes_1 16 rfl rfl)
theorem dX4_writes_41 : decode cX4_writes 41 = .ok (.getfield 48, 3) := dk_180 0 48 (dk_at dksX4_writes_1 17 rfl rfl)
theorem dX4_writes_44 : decode cX4_writes 44 = .ok (.ireturn, 1) := dk_172 (dk_at dksX4_writes_1 20 rfl rfl)
abbrev cX4_adds : ByteArray := prog_12_method_22_code
def yX4_adds : MethodName := ⟨RX4, "adds", "(II)I"⟩
def dkwX4_adds_1 : List UInt8 := [27, 104, 92, 46, 4, 96, 79, 42, 27, 182, 0, 135, 172]
abbrev dktX4_adds_1 : List UInt8 := dkwX4_adds_1 ++ []
def dkwX4_adds_0 : List UInt8 := [42, 180, 0, 7, 16, 21, 27, 104, 4, 96, 42, 27, 182, 0, 135, 96, 28, 79, 42, 180, 0, 7, 16, 21]
abbrev dktX4_adds_0 : List UInt8 := dkwX4_adds_0 ++ dktX4_adds_1
theorem dksX4_adds_0 : cX4_adds.data.toList.drop 0 = dktX4_adds_0 := by decide +kernel
theorem dksX4_adds_1 : cX4_adds.data.toList.drop 24 = dktX4_adds_1 := dk_seg dksX4_adds_0 24 rfl rfl
theorem dX4_adds_0 : decode cX4_adds 0 = .ok (.aload_n 0, 1) := dk_42 (dk_at dksX4_adds_0 0 rfl rfl)
theorem dX4_adds_1 : decode cX4_adds 1 = .ok (.getfield 7, 3) := dk_180 0 7 (dk_at dksX4_adds_0 1 rfl rfl)
theorem dX4_adds_4 : decode cX4_adds 4 = .ok (.bipush 21, 2) := dk_16 21 (dk_at dksX4_adds_0 4 rfl rfl)
theorem dX4_adds_6 : decode cX4_adds 6 = .ok (.iload_n 1, 1) := dk_27 (dk_at dksX4_adds_0 6 rfl rfl)
theorem dX4_adds_7 : decode cX4_adds 7 = .ok (.imul, 1) := dk_104 (dk_at dksX4_adds_0 7 rfl rfl)
theorem dX4_adds_8 : decode cX4_adds 8 = .ok (.iconst 1, 1) := dk_4 (dk_at dksX4_adds_0 8 rfl rfl)
theorem dX4_adds_9 : decode cX4_adds 9 = .ok (.iadd, 1) := dk_96 (dk_at dksX4_adds_0 9 rfl rfl)
theorem dX4_adds_10 : decode cX4_adds 10 = .ok (.aload_n 0, 1) := dk_42 (dk_at dksX4_adds_0 10 rfl rfl)
theorem dX4_adds_11 : decode cX4_adds 11 = .ok (.iload_n 1, 1) := dk_27 (dk_at dksX4_adds_0 11 rfl rfl)
theorem dX4_adds_12 : decode cX4_adds 12 = .ok (.invokevirtual 135, 3) := dk_182 0 135 (dk_at dksX4_adds_0 12 rfl rfl)
theorem dX4_adds_15 : decode cX4_adds 15 = .ok (.iadd, 1) := dk_96 (dk_at dksX4_adds_0 15 rfl rfl)
theorem dX4_adds_16 : decode cX4_adds 16 = .ok (.iload_n 2, 1) := dk_28 (dk_at dksX4_adds_0 16 rfl rfl)
theorem dX4_adds_17 : decode cX4_adds 17 = .ok (.iastore, 1) := dk_79 (dk_at dksX4_adds_0 17 rfl rfl)
theorem dX4_adds_18 : decode cX4_adds 18 = .ok (.aload_n 0, 1) := dk_42 (dk_at dksX4_adds_0 18 rfl rfl)
theorem dX4_adds_19 : decode cX4_adds 19 = .ok (.getfield 7, 3) := dk_180 0 7 (dk_at dksX4_adds_0 19 rfl rfl)
theorem dX4_adds_22 : decode cX4_adds 22 = .ok (.bipush 21, 2) := dk_16 21 (dk_at dksX4_adds_0 22 rfl rfl)
theorem dX4_adds_24 : decode cX4_adds 24 = .ok (.iload_n 1, 1) := dk_27 (dk_at dksX4_adds_1 0 rfl rfl)
theorem dX4_adds_25 : decode cX4_adds 25 = .ok (.imul, 1) := dk_104 (dk_at dksX4_adds_1 1 rfl rfl)
theorem dX4_adds_26 : decode cX4_adds 26 = .ok (.dup2, 1) := dk_92 (dk_at dksX4_adds_1 2 rfl rfl)
theorem dX4_adds_27 : decode cX4_adds 27 = .ok (.iaload, 1) := dk_46 (dk_at dksX4_adds_1 3 rfl rfl)
theorem dX4_adds_28 : decode cX4_adds 28 = .ok (.iconst 1, 1) := dk_4 (dk_at dksX4_adds_1 4 rfl rfl)
theorem dX4_adds_29 : decode cX4_adds 29 = .ok (.iadd, 1) := dk_96 (dk_at dksX4_adds_1 5 rfl rfl)
theorem dX4_adds_30 : decode cX4_adds 30 = .ok (.iastore, 1) := dk_79 (dk_at dksX4_adds_1 6 rfl rfl)
theorem dX4_adds_31 : decode cX4_adds 31 = .ok (.aload_n 0, 1) := dk_42 (dk_at dksX4_adds_1 7 rfl rfl)
theorem dX4_adds_32 : decode cX4_adds 32 = .ok (.iload_n 1, 1) := dk_27 (dk_at dksX4_adds_1 8 rfl rfl)
theorem dX4_adds_33 : decode cX4_adds 33 = .ok (.invokevirtual 135, 3) := dk_182 0 135 (dk_at dksX4_adds_1 9 rfl rfl)
theorem dX4_adds_36 : decode cX4_adds 36 = .ok (.ireturn, 1) := dk_172 (dk_at dksX4_adds_1 12 rfl rfl)
abbrev cX4_count : ByteArray := prog_12_method_13_code
def yX4_count : MethodName := ⟨RX4, "count", "(I)I"⟩
def dkwX4_count_0 : List UInt8 := [42, 180, 0, 7, 16, 21, 27, 104, 46, 172]
abbrev dktX4_count_0 : List UInt8 := dkwX4_count_0 ++ []
theorem dksX4_count_0 : cX4_count.data.toList.drop 0 = dktX4_count_0 := by decide +kernel
theorem dX4_count_0 : decode cX4_count 0 = .ok (.aload_n 0, 1) := dk_42 (dk_at dksX4_count_0 0 rfl rfl)
theorem dX4_count_1 : decode cX4_count 1 = .ok (.getfield 7, 3) := dk_180 0 7 (dk_at dksX4_count_0 1 rfl rfl)
theorem dX4_count_4 : decode cX4_count 4 = .ok (.bipush 21, 2) := dk_16 21 (dk_at dksX4_count_0 4 rfl rfl)
theorem dX4_count_6 : decode cX4_count 6 = .ok (.iload_n 1, 1) := dk_27 (dk_at dksX4_count_0 6 rfl rfl)
theorem dX4_count_7 : decode cX4_count 7 = .ok (.imul, 1) := dk_104 (dk_at dksX4_count_0 7 rfl rfl)
theorem dX4_count_8 : decode cX4_count 8 = .ok (.iaload, 1) := dk_46 (dk_at dksX4_count_0 8 rfl rfl)
theorem dX4_count_9 : decode cX4_count 9 = .ok (.ireturn, 1) := dk_172 (dk_at dksX4_count_0 9 rfl rfl)
abbrev cX4_commit : ByteArray := prog_12_method_7_code
def yX4_commit : MethodName := ⟨RX4, "commit", "(I)I"⟩
def dkwX4_commit_3 : List UInt8 := [184, 0, 123, 42, 89, 180, 0, 26, 4, 96, 181, 0, 26, 27, 172]
abbrev dktX4_commit_3 : List UInt8 := dkwX4_commit_3 ++ []
def dkwX4_commit_2 : List UInt8 := [180, 0, 26, 4, 100, 181, 0, 26, 42, 180, 0, 13, 3, 42, 180, 0, 19, 16, 88, 42, 180, 0, 26, 104]
abbrev dktX4_commit_2 : List UInt8 := dkwX4_commit_2 ++ dktX4_commit_3
def dkwX4_commit_1 : List UInt8 := [104, 42, 180, 0, 19, 16, 88, 28, 4, 100, 104, 184, 0, 123, 132, 2, 1, 167, 255, 226, 42, 89]
abbrev dktX4_commit_1 : List UInt8 := dkwX4_commit_1 ++ dktX4_commit_2
def dkwX4_commit_0 : List UInt8 := [42, 180, 0, 26, 16, 8, 160, 0, 48, 4, 61, 28, 16, 8, 162, 0, 30, 42, 180, 0, 19, 16, 88, 28]
abbrev dktX4_commit_0 : List UInt8 := dkwX4_commit_0 ++ dktX4_commit_1
theorem dksX4_commit_0 : cX4_commit.data.toList.drop 0 = dktX4_commit_0 := by decide +kernel
theorem dksX4_commit_1 : cX4_commit.data.toList.drop 24 = dktX4_commit_1 := dk_seg dksX4_commit_0 24 rfl rfl
theorem dksX4_commit_2 : cX4_commit.data.toList.drop 46 = dktX4_commit_2 := dk_seg dksX4_commit_1 22 rfl rfl
theorem dksX4_commit_3 : cX4_commit.data.toList.drop 70 = dktX4_commit_3 := dk_seg dksX4_commit_2 24 rfl rfl
theorem dX4_commit_0 : decode cX4_commit 0 = .ok (.aload_n 0, 1) := dk_42 (dk_at dksX4_commit_0 0 rfl rfl)
theorem dX4_commit_1 : decode cX4_commit 1 = .ok (.getfield 26, 3) := dk_180 0 26 (dk_at dksX4_commit_0 1 rfl rfl)
theorem dX4_commit_4 : decode cX4_commit 4 = .ok (.bipush 8, 2) := dk_16 8 (dk_at dksX4_commit_0 4 rfl rfl)
theorem dX4_commit_6 : decode cX4_commit 6 = .ok (.if_icmp .ne 48, 3) := dk_160 0 48 (dk_at dksX4_commit_0 6 rfl rfl)
theorem dX4_commit_9 : decode cX4_commit 9 = .ok (.iconst 1, 1) := dk_4 (dk_at dksX4_commit_0 9 rfl rfl)
theorem dX4_commit_10 : decode cX4_commit 10 = .ok (.istore_n 2, 1) := dk_61 (dk_at dksX4_commit_0 10 rfl rfl)
theorem dX4_commit_11 : decode cX4_commit 11 = .ok (.iload_n 2, 1) := dk_28 (dk_at dksX4_commit_0 11 rfl rfl)
theorem dX4_commit_12 : decode cX4_commit 12 = .ok (.bipush 8, 2) := dk_16 8 (dk_at dksX4_commit_0 12 rfl rfl)
theorem dX4_commit_14 : decode cX4_commit 14 = .ok (.if_icmp .ge 30, 3) := dk_162 0 30 (dk_at dksX4_commit_0 14 rfl rfl)
theorem dX4_commit_17 : decode cX4_commit 17 = .ok (.aload_n 0, 1) := dk_42 (dk_at dksX4_commit_0 17 rfl rfl)
theorem dX4_commit_18 : decode cX4_commit 18 = .ok (.getfield 19, 3) := dk_180 0 19 (dk_at dksX4_commit_0 18 rfl rfl)
theorem dX4_commit_21 : decode cX4_commit 21 = .ok (.bipush 88, 2) := dk_16 88 (dk_at dksX4_commit_0 21 rfl rfl)
theorem dX4_commit_23 : decode cX4_commit 23 = .ok (.iload_n 2, 1) := dk_28 (dk_at dksX4_commit_0 23 rfl rfl)
theorem dX4_commit_24 : decode cX4_commit 24 = .ok (.imul, 1) := dk_104 (dk_at dksX4_commit_1 0 rfl rfl)
theorem dX4_commit_25 : decode cX4_commit 25 = .ok (.aload_n 0, 1) := dk_42 (dk_at dksX4_commit_1 1 rfl rfl)
theorem dX4_commit_26 : decode cX4_commit 26 = .ok (.getfield 19, 3) := dk_180 0 19 (dk_at dksX4_commit_1 2 rfl rfl)
theorem dX4_commit_29 : decode cX4_commit 29 = .ok (.bipush 88, 2) := dk_16 88 (dk_at dksX4_commit_1 5 rfl rfl)
theorem dX4_commit_31 : decode cX4_commit 31 = .ok (.iload_n 2, 1) := dk_28 (dk_at dksX4_commit_1 7 rfl rfl)
theorem dX4_commit_32 : decode cX4_commit 32 = .ok (.iconst 1, 1) := dk_4 (dk_at dksX4_commit_1 8 rfl rfl)
theorem dX4_commit_33 : decode cX4_commit 33 = .ok (.isub, 1) := dk_100 (dk_at dksX4_commit_1 9 rfl rfl)
theorem dX4_commit_34 : decode cX4_commit 34 = .ok (.imul, 1) := dk_104 (dk_at dksX4_commit_1 10 rfl rfl)
theorem dX4_commit_35 : decode cX4_commit 35 = .ok (.invokestatic 123, 3) := dk_184 0 123 (dk_at dksX4_commit_1 11 rfl rfl)
theorem dX4_commit_38 : decode cX4_commit 38 = .ok (.iinc 2 1, 3) := dk_132 2 1 (dk_at dksX4_commit_1 14 rfl rfl)
theorem dX4_commit_41 : decode cX4_commit 41 = .ok (.goto (-30), 3) := dk_167 255 226 (dk_at dksX4_commit_1 17 rfl rfl)
theorem dX4_commit_44 : decode cX4_commit 44 = .ok (.aload_n 0, 1) := dk_42 (dk_at dksX4_commit_1 20 rfl rfl)
theorem dX4_commit_45 : decode cX4_commit 45 = .ok (.dup, 1) := dk_89 (dk_at dksX4_commit_1 21 rfl rfl)
theorem dX4_commit_46 : decode cX4_commit 46 = .ok (.getfield 26, 3) := dk_180 0 26 (dk_at dksX4_commit_2 0 rfl rfl)
theorem dX4_commit_49 : decode cX4_commit 49 = .ok (.iconst 1, 1) := dk_4 (dk_at dksX4_commit_2 3 rfl rfl)
theorem dX4_commit_50 : decode cX4_commit 50 = .ok (.isub, 1) := dk_100 (dk_at dksX4_commit_2 4 rfl rfl)
theorem dX4_commit_51 : decode cX4_commit 51 = .ok (.putfield 26, 3) := dk_181 0 26 (dk_at dksX4_commit_2 5 rfl rfl)
theorem dX4_commit_54 : decode cX4_commit 54 = .ok (.aload_n 0, 1) := dk_42 (dk_at dksX4_commit_2 8 rfl rfl)
theorem dX4_commit_55 : decode cX4_commit 55 = .ok (.getfield 13, 3) := dk_180 0 13 (dk_at dksX4_commit_2 9 rfl rfl)
theorem dX4_commit_58 : decode cX4_commit 58 = .ok (.iconst 0, 1) := dk_3 (dk_at dksX4_commit_2 12 rfl rfl)
theorem dX4_commit_59 : decode cX4_commit 59 = .ok (.aload_n 0, 1) := dk_42 (dk_at dksX4_commit_2 13 rfl rfl)
theorem dX4_commit_60 : decode cX4_commit 60 = .ok (.getfield 19, 3) := dk_180 0 19 (dk_at dksX4_commit_2 14 rfl rfl)
theorem dX4_commit_63 : decode cX4_commit 63 = .ok (.bipush 88, 2) := dk_16 88 (dk_at dksX4_commit_2 17 rfl rfl)
theorem dX4_commit_65 : decode cX4_commit 65 = .ok (.aload_n 0, 1) := dk_42 (dk_at dksX4_commit_2 19 rfl rfl)
theorem dX4_commit_66 : decode cX4_commit 66 = .ok (.getfield 26, 3) := dk_180 0 26 (dk_at dksX4_commit_2 20 rfl rfl)
theorem dX4_commit_69 : decode cX4_commit 69 = .ok (.imul, 1) := dk_104 (dk_at dksX4_commit_2 23 rfl rfl)
theorem dX4_commit_70 : decode cX4_commit 70 = .ok (.invokestatic 123, 3) := dk_184 0 123 (dk_at dksX4_commit_3 0 rfl rfl)
theorem dX4_commit_73 : decode cX4_commit 73 = .ok (.aload_n 0, 1) := dk_42 (dk_at dksX4_commit_3 3 rfl rfl)
theorem dX4_commit_74 : decode cX4_commit 74 = .ok (.dup, 1) := dk_89 (dk_at dksX4_commit_3 4 rfl rfl)
theorem dX4_commit_75 : decode cX4_commit 75 = .ok (.getfield 26, 3) := dk_180 0 26 (dk_at dksX4_commit_3 5 rfl rfl)
theorem dX4_commit_78 : decode cX4_commit 78 = .ok (.iconst 1, 1) := dk_4 (dk_at dksX4_commit_3 8 rfl rfl)
theorem dX4_commit_79 : decode cX4_commit 79 = .ok (.iadd, 1) := dk_96 (dk_at dksX4_commit_3 9 rfl rfl)
theorem dX4_commit_80 : decode cX4_commit 80 = .ok (.putfield 26, 3) := dk_181 0 26 (dk_at dksX4_commit_3 10 rfl rfl)
theorem dX4_commit_83 : decode cX4_commit 83 = .ok (.iload_n 1, 1) := dk_27 (dk_at dksX4_commit_3 13 rfl rfl)
theorem dX4_commit_84 : decode cX4_commit 84 = .ok (.ireturn, 1) := dk_172 (dk_at dksX4_commit_3 14 rfl rfl)
abbrev cX4_addAccess : ByteArray := prog_12_method_34_code
def yX4_addAccess : MethodName := ⟨RX4, "addAccess", "(ICIC)I"⟩
def dkwX4_addAccess_3 : List UInt8 := [28, 184, 0, 157, 29, 21, 4, 16, 97, 100, 184, 0, 166, 182, 0, 174, 182, 0, 192, 172]
abbrev dktX4_addAccess_3 : List UInt8 := dkwX4_addAccess_3 ++ []
def dkwX4_addAccess_2 : List UInt8 := [182, 0, 180, 172, 42, 27, 29, 182, 0, 195, 153, 0, 11, 42, 6, 182, 0, 180, 167, 0, 25, 42, 42, 27]
abbrev dktX4_addAccess_2 : List UInt8 := dkwX4_addAccess_2 ++ dktX4_addAccess_3
def dkwX4_addAccess_1 : List UInt8 := [16, 119, 160, 0, 18, 29, 184, 0, 160, 153, 0, 11, 21, 4, 184, 0, 163, 154, 0, 9, 42, 5]
abbrev dktX4_addAccess_1 : List UInt8 := dkwX4_addAccess_1 ++ dktX4_addAccess_2
def dkwX4_addAccess_0 : List UInt8 := [42, 182, 0, 177, 27, 184, 0, 131, 154, 0, 9, 42, 4, 182, 0, 180, 172, 28, 16, 114, 159, 0, 9, 28]
abbrev dktX4_addAccess_0 : List UInt8 := dkwX4_addAccess_0 ++ dktX4_addAccess_1
theorem dksX4_addAccess_0 : cX4_addAccess.data.toList.drop 0 = dktX4_addAccess_0 := by decide +kernel
theorem dksX4_addAccess_1 : cX4_addAccess.data.toList.drop 24 = dktX4_addAccess_1 := dk_seg dksX4_addAccess_0 24 rfl rfl
theorem dksX4_addAccess_2 : cX4_addAccess.data.toList.drop 46 = dktX4_addAccess_2 := dk_seg dksX4_addAccess_1 22 rfl rfl
theorem dksX4_addAccess_3 : cX4_addAccess.data.toList.drop 70 = dktX4_addAccess_3 := dk_seg dksX4_addAccess_2 24 rfl rfl
theorem dX4_addAccess_0 : decode cX4_addAccess 0 = .ok (.aload_n 0, 1) := dk_42 (dk_at dksX4_addAccess_0 0 rfl rfl)
theorem dX4_addAccess_1 : decode cX4_addAccess 1 = .ok (.invokevirtual 177, 3) := dk_182 0 177 (dk_at dksX4_addAccess_0 1 rfl rfl)
theorem dX4_addAccess_4 : decode cX4_addAccess 4 = .ok (.iload_n 1, 1) := dk_27 (dk_at dksX4_addAccess_0 4 rfl rfl)
theorem dX4_addAccess_5 : decode cX4_addAccess 5 = .ok (.invokestatic 131, 3) := dk_184 0 131 (dk_at dksX4_addAccess_0 5 rfl rfl)
theorem dX4_addAccess_8 : decode cX4_addAccess 8 = .ok (.ifCond .ne 9, 3) := dk_154 0 9 (dk_at dksX4_addAccess_0 8 rfl rfl)
theorem dX4_addAccess_11 : decode cX4_addAccess 11 = .ok (.aload_n 0, 1) := dk_42 (dk_at dksX4_addAccess_0 11 rfl rfl)
theorem dX4_addAccess_12 : decode cX4_addAccess 12 = .ok (.iconst 1, 1) := dk_4 (dk_at dksX4_addAccess_0 12 rfl rfl)
theorem dX4_addAccess_13 : decode cX4_addAccess 13 = .ok (.invokevirtual 180, 3) := dk_182 0 180 (dk_at dksX4_addAccess_0 13 rfl rfl)
theorem dX4_addAccess_16 : decode cX4_addAccess 16 = .ok (.ireturn, 1) := dk_172 (dk_at dksX4_addAccess_0 16 rfl rfl)
theorem dX4_addAccess_17 : decode cX4_addAccess 17 = .ok (.iload_n 2, 1) := dk_28 (dk_at dksX4_addAccess_0 17 rfl rfl)
theorem dX4_addAccess_18 : decode cX4_addAccess 18 = .ok (.bipush 114, 2) := dk_16 114 (dk_at dksX4_addAccess_0 18 rfl rfl)
theorem dX4_addAccess_20 : decode cX4_addAccess 20 = .ok (.if_icmp .eq 9, 3) := dk_159 0 9 (dk_at dksX4_addAccess_0 20 rfl rfl)
theorem dX4_addAccess_23 : decode cX4_addAccess 23 = .ok (.iload_n 2, 1) := dk_28 (dk_at dksX4_addAccess_0 23 rfl rfl)
theorem dX4_addAccess_24 : decode cX4_addAccess 24 = .ok (.bipush 119, 2) := dk_16 119 (dk_at dksX4_addAccess_1 0 rfl rfl)
theorem dX4_addAccess_26 : decode cX4_addAccess 26 = .ok (.if_icmp .ne 18, 3) := dk_160 0 18 (dk_at dksX4_addAccess_1 2 rfl rfl)
theorem dX4_addAccess_29 : decode cX4_addAccess 29 = .ok (.iload_n 3, 1) := dk_29 (dk_at dksX4_addAccess_1 5 rfl rfl)
theorem dX4_addAccess_30 : decode cX4_addAccess 30 = .ok (.invokestatic 160, 3) := dk_184 0 160 (dk_at dksX4_addAccess_1 6 rfl rfl)
theorem dX4_addAccess_33 : decode cX4_addAccess 33 = .ok (.ifCond .eq 11, 3) := dk_153 0 11 (dk_at dksX4_addAccess_1 9 rfl rfl)
theorem dX4_addAccess_36 : decode cX4_addAccess 36 = .ok (.iload 4, 2) := dk_21 4 (dk_at dksX4_addAccess_1 12 rfl rfl)
theorem dX4_addAccess_38 : decode cX4_addAccess 38 = .ok (.invokestatic 163, 3) := dk_184 0 163 (dk_at dksX4_addAccess_1 14 rfl rfl)
theorem dX4_addAccess_41 : decode cX4_addAccess 41 = .ok (.ifCond .ne 9, 3) := dk_154 0 9 (dk_at dksX4_addAccess_1 17 rfl rfl)
theorem dX4_addAccess_44 : decode cX4_addAccess 44 = .ok (.aload_n 0, 1) := dk_42 (dk_at dksX4_addAccess_1 20 rfl rfl)
theorem dX4_addAccess_45 : decode cX4_addAccess 45 = .ok (.iconst 2, 1) := dk_5 (dk_at dksX4_addAccess_1 21 rfl rfl)
theorem dX4_addAccess_46 : decode cX4_addAccess 46 = .ok (.invokevirtual 180, 3) := dk_182 0 180 (dk_at dksX4_addAccess_2 0 rfl rfl)
theorem dX4_addAccess_49 : decode cX4_addAccess 49 = .ok (.ireturn, 1) := dk_172 (dk_at dksX4_addAccess_2 3 rfl rfl)
theorem dX4_addAccess_50 : decode cX4_addAccess 50 = .ok (.aload_n 0, 1) := dk_42 (dk_at dksX4_addAccess_2 4 rfl rfl)
theorem dX4_addAccess_51 : decode cX4_addAccess 51 = .ok (.iload_n 1, 1) := dk_27 (dk_at dksX4_addAccess_2 5 rfl rfl)
theorem dX4_addAccess_52 : decode cX4_addAccess 52 = .ok (.iload_n 3, 1) := dk_29 (dk_at dksX4_addAccess_2 6 rfl rfl)
theorem dX4_addAccess_53 : decode cX4_addAccess 53 = .ok (.invokevirtual 195, 3) := dk_182 0 195 (dk_at dksX4_addAccess_2 7 rfl rfl)
theorem dX4_addAccess_56 : decode cX4_addAccess 56 = .ok (.ifCond .eq 11, 3) := dk_153 0 11 (dk_at dksX4_addAccess_2 10 rfl rfl)
theorem dX4_addAccess_59 : decode cX4_addAccess 59 = .ok (.aload_n 0, 1) := dk_42 (dk_at dksX4_addAccess_2 13 rfl rfl)
theorem dX4_addAccess_60 : decode cX4_addAccess 60 = .ok (.iconst 3, 1) := dk_6 (dk_at dksX4_addAccess_2 14 rfl rfl)
theorem dX4_addAccess_61 : decode cX4_addAccess 61 = .ok (.invokevirtual 180, 3) := dk_182 0 180 (dk_at dksX4_addAccess_2 15 rfl rfl)
theorem dX4_addAccess_64 : decode cX4_addAccess 64 = .ok (.goto 25, 3) := dk_167 0 25 (dk_at dksX4_addAccess_2 18 rfl rfl)
theorem dX4_addAccess_67 : decode cX4_addAccess 67 = .ok (.aload_n 0, 1) := dk_42 (dk_at dksX4_addAccess_2 21 rfl rfl)
theorem dX4_addAccess_68 : decode cX4_addAccess 68 = .ok (.aload_n 0, 1) := dk_42 (dk_at dksX4_addAccess_2 22 rfl rfl)
theorem dX4_addAccess_69 : decode cX4_addAccess 69 = .ok (.iload_n 1, 1) := dk_27 (dk_at dksX4_addAccess_2 23 rfl rfl)
theorem dX4_addAccess_70 : decode cX4_addAccess 70 = .ok (.iload_n 2, 1) := dk_28 (dk_at dksX4_addAccess_3 0 rfl rfl)
theorem dX4_addAccess_71 : decode cX4_addAccess 71 = .ok (.invokestatic 157, 3) := dk_184 0 157 (dk_at dksX4_addAccess_3 1 rfl rfl)
theorem dX4_addAccess_74 : decode cX4_addAccess 74 = .ok (.iload_n 3, 1) := dk_29 (dk_at dksX4_addAccess_3 4 rfl rfl)
theorem dX4_addAccess_75 : decode cX4_addAccess 75 = .ok (.iload 4, 2) := dk_21 4 (dk_at dksX4_addAccess_3 5 rfl rfl)
theorem dX4_addAccess_77 : decode cX4_addAccess 77 = .ok (.bipush 97, 2) := dk_16 97 (dk_at dksX4_addAccess_3 7 rfl rfl)
theorem dX4_addAccess_79 : decode cX4_addAccess 79 = .ok (.isub, 1) := dk_100 (dk_at dksX4_addAccess_3 9 rfl rfl)
theorem dX4_addAccess_80 : decode cX4_addAccess 80 = .ok (.invokestatic 166, 3) := dk_184 0 166 (dk_at dksX4_addAccess_3 10 rfl rfl)
theorem dX4_addAccess_83 : decode cX4_addAccess 83 = .ok (.invokevirtual 174, 3) := dk_182 0 174 (dk_at dksX4_addAccess_3 13 rfl rfl)
theorem dX4_addAccess_86 : decode cX4_addAccess 86 = .ok (.invokevirtual 192, 3) := dk_182 0 192 (dk_at dksX4_addAccess_3 16 rfl rfl)
theorem dX4_addAccess_89 : decode cX4_addAccess 89 = .ok (.ireturn, 1) := dk_172 (dk_at dksX4_addAccess_3 19 rfl rfl)
abbrev cX4_isFull : ByteArray := prog_12_method_23_code
def yX4_isFull : MethodName := ⟨RX4, "isFull", "(II)Z"⟩
def dkwX4_isFull_1 : List UInt8 := [167, 0, 4, 3, 172]
abbrev dktX4_isFull_1 : List UInt8 := dkwX4_isFull_1 ++ []
def dkwX4_isFull_0 : List UInt8 := [42, 27, 182, 0, 135, 16, 20, 159, 0, 14, 42, 27, 28, 5, 6, 182, 0, 149, 153, 0, 7, 4]
abbrev dktX4_isFull_0 : List UInt8 := dkwX4_isFull_0 ++ dktX4_isFull_1
theorem dksX4_isFull_0 : cX4_isFull.data.toList.drop 0 = dktX4_isFull_0 := by decide +kernel
theorem dksX4_isFull_1 : cX4_isFull.data.toList.drop 22 = dktX4_isFull_1 := dk_seg dksX4_isFull_0 22 rfl rfl
theorem dX4_isFull_0 : decode cX4_isFull 0 = .ok (.aload_n 0, 1) := dk_42 (dk_at dksX4_isFull_0 0 rfl rfl)
theorem dX4_isFull_1 : decode cX4_isFull 1 = .ok (.iload_n 1, 1) := dk_27 (dk_at dksX4_isFull_0 1 rfl rfl)
theorem dX4_isFull_2 : decode cX4_isFull 2 = .ok (.invokevirtual 135, 3) := dk_182 0 135 (dk_at dksX4_isFull_0 2 rfl rfl)
theorem dX4_isFull_5 : decode cX4_isFull 5 = .ok (.bipush 20, 2) := dk_16 20 (dk_at dksX4_isFull_0 5 rfl rfl)
theorem dX4_isFull_7 : decode cX4_isFull 7 = .ok (.if_icmp .eq 14, 3) := dk_159 0 14 (dk_at dksX4_isFull_0 7 rfl rfl)
theorem dX4_isFull_10 : decode cX4_isFull 10 = .ok (.aload_n 0, 1) := dk_42 (dk_at dksX4_isFull_0 10 rfl rfl)
theorem dX4_isFull_11 : decode cX4_isFull 11 = .ok (.iload_n 1, 1) := dk_27 (dk_at dksX4_isFull_0 11 rfl rfl)
theorem dX4_isFull_12 : decode cX4_isFull 12 = .ok (.iload_n 2, 1) := dk_28 (dk_at dksX4_isFull_0 12 rfl rfl)
theorem dX4_isFull_13 : decode cX4_isFull 13 = .ok (.iconst 2, 1) := dk_5 (dk_at dksX4_isFull_0 13 rfl rfl)
theorem dX4_isFull_14 : decode cX4_isFull 14 = .ok (.iconst 3, 1) := dk_6 (dk_at dksX4_isFull_0 14 rfl rfl)
theorem dX4_isFull_15 : decode cX4_isFull 15 = .ok (.invokevirtual 149, 3) := dk_182 0 149 (dk_at dksX4_isFull_0 15 rfl rfl)
theorem dX4_isFull_18 : decode cX4_isFull 18 = .ok (.ifCond .eq 7, 3) := dk_153 0 7 (dk_at dksX4_isFull_0 18 rfl rfl)
theorem dX4_isFull_21 : decode cX4_isFull 21 = .ok (.iconst 1, 1) := dk_4 (dk_at dksX4_isFull_0 21 rfl rfl)
theorem dX4_isFull_22 : decode cX4_isFull 22 = .ok (.goto 4, 3) := dk_167 0 4 (dk_at dksX4_isFull_1 0 rfl rfl)
theorem dX4_isFull_25 : decode cX4_isFull 25 = .ok (.iconst 0, 1) := dk_3 (dk_at dksX4_isFull_1 3 rfl rfl)
theorem dX4_isFull_26 : decode cX4_isFull 26 = .ok (.ireturn, 1) := dk_172 (dk_at dksX4_isFull_1 4 rfl rfl)
abbrev cX4_has : ByteArray := prog_12_method_19_code
def yX4_has : MethodName := ⟨RX4, "has", "(IIII)Z"⟩
def dkwX4_has_2 : List UInt8 := [132, 5, 1, 167, 255, 208, 3, 172]
abbrev dktX4_has_2 : List UInt8 := dkwX4_has_2 ++ []
def dkwX4_has_1 : List UInt8 := [160, 0, 24, 42, 27, 21, 5, 182, 0, 139, 184, 0, 146, 29, 21, 4, 184, 0, 127, 153, 0, 5, 4, 172]
abbrev dktX4_has_1 : List UInt8 := dkwX4_has_1 ++ dktX4_has_2
def dkwX4_has_0 : List UInt8 := [3, 54, 5, 21, 5, 42, 27, 182, 0, 135, 162, 0, 44, 42, 27, 21, 5, 182, 0, 139, 184, 0, 143, 28]
abbrev dktX4_has_0 : List UInt8 := dkwX4_has_0 ++ dktX4_has_1
theorem dksX4_has_0 : cX4_has.data.toList.drop 0 = dktX4_has_0 := by decide +kernel
theorem dksX4_has_1 : cX4_has.data.toList.drop 24 = dktX4_has_1 := dk_seg dksX4_has_0 24 rfl rfl
theorem dksX4_has_2 : cX4_has.data.toList.drop 48 = dktX4_has_2 := dk_seg dksX4_has_1 24 rfl rfl
theorem dX4_has_0 : decode cX4_has 0 = .ok (.iconst 0, 1) := dk_3 (dk_at dksX4_has_0 0 rfl rfl)
theorem dX4_has_1 : decode cX4_has 1 = .ok (.istore 5, 2) := dk_54 5 (dk_at dksX4_has_0 1 rfl rfl)
theorem dX4_has_3 : decode cX4_has 3 = .ok (.iload 5, 2) := dk_21 5 (dk_at dksX4_has_0 3 rfl rfl)
theorem dX4_has_5 : decode cX4_has 5 = .ok (.aload_n 0, 1) := dk_42 (dk_at dksX4_has_0 5 rfl rfl)
theorem dX4_has_6 : decode cX4_has 6 = .ok (.iload_n 1, 1) := dk_27 (dk_at dksX4_has_0 6 rfl rfl)
theorem dX4_has_7 : decode cX4_has 7 = .ok (.invokevirtual 135, 3) := dk_182 0 135 (dk_at dksX4_has_0 7 rfl rfl)
theorem dX4_has_10 : decode cX4_has 10 = .ok (.if_icmp .ge 44, 3) := dk_162 0 44 (dk_at dksX4_has_0 10 rfl rfl)
theorem dX4_has_13 : decode cX4_has 13 = .ok (.aload_n 0, 1) := dk_42 (dk_at dksX4_has_0 13 rfl rfl)
theorem dX4_has_14 : decode cX4_has 14 = .ok (.iload_n 1, 1) := dk_27 (dk_at dksX4_has_0 14 rfl rfl)
theorem dX4_has_15 : decode cX4_has 15 = .ok (.iload 5, 2) := dk_21 5 (dk_at dksX4_has_0 15 rfl rfl)
theorem dX4_has_17 : decode cX4_has 17 = .ok (.invokevirtual 139, 3) := dk_182 0 139 (dk_at dksX4_has_0 17 rfl rfl)
theorem dX4_has_20 : decode cX4_has 20 = .ok (.invokestatic 143, 3) := dk_184 0 143 (dk_at dksX4_has_0 20 rfl rfl)
theorem dX4_has_23 : decode cX4_has 23 = .ok (.iload_n 2, 1) := dk_28 (dk_at dksX4_has_0 23 rfl rfl)
theorem dX4_has_24 : decode cX4_has 24 = .ok (.if_icmp .ne 24, 3) := dk_160 0 24 (dk_at dksX4_has_1 0 rfl rfl)
theorem dX4_has_27 : decode cX4_has 27 = .ok (.aload_n 0, 1) := dk_42 (dk_at dksX4_has_1 3 rfl rfl)
theorem dX4_has_28 : decode cX4_has 28 = .ok (.iload_n 1, 1) := dk_27 (dk_at dksX4_has_1 4 rfl rfl)
theorem dX4_has_29 : decode cX4_has 29 = .ok (.iload 5, 2) := dk_21 5 (dk_at dksX4_has_1 5 rfl rfl)
theorem dX4_has_31 : decode cX4_has 31 = .ok (.invokevirtual 139, 3) := dk_182 0 139 (dk_at dksX4_has_1 7 rfl rfl)
theorem dX4_has_34 : decode cX4_has 34 = .ok (.invokestatic 146, 3) := dk_184 0 146 (dk_at dksX4_has_1 10 rfl rfl)
theorem dX4_has_37 : decode cX4_has 37 = .ok (.iload_n 3, 1) := dk_29 (dk_at dksX4_has_1 13 rfl rfl)
theorem dX4_has_38 : decode cX4_has 38 = .ok (.iload 4, 2) := dk_21 4 (dk_at dksX4_has_1 14 rfl rfl)
theorem dX4_has_40 : decode cX4_has 40 = .ok (.invokestatic 127, 3) := dk_184 0 127 (dk_at dksX4_has_1 16 rfl rfl)
theorem dX4_has_43 : decode cX4_has 43 = .ok (.ifCond .eq 5, 3) := dk_153 0 5 (dk_at dksX4_has_1 19 rfl rfl)
theorem dX4_has_46 : decode cX4_has 46 = .ok (.iconst 1, 1) := dk_4 (dk_at dksX4_has_1 22 rfl rfl)
theorem dX4_has_47 : decode cX4_has 47 = .ok (.ireturn, 1) := dk_172 (dk_at dksX4_has_1 23 rfl rfl)
theorem dX4_has_48 : decode cX4_has 48 = .ok (.iinc 5 1, 3) := dk_132 5 1 (dk_at dksX4_has_2 0 rfl rfl)
theorem dX4_has_51 : decode cX4_has 51 = .ok (.goto (-48), 3) := dk_167 255 208 (dk_at dksX4_has_2 3 rfl rfl)
theorem dX4_has_54 : decode cX4_has 54 = .ok (.iconst 0, 1) := dk_3 (dk_at dksX4_has_2 6 rfl rfl)
theorem dX4_has_55 : decode cX4_has 55 = .ok (.ireturn, 1) := dk_172 (dk_at dksX4_has_2 7 rfl rfl)
abbrev cX4_code : ByteArray := prog_12_method_14_code
def yX4_code : MethodName := ⟨RX4, "code", "(II)I"⟩
def dkwX4_code_0 : List UInt8 := [42, 180, 0, 7, 16, 21, 27, 104, 4, 96, 28, 96, 46, 172]
abbrev dktX4_code_0 : List UInt8 := dkwX4_code_0 ++ []
theorem dksX4_code_0 : cX4_code.data.toList.drop 0 = dktX4_code_0 := by decide +kernel
theorem dX4_code_0 : decode cX4_code 0 = .ok (.aload_n 0, 1) := dk_42 (dk_at dksX4_code_0 0 rfl rfl)
theorem dX4_code_1 : decode cX4_code 1 = .ok (.getfield 7, 3) := dk_180 0 7 (dk_at dksX4_code_0 1 rfl rfl)
theorem dX4_code_4 : decode cX4_code 4 = .ok (.bipush 21, 2) := dk_16 21 (dk_at dksX4_code_0 4 rfl rfl)
theorem dX4_code_6 : decode cX4_code 6 = .ok (.iload_n 1, 1) := dk_27 (dk_at dksX4_code_0 6 rfl rfl)
theorem dX4_code_7 : decode cX4_code 7 = .ok (.imul, 1) := dk_104 (dk_at dksX4_code_0 7 rfl rfl)
theorem dX4_code_8 : decode cX4_code 8 = .ok (.iconst 1, 1) := dk_4 (dk_at dksX4_code_0 8 rfl rfl)
theorem dX4_code_9 : decode cX4_code 9 = .ok (.iadd, 1) := dk_96 (dk_at dksX4_code_0 9 rfl rfl)
theorem dX4_code_10 : decode cX4_code 10 = .ok (.iload_n 2, 1) := dk_28 (dk_at dksX4_code_0 10 rfl rfl)
theorem dX4_code_11 : decode cX4_code 11 = .ok (.iadd, 1) := dk_96 (dk_at dksX4_code_0 11 rfl rfl)
theorem dX4_code_12 : decode cX4_code 12 = .ok (.iaload, 1) := dk_46 (dk_at dksX4_code_0 12 rfl rfl)
theorem dX4_code_13 : decode cX4_code 13 = .ok (.ireturn, 1) := dk_172 (dk_at dksX4_code_0 13 rfl rfl)
abbrev cX4_addEnd : ByteArray := prog_12_method_35_code
def yX4_addEnd : MethodName := ⟨RX4, "addEnd", "(IIZ)I"⟩
def dkwX4_addEnd_2 : List UInt8 := [42, 27, 29, 153, 0, 7, 5, 167, 0, 4, 6, 28, 3, 184, 0, 166, 182, 0, 174, 182, 0, 192, 172]
abbrev dktX4_addEnd_2 : List UInt8 := dkwX4_addEnd_2 ++ []
def dkwX4_addEnd_1 : List UInt8 := [42, 5, 182, 0, 180, 172, 42, 27, 28, 182, 0, 195, 153, 0, 11, 42, 6, 182, 0, 180, 167, 0, 26, 42]
abbrev dktX4_addEnd_1 : List UInt8 := dkwX4_addEnd_1 ++ dktX4_addEnd_2
def dkwX4_addEnd_0 : List UInt8 := [42, 182, 0, 177, 27, 184, 0, 131, 154, 0, 9, 42, 4, 182, 0, 180, 172, 28, 184, 0, 160, 154, 0, 9]
abbrev dktX4_addEnd_0 : List UInt8 := dkwX4_addEnd_0 ++ dktX4_addEnd_1
theorem dksX4_addEnd_0 : cX4_addEnd.data.toList.drop 0 = dktX4_addEnd_0 := by decide +kernel
theorem dksX4_addEnd_1 : cX4_addEnd.data.toList.drop 24 = dktX4_addEnd_1 := dk_seg dksX4_addEnd_0 24 rfl rfl
theorem dksX4_addEnd_2 : cX4_addEnd.data.toList.drop 48 = dktX4_addEnd_2 := dk_seg dksX4_addEnd_1 24 rfl rfl
theorem dX4_addEnd_0 : decode cX4_addEnd 0 = .ok (.aload_n 0, 1) := dk_42 (dk_at dksX4_addEnd_0 0 rfl rfl)
theorem dX4_addEnd_1 : decode cX4_addEnd 1 = .ok (.invokevirtual 177, 3) := dk_182 0 177 (dk_at dksX4_addEnd_0 1 rfl rfl)
theorem dX4_addEnd_4 : decode cX4_addEnd 4 = .ok (.iload_n 1, 1) := dk_27 (dk_at dksX4_addEnd_0 4 rfl rfl)
theorem dX4_addEnd_5 : decode cX4_addEnd 5 = .ok (.invokestatic 131, 3) := dk_184 0 131 (dk_at dksX4_addEnd_0 5 rfl rfl)
theorem dX4_addEnd_8 : decode cX4_addEnd 8 = .ok (.ifCond .ne 9, 3) := dk_154 0 9 (dk_at dksX4_addEnd_0 8 rfl rfl)
theorem dX4_addEnd_11 : decode cX4_addEnd 11 = .ok (.aload_n 0, 1) := dk_42 (dk_at dksX4_addEnd_0 11 rfl rfl)
theorem dX4_addEnd_12 : decode cX4_addEnd 12 = .ok (.iconst 1, 1) := dk_4 (dk_at dksX4_addEnd_0 12 rfl rfl)
theorem dX4_addEnd_13 : decode cX4_addEnd 13 = .ok (.invokevirtual 180, 3) := dk_182 0 180 (dk_at dksX4_addEnd_0 13 rfl rfl)
theorem dX4_addEnd_16 : decode cX4_addEnd 16 = .ok (.ireturn, 1) := dk_172 (dk_at dksX4_addEnd_0 16 rfl rfl)
theorem dX4_addEnd_17 : decode cX4_addEnd 17 = .ok (.iload_n 2, 1) := dk_28 (dk_at dksX4_addEnd_0 17 rfl rfl)
theorem dX4_addEnd_18 : decode cX4_addEnd 18 = .ok (.invokestatic 160, 3) := dk_184 0 160 (dk_at dksX4_addEnd_0 18 rfl rfl)
theorem dX4_addEnd_21 : decode cX4_addEnd 21 = .ok (.ifCond .ne 9, 3) := dk_154 0 9 (dk_at dksX4_addEnd_0 21 rfl rfl)
theorem dX4_addEnd_24 : decode cX4_addEnd 24 = .ok (.aload_n 0, 1) := dk_42 (dk_at dksX4_addEnd_1 0 rfl rfl)
theorem dX4_addEnd_25 : decode cX4_addEnd 25 = .ok (.iconst 2, 1) := dk_5 (dk_at dksX4_addEnd_1 1 rfl rfl)
theorem dX4_addEnd_26 : decode cX4_addEnd 26 = .ok (.invokevirtual 180, 3) := dk_182 0 180 (dk_at dksX4_addEnd_1 2 rfl rfl)
theorem dX4_addEnd_29 : decode cX4_addEnd 29 = .ok (.ireturn, 1) := dk_172 (dk_at dksX4_addEnd_1 5 rfl rfl)
theorem dX4_addEnd_30 : decode cX4_addEnd 30 = .ok (.aload_n 0, 1) := dk_42 (dk_at dksX4_addEnd_1 6 rfl rfl)
theorem dX4_addEnd_31 : decode cX4_addEnd 31 = .ok (.iload_n 1, 1) := dk_27 (dk_at dksX4_addEnd_1 7 rfl rfl)
theorem dX4_addEnd_32 : decode cX4_addEnd 32 = .ok (.iload_n 2, 1) := dk_28 (dk_at dksX4_addEnd_1 8 rfl rfl)
theorem dX4_addEnd_33 : decode cX4_addEnd 33 = .ok (.invokevirtual 195, 3) := dk_182 0 195 (dk_at dksX4_addEnd_1 9 rfl rfl)
theorem dX4_addEnd_36 : decode cX4_addEnd 36 = .ok (.ifCond .eq 11, 3) := dk_153 0 11 (dk_at dksX4_addEnd_1 12 rfl rfl)
theorem dX4_addEnd_39 : decode cX4_addEnd 39 = .ok (.aload_n 0, 1) := dk_42 (dk_at dksX4_addEnd_1 15 rfl rfl)
theorem dX4_addEnd_40 : decode cX4_addEnd 40 = .ok (.iconst 3, 1) := dk_6 (dk_at dksX4_addEnd_1 16 rfl rfl)
theorem dX4_addEnd_41 : decode cX4_addEnd 41 = .ok (.invokevirtual 180, 3) := dk_182 0 180 (dk_at dksX4_addEnd_1 17 rfl rfl)
theorem dX4_addEnd_44 : decode cX4_addEnd 44 = .ok (.goto 26, 3) := dk_167 0 26 (dk_at dksX4_addEnd_1 20 rfl rfl)
theorem dX4_addEnd_47 : decode cX4_addEnd 47 = .ok (.aload_n 0, 1) := dk_42 (dk_at dksX4_addEnd_1 23 rfl rfl)
theorem dX4_addEnd_48 : decode cX4_addEnd 48 = .ok (.aload_n 0, 1) := dk_42 (dk_at dksX4_addEnd_2 0 rfl rfl)
theorem dX4_addEnd_49 : decode cX4_addEnd 49 = .ok (.iload_n 1, 1) := dk_27 (dk_at dksX4_addEnd_2 1 rfl rfl)
theorem dX4_addEnd_50 : decode cX4_addEnd 50 = .ok (.iload_n 3, 1) := dk_29 (dk_at dksX4_addEnd_2 2 rfl rfl)
theorem dX4_addEnd_51 : decode cX4_addEnd 51 = .ok (.ifCond .eq 7, 3) := dk_153 0 7 (dk_at dksX4_addEnd_2 3 rfl rfl)
theorem dX4_addEnd_54 : decode cX4_addEnd 54 = .ok (.iconst 2, 1) := dk_5 (dk_at dksX4_addEnd_2 6 rfl rfl)
theorem dX4_addEnd_55 : decode cX4_addEnd 55 = .ok (.goto 4, 3) := dk_167 0 4 (dk_at dksX4_addEnd_2 7 rfl rfl)
theorem dX4_addEnd_58 : decode cX4_addEnd 58 = .ok (.iconst 3, 1) := dk_6 (dk_at dksX4_addEnd_2 10 rfl rfl)
theorem dX4_addEnd_59 : decode cX4_addEnd 59 = .ok (.iload_n 2, 1) := dk_28 (dk_at dksX4_addEnd_2 11 rfl rfl)
theorem dX4_addEnd_60 : decode cX4_addEnd 60 = .ok (.iconst 0, 1) := dk_3 (dk_at dksX4_addEnd_2 12 rfl rfl)
theorem dX4_addEnd_61 : decode cX4_addEnd 61 = .ok (.invokestatic 166, 3) := dk_184 0 166 (dk_at dksX4_addEnd_2 13 rfl rfl)
theorem dX4_addEnd_64 : decode cX4_addEnd 64 = .ok (.invokevirtual 174, 3) := dk_182 0 174 (dk_at dksX4_addEnd_2 16 rfl rfl)
theorem dX4_addEnd_67 : decode cX4_addEnd 67 = .ok (.invokevirtual 192, 3) := dk_182 0 192 (dk_at dksX4_addEnd_2 19 rfl rfl)
theorem dX4_addEnd_70 : decode cX4_addEnd 70 = .ok (.ireturn, 1) := dk_172 (dk_at dksX4_addEnd_2 22 rfl rfl)
abbrev cX4_removeAt : ByteArray := prog_12_method_37_code
def yX4_removeAt : MethodName := ⟨RX4, "removeAt", "(II)I"⟩
def dkwX4_removeAt_1 : List UInt8 := [167, 0, 8, 42, 4, 182, 0, 180, 172]
abbrev dktX4_removeAt_1 : List UInt8 := dkwX4_removeAt_1 ++ []
def dkwX4_removeAt_0 : List UInt8 := [42, 182, 0, 177, 42, 27, 28, 182, 0, 199, 153, 0, 16, 42, 42, 27, 28, 182, 0, 202, 182, 0, 192]
abbrev dktX4_removeAt_0 : List UInt8 := dkwX4_removeAt_0 ++ dktX4_removeAt_1
theorem dksX4_removeAt_0 : cX4_removeAt.data.toList.drop 0 = dktX4_removeAt_0 := by decide +kernel
theorem dksX4_removeAt_1 : cX4_removeAt.data.toList.drop 23 = dktX4_removeAt_1 := dk_seg dksX4_removeAt_0 23 rfl rfl
theorem dX4_removeAt_0 : decode cX4_removeAt 0 = .ok (.aload_n 0, 1) := dk_42 (dk_at dksX4_removeAt_0 0 rfl rfl)
theorem dX4_removeAt_1 : decode cX4_removeAt 1 = .ok (.invokevirtual 177, 3) := dk_182 0 177 (dk_at dksX4_removeAt_0 1 rfl rfl)
theorem dX4_removeAt_4 : decode cX4_removeAt 4 = .ok (.aload_n 0, 1) := dk_42 (dk_at dksX4_removeAt_0 4 rfl rfl)
theorem dX4_removeAt_5 : decode cX4_removeAt 5 = .ok (.iload_n 1, 1) := dk_27 (dk_at dksX4_removeAt_0 5 rfl rfl)
theorem dX4_removeAt_6 : decode cX4_removeAt 6 = .ok (.iload_n 2, 1) := dk_28 (dk_at dksX4_removeAt_0 6 rfl rfl)
theorem dX4_removeAt_7 : decode cX4_removeAt 7 = .ok (.invokevirtual 199, 3) := dk_182 0 199 (dk_at dksX4_removeAt_0 7 rfl rfl)
theorem dX4_removeAt_10 : decode cX4_removeAt 10 = .ok (.ifCond .eq 16, 3) := dk_153 0 16 (dk_at dksX4_removeAt_0 10 rfl rfl)
theorem dX4_removeAt_13 : decode cX4_removeAt 13 = .ok (.aload_n 0, 1) := dk_42 (dk_at dksX4_removeAt_0 13 rfl rfl)
theorem dX4_removeAt_14 : decode cX4_removeAt 14 = .ok (.aload_n 0, 1) := dk_42 (dk_at dksX4_removeAt_0 14 rfl rfl)
theorem dX4_removeAt_15 : decode cX4_removeAt 15 = .ok (.iload_n 1, 1) := dk_27 (dk_at dksX4_removeAt_0 15 rfl rfl)
theorem dX4_removeAt_16 : decode cX4_removeAt 16 = .ok (.iload_n 2, 1) := dk_28 (dk_at dksX4_removeAt_0 16 rfl rfl)
theorem dX4_removeAt_17 : decode cX4_removeAt 17 = .ok (.invokevirtual 202, 3) := dk_182 0 202 (dk_at dksX4_removeAt_0 17 rfl rfl)
theorem dX4_removeAt_20 : decode cX4_removeAt 20 = .ok (.invokevirtual 192, 3) := dk_182 0 192 (dk_at dksX4_removeAt_0 20 rfl rfl)
theorem dX4_removeAt_23 : decode cX4_removeAt 23 = .ok (.goto 8, 3) := dk_167 0 8 (dk_at dksX4_removeAt_1 0 rfl rfl)
theorem dX4_removeAt_26 : decode cX4_removeAt 26 = .ok (.aload_n 0, 1) := dk_42 (dk_at dksX4_removeAt_1 3 rfl rfl)
theorem dX4_removeAt_27 : decode cX4_removeAt 27 = .ok (.iconst 1, 1) := dk_4 (dk_at dksX4_removeAt_1 4 rfl rfl)
theorem dX4_removeAt_28 : decode cX4_removeAt 28 = .ok (.invokevirtual 180, 3) := dk_182 0 180 (dk_at dksX4_removeAt_1 5 rfl rfl)
theorem dX4_removeAt_31 : decode cX4_removeAt 31 = .ok (.ireturn, 1) := dk_172 (dk_at dksX4_removeAt_1 8 rfl rfl)
abbrev cX4_isOperation : ByteArray := prog_12_method_18_code
def yX4_isOperation : MethodName := ⟨RX4, "isOperation", "(II)Z"⟩
def dkwX4_isOperation_1 : List UInt8 := [167, 0, 4, 3, 172]
abbrev dktX4_isOperation_1 : List UInt8 := dkwX4_isOperation_1 ++ []
def dkwX4_isOperation_0 : List UInt8 := [27, 184, 0, 131, 153, 0, 22, 28, 3, 42, 27, 182, 0, 135, 4, 100, 184, 0, 127, 153, 0, 7, 4]
abbrev dktX4_isOperation_0 : List UInt8 := dkwX4_isOperation_0 ++ dktX4_isOperation_1
theorem dksX4_isOperation_0 : cX4_isOperation.data.toList.drop 0 = dktX4_isOperation_0 := by decide +kernel
theorem dksX4_isOperation_1 : cX4_isOperation.data.toList.drop 23 = dktX4_isOperation_1 := dk_seg dksX4_isOperation_0 23 rfl rfl
theorem dX4_isOperation_0 : decode cX4_isOperation 0 = .ok (.iload_n 1, 1) := dk_27 (dk_at dksX4_isOperation_0 0 rfl rfl)
theorem dX4_isOperation_1 : decode cX4_isOperation 1 = .ok (.invokestatic 131, 3) := dk_184 0 131 (dk_at dksX4_isOperation_0 1 rfl rfl)
theorem dX4_isOperation_4 : decode cX4_isOperation 4 = .ok (.ifCond .eq 22, 3) := dk_153 0 22 (dk_at dksX4_isOperation_0 4 rfl rfl)
theorem dX4_isOperation_7 : decode cX4_isOperation 7 = .ok (.iload_n 2, 1) := dk_28 (dk_at dksX4_isOperation_0 7 rfl rfl)
theorem dX4_isOperation_8 : decode cX4_isOperation 8 = .ok (.iconst 0, 1) := dk_3 (dk_at dksX4_isOperation_0 8 rfl rfl)
theorem dX4_isOperation_9 : decode cX4_isOperation 9 = .ok (.aload_n 0, 1) := dk_42 (dk_at dksX4_isOperation_0 9 rfl rfl)
theorem dX4_isOperation_10 : decode cX4_isOperation 10 = .ok (.iload_n 1, 1) := dk_27 (dk_at dksX4_isOperation_0 10 rfl rfl)
theorem dX4_isOperation_11 : decode cX4_isOperation 11 = .ok (.invokevirtual 135, 3) := dk_182 0 135 (dk_at dksX4_isOperation_0 11 rfl rfl)
theorem dX4_isOperation_14 : decode cX4_isOperation 14 = .ok (.iconst 1, 1) := dk_4 (dk_at dksX4_isOperation_0 14 rfl rfl)
theorem dX4_isOperation_15 : decode cX4_isOperation 15 = .ok (.isub, 1) := dk_100 (dk_at dksX4_isOperation_0 15 rfl rfl)
theorem dX4_isOperation_16 : decode cX4_isOperation 16 = .ok (.invokestatic 127, 3) := dk_184 0 127 (dk_at dksX4_isOperation_0 16 rfl rfl)
theorem dX4_isOperation_19 : decode cX4_isOperation 19 = .ok (.ifCond .eq 7, 3) := dk_153 0 7 (dk_at dksX4_isOperation_0 19 rfl rfl)
theorem dX4_isOperation_22 : decode cX4_isOperation 22 = .ok (.iconst 1, 1) := dk_4 (dk_at dksX4_isOperation_0 22 rfl rfl)
theorem dX4_isOperation_23 : decode cX4_isOperation 23 = .ok (.goto 4, 3) := dk_167 0 4 (dk_at dksX4_isOperation_1 0 rfl rfl)
theorem dX4_isOperation_26 : decode cX4_isOperation 26 = .ok (.iconst 0, 1) := dk_3 (dk_at dksX4_isOperation_1 3 rfl rfl)
theorem dX4_isOperation_27 : decode cX4_isOperation 27 = .ok (.ireturn, 1) := dk_172 (dk_at dksX4_isOperation_1 4 rfl rfl)
abbrev cX4_removes : ByteArray := prog_12_method_36_code
def yX4_removes : MethodName := ⟨RX4, "removes", "(II)I"⟩
def dkwX4_removes_2 : List UInt8 := [167, 255, 223, 42, 27, 182, 0, 135, 172]
abbrev dktX4_removes_2 : List UInt8 := dkwX4_removes_2 ++ []
def dkwX4_removes_1 : List UInt8 := [42, 180, 0, 7, 16, 21, 27, 104, 4, 96, 29, 96, 42, 27, 29, 4, 96, 182, 0, 139, 79, 132, 3, 1]
abbrev dktX4_removes_1 : List UInt8 := dkwX4_removes_1 ++ dktX4_removes_2
def dkwX4_removes_0 : List UInt8 := [42, 180, 0, 7, 16, 21, 27, 104, 92, 46, 4, 100, 79, 28, 62, 29, 42, 27, 182, 0, 135, 162, 0, 30]
abbrev dktX4_removes_0 : List UInt8 := dkwX4_removes_0 ++ dktX4_removes_1
theorem dksX4_removes_0 : cX4_removes.data.toList.drop 0 = dktX4_removes_0 := by decide +kernel
theorem dksX4_removes_1 : cX4_removes.data.toList.drop 24 = dktX4_removes_1 := dk_seg dksX4_removes_0 24 rfl rfl
theorem dksX4_removes_2 : cX4_removes.data.toList.drop 48 = dktX4_removes_2 := dk_seg dksX4_removes_1 24 rfl rfl
theorem dX4_removes_0 : decode cX4_removes 0 = .ok (.aload_n 0, 1) := dk_42 (dk_at dksX4_removes_0 0 rfl rfl)
theorem dX4_removes_1 : decode cX4_removes 1 = .ok (.getfield 7, 3) := dk_180 0 7 (dk_at dksX4_removes_0 1 rfl rfl)
theorem dX4_removes_4 : decode cX4_removes 4 = .ok (.bipush 21, 2) := dk_16 21 (dk_at dksX4_removes_0 4 rfl rfl)
theorem dX4_removes_6 : decode cX4_removes 6 = .ok (.iload_n 1, 1) := dk_27 (dk_at dksX4_removes_0 6 rfl rfl)
theorem dX4_removes_7 : decode cX4_removes 7 = .ok (.imul, 1) := dk_104 (dk_at dksX4_removes_0 7 rfl rfl)
theorem dX4_removes_8 : decode cX4_removes 8 = .ok (.dup2, 1) := dk_92 (dk_at dksX4_removes_0 8 rfl rfl)
theorem dX4_removes_9 : decode cX4_removes 9 = .ok (.iaload, 1) := dk_46 (dk_at dksX4_removes_0 9 rfl rfl)
theorem dX4_removes_10 : decode cX4_removes 10 = .ok (.iconst 1, 1) := dk_4 (dk_at dksX4_removes_0 10 rfl rfl)
theorem dX4_removes_11 : decode cX4_removes 11 = .ok (.isub, 1) := dk_100 (dk_at dksX4_removes_0 11 rfl rfl)
theorem dX4_removes_12 : decode cX4_removes 12 = .ok (.iastore, 1) := dk_79 (dk_at dksX4_removes_0 12 rfl rfl)
theorem dX4_removes_13 : decode cX4_removes 13 = .ok (.iload_n 2, 1) := dk_28 (dk_at dksX4_removes_0 13 rfl rfl)
theorem dX4_removes_14 : decode cX4_removes 14 = .ok (.istore_n 3, 1) := dk_62 (dk_at dksX4_removes_0 14 rfl rfl)
theorem dX4_removes_15 : decode cX4_removes 15 = .ok (.iload_n 3, 1) := dk_29 (dk_at dksX4_removes_0 15 rfl rfl)
theorem dX4_removes_16 : decode cX4_removes 16 = .ok (.aload_n 0, 1) := dk_42 (dk_at dksX4_removes_0 16 rfl rfl)
theorem dX4_removes_17 : decode cX4_removes 17 = .ok (.iload_n 1, 1) := dk_27 (dk_at dksX4_removes_0 17 rfl rfl)
theorem dX4_removes_18 : decode cX4_removes 18 = .ok (.invokevirtual 135, 3) := dk_182 0 135 (dk_at dksX4_removes_0 18 rfl rfl)
theorem dX4_removes_21 : decode cX4_removes 21 = .ok (.if_icmp .ge 30, 3) := dk_162 0 30 (dk_at dksX4_removes_0 21 rfl rfl)
theorem dX4_removes_24 : decode cX4_removes 24 = .ok (.aload_n 0, 1) := dk_42 (dk_at dksX4_removes_1 0 rfl rfl)
theorem dX4_removes_25 : decode cX4_removes 25 = .ok (.getfield 7, 3) := dk_180 0 7 (dk_at dksX4_removes_1 1 rfl rfl)
theorem dX4_removes_28 : decode cX4_removes 28 = .ok (.bipush 21, 2) := dk_16 21 (dk_at dksX4_removes_1 4 rfl rfl)
theorem dX4_removes_30 : decode cX4_removes 30 = .ok (.iload_n 1, 1) := dk_27 (dk_at dksX4_removes_1 6 rfl rfl)
theorem dX4_removes_31 : decode cX4_removes 31 = .ok (.imul, 1) := dk_104 (dk_at dksX4_removes_1 7 rfl rfl)
theorem dX4_removes_32 : decode cX4_removes 32 = .ok (.iconst 1, 1) := dk_4 (dk_at dksX4_removes_1 8 rfl rfl)
theorem dX4_removes_33 : decode cX4_removes 33 = .ok (.iadd, 1) := dk_96 (dk_at dksX4_removes_1 9 rfl rfl)
theorem dX4_removes_34 : decode cX4_removes 34 = .ok (.iload_n 3, 1) := dk_29 (dk_at dksX4_removes_1 10 rfl rfl)
theorem dX4_removes_35 : decode cX4_removes 35 = .ok (.iadd, 1) := dk_96 (dk_at dksX4_removes_1 11 rfl rfl)
theorem dX4_removes_36 : decode cX4_removes 36 = .ok (.aload_n 0, 1) := dk_42 (dk_at dksX4_removes_1 12 rfl rfl)
theorem dX4_removes_37 : decode cX4_removes 37 = .ok (.iload_n 1, 1) := dk_27 (dk_at dksX4_removes_1 13 rfl rfl)
theorem dX4_removes_38 : decode cX4_removes 38 = .ok (.iload_n 3, 1) := dk_29 (dk_at dksX4_removes_1 14 rfl rfl)
theorem dX4_removes_39 : decode cX4_removes 39 = .ok (.iconst 1, 1) := dk_4 (dk_at dksX4_removes_1 15 rfl rfl)
theorem dX4_removes_40 : decode cX4_removes 40 = .ok (.iadd, 1) := dk_96 (dk_at dksX4_removes_1 16 rfl rfl)
theorem dX4_removes_41 : decode cX4_removes 41 = .ok (.invokevirtual 139, 3) := dk_182 0 139 (dk_at dksX4_removes_1 17 rfl rfl)
theorem dX4_removes_44 : decode cX4_removes 44 = .ok (.iastore, 1) := dk_79 (dk_at dksX4_removes_1 20 rfl rfl)
theorem dX4_removes_45 : decode cX4_removes 45 = .ok (.iinc 3 1, 3) := dk_132 3 1 (dk_at dksX4_removes_1 21 rfl rfl)
theorem dX4_removes_48 : decode cX4_removes 48 = .ok (.goto (-33), 3) := dk_167 255 223 (dk_at dksX4_removes_2 0 rfl rfl)
theorem dX4_removes_51 : decode cX4_removes 51 = .ok (.aload_n 0, 1) := dk_42 (dk_at dksX4_removes_2 3 rfl rfl)
theorem dX4_removes_52 : decode cX4_removes 52 = .ok (.iload_n 1, 1) := dk_27 (dk_at dksX4_removes_2 4 rfl rfl)
theorem dX4_removes_53 : decode cX4_removes 53 = .ok (.invokevirtual 135, 3) := dk_182 0 135 (dk_at dksX4_removes_2 5 rfl rfl)
theorem dX4_removes_56 : decode cX4_removes 56 = .ok (.ireturn, 1) := dk_172 (dk_at dksX4_removes_2 8 rfl rfl)
abbrev cX4_exchange : ByteArray := prog_12_method_39_code
def yX4_exchange : MethodName := ⟨RX4, "exchange", "(II)I"⟩
def dkwX4_exchange_3 : List UInt8 := [172]
abbrev dktX4_exchange_3 : List UInt8 := dkwX4_exchange_3 ++ []
def dkwX4_exchange_2 : List UInt8 := [184, 0, 143, 160, 0, 11, 42, 5, 182, 0, 180, 167, 0, 13, 42, 42, 27, 28, 182, 0, 205, 182, 0, 192]
abbrev dktX4_exchange_2 : List UInt8 := dkwX4_exchange_2 ++ dktX4_exchange_3
def dkwX4_exchange_1 : List UInt8 := [42, 4, 182, 0, 180, 172, 42, 27, 28, 182, 0, 139, 184, 0, 143, 42, 27, 28, 4, 96, 182, 0, 139]
abbrev dktX4_exchange_1 : List UInt8 := dkwX4_exchange_1 ++ dktX4_exchange_2
def dkwX4_exchange_0 : List UInt8 := [42, 182, 0, 177, 42, 27, 28, 182, 0, 199, 153, 0, 14, 42, 27, 28, 4, 96, 182, 0, 199, 154, 0, 9]
abbrev dktX4_exchange_0 : List UInt8 := dkwX4_exchange_0 ++ dktX4_exchange_1
theorem dksX4_exchange_0 : cX4_exchange.data.toList.drop 0 = dktX4_exchange_0 := by decide +kernel
theorem dksX4_exchange_1 : cX4_exchange.data.toList.drop 24 = dktX4_exchange_1 := dk_seg dksX4_exchange_0 24 rfl rfl
theorem dksX4_exchange_2 : cX4_exchange.data.toList.drop 47 = dktX4_exchange_2 := dk_seg dksX4_exchange_1 23 rfl rfl
theorem dksX4_exchange_3 : cX4_exchange.data.toList.drop 71 = dktX4_exchange_3 := dk_seg dksX4_exchange_2 24 rfl rfl
theorem dX4_exchange_0 : decode cX4_exchange 0 = .ok (.aload_n 0, 1) := dk_42 (dk_at dksX4_exchange_0 0 rfl rfl)
theorem dX4_exchange_1 : decode cX4_exchange 1 = .ok (.invokevirtual 177, 3) := dk_182 0 177 (dk_at dksX4_exchange_0 1 rfl rfl)
theorem dX4_exchange_4 : decode cX4_exchange 4 = .ok (.aload_n 0, 1) := dk_42 (dk_at dksX4_exchange_0 4 rfl rfl)
theorem dX4_exchange_5 : decode cX4_exchange 5 = .ok (.iload_n 1, 1) := dk_27 (dk_at dksX4_exchange_0 5 rfl rfl)
theorem dX4_exchange_6 : decode cX4_exchange 6 = .ok (.iload_n 2, 1) := dk_28 (dk_at dksX4_exchange_0 6 rfl rfl)
theorem dX4_exchange_7 : decode cX4_exchange 7 = .ok (.invokevirtual 199, 3) := dk_182 0 199 (dk_at dksX4_exchange_0 7 rfl rfl)
theorem dX4_exchange_10 : decode cX4_exchange 10 = .ok (.ifCond .eq 14, 3) := dk_153 0 14 (dk_at dksX4_exchange_0 10 rfl rfl)
theorem dX4_exchange_13 : decode cX4_exchange 13 = .ok (.aload_n 0, 1) := dk_42 (dk_at dksX4_exchange_0 13 rfl rfl)
theorem dX4_exchange_14 : decode cX4_exchange 14 = .ok (.iload_n 1, 1) := dk_27 (dk_at dksX4_exchange_0 14 rfl rfl)
theorem dX4_exchange_15 : decode cX4_exchange 15 = .ok (.iload_n 2, 1) := dk_28 (dk_at dksX4_exchange_0 15 rfl rfl)
theorem dX4_exchange_16 : decode cX4_exchange 16 = .ok (.iconst 1, 1) := dk_4 (dk_at dksX4_exchange_0 16 rfl rfl)
theorem dX4_exchange_17 : decode cX4_exchange 17 = .ok (.iadd, 1) := dk_96 (dk_at dksX4_exchange_0 17 rfl rfl)
theorem dX4_exchange_18 : decode cX4_exchange 18 = .ok (.invokevirtual 199, 3) := dk_182 0 199 (dk_at dksX4_exchange_0 18 rfl rfl)
theorem dX4_exchange_21 : decode cX4_exchange 21 = .ok (.ifCond .ne 9, 3) := dk_154 0 9 (dk_at dksX4_exchange_0 21 rfl rfl)
theorem dX4_exchange_24 : decode cX4_exchange 24 = .ok (.aload_n 0, 1) := dk_42 (dk_at dksX4_exchange_1 0 rfl rfl)
theorem dX4_exchange_25 : decode cX4_exchange 25 = .ok (.iconst 1, 1) := dk_4 (dk_at dksX4_exchange_1 1 rfl rfl)
theorem dX4_exchange_26 : decode cX4_exchange 26 = .ok (.invokevirtual 180, 3) := dk_182 0 180 (dk_at dksX4_exchange_1 2 rfl rfl)
theorem dX4_exchange_29 : decode cX4_exchange 29 = .ok (.ireturn, 1) := dk_172 (dk_at dksX4_exchange_1 5 rfl rfl)
theorem dX4_exchange_30 : decode cX4_exchange 30 = .ok (.aload_n 0, 1) := dk_42 (dk_at dksX4_exchange_1 6 rfl rfl)
theorem dX4_exchange_31 : decode cX4_exchange 31 = .ok (.iload_n 1, 1) := dk_27 (dk_at dksX4_exchange_1 7 rfl rfl)
theorem dX4_exchange_32 : decode cX4_exchange 32 = .ok (.iload_n 2, 1) := dk_28 (dk_at dksX4_exchange_1 8 rfl rfl)
theorem dX4_exchange_33 : decode cX4_exchange 33 = .ok (.invokevirtual 139, 3) := dk_182 0 139 (dk_at dksX4_exchange_1 9 rfl rfl)
theorem dX4_exchange_36 : decode cX4_exchange 36 = .ok (.invokestatic 143, 3) := dk_184 0 143 (dk_at dksX4_exchange_1 12 rfl rfl)
theorem dX4_exchange_39 : decode cX4_exchange 39 = .ok (.aload_n 0, 1) := dk_42 (dk_at dksX4_exchange_1 15 rfl rfl)
theorem dX4_exchange_40 : decode cX4_exchange 40 = .ok (.iload_n 1, 1) := dk_27 (dk_at dksX4_exchange_1 16 rfl rfl)
theorem dX4_exchange_41 : decode cX4_exchange 41 = .ok (.iload_n 2, 1) := dk_28 (dk_at dksX4_exchange_1 17 rfl rfl)
theorem dX4_exchange_42 : decode cX4_exchange 42 = .ok (.iconst 1, 1) := dk_4 (dk_at dksX4_exchange_1 18 rfl rfl)
theorem dX4_exchange_43 : decode cX4_exchange 43 = .ok (.iadd, 1) := dk_96 (dk_at dksX4_exchange_1 19 rfl rfl)
theorem dX4_exchange_44 : decode cX4_exchange 44 = .ok (.invokevirtual 139, 3) := dk_182 0 139 (dk_at dksX4_exchange_1 20 rfl rfl)
theorem dX4_exchange_47 : decode cX4_exchange 47 = .ok (.invokestatic 143, 3) := dk_184 0 143 (dk_at dksX4_exchange_2 0 rfl rfl)
theorem dX4_exchange_50 : decode cX4_exchange 50 = .ok (.if_icmp .ne 11, 3) := dk_160 0 11 (dk_at dksX4_exchange_2 3 rfl rfl)
theorem dX4_exchange_53 : decode cX4_exchange 53 = .ok (.aload_n 0, 1) := dk_42 (dk_at dksX4_exchange_2 6 rfl rfl)
theorem dX4_exchange_54 : decode cX4_exchange 54 = .ok (.iconst 2, 1) := dk_5 (dk_at dksX4_exchange_2 7 rfl rfl)
theorem dX4_exchange_55 : decode cX4_exchange 55 = .ok (.invokevirtual 180, 3) := dk_182 0 180 (dk_at dksX4_exchange_2 8 rfl rfl)
theorem dX4_exchange_58 : decode cX4_exchange 58 = .ok (.goto 13, 3) := dk_167 0 13 (dk_at dksX4_exchange_2 11 rfl rfl)
theorem dX4_exchange_61 : decode cX4_exchange 61 = .ok (.aload_n 0, 1) := dk_42 (dk_at dksX4_exchange_2 14 rfl rfl)
theorem dX4_exchange_62 : decode cX4_exchange 62 = .ok (.aload_n 0, 1) := dk_42 (dk_at dksX4_exchange_2 15 rfl rfl)
theorem dX4_exchange_63 : decode cX4_exchange 63 = .ok (.iload_n 1, 1) := dk_27 (dk_at dksX4_exchange_2 16 rfl rfl)
theorem dX4_exchange_64 : decode cX4_exchange 64 = .ok (.iload_n 2, 1) := dk_28 (dk_at dksX4_exchange_2 17 rfl rfl)
theorem dX4_exchange_65 : decode cX4_exchange 65 = .ok (.invokevirtual 205, 3) := dk_182 0 205 (dk_at dksX4_exchange_2 18 rfl rfl)
theorem dX4_exchange_68 : decode cX4_exchange 68 = .ok (.invokevirtual 192, 3) := dk_182 0 192 (dk_at dksX4_exchange_2 21 rfl rfl)
theorem dX4_exchange_71 : decode cX4_exchange 71 = .ok (.ireturn, 1) := dk_172 (dk_at dksX4_exchange_3 0 rfl rfl)
abbrev cX4_swaps : ByteArray := prog_12_method_38_code
def yX4_swaps : MethodName := ⟨RX4, "swaps", "(II)I"⟩
def dkwX4_swaps_2 : List UInt8 := [184, 0, 143, 172]
abbrev dktX4_swaps_2 : List UInt8 := dkwX4_swaps_2 ++ []
def dkwX4_swaps_1 : List UInt8 := [182, 0, 139, 79, 42, 180, 0, 7, 16, 21, 27, 104, 5, 96, 28, 96, 29, 79, 42, 27, 28, 182, 0, 139]
abbrev dktX4_swaps_1 : List UInt8 := dkwX4_swaps_1 ++ dktX4_swaps_2
def dkwX4_swaps_0 : List UInt8 := [42, 27, 28, 182, 0, 139, 62, 42, 180, 0, 7, 16, 21, 27, 104, 4, 96, 28, 96, 42, 27, 28, 4, 96]
abbrev dktX4_swaps_0 : List UInt8 := dkwX4_swaps_0 ++ dktX4_swaps_1
theorem dksX4_swaps_0 : cX4_swaps.data.toList.drop 0 = dktX4_swaps_0 := by decide +kernel
theorem dksX4_swaps_1 : cX4_swaps.data.toList.drop 24 = dktX4_swaps_1 := dk_seg dksX4_swaps_0 24 rfl rfl
theorem dksX4_swaps_2 : cX4_swaps.data.toList.drop 48 = dktX4_swaps_2 := dk_seg dksX4_swaps_1 24 rfl rfl
theorem dX4_swaps_0 : decode cX4_swaps 0 = .ok (.aload_n 0, 1) := dk_42 (dk_at dksX4_swaps_0 0 rfl rfl)
theorem dX4_swaps_1 : decode cX4_swaps 1 = .ok (.iload_n 1, 1) := dk_27 (dk_at dksX4_swaps_0 1 rfl rfl)
theorem dX4_swaps_2 : decode cX4_swaps 2 = .ok (.iload_n 2, 1) := dk_28 (dk_at dksX4_swaps_0 2 rfl rfl)
theorem dX4_swaps_3 : decode cX4_swaps 3 = .ok (.invokevirtual 139, 3) := dk_182 0 139 (dk_at dksX4_swaps_0 3 rfl rfl)
theorem dX4_swaps_6 : decode cX4_swaps 6 = .ok (.istore_n 3, 1) := dk_62 (dk_at dksX4_swaps_0 6 rfl rfl)
theorem dX4_swaps_7 : decode cX4_swaps 7 = .ok (.aload_n 0, 1) := dk_42 (dk_at dksX4_swaps_0 7 rfl rfl)
theorem dX4_swaps_8 : decode cX4_swaps 8 = .ok (.getfield 7, 3) := dk_180 0 7 (dk_at dksX4_swaps_0 8 rfl rfl)
theorem dX4_swaps_11 : decode cX4_swaps 11 = .ok (.bipush 21, 2) := dk_16 21 (dk_at dksX4_swaps_0 11 rfl rfl)
theorem dX4_swaps_13 : decode cX4_swaps 13 = .ok (.iload_n 1, 1) := dk_27 (dk_at dksX4_swaps_0 13 rfl rfl)
theorem dX4_swaps_14 : decode cX4_swaps 14 = .ok (.imul, 1) := dk_104 (dk_at dksX4_swaps_0 14 rfl rfl)
theorem dX4_swaps_15 : decode cX4_swaps 15 = .ok (.iconst 1, 1) := dk_4 (dk_at dksX4_swaps_0 15 rfl rfl)
theorem dX4_swaps_16 : decode cX4_swaps 16 = .ok (.iadd, 1) := dk_96 (dk_at dksX4_swaps_0 16 rfl rfl)
theorem dX4_swaps_17 : decode cX4_swaps 17 = .ok (.iload_n 2, 1) := dk_28 (dk_at dksX4_swaps_0 17 rfl rfl)
theorem dX4_swaps_18 : decode cX4_swaps 18 = .ok (.iadd, 1) := dk_96 (dk_at dksX4_swaps_0 18 rfl rfl)
theorem dX4_swaps_19 : decode cX4_swaps 19 = .ok (.aload_n 0, 1) := dk_42 (dk_at dksX4_swaps_0 19 rfl rfl)
theorem dX4_swaps_20 : decode cX4_swaps 20 = .ok (.iload_n 1, 1) := dk_27 (dk_at dksX4_swaps_0 20 rfl rfl)
theorem dX4_swaps_21 : decode cX4_swaps 21 = .ok (.iload_n 2, 1) := dk_28 (dk_at dksX4_swaps_0 21 rfl rfl)
theorem dX4_swaps_22 : decode cX4_swaps 22 = .ok (.iconst 1, 1) := dk_4 (dk_at dksX4_swaps_0 22 rfl rfl)
theorem dX4_swaps_23 : decode cX4_swaps 23 = .ok (.iadd, 1) := dk_96 (dk_at dksX4_swaps_0 23 rfl rfl)
theorem dX4_swaps_24 : decode cX4_swaps 24 = .ok (.invokevirtual 139, 3) := dk_182 0 139 (dk_at dksX4_swaps_1 0 rfl rfl)
theorem dX4_swaps_27 : decode cX4_swaps 27 = .ok (.iastore, 1) := dk_79 (dk_at dksX4_swaps_1 3 rfl rfl)
theorem dX4_swaps_28 : decode cX4_swaps 28 = .ok (.aload_n 0, 1) := dk_42 (dk_at dksX4_swaps_1 4 rfl rfl)
theorem dX4_swaps_29 : decode cX4_swaps 29 = .ok (.getfield 7, 3) := dk_180 0 7 (dk_at dksX4_swaps_1 5 rfl rfl)
theorem dX4_swaps_32 : decode cX4_swaps 32 = .ok (.bipush 21, 2) := dk_16 21 (dk_at dksX4_swaps_1 8 rfl rfl)
theorem dX4_swaps_34 : decode cX4_swaps 34 = .ok (.iload_n 1, 1) := dk_27 (dk_at dksX4_swaps_1 10 rfl rfl)
theorem dX4_swaps_35 : decode cX4_swaps 35 = .ok (.imul, 1) := dk_104 (dk_at dksX4_swaps_1 11 rfl rfl)
theorem dX4_swaps_36 : decode cX4_swaps 36 = .ok (.iconst 2, 1) := dk_5 (dk_at dksX4_swaps_1 12 rfl rfl)
theorem dX4_swaps_37 : decode cX4_swaps 37 = .ok (.iadd, 1) := dk_96 (dk_at dksX4_swaps_1 13 rfl rfl)
theorem dX4_swaps_38 : decode cX4_swaps 38 = .ok (.iload_n 2, 1) := dk_28 (dk_at dksX4_swaps_1 14 rfl rfl)
theorem dX4_swaps_39 : decode cX4_swaps 39 = .ok (.iadd, 1) := dk_96 (dk_at dksX4_swaps_1 15 rfl rfl)
theorem dX4_swaps_40 : decode cX4_swaps 40 = .ok (.iload_n 3, 1) := dk_29 (dk_at dksX4_swaps_1 16 rfl rfl)
theorem dX4_swaps_41 : decode cX4_swaps 41 = .ok (.iastore, 1) := dk_79 (dk_at dksX4_swaps_1 17 rfl rfl)
theorem dX4_swaps_42 : decode cX4_swaps 42 = .ok (.aload_n 0, 1) := dk_42 (dk_at dksX4_swaps_1 18 rfl rfl)
theorem dX4_swaps_43 : decode cX4_swaps 43 = .ok (.iload_n 1, 1) := dk_27 (dk_at dksX4_swaps_1 19 rfl rfl)
theorem dX4_swaps_44 : decode cX4_swaps 44 = .ok (.iload_n 2, 1) := dk_28 (dk_at dksX4_swaps_1 20 rfl rfl)
theorem dX4_swaps_45 : decode cX4_swaps 45 = .ok (.invokevirtual 139, 3) := dk_182 0 139 (dk_at dksX4_swaps_1 21 rfl rfl)
theorem dX4_swaps_48 : decode cX4_swaps 48 = .ok (.invokestatic 143, 3) := dk_184 0 143 (dk_at dksX4_swaps_2 0 rfl rfl)
theorem dX4_swaps_51 : decode cX4_swaps 51 = .ok (.ireturn, 1) := dk_172 (dk_at dksX4_swaps_2 3 rfl rfl)
abbrev cX4_copy : ByteArray := prog_12_method_41_code
def yX4_copy : MethodName := ⟨RX4, "copy", "(II)I"⟩
def dkwX4_copy_1 : List UInt8 := [182, 0, 208, 182, 0, 192, 167, 0, 8, 42, 4, 182, 0, 180, 172]
abbrev dktX4_copy_1 : List UInt8 := dkwX4_copy_1 ++ []
def dkwX4_copy_0 : List UInt8 := [42, 182, 0, 177, 27, 184, 0, 131, 153, 0, 23, 28, 184, 0, 131, 153, 0, 16, 42, 42, 27, 28]
abbrev dktX4_copy_0 : List UInt8 := dkwX4_copy_0 ++ dktX4_copy_1
theorem dksX4_copy_0 : cX4_copy.data.toList.drop 0 = dktX4_copy_0 := by decide +kernel
theorem dksX4_copy_1 : cX4_copy.data.toList.drop 22 = dktX4_copy_1 := dk_seg dksX4_copy_0 22 rfl rfl
theorem dX4_copy_0 : decode cX4_copy 0 = .ok (.aload_n 0, 1) := dk_42 (dk_at dksX4_copy_0 0 rfl rfl)
theorem dX4_copy_1 : decode cX4_copy 1 = .ok (.invokevirtual 177, 3) := dk_182 0 177 (dk_at dksX4_copy_0 1 rfl rfl)
theorem dX4_copy_4 : decode cX4_copy 4 = .ok (.iload_n 1, 1) := dk_27 (dk_at dksX4_copy_0 4 rfl rfl)
theorem dX4_copy_5 : decode cX4_copy 5 = .ok (.invokestatic 131, 3) := dk_184 0 131 (dk_at dksX4_copy_0 5 rfl rfl)
theorem dX4_copy_8 : decode cX4_copy 8 = .ok (.ifCond .eq 23, 3) := dk_153 0 23 (dk_at dksX4_copy_0 8 rfl rfl)
theorem dX4_copy_11 : decode cX4_copy 11 = .ok (.iload_n 2, 1) := dk_28 (dk_at dksX4_copy_0 11 rfl rfl)
theorem dX4_copy_12 : decode cX4_copy 12 = .ok (.invokestatic 131, 3) := dk_184 0 131 (dk_at dksX4_copy_0 12 rfl rfl)
theorem dX4_copy_15 : decode cX4_copy 15 = .ok (.ifCond .eq 16, 3) := dk_153 0 16 (dk_at dksX4_copy_0 15 rfl rfl)
theorem dX4_copy_18 : decode cX4_copy 18 = .ok (.aload_n 0, 1) := dk_42 (dk_at dksX4_copy_0 18 rfl rfl)
theorem dX4_copy_19 : decode cX4_copy 19 = .ok (.aload_n 0, 1) := dk_42 (dk_at dksX4_copy_0 19 rfl rfl)
theorem dX4_copy_20 : decode cX4_copy 20 = .ok (.iload_n 1, 1) := dk_27 (dk_at dksX4_copy_0 20 rfl rfl)
theorem dX4_copy_21 : decode cX4_copy 21 = .ok (.iload_n 2, 1) := dk_28 (dk_at dksX4_copy_0 21 rfl rfl)
theorem dX4_copy_22 : decode cX4_copy 22 = .ok (.invokevirtual 208, 3) := dk_182 0 208 (dk_at dksX4_copy_1 0 rfl rfl)
theorem dX4_copy_25 : decode cX4_copy 25 = .ok (.invokevirtual 192, 3) := dk_182 0 192 (dk_at dksX4_copy_1 3 rfl rfl)
theorem dX4_copy_28 : decode cX4_copy 28 = .ok (.goto 8, 3) := dk_167 0 8 (dk_at dksX4_copy_1 6 rfl rfl)
theorem dX4_copy_31 : decode cX4_copy 31 = .ok (.aload_n 0, 1) := dk_42 (dk_at dksX4_copy_1 9 rfl rfl)
theorem dX4_copy_32 : decode cX4_copy 32 = .ok (.iconst 1, 1) := dk_4 (dk_at dksX4_copy_1 10 rfl rfl)
theorem dX4_copy_33 : decode cX4_copy 33 = .ok (.invokevirtual 180, 3) := dk_182 0 180 (dk_at dksX4_copy_1 11 rfl rfl)
theorem dX4_copy_36 : decode cX4_copy 36 = .ok (.ireturn, 1) := dk_172 (dk_at dksX4_copy_1 14 rfl rfl)
abbrev cX4_copies : ByteArray := prog_12_method_40_code
def yX4_copies : MethodName := ⟨RX4, "copies", "(II)I"⟩
def dkwX4_copies_1 : List UInt8 := [28, 104, 29, 96, 46, 79, 132, 3, 1, 167, 255, 225, 42, 27, 182, 0, 135, 172]
abbrev dktX4_copies_1 : List UInt8 := dkwX4_copies_1 ++ []
def dkwX4_copies_0 : List UInt8 := [3, 62, 29, 16, 21, 162, 0, 31, 42, 180, 0, 7, 16, 21, 27, 104, 29, 96, 42, 180, 0, 7, 16, 21]
abbrev dktX4_copies_0 : List UInt8 := dkwX4_copies_0 ++ dktX4_copies_1
theorem dksX4_copies_0 : cX4_copies.data.toList.drop 0 = dktX4_copies_0 := by decide +kernel
theorem dksX4_copies_1 : cX4_copies.data.toList.drop 24 = dktX4_copies_1 := dk_seg dksX4_copies_0 24 rfl rfl
theorem dX4_copies_0 : decode cX4_copies 0 = .ok (.iconst 0, 1) := dk_3 (dk_at dksX4_copies_0 0 rfl rfl)
theorem dX4_copies_1 : decode cX4_copies 1 = .ok (.istore_n 3, 1) := dk_62 (dk_at dksX4_copies_0 1 rfl rfl)
theorem dX4_copies_2 : decode cX4_copies 2 = .ok (.iload_n 3, 1) := dk_29 (dk_at dksX4_copies_0 2 rfl rfl)
theorem dX4_copies_3 : decode cX4_copies 3 = .ok (.bipush 21, 2) := dk_16 21 (dk_at dksX4_copies_0 3 rfl rfl)
theorem dX4_copies_5 : decode cX4_copies 5 = .ok (.if_icmp .ge 31, 3) := dk_162 0 31 (dk_at dksX4_copies_0 5 rfl rfl)
theorem dX4_copies_8 : decode cX4_copies 8 = .ok (.aload_n 0, 1) := dk_42 (dk_at dksX4_copies_0 8 rfl rfl)
theorem dX4_copies_9 : decode cX4_copies 9 = .ok (.getfield 7, 3) := dk_180 0 7 (dk_at dksX4_copies_0 9 rfl rfl)
theorem dX4_copies_12 : decode cX4_copies 12 = .ok (.bipush 21, 2) := dk_16 21 (dk_at dksX4_copies_0 12 rfl rfl)
theorem dX4_copies_14 : decode cX4_copies 14 = .ok (.iload_n 1, 1) := dk_27 (dk_at dksX4_copies_0 14 rfl rfl)
theorem dX4_copies_15 : decode cX4_copies 15 = .ok (.imul, 1) := dk_104 (dk_at dksX4_copies_0 15 rfl rfl)
theorem dX4_copies_16 : decode cX4_copies 16 = .ok (.iload_n 3, 1) := dk_29 (dk_at dksX4_copies_0 16 rfl rfl)
theorem dX4_copies_17 : decode cX4_copies 17 = .ok (.iadd, 1) := dk_96 (dk_at dksX4_copies_0 17 rfl rfl)
theorem dX4_copies_18 : decode cX4_copies 18 = .ok (.aload_n 0, 1) := dk_42 (dk_at dksX4_copies_0 18 rfl rfl)
theorem dX4_copies_19 : decode cX4_copies 19 = .ok (.getfield 7, 3) := dk_180 0 7 (dk_at dksX4_copies_0 19 rfl rfl)
theorem dX4_copies_22 : decode cX4_copies 22 = .ok (.bipush 21, 2) := dk_16 21 (dk_at dksX4_copies_0 22 rfl rfl)
theorem dX4_copies_24 : decode cX4_copies 24 = .ok (.iload_n 2, 1) := dk_28 (dk_at dksX4_copies_1 0 rfl rfl)
theorem dX4_copies_25 : decode cX4_copies 25 = .ok (.imul, 1) := dk_104 (dk_at dksX4_copies_1 1 rfl rfl)
theorem dX4_copies_26 : decode cX4_copies 26 = .ok (.iload_n 3, 1) := dk_29 (dk_at dksX4_copies_1 2 rfl rfl)
theorem dX4_copies_27 : decode cX4_copies 27 = .ok (.iadd, 1) := dk_96 (dk_at dksX4_copies_1 3 rfl rfl)
theorem dX4_copies_28 : decode cX4_copies 28 = .ok (.iaload, 1) := dk_46 (dk_at dksX4_copies_1 4 rfl rfl)
theorem dX4_copies_29 : decode cX4_copies 29 = .ok (.iastore, 1) := dk_79 (dk_at dksX4_copies_1 5 rfl rfl)
theorem dX4_copies_30 : decode cX4_copies 30 = .ok (.iinc 3 1, 3) := dk_132 3 1 (dk_at dksX4_copies_1 6 rfl rfl)
theorem dX4_copies_33 : decode cX4_copies 33 = .ok (.goto (-31), 3) := dk_167 255 225 (dk_at dksX4_copies_1 9 rfl rfl)
theorem dX4_copies_36 : decode cX4_copies 36 = .ok (.aload_n 0, 1) := dk_42 (dk_at dksX4_copies_1 12 rfl rfl)
theorem dX4_copies_37 : decode cX4_copies 37 = .ok (.iload_n 1, 1) := dk_27 (dk_at dksX4_copies_1 13 rfl rfl)
theorem dX4_copies_38 : decode cX4_copies 38 = .ok (.invokevirtual 135, 3) := dk_182 0 135 (dk_at dksX4_copies_1 14 rfl rfl)
theorem dX4_copies_41 : decode cX4_copies 41 = .ok (.ireturn, 1) := dk_172 (dk_at dksX4_copies_1 17 rfl rfl)
abbrev cX4_clear : ByteArray := prog_12_method_43_code
def yX4_clear : MethodName := ⟨RX4, "clear", "(I)I"⟩
def dkwX4_clear_1 : List UInt8 := [4, 182, 0, 180, 172]
abbrev dktX4_clear_1 : List UInt8 := dkwX4_clear_1 ++ []
def dkwX4_clear_0 : List UInt8 := [42, 182, 0, 177, 27, 184, 0, 131, 153, 0, 15, 42, 42, 27, 182, 0, 211, 182, 0, 192, 167, 0, 8, 42]
abbrev dktX4_clear_0 : List UInt8 := dkwX4_clear_0 ++ dktX4_clear_1
theorem dksX4_clear_0 : cX4_clear.data.toList.drop 0 = dktX4_clear_0 := by decide +kernel
theorem dksX4_clear_1 : cX4_clear.data.toList.drop 24 = dktX4_clear_1 := dk_seg dksX4_clear_0 24 rfl rfl
theorem dX4_clear_0 : decode cX4_clear 0 = .ok (.aload_n 0, 1) := dk_42 (dk_at dksX4_clear_0 0 rfl rfl)
theorem dX4_clear_1 : decode cX4_clear 1 = .ok (.invokevirtual 177, 3) := dk_182 0 177 (dk_at dksX4_clear_0 1 rfl rfl)
theorem dX4_clear_4 : decode cX4_clear 4 = .ok (.iload_n 1, 1) := dk_27 (dk_at dksX4_clear_0 4 rfl rfl)
theorem dX4_clear_5 : decode cX4_clear 5 = .ok (.invokestatic 131, 3) := dk_184 0 131 (dk_at dksX4_clear_0 5 rfl rfl)
theorem dX4_clear_8 : decode cX4_clear 8 = .ok (.ifCond .eq 15, 3) := dk_153 0 15 (dk_at dksX4_clear_0 8 rfl rfl)
theorem dX4_clear_11 : decode cX4_clear 11 = .ok (.aload_n 0, 1) := dk_42 (dk_at dksX4_clear_0 11 rfl rfl)
theorem dX4_clear_12 : decode cX4_clear 12 = .ok (.aload_n 0, 1) := dk_42 (dk_at dksX4_clear_0 12 rfl rfl)
theorem dX4_clear_13 : decode cX4_clear 13 = .ok (.iload_n 1, 1) := dk_27 (dk_at dksX4_clear_0 13 rfl rfl)
theorem dX4_clear_14 : decode cX4_clear 14 = .ok (.invokevirtual 211, 3) := dk_182 0 211 (dk_at dksX4_clear_0 14 rfl rfl)
theorem dX4_clear_17 : decode cX4_clear 17 = .ok (.invokevirtual 192, 3) := dk_182 0 192 (dk_at dksX4_clear_0 17 rfl rfl)
theorem dX4_clear_20 : decode cX4_clear 20 = .ok (.goto 8, 3) := dk_167 0 8 (dk_at dksX4_clear_0 20 rfl rfl)
theorem dX4_clear_23 : decode cX4_clear 23 = .ok (.aload_n 0, 1) := dk_42 (dk_at dksX4_clear_0 23 rfl rfl)
theorem dX4_clear_24 : decode cX4_clear 24 = .ok (.iconst 1, 1) := dk_4 (dk_at dksX4_clear_1 0 rfl rfl)
theorem dX4_clear_25 : decode cX4_clear 25 = .ok (.invokevirtual 180, 3) := dk_182 0 180 (dk_at dksX4_clear_1 1 rfl rfl)
theorem dX4_clear_28 : decode cX4_clear 28 = .ok (.ireturn, 1) := dk_172 (dk_at dksX4_clear_1 4 rfl rfl)
abbrev cX4_clears : ByteArray := prog_12_method_42_code
def yX4_clears : MethodName := ⟨RX4, "clears", "(I)I"⟩
def dkwX4_clears_0 : List UInt8 := [42, 27, 182, 0, 135, 61, 42, 180, 0, 7, 16, 21, 27, 104, 3, 79, 28, 172]
abbrev dktX4_clears_0 : List UInt8 := dkwX4_clears_0 ++ []
theorem dksX4_clears_0 : cX4_clears.data.toList.drop 0 = dktX4_clears_0 := by decide +kernel
theorem dX4_clears_0 : decode cX4_clears 0 = .ok (.aload_n 0, 1) := dk_42 (dk_at dksX4_clears_0 0 rfl rfl)
theorem dX4_clears_1 : decode cX4_clears 1 = .ok (.iload_n 1, 1) := dk_27 (dk_at dksX4_clears_0 1 rfl rfl)
theorem dX4_clears_2 : decode cX4_clears 2 = .ok (.invokevirtual 135, 3) := dk_182 0 135 (dk_at dksX4_clears_0 2 rfl rfl)
theorem dX4_clears_5 : decode cX4_clears 5 = .ok (.istore_n 2, 1) := dk_61 (dk_at dksX4_clears_0 5 rfl rfl)
theorem dX4_clears_6 : decode cX4_clears 6 = .ok (.aload_n 0, 1) := dk_42 (dk_at dksX4_clears_0 6 rfl rfl)
theorem dX4_clears_7 : decode cX4_clears 7 = .ok (.getfield 7, 3) := dk_180 0 7 (dk_at dksX4_clears_0 7 rfl rfl)
theorem dX4_clears_10 : decode cX4_clears 10 = .ok (.bipush 21, 2) := dk_16 21 (dk_at dksX4_clears_0 10 rfl rfl)
theorem dX4_clears_12 : decode cX4_clears 12 = .ok (.iload_n 1, 1) := dk_27 (dk_at dksX4_clears_0 12 rfl rfl)
theorem dX4_clears_13 : decode cX4_clears 13 = .ok (.imul, 1) := dk_104 (dk_at dksX4_clears_0 13 rfl rfl)
theorem dX4_clears_14 : decode cX4_clears 14 = .ok (.iconst 0, 1) := dk_3 (dk_at dksX4_clears_0 14 rfl rfl)
theorem dX4_clears_15 : decode cX4_clears 15 = .ok (.iastore, 1) := dk_79 (dk_at dksX4_clears_0 15 rfl rfl)
theorem dX4_clears_16 : decode cX4_clears 16 = .ok (.iload_n 2, 1) := dk_28 (dk_at dksX4_clears_0 16 rfl rfl)
theorem dX4_clears_17 : decode cX4_clears 17 = .ok (.ireturn, 1) := dk_172 (dk_at dksX4_clears_0 17 rfl rfl)
abbrev cX4_setValue : ByteArray := prog_12_method_45_code
def yX4_setValue : MethodName := ⟨RX4, "setValue", "(CI)I"⟩
def dkwX4_setValue_1 : List UInt8 := [27, 16, 97, 100, 28, 182, 0, 214, 182, 0, 192, 167, 0, 8, 42, 4, 182, 0, 180, 172]
abbrev dktX4_setValue_1 : List UInt8 := dkwX4_setValue_1 ++ []
def dkwX4_setValue_0 : List UInt8 := [42, 182, 0, 177, 27, 184, 0, 163, 153, 0, 30, 28, 3, 17, 3, 231, 184, 0, 127, 153, 0, 19, 42, 42]
abbrev dktX4_setValue_0 : List UInt8 := dkwX4_setValue_0 ++ dktX4_setValue_1
theorem dksX4_setValue_0 : cX4_setValue.data.toList.drop 0 = dktX4_setValue_0 := by decide +kernel
theorem dksX4_setValue_1 : cX4_setValue.data.toList.drop 24 = dktX4_setValue_1 := dk_seg dksX4_setValue_0 24 rfl rfl
theorem dX4_setValue_0 : decode cX4_setValue 0 = .ok (.aload_n 0, 1) := dk_42 (dk_at dksX4_setValue_0 0 rfl rfl)
theorem dX4_setValue_1 : decode cX4_setValue 1 = .ok (.invokevirtual 177, 3) := dk_182 0 177 (dk_at dksX4_setValue_0 1 rfl rfl)
theorem dX4_setValue_4 : decode cX4_setValue 4 = .ok (.iload_n 1, 1) := dk_27 (dk_at dksX4_setValue_0 4 rfl rfl)
theorem dX4_setValue_5 : decode cX4_setValue 5 = .ok (.invokestatic 163, 3) := dk_184 0 163 (dk_at dksX4_setValue_0 5 rfl rfl)
theorem dX4_setValue_8 : decode cX4_setValue 8 = .ok (.ifCond .eq 30, 3) := dk_153 0 30 (dk_at dksX4_setValue_0 8 rfl rfl)
theorem dX4_setValue_11 : decode cX4_setValue 11 = .ok (.iload_n 2, 1) := dk_28 (dk_at dksX4_setValue_0 11 rfl rfl)
theorem dX4_setValue_12 : decode cX4_setValue 12 = .ok (.iconst 0, 1) := dk_3 (dk_at dksX4_setValue_0 12 rfl rfl)
theorem dX4_setValue_13 : decode cX4_setValue 13 = .ok (.sipush 999, 3) := dk_17 3 231 (dk_at dksX4_setValue_0 13 rfl rfl)
theorem dX4_setValue_16 : decode cX4_setValue 16 = .ok (.invokestatic 127, 3) := dk_184 0 127 (dk_at dksX4_setValue_0 16 rfl rfl)
theorem dX4_setValue_19 : decode cX4_setValue 19 = .ok (.ifCond .eq 19, 3) := dk_153 0 19 (dk_at dksX4_setValue_0 19 rfl rfl)
theorem dX4_setValue_22 : decode cX4_setValue 22 = .ok (.aload_n 0, 1) := dk_42 (dk_at dksX4_setValue_0 22 rfl rfl)
theorem dX4_setValue_23 : decode cX4_setValue 23 = .ok (.aload_n 0, 1) := dk_42 (dk_at dksX4_setValue_0 23 rfl rfl)
theorem dX4_setValue_24 : decode cX4_setValue 24 = .ok (.iload_n 1, 1) := dk_27 (dk_at dksX4_setValue_1 0 rfl rfl)
theorem dX4_setValue_25 : decode cX4_setValue 25 = .ok (.bipush 97, 2) := dk_16 97 (dk_at dksX4_setValue_1 1 rfl rfl)
theorem dX4_setValue_27 : decode cX4_setValue 27 = .ok (.isub, 1) := dk_100 (dk_at dksX4_setValue_1 3 rfl rfl)
theorem dX4_setValue_28 : decode cX4_setValue 28 = .ok (.iload_n 2, 1) := dk_28 (dk_at dksX4_setValue_1 4 rfl rfl)
theorem dX4_setValue_29 : decode cX4_setValue 29 = .ok (.invokevirtual 214, 3) := dk_182 0 214 (dk_at dksX4_setValue_1 5 rfl rfl)
theorem dX4_setValue_32 : decode cX4_setValue 32 = .ok (.invokevirtual 192, 3) := dk_182 0 192 (dk_at dksX4_setValue_1 8 rfl rfl)
theorem dX4_setValue_35 : decode cX4_setValue 35 = .ok (.goto 8, 3) := dk_167 0 8 (dk_at dksX4_setValue_1 11 rfl rfl)
theorem dX4_setValue_38 : decode cX4_setValue 38 = .ok (.aload_n 0, 1) := dk_42 (dk_at dksX4_setValue_1 14 rfl rfl)
theorem dX4_setValue_39 : decode cX4_setValue 39 = .ok (.iconst 1, 1) := dk_4 (dk_at dksX4_setValue_1 15 rfl rfl)
theorem dX4_setValue_40 : decode cX4_setValue 40 = .ok (.invokevirtual 180, 3) := dk_182 0 180 (dk_at dksX4_setValue_1 16 rfl rfl)
theorem dX4_setValue_43 : decode cX4_setValue 43 = .ok (.ireturn, 1) := dk_172 (dk_at dksX4_setValue_1 19 rfl rfl)
abbrev cX4_setsValue : ByteArray := prog_12_method_44_code
def yX4_setsValue : MethodName := ⟨RX4, "setsValue", "(II)I"⟩
def dkwX4_setsValue_0 : List UInt8 := [42, 180, 0, 7, 16, 84, 27, 96, 46, 62, 42, 180, 0, 7, 16, 84, 27, 96, 28, 79, 29, 172]
abbrev dktX4_setsValue_0 : List UInt8 := dkwX4_setsValue_0 ++ []
theorem dksX4_setsValue_0 : cX4_setsValue.data.toList.drop 0 = dktX4_setsValue_0 := by decide +kernel
theorem dX4_setsValue_0 : decode cX4_setsValue 0 = .ok (.aload_n 0, 1) := dk_42 (dk_at dksX4_setsValue_0 0 rfl rfl)
theorem dX4_setsValue_1 : decode cX4_setsValue 1 = .ok (.getfield 7, 3) := dk_180 0 7 (dk_at dksX4_setsValue_0 1 rfl rfl)
theorem dX4_setsValue_4 : decode cX4_setsValue 4 = .ok (.bipush 84, 2) := dk_16 84 (dk_at dksX4_setsValue_0 4 rfl rfl)
theorem dX4_setsValue_6 : decode cX4_setsValue 6 = .ok (.iload_n 1, 1) := dk_27 (dk_at dksX4_setsValue_0 6 rfl rfl)
theorem dX4_setsValue_7 : decode cX4_setsValue 7 = .ok (.iadd, 1) := dk_96 (dk_at dksX4_setsValue_0 7 rfl rfl)
theorem dX4_setsValue_8 : decode cX4_setsValue 8 = .ok (.iaload, 1) := dk_46 (dk_at dksX4_setsValue_0 8 rfl rfl)
theorem dX4_setsValue_9 : decode cX4_setsValue 9 = .ok (.istore_n 3, 1) := dk_62 (dk_at dksX4_setsValue_0 9 rfl rfl)
theorem dX4_setsValue_10 : decode cX4_setsValue 10 = .ok (.aload_n 0, 1) := dk_42 (dk_at dksX4_setsValue_0 10 rfl rfl)
theorem dX4_setsValue_11 : decode cX4_setsValue 11 = .ok (.getfield 7, 3) := dk_180 0 7 (dk_at dksX4_setsValue_0 11 rfl rfl)
theorem dX4_setsValue_14 : decode cX4_setsValue 14 = .ok (.bipush 84, 2) := dk_16 84 (dk_at dksX4_setsValue_0 14 rfl rfl)
theorem dX4_setsValue_16 : decode cX4_setsValue 16 = .ok (.iload_n 1, 1) := dk_27 (dk_at dksX4_setsValue_0 16 rfl rfl)
theorem dX4_setsValue_17 : decode cX4_setsValue 17 = .ok (.iadd, 1) := dk_96 (dk_at dksX4_setsValue_0 17 rfl rfl)
theorem dX4_setsValue_18 : decode cX4_setsValue 18 = .ok (.iload_n 2, 1) := dk_28 (dk_at dksX4_setsValue_0 18 rfl rfl)
theorem dX4_setsValue_19 : decode cX4_setsValue 19 = .ok (.iastore, 1) := dk_79 (dk_at dksX4_setsValue_0 19 rfl rfl)
theorem dX4_setsValue_20 : decode cX4_setsValue 20 = .ok (.iload_n 3, 1) := dk_29 (dk_at dksX4_setsValue_0 20 rfl rfl)
theorem dX4_setsValue_21 : decode cX4_setsValue 21 = .ok (.ireturn, 1) := dk_172 (dk_at dksX4_setsValue_0 21 rfl rfl)
abbrev cX4_serialize : ByteArray := prog_12_method_55_code
def yX4_serialize : MethodName := ⟨RX4, "serialize", "(II)I"⟩
def dkwX4_serialize_2 : List UInt8 := [167, 0, 8, 42, 5, 182, 0, 180, 172]
abbrev dktX4_serialize_2 : List UInt8 := dkwX4_serialize_2 ++ []
def dkwX4_serialize_1 : List UInt8 := [42, 28, 182, 0, 243, 153, 0, 22, 42, 42, 27, 42, 180, 0, 72, 184, 0, 240, 182, 0, 246, 182, 0, 192]
abbrev dktX4_serialize_1 : List UInt8 := dkwX4_serialize_1 ++ dktX4_serialize_2
def dkwX4_serialize_0 : List UInt8 := [42, 182, 0, 177, 27, 184, 0, 131, 153, 0, 10, 28, 184, 0, 131, 154, 0, 9, 42, 4, 182, 0, 180, 172]
abbrev dktX4_serialize_0 : List UInt8 := dkwX4_serialize_0 ++ dktX4_serialize_1
theorem dksX4_serialize_0 : cX4_serialize.data.toList.drop 0 = dktX4_serialize_0 := by decide +kernel
theorem dksX4_serialize_1 : cX4_serialize.data.toList.drop 24 = dktX4_serialize_1 := dk_seg dksX4_serialize_0 24 rfl rfl
theorem dksX4_serialize_2 : cX4_serialize.data.toList.drop 48 = dktX4_serialize_2 := dk_seg dksX4_serialize_1 24 rfl rfl
theorem dX4_serialize_0 : decode cX4_serialize 0 = .ok (.aload_n 0, 1) := dk_42 (dk_at dksX4_serialize_0 0 rfl rfl)
theorem dX4_serialize_1 : decode cX4_serialize 1 = .ok (.invokevirtual 177, 3) := dk_182 0 177 (dk_at dksX4_serialize_0 1 rfl rfl)
theorem dX4_serialize_4 : decode cX4_serialize 4 = .ok (.iload_n 1, 1) := dk_27 (dk_at dksX4_serialize_0 4 rfl rfl)
theorem dX4_serialize_5 : decode cX4_serialize 5 = .ok (.invokestatic 131, 3) := dk_184 0 131 (dk_at dksX4_serialize_0 5 rfl rfl)
theorem dX4_serialize_8 : decode cX4_serialize 8 = .ok (.ifCond .eq 10, 3) := dk_153 0 10 (dk_at dksX4_serialize_0 8 rfl rfl)
theorem dX4_serialize_11 : decode cX4_serialize 11 = .ok (.iload_n 2, 1) := dk_28 (dk_at dksX4_serialize_0 11 rfl rfl)
theorem dX4_serialize_12 : decode cX4_serialize 12 = .ok (.invokestatic 131, 3) := dk_184 0 131 (dk_at dksX4_serialize_0 12 rfl rfl)
theorem dX4_serialize_15 : decode cX4_serialize 15 = .ok (.ifCond .ne 9, 3) := dk_154 0 9 (dk_at dksX4_serialize_0 15 rfl rfl)
theorem dX4_serialize_18 : decode cX4_serialize 18 = .ok (.aload_n 0, 1) := dk_42 (dk_at dksX4_serialize_0 18 rfl rfl)
theorem dX4_serialize_19 : decode cX4_serialize 19 = .ok (.iconst 1, 1) := dk_4 (dk_at dksX4_serialize_0 19 rfl rfl)
theorem dX4_serialize_20 : decode cX4_serialize 20 = .ok (.invokevirtual 180, 3) := dk_182 0 180 (dk_at dksX4_serialize_0 20 rfl rfl)
theorem dX4_serialize_23 : decode cX4_serialize 23 = .ok (.ireturn, 1) := dk_172 (dk_at dksX4_serialize_0 23 rfl rfl)
theorem dX4_serialize_24 : decode cX4_serialize 24 = .ok (.aload_n 0, 1) := dk_42 (dk_at dksX4_serialize_1 0 rfl rfl)
theorem dX4_serialize_25 : decode cX4_serialize 25 = .ok (.iload_n 2, 1) := dk_28 (dk_at dksX4_serialize_1 1 rfl rfl)
theorem dX4_serialize_26 : decode cX4_serialize 26 = .ok (.invokevirtual 243, 3) := dk_182 0 243 (dk_at dksX4_serialize_1 2 rfl rfl)
theorem dX4_serialize_29 : decode cX4_serialize 29 = .ok (.ifCond .eq 22, 3) := dk_153 0 22 (dk_at dksX4_serialize_1 5 rfl rfl)
theorem dX4_serialize_32 : decode cX4_serialize 32 = .ok (.aload_n 0, 1) := dk_42 (dk_at dksX4_serialize_1 8 rfl rfl)
theorem dX4_serialize_33 : decode cX4_serialize 33 = .ok (.aload_n 0, 1) := dk_42 (dk_at dksX4_serialize_1 9 rfl rfl)
theorem dX4_serialize_34 : decode cX4_serialize 34 = .ok (.iload_n 1, 1) := dk_27 (dk_at dksX4_serialize_1 10 rfl rfl)
theorem dX4_serialize_35 : decode cX4_serialize 35 = .ok (.aload_n 0, 1) := dk_42 (dk_at dksX4_serialize_1 11 rfl rfl)
theorem dX4_serialize_36 : decode cX4_serialize 36 = .ok (.getfield 72, 3) := dk_180 0 72 (dk_at dksX4_serialize_1 12 rfl rfl)
theorem dX4_serialize_39 : decode cX4_serialize 39 = .ok (.invokestatic 240, 3) := dk_184 0 240 (dk_at dksX4_serialize_1 15 rfl rfl)
theorem dX4_serialize_42 : decode cX4_serialize 42 = .ok (.invokevirtual 246, 3) := dk_182 0 246 (dk_at dksX4_serialize_1 18 rfl rfl)
theorem dX4_serialize_45 : decode cX4_serialize 45 = .ok (.invokevirtual 192, 3) := dk_182 0 192 (dk_at dksX4_serialize_1 21 rfl rfl)
theorem dX4_serialize_48 : decode cX4_serialize 48 = .ok (.goto 8, 3) := dk_167 0 8 (dk_at dksX4_serialize_2 0 rfl rfl)
theorem dX4_serialize_51 : decode cX4_serialize 51 = .ok (.aload_n 0, 1) := dk_42 (dk_at dksX4_serialize_2 3 rfl rfl)
theorem dX4_serialize_52 : decode cX4_serialize 52 = .ok (.iconst 2, 1) := dk_5 (dk_at dksX4_serialize_2 4 rfl rfl)
theorem dX4_serialize_53 : decode cX4_serialize 53 = .ok (.invokevirtual 180, 3) := dk_182 0 180 (dk_at dksX4_serialize_2 5 rfl rfl)
theorem dX4_serialize_56 : decode cX4_serialize 56 = .ok (.ireturn, 1) := dk_172 (dk_at dksX4_serialize_2 8 rfl rfl)
abbrev cX4_isSerial : ByteArray := prog_12_method_53_code
def yX4_isSerial : MethodName := ⟨RX4, "isSerial", "(I)Z"⟩
def dkwX4_isSerial_0 : List UInt8 := [42, 27, 182, 0, 237, 42, 180, 0, 72, 184, 0, 240, 160, 0, 7, 4, 167, 0, 4, 3, 172]
abbrev dktX4_isSerial_0 : List UInt8 := dkwX4_isSerial_0 ++ []
theorem dksX4_isSerial_0 : cX4_isSerial.data.toList.drop 0 = dktX4_isSerial_0 := by decide +kernel
theorem dX4_isSerial_0 : decode cX4_isSerial 0 = .ok (.aload_n 0, 1) := dk_42 (dk_at dksX4_isSerial_0 0 rfl rfl)
theorem dX4_isSerial_1 : decode cX4_isSerial 1 = .ok (.iload_n 1, 1) := dk_27 (dk_at dksX4_isSerial_0 1 rfl rfl)
theorem dX4_isSerial_2 : decode cX4_isSerial 2 = .ok (.invokevirtual 237, 3) := dk_182 0 237 (dk_at dksX4_isSerial_0 2 rfl rfl)
theorem dX4_isSerial_5 : decode cX4_isSerial 5 = .ok (.aload_n 0, 1) := dk_42 (dk_at dksX4_isSerial_0 5 rfl rfl)
theorem dX4_isSerial_6 : decode cX4_isSerial 6 = .ok (.getfield 72, 3) := dk_180 0 72 (dk_at dksX4_isSerial_0 6 rfl rfl)
theorem dX4_isSerial_9 : decode cX4_isSerial 9 = .ok (.invokestatic 240, 3) := dk_184 0 240 (dk_at dksX4_isSerial_0 9 rfl rfl)
theorem dX4_isSerial_12 : decode cX4_isSerial 12 = .ok (.if_icmp .ne 7, 3) := dk_160 0 7 (dk_at dksX4_isSerial_0 12 rfl rfl)
theorem dX4_isSerial_15 : decode cX4_isSerial 15 = .ok (.iconst 1, 1) := dk_4 (dk_at dksX4_isSerial_0 15 rfl rfl)
theorem dX4_isSerial_16 : decode cX4_isSerial 16 = .ok (.goto 4, 3) := dk_167 0 4 (dk_at dksX4_isSerial_0 16 rfl rfl)
theorem dX4_isSerial_19 : decode cX4_isSerial 19 = .ok (.iconst 0, 1) := dk_3 (dk_at dksX4_isSerial_0 19 rfl rfl)
theorem dX4_isSerial_20 : decode cX4_isSerial 20 = .ok (.ireturn, 1) := dk_172 (dk_at dksX4_isSerial_0 20 rfl rfl)
abbrev cX4_laySerial : ByteArray := prog_12_method_51_code
def yX4_laySerial : MethodName := ⟨RX4, "laySerial", "(I)I"⟩
def dkwX4_laySerial_4 : List UInt8 := [29, 172]
abbrev dktX4_laySerial_4 : List UInt8 := dkwX4_laySerial_4 ++ []
def dkwX4_laySerial_3 : List UInt8 := [42, 180, 0, 63, 29, 21, 4, 79, 132, 3, 1, 28, 4, 21, 4, 120, 128, 61, 4, 54, 4, 167, 255, 175]
abbrev dktX4_laySerial_3 : List UInt8 := dkwX4_laySerial_3 ++ dktX4_laySerial_4
def dkwX4_laySerial_2 : List UInt8 := [2, 130, 126, 154, 0, 7, 4, 167, 0, 4, 3, 54, 5, 21, 5, 154, 0, 9, 132, 4, 1, 167, 255, 199]
abbrev dktX4_laySerial_2 : List UInt8 := dkwX4_laySerial_2 ++ dktX4_laySerial_3
def dkwX4_laySerial_1 : List UInt8 := [122, 4, 126, 4, 160, 0, 30, 28, 21, 4, 122, 4, 126, 154, 0, 21, 42, 180, 0, 60, 21, 4, 46, 28]
abbrev dktX4_laySerial_1 : List UInt8 := dkwX4_laySerial_1 ++ dktX4_laySerial_2
def dkwX4_laySerial_0 : List UInt8 := [42, 27, 182, 0, 234, 3, 61, 3, 62, 4, 54, 4, 21, 4, 8, 163, 0, 81, 42, 180, 0, 72, 21, 4]
abbrev dktX4_laySerial_0 : List UInt8 := dkwX4_laySerial_0 ++ dktX4_laySerial_1
theorem dksX4_laySerial_0 : cX4_laySerial.data.toList.drop 0 = dktX4_laySerial_0 := by decide +kernel
theorem dksX4_laySerial_1 : cX4_laySerial.data.toList.drop 24 = dktX4_laySerial_1 := dk_seg dksX4_laySerial_0 24 rfl rfl
theorem dksX4_laySerial_2 : cX4_laySerial.data.toList.drop 48 = dktX4_laySerial_2 := dk_seg dksX4_laySerial_1 24 rfl rfl
theorem dksX4_laySerial_3 : cX4_laySerial.data.toList.drop 72 = dktX4_laySerial_3 := dk_seg dksX4_laySerial_2 24 rfl rfl
theorem dksX4_laySerial_4 : cX4_laySerial.data.toList.drop 96 = dktX4_laySerial_4 := dk_seg dksX4_laySerial_3 24 rfl rfl
theorem dX4_laySerial_0 : decode cX4_laySerial 0 = .ok (.aload_n 0, 1) := dk_42 (dk_at dksX4_laySerial_0 0 rfl rfl)
theorem dX4_laySerial_1 : decode cX4_laySerial 1 = .ok (.iload_n 1, 1) := dk_27 (dk_at dksX4_laySerial_0 1 rfl rfl)
theorem dX4_laySerial_2 : decode cX4_laySerial 2 = .ok (.invokevirtual 234, 3) := dk_182 0 234 (dk_at dksX4_laySerial_0 2 rfl rfl)
theorem dX4_laySerial_5 : decode cX4_laySerial 5 = .ok (.iconst 0, 1) := dk_3 (dk_at dksX4_laySerial_0 5 rfl rfl)
theorem dX4_laySerial_6 : decode cX4_laySerial 6 = .ok (.istore_n 2, 1) := dk_61 (dk_at dksX4_laySerial_0 6 rfl rfl)
theorem dX4_laySerial_7 : decode cX4_laySerial 7 = .ok (.iconst 0, 1) := dk_3 (dk_at dksX4_laySerial_0 7 rfl rfl)
theorem dX4_laySerial_8 : decode cX4_laySerial 8 = .ok (.istore_n 3, 1) := dk_62 (dk_at dksX4_laySerial_0 8 rfl rfl)
theorem dX4_laySerial_9 : decode cX4_laySerial 9 = .ok (.iconst 1, 1) := dk_4 (dk_at dksX4_laySerial_0 9 rfl rfl)
theorem dX4_laySerial_10 : decode cX4_laySerial 10 = .ok (.istore 4, 2) := dk_54 4 (dk_at dksX4_laySerial_0 10 rfl rfl)
theorem dX4_laySerial_12 : decode cX4_laySerial 12 = .ok (.iload 4, 2) := dk_21 4 (dk_at dksX4_laySerial_0 12 rfl rfl)
theorem dX4_laySerial_14 : decode cX4_laySerial 14 = .ok (.iconst 5, 1) := dk_8 (dk_at dksX4_laySerial_0 14 rfl rfl)
theorem dX4_laySerial_15 : decode cX4_laySerial 15 = .ok (.if_icmp .gt 81, 3) := dk_163 0 81 (dk_at dksX4_laySerial_0 15 rfl rfl)
theorem dX4_laySerial_18 : decode cX4_laySerial 18 = .ok (.aload_n 0, 1) := dk_42 (dk_at dksX4_laySerial_0 18 rfl rfl)
theorem dX4_laySerial_19 : decode cX4_laySerial 19 = .ok (.getfield 72, 3) := dk_180 0 72 (dk_at dksX4_laySerial_0 19 rfl rfl)
theorem dX4_laySerial_22 : decode cX4_laySerial 22 = .ok (.iload 4, 2) := dk_21 4 (dk_at dksX4_laySerial_0 22 rfl rfl)
theorem dX4_laySerial_24 : decode cX4_laySerial 24 = .ok (.ishr, 1) := dk_122 (dk_at dksX4_laySerial_1 0 rfl rfl)
theorem dX4_laySerial_25 : decode cX4_laySerial 25 = .ok (.iconst 1, 1) := dk_4 (dk_at dksX4_laySerial_1 1 rfl rfl)
theorem dX4_laySerial_26 : decode cX4_laySerial 26 = .ok (.iand, 1) := dk_126 (dk_at dksX4_laySerial_1 2 rfl rfl)
theorem dX4_laySerial_27 : decode cX4_laySerial 27 = .ok (.iconst 1, 1) := dk_4 (dk_at dksX4_laySerial_1 3 rfl rfl)
theorem dX4_laySerial_28 : decode cX4_laySerial 28 = .ok (.if_icmp .ne 30, 3) := dk_160 0 30 (dk_at dksX4_laySerial_1 4 rfl rfl)
theorem dX4_laySerial_31 : decode cX4_laySerial 31 = .ok (.iload_n 2, 1) := dk_28 (dk_at dksX4_laySerial_1 7 rfl rfl)
theorem dX4_laySerial_32 : decode cX4_laySerial 32 = .ok (.iload 4, 2) := dk_21 4 (dk_at dksX4_laySerial_1 8 rfl rfl)
theorem dX4_laySerial_34 : decode cX4_laySerial 34 = .ok (.ishr, 1) := dk_122 (dk_at dksX4_laySerial_1 10 rfl rfl)
theorem dX4_laySerial_35 : decode cX4_laySerial 35 = .ok (.iconst 1, 1) := dk_4 (dk_at dksX4_laySerial_1 11 rfl rfl)
theorem dX4_laySerial_36 : decode cX4_laySerial 36 = .ok (.iand, 1) := dk_126 (dk_at dksX4_laySerial_1 12 rfl rfl)
theorem dX4_laySerial_37 : decode cX4_laySerial 37 = .ok (.ifCond .ne 21, 3) := dk_154 0 21 (dk_at dksX4_laySerial_1 13 rfl rfl)
theorem dX4_laySerial_40 : decode cX4_laySerial 40 = .ok (.aload_n 0, 1) := dk_42 (dk_at dksX4_laySerial_1 16 rfl rfl)
theorem dX4_laySerial_41 : decode cX4_laySerial 41 = .ok (.getfield 60, 3) := dk_180 0 60 (dk_at dksX4_laySerial_1 17 rfl rfl)
theorem dX4_laySerial_44 : decode cX4_laySerial 44 = .ok (.iload 4, 2) := dk_21 4 (dk_at dksX4_laySerial_1 20 rfl rfl)
theorem dX4_laySerial_46 : decode cX4_laySerial 46 = .ok (.iaload, 1) := dk_46 (dk_at dksX4_laySerial_1 22 rfl rfl)
theorem dX4_laySerial_47 : decode cX4_laySerial 47 = .ok (.iload_n 2, 1) := dk_28 (dk_at dksX4_laySerial_1 23 rfl rfl)
theorem dX4_laySerial_48 : decode cX4_laySerial 48 = .ok (.iconst (-1), 1) := dk_2 (dk_at dksX4_laySerial_2 0 rfl rfl)
theorem dX4_laySerial_49 : decode cX4_laySerial 49 = .ok (.ixor, 1) := dk_130 (dk_at dksX4_laySerial_2 1 rfl rfl)
theorem dX4_laySerial_50 : decode cX4_laySerial 50 = .ok (.iand, 1) := dk_126 (dk_at dksX4_laySerial_2 2 rfl rfl)
theorem dX4_laySerial_51 : decode cX4_laySerial 51 = .ok (.ifCond .ne 7, 3) := dk_154 0 7 (dk_at dksX4_laySerial_2 3 rfl rfl)
theorem dX4_laySerial_54 : decode cX4_laySerial 54 = .ok (.iconst 1, 1) := dk_4 (dk_at dksX4_laySerial_2 6 rfl rfl)
theorem dX4_laySerial_55 : decode cX4_laySerial 55 = .ok (.goto 4, 3) := dk_167 0 4 (dk_at dksX4_laySerial_2 7 rfl rfl)
theorem dX4_laySerial_58 : decode cX4_laySerial 58 = .ok (.iconst 0, 1) := dk_3 (dk_at dksX4_laySerial_2 10 rfl rfl)
theorem dX4_laySerial_59 : decode cX4_laySerial 59 = .ok (.istore 5, 2) := dk_54 5 (dk_at dksX4_laySerial_2 11 rfl rfl)
theorem dX4_laySerial_61 : decode cX4_laySerial 61 = .ok (.iload 5, 2) := dk_21 5 (dk_at dksX4_laySerial_2 13 rfl rfl)
theorem dX4_laySerial_63 : decode cX4_laySerial 63 = .ok (.ifCond .ne 9, 3) := dk_154 0 9 (dk_at dksX4_laySerial_2 15 rfl rfl)
theorem dX4_laySerial_66 : decode cX4_laySerial 66 = .ok (.iinc 4 1, 3) := dk_132 4 1 (dk_at dksX4_laySerial_2 18 rfl rfl)
theorem dX4_laySerial_69 : decode cX4_laySerial 69 = .ok (.goto (-57), 3) := dk_167 255 199 (dk_at dksX4_laySerial_2 21 rfl rfl)
theorem dX4_laySerial_72 : decode cX4_laySerial 72 = .ok (.aload_n 0, 1) := dk_42 (dk_at dksX4_laySerial_3 0 rfl rfl)
theorem dX4_laySerial_73 : decode cX4_laySerial 73 = .ok (.getfield 63, 3) := dk_180 0 63 (dk_at dksX4_laySerial_3 1 rfl rfl)
theorem dX4_laySerial_76 : decode cX4_laySerial 76 = .ok (.iload_n 3, 1) := dk_29 (dk_at dksX4_laySerial_3 4 rfl rfl)
theorem dX4_laySerial_77 : decode cX4_laySerial 77 = .ok (.iload 4, 2) := dk_21 4 (dk_at dksX4_laySerial_3 5 rfl rfl)
theorem dX4_laySerial_79 : decode cX4_laySerial 79 = .ok (.iastore, 1) := dk_79 (dk_at dksX4_laySerial_3 7 rfl rfl)
theorem dX4_laySerial_80 : decode cX4_laySerial 80 = .ok (.iinc 3 1, 3) := dk_132 3 1 (dk_at dksX4_laySerial_3 8 rfl rfl)
theorem dX4_laySerial_83 : decode cX4_laySerial 83 = .ok (.iload_n 2, 1) := dk_28 (dk_at dksX4_laySerial_3 11 rfl rfl)
theorem dX4_laySerial_84 : decode cX4_laySerial 84 = .ok (.iconst 1, 1) := dk_4 (dk_at dksX4_laySerial_3 12 rfl rfl)
theorem dX4_laySerial_85 : decode cX4_laySerial 85 = .ok (.iload 4, 2) := dk_21 4 (dk_at dksX4_laySerial_3 13 rfl rfl)
theorem dX4_laySerial_87 : decode cX4_laySerial 87 = .ok (.ishl, 1) := dk_120 (dk_at dksX4_laySerial_3 15 rfl rfl)
theorem dX4_laySerial_88 : decode cX4_laySerial 88 = .ok (.ior, 1) := dk_128 (dk_at dksX4_laySerial_3 16 rfl rfl)
theorem dX4_laySerial_89 : decode cX4_laySerial 89 = .ok (.istore_n 2, 1) := dk_61 (dk_at dksX4_laySerial_3 17 rfl rfl)
theorem dX4_laySerial_90 : decode cX4_laySerial 90 = .ok (.iconst 1, 1) := dk_4 (dk_at dksX4_laySerial_3 18 rfl rfl)
theorem dX4_laySerial_91 : decode cX4_laySerial 91 = .ok (.istore 4, 2) := dk_54 4 (dk_at dksX4_laySerial_3 19 rfl rfl)
theorem dX4_laySerial_93 : decode cX4_laySerial 93 = .ok (.goto (-81), 3) := dk_167 255 175 (dk_at dksX4_laySerial_3 21 rfl rfl)
theorem dX4_laySerial_96 : decode cX4_laySerial 96 = .ok (.iload_n 3, 1) := dk_29 (dk_at dksX4_laySerial_4 0 rfl rfl)
theorem dX4_laySerial_97 : decode cX4_laySerial 97 = .ok (.ireturn, 1) := dk_172 (dk_at dksX4_laySerial_4 1 rfl rfl)
abbrev cX4_layOrder : ByteArray := prog_12_method_50_code
def yX4_layOrder : MethodName := ⟨RX4, "layOrder", "(I)V"⟩
def dkwX4_layOrder_4 : List UInt8 := [167, 255, 192, 177]
abbrev dktX4_layOrder_4 : List UInt8 := dkwX4_layOrder_4 ++ []
def dkwX4_layOrder_3 : List UInt8 := [4, 42, 180, 0, 54, 28, 46, 120, 167, 0, 4, 3, 128, 79, 132, 3, 1, 167, 255, 210, 132, 2, 1]
abbrev dktX4_layOrder_3 : List UInt8 := dkwX4_layOrder_3 ++ dktX4_layOrder_4
def dkwX4_layOrder_2 : List UInt8 := [162, 0, 44, 42, 180, 0, 60, 42, 180, 0, 54, 29, 46, 92, 46, 42, 28, 29, 182, 0, 231, 153, 0, 14]
abbrev dktX4_layOrder_2 : List UInt8 := dkwX4_layOrder_2 ++ dktX4_layOrder_3
def dkwX4_layOrder_1 : List UInt8 := [167, 255, 241, 3, 61, 28, 42, 180, 0, 69, 162, 0, 62, 28, 4, 96, 62, 29, 42, 180, 0, 69]
abbrev dktX4_layOrder_1 : List UInt8 := dkwX4_layOrder_1 ++ dktX4_layOrder_2
def dkwX4_layOrder_0 : List UInt8 := [42, 27, 4, 182, 0, 227, 3, 61, 28, 8, 163, 0, 16, 42, 180, 0, 60, 28, 3, 79, 132, 2, 1]
abbrev dktX4_layOrder_0 : List UInt8 := dkwX4_layOrder_0 ++ dktX4_layOrder_1
theorem dksX4_layOrder_0 : cX4_layOrder.data.toList.drop 0 = dktX4_layOrder_0 := by decide +kernel
theorem dksX4_layOrder_1 : cX4_layOrder.data.toList.drop 23 = dktX4_layOrder_1 := dk_seg dksX4_layOrder_0 23 rfl rfl
theorem dksX4_layOrder_2 : cX4_layOrder.data.toList.drop 45 = dktX4_layOrder_2 := dk_seg dksX4_layOrder_1 22 rfl rfl
theorem dksX4_layOrder_3 : cX4_layOrder.data.toList.drop 69 = dktX4_layOrder_3 := dk_seg dksX4_layOrder_2 24 rfl rfl
theorem dksX4_layOrder_4 : cX4_layOrder.data.toList.drop 92 = dktX4_layOrder_4 := dk_seg dksX4_layOrder_3 23 rfl rfl
theorem dX4_layOrder_0 : decode cX4_layOrder 0 = .ok (.aload_n 0, 1) := dk_42 (dk_at dksX4_layOrder_0 0 rfl rfl)
theorem dX4_layOrder_1 : decode cX4_layOrder 1 = .ok (.iload_n 1, 1) := dk_27 (dk_at dksX4_layOrder_0 1 rfl rfl)
theorem dX4_layOrder_2 : decode cX4_layOrder 2 = .ok (.iconst 1, 1) := dk_4 (dk_at dksX4_layOrder_0 2 rfl rfl)
theorem dX4_layOrder_3 : decode cX4_layOrder 3 = .ok (.invokevirtual 227, 3) := dk_182 0 227 (dk_at dksX4_layOrder_0 3 rfl rfl)
theorem dX4_layOrder_6 : decode cX4_layOrder 6 = .ok (.iconst 0, 1) := dk_3 (dk_at dksX4_layOrder_0 6 rfl rfl)
theorem dX4_layOrder_7 : decode cX4_layOrder 7 = .ok (.istore_n 2, 1) := dk_61 (dk_at dksX4_layOrder_0 7 rfl rfl)
theorem dX4_layOrder_8 : decode cX4_layOrder 8 = .ok (.iload_n 2, 1) := dk_28 (dk_at dksX4_layOrder_0 8 rfl rfl)
theorem dX4_layOrder_9 : decode cX4_layOrder 9 = .ok (.iconst 5, 1) := dk_8 (dk_at dksX4_layOrder_0 9 rfl rfl)
theorem dX4_layOrder_10 : decode cX4_layOrder 10 = .ok (.if_icmp .gt 16, 3) := dk_163 0 16 (dk_at dksX4_layOrder_0 10 rfl rfl)
theorem dX4_layOrder_13 : decode cX4_layOrder 13 = .ok (.aload_n 0, 1) := dk_42 (dk_at dksX4_layOrder_0 13 rfl rfl)
theorem dX4_layOrder_14 : decode cX4_layOrder 14 = .ok (.getfield 60, 3) := dk_180 0 60 (dk_at dksX4_layOrder_0 14 rfl rfl)
theorem dX4_layOrder_17 : decode cX4_layOrder 17 = .ok (.iload_n 2, 1) := dk_28 (dk_at dksX4_layOrder_0 17 rfl rfl)
theorem dX4_layOrder_18 : decode cX4_layOrder 18 = .ok (.iconst 0, 1) := dk_3 (dk_at dksX4_layOrder_0 18 rfl rfl)
theorem dX4_layOrder_19 : decode cX4_layOrder 19 = .ok (.iastore, 1) := dk_79 (dk_at dksX4_layOrder_0 19 rfl rfl)
theorem dX4_layOrder_20 : decode cX4_layOrder 20 = .ok (.iinc 2 1, 3) := dk_132 2 1 (dk_at dksX4_layOrder_0 20 rfl rfl)
theorem dX4_layOrder_23 : decode cX4_layOrder 23 = .ok (.goto (-15), 3) := dk_167 255 241 (dk_at dksX4_layOrder_1 0 rfl rfl)
theorem dX4_layOrder_26 : decode cX4_layOrder 26 = .ok (.iconst 0, 1) := dk_3 (dk_at dksX4_layOrder_1 3 rfl rfl)
theorem dX4_layOrder_27 : decode cX4_layOrder 27 = .ok (.istore_n 2, 1) := dk_61 (dk_at dksX4_layOrder_1 4 rfl rfl)
theorem dX4_layOrder_28 : decode cX4_layOrder 28 = .ok (.iload_n 2, 1) := dk_28 (dk_at dksX4_layOrder_1 5 rfl rfl)
theorem dX4_layOrder_29 : decode cX4_layOrder 29 = .ok (.aload_n 0, 1) := dk_42 (dk_at dksX4_layOrder_1 6 rfl rfl)
theorem dX4_layOrder_30 : decode cX4_layOrder 30 = .ok (.getfield 69, 3) := dk_180 0 69 (dk_at dksX4_layOrder_1 7 rfl rfl)
theorem dX4_layOrder_33 : decode cX4_layOrder 33 = .ok (.if_icmp .ge 62, 3) := dk_162 0 62 (dk_at dksX4_layOrder_1 10 rfl rfl)
theorem dX4_layOrder_36 : decode cX4_layOrder 36 = .ok (.iload_n 2, 1) := dk_28 (dk_at dksX4_layOrder_1 13 rfl rfl)
theorem dX4_layOrder_37 : decode cX4_layOrder 37 = .ok (.iconst 1, 1) := dk_4 (dk_at dksX4_layOrder_1 14 rfl rfl)
theorem dX4_layOrder_38 : decode cX4_layOrder 38 = .ok (.iadd, 1) := dk_96 (dk_at dksX4_layOrder_1 15 rfl rfl)
theorem dX4_layOrder_39 : decode cX4_layOrder 39 = .ok (.istore_n 3, 1) := dk_62 (dk_at dksX4_layOrder_1 16 rfl rfl)
theorem dX4_layOrder_40 : decode cX4_layOrder 40 = .ok (.iload_n 3, 1) := dk_29 (dk_at dksX4_layOrder_1 17 rfl rfl)
theorem dX4_layOrder_41 : decode cX4_layOrder 41 = .ok (.aload_n 0, 1) := dk_42 (dk_at dksX4_layOrder_1 18 rfl rfl)
theorem dX4_layOrder_42 : decode cX4_layOrder 42 = .ok (.getfield 69, 3) := dk_180 0 69 (dk_at dksX4_layOrder_1 19 rfl rfl)
theorem dX4_layOrder_45 : decode cX4_layOrder 45 = .ok (.if_icmp .ge 44, 3) := dk_162 0 44 (dk_at dksX4_layOrder_2 0 rfl rfl)
theorem dX4_layOrder_48 : decode cX4_layOrder 48 = .ok (.aload_n 0, 1) := dk_42 (dk_at dksX4_layOrder_2 3 rfl rfl)
theorem dX4_layOrder_49 : decode cX4_layOrder 49 = .ok (.getfield 60, 3) := dk_180 0 60 (dk_at dksX4_layOrder_2 4 rfl rfl)
theorem dX4_layOrder_52 : decode cX4_layOrder 52 = .ok (.aload_n 0, 1) := dk_42 (dk_at dksX4_layOrder_2 7 rfl rfl)
theorem dX4_layOrder_53 : decode cX4_layOrder 53 = .ok (.getfield 54, 3) := dk_180 0 54 (dk_at dksX4_layOrder_2 8 rfl rfl)
theorem dX4_layOrder_56 : decode cX4_layOrder 56 = .ok (.iload_n 3, 1) := dk_29 (dk_at dksX4_layOrder_2 11 rfl rfl)
theorem dX4_layOrder_57 : decode cX4_layOrder 57 = .ok (.iaload, 1) := dk_46 (dk_at dksX4_layOrder_2 12 rfl rfl)
theorem dX4_layOrder_58 : decode cX4_layOrder 58 = .ok (.dup2, 1) := dk_92 (dk_at dksX4_layOrder_2 13 rfl rfl)
theorem dX4_layOrder_59 : decode cX4_layOrder 59 = .ok (.iaload, 1) := dk_46 (dk_at dksX4_layOrder_2 14 rfl rfl)
theorem dX4_layOrder_60 : decode cX4_layOrder 60 = .ok (.aload_n 0, 1) := dk_42 (dk_at dksX4_layOrder_2 15 rfl rfl)
theorem dX4_layOrder_61 : decode cX4_layOrder 61 = .ok (.iload_n 2, 1) := dk_28 (dk_at dksX4_layOrder_2 16 rfl rfl)
theorem dX4_layOrder_62 : decode cX4_layOrder 62 = .ok (.iload_n 3, 1) := dk_29 (dk_at dksX4_layOrder_2 17 rfl rfl)
theorem dX4_layOrder_63 : decode cX4_layOrder 63 = .ok (.invokevirtual 231, 3) := dk_182 0 231 (dk_at dksX4_layOrder_2 18 rfl rfl)
theorem dX4_layOrder_66 : decode cX4_layOrder 66 = .ok (.ifCond .eq 14, 3) := dk_153 0 14 (dk_at dksX4_layOrder_2 21 rfl rfl)
theorem dX4_layOrder_69 : decode cX4_layOrder 69 = .ok (.iconst 1, 1) := dk_4 (dk_at dksX4_layOrder_3 0 rfl rfl)
theorem dX4_layOrder_70 : decode cX4_layOrder 70 = .ok (.aload_n 0, 1) := dk_42 (dk_at dksX4_layOrder_3 1 rfl rfl)
theorem dX4_layOrder_71 : decode cX4_layOrder 71 = .ok (.getfield 54, 3) := dk_180 0 54 (dk_at dksX4_layOrder_3 2 rfl rfl)
theorem dX4_layOrder_74 : decode cX4_layOrder 74 = .ok (.iload_n 2, 1) := dk_28 (dk_at dksX4_layOrder_3 5 rfl rfl)
theorem dX4_layOrder_75 : decode cX4_layOrder 75 = .ok (.iaload, 1) := dk_46 (dk_at dksX4_layOrder_3 6 rfl rfl)
theorem dX4_layOrder_76 : decode cX4_layOrder 76 = .ok (.ishl, 1) := dk_120 (dk_at dksX4_layOrder_3 7 rfl rfl)
theorem dX4_layOrder_77 : decode cX4_layOrder 77 = .ok (.goto 4, 3) := dk_167 0 4 (dk_at dksX4_layOrder_3 8 rfl rfl)
theorem dX4_layOrder_80 : decode cX4_layOrder 80 = .ok (.iconst 0, 1) := dk_3 (dk_at dksX4_layOrder_3 11 rfl rfl)
theorem dX4_layOrder_81 : decode cX4_layOrder 81 = .ok (.ior, 1) := dk_128 (dk_at dksX4_layOrder_3 12 rfl rfl)
theorem dX4_layOrder_82 : decode cX4_layOrder 82 = .ok (.iastore, 1) := dk_79 (dk_at dksX4_layOrder_3 13 rfl rfl)
theorem dX4_layOrder_83 : decode cX4_layOrder 83 = .ok (.iinc 3 1, 3) := dk_132 3 1 (dk_at dksX4_layOrder_3 14 rfl rfl)
theorem dX4_layOrder_86 : decode cX4_layOrder 86 = .ok (.goto (-46), 3) := dk_167 255 210 (dk_at dksX4_layOrder_3 17 rfl rfl)
theorem dX4_layOrder_89 : decode cX4_layOrder 89 = .ok (.iinc 2 1, 3) := dk_132 2 1 (dk_at dksX4_layOrder_3 20 rfl rfl)
theorem dX4_layOrder_92 : decode cX4_layOrder 92 = .ok (.goto (-64), 3) := dk_167 255 192 (dk_at dksX4_layOrder_4 0 rfl rfl)
theorem dX4_layOrder_95 : decode cX4_layOrder 95 = .ok (.return_, 1) := dk_177 (dk_at dksX4_layOrder_4 3 rfl rfl)
abbrev cX4_lay : ByteArray := prog_12_method_47_code
def yX4_lay : MethodName := ⟨RX4, "lay", "(IZ)V"⟩
def dkwX4_lay_3 : List UInt8 := [181, 0, 72, 132, 3, 1, 167, 255, 193, 177]
abbrev dktX4_lay_3 : List UInt8 := dkwX4_lay_3 ++ []
def dkwX4_lay_2 : List UInt8 := [167, 0, 26, 42, 42, 27, 29, 182, 0, 139, 182, 0, 220, 42, 89, 180, 0, 72, 4, 21, 4, 120, 128]
abbrev dktX4_lay_2 : List UInt8 := dkwX4_lay_2 ++ dktX4_lay_3
def dkwX4_lay_1 : List UInt8 := [182, 0, 139, 184, 0, 143, 54, 4, 28, 153, 0, 16, 42, 27, 21, 4, 182, 0, 217, 153, 0, 6]
abbrev dktX4_lay_1 : List UInt8 := dkwX4_lay_1 ++ dktX4_lay_2
def dkwX4_lay_0 : List UInt8 := [42, 3, 181, 0, 69, 42, 3, 181, 0, 72, 3, 62, 29, 42, 27, 182, 0, 135, 162, 0, 60, 42, 27, 29]
abbrev dktX4_lay_0 : List UInt8 := dkwX4_lay_0 ++ dktX4_lay_1
theorem dksX4_lay_0 : cX4_lay.data.toList.drop 0 = dktX4_lay_0 := by decide +kernel
theorem dksX4_lay_1 : cX4_lay.data.toList.drop 24 = dktX4_lay_1 := dk_seg dksX4_lay_0 24 rfl rfl
theorem dksX4_lay_2 : cX4_lay.data.toList.drop 46 = dktX4_lay_2 := dk_seg dksX4_lay_1 22 rfl rfl
theorem dksX4_lay_3 : cX4_lay.data.toList.drop 69 = dktX4_lay_3 := dk_seg dksX4_lay_2 23 rfl rfl
theorem dX4_lay_0 : decode cX4_lay 0 = .ok (.aload_n 0, 1) := dk_42 (dk_at dksX4_lay_0 0 rfl rfl)
theorem dX4_lay_1 : decode cX4_lay 1 = .ok (.iconst 0, 1) := dk_3 (dk_at dksX4_lay_0 1 rfl rfl)
theorem dX4_lay_2 : decode cX4_lay 2 = .ok (.putfield 69, 3) := dk_181 0 69 (dk_at dksX4_lay_0 2 rfl rfl)
theorem dX4_lay_5 : decode cX4_lay 5 = .ok (.aload_n 0, 1) := dk_42 (dk_at dksX4_lay_0 5 rfl rfl)
theorem dX4_lay_6 : decode cX4_lay 6 = .ok (.iconst 0, 1) := dk_3 (dk_at dksX4_lay_0 6 rfl rfl)
theorem dX4_lay_7 : decode cX4_lay 7 = .ok (.putfield 72, 3) := dk_181 0 72 (dk_at dksX4_lay_0 7 rfl rfl)
theorem dX4_lay_10 : decode cX4_lay 10 = .ok (.iconst 0, 1) := dk_3 (dk_at dksX4_lay_0 10 rfl rfl)
theorem dX4_lay_11 : decode cX4_lay 11 = .ok (.istore_n 3, 1) := dk_62 (dk_at dksX4_lay_0 11 rfl rfl)
theorem dX4_lay_12 : decode cX4_lay 12 = .ok (.iload_n 3, 1) := dk_29 (dk_at dksX4_lay_0 12 rfl rfl)
theorem dX4_lay_13 : decode cX4_lay 13 = .ok (.aload_n 0, 1) := dk_42 (dk_at dksX4_lay_0 13 rfl rfl)
theorem dX4_lay_14 : decode cX4_lay 14 = .ok (.iload_n 1, 1) := dk_27 (dk_at dksX4_lay_0 14 rfl rfl)
theorem dX4_lay_15 : decode cX4_lay 15 = .ok (.invokevirtual 135, 3) := dk_182 0 135 (dk_at dksX4_lay_0 15 rfl rfl)
theorem dX4_lay_18 : decode cX4_lay 18 = .ok (.if_icmp .ge 60, 3) := dk_162 0 60 (dk_at dksX4_lay_0 18 rfl rfl)
theorem dX4_lay_21 : decode cX4_lay 21 = .ok (.aload_n 0, 1) := dk_42 (dk_at dksX4_lay_0 21 rfl rfl)
theorem dX4_lay_22 : decode cX4_lay 22 = .ok (.iload_n 1, 1) := dk_27 (dk_at dksX4_lay_0 22 rfl rfl)
theorem dX4_lay_23 : decode cX4_lay 23 = .ok (.iload_n 3, 1) := dk_29 (dk_at dksX4_lay_0 23 rfl rfl)
theorem dX4_lay_24 : decode cX4_lay 24 = .ok (.invokevirtual 139, 3) := dk_182 0 139 (dk_at dksX4_lay_1 0 rfl rfl)
theorem dX4_lay_27 : decode cX4_lay 27 = .ok (.invokestatic 143, 3) := dk_184 0 143 (dk_at dksX4_lay_1 3 rfl rfl)
theorem dX4_lay_30 : decode cX4_lay 30 = .ok (.istore 4, 2) := dk_54 4 (dk_at dksX4_lay_1 6 rfl rfl)
theorem dX4_lay_32 : decode cX4_lay 32 = .ok (.iload_n 2, 1) := dk_28 (dk_at dksX4_lay_1 8 rfl rfl)
theorem dX4_lay_33 : decode cX4_lay 33 = .ok (.ifCond .eq 16, 3) := dk_153 0 16 (dk_at dksX4_lay_1 9 rfl rfl)
theorem dX4_lay_36 : decode cX4_lay 36 = .ok (.aload_n 0, 1) := dk_42 (dk_at dksX4_lay_1 12 rfl rfl)
theorem dX4_lay_37 : decode cX4_lay 37 = .ok (.iload_n 1, 1) := dk_27 (dk_at dksX4_lay_1 13 rfl rfl)
theorem dX4_lay_38 : decode cX4_lay 38 = .ok (.iload 4, 2) := dk_21 4 (dk_at dksX4_lay_1 14 rfl rfl)
theorem dX4_lay_40 : decode cX4_lay 40 = .ok (.invokevirtual 217, 3) := dk_182 0 217 (dk_at dksX4_lay_1 16 rfl rfl)
theorem dX4_lay_43 : decode cX4_lay 43 = .ok (.ifCond .eq 6, 3) := dk_153 0 6 (dk_at dksX4_lay_1 19 rfl rfl)
theorem dX4_lay_46 : decode cX4_lay 46 = .ok (.goto 26, 3) := dk_167 0 26 (dk_at dksX4_lay_2 0 rfl rfl)
theorem dX4_lay_49 : decode cX4_lay 49 = .ok (.aload_n 0, 1) := dk_42 (dk_at dksX4_lay_2 3 rfl rfl)
theorem dX4_lay_50 : decode cX4_lay 50 = .ok (.aload_n 0, 1) := dk_42 (dk_at dksX4_lay_2 4 rfl rfl)
theorem dX4_lay_51 : decode cX4_lay 51 = .ok (.iload_n 1, 1) := dk_27 (dk_at dksX4_lay_2 5 rfl rfl)
theorem dX4_lay_52 : decode cX4_lay 52 = .ok (.iload_n 3, 1) := dk_29 (dk_at dksX4_lay_2 6 rfl rfl)
theorem dX4_lay_53 : decode cX4_lay 53 = .ok (.invokevirtual 139, 3) := dk_182 0 139 (dk_at dksX4_lay_2 7 rfl rfl)
theorem dX4_lay_56 : decode cX4_lay 56 = .ok (.invokevirtual 220, 3) := dk_182 0 220 (dk_at dksX4_lay_2 10 rfl rfl)
theorem dX4_lay_59 : decode cX4_lay 59 = .ok (.aload_n 0, 1) := dk_42 (dk_at dksX4_lay_2 13 rfl rfl)
theorem dX4_lay_60 : decode cX4_lay 60 = .ok (.dup, 1) := dk_89 (dk_at dksX4_lay_2 14 rfl rfl)
theorem dX4_lay_61 : decode cX4_lay 61 = .ok (.getfield 72, 3) := dk_180 0 72 (dk_at dksX4_lay_2 15 rfl rfl)
theorem dX4_lay_64 : decode cX4_lay 64 = .ok (.iconst 1, 1) := dk_4 (dk_at dksX4_lay_2 18 rfl rfl)
theorem dX4_lay_65 : decode cX4_lay 65 = .ok (.iload 4, 2) := dk_21 4 (dk_at dksX4_lay_2 19 rfl rfl)
theorem dX4_lay_67 : decode cX4_lay 67 = .ok (.ishl, 1) := dk_120 (dk_at dksX4_lay_2 21 rfl rfl)
theorem dX4_lay_68 : decode cX4_lay 68 = .ok (.ior, 1) := dk_128 (dk_at dksX4_lay_2 22 rfl rfl)
theorem dX4_lay_69 : decode cX4_lay 69 = .ok (.putfield 72, 3) := dk_181 0 72 (dk_at dksX4_lay_3 0 rfl rfl)
theorem dX4_lay_72 : decode cX4_lay 72 = .ok (.iinc 3 1, 3) := dk_132 3 1 (dk_at dksX4_lay_3 3 rfl rfl)
theorem dX4_lay_75 : decode cX4_lay 75 = .ok (.goto (-63), 3) := dk_167 255 193 (dk_at dksX4_lay_3 6 rfl rfl)
theorem dX4_lay_78 : decode cX4_lay 78 = .ok (.return_, 1) := dk_177 (dk_at dksX4_lay_3 9 rfl rfl)
abbrev cX4_isAborted : ByteArray := prog_12_method_21_code
def yX4_isAborted : MethodName := ⟨RX4, "isAborted", "(II)Z"⟩
def dkwX4_isAborted_0 : List UInt8 := [42, 27, 28, 6, 6, 182, 0, 149, 172]
abbrev dktX4_isAborted_0 : List UInt8 := dkwX4_isAborted_0 ++ []
theorem dksX4_isAborted_0 : cX4_isAborted.data.toList.drop 0 = dktX4_isAborted_0 := by decide +kernel
theorem dX4_isAborted_0 : decode cX4_isAborted 0 = .ok (.aload_n 0, 1) := dk_42 (dk_at dksX4_isAborted_0 0 rfl rfl)
theorem dX4_isAborted_1 : decode cX4_isAborted 1 = .ok (.iload_n 1, 1) := dk_27 (dk_at dksX4_isAborted_0 1 rfl rfl)
theorem dX4_isAborted_2 : decode cX4_isAborted 2 = .ok (.iload_n 2, 1) := dk_28 (dk_at dksX4_isAborted_0 2 rfl rfl)
theorem dX4_isAborted_3 : decode cX4_isAborted 3 = .ok (.iconst 3, 1) := dk_6 (dk_at dksX4_isAborted_0 3 rfl rfl)
theorem dX4_isAborted_4 : decode cX4_isAborted 4 = .ok (.iconst 3, 1) := dk_6 (dk_at dksX4_isAborted_0 4 rfl rfl)
theorem dX4_isAborted_5 : decode cX4_isAborted 5 = .ok (.invokevirtual 149, 3) := dk_182 0 149 (dk_at dksX4_isAborted_0 5 rfl rfl)
theorem dX4_isAborted_8 : decode cX4_isAborted 8 = .ok (.ireturn, 1) := dk_172 (dk_at dksX4_isAborted_0 8 rfl rfl)
abbrev cX4_layOne : ByteArray := prog_12_method_46_code
def yX4_layOne : MethodName := ⟨RX4, "layOne", "(I)V"⟩
def dkwX4_layOne_2 : List UInt8 := [181, 0, 69, 177]
abbrev dktX4_layOne_2 : List UInt8 := dkwX4_layOne_2 ++ []
def dkwX4_layOne_1 : List UInt8 := [184, 0, 143, 79, 42, 180, 0, 57, 42, 180, 0, 69, 27, 16, 10, 112, 79, 42, 89, 180, 0, 69, 4, 96]
abbrev dktX4_layOne_1 : List UInt8 := dkwX4_layOne_1 ++ dktX4_layOne_2
def dkwX4_layOne_0 : List UInt8 := [42, 180, 0, 51, 42, 180, 0, 69, 27, 184, 0, 146, 79, 42, 180, 0, 54, 42, 180, 0, 69, 27]
abbrev dktX4_layOne_0 : List UInt8 := dkwX4_layOne_0 ++ dktX4_layOne_1
theorem dksX4_layOne_0 : cX4_layOne.data.toList.drop 0 = dktX4_layOne_0 := by decide +kernel
theorem dksX4_layOne_1 : cX4_layOne.data.toList.drop 22 = dktX4_layOne_1 := dk_seg dksX4_layOne_0 22 rfl rfl
theorem dksX4_layOne_2 : cX4_layOne.data.toList.drop 46 = dktX4_layOne_2 := dk_seg dksX4_layOne_1 24 rfl rfl
theorem dX4_layOne_0 : decode cX4_layOne 0 = .ok (.aload_n 0, 1) := dk_42 (dk_at dksX4_layOne_0 0 rfl rfl)
theorem dX4_layOne_1 : decode cX4_layOne 1 = .ok (.getfield 51, 3) := dk_180 0 51 (dk_at dksX4_layOne_0 1 rfl rfl)
theorem dX4_layOne_4 : decode cX4_layOne 4 = .ok (.aload_n 0, 1) := dk_42 (dk_at dksX4_layOne_0 4 rfl rfl)
theorem dX4_layOne_5 : decode cX4_layOne 5 = .ok (.getfield 69, 3) := dk_180 0 69 (dk_at dksX4_layOne_0 5 rfl rfl)
theorem dX4_layOne_8 : decode cX4_layOne 8 = .ok (.iload_n 1, 1) := dk_27 (dk_at dksX4_layOne_0 8 rfl rfl)
theorem dX4_layOne_9 : decode cX4_layOne 9 = .ok (.invokestatic 146, 3) := dk_184 0 146 (dk_at dksX4_layOne_0 9 rfl rfl)
theorem dX4_layOne_12 : decode cX4_layOne 12 = .ok (.iastore, 1) := dk_79 (dk_at dksX4_layOne_0 12 rfl rfl)
theorem dX4_layOne_13 : decode cX4_layOne 13 = .ok (.aload_n 0, 1) := dk_42 (dk_at dksX4_layOne_0 13 rfl rfl)
theorem dX4_layOne_14 : decode cX4_layOne 14 = .ok (.getfield 54, 3) := dk_180 0 54 (dk_at dksX4_layOne_0 14 rfl rfl)
theorem dX4_layOne_17 : decode cX4_layOne 17 = .ok (.aload_n 0, 1) := dk_42 (dk_at dksX4_layOne_0 17 rfl rfl)
theorem dX4_layOne_18 : decode cX4_layOne 18 = .ok (.getfield 69, 3) := dk_180 0 69 (dk_at dksX4_layOne_0 18 rfl rfl)
theorem dX4_layOne_21 : decode cX4_layOne 21 = .ok (.iload_n 1, 1) := dk_27 (dk_at dksX4_layOne_0 21 rfl rfl)
theorem dX4_layOne_22 : decode cX4_layOne 22 = .ok (.invokestatic 143, 3) := dk_184 0 143 (dk_at dksX4_layOne_1 0 rfl rfl)
theorem dX4_layOne_25 : decode cX4_layOne 25 = .ok (.iastore, 1) := dk_79 (dk_at dksX4_layOne_1 3 rfl rfl)
theorem dX4_layOne_26 : decode cX4_layOne 26 = .ok (.aload_n 0, 1) := dk_42 (dk_at dksX4_layOne_1 4 rfl rfl)
theorem dX4_layOne_27 : decode cX4_layOne 27 = .ok (.getfield 57, 3) := dk_180 0 57 (dk_at dksX4_layOne_1 5 rfl rfl)
theorem dX4_layOne_30 : decode cX4_layOne 30 = .ok (.aload_n 0, 1) := dk_42 (dk_at dksX4_layOne_1 8 rfl rfl)
theorem dX4_layOne_31 : decode cX4_layOne 31 = .ok (.getfield 69, 3) := dk_180 0 69 (dk_at dksX4_layOne_1 9 rfl rfl)
theorem dX4_layOne_34 : decode cX4_layOne 34 = .ok (.iload_n 1, 1) := dk_27 (dk_at dksX4_layOne_1 12 rfl rfl)
theorem dX4_layOne_35 : decode cX4_layOne 35 = .ok (.bipush 10, 2) := dk_16 10 (dk_at dksX4_layOne_1 13 rfl rfl)
theorem dX4_layOne_37 : decode cX4_layOne 37 = .ok (.irem, 1) := dk_112 (dk_at dksX4_layOne_1 15 rfl rfl)
theorem dX4_layOne_38 : decode cX4_layOne 38 = .ok (.iastore, 1) := dk_79 (dk_at dksX4_layOne_1 16 rfl rfl)
theorem dX4_layOne_39 : decode cX4_layOne 39 = .ok (.aload_n 0, 1) := dk_42 (dk_at dksX4_layOne_1 17 rfl rfl)
theorem dX4_layOne_40 : decode cX4_layOne 40 = .ok (.dup, 1) := dk_89 (dk_at dksX4_layOne_1 18 rfl rfl)
theorem dX4_layOne_41 : decode cX4_layOne 41 = .ok (.getfield 69, 3) := dk_180 0 69 (dk_at dksX4_layOne_1 19 rfl rfl)
theorem dX4_layOne_44 : decode cX4_layOne 44 = .ok (.iconst 1, 1) := dk_4 (dk_at dksX4_layOne_1 22 rfl rfl)
theorem dX4_layOne_45 : decode cX4_layOne 45 = .ok (.iadd, 1) := dk_96 (dk_at dksX4_layOne_1 23 rfl rfl)
theorem dX4_layOne_46 : decode cX4_layOne 46 = .ok (.putfield 69, 3) := dk_181 0 69 (dk_at dksX4_layOne_2 0 rfl rfl)
theorem dX4_layOne_49 : decode cX4_layOne 49 = .ok (.return_, 1) := dk_177 (dk_at dksX4_layOne_2 3 rfl rfl)
abbrev cX4_conflict : ByteArray := prog_12_method_49_code
def yX4_conflict : MethodName := ⟨RX4, "conflict", "(II)Z"⟩
def dkwX4_conflict_2 : List UInt8 := [180, 0, 51, 27, 46, 42, 180, 0, 51, 28, 46, 96, 158, 0, 7, 4, 167, 0, 4, 3, 172]
abbrev dktX4_conflict_2 : List UInt8 := dkwX4_conflict_2 ++ []
def dkwX4_conflict_1 : List UInt8 := [180, 0, 54, 28, 46, 159, 0, 38, 42, 180, 0, 57, 27, 46, 42, 180, 0, 57, 28, 46, 160, 0, 23, 42]
abbrev dktX4_conflict_1 : List UInt8 := dkwX4_conflict_1 ++ dktX4_conflict_2
def dkwX4_conflict_0 : List UInt8 := [42, 27, 182, 0, 224, 153, 0, 61, 42, 28, 182, 0, 224, 153, 0, 53, 42, 180, 0, 54, 27, 46, 42]
abbrev dktX4_conflict_0 : List UInt8 := dkwX4_conflict_0 ++ dktX4_conflict_1
theorem dksX4_conflict_0 : cX4_conflict.data.toList.drop 0 = dktX4_conflict_0 := by decide +kernel
theorem dksX4_conflict_1 : cX4_conflict.data.toList.drop 23 = dktX4_conflict_1 := dk_seg dksX4_conflict_0 23 rfl rfl
theorem dksX4_conflict_2 : cX4_conflict.data.toList.drop 47 = dktX4_conflict_2 := dk_seg dksX4_conflict_1 24 rfl rfl
theorem dX4_conflict_0 : decode cX4_conflict 0 = .ok (.aload_n 0, 1) := dk_42 (dk_at dksX4_conflict_0 0 rfl rfl)
theorem dX4_conflict_1 : decode cX4_conflict 1 = .ok (.iload_n 1, 1) := dk_27 (dk_at dksX4_conflict_0 1 rfl rfl)
theorem dX4_conflict_2 : decode cX4_conflict 2 = .ok (.invokevirtual 224, 3) := dk_182 0 224 (dk_at dksX4_conflict_0 2 rfl rfl)
theorem dX4_conflict_5 : decode cX4_conflict 5 = .ok (.ifCond .eq 61, 3) := dk_153 0 61 (dk_at dksX4_conflict_0 5 rfl rfl)
theorem dX4_conflict_8 : decode cX4_conflict 8 = .ok (.aload_n 0, 1) := dk_42 (dk_at dksX4_conflict_0 8 rfl rfl)
theorem dX4_conflict_9 : decode cX4_conflict 9 = .ok (.iload_n 2, 1) := dk_28 (dk_at dksX4_conflict_0 9 rfl rfl)
theorem dX4_conflict_10 : decode cX4_conflict 10 = .ok (.invokevirtual 224, 3) := dk_182 0 224 (dk_at dksX4_conflict_0 10 rfl rfl)
theorem dX4_conflict_13 : decode cX4_conflict 13 = .ok (.ifCond .eq 53, 3) := dk_153 0 53 (dk_at dksX4_conflict_0 13 rfl rfl)
theorem dX4_conflict_16 : decode cX4_conflict 16 = .ok (.aload_n 0, 1) := dk_42 (dk_at dksX4_conflict_0 16 rfl rfl)
theorem dX4_conflict_17 : decode cX4_conflict 17 = .ok (.getfield 54, 3) := dk_180 0 54 (dk_at dksX4_conflict_0 17 rfl rfl)
theorem dX4_conflict_20 : decode cX4_conflict 20 = .ok (.iload_n 1, 1) := dk_27 (dk_at dksX4_conflict_0 20 rfl rfl)
theorem dX4_conflict_21 : decode cX4_conflict 21 = .ok (.iaload, 1) := dk_46 (dk_at dksX4_conflict_0 21 rfl rfl)
theorem dX4_conflict_22 : decode cX4_conflict 22 = .ok (.aload_n 0, 1) := dk_42 (dk_at dksX4_conflict_0 22 rfl rfl)
theorem dX4_conflict_23 : decode cX4_conflict 23 = .ok (.getfield 54, 3) := dk_180 0 54 (dk_at dksX4_conflict_1 0 rfl rfl)
theorem dX4_conflict_26 : decode cX4_conflict 26 = .ok (.iload_n 2, 1) := dk_28 (dk_at dksX4_conflict_1 3 rfl rfl)
theorem dX4_conflict_27 : decode cX4_conflict 27 = .ok (.iaload, 1) := dk_46 (dk_at dksX4_conflict_1 4 rfl rfl)
theorem dX4_conflict_28 : decode cX4_conflict 28 = .ok (.if_icmp .eq 38, 3) := dk_159 0 38 (dk_at dksX4_conflict_1 5 rfl rfl)
theorem dX4_conflict_31 : decode cX4_conflict 31 = .ok (.aload_n 0, 1) := dk_42 (dk_at dksX4_conflict_1 8 rfl rfl)
theorem dX4_conflict_32 : decode cX4_conflict 32 = .ok (.getfield 57, 3) := dk_180 0 57 (dk_at dksX4_conflict_1 9 rfl rfl)
theorem dX4_conflict_35 : decode cX4_conflict 35 = .ok (.iload_n 1, 1) := dk_27 (dk_at dksX4_conflict_1 12 rfl rfl)
theorem dX4_conflict_36 : decode cX4_conflict 36 = .ok (.iaload, 1) := dk_46 (dk_at dksX4_conflict_1 13 rfl rfl)
theorem dX4_conflict_37 : decode cX4_conflict 37 = .ok (.aload_n 0, 1) := dk_42 (dk_at dksX4_conflict_1 14 rfl rfl)
theorem dX4_conflict_38 : decode cX4_conflict 38 = .ok (.getfield 57, 3) := dk_180 0 57 (dk_at dksX4_conflict_1 15 rfl rfl)
theorem dX4_conflict_41 : decode cX4_conflict 41 = .ok (.iload_n 2, 1) := dk_28 (dk_at dksX4_conflict_1 18 rfl rfl)
theorem dX4_conflict_42 : decode cX4_conflict 42 = .ok (.iaload, 1) := dk_46 (dk_at dksX4_conflict_1 19 rfl rfl)
theorem dX4_conflict_43 : decode cX4_conflict 43 = .ok (.if_icmp .ne 23, 3) := dk_160 0 23 (dk_at dksX4_conflict_1 20 rfl rfl)
theorem dX4_conflict_46 : decode cX4_conflict 46 = .ok (.aload_n 0, 1) := dk_42 (dk_at dksX4_conflict_1 23 rfl rfl)
theorem dX4_conflict_47 : decode cX4_conflict 47 = .ok (.getfield 51, 3) := dk_180 0 51 (dk_at dksX4_conflict_2 0 rfl rfl)
theorem dX4_conflict_50 : decode cX4_conflict 50 = .ok (.iload_n 1, 1) := dk_27 (dk_at dksX4_conflict_2 3 rfl rfl)
theorem dX4_conflict_51 : decode cX4_conflict 51 = .ok (.iaload, 1) := dk_46 (dk_at dksX4_conflict_2 4 rfl rfl)
theorem dX4_conflict_52 : decode cX4_conflict 52 = .ok (.aload_n 0, 1) := dk_42 (dk_at dksX4_conflict_2 5 rfl rfl)
theorem dX4_conflict_53 : decode cX4_conflict 53 = .ok (.getfield 51, 3) := dk_180 0 51 (dk_at dksX4_conflict_2 6 rfl rfl)
theorem dX4_conflict_56 : decode cX4_conflict 56 = .ok (.iload_n 2, 1) := dk_28 (dk_at dksX4_conflict_2 9 rfl rfl)
theorem dX4_conflict_57 : decode cX4_conflict 57 = .ok (.iaload, 1) := dk_46 (dk_at dksX4_conflict_2 10 rfl rfl)
theorem dX4_conflict_58 : decode cX4_conflict 58 = .ok (.iadd, 1) := dk_96 (dk_at dksX4_conflict_2 11 rfl rfl)
theorem dX4_conflict_59 : decode cX4_conflict 59 = .ok (.ifCond .le 7, 3) := dk_158 0 7 (dk_at dksX4_conflict_2 12 rfl rfl)
theorem dX4_conflict_62 : decode cX4_conflict 62 = .ok (.iconst 1, 1) := dk_4 (dk_at dksX4_conflict_2 15 rfl rfl)
theorem dX4_conflict_63 : decode cX4_conflict 63 = .ok (.goto 4, 3) := dk_167 0 4 (dk_at dksX4_conflict_2 16 rfl rfl)
theorem dX4_conflict_66 : decode cX4_conflict 66 = .ok (.iconst 0, 1) := dk_3 (dk_at dksX4_conflict_2 19 rfl rfl)
theorem dX4_conflict_67 : decode cX4_conflict 67 = .ok (.ireturn, 1) := dk_172 (dk_at dksX4_conflict_2 20 rfl rfl)
abbrev cX4_isAccess : ByteArray := prog_12_method_48_code
def yX4_isAccess : MethodName := ⟨RX4, "isAccess", "(I)Z"⟩
def dkwX4_isAccess_0 : List UInt8 := [42, 180, 0, 51, 27, 46, 5, 162, 0, 7, 4, 167, 0, 4, 3, 172]
abbrev dktX4_isAccess_0 : List UInt8 := dkwX4_isAccess_0 ++ []
theorem dksX4_isAccess_0 : cX4_isAccess.data.toList.drop 0 = dktX4_isAccess_0 := by decide +kernel
theorem dX4_isAccess_0 : decode cX4_isAccess 0 = .ok (.aload_n 0, 1) := dk_42 (dk_at dksX4_isAccess_0 0 rfl rfl)
theorem dX4_isAccess_1 : decode cX4_isAccess 1 = .ok (.getfield 51, 3) := dk_180 0 51 (dk_at dksX4_isAccess_0 1 rfl rfl)
theorem dX4_isAccess_4 : decode cX4_isAccess 4 = .ok (.iload_n 1, 1) := dk_27 (dk_at dksX4_isAccess_0 4 rfl rfl)
theorem dX4_isAccess_5 : decode cX4_isAccess 5 = .ok (.iaload, 1) := dk_46 (dk_at dksX4_isAccess_0 5 rfl rfl)
theorem dX4_isAccess_6 : decode cX4_isAccess 6 = .ok (.iconst 2, 1) := dk_5 (dk_at dksX4_isAccess_0 6 rfl rfl)
theorem dX4_isAccess_7 : decode cX4_isAccess 7 = .ok (.if_icmp .ge 7, 3) := dk_162 0 7 (dk_at dksX4_isAccess_0 7 rfl rfl)
theorem dX4_isAccess_10 : decode cX4_isAccess 10 = .ok (.iconst 1, 1) := dk_4 (dk_at dksX4_isAccess_0 10 rfl rfl)
theorem dX4_isAccess_11 : decode cX4_isAccess 11 = .ok (.goto 4, 3) := dk_167 0 4 (dk_at dksX4_isAccess_0 11 rfl rfl)
theorem dX4_isAccess_14 : decode cX4_isAccess 14 = .ok (.iconst 0, 1) := dk_3 (dk_at dksX4_isAccess_0 14 rfl rfl)
theorem dX4_isAccess_15 : decode cX4_isAccess 15 = .ok (.ireturn, 1) := dk_172 (dk_at dksX4_isAccess_0 15 rfl rfl)
abbrev cX4_bits : ByteArray := prog_12_method_52_code
def yX4_bits : MethodName := ⟨RX4, "bits", "(I)I"⟩
def dkwX4_bits_1 : List UInt8 := [172]
abbrev dktX4_bits_1 : List UInt8 := dkwX4_bits_1 ++ []
def dkwX4_bits_0 : List UInt8 := [3, 60, 3, 61, 28, 8, 163, 0, 17, 27, 26, 28, 122, 4, 126, 96, 60, 132, 2, 1, 167, 255, 240, 27]
abbrev dktX4_bits_0 : List UInt8 := dkwX4_bits_0 ++ dktX4_bits_1
theorem dksX4_bits_0 : cX4_bits.data.toList.drop 0 = dktX4_bits_0 := by decide +kernel
theorem dksX4_bits_1 : cX4_bits.data.toList.drop 24 = dktX4_bits_1 := dk_seg dksX4_bits_0 24 rfl rfl
theorem dX4_bits_0 : decode cX4_bits 0 = .ok (.iconst 0, 1) := dk_3 (dk_at dksX4_bits_0 0 rfl rfl)
theorem dX4_bits_1 : decode cX4_bits 1 = .ok (.istore_n 1, 1) := dk_60 (dk_at dksX4_bits_0 1 rfl rfl)
theorem dX4_bits_2 : decode cX4_bits 2 = .ok (.iconst 0, 1) := dk_3 (dk_at dksX4_bits_0 2 rfl rfl)
theorem dX4_bits_3 : decode cX4_bits 3 = .ok (.istore_n 2, 1) := dk_61 (dk_at dksX4_bits_0 3 rfl rfl)
theorem dX4_bits_4 : decode cX4_bits 4 = .ok (.iload_n 2, 1) := dk_28 (dk_at dksX4_bits_0 4 rfl rfl)
theorem dX4_bits_5 : decode cX4_bits 5 = .ok (.iconst 5, 1) := dk_8 (dk_at dksX4_bits_0 5 rfl rfl)
theorem dX4_bits_6 : decode cX4_bits 6 = .ok (.if_icmp .gt 17, 3) := dk_163 0 17 (dk_at dksX4_bits_0 6 rfl rfl)
theorem dX4_bits_9 : decode cX4_bits 9 = .ok (.iload_n 1, 1) := dk_27 (dk_at dksX4_bits_0 9 rfl rfl)
theorem dX4_bits_10 : decode cX4_bits 10 = .ok (.iload_n 0, 1) := dk_26 (dk_at dksX4_bits_0 10 rfl rfl)
theorem dX4_bits_11 : decode cX4_bits 11 = .ok (.iload_n 2, 1) := dk_28 (dk_at dksX4_bits_0 11 rfl rfl)
theorem dX4_bits_12 : decode cX4_bits 12 = .ok (.ishr, 1) := dk_122 (dk_at dksX4_bits_0 12 rfl rfl)
theorem dX4_bits_13 : decode cX4_bits 13 = .ok (.iconst 1, 1) := dk_4 (dk_at dksX4_bits_0 13 rfl rfl)
theorem dX4_bits_14 : decode cX4_bits 14 = .ok (.iand, 1) := dk_126 (dk_at dksX4_bits_0 14 rfl rfl)
theorem dX4_bits_15 : decode cX4_bits 15 = .ok (.iadd, 1) := dk_96 (dk_at dksX4_bits_0 15 rfl rfl)
theorem dX4_bits_16 : decode cX4_bits 16 = .ok (.istore_n 1, 1) := dk_60 (dk_at dksX4_bits_0 16 rfl rfl)
theorem dX4_bits_17 : decode cX4_bits 17 = .ok (.iinc 2 1, 3) := dk_132 2 1 (dk_at dksX4_bits_0 17 rfl rfl)
theorem dX4_bits_20 : decode cX4_bits 20 = .ok (.goto (-16), 3) := dk_167 255 240 (dk_at dksX4_bits_0 20 rfl rfl)
theorem dX4_bits_23 : decode cX4_bits 23 = .ok (.iload_n 1, 1) := dk_27 (dk_at dksX4_bits_0 23 rfl rfl)
theorem dX4_bits_24 : decode cX4_bits 24 = .ok (.ireturn, 1) := dk_172 (dk_at dksX4_bits_1 0 rfl rfl)
abbrev cX4_serializes : ByteArray := prog_12_method_54_code
def yX4_serializes : MethodName := ⟨RX4, "serializes", "(II)I"⟩
def dkwX4_serializes_4 : List UInt8 := [182, 0, 135, 172]
abbrev dktX4_serializes_4 : List UInt8 := dkwX4_serializes_4 ++ []
def dkwX4_serializes_3 : List UInt8 := [21, 5, 46, 184, 0, 166, 182, 0, 174, 62, 132, 5, 1, 167, 255, 197, 132, 4, 1, 167, 255, 182, 42, 27]
abbrev dktX4_serializes_3 : List UInt8 := dkwX4_serializes_3 ++ dktX4_serializes_4
def dkwX4_serializes_2 : List UInt8 := [160, 0, 33, 42, 27, 42, 180, 0, 51, 21, 5, 46, 42, 180, 0, 54, 21, 5, 46, 42, 180, 0, 57]
abbrev dktX4_serializes_2 : List UInt8 := dkwX4_serializes_2 ++ dktX4_serializes_3
def dkwX4_serializes_1 : List UInt8 := [21, 5, 42, 180, 0, 69, 162, 0, 56, 42, 180, 0, 54, 21, 5, 46, 42, 180, 0, 63, 21, 4, 46]
abbrev dktX4_serializes_1 : List UInt8 := dkwX4_serializes_1 ++ dktX4_serializes_2
def dkwX4_serializes_0 : List UInt8 := [42, 180, 0, 7, 16, 21, 27, 104, 3, 79, 3, 62, 3, 54, 4, 21, 4, 28, 162, 0, 74, 3, 54, 5]
abbrev dktX4_serializes_0 : List UInt8 := dkwX4_serializes_0 ++ dktX4_serializes_1
theorem dksX4_serializes_0 : cX4_serializes.data.toList.drop 0 = dktX4_serializes_0 := by decide +kernel
theorem dksX4_serializes_1 : cX4_serializes.data.toList.drop 24 = dktX4_serializes_1 := dk_seg dksX4_serializes_0 24 rfl rfl
theorem dksX4_serializes_2 : cX4_serializes.data.toList.drop 47 = dktX4_serializes_2 := dk_seg dksX4_serializes_1 23 rfl rfl
theorem dksX4_serializes_3 : cX4_serializes.data.toList.drop 70 = dktX4_serializes_3 := dk_seg dksX4_serializes_2 23 rfl rfl
theorem dksX4_serializes_4 : cX4_serializes.data.toList.drop 94 = dktX4_serializes_4 := dk_seg dksX4_serializes_3 24 rfl rfl
theorem dX4_serializes_0 : decode cX4_serializes 0 = .ok (.aload_n 0, 1) := dk_42 (dk_at dksX4_serializes_0 0 rfl rfl)
theorem dX4_serializes_1 : decode cX4_serializes 1 = .ok (.getfield 7, 3) := dk_180 0 7 (dk_at dksX4_serializes_0 1 rfl rfl)
theorem dX4_serializes_4 : decode cX4_serializes 4 = .ok (.bipush 21, 2) := dk_16 21 (dk_at dksX4_serializes_0 4 rfl rfl)
theorem dX4_serializes_6 : decode cX4_serializes 6 = .ok (.iload_n 1, 1) := dk_27 (dk_at dksX4_serializes_0 6 rfl rfl)
theorem dX4_serializes_7 : decode cX4_serializes 7 = .ok (.imul, 1) := dk_104 (dk_at dksX4_serializes_0 7 rfl rfl)
theorem dX4_serializes_8 : decode cX4_serializes 8 = .ok (.iconst 0, 1) := dk_3 (dk_at dksX4_serializes_0 8 rfl rfl)
theorem dX4_serializes_9 : decode cX4_serializes 9 = .ok (.iastore, 1) := dk_79 (dk_at dksX4_serializes_0 9 rfl rfl)
theorem dX4_serializes_10 : decode cX4_serializes 10 = .ok (.iconst 0, 1) := dk_3 (dk_at dksX4_serializes_0 10 rfl rfl)
theorem dX4_serializes_11 : decode cX4_serializes 11 = .ok (.istore_n 3, 1) := dk_62 (dk_at dksX4_serializes_0 11 rfl rfl)
theorem dX4_serializes_12 : decode cX4_serializes 12 = .ok (.iconst 0, 1) := dk_3 (dk_at dksX4_serializes_0 12 rfl rfl)
theorem dX4_serializes_13 : decode cX4_serializes 13 = .ok (.istore 4, 2) := dk_54 4 (dk_at dksX4_serializes_0 13 rfl rfl)
theorem dX4_serializes_15 : decode cX4_serializes 15 = .ok (.iload 4, 2) := dk_21 4 (dk_at dksX4_serializes_0 15 rfl rfl)
theorem dX4_serializes_17 : decode cX4_serializes 17 = .ok (.iload_n 2, 1) := dk_28 (dk_at dksX4_serializes_0 17 rfl rfl)
theorem dX4_serializes_18 : decode cX4_serializes 18 = .ok (.if_icmp .ge 74, 3) := dk_162 0 74 (dk_at dksX4_serializes_0 18 rfl rfl)
theorem dX4_serializes_21 : decode cX4_serializes 21 = .ok (.iconst 0, 1) := dk_3 (dk_at dksX4_serializes_0 21 rfl rfl)
theorem dX4_serializes_22 : decode cX4_serializes 22 = .ok (.istore 5, 2) := dk_54 5 (dk_at dksX4_serializes_0 22 rfl rfl)
theorem dX4_serializes_24 : decode cX4_serializes 24 = .ok (.iload 5, 2) := dk_21 5 (dk_at dksX4_serializes_1 0 rfl rfl)
theorem dX4_serializes_26 : decode cX4_serializes 26 = .ok (.aload_n 0, 1) := dk_42 (dk_at dksX4_serializes_1 2 rfl rfl)
theorem dX4_serializes_27 : decode cX4_serializes 27 = .ok (.getfield 69, 3) := dk_180 0 69 (dk_at dksX4_serializes_1 3 rfl rfl)
theorem dX4_serializes_30 : decode cX4_serializes 30 = .ok (.if_icmp .ge 56, 3) := dk_162 0 56 (dk_at dksX4_serializes_1 6 rfl rfl)
theorem dX4_serializes_33 : decode cX4_serializes 33 = .ok (.aload_n 0, 1) := dk_42 (dk_at dksX4_serializes_1 9 rfl rfl)
theorem dX4_serializes_34 : decode cX4_serializes 34 = .ok (.getfield 54, 3) := dk_180 0 54 (dk_at dksX4_serializes_1 10 rfl rfl)
theorem dX4_serializes_37 : decode cX4_serializes 37 = .ok (.iload 5, 2) := dk_21 5 (dk_at dksX4_serializes_1 13 rfl rfl)
theorem dX4_serializes_39 : decode cX4_serializes 39 = .ok (.iaload, 1) := dk_46 (dk_at dksX4_serializes_1 15 rfl rfl)
theorem dX4_serializes_40 : decode cX4_serializes 40 = .ok (.aload_n 0, 1) := dk_42 (dk_at dksX4_serializes_1 16 rfl rfl)
theorem dX4_serializes_41 : decode cX4_serializes 41 = .ok (.getfield 63, 3) := dk_180 0 63 (dk_at dksX4_serializes_1 17 rfl rfl)
theorem dX4_serializes_44 : decode cX4_serializes 44 = .ok (.iload 4, 2) := dk_21 4 (dk_at dksX4_serializes_1 20 rfl rfl)
theorem dX4_serializes_46 : decode cX4_serializes 46 = .ok (.iaload, 1) := dk_46 (dk_at dksX4_serializes_1 22 rfl rfl)
theorem dX4_serializes_47 : decode cX4_serializes 47 = .ok (.if_icmp .ne 33, 3) := dk_160 0 33 (dk_at dksX4_serializes_2 0 rfl rfl)
theorem dX4_serializes_50 : decode cX4_serializes 50 = .ok (.aload_n 0, 1) := dk_42 (dk_at dksX4_serializes_2 3 rfl rfl)
theorem dX4_serializes_51 : decode cX4_serializes 51 = .ok (.iload_n 1, 1) := dk_27 (dk_at dksX4_serializes_2 4 rfl rfl)
theorem dX4_serializes_52 : decode cX4_serializes 52 = .ok (.aload_n 0, 1) := dk_42 (dk_at dksX4_serializes_2 5 rfl rfl)
theorem dX4_serializes_53 : decode cX4_serializes 53 = .ok (.getfield 51, 3) := dk_180 0 51 (dk_at dksX4_serializes_2 6 rfl rfl)
theorem dX4_serializes_56 : decode cX4_serializes 56 = .ok (.iload 5, 2) := dk_21 5 (dk_at dksX4_serializes_2 9 rfl rfl)
theorem dX4_serializes_58 : decode cX4_serializes 58 = .ok (.iaload, 1) := dk_46 (dk_at dksX4_serializes_2 11 rfl rfl)
theorem dX4_serializes_59 : decode cX4_serializes 59 = .ok (.aload_n 0, 1) := dk_42 (dk_at dksX4_serializes_2 12 rfl rfl)
theorem dX4_serializes_60 : decode cX4_serializes 60 = .ok (.getfield 54, 3) := dk_180 0 54 (dk_at dksX4_serializes_2 13 rfl rfl)
theorem dX4_serializes_63 : decode cX4_serializes 63 = .ok (.iload 5, 2) := dk_21 5 (dk_at dksX4_serializes_2 16 rfl rfl)
theorem dX4_serializes_65 : decode cX4_serializes 65 = .ok (.iaload, 1) := dk_46 (dk_at dksX4_serializes_2 18 rfl rfl)
theorem dX4_serializes_66 : decode cX4_serializes 66 = .ok (.aload_n 0, 1) := dk_42 (dk_at dksX4_serializes_2 19 rfl rfl)
theorem dX4_serializes_67 : decode cX4_serializes 67 = .ok (.getfield 57, 3) := dk_180 0 57 (dk_at dksX4_serializes_2 20 rfl rfl)
theorem dX4_serializes_70 : decode cX4_serializes 70 = .ok (.iload 5, 2) := dk_21 5 (dk_at dksX4_serializes_3 0 rfl rfl)
theorem dX4_serializes_72 : decode cX4_serializes 72 = .ok (.iaload, 1) := dk_46 (dk_at dksX4_serializes_3 2 rfl rfl)
theorem dX4_serializes_73 : decode cX4_serializes 73 = .ok (.invokestatic 166, 3) := dk_184 0 166 (dk_at dksX4_serializes_3 3 rfl rfl)
theorem dX4_serializes_76 : decode cX4_serializes 76 = .ok (.invokevirtual 174, 3) := dk_182 0 174 (dk_at dksX4_serializes_3 6 rfl rfl)
theorem dX4_serializes_79 : decode cX4_serializes 79 = .ok (.istore_n 3, 1) := dk_62 (dk_at dksX4_serializes_3 9 rfl rfl)
theorem dX4_serializes_80 : decode cX4_serializes 80 = .ok (.iinc 5 1, 3) := dk_132 5 1 (dk_at dksX4_serializes_3 10 rfl rfl)
theorem dX4_serializes_83 : decode cX4_serializes 83 = .ok (.goto (-59), 3) := dk_167 255 197 (dk_at dksX4_serializes_3 13 rfl rfl)
theorem dX4_serializes_86 : decode cX4_serializes 86 = .ok (.iinc 4 1, 3) := dk_132 4 1 (dk_at dksX4_serializes_3 16 rfl rfl)
theorem dX4_serializes_89 : decode cX4_serializes 89 = .ok (.goto (-74), 3) := dk_167 255 182 (dk_at dksX4_serializes_3 19 rfl rfl)
theorem dX4_serializes_92 : decode cX4_serializes 92 = .ok (.aload_n 0, 1) := dk_42 (dk_at dksX4_serializes_3 22 rfl rfl)
theorem dX4_serializes_93 : decode cX4_serializes 93 = .ok (.iload_n 1, 1) := dk_27 (dk_at dksX4_serializes_3 23 rfl rfl)
theorem dX4_serializes_94 : decode cX4_serializes 94 = .ok (.invokevirtual 135, 3) := dk_182 0 135 (dk_at dksX4_serializes_4 0 rfl rfl)
theorem dX4_serializes_97 : decode cX4_serializes 97 = .ok (.ireturn, 1) := dk_172 (dk_at dksX4_serializes_4 3 rfl rfl)
abbrev cX4_lock : ByteArray := prog_12_method_68_code
def yX4_lock : MethodName := ⟨RX4, "lock", "(II)I"⟩
def dkwX4_lock_1 : List UInt8 := [182, 1, 26, 182, 0, 192, 167, 0, 8, 42, 4, 182, 0, 180, 172]
abbrev dktX4_lock_1 : List UInt8 := dkwX4_lock_1 ++ []
def dkwX4_lock_0 : List UInt8 := [42, 182, 0, 177, 27, 184, 0, 131, 153, 0, 23, 28, 184, 0, 131, 153, 0, 16, 42, 42, 27, 28]
abbrev dktX4_lock_0 : List UInt8 := dkwX4_lock_0 ++ dktX4_lock_1
theorem dksX4_lock_0 : cX4_lock.data.toList.drop 0 = dktX4_lock_0 := by decide +kernel
theorem dksX4_lock_1 : cX4_lock.data.toList.drop 22 = dktX4_lock_1 := dk_seg dksX4_lock_0 22 rfl rfl
theorem dX4_lock_0 : decode cX4_lock 0 = .ok (.aload_n 0, 1) := dk_42 (dk_at dksX4_lock_0 0 rfl rfl)
theorem dX4_lock_1 : decode cX4_lock 1 = .ok (.invokevirtual 177, 3) := dk_182 0 177 (dk_at dksX4_lock_0 1 rfl rfl)
theorem dX4_lock_4 : decode cX4_lock 4 = .ok (.iload_n 1, 1) := dk_27 (dk_at dksX4_lock_0 4 rfl rfl)
theorem dX4_lock_5 : decode cX4_lock 5 = .ok (.invokestatic 131, 3) := dk_184 0 131 (dk_at dksX4_lock_0 5 rfl rfl)
theorem dX4_lock_8 : decode cX4_lock 8 = .ok (.ifCond .eq 23, 3) := dk_153 0 23 (dk_at dksX4_lock_0 8 rfl rfl)
theorem dX4_lock_11 : decode cX4_lock 11 = .ok (.iload_n 2, 1) := dk_28 (dk_at dksX4_lock_0 11 rfl rfl)
theorem dX4_lock_12 : decode cX4_lock 12 = .ok (.invokestatic 131, 3) := dk_184 0 131 (dk_at dksX4_lock_0 12 rfl rfl)
theorem dX4_lock_15 : decode cX4_lock 15 = .ok (.ifCond .eq 16, 3) := dk_153 0 16 (dk_at dksX4_lock_0 15 rfl rfl)
theorem dX4_lock_18 : decode cX4_lock 18 = .ok (.aload_n 0, 1) := dk_42 (dk_at dksX4_lock_0 18 rfl rfl)
theorem dX4_lock_19 : decode cX4_lock 19 = .ok (.aload_n 0, 1) := dk_42 (dk_at dksX4_lock_0 19 rfl rfl)
theorem dX4_lock_20 : decode cX4_lock 20 = .ok (.iload_n 1, 1) := dk_27 (dk_at dksX4_lock_0 20 rfl rfl)
theorem dX4_lock_21 : decode cX4_lock 21 = .ok (.iload_n 2, 1) := dk_28 (dk_at dksX4_lock_0 21 rfl rfl)
theorem dX4_lock_22 : decode cX4_lock 22 = .ok (.invokevirtual 282, 3) := dk_182 1 26 (dk_at dksX4_lock_1 0 rfl rfl)
theorem dX4_lock_25 : decode cX4_lock 25 = .ok (.invokevirtual 192, 3) := dk_182 0 192 (dk_at dksX4_lock_1 3 rfl rfl)
theorem dX4_lock_28 : decode cX4_lock 28 = .ok (.goto 8, 3) := dk_167 0 8 (dk_at dksX4_lock_1 6 rfl rfl)
theorem dX4_lock_31 : decode cX4_lock 31 = .ok (.aload_n 0, 1) := dk_42 (dk_at dksX4_lock_1 9 rfl rfl)
theorem dX4_lock_32 : decode cX4_lock 32 = .ok (.iconst 1, 1) := dk_4 (dk_at dksX4_lock_1 10 rfl rfl)
theorem dX4_lock_33 : decode cX4_lock 33 = .ok (.invokevirtual 180, 3) := dk_182 0 180 (dk_at dksX4_lock_1 11 rfl rfl)
theorem dX4_lock_36 : decode cX4_lock 36 = .ok (.ireturn, 1) := dk_172 (dk_at dksX4_lock_1 14 rfl rfl)
abbrev cX4_locks : ByteArray := prog_12_method_67_code
def yX4_locks : MethodName := ⟨RX4, "locks", "(II)I"⟩
def dkwX4_locks_2 : List UInt8 := [167, 255, 231, 42, 27, 182, 0, 135, 172]
abbrev dktX4_locks_2 : List UInt8 := dkwX4_locks_2 ++ []
def dkwX4_locks_1 : List UInt8 := [180, 0, 90, 162, 0, 22, 42, 27, 42, 180, 0, 84, 21, 4, 46, 182, 0, 174, 62, 132, 4, 1]
abbrev dktX4_locks_1 : List UInt8 := dkwX4_locks_1 ++ dktX4_locks_2
def dkwX4_locks_0 : List UInt8 := [42, 28, 182, 1, 23, 42, 180, 0, 7, 16, 21, 27, 104, 3, 79, 3, 62, 3, 54, 4, 21, 4, 42]
abbrev dktX4_locks_0 : List UInt8 := dkwX4_locks_0 ++ dktX4_locks_1
theorem dksX4_locks_0 : cX4_locks.data.toList.drop 0 = dktX4_locks_0 := by decide +kernel
theorem dksX4_locks_1 : cX4_locks.data.toList.drop 23 = dktX4_locks_1 := dk_seg dksX4_locks_0 23 rfl rfl
theorem dksX4_locks_2 : cX4_locks.data.toList.drop 45 = dktX4_locks_2 := dk_seg dksX4_locks_1 22 rfl rfl
theorem dX4_locks_0 : decode cX4_locks 0 = .ok (.aload_n 0, 1) := dk_42 (dk_at dksX4_locks_0 0 rfl rfl)
theorem dX4_locks_1 : decode cX4_locks 1 = .ok (.iload_n 2, 1) := dk_28 (dk_at dksX4_locks_0 1 rfl rfl)
theorem dX4_locks_2 : decode cX4_locks 2 = .ok (.invokevirtual 279, 3) := dk_182 1 23 (dk_at dksX4_locks_0 2 rfl rfl)
theorem dX4_locks_5 : decode cX4_locks 5 = .ok (.aload_n 0, 1) := dk_42 (dk_at dksX4_locks_0 5 rfl rfl)
theorem dX4_locks_6 : decode cX4_locks 6 = .ok (.getfield 7, 3) := dk_180 0 7 (dk_at dksX4_locks_0 6 rfl rfl)
theorem dX4_locks_9 : decode cX4_locks 9 = .ok (.bipush 21, 2) := dk_16 21 (dk_at dksX4_locks_0 9 rfl rfl)
theorem dX4_locks_11 : decode cX4_locks 11 = .ok (.iload_n 1, 1) := dk_27 (dk_at dksX4_locks_0 11 rfl rfl)
theorem dX4_locks_12 : decode cX4_locks 12 = .ok (.imul, 1) := dk_104 (dk_at dksX4_locks_0 12 rfl rfl)
theorem dX4_locks_13 : decode cX4_locks 13 = .ok (.iconst 0, 1) := dk_3 (dk_at dksX4_locks_0 13 rfl rfl)
theorem dX4_locks_14 : decode cX4_locks 14 = .ok (.iastore, 1) := dk_79 (dk_at dksX4_locks_0 14 rfl rfl)
theorem dX4_locks_15 : decode cX4_locks 15 = .ok (.iconst 0, 1) := dk_3 (dk_at dksX4_locks_0 15 rfl rfl)
theorem dX4_locks_16 : decode cX4_locks 16 = .ok (.istore_n 3, 1) := dk_62 (dk_at dksX4_locks_0 16 rfl rfl)
theorem dX4_locks_17 : decode cX4_locks 17 = .ok (.iconst 0, 1) := dk_3 (dk_at dksX4_locks_0 17 rfl rfl)
theorem dX4_locks_18 : decode cX4_locks 18 = .ok (.istore 4, 2) := dk_54 4 (dk_at dksX4_locks_0 18 rfl rfl)
theorem dX4_locks_20 : decode cX4_locks 20 = .ok (.iload 4, 2) := dk_21 4 (dk_at dksX4_locks_0 20 rfl rfl)
theorem dX4_locks_22 : decode cX4_locks 22 = .ok (.aload_n 0, 1) := dk_42 (dk_at dksX4_locks_0 22 rfl rfl)
theorem dX4_locks_23 : decode cX4_locks 23 = .ok (.getfield 90, 3) := dk_180 0 90 (dk_at dksX4_locks_1 0 rfl rfl)
theorem dX4_locks_26 : decode cX4_locks 26 = .ok (.if_icmp .ge 22, 3) := dk_162 0 22 (dk_at dksX4_locks_1 3 rfl rfl)
theorem dX4_locks_29 : decode cX4_locks 29 = .ok (.aload_n 0, 1) := dk_42 (dk_at dksX4_locks_1 6 rfl rfl)
theorem dX4_locks_30 : decode cX4_locks 30 = .ok (.iload_n 1, 1) := dk_27 (dk_at dksX4_locks_1 7 rfl rfl)
theorem dX4_locks_31 : decode cX4_locks 31 = .ok (.aload_n 0, 1) := dk_42 (dk_at dksX4_locks_1 8 rfl rfl)
theorem dX4_locks_32 : decode cX4_locks 32 = .ok (.getfield 84, 3) := dk_180 0 84 (dk_at dksX4_locks_1 9 rfl rfl)
theorem dX4_locks_35 : decode cX4_locks 35 = .ok (.iload 4, 2) := dk_21 4 (dk_at dksX4_locks_1 12 rfl rfl)
theorem dX4_locks_37 : decode cX4_locks 37 = .ok (.iaload, 1) := dk_46 (dk_at dksX4_locks_1 14 rfl rfl)
theorem dX4_locks_38 : decode cX4_locks 38 = .ok (.invokevirtual 174, 3) := dk_182 0 174 (dk_at dksX4_locks_1 15 rfl rfl)
theorem dX4_locks_41 : decode cX4_locks 41 = .ok (.istore_n 3, 1) := dk_62 (dk_at dksX4_locks_1 18 rfl rfl)
theorem dX4_locks_42 : decode cX4_locks 42 = .ok (.iinc 4 1, 3) := dk_132 4 1 (dk_at dksX4_locks_1 19 rfl rfl)
theorem dX4_locks_45 : decode cX4_locks 45 = .ok (.goto (-25), 3) := dk_167 255 231 (dk_at dksX4_locks_2 0 rfl rfl)
theorem dX4_locks_48 : decode cX4_locks 48 = .ok (.aload_n 0, 1) := dk_42 (dk_at dksX4_locks_2 3 rfl rfl)
theorem dX4_locks_49 : decode cX4_locks 49 = .ok (.iload_n 1, 1) := dk_27 (dk_at dksX4_locks_2 4 rfl rfl)
theorem dX4_locks_50 : decode cX4_locks 50 = .ok (.invokevirtual 135, 3) := dk_182 0 135 (dk_at dksX4_locks_2 5 rfl rfl)
theorem dX4_locks_53 : decode cX4_locks 53 = .ok (.ireturn, 1) := dk_172 (dk_at dksX4_locks_2 8 rfl rfl)
abbrev cX4_executesUnderLocks : ByteArray := prog_12_method_66_code
def yX4_executesUnderLocks : MethodName := ⟨RX4, "executesUnderLocks", "(I)V"⟩
def dkwX4_executesUnderLocks_3 : List UInt8 := [61, 28, 42, 180, 0, 69, 162, 0, 14, 42, 28, 182, 1, 20, 132, 2, 1, 167, 255, 240, 177]
abbrev dktX4_executesUnderLocks_3 : List UInt8 := dkwX4_executesUnderLocks_3 ++ []
def dkwX4_executesUnderLocks_2 : List UInt8 := [162, 0, 23, 42, 180, 0, 78, 28, 3, 79, 42, 180, 0, 81, 28, 3, 79, 132, 2, 1, 167, 255, 234, 3]
abbrev dktX4_executesUnderLocks_2 : List UInt8 := dkwX4_executesUnderLocks_2 ++ dktX4_executesUnderLocks_3
def dkwX4_executesUnderLocks_1 : List UInt8 := [16, 20, 162, 0, 16, 42, 180, 0, 75, 28, 3, 79, 132, 2, 1, 167, 255, 240, 3, 61, 28, 7]
abbrev dktX4_executesUnderLocks_1 : List UInt8 := dkwX4_executesUnderLocks_1 ++ dktX4_executesUnderLocks_2
def dkwX4_executesUnderLocks_0 : List UInt8 := [42, 27, 3, 182, 0, 227, 42, 3, 181, 0, 90, 42, 3, 181, 0, 93, 42, 3, 181, 0, 96, 3, 61, 28]
abbrev dktX4_executesUnderLocks_0 : List UInt8 := dkwX4_executesUnderLocks_0 ++ dktX4_executesUnderLocks_1
theorem dksX4_executesUnderLocks_0 : cX4_executesUnderLocks.data.toList.drop 0 = dktX4_executesUnderLocks_0 := by decide +kernel
theorem dksX4_executesUnderLocks_1 : cX4_executesUnderLocks.data.toList.drop 24 = dktX4_executesUnderLocks_1 := dk_seg dksX4_executesUnderLocks_0 24 rfl rfl
theorem dksX4_executesUnderLocks_2 : cX4_executesUnderLocks.data.toList.drop 46 = dktX4_executesUnderLocks_2 := dk_seg dksX4_executesUnderLocks_1 22 rfl rfl
theorem dksX4_executesUnderLocks_3 : cX4_executesUnderLocks.data.toList.drop 70 = dktX4_executesUnderLocks_3 := dk_seg dksX4_executesUnderLocks_2 24 rfl rfl
theorem dX4_executesUnderLocks_0 : decode cX4_executesUnderLocks 0 = .ok (.aload_n 0, 1) := dk_42 (dk_at dksX4_executesUnderLocks_0 0 rfl rfl)
theorem dX4_executesUnderLocks_1 : decode cX4_executesUnderLocks 1 = .ok (.iload_n 1, 1) := dk_27 (dk_at dksX4_executesUnderLocks_0 1 rfl rfl)
theorem dX4_executesUnderLocks_2 : decode cX4_executesUnderLocks 2 = .ok (.iconst 0, 1) := dk_3 (dk_at dksX4_executesUnderLocks_0 2 rfl rfl)
theorem dX4_executesUnderLocks_3 : decode cX4_executesUnderLocks 3 = .ok (.invokevirtual 227, 3) := dk_182 0 227 (dk_at dksX4_executesUnderLocks_0 3 rfl rfl)
theorem dX4_executesUnderLocks_6 : decode cX4_executesUnderLocks 6 = .ok (.aload_n 0, 1) := dk_42 (dk_at dksX4_executesUnderLocks_0 6 rfl rfl)
theorem dX4_executesUnderLocks_7 : decode cX4_executesUnderLocks 7 = .ok (.iconst 0, 1) := dk_3 (dk_at dksX4_executesUnderLocks_0 7 rfl rfl)
theorem dX4_executesUnderLocks_8 : decode cX4_executesUnderLocks 8 = .ok (.putfield 90, 3) := dk_181 0 90 (dk_at dksX4_executesUnderLocks_0 8 rfl rfl)
theorem dX4_executesUnderLocks_11 : decode cX4_executesUnderLocks 11 = .ok (.aload_n 0, 1) := dk_42 (dk_at dksX4_executesUnderLocks_0 11 rfl rfl)
theorem dX4_executesUnderLocks_12 : decode cX4_executesUnderLocks 12 = .ok (.iconst 0, 1) := dk_3 (dk_at dksX4_executesUnderLocks_0 12 rfl rfl)
theorem dX4_executesUnderLocks_13 : decode cX4_executesUnderLocks 13 = .ok (.putfield 93, 3) := dk_181 0 93 (dk_at dksX4_executesUnderLocks_0 13 rfl rfl)
theorem dX4_executesUnderLocks_16 : decode cX4_executesUnderLocks 16 = .ok (.aload_n 0, 1) := dk_42 (dk_at dksX4_executesUnderLocks_0 16 rfl rfl)
theorem dX4_executesUnderLocks_17 : decode cX4_executesUnderLocks 17 = .ok (.iconst 0, 1) := dk_3 (dk_at dksX4_executesUnderLocks_0 17 rfl rfl)
theorem dX4_executesUnderLocks_18 : decode cX4_executesUnderLocks 18 = .ok (.putfield 96, 3) := dk_181 0 96 (dk_at dksX4_executesUnderLocks_0 18 rfl rfl)
theorem dX4_executesUnderLocks_21 : decode cX4_executesUnderLocks 21 = .ok (.iconst 0, 1) := dk_3 (dk_at dksX4_executesUnderLocks_0 21 rfl rfl)
theorem dX4_executesUnderLocks_22 : decode cX4_executesUnderLocks 22 = .ok (.istore_n 2, 1) := dk_61 (dk_at dksX4_executesUnderLocks_0 22 rfl rfl)
theorem dX4_executesUnderLocks_23 : decode cX4_executesUnderLocks 23 = .ok (.iload_n 2, 1) := dk_28 (dk_at dksX4_executesUnderLocks_0 23 rfl rfl)
theorem dX4_executesUnderLocks_24 : decode cX4_executesUnderLocks 24 = .ok (.bipush 20, 2) := dk_16 20 (dk_at dksX4_executesUnderLocks_1 0 rfl rfl)
theorem dX4_executesUnderLocks_26 : decode cX4_executesUnderLocks 26 = .ok (.if_icmp .ge 16, 3) := dk_162 0 16 (dk_at dksX4_executesUnderLocks_1 2 rfl rfl)
theorem dX4_executesUnderLocks_29 : decode cX4_executesUnderLocks 29 = .ok (.aload_n 0, 1) := dk_42 (dk_at dksX4_executesUnderLocks_1 5 rfl rfl)
theorem dX4_executesUnderLocks_30 : decode cX4_executesUnderLocks 30 = .ok (.getfield 75, 3) := dk_180 0 75 (dk_at dksX4_executesUnderLocks_1 6 rfl rfl)
theorem dX4_executesUnderLocks_33 : decode cX4_executesUnderLocks 33 = .ok (.iload_n 2, 1) := dk_28 (dk_at dksX4_executesUnderLocks_1 9 rfl rfl)
theorem dX4_executesUnderLocks_34 : decode cX4_executesUnderLocks 34 = .ok (.iconst 0, 1) := dk_3 (dk_at dksX4_executesUnderLocks_1 10 rfl rfl)
theorem dX4_executesUnderLocks_35 : decode cX4_executesUnderLocks 35 = .ok (.iastore, 1) := dk_79 (dk_at dksX4_executesUnderLocks_1 11 rfl rfl)
theorem dX4_executesUnderLocks_36 : decode cX4_executesUnderLocks 36 = .ok (.iinc 2 1, 3) := dk_132 2 1 (dk_at dksX4_executesUnderLocks_1 12 rfl rfl)
theorem dX4_executesUnderLocks_39 : decode cX4_executesUnderLocks 39 = .ok (.goto (-16), 3) := dk_167 255 240 (dk_at dksX4_executesUnderLocks_1 15 rfl rfl)
theorem dX4_executesUnderLocks_42 : decode cX4_executesUnderLocks 42 = .ok (.iconst 0, 1) := dk_3 (dk_at dksX4_executesUnderLocks_1 18 rfl rfl)
theorem dX4_executesUnderLocks_43 : decode cX4_executesUnderLocks 43 = .ok (.istore_n 2, 1) := dk_61 (dk_at dksX4_executesUnderLocks_1 19 rfl rfl)
theorem dX4_executesUnderLocks_44 : decode cX4_executesUnderLocks 44 = .ok (.iload_n 2, 1) := dk_28 (dk_at dksX4_executesUnderLocks_1 20 rfl rfl)
theorem dX4_executesUnderLocks_45 : decode cX4_executesUnderLocks 45 = .ok (.iconst 4, 1) := dk_7 (dk_at dksX4_executesUnderLocks_1 21 rfl rfl)
theorem dX4_executesUnderLocks_46 : decode cX4_executesUnderLocks 46 = .ok (.if_icmp .ge 23, 3) := dk_162 0 23 (dk_at dksX4_executesUnderLocks_2 0 rfl rfl)
theorem dX4_executesUnderLocks_49 : decode cX4_executesUnderLocks 49 = .ok (.aload_n 0, 1) := dk_42 (dk_at dksX4_executesUnderLocks_2 3 rfl rfl)
theorem dX4_executesUnderLocks_50 : decode cX4_executesUnderLocks 50 = .ok (.getfield 78, 3) := dk_180 0 78 (dk_at dksX4_executesUnderLocks_2 4 rfl rfl)
theorem dX4_executesUnderLocks_53 : decode cX4_executesUnderLocks 53 = .ok (.iload_n 2, 1) := dk_28 (dk_at dksX4_executesUnderLocks_2 7 rfl rfl)
theorem dX4_executesUnderLocks_54 : decode cX4_executesUnderLocks 54 = .ok (.iconst 0, 1) := dk_3 (dk_at dksX4_executesUnderLocks_2 8 rfl rfl)
theorem dX4_executesUnderLocks_55 : decode cX4_executesUnderLocks 55 = .ok (.iastore, 1) := dk_79 (dk_at dksX4_executesUnderLocks_2 9 rfl rfl)
theorem dX4_executesUnderLocks_56 : decode cX4_executesUnderLocks 56 = .ok (.aload_n 0, 1) := dk_42 (dk_at dksX4_executesUnderLocks_2 10 rfl rfl)
theorem dX4_executesUnderLocks_57 : decode cX4_executesUnderLocks 57 = .ok (.getfield 81, 3) := dk_180 0 81 (dk_at dksX4_executesUnderLocks_2 11 rfl rfl)
theorem dX4_executesUnderLocks_60 : decode cX4_executesUnderLocks 60 = .ok (.iload_n 2, 1) := dk_28 (dk_at dksX4_executesUnderLocks_2 14 rfl rfl)
theorem dX4_executesUnderLocks_61 : decode cX4_executesUnderLocks 61 = .ok (.iconst 0, 1) := dk_3 (dk_at dksX4_executesUnderLocks_2 15 rfl rfl)
theorem dX4_executesUnderLocks_62 : decode cX4_executesUnderLocks 62 = .ok (.iastore, 1) := dk_79 (dk_at dksX4_executesUnderLocks_2 16 rfl rfl)
theorem dX4_executesUnderLocks_63 : decode cX4_executesUnderLocks 63 = .ok (.iinc 2 1, 3) := dk_132 2 1 (dk_at dksX4_executesUnderLocks_2 17 rfl rfl)
theorem dX4_executesUnderLocks_66 : decode cX4_executesUnderLocks 66 = .ok (.goto (-22), 3) := dk_167 255 234 (dk_at dksX4_executesUnderLocks_2 20 rfl rfl)
theorem dX4_executesUnderLocks_69 : decode cX4_executesUnderLocks 69 = .ok (.iconst 0, 1) := dk_3 (dk_at dksX4_executesUnderLocks_2 23 rfl rfl)
theorem dX4_executesUnderLocks_70 : decode cX4_executesUnderLocks 70 = .ok (.istore_n 2, 1) := dk_61 (dk_at dksX4_executesUnderLocks_3 0 rfl rfl)
theorem dX4_executesUnderLocks_71 : decode cX4_executesUnderLocks 71 = .ok (.iload_n 2, 1) := dk_28 (dk_at dksX4_executesUnderLocks_3 1 rfl rfl)
theorem dX4_executesUnderLocks_72 : decode cX4_executesUnderLocks 72 = .ok (.aload_n 0, 1) := dk_42 (dk_at dksX4_executesUnderLocks_3 2 rfl rfl)
theorem dX4_executesUnderLocks_73 : decode cX4_executesUnderLocks 73 = .ok (.getfield 69, 3) := dk_180 0 69 (dk_at dksX4_executesUnderLocks_3 3 rfl rfl)
theorem dX4_executesUnderLocks_76 : decode cX4_executesUnderLocks 76 = .ok (.if_icmp .ge 14, 3) := dk_162 0 14 (dk_at dksX4_executesUnderLocks_3 6 rfl rfl)
theorem dX4_executesUnderLocks_79 : decode cX4_executesUnderLocks 79 = .ok (.aload_n 0, 1) := dk_42 (dk_at dksX4_executesUnderLocks_3 9 rfl rfl)
theorem dX4_executesUnderLocks_80 : decode cX4_executesUnderLocks 80 = .ok (.iload_n 2, 1) := dk_28 (dk_at dksX4_executesUnderLocks_3 10 rfl rfl)
theorem dX4_executesUnderLocks_81 : decode cX4_executesUnderLocks 81 = .ok (.invokevirtual 276, 3) := dk_182 1 20 (dk_at dksX4_executesUnderLocks_3 11 rfl rfl)
theorem dX4_executesUnderLocks_84 : decode cX4_executesUnderLocks 84 = .ok (.iinc 2 1, 3) := dk_132 2 1 (dk_at dksX4_executesUnderLocks_3 14 rfl rfl)
theorem dX4_executesUnderLocks_87 : decode cX4_executesUnderLocks 87 = .ok (.goto (-16), 3) := dk_167 255 240 (dk_at dksX4_executesUnderLocks_3 17 rfl rfl)
theorem dX4_executesUnderLocks_90 : decode cX4_executesUnderLocks 90 = .ok (.return_, 1) := dk_177 (dk_at dksX4_executesUnderLocks_3 20 rfl rfl)
abbrev cX4_comes : ByteArray := prog_12_method_65_code
def yX4_comes : MethodName := ⟨RX4, "comes", "(I)V"⟩
def dkwX4_comes_4 : List UInt8 := [182, 1, 14, 182, 1, 17, 167, 255, 241, 177]
abbrev dktX4_comes_4 : List UInt8 := dkwX4_comes_4 ++ []
def dkwX4_comes_3 : List UInt8 := [27, 4, 79, 42, 89, 180, 0, 96, 4, 96, 181, 0, 96, 42, 182, 1, 14, 158, 0, 14, 42, 42]
abbrev dktX4_comes_3 : List UInt8 := dkwX4_comes_3 ++ dktX4_comes_4
def dkwX4_comes_2 : List UInt8 := [42, 27, 182, 1, 8, 42, 27, 182, 0, 224, 154, 0, 45, 42, 182, 1, 11, 167, 0, 38, 42, 180, 0, 75]
abbrev dktX4_comes_2 : List UInt8 := dkwX4_comes_2 ++ dktX4_comes_3
def dkwX4_comes_1 : List UInt8 := [167, 0, 79, 42, 42, 180, 0, 54, 27, 46, 182, 0, 255, 156, 0, 31, 42, 27, 182, 1, 2, 154, 0, 23]
abbrev dktX4_comes_1 : List UInt8 := dkwX4_comes_1 ++ dktX4_comes_2
def dkwX4_comes_0 : List UInt8 := [42, 180, 0, 93, 42, 180, 0, 54, 27, 46, 122, 4, 126, 4, 160, 0, 13, 42, 180, 0, 75, 27, 5, 79]
abbrev dktX4_comes_0 : List UInt8 := dkwX4_comes_0 ++ dktX4_comes_1
theorem dksX4_comes_0 : cX4_comes.data.toList.drop 0 = dktX4_comes_0 := by decide +kernel
theorem dksX4_comes_1 : cX4_comes.data.toList.drop 24 = dktX4_comes_1 := dk_seg dksX4_comes_0 24 rfl rfl
theorem dksX4_comes_2 : cX4_comes.data.toList.drop 48 = dktX4_comes_2 := dk_seg dksX4_comes_1 24 rfl rfl
theorem dksX4_comes_3 : cX4_comes.data.toList.drop 72 = dktX4_comes_3 := dk_seg dksX4_comes_2 24 rfl rfl
theorem dksX4_comes_4 : cX4_comes.data.toList.drop 94 = dktX4_comes_4 := dk_seg dksX4_comes_3 22 rfl rfl
theorem dX4_comes_0 : decode cX4_comes 0 = .ok (.aload_n 0, 1) := dk_42 (dk_at dksX4_comes_0 0 rfl rfl)
theorem dX4_comes_1 : decode cX4_comes 1 = .ok (.getfield 93, 3) := dk_180 0 93 (dk_at dksX4_comes_0 1 rfl rfl)
theorem dX4_comes_4 : decode cX4_comes 4 = .ok (.aload_n 0, 1) := dk_42 (dk_at dksX4_comes_0 4 rfl rfl)
theorem dX4_comes_5 : decode cX4_comes 5 = .ok (.getfield 54, 3) := dk_180 0 54 (dk_at dksX4_comes_0 5 rfl rfl)
theorem dX4_comes_8 : decode cX4_comes 8 = .ok (.iload_n 1, 1) := dk_27 (dk_at dksX4_comes_0 8 rfl rfl)
theorem dX4_comes_9 : decode cX4_comes 9 = .ok (.iaload, 1) := dk_46 (dk_at dksX4_comes_0 9 rfl rfl)
theorem dX4_comes_10 : decode cX4_comes 10 = .ok (.ishr, 1) := dk_122 (dk_at dksX4_comes_0 10 rfl rfl)
theorem dX4_comes_11 : decode cX4_comes 11 = .ok (.iconst 1, 1) := dk_4 (dk_at dksX4_comes_0 11 rfl rfl)
theorem dX4_comes_12 : decode cX4_comes 12 = .ok (.iand, 1) := dk_126 (dk_at dksX4_comes_0 12 rfl rfl)
theorem dX4_comes_13 : decode cX4_comes 13 = .ok (.iconst 1, 1) := dk_4 (dk_at dksX4_comes_0 13 rfl rfl)
theorem dX4_comes_14 : decode cX4_comes 14 = .ok (.if_icmp .ne 13, 3) := dk_160 0 13 (dk_at dksX4_comes_0 14 rfl rfl)
theorem dX4_comes_17 : decode cX4_comes 17 = .ok (.aload_n 0, 1) := dk_42 (dk_at dksX4_comes_0 17 rfl rfl)
theorem dX4_comes_18 : decode cX4_comes 18 = .ok (.getfield 75, 3) := dk_180 0 75 (dk_at dksX4_comes_0 18 rfl rfl)
theorem dX4_comes_21 : decode cX4_comes 21 = .ok (.iload_n 1, 1) := dk_27 (dk_at dksX4_comes_0 21 rfl rfl)
theorem dX4_comes_22 : decode cX4_comes 22 = .ok (.iconst 2, 1) := dk_5 (dk_at dksX4_comes_0 22 rfl rfl)
theorem dX4_comes_23 : decode cX4_comes 23 = .ok (.iastore, 1) := dk_79 (dk_at dksX4_comes_0 23 rfl rfl)
theorem dX4_comes_24 : decode cX4_comes 24 = .ok (.goto 79, 3) := dk_167 0 79 (dk_at dksX4_comes_1 0 rfl rfl)
theorem dX4_comes_27 : decode cX4_comes 27 = .ok (.aload_n 0, 1) := dk_42 (dk_at dksX4_comes_1 3 rfl rfl)
theorem dX4_comes_28 : decode cX4_comes 28 = .ok (.aload_n 0, 1) := dk_42 (dk_at dksX4_comes_1 4 rfl rfl)
theorem dX4_comes_29 : decode cX4_comes 29 = .ok (.getfield 54, 3) := dk_180 0 54 (dk_at dksX4_comes_1 5 rfl rfl)
theorem dX4_comes_32 : decode cX4_comes 32 = .ok (.iload_n 1, 1) := dk_27 (dk_at dksX4_comes_1 8 rfl rfl)
theorem dX4_comes_33 : decode cX4_comes 33 = .ok (.iaload, 1) := dk_46 (dk_at dksX4_comes_1 9 rfl rfl)
theorem dX4_comes_34 : decode cX4_comes 34 = .ok (.invokevirtual 255, 3) := dk_182 0 255 (dk_at dksX4_comes_1 10 rfl rfl)
theorem dX4_comes_37 : decode cX4_comes 37 = .ok (.ifCond .ge 31, 3) := dk_156 0 31 (dk_at dksX4_comes_1 13 rfl rfl)
theorem dX4_comes_40 : decode cX4_comes 40 = .ok (.aload_n 0, 1) := dk_42 (dk_at dksX4_comes_1 16 rfl rfl)
theorem dX4_comes_41 : decode cX4_comes 41 = .ok (.iload_n 1, 1) := dk_27 (dk_at dksX4_comes_1 17 rfl rfl)
theorem dX4_comes_42 : decode cX4_comes 42 = .ok (.invokevirtual 258, 3) := dk_182 1 2 (dk_at dksX4_comes_1 18 rfl rfl)
theorem dX4_comes_45 : decode cX4_comes 45 = .ok (.ifCond .ne 23, 3) := dk_154 0 23 (dk_at dksX4_comes_1 21 rfl rfl)
theorem dX4_comes_48 : decode cX4_comes 48 = .ok (.aload_n 0, 1) := dk_42 (dk_at dksX4_comes_2 0 rfl rfl)
theorem dX4_comes_49 : decode cX4_comes 49 = .ok (.iload_n 1, 1) := dk_27 (dk_at dksX4_comes_2 1 rfl rfl)
theorem dX4_comes_50 : decode cX4_comes 50 = .ok (.invokevirtual 264, 3) := dk_182 1 8 (dk_at dksX4_comes_2 2 rfl rfl)
theorem dX4_comes_53 : decode cX4_comes 53 = .ok (.aload_n 0, 1) := dk_42 (dk_at dksX4_comes_2 5 rfl rfl)
theorem dX4_comes_54 : decode cX4_comes 54 = .ok (.iload_n 1, 1) := dk_27 (dk_at dksX4_comes_2 6 rfl rfl)
theorem dX4_comes_55 : decode cX4_comes 55 = .ok (.invokevirtual 224, 3) := dk_182 0 224 (dk_at dksX4_comes_2 7 rfl rfl)
theorem dX4_comes_58 : decode cX4_comes 58 = .ok (.ifCond .ne 45, 3) := dk_154 0 45 (dk_at dksX4_comes_2 10 rfl rfl)
theorem dX4_comes_61 : decode cX4_comes 61 = .ok (.aload_n 0, 1) := dk_42 (dk_at dksX4_comes_2 13 rfl rfl)
theorem dX4_comes_62 : decode cX4_comes 62 = .ok (.invokevirtual 267, 3) := dk_182 1 11 (dk_at dksX4_comes_2 14 rfl rfl)
theorem dX4_comes_65 : decode cX4_comes 65 = .ok (.goto 38, 3) := dk_167 0 38 (dk_at dksX4_comes_2 17 rfl rfl)
theorem dX4_comes_68 : decode cX4_comes 68 = .ok (.aload_n 0, 1) := dk_42 (dk_at dksX4_comes_2 20 rfl rfl)
theorem dX4_comes_69 : decode cX4_comes 69 = .ok (.getfield 75, 3) := dk_180 0 75 (dk_at dksX4_comes_2 21 rfl rfl)
theorem dX4_comes_72 : decode cX4_comes 72 = .ok (.iload_n 1, 1) := dk_27 (dk_at dksX4_comes_3 0 rfl rfl)
theorem dX4_comes_73 : decode cX4_comes 73 = .ok (.iconst 1, 1) := dk_4 (dk_at dksX4_comes_3 1 rfl rfl)
theorem dX4_comes_74 : decode cX4_comes 74 = .ok (.iastore, 1) := dk_79 (dk_at dksX4_comes_3 2 rfl rfl)
theorem dX4_comes_75 : decode cX4_comes 75 = .ok (.aload_n 0, 1) := dk_42 (dk_at dksX4_comes_3 3 rfl rfl)
theorem dX4_comes_76 : decode cX4_comes 76 = .ok (.dup, 1) := dk_89 (dk_at dksX4_comes_3 4 rfl rfl)
theorem dX4_comes_77 : decode cX4_comes 77 = .ok (.getfield 96, 3) := dk_180 0 96 (dk_at dksX4_comes_3 5 rfl rfl)
theorem dX4_comes_80 : decode cX4_comes 80 = .ok (.iconst 1, 1) := dk_4 (dk_at dksX4_comes_3 8 rfl rfl)
theorem dX4_comes_81 : decode cX4_comes 81 = .ok (.iadd, 1) := dk_96 (dk_at dksX4_comes_3 9 rfl rfl)
theorem dX4_comes_82 : decode cX4_comes 82 = .ok (.putfield 96, 3) := dk_181 0 96 (dk_at dksX4_comes_3 10 rfl rfl)
theorem dX4_comes_85 : decode cX4_comes 85 = .ok (.aload_n 0, 1) := dk_42 (dk_at dksX4_comes_3 13 rfl rfl)
theorem dX4_comes_86 : decode cX4_comes 86 = .ok (.invokevirtual 270, 3) := dk_182 1 14 (dk_at dksX4_comes_3 14 rfl rfl)
theorem dX4_comes_89 : decode cX4_comes 89 = .ok (.ifCond .le 14, 3) := dk_158 0 14 (dk_at dksX4_comes_3 17 rfl rfl)
theorem dX4_comes_92 : decode cX4_comes 92 = .ok (.aload_n 0, 1) := dk_42 (dk_at dksX4_comes_3 20 rfl rfl)
theorem dX4_comes_93 : decode cX4_comes 93 = .ok (.aload_n 0, 1) := dk_42 (dk_at dksX4_comes_3 21 rfl rfl)
theorem dX4_comes_94 : decode cX4_comes 94 = .ok (.invokevirtual 270, 3) := dk_182 1 14 (dk_at dksX4_comes_4 0 rfl rfl)
theorem dX4_comes_97 : decode cX4_comes 97 = .ok (.invokevirtual 273, 3) := dk_182 1 17 (dk_at dksX4_comes_4 3 rfl rfl)
theorem dX4_comes_100 : decode cX4_comes 100 = .ok (.goto (-15), 3) := dk_167 255 241 (dk_at dksX4_comes_4 6 rfl rfl)
theorem dX4_comes_103 : decode cX4_comes 103 = .ok (.return_, 1) := dk_177 (dk_at dksX4_comes_4 9 rfl rfl)
abbrev cX4_firstWaiting : ByteArray := prog_12_method_57_code
def yX4_firstWaiting : MethodName := ⟨RX4, "firstWaiting", "(I)I"⟩
def dkwX4_firstWaiting_1 : List UInt8 := [28, 46, 4, 160, 0, 5, 28, 172, 132, 2, 1, 167, 255, 223, 2, 172]
abbrev dktX4_firstWaiting_1 : List UInt8 := dkwX4_firstWaiting_1 ++ []
def dkwX4_firstWaiting_0 : List UInt8 := [3, 61, 28, 42, 180, 0, 69, 162, 0, 31, 42, 180, 0, 54, 28, 46, 27, 160, 0, 15, 42, 180, 0, 75]
abbrev dktX4_firstWaiting_0 : List UInt8 := dkwX4_firstWaiting_0 ++ dktX4_firstWaiting_1
theorem dksX4_firstWaiting_0 : cX4_firstWaiting.data.toList.drop 0 = dktX4_firstWaiting_0 := by decide +kernel
theorem dksX4_firstWaiting_1 : cX4_firstWaiting.data.toList.drop 24 = dktX4_firstWaiting_1 := dk_seg dksX4_firstWaiting_0 24 rfl rfl
theorem dX4_firstWaiting_0 : decode cX4_firstWaiting 0 = .ok (.iconst 0, 1) := dk_3 (dk_at dksX4_firstWaiting_0 0 rfl rfl)
theorem dX4_firstWaiting_1 : decode cX4_firstWaiting 1 = .ok (.istore_n 2, 1) := dk_61 (dk_at dksX4_firstWaiting_0 1 rfl rfl)
theorem dX4_firstWaiting_2 : decode cX4_firstWaiting 2 = .ok (.iload_n 2, 1) := dk_28 (dk_at dksX4_firstWaiting_0 2 rfl rfl)
theorem dX4_firstWaiting_3 : decode cX4_firstWaiting 3 = .ok (.aload_n 0, 1) := dk_42 (dk_at dksX4_firstWaiting_0 3 rfl rfl)
theorem dX4_firstWaiting_4 : decode cX4_firstWaiting 4 = .ok (.getfield 69, 3) := dk_180 0 69 (dk_at dksX4_firstWaiting_0 4 rfl rfl)
theorem dX4_firstWaiting_7 : decode cX4_firstWaiting 7 = .ok (.if_icmp .ge 31, 3) := dk_162 0 31 (dk_at dksX4_firstWaiting_0 7 rfl rfl)
theorem dX4_firstWaiting_10 : decode cX4_firstWaiting 10 = .ok (.aload_n 0, 1) := dk_42 (dk_at dksX4_firstWaiting_0 10 rfl rfl)
theorem dX4_firstWaiting_11 : decode cX4_firstWaiting 11 = .ok (.getfield 54, 3) := dk_180 0 54 (dk_at dksX4_firstWaiting_0 11 rfl rfl)
theorem dX4_firstWaiting_14 : decode cX4_firstWaiting 14 = .ok (.iload_n 2, 1) := dk_28 (dk_at dksX4_firstWaiting_0 14 rfl rfl)
theorem dX4_firstWaiting_15 : decode cX4_firstWaiting 15 = .ok (.iaload, 1) := dk_46 (dk_at dksX4_firstWaiting_0 15 rfl rfl)
theorem dX4_firstWaiting_16 : decode cX4_firstWaiting 16 = .ok (.iload_n 1, 1) := dk_27 (dk_at dksX4_firstWaiting_0 16 rfl rfl)
theorem dX4_firstWaiting_17 : decode cX4_firstWaiting 17 = .ok (.if_icmp .ne 15, 3) := dk_160 0 15 (dk_at dksX4_firstWaiting_0 17 rfl rfl)
theorem dX4_firstWaiting_20 : decode cX4_firstWaiting 20 = .ok (.aload_n 0, 1) := dk_42 (dk_at dksX4_firstWaiting_0 20 rfl rfl)
theorem dX4_firstWaiting_21 : decode cX4_firstWaiting 21 = .ok (.getfield 75, 3) := dk_180 0 75 (dk_at dksX4_firstWaiting_0 21 rfl rfl)
theorem dX4_firstWaiting_24 : decode cX4_firstWaiting 24 = .ok (.iload_n 2, 1) := dk_28 (dk_at dksX4_firstWaiting_1 0 rfl rfl)
theorem dX4_firstWaiting_25 : decode cX4_firstWaiting 25 = .ok (.iaload, 1) := dk_46 (dk_at dksX4_firstWaiting_1 1 rfl rfl)
theorem dX4_firstWaiting_26 : decode cX4_firstWaiting 26 = .ok (.iconst 1, 1) := dk_4 (dk_at dksX4_firstWaiting_1 2 rfl rfl)
theorem dX4_firstWaiting_27 : decode cX4_firstWaiting 27 = .ok (.if_icmp .ne 5, 3) := dk_160 0 5 (dk_at dksX4_firstWaiting_1 3 rfl rfl)
theorem dX4_firstWaiting_30 : decode cX4_firstWaiting 30 = .ok (.iload_n 2, 1) := dk_28 (dk_at dksX4_firstWaiting_1 6 rfl rfl)
theorem dX4_firstWaiting_31 : decode cX4_firstWaiting 31 = .ok (.ireturn, 1) := dk_172 (dk_at dksX4_firstWaiting_1 7 rfl rfl)
theorem dX4_firstWaiting_32 : decode cX4_firstWaiting 32 = .ok (.iinc 2 1, 3) := dk_132 2 1 (dk_at dksX4_firstWaiting_1 8 rfl rfl)
theorem dX4_firstWaiting_35 : decode cX4_firstWaiting 35 = .ok (.goto (-33), 3) := dk_167 255 223 (dk_at dksX4_firstWaiting_1 11 rfl rfl)
theorem dX4_firstWaiting_38 : decode cX4_firstWaiting 38 = .ok (.iconst (-1), 1) := dk_2 (dk_at dksX4_firstWaiting_1 14 rfl rfl)
theorem dX4_firstWaiting_39 : decode cX4_firstWaiting 39 = .ok (.ireturn, 1) := dk_172 (dk_at dksX4_firstWaiting_1 15 rfl rfl)
abbrev cX4_preventers : ByteArray := prog_12_method_56_code
def yX4_preventers : MethodName := ⟨RX4, "preventers", "(I)I"⟩
def dkwX4_preventers_2 : List UInt8 := [128, 61, 28, 4, 42, 180, 0, 54, 27, 46, 120, 2, 130, 126, 172]
abbrev dktX4_preventers_2 : List UInt8 := dkwX4_preventers_2 ++ []
def dkwX4_preventers_1 : List UInt8 := [180, 0, 51, 27, 46, 4, 160, 0, 17, 42, 180, 0, 78, 42, 180, 0, 57, 27, 46, 46, 167, 0, 4, 3]
abbrev dktX4_preventers_1 : List UInt8 := dkwX4_preventers_1 ++ dktX4_preventers_2
def dkwX4_preventers_0 : List UInt8 := [42, 27, 182, 0, 224, 154, 0, 5, 3, 172, 42, 180, 0, 81, 42, 180, 0, 57, 27, 46, 46, 42]
abbrev dktX4_preventers_0 : List UInt8 := dkwX4_preventers_0 ++ dktX4_preventers_1
theorem dksX4_preventers_0 : cX4_preventers.data.toList.drop 0 = dktX4_preventers_0 := by decide +kernel
theorem dksX4_preventers_1 : cX4_preventers.data.toList.drop 22 = dktX4_preventers_1 := dk_seg dksX4_preventers_0 22 rfl rfl
theorem dksX4_preventers_2 : cX4_preventers.data.toList.drop 46 = dktX4_preventers_2 := dk_seg dksX4_preventers_1 24 rfl rfl
theorem dX4_preventers_0 : decode cX4_preventers 0 = .ok (.aload_n 0, 1) := dk_42 (dk_at dksX4_preventers_0 0 rfl rfl)
theorem dX4_preventers_1 : decode cX4_preventers 1 = .ok (.iload_n 1, 1) := dk_27 (dk_at dksX4_preventers_0 1 rfl rfl)
theorem dX4_preventers_2 : decode cX4_preventers 2 = .ok (.invokevirtual 224, 3) := dk_182 0 224 (dk_at dksX4_preventers_0 2 rfl rfl)
theorem dX4_preventers_5 : decode cX4_preventers 5 = .ok (.ifCond .ne 5, 3) := dk_154 0 5 (dk_at dksX4_preventers_0 5 rfl rfl)
theorem dX4_preventers_8 : decode cX4_preventers 8 = .ok (.iconst 0, 1) := dk_3 (dk_at dksX4_preventers_0 8 rfl rfl)
theorem dX4_preventers_9 : decode cX4_preventers 9 = .ok (.ireturn, 1) := dk_172 (dk_at dksX4_preventers_0 9 rfl rfl)
theorem dX4_preventers_10 : decode cX4_preventers 10 = .ok (.aload_n 0, 1) := dk_42 (dk_at dksX4_preventers_0 10 rfl rfl)
theorem dX4_preventers_11 : decode cX4_preventers 11 = .ok (.getfield 81, 3) := dk_180 0 81 (dk_at dksX4_preventers_0 11 rfl rfl)
theorem dX4_preventers_14 : decode cX4_preventers 14 = .ok (.aload_n 0, 1) := dk_42 (dk_at dksX4_preventers_0 14 rfl rfl)
theorem dX4_preventers_15 : decode cX4_preventers 15 = .ok (.getfield 57, 3) := dk_180 0 57 (dk_at dksX4_preventers_0 15 rfl rfl)
theorem dX4_preventers_18 : decode cX4_preventers 18 = .ok (.iload_n 1, 1) := dk_27 (dk_at dksX4_preventers_0 18 rfl rfl)
theorem dX4_preventers_19 : decode cX4_preventers 19 = .ok (.iaload, 1) := dk_46 (dk_at dksX4_preventers_0 19 rfl rfl)
theorem dX4_preventers_20 : decode cX4_preventers 20 = .ok (.iaload, 1) := dk_46 (dk_at dksX4_preventers_0 20 rfl rfl)
theorem dX4_preventers_21 : decode cX4_preventers 21 = .ok (.aload_n 0, 1) := dk_42 (dk_at dksX4_preventers_0 21 rfl rfl)
theorem dX4_preventers_22 : decode cX4_preventers 22 = .ok (.getfield 51, 3) := dk_180 0 51 (dk_at dksX4_preventers_1 0 rfl rfl)
theorem dX4_preventers_25 : decode cX4_preventers 25 = .ok (.iload_n 1, 1) := dk_27 (dk_at dksX4_preventers_1 3 rfl rfl)
theorem dX4_preventers_26 : decode cX4_preventers 26 = .ok (.iaload, 1) := dk_46 (dk_at dksX4_preventers_1 4 rfl rfl)
theorem dX4_preventers_27 : decode cX4_preventers 27 = .ok (.iconst 1, 1) := dk_4 (dk_at dksX4_preventers_1 5 rfl rfl)
theorem dX4_preventers_28 : decode cX4_preventers 28 = .ok (.if_icmp .ne 17, 3) := dk_160 0 17 (dk_at dksX4_preventers_1 6 rfl rfl)
theorem dX4_preventers_31 : decode cX4_preventers 31 = .ok (.aload_n 0, 1) := dk_42 (dk_at dksX4_preventers_1 9 rfl rfl)
theorem dX4_preventers_32 : decode cX4_preventers 32 = .ok (.getfield 78, 3) := dk_180 0 78 (dk_at dksX4_preventers_1 10 rfl rfl)
theorem dX4_preventers_35 : decode cX4_preventers 35 = .ok (.aload_n 0, 1) := dk_42 (dk_at dksX4_preventers_1 13 rfl rfl)
theorem dX4_preventers_36 : decode cX4_preventers 36 = .ok (.getfield 57, 3) := dk_180 0 57 (dk_at dksX4_preventers_1 14 rfl rfl)
theorem dX4_preventers_39 : decode cX4_preventers 39 = .ok (.iload_n 1, 1) := dk_27 (dk_at dksX4_preventers_1 17 rfl rfl)
theorem dX4_preventers_40 : decode cX4_preventers 40 = .ok (.iaload, 1) := dk_46 (dk_at dksX4_preventers_1 18 rfl rfl)
theorem dX4_preventers_41 : decode cX4_preventers 41 = .ok (.iaload, 1) := dk_46 (dk_at dksX4_preventers_1 19 rfl rfl)
theorem dX4_preventers_42 : decode cX4_preventers 42 = .ok (.goto 4, 3) := dk_167 0 4 (dk_at dksX4_preventers_1 20 rfl rfl)
theorem dX4_preventers_45 : decode cX4_preventers 45 = .ok (.iconst 0, 1) := dk_3 (dk_at dksX4_preventers_1 23 rfl rfl)
theorem dX4_preventers_46 : decode cX4_preventers 46 = .ok (.ior, 1) := dk_128 (dk_at dksX4_preventers_2 0 rfl rfl)
theorem dX4_preventers_47 : decode cX4_preventers 47 = .ok (.istore_n 2, 1) := dk_61 (dk_at dksX4_preventers_2 1 rfl rfl)
theorem dX4_preventers_48 : decode cX4_preventers 48 = .ok (.iload_n 2, 1) := dk_28 (dk_at dksX4_preventers_2 2 rfl rfl)
theorem dX4_preventers_49 : decode cX4_preventers 49 = .ok (.iconst 1, 1) := dk_4 (dk_at dksX4_preventers_2 3 rfl rfl)
theorem dX4_preventers_50 : decode cX4_preventers 50 = .ok (.aload_n 0, 1) := dk_42 (dk_at dksX4_preventers_2 4 rfl rfl)
theorem dX4_preventers_51 : decode cX4_preventers 51 = .ok (.getfield 54, 3) := dk_180 0 54 (dk_at dksX4_preventers_2 5 rfl rfl)
theorem dX4_preventers_54 : decode cX4_preventers 54 = .ok (.iload_n 1, 1) := dk_27 (dk_at dksX4_preventers_2 8 rfl rfl)
theorem dX4_preventers_55 : decode cX4_preventers 55 = .ok (.iaload, 1) := dk_46 (dk_at dksX4_preventers_2 9 rfl rfl)
theorem dX4_preventers_56 : decode cX4_preventers 56 = .ok (.ishl, 1) := dk_120 (dk_at dksX4_preventers_2 10 rfl rfl)
theorem dX4_preventers_57 : decode cX4_preventers 57 = .ok (.iconst (-1), 1) := dk_2 (dk_at dksX4_preventers_2 11 rfl rfl)
theorem dX4_preventers_58 : decode cX4_preventers 58 = .ok (.ixor, 1) := dk_130 (dk_at dksX4_preventers_2 12 rfl rfl)
theorem dX4_preventers_59 : decode cX4_preventers 59 = .ok (.iand, 1) := dk_126 (dk_at dksX4_preventers_2 13 rfl rfl)
theorem dX4_preventers_60 : decode cX4_preventers 60 = .ok (.ireturn, 1) := dk_172 (dk_at dksX4_preventers_2 14 rfl rfl)
abbrev cX4_executes : ByteArray := prog_12_method_60_code
def yX4_executes : MethodName := ⟨RX4, "executes", "(I)V"⟩
def dkwX4_executes_4 : List UInt8 := [79, 42, 27, 182, 0, 224, 154, 0, 13, 42, 42, 180, 0, 54, 27, 46, 182, 0, 252, 177]
abbrev dktX4_executes_4 : List UInt8 := dkwX4_executes_4 ++ []
def dkwX4_executes_3 : List UInt8 := [160, 0, 25, 42, 180, 0, 81, 42, 180, 0, 57, 27, 46, 92, 46, 4, 42, 180, 0, 54, 27, 46, 120, 128]
abbrev dktX4_executes_3 : List UInt8 := dkwX4_executes_3 ++ dktX4_executes_4
def dkwX4_executes_2 : List UInt8 := [180, 0, 57, 27, 46, 92, 46, 4, 42, 180, 0, 54, 27, 46, 120, 128, 79, 42, 180, 0, 51, 27, 46, 4]
abbrev dktX4_executes_2 : List UInt8 := dkwX4_executes_2 ++ dktX4_executes_3
def dkwX4_executes_1 : List UInt8 := [27, 46, 184, 0, 166, 182, 0, 249, 42, 180, 0, 51, 27, 46, 154, 0, 25, 42, 180, 0, 78, 42]
abbrev dktX4_executes_1 : List UInt8 := dkwX4_executes_1 ++ dktX4_executes_2
def dkwX4_executes_0 : List UInt8 := [42, 180, 0, 75, 27, 6, 79, 42, 42, 180, 0, 51, 27, 46, 42, 180, 0, 54, 27, 46, 42, 180, 0, 57]
abbrev dktX4_executes_0 : List UInt8 := dkwX4_executes_0 ++ dktX4_executes_1
theorem dksX4_executes_0 : cX4_executes.data.toList.drop 0 = dktX4_executes_0 := by decide +kernel
theorem dksX4_executes_1 : cX4_executes.data.toList.drop 24 = dktX4_executes_1 := dk_seg dksX4_executes_0 24 rfl rfl
theorem dksX4_executes_2 : cX4_executes.data.toList.drop 46 = dktX4_executes_2 := dk_seg dksX4_executes_1 22 rfl rfl
theorem dksX4_executes_3 : cX4_executes.data.toList.drop 70 = dktX4_executes_3 := dk_seg dksX4_executes_2 24 rfl rfl
theorem dksX4_executes_4 : cX4_executes.data.toList.drop 94 = dktX4_executes_4 := dk_seg dksX4_executes_3 24 rfl rfl
theorem dX4_executes_0 : decode cX4_executes 0 = .ok (.aload_n 0, 1) := dk_42 (dk_at dksX4_executes_0 0 rfl rfl)
theorem dX4_executes_1 : decode cX4_executes 1 = .ok (.getfield 75, 3) := dk_180 0 75 (dk_at dksX4_executes_0 1 rfl rfl)
theorem dX4_executes_4 : decode cX4_executes 4 = .ok (.iload_n 1, 1) := dk_27 (dk_at dksX4_executes_0 4 rfl rfl)
theorem dX4_executes_5 : decode cX4_executes 5 = .ok (.iconst 3, 1) := dk_6 (dk_at dksX4_executes_0 5 rfl rfl)
theorem dX4_executes_6 : decode cX4_executes 6 = .ok (.iastore, 1) := dk_79 (dk_at dksX4_executes_0 6 rfl rfl)
theorem dX4_executes_7 : decode cX4_executes 7 = .ok (.aload_n 0, 1) := dk_42 (dk_at dksX4_executes_0 7 rfl rfl)
theorem dX4_executes_8 : decode cX4_executes 8 = .ok (.aload_n 0, 1) := dk_42 (dk_at dksX4_executes_0 8 rfl rfl)
theorem dX4_executes_9 : decode cX4_executes 9 = .ok (.getfield 51, 3) := dk_180 0 51 (dk_at dksX4_executes_0 9 rfl rfl)
theorem dX4_executes_12 : decode cX4_executes 12 = .ok (.iload_n 1, 1) := dk_27 (dk_at dksX4_executes_0 12 rfl rfl)
theorem dX4_executes_13 : decode cX4_executes 13 = .ok (.iaload, 1) := dk_46 (dk_at dksX4_executes_0 13 rfl rfl)
theorem dX4_executes_14 : decode cX4_executes 14 = .ok (.aload_n 0, 1) := dk_42 (dk_at dksX4_executes_0 14 rfl rfl)
theorem dX4_executes_15 : decode cX4_executes 15 = .ok (.getfield 54, 3) := dk_180 0 54 (dk_at dksX4_executes_0 15 rfl rfl)
theorem dX4_executes_18 : decode cX4_executes 18 = .ok (.iload_n 1, 1) := dk_27 (dk_at dksX4_executes_0 18 rfl rfl)
theorem dX4_executes_19 : decode cX4_executes 19 = .ok (.iaload, 1) := dk_46 (dk_at dksX4_executes_0 19 rfl rfl)
theorem dX4_executes_20 : decode cX4_executes 20 = .ok (.aload_n 0, 1) := dk_42 (dk_at dksX4_executes_0 20 rfl rfl)
theorem dX4_executes_21 : decode cX4_executes 21 = .ok (.getfield 57, 3) := dk_180 0 57 (dk_at dksX4_executes_0 21 rfl rfl)
theorem dX4_executes_24 : decode cX4_executes 24 = .ok (.iload_n 1, 1) := dk_27 (dk_at dksX4_executes_1 0 rfl rfl)
theorem dX4_executes_25 : decode cX4_executes 25 = .ok (.iaload, 1) := dk_46 (dk_at dksX4_executes_1 1 rfl rfl)
theorem dX4_executes_26 : decode cX4_executes 26 = .ok (.invokestatic 166, 3) := dk_184 0 166 (dk_at dksX4_executes_1 2 rfl rfl)
theorem dX4_executes_29 : decode cX4_executes 29 = .ok (.invokevirtual 249, 3) := dk_182 0 249 (dk_at dksX4_executes_1 5 rfl rfl)
theorem dX4_executes_32 : decode cX4_executes 32 = .ok (.aload_n 0, 1) := dk_42 (dk_at dksX4_executes_1 8 rfl rfl)
theorem dX4_executes_33 : decode cX4_executes 33 = .ok (.getfield 51, 3) := dk_180 0 51 (dk_at dksX4_executes_1 9 rfl rfl)
theorem dX4_executes_36 : decode cX4_executes 36 = .ok (.iload_n 1, 1) := dk_27 (dk_at dksX4_executes_1 12 rfl rfl)
theorem dX4_executes_37 : decode cX4_executes 37 = .ok (.iaload, 1) := dk_46 (dk_at dksX4_executes_1 13 rfl rfl)
theorem dX4_executes_38 : decode cX4_executes 38 = .ok (.ifCond .ne 25, 3) := dk_154 0 25 (dk_at dksX4_executes_1 14 rfl rfl)
theorem dX4_executes_41 : decode cX4_executes 41 = .ok (.aload_n 0, 1) := dk_42 (dk_at dksX4_executes_1 17 rfl rfl)
theorem dX4_executes_42 : decode cX4_executes 42 = .ok (.getfield 78, 3) := dk_180 0 78 (dk_at dksX4_executes_1 18 rfl rfl)
theorem dX4_executes_45 : decode cX4_executes 45 = .ok (.aload_n 0, 1) := dk_42 (dk_at dksX4_executes_1 21 rfl rfl)
theorem dX4_executes_46 : decode cX4_executes 46 = .ok (.getfield 57, 3) := dk_180 0 57 (dk_at dksX4_executes_2 0 rfl rfl)
theorem dX4_executes_49 : decode cX4_executes 49 = .ok (.iload_n 1, 1) := dk_27 (dk_at dksX4_executes_2 3 rfl rfl)
theorem dX4_executes_50 : decode cX4_executes 50 = .ok (.iaload, 1) := dk_46 (dk_at dksX4_executes_2 4 rfl rfl)
theorem dX4_executes_51 : decode cX4_executes 51 = .ok (.dup2, 1) := dk_92 (dk_at dksX4_executes_2 5 rfl rfl)
theorem dX4_executes_52 : decode cX4_executes 52 = .ok (.iaload, 1) := dk_46 (dk_at dksX4_executes_2 6 rfl rfl)
theorem dX4_executes_53 : decode cX4_executes 53 = .ok (.iconst 1, 1) := dk_4 (dk_at dksX4_executes_2 7 rfl rfl)
theorem dX4_executes_54 : decode cX4_executes 54 = .ok (.aload_n 0, 1) := dk_42 (dk_at dksX4_executes_2 8 rfl rfl)
theorem dX4_executes_55 : decode cX4_executes 55 = .ok (.getfield 54, 3) := dk_180 0 54 (dk_at dksX4_executes_2 9 rfl rfl)
theorem dX4_executes_58 : decode cX4_executes 58 = .ok (.iload_n 1, 1) := dk_27 (dk_at dksX4_executes_2 12 rfl rfl)
theorem dX4_executes_59 : decode cX4_executes 59 = .ok (.iaload, 1) := dk_46 (dk_at dksX4_executes_2 13 rfl rfl)
theorem dX4_executes_60 : decode cX4_executes 60 = .ok (.ishl, 1) := dk_120 (dk_at dksX4_executes_2 14 rfl rfl)
theorem dX4_executes_61 : decode cX4_executes 61 = .ok (.ior, 1) := dk_128 (dk_at dksX4_executes_2 15 rfl rfl)
theorem dX4_executes_62 : decode cX4_executes 62 = .ok (.iastore, 1) := dk_79 (dk_at dksX4_executes_2 16 rfl rfl)
theorem dX4_executes_63 : decode cX4_executes 63 = .ok (.aload_n 0, 1) := dk_42 (dk_at dksX4_executes_2 17 rfl rfl)
theorem dX4_executes_64 : decode cX4_executes 64 = .ok (.getfield 51, 3) := dk_180 0 51 (dk_at dksX4_executes_2 18 rfl rfl)
theorem dX4_executes_67 : decode cX4_executes 67 = .ok (.iload_n 1, 1) := dk_27 (dk_at dksX4_executes_2 21 rfl rfl)
theorem dX4_executes_68 : decode cX4_executes 68 = .ok (.iaload, 1) := dk_46 (dk_at dksX4_executes_2 22 rfl rfl)
theorem dX4_executes_69 : decode cX4_executes 69 = .ok (.iconst 1, 1) := dk_4 (dk_at dksX4_executes_2 23 rfl rfl)
theorem dX4_executes_70 : decode cX4_executes 70 = .ok (.if_icmp .ne 25, 3) := dk_160 0 25 (dk_at dksX4_executes_3 0 rfl rfl)
theorem dX4_executes_73 : decode cX4_executes 73 = .ok (.aload_n 0, 1) := dk_42 (dk_at dksX4_executes_3 3 rfl rfl)
theorem dX4_executes_74 : decode cX4_executes 74 = .ok (.getfield 81, 3) := dk_180 0 81 (dk_at dksX4_executes_3 4 rfl rfl)
theorem dX4_executes_77 : decode cX4_executes 77 = .ok (.aload_n 0, 1) := dk_42 (dk_at dksX4_executes_3 7 rfl rfl)
theorem dX4_executes_78 : decode cX4_executes 78 = .ok (.getfield 57, 3) := dk_180 0 57 (dk_at dksX4_executes_3 8 rfl rfl)
theorem dX4_executes_81 : decode cX4_executes 81 = .ok (.iload_n 1, 1) := dk_27 (dk_at dksX4_executes_3 11 rfl rfl)
theorem dX4_executes_82 : decode cX4_executes 82 = .ok (.iaload, 1) := dk_46 (dk_at dksX4_executes_3 12 rfl rfl)
theorem dX4_executes_83 : decode cX4_executes 83 = .ok (.dup2, 1) := dk_92 (dk_at dksX4_executes_3 13 rfl rfl)
theorem dX4_executes_84 : decode cX4_executes 84 = .ok (.iaload, 1) := dk_46 (dk_at dksX4_executes_3 14 rfl rfl)
theorem dX4_executes_85 : decode cX4_executes 85 = .ok (.iconst 1, 1) := dk_4 (dk_at dksX4_executes_3 15 rfl rfl)
theorem dX4_executes_86 : decode cX4_executes 86 = .ok (.aload_n 0, 1) := dk_42 (dk_at dksX4_executes_3 16 rfl rfl)
theorem dX4_executes_87 : decode cX4_executes 87 = .ok (.getfield 54, 3) := dk_180 0 54 (dk_at dksX4_executes_3 17 rfl rfl)
theorem dX4_executes_90 : decode cX4_executes 90 = .ok (.iload_n 1, 1) := dk_27 (dk_at dksX4_executes_3 20 rfl rfl)
theorem dX4_executes_91 : decode cX4_executes 91 = .ok (.iaload, 1) := dk_46 (dk_at dksX4_executes_3 21 rfl rfl)
theorem dX4_executes_92 : decode cX4_executes 92 = .ok (.ishl, 1) := dk_120 (dk_at dksX4_executes_3 22 rfl rfl)
theorem dX4_executes_93 : decode cX4_executes 93 = .ok (.ior, 1) := dk_128 (dk_at dksX4_executes_3 23 rfl rfl)
theorem dX4_executes_94 : decode cX4_executes 94 = .ok (.iastore, 1) := dk_79 (dk_at dksX4_executes_4 0 rfl rfl)
theorem dX4_executes_95 : decode cX4_executes 95 = .ok (.aload_n 0, 1) := dk_42 (dk_at dksX4_executes_4 1 rfl rfl)
theorem dX4_executes_96 : decode cX4_executes 96 = .ok (.iload_n 1, 1) := dk_27 (dk_at dksX4_executes_4 2 rfl rfl)
theorem dX4_executes_97 : decode cX4_executes 97 = .ok (.invokevirtual 224, 3) := dk_182 0 224 (dk_at dksX4_executes_4 3 rfl rfl)
theorem dX4_executes_100 : decode cX4_executes 100 = .ok (.ifCond .ne 13, 3) := dk_154 0 13 (dk_at dksX4_executes_4 6 rfl rfl)
theorem dX4_executes_103 : decode cX4_executes 103 = .ok (.aload_n 0, 1) := dk_42 (dk_at dksX4_executes_4 9 rfl rfl)
theorem dX4_executes_104 : decode cX4_executes 104 = .ok (.aload_n 0, 1) := dk_42 (dk_at dksX4_executes_4 10 rfl rfl)
theorem dX4_executes_105 : decode cX4_executes 105 = .ok (.getfield 54, 3) := dk_180 0 54 (dk_at dksX4_executes_4 11 rfl rfl)
theorem dX4_executes_108 : decode cX4_executes 108 = .ok (.iload_n 1, 1) := dk_27 (dk_at dksX4_executes_4 14 rfl rfl)
theorem dX4_executes_109 : decode cX4_executes 109 = .ok (.iaload, 1) := dk_46 (dk_at dksX4_executes_4 15 rfl rfl)
theorem dX4_executes_110 : decode cX4_executes 110 = .ok (.invokevirtual 252, 3) := dk_182 0 252 (dk_at dksX4_executes_4 16 rfl rfl)
theorem dX4_executes_113 : decode cX4_executes 113 = .ok (.return_, 1) := dk_177 (dk_at dksX4_executes_4 19 rfl rfl)
abbrev cX4_puts : ByteArray := prog_12_method_59_code
def yX4_puts : MethodName := ⟨RX4, "puts", "(I)V"⟩
def dkwX4_puts_0 : List UInt8 := [42, 180, 0, 84, 42, 180, 0, 90, 27, 79, 42, 89, 180, 0, 90, 4, 96, 181, 0, 90, 177]
abbrev dktX4_puts_0 : List UInt8 := dkwX4_puts_0 ++ []
theorem dksX4_puts_0 : cX4_puts.data.toList.drop 0 = dktX4_puts_0 := by decide +kernel
theorem dX4_puts_0 : decode cX4_puts 0 = .ok (.aload_n 0, 1) := dk_42 (dk_at dksX4_puts_0 0 rfl rfl)
theorem dX4_puts_1 : decode cX4_puts 1 = .ok (.getfield 84, 3) := dk_180 0 84 (dk_at dksX4_puts_0 1 rfl rfl)
theorem dX4_puts_4 : decode cX4_puts 4 = .ok (.aload_n 0, 1) := dk_42 (dk_at dksX4_puts_0 4 rfl rfl)
theorem dX4_puts_5 : decode cX4_puts 5 = .ok (.getfield 90, 3) := dk_180 0 90 (dk_at dksX4_puts_0 5 rfl rfl)
theorem dX4_puts_8 : decode cX4_puts 8 = .ok (.iload_n 1, 1) := dk_27 (dk_at dksX4_puts_0 8 rfl rfl)
theorem dX4_puts_9 : decode cX4_puts 9 = .ok (.iastore, 1) := dk_79 (dk_at dksX4_puts_0 9 rfl rfl)
theorem dX4_puts_10 : decode cX4_puts 10 = .ok (.aload_n 0, 1) := dk_42 (dk_at dksX4_puts_0 10 rfl rfl)
theorem dX4_puts_11 : decode cX4_puts 11 = .ok (.dup, 1) := dk_89 (dk_at dksX4_puts_0 11 rfl rfl)
theorem dX4_puts_12 : decode cX4_puts 12 = .ok (.getfield 90, 3) := dk_180 0 90 (dk_at dksX4_puts_0 12 rfl rfl)
theorem dX4_puts_15 : decode cX4_puts 15 = .ok (.iconst 1, 1) := dk_4 (dk_at dksX4_puts_0 15 rfl rfl)
theorem dX4_puts_16 : decode cX4_puts 16 = .ok (.iadd, 1) := dk_96 (dk_at dksX4_puts_0 16 rfl rfl)
theorem dX4_puts_17 : decode cX4_puts 17 = .ok (.putfield 90, 3) := dk_181 0 90 (dk_at dksX4_puts_0 17 rfl rfl)
theorem dX4_puts_20 : decode cX4_puts 20 = .ok (.return_, 1) := dk_177 (dk_at dksX4_puts_0 20 rfl rfl)
abbrev cX4_ends : ByteArray := prog_12_method_58_code
def yX4_ends : MethodName := ⟨RX4, "ends", "(I)V"⟩
def dkwX4_ends_1 : List UInt8 := [180, 0, 81, 28, 92, 46, 4, 27, 120, 2, 130, 126, 79, 132, 2, 1, 167, 255, 220, 177]
abbrev dktX4_ends_1 : List UInt8 := dkwX4_ends_1 ++ []
def dkwX4_ends_0 : List UInt8 := [3, 61, 28, 7, 162, 0, 37, 42, 180, 0, 78, 28, 92, 46, 4, 27, 120, 2, 130, 126, 79, 42]
abbrev dktX4_ends_0 : List UInt8 := dkwX4_ends_0 ++ dktX4_ends_1
theorem dksX4_ends_0 : cX4_ends.data.toList.drop 0 = dktX4_ends_0 := by decide +kernel
theorem dksX4_ends_1 : cX4_ends.data.toList.drop 22 = dktX4_ends_1 := dk_seg dksX4_ends_0 22 rfl rfl
theorem dX4_ends_0 : decode cX4_ends 0 = .ok (.iconst 0, 1) := dk_3 (dk_at dksX4_ends_0 0 rfl rfl)
theorem dX4_ends_1 : decode cX4_ends 1 = .ok (.istore_n 2, 1) := dk_61 (dk_at dksX4_ends_0 1 rfl rfl)
theorem dX4_ends_2 : decode cX4_ends 2 = .ok (.iload_n 2, 1) := dk_28 (dk_at dksX4_ends_0 2 rfl rfl)
theorem dX4_ends_3 : decode cX4_ends 3 = .ok (.iconst 4, 1) := dk_7 (dk_at dksX4_ends_0 3 rfl rfl)
theorem dX4_ends_4 : decode cX4_ends 4 = .ok (.if_icmp .ge 37, 3) := dk_162 0 37 (dk_at dksX4_ends_0 4 rfl rfl)
theorem dX4_ends_7 : decode cX4_ends 7 = .ok (.aload_n 0, 1) := dk_42 (dk_at dksX4_ends_0 7 rfl rfl)
theorem dX4_ends_8 : decode cX4_ends 8 = .ok (.getfield 78, 3) := dk_180 0 78 (dk_at dksX4_ends_0 8 rfl rfl)
theorem dX4_ends_11 : decode cX4_ends 11 = .ok (.iload_n 2, 1) := dk_28 (dk_at dksX4_ends_0 11 rfl rfl)
theorem dX4_ends_12 : decode cX4_ends 12 = .ok (.dup2, 1) := dk_92 (dk_at dksX4_ends_0 12 rfl rfl)
theorem dX4_ends_13 : decode cX4_ends 13 = .ok (.iaload, 1) := dk_46 (dk_at dksX4_ends_0 13 rfl rfl)
theorem dX4_ends_14 : decode cX4_ends 14 = .ok (.iconst 1, 1) := dk_4 (dk_at dksX4_ends_0 14 rfl rfl)
theorem dX4_ends_15 : decode cX4_ends 15 = .ok (.iload_n 1, 1) := dk_27 (dk_at dksX4_ends_0 15 rfl rfl)
theorem dX4_ends_16 : decode cX4_ends 16 = .ok (.ishl, 1) := dk_120 (dk_at dksX4_ends_0 16 rfl rfl)
theorem dX4_ends_17 : decode cX4_ends 17 = .ok (.iconst (-1), 1) := dk_2 (dk_at dksX4_ends_0 17 rfl rfl)
theorem dX4_ends_18 : decode cX4_ends 18 = .ok (.ixor, 1) := dk_130 (dk_at dksX4_ends_0 18 rfl rfl)
theorem dX4_ends_19 : decode cX4_ends 19 = .ok (.iand, 1) := dk_126 (dk_at dksX4_ends_0 19 rfl rfl)
theorem dX4_ends_20 : decode cX4_ends 20 = .ok (.iastore, 1) := dk_79 (dk_at dksX4_ends_0 20 rfl rfl)
theorem dX4_ends_21 : decode cX4_ends 21 = .ok (.aload_n 0, 1) := dk_42 (dk_at dksX4_ends_0 21 rfl rfl)
theorem dX4_ends_22 : decode cX4_ends 22 = .ok (.getfield 81, 3) := dk_180 0 81 (dk_at dksX4_ends_1 0 rfl rfl)
theorem dX4_ends_25 : decode cX4_ends 25 = .ok (.iload_n 2, 1) := dk_28 (dk_at dksX4_ends_1 3 rfl rfl)
theorem dX4_ends_26 : decode cX4_ends 26 = .ok (.dup2, 1) := dk_92 (dk_at dksX4_ends_1 4 rfl rfl)
theorem dX4_ends_27 : decode cX4_ends 27 = .ok (.iaload, 1) := dk_46 (dk_at dksX4_ends_1 5 rfl rfl)
theorem dX4_ends_28 : decode cX4_ends 28 = .ok (.iconst 1, 1) := dk_4 (dk_at dksX4_ends_1 6 rfl rfl)
theorem dX4_ends_29 : decode cX4_ends 29 = .ok (.iload_n 1, 1) := dk_27 (dk_at dksX4_ends_1 7 rfl rfl)
theorem dX4_ends_30 : decode cX4_ends 30 = .ok (.ishl, 1) := dk_120 (dk_at dksX4_ends_1 8 rfl rfl)
theorem dX4_ends_31 : decode cX4_ends 31 = .ok (.iconst (-1), 1) := dk_2 (dk_at dksX4_ends_1 9 rfl rfl)
theorem dX4_ends_32 : decode cX4_ends 32 = .ok (.ixor, 1) := dk_130 (dk_at dksX4_ends_1 10 rfl rfl)
theorem dX4_ends_33 : decode cX4_ends 33 = .ok (.iand, 1) := dk_126 (dk_at dksX4_ends_1 11 rfl rfl)
theorem dX4_ends_34 : decode cX4_ends 34 = .ok (.iastore, 1) := dk_79 (dk_at dksX4_ends_1 12 rfl rfl)
theorem dX4_ends_35 : decode cX4_ends 35 = .ok (.iinc 2 1, 3) := dk_132 2 1 (dk_at dksX4_ends_1 13 rfl rfl)
theorem dX4_ends_38 : decode cX4_ends 38 = .ok (.goto (-36), 3) := dk_167 255 220 (dk_at dksX4_ends_1 16 rfl rfl)
theorem dX4_ends_41 : decode cX4_ends 41 = .ok (.return_, 1) := dk_177 (dk_at dksX4_ends_1 19 rfl rfl)
abbrev cX4_tries : ByteArray := prog_12_method_62_code
def yX4_tries : MethodName := ⟨RX4, "tries", "()V"⟩
def dkwX4_tries_0 : List UInt8 := [42, 182, 1, 5, 60, 27, 155, 0, 16, 42, 27, 182, 1, 8, 42, 182, 1, 5, 60, 167, 255, 242, 177]
abbrev dktX4_tries_0 : List UInt8 := dkwX4_tries_0 ++ []
theorem dksX4_tries_0 : cX4_tries.data.toList.drop 0 = dktX4_tries_0 := by decide +kernel
theorem dX4_tries_0 : decode cX4_tries 0 = .ok (.aload_n 0, 1) := dk_42 (dk_at dksX4_tries_0 0 rfl rfl)
theorem dX4_tries_1 : decode cX4_tries 1 = .ok (.invokevirtual 261, 3) := dk_182 1 5 (dk_at dksX4_tries_0 1 rfl rfl)
theorem dX4_tries_4 : decode cX4_tries 4 = .ok (.istore_n 1, 1) := dk_60 (dk_at dksX4_tries_0 4 rfl rfl)
theorem dX4_tries_5 : decode cX4_tries 5 = .ok (.iload_n 1, 1) := dk_27 (dk_at dksX4_tries_0 5 rfl rfl)
theorem dX4_tries_6 : decode cX4_tries 6 = .ok (.ifCond .lt 16, 3) := dk_155 0 16 (dk_at dksX4_tries_0 6 rfl rfl)
theorem dX4_tries_9 : decode cX4_tries 9 = .ok (.aload_n 0, 1) := dk_42 (dk_at dksX4_tries_0 9 rfl rfl)
theorem dX4_tries_10 : decode cX4_tries 10 = .ok (.iload_n 1, 1) := dk_27 (dk_at dksX4_tries_0 10 rfl rfl)
theorem dX4_tries_11 : decode cX4_tries 11 = .ok (.invokevirtual 264, 3) := dk_182 1 8 (dk_at dksX4_tries_0 11 rfl rfl)
theorem dX4_tries_14 : decode cX4_tries 14 = .ok (.aload_n 0, 1) := dk_42 (dk_at dksX4_tries_0 14 rfl rfl)
theorem dX4_tries_15 : decode cX4_tries 15 = .ok (.invokevirtual 261, 3) := dk_182 1 5 (dk_at dksX4_tries_0 15 rfl rfl)
theorem dX4_tries_18 : decode cX4_tries 18 = .ok (.istore_n 1, 1) := dk_60 (dk_at dksX4_tries_0 18 rfl rfl)
theorem dX4_tries_19 : decode cX4_tries 19 = .ok (.goto (-14), 3) := dk_167 255 242 (dk_at dksX4_tries_0 19 rfl rfl)
theorem dX4_tries_22 : decode cX4_tries 22 = .ok (.return_, 1) := dk_177 (dk_at dksX4_tries_0 22 rfl rfl)
abbrev cX4_nextPossible : ByteArray := prog_12_method_61_code
def yX4_nextPossible : MethodName := ⟨RX4, "nextPossible", "()I"⟩
def dkwX4_nextPossible_1 : List UInt8 := [154, 0, 9, 42, 27, 182, 0, 255, 172, 132, 1, 1, 167, 255, 222, 2, 172]
abbrev dktX4_nextPossible_1 : List UInt8 := dkwX4_nextPossible_1 ++ []
def dkwX4_nextPossible_0 : List UInt8 := [4, 60, 27, 8, 163, 0, 35, 42, 27, 182, 0, 255, 155, 0, 21, 42, 42, 27, 182, 0, 255, 182, 1, 2]
abbrev dktX4_nextPossible_0 : List UInt8 := dkwX4_nextPossible_0 ++ dktX4_nextPossible_1
theorem dksX4_nextPossible_0 : cX4_nextPossible.data.toList.drop 0 = dktX4_nextPossible_0 := by decide +kernel
theorem dksX4_nextPossible_1 : cX4_nextPossible.data.toList.drop 24 = dktX4_nextPossible_1 := dk_seg dksX4_nextPossible_0 24 rfl rfl
theorem dX4_nextPossible_0 : decode cX4_nextPossible 0 = .ok (.iconst 1, 1) := dk_4 (dk_at dksX4_nextPossible_0 0 rfl rfl)
theorem dX4_nextPossible_1 : decode cX4_nextPossible 1 = .ok (.istore_n 1, 1) := dk_60 (dk_at dksX4_nextPossible_0 1 rfl rfl)
theorem dX4_nextPossible_2 : decode cX4_nextPossible 2 = .ok (.iload_n 1, 1) := dk_27 (dk_at dksX4_nextPossible_0 2 rfl rfl)
theorem dX4_nextPossible_3 : decode cX4_nextPossible 3 = .ok (.iconst 5, 1) := dk_8 (dk_at dksX4_nextPossible_0 3 rfl rfl)
theorem dX4_nextPossible_4 : decode cX4_nextPossible 4 = .ok (.if_icmp .gt 35, 3) := dk_163 0 35 (dk_at dksX4_nextPossible_0 4 rfl rfl)
theorem dX4_nextPossible_7 : decode cX4_nextPossible 7 = .ok (.aload_n 0, 1) := dk_42 (dk_at dksX4_nextPossible_0 7 rfl rfl)
theorem dX4_nextPossible_8 : decode cX4_nextPossible 8 = .ok (.iload_n 1, 1) := dk_27 (dk_at dksX4_nextPossible_0 8 rfl rfl)
theorem dX4_nextPossible_9 : decode cX4_nextPossible 9 = .ok (.invokevirtual 255, 3) := dk_182 0 255 (dk_at dksX4_nextPossible_0 9 rfl rfl)
theorem dX4_nextPossible_12 : decode cX4_nextPossible 12 = .ok (.ifCond .lt 21, 3) := dk_155 0 21 (dk_at dksX4_nextPossible_0 12 rfl rfl)
theorem dX4_nextPossible_15 : decode cX4_nextPossible 15 = .ok (.aload_n 0, 1) := dk_42 (dk_at dksX4_nextPossible_0 15 rfl rfl)
theorem dX4_nextPossible_16 : decode cX4_nextPossible 16 = .ok (.aload_n 0, 1) := dk_42 (dk_at dksX4_nextPossible_0 16 rfl rfl)
theorem dX4_nextPossible_17 : decode cX4_nextPossible 17 = .ok (.iload_n 1, 1) := dk_27 (dk_at dksX4_nextPossible_0 17 rfl rfl)
theorem dX4_nextPossible_18 : decode cX4_nextPossible 18 = .ok (.invokevirtual 255, 3) := dk_182 0 255 (dk_at dksX4_nextPossible_0 18 rfl rfl)
theorem dX4_nextPossible_21 : decode cX4_nextPossible 21 = .ok (.invokevirtual 258, 3) := dk_182 1 2 (dk_at dksX4_nextPossible_0 21 rfl rfl)
theorem dX4_nextPossible_24 : decode cX4_nextPossible 24 = .ok (.ifCond .ne 9, 3) := dk_154 0 9 (dk_at dksX4_nextPossible_1 0 rfl rfl)
theorem dX4_nextPossible_27 : decode cX4_nextPossible 27 = .ok (.aload_n 0, 1) := dk_42 (dk_at dksX4_nextPossible_1 3 rfl rfl)
theorem dX4_nextPossible_28 : decode cX4_nextPossible 28 = .ok (.iload_n 1, 1) := dk_27 (dk_at dksX4_nextPossible_1 4 rfl rfl)
theorem dX4_nextPossible_29 : decode cX4_nextPossible 29 = .ok (.invokevirtual 255, 3) := dk_182 0 255 (dk_at dksX4_nextPossible_1 5 rfl rfl)
theorem dX4_nextPossible_32 : decode cX4_nextPossible 32 = .ok (.ireturn, 1) := dk_172 (dk_at dksX4_nextPossible_1 8 rfl rfl)
theorem dX4_nextPossible_33 : decode cX4_nextPossible 33 = .ok (.iinc 1 1, 3) := dk_132 1 1 (dk_at dksX4_nextPossible_1 9 rfl rfl)
theorem dX4_nextPossible_36 : decode cX4_nextPossible 36 = .ok (.goto (-34), 3) := dk_167 255 222 (dk_at dksX4_nextPossible_1 12 rfl rfl)
theorem dX4_nextPossible_39 : decode cX4_nextPossible 39 = .ok (.iconst (-1), 1) := dk_2 (dk_at dksX4_nextPossible_1 15 rfl rfl)
theorem dX4_nextPossible_40 : decode cX4_nextPossible 40 = .ok (.ireturn, 1) := dk_172 (dk_at dksX4_nextPossible_1 16 rfl rfl)
abbrev cX4_greatestInRing : ByteArray := prog_12_method_63_code
def yX4_greatestInRing : MethodName := ⟨RX4, "greatestInRing", "()I"⟩
def dkwX4_greatestInRing_5 : List UInt8 := [160, 0, 7, 28, 167, 0, 4, 27, 60, 132, 2, 1, 167, 255, 228, 27, 172]
abbrev dktX4_greatestInRing_5 : List UInt8 := dkwX4_greatestInRing_5 ++ []
def dkwX4_greatestInRing_4 : List UInt8 := [167, 255, 202, 3, 60, 4, 61, 28, 8, 163, 0, 29, 42, 180, 0, 87, 28, 46, 28, 122, 4, 126, 4]
abbrev dktX4_greatestInRing_4 : List UInt8 := dkwX4_greatestInRing_4 ++ dktX4_greatestInRing_5
def dkwX4_greatestInRing_3 : List UInt8 := [160, 0, 12, 42, 180, 0, 87, 27, 46, 167, 0, 4, 3, 128, 79, 132, 2, 1, 167, 255, 215, 132, 1, 1]
abbrev dktX4_greatestInRing_3 : List UInt8 := dkwX4_greatestInRing_3 ++ dktX4_greatestInRing_4
def dkwX4_greatestInRing_2 : List UInt8 := [61, 28, 8, 163, 0, 42, 42, 180, 0, 87, 28, 92, 46, 42, 180, 0, 87, 28, 46, 27, 122, 4, 126, 4]
abbrev dktX4_greatestInRing_2 : List UInt8 := dkwX4_greatestInRing_2 ++ dktX4_greatestInRing_3
def dkwX4_greatestInRing_1 : List UInt8 := [42, 42, 27, 182, 0, 255, 182, 1, 2, 79, 132, 1, 1, 167, 255, 221, 4, 60, 27, 8, 163, 0, 55, 4]
abbrev dktX4_greatestInRing_1 : List UInt8 := dkwX4_greatestInRing_1 ++ dktX4_greatestInRing_2
def dkwX4_greatestInRing_0 : List UInt8 := [4, 60, 27, 8, 163, 0, 36, 42, 180, 0, 87, 27, 42, 27, 182, 0, 255, 156, 0, 7, 3, 167, 0, 12]
abbrev dktX4_greatestInRing_0 : List UInt8 := dkwX4_greatestInRing_0 ++ dktX4_greatestInRing_1
theorem dksX4_greatestInRing_0 : cX4_greatestInRing.data.toList.drop 0 = dktX4_greatestInRing_0 := by decide +kernel
theorem dksX4_greatestInRing_1 : cX4_greatestInRing.data.toList.drop 24 = dktX4_greatestInRing_1 := dk_seg dksX4_greatestInRing_0 24 rfl rfl
theorem dksX4_greatestInRing_2 : cX4_greatestInRing.data.toList.drop 48 = dktX4_greatestInRing_2 := dk_seg dksX4_greatestInRing_1 24 rfl rfl
theorem dksX4_greatestInRing_3 : cX4_greatestInRing.data.toList.drop 72 = dktX4_greatestInRing_3 := dk_seg dksX4_greatestInRing_2 24 rfl rfl
theorem dksX4_greatestInRing_4 : cX4_greatestInRing.data.toList.drop 96 = dktX4_greatestInRing_4 := dk_seg dksX4_greatestInRing_3 24 rfl rfl
theorem dksX4_greatestInRing_5 : cX4_greatestInRing.data.toList.drop 119 = dktX4_greatestInRing_5 := dk_seg dksX4_greatestInRing_4 23 rfl rfl
theorem dX4_greatestInRing_0 : decode cX4_greatestInRing 0 = .ok (.iconst 1, 1) := dk_4 (dk_at dksX4_greatestInRing_0 0 rfl rfl)
theorem dX4_greatestInRing_1 : decode cX4_greatestInRing 1 = .ok (.istore_n 1, 1) := dk_60 (dk_at dksX4_greatestInRing_0 1 rfl rfl)
theorem dX4_greatestInRing_2 : decode cX4_greatestInRing 2 = .ok (.iload_n 1, 1) := dk_27 (dk_at dksX4_greatestInRing_0 2 rfl rfl)
theorem dX4_greatestInRing_3 : decode cX4_greatestInRing 3 = .ok (.iconst 5, 1) := dk_8 (dk_at dksX4_greatestInRing_0 3 rfl rfl)
theorem dX4_greatestInRing_4 : decode cX4_greatestInRing 4 = .ok (.if_icmp .gt 36, 3) := dk_163 0 36 (dk_at dksX4_greatestInRing_0 4 rfl rfl)
theorem dX4_greatestInRing_7 : decode cX4_greatestInRing 7 = .ok (.aload_n 0, 1) := dk_42 (dk_at dksX4_greatestInRing_0 7 rfl rfl)
theorem dX4_greatestInRing_8 : decode cX4_greatestInRing 8 = .ok (.getfield 87, 3) := dk_180 0 87 (dk_at dksX4_greatestInRing_0 8 rfl rfl)
theorem dX4_greatestInRing_11 : decode cX4_greatestInRing 11 = .ok (.iload_n 1, 1) := dk_27 (dk_at dksX4_greatestInRing_0 11 rfl rfl)
theorem dX4_greatestInRing_12 : decode cX4_greatestInRing 12 = .ok (.aload_n 0, 1) := dk_42 (dk_at dksX4_greatestInRing_0 12 rfl rfl)
theorem dX4_greatestInRing_13 : decode cX4_greatestInRing 13 = .ok (.iload_n 1, 1) := dk_27 (dk_at dksX4_greatestInRing_0 13 rfl rfl)
theorem dX4_greatestInRing_14 : decode cX4_greatestInRing 14 = .ok (.invokevirtual 255, 3) := dk_182 0 255 (dk_at dksX4_greatestInRing_0 14 rfl rfl)
theorem dX4_greatestInRing_17 : decode cX4_greatestInRing 17 = .ok (.ifCond .ge 7, 3) := dk_156 0 7 (dk_at dksX4_greatestInRing_0 17 rfl rfl)
theorem dX4_greatestInRing_20 : decode cX4_greatestInRing 20 = .ok (.iconst 0, 1) := dk_3 (dk_at dksX4_greatestInRing_0 20 rfl rfl)
theorem dX4_greatestInRing_21 : decode cX4_greatestInRing 21 = .ok (.goto 12, 3) := dk_167 0 12 (dk_at dksX4_greatestInRing_0 21 rfl rfl)
theorem dX4_greatestInRing_24 : decode cX4_greatestInRing 24 = .ok (.aload_n 0, 1) := dk_42 (dk_at dksX4_greatestInRing_1 0 rfl rfl)
theorem dX4_greatestInRing_25 : decode cX4_greatestInRing 25 = .ok (.aload_n 0, 1) := dk_42 (dk_at dksX4_greatestInRing_1 1 rfl rfl)
theorem dX4_greatestInRing_26 : decode cX4_greatestInRing 26 = .ok (.iload_n 1, 1) := dk_27 (dk_at dksX4_greatestInRing_1 2 rfl rfl)
theorem dX4_greatestInRing_27 : decode cX4_greatestInRing 27 = .ok (.invokevirtual 255, 3) := dk_182 0 255 (dk_at dksX4_greatestInRing_1 3 rfl rfl)
theorem dX4_greatestInRing_30 : decode cX4_greatestInRing 30 = .ok (.invokevirtual 258, 3) := dk_182 1 2 (dk_at dksX4_greatestInRing_1 6 rfl rfl)
theorem dX4_greatestInRing_33 : decode cX4_greatestInRing 33 = .ok (.iastore, 1) := dk_79 (dk_at dksX4_greatestInRing_1 9 rfl rfl)
theorem dX4_greatestInRing_34 : decode cX4_greatestInRing 34 = .ok (.iinc 1 1, 3) := dk_132 1 1 (dk_at dksX4_greatestInRing_1 10 rfl rfl)
theorem dX4_greatestInRing_37 : decode cX4_greatestInRing 37 = .ok (.goto (-35), 3) := dk_167 255 221 (dk_at dksX4_greatestInRing_1 13 rfl rfl)
theorem dX4_greatestInRing_40 : decode cX4_greatestInRing 40 = .ok (.iconst 1, 1) := dk_4 (dk_at dksX4_greatestInRing_1 16 rfl rfl)
theorem dX4_greatestInRing_41 : decode cX4_greatestInRing 41 = .ok (.istore_n 1, 1) := dk_60 (dk_at dksX4_greatestInRing_1 17 rfl rfl)
theorem dX4_greatestInRing_42 : decode cX4_greatestInRing 42 = .ok (.iload_n 1, 1) := dk_27 (dk_at dksX4_greatestInRing_1 18 rfl rfl)
theorem dX4_greatestInRing_43 : decode cX4_greatestInRing 43 = .ok (.iconst 5, 1) := dk_8 (dk_at dksX4_greatestInRing_1 19 rfl rfl)
theorem dX4_greatestInRing_44 : decode cX4_greatestInRing 44 = .ok (.if_icmp .gt 55, 3) := dk_163 0 55 (dk_at dksX4_greatestInRing_1 20 rfl rfl)
theorem dX4_greatestInRing_47 : decode cX4_greatestInRing 47 = .ok (.iconst 1, 1) := dk_4 (dk_at dksX4_greatestInRing_1 23 rfl rfl)
theorem dX4_greatestInRing_48 : decode cX4_greatestInRing 48 = .ok (.istore_n 2, 1) := dk_61 (dk_at dksX4_greatestInRing_2 0 rfl rfl)
theorem dX4_greatestInRing_49 : decode cX4_greatestInRing 49 = .ok (.iload_n 2, 1) := dk_28 (dk_at dksX4_greatestInRing_2 1 rfl rfl)
theorem dX4_greatestInRing_50 : decode cX4_greatestInRing 50 = .ok (.iconst 5, 1) := dk_8 (dk_at dksX4_greatestInRing_2 2 rfl rfl)
theorem dX4_greatestInRing_51 : decode cX4_greatestInRing 51 = .ok (.if_icmp .gt 42, 3) := dk_163 0 42 (dk_at dksX4_greatestInRing_2 3 rfl rfl)
theorem dX4_greatestInRing_54 : decode cX4_greatestInRing 54 = .ok (.aload_n 0, 1) := dk_42 (dk_at dksX4_greatestInRing_2 6 rfl rfl)
theorem dX4_greatestInRing_55 : decode cX4_greatestInRing 55 = .ok (.getfield 87, 3) := dk_180 0 87 (dk_at dksX4_greatestInRing_2 7 rfl rfl)
theorem dX4_greatestInRing_58 : decode cX4_greatestInRing 58 = .ok (.iload_n 2, 1) := dk_28 (dk_at dksX4_greatestInRing_2 10 rfl rfl)
theorem dX4_greatestInRing_59 : decode cX4_greatestInRing 59 = .ok (.dup2, 1) := dk_92 (dk_at dksX4_greatestInRing_2 11 rfl rfl)
theorem dX4_greatestInRing_60 : decode cX4_greatestInRing 60 = .ok (.iaload, 1) := dk_46 (dk_at dksX4_greatestInRing_2 12 rfl rfl)
theorem dX4_greatestInRing_61 : decode cX4_greatestInRing 61 = .ok (.aload_n 0, 1) := dk_42 (dk_at dksX4_greatestInRing_2 13 rfl rfl)
theorem dX4_greatestInRing_62 : decode cX4_greatestInRing 62 = .ok (.getfield 87, 3) := dk_180 0 87 (dk_at dksX4_greatestInRing_2 14 rfl rfl)
theorem dX4_greatestInRing_65 : decode cX4_greatestInRing 65 = .ok (.iload_n 2, 1) := dk_28 (dk_at dksX4_greatestInRing_2 17 rfl rfl)
theorem dX4_greatestInRing_66 : decode cX4_greatestInRing 66 = .ok (.iaload, 1) := dk_46 (dk_at dksX4_greatestInRing_2 18 rfl rfl)
theorem dX4_greatestInRing_67 : decode cX4_greatestInRing 67 = .ok (.iload_n 1, 1) := dk_27 (dk_at dksX4_greatestInRing_2 19 rfl rfl)
theorem dX4_greatestInRing_68 : decode cX4_greatestInRing 68 = .ok (.ishr, 1) := dk_122 (dk_at dksX4_greatestInRing_2 20 rfl rfl)
theorem dX4_greatestInRing_69 : decode cX4_greatestInRing 69 = .ok (.iconst 1, 1) := dk_4 (dk_at dksX4_greatestInRing_2 21 rfl rfl)
theorem dX4_greatestInRing_70 : decode cX4_greatestInRing 70 = .ok (.iand, 1) := dk_126 (dk_at dksX4_greatestInRing_2 22 rfl rfl)
theorem dX4_greatestInRing_71 : decode cX4_greatestInRing 71 = .ok (.iconst 1, 1) := dk_4 (dk_at dksX4_greatestInRing_2 23 rfl rfl)
theorem dX4_greatestInRing_72 : decode cX4_greatestInRing 72 = .ok (.if_icmp .ne 12, 3) := dk_160 0 12 (dk_at dksX4_greatestInRing_3 0 rfl rfl)
theorem dX4_greatestInRing_75 : decode cX4_greatestInRing 75 = .ok (.aload_n 0, 1) := dk_42 (dk_at dksX4_greatestInRing_3 3 rfl rfl)
theorem dX4_greatestInRing_76 : decode cX4_greatestInRing 76 = .ok (.getfield 87, 3) := dk_180 0 87 (dk_at dksX4_greatestInRing_3 4 rfl rfl)
theorem dX4_greatestInRing_79 : decode cX4_greatestInRing 79 = .ok (.iload_n 1, 1) := dk_27 (dk_at dksX4_greatestInRing_3 7 rfl rfl)
theorem dX4_greatestInRing_80 : decode cX4_greatestInRing 80 = .ok (.iaload, 1) := dk_46 (dk_at dksX4_greatestInRing_3 8 rfl rfl)
theorem dX4_greatestInRing_81 : decode cX4_greatestInRing 81 = .ok (.goto 4, 3) := dk_167 0 4 (dk_at dksX4_greatestInRing_3 9 rfl rfl)
theorem dX4_greatestInRing_84 : decode cX4_greatestInRing 84 = .ok (.iconst 0, 1) := dk_3 (dk_at dksX4_greatestInRing_3 12 rfl rfl)
theorem dX4_greatestInRing_85 : decode cX4_greatestInRing 85 = .ok (.ior, 1) := dk_128 (dk_at dksX4_greatestInRing_3 13 rfl rfl)
theorem dX4_greatestInRing_86 : decode cX4_greatestInRing 86 = .ok (.iastore, 1) := dk_79 (dk_at dksX4_greatestInRing_3 14 rfl rfl)
theorem dX4_greatestInRing_87 : decode cX4_greatestInRing 87 = .ok (.iinc 2 1, 3) := dk_132 2 1 (dk_at dksX4_greatestInRing_3 15 rfl rfl)
theorem dX4_greatestInRing_90 : decode cX4_greatestInRing 90 = .ok (.goto (-41), 3) := dk_167 255 215 (dk_at dksX4_greatestInRing_3 18 rfl rfl)
theorem dX4_greatestInRing_93 : decode cX4_greatestInRing 93 = .ok (.iinc 1 1, 3) := dk_132 1 1 (dk_at dksX4_greatestInRing_3 21 rfl rfl)
theorem dX4_greatestInRing_96 : decode cX4_greatestInRing 96 = .ok (.goto (-54), 3) := dk_167 255 202 (dk_at dksX4_greatestInRing_4 0 rfl rfl)
theorem dX4_greatestInRing_99 : decode cX4_greatestInRing 99 = .ok (.iconst 0, 1) := dk_3 (dk_at dksX4_greatestInRing_4 3 rfl rfl)
theorem dX4_greatestInRing_100 : decode cX4_greatestInRing 100 = .ok (.istore_n 1, 1) := dk_60 (dk_at dksX4_greatestInRing_4 4 rfl rfl)
theorem dX4_greatestInRing_101 : decode cX4_greatestInRing 101 = .ok (.iconst 1, 1) := dk_4 (dk_at dksX4_greatestInRing_4 5 rfl rfl)
theorem dX4_greatestInRing_102 : decode cX4_greatestInRing 102 = .ok (.istore_n 2, 1) := dk_61 (dk_at dksX4_greatestInRing_4 6 rfl rfl)
theorem dX4_greatestInRing_103 : decode cX4_greatestInRing 103 = .ok (.iload_n 2, 1) := dk_28 (dk_at dksX4_greatestInRing_4 7 rfl rfl)
theorem dX4_greatestInRing_104 : decode cX4_greatestInRing 104 = .ok (.iconst 5, 1) := dk_8 (dk_at dksX4_greatestInRing_4 8 rfl rfl)
theorem dX4_greatestInRing_105 : decode cX4_greatestInRing 105 = .ok (.if_icmp .gt 29, 3) := dk_163 0 29 (dk_at dksX4_greatestInRing_4 9 rfl rfl)
theorem dX4_greatestInRing_108 : decode cX4_greatestInRing 108 = .ok (.aload_n 0, 1) := dk_42 (dk_at dksX4_greatestInRing_4 12 rfl rfl)
theorem dX4_greatestInRing_109 : decode cX4_greatestInRing 109 = .ok (.getfield 87, 3) := dk_180 0 87 (dk_at dksX4_greatestInRing_4 13 rfl rfl)
theorem dX4_greatestInRing_112 : decode cX4_greatestInRing 112 = .ok (.iload_n 2, 1) := dk_28 (dk_at dksX4_greatestInRing_4 16 rfl rfl)
theorem dX4_greatestInRing_113 : decode cX4_greatestInRing 113 = .ok (.iaload, 1) := dk_46 (dk_at dksX4_greatestInRing_4 17 rfl rfl)
theorem dX4_greatestInRing_114 : decode cX4_greatestInRing 114 = .ok (.iload_n 2, 1) := dk_28 (dk_at dksX4_greatestInRing_4 18 rfl rfl)
theorem dX4_greatestInRing_115 : decode cX4_greatestInRing 115 = .ok (.ishr, 1) := dk_122 (dk_at dksX4_greatestInRing_4 19 rfl rfl)
theorem dX4_greatestInRing_116 : decode cX4_greatestInRing 116 = .ok (.iconst 1, 1) := dk_4 (dk_at dksX4_greatestInRing_4 20 rfl rfl)
theorem dX4_greatestInRing_117 : decode cX4_greatestInRing 117 = .ok (.iand, 1) := dk_126 (dk_at dksX4_greatestInRing_4 21 rfl rfl)
theorem dX4_greatestInRing_118 : decode cX4_greatestInRing 118 = .ok (.iconst 1, 1) := dk_4 (dk_at dksX4_greatestInRing_4 22 rfl rfl)
theorem dX4_greatestInRing_119 : decode cX4_greatestInRing 119 = .ok (.if_icmp .ne 7, 3) := dk_160 0 7 (dk_at dksX4_greatestInRing_5 0 rfl rfl)
theorem dX4_greatestInRing_122 : decode cX4_greatestInRing 122 = .ok (.iload_n 2, 1) := dk_28 (dk_at dksX4_greatestInRing_5 3 rfl rfl)
theorem dX4_greatestInRing_123 : decode cX4_greatestInRing 123 = .ok (.goto 4, 3) := dk_167 0 4 (dk_at dksX4_greatestInRing_5 4 rfl rfl)
theorem dX4_greatestInRing_126 : decode cX4_greatestInRing 126 = .ok (.iload_n 1, 1) := dk_27 (dk_at dksX4_greatestInRing_5 7 rfl rfl)
theorem dX4_greatestInRing_127 : decode cX4_greatestInRing 127 = .ok (.istore_n 1, 1) := dk_60 (dk_at dksX4_greatestInRing_5 8 rfl rfl)
theorem dX4_greatestInRing_128 : decode cX4_greatestInRing 128 = .ok (.iinc 2 1, 3) := dk_132 2 1 (dk_at dksX4_greatestInRing_5 9 rfl rfl)
theorem dX4_greatestInRing_131 : decode cX4_greatestInRing 131 = .ok (.goto (-28), 3) := dk_167 255 228 (dk_at dksX4_greatestInRing_5 12 rfl rfl)
theorem dX4_greatestInRing_134 : decode cX4_greatestInRing 134 = .ok (.iload_n 1, 1) := dk_27 (dk_at dksX4_greatestInRing_5 15 rfl rfl)
theorem dX4_greatestInRing_135 : decode cX4_greatestInRing 135 = .ok (.ireturn, 1) := dk_172 (dk_at dksX4_greatestInRing_5 16 rfl rfl)
abbrev cX4_sacrifices : ByteArray := prog_12_method_64_code
def yX4_sacrifices : MethodName := ⟨RX4, "sacrifices", "(I)V"⟩
def dkwX4_sacrifices_3 : List UInt8 := [182, 1, 11, 177]
abbrev dktX4_sacrifices_3 : List UInt8 := dkwX4_sacrifices_3 ++ []
def dkwX4_sacrifices_2 : List UInt8 := [5, 79, 132, 2, 1, 167, 255, 218, 42, 6, 27, 3, 184, 0, 166, 182, 0, 249, 42, 27, 182, 0, 252, 42]
abbrev dktX4_sacrifices_2 : List UInt8 := dkwX4_sacrifices_2 ++ dktX4_sacrifices_3
def dkwX4_sacrifices_1 : List UInt8 := [180, 0, 54, 28, 46, 27, 160, 0, 20, 42, 180, 0, 75, 28, 46, 4, 160, 0, 10, 42, 180, 0, 75, 28]
abbrev dktX4_sacrifices_1 : List UInt8 := dkwX4_sacrifices_1 ++ dktX4_sacrifices_2
def dkwX4_sacrifices_0 : List UInt8 := [42, 89, 180, 0, 93, 4, 27, 120, 128, 181, 0, 93, 3, 61, 28, 42, 180, 0, 69, 162, 0, 36, 42]
abbrev dktX4_sacrifices_0 : List UInt8 := dkwX4_sacrifices_0 ++ dktX4_sacrifices_1
theorem dksX4_sacrifices_0 : cX4_sacrifices.data.toList.drop 0 = dktX4_sacrifices_0 := by decide +kernel
theorem dksX4_sacrifices_1 : cX4_sacrifices.data.toList.drop 23 = dktX4_sacrifices_1 := dk_seg dksX4_sacrifices_0 23 rfl rfl
theorem dksX4_sacrifices_2 : cX4_sacrifices.data.toList.drop 47 = dktX4_sacrifices_2 := dk_seg dksX4_sacrifices_1 24 rfl rfl
theorem dksX4_sacrifices_3 : cX4_sacrifices.data.toList.drop 71 = dktX4_sacrifices_3 := dk_seg dksX4_sacrifices_2 24 rfl rfl
theorem dX4_sacrifices_0 : decode cX4_sacrifices 0 = .ok (.aload_n 0, 1) := dk_42 (dk_at dksX4_sacrifices_0 0 rfl rfl)
theorem dX4_sacrifices_1 : decode cX4_sacrifices 1 = .ok (.dup, 1) := dk_89 (dk_at dksX4_sacrifices_0 1 rfl rfl)
theorem dX4_sacrifices_2 : decode cX4_sacrifices 2 = .ok (.getfield 93, 3) := dk_180 0 93 (dk_at dksX4_sacrifices_0 2 rfl rfl)
theorem dX4_sacrifices_5 : decode cX4_sacrifices 5 = .ok (.iconst 1, 1) := dk_4 (dk_at dksX4_sacrifices_0 5 rfl rfl)
theorem dX4_sacrifices_6 : decode cX4_sacrifices 6 = .ok (.iload_n 1, 1) := dk_27 (dk_at dksX4_sacrifices_0 6 rfl rfl)
theorem dX4_sacrifices_7 : decode cX4_sacrifices 7 = .ok (.ishl, 1) := dk_120 (dk_at dksX4_sacrifices_0 7 rfl rfl)
theorem dX4_sacrifices_8 : decode cX4_sacrifices 8 = .ok (.ior, 1) := dk_128 (dk_at dksX4_sacrifices_0 8 rfl rfl)
theorem dX4_sacrifices_9 : decode cX4_sacrifices 9 = .ok (.putfield 93, 3) := dk_181 0 93 (dk_at dksX4_sacrifices_0 9 rfl rfl)
theorem dX4_sacrifices_12 : decode cX4_sacrifices 12 = .ok (.iconst 0, 1) := dk_3 (dk_at dksX4_sacrifices_0 12 rfl rfl)
theorem dX4_sacrifices_13 : decode cX4_sacrifices 13 = .ok (.istore_n 2, 1) := dk_61 (dk_at dksX4_sacrifices_0 13 rfl rfl)
theorem dX4_sacrifices_14 : decode cX4_sacrifices 14 = .ok (.iload_n 2, 1) := dk_28 (dk_at dksX4_sacrifices_0 14 rfl rfl)
theorem dX4_sacrifices_15 : decode cX4_sacrifices 15 = .ok (.aload_n 0, 1) := dk_42 (dk_at dksX4_sacrifices_0 15 rfl rfl)
theorem dX4_sacrifices_16 : decode cX4_sacrifices 16 = .ok (.getfield 69, 3) := dk_180 0 69 (dk_at dksX4_sacrifices_0 16 rfl rfl)
theorem dX4_sacrifices_19 : decode cX4_sacrifices 19 = .ok (.if_icmp .ge 36, 3) := dk_162 0 36 (dk_at dksX4_sacrifices_0 19 rfl rfl)
theorem dX4_sacrifices_22 : decode cX4_sacrifices 22 = .ok (.aload_n 0, 1) := dk_42 (dk_at dksX4_sacrifices_0 22 rfl rfl)
theorem dX4_sacrifices_23 : decode cX4_sacrifices 23 = .ok (.getfield 54, 3) := dk_180 0 54 (dk_at dksX4_sacrifices_1 0 rfl rfl)
theorem dX4_sacrifices_26 : decode cX4_sacrifices 26 = .ok (.iload_n 2, 1) := dk_28 (dk_at dksX4_sacrifices_1 3 rfl rfl)
theorem dX4_sacrifices_27 : decode cX4_sacrifices 27 = .ok (.iaload, 1) := dk_46 (dk_at dksX4_sacrifices_1 4 rfl rfl)
theorem dX4_sacrifices_28 : decode cX4_sacrifices 28 = .ok (.iload_n 1, 1) := dk_27 (dk_at dksX4_sacrifices_1 5 rfl rfl)
theorem dX4_sacrifices_29 : decode cX4_sacrifices 29 = .ok (.if_icmp .ne 20, 3) := dk_160 0 20 (dk_at dksX4_sacrifices_1 6 rfl rfl)
theorem dX4_sacrifices_32 : decode cX4_sacrifices 32 = .ok (.aload_n 0, 1) := dk_42 (dk_at dksX4_sacrifices_1 9 rfl rfl)
theorem dX4_sacrifices_33 : decode cX4_sacrifices 33 = .ok (.getfield 75, 3) := dk_180 0 75 (dk_at dksX4_sacrifices_1 10 rfl rfl)
theorem dX4_sacrifices_36 : decode cX4_sacrifices 36 = .ok (.iload_n 2, 1) := dk_28 (dk_at dksX4_sacrifices_1 13 rfl rfl)
theorem dX4_sacrifices_37 : decode cX4_sacrifices 37 = .ok (.iaload, 1) := dk_46 (dk_at dksX4_sacrifices_1 14 rfl rfl)
theorem dX4_sacrifices_38 : decode cX4_sacrifices 38 = .ok (.iconst 1, 1) := dk_4 (dk_at dksX4_sacrifices_1 15 rfl rfl)
theorem dX4_sacrifices_39 : decode cX4_sacrifices 39 = .ok (.if_icmp .ne 10, 3) := dk_160 0 10 (dk_at dksX4_sacrifices_1 16 rfl rfl)
theorem dX4_sacrifices_42 : decode cX4_sacrifices 42 = .ok (.aload_n 0, 1) := dk_42 (dk_at dksX4_sacrifices_1 19 rfl rfl)
theorem dX4_sacrifices_43 : decode cX4_sacrifices 43 = .ok (.getfield 75, 3) := dk_180 0 75 (dk_at dksX4_sacrifices_1 20 rfl rfl)
theorem dX4_sacrifices_46 : decode cX4_sacrifices 46 = .ok (.iload_n 2, 1) := dk_28 (dk_at dksX4_sacrifices_1 23 rfl rfl)
theorem dX4_sacrifices_47 : decode cX4_sacrifices 47 = .ok (.iconst 2, 1) := dk_5 (dk_at dksX4_sacrifices_2 0 rfl rfl)
theorem dX4_sacrifices_48 : decode cX4_sacrifices 48 = .ok (.iastore, 1) := dk_79 (dk_at dksX4_sacrifices_2 1 rfl rfl)
theorem dX4_sacrifices_49 : decode cX4_sacrifices 49 = .ok (.iinc 2 1, 3) := dk_132 2 1 (dk_at dksX4_sacrifices_2 2 rfl rfl)
theorem dX4_sacrifices_52 : decode cX4_sacrifices 52 = .ok (.goto (-38), 3) := dk_167 255 218 (dk_at dksX4_sacrifices_2 5 rfl rfl)
theorem dX4_sacrifices_55 : decode cX4_sacrifices 55 = .ok (.aload_n 0, 1) := dk_42 (dk_at dksX4_sacrifices_2 8 rfl rfl)
theorem dX4_sacrifices_56 : decode cX4_sacrifices 56 = .ok (.iconst 3, 1) := dk_6 (dk_at dksX4_sacrifices_2 9 rfl rfl)
theorem dX4_sacrifices_57 : decode cX4_sacrifices 57 = .ok (.iload_n 1, 1) := dk_27 (dk_at dksX4_sacrifices_2 10 rfl rfl)
theorem dX4_sacrifices_58 : decode cX4_sacrifices 58 = .ok (.iconst 0, 1) := dk_3 (dk_at dksX4_sacrifices_2 11 rfl rfl)
theorem dX4_sacrifices_59 : decode cX4_sacrifices 59 = .ok (.invokestatic 166, 3) := dk_184 0 166 (dk_at dksX4_sacrifices_2 12 rfl rfl)
theorem dX4_sacrifices_62 : decode cX4_sacrifices 62 = .ok (.invokevirtual 249, 3) := dk_182 0 249 (dk_at dksX4_sacrifices_2 15 rfl rfl)
theorem dX4_sacrifices_65 : decode cX4_sacrifices 65 = .ok (.aload_n 0, 1) := dk_42 (dk_at dksX4_sacrifices_2 18 rfl rfl)
theorem dX4_sacrifices_66 : decode cX4_sacrifices 66 = .ok (.iload_n 1, 1) := dk_27 (dk_at dksX4_sacrifices_2 19 rfl rfl)
theorem dX4_sacrifices_67 : decode cX4_sacrifices 67 = .ok (.invokevirtual 252, 3) := dk_182 0 252 (dk_at dksX4_sacrifices_2 20 rfl rfl)
theorem dX4_sacrifices_70 : decode cX4_sacrifices 70 = .ok (.aload_n 0, 1) := dk_42 (dk_at dksX4_sacrifices_2 23 rfl rfl)
theorem dX4_sacrifices_71 : decode cX4_sacrifices 71 = .ok (.invokevirtual 267, 3) := dk_182 1 11 (dk_at dksX4_sacrifices_3 0 rfl rfl)
theorem dX4_sacrifices_74 : decode cX4_sacrifices 74 = .ok (.return_, 1) := dk_177 (dk_at dksX4_sacrifices_3 3 rfl rfl)
abbrev cX4_waitingCount : ByteArray := prog_12_method_69_code
def yX4_waitingCount : MethodName := ⟨RX4, "waitingCount", "(I)I"⟩
def dkwX4_waitingCount_0 : List UInt8 := [42, 27, 184, 0, 131, 182, 1, 29, 158, 0, 5, 3, 172, 42, 27, 182, 1, 23, 42, 180, 0, 96, 172]
abbrev dktX4_waitingCount_0 : List UInt8 := dkwX4_waitingCount_0 ++ []
theorem dksX4_waitingCount_0 : cX4_waitingCount.data.toList.drop 0 = dktX4_waitingCount_0 := by decide +kernel
theorem dX4_waitingCount_0 : decode cX4_waitingCount 0 = .ok (.aload_n 0, 1) := dk_42 (dk_at dksX4_waitingCount_0 0 rfl rfl)
theorem dX4_waitingCount_1 : decode cX4_waitingCount 1 = .ok (.iload_n 1, 1) := dk_27 (dk_at dksX4_waitingCount_0 1 rfl rfl)
theorem dX4_waitingCount_2 : decode cX4_waitingCount 2 = .ok (.invokestatic 131, 3) := dk_184 0 131 (dk_at dksX4_waitingCount_0 2 rfl rfl)
theorem dX4_waitingCount_5 : decode cX4_waitingCount 5 = .ok (.invokevirtual 285, 3) := dk_182 1 29 (dk_at dksX4_waitingCount_0 5 rfl rfl)
theorem dX4_waitingCount_8 : decode cX4_waitingCount 8 = .ok (.ifCond .le 5, 3) := dk_158 0 5 (dk_at dksX4_waitingCount_0 8 rfl rfl)
theorem dX4_waitingCount_11 : decode cX4_waitingCount 11 = .ok (.iconst 0, 1) := dk_3 (dk_at dksX4_waitingCount_0 11 rfl rfl)
theorem dX4_waitingCount_12 : decode cX4_waitingCount 12 = .ok (.ireturn, 1) := dk_172 (dk_at dksX4_waitingCount_0 12 rfl rfl)
theorem dX4_waitingCount_13 : decode cX4_waitingCount 13 = .ok (.aload_n 0, 1) := dk_42 (dk_at dksX4_waitingCount_0 13 rfl rfl)
theorem dX4_waitingCount_14 : decode cX4_waitingCount 14 = .ok (.iload_n 1, 1) := dk_27 (dk_at dksX4_waitingCount_0 14 rfl rfl)
theorem dX4_waitingCount_15 : decode cX4_waitingCount 15 = .ok (.invokevirtual 279, 3) := dk_182 1 23 (dk_at dksX4_waitingCount_0 15 rfl rfl)
theorem dX4_waitingCount_18 : decode cX4_waitingCount 18 = .ok (.aload_n 0, 1) := dk_42 (dk_at dksX4_waitingCount_0 18 rfl rfl)
theorem dX4_waitingCount_19 : decode cX4_waitingCount 19 = .ok (.getfield 96, 3) := dk_180 0 96 (dk_at dksX4_waitingCount_0 19 rfl rfl)
theorem dX4_waitingCount_22 : decode cX4_waitingCount 22 = .ok (.ireturn, 1) := dk_172 (dk_at dksX4_waitingCount_0 22 rfl rfl)
abbrev cX4_checked : ByteArray := prog_12_method_9_code
def yX4_checked : MethodName := ⟨RX4, "checked", "(Z)I"⟩
def dkwX4_checked_0 : List UInt8 := [42, 27, 153, 0, 7, 3, 167, 0, 4, 4, 181, 0, 22, 42, 180, 0, 22, 172]
abbrev dktX4_checked_0 : List UInt8 := dkwX4_checked_0 ++ []
theorem dksX4_checked_0 : cX4_checked.data.toList.drop 0 = dktX4_checked_0 := by decide +kernel
theorem dX4_checked_0 : decode cX4_checked 0 = .ok (.aload_n 0, 1) := dk_42 (dk_at dksX4_checked_0 0 rfl rfl)
theorem dX4_checked_1 : decode cX4_checked 1 = .ok (.iload_n 1, 1) := dk_27 (dk_at dksX4_checked_0 1 rfl rfl)
theorem dX4_checked_2 : decode cX4_checked 2 = .ok (.ifCond .eq 7, 3) := dk_153 0 7 (dk_at dksX4_checked_0 2 rfl rfl)
theorem dX4_checked_5 : decode cX4_checked 5 = .ok (.iconst 0, 1) := dk_3 (dk_at dksX4_checked_0 5 rfl rfl)
theorem dX4_checked_6 : decode cX4_checked 6 = .ok (.goto 4, 3) := dk_167 0 4 (dk_at dksX4_checked_0 6 rfl rfl)
theorem dX4_checked_9 : decode cX4_checked 9 = .ok (.iconst 1, 1) := dk_4 (dk_at dksX4_checked_0 9 rfl rfl)
theorem dX4_checked_10 : decode cX4_checked 10 = .ok (.putfield 22, 3) := dk_181 0 22 (dk_at dksX4_checked_0 10 rfl rfl)
theorem dX4_checked_13 : decode cX4_checked 13 = .ok (.aload_n 0, 1) := dk_42 (dk_at dksX4_checked_0 13 rfl rfl)
theorem dX4_checked_14 : decode cX4_checked 14 = .ok (.getfield 22, 3) := dk_180 0 22 (dk_at dksX4_checked_0 14 rfl rfl)
theorem dX4_checked_17 : decode cX4_checked 17 = .ok (.ireturn, 1) := dk_172 (dk_at dksX4_checked_0 17 rfl rfl)
abbrev cX4_victimCount : ByteArray := prog_12_method_70_code
def yX4_victimCount : MethodName := ⟨RX4, "victimCount", "(I)I"⟩
def dkwX4_victimCount_1 : List UInt8 := [184, 0, 240, 172]
abbrev dktX4_victimCount_1 : List UInt8 := dkwX4_victimCount_1 ++ []
def dkwX4_victimCount_0 : List UInt8 := [42, 27, 184, 0, 131, 182, 1, 29, 158, 0, 5, 3, 172, 42, 27, 182, 1, 23, 42, 180, 0, 93]
abbrev dktX4_victimCount_0 : List UInt8 := dkwX4_victimCount_0 ++ dktX4_victimCount_1
theorem dksX4_victimCount_0 : cX4_victimCount.data.toList.drop 0 = dktX4_victimCount_0 := by decide +kernel
theorem dksX4_victimCount_1 : cX4_victimCount.data.toList.drop 22 = dktX4_victimCount_1 := dk_seg dksX4_victimCount_0 22 rfl rfl
theorem dX4_victimCount_0 : decode cX4_victimCount 0 = .ok (.aload_n 0, 1) := dk_42 (dk_at dksX4_victimCount_0 0 rfl rfl)
theorem dX4_victimCount_1 : decode cX4_victimCount 1 = .ok (.iload_n 1, 1) := dk_27 (dk_at dksX4_victimCount_0 1 rfl rfl)
theorem dX4_victimCount_2 : decode cX4_victimCount 2 = .ok (.invokestatic 131, 3) := dk_184 0 131 (dk_at dksX4_victimCount_0 2 rfl rfl)
theorem dX4_victimCount_5 : decode cX4_victimCount 5 = .ok (.invokevirtual 285, 3) := dk_182 1 29 (dk_at dksX4_victimCount_0 5 rfl rfl)
theorem dX4_victimCount_8 : decode cX4_victimCount 8 = .ok (.ifCond .le 5, 3) := dk_158 0 5 (dk_at dksX4_victimCount_0 8 rfl rfl)
theorem dX4_victimCount_11 : decode cX4_victimCount 11 = .ok (.iconst 0, 1) := dk_3 (dk_at dksX4_victimCount_0 11 rfl rfl)
theorem dX4_victimCount_12 : decode cX4_victimCount 12 = .ok (.ireturn, 1) := dk_172 (dk_at dksX4_victimCount_0 12 rfl rfl)
theorem dX4_victimCount_13 : decode cX4_victimCount 13 = .ok (.aload_n 0, 1) := dk_42 (dk_at dksX4_victimCount_0 13 rfl rfl)
theorem dX4_victimCount_14 : decode cX4_victimCount 14 = .ok (.iload_n 1, 1) := dk_27 (dk_at dksX4_victimCount_0 14 rfl rfl)
theorem dX4_victimCount_15 : decode cX4_victimCount 15 = .ok (.invokevirtual 279, 3) := dk_182 1 23 (dk_at dksX4_victimCount_0 15 rfl rfl)
theorem dX4_victimCount_18 : decode cX4_victimCount 18 = .ok (.aload_n 0, 1) := dk_42 (dk_at dksX4_victimCount_0 18 rfl rfl)
theorem dX4_victimCount_19 : decode cX4_victimCount 19 = .ok (.getfield 93, 3) := dk_180 0 93 (dk_at dksX4_victimCount_0 19 rfl rfl)
theorem dX4_victimCount_22 : decode cX4_victimCount 22 = .ok (.invokestatic 240, 3) := dk_184 0 240 (dk_at dksX4_victimCount_1 0 rfl rfl)
theorem dX4_victimCount_25 : decode cX4_victimCount 25 = .ok (.ireturn, 1) := dk_172 (dk_at dksX4_victimCount_1 3 rfl rfl)
abbrev cX4_isVictim : ByteArray := prog_12_method_71_code
def yX4_isVictim : MethodName := ⟨RX4, "isVictim", "(II)Z"⟩
def dkwX4_isVictim_2 : List UInt8 := [126, 4, 160, 0, 7, 4, 167, 0, 4, 3, 172]
abbrev dktX4_isVictim_2 : List UInt8 := dkwX4_isVictim_2 ++ []
def dkwX4_isVictim_1 : List UInt8 := [181, 0, 22, 42, 180, 0, 22, 158, 0, 5, 3, 172, 42, 27, 182, 1, 23, 42, 180, 0, 93, 28, 122, 4]
abbrev dktX4_isVictim_1 : List UInt8 := dkwX4_isVictim_1 ++ dktX4_isVictim_2
def dkwX4_isVictim_0 : List UInt8 := [42, 27, 184, 0, 131, 154, 0, 7, 4, 167, 0, 15, 28, 184, 0, 160, 154, 0, 7, 5, 167, 0, 4, 3]
abbrev dktX4_isVictim_0 : List UInt8 := dkwX4_isVictim_0 ++ dktX4_isVictim_1
theorem dksX4_isVictim_0 : cX4_isVictim.data.toList.drop 0 = dktX4_isVictim_0 := by decide +kernel
theorem dksX4_isVictim_1 : cX4_isVictim.data.toList.drop 24 = dktX4_isVictim_1 := dk_seg dksX4_isVictim_0 24 rfl rfl
theorem dksX4_isVictim_2 : cX4_isVictim.data.toList.drop 48 = dktX4_isVictim_2 := dk_seg dksX4_isVictim_1 24 rfl rfl
theorem dX4_isVictim_0 : decode cX4_isVictim 0 = .ok (.aload_n 0, 1) := dk_42 (dk_at dksX4_isVictim_0 0 rfl rfl)
theorem dX4_isVictim_1 : decode cX4_isVictim 1 = .ok (.iload_n 1, 1) := dk_27 (dk_at dksX4_isVictim_0 1 rfl rfl)
theorem dX4_isVictim_2 : decode cX4_isVictim 2 = .ok (.invokestatic 131, 3) := dk_184 0 131 (dk_at dksX4_isVictim_0 2 rfl rfl)
theorem dX4_isVictim_5 : decode cX4_isVictim 5 = .ok (.ifCond .ne 7, 3) := dk_154 0 7 (dk_at dksX4_isVictim_0 5 rfl rfl)
theorem dX4_isVictim_8 : decode cX4_isVictim 8 = .ok (.iconst 1, 1) := dk_4 (dk_at dksX4_isVictim_0 8 rfl rfl)
theorem dX4_isVictim_9 : decode cX4_isVictim 9 = .ok (.goto 15, 3) := dk_167 0 15 (dk_at dksX4_isVictim_0 9 rfl rfl)
theorem dX4_isVictim_12 : decode cX4_isVictim 12 = .ok (.iload_n 2, 1) := dk_28 (dk_at dksX4_isVictim_0 12 rfl rfl)
theorem dX4_isVictim_13 : decode cX4_isVictim 13 = .ok (.invokestatic 160, 3) := dk_184 0 160 (dk_at dksX4_isVictim_0 13 rfl rfl)
theorem dX4_isVictim_16 : decode cX4_isVictim 16 = .ok (.ifCond .ne 7, 3) := dk_154 0 7 (dk_at dksX4_isVictim_0 16 rfl rfl)
theorem dX4_isVictim_19 : decode cX4_isVictim 19 = .ok (.iconst 2, 1) := dk_5 (dk_at dksX4_isVictim_0 19 rfl rfl)
theorem dX4_isVictim_20 : decode cX4_isVictim 20 = .ok (.goto 4, 3) := dk_167 0 4 (dk_at dksX4_isVictim_0 20 rfl rfl)
theorem dX4_isVictim_23 : decode cX4_isVictim 23 = .ok (.iconst 0, 1) := dk_3 (dk_at dksX4_isVictim_0 23 rfl rfl)
theorem dX4_isVictim_24 : decode cX4_isVictim 24 = .ok (.putfield 22, 3) := dk_181 0 22 (dk_at dksX4_isVictim_1 0 rfl rfl)
theorem dX4_isVictim_27 : decode cX4_isVictim 27 = .ok (.aload_n 0, 1) := dk_42 (dk_at dksX4_isVictim_1 3 rfl rfl)
theorem dX4_isVictim_28 : decode cX4_isVictim 28 = .ok (.getfield 22, 3) := dk_180 0 22 (dk_at dksX4_isVictim_1 4 rfl rfl)
theorem dX4_isVictim_31 : decode cX4_isVictim 31 = .ok (.ifCond .le 5, 3) := dk_158 0 5 (dk_at dksX4_isVictim_1 7 rfl rfl)
theorem dX4_isVictim_34 : decode cX4_isVictim 34 = .ok (.iconst 0, 1) := dk_3 (dk_at dksX4_isVictim_1 10 rfl rfl)
theorem dX4_isVictim_35 : decode cX4_isVictim 35 = .ok (.ireturn, 1) := dk_172 (dk_at dksX4_isVictim_1 11 rfl rfl)
theorem dX4_isVictim_36 : decode cX4_isVictim 36 = .ok (.aload_n 0, 1) := dk_42 (dk_at dksX4_isVictim_1 12 rfl rfl)
theorem dX4_isVictim_37 : decode cX4_isVictim 37 = .ok (.iload_n 1, 1) := dk_27 (dk_at dksX4_isVictim_1 13 rfl rfl)
theorem dX4_isVictim_38 : decode cX4_isVictim 38 = .ok (.invokevirtual 279, 3) := dk_182 1 23 (dk_at dksX4_isVictim_1 14 rfl rfl)
theorem dX4_isVictim_41 : decode cX4_isVictim 41 = .ok (.aload_n 0, 1) := dk_42 (dk_at dksX4_isVictim_1 17 rfl rfl)
theorem dX4_isVictim_42 : decode cX4_isVictim 42 = .ok (.getfield 93, 3) := dk_180 0 93 (dk_at dksX4_isVictim_1 18 rfl rfl)
theorem dX4_isVictim_45 : decode cX4_isVictim 45 = .ok (.iload_n 2, 1) := dk_28 (dk_at dksX4_isVictim_1 21 rfl rfl)
theorem dX4_isVictim_46 : decode cX4_isVictim 46 = .ok (.ishr, 1) := dk_122 (dk_at dksX4_isVictim_1 22 rfl rfl)
theorem dX4_isVictim_47 : decode cX4_isVictim 47 = .ok (.iconst 1, 1) := dk_4 (dk_at dksX4_isVictim_1 23 rfl rfl)
theorem dX4_isVictim_48 : decode cX4_isVictim 48 = .ok (.iand, 1) := dk_126 (dk_at dksX4_isVictim_2 0 rfl rfl)
theorem dX4_isVictim_49 : decode cX4_isVictim 49 = .ok (.iconst 1, 1) := dk_4 (dk_at dksX4_isVictim_2 1 rfl rfl)
theorem dX4_isVictim_50 : decode cX4_isVictim 50 = .ok (.if_icmp .ne 7, 3) := dk_160 0 7 (dk_at dksX4_isVictim_2 2 rfl rfl)
theorem dX4_isVictim_53 : decode cX4_isVictim 53 = .ok (.iconst 1, 1) := dk_4 (dk_at dksX4_isVictim_2 5 rfl rfl)
theorem dX4_isVictim_54 : decode cX4_isVictim 54 = .ok (.goto 4, 3) := dk_167 0 4 (dk_at dksX4_isVictim_2 6 rfl rfl)
theorem dX4_isVictim_57 : decode cX4_isVictim 57 = .ok (.iconst 0, 1) := dk_3 (dk_at dksX4_isVictim_2 9 rfl rfl)
theorem dX4_isVictim_58 : decode cX4_isVictim 58 = .ok (.ireturn, 1) := dk_172 (dk_at dksX4_isVictim_2 10 rfl rfl)
abbrev cX4_operationCount : ByteArray := prog_12_method_72_code
def yX4_operationCount : MethodName := ⟨RX4, "operationCount", "(I)I"⟩
def dkwX4_operationCount_0 : List UInt8 := [42, 27, 184, 0, 131, 182, 1, 29, 158, 0, 7, 3, 167, 0, 8, 42, 27, 182, 0, 135, 172]
abbrev dktX4_operationCount_0 : List UInt8 := dkwX4_operationCount_0 ++ []
theorem dksX4_operationCount_0 : cX4_operationCount.data.toList.drop 0 = dktX4_operationCount_0 := by decide +kernel
theorem dX4_operationCount_0 : decode cX4_operationCount 0 = .ok (.aload_n 0, 1) := dk_42 (dk_at dksX4_operationCount_0 0 rfl rfl)
theorem dX4_operationCount_1 : decode cX4_operationCount 1 = .ok (.iload_n 1, 1) := dk_27 (dk_at dksX4_operationCount_0 1 rfl rfl)
theorem dX4_operationCount_2 : decode cX4_operationCount 2 = .ok (.invokestatic 131, 3) := dk_184 0 131 (dk_at dksX4_operationCount_0 2 rfl rfl)
theorem dX4_operationCount_5 : decode cX4_operationCount 5 = .ok (.invokevirtual 285, 3) := dk_182 1 29 (dk_at dksX4_operationCount_0 5 rfl rfl)
theorem dX4_operationCount_8 : decode cX4_operationCount 8 = .ok (.ifCond .le 7, 3) := dk_158 0 7 (dk_at dksX4_operationCount_0 8 rfl rfl)
theorem dX4_operationCount_11 : decode cX4_operationCount 11 = .ok (.iconst 0, 1) := dk_3 (dk_at dksX4_operationCount_0 11 rfl rfl)
theorem dX4_operationCount_12 : decode cX4_operationCount 12 = .ok (.goto 8, 3) := dk_167 0 8 (dk_at dksX4_operationCount_0 12 rfl rfl)
theorem dX4_operationCount_15 : decode cX4_operationCount 15 = .ok (.aload_n 0, 1) := dk_42 (dk_at dksX4_operationCount_0 15 rfl rfl)
theorem dX4_operationCount_16 : decode cX4_operationCount 16 = .ok (.iload_n 1, 1) := dk_27 (dk_at dksX4_operationCount_0 16 rfl rfl)
theorem dX4_operationCount_17 : decode cX4_operationCount 17 = .ok (.invokevirtual 135, 3) := dk_182 0 135 (dk_at dksX4_operationCount_0 17 rfl rfl)
theorem dX4_operationCount_20 : decode cX4_operationCount 20 = .ok (.ireturn, 1) := dk_172 (dk_at dksX4_operationCount_0 20 rfl rfl)
abbrev cX4_kindAt : ByteArray := prog_12_method_73_code
def yX4_kindAt : MethodName := ⟨RX4, "kindAt", "(II)C"⟩
def dkwX4_kindAt_1 : List UInt8 := [184, 0, 146, 184, 1, 33, 146, 172]
abbrev dktX4_kindAt_1 : List UInt8 := dkwX4_kindAt_1 ++ []
def dkwX4_kindAt_0 : List UInt8 := [42, 42, 27, 28, 182, 0, 199, 182, 1, 29, 158, 0, 8, 16, 32, 167, 0, 16, 42, 27, 28, 182, 0, 139]
abbrev dktX4_kindAt_0 : List UInt8 := dkwX4_kindAt_0 ++ dktX4_kindAt_1
theorem dksX4_kindAt_0 : cX4_kindAt.data.toList.drop 0 = dktX4_kindAt_0 := by decide +kernel
theorem dksX4_kindAt_1 : cX4_kindAt.data.toList.drop 24 = dktX4_kindAt_1 := dk_seg dksX4_kindAt_0 24 rfl rfl
theorem dX4_kindAt_0 : decode cX4_kindAt 0 = .ok (.aload_n 0, 1) := dk_42 (dk_at dksX4_kindAt_0 0 rfl rfl)
theorem dX4_kindAt_1 : decode cX4_kindAt 1 = .ok (.aload_n 0, 1) := dk_42 (dk_at dksX4_kindAt_0 1 rfl rfl)
theorem dX4_kindAt_2 : decode cX4_kindAt 2 = .ok (.iload_n 1, 1) := dk_27 (dk_at dksX4_kindAt_0 2 rfl rfl)
theorem dX4_kindAt_3 : decode cX4_kindAt 3 = .ok (.iload_n 2, 1) := dk_28 (dk_at dksX4_kindAt_0 3 rfl rfl)
theorem dX4_kindAt_4 : decode cX4_kindAt 4 = .ok (.invokevirtual 199, 3) := dk_182 0 199 (dk_at dksX4_kindAt_0 4 rfl rfl)
theorem dX4_kindAt_7 : decode cX4_kindAt 7 = .ok (.invokevirtual 285, 3) := dk_182 1 29 (dk_at dksX4_kindAt_0 7 rfl rfl)
theorem dX4_kindAt_10 : decode cX4_kindAt 10 = .ok (.ifCond .le 8, 3) := dk_158 0 8 (dk_at dksX4_kindAt_0 10 rfl rfl)
theorem dX4_kindAt_13 : decode cX4_kindAt 13 = .ok (.bipush 32, 2) := dk_16 32 (dk_at dksX4_kindAt_0 13 rfl rfl)
theorem dX4_kindAt_15 : decode cX4_kindAt 15 = .ok (.goto 16, 3) := dk_167 0 16 (dk_at dksX4_kindAt_0 15 rfl rfl)
theorem dX4_kindAt_18 : decode cX4_kindAt 18 = .ok (.aload_n 0, 1) := dk_42 (dk_at dksX4_kindAt_0 18 rfl rfl)
theorem dX4_kindAt_19 : decode cX4_kindAt 19 = .ok (.iload_n 1, 1) := dk_27 (dk_at dksX4_kindAt_0 19 rfl rfl)
theorem dX4_kindAt_20 : decode cX4_kindAt 20 = .ok (.iload_n 2, 1) := dk_28 (dk_at dksX4_kindAt_0 20 rfl rfl)
theorem dX4_kindAt_21 : decode cX4_kindAt 21 = .ok (.invokevirtual 139, 3) := dk_182 0 139 (dk_at dksX4_kindAt_0 21 rfl rfl)
theorem dX4_kindAt_24 : decode cX4_kindAt 24 = .ok (.invokestatic 146, 3) := dk_184 0 146 (dk_at dksX4_kindAt_1 0 rfl rfl)
theorem dX4_kindAt_27 : decode cX4_kindAt 27 = .ok (.invokestatic 289, 3) := dk_184 1 33 (dk_at dksX4_kindAt_1 3 rfl rfl)
theorem dX4_kindAt_30 : decode cX4_kindAt 30 = .ok (.i2c, 1) := dk_146 (dk_at dksX4_kindAt_1 6 rfl rfl)
theorem dX4_kindAt_31 : decode cX4_kindAt 31 = .ok (.ireturn, 1) := dk_172 (dk_at dksX4_kindAt_1 7 rfl rfl)
abbrev cX4_letterOfKind : ByteArray := prog_12_method_28_code
def yX4_letterOfKind : MethodName := ⟨RX4, "letterOfKind", "(I)I"⟩
def dkwX4_letterOfKind_1 : List UInt8 := [16, 99, 167, 0, 5, 16, 120, 172]
abbrev dktX4_letterOfKind_1 : List UInt8 := dkwX4_letterOfKind_1 ++ []
def dkwX4_letterOfKind_0 : List UInt8 := [26, 154, 0, 8, 16, 114, 167, 0, 25, 26, 4, 160, 0, 8, 16, 119, 167, 0, 15, 26, 5, 160, 0, 8]
abbrev dktX4_letterOfKind_0 : List UInt8 := dkwX4_letterOfKind_0 ++ dktX4_letterOfKind_1
theorem dksX4_letterOfKind_0 : cX4_letterOfKind.data.toList.drop 0 = dktX4_letterOfKind_0 := by decide +kernel
theorem dksX4_letterOfKind_1 : cX4_letterOfKind.data.toList.drop 24 = dktX4_letterOfKind_1 := dk_seg dksX4_letterOfKind_0 24 rfl rfl
theorem dX4_letterOfKind_0 : decode cX4_letterOfKind 0 = .ok (.iload_n 0, 1) := dk_26 (dk_at dksX4_letterOfKind_0 0 rfl rfl)
theorem dX4_letterOfKind_1 : decode cX4_letterOfKind 1 = .ok (.ifCond .ne 8, 3) := dk_154 0 8 (dk_at dksX4_letterOfKind_0 1 rfl rfl)
theorem dX4_letterOfKind_4 : decode cX4_letterOfKind 4 = .ok (.bipush 114, 2) := dk_16 114 (dk_at dksX4_letterOfKind_0 4 rfl rfl)
theorem dX4_letterOfKind_6 : decode cX4_letterOfKind 6 = .ok (.goto 25, 3) := dk_167 0 25 (dk_at dksX4_letterOfKind_0 6 rfl rfl)
theorem dX4_letterOfKind_9 : decode cX4_letterOfKind 9 = .ok (.iload_n 0, 1) := dk_26 (dk_at dksX4_letterOfKind_0 9 rfl rfl)
theorem dX4_letterOfKind_10 : decode cX4_letterOfKind 10 = .ok (.iconst 1, 1) := dk_4 (dk_at dksX4_letterOfKind_0 10 rfl rfl)
theorem dX4_letterOfKind_11 : decode cX4_letterOfKind 11 = .ok (.if_icmp .ne 8, 3) := dk_160 0 8 (dk_at dksX4_letterOfKind_0 11 rfl rfl)
theorem dX4_letterOfKind_14 : decode cX4_letterOfKind 14 = .ok (.bipush 119, 2) := dk_16 119 (dk_at dksX4_letterOfKind_0 14 rfl rfl)
theorem dX4_letterOfKind_16 : decode cX4_letterOfKind 16 = .ok (.goto 15, 3) := dk_167 0 15 (dk_at dksX4_letterOfKind_0 16 rfl rfl)
theorem dX4_letterOfKind_19 : decode cX4_letterOfKind 19 = .ok (.iload_n 0, 1) := dk_26 (dk_at dksX4_letterOfKind_0 19 rfl rfl)
theorem dX4_letterOfKind_20 : decode cX4_letterOfKind 20 = .ok (.iconst 2, 1) := dk_5 (dk_at dksX4_letterOfKind_0 20 rfl rfl)
theorem dX4_letterOfKind_21 : decode cX4_letterOfKind 21 = .ok (.if_icmp .ne 8, 3) := dk_160 0 8 (dk_at dksX4_letterOfKind_0 21 rfl rfl)
theorem dX4_letterOfKind_24 : decode cX4_letterOfKind 24 = .ok (.bipush 99, 2) := dk_16 99 (dk_at dksX4_letterOfKind_1 0 rfl rfl)
theorem dX4_letterOfKind_26 : decode cX4_letterOfKind 26 = .ok (.goto 5, 3) := dk_167 0 5 (dk_at dksX4_letterOfKind_1 2 rfl rfl)
theorem dX4_letterOfKind_29 : decode cX4_letterOfKind 29 = .ok (.bipush 120, 2) := dk_16 120 (dk_at dksX4_letterOfKind_1 5 rfl rfl)
theorem dX4_letterOfKind_31 : decode cX4_letterOfKind 31 = .ok (.ireturn, 1) := dk_172 (dk_at dksX4_letterOfKind_1 7 rfl rfl)
abbrev cX4_transactionAt : ByteArray := prog_12_method_74_code
def yX4_transactionAt : MethodName := ⟨RX4, "transactionAt", "(II)I"⟩
def dkwX4_transactionAt_1 : List UInt8 := [184, 0, 143, 172]
abbrev dktX4_transactionAt_1 : List UInt8 := dkwX4_transactionAt_1 ++ []
def dkwX4_transactionAt_0 : List UInt8 := [42, 42, 27, 28, 182, 0, 199, 182, 1, 29, 158, 0, 7, 3, 167, 0, 12, 42, 27, 28, 182, 0, 139]
abbrev dktX4_transactionAt_0 : List UInt8 := dkwX4_transactionAt_0 ++ dktX4_transactionAt_1
theorem dksX4_transactionAt_0 : cX4_transactionAt.data.toList.drop 0 = dktX4_transactionAt_0 := by decide +kernel
theorem dksX4_transactionAt_1 : cX4_transactionAt.data.toList.drop 23 = dktX4_transactionAt_1 := dk_seg dksX4_transactionAt_0 23 rfl rfl
theorem dX4_transactionAt_0 : decode cX4_transactionAt 0 = .ok (.aload_n 0, 1) := dk_42 (dk_at dksX4_transactionAt_0 0 rfl rfl)
theorem dX4_transactionAt_1 : decode cX4_transactionAt 1 = .ok (.aload_n 0, 1) := dk_42 (dk_at dksX4_transactionAt_0 1 rfl rfl)
theorem dX4_transactionAt_2 : decode cX4_transactionAt 2 = .ok (.iload_n 1, 1) := dk_27 (dk_at dksX4_transactionAt_0 2 rfl rfl)
theorem dX4_transactionAt_3 : decode cX4_transactionAt 3 = .ok (.iload_n 2, 1) := dk_28 (dk_at dksX4_transactionAt_0 3 rfl rfl)
theorem dX4_transactionAt_4 : decode cX4_transactionAt 4 = .ok (.invokevirtual 199, 3) := dk_182 0 199 (dk_at dksX4_transactionAt_0 4 rfl rfl)
theorem dX4_transactionAt_7 : decode cX4_transactionAt 7 = .ok (.invokevirtual 285, 3) := dk_182 1 29 (dk_at dksX4_transactionAt_0 7 rfl rfl)
theorem dX4_transactionAt_10 : decode cX4_transactionAt 10 = .ok (.ifCond .le 7, 3) := dk_158 0 7 (dk_at dksX4_transactionAt_0 10 rfl rfl)
theorem dX4_transactionAt_13 : decode cX4_transactionAt 13 = .ok (.iconst 0, 1) := dk_3 (dk_at dksX4_transactionAt_0 13 rfl rfl)
theorem dX4_transactionAt_14 : decode cX4_transactionAt 14 = .ok (.goto 12, 3) := dk_167 0 12 (dk_at dksX4_transactionAt_0 14 rfl rfl)
theorem dX4_transactionAt_17 : decode cX4_transactionAt 17 = .ok (.aload_n 0, 1) := dk_42 (dk_at dksX4_transactionAt_0 17 rfl rfl)
theorem dX4_transactionAt_18 : decode cX4_transactionAt 18 = .ok (.iload_n 1, 1) := dk_27 (dk_at dksX4_transactionAt_0 18 rfl rfl)
theorem dX4_transactionAt_19 : decode cX4_transactionAt 19 = .ok (.iload_n 2, 1) := dk_28 (dk_at dksX4_transactionAt_0 19 rfl rfl)
theorem dX4_transactionAt_20 : decode cX4_transactionAt 20 = .ok (.invokevirtual 139, 3) := dk_182 0 139 (dk_at dksX4_transactionAt_0 20 rfl rfl)
theorem dX4_transactionAt_23 : decode cX4_transactionAt 23 = .ok (.invokestatic 143, 3) := dk_184 0 143 (dk_at dksX4_transactionAt_1 0 rfl rfl)
theorem dX4_transactionAt_26 : decode cX4_transactionAt 26 = .ok (.ireturn, 1) := dk_172 (dk_at dksX4_transactionAt_1 3 rfl rfl)
abbrev cX4_itemAt : ByteArray := prog_12_method_75_code
def yX4_itemAt : MethodName := ⟨RX4, "itemAt", "(II)C"⟩
def dkwX4_itemAt_2 : List UInt8 := [16, 97, 42, 27, 28, 182, 0, 139, 16, 10, 112, 96, 146, 172]
abbrev dktX4_itemAt_2 : List UInt8 := dkwX4_itemAt_2 ++ []
def dkwX4_itemAt_1 : List UInt8 := [161, 0, 7, 5, 167, 0, 4, 3, 181, 0, 22, 42, 180, 0, 22, 158, 0, 8, 16, 32, 167, 0, 16]
abbrev dktX4_itemAt_1 : List UInt8 := dkwX4_itemAt_1 ++ dktX4_itemAt_2
def dkwX4_itemAt_0 : List UInt8 := [42, 42, 27, 28, 182, 0, 199, 154, 0, 7, 4, 167, 0, 21, 42, 27, 28, 182, 0, 139, 184, 0, 146, 5]
abbrev dktX4_itemAt_0 : List UInt8 := dkwX4_itemAt_0 ++ dktX4_itemAt_1
theorem dksX4_itemAt_0 : cX4_itemAt.data.toList.drop 0 = dktX4_itemAt_0 := by decide +kernel
theorem dksX4_itemAt_1 : cX4_itemAt.data.toList.drop 24 = dktX4_itemAt_1 := dk_seg dksX4_itemAt_0 24 rfl rfl
theorem dksX4_itemAt_2 : cX4_itemAt.data.toList.drop 47 = dktX4_itemAt_2 := dk_seg dksX4_itemAt_1 23 rfl rfl
theorem dX4_itemAt_0 : decode cX4_itemAt 0 = .ok (.aload_n 0, 1) := dk_42 (dk_at dksX4_itemAt_0 0 rfl rfl)
theorem dX4_itemAt_1 : decode cX4_itemAt 1 = .ok (.aload_n 0, 1) := dk_42 (dk_at dksX4_itemAt_0 1 rfl rfl)
theorem dX4_itemAt_2 : decode cX4_itemAt 2 = .ok (.iload_n 1, 1) := dk_27 (dk_at dksX4_itemAt_0 2 rfl rfl)
theorem dX4_itemAt_3 : decode cX4_itemAt 3 = .ok (.iload_n 2, 1) := dk_28 (dk_at dksX4_itemAt_0 3 rfl rfl)
theorem dX4_itemAt_4 : decode cX4_itemAt 4 = .ok (.invokevirtual 199, 3) := dk_182 0 199 (dk_at dksX4_itemAt_0 4 rfl rfl)
theorem dX4_itemAt_7 : decode cX4_itemAt 7 = .ok (.ifCond .ne 7, 3) := dk_154 0 7 (dk_at dksX4_itemAt_0 7 rfl rfl)
theorem dX4_itemAt_10 : decode cX4_itemAt 10 = .ok (.iconst 1, 1) := dk_4 (dk_at dksX4_itemAt_0 10 rfl rfl)
theorem dX4_itemAt_11 : decode cX4_itemAt 11 = .ok (.goto 21, 3) := dk_167 0 21 (dk_at dksX4_itemAt_0 11 rfl rfl)
theorem dX4_itemAt_14 : decode cX4_itemAt 14 = .ok (.aload_n 0, 1) := dk_42 (dk_at dksX4_itemAt_0 14 rfl rfl)
theorem dX4_itemAt_15 : decode cX4_itemAt 15 = .ok (.iload_n 1, 1) := dk_27 (dk_at dksX4_itemAt_0 15 rfl rfl)
theorem dX4_itemAt_16 : decode cX4_itemAt 16 = .ok (.iload_n 2, 1) := dk_28 (dk_at dksX4_itemAt_0 16 rfl rfl)
theorem dX4_itemAt_17 : decode cX4_itemAt 17 = .ok (.invokevirtual 139, 3) := dk_182 0 139 (dk_at dksX4_itemAt_0 17 rfl rfl)
theorem dX4_itemAt_20 : decode cX4_itemAt 20 = .ok (.invokestatic 146, 3) := dk_184 0 146 (dk_at dksX4_itemAt_0 20 rfl rfl)
theorem dX4_itemAt_23 : decode cX4_itemAt 23 = .ok (.iconst 2, 1) := dk_5 (dk_at dksX4_itemAt_0 23 rfl rfl)
theorem dX4_itemAt_24 : decode cX4_itemAt 24 = .ok (.if_icmp .lt 7, 3) := dk_161 0 7 (dk_at dksX4_itemAt_1 0 rfl rfl)
theorem dX4_itemAt_27 : decode cX4_itemAt 27 = .ok (.iconst 2, 1) := dk_5 (dk_at dksX4_itemAt_1 3 rfl rfl)
theorem dX4_itemAt_28 : decode cX4_itemAt 28 = .ok (.goto 4, 3) := dk_167 0 4 (dk_at dksX4_itemAt_1 4 rfl rfl)
theorem dX4_itemAt_31 : decode cX4_itemAt 31 = .ok (.iconst 0, 1) := dk_3 (dk_at dksX4_itemAt_1 7 rfl rfl)
theorem dX4_itemAt_32 : decode cX4_itemAt 32 = .ok (.putfield 22, 3) := dk_181 0 22 (dk_at dksX4_itemAt_1 8 rfl rfl)
theorem dX4_itemAt_35 : decode cX4_itemAt 35 = .ok (.aload_n 0, 1) := dk_42 (dk_at dksX4_itemAt_1 11 rfl rfl)
theorem dX4_itemAt_36 : decode cX4_itemAt 36 = .ok (.getfield 22, 3) := dk_180 0 22 (dk_at dksX4_itemAt_1 12 rfl rfl)
theorem dX4_itemAt_39 : decode cX4_itemAt 39 = .ok (.ifCond .le 8, 3) := dk_158 0 8 (dk_at dksX4_itemAt_1 15 rfl rfl)
theorem dX4_itemAt_42 : decode cX4_itemAt 42 = .ok (.bipush 32, 2) := dk_16 32 (dk_at dksX4_itemAt_1 18 rfl rfl)
theorem dX4_itemAt_44 : decode cX4_itemAt 44 = .ok (.goto 16, 3) := dk_167 0 16 (dk_at dksX4_itemAt_1 20 rfl rfl)
theorem dX4_itemAt_47 : decode cX4_itemAt 47 = .ok (.bipush 97, 2) := dk_16 97 (dk_at dksX4_itemAt_2 0 rfl rfl)
theorem dX4_itemAt_49 : decode cX4_itemAt 49 = .ok (.aload_n 0, 1) := dk_42 (dk_at dksX4_itemAt_2 2 rfl rfl)
theorem dX4_itemAt_50 : decode cX4_itemAt 50 = .ok (.iload_n 1, 1) := dk_27 (dk_at dksX4_itemAt_2 3 rfl rfl)
theorem dX4_itemAt_51 : decode cX4_itemAt 51 = .ok (.iload_n 2, 1) := dk_28 (dk_at dksX4_itemAt_2 4 rfl rfl)
theorem dX4_itemAt_52 : decode cX4_itemAt 52 = .ok (.invokevirtual 139, 3) := dk_182 0 139 (dk_at dksX4_itemAt_2 5 rfl rfl)
theorem dX4_itemAt_55 : decode cX4_itemAt 55 = .ok (.bipush 10, 2) := dk_16 10 (dk_at dksX4_itemAt_2 8 rfl rfl)
theorem dX4_itemAt_57 : decode cX4_itemAt 57 = .ok (.irem, 1) := dk_112 (dk_at dksX4_itemAt_2 10 rfl rfl)
theorem dX4_itemAt_58 : decode cX4_itemAt 58 = .ok (.iadd, 1) := dk_96 (dk_at dksX4_itemAt_2 11 rfl rfl)
theorem dX4_itemAt_59 : decode cX4_itemAt 59 = .ok (.i2c, 1) := dk_146 (dk_at dksX4_itemAt_2 12 rfl rfl)
theorem dX4_itemAt_60 : decode cX4_itemAt 60 = .ok (.ireturn, 1) := dk_172 (dk_at dksX4_itemAt_2 13 rfl rfl)
abbrev cX4_stateOf : ByteArray := prog_12_method_76_code
def yX4_stateOf : MethodName := ⟨RX4, "stateOf", "(II)C"⟩
def dkwX4_stateOf_3 : List UInt8 := [182, 1, 36, 153, 0, 8, 16, 97, 167, 0, 5, 16, 45, 172]
abbrev dktX4_stateOf_3 : List UInt8 := dkwX4_stateOf_3 ++ []
def dkwX4_stateOf_2 : List UInt8 := [16, 99, 167, 0, 33, 42, 27, 28, 182, 0, 217, 153, 0, 8, 16, 120, 167, 0, 19, 42, 27, 28]
abbrev dktX4_stateOf_2 : List UInt8 := dkwX4_stateOf_2 ++ dktX4_stateOf_3
def dkwX4_stateOf_1 : List UInt8 := [181, 0, 22, 42, 180, 0, 22, 158, 0, 6, 16, 32, 172, 42, 27, 28, 5, 5, 182, 0, 149, 153, 0, 8]
abbrev dktX4_stateOf_1 : List UInt8 := dkwX4_stateOf_1 ++ dktX4_stateOf_2
def dkwX4_stateOf_0 : List UInt8 := [42, 27, 184, 0, 131, 154, 0, 7, 4, 167, 0, 15, 28, 184, 0, 160, 154, 0, 7, 5, 167, 0, 4, 3]
abbrev dktX4_stateOf_0 : List UInt8 := dkwX4_stateOf_0 ++ dktX4_stateOf_1
theorem dksX4_stateOf_0 : cX4_stateOf.data.toList.drop 0 = dktX4_stateOf_0 := by decide +kernel
theorem dksX4_stateOf_1 : cX4_stateOf.data.toList.drop 24 = dktX4_stateOf_1 := dk_seg dksX4_stateOf_0 24 rfl rfl
theorem dksX4_stateOf_2 : cX4_stateOf.data.toList.drop 48 = dktX4_stateOf_2 := dk_seg dksX4_stateOf_1 24 rfl rfl
theorem dksX4_stateOf_3 : cX4_stateOf.data.toList.drop 70 = dktX4_stateOf_3 := dk_seg dksX4_stateOf_2 22 rfl rfl
theorem dX4_stateOf_0 : decode cX4_stateOf 0 = .ok (.aload_n 0, 1) := dk_42 (dk_at dksX4_stateOf_0 0 rfl rfl)
theorem dX4_stateOf_1 : decode cX4_stateOf 1 = .ok (.iload_n 1, 1) := dk_27 (dk_at dksX4_stateOf_0 1 rfl rfl)
theorem dX4_stateOf_2 : decode cX4_stateOf 2 = .ok (.invokestatic 131, 3) := dk_184 0 131 (dk_at dksX4_stateOf_0 2 rfl rfl)
theorem dX4_stateOf_5 : decode cX4_stateOf 5 = .ok (.ifCond .ne 7, 3) := dk_154 0 7 (dk_at dksX4_stateOf_0 5 rfl rfl)
theorem dX4_stateOf_8 : decode cX4_stateOf 8 = .ok (.iconst 1, 1) := dk_4 (dk_at dksX4_stateOf_0 8 rfl rfl)
theorem dX4_stateOf_9 : decode cX4_stateOf 9 = .ok (.goto 15, 3) := dk_167 0 15 (dk_at dksX4_stateOf_0 9 rfl rfl)
theorem dX4_stateOf_12 : decode cX4_stateOf 12 = .ok (.iload_n 2, 1) := dk_28 (dk_at dksX4_stateOf_0 12 rfl rfl)
theorem dX4_stateOf_13 : decode cX4_stateOf 13 = .ok (.invokestatic 160, 3) := dk_184 0 160 (dk_at dksX4_stateOf_0 13 rfl rfl)
theorem dX4_stateOf_16 : decode cX4_stateOf 16 = .ok (.ifCond .ne 7, 3) := dk_154 0 7 (dk_at dksX4_stateOf_0 16 rfl rfl)
theorem dX4_stateOf_19 : decode cX4_stateOf 19 = .ok (.iconst 2, 1) := dk_5 (dk_at dksX4_stateOf_0 19 rfl rfl)
theorem dX4_stateOf_20 : decode cX4_stateOf 20 = .ok (.goto 4, 3) := dk_167 0 4 (dk_at dksX4_stateOf_0 20 rfl rfl)
theorem dX4_stateOf_23 : decode cX4_stateOf 23 = .ok (.iconst 0, 1) := dk_3 (dk_at dksX4_stateOf_0 23 rfl rfl)
theorem dX4_stateOf_24 : decode cX4_stateOf 24 = .ok (.putfield 22, 3) := dk_181 0 22 (dk_at dksX4_stateOf_1 0 rfl rfl)
theorem dX4_stateOf_27 : decode cX4_stateOf 27 = .ok (.aload_n 0, 1) := dk_42 (dk_at dksX4_stateOf_1 3 rfl rfl)
theorem dX4_stateOf_28 : decode cX4_stateOf 28 = .ok (.getfield 22, 3) := dk_180 0 22 (dk_at dksX4_stateOf_1 4 rfl rfl)
theorem dX4_stateOf_31 : decode cX4_stateOf 31 = .ok (.ifCond .le 6, 3) := dk_158 0 6 (dk_at dksX4_stateOf_1 7 rfl rfl)
theorem dX4_stateOf_34 : decode cX4_stateOf 34 = .ok (.bipush 32, 2) := dk_16 32 (dk_at dksX4_stateOf_1 10 rfl rfl)
theorem dX4_stateOf_36 : decode cX4_stateOf 36 = .ok (.ireturn, 1) := dk_172 (dk_at dksX4_stateOf_1 12 rfl rfl)
theorem dX4_stateOf_37 : decode cX4_stateOf 37 = .ok (.aload_n 0, 1) := dk_42 (dk_at dksX4_stateOf_1 13 rfl rfl)
theorem dX4_stateOf_38 : decode cX4_stateOf 38 = .ok (.iload_n 1, 1) := dk_27 (dk_at dksX4_stateOf_1 14 rfl rfl)
theorem dX4_stateOf_39 : decode cX4_stateOf 39 = .ok (.iload_n 2, 1) := dk_28 (dk_at dksX4_stateOf_1 15 rfl rfl)
theorem dX4_stateOf_40 : decode cX4_stateOf 40 = .ok (.iconst 2, 1) := dk_5 (dk_at dksX4_stateOf_1 16 rfl rfl)
theorem dX4_stateOf_41 : decode cX4_stateOf 41 = .ok (.iconst 2, 1) := dk_5 (dk_at dksX4_stateOf_1 17 rfl rfl)
theorem dX4_stateOf_42 : decode cX4_stateOf 42 = .ok (.invokevirtual 149, 3) := dk_182 0 149 (dk_at dksX4_stateOf_1 18 rfl rfl)
theorem dX4_stateOf_45 : decode cX4_stateOf 45 = .ok (.ifCond .eq 8, 3) := dk_153 0 8 (dk_at dksX4_stateOf_1 21 rfl rfl)
theorem dX4_stateOf_48 : decode cX4_stateOf 48 = .ok (.bipush 99, 2) := dk_16 99 (dk_at dksX4_stateOf_2 0 rfl rfl)
theorem dX4_stateOf_50 : decode cX4_stateOf 50 = .ok (.goto 33, 3) := dk_167 0 33 (dk_at dksX4_stateOf_2 2 rfl rfl)
theorem dX4_stateOf_53 : decode cX4_stateOf 53 = .ok (.aload_n 0, 1) := dk_42 (dk_at dksX4_stateOf_2 5 rfl rfl)
theorem dX4_stateOf_54 : decode cX4_stateOf 54 = .ok (.iload_n 1, 1) := dk_27 (dk_at dksX4_stateOf_2 6 rfl rfl)
theorem dX4_stateOf_55 : decode cX4_stateOf 55 = .ok (.iload_n 2, 1) := dk_28 (dk_at dksX4_stateOf_2 7 rfl rfl)
theorem dX4_stateOf_56 : decode cX4_stateOf 56 = .ok (.invokevirtual 217, 3) := dk_182 0 217 (dk_at dksX4_stateOf_2 8 rfl rfl)
theorem dX4_stateOf_59 : decode cX4_stateOf 59 = .ok (.ifCond .eq 8, 3) := dk_153 0 8 (dk_at dksX4_stateOf_2 11 rfl rfl)
theorem dX4_stateOf_62 : decode cX4_stateOf 62 = .ok (.bipush 120, 2) := dk_16 120 (dk_at dksX4_stateOf_2 14 rfl rfl)
theorem dX4_stateOf_64 : decode cX4_stateOf 64 = .ok (.goto 19, 3) := dk_167 0 19 (dk_at dksX4_stateOf_2 16 rfl rfl)
theorem dX4_stateOf_67 : decode cX4_stateOf 67 = .ok (.aload_n 0, 1) := dk_42 (dk_at dksX4_stateOf_2 19 rfl rfl)
theorem dX4_stateOf_68 : decode cX4_stateOf 68 = .ok (.iload_n 1, 1) := dk_27 (dk_at dksX4_stateOf_2 20 rfl rfl)
theorem dX4_stateOf_69 : decode cX4_stateOf 69 = .ok (.iload_n 2, 1) := dk_28 (dk_at dksX4_stateOf_2 21 rfl rfl)
theorem dX4_stateOf_70 : decode cX4_stateOf 70 = .ok (.invokevirtual 292, 3) := dk_182 1 36 (dk_at dksX4_stateOf_3 0 rfl rfl)
theorem dX4_stateOf_73 : decode cX4_stateOf 73 = .ok (.ifCond .eq 8, 3) := dk_153 0 8 (dk_at dksX4_stateOf_3 3 rfl rfl)
theorem dX4_stateOf_76 : decode cX4_stateOf 76 = .ok (.bipush 97, 2) := dk_16 97 (dk_at dksX4_stateOf_3 6 rfl rfl)
theorem dX4_stateOf_78 : decode cX4_stateOf 78 = .ok (.goto 5, 3) := dk_167 0 5 (dk_at dksX4_stateOf_3 8 rfl rfl)
theorem dX4_stateOf_81 : decode cX4_stateOf 81 = .ok (.bipush 45, 2) := dk_16 45 (dk_at dksX4_stateOf_3 11 rfl rfl)
theorem dX4_stateOf_83 : decode cX4_stateOf 83 = .ok (.ireturn, 1) := dk_172 (dk_at dksX4_stateOf_3 13 rfl rfl)
abbrev cX4_isPresent : ByteArray := prog_12_method_20_code
def yX4_isPresent : MethodName := ⟨RX4, "isPresent", "(II)Z"⟩
def dkwX4_isPresent_0 : List UInt8 := [42, 27, 28, 3, 6, 182, 0, 149, 172]
abbrev dktX4_isPresent_0 : List UInt8 := dkwX4_isPresent_0 ++ []
theorem dksX4_isPresent_0 : cX4_isPresent.data.toList.drop 0 = dktX4_isPresent_0 := by decide +kernel
theorem dX4_isPresent_0 : decode cX4_isPresent 0 = .ok (.aload_n 0, 1) := dk_42 (dk_at dksX4_isPresent_0 0 rfl rfl)
theorem dX4_isPresent_1 : decode cX4_isPresent 1 = .ok (.iload_n 1, 1) := dk_27 (dk_at dksX4_isPresent_0 1 rfl rfl)
theorem dX4_isPresent_2 : decode cX4_isPresent 2 = .ok (.iload_n 2, 1) := dk_28 (dk_at dksX4_isPresent_0 2 rfl rfl)
theorem dX4_isPresent_3 : decode cX4_isPresent 3 = .ok (.iconst 0, 1) := dk_3 (dk_at dksX4_isPresent_0 3 rfl rfl)
theorem dX4_isPresent_4 : decode cX4_isPresent 4 = .ok (.iconst 3, 1) := dk_6 (dk_at dksX4_isPresent_0 4 rfl rfl)
theorem dX4_isPresent_5 : decode cX4_isPresent 5 = .ok (.invokevirtual 149, 3) := dk_182 0 149 (dk_at dksX4_isPresent_0 5 rfl rfl)
theorem dX4_isPresent_8 : decode cX4_isPresent 8 = .ok (.ireturn, 1) := dk_172 (dk_at dksX4_isPresent_0 8 rfl rfl)
abbrev cX4_conflictCount : ByteArray := prog_12_method_78_code
def yX4_conflictCount : MethodName := ⟨RX4, "conflictCount", "(I)I"⟩
def dkwX4_conflictCount_0 : List UInt8 := [42, 27, 182, 1, 39, 172]
abbrev dktX4_conflictCount_0 : List UInt8 := dkwX4_conflictCount_0 ++ []
theorem dksX4_conflictCount_0 : cX4_conflictCount.data.toList.drop 0 = dktX4_conflictCount_0 := by decide +kernel
theorem dX4_conflictCount_0 : decode cX4_conflictCount 0 = .ok (.aload_n 0, 1) := dk_42 (dk_at dksX4_conflictCount_0 0 rfl rfl)
theorem dX4_conflictCount_1 : decode cX4_conflictCount 1 = .ok (.iload_n 1, 1) := dk_27 (dk_at dksX4_conflictCount_0 1 rfl rfl)
theorem dX4_conflictCount_2 : decode cX4_conflictCount 2 = .ok (.invokevirtual 295, 3) := dk_182 1 39 (dk_at dksX4_conflictCount_0 2 rfl rfl)
theorem dX4_conflictCount_5 : decode cX4_conflictCount 5 = .ok (.ireturn, 1) := dk_172 (dk_at dksX4_conflictCount_0 5 rfl rfl)
abbrev cX4_conflicts : ByteArray := prog_12_method_77_code
def yX4_conflicts : MethodName := ⟨RX4, "conflicts", "(I)I"⟩
def dkwX4_conflicts_3 : List UInt8 := [167, 255, 207, 28, 172]
abbrev dktX4_conflicts_3 : List UInt8 := dkwX4_conflicts_3 ++ []
def dkwX4_conflicts_2 : List UInt8 := [21, 4, 182, 0, 231, 153, 0, 7, 4, 167, 0, 4, 3, 96, 61, 132, 4, 1, 167, 255, 226, 132, 3, 1]
abbrev dktX4_conflicts_2 : List UInt8 := dkwX4_conflicts_2 ++ dktX4_conflicts_3
def dkwX4_conflicts_1 : List UInt8 := [42, 180, 0, 69, 162, 0, 47, 29, 4, 96, 54, 4, 21, 4, 42, 180, 0, 69, 162, 0, 27, 28, 42, 29]
abbrev dktX4_conflicts_1 : List UInt8 := dkwX4_conflicts_1 ++ dktX4_conflicts_2
def dkwX4_conflicts_0 : List UInt8 := [42, 27, 184, 0, 131, 182, 1, 29, 158, 0, 5, 3, 172, 42, 27, 4, 182, 0, 227, 3, 61, 3, 62, 29]
abbrev dktX4_conflicts_0 : List UInt8 := dkwX4_conflicts_0 ++ dktX4_conflicts_1
theorem dksX4_conflicts_0 : cX4_conflicts.data.toList.drop 0 = dktX4_conflicts_0 := by decide +kernel
theorem dksX4_conflicts_1 : cX4_conflicts.data.toList.drop 24 = dktX4_conflicts_1 := dk_seg dksX4_conflicts_0 24 rfl rfl
theorem dksX4_conflicts_2 : cX4_conflicts.data.toList.drop 48 = dktX4_conflicts_2 := dk_seg dksX4_conflicts_1 24 rfl rfl
theorem dksX4_conflicts_3 : cX4_conflicts.data.toList.drop 72 = dktX4_conflicts_3 := dk_seg dksX4_conflicts_2 24 rfl rfl
theorem dX4_conflicts_0 : decode cX4_conflicts 0 = .ok (.aload_n 0, 1) := dk_42 (dk_at dksX4_conflicts_0 0 rfl rfl)
theorem dX4_conflicts_1 : decode cX4_conflicts 1 = .ok (.iload_n 1, 1) := dk_27 (dk_at dksX4_conflicts_0 1 rfl rfl)
theorem dX4_conflicts_2 : decode cX4_conflicts 2 = .ok (.invokestatic 131, 3) := dk_184 0 131 (dk_at dksX4_conflicts_0 2 rfl rfl)
theorem dX4_conflicts_5 : decode cX4_conflicts 5 = .ok (.invokevirtual 285, 3) := dk_182 1 29 (dk_at dksX4_conflicts_0 5 rfl rfl)
theorem dX4_conflicts_8 : decode cX4_conflicts 8 = .ok (.ifCond .le 5, 3) := dk_158 0 5 (dk_at dksX4_conflicts_0 8 rfl rfl)
theorem dX4_conflicts_11 : decode cX4_conflicts 11 = .ok (.iconst 0, 1) := dk_3 (dk_at dksX4_conflicts_0 11 rfl rfl)
theorem dX4_conflicts_12 : decode cX4_conflicts 12 = .ok (.ireturn, 1) := dk_172 (dk_at dksX4_conflicts_0 12 rfl rfl)
theorem dX4_conflicts_13 : decode cX4_conflicts 13 = .ok (.aload_n 0, 1) := dk_42 (dk_at dksX4_conflicts_0 13 rfl rfl)
theorem dX4_conflicts_14 : decode cX4_conflicts 14 = .ok (.iload_n 1, 1) := dk_27 (dk_at dksX4_conflicts_0 14 rfl rfl)
theorem dX4_conflicts_15 : decode cX4_conflicts 15 = .ok (.iconst 1, 1) := dk_4 (dk_at dksX4_conflicts_0 15 rfl rfl)
theorem dX4_conflicts_16 : decode cX4_conflicts 16 = .ok (.invokevirtual 227, 3) := dk_182 0 227 (dk_at dksX4_conflicts_0 16 rfl rfl)
theorem dX4_conflicts_19 : decode cX4_conflicts 19 = .ok (.iconst 0, 1) := dk_3 (dk_at dksX4_conflicts_0 19 rfl rfl)
theorem dX4_conflicts_20 : decode cX4_conflicts 20 = .ok (.istore_n 2, 1) := dk_61 (dk_at dksX4_conflicts_0 20 rfl rfl)
theorem dX4_conflicts_21 : decode cX4_conflicts 21 = .ok (.iconst 0, 1) := dk_3 (dk_at dksX4_conflicts_0 21 rfl rfl)
theorem dX4_conflicts_22 : decode cX4_conflicts 22 = .ok (.istore_n 3, 1) := dk_62 (dk_at dksX4_conflicts_0 22 rfl rfl)
theorem dX4_conflicts_23 : decode cX4_conflicts 23 = .ok (.iload_n 3, 1) := dk_29 (dk_at dksX4_conflicts_0 23 rfl rfl)
theorem dX4_conflicts_24 : decode cX4_conflicts 24 = .ok (.aload_n 0, 1) := dk_42 (dk_at dksX4_conflicts_1 0 rfl rfl)
theorem dX4_conflicts_25 : decode cX4_conflicts 25 = .ok (.getfield 69, 3) := dk_180 0 69 (dk_at dksX4_conflicts_1 1 rfl rfl)
theorem dX4_conflicts_28 : decode cX4_conflicts 28 = .ok (.if_icmp .ge 47, 3) := dk_162 0 47 (dk_at dksX4_conflicts_1 4 rfl rfl)
theorem dX4_conflicts_31 : decode cX4_conflicts 31 = .ok (.iload_n 3, 1) := dk_29 (dk_at dksX4_conflicts_1 7 rfl rfl)
theorem dX4_conflicts_32 : decode cX4_conflicts 32 = .ok (.iconst 1, 1) := dk_4 (dk_at dksX4_conflicts_1 8 rfl rfl)
theorem dX4_conflicts_33 : decode cX4_conflicts 33 = .ok (.iadd, 1) := dk_96 (dk_at dksX4_conflicts_1 9 rfl rfl)
theorem dX4_conflicts_34 : decode cX4_conflicts 34 = .ok (.istore 4, 2) := dk_54 4 (dk_at dksX4_conflicts_1 10 rfl rfl)
theorem dX4_conflicts_36 : decode cX4_conflicts 36 = .ok (.iload 4, 2) := dk_21 4 (dk_at dksX4_conflicts_1 12 rfl rfl)
theorem dX4_conflicts_38 : decode cX4_conflicts 38 = .ok (.aload_n 0, 1) := dk_42 (dk_at dksX4_conflicts_1 14 rfl rfl)
theorem dX4_conflicts_39 : decode cX4_conflicts 39 = .ok (.getfield 69, 3) := dk_180 0 69 (dk_at dksX4_conflicts_1 15 rfl rfl)
theorem dX4_conflicts_42 : decode cX4_conflicts 42 = .ok (.if_icmp .ge 27, 3) := dk_162 0 27 (dk_at dksX4_conflicts_1 18 rfl rfl)
theorem dX4_conflicts_45 : decode cX4_conflicts 45 = .ok (.iload_n 2, 1) := dk_28 (dk_at dksX4_conflicts_1 21 rfl rfl)
theorem dX4_conflicts_46 : decode cX4_conflicts 46 = .ok (.aload_n 0, 1) := dk_42 (dk_at dksX4_conflicts_1 22 rfl rfl)
theorem dX4_conflicts_47 : decode cX4_conflicts 47 = .ok (.iload_n 3, 1) := dk_29 (dk_at dksX4_conflicts_1 23 rfl rfl)
theorem dX4_conflicts_48 : decode cX4_conflicts 48 = .ok (.iload 4, 2) := dk_21 4 (dk_at dksX4_conflicts_2 0 rfl rfl)
theorem dX4_conflicts_50 : decode cX4_conflicts 50 = .ok (.invokevirtual 231, 3) := dk_182 0 231 (dk_at dksX4_conflicts_2 2 rfl rfl)
theorem dX4_conflicts_53 : decode cX4_conflicts 53 = .ok (.ifCond .eq 7, 3) := dk_153 0 7 (dk_at dksX4_conflicts_2 5 rfl rfl)
theorem dX4_conflicts_56 : decode cX4_conflicts 56 = .ok (.iconst 1, 1) := dk_4 (dk_at dksX4_conflicts_2 8 rfl rfl)
theorem dX4_conflicts_57 : decode cX4_conflicts 57 = .ok (.goto 4, 3) := dk_167 0 4 (dk_at dksX4_conflicts_2 9 rfl rfl)
theorem dX4_conflicts_60 : decode cX4_conflicts 60 = .ok (.iconst 0, 1) := dk_3 (dk_at dksX4_conflicts_2 12 rfl rfl)
theorem dX4_conflicts_61 : decode cX4_conflicts 61 = .ok (.iadd, 1) := dk_96 (dk_at dksX4_conflicts_2 13 rfl rfl)
theorem dX4_conflicts_62 : decode cX4_conflicts 62 = .ok (.istore_n 2, 1) := dk_61 (dk_at dksX4_conflicts_2 14 rfl rfl)
theorem dX4_conflicts_63 : decode cX4_conflicts 63 = .ok (.iinc 4 1, 3) := dk_132 4 1 (dk_at dksX4_conflicts_2 15 rfl rfl)
theorem dX4_conflicts_66 : decode cX4_conflicts 66 = .ok (.goto (-30), 3) := dk_167 255 226 (dk_at dksX4_conflicts_2 18 rfl rfl)
theorem dX4_conflicts_69 : decode cX4_conflicts 69 = .ok (.iinc 3 1, 3) := dk_132 3 1 (dk_at dksX4_conflicts_2 21 rfl rfl)
theorem dX4_conflicts_72 : decode cX4_conflicts 72 = .ok (.goto (-49), 3) := dk_167 255 207 (dk_at dksX4_conflicts_3 0 rfl rfl)
theorem dX4_conflicts_75 : decode cX4_conflicts 75 = .ok (.iload_n 2, 1) := dk_28 (dk_at dksX4_conflicts_3 3 rfl rfl)
theorem dX4_conflicts_76 : decode cX4_conflicts 76 = .ok (.ireturn, 1) := dk_172 (dk_at dksX4_conflicts_3 4 rfl rfl)
abbrev cX4_conflictCountByItems : ByteArray := prog_12_method_79_code
def yX4_conflictCountByItems : MethodName := ⟨RX4, "conflictCountByItems", "(I)I"⟩
def dkwX4_conflictCountByItems_0 : List UInt8 := [42, 27, 182, 1, 39, 172]
abbrev dktX4_conflictCountByItems_0 : List UInt8 := dkwX4_conflictCountByItems_0 ++ []
theorem dksX4_conflictCountByItems_0 : cX4_conflictCountByItems.data.toList.drop 0 = dktX4_conflictCountByItems_0 := by decide +kernel
theorem dX4_conflictCountByItems_0 : decode cX4_conflictCountByItems 0 = .ok (.aload_n 0, 1) := dk_42 (dk_at dksX4_conflictCountByItems_0 0 rfl rfl)
theorem dX4_conflictCountByItems_1 : decode cX4_conflictCountByItems 1 = .ok (.iload_n 1, 1) := dk_27 (dk_at dksX4_conflictCountByItems_0 1 rfl rfl)
theorem dX4_conflictCountByItems_2 : decode cX4_conflictCountByItems 2 = .ok (.invokevirtual 295, 3) := dk_182 1 39 (dk_at dksX4_conflictCountByItems_0 2 rfl rfl)
theorem dX4_conflictCountByItems_5 : decode cX4_conflictCountByItems 5 = .ok (.ireturn, 1) := dk_172 (dk_at dksX4_conflictCountByItems_0 5 rfl rfl)
abbrev cX4_comesBefore : ByteArray := prog_12_method_80_code
def yX4_comesBefore : MethodName := ⟨RX4, "comesBefore", "(III)Z"⟩
def dkwX4_comesBefore_2 : List UInt8 := [182, 0, 234, 42, 180, 0, 60, 29, 46, 28, 122, 4, 126, 4, 160, 0, 7, 4, 167, 0, 4, 3, 172]
abbrev dktX4_comesBefore_2 : List UInt8 := dkwX4_comesBefore_2 ++ []
def dkwX4_comesBefore_1 : List UInt8 := [154, 0, 7, 5, 167, 0, 4, 3, 181, 0, 22, 42, 180, 0, 22, 158, 0, 5, 3, 172, 42, 27]
abbrev dktX4_comesBefore_1 : List UInt8 := dkwX4_comesBefore_1 ++ dktX4_comesBefore_2
def dkwX4_comesBefore_0 : List UInt8 := [42, 27, 184, 0, 131, 154, 0, 7, 4, 167, 0, 22, 28, 184, 0, 160, 153, 0, 10, 29, 184, 0, 160]
abbrev dktX4_comesBefore_0 : List UInt8 := dkwX4_comesBefore_0 ++ dktX4_comesBefore_1
theorem dksX4_comesBefore_0 : cX4_comesBefore.data.toList.drop 0 = dktX4_comesBefore_0 := by decide +kernel
theorem dksX4_comesBefore_1 : cX4_comesBefore.data.toList.drop 23 = dktX4_comesBefore_1 := dk_seg dksX4_comesBefore_0 23 rfl rfl
theorem dksX4_comesBefore_2 : cX4_comesBefore.data.toList.drop 45 = dktX4_comesBefore_2 := dk_seg dksX4_comesBefore_1 22 rfl rfl
theorem dX4_comesBefore_0 : decode cX4_comesBefore 0 = .ok (.aload_n 0, 1) := dk_42 (dk_at dksX4_comesBefore_0 0 rfl rfl)
theorem dX4_comesBefore_1 : decode cX4_comesBefore 1 = .ok (.iload_n 1, 1) := dk_27 (dk_at dksX4_comesBefore_0 1 rfl rfl)
theorem dX4_comesBefore_2 : decode cX4_comesBefore 2 = .ok (.invokestatic 131, 3) := dk_184 0 131 (dk_at dksX4_comesBefore_0 2 rfl rfl)
theorem dX4_comesBefore_5 : decode cX4_comesBefore 5 = .ok (.ifCond .ne 7, 3) := dk_154 0 7 (dk_at dksX4_comesBefore_0 5 rfl rfl)
theorem dX4_comesBefore_8 : decode cX4_comesBefore 8 = .ok (.iconst 1, 1) := dk_4 (dk_at dksX4_comesBefore_0 8 rfl rfl)
theorem dX4_comesBefore_9 : decode cX4_comesBefore 9 = .ok (.goto 22, 3) := dk_167 0 22 (dk_at dksX4_comesBefore_0 9 rfl rfl)
theorem dX4_comesBefore_12 : decode cX4_comesBefore 12 = .ok (.iload_n 2, 1) := dk_28 (dk_at dksX4_comesBefore_0 12 rfl rfl)
theorem dX4_comesBefore_13 : decode cX4_comesBefore 13 = .ok (.invokestatic 160, 3) := dk_184 0 160 (dk_at dksX4_comesBefore_0 13 rfl rfl)
theorem dX4_comesBefore_16 : decode cX4_comesBefore 16 = .ok (.ifCond .eq 10, 3) := dk_153 0 10 (dk_at dksX4_comesBefore_0 16 rfl rfl)
theorem dX4_comesBefore_19 : decode cX4_comesBefore 19 = .ok (.iload_n 3, 1) := dk_29 (dk_at dksX4_comesBefore_0 19 rfl rfl)
theorem dX4_comesBefore_20 : decode cX4_comesBefore 20 = .ok (.invokestatic 160, 3) := dk_184 0 160 (dk_at dksX4_comesBefore_0 20 rfl rfl)
theorem dX4_comesBefore_23 : decode cX4_comesBefore 23 = .ok (.ifCond .ne 7, 3) := dk_154 0 7 (dk_at dksX4_comesBefore_1 0 rfl rfl)
theorem dX4_comesBefore_26 : decode cX4_comesBefore 26 = .ok (.iconst 2, 1) := dk_5 (dk_at dksX4_comesBefore_1 3 rfl rfl)
theorem dX4_comesBefore_27 : decode cX4_comesBefore 27 = .ok (.goto 4, 3) := dk_167 0 4 (dk_at dksX4_comesBefore_1 4 rfl rfl)
theorem dX4_comesBefore_30 : decode cX4_comesBefore 30 = .ok (.iconst 0, 1) := dk_3 (dk_at dksX4_comesBefore_1 7 rfl rfl)
theorem dX4_comesBefore_31 : decode cX4_comesBefore 31 = .ok (.putfield 22, 3) := dk_181 0 22 (dk_at dksX4_comesBefore_1 8 rfl rfl)
theorem dX4_comesBefore_34 : decode cX4_comesBefore 34 = .ok (.aload_n 0, 1) := dk_42 (dk_at dksX4_comesBefore_1 11 rfl rfl)
theorem dX4_comesBefore_35 : decode cX4_comesBefore 35 = .ok (.getfield 22, 3) := dk_180 0 22 (dk_at dksX4_comesBefore_1 12 rfl rfl)
theorem dX4_comesBefore_38 : decode cX4_comesBefore 38 = .ok (.ifCond .le 5, 3) := dk_158 0 5 (dk_at dksX4_comesBefore_1 15 rfl rfl)
theorem dX4_comesBefore_41 : decode cX4_comesBefore 41 = .ok (.iconst 0, 1) := dk_3 (dk_at dksX4_comesBefore_1 18 rfl rfl)
theorem dX4_comesBefore_42 : decode cX4_comesBefore 42 = .ok (.ireturn, 1) := dk_172 (dk_at dksX4_comesBefore_1 19 rfl rfl)
theorem dX4_comesBefore_43 : decode cX4_comesBefore 43 = .ok (.aload_n 0, 1) := dk_42 (dk_at dksX4_comesBefore_1 20 rfl rfl)
theorem dX4_comesBefore_44 : decode cX4_comesBefore 44 = .ok (.iload_n 1, 1) := dk_27 (dk_at dksX4_comesBefore_1 21 rfl rfl)
theorem dX4_comesBefore_45 : decode cX4_comesBefore 45 = .ok (.invokevirtual 234, 3) := dk_182 0 234 (dk_at dksX4_comesBefore_2 0 rfl rfl)
theorem dX4_comesBefore_48 : decode cX4_comesBefore 48 = .ok (.aload_n 0, 1) := dk_42 (dk_at dksX4_comesBefore_2 3 rfl rfl)
theorem dX4_comesBefore_49 : decode cX4_comesBefore 49 = .ok (.getfield 60, 3) := dk_180 0 60 (dk_at dksX4_comesBefore_2 4 rfl rfl)
theorem dX4_comesBefore_52 : decode cX4_comesBefore 52 = .ok (.iload_n 3, 1) := dk_29 (dk_at dksX4_comesBefore_2 7 rfl rfl)
theorem dX4_comesBefore_53 : decode cX4_comesBefore 53 = .ok (.iaload, 1) := dk_46 (dk_at dksX4_comesBefore_2 8 rfl rfl)
theorem dX4_comesBefore_54 : decode cX4_comesBefore 54 = .ok (.iload_n 2, 1) := dk_28 (dk_at dksX4_comesBefore_2 9 rfl rfl)
theorem dX4_comesBefore_55 : decode cX4_comesBefore 55 = .ok (.ishr, 1) := dk_122 (dk_at dksX4_comesBefore_2 10 rfl rfl)
theorem dX4_comesBefore_56 : decode cX4_comesBefore 56 = .ok (.iconst 1, 1) := dk_4 (dk_at dksX4_comesBefore_2 11 rfl rfl)
theorem dX4_comesBefore_57 : decode cX4_comesBefore 57 = .ok (.iand, 1) := dk_126 (dk_at dksX4_comesBefore_2 12 rfl rfl)
theorem dX4_comesBefore_58 : decode cX4_comesBefore 58 = .ok (.iconst 1, 1) := dk_4 (dk_at dksX4_comesBefore_2 13 rfl rfl)
theorem dX4_comesBefore_59 : decode cX4_comesBefore 59 = .ok (.if_icmp .ne 7, 3) := dk_160 0 7 (dk_at dksX4_comesBefore_2 14 rfl rfl)
theorem dX4_comesBefore_62 : decode cX4_comesBefore 62 = .ok (.iconst 1, 1) := dk_4 (dk_at dksX4_comesBefore_2 17 rfl rfl)
theorem dX4_comesBefore_63 : decode cX4_comesBefore 63 = .ok (.goto 4, 3) := dk_167 0 4 (dk_at dksX4_comesBefore_2 18 rfl rfl)
theorem dX4_comesBefore_66 : decode cX4_comesBefore 66 = .ok (.iconst 0, 1) := dk_3 (dk_at dksX4_comesBefore_2 21 rfl rfl)
theorem dX4_comesBefore_67 : decode cX4_comesBefore 67 = .ok (.ireturn, 1) := dk_172 (dk_at dksX4_comesBefore_2 22 rfl rfl)
abbrev cX4_isSerializable : ByteArray := prog_12_method_81_code
def yX4_isSerializable : MethodName := ⟨RX4, "isSerializable", "(I)Z"⟩
def dkwX4_isSerializable_1 : List UInt8 := [172]
abbrev dktX4_isSerializable_1 : List UInt8 := dkwX4_isSerializable_1 ++ []
def dkwX4_isSerializable_0 : List UInt8 := [42, 27, 184, 0, 131, 182, 1, 29, 154, 0, 15, 42, 27, 182, 0, 243, 153, 0, 7, 4, 167, 0, 4, 3]
abbrev dktX4_isSerializable_0 : List UInt8 := dkwX4_isSerializable_0 ++ dktX4_isSerializable_1
theorem dksX4_isSerializable_0 : cX4_isSerializable.data.toList.drop 0 = dktX4_isSerializable_0 := by decide +kernel
theorem dksX4_isSerializable_1 : cX4_isSerializable.data.toList.drop 24 = dktX4_isSerializable_1 := dk_seg dksX4_isSerializable_0 24 rfl rfl
theorem dX4_isSerializable_0 : decode cX4_isSerializable 0 = .ok (.aload_n 0, 1) := dk_42 (dk_at dksX4_isSerializable_0 0 rfl rfl)
theorem dX4_isSerializable_1 : decode cX4_isSerializable 1 = .ok (.iload_n 1, 1) := dk_27 (dk_at dksX4_isSerializable_0 1 rfl rfl)
theorem dX4_isSerializable_2 : decode cX4_isSerializable 2 = .ok (.invokestatic 131, 3) := dk_184 0 131 (dk_at dksX4_isSerializable_0 2 rfl rfl)
theorem dX4_isSerializable_5 : decode cX4_isSerializable 5 = .ok (.invokevirtual 285, 3) := dk_182 1 29 (dk_at dksX4_isSerializable_0 5 rfl rfl)
theorem dX4_isSerializable_8 : decode cX4_isSerializable 8 = .ok (.ifCond .ne 15, 3) := dk_154 0 15 (dk_at dksX4_isSerializable_0 8 rfl rfl)
theorem dX4_isSerializable_11 : decode cX4_isSerializable 11 = .ok (.aload_n 0, 1) := dk_42 (dk_at dksX4_isSerializable_0 11 rfl rfl)
theorem dX4_isSerializable_12 : decode cX4_isSerializable 12 = .ok (.iload_n 1, 1) := dk_27 (dk_at dksX4_isSerializable_0 12 rfl rfl)
theorem dX4_isSerializable_13 : decode cX4_isSerializable 13 = .ok (.invokevirtual 243, 3) := dk_182 0 243 (dk_at dksX4_isSerializable_0 13 rfl rfl)
theorem dX4_isSerializable_16 : decode cX4_isSerializable 16 = .ok (.ifCond .eq 7, 3) := dk_153 0 7 (dk_at dksX4_isSerializable_0 16 rfl rfl)
theorem dX4_isSerializable_19 : decode cX4_isSerializable 19 = .ok (.iconst 1, 1) := dk_4 (dk_at dksX4_isSerializable_0 19 rfl rfl)
theorem dX4_isSerializable_20 : decode cX4_isSerializable 20 = .ok (.goto 4, 3) := dk_167 0 4 (dk_at dksX4_isSerializable_0 20 rfl rfl)
theorem dX4_isSerializable_23 : decode cX4_isSerializable 23 = .ok (.iconst 0, 1) := dk_3 (dk_at dksX4_isSerializable_0 23 rfl rfl)
theorem dX4_isSerializable_24 : decode cX4_isSerializable 24 = .ok (.ireturn, 1) := dk_172 (dk_at dksX4_isSerializable_1 0 rfl rfl)
abbrev cX4_isSerializableByWalks : ByteArray := prog_12_method_82_code
def yX4_isSerializableByWalks : MethodName := ⟨RX4, "isSerializableByWalks", "(I)Z"⟩
def dkwX4_isSerializableByWalks_1 : List UInt8 := [172]
abbrev dktX4_isSerializableByWalks_1 : List UInt8 := dkwX4_isSerializableByWalks_1 ++ []
def dkwX4_isSerializableByWalks_0 : List UInt8 := [42, 27, 184, 0, 131, 182, 1, 29, 154, 0, 15, 42, 27, 182, 0, 243, 153, 0, 7, 4, 167, 0, 4, 3]
abbrev dktX4_isSerializableByWalks_0 : List UInt8 := dkwX4_isSerializableByWalks_0 ++ dktX4_isSerializableByWalks_1
theorem dksX4_isSerializableByWalks_0 : cX4_isSerializableByWalks.data.toList.drop 0 = dktX4_isSerializableByWalks_0 := by decide +kernel
theorem dksX4_isSerializableByWalks_1 : cX4_isSerializableByWalks.data.toList.drop 24 = dktX4_isSerializableByWalks_1 := dk_seg dksX4_isSerializableByWalks_0 24 rfl rfl
theorem dX4_isSerializableByWalks_0 : decode cX4_isSerializableByWalks 0 = .ok (.aload_n 0, 1) := dk_42 (dk_at dksX4_isSerializableByWalks_0 0 rfl rfl)
theorem dX4_isSerializableByWalks_1 : decode cX4_isSerializableByWalks 1 = .ok (.iload_n 1, 1) := dk_27 (dk_at dksX4_isSerializableByWalks_0 1 rfl rfl)
theorem dX4_isSerializableByWalks_2 : decode cX4_isSerializableByWalks 2 = .ok (.invokestatic 131, 3) := dk_184 0 131 (dk_at dksX4_isSerializableByWalks_0 2 rfl rfl)
theorem dX4_isSerializableByWalks_5 : decode cX4_isSerializableByWalks 5 = .ok (.invokevirtual 285, 3) := dk_182 1 29 (dk_at dksX4_isSerializableByWalks_0 5 rfl rfl)
theorem dX4_isSerializableByWalks_8 : decode cX4_isSerializableByWalks 8 = .ok (.ifCond .ne 15, 3) := dk_154 0 15 (dk_at dksX4_isSerializableByWalks_0 8 rfl rfl)
theorem dX4_isSerializableByWalks_11 : decode cX4_isSerializableByWalks 11 = .ok (.aload_n 0, 1) := dk_42 (dk_at dksX4_isSerializableByWalks_0 11 rfl rfl)
theorem dX4_isSerializableByWalks_12 : decode cX4_isSerializableByWalks 12 = .ok (.iload_n 1, 1) := dk_27 (dk_at dksX4_isSerializableByWalks_0 12 rfl rfl)
theorem dX4_isSerializableByWalks_13 : decode cX4_isSerializableByWalks 13 = .ok (.invokevirtual 243, 3) := dk_182 0 243 (dk_at dksX4_isSerializableByWalks_0 13 rfl rfl)
theorem dX4_isSerializableByWalks_16 : decode cX4_isSerializableByWalks 16 = .ok (.ifCond .eq 7, 3) := dk_153 0 7 (dk_at dksX4_isSerializableByWalks_0 16 rfl rfl)
theorem dX4_isSerializableByWalks_19 : decode cX4_isSerializableByWalks 19 = .ok (.iconst 1, 1) := dk_4 (dk_at dksX4_isSerializableByWalks_0 19 rfl rfl)
theorem dX4_isSerializableByWalks_20 : decode cX4_isSerializableByWalks 20 = .ok (.goto 4, 3) := dk_167 0 4 (dk_at dksX4_isSerializableByWalks_0 20 rfl rfl)
theorem dX4_isSerializableByWalks_23 : decode cX4_isSerializableByWalks 23 = .ok (.iconst 0, 1) := dk_3 (dk_at dksX4_isSerializableByWalks_0 23 rfl rfl)
theorem dX4_isSerializableByWalks_24 : decode cX4_isSerializableByWalks 24 = .ok (.ireturn, 1) := dk_172 (dk_at dksX4_isSerializableByWalks_1 0 rfl rfl)
abbrev cX4_serialOrders : ByteArray := prog_12_method_84_code
def yX4_serialOrders : MethodName := ⟨RX4, "serialOrders", "(I)I"⟩
def dkwX4_serialOrders_0 : List UInt8 := [42, 27, 182, 1, 42, 172]
abbrev dktX4_serialOrders_0 : List UInt8 := dkwX4_serialOrders_0 ++ []
theorem dksX4_serialOrders_0 : cX4_serialOrders.data.toList.drop 0 = dktX4_serialOrders_0 := by decide +kernel
theorem dX4_serialOrders_0 : decode cX4_serialOrders 0 = .ok (.aload_n 0, 1) := dk_42 (dk_at dksX4_serialOrders_0 0 rfl rfl)
theorem dX4_serialOrders_1 : decode cX4_serialOrders 1 = .ok (.iload_n 1, 1) := dk_27 (dk_at dksX4_serialOrders_0 1 rfl rfl)
theorem dX4_serialOrders_2 : decode cX4_serialOrders 2 = .ok (.invokevirtual 298, 3) := dk_182 1 42 (dk_at dksX4_serialOrders_0 2 rfl rfl)
theorem dX4_serialOrders_5 : decode cX4_serialOrders 5 = .ok (.ireturn, 1) := dk_172 (dk_at dksX4_serialOrders_0 5 rfl rfl)
abbrev cX4_orders : ByteArray := prog_12_method_83_code
def yX4_orders : MethodName := ⟨RX4, "orders", "(I)I"⟩
def dkwX4_orders_6 : List UInt8 := [180, 0, 72, 46, 172]
abbrev dktX4_orders_6 : List UInt8 := dkwX4_orders_6 ++ []
def dkwX4_orders_5 : List UInt8 := [180, 0, 66, 28, 46, 96, 79, 132, 3, 1, 167, 255, 184, 132, 2, 1, 167, 255, 170, 42, 180, 0, 66, 42]
abbrev dktX4_orders_5 : List UInt8 := dkwX4_orders_5 ++ dktX4_orders_6
def dkwX4_orders_4 : List UInt8 := [4, 167, 0, 4, 3, 54, 4, 21, 4, 153, 0, 22, 42, 180, 0, 66, 28, 4, 29, 120, 128, 92, 46, 42]
abbrev dktX4_orders_4 : List UInt8 := dkwX4_orders_4 ++ dktX4_orders_5
def dkwX4_orders_3 : List UInt8 := [160, 0, 28, 28, 29, 122, 4, 126, 154, 0, 20, 42, 180, 0, 60, 29, 46, 28, 2, 130, 126, 154, 0, 7]
abbrev dktX4_orders_3 : List UInt8 := dkwX4_orders_3 ++ dktX4_orders_4
def dkwX4_orders_2 : List UInt8 := [3, 61, 28, 16, 64, 162, 0, 86, 4, 62, 29, 8, 163, 0, 73, 42, 180, 0, 72, 29, 122, 4, 126, 4]
abbrev dktX4_orders_2 : List UInt8 := dkwX4_orders_2 ++ dktX4_orders_3
def dkwX4_orders_1 : List UInt8 := [162, 0, 24, 42, 180, 0, 66, 28, 28, 154, 0, 7, 4, 167, 0, 4, 3, 79, 132, 2, 1, 167, 255, 232]
abbrev dktX4_orders_1 : List UInt8 := dkwX4_orders_1 ++ dktX4_orders_2
def dkwX4_orders_0 : List UInt8 := [42, 27, 184, 0, 131, 182, 1, 29, 158, 0, 5, 3, 172, 42, 27, 182, 0, 234, 3, 61, 28, 16, 64]
abbrev dktX4_orders_0 : List UInt8 := dkwX4_orders_0 ++ dktX4_orders_1
theorem dksX4_orders_0 : cX4_orders.data.toList.drop 0 = dktX4_orders_0 := by decide +kernel
theorem dksX4_orders_1 : cX4_orders.data.toList.drop 23 = dktX4_orders_1 := dk_seg dksX4_orders_0 23 rfl rfl
theorem dksX4_orders_2 : cX4_orders.data.toList.drop 47 = dktX4_orders_2 := dk_seg dksX4_orders_1 24 rfl rfl
theorem dksX4_orders_3 : cX4_orders.data.toList.drop 71 = dktX4_orders_3 := dk_seg dksX4_orders_2 24 rfl rfl
theorem dksX4_orders_4 : cX4_orders.data.toList.drop 95 = dktX4_orders_4 := dk_seg dksX4_orders_3 24 rfl rfl
theorem dksX4_orders_5 : cX4_orders.data.toList.drop 119 = dktX4_orders_5 := dk_seg dksX4_orders_4 24 rfl rfl
theorem dksX4_orders_6 : cX4_orders.data.toList.drop 143 = dktX4_orders_6 := dk_seg dksX4_orders_5 24 rfl rfl
theorem dX4_orders_0 : decode cX4_orders 0 = .ok (.aload_n 0, 1) := dk_42 (dk_at dksX4_orders_0 0 rfl rfl)
theorem dX4_orders_1 : decode cX4_orders 1 = .ok (.iload_n 1, 1) := dk_27 (dk_at dksX4_orders_0 1 rfl rfl)
theorem dX4_orders_2 : decode cX4_orders 2 = .ok (.invokestatic 131, 3) := dk_184 0 131 (dk_at dksX4_orders_0 2 rfl rfl)
theorem dX4_orders_5 : decode cX4_orders 5 = .ok (.invokevirtual 285, 3) := dk_182 1 29 (dk_at dksX4_orders_0 5 rfl rfl)
theorem dX4_orders_8 : decode cX4_orders 8 = .ok (.ifCond .le 5, 3) := dk_158 0 5 (dk_at dksX4_orders_0 8 rfl rfl)
theorem dX4_orders_11 : decode cX4_orders 11 = .ok (.iconst 0, 1) := dk_3 (dk_at dksX4_orders_0 11 rfl rfl)
theorem dX4_orders_12 : decode cX4_orders 12 = .ok (.ireturn, 1) := dk_172 (dk_at dksX4_orders_0 12 rfl rfl)
theorem dX4_orders_13 : decode cX4_orders 13 = .ok (.aload_n 0, 1) := dk_42 (dk_at dksX4_orders_0 13 rfl rfl)
theorem dX4_orders_14 : decode cX4_orders 14 = .ok (.iload_n 1, 1) := dk_27 (dk_at dksX4_orders_0 14 rfl rfl)
theorem dX4_orders_15 : decode cX4_orders 15 = .ok (.invokevirtual 234, 3) := dk_182 0 234 (dk_at dksX4_orders_0 15 rfl rfl)
theorem dX4_orders_18 : decode cX4_orders 18 = .ok (.iconst 0, 1) := dk_3 (dk_at dksX4_orders_0 18 rfl rfl)
theorem dX4_orders_19 : decode cX4_orders 19 = .ok (.istore_n 2, 1) := dk_61 (dk_at dksX4_orders_0 19 rfl rfl)
theorem dX4_orders_20 : decode cX4_orders 20 = .ok (.iload_n 2, 1) := dk_28 (dk_at dksX4_orders_0 20 rfl rfl)
theorem dX4_orders_21 : decode cX4_orders 21 = .ok (.bipush 64, 2) := dk_16 64 (dk_at dksX4_orders_0 21 rfl rfl)
theorem dX4_orders_23 : decode cX4_orders 23 = .ok (.if_icmp .ge 24, 3) := dk_162 0 24 (dk_at dksX4_orders_1 0 rfl rfl)
theorem dX4_orders_26 : decode cX4_orders 26 = .ok (.aload_n 0, 1) := dk_42 (dk_at dksX4_orders_1 3 rfl rfl)
theorem dX4_orders_27 : decode cX4_orders 27 = .ok (.getfield 66, 3) := dk_180 0 66 (dk_at dksX4_orders_1 4 rfl rfl)
theorem dX4_orders_30 : decode cX4_orders 30 = .ok (.iload_n 2, 1) := dk_28 (dk_at dksX4_orders_1 7 rfl rfl)
theorem dX4_orders_31 : decode cX4_orders 31 = .ok (.iload_n 2, 1) := dk_28 (dk_at dksX4_orders_1 8 rfl rfl)
theorem dX4_orders_32 : decode cX4_orders 32 = .ok (.ifCond .ne 7, 3) := dk_154 0 7 (dk_at dksX4_orders_1 9 rfl rfl)
theorem dX4_orders_35 : decode cX4_orders 35 = .ok (.iconst 1, 1) := dk_4 (dk_at dksX4_orders_1 12 rfl rfl)
theorem dX4_orders_36 : decode cX4_orders 36 = .ok (.goto 4, 3) := dk_167 0 4 (dk_at dksX4_orders_1 13 rfl rfl)
theorem dX4_orders_39 : decode cX4_orders 39 = .ok (.iconst 0, 1) := dk_3 (dk_at dksX4_orders_1 16 rfl rfl)
theorem dX4_orders_40 : decode cX4_orders 40 = .ok (.iastore, 1) := dk_79 (dk_at dksX4_orders_1 17 rfl rfl)
theorem dX4_orders_41 : decode cX4_orders 41 = .ok (.iinc 2 1, 3) := dk_132 2 1 (dk_at dksX4_orders_1 18 rfl rfl)
theorem dX4_orders_44 : decode cX4_orders 44 = .ok (.goto (-24), 3) := dk_167 255 232 (dk_at dksX4_orders_1 21 rfl rfl)
theorem dX4_orders_47 : decode cX4_orders 47 = .ok (.iconst 0, 1) := dk_3 (dk_at dksX4_orders_2 0 rfl rfl)
theorem dX4_orders_48 : decode cX4_orders 48 = .ok (.istore_n 2, 1) := dk_61 (dk_at dksX4_orders_2 1 rfl rfl)
theorem dX4_orders_49 : decode cX4_orders 49 = .ok (.iload_n 2, 1) := dk_28 (dk_at dksX4_orders_2 2 rfl rfl)
theorem dX4_orders_50 : decode cX4_orders 50 = .ok (.bipush 64, 2) := dk_16 64 (dk_at dksX4_orders_2 3 rfl rfl)
theorem dX4_orders_52 : decode cX4_orders 52 = .ok (.if_icmp .ge 86, 3) := dk_162 0 86 (dk_at dksX4_orders_2 5 rfl rfl)
theorem dX4_orders_55 : decode cX4_orders 55 = .ok (.iconst 1, 1) := dk_4 (dk_at dksX4_orders_2 8 rfl rfl)
theorem dX4_orders_56 : decode cX4_orders 56 = .ok (.istore_n 3, 1) := dk_62 (dk_at dksX4_orders_2 9 rfl rfl)
theorem dX4_orders_57 : decode cX4_orders 57 = .ok (.iload_n 3, 1) := dk_29 (dk_at dksX4_orders_2 10 rfl rfl)
theorem dX4_orders_58 : decode cX4_orders 58 = .ok (.iconst 5, 1) := dk_8 (dk_at dksX4_orders_2 11 rfl rfl)
theorem dX4_orders_59 : decode cX4_orders 59 = .ok (.if_icmp .gt 73, 3) := dk_163 0 73 (dk_at dksX4_orders_2 12 rfl rfl)
theorem dX4_orders_62 : decode cX4_orders 62 = .ok (.aload_n 0, 1) := dk_42 (dk_at dksX4_orders_2 15 rfl rfl)
theorem dX4_orders_63 : decode cX4_orders 63 = .ok (.getfield 72, 3) := dk_180 0 72 (dk_at dksX4_orders_2 16 rfl rfl)
theorem dX4_orders_66 : decode cX4_orders 66 = .ok (.iload_n 3, 1) := dk_29 (dk_at dksX4_orders_2 19 rfl rfl)
theorem dX4_orders_67 : decode cX4_orders 67 = .ok (.ishr, 1) := dk_122 (dk_at dksX4_orders_2 20 rfl rfl)
theorem dX4_orders_68 : decode cX4_orders 68 = .ok (.iconst 1, 1) := dk_4 (dk_at dksX4_orders_2 21 rfl rfl)
theorem dX4_orders_69 : decode cX4_orders 69 = .ok (.iand, 1) := dk_126 (dk_at dksX4_orders_2 22 rfl rfl)
theorem dX4_orders_70 : decode cX4_orders 70 = .ok (.iconst 1, 1) := dk_4 (dk_at dksX4_orders_2 23 rfl rfl)
theorem dX4_orders_71 : decode cX4_orders 71 = .ok (.if_icmp .ne 28, 3) := dk_160 0 28 (dk_at dksX4_orders_3 0 rfl rfl)
theorem dX4_orders_74 : decode cX4_orders 74 = .ok (.iload_n 2, 1) := dk_28 (dk_at dksX4_orders_3 3 rfl rfl)
theorem dX4_orders_75 : decode cX4_orders 75 = .ok (.iload_n 3, 1) := dk_29 (dk_at dksX4_orders_3 4 rfl rfl)
theorem dX4_orders_76 : decode cX4_orders 76 = .ok (.ishr, 1) := dk_122 (dk_at dksX4_orders_3 5 rfl rfl)
theorem dX4_orders_77 : decode cX4_orders 77 = .ok (.iconst 1, 1) := dk_4 (dk_at dksX4_orders_3 6 rfl rfl)
theorem dX4_orders_78 : decode cX4_orders 78 = .ok (.iand, 1) := dk_126 (dk_at dksX4_orders_3 7 rfl rfl)
theorem dX4_orders_79 : decode cX4_orders 79 = .ok (.ifCond .ne 20, 3) := dk_154 0 20 (dk_at dksX4_orders_3 8 rfl rfl)
theorem dX4_orders_82 : decode cX4_orders 82 = .ok (.aload_n 0, 1) := dk_42 (dk_at dksX4_orders_3 11 rfl rfl)
theorem dX4_orders_83 : decode cX4_orders 83 = .ok (.getfield 60, 3) := dk_180 0 60 (dk_at dksX4_orders_3 12 rfl rfl)
theorem dX4_orders_86 : decode cX4_orders 86 = .ok (.iload_n 3, 1) := dk_29 (dk_at dksX4_orders_3 15 rfl rfl)
theorem dX4_orders_87 : decode cX4_orders 87 = .ok (.iaload, 1) := dk_46 (dk_at dksX4_orders_3 16 rfl rfl)
theorem dX4_orders_88 : decode cX4_orders 88 = .ok (.iload_n 2, 1) := dk_28 (dk_at dksX4_orders_3 17 rfl rfl)
theorem dX4_orders_89 : decode cX4_orders 89 = .ok (.iconst (-1), 1) := dk_2 (dk_at dksX4_orders_3 18 rfl rfl)
theorem dX4_orders_90 : decode cX4_orders 90 = .ok (.ixor, 1) := dk_130 (dk_at dksX4_orders_3 19 rfl rfl)
theorem dX4_orders_91 : decode cX4_orders 91 = .ok (.iand, 1) := dk_126 (dk_at dksX4_orders_3 20 rfl rfl)
theorem dX4_orders_92 : decode cX4_orders 92 = .ok (.ifCond .ne 7, 3) := dk_154 0 7 (dk_at dksX4_orders_3 21 rfl rfl)
theorem dX4_orders_95 : decode cX4_orders 95 = .ok (.iconst 1, 1) := dk_4 (dk_at dksX4_orders_4 0 rfl rfl)
theorem dX4_orders_96 : decode cX4_orders 96 = .ok (.goto 4, 3) := dk_167 0 4 (dk_at dksX4_orders_4 1 rfl rfl)
theorem dX4_orders_99 : decode cX4_orders 99 = .ok (.iconst 0, 1) := dk_3 (dk_at dksX4_orders_4 4 rfl rfl)
theorem dX4_orders_100 : decode cX4_orders 100 = .ok (.istore 4, 2) := dk_54 4 (dk_at dksX4_orders_4 5 rfl rfl)
theorem dX4_orders_102 : decode cX4_orders 102 = .ok (.iload 4, 2) := dk_21 4 (dk_at dksX4_orders_4 7 rfl rfl)
theorem dX4_orders_104 : decode cX4_orders 104 = .ok (.ifCond .eq 22, 3) := dk_153 0 22 (dk_at dksX4_orders_4 9 rfl rfl)
theorem dX4_orders_107 : decode cX4_orders 107 = .ok (.aload_n 0, 1) := dk_42 (dk_at dksX4_orders_4 12 rfl rfl)
theorem dX4_orders_108 : decode cX4_orders 108 = .ok (.getfield 66, 3) := dk_180 0 66 (dk_at dksX4_orders_4 13 rfl rfl)
theorem dX4_orders_111 : decode cX4_orders 111 = .ok (.iload_n 2, 1) := dk_28 (dk_at dksX4_orders_4 16 rfl rfl)
theorem dX4_orders_112 : decode cX4_orders 112 = .ok (.iconst 1, 1) := dk_4 (dk_at dksX4_orders_4 17 rfl rfl)
theorem dX4_orders_113 : decode cX4_orders 113 = .ok (.iload_n 3, 1) := dk_29 (dk_at dksX4_orders_4 18 rfl rfl)
theorem dX4_orders_114 : decode cX4_orders 114 = .ok (.ishl, 1) := dk_120 (dk_at dksX4_orders_4 19 rfl rfl)
theorem dX4_orders_115 : decode cX4_orders 115 = .ok (.ior, 1) := dk_128 (dk_at dksX4_orders_4 20 rfl rfl)
theorem dX4_orders_116 : decode cX4_orders 116 = .ok (.dup2, 1) := dk_92 (dk_at dksX4_orders_4 21 rfl rfl)
theorem dX4_orders_117 : decode cX4_orders 117 = .ok (.iaload, 1) := dk_46 (dk_at dksX4_orders_4 22 rfl rfl)
theorem dX4_orders_118 : decode cX4_orders 118 = .ok (.aload_n 0, 1) := dk_42 (dk_at dksX4_orders_4 23 rfl rfl)
theorem dX4_orders_119 : decode cX4_orders 119 = .ok (.getfield 66, 3) := dk_180 0 66 (dk_at dksX4_orders_5 0 rfl rfl)
theorem dX4_orders_122 : decode cX4_orders 122 = .ok (.iload_n 2, 1) := dk_28 (dk_at dksX4_orders_5 3 rfl rfl)
theorem dX4_orders_123 : decode cX4_orders 123 = .ok (.iaload, 1) := dk_46 (dk_at dksX4_orders_5 4 rfl rfl)
theorem dX4_orders_124 : decode cX4_orders 124 = .ok (.iadd, 1) := dk_96 (dk_at dksX4_orders_5 5 rfl rfl)
theorem dX4_orders_125 : decode cX4_orders 125 = .ok (.iastore, 1) := dk_79 (dk_at dksX4_orders_5 6 rfl rfl)
theorem dX4_orders_126 : decode cX4_orders 126 = .ok (.iinc 3 1, 3) := dk_132 3 1 (dk_at dksX4_orders_5 7 rfl rfl)
theorem dX4_orders_129 : decode cX4_orders 129 = .ok (.goto (-72), 3) := dk_167 255 184 (dk_at dksX4_orders_5 10 rfl rfl)
theorem dX4_orders_132 : decode cX4_orders 132 = .ok (.iinc 2 1, 3) := dk_132 2 1 (dk_at dksX4_orders_5 13 rfl rfl)
theorem dX4_orders_135 : decode cX4_orders 135 = .ok (.goto (-86), 3) := dk_167 255 170 (dk_at dksX4_orders_5 16 rfl rfl)
theorem dX4_orders_138 : decode cX4_orders 138 = .ok (.aload_n 0, 1) := dk_42 (dk_at dksX4_orders_5 19 rfl rfl)
theorem dX4_orders_139 : decode cX4_orders 139 = .ok (.getfield 66, 3) := dk_180 0 66 (dk_at dksX4_orders_5 20 rfl rfl)
theorem dX4_orders_142 : decode cX4_orders 142 = .ok (.aload_n 0, 1) := dk_42 (dk_at dksX4_orders_5 23 rfl rfl)
theorem dX4_orders_143 : decode cX4_orders 143 = .ok (.getfield 72, 3) := dk_180 0 72 (dk_at dksX4_orders_6 0 rfl rfl)
theorem dX4_orders_146 : decode cX4_orders 146 = .ok (.iaload, 1) := dk_46 (dk_at dksX4_orders_6 3 rfl rfl)
theorem dX4_orders_147 : decode cX4_orders 147 = .ok (.ireturn, 1) := dk_172 (dk_at dksX4_orders_6 4 rfl rfl)
abbrev cX4_serialOrdersByTrying : ByteArray := prog_12_method_85_code
def yX4_serialOrdersByTrying : MethodName := ⟨RX4, "serialOrdersByTrying", "(I)I"⟩
def dkwX4_serialOrdersByTrying_0 : List UInt8 := [42, 27, 182, 1, 42, 172]
abbrev dktX4_serialOrdersByTrying_0 : List UInt8 := dkwX4_serialOrdersByTrying_0 ++ []
theorem dksX4_serialOrdersByTrying_0 : cX4_serialOrdersByTrying.data.toList.drop 0 = dktX4_serialOrdersByTrying_0 := by decide +kernel
theorem dX4_serialOrdersByTrying_0 : decode cX4_serialOrdersByTrying 0 = .ok (.aload_n 0, 1) := dk_42 (dk_at dksX4_serialOrdersByTrying_0 0 rfl rfl)
theorem dX4_serialOrdersByTrying_1 : decode cX4_serialOrdersByTrying 1 = .ok (.iload_n 1, 1) := dk_27 (dk_at dksX4_serialOrdersByTrying_0 1 rfl rfl)
theorem dX4_serialOrdersByTrying_2 : decode cX4_serialOrdersByTrying 2 = .ok (.invokevirtual 298, 3) := dk_182 1 42 (dk_at dksX4_serialOrdersByTrying_0 2 rfl rfl)
theorem dX4_serialOrdersByTrying_5 : decode cX4_serialOrdersByTrying 5 = .ok (.ireturn, 1) := dk_172 (dk_at dksX4_serialOrdersByTrying_0 5 rfl rfl)
abbrev cX4_serialAt : ByteArray := prog_12_method_86_code
def yX4_serialAt : MethodName := ⟨RX4, "serialAt", "(II)I"⟩
def dkwX4_serialAt_3 : List UInt8 := [167, 0, 9, 42, 180, 0, 63, 28, 46, 172]
abbrev dktX4_serialAt_3 : List UInt8 := dkwX4_serialAt_3 ++ []
def dkwX4_serialAt_2 : List UInt8 := [100, 184, 0, 127, 153, 0, 7, 3, 167, 0, 4, 6, 181, 0, 22, 42, 180, 0, 22, 158, 0, 7, 3]
abbrev dktX4_serialAt_2 : List UInt8 := dkwX4_serialAt_2 ++ dktX4_serialAt_3
def dkwX4_serialAt_1 : List UInt8 := [3, 181, 0, 22, 42, 180, 0, 22, 158, 0, 5, 3, 172, 42, 28, 3, 42, 180, 0, 72, 184, 0, 240, 4]
abbrev dktX4_serialAt_1 : List UInt8 := dkwX4_serialAt_1 ++ dktX4_serialAt_2
def dkwX4_serialAt_0 : List UInt8 := [42, 27, 184, 0, 131, 154, 0, 7, 4, 167, 0, 16, 42, 27, 182, 0, 243, 154, 0, 7, 5, 167, 0, 4]
abbrev dktX4_serialAt_0 : List UInt8 := dkwX4_serialAt_0 ++ dktX4_serialAt_1
theorem dksX4_serialAt_0 : cX4_serialAt.data.toList.drop 0 = dktX4_serialAt_0 := by decide +kernel
theorem dksX4_serialAt_1 : cX4_serialAt.data.toList.drop 24 = dktX4_serialAt_1 := dk_seg dksX4_serialAt_0 24 rfl rfl
theorem dksX4_serialAt_2 : cX4_serialAt.data.toList.drop 48 = dktX4_serialAt_2 := dk_seg dksX4_serialAt_1 24 rfl rfl
theorem dksX4_serialAt_3 : cX4_serialAt.data.toList.drop 71 = dktX4_serialAt_3 := dk_seg dksX4_serialAt_2 23 rfl rfl
theorem dX4_serialAt_0 : decode cX4_serialAt 0 = .ok (.aload_n 0, 1) := dk_42 (dk_at dksX4_serialAt_0 0 rfl rfl)
theorem dX4_serialAt_1 : decode cX4_serialAt 1 = .ok (.iload_n 1, 1) := dk_27 (dk_at dksX4_serialAt_0 1 rfl rfl)
theorem dX4_serialAt_2 : decode cX4_serialAt 2 = .ok (.invokestatic 131, 3) := dk_184 0 131 (dk_at dksX4_serialAt_0 2 rfl rfl)
theorem dX4_serialAt_5 : decode cX4_serialAt 5 = .ok (.ifCond .ne 7, 3) := dk_154 0 7 (dk_at dksX4_serialAt_0 5 rfl rfl)
theorem dX4_serialAt_8 : decode cX4_serialAt 8 = .ok (.iconst 1, 1) := dk_4 (dk_at dksX4_serialAt_0 8 rfl rfl)
theorem dX4_serialAt_9 : decode cX4_serialAt 9 = .ok (.goto 16, 3) := dk_167 0 16 (dk_at dksX4_serialAt_0 9 rfl rfl)
theorem dX4_serialAt_12 : decode cX4_serialAt 12 = .ok (.aload_n 0, 1) := dk_42 (dk_at dksX4_serialAt_0 12 rfl rfl)
theorem dX4_serialAt_13 : decode cX4_serialAt 13 = .ok (.iload_n 1, 1) := dk_27 (dk_at dksX4_serialAt_0 13 rfl rfl)
theorem dX4_serialAt_14 : decode cX4_serialAt 14 = .ok (.invokevirtual 243, 3) := dk_182 0 243 (dk_at dksX4_serialAt_0 14 rfl rfl)
theorem dX4_serialAt_17 : decode cX4_serialAt 17 = .ok (.ifCond .ne 7, 3) := dk_154 0 7 (dk_at dksX4_serialAt_0 17 rfl rfl)
theorem dX4_serialAt_20 : decode cX4_serialAt 20 = .ok (.iconst 2, 1) := dk_5 (dk_at dksX4_serialAt_0 20 rfl rfl)
theorem dX4_serialAt_21 : decode cX4_serialAt 21 = .ok (.goto 4, 3) := dk_167 0 4 (dk_at dksX4_serialAt_0 21 rfl rfl)
theorem dX4_serialAt_24 : decode cX4_serialAt 24 = .ok (.iconst 0, 1) := dk_3 (dk_at dksX4_serialAt_1 0 rfl rfl)
theorem dX4_serialAt_25 : decode cX4_serialAt 25 = .ok (.putfield 22, 3) := dk_181 0 22 (dk_at dksX4_serialAt_1 1 rfl rfl)
theorem dX4_serialAt_28 : decode cX4_serialAt 28 = .ok (.aload_n 0, 1) := dk_42 (dk_at dksX4_serialAt_1 4 rfl rfl)
theorem dX4_serialAt_29 : decode cX4_serialAt 29 = .ok (.getfield 22, 3) := dk_180 0 22 (dk_at dksX4_serialAt_1 5 rfl rfl)
theorem dX4_serialAt_32 : decode cX4_serialAt 32 = .ok (.ifCond .le 5, 3) := dk_158 0 5 (dk_at dksX4_serialAt_1 8 rfl rfl)
theorem dX4_serialAt_35 : decode cX4_serialAt 35 = .ok (.iconst 0, 1) := dk_3 (dk_at dksX4_serialAt_1 11 rfl rfl)
theorem dX4_serialAt_36 : decode cX4_serialAt 36 = .ok (.ireturn, 1) := dk_172 (dk_at dksX4_serialAt_1 12 rfl rfl)
theorem dX4_serialAt_37 : decode cX4_serialAt 37 = .ok (.aload_n 0, 1) := dk_42 (dk_at dksX4_serialAt_1 13 rfl rfl)
theorem dX4_serialAt_38 : decode cX4_serialAt 38 = .ok (.iload_n 2, 1) := dk_28 (dk_at dksX4_serialAt_1 14 rfl rfl)
theorem dX4_serialAt_39 : decode cX4_serialAt 39 = .ok (.iconst 0, 1) := dk_3 (dk_at dksX4_serialAt_1 15 rfl rfl)
theorem dX4_serialAt_40 : decode cX4_serialAt 40 = .ok (.aload_n 0, 1) := dk_42 (dk_at dksX4_serialAt_1 16 rfl rfl)
theorem dX4_serialAt_41 : decode cX4_serialAt 41 = .ok (.getfield 72, 3) := dk_180 0 72 (dk_at dksX4_serialAt_1 17 rfl rfl)
theorem dX4_serialAt_44 : decode cX4_serialAt 44 = .ok (.invokestatic 240, 3) := dk_184 0 240 (dk_at dksX4_serialAt_1 20 rfl rfl)
theorem dX4_serialAt_47 : decode cX4_serialAt 47 = .ok (.iconst 1, 1) := dk_4 (dk_at dksX4_serialAt_1 23 rfl rfl)
theorem dX4_serialAt_48 : decode cX4_serialAt 48 = .ok (.isub, 1) := dk_100 (dk_at dksX4_serialAt_2 0 rfl rfl)
theorem dX4_serialAt_49 : decode cX4_serialAt 49 = .ok (.invokestatic 127, 3) := dk_184 0 127 (dk_at dksX4_serialAt_2 1 rfl rfl)
theorem dX4_serialAt_52 : decode cX4_serialAt 52 = .ok (.ifCond .eq 7, 3) := dk_153 0 7 (dk_at dksX4_serialAt_2 4 rfl rfl)
theorem dX4_serialAt_55 : decode cX4_serialAt 55 = .ok (.iconst 0, 1) := dk_3 (dk_at dksX4_serialAt_2 7 rfl rfl)
theorem dX4_serialAt_56 : decode cX4_serialAt 56 = .ok (.goto 4, 3) := dk_167 0 4 (dk_at dksX4_serialAt_2 8 rfl rfl)
theorem dX4_serialAt_59 : decode cX4_serialAt 59 = .ok (.iconst 3, 1) := dk_6 (dk_at dksX4_serialAt_2 11 rfl rfl)
theorem dX4_serialAt_60 : decode cX4_serialAt 60 = .ok (.putfield 22, 3) := dk_181 0 22 (dk_at dksX4_serialAt_2 12 rfl rfl)
theorem dX4_serialAt_63 : decode cX4_serialAt 63 = .ok (.aload_n 0, 1) := dk_42 (dk_at dksX4_serialAt_2 15 rfl rfl)
theorem dX4_serialAt_64 : decode cX4_serialAt 64 = .ok (.getfield 22, 3) := dk_180 0 22 (dk_at dksX4_serialAt_2 16 rfl rfl)
theorem dX4_serialAt_67 : decode cX4_serialAt 67 = .ok (.ifCond .le 7, 3) := dk_158 0 7 (dk_at dksX4_serialAt_2 19 rfl rfl)
theorem dX4_serialAt_70 : decode cX4_serialAt 70 = .ok (.iconst 0, 1) := dk_3 (dk_at dksX4_serialAt_2 22 rfl rfl)
theorem dX4_serialAt_71 : decode cX4_serialAt 71 = .ok (.goto 9, 3) := dk_167 0 9 (dk_at dksX4_serialAt_3 0 rfl rfl)
theorem dX4_serialAt_74 : decode cX4_serialAt 74 = .ok (.aload_n 0, 1) := dk_42 (dk_at dksX4_serialAt_3 3 rfl rfl)
theorem dX4_serialAt_75 : decode cX4_serialAt 75 = .ok (.getfield 63, 3) := dk_180 0 63 (dk_at dksX4_serialAt_3 4 rfl rfl)
theorem dX4_serialAt_78 : decode cX4_serialAt 78 = .ok (.iload_n 2, 1) := dk_28 (dk_at dksX4_serialAt_3 7 rfl rfl)
theorem dX4_serialAt_79 : decode cX4_serialAt 79 = .ok (.iaload, 1) := dk_46 (dk_at dksX4_serialAt_3 8 rfl rfl)
theorem dX4_serialAt_80 : decode cX4_serialAt 80 = .ok (.ireturn, 1) := dk_172 (dk_at dksX4_serialAt_3 9 rfl rfl)
abbrev cX4_areEquivalent : ByteArray := prog_12_method_88_code
def yX4_areEquivalent : MethodName := ⟨RX4, "areEquivalent", "(II)Z"⟩
def dkwX4_areEquivalent_5 : List UInt8 := [132, 3, 1, 167, 255, 186, 4, 172]
abbrev dktX4_areEquivalent_5 : List UInt8 := dkwX4_areEquivalent_5 ++ []
def dkwX4_areEquivalent_4 : List UInt8 := [21, 4, 182, 1, 45, 42, 28, 29, 182, 1, 45, 162, 0, 5, 3, 172, 132, 4, 1, 167, 255, 216]
abbrev dktX4_areEquivalent_4 : List UInt8 := dkwX4_areEquivalent_4 ++ dktX4_areEquivalent_5
def dkwX4_areEquivalent_3 : List UInt8 := [54, 4, 21, 4, 42, 180, 0, 69, 162, 0, 37, 42, 29, 21, 4, 182, 0, 231, 153, 0, 21, 42, 28]
abbrev dktX4_areEquivalent_3 : List UInt8 := dkwX4_areEquivalent_3 ++ dktX4_areEquivalent_4
def dkwX4_areEquivalent_2 : List UInt8 := [3, 62, 29, 42, 180, 0, 69, 162, 0, 68, 42, 28, 29, 182, 1, 45, 156, 0, 5, 3, 172, 29, 4, 96]
abbrev dktX4_areEquivalent_2 : List UInt8 := dkwX4_areEquivalent_2 ++ dktX4_areEquivalent_3
def dkwX4_areEquivalent_1 : List UInt8 := [157, 0, 16, 42, 27, 182, 0, 135, 42, 28, 182, 0, 135, 159, 0, 5, 3, 172, 42, 27, 3, 182, 0, 227]
abbrev dktX4_areEquivalent_1 : List UInt8 := dkwX4_areEquivalent_1 ++ dktX4_areEquivalent_2
def dkwX4_areEquivalent_0 : List UInt8 := [42, 27, 184, 0, 131, 153, 0, 14, 28, 184, 0, 131, 153, 0, 7, 4, 167, 0, 4, 3, 182, 1, 29]
abbrev dktX4_areEquivalent_0 : List UInt8 := dkwX4_areEquivalent_0 ++ dktX4_areEquivalent_1
theorem dksX4_areEquivalent_0 : cX4_areEquivalent.data.toList.drop 0 = dktX4_areEquivalent_0 := by decide +kernel
theorem dksX4_areEquivalent_1 : cX4_areEquivalent.data.toList.drop 23 = dktX4_areEquivalent_1 := dk_seg dksX4_areEquivalent_0 23 rfl rfl
theorem dksX4_areEquivalent_2 : cX4_areEquivalent.data.toList.drop 47 = dktX4_areEquivalent_2 := dk_seg dksX4_areEquivalent_1 24 rfl rfl
theorem dksX4_areEquivalent_3 : cX4_areEquivalent.data.toList.drop 71 = dktX4_areEquivalent_3 := dk_seg dksX4_areEquivalent_2 24 rfl rfl
theorem dksX4_areEquivalent_4 : cX4_areEquivalent.data.toList.drop 94 = dktX4_areEquivalent_4 := dk_seg dksX4_areEquivalent_3 23 rfl rfl
theorem dksX4_areEquivalent_5 : cX4_areEquivalent.data.toList.drop 116 = dktX4_areEquivalent_5 := dk_seg dksX4_areEquivalent_4 22 rfl rfl
theorem dX4_areEquivalent_0 : decode cX4_areEquivalent 0 = .ok (.aload_n 0, 1) := dk_42 (dk_at dksX4_areEquivalent_0 0 rfl rfl)
theorem dX4_areEquivalent_1 : decode cX4_areEquivalent 1 = .ok (.iload_n 1, 1) := dk_27 (dk_at dksX4_areEquivalent_0 1 rfl rfl)
theorem dX4_areEquivalent_2 : decode cX4_areEquivalent 2 = .ok (.invokestatic 131, 3) := dk_184 0 131 (dk_at dksX4_areEquivalent_0 2 rfl rfl)
theorem dX4_areEquivalent_5 : decode cX4_areEquivalent 5 = .ok (.ifCond .eq 14, 3) := dk_153 0 14 (dk_at dksX4_areEquivalent_0 5 rfl rfl)
theorem dX4_areEquivalent_8 : decode cX4_areEquivalent 8 = .ok (.iload_n 2, 1) := dk_28 (dk_at dksX4_areEquivalent_0 8 rfl rfl)
theorem dX4_areEquivalent_9 : decode cX4_areEquivalent 9 = .ok (.invokestatic 131, 3) := dk_184 0 131 (dk_at dksX4_areEquivalent_0 9 rfl rfl)
theorem dX4_areEquivalent_12 : decode cX4_areEquivalent 12 = .ok (.ifCond .eq 7, 3) := dk_153 0 7 (dk_at dksX4_areEquivalent_0 12 rfl rfl)
theorem dX4_areEquivalent_15 : decode cX4_areEquivalent 15 = .ok (.iconst 1, 1) := dk_4 (dk_at dksX4_areEquivalent_0 15 rfl rfl)
theorem dX4_areEquivalent_16 : decode cX4_areEquivalent 16 = .ok (.goto 4, 3) := dk_167 0 4 (dk_at dksX4_areEquivalent_0 16 rfl rfl)
theorem dX4_areEquivalent_19 : decode cX4_areEquivalent 19 = .ok (.iconst 0, 1) := dk_3 (dk_at dksX4_areEquivalent_0 19 rfl rfl)
theorem dX4_areEquivalent_20 : decode cX4_areEquivalent 20 = .ok (.invokevirtual 285, 3) := dk_182 1 29 (dk_at dksX4_areEquivalent_0 20 rfl rfl)
theorem dX4_areEquivalent_23 : decode cX4_areEquivalent 23 = .ok (.ifCond .gt 16, 3) := dk_157 0 16 (dk_at dksX4_areEquivalent_1 0 rfl rfl)
theorem dX4_areEquivalent_26 : decode cX4_areEquivalent 26 = .ok (.aload_n 0, 1) := dk_42 (dk_at dksX4_areEquivalent_1 3 rfl rfl)
theorem dX4_areEquivalent_27 : decode cX4_areEquivalent 27 = .ok (.iload_n 1, 1) := dk_27 (dk_at dksX4_areEquivalent_1 4 rfl rfl)
theorem dX4_areEquivalent_28 : decode cX4_areEquivalent 28 = .ok (.invokevirtual 135, 3) := dk_182 0 135 (dk_at dksX4_areEquivalent_1 5 rfl rfl)
theorem dX4_areEquivalent_31 : decode cX4_areEquivalent 31 = .ok (.aload_n 0, 1) := dk_42 (dk_at dksX4_areEquivalent_1 8 rfl rfl)
theorem dX4_areEquivalent_32 : decode cX4_areEquivalent 32 = .ok (.iload_n 2, 1) := dk_28 (dk_at dksX4_areEquivalent_1 9 rfl rfl)
theorem dX4_areEquivalent_33 : decode cX4_areEquivalent 33 = .ok (.invokevirtual 135, 3) := dk_182 0 135 (dk_at dksX4_areEquivalent_1 10 rfl rfl)
theorem dX4_areEquivalent_36 : decode cX4_areEquivalent 36 = .ok (.if_icmp .eq 5, 3) := dk_159 0 5 (dk_at dksX4_areEquivalent_1 13 rfl rfl)
theorem dX4_areEquivalent_39 : decode cX4_areEquivalent 39 = .ok (.iconst 0, 1) := dk_3 (dk_at dksX4_areEquivalent_1 16 rfl rfl)
theorem dX4_areEquivalent_40 : decode cX4_areEquivalent 40 = .ok (.ireturn, 1) := dk_172 (dk_at dksX4_areEquivalent_1 17 rfl rfl)
theorem dX4_areEquivalent_41 : decode cX4_areEquivalent 41 = .ok (.aload_n 0, 1) := dk_42 (dk_at dksX4_areEquivalent_1 18 rfl rfl)
theorem dX4_areEquivalent_42 : decode cX4_areEquivalent 42 = .ok (.iload_n 1, 1) := dk_27 (dk_at dksX4_areEquivalent_1 19 rfl rfl)
theorem dX4_areEquivalent_43 : decode cX4_areEquivalent 43 = .ok (.iconst 0, 1) := dk_3 (dk_at dksX4_areEquivalent_1 20 rfl rfl)
theorem dX4_areEquivalent_44 : decode cX4_areEquivalent 44 = .ok (.invokevirtual 227, 3) := dk_182 0 227 (dk_at dksX4_areEquivalent_1 21 rfl rfl)
theorem dX4_areEquivalent_47 : decode cX4_areEquivalent 47 = .ok (.iconst 0, 1) := dk_3 (dk_at dksX4_areEquivalent_2 0 rfl rfl)
theorem dX4_areEquivalent_48 : decode cX4_areEquivalent 48 = .ok (.istore_n 3, 1) := dk_62 (dk_at dksX4_areEquivalent_2 1 rfl rfl)
theorem dX4_areEquivalent_49 : decode cX4_areEquivalent 49 = .ok (.iload_n 3, 1) := dk_29 (dk_at dksX4_areEquivalent_2 2 rfl rfl)
theorem dX4_areEquivalent_50 : decode cX4_areEquivalent 50 = .ok (.aload_n 0, 1) := dk_42 (dk_at dksX4_areEquivalent_2 3 rfl rfl)
theorem dX4_areEquivalent_51 : decode cX4_areEquivalent 51 = .ok (.getfield 69, 3) := dk_180 0 69 (dk_at dksX4_areEquivalent_2 4 rfl rfl)
theorem dX4_areEquivalent_54 : decode cX4_areEquivalent 54 = .ok (.if_icmp .ge 68, 3) := dk_162 0 68 (dk_at dksX4_areEquivalent_2 7 rfl rfl)
theorem dX4_areEquivalent_57 : decode cX4_areEquivalent 57 = .ok (.aload_n 0, 1) := dk_42 (dk_at dksX4_areEquivalent_2 10 rfl rfl)
theorem dX4_areEquivalent_58 : decode cX4_areEquivalent 58 = .ok (.iload_n 2, 1) := dk_28 (dk_at dksX4_areEquivalent_2 11 rfl rfl)
theorem dX4_areEquivalent_59 : decode cX4_areEquivalent 59 = .ok (.iload_n 3, 1) := dk_29 (dk_at dksX4_areEquivalent_2 12 rfl rfl)
theorem dX4_areEquivalent_60 : decode cX4_areEquivalent 60 = .ok (.invokevirtual 301, 3) := dk_182 1 45 (dk_at dksX4_areEquivalent_2 13 rfl rfl)
theorem dX4_areEquivalent_63 : decode cX4_areEquivalent 63 = .ok (.ifCond .ge 5, 3) := dk_156 0 5 (dk_at dksX4_areEquivalent_2 16 rfl rfl)
theorem dX4_areEquivalent_66 : decode cX4_areEquivalent 66 = .ok (.iconst 0, 1) := dk_3 (dk_at dksX4_areEquivalent_2 19 rfl rfl)
theorem dX4_areEquivalent_67 : decode cX4_areEquivalent 67 = .ok (.ireturn, 1) := dk_172 (dk_at dksX4_areEquivalent_2 20 rfl rfl)
theorem dX4_areEquivalent_68 : decode cX4_areEquivalent 68 = .ok (.iload_n 3, 1) := dk_29 (dk_at dksX4_areEquivalent_2 21 rfl rfl)
theorem dX4_areEquivalent_69 : decode cX4_areEquivalent 69 = .ok (.iconst 1, 1) := dk_4 (dk_at dksX4_areEquivalent_2 22 rfl rfl)
theorem dX4_areEquivalent_70 : decode cX4_areEquivalent 70 = .ok (.iadd, 1) := dk_96 (dk_at dksX4_areEquivalent_2 23 rfl rfl)
theorem dX4_areEquivalent_71 : decode cX4_areEquivalent 71 = .ok (.istore 4, 2) := dk_54 4 (dk_at dksX4_areEquivalent_3 0 rfl rfl)
theorem dX4_areEquivalent_73 : decode cX4_areEquivalent 73 = .ok (.iload 4, 2) := dk_21 4 (dk_at dksX4_areEquivalent_3 2 rfl rfl)
theorem dX4_areEquivalent_75 : decode cX4_areEquivalent 75 = .ok (.aload_n 0, 1) := dk_42 (dk_at dksX4_areEquivalent_3 4 rfl rfl)
theorem dX4_areEquivalent_76 : decode cX4_areEquivalent 76 = .ok (.getfield 69, 3) := dk_180 0 69 (dk_at dksX4_areEquivalent_3 5 rfl rfl)
theorem dX4_areEquivalent_79 : decode cX4_areEquivalent 79 = .ok (.if_icmp .ge 37, 3) := dk_162 0 37 (dk_at dksX4_areEquivalent_3 8 rfl rfl)
theorem dX4_areEquivalent_82 : decode cX4_areEquivalent 82 = .ok (.aload_n 0, 1) := dk_42 (dk_at dksX4_areEquivalent_3 11 rfl rfl)
theorem dX4_areEquivalent_83 : decode cX4_areEquivalent 83 = .ok (.iload_n 3, 1) := dk_29 (dk_at dksX4_areEquivalent_3 12 rfl rfl)
theorem dX4_areEquivalent_84 : decode cX4_areEquivalent 84 = .ok (.iload 4, 2) := dk_21 4 (dk_at dksX4_areEquivalent_3 13 rfl rfl)
theorem dX4_areEquivalent_86 : decode cX4_areEquivalent 86 = .ok (.invokevirtual 231, 3) := dk_182 0 231 (dk_at dksX4_areEquivalent_3 15 rfl rfl)
theorem dX4_areEquivalent_89 : decode cX4_areEquivalent 89 = .ok (.ifCond .eq 21, 3) := dk_153 0 21 (dk_at dksX4_areEquivalent_3 18 rfl rfl)
theorem dX4_areEquivalent_92 : decode cX4_areEquivalent 92 = .ok (.aload_n 0, 1) := dk_42 (dk_at dksX4_areEquivalent_3 21 rfl rfl)
theorem dX4_areEquivalent_93 : decode cX4_areEquivalent 93 = .ok (.iload_n 2, 1) := dk_28 (dk_at dksX4_areEquivalent_3 22 rfl rfl)
theorem dX4_areEquivalent_94 : decode cX4_areEquivalent 94 = .ok (.iload 4, 2) := dk_21 4 (dk_at dksX4_areEquivalent_4 0 rfl rfl)
theorem dX4_areEquivalent_96 : decode cX4_areEquivalent 96 = .ok (.invokevirtual 301, 3) := dk_182 1 45 (dk_at dksX4_areEquivalent_4 2 rfl rfl)
theorem dX4_areEquivalent_99 : decode cX4_areEquivalent 99 = .ok (.aload_n 0, 1) := dk_42 (dk_at dksX4_areEquivalent_4 5 rfl rfl)
theorem dX4_areEquivalent_100 : decode cX4_areEquivalent 100 = .ok (.iload_n 2, 1) := dk_28 (dk_at dksX4_areEquivalent_4 6 rfl rfl)
theorem dX4_areEquivalent_101 : decode cX4_areEquivalent 101 = .ok (.iload_n 3, 1) := dk_29 (dk_at dksX4_areEquivalent_4 7 rfl rfl)
theorem dX4_areEquivalent_102 : decode cX4_areEquivalent 102 = .ok (.invokevirtual 301, 3) := dk_182 1 45 (dk_at dksX4_areEquivalent_4 8 rfl rfl)
theorem dX4_areEquivalent_105 : decode cX4_areEquivalent 105 = .ok (.if_icmp .ge 5, 3) := dk_162 0 5 (dk_at dksX4_areEquivalent_4 11 rfl rfl)
theorem dX4_areEquivalent_108 : decode cX4_areEquivalent 108 = .ok (.iconst 0, 1) := dk_3 (dk_at dksX4_areEquivalent_4 14 rfl rfl)
theorem dX4_areEquivalent_109 : decode cX4_areEquivalent 109 = .ok (.ireturn, 1) := dk_172 (dk_at dksX4_areEquivalent_4 15 rfl rfl)
theorem dX4_areEquivalent_110 : decode cX4_areEquivalent 110 = .ok (.iinc 4 1, 3) := dk_132 4 1 (dk_at dksX4_areEquivalent_4 16 rfl rfl)
theorem dX4_areEquivalent_113 : decode cX4_areEquivalent 113 = .ok (.goto (-40), 3) := dk_167 255 216 (dk_at dksX4_areEquivalent_4 19 rfl rfl)
theorem dX4_areEquivalent_116 : decode cX4_areEquivalent 116 = .ok (.iinc 3 1, 3) := dk_132 3 1 (dk_at dksX4_areEquivalent_5 0 rfl rfl)
theorem dX4_areEquivalent_119 : decode cX4_areEquivalent 119 = .ok (.goto (-70), 3) := dk_167 255 186 (dk_at dksX4_areEquivalent_5 3 rfl rfl)
theorem dX4_areEquivalent_122 : decode cX4_areEquivalent 122 = .ok (.iconst 1, 1) := dk_4 (dk_at dksX4_areEquivalent_5 6 rfl rfl)
theorem dX4_areEquivalent_123 : decode cX4_areEquivalent 123 = .ok (.ireturn, 1) := dk_172 (dk_at dksX4_areEquivalent_5 7 rfl rfl)
abbrev cX4_twin : ByteArray := prog_12_method_87_code
def yX4_twin : MethodName := ⟨RX4, "twin", "(II)I"⟩
def dkwX4_twin_5 : List UInt8 := [132, 3, 255, 132, 4, 1, 167, 255, 176, 2, 172]
abbrev dktX4_twin_5 : List UInt8 := dkwX4_twin_5 ++ []
def dkwX4_twin_4 : List UInt8 := [180, 0, 54, 28, 46, 42, 180, 0, 57, 28, 46, 184, 0, 166, 160, 0, 8, 21, 4, 167, 0, 4, 2, 172]
abbrev dktX4_twin_4 : List UInt8 := dkwX4_twin_4 ++ dktX4_twin_5
def dkwX4_twin_3 : List UInt8 := [159, 0, 6, 167, 0, 48, 29, 154, 0, 41, 42, 27, 21, 4, 182, 0, 139, 42, 180, 0, 51, 28, 46, 42]
abbrev dktX4_twin_3 : List UInt8 := dkwX4_twin_3 ++ dktX4_twin_4
def dkwX4_twin_2 : List UInt8 := [182, 0, 135, 162, 0, 76, 42, 27, 21, 4, 182, 0, 139, 184, 0, 143, 42, 180, 0, 54, 28, 46]
abbrev dktX4_twin_2 : List UInt8 := dkwX4_twin_2 ++ dktX4_twin_3
def dkwX4_twin_1 : List UInt8 := [46, 160, 0, 7, 4, 167, 0, 4, 3, 96, 62, 132, 4, 1, 167, 255, 223, 3, 54, 4, 21, 4, 42, 27]
abbrev dktX4_twin_1 : List UInt8 := dkwX4_twin_1 ++ dktX4_twin_2
def dkwX4_twin_0 : List UInt8 := [3, 62, 3, 54, 4, 21, 4, 28, 162, 0, 33, 29, 42, 180, 0, 54, 21, 4, 46, 42, 180, 0, 54, 28]
abbrev dktX4_twin_0 : List UInt8 := dkwX4_twin_0 ++ dktX4_twin_1
theorem dksX4_twin_0 : cX4_twin.data.toList.drop 0 = dktX4_twin_0 := by decide +kernel
theorem dksX4_twin_1 : cX4_twin.data.toList.drop 24 = dktX4_twin_1 := dk_seg dksX4_twin_0 24 rfl rfl
theorem dksX4_twin_2 : cX4_twin.data.toList.drop 48 = dktX4_twin_2 := dk_seg dksX4_twin_1 24 rfl rfl
theorem dksX4_twin_3 : cX4_twin.data.toList.drop 70 = dktX4_twin_3 := dk_seg dksX4_twin_2 22 rfl rfl
theorem dksX4_twin_4 : cX4_twin.data.toList.drop 94 = dktX4_twin_4 := dk_seg dksX4_twin_3 24 rfl rfl
theorem dksX4_twin_5 : cX4_twin.data.toList.drop 118 = dktX4_twin_5 := dk_seg dksX4_twin_4 24 rfl rfl
theorem dX4_twin_0 : decode cX4_twin 0 = .ok (.iconst 0, 1) := dk_3 (dk_at dksX4_twin_0 0 rfl rfl)
theorem dX4_twin_1 : decode cX4_twin 1 = .ok (.istore_n 3, 1) := dk_62 (dk_at dksX4_twin_0 1 rfl rfl)
theorem dX4_twin_2 : decode cX4_twin 2 = .ok (.iconst 0, 1) := dk_3 (dk_at dksX4_twin_0 2 rfl rfl)
theorem dX4_twin_3 : decode cX4_twin 3 = .ok (.istore 4, 2) := dk_54 4 (dk_at dksX4_twin_0 3 rfl rfl)
theorem dX4_twin_5 : decode cX4_twin 5 = .ok (.iload 4, 2) := dk_21 4 (dk_at dksX4_twin_0 5 rfl rfl)
theorem dX4_twin_7 : decode cX4_twin 7 = .ok (.iload_n 2, 1) := dk_28 (dk_at dksX4_twin_0 7 rfl rfl)
theorem dX4_twin_8 : decode cX4_twin 8 = .ok (.if_icmp .ge 33, 3) := dk_162 0 33 (dk_at dksX4_twin_0 8 rfl rfl)
theorem dX4_twin_11 : decode cX4_twin 11 = .ok (.iload_n 3, 1) := dk_29 (dk_at dksX4_twin_0 11 rfl rfl)
theorem dX4_twin_12 : decode cX4_twin 12 = .ok (.aload_n 0, 1) := dk_42 (dk_at dksX4_twin_0 12 rfl rfl)
theorem dX4_twin_13 : decode cX4_twin 13 = .ok (.getfield 54, 3) := dk_180 0 54 (dk_at dksX4_twin_0 13 rfl rfl)
theorem dX4_twin_16 : decode cX4_twin 16 = .ok (.iload 4, 2) := dk_21 4 (dk_at dksX4_twin_0 16 rfl rfl)
theorem dX4_twin_18 : decode cX4_twin 18 = .ok (.iaload, 1) := dk_46 (dk_at dksX4_twin_0 18 rfl rfl)
theorem dX4_twin_19 : decode cX4_twin 19 = .ok (.aload_n 0, 1) := dk_42 (dk_at dksX4_twin_0 19 rfl rfl)
theorem dX4_twin_20 : decode cX4_twin 20 = .ok (.getfield 54, 3) := dk_180 0 54 (dk_at dksX4_twin_0 20 rfl rfl)
theorem dX4_twin_23 : decode cX4_twin 23 = .ok (.iload_n 2, 1) := dk_28 (dk_at dksX4_twin_0 23 rfl rfl)
theorem dX4_twin_24 : decode cX4_twin 24 = .ok (.iaload, 1) := dk_46 (dk_at dksX4_twin_1 0 rfl rfl)
theorem dX4_twin_25 : decode cX4_twin 25 = .ok (.if_icmp .ne 7, 3) := dk_160 0 7 (dk_at dksX4_twin_1 1 rfl rfl)
theorem dX4_twin_28 : decode cX4_twin 28 = .ok (.iconst 1, 1) := dk_4 (dk_at dksX4_twin_1 4 rfl rfl)
theorem dX4_twin_29 : decode cX4_twin 29 = .ok (.goto 4, 3) := dk_167 0 4 (dk_at dksX4_twin_1 5 rfl rfl)
theorem dX4_twin_32 : decode cX4_twin 32 = .ok (.iconst 0, 1) := dk_3 (dk_at dksX4_twin_1 8 rfl rfl)
theorem dX4_twin_33 : decode cX4_twin 33 = .ok (.iadd, 1) := dk_96 (dk_at dksX4_twin_1 9 rfl rfl)
theorem dX4_twin_34 : decode cX4_twin 34 = .ok (.istore_n 3, 1) := dk_62 (dk_at dksX4_twin_1 10 rfl rfl)
theorem dX4_twin_35 : decode cX4_twin 35 = .ok (.iinc 4 1, 3) := dk_132 4 1 (dk_at dksX4_twin_1 11 rfl rfl)
theorem dX4_twin_38 : decode cX4_twin 38 = .ok (.goto (-33), 3) := dk_167 255 223 (dk_at dksX4_twin_1 14 rfl rfl)
theorem dX4_twin_41 : decode cX4_twin 41 = .ok (.iconst 0, 1) := dk_3 (dk_at dksX4_twin_1 17 rfl rfl)
theorem dX4_twin_42 : decode cX4_twin 42 = .ok (.istore 4, 2) := dk_54 4 (dk_at dksX4_twin_1 18 rfl rfl)
theorem dX4_twin_44 : decode cX4_twin 44 = .ok (.iload 4, 2) := dk_21 4 (dk_at dksX4_twin_1 20 rfl rfl)
theorem dX4_twin_46 : decode cX4_twin 46 = .ok (.aload_n 0, 1) := dk_42 (dk_at dksX4_twin_1 22 rfl rfl)
theorem dX4_twin_47 : decode cX4_twin 47 = .ok (.iload_n 1, 1) := dk_27 (dk_at dksX4_twin_1 23 rfl rfl)
theorem dX4_twin_48 : decode cX4_twin 48 = .ok (.invokevirtual 135, 3) := dk_182 0 135 (dk_at dksX4_twin_2 0 rfl rfl)
theorem dX4_twin_51 : decode cX4_twin 51 = .ok (.if_icmp .ge 76, 3) := dk_162 0 76 (dk_at dksX4_twin_2 3 rfl rfl)
theorem dX4_twin_54 : decode cX4_twin 54 = .ok (.aload_n 0, 1) := dk_42 (dk_at dksX4_twin_2 6 rfl rfl)
theorem dX4_twin_55 : decode cX4_twin 55 = .ok (.iload_n 1, 1) := dk_27 (dk_at dksX4_twin_2 7 rfl rfl)
theorem dX4_twin_56 : decode cX4_twin 56 = .ok (.iload 4, 2) := dk_21 4 (dk_at dksX4_twin_2 8 rfl rfl)
theorem dX4_twin_58 : decode cX4_twin 58 = .ok (.invokevirtual 139, 3) := dk_182 0 139 (dk_at dksX4_twin_2 10 rfl rfl)
theorem dX4_twin_61 : decode cX4_twin 61 = .ok (.invokestatic 143, 3) := dk_184 0 143 (dk_at dksX4_twin_2 13 rfl rfl)
theorem dX4_twin_64 : decode cX4_twin 64 = .ok (.aload_n 0, 1) := dk_42 (dk_at dksX4_twin_2 16 rfl rfl)
theorem dX4_twin_65 : decode cX4_twin 65 = .ok (.getfield 54, 3) := dk_180 0 54 (dk_at dksX4_twin_2 17 rfl rfl)
theorem dX4_twin_68 : decode cX4_twin 68 = .ok (.iload_n 2, 1) := dk_28 (dk_at dksX4_twin_2 20 rfl rfl)
theorem dX4_twin_69 : decode cX4_twin 69 = .ok (.iaload, 1) := dk_46 (dk_at dksX4_twin_2 21 rfl rfl)
theorem dX4_twin_70 : decode cX4_twin 70 = .ok (.if_icmp .eq 6, 3) := dk_159 0 6 (dk_at dksX4_twin_3 0 rfl rfl)
theorem dX4_twin_73 : decode cX4_twin 73 = .ok (.goto 48, 3) := dk_167 0 48 (dk_at dksX4_twin_3 3 rfl rfl)
theorem dX4_twin_76 : decode cX4_twin 76 = .ok (.iload_n 3, 1) := dk_29 (dk_at dksX4_twin_3 6 rfl rfl)
theorem dX4_twin_77 : decode cX4_twin 77 = .ok (.ifCond .ne 41, 3) := dk_154 0 41 (dk_at dksX4_twin_3 7 rfl rfl)
theorem dX4_twin_80 : decode cX4_twin 80 = .ok (.aload_n 0, 1) := dk_42 (dk_at dksX4_twin_3 10 rfl rfl)
theorem dX4_twin_81 : decode cX4_twin 81 = .ok (.iload_n 1, 1) := dk_27 (dk_at dksX4_twin_3 11 rfl rfl)
theorem dX4_twin_82 : decode cX4_twin 82 = .ok (.iload 4, 2) := dk_21 4 (dk_at dksX4_twin_3 12 rfl rfl)
theorem dX4_twin_84 : decode cX4_twin 84 = .ok (.invokevirtual 139, 3) := dk_182 0 139 (dk_at dksX4_twin_3 14 rfl rfl)
theorem dX4_twin_87 : decode cX4_twin 87 = .ok (.aload_n 0, 1) := dk_42 (dk_at dksX4_twin_3 17 rfl rfl)
theorem dX4_twin_88 : decode cX4_twin 88 = .ok (.getfield 51, 3) := dk_180 0 51 (dk_at dksX4_twin_3 18 rfl rfl)
theorem dX4_twin_91 : decode cX4_twin 91 = .ok (.iload_n 2, 1) := dk_28 (dk_at dksX4_twin_3 21 rfl rfl)
theorem dX4_twin_92 : decode cX4_twin 92 = .ok (.iaload, 1) := dk_46 (dk_at dksX4_twin_3 22 rfl rfl)
theorem dX4_twin_93 : decode cX4_twin 93 = .ok (.aload_n 0, 1) := dk_42 (dk_at dksX4_twin_3 23 rfl rfl)
theorem dX4_twin_94 : decode cX4_twin 94 = .ok (.getfield 54, 3) := dk_180 0 54 (dk_at dksX4_twin_4 0 rfl rfl)
theorem dX4_twin_97 : decode cX4_twin 97 = .ok (.iload_n 2, 1) := dk_28 (dk_at dksX4_twin_4 3 rfl rfl)
theorem dX4_twin_98 : decode cX4_twin 98 = .ok (.iaload, 1) := dk_46 (dk_at dksX4_twin_4 4 rfl rfl)
theorem dX4_twin_99 : decode cX4_twin 99 = .ok (.aload_n 0, 1) := dk_42 (dk_at dksX4_twin_4 5 rfl rfl)
theorem dX4_twin_100 : decode cX4_twin 100 = .ok (.getfield 57, 3) := dk_180 0 57 (dk_at dksX4_twin_4 6 rfl rfl)
theorem dX4_twin_103 : decode cX4_twin 103 = .ok (.iload_n 2, 1) := dk_28 (dk_at dksX4_twin_4 9 rfl rfl)
theorem dX4_twin_104 : decode cX4_twin 104 = .ok (.iaload, 1) := dk_46 (dk_at dksX4_twin_4 10 rfl rfl)
theorem dX4_twin_105 : decode cX4_twin 105 = .ok (.invokestatic 166, 3) := dk_184 0 166 (dk_at dksX4_twin_4 11 rfl rfl)
theorem dX4_twin_108 : decode cX4_twin 108 = .ok (.if_icmp .ne 8, 3) := dk_160 0 8 (dk_at dksX4_twin_4 14 rfl rfl)
theorem dX4_twin_111 : decode cX4_twin 111 = .ok (.iload 4, 2) := dk_21 4 (dk_at dksX4_twin_4 17 rfl rfl)
theorem dX4_twin_113 : decode cX4_twin 113 = .ok (.goto 4, 3) := dk_167 0 4 (dk_at dksX4_twin_4 19 rfl rfl)
theorem dX4_twin_116 : decode cX4_twin 116 = .ok (.iconst (-1), 1) := dk_2 (dk_at dksX4_twin_4 22 rfl rfl)
theorem dX4_twin_117 : decode cX4_twin 117 = .ok (.ireturn, 1) := dk_172 (dk_at dksX4_twin_4 23 rfl rfl)
theorem dX4_twin_118 : decode cX4_twin 118 = .ok (.iinc 3 (-1), 3) := dk_132 3 255 (dk_at dksX4_twin_5 0 rfl rfl)
theorem dX4_twin_121 : decode cX4_twin 121 = .ok (.iinc 4 1, 3) := dk_132 4 1 (dk_at dksX4_twin_5 3 rfl rfl)
theorem dX4_twin_124 : decode cX4_twin 124 = .ok (.goto (-80), 3) := dk_167 255 176 (dk_at dksX4_twin_5 6 rfl rfl)
theorem dX4_twin_127 : decode cX4_twin 127 = .ok (.iconst (-1), 1) := dk_2 (dk_at dksX4_twin_5 9 rfl rfl)
theorem dX4_twin_128 : decode cX4_twin 128 = .ok (.ireturn, 1) := dk_172 (dk_at dksX4_twin_5 10 rfl rfl)
abbrev cX4_isViewSerializable : ByteArray := prog_12_method_95_code
def yX4_isViewSerializable : MethodName := ⟨RX4, "isViewSerializable", "(I)Z"⟩
def dkwX4_isViewSerializable_3 : List UInt8 := [42, 182, 1, 64, 153, 0, 5, 4, 172, 132, 4, 1, 167, 255, 226, 3, 172]
abbrev dktX4_isViewSerializable_3 : List UInt8 := dkwX4_isViewSerializable_3 ++ []
def dkwX4_isViewSerializable_2 : List UInt8 := [167, 255, 242, 3, 54, 4, 21, 4, 29, 162, 0, 30, 42, 21, 4, 28, 182, 1, 57, 42, 28, 182, 1, 61]
abbrev dktX4_isViewSerializable_2 : List UInt8 := dkwX4_isViewSerializable_2 ++ dktX4_isViewSerializable_3
def dkwX4_isViewSerializable_1 : List UInt8 := [184, 0, 240, 61, 4, 62, 5, 54, 4, 21, 4, 28, 163, 0, 14, 29, 21, 4, 104, 62, 132, 4, 1]
abbrev dktX4_isViewSerializable_1 : List UInt8 := dkwX4_isViewSerializable_1 ++ dktX4_isViewSerializable_2
def dkwX4_isViewSerializable_0 : List UInt8 := [42, 27, 184, 0, 131, 182, 1, 29, 158, 0, 5, 3, 172, 42, 27, 4, 182, 0, 227, 42, 180, 0, 72]
abbrev dktX4_isViewSerializable_0 : List UInt8 := dkwX4_isViewSerializable_0 ++ dktX4_isViewSerializable_1
theorem dksX4_isViewSerializable_0 : cX4_isViewSerializable.data.toList.drop 0 = dktX4_isViewSerializable_0 := by decide +kernel
theorem dksX4_isViewSerializable_1 : cX4_isViewSerializable.data.toList.drop 23 = dktX4_isViewSerializable_1 := dk_seg dksX4_isViewSerializable_0 23 rfl rfl
theorem dksX4_isViewSerializable_2 : cX4_isViewSerializable.data.toList.drop 46 = dktX4_isViewSerializable_2 := dk_seg dksX4_isViewSerializable_1 23 rfl rfl
theorem dksX4_isViewSerializable_3 : cX4_isViewSerializable.data.toList.drop 70 = dktX4_isViewSerializable_3 := dk_seg dksX4_isViewSerializable_2 24 rfl rfl
theorem dX4_isViewSerializable_0 : decode cX4_isViewSerializable 0 = .ok (.aload_n 0, 1) := dk_42 (dk_at dksX4_isViewSerializable_0 0 rfl rfl)
theorem dX4_isViewSerializable_1 : decode cX4_isViewSerializable 1 = .ok (.iload_n 1, 1) := dk_27 (dk_at dksX4_isViewSerializable_0 1 rfl rfl)
theorem dX4_isViewSerializable_2 : decode cX4_isViewSerializable 2 = .ok (.invokestatic 131, 3) := dk_184 0 131 (dk_at dksX4_isViewSerializable_0 2 rfl rfl)
theorem dX4_isViewSerializable_5 : decode cX4_isViewSerializable 5 = .ok (.invokevirtual 285, 3) := dk_182 1 29 (dk_at dksX4_isViewSerializable_0 5 rfl rfl)
theorem dX4_isViewSerializable_8 : decode cX4_isViewSerializable 8 = .ok (.ifCond .le 5, 3) := dk_158 0 5 (dk_at dksX4_isViewSerializable_0 8 rfl rfl)
theorem dX4_isViewSerializable_11 : decode cX4_isViewSerializable 11 = .ok (.iconst 0, 1) := dk_3 (dk_at dksX4_isViewSerializable_0 11 rfl rfl)
theorem dX4_isViewSerializable_12 : decode cX4_isViewSerializable 12 = .ok (.ireturn, 1) := dk_172 (dk_at dksX4_isViewSerializable_0 12 rfl rfl)
theorem dX4_isViewSerializable_13 : decode cX4_isViewSerializable 13 = .ok (.aload_n 0, 1) := dk_42 (dk_at dksX4_isViewSerializable_0 13 rfl rfl)
theorem dX4_isViewSerializable_14 : decode cX4_isViewSerializable 14 = .ok (.iload_n 1, 1) := dk_27 (dk_at dksX4_isViewSerializable_0 14 rfl rfl)
theorem dX4_isViewSerializable_15 : decode cX4_isViewSerializable 15 = .ok (.iconst 1, 1) := dk_4 (dk_at dksX4_isViewSerializable_0 15 rfl rfl)
theorem dX4_isViewSerializable_16 : decode cX4_isViewSerializable 16 = .ok (.invokevirtual 227, 3) := dk_182 0 227 (dk_at dksX4_isViewSerializable_0 16 rfl rfl)
theorem dX4_isViewSerializable_19 : decode cX4_isViewSerializable 19 = .ok (.aload_n 0, 1) := dk_42 (dk_at dksX4_isViewSerializable_0 19 rfl rfl)
theorem dX4_isViewSerializable_20 : decode cX4_isViewSerializable 20 = .ok (.getfield 72, 3) := dk_180 0 72 (dk_at dksX4_isViewSerializable_0 20 rfl rfl)
theorem dX4_isViewSerializable_23 : decode cX4_isViewSerializable 23 = .ok (.invokestatic 240, 3) := dk_184 0 240 (dk_at dksX4_isViewSerializable_1 0 rfl rfl)
theorem dX4_isViewSerializable_26 : decode cX4_isViewSerializable 26 = .ok (.istore_n 2, 1) := dk_61 (dk_at dksX4_isViewSerializable_1 3 rfl rfl)
theorem dX4_isViewSerializable_27 : decode cX4_isViewSerializable 27 = .ok (.iconst 1, 1) := dk_4 (dk_at dksX4_isViewSerializable_1 4 rfl rfl)
theorem dX4_isViewSerializable_28 : decode cX4_isViewSerializable 28 = .ok (.istore_n 3, 1) := dk_62 (dk_at dksX4_isViewSerializable_1 5 rfl rfl)
theorem dX4_isViewSerializable_29 : decode cX4_isViewSerializable 29 = .ok (.iconst 2, 1) := dk_5 (dk_at dksX4_isViewSerializable_1 6 rfl rfl)
theorem dX4_isViewSerializable_30 : decode cX4_isViewSerializable 30 = .ok (.istore 4, 2) := dk_54 4 (dk_at dksX4_isViewSerializable_1 7 rfl rfl)
theorem dX4_isViewSerializable_32 : decode cX4_isViewSerializable 32 = .ok (.iload 4, 2) := dk_21 4 (dk_at dksX4_isViewSerializable_1 9 rfl rfl)
theorem dX4_isViewSerializable_34 : decode cX4_isViewSerializable 34 = .ok (.iload_n 2, 1) := dk_28 (dk_at dksX4_isViewSerializable_1 11 rfl rfl)
theorem dX4_isViewSerializable_35 : decode cX4_isViewSerializable 35 = .ok (.if_icmp .gt 14, 3) := dk_163 0 14 (dk_at dksX4_isViewSerializable_1 12 rfl rfl)
theorem dX4_isViewSerializable_38 : decode cX4_isViewSerializable 38 = .ok (.iload_n 3, 1) := dk_29 (dk_at dksX4_isViewSerializable_1 15 rfl rfl)
theorem dX4_isViewSerializable_39 : decode cX4_isViewSerializable 39 = .ok (.iload 4, 2) := dk_21 4 (dk_at dksX4_isViewSerializable_1 16 rfl rfl)
theorem dX4_isViewSerializable_41 : decode cX4_isViewSerializable 41 = .ok (.imul, 1) := dk_104 (dk_at dksX4_isViewSerializable_1 18 rfl rfl)
theorem dX4_isViewSerializable_42 : decode cX4_isViewSerializable 42 = .ok (.istore_n 3, 1) := dk_62 (dk_at dksX4_isViewSerializable_1 19 rfl rfl)
theorem dX4_isViewSerializable_43 : decode cX4_isViewSerializable 43 = .ok (.iinc 4 1, 3) := dk_132 4 1 (dk_at dksX4_isViewSerializable_1 20 rfl rfl)
theorem dX4_isViewSerializable_46 : decode cX4_isViewSerializable 46 = .ok (.goto (-14), 3) := dk_167 255 242 (dk_at dksX4_isViewSerializable_2 0 rfl rfl)
theorem dX4_isViewSerializable_49 : decode cX4_isViewSerializable 49 = .ok (.iconst 0, 1) := dk_3 (dk_at dksX4_isViewSerializable_2 3 rfl rfl)
theorem dX4_isViewSerializable_50 : decode cX4_isViewSerializable 50 = .ok (.istore 4, 2) := dk_54 4 (dk_at dksX4_isViewSerializable_2 4 rfl rfl)
theorem dX4_isViewSerializable_52 : decode cX4_isViewSerializable 52 = .ok (.iload 4, 2) := dk_21 4 (dk_at dksX4_isViewSerializable_2 6 rfl rfl)
theorem dX4_isViewSerializable_54 : decode cX4_isViewSerializable 54 = .ok (.iload_n 3, 1) := dk_29 (dk_at dksX4_isViewSerializable_2 8 rfl rfl)
theorem dX4_isViewSerializable_55 : decode cX4_isViewSerializable 55 = .ok (.if_icmp .ge 30, 3) := dk_162 0 30 (dk_at dksX4_isViewSerializable_2 9 rfl rfl)
theorem dX4_isViewSerializable_58 : decode cX4_isViewSerializable 58 = .ok (.aload_n 0, 1) := dk_42 (dk_at dksX4_isViewSerializable_2 12 rfl rfl)
theorem dX4_isViewSerializable_59 : decode cX4_isViewSerializable 59 = .ok (.iload 4, 2) := dk_21 4 (dk_at dksX4_isViewSerializable_2 13 rfl rfl)
theorem dX4_isViewSerializable_61 : decode cX4_isViewSerializable 61 = .ok (.iload_n 2, 1) := dk_28 (dk_at dksX4_isViewSerializable_2 15 rfl rfl)
theorem dX4_isViewSerializable_62 : decode cX4_isViewSerializable 62 = .ok (.invokevirtual 313, 3) := dk_182 1 57 (dk_at dksX4_isViewSerializable_2 16 rfl rfl)
theorem dX4_isViewSerializable_65 : decode cX4_isViewSerializable 65 = .ok (.aload_n 0, 1) := dk_42 (dk_at dksX4_isViewSerializable_2 19 rfl rfl)
theorem dX4_isViewSerializable_66 : decode cX4_isViewSerializable 66 = .ok (.iload_n 2, 1) := dk_28 (dk_at dksX4_isViewSerializable_2 20 rfl rfl)
theorem dX4_isViewSerializable_67 : decode cX4_isViewSerializable 67 = .ok (.invokevirtual 317, 3) := dk_182 1 61 (dk_at dksX4_isViewSerializable_2 21 rfl rfl)
theorem dX4_isViewSerializable_70 : decode cX4_isViewSerializable 70 = .ok (.aload_n 0, 1) := dk_42 (dk_at dksX4_isViewSerializable_3 0 rfl rfl)
theorem dX4_isViewSerializable_71 : decode cX4_isViewSerializable 71 = .ok (.invokevirtual 320, 3) := dk_182 1 64 (dk_at dksX4_isViewSerializable_3 1 rfl rfl)
theorem dX4_isViewSerializable_74 : decode cX4_isViewSerializable 74 = .ok (.ifCond .eq 5, 3) := dk_153 0 5 (dk_at dksX4_isViewSerializable_3 4 rfl rfl)
theorem dX4_isViewSerializable_77 : decode cX4_isViewSerializable 77 = .ok (.iconst 1, 1) := dk_4 (dk_at dksX4_isViewSerializable_3 7 rfl rfl)
theorem dX4_isViewSerializable_78 : decode cX4_isViewSerializable 78 = .ok (.ireturn, 1) := dk_172 (dk_at dksX4_isViewSerializable_3 8 rfl rfl)
theorem dX4_isViewSerializable_79 : decode cX4_isViewSerializable 79 = .ok (.iinc 4 1, 3) := dk_132 4 1 (dk_at dksX4_isViewSerializable_3 9 rfl rfl)
theorem dX4_isViewSerializable_82 : decode cX4_isViewSerializable 82 = .ok (.goto (-30), 3) := dk_167 255 226 (dk_at dksX4_isViewSerializable_3 12 rfl rfl)
theorem dX4_isViewSerializable_85 : decode cX4_isViewSerializable 85 = .ok (.iconst 0, 1) := dk_3 (dk_at dksX4_isViewSerializable_3 15 rfl rfl)
theorem dX4_isViewSerializable_86 : decode cX4_isViewSerializable 86 = .ok (.ireturn, 1) := dk_172 (dk_at dksX4_isViewSerializable_3 16 rfl rfl)
abbrev cX4_layPermutation : ByteArray := prog_12_method_93_code
def yX4_layPermutation : MethodName := ⟨RX4, "layPermutation", "(II)V"⟩
def dkwX4_layPermutation_3 : List UInt8 := [180, 0, 105, 21, 5, 21, 7, 79, 29, 4, 21, 7, 120, 2, 130, 126, 62, 132, 5, 1, 167, 255, 177, 177]
abbrev dktX4_layPermutation_3 : List UInt8 := dkwX4_layPermutation_3 ++ []
def dkwX4_layPermutation_2 : List UInt8 := [21, 6, 158, 0, 20, 21, 6, 29, 21, 7, 122, 4, 126, 100, 54, 6, 132, 7, 1, 167, 255, 228, 42]
abbrev dktX4_layPermutation_2 : List UInt8 := dkwX4_layPermutation_2 ++ dktX4_layPermutation_3
def dkwX4_layPermutation_1 : List UInt8 := [54, 6, 21, 4, 28, 21, 5, 100, 108, 54, 4, 4, 54, 7, 29, 21, 7, 122, 4, 126, 153, 0, 8]
abbrev dktX4_layPermutation_1 : List UInt8 := dkwX4_layPermutation_1 ++ dktX4_layPermutation_2
def dkwX4_layPermutation_0 : List UInt8 := [42, 180, 0, 72, 62, 27, 54, 4, 3, 54, 5, 21, 5, 28, 162, 0, 79, 21, 4, 28, 21, 5, 100, 112]
abbrev dktX4_layPermutation_0 : List UInt8 := dkwX4_layPermutation_0 ++ dktX4_layPermutation_1
theorem dksX4_layPermutation_0 : cX4_layPermutation.data.toList.drop 0 = dktX4_layPermutation_0 := by decide +kernel
theorem dksX4_layPermutation_1 : cX4_layPermutation.data.toList.drop 24 = dktX4_layPermutation_1 := dk_seg dksX4_layPermutation_0 24 rfl rfl
theorem dksX4_layPermutation_2 : cX4_layPermutation.data.toList.drop 47 = dktX4_layPermutation_2 := dk_seg dksX4_layPermutation_1 23 rfl rfl
theorem dksX4_layPermutation_3 : cX4_layPermutation.data.toList.drop 70 = dktX4_layPermutation_3 := dk_seg dksX4_layPermutation_2 23 rfl rfl
theorem dX4_layPermutation_0 : decode cX4_layPermutation 0 = .ok (.aload_n 0, 1) := dk_42 (dk_at dksX4_layPermutation_0 0 rfl rfl)
theorem dX4_layPermutation_1 : decode cX4_layPermutation 1 = .ok (.getfield 72, 3) := dk_180 0 72 (dk_at dksX4_layPermutation_0 1 rfl rfl)
theorem dX4_layPermutation_4 : decode cX4_layPermutation 4 = .ok (.istore_n 3, 1) := dk_62 (dk_at dksX4_layPermutation_0 4 rfl rfl)
theorem dX4_layPermutation_5 : decode cX4_layPermutation 5 = .ok (.iload_n 1, 1) := dk_27 (dk_at dksX4_layPermutation_0 5 rfl rfl)
theorem dX4_layPermutation_6 : decode cX4_layPermutation 6 = .ok (.istore 4, 2) := dk_54 4 (dk_at dksX4_layPermutation_0 6 rfl rfl)
theorem dX4_layPermutation_8 : decode cX4_layPermutation 8 = .ok (.iconst 0, 1) := dk_3 (dk_at dksX4_layPermutation_0 8 rfl rfl)
theorem dX4_layPermutation_9 : decode cX4_layPermutation 9 = .ok (.istore 5, 2) := dk_54 5 (dk_at dksX4_layPermutation_0 9 rfl rfl)
theorem dX4_layPermutation_11 : decode cX4_layPermutation 11 = .ok (.iload 5, 2) := dk_21 5 (dk_at dksX4_layPermutation_0 11 rfl rfl)
theorem dX4_layPermutation_13 : decode cX4_layPermutation 13 = .ok (.iload_n 2, 1) := dk_28 (dk_at dksX4_layPermutation_0 13 rfl rfl)
theorem dX4_layPermutation_14 : decode cX4_layPermutation 14 = .ok (.if_icmp .ge 79, 3) := dk_162 0 79 (dk_at dksX4_layPermutation_0 14 rfl rfl)
theorem dX4_layPermutation_17 : decode cX4_layPermutation 17 = .ok (.iload 4, 2) := dk_21 4 (dk_at dksX4_layPermutation_0 17 rfl rfl)
theorem dX4_layPermutation_19 : decode cX4_layPermutation 19 = .ok (.iload_n 2, 1) := dk_28 (dk_at dksX4_layPermutation_0 19 rfl rfl)
theorem dX4_layPermutation_20 : decode cX4_layPermutation 20 = .ok (.iload 5, 2) := dk_21 5 (dk_at dksX4_layPermutation_0 20 rfl rfl)
theorem dX4_layPermutation_22 : decode cX4_layPermutation 22 = .ok (.isub, 1) := dk_100 (dk_at dksX4_layPermutation_0 22 rfl rfl)
theorem dX4_layPermutation_23 : decode cX4_layPermutation 23 = .ok (.irem, 1) := dk_112 (dk_at dksX4_layPermutation_0 23 rfl rfl)
theorem dX4_layPermutation_24 : decode cX4_layPermutation 24 = .ok (.istore 6, 2) := dk_54 6 (dk_at dksX4_layPermutation_1 0 rfl rfl)
theorem dX4_layPermutation_26 : decode cX4_layPermutation 26 = .ok (.iload 4, 2) := dk_21 4 (dk_at dksX4_layPermutation_1 2 rfl rfl)
theorem dX4_layPermutation_28 : decode cX4_layPermutation 28 = .ok (.iload_n 2, 1) := dk_28 (dk_at dksX4_layPermutation_1 4 rfl rfl)
theorem dX4_layPermutation_29 : decode cX4_layPermutation 29 = .ok (.iload 5, 2) := dk_21 5 (dk_at dksX4_layPermutation_1 5 rfl rfl)
theorem dX4_layPermutation_31 : decode cX4_layPermutation 31 = .ok (.isub, 1) := dk_100 (dk_at dksX4_layPermutation_1 7 rfl rfl)
theorem dX4_layPermutation_32 : decode cX4_layPermutation 32 = .ok (.idiv, 1) := dk_108 (dk_at dksX4_layPermutation_1 8 rfl rfl)
theorem dX4_layPermutation_33 : decode cX4_layPermutation 33 = .ok (.istore 4, 2) := dk_54 4 (dk_at dksX4_layPermutation_1 9 rfl rfl)
theorem dX4_layPermutation_35 : decode cX4_layPermutation 35 = .ok (.iconst 1, 1) := dk_4 (dk_at dksX4_layPermutation_1 11 rfl rfl)
theorem dX4_layPermutation_36 : decode cX4_layPermutation 36 = .ok (.istore 7, 2) := dk_54 7 (dk_at dksX4_layPermutation_1 12 rfl rfl)
theorem dX4_layPermutation_38 : decode cX4_layPermutation 38 = .ok (.iload_n 3, 1) := dk_29 (dk_at dksX4_layPermutation_1 14 rfl rfl)
theorem dX4_layPermutation_39 : decode cX4_layPermutation 39 = .ok (.iload 7, 2) := dk_21 7 (dk_at dksX4_layPermutation_1 15 rfl rfl)
theorem dX4_layPermutation_41 : decode cX4_layPermutation 41 = .ok (.ishr, 1) := dk_122 (dk_at dksX4_layPermutation_1 17 rfl rfl)
theorem dX4_layPermutation_42 : decode cX4_layPermutation 42 = .ok (.iconst 1, 1) := dk_4 (dk_at dksX4_layPermutation_1 18 rfl rfl)
theorem dX4_layPermutation_43 : decode cX4_layPermutation 43 = .ok (.iand, 1) := dk_126 (dk_at dksX4_layPermutation_1 19 rfl rfl)
theorem dX4_layPermutation_44 : decode cX4_layPermutation 44 = .ok (.ifCond .eq 8, 3) := dk_153 0 8 (dk_at dksX4_layPermutation_1 20 rfl rfl)
theorem dX4_layPermutation_47 : decode cX4_layPermutation 47 = .ok (.iload 6, 2) := dk_21 6 (dk_at dksX4_layPermutation_2 0 rfl rfl)
theorem dX4_layPermutation_49 : decode cX4_layPermutation 49 = .ok (.ifCond .le 20, 3) := dk_158 0 20 (dk_at dksX4_layPermutation_2 2 rfl rfl)
theorem dX4_layPermutation_52 : decode cX4_layPermutation 52 = .ok (.iload 6, 2) := dk_21 6 (dk_at dksX4_layPermutation_2 5 rfl rfl)
theorem dX4_layPermutation_54 : decode cX4_layPermutation 54 = .ok (.iload_n 3, 1) := dk_29 (dk_at dksX4_layPermutation_2 7 rfl rfl)
theorem dX4_layPermutation_55 : decode cX4_layPermutation 55 = .ok (.iload 7, 2) := dk_21 7 (dk_at dksX4_layPermutation_2 8 rfl rfl)
theorem dX4_layPermutation_57 : decode cX4_layPermutation 57 = .ok (.ishr, 1) := dk_122 (dk_at dksX4_layPermutation_2 10 rfl rfl)
theorem dX4_layPermutation_58 : decode cX4_layPermutation 58 = .ok (.iconst 1, 1) := dk_4 (dk_at dksX4_layPermutation_2 11 rfl rfl)
theorem dX4_layPermutation_59 : decode cX4_layPermutation 59 = .ok (.iand, 1) := dk_126 (dk_at dksX4_layPermutation_2 12 rfl rfl)
theorem dX4_layPermutation_60 : decode cX4_layPermutation 60 = .ok (.isub, 1) := dk_100 (dk_at dksX4_layPermutation_2 13 rfl rfl)
theorem dX4_layPermutation_61 : decode cX4_layPermutation 61 = .ok (.istore 6, 2) := dk_54 6 (dk_at dksX4_layPermutation_2 14 rfl rfl)
theorem dX4_layPermutation_63 : decode cX4_layPermutation 63 = .ok (.iinc 7 1, 3) := dk_132 7 1 (dk_at dksX4_layPermutation_2 16 rfl rfl)
theorem dX4_layPermutation_66 : decode cX4_layPermutation 66 = .ok (.goto (-28), 3) := dk_167 255 228 (dk_at dksX4_layPermutation_2 19 rfl rfl)
theorem dX4_layPermutation_69 : decode cX4_layPermutation 69 = .ok (.aload_n 0, 1) := dk_42 (dk_at dksX4_layPermutation_2 22 rfl rfl)
theorem dX4_layPermutation_70 : decode cX4_layPermutation 70 = .ok (.getfield 105, 3) := dk_180 0 105 (dk_at dksX4_layPermutation_3 0 rfl rfl)
theorem dX4_layPermutation_73 : decode cX4_layPermutation 73 = .ok (.iload 5, 2) := dk_21 5 (dk_at dksX4_layPermutation_3 3 rfl rfl)
theorem dX4_layPermutation_75 : decode cX4_layPermutation 75 = .ok (.iload 7, 2) := dk_21 7 (dk_at dksX4_layPermutation_3 5 rfl rfl)
theorem dX4_layPermutation_77 : decode cX4_layPermutation 77 = .ok (.iastore, 1) := dk_79 (dk_at dksX4_layPermutation_3 7 rfl rfl)
theorem dX4_layPermutation_78 : decode cX4_layPermutation 78 = .ok (.iload_n 3, 1) := dk_29 (dk_at dksX4_layPermutation_3 8 rfl rfl)
theorem dX4_layPermutation_79 : decode cX4_layPermutation 79 = .ok (.iconst 1, 1) := dk_4 (dk_at dksX4_layPermutation_3 9 rfl rfl)
theorem dX4_layPermutation_80 : decode cX4_layPermutation 80 = .ok (.iload 7, 2) := dk_21 7 (dk_at dksX4_layPermutation_3 10 rfl rfl)
theorem dX4_layPermutation_82 : decode cX4_layPermutation 82 = .ok (.ishl, 1) := dk_120 (dk_at dksX4_layPermutation_3 12 rfl rfl)
theorem dX4_layPermutation_83 : decode cX4_layPermutation 83 = .ok (.iconst (-1), 1) := dk_2 (dk_at dksX4_layPermutation_3 13 rfl rfl)
theorem dX4_layPermutation_84 : decode cX4_layPermutation 84 = .ok (.ixor, 1) := dk_130 (dk_at dksX4_layPermutation_3 14 rfl rfl)
theorem dX4_layPermutation_85 : decode cX4_layPermutation 85 = .ok (.iand, 1) := dk_126 (dk_at dksX4_layPermutation_3 15 rfl rfl)
theorem dX4_layPermutation_86 : decode cX4_layPermutation 86 = .ok (.istore_n 3, 1) := dk_62 (dk_at dksX4_layPermutation_3 16 rfl rfl)
theorem dX4_layPermutation_87 : decode cX4_layPermutation 87 = .ok (.iinc 5 1, 3) := dk_132 5 1 (dk_at dksX4_layPermutation_3 17 rfl rfl)
theorem dX4_layPermutation_90 : decode cX4_layPermutation 90 = .ok (.goto (-79), 3) := dk_167 255 177 (dk_at dksX4_layPermutation_3 20 rfl rfl)
theorem dX4_layPermutation_93 : decode cX4_layPermutation 93 = .ok (.return_, 1) := dk_177 (dk_at dksX4_layPermutation_3 23 rfl rfl)
abbrev cX4_laySequence : ByteArray := prog_12_method_94_code
def yX4_laySequence : MethodName := ⟨RX4, "laySequence", "(I)V"⟩
def dkwX4_laySequence_2 : List UInt8 := [21, 4, 79, 132, 2, 1, 132, 4, 1, 167, 255, 214, 132, 3, 1, 167, 255, 200, 42, 182, 1, 54, 177]
abbrev dktX4_laySequence_2 : List UInt8 := dkwX4_laySequence_2 ++ []
def dkwX4_laySequence_1 : List UInt8 := [180, 0, 54, 21, 4, 46, 42, 180, 0, 105, 29, 46, 159, 0, 6, 167, 0, 14, 42, 180, 0, 99, 28]
abbrev dktX4_laySequence_1 : List UInt8 := dkwX4_laySequence_1 ++ dktX4_laySequence_2
def dkwX4_laySequence_0 : List UInt8 := [3, 61, 3, 62, 29, 27, 162, 0, 57, 3, 54, 4, 21, 4, 42, 180, 0, 69, 162, 0, 39, 42]
abbrev dktX4_laySequence_0 : List UInt8 := dkwX4_laySequence_0 ++ dktX4_laySequence_1
theorem dksX4_laySequence_0 : cX4_laySequence.data.toList.drop 0 = dktX4_laySequence_0 := by decide +kernel
theorem dksX4_laySequence_1 : cX4_laySequence.data.toList.drop 22 = dktX4_laySequence_1 := dk_seg dksX4_laySequence_0 22 rfl rfl
theorem dksX4_laySequence_2 : cX4_laySequence.data.toList.drop 45 = dktX4_laySequence_2 := dk_seg dksX4_laySequence_1 23 rfl rfl
theorem dX4_laySequence_0 : decode cX4_laySequence 0 = .ok (.iconst 0, 1) := dk_3 (dk_at dksX4_laySequence_0 0 rfl rfl)
theorem dX4_laySequence_1 : decode cX4_laySequence 1 = .ok (.istore_n 2, 1) := dk_61 (dk_at dksX4_laySequence_0 1 rfl rfl)
theorem dX4_laySequence_2 : decode cX4_laySequence 2 = .ok (.iconst 0, 1) := dk_3 (dk_at dksX4_laySequence_0 2 rfl rfl)
theorem dX4_laySequence_3 : decode cX4_laySequence 3 = .ok (.istore_n 3, 1) := dk_62 (dk_at dksX4_laySequence_0 3 rfl rfl)
theorem dX4_laySequence_4 : decode cX4_laySequence 4 = .ok (.iload_n 3, 1) := dk_29 (dk_at dksX4_laySequence_0 4 rfl rfl)
theorem dX4_laySequence_5 : decode cX4_laySequence 5 = .ok (.iload_n 1, 1) := dk_27 (dk_at dksX4_laySequence_0 5 rfl rfl)
theorem dX4_laySequence_6 : decode cX4_laySequence 6 = .ok (.if_icmp .ge 57, 3) := dk_162 0 57 (dk_at dksX4_laySequence_0 6 rfl rfl)
theorem dX4_laySequence_9 : decode cX4_laySequence 9 = .ok (.iconst 0, 1) := dk_3 (dk_at dksX4_laySequence_0 9 rfl rfl)
theorem dX4_laySequence_10 : decode cX4_laySequence 10 = .ok (.istore 4, 2) := dk_54 4 (dk_at dksX4_laySequence_0 10 rfl rfl)
theorem dX4_laySequence_12 : decode cX4_laySequence 12 = .ok (.iload 4, 2) := dk_21 4 (dk_at dksX4_laySequence_0 12 rfl rfl)
theorem dX4_laySequence_14 : decode cX4_laySequence 14 = .ok (.aload_n 0, 1) := dk_42 (dk_at dksX4_laySequence_0 14 rfl rfl)
theorem dX4_laySequence_15 : decode cX4_laySequence 15 = .ok (.getfield 69, 3) := dk_180 0 69 (dk_at dksX4_laySequence_0 15 rfl rfl)
theorem dX4_laySequence_18 : decode cX4_laySequence 18 = .ok (.if_icmp .ge 39, 3) := dk_162 0 39 (dk_at dksX4_laySequence_0 18 rfl rfl)
theorem dX4_laySequence_21 : decode cX4_laySequence 21 = .ok (.aload_n 0, 1) := dk_42 (dk_at dksX4_laySequence_0 21 rfl rfl)
theorem dX4_laySequence_22 : decode cX4_laySequence 22 = .ok (.getfield 54, 3) := dk_180 0 54 (dk_at dksX4_laySequence_1 0 rfl rfl)
theorem dX4_laySequence_25 : decode cX4_laySequence 25 = .ok (.iload 4, 2) := dk_21 4 (dk_at dksX4_laySequence_1 3 rfl rfl)
theorem dX4_laySequence_27 : decode cX4_laySequence 27 = .ok (.iaload, 1) := dk_46 (dk_at dksX4_laySequence_1 5 rfl rfl)
theorem dX4_laySequence_28 : decode cX4_laySequence 28 = .ok (.aload_n 0, 1) := dk_42 (dk_at dksX4_laySequence_1 6 rfl rfl)
theorem dX4_laySequence_29 : decode cX4_laySequence 29 = .ok (.getfield 105, 3) := dk_180 0 105 (dk_at dksX4_laySequence_1 7 rfl rfl)
theorem dX4_laySequence_32 : decode cX4_laySequence 32 = .ok (.iload_n 3, 1) := dk_29 (dk_at dksX4_laySequence_1 10 rfl rfl)
theorem dX4_laySequence_33 : decode cX4_laySequence 33 = .ok (.iaload, 1) := dk_46 (dk_at dksX4_laySequence_1 11 rfl rfl)
theorem dX4_laySequence_34 : decode cX4_laySequence 34 = .ok (.if_icmp .eq 6, 3) := dk_159 0 6 (dk_at dksX4_laySequence_1 12 rfl rfl)
theorem dX4_laySequence_37 : decode cX4_laySequence 37 = .ok (.goto 14, 3) := dk_167 0 14 (dk_at dksX4_laySequence_1 15 rfl rfl)
theorem dX4_laySequence_40 : decode cX4_laySequence 40 = .ok (.aload_n 0, 1) := dk_42 (dk_at dksX4_laySequence_1 18 rfl rfl)
theorem dX4_laySequence_41 : decode cX4_laySequence 41 = .ok (.getfield 99, 3) := dk_180 0 99 (dk_at dksX4_laySequence_1 19 rfl rfl)
theorem dX4_laySequence_44 : decode cX4_laySequence 44 = .ok (.iload_n 2, 1) := dk_28 (dk_at dksX4_laySequence_1 22 rfl rfl)
theorem dX4_laySequence_45 : decode cX4_laySequence 45 = .ok (.iload 4, 2) := dk_21 4 (dk_at dksX4_laySequence_2 0 rfl rfl)
theorem dX4_laySequence_47 : decode cX4_laySequence 47 = .ok (.iastore, 1) := dk_79 (dk_at dksX4_laySequence_2 2 rfl rfl)
theorem dX4_laySequence_48 : decode cX4_laySequence 48 = .ok (.iinc 2 1, 3) := dk_132 2 1 (dk_at dksX4_laySequence_2 3 rfl rfl)
theorem dX4_laySequence_51 : decode cX4_laySequence 51 = .ok (.iinc 4 1, 3) := dk_132 4 1 (dk_at dksX4_laySequence_2 6 rfl rfl)
theorem dX4_laySequence_54 : decode cX4_laySequence 54 = .ok (.goto (-42), 3) := dk_167 255 214 (dk_at dksX4_laySequence_2 9 rfl rfl)
theorem dX4_laySequence_57 : decode cX4_laySequence 57 = .ok (.iinc 3 1, 3) := dk_132 3 1 (dk_at dksX4_laySequence_2 12 rfl rfl)
theorem dX4_laySequence_60 : decode cX4_laySequence 60 = .ok (.goto (-56), 3) := dk_167 255 200 (dk_at dksX4_laySequence_2 15 rfl rfl)
theorem dX4_laySequence_63 : decode cX4_laySequence 63 = .ok (.aload_n 0, 1) := dk_42 (dk_at dksX4_laySequence_2 18 rfl rfl)
theorem dX4_laySequence_64 : decode cX4_laySequence 64 = .ok (.invokevirtual 310, 3) := dk_182 1 54 (dk_at dksX4_laySequence_2 19 rfl rfl)
theorem dX4_laySequence_67 : decode cX4_laySequence 67 = .ok (.return_, 1) := dk_177 (dk_at dksX4_laySequence_2 22 rfl rfl)
abbrev cX4_layPlaces : ByteArray := prog_12_method_89_code
def yX4_layPlaces : MethodName := ⟨RX4, "layPlaces", "()V"⟩
def dkwX4_layPlaces_1 : List UInt8 := [132, 1, 1, 167, 255, 233, 177]
abbrev dktX4_layPlaces_1 : List UInt8 := dkwX4_layPlaces_1 ++ []
def dkwX4_layPlaces_0 : List UInt8 := [3, 60, 27, 42, 180, 0, 69, 162, 0, 21, 42, 180, 0, 102, 42, 180, 0, 99, 27, 46, 27, 79]
abbrev dktX4_layPlaces_0 : List UInt8 := dkwX4_layPlaces_0 ++ dktX4_layPlaces_1
theorem dksX4_layPlaces_0 : cX4_layPlaces.data.toList.drop 0 = dktX4_layPlaces_0 := by decide +kernel
theorem dksX4_layPlaces_1 : cX4_layPlaces.data.toList.drop 22 = dktX4_layPlaces_1 := dk_seg dksX4_layPlaces_0 22 rfl rfl
theorem dX4_layPlaces_0 : decode cX4_layPlaces 0 = .ok (.iconst 0, 1) := dk_3 (dk_at dksX4_layPlaces_0 0 rfl rfl)
theorem dX4_layPlaces_1 : decode cX4_layPlaces 1 = .ok (.istore_n 1, 1) := dk_60 (dk_at dksX4_layPlaces_0 1 rfl rfl)
theorem dX4_layPlaces_2 : decode cX4_layPlaces 2 = .ok (.iload_n 1, 1) := dk_27 (dk_at dksX4_layPlaces_0 2 rfl rfl)
theorem dX4_layPlaces_3 : decode cX4_layPlaces 3 = .ok (.aload_n 0, 1) := dk_42 (dk_at dksX4_layPlaces_0 3 rfl rfl)
theorem dX4_layPlaces_4 : decode cX4_layPlaces 4 = .ok (.getfield 69, 3) := dk_180 0 69 (dk_at dksX4_layPlaces_0 4 rfl rfl)
theorem dX4_layPlaces_7 : decode cX4_layPlaces 7 = .ok (.if_icmp .ge 21, 3) := dk_162 0 21 (dk_at dksX4_layPlaces_0 7 rfl rfl)
theorem dX4_layPlaces_10 : decode cX4_layPlaces 10 = .ok (.aload_n 0, 1) := dk_42 (dk_at dksX4_layPlaces_0 10 rfl rfl)
theorem dX4_layPlaces_11 : decode cX4_layPlaces 11 = .ok (.getfield 102, 3) := dk_180 0 102 (dk_at dksX4_layPlaces_0 11 rfl rfl)
theorem dX4_layPlaces_14 : decode cX4_layPlaces 14 = .ok (.aload_n 0, 1) := dk_42 (dk_at dksX4_layPlaces_0 14 rfl rfl)
theorem dX4_layPlaces_15 : decode cX4_layPlaces 15 = .ok (.getfield 99, 3) := dk_180 0 99 (dk_at dksX4_layPlaces_0 15 rfl rfl)
theorem dX4_layPlaces_18 : decode cX4_layPlaces 18 = .ok (.iload_n 1, 1) := dk_27 (dk_at dksX4_layPlaces_0 18 rfl rfl)
theorem dX4_layPlaces_19 : decode cX4_layPlaces 19 = .ok (.iaload, 1) := dk_46 (dk_at dksX4_layPlaces_0 19 rfl rfl)
theorem dX4_layPlaces_20 : decode cX4_layPlaces 20 = .ok (.iload_n 1, 1) := dk_27 (dk_at dksX4_layPlaces_0 20 rfl rfl)
theorem dX4_layPlaces_21 : decode cX4_layPlaces 21 = .ok (.iastore, 1) := dk_79 (dk_at dksX4_layPlaces_0 21 rfl rfl)
theorem dX4_layPlaces_22 : decode cX4_layPlaces 22 = .ok (.iinc 1 1, 3) := dk_132 1 1 (dk_at dksX4_layPlaces_1 0 rfl rfl)
theorem dX4_layPlaces_25 : decode cX4_layPlaces 25 = .ok (.goto (-23), 3) := dk_167 255 233 (dk_at dksX4_layPlaces_1 3 rfl rfl)
theorem dX4_layPlaces_28 : decode cX4_layPlaces 28 = .ok (.return_, 1) := dk_177 (dk_at dksX4_layPlaces_1 6 rfl rfl)
abbrev cX4_isSameView : ByteArray := prog_12_method_92_code
def yX4_isSameView : MethodName := ⟨RX4, "isSameView", "()Z"⟩
def dkwX4_isSameView_4 : List UInt8 := [172]
abbrev dktX4_isSameView_4 : List UInt8 := dkwX4_isSameView_4 ++ []
def dkwX4_isSameView_3 : List UInt8 := [182, 1, 48, 42, 27, 42, 180, 0, 69, 182, 1, 51, 159, 0, 5, 3, 172, 132, 1, 1, 167, 255, 225, 4]
abbrev dktX4_isSameView_3 : List UInt8 := dkwX4_isSameView_3 ++ dktX4_isSameView_4
def dkwX4_isSameView_2 : List UInt8 := [159, 0, 5, 3, 172, 132, 1, 1, 167, 255, 204, 3, 60, 27, 7, 162, 0, 32, 42, 27, 42, 180, 0, 69]
abbrev dktX4_isSameView_2 : List UInt8 := dkwX4_isSameView_2 ++ dktX4_isSameView_3
def dkwX4_isSameView_1 : List UInt8 := [27, 46, 42, 180, 0, 102, 27, 46, 182, 1, 48, 42, 42, 180, 0, 57, 27, 46, 27, 182, 1, 51]
abbrev dktX4_isSameView_1 : List UInt8 := dkwX4_isSameView_1 ++ dktX4_isSameView_2
def dkwX4_isSameView_0 : List UInt8 := [3, 60, 27, 42, 180, 0, 69, 162, 0, 50, 42, 180, 0, 51, 27, 46, 154, 0, 35, 42, 42, 180, 0, 57]
abbrev dktX4_isSameView_0 : List UInt8 := dkwX4_isSameView_0 ++ dktX4_isSameView_1
theorem dksX4_isSameView_0 : cX4_isSameView.data.toList.drop 0 = dktX4_isSameView_0 := by decide +kernel
theorem dksX4_isSameView_1 : cX4_isSameView.data.toList.drop 24 = dktX4_isSameView_1 := dk_seg dksX4_isSameView_0 24 rfl rfl
theorem dksX4_isSameView_2 : cX4_isSameView.data.toList.drop 46 = dktX4_isSameView_2 := dk_seg dksX4_isSameView_1 22 rfl rfl
theorem dksX4_isSameView_3 : cX4_isSameView.data.toList.drop 70 = dktX4_isSameView_3 := dk_seg dksX4_isSameView_2 24 rfl rfl
theorem dksX4_isSameView_4 : cX4_isSameView.data.toList.drop 94 = dktX4_isSameView_4 := dk_seg dksX4_isSameView_3 24 rfl rfl
theorem dX4_isSameView_0 : decode cX4_isSameView 0 = .ok (.iconst 0, 1) := dk_3 (dk_at dksX4_isSameView_0 0 rfl rfl)
theorem dX4_isSameView_1 : decode cX4_isSameView 1 = .ok (.istore_n 1, 1) := dk_60 (dk_at dksX4_isSameView_0 1 rfl rfl)
theorem dX4_isSameView_2 : decode cX4_isSameView 2 = .ok (.iload_n 1, 1) := dk_27 (dk_at dksX4_isSameView_0 2 rfl rfl)
theorem dX4_isSameView_3 : decode cX4_isSameView 3 = .ok (.aload_n 0, 1) := dk_42 (dk_at dksX4_isSameView_0 3 rfl rfl)
theorem dX4_isSameView_4 : decode cX4_isSameView 4 = .ok (.getfield 69, 3) := dk_180 0 69 (dk_at dksX4_isSameView_0 4 rfl rfl)
theorem dX4_isSameView_7 : decode cX4_isSameView 7 = .ok (.if_icmp .ge 50, 3) := dk_162 0 50 (dk_at dksX4_isSameView_0 7 rfl rfl)
theorem dX4_isSameView_10 : decode cX4_isSameView 10 = .ok (.aload_n 0, 1) := dk_42 (dk_at dksX4_isSameView_0 10 rfl rfl)
theorem dX4_isSameView_11 : decode cX4_isSameView 11 = .ok (.getfield 51, 3) := dk_180 0 51 (dk_at dksX4_isSameView_0 11 rfl rfl)
theorem dX4_isSameView_14 : decode cX4_isSameView 14 = .ok (.iload_n 1, 1) := dk_27 (dk_at dksX4_isSameView_0 14 rfl rfl)
theorem dX4_isSameView_15 : decode cX4_isSameView 15 = .ok (.iaload, 1) := dk_46 (dk_at dksX4_isSameView_0 15 rfl rfl)
theorem dX4_isSameView_16 : decode cX4_isSameView 16 = .ok (.ifCond .ne 35, 3) := dk_154 0 35 (dk_at dksX4_isSameView_0 16 rfl rfl)
theorem dX4_isSameView_19 : decode cX4_isSameView 19 = .ok (.aload_n 0, 1) := dk_42 (dk_at dksX4_isSameView_0 19 rfl rfl)
theorem dX4_isSameView_20 : decode cX4_isSameView 20 = .ok (.aload_n 0, 1) := dk_42 (dk_at dksX4_isSameView_0 20 rfl rfl)
theorem dX4_isSameView_21 : decode cX4_isSameView 21 = .ok (.getfield 57, 3) := dk_180 0 57 (dk_at dksX4_isSameView_0 21 rfl rfl)
theorem dX4_isSameView_24 : decode cX4_isSameView 24 = .ok (.iload_n 1, 1) := dk_27 (dk_at dksX4_isSameView_1 0 rfl rfl)
theorem dX4_isSameView_25 : decode cX4_isSameView 25 = .ok (.iaload, 1) := dk_46 (dk_at dksX4_isSameView_1 1 rfl rfl)
theorem dX4_isSameView_26 : decode cX4_isSameView 26 = .ok (.aload_n 0, 1) := dk_42 (dk_at dksX4_isSameView_1 2 rfl rfl)
theorem dX4_isSameView_27 : decode cX4_isSameView 27 = .ok (.getfield 102, 3) := dk_180 0 102 (dk_at dksX4_isSameView_1 3 rfl rfl)
theorem dX4_isSameView_30 : decode cX4_isSameView 30 = .ok (.iload_n 1, 1) := dk_27 (dk_at dksX4_isSameView_1 6 rfl rfl)
theorem dX4_isSameView_31 : decode cX4_isSameView 31 = .ok (.iaload, 1) := dk_46 (dk_at dksX4_isSameView_1 7 rfl rfl)
theorem dX4_isSameView_32 : decode cX4_isSameView 32 = .ok (.invokevirtual 304, 3) := dk_182 1 48 (dk_at dksX4_isSameView_1 8 rfl rfl)
theorem dX4_isSameView_35 : decode cX4_isSameView 35 = .ok (.aload_n 0, 1) := dk_42 (dk_at dksX4_isSameView_1 11 rfl rfl)
theorem dX4_isSameView_36 : decode cX4_isSameView 36 = .ok (.aload_n 0, 1) := dk_42 (dk_at dksX4_isSameView_1 12 rfl rfl)
theorem dX4_isSameView_37 : decode cX4_isSameView 37 = .ok (.getfield 57, 3) := dk_180 0 57 (dk_at dksX4_isSameView_1 13 rfl rfl)
theorem dX4_isSameView_40 : decode cX4_isSameView 40 = .ok (.iload_n 1, 1) := dk_27 (dk_at dksX4_isSameView_1 16 rfl rfl)
theorem dX4_isSameView_41 : decode cX4_isSameView 41 = .ok (.iaload, 1) := dk_46 (dk_at dksX4_isSameView_1 17 rfl rfl)
theorem dX4_isSameView_42 : decode cX4_isSameView 42 = .ok (.iload_n 1, 1) := dk_27 (dk_at dksX4_isSameView_1 18 rfl rfl)
theorem dX4_isSameView_43 : decode cX4_isSameView 43 = .ok (.invokevirtual 307, 3) := dk_182 1 51 (dk_at dksX4_isSameView_1 19 rfl rfl)
theorem dX4_isSameView_46 : decode cX4_isSameView 46 = .ok (.if_icmp .eq 5, 3) := dk_159 0 5 (dk_at dksX4_isSameView_2 0 rfl rfl)
theorem dX4_isSameView_49 : decode cX4_isSameView 49 = .ok (.iconst 0, 1) := dk_3 (dk_at dksX4_isSameView_2 3 rfl rfl)
theorem dX4_isSameView_50 : decode cX4_isSameView 50 = .ok (.ireturn, 1) := dk_172 (dk_at dksX4_isSameView_2 4 rfl rfl)
theorem dX4_isSameView_51 : decode cX4_isSameView 51 = .ok (.iinc 1 1, 3) := dk_132 1 1 (dk_at dksX4_isSameView_2 5 rfl rfl)
theorem dX4_isSameView_54 : decode cX4_isSameView 54 = .ok (.goto (-52), 3) := dk_167 255 204 (dk_at dksX4_isSameView_2 8 rfl rfl)
theorem dX4_isSameView_57 : decode cX4_isSameView 57 = .ok (.iconst 0, 1) := dk_3 (dk_at dksX4_isSameView_2 11 rfl rfl)
theorem dX4_isSameView_58 : decode cX4_isSameView 58 = .ok (.istore_n 1, 1) := dk_60 (dk_at dksX4_isSameView_2 12 rfl rfl)
theorem dX4_isSameView_59 : decode cX4_isSameView 59 = .ok (.iload_n 1, 1) := dk_27 (dk_at dksX4_isSameView_2 13 rfl rfl)
theorem dX4_isSameView_60 : decode cX4_isSameView 60 = .ok (.iconst 4, 1) := dk_7 (dk_at dksX4_isSameView_2 14 rfl rfl)
theorem dX4_isSameView_61 : decode cX4_isSameView 61 = .ok (.if_icmp .ge 32, 3) := dk_162 0 32 (dk_at dksX4_isSameView_2 15 rfl rfl)
theorem dX4_isSameView_64 : decode cX4_isSameView 64 = .ok (.aload_n 0, 1) := dk_42 (dk_at dksX4_isSameView_2 18 rfl rfl)
theorem dX4_isSameView_65 : decode cX4_isSameView 65 = .ok (.iload_n 1, 1) := dk_27 (dk_at dksX4_isSameView_2 19 rfl rfl)
theorem dX4_isSameView_66 : decode cX4_isSameView 66 = .ok (.aload_n 0, 1) := dk_42 (dk_at dksX4_isSameView_2 20 rfl rfl)
theorem dX4_isSameView_67 : decode cX4_isSameView 67 = .ok (.getfield 69, 3) := dk_180 0 69 (dk_at dksX4_isSameView_2 21 rfl rfl)
theorem dX4_isSameView_70 : decode cX4_isSameView 70 = .ok (.invokevirtual 304, 3) := dk_182 1 48 (dk_at dksX4_isSameView_3 0 rfl rfl)
theorem dX4_isSameView_73 : decode cX4_isSameView 73 = .ok (.aload_n 0, 1) := dk_42 (dk_at dksX4_isSameView_3 3 rfl rfl)
theorem dX4_isSameView_74 : decode cX4_isSameView 74 = .ok (.iload_n 1, 1) := dk_27 (dk_at dksX4_isSameView_3 4 rfl rfl)
theorem dX4_isSameView_75 : decode cX4_isSameView 75 = .ok (.aload_n 0, 1) := dk_42 (dk_at dksX4_isSameView_3 5 rfl rfl)
theorem dX4_isSameView_76 : decode cX4_isSameView 76 = .ok (.getfield 69, 3) := dk_180 0 69 (dk_at dksX4_isSameView_3 6 rfl rfl)
theorem dX4_isSameView_79 : decode cX4_isSameView 79 = .ok (.invokevirtual 307, 3) := dk_182 1 51 (dk_at dksX4_isSameView_3 9 rfl rfl)
theorem dX4_isSameView_82 : decode cX4_isSameView 82 = .ok (.if_icmp .eq 5, 3) := dk_159 0 5 (dk_at dksX4_isSameView_3 12 rfl rfl)
theorem dX4_isSameView_85 : decode cX4_isSameView 85 = .ok (.iconst 0, 1) := dk_3 (dk_at dksX4_isSameView_3 15 rfl rfl)
theorem dX4_isSameView_86 : decode cX4_isSameView 86 = .ok (.ireturn, 1) := dk_172 (dk_at dksX4_isSameView_3 16 rfl rfl)
theorem dX4_isSameView_87 : decode cX4_isSameView 87 = .ok (.iinc 1 1, 3) := dk_132 1 1 (dk_at dksX4_isSameView_3 17 rfl rfl)
theorem dX4_isSameView_90 : decode cX4_isSameView 90 = .ok (.goto (-31), 3) := dk_167 255 225 (dk_at dksX4_isSameView_3 20 rfl rfl)
theorem dX4_isSameView_93 : decode cX4_isSameView 93 = .ok (.iconst 1, 1) := dk_4 (dk_at dksX4_isSameView_3 23 rfl rfl)
theorem dX4_isSameView_94 : decode cX4_isSameView 94 = .ok (.ireturn, 1) := dk_172 (dk_at dksX4_isSameView_4 0 rfl rfl)
abbrev cX4_latestWrite : ByteArray := prog_12_method_90_code
def yX4_latestWrite : MethodName := ⟨RX4, "latestWrite", "(II)I"⟩
def dkwX4_latestWrite_2 : List UInt8 := [167, 255, 212, 2, 172]
abbrev dktX4_latestWrite_2 : List UInt8 := dkwX4_latestWrite_2 ++ []
def dkwX4_latestWrite_1 : List UInt8 := [180, 0, 57, 42, 180, 0, 99, 29, 46, 46, 27, 160, 0, 10, 42, 180, 0, 99, 29, 46, 172, 132, 3, 255]
abbrev dktX4_latestWrite_1 : List UInt8 := dkwX4_latestWrite_1 ++ dktX4_latestWrite_2
def dkwX4_latestWrite_0 : List UInt8 := [28, 4, 100, 62, 29, 155, 0, 46, 42, 180, 0, 51, 42, 180, 0, 99, 29, 46, 46, 4, 160, 0, 25, 42]
abbrev dktX4_latestWrite_0 : List UInt8 := dkwX4_latestWrite_0 ++ dktX4_latestWrite_1
theorem dksX4_latestWrite_0 : cX4_latestWrite.data.toList.drop 0 = dktX4_latestWrite_0 := by decide +kernel
theorem dksX4_latestWrite_1 : cX4_latestWrite.data.toList.drop 24 = dktX4_latestWrite_1 := dk_seg dksX4_latestWrite_0 24 rfl rfl
theorem dksX4_latestWrite_2 : cX4_latestWrite.data.toList.drop 48 = dktX4_latestWrite_2 := dk_seg dksX4_latestWrite_1 24 rfl rfl
theorem dX4_latestWrite_0 : decode cX4_latestWrite 0 = .ok (.iload_n 2, 1) := dk_28 (dk_at dksX4_latestWrite_0 0 rfl rfl)
theorem dX4_latestWrite_1 : decode cX4_latestWrite 1 = .ok (.iconst 1, 1) := dk_4 (dk_at dksX4_latestWrite_0 1 rfl rfl)
theorem dX4_latestWrite_2 : decode cX4_latestWrite 2 = .ok (.isub, 1) := dk_100 (dk_at dksX4_latestWrite_0 2 rfl rfl)
theorem dX4_latestWrite_3 : decode cX4_latestWrite 3 = .ok (.istore_n 3, 1) := dk_62 (dk_at dksX4_latestWrite_0 3 rfl rfl)
theorem dX4_latestWrite_4 : decode cX4_latestWrite 4 = .ok (.iload_n 3, 1) := dk_29 (dk_at dksX4_latestWrite_0 4 rfl rfl)
theorem dX4_latestWrite_5 : decode cX4_latestWrite 5 = .ok (.ifCond .lt 46, 3) := dk_155 0 46 (dk_at dksX4_latestWrite_0 5 rfl rfl)
theorem dX4_latestWrite_8 : decode cX4_latestWrite 8 = .ok (.aload_n 0, 1) := dk_42 (dk_at dksX4_latestWrite_0 8 rfl rfl)
theorem dX4_latestWrite_9 : decode cX4_latestWrite 9 = .ok (.getfield 51, 3) := dk_180 0 51 (dk_at dksX4_latestWrite_0 9 rfl rfl)
theorem dX4_latestWrite_12 : decode cX4_latestWrite 12 = .ok (.aload_n 0, 1) := dk_42 (dk_at dksX4_latestWrite_0 12 rfl rfl)
theorem dX4_latestWrite_13 : decode cX4_latestWrite 13 = .ok (.getfield 99, 3) := dk_180 0 99 (dk_at dksX4_latestWrite_0 13 rfl rfl)
theorem dX4_latestWrite_16 : decode cX4_latestWrite 16 = .ok (.iload_n 3, 1) := dk_29 (dk_at dksX4_latestWrite_0 16 rfl rfl)
theorem dX4_latestWrite_17 : decode cX4_latestWrite 17 = .ok (.iaload, 1) := dk_46 (dk_at dksX4_latestWrite_0 17 rfl rfl)
theorem dX4_latestWrite_18 : decode cX4_latestWrite 18 = .ok (.iaload, 1) := dk_46 (dk_at dksX4_latestWrite_0 18 rfl rfl)
theorem dX4_latestWrite_19 : decode cX4_latestWrite 19 = .ok (.iconst 1, 1) := dk_4 (dk_at dksX4_latestWrite_0 19 rfl rfl)
theorem dX4_latestWrite_20 : decode cX4_latestWrite 20 = .ok (.if_icmp .ne 25, 3) := dk_160 0 25 (dk_at dksX4_latestWrite_0 20 rfl rfl)
theorem dX4_latestWrite_23 : decode cX4_latestWrite 23 = .ok (.aload_n 0, 1) := dk_42 (dk_at dksX4_latestWrite_0 23 rfl rfl)
theorem dX4_latestWrite_24 : decode cX4_latestWrite 24 = .ok (.getfield 57, 3) := dk_180 0 57 (dk_at dksX4_latestWrite_1 0 rfl rfl)
theorem dX4_latestWrite_27 : decode cX4_latestWrite 27 = .ok (.aload_n 0, 1) := dk_42 (dk_at dksX4_latestWrite_1 3 rfl rfl)
theorem dX4_latestWrite_28 : decode cX4_latestWrite 28 = .ok (.getfield 99, 3) := dk_180 0 99 (dk_at dksX4_latestWrite_1 4 rfl rfl)
theorem dX4_latestWrite_31 : decode cX4_latestWrite 31 = .ok (.iload_n 3, 1) := dk_29 (dk_at dksX4_latestWrite_1 7 rfl rfl)
theorem dX4_latestWrite_32 : decode cX4_latestWrite 32 = .ok (.iaload, 1) := dk_46 (dk_at dksX4_latestWrite_1 8 rfl rfl)
theorem dX4_latestWrite_33 : decode cX4_latestWrite 33 = .ok (.iaload, 1) := dk_46 (dk_at dksX4_latestWrite_1 9 rfl rfl)
theorem dX4_latestWrite_34 : decode cX4_latestWrite 34 = .ok (.iload_n 1, 1) := dk_27 (dk_at dksX4_latestWrite_1 10 rfl rfl)
theorem dX4_latestWrite_35 : decode cX4_latestWrite 35 = .ok (.if_icmp .ne 10, 3) := dk_160 0 10 (dk_at dksX4_latestWrite_1 11 rfl rfl)
theorem dX4_latestWrite_38 : decode cX4_latestWrite 38 = .ok (.aload_n 0, 1) := dk_42 (dk_at dksX4_latestWrite_1 14 rfl rfl)
theorem dX4_latestWrite_39 : decode cX4_latestWrite 39 = .ok (.getfield 99, 3) := dk_180 0 99 (dk_at dksX4_latestWrite_1 15 rfl rfl)
theorem dX4_latestWrite_42 : decode cX4_latestWrite 42 = .ok (.iload_n 3, 1) := dk_29 (dk_at dksX4_latestWrite_1 18 rfl rfl)
theorem dX4_latestWrite_43 : decode cX4_latestWrite 43 = .ok (.iaload, 1) := dk_46 (dk_at dksX4_latestWrite_1 19 rfl rfl)
theorem dX4_latestWrite_44 : decode cX4_latestWrite 44 = .ok (.ireturn, 1) := dk_172 (dk_at dksX4_latestWrite_1 20 rfl rfl)
theorem dX4_latestWrite_45 : decode cX4_latestWrite 45 = .ok (.iinc 3 (-1), 3) := dk_132 3 255 (dk_at dksX4_latestWrite_1 21 rfl rfl)
theorem dX4_latestWrite_48 : decode cX4_latestWrite 48 = .ok (.goto (-44), 3) := dk_167 255 212 (dk_at dksX4_latestWrite_2 0 rfl rfl)
theorem dX4_latestWrite_51 : decode cX4_latestWrite 51 = .ok (.iconst (-1), 1) := dk_2 (dk_at dksX4_latestWrite_2 3 rfl rfl)
theorem dX4_latestWrite_52 : decode cX4_latestWrite 52 = .ok (.ireturn, 1) := dk_172 (dk_at dksX4_latestWrite_2 4 rfl rfl)
abbrev cX4_latestInRest : ByteArray := prog_12_method_91_code
def yX4_latestInRest : MethodName := ⟨RX4, "latestInRest", "(II)I"⟩
def dkwX4_latestInRest_1 : List UInt8 := [27, 160, 0, 5, 29, 172, 132, 3, 255, 167, 255, 227, 2, 172]
abbrev dktX4_latestInRest_1 : List UInt8 := dkwX4_latestInRest_1 ++ []
def dkwX4_latestInRest_0 : List UInt8 := [28, 4, 100, 62, 29, 155, 0, 31, 42, 180, 0, 51, 29, 46, 4, 160, 0, 15, 42, 180, 0, 57, 29, 46]
abbrev dktX4_latestInRest_0 : List UInt8 := dkwX4_latestInRest_0 ++ dktX4_latestInRest_1
theorem dksX4_latestInRest_0 : cX4_latestInRest.data.toList.drop 0 = dktX4_latestInRest_0 := by decide +kernel
theorem dksX4_latestInRest_1 : cX4_latestInRest.data.toList.drop 24 = dktX4_latestInRest_1 := dk_seg dksX4_latestInRest_0 24 rfl rfl
theorem dX4_latestInRest_0 : decode cX4_latestInRest 0 = .ok (.iload_n 2, 1) := dk_28 (dk_at dksX4_latestInRest_0 0 rfl rfl)
theorem dX4_latestInRest_1 : decode cX4_latestInRest 1 = .ok (.iconst 1, 1) := dk_4 (dk_at dksX4_latestInRest_0 1 rfl rfl)
theorem dX4_latestInRest_2 : decode cX4_latestInRest 2 = .ok (.isub, 1) := dk_100 (dk_at dksX4_latestInRest_0 2 rfl rfl)
theorem dX4_latestInRest_3 : decode cX4_latestInRest 3 = .ok (.istore_n 3, 1) := dk_62 (dk_at dksX4_latestInRest_0 3 rfl rfl)
theorem dX4_latestInRest_4 : decode cX4_latestInRest 4 = .ok (.iload_n 3, 1) := dk_29 (dk_at dksX4_latestInRest_0 4 rfl rfl)
theorem dX4_latestInRest_5 : decode cX4_latestInRest 5 = .ok (.ifCond .lt 31, 3) := dk_155 0 31 (dk_at dksX4_latestInRest_0 5 rfl rfl)
theorem dX4_latestInRest_8 : decode cX4_latestInRest 8 = .ok (.aload_n 0, 1) := dk_42 (dk_at dksX4_latestInRest_0 8 rfl rfl)
theorem dX4_latestInRest_9 : decode cX4_latestInRest 9 = .ok (.getfield 51, 3) := dk_180 0 51 (dk_at dksX4_latestInRest_0 9 rfl rfl)
theorem dX4_latestInRest_12 : decode cX4_latestInRest 12 = .ok (.iload_n 3, 1) := dk_29 (dk_at dksX4_latestInRest_0 12 rfl rfl)
theorem dX4_latestInRest_13 : decode cX4_latestInRest 13 = .ok (.iaload, 1) := dk_46 (dk_at dksX4_latestInRest_0 13 rfl rfl)
theorem dX4_latestInRest_14 : decode cX4_latestInRest 14 = .ok (.iconst 1, 1) := dk_4 (dk_at dksX4_latestInRest_0 14 rfl rfl)
theorem dX4_latestInRest_15 : decode cX4_latestInRest 15 = .ok (.if_icmp .ne 15, 3) := dk_160 0 15 (dk_at dksX4_latestInRest_0 15 rfl rfl)
theorem dX4_latestInRest_18 : decode cX4_latestInRest 18 = .ok (.aload_n 0, 1) := dk_42 (dk_at dksX4_latestInRest_0 18 rfl rfl)
theorem dX4_latestInRest_19 : decode cX4_latestInRest 19 = .ok (.getfield 57, 3) := dk_180 0 57 (dk_at dksX4_latestInRest_0 19 rfl rfl)
theorem dX4_latestInRest_22 : decode cX4_latestInRest 22 = .ok (.iload_n 3, 1) := dk_29 (dk_at dksX4_latestInRest_0 22 rfl rfl)
theorem dX4_latestInRest_23 : decode cX4_latestInRest 23 = .ok (.iaload, 1) := dk_46 (dk_at dksX4_latestInRest_0 23 rfl rfl)
theorem dX4_latestInRest_24 : decode cX4_latestInRest 24 = .ok (.iload_n 1, 1) := dk_27 (dk_at dksX4_latestInRest_1 0 rfl rfl)
theorem dX4_latestInRest_25 : decode cX4_latestInRest 25 = .ok (.if_icmp .ne 5, 3) := dk_160 0 5 (dk_at dksX4_latestInRest_1 1 rfl rfl)
theorem dX4_latestInRest_28 : decode cX4_latestInRest 28 = .ok (.iload_n 3, 1) := dk_29 (dk_at dksX4_latestInRest_1 4 rfl rfl)
theorem dX4_latestInRest_29 : decode cX4_latestInRest 29 = .ok (.ireturn, 1) := dk_172 (dk_at dksX4_latestInRest_1 5 rfl rfl)
theorem dX4_latestInRest_30 : decode cX4_latestInRest 30 = .ok (.iinc 3 (-1), 3) := dk_132 3 255 (dk_at dksX4_latestInRest_1 6 rfl rfl)
theorem dX4_latestInRest_33 : decode cX4_latestInRest 33 = .ok (.goto (-29), 3) := dk_167 255 227 (dk_at dksX4_latestInRest_1 9 rfl rfl)
theorem dX4_latestInRest_36 : decode cX4_latestInRest 36 = .ok (.iconst (-1), 1) := dk_2 (dk_at dksX4_latestInRest_1 12 rfl rfl)
theorem dX4_latestInRest_37 : decode cX4_latestInRest 37 = .ok (.ireturn, 1) := dk_172 (dk_at dksX4_latestInRest_1 13 rfl rfl)
abbrev cX4_sourceOf : ByteArray := prog_12_method_98_code
def yX4_sourceOf : MethodName := ⟨RX4, "sourceOf", "(II)I"⟩
def dkwX4_sourceOf_3 : List UInt8 := [158, 0, 7, 3, 167, 0, 8, 42, 28, 182, 1, 70, 172]
abbrev dktX4_sourceOf_3 : List UInt8 := dkwX4_sourceOf_3 ++ []
def dkwX4_sourceOf_2 : List UInt8 := [182, 0, 227, 42, 42, 28, 182, 1, 70, 156, 0, 7, 6, 167, 0, 4, 3, 181, 0, 22, 42, 180, 0, 22]
abbrev dktX4_sourceOf_2 : List UInt8 := dkwX4_sourceOf_2 ++ dktX4_sourceOf_3
def dkwX4_sourceOf_1 : List UInt8 := [153, 0, 7, 5, 167, 0, 4, 3, 181, 0, 22, 42, 180, 0, 22, 158, 0, 5, 3, 172, 42, 27, 3]
abbrev dktX4_sourceOf_1 : List UInt8 := dkwX4_sourceOf_1 ++ dktX4_sourceOf_2
def dkwX4_sourceOf_0 : List UInt8 := [42, 42, 27, 28, 182, 0, 199, 154, 0, 7, 4, 167, 0, 20, 42, 27, 28, 182, 0, 139, 184, 0, 146]
abbrev dktX4_sourceOf_0 : List UInt8 := dkwX4_sourceOf_0 ++ dktX4_sourceOf_1
theorem dksX4_sourceOf_0 : cX4_sourceOf.data.toList.drop 0 = dktX4_sourceOf_0 := by decide +kernel
theorem dksX4_sourceOf_1 : cX4_sourceOf.data.toList.drop 23 = dktX4_sourceOf_1 := dk_seg dksX4_sourceOf_0 23 rfl rfl
theorem dksX4_sourceOf_2 : cX4_sourceOf.data.toList.drop 46 = dktX4_sourceOf_2 := dk_seg dksX4_sourceOf_1 23 rfl rfl
theorem dksX4_sourceOf_3 : cX4_sourceOf.data.toList.drop 70 = dktX4_sourceOf_3 := dk_seg dksX4_sourceOf_2 24 rfl rfl
theorem dX4_sourceOf_0 : decode cX4_sourceOf 0 = .ok (.aload_n 0, 1) := dk_42 (dk_at dksX4_sourceOf_0 0 rfl rfl)
theorem dX4_sourceOf_1 : decode cX4_sourceOf 1 = .ok (.aload_n 0, 1) := dk_42 (dk_at dksX4_sourceOf_0 1 rfl rfl)
theorem dX4_sourceOf_2 : decode cX4_sourceOf 2 = .ok (.iload_n 1, 1) := dk_27 (dk_at dksX4_sourceOf_0 2 rfl rfl)
theorem dX4_sourceOf_3 : decode cX4_sourceOf 3 = .ok (.iload_n 2, 1) := dk_28 (dk_at dksX4_sourceOf_0 3 rfl rfl)
theorem dX4_sourceOf_4 : decode cX4_sourceOf 4 = .ok (.invokevirtual 199, 3) := dk_182 0 199 (dk_at dksX4_sourceOf_0 4 rfl rfl)
theorem dX4_sourceOf_7 : decode cX4_sourceOf 7 = .ok (.ifCond .ne 7, 3) := dk_154 0 7 (dk_at dksX4_sourceOf_0 7 rfl rfl)
theorem dX4_sourceOf_10 : decode cX4_sourceOf 10 = .ok (.iconst 1, 1) := dk_4 (dk_at dksX4_sourceOf_0 10 rfl rfl)
theorem dX4_sourceOf_11 : decode cX4_sourceOf 11 = .ok (.goto 20, 3) := dk_167 0 20 (dk_at dksX4_sourceOf_0 11 rfl rfl)
theorem dX4_sourceOf_14 : decode cX4_sourceOf 14 = .ok (.aload_n 0, 1) := dk_42 (dk_at dksX4_sourceOf_0 14 rfl rfl)
theorem dX4_sourceOf_15 : decode cX4_sourceOf 15 = .ok (.iload_n 1, 1) := dk_27 (dk_at dksX4_sourceOf_0 15 rfl rfl)
theorem dX4_sourceOf_16 : decode cX4_sourceOf 16 = .ok (.iload_n 2, 1) := dk_28 (dk_at dksX4_sourceOf_0 16 rfl rfl)
theorem dX4_sourceOf_17 : decode cX4_sourceOf 17 = .ok (.invokevirtual 139, 3) := dk_182 0 139 (dk_at dksX4_sourceOf_0 17 rfl rfl)
theorem dX4_sourceOf_20 : decode cX4_sourceOf 20 = .ok (.invokestatic 146, 3) := dk_184 0 146 (dk_at dksX4_sourceOf_0 20 rfl rfl)
theorem dX4_sourceOf_23 : decode cX4_sourceOf 23 = .ok (.ifCond .eq 7, 3) := dk_153 0 7 (dk_at dksX4_sourceOf_1 0 rfl rfl)
theorem dX4_sourceOf_26 : decode cX4_sourceOf 26 = .ok (.iconst 2, 1) := dk_5 (dk_at dksX4_sourceOf_1 3 rfl rfl)
theorem dX4_sourceOf_27 : decode cX4_sourceOf 27 = .ok (.goto 4, 3) := dk_167 0 4 (dk_at dksX4_sourceOf_1 4 rfl rfl)
theorem dX4_sourceOf_30 : decode cX4_sourceOf 30 = .ok (.iconst 0, 1) := dk_3 (dk_at dksX4_sourceOf_1 7 rfl rfl)
theorem dX4_sourceOf_31 : decode cX4_sourceOf 31 = .ok (.putfield 22, 3) := dk_181 0 22 (dk_at dksX4_sourceOf_1 8 rfl rfl)
theorem dX4_sourceOf_34 : decode cX4_sourceOf 34 = .ok (.aload_n 0, 1) := dk_42 (dk_at dksX4_sourceOf_1 11 rfl rfl)
theorem dX4_sourceOf_35 : decode cX4_sourceOf 35 = .ok (.getfield 22, 3) := dk_180 0 22 (dk_at dksX4_sourceOf_1 12 rfl rfl)
theorem dX4_sourceOf_38 : decode cX4_sourceOf 38 = .ok (.ifCond .le 5, 3) := dk_158 0 5 (dk_at dksX4_sourceOf_1 15 rfl rfl)
theorem dX4_sourceOf_41 : decode cX4_sourceOf 41 = .ok (.iconst 0, 1) := dk_3 (dk_at dksX4_sourceOf_1 18 rfl rfl)
theorem dX4_sourceOf_42 : decode cX4_sourceOf 42 = .ok (.ireturn, 1) := dk_172 (dk_at dksX4_sourceOf_1 19 rfl rfl)
theorem dX4_sourceOf_43 : decode cX4_sourceOf 43 = .ok (.aload_n 0, 1) := dk_42 (dk_at dksX4_sourceOf_1 20 rfl rfl)
theorem dX4_sourceOf_44 : decode cX4_sourceOf 44 = .ok (.iload_n 1, 1) := dk_27 (dk_at dksX4_sourceOf_1 21 rfl rfl)
theorem dX4_sourceOf_45 : decode cX4_sourceOf 45 = .ok (.iconst 0, 1) := dk_3 (dk_at dksX4_sourceOf_1 22 rfl rfl)
theorem dX4_sourceOf_46 : decode cX4_sourceOf 46 = .ok (.invokevirtual 227, 3) := dk_182 0 227 (dk_at dksX4_sourceOf_2 0 rfl rfl)
theorem dX4_sourceOf_49 : decode cX4_sourceOf 49 = .ok (.aload_n 0, 1) := dk_42 (dk_at dksX4_sourceOf_2 3 rfl rfl)
theorem dX4_sourceOf_50 : decode cX4_sourceOf 50 = .ok (.aload_n 0, 1) := dk_42 (dk_at dksX4_sourceOf_2 4 rfl rfl)
theorem dX4_sourceOf_51 : decode cX4_sourceOf 51 = .ok (.iload_n 2, 1) := dk_28 (dk_at dksX4_sourceOf_2 5 rfl rfl)
theorem dX4_sourceOf_52 : decode cX4_sourceOf 52 = .ok (.invokevirtual 326, 3) := dk_182 1 70 (dk_at dksX4_sourceOf_2 6 rfl rfl)
theorem dX4_sourceOf_55 : decode cX4_sourceOf 55 = .ok (.ifCond .ge 7, 3) := dk_156 0 7 (dk_at dksX4_sourceOf_2 9 rfl rfl)
theorem dX4_sourceOf_58 : decode cX4_sourceOf 58 = .ok (.iconst 3, 1) := dk_6 (dk_at dksX4_sourceOf_2 12 rfl rfl)
theorem dX4_sourceOf_59 : decode cX4_sourceOf 59 = .ok (.goto 4, 3) := dk_167 0 4 (dk_at dksX4_sourceOf_2 13 rfl rfl)
theorem dX4_sourceOf_62 : decode cX4_sourceOf 62 = .ok (.iconst 0, 1) := dk_3 (dk_at dksX4_sourceOf_2 16 rfl rfl)
theorem dX4_sourceOf_63 : decode cX4_sourceOf 63 = .ok (.putfield 22, 3) := dk_181 0 22 (dk_at dksX4_sourceOf_2 17 rfl rfl)
theorem dX4_sourceOf_66 : decode cX4_sourceOf 66 = .ok (.aload_n 0, 1) := dk_42 (dk_at dksX4_sourceOf_2 20 rfl rfl)
theorem dX4_sourceOf_67 : decode cX4_sourceOf 67 = .ok (.getfield 22, 3) := dk_180 0 22 (dk_at dksX4_sourceOf_2 21 rfl rfl)
theorem dX4_sourceOf_70 : decode cX4_sourceOf 70 = .ok (.ifCond .le 7, 3) := dk_158 0 7 (dk_at dksX4_sourceOf_3 0 rfl rfl)
theorem dX4_sourceOf_73 : decode cX4_sourceOf 73 = .ok (.iconst 0, 1) := dk_3 (dk_at dksX4_sourceOf_3 3 rfl rfl)
theorem dX4_sourceOf_74 : decode cX4_sourceOf 74 = .ok (.goto 8, 3) := dk_167 0 8 (dk_at dksX4_sourceOf_3 4 rfl rfl)
theorem dX4_sourceOf_77 : decode cX4_sourceOf 77 = .ok (.aload_n 0, 1) := dk_42 (dk_at dksX4_sourceOf_3 7 rfl rfl)
theorem dX4_sourceOf_78 : decode cX4_sourceOf 78 = .ok (.iload_n 2, 1) := dk_28 (dk_at dksX4_sourceOf_3 8 rfl rfl)
theorem dX4_sourceOf_79 : decode cX4_sourceOf 79 = .ok (.invokevirtual 326, 3) := dk_182 1 70 (dk_at dksX4_sourceOf_3 9 rfl rfl)
theorem dX4_sourceOf_82 : decode cX4_sourceOf 82 = .ok (.ireturn, 1) := dk_172 (dk_at dksX4_sourceOf_3 12 rfl rfl)
abbrev cX4_source : ByteArray := prog_12_method_97_code
def yX4_source : MethodName := ⟨RX4, "source", "(I)I"⟩
def dkwX4_source_2 : List UInt8 := [28, 172, 132, 2, 255, 167, 255, 207, 2, 172]
abbrev dktX4_source_2 : List UInt8 := dkwX4_source_2 ++ []
def dkwX4_source_1 : List UInt8 := [42, 180, 0, 57, 27, 46, 160, 0, 20, 42, 42, 180, 0, 54, 28, 46, 6, 27, 182, 1, 67, 154, 0, 5]
abbrev dktX4_source_1 : List UInt8 := dkwX4_source_1 ++ dktX4_source_2
def dkwX4_source_0 : List UInt8 := [27, 4, 100, 61, 28, 155, 0, 51, 42, 180, 0, 51, 28, 46, 4, 160, 0, 35, 42, 180, 0, 57, 28, 46]
abbrev dktX4_source_0 : List UInt8 := dkwX4_source_0 ++ dktX4_source_1
theorem dksX4_source_0 : cX4_source.data.toList.drop 0 = dktX4_source_0 := by decide +kernel
theorem dksX4_source_1 : cX4_source.data.toList.drop 24 = dktX4_source_1 := dk_seg dksX4_source_0 24 rfl rfl
theorem dksX4_source_2 : cX4_source.data.toList.drop 48 = dktX4_source_2 := dk_seg dksX4_source_1 24 rfl rfl
theorem dX4_source_0 : decode cX4_source 0 = .ok (.iload_n 1, 1) := dk_27 (dk_at dksX4_source_0 0 rfl rfl)
theorem dX4_source_1 : decode cX4_source 1 = .ok (.iconst 1, 1) := dk_4 (dk_at dksX4_source_0 1 rfl rfl)
theorem dX4_source_2 : decode cX4_source 2 = .ok (.isub, 1) := dk_100 (dk_at dksX4_source_0 2 rfl rfl)
theorem dX4_source_3 : decode cX4_source 3 = .ok (.istore_n 2, 1) := dk_61 (dk_at dksX4_source_0 3 rfl rfl)
theorem dX4_source_4 : decode cX4_source 4 = .ok (.iload_n 2, 1) := dk_28 (dk_at dksX4_source_0 4 rfl rfl)
theorem dX4_source_5 : decode cX4_source 5 = .ok (.ifCond .lt 51, 3) := dk_155 0 51 (dk_at dksX4_source_0 5 rfl rfl)
theorem dX4_source_8 : decode cX4_source 8 = .ok (.aload_n 0, 1) := dk_42 (dk_at dksX4_source_0 8 rfl rfl)
theorem dX4_source_9 : decode cX4_source 9 = .ok (.getfield 51, 3) := dk_180 0 51 (dk_at dksX4_source_0 9 rfl rfl)
theorem dX4_source_12 : decode cX4_source 12 = .ok (.iload_n 2, 1) := dk_28 (dk_at dksX4_source_0 12 rfl rfl)
theorem dX4_source_13 : decode cX4_source 13 = .ok (.iaload, 1) := dk_46 (dk_at dksX4_source_0 13 rfl rfl)
theorem dX4_source_14 : decode cX4_source 14 = .ok (.iconst 1, 1) := dk_4 (dk_at dksX4_source_0 14 rfl rfl)
theorem dX4_source_15 : decode cX4_source 15 = .ok (.if_icmp .ne 35, 3) := dk_160 0 35 (dk_at dksX4_source_0 15 rfl rfl)
theorem dX4_source_18 : decode cX4_source 18 = .ok (.aload_n 0, 1) := dk_42 (dk_at dksX4_source_0 18 rfl rfl)
theorem dX4_source_19 : decode cX4_source 19 = .ok (.getfield 57, 3) := dk_180 0 57 (dk_at dksX4_source_0 19 rfl rfl)
theorem dX4_source_22 : decode cX4_source 22 = .ok (.iload_n 2, 1) := dk_28 (dk_at dksX4_source_0 22 rfl rfl)
theorem dX4_source_23 : decode cX4_source 23 = .ok (.iaload, 1) := dk_46 (dk_at dksX4_source_0 23 rfl rfl)
theorem dX4_source_24 : decode cX4_source 24 = .ok (.aload_n 0, 1) := dk_42 (dk_at dksX4_source_1 0 rfl rfl)
theorem dX4_source_25 : decode cX4_source 25 = .ok (.getfield 57, 3) := dk_180 0 57 (dk_at dksX4_source_1 1 rfl rfl)
theorem dX4_source_28 : decode cX4_source 28 = .ok (.iload_n 1, 1) := dk_27 (dk_at dksX4_source_1 4 rfl rfl)
theorem dX4_source_29 : decode cX4_source 29 = .ok (.iaload, 1) := dk_46 (dk_at dksX4_source_1 5 rfl rfl)
theorem dX4_source_30 : decode cX4_source 30 = .ok (.if_icmp .ne 20, 3) := dk_160 0 20 (dk_at dksX4_source_1 6 rfl rfl)
theorem dX4_source_33 : decode cX4_source 33 = .ok (.aload_n 0, 1) := dk_42 (dk_at dksX4_source_1 9 rfl rfl)
theorem dX4_source_34 : decode cX4_source 34 = .ok (.aload_n 0, 1) := dk_42 (dk_at dksX4_source_1 10 rfl rfl)
theorem dX4_source_35 : decode cX4_source 35 = .ok (.getfield 54, 3) := dk_180 0 54 (dk_at dksX4_source_1 11 rfl rfl)
theorem dX4_source_38 : decode cX4_source 38 = .ok (.iload_n 2, 1) := dk_28 (dk_at dksX4_source_1 14 rfl rfl)
theorem dX4_source_39 : decode cX4_source 39 = .ok (.iaload, 1) := dk_46 (dk_at dksX4_source_1 15 rfl rfl)
theorem dX4_source_40 : decode cX4_source 40 = .ok (.iconst 3, 1) := dk_6 (dk_at dksX4_source_1 16 rfl rfl)
theorem dX4_source_41 : decode cX4_source 41 = .ok (.iload_n 1, 1) := dk_27 (dk_at dksX4_source_1 17 rfl rfl)
theorem dX4_source_42 : decode cX4_source 42 = .ok (.invokevirtual 323, 3) := dk_182 1 67 (dk_at dksX4_source_1 18 rfl rfl)
theorem dX4_source_45 : decode cX4_source 45 = .ok (.ifCond .ne 5, 3) := dk_154 0 5 (dk_at dksX4_source_1 21 rfl rfl)
theorem dX4_source_48 : decode cX4_source 48 = .ok (.iload_n 2, 1) := dk_28 (dk_at dksX4_source_2 0 rfl rfl)
theorem dX4_source_49 : decode cX4_source 49 = .ok (.ireturn, 1) := dk_172 (dk_at dksX4_source_2 1 rfl rfl)
theorem dX4_source_50 : decode cX4_source 50 = .ok (.iinc 2 (-1), 3) := dk_132 2 255 (dk_at dksX4_source_2 2 rfl rfl)
theorem dX4_source_53 : decode cX4_source 53 = .ok (.goto (-49), 3) := dk_167 255 207 (dk_at dksX4_source_2 5 rfl rfl)
theorem dX4_source_56 : decode cX4_source 56 = .ok (.iconst (-1), 1) := dk_2 (dk_at dksX4_source_2 8 rfl rfl)
theorem dX4_source_57 : decode cX4_source 57 = .ok (.ireturn, 1) := dk_172 (dk_at dksX4_source_2 9 rfl rfl)
abbrev cX4_hasBefore : ByteArray := prog_12_method_96_code
def yX4_hasBefore : MethodName := ⟨RX4, "hasBefore", "(III)Z"⟩
def dkwX4_hasBefore_1 : List UInt8 := [21, 4, 46, 28, 160, 0, 5, 4, 172, 132, 4, 1, 167, 255, 223, 3, 172]
abbrev dktX4_hasBefore_1 : List UInt8 := dkwX4_hasBefore_1 ++ []
def dkwX4_hasBefore_0 : List UInt8 := [3, 54, 4, 21, 4, 29, 162, 0, 33, 42, 180, 0, 54, 21, 4, 46, 27, 160, 0, 16, 42, 180, 0, 51]
abbrev dktX4_hasBefore_0 : List UInt8 := dkwX4_hasBefore_0 ++ dktX4_hasBefore_1
theorem dksX4_hasBefore_0 : cX4_hasBefore.data.toList.drop 0 = dktX4_hasBefore_0 := by decide +kernel
theorem dksX4_hasBefore_1 : cX4_hasBefore.data.toList.drop 24 = dktX4_hasBefore_1 := dk_seg dksX4_hasBefore_0 24 rfl rfl
theorem dX4_hasBefore_0 : decode cX4_hasBefore 0 = .ok (.iconst 0, 1) := dk_3 (dk_at dksX4_hasBefore_0 0 rfl rfl)
theorem dX4_hasBefore_1 : decode cX4_hasBefore 1 = .ok (.istore 4, 2) := dk_54 4 (dk_at dksX4_hasBefore_0 1 rfl rfl)
theorem dX4_hasBefore_3 : decode cX4_hasBefore 3 = .ok (.iload 4, 2) := dk_21 4 (dk_at dksX4_hasBefore_0 3 rfl rfl)
theorem dX4_hasBefore_5 : decode cX4_hasBefore 5 = .ok (.iload_n 3, 1) := dk_29 (dk_at dksX4_hasBefore_0 5 rfl rfl)
theorem dX4_hasBefore_6 : decode cX4_hasBefore 6 = .ok (.if_icmp .ge 33, 3) := dk_162 0 33 (dk_at dksX4_hasBefore_0 6 rfl rfl)
theorem dX4_hasBefore_9 : decode cX4_hasBefore 9 = .ok (.aload_n 0, 1) := dk_42 (dk_at dksX4_hasBefore_0 9 rfl rfl)
theorem dX4_hasBefore_10 : decode cX4_hasBefore 10 = .ok (.getfield 54, 3) := dk_180 0 54 (dk_at dksX4_hasBefore_0 10 rfl rfl)
theorem dX4_hasBefore_13 : decode cX4_hasBefore 13 = .ok (.iload 4, 2) := dk_21 4 (dk_at dksX4_hasBefore_0 13 rfl rfl)
theorem dX4_hasBefore_15 : decode cX4_hasBefore 15 = .ok (.iaload, 1) := dk_46 (dk_at dksX4_hasBefore_0 15 rfl rfl)
theorem dX4_hasBefore_16 : decode cX4_hasBefore 16 = .ok (.iload_n 1, 1) := dk_27 (dk_at dksX4_hasBefore_0 16 rfl rfl)
theorem dX4_hasBefore_17 : decode cX4_hasBefore 17 = .ok (.if_icmp .ne 16, 3) := dk_160 0 16 (dk_at dksX4_hasBefore_0 17 rfl rfl)
theorem dX4_hasBefore_20 : decode cX4_hasBefore 20 = .ok (.aload_n 0, 1) := dk_42 (dk_at dksX4_hasBefore_0 20 rfl rfl)
theorem dX4_hasBefore_21 : decode cX4_hasBefore 21 = .ok (.getfield 51, 3) := dk_180 0 51 (dk_at dksX4_hasBefore_0 21 rfl rfl)
theorem dX4_hasBefore_24 : decode cX4_hasBefore 24 = .ok (.iload 4, 2) := dk_21 4 (dk_at dksX4_hasBefore_1 0 rfl rfl)
theorem dX4_hasBefore_26 : decode cX4_hasBefore 26 = .ok (.iaload, 1) := dk_46 (dk_at dksX4_hasBefore_1 2 rfl rfl)
theorem dX4_hasBefore_27 : decode cX4_hasBefore 27 = .ok (.iload_n 2, 1) := dk_28 (dk_at dksX4_hasBefore_1 3 rfl rfl)
theorem dX4_hasBefore_28 : decode cX4_hasBefore 28 = .ok (.if_icmp .ne 5, 3) := dk_160 0 5 (dk_at dksX4_hasBefore_1 4 rfl rfl)
theorem dX4_hasBefore_31 : decode cX4_hasBefore 31 = .ok (.iconst 1, 1) := dk_4 (dk_at dksX4_hasBefore_1 7 rfl rfl)
theorem dX4_hasBefore_32 : decode cX4_hasBefore 32 = .ok (.ireturn, 1) := dk_172 (dk_at dksX4_hasBefore_1 8 rfl rfl)
theorem dX4_hasBefore_33 : decode cX4_hasBefore 33 = .ok (.iinc 4 1, 3) := dk_132 4 1 (dk_at dksX4_hasBefore_1 9 rfl rfl)
theorem dX4_hasBefore_36 : decode cX4_hasBefore 36 = .ok (.goto (-33), 3) := dk_167 255 223 (dk_at dksX4_hasBefore_1 12 rfl rfl)
theorem dX4_hasBefore_39 : decode cX4_hasBefore 39 = .ok (.iconst 0, 1) := dk_3 (dk_at dksX4_hasBefore_1 15 rfl rfl)
theorem dX4_hasBefore_40 : decode cX4_hasBefore 40 = .ok (.ireturn, 1) := dk_172 (dk_at dksX4_hasBefore_1 16 rfl rfl)
abbrev cX4_dirtyReads : ByteArray := prog_12_method_101_code
def yX4_dirtyReads : MethodName := ⟨RX4, "dirtyReads", "(I)I"⟩
def dkwX4_dirtyReads_0 : List UInt8 := [42, 27, 184, 0, 131, 182, 1, 29, 158, 0, 7, 3, 167, 0, 8, 42, 27, 182, 1, 76, 172]
abbrev dktX4_dirtyReads_0 : List UInt8 := dkwX4_dirtyReads_0 ++ []
theorem dksX4_dirtyReads_0 : cX4_dirtyReads.data.toList.drop 0 = dktX4_dirtyReads_0 := by decide +kernel
theorem dX4_dirtyReads_0 : decode cX4_dirtyReads 0 = .ok (.aload_n 0, 1) := dk_42 (dk_at dksX4_dirtyReads_0 0 rfl rfl)
theorem dX4_dirtyReads_1 : decode cX4_dirtyReads 1 = .ok (.iload_n 1, 1) := dk_27 (dk_at dksX4_dirtyReads_0 1 rfl rfl)
theorem dX4_dirtyReads_2 : decode cX4_dirtyReads 2 = .ok (.invokestatic 131, 3) := dk_184 0 131 (dk_at dksX4_dirtyReads_0 2 rfl rfl)
theorem dX4_dirtyReads_5 : decode cX4_dirtyReads 5 = .ok (.invokevirtual 285, 3) := dk_182 1 29 (dk_at dksX4_dirtyReads_0 5 rfl rfl)
theorem dX4_dirtyReads_8 : decode cX4_dirtyReads 8 = .ok (.ifCond .le 7, 3) := dk_158 0 7 (dk_at dksX4_dirtyReads_0 8 rfl rfl)
theorem dX4_dirtyReads_11 : decode cX4_dirtyReads 11 = .ok (.iconst 0, 1) := dk_3 (dk_at dksX4_dirtyReads_0 11 rfl rfl)
theorem dX4_dirtyReads_12 : decode cX4_dirtyReads 12 = .ok (.goto 8, 3) := dk_167 0 8 (dk_at dksX4_dirtyReads_0 12 rfl rfl)
theorem dX4_dirtyReads_15 : decode cX4_dirtyReads 15 = .ok (.aload_n 0, 1) := dk_42 (dk_at dksX4_dirtyReads_0 15 rfl rfl)
theorem dX4_dirtyReads_16 : decode cX4_dirtyReads 16 = .ok (.iload_n 1, 1) := dk_27 (dk_at dksX4_dirtyReads_0 16 rfl rfl)
theorem dX4_dirtyReads_17 : decode cX4_dirtyReads 17 = .ok (.invokevirtual 332, 3) := dk_182 1 76 (dk_at dksX4_dirtyReads_0 17 rfl rfl)
theorem dX4_dirtyReads_20 : decode cX4_dirtyReads 20 = .ok (.ireturn, 1) := dk_172 (dk_at dksX4_dirtyReads_0 20 rfl rfl)
abbrev cX4_dirt : ByteArray := prog_12_method_100_code
def yX4_dirt : MethodName := ⟨RX4, "dirt", "(I)I"⟩
def dkwX4_dirt_2 : List UInt8 := [167, 0, 4, 3, 96, 61, 132, 3, 1, 167, 255, 210, 28, 172]
abbrev dktX4_dirt_2 : List UInt8 := dkwX4_dirt_2 ++ []
def dkwX4_dirt_1 : List UInt8 := [153, 0, 26, 42, 42, 180, 0, 54, 42, 29, 182, 1, 70, 46, 5, 29, 182, 1, 67, 154, 0, 7, 4]
abbrev dktX4_dirt_1 : List UInt8 := dkwX4_dirt_1 ++ dktX4_dirt_2
def dkwX4_dirt_0 : List UInt8 := [42, 27, 3, 182, 0, 227, 3, 61, 3, 62, 29, 42, 180, 0, 69, 162, 0, 44, 28, 42, 29, 182, 1, 73]
abbrev dktX4_dirt_0 : List UInt8 := dkwX4_dirt_0 ++ dktX4_dirt_1
theorem dksX4_dirt_0 : cX4_dirt.data.toList.drop 0 = dktX4_dirt_0 := by decide +kernel
theorem dksX4_dirt_1 : cX4_dirt.data.toList.drop 24 = dktX4_dirt_1 := dk_seg dksX4_dirt_0 24 rfl rfl
theorem dksX4_dirt_2 : cX4_dirt.data.toList.drop 47 = dktX4_dirt_2 := dk_seg dksX4_dirt_1 23 rfl rfl
theorem dX4_dirt_0 : decode cX4_dirt 0 = .ok (.aload_n 0, 1) := dk_42 (dk_at dksX4_dirt_0 0 rfl rfl)
theorem dX4_dirt_1 : decode cX4_dirt 1 = .ok (.iload_n 1, 1) := dk_27 (dk_at dksX4_dirt_0 1 rfl rfl)
theorem dX4_dirt_2 : decode cX4_dirt 2 = .ok (.iconst 0, 1) := dk_3 (dk_at dksX4_dirt_0 2 rfl rfl)
theorem dX4_dirt_3 : decode cX4_dirt 3 = .ok (.invokevirtual 227, 3) := dk_182 0 227 (dk_at dksX4_dirt_0 3 rfl rfl)
theorem dX4_dirt_6 : decode cX4_dirt 6 = .ok (.iconst 0, 1) := dk_3 (dk_at dksX4_dirt_0 6 rfl rfl)
theorem dX4_dirt_7 : decode cX4_dirt 7 = .ok (.istore_n 2, 1) := dk_61 (dk_at dksX4_dirt_0 7 rfl rfl)
theorem dX4_dirt_8 : decode cX4_dirt 8 = .ok (.iconst 0, 1) := dk_3 (dk_at dksX4_dirt_0 8 rfl rfl)
theorem dX4_dirt_9 : decode cX4_dirt 9 = .ok (.istore_n 3, 1) := dk_62 (dk_at dksX4_dirt_0 9 rfl rfl)
theorem dX4_dirt_10 : decode cX4_dirt 10 = .ok (.iload_n 3, 1) := dk_29 (dk_at dksX4_dirt_0 10 rfl rfl)
theorem dX4_dirt_11 : decode cX4_dirt 11 = .ok (.aload_n 0, 1) := dk_42 (dk_at dksX4_dirt_0 11 rfl rfl)
theorem dX4_dirt_12 : decode cX4_dirt 12 = .ok (.getfield 69, 3) := dk_180 0 69 (dk_at dksX4_dirt_0 12 rfl rfl)
theorem dX4_dirt_15 : decode cX4_dirt 15 = .ok (.if_icmp .ge 44, 3) := dk_162 0 44 (dk_at dksX4_dirt_0 15 rfl rfl)
theorem dX4_dirt_18 : decode cX4_dirt 18 = .ok (.iload_n 2, 1) := dk_28 (dk_at dksX4_dirt_0 18 rfl rfl)
theorem dX4_dirt_19 : decode cX4_dirt 19 = .ok (.aload_n 0, 1) := dk_42 (dk_at dksX4_dirt_0 19 rfl rfl)
theorem dX4_dirt_20 : decode cX4_dirt 20 = .ok (.iload_n 3, 1) := dk_29 (dk_at dksX4_dirt_0 20 rfl rfl)
theorem dX4_dirt_21 : decode cX4_dirt 21 = .ok (.invokevirtual 329, 3) := dk_182 1 73 (dk_at dksX4_dirt_0 21 rfl rfl)
theorem dX4_dirt_24 : decode cX4_dirt 24 = .ok (.ifCond .eq 26, 3) := dk_153 0 26 (dk_at dksX4_dirt_1 0 rfl rfl)
theorem dX4_dirt_27 : decode cX4_dirt 27 = .ok (.aload_n 0, 1) := dk_42 (dk_at dksX4_dirt_1 3 rfl rfl)
theorem dX4_dirt_28 : decode cX4_dirt 28 = .ok (.aload_n 0, 1) := dk_42 (dk_at dksX4_dirt_1 4 rfl rfl)
theorem dX4_dirt_29 : decode cX4_dirt 29 = .ok (.getfield 54, 3) := dk_180 0 54 (dk_at dksX4_dirt_1 5 rfl rfl)
theorem dX4_dirt_32 : decode cX4_dirt 32 = .ok (.aload_n 0, 1) := dk_42 (dk_at dksX4_dirt_1 8 rfl rfl)
theorem dX4_dirt_33 : decode cX4_dirt 33 = .ok (.iload_n 3, 1) := dk_29 (dk_at dksX4_dirt_1 9 rfl rfl)
theorem dX4_dirt_34 : decode cX4_dirt 34 = .ok (.invokevirtual 326, 3) := dk_182 1 70 (dk_at dksX4_dirt_1 10 rfl rfl)
theorem dX4_dirt_37 : decode cX4_dirt 37 = .ok (.iaload, 1) := dk_46 (dk_at dksX4_dirt_1 13 rfl rfl)
theorem dX4_dirt_38 : decode cX4_dirt 38 = .ok (.iconst 2, 1) := dk_5 (dk_at dksX4_dirt_1 14 rfl rfl)
theorem dX4_dirt_39 : decode cX4_dirt 39 = .ok (.iload_n 3, 1) := dk_29 (dk_at dksX4_dirt_1 15 rfl rfl)
theorem dX4_dirt_40 : decode cX4_dirt 40 = .ok (.invokevirtual 323, 3) := dk_182 1 67 (dk_at dksX4_dirt_1 16 rfl rfl)
theorem dX4_dirt_43 : decode cX4_dirt 43 = .ok (.ifCond .ne 7, 3) := dk_154 0 7 (dk_at dksX4_dirt_1 19 rfl rfl)
theorem dX4_dirt_46 : decode cX4_dirt 46 = .ok (.iconst 1, 1) := dk_4 (dk_at dksX4_dirt_1 22 rfl rfl)
theorem dX4_dirt_47 : decode cX4_dirt 47 = .ok (.goto 4, 3) := dk_167 0 4 (dk_at dksX4_dirt_2 0 rfl rfl)
theorem dX4_dirt_50 : decode cX4_dirt 50 = .ok (.iconst 0, 1) := dk_3 (dk_at dksX4_dirt_2 3 rfl rfl)
theorem dX4_dirt_51 : decode cX4_dirt 51 = .ok (.iadd, 1) := dk_96 (dk_at dksX4_dirt_2 4 rfl rfl)
theorem dX4_dirt_52 : decode cX4_dirt 52 = .ok (.istore_n 2, 1) := dk_61 (dk_at dksX4_dirt_2 5 rfl rfl)
theorem dX4_dirt_53 : decode cX4_dirt 53 = .ok (.iinc 3 1, 3) := dk_132 3 1 (dk_at dksX4_dirt_2 6 rfl rfl)
theorem dX4_dirt_56 : decode cX4_dirt 56 = .ok (.goto (-46), 3) := dk_167 255 210 (dk_at dksX4_dirt_2 9 rfl rfl)
theorem dX4_dirt_59 : decode cX4_dirt 59 = .ok (.iload_n 2, 1) := dk_28 (dk_at dksX4_dirt_2 12 rfl rfl)
theorem dX4_dirt_60 : decode cX4_dirt 60 = .ok (.ireturn, 1) := dk_172 (dk_at dksX4_dirt_2 13 rfl rfl)
abbrev cX4_isForeign : ByteArray := prog_12_method_99_code
def yX4_isForeign : MethodName := ⟨RX4, "isForeign", "(I)Z"⟩
def dkwX4_isForeign_1 : List UInt8 := [182, 1, 70, 46, 42, 180, 0, 54, 27, 46, 159, 0, 7, 4, 167, 0, 4, 3, 172]
abbrev dktX4_isForeign_1 : List UInt8 := dkwX4_isForeign_1 ++ []
def dkwX4_isForeign_0 : List UInt8 := [42, 180, 0, 51, 27, 46, 154, 0, 34, 42, 27, 182, 1, 70, 155, 0, 26, 42, 180, 0, 54, 42, 27]
abbrev dktX4_isForeign_0 : List UInt8 := dkwX4_isForeign_0 ++ dktX4_isForeign_1
theorem dksX4_isForeign_0 : cX4_isForeign.data.toList.drop 0 = dktX4_isForeign_0 := by decide +kernel
theorem dksX4_isForeign_1 : cX4_isForeign.data.toList.drop 23 = dktX4_isForeign_1 := dk_seg dksX4_isForeign_0 23 rfl rfl
theorem dX4_isForeign_0 : decode cX4_isForeign 0 = .ok (.aload_n 0, 1) := dk_42 (dk_at dksX4_isForeign_0 0 rfl rfl)
theorem dX4_isForeign_1 : decode cX4_isForeign 1 = .ok (.getfield 51, 3) := dk_180 0 51 (dk_at dksX4_isForeign_0 1 rfl rfl)
theorem dX4_isForeign_4 : decode cX4_isForeign 4 = .ok (.iload_n 1, 1) := dk_27 (dk_at dksX4_isForeign_0 4 rfl rfl)
theorem dX4_isForeign_5 : decode cX4_isForeign 5 = .ok (.iaload, 1) := dk_46 (dk_at dksX4_isForeign_0 5 rfl rfl)
theorem dX4_isForeign_6 : decode cX4_isForeign 6 = .ok (.ifCond .ne 34, 3) := dk_154 0 34 (dk_at dksX4_isForeign_0 6 rfl rfl)
theorem dX4_isForeign_9 : decode cX4_isForeign 9 = .ok (.aload_n 0, 1) := dk_42 (dk_at dksX4_isForeign_0 9 rfl rfl)
theorem dX4_isForeign_10 : decode cX4_isForeign 10 = .ok (.iload_n 1, 1) := dk_27 (dk_at dksX4_isForeign_0 10 rfl rfl)
theorem dX4_isForeign_11 : decode cX4_isForeign 11 = .ok (.invokevirtual 326, 3) := dk_182 1 70 (dk_at dksX4_isForeign_0 11 rfl rfl)
theorem dX4_isForeign_14 : decode cX4_isForeign 14 = .ok (.ifCond .lt 26, 3) := dk_155 0 26 (dk_at dksX4_isForeign_0 14 rfl rfl)
theorem dX4_isForeign_17 : decode cX4_isForeign 17 = .ok (.aload_n 0, 1) := dk_42 (dk_at dksX4_isForeign_0 17 rfl rfl)
theorem dX4_isForeign_18 : decode cX4_isForeign 18 = .ok (.getfield 54, 3) := dk_180 0 54 (dk_at dksX4_isForeign_0 18 rfl rfl)
theorem dX4_isForeign_21 : decode cX4_isForeign 21 = .ok (.aload_n 0, 1) := dk_42 (dk_at dksX4_isForeign_0 21 rfl rfl)
theorem dX4_isForeign_22 : decode cX4_isForeign 22 = .ok (.iload_n 1, 1) := dk_27 (dk_at dksX4_isForeign_0 22 rfl rfl)
theorem dX4_isForeign_23 : decode cX4_isForeign 23 = .ok (.invokevirtual 326, 3) := dk_182 1 70 (dk_at dksX4_isForeign_1 0 rfl rfl)
theorem dX4_isForeign_26 : decode cX4_isForeign 26 = .ok (.iaload, 1) := dk_46 (dk_at dksX4_isForeign_1 3 rfl rfl)
theorem dX4_isForeign_27 : decode cX4_isForeign 27 = .ok (.aload_n 0, 1) := dk_42 (dk_at dksX4_isForeign_1 4 rfl rfl)
theorem dX4_isForeign_28 : decode cX4_isForeign 28 = .ok (.getfield 54, 3) := dk_180 0 54 (dk_at dksX4_isForeign_1 5 rfl rfl)
theorem dX4_isForeign_31 : decode cX4_isForeign 31 = .ok (.iload_n 1, 1) := dk_27 (dk_at dksX4_isForeign_1 8 rfl rfl)
theorem dX4_isForeign_32 : decode cX4_isForeign 32 = .ok (.iaload, 1) := dk_46 (dk_at dksX4_isForeign_1 9 rfl rfl)
theorem dX4_isForeign_33 : decode cX4_isForeign 33 = .ok (.if_icmp .eq 7, 3) := dk_159 0 7 (dk_at dksX4_isForeign_1 10 rfl rfl)
theorem dX4_isForeign_36 : decode cX4_isForeign 36 = .ok (.iconst 1, 1) := dk_4 (dk_at dksX4_isForeign_1 13 rfl rfl)
theorem dX4_isForeign_37 : decode cX4_isForeign 37 = .ok (.goto 4, 3) := dk_167 0 4 (dk_at dksX4_isForeign_1 14 rfl rfl)
theorem dX4_isForeign_40 : decode cX4_isForeign 40 = .ok (.iconst 0, 1) := dk_3 (dk_at dksX4_isForeign_1 17 rfl rfl)
theorem dX4_isForeign_41 : decode cX4_isForeign 41 = .ok (.ireturn, 1) := dk_172 (dk_at dksX4_isForeign_1 18 rfl rfl)
abbrev cX4_avoidsCascades : ByteArray := prog_12_method_102_code
def yX4_avoidsCascades : MethodName := ⟨RX4, "avoidsCascades", "(I)Z"⟩
def dkwX4_avoidsCascades_1 : List UInt8 := [172]
abbrev dktX4_avoidsCascades_1 : List UInt8 := dkwX4_avoidsCascades_1 ++ []
def dkwX4_avoidsCascades_0 : List UInt8 := [42, 27, 184, 0, 131, 182, 1, 29, 154, 0, 15, 42, 27, 182, 1, 76, 154, 0, 7, 4, 167, 0, 4, 3]
abbrev dktX4_avoidsCascades_0 : List UInt8 := dkwX4_avoidsCascades_0 ++ dktX4_avoidsCascades_1
theorem dksX4_avoidsCascades_0 : cX4_avoidsCascades.data.toList.drop 0 = dktX4_avoidsCascades_0 := by decide +kernel
theorem dksX4_avoidsCascades_1 : cX4_avoidsCascades.data.toList.drop 24 = dktX4_avoidsCascades_1 := dk_seg dksX4_avoidsCascades_0 24 rfl rfl
theorem dX4_avoidsCascades_0 : decode cX4_avoidsCascades 0 = .ok (.aload_n 0, 1) := dk_42 (dk_at dksX4_avoidsCascades_0 0 rfl rfl)
theorem dX4_avoidsCascades_1 : decode cX4_avoidsCascades 1 = .ok (.iload_n 1, 1) := dk_27 (dk_at dksX4_avoidsCascades_0 1 rfl rfl)
theorem dX4_avoidsCascades_2 : decode cX4_avoidsCascades 2 = .ok (.invokestatic 131, 3) := dk_184 0 131 (dk_at dksX4_avoidsCascades_0 2 rfl rfl)
theorem dX4_avoidsCascades_5 : decode cX4_avoidsCascades 5 = .ok (.invokevirtual 285, 3) := dk_182 1 29 (dk_at dksX4_avoidsCascades_0 5 rfl rfl)
theorem dX4_avoidsCascades_8 : decode cX4_avoidsCascades 8 = .ok (.ifCond .ne 15, 3) := dk_154 0 15 (dk_at dksX4_avoidsCascades_0 8 rfl rfl)
theorem dX4_avoidsCascades_11 : decode cX4_avoidsCascades 11 = .ok (.aload_n 0, 1) := dk_42 (dk_at dksX4_avoidsCascades_0 11 rfl rfl)
theorem dX4_avoidsCascades_12 : decode cX4_avoidsCascades 12 = .ok (.iload_n 1, 1) := dk_27 (dk_at dksX4_avoidsCascades_0 12 rfl rfl)
theorem dX4_avoidsCascades_13 : decode cX4_avoidsCascades 13 = .ok (.invokevirtual 332, 3) := dk_182 1 76 (dk_at dksX4_avoidsCascades_0 13 rfl rfl)
theorem dX4_avoidsCascades_16 : decode cX4_avoidsCascades 16 = .ok (.ifCond .ne 7, 3) := dk_154 0 7 (dk_at dksX4_avoidsCascades_0 16 rfl rfl)
theorem dX4_avoidsCascades_19 : decode cX4_avoidsCascades 19 = .ok (.iconst 1, 1) := dk_4 (dk_at dksX4_avoidsCascades_0 19 rfl rfl)
theorem dX4_avoidsCascades_20 : decode cX4_avoidsCascades 20 = .ok (.goto 4, 3) := dk_167 0 4 (dk_at dksX4_avoidsCascades_0 20 rfl rfl)
theorem dX4_avoidsCascades_23 : decode cX4_avoidsCascades 23 = .ok (.iconst 0, 1) := dk_3 (dk_at dksX4_avoidsCascades_0 23 rfl rfl)
theorem dX4_avoidsCascades_24 : decode cX4_avoidsCascades 24 = .ok (.ireturn, 1) := dk_172 (dk_at dksX4_avoidsCascades_1 0 rfl rfl)
abbrev cX4_isRecoverable : ByteArray := prog_12_method_103_code
def yX4_isRecoverable : MethodName := ⟨RX4, "isRecoverable", "(I)Z"⟩
def dkwX4_isRecoverable_4 : List UInt8 := [167, 255, 194, 132, 2, 1, 167, 255, 178, 4, 172]
abbrev dktX4_isRecoverable_4 : List UInt8 := dkwX4_isRecoverable_4 ++ []
def dkwX4_isRecoverable_3 : List UInt8 := [180, 0, 54, 42, 29, 182, 1, 70, 46, 5, 28, 182, 1, 67, 154, 0, 5, 3, 172, 132, 3, 1]
abbrev dktX4_isRecoverable_3 : List UInt8 := dkwX4_isRecoverable_3 ++ dktX4_isRecoverable_4
def dkwX4_isRecoverable_2 : List UInt8 := [180, 0, 54, 29, 46, 42, 180, 0, 54, 28, 46, 160, 0, 32, 42, 29, 182, 1, 73, 153, 0, 24, 42, 42]
abbrev dktX4_isRecoverable_2 : List UInt8 := dkwX4_isRecoverable_2 ++ dktX4_isRecoverable_3
def dkwX4_isRecoverable_1 : List UInt8 := [180, 0, 69, 162, 0, 76, 3, 62, 29, 28, 162, 0, 63, 42, 180, 0, 51, 28, 46, 5, 160, 0, 47, 42]
abbrev dktX4_isRecoverable_1 : List UInt8 := dkwX4_isRecoverable_1 ++ dktX4_isRecoverable_2
def dkwX4_isRecoverable_0 : List UInt8 := [42, 27, 184, 0, 131, 182, 1, 29, 158, 0, 5, 3, 172, 42, 27, 3, 182, 0, 227, 3, 61, 28, 42]
abbrev dktX4_isRecoverable_0 : List UInt8 := dkwX4_isRecoverable_0 ++ dktX4_isRecoverable_1
theorem dksX4_isRecoverable_0 : cX4_isRecoverable.data.toList.drop 0 = dktX4_isRecoverable_0 := by decide +kernel
theorem dksX4_isRecoverable_1 : cX4_isRecoverable.data.toList.drop 23 = dktX4_isRecoverable_1 := dk_seg dksX4_isRecoverable_0 23 rfl rfl
theorem dksX4_isRecoverable_2 : cX4_isRecoverable.data.toList.drop 47 = dktX4_isRecoverable_2 := dk_seg dksX4_isRecoverable_1 24 rfl rfl
theorem dksX4_isRecoverable_3 : cX4_isRecoverable.data.toList.drop 71 = dktX4_isRecoverable_3 := dk_seg dksX4_isRecoverable_2 24 rfl rfl
theorem dksX4_isRecoverable_4 : cX4_isRecoverable.data.toList.drop 93 = dktX4_isRecoverable_4 := dk_seg dksX4_isRecoverable_3 22 rfl rfl
theorem dX4_isRecoverable_0 : decode cX4_isRecoverable 0 = .ok (.aload_n 0, 1) := dk_42 (dk_at dksX4_isRecoverable_0 0 rfl rfl)
theorem dX4_isRecoverable_1 : decode cX4_isRecoverable 1 = .ok (.iload_n 1, 1) := dk_27 (dk_at dksX4_isRecoverable_0 1 rfl rfl)
theorem dX4_isRecoverable_2 : decode cX4_isRecoverable 2 = .ok (.invokestatic 131, 3) := dk_184 0 131 (dk_at dksX4_isRecoverable_0 2 rfl rfl)
theorem dX4_isRecoverable_5 : decode cX4_isRecoverable 5 = .ok (.invokevirtual 285, 3) := dk_182 1 29 (dk_at dksX4_isRecoverable_0 5 rfl rfl)
theorem dX4_isRecoverable_8 : decode cX4_isRecoverable 8 = .ok (.ifCond .le 5, 3) := dk_158 0 5 (dk_at dksX4_isRecoverable_0 8 rfl rfl)
theorem dX4_isRecoverable_11 : decode cX4_isRecoverable 11 = .ok (.iconst 0, 1) := dk_3 (dk_at dksX4_isRecoverable_0 11 rfl rfl)
theorem dX4_isRecoverable_12 : decode cX4_isRecoverable 12 = .ok (.ireturn, 1) := dk_172 (dk_at dksX4_isRecoverable_0 12 rfl rfl)
theorem dX4_isRecoverable_13 : decode cX4_isRecoverable 13 = .ok (.aload_n 0, 1) := dk_42 (dk_at dksX4_isRecoverable_0 13 rfl rfl)
theorem dX4_isRecoverable_14 : decode cX4_isRecoverable 14 = .ok (.iload_n 1, 1) := dk_27 (dk_at dksX4_isRecoverable_0 14 rfl rfl)
theorem dX4_isRecoverable_15 : decode cX4_isRecoverable 15 = .ok (.iconst 0, 1) := dk_3 (dk_at dksX4_isRecoverable_0 15 rfl rfl)
theorem dX4_isRecoverable_16 : decode cX4_isRecoverable 16 = .ok (.invokevirtual 227, 3) := dk_182 0 227 (dk_at dksX4_isRecoverable_0 16 rfl rfl)
theorem dX4_isRecoverable_19 : decode cX4_isRecoverable 19 = .ok (.iconst 0, 1) := dk_3 (dk_at dksX4_isRecoverable_0 19 rfl rfl)
theorem dX4_isRecoverable_20 : decode cX4_isRecoverable 20 = .ok (.istore_n 2, 1) := dk_61 (dk_at dksX4_isRecoverable_0 20 rfl rfl)
theorem dX4_isRecoverable_21 : decode cX4_isRecoverable 21 = .ok (.iload_n 2, 1) := dk_28 (dk_at dksX4_isRecoverable_0 21 rfl rfl)
theorem dX4_isRecoverable_22 : decode cX4_isRecoverable 22 = .ok (.aload_n 0, 1) := dk_42 (dk_at dksX4_isRecoverable_0 22 rfl rfl)
theorem dX4_isRecoverable_23 : decode cX4_isRecoverable 23 = .ok (.getfield 69, 3) := dk_180 0 69 (dk_at dksX4_isRecoverable_1 0 rfl rfl)
theorem dX4_isRecoverable_26 : decode cX4_isRecoverable 26 = .ok (.if_icmp .ge 76, 3) := dk_162 0 76 (dk_at dksX4_isRecoverable_1 3 rfl rfl)
theorem dX4_isRecoverable_29 : decode cX4_isRecoverable 29 = .ok (.iconst 0, 1) := dk_3 (dk_at dksX4_isRecoverable_1 6 rfl rfl)
theorem dX4_isRecoverable_30 : decode cX4_isRecoverable 30 = .ok (.istore_n 3, 1) := dk_62 (dk_at dksX4_isRecoverable_1 7 rfl rfl)
theorem dX4_isRecoverable_31 : decode cX4_isRecoverable 31 = .ok (.iload_n 3, 1) := dk_29 (dk_at dksX4_isRecoverable_1 8 rfl rfl)
theorem dX4_isRecoverable_32 : decode cX4_isRecoverable 32 = .ok (.iload_n 2, 1) := dk_28 (dk_at dksX4_isRecoverable_1 9 rfl rfl)
theorem dX4_isRecoverable_33 : decode cX4_isRecoverable 33 = .ok (.if_icmp .ge 63, 3) := dk_162 0 63 (dk_at dksX4_isRecoverable_1 10 rfl rfl)
theorem dX4_isRecoverable_36 : decode cX4_isRecoverable 36 = .ok (.aload_n 0, 1) := dk_42 (dk_at dksX4_isRecoverable_1 13 rfl rfl)
theorem dX4_isRecoverable_37 : decode cX4_isRecoverable 37 = .ok (.getfield 51, 3) := dk_180 0 51 (dk_at dksX4_isRecoverable_1 14 rfl rfl)
theorem dX4_isRecoverable_40 : decode cX4_isRecoverable 40 = .ok (.iload_n 2, 1) := dk_28 (dk_at dksX4_isRecoverable_1 17 rfl rfl)
theorem dX4_isRecoverable_41 : decode cX4_isRecoverable 41 = .ok (.iaload, 1) := dk_46 (dk_at dksX4_isRecoverable_1 18 rfl rfl)
theorem dX4_isRecoverable_42 : decode cX4_isRecoverable 42 = .ok (.iconst 2, 1) := dk_5 (dk_at dksX4_isRecoverable_1 19 rfl rfl)
theorem dX4_isRecoverable_43 : decode cX4_isRecoverable 43 = .ok (.if_icmp .ne 47, 3) := dk_160 0 47 (dk_at dksX4_isRecoverable_1 20 rfl rfl)
theorem dX4_isRecoverable_46 : decode cX4_isRecoverable 46 = .ok (.aload_n 0, 1) := dk_42 (dk_at dksX4_isRecoverable_1 23 rfl rfl)
theorem dX4_isRecoverable_47 : decode cX4_isRecoverable 47 = .ok (.getfield 54, 3) := dk_180 0 54 (dk_at dksX4_isRecoverable_2 0 rfl rfl)
theorem dX4_isRecoverable_50 : decode cX4_isRecoverable 50 = .ok (.iload_n 3, 1) := dk_29 (dk_at dksX4_isRecoverable_2 3 rfl rfl)
theorem dX4_isRecoverable_51 : decode cX4_isRecoverable 51 = .ok (.iaload, 1) := dk_46 (dk_at dksX4_isRecoverable_2 4 rfl rfl)
theorem dX4_isRecoverable_52 : decode cX4_isRecoverable 52 = .ok (.aload_n 0, 1) := dk_42 (dk_at dksX4_isRecoverable_2 5 rfl rfl)
theorem dX4_isRecoverable_53 : decode cX4_isRecoverable 53 = .ok (.getfield 54, 3) := dk_180 0 54 (dk_at dksX4_isRecoverable_2 6 rfl rfl)
theorem dX4_isRecoverable_56 : decode cX4_isRecoverable 56 = .ok (.iload_n 2, 1) := dk_28 (dk_at dksX4_isRecoverable_2 9 rfl rfl)
theorem dX4_isRecoverable_57 : decode cX4_isRecoverable 57 = .ok (.iaload, 1) := dk_46 (dk_at dksX4_isRecoverable_2 10 rfl rfl)
theorem dX4_isRecoverable_58 : decode cX4_isRecoverable 58 = .ok (.if_icmp .ne 32, 3) := dk_160 0 32 (dk_at dksX4_isRecoverable_2 11 rfl rfl)
theorem dX4_isRecoverable_61 : decode cX4_isRecoverable 61 = .ok (.aload_n 0, 1) := dk_42 (dk_at dksX4_isRecoverable_2 14 rfl rfl)
theorem dX4_isRecoverable_62 : decode cX4_isRecoverable 62 = .ok (.iload_n 3, 1) := dk_29 (dk_at dksX4_isRecoverable_2 15 rfl rfl)
theorem dX4_isRecoverable_63 : decode cX4_isRecoverable 63 = .ok (.invokevirtual 329, 3) := dk_182 1 73 (dk_at dksX4_isRecoverable_2 16 rfl rfl)
theorem dX4_isRecoverable_66 : decode cX4_isRecoverable 66 = .ok (.ifCond .eq 24, 3) := dk_153 0 24 (dk_at dksX4_isRecoverable_2 19 rfl rfl)
theorem dX4_isRecoverable_69 : decode cX4_isRecoverable 69 = .ok (.aload_n 0, 1) := dk_42 (dk_at dksX4_isRecoverable_2 22 rfl rfl)
theorem dX4_isRecoverable_70 : decode cX4_isRecoverable 70 = .ok (.aload_n 0, 1) := dk_42 (dk_at dksX4_isRecoverable_2 23 rfl rfl)
theorem dX4_isRecoverable_71 : decode cX4_isRecoverable 71 = .ok (.getfield 54, 3) := dk_180 0 54 (dk_at dksX4_isRecoverable_3 0 rfl rfl)
theorem dX4_isRecoverable_74 : decode cX4_isRecoverable 74 = .ok (.aload_n 0, 1) := dk_42 (dk_at dksX4_isRecoverable_3 3 rfl rfl)
theorem dX4_isRecoverable_75 : decode cX4_isRecoverable 75 = .ok (.iload_n 3, 1) := dk_29 (dk_at dksX4_isRecoverable_3 4 rfl rfl)
theorem dX4_isRecoverable_76 : decode cX4_isRecoverable 76 = .ok (.invokevirtual 326, 3) := dk_182 1 70 (dk_at dksX4_isRecoverable_3 5 rfl rfl)
theorem dX4_isRecoverable_79 : decode cX4_isRecoverable 79 = .ok (.iaload, 1) := dk_46 (dk_at dksX4_isRecoverable_3 8 rfl rfl)
theorem dX4_isRecoverable_80 : decode cX4_isRecoverable 80 = .ok (.iconst 2, 1) := dk_5 (dk_at dksX4_isRecoverable_3 9 rfl rfl)
theorem dX4_isRecoverable_81 : decode cX4_isRecoverable 81 = .ok (.iload_n 2, 1) := dk_28 (dk_at dksX4_isRecoverable_3 10 rfl rfl)
theorem dX4_isRecoverable_82 : decode cX4_isRecoverable 82 = .ok (.invokevirtual 323, 3) := dk_182 1 67 (dk_at dksX4_isRecoverable_3 11 rfl rfl)
theorem dX4_isRecoverable_85 : decode cX4_isRecoverable 85 = .ok (.ifCond .ne 5, 3) := dk_154 0 5 (dk_at dksX4_isRecoverable_3 14 rfl rfl)
theorem dX4_isRecoverable_88 : decode cX4_isRecoverable 88 = .ok (.iconst 0, 1) := dk_3 (dk_at dksX4_isRecoverable_3 17 rfl rfl)
theorem dX4_isRecoverable_89 : decode cX4_isRecoverable 89 = .ok (.ireturn, 1) := dk_172 (dk_at dksX4_isRecoverable_3 18 rfl rfl)
theorem dX4_isRecoverable_90 : decode cX4_isRecoverable 90 = .ok (.iinc 3 1, 3) := dk_132 3 1 (dk_at dksX4_isRecoverable_3 19 rfl rfl)
theorem dX4_isRecoverable_93 : decode cX4_isRecoverable 93 = .ok (.goto (-62), 3) := dk_167 255 194 (dk_at dksX4_isRecoverable_4 0 rfl rfl)
theorem dX4_isRecoverable_96 : decode cX4_isRecoverable 96 = .ok (.iinc 2 1, 3) := dk_132 2 1 (dk_at dksX4_isRecoverable_4 3 rfl rfl)
theorem dX4_isRecoverable_99 : decode cX4_isRecoverable 99 = .ok (.goto (-78), 3) := dk_167 255 178 (dk_at dksX4_isRecoverable_4 6 rfl rfl)
theorem dX4_isRecoverable_102 : decode cX4_isRecoverable 102 = .ok (.iconst 1, 1) := dk_4 (dk_at dksX4_isRecoverable_4 9 rfl rfl)
theorem dX4_isRecoverable_103 : decode cX4_isRecoverable 103 = .ok (.ireturn, 1) := dk_172 (dk_at dksX4_isRecoverable_4 10 rfl rfl)
abbrev cX4_isStrict : ByteArray := prog_12_method_105_code
def yX4_isStrict : MethodName := ⟨RX4, "isStrict", "(I)Z"⟩
def dkwX4_isStrict_3 : List UInt8 := [182, 1, 79, 154, 0, 5, 3, 172, 132, 3, 1, 167, 255, 209, 132, 2, 1, 167, 255, 191, 4, 172]
abbrev dktX4_isStrict_3 : List UInt8 := dkwX4_isStrict_3 ++ []
def dkwX4_isStrict_2 : List UInt8 := [4, 160, 0, 29, 42, 28, 29, 182, 0, 231, 153, 0, 20, 42, 42, 180, 0, 54, 28, 46, 28, 29]
abbrev dktX4_isStrict_2 : List UInt8 := dkwX4_isStrict_2 ++ dktX4_isStrict_3
def dkwX4_isStrict_1 : List UInt8 := [180, 0, 69, 162, 0, 63, 28, 4, 96, 62, 29, 42, 180, 0, 69, 162, 0, 45, 42, 180, 0, 51, 28, 46]
abbrev dktX4_isStrict_1 : List UInt8 := dkwX4_isStrict_1 ++ dktX4_isStrict_2
def dkwX4_isStrict_0 : List UInt8 := [42, 27, 184, 0, 131, 182, 1, 29, 158, 0, 5, 3, 172, 42, 27, 3, 182, 0, 227, 3, 61, 28, 42]
abbrev dktX4_isStrict_0 : List UInt8 := dkwX4_isStrict_0 ++ dktX4_isStrict_1
theorem dksX4_isStrict_0 : cX4_isStrict.data.toList.drop 0 = dktX4_isStrict_0 := by decide +kernel
theorem dksX4_isStrict_1 : cX4_isStrict.data.toList.drop 23 = dktX4_isStrict_1 := dk_seg dksX4_isStrict_0 23 rfl rfl
theorem dksX4_isStrict_2 : cX4_isStrict.data.toList.drop 47 = dktX4_isStrict_2 := dk_seg dksX4_isStrict_1 24 rfl rfl
theorem dksX4_isStrict_3 : cX4_isStrict.data.toList.drop 69 = dktX4_isStrict_3 := dk_seg dksX4_isStrict_2 22 rfl rfl
theorem dX4_isStrict_0 : decode cX4_isStrict 0 = .ok (.aload_n 0, 1) := dk_42 (dk_at dksX4_isStrict_0 0 rfl rfl)
theorem dX4_isStrict_1 : decode cX4_isStrict 1 = .ok (.iload_n 1, 1) := dk_27 (dk_at dksX4_isStrict_0 1 rfl rfl)
theorem dX4_isStrict_2 : decode cX4_isStrict 2 = .ok (.invokestatic 131, 3) := dk_184 0 131 (dk_at dksX4_isStrict_0 2 rfl rfl)
theorem dX4_isStrict_5 : decode cX4_isStrict 5 = .ok (.invokevirtual 285, 3) := dk_182 1 29 (dk_at dksX4_isStrict_0 5 rfl rfl)
theorem dX4_isStrict_8 : decode cX4_isStrict 8 = .ok (.ifCond .le 5, 3) := dk_158 0 5 (dk_at dksX4_isStrict_0 8 rfl rfl)
theorem dX4_isStrict_11 : decode cX4_isStrict 11 = .ok (.iconst 0, 1) := dk_3 (dk_at dksX4_isStrict_0 11 rfl rfl)
theorem dX4_isStrict_12 : decode cX4_isStrict 12 = .ok (.ireturn, 1) := dk_172 (dk_at dksX4_isStrict_0 12 rfl rfl)
theorem dX4_isStrict_13 : decode cX4_isStrict 13 = .ok (.aload_n 0, 1) := dk_42 (dk_at dksX4_isStrict_0 13 rfl rfl)
theorem dX4_isStrict_14 : decode cX4_isStrict 14 = .ok (.iload_n 1, 1) := dk_27 (dk_at dksX4_isStrict_0 14 rfl rfl)
theorem dX4_isStrict_15 : decode cX4_isStrict 15 = .ok (.iconst 0, 1) := dk_3 (dk_at dksX4_isStrict_0 15 rfl rfl)
theorem dX4_isStrict_16 : decode cX4_isStrict 16 = .ok (.invokevirtual 227, 3) := dk_182 0 227 (dk_at dksX4_isStrict_0 16 rfl rfl)
theorem dX4_isStrict_19 : decode cX4_isStrict 19 = .ok (.iconst 0, 1) := dk_3 (dk_at dksX4_isStrict_0 19 rfl rfl)
theorem dX4_isStrict_20 : decode cX4_isStrict 20 = .ok (.istore_n 2, 1) := dk_61 (dk_at dksX4_isStrict_0 20 rfl rfl)
theorem dX4_isStrict_21 : decode cX4_isStrict 21 = .ok (.iload_n 2, 1) := dk_28 (dk_at dksX4_isStrict_0 21 rfl rfl)
theorem dX4_isStrict_22 : decode cX4_isStrict 22 = .ok (.aload_n 0, 1) := dk_42 (dk_at dksX4_isStrict_0 22 rfl rfl)
theorem dX4_isStrict_23 : decode cX4_isStrict 23 = .ok (.getfield 69, 3) := dk_180 0 69 (dk_at dksX4_isStrict_1 0 rfl rfl)
theorem dX4_isStrict_26 : decode cX4_isStrict 26 = .ok (.if_icmp .ge 63, 3) := dk_162 0 63 (dk_at dksX4_isStrict_1 3 rfl rfl)
theorem dX4_isStrict_29 : decode cX4_isStrict 29 = .ok (.iload_n 2, 1) := dk_28 (dk_at dksX4_isStrict_1 6 rfl rfl)
theorem dX4_isStrict_30 : decode cX4_isStrict 30 = .ok (.iconst 1, 1) := dk_4 (dk_at dksX4_isStrict_1 7 rfl rfl)
theorem dX4_isStrict_31 : decode cX4_isStrict 31 = .ok (.iadd, 1) := dk_96 (dk_at dksX4_isStrict_1 8 rfl rfl)
theorem dX4_isStrict_32 : decode cX4_isStrict 32 = .ok (.istore_n 3, 1) := dk_62 (dk_at dksX4_isStrict_1 9 rfl rfl)
theorem dX4_isStrict_33 : decode cX4_isStrict 33 = .ok (.iload_n 3, 1) := dk_29 (dk_at dksX4_isStrict_1 10 rfl rfl)
theorem dX4_isStrict_34 : decode cX4_isStrict 34 = .ok (.aload_n 0, 1) := dk_42 (dk_at dksX4_isStrict_1 11 rfl rfl)
theorem dX4_isStrict_35 : decode cX4_isStrict 35 = .ok (.getfield 69, 3) := dk_180 0 69 (dk_at dksX4_isStrict_1 12 rfl rfl)
theorem dX4_isStrict_38 : decode cX4_isStrict 38 = .ok (.if_icmp .ge 45, 3) := dk_162 0 45 (dk_at dksX4_isStrict_1 15 rfl rfl)
theorem dX4_isStrict_41 : decode cX4_isStrict 41 = .ok (.aload_n 0, 1) := dk_42 (dk_at dksX4_isStrict_1 18 rfl rfl)
theorem dX4_isStrict_42 : decode cX4_isStrict 42 = .ok (.getfield 51, 3) := dk_180 0 51 (dk_at dksX4_isStrict_1 19 rfl rfl)
theorem dX4_isStrict_45 : decode cX4_isStrict 45 = .ok (.iload_n 2, 1) := dk_28 (dk_at dksX4_isStrict_1 22 rfl rfl)
theorem dX4_isStrict_46 : decode cX4_isStrict 46 = .ok (.iaload, 1) := dk_46 (dk_at dksX4_isStrict_1 23 rfl rfl)
theorem dX4_isStrict_47 : decode cX4_isStrict 47 = .ok (.iconst 1, 1) := dk_4 (dk_at dksX4_isStrict_2 0 rfl rfl)
theorem dX4_isStrict_48 : decode cX4_isStrict 48 = .ok (.if_icmp .ne 29, 3) := dk_160 0 29 (dk_at dksX4_isStrict_2 1 rfl rfl)
theorem dX4_isStrict_51 : decode cX4_isStrict 51 = .ok (.aload_n 0, 1) := dk_42 (dk_at dksX4_isStrict_2 4 rfl rfl)
theorem dX4_isStrict_52 : decode cX4_isStrict 52 = .ok (.iload_n 2, 1) := dk_28 (dk_at dksX4_isStrict_2 5 rfl rfl)
theorem dX4_isStrict_53 : decode cX4_isStrict 53 = .ok (.iload_n 3, 1) := dk_29 (dk_at dksX4_isStrict_2 6 rfl rfl)
theorem dX4_isStrict_54 : decode cX4_isStrict 54 = .ok (.invokevirtual 231, 3) := dk_182 0 231 (dk_at dksX4_isStrict_2 7 rfl rfl)
theorem dX4_isStrict_57 : decode cX4_isStrict 57 = .ok (.ifCond .eq 20, 3) := dk_153 0 20 (dk_at dksX4_isStrict_2 10 rfl rfl)
theorem dX4_isStrict_60 : decode cX4_isStrict 60 = .ok (.aload_n 0, 1) := dk_42 (dk_at dksX4_isStrict_2 13 rfl rfl)
theorem dX4_isStrict_61 : decode cX4_isStrict 61 = .ok (.aload_n 0, 1) := dk_42 (dk_at dksX4_isStrict_2 14 rfl rfl)
theorem dX4_isStrict_62 : decode cX4_isStrict 62 = .ok (.getfield 54, 3) := dk_180 0 54 (dk_at dksX4_isStrict_2 15 rfl rfl)
theorem dX4_isStrict_65 : decode cX4_isStrict 65 = .ok (.iload_n 2, 1) := dk_28 (dk_at dksX4_isStrict_2 18 rfl rfl)
theorem dX4_isStrict_66 : decode cX4_isStrict 66 = .ok (.iaload, 1) := dk_46 (dk_at dksX4_isStrict_2 19 rfl rfl)
theorem dX4_isStrict_67 : decode cX4_isStrict 67 = .ok (.iload_n 2, 1) := dk_28 (dk_at dksX4_isStrict_2 20 rfl rfl)
theorem dX4_isStrict_68 : decode cX4_isStrict 68 = .ok (.iload_n 3, 1) := dk_29 (dk_at dksX4_isStrict_2 21 rfl rfl)
theorem dX4_isStrict_69 : decode cX4_isStrict 69 = .ok (.invokevirtual 335, 3) := dk_182 1 79 (dk_at dksX4_isStrict_3 0 rfl rfl)
theorem dX4_isStrict_72 : decode cX4_isStrict 72 = .ok (.ifCond .ne 5, 3) := dk_154 0 5 (dk_at dksX4_isStrict_3 3 rfl rfl)
theorem dX4_isStrict_75 : decode cX4_isStrict 75 = .ok (.iconst 0, 1) := dk_3 (dk_at dksX4_isStrict_3 6 rfl rfl)
theorem dX4_isStrict_76 : decode cX4_isStrict 76 = .ok (.ireturn, 1) := dk_172 (dk_at dksX4_isStrict_3 7 rfl rfl)
theorem dX4_isStrict_77 : decode cX4_isStrict 77 = .ok (.iinc 3 1, 3) := dk_132 3 1 (dk_at dksX4_isStrict_3 8 rfl rfl)
theorem dX4_isStrict_80 : decode cX4_isStrict 80 = .ok (.goto (-47), 3) := dk_167 255 209 (dk_at dksX4_isStrict_3 11 rfl rfl)
theorem dX4_isStrict_83 : decode cX4_isStrict 83 = .ok (.iinc 2 1, 3) := dk_132 2 1 (dk_at dksX4_isStrict_3 14 rfl rfl)
theorem dX4_isStrict_86 : decode cX4_isStrict 86 = .ok (.goto (-65), 3) := dk_167 255 191 (dk_at dksX4_isStrict_3 17 rfl rfl)
theorem dX4_isStrict_89 : decode cX4_isStrict 89 = .ok (.iconst 1, 1) := dk_4 (dk_at dksX4_isStrict_3 20 rfl rfl)
theorem dX4_isStrict_90 : decode cX4_isStrict 90 = .ok (.ireturn, 1) := dk_172 (dk_at dksX4_isStrict_3 21 rfl rfl)
abbrev cX4_endsBetween : ByteArray := prog_12_method_104_code
def yX4_endsBetween : MethodName := ⟨RX4, "endsBetween", "(III)Z"⟩
def dkwX4_endsBetween_1 : List UInt8 := [21, 4, 182, 0, 224, 154, 0, 5, 4, 172, 132, 4, 1, 167, 255, 225, 3, 172]
abbrev dktX4_endsBetween_1 : List UInt8 := dkwX4_endsBetween_1 ++ []
def dkwX4_endsBetween_0 : List UInt8 := [28, 4, 96, 54, 4, 21, 4, 29, 162, 0, 31, 42, 180, 0, 54, 21, 4, 46, 27, 160, 0, 14, 42]
abbrev dktX4_endsBetween_0 : List UInt8 := dkwX4_endsBetween_0 ++ dktX4_endsBetween_1
theorem dksX4_endsBetween_0 : cX4_endsBetween.data.toList.drop 0 = dktX4_endsBetween_0 := by decide +kernel
theorem dksX4_endsBetween_1 : cX4_endsBetween.data.toList.drop 23 = dktX4_endsBetween_1 := dk_seg dksX4_endsBetween_0 23 rfl rfl
theorem dX4_endsBetween_0 : decode cX4_endsBetween 0 = .ok (.iload_n 2, 1) := dk_28 (dk_at dksX4_endsBetween_0 0 rfl rfl)
theorem dX4_endsBetween_1 : decode cX4_endsBetween 1 = .ok (.iconst 1, 1) := dk_4 (dk_at dksX4_endsBetween_0 1 rfl rfl)
theorem dX4_endsBetween_2 : decode cX4_endsBetween 2 = .ok (.iadd, 1) := dk_96 (dk_at dksX4_endsBetween_0 2 rfl rfl)
theorem dX4_endsBetween_3 : decode cX4_endsBetween 3 = .ok (.istore 4, 2) := dk_54 4 (dk_at dksX4_endsBetween_0 3 rfl rfl)
theorem dX4_endsBetween_5 : decode cX4_endsBetween 5 = .ok (.iload 4, 2) := dk_21 4 (dk_at dksX4_endsBetween_0 5 rfl rfl)
theorem dX4_endsBetween_7 : decode cX4_endsBetween 7 = .ok (.iload_n 3, 1) := dk_29 (dk_at dksX4_endsBetween_0 7 rfl rfl)
theorem dX4_endsBetween_8 : decode cX4_endsBetween 8 = .ok (.if_icmp .ge 31, 3) := dk_162 0 31 (dk_at dksX4_endsBetween_0 8 rfl rfl)
theorem dX4_endsBetween_11 : decode cX4_endsBetween 11 = .ok (.aload_n 0, 1) := dk_42 (dk_at dksX4_endsBetween_0 11 rfl rfl)
theorem dX4_endsBetween_12 : decode cX4_endsBetween 12 = .ok (.getfield 54, 3) := dk_180 0 54 (dk_at dksX4_endsBetween_0 12 rfl rfl)
theorem dX4_endsBetween_15 : decode cX4_endsBetween 15 = .ok (.iload 4, 2) := dk_21 4 (dk_at dksX4_endsBetween_0 15 rfl rfl)
theorem dX4_endsBetween_17 : decode cX4_endsBetween 17 = .ok (.iaload, 1) := dk_46 (dk_at dksX4_endsBetween_0 17 rfl rfl)
theorem dX4_endsBetween_18 : decode cX4_endsBetween 18 = .ok (.iload_n 1, 1) := dk_27 (dk_at dksX4_endsBetween_0 18 rfl rfl)
theorem dX4_endsBetween_19 : decode cX4_endsBetween 19 = .ok (.if_icmp .ne 14, 3) := dk_160 0 14 (dk_at dksX4_endsBetween_0 19 rfl rfl)
theorem dX4_endsBetween_22 : decode cX4_endsBetween 22 = .ok (.aload_n 0, 1) := dk_42 (dk_at dksX4_endsBetween_0 22 rfl rfl)
theorem dX4_endsBetween_23 : decode cX4_endsBetween 23 = .ok (.iload 4, 2) := dk_21 4 (dk_at dksX4_endsBetween_1 0 rfl rfl)
theorem dX4_endsBetween_25 : decode cX4_endsBetween 25 = .ok (.invokevirtual 224, 3) := dk_182 0 224 (dk_at dksX4_endsBetween_1 2 rfl rfl)
theorem dX4_endsBetween_28 : decode cX4_endsBetween 28 = .ok (.ifCond .ne 5, 3) := dk_154 0 5 (dk_at dksX4_endsBetween_1 5 rfl rfl)
theorem dX4_endsBetween_31 : decode cX4_endsBetween 31 = .ok (.iconst 1, 1) := dk_4 (dk_at dksX4_endsBetween_1 8 rfl rfl)
theorem dX4_endsBetween_32 : decode cX4_endsBetween 32 = .ok (.ireturn, 1) := dk_172 (dk_at dksX4_endsBetween_1 9 rfl rfl)
theorem dX4_endsBetween_33 : decode cX4_endsBetween 33 = .ok (.iinc 4 1, 3) := dk_132 4 1 (dk_at dksX4_endsBetween_1 10 rfl rfl)
theorem dX4_endsBetween_36 : decode cX4_endsBetween 36 = .ok (.goto (-31), 3) := dk_167 255 225 (dk_at dksX4_endsBetween_1 13 rfl rfl)
theorem dX4_endsBetween_39 : decode cX4_endsBetween 39 = .ok (.iconst 0, 1) := dk_3 (dk_at dksX4_endsBetween_1 16 rfl rfl)
theorem dX4_endsBetween_40 : decode cX4_endsBetween 40 = .ok (.ireturn, 1) := dk_172 (dk_at dksX4_endsBetween_1 17 rfl rfl)
abbrev cX4_valueOf : ByteArray := prog_12_method_108_code
def yX4_valueOf : MethodName := ⟨RX4, "valueOf", "(C)I"⟩
def dkwX4_valueOf_1 : List UInt8 := [16, 97, 100, 46, 172]
abbrev dktX4_valueOf_1 : List UInt8 := dkwX4_valueOf_1 ++ []
def dkwX4_valueOf_0 : List UInt8 := [42, 27, 184, 0, 163, 182, 1, 29, 158, 0, 7, 3, 167, 0, 15, 42, 180, 0, 7, 16, 84, 27, 96]
abbrev dktX4_valueOf_0 : List UInt8 := dkwX4_valueOf_0 ++ dktX4_valueOf_1
theorem dksX4_valueOf_0 : cX4_valueOf.data.toList.drop 0 = dktX4_valueOf_0 := by decide +kernel
theorem dksX4_valueOf_1 : cX4_valueOf.data.toList.drop 23 = dktX4_valueOf_1 := dk_seg dksX4_valueOf_0 23 rfl rfl
theorem dX4_valueOf_0 : decode cX4_valueOf 0 = .ok (.aload_n 0, 1) := dk_42 (dk_at dksX4_valueOf_0 0 rfl rfl)
theorem dX4_valueOf_1 : decode cX4_valueOf 1 = .ok (.iload_n 1, 1) := dk_27 (dk_at dksX4_valueOf_0 1 rfl rfl)
theorem dX4_valueOf_2 : decode cX4_valueOf 2 = .ok (.invokestatic 163, 3) := dk_184 0 163 (dk_at dksX4_valueOf_0 2 rfl rfl)
theorem dX4_valueOf_5 : decode cX4_valueOf 5 = .ok (.invokevirtual 285, 3) := dk_182 1 29 (dk_at dksX4_valueOf_0 5 rfl rfl)
theorem dX4_valueOf_8 : decode cX4_valueOf 8 = .ok (.ifCond .le 7, 3) := dk_158 0 7 (dk_at dksX4_valueOf_0 8 rfl rfl)
theorem dX4_valueOf_11 : decode cX4_valueOf 11 = .ok (.iconst 0, 1) := dk_3 (dk_at dksX4_valueOf_0 11 rfl rfl)
theorem dX4_valueOf_12 : decode cX4_valueOf 12 = .ok (.goto 15, 3) := dk_167 0 15 (dk_at dksX4_valueOf_0 12 rfl rfl)
theorem dX4_valueOf_15 : decode cX4_valueOf 15 = .ok (.aload_n 0, 1) := dk_42 (dk_at dksX4_valueOf_0 15 rfl rfl)
theorem dX4_valueOf_16 : decode cX4_valueOf 16 = .ok (.getfield 7, 3) := dk_180 0 7 (dk_at dksX4_valueOf_0 16 rfl rfl)
theorem dX4_valueOf_19 : decode cX4_valueOf 19 = .ok (.bipush 84, 2) := dk_16 84 (dk_at dksX4_valueOf_0 19 rfl rfl)
theorem dX4_valueOf_21 : decode cX4_valueOf 21 = .ok (.iload_n 1, 1) := dk_27 (dk_at dksX4_valueOf_0 21 rfl rfl)
theorem dX4_valueOf_22 : decode cX4_valueOf 22 = .ok (.iadd, 1) := dk_96 (dk_at dksX4_valueOf_0 22 rfl rfl)
theorem dX4_valueOf_23 : decode cX4_valueOf 23 = .ok (.bipush 97, 2) := dk_16 97 (dk_at dksX4_valueOf_1 0 rfl rfl)
theorem dX4_valueOf_25 : decode cX4_valueOf 25 = .ok (.isub, 1) := dk_100 (dk_at dksX4_valueOf_1 2 rfl rfl)
theorem dX4_valueOf_26 : decode cX4_valueOf 26 = .ok (.iaload, 1) := dk_46 (dk_at dksX4_valueOf_1 3 rfl rfl)
theorem dX4_valueOf_27 : decode cX4_valueOf 27 = .ok (.ireturn, 1) := dk_172 (dk_at dksX4_valueOf_1 4 rfl rfl)
abbrev cX4_finalValue : ByteArray := prog_12_method_110_code
def yX4_finalValue : MethodName := ⟨RX4, "finalValue", "(IC)I"⟩
def dkwX4_finalValue_0 : List UInt8 := [42, 27, 28, 3, 182, 1, 88, 172]
abbrev dktX4_finalValue_0 : List UInt8 := dkwX4_finalValue_0 ++ []
theorem dksX4_finalValue_0 : cX4_finalValue.data.toList.drop 0 = dktX4_finalValue_0 := by decide +kernel
theorem dX4_finalValue_0 : decode cX4_finalValue 0 = .ok (.aload_n 0, 1) := dk_42 (dk_at dksX4_finalValue_0 0 rfl rfl)
theorem dX4_finalValue_1 : decode cX4_finalValue 1 = .ok (.iload_n 1, 1) := dk_27 (dk_at dksX4_finalValue_0 1 rfl rfl)
theorem dX4_finalValue_2 : decode cX4_finalValue 2 = .ok (.iload_n 2, 1) := dk_28 (dk_at dksX4_finalValue_0 2 rfl rfl)
theorem dX4_finalValue_3 : decode cX4_finalValue 3 = .ok (.iconst 0, 1) := dk_3 (dk_at dksX4_finalValue_0 3 rfl rfl)
theorem dX4_finalValue_4 : decode cX4_finalValue 4 = .ok (.invokevirtual 344, 3) := dk_182 1 88 (dk_at dksX4_finalValue_0 4 rfl rfl)
theorem dX4_finalValue_7 : decode cX4_finalValue 7 = .ok (.ireturn, 1) := dk_172 (dk_at dksX4_finalValue_0 7 rfl rfl)
abbrev cX4_value : ByteArray := prog_12_method_109_code
def yX4_value : MethodName := ⟨RX4, "value", "(IIZ)I"⟩
def dkwX4_value_2 : List UInt8 := [180, 0, 108, 28, 16, 97, 100, 46, 172]
abbrev dktX4_value_2 : List UInt8 := dkwX4_value_2 ++ []
def dkwX4_value_1 : List UInt8 := [181, 0, 22, 42, 180, 0, 22, 158, 0, 5, 3, 172, 42, 27, 29, 182, 0, 227, 42, 182, 1, 85, 42]
abbrev dktX4_value_1 : List UInt8 := dkwX4_value_1 ++ dktX4_value_2
def dkwX4_value_0 : List UInt8 := [42, 27, 184, 0, 131, 154, 0, 7, 4, 167, 0, 15, 28, 184, 0, 163, 154, 0, 7, 5, 167, 0, 4, 3]
abbrev dktX4_value_0 : List UInt8 := dkwX4_value_0 ++ dktX4_value_1
theorem dksX4_value_0 : cX4_value.data.toList.drop 0 = dktX4_value_0 := by decide +kernel
theorem dksX4_value_1 : cX4_value.data.toList.drop 24 = dktX4_value_1 := dk_seg dksX4_value_0 24 rfl rfl
theorem dksX4_value_2 : cX4_value.data.toList.drop 47 = dktX4_value_2 := dk_seg dksX4_value_1 23 rfl rfl
theorem dX4_value_0 : decode cX4_value 0 = .ok (.aload_n 0, 1) := dk_42 (dk_at dksX4_value_0 0 rfl rfl)
theorem dX4_value_1 : decode cX4_value 1 = .ok (.iload_n 1, 1) := dk_27 (dk_at dksX4_value_0 1 rfl rfl)
theorem dX4_value_2 : decode cX4_value 2 = .ok (.invokestatic 131, 3) := dk_184 0 131 (dk_at dksX4_value_0 2 rfl rfl)
theorem dX4_value_5 : decode cX4_value 5 = .ok (.ifCond .ne 7, 3) := dk_154 0 7 (dk_at dksX4_value_0 5 rfl rfl)
theorem dX4_value_8 : decode cX4_value 8 = .ok (.iconst 1, 1) := dk_4 (dk_at dksX4_value_0 8 rfl rfl)
theorem dX4_value_9 : decode cX4_value 9 = .ok (.goto 15, 3) := dk_167 0 15 (dk_at dksX4_value_0 9 rfl rfl)
theorem dX4_value_12 : decode cX4_value 12 = .ok (.iload_n 2, 1) := dk_28 (dk_at dksX4_value_0 12 rfl rfl)
theorem dX4_value_13 : decode cX4_value 13 = .ok (.invokestatic 163, 3) := dk_184 0 163 (dk_at dksX4_value_0 13 rfl rfl)
theorem dX4_value_16 : decode cX4_value 16 = .ok (.ifCond .ne 7, 3) := dk_154 0 7 (dk_at dksX4_value_0 16 rfl rfl)
theorem dX4_value_19 : decode cX4_value 19 = .ok (.iconst 2, 1) := dk_5 (dk_at dksX4_value_0 19 rfl rfl)
theorem dX4_value_20 : decode cX4_value 20 = .ok (.goto 4, 3) := dk_167 0 4 (dk_at dksX4_value_0 20 rfl rfl)
theorem dX4_value_23 : decode cX4_value 23 = .ok (.iconst 0, 1) := dk_3 (dk_at dksX4_value_0 23 rfl rfl)
theorem dX4_value_24 : decode cX4_value 24 = .ok (.putfield 22, 3) := dk_181 0 22 (dk_at dksX4_value_1 0 rfl rfl)
theorem dX4_value_27 : decode cX4_value 27 = .ok (.aload_n 0, 1) := dk_42 (dk_at dksX4_value_1 3 rfl rfl)
theorem dX4_value_28 : decode cX4_value 28 = .ok (.getfield 22, 3) := dk_180 0 22 (dk_at dksX4_value_1 4 rfl rfl)
theorem dX4_value_31 : decode cX4_value 31 = .ok (.ifCond .le 5, 3) := dk_158 0 5 (dk_at dksX4_value_1 7 rfl rfl)
theorem dX4_value_34 : decode cX4_value 34 = .ok (.iconst 0, 1) := dk_3 (dk_at dksX4_value_1 10 rfl rfl)
theorem dX4_value_35 : decode cX4_value 35 = .ok (.ireturn, 1) := dk_172 (dk_at dksX4_value_1 11 rfl rfl)
theorem dX4_value_36 : decode cX4_value 36 = .ok (.aload_n 0, 1) := dk_42 (dk_at dksX4_value_1 12 rfl rfl)
theorem dX4_value_37 : decode cX4_value 37 = .ok (.iload_n 1, 1) := dk_27 (dk_at dksX4_value_1 13 rfl rfl)
theorem dX4_value_38 : decode cX4_value 38 = .ok (.iload_n 3, 1) := dk_29 (dk_at dksX4_value_1 14 rfl rfl)
theorem dX4_value_39 : decode cX4_value 39 = .ok (.invokevirtual 227, 3) := dk_182 0 227 (dk_at dksX4_value_1 15 rfl rfl)
theorem dX4_value_42 : decode cX4_value 42 = .ok (.aload_n 0, 1) := dk_42 (dk_at dksX4_value_1 18 rfl rfl)
theorem dX4_value_43 : decode cX4_value 43 = .ok (.invokevirtual 341, 3) := dk_182 1 85 (dk_at dksX4_value_1 19 rfl rfl)
theorem dX4_value_46 : decode cX4_value 46 = .ok (.aload_n 0, 1) := dk_42 (dk_at dksX4_value_1 22 rfl rfl)
theorem dX4_value_47 : decode cX4_value 47 = .ok (.getfield 108, 3) := dk_180 0 108 (dk_at dksX4_value_2 0 rfl rfl)
theorem dX4_value_50 : decode cX4_value 50 = .ok (.iload_n 2, 1) := dk_28 (dk_at dksX4_value_2 3 rfl rfl)
theorem dX4_value_51 : decode cX4_value 51 = .ok (.bipush 97, 2) := dk_16 97 (dk_at dksX4_value_2 4 rfl rfl)
theorem dX4_value_53 : decode cX4_value 53 = .ok (.isub, 1) := dk_100 (dk_at dksX4_value_2 6 rfl rfl)
theorem dX4_value_54 : decode cX4_value 54 = .ok (.iaload, 1) := dk_46 (dk_at dksX4_value_2 7 rfl rfl)
theorem dX4_value_55 : decode cX4_value 55 = .ok (.ireturn, 1) := dk_172 (dk_at dksX4_value_2 8 rfl rfl)
abbrev cX4_execute : ByteArray := prog_12_method_107_code
def yX4_execute : MethodName := ⟨RX4, "execute", "()V"⟩
def dkwX4_execute_8 : List UInt8 := [182, 1, 82, 167, 0, 3, 132, 1, 1, 167, 255, 126, 177]
abbrev dktX4_execute_8 : List UInt8 := dkwX4_execute_8 ++ []
def dkwX4_execute_7 : List UInt8 := [79, 42, 180, 0, 108, 42, 180, 0, 57, 27, 46, 42, 180, 0, 111, 28, 46, 79, 167, 0, 12, 42, 28, 27]
abbrev dktX4_execute_7 : List UInt8 := dkwX4_execute_7 ++ dktX4_execute_8
def dkwX4_execute_6 : List UInt8 := [17, 3, 232, 112, 79, 167, 0, 49, 42, 180, 0, 114, 27, 42, 180, 0, 108, 42, 180, 0, 57, 27, 46, 46]
abbrev dktX4_execute_6 : List UInt8 := dkwX4_execute_6 ++ dktX4_execute_7
def dkwX4_execute_5 : List UInt8 := [42, 180, 0, 111, 28, 42, 180, 0, 111, 28, 46, 42, 180, 0, 108, 42, 180, 0, 57, 27, 46, 46, 96]
abbrev dktX4_execute_5 : List UInt8 := dkwX4_execute_5 ++ dktX4_execute_6
def dkwX4_execute_4 : List UInt8 := [170, 0, 0, 0, 106, 0, 0, 0, 0, 0, 0, 0, 3, 0, 0, 0, 29, 0, 0, 0, 60, 0, 0, 0, 106, 0, 0, 0, 97]
abbrev dktX4_execute_4 : List UInt8 := dkwX4_execute_4 ++ dktX4_execute_5
def dkwX4_execute_3 : List UInt8 := [27, 46]
abbrev dktX4_execute_3 : List UInt8 := dkwX4_execute_3 ++ dktX4_execute_4
def dkwX4_execute_2 : List UInt8 := [167, 255, 241, 3, 60, 27, 42, 180, 0, 69, 162, 0, 128, 42, 180, 0, 54, 27, 46, 61, 42, 180, 0, 51]
abbrev dktX4_execute_2 : List UInt8 := dkwX4_execute_2 ++ dktX4_execute_3
def dkwX4_execute_1 : List UInt8 := [132, 1, 1, 167, 255, 233, 3, 60, 27, 8, 163, 0, 16, 42, 180, 0, 111, 27, 27, 79, 132, 1, 1]
abbrev dktX4_execute_1 : List UInt8 := dkwX4_execute_1 ++ dktX4_execute_2
def dkwX4_execute_0 : List UInt8 := [3, 60, 27, 7, 162, 0, 24, 42, 180, 0, 108, 27, 42, 180, 0, 7, 16, 84, 27, 96, 46, 79]
abbrev dktX4_execute_0 : List UInt8 := dkwX4_execute_0 ++ dktX4_execute_1
theorem dksX4_execute_0 : cX4_execute.data.toList.drop 0 = dktX4_execute_0 := by decide +kernel
theorem dksX4_execute_1 : cX4_execute.data.toList.drop 22 = dktX4_execute_1 := dk_seg dksX4_execute_0 22 rfl rfl
theorem dksX4_execute_2 : cX4_execute.data.toList.drop 45 = dktX4_execute_2 := dk_seg dksX4_execute_1 23 rfl rfl
theorem dksX4_execute_3 : cX4_execute.data.toList.drop 69 = dktX4_execute_3 := dk_seg dksX4_execute_2 24 rfl rfl
theorem dksX4_execute_4 : cX4_execute.data.toList.drop 71 = dktX4_execute_4 := dk_seg dksX4_execute_3 2 rfl rfl
theorem dksX4_execute_5 : cX4_execute.data.toList.drop 100 = dktX4_execute_5 := dk_seg dksX4_execute_4 29 rfl rfl
theorem dksX4_execute_6 : cX4_execute.data.toList.drop 123 = dktX4_execute_6 := dk_seg dksX4_execute_5 23 rfl rfl
theorem dksX4_execute_7 : cX4_execute.data.toList.drop 147 = dktX4_execute_7 := dk_seg dksX4_execute_6 24 rfl rfl
theorem dksX4_execute_8 : cX4_execute.data.toList.drop 171 = dktX4_execute_8 := dk_seg dksX4_execute_7 24 rfl rfl
theorem dX4_execute_0 : decode cX4_execute 0 = .ok (.iconst 0, 1) := dk_3 (dk_at dksX4_execute_0 0 rfl rfl)
theorem dX4_execute_1 : decode cX4_execute 1 = .ok (.istore_n 1, 1) := dk_60 (dk_at dksX4_execute_0 1 rfl rfl)
theorem dX4_execute_2 : decode cX4_execute 2 = .ok (.iload_n 1, 1) := dk_27 (dk_at dksX4_execute_0 2 rfl rfl)
theorem dX4_execute_3 : decode cX4_execute 3 = .ok (.iconst 4, 1) := dk_7 (dk_at dksX4_execute_0 3 rfl rfl)
theorem dX4_execute_4 : decode cX4_execute 4 = .ok (.if_icmp .ge 24, 3) := dk_162 0 24 (dk_at dksX4_execute_0 4 rfl rfl)
theorem dX4_execute_7 : decode cX4_execute 7 = .ok (.aload_n 0, 1) := dk_42 (dk_at dksX4_execute_0 7 rfl rfl)
theorem dX4_execute_8 : decode cX4_execute 8 = .ok (.getfield 108, 3) := dk_180 0 108 (dk_at dksX4_execute_0 8 rfl rfl)
theorem dX4_execute_11 : decode cX4_execute 11 = .ok (.iload_n 1, 1) := dk_27 (dk_at dksX4_execute_0 11 rfl rfl)
theorem dX4_execute_12 : decode cX4_execute 12 = .ok (.aload_n 0, 1) := dk_42 (dk_at dksX4_execute_0 12 rfl rfl)
theorem dX4_execute_13 : decode cX4_execute 13 = .ok (.getfield 7, 3) := dk_180 0 7 (dk_at dksX4_execute_0 13 rfl rfl)
theorem dX4_execute_16 : decode cX4_execute 16 = .ok (.bipush 84, 2) := dk_16 84 (dk_at dksX4_execute_0 16 rfl rfl)
theorem dX4_execute_18 : decode cX4_execute 18 = .ok (.iload_n 1, 1) := dk_27 (dk_at dksX4_execute_0 18 rfl rfl)
theorem dX4_execute_19 : decode cX4_execute 19 = .ok (.iadd, 1) := dk_96 (dk_at dksX4_execute_0 19 rfl rfl)
theorem dX4_execute_20 : decode cX4_execute 20 = .ok (.iaload, 1) := dk_46 (dk_at dksX4_execute_0 20 rfl rfl)
theorem dX4_execute_21 : decode cX4_execute 21 = .ok (.iastore, 1) := dk_79 (dk_at dksX4_execute_0 21 rfl rfl)
theorem dX4_execute_22 : decode cX4_execute 22 = .ok (.iinc 1 1, 3) := dk_132 1 1 (dk_at dksX4_execute_1 0 rfl rfl)
theorem dX4_execute_25 : decode cX4_execute 25 = .ok (.goto (-23), 3) := dk_167 255 233 (dk_at dksX4_execute_1 3 rfl rfl)
theorem dX4_execute_28 : decode cX4_execute 28 = .ok (.iconst 0, 1) := dk_3 (dk_at dksX4_execute_1 6 rfl rfl)
theorem dX4_execute_29 : decode cX4_execute 29 = .ok (.istore_n 1, 1) := dk_60 (dk_at dksX4_execute_1 7 rfl rfl)
theorem dX4_execute_30 : decode cX4_execute 30 = .ok (.iload_n 1, 1) := dk_27 (dk_at dksX4_execute_1 8 rfl rfl)
theorem dX4_execute_31 : decode cX4_execute 31 = .ok (.iconst 5, 1) := dk_8 (dk_at dksX4_execute_1 9 rfl rfl)
theorem dX4_execute_32 : decode cX4_execute 32 = .ok (.if_icmp .gt 16, 3) := dk_163 0 16 (dk_at dksX4_execute_1 10 rfl rfl)
theorem dX4_execute_35 : decode cX4_execute 35 = .ok (.aload_n 0, 1) := dk_42 (dk_at dksX4_execute_1 13 rfl rfl)
theorem dX4_execute_36 : decode cX4_execute 36 = .ok (.getfield 111, 3) := dk_180 0 111 (dk_at dksX4_execute_1 14 rfl rfl)
theorem dX4_execute_39 : decode cX4_execute 39 = .ok (.iload_n 1, 1) := dk_27 (dk_at dksX4_execute_1 17 rfl rfl)
theorem dX4_execute_40 : decode cX4_execute 40 = .ok (.iload_n 1, 1) := dk_27 (dk_at dksX4_execute_1 18 rfl rfl)
theorem dX4_execute_41 : decode cX4_execute 41 = .ok (.iastore, 1) := dk_79 (dk_at dksX4_execute_1 19 rfl rfl)
theorem dX4_execute_42 : decode cX4_execute 42 = .ok (.iinc 1 1, 3) := dk_132 1 1 (dk_at dksX4_execute_1 20 rfl rfl)
theorem dX4_execute_45 : decode cX4_execute 45 = .ok (.goto (-15), 3) := dk_167 255 241 (dk_at dksX4_execute_2 0 rfl rfl)
theorem dX4_execute_48 : decode cX4_execute 48 = .ok (.iconst 0, 1) := dk_3 (dk_at dksX4_execute_2 3 rfl rfl)
theorem dX4_execute_49 : decode cX4_execute 49 = .ok (.istore_n 1, 1) := dk_60 (dk_at dksX4_execute_2 4 rfl rfl)
theorem dX4_execute_50 : decode cX4_execute 50 = .ok (.iload_n 1, 1) := dk_27 (dk_at dksX4_execute_2 5 rfl rfl)
theorem dX4_execute_51 : decode cX4_execute 51 = .ok (.aload_n 0, 1) := dk_42 (dk_at dksX4_execute_2 6 rfl rfl)
theorem dX4_execute_52 : decode cX4_execute 52 = .ok (.getfield 69, 3) := dk_180 0 69 (dk_at dksX4_execute_2 7 rfl rfl)
theorem dX4_execute_55 : decode cX4_execute 55 = .ok (.if_icmp .ge 128, 3) := dk_162 0 128 (dk_at dksX4_execute_2 10 rfl rfl)
theorem dX4_execute_58 : decode cX4_execute 58 = .ok (.aload_n 0, 1) := dk_42 (dk_at dksX4_execute_2 13 rfl rfl)
theorem dX4_execute_59 : decode cX4_execute 59 = .ok (.getfield 54, 3) := dk_180 0 54 (dk_at dksX4_execute_2 14 rfl rfl)
theorem dX4_execute_62 : decode cX4_execute 62 = .ok (.iload_n 1, 1) := dk_27 (dk_at dksX4_execute_2 17 rfl rfl)
theorem dX4_execute_63 : decode cX4_execute 63 = .ok (.iaload, 1) := dk_46 (dk_at dksX4_execute_2 18 rfl rfl)
theorem dX4_execute_64 : decode cX4_execute 64 = .ok (.istore_n 2, 1) := dk_61 (dk_at dksX4_execute_2 19 rfl rfl)
theorem dX4_execute_65 : decode cX4_execute 65 = .ok (.aload_n 0, 1) := dk_42 (dk_at dksX4_execute_2 20 rfl rfl)
theorem dX4_execute_66 : decode cX4_execute 66 = .ok (.getfield 51, 3) := dk_180 0 51 (dk_at dksX4_execute_2 21 rfl rfl)
theorem dX4_execute_69 : decode cX4_execute 69 = .ok (.iload_n 1, 1) := dk_27 (dk_at dksX4_execute_3 0 rfl rfl)
theorem dX4_execute_70 : decode cX4_execute 70 = .ok (.iaload, 1) := dk_46 (dk_at dksX4_execute_3 1 rfl rfl)
theorem dX4_execute_71 : decode cX4_execute 71 = .ok (.tableswitch 106 0 3 #[29, 60, 106, 97], 29) := by decide +kernel
theorem dX4_execute_100 : decode cX4_execute 100 = .ok (.aload_n 0, 1) := dk_42 (dk_at dksX4_execute_5 0 rfl rfl)
theorem dX4_execute_101 : decode cX4_execute 101 = .ok (.getfield 111, 3) := dk_180 0 111 (dk_at dksX4_execute_5 1 rfl rfl)
theorem dX4_execute_104 : decode cX4_execute 104 = .ok (.iload_n 2, 1) := dk_28 (dk_at dksX4_execute_5 4 rfl rfl)
theorem dX4_execute_105 : decode cX4_execute 105 = .ok (.aload_n 0, 1) := dk_42 (dk_at dksX4_execute_5 5 rfl rfl)
theorem dX4_execute_106 : decode cX4_execute 106 = .ok (.getfield 111, 3) := dk_180 0 111 (dk_at dksX4_execute_5 6 rfl rfl)
theorem dX4_execute_109 : decode cX4_execute 109 = .ok (.iload_n 2, 1) := dk_28 (dk_at dksX4_execute_5 9 rfl rfl)
theorem dX4_execute_110 : decode cX4_execute 110 = .ok (.iaload, 1) := dk_46 (dk_at dksX4_execute_5 10 rfl rfl)
theorem dX4_execute_111 : decode cX4_execute 111 = .ok (.aload_n 0, 1) := dk_42 (dk_at dksX4_execute_5 11 rfl rfl)
theorem dX4_execute_112 : decode cX4_execute 112 = .ok (.getfield 108, 3) := dk_180 0 108 (dk_at dksX4_execute_5 12 rfl rfl)
theorem dX4_execute_115 : decode cX4_execute 115 = .ok (.aload_n 0, 1) := dk_42 (dk_at dksX4_execute_5 15 rfl rfl)
theorem dX4_execute_116 : decode cX4_execute 116 = .ok (.getfield 57, 3) := dk_180 0 57 (dk_at dksX4_execute_5 16 rfl rfl)
theorem dX4_execute_119 : decode cX4_execute 119 = .ok (.iload_n 1, 1) := dk_27 (dk_at dksX4_execute_5 19 rfl rfl)
theorem dX4_execute_120 : decode cX4_execute 120 = .ok (.iaload, 1) := dk_46 (dk_at dksX4_execute_5 20 rfl rfl)
theorem dX4_execute_121 : decode cX4_execute 121 = .ok (.iaload, 1) := dk_46 (dk_at dksX4_execute_5 21 rfl rfl)
theorem dX4_execute_122 : decode cX4_execute 122 = .ok (.iadd, 1) := dk_96 (dk_at dksX4_execute_5 22 rfl rfl)
theorem dX4_execute_123 : decode cX4_execute 123 = .ok (.sipush 1000, 3) := dk_17 3 232 (dk_at dksX4_execute_6 0 rfl rfl)
theorem dX4_execute_126 : decode cX4_execute 126 = .ok (.irem, 1) := dk_112 (dk_at dksX4_execute_6 3 rfl rfl)
theorem dX4_execute_127 : decode cX4_execute 127 = .ok (.iastore, 1) := dk_79 (dk_at dksX4_execute_6 4 rfl rfl)
theorem dX4_execute_128 : decode cX4_execute 128 = .ok (.goto 49, 3) := dk_167 0 49 (dk_at dksX4_execute_6 5 rfl rfl)
theorem dX4_execute_131 : decode cX4_execute 131 = .ok (.aload_n 0, 1) := dk_42 (dk_at dksX4_execute_6 8 rfl rfl)
theorem dX4_execute_132 : decode cX4_execute 132 = .ok (.getfield 114, 3) := dk_180 0 114 (dk_at dksX4_execute_6 9 rfl rfl)
theorem dX4_execute_135 : decode cX4_execute 135 = .ok (.iload_n 1, 1) := dk_27 (dk_at dksX4_execute_6 12 rfl rfl)
theorem dX4_execute_136 : decode cX4_execute 136 = .ok (.aload_n 0, 1) := dk_42 (dk_at dksX4_execute_6 13 rfl rfl)
theorem dX4_execute_137 : decode cX4_execute 137 = .ok (.getfield 108, 3) := dk_180 0 108 (dk_at dksX4_execute_6 14 rfl rfl)
theorem dX4_execute_140 : decode cX4_execute 140 = .ok (.aload_n 0, 1) := dk_42 (dk_at dksX4_execute_6 17 rfl rfl)
theorem dX4_execute_141 : decode cX4_execute 141 = .ok (.getfield 57, 3) := dk_180 0 57 (dk_at dksX4_execute_6 18 rfl rfl)
theorem dX4_execute_144 : decode cX4_execute 144 = .ok (.iload_n 1, 1) := dk_27 (dk_at dksX4_execute_6 21 rfl rfl)
theorem dX4_execute_145 : decode cX4_execute 145 = .ok (.iaload, 1) := dk_46 (dk_at dksX4_execute_6 22 rfl rfl)
theorem dX4_execute_146 : decode cX4_execute 146 = .ok (.iaload, 1) := dk_46 (dk_at dksX4_execute_6 23 rfl rfl)
theorem dX4_execute_147 : decode cX4_execute 147 = .ok (.iastore, 1) := dk_79 (dk_at dksX4_execute_7 0 rfl rfl)
theorem dX4_execute_148 : decode cX4_execute 148 = .ok (.aload_n 0, 1) := dk_42 (dk_at dksX4_execute_7 1 rfl rfl)
theorem dX4_execute_149 : decode cX4_execute 149 = .ok (.getfield 108, 3) := dk_180 0 108 (dk_at dksX4_execute_7 2 rfl rfl)
theorem dX4_execute_152 : decode cX4_execute 152 = .ok (.aload_n 0, 1) := dk_42 (dk_at dksX4_execute_7 5 rfl rfl)
theorem dX4_execute_153 : decode cX4_execute 153 = .ok (.getfield 57, 3) := dk_180 0 57 (dk_at dksX4_execute_7 6 rfl rfl)
theorem dX4_execute_156 : decode cX4_execute 156 = .ok (.iload_n 1, 1) := dk_27 (dk_at dksX4_execute_7 9 rfl rfl)
theorem dX4_execute_157 : decode cX4_execute 157 = .ok (.iaload, 1) := dk_46 (dk_at dksX4_execute_7 10 rfl rfl)
theorem dX4_execute_158 : decode cX4_execute 158 = .ok (.aload_n 0, 1) := dk_42 (dk_at dksX4_execute_7 11 rfl rfl)
theorem dX4_execute_159 : decode cX4_execute 159 = .ok (.getfield 111, 3) := dk_180 0 111 (dk_at dksX4_execute_7 12 rfl rfl)
theorem dX4_execute_162 : decode cX4_execute 162 = .ok (.iload_n 2, 1) := dk_28 (dk_at dksX4_execute_7 15 rfl rfl)
theorem dX4_execute_163 : decode cX4_execute 163 = .ok (.iaload, 1) := dk_46 (dk_at dksX4_execute_7 16 rfl rfl)
theorem dX4_execute_164 : decode cX4_execute 164 = .ok (.iastore, 1) := dk_79 (dk_at dksX4_execute_7 17 rfl rfl)
theorem dX4_execute_165 : decode cX4_execute 165 = .ok (.goto 12, 3) := dk_167 0 12 (dk_at dksX4_execute_7 18 rfl rfl)
theorem dX4_execute_168 : decode cX4_execute 168 = .ok (.aload_n 0, 1) := dk_42 (dk_at dksX4_execute_7 21 rfl rfl)
theorem dX4_execute_169 : decode cX4_execute 169 = .ok (.iload_n 2, 1) := dk_28 (dk_at dksX4_execute_7 22 rfl rfl)
theorem dX4_execute_170 : decode cX4_execute 170 = .ok (.iload_n 1, 1) := dk_27 (dk_at dksX4_execute_7 23 rfl rfl)
theorem dX4_execute_171 : decode cX4_execute 171 = .ok (.invokevirtual 338, 3) := dk_182 1 82 (dk_at dksX4_execute_8 0 rfl rfl)
theorem dX4_execute_174 : decode cX4_execute 174 = .ok (.goto 3, 3) := dk_167 0 3 (dk_at dksX4_execute_8 3 rfl rfl)
theorem dX4_execute_177 : decode cX4_execute 177 = .ok (.iinc 1 1, 3) := dk_132 1 1 (dk_at dksX4_execute_8 6 rfl rfl)
theorem dX4_execute_180 : decode cX4_execute 180 = .ok (.goto (-130), 3) := dk_167 255 126 (dk_at dksX4_execute_8 9 rfl rfl)
theorem dX4_execute_183 : decode cX4_execute 183 = .ok (.return_, 1) := dk_177 (dk_at dksX4_execute_8 12 rfl rfl)
abbrev cX4_undoes : ByteArray := prog_12_method_106_code
def yX4_undoes : MethodName := ⟨RX4, "undoes", "(II)V"⟩
def dkwX4_undoes_2 : List UInt8 := [167, 255, 212, 177]
abbrev dktX4_undoes_2 : List UInt8 := dkwX4_undoes_2 ++ []
def dkwX4_undoes_1 : List UInt8 := [4, 160, 0, 20, 42, 180, 0, 108, 42, 180, 0, 57, 29, 46, 42, 180, 0, 114, 29, 46, 79, 132, 3, 255]
abbrev dktX4_undoes_1 : List UInt8 := dkwX4_undoes_1 ++ dktX4_undoes_2
def dkwX4_undoes_0 : List UInt8 := [28, 4, 100, 62, 29, 155, 0, 46, 42, 180, 0, 54, 29, 46, 27, 160, 0, 30, 42, 180, 0, 51, 29, 46]
abbrev dktX4_undoes_0 : List UInt8 := dkwX4_undoes_0 ++ dktX4_undoes_1
theorem dksX4_undoes_0 : cX4_undoes.data.toList.drop 0 = dktX4_undoes_0 := by decide +kernel
theorem dksX4_undoes_1 : cX4_undoes.data.toList.drop 24 = dktX4_undoes_1 := dk_seg dksX4_undoes_0 24 rfl rfl
theorem dksX4_undoes_2 : cX4_undoes.data.toList.drop 48 = dktX4_undoes_2 := dk_seg dksX4_undoes_1 24 rfl rfl
theorem dX4_undoes_0 : decode cX4_undoes 0 = .ok (.iload_n 2, 1) := dk_28 (dk_at dksX4_undoes_0 0 rfl rfl)
theorem dX4_undoes_1 : decode cX4_undoes 1 = .ok (.iconst 1, 1) := dk_4 (dk_at dksX4_undoes_0 1 rfl rfl)
theorem dX4_undoes_2 : decode cX4_undoes 2 = .ok (.isub, 1) := dk_100 (dk_at dksX4_undoes_0 2 rfl rfl)
theorem dX4_undoes_3 : decode cX4_undoes 3 = .ok (.istore_n 3, 1) := dk_62 (dk_at dksX4_undoes_0 3 rfl rfl)
theorem dX4_undoes_4 : decode cX4_undoes 4 = .ok (.iload_n 3, 1) := dk_29 (dk_at dksX4_undoes_0 4 rfl rfl)
theorem dX4_undoes_5 : decode cX4_undoes 5 = .ok (.ifCond .lt 46, 3) := dk_155 0 46 (dk_at dksX4_undoes_0 5 rfl rfl)
theorem dX4_undoes_8 : decode cX4_undoes 8 = .ok (.aload_n 0, 1) := dk_42 (dk_at dksX4_undoes_0 8 rfl rfl)
theorem dX4_undoes_9 : decode cX4_undoes 9 = .ok (.getfield 54, 3) := dk_180 0 54 (dk_at dksX4_undoes_0 9 rfl rfl)
theorem dX4_undoes_12 : decode cX4_undoes 12 = .ok (.iload_n 3, 1) := dk_29 (dk_at dksX4_undoes_0 12 rfl rfl)
theorem dX4_undoes_13 : decode cX4_undoes 13 = .ok (.iaload, 1) := dk_46 (dk_at dksX4_undoes_0 13 rfl rfl)
theorem dX4_undoes_14 : decode cX4_undoes 14 = .ok (.iload_n 1, 1) := dk_27 (dk_at dksX4_undoes_0 14 rfl rfl)
theorem dX4_undoes_15 : decode cX4_undoes 15 = .ok (.if_icmp .ne 30, 3) := dk_160 0 30 (dk_at dksX4_undoes_0 15 rfl rfl)
theorem dX4_undoes_18 : decode cX4_undoes 18 = .ok (.aload_n 0, 1) := dk_42 (dk_at dksX4_undoes_0 18 rfl rfl)
theorem dX4_undoes_19 : decode cX4_undoes 19 = .ok (.getfield 51, 3) := dk_180 0 51 (dk_at dksX4_undoes_0 19 rfl rfl)
theorem dX4_undoes_22 : decode cX4_undoes 22 = .ok (.iload_n 3, 1) := dk_29 (dk_at dksX4_undoes_0 22 rfl rfl)
theorem dX4_undoes_23 : decode cX4_undoes 23 = .ok (.iaload, 1) := dk_46 (dk_at dksX4_undoes_0 23 rfl rfl)
theorem dX4_undoes_24 : decode cX4_undoes 24 = .ok (.iconst 1, 1) := dk_4 (dk_at dksX4_undoes_1 0 rfl rfl)
theorem dX4_undoes_25 : decode cX4_undoes 25 = .ok (.if_icmp .ne 20, 3) := dk_160 0 20 (dk_at dksX4_undoes_1 1 rfl rfl)
theorem dX4_undoes_28 : decode cX4_undoes 28 = .ok (.aload_n 0, 1) := dk_42 (dk_at dksX4_undoes_1 4 rfl rfl)
theorem dX4_undoes_29 : decode cX4_undoes 29 = .ok (.getfield 108, 3) := dk_180 0 108 (dk_at dksX4_undoes_1 5 rfl rfl)
theorem dX4_undoes_32 : decode cX4_undoes 32 = .ok (.aload_n 0, 1) := dk_42 (dk_at dksX4_undoes_1 8 rfl rfl)
theorem dX4_undoes_33 : decode cX4_undoes 33 = .ok (.getfield 57, 3) := dk_180 0 57 (dk_at dksX4_undoes_1 9 rfl rfl)
theorem dX4_undoes_36 : decode cX4_undoes 36 = .ok (.iload_n 3, 1) := dk_29 (dk_at dksX4_undoes_1 12 rfl rfl)
theorem dX4_undoes_37 : decode cX4_undoes 37 = .ok (.iaload, 1) := dk_46 (dk_at dksX4_undoes_1 13 rfl rfl)
theorem dX4_undoes_38 : decode cX4_undoes 38 = .ok (.aload_n 0, 1) := dk_42 (dk_at dksX4_undoes_1 14 rfl rfl)
theorem dX4_undoes_39 : decode cX4_undoes 39 = .ok (.getfield 114, 3) := dk_180 0 114 (dk_at dksX4_undoes_1 15 rfl rfl)
theorem dX4_undoes_42 : decode cX4_undoes 42 = .ok (.iload_n 3, 1) := dk_29 (dk_at dksX4_undoes_1 18 rfl rfl)
theorem dX4_undoes_43 : decode cX4_undoes 43 = .ok (.iaload, 1) := dk_46 (dk_at dksX4_undoes_1 19 rfl rfl)
theorem dX4_undoes_44 : decode cX4_undoes 44 = .ok (.iastore, 1) := dk_79 (dk_at dksX4_undoes_1 20 rfl rfl)
theorem dX4_undoes_45 : decode cX4_undoes 45 = .ok (.iinc 3 (-1), 3) := dk_132 3 255 (dk_at dksX4_undoes_1 21 rfl rfl)
theorem dX4_undoes_48 : decode cX4_undoes 48 = .ok (.goto (-44), 3) := dk_167 255 212 (dk_at dksX4_undoes_2 0 rfl rfl)
theorem dX4_undoes_51 : decode cX4_undoes 51 = .ok (.return_, 1) := dk_177 (dk_at dksX4_undoes_2 3 rfl rfl)
abbrev cX4_restValue : ByteArray := prog_12_method_111_code
def yX4_restValue : MethodName := ⟨RX4, "restValue", "(IC)I"⟩
def dkwX4_restValue_0 : List UInt8 := [42, 27, 28, 4, 182, 1, 88, 172]
abbrev dktX4_restValue_0 : List UInt8 := dkwX4_restValue_0 ++ []
theorem dksX4_restValue_0 : cX4_restValue.data.toList.drop 0 = dktX4_restValue_0 := by decide +kernel
theorem dX4_restValue_0 : decode cX4_restValue 0 = .ok (.aload_n 0, 1) := dk_42 (dk_at dksX4_restValue_0 0 rfl rfl)
theorem dX4_restValue_1 : decode cX4_restValue 1 = .ok (.iload_n 1, 1) := dk_27 (dk_at dksX4_restValue_0 1 rfl rfl)
theorem dX4_restValue_2 : decode cX4_restValue 2 = .ok (.iload_n 2, 1) := dk_28 (dk_at dksX4_restValue_0 2 rfl rfl)
theorem dX4_restValue_3 : decode cX4_restValue 3 = .ok (.iconst 1, 1) := dk_4 (dk_at dksX4_restValue_0 3 rfl rfl)
theorem dX4_restValue_4 : decode cX4_restValue 4 = .ok (.invokevirtual 344, 3) := dk_182 1 88 (dk_at dksX4_restValue_0 4 rfl rfl)
theorem dX4_restValue_7 : decode cX4_restValue 7 = .ok (.ireturn, 1) := dk_172 (dk_at dksX4_restValue_0 7 rfl rfl)
abbrev cX4_registerOf : ByteArray := prog_12_method_112_code
def yX4_registerOf : MethodName := ⟨RX4, "registerOf", "(II)I"⟩
def dkwX4_registerOf_2 : List UInt8 := [172, 42, 27, 3, 182, 0, 227, 42, 182, 1, 85, 42, 180, 0, 111, 28, 46, 172]
abbrev dktX4_registerOf_2 : List UInt8 := dkwX4_registerOf_2 ++ []
def dkwX4_registerOf_1 : List UInt8 := [27, 28, 182, 1, 36, 154, 0, 7, 6, 167, 0, 4, 3, 181, 0, 22, 42, 180, 0, 22, 158, 0, 5, 3]
abbrev dktX4_registerOf_1 : List UInt8 := dkwX4_registerOf_1 ++ dktX4_registerOf_2
def dkwX4_registerOf_0 : List UInt8 := [42, 27, 184, 0, 131, 154, 0, 7, 4, 167, 0, 28, 28, 184, 0, 160, 154, 0, 7, 5, 167, 0, 17, 42]
abbrev dktX4_registerOf_0 : List UInt8 := dkwX4_registerOf_0 ++ dktX4_registerOf_1
theorem dksX4_registerOf_0 : cX4_registerOf.data.toList.drop 0 = dktX4_registerOf_0 := by decide +kernel
theorem dksX4_registerOf_1 : cX4_registerOf.data.toList.drop 24 = dktX4_registerOf_1 := dk_seg dksX4_registerOf_0 24 rfl rfl
theorem dksX4_registerOf_2 : cX4_registerOf.data.toList.drop 48 = dktX4_registerOf_2 := dk_seg dksX4_registerOf_1 24 rfl rfl
theorem dX4_registerOf_0 : decode cX4_registerOf 0 = .ok (.aload_n 0, 1) := dk_42 (dk_at dksX4_registerOf_0 0 rfl rfl)
theorem dX4_registerOf_1 : decode cX4_registerOf 1 = .ok (.iload_n 1, 1) := dk_27 (dk_at dksX4_registerOf_0 1 rfl rfl)
theorem dX4_registerOf_2 : decode cX4_registerOf 2 = .ok (.invokestatic 131, 3) := dk_184 0 131 (dk_at dksX4_registerOf_0 2 rfl rfl)
theorem dX4_registerOf_5 : decode cX4_registerOf 5 = .ok (.ifCond .ne 7, 3) := dk_154 0 7 (dk_at dksX4_registerOf_0 5 rfl rfl)
theorem dX4_registerOf_8 : decode cX4_registerOf 8 = .ok (.iconst 1, 1) := dk_4 (dk_at dksX4_registerOf_0 8 rfl rfl)
theorem dX4_registerOf_9 : decode cX4_registerOf 9 = .ok (.goto 28, 3) := dk_167 0 28 (dk_at dksX4_registerOf_0 9 rfl rfl)
theorem dX4_registerOf_12 : decode cX4_registerOf 12 = .ok (.iload_n 2, 1) := dk_28 (dk_at dksX4_registerOf_0 12 rfl rfl)
theorem dX4_registerOf_13 : decode cX4_registerOf 13 = .ok (.invokestatic 160, 3) := dk_184 0 160 (dk_at dksX4_registerOf_0 13 rfl rfl)
theorem dX4_registerOf_16 : decode cX4_registerOf 16 = .ok (.ifCond .ne 7, 3) := dk_154 0 7 (dk_at dksX4_registerOf_0 16 rfl rfl)
theorem dX4_registerOf_19 : decode cX4_registerOf 19 = .ok (.iconst 2, 1) := dk_5 (dk_at dksX4_registerOf_0 19 rfl rfl)
theorem dX4_registerOf_20 : decode cX4_registerOf 20 = .ok (.goto 17, 3) := dk_167 0 17 (dk_at dksX4_registerOf_0 20 rfl rfl)
theorem dX4_registerOf_23 : decode cX4_registerOf 23 = .ok (.aload_n 0, 1) := dk_42 (dk_at dksX4_registerOf_0 23 rfl rfl)
theorem dX4_registerOf_24 : decode cX4_registerOf 24 = .ok (.iload_n 1, 1) := dk_27 (dk_at dksX4_registerOf_1 0 rfl rfl)
theorem dX4_registerOf_25 : decode cX4_registerOf 25 = .ok (.iload_n 2, 1) := dk_28 (dk_at dksX4_registerOf_1 1 rfl rfl)
theorem dX4_registerOf_26 : decode cX4_registerOf 26 = .ok (.invokevirtual 292, 3) := dk_182 1 36 (dk_at dksX4_registerOf_1 2 rfl rfl)
theorem dX4_registerOf_29 : decode cX4_registerOf 29 = .ok (.ifCond .ne 7, 3) := dk_154 0 7 (dk_at dksX4_registerOf_1 5 rfl rfl)
theorem dX4_registerOf_32 : decode cX4_registerOf 32 = .ok (.iconst 3, 1) := dk_6 (dk_at dksX4_registerOf_1 8 rfl rfl)
theorem dX4_registerOf_33 : decode cX4_registerOf 33 = .ok (.goto 4, 3) := dk_167 0 4 (dk_at dksX4_registerOf_1 9 rfl rfl)
theorem dX4_registerOf_36 : decode cX4_registerOf 36 = .ok (.iconst 0, 1) := dk_3 (dk_at dksX4_registerOf_1 12 rfl rfl)
theorem dX4_registerOf_37 : decode cX4_registerOf 37 = .ok (.putfield 22, 3) := dk_181 0 22 (dk_at dksX4_registerOf_1 13 rfl rfl)
theorem dX4_registerOf_40 : decode cX4_registerOf 40 = .ok (.aload_n 0, 1) := dk_42 (dk_at dksX4_registerOf_1 16 rfl rfl)
theorem dX4_registerOf_41 : decode cX4_registerOf 41 = .ok (.getfield 22, 3) := dk_180 0 22 (dk_at dksX4_registerOf_1 17 rfl rfl)
theorem dX4_registerOf_44 : decode cX4_registerOf 44 = .ok (.ifCond .le 5, 3) := dk_158 0 5 (dk_at dksX4_registerOf_1 20 rfl rfl)
theorem dX4_registerOf_47 : decode cX4_registerOf 47 = .ok (.iconst 0, 1) := dk_3 (dk_at dksX4_registerOf_1 23 rfl rfl)
theorem dX4_registerOf_48 : decode cX4_registerOf 48 = .ok (.ireturn, 1) := dk_172 (dk_at dksX4_registerOf_2 0 rfl rfl)
theorem dX4_registerOf_49 : decode cX4_registerOf 49 = .ok (.aload_n 0, 1) := dk_42 (dk_at dksX4_registerOf_2 1 rfl rfl)
theorem dX4_registerOf_50 : decode cX4_registerOf 50 = .ok (.iload_n 1, 1) := dk_27 (dk_at dksX4_registerOf_2 2 rfl rfl)
theorem dX4_registerOf_51 : decode cX4_registerOf 51 = .ok (.iconst 0, 1) := dk_3 (dk_at dksX4_registerOf_2 3 rfl rfl)
theorem dX4_registerOf_52 : decode cX4_registerOf 52 = .ok (.invokevirtual 227, 3) := dk_182 0 227 (dk_at dksX4_registerOf_2 4 rfl rfl)
theorem dX4_registerOf_55 : decode cX4_registerOf 55 = .ok (.aload_n 0, 1) := dk_42 (dk_at dksX4_registerOf_2 7 rfl rfl)
theorem dX4_registerOf_56 : decode cX4_registerOf 56 = .ok (.invokevirtual 341, 3) := dk_182 1 85 (dk_at dksX4_registerOf_2 8 rfl rfl)
theorem dX4_registerOf_59 : decode cX4_registerOf 59 = .ok (.aload_n 0, 1) := dk_42 (dk_at dksX4_registerOf_2 11 rfl rfl)
theorem dX4_registerOf_60 : decode cX4_registerOf 60 = .ok (.getfield 111, 3) := dk_180 0 111 (dk_at dksX4_registerOf_2 12 rfl rfl)
theorem dX4_registerOf_63 : decode cX4_registerOf 63 = .ok (.iload_n 2, 1) := dk_28 (dk_at dksX4_registerOf_2 15 rfl rfl)
theorem dX4_registerOf_64 : decode cX4_registerOf 64 = .ok (.iaload, 1) := dk_46 (dk_at dksX4_registerOf_2 16 rfl rfl)
theorem dX4_registerOf_65 : decode cX4_registerOf 65 = .ok (.ireturn, 1) := dk_172 (dk_at dksX4_registerOf_2 17 rfl rfl)
abbrev cX4_slotByLength : ByteArray := prog_12_method_113_code
def yX4_slotByLength : MethodName := ⟨RX4, "slotByLength", "(I)I"⟩
def dkwX4_slotByLength_3 : List UInt8 := [167, 255, 205, 29, 27, 160, 0, 5, 28, 172, 132, 2, 1, 167, 255, 182, 42, 4, 182, 0, 180, 172]
abbrev dktX4_slotByLength_3 : List UInt8 := dkwX4_slotByLength_3 ++ []
def dkwX4_slotByLength_2 : List UInt8 := [182, 0, 135, 160, 0, 13, 21, 4, 28, 162, 0, 7, 4, 167, 0, 4, 3, 96, 62, 132, 4, 1]
abbrev dktX4_slotByLength_2 : List UInt8 := dkwX4_slotByLength_2 ++ dktX4_slotByLength_3
def dkwX4_slotByLength_1 : List UInt8 := [42, 21, 4, 182, 0, 135, 42, 28, 182, 0, 135, 163, 0, 23, 42, 21, 4, 182, 0, 135, 42, 28]
abbrev dktX4_slotByLength_1 : List UInt8 := dkwX4_slotByLength_1 ++ dktX4_slotByLength_2
def dkwX4_slotByLength_0 : List UInt8 := [42, 3, 181, 0, 22, 3, 61, 28, 7, 162, 0, 75, 3, 62, 3, 54, 4, 21, 4, 7, 162, 0, 51, 29]
abbrev dktX4_slotByLength_0 : List UInt8 := dkwX4_slotByLength_0 ++ dktX4_slotByLength_1
theorem dksX4_slotByLength_0 : cX4_slotByLength.data.toList.drop 0 = dktX4_slotByLength_0 := by decide +kernel
theorem dksX4_slotByLength_1 : cX4_slotByLength.data.toList.drop 24 = dktX4_slotByLength_1 := dk_seg dksX4_slotByLength_0 24 rfl rfl
theorem dksX4_slotByLength_2 : cX4_slotByLength.data.toList.drop 46 = dktX4_slotByLength_2 := dk_seg dksX4_slotByLength_1 22 rfl rfl
theorem dksX4_slotByLength_3 : cX4_slotByLength.data.toList.drop 68 = dktX4_slotByLength_3 := dk_seg dksX4_slotByLength_2 22 rfl rfl
theorem dX4_slotByLength_0 : decode cX4_slotByLength 0 = .ok (.aload_n 0, 1) := dk_42 (dk_at dksX4_slotByLength_0 0 rfl rfl)
theorem dX4_slotByLength_1 : decode cX4_slotByLength 1 = .ok (.iconst 0, 1) := dk_3 (dk_at dksX4_slotByLength_0 1 rfl rfl)
theorem dX4_slotByLength_2 : decode cX4_slotByLength 2 = .ok (.putfield 22, 3) := dk_181 0 22 (dk_at dksX4_slotByLength_0 2 rfl rfl)
theorem dX4_slotByLength_5 : decode cX4_slotByLength 5 = .ok (.iconst 0, 1) := dk_3 (dk_at dksX4_slotByLength_0 5 rfl rfl)
theorem dX4_slotByLength_6 : decode cX4_slotByLength 6 = .ok (.istore_n 2, 1) := dk_61 (dk_at dksX4_slotByLength_0 6 rfl rfl)
theorem dX4_slotByLength_7 : decode cX4_slotByLength 7 = .ok (.iload_n 2, 1) := dk_28 (dk_at dksX4_slotByLength_0 7 rfl rfl)
theorem dX4_slotByLength_8 : decode cX4_slotByLength 8 = .ok (.iconst 4, 1) := dk_7 (dk_at dksX4_slotByLength_0 8 rfl rfl)
theorem dX4_slotByLength_9 : decode cX4_slotByLength 9 = .ok (.if_icmp .ge 75, 3) := dk_162 0 75 (dk_at dksX4_slotByLength_0 9 rfl rfl)
theorem dX4_slotByLength_12 : decode cX4_slotByLength 12 = .ok (.iconst 0, 1) := dk_3 (dk_at dksX4_slotByLength_0 12 rfl rfl)
theorem dX4_slotByLength_13 : decode cX4_slotByLength 13 = .ok (.istore_n 3, 1) := dk_62 (dk_at dksX4_slotByLength_0 13 rfl rfl)
theorem dX4_slotByLength_14 : decode cX4_slotByLength 14 = .ok (.iconst 0, 1) := dk_3 (dk_at dksX4_slotByLength_0 14 rfl rfl)
theorem dX4_slotByLength_15 : decode cX4_slotByLength 15 = .ok (.istore 4, 2) := dk_54 4 (dk_at dksX4_slotByLength_0 15 rfl rfl)
theorem dX4_slotByLength_17 : decode cX4_slotByLength 17 = .ok (.iload 4, 2) := dk_21 4 (dk_at dksX4_slotByLength_0 17 rfl rfl)
theorem dX4_slotByLength_19 : decode cX4_slotByLength 19 = .ok (.iconst 4, 1) := dk_7 (dk_at dksX4_slotByLength_0 19 rfl rfl)
theorem dX4_slotByLength_20 : decode cX4_slotByLength 20 = .ok (.if_icmp .ge 51, 3) := dk_162 0 51 (dk_at dksX4_slotByLength_0 20 rfl rfl)
theorem dX4_slotByLength_23 : decode cX4_slotByLength 23 = .ok (.iload_n 3, 1) := dk_29 (dk_at dksX4_slotByLength_0 23 rfl rfl)
theorem dX4_slotByLength_24 : decode cX4_slotByLength 24 = .ok (.aload_n 0, 1) := dk_42 (dk_at dksX4_slotByLength_1 0 rfl rfl)
theorem dX4_slotByLength_25 : decode cX4_slotByLength 25 = .ok (.iload 4, 2) := dk_21 4 (dk_at dksX4_slotByLength_1 1 rfl rfl)
theorem dX4_slotByLength_27 : decode cX4_slotByLength 27 = .ok (.invokevirtual 135, 3) := dk_182 0 135 (dk_at dksX4_slotByLength_1 3 rfl rfl)
theorem dX4_slotByLength_30 : decode cX4_slotByLength 30 = .ok (.aload_n 0, 1) := dk_42 (dk_at dksX4_slotByLength_1 6 rfl rfl)
theorem dX4_slotByLength_31 : decode cX4_slotByLength 31 = .ok (.iload_n 2, 1) := dk_28 (dk_at dksX4_slotByLength_1 7 rfl rfl)
theorem dX4_slotByLength_32 : decode cX4_slotByLength 32 = .ok (.invokevirtual 135, 3) := dk_182 0 135 (dk_at dksX4_slotByLength_1 8 rfl rfl)
theorem dX4_slotByLength_35 : decode cX4_slotByLength 35 = .ok (.if_icmp .gt 23, 3) := dk_163 0 23 (dk_at dksX4_slotByLength_1 11 rfl rfl)
theorem dX4_slotByLength_38 : decode cX4_slotByLength 38 = .ok (.aload_n 0, 1) := dk_42 (dk_at dksX4_slotByLength_1 14 rfl rfl)
theorem dX4_slotByLength_39 : decode cX4_slotByLength 39 = .ok (.iload 4, 2) := dk_21 4 (dk_at dksX4_slotByLength_1 15 rfl rfl)
theorem dX4_slotByLength_41 : decode cX4_slotByLength 41 = .ok (.invokevirtual 135, 3) := dk_182 0 135 (dk_at dksX4_slotByLength_1 17 rfl rfl)
theorem dX4_slotByLength_44 : decode cX4_slotByLength 44 = .ok (.aload_n 0, 1) := dk_42 (dk_at dksX4_slotByLength_1 20 rfl rfl)
theorem dX4_slotByLength_45 : decode cX4_slotByLength 45 = .ok (.iload_n 2, 1) := dk_28 (dk_at dksX4_slotByLength_1 21 rfl rfl)
theorem dX4_slotByLength_46 : decode cX4_slotByLength 46 = .ok (.invokevirtual 135, 3) := dk_182 0 135 (dk_at dksX4_slotByLength_2 0 rfl rfl)
theorem dX4_slotByLength_49 : decode cX4_slotByLength 49 = .ok (.if_icmp .ne 13, 3) := dk_160 0 13 (dk_at dksX4_slotByLength_2 3 rfl rfl)
theorem dX4_slotByLength_52 : decode cX4_slotByLength 52 = .ok (.iload 4, 2) := dk_21 4 (dk_at dksX4_slotByLength_2 6 rfl rfl)
theorem dX4_slotByLength_54 : decode cX4_slotByLength 54 = .ok (.iload_n 2, 1) := dk_28 (dk_at dksX4_slotByLength_2 8 rfl rfl)
theorem dX4_slotByLength_55 : decode cX4_slotByLength 55 = .ok (.if_icmp .ge 7, 3) := dk_162 0 7 (dk_at dksX4_slotByLength_2 9 rfl rfl)
theorem dX4_slotByLength_58 : decode cX4_slotByLength 58 = .ok (.iconst 1, 1) := dk_4 (dk_at dksX4_slotByLength_2 12 rfl rfl)
theorem dX4_slotByLength_59 : decode cX4_slotByLength 59 = .ok (.goto 4, 3) := dk_167 0 4 (dk_at dksX4_slotByLength_2 13 rfl rfl)
theorem dX4_slotByLength_62 : decode cX4_slotByLength 62 = .ok (.iconst 0, 1) := dk_3 (dk_at dksX4_slotByLength_2 16 rfl rfl)
theorem dX4_slotByLength_63 : decode cX4_slotByLength 63 = .ok (.iadd, 1) := dk_96 (dk_at dksX4_slotByLength_2 17 rfl rfl)
theorem dX4_slotByLength_64 : decode cX4_slotByLength 64 = .ok (.istore_n 3, 1) := dk_62 (dk_at dksX4_slotByLength_2 18 rfl rfl)
theorem dX4_slotByLength_65 : decode cX4_slotByLength 65 = .ok (.iinc 4 1, 3) := dk_132 4 1 (dk_at dksX4_slotByLength_2 19 rfl rfl)
theorem dX4_slotByLength_68 : decode cX4_slotByLength 68 = .ok (.goto (-51), 3) := dk_167 255 205 (dk_at dksX4_slotByLength_3 0 rfl rfl)
theorem dX4_slotByLength_71 : decode cX4_slotByLength 71 = .ok (.iload_n 3, 1) := dk_29 (dk_at dksX4_slotByLength_3 3 rfl rfl)
theorem dX4_slotByLength_72 : decode cX4_slotByLength 72 = .ok (.iload_n 1, 1) := dk_27 (dk_at dksX4_slotByLength_3 4 rfl rfl)
theorem dX4_slotByLength_73 : decode cX4_slotByLength 73 = .ok (.if_icmp .ne 5, 3) := dk_160 0 5 (dk_at dksX4_slotByLength_3 5 rfl rfl)
theorem dX4_slotByLength_76 : decode cX4_slotByLength 76 = .ok (.iload_n 2, 1) := dk_28 (dk_at dksX4_slotByLength_3 8 rfl rfl)
theorem dX4_slotByLength_77 : decode cX4_slotByLength 77 = .ok (.ireturn, 1) := dk_172 (dk_at dksX4_slotByLength_3 9 rfl rfl)
theorem dX4_slotByLength_78 : decode cX4_slotByLength 78 = .ok (.iinc 2 1, 3) := dk_132 2 1 (dk_at dksX4_slotByLength_3 10 rfl rfl)
theorem dX4_slotByLength_81 : decode cX4_slotByLength 81 = .ok (.goto (-74), 3) := dk_167 255 182 (dk_at dksX4_slotByLength_3 13 rfl rfl)
theorem dX4_slotByLength_84 : decode cX4_slotByLength 84 = .ok (.aload_n 0, 1) := dk_42 (dk_at dksX4_slotByLength_3 16 rfl rfl)
theorem dX4_slotByLength_85 : decode cX4_slotByLength 85 = .ok (.iconst 1, 1) := dk_4 (dk_at dksX4_slotByLength_3 17 rfl rfl)
theorem dX4_slotByLength_86 : decode cX4_slotByLength 86 = .ok (.invokevirtual 180, 3) := dk_182 0 180 (dk_at dksX4_slotByLength_3 18 rfl rfl)
theorem dX4_slotByLength_89 : decode cX4_slotByLength 89 = .ok (.ireturn, 1) := dk_172 (dk_at dksX4_slotByLength_3 21 rfl rfl)
abbrev cX4_meanLength : ByteArray := prog_12_method_114_code
def yX4_meanLength : MethodName := ⟨RX4, "meanLength", "(I)D"⟩
def dkwX4_meanLength_2 : List UInt8 := [42, 180, 0, 72, 184, 0, 240, 135, 111, 175]
abbrev dktX4_meanLength_2 : List UInt8 := dkwX4_meanLength_2 ++ []
def dkwX4_meanLength_1 : List UInt8 := [3, 181, 0, 22, 42, 180, 0, 22, 158, 0, 5, 14, 175, 42, 27, 3, 182, 0, 227, 42, 180, 0, 69, 135]
abbrev dktX4_meanLength_1 : List UInt8 := dkwX4_meanLength_1 ++ dktX4_meanLength_2
def dkwX4_meanLength_0 : List UInt8 := [42, 27, 184, 0, 131, 154, 0, 7, 4, 167, 0, 16, 42, 27, 182, 0, 135, 154, 0, 7, 5, 167, 0, 4]
abbrev dktX4_meanLength_0 : List UInt8 := dkwX4_meanLength_0 ++ dktX4_meanLength_1
theorem dksX4_meanLength_0 : cX4_meanLength.data.toList.drop 0 = dktX4_meanLength_0 := by decide +kernel
theorem dksX4_meanLength_1 : cX4_meanLength.data.toList.drop 24 = dktX4_meanLength_1 := dk_seg dksX4_meanLength_0 24 rfl rfl
theorem dksX4_meanLength_2 : cX4_meanLength.data.toList.drop 48 = dktX4_meanLength_2 := dk_seg dksX4_meanLength_1 24 rfl rfl
theorem dX4_meanLength_0 : decode cX4_meanLength 0 = .ok (.aload_n 0, 1) := dk_42 (dk_at dksX4_meanLength_0 0 rfl rfl)
theorem dX4_meanLength_1 : decode cX4_meanLength 1 = .ok (.iload_n 1, 1) := dk_27 (dk_at dksX4_meanLength_0 1 rfl rfl)
theorem dX4_meanLength_2 : decode cX4_meanLength 2 = .ok (.invokestatic 131, 3) := dk_184 0 131 (dk_at dksX4_meanLength_0 2 rfl rfl)
theorem dX4_meanLength_5 : decode cX4_meanLength 5 = .ok (.ifCond .ne 7, 3) := dk_154 0 7 (dk_at dksX4_meanLength_0 5 rfl rfl)
theorem dX4_meanLength_8 : decode cX4_meanLength 8 = .ok (.iconst 1, 1) := dk_4 (dk_at dksX4_meanLength_0 8 rfl rfl)
theorem dX4_meanLength_9 : decode cX4_meanLength 9 = .ok (.goto 16, 3) := dk_167 0 16 (dk_at dksX4_meanLength_0 9 rfl rfl)
theorem dX4_meanLength_12 : decode cX4_meanLength 12 = .ok (.aload_n 0, 1) := dk_42 (dk_at dksX4_meanLength_0 12 rfl rfl)
theorem dX4_meanLength_13 : decode cX4_meanLength 13 = .ok (.iload_n 1, 1) := dk_27 (dk_at dksX4_meanLength_0 13 rfl rfl)
theorem dX4_meanLength_14 : decode cX4_meanLength 14 = .ok (.invokevirtual 135, 3) := dk_182 0 135 (dk_at dksX4_meanLength_0 14 rfl rfl)
theorem dX4_meanLength_17 : decode cX4_meanLength 17 = .ok (.ifCond .ne 7, 3) := dk_154 0 7 (dk_at dksX4_meanLength_0 17 rfl rfl)
theorem dX4_meanLength_20 : decode cX4_meanLength 20 = .ok (.iconst 2, 1) := dk_5 (dk_at dksX4_meanLength_0 20 rfl rfl)
theorem dX4_meanLength_21 : decode cX4_meanLength 21 = .ok (.goto 4, 3) := dk_167 0 4 (dk_at dksX4_meanLength_0 21 rfl rfl)
theorem dX4_meanLength_24 : decode cX4_meanLength 24 = .ok (.iconst 0, 1) := dk_3 (dk_at dksX4_meanLength_1 0 rfl rfl)
theorem dX4_meanLength_25 : decode cX4_meanLength 25 = .ok (.putfield 22, 3) := dk_181 0 22 (dk_at dksX4_meanLength_1 1 rfl rfl)
theorem dX4_meanLength_28 : decode cX4_meanLength 28 = .ok (.aload_n 0, 1) := dk_42 (dk_at dksX4_meanLength_1 4 rfl rfl)
theorem dX4_meanLength_29 : decode cX4_meanLength 29 = .ok (.getfield 22, 3) := dk_180 0 22 (dk_at dksX4_meanLength_1 5 rfl rfl)
theorem dX4_meanLength_32 : decode cX4_meanLength 32 = .ok (.ifCond .le 5, 3) := dk_158 0 5 (dk_at dksX4_meanLength_1 8 rfl rfl)
theorem dX4_meanLength_35 : decode cX4_meanLength 35 = .ok (.dconst 0, 1) := dk_14 (dk_at dksX4_meanLength_1 11 rfl rfl)
theorem dX4_meanLength_36 : decode cX4_meanLength 36 = .ok (.dreturn, 1) := dk_175 (dk_at dksX4_meanLength_1 12 rfl rfl)
theorem dX4_meanLength_37 : decode cX4_meanLength 37 = .ok (.aload_n 0, 1) := dk_42 (dk_at dksX4_meanLength_1 13 rfl rfl)
theorem dX4_meanLength_38 : decode cX4_meanLength 38 = .ok (.iload_n 1, 1) := dk_27 (dk_at dksX4_meanLength_1 14 rfl rfl)
theorem dX4_meanLength_39 : decode cX4_meanLength 39 = .ok (.iconst 0, 1) := dk_3 (dk_at dksX4_meanLength_1 15 rfl rfl)
theorem dX4_meanLength_40 : decode cX4_meanLength 40 = .ok (.invokevirtual 227, 3) := dk_182 0 227 (dk_at dksX4_meanLength_1 16 rfl rfl)
theorem dX4_meanLength_43 : decode cX4_meanLength 43 = .ok (.aload_n 0, 1) := dk_42 (dk_at dksX4_meanLength_1 19 rfl rfl)
theorem dX4_meanLength_44 : decode cX4_meanLength 44 = .ok (.getfield 69, 3) := dk_180 0 69 (dk_at dksX4_meanLength_1 20 rfl rfl)
theorem dX4_meanLength_47 : decode cX4_meanLength 47 = .ok (.i2d, 1) := dk_135 (dk_at dksX4_meanLength_1 23 rfl rfl)
theorem dX4_meanLength_48 : decode cX4_meanLength 48 = .ok (.aload_n 0, 1) := dk_42 (dk_at dksX4_meanLength_2 0 rfl rfl)
theorem dX4_meanLength_49 : decode cX4_meanLength 49 = .ok (.getfield 72, 3) := dk_180 0 72 (dk_at dksX4_meanLength_2 1 rfl rfl)
theorem dX4_meanLength_52 : decode cX4_meanLength 52 = .ok (.invokestatic 240, 3) := dk_184 0 240 (dk_at dksX4_meanLength_2 4 rfl rfl)
theorem dX4_meanLength_55 : decode cX4_meanLength 55 = .ok (.i2d, 1) := dk_135 (dk_at dksX4_meanLength_2 7 rfl rfl)
theorem dX4_meanLength_56 : decode cX4_meanLength 56 = .ok (.ddiv, 1) := dk_111 (dk_at dksX4_meanLength_2 8 rfl rfl)
theorem dX4_meanLength_57 : decode cX4_meanLength 57 = .ok (.dreturn, 1) := dk_175 (dk_at dksX4_meanLength_2 9 rfl rfl)
abbrev cX4_readShare : ByteArray := prog_12_method_115_code
def yX4_readShare : MethodName := ⟨RX4, "readShare", "(I)F"⟩
def dkwX4_readShare_4 : List UInt8 := [167, 0, 4, 3, 181, 0, 22, 42, 180, 0, 22, 158, 0, 7, 11, 167, 0, 8, 28, 134, 29, 134, 110, 174]
abbrev dktX4_readShare_4 : List UInt8 := dkwX4_readShare_4 ++ []
def dkwX4_readShare_3 : List UInt8 := [153, 0, 7, 4, 167, 0, 4, 3, 96, 62, 132, 4, 1, 167, 255, 209, 42, 29, 154, 0, 7, 5]
abbrev dktX4_readShare_3 : List UInt8 := dkwX4_readShare_3 ++ dktX4_readShare_4
def dkwX4_readShare_2 : List UInt8 := [42, 180, 0, 51, 21, 4, 46, 154, 0, 7, 4, 167, 0, 4, 3, 96, 61, 29, 42, 21, 4, 182, 0, 224]
abbrev dktX4_readShare_2 : List UInt8 := dkwX4_readShare_2 ++ dktX4_readShare_3
def dkwX4_readShare_1 : List UInt8 := [174, 42, 27, 3, 182, 0, 227, 3, 61, 3, 62, 3, 54, 4, 21, 4, 42, 180, 0, 69, 162, 0, 44, 28]
abbrev dktX4_readShare_1 : List UInt8 := dkwX4_readShare_1 ++ dktX4_readShare_2
def dkwX4_readShare_0 : List UInt8 := [42, 27, 184, 0, 131, 154, 0, 7, 4, 167, 0, 4, 3, 181, 0, 22, 42, 180, 0, 22, 158, 0, 5, 11]
abbrev dktX4_readShare_0 : List UInt8 := dkwX4_readShare_0 ++ dktX4_readShare_1
theorem dksX4_readShare_0 : cX4_readShare.data.toList.drop 0 = dktX4_readShare_0 := by decide +kernel
theorem dksX4_readShare_1 : cX4_readShare.data.toList.drop 24 = dktX4_readShare_1 := dk_seg dksX4_readShare_0 24 rfl rfl
theorem dksX4_readShare_2 : cX4_readShare.data.toList.drop 48 = dktX4_readShare_2 := dk_seg dksX4_readShare_1 24 rfl rfl
theorem dksX4_readShare_3 : cX4_readShare.data.toList.drop 72 = dktX4_readShare_3 := dk_seg dksX4_readShare_2 24 rfl rfl
theorem dksX4_readShare_4 : cX4_readShare.data.toList.drop 94 = dktX4_readShare_4 := dk_seg dksX4_readShare_3 22 rfl rfl
theorem dX4_readShare_0 : decode cX4_readShare 0 = .ok (.aload_n 0, 1) := dk_42 (dk_at dksX4_readShare_0 0 rfl rfl)
theorem dX4_readShare_1 : decode cX4_readShare 1 = .ok (.iload_n 1, 1) := dk_27 (dk_at dksX4_readShare_0 1 rfl rfl)
theorem dX4_readShare_2 : decode cX4_readShare 2 = .ok (.invokestatic 131, 3) := dk_184 0 131 (dk_at dksX4_readShare_0 2 rfl rfl)
theorem dX4_readShare_5 : decode cX4_readShare 5 = .ok (.ifCond .ne 7, 3) := dk_154 0 7 (dk_at dksX4_readShare_0 5 rfl rfl)
theorem dX4_readShare_8 : decode cX4_readShare 8 = .ok (.iconst 1, 1) := dk_4 (dk_at dksX4_readShare_0 8 rfl rfl)
theorem dX4_readShare_9 : decode cX4_readShare 9 = .ok (.goto 4, 3) := dk_167 0 4 (dk_at dksX4_readShare_0 9 rfl rfl)
theorem dX4_readShare_12 : decode cX4_readShare 12 = .ok (.iconst 0, 1) := dk_3 (dk_at dksX4_readShare_0 12 rfl rfl)
theorem dX4_readShare_13 : decode cX4_readShare 13 = .ok (.putfield 22, 3) := dk_181 0 22 (dk_at dksX4_readShare_0 13 rfl rfl)
theorem dX4_readShare_16 : decode cX4_readShare 16 = .ok (.aload_n 0, 1) := dk_42 (dk_at dksX4_readShare_0 16 rfl rfl)
theorem dX4_readShare_17 : decode cX4_readShare 17 = .ok (.getfield 22, 3) := dk_180 0 22 (dk_at dksX4_readShare_0 17 rfl rfl)
theorem dX4_readShare_20 : decode cX4_readShare 20 = .ok (.ifCond .le 5, 3) := dk_158 0 5 (dk_at dksX4_readShare_0 20 rfl rfl)
theorem dX4_readShare_23 : decode cX4_readShare 23 = .ok (.fconst 0, 1) := dk_11 (dk_at dksX4_readShare_0 23 rfl rfl)
theorem dX4_readShare_24 : decode cX4_readShare 24 = .ok (.freturn, 1) := dk_174 (dk_at dksX4_readShare_1 0 rfl rfl)
theorem dX4_readShare_25 : decode cX4_readShare 25 = .ok (.aload_n 0, 1) := dk_42 (dk_at dksX4_readShare_1 1 rfl rfl)
theorem dX4_readShare_26 : decode cX4_readShare 26 = .ok (.iload_n 1, 1) := dk_27 (dk_at dksX4_readShare_1 2 rfl rfl)
theorem dX4_readShare_27 : decode cX4_readShare 27 = .ok (.iconst 0, 1) := dk_3 (dk_at dksX4_readShare_1 3 rfl rfl)
theorem dX4_readShare_28 : decode cX4_readShare 28 = .ok (.invokevirtual 227, 3) := dk_182 0 227 (dk_at dksX4_readShare_1 4 rfl rfl)
theorem dX4_readShare_31 : decode cX4_readShare 31 = .ok (.iconst 0, 1) := dk_3 (dk_at dksX4_readShare_1 7 rfl rfl)
theorem dX4_readShare_32 : decode cX4_readShare 32 = .ok (.istore_n 2, 1) := dk_61 (dk_at dksX4_readShare_1 8 rfl rfl)
theorem dX4_readShare_33 : decode cX4_readShare 33 = .ok (.iconst 0, 1) := dk_3 (dk_at dksX4_readShare_1 9 rfl rfl)
theorem dX4_readShare_34 : decode cX4_readShare 34 = .ok (.istore_n 3, 1) := dk_62 (dk_at dksX4_readShare_1 10 rfl rfl)
theorem dX4_readShare_35 : decode cX4_readShare 35 = .ok (.iconst 0, 1) := dk_3 (dk_at dksX4_readShare_1 11 rfl rfl)
theorem dX4_readShare_36 : decode cX4_readShare 36 = .ok (.istore 4, 2) := dk_54 4 (dk_at dksX4_readShare_1 12 rfl rfl)
theorem dX4_readShare_38 : decode cX4_readShare 38 = .ok (.iload 4, 2) := dk_21 4 (dk_at dksX4_readShare_1 14 rfl rfl)
theorem dX4_readShare_40 : decode cX4_readShare 40 = .ok (.aload_n 0, 1) := dk_42 (dk_at dksX4_readShare_1 16 rfl rfl)
theorem dX4_readShare_41 : decode cX4_readShare 41 = .ok (.getfield 69, 3) := dk_180 0 69 (dk_at dksX4_readShare_1 17 rfl rfl)
theorem dX4_readShare_44 : decode cX4_readShare 44 = .ok (.if_icmp .ge 44, 3) := dk_162 0 44 (dk_at dksX4_readShare_1 20 rfl rfl)
theorem dX4_readShare_47 : decode cX4_readShare 47 = .ok (.iload_n 2, 1) := dk_28 (dk_at dksX4_readShare_1 23 rfl rfl)
theorem dX4_readShare_48 : decode cX4_readShare 48 = .ok (.aload_n 0, 1) := dk_42 (dk_at dksX4_readShare_2 0 rfl rfl)
theorem dX4_readShare_49 : decode cX4_readShare 49 = .ok (.getfield 51, 3) := dk_180 0 51 (dk_at dksX4_readShare_2 1 rfl rfl)
theorem dX4_readShare_52 : decode cX4_readShare 52 = .ok (.iload 4, 2) := dk_21 4 (dk_at dksX4_readShare_2 4 rfl rfl)
theorem dX4_readShare_54 : decode cX4_readShare 54 = .ok (.iaload, 1) := dk_46 (dk_at dksX4_readShare_2 6 rfl rfl)
theorem dX4_readShare_55 : decode cX4_readShare 55 = .ok (.ifCond .ne 7, 3) := dk_154 0 7 (dk_at dksX4_readShare_2 7 rfl rfl)
theorem dX4_readShare_58 : decode cX4_readShare 58 = .ok (.iconst 1, 1) := dk_4 (dk_at dksX4_readShare_2 10 rfl rfl)
theorem dX4_readShare_59 : decode cX4_readShare 59 = .ok (.goto 4, 3) := dk_167 0 4 (dk_at dksX4_readShare_2 11 rfl rfl)
theorem dX4_readShare_62 : decode cX4_readShare 62 = .ok (.iconst 0, 1) := dk_3 (dk_at dksX4_readShare_2 14 rfl rfl)
theorem dX4_readShare_63 : decode cX4_readShare 63 = .ok (.iadd, 1) := dk_96 (dk_at dksX4_readShare_2 15 rfl rfl)
theorem dX4_readShare_64 : decode cX4_readShare 64 = .ok (.istore_n 2, 1) := dk_61 (dk_at dksX4_readShare_2 16 rfl rfl)
theorem dX4_readShare_65 : decode cX4_readShare 65 = .ok (.iload_n 3, 1) := dk_29 (dk_at dksX4_readShare_2 17 rfl rfl)
theorem dX4_readShare_66 : decode cX4_readShare 66 = .ok (.aload_n 0, 1) := dk_42 (dk_at dksX4_readShare_2 18 rfl rfl)
theorem dX4_readShare_67 : decode cX4_readShare 67 = .ok (.iload 4, 2) := dk_21 4 (dk_at dksX4_readShare_2 19 rfl rfl)
theorem dX4_readShare_69 : decode cX4_readShare 69 = .ok (.invokevirtual 224, 3) := dk_182 0 224 (dk_at dksX4_readShare_2 21 rfl rfl)
theorem dX4_readShare_72 : decode cX4_readShare 72 = .ok (.ifCond .eq 7, 3) := dk_153 0 7 (dk_at dksX4_readShare_3 0 rfl rfl)
theorem dX4_readShare_75 : decode cX4_readShare 75 = .ok (.iconst 1, 1) := dk_4 (dk_at dksX4_readShare_3 3 rfl rfl)
theorem dX4_readShare_76 : decode cX4_readShare 76 = .ok (.goto 4, 3) := dk_167 0 4 (dk_at dksX4_readShare_3 4 rfl rfl)
theorem dX4_readShare_79 : decode cX4_readShare 79 = .ok (.iconst 0, 1) := dk_3 (dk_at dksX4_readShare_3 7 rfl rfl)
theorem dX4_readShare_80 : decode cX4_readShare 80 = .ok (.iadd, 1) := dk_96 (dk_at dksX4_readShare_3 8 rfl rfl)
theorem dX4_readShare_81 : decode cX4_readShare 81 = .ok (.istore_n 3, 1) := dk_62 (dk_at dksX4_readShare_3 9 rfl rfl)
theorem dX4_readShare_82 : decode cX4_readShare 82 = .ok (.iinc 4 1, 3) := dk_132 4 1 (dk_at dksX4_readShare_3 10 rfl rfl)
theorem dX4_readShare_85 : decode cX4_readShare 85 = .ok (.goto (-47), 3) := dk_167 255 209 (dk_at dksX4_readShare_3 13 rfl rfl)
theorem dX4_readShare_88 : decode cX4_readShare 88 = .ok (.aload_n 0, 1) := dk_42 (dk_at dksX4_readShare_3 16 rfl rfl)
theorem dX4_readShare_89 : decode cX4_readShare 89 = .ok (.iload_n 3, 1) := dk_29 (dk_at dksX4_readShare_3 17 rfl rfl)
theorem dX4_readShare_90 : decode cX4_readShare 90 = .ok (.ifCond .ne 7, 3) := dk_154 0 7 (dk_at dksX4_readShare_3 18 rfl rfl)
theorem dX4_readShare_93 : decode cX4_readShare 93 = .ok (.iconst 2, 1) := dk_5 (dk_at dksX4_readShare_3 21 rfl rfl)
theorem dX4_readShare_94 : decode cX4_readShare 94 = .ok (.goto 4, 3) := dk_167 0 4 (dk_at dksX4_readShare_4 0 rfl rfl)
theorem dX4_readShare_97 : decode cX4_readShare 97 = .ok (.iconst 0, 1) := dk_3 (dk_at dksX4_readShare_4 3 rfl rfl)
theorem dX4_readShare_98 : decode cX4_readShare 98 = .ok (.putfield 22, 3) := dk_181 0 22 (dk_at dksX4_readShare_4 4 rfl rfl)
theorem dX4_readShare_101 : decode cX4_readShare 101 = .ok (.aload_n 0, 1) := dk_42 (dk_at dksX4_readShare_4 7 rfl rfl)
theorem dX4_readShare_102 : decode cX4_readShare 102 = .ok (.getfield 22, 3) := dk_180 0 22 (dk_at dksX4_readShare_4 8 rfl rfl)
theorem dX4_readShare_105 : decode cX4_readShare 105 = .ok (.ifCond .le 7, 3) := dk_158 0 7 (dk_at dksX4_readShare_4 11 rfl rfl)
theorem dX4_readShare_108 : decode cX4_readShare 108 = .ok (.fconst 0, 1) := dk_11 (dk_at dksX4_readShare_4 14 rfl rfl)
theorem dX4_readShare_109 : decode cX4_readShare 109 = .ok (.goto 8, 3) := dk_167 0 8 (dk_at dksX4_readShare_4 15 rfl rfl)
theorem dX4_readShare_112 : decode cX4_readShare 112 = .ok (.iload_n 2, 1) := dk_28 (dk_at dksX4_readShare_4 18 rfl rfl)
theorem dX4_readShare_113 : decode cX4_readShare 113 = .ok (.i2f, 1) := dk_134 (dk_at dksX4_readShare_4 19 rfl rfl)
theorem dX4_readShare_114 : decode cX4_readShare 114 = .ok (.iload_n 3, 1) := dk_29 (dk_at dksX4_readShare_4 20 rfl rfl)
theorem dX4_readShare_115 : decode cX4_readShare 115 = .ok (.i2f, 1) := dk_134 (dk_at dksX4_readShare_4 21 rfl rfl)
theorem dX4_readShare_116 : decode cX4_readShare 116 = .ok (.fdiv, 1) := dk_110 (dk_at dksX4_readShare_4 22 rfl rfl)
theorem dX4_readShare_117 : decode cX4_readShare 117 = .ok (.freturn, 1) := dk_174 (dk_at dksX4_readShare_4 23 rfl rfl)
abbrev cX4_isConsistent : ByteArray := prog_12_method_116_code
def yX4_isConsistent : MethodName := ⟨RX4, "isConsistent", "()Z"⟩
def dkwX4_isConsistent_0 : List UInt8 := [42, 4, 182, 1, 92, 4, 160, 0, 7, 4, 167, 0, 4, 3, 172]
abbrev dktX4_isConsistent_0 : List UInt8 := dkwX4_isConsistent_0 ++ []
theorem dksX4_isConsistent_0 : cX4_isConsistent.data.toList.drop 0 = dktX4_isConsistent_0 := by decide +kernel
theorem dX4_isConsistent_0 : decode cX4_isConsistent 0 = .ok (.aload_n 0, 1) := dk_42 (dk_at dksX4_isConsistent_0 0 rfl rfl)
theorem dX4_isConsistent_1 : decode cX4_isConsistent 1 = .ok (.iconst 1, 1) := dk_4 (dk_at dksX4_isConsistent_0 1 rfl rfl)
theorem dX4_isConsistent_2 : decode cX4_isConsistent 2 = .ok (.invokevirtual 348, 3) := dk_182 1 92 (dk_at dksX4_isConsistent_0 2 rfl rfl)
theorem dX4_isConsistent_5 : decode cX4_isConsistent 5 = .ok (.iconst 1, 1) := dk_4 (dk_at dksX4_isConsistent_0 5 rfl rfl)
theorem dX4_isConsistent_6 : decode cX4_isConsistent 6 = .ok (.if_icmp .ne 7, 3) := dk_160 0 7 (dk_at dksX4_isConsistent_0 6 rfl rfl)
theorem dX4_isConsistent_9 : decode cX4_isConsistent 9 = .ok (.iconst 1, 1) := dk_4 (dk_at dksX4_isConsistent_0 9 rfl rfl)
theorem dX4_isConsistent_10 : decode cX4_isConsistent 10 = .ok (.goto 4, 3) := dk_167 0 4 (dk_at dksX4_isConsistent_0 10 rfl rfl)
theorem dX4_isConsistent_13 : decode cX4_isConsistent 13 = .ok (.iconst 0, 1) := dk_3 (dk_at dksX4_isConsistent_0 13 rfl rfl)
theorem dX4_isConsistent_14 : decode cX4_isConsistent 14 = .ok (.ireturn, 1) := dk_172 (dk_at dksX4_isConsistent_0 14 rfl rfl)
abbrev cX4_plain : ByteArray := prog_12_method_8_code
def yX4_plain : MethodName := ⟨RX4, "plain", "(I)I"⟩
def dkwX4_plain_0 : List UInt8 := [42, 3, 181, 0, 22, 27, 172]
abbrev dktX4_plain_0 : List UInt8 := dkwX4_plain_0 ++ []
theorem dksX4_plain_0 : cX4_plain.data.toList.drop 0 = dktX4_plain_0 := by decide +kernel
theorem dX4_plain_0 : decode cX4_plain 0 = .ok (.aload_n 0, 1) := dk_42 (dk_at dksX4_plain_0 0 rfl rfl)
theorem dX4_plain_1 : decode cX4_plain 1 = .ok (.iconst 0, 1) := dk_3 (dk_at dksX4_plain_0 1 rfl rfl)
theorem dX4_plain_2 : decode cX4_plain 2 = .ok (.putfield 22, 3) := dk_181 0 22 (dk_at dksX4_plain_0 2 rfl rfl)
theorem dX4_plain_5 : decode cX4_plain 5 = .ok (.iload_n 1, 1) := dk_27 (dk_at dksX4_plain_0 5 rfl rfl)
theorem dX4_plain_6 : decode cX4_plain 6 = .ok (.ireturn, 1) := dk_172 (dk_at dksX4_plain_0 6 rfl rfl)
abbrev cX4_format : ByteArray := prog_12_method_118_code
def yX4_format : MethodName := ⟨RX4, "format", "(I)I"⟩
def dkwX4_format_4 : List UInt8 := [42, 180, 0, 120, 172]
abbrev dktX4_format_4 : List UInt8 := dkwX4_format_4 ++ []
def dkwX4_format_3 : List UInt8 := [184, 0, 146, 5, 162, 0, 14, 42, 16, 97, 29, 16, 10, 112, 96, 182, 1, 95, 132, 2, 1, 167, 255, 186]
abbrev dktX4_format_3 : List UInt8 := dkwX4_format_3 ++ dktX4_format_4
def dkwX4_format_2 : List UInt8 := [29, 184, 0, 146, 184, 1, 33, 182, 1, 95, 42, 16, 48, 29, 184, 0, 143, 96, 182, 1, 95, 29]
abbrev dktX4_format_2 : List UInt8 := dkwX4_format_2 ++ dktX4_format_3
def dkwX4_format_1 : List UInt8 := [182, 0, 135, 162, 0, 67, 42, 27, 28, 182, 0, 139, 62, 28, 158, 0, 9, 42, 16, 32, 182, 1, 95, 42]
abbrev dktX4_format_1 : List UInt8 := dkwX4_format_1 ++ dktX4_format_2
def dkwX4_format_0 : List UInt8 := [42, 27, 184, 0, 131, 182, 1, 29, 158, 0, 5, 3, 172, 42, 3, 181, 0, 120, 3, 61, 28, 42, 27]
abbrev dktX4_format_0 : List UInt8 := dkwX4_format_0 ++ dktX4_format_1
theorem dksX4_format_0 : cX4_format.data.toList.drop 0 = dktX4_format_0 := by decide +kernel
theorem dksX4_format_1 : cX4_format.data.toList.drop 23 = dktX4_format_1 := dk_seg dksX4_format_0 23 rfl rfl
theorem dksX4_format_2 : cX4_format.data.toList.drop 47 = dktX4_format_2 := dk_seg dksX4_format_1 24 rfl rfl
theorem dksX4_format_3 : cX4_format.data.toList.drop 69 = dktX4_format_3 := dk_seg dksX4_format_2 22 rfl rfl
theorem dksX4_format_4 : cX4_format.data.toList.drop 93 = dktX4_format_4 := dk_seg dksX4_format_3 24 rfl rfl
theorem dX4_format_0 : decode cX4_format 0 = .ok (.aload_n 0, 1) := dk_42 (dk_at dksX4_format_0 0 rfl rfl)
theorem dX4_format_1 : decode cX4_format 1 = .ok (.iload_n 1, 1) := dk_27 (dk_at dksX4_format_0 1 rfl rfl)
theorem dX4_format_2 : decode cX4_format 2 = .ok (.invokestatic 131, 3) := dk_184 0 131 (dk_at dksX4_format_0 2 rfl rfl)
theorem dX4_format_5 : decode cX4_format 5 = .ok (.invokevirtual 285, 3) := dk_182 1 29 (dk_at dksX4_format_0 5 rfl rfl)
theorem dX4_format_8 : decode cX4_format 8 = .ok (.ifCond .le 5, 3) := dk_158 0 5 (dk_at dksX4_format_0 8 rfl rfl)
theorem dX4_format_11 : decode cX4_format 11 = .ok (.iconst 0, 1) := dk_3 (dk_at dksX4_format_0 11 rfl rfl)
theorem dX4_format_12 : decode cX4_format 12 = .ok (.ireturn, 1) := dk_172 (dk_at dksX4_format_0 12 rfl rfl)
theorem dX4_format_13 : decode cX4_format 13 = .ok (.aload_n 0, 1) := dk_42 (dk_at dksX4_format_0 13 rfl rfl)
theorem dX4_format_14 : decode cX4_format 14 = .ok (.iconst 0, 1) := dk_3 (dk_at dksX4_format_0 14 rfl rfl)
theorem dX4_format_15 : decode cX4_format 15 = .ok (.putfield 120, 3) := dk_181 0 120 (dk_at dksX4_format_0 15 rfl rfl)
theorem dX4_format_18 : decode cX4_format 18 = .ok (.iconst 0, 1) := dk_3 (dk_at dksX4_format_0 18 rfl rfl)
theorem dX4_format_19 : decode cX4_format 19 = .ok (.istore_n 2, 1) := dk_61 (dk_at dksX4_format_0 19 rfl rfl)
theorem dX4_format_20 : decode cX4_format 20 = .ok (.iload_n 2, 1) := dk_28 (dk_at dksX4_format_0 20 rfl rfl)
theorem dX4_format_21 : decode cX4_format 21 = .ok (.aload_n 0, 1) := dk_42 (dk_at dksX4_format_0 21 rfl rfl)
theorem dX4_format_22 : decode cX4_format 22 = .ok (.iload_n 1, 1) := dk_27 (dk_at dksX4_format_0 22 rfl rfl)
theorem dX4_format_23 : decode cX4_format 23 = .ok (.invokevirtual 135, 3) := dk_182 0 135 (dk_at dksX4_format_1 0 rfl rfl)
theorem dX4_format_26 : decode cX4_format 26 = .ok (.if_icmp .ge 67, 3) := dk_162 0 67 (dk_at dksX4_format_1 3 rfl rfl)
theorem dX4_format_29 : decode cX4_format 29 = .ok (.aload_n 0, 1) := dk_42 (dk_at dksX4_format_1 6 rfl rfl)
theorem dX4_format_30 : decode cX4_format 30 = .ok (.iload_n 1, 1) := dk_27 (dk_at dksX4_format_1 7 rfl rfl)
theorem dX4_format_31 : decode cX4_format 31 = .ok (.iload_n 2, 1) := dk_28 (dk_at dksX4_format_1 8 rfl rfl)
theorem dX4_format_32 : decode cX4_format 32 = .ok (.invokevirtual 139, 3) := dk_182 0 139 (dk_at dksX4_format_1 9 rfl rfl)
theorem dX4_format_35 : decode cX4_format 35 = .ok (.istore_n 3, 1) := dk_62 (dk_at dksX4_format_1 12 rfl rfl)
theorem dX4_format_36 : decode cX4_format 36 = .ok (.iload_n 2, 1) := dk_28 (dk_at dksX4_format_1 13 rfl rfl)
theorem dX4_format_37 : decode cX4_format 37 = .ok (.ifCond .le 9, 3) := dk_158 0 9 (dk_at dksX4_format_1 14 rfl rfl)
theorem dX4_format_40 : decode cX4_format 40 = .ok (.aload_n 0, 1) := dk_42 (dk_at dksX4_format_1 17 rfl rfl)
theorem dX4_format_41 : decode cX4_format 41 = .ok (.bipush 32, 2) := dk_16 32 (dk_at dksX4_format_1 18 rfl rfl)
theorem dX4_format_43 : decode cX4_format 43 = .ok (.invokevirtual 351, 3) := dk_182 1 95 (dk_at dksX4_format_1 20 rfl rfl)
theorem dX4_format_46 : decode cX4_format 46 = .ok (.aload_n 0, 1) := dk_42 (dk_at dksX4_format_1 23 rfl rfl)
theorem dX4_format_47 : decode cX4_format 47 = .ok (.iload_n 3, 1) := dk_29 (dk_at dksX4_format_2 0 rfl rfl)
theorem dX4_format_48 : decode cX4_format 48 = .ok (.invokestatic 146, 3) := dk_184 0 146 (dk_at dksX4_format_2 1 rfl rfl)
theorem dX4_format_51 : decode cX4_format 51 = .ok (.invokestatic 289, 3) := dk_184 1 33 (dk_at dksX4_format_2 4 rfl rfl)
theorem dX4_format_54 : decode cX4_format 54 = .ok (.invokevirtual 351, 3) := dk_182 1 95 (dk_at dksX4_format_2 7 rfl rfl)
theorem dX4_format_57 : decode cX4_format 57 = .ok (.aload_n 0, 1) := dk_42 (dk_at dksX4_format_2 10 rfl rfl)
theorem dX4_format_58 : decode cX4_format 58 = .ok (.bipush 48, 2) := dk_16 48 (dk_at dksX4_format_2 11 rfl rfl)
theorem dX4_format_60 : decode cX4_format 60 = .ok (.iload_n 3, 1) := dk_29 (dk_at dksX4_format_2 13 rfl rfl)
theorem dX4_format_61 : decode cX4_format 61 = .ok (.invokestatic 143, 3) := dk_184 0 143 (dk_at dksX4_format_2 14 rfl rfl)
theorem dX4_format_64 : decode cX4_format 64 = .ok (.iadd, 1) := dk_96 (dk_at dksX4_format_2 17 rfl rfl)
theorem dX4_format_65 : decode cX4_format 65 = .ok (.invokevirtual 351, 3) := dk_182 1 95 (dk_at dksX4_format_2 18 rfl rfl)
theorem dX4_format_68 : decode cX4_format 68 = .ok (.iload_n 3, 1) := dk_29 (dk_at dksX4_format_2 21 rfl rfl)
theorem dX4_format_69 : decode cX4_format 69 = .ok (.invokestatic 146, 3) := dk_184 0 146 (dk_at dksX4_format_3 0 rfl rfl)
theorem dX4_format_72 : decode cX4_format 72 = .ok (.iconst 2, 1) := dk_5 (dk_at dksX4_format_3 3 rfl rfl)
theorem dX4_format_73 : decode cX4_format 73 = .ok (.if_icmp .ge 14, 3) := dk_162 0 14 (dk_at dksX4_format_3 4 rfl rfl)
theorem dX4_format_76 : decode cX4_format 76 = .ok (.aload_n 0, 1) := dk_42 (dk_at dksX4_format_3 7 rfl rfl)
theorem dX4_format_77 : decode cX4_format 77 = .ok (.bipush 97, 2) := dk_16 97 (dk_at dksX4_format_3 8 rfl rfl)
theorem dX4_format_79 : decode cX4_format 79 = .ok (.iload_n 3, 1) := dk_29 (dk_at dksX4_format_3 10 rfl rfl)
theorem dX4_format_80 : decode cX4_format 80 = .ok (.bipush 10, 2) := dk_16 10 (dk_at dksX4_format_3 11 rfl rfl)
theorem dX4_format_82 : decode cX4_format 82 = .ok (.irem, 1) := dk_112 (dk_at dksX4_format_3 13 rfl rfl)
theorem dX4_format_83 : decode cX4_format 83 = .ok (.iadd, 1) := dk_96 (dk_at dksX4_format_3 14 rfl rfl)
theorem dX4_format_84 : decode cX4_format 84 = .ok (.invokevirtual 351, 3) := dk_182 1 95 (dk_at dksX4_format_3 15 rfl rfl)
theorem dX4_format_87 : decode cX4_format 87 = .ok (.iinc 2 1, 3) := dk_132 2 1 (dk_at dksX4_format_3 18 rfl rfl)
theorem dX4_format_90 : decode cX4_format 90 = .ok (.goto (-70), 3) := dk_167 255 186 (dk_at dksX4_format_3 21 rfl rfl)
theorem dX4_format_93 : decode cX4_format 93 = .ok (.aload_n 0, 1) := dk_42 (dk_at dksX4_format_4 0 rfl rfl)
theorem dX4_format_94 : decode cX4_format 94 = .ok (.getfield 120, 3) := dk_180 0 120 (dk_at dksX4_format_4 1 rfl rfl)
theorem dX4_format_97 : decode cX4_format 97 = .ok (.ireturn, 1) := dk_172 (dk_at dksX4_format_4 4 rfl rfl)
abbrev cX4_put : ByteArray := prog_12_method_117_code
def yX4_put : MethodName := ⟨RX4, "put", "(I)V"⟩
def dkwX4_put_0 : List UInt8 := [42, 180, 0, 117, 42, 180, 0, 120, 27, 79, 42, 89, 180, 0, 120, 4, 96, 181, 0, 120, 177]
abbrev dktX4_put_0 : List UInt8 := dkwX4_put_0 ++ []
theorem dksX4_put_0 : cX4_put.data.toList.drop 0 = dktX4_put_0 := by decide +kernel
theorem dX4_put_0 : decode cX4_put 0 = .ok (.aload_n 0, 1) := dk_42 (dk_at dksX4_put_0 0 rfl rfl)
theorem dX4_put_1 : decode cX4_put 1 = .ok (.getfield 117, 3) := dk_180 0 117 (dk_at dksX4_put_0 1 rfl rfl)
theorem dX4_put_4 : decode cX4_put 4 = .ok (.aload_n 0, 1) := dk_42 (dk_at dksX4_put_0 4 rfl rfl)
theorem dX4_put_5 : decode cX4_put 5 = .ok (.getfield 120, 3) := dk_180 0 120 (dk_at dksX4_put_0 5 rfl rfl)
theorem dX4_put_8 : decode cX4_put 8 = .ok (.iload_n 1, 1) := dk_27 (dk_at dksX4_put_0 8 rfl rfl)
theorem dX4_put_9 : decode cX4_put 9 = .ok (.iastore, 1) := dk_79 (dk_at dksX4_put_0 9 rfl rfl)
theorem dX4_put_10 : decode cX4_put 10 = .ok (.aload_n 0, 1) := dk_42 (dk_at dksX4_put_0 10 rfl rfl)
theorem dX4_put_11 : decode cX4_put 11 = .ok (.dup, 1) := dk_89 (dk_at dksX4_put_0 11 rfl rfl)
theorem dX4_put_12 : decode cX4_put 12 = .ok (.getfield 120, 3) := dk_180 0 120 (dk_at dksX4_put_0 12 rfl rfl)
theorem dX4_put_15 : decode cX4_put 15 = .ok (.iconst 1, 1) := dk_4 (dk_at dksX4_put_0 15 rfl rfl)
theorem dX4_put_16 : decode cX4_put 16 = .ok (.iadd, 1) := dk_96 (dk_at dksX4_put_0 16 rfl rfl)
theorem dX4_put_17 : decode cX4_put 17 = .ok (.putfield 120, 3) := dk_181 0 120 (dk_at dksX4_put_0 17 rfl rfl)
theorem dX4_put_20 : decode cX4_put 20 = .ok (.return_, 1) := dk_177 (dk_at dksX4_put_0 20 rfl rfl)
abbrev cX4_formatOrder : ByteArray := prog_12_method_119_code
def yX4_formatOrder : MethodName := ⟨RX4, "formatOrder", "(I)I"⟩
def dkwX4_formatOrder_3 : List UInt8 := [180, 0, 63, 28, 46, 96, 182, 1, 95, 132, 2, 1, 167, 255, 219, 42, 180, 0, 120, 172]
abbrev dktX4_formatOrder_3 : List UInt8 := dkwX4_formatOrder_3 ++ []
def dkwX4_formatOrder_2 : List UInt8 := [180, 0, 72, 184, 0, 240, 162, 0, 32, 28, 158, 0, 9, 42, 16, 60, 182, 1, 95, 42, 16, 48, 42]
abbrev dktX4_formatOrder_2 : List UInt8 := dkwX4_formatOrder_2 ++ dktX4_formatOrder_3
def dkwX4_formatOrder_1 : List UInt8 := [3, 181, 0, 22, 42, 180, 0, 22, 158, 0, 5, 3, 172, 42, 3, 181, 0, 120, 3, 61, 28, 42]
abbrev dktX4_formatOrder_1 : List UInt8 := dkwX4_formatOrder_1 ++ dktX4_formatOrder_2
def dkwX4_formatOrder_0 : List UInt8 := [42, 27, 184, 0, 131, 154, 0, 7, 4, 167, 0, 16, 42, 27, 182, 0, 243, 154, 0, 7, 5, 167, 0, 4]
abbrev dktX4_formatOrder_0 : List UInt8 := dkwX4_formatOrder_0 ++ dktX4_formatOrder_1
theorem dksX4_formatOrder_0 : cX4_formatOrder.data.toList.drop 0 = dktX4_formatOrder_0 := by decide +kernel
theorem dksX4_formatOrder_1 : cX4_formatOrder.data.toList.drop 24 = dktX4_formatOrder_1 := dk_seg dksX4_formatOrder_0 24 rfl rfl
theorem dksX4_formatOrder_2 : cX4_formatOrder.data.toList.drop 46 = dktX4_formatOrder_2 := dk_seg dksX4_formatOrder_1 22 rfl rfl
theorem dksX4_formatOrder_3 : cX4_formatOrder.data.toList.drop 69 = dktX4_formatOrder_3 := dk_seg dksX4_formatOrder_2 23 rfl rfl
theorem dX4_formatOrder_0 : decode cX4_formatOrder 0 = .ok (.aload_n 0, 1) := dk_42 (dk_at dksX4_formatOrder_0 0 rfl rfl)
theorem dX4_formatOrder_1 : decode cX4_formatOrder 1 = .ok (.iload_n 1, 1) := dk_27 (dk_at dksX4_formatOrder_0 1 rfl rfl)
theorem dX4_formatOrder_2 : decode cX4_formatOrder 2 = .ok (.invokestatic 131, 3) := dk_184 0 131 (dk_at dksX4_formatOrder_0 2 rfl rfl)
theorem dX4_formatOrder_5 : decode cX4_formatOrder 5 = .ok (.ifCond .ne 7, 3) := dk_154 0 7 (dk_at dksX4_formatOrder_0 5 rfl rfl)
theorem dX4_formatOrder_8 : decode cX4_formatOrder 8 = .ok (.iconst 1, 1) := dk_4 (dk_at dksX4_formatOrder_0 8 rfl rfl)
theorem dX4_formatOrder_9 : decode cX4_formatOrder 9 = .ok (.goto 16, 3) := dk_167 0 16 (dk_at dksX4_formatOrder_0 9 rfl rfl)
theorem dX4_formatOrder_12 : decode cX4_formatOrder 12 = .ok (.aload_n 0, 1) := dk_42 (dk_at dksX4_formatOrder_0 12 rfl rfl)
theorem dX4_formatOrder_13 : decode cX4_formatOrder 13 = .ok (.iload_n 1, 1) := dk_27 (dk_at dksX4_formatOrder_0 13 rfl rfl)
theorem dX4_formatOrder_14 : decode cX4_formatOrder 14 = .ok (.invokevirtual 243, 3) := dk_182 0 243 (dk_at dksX4_formatOrder_0 14 rfl rfl)
theorem dX4_formatOrder_17 : decode cX4_formatOrder 17 = .ok (.ifCond .ne 7, 3) := dk_154 0 7 (dk_at dksX4_formatOrder_0 17 rfl rfl)
theorem dX4_formatOrder_20 : decode cX4_formatOrder 20 = .ok (.iconst 2, 1) := dk_5 (dk_at dksX4_formatOrder_0 20 rfl rfl)
theorem dX4_formatOrder_21 : decode cX4_formatOrder 21 = .ok (.goto 4, 3) := dk_167 0 4 (dk_at dksX4_formatOrder_0 21 rfl rfl)
theorem dX4_formatOrder_24 : decode cX4_formatOrder 24 = .ok (.iconst 0, 1) := dk_3 (dk_at dksX4_formatOrder_1 0 rfl rfl)
theorem dX4_formatOrder_25 : decode cX4_formatOrder 25 = .ok (.putfield 22, 3) := dk_181 0 22 (dk_at dksX4_formatOrder_1 1 rfl rfl)
theorem dX4_formatOrder_28 : decode cX4_formatOrder 28 = .ok (.aload_n 0, 1) := dk_42 (dk_at dksX4_formatOrder_1 4 rfl rfl)
theorem dX4_formatOrder_29 : decode cX4_formatOrder 29 = .ok (.getfield 22, 3) := dk_180 0 22 (dk_at dksX4_formatOrder_1 5 rfl rfl)
theorem dX4_formatOrder_32 : decode cX4_formatOrder 32 = .ok (.ifCond .le 5, 3) := dk_158 0 5 (dk_at dksX4_formatOrder_1 8 rfl rfl)
theorem dX4_formatOrder_35 : decode cX4_formatOrder 35 = .ok (.iconst 0, 1) := dk_3 (dk_at dksX4_formatOrder_1 11 rfl rfl)
theorem dX4_formatOrder_36 : decode cX4_formatOrder 36 = .ok (.ireturn, 1) := dk_172 (dk_at dksX4_formatOrder_1 12 rfl rfl)
theorem dX4_formatOrder_37 : decode cX4_formatOrder 37 = .ok (.aload_n 0, 1) := dk_42 (dk_at dksX4_formatOrder_1 13 rfl rfl)
theorem dX4_formatOrder_38 : decode cX4_formatOrder 38 = .ok (.iconst 0, 1) := dk_3 (dk_at dksX4_formatOrder_1 14 rfl rfl)
theorem dX4_formatOrder_39 : decode cX4_formatOrder 39 = .ok (.putfield 120, 3) := dk_181 0 120 (dk_at dksX4_formatOrder_1 15 rfl rfl)
theorem dX4_formatOrder_42 : decode cX4_formatOrder 42 = .ok (.iconst 0, 1) := dk_3 (dk_at dksX4_formatOrder_1 18 rfl rfl)
theorem dX4_formatOrder_43 : decode cX4_formatOrder 43 = .ok (.istore_n 2, 1) := dk_61 (dk_at dksX4_formatOrder_1 19 rfl rfl)
theorem dX4_formatOrder_44 : decode cX4_formatOrder 44 = .ok (.iload_n 2, 1) := dk_28 (dk_at dksX4_formatOrder_1 20 rfl rfl)
theorem dX4_formatOrder_45 : decode cX4_formatOrder 45 = .ok (.aload_n 0, 1) := dk_42 (dk_at dksX4_formatOrder_1 21 rfl rfl)
theorem dX4_formatOrder_46 : decode cX4_formatOrder 46 = .ok (.getfield 72, 3) := dk_180 0 72 (dk_at dksX4_formatOrder_2 0 rfl rfl)
theorem dX4_formatOrder_49 : decode cX4_formatOrder 49 = .ok (.invokestatic 240, 3) := dk_184 0 240 (dk_at dksX4_formatOrder_2 3 rfl rfl)
theorem dX4_formatOrder_52 : decode cX4_formatOrder 52 = .ok (.if_icmp .ge 32, 3) := dk_162 0 32 (dk_at dksX4_formatOrder_2 6 rfl rfl)
theorem dX4_formatOrder_55 : decode cX4_formatOrder 55 = .ok (.iload_n 2, 1) := dk_28 (dk_at dksX4_formatOrder_2 9 rfl rfl)
theorem dX4_formatOrder_56 : decode cX4_formatOrder 56 = .ok (.ifCond .le 9, 3) := dk_158 0 9 (dk_at dksX4_formatOrder_2 10 rfl rfl)
theorem dX4_formatOrder_59 : decode cX4_formatOrder 59 = .ok (.aload_n 0, 1) := dk_42 (dk_at dksX4_formatOrder_2 13 rfl rfl)
theorem dX4_formatOrder_60 : decode cX4_formatOrder 60 = .ok (.bipush 60, 2) := dk_16 60 (dk_at dksX4_formatOrder_2 14 rfl rfl)
theorem dX4_formatOrder_62 : decode cX4_formatOrder 62 = .ok (.invokevirtual 351, 3) := dk_182 1 95 (dk_at dksX4_formatOrder_2 16 rfl rfl)
theorem dX4_formatOrder_65 : decode cX4_formatOrder 65 = .ok (.aload_n 0, 1) := dk_42 (dk_at dksX4_formatOrder_2 19 rfl rfl)
theorem dX4_formatOrder_66 : decode cX4_formatOrder 66 = .ok (.bipush 48, 2) := dk_16 48 (dk_at dksX4_formatOrder_2 20 rfl rfl)
theorem dX4_formatOrder_68 : decode cX4_formatOrder 68 = .ok (.aload_n 0, 1) := dk_42 (dk_at dksX4_formatOrder_2 22 rfl rfl)
theorem dX4_formatOrder_69 : decode cX4_formatOrder 69 = .ok (.getfield 63, 3) := dk_180 0 63 (dk_at dksX4_formatOrder_3 0 rfl rfl)
theorem dX4_formatOrder_72 : decode cX4_formatOrder 72 = .ok (.iload_n 2, 1) := dk_28 (dk_at dksX4_formatOrder_3 3 rfl rfl)
theorem dX4_formatOrder_73 : decode cX4_formatOrder 73 = .ok (.iaload, 1) := dk_46 (dk_at dksX4_formatOrder_3 4 rfl rfl)
theorem dX4_formatOrder_74 : decode cX4_formatOrder 74 = .ok (.iadd, 1) := dk_96 (dk_at dksX4_formatOrder_3 5 rfl rfl)
theorem dX4_formatOrder_75 : decode cX4_formatOrder 75 = .ok (.invokevirtual 351, 3) := dk_182 1 95 (dk_at dksX4_formatOrder_3 6 rfl rfl)
theorem dX4_formatOrder_78 : decode cX4_formatOrder 78 = .ok (.iinc 2 1, 3) := dk_132 2 1 (dk_at dksX4_formatOrder_3 9 rfl rfl)
theorem dX4_formatOrder_81 : decode cX4_formatOrder 81 = .ok (.goto (-37), 3) := dk_167 255 219 (dk_at dksX4_formatOrder_3 12 rfl rfl)
theorem dX4_formatOrder_84 : decode cX4_formatOrder 84 = .ok (.aload_n 0, 1) := dk_42 (dk_at dksX4_formatOrder_3 15 rfl rfl)
theorem dX4_formatOrder_85 : decode cX4_formatOrder 85 = .ok (.getfield 120, 3) := dk_180 0 120 (dk_at dksX4_formatOrder_3 16 rfl rfl)
theorem dX4_formatOrder_88 : decode cX4_formatOrder 88 = .ok (.ireturn, 1) := dk_172 (dk_at dksX4_formatOrder_3 19 rfl rfl)
abbrev cX4_lineChar : ByteArray := prog_12_method_120_code
def yX4_lineChar : MethodName := ⟨RX4, "lineChar", "(I)C"⟩
def dkwX4_lineChar_1 : List UInt8 := [180, 0, 117, 27, 46, 146, 172]
abbrev dktX4_lineChar_1 : List UInt8 := dkwX4_lineChar_1 ++ []
def dkwX4_lineChar_0 : List UInt8 := [42, 27, 3, 42, 180, 0, 120, 4, 100, 184, 0, 127, 182, 1, 29, 158, 0, 8, 16, 32, 167, 0, 10, 42]
abbrev dktX4_lineChar_0 : List UInt8 := dkwX4_lineChar_0 ++ dktX4_lineChar_1
theorem dksX4_lineChar_0 : cX4_lineChar.data.toList.drop 0 = dktX4_lineChar_0 := by decide +kernel
theorem dksX4_lineChar_1 : cX4_lineChar.data.toList.drop 24 = dktX4_lineChar_1 := dk_seg dksX4_lineChar_0 24 rfl rfl
theorem dX4_lineChar_0 : decode cX4_lineChar 0 = .ok (.aload_n 0, 1) := dk_42 (dk_at dksX4_lineChar_0 0 rfl rfl)
theorem dX4_lineChar_1 : decode cX4_lineChar 1 = .ok (.iload_n 1, 1) := dk_27 (dk_at dksX4_lineChar_0 1 rfl rfl)
theorem dX4_lineChar_2 : decode cX4_lineChar 2 = .ok (.iconst 0, 1) := dk_3 (dk_at dksX4_lineChar_0 2 rfl rfl)
theorem dX4_lineChar_3 : decode cX4_lineChar 3 = .ok (.aload_n 0, 1) := dk_42 (dk_at dksX4_lineChar_0 3 rfl rfl)
theorem dX4_lineChar_4 : decode cX4_lineChar 4 = .ok (.getfield 120, 3) := dk_180 0 120 (dk_at dksX4_lineChar_0 4 rfl rfl)
theorem dX4_lineChar_7 : decode cX4_lineChar 7 = .ok (.iconst 1, 1) := dk_4 (dk_at dksX4_lineChar_0 7 rfl rfl)
theorem dX4_lineChar_8 : decode cX4_lineChar 8 = .ok (.isub, 1) := dk_100 (dk_at dksX4_lineChar_0 8 rfl rfl)
theorem dX4_lineChar_9 : decode cX4_lineChar 9 = .ok (.invokestatic 127, 3) := dk_184 0 127 (dk_at dksX4_lineChar_0 9 rfl rfl)
theorem dX4_lineChar_12 : decode cX4_lineChar 12 = .ok (.invokevirtual 285, 3) := dk_182 1 29 (dk_at dksX4_lineChar_0 12 rfl rfl)
theorem dX4_lineChar_15 : decode cX4_lineChar 15 = .ok (.ifCond .le 8, 3) := dk_158 0 8 (dk_at dksX4_lineChar_0 15 rfl rfl)
theorem dX4_lineChar_18 : decode cX4_lineChar 18 = .ok (.bipush 32, 2) := dk_16 32 (dk_at dksX4_lineChar_0 18 rfl rfl)
theorem dX4_lineChar_20 : decode cX4_lineChar 20 = .ok (.goto 10, 3) := dk_167 0 10 (dk_at dksX4_lineChar_0 20 rfl rfl)
theorem dX4_lineChar_23 : decode cX4_lineChar 23 = .ok (.aload_n 0, 1) := dk_42 (dk_at dksX4_lineChar_0 23 rfl rfl)
theorem dX4_lineChar_24 : decode cX4_lineChar 24 = .ok (.getfield 117, 3) := dk_180 0 117 (dk_at dksX4_lineChar_1 0 rfl rfl)
theorem dX4_lineChar_27 : decode cX4_lineChar 27 = .ok (.iload_n 1, 1) := dk_27 (dk_at dksX4_lineChar_1 3 rfl rfl)
theorem dX4_lineChar_28 : decode cX4_lineChar 28 = .ok (.iaload, 1) := dk_46 (dk_at dksX4_lineChar_1 4 rfl rfl)
theorem dX4_lineChar_29 : decode cX4_lineChar 29 = .ok (.i2c, 1) := dk_146 (dk_at dksX4_lineChar_1 5 rfl rfl)
theorem dX4_lineChar_30 : decode cX4_lineChar 30 = .ok (.ireturn, 1) := dk_172 (dk_at dksX4_lineChar_1 6 rfl rfl)
abbrev cX4_errorPosition : ByteArray := prog_12_method_121_code
def yX4_errorPosition : MethodName := ⟨RX4, "errorPosition", "()I"⟩
def dkwX4_errorPosition_1 : List UInt8 := [180, 0, 29, 172]
abbrev dktX4_errorPosition_1 : List UInt8 := dkwX4_errorPosition_1 ++ []
def dkwX4_errorPosition_0 : List UInt8 := [42, 42, 180, 0, 29, 155, 0, 7, 4, 167, 0, 4, 3, 182, 1, 29, 158, 0, 7, 3, 167, 0, 7, 42]
abbrev dktX4_errorPosition_0 : List UInt8 := dkwX4_errorPosition_0 ++ dktX4_errorPosition_1
theorem dksX4_errorPosition_0 : cX4_errorPosition.data.toList.drop 0 = dktX4_errorPosition_0 := by decide +kernel
theorem dksX4_errorPosition_1 : cX4_errorPosition.data.toList.drop 24 = dktX4_errorPosition_1 := dk_seg dksX4_errorPosition_0 24 rfl rfl
theorem dX4_errorPosition_0 : decode cX4_errorPosition 0 = .ok (.aload_n 0, 1) := dk_42 (dk_at dksX4_errorPosition_0 0 rfl rfl)
theorem dX4_errorPosition_1 : decode cX4_errorPosition 1 = .ok (.aload_n 0, 1) := dk_42 (dk_at dksX4_errorPosition_0 1 rfl rfl)
theorem dX4_errorPosition_2 : decode cX4_errorPosition 2 = .ok (.getfield 29, 3) := dk_180 0 29 (dk_at dksX4_errorPosition_0 2 rfl rfl)
theorem dX4_errorPosition_5 : decode cX4_errorPosition 5 = .ok (.ifCond .lt 7, 3) := dk_155 0 7 (dk_at dksX4_errorPosition_0 5 rfl rfl)
theorem dX4_errorPosition_8 : decode cX4_errorPosition 8 = .ok (.iconst 1, 1) := dk_4 (dk_at dksX4_errorPosition_0 8 rfl rfl)
theorem dX4_errorPosition_9 : decode cX4_errorPosition 9 = .ok (.goto 4, 3) := dk_167 0 4 (dk_at dksX4_errorPosition_0 9 rfl rfl)
theorem dX4_errorPosition_12 : decode cX4_errorPosition 12 = .ok (.iconst 0, 1) := dk_3 (dk_at dksX4_errorPosition_0 12 rfl rfl)
theorem dX4_errorPosition_13 : decode cX4_errorPosition 13 = .ok (.invokevirtual 285, 3) := dk_182 1 29 (dk_at dksX4_errorPosition_0 13 rfl rfl)
theorem dX4_errorPosition_16 : decode cX4_errorPosition 16 = .ok (.ifCond .le 7, 3) := dk_158 0 7 (dk_at dksX4_errorPosition_0 16 rfl rfl)
theorem dX4_errorPosition_19 : decode cX4_errorPosition 19 = .ok (.iconst 0, 1) := dk_3 (dk_at dksX4_errorPosition_0 19 rfl rfl)
theorem dX4_errorPosition_20 : decode cX4_errorPosition 20 = .ok (.goto 7, 3) := dk_167 0 7 (dk_at dksX4_errorPosition_0 20 rfl rfl)
theorem dX4_errorPosition_23 : decode cX4_errorPosition 23 = .ok (.aload_n 0, 1) := dk_42 (dk_at dksX4_errorPosition_0 23 rfl rfl)
theorem dX4_errorPosition_24 : decode cX4_errorPosition 24 = .ok (.getfield 29, 3) := dk_180 0 29 (dk_at dksX4_errorPosition_1 0 rfl rfl)
theorem dX4_errorPosition_27 : decode cX4_errorPosition 27 = .ok (.ireturn, 1) := dk_172 (dk_at dksX4_errorPosition_1 3 rfl rfl)
abbrev cX4_undoableCount : ByteArray := prog_12_method_122_code
def yX4_undoableCount : MethodName := ⟨RX4, "undoableCount", "()I"⟩
def dkwX4_undoableCount_0 : List UInt8 := [42, 42, 180, 0, 26, 182, 1, 92, 172]
abbrev dktX4_undoableCount_0 : List UInt8 := dkwX4_undoableCount_0 ++ []
theorem dksX4_undoableCount_0 : cX4_undoableCount.data.toList.drop 0 = dktX4_undoableCount_0 := by decide +kernel
theorem dX4_undoableCount_0 : decode cX4_undoableCount 0 = .ok (.aload_n 0, 1) := dk_42 (dk_at dksX4_undoableCount_0 0 rfl rfl)
theorem dX4_undoableCount_1 : decode cX4_undoableCount 1 = .ok (.aload_n 0, 1) := dk_42 (dk_at dksX4_undoableCount_0 1 rfl rfl)
theorem dX4_undoableCount_2 : decode cX4_undoableCount 2 = .ok (.getfield 26, 3) := dk_180 0 26 (dk_at dksX4_undoableCount_0 2 rfl rfl)
theorem dX4_undoableCount_5 : decode cX4_undoableCount 5 = .ok (.invokevirtual 348, 3) := dk_182 1 92 (dk_at dksX4_undoableCount_0 5 rfl rfl)
theorem dX4_undoableCount_8 : decode cX4_undoableCount 8 = .ok (.ireturn, 1) := dk_172 (dk_at dksX4_undoableCount_0 8 rfl rfl)
abbrev cX4_undo : ByteArray := prog_12_method_123_code
def yX4_undo : MethodName := ⟨RX4, "undo", "()I"⟩
def dkwX4_undo_2 : List UInt8 := [184, 0, 123, 42, 180, 0, 26, 172]
abbrev dktX4_undo_2 : List UInt8 := dkwX4_undo_2 ++ []
def dkwX4_undo_1 : List UInt8 := [180, 0, 26, 4, 100, 181, 0, 26, 42, 180, 0, 19, 16, 88, 42, 180, 0, 26, 104, 42, 180, 0, 7, 3]
abbrev dktX4_undo_1 : List UInt8 := dkwX4_undo_1 ++ dktX4_undo_2
def dkwX4_undo_0 : List UInt8 := [42, 42, 180, 0, 26, 158, 0, 7, 4, 167, 0, 4, 3, 182, 1, 29, 158, 0, 5, 3, 172, 42, 89]
abbrev dktX4_undo_0 : List UInt8 := dkwX4_undo_0 ++ dktX4_undo_1
theorem dksX4_undo_0 : cX4_undo.data.toList.drop 0 = dktX4_undo_0 := by decide +kernel
theorem dksX4_undo_1 : cX4_undo.data.toList.drop 23 = dktX4_undo_1 := dk_seg dksX4_undo_0 23 rfl rfl
theorem dksX4_undo_2 : cX4_undo.data.toList.drop 47 = dktX4_undo_2 := dk_seg dksX4_undo_1 24 rfl rfl
theorem dX4_undo_0 : decode cX4_undo 0 = .ok (.aload_n 0, 1) := dk_42 (dk_at dksX4_undo_0 0 rfl rfl)
theorem dX4_undo_1 : decode cX4_undo 1 = .ok (.aload_n 0, 1) := dk_42 (dk_at dksX4_undo_0 1 rfl rfl)
theorem dX4_undo_2 : decode cX4_undo 2 = .ok (.getfield 26, 3) := dk_180 0 26 (dk_at dksX4_undo_0 2 rfl rfl)
theorem dX4_undo_5 : decode cX4_undo 5 = .ok (.ifCond .le 7, 3) := dk_158 0 7 (dk_at dksX4_undo_0 5 rfl rfl)
theorem dX4_undo_8 : decode cX4_undo 8 = .ok (.iconst 1, 1) := dk_4 (dk_at dksX4_undo_0 8 rfl rfl)
theorem dX4_undo_9 : decode cX4_undo 9 = .ok (.goto 4, 3) := dk_167 0 4 (dk_at dksX4_undo_0 9 rfl rfl)
theorem dX4_undo_12 : decode cX4_undo 12 = .ok (.iconst 0, 1) := dk_3 (dk_at dksX4_undo_0 12 rfl rfl)
theorem dX4_undo_13 : decode cX4_undo 13 = .ok (.invokevirtual 285, 3) := dk_182 1 29 (dk_at dksX4_undo_0 13 rfl rfl)
theorem dX4_undo_16 : decode cX4_undo 16 = .ok (.ifCond .le 5, 3) := dk_158 0 5 (dk_at dksX4_undo_0 16 rfl rfl)
theorem dX4_undo_19 : decode cX4_undo 19 = .ok (.iconst 0, 1) := dk_3 (dk_at dksX4_undo_0 19 rfl rfl)
theorem dX4_undo_20 : decode cX4_undo 20 = .ok (.ireturn, 1) := dk_172 (dk_at dksX4_undo_0 20 rfl rfl)
theorem dX4_undo_21 : decode cX4_undo 21 = .ok (.aload_n 0, 1) := dk_42 (dk_at dksX4_undo_0 21 rfl rfl)
theorem dX4_undo_22 : decode cX4_undo 22 = .ok (.dup, 1) := dk_89 (dk_at dksX4_undo_0 22 rfl rfl)
theorem dX4_undo_23 : decode cX4_undo 23 = .ok (.getfield 26, 3) := dk_180 0 26 (dk_at dksX4_undo_1 0 rfl rfl)
theorem dX4_undo_26 : decode cX4_undo 26 = .ok (.iconst 1, 1) := dk_4 (dk_at dksX4_undo_1 3 rfl rfl)
theorem dX4_undo_27 : decode cX4_undo 27 = .ok (.isub, 1) := dk_100 (dk_at dksX4_undo_1 4 rfl rfl)
theorem dX4_undo_28 : decode cX4_undo 28 = .ok (.putfield 26, 3) := dk_181 0 26 (dk_at dksX4_undo_1 5 rfl rfl)
theorem dX4_undo_31 : decode cX4_undo 31 = .ok (.aload_n 0, 1) := dk_42 (dk_at dksX4_undo_1 8 rfl rfl)
theorem dX4_undo_32 : decode cX4_undo 32 = .ok (.getfield 19, 3) := dk_180 0 19 (dk_at dksX4_undo_1 9 rfl rfl)
theorem dX4_undo_35 : decode cX4_undo 35 = .ok (.bipush 88, 2) := dk_16 88 (dk_at dksX4_undo_1 12 rfl rfl)
theorem dX4_undo_37 : decode cX4_undo 37 = .ok (.aload_n 0, 1) := dk_42 (dk_at dksX4_undo_1 14 rfl rfl)
theorem dX4_undo_38 : decode cX4_undo 38 = .ok (.getfield 26, 3) := dk_180 0 26 (dk_at dksX4_undo_1 15 rfl rfl)
theorem dX4_undo_41 : decode cX4_undo 41 = .ok (.imul, 1) := dk_104 (dk_at dksX4_undo_1 18 rfl rfl)
theorem dX4_undo_42 : decode cX4_undo 42 = .ok (.aload_n 0, 1) := dk_42 (dk_at dksX4_undo_1 19 rfl rfl)
theorem dX4_undo_43 : decode cX4_undo 43 = .ok (.getfield 7, 3) := dk_180 0 7 (dk_at dksX4_undo_1 20 rfl rfl)
theorem dX4_undo_46 : decode cX4_undo 46 = .ok (.iconst 0, 1) := dk_3 (dk_at dksX4_undo_1 23 rfl rfl)
theorem dX4_undo_47 : decode cX4_undo 47 = .ok (.invokestatic 123, 3) := dk_184 0 123 (dk_at dksX4_undo_2 0 rfl rfl)
theorem dX4_undo_50 : decode cX4_undo 50 = .ok (.aload_n 0, 1) := dk_42 (dk_at dksX4_undo_2 3 rfl rfl)
theorem dX4_undo_51 : decode cX4_undo 51 = .ok (.getfield 26, 3) := dk_180 0 26 (dk_at dksX4_undo_2 4 rfl rfl)
theorem dX4_undo_54 : decode cX4_undo 54 = .ok (.ireturn, 1) := dk_172 (dk_at dksX4_undo_2 7 rfl rfl)
abbrev cX4_save : ByteArray := prog_12_method_125_code
def yX4_save : MethodName := ⟨RX4, "save", "()I"⟩
def dkwX4_save_1 : List UInt8 := [182, 1, 98, 172]
abbrev dktX4_save_1 : List UInt8 := dkwX4_save_1 ++ []
def dkwX4_save_0 : List UInt8 := [42, 3, 181, 0, 22, 42, 180, 0, 7, 3, 42, 180, 0, 16, 3, 184, 0, 123, 42, 4, 181, 0, 32, 42]
abbrev dktX4_save_0 : List UInt8 := dkwX4_save_0 ++ dktX4_save_1
theorem dksX4_save_0 : cX4_save.data.toList.drop 0 = dktX4_save_0 := by decide +kernel
theorem dksX4_save_1 : cX4_save.data.toList.drop 24 = dktX4_save_1 := dk_seg dksX4_save_0 24 rfl rfl
theorem dX4_save_0 : decode cX4_save 0 = .ok (.aload_n 0, 1) := dk_42 (dk_at dksX4_save_0 0 rfl rfl)
theorem dX4_save_1 : decode cX4_save 1 = .ok (.iconst 0, 1) := dk_3 (dk_at dksX4_save_0 1 rfl rfl)
theorem dX4_save_2 : decode cX4_save 2 = .ok (.putfield 22, 3) := dk_181 0 22 (dk_at dksX4_save_0 2 rfl rfl)
theorem dX4_save_5 : decode cX4_save 5 = .ok (.aload_n 0, 1) := dk_42 (dk_at dksX4_save_0 5 rfl rfl)
theorem dX4_save_6 : decode cX4_save 6 = .ok (.getfield 7, 3) := dk_180 0 7 (dk_at dksX4_save_0 6 rfl rfl)
theorem dX4_save_9 : decode cX4_save 9 = .ok (.iconst 0, 1) := dk_3 (dk_at dksX4_save_0 9 rfl rfl)
theorem dX4_save_10 : decode cX4_save 10 = .ok (.aload_n 0, 1) := dk_42 (dk_at dksX4_save_0 10 rfl rfl)
theorem dX4_save_11 : decode cX4_save 11 = .ok (.getfield 16, 3) := dk_180 0 16 (dk_at dksX4_save_0 11 rfl rfl)
theorem dX4_save_14 : decode cX4_save 14 = .ok (.iconst 0, 1) := dk_3 (dk_at dksX4_save_0 14 rfl rfl)
theorem dX4_save_15 : decode cX4_save 15 = .ok (.invokestatic 123, 3) := dk_184 0 123 (dk_at dksX4_save_0 15 rfl rfl)
theorem dX4_save_18 : decode cX4_save 18 = .ok (.aload_n 0, 1) := dk_42 (dk_at dksX4_save_0 18 rfl rfl)
theorem dX4_save_19 : decode cX4_save 19 = .ok (.iconst 1, 1) := dk_4 (dk_at dksX4_save_0 19 rfl rfl)
theorem dX4_save_20 : decode cX4_save 20 = .ok (.putfield 32, 3) := dk_181 0 32 (dk_at dksX4_save_0 20 rfl rfl)
theorem dX4_save_23 : decode cX4_save 23 = .ok (.aload_n 0, 1) := dk_42 (dk_at dksX4_save_0 23 rfl rfl)
theorem dX4_save_24 : decode cX4_save 24 = .ok (.invokevirtual 354, 3) := dk_182 1 98 (dk_at dksX4_save_1 0 rfl rfl)
theorem dX4_save_27 : decode cX4_save 27 = .ok (.ireturn, 1) := dk_172 (dk_at dksX4_save_1 3 rfl rfl)
abbrev cX4_operations : ByteArray := prog_12_method_124_code
def yX4_operations : MethodName := ⟨RX4, "operations", "()I"⟩
def dkwX4_operations_0 : List UInt8 := [42, 3, 182, 0, 135, 42, 4, 182, 0, 135, 96, 42, 5, 182, 0, 135, 96, 42, 6, 182, 0, 135, 96, 172]
abbrev dktX4_operations_0 : List UInt8 := dkwX4_operations_0 ++ []
theorem dksX4_operations_0 : cX4_operations.data.toList.drop 0 = dktX4_operations_0 := by decide +kernel
theorem dX4_operations_0 : decode cX4_operations 0 = .ok (.aload_n 0, 1) := dk_42 (dk_at dksX4_operations_0 0 rfl rfl)
theorem dX4_operations_1 : decode cX4_operations 1 = .ok (.iconst 0, 1) := dk_3 (dk_at dksX4_operations_0 1 rfl rfl)
theorem dX4_operations_2 : decode cX4_operations 2 = .ok (.invokevirtual 135, 3) := dk_182 0 135 (dk_at dksX4_operations_0 2 rfl rfl)
theorem dX4_operations_5 : decode cX4_operations 5 = .ok (.aload_n 0, 1) := dk_42 (dk_at dksX4_operations_0 5 rfl rfl)
theorem dX4_operations_6 : decode cX4_operations 6 = .ok (.iconst 1, 1) := dk_4 (dk_at dksX4_operations_0 6 rfl rfl)
theorem dX4_operations_7 : decode cX4_operations 7 = .ok (.invokevirtual 135, 3) := dk_182 0 135 (dk_at dksX4_operations_0 7 rfl rfl)
theorem dX4_operations_10 : decode cX4_operations 10 = .ok (.iadd, 1) := dk_96 (dk_at dksX4_operations_0 10 rfl rfl)
theorem dX4_operations_11 : decode cX4_operations 11 = .ok (.aload_n 0, 1) := dk_42 (dk_at dksX4_operations_0 11 rfl rfl)
theorem dX4_operations_12 : decode cX4_operations 12 = .ok (.iconst 2, 1) := dk_5 (dk_at dksX4_operations_0 12 rfl rfl)
theorem dX4_operations_13 : decode cX4_operations 13 = .ok (.invokevirtual 135, 3) := dk_182 0 135 (dk_at dksX4_operations_0 13 rfl rfl)
theorem dX4_operations_16 : decode cX4_operations 16 = .ok (.iadd, 1) := dk_96 (dk_at dksX4_operations_0 16 rfl rfl)
theorem dX4_operations_17 : decode cX4_operations 17 = .ok (.aload_n 0, 1) := dk_42 (dk_at dksX4_operations_0 17 rfl rfl)
theorem dX4_operations_18 : decode cX4_operations 18 = .ok (.iconst 3, 1) := dk_6 (dk_at dksX4_operations_0 18 rfl rfl)
theorem dX4_operations_19 : decode cX4_operations 19 = .ok (.invokevirtual 135, 3) := dk_182 0 135 (dk_at dksX4_operations_0 19 rfl rfl)
theorem dX4_operations_22 : decode cX4_operations 22 = .ok (.iadd, 1) := dk_96 (dk_at dksX4_operations_0 22 rfl rfl)
theorem dX4_operations_23 : decode cX4_operations 23 = .ok (.ireturn, 1) := dk_172 (dk_at dksX4_operations_0 23 rfl rfl)
abbrev cX4_restore : ByteArray := prog_12_method_126_code
def yX4_restore : MethodName := ⟨RX4, "restore", "()I"⟩
def dkwX4_restore_1 : List UInt8 := [184, 0, 123, 42, 3, 181, 0, 26, 42, 182, 1, 98, 172]
abbrev dktX4_restore_1 : List UInt8 := dkwX4_restore_1 ++ []
def dkwX4_restore_0 : List UInt8 := [42, 42, 180, 0, 32, 182, 1, 29, 158, 0, 5, 3, 172, 42, 180, 0, 16, 3, 42, 180, 0, 7, 3]
abbrev dktX4_restore_0 : List UInt8 := dkwX4_restore_0 ++ dktX4_restore_1
theorem dksX4_restore_0 : cX4_restore.data.toList.drop 0 = dktX4_restore_0 := by decide +kernel
theorem dksX4_restore_1 : cX4_restore.data.toList.drop 23 = dktX4_restore_1 := dk_seg dksX4_restore_0 23 rfl rfl
theorem dX4_restore_0 : decode cX4_restore 0 = .ok (.aload_n 0, 1) := dk_42 (dk_at dksX4_restore_0 0 rfl rfl)
theorem dX4_restore_1 : decode cX4_restore 1 = .ok (.aload_n 0, 1) := dk_42 (dk_at dksX4_restore_0 1 rfl rfl)
theorem dX4_restore_2 : decode cX4_restore 2 = .ok (.getfield 32, 3) := dk_180 0 32 (dk_at dksX4_restore_0 2 rfl rfl)
theorem dX4_restore_5 : decode cX4_restore 5 = .ok (.invokevirtual 285, 3) := dk_182 1 29 (dk_at dksX4_restore_0 5 rfl rfl)
theorem dX4_restore_8 : decode cX4_restore 8 = .ok (.ifCond .le 5, 3) := dk_158 0 5 (dk_at dksX4_restore_0 8 rfl rfl)
theorem dX4_restore_11 : decode cX4_restore 11 = .ok (.iconst 0, 1) := dk_3 (dk_at dksX4_restore_0 11 rfl rfl)
theorem dX4_restore_12 : decode cX4_restore 12 = .ok (.ireturn, 1) := dk_172 (dk_at dksX4_restore_0 12 rfl rfl)
theorem dX4_restore_13 : decode cX4_restore 13 = .ok (.aload_n 0, 1) := dk_42 (dk_at dksX4_restore_0 13 rfl rfl)
theorem dX4_restore_14 : decode cX4_restore 14 = .ok (.getfield 16, 3) := dk_180 0 16 (dk_at dksX4_restore_0 14 rfl rfl)
theorem dX4_restore_17 : decode cX4_restore 17 = .ok (.iconst 0, 1) := dk_3 (dk_at dksX4_restore_0 17 rfl rfl)
theorem dX4_restore_18 : decode cX4_restore 18 = .ok (.aload_n 0, 1) := dk_42 (dk_at dksX4_restore_0 18 rfl rfl)
theorem dX4_restore_19 : decode cX4_restore 19 = .ok (.getfield 7, 3) := dk_180 0 7 (dk_at dksX4_restore_0 19 rfl rfl)
theorem dX4_restore_22 : decode cX4_restore 22 = .ok (.iconst 0, 1) := dk_3 (dk_at dksX4_restore_0 22 rfl rfl)
theorem dX4_restore_23 : decode cX4_restore 23 = .ok (.invokestatic 123, 3) := dk_184 0 123 (dk_at dksX4_restore_1 0 rfl rfl)
theorem dX4_restore_26 : decode cX4_restore 26 = .ok (.aload_n 0, 1) := dk_42 (dk_at dksX4_restore_1 3 rfl rfl)
theorem dX4_restore_27 : decode cX4_restore 27 = .ok (.iconst 0, 1) := dk_3 (dk_at dksX4_restore_1 4 rfl rfl)
theorem dX4_restore_28 : decode cX4_restore 28 = .ok (.putfield 26, 3) := dk_181 0 26 (dk_at dksX4_restore_1 5 rfl rfl)
theorem dX4_restore_31 : decode cX4_restore 31 = .ok (.aload_n 0, 1) := dk_42 (dk_at dksX4_restore_1 8 rfl rfl)
theorem dX4_restore_32 : decode cX4_restore 32 = .ok (.invokevirtual 354, 3) := dk_182 1 98 (dk_at dksX4_restore_1 9 rfl rfl)
theorem dX4_restore_35 : decode cX4_restore 35 = .ok (.ireturn, 1) := dk_172 (dk_at dksX4_restore_1 12 rfl rfl)
theorem q145 : (Jvm.Cond.initialized "ScheduleAnalyzerModel") ∈ lw_all := lw_g (lw_at lw_m1 31 rfl) rfl
theorem q750 : (Jvm.Cond.selects "ScheduleAnalyzerModel" ({ cls := "java/lang/Object", name := "getClass", desc := "()Ljava/lang/Class;" } : Jvm.MethodName) ({ cls := "java/lang/Object", name := "getClass", desc := "()Ljava/lang/Class;" } : Jvm.MethodName)) ∈ lw_all := lw_g (lw_at lw_m3 156 rfl) rfl
theorem q1841 : (Jvm.Cond.selects "ScheduleAnalyzerModel" ({ cls := "java/lang/Object", name := "equals", desc := "(Ljava/lang/Object;)Z" } : Jvm.MethodName) ({ cls := "java/lang/Object", name := "equals", desc := "(Ljava/lang/Object;)Z" } : Jvm.MethodName)) ∈ lw_all := lw_g (lw_at lw_m8 47 rfl) rfl
theorem q2457 : (Jvm.Cond.selects "ScheduleAnalyzerModel" ({ cls := "java/lang/Object", name := "toString", desc := "()Ljava/lang/String;" } : Jvm.MethodName) ({ cls := "java/lang/Object", name := "toString", desc := "()Ljava/lang/String;" } : Jvm.MethodName)) ∈ lw_all := lw_g (lw_at lw_m10 183 rfl) rfl
theorem q2609 : (Jvm.Cond.instantiable "ScheduleAnalyzerModel" (37 : Nat)) ∈ lw_all := lw_g (lw_at lw_m11 95 rfl) rfl
theorem q2611 : (Jvm.Cond.instanceMethod ({ cls := "ScheduleAnalyzerModel", name := "<init>", desc := "()V" } : Jvm.MethodName)) ∈ lw_all := lw_g (lw_at lw_m11 97 rfl) rfl
theorem q2612 : (Jvm.Cond.code ({ cls := "ScheduleAnalyzerModel", name := "<init>", desc := "()V" } : Jvm.MethodName) prog_12_method_1_code (1 : Nat) (Option.none : Option Jvm.ClassFile.FieldType)) ∈ lw_all := lw_g (lw_at lw_m11 98 rfl) rfl
theorem q2613 : (Jvm.Cond.methodLink "ScheduleAnalyzerModel" (1 : Nat) ({ cls := "java/lang/Object", name := "<init>", desc := "()V" } : Jvm.MethodName)) ∈ lw_all := lw_g (lw_at lw_m11 99 rfl) rfl
theorem q2614 : (Jvm.Cond.fieldLink "ScheduleAnalyzerModel" (7 : Nat) "ScheduleAnalyzerModel" "now" "[I") ∈ lw_all := lw_g (lw_at lw_m11 100 rfl) rfl
theorem q2615 : (Jvm.Cond.fieldLink "ScheduleAnalyzerModel" (13 : Nat) "ScheduleAnalyzerModel" "before" "[I") ∈ lw_all := lw_g (lw_at lw_m11 101 rfl) rfl
theorem q2616 : (Jvm.Cond.fieldLink "ScheduleAnalyzerModel" (16 : Nat) "ScheduleAnalyzerModel" "saved" "[I") ∈ lw_all := lw_g (lw_at lw_m11 102 rfl) rfl
theorem q2617 : (Jvm.Cond.fieldLink "ScheduleAnalyzerModel" (19 : Nat) "ScheduleAnalyzerModel" "history" "[I") ∈ lw_all := lw_g (lw_at lw_m11 103 rfl) rfl
theorem q2618 : (Jvm.Cond.fieldLink "ScheduleAnalyzerModel" (22 : Nat) "ScheduleAnalyzerModel" "thrown" "I") ∈ lw_all := lw_g (lw_at lw_m11 104 rfl) rfl
theorem q2619 : (Jvm.Cond.fieldLink "ScheduleAnalyzerModel" (26 : Nat) "ScheduleAnalyzerModel" "depth" "I") ∈ lw_all := lw_g (lw_at lw_m11 105 rfl) rfl
theorem q2620 : (Jvm.Cond.fieldLink "ScheduleAnalyzerModel" (29 : Nat) "ScheduleAnalyzerModel" "wrongAt" "I") ∈ lw_all := lw_g (lw_at lw_m11 106 rfl) rfl
theorem q2621 : (Jvm.Cond.fieldLink "ScheduleAnalyzerModel" (32 : Nat) "ScheduleAnalyzerModel" "isSaved" "Z") ∈ lw_all := lw_g (lw_at lw_m11 107 rfl) rfl
theorem q2622 : (Jvm.Cond.fieldLink "ScheduleAnalyzerModel" (36 : Nat) "ScheduleAnalyzerModel" "input" "[I") ∈ lw_all := lw_g (lw_at lw_m11 108 rfl) rfl
theorem q2623 : (Jvm.Cond.fieldLink "ScheduleAnalyzerModel" (39 : Nat) "ScheduleAnalyzerModel" "length" "I") ∈ lw_all := lw_g (lw_at lw_m11 109 rfl) rfl
theorem q2624 : (Jvm.Cond.fieldLink "ScheduleAnalyzerModel" (42 : Nat) "ScheduleAnalyzerModel" "at" "I") ∈ lw_all := lw_g (lw_at lw_m11 110 rfl) rfl
theorem q2625 : (Jvm.Cond.fieldLink "ScheduleAnalyzerModel" (45 : Nat) "ScheduleAnalyzerModel" "read" "[I") ∈ lw_all := lw_g (lw_at lw_m11 111 rfl) rfl
theorem q2626 : (Jvm.Cond.fieldLink "ScheduleAnalyzerModel" (48 : Nat) "ScheduleAnalyzerModel" "readCount" "I") ∈ lw_all := lw_g (lw_at lw_m11 112 rfl) rfl
theorem q2627 : (Jvm.Cond.fieldLink "ScheduleAnalyzerModel" (51 : Nat) "ScheduleAnalyzerModel" "kinds" "[I") ∈ lw_all := lw_g (lw_at lw_m11 113 rfl) rfl
theorem q2628 : (Jvm.Cond.fieldLink "ScheduleAnalyzerModel" (54 : Nat) "ScheduleAnalyzerModel" "who" "[I") ∈ lw_all := lw_g (lw_at lw_m11 114 rfl) rfl
theorem q2629 : (Jvm.Cond.fieldLink "ScheduleAnalyzerModel" (57 : Nat) "ScheduleAnalyzerModel" "what" "[I") ∈ lw_all := lw_g (lw_at lw_m11 115 rfl) rfl
theorem q2630 : (Jvm.Cond.fieldLink "ScheduleAnalyzerModel" (60 : Nat) "ScheduleAnalyzerModel" "ahead" "[I") ∈ lw_all := lw_g (lw_at lw_m11 116 rfl) rfl
theorem q2631 : (Jvm.Cond.fieldLink "ScheduleAnalyzerModel" (63 : Nat) "ScheduleAnalyzerModel" "order" "[I") ∈ lw_all := lw_g (lw_at lw_m11 117 rfl) rfl
theorem q2632 : (Jvm.Cond.fieldLink "ScheduleAnalyzerModel" (66 : Nat) "ScheduleAnalyzerModel" "ways" "[I") ∈ lw_all := lw_g (lw_at lw_m11 118 rfl) rfl
theorem q2633 : (Jvm.Cond.fieldLink "ScheduleAnalyzerModel" (69 : Nat) "ScheduleAnalyzerModel" "many" "I") ∈ lw_all := lw_g (lw_at lw_m11 119 rfl) rfl
theorem q2634 : (Jvm.Cond.fieldLink "ScheduleAnalyzerModel" (72 : Nat) "ScheduleAnalyzerModel" "present" "I") ∈ lw_all := lw_g (lw_at lw_m11 120 rfl) rfl
theorem q2635 : (Jvm.Cond.fieldLink "ScheduleAnalyzerModel" (75 : Nat) "ScheduleAnalyzerModel" "status" "[I") ∈ lw_all := lw_g (lw_at lw_m11 121 rfl) rfl
theorem q2636 : (Jvm.Cond.fieldLink "ScheduleAnalyzerModel" (78 : Nat) "ScheduleAnalyzerModel" "readers" "[I") ∈ lw_all := lw_g (lw_at lw_m11 122 rfl) rfl
theorem q2637 : (Jvm.Cond.fieldLink "ScheduleAnalyzerModel" (81 : Nat) "ScheduleAnalyzerModel" "writers" "[I") ∈ lw_all := lw_g (lw_at lw_m11 123 rfl) rfl
theorem q2638 : (Jvm.Cond.fieldLink "ScheduleAnalyzerModel" (84 : Nat) "ScheduleAnalyzerModel" "out" "[I") ∈ lw_all := lw_g (lw_at lw_m11 124 rfl) rfl
theorem q2639 : (Jvm.Cond.fieldLink "ScheduleAnalyzerModel" (87 : Nat) "ScheduleAnalyzerModel" "waitsFor" "[I") ∈ lw_all := lw_g (lw_at lw_m11 125 rfl) rfl
theorem q2640 : (Jvm.Cond.fieldLink "ScheduleAnalyzerModel" (90 : Nat) "ScheduleAnalyzerModel" "outCount" "I") ∈ lw_all := lw_g (lw_at lw_m11 126 rfl) rfl
theorem q2641 : (Jvm.Cond.fieldLink "ScheduleAnalyzerModel" (93 : Nat) "ScheduleAnalyzerModel" "victims" "I") ∈ lw_all := lw_g (lw_at lw_m11 127 rfl) rfl
theorem q2642 : (Jvm.Cond.fieldLink "ScheduleAnalyzerModel" (96 : Nat) "ScheduleAnalyzerModel" "waited" "I") ∈ lw_all := lw_g (lw_at lw_m11 128 rfl) rfl
theorem q2643 : (Jvm.Cond.fieldLink "ScheduleAnalyzerModel" (99 : Nat) "ScheduleAnalyzerModel" "sequence" "[I") ∈ lw_all := lw_g (lw_at lw_m11 129 rfl) rfl
theorem q2644 : (Jvm.Cond.fieldLink "ScheduleAnalyzerModel" (102 : Nat) "ScheduleAnalyzerModel" "place" "[I") ∈ lw_all := lw_g (lw_at lw_m11 130 rfl) rfl
theorem q2645 : (Jvm.Cond.fieldLink "ScheduleAnalyzerModel" (105 : Nat) "ScheduleAnalyzerModel" "perm" "[I") ∈ lw_all := lw_g (lw_at lw_m11 131 rfl) rfl
theorem q2646 : (Jvm.Cond.fieldLink "ScheduleAnalyzerModel" (108 : Nat) "ScheduleAnalyzerModel" "cells" "[I") ∈ lw_all := lw_g (lw_at lw_m11 132 rfl) rfl
theorem q2647 : (Jvm.Cond.fieldLink "ScheduleAnalyzerModel" (111 : Nat) "ScheduleAnalyzerModel" "registers" "[I") ∈ lw_all := lw_g (lw_at lw_m11 133 rfl) rfl
theorem q2648 : (Jvm.Cond.fieldLink "ScheduleAnalyzerModel" (114 : Nat) "ScheduleAnalyzerModel" "replaced" "[I") ∈ lw_all := lw_g (lw_at lw_m11 134 rfl) rfl
theorem q2649 : (Jvm.Cond.fieldLink "ScheduleAnalyzerModel" (117 : Nat) "ScheduleAnalyzerModel" "line" "[I") ∈ lw_all := lw_g (lw_at lw_m11 135 rfl) rfl
theorem q2650 : (Jvm.Cond.fieldLink "ScheduleAnalyzerModel" (120 : Nat) "ScheduleAnalyzerModel" "lineLength" "I") ∈ lw_all := lw_g (lw_at lw_m11 136 rfl) rfl
theorem q2651 : (Jvm.Cond.laysFinal "ScheduleAnalyzerModel" "ScheduleAnalyzerModel" "now" "[I") ∈ lw_all := lw_g (lw_at lw_m11 137 rfl) rfl
theorem q2652 : (Jvm.Cond.soleField "ScheduleAnalyzerModel" "now") ∈ lw_all := lw_g (lw_at lw_m11 138 rfl) rfl
theorem q2653 : (Jvm.Cond.laysFinal "ScheduleAnalyzerModel" "ScheduleAnalyzerModel" "before" "[I") ∈ lw_all := lw_g (lw_at lw_m11 139 rfl) rfl
theorem q2654 : (Jvm.Cond.soleField "ScheduleAnalyzerModel" "before") ∈ lw_all := lw_g (lw_at lw_m11 140 rfl) rfl
theorem q2655 : (Jvm.Cond.laysFinal "ScheduleAnalyzerModel" "ScheduleAnalyzerModel" "saved" "[I") ∈ lw_all := lw_g (lw_at lw_m11 141 rfl) rfl
theorem q2656 : (Jvm.Cond.soleField "ScheduleAnalyzerModel" "saved") ∈ lw_all := lw_g (lw_at lw_m11 142 rfl) rfl
theorem q2657 : (Jvm.Cond.laysFinal "ScheduleAnalyzerModel" "ScheduleAnalyzerModel" "history" "[I") ∈ lw_all := lw_g (lw_at lw_m11 143 rfl) rfl
theorem q2658 : (Jvm.Cond.soleField "ScheduleAnalyzerModel" "history") ∈ lw_all := lw_g (lw_at lw_m11 144 rfl) rfl
theorem q2659 : (Jvm.Cond.lays "ScheduleAnalyzerModel" "ScheduleAnalyzerModel" "thrown" "I") ∈ lw_all := lw_g (lw_at lw_m11 145 rfl) rfl
theorem q2660 : (Jvm.Cond.soleField "ScheduleAnalyzerModel" "thrown") ∈ lw_all := lw_g (lw_at lw_m11 146 rfl) rfl
theorem q2661 : (Jvm.Cond.lays "ScheduleAnalyzerModel" "ScheduleAnalyzerModel" "depth" "I") ∈ lw_all := lw_g (lw_at lw_m11 147 rfl) rfl
theorem q2662 : (Jvm.Cond.soleField "ScheduleAnalyzerModel" "depth") ∈ lw_all := lw_g (lw_at lw_m11 148 rfl) rfl
theorem q2663 : (Jvm.Cond.lays "ScheduleAnalyzerModel" "ScheduleAnalyzerModel" "wrongAt" "I") ∈ lw_all := lw_g (lw_at lw_m11 149 rfl) rfl
theorem q2664 : (Jvm.Cond.soleField "ScheduleAnalyzerModel" "wrongAt") ∈ lw_all := lw_g (lw_at lw_m11 150 rfl) rfl
theorem q2665 : (Jvm.Cond.lays "ScheduleAnalyzerModel" "ScheduleAnalyzerModel" "isSaved" "Z") ∈ lw_all := lw_g (lw_at lw_m11 151 rfl) rfl
theorem q2666 : (Jvm.Cond.soleField "ScheduleAnalyzerModel" "isSaved") ∈ lw_all := lw_g (lw_at lw_m11 152 rfl) rfl
theorem q2667 : (Jvm.Cond.laysFinal "ScheduleAnalyzerModel" "ScheduleAnalyzerModel" "input" "[I") ∈ lw_all := lw_g (lw_at lw_m11 153 rfl) rfl
theorem q2668 : (Jvm.Cond.soleField "ScheduleAnalyzerModel" "input") ∈ lw_all := lw_g (lw_at lw_m11 154 rfl) rfl
theorem q2669 : (Jvm.Cond.lays "ScheduleAnalyzerModel" "ScheduleAnalyzerModel" "length" "I") ∈ lw_all := lw_g (lw_at lw_m11 155 rfl) rfl
theorem q2670 : (Jvm.Cond.soleField "ScheduleAnalyzerModel" "length") ∈ lw_all := lw_g (lw_at lw_m11 156 rfl) rfl
theorem q2671 : (Jvm.Cond.lays "ScheduleAnalyzerModel" "ScheduleAnalyzerModel" "at" "I") ∈ lw_all := lw_g (lw_at lw_m11 157 rfl) rfl
theorem q2672 : (Jvm.Cond.soleField "ScheduleAnalyzerModel" "at") ∈ lw_all := lw_g (lw_at lw_m11 158 rfl) rfl
theorem q2673 : (Jvm.Cond.laysFinal "ScheduleAnalyzerModel" "ScheduleAnalyzerModel" "read" "[I") ∈ lw_all := lw_g (lw_at lw_m11 159 rfl) rfl
theorem q2674 : (Jvm.Cond.soleField "ScheduleAnalyzerModel" "read") ∈ lw_all := lw_g (lw_at lw_m11 160 rfl) rfl
theorem q2675 : (Jvm.Cond.lays "ScheduleAnalyzerModel" "ScheduleAnalyzerModel" "readCount" "I") ∈ lw_all := lw_g (lw_at lw_m11 161 rfl) rfl
theorem q2676 : (Jvm.Cond.soleField "ScheduleAnalyzerModel" "readCount") ∈ lw_all := lw_g (lw_at lw_m11 162 rfl) rfl
theorem q2677 : (Jvm.Cond.laysFinal "ScheduleAnalyzerModel" "ScheduleAnalyzerModel" "kinds" "[I") ∈ lw_all := lw_g (lw_at lw_m11 163 rfl) rfl
theorem q2678 : (Jvm.Cond.soleField "ScheduleAnalyzerModel" "kinds") ∈ lw_all := lw_g (lw_at lw_m11 164 rfl) rfl
theorem q2679 : (Jvm.Cond.laysFinal "ScheduleAnalyzerModel" "ScheduleAnalyzerModel" "who" "[I") ∈ lw_all := lw_g (lw_at lw_m11 165 rfl) rfl
theorem q2680 : (Jvm.Cond.soleField "ScheduleAnalyzerModel" "who") ∈ lw_all := lw_g (lw_at lw_m11 166 rfl) rfl
theorem q2681 : (Jvm.Cond.laysFinal "ScheduleAnalyzerModel" "ScheduleAnalyzerModel" "what" "[I") ∈ lw_all := lw_g (lw_at lw_m11 167 rfl) rfl
theorem q2682 : (Jvm.Cond.soleField "ScheduleAnalyzerModel" "what") ∈ lw_all := lw_g (lw_at lw_m11 168 rfl) rfl
theorem q2683 : (Jvm.Cond.laysFinal "ScheduleAnalyzerModel" "ScheduleAnalyzerModel" "ahead" "[I") ∈ lw_all := lw_g (lw_at lw_m11 169 rfl) rfl
theorem q2684 : (Jvm.Cond.soleField "ScheduleAnalyzerModel" "ahead") ∈ lw_all := lw_g (lw_at lw_m11 170 rfl) rfl
theorem q2685 : (Jvm.Cond.laysFinal "ScheduleAnalyzerModel" "ScheduleAnalyzerModel" "order" "[I") ∈ lw_all := lw_g (lw_at lw_m11 171 rfl) rfl
theorem q2686 : (Jvm.Cond.soleField "ScheduleAnalyzerModel" "order") ∈ lw_all := lw_g (lw_at lw_m11 172 rfl) rfl
theorem q2687 : (Jvm.Cond.laysFinal "ScheduleAnalyzerModel" "ScheduleAnalyzerModel" "ways" "[I") ∈ lw_all := lw_g (lw_at lw_m11 173 rfl) rfl
theorem q2688 : (Jvm.Cond.soleField "ScheduleAnalyzerModel" "ways") ∈ lw_all := lw_g (lw_at lw_m11 174 rfl) rfl
theorem q2689 : (Jvm.Cond.lays "ScheduleAnalyzerModel" "ScheduleAnalyzerModel" "many" "I") ∈ lw_all := lw_g (lw_at lw_m11 175 rfl) rfl
theorem q2690 : (Jvm.Cond.soleField "ScheduleAnalyzerModel" "many") ∈ lw_all := lw_g (lw_at lw_m11 176 rfl) rfl
theorem q2691 : (Jvm.Cond.lays "ScheduleAnalyzerModel" "ScheduleAnalyzerModel" "present" "I") ∈ lw_all := lw_g (lw_at lw_m11 177 rfl) rfl
theorem q2692 : (Jvm.Cond.soleField "ScheduleAnalyzerModel" "present") ∈ lw_all := lw_g (lw_at lw_m11 178 rfl) rfl
theorem q2693 : (Jvm.Cond.laysFinal "ScheduleAnalyzerModel" "ScheduleAnalyzerModel" "status" "[I") ∈ lw_all := lw_g (lw_at lw_m11 179 rfl) rfl
theorem q2694 : (Jvm.Cond.soleField "ScheduleAnalyzerModel" "status") ∈ lw_all := lw_g (lw_at lw_m11 180 rfl) rfl
theorem q2695 : (Jvm.Cond.laysFinal "ScheduleAnalyzerModel" "ScheduleAnalyzerModel" "readers" "[I") ∈ lw_all := lw_g (lw_at lw_m11 181 rfl) rfl
theorem q2696 : (Jvm.Cond.soleField "ScheduleAnalyzerModel" "readers") ∈ lw_all := lw_g (lw_at lw_m11 182 rfl) rfl
theorem q2697 : (Jvm.Cond.laysFinal "ScheduleAnalyzerModel" "ScheduleAnalyzerModel" "writers" "[I") ∈ lw_all := lw_g (lw_at lw_m11 183 rfl) rfl
theorem q2698 : (Jvm.Cond.soleField "ScheduleAnalyzerModel" "writers") ∈ lw_all := lw_g (lw_at lw_m11 184 rfl) rfl
theorem q2699 : (Jvm.Cond.laysFinal "ScheduleAnalyzerModel" "ScheduleAnalyzerModel" "out" "[I") ∈ lw_all := lw_g (lw_at lw_m11 185 rfl) rfl
theorem q2700 : (Jvm.Cond.soleField "ScheduleAnalyzerModel" "out") ∈ lw_all := lw_g (lw_at lw_m11 186 rfl) rfl
theorem q2701 : (Jvm.Cond.laysFinal "ScheduleAnalyzerModel" "ScheduleAnalyzerModel" "waitsFor" "[I") ∈ lw_all := lw_g (lw_at lw_m11 187 rfl) rfl
theorem q2702 : (Jvm.Cond.soleField "ScheduleAnalyzerModel" "waitsFor") ∈ lw_all := lw_g (lw_at lw_m11 188 rfl) rfl
theorem q2703 : (Jvm.Cond.lays "ScheduleAnalyzerModel" "ScheduleAnalyzerModel" "outCount" "I") ∈ lw_all := lw_g (lw_at lw_m11 189 rfl) rfl
theorem q2704 : (Jvm.Cond.soleField "ScheduleAnalyzerModel" "outCount") ∈ lw_all := lw_g (lw_at lw_m11 190 rfl) rfl
theorem q2705 : (Jvm.Cond.lays "ScheduleAnalyzerModel" "ScheduleAnalyzerModel" "victims" "I") ∈ lw_all := lw_g (lw_at lw_m11 191 rfl) rfl
theorem q2706 : (Jvm.Cond.soleField "ScheduleAnalyzerModel" "victims") ∈ lw_all := lw_g (lw_at lw_m11 192 rfl) rfl
theorem q2707 : (Jvm.Cond.lays "ScheduleAnalyzerModel" "ScheduleAnalyzerModel" "waited" "I") ∈ lw_all := lw_g (lw_at lw_m11 193 rfl) rfl
theorem q2708 : (Jvm.Cond.soleField "ScheduleAnalyzerModel" "waited") ∈ lw_all := lw_g (lw_at lw_m11 194 rfl) rfl
theorem q2709 : (Jvm.Cond.laysFinal "ScheduleAnalyzerModel" "ScheduleAnalyzerModel" "sequence" "[I") ∈ lw_all := lw_g (lw_at lw_m11 195 rfl) rfl
theorem q2710 : (Jvm.Cond.soleField "ScheduleAnalyzerModel" "sequence") ∈ lw_all := lw_g (lw_at lw_m11 196 rfl) rfl
theorem q2711 : (Jvm.Cond.laysFinal "ScheduleAnalyzerModel" "ScheduleAnalyzerModel" "place" "[I") ∈ lw_all := lw_g (lw_at lw_m11 197 rfl) rfl
theorem q2712 : (Jvm.Cond.soleField "ScheduleAnalyzerModel" "place") ∈ lw_all := lw_g (lw_at lw_m11 198 rfl) rfl
theorem q2713 : (Jvm.Cond.laysFinal "ScheduleAnalyzerModel" "ScheduleAnalyzerModel" "perm" "[I") ∈ lw_all := lw_g (lw_at lw_m11 199 rfl) rfl
theorem q2714 : (Jvm.Cond.soleField "ScheduleAnalyzerModel" "perm") ∈ lw_all := lw_g (lw_at lw_m11 200 rfl) rfl
theorem q2715 : (Jvm.Cond.laysFinal "ScheduleAnalyzerModel" "ScheduleAnalyzerModel" "cells" "[I") ∈ lw_all := lw_g (lw_at lw_m11 201 rfl) rfl
theorem q2716 : (Jvm.Cond.soleField "ScheduleAnalyzerModel" "cells") ∈ lw_all := lw_g (lw_at lw_m11 202 rfl) rfl
theorem q2717 : (Jvm.Cond.laysFinal "ScheduleAnalyzerModel" "ScheduleAnalyzerModel" "registers" "[I") ∈ lw_all := lw_g (lw_at lw_m11 203 rfl) rfl
theorem q2718 : (Jvm.Cond.soleField "ScheduleAnalyzerModel" "registers") ∈ lw_all := lw_g (lw_at lw_m11 204 rfl) rfl
theorem q2719 : (Jvm.Cond.laysFinal "ScheduleAnalyzerModel" "ScheduleAnalyzerModel" "replaced" "[I") ∈ lw_all := lw_g (lw_at lw_m11 205 rfl) rfl
theorem q2720 : (Jvm.Cond.soleField "ScheduleAnalyzerModel" "replaced") ∈ lw_all := lw_g (lw_at lw_m11 206 rfl) rfl
theorem q2721 : (Jvm.Cond.laysFinal "ScheduleAnalyzerModel" "ScheduleAnalyzerModel" "line" "[I") ∈ lw_all := lw_g (lw_at lw_m11 207 rfl) rfl
theorem q2722 : (Jvm.Cond.soleField "ScheduleAnalyzerModel" "line") ∈ lw_all := lw_g (lw_at lw_m11 208 rfl) rfl
theorem q2723 : (Jvm.Cond.lays "ScheduleAnalyzerModel" "ScheduleAnalyzerModel" "lineLength" "I") ∈ lw_all := lw_g (lw_at lw_m11 209 rfl) rfl
theorem q2724 : (Jvm.Cond.soleField "ScheduleAnalyzerModel" "lineLength") ∈ lw_all := lw_g (lw_at lw_m11 210 rfl) rfl
theorem q2725 : (Jvm.Cond.superclass "ScheduleAnalyzerModel" "java/lang/Object") ∈ lw_all := lw_g (lw_at lw_m11 211 rfl) rfl
theorem q2727 : (Jvm.Cond.instanceMethod ({ cls := "ScheduleAnalyzerModel", name := "thrown", desc := "()I" } : Jvm.MethodName)) ∈ lw_all := lw_g (lw_at lw_m11 213 rfl) rfl
theorem q2728 : (Jvm.Cond.selects "ScheduleAnalyzerModel" ({ cls := "ScheduleAnalyzerModel", name := "thrown", desc := "()I" } : Jvm.MethodName) ({ cls := "ScheduleAnalyzerModel", name := "thrown", desc := "()I" } : Jvm.MethodName)) ∈ lw_all := lw_g (lw_at lw_m11 214 rfl) rfl
theorem q2729 : (Jvm.Cond.code ({ cls := "ScheduleAnalyzerModel", name := "thrown", desc := "()I" } : Jvm.MethodName) prog_12_method_2_code (1 : Nat) (Option.some Jvm.ClassFile.FieldType.int)) ∈ lw_all := lw_g (lw_at lw_m11 215 rfl) rfl
theorem q2731 : (Jvm.Cond.instanceMethod ({ cls := "ScheduleAnalyzerModel", name := "append", desc := "(C)I" } : Jvm.MethodName)) ∈ lw_all := lw_g (lw_at lw_m11 217 rfl) rfl
theorem q2732 : (Jvm.Cond.selects "ScheduleAnalyzerModel" ({ cls := "ScheduleAnalyzerModel", name := "append", desc := "(C)I" } : Jvm.MethodName) ({ cls := "ScheduleAnalyzerModel", name := "append", desc := "(C)I" } : Jvm.MethodName)) ∈ lw_all := lw_g (lw_at lw_m11 218 rfl) rfl
theorem q2733 : (Jvm.Cond.code ({ cls := "ScheduleAnalyzerModel", name := "append", desc := "(C)I" } : Jvm.MethodName) prog_12_method_24_code (2 : Nat) (Option.some Jvm.ClassFile.FieldType.int)) ∈ lw_all := lw_g (lw_at lw_m11 219 rfl) rfl
theorem q2734 : (Jvm.Cond.methodLink "ScheduleAnalyzerModel" (127 : Nat) ({ cls := "ScheduleAnalyzerModel", name := "in", desc := "(III)Z" } : Jvm.MethodName)) ∈ lw_all := lw_g (lw_at lw_m11 220 rfl) rfl
theorem q2735 : (Jvm.Cond.static ({ cls := "ScheduleAnalyzerModel", name := "in", desc := "(III)Z" } : Jvm.MethodName)) ∈ lw_all := lw_g (lw_at lw_m11 221 rfl) rfl
theorem q2736 : (Jvm.Cond.code ({ cls := "ScheduleAnalyzerModel", name := "in", desc := "(III)Z" } : Jvm.MethodName) prog_12_method_3_code (3 : Nat) (Option.some Jvm.ClassFile.FieldType.boolean)) ∈ lw_all := lw_g (lw_at lw_m11 222 rfl) rfl
theorem q2738 : (Jvm.Cond.instanceMethod ({ cls := "ScheduleAnalyzerModel", name := "clearBuffer", desc := "()I" } : Jvm.MethodName)) ∈ lw_all := lw_g (lw_at lw_m11 224 rfl) rfl
theorem q2739 : (Jvm.Cond.selects "ScheduleAnalyzerModel" ({ cls := "ScheduleAnalyzerModel", name := "clearBuffer", desc := "()I" } : Jvm.MethodName) ({ cls := "ScheduleAnalyzerModel", name := "clearBuffer", desc := "()I" } : Jvm.MethodName)) ∈ lw_all := lw_g (lw_at lw_m11 225 rfl) rfl
theorem q2740 : (Jvm.Cond.code ({ cls := "ScheduleAnalyzerModel", name := "clearBuffer", desc := "()I" } : Jvm.MethodName) prog_12_method_25_code (2 : Nat) (Option.some Jvm.ClassFile.FieldType.int)) ∈ lw_all := lw_g (lw_at lw_m11 226 rfl) rfl
theorem q2742 : (Jvm.Cond.instanceMethod ({ cls := "ScheduleAnalyzerModel", name := "write", desc := "(I)I" } : Jvm.MethodName)) ∈ lw_all := lw_g (lw_at lw_m11 228 rfl) rfl
theorem q2743 : (Jvm.Cond.selects "ScheduleAnalyzerModel" ({ cls := "ScheduleAnalyzerModel", name := "write", desc := "(I)I" } : Jvm.MethodName) ({ cls := "ScheduleAnalyzerModel", name := "write", desc := "(I)I" } : Jvm.MethodName)) ∈ lw_all := lw_g (lw_at lw_m11 229 rfl) rfl
theorem q2744 : (Jvm.Cond.code ({ cls := "ScheduleAnalyzerModel", name := "write", desc := "(I)I" } : Jvm.MethodName) prog_12_method_33_code (3 : Nat) (Option.some Jvm.ClassFile.FieldType.int)) ∈ lw_all := lw_g (lw_at lw_m11 230 rfl) rfl
theorem q2745 : (Jvm.Cond.methodLink "ScheduleAnalyzerModel" (177 : Nat) ({ cls := "ScheduleAnalyzerModel", name := "begin", desc := "()V" } : Jvm.MethodName)) ∈ lw_all := lw_g (lw_at lw_m11 231 rfl) rfl
theorem q2746 : (Jvm.Cond.privateMethod ({ cls := "ScheduleAnalyzerModel", name := "begin", desc := "()V" } : Jvm.MethodName)) ∈ lw_tbl := lw_at lw_m11 232 rfl
theorem q2747 : (Jvm.Cond.instanceMethod ({ cls := "ScheduleAnalyzerModel", name := "begin", desc := "()V" } : Jvm.MethodName)) ∈ lw_all := lw_g (lw_at lw_m11 233 rfl) rfl
theorem q2748 : (Jvm.Cond.code ({ cls := "ScheduleAnalyzerModel", name := "begin", desc := "()V" } : Jvm.MethodName) prog_12_method_6_code (1 : Nat) (Option.none : Option Jvm.ClassFile.FieldType)) ∈ lw_all := lw_g (lw_at lw_m11 234 rfl) rfl
theorem q2749 : (Jvm.Cond.methodLink "ScheduleAnalyzerModel" (123 : Nat) ({ cls := "ScheduleAnalyzerModel", name := "copyAll", desc := "([II[II)V" } : Jvm.MethodName)) ∈ lw_all := lw_g (lw_at lw_m11 235 rfl) rfl
theorem q2750 : (Jvm.Cond.static ({ cls := "ScheduleAnalyzerModel", name := "copyAll", desc := "([II[II)V" } : Jvm.MethodName)) ∈ lw_all := lw_g (lw_at lw_m11 236 rfl) rfl
theorem q2751 : (Jvm.Cond.code ({ cls := "ScheduleAnalyzerModel", name := "copyAll", desc := "([II[II)V" } : Jvm.MethodName) prog_12_method_4_code (5 : Nat) (Option.none : Option Jvm.ClassFile.FieldType)) ∈ lw_all := lw_g (lw_at lw_m11 237 rfl) rfl
theorem q2752 : (Jvm.Cond.methodLink "ScheduleAnalyzerModel" (131 : Nat) ({ cls := "ScheduleAnalyzerModel", name := "isSlot", desc := "(I)Z" } : Jvm.MethodName)) ∈ lw_all := lw_g (lw_at lw_m11 238 rfl) rfl
theorem q2753 : (Jvm.Cond.static ({ cls := "ScheduleAnalyzerModel", name := "isSlot", desc := "(I)Z" } : Jvm.MethodName)) ∈ lw_all := lw_g (lw_at lw_m11 239 rfl) rfl
theorem q2754 : (Jvm.Cond.code ({ cls := "ScheduleAnalyzerModel", name := "isSlot", desc := "(I)Z" } : Jvm.MethodName) prog_12_method_10_code (1 : Nat) (Option.some Jvm.ClassFile.FieldType.boolean)) ∈ lw_all := lw_g (lw_at lw_m12 0 rfl) rfl
theorem q2755 : (Jvm.Cond.methodLink "ScheduleAnalyzerModel" (180 : Nat) ({ cls := "ScheduleAnalyzerModel", name := "fail", desc := "(I)I" } : Jvm.MethodName)) ∈ lw_all := lw_g (lw_at lw_m12 1 rfl) rfl
theorem q2756 : (Jvm.Cond.privateMethod ({ cls := "ScheduleAnalyzerModel", name := "fail", desc := "(I)I" } : Jvm.MethodName)) ∈ lw_tbl := lw_at lw_m12 2 rfl
theorem q2757 : (Jvm.Cond.instanceMethod ({ cls := "ScheduleAnalyzerModel", name := "fail", desc := "(I)I" } : Jvm.MethodName)) ∈ lw_all := lw_g (lw_at lw_m12 3 rfl) rfl
theorem q2758 : (Jvm.Cond.code ({ cls := "ScheduleAnalyzerModel", name := "fail", desc := "(I)I" } : Jvm.MethodName) prog_12_method_5_code (2 : Nat) (Option.some Jvm.ClassFile.FieldType.int)) ∈ lw_all := lw_g (lw_at lw_m12 4 rfl) rfl
theorem q2759 : (Jvm.Cond.methodLink "ScheduleAnalyzerModel" (183 : Nat) ({ cls := "ScheduleAnalyzerModel", name := "readsAll", desc := "()Z" } : Jvm.MethodName)) ∈ lw_all := lw_g (lw_at lw_m12 5 rfl) rfl
theorem q2760 : (Jvm.Cond.privateMethod ({ cls := "ScheduleAnalyzerModel", name := "readsAll", desc := "()Z" } : Jvm.MethodName)) ∈ lw_tbl := lw_at lw_m12 6 rfl
theorem q2761 : (Jvm.Cond.instanceMethod ({ cls := "ScheduleAnalyzerModel", name := "readsAll", desc := "()Z" } : Jvm.MethodName)) ∈ lw_all := lw_g (lw_at lw_m12 7 rfl) rfl
theorem q2762 : (Jvm.Cond.code ({ cls := "ScheduleAnalyzerModel", name := "readsAll", desc := "()Z" } : Jvm.MethodName) prog_12_method_30_code (1 : Nat) (Option.some Jvm.ClassFile.FieldType.boolean)) ∈ lw_all := lw_g (lw_at lw_m12 8 rfl) rfl
theorem q2763 : (Jvm.Cond.methodLink "ScheduleAnalyzerModel" (170 : Nat) ({ cls := "ScheduleAnalyzerModel", name := "readsOperation", desc := "()Z" } : Jvm.MethodName)) ∈ lw_all := lw_g (lw_at lw_m12 9 rfl) rfl
theorem q2764 : (Jvm.Cond.privateMethod ({ cls := "ScheduleAnalyzerModel", name := "readsOperation", desc := "()Z" } : Jvm.MethodName)) ∈ lw_tbl := lw_at lw_m12 10 rfl
theorem q2765 : (Jvm.Cond.instanceMethod ({ cls := "ScheduleAnalyzerModel", name := "readsOperation", desc := "()Z" } : Jvm.MethodName)) ∈ lw_all := lw_g (lw_at lw_m12 11 rfl) rfl
theorem q2766 : (Jvm.Cond.code ({ cls := "ScheduleAnalyzerModel", name := "readsOperation", desc := "()Z" } : Jvm.MethodName) prog_12_method_29_code (4 : Nat) (Option.some Jvm.ClassFile.FieldType.boolean)) ∈ lw_all := lw_g (lw_at lw_m12 12 rfl) rfl
theorem q2767 : (Jvm.Cond.methodLink "ScheduleAnalyzerModel" (153 : Nat) ({ cls := "ScheduleAnalyzerModel", name := "mark", desc := "()I" } : Jvm.MethodName)) ∈ lw_all := lw_g (lw_at lw_m12 13 rfl) rfl
theorem q2768 : (Jvm.Cond.privateMethod ({ cls := "ScheduleAnalyzerModel", name := "mark", desc := "()I" } : Jvm.MethodName)) ∈ lw_tbl := lw_at lw_m12 14 rfl
theorem q2769 : (Jvm.Cond.instanceMethod ({ cls := "ScheduleAnalyzerModel", name := "mark", desc := "()I" } : Jvm.MethodName)) ∈ lw_all := lw_g (lw_at lw_m12 15 rfl) rfl
theorem q2770 : (Jvm.Cond.code ({ cls := "ScheduleAnalyzerModel", name := "mark", desc := "()I" } : Jvm.MethodName) prog_12_method_26_code (1 : Nat) (Option.some Jvm.ClassFile.FieldType.int)) ∈ lw_all := lw_g (lw_at lw_m12 16 rfl) rfl
theorem q2771 : (Jvm.Cond.methodLink "ScheduleAnalyzerModel" (157 : Nat) ({ cls := "ScheduleAnalyzerModel", name := "kindOfLetter", desc := "(I)I" } : Jvm.MethodName)) ∈ lw_all := lw_g (lw_at lw_m12 17 rfl) rfl
theorem q2772 : (Jvm.Cond.static ({ cls := "ScheduleAnalyzerModel", name := "kindOfLetter", desc := "(I)I" } : Jvm.MethodName)) ∈ lw_all := lw_g (lw_at lw_m12 18 rfl) rfl
theorem q2773 : (Jvm.Cond.code ({ cls := "ScheduleAnalyzerModel", name := "kindOfLetter", desc := "(I)I" } : Jvm.MethodName) prog_12_method_27_code (1 : Nat) (Option.some Jvm.ClassFile.FieldType.int)) ∈ lw_all := lw_g (lw_at lw_m12 19 rfl) rfl
theorem q2774 : (Jvm.Cond.methodLink "ScheduleAnalyzerModel" (160 : Nat) ({ cls := "ScheduleAnalyzerModel", name := "isTransaction", desc := "(I)Z" } : Jvm.MethodName)) ∈ lw_all := lw_g (lw_at lw_m12 20 rfl) rfl
theorem q2775 : (Jvm.Cond.static ({ cls := "ScheduleAnalyzerModel", name := "isTransaction", desc := "(I)Z" } : Jvm.MethodName)) ∈ lw_all := lw_g (lw_at lw_m12 21 rfl) rfl
theorem q2776 : (Jvm.Cond.code ({ cls := "ScheduleAnalyzerModel", name := "isTransaction", desc := "(I)Z" } : Jvm.MethodName) prog_12_method_11_code (1 : Nat) (Option.some Jvm.ClassFile.FieldType.boolean)) ∈ lw_all := lw_g (lw_at lw_m12 22 rfl) rfl
theorem q2777 : (Jvm.Cond.methodLink "ScheduleAnalyzerModel" (163 : Nat) ({ cls := "ScheduleAnalyzerModel", name := "isItem", desc := "(I)Z" } : Jvm.MethodName)) ∈ lw_all := lw_g (lw_at lw_m12 23 rfl) rfl
theorem q2778 : (Jvm.Cond.static ({ cls := "ScheduleAnalyzerModel", name := "isItem", desc := "(I)Z" } : Jvm.MethodName)) ∈ lw_all := lw_g (lw_at lw_m12 24 rfl) rfl
theorem q2779 : (Jvm.Cond.code ({ cls := "ScheduleAnalyzerModel", name := "isItem", desc := "(I)Z" } : Jvm.MethodName) prog_12_method_12_code (1 : Nat) (Option.some Jvm.ClassFile.FieldType.boolean)) ∈ lw_all := lw_g (lw_at lw_m12 25 rfl) rfl
theorem q2780 : (Jvm.Cond.methodLink "ScheduleAnalyzerModel" (166 : Nat) ({ cls := "ScheduleAnalyzerModel", name := "coded", desc := "(III)I" } : Jvm.MethodName)) ∈ lw_all := lw_g (lw_at lw_m12 26 rfl) rfl
theorem q2781 : (Jvm.Cond.static ({ cls := "ScheduleAnalyzerModel", name := "coded", desc := "(III)I" } : Jvm.MethodName)) ∈ lw_all := lw_g (lw_at lw_m12 27 rfl) rfl
theorem q2782 : (Jvm.Cond.code ({ cls := "ScheduleAnalyzerModel", name := "coded", desc := "(III)I" } : Jvm.MethodName) prog_12_method_15_code (3 : Nat) (Option.some Jvm.ClassFile.FieldType.int)) ∈ lw_all := lw_g (lw_at lw_m12 28 rfl) rfl
theorem q2783 : (Jvm.Cond.methodLink "ScheduleAnalyzerModel" (186 : Nat) ({ cls := "ScheduleAnalyzerModel", name := "isNoSchedule", desc := "()Z" } : Jvm.MethodName)) ∈ lw_all := lw_g (lw_at lw_m12 29 rfl) rfl
theorem q2784 : (Jvm.Cond.privateMethod ({ cls := "ScheduleAnalyzerModel", name := "isNoSchedule", desc := "()Z" } : Jvm.MethodName)) ∈ lw_tbl := lw_at lw_m12 30 rfl
theorem q2785 : (Jvm.Cond.instanceMethod ({ cls := "ScheduleAnalyzerModel", name := "isNoSchedule", desc := "()Z" } : Jvm.MethodName)) ∈ lw_all := lw_g (lw_at lw_m12 31 rfl) rfl
theorem q2786 : (Jvm.Cond.code ({ cls := "ScheduleAnalyzerModel", name := "isNoSchedule", desc := "()Z" } : Jvm.MethodName) prog_12_method_31_code (4 : Nat) (Option.some Jvm.ClassFile.FieldType.boolean)) ∈ lw_all := lw_g (lw_at lw_m12 32 rfl) rfl
theorem q2787 : (Jvm.Cond.methodLink "ScheduleAnalyzerModel" (143 : Nat) ({ cls := "ScheduleAnalyzerModel", name := "transactionOf", desc := "(I)I" } : Jvm.MethodName)) ∈ lw_all := lw_g (lw_at lw_m12 33 rfl) rfl
theorem q2788 : (Jvm.Cond.static ({ cls := "ScheduleAnalyzerModel", name := "transactionOf", desc := "(I)I" } : Jvm.MethodName)) ∈ lw_all := lw_g (lw_at lw_m12 34 rfl) rfl
theorem q2789 : (Jvm.Cond.code ({ cls := "ScheduleAnalyzerModel", name := "transactionOf", desc := "(I)I" } : Jvm.MethodName) prog_12_method_17_code (1 : Nat) (Option.some Jvm.ClassFile.FieldType.int)) ∈ lw_all := lw_g (lw_at lw_m12 35 rfl) rfl
theorem q2790 : (Jvm.Cond.methodLink "ScheduleAnalyzerModel" (146 : Nat) ({ cls := "ScheduleAnalyzerModel", name := "kindOf", desc := "(I)I" } : Jvm.MethodName)) ∈ lw_all := lw_g (lw_at lw_m12 36 rfl) rfl
theorem q2791 : (Jvm.Cond.static ({ cls := "ScheduleAnalyzerModel", name := "kindOf", desc := "(I)I" } : Jvm.MethodName)) ∈ lw_all := lw_g (lw_at lw_m12 37 rfl) rfl
theorem q2792 : (Jvm.Cond.code ({ cls := "ScheduleAnalyzerModel", name := "kindOf", desc := "(I)I" } : Jvm.MethodName) prog_12_method_16_code (1 : Nat) (Option.some Jvm.ClassFile.FieldType.int)) ∈ lw_all := lw_g (lw_at lw_m12 38 rfl) rfl
theorem q2793 : (Jvm.Cond.methodLink "ScheduleAnalyzerModel" (189 : Nat) ({ cls := "ScheduleAnalyzerModel", name := "writes", desc := "(I)I" } : Jvm.MethodName)) ∈ lw_all := lw_g (lw_at lw_m12 39 rfl) rfl
theorem q2794 : (Jvm.Cond.privateMethod ({ cls := "ScheduleAnalyzerModel", name := "writes", desc := "(I)I" } : Jvm.MethodName)) ∈ lw_tbl := lw_at lw_m12 40 rfl
theorem q2795 : (Jvm.Cond.instanceMethod ({ cls := "ScheduleAnalyzerModel", name := "writes", desc := "(I)I" } : Jvm.MethodName)) ∈ lw_all := lw_g (lw_at lw_m12 41 rfl) rfl
theorem q2796 : (Jvm.Cond.code ({ cls := "ScheduleAnalyzerModel", name := "writes", desc := "(I)I" } : Jvm.MethodName) prog_12_method_32_code (4 : Nat) (Option.some Jvm.ClassFile.FieldType.int)) ∈ lw_all := lw_g (lw_at lw_m12 42 rfl) rfl
theorem q2797 : (Jvm.Cond.methodLink "ScheduleAnalyzerModel" (174 : Nat) ({ cls := "ScheduleAnalyzerModel", name := "adds", desc := "(II)I" } : Jvm.MethodName)) ∈ lw_all := lw_g (lw_at lw_m12 43 rfl) rfl
theorem q2798 : (Jvm.Cond.privateMethod ({ cls := "ScheduleAnalyzerModel", name := "adds", desc := "(II)I" } : Jvm.MethodName)) ∈ lw_tbl := lw_at lw_m12 44 rfl
theorem q2799 : (Jvm.Cond.instanceMethod ({ cls := "ScheduleAnalyzerModel", name := "adds", desc := "(II)I" } : Jvm.MethodName)) ∈ lw_all := lw_g (lw_at lw_m12 45 rfl) rfl
theorem q2800 : (Jvm.Cond.code ({ cls := "ScheduleAnalyzerModel", name := "adds", desc := "(II)I" } : Jvm.MethodName) prog_12_method_22_code (3 : Nat) (Option.some Jvm.ClassFile.FieldType.int)) ∈ lw_all := lw_g (lw_at lw_m12 46 rfl) rfl
theorem q2801 : (Jvm.Cond.methodLink "ScheduleAnalyzerModel" (135 : Nat) ({ cls := "ScheduleAnalyzerModel", name := "count", desc := "(I)I" } : Jvm.MethodName)) ∈ lw_all := lw_g (lw_at lw_m12 47 rfl) rfl
theorem q2802 : (Jvm.Cond.privateMethod ({ cls := "ScheduleAnalyzerModel", name := "count", desc := "(I)I" } : Jvm.MethodName)) ∈ lw_tbl := lw_at lw_m12 48 rfl
theorem q2803 : (Jvm.Cond.instanceMethod ({ cls := "ScheduleAnalyzerModel", name := "count", desc := "(I)I" } : Jvm.MethodName)) ∈ lw_all := lw_g (lw_at lw_m12 49 rfl) rfl
theorem q2804 : (Jvm.Cond.code ({ cls := "ScheduleAnalyzerModel", name := "count", desc := "(I)I" } : Jvm.MethodName) prog_12_method_13_code (2 : Nat) (Option.some Jvm.ClassFile.FieldType.int)) ∈ lw_all := lw_g (lw_at lw_m12 50 rfl) rfl
theorem q2805 : (Jvm.Cond.methodLink "ScheduleAnalyzerModel" (192 : Nat) ({ cls := "ScheduleAnalyzerModel", name := "commit", desc := "(I)I" } : Jvm.MethodName)) ∈ lw_all := lw_g (lw_at lw_m12 51 rfl) rfl
theorem q2806 : (Jvm.Cond.privateMethod ({ cls := "ScheduleAnalyzerModel", name := "commit", desc := "(I)I" } : Jvm.MethodName)) ∈ lw_tbl := lw_at lw_m12 52 rfl
theorem q2807 : (Jvm.Cond.instanceMethod ({ cls := "ScheduleAnalyzerModel", name := "commit", desc := "(I)I" } : Jvm.MethodName)) ∈ lw_all := lw_g (lw_at lw_m12 53 rfl) rfl
theorem q2808 : (Jvm.Cond.code ({ cls := "ScheduleAnalyzerModel", name := "commit", desc := "(I)I" } : Jvm.MethodName) prog_12_method_7_code (3 : Nat) (Option.some Jvm.ClassFile.FieldType.int)) ∈ lw_all := lw_g (lw_at lw_m12 54 rfl) rfl
theorem q2810 : (Jvm.Cond.instanceMethod ({ cls := "ScheduleAnalyzerModel", name := "addAccess", desc := "(ICIC)I" } : Jvm.MethodName)) ∈ lw_all := lw_g (lw_at lw_m12 56 rfl) rfl
theorem q2811 : (Jvm.Cond.selects "ScheduleAnalyzerModel" ({ cls := "ScheduleAnalyzerModel", name := "addAccess", desc := "(ICIC)I" } : Jvm.MethodName) ({ cls := "ScheduleAnalyzerModel", name := "addAccess", desc := "(ICIC)I" } : Jvm.MethodName)) ∈ lw_all := lw_g (lw_at lw_m12 57 rfl) rfl
theorem q2812 : (Jvm.Cond.code ({ cls := "ScheduleAnalyzerModel", name := "addAccess", desc := "(ICIC)I" } : Jvm.MethodName) prog_12_method_34_code (5 : Nat) (Option.some Jvm.ClassFile.FieldType.int)) ∈ lw_all := lw_g (lw_at lw_m12 58 rfl) rfl
theorem q2813 : (Jvm.Cond.methodLink "ScheduleAnalyzerModel" (195 : Nat) ({ cls := "ScheduleAnalyzerModel", name := "isFull", desc := "(II)Z" } : Jvm.MethodName)) ∈ lw_all := lw_g (lw_at lw_m12 59 rfl) rfl
theorem q2814 : (Jvm.Cond.privateMethod ({ cls := "ScheduleAnalyzerModel", name := "isFull", desc := "(II)Z" } : Jvm.MethodName)) ∈ lw_tbl := lw_at lw_m12 60 rfl
theorem q2815 : (Jvm.Cond.instanceMethod ({ cls := "ScheduleAnalyzerModel", name := "isFull", desc := "(II)Z" } : Jvm.MethodName)) ∈ lw_all := lw_g (lw_at lw_m12 61 rfl) rfl
theorem q2816 : (Jvm.Cond.code ({ cls := "ScheduleAnalyzerModel", name := "isFull", desc := "(II)Z" } : Jvm.MethodName) prog_12_method_23_code (3 : Nat) (Option.some Jvm.ClassFile.FieldType.boolean)) ∈ lw_all := lw_g (lw_at lw_m12 62 rfl) rfl
theorem q2817 : (Jvm.Cond.methodLink "ScheduleAnalyzerModel" (149 : Nat) ({ cls := "ScheduleAnalyzerModel", name := "has", desc := "(IIII)Z" } : Jvm.MethodName)) ∈ lw_all := lw_g (lw_at lw_m12 63 rfl) rfl
theorem q2818 : (Jvm.Cond.privateMethod ({ cls := "ScheduleAnalyzerModel", name := "has", desc := "(IIII)Z" } : Jvm.MethodName)) ∈ lw_tbl := lw_at lw_m12 64 rfl
theorem q2819 : (Jvm.Cond.instanceMethod ({ cls := "ScheduleAnalyzerModel", name := "has", desc := "(IIII)Z" } : Jvm.MethodName)) ∈ lw_all := lw_g (lw_at lw_m12 65 rfl) rfl
theorem q2820 : (Jvm.Cond.code ({ cls := "ScheduleAnalyzerModel", name := "has", desc := "(IIII)Z" } : Jvm.MethodName) prog_12_method_19_code (6 : Nat) (Option.some Jvm.ClassFile.FieldType.boolean)) ∈ lw_all := lw_g (lw_at lw_m12 66 rfl) rfl
theorem q2821 : (Jvm.Cond.methodLink "ScheduleAnalyzerModel" (139 : Nat) ({ cls := "ScheduleAnalyzerModel", name := "code", desc := "(II)I" } : Jvm.MethodName)) ∈ lw_all := lw_g (lw_at lw_m12 67 rfl) rfl
theorem q2822 : (Jvm.Cond.privateMethod ({ cls := "ScheduleAnalyzerModel", name := "code", desc := "(II)I" } : Jvm.MethodName)) ∈ lw_tbl := lw_at lw_m12 68 rfl
theorem q2823 : (Jvm.Cond.instanceMethod ({ cls := "ScheduleAnalyzerModel", name := "code", desc := "(II)I" } : Jvm.MethodName)) ∈ lw_all := lw_g (lw_at lw_m12 69 rfl) rfl
theorem q2824 : (Jvm.Cond.code ({ cls := "ScheduleAnalyzerModel", name := "code", desc := "(II)I" } : Jvm.MethodName) prog_12_method_14_code (3 : Nat) (Option.some Jvm.ClassFile.FieldType.int)) ∈ lw_all := lw_g (lw_at lw_m12 70 rfl) rfl
theorem q2826 : (Jvm.Cond.instanceMethod ({ cls := "ScheduleAnalyzerModel", name := "addEnd", desc := "(IIZ)I" } : Jvm.MethodName)) ∈ lw_all := lw_g (lw_at lw_m12 72 rfl) rfl
theorem q2827 : (Jvm.Cond.selects "ScheduleAnalyzerModel" ({ cls := "ScheduleAnalyzerModel", name := "addEnd", desc := "(IIZ)I" } : Jvm.MethodName) ({ cls := "ScheduleAnalyzerModel", name := "addEnd", desc := "(IIZ)I" } : Jvm.MethodName)) ∈ lw_all := lw_g (lw_at lw_m12 73 rfl) rfl
theorem q2828 : (Jvm.Cond.code ({ cls := "ScheduleAnalyzerModel", name := "addEnd", desc := "(IIZ)I" } : Jvm.MethodName) prog_12_method_35_code (4 : Nat) (Option.some Jvm.ClassFile.FieldType.int)) ∈ lw_all := lw_g (lw_at lw_m12 74 rfl) rfl
theorem q2830 : (Jvm.Cond.instanceMethod ({ cls := "ScheduleAnalyzerModel", name := "removeAt", desc := "(II)I" } : Jvm.MethodName)) ∈ lw_all := lw_g (lw_at lw_m12 76 rfl) rfl
theorem q2831 : (Jvm.Cond.selects "ScheduleAnalyzerModel" ({ cls := "ScheduleAnalyzerModel", name := "removeAt", desc := "(II)I" } : Jvm.MethodName) ({ cls := "ScheduleAnalyzerModel", name := "removeAt", desc := "(II)I" } : Jvm.MethodName)) ∈ lw_all := lw_g (lw_at lw_m12 77 rfl) rfl
theorem q2832 : (Jvm.Cond.code ({ cls := "ScheduleAnalyzerModel", name := "removeAt", desc := "(II)I" } : Jvm.MethodName) prog_12_method_37_code (3 : Nat) (Option.some Jvm.ClassFile.FieldType.int)) ∈ lw_all := lw_g (lw_at lw_m12 78 rfl) rfl
theorem q2833 : (Jvm.Cond.methodLink "ScheduleAnalyzerModel" (199 : Nat) ({ cls := "ScheduleAnalyzerModel", name := "isOperation", desc := "(II)Z" } : Jvm.MethodName)) ∈ lw_all := lw_g (lw_at lw_m12 79 rfl) rfl
theorem q2834 : (Jvm.Cond.privateMethod ({ cls := "ScheduleAnalyzerModel", name := "isOperation", desc := "(II)Z" } : Jvm.MethodName)) ∈ lw_tbl := lw_at lw_m12 80 rfl
theorem q2835 : (Jvm.Cond.instanceMethod ({ cls := "ScheduleAnalyzerModel", name := "isOperation", desc := "(II)Z" } : Jvm.MethodName)) ∈ lw_all := lw_g (lw_at lw_m12 81 rfl) rfl
theorem q2836 : (Jvm.Cond.code ({ cls := "ScheduleAnalyzerModel", name := "isOperation", desc := "(II)Z" } : Jvm.MethodName) prog_12_method_18_code (3 : Nat) (Option.some Jvm.ClassFile.FieldType.boolean)) ∈ lw_all := lw_g (lw_at lw_m12 82 rfl) rfl
theorem q2837 : (Jvm.Cond.methodLink "ScheduleAnalyzerModel" (202 : Nat) ({ cls := "ScheduleAnalyzerModel", name := "removes", desc := "(II)I" } : Jvm.MethodName)) ∈ lw_all := lw_g (lw_at lw_m12 83 rfl) rfl
theorem q2838 : (Jvm.Cond.privateMethod ({ cls := "ScheduleAnalyzerModel", name := "removes", desc := "(II)I" } : Jvm.MethodName)) ∈ lw_tbl := lw_at lw_m12 84 rfl
theorem q2839 : (Jvm.Cond.instanceMethod ({ cls := "ScheduleAnalyzerModel", name := "removes", desc := "(II)I" } : Jvm.MethodName)) ∈ lw_all := lw_g (lw_at lw_m12 85 rfl) rfl
theorem q2840 : (Jvm.Cond.code ({ cls := "ScheduleAnalyzerModel", name := "removes", desc := "(II)I" } : Jvm.MethodName) prog_12_method_36_code (4 : Nat) (Option.some Jvm.ClassFile.FieldType.int)) ∈ lw_all := lw_g (lw_at lw_m12 86 rfl) rfl
theorem q2842 : (Jvm.Cond.instanceMethod ({ cls := "ScheduleAnalyzerModel", name := "exchange", desc := "(II)I" } : Jvm.MethodName)) ∈ lw_all := lw_g (lw_at lw_m12 88 rfl) rfl
theorem q2843 : (Jvm.Cond.selects "ScheduleAnalyzerModel" ({ cls := "ScheduleAnalyzerModel", name := "exchange", desc := "(II)I" } : Jvm.MethodName) ({ cls := "ScheduleAnalyzerModel", name := "exchange", desc := "(II)I" } : Jvm.MethodName)) ∈ lw_all := lw_g (lw_at lw_m12 89 rfl) rfl
theorem q2844 : (Jvm.Cond.code ({ cls := "ScheduleAnalyzerModel", name := "exchange", desc := "(II)I" } : Jvm.MethodName) prog_12_method_39_code (3 : Nat) (Option.some Jvm.ClassFile.FieldType.int)) ∈ lw_all := lw_g (lw_at lw_m12 90 rfl) rfl
theorem q2845 : (Jvm.Cond.methodLink "ScheduleAnalyzerModel" (205 : Nat) ({ cls := "ScheduleAnalyzerModel", name := "swaps", desc := "(II)I" } : Jvm.MethodName)) ∈ lw_all := lw_g (lw_at lw_m12 91 rfl) rfl
theorem q2846 : (Jvm.Cond.privateMethod ({ cls := "ScheduleAnalyzerModel", name := "swaps", desc := "(II)I" } : Jvm.MethodName)) ∈ lw_tbl := lw_at lw_m12 92 rfl
theorem q2847 : (Jvm.Cond.instanceMethod ({ cls := "ScheduleAnalyzerModel", name := "swaps", desc := "(II)I" } : Jvm.MethodName)) ∈ lw_all := lw_g (lw_at lw_m12 93 rfl) rfl
theorem q2848 : (Jvm.Cond.code ({ cls := "ScheduleAnalyzerModel", name := "swaps", desc := "(II)I" } : Jvm.MethodName) prog_12_method_38_code (4 : Nat) (Option.some Jvm.ClassFile.FieldType.int)) ∈ lw_all := lw_g (lw_at lw_m12 94 rfl) rfl
theorem q2850 : (Jvm.Cond.instanceMethod ({ cls := "ScheduleAnalyzerModel", name := "copy", desc := "(II)I" } : Jvm.MethodName)) ∈ lw_all := lw_g (lw_at lw_m12 96 rfl) rfl
theorem q2851 : (Jvm.Cond.selects "ScheduleAnalyzerModel" ({ cls := "ScheduleAnalyzerModel", name := "copy", desc := "(II)I" } : Jvm.MethodName) ({ cls := "ScheduleAnalyzerModel", name := "copy", desc := "(II)I" } : Jvm.MethodName)) ∈ lw_all := lw_g (lw_at lw_m12 97 rfl) rfl
theorem q2852 : (Jvm.Cond.code ({ cls := "ScheduleAnalyzerModel", name := "copy", desc := "(II)I" } : Jvm.MethodName) prog_12_method_41_code (3 : Nat) (Option.some Jvm.ClassFile.FieldType.int)) ∈ lw_all := lw_g (lw_at lw_m12 98 rfl) rfl
theorem q2853 : (Jvm.Cond.methodLink "ScheduleAnalyzerModel" (208 : Nat) ({ cls := "ScheduleAnalyzerModel", name := "copies", desc := "(II)I" } : Jvm.MethodName)) ∈ lw_all := lw_g (lw_at lw_m12 99 rfl) rfl
theorem q2854 : (Jvm.Cond.privateMethod ({ cls := "ScheduleAnalyzerModel", name := "copies", desc := "(II)I" } : Jvm.MethodName)) ∈ lw_tbl := lw_at lw_m12 100 rfl
theorem q2855 : (Jvm.Cond.instanceMethod ({ cls := "ScheduleAnalyzerModel", name := "copies", desc := "(II)I" } : Jvm.MethodName)) ∈ lw_all := lw_g (lw_at lw_m12 101 rfl) rfl
theorem q2856 : (Jvm.Cond.code ({ cls := "ScheduleAnalyzerModel", name := "copies", desc := "(II)I" } : Jvm.MethodName) prog_12_method_40_code (4 : Nat) (Option.some Jvm.ClassFile.FieldType.int)) ∈ lw_all := lw_g (lw_at lw_m12 102 rfl) rfl
theorem q2858 : (Jvm.Cond.instanceMethod ({ cls := "ScheduleAnalyzerModel", name := "clear", desc := "(I)I" } : Jvm.MethodName)) ∈ lw_all := lw_g (lw_at lw_m12 104 rfl) rfl
theorem q2859 : (Jvm.Cond.selects "ScheduleAnalyzerModel" ({ cls := "ScheduleAnalyzerModel", name := "clear", desc := "(I)I" } : Jvm.MethodName) ({ cls := "ScheduleAnalyzerModel", name := "clear", desc := "(I)I" } : Jvm.MethodName)) ∈ lw_all := lw_g (lw_at lw_m12 105 rfl) rfl
theorem q2860 : (Jvm.Cond.code ({ cls := "ScheduleAnalyzerModel", name := "clear", desc := "(I)I" } : Jvm.MethodName) prog_12_method_43_code (2 : Nat) (Option.some Jvm.ClassFile.FieldType.int)) ∈ lw_all := lw_g (lw_at lw_m12 106 rfl) rfl
theorem q2861 : (Jvm.Cond.methodLink "ScheduleAnalyzerModel" (211 : Nat) ({ cls := "ScheduleAnalyzerModel", name := "clears", desc := "(I)I" } : Jvm.MethodName)) ∈ lw_all := lw_g (lw_at lw_m12 107 rfl) rfl
theorem q2862 : (Jvm.Cond.privateMethod ({ cls := "ScheduleAnalyzerModel", name := "clears", desc := "(I)I" } : Jvm.MethodName)) ∈ lw_tbl := lw_at lw_m12 108 rfl
theorem q2863 : (Jvm.Cond.instanceMethod ({ cls := "ScheduleAnalyzerModel", name := "clears", desc := "(I)I" } : Jvm.MethodName)) ∈ lw_all := lw_g (lw_at lw_m12 109 rfl) rfl
theorem q2864 : (Jvm.Cond.code ({ cls := "ScheduleAnalyzerModel", name := "clears", desc := "(I)I" } : Jvm.MethodName) prog_12_method_42_code (3 : Nat) (Option.some Jvm.ClassFile.FieldType.int)) ∈ lw_all := lw_g (lw_at lw_m12 110 rfl) rfl
theorem q2866 : (Jvm.Cond.instanceMethod ({ cls := "ScheduleAnalyzerModel", name := "setValue", desc := "(CI)I" } : Jvm.MethodName)) ∈ lw_all := lw_g (lw_at lw_m12 112 rfl) rfl
theorem q2867 : (Jvm.Cond.selects "ScheduleAnalyzerModel" ({ cls := "ScheduleAnalyzerModel", name := "setValue", desc := "(CI)I" } : Jvm.MethodName) ({ cls := "ScheduleAnalyzerModel", name := "setValue", desc := "(CI)I" } : Jvm.MethodName)) ∈ lw_all := lw_g (lw_at lw_m12 113 rfl) rfl
theorem q2868 : (Jvm.Cond.code ({ cls := "ScheduleAnalyzerModel", name := "setValue", desc := "(CI)I" } : Jvm.MethodName) prog_12_method_45_code (3 : Nat) (Option.some Jvm.ClassFile.FieldType.int)) ∈ lw_all := lw_g (lw_at lw_m12 114 rfl) rfl
theorem q2869 : (Jvm.Cond.methodLink "ScheduleAnalyzerModel" (214 : Nat) ({ cls := "ScheduleAnalyzerModel", name := "setsValue", desc := "(II)I" } : Jvm.MethodName)) ∈ lw_all := lw_g (lw_at lw_m12 115 rfl) rfl
theorem q2870 : (Jvm.Cond.privateMethod ({ cls := "ScheduleAnalyzerModel", name := "setsValue", desc := "(II)I" } : Jvm.MethodName)) ∈ lw_tbl := lw_at lw_m12 116 rfl
theorem q2871 : (Jvm.Cond.instanceMethod ({ cls := "ScheduleAnalyzerModel", name := "setsValue", desc := "(II)I" } : Jvm.MethodName)) ∈ lw_all := lw_g (lw_at lw_m12 117 rfl) rfl
theorem q2872 : (Jvm.Cond.code ({ cls := "ScheduleAnalyzerModel", name := "setsValue", desc := "(II)I" } : Jvm.MethodName) prog_12_method_44_code (4 : Nat) (Option.some Jvm.ClassFile.FieldType.int)) ∈ lw_all := lw_g (lw_at lw_m12 118 rfl) rfl
theorem q2874 : (Jvm.Cond.instanceMethod ({ cls := "ScheduleAnalyzerModel", name := "serialize", desc := "(II)I" } : Jvm.MethodName)) ∈ lw_all := lw_g (lw_at lw_m12 120 rfl) rfl
theorem q2875 : (Jvm.Cond.selects "ScheduleAnalyzerModel" ({ cls := "ScheduleAnalyzerModel", name := "serialize", desc := "(II)I" } : Jvm.MethodName) ({ cls := "ScheduleAnalyzerModel", name := "serialize", desc := "(II)I" } : Jvm.MethodName)) ∈ lw_all := lw_g (lw_at lw_m12 121 rfl) rfl
theorem q2876 : (Jvm.Cond.code ({ cls := "ScheduleAnalyzerModel", name := "serialize", desc := "(II)I" } : Jvm.MethodName) prog_12_method_55_code (3 : Nat) (Option.some Jvm.ClassFile.FieldType.int)) ∈ lw_all := lw_g (lw_at lw_m12 122 rfl) rfl
theorem q2877 : (Jvm.Cond.methodLink "ScheduleAnalyzerModel" (243 : Nat) ({ cls := "ScheduleAnalyzerModel", name := "isSerial", desc := "(I)Z" } : Jvm.MethodName)) ∈ lw_all := lw_g (lw_at lw_m12 123 rfl) rfl
theorem q2878 : (Jvm.Cond.privateMethod ({ cls := "ScheduleAnalyzerModel", name := "isSerial", desc := "(I)Z" } : Jvm.MethodName)) ∈ lw_tbl := lw_at lw_m12 124 rfl
theorem q2879 : (Jvm.Cond.instanceMethod ({ cls := "ScheduleAnalyzerModel", name := "isSerial", desc := "(I)Z" } : Jvm.MethodName)) ∈ lw_all := lw_g (lw_at lw_m12 125 rfl) rfl
theorem q2880 : (Jvm.Cond.code ({ cls := "ScheduleAnalyzerModel", name := "isSerial", desc := "(I)Z" } : Jvm.MethodName) prog_12_method_53_code (2 : Nat) (Option.some Jvm.ClassFile.FieldType.boolean)) ∈ lw_all := lw_g (lw_at lw_m12 126 rfl) rfl
theorem q2881 : (Jvm.Cond.methodLink "ScheduleAnalyzerModel" (237 : Nat) ({ cls := "ScheduleAnalyzerModel", name := "laySerial", desc := "(I)I" } : Jvm.MethodName)) ∈ lw_all := lw_g (lw_at lw_m12 127 rfl) rfl
theorem q2882 : (Jvm.Cond.privateMethod ({ cls := "ScheduleAnalyzerModel", name := "laySerial", desc := "(I)I" } : Jvm.MethodName)) ∈ lw_tbl := lw_at lw_m12 128 rfl
theorem q2883 : (Jvm.Cond.instanceMethod ({ cls := "ScheduleAnalyzerModel", name := "laySerial", desc := "(I)I" } : Jvm.MethodName)) ∈ lw_all := lw_g (lw_at lw_m12 129 rfl) rfl
theorem q2884 : (Jvm.Cond.code ({ cls := "ScheduleAnalyzerModel", name := "laySerial", desc := "(I)I" } : Jvm.MethodName) prog_12_method_51_code (6 : Nat) (Option.some Jvm.ClassFile.FieldType.int)) ∈ lw_all := lw_g (lw_at lw_m12 130 rfl) rfl
theorem q2885 : (Jvm.Cond.methodLink "ScheduleAnalyzerModel" (234 : Nat) ({ cls := "ScheduleAnalyzerModel", name := "layOrder", desc := "(I)V" } : Jvm.MethodName)) ∈ lw_all := lw_g (lw_at lw_m12 131 rfl) rfl
theorem q2886 : (Jvm.Cond.privateMethod ({ cls := "ScheduleAnalyzerModel", name := "layOrder", desc := "(I)V" } : Jvm.MethodName)) ∈ lw_tbl := lw_at lw_m12 132 rfl
theorem q2887 : (Jvm.Cond.instanceMethod ({ cls := "ScheduleAnalyzerModel", name := "layOrder", desc := "(I)V" } : Jvm.MethodName)) ∈ lw_all := lw_g (lw_at lw_m12 133 rfl) rfl
theorem q2888 : (Jvm.Cond.code ({ cls := "ScheduleAnalyzerModel", name := "layOrder", desc := "(I)V" } : Jvm.MethodName) prog_12_method_50_code (4 : Nat) (Option.none : Option Jvm.ClassFile.FieldType)) ∈ lw_all := lw_g (lw_at lw_m12 134 rfl) rfl
theorem q2889 : (Jvm.Cond.methodLink "ScheduleAnalyzerModel" (227 : Nat) ({ cls := "ScheduleAnalyzerModel", name := "lay", desc := "(IZ)V" } : Jvm.MethodName)) ∈ lw_all := lw_g (lw_at lw_m12 135 rfl) rfl
theorem q2890 : (Jvm.Cond.privateMethod ({ cls := "ScheduleAnalyzerModel", name := "lay", desc := "(IZ)V" } : Jvm.MethodName)) ∈ lw_tbl := lw_at lw_m12 136 rfl
theorem q2891 : (Jvm.Cond.instanceMethod ({ cls := "ScheduleAnalyzerModel", name := "lay", desc := "(IZ)V" } : Jvm.MethodName)) ∈ lw_all := lw_g (lw_at lw_m12 137 rfl) rfl
theorem q2892 : (Jvm.Cond.code ({ cls := "ScheduleAnalyzerModel", name := "lay", desc := "(IZ)V" } : Jvm.MethodName) prog_12_method_47_code (5 : Nat) (Option.none : Option Jvm.ClassFile.FieldType)) ∈ lw_all := lw_g (lw_at lw_m12 138 rfl) rfl
theorem q2893 : (Jvm.Cond.methodLink "ScheduleAnalyzerModel" (217 : Nat) ({ cls := "ScheduleAnalyzerModel", name := "isAborted", desc := "(II)Z" } : Jvm.MethodName)) ∈ lw_all := lw_g (lw_at lw_m12 139 rfl) rfl
theorem q2894 : (Jvm.Cond.privateMethod ({ cls := "ScheduleAnalyzerModel", name := "isAborted", desc := "(II)Z" } : Jvm.MethodName)) ∈ lw_tbl := lw_at lw_m12 140 rfl
theorem q2895 : (Jvm.Cond.instanceMethod ({ cls := "ScheduleAnalyzerModel", name := "isAborted", desc := "(II)Z" } : Jvm.MethodName)) ∈ lw_all := lw_g (lw_at lw_m12 141 rfl) rfl
theorem q2896 : (Jvm.Cond.code ({ cls := "ScheduleAnalyzerModel", name := "isAborted", desc := "(II)Z" } : Jvm.MethodName) prog_12_method_21_code (3 : Nat) (Option.some Jvm.ClassFile.FieldType.boolean)) ∈ lw_all := lw_g (lw_at lw_m12 142 rfl) rfl
theorem q2897 : (Jvm.Cond.methodLink "ScheduleAnalyzerModel" (220 : Nat) ({ cls := "ScheduleAnalyzerModel", name := "layOne", desc := "(I)V" } : Jvm.MethodName)) ∈ lw_all := lw_g (lw_at lw_m12 143 rfl) rfl
theorem q2898 : (Jvm.Cond.privateMethod ({ cls := "ScheduleAnalyzerModel", name := "layOne", desc := "(I)V" } : Jvm.MethodName)) ∈ lw_tbl := lw_at lw_m12 144 rfl
theorem q2899 : (Jvm.Cond.instanceMethod ({ cls := "ScheduleAnalyzerModel", name := "layOne", desc := "(I)V" } : Jvm.MethodName)) ∈ lw_all := lw_g (lw_at lw_m12 145 rfl) rfl
theorem q2900 : (Jvm.Cond.code ({ cls := "ScheduleAnalyzerModel", name := "layOne", desc := "(I)V" } : Jvm.MethodName) prog_12_method_46_code (2 : Nat) (Option.none : Option Jvm.ClassFile.FieldType)) ∈ lw_all := lw_g (lw_at lw_m12 146 rfl) rfl
theorem q2901 : (Jvm.Cond.methodLink "ScheduleAnalyzerModel" (231 : Nat) ({ cls := "ScheduleAnalyzerModel", name := "conflict", desc := "(II)Z" } : Jvm.MethodName)) ∈ lw_all := lw_g (lw_at lw_m12 147 rfl) rfl
theorem q2902 : (Jvm.Cond.privateMethod ({ cls := "ScheduleAnalyzerModel", name := "conflict", desc := "(II)Z" } : Jvm.MethodName)) ∈ lw_tbl := lw_at lw_m12 148 rfl
theorem q2903 : (Jvm.Cond.instanceMethod ({ cls := "ScheduleAnalyzerModel", name := "conflict", desc := "(II)Z" } : Jvm.MethodName)) ∈ lw_all := lw_g (lw_at lw_m12 149 rfl) rfl
theorem q2904 : (Jvm.Cond.code ({ cls := "ScheduleAnalyzerModel", name := "conflict", desc := "(II)Z" } : Jvm.MethodName) prog_12_method_49_code (3 : Nat) (Option.some Jvm.ClassFile.FieldType.boolean)) ∈ lw_all := lw_g (lw_at lw_m12 150 rfl) rfl
theorem q2905 : (Jvm.Cond.methodLink "ScheduleAnalyzerModel" (224 : Nat) ({ cls := "ScheduleAnalyzerModel", name := "isAccess", desc := "(I)Z" } : Jvm.MethodName)) ∈ lw_all := lw_g (lw_at lw_m12 151 rfl) rfl
theorem q2906 : (Jvm.Cond.privateMethod ({ cls := "ScheduleAnalyzerModel", name := "isAccess", desc := "(I)Z" } : Jvm.MethodName)) ∈ lw_tbl := lw_at lw_m12 152 rfl
theorem q2907 : (Jvm.Cond.instanceMethod ({ cls := "ScheduleAnalyzerModel", name := "isAccess", desc := "(I)Z" } : Jvm.MethodName)) ∈ lw_all := lw_g (lw_at lw_m12 153 rfl) rfl
theorem q2908 : (Jvm.Cond.code ({ cls := "ScheduleAnalyzerModel", name := "isAccess", desc := "(I)Z" } : Jvm.MethodName) prog_12_method_48_code (2 : Nat) (Option.some Jvm.ClassFile.FieldType.boolean)) ∈ lw_all := lw_g (lw_at lw_m12 154 rfl) rfl
theorem q2909 : (Jvm.Cond.methodLink "ScheduleAnalyzerModel" (240 : Nat) ({ cls := "ScheduleAnalyzerModel", name := "bits", desc := "(I)I" } : Jvm.MethodName)) ∈ lw_all := lw_g (lw_at lw_m12 155 rfl) rfl
theorem q2910 : (Jvm.Cond.static ({ cls := "ScheduleAnalyzerModel", name := "bits", desc := "(I)I" } : Jvm.MethodName)) ∈ lw_all := lw_g (lw_at lw_m12 156 rfl) rfl
theorem q2911 : (Jvm.Cond.code ({ cls := "ScheduleAnalyzerModel", name := "bits", desc := "(I)I" } : Jvm.MethodName) prog_12_method_52_code (3 : Nat) (Option.some Jvm.ClassFile.FieldType.int)) ∈ lw_all := lw_g (lw_at lw_m12 157 rfl) rfl
theorem q2912 : (Jvm.Cond.methodLink "ScheduleAnalyzerModel" (246 : Nat) ({ cls := "ScheduleAnalyzerModel", name := "serializes", desc := "(II)I" } : Jvm.MethodName)) ∈ lw_all := lw_g (lw_at lw_m12 158 rfl) rfl
theorem q2913 : (Jvm.Cond.privateMethod ({ cls := "ScheduleAnalyzerModel", name := "serializes", desc := "(II)I" } : Jvm.MethodName)) ∈ lw_tbl := lw_at lw_m12 159 rfl
theorem q2914 : (Jvm.Cond.instanceMethod ({ cls := "ScheduleAnalyzerModel", name := "serializes", desc := "(II)I" } : Jvm.MethodName)) ∈ lw_all := lw_g (lw_at lw_m12 160 rfl) rfl
theorem q2915 : (Jvm.Cond.code ({ cls := "ScheduleAnalyzerModel", name := "serializes", desc := "(II)I" } : Jvm.MethodName) prog_12_method_54_code (6 : Nat) (Option.some Jvm.ClassFile.FieldType.int)) ∈ lw_all := lw_g (lw_at lw_m12 161 rfl) rfl
theorem q2917 : (Jvm.Cond.instanceMethod ({ cls := "ScheduleAnalyzerModel", name := "lock", desc := "(II)I" } : Jvm.MethodName)) ∈ lw_all := lw_g (lw_at lw_m12 163 rfl) rfl
theorem q2918 : (Jvm.Cond.selects "ScheduleAnalyzerModel" ({ cls := "ScheduleAnalyzerModel", name := "lock", desc := "(II)I" } : Jvm.MethodName) ({ cls := "ScheduleAnalyzerModel", name := "lock", desc := "(II)I" } : Jvm.MethodName)) ∈ lw_all := lw_g (lw_at lw_m12 164 rfl) rfl
theorem q2919 : (Jvm.Cond.code ({ cls := "ScheduleAnalyzerModel", name := "lock", desc := "(II)I" } : Jvm.MethodName) prog_12_method_68_code (3 : Nat) (Option.some Jvm.ClassFile.FieldType.int)) ∈ lw_all := lw_g (lw_at lw_m12 165 rfl) rfl
theorem q2920 : (Jvm.Cond.methodLink "ScheduleAnalyzerModel" (282 : Nat) ({ cls := "ScheduleAnalyzerModel", name := "locks", desc := "(II)I" } : Jvm.MethodName)) ∈ lw_all := lw_g (lw_at lw_m12 166 rfl) rfl
theorem q2921 : (Jvm.Cond.privateMethod ({ cls := "ScheduleAnalyzerModel", name := "locks", desc := "(II)I" } : Jvm.MethodName)) ∈ lw_tbl := lw_at lw_m12 167 rfl
theorem q2922 : (Jvm.Cond.instanceMethod ({ cls := "ScheduleAnalyzerModel", name := "locks", desc := "(II)I" } : Jvm.MethodName)) ∈ lw_all := lw_g (lw_at lw_m12 168 rfl) rfl
theorem q2923 : (Jvm.Cond.code ({ cls := "ScheduleAnalyzerModel", name := "locks", desc := "(II)I" } : Jvm.MethodName) prog_12_method_67_code (5 : Nat) (Option.some Jvm.ClassFile.FieldType.int)) ∈ lw_all := lw_g (lw_at lw_m12 169 rfl) rfl
theorem q2924 : (Jvm.Cond.methodLink "ScheduleAnalyzerModel" (279 : Nat) ({ cls := "ScheduleAnalyzerModel", name := "executesUnderLocks", desc := "(I)V" } : Jvm.MethodName)) ∈ lw_all := lw_g (lw_at lw_m12 170 rfl) rfl
theorem q2925 : (Jvm.Cond.privateMethod ({ cls := "ScheduleAnalyzerModel", name := "executesUnderLocks", desc := "(I)V" } : Jvm.MethodName)) ∈ lw_tbl := lw_at lw_m12 171 rfl
theorem q2926 : (Jvm.Cond.instanceMethod ({ cls := "ScheduleAnalyzerModel", name := "executesUnderLocks", desc := "(I)V" } : Jvm.MethodName)) ∈ lw_all := lw_g (lw_at lw_m12 172 rfl) rfl
theorem q2927 : (Jvm.Cond.code ({ cls := "ScheduleAnalyzerModel", name := "executesUnderLocks", desc := "(I)V" } : Jvm.MethodName) prog_12_method_66_code (3 : Nat) (Option.none : Option Jvm.ClassFile.FieldType)) ∈ lw_all := lw_g (lw_at lw_m12 173 rfl) rfl
theorem q2928 : (Jvm.Cond.methodLink "ScheduleAnalyzerModel" (276 : Nat) ({ cls := "ScheduleAnalyzerModel", name := "comes", desc := "(I)V" } : Jvm.MethodName)) ∈ lw_all := lw_g (lw_at lw_m12 174 rfl) rfl
theorem q2929 : (Jvm.Cond.privateMethod ({ cls := "ScheduleAnalyzerModel", name := "comes", desc := "(I)V" } : Jvm.MethodName)) ∈ lw_tbl := lw_at lw_m12 175 rfl
theorem q2930 : (Jvm.Cond.instanceMethod ({ cls := "ScheduleAnalyzerModel", name := "comes", desc := "(I)V" } : Jvm.MethodName)) ∈ lw_all := lw_g (lw_at lw_m12 176 rfl) rfl
theorem q2931 : (Jvm.Cond.code ({ cls := "ScheduleAnalyzerModel", name := "comes", desc := "(I)V" } : Jvm.MethodName) prog_12_method_65_code (2 : Nat) (Option.none : Option Jvm.ClassFile.FieldType)) ∈ lw_all := lw_g (lw_at lw_m12 177 rfl) rfl
theorem q2932 : (Jvm.Cond.methodLink "ScheduleAnalyzerModel" (255 : Nat) ({ cls := "ScheduleAnalyzerModel", name := "firstWaiting", desc := "(I)I" } : Jvm.MethodName)) ∈ lw_all := lw_g (lw_at lw_m12 178 rfl) rfl
theorem q2933 : (Jvm.Cond.privateMethod ({ cls := "ScheduleAnalyzerModel", name := "firstWaiting", desc := "(I)I" } : Jvm.MethodName)) ∈ lw_tbl := lw_at lw_m12 179 rfl
theorem q2934 : (Jvm.Cond.instanceMethod ({ cls := "ScheduleAnalyzerModel", name := "firstWaiting", desc := "(I)I" } : Jvm.MethodName)) ∈ lw_all := lw_g (lw_at lw_m12 180 rfl) rfl
theorem q2935 : (Jvm.Cond.code ({ cls := "ScheduleAnalyzerModel", name := "firstWaiting", desc := "(I)I" } : Jvm.MethodName) prog_12_method_57_code (3 : Nat) (Option.some Jvm.ClassFile.FieldType.int)) ∈ lw_all := lw_g (lw_at lw_m12 181 rfl) rfl
theorem q2936 : (Jvm.Cond.methodLink "ScheduleAnalyzerModel" (258 : Nat) ({ cls := "ScheduleAnalyzerModel", name := "preventers", desc := "(I)I" } : Jvm.MethodName)) ∈ lw_all := lw_g (lw_at lw_m12 182 rfl) rfl
theorem q2937 : (Jvm.Cond.privateMethod ({ cls := "ScheduleAnalyzerModel", name := "preventers", desc := "(I)I" } : Jvm.MethodName)) ∈ lw_tbl := lw_at lw_m12 183 rfl
theorem q2938 : (Jvm.Cond.instanceMethod ({ cls := "ScheduleAnalyzerModel", name := "preventers", desc := "(I)I" } : Jvm.MethodName)) ∈ lw_all := lw_g (lw_at lw_m12 184 rfl) rfl
theorem q2939 : (Jvm.Cond.code ({ cls := "ScheduleAnalyzerModel", name := "preventers", desc := "(I)I" } : Jvm.MethodName) prog_12_method_56_code (3 : Nat) (Option.some Jvm.ClassFile.FieldType.int)) ∈ lw_all := lw_g (lw_at lw_m12 185 rfl) rfl
theorem q2940 : (Jvm.Cond.methodLink "ScheduleAnalyzerModel" (264 : Nat) ({ cls := "ScheduleAnalyzerModel", name := "executes", desc := "(I)V" } : Jvm.MethodName)) ∈ lw_all := lw_g (lw_at lw_m12 186 rfl) rfl
theorem q2941 : (Jvm.Cond.privateMethod ({ cls := "ScheduleAnalyzerModel", name := "executes", desc := "(I)V" } : Jvm.MethodName)) ∈ lw_tbl := lw_at lw_m12 187 rfl
theorem q2942 : (Jvm.Cond.instanceMethod ({ cls := "ScheduleAnalyzerModel", name := "executes", desc := "(I)V" } : Jvm.MethodName)) ∈ lw_all := lw_g (lw_at lw_m12 188 rfl) rfl
theorem q2943 : (Jvm.Cond.code ({ cls := "ScheduleAnalyzerModel", name := "executes", desc := "(I)V" } : Jvm.MethodName) prog_12_method_60_code (2 : Nat) (Option.none : Option Jvm.ClassFile.FieldType)) ∈ lw_all := lw_g (lw_at lw_m12 189 rfl) rfl
theorem q2944 : (Jvm.Cond.methodLink "ScheduleAnalyzerModel" (249 : Nat) ({ cls := "ScheduleAnalyzerModel", name := "puts", desc := "(I)V" } : Jvm.MethodName)) ∈ lw_all := lw_g (lw_at lw_m12 190 rfl) rfl
theorem q2945 : (Jvm.Cond.privateMethod ({ cls := "ScheduleAnalyzerModel", name := "puts", desc := "(I)V" } : Jvm.MethodName)) ∈ lw_tbl := lw_at lw_m12 191 rfl
theorem q2946 : (Jvm.Cond.instanceMethod ({ cls := "ScheduleAnalyzerModel", name := "puts", desc := "(I)V" } : Jvm.MethodName)) ∈ lw_all := lw_g (lw_at lw_m12 192 rfl) rfl
theorem q2947 : (Jvm.Cond.code ({ cls := "ScheduleAnalyzerModel", name := "puts", desc := "(I)V" } : Jvm.MethodName) prog_12_method_59_code (2 : Nat) (Option.none : Option Jvm.ClassFile.FieldType)) ∈ lw_all := lw_g (lw_at lw_m12 193 rfl) rfl
theorem q2948 : (Jvm.Cond.methodLink "ScheduleAnalyzerModel" (252 : Nat) ({ cls := "ScheduleAnalyzerModel", name := "ends", desc := "(I)V" } : Jvm.MethodName)) ∈ lw_all := lw_g (lw_at lw_m12 194 rfl) rfl
theorem q2949 : (Jvm.Cond.privateMethod ({ cls := "ScheduleAnalyzerModel", name := "ends", desc := "(I)V" } : Jvm.MethodName)) ∈ lw_tbl := lw_at lw_m12 195 rfl
theorem q2950 : (Jvm.Cond.instanceMethod ({ cls := "ScheduleAnalyzerModel", name := "ends", desc := "(I)V" } : Jvm.MethodName)) ∈ lw_all := lw_g (lw_at lw_m12 196 rfl) rfl
theorem q2951 : (Jvm.Cond.code ({ cls := "ScheduleAnalyzerModel", name := "ends", desc := "(I)V" } : Jvm.MethodName) prog_12_method_58_code (3 : Nat) (Option.none : Option Jvm.ClassFile.FieldType)) ∈ lw_all := lw_g (lw_at lw_m12 197 rfl) rfl
theorem q2952 : (Jvm.Cond.methodLink "ScheduleAnalyzerModel" (267 : Nat) ({ cls := "ScheduleAnalyzerModel", name := "tries", desc := "()V" } : Jvm.MethodName)) ∈ lw_all := lw_g (lw_at lw_m12 198 rfl) rfl
theorem q2953 : (Jvm.Cond.privateMethod ({ cls := "ScheduleAnalyzerModel", name := "tries", desc := "()V" } : Jvm.MethodName)) ∈ lw_tbl := lw_at lw_m12 199 rfl
theorem q2954 : (Jvm.Cond.instanceMethod ({ cls := "ScheduleAnalyzerModel", name := "tries", desc := "()V" } : Jvm.MethodName)) ∈ lw_all := lw_g (lw_at lw_m12 200 rfl) rfl
theorem q2955 : (Jvm.Cond.code ({ cls := "ScheduleAnalyzerModel", name := "tries", desc := "()V" } : Jvm.MethodName) prog_12_method_62_code (2 : Nat) (Option.none : Option Jvm.ClassFile.FieldType)) ∈ lw_all := lw_g (lw_at lw_m12 201 rfl) rfl
theorem q2956 : (Jvm.Cond.methodLink "ScheduleAnalyzerModel" (261 : Nat) ({ cls := "ScheduleAnalyzerModel", name := "nextPossible", desc := "()I" } : Jvm.MethodName)) ∈ lw_all := lw_g (lw_at lw_m12 202 rfl) rfl
theorem q2957 : (Jvm.Cond.privateMethod ({ cls := "ScheduleAnalyzerModel", name := "nextPossible", desc := "()I" } : Jvm.MethodName)) ∈ lw_tbl := lw_at lw_m12 203 rfl
theorem q2958 : (Jvm.Cond.instanceMethod ({ cls := "ScheduleAnalyzerModel", name := "nextPossible", desc := "()I" } : Jvm.MethodName)) ∈ lw_all := lw_g (lw_at lw_m12 204 rfl) rfl
theorem q2959 : (Jvm.Cond.code ({ cls := "ScheduleAnalyzerModel", name := "nextPossible", desc := "()I" } : Jvm.MethodName) prog_12_method_61_code (2 : Nat) (Option.some Jvm.ClassFile.FieldType.int)) ∈ lw_all := lw_g (lw_at lw_m12 205 rfl) rfl
theorem q2960 : (Jvm.Cond.methodLink "ScheduleAnalyzerModel" (270 : Nat) ({ cls := "ScheduleAnalyzerModel", name := "greatestInRing", desc := "()I" } : Jvm.MethodName)) ∈ lw_all := lw_g (lw_at lw_m12 206 rfl) rfl
theorem q2961 : (Jvm.Cond.privateMethod ({ cls := "ScheduleAnalyzerModel", name := "greatestInRing", desc := "()I" } : Jvm.MethodName)) ∈ lw_tbl := lw_at lw_m12 207 rfl
theorem q2962 : (Jvm.Cond.instanceMethod ({ cls := "ScheduleAnalyzerModel", name := "greatestInRing", desc := "()I" } : Jvm.MethodName)) ∈ lw_all := lw_g (lw_at lw_m12 208 rfl) rfl
theorem q2963 : (Jvm.Cond.code ({ cls := "ScheduleAnalyzerModel", name := "greatestInRing", desc := "()I" } : Jvm.MethodName) prog_12_method_63_code (3 : Nat) (Option.some Jvm.ClassFile.FieldType.int)) ∈ lw_all := lw_g (lw_at lw_m12 209 rfl) rfl
theorem q2964 : (Jvm.Cond.methodLink "ScheduleAnalyzerModel" (273 : Nat) ({ cls := "ScheduleAnalyzerModel", name := "sacrifices", desc := "(I)V" } : Jvm.MethodName)) ∈ lw_all := lw_g (lw_at lw_m12 210 rfl) rfl
theorem q2965 : (Jvm.Cond.privateMethod ({ cls := "ScheduleAnalyzerModel", name := "sacrifices", desc := "(I)V" } : Jvm.MethodName)) ∈ lw_tbl := lw_at lw_m12 211 rfl
theorem q2966 : (Jvm.Cond.instanceMethod ({ cls := "ScheduleAnalyzerModel", name := "sacrifices", desc := "(I)V" } : Jvm.MethodName)) ∈ lw_all := lw_g (lw_at lw_m12 212 rfl) rfl
theorem q2967 : (Jvm.Cond.code ({ cls := "ScheduleAnalyzerModel", name := "sacrifices", desc := "(I)V" } : Jvm.MethodName) prog_12_method_64_code (3 : Nat) (Option.none : Option Jvm.ClassFile.FieldType)) ∈ lw_all := lw_g (lw_at lw_m12 213 rfl) rfl
theorem q2969 : (Jvm.Cond.instanceMethod ({ cls := "ScheduleAnalyzerModel", name := "waitingCount", desc := "(I)I" } : Jvm.MethodName)) ∈ lw_all := lw_g (lw_at lw_m12 215 rfl) rfl
theorem q2970 : (Jvm.Cond.selects "ScheduleAnalyzerModel" ({ cls := "ScheduleAnalyzerModel", name := "waitingCount", desc := "(I)I" } : Jvm.MethodName) ({ cls := "ScheduleAnalyzerModel", name := "waitingCount", desc := "(I)I" } : Jvm.MethodName)) ∈ lw_all := lw_g (lw_at lw_m12 216 rfl) rfl
theorem q2971 : (Jvm.Cond.code ({ cls := "ScheduleAnalyzerModel", name := "waitingCount", desc := "(I)I" } : Jvm.MethodName) prog_12_method_69_code (2 : Nat) (Option.some Jvm.ClassFile.FieldType.int)) ∈ lw_all := lw_g (lw_at lw_m12 217 rfl) rfl
theorem q2972 : (Jvm.Cond.methodLink "ScheduleAnalyzerModel" (285 : Nat) ({ cls := "ScheduleAnalyzerModel", name := "checked", desc := "(Z)I" } : Jvm.MethodName)) ∈ lw_all := lw_g (lw_at lw_m12 218 rfl) rfl
theorem q2973 : (Jvm.Cond.privateMethod ({ cls := "ScheduleAnalyzerModel", name := "checked", desc := "(Z)I" } : Jvm.MethodName)) ∈ lw_tbl := lw_at lw_m12 219 rfl
theorem q2974 : (Jvm.Cond.instanceMethod ({ cls := "ScheduleAnalyzerModel", name := "checked", desc := "(Z)I" } : Jvm.MethodName)) ∈ lw_all := lw_g (lw_at lw_m12 220 rfl) rfl
theorem q2975 : (Jvm.Cond.code ({ cls := "ScheduleAnalyzerModel", name := "checked", desc := "(Z)I" } : Jvm.MethodName) prog_12_method_9_code (2 : Nat) (Option.some Jvm.ClassFile.FieldType.int)) ∈ lw_all := lw_g (lw_at lw_m12 221 rfl) rfl
theorem q2977 : (Jvm.Cond.instanceMethod ({ cls := "ScheduleAnalyzerModel", name := "victimCount", desc := "(I)I" } : Jvm.MethodName)) ∈ lw_all := lw_g (lw_at lw_m12 223 rfl) rfl
theorem q2978 : (Jvm.Cond.selects "ScheduleAnalyzerModel" ({ cls := "ScheduleAnalyzerModel", name := "victimCount", desc := "(I)I" } : Jvm.MethodName) ({ cls := "ScheduleAnalyzerModel", name := "victimCount", desc := "(I)I" } : Jvm.MethodName)) ∈ lw_all := lw_g (lw_at lw_m12 224 rfl) rfl
theorem q2979 : (Jvm.Cond.code ({ cls := "ScheduleAnalyzerModel", name := "victimCount", desc := "(I)I" } : Jvm.MethodName) prog_12_method_70_code (2 : Nat) (Option.some Jvm.ClassFile.FieldType.int)) ∈ lw_all := lw_g (lw_at lw_m12 225 rfl) rfl
theorem q2981 : (Jvm.Cond.instanceMethod ({ cls := "ScheduleAnalyzerModel", name := "isVictim", desc := "(II)Z" } : Jvm.MethodName)) ∈ lw_all := lw_g (lw_at lw_m12 227 rfl) rfl
theorem q2982 : (Jvm.Cond.selects "ScheduleAnalyzerModel" ({ cls := "ScheduleAnalyzerModel", name := "isVictim", desc := "(II)Z" } : Jvm.MethodName) ({ cls := "ScheduleAnalyzerModel", name := "isVictim", desc := "(II)Z" } : Jvm.MethodName)) ∈ lw_all := lw_g (lw_at lw_m12 228 rfl) rfl
theorem q2983 : (Jvm.Cond.code ({ cls := "ScheduleAnalyzerModel", name := "isVictim", desc := "(II)Z" } : Jvm.MethodName) prog_12_method_71_code (3 : Nat) (Option.some Jvm.ClassFile.FieldType.boolean)) ∈ lw_all := lw_g (lw_at lw_m12 229 rfl) rfl
theorem q2985 : (Jvm.Cond.instanceMethod ({ cls := "ScheduleAnalyzerModel", name := "operationCount", desc := "(I)I" } : Jvm.MethodName)) ∈ lw_all := lw_g (lw_at lw_m12 231 rfl) rfl
theorem q2986 : (Jvm.Cond.selects "ScheduleAnalyzerModel" ({ cls := "ScheduleAnalyzerModel", name := "operationCount", desc := "(I)I" } : Jvm.MethodName) ({ cls := "ScheduleAnalyzerModel", name := "operationCount", desc := "(I)I" } : Jvm.MethodName)) ∈ lw_all := lw_g (lw_at lw_m12 232 rfl) rfl
theorem q2987 : (Jvm.Cond.code ({ cls := "ScheduleAnalyzerModel", name := "operationCount", desc := "(I)I" } : Jvm.MethodName) prog_12_method_72_code (2 : Nat) (Option.some Jvm.ClassFile.FieldType.int)) ∈ lw_all := lw_g (lw_at lw_m12 233 rfl) rfl
theorem q2989 : (Jvm.Cond.instanceMethod ({ cls := "ScheduleAnalyzerModel", name := "kindAt", desc := "(II)C" } : Jvm.MethodName)) ∈ lw_all := lw_g (lw_at lw_m12 235 rfl) rfl
theorem q2990 : (Jvm.Cond.selects "ScheduleAnalyzerModel" ({ cls := "ScheduleAnalyzerModel", name := "kindAt", desc := "(II)C" } : Jvm.MethodName) ({ cls := "ScheduleAnalyzerModel", name := "kindAt", desc := "(II)C" } : Jvm.MethodName)) ∈ lw_all := lw_g (lw_at lw_m12 236 rfl) rfl
theorem q2991 : (Jvm.Cond.code ({ cls := "ScheduleAnalyzerModel", name := "kindAt", desc := "(II)C" } : Jvm.MethodName) prog_12_method_73_code (3 : Nat) (Option.some Jvm.ClassFile.FieldType.char)) ∈ lw_all := lw_g (lw_at lw_m12 237 rfl) rfl
theorem q2992 : (Jvm.Cond.methodLink "ScheduleAnalyzerModel" (289 : Nat) ({ cls := "ScheduleAnalyzerModel", name := "letterOfKind", desc := "(I)I" } : Jvm.MethodName)) ∈ lw_all := lw_g (lw_at lw_m12 238 rfl) rfl
theorem q2993 : (Jvm.Cond.static ({ cls := "ScheduleAnalyzerModel", name := "letterOfKind", desc := "(I)I" } : Jvm.MethodName)) ∈ lw_all := lw_g (lw_at lw_m12 239 rfl) rfl
theorem q2994 : (Jvm.Cond.code ({ cls := "ScheduleAnalyzerModel", name := "letterOfKind", desc := "(I)I" } : Jvm.MethodName) prog_12_method_28_code (1 : Nat) (Option.some Jvm.ClassFile.FieldType.int)) ∈ lw_all := lw_g (lw_at lw_m13 0 rfl) rfl
theorem q2996 : (Jvm.Cond.instanceMethod ({ cls := "ScheduleAnalyzerModel", name := "transactionAt", desc := "(II)I" } : Jvm.MethodName)) ∈ lw_all := lw_g (lw_at lw_m13 2 rfl) rfl
theorem q2997 : (Jvm.Cond.selects "ScheduleAnalyzerModel" ({ cls := "ScheduleAnalyzerModel", name := "transactionAt", desc := "(II)I" } : Jvm.MethodName) ({ cls := "ScheduleAnalyzerModel", name := "transactionAt", desc := "(II)I" } : Jvm.MethodName)) ∈ lw_all := lw_g (lw_at lw_m13 3 rfl) rfl
theorem q2998 : (Jvm.Cond.code ({ cls := "ScheduleAnalyzerModel", name := "transactionAt", desc := "(II)I" } : Jvm.MethodName) prog_12_method_74_code (3 : Nat) (Option.some Jvm.ClassFile.FieldType.int)) ∈ lw_all := lw_g (lw_at lw_m13 4 rfl) rfl
theorem q3000 : (Jvm.Cond.instanceMethod ({ cls := "ScheduleAnalyzerModel", name := "itemAt", desc := "(II)C" } : Jvm.MethodName)) ∈ lw_all := lw_g (lw_at lw_m13 6 rfl) rfl
theorem q3001 : (Jvm.Cond.selects "ScheduleAnalyzerModel" ({ cls := "ScheduleAnalyzerModel", name := "itemAt", desc := "(II)C" } : Jvm.MethodName) ({ cls := "ScheduleAnalyzerModel", name := "itemAt", desc := "(II)C" } : Jvm.MethodName)) ∈ lw_all := lw_g (lw_at lw_m13 7 rfl) rfl
theorem q3002 : (Jvm.Cond.code ({ cls := "ScheduleAnalyzerModel", name := "itemAt", desc := "(II)C" } : Jvm.MethodName) prog_12_method_75_code (3 : Nat) (Option.some Jvm.ClassFile.FieldType.char)) ∈ lw_all := lw_g (lw_at lw_m13 8 rfl) rfl
theorem q3004 : (Jvm.Cond.instanceMethod ({ cls := "ScheduleAnalyzerModel", name := "stateOf", desc := "(II)C" } : Jvm.MethodName)) ∈ lw_all := lw_g (lw_at lw_m13 10 rfl) rfl
theorem q3005 : (Jvm.Cond.selects "ScheduleAnalyzerModel" ({ cls := "ScheduleAnalyzerModel", name := "stateOf", desc := "(II)C" } : Jvm.MethodName) ({ cls := "ScheduleAnalyzerModel", name := "stateOf", desc := "(II)C" } : Jvm.MethodName)) ∈ lw_all := lw_g (lw_at lw_m13 11 rfl) rfl
theorem q3006 : (Jvm.Cond.code ({ cls := "ScheduleAnalyzerModel", name := "stateOf", desc := "(II)C" } : Jvm.MethodName) prog_12_method_76_code (3 : Nat) (Option.some Jvm.ClassFile.FieldType.char)) ∈ lw_all := lw_g (lw_at lw_m13 12 rfl) rfl
theorem q3007 : (Jvm.Cond.methodLink "ScheduleAnalyzerModel" (292 : Nat) ({ cls := "ScheduleAnalyzerModel", name := "isPresent", desc := "(II)Z" } : Jvm.MethodName)) ∈ lw_all := lw_g (lw_at lw_m13 13 rfl) rfl
theorem q3008 : (Jvm.Cond.privateMethod ({ cls := "ScheduleAnalyzerModel", name := "isPresent", desc := "(II)Z" } : Jvm.MethodName)) ∈ lw_tbl := lw_at lw_m13 14 rfl
theorem q3009 : (Jvm.Cond.instanceMethod ({ cls := "ScheduleAnalyzerModel", name := "isPresent", desc := "(II)Z" } : Jvm.MethodName)) ∈ lw_all := lw_g (lw_at lw_m13 15 rfl) rfl
theorem q3010 : (Jvm.Cond.code ({ cls := "ScheduleAnalyzerModel", name := "isPresent", desc := "(II)Z" } : Jvm.MethodName) prog_12_method_20_code (3 : Nat) (Option.some Jvm.ClassFile.FieldType.boolean)) ∈ lw_all := lw_g (lw_at lw_m13 16 rfl) rfl
theorem q3012 : (Jvm.Cond.instanceMethod ({ cls := "ScheduleAnalyzerModel", name := "conflictCount", desc := "(I)I" } : Jvm.MethodName)) ∈ lw_all := lw_g (lw_at lw_m13 18 rfl) rfl
theorem q3013 : (Jvm.Cond.selects "ScheduleAnalyzerModel" ({ cls := "ScheduleAnalyzerModel", name := "conflictCount", desc := "(I)I" } : Jvm.MethodName) ({ cls := "ScheduleAnalyzerModel", name := "conflictCount", desc := "(I)I" } : Jvm.MethodName)) ∈ lw_all := lw_g (lw_at lw_m13 19 rfl) rfl
theorem q3014 : (Jvm.Cond.code ({ cls := "ScheduleAnalyzerModel", name := "conflictCount", desc := "(I)I" } : Jvm.MethodName) prog_12_method_78_code (2 : Nat) (Option.some Jvm.ClassFile.FieldType.int)) ∈ lw_all := lw_g (lw_at lw_m13 20 rfl) rfl
theorem q3015 : (Jvm.Cond.methodLink "ScheduleAnalyzerModel" (295 : Nat) ({ cls := "ScheduleAnalyzerModel", name := "conflicts", desc := "(I)I" } : Jvm.MethodName)) ∈ lw_all := lw_g (lw_at lw_m13 21 rfl) rfl
theorem q3016 : (Jvm.Cond.privateMethod ({ cls := "ScheduleAnalyzerModel", name := "conflicts", desc := "(I)I" } : Jvm.MethodName)) ∈ lw_tbl := lw_at lw_m13 22 rfl
theorem q3017 : (Jvm.Cond.instanceMethod ({ cls := "ScheduleAnalyzerModel", name := "conflicts", desc := "(I)I" } : Jvm.MethodName)) ∈ lw_all := lw_g (lw_at lw_m13 23 rfl) rfl
theorem q3018 : (Jvm.Cond.code ({ cls := "ScheduleAnalyzerModel", name := "conflicts", desc := "(I)I" } : Jvm.MethodName) prog_12_method_77_code (5 : Nat) (Option.some Jvm.ClassFile.FieldType.int)) ∈ lw_all := lw_g (lw_at lw_m13 24 rfl) rfl
theorem q3020 : (Jvm.Cond.instanceMethod ({ cls := "ScheduleAnalyzerModel", name := "conflictCountByItems", desc := "(I)I" } : Jvm.MethodName)) ∈ lw_all := lw_g (lw_at lw_m13 26 rfl) rfl
theorem q3021 : (Jvm.Cond.selects "ScheduleAnalyzerModel" ({ cls := "ScheduleAnalyzerModel", name := "conflictCountByItems", desc := "(I)I" } : Jvm.MethodName) ({ cls := "ScheduleAnalyzerModel", name := "conflictCountByItems", desc := "(I)I" } : Jvm.MethodName)) ∈ lw_all := lw_g (lw_at lw_m13 27 rfl) rfl
theorem q3022 : (Jvm.Cond.code ({ cls := "ScheduleAnalyzerModel", name := "conflictCountByItems", desc := "(I)I" } : Jvm.MethodName) prog_12_method_79_code (2 : Nat) (Option.some Jvm.ClassFile.FieldType.int)) ∈ lw_all := lw_g (lw_at lw_m13 28 rfl) rfl
theorem q3024 : (Jvm.Cond.instanceMethod ({ cls := "ScheduleAnalyzerModel", name := "comesBefore", desc := "(III)Z" } : Jvm.MethodName)) ∈ lw_all := lw_g (lw_at lw_m13 30 rfl) rfl
theorem q3025 : (Jvm.Cond.selects "ScheduleAnalyzerModel" ({ cls := "ScheduleAnalyzerModel", name := "comesBefore", desc := "(III)Z" } : Jvm.MethodName) ({ cls := "ScheduleAnalyzerModel", name := "comesBefore", desc := "(III)Z" } : Jvm.MethodName)) ∈ lw_all := lw_g (lw_at lw_m13 31 rfl) rfl
theorem q3026 : (Jvm.Cond.code ({ cls := "ScheduleAnalyzerModel", name := "comesBefore", desc := "(III)Z" } : Jvm.MethodName) prog_12_method_80_code (4 : Nat) (Option.some Jvm.ClassFile.FieldType.boolean)) ∈ lw_all := lw_g (lw_at lw_m13 32 rfl) rfl
theorem q3028 : (Jvm.Cond.instanceMethod ({ cls := "ScheduleAnalyzerModel", name := "isSerializable", desc := "(I)Z" } : Jvm.MethodName)) ∈ lw_all := lw_g (lw_at lw_m13 34 rfl) rfl
theorem q3029 : (Jvm.Cond.selects "ScheduleAnalyzerModel" ({ cls := "ScheduleAnalyzerModel", name := "isSerializable", desc := "(I)Z" } : Jvm.MethodName) ({ cls := "ScheduleAnalyzerModel", name := "isSerializable", desc := "(I)Z" } : Jvm.MethodName)) ∈ lw_all := lw_g (lw_at lw_m13 35 rfl) rfl
theorem q3030 : (Jvm.Cond.code ({ cls := "ScheduleAnalyzerModel", name := "isSerializable", desc := "(I)Z" } : Jvm.MethodName) prog_12_method_81_code (2 : Nat) (Option.some Jvm.ClassFile.FieldType.boolean)) ∈ lw_all := lw_g (lw_at lw_m13 36 rfl) rfl
theorem q3032 : (Jvm.Cond.instanceMethod ({ cls := "ScheduleAnalyzerModel", name := "isSerializableByWalks", desc := "(I)Z" } : Jvm.MethodName)) ∈ lw_all := lw_g (lw_at lw_m13 38 rfl) rfl
theorem q3033 : (Jvm.Cond.selects "ScheduleAnalyzerModel" ({ cls := "ScheduleAnalyzerModel", name := "isSerializableByWalks", desc := "(I)Z" } : Jvm.MethodName) ({ cls := "ScheduleAnalyzerModel", name := "isSerializableByWalks", desc := "(I)Z" } : Jvm.MethodName)) ∈ lw_all := lw_g (lw_at lw_m13 39 rfl) rfl
theorem q3034 : (Jvm.Cond.code ({ cls := "ScheduleAnalyzerModel", name := "isSerializableByWalks", desc := "(I)Z" } : Jvm.MethodName) prog_12_method_82_code (2 : Nat) (Option.some Jvm.ClassFile.FieldType.boolean)) ∈ lw_all := lw_g (lw_at lw_m13 40 rfl) rfl
theorem q3036 : (Jvm.Cond.instanceMethod ({ cls := "ScheduleAnalyzerModel", name := "serialOrders", desc := "(I)I" } : Jvm.MethodName)) ∈ lw_all := lw_g (lw_at lw_m13 42 rfl) rfl
theorem q3037 : (Jvm.Cond.selects "ScheduleAnalyzerModel" ({ cls := "ScheduleAnalyzerModel", name := "serialOrders", desc := "(I)I" } : Jvm.MethodName) ({ cls := "ScheduleAnalyzerModel", name := "serialOrders", desc := "(I)I" } : Jvm.MethodName)) ∈ lw_all := lw_g (lw_at lw_m13 43 rfl) rfl
theorem q3038 : (Jvm.Cond.code ({ cls := "ScheduleAnalyzerModel", name := "serialOrders", desc := "(I)I" } : Jvm.MethodName) prog_12_method_84_code (2 : Nat) (Option.some Jvm.ClassFile.FieldType.int)) ∈ lw_all := lw_g (lw_at lw_m13 44 rfl) rfl
theorem q3039 : (Jvm.Cond.methodLink "ScheduleAnalyzerModel" (298 : Nat) ({ cls := "ScheduleAnalyzerModel", name := "orders", desc := "(I)I" } : Jvm.MethodName)) ∈ lw_all := lw_g (lw_at lw_m13 45 rfl) rfl
theorem q3040 : (Jvm.Cond.privateMethod ({ cls := "ScheduleAnalyzerModel", name := "orders", desc := "(I)I" } : Jvm.MethodName)) ∈ lw_tbl := lw_at lw_m13 46 rfl
theorem q3041 : (Jvm.Cond.instanceMethod ({ cls := "ScheduleAnalyzerModel", name := "orders", desc := "(I)I" } : Jvm.MethodName)) ∈ lw_all := lw_g (lw_at lw_m13 47 rfl) rfl
theorem q3042 : (Jvm.Cond.code ({ cls := "ScheduleAnalyzerModel", name := "orders", desc := "(I)I" } : Jvm.MethodName) prog_12_method_83_code (5 : Nat) (Option.some Jvm.ClassFile.FieldType.int)) ∈ lw_all := lw_g (lw_at lw_m13 48 rfl) rfl
theorem q3044 : (Jvm.Cond.instanceMethod ({ cls := "ScheduleAnalyzerModel", name := "serialOrdersByTrying", desc := "(I)I" } : Jvm.MethodName)) ∈ lw_all := lw_g (lw_at lw_m13 50 rfl) rfl
theorem q3045 : (Jvm.Cond.selects "ScheduleAnalyzerModel" ({ cls := "ScheduleAnalyzerModel", name := "serialOrdersByTrying", desc := "(I)I" } : Jvm.MethodName) ({ cls := "ScheduleAnalyzerModel", name := "serialOrdersByTrying", desc := "(I)I" } : Jvm.MethodName)) ∈ lw_all := lw_g (lw_at lw_m13 51 rfl) rfl
theorem q3046 : (Jvm.Cond.code ({ cls := "ScheduleAnalyzerModel", name := "serialOrdersByTrying", desc := "(I)I" } : Jvm.MethodName) prog_12_method_85_code (2 : Nat) (Option.some Jvm.ClassFile.FieldType.int)) ∈ lw_all := lw_g (lw_at lw_m13 52 rfl) rfl
theorem q3048 : (Jvm.Cond.instanceMethod ({ cls := "ScheduleAnalyzerModel", name := "serialAt", desc := "(II)I" } : Jvm.MethodName)) ∈ lw_all := lw_g (lw_at lw_m13 54 rfl) rfl
theorem q3049 : (Jvm.Cond.selects "ScheduleAnalyzerModel" ({ cls := "ScheduleAnalyzerModel", name := "serialAt", desc := "(II)I" } : Jvm.MethodName) ({ cls := "ScheduleAnalyzerModel", name := "serialAt", desc := "(II)I" } : Jvm.MethodName)) ∈ lw_all := lw_g (lw_at lw_m13 55 rfl) rfl
theorem q3050 : (Jvm.Cond.code ({ cls := "ScheduleAnalyzerModel", name := "serialAt", desc := "(II)I" } : Jvm.MethodName) prog_12_method_86_code (3 : Nat) (Option.some Jvm.ClassFile.FieldType.int)) ∈ lw_all := lw_g (lw_at lw_m13 56 rfl) rfl
theorem q3052 : (Jvm.Cond.instanceMethod ({ cls := "ScheduleAnalyzerModel", name := "areEquivalent", desc := "(II)Z" } : Jvm.MethodName)) ∈ lw_all := lw_g (lw_at lw_m13 58 rfl) rfl
theorem q3053 : (Jvm.Cond.selects "ScheduleAnalyzerModel" ({ cls := "ScheduleAnalyzerModel", name := "areEquivalent", desc := "(II)Z" } : Jvm.MethodName) ({ cls := "ScheduleAnalyzerModel", name := "areEquivalent", desc := "(II)Z" } : Jvm.MethodName)) ∈ lw_all := lw_g (lw_at lw_m13 59 rfl) rfl
theorem q3054 : (Jvm.Cond.code ({ cls := "ScheduleAnalyzerModel", name := "areEquivalent", desc := "(II)Z" } : Jvm.MethodName) prog_12_method_88_code (5 : Nat) (Option.some Jvm.ClassFile.FieldType.boolean)) ∈ lw_all := lw_g (lw_at lw_m13 60 rfl) rfl
theorem q3055 : (Jvm.Cond.methodLink "ScheduleAnalyzerModel" (301 : Nat) ({ cls := "ScheduleAnalyzerModel", name := "twin", desc := "(II)I" } : Jvm.MethodName)) ∈ lw_all := lw_g (lw_at lw_m13 61 rfl) rfl
theorem q3056 : (Jvm.Cond.privateMethod ({ cls := "ScheduleAnalyzerModel", name := "twin", desc := "(II)I" } : Jvm.MethodName)) ∈ lw_tbl := lw_at lw_m13 62 rfl
theorem q3057 : (Jvm.Cond.instanceMethod ({ cls := "ScheduleAnalyzerModel", name := "twin", desc := "(II)I" } : Jvm.MethodName)) ∈ lw_all := lw_g (lw_at lw_m13 63 rfl) rfl
theorem q3058 : (Jvm.Cond.code ({ cls := "ScheduleAnalyzerModel", name := "twin", desc := "(II)I" } : Jvm.MethodName) prog_12_method_87_code (5 : Nat) (Option.some Jvm.ClassFile.FieldType.int)) ∈ lw_all := lw_g (lw_at lw_m13 64 rfl) rfl
theorem q3060 : (Jvm.Cond.instanceMethod ({ cls := "ScheduleAnalyzerModel", name := "isViewSerializable", desc := "(I)Z" } : Jvm.MethodName)) ∈ lw_all := lw_g (lw_at lw_m13 66 rfl) rfl
theorem q3061 : (Jvm.Cond.selects "ScheduleAnalyzerModel" ({ cls := "ScheduleAnalyzerModel", name := "isViewSerializable", desc := "(I)Z" } : Jvm.MethodName) ({ cls := "ScheduleAnalyzerModel", name := "isViewSerializable", desc := "(I)Z" } : Jvm.MethodName)) ∈ lw_all := lw_g (lw_at lw_m13 67 rfl) rfl
theorem q3062 : (Jvm.Cond.code ({ cls := "ScheduleAnalyzerModel", name := "isViewSerializable", desc := "(I)Z" } : Jvm.MethodName) prog_12_method_95_code (5 : Nat) (Option.some Jvm.ClassFile.FieldType.boolean)) ∈ lw_all := lw_g (lw_at lw_m13 68 rfl) rfl
theorem q3063 : (Jvm.Cond.methodLink "ScheduleAnalyzerModel" (313 : Nat) ({ cls := "ScheduleAnalyzerModel", name := "layPermutation", desc := "(II)V" } : Jvm.MethodName)) ∈ lw_all := lw_g (lw_at lw_m13 69 rfl) rfl
theorem q3064 : (Jvm.Cond.privateMethod ({ cls := "ScheduleAnalyzerModel", name := "layPermutation", desc := "(II)V" } : Jvm.MethodName)) ∈ lw_tbl := lw_at lw_m13 70 rfl
theorem q3065 : (Jvm.Cond.instanceMethod ({ cls := "ScheduleAnalyzerModel", name := "layPermutation", desc := "(II)V" } : Jvm.MethodName)) ∈ lw_all := lw_g (lw_at lw_m13 71 rfl) rfl
theorem q3066 : (Jvm.Cond.code ({ cls := "ScheduleAnalyzerModel", name := "layPermutation", desc := "(II)V" } : Jvm.MethodName) prog_12_method_93_code (8 : Nat) (Option.none : Option Jvm.ClassFile.FieldType)) ∈ lw_all := lw_g (lw_at lw_m13 72 rfl) rfl
theorem q3067 : (Jvm.Cond.methodLink "ScheduleAnalyzerModel" (317 : Nat) ({ cls := "ScheduleAnalyzerModel", name := "laySequence", desc := "(I)V" } : Jvm.MethodName)) ∈ lw_all := lw_g (lw_at lw_m13 73 rfl) rfl
theorem q3068 : (Jvm.Cond.privateMethod ({ cls := "ScheduleAnalyzerModel", name := "laySequence", desc := "(I)V" } : Jvm.MethodName)) ∈ lw_tbl := lw_at lw_m13 74 rfl
theorem q3069 : (Jvm.Cond.instanceMethod ({ cls := "ScheduleAnalyzerModel", name := "laySequence", desc := "(I)V" } : Jvm.MethodName)) ∈ lw_all := lw_g (lw_at lw_m13 75 rfl) rfl
theorem q3070 : (Jvm.Cond.code ({ cls := "ScheduleAnalyzerModel", name := "laySequence", desc := "(I)V" } : Jvm.MethodName) prog_12_method_94_code (5 : Nat) (Option.none : Option Jvm.ClassFile.FieldType)) ∈ lw_all := lw_g (lw_at lw_m13 76 rfl) rfl
theorem q3071 : (Jvm.Cond.methodLink "ScheduleAnalyzerModel" (310 : Nat) ({ cls := "ScheduleAnalyzerModel", name := "layPlaces", desc := "()V" } : Jvm.MethodName)) ∈ lw_all := lw_g (lw_at lw_m13 77 rfl) rfl
theorem q3072 : (Jvm.Cond.privateMethod ({ cls := "ScheduleAnalyzerModel", name := "layPlaces", desc := "()V" } : Jvm.MethodName)) ∈ lw_tbl := lw_at lw_m13 78 rfl
theorem q3073 : (Jvm.Cond.instanceMethod ({ cls := "ScheduleAnalyzerModel", name := "layPlaces", desc := "()V" } : Jvm.MethodName)) ∈ lw_all := lw_g (lw_at lw_m13 79 rfl) rfl
theorem q3074 : (Jvm.Cond.code ({ cls := "ScheduleAnalyzerModel", name := "layPlaces", desc := "()V" } : Jvm.MethodName) prog_12_method_89_code (2 : Nat) (Option.none : Option Jvm.ClassFile.FieldType)) ∈ lw_all := lw_g (lw_at lw_m13 80 rfl) rfl
theorem q3075 : (Jvm.Cond.methodLink "ScheduleAnalyzerModel" (320 : Nat) ({ cls := "ScheduleAnalyzerModel", name := "isSameView", desc := "()Z" } : Jvm.MethodName)) ∈ lw_all := lw_g (lw_at lw_m13 81 rfl) rfl
theorem q3076 : (Jvm.Cond.privateMethod ({ cls := "ScheduleAnalyzerModel", name := "isSameView", desc := "()Z" } : Jvm.MethodName)) ∈ lw_tbl := lw_at lw_m13 82 rfl
theorem q3077 : (Jvm.Cond.instanceMethod ({ cls := "ScheduleAnalyzerModel", name := "isSameView", desc := "()Z" } : Jvm.MethodName)) ∈ lw_all := lw_g (lw_at lw_m13 83 rfl) rfl
theorem q3078 : (Jvm.Cond.code ({ cls := "ScheduleAnalyzerModel", name := "isSameView", desc := "()Z" } : Jvm.MethodName) prog_12_method_92_code (2 : Nat) (Option.some Jvm.ClassFile.FieldType.boolean)) ∈ lw_all := lw_g (lw_at lw_m13 84 rfl) rfl
theorem q3079 : (Jvm.Cond.methodLink "ScheduleAnalyzerModel" (304 : Nat) ({ cls := "ScheduleAnalyzerModel", name := "latestWrite", desc := "(II)I" } : Jvm.MethodName)) ∈ lw_all := lw_g (lw_at lw_m13 85 rfl) rfl
theorem q3080 : (Jvm.Cond.privateMethod ({ cls := "ScheduleAnalyzerModel", name := "latestWrite", desc := "(II)I" } : Jvm.MethodName)) ∈ lw_tbl := lw_at lw_m13 86 rfl
theorem q3081 : (Jvm.Cond.instanceMethod ({ cls := "ScheduleAnalyzerModel", name := "latestWrite", desc := "(II)I" } : Jvm.MethodName)) ∈ lw_all := lw_g (lw_at lw_m13 87 rfl) rfl
theorem q3082 : (Jvm.Cond.code ({ cls := "ScheduleAnalyzerModel", name := "latestWrite", desc := "(II)I" } : Jvm.MethodName) prog_12_method_90_code (4 : Nat) (Option.some Jvm.ClassFile.FieldType.int)) ∈ lw_all := lw_g (lw_at lw_m13 88 rfl) rfl
theorem q3083 : (Jvm.Cond.methodLink "ScheduleAnalyzerModel" (307 : Nat) ({ cls := "ScheduleAnalyzerModel", name := "latestInRest", desc := "(II)I" } : Jvm.MethodName)) ∈ lw_all := lw_g (lw_at lw_m13 89 rfl) rfl
theorem q3084 : (Jvm.Cond.privateMethod ({ cls := "ScheduleAnalyzerModel", name := "latestInRest", desc := "(II)I" } : Jvm.MethodName)) ∈ lw_tbl := lw_at lw_m13 90 rfl
theorem q3085 : (Jvm.Cond.instanceMethod ({ cls := "ScheduleAnalyzerModel", name := "latestInRest", desc := "(II)I" } : Jvm.MethodName)) ∈ lw_all := lw_g (lw_at lw_m13 91 rfl) rfl
theorem q3086 : (Jvm.Cond.code ({ cls := "ScheduleAnalyzerModel", name := "latestInRest", desc := "(II)I" } : Jvm.MethodName) prog_12_method_91_code (4 : Nat) (Option.some Jvm.ClassFile.FieldType.int)) ∈ lw_all := lw_g (lw_at lw_m13 92 rfl) rfl
theorem q3088 : (Jvm.Cond.instanceMethod ({ cls := "ScheduleAnalyzerModel", name := "sourceOf", desc := "(II)I" } : Jvm.MethodName)) ∈ lw_all := lw_g (lw_at lw_m13 94 rfl) rfl
theorem q3089 : (Jvm.Cond.selects "ScheduleAnalyzerModel" ({ cls := "ScheduleAnalyzerModel", name := "sourceOf", desc := "(II)I" } : Jvm.MethodName) ({ cls := "ScheduleAnalyzerModel", name := "sourceOf", desc := "(II)I" } : Jvm.MethodName)) ∈ lw_all := lw_g (lw_at lw_m13 95 rfl) rfl
theorem q3090 : (Jvm.Cond.code ({ cls := "ScheduleAnalyzerModel", name := "sourceOf", desc := "(II)I" } : Jvm.MethodName) prog_12_method_98_code (3 : Nat) (Option.some Jvm.ClassFile.FieldType.int)) ∈ lw_all := lw_g (lw_at lw_m13 96 rfl) rfl
theorem q3091 : (Jvm.Cond.methodLink "ScheduleAnalyzerModel" (326 : Nat) ({ cls := "ScheduleAnalyzerModel", name := "source", desc := "(I)I" } : Jvm.MethodName)) ∈ lw_all := lw_g (lw_at lw_m13 97 rfl) rfl
theorem q3092 : (Jvm.Cond.privateMethod ({ cls := "ScheduleAnalyzerModel", name := "source", desc := "(I)I" } : Jvm.MethodName)) ∈ lw_tbl := lw_at lw_m13 98 rfl
theorem q3093 : (Jvm.Cond.instanceMethod ({ cls := "ScheduleAnalyzerModel", name := "source", desc := "(I)I" } : Jvm.MethodName)) ∈ lw_all := lw_g (lw_at lw_m13 99 rfl) rfl
theorem q3094 : (Jvm.Cond.code ({ cls := "ScheduleAnalyzerModel", name := "source", desc := "(I)I" } : Jvm.MethodName) prog_12_method_97_code (3 : Nat) (Option.some Jvm.ClassFile.FieldType.int)) ∈ lw_all := lw_g (lw_at lw_m13 100 rfl) rfl
theorem q3095 : (Jvm.Cond.methodLink "ScheduleAnalyzerModel" (323 : Nat) ({ cls := "ScheduleAnalyzerModel", name := "hasBefore", desc := "(III)Z" } : Jvm.MethodName)) ∈ lw_all := lw_g (lw_at lw_m13 101 rfl) rfl
theorem q3096 : (Jvm.Cond.privateMethod ({ cls := "ScheduleAnalyzerModel", name := "hasBefore", desc := "(III)Z" } : Jvm.MethodName)) ∈ lw_tbl := lw_at lw_m13 102 rfl
theorem q3097 : (Jvm.Cond.instanceMethod ({ cls := "ScheduleAnalyzerModel", name := "hasBefore", desc := "(III)Z" } : Jvm.MethodName)) ∈ lw_all := lw_g (lw_at lw_m13 103 rfl) rfl
theorem q3098 : (Jvm.Cond.code ({ cls := "ScheduleAnalyzerModel", name := "hasBefore", desc := "(III)Z" } : Jvm.MethodName) prog_12_method_96_code (5 : Nat) (Option.some Jvm.ClassFile.FieldType.boolean)) ∈ lw_all := lw_g (lw_at lw_m13 104 rfl) rfl
theorem q3100 : (Jvm.Cond.instanceMethod ({ cls := "ScheduleAnalyzerModel", name := "dirtyReads", desc := "(I)I" } : Jvm.MethodName)) ∈ lw_all := lw_g (lw_at lw_m13 106 rfl) rfl
theorem q3101 : (Jvm.Cond.selects "ScheduleAnalyzerModel" ({ cls := "ScheduleAnalyzerModel", name := "dirtyReads", desc := "(I)I" } : Jvm.MethodName) ({ cls := "ScheduleAnalyzerModel", name := "dirtyReads", desc := "(I)I" } : Jvm.MethodName)) ∈ lw_all := lw_g (lw_at lw_m13 107 rfl) rfl
theorem q3102 : (Jvm.Cond.code ({ cls := "ScheduleAnalyzerModel", name := "dirtyReads", desc := "(I)I" } : Jvm.MethodName) prog_12_method_101_code (2 : Nat) (Option.some Jvm.ClassFile.FieldType.int)) ∈ lw_all := lw_g (lw_at lw_m13 108 rfl) rfl
theorem q3103 : (Jvm.Cond.methodLink "ScheduleAnalyzerModel" (332 : Nat) ({ cls := "ScheduleAnalyzerModel", name := "dirt", desc := "(I)I" } : Jvm.MethodName)) ∈ lw_all := lw_g (lw_at lw_m13 109 rfl) rfl
theorem q3104 : (Jvm.Cond.privateMethod ({ cls := "ScheduleAnalyzerModel", name := "dirt", desc := "(I)I" } : Jvm.MethodName)) ∈ lw_tbl := lw_at lw_m13 110 rfl
theorem q3105 : (Jvm.Cond.instanceMethod ({ cls := "ScheduleAnalyzerModel", name := "dirt", desc := "(I)I" } : Jvm.MethodName)) ∈ lw_all := lw_g (lw_at lw_m13 111 rfl) rfl
theorem q3106 : (Jvm.Cond.code ({ cls := "ScheduleAnalyzerModel", name := "dirt", desc := "(I)I" } : Jvm.MethodName) prog_12_method_100_code (4 : Nat) (Option.some Jvm.ClassFile.FieldType.int)) ∈ lw_all := lw_g (lw_at lw_m13 112 rfl) rfl
theorem q3107 : (Jvm.Cond.methodLink "ScheduleAnalyzerModel" (329 : Nat) ({ cls := "ScheduleAnalyzerModel", name := "isForeign", desc := "(I)Z" } : Jvm.MethodName)) ∈ lw_all := lw_g (lw_at lw_m13 113 rfl) rfl
theorem q3108 : (Jvm.Cond.privateMethod ({ cls := "ScheduleAnalyzerModel", name := "isForeign", desc := "(I)Z" } : Jvm.MethodName)) ∈ lw_tbl := lw_at lw_m13 114 rfl
theorem q3109 : (Jvm.Cond.instanceMethod ({ cls := "ScheduleAnalyzerModel", name := "isForeign", desc := "(I)Z" } : Jvm.MethodName)) ∈ lw_all := lw_g (lw_at lw_m13 115 rfl) rfl
theorem q3110 : (Jvm.Cond.code ({ cls := "ScheduleAnalyzerModel", name := "isForeign", desc := "(I)Z" } : Jvm.MethodName) prog_12_method_99_code (2 : Nat) (Option.some Jvm.ClassFile.FieldType.boolean)) ∈ lw_all := lw_g (lw_at lw_m13 116 rfl) rfl
theorem q3112 : (Jvm.Cond.instanceMethod ({ cls := "ScheduleAnalyzerModel", name := "avoidsCascades", desc := "(I)Z" } : Jvm.MethodName)) ∈ lw_all := lw_g (lw_at lw_m13 118 rfl) rfl
theorem q3113 : (Jvm.Cond.selects "ScheduleAnalyzerModel" ({ cls := "ScheduleAnalyzerModel", name := "avoidsCascades", desc := "(I)Z" } : Jvm.MethodName) ({ cls := "ScheduleAnalyzerModel", name := "avoidsCascades", desc := "(I)Z" } : Jvm.MethodName)) ∈ lw_all := lw_g (lw_at lw_m13 119 rfl) rfl
theorem q3114 : (Jvm.Cond.code ({ cls := "ScheduleAnalyzerModel", name := "avoidsCascades", desc := "(I)Z" } : Jvm.MethodName) prog_12_method_102_code (2 : Nat) (Option.some Jvm.ClassFile.FieldType.boolean)) ∈ lw_all := lw_g (lw_at lw_m13 120 rfl) rfl
theorem q3116 : (Jvm.Cond.instanceMethod ({ cls := "ScheduleAnalyzerModel", name := "isRecoverable", desc := "(I)Z" } : Jvm.MethodName)) ∈ lw_all := lw_g (lw_at lw_m13 122 rfl) rfl
theorem q3117 : (Jvm.Cond.selects "ScheduleAnalyzerModel" ({ cls := "ScheduleAnalyzerModel", name := "isRecoverable", desc := "(I)Z" } : Jvm.MethodName) ({ cls := "ScheduleAnalyzerModel", name := "isRecoverable", desc := "(I)Z" } : Jvm.MethodName)) ∈ lw_all := lw_g (lw_at lw_m13 123 rfl) rfl
theorem q3118 : (Jvm.Cond.code ({ cls := "ScheduleAnalyzerModel", name := "isRecoverable", desc := "(I)Z" } : Jvm.MethodName) prog_12_method_103_code (4 : Nat) (Option.some Jvm.ClassFile.FieldType.boolean)) ∈ lw_all := lw_g (lw_at lw_m13 124 rfl) rfl
theorem q3120 : (Jvm.Cond.instanceMethod ({ cls := "ScheduleAnalyzerModel", name := "isStrict", desc := "(I)Z" } : Jvm.MethodName)) ∈ lw_all := lw_g (lw_at lw_m13 126 rfl) rfl
theorem q3121 : (Jvm.Cond.selects "ScheduleAnalyzerModel" ({ cls := "ScheduleAnalyzerModel", name := "isStrict", desc := "(I)Z" } : Jvm.MethodName) ({ cls := "ScheduleAnalyzerModel", name := "isStrict", desc := "(I)Z" } : Jvm.MethodName)) ∈ lw_all := lw_g (lw_at lw_m13 127 rfl) rfl
theorem q3122 : (Jvm.Cond.code ({ cls := "ScheduleAnalyzerModel", name := "isStrict", desc := "(I)Z" } : Jvm.MethodName) prog_12_method_105_code (4 : Nat) (Option.some Jvm.ClassFile.FieldType.boolean)) ∈ lw_all := lw_g (lw_at lw_m13 128 rfl) rfl
theorem q3123 : (Jvm.Cond.methodLink "ScheduleAnalyzerModel" (335 : Nat) ({ cls := "ScheduleAnalyzerModel", name := "endsBetween", desc := "(III)Z" } : Jvm.MethodName)) ∈ lw_all := lw_g (lw_at lw_m13 129 rfl) rfl
theorem q3124 : (Jvm.Cond.privateMethod ({ cls := "ScheduleAnalyzerModel", name := "endsBetween", desc := "(III)Z" } : Jvm.MethodName)) ∈ lw_tbl := lw_at lw_m13 130 rfl
theorem q3125 : (Jvm.Cond.instanceMethod ({ cls := "ScheduleAnalyzerModel", name := "endsBetween", desc := "(III)Z" } : Jvm.MethodName)) ∈ lw_all := lw_g (lw_at lw_m13 131 rfl) rfl
theorem q3126 : (Jvm.Cond.code ({ cls := "ScheduleAnalyzerModel", name := "endsBetween", desc := "(III)Z" } : Jvm.MethodName) prog_12_method_104_code (5 : Nat) (Option.some Jvm.ClassFile.FieldType.boolean)) ∈ lw_all := lw_g (lw_at lw_m13 132 rfl) rfl
theorem q3128 : (Jvm.Cond.instanceMethod ({ cls := "ScheduleAnalyzerModel", name := "valueOf", desc := "(C)I" } : Jvm.MethodName)) ∈ lw_all := lw_g (lw_at lw_m13 134 rfl) rfl
theorem q3129 : (Jvm.Cond.selects "ScheduleAnalyzerModel" ({ cls := "ScheduleAnalyzerModel", name := "valueOf", desc := "(C)I" } : Jvm.MethodName) ({ cls := "ScheduleAnalyzerModel", name := "valueOf", desc := "(C)I" } : Jvm.MethodName)) ∈ lw_all := lw_g (lw_at lw_m13 135 rfl) rfl
theorem q3130 : (Jvm.Cond.code ({ cls := "ScheduleAnalyzerModel", name := "valueOf", desc := "(C)I" } : Jvm.MethodName) prog_12_method_108_code (2 : Nat) (Option.some Jvm.ClassFile.FieldType.int)) ∈ lw_all := lw_g (lw_at lw_m13 136 rfl) rfl
theorem q3132 : (Jvm.Cond.instanceMethod ({ cls := "ScheduleAnalyzerModel", name := "finalValue", desc := "(IC)I" } : Jvm.MethodName)) ∈ lw_all := lw_g (lw_at lw_m13 138 rfl) rfl
theorem q3133 : (Jvm.Cond.selects "ScheduleAnalyzerModel" ({ cls := "ScheduleAnalyzerModel", name := "finalValue", desc := "(IC)I" } : Jvm.MethodName) ({ cls := "ScheduleAnalyzerModel", name := "finalValue", desc := "(IC)I" } : Jvm.MethodName)) ∈ lw_all := lw_g (lw_at lw_m13 139 rfl) rfl
theorem q3134 : (Jvm.Cond.code ({ cls := "ScheduleAnalyzerModel", name := "finalValue", desc := "(IC)I" } : Jvm.MethodName) prog_12_method_110_code (3 : Nat) (Option.some Jvm.ClassFile.FieldType.int)) ∈ lw_all := lw_g (lw_at lw_m13 140 rfl) rfl
theorem q3135 : (Jvm.Cond.methodLink "ScheduleAnalyzerModel" (344 : Nat) ({ cls := "ScheduleAnalyzerModel", name := "value", desc := "(IIZ)I" } : Jvm.MethodName)) ∈ lw_all := lw_g (lw_at lw_m13 141 rfl) rfl
theorem q3136 : (Jvm.Cond.privateMethod ({ cls := "ScheduleAnalyzerModel", name := "value", desc := "(IIZ)I" } : Jvm.MethodName)) ∈ lw_tbl := lw_at lw_m13 142 rfl
theorem q3137 : (Jvm.Cond.instanceMethod ({ cls := "ScheduleAnalyzerModel", name := "value", desc := "(IIZ)I" } : Jvm.MethodName)) ∈ lw_all := lw_g (lw_at lw_m13 143 rfl) rfl
theorem q3138 : (Jvm.Cond.code ({ cls := "ScheduleAnalyzerModel", name := "value", desc := "(IIZ)I" } : Jvm.MethodName) prog_12_method_109_code (4 : Nat) (Option.some Jvm.ClassFile.FieldType.int)) ∈ lw_all := lw_g (lw_at lw_m13 144 rfl) rfl
theorem q3139 : (Jvm.Cond.methodLink "ScheduleAnalyzerModel" (341 : Nat) ({ cls := "ScheduleAnalyzerModel", name := "execute", desc := "()V" } : Jvm.MethodName)) ∈ lw_all := lw_g (lw_at lw_m13 145 rfl) rfl
theorem q3140 : (Jvm.Cond.privateMethod ({ cls := "ScheduleAnalyzerModel", name := "execute", desc := "()V" } : Jvm.MethodName)) ∈ lw_tbl := lw_at lw_m13 146 rfl
theorem q3141 : (Jvm.Cond.instanceMethod ({ cls := "ScheduleAnalyzerModel", name := "execute", desc := "()V" } : Jvm.MethodName)) ∈ lw_all := lw_g (lw_at lw_m13 147 rfl) rfl
theorem q3142 : (Jvm.Cond.code ({ cls := "ScheduleAnalyzerModel", name := "execute", desc := "()V" } : Jvm.MethodName) prog_12_method_107_code (3 : Nat) (Option.none : Option Jvm.ClassFile.FieldType)) ∈ lw_all := lw_g (lw_at lw_m13 148 rfl) rfl
theorem q3143 : (Jvm.Cond.methodLink "ScheduleAnalyzerModel" (338 : Nat) ({ cls := "ScheduleAnalyzerModel", name := "undoes", desc := "(II)V" } : Jvm.MethodName)) ∈ lw_all := lw_g (lw_at lw_m13 149 rfl) rfl
theorem q3144 : (Jvm.Cond.privateMethod ({ cls := "ScheduleAnalyzerModel", name := "undoes", desc := "(II)V" } : Jvm.MethodName)) ∈ lw_tbl := lw_at lw_m13 150 rfl
theorem q3145 : (Jvm.Cond.instanceMethod ({ cls := "ScheduleAnalyzerModel", name := "undoes", desc := "(II)V" } : Jvm.MethodName)) ∈ lw_all := lw_g (lw_at lw_m13 151 rfl) rfl
theorem q3146 : (Jvm.Cond.code ({ cls := "ScheduleAnalyzerModel", name := "undoes", desc := "(II)V" } : Jvm.MethodName) prog_12_method_106_code (4 : Nat) (Option.none : Option Jvm.ClassFile.FieldType)) ∈ lw_all := lw_g (lw_at lw_m13 152 rfl) rfl
theorem q3148 : (Jvm.Cond.instanceMethod ({ cls := "ScheduleAnalyzerModel", name := "restValue", desc := "(IC)I" } : Jvm.MethodName)) ∈ lw_all := lw_g (lw_at lw_m13 154 rfl) rfl
theorem q3149 : (Jvm.Cond.selects "ScheduleAnalyzerModel" ({ cls := "ScheduleAnalyzerModel", name := "restValue", desc := "(IC)I" } : Jvm.MethodName) ({ cls := "ScheduleAnalyzerModel", name := "restValue", desc := "(IC)I" } : Jvm.MethodName)) ∈ lw_all := lw_g (lw_at lw_m13 155 rfl) rfl
theorem q3150 : (Jvm.Cond.code ({ cls := "ScheduleAnalyzerModel", name := "restValue", desc := "(IC)I" } : Jvm.MethodName) prog_12_method_111_code (3 : Nat) (Option.some Jvm.ClassFile.FieldType.int)) ∈ lw_all := lw_g (lw_at lw_m13 156 rfl) rfl
theorem q3152 : (Jvm.Cond.instanceMethod ({ cls := "ScheduleAnalyzerModel", name := "registerOf", desc := "(II)I" } : Jvm.MethodName)) ∈ lw_all := lw_g (lw_at lw_m13 158 rfl) rfl
theorem q3153 : (Jvm.Cond.selects "ScheduleAnalyzerModel" ({ cls := "ScheduleAnalyzerModel", name := "registerOf", desc := "(II)I" } : Jvm.MethodName) ({ cls := "ScheduleAnalyzerModel", name := "registerOf", desc := "(II)I" } : Jvm.MethodName)) ∈ lw_all := lw_g (lw_at lw_m13 159 rfl) rfl
theorem q3154 : (Jvm.Cond.code ({ cls := "ScheduleAnalyzerModel", name := "registerOf", desc := "(II)I" } : Jvm.MethodName) prog_12_method_112_code (3 : Nat) (Option.some Jvm.ClassFile.FieldType.int)) ∈ lw_all := lw_g (lw_at lw_m13 160 rfl) rfl
theorem q3156 : (Jvm.Cond.instanceMethod ({ cls := "ScheduleAnalyzerModel", name := "slotByLength", desc := "(I)I" } : Jvm.MethodName)) ∈ lw_all := lw_g (lw_at lw_m13 162 rfl) rfl
theorem q3157 : (Jvm.Cond.selects "ScheduleAnalyzerModel" ({ cls := "ScheduleAnalyzerModel", name := "slotByLength", desc := "(I)I" } : Jvm.MethodName) ({ cls := "ScheduleAnalyzerModel", name := "slotByLength", desc := "(I)I" } : Jvm.MethodName)) ∈ lw_all := lw_g (lw_at lw_m13 163 rfl) rfl
theorem q3158 : (Jvm.Cond.code ({ cls := "ScheduleAnalyzerModel", name := "slotByLength", desc := "(I)I" } : Jvm.MethodName) prog_12_method_113_code (5 : Nat) (Option.some Jvm.ClassFile.FieldType.int)) ∈ lw_all := lw_g (lw_at lw_m13 164 rfl) rfl
theorem q3160 : (Jvm.Cond.instanceMethod ({ cls := "ScheduleAnalyzerModel", name := "meanLength", desc := "(I)D" } : Jvm.MethodName)) ∈ lw_all := lw_g (lw_at lw_m13 166 rfl) rfl
theorem q3161 : (Jvm.Cond.selects "ScheduleAnalyzerModel" ({ cls := "ScheduleAnalyzerModel", name := "meanLength", desc := "(I)D" } : Jvm.MethodName) ({ cls := "ScheduleAnalyzerModel", name := "meanLength", desc := "(I)D" } : Jvm.MethodName)) ∈ lw_all := lw_g (lw_at lw_m13 167 rfl) rfl
theorem q3162 : (Jvm.Cond.code ({ cls := "ScheduleAnalyzerModel", name := "meanLength", desc := "(I)D" } : Jvm.MethodName) prog_12_method_114_code (2 : Nat) (Option.some Jvm.ClassFile.FieldType.double)) ∈ lw_all := lw_g (lw_at lw_m13 168 rfl) rfl
theorem q3164 : (Jvm.Cond.instanceMethod ({ cls := "ScheduleAnalyzerModel", name := "readShare", desc := "(I)F" } : Jvm.MethodName)) ∈ lw_all := lw_g (lw_at lw_m13 170 rfl) rfl
theorem q3165 : (Jvm.Cond.selects "ScheduleAnalyzerModel" ({ cls := "ScheduleAnalyzerModel", name := "readShare", desc := "(I)F" } : Jvm.MethodName) ({ cls := "ScheduleAnalyzerModel", name := "readShare", desc := "(I)F" } : Jvm.MethodName)) ∈ lw_all := lw_g (lw_at lw_m13 171 rfl) rfl
theorem q3166 : (Jvm.Cond.code ({ cls := "ScheduleAnalyzerModel", name := "readShare", desc := "(I)F" } : Jvm.MethodName) prog_12_method_115_code (5 : Nat) (Option.some Jvm.ClassFile.FieldType.float)) ∈ lw_all := lw_g (lw_at lw_m13 172 rfl) rfl
theorem q3168 : (Jvm.Cond.instanceMethod ({ cls := "ScheduleAnalyzerModel", name := "isConsistent", desc := "()Z" } : Jvm.MethodName)) ∈ lw_all := lw_g (lw_at lw_m13 174 rfl) rfl
theorem q3169 : (Jvm.Cond.selects "ScheduleAnalyzerModel" ({ cls := "ScheduleAnalyzerModel", name := "isConsistent", desc := "()Z" } : Jvm.MethodName) ({ cls := "ScheduleAnalyzerModel", name := "isConsistent", desc := "()Z" } : Jvm.MethodName)) ∈ lw_all := lw_g (lw_at lw_m13 175 rfl) rfl
theorem q3170 : (Jvm.Cond.code ({ cls := "ScheduleAnalyzerModel", name := "isConsistent", desc := "()Z" } : Jvm.MethodName) prog_12_method_116_code (1 : Nat) (Option.some Jvm.ClassFile.FieldType.boolean)) ∈ lw_all := lw_g (lw_at lw_m13 176 rfl) rfl
theorem q3171 : (Jvm.Cond.methodLink "ScheduleAnalyzerModel" (348 : Nat) ({ cls := "ScheduleAnalyzerModel", name := "plain", desc := "(I)I" } : Jvm.MethodName)) ∈ lw_all := lw_g (lw_at lw_m13 177 rfl) rfl
theorem q3172 : (Jvm.Cond.privateMethod ({ cls := "ScheduleAnalyzerModel", name := "plain", desc := "(I)I" } : Jvm.MethodName)) ∈ lw_tbl := lw_at lw_m13 178 rfl
theorem q3173 : (Jvm.Cond.instanceMethod ({ cls := "ScheduleAnalyzerModel", name := "plain", desc := "(I)I" } : Jvm.MethodName)) ∈ lw_all := lw_g (lw_at lw_m13 179 rfl) rfl
theorem q3174 : (Jvm.Cond.code ({ cls := "ScheduleAnalyzerModel", name := "plain", desc := "(I)I" } : Jvm.MethodName) prog_12_method_8_code (2 : Nat) (Option.some Jvm.ClassFile.FieldType.int)) ∈ lw_all := lw_g (lw_at lw_m13 180 rfl) rfl
theorem q3176 : (Jvm.Cond.instanceMethod ({ cls := "ScheduleAnalyzerModel", name := "format", desc := "(I)I" } : Jvm.MethodName)) ∈ lw_all := lw_g (lw_at lw_m13 182 rfl) rfl
theorem q3177 : (Jvm.Cond.selects "ScheduleAnalyzerModel" ({ cls := "ScheduleAnalyzerModel", name := "format", desc := "(I)I" } : Jvm.MethodName) ({ cls := "ScheduleAnalyzerModel", name := "format", desc := "(I)I" } : Jvm.MethodName)) ∈ lw_all := lw_g (lw_at lw_m13 183 rfl) rfl
theorem q3178 : (Jvm.Cond.code ({ cls := "ScheduleAnalyzerModel", name := "format", desc := "(I)I" } : Jvm.MethodName) prog_12_method_118_code (4 : Nat) (Option.some Jvm.ClassFile.FieldType.int)) ∈ lw_all := lw_g (lw_at lw_m13 184 rfl) rfl
theorem q3179 : (Jvm.Cond.methodLink "ScheduleAnalyzerModel" (351 : Nat) ({ cls := "ScheduleAnalyzerModel", name := "put", desc := "(I)V" } : Jvm.MethodName)) ∈ lw_all := lw_g (lw_at lw_m13 185 rfl) rfl
theorem q3180 : (Jvm.Cond.privateMethod ({ cls := "ScheduleAnalyzerModel", name := "put", desc := "(I)V" } : Jvm.MethodName)) ∈ lw_tbl := lw_at lw_m13 186 rfl
theorem q3181 : (Jvm.Cond.instanceMethod ({ cls := "ScheduleAnalyzerModel", name := "put", desc := "(I)V" } : Jvm.MethodName)) ∈ lw_all := lw_g (lw_at lw_m13 187 rfl) rfl
theorem q3182 : (Jvm.Cond.code ({ cls := "ScheduleAnalyzerModel", name := "put", desc := "(I)V" } : Jvm.MethodName) prog_12_method_117_code (2 : Nat) (Option.none : Option Jvm.ClassFile.FieldType)) ∈ lw_all := lw_g (lw_at lw_m13 188 rfl) rfl
theorem q3184 : (Jvm.Cond.instanceMethod ({ cls := "ScheduleAnalyzerModel", name := "formatOrder", desc := "(I)I" } : Jvm.MethodName)) ∈ lw_all := lw_g (lw_at lw_m13 190 rfl) rfl
theorem q3185 : (Jvm.Cond.selects "ScheduleAnalyzerModel" ({ cls := "ScheduleAnalyzerModel", name := "formatOrder", desc := "(I)I" } : Jvm.MethodName) ({ cls := "ScheduleAnalyzerModel", name := "formatOrder", desc := "(I)I" } : Jvm.MethodName)) ∈ lw_all := lw_g (lw_at lw_m13 191 rfl) rfl
theorem q3186 : (Jvm.Cond.code ({ cls := "ScheduleAnalyzerModel", name := "formatOrder", desc := "(I)I" } : Jvm.MethodName) prog_12_method_119_code (3 : Nat) (Option.some Jvm.ClassFile.FieldType.int)) ∈ lw_all := lw_g (lw_at lw_m13 192 rfl) rfl
theorem q3188 : (Jvm.Cond.instanceMethod ({ cls := "ScheduleAnalyzerModel", name := "lineChar", desc := "(I)C" } : Jvm.MethodName)) ∈ lw_all := lw_g (lw_at lw_m13 194 rfl) rfl
theorem q3189 : (Jvm.Cond.selects "ScheduleAnalyzerModel" ({ cls := "ScheduleAnalyzerModel", name := "lineChar", desc := "(I)C" } : Jvm.MethodName) ({ cls := "ScheduleAnalyzerModel", name := "lineChar", desc := "(I)C" } : Jvm.MethodName)) ∈ lw_all := lw_g (lw_at lw_m13 195 rfl) rfl
theorem q3190 : (Jvm.Cond.code ({ cls := "ScheduleAnalyzerModel", name := "lineChar", desc := "(I)C" } : Jvm.MethodName) prog_12_method_120_code (2 : Nat) (Option.some Jvm.ClassFile.FieldType.char)) ∈ lw_all := lw_g (lw_at lw_m13 196 rfl) rfl
theorem q3192 : (Jvm.Cond.instanceMethod ({ cls := "ScheduleAnalyzerModel", name := "errorPosition", desc := "()I" } : Jvm.MethodName)) ∈ lw_all := lw_g (lw_at lw_m13 198 rfl) rfl
theorem q3193 : (Jvm.Cond.selects "ScheduleAnalyzerModel" ({ cls := "ScheduleAnalyzerModel", name := "errorPosition", desc := "()I" } : Jvm.MethodName) ({ cls := "ScheduleAnalyzerModel", name := "errorPosition", desc := "()I" } : Jvm.MethodName)) ∈ lw_all := lw_g (lw_at lw_m13 199 rfl) rfl
theorem q3194 : (Jvm.Cond.code ({ cls := "ScheduleAnalyzerModel", name := "errorPosition", desc := "()I" } : Jvm.MethodName) prog_12_method_121_code (1 : Nat) (Option.some Jvm.ClassFile.FieldType.int)) ∈ lw_all := lw_g (lw_at lw_m13 200 rfl) rfl
theorem q3196 : (Jvm.Cond.instanceMethod ({ cls := "ScheduleAnalyzerModel", name := "undoableCount", desc := "()I" } : Jvm.MethodName)) ∈ lw_all := lw_g (lw_at lw_m13 202 rfl) rfl
theorem q3197 : (Jvm.Cond.selects "ScheduleAnalyzerModel" ({ cls := "ScheduleAnalyzerModel", name := "undoableCount", desc := "()I" } : Jvm.MethodName) ({ cls := "ScheduleAnalyzerModel", name := "undoableCount", desc := "()I" } : Jvm.MethodName)) ∈ lw_all := lw_g (lw_at lw_m13 203 rfl) rfl
theorem q3198 : (Jvm.Cond.code ({ cls := "ScheduleAnalyzerModel", name := "undoableCount", desc := "()I" } : Jvm.MethodName) prog_12_method_122_code (1 : Nat) (Option.some Jvm.ClassFile.FieldType.int)) ∈ lw_all := lw_g (lw_at lw_m13 204 rfl) rfl
theorem q3200 : (Jvm.Cond.instanceMethod ({ cls := "ScheduleAnalyzerModel", name := "undo", desc := "()I" } : Jvm.MethodName)) ∈ lw_all := lw_g (lw_at lw_m13 206 rfl) rfl
theorem q3201 : (Jvm.Cond.selects "ScheduleAnalyzerModel" ({ cls := "ScheduleAnalyzerModel", name := "undo", desc := "()I" } : Jvm.MethodName) ({ cls := "ScheduleAnalyzerModel", name := "undo", desc := "()I" } : Jvm.MethodName)) ∈ lw_all := lw_g (lw_at lw_m13 207 rfl) rfl
theorem q3202 : (Jvm.Cond.code ({ cls := "ScheduleAnalyzerModel", name := "undo", desc := "()I" } : Jvm.MethodName) prog_12_method_123_code (1 : Nat) (Option.some Jvm.ClassFile.FieldType.int)) ∈ lw_all := lw_g (lw_at lw_m13 208 rfl) rfl
theorem q3204 : (Jvm.Cond.instanceMethod ({ cls := "ScheduleAnalyzerModel", name := "save", desc := "()I" } : Jvm.MethodName)) ∈ lw_all := lw_g (lw_at lw_m13 210 rfl) rfl
theorem q3205 : (Jvm.Cond.selects "ScheduleAnalyzerModel" ({ cls := "ScheduleAnalyzerModel", name := "save", desc := "()I" } : Jvm.MethodName) ({ cls := "ScheduleAnalyzerModel", name := "save", desc := "()I" } : Jvm.MethodName)) ∈ lw_all := lw_g (lw_at lw_m13 211 rfl) rfl
theorem q3206 : (Jvm.Cond.code ({ cls := "ScheduleAnalyzerModel", name := "save", desc := "()I" } : Jvm.MethodName) prog_12_method_125_code (1 : Nat) (Option.some Jvm.ClassFile.FieldType.int)) ∈ lw_all := lw_g (lw_at lw_m13 212 rfl) rfl
theorem q3207 : (Jvm.Cond.methodLink "ScheduleAnalyzerModel" (354 : Nat) ({ cls := "ScheduleAnalyzerModel", name := "operations", desc := "()I" } : Jvm.MethodName)) ∈ lw_all := lw_g (lw_at lw_m13 213 rfl) rfl
theorem q3208 : (Jvm.Cond.privateMethod ({ cls := "ScheduleAnalyzerModel", name := "operations", desc := "()I" } : Jvm.MethodName)) ∈ lw_tbl := lw_at lw_m13 214 rfl
theorem q3209 : (Jvm.Cond.instanceMethod ({ cls := "ScheduleAnalyzerModel", name := "operations", desc := "()I" } : Jvm.MethodName)) ∈ lw_all := lw_g (lw_at lw_m13 215 rfl) rfl
theorem q3210 : (Jvm.Cond.code ({ cls := "ScheduleAnalyzerModel", name := "operations", desc := "()I" } : Jvm.MethodName) prog_12_method_124_code (1 : Nat) (Option.some Jvm.ClassFile.FieldType.int)) ∈ lw_all := lw_g (lw_at lw_m13 216 rfl) rfl
theorem q3212 : (Jvm.Cond.instanceMethod ({ cls := "ScheduleAnalyzerModel", name := "restore", desc := "()I" } : Jvm.MethodName)) ∈ lw_all := lw_g (lw_at lw_m13 218 rfl) rfl
theorem q3213 : (Jvm.Cond.selects "ScheduleAnalyzerModel" ({ cls := "ScheduleAnalyzerModel", name := "restore", desc := "()I" } : Jvm.MethodName) ({ cls := "ScheduleAnalyzerModel", name := "restore", desc := "()I" } : Jvm.MethodName)) ∈ lw_all := lw_g (lw_at lw_m13 219 rfl) rfl
theorem q3214 : (Jvm.Cond.code ({ cls := "ScheduleAnalyzerModel", name := "restore", desc := "()I" } : Jvm.MethodName) prog_12_method_126_code (1 : Nat) (Option.some Jvm.ClassFile.FieldType.int)) ∈ lw_all := lw_g (lw_at lw_m13 220 rfl) rfl
theorem q3242 : (Jvm.Cond.castable "ScheduleAnalyzerModel" "java/lang/Object") ∈ lw_tbl := lw_at lw_m14 8 rfl
theorem in_X4 : ∀ w ∈ wsX40, w ∈ lw_all := lw_in wsX40 [2651, 2653, 2655, 2657, 2659, 2661, 2663, 2665, 2667, 2669, 2671, 2673, 2675, 2677, 2679, 2681, 2683, 2685, 2687, 2689, 2691, 2693, 2695, 2697, 2699, 2701, 2703, 2705, 2707, 2709, 2711, 2713, 2715, 2717, 2719, 2721, 2723] (by decide +kernel) (by decide +kernel)
