/-! LookAtClockModel -/
set_option maxRecDepth 100000
def RX5 : String := "LookAtClockModel"
def TX5 : u_T := fun k => match k with
  | 0 => ("LookAtClockModel", "many", "[I", true)
  | 1 => ("LookAtClockModel", "at", "[I", true)
  | 2 => ("LookAtClockModel", "walk", "[I", true)
  | 3 => ("LookAtClockModel", "fine", "[I", true)
  | 4 => ("LookAtClockModel", "kind", "[I", true)
  | 5 => ("LookAtClockModel", "figure", "[I", true)
  | 6 => ("LookAtClockModel", "drift", "[I", true)
  | 7 => ("LookAtClockModel", "wake", "[I", true)
  | 8 => ("LookAtClockModel", "plan", "[I", true)
  | 9 => ("LookAtClockModel", "kept", "Z", false)
  | 10 => ("LookAtClockModel", "manyThen", "[I", true)
  | 11 => ("LookAtClockModel", "atThen", "[I", true)
  | 12 => ("LookAtClockModel", "walkThen", "[I", true)
  | 13 => ("LookAtClockModel", "fineThen", "[I", true)
  | 14 => ("LookAtClockModel", "kindThen", "[I", true)
  | 15 => ("LookAtClockModel", "figureThen", "[I", true)
  | 16 => ("LookAtClockModel", "driftThen", "[I", true)
  | 17 => ("LookAtClockModel", "wakeThen", "[I", true)
  | 18 => ("LookAtClockModel", "planThen", "[I", true)
  | 19 => ("LookAtClockModel", "paid", "I", false)
  | 20 => ("LookAtClockModel", "looks", "I", false)
  | 21 => ("LookAtClockModel", "looked", "[I", true)
  | 22 => ("LookAtClockModel", "late", "I", false)
  | 23 => ("LookAtClockModel", "pence", "I", false)
  | 24 => ("LookAtClockModel", "idle", "I", false)
  | 25 => ("LookAtClockModel", "came", "[I", true)
  | 26 => ("LookAtClockModel", "costs", "[I", true)
  | 27 => ("LookAtClockModel", "from", "I", false)
  | 28 => ("LookAtClockModel", "to", "I", false)
  | 29 => ("LookAtClockModel", "place", "I", false)
  | 30 => ("LookAtClockModel", "well", "Z", false)
  | 31 => ("LookAtClockModel", "field", "[I", true)
  | 32 => ("LookAtClockModel", "holds", "[I", true)
  | 33 => ("LookAtClockModel", "sort", "[I", true)
  | 34 => ("LookAtClockModel", "size", "[I", true)
  | 35 => ("LookAtClockModel", "items", "[I", true)
  | 36 => ("LookAtClockModel", "moved", "[I", true)
  | 37 => ("LookAtClockModel", "numberOf", "[I", true)
  | 38 => ("LookAtClockModel", "kindOf", "[I", true)
  | 39 => ("LookAtClockModel", "figureOf", "[I", true)
  | _ => ("LookAtClockModel", "thrown", "I", false)
def tyX5 : Nat → FieldType := fun k => match k with
  | 0 => .array .int
  | 1 => .array .int
  | 2 => .array .int
  | 3 => .array .int
  | 4 => .array .int
  | 5 => .array .int
  | 6 => .array .int
  | 7 => .array .int
  | 8 => .array .int
  | 9 => .boolean
  | 10 => .array .int
  | 11 => .array .int
  | 12 => .array .int
  | 13 => .array .int
  | 14 => .array .int
  | 15 => .array .int
  | 16 => .array .int
  | 17 => .array .int
  | 18 => .array .int
  | 19 => .int
  | 20 => .int
  | 21 => .array .int
  | 22 => .int
  | 23 => .int
  | 24 => .int
  | 25 => .array .int
  | 26 => .array .int
  | 27 => .int
  | 28 => .int
  | 29 => .int
  | 30 => .boolean
  | 31 => .array .int
  | 32 => .array .int
  | 33 => .array .int
  | 34 => .array .int
  | 35 => .array .int
  | 36 => .array .int
  | 37 => .array .int
  | 38 => .array .int
  | 39 => .array .int
  | _ => .int
abbrev wsX50 : List Cond := u_ws RX5 TX5 41
set_option maxRecDepth 100000 in
theorem nmX5 : ∀ a, a < 41 → ∀ b, b < 41 → a ≠ b → (TX5 a).2.1 ≠ (TX5 b).2.1 := by decide +kernel
set_option maxRecDepth 100000 in
theorem tyX5_ok : ∀ k, k < 41 → parseFieldDescriptor (TX5 k).2.2.1 = some (tyX5 k) := by decide +kernel
abbrev cX5_init : ByteArray := prog_21_method_1_code
def yX5_init : MethodName := ⟨RX5, "<init>", "()V"⟩
def dkwX5_init_9 : List UInt8 := [16, 8, 188, 10, 181, 0, 91, 42, 16, 8, 188, 10, 181, 0, 94, 42, 16, 8, 188, 10, 181, 0, 97, 177]
abbrev dktX5_init_9 : List UInt8 := dkwX5_init_9 ++ []
def dkwX5_init_8 : List UInt8 := [188, 10, 181, 0, 82, 42, 17, 3, 32, 188, 10, 181, 0, 85, 42, 16, 100, 188, 10, 181, 0, 88, 42]
abbrev dktX5_init_8 : List UInt8 := dkwX5_init_8 ++ dktX5_init_9
def dkwX5_init_7 : List UInt8 := [188, 10, 181, 0, 73, 42, 16, 8, 188, 10, 181, 0, 76, 42, 16, 8, 188, 10, 181, 0, 79, 42, 16, 8]
abbrev dktX5_init_7 : List UInt8 := dkwX5_init_7 ++ dktX5_init_8
def dkwX5_init_6 : List UInt8 := [16, 16, 188, 10, 181, 0, 64, 42, 8, 188, 10, 181, 0, 67, 42, 16, 6, 188, 10, 181, 0, 70, 42, 7]
abbrev dktX5_init_6 : List UInt8 := dkwX5_init_6 ++ dktX5_init_7
def dkwX5_init_5 : List UInt8 := [16, 6, 188, 10, 181, 0, 55, 42, 16, 6, 188, 10, 181, 0, 58, 42, 16, 8, 188, 10, 181, 0, 61, 42]
abbrev dktX5_init_5 : List UInt8 := dkwX5_init_5 ++ dktX5_init_6
def dkwX5_init_4 : List UInt8 := [42, 8, 188, 10, 181, 0, 46, 42, 16, 6, 188, 10, 181, 0, 49, 42, 16, 6, 188, 10, 181, 0, 52, 42]
abbrev dktX5_init_4 : List UInt8 := dkwX5_init_4 ++ dktX5_init_5
def dkwX5_init_3 : List UInt8 := [181, 0, 34, 42, 7, 188, 10, 181, 0, 37, 42, 8, 188, 10, 181, 0, 40, 42, 8, 188, 10, 181, 0, 43]
abbrev dktX5_init_3 : List UInt8 := dkwX5_init_3 ++ dktX5_init_4
def dkwX5_init_2 : List UInt8 := [181, 0, 25, 42, 16, 6, 188, 10, 181, 0, 28, 42, 16, 6, 188, 10, 181, 0, 31, 42, 16, 8, 188, 10]
abbrev dktX5_init_2 : List UInt8 := dkwX5_init_2 ++ dktX5_init_3
def dkwX5_init_1 : List UInt8 := [181, 0, 16, 42, 8, 188, 10, 181, 0, 19, 42, 16, 6, 188, 10, 181, 0, 22, 42, 16, 6, 188, 10]
abbrev dktX5_init_1 : List UInt8 := dkwX5_init_1 ++ dktX5_init_2
def dkwX5_init_0 : List UInt8 := [42, 183, 0, 1, 42, 7, 188, 10, 181, 0, 7, 42, 8, 188, 10, 181, 0, 13, 42, 8, 188, 10]
abbrev dktX5_init_0 : List UInt8 := dkwX5_init_0 ++ dktX5_init_1
theorem dksX5_init_0 : cX5_init.data.toList.drop 0 = dktX5_init_0 := by decide +kernel
theorem dksX5_init_1 : cX5_init.data.toList.drop 22 = dktX5_init_1 := dk_seg dksX5_init_0 22 rfl rfl
theorem dksX5_init_2 : cX5_init.data.toList.drop 45 = dktX5_init_2 := dk_seg dksX5_init_1 23 rfl rfl
theorem dksX5_init_3 : cX5_init.data.toList.drop 69 = dktX5_init_3 := dk_seg dksX5_init_2 24 rfl rfl
theorem dksX5_init_4 : cX5_init.data.toList.drop 93 = dktX5_init_4 := dk_seg dksX5_init_3 24 rfl rfl
theorem dksX5_init_5 : cX5_init.data.toList.drop 117 = dktX5_init_5 := dk_seg dksX5_init_4 24 rfl rfl
theorem dksX5_init_6 : cX5_init.data.toList.drop 141 = dktX5_init_6 := dk_seg dksX5_init_5 24 rfl rfl
theorem dksX5_init_7 : cX5_init.data.toList.drop 165 = dktX5_init_7 := dk_seg dksX5_init_6 24 rfl rfl
theorem dksX5_init_8 : cX5_init.data.toList.drop 189 = dktX5_init_8 := dk_seg dksX5_init_7 24 rfl rfl
theorem dksX5_init_9 : cX5_init.data.toList.drop 212 = dktX5_init_9 := dk_seg dksX5_init_8 23 rfl rfl
theorem dX5_init_0 : decode cX5_init 0 = .ok (.aload_n 0, 1) := dk_42 (dk_at dksX5_init_0 0 rfl rfl)
theorem dX5_init_1 : decode cX5_init 1 = .ok (.invokespecial 1, 3) := dk_183 0 1 (dk_at dksX5_init_0 1 rfl rfl)
theorem dX5_init_4 : decode cX5_init 4 = .ok (.aload_n 0, 1) := dk_42 (dk_at dksX5_init_0 4 rfl rfl)
theorem dX5_init_5 : decode cX5_init 5 = .ok (.iconst 4, 1) := dk_7 (dk_at dksX5_init_0 5 rfl rfl)
theorem dX5_init_6 : decode cX5_init 6 = .ok (.newarray .int, 2) := dk_188_10 (dk_at dksX5_init_0 6 rfl rfl)
theorem dX5_init_8 : decode cX5_init 8 = .ok (.putfield 7, 3) := dk_181 0 7 (dk_at dksX5_init_0 8 rfl rfl)
theorem dX5_init_11 : decode cX5_init 11 = .ok (.aload_n 0, 1) := dk_42 (dk_at dksX5_init_0 11 rfl rfl)
theorem dX5_init_12 : decode cX5_init 12 = .ok (.iconst 5, 1) := dk_8 (dk_at dksX5_init_0 12 rfl rfl)
theorem dX5_init_13 : decode cX5_init 13 = .ok (.newarray .int, 2) := dk_188_10 (dk_at dksX5_init_0 13 rfl rfl)
theorem dX5_init_15 : decode cX5_init 15 = .ok (.putfield 13, 3) := dk_181 0 13 (dk_at dksX5_init_0 15 rfl rfl)
theorem dX5_init_18 : decode cX5_init 18 = .ok (.aload_n 0, 1) := dk_42 (dk_at dksX5_init_0 18 rfl rfl)
theorem dX5_init_19 : decode cX5_init 19 = .ok (.iconst 5, 1) := dk_8 (dk_at dksX5_init_0 19 rfl rfl)
theorem dX5_init_20 : decode cX5_init 20 = .ok (.newarray .int, 2) := dk_188_10 (dk_at dksX5_init_0 20 rfl rfl)
theorem dX5_init_22 : decode cX5_init 22 = .ok (.putfield 16, 3) := dk_181 0 16 (dk_at dksX5_init_1 0 rfl rfl)
theorem dX5_init_25 : decode cX5_init 25 = .ok (.aload_n 0, 1) := dk_42 (dk_at dksX5_init_1 3 rfl rfl)
theorem dX5_init_26 : decode cX5_init 26 = .ok (.iconst 5, 1) := dk_8 (dk_at dksX5_init_1 4 rfl rfl)
theorem dX5_init_27 : decode cX5_init 27 = .ok (.newarray .int, 2) := dk_188_10 (dk_at dksX5_init_1 5 rfl rfl)
theorem dX5_init_29 : decode cX5_init 29 = .ok (.putfield 19, 3) := dk_181 0 19 (dk_at dksX5_init_1 7 rfl rfl)
theorem dX5_init_32 : decode cX5_init 32 = .ok (.aload_n 0, 1) := dk_42 (dk_at dksX5_init_1 10 rfl rfl)
theorem dX5_init_33 : decode cX5_init 33 = .ok (.bipush 6, 2) := dk_16 6 (dk_at dksX5_init_1 11 rfl rfl)
theorem dX5_init_35 : decode cX5_init 35 = .ok (.newarray .int, 2) := dk_188_10 (dk_at dksX5_init_1 13 rfl rfl)
theorem dX5_init_37 : decode cX5_init 37 = .ok (.putfield 22, 3) := dk_181 0 22 (dk_at dksX5_init_1 15 rfl rfl)
theorem dX5_init_40 : decode cX5_init 40 = .ok (.aload_n 0, 1) := dk_42 (dk_at dksX5_init_1 18 rfl rfl)
theorem dX5_init_41 : decode cX5_init 41 = .ok (.bipush 6, 2) := dk_16 6 (dk_at dksX5_init_1 19 rfl rfl)
theorem dX5_init_43 : decode cX5_init 43 = .ok (.newarray .int, 2) := dk_188_10 (dk_at dksX5_init_1 21 rfl rfl)
theorem dX5_init_45 : decode cX5_init 45 = .ok (.putfield 25, 3) := dk_181 0 25 (dk_at dksX5_init_2 0 rfl rfl)
theorem dX5_init_48 : decode cX5_init 48 = .ok (.aload_n 0, 1) := dk_42 (dk_at dksX5_init_2 3 rfl rfl)
theorem dX5_init_49 : decode cX5_init 49 = .ok (.bipush 6, 2) := dk_16 6 (dk_at dksX5_init_2 4 rfl rfl)
theorem dX5_init_51 : decode cX5_init 51 = .ok (.newarray .int, 2) := dk_188_10 (dk_at dksX5_init_2 6 rfl rfl)
theorem dX5_init_53 : decode cX5_init 53 = .ok (.putfield 28, 3) := dk_181 0 28 (dk_at dksX5_init_2 8 rfl rfl)
theorem dX5_init_56 : decode cX5_init 56 = .ok (.aload_n 0, 1) := dk_42 (dk_at dksX5_init_2 11 rfl rfl)
theorem dX5_init_57 : decode cX5_init 57 = .ok (.bipush 6, 2) := dk_16 6 (dk_at dksX5_init_2 12 rfl rfl)
theorem dX5_init_59 : decode cX5_init 59 = .ok (.newarray .int, 2) := dk_188_10 (dk_at dksX5_init_2 14 rfl rfl)
theorem dX5_init_61 : decode cX5_init 61 = .ok (.putfield 31, 3) := dk_181 0 31 (dk_at dksX5_init_2 16 rfl rfl)
theorem dX5_init_64 : decode cX5_init 64 = .ok (.aload_n 0, 1) := dk_42 (dk_at dksX5_init_2 19 rfl rfl)
theorem dX5_init_65 : decode cX5_init 65 = .ok (.bipush 8, 2) := dk_16 8 (dk_at dksX5_init_2 20 rfl rfl)
theorem dX5_init_67 : decode cX5_init 67 = .ok (.newarray .int, 2) := dk_188_10 (dk_at dksX5_init_2 22 rfl rfl)
theorem dX5_init_69 : decode cX5_init 69 = .ok (.putfield 34, 3) := dk_181 0 34 (dk_at dksX5_init_3 0 rfl rfl)
theorem dX5_init_72 : decode cX5_init 72 = .ok (.aload_n 0, 1) := dk_42 (dk_at dksX5_init_3 3 rfl rfl)
theorem dX5_init_73 : decode cX5_init 73 = .ok (.iconst 4, 1) := dk_7 (dk_at dksX5_init_3 4 rfl rfl)
theorem dX5_init_74 : decode cX5_init 74 = .ok (.newarray .int, 2) := dk_188_10 (dk_at dksX5_init_3 5 rfl rfl)
theorem dX5_init_76 : decode cX5_init 76 = .ok (.putfield 37, 3) := dk_181 0 37 (dk_at dksX5_init_3 7 rfl rfl)
theorem dX5_init_79 : decode cX5_init 79 = .ok (.aload_n 0, 1) := dk_42 (dk_at dksX5_init_3 10 rfl rfl)
theorem dX5_init_80 : decode cX5_init 80 = .ok (.iconst 5, 1) := dk_8 (dk_at dksX5_init_3 11 rfl rfl)
theorem dX5_init_81 : decode cX5_init 81 = .ok (.newarray .int, 2) := dk_188_10 (dk_at dksX5_init_3 12 rfl rfl)
theorem dX5_init_83 : decode cX5_init 83 = .ok (.putfield 40, 3) := dk_181 0 40 (dk_at dksX5_init_3 14 rfl rfl)
theorem dX5_init_86 : decode cX5_init 86 = .ok (.aload_n 0, 1) := dk_42 (dk_at dksX5_init_3 17 rfl rfl)
theorem dX5_init_87 : decode cX5_init 87 = .ok (.iconst 5, 1) := dk_8 (dk_at dksX5_init_3 18 rfl rfl)
theorem dX5_init_88 : decode cX5_init 88 = .ok (.newarray .int, 2) := dk_188_10 (dk_at dksX5_init_3 19 rfl rfl)
theorem dX5_init_90 : decode cX5_init 90 = .ok (.putfield 43, 3) := dk_181 0 43 (dk_at dksX5_init_3 21 rfl rfl)
theorem dX5_init_93 : decode cX5_init 93 = .ok (.aload_n 0, 1) := dk_42 (dk_at dksX5_init_4 0 rfl rfl)
theorem dX5_init_94 : decode cX5_init 94 = .ok (.iconst 5, 1) := dk_8 (dk_at dksX5_init_4 1 rfl rfl)
theorem dX5_init_95 : decode cX5_init 95 = .ok (.newarray .int, 2) := dk_188_10 (dk_at dksX5_init_4 2 rfl rfl)
theorem dX5_init_97 : decode cX5_init 97 = .ok (.putfield 46, 3) := dk_181 0 46 (dk_at dksX5_init_4 4 rfl rfl)
theorem dX5_init_100 : decode cX5_init 100 = .ok (.aload_n 0, 1) := dk_42 (dk_at dksX5_init_4 7 rfl rfl)
theorem dX5_init_101 : decode cX5_init 101 = .ok (.bipush 6, 2) := dk_16 6 (dk_at dksX5_init_4 8 rfl rfl)
theorem dX5_init_103 : decode cX5_init 103 = .ok (.newarray .int, 2) := dk_188_10 (dk_at dksX5_init_4 10 rfl rfl)
theorem dX5_init_105 : decode cX5_init 105 = .ok (.putfield 49, 3) := dk_181 0 49 (dk_at dksX5_init_4 12 rfl rfl)
theorem dX5_init_108 : decode cX5_init 108 = .ok (.aload_n 0, 1) := dk_42 (dk_at dksX5_init_4 15 rfl rfl)
theorem dX5_init_109 : decode cX5_init 109 = .ok (.bipush 6, 2) := dk_16 6 (dk_at dksX5_init_4 16 rfl rfl)
theorem dX5_init_111 : decode cX5_init 111 = .ok (.newarray .int, 2) := dk_188_10 (dk_at dksX5_init_4 18 rfl rfl)
theorem dX5_init_113 : decode cX5_init 113 = .ok (.putfield 52, 3) := dk_181 0 52 (dk_at dksX5_init_4 20 rfl rfl)
theorem dX5_init_116 : decode cX5_init 116 = .ok (.aload_n 0, 1) := dk_42 (dk_at dksX5_init_4 23 rfl rfl)
theorem dX5_init_117 : decode cX5_init 117 = .ok (.bipush 6, 2) := dk_16 6 (dk_at dksX5_init_5 0 rfl rfl)
theorem dX5_init_119 : decode cX5_init 119 = .ok (.newarray .int, 2) := dk_188_10 (dk_at dksX5_init_5 2 rfl rfl)
theorem dX5_init_121 : decode cX5_init 121 = .ok (.putfield 55, 3) := dk_181 0 55 (dk_at dksX5_init_5 4 rfl rfl)
theorem dX5_init_124 : decode cX5_init 124 = .ok (.aload_n 0, 1) := dk_42 (dk_at dksX5_init_5 7 rfl rfl)
theorem dX5_init_125 : decode cX5_init 125 = .ok (.bipush 6, 2) := dk_16 6 (dk_at dksX5_init_5 8 rfl rfl)
theorem dX5_init_127 : decode cX5_init 127 = .ok (.newarray .int, 2) := dk_188_10 (dk_at dksX5_init_5 10 rfl rfl)
theorem dX5_init_129 : decode cX5_init 129 = .ok (.putfield 58, 3) := dk_181 0 58 (dk_at dksX5_init_5 12 rfl rfl)
theorem dX5_init_132 : decode cX5_init 132 = .ok (.aload_n 0, 1) := dk_42 (dk_at dksX5_init_5 15 rfl rfl)
theorem dX5_init_133 : decode cX5_init 133 = .ok (.bipush 8, 2) := dk_16 8 (dk_at dksX5_init_5 16 rfl rfl)
theorem dX5_init_135 : decode cX5_init 135 = .ok (.newarray .int, 2) := dk_188_10 (dk_at dksX5_init_5 18 rfl rfl)
theorem dX5_init_137 : decode cX5_init 137 = .ok (.putfield 61, 3) := dk_181 0 61 (dk_at dksX5_init_5 20 rfl rfl)
theorem dX5_init_140 : decode cX5_init 140 = .ok (.aload_n 0, 1) := dk_42 (dk_at dksX5_init_5 23 rfl rfl)
theorem dX5_init_141 : decode cX5_init 141 = .ok (.bipush 16, 2) := dk_16 16 (dk_at dksX5_init_6 0 rfl rfl)
theorem dX5_init_143 : decode cX5_init 143 = .ok (.newarray .int, 2) := dk_188_10 (dk_at dksX5_init_6 2 rfl rfl)
theorem dX5_init_145 : decode cX5_init 145 = .ok (.putfield 64, 3) := dk_181 0 64 (dk_at dksX5_init_6 4 rfl rfl)
theorem dX5_init_148 : decode cX5_init 148 = .ok (.aload_n 0, 1) := dk_42 (dk_at dksX5_init_6 7 rfl rfl)
theorem dX5_init_149 : decode cX5_init 149 = .ok (.iconst 5, 1) := dk_8 (dk_at dksX5_init_6 8 rfl rfl)
theorem dX5_init_150 : decode cX5_init 150 = .ok (.newarray .int, 2) := dk_188_10 (dk_at dksX5_init_6 9 rfl rfl)
theorem dX5_init_152 : decode cX5_init 152 = .ok (.putfield 67, 3) := dk_181 0 67 (dk_at dksX5_init_6 11 rfl rfl)
theorem dX5_init_155 : decode cX5_init 155 = .ok (.aload_n 0, 1) := dk_42 (dk_at dksX5_init_6 14 rfl rfl)
theorem dX5_init_156 : decode cX5_init 156 = .ok (.bipush 6, 2) := dk_16 6 (dk_at dksX5_init_6 15 rfl rfl)
theorem dX5_init_158 : decode cX5_init 158 = .ok (.newarray .int, 2) := dk_188_10 (dk_at dksX5_init_6 17 rfl rfl)
theorem dX5_init_160 : decode cX5_init 160 = .ok (.putfield 70, 3) := dk_181 0 70 (dk_at dksX5_init_6 19 rfl rfl)
theorem dX5_init_163 : decode cX5_init 163 = .ok (.aload_n 0, 1) := dk_42 (dk_at dksX5_init_6 22 rfl rfl)
theorem dX5_init_164 : decode cX5_init 164 = .ok (.iconst 4, 1) := dk_7 (dk_at dksX5_init_6 23 rfl rfl)
theorem dX5_init_165 : decode cX5_init 165 = .ok (.newarray .int, 2) := dk_188_10 (dk_at dksX5_init_7 0 rfl rfl)
theorem dX5_init_167 : decode cX5_init 167 = .ok (.putfield 73, 3) := dk_181 0 73 (dk_at dksX5_init_7 2 rfl rfl)
theorem dX5_init_170 : decode cX5_init 170 = .ok (.aload_n 0, 1) := dk_42 (dk_at dksX5_init_7 5 rfl rfl)
theorem dX5_init_171 : decode cX5_init 171 = .ok (.bipush 8, 2) := dk_16 8 (dk_at dksX5_init_7 6 rfl rfl)
theorem dX5_init_173 : decode cX5_init 173 = .ok (.newarray .int, 2) := dk_188_10 (dk_at dksX5_init_7 8 rfl rfl)
theorem dX5_init_175 : decode cX5_init 175 = .ok (.putfield 76, 3) := dk_181 0 76 (dk_at dksX5_init_7 10 rfl rfl)
theorem dX5_init_178 : decode cX5_init 178 = .ok (.aload_n 0, 1) := dk_42 (dk_at dksX5_init_7 13 rfl rfl)
theorem dX5_init_179 : decode cX5_init 179 = .ok (.bipush 8, 2) := dk_16 8 (dk_at dksX5_init_7 14 rfl rfl)
theorem dX5_init_181 : decode cX5_init 181 = .ok (.newarray .int, 2) := dk_188_10 (dk_at dksX5_init_7 16 rfl rfl)
theorem dX5_init_183 : decode cX5_init 183 = .ok (.putfield 79, 3) := dk_181 0 79 (dk_at dksX5_init_7 18 rfl rfl)
theorem dX5_init_186 : decode cX5_init 186 = .ok (.aload_n 0, 1) := dk_42 (dk_at dksX5_init_7 21 rfl rfl)
theorem dX5_init_187 : decode cX5_init 187 = .ok (.bipush 8, 2) := dk_16 8 (dk_at dksX5_init_7 22 rfl rfl)
theorem dX5_init_189 : decode cX5_init 189 = .ok (.newarray .int, 2) := dk_188_10 (dk_at dksX5_init_8 0 rfl rfl)
theorem dX5_init_191 : decode cX5_init 191 = .ok (.putfield 82, 3) := dk_181 0 82 (dk_at dksX5_init_8 2 rfl rfl)
theorem dX5_init_194 : decode cX5_init 194 = .ok (.aload_n 0, 1) := dk_42 (dk_at dksX5_init_8 5 rfl rfl)
theorem dX5_init_195 : decode cX5_init 195 = .ok (.sipush 800, 3) := dk_17 3 32 (dk_at dksX5_init_8 6 rfl rfl)
theorem dX5_init_198 : decode cX5_init 198 = .ok (.newarray .int, 2) := dk_188_10 (dk_at dksX5_init_8 9 rfl rfl)
theorem dX5_init_200 : decode cX5_init 200 = .ok (.putfield 85, 3) := dk_181 0 85 (dk_at dksX5_init_8 11 rfl rfl)
theorem dX5_init_203 : decode cX5_init 203 = .ok (.aload_n 0, 1) := dk_42 (dk_at dksX5_init_8 14 rfl rfl)
theorem dX5_init_204 : decode cX5_init 204 = .ok (.bipush 100, 2) := dk_16 100 (dk_at dksX5_init_8 15 rfl rfl)
theorem dX5_init_206 : decode cX5_init 206 = .ok (.newarray .int, 2) := dk_188_10 (dk_at dksX5_init_8 17 rfl rfl)
theorem dX5_init_208 : decode cX5_init 208 = .ok (.putfield 88, 3) := dk_181 0 88 (dk_at dksX5_init_8 19 rfl rfl)
theorem dX5_init_211 : decode cX5_init 211 = .ok (.aload_n 0, 1) := dk_42 (dk_at dksX5_init_8 22 rfl rfl)
theorem dX5_init_212 : decode cX5_init 212 = .ok (.bipush 8, 2) := dk_16 8 (dk_at dksX5_init_9 0 rfl rfl)
theorem dX5_init_214 : decode cX5_init 214 = .ok (.newarray .int, 2) := dk_188_10 (dk_at dksX5_init_9 2 rfl rfl)
theorem dX5_init_216 : decode cX5_init 216 = .ok (.putfield 91, 3) := dk_181 0 91 (dk_at dksX5_init_9 4 rfl rfl)
theorem dX5_init_219 : decode cX5_init 219 = .ok (.aload_n 0, 1) := dk_42 (dk_at dksX5_init_9 7 rfl rfl)
theorem dX5_init_220 : decode cX5_init 220 = .ok (.bipush 8, 2) := dk_16 8 (dk_at dksX5_init_9 8 rfl rfl)
theorem dX5_init_222 : decode cX5_init 222 = .ok (.newarray .int, 2) := dk_188_10 (dk_at dksX5_init_9 10 rfl rfl)
theorem dX5_init_224 : decode cX5_init 224 = .ok (.putfield 94, 3) := dk_181 0 94 (dk_at dksX5_init_9 12 rfl rfl)
theorem dX5_init_227 : decode cX5_init 227 = .ok (.aload_n 0, 1) := dk_42 (dk_at dksX5_init_9 15 rfl rfl)
theorem dX5_init_228 : decode cX5_init 228 = .ok (.bipush 8, 2) := dk_16 8 (dk_at dksX5_init_9 16 rfl rfl)
theorem dX5_init_230 : decode cX5_init 230 = .ok (.newarray .int, 2) := dk_188_10 (dk_at dksX5_init_9 18 rfl rfl)
theorem dX5_init_232 : decode cX5_init 232 = .ok (.putfield 97, 3) := dk_181 0 97 (dk_at dksX5_init_9 20 rfl rfl)
theorem dX5_init_235 : decode cX5_init 235 = .ok (.return_, 1) := dk_177 (dk_at dksX5_init_9 23 rfl rfl)
abbrev cX5_image : ByteArray := prog_21_method_5_code
def yX5_image : MethodName := ⟨RX5, "image", "()I"⟩
def dkwX5_image_4 : List UInt8 := [184, 0, 108, 42, 180, 0, 34, 42, 180, 0, 61, 184, 0, 108, 42, 180, 0, 7, 4, 46, 172]
abbrev dktX5_image_4 : List UInt8 := dkwX5_image_4 ++ []
def dkwX5_image_3 : List UInt8 := [184, 0, 108, 42, 180, 0, 28, 42, 180, 0, 55, 184, 0, 108, 42, 180, 0, 31, 42, 180, 0, 58]
abbrev dktX5_image_3 : List UInt8 := dkwX5_image_3 ++ dktX5_image_4
def dkwX5_image_2 : List UInt8 := [184, 0, 108, 42, 180, 0, 22, 42, 180, 0, 49, 184, 0, 108, 42, 180, 0, 25, 42, 180, 0, 52]
abbrev dktX5_image_2 : List UInt8 := dkwX5_image_2 ++ dktX5_image_3
def dkwX5_image_1 : List UInt8 := [184, 0, 108, 42, 180, 0, 16, 42, 180, 0, 43, 184, 0, 108, 42, 180, 0, 19, 42, 180, 0, 46]
abbrev dktX5_image_1 : List UInt8 := dkwX5_image_1 ++ dktX5_image_2
def dkwX5_image_0 : List UInt8 := [42, 4, 181, 0, 104, 42, 180, 0, 7, 42, 180, 0, 37, 184, 0, 108, 42, 180, 0, 13, 42, 180, 0, 40]
abbrev dktX5_image_0 : List UInt8 := dkwX5_image_0 ++ dktX5_image_1
theorem dksX5_image_0 : cX5_image.data.toList.drop 0 = dktX5_image_0 := by decide +kernel
theorem dksX5_image_1 : cX5_image.data.toList.drop 24 = dktX5_image_1 := dk_seg dksX5_image_0 24 rfl rfl
theorem dksX5_image_2 : cX5_image.data.toList.drop 46 = dktX5_image_2 := dk_seg dksX5_image_1 22 rfl rfl
theorem dksX5_image_3 : cX5_image.data.toList.drop 68 = dktX5_image_3 := dk_seg dksX5_image_2 22 rfl rfl
theorem dksX5_image_4 : cX5_image.data.toList.drop 90 = dktX5_image_4 := dk_seg dksX5_image_3 22 rfl rfl
theorem dX5_image_0 : decode cX5_image 0 = .ok (.aload_n 0, 1) := dk_42 (dk_at dksX5_image_0 0 rfl rfl)
theorem dX5_image_1 : decode cX5_image 1 = .ok (.iconst 1, 1) := dk_4 (dk_at dksX5_image_0 1 rfl rfl)
theorem dX5_image_2 : decode cX5_image 2 = .ok (.putfield 104, 3) := dk_181 0 104 (dk_at dksX5_image_0 2 rfl rfl)
theorem dX5_image_5 : decode cX5_image 5 = .ok (.aload_n 0, 1) := dk_42 (dk_at dksX5_image_0 5 rfl rfl)
theorem dX5_image_6 : decode cX5_image 6 = .ok (.getfield 7, 3) := dk_180 0 7 (dk_at dksX5_image_0 6 rfl rfl)
theorem dX5_image_9 : decode cX5_image 9 = .ok (.aload_n 0, 1) := dk_42 (dk_at dksX5_image_0 9 rfl rfl)
theorem dX5_image_10 : decode cX5_image 10 = .ok (.getfield 37, 3) := dk_180 0 37 (dk_at dksX5_image_0 10 rfl rfl)
theorem dX5_image_13 : decode cX5_image 13 = .ok (.invokestatic 108, 3) := dk_184 0 108 (dk_at dksX5_image_0 13 rfl rfl)
theorem dX5_image_16 : decode cX5_image 16 = .ok (.aload_n 0, 1) := dk_42 (dk_at dksX5_image_0 16 rfl rfl)
theorem dX5_image_17 : decode cX5_image 17 = .ok (.getfield 13, 3) := dk_180 0 13 (dk_at dksX5_image_0 17 rfl rfl)
theorem dX5_image_20 : decode cX5_image 20 = .ok (.aload_n 0, 1) := dk_42 (dk_at dksX5_image_0 20 rfl rfl)
theorem dX5_image_21 : decode cX5_image 21 = .ok (.getfield 40, 3) := dk_180 0 40 (dk_at dksX5_image_0 21 rfl rfl)
theorem dX5_image_24 : decode cX5_image 24 = .ok (.invokestatic 108, 3) := dk_184 0 108 (dk_at dksX5_image_1 0 rfl rfl)
theorem dX5_image_27 : decode cX5_image 27 = .ok (.aload_n 0, 1) := dk_42 (dk_at dksX5_image_1 3 rfl rfl)
theorem dX5_image_28 : decode cX5_image 28 = .ok (.getfield 16, 3) := dk_180 0 16 (dk_at dksX5_image_1 4 rfl rfl)
theorem dX5_image_31 : decode cX5_image 31 = .ok (.aload_n 0, 1) := dk_42 (dk_at dksX5_image_1 7 rfl rfl)
theorem dX5_image_32 : decode cX5_image 32 = .ok (.getfield 43, 3) := dk_180 0 43 (dk_at dksX5_image_1 8 rfl rfl)
theorem dX5_image_35 : decode cX5_image 35 = .ok (.invokestatic 108, 3) := dk_184 0 108 (dk_at dksX5_image_1 11 rfl rfl)
theorem dX5_image_38 : decode cX5_image 38 = .ok (.aload_n 0, 1) := dk_42 (dk_at dksX5_image_1 14 rfl rfl)
theorem dX5_image_39 : decode cX5_image 39 = .ok (.getfield 19, 3) := dk_180 0 19 (dk_at dksX5_image_1 15 rfl rfl)
theorem dX5_image_42 : decode cX5_image 42 = .ok (.aload_n 0, 1) := dk_42 (dk_at dksX5_image_1 18 rfl rfl)
theorem dX5_image_43 : decode cX5_image 43 = .ok (.getfield 46, 3) := dk_180 0 46 (dk_at dksX5_image_1 19 rfl rfl)
theorem dX5_image_46 : decode cX5_image 46 = .ok (.invokestatic 108, 3) := dk_184 0 108 (dk_at dksX5_image_2 0 rfl rfl)
theorem dX5_image_49 : decode cX5_image 49 = .ok (.aload_n 0, 1) := dk_42 (dk_at dksX5_image_2 3 rfl rfl)
theorem dX5_image_50 : decode cX5_image 50 = .ok (.getfield 22, 3) := dk_180 0 22 (dk_at dksX5_image_2 4 rfl rfl)
theorem dX5_image_53 : decode cX5_image 53 = .ok (.aload_n 0, 1) := dk_42 (dk_at dksX5_image_2 7 rfl rfl)
theorem dX5_image_54 : decode cX5_image 54 = .ok (.getfield 49, 3) := dk_180 0 49 (dk_at dksX5_image_2 8 rfl rfl)
theorem dX5_image_57 : decode cX5_image 57 = .ok (.invokestatic 108, 3) := dk_184 0 108 (dk_at dksX5_image_2 11 rfl rfl)
theorem dX5_image_60 : decode cX5_image 60 = .ok (.aload_n 0, 1) := dk_42 (dk_at dksX5_image_2 14 rfl rfl)
theorem dX5_image_61 : decode cX5_image 61 = .ok (.getfield 25, 3) := dk_180 0 25 (dk_at dksX5_image_2 15 rfl rfl)
theorem dX5_image_64 : decode cX5_image 64 = .ok (.aload_n 0, 1) := dk_42 (dk_at dksX5_image_2 18 rfl rfl)
theorem dX5_image_65 : decode cX5_image 65 = .ok (.getfield 52, 3) := dk_180 0 52 (dk_at dksX5_image_2 19 rfl rfl)
theorem dX5_image_68 : decode cX5_image 68 = .ok (.invokestatic 108, 3) := dk_184 0 108 (dk_at dksX5_image_3 0 rfl rfl)
theorem dX5_image_71 : decode cX5_image 71 = .ok (.aload_n 0, 1) := dk_42 (dk_at dksX5_image_3 3 rfl rfl)
theorem dX5_image_72 : decode cX5_image 72 = .ok (.getfield 28, 3) := dk_180 0 28 (dk_at dksX5_image_3 4 rfl rfl)
theorem dX5_image_75 : decode cX5_image 75 = .ok (.aload_n 0, 1) := dk_42 (dk_at dksX5_image_3 7 rfl rfl)
theorem dX5_image_76 : decode cX5_image 76 = .ok (.getfield 55, 3) := dk_180 0 55 (dk_at dksX5_image_3 8 rfl rfl)
theorem dX5_image_79 : decode cX5_image 79 = .ok (.invokestatic 108, 3) := dk_184 0 108 (dk_at dksX5_image_3 11 rfl rfl)
theorem dX5_image_82 : decode cX5_image 82 = .ok (.aload_n 0, 1) := dk_42 (dk_at dksX5_image_3 14 rfl rfl)
theorem dX5_image_83 : decode cX5_image 83 = .ok (.getfield 31, 3) := dk_180 0 31 (dk_at dksX5_image_3 15 rfl rfl)
theorem dX5_image_86 : decode cX5_image 86 = .ok (.aload_n 0, 1) := dk_42 (dk_at dksX5_image_3 18 rfl rfl)
theorem dX5_image_87 : decode cX5_image 87 = .ok (.getfield 58, 3) := dk_180 0 58 (dk_at dksX5_image_3 19 rfl rfl)
theorem dX5_image_90 : decode cX5_image 90 = .ok (.invokestatic 108, 3) := dk_184 0 108 (dk_at dksX5_image_4 0 rfl rfl)
theorem dX5_image_93 : decode cX5_image 93 = .ok (.aload_n 0, 1) := dk_42 (dk_at dksX5_image_4 3 rfl rfl)
theorem dX5_image_94 : decode cX5_image 94 = .ok (.getfield 34, 3) := dk_180 0 34 (dk_at dksX5_image_4 4 rfl rfl)
theorem dX5_image_97 : decode cX5_image 97 = .ok (.aload_n 0, 1) := dk_42 (dk_at dksX5_image_4 7 rfl rfl)
theorem dX5_image_98 : decode cX5_image 98 = .ok (.getfield 61, 3) := dk_180 0 61 (dk_at dksX5_image_4 8 rfl rfl)
theorem dX5_image_101 : decode cX5_image 101 = .ok (.invokestatic 108, 3) := dk_184 0 108 (dk_at dksX5_image_4 11 rfl rfl)
theorem dX5_image_104 : decode cX5_image 104 = .ok (.aload_n 0, 1) := dk_42 (dk_at dksX5_image_4 14 rfl rfl)
theorem dX5_image_105 : decode cX5_image 105 = .ok (.getfield 7, 3) := dk_180 0 7 (dk_at dksX5_image_4 15 rfl rfl)
theorem dX5_image_108 : decode cX5_image 108 = .ok (.iconst 1, 1) := dk_4 (dk_at dksX5_image_4 18 rfl rfl)
theorem dX5_image_109 : decode cX5_image 109 = .ok (.iaload, 1) := dk_46 (dk_at dksX5_image_4 19 rfl rfl)
theorem dX5_image_110 : decode cX5_image 110 = .ok (.ireturn, 1) := dk_172 (dk_at dksX5_image_4 20 rfl rfl)
abbrev cX5_move : ByteArray := prog_21_method_4_code
def yX5_move : MethodName := ⟨RX5, "move", "([I[I)V"⟩
def dkwX5_move_0 : List UInt8 := [3, 61, 28, 42, 190, 162, 0, 15, 43, 28, 42, 28, 46, 79, 132, 2, 1, 167, 255, 241, 177]
abbrev dktX5_move_0 : List UInt8 := dkwX5_move_0 ++ []
theorem dksX5_move_0 : cX5_move.data.toList.drop 0 = dktX5_move_0 := by decide +kernel
theorem dX5_move_0 : decode cX5_move 0 = .ok (.iconst 0, 1) := dk_3 (dk_at dksX5_move_0 0 rfl rfl)
theorem dX5_move_1 : decode cX5_move 1 = .ok (.istore_n 2, 1) := dk_61 (dk_at dksX5_move_0 1 rfl rfl)
theorem dX5_move_2 : decode cX5_move 2 = .ok (.iload_n 2, 1) := dk_28 (dk_at dksX5_move_0 2 rfl rfl)
theorem dX5_move_3 : decode cX5_move 3 = .ok (.aload_n 0, 1) := dk_42 (dk_at dksX5_move_0 3 rfl rfl)
theorem dX5_move_4 : decode cX5_move 4 = .ok (.arraylength, 1) := dk_190 (dk_at dksX5_move_0 4 rfl rfl)
theorem dX5_move_5 : decode cX5_move 5 = .ok (.if_icmp .ge 15, 3) := dk_162 0 15 (dk_at dksX5_move_0 5 rfl rfl)
theorem dX5_move_8 : decode cX5_move 8 = .ok (.aload_n 1, 1) := dk_43 (dk_at dksX5_move_0 8 rfl rfl)
theorem dX5_move_9 : decode cX5_move 9 = .ok (.iload_n 2, 1) := dk_28 (dk_at dksX5_move_0 9 rfl rfl)
theorem dX5_move_10 : decode cX5_move 10 = .ok (.aload_n 0, 1) := dk_42 (dk_at dksX5_move_0 10 rfl rfl)
theorem dX5_move_11 : decode cX5_move 11 = .ok (.iload_n 2, 1) := dk_28 (dk_at dksX5_move_0 11 rfl rfl)
theorem dX5_move_12 : decode cX5_move 12 = .ok (.iaload, 1) := dk_46 (dk_at dksX5_move_0 12 rfl rfl)
theorem dX5_move_13 : decode cX5_move 13 = .ok (.iastore, 1) := dk_79 (dk_at dksX5_move_0 13 rfl rfl)
theorem dX5_move_14 : decode cX5_move 14 = .ok (.iinc 2 1, 3) := dk_132 2 1 (dk_at dksX5_move_0 14 rfl rfl)
theorem dX5_move_17 : decode cX5_move 17 = .ok (.goto (-15), 3) := dk_167 255 241 (dk_at dksX5_move_0 17 rfl rfl)
theorem dX5_move_20 : decode cX5_move 20 = .ok (.return_, 1) := dk_177 (dk_at dksX5_move_0 20 rfl rfl)
abbrev cX5_restore : ByteArray := prog_21_method_6_code
def yX5_restore : MethodName := ⟨RX5, "restore", "()I"⟩
def dkwX5_restore_5 : List UInt8 := [180, 0, 7, 4, 46, 172]
abbrev dktX5_restore_5 : List UInt8 := dkwX5_restore_5 ++ []
def dkwX5_restore_4 : List UInt8 := [180, 0, 58, 42, 180, 0, 31, 184, 0, 108, 42, 180, 0, 61, 42, 180, 0, 34, 184, 0, 108, 42]
abbrev dktX5_restore_4 : List UInt8 := dkwX5_restore_4 ++ dktX5_restore_5
def dkwX5_restore_3 : List UInt8 := [180, 0, 52, 42, 180, 0, 25, 184, 0, 108, 42, 180, 0, 55, 42, 180, 0, 28, 184, 0, 108, 42]
abbrev dktX5_restore_3 : List UInt8 := dkwX5_restore_3 ++ dktX5_restore_4
def dkwX5_restore_2 : List UInt8 := [180, 0, 46, 42, 180, 0, 19, 184, 0, 108, 42, 180, 0, 49, 42, 180, 0, 22, 184, 0, 108, 42]
abbrev dktX5_restore_2 : List UInt8 := dkwX5_restore_2 ++ dktX5_restore_3
def dkwX5_restore_1 : List UInt8 := [180, 0, 40, 42, 180, 0, 13, 184, 0, 108, 42, 180, 0, 43, 42, 180, 0, 16, 184, 0, 108, 42]
abbrev dktX5_restore_1 : List UInt8 := dkwX5_restore_1 ++ dktX5_restore_2
def dkwX5_restore_0 : List UInt8 := [42, 180, 0, 104, 154, 0, 6, 16, 253, 172, 42, 180, 0, 37, 42, 180, 0, 7, 184, 0, 108, 42]
abbrev dktX5_restore_0 : List UInt8 := dkwX5_restore_0 ++ dktX5_restore_1
theorem dksX5_restore_0 : cX5_restore.data.toList.drop 0 = dktX5_restore_0 := by decide +kernel
theorem dksX5_restore_1 : cX5_restore.data.toList.drop 22 = dktX5_restore_1 := dk_seg dksX5_restore_0 22 rfl rfl
theorem dksX5_restore_2 : cX5_restore.data.toList.drop 44 = dktX5_restore_2 := dk_seg dksX5_restore_1 22 rfl rfl
theorem dksX5_restore_3 : cX5_restore.data.toList.drop 66 = dktX5_restore_3 := dk_seg dksX5_restore_2 22 rfl rfl
theorem dksX5_restore_4 : cX5_restore.data.toList.drop 88 = dktX5_restore_4 := dk_seg dksX5_restore_3 22 rfl rfl
theorem dksX5_restore_5 : cX5_restore.data.toList.drop 110 = dktX5_restore_5 := dk_seg dksX5_restore_4 22 rfl rfl
theorem dX5_restore_0 : decode cX5_restore 0 = .ok (.aload_n 0, 1) := dk_42 (dk_at dksX5_restore_0 0 rfl rfl)
theorem dX5_restore_1 : decode cX5_restore 1 = .ok (.getfield 104, 3) := dk_180 0 104 (dk_at dksX5_restore_0 1 rfl rfl)
theorem dX5_restore_4 : decode cX5_restore 4 = .ok (.ifCond .ne 6, 3) := dk_154 0 6 (dk_at dksX5_restore_0 4 rfl rfl)
theorem dX5_restore_7 : decode cX5_restore 7 = .ok (.bipush (-3), 2) := dk_16 253 (dk_at dksX5_restore_0 7 rfl rfl)
theorem dX5_restore_9 : decode cX5_restore 9 = .ok (.ireturn, 1) := dk_172 (dk_at dksX5_restore_0 9 rfl rfl)
theorem dX5_restore_10 : decode cX5_restore 10 = .ok (.aload_n 0, 1) := dk_42 (dk_at dksX5_restore_0 10 rfl rfl)
theorem dX5_restore_11 : decode cX5_restore 11 = .ok (.getfield 37, 3) := dk_180 0 37 (dk_at dksX5_restore_0 11 rfl rfl)
theorem dX5_restore_14 : decode cX5_restore 14 = .ok (.aload_n 0, 1) := dk_42 (dk_at dksX5_restore_0 14 rfl rfl)
theorem dX5_restore_15 : decode cX5_restore 15 = .ok (.getfield 7, 3) := dk_180 0 7 (dk_at dksX5_restore_0 15 rfl rfl)
theorem dX5_restore_18 : decode cX5_restore 18 = .ok (.invokestatic 108, 3) := dk_184 0 108 (dk_at dksX5_restore_0 18 rfl rfl)
theorem dX5_restore_21 : decode cX5_restore 21 = .ok (.aload_n 0, 1) := dk_42 (dk_at dksX5_restore_0 21 rfl rfl)
theorem dX5_restore_22 : decode cX5_restore 22 = .ok (.getfield 40, 3) := dk_180 0 40 (dk_at dksX5_restore_1 0 rfl rfl)
theorem dX5_restore_25 : decode cX5_restore 25 = .ok (.aload_n 0, 1) := dk_42 (dk_at dksX5_restore_1 3 rfl rfl)
theorem dX5_restore_26 : decode cX5_restore 26 = .ok (.getfield 13, 3) := dk_180 0 13 (dk_at dksX5_restore_1 4 rfl rfl)
theorem dX5_restore_29 : decode cX5_restore 29 = .ok (.invokestatic 108, 3) := dk_184 0 108 (dk_at dksX5_restore_1 7 rfl rfl)
theorem dX5_restore_32 : decode cX5_restore 32 = .ok (.aload_n 0, 1) := dk_42 (dk_at dksX5_restore_1 10 rfl rfl)
theorem dX5_restore_33 : decode cX5_restore 33 = .ok (.getfield 43, 3) := dk_180 0 43 (dk_at dksX5_restore_1 11 rfl rfl)
theorem dX5_restore_36 : decode cX5_restore 36 = .ok (.aload_n 0, 1) := dk_42 (dk_at dksX5_restore_1 14 rfl rfl)
theorem dX5_restore_37 : decode cX5_restore 37 = .ok (.getfield 16, 3) := dk_180 0 16 (dk_at dksX5_restore_1 15 rfl rfl)
theorem dX5_restore_40 : decode cX5_restore 40 = .ok (.invokestatic 108, 3) := dk_184 0 108 (dk_at dksX5_restore_1 18 rfl rfl)
theorem dX5_restore_43 : decode cX5_restore 43 = .ok (.aload_n 0, 1) := dk_42 (dk_at dksX5_restore_1 21 rfl rfl)
theorem dX5_restore_44 : decode cX5_restore 44 = .ok (.getfield 46, 3) := dk_180 0 46 (dk_at dksX5_restore_2 0 rfl rfl)
theorem dX5_restore_47 : decode cX5_restore 47 = .ok (.aload_n 0, 1) := dk_42 (dk_at dksX5_restore_2 3 rfl rfl)
theorem dX5_restore_48 : decode cX5_restore 48 = .ok (.getfield 19, 3) := dk_180 0 19 (dk_at dksX5_restore_2 4 rfl rfl)
theorem dX5_restore_51 : decode cX5_restore 51 = .ok (.invokestatic 108, 3) := dk_184 0 108 (dk_at dksX5_restore_2 7 rfl rfl)
theorem dX5_restore_54 : decode cX5_restore 54 = .ok (.aload_n 0, 1) := dk_42 (dk_at dksX5_restore_2 10 rfl rfl)
theorem dX5_restore_55 : decode cX5_restore 55 = .ok (.getfield 49, 3) := dk_180 0 49 (dk_at dksX5_restore_2 11 rfl rfl)
theorem dX5_restore_58 : decode cX5_restore 58 = .ok (.aload_n 0, 1) := dk_42 (dk_at dksX5_restore_2 14 rfl rfl)
theorem dX5_restore_59 : decode cX5_restore 59 = .ok (.getfield 22, 3) := dk_180 0 22 (dk_at dksX5_restore_2 15 rfl rfl)
theorem dX5_restore_62 : decode cX5_restore 62 = .ok (.invokestatic 108, 3) := dk_184 0 108 (dk_at dksX5_restore_2 18 rfl rfl)
theorem dX5_restore_65 : decode cX5_restore 65 = .ok (.aload_n 0, 1) := dk_42 (dk_at dksX5_restore_2 21 rfl rfl)
theorem dX5_restore_66 : decode cX5_restore 66 = .ok (.getfield 52, 3) := dk_180 0 52 (dk_at dksX5_restore_3 0 rfl rfl)
theorem dX5_restore_69 : decode cX5_restore 69 = .ok (.aload_n 0, 1) := dk_42 (dk_at dksX5_restore_3 3 rfl rfl)
theorem dX5_restore_70 : decode cX5_restore 70 = .ok (.getfield 25, 3) := dk_180 0 25 (dk_at dksX5_restore_3 4 rfl rfl)
theorem dX5_restore_73 : decode cX5_restore 73 = .ok (.invokestatic 108, 3) := dk_184 0 108 (dk_at dksX5_restore_3 7 rfl rfl)
theorem dX5_restore_76 : decode cX5_restore 76 = .ok (.aload_n 0, 1) := dk_42 (dk_at dksX5_restore_3 10 rfl rfl)
theorem dX5_restore_77 : decode cX5_restore 77 = .ok (.getfield 55, 3) := dk_180 0 55 (dk_at dksX5_restore_3 11 rfl rfl)
theorem dX5_restore_80 : decode cX5_restore 80 = .ok (.aload_n 0, 1) := dk_42 (dk_at dksX5_restore_3 14 rfl rfl)
theorem dX5_restore_81 : decode cX5_restore 81 = .ok (.getfield 28, 3) := dk_180 0 28 (dk_at dksX5_restore_3 15 rfl rfl)
theorem dX5_restore_84 : decode cX5_restore 84 = .ok (.invokestatic 108, 3) := dk_184 0 108 (dk_at dksX5_restore_3 18 rfl rfl)
theorem dX5_restore_87 : decode cX5_restore 87 = .ok (.aload_n 0, 1) := dk_42 (dk_at dksX5_restore_3 21 rfl rfl)
theorem dX5_restore_88 : decode cX5_restore 88 = .ok (.getfield 58, 3) := dk_180 0 58 (dk_at dksX5_restore_4 0 rfl rfl)
theorem dX5_restore_91 : decode cX5_restore 91 = .ok (.aload_n 0, 1) := dk_42 (dk_at dksX5_restore_4 3 rfl rfl)
theorem dX5_restore_92 : decode cX5_restore 92 = .ok (.getfield 31, 3) := dk_180 0 31 (dk_at dksX5_restore_4 4 rfl rfl)
theorem dX5_restore_95 : decode cX5_restore 95 = .ok (.invokestatic 108, 3) := dk_184 0 108 (dk_at dksX5_restore_4 7 rfl rfl)
theorem dX5_restore_98 : decode cX5_restore 98 = .ok (.aload_n 0, 1) := dk_42 (dk_at dksX5_restore_4 10 rfl rfl)
theorem dX5_restore_99 : decode cX5_restore 99 = .ok (.getfield 61, 3) := dk_180 0 61 (dk_at dksX5_restore_4 11 rfl rfl)
theorem dX5_restore_102 : decode cX5_restore 102 = .ok (.aload_n 0, 1) := dk_42 (dk_at dksX5_restore_4 14 rfl rfl)
theorem dX5_restore_103 : decode cX5_restore 103 = .ok (.getfield 34, 3) := dk_180 0 34 (dk_at dksX5_restore_4 15 rfl rfl)
theorem dX5_restore_106 : decode cX5_restore 106 = .ok (.invokestatic 108, 3) := dk_184 0 108 (dk_at dksX5_restore_4 18 rfl rfl)
theorem dX5_restore_109 : decode cX5_restore 109 = .ok (.aload_n 0, 1) := dk_42 (dk_at dksX5_restore_4 21 rfl rfl)
theorem dX5_restore_110 : decode cX5_restore 110 = .ok (.getfield 7, 3) := dk_180 0 7 (dk_at dksX5_restore_5 0 rfl rfl)
theorem dX5_restore_113 : decode cX5_restore 113 = .ok (.iconst 1, 1) := dk_4 (dk_at dksX5_restore_5 3 rfl rfl)
theorem dX5_restore_114 : decode cX5_restore 114 = .ok (.iaload, 1) := dk_46 (dk_at dksX5_restore_5 4 rfl rfl)
theorem dX5_restore_115 : decode cX5_restore 115 = .ok (.ireturn, 1) := dk_172 (dk_at dksX5_restore_5 5 rfl rfl)
abbrev cX5_price : ByteArray := prog_21_method_10_code
def yX5_price : MethodName := ⟨RX5, "price", "(I)I"⟩
def dkwX5_price_0 : List UInt8 := [27, 184, 0, 112, 153, 0, 16, 42, 180, 0, 7, 6, 46, 27, 184, 0, 116, 167, 0, 4, 2, 172]
abbrev dktX5_price_0 : List UInt8 := dkwX5_price_0 ++ []
theorem dksX5_price_0 : cX5_price.data.toList.drop 0 = dktX5_price_0 := by decide +kernel
theorem dX5_price_0 : decode cX5_price 0 = .ok (.iload_n 1, 1) := dk_27 (dk_at dksX5_price_0 0 rfl rfl)
theorem dX5_price_1 : decode cX5_price 1 = .ok (.invokestatic 112, 3) := dk_184 0 112 (dk_at dksX5_price_0 1 rfl rfl)
theorem dX5_price_4 : decode cX5_price 4 = .ok (.ifCond .eq 16, 3) := dk_153 0 16 (dk_at dksX5_price_0 4 rfl rfl)
theorem dX5_price_7 : decode cX5_price 7 = .ok (.aload_n 0, 1) := dk_42 (dk_at dksX5_price_0 7 rfl rfl)
theorem dX5_price_8 : decode cX5_price 8 = .ok (.getfield 7, 3) := dk_180 0 7 (dk_at dksX5_price_0 8 rfl rfl)
theorem dX5_price_11 : decode cX5_price 11 = .ok (.iconst 3, 1) := dk_6 (dk_at dksX5_price_0 11 rfl rfl)
theorem dX5_price_12 : decode cX5_price 12 = .ok (.iaload, 1) := dk_46 (dk_at dksX5_price_0 12 rfl rfl)
theorem dX5_price_13 : decode cX5_price 13 = .ok (.iload_n 1, 1) := dk_27 (dk_at dksX5_price_0 13 rfl rfl)
theorem dX5_price_14 : decode cX5_price 14 = .ok (.invokestatic 116, 3) := dk_184 0 116 (dk_at dksX5_price_0 14 rfl rfl)
theorem dX5_price_17 : decode cX5_price 17 = .ok (.goto 4, 3) := dk_167 0 4 (dk_at dksX5_price_0 17 rfl rfl)
theorem dX5_price_20 : decode cX5_price 20 = .ok (.iconst (-1), 1) := dk_2 (dk_at dksX5_price_0 20 rfl rfl)
theorem dX5_price_21 : decode cX5_price 21 = .ok (.ireturn, 1) := dk_172 (dk_at dksX5_price_0 21 rfl rfl)
abbrev cX5_isMinute : ByteArray := prog_21_method_3_code
def yX5_isMinute : MethodName := ⟨RX5, "isMinute", "(I)Z"⟩
def dkwX5_isMinute_0 : List UInt8 := [26, 3, 17, 2, 207, 184, 0, 100, 172]
abbrev dktX5_isMinute_0 : List UInt8 := dkwX5_isMinute_0 ++ []
theorem dksX5_isMinute_0 : cX5_isMinute.data.toList.drop 0 = dktX5_isMinute_0 := by decide +kernel
theorem dX5_isMinute_0 : decode cX5_isMinute 0 = .ok (.iload_n 0, 1) := dk_26 (dk_at dksX5_isMinute_0 0 rfl rfl)
theorem dX5_isMinute_1 : decode cX5_isMinute 1 = .ok (.iconst 0, 1) := dk_3 (dk_at dksX5_isMinute_0 1 rfl rfl)
theorem dX5_isMinute_2 : decode cX5_isMinute 2 = .ok (.sipush 719, 3) := dk_17 2 207 (dk_at dksX5_isMinute_0 2 rfl rfl)
theorem dX5_isMinute_5 : decode cX5_isMinute 5 = .ok (.invokestatic 100, 3) := dk_184 0 100 (dk_at dksX5_isMinute_0 5 rfl rfl)
theorem dX5_isMinute_8 : decode cX5_isMinute 8 = .ok (.ireturn, 1) := dk_172 (dk_at dksX5_isMinute_0 8 rfl rfl)
abbrev cX5_isIn : ByteArray := prog_21_method_2_code
def yX5_isIn : MethodName := ⟨RX5, "isIn", "(III)Z"⟩
def dkwX5_isIn_0 : List UInt8 := [26, 27, 161, 0, 12, 26, 28, 163, 0, 7, 4, 167, 0, 4, 3, 172]
abbrev dktX5_isIn_0 : List UInt8 := dkwX5_isIn_0 ++ []
theorem dksX5_isIn_0 : cX5_isIn.data.toList.drop 0 = dktX5_isIn_0 := by decide +kernel
theorem dX5_isIn_0 : decode cX5_isIn 0 = .ok (.iload_n 0, 1) := dk_26 (dk_at dksX5_isIn_0 0 rfl rfl)
theorem dX5_isIn_1 : decode cX5_isIn 1 = .ok (.iload_n 1, 1) := dk_27 (dk_at dksX5_isIn_0 1 rfl rfl)
theorem dX5_isIn_2 : decode cX5_isIn 2 = .ok (.if_icmp .lt 12, 3) := dk_161 0 12 (dk_at dksX5_isIn_0 2 rfl rfl)
theorem dX5_isIn_5 : decode cX5_isIn 5 = .ok (.iload_n 0, 1) := dk_26 (dk_at dksX5_isIn_0 5 rfl rfl)
theorem dX5_isIn_6 : decode cX5_isIn 6 = .ok (.iload_n 2, 1) := dk_28 (dk_at dksX5_isIn_0 6 rfl rfl)
theorem dX5_isIn_7 : decode cX5_isIn 7 = .ok (.if_icmp .gt 7, 3) := dk_163 0 7 (dk_at dksX5_isIn_0 7 rfl rfl)
theorem dX5_isIn_10 : decode cX5_isIn 10 = .ok (.iconst 1, 1) := dk_4 (dk_at dksX5_isIn_0 10 rfl rfl)
theorem dX5_isIn_11 : decode cX5_isIn 11 = .ok (.goto 4, 3) := dk_167 0 4 (dk_at dksX5_isIn_0 11 rfl rfl)
theorem dX5_isIn_14 : decode cX5_isIn 14 = .ok (.iconst 0, 1) := dk_3 (dk_at dksX5_isIn_0 14 rfl rfl)
theorem dX5_isIn_15 : decode cX5_isIn 15 = .ok (.ireturn, 1) := dk_172 (dk_at dksX5_isIn_0 15 rfl rfl)
abbrev cX5_priceBy : ByteArray := prog_21_method_9_code
def yX5_priceBy : MethodName := ⟨RX5, "priceBy", "(II)I"⟩
def dkwX5_priceBy_1 : List UInt8 := [167, 0, 22, 26, 4, 160, 0, 15, 28, 27, 16, 60, 112, 16, 10, 108, 96, 167, 0, 5, 16, 6, 172]
abbrev dktX5_priceBy_1 : List UInt8 := dkwX5_priceBy_1 ++ []
def dkwX5_priceBy_0 : List UInt8 := [27, 16, 60, 108, 154, 0, 8, 16, 12, 167, 0, 7, 27, 16, 60, 108, 61, 26, 154, 0, 7, 28]
abbrev dktX5_priceBy_0 : List UInt8 := dkwX5_priceBy_0 ++ dktX5_priceBy_1
theorem dksX5_priceBy_0 : cX5_priceBy.data.toList.drop 0 = dktX5_priceBy_0 := by decide +kernel
theorem dksX5_priceBy_1 : cX5_priceBy.data.toList.drop 22 = dktX5_priceBy_1 := dk_seg dksX5_priceBy_0 22 rfl rfl
theorem dX5_priceBy_0 : decode cX5_priceBy 0 = .ok (.iload_n 1, 1) := dk_27 (dk_at dksX5_priceBy_0 0 rfl rfl)
theorem dX5_priceBy_1 : decode cX5_priceBy 1 = .ok (.bipush 60, 2) := dk_16 60 (dk_at dksX5_priceBy_0 1 rfl rfl)
theorem dX5_priceBy_3 : decode cX5_priceBy 3 = .ok (.idiv, 1) := dk_108 (dk_at dksX5_priceBy_0 3 rfl rfl)
theorem dX5_priceBy_4 : decode cX5_priceBy 4 = .ok (.ifCond .ne 8, 3) := dk_154 0 8 (dk_at dksX5_priceBy_0 4 rfl rfl)
theorem dX5_priceBy_7 : decode cX5_priceBy 7 = .ok (.bipush 12, 2) := dk_16 12 (dk_at dksX5_priceBy_0 7 rfl rfl)
theorem dX5_priceBy_9 : decode cX5_priceBy 9 = .ok (.goto 7, 3) := dk_167 0 7 (dk_at dksX5_priceBy_0 9 rfl rfl)
theorem dX5_priceBy_12 : decode cX5_priceBy 12 = .ok (.iload_n 1, 1) := dk_27 (dk_at dksX5_priceBy_0 12 rfl rfl)
theorem dX5_priceBy_13 : decode cX5_priceBy 13 = .ok (.bipush 60, 2) := dk_16 60 (dk_at dksX5_priceBy_0 13 rfl rfl)
theorem dX5_priceBy_15 : decode cX5_priceBy 15 = .ok (.idiv, 1) := dk_108 (dk_at dksX5_priceBy_0 15 rfl rfl)
theorem dX5_priceBy_16 : decode cX5_priceBy 16 = .ok (.istore_n 2, 1) := dk_61 (dk_at dksX5_priceBy_0 16 rfl rfl)
theorem dX5_priceBy_17 : decode cX5_priceBy 17 = .ok (.iload_n 0, 1) := dk_26 (dk_at dksX5_priceBy_0 17 rfl rfl)
theorem dX5_priceBy_18 : decode cX5_priceBy 18 = .ok (.ifCond .ne 7, 3) := dk_154 0 7 (dk_at dksX5_priceBy_0 18 rfl rfl)
theorem dX5_priceBy_21 : decode cX5_priceBy 21 = .ok (.iload_n 2, 1) := dk_28 (dk_at dksX5_priceBy_0 21 rfl rfl)
theorem dX5_priceBy_22 : decode cX5_priceBy 22 = .ok (.goto 22, 3) := dk_167 0 22 (dk_at dksX5_priceBy_1 0 rfl rfl)
theorem dX5_priceBy_25 : decode cX5_priceBy 25 = .ok (.iload_n 0, 1) := dk_26 (dk_at dksX5_priceBy_1 3 rfl rfl)
theorem dX5_priceBy_26 : decode cX5_priceBy 26 = .ok (.iconst 1, 1) := dk_4 (dk_at dksX5_priceBy_1 4 rfl rfl)
theorem dX5_priceBy_27 : decode cX5_priceBy 27 = .ok (.if_icmp .ne 15, 3) := dk_160 0 15 (dk_at dksX5_priceBy_1 5 rfl rfl)
theorem dX5_priceBy_30 : decode cX5_priceBy 30 = .ok (.iload_n 2, 1) := dk_28 (dk_at dksX5_priceBy_1 8 rfl rfl)
theorem dX5_priceBy_31 : decode cX5_priceBy 31 = .ok (.iload_n 1, 1) := dk_27 (dk_at dksX5_priceBy_1 9 rfl rfl)
theorem dX5_priceBy_32 : decode cX5_priceBy 32 = .ok (.bipush 60, 2) := dk_16 60 (dk_at dksX5_priceBy_1 10 rfl rfl)
theorem dX5_priceBy_34 : decode cX5_priceBy 34 = .ok (.irem, 1) := dk_112 (dk_at dksX5_priceBy_1 12 rfl rfl)
theorem dX5_priceBy_35 : decode cX5_priceBy 35 = .ok (.bipush 10, 2) := dk_16 10 (dk_at dksX5_priceBy_1 13 rfl rfl)
theorem dX5_priceBy_37 : decode cX5_priceBy 37 = .ok (.idiv, 1) := dk_108 (dk_at dksX5_priceBy_1 15 rfl rfl)
theorem dX5_priceBy_38 : decode cX5_priceBy 38 = .ok (.iadd, 1) := dk_96 (dk_at dksX5_priceBy_1 16 rfl rfl)
theorem dX5_priceBy_39 : decode cX5_priceBy 39 = .ok (.goto 5, 3) := dk_167 0 5 (dk_at dksX5_priceBy_1 17 rfl rfl)
theorem dX5_priceBy_42 : decode cX5_priceBy 42 = .ok (.bipush 6, 2) := dk_16 6 (dk_at dksX5_priceBy_1 20 rfl rfl)
theorem dX5_priceBy_44 : decode cX5_priceBy 44 = .ok (.ireturn, 1) := dk_172 (dk_at dksX5_priceBy_1 22 rfl rfl)
abbrev cX5_law : ByteArray := prog_21_method_11_code
def yX5_law : MethodName := ⟨RX5, "law", "(I)I"⟩
def dkwX5_law_1 : List UInt8 := [79, 28, 172]
abbrev dktX5_law_1 : List UInt8 := dkwX5_law_1 ++ []
def dkwX5_law_0 : List UInt8 := [27, 3, 5, 184, 0, 100, 154, 0, 5, 2, 172, 42, 180, 0, 7, 6, 46, 61, 42, 180, 0, 7, 6, 27]
abbrev dktX5_law_0 : List UInt8 := dkwX5_law_0 ++ dktX5_law_1
theorem dksX5_law_0 : cX5_law.data.toList.drop 0 = dktX5_law_0 := by decide +kernel
theorem dksX5_law_1 : cX5_law.data.toList.drop 24 = dktX5_law_1 := dk_seg dksX5_law_0 24 rfl rfl
theorem dX5_law_0 : decode cX5_law 0 = .ok (.iload_n 1, 1) := dk_27 (dk_at dksX5_law_0 0 rfl rfl)
theorem dX5_law_1 : decode cX5_law 1 = .ok (.iconst 0, 1) := dk_3 (dk_at dksX5_law_0 1 rfl rfl)
theorem dX5_law_2 : decode cX5_law 2 = .ok (.iconst 2, 1) := dk_5 (dk_at dksX5_law_0 2 rfl rfl)
theorem dX5_law_3 : decode cX5_law 3 = .ok (.invokestatic 100, 3) := dk_184 0 100 (dk_at dksX5_law_0 3 rfl rfl)
theorem dX5_law_6 : decode cX5_law 6 = .ok (.ifCond .ne 5, 3) := dk_154 0 5 (dk_at dksX5_law_0 6 rfl rfl)
theorem dX5_law_9 : decode cX5_law 9 = .ok (.iconst (-1), 1) := dk_2 (dk_at dksX5_law_0 9 rfl rfl)
theorem dX5_law_10 : decode cX5_law 10 = .ok (.ireturn, 1) := dk_172 (dk_at dksX5_law_0 10 rfl rfl)
theorem dX5_law_11 : decode cX5_law 11 = .ok (.aload_n 0, 1) := dk_42 (dk_at dksX5_law_0 11 rfl rfl)
theorem dX5_law_12 : decode cX5_law 12 = .ok (.getfield 7, 3) := dk_180 0 7 (dk_at dksX5_law_0 12 rfl rfl)
theorem dX5_law_15 : decode cX5_law 15 = .ok (.iconst 3, 1) := dk_6 (dk_at dksX5_law_0 15 rfl rfl)
theorem dX5_law_16 : decode cX5_law 16 = .ok (.iaload, 1) := dk_46 (dk_at dksX5_law_0 16 rfl rfl)
theorem dX5_law_17 : decode cX5_law 17 = .ok (.istore_n 2, 1) := dk_61 (dk_at dksX5_law_0 17 rfl rfl)
theorem dX5_law_18 : decode cX5_law 18 = .ok (.aload_n 0, 1) := dk_42 (dk_at dksX5_law_0 18 rfl rfl)
theorem dX5_law_19 : decode cX5_law 19 = .ok (.getfield 7, 3) := dk_180 0 7 (dk_at dksX5_law_0 19 rfl rfl)
theorem dX5_law_22 : decode cX5_law 22 = .ok (.iconst 3, 1) := dk_6 (dk_at dksX5_law_0 22 rfl rfl)
theorem dX5_law_23 : decode cX5_law 23 = .ok (.iload_n 1, 1) := dk_27 (dk_at dksX5_law_0 23 rfl rfl)
theorem dX5_law_24 : decode cX5_law 24 = .ok (.iastore, 1) := dk_79 (dk_at dksX5_law_1 0 rfl rfl)
theorem dX5_law_25 : decode cX5_law 25 = .ok (.iload_n 2, 1) := dk_28 (dk_at dksX5_law_1 1 rfl rfl)
theorem dX5_law_26 : decode cX5_law 26 = .ok (.ireturn, 1) := dk_172 (dk_at dksX5_law_1 2 rfl rfl)
abbrev cX5_work : ByteArray := prog_21_method_12_code
def yX5_work : MethodName := ⟨RX5, "work", "(II)I"⟩
def dkwX5_work_2 : List UInt8 := [180, 0, 19, 27, 46, 172]
abbrev dktX5_work_2 : List UInt8 := dkwX5_work_2 ++ []
def dkwX5_work_1 : List UInt8 := [180, 0, 13, 27, 46, 167, 0, 23, 28, 4, 160, 0, 12, 42, 180, 0, 16, 27, 46, 167, 0, 9, 42]
abbrev dktX5_work_1 : List UInt8 := dkwX5_work_1 ++ dktX5_work_2
def dkwX5_work_0 : List UInt8 := [42, 27, 182, 0, 120, 153, 0, 12, 28, 3, 5, 184, 0, 100, 154, 0, 5, 2, 172, 28, 154, 0, 12, 42]
abbrev dktX5_work_0 : List UInt8 := dkwX5_work_0 ++ dktX5_work_1
theorem dksX5_work_0 : cX5_work.data.toList.drop 0 = dktX5_work_0 := by decide +kernel
theorem dksX5_work_1 : cX5_work.data.toList.drop 24 = dktX5_work_1 := dk_seg dksX5_work_0 24 rfl rfl
theorem dksX5_work_2 : cX5_work.data.toList.drop 47 = dktX5_work_2 := dk_seg dksX5_work_1 23 rfl rfl
theorem dX5_work_0 : decode cX5_work 0 = .ok (.aload_n 0, 1) := dk_42 (dk_at dksX5_work_0 0 rfl rfl)
theorem dX5_work_1 : decode cX5_work 1 = .ok (.iload_n 1, 1) := dk_27 (dk_at dksX5_work_0 1 rfl rfl)
theorem dX5_work_2 : decode cX5_work 2 = .ok (.invokevirtual 120, 3) := dk_182 0 120 (dk_at dksX5_work_0 2 rfl rfl)
theorem dX5_work_5 : decode cX5_work 5 = .ok (.ifCond .eq 12, 3) := dk_153 0 12 (dk_at dksX5_work_0 5 rfl rfl)
theorem dX5_work_8 : decode cX5_work 8 = .ok (.iload_n 2, 1) := dk_28 (dk_at dksX5_work_0 8 rfl rfl)
theorem dX5_work_9 : decode cX5_work 9 = .ok (.iconst 0, 1) := dk_3 (dk_at dksX5_work_0 9 rfl rfl)
theorem dX5_work_10 : decode cX5_work 10 = .ok (.iconst 2, 1) := dk_5 (dk_at dksX5_work_0 10 rfl rfl)
theorem dX5_work_11 : decode cX5_work 11 = .ok (.invokestatic 100, 3) := dk_184 0 100 (dk_at dksX5_work_0 11 rfl rfl)
theorem dX5_work_14 : decode cX5_work 14 = .ok (.ifCond .ne 5, 3) := dk_154 0 5 (dk_at dksX5_work_0 14 rfl rfl)
theorem dX5_work_17 : decode cX5_work 17 = .ok (.iconst (-1), 1) := dk_2 (dk_at dksX5_work_0 17 rfl rfl)
theorem dX5_work_18 : decode cX5_work 18 = .ok (.ireturn, 1) := dk_172 (dk_at dksX5_work_0 18 rfl rfl)
theorem dX5_work_19 : decode cX5_work 19 = .ok (.iload_n 2, 1) := dk_28 (dk_at dksX5_work_0 19 rfl rfl)
theorem dX5_work_20 : decode cX5_work 20 = .ok (.ifCond .ne 12, 3) := dk_154 0 12 (dk_at dksX5_work_0 20 rfl rfl)
theorem dX5_work_23 : decode cX5_work 23 = .ok (.aload_n 0, 1) := dk_42 (dk_at dksX5_work_0 23 rfl rfl)
theorem dX5_work_24 : decode cX5_work 24 = .ok (.getfield 13, 3) := dk_180 0 13 (dk_at dksX5_work_1 0 rfl rfl)
theorem dX5_work_27 : decode cX5_work 27 = .ok (.iload_n 1, 1) := dk_27 (dk_at dksX5_work_1 3 rfl rfl)
theorem dX5_work_28 : decode cX5_work 28 = .ok (.iaload, 1) := dk_46 (dk_at dksX5_work_1 4 rfl rfl)
theorem dX5_work_29 : decode cX5_work 29 = .ok (.goto 23, 3) := dk_167 0 23 (dk_at dksX5_work_1 5 rfl rfl)
theorem dX5_work_32 : decode cX5_work 32 = .ok (.iload_n 2, 1) := dk_28 (dk_at dksX5_work_1 8 rfl rfl)
theorem dX5_work_33 : decode cX5_work 33 = .ok (.iconst 1, 1) := dk_4 (dk_at dksX5_work_1 9 rfl rfl)
theorem dX5_work_34 : decode cX5_work 34 = .ok (.if_icmp .ne 12, 3) := dk_160 0 12 (dk_at dksX5_work_1 10 rfl rfl)
theorem dX5_work_37 : decode cX5_work 37 = .ok (.aload_n 0, 1) := dk_42 (dk_at dksX5_work_1 13 rfl rfl)
theorem dX5_work_38 : decode cX5_work 38 = .ok (.getfield 16, 3) := dk_180 0 16 (dk_at dksX5_work_1 14 rfl rfl)
theorem dX5_work_41 : decode cX5_work 41 = .ok (.iload_n 1, 1) := dk_27 (dk_at dksX5_work_1 17 rfl rfl)
theorem dX5_work_42 : decode cX5_work 42 = .ok (.iaload, 1) := dk_46 (dk_at dksX5_work_1 18 rfl rfl)
theorem dX5_work_43 : decode cX5_work 43 = .ok (.goto 9, 3) := dk_167 0 9 (dk_at dksX5_work_1 19 rfl rfl)
theorem dX5_work_46 : decode cX5_work 46 = .ok (.aload_n 0, 1) := dk_42 (dk_at dksX5_work_1 22 rfl rfl)
theorem dX5_work_47 : decode cX5_work 47 = .ok (.getfield 19, 3) := dk_180 0 19 (dk_at dksX5_work_2 0 rfl rfl)
theorem dX5_work_50 : decode cX5_work 50 = .ok (.iload_n 1, 1) := dk_27 (dk_at dksX5_work_2 3 rfl rfl)
theorem dX5_work_51 : decode cX5_work 51 = .ok (.iaload, 1) := dk_46 (dk_at dksX5_work_2 4 rfl rfl)
theorem dX5_work_52 : decode cX5_work 52 = .ok (.ireturn, 1) := dk_172 (dk_at dksX5_work_2 5 rfl rfl)
abbrev cX5_isWork : ByteArray := prog_21_method_7_code
def yX5_isWork : MethodName := ⟨RX5, "isWork", "(I)Z"⟩
def dkwX5_isWork_0 : List UInt8 := [27, 3, 42, 180, 0, 7, 3, 46, 4, 100, 184, 0, 100, 172]
abbrev dktX5_isWork_0 : List UInt8 := dkwX5_isWork_0 ++ []
theorem dksX5_isWork_0 : cX5_isWork.data.toList.drop 0 = dktX5_isWork_0 := by decide +kernel
theorem dX5_isWork_0 : decode cX5_isWork 0 = .ok (.iload_n 1, 1) := dk_27 (dk_at dksX5_isWork_0 0 rfl rfl)
theorem dX5_isWork_1 : decode cX5_isWork 1 = .ok (.iconst 0, 1) := dk_3 (dk_at dksX5_isWork_0 1 rfl rfl)
theorem dX5_isWork_2 : decode cX5_isWork 2 = .ok (.aload_n 0, 1) := dk_42 (dk_at dksX5_isWork_0 2 rfl rfl)
theorem dX5_isWork_3 : decode cX5_isWork 3 = .ok (.getfield 7, 3) := dk_180 0 7 (dk_at dksX5_isWork_0 3 rfl rfl)
theorem dX5_isWork_6 : decode cX5_isWork 6 = .ok (.iconst 0, 1) := dk_3 (dk_at dksX5_isWork_0 6 rfl rfl)
theorem dX5_isWork_7 : decode cX5_isWork 7 = .ok (.iaload, 1) := dk_46 (dk_at dksX5_isWork_0 7 rfl rfl)
theorem dX5_isWork_8 : decode cX5_isWork 8 = .ok (.iconst 1, 1) := dk_4 (dk_at dksX5_isWork_0 8 rfl rfl)
theorem dX5_isWork_9 : decode cX5_isWork 9 = .ok (.isub, 1) := dk_100 (dk_at dksX5_isWork_0 9 rfl rfl)
theorem dX5_isWork_10 : decode cX5_isWork 10 = .ok (.invokestatic 100, 3) := dk_184 0 100 (dk_at dksX5_isWork_0 10 rfl rfl)
theorem dX5_isWork_13 : decode cX5_isWork 13 = .ok (.ireturn, 1) := dk_172 (dk_at dksX5_isWork_0 13 rfl rfl)
abbrev cX5_looker : ByteArray := prog_21_method_14_code
def yX5_looker : MethodName := ⟨RX5, "looker", "(II)I"⟩
def dkwX5_looker_3 : List UInt8 := [180, 0, 22, 27, 46, 42, 180, 0, 25, 27, 46, 184, 0, 126, 172]
abbrev dktX5_looker_3 : List UInt8 := dkwX5_looker_3 ++ []
def dkwX5_looker_2 : List UInt8 := [42, 180, 0, 22, 27, 46, 172, 42, 180, 0, 25, 27, 46, 172, 42, 180, 0, 31, 27, 46, 172, 42]
abbrev dktX5_looker_2 : List UInt8 := dkwX5_looker_2 ++ dktX5_looker_3
def dkwX5_looker_1 : List UInt8 := [170, 0, 0, 0, 0, 0, 0, 49, 0, 0, 0, 0, 0, 0, 0, 2, 0, 0, 0, 28, 0, 0, 0, 35, 0, 0, 0, 42]
abbrev dktX5_looker_1 : List UInt8 := dkwX5_looker_1 ++ dktX5_looker_2
def dkwX5_looker_0 : List UInt8 := [42, 27, 182, 0, 123, 153, 0, 12, 28, 3, 6, 184, 0, 100, 154, 0, 5, 2, 172, 28]
abbrev dktX5_looker_0 : List UInt8 := dkwX5_looker_0 ++ dktX5_looker_1
theorem dksX5_looker_0 : cX5_looker.data.toList.drop 0 = dktX5_looker_0 := by decide +kernel
theorem dksX5_looker_1 : cX5_looker.data.toList.drop 20 = dktX5_looker_1 := dk_seg dksX5_looker_0 20 rfl rfl
theorem dksX5_looker_2 : cX5_looker.data.toList.drop 48 = dktX5_looker_2 := dk_seg dksX5_looker_1 28 rfl rfl
theorem dksX5_looker_3 : cX5_looker.data.toList.drop 70 = dktX5_looker_3 := dk_seg dksX5_looker_2 22 rfl rfl
theorem dX5_looker_0 : decode cX5_looker 0 = .ok (.aload_n 0, 1) := dk_42 (dk_at dksX5_looker_0 0 rfl rfl)
theorem dX5_looker_1 : decode cX5_looker 1 = .ok (.iload_n 1, 1) := dk_27 (dk_at dksX5_looker_0 1 rfl rfl)
theorem dX5_looker_2 : decode cX5_looker 2 = .ok (.invokevirtual 123, 3) := dk_182 0 123 (dk_at dksX5_looker_0 2 rfl rfl)
theorem dX5_looker_5 : decode cX5_looker 5 = .ok (.ifCond .eq 12, 3) := dk_153 0 12 (dk_at dksX5_looker_0 5 rfl rfl)
theorem dX5_looker_8 : decode cX5_looker 8 = .ok (.iload_n 2, 1) := dk_28 (dk_at dksX5_looker_0 8 rfl rfl)
theorem dX5_looker_9 : decode cX5_looker 9 = .ok (.iconst 0, 1) := dk_3 (dk_at dksX5_looker_0 9 rfl rfl)
theorem dX5_looker_10 : decode cX5_looker 10 = .ok (.iconst 3, 1) := dk_6 (dk_at dksX5_looker_0 10 rfl rfl)
theorem dX5_looker_11 : decode cX5_looker 11 = .ok (.invokestatic 100, 3) := dk_184 0 100 (dk_at dksX5_looker_0 11 rfl rfl)
theorem dX5_looker_14 : decode cX5_looker 14 = .ok (.ifCond .ne 5, 3) := dk_154 0 5 (dk_at dksX5_looker_0 14 rfl rfl)
theorem dX5_looker_17 : decode cX5_looker 17 = .ok (.iconst (-1), 1) := dk_2 (dk_at dksX5_looker_0 17 rfl rfl)
theorem dX5_looker_18 : decode cX5_looker 18 = .ok (.ireturn, 1) := dk_172 (dk_at dksX5_looker_0 18 rfl rfl)
theorem dX5_looker_19 : decode cX5_looker 19 = .ok (.iload_n 2, 1) := dk_28 (dk_at dksX5_looker_0 19 rfl rfl)
theorem dX5_looker_20 : decode cX5_looker 20 = .ok (.tableswitch 49 0 2 #[28, 35, 42], 28) := by decide +kernel
theorem dX5_looker_48 : decode cX5_looker 48 = .ok (.aload_n 0, 1) := dk_42 (dk_at dksX5_looker_2 0 rfl rfl)
theorem dX5_looker_49 : decode cX5_looker 49 = .ok (.getfield 22, 3) := dk_180 0 22 (dk_at dksX5_looker_2 1 rfl rfl)
theorem dX5_looker_52 : decode cX5_looker 52 = .ok (.iload_n 1, 1) := dk_27 (dk_at dksX5_looker_2 4 rfl rfl)
theorem dX5_looker_53 : decode cX5_looker 53 = .ok (.iaload, 1) := dk_46 (dk_at dksX5_looker_2 5 rfl rfl)
theorem dX5_looker_54 : decode cX5_looker 54 = .ok (.ireturn, 1) := dk_172 (dk_at dksX5_looker_2 6 rfl rfl)
theorem dX5_looker_55 : decode cX5_looker 55 = .ok (.aload_n 0, 1) := dk_42 (dk_at dksX5_looker_2 7 rfl rfl)
theorem dX5_looker_56 : decode cX5_looker 56 = .ok (.getfield 25, 3) := dk_180 0 25 (dk_at dksX5_looker_2 8 rfl rfl)
theorem dX5_looker_59 : decode cX5_looker 59 = .ok (.iload_n 1, 1) := dk_27 (dk_at dksX5_looker_2 11 rfl rfl)
theorem dX5_looker_60 : decode cX5_looker 60 = .ok (.iaload, 1) := dk_46 (dk_at dksX5_looker_2 12 rfl rfl)
theorem dX5_looker_61 : decode cX5_looker 61 = .ok (.ireturn, 1) := dk_172 (dk_at dksX5_looker_2 13 rfl rfl)
theorem dX5_looker_62 : decode cX5_looker 62 = .ok (.aload_n 0, 1) := dk_42 (dk_at dksX5_looker_2 14 rfl rfl)
theorem dX5_looker_63 : decode cX5_looker 63 = .ok (.getfield 31, 3) := dk_180 0 31 (dk_at dksX5_looker_2 15 rfl rfl)
theorem dX5_looker_66 : decode cX5_looker 66 = .ok (.iload_n 1, 1) := dk_27 (dk_at dksX5_looker_2 18 rfl rfl)
theorem dX5_looker_67 : decode cX5_looker 67 = .ok (.iaload, 1) := dk_46 (dk_at dksX5_looker_2 19 rfl rfl)
theorem dX5_looker_68 : decode cX5_looker 68 = .ok (.ireturn, 1) := dk_172 (dk_at dksX5_looker_2 20 rfl rfl)
theorem dX5_looker_69 : decode cX5_looker 69 = .ok (.aload_n 0, 1) := dk_42 (dk_at dksX5_looker_2 21 rfl rfl)
theorem dX5_looker_70 : decode cX5_looker 70 = .ok (.getfield 22, 3) := dk_180 0 22 (dk_at dksX5_looker_3 0 rfl rfl)
theorem dX5_looker_73 : decode cX5_looker 73 = .ok (.iload_n 1, 1) := dk_27 (dk_at dksX5_looker_3 3 rfl rfl)
theorem dX5_looker_74 : decode cX5_looker 74 = .ok (.iaload, 1) := dk_46 (dk_at dksX5_looker_3 4 rfl rfl)
theorem dX5_looker_75 : decode cX5_looker 75 = .ok (.aload_n 0, 1) := dk_42 (dk_at dksX5_looker_3 5 rfl rfl)
theorem dX5_looker_76 : decode cX5_looker 76 = .ok (.getfield 25, 3) := dk_180 0 25 (dk_at dksX5_looker_3 6 rfl rfl)
theorem dX5_looker_79 : decode cX5_looker 79 = .ok (.iload_n 1, 1) := dk_27 (dk_at dksX5_looker_3 9 rfl rfl)
theorem dX5_looker_80 : decode cX5_looker 80 = .ok (.iaload, 1) := dk_46 (dk_at dksX5_looker_3 10 rfl rfl)
theorem dX5_looker_81 : decode cX5_looker 81 = .ok (.invokestatic 126, 3) := dk_184 0 126 (dk_at dksX5_looker_3 11 rfl rfl)
theorem dX5_looker_84 : decode cX5_looker 84 = .ok (.ireturn, 1) := dk_172 (dk_at dksX5_looker_3 14 rfl rfl)
abbrev cX5_isLooker : ByteArray := prog_21_method_8_code
def yX5_isLooker : MethodName := ⟨RX5, "isLooker", "(I)Z"⟩
def dkwX5_isLooker_0 : List UInt8 := [27, 3, 42, 180, 0, 7, 4, 46, 4, 100, 184, 0, 100, 172]
abbrev dktX5_isLooker_0 : List UInt8 := dkwX5_isLooker_0 ++ []
theorem dksX5_isLooker_0 : cX5_isLooker.data.toList.drop 0 = dktX5_isLooker_0 := by decide +kernel
theorem dX5_isLooker_0 : decode cX5_isLooker 0 = .ok (.iload_n 1, 1) := dk_27 (dk_at dksX5_isLooker_0 0 rfl rfl)
theorem dX5_isLooker_1 : decode cX5_isLooker 1 = .ok (.iconst 0, 1) := dk_3 (dk_at dksX5_isLooker_0 1 rfl rfl)
theorem dX5_isLooker_2 : decode cX5_isLooker 2 = .ok (.aload_n 0, 1) := dk_42 (dk_at dksX5_isLooker_0 2 rfl rfl)
theorem dX5_isLooker_3 : decode cX5_isLooker 3 = .ok (.getfield 7, 3) := dk_180 0 7 (dk_at dksX5_isLooker_0 3 rfl rfl)
theorem dX5_isLooker_6 : decode cX5_isLooker 6 = .ok (.iconst 1, 1) := dk_4 (dk_at dksX5_isLooker_0 6 rfl rfl)
theorem dX5_isLooker_7 : decode cX5_isLooker 7 = .ok (.iaload, 1) := dk_46 (dk_at dksX5_isLooker_0 7 rfl rfl)
theorem dX5_isLooker_8 : decode cX5_isLooker 8 = .ok (.iconst 1, 1) := dk_4 (dk_at dksX5_isLooker_0 8 rfl rfl)
theorem dX5_isLooker_9 : decode cX5_isLooker 9 = .ok (.isub, 1) := dk_100 (dk_at dksX5_isLooker_0 9 rfl rfl)
theorem dX5_isLooker_10 : decode cX5_isLooker 10 = .ok (.invokestatic 100, 3) := dk_184 0 100 (dk_at dksX5_isLooker_0 10 rfl rfl)
theorem dX5_isLooker_13 : decode cX5_isLooker 13 = .ok (.ireturn, 1) := dk_172 (dk_at dksX5_isLooker_0 13 rfl rfl)
abbrev cX5_early : ByteArray := prog_21_method_13_code
def yX5_early : MethodName := ⟨RX5, "early", "(II)I"⟩
def dkwX5_early_0 : List UInt8 := [26, 4, 160, 0, 9, 5, 27, 104, 167, 0, 14, 26, 16, 6, 160, 0, 7, 27, 167, 0, 4, 3, 172]
abbrev dktX5_early_0 : List UInt8 := dkwX5_early_0 ++ []
theorem dksX5_early_0 : cX5_early.data.toList.drop 0 = dktX5_early_0 := by decide +kernel
theorem dX5_early_0 : decode cX5_early 0 = .ok (.iload_n 0, 1) := dk_26 (dk_at dksX5_early_0 0 rfl rfl)
theorem dX5_early_1 : decode cX5_early 1 = .ok (.iconst 1, 1) := dk_4 (dk_at dksX5_early_0 1 rfl rfl)
theorem dX5_early_2 : decode cX5_early 2 = .ok (.if_icmp .ne 9, 3) := dk_160 0 9 (dk_at dksX5_early_0 2 rfl rfl)
theorem dX5_early_5 : decode cX5_early 5 = .ok (.iconst 2, 1) := dk_5 (dk_at dksX5_early_0 5 rfl rfl)
theorem dX5_early_6 : decode cX5_early 6 = .ok (.iload_n 1, 1) := dk_27 (dk_at dksX5_early_0 6 rfl rfl)
theorem dX5_early_7 : decode cX5_early 7 = .ok (.imul, 1) := dk_104 (dk_at dksX5_early_0 7 rfl rfl)
theorem dX5_early_8 : decode cX5_early 8 = .ok (.goto 14, 3) := dk_167 0 14 (dk_at dksX5_early_0 8 rfl rfl)
theorem dX5_early_11 : decode cX5_early 11 = .ok (.iload_n 0, 1) := dk_26 (dk_at dksX5_early_0 11 rfl rfl)
theorem dX5_early_12 : decode cX5_early 12 = .ok (.bipush 6, 2) := dk_16 6 (dk_at dksX5_early_0 12 rfl rfl)
theorem dX5_early_14 : decode cX5_early 14 = .ok (.if_icmp .ne 7, 3) := dk_160 0 7 (dk_at dksX5_early_0 14 rfl rfl)
theorem dX5_early_17 : decode cX5_early 17 = .ok (.iload_n 1, 1) := dk_27 (dk_at dksX5_early_0 17 rfl rfl)
theorem dX5_early_18 : decode cX5_early 18 = .ok (.goto 4, 3) := dk_167 0 4 (dk_at dksX5_early_0 18 rfl rfl)
theorem dX5_early_21 : decode cX5_early 21 = .ok (.iconst 0, 1) := dk_3 (dk_at dksX5_early_0 21 rfl rfl)
theorem dX5_early_22 : decode cX5_early 22 = .ok (.ireturn, 1) := dk_172 (dk_at dksX5_early_0 22 rfl rfl)
abbrev cX5_drift : ByteArray := prog_21_method_15_code
def yX5_drift : MethodName := ⟨RX5, "drift", "(I)I"⟩
def dkwX5_drift_0 : List UInt8 := [42, 27, 182, 0, 123, 153, 0, 12, 42, 180, 0, 28, 27, 46, 167, 0, 5, 18, 129, 172]
abbrev dktX5_drift_0 : List UInt8 := dkwX5_drift_0 ++ []
theorem dksX5_drift_0 : cX5_drift.data.toList.drop 0 = dktX5_drift_0 := by decide +kernel
theorem dX5_drift_0 : decode cX5_drift 0 = .ok (.aload_n 0, 1) := dk_42 (dk_at dksX5_drift_0 0 rfl rfl)
theorem dX5_drift_1 : decode cX5_drift 1 = .ok (.iload_n 1, 1) := dk_27 (dk_at dksX5_drift_0 1 rfl rfl)
theorem dX5_drift_2 : decode cX5_drift 2 = .ok (.invokevirtual 123, 3) := dk_182 0 123 (dk_at dksX5_drift_0 2 rfl rfl)
theorem dX5_drift_5 : decode cX5_drift 5 = .ok (.ifCond .eq 12, 3) := dk_153 0 12 (dk_at dksX5_drift_0 5 rfl rfl)
theorem dX5_drift_8 : decode cX5_drift 8 = .ok (.aload_n 0, 1) := dk_42 (dk_at dksX5_drift_0 8 rfl rfl)
theorem dX5_drift_9 : decode cX5_drift 9 = .ok (.getfield 28, 3) := dk_180 0 28 (dk_at dksX5_drift_0 9 rfl rfl)
theorem dX5_drift_12 : decode cX5_drift 12 = .ok (.iload_n 1, 1) := dk_27 (dk_at dksX5_drift_0 12 rfl rfl)
theorem dX5_drift_13 : decode cX5_drift 13 = .ok (.iaload, 1) := dk_46 (dk_at dksX5_drift_0 13 rfl rfl)
theorem dX5_drift_14 : decode cX5_drift 14 = .ok (.goto 5, 3) := dk_167 0 5 (dk_at dksX5_drift_0 14 rfl rfl)
theorem dX5_drift_17 : decode cX5_drift 17 = .ok (.ldc 129, 2) := dk_18 129 (dk_at dksX5_drift_0 17 rfl rfl)
theorem dX5_drift_19 : decode cX5_drift 19 = .ok (.ireturn, 1) := dk_172 (dk_at dksX5_drift_0 19 rfl rfl)
abbrev cX5_thinks : ByteArray := prog_21_method_17_code
def yX5_thinks : MethodName := ⟨RX5, "thinks", "(III)I"⟩
def dkwX5_thinks_1 : List UInt8 := [163, 0, 17, 42, 180, 0, 28, 27, 46, 28, 29, 184, 0, 130, 167, 0, 5, 18, 129, 172]
abbrev dktX5_thinks_1 : List UInt8 := dkwX5_thinks_1 ++ []
def dkwX5_thinks_0 : List UInt8 := [42, 27, 182, 0, 123, 153, 0, 36, 28, 184, 0, 112, 153, 0, 29, 29, 184, 0, 112, 153, 0, 22, 28, 29]
abbrev dktX5_thinks_0 : List UInt8 := dkwX5_thinks_0 ++ dktX5_thinks_1
theorem dksX5_thinks_0 : cX5_thinks.data.toList.drop 0 = dktX5_thinks_0 := by decide +kernel
theorem dksX5_thinks_1 : cX5_thinks.data.toList.drop 24 = dktX5_thinks_1 := dk_seg dksX5_thinks_0 24 rfl rfl
theorem dX5_thinks_0 : decode cX5_thinks 0 = .ok (.aload_n 0, 1) := dk_42 (dk_at dksX5_thinks_0 0 rfl rfl)
theorem dX5_thinks_1 : decode cX5_thinks 1 = .ok (.iload_n 1, 1) := dk_27 (dk_at dksX5_thinks_0 1 rfl rfl)
theorem dX5_thinks_2 : decode cX5_thinks 2 = .ok (.invokevirtual 123, 3) := dk_182 0 123 (dk_at dksX5_thinks_0 2 rfl rfl)
theorem dX5_thinks_5 : decode cX5_thinks 5 = .ok (.ifCond .eq 36, 3) := dk_153 0 36 (dk_at dksX5_thinks_0 5 rfl rfl)
theorem dX5_thinks_8 : decode cX5_thinks 8 = .ok (.iload_n 2, 1) := dk_28 (dk_at dksX5_thinks_0 8 rfl rfl)
theorem dX5_thinks_9 : decode cX5_thinks 9 = .ok (.invokestatic 112, 3) := dk_184 0 112 (dk_at dksX5_thinks_0 9 rfl rfl)
theorem dX5_thinks_12 : decode cX5_thinks 12 = .ok (.ifCond .eq 29, 3) := dk_153 0 29 (dk_at dksX5_thinks_0 12 rfl rfl)
theorem dX5_thinks_15 : decode cX5_thinks 15 = .ok (.iload_n 3, 1) := dk_29 (dk_at dksX5_thinks_0 15 rfl rfl)
theorem dX5_thinks_16 : decode cX5_thinks 16 = .ok (.invokestatic 112, 3) := dk_184 0 112 (dk_at dksX5_thinks_0 16 rfl rfl)
theorem dX5_thinks_19 : decode cX5_thinks 19 = .ok (.ifCond .eq 22, 3) := dk_153 0 22 (dk_at dksX5_thinks_0 19 rfl rfl)
theorem dX5_thinks_22 : decode cX5_thinks 22 = .ok (.iload_n 2, 1) := dk_28 (dk_at dksX5_thinks_0 22 rfl rfl)
theorem dX5_thinks_23 : decode cX5_thinks 23 = .ok (.iload_n 3, 1) := dk_29 (dk_at dksX5_thinks_0 23 rfl rfl)
theorem dX5_thinks_24 : decode cX5_thinks 24 = .ok (.if_icmp .gt 17, 3) := dk_163 0 17 (dk_at dksX5_thinks_1 0 rfl rfl)
theorem dX5_thinks_27 : decode cX5_thinks 27 = .ok (.aload_n 0, 1) := dk_42 (dk_at dksX5_thinks_1 3 rfl rfl)
theorem dX5_thinks_28 : decode cX5_thinks 28 = .ok (.getfield 28, 3) := dk_180 0 28 (dk_at dksX5_thinks_1 4 rfl rfl)
theorem dX5_thinks_31 : decode cX5_thinks 31 = .ok (.iload_n 1, 1) := dk_27 (dk_at dksX5_thinks_1 7 rfl rfl)
theorem dX5_thinks_32 : decode cX5_thinks 32 = .ok (.iaload, 1) := dk_46 (dk_at dksX5_thinks_1 8 rfl rfl)
theorem dX5_thinks_33 : decode cX5_thinks 33 = .ok (.iload_n 2, 1) := dk_28 (dk_at dksX5_thinks_1 9 rfl rfl)
theorem dX5_thinks_34 : decode cX5_thinks 34 = .ok (.iload_n 3, 1) := dk_29 (dk_at dksX5_thinks_1 10 rfl rfl)
theorem dX5_thinks_35 : decode cX5_thinks 35 = .ok (.invokestatic 130, 3) := dk_184 0 130 (dk_at dksX5_thinks_1 11 rfl rfl)
theorem dX5_thinks_38 : decode cX5_thinks 38 = .ok (.goto 5, 3) := dk_167 0 5 (dk_at dksX5_thinks_1 14 rfl rfl)
theorem dX5_thinks_41 : decode cX5_thinks 41 = .ok (.ldc 129, 2) := dk_18 129 (dk_at dksX5_thinks_1 17 rfl rfl)
theorem dX5_thinks_43 : decode cX5_thinks 43 = .ok (.ireturn, 1) := dk_172 (dk_at dksX5_thinks_1 19 rfl rfl)
abbrev cX5_thought : ByteArray := prog_21_method_16_code
def yX5_thought : MethodName := ⟨RX5, "thought", "(III)I"⟩
def dkwX5_thought_0 : List UInt8 := [28, 28, 27, 100, 26, 104, 16, 60, 108, 96, 172]
abbrev dktX5_thought_0 : List UInt8 := dkwX5_thought_0 ++ []
theorem dksX5_thought_0 : cX5_thought.data.toList.drop 0 = dktX5_thought_0 := by decide +kernel
theorem dX5_thought_0 : decode cX5_thought 0 = .ok (.iload_n 2, 1) := dk_28 (dk_at dksX5_thought_0 0 rfl rfl)
theorem dX5_thought_1 : decode cX5_thought 1 = .ok (.iload_n 2, 1) := dk_28 (dk_at dksX5_thought_0 1 rfl rfl)
theorem dX5_thought_2 : decode cX5_thought 2 = .ok (.iload_n 1, 1) := dk_27 (dk_at dksX5_thought_0 2 rfl rfl)
theorem dX5_thought_3 : decode cX5_thought 3 = .ok (.isub, 1) := dk_100 (dk_at dksX5_thought_0 3 rfl rfl)
theorem dX5_thought_4 : decode cX5_thought 4 = .ok (.iload_n 0, 1) := dk_26 (dk_at dksX5_thought_0 4 rfl rfl)
theorem dX5_thought_5 : decode cX5_thought 5 = .ok (.imul, 1) := dk_104 (dk_at dksX5_thought_0 5 rfl rfl)
theorem dX5_thought_6 : decode cX5_thought 6 = .ok (.bipush 60, 2) := dk_16 60 (dk_at dksX5_thought_0 6 rfl rfl)
theorem dX5_thought_8 : decode cX5_thought 8 = .ok (.idiv, 1) := dk_108 (dk_at dksX5_thought_0 8 rfl rfl)
theorem dX5_thought_9 : decode cX5_thought 9 = .ok (.iadd, 1) := dk_96 (dk_at dksX5_thought_0 9 rfl rfl)
theorem dX5_thought_10 : decode cX5_thought 10 = .ok (.ireturn, 1) := dk_172 (dk_at dksX5_thought_0 10 rfl rfl)
abbrev cX5_day : ByteArray := prog_21_method_24_code
def yX5_day : MethodName := ⟨RX5, "day", "(II)I"⟩
def dkwX5_day_3 : List UInt8 := [180, 0, 142, 172]
abbrev dktX5_day_3 : List UInt8 := dkwX5_day_3 ++ []
def dkwX5_day_2 : List UInt8 := [160, 0, 10, 42, 180, 0, 149, 167, 0, 19, 28, 6, 160, 0, 10, 42, 180, 0, 155, 167, 0, 7, 42]
abbrev dktX5_day_2 : List UInt8 := dkwX5_day_2 ++ dktX5_day_3
def dkwX5_day_1 : List UInt8 := [62, 28, 154, 0, 7, 29, 167, 0, 43, 28, 4, 160, 0, 10, 42, 180, 0, 146, 167, 0, 31, 28, 5]
abbrev dktX5_day_1 : List UInt8 := dkwX5_day_1 ++ dktX5_day_2
def dkwX5_day_0 : List UInt8 := [42, 27, 182, 0, 123, 153, 0, 12, 28, 3, 7, 184, 0, 100, 154, 0, 5, 2, 172, 42, 27, 182, 0, 174]
abbrev dktX5_day_0 : List UInt8 := dkwX5_day_0 ++ dktX5_day_1
theorem dksX5_day_0 : cX5_day.data.toList.drop 0 = dktX5_day_0 := by decide +kernel
theorem dksX5_day_1 : cX5_day.data.toList.drop 24 = dktX5_day_1 := dk_seg dksX5_day_0 24 rfl rfl
theorem dksX5_day_2 : cX5_day.data.toList.drop 47 = dktX5_day_2 := dk_seg dksX5_day_1 23 rfl rfl
theorem dksX5_day_3 : cX5_day.data.toList.drop 70 = dktX5_day_3 := dk_seg dksX5_day_2 23 rfl rfl
theorem dX5_day_0 : decode cX5_day 0 = .ok (.aload_n 0, 1) := dk_42 (dk_at dksX5_day_0 0 rfl rfl)
theorem dX5_day_1 : decode cX5_day 1 = .ok (.iload_n 1, 1) := dk_27 (dk_at dksX5_day_0 1 rfl rfl)
theorem dX5_day_2 : decode cX5_day 2 = .ok (.invokevirtual 123, 3) := dk_182 0 123 (dk_at dksX5_day_0 2 rfl rfl)
theorem dX5_day_5 : decode cX5_day 5 = .ok (.ifCond .eq 12, 3) := dk_153 0 12 (dk_at dksX5_day_0 5 rfl rfl)
theorem dX5_day_8 : decode cX5_day 8 = .ok (.iload_n 2, 1) := dk_28 (dk_at dksX5_day_0 8 rfl rfl)
theorem dX5_day_9 : decode cX5_day 9 = .ok (.iconst 0, 1) := dk_3 (dk_at dksX5_day_0 9 rfl rfl)
theorem dX5_day_10 : decode cX5_day 10 = .ok (.iconst 4, 1) := dk_7 (dk_at dksX5_day_0 10 rfl rfl)
theorem dX5_day_11 : decode cX5_day 11 = .ok (.invokestatic 100, 3) := dk_184 0 100 (dk_at dksX5_day_0 11 rfl rfl)
theorem dX5_day_14 : decode cX5_day 14 = .ok (.ifCond .ne 5, 3) := dk_154 0 5 (dk_at dksX5_day_0 14 rfl rfl)
theorem dX5_day_17 : decode cX5_day 17 = .ok (.iconst (-1), 1) := dk_2 (dk_at dksX5_day_0 17 rfl rfl)
theorem dX5_day_18 : decode cX5_day 18 = .ok (.ireturn, 1) := dk_172 (dk_at dksX5_day_0 18 rfl rfl)
theorem dX5_day_19 : decode cX5_day 19 = .ok (.aload_n 0, 1) := dk_42 (dk_at dksX5_day_0 19 rfl rfl)
theorem dX5_day_20 : decode cX5_day 20 = .ok (.iload_n 1, 1) := dk_27 (dk_at dksX5_day_0 20 rfl rfl)
theorem dX5_day_21 : decode cX5_day 21 = .ok (.invokevirtual 174, 3) := dk_182 0 174 (dk_at dksX5_day_0 21 rfl rfl)
theorem dX5_day_24 : decode cX5_day 24 = .ok (.istore_n 3, 1) := dk_62 (dk_at dksX5_day_1 0 rfl rfl)
theorem dX5_day_25 : decode cX5_day 25 = .ok (.iload_n 2, 1) := dk_28 (dk_at dksX5_day_1 1 rfl rfl)
theorem dX5_day_26 : decode cX5_day 26 = .ok (.ifCond .ne 7, 3) := dk_154 0 7 (dk_at dksX5_day_1 2 rfl rfl)
theorem dX5_day_29 : decode cX5_day 29 = .ok (.iload_n 3, 1) := dk_29 (dk_at dksX5_day_1 5 rfl rfl)
theorem dX5_day_30 : decode cX5_day 30 = .ok (.goto 43, 3) := dk_167 0 43 (dk_at dksX5_day_1 6 rfl rfl)
theorem dX5_day_33 : decode cX5_day 33 = .ok (.iload_n 2, 1) := dk_28 (dk_at dksX5_day_1 9 rfl rfl)
theorem dX5_day_34 : decode cX5_day 34 = .ok (.iconst 1, 1) := dk_4 (dk_at dksX5_day_1 10 rfl rfl)
theorem dX5_day_35 : decode cX5_day 35 = .ok (.if_icmp .ne 10, 3) := dk_160 0 10 (dk_at dksX5_day_1 11 rfl rfl)
theorem dX5_day_38 : decode cX5_day 38 = .ok (.aload_n 0, 1) := dk_42 (dk_at dksX5_day_1 14 rfl rfl)
theorem dX5_day_39 : decode cX5_day 39 = .ok (.getfield 146, 3) := dk_180 0 146 (dk_at dksX5_day_1 15 rfl rfl)
theorem dX5_day_42 : decode cX5_day 42 = .ok (.goto 31, 3) := dk_167 0 31 (dk_at dksX5_day_1 18 rfl rfl)
theorem dX5_day_45 : decode cX5_day 45 = .ok (.iload_n 2, 1) := dk_28 (dk_at dksX5_day_1 21 rfl rfl)
theorem dX5_day_46 : decode cX5_day 46 = .ok (.iconst 2, 1) := dk_5 (dk_at dksX5_day_1 22 rfl rfl)
theorem dX5_day_47 : decode cX5_day 47 = .ok (.if_icmp .ne 10, 3) := dk_160 0 10 (dk_at dksX5_day_2 0 rfl rfl)
theorem dX5_day_50 : decode cX5_day 50 = .ok (.aload_n 0, 1) := dk_42 (dk_at dksX5_day_2 3 rfl rfl)
theorem dX5_day_51 : decode cX5_day 51 = .ok (.getfield 149, 3) := dk_180 0 149 (dk_at dksX5_day_2 4 rfl rfl)
theorem dX5_day_54 : decode cX5_day 54 = .ok (.goto 19, 3) := dk_167 0 19 (dk_at dksX5_day_2 7 rfl rfl)
theorem dX5_day_57 : decode cX5_day 57 = .ok (.iload_n 2, 1) := dk_28 (dk_at dksX5_day_2 10 rfl rfl)
theorem dX5_day_58 : decode cX5_day 58 = .ok (.iconst 3, 1) := dk_6 (dk_at dksX5_day_2 11 rfl rfl)
theorem dX5_day_59 : decode cX5_day 59 = .ok (.if_icmp .ne 10, 3) := dk_160 0 10 (dk_at dksX5_day_2 12 rfl rfl)
theorem dX5_day_62 : decode cX5_day 62 = .ok (.aload_n 0, 1) := dk_42 (dk_at dksX5_day_2 15 rfl rfl)
theorem dX5_day_63 : decode cX5_day 63 = .ok (.getfield 155, 3) := dk_180 0 155 (dk_at dksX5_day_2 16 rfl rfl)
theorem dX5_day_66 : decode cX5_day 66 = .ok (.goto 7, 3) := dk_167 0 7 (dk_at dksX5_day_2 19 rfl rfl)
theorem dX5_day_69 : decode cX5_day 69 = .ok (.aload_n 0, 1) := dk_42 (dk_at dksX5_day_2 22 rfl rfl)
theorem dX5_day_70 : decode cX5_day 70 = .ok (.getfield 142, 3) := dk_180 0 142 (dk_at dksX5_day_3 0 rfl rfl)
theorem dX5_day_73 : decode cX5_day 73 = .ok (.ireturn, 1) := dk_172 (dk_at dksX5_day_3 3 rfl rfl)
abbrev cX5_dayOf : ByteArray := prog_21_method_23_code
def yX5_dayOf : MethodName := ⟨RX5, "dayOf", "(I)I"⟩
def dkwX5_dayOf_1 : List UInt8 := [46, 42, 180, 0, 7, 6, 46, 182, 0, 170, 172]
abbrev dktX5_dayOf_1 : List UInt8 := dkwX5_dayOf_1 ++ []
def dkwX5_dayOf_0 : List UInt8 := [42, 42, 180, 0, 22, 27, 46, 42, 180, 0, 25, 27, 46, 42, 180, 0, 28, 27, 46, 42, 180, 0, 31, 27]
abbrev dktX5_dayOf_0 : List UInt8 := dkwX5_dayOf_0 ++ dktX5_dayOf_1
theorem dksX5_dayOf_0 : cX5_dayOf.data.toList.drop 0 = dktX5_dayOf_0 := by decide +kernel
theorem dksX5_dayOf_1 : cX5_dayOf.data.toList.drop 24 = dktX5_dayOf_1 := dk_seg dksX5_dayOf_0 24 rfl rfl
theorem dX5_dayOf_0 : decode cX5_dayOf 0 = .ok (.aload_n 0, 1) := dk_42 (dk_at dksX5_dayOf_0 0 rfl rfl)
theorem dX5_dayOf_1 : decode cX5_dayOf 1 = .ok (.aload_n 0, 1) := dk_42 (dk_at dksX5_dayOf_0 1 rfl rfl)
theorem dX5_dayOf_2 : decode cX5_dayOf 2 = .ok (.getfield 22, 3) := dk_180 0 22 (dk_at dksX5_dayOf_0 2 rfl rfl)
theorem dX5_dayOf_5 : decode cX5_dayOf 5 = .ok (.iload_n 1, 1) := dk_27 (dk_at dksX5_dayOf_0 5 rfl rfl)
theorem dX5_dayOf_6 : decode cX5_dayOf 6 = .ok (.iaload, 1) := dk_46 (dk_at dksX5_dayOf_0 6 rfl rfl)
theorem dX5_dayOf_7 : decode cX5_dayOf 7 = .ok (.aload_n 0, 1) := dk_42 (dk_at dksX5_dayOf_0 7 rfl rfl)
theorem dX5_dayOf_8 : decode cX5_dayOf 8 = .ok (.getfield 25, 3) := dk_180 0 25 (dk_at dksX5_dayOf_0 8 rfl rfl)
theorem dX5_dayOf_11 : decode cX5_dayOf 11 = .ok (.iload_n 1, 1) := dk_27 (dk_at dksX5_dayOf_0 11 rfl rfl)
theorem dX5_dayOf_12 : decode cX5_dayOf 12 = .ok (.iaload, 1) := dk_46 (dk_at dksX5_dayOf_0 12 rfl rfl)
theorem dX5_dayOf_13 : decode cX5_dayOf 13 = .ok (.aload_n 0, 1) := dk_42 (dk_at dksX5_dayOf_0 13 rfl rfl)
theorem dX5_dayOf_14 : decode cX5_dayOf 14 = .ok (.getfield 28, 3) := dk_180 0 28 (dk_at dksX5_dayOf_0 14 rfl rfl)
theorem dX5_dayOf_17 : decode cX5_dayOf 17 = .ok (.iload_n 1, 1) := dk_27 (dk_at dksX5_dayOf_0 17 rfl rfl)
theorem dX5_dayOf_18 : decode cX5_dayOf 18 = .ok (.iaload, 1) := dk_46 (dk_at dksX5_dayOf_0 18 rfl rfl)
theorem dX5_dayOf_19 : decode cX5_dayOf 19 = .ok (.aload_n 0, 1) := dk_42 (dk_at dksX5_dayOf_0 19 rfl rfl)
theorem dX5_dayOf_20 : decode cX5_dayOf 20 = .ok (.getfield 31, 3) := dk_180 0 31 (dk_at dksX5_dayOf_0 20 rfl rfl)
theorem dX5_dayOf_23 : decode cX5_dayOf 23 = .ok (.iload_n 1, 1) := dk_27 (dk_at dksX5_dayOf_0 23 rfl rfl)
theorem dX5_dayOf_24 : decode cX5_dayOf 24 = .ok (.iaload, 1) := dk_46 (dk_at dksX5_dayOf_1 0 rfl rfl)
theorem dX5_dayOf_25 : decode cX5_dayOf 25 = .ok (.aload_n 0, 1) := dk_42 (dk_at dksX5_dayOf_1 1 rfl rfl)
theorem dX5_dayOf_26 : decode cX5_dayOf 26 = .ok (.getfield 7, 3) := dk_180 0 7 (dk_at dksX5_dayOf_1 2 rfl rfl)
theorem dX5_dayOf_29 : decode cX5_dayOf 29 = .ok (.iconst 3, 1) := dk_6 (dk_at dksX5_dayOf_1 5 rfl rfl)
theorem dX5_dayOf_30 : decode cX5_dayOf 30 = .ok (.iaload, 1) := dk_46 (dk_at dksX5_dayOf_1 6 rfl rfl)
theorem dX5_dayOf_31 : decode cX5_dayOf 31 = .ok (.invokevirtual 170, 3) := dk_182 0 170 (dk_at dksX5_dayOf_1 7 rfl rfl)
theorem dX5_dayOf_34 : decode cX5_dayOf 34 = .ok (.ireturn, 1) := dk_172 (dk_at dksX5_dayOf_1 10 rfl rfl)
abbrev cX5_dayOf_2 : ByteArray := prog_21_method_21_code
def yX5_dayOf_2 : MethodName := ⟨RX5, "dayOf", "(IIIII)I"⟩
def dkwX5_dayOf_2_19 : List UInt8 := [132, 10, 1, 167, 254, 133, 42, 180, 0, 142, 42, 180, 0, 152, 96, 172]
abbrev dktX5_dayOf_2_19 : List UInt8 := dkwX5_dayOf_2_19 ++ []
def dkwX5_dayOf_2_18 : List UInt8 := [181, 0, 155, 17, 2, 207, 21, 15, 42, 180, 0, 13, 21, 10, 46, 184, 0, 134, 184, 0, 167, 54, 8]
abbrev dktX5_dayOf_2_18 : List UInt8 := dkwX5_dayOf_2_18 ++ dktX5_dayOf_2_19
def dkwX5_dayOf_2_17 : List UInt8 := [181, 0, 152, 42, 89, 180, 0, 155, 3, 42, 180, 0, 13, 21, 10, 46, 21, 15, 100, 184, 0, 134, 96]
abbrev dktX5_dayOf_2_17 : List UInt8 := dkwX5_dayOf_2_17 ++ dktX5_dayOf_2_18
def dkwX5_dayOf_2_16 : List UInt8 := [21, 15, 42, 180, 0, 13, 21, 10, 46, 100, 184, 0, 134, 42, 180, 0, 19, 21, 10, 46, 104, 96]
abbrev dktX5_dayOf_2_16 : List UInt8 := dkwX5_dayOf_2_16 ++ dktX5_dayOf_2_17
def dkwX5_dayOf_2_15 : List UInt8 := [21, 15, 42, 180, 0, 13, 21, 10, 46, 100, 184, 0, 134, 96, 181, 0, 149, 42, 89, 180, 0, 152, 3]
abbrev dktX5_dayOf_2_15 : List UInt8 := dkwX5_dayOf_2_15 ++ dktX5_dayOf_2_16
def dkwX5_dayOf_2_14 : List UInt8 := [180, 0, 16, 21, 10, 46, 96, 54, 15, 42, 180, 0, 67, 21, 10, 21, 15, 79, 42, 89, 180, 0, 149, 3]
abbrev dktX5_dayOf_2_14 : List UInt8 := dkwX5_dayOf_2_14 ++ dktX5_dayOf_2_15
def dkwX5_dayOf_2_13 : List UInt8 := [54, 14, 21, 13, 21, 14, 153, 0, 7, 3, 167, 0, 4, 4, 96, 54, 13, 167, 255, 60, 21, 13, 42]
abbrev dktX5_dayOf_2_13 : List UInt8 := dkwX5_dayOf_2_13 ++ dktX5_dayOf_2_14
def dkwX5_dayOf_2_12 : List UInt8 := [21, 13, 184, 0, 130, 21, 12, 21, 6, 21, 7, 184, 0, 126, 100, 161, 0, 7, 4, 167, 0, 4, 3]
abbrev dktX5_dayOf_2_12 : List UInt8 := dkwX5_dayOf_2_12 ++ dktX5_dayOf_2_13
def dkwX5_dayOf_2_11 : List UInt8 := [21, 13, 79, 42, 89, 180, 0, 146, 4, 96, 181, 0, 146, 21, 13, 17, 2, 207, 159, 0, 24, 29, 21, 9]
abbrev dktX5_dayOf_2_11 : List UInt8 := dkwX5_dayOf_2_11 ++ dktX5_dayOf_2_12
def dkwX5_dayOf_2_10 : List UInt8 := [21, 6, 21, 5, 21, 13, 184, 0, 116, 184, 0, 164, 96, 181, 0, 142, 42, 180, 0, 64, 42, 180, 0, 146]
abbrev dktX5_dayOf_2_10 : List UInt8 := dkwX5_dayOf_2_10 ++ dktX5_dayOf_2_11
def dkwX5_dayOf_2_9 : List UInt8 := [167, 0, 4, 3, 54, 15, 21, 15, 153, 0, 52, 4, 54, 11, 21, 13, 54, 9, 42, 89, 180, 0, 142]
abbrev dktX5_dayOf_2_9 : List UInt8 := dkwX5_dayOf_2_9 ++ dktX5_dayOf_2_10
def dkwX5_dayOf_2_8 : List UInt8 := [159, 0, 10, 21, 6, 16, 7, 160, 0, 15, 21, 5, 21, 13, 184, 0, 116, 21, 7, 163, 0, 7, 4]
abbrev dktX5_dayOf_2_8 : List UInt8 := dkwX5_dayOf_2_8 ++ dktX5_dayOf_2_9
def dkwX5_dayOf_2_7 : List UInt8 := [154, 0, 53, 29, 21, 9, 21, 13, 184, 0, 130, 21, 12, 8, 21, 7, 104, 100, 161, 0, 35, 21, 6, 6]
abbrev dktX5_dayOf_2_7 : List UInt8 := dkwX5_dayOf_2_7 ++ dktX5_dayOf_2_8
def dkwX5_dayOf_2_6 : List UInt8 := [182, 0, 158, 153, 0, 7, 4, 167, 0, 4, 3, 54, 15, 21, 6, 184, 0, 161, 153, 0, 58, 21, 11]
abbrev dktX5_dayOf_2_6 : List UInt8 := dkwX5_dayOf_2_6 ++ dktX5_dayOf_2_7
def dkwX5_dayOf_2_5 : List UInt8 := [54, 12, 21, 8, 54, 13, 3, 54, 14, 21, 14, 154, 0, 197, 21, 6, 16, 6, 160, 0, 16, 42, 21, 13]
abbrev dktX5_dayOf_2_5 : List UInt8 := dkwX5_dayOf_2_5 ++ dktX5_dayOf_2_6
def dkwX5_dayOf_2_4 : List UInt8 := [21, 4, 161, 1, 91, 3, 54, 11, 42, 180, 0, 13, 21, 10, 46, 42, 180, 0, 16, 21, 10, 46, 100]
abbrev dktX5_dayOf_2_4 : List UInt8 := dkwX5_dayOf_2_4 ++ dktX5_dayOf_2_5
def dkwX5_dayOf_2_3 : List UInt8 := [180, 0, 7, 3, 46, 162, 1, 118, 42, 180, 0, 67, 21, 10, 16, 252, 79, 42, 180, 0, 13, 21, 10, 46]
abbrev dktX5_dayOf_2_3 : List UInt8 := dkwX5_dayOf_2_3 ++ dktX5_dayOf_2_4
def dkwX5_dayOf_2_2 : List UInt8 := [42, 3, 181, 0, 152, 42, 3, 181, 0, 155, 21, 4, 54, 8, 21, 4, 54, 9, 3, 54, 10, 21, 10, 42]
abbrev dktX5_dayOf_2_2 : List UInt8 := dkwX5_dayOf_2_2 ++ dktX5_dayOf_2_3
def dkwX5_dayOf_2_1 : List UInt8 := [182, 0, 139, 167, 0, 4, 28, 54, 7, 42, 3, 181, 0, 142, 42, 3, 181, 0, 146, 42, 3, 181, 0, 149]
abbrev dktX5_dayOf_2_1 : List UInt8 := dkwX5_dayOf_2_1 ++ dktX5_dayOf_2_2
def dkwX5_dayOf_2_0 : List UInt8 := [27, 7, 160, 0, 7, 5, 167, 0, 4, 27, 54, 6, 27, 7, 160, 0, 15, 42, 29, 21, 4, 21, 5]
abbrev dktX5_dayOf_2_0 : List UInt8 := dkwX5_dayOf_2_0 ++ dktX5_dayOf_2_1
theorem dksX5_dayOf_2_0 : cX5_dayOf_2.data.toList.drop 0 = dktX5_dayOf_2_0 := by decide +kernel
theorem dksX5_dayOf_2_1 : cX5_dayOf_2.data.toList.drop 23 = dktX5_dayOf_2_1 := dk_seg dksX5_dayOf_2_0 23 rfl rfl
theorem dksX5_dayOf_2_2 : cX5_dayOf_2.data.toList.drop 47 = dktX5_dayOf_2_2 := dk_seg dksX5_dayOf_2_1 24 rfl rfl
theorem dksX5_dayOf_2_3 : cX5_dayOf_2.data.toList.drop 71 = dktX5_dayOf_2_3 := dk_seg dksX5_dayOf_2_2 24 rfl rfl
theorem dksX5_dayOf_2_4 : cX5_dayOf_2.data.toList.drop 95 = dktX5_dayOf_2_4 := dk_seg dksX5_dayOf_2_3 24 rfl rfl
theorem dksX5_dayOf_2_5 : cX5_dayOf_2.data.toList.drop 118 = dktX5_dayOf_2_5 := dk_seg dksX5_dayOf_2_4 23 rfl rfl
theorem dksX5_dayOf_2_6 : cX5_dayOf_2.data.toList.drop 142 = dktX5_dayOf_2_6 := dk_seg dksX5_dayOf_2_5 24 rfl rfl
theorem dksX5_dayOf_2_7 : cX5_dayOf_2.data.toList.drop 165 = dktX5_dayOf_2_7 := dk_seg dksX5_dayOf_2_6 23 rfl rfl
theorem dksX5_dayOf_2_8 : cX5_dayOf_2.data.toList.drop 189 = dktX5_dayOf_2_8 := dk_seg dksX5_dayOf_2_7 24 rfl rfl
theorem dksX5_dayOf_2_9 : cX5_dayOf_2.data.toList.drop 212 = dktX5_dayOf_2_9 := dk_seg dksX5_dayOf_2_8 23 rfl rfl
theorem dksX5_dayOf_2_10 : cX5_dayOf_2.data.toList.drop 235 = dktX5_dayOf_2_10 := dk_seg dksX5_dayOf_2_9 23 rfl rfl
theorem dksX5_dayOf_2_11 : cX5_dayOf_2.data.toList.drop 259 = dktX5_dayOf_2_11 := dk_seg dksX5_dayOf_2_10 24 rfl rfl
theorem dksX5_dayOf_2_12 : cX5_dayOf_2.data.toList.drop 283 = dktX5_dayOf_2_12 := dk_seg dksX5_dayOf_2_11 24 rfl rfl
theorem dksX5_dayOf_2_13 : cX5_dayOf_2.data.toList.drop 306 = dktX5_dayOf_2_13 := dk_seg dksX5_dayOf_2_12 23 rfl rfl
theorem dksX5_dayOf_2_14 : cX5_dayOf_2.data.toList.drop 329 = dktX5_dayOf_2_14 := dk_seg dksX5_dayOf_2_13 23 rfl rfl
theorem dksX5_dayOf_2_15 : cX5_dayOf_2.data.toList.drop 353 = dktX5_dayOf_2_15 := dk_seg dksX5_dayOf_2_14 24 rfl rfl
theorem dksX5_dayOf_2_16 : cX5_dayOf_2.data.toList.drop 376 = dktX5_dayOf_2_16 := dk_seg dksX5_dayOf_2_15 23 rfl rfl
theorem dksX5_dayOf_2_17 : cX5_dayOf_2.data.toList.drop 398 = dktX5_dayOf_2_17 := dk_seg dksX5_dayOf_2_16 22 rfl rfl
theorem dksX5_dayOf_2_18 : cX5_dayOf_2.data.toList.drop 421 = dktX5_dayOf_2_18 := dk_seg dksX5_dayOf_2_17 23 rfl rfl
theorem dksX5_dayOf_2_19 : cX5_dayOf_2.data.toList.drop 444 = dktX5_dayOf_2_19 := dk_seg dksX5_dayOf_2_18 23 rfl rfl
theorem dX5_dayOf_2_0 : decode cX5_dayOf_2 0 = .ok (.iload_n 1, 1) := dk_27 (dk_at dksX5_dayOf_2_0 0 rfl rfl)
theorem dX5_dayOf_2_1 : decode cX5_dayOf_2 1 = .ok (.iconst 4, 1) := dk_7 (dk_at dksX5_dayOf_2_0 1 rfl rfl)
theorem dX5_dayOf_2_2 : decode cX5_dayOf_2 2 = .ok (.if_icmp .ne 7, 3) := dk_160 0 7 (dk_at dksX5_dayOf_2_0 2 rfl rfl)
theorem dX5_dayOf_2_5 : decode cX5_dayOf_2 5 = .ok (.iconst 2, 1) := dk_5 (dk_at dksX5_dayOf_2_0 5 rfl rfl)
theorem dX5_dayOf_2_6 : decode cX5_dayOf_2 6 = .ok (.goto 4, 3) := dk_167 0 4 (dk_at dksX5_dayOf_2_0 6 rfl rfl)
theorem dX5_dayOf_2_9 : decode cX5_dayOf_2 9 = .ok (.iload_n 1, 1) := dk_27 (dk_at dksX5_dayOf_2_0 9 rfl rfl)
theorem dX5_dayOf_2_10 : decode cX5_dayOf_2 10 = .ok (.istore 6, 2) := dk_54 6 (dk_at dksX5_dayOf_2_0 10 rfl rfl)
theorem dX5_dayOf_2_12 : decode cX5_dayOf_2 12 = .ok (.iload_n 1, 1) := dk_27 (dk_at dksX5_dayOf_2_0 12 rfl rfl)
theorem dX5_dayOf_2_13 : decode cX5_dayOf_2 13 = .ok (.iconst 4, 1) := dk_7 (dk_at dksX5_dayOf_2_0 13 rfl rfl)
theorem dX5_dayOf_2_14 : decode cX5_dayOf_2 14 = .ok (.if_icmp .ne 15, 3) := dk_160 0 15 (dk_at dksX5_dayOf_2_0 14 rfl rfl)
theorem dX5_dayOf_2_17 : decode cX5_dayOf_2 17 = .ok (.aload_n 0, 1) := dk_42 (dk_at dksX5_dayOf_2_0 17 rfl rfl)
theorem dX5_dayOf_2_18 : decode cX5_dayOf_2 18 = .ok (.iload_n 3, 1) := dk_29 (dk_at dksX5_dayOf_2_0 18 rfl rfl)
theorem dX5_dayOf_2_19 : decode cX5_dayOf_2 19 = .ok (.iload 4, 2) := dk_21 4 (dk_at dksX5_dayOf_2_0 19 rfl rfl)
theorem dX5_dayOf_2_21 : decode cX5_dayOf_2 21 = .ok (.iload 5, 2) := dk_21 5 (dk_at dksX5_dayOf_2_0 21 rfl rfl)
theorem dX5_dayOf_2_23 : decode cX5_dayOf_2 23 = .ok (.invokevirtual 139, 3) := dk_182 0 139 (dk_at dksX5_dayOf_2_1 0 rfl rfl)
theorem dX5_dayOf_2_26 : decode cX5_dayOf_2 26 = .ok (.goto 4, 3) := dk_167 0 4 (dk_at dksX5_dayOf_2_1 3 rfl rfl)
theorem dX5_dayOf_2_29 : decode cX5_dayOf_2 29 = .ok (.iload_n 2, 1) := dk_28 (dk_at dksX5_dayOf_2_1 6 rfl rfl)
theorem dX5_dayOf_2_30 : decode cX5_dayOf_2 30 = .ok (.istore 7, 2) := dk_54 7 (dk_at dksX5_dayOf_2_1 7 rfl rfl)
theorem dX5_dayOf_2_32 : decode cX5_dayOf_2 32 = .ok (.aload_n 0, 1) := dk_42 (dk_at dksX5_dayOf_2_1 9 rfl rfl)
theorem dX5_dayOf_2_33 : decode cX5_dayOf_2 33 = .ok (.iconst 0, 1) := dk_3 (dk_at dksX5_dayOf_2_1 10 rfl rfl)
theorem dX5_dayOf_2_34 : decode cX5_dayOf_2 34 = .ok (.putfield 142, 3) := dk_181 0 142 (dk_at dksX5_dayOf_2_1 11 rfl rfl)
theorem dX5_dayOf_2_37 : decode cX5_dayOf_2 37 = .ok (.aload_n 0, 1) := dk_42 (dk_at dksX5_dayOf_2_1 14 rfl rfl)
theorem dX5_dayOf_2_38 : decode cX5_dayOf_2 38 = .ok (.iconst 0, 1) := dk_3 (dk_at dksX5_dayOf_2_1 15 rfl rfl)
theorem dX5_dayOf_2_39 : decode cX5_dayOf_2 39 = .ok (.putfield 146, 3) := dk_181 0 146 (dk_at dksX5_dayOf_2_1 16 rfl rfl)
theorem dX5_dayOf_2_42 : decode cX5_dayOf_2 42 = .ok (.aload_n 0, 1) := dk_42 (dk_at dksX5_dayOf_2_1 19 rfl rfl)
theorem dX5_dayOf_2_43 : decode cX5_dayOf_2 43 = .ok (.iconst 0, 1) := dk_3 (dk_at dksX5_dayOf_2_1 20 rfl rfl)
theorem dX5_dayOf_2_44 : decode cX5_dayOf_2 44 = .ok (.putfield 149, 3) := dk_181 0 149 (dk_at dksX5_dayOf_2_1 21 rfl rfl)
theorem dX5_dayOf_2_47 : decode cX5_dayOf_2 47 = .ok (.aload_n 0, 1) := dk_42 (dk_at dksX5_dayOf_2_2 0 rfl rfl)
theorem dX5_dayOf_2_48 : decode cX5_dayOf_2 48 = .ok (.iconst 0, 1) := dk_3 (dk_at dksX5_dayOf_2_2 1 rfl rfl)
theorem dX5_dayOf_2_49 : decode cX5_dayOf_2 49 = .ok (.putfield 152, 3) := dk_181 0 152 (dk_at dksX5_dayOf_2_2 2 rfl rfl)
theorem dX5_dayOf_2_52 : decode cX5_dayOf_2 52 = .ok (.aload_n 0, 1) := dk_42 (dk_at dksX5_dayOf_2_2 5 rfl rfl)
theorem dX5_dayOf_2_53 : decode cX5_dayOf_2 53 = .ok (.iconst 0, 1) := dk_3 (dk_at dksX5_dayOf_2_2 6 rfl rfl)
theorem dX5_dayOf_2_54 : decode cX5_dayOf_2 54 = .ok (.putfield 155, 3) := dk_181 0 155 (dk_at dksX5_dayOf_2_2 7 rfl rfl)
theorem dX5_dayOf_2_57 : decode cX5_dayOf_2 57 = .ok (.iload 4, 2) := dk_21 4 (dk_at dksX5_dayOf_2_2 10 rfl rfl)
theorem dX5_dayOf_2_59 : decode cX5_dayOf_2 59 = .ok (.istore 8, 2) := dk_54 8 (dk_at dksX5_dayOf_2_2 12 rfl rfl)
theorem dX5_dayOf_2_61 : decode cX5_dayOf_2 61 = .ok (.iload 4, 2) := dk_21 4 (dk_at dksX5_dayOf_2_2 14 rfl rfl)
theorem dX5_dayOf_2_63 : decode cX5_dayOf_2 63 = .ok (.istore 9, 2) := dk_54 9 (dk_at dksX5_dayOf_2_2 16 rfl rfl)
theorem dX5_dayOf_2_65 : decode cX5_dayOf_2 65 = .ok (.iconst 0, 1) := dk_3 (dk_at dksX5_dayOf_2_2 18 rfl rfl)
theorem dX5_dayOf_2_66 : decode cX5_dayOf_2 66 = .ok (.istore 10, 2) := dk_54 10 (dk_at dksX5_dayOf_2_2 19 rfl rfl)
theorem dX5_dayOf_2_68 : decode cX5_dayOf_2 68 = .ok (.iload 10, 2) := dk_21 10 (dk_at dksX5_dayOf_2_2 21 rfl rfl)
theorem dX5_dayOf_2_70 : decode cX5_dayOf_2 70 = .ok (.aload_n 0, 1) := dk_42 (dk_at dksX5_dayOf_2_2 23 rfl rfl)
theorem dX5_dayOf_2_71 : decode cX5_dayOf_2 71 = .ok (.getfield 7, 3) := dk_180 0 7 (dk_at dksX5_dayOf_2_3 0 rfl rfl)
theorem dX5_dayOf_2_74 : decode cX5_dayOf_2 74 = .ok (.iconst 0, 1) := dk_3 (dk_at dksX5_dayOf_2_3 3 rfl rfl)
theorem dX5_dayOf_2_75 : decode cX5_dayOf_2 75 = .ok (.iaload, 1) := dk_46 (dk_at dksX5_dayOf_2_3 4 rfl rfl)
theorem dX5_dayOf_2_76 : decode cX5_dayOf_2 76 = .ok (.if_icmp .ge 374, 3) := dk_162 1 118 (dk_at dksX5_dayOf_2_3 5 rfl rfl)
theorem dX5_dayOf_2_79 : decode cX5_dayOf_2 79 = .ok (.aload_n 0, 1) := dk_42 (dk_at dksX5_dayOf_2_3 8 rfl rfl)
theorem dX5_dayOf_2_80 : decode cX5_dayOf_2 80 = .ok (.getfield 67, 3) := dk_180 0 67 (dk_at dksX5_dayOf_2_3 9 rfl rfl)
theorem dX5_dayOf_2_83 : decode cX5_dayOf_2 83 = .ok (.iload 10, 2) := dk_21 10 (dk_at dksX5_dayOf_2_3 12 rfl rfl)
theorem dX5_dayOf_2_85 : decode cX5_dayOf_2 85 = .ok (.bipush (-4), 2) := dk_16 252 (dk_at dksX5_dayOf_2_3 14 rfl rfl)
theorem dX5_dayOf_2_87 : decode cX5_dayOf_2 87 = .ok (.iastore, 1) := dk_79 (dk_at dksX5_dayOf_2_3 16 rfl rfl)
theorem dX5_dayOf_2_88 : decode cX5_dayOf_2 88 = .ok (.aload_n 0, 1) := dk_42 (dk_at dksX5_dayOf_2_3 17 rfl rfl)
theorem dX5_dayOf_2_89 : decode cX5_dayOf_2 89 = .ok (.getfield 13, 3) := dk_180 0 13 (dk_at dksX5_dayOf_2_3 18 rfl rfl)
theorem dX5_dayOf_2_92 : decode cX5_dayOf_2 92 = .ok (.iload 10, 2) := dk_21 10 (dk_at dksX5_dayOf_2_3 21 rfl rfl)
theorem dX5_dayOf_2_94 : decode cX5_dayOf_2 94 = .ok (.iaload, 1) := dk_46 (dk_at dksX5_dayOf_2_3 23 rfl rfl)
theorem dX5_dayOf_2_95 : decode cX5_dayOf_2 95 = .ok (.iload 4, 2) := dk_21 4 (dk_at dksX5_dayOf_2_4 0 rfl rfl)
theorem dX5_dayOf_2_97 : decode cX5_dayOf_2 97 = .ok (.if_icmp .lt 347, 3) := dk_161 1 91 (dk_at dksX5_dayOf_2_4 2 rfl rfl)
theorem dX5_dayOf_2_100 : decode cX5_dayOf_2 100 = .ok (.iconst 0, 1) := dk_3 (dk_at dksX5_dayOf_2_4 5 rfl rfl)
theorem dX5_dayOf_2_101 : decode cX5_dayOf_2 101 = .ok (.istore 11, 2) := dk_54 11 (dk_at dksX5_dayOf_2_4 6 rfl rfl)
theorem dX5_dayOf_2_103 : decode cX5_dayOf_2 103 = .ok (.aload_n 0, 1) := dk_42 (dk_at dksX5_dayOf_2_4 8 rfl rfl)
theorem dX5_dayOf_2_104 : decode cX5_dayOf_2 104 = .ok (.getfield 13, 3) := dk_180 0 13 (dk_at dksX5_dayOf_2_4 9 rfl rfl)
theorem dX5_dayOf_2_107 : decode cX5_dayOf_2 107 = .ok (.iload 10, 2) := dk_21 10 (dk_at dksX5_dayOf_2_4 12 rfl rfl)
theorem dX5_dayOf_2_109 : decode cX5_dayOf_2 109 = .ok (.iaload, 1) := dk_46 (dk_at dksX5_dayOf_2_4 14 rfl rfl)
theorem dX5_dayOf_2_110 : decode cX5_dayOf_2 110 = .ok (.aload_n 0, 1) := dk_42 (dk_at dksX5_dayOf_2_4 15 rfl rfl)
theorem dX5_dayOf_2_111 : decode cX5_dayOf_2 111 = .ok (.getfield 16, 3) := dk_180 0 16 (dk_at dksX5_dayOf_2_4 16 rfl rfl)
theorem dX5_dayOf_2_114 : decode cX5_dayOf_2 114 = .ok (.iload 10, 2) := dk_21 10 (dk_at dksX5_dayOf_2_4 19 rfl rfl)
theorem dX5_dayOf_2_116 : decode cX5_dayOf_2 116 = .ok (.iaload, 1) := dk_46 (dk_at dksX5_dayOf_2_4 21 rfl rfl)
theorem dX5_dayOf_2_117 : decode cX5_dayOf_2 117 = .ok (.isub, 1) := dk_100 (dk_at dksX5_dayOf_2_4 22 rfl rfl)
theorem dX5_dayOf_2_118 : decode cX5_dayOf_2 118 = .ok (.istore 12, 2) := dk_54 12 (dk_at dksX5_dayOf_2_5 0 rfl rfl)
theorem dX5_dayOf_2_120 : decode cX5_dayOf_2 120 = .ok (.iload 8, 2) := dk_21 8 (dk_at dksX5_dayOf_2_5 2 rfl rfl)
theorem dX5_dayOf_2_122 : decode cX5_dayOf_2 122 = .ok (.istore 13, 2) := dk_54 13 (dk_at dksX5_dayOf_2_5 4 rfl rfl)
theorem dX5_dayOf_2_124 : decode cX5_dayOf_2 124 = .ok (.iconst 0, 1) := dk_3 (dk_at dksX5_dayOf_2_5 6 rfl rfl)
theorem dX5_dayOf_2_125 : decode cX5_dayOf_2 125 = .ok (.istore 14, 2) := dk_54 14 (dk_at dksX5_dayOf_2_5 7 rfl rfl)
theorem dX5_dayOf_2_127 : decode cX5_dayOf_2 127 = .ok (.iload 14, 2) := dk_21 14 (dk_at dksX5_dayOf_2_5 9 rfl rfl)
theorem dX5_dayOf_2_129 : decode cX5_dayOf_2 129 = .ok (.ifCond .ne 197, 3) := dk_154 0 197 (dk_at dksX5_dayOf_2_5 11 rfl rfl)
theorem dX5_dayOf_2_132 : decode cX5_dayOf_2 132 = .ok (.iload 6, 2) := dk_21 6 (dk_at dksX5_dayOf_2_5 14 rfl rfl)
theorem dX5_dayOf_2_134 : decode cX5_dayOf_2 134 = .ok (.bipush 6, 2) := dk_16 6 (dk_at dksX5_dayOf_2_5 16 rfl rfl)
theorem dX5_dayOf_2_136 : decode cX5_dayOf_2 136 = .ok (.if_icmp .ne 16, 3) := dk_160 0 16 (dk_at dksX5_dayOf_2_5 18 rfl rfl)
theorem dX5_dayOf_2_139 : decode cX5_dayOf_2 139 = .ok (.aload_n 0, 1) := dk_42 (dk_at dksX5_dayOf_2_5 21 rfl rfl)
theorem dX5_dayOf_2_140 : decode cX5_dayOf_2 140 = .ok (.iload 13, 2) := dk_21 13 (dk_at dksX5_dayOf_2_5 22 rfl rfl)
theorem dX5_dayOf_2_142 : decode cX5_dayOf_2 142 = .ok (.invokevirtual 158, 3) := dk_182 0 158 (dk_at dksX5_dayOf_2_6 0 rfl rfl)
theorem dX5_dayOf_2_145 : decode cX5_dayOf_2 145 = .ok (.ifCond .eq 7, 3) := dk_153 0 7 (dk_at dksX5_dayOf_2_6 3 rfl rfl)
theorem dX5_dayOf_2_148 : decode cX5_dayOf_2 148 = .ok (.iconst 1, 1) := dk_4 (dk_at dksX5_dayOf_2_6 6 rfl rfl)
theorem dX5_dayOf_2_149 : decode cX5_dayOf_2 149 = .ok (.goto 4, 3) := dk_167 0 4 (dk_at dksX5_dayOf_2_6 7 rfl rfl)
theorem dX5_dayOf_2_152 : decode cX5_dayOf_2 152 = .ok (.iconst 0, 1) := dk_3 (dk_at dksX5_dayOf_2_6 10 rfl rfl)
theorem dX5_dayOf_2_153 : decode cX5_dayOf_2 153 = .ok (.istore 15, 2) := dk_54 15 (dk_at dksX5_dayOf_2_6 11 rfl rfl)
theorem dX5_dayOf_2_155 : decode cX5_dayOf_2 155 = .ok (.iload 6, 2) := dk_21 6 (dk_at dksX5_dayOf_2_6 13 rfl rfl)
theorem dX5_dayOf_2_157 : decode cX5_dayOf_2 157 = .ok (.invokestatic 161, 3) := dk_184 0 161 (dk_at dksX5_dayOf_2_6 15 rfl rfl)
theorem dX5_dayOf_2_160 : decode cX5_dayOf_2 160 = .ok (.ifCond .eq 58, 3) := dk_153 0 58 (dk_at dksX5_dayOf_2_6 18 rfl rfl)
theorem dX5_dayOf_2_163 : decode cX5_dayOf_2 163 = .ok (.iload 11, 2) := dk_21 11 (dk_at dksX5_dayOf_2_6 21 rfl rfl)
theorem dX5_dayOf_2_165 : decode cX5_dayOf_2 165 = .ok (.ifCond .ne 53, 3) := dk_154 0 53 (dk_at dksX5_dayOf_2_7 0 rfl rfl)
theorem dX5_dayOf_2_168 : decode cX5_dayOf_2 168 = .ok (.iload_n 3, 1) := dk_29 (dk_at dksX5_dayOf_2_7 3 rfl rfl)
theorem dX5_dayOf_2_169 : decode cX5_dayOf_2 169 = .ok (.iload 9, 2) := dk_21 9 (dk_at dksX5_dayOf_2_7 4 rfl rfl)
theorem dX5_dayOf_2_171 : decode cX5_dayOf_2 171 = .ok (.iload 13, 2) := dk_21 13 (dk_at dksX5_dayOf_2_7 6 rfl rfl)
theorem dX5_dayOf_2_173 : decode cX5_dayOf_2 173 = .ok (.invokestatic 130, 3) := dk_184 0 130 (dk_at dksX5_dayOf_2_7 8 rfl rfl)
theorem dX5_dayOf_2_176 : decode cX5_dayOf_2 176 = .ok (.iload 12, 2) := dk_21 12 (dk_at dksX5_dayOf_2_7 11 rfl rfl)
theorem dX5_dayOf_2_178 : decode cX5_dayOf_2 178 = .ok (.iconst 5, 1) := dk_8 (dk_at dksX5_dayOf_2_7 13 rfl rfl)
theorem dX5_dayOf_2_179 : decode cX5_dayOf_2 179 = .ok (.iload 7, 2) := dk_21 7 (dk_at dksX5_dayOf_2_7 14 rfl rfl)
theorem dX5_dayOf_2_181 : decode cX5_dayOf_2 181 = .ok (.imul, 1) := dk_104 (dk_at dksX5_dayOf_2_7 16 rfl rfl)
theorem dX5_dayOf_2_182 : decode cX5_dayOf_2 182 = .ok (.isub, 1) := dk_100 (dk_at dksX5_dayOf_2_7 17 rfl rfl)
theorem dX5_dayOf_2_183 : decode cX5_dayOf_2 183 = .ok (.if_icmp .lt 35, 3) := dk_161 0 35 (dk_at dksX5_dayOf_2_7 18 rfl rfl)
theorem dX5_dayOf_2_186 : decode cX5_dayOf_2 186 = .ok (.iload 6, 2) := dk_21 6 (dk_at dksX5_dayOf_2_7 21 rfl rfl)
theorem dX5_dayOf_2_188 : decode cX5_dayOf_2 188 = .ok (.iconst 3, 1) := dk_6 (dk_at dksX5_dayOf_2_7 23 rfl rfl)
theorem dX5_dayOf_2_189 : decode cX5_dayOf_2 189 = .ok (.if_icmp .eq 10, 3) := dk_159 0 10 (dk_at dksX5_dayOf_2_8 0 rfl rfl)
theorem dX5_dayOf_2_192 : decode cX5_dayOf_2 192 = .ok (.iload 6, 2) := dk_21 6 (dk_at dksX5_dayOf_2_8 3 rfl rfl)
theorem dX5_dayOf_2_194 : decode cX5_dayOf_2 194 = .ok (.bipush 7, 2) := dk_16 7 (dk_at dksX5_dayOf_2_8 5 rfl rfl)
theorem dX5_dayOf_2_196 : decode cX5_dayOf_2 196 = .ok (.if_icmp .ne 15, 3) := dk_160 0 15 (dk_at dksX5_dayOf_2_8 7 rfl rfl)
theorem dX5_dayOf_2_199 : decode cX5_dayOf_2 199 = .ok (.iload 5, 2) := dk_21 5 (dk_at dksX5_dayOf_2_8 10 rfl rfl)
theorem dX5_dayOf_2_201 : decode cX5_dayOf_2 201 = .ok (.iload 13, 2) := dk_21 13 (dk_at dksX5_dayOf_2_8 12 rfl rfl)
theorem dX5_dayOf_2_203 : decode cX5_dayOf_2 203 = .ok (.invokestatic 116, 3) := dk_184 0 116 (dk_at dksX5_dayOf_2_8 14 rfl rfl)
theorem dX5_dayOf_2_206 : decode cX5_dayOf_2 206 = .ok (.iload 7, 2) := dk_21 7 (dk_at dksX5_dayOf_2_8 17 rfl rfl)
theorem dX5_dayOf_2_208 : decode cX5_dayOf_2 208 = .ok (.if_icmp .gt 7, 3) := dk_163 0 7 (dk_at dksX5_dayOf_2_8 19 rfl rfl)
theorem dX5_dayOf_2_211 : decode cX5_dayOf_2 211 = .ok (.iconst 1, 1) := dk_4 (dk_at dksX5_dayOf_2_8 22 rfl rfl)
theorem dX5_dayOf_2_212 : decode cX5_dayOf_2 212 = .ok (.goto 4, 3) := dk_167 0 4 (dk_at dksX5_dayOf_2_9 0 rfl rfl)
theorem dX5_dayOf_2_215 : decode cX5_dayOf_2 215 = .ok (.iconst 0, 1) := dk_3 (dk_at dksX5_dayOf_2_9 3 rfl rfl)
theorem dX5_dayOf_2_216 : decode cX5_dayOf_2 216 = .ok (.istore 15, 2) := dk_54 15 (dk_at dksX5_dayOf_2_9 4 rfl rfl)
theorem dX5_dayOf_2_218 : decode cX5_dayOf_2 218 = .ok (.iload 15, 2) := dk_21 15 (dk_at dksX5_dayOf_2_9 6 rfl rfl)
theorem dX5_dayOf_2_220 : decode cX5_dayOf_2 220 = .ok (.ifCond .eq 52, 3) := dk_153 0 52 (dk_at dksX5_dayOf_2_9 8 rfl rfl)
theorem dX5_dayOf_2_223 : decode cX5_dayOf_2 223 = .ok (.iconst 1, 1) := dk_4 (dk_at dksX5_dayOf_2_9 11 rfl rfl)
theorem dX5_dayOf_2_224 : decode cX5_dayOf_2 224 = .ok (.istore 11, 2) := dk_54 11 (dk_at dksX5_dayOf_2_9 12 rfl rfl)
theorem dX5_dayOf_2_226 : decode cX5_dayOf_2 226 = .ok (.iload 13, 2) := dk_21 13 (dk_at dksX5_dayOf_2_9 14 rfl rfl)
theorem dX5_dayOf_2_228 : decode cX5_dayOf_2 228 = .ok (.istore 9, 2) := dk_54 9 (dk_at dksX5_dayOf_2_9 16 rfl rfl)
theorem dX5_dayOf_2_230 : decode cX5_dayOf_2 230 = .ok (.aload_n 0, 1) := dk_42 (dk_at dksX5_dayOf_2_9 18 rfl rfl)
theorem dX5_dayOf_2_231 : decode cX5_dayOf_2 231 = .ok (.dup, 1) := dk_89 (dk_at dksX5_dayOf_2_9 19 rfl rfl)
theorem dX5_dayOf_2_232 : decode cX5_dayOf_2 232 = .ok (.getfield 142, 3) := dk_180 0 142 (dk_at dksX5_dayOf_2_9 20 rfl rfl)
theorem dX5_dayOf_2_235 : decode cX5_dayOf_2 235 = .ok (.iload 6, 2) := dk_21 6 (dk_at dksX5_dayOf_2_10 0 rfl rfl)
theorem dX5_dayOf_2_237 : decode cX5_dayOf_2 237 = .ok (.iload 5, 2) := dk_21 5 (dk_at dksX5_dayOf_2_10 2 rfl rfl)
theorem dX5_dayOf_2_239 : decode cX5_dayOf_2 239 = .ok (.iload 13, 2) := dk_21 13 (dk_at dksX5_dayOf_2_10 4 rfl rfl)
theorem dX5_dayOf_2_241 : decode cX5_dayOf_2 241 = .ok (.invokestatic 116, 3) := dk_184 0 116 (dk_at dksX5_dayOf_2_10 6 rfl rfl)
theorem dX5_dayOf_2_244 : decode cX5_dayOf_2 244 = .ok (.invokestatic 164, 3) := dk_184 0 164 (dk_at dksX5_dayOf_2_10 9 rfl rfl)
theorem dX5_dayOf_2_247 : decode cX5_dayOf_2 247 = .ok (.iadd, 1) := dk_96 (dk_at dksX5_dayOf_2_10 12 rfl rfl)
theorem dX5_dayOf_2_248 : decode cX5_dayOf_2 248 = .ok (.putfield 142, 3) := dk_181 0 142 (dk_at dksX5_dayOf_2_10 13 rfl rfl)
theorem dX5_dayOf_2_251 : decode cX5_dayOf_2 251 = .ok (.aload_n 0, 1) := dk_42 (dk_at dksX5_dayOf_2_10 16 rfl rfl)
theorem dX5_dayOf_2_252 : decode cX5_dayOf_2 252 = .ok (.getfield 64, 3) := dk_180 0 64 (dk_at dksX5_dayOf_2_10 17 rfl rfl)
theorem dX5_dayOf_2_255 : decode cX5_dayOf_2 255 = .ok (.aload_n 0, 1) := dk_42 (dk_at dksX5_dayOf_2_10 20 rfl rfl)
theorem dX5_dayOf_2_256 : decode cX5_dayOf_2 256 = .ok (.getfield 146, 3) := dk_180 0 146 (dk_at dksX5_dayOf_2_10 21 rfl rfl)
theorem dX5_dayOf_2_259 : decode cX5_dayOf_2 259 = .ok (.iload 13, 2) := dk_21 13 (dk_at dksX5_dayOf_2_11 0 rfl rfl)
theorem dX5_dayOf_2_261 : decode cX5_dayOf_2 261 = .ok (.iastore, 1) := dk_79 (dk_at dksX5_dayOf_2_11 2 rfl rfl)
theorem dX5_dayOf_2_262 : decode cX5_dayOf_2 262 = .ok (.aload_n 0, 1) := dk_42 (dk_at dksX5_dayOf_2_11 3 rfl rfl)
theorem dX5_dayOf_2_263 : decode cX5_dayOf_2 263 = .ok (.dup, 1) := dk_89 (dk_at dksX5_dayOf_2_11 4 rfl rfl)
theorem dX5_dayOf_2_264 : decode cX5_dayOf_2 264 = .ok (.getfield 146, 3) := dk_180 0 146 (dk_at dksX5_dayOf_2_11 5 rfl rfl)
theorem dX5_dayOf_2_267 : decode cX5_dayOf_2 267 = .ok (.iconst 1, 1) := dk_4 (dk_at dksX5_dayOf_2_11 8 rfl rfl)
theorem dX5_dayOf_2_268 : decode cX5_dayOf_2 268 = .ok (.iadd, 1) := dk_96 (dk_at dksX5_dayOf_2_11 9 rfl rfl)
theorem dX5_dayOf_2_269 : decode cX5_dayOf_2 269 = .ok (.putfield 146, 3) := dk_181 0 146 (dk_at dksX5_dayOf_2_11 10 rfl rfl)
theorem dX5_dayOf_2_272 : decode cX5_dayOf_2 272 = .ok (.iload 13, 2) := dk_21 13 (dk_at dksX5_dayOf_2_11 13 rfl rfl)
theorem dX5_dayOf_2_274 : decode cX5_dayOf_2 274 = .ok (.sipush 719, 3) := dk_17 2 207 (dk_at dksX5_dayOf_2_11 15 rfl rfl)
theorem dX5_dayOf_2_277 : decode cX5_dayOf_2 277 = .ok (.if_icmp .eq 24, 3) := dk_159 0 24 (dk_at dksX5_dayOf_2_11 18 rfl rfl)
theorem dX5_dayOf_2_280 : decode cX5_dayOf_2 280 = .ok (.iload_n 3, 1) := dk_29 (dk_at dksX5_dayOf_2_11 21 rfl rfl)
theorem dX5_dayOf_2_281 : decode cX5_dayOf_2 281 = .ok (.iload 9, 2) := dk_21 9 (dk_at dksX5_dayOf_2_11 22 rfl rfl)
theorem dX5_dayOf_2_283 : decode cX5_dayOf_2 283 = .ok (.iload 13, 2) := dk_21 13 (dk_at dksX5_dayOf_2_12 0 rfl rfl)
theorem dX5_dayOf_2_285 : decode cX5_dayOf_2 285 = .ok (.invokestatic 130, 3) := dk_184 0 130 (dk_at dksX5_dayOf_2_12 2 rfl rfl)
theorem dX5_dayOf_2_288 : decode cX5_dayOf_2 288 = .ok (.iload 12, 2) := dk_21 12 (dk_at dksX5_dayOf_2_12 5 rfl rfl)
theorem dX5_dayOf_2_290 : decode cX5_dayOf_2 290 = .ok (.iload 6, 2) := dk_21 6 (dk_at dksX5_dayOf_2_12 7 rfl rfl)
theorem dX5_dayOf_2_292 : decode cX5_dayOf_2 292 = .ok (.iload 7, 2) := dk_21 7 (dk_at dksX5_dayOf_2_12 9 rfl rfl)
theorem dX5_dayOf_2_294 : decode cX5_dayOf_2 294 = .ok (.invokestatic 126, 3) := dk_184 0 126 (dk_at dksX5_dayOf_2_12 11 rfl rfl)
theorem dX5_dayOf_2_297 : decode cX5_dayOf_2 297 = .ok (.isub, 1) := dk_100 (dk_at dksX5_dayOf_2_12 14 rfl rfl)
theorem dX5_dayOf_2_298 : decode cX5_dayOf_2 298 = .ok (.if_icmp .lt 7, 3) := dk_161 0 7 (dk_at dksX5_dayOf_2_12 15 rfl rfl)
theorem dX5_dayOf_2_301 : decode cX5_dayOf_2 301 = .ok (.iconst 1, 1) := dk_4 (dk_at dksX5_dayOf_2_12 18 rfl rfl)
theorem dX5_dayOf_2_302 : decode cX5_dayOf_2 302 = .ok (.goto 4, 3) := dk_167 0 4 (dk_at dksX5_dayOf_2_12 19 rfl rfl)
theorem dX5_dayOf_2_305 : decode cX5_dayOf_2 305 = .ok (.iconst 0, 1) := dk_3 (dk_at dksX5_dayOf_2_12 22 rfl rfl)
theorem dX5_dayOf_2_306 : decode cX5_dayOf_2 306 = .ok (.istore 14, 2) := dk_54 14 (dk_at dksX5_dayOf_2_13 0 rfl rfl)
theorem dX5_dayOf_2_308 : decode cX5_dayOf_2 308 = .ok (.iload 13, 2) := dk_21 13 (dk_at dksX5_dayOf_2_13 2 rfl rfl)
theorem dX5_dayOf_2_310 : decode cX5_dayOf_2 310 = .ok (.iload 14, 2) := dk_21 14 (dk_at dksX5_dayOf_2_13 4 rfl rfl)
theorem dX5_dayOf_2_312 : decode cX5_dayOf_2 312 = .ok (.ifCond .eq 7, 3) := dk_153 0 7 (dk_at dksX5_dayOf_2_13 6 rfl rfl)
theorem dX5_dayOf_2_315 : decode cX5_dayOf_2 315 = .ok (.iconst 0, 1) := dk_3 (dk_at dksX5_dayOf_2_13 9 rfl rfl)
theorem dX5_dayOf_2_316 : decode cX5_dayOf_2 316 = .ok (.goto 4, 3) := dk_167 0 4 (dk_at dksX5_dayOf_2_13 10 rfl rfl)
theorem dX5_dayOf_2_319 : decode cX5_dayOf_2 319 = .ok (.iconst 1, 1) := dk_4 (dk_at dksX5_dayOf_2_13 13 rfl rfl)
theorem dX5_dayOf_2_320 : decode cX5_dayOf_2 320 = .ok (.iadd, 1) := dk_96 (dk_at dksX5_dayOf_2_13 14 rfl rfl)
theorem dX5_dayOf_2_321 : decode cX5_dayOf_2 321 = .ok (.istore 13, 2) := dk_54 13 (dk_at dksX5_dayOf_2_13 15 rfl rfl)
theorem dX5_dayOf_2_323 : decode cX5_dayOf_2 323 = .ok (.goto (-196), 3) := dk_167 255 60 (dk_at dksX5_dayOf_2_13 17 rfl rfl)
theorem dX5_dayOf_2_326 : decode cX5_dayOf_2 326 = .ok (.iload 13, 2) := dk_21 13 (dk_at dksX5_dayOf_2_13 20 rfl rfl)
theorem dX5_dayOf_2_328 : decode cX5_dayOf_2 328 = .ok (.aload_n 0, 1) := dk_42 (dk_at dksX5_dayOf_2_13 22 rfl rfl)
theorem dX5_dayOf_2_329 : decode cX5_dayOf_2 329 = .ok (.getfield 16, 3) := dk_180 0 16 (dk_at dksX5_dayOf_2_14 0 rfl rfl)
theorem dX5_dayOf_2_332 : decode cX5_dayOf_2 332 = .ok (.iload 10, 2) := dk_21 10 (dk_at dksX5_dayOf_2_14 3 rfl rfl)
theorem dX5_dayOf_2_334 : decode cX5_dayOf_2 334 = .ok (.iaload, 1) := dk_46 (dk_at dksX5_dayOf_2_14 5 rfl rfl)
theorem dX5_dayOf_2_335 : decode cX5_dayOf_2 335 = .ok (.iadd, 1) := dk_96 (dk_at dksX5_dayOf_2_14 6 rfl rfl)
theorem dX5_dayOf_2_336 : decode cX5_dayOf_2 336 = .ok (.istore 15, 2) := dk_54 15 (dk_at dksX5_dayOf_2_14 7 rfl rfl)
theorem dX5_dayOf_2_338 : decode cX5_dayOf_2 338 = .ok (.aload_n 0, 1) := dk_42 (dk_at dksX5_dayOf_2_14 9 rfl rfl)
theorem dX5_dayOf_2_339 : decode cX5_dayOf_2 339 = .ok (.getfield 67, 3) := dk_180 0 67 (dk_at dksX5_dayOf_2_14 10 rfl rfl)
theorem dX5_dayOf_2_342 : decode cX5_dayOf_2 342 = .ok (.iload 10, 2) := dk_21 10 (dk_at dksX5_dayOf_2_14 13 rfl rfl)
theorem dX5_dayOf_2_344 : decode cX5_dayOf_2 344 = .ok (.iload 15, 2) := dk_21 15 (dk_at dksX5_dayOf_2_14 15 rfl rfl)
theorem dX5_dayOf_2_346 : decode cX5_dayOf_2 346 = .ok (.iastore, 1) := dk_79 (dk_at dksX5_dayOf_2_14 17 rfl rfl)
theorem dX5_dayOf_2_347 : decode cX5_dayOf_2 347 = .ok (.aload_n 0, 1) := dk_42 (dk_at dksX5_dayOf_2_14 18 rfl rfl)
theorem dX5_dayOf_2_348 : decode cX5_dayOf_2 348 = .ok (.dup, 1) := dk_89 (dk_at dksX5_dayOf_2_14 19 rfl rfl)
theorem dX5_dayOf_2_349 : decode cX5_dayOf_2 349 = .ok (.getfield 149, 3) := dk_180 0 149 (dk_at dksX5_dayOf_2_14 20 rfl rfl)
theorem dX5_dayOf_2_352 : decode cX5_dayOf_2 352 = .ok (.iconst 0, 1) := dk_3 (dk_at dksX5_dayOf_2_14 23 rfl rfl)
theorem dX5_dayOf_2_353 : decode cX5_dayOf_2 353 = .ok (.iload 15, 2) := dk_21 15 (dk_at dksX5_dayOf_2_15 0 rfl rfl)
theorem dX5_dayOf_2_355 : decode cX5_dayOf_2 355 = .ok (.aload_n 0, 1) := dk_42 (dk_at dksX5_dayOf_2_15 2 rfl rfl)
theorem dX5_dayOf_2_356 : decode cX5_dayOf_2 356 = .ok (.getfield 13, 3) := dk_180 0 13 (dk_at dksX5_dayOf_2_15 3 rfl rfl)
theorem dX5_dayOf_2_359 : decode cX5_dayOf_2 359 = .ok (.iload 10, 2) := dk_21 10 (dk_at dksX5_dayOf_2_15 6 rfl rfl)
theorem dX5_dayOf_2_361 : decode cX5_dayOf_2 361 = .ok (.iaload, 1) := dk_46 (dk_at dksX5_dayOf_2_15 8 rfl rfl)
theorem dX5_dayOf_2_362 : decode cX5_dayOf_2 362 = .ok (.isub, 1) := dk_100 (dk_at dksX5_dayOf_2_15 9 rfl rfl)
theorem dX5_dayOf_2_363 : decode cX5_dayOf_2 363 = .ok (.invokestatic 134, 3) := dk_184 0 134 (dk_at dksX5_dayOf_2_15 10 rfl rfl)
theorem dX5_dayOf_2_366 : decode cX5_dayOf_2 366 = .ok (.iadd, 1) := dk_96 (dk_at dksX5_dayOf_2_15 13 rfl rfl)
theorem dX5_dayOf_2_367 : decode cX5_dayOf_2 367 = .ok (.putfield 149, 3) := dk_181 0 149 (dk_at dksX5_dayOf_2_15 14 rfl rfl)
theorem dX5_dayOf_2_370 : decode cX5_dayOf_2 370 = .ok (.aload_n 0, 1) := dk_42 (dk_at dksX5_dayOf_2_15 17 rfl rfl)
theorem dX5_dayOf_2_371 : decode cX5_dayOf_2 371 = .ok (.dup, 1) := dk_89 (dk_at dksX5_dayOf_2_15 18 rfl rfl)
theorem dX5_dayOf_2_372 : decode cX5_dayOf_2 372 = .ok (.getfield 152, 3) := dk_180 0 152 (dk_at dksX5_dayOf_2_15 19 rfl rfl)
theorem dX5_dayOf_2_375 : decode cX5_dayOf_2 375 = .ok (.iconst 0, 1) := dk_3 (dk_at dksX5_dayOf_2_15 22 rfl rfl)
theorem dX5_dayOf_2_376 : decode cX5_dayOf_2 376 = .ok (.iload 15, 2) := dk_21 15 (dk_at dksX5_dayOf_2_16 0 rfl rfl)
theorem dX5_dayOf_2_378 : decode cX5_dayOf_2 378 = .ok (.aload_n 0, 1) := dk_42 (dk_at dksX5_dayOf_2_16 2 rfl rfl)
theorem dX5_dayOf_2_379 : decode cX5_dayOf_2 379 = .ok (.getfield 13, 3) := dk_180 0 13 (dk_at dksX5_dayOf_2_16 3 rfl rfl)
theorem dX5_dayOf_2_382 : decode cX5_dayOf_2 382 = .ok (.iload 10, 2) := dk_21 10 (dk_at dksX5_dayOf_2_16 6 rfl rfl)
theorem dX5_dayOf_2_384 : decode cX5_dayOf_2 384 = .ok (.iaload, 1) := dk_46 (dk_at dksX5_dayOf_2_16 8 rfl rfl)
theorem dX5_dayOf_2_385 : decode cX5_dayOf_2 385 = .ok (.isub, 1) := dk_100 (dk_at dksX5_dayOf_2_16 9 rfl rfl)
theorem dX5_dayOf_2_386 : decode cX5_dayOf_2 386 = .ok (.invokestatic 134, 3) := dk_184 0 134 (dk_at dksX5_dayOf_2_16 10 rfl rfl)
theorem dX5_dayOf_2_389 : decode cX5_dayOf_2 389 = .ok (.aload_n 0, 1) := dk_42 (dk_at dksX5_dayOf_2_16 13 rfl rfl)
theorem dX5_dayOf_2_390 : decode cX5_dayOf_2 390 = .ok (.getfield 19, 3) := dk_180 0 19 (dk_at dksX5_dayOf_2_16 14 rfl rfl)
theorem dX5_dayOf_2_393 : decode cX5_dayOf_2 393 = .ok (.iload 10, 2) := dk_21 10 (dk_at dksX5_dayOf_2_16 17 rfl rfl)
theorem dX5_dayOf_2_395 : decode cX5_dayOf_2 395 = .ok (.iaload, 1) := dk_46 (dk_at dksX5_dayOf_2_16 19 rfl rfl)
theorem dX5_dayOf_2_396 : decode cX5_dayOf_2 396 = .ok (.imul, 1) := dk_104 (dk_at dksX5_dayOf_2_16 20 rfl rfl)
theorem dX5_dayOf_2_397 : decode cX5_dayOf_2 397 = .ok (.iadd, 1) := dk_96 (dk_at dksX5_dayOf_2_16 21 rfl rfl)
theorem dX5_dayOf_2_398 : decode cX5_dayOf_2 398 = .ok (.putfield 152, 3) := dk_181 0 152 (dk_at dksX5_dayOf_2_17 0 rfl rfl)
theorem dX5_dayOf_2_401 : decode cX5_dayOf_2 401 = .ok (.aload_n 0, 1) := dk_42 (dk_at dksX5_dayOf_2_17 3 rfl rfl)
theorem dX5_dayOf_2_402 : decode cX5_dayOf_2 402 = .ok (.dup, 1) := dk_89 (dk_at dksX5_dayOf_2_17 4 rfl rfl)
theorem dX5_dayOf_2_403 : decode cX5_dayOf_2 403 = .ok (.getfield 155, 3) := dk_180 0 155 (dk_at dksX5_dayOf_2_17 5 rfl rfl)
theorem dX5_dayOf_2_406 : decode cX5_dayOf_2 406 = .ok (.iconst 0, 1) := dk_3 (dk_at dksX5_dayOf_2_17 8 rfl rfl)
theorem dX5_dayOf_2_407 : decode cX5_dayOf_2 407 = .ok (.aload_n 0, 1) := dk_42 (dk_at dksX5_dayOf_2_17 9 rfl rfl)
theorem dX5_dayOf_2_408 : decode cX5_dayOf_2 408 = .ok (.getfield 13, 3) := dk_180 0 13 (dk_at dksX5_dayOf_2_17 10 rfl rfl)
theorem dX5_dayOf_2_411 : decode cX5_dayOf_2 411 = .ok (.iload 10, 2) := dk_21 10 (dk_at dksX5_dayOf_2_17 13 rfl rfl)
theorem dX5_dayOf_2_413 : decode cX5_dayOf_2 413 = .ok (.iaload, 1) := dk_46 (dk_at dksX5_dayOf_2_17 15 rfl rfl)
theorem dX5_dayOf_2_414 : decode cX5_dayOf_2 414 = .ok (.iload 15, 2) := dk_21 15 (dk_at dksX5_dayOf_2_17 16 rfl rfl)
theorem dX5_dayOf_2_416 : decode cX5_dayOf_2 416 = .ok (.isub, 1) := dk_100 (dk_at dksX5_dayOf_2_17 18 rfl rfl)
theorem dX5_dayOf_2_417 : decode cX5_dayOf_2 417 = .ok (.invokestatic 134, 3) := dk_184 0 134 (dk_at dksX5_dayOf_2_17 19 rfl rfl)
theorem dX5_dayOf_2_420 : decode cX5_dayOf_2 420 = .ok (.iadd, 1) := dk_96 (dk_at dksX5_dayOf_2_17 22 rfl rfl)
theorem dX5_dayOf_2_421 : decode cX5_dayOf_2 421 = .ok (.putfield 155, 3) := dk_181 0 155 (dk_at dksX5_dayOf_2_18 0 rfl rfl)
theorem dX5_dayOf_2_424 : decode cX5_dayOf_2 424 = .ok (.sipush 719, 3) := dk_17 2 207 (dk_at dksX5_dayOf_2_18 3 rfl rfl)
theorem dX5_dayOf_2_427 : decode cX5_dayOf_2 427 = .ok (.iload 15, 2) := dk_21 15 (dk_at dksX5_dayOf_2_18 6 rfl rfl)
theorem dX5_dayOf_2_429 : decode cX5_dayOf_2 429 = .ok (.aload_n 0, 1) := dk_42 (dk_at dksX5_dayOf_2_18 8 rfl rfl)
theorem dX5_dayOf_2_430 : decode cX5_dayOf_2 430 = .ok (.getfield 13, 3) := dk_180 0 13 (dk_at dksX5_dayOf_2_18 9 rfl rfl)
theorem dX5_dayOf_2_433 : decode cX5_dayOf_2 433 = .ok (.iload 10, 2) := dk_21 10 (dk_at dksX5_dayOf_2_18 12 rfl rfl)
theorem dX5_dayOf_2_435 : decode cX5_dayOf_2 435 = .ok (.iaload, 1) := dk_46 (dk_at dksX5_dayOf_2_18 14 rfl rfl)
theorem dX5_dayOf_2_436 : decode cX5_dayOf_2 436 = .ok (.invokestatic 134, 3) := dk_184 0 134 (dk_at dksX5_dayOf_2_18 15 rfl rfl)
theorem dX5_dayOf_2_439 : decode cX5_dayOf_2 439 = .ok (.invokestatic 167, 3) := dk_184 0 167 (dk_at dksX5_dayOf_2_18 18 rfl rfl)
theorem dX5_dayOf_2_442 : decode cX5_dayOf_2 442 = .ok (.istore 8, 2) := dk_54 8 (dk_at dksX5_dayOf_2_18 21 rfl rfl)
theorem dX5_dayOf_2_444 : decode cX5_dayOf_2 444 = .ok (.iinc 10 1, 3) := dk_132 10 1 (dk_at dksX5_dayOf_2_19 0 rfl rfl)
theorem dX5_dayOf_2_447 : decode cX5_dayOf_2 447 = .ok (.goto (-379), 3) := dk_167 254 133 (dk_at dksX5_dayOf_2_19 3 rfl rfl)
theorem dX5_dayOf_2_450 : decode cX5_dayOf_2 450 = .ok (.aload_n 0, 1) := dk_42 (dk_at dksX5_dayOf_2_19 6 rfl rfl)
theorem dX5_dayOf_2_451 : decode cX5_dayOf_2 451 = .ok (.getfield 142, 3) := dk_180 0 142 (dk_at dksX5_dayOf_2_19 7 rfl rfl)
theorem dX5_dayOf_2_454 : decode cX5_dayOf_2 454 = .ok (.aload_n 0, 1) := dk_42 (dk_at dksX5_dayOf_2_19 10 rfl rfl)
theorem dX5_dayOf_2_455 : decode cX5_dayOf_2 455 = .ok (.getfield 152, 3) := dk_180 0 152 (dk_at dksX5_dayOf_2_19 11 rfl rfl)
theorem dX5_dayOf_2_458 : decode cX5_dayOf_2 458 = .ok (.iadd, 1) := dk_96 (dk_at dksX5_dayOf_2_19 14 rfl rfl)
theorem dX5_dayOf_2_459 : decode cX5_dayOf_2 459 = .ok (.ireturn, 1) := dk_172 (dk_at dksX5_dayOf_2_19 15 rfl rfl)
abbrev cX5_bestOf : ByteArray := prog_21_method_22_code
def yX5_bestOf : MethodName := ⟨RX5, "bestOf", "(III)I"⟩
def dkwX5_bestOf_2 : List UInt8 := [21, 6, 54, 4, 132, 6, 1, 167, 255, 219, 21, 4, 172]
abbrev dktX5_bestOf_2 : List UInt8 := dkwX5_bestOf_2 ++ []
def dkwX5_bestOf_1 : List UInt8 := [42, 5, 21, 6, 27, 28, 29, 182, 0, 170, 54, 7, 21, 7, 21, 5, 162, 0, 11, 21, 7, 54, 5]
abbrev dktX5_bestOf_1 : List UInt8 := dkwX5_bestOf_1 ++ dktX5_bestOf_2
def dkwX5_bestOf_0 : List UInt8 := [3, 54, 4, 42, 5, 3, 27, 28, 29, 182, 0, 170, 54, 5, 4, 54, 6, 21, 6, 16, 10, 162, 0, 36]
abbrev dktX5_bestOf_0 : List UInt8 := dkwX5_bestOf_0 ++ dktX5_bestOf_1
theorem dksX5_bestOf_0 : cX5_bestOf.data.toList.drop 0 = dktX5_bestOf_0 := by decide +kernel
theorem dksX5_bestOf_1 : cX5_bestOf.data.toList.drop 24 = dktX5_bestOf_1 := dk_seg dksX5_bestOf_0 24 rfl rfl
theorem dksX5_bestOf_2 : cX5_bestOf.data.toList.drop 47 = dktX5_bestOf_2 := dk_seg dksX5_bestOf_1 23 rfl rfl
theorem dX5_bestOf_0 : decode cX5_bestOf 0 = .ok (.iconst 0, 1) := dk_3 (dk_at dksX5_bestOf_0 0 rfl rfl)
theorem dX5_bestOf_1 : decode cX5_bestOf 1 = .ok (.istore 4, 2) := dk_54 4 (dk_at dksX5_bestOf_0 1 rfl rfl)
theorem dX5_bestOf_3 : decode cX5_bestOf 3 = .ok (.aload_n 0, 1) := dk_42 (dk_at dksX5_bestOf_0 3 rfl rfl)
theorem dX5_bestOf_4 : decode cX5_bestOf 4 = .ok (.iconst 2, 1) := dk_5 (dk_at dksX5_bestOf_0 4 rfl rfl)
theorem dX5_bestOf_5 : decode cX5_bestOf 5 = .ok (.iconst 0, 1) := dk_3 (dk_at dksX5_bestOf_0 5 rfl rfl)
theorem dX5_bestOf_6 : decode cX5_bestOf 6 = .ok (.iload_n 1, 1) := dk_27 (dk_at dksX5_bestOf_0 6 rfl rfl)
theorem dX5_bestOf_7 : decode cX5_bestOf 7 = .ok (.iload_n 2, 1) := dk_28 (dk_at dksX5_bestOf_0 7 rfl rfl)
theorem dX5_bestOf_8 : decode cX5_bestOf 8 = .ok (.iload_n 3, 1) := dk_29 (dk_at dksX5_bestOf_0 8 rfl rfl)
theorem dX5_bestOf_9 : decode cX5_bestOf 9 = .ok (.invokevirtual 170, 3) := dk_182 0 170 (dk_at dksX5_bestOf_0 9 rfl rfl)
theorem dX5_bestOf_12 : decode cX5_bestOf 12 = .ok (.istore 5, 2) := dk_54 5 (dk_at dksX5_bestOf_0 12 rfl rfl)
theorem dX5_bestOf_14 : decode cX5_bestOf 14 = .ok (.iconst 1, 1) := dk_4 (dk_at dksX5_bestOf_0 14 rfl rfl)
theorem dX5_bestOf_15 : decode cX5_bestOf 15 = .ok (.istore 6, 2) := dk_54 6 (dk_at dksX5_bestOf_0 15 rfl rfl)
theorem dX5_bestOf_17 : decode cX5_bestOf 17 = .ok (.iload 6, 2) := dk_21 6 (dk_at dksX5_bestOf_0 17 rfl rfl)
theorem dX5_bestOf_19 : decode cX5_bestOf 19 = .ok (.bipush 10, 2) := dk_16 10 (dk_at dksX5_bestOf_0 19 rfl rfl)
theorem dX5_bestOf_21 : decode cX5_bestOf 21 = .ok (.if_icmp .ge 36, 3) := dk_162 0 36 (dk_at dksX5_bestOf_0 21 rfl rfl)
theorem dX5_bestOf_24 : decode cX5_bestOf 24 = .ok (.aload_n 0, 1) := dk_42 (dk_at dksX5_bestOf_1 0 rfl rfl)
theorem dX5_bestOf_25 : decode cX5_bestOf 25 = .ok (.iconst 2, 1) := dk_5 (dk_at dksX5_bestOf_1 1 rfl rfl)
theorem dX5_bestOf_26 : decode cX5_bestOf 26 = .ok (.iload 6, 2) := dk_21 6 (dk_at dksX5_bestOf_1 2 rfl rfl)
theorem dX5_bestOf_28 : decode cX5_bestOf 28 = .ok (.iload_n 1, 1) := dk_27 (dk_at dksX5_bestOf_1 4 rfl rfl)
theorem dX5_bestOf_29 : decode cX5_bestOf 29 = .ok (.iload_n 2, 1) := dk_28 (dk_at dksX5_bestOf_1 5 rfl rfl)
theorem dX5_bestOf_30 : decode cX5_bestOf 30 = .ok (.iload_n 3, 1) := dk_29 (dk_at dksX5_bestOf_1 6 rfl rfl)
theorem dX5_bestOf_31 : decode cX5_bestOf 31 = .ok (.invokevirtual 170, 3) := dk_182 0 170 (dk_at dksX5_bestOf_1 7 rfl rfl)
theorem dX5_bestOf_34 : decode cX5_bestOf 34 = .ok (.istore 7, 2) := dk_54 7 (dk_at dksX5_bestOf_1 10 rfl rfl)
theorem dX5_bestOf_36 : decode cX5_bestOf 36 = .ok (.iload 7, 2) := dk_21 7 (dk_at dksX5_bestOf_1 12 rfl rfl)
theorem dX5_bestOf_38 : decode cX5_bestOf 38 = .ok (.iload 5, 2) := dk_21 5 (dk_at dksX5_bestOf_1 14 rfl rfl)
theorem dX5_bestOf_40 : decode cX5_bestOf 40 = .ok (.if_icmp .ge 11, 3) := dk_162 0 11 (dk_at dksX5_bestOf_1 16 rfl rfl)
theorem dX5_bestOf_43 : decode cX5_bestOf 43 = .ok (.iload 7, 2) := dk_21 7 (dk_at dksX5_bestOf_1 19 rfl rfl)
theorem dX5_bestOf_45 : decode cX5_bestOf 45 = .ok (.istore 5, 2) := dk_54 5 (dk_at dksX5_bestOf_1 21 rfl rfl)
theorem dX5_bestOf_47 : decode cX5_bestOf 47 = .ok (.iload 6, 2) := dk_21 6 (dk_at dksX5_bestOf_2 0 rfl rfl)
theorem dX5_bestOf_49 : decode cX5_bestOf 49 = .ok (.istore 4, 2) := dk_54 4 (dk_at dksX5_bestOf_2 2 rfl rfl)
theorem dX5_bestOf_51 : decode cX5_bestOf 51 = .ok (.iinc 6 1, 3) := dk_132 6 1 (dk_at dksX5_bestOf_2 4 rfl rfl)
theorem dX5_bestOf_54 : decode cX5_bestOf 54 = .ok (.goto (-37), 3) := dk_167 255 219 (dk_at dksX5_bestOf_2 7 rfl rfl)
theorem dX5_bestOf_57 : decode cX5_bestOf 57 = .ok (.iload 4, 2) := dk_21 4 (dk_at dksX5_bestOf_2 10 rfl rfl)
theorem dX5_bestOf_59 : decode cX5_bestOf 59 = .ok (.ireturn, 1) := dk_172 (dk_at dksX5_bestOf_2 12 rfl rfl)
abbrev cX5_isPlanned : ByteArray := prog_21_method_18_code
def yX5_isPlanned : MethodName := ⟨RX5, "isPlanned", "(I)Z"⟩
def dkwX5_isPlanned_1 : List UInt8 := [27, 160, 0, 7, 4, 167, 0, 4, 3, 61, 132, 3, 1, 167, 255, 223, 28, 172]
abbrev dktX5_isPlanned_1 : List UInt8 := dkwX5_isPlanned_1 ++ []
def dkwX5_isPlanned_0 : List UInt8 := [3, 61, 3, 62, 29, 42, 180, 0, 7, 5, 46, 162, 0, 29, 28, 154, 0, 13, 42, 180, 0, 34, 29, 46]
abbrev dktX5_isPlanned_0 : List UInt8 := dkwX5_isPlanned_0 ++ dktX5_isPlanned_1
theorem dksX5_isPlanned_0 : cX5_isPlanned.data.toList.drop 0 = dktX5_isPlanned_0 := by decide +kernel
theorem dksX5_isPlanned_1 : cX5_isPlanned.data.toList.drop 24 = dktX5_isPlanned_1 := dk_seg dksX5_isPlanned_0 24 rfl rfl
theorem dX5_isPlanned_0 : decode cX5_isPlanned 0 = .ok (.iconst 0, 1) := dk_3 (dk_at dksX5_isPlanned_0 0 rfl rfl)
theorem dX5_isPlanned_1 : decode cX5_isPlanned 1 = .ok (.istore_n 2, 1) := dk_61 (dk_at dksX5_isPlanned_0 1 rfl rfl)
theorem dX5_isPlanned_2 : decode cX5_isPlanned 2 = .ok (.iconst 0, 1) := dk_3 (dk_at dksX5_isPlanned_0 2 rfl rfl)
theorem dX5_isPlanned_3 : decode cX5_isPlanned 3 = .ok (.istore_n 3, 1) := dk_62 (dk_at dksX5_isPlanned_0 3 rfl rfl)
theorem dX5_isPlanned_4 : decode cX5_isPlanned 4 = .ok (.iload_n 3, 1) := dk_29 (dk_at dksX5_isPlanned_0 4 rfl rfl)
theorem dX5_isPlanned_5 : decode cX5_isPlanned 5 = .ok (.aload_n 0, 1) := dk_42 (dk_at dksX5_isPlanned_0 5 rfl rfl)
theorem dX5_isPlanned_6 : decode cX5_isPlanned 6 = .ok (.getfield 7, 3) := dk_180 0 7 (dk_at dksX5_isPlanned_0 6 rfl rfl)
theorem dX5_isPlanned_9 : decode cX5_isPlanned 9 = .ok (.iconst 2, 1) := dk_5 (dk_at dksX5_isPlanned_0 9 rfl rfl)
theorem dX5_isPlanned_10 : decode cX5_isPlanned 10 = .ok (.iaload, 1) := dk_46 (dk_at dksX5_isPlanned_0 10 rfl rfl)
theorem dX5_isPlanned_11 : decode cX5_isPlanned 11 = .ok (.if_icmp .ge 29, 3) := dk_162 0 29 (dk_at dksX5_isPlanned_0 11 rfl rfl)
theorem dX5_isPlanned_14 : decode cX5_isPlanned 14 = .ok (.iload_n 2, 1) := dk_28 (dk_at dksX5_isPlanned_0 14 rfl rfl)
theorem dX5_isPlanned_15 : decode cX5_isPlanned 15 = .ok (.ifCond .ne 13, 3) := dk_154 0 13 (dk_at dksX5_isPlanned_0 15 rfl rfl)
theorem dX5_isPlanned_18 : decode cX5_isPlanned 18 = .ok (.aload_n 0, 1) := dk_42 (dk_at dksX5_isPlanned_0 18 rfl rfl)
theorem dX5_isPlanned_19 : decode cX5_isPlanned 19 = .ok (.getfield 34, 3) := dk_180 0 34 (dk_at dksX5_isPlanned_0 19 rfl rfl)
theorem dX5_isPlanned_22 : decode cX5_isPlanned 22 = .ok (.iload_n 3, 1) := dk_29 (dk_at dksX5_isPlanned_0 22 rfl rfl)
theorem dX5_isPlanned_23 : decode cX5_isPlanned 23 = .ok (.iaload, 1) := dk_46 (dk_at dksX5_isPlanned_0 23 rfl rfl)
theorem dX5_isPlanned_24 : decode cX5_isPlanned 24 = .ok (.iload_n 1, 1) := dk_27 (dk_at dksX5_isPlanned_1 0 rfl rfl)
theorem dX5_isPlanned_25 : decode cX5_isPlanned 25 = .ok (.if_icmp .ne 7, 3) := dk_160 0 7 (dk_at dksX5_isPlanned_1 1 rfl rfl)
theorem dX5_isPlanned_28 : decode cX5_isPlanned 28 = .ok (.iconst 1, 1) := dk_4 (dk_at dksX5_isPlanned_1 4 rfl rfl)
theorem dX5_isPlanned_29 : decode cX5_isPlanned 29 = .ok (.goto 4, 3) := dk_167 0 4 (dk_at dksX5_isPlanned_1 5 rfl rfl)
theorem dX5_isPlanned_32 : decode cX5_isPlanned 32 = .ok (.iconst 0, 1) := dk_3 (dk_at dksX5_isPlanned_1 8 rfl rfl)
theorem dX5_isPlanned_33 : decode cX5_isPlanned 33 = .ok (.istore_n 2, 1) := dk_61 (dk_at dksX5_isPlanned_1 9 rfl rfl)
theorem dX5_isPlanned_34 : decode cX5_isPlanned 34 = .ok (.iinc 3 1, 3) := dk_132 3 1 (dk_at dksX5_isPlanned_1 10 rfl rfl)
theorem dX5_isPlanned_37 : decode cX5_isPlanned 37 = .ok (.goto (-33), 3) := dk_167 255 223 (dk_at dksX5_isPlanned_1 13 rfl rfl)
theorem dX5_isPlanned_40 : decode cX5_isPlanned 40 = .ok (.iload_n 2, 1) := dk_28 (dk_at dksX5_isPlanned_1 16 rfl rfl)
theorem dX5_isPlanned_41 : decode cX5_isPlanned 41 = .ok (.ireturn, 1) := dk_172 (dk_at dksX5_isPlanned_1 17 rfl rfl)
abbrev cX5_isClock : ByteArray := prog_21_method_19_code
def yX5_isClock : MethodName := ⟨RX5, "isClock", "(I)Z"⟩
def dkwX5_isClock_1 : List UInt8 := [167, 0, 4, 3, 172]
abbrev dktX5_isClock_1 : List UInt8 := dkwX5_isClock_1 ++ []
def dkwX5_isClock_0 : List UInt8 := [26, 5, 159, 0, 19, 26, 6, 159, 0, 14, 26, 8, 159, 0, 9, 26, 16, 7, 160, 0, 7, 4]
abbrev dktX5_isClock_0 : List UInt8 := dkwX5_isClock_0 ++ dktX5_isClock_1
theorem dksX5_isClock_0 : cX5_isClock.data.toList.drop 0 = dktX5_isClock_0 := by decide +kernel
theorem dksX5_isClock_1 : cX5_isClock.data.toList.drop 22 = dktX5_isClock_1 := dk_seg dksX5_isClock_0 22 rfl rfl
theorem dX5_isClock_0 : decode cX5_isClock 0 = .ok (.iload_n 0, 1) := dk_26 (dk_at dksX5_isClock_0 0 rfl rfl)
theorem dX5_isClock_1 : decode cX5_isClock 1 = .ok (.iconst 2, 1) := dk_5 (dk_at dksX5_isClock_0 1 rfl rfl)
theorem dX5_isClock_2 : decode cX5_isClock 2 = .ok (.if_icmp .eq 19, 3) := dk_159 0 19 (dk_at dksX5_isClock_0 2 rfl rfl)
theorem dX5_isClock_5 : decode cX5_isClock 5 = .ok (.iload_n 0, 1) := dk_26 (dk_at dksX5_isClock_0 5 rfl rfl)
theorem dX5_isClock_6 : decode cX5_isClock 6 = .ok (.iconst 3, 1) := dk_6 (dk_at dksX5_isClock_0 6 rfl rfl)
theorem dX5_isClock_7 : decode cX5_isClock 7 = .ok (.if_icmp .eq 14, 3) := dk_159 0 14 (dk_at dksX5_isClock_0 7 rfl rfl)
theorem dX5_isClock_10 : decode cX5_isClock 10 = .ok (.iload_n 0, 1) := dk_26 (dk_at dksX5_isClock_0 10 rfl rfl)
theorem dX5_isClock_11 : decode cX5_isClock 11 = .ok (.iconst 5, 1) := dk_8 (dk_at dksX5_isClock_0 11 rfl rfl)
theorem dX5_isClock_12 : decode cX5_isClock 12 = .ok (.if_icmp .eq 9, 3) := dk_159 0 9 (dk_at dksX5_isClock_0 12 rfl rfl)
theorem dX5_isClock_15 : decode cX5_isClock 15 = .ok (.iload_n 0, 1) := dk_26 (dk_at dksX5_isClock_0 15 rfl rfl)
theorem dX5_isClock_16 : decode cX5_isClock 16 = .ok (.bipush 7, 2) := dk_16 7 (dk_at dksX5_isClock_0 16 rfl rfl)
theorem dX5_isClock_18 : decode cX5_isClock 18 = .ok (.if_icmp .ne 7, 3) := dk_160 0 7 (dk_at dksX5_isClock_0 18 rfl rfl)
theorem dX5_isClock_21 : decode cX5_isClock 21 = .ok (.iconst 1, 1) := dk_4 (dk_at dksX5_isClock_0 21 rfl rfl)
theorem dX5_isClock_22 : decode cX5_isClock 22 = .ok (.goto 4, 3) := dk_167 0 4 (dk_at dksX5_isClock_1 0 rfl rfl)
theorem dX5_isClock_25 : decode cX5_isClock 25 = .ok (.iconst 0, 1) := dk_3 (dk_at dksX5_isClock_1 3 rfl rfl)
theorem dX5_isClock_26 : decode cX5_isClock 26 = .ok (.ireturn, 1) := dk_172 (dk_at dksX5_isClock_1 4 rfl rfl)
abbrev cX5_pays : ByteArray := prog_21_method_20_code
def yX5_pays : MethodName := ⟨RX5, "pays", "(II)I"⟩
def dkwX5_pays_1 : List UInt8 := [184, 0, 134, 167, 0, 4, 27, 172]
abbrev dktX5_pays_1 : List UInt8 := dkwX5_pays_1 ++ []
def dkwX5_pays_0 : List UInt8 := [26, 8, 160, 0, 11, 27, 4, 96, 5, 108, 167, 0, 20, 26, 16, 7, 160, 0, 13, 3, 27, 5, 100]
abbrev dktX5_pays_0 : List UInt8 := dkwX5_pays_0 ++ dktX5_pays_1
theorem dksX5_pays_0 : cX5_pays.data.toList.drop 0 = dktX5_pays_0 := by decide +kernel
theorem dksX5_pays_1 : cX5_pays.data.toList.drop 23 = dktX5_pays_1 := dk_seg dksX5_pays_0 23 rfl rfl
theorem dX5_pays_0 : decode cX5_pays 0 = .ok (.iload_n 0, 1) := dk_26 (dk_at dksX5_pays_0 0 rfl rfl)
theorem dX5_pays_1 : decode cX5_pays 1 = .ok (.iconst 5, 1) := dk_8 (dk_at dksX5_pays_0 1 rfl rfl)
theorem dX5_pays_2 : decode cX5_pays 2 = .ok (.if_icmp .ne 11, 3) := dk_160 0 11 (dk_at dksX5_pays_0 2 rfl rfl)
theorem dX5_pays_5 : decode cX5_pays 5 = .ok (.iload_n 1, 1) := dk_27 (dk_at dksX5_pays_0 5 rfl rfl)
theorem dX5_pays_6 : decode cX5_pays 6 = .ok (.iconst 1, 1) := dk_4 (dk_at dksX5_pays_0 6 rfl rfl)
theorem dX5_pays_7 : decode cX5_pays 7 = .ok (.iadd, 1) := dk_96 (dk_at dksX5_pays_0 7 rfl rfl)
theorem dX5_pays_8 : decode cX5_pays 8 = .ok (.iconst 2, 1) := dk_5 (dk_at dksX5_pays_0 8 rfl rfl)
theorem dX5_pays_9 : decode cX5_pays 9 = .ok (.idiv, 1) := dk_108 (dk_at dksX5_pays_0 9 rfl rfl)
theorem dX5_pays_10 : decode cX5_pays 10 = .ok (.goto 20, 3) := dk_167 0 20 (dk_at dksX5_pays_0 10 rfl rfl)
theorem dX5_pays_13 : decode cX5_pays 13 = .ok (.iload_n 0, 1) := dk_26 (dk_at dksX5_pays_0 13 rfl rfl)
theorem dX5_pays_14 : decode cX5_pays 14 = .ok (.bipush 7, 2) := dk_16 7 (dk_at dksX5_pays_0 14 rfl rfl)
theorem dX5_pays_16 : decode cX5_pays 16 = .ok (.if_icmp .ne 13, 3) := dk_160 0 13 (dk_at dksX5_pays_0 16 rfl rfl)
theorem dX5_pays_19 : decode cX5_pays 19 = .ok (.iconst 0, 1) := dk_3 (dk_at dksX5_pays_0 19 rfl rfl)
theorem dX5_pays_20 : decode cX5_pays 20 = .ok (.iload_n 1, 1) := dk_27 (dk_at dksX5_pays_0 20 rfl rfl)
theorem dX5_pays_21 : decode cX5_pays 21 = .ok (.iconst 2, 1) := dk_5 (dk_at dksX5_pays_0 21 rfl rfl)
theorem dX5_pays_22 : decode cX5_pays 22 = .ok (.isub, 1) := dk_100 (dk_at dksX5_pays_0 22 rfl rfl)
theorem dX5_pays_23 : decode cX5_pays 23 = .ok (.invokestatic 134, 3) := dk_184 0 134 (dk_at dksX5_pays_1 0 rfl rfl)
theorem dX5_pays_26 : decode cX5_pays 26 = .ok (.goto 4, 3) := dk_167 0 4 (dk_at dksX5_pays_1 3 rfl rfl)
theorem dX5_pays_29 : decode cX5_pays 29 = .ok (.iload_n 1, 1) := dk_27 (dk_at dksX5_pays_1 6 rfl rfl)
theorem dX5_pays_30 : decode cX5_pays 30 = .ok (.ireturn, 1) := dk_172 (dk_at dksX5_pays_1 7 rfl rfl)
abbrev cX5_look : ByteArray := prog_21_method_25_code
def yX5_look : MethodName := ⟨RX5, "look", "(II)I"⟩
def dkwX5_look_1 : List UInt8 := [180, 0, 146, 162, 0, 12, 42, 180, 0, 64, 28, 46, 167, 0, 5, 16, 252, 172]
abbrev dktX5_look_1 : List UInt8 := dkwX5_look_1 ++ []
def dkwX5_look_0 : List UInt8 := [42, 27, 182, 0, 123, 153, 0, 7, 28, 156, 0, 5, 2, 172, 42, 27, 182, 0, 174, 87, 28, 42]
abbrev dktX5_look_0 : List UInt8 := dkwX5_look_0 ++ dktX5_look_1
theorem dksX5_look_0 : cX5_look.data.toList.drop 0 = dktX5_look_0 := by decide +kernel
theorem dksX5_look_1 : cX5_look.data.toList.drop 22 = dktX5_look_1 := dk_seg dksX5_look_0 22 rfl rfl
theorem dX5_look_0 : decode cX5_look 0 = .ok (.aload_n 0, 1) := dk_42 (dk_at dksX5_look_0 0 rfl rfl)
theorem dX5_look_1 : decode cX5_look 1 = .ok (.iload_n 1, 1) := dk_27 (dk_at dksX5_look_0 1 rfl rfl)
theorem dX5_look_2 : decode cX5_look 2 = .ok (.invokevirtual 123, 3) := dk_182 0 123 (dk_at dksX5_look_0 2 rfl rfl)
theorem dX5_look_5 : decode cX5_look 5 = .ok (.ifCond .eq 7, 3) := dk_153 0 7 (dk_at dksX5_look_0 5 rfl rfl)
theorem dX5_look_8 : decode cX5_look 8 = .ok (.iload_n 2, 1) := dk_28 (dk_at dksX5_look_0 8 rfl rfl)
theorem dX5_look_9 : decode cX5_look 9 = .ok (.ifCond .ge 5, 3) := dk_156 0 5 (dk_at dksX5_look_0 9 rfl rfl)
theorem dX5_look_12 : decode cX5_look 12 = .ok (.iconst (-1), 1) := dk_2 (dk_at dksX5_look_0 12 rfl rfl)
theorem dX5_look_13 : decode cX5_look 13 = .ok (.ireturn, 1) := dk_172 (dk_at dksX5_look_0 13 rfl rfl)
theorem dX5_look_14 : decode cX5_look 14 = .ok (.aload_n 0, 1) := dk_42 (dk_at dksX5_look_0 14 rfl rfl)
theorem dX5_look_15 : decode cX5_look 15 = .ok (.iload_n 1, 1) := dk_27 (dk_at dksX5_look_0 15 rfl rfl)
theorem dX5_look_16 : decode cX5_look 16 = .ok (.invokevirtual 174, 3) := dk_182 0 174 (dk_at dksX5_look_0 16 rfl rfl)
theorem dX5_look_19 : decode cX5_look 19 = .ok (.pop, 1) := dk_87 (dk_at dksX5_look_0 19 rfl rfl)
theorem dX5_look_20 : decode cX5_look 20 = .ok (.iload_n 2, 1) := dk_28 (dk_at dksX5_look_0 20 rfl rfl)
theorem dX5_look_21 : decode cX5_look 21 = .ok (.aload_n 0, 1) := dk_42 (dk_at dksX5_look_0 21 rfl rfl)
theorem dX5_look_22 : decode cX5_look 22 = .ok (.getfield 146, 3) := dk_180 0 146 (dk_at dksX5_look_1 0 rfl rfl)
theorem dX5_look_25 : decode cX5_look 25 = .ok (.if_icmp .ge 12, 3) := dk_162 0 12 (dk_at dksX5_look_1 3 rfl rfl)
theorem dX5_look_28 : decode cX5_look 28 = .ok (.aload_n 0, 1) := dk_42 (dk_at dksX5_look_1 6 rfl rfl)
theorem dX5_look_29 : decode cX5_look 29 = .ok (.getfield 64, 3) := dk_180 0 64 (dk_at dksX5_look_1 7 rfl rfl)
theorem dX5_look_32 : decode cX5_look 32 = .ok (.iload_n 2, 1) := dk_28 (dk_at dksX5_look_1 10 rfl rfl)
theorem dX5_look_33 : decode cX5_look 33 = .ok (.iaload, 1) := dk_46 (dk_at dksX5_look_1 11 rfl rfl)
theorem dX5_look_34 : decode cX5_look 34 = .ok (.goto 5, 3) := dk_167 0 5 (dk_at dksX5_look_1 12 rfl rfl)
theorem dX5_look_37 : decode cX5_look 37 = .ok (.bipush (-4), 2) := dk_16 252 (dk_at dksX5_look_1 15 rfl rfl)
theorem dX5_look_39 : decode cX5_look 39 = .ok (.ireturn, 1) := dk_172 (dk_at dksX5_look_1 17 rfl rfl)
abbrev cX5_comes : ByteArray := prog_21_method_26_code
def yX5_comes : MethodName := ⟨RX5, "comes", "(II)I"⟩
def dkwX5_comes_1 : List UInt8 := [42, 180, 0, 67, 28, 46, 172]
abbrev dktX5_comes_1 : List UInt8 := dkwX5_comes_1 ++ []
def dkwX5_comes_0 : List UInt8 := [42, 27, 182, 0, 123, 153, 0, 11, 42, 28, 182, 0, 120, 154, 0, 5, 2, 172, 42, 27, 182, 0, 174, 87]
abbrev dktX5_comes_0 : List UInt8 := dkwX5_comes_0 ++ dktX5_comes_1
theorem dksX5_comes_0 : cX5_comes.data.toList.drop 0 = dktX5_comes_0 := by decide +kernel
theorem dksX5_comes_1 : cX5_comes.data.toList.drop 24 = dktX5_comes_1 := dk_seg dksX5_comes_0 24 rfl rfl
theorem dX5_comes_0 : decode cX5_comes 0 = .ok (.aload_n 0, 1) := dk_42 (dk_at dksX5_comes_0 0 rfl rfl)
theorem dX5_comes_1 : decode cX5_comes 1 = .ok (.iload_n 1, 1) := dk_27 (dk_at dksX5_comes_0 1 rfl rfl)
theorem dX5_comes_2 : decode cX5_comes 2 = .ok (.invokevirtual 123, 3) := dk_182 0 123 (dk_at dksX5_comes_0 2 rfl rfl)
theorem dX5_comes_5 : decode cX5_comes 5 = .ok (.ifCond .eq 11, 3) := dk_153 0 11 (dk_at dksX5_comes_0 5 rfl rfl)
theorem dX5_comes_8 : decode cX5_comes 8 = .ok (.aload_n 0, 1) := dk_42 (dk_at dksX5_comes_0 8 rfl rfl)
theorem dX5_comes_9 : decode cX5_comes 9 = .ok (.iload_n 2, 1) := dk_28 (dk_at dksX5_comes_0 9 rfl rfl)
theorem dX5_comes_10 : decode cX5_comes 10 = .ok (.invokevirtual 120, 3) := dk_182 0 120 (dk_at dksX5_comes_0 10 rfl rfl)
theorem dX5_comes_13 : decode cX5_comes 13 = .ok (.ifCond .ne 5, 3) := dk_154 0 5 (dk_at dksX5_comes_0 13 rfl rfl)
theorem dX5_comes_16 : decode cX5_comes 16 = .ok (.iconst (-1), 1) := dk_2 (dk_at dksX5_comes_0 16 rfl rfl)
theorem dX5_comes_17 : decode cX5_comes 17 = .ok (.ireturn, 1) := dk_172 (dk_at dksX5_comes_0 17 rfl rfl)
theorem dX5_comes_18 : decode cX5_comes 18 = .ok (.aload_n 0, 1) := dk_42 (dk_at dksX5_comes_0 18 rfl rfl)
theorem dX5_comes_19 : decode cX5_comes 19 = .ok (.iload_n 1, 1) := dk_27 (dk_at dksX5_comes_0 19 rfl rfl)
theorem dX5_comes_20 : decode cX5_comes 20 = .ok (.invokevirtual 174, 3) := dk_182 0 174 (dk_at dksX5_comes_0 20 rfl rfl)
theorem dX5_comes_23 : decode cX5_comes 23 = .ok (.pop, 1) := dk_87 (dk_at dksX5_comes_0 23 rfl rfl)
theorem dX5_comes_24 : decode cX5_comes 24 = .ok (.aload_n 0, 1) := dk_42 (dk_at dksX5_comes_1 0 rfl rfl)
theorem dX5_comes_25 : decode cX5_comes 25 = .ok (.getfield 67, 3) := dk_180 0 67 (dk_at dksX5_comes_1 1 rfl rfl)
theorem dX5_comes_28 : decode cX5_comes 28 = .ok (.iload_n 2, 1) := dk_28 (dk_at dksX5_comes_1 4 rfl rfl)
theorem dX5_comes_29 : decode cX5_comes 29 = .ok (.iaload, 1) := dk_46 (dk_at dksX5_comes_1 5 rfl rfl)
theorem dX5_comes_30 : decode cX5_comes 30 = .ok (.ireturn, 1) := dk_172 (dk_at dksX5_comes_1 6 rfl rfl)
abbrev cX5_bestFigure : ByteArray := prog_21_method_27_code
def yX5_bestFigure : MethodName := ⟨RX5, "bestFigure", "(I)I"⟩
def dkwX5_bestFigure_1 : List UInt8 := [180, 0, 7, 6, 46, 182, 0, 139, 167, 0, 4, 2, 172]
abbrev dktX5_bestFigure_1 : List UInt8 := dkwX5_bestFigure_1 ++ []
def dkwX5_bestFigure_0 : List UInt8 := [42, 27, 182, 0, 123, 153, 0, 28, 42, 42, 180, 0, 28, 27, 46, 42, 180, 0, 31, 27, 46, 42]
abbrev dktX5_bestFigure_0 : List UInt8 := dkwX5_bestFigure_0 ++ dktX5_bestFigure_1
theorem dksX5_bestFigure_0 : cX5_bestFigure.data.toList.drop 0 = dktX5_bestFigure_0 := by decide +kernel
theorem dksX5_bestFigure_1 : cX5_bestFigure.data.toList.drop 22 = dktX5_bestFigure_1 := dk_seg dksX5_bestFigure_0 22 rfl rfl
theorem dX5_bestFigure_0 : decode cX5_bestFigure 0 = .ok (.aload_n 0, 1) := dk_42 (dk_at dksX5_bestFigure_0 0 rfl rfl)
theorem dX5_bestFigure_1 : decode cX5_bestFigure 1 = .ok (.iload_n 1, 1) := dk_27 (dk_at dksX5_bestFigure_0 1 rfl rfl)
theorem dX5_bestFigure_2 : decode cX5_bestFigure 2 = .ok (.invokevirtual 123, 3) := dk_182 0 123 (dk_at dksX5_bestFigure_0 2 rfl rfl)
theorem dX5_bestFigure_5 : decode cX5_bestFigure 5 = .ok (.ifCond .eq 28, 3) := dk_153 0 28 (dk_at dksX5_bestFigure_0 5 rfl rfl)
theorem dX5_bestFigure_8 : decode cX5_bestFigure 8 = .ok (.aload_n 0, 1) := dk_42 (dk_at dksX5_bestFigure_0 8 rfl rfl)
theorem dX5_bestFigure_9 : decode cX5_bestFigure 9 = .ok (.aload_n 0, 1) := dk_42 (dk_at dksX5_bestFigure_0 9 rfl rfl)
theorem dX5_bestFigure_10 : decode cX5_bestFigure 10 = .ok (.getfield 28, 3) := dk_180 0 28 (dk_at dksX5_bestFigure_0 10 rfl rfl)
theorem dX5_bestFigure_13 : decode cX5_bestFigure 13 = .ok (.iload_n 1, 1) := dk_27 (dk_at dksX5_bestFigure_0 13 rfl rfl)
theorem dX5_bestFigure_14 : decode cX5_bestFigure 14 = .ok (.iaload, 1) := dk_46 (dk_at dksX5_bestFigure_0 14 rfl rfl)
theorem dX5_bestFigure_15 : decode cX5_bestFigure 15 = .ok (.aload_n 0, 1) := dk_42 (dk_at dksX5_bestFigure_0 15 rfl rfl)
theorem dX5_bestFigure_16 : decode cX5_bestFigure 16 = .ok (.getfield 31, 3) := dk_180 0 31 (dk_at dksX5_bestFigure_0 16 rfl rfl)
theorem dX5_bestFigure_19 : decode cX5_bestFigure 19 = .ok (.iload_n 1, 1) := dk_27 (dk_at dksX5_bestFigure_0 19 rfl rfl)
theorem dX5_bestFigure_20 : decode cX5_bestFigure 20 = .ok (.iaload, 1) := dk_46 (dk_at dksX5_bestFigure_0 20 rfl rfl)
theorem dX5_bestFigure_21 : decode cX5_bestFigure 21 = .ok (.aload_n 0, 1) := dk_42 (dk_at dksX5_bestFigure_0 21 rfl rfl)
theorem dX5_bestFigure_22 : decode cX5_bestFigure 22 = .ok (.getfield 7, 3) := dk_180 0 7 (dk_at dksX5_bestFigure_1 0 rfl rfl)
theorem dX5_bestFigure_25 : decode cX5_bestFigure 25 = .ok (.iconst 3, 1) := dk_6 (dk_at dksX5_bestFigure_1 3 rfl rfl)
theorem dX5_bestFigure_26 : decode cX5_bestFigure 26 = .ok (.iaload, 1) := dk_46 (dk_at dksX5_bestFigure_1 4 rfl rfl)
theorem dX5_bestFigure_27 : decode cX5_bestFigure 27 = .ok (.invokevirtual 139, 3) := dk_182 0 139 (dk_at dksX5_bestFigure_1 5 rfl rfl)
theorem dX5_bestFigure_30 : decode cX5_bestFigure 30 = .ok (.goto 4, 3) := dk_167 0 4 (dk_at dksX5_bestFigure_1 8 rfl rfl)
theorem dX5_bestFigure_33 : decode cX5_bestFigure 33 = .ok (.iconst (-1), 1) := dk_2 (dk_at dksX5_bestFigure_1 11 rfl rfl)
theorem dX5_bestFigure_34 : decode cX5_bestFigure 34 = .ok (.ireturn, 1) := dk_172 (dk_at dksX5_bestFigure_1 12 rfl rfl)
abbrev cX5_always : ByteArray := prog_21_method_28_code
def yX5_always : MethodName := ⟨RX5, "always", "(I)I"⟩
def dkwX5_always_2 : List UInt8 := [180, 0, 149, 154, 0, 5, 28, 172, 132, 2, 1, 167, 255, 213, 16, 252, 172]
abbrev dktX5_always_2 : List UInt8 := dkwX5_always_2 ++ []
def dkwX5_always_1 : List UInt8 := [180, 0, 28, 27, 46, 42, 180, 0, 31, 27, 46, 42, 180, 0, 7, 6, 46, 182, 0, 170, 87, 42]
abbrev dktX5_always_1 : List UInt8 := dkwX5_always_1 ++ dktX5_always_2
def dkwX5_always_0 : List UInt8 := [42, 27, 182, 0, 123, 154, 0, 5, 2, 172, 3, 61, 28, 16, 10, 162, 0, 43, 42, 4, 28, 42]
abbrev dktX5_always_0 : List UInt8 := dkwX5_always_0 ++ dktX5_always_1
theorem dksX5_always_0 : cX5_always.data.toList.drop 0 = dktX5_always_0 := by decide +kernel
theorem dksX5_always_1 : cX5_always.data.toList.drop 22 = dktX5_always_1 := dk_seg dksX5_always_0 22 rfl rfl
theorem dksX5_always_2 : cX5_always.data.toList.drop 44 = dktX5_always_2 := dk_seg dksX5_always_1 22 rfl rfl
theorem dX5_always_0 : decode cX5_always 0 = .ok (.aload_n 0, 1) := dk_42 (dk_at dksX5_always_0 0 rfl rfl)
theorem dX5_always_1 : decode cX5_always 1 = .ok (.iload_n 1, 1) := dk_27 (dk_at dksX5_always_0 1 rfl rfl)
theorem dX5_always_2 : decode cX5_always 2 = .ok (.invokevirtual 123, 3) := dk_182 0 123 (dk_at dksX5_always_0 2 rfl rfl)
theorem dX5_always_5 : decode cX5_always 5 = .ok (.ifCond .ne 5, 3) := dk_154 0 5 (dk_at dksX5_always_0 5 rfl rfl)
theorem dX5_always_8 : decode cX5_always 8 = .ok (.iconst (-1), 1) := dk_2 (dk_at dksX5_always_0 8 rfl rfl)
theorem dX5_always_9 : decode cX5_always 9 = .ok (.ireturn, 1) := dk_172 (dk_at dksX5_always_0 9 rfl rfl)
theorem dX5_always_10 : decode cX5_always 10 = .ok (.iconst 0, 1) := dk_3 (dk_at dksX5_always_0 10 rfl rfl)
theorem dX5_always_11 : decode cX5_always 11 = .ok (.istore_n 2, 1) := dk_61 (dk_at dksX5_always_0 11 rfl rfl)
theorem dX5_always_12 : decode cX5_always 12 = .ok (.iload_n 2, 1) := dk_28 (dk_at dksX5_always_0 12 rfl rfl)
theorem dX5_always_13 : decode cX5_always 13 = .ok (.bipush 10, 2) := dk_16 10 (dk_at dksX5_always_0 13 rfl rfl)
theorem dX5_always_15 : decode cX5_always 15 = .ok (.if_icmp .ge 43, 3) := dk_162 0 43 (dk_at dksX5_always_0 15 rfl rfl)
theorem dX5_always_18 : decode cX5_always 18 = .ok (.aload_n 0, 1) := dk_42 (dk_at dksX5_always_0 18 rfl rfl)
theorem dX5_always_19 : decode cX5_always 19 = .ok (.iconst 1, 1) := dk_4 (dk_at dksX5_always_0 19 rfl rfl)
theorem dX5_always_20 : decode cX5_always 20 = .ok (.iload_n 2, 1) := dk_28 (dk_at dksX5_always_0 20 rfl rfl)
theorem dX5_always_21 : decode cX5_always 21 = .ok (.aload_n 0, 1) := dk_42 (dk_at dksX5_always_0 21 rfl rfl)
theorem dX5_always_22 : decode cX5_always 22 = .ok (.getfield 28, 3) := dk_180 0 28 (dk_at dksX5_always_1 0 rfl rfl)
theorem dX5_always_25 : decode cX5_always 25 = .ok (.iload_n 1, 1) := dk_27 (dk_at dksX5_always_1 3 rfl rfl)
theorem dX5_always_26 : decode cX5_always 26 = .ok (.iaload, 1) := dk_46 (dk_at dksX5_always_1 4 rfl rfl)
theorem dX5_always_27 : decode cX5_always 27 = .ok (.aload_n 0, 1) := dk_42 (dk_at dksX5_always_1 5 rfl rfl)
theorem dX5_always_28 : decode cX5_always 28 = .ok (.getfield 31, 3) := dk_180 0 31 (dk_at dksX5_always_1 6 rfl rfl)
theorem dX5_always_31 : decode cX5_always 31 = .ok (.iload_n 1, 1) := dk_27 (dk_at dksX5_always_1 9 rfl rfl)
theorem dX5_always_32 : decode cX5_always 32 = .ok (.iaload, 1) := dk_46 (dk_at dksX5_always_1 10 rfl rfl)
theorem dX5_always_33 : decode cX5_always 33 = .ok (.aload_n 0, 1) := dk_42 (dk_at dksX5_always_1 11 rfl rfl)
theorem dX5_always_34 : decode cX5_always 34 = .ok (.getfield 7, 3) := dk_180 0 7 (dk_at dksX5_always_1 12 rfl rfl)
theorem dX5_always_37 : decode cX5_always 37 = .ok (.iconst 3, 1) := dk_6 (dk_at dksX5_always_1 15 rfl rfl)
theorem dX5_always_38 : decode cX5_always 38 = .ok (.iaload, 1) := dk_46 (dk_at dksX5_always_1 16 rfl rfl)
theorem dX5_always_39 : decode cX5_always 39 = .ok (.invokevirtual 170, 3) := dk_182 0 170 (dk_at dksX5_always_1 17 rfl rfl)
theorem dX5_always_42 : decode cX5_always 42 = .ok (.pop, 1) := dk_87 (dk_at dksX5_always_1 20 rfl rfl)
theorem dX5_always_43 : decode cX5_always 43 = .ok (.aload_n 0, 1) := dk_42 (dk_at dksX5_always_1 21 rfl rfl)
theorem dX5_always_44 : decode cX5_always 44 = .ok (.getfield 149, 3) := dk_180 0 149 (dk_at dksX5_always_2 0 rfl rfl)
theorem dX5_always_47 : decode cX5_always 47 = .ok (.ifCond .ne 5, 3) := dk_154 0 5 (dk_at dksX5_always_2 3 rfl rfl)
theorem dX5_always_50 : decode cX5_always 50 = .ok (.iload_n 2, 1) := dk_28 (dk_at dksX5_always_2 6 rfl rfl)
theorem dX5_always_51 : decode cX5_always 51 = .ok (.ireturn, 1) := dk_172 (dk_at dksX5_always_2 7 rfl rfl)
theorem dX5_always_52 : decode cX5_always 52 = .ok (.iinc 2 1, 3) := dk_132 2 1 (dk_at dksX5_always_2 8 rfl rfl)
theorem dX5_always_55 : decode cX5_always 55 = .ok (.goto (-43), 3) := dk_167 255 213 (dk_at dksX5_always_2 11 rfl rfl)
theorem dX5_always_58 : decode cX5_always 58 = .ok (.bipush (-4), 2) := dk_16 252 (dk_at dksX5_always_2 14 rfl rfl)
theorem dX5_always_60 : decode cX5_always 60 = .ok (.ireturn, 1) := dk_172 (dk_at dksX5_always_2 16 rfl rfl)
abbrev cX5_pays_2 : ByteArray := prog_21_method_29_code
def yX5_pays_2 : MethodName := ⟨RX5, "pays", "(I)I"⟩
def dkwX5_pays_2_2 : List UInt8 := [18, 129, 172]
abbrev dktX5_pays_2_2 : List UInt8 := dkwX5_pays_2_2 ++ []
def dkwX5_pays_2_1 : List UInt8 := [180, 0, 31, 27, 46, 42, 180, 0, 7, 6, 46, 182, 0, 170, 42, 27, 182, 0, 174, 100, 167, 0, 5]
abbrev dktX5_pays_2_1 : List UInt8 := dkwX5_pays_2_1 ++ dktX5_pays_2_2
def dkwX5_pays_2_0 : List UInt8 := [42, 27, 182, 0, 123, 153, 0, 41, 42, 3, 42, 180, 0, 25, 27, 46, 42, 180, 0, 28, 27, 46, 42]
abbrev dktX5_pays_2_0 : List UInt8 := dkwX5_pays_2_0 ++ dktX5_pays_2_1
theorem dksX5_pays_2_0 : cX5_pays_2.data.toList.drop 0 = dktX5_pays_2_0 := by decide +kernel
theorem dksX5_pays_2_1 : cX5_pays_2.data.toList.drop 23 = dktX5_pays_2_1 := dk_seg dksX5_pays_2_0 23 rfl rfl
theorem dksX5_pays_2_2 : cX5_pays_2.data.toList.drop 46 = dktX5_pays_2_2 := dk_seg dksX5_pays_2_1 23 rfl rfl
theorem dX5_pays_2_0 : decode cX5_pays_2 0 = .ok (.aload_n 0, 1) := dk_42 (dk_at dksX5_pays_2_0 0 rfl rfl)
theorem dX5_pays_2_1 : decode cX5_pays_2 1 = .ok (.iload_n 1, 1) := dk_27 (dk_at dksX5_pays_2_0 1 rfl rfl)
theorem dX5_pays_2_2 : decode cX5_pays_2 2 = .ok (.invokevirtual 123, 3) := dk_182 0 123 (dk_at dksX5_pays_2_0 2 rfl rfl)
theorem dX5_pays_2_5 : decode cX5_pays_2 5 = .ok (.ifCond .eq 41, 3) := dk_153 0 41 (dk_at dksX5_pays_2_0 5 rfl rfl)
theorem dX5_pays_2_8 : decode cX5_pays_2 8 = .ok (.aload_n 0, 1) := dk_42 (dk_at dksX5_pays_2_0 8 rfl rfl)
theorem dX5_pays_2_9 : decode cX5_pays_2 9 = .ok (.iconst 0, 1) := dk_3 (dk_at dksX5_pays_2_0 9 rfl rfl)
theorem dX5_pays_2_10 : decode cX5_pays_2 10 = .ok (.aload_n 0, 1) := dk_42 (dk_at dksX5_pays_2_0 10 rfl rfl)
theorem dX5_pays_2_11 : decode cX5_pays_2 11 = .ok (.getfield 25, 3) := dk_180 0 25 (dk_at dksX5_pays_2_0 11 rfl rfl)
theorem dX5_pays_2_14 : decode cX5_pays_2 14 = .ok (.iload_n 1, 1) := dk_27 (dk_at dksX5_pays_2_0 14 rfl rfl)
theorem dX5_pays_2_15 : decode cX5_pays_2 15 = .ok (.iaload, 1) := dk_46 (dk_at dksX5_pays_2_0 15 rfl rfl)
theorem dX5_pays_2_16 : decode cX5_pays_2 16 = .ok (.aload_n 0, 1) := dk_42 (dk_at dksX5_pays_2_0 16 rfl rfl)
theorem dX5_pays_2_17 : decode cX5_pays_2 17 = .ok (.getfield 28, 3) := dk_180 0 28 (dk_at dksX5_pays_2_0 17 rfl rfl)
theorem dX5_pays_2_20 : decode cX5_pays_2 20 = .ok (.iload_n 1, 1) := dk_27 (dk_at dksX5_pays_2_0 20 rfl rfl)
theorem dX5_pays_2_21 : decode cX5_pays_2 21 = .ok (.iaload, 1) := dk_46 (dk_at dksX5_pays_2_0 21 rfl rfl)
theorem dX5_pays_2_22 : decode cX5_pays_2 22 = .ok (.aload_n 0, 1) := dk_42 (dk_at dksX5_pays_2_0 22 rfl rfl)
theorem dX5_pays_2_23 : decode cX5_pays_2 23 = .ok (.getfield 31, 3) := dk_180 0 31 (dk_at dksX5_pays_2_1 0 rfl rfl)
theorem dX5_pays_2_26 : decode cX5_pays_2 26 = .ok (.iload_n 1, 1) := dk_27 (dk_at dksX5_pays_2_1 3 rfl rfl)
theorem dX5_pays_2_27 : decode cX5_pays_2 27 = .ok (.iaload, 1) := dk_46 (dk_at dksX5_pays_2_1 4 rfl rfl)
theorem dX5_pays_2_28 : decode cX5_pays_2 28 = .ok (.aload_n 0, 1) := dk_42 (dk_at dksX5_pays_2_1 5 rfl rfl)
theorem dX5_pays_2_29 : decode cX5_pays_2 29 = .ok (.getfield 7, 3) := dk_180 0 7 (dk_at dksX5_pays_2_1 6 rfl rfl)
theorem dX5_pays_2_32 : decode cX5_pays_2 32 = .ok (.iconst 3, 1) := dk_6 (dk_at dksX5_pays_2_1 9 rfl rfl)
theorem dX5_pays_2_33 : decode cX5_pays_2 33 = .ok (.iaload, 1) := dk_46 (dk_at dksX5_pays_2_1 10 rfl rfl)
theorem dX5_pays_2_34 : decode cX5_pays_2 34 = .ok (.invokevirtual 170, 3) := dk_182 0 170 (dk_at dksX5_pays_2_1 11 rfl rfl)
theorem dX5_pays_2_37 : decode cX5_pays_2 37 = .ok (.aload_n 0, 1) := dk_42 (dk_at dksX5_pays_2_1 14 rfl rfl)
theorem dX5_pays_2_38 : decode cX5_pays_2 38 = .ok (.iload_n 1, 1) := dk_27 (dk_at dksX5_pays_2_1 15 rfl rfl)
theorem dX5_pays_2_39 : decode cX5_pays_2 39 = .ok (.invokevirtual 174, 3) := dk_182 0 174 (dk_at dksX5_pays_2_1 16 rfl rfl)
theorem dX5_pays_2_42 : decode cX5_pays_2 42 = .ok (.isub, 1) := dk_100 (dk_at dksX5_pays_2_1 19 rfl rfl)
theorem dX5_pays_2_43 : decode cX5_pays_2 43 = .ok (.goto 5, 3) := dk_167 0 5 (dk_at dksX5_pays_2_1 20 rfl rfl)
theorem dX5_pays_2_46 : decode cX5_pays_2 46 = .ok (.ldc 129, 2) := dk_18 129 (dk_at dksX5_pays_2_2 0 rfl rfl)
theorem dX5_pays_2_48 : decode cX5_pays_2 48 = .ok (.ireturn, 1) := dk_172 (dk_at dksX5_pays_2_2 2 rfl rfl)
abbrev cX5_bestKind : ByteArray := prog_21_method_30_code
def yX5_bestKind : MethodName := ⟨RX5, "bestKind", "(I)I"⟩
def dkwX5_bestKind_3 : List UInt8 := [21, 4, 61, 132, 4, 1, 167, 255, 197, 28, 172]
abbrev dktX5_bestKind_3 : List UInt8 := dkwX5_bestKind_3 ++ []
def dkwX5_bestKind_2 : List UInt8 := [180, 0, 7, 6, 46, 182, 0, 170, 54, 5, 21, 4, 153, 0, 9, 21, 5, 29, 162, 0, 9, 21, 5, 62]
abbrev dktX5_bestKind_2 : List UInt8 := dkwX5_bestKind_2 ++ dktX5_bestKind_3
def dkwX5_bestKind_1 : List UInt8 := [42, 21, 4, 42, 180, 0, 25, 27, 46, 42, 180, 0, 28, 27, 46, 42, 180, 0, 31, 27, 46, 42]
abbrev dktX5_bestKind_1 : List UInt8 := dkwX5_bestKind_1 ++ dktX5_bestKind_2
def dkwX5_bestKind_0 : List UInt8 := [42, 27, 182, 0, 123, 154, 0, 5, 2, 172, 3, 61, 3, 62, 3, 54, 4, 21, 4, 16, 8, 162, 0, 58]
abbrev dktX5_bestKind_0 : List UInt8 := dkwX5_bestKind_0 ++ dktX5_bestKind_1
theorem dksX5_bestKind_0 : cX5_bestKind.data.toList.drop 0 = dktX5_bestKind_0 := by decide +kernel
theorem dksX5_bestKind_1 : cX5_bestKind.data.toList.drop 24 = dktX5_bestKind_1 := dk_seg dksX5_bestKind_0 24 rfl rfl
theorem dksX5_bestKind_2 : cX5_bestKind.data.toList.drop 46 = dktX5_bestKind_2 := dk_seg dksX5_bestKind_1 22 rfl rfl
theorem dksX5_bestKind_3 : cX5_bestKind.data.toList.drop 70 = dktX5_bestKind_3 := dk_seg dksX5_bestKind_2 24 rfl rfl
theorem dX5_bestKind_0 : decode cX5_bestKind 0 = .ok (.aload_n 0, 1) := dk_42 (dk_at dksX5_bestKind_0 0 rfl rfl)
theorem dX5_bestKind_1 : decode cX5_bestKind 1 = .ok (.iload_n 1, 1) := dk_27 (dk_at dksX5_bestKind_0 1 rfl rfl)
theorem dX5_bestKind_2 : decode cX5_bestKind 2 = .ok (.invokevirtual 123, 3) := dk_182 0 123 (dk_at dksX5_bestKind_0 2 rfl rfl)
theorem dX5_bestKind_5 : decode cX5_bestKind 5 = .ok (.ifCond .ne 5, 3) := dk_154 0 5 (dk_at dksX5_bestKind_0 5 rfl rfl)
theorem dX5_bestKind_8 : decode cX5_bestKind 8 = .ok (.iconst (-1), 1) := dk_2 (dk_at dksX5_bestKind_0 8 rfl rfl)
theorem dX5_bestKind_9 : decode cX5_bestKind 9 = .ok (.ireturn, 1) := dk_172 (dk_at dksX5_bestKind_0 9 rfl rfl)
theorem dX5_bestKind_10 : decode cX5_bestKind 10 = .ok (.iconst 0, 1) := dk_3 (dk_at dksX5_bestKind_0 10 rfl rfl)
theorem dX5_bestKind_11 : decode cX5_bestKind 11 = .ok (.istore_n 2, 1) := dk_61 (dk_at dksX5_bestKind_0 11 rfl rfl)
theorem dX5_bestKind_12 : decode cX5_bestKind 12 = .ok (.iconst 0, 1) := dk_3 (dk_at dksX5_bestKind_0 12 rfl rfl)
theorem dX5_bestKind_13 : decode cX5_bestKind 13 = .ok (.istore_n 3, 1) := dk_62 (dk_at dksX5_bestKind_0 13 rfl rfl)
theorem dX5_bestKind_14 : decode cX5_bestKind 14 = .ok (.iconst 0, 1) := dk_3 (dk_at dksX5_bestKind_0 14 rfl rfl)
theorem dX5_bestKind_15 : decode cX5_bestKind 15 = .ok (.istore 4, 2) := dk_54 4 (dk_at dksX5_bestKind_0 15 rfl rfl)
theorem dX5_bestKind_17 : decode cX5_bestKind 17 = .ok (.iload 4, 2) := dk_21 4 (dk_at dksX5_bestKind_0 17 rfl rfl)
theorem dX5_bestKind_19 : decode cX5_bestKind 19 = .ok (.bipush 8, 2) := dk_16 8 (dk_at dksX5_bestKind_0 19 rfl rfl)
theorem dX5_bestKind_21 : decode cX5_bestKind 21 = .ok (.if_icmp .ge 58, 3) := dk_162 0 58 (dk_at dksX5_bestKind_0 21 rfl rfl)
theorem dX5_bestKind_24 : decode cX5_bestKind 24 = .ok (.aload_n 0, 1) := dk_42 (dk_at dksX5_bestKind_1 0 rfl rfl)
theorem dX5_bestKind_25 : decode cX5_bestKind 25 = .ok (.iload 4, 2) := dk_21 4 (dk_at dksX5_bestKind_1 1 rfl rfl)
theorem dX5_bestKind_27 : decode cX5_bestKind 27 = .ok (.aload_n 0, 1) := dk_42 (dk_at dksX5_bestKind_1 3 rfl rfl)
theorem dX5_bestKind_28 : decode cX5_bestKind 28 = .ok (.getfield 25, 3) := dk_180 0 25 (dk_at dksX5_bestKind_1 4 rfl rfl)
theorem dX5_bestKind_31 : decode cX5_bestKind 31 = .ok (.iload_n 1, 1) := dk_27 (dk_at dksX5_bestKind_1 7 rfl rfl)
theorem dX5_bestKind_32 : decode cX5_bestKind 32 = .ok (.iaload, 1) := dk_46 (dk_at dksX5_bestKind_1 8 rfl rfl)
theorem dX5_bestKind_33 : decode cX5_bestKind 33 = .ok (.aload_n 0, 1) := dk_42 (dk_at dksX5_bestKind_1 9 rfl rfl)
theorem dX5_bestKind_34 : decode cX5_bestKind 34 = .ok (.getfield 28, 3) := dk_180 0 28 (dk_at dksX5_bestKind_1 10 rfl rfl)
theorem dX5_bestKind_37 : decode cX5_bestKind 37 = .ok (.iload_n 1, 1) := dk_27 (dk_at dksX5_bestKind_1 13 rfl rfl)
theorem dX5_bestKind_38 : decode cX5_bestKind 38 = .ok (.iaload, 1) := dk_46 (dk_at dksX5_bestKind_1 14 rfl rfl)
theorem dX5_bestKind_39 : decode cX5_bestKind 39 = .ok (.aload_n 0, 1) := dk_42 (dk_at dksX5_bestKind_1 15 rfl rfl)
theorem dX5_bestKind_40 : decode cX5_bestKind 40 = .ok (.getfield 31, 3) := dk_180 0 31 (dk_at dksX5_bestKind_1 16 rfl rfl)
theorem dX5_bestKind_43 : decode cX5_bestKind 43 = .ok (.iload_n 1, 1) := dk_27 (dk_at dksX5_bestKind_1 19 rfl rfl)
theorem dX5_bestKind_44 : decode cX5_bestKind 44 = .ok (.iaload, 1) := dk_46 (dk_at dksX5_bestKind_1 20 rfl rfl)
theorem dX5_bestKind_45 : decode cX5_bestKind 45 = .ok (.aload_n 0, 1) := dk_42 (dk_at dksX5_bestKind_1 21 rfl rfl)
theorem dX5_bestKind_46 : decode cX5_bestKind 46 = .ok (.getfield 7, 3) := dk_180 0 7 (dk_at dksX5_bestKind_2 0 rfl rfl)
theorem dX5_bestKind_49 : decode cX5_bestKind 49 = .ok (.iconst 3, 1) := dk_6 (dk_at dksX5_bestKind_2 3 rfl rfl)
theorem dX5_bestKind_50 : decode cX5_bestKind 50 = .ok (.iaload, 1) := dk_46 (dk_at dksX5_bestKind_2 4 rfl rfl)
theorem dX5_bestKind_51 : decode cX5_bestKind 51 = .ok (.invokevirtual 170, 3) := dk_182 0 170 (dk_at dksX5_bestKind_2 5 rfl rfl)
theorem dX5_bestKind_54 : decode cX5_bestKind 54 = .ok (.istore 5, 2) := dk_54 5 (dk_at dksX5_bestKind_2 8 rfl rfl)
theorem dX5_bestKind_56 : decode cX5_bestKind 56 = .ok (.iload 4, 2) := dk_21 4 (dk_at dksX5_bestKind_2 10 rfl rfl)
theorem dX5_bestKind_58 : decode cX5_bestKind 58 = .ok (.ifCond .eq 9, 3) := dk_153 0 9 (dk_at dksX5_bestKind_2 12 rfl rfl)
theorem dX5_bestKind_61 : decode cX5_bestKind 61 = .ok (.iload 5, 2) := dk_21 5 (dk_at dksX5_bestKind_2 15 rfl rfl)
theorem dX5_bestKind_63 : decode cX5_bestKind 63 = .ok (.iload_n 3, 1) := dk_29 (dk_at dksX5_bestKind_2 17 rfl rfl)
theorem dX5_bestKind_64 : decode cX5_bestKind 64 = .ok (.if_icmp .ge 9, 3) := dk_162 0 9 (dk_at dksX5_bestKind_2 18 rfl rfl)
theorem dX5_bestKind_67 : decode cX5_bestKind 67 = .ok (.iload 5, 2) := dk_21 5 (dk_at dksX5_bestKind_2 21 rfl rfl)
theorem dX5_bestKind_69 : decode cX5_bestKind 69 = .ok (.istore_n 3, 1) := dk_62 (dk_at dksX5_bestKind_2 23 rfl rfl)
theorem dX5_bestKind_70 : decode cX5_bestKind 70 = .ok (.iload 4, 2) := dk_21 4 (dk_at dksX5_bestKind_3 0 rfl rfl)
theorem dX5_bestKind_72 : decode cX5_bestKind 72 = .ok (.istore_n 2, 1) := dk_61 (dk_at dksX5_bestKind_3 2 rfl rfl)
theorem dX5_bestKind_73 : decode cX5_bestKind 73 = .ok (.iinc 4 1, 3) := dk_132 4 1 (dk_at dksX5_bestKind_3 3 rfl rfl)
theorem dX5_bestKind_76 : decode cX5_bestKind 76 = .ok (.goto (-59), 3) := dk_167 255 197 (dk_at dksX5_bestKind_3 6 rfl rfl)
theorem dX5_bestKind_79 : decode cX5_bestKind 79 = .ok (.iload_n 2, 1) := dk_28 (dk_at dksX5_bestKind_3 9 rfl rfl)
theorem dX5_bestKind_80 : decode cX5_bestKind 80 = .ok (.ireturn, 1) := dk_172 (dk_at dksX5_bestKind_3 10 rfl rfl)
abbrev cX5_edge : ByteArray := prog_21_method_31_code
def yX5_edge : MethodName := ⟨RX5, "edge", "(II)I"⟩
def dkwX5_edge_3 : List UInt8 := [167, 255, 205, 16, 252, 172]
abbrev dktX5_edge_3 : List UInt8 := dkwX5_edge_3 ++ []
def dkwX5_edge_2 : List UInt8 := [182, 0, 170, 87, 42, 180, 0, 67, 28, 46, 42, 180, 0, 13, 28, 46, 163, 0, 5, 29, 172, 132, 3, 1]
abbrev dktX5_edge_2 : List UInt8 := dkwX5_edge_2 ++ dktX5_edge_3
def dkwX5_edge_1 : List UInt8 := [162, 0, 51, 42, 5, 29, 42, 180, 0, 28, 27, 46, 42, 180, 0, 31, 27, 46, 42, 180, 0, 7, 6, 46]
abbrev dktX5_edge_1 : List UInt8 := dkwX5_edge_1 ++ dktX5_edge_2
def dkwX5_edge_0 : List UInt8 := [42, 27, 182, 0, 123, 153, 0, 11, 42, 28, 182, 0, 120, 154, 0, 5, 2, 172, 3, 62, 29, 16, 10]
abbrev dktX5_edge_0 : List UInt8 := dkwX5_edge_0 ++ dktX5_edge_1
theorem dksX5_edge_0 : cX5_edge.data.toList.drop 0 = dktX5_edge_0 := by decide +kernel
theorem dksX5_edge_1 : cX5_edge.data.toList.drop 23 = dktX5_edge_1 := dk_seg dksX5_edge_0 23 rfl rfl
theorem dksX5_edge_2 : cX5_edge.data.toList.drop 47 = dktX5_edge_2 := dk_seg dksX5_edge_1 24 rfl rfl
theorem dksX5_edge_3 : cX5_edge.data.toList.drop 71 = dktX5_edge_3 := dk_seg dksX5_edge_2 24 rfl rfl
theorem dX5_edge_0 : decode cX5_edge 0 = .ok (.aload_n 0, 1) := dk_42 (dk_at dksX5_edge_0 0 rfl rfl)
theorem dX5_edge_1 : decode cX5_edge 1 = .ok (.iload_n 1, 1) := dk_27 (dk_at dksX5_edge_0 1 rfl rfl)
theorem dX5_edge_2 : decode cX5_edge 2 = .ok (.invokevirtual 123, 3) := dk_182 0 123 (dk_at dksX5_edge_0 2 rfl rfl)
theorem dX5_edge_5 : decode cX5_edge 5 = .ok (.ifCond .eq 11, 3) := dk_153 0 11 (dk_at dksX5_edge_0 5 rfl rfl)
theorem dX5_edge_8 : decode cX5_edge 8 = .ok (.aload_n 0, 1) := dk_42 (dk_at dksX5_edge_0 8 rfl rfl)
theorem dX5_edge_9 : decode cX5_edge 9 = .ok (.iload_n 2, 1) := dk_28 (dk_at dksX5_edge_0 9 rfl rfl)
theorem dX5_edge_10 : decode cX5_edge 10 = .ok (.invokevirtual 120, 3) := dk_182 0 120 (dk_at dksX5_edge_0 10 rfl rfl)
theorem dX5_edge_13 : decode cX5_edge 13 = .ok (.ifCond .ne 5, 3) := dk_154 0 5 (dk_at dksX5_edge_0 13 rfl rfl)
theorem dX5_edge_16 : decode cX5_edge 16 = .ok (.iconst (-1), 1) := dk_2 (dk_at dksX5_edge_0 16 rfl rfl)
theorem dX5_edge_17 : decode cX5_edge 17 = .ok (.ireturn, 1) := dk_172 (dk_at dksX5_edge_0 17 rfl rfl)
theorem dX5_edge_18 : decode cX5_edge 18 = .ok (.iconst 0, 1) := dk_3 (dk_at dksX5_edge_0 18 rfl rfl)
theorem dX5_edge_19 : decode cX5_edge 19 = .ok (.istore_n 3, 1) := dk_62 (dk_at dksX5_edge_0 19 rfl rfl)
theorem dX5_edge_20 : decode cX5_edge 20 = .ok (.iload_n 3, 1) := dk_29 (dk_at dksX5_edge_0 20 rfl rfl)
theorem dX5_edge_21 : decode cX5_edge 21 = .ok (.bipush 10, 2) := dk_16 10 (dk_at dksX5_edge_0 21 rfl rfl)
theorem dX5_edge_23 : decode cX5_edge 23 = .ok (.if_icmp .ge 51, 3) := dk_162 0 51 (dk_at dksX5_edge_1 0 rfl rfl)
theorem dX5_edge_26 : decode cX5_edge 26 = .ok (.aload_n 0, 1) := dk_42 (dk_at dksX5_edge_1 3 rfl rfl)
theorem dX5_edge_27 : decode cX5_edge 27 = .ok (.iconst 2, 1) := dk_5 (dk_at dksX5_edge_1 4 rfl rfl)
theorem dX5_edge_28 : decode cX5_edge 28 = .ok (.iload_n 3, 1) := dk_29 (dk_at dksX5_edge_1 5 rfl rfl)
theorem dX5_edge_29 : decode cX5_edge 29 = .ok (.aload_n 0, 1) := dk_42 (dk_at dksX5_edge_1 6 rfl rfl)
theorem dX5_edge_30 : decode cX5_edge 30 = .ok (.getfield 28, 3) := dk_180 0 28 (dk_at dksX5_edge_1 7 rfl rfl)
theorem dX5_edge_33 : decode cX5_edge 33 = .ok (.iload_n 1, 1) := dk_27 (dk_at dksX5_edge_1 10 rfl rfl)
theorem dX5_edge_34 : decode cX5_edge 34 = .ok (.iaload, 1) := dk_46 (dk_at dksX5_edge_1 11 rfl rfl)
theorem dX5_edge_35 : decode cX5_edge 35 = .ok (.aload_n 0, 1) := dk_42 (dk_at dksX5_edge_1 12 rfl rfl)
theorem dX5_edge_36 : decode cX5_edge 36 = .ok (.getfield 31, 3) := dk_180 0 31 (dk_at dksX5_edge_1 13 rfl rfl)
theorem dX5_edge_39 : decode cX5_edge 39 = .ok (.iload_n 1, 1) := dk_27 (dk_at dksX5_edge_1 16 rfl rfl)
theorem dX5_edge_40 : decode cX5_edge 40 = .ok (.iaload, 1) := dk_46 (dk_at dksX5_edge_1 17 rfl rfl)
theorem dX5_edge_41 : decode cX5_edge 41 = .ok (.aload_n 0, 1) := dk_42 (dk_at dksX5_edge_1 18 rfl rfl)
theorem dX5_edge_42 : decode cX5_edge 42 = .ok (.getfield 7, 3) := dk_180 0 7 (dk_at dksX5_edge_1 19 rfl rfl)
theorem dX5_edge_45 : decode cX5_edge 45 = .ok (.iconst 3, 1) := dk_6 (dk_at dksX5_edge_1 22 rfl rfl)
theorem dX5_edge_46 : decode cX5_edge 46 = .ok (.iaload, 1) := dk_46 (dk_at dksX5_edge_1 23 rfl rfl)
theorem dX5_edge_47 : decode cX5_edge 47 = .ok (.invokevirtual 170, 3) := dk_182 0 170 (dk_at dksX5_edge_2 0 rfl rfl)
theorem dX5_edge_50 : decode cX5_edge 50 = .ok (.pop, 1) := dk_87 (dk_at dksX5_edge_2 3 rfl rfl)
theorem dX5_edge_51 : decode cX5_edge 51 = .ok (.aload_n 0, 1) := dk_42 (dk_at dksX5_edge_2 4 rfl rfl)
theorem dX5_edge_52 : decode cX5_edge 52 = .ok (.getfield 67, 3) := dk_180 0 67 (dk_at dksX5_edge_2 5 rfl rfl)
theorem dX5_edge_55 : decode cX5_edge 55 = .ok (.iload_n 2, 1) := dk_28 (dk_at dksX5_edge_2 8 rfl rfl)
theorem dX5_edge_56 : decode cX5_edge 56 = .ok (.iaload, 1) := dk_46 (dk_at dksX5_edge_2 9 rfl rfl)
theorem dX5_edge_57 : decode cX5_edge 57 = .ok (.aload_n 0, 1) := dk_42 (dk_at dksX5_edge_2 10 rfl rfl)
theorem dX5_edge_58 : decode cX5_edge 58 = .ok (.getfield 13, 3) := dk_180 0 13 (dk_at dksX5_edge_2 11 rfl rfl)
theorem dX5_edge_61 : decode cX5_edge 61 = .ok (.iload_n 2, 1) := dk_28 (dk_at dksX5_edge_2 14 rfl rfl)
theorem dX5_edge_62 : decode cX5_edge 62 = .ok (.iaload, 1) := dk_46 (dk_at dksX5_edge_2 15 rfl rfl)
theorem dX5_edge_63 : decode cX5_edge 63 = .ok (.if_icmp .gt 5, 3) := dk_163 0 5 (dk_at dksX5_edge_2 16 rfl rfl)
theorem dX5_edge_66 : decode cX5_edge 66 = .ok (.iload_n 3, 1) := dk_29 (dk_at dksX5_edge_2 19 rfl rfl)
theorem dX5_edge_67 : decode cX5_edge 67 = .ok (.ireturn, 1) := dk_172 (dk_at dksX5_edge_2 20 rfl rfl)
theorem dX5_edge_68 : decode cX5_edge 68 = .ok (.iinc 3 1, 3) := dk_132 3 1 (dk_at dksX5_edge_2 21 rfl rfl)
theorem dX5_edge_71 : decode cX5_edge 71 = .ok (.goto (-51), 3) := dk_167 255 205 (dk_at dksX5_edge_3 0 rfl rfl)
theorem dX5_edge_74 : decode cX5_edge 74 = .ok (.bipush (-4), 2) := dk_16 252 (dk_at dksX5_edge_3 3 rfl rfl)
theorem dX5_edge_76 : decode cX5_edge 76 = .ok (.ireturn, 1) := dk_172 (dk_at dksX5_edge_3 5 rfl rfl)
abbrev cX5_waits : ByteArray := prog_21_method_32_code
def yX5_waits : MethodName := ⟨RX5, "waits", "(II)I"⟩
def dkwX5_waits_2 : List UInt8 := [132, 3, 1, 167, 255, 228, 16, 252, 172]
abbrev dktX5_waits_2 : List UInt8 := dkwX5_waits_2 ++ []
def dkwX5_waits_1 : List UInt8 := [17, 2, 207, 163, 0, 27, 42, 180, 0, 7, 6, 46, 29, 184, 0, 116, 28, 163, 0, 7, 29, 27, 100, 172]
abbrev dktX5_waits_1 : List UInt8 := dkwX5_waits_1 ++ dktX5_waits_2
def dkwX5_waits_0 : List UInt8 := [27, 184, 0, 112, 153, 0, 13, 28, 3, 16, 20, 184, 0, 100, 154, 0, 5, 2, 172, 27, 62, 29]
abbrev dktX5_waits_0 : List UInt8 := dkwX5_waits_0 ++ dktX5_waits_1
theorem dksX5_waits_0 : cX5_waits.data.toList.drop 0 = dktX5_waits_0 := by decide +kernel
theorem dksX5_waits_1 : cX5_waits.data.toList.drop 22 = dktX5_waits_1 := dk_seg dksX5_waits_0 22 rfl rfl
theorem dksX5_waits_2 : cX5_waits.data.toList.drop 46 = dktX5_waits_2 := dk_seg dksX5_waits_1 24 rfl rfl
theorem dX5_waits_0 : decode cX5_waits 0 = .ok (.iload_n 1, 1) := dk_27 (dk_at dksX5_waits_0 0 rfl rfl)
theorem dX5_waits_1 : decode cX5_waits 1 = .ok (.invokestatic 112, 3) := dk_184 0 112 (dk_at dksX5_waits_0 1 rfl rfl)
theorem dX5_waits_4 : decode cX5_waits 4 = .ok (.ifCond .eq 13, 3) := dk_153 0 13 (dk_at dksX5_waits_0 4 rfl rfl)
theorem dX5_waits_7 : decode cX5_waits 7 = .ok (.iload_n 2, 1) := dk_28 (dk_at dksX5_waits_0 7 rfl rfl)
theorem dX5_waits_8 : decode cX5_waits 8 = .ok (.iconst 0, 1) := dk_3 (dk_at dksX5_waits_0 8 rfl rfl)
theorem dX5_waits_9 : decode cX5_waits 9 = .ok (.bipush 20, 2) := dk_16 20 (dk_at dksX5_waits_0 9 rfl rfl)
theorem dX5_waits_11 : decode cX5_waits 11 = .ok (.invokestatic 100, 3) := dk_184 0 100 (dk_at dksX5_waits_0 11 rfl rfl)
theorem dX5_waits_14 : decode cX5_waits 14 = .ok (.ifCond .ne 5, 3) := dk_154 0 5 (dk_at dksX5_waits_0 14 rfl rfl)
theorem dX5_waits_17 : decode cX5_waits 17 = .ok (.iconst (-1), 1) := dk_2 (dk_at dksX5_waits_0 17 rfl rfl)
theorem dX5_waits_18 : decode cX5_waits 18 = .ok (.ireturn, 1) := dk_172 (dk_at dksX5_waits_0 18 rfl rfl)
theorem dX5_waits_19 : decode cX5_waits 19 = .ok (.iload_n 1, 1) := dk_27 (dk_at dksX5_waits_0 19 rfl rfl)
theorem dX5_waits_20 : decode cX5_waits 20 = .ok (.istore_n 3, 1) := dk_62 (dk_at dksX5_waits_0 20 rfl rfl)
theorem dX5_waits_21 : decode cX5_waits 21 = .ok (.iload_n 3, 1) := dk_29 (dk_at dksX5_waits_0 21 rfl rfl)
theorem dX5_waits_22 : decode cX5_waits 22 = .ok (.sipush 719, 3) := dk_17 2 207 (dk_at dksX5_waits_1 0 rfl rfl)
theorem dX5_waits_25 : decode cX5_waits 25 = .ok (.if_icmp .gt 27, 3) := dk_163 0 27 (dk_at dksX5_waits_1 3 rfl rfl)
theorem dX5_waits_28 : decode cX5_waits 28 = .ok (.aload_n 0, 1) := dk_42 (dk_at dksX5_waits_1 6 rfl rfl)
theorem dX5_waits_29 : decode cX5_waits 29 = .ok (.getfield 7, 3) := dk_180 0 7 (dk_at dksX5_waits_1 7 rfl rfl)
theorem dX5_waits_32 : decode cX5_waits 32 = .ok (.iconst 3, 1) := dk_6 (dk_at dksX5_waits_1 10 rfl rfl)
theorem dX5_waits_33 : decode cX5_waits 33 = .ok (.iaload, 1) := dk_46 (dk_at dksX5_waits_1 11 rfl rfl)
theorem dX5_waits_34 : decode cX5_waits 34 = .ok (.iload_n 3, 1) := dk_29 (dk_at dksX5_waits_1 12 rfl rfl)
theorem dX5_waits_35 : decode cX5_waits 35 = .ok (.invokestatic 116, 3) := dk_184 0 116 (dk_at dksX5_waits_1 13 rfl rfl)
theorem dX5_waits_38 : decode cX5_waits 38 = .ok (.iload_n 2, 1) := dk_28 (dk_at dksX5_waits_1 16 rfl rfl)
theorem dX5_waits_39 : decode cX5_waits 39 = .ok (.if_icmp .gt 7, 3) := dk_163 0 7 (dk_at dksX5_waits_1 17 rfl rfl)
theorem dX5_waits_42 : decode cX5_waits 42 = .ok (.iload_n 3, 1) := dk_29 (dk_at dksX5_waits_1 20 rfl rfl)
theorem dX5_waits_43 : decode cX5_waits 43 = .ok (.iload_n 1, 1) := dk_27 (dk_at dksX5_waits_1 21 rfl rfl)
theorem dX5_waits_44 : decode cX5_waits 44 = .ok (.isub, 1) := dk_100 (dk_at dksX5_waits_1 22 rfl rfl)
theorem dX5_waits_45 : decode cX5_waits 45 = .ok (.ireturn, 1) := dk_172 (dk_at dksX5_waits_1 23 rfl rfl)
theorem dX5_waits_46 : decode cX5_waits 46 = .ok (.iinc 3 1, 3) := dk_132 3 1 (dk_at dksX5_waits_2 0 rfl rfl)
theorem dX5_waits_49 : decode cX5_waits 49 = .ok (.goto (-28), 3) := dk_167 255 228 (dk_at dksX5_waits_2 3 rfl rfl)
theorem dX5_waits_52 : decode cX5_waits 52 = .ok (.bipush (-4), 2) := dk_16 252 (dk_at dksX5_waits_2 6 rfl rfl)
theorem dX5_waits_54 : decode cX5_waits 54 = .ok (.ireturn, 1) := dk_172 (dk_at dksX5_waits_2 8 rfl rfl)
abbrev cX5_learn : ByteArray := prog_21_method_33_code
def yX5_learn : MethodName := ⟨RX5, "learn", "(II)I"⟩
def dkwX5_learn_14 : List UInt8 := [28, 4, 160, 0, 8, 21, 5, 167, 0, 5, 21, 6, 96, 172]
abbrev dktX5_learn_14 : List UInt8 := dkwX5_learn_14 ++ []
def dkwX5_learn_13 : List UInt8 := [167, 255, 139, 28, 154, 0, 8, 21, 4, 167, 0, 28, 21, 4, 154, 0, 8, 16, 252, 167, 0, 18, 16, 20]
abbrev dktX5_learn_13 : List UInt8 := dkwX5_learn_13 ++ dktX5_learn_14
def dkwX5_learn_12 : List UInt8 := [21, 4, 154, 0, 8, 21, 7, 167, 0, 5, 21, 5, 54, 5, 21, 7, 54, 6, 132, 4, 1, 132, 7, 1]
abbrev dktX5_learn_12 : List UInt8 := dkwX5_learn_12 ++ dktX5_learn_13
def dkwX5_learn_11 : List UInt8 := [5, 96, 46, 160, 0, 7, 4, 167, 0, 4, 3, 54, 8, 132, 9, 1, 167, 255, 184, 21, 8, 153, 0, 24]
abbrev dktX5_learn_11 : List UInt8 := dkwX5_learn_11 ++ dktX5_learn_12
def dkwX5_learn_10 : List UInt8 := [180, 0, 85, 21, 10, 46, 42, 180, 0, 85, 21, 10, 4, 96, 46, 184, 0, 130, 42, 180, 0, 85, 21, 10]
abbrev dktX5_learn_10 : List UInt8 := dkwX5_learn_10 ++ dktX5_learn_11
def dkwX5_learn_9 : List UInt8 := [162, 0, 65, 16, 100, 27, 104, 6, 21, 9, 104, 96, 54, 10, 21, 8, 153, 0, 40, 21, 7, 42]
abbrev dktX5_learn_9 : List UInt8 := dkwX5_learn_9 ++ dktX5_learn_10
def dkwX5_learn_8 : List UInt8 := [21, 7, 16, 20, 163, 0, 116, 4, 54, 8, 3, 54, 9, 21, 9, 42, 180, 0, 82, 27, 46, 6, 108]
abbrev dktX5_learn_8 : List UInt8 := dkwX5_learn_8 ++ dktX5_learn_9
def dkwX5_learn_7 : List UInt8 := [167, 255, 172, 29, 154, 0, 6, 16, 243, 172, 3, 54, 4, 3, 54, 5, 3, 54, 6, 16, 236, 54, 7]
abbrev dktX5_learn_7 : List UInt8 := dkwX5_learn_7 ++ dktX5_learn_8
def dkwX5_learn_6 : List UInt8 := [46, 42, 180, 0, 85, 21, 5, 4, 96, 46, 162, 0, 7, 4, 167, 0, 4, 3, 62, 132, 4, 1]
abbrev dktX5_learn_6 : List UInt8 := dkwX5_learn_6 ++ dktX5_learn_7
def dkwX5_learn_5 : List UInt8 := [153, 0, 41, 42, 180, 0, 85, 21, 5, 4, 96, 46, 184, 0, 112, 153, 0, 26, 42, 180, 0, 85, 21, 5]
abbrev dktX5_learn_5 : List UInt8 := dkwX5_learn_5 ++ dktX5_learn_6
def dkwX5_learn_4 : List UInt8 := [153, 0, 73, 16, 100, 27, 104, 6, 21, 4, 104, 96, 54, 5, 42, 180, 0, 85, 21, 5, 46, 184, 0, 112]
abbrev dktX5_learn_4 : List UInt8 := dkwX5_learn_4 ++ dktX5_learn_5
def dkwX5_learn_3 : List UInt8 := [167, 0, 4, 3, 62, 3, 54, 4, 21, 4, 42, 180, 0, 82, 27, 46, 6, 108, 162, 0, 77, 29]
abbrev dktX5_learn_3 : List UInt8 := dkwX5_learn_3 ++ dktX5_learn_4
def dkwX5_learn_2 : List UInt8 := [180, 0, 79, 27, 46, 5, 159, 0, 6, 16, 244, 172, 42, 180, 0, 82, 27, 46, 6, 112, 154, 0, 7, 4]
abbrev dktX5_learn_2 : List UInt8 := dkwX5_learn_2 ++ dktX5_learn_3
def dkwX5_learn_1 : List UInt8 := [180, 0, 76, 27, 46, 154, 0, 6, 16, 245, 172, 42, 180, 0, 76, 27, 46, 4, 159, 0, 13, 42]
abbrev dktX5_learn_1 : List UInt8 := dkwX5_learn_1 ++ dktX5_learn_2
def dkwX5_learn_0 : List UInt8 := [27, 3, 16, 7, 184, 0, 100, 153, 0, 12, 28, 3, 5, 184, 0, 100, 154, 0, 5, 2, 172, 42]
abbrev dktX5_learn_0 : List UInt8 := dkwX5_learn_0 ++ dktX5_learn_1
theorem dksX5_learn_0 : cX5_learn.data.toList.drop 0 = dktX5_learn_0 := by decide +kernel
theorem dksX5_learn_1 : cX5_learn.data.toList.drop 22 = dktX5_learn_1 := dk_seg dksX5_learn_0 22 rfl rfl
theorem dksX5_learn_2 : cX5_learn.data.toList.drop 44 = dktX5_learn_2 := dk_seg dksX5_learn_1 22 rfl rfl
theorem dksX5_learn_3 : cX5_learn.data.toList.drop 68 = dktX5_learn_3 := dk_seg dksX5_learn_2 24 rfl rfl
theorem dksX5_learn_4 : cX5_learn.data.toList.drop 90 = dktX5_learn_4 := dk_seg dksX5_learn_3 22 rfl rfl
theorem dksX5_learn_5 : cX5_learn.data.toList.drop 114 = dktX5_learn_5 := dk_seg dksX5_learn_4 24 rfl rfl
theorem dksX5_learn_6 : cX5_learn.data.toList.drop 138 = dktX5_learn_6 := dk_seg dksX5_learn_5 24 rfl rfl
theorem dksX5_learn_7 : cX5_learn.data.toList.drop 160 = dktX5_learn_7 := dk_seg dksX5_learn_6 22 rfl rfl
theorem dksX5_learn_8 : cX5_learn.data.toList.drop 183 = dktX5_learn_8 := dk_seg dksX5_learn_7 23 rfl rfl
theorem dksX5_learn_9 : cX5_learn.data.toList.drop 206 = dktX5_learn_9 := dk_seg dksX5_learn_8 23 rfl rfl
theorem dksX5_learn_10 : cX5_learn.data.toList.drop 228 = dktX5_learn_10 := dk_seg dksX5_learn_9 22 rfl rfl
theorem dksX5_learn_11 : cX5_learn.data.toList.drop 252 = dktX5_learn_11 := dk_seg dksX5_learn_10 24 rfl rfl
theorem dksX5_learn_12 : cX5_learn.data.toList.drop 276 = dktX5_learn_12 := dk_seg dksX5_learn_11 24 rfl rfl
theorem dksX5_learn_13 : cX5_learn.data.toList.drop 300 = dktX5_learn_13 := dk_seg dksX5_learn_12 24 rfl rfl
theorem dksX5_learn_14 : cX5_learn.data.toList.drop 324 = dktX5_learn_14 := dk_seg dksX5_learn_13 24 rfl rfl
theorem dX5_learn_0 : decode cX5_learn 0 = .ok (.iload_n 1, 1) := dk_27 (dk_at dksX5_learn_0 0 rfl rfl)
theorem dX5_learn_1 : decode cX5_learn 1 = .ok (.iconst 0, 1) := dk_3 (dk_at dksX5_learn_0 1 rfl rfl)
theorem dX5_learn_2 : decode cX5_learn 2 = .ok (.bipush 7, 2) := dk_16 7 (dk_at dksX5_learn_0 2 rfl rfl)
theorem dX5_learn_4 : decode cX5_learn 4 = .ok (.invokestatic 100, 3) := dk_184 0 100 (dk_at dksX5_learn_0 4 rfl rfl)
theorem dX5_learn_7 : decode cX5_learn 7 = .ok (.ifCond .eq 12, 3) := dk_153 0 12 (dk_at dksX5_learn_0 7 rfl rfl)
theorem dX5_learn_10 : decode cX5_learn 10 = .ok (.iload_n 2, 1) := dk_28 (dk_at dksX5_learn_0 10 rfl rfl)
theorem dX5_learn_11 : decode cX5_learn 11 = .ok (.iconst 0, 1) := dk_3 (dk_at dksX5_learn_0 11 rfl rfl)
theorem dX5_learn_12 : decode cX5_learn 12 = .ok (.iconst 2, 1) := dk_5 (dk_at dksX5_learn_0 12 rfl rfl)
theorem dX5_learn_13 : decode cX5_learn 13 = .ok (.invokestatic 100, 3) := dk_184 0 100 (dk_at dksX5_learn_0 13 rfl rfl)
theorem dX5_learn_16 : decode cX5_learn 16 = .ok (.ifCond .ne 5, 3) := dk_154 0 5 (dk_at dksX5_learn_0 16 rfl rfl)
theorem dX5_learn_19 : decode cX5_learn 19 = .ok (.iconst (-1), 1) := dk_2 (dk_at dksX5_learn_0 19 rfl rfl)
theorem dX5_learn_20 : decode cX5_learn 20 = .ok (.ireturn, 1) := dk_172 (dk_at dksX5_learn_0 20 rfl rfl)
theorem dX5_learn_21 : decode cX5_learn 21 = .ok (.aload_n 0, 1) := dk_42 (dk_at dksX5_learn_0 21 rfl rfl)
theorem dX5_learn_22 : decode cX5_learn 22 = .ok (.getfield 76, 3) := dk_180 0 76 (dk_at dksX5_learn_1 0 rfl rfl)
theorem dX5_learn_25 : decode cX5_learn 25 = .ok (.iload_n 1, 1) := dk_27 (dk_at dksX5_learn_1 3 rfl rfl)
theorem dX5_learn_26 : decode cX5_learn 26 = .ok (.iaload, 1) := dk_46 (dk_at dksX5_learn_1 4 rfl rfl)
theorem dX5_learn_27 : decode cX5_learn 27 = .ok (.ifCond .ne 6, 3) := dk_154 0 6 (dk_at dksX5_learn_1 5 rfl rfl)
theorem dX5_learn_30 : decode cX5_learn 30 = .ok (.bipush (-11), 2) := dk_16 245 (dk_at dksX5_learn_1 8 rfl rfl)
theorem dX5_learn_32 : decode cX5_learn 32 = .ok (.ireturn, 1) := dk_172 (dk_at dksX5_learn_1 10 rfl rfl)
theorem dX5_learn_33 : decode cX5_learn 33 = .ok (.aload_n 0, 1) := dk_42 (dk_at dksX5_learn_1 11 rfl rfl)
theorem dX5_learn_34 : decode cX5_learn 34 = .ok (.getfield 76, 3) := dk_180 0 76 (dk_at dksX5_learn_1 12 rfl rfl)
theorem dX5_learn_37 : decode cX5_learn 37 = .ok (.iload_n 1, 1) := dk_27 (dk_at dksX5_learn_1 15 rfl rfl)
theorem dX5_learn_38 : decode cX5_learn 38 = .ok (.iaload, 1) := dk_46 (dk_at dksX5_learn_1 16 rfl rfl)
theorem dX5_learn_39 : decode cX5_learn 39 = .ok (.iconst 1, 1) := dk_4 (dk_at dksX5_learn_1 17 rfl rfl)
theorem dX5_learn_40 : decode cX5_learn 40 = .ok (.if_icmp .eq 13, 3) := dk_159 0 13 (dk_at dksX5_learn_1 18 rfl rfl)
theorem dX5_learn_43 : decode cX5_learn 43 = .ok (.aload_n 0, 1) := dk_42 (dk_at dksX5_learn_1 21 rfl rfl)
theorem dX5_learn_44 : decode cX5_learn 44 = .ok (.getfield 79, 3) := dk_180 0 79 (dk_at dksX5_learn_2 0 rfl rfl)
theorem dX5_learn_47 : decode cX5_learn 47 = .ok (.iload_n 1, 1) := dk_27 (dk_at dksX5_learn_2 3 rfl rfl)
theorem dX5_learn_48 : decode cX5_learn 48 = .ok (.iaload, 1) := dk_46 (dk_at dksX5_learn_2 4 rfl rfl)
theorem dX5_learn_49 : decode cX5_learn 49 = .ok (.iconst 2, 1) := dk_5 (dk_at dksX5_learn_2 5 rfl rfl)
theorem dX5_learn_50 : decode cX5_learn 50 = .ok (.if_icmp .eq 6, 3) := dk_159 0 6 (dk_at dksX5_learn_2 6 rfl rfl)
theorem dX5_learn_53 : decode cX5_learn 53 = .ok (.bipush (-12), 2) := dk_16 244 (dk_at dksX5_learn_2 9 rfl rfl)
theorem dX5_learn_55 : decode cX5_learn 55 = .ok (.ireturn, 1) := dk_172 (dk_at dksX5_learn_2 11 rfl rfl)
theorem dX5_learn_56 : decode cX5_learn 56 = .ok (.aload_n 0, 1) := dk_42 (dk_at dksX5_learn_2 12 rfl rfl)
theorem dX5_learn_57 : decode cX5_learn 57 = .ok (.getfield 82, 3) := dk_180 0 82 (dk_at dksX5_learn_2 13 rfl rfl)
theorem dX5_learn_60 : decode cX5_learn 60 = .ok (.iload_n 1, 1) := dk_27 (dk_at dksX5_learn_2 16 rfl rfl)
theorem dX5_learn_61 : decode cX5_learn 61 = .ok (.iaload, 1) := dk_46 (dk_at dksX5_learn_2 17 rfl rfl)
theorem dX5_learn_62 : decode cX5_learn 62 = .ok (.iconst 3, 1) := dk_6 (dk_at dksX5_learn_2 18 rfl rfl)
theorem dX5_learn_63 : decode cX5_learn 63 = .ok (.irem, 1) := dk_112 (dk_at dksX5_learn_2 19 rfl rfl)
theorem dX5_learn_64 : decode cX5_learn 64 = .ok (.ifCond .ne 7, 3) := dk_154 0 7 (dk_at dksX5_learn_2 20 rfl rfl)
theorem dX5_learn_67 : decode cX5_learn 67 = .ok (.iconst 1, 1) := dk_4 (dk_at dksX5_learn_2 23 rfl rfl)
theorem dX5_learn_68 : decode cX5_learn 68 = .ok (.goto 4, 3) := dk_167 0 4 (dk_at dksX5_learn_3 0 rfl rfl)
theorem dX5_learn_71 : decode cX5_learn 71 = .ok (.iconst 0, 1) := dk_3 (dk_at dksX5_learn_3 3 rfl rfl)
theorem dX5_learn_72 : decode cX5_learn 72 = .ok (.istore_n 3, 1) := dk_62 (dk_at dksX5_learn_3 4 rfl rfl)
theorem dX5_learn_73 : decode cX5_learn 73 = .ok (.iconst 0, 1) := dk_3 (dk_at dksX5_learn_3 5 rfl rfl)
theorem dX5_learn_74 : decode cX5_learn 74 = .ok (.istore 4, 2) := dk_54 4 (dk_at dksX5_learn_3 6 rfl rfl)
theorem dX5_learn_76 : decode cX5_learn 76 = .ok (.iload 4, 2) := dk_21 4 (dk_at dksX5_learn_3 8 rfl rfl)
theorem dX5_learn_78 : decode cX5_learn 78 = .ok (.aload_n 0, 1) := dk_42 (dk_at dksX5_learn_3 10 rfl rfl)
theorem dX5_learn_79 : decode cX5_learn 79 = .ok (.getfield 82, 3) := dk_180 0 82 (dk_at dksX5_learn_3 11 rfl rfl)
theorem dX5_learn_82 : decode cX5_learn 82 = .ok (.iload_n 1, 1) := dk_27 (dk_at dksX5_learn_3 14 rfl rfl)
theorem dX5_learn_83 : decode cX5_learn 83 = .ok (.iaload, 1) := dk_46 (dk_at dksX5_learn_3 15 rfl rfl)
theorem dX5_learn_84 : decode cX5_learn 84 = .ok (.iconst 3, 1) := dk_6 (dk_at dksX5_learn_3 16 rfl rfl)
theorem dX5_learn_85 : decode cX5_learn 85 = .ok (.idiv, 1) := dk_108 (dk_at dksX5_learn_3 17 rfl rfl)
theorem dX5_learn_86 : decode cX5_learn 86 = .ok (.if_icmp .ge 77, 3) := dk_162 0 77 (dk_at dksX5_learn_3 18 rfl rfl)
theorem dX5_learn_89 : decode cX5_learn 89 = .ok (.iload_n 3, 1) := dk_29 (dk_at dksX5_learn_3 21 rfl rfl)
theorem dX5_learn_90 : decode cX5_learn 90 = .ok (.ifCond .eq 73, 3) := dk_153 0 73 (dk_at dksX5_learn_4 0 rfl rfl)
theorem dX5_learn_93 : decode cX5_learn 93 = .ok (.bipush 100, 2) := dk_16 100 (dk_at dksX5_learn_4 3 rfl rfl)
theorem dX5_learn_95 : decode cX5_learn 95 = .ok (.iload_n 1, 1) := dk_27 (dk_at dksX5_learn_4 5 rfl rfl)
theorem dX5_learn_96 : decode cX5_learn 96 = .ok (.imul, 1) := dk_104 (dk_at dksX5_learn_4 6 rfl rfl)
theorem dX5_learn_97 : decode cX5_learn 97 = .ok (.iconst 3, 1) := dk_6 (dk_at dksX5_learn_4 7 rfl rfl)
theorem dX5_learn_98 : decode cX5_learn 98 = .ok (.iload 4, 2) := dk_21 4 (dk_at dksX5_learn_4 8 rfl rfl)
theorem dX5_learn_100 : decode cX5_learn 100 = .ok (.imul, 1) := dk_104 (dk_at dksX5_learn_4 10 rfl rfl)
theorem dX5_learn_101 : decode cX5_learn 101 = .ok (.iadd, 1) := dk_96 (dk_at dksX5_learn_4 11 rfl rfl)
theorem dX5_learn_102 : decode cX5_learn 102 = .ok (.istore 5, 2) := dk_54 5 (dk_at dksX5_learn_4 12 rfl rfl)
theorem dX5_learn_104 : decode cX5_learn 104 = .ok (.aload_n 0, 1) := dk_42 (dk_at dksX5_learn_4 14 rfl rfl)
theorem dX5_learn_105 : decode cX5_learn 105 = .ok (.getfield 85, 3) := dk_180 0 85 (dk_at dksX5_learn_4 15 rfl rfl)
theorem dX5_learn_108 : decode cX5_learn 108 = .ok (.iload 5, 2) := dk_21 5 (dk_at dksX5_learn_4 18 rfl rfl)
theorem dX5_learn_110 : decode cX5_learn 110 = .ok (.iaload, 1) := dk_46 (dk_at dksX5_learn_4 20 rfl rfl)
theorem dX5_learn_111 : decode cX5_learn 111 = .ok (.invokestatic 112, 3) := dk_184 0 112 (dk_at dksX5_learn_4 21 rfl rfl)
theorem dX5_learn_114 : decode cX5_learn 114 = .ok (.ifCond .eq 41, 3) := dk_153 0 41 (dk_at dksX5_learn_5 0 rfl rfl)
theorem dX5_learn_117 : decode cX5_learn 117 = .ok (.aload_n 0, 1) := dk_42 (dk_at dksX5_learn_5 3 rfl rfl)
theorem dX5_learn_118 : decode cX5_learn 118 = .ok (.getfield 85, 3) := dk_180 0 85 (dk_at dksX5_learn_5 4 rfl rfl)
theorem dX5_learn_121 : decode cX5_learn 121 = .ok (.iload 5, 2) := dk_21 5 (dk_at dksX5_learn_5 7 rfl rfl)
theorem dX5_learn_123 : decode cX5_learn 123 = .ok (.iconst 1, 1) := dk_4 (dk_at dksX5_learn_5 9 rfl rfl)
theorem dX5_learn_124 : decode cX5_learn 124 = .ok (.iadd, 1) := dk_96 (dk_at dksX5_learn_5 10 rfl rfl)
theorem dX5_learn_125 : decode cX5_learn 125 = .ok (.iaload, 1) := dk_46 (dk_at dksX5_learn_5 11 rfl rfl)
theorem dX5_learn_126 : decode cX5_learn 126 = .ok (.invokestatic 112, 3) := dk_184 0 112 (dk_at dksX5_learn_5 12 rfl rfl)
theorem dX5_learn_129 : decode cX5_learn 129 = .ok (.ifCond .eq 26, 3) := dk_153 0 26 (dk_at dksX5_learn_5 15 rfl rfl)
theorem dX5_learn_132 : decode cX5_learn 132 = .ok (.aload_n 0, 1) := dk_42 (dk_at dksX5_learn_5 18 rfl rfl)
theorem dX5_learn_133 : decode cX5_learn 133 = .ok (.getfield 85, 3) := dk_180 0 85 (dk_at dksX5_learn_5 19 rfl rfl)
theorem dX5_learn_136 : decode cX5_learn 136 = .ok (.iload 5, 2) := dk_21 5 (dk_at dksX5_learn_5 22 rfl rfl)
theorem dX5_learn_138 : decode cX5_learn 138 = .ok (.iaload, 1) := dk_46 (dk_at dksX5_learn_6 0 rfl rfl)
theorem dX5_learn_139 : decode cX5_learn 139 = .ok (.aload_n 0, 1) := dk_42 (dk_at dksX5_learn_6 1 rfl rfl)
theorem dX5_learn_140 : decode cX5_learn 140 = .ok (.getfield 85, 3) := dk_180 0 85 (dk_at dksX5_learn_6 2 rfl rfl)
theorem dX5_learn_143 : decode cX5_learn 143 = .ok (.iload 5, 2) := dk_21 5 (dk_at dksX5_learn_6 5 rfl rfl)
theorem dX5_learn_145 : decode cX5_learn 145 = .ok (.iconst 1, 1) := dk_4 (dk_at dksX5_learn_6 7 rfl rfl)
theorem dX5_learn_146 : decode cX5_learn 146 = .ok (.iadd, 1) := dk_96 (dk_at dksX5_learn_6 8 rfl rfl)
theorem dX5_learn_147 : decode cX5_learn 147 = .ok (.iaload, 1) := dk_46 (dk_at dksX5_learn_6 9 rfl rfl)
theorem dX5_learn_148 : decode cX5_learn 148 = .ok (.if_icmp .ge 7, 3) := dk_162 0 7 (dk_at dksX5_learn_6 10 rfl rfl)
theorem dX5_learn_151 : decode cX5_learn 151 = .ok (.iconst 1, 1) := dk_4 (dk_at dksX5_learn_6 13 rfl rfl)
theorem dX5_learn_152 : decode cX5_learn 152 = .ok (.goto 4, 3) := dk_167 0 4 (dk_at dksX5_learn_6 14 rfl rfl)
theorem dX5_learn_155 : decode cX5_learn 155 = .ok (.iconst 0, 1) := dk_3 (dk_at dksX5_learn_6 17 rfl rfl)
theorem dX5_learn_156 : decode cX5_learn 156 = .ok (.istore_n 3, 1) := dk_62 (dk_at dksX5_learn_6 18 rfl rfl)
theorem dX5_learn_157 : decode cX5_learn 157 = .ok (.iinc 4 1, 3) := dk_132 4 1 (dk_at dksX5_learn_6 19 rfl rfl)
theorem dX5_learn_160 : decode cX5_learn 160 = .ok (.goto (-84), 3) := dk_167 255 172 (dk_at dksX5_learn_7 0 rfl rfl)
theorem dX5_learn_163 : decode cX5_learn 163 = .ok (.iload_n 3, 1) := dk_29 (dk_at dksX5_learn_7 3 rfl rfl)
theorem dX5_learn_164 : decode cX5_learn 164 = .ok (.ifCond .ne 6, 3) := dk_154 0 6 (dk_at dksX5_learn_7 4 rfl rfl)
theorem dX5_learn_167 : decode cX5_learn 167 = .ok (.bipush (-13), 2) := dk_16 243 (dk_at dksX5_learn_7 7 rfl rfl)
theorem dX5_learn_169 : decode cX5_learn 169 = .ok (.ireturn, 1) := dk_172 (dk_at dksX5_learn_7 9 rfl rfl)
theorem dX5_learn_170 : decode cX5_learn 170 = .ok (.iconst 0, 1) := dk_3 (dk_at dksX5_learn_7 10 rfl rfl)
theorem dX5_learn_171 : decode cX5_learn 171 = .ok (.istore 4, 2) := dk_54 4 (dk_at dksX5_learn_7 11 rfl rfl)
theorem dX5_learn_173 : decode cX5_learn 173 = .ok (.iconst 0, 1) := dk_3 (dk_at dksX5_learn_7 13 rfl rfl)
theorem dX5_learn_174 : decode cX5_learn 174 = .ok (.istore 5, 2) := dk_54 5 (dk_at dksX5_learn_7 14 rfl rfl)
theorem dX5_learn_176 : decode cX5_learn 176 = .ok (.iconst 0, 1) := dk_3 (dk_at dksX5_learn_7 16 rfl rfl)
theorem dX5_learn_177 : decode cX5_learn 177 = .ok (.istore 6, 2) := dk_54 6 (dk_at dksX5_learn_7 17 rfl rfl)
theorem dX5_learn_179 : decode cX5_learn 179 = .ok (.bipush (-20), 2) := dk_16 236 (dk_at dksX5_learn_7 19 rfl rfl)
theorem dX5_learn_181 : decode cX5_learn 181 = .ok (.istore 7, 2) := dk_54 7 (dk_at dksX5_learn_7 21 rfl rfl)
theorem dX5_learn_183 : decode cX5_learn 183 = .ok (.iload 7, 2) := dk_21 7 (dk_at dksX5_learn_8 0 rfl rfl)
theorem dX5_learn_185 : decode cX5_learn 185 = .ok (.bipush 20, 2) := dk_16 20 (dk_at dksX5_learn_8 2 rfl rfl)
theorem dX5_learn_187 : decode cX5_learn 187 = .ok (.if_icmp .gt 116, 3) := dk_163 0 116 (dk_at dksX5_learn_8 4 rfl rfl)
theorem dX5_learn_190 : decode cX5_learn 190 = .ok (.iconst 1, 1) := dk_4 (dk_at dksX5_learn_8 7 rfl rfl)
theorem dX5_learn_191 : decode cX5_learn 191 = .ok (.istore 8, 2) := dk_54 8 (dk_at dksX5_learn_8 8 rfl rfl)
theorem dX5_learn_193 : decode cX5_learn 193 = .ok (.iconst 0, 1) := dk_3 (dk_at dksX5_learn_8 10 rfl rfl)
theorem dX5_learn_194 : decode cX5_learn 194 = .ok (.istore 9, 2) := dk_54 9 (dk_at dksX5_learn_8 11 rfl rfl)
theorem dX5_learn_196 : decode cX5_learn 196 = .ok (.iload 9, 2) := dk_21 9 (dk_at dksX5_learn_8 13 rfl rfl)
theorem dX5_learn_198 : decode cX5_learn 198 = .ok (.aload_n 0, 1) := dk_42 (dk_at dksX5_learn_8 15 rfl rfl)
theorem dX5_learn_199 : decode cX5_learn 199 = .ok (.getfield 82, 3) := dk_180 0 82 (dk_at dksX5_learn_8 16 rfl rfl)
theorem dX5_learn_202 : decode cX5_learn 202 = .ok (.iload_n 1, 1) := dk_27 (dk_at dksX5_learn_8 19 rfl rfl)
theorem dX5_learn_203 : decode cX5_learn 203 = .ok (.iaload, 1) := dk_46 (dk_at dksX5_learn_8 20 rfl rfl)
theorem dX5_learn_204 : decode cX5_learn 204 = .ok (.iconst 3, 1) := dk_6 (dk_at dksX5_learn_8 21 rfl rfl)
theorem dX5_learn_205 : decode cX5_learn 205 = .ok (.idiv, 1) := dk_108 (dk_at dksX5_learn_8 22 rfl rfl)
theorem dX5_learn_206 : decode cX5_learn 206 = .ok (.if_icmp .ge 65, 3) := dk_162 0 65 (dk_at dksX5_learn_9 0 rfl rfl)
theorem dX5_learn_209 : decode cX5_learn 209 = .ok (.bipush 100, 2) := dk_16 100 (dk_at dksX5_learn_9 3 rfl rfl)
theorem dX5_learn_211 : decode cX5_learn 211 = .ok (.iload_n 1, 1) := dk_27 (dk_at dksX5_learn_9 5 rfl rfl)
theorem dX5_learn_212 : decode cX5_learn 212 = .ok (.imul, 1) := dk_104 (dk_at dksX5_learn_9 6 rfl rfl)
theorem dX5_learn_213 : decode cX5_learn 213 = .ok (.iconst 3, 1) := dk_6 (dk_at dksX5_learn_9 7 rfl rfl)
theorem dX5_learn_214 : decode cX5_learn 214 = .ok (.iload 9, 2) := dk_21 9 (dk_at dksX5_learn_9 8 rfl rfl)
theorem dX5_learn_216 : decode cX5_learn 216 = .ok (.imul, 1) := dk_104 (dk_at dksX5_learn_9 10 rfl rfl)
theorem dX5_learn_217 : decode cX5_learn 217 = .ok (.iadd, 1) := dk_96 (dk_at dksX5_learn_9 11 rfl rfl)
theorem dX5_learn_218 : decode cX5_learn 218 = .ok (.istore 10, 2) := dk_54 10 (dk_at dksX5_learn_9 12 rfl rfl)
theorem dX5_learn_220 : decode cX5_learn 220 = .ok (.iload 8, 2) := dk_21 8 (dk_at dksX5_learn_9 14 rfl rfl)
theorem dX5_learn_222 : decode cX5_learn 222 = .ok (.ifCond .eq 40, 3) := dk_153 0 40 (dk_at dksX5_learn_9 16 rfl rfl)
theorem dX5_learn_225 : decode cX5_learn 225 = .ok (.iload 7, 2) := dk_21 7 (dk_at dksX5_learn_9 19 rfl rfl)
theorem dX5_learn_227 : decode cX5_learn 227 = .ok (.aload_n 0, 1) := dk_42 (dk_at dksX5_learn_9 21 rfl rfl)
theorem dX5_learn_228 : decode cX5_learn 228 = .ok (.getfield 85, 3) := dk_180 0 85 (dk_at dksX5_learn_10 0 rfl rfl)
theorem dX5_learn_231 : decode cX5_learn 231 = .ok (.iload 10, 2) := dk_21 10 (dk_at dksX5_learn_10 3 rfl rfl)
theorem dX5_learn_233 : decode cX5_learn 233 = .ok (.iaload, 1) := dk_46 (dk_at dksX5_learn_10 5 rfl rfl)
theorem dX5_learn_234 : decode cX5_learn 234 = .ok (.aload_n 0, 1) := dk_42 (dk_at dksX5_learn_10 6 rfl rfl)
theorem dX5_learn_235 : decode cX5_learn 235 = .ok (.getfield 85, 3) := dk_180 0 85 (dk_at dksX5_learn_10 7 rfl rfl)
theorem dX5_learn_238 : decode cX5_learn 238 = .ok (.iload 10, 2) := dk_21 10 (dk_at dksX5_learn_10 10 rfl rfl)
theorem dX5_learn_240 : decode cX5_learn 240 = .ok (.iconst 1, 1) := dk_4 (dk_at dksX5_learn_10 12 rfl rfl)
theorem dX5_learn_241 : decode cX5_learn 241 = .ok (.iadd, 1) := dk_96 (dk_at dksX5_learn_10 13 rfl rfl)
theorem dX5_learn_242 : decode cX5_learn 242 = .ok (.iaload, 1) := dk_46 (dk_at dksX5_learn_10 14 rfl rfl)
theorem dX5_learn_243 : decode cX5_learn 243 = .ok (.invokestatic 130, 3) := dk_184 0 130 (dk_at dksX5_learn_10 15 rfl rfl)
theorem dX5_learn_246 : decode cX5_learn 246 = .ok (.aload_n 0, 1) := dk_42 (dk_at dksX5_learn_10 18 rfl rfl)
theorem dX5_learn_247 : decode cX5_learn 247 = .ok (.getfield 85, 3) := dk_180 0 85 (dk_at dksX5_learn_10 19 rfl rfl)
theorem dX5_learn_250 : decode cX5_learn 250 = .ok (.iload 10, 2) := dk_21 10 (dk_at dksX5_learn_10 22 rfl rfl)
theorem dX5_learn_252 : decode cX5_learn 252 = .ok (.iconst 2, 1) := dk_5 (dk_at dksX5_learn_11 0 rfl rfl)
theorem dX5_learn_253 : decode cX5_learn 253 = .ok (.iadd, 1) := dk_96 (dk_at dksX5_learn_11 1 rfl rfl)
theorem dX5_learn_254 : decode cX5_learn 254 = .ok (.iaload, 1) := dk_46 (dk_at dksX5_learn_11 2 rfl rfl)
theorem dX5_learn_255 : decode cX5_learn 255 = .ok (.if_icmp .ne 7, 3) := dk_160 0 7 (dk_at dksX5_learn_11 3 rfl rfl)
theorem dX5_learn_258 : decode cX5_learn 258 = .ok (.iconst 1, 1) := dk_4 (dk_at dksX5_learn_11 6 rfl rfl)
theorem dX5_learn_259 : decode cX5_learn 259 = .ok (.goto 4, 3) := dk_167 0 4 (dk_at dksX5_learn_11 7 rfl rfl)
theorem dX5_learn_262 : decode cX5_learn 262 = .ok (.iconst 0, 1) := dk_3 (dk_at dksX5_learn_11 10 rfl rfl)
theorem dX5_learn_263 : decode cX5_learn 263 = .ok (.istore 8, 2) := dk_54 8 (dk_at dksX5_learn_11 11 rfl rfl)
theorem dX5_learn_265 : decode cX5_learn 265 = .ok (.iinc 9 1, 3) := dk_132 9 1 (dk_at dksX5_learn_11 13 rfl rfl)
theorem dX5_learn_268 : decode cX5_learn 268 = .ok (.goto (-72), 3) := dk_167 255 184 (dk_at dksX5_learn_11 16 rfl rfl)
theorem dX5_learn_271 : decode cX5_learn 271 = .ok (.iload 8, 2) := dk_21 8 (dk_at dksX5_learn_11 19 rfl rfl)
theorem dX5_learn_273 : decode cX5_learn 273 = .ok (.ifCond .eq 24, 3) := dk_153 0 24 (dk_at dksX5_learn_11 21 rfl rfl)
theorem dX5_learn_276 : decode cX5_learn 276 = .ok (.iload 4, 2) := dk_21 4 (dk_at dksX5_learn_12 0 rfl rfl)
theorem dX5_learn_278 : decode cX5_learn 278 = .ok (.ifCond .ne 8, 3) := dk_154 0 8 (dk_at dksX5_learn_12 2 rfl rfl)
theorem dX5_learn_281 : decode cX5_learn 281 = .ok (.iload 7, 2) := dk_21 7 (dk_at dksX5_learn_12 5 rfl rfl)
theorem dX5_learn_283 : decode cX5_learn 283 = .ok (.goto 5, 3) := dk_167 0 5 (dk_at dksX5_learn_12 7 rfl rfl)
theorem dX5_learn_286 : decode cX5_learn 286 = .ok (.iload 5, 2) := dk_21 5 (dk_at dksX5_learn_12 10 rfl rfl)
theorem dX5_learn_288 : decode cX5_learn 288 = .ok (.istore 5, 2) := dk_54 5 (dk_at dksX5_learn_12 12 rfl rfl)
theorem dX5_learn_290 : decode cX5_learn 290 = .ok (.iload 7, 2) := dk_21 7 (dk_at dksX5_learn_12 14 rfl rfl)
theorem dX5_learn_292 : decode cX5_learn 292 = .ok (.istore 6, 2) := dk_54 6 (dk_at dksX5_learn_12 16 rfl rfl)
theorem dX5_learn_294 : decode cX5_learn 294 = .ok (.iinc 4 1, 3) := dk_132 4 1 (dk_at dksX5_learn_12 18 rfl rfl)
theorem dX5_learn_297 : decode cX5_learn 297 = .ok (.iinc 7 1, 3) := dk_132 7 1 (dk_at dksX5_learn_12 21 rfl rfl)
theorem dX5_learn_300 : decode cX5_learn 300 = .ok (.goto (-117), 3) := dk_167 255 139 (dk_at dksX5_learn_13 0 rfl rfl)
theorem dX5_learn_303 : decode cX5_learn 303 = .ok (.iload_n 2, 1) := dk_28 (dk_at dksX5_learn_13 3 rfl rfl)
theorem dX5_learn_304 : decode cX5_learn 304 = .ok (.ifCond .ne 8, 3) := dk_154 0 8 (dk_at dksX5_learn_13 4 rfl rfl)
theorem dX5_learn_307 : decode cX5_learn 307 = .ok (.iload 4, 2) := dk_21 4 (dk_at dksX5_learn_13 7 rfl rfl)
theorem dX5_learn_309 : decode cX5_learn 309 = .ok (.goto 28, 3) := dk_167 0 28 (dk_at dksX5_learn_13 9 rfl rfl)
theorem dX5_learn_312 : decode cX5_learn 312 = .ok (.iload 4, 2) := dk_21 4 (dk_at dksX5_learn_13 12 rfl rfl)
theorem dX5_learn_314 : decode cX5_learn 314 = .ok (.ifCond .ne 8, 3) := dk_154 0 8 (dk_at dksX5_learn_13 14 rfl rfl)
theorem dX5_learn_317 : decode cX5_learn 317 = .ok (.bipush (-4), 2) := dk_16 252 (dk_at dksX5_learn_13 17 rfl rfl)
theorem dX5_learn_319 : decode cX5_learn 319 = .ok (.goto 18, 3) := dk_167 0 18 (dk_at dksX5_learn_13 19 rfl rfl)
theorem dX5_learn_322 : decode cX5_learn 322 = .ok (.bipush 20, 2) := dk_16 20 (dk_at dksX5_learn_13 22 rfl rfl)
theorem dX5_learn_324 : decode cX5_learn 324 = .ok (.iload_n 2, 1) := dk_28 (dk_at dksX5_learn_14 0 rfl rfl)
theorem dX5_learn_325 : decode cX5_learn 325 = .ok (.iconst 1, 1) := dk_4 (dk_at dksX5_learn_14 1 rfl rfl)
theorem dX5_learn_326 : decode cX5_learn 326 = .ok (.if_icmp .ne 8, 3) := dk_160 0 8 (dk_at dksX5_learn_14 2 rfl rfl)
theorem dX5_learn_329 : decode cX5_learn 329 = .ok (.iload 5, 2) := dk_21 5 (dk_at dksX5_learn_14 5 rfl rfl)
theorem dX5_learn_331 : decode cX5_learn 331 = .ok (.goto 5, 3) := dk_167 0 5 (dk_at dksX5_learn_14 7 rfl rfl)
theorem dX5_learn_334 : decode cX5_learn 334 = .ok (.iload 6, 2) := dk_21 6 (dk_at dksX5_learn_14 10 rfl rfl)
theorem dX5_learn_336 : decode cX5_learn 336 = .ok (.iadd, 1) := dk_96 (dk_at dksX5_learn_14 12 rfl rfl)
theorem dX5_learn_337 : decode cX5_learn 337 = .ok (.ireturn, 1) := dk_172 (dk_at dksX5_learn_14 13 rfl rfl)
abbrev cX5_shared : ByteArray := prog_21_method_35_code
def yX5_shared : MethodName := ⟨RX5, "shared", "(II)I"⟩
def dkwX5_shared_1 : List UInt8 := [184, 0, 116, 28, 184, 0, 177, 167, 0, 4, 2, 172]
abbrev dktX5_shared_1 : List UInt8 := dkwX5_shared_1 ++ []
def dkwX5_shared_0 : List UInt8 := [27, 184, 0, 112, 153, 0, 30, 28, 4, 16, 9, 184, 0, 100, 153, 0, 20, 42, 180, 0, 7, 6, 46, 27]
abbrev dktX5_shared_0 : List UInt8 := dkwX5_shared_0 ++ dktX5_shared_1
theorem dksX5_shared_0 : cX5_shared.data.toList.drop 0 = dktX5_shared_0 := by decide +kernel
theorem dksX5_shared_1 : cX5_shared.data.toList.drop 24 = dktX5_shared_1 := dk_seg dksX5_shared_0 24 rfl rfl
theorem dX5_shared_0 : decode cX5_shared 0 = .ok (.iload_n 1, 1) := dk_27 (dk_at dksX5_shared_0 0 rfl rfl)
theorem dX5_shared_1 : decode cX5_shared 1 = .ok (.invokestatic 112, 3) := dk_184 0 112 (dk_at dksX5_shared_0 1 rfl rfl)
theorem dX5_shared_4 : decode cX5_shared 4 = .ok (.ifCond .eq 30, 3) := dk_153 0 30 (dk_at dksX5_shared_0 4 rfl rfl)
theorem dX5_shared_7 : decode cX5_shared 7 = .ok (.iload_n 2, 1) := dk_28 (dk_at dksX5_shared_0 7 rfl rfl)
theorem dX5_shared_8 : decode cX5_shared 8 = .ok (.iconst 1, 1) := dk_4 (dk_at dksX5_shared_0 8 rfl rfl)
theorem dX5_shared_9 : decode cX5_shared 9 = .ok (.bipush 9, 2) := dk_16 9 (dk_at dksX5_shared_0 9 rfl rfl)
theorem dX5_shared_11 : decode cX5_shared 11 = .ok (.invokestatic 100, 3) := dk_184 0 100 (dk_at dksX5_shared_0 11 rfl rfl)
theorem dX5_shared_14 : decode cX5_shared 14 = .ok (.ifCond .eq 20, 3) := dk_153 0 20 (dk_at dksX5_shared_0 14 rfl rfl)
theorem dX5_shared_17 : decode cX5_shared 17 = .ok (.aload_n 0, 1) := dk_42 (dk_at dksX5_shared_0 17 rfl rfl)
theorem dX5_shared_18 : decode cX5_shared 18 = .ok (.getfield 7, 3) := dk_180 0 7 (dk_at dksX5_shared_0 18 rfl rfl)
theorem dX5_shared_21 : decode cX5_shared 21 = .ok (.iconst 3, 1) := dk_6 (dk_at dksX5_shared_0 21 rfl rfl)
theorem dX5_shared_22 : decode cX5_shared 22 = .ok (.iaload, 1) := dk_46 (dk_at dksX5_shared_0 22 rfl rfl)
theorem dX5_shared_23 : decode cX5_shared 23 = .ok (.iload_n 1, 1) := dk_27 (dk_at dksX5_shared_0 23 rfl rfl)
theorem dX5_shared_24 : decode cX5_shared 24 = .ok (.invokestatic 116, 3) := dk_184 0 116 (dk_at dksX5_shared_1 0 rfl rfl)
theorem dX5_shared_27 : decode cX5_shared 27 = .ok (.iload_n 2, 1) := dk_28 (dk_at dksX5_shared_1 3 rfl rfl)
theorem dX5_shared_28 : decode cX5_shared 28 = .ok (.invokestatic 177, 3) := dk_184 0 177 (dk_at dksX5_shared_1 4 rfl rfl)
theorem dX5_shared_31 : decode cX5_shared 31 = .ok (.goto 4, 3) := dk_167 0 4 (dk_at dksX5_shared_1 7 rfl rfl)
theorem dX5_shared_34 : decode cX5_shared 34 = .ok (.iconst (-1), 1) := dk_2 (dk_at dksX5_shared_1 10 rfl rfl)
theorem dX5_shared_35 : decode cX5_shared 35 = .ok (.ireturn, 1) := dk_172 (dk_at dksX5_shared_1 11 rfl rfl)
abbrev cX5_shareOf : ByteArray := prog_21_method_34_code
def yX5_shareOf : MethodName := ⟨RX5, "shareOf", "(II)I"⟩
def dkwX5_shareOf_0 : List UInt8 := [26, 27, 96, 4, 100, 27, 108, 172]
abbrev dktX5_shareOf_0 : List UInt8 := dkwX5_shareOf_0 ++ []
theorem dksX5_shareOf_0 : cX5_shareOf.data.toList.drop 0 = dktX5_shareOf_0 := by decide +kernel
theorem dX5_shareOf_0 : decode cX5_shareOf 0 = .ok (.iload_n 0, 1) := dk_26 (dk_at dksX5_shareOf_0 0 rfl rfl)
theorem dX5_shareOf_1 : decode cX5_shareOf 1 = .ok (.iload_n 1, 1) := dk_27 (dk_at dksX5_shareOf_0 1 rfl rfl)
theorem dX5_shareOf_2 : decode cX5_shareOf 2 = .ok (.iadd, 1) := dk_96 (dk_at dksX5_shareOf_0 2 rfl rfl)
theorem dX5_shareOf_3 : decode cX5_shareOf 3 = .ok (.iconst 1, 1) := dk_4 (dk_at dksX5_shareOf_0 3 rfl rfl)
theorem dX5_shareOf_4 : decode cX5_shareOf 4 = .ok (.isub, 1) := dk_100 (dk_at dksX5_shareOf_0 4 rfl rfl)
theorem dX5_shareOf_5 : decode cX5_shareOf 5 = .ok (.iload_n 1, 1) := dk_27 (dk_at dksX5_shareOf_0 5 rfl rfl)
theorem dX5_shareOf_6 : decode cX5_shareOf 6 = .ok (.idiv, 1) := dk_108 (dk_at dksX5_shareOf_0 6 rfl rfl)
theorem dX5_shareOf_7 : decode cX5_shareOf 7 = .ok (.ireturn, 1) := dk_172 (dk_at dksX5_shareOf_0 7 rfl rfl)
abbrev cX5_nine : ByteArray := prog_21_method_36_code
def yX5_nine : MethodName := ⟨RX5, "nine", "(II)I"⟩
def dkwX5_nine_2 : List UInt8 := [132, 3, 1, 167, 255, 227, 16, 252, 172]
abbrev dktX5_nine_2 : List UInt8 := dkwX5_nine_2 ++ []
def dkwX5_nine_1 : List UInt8 := [162, 0, 29, 42, 180, 0, 7, 6, 46, 27, 184, 0, 116, 29, 184, 0, 177, 28, 163, 0, 5, 29, 172]
abbrev dktX5_nine_1 : List UInt8 := dkwX5_nine_1 ++ dktX5_nine_2
def dkwX5_nine_0 : List UInt8 := [27, 184, 0, 112, 153, 0, 13, 28, 4, 16, 20, 184, 0, 100, 154, 0, 5, 2, 172, 4, 62, 29, 16, 10]
abbrev dktX5_nine_0 : List UInt8 := dkwX5_nine_0 ++ dktX5_nine_1
theorem dksX5_nine_0 : cX5_nine.data.toList.drop 0 = dktX5_nine_0 := by decide +kernel
theorem dksX5_nine_1 : cX5_nine.data.toList.drop 24 = dktX5_nine_1 := dk_seg dksX5_nine_0 24 rfl rfl
theorem dksX5_nine_2 : cX5_nine.data.toList.drop 47 = dktX5_nine_2 := dk_seg dksX5_nine_1 23 rfl rfl
theorem dX5_nine_0 : decode cX5_nine 0 = .ok (.iload_n 1, 1) := dk_27 (dk_at dksX5_nine_0 0 rfl rfl)
theorem dX5_nine_1 : decode cX5_nine 1 = .ok (.invokestatic 112, 3) := dk_184 0 112 (dk_at dksX5_nine_0 1 rfl rfl)
theorem dX5_nine_4 : decode cX5_nine 4 = .ok (.ifCond .eq 13, 3) := dk_153 0 13 (dk_at dksX5_nine_0 4 rfl rfl)
theorem dX5_nine_7 : decode cX5_nine 7 = .ok (.iload_n 2, 1) := dk_28 (dk_at dksX5_nine_0 7 rfl rfl)
theorem dX5_nine_8 : decode cX5_nine 8 = .ok (.iconst 1, 1) := dk_4 (dk_at dksX5_nine_0 8 rfl rfl)
theorem dX5_nine_9 : decode cX5_nine 9 = .ok (.bipush 20, 2) := dk_16 20 (dk_at dksX5_nine_0 9 rfl rfl)
theorem dX5_nine_11 : decode cX5_nine 11 = .ok (.invokestatic 100, 3) := dk_184 0 100 (dk_at dksX5_nine_0 11 rfl rfl)
theorem dX5_nine_14 : decode cX5_nine 14 = .ok (.ifCond .ne 5, 3) := dk_154 0 5 (dk_at dksX5_nine_0 14 rfl rfl)
theorem dX5_nine_17 : decode cX5_nine 17 = .ok (.iconst (-1), 1) := dk_2 (dk_at dksX5_nine_0 17 rfl rfl)
theorem dX5_nine_18 : decode cX5_nine 18 = .ok (.ireturn, 1) := dk_172 (dk_at dksX5_nine_0 18 rfl rfl)
theorem dX5_nine_19 : decode cX5_nine 19 = .ok (.iconst 1, 1) := dk_4 (dk_at dksX5_nine_0 19 rfl rfl)
theorem dX5_nine_20 : decode cX5_nine 20 = .ok (.istore_n 3, 1) := dk_62 (dk_at dksX5_nine_0 20 rfl rfl)
theorem dX5_nine_21 : decode cX5_nine 21 = .ok (.iload_n 3, 1) := dk_29 (dk_at dksX5_nine_0 21 rfl rfl)
theorem dX5_nine_22 : decode cX5_nine 22 = .ok (.bipush 10, 2) := dk_16 10 (dk_at dksX5_nine_0 22 rfl rfl)
theorem dX5_nine_24 : decode cX5_nine 24 = .ok (.if_icmp .ge 29, 3) := dk_162 0 29 (dk_at dksX5_nine_1 0 rfl rfl)
theorem dX5_nine_27 : decode cX5_nine 27 = .ok (.aload_n 0, 1) := dk_42 (dk_at dksX5_nine_1 3 rfl rfl)
theorem dX5_nine_28 : decode cX5_nine 28 = .ok (.getfield 7, 3) := dk_180 0 7 (dk_at dksX5_nine_1 4 rfl rfl)
theorem dX5_nine_31 : decode cX5_nine 31 = .ok (.iconst 3, 1) := dk_6 (dk_at dksX5_nine_1 7 rfl rfl)
theorem dX5_nine_32 : decode cX5_nine 32 = .ok (.iaload, 1) := dk_46 (dk_at dksX5_nine_1 8 rfl rfl)
theorem dX5_nine_33 : decode cX5_nine 33 = .ok (.iload_n 1, 1) := dk_27 (dk_at dksX5_nine_1 9 rfl rfl)
theorem dX5_nine_34 : decode cX5_nine 34 = .ok (.invokestatic 116, 3) := dk_184 0 116 (dk_at dksX5_nine_1 10 rfl rfl)
theorem dX5_nine_37 : decode cX5_nine 37 = .ok (.iload_n 3, 1) := dk_29 (dk_at dksX5_nine_1 13 rfl rfl)
theorem dX5_nine_38 : decode cX5_nine 38 = .ok (.invokestatic 177, 3) := dk_184 0 177 (dk_at dksX5_nine_1 14 rfl rfl)
theorem dX5_nine_41 : decode cX5_nine 41 = .ok (.iload_n 2, 1) := dk_28 (dk_at dksX5_nine_1 17 rfl rfl)
theorem dX5_nine_42 : decode cX5_nine 42 = .ok (.if_icmp .gt 5, 3) := dk_163 0 5 (dk_at dksX5_nine_1 18 rfl rfl)
theorem dX5_nine_45 : decode cX5_nine 45 = .ok (.iload_n 3, 1) := dk_29 (dk_at dksX5_nine_1 21 rfl rfl)
theorem dX5_nine_46 : decode cX5_nine 46 = .ok (.ireturn, 1) := dk_172 (dk_at dksX5_nine_1 22 rfl rfl)
theorem dX5_nine_47 : decode cX5_nine 47 = .ok (.iinc 3 1, 3) := dk_132 3 1 (dk_at dksX5_nine_2 0 rfl rfl)
theorem dX5_nine_50 : decode cX5_nine 50 = .ok (.goto (-29), 3) := dk_167 255 227 (dk_at dksX5_nine_2 3 rfl rfl)
theorem dX5_nine_53 : decode cX5_nine 53 = .ok (.bipush (-4), 2) := dk_16 252 (dk_at dksX5_nine_2 6 rfl rfl)
theorem dX5_nine_55 : decode cX5_nine 55 = .ok (.ireturn, 1) := dk_172 (dk_at dksX5_nine_2 8 rfl rfl)
abbrev cX5_buys : ByteArray := prog_21_method_38_code
def yX5_buys : MethodName := ⟨RX5, "buys", "(IIII)I"⟩
def dkwX5_buys_2 : List UInt8 := [182, 0, 180, 153, 0, 7, 4, 167, 0, 4, 3, 172]
abbrev dktX5_buys_2 : List UInt8 := dkwX5_buys_2 ++ []
def dkwX5_buys_1 : List UInt8 := [153, 0, 14, 21, 4, 3, 16, 9, 184, 0, 100, 154, 0, 5, 2, 172, 42, 27, 28, 29, 21, 4]
abbrev dktX5_buys_1 : List UInt8 := dkwX5_buys_1 ++ dktX5_buys_2
def dkwX5_buys_0 : List UInt8 := [27, 184, 0, 112, 153, 0, 34, 28, 3, 16, 60, 184, 0, 100, 153, 0, 24, 29, 3, 16, 12, 184, 0, 100]
abbrev dktX5_buys_0 : List UInt8 := dkwX5_buys_0 ++ dktX5_buys_1
theorem dksX5_buys_0 : cX5_buys.data.toList.drop 0 = dktX5_buys_0 := by decide +kernel
theorem dksX5_buys_1 : cX5_buys.data.toList.drop 24 = dktX5_buys_1 := dk_seg dksX5_buys_0 24 rfl rfl
theorem dksX5_buys_2 : cX5_buys.data.toList.drop 46 = dktX5_buys_2 := dk_seg dksX5_buys_1 22 rfl rfl
theorem dX5_buys_0 : decode cX5_buys 0 = .ok (.iload_n 1, 1) := dk_27 (dk_at dksX5_buys_0 0 rfl rfl)
theorem dX5_buys_1 : decode cX5_buys 1 = .ok (.invokestatic 112, 3) := dk_184 0 112 (dk_at dksX5_buys_0 1 rfl rfl)
theorem dX5_buys_4 : decode cX5_buys 4 = .ok (.ifCond .eq 34, 3) := dk_153 0 34 (dk_at dksX5_buys_0 4 rfl rfl)
theorem dX5_buys_7 : decode cX5_buys 7 = .ok (.iload_n 2, 1) := dk_28 (dk_at dksX5_buys_0 7 rfl rfl)
theorem dX5_buys_8 : decode cX5_buys 8 = .ok (.iconst 0, 1) := dk_3 (dk_at dksX5_buys_0 8 rfl rfl)
theorem dX5_buys_9 : decode cX5_buys 9 = .ok (.bipush 60, 2) := dk_16 60 (dk_at dksX5_buys_0 9 rfl rfl)
theorem dX5_buys_11 : decode cX5_buys 11 = .ok (.invokestatic 100, 3) := dk_184 0 100 (dk_at dksX5_buys_0 11 rfl rfl)
theorem dX5_buys_14 : decode cX5_buys 14 = .ok (.ifCond .eq 24, 3) := dk_153 0 24 (dk_at dksX5_buys_0 14 rfl rfl)
theorem dX5_buys_17 : decode cX5_buys 17 = .ok (.iload_n 3, 1) := dk_29 (dk_at dksX5_buys_0 17 rfl rfl)
theorem dX5_buys_18 : decode cX5_buys 18 = .ok (.iconst 0, 1) := dk_3 (dk_at dksX5_buys_0 18 rfl rfl)
theorem dX5_buys_19 : decode cX5_buys 19 = .ok (.bipush 12, 2) := dk_16 12 (dk_at dksX5_buys_0 19 rfl rfl)
theorem dX5_buys_21 : decode cX5_buys 21 = .ok (.invokestatic 100, 3) := dk_184 0 100 (dk_at dksX5_buys_0 21 rfl rfl)
theorem dX5_buys_24 : decode cX5_buys 24 = .ok (.ifCond .eq 14, 3) := dk_153 0 14 (dk_at dksX5_buys_1 0 rfl rfl)
theorem dX5_buys_27 : decode cX5_buys 27 = .ok (.iload 4, 2) := dk_21 4 (dk_at dksX5_buys_1 3 rfl rfl)
theorem dX5_buys_29 : decode cX5_buys 29 = .ok (.iconst 0, 1) := dk_3 (dk_at dksX5_buys_1 5 rfl rfl)
theorem dX5_buys_30 : decode cX5_buys 30 = .ok (.bipush 9, 2) := dk_16 9 (dk_at dksX5_buys_1 6 rfl rfl)
theorem dX5_buys_32 : decode cX5_buys 32 = .ok (.invokestatic 100, 3) := dk_184 0 100 (dk_at dksX5_buys_1 8 rfl rfl)
theorem dX5_buys_35 : decode cX5_buys 35 = .ok (.ifCond .ne 5, 3) := dk_154 0 5 (dk_at dksX5_buys_1 11 rfl rfl)
theorem dX5_buys_38 : decode cX5_buys 38 = .ok (.iconst (-1), 1) := dk_2 (dk_at dksX5_buys_1 14 rfl rfl)
theorem dX5_buys_39 : decode cX5_buys 39 = .ok (.ireturn, 1) := dk_172 (dk_at dksX5_buys_1 15 rfl rfl)
theorem dX5_buys_40 : decode cX5_buys 40 = .ok (.aload_n 0, 1) := dk_42 (dk_at dksX5_buys_1 16 rfl rfl)
theorem dX5_buys_41 : decode cX5_buys 41 = .ok (.iload_n 1, 1) := dk_27 (dk_at dksX5_buys_1 17 rfl rfl)
theorem dX5_buys_42 : decode cX5_buys 42 = .ok (.iload_n 2, 1) := dk_28 (dk_at dksX5_buys_1 18 rfl rfl)
theorem dX5_buys_43 : decode cX5_buys 43 = .ok (.iload_n 3, 1) := dk_29 (dk_at dksX5_buys_1 19 rfl rfl)
theorem dX5_buys_44 : decode cX5_buys 44 = .ok (.iload 4, 2) := dk_21 4 (dk_at dksX5_buys_1 20 rfl rfl)
theorem dX5_buys_46 : decode cX5_buys 46 = .ok (.invokevirtual 180, 3) := dk_182 0 180 (dk_at dksX5_buys_2 0 rfl rfl)
theorem dX5_buys_49 : decode cX5_buys 49 = .ok (.ifCond .eq 7, 3) := dk_153 0 7 (dk_at dksX5_buys_2 3 rfl rfl)
theorem dX5_buys_52 : decode cX5_buys 52 = .ok (.iconst 1, 1) := dk_4 (dk_at dksX5_buys_2 6 rfl rfl)
theorem dX5_buys_53 : decode cX5_buys 53 = .ok (.goto 4, 3) := dk_167 0 4 (dk_at dksX5_buys_2 7 rfl rfl)
theorem dX5_buys_56 : decode cX5_buys 56 = .ok (.iconst 0, 1) := dk_3 (dk_at dksX5_buys_2 10 rfl rfl)
theorem dX5_buys_57 : decode cX5_buys 57 = .ok (.ireturn, 1) := dk_172 (dk_at dksX5_buys_2 11 rfl rfl)
abbrev cX5_isSold : ByteArray := prog_21_method_37_code
def yX5_isSold : MethodName := ⟨RX5, "isSold", "(IIII)Z"⟩
def dkwX5_isSold_1 : List UInt8 := [172]
abbrev dktX5_isSold_1 : List UInt8 := dkwX5_isSold_1 ++ []
def dkwX5_isSold_0 : List UInt8 := [29, 28, 21, 4, 104, 96, 42, 180, 0, 7, 6, 46, 27, 184, 0, 116, 162, 0, 7, 4, 167, 0, 4, 3]
abbrev dktX5_isSold_0 : List UInt8 := dkwX5_isSold_0 ++ dktX5_isSold_1
theorem dksX5_isSold_0 : cX5_isSold.data.toList.drop 0 = dktX5_isSold_0 := by decide +kernel
theorem dksX5_isSold_1 : cX5_isSold.data.toList.drop 24 = dktX5_isSold_1 := dk_seg dksX5_isSold_0 24 rfl rfl
theorem dX5_isSold_0 : decode cX5_isSold 0 = .ok (.iload_n 3, 1) := dk_29 (dk_at dksX5_isSold_0 0 rfl rfl)
theorem dX5_isSold_1 : decode cX5_isSold 1 = .ok (.iload_n 2, 1) := dk_28 (dk_at dksX5_isSold_0 1 rfl rfl)
theorem dX5_isSold_2 : decode cX5_isSold 2 = .ok (.iload 4, 2) := dk_21 4 (dk_at dksX5_isSold_0 2 rfl rfl)
theorem dX5_isSold_4 : decode cX5_isSold 4 = .ok (.imul, 1) := dk_104 (dk_at dksX5_isSold_0 4 rfl rfl)
theorem dX5_isSold_5 : decode cX5_isSold 5 = .ok (.iadd, 1) := dk_96 (dk_at dksX5_isSold_0 5 rfl rfl)
theorem dX5_isSold_6 : decode cX5_isSold 6 = .ok (.aload_n 0, 1) := dk_42 (dk_at dksX5_isSold_0 6 rfl rfl)
theorem dX5_isSold_7 : decode cX5_isSold 7 = .ok (.getfield 7, 3) := dk_180 0 7 (dk_at dksX5_isSold_0 7 rfl rfl)
theorem dX5_isSold_10 : decode cX5_isSold 10 = .ok (.iconst 3, 1) := dk_6 (dk_at dksX5_isSold_0 10 rfl rfl)
theorem dX5_isSold_11 : decode cX5_isSold 11 = .ok (.iaload, 1) := dk_46 (dk_at dksX5_isSold_0 11 rfl rfl)
theorem dX5_isSold_12 : decode cX5_isSold 12 = .ok (.iload_n 1, 1) := dk_27 (dk_at dksX5_isSold_0 12 rfl rfl)
theorem dX5_isSold_13 : decode cX5_isSold 13 = .ok (.invokestatic 116, 3) := dk_184 0 116 (dk_at dksX5_isSold_0 13 rfl rfl)
theorem dX5_isSold_16 : decode cX5_isSold 16 = .ok (.if_icmp .ge 7, 3) := dk_162 0 7 (dk_at dksX5_isSold_0 16 rfl rfl)
theorem dX5_isSold_19 : decode cX5_isSold 19 = .ok (.iconst 1, 1) := dk_4 (dk_at dksX5_isSold_0 19 rfl rfl)
theorem dX5_isSold_20 : decode cX5_isSold 20 = .ok (.goto 4, 3) := dk_167 0 4 (dk_at dksX5_isSold_0 20 rfl rfl)
theorem dX5_isSold_23 : decode cX5_isSold 23 = .ok (.iconst 0, 1) := dk_3 (dk_at dksX5_isSold_0 23 rfl rfl)
theorem dX5_isSold_24 : decode cX5_isSold 24 = .ok (.ireturn, 1) := dk_172 (dk_at dksX5_isSold_1 0 rfl rfl)
abbrev cX5_rest : ByteArray := prog_21_method_39_code
def yX5_rest : MethodName := ⟨RX5, "rest", "(III)I"⟩
def dkwX5_rest_3 : List UInt8 := [172]
abbrev dktX5_rest_3 : List UInt8 := dkwX5_rest_3 ++ []
def dkwX5_rest_2 : List UInt8 := [29, 182, 0, 180, 153, 0, 8, 21, 5, 167, 0, 5, 21, 4, 54, 4, 132, 5, 1, 167, 255, 225, 21, 4]
abbrev dktX5_rest_2 : List UInt8 := dkwX5_rest_2 ++ dktX5_rest_3
def dkwX5_rest_1 : List UInt8 := [154, 0, 5, 2, 172, 16, 252, 54, 4, 3, 54, 5, 21, 5, 16, 13, 162, 0, 30, 42, 27, 28, 21, 5]
abbrev dktX5_rest_1 : List UInt8 := dkwX5_rest_1 ++ dktX5_rest_2
def dkwX5_rest_0 : List UInt8 := [27, 184, 0, 112, 153, 0, 23, 28, 3, 16, 60, 184, 0, 100, 153, 0, 13, 29, 3, 16, 9, 184, 0, 100]
abbrev dktX5_rest_0 : List UInt8 := dkwX5_rest_0 ++ dktX5_rest_1
theorem dksX5_rest_0 : cX5_rest.data.toList.drop 0 = dktX5_rest_0 := by decide +kernel
theorem dksX5_rest_1 : cX5_rest.data.toList.drop 24 = dktX5_rest_1 := dk_seg dksX5_rest_0 24 rfl rfl
theorem dksX5_rest_2 : cX5_rest.data.toList.drop 48 = dktX5_rest_2 := dk_seg dksX5_rest_1 24 rfl rfl
theorem dksX5_rest_3 : cX5_rest.data.toList.drop 72 = dktX5_rest_3 := dk_seg dksX5_rest_2 24 rfl rfl
theorem dX5_rest_0 : decode cX5_rest 0 = .ok (.iload_n 1, 1) := dk_27 (dk_at dksX5_rest_0 0 rfl rfl)
theorem dX5_rest_1 : decode cX5_rest 1 = .ok (.invokestatic 112, 3) := dk_184 0 112 (dk_at dksX5_rest_0 1 rfl rfl)
theorem dX5_rest_4 : decode cX5_rest 4 = .ok (.ifCond .eq 23, 3) := dk_153 0 23 (dk_at dksX5_rest_0 4 rfl rfl)
theorem dX5_rest_7 : decode cX5_rest 7 = .ok (.iload_n 2, 1) := dk_28 (dk_at dksX5_rest_0 7 rfl rfl)
theorem dX5_rest_8 : decode cX5_rest 8 = .ok (.iconst 0, 1) := dk_3 (dk_at dksX5_rest_0 8 rfl rfl)
theorem dX5_rest_9 : decode cX5_rest 9 = .ok (.bipush 60, 2) := dk_16 60 (dk_at dksX5_rest_0 9 rfl rfl)
theorem dX5_rest_11 : decode cX5_rest 11 = .ok (.invokestatic 100, 3) := dk_184 0 100 (dk_at dksX5_rest_0 11 rfl rfl)
theorem dX5_rest_14 : decode cX5_rest 14 = .ok (.ifCond .eq 13, 3) := dk_153 0 13 (dk_at dksX5_rest_0 14 rfl rfl)
theorem dX5_rest_17 : decode cX5_rest 17 = .ok (.iload_n 3, 1) := dk_29 (dk_at dksX5_rest_0 17 rfl rfl)
theorem dX5_rest_18 : decode cX5_rest 18 = .ok (.iconst 0, 1) := dk_3 (dk_at dksX5_rest_0 18 rfl rfl)
theorem dX5_rest_19 : decode cX5_rest 19 = .ok (.bipush 9, 2) := dk_16 9 (dk_at dksX5_rest_0 19 rfl rfl)
theorem dX5_rest_21 : decode cX5_rest 21 = .ok (.invokestatic 100, 3) := dk_184 0 100 (dk_at dksX5_rest_0 21 rfl rfl)
theorem dX5_rest_24 : decode cX5_rest 24 = .ok (.ifCond .ne 5, 3) := dk_154 0 5 (dk_at dksX5_rest_1 0 rfl rfl)
theorem dX5_rest_27 : decode cX5_rest 27 = .ok (.iconst (-1), 1) := dk_2 (dk_at dksX5_rest_1 3 rfl rfl)
theorem dX5_rest_28 : decode cX5_rest 28 = .ok (.ireturn, 1) := dk_172 (dk_at dksX5_rest_1 4 rfl rfl)
theorem dX5_rest_29 : decode cX5_rest 29 = .ok (.bipush (-4), 2) := dk_16 252 (dk_at dksX5_rest_1 5 rfl rfl)
theorem dX5_rest_31 : decode cX5_rest 31 = .ok (.istore 4, 2) := dk_54 4 (dk_at dksX5_rest_1 7 rfl rfl)
theorem dX5_rest_33 : decode cX5_rest 33 = .ok (.iconst 0, 1) := dk_3 (dk_at dksX5_rest_1 9 rfl rfl)
theorem dX5_rest_34 : decode cX5_rest 34 = .ok (.istore 5, 2) := dk_54 5 (dk_at dksX5_rest_1 10 rfl rfl)
theorem dX5_rest_36 : decode cX5_rest 36 = .ok (.iload 5, 2) := dk_21 5 (dk_at dksX5_rest_1 12 rfl rfl)
theorem dX5_rest_38 : decode cX5_rest 38 = .ok (.bipush 13, 2) := dk_16 13 (dk_at dksX5_rest_1 14 rfl rfl)
theorem dX5_rest_40 : decode cX5_rest 40 = .ok (.if_icmp .ge 30, 3) := dk_162 0 30 (dk_at dksX5_rest_1 16 rfl rfl)
theorem dX5_rest_43 : decode cX5_rest 43 = .ok (.aload_n 0, 1) := dk_42 (dk_at dksX5_rest_1 19 rfl rfl)
theorem dX5_rest_44 : decode cX5_rest 44 = .ok (.iload_n 1, 1) := dk_27 (dk_at dksX5_rest_1 20 rfl rfl)
theorem dX5_rest_45 : decode cX5_rest 45 = .ok (.iload_n 2, 1) := dk_28 (dk_at dksX5_rest_1 21 rfl rfl)
theorem dX5_rest_46 : decode cX5_rest 46 = .ok (.iload 5, 2) := dk_21 5 (dk_at dksX5_rest_1 22 rfl rfl)
theorem dX5_rest_48 : decode cX5_rest 48 = .ok (.iload_n 3, 1) := dk_29 (dk_at dksX5_rest_2 0 rfl rfl)
theorem dX5_rest_49 : decode cX5_rest 49 = .ok (.invokevirtual 180, 3) := dk_182 0 180 (dk_at dksX5_rest_2 1 rfl rfl)
theorem dX5_rest_52 : decode cX5_rest 52 = .ok (.ifCond .eq 8, 3) := dk_153 0 8 (dk_at dksX5_rest_2 4 rfl rfl)
theorem dX5_rest_55 : decode cX5_rest 55 = .ok (.iload 5, 2) := dk_21 5 (dk_at dksX5_rest_2 7 rfl rfl)
theorem dX5_rest_57 : decode cX5_rest 57 = .ok (.goto 5, 3) := dk_167 0 5 (dk_at dksX5_rest_2 9 rfl rfl)
theorem dX5_rest_60 : decode cX5_rest 60 = .ok (.iload 4, 2) := dk_21 4 (dk_at dksX5_rest_2 12 rfl rfl)
theorem dX5_rest_62 : decode cX5_rest 62 = .ok (.istore 4, 2) := dk_54 4 (dk_at dksX5_rest_2 14 rfl rfl)
theorem dX5_rest_64 : decode cX5_rest 64 = .ok (.iinc 5 1, 3) := dk_132 5 1 (dk_at dksX5_rest_2 16 rfl rfl)
theorem dX5_rest_67 : decode cX5_rest 67 = .ok (.goto (-31), 3) := dk_167 255 225 (dk_at dksX5_rest_2 19 rfl rfl)
theorem dX5_rest_70 : decode cX5_rest 70 = .ok (.iload 4, 2) := dk_21 4 (dk_at dksX5_rest_2 22 rfl rfl)
theorem dX5_rest_72 : decode cX5_rest 72 = .ok (.ireturn, 1) := dk_172 (dk_at dksX5_rest_3 0 rfl rfl)
abbrev cX5_cheaper : ByteArray := prog_21_method_41_code
def yX5_cheaper : MethodName := ⟨RX5, "cheaper", "(I)I"⟩
def dkwX5_cheaper_1 : List UInt8 := [184, 0, 167, 167, 0, 4, 2, 172]
abbrev dktX5_cheaper_1 : List UInt8 := dkwX5_cheaper_1 ++ []
def dkwX5_cheaper_0 : List UInt8 := [27, 184, 0, 112, 153, 0, 24, 42, 180, 0, 7, 6, 46, 27, 184, 0, 116, 42, 27, 182, 0, 184]
abbrev dktX5_cheaper_0 : List UInt8 := dkwX5_cheaper_0 ++ dktX5_cheaper_1
theorem dksX5_cheaper_0 : cX5_cheaper.data.toList.drop 0 = dktX5_cheaper_0 := by decide +kernel
theorem dksX5_cheaper_1 : cX5_cheaper.data.toList.drop 22 = dktX5_cheaper_1 := dk_seg dksX5_cheaper_0 22 rfl rfl
theorem dX5_cheaper_0 : decode cX5_cheaper 0 = .ok (.iload_n 1, 1) := dk_27 (dk_at dksX5_cheaper_0 0 rfl rfl)
theorem dX5_cheaper_1 : decode cX5_cheaper 1 = .ok (.invokestatic 112, 3) := dk_184 0 112 (dk_at dksX5_cheaper_0 1 rfl rfl)
theorem dX5_cheaper_4 : decode cX5_cheaper 4 = .ok (.ifCond .eq 24, 3) := dk_153 0 24 (dk_at dksX5_cheaper_0 4 rfl rfl)
theorem dX5_cheaper_7 : decode cX5_cheaper 7 = .ok (.aload_n 0, 1) := dk_42 (dk_at dksX5_cheaper_0 7 rfl rfl)
theorem dX5_cheaper_8 : decode cX5_cheaper 8 = .ok (.getfield 7, 3) := dk_180 0 7 (dk_at dksX5_cheaper_0 8 rfl rfl)
theorem dX5_cheaper_11 : decode cX5_cheaper 11 = .ok (.iconst 3, 1) := dk_6 (dk_at dksX5_cheaper_0 11 rfl rfl)
theorem dX5_cheaper_12 : decode cX5_cheaper 12 = .ok (.iaload, 1) := dk_46 (dk_at dksX5_cheaper_0 12 rfl rfl)
theorem dX5_cheaper_13 : decode cX5_cheaper 13 = .ok (.iload_n 1, 1) := dk_27 (dk_at dksX5_cheaper_0 13 rfl rfl)
theorem dX5_cheaper_14 : decode cX5_cheaper 14 = .ok (.invokestatic 116, 3) := dk_184 0 116 (dk_at dksX5_cheaper_0 14 rfl rfl)
theorem dX5_cheaper_17 : decode cX5_cheaper 17 = .ok (.aload_n 0, 1) := dk_42 (dk_at dksX5_cheaper_0 17 rfl rfl)
theorem dX5_cheaper_18 : decode cX5_cheaper 18 = .ok (.iload_n 1, 1) := dk_27 (dk_at dksX5_cheaper_0 18 rfl rfl)
theorem dX5_cheaper_19 : decode cX5_cheaper 19 = .ok (.invokevirtual 184, 3) := dk_182 0 184 (dk_at dksX5_cheaper_0 19 rfl rfl)
theorem dX5_cheaper_22 : decode cX5_cheaper 22 = .ok (.invokestatic 167, 3) := dk_184 0 167 (dk_at dksX5_cheaper_1 0 rfl rfl)
theorem dX5_cheaper_25 : decode cX5_cheaper 25 = .ok (.goto 4, 3) := dk_167 0 4 (dk_at dksX5_cheaper_1 3 rfl rfl)
theorem dX5_cheaper_28 : decode cX5_cheaper 28 = .ok (.iconst (-1), 1) := dk_2 (dk_at dksX5_cheaper_1 6 rfl rfl)
theorem dX5_cheaper_29 : decode cX5_cheaper 29 = .ok (.ireturn, 1) := dk_172 (dk_at dksX5_cheaper_1 7 rfl rfl)
abbrev cX5_otherPrice : ByteArray := prog_21_method_40_code
def yX5_otherPrice : MethodName := ⟨RX5, "otherPrice", "(I)I"⟩
def dkwX5_otherPrice_0 : List UInt8 := [42, 180, 0, 7, 6, 46, 27, 16, 60, 96, 17, 2, 208, 112, 184, 0, 116, 172]
abbrev dktX5_otherPrice_0 : List UInt8 := dkwX5_otherPrice_0 ++ []
theorem dksX5_otherPrice_0 : cX5_otherPrice.data.toList.drop 0 = dktX5_otherPrice_0 := by decide +kernel
theorem dX5_otherPrice_0 : decode cX5_otherPrice 0 = .ok (.aload_n 0, 1) := dk_42 (dk_at dksX5_otherPrice_0 0 rfl rfl)
theorem dX5_otherPrice_1 : decode cX5_otherPrice 1 = .ok (.getfield 7, 3) := dk_180 0 7 (dk_at dksX5_otherPrice_0 1 rfl rfl)
theorem dX5_otherPrice_4 : decode cX5_otherPrice 4 = .ok (.iconst 3, 1) := dk_6 (dk_at dksX5_otherPrice_0 4 rfl rfl)
theorem dX5_otherPrice_5 : decode cX5_otherPrice 5 = .ok (.iaload, 1) := dk_46 (dk_at dksX5_otherPrice_0 5 rfl rfl)
theorem dX5_otherPrice_6 : decode cX5_otherPrice 6 = .ok (.iload_n 1, 1) := dk_27 (dk_at dksX5_otherPrice_0 6 rfl rfl)
theorem dX5_otherPrice_7 : decode cX5_otherPrice 7 = .ok (.bipush 60, 2) := dk_16 60 (dk_at dksX5_otherPrice_0 7 rfl rfl)
theorem dX5_otherPrice_9 : decode cX5_otherPrice 9 = .ok (.iadd, 1) := dk_96 (dk_at dksX5_otherPrice_0 9 rfl rfl)
theorem dX5_otherPrice_10 : decode cX5_otherPrice 10 = .ok (.sipush 720, 3) := dk_17 2 208 (dk_at dksX5_otherPrice_0 10 rfl rfl)
theorem dX5_otherPrice_13 : decode cX5_otherPrice 13 = .ok (.irem, 1) := dk_112 (dk_at dksX5_otherPrice_0 13 rfl rfl)
theorem dX5_otherPrice_14 : decode cX5_otherPrice 14 = .ok (.invokestatic 116, 3) := dk_184 0 116 (dk_at dksX5_otherPrice_0 14 rfl rfl)
theorem dX5_otherPrice_17 : decode cX5_otherPrice 17 = .ok (.ireturn, 1) := dk_172 (dk_at dksX5_otherPrice_0 17 rfl rfl)
abbrev cX5_otherCheaper : ByteArray := prog_21_method_42_code
def yX5_otherCheaper : MethodName := ⟨RX5, "otherCheaper", "()I"⟩
def dkwX5_otherCheaper_1 : List UInt8 := [184, 0, 116, 162, 0, 7, 4, 167, 0, 4, 3, 96, 60, 132, 2, 1, 167, 255, 220, 27, 172]
abbrev dktX5_otherCheaper_1 : List UInt8 := dkwX5_otherCheaper_1 ++ []
def dkwX5_otherCheaper_0 : List UInt8 := [3, 60, 3, 61, 28, 17, 2, 207, 163, 0, 35, 27, 42, 28, 182, 0, 184, 42, 180, 0, 7, 6, 46, 28]
abbrev dktX5_otherCheaper_0 : List UInt8 := dkwX5_otherCheaper_0 ++ dktX5_otherCheaper_1
theorem dksX5_otherCheaper_0 : cX5_otherCheaper.data.toList.drop 0 = dktX5_otherCheaper_0 := by decide +kernel
theorem dksX5_otherCheaper_1 : cX5_otherCheaper.data.toList.drop 24 = dktX5_otherCheaper_1 := dk_seg dksX5_otherCheaper_0 24 rfl rfl
theorem dX5_otherCheaper_0 : decode cX5_otherCheaper 0 = .ok (.iconst 0, 1) := dk_3 (dk_at dksX5_otherCheaper_0 0 rfl rfl)
theorem dX5_otherCheaper_1 : decode cX5_otherCheaper 1 = .ok (.istore_n 1, 1) := dk_60 (dk_at dksX5_otherCheaper_0 1 rfl rfl)
theorem dX5_otherCheaper_2 : decode cX5_otherCheaper 2 = .ok (.iconst 0, 1) := dk_3 (dk_at dksX5_otherCheaper_0 2 rfl rfl)
theorem dX5_otherCheaper_3 : decode cX5_otherCheaper 3 = .ok (.istore_n 2, 1) := dk_61 (dk_at dksX5_otherCheaper_0 3 rfl rfl)
theorem dX5_otherCheaper_4 : decode cX5_otherCheaper 4 = .ok (.iload_n 2, 1) := dk_28 (dk_at dksX5_otherCheaper_0 4 rfl rfl)
theorem dX5_otherCheaper_5 : decode cX5_otherCheaper 5 = .ok (.sipush 719, 3) := dk_17 2 207 (dk_at dksX5_otherCheaper_0 5 rfl rfl)
theorem dX5_otherCheaper_8 : decode cX5_otherCheaper 8 = .ok (.if_icmp .gt 35, 3) := dk_163 0 35 (dk_at dksX5_otherCheaper_0 8 rfl rfl)
theorem dX5_otherCheaper_11 : decode cX5_otherCheaper 11 = .ok (.iload_n 1, 1) := dk_27 (dk_at dksX5_otherCheaper_0 11 rfl rfl)
theorem dX5_otherCheaper_12 : decode cX5_otherCheaper 12 = .ok (.aload_n 0, 1) := dk_42 (dk_at dksX5_otherCheaper_0 12 rfl rfl)
theorem dX5_otherCheaper_13 : decode cX5_otherCheaper 13 = .ok (.iload_n 2, 1) := dk_28 (dk_at dksX5_otherCheaper_0 13 rfl rfl)
theorem dX5_otherCheaper_14 : decode cX5_otherCheaper 14 = .ok (.invokevirtual 184, 3) := dk_182 0 184 (dk_at dksX5_otherCheaper_0 14 rfl rfl)
theorem dX5_otherCheaper_17 : decode cX5_otherCheaper 17 = .ok (.aload_n 0, 1) := dk_42 (dk_at dksX5_otherCheaper_0 17 rfl rfl)
theorem dX5_otherCheaper_18 : decode cX5_otherCheaper 18 = .ok (.getfield 7, 3) := dk_180 0 7 (dk_at dksX5_otherCheaper_0 18 rfl rfl)
theorem dX5_otherCheaper_21 : decode cX5_otherCheaper 21 = .ok (.iconst 3, 1) := dk_6 (dk_at dksX5_otherCheaper_0 21 rfl rfl)
theorem dX5_otherCheaper_22 : decode cX5_otherCheaper 22 = .ok (.iaload, 1) := dk_46 (dk_at dksX5_otherCheaper_0 22 rfl rfl)
theorem dX5_otherCheaper_23 : decode cX5_otherCheaper 23 = .ok (.iload_n 2, 1) := dk_28 (dk_at dksX5_otherCheaper_0 23 rfl rfl)
theorem dX5_otherCheaper_24 : decode cX5_otherCheaper 24 = .ok (.invokestatic 116, 3) := dk_184 0 116 (dk_at dksX5_otherCheaper_1 0 rfl rfl)
theorem dX5_otherCheaper_27 : decode cX5_otherCheaper 27 = .ok (.if_icmp .ge 7, 3) := dk_162 0 7 (dk_at dksX5_otherCheaper_1 3 rfl rfl)
theorem dX5_otherCheaper_30 : decode cX5_otherCheaper 30 = .ok (.iconst 1, 1) := dk_4 (dk_at dksX5_otherCheaper_1 6 rfl rfl)
theorem dX5_otherCheaper_31 : decode cX5_otherCheaper 31 = .ok (.goto 4, 3) := dk_167 0 4 (dk_at dksX5_otherCheaper_1 7 rfl rfl)
theorem dX5_otherCheaper_34 : decode cX5_otherCheaper 34 = .ok (.iconst 0, 1) := dk_3 (dk_at dksX5_otherCheaper_1 10 rfl rfl)
theorem dX5_otherCheaper_35 : decode cX5_otherCheaper 35 = .ok (.iadd, 1) := dk_96 (dk_at dksX5_otherCheaper_1 11 rfl rfl)
theorem dX5_otherCheaper_36 : decode cX5_otherCheaper 36 = .ok (.istore_n 1, 1) := dk_60 (dk_at dksX5_otherCheaper_1 12 rfl rfl)
theorem dX5_otherCheaper_37 : decode cX5_otherCheaper 37 = .ok (.iinc 2 1, 3) := dk_132 2 1 (dk_at dksX5_otherCheaper_1 13 rfl rfl)
theorem dX5_otherCheaper_40 : decode cX5_otherCheaper 40 = .ok (.goto (-36), 3) := dk_167 255 220 (dk_at dksX5_otherCheaper_1 16 rfl rfl)
theorem dX5_otherCheaper_43 : decode cX5_otherCheaper 43 = .ok (.iload_n 1, 1) := dk_27 (dk_at dksX5_otherCheaper_1 19 rfl rfl)
theorem dX5_otherCheaper_44 : decode cX5_otherCheaper 44 = .ok (.ireturn, 1) := dk_172 (dk_at dksX5_otherCheaper_1 20 rfl rfl)
abbrev cX5_byLaw : ByteArray := prog_21_method_43_code
def yX5_byLaw : MethodName := ⟨RX5, "byLaw", "(II)I"⟩
def dkwX5_byLaw_2 : List UInt8 := [167, 0, 4, 2, 172]
abbrev dktX5_byLaw_2 : List UInt8 := dkwX5_byLaw_2 ++ []
def dkwX5_byLaw_1 : List UInt8 := [42, 180, 0, 25, 27, 46, 42, 180, 0, 28, 27, 46, 42, 180, 0, 31, 27, 46, 28, 182, 0, 170]
abbrev dktX5_byLaw_1 : List UInt8 := dkwX5_byLaw_1 ++ dktX5_byLaw_2
def dkwX5_byLaw_0 : List UInt8 := [42, 27, 182, 0, 123, 153, 0, 44, 28, 3, 5, 184, 0, 100, 153, 0, 35, 42, 42, 180, 0, 22, 27, 46]
abbrev dktX5_byLaw_0 : List UInt8 := dkwX5_byLaw_0 ++ dktX5_byLaw_1
theorem dksX5_byLaw_0 : cX5_byLaw.data.toList.drop 0 = dktX5_byLaw_0 := by decide +kernel
theorem dksX5_byLaw_1 : cX5_byLaw.data.toList.drop 24 = dktX5_byLaw_1 := dk_seg dksX5_byLaw_0 24 rfl rfl
theorem dksX5_byLaw_2 : cX5_byLaw.data.toList.drop 46 = dktX5_byLaw_2 := dk_seg dksX5_byLaw_1 22 rfl rfl
theorem dX5_byLaw_0 : decode cX5_byLaw 0 = .ok (.aload_n 0, 1) := dk_42 (dk_at dksX5_byLaw_0 0 rfl rfl)
theorem dX5_byLaw_1 : decode cX5_byLaw 1 = .ok (.iload_n 1, 1) := dk_27 (dk_at dksX5_byLaw_0 1 rfl rfl)
theorem dX5_byLaw_2 : decode cX5_byLaw 2 = .ok (.invokevirtual 123, 3) := dk_182 0 123 (dk_at dksX5_byLaw_0 2 rfl rfl)
theorem dX5_byLaw_5 : decode cX5_byLaw 5 = .ok (.ifCond .eq 44, 3) := dk_153 0 44 (dk_at dksX5_byLaw_0 5 rfl rfl)
theorem dX5_byLaw_8 : decode cX5_byLaw 8 = .ok (.iload_n 2, 1) := dk_28 (dk_at dksX5_byLaw_0 8 rfl rfl)
theorem dX5_byLaw_9 : decode cX5_byLaw 9 = .ok (.iconst 0, 1) := dk_3 (dk_at dksX5_byLaw_0 9 rfl rfl)
theorem dX5_byLaw_10 : decode cX5_byLaw 10 = .ok (.iconst 2, 1) := dk_5 (dk_at dksX5_byLaw_0 10 rfl rfl)
theorem dX5_byLaw_11 : decode cX5_byLaw 11 = .ok (.invokestatic 100, 3) := dk_184 0 100 (dk_at dksX5_byLaw_0 11 rfl rfl)
theorem dX5_byLaw_14 : decode cX5_byLaw 14 = .ok (.ifCond .eq 35, 3) := dk_153 0 35 (dk_at dksX5_byLaw_0 14 rfl rfl)
theorem dX5_byLaw_17 : decode cX5_byLaw 17 = .ok (.aload_n 0, 1) := dk_42 (dk_at dksX5_byLaw_0 17 rfl rfl)
theorem dX5_byLaw_18 : decode cX5_byLaw 18 = .ok (.aload_n 0, 1) := dk_42 (dk_at dksX5_byLaw_0 18 rfl rfl)
theorem dX5_byLaw_19 : decode cX5_byLaw 19 = .ok (.getfield 22, 3) := dk_180 0 22 (dk_at dksX5_byLaw_0 19 rfl rfl)
theorem dX5_byLaw_22 : decode cX5_byLaw 22 = .ok (.iload_n 1, 1) := dk_27 (dk_at dksX5_byLaw_0 22 rfl rfl)
theorem dX5_byLaw_23 : decode cX5_byLaw 23 = .ok (.iaload, 1) := dk_46 (dk_at dksX5_byLaw_0 23 rfl rfl)
theorem dX5_byLaw_24 : decode cX5_byLaw 24 = .ok (.aload_n 0, 1) := dk_42 (dk_at dksX5_byLaw_1 0 rfl rfl)
theorem dX5_byLaw_25 : decode cX5_byLaw 25 = .ok (.getfield 25, 3) := dk_180 0 25 (dk_at dksX5_byLaw_1 1 rfl rfl)
theorem dX5_byLaw_28 : decode cX5_byLaw 28 = .ok (.iload_n 1, 1) := dk_27 (dk_at dksX5_byLaw_1 4 rfl rfl)
theorem dX5_byLaw_29 : decode cX5_byLaw 29 = .ok (.iaload, 1) := dk_46 (dk_at dksX5_byLaw_1 5 rfl rfl)
theorem dX5_byLaw_30 : decode cX5_byLaw 30 = .ok (.aload_n 0, 1) := dk_42 (dk_at dksX5_byLaw_1 6 rfl rfl)
theorem dX5_byLaw_31 : decode cX5_byLaw 31 = .ok (.getfield 28, 3) := dk_180 0 28 (dk_at dksX5_byLaw_1 7 rfl rfl)
theorem dX5_byLaw_34 : decode cX5_byLaw 34 = .ok (.iload_n 1, 1) := dk_27 (dk_at dksX5_byLaw_1 10 rfl rfl)
theorem dX5_byLaw_35 : decode cX5_byLaw 35 = .ok (.iaload, 1) := dk_46 (dk_at dksX5_byLaw_1 11 rfl rfl)
theorem dX5_byLaw_36 : decode cX5_byLaw 36 = .ok (.aload_n 0, 1) := dk_42 (dk_at dksX5_byLaw_1 12 rfl rfl)
theorem dX5_byLaw_37 : decode cX5_byLaw 37 = .ok (.getfield 31, 3) := dk_180 0 31 (dk_at dksX5_byLaw_1 13 rfl rfl)
theorem dX5_byLaw_40 : decode cX5_byLaw 40 = .ok (.iload_n 1, 1) := dk_27 (dk_at dksX5_byLaw_1 16 rfl rfl)
theorem dX5_byLaw_41 : decode cX5_byLaw 41 = .ok (.iaload, 1) := dk_46 (dk_at dksX5_byLaw_1 17 rfl rfl)
theorem dX5_byLaw_42 : decode cX5_byLaw 42 = .ok (.iload_n 2, 1) := dk_28 (dk_at dksX5_byLaw_1 18 rfl rfl)
theorem dX5_byLaw_43 : decode cX5_byLaw 43 = .ok (.invokevirtual 170, 3) := dk_182 0 170 (dk_at dksX5_byLaw_1 19 rfl rfl)
theorem dX5_byLaw_46 : decode cX5_byLaw 46 = .ok (.goto 4, 3) := dk_167 0 4 (dk_at dksX5_byLaw_2 0 rfl rfl)
theorem dX5_byLaw_49 : decode cX5_byLaw 49 = .ok (.iconst (-1), 1) := dk_2 (dk_at dksX5_byLaw_2 3 rfl rfl)
theorem dX5_byLaw_50 : decode cX5_byLaw 50 = .ok (.ireturn, 1) := dk_172 (dk_at dksX5_byLaw_2 4 rfl rfl)
abbrev cX5_sum : ByteArray := prog_21_method_44_code
def yX5_sum : MethodName := ⟨RX5, "sum", "()I"⟩
def dkwX5_sum_1 : List UInt8 := [132, 2, 1, 167, 255, 235, 27, 172]
abbrev dktX5_sum_1 : List UInt8 := dkwX5_sum_1 ++ []
def dkwX5_sum_0 : List UInt8 := [3, 60, 3, 61, 28, 42, 180, 0, 7, 4, 46, 162, 0, 17, 27, 42, 28, 182, 0, 174, 96, 60]
abbrev dktX5_sum_0 : List UInt8 := dkwX5_sum_0 ++ dktX5_sum_1
theorem dksX5_sum_0 : cX5_sum.data.toList.drop 0 = dktX5_sum_0 := by decide +kernel
theorem dksX5_sum_1 : cX5_sum.data.toList.drop 22 = dktX5_sum_1 := dk_seg dksX5_sum_0 22 rfl rfl
theorem dX5_sum_0 : decode cX5_sum 0 = .ok (.iconst 0, 1) := dk_3 (dk_at dksX5_sum_0 0 rfl rfl)
theorem dX5_sum_1 : decode cX5_sum 1 = .ok (.istore_n 1, 1) := dk_60 (dk_at dksX5_sum_0 1 rfl rfl)
theorem dX5_sum_2 : decode cX5_sum 2 = .ok (.iconst 0, 1) := dk_3 (dk_at dksX5_sum_0 2 rfl rfl)
theorem dX5_sum_3 : decode cX5_sum 3 = .ok (.istore_n 2, 1) := dk_61 (dk_at dksX5_sum_0 3 rfl rfl)
theorem dX5_sum_4 : decode cX5_sum 4 = .ok (.iload_n 2, 1) := dk_28 (dk_at dksX5_sum_0 4 rfl rfl)
theorem dX5_sum_5 : decode cX5_sum 5 = .ok (.aload_n 0, 1) := dk_42 (dk_at dksX5_sum_0 5 rfl rfl)
theorem dX5_sum_6 : decode cX5_sum 6 = .ok (.getfield 7, 3) := dk_180 0 7 (dk_at dksX5_sum_0 6 rfl rfl)
theorem dX5_sum_9 : decode cX5_sum 9 = .ok (.iconst 1, 1) := dk_4 (dk_at dksX5_sum_0 9 rfl rfl)
theorem dX5_sum_10 : decode cX5_sum 10 = .ok (.iaload, 1) := dk_46 (dk_at dksX5_sum_0 10 rfl rfl)
theorem dX5_sum_11 : decode cX5_sum 11 = .ok (.if_icmp .ge 17, 3) := dk_162 0 17 (dk_at dksX5_sum_0 11 rfl rfl)
theorem dX5_sum_14 : decode cX5_sum 14 = .ok (.iload_n 1, 1) := dk_27 (dk_at dksX5_sum_0 14 rfl rfl)
theorem dX5_sum_15 : decode cX5_sum 15 = .ok (.aload_n 0, 1) := dk_42 (dk_at dksX5_sum_0 15 rfl rfl)
theorem dX5_sum_16 : decode cX5_sum 16 = .ok (.iload_n 2, 1) := dk_28 (dk_at dksX5_sum_0 16 rfl rfl)
theorem dX5_sum_17 : decode cX5_sum 17 = .ok (.invokevirtual 174, 3) := dk_182 0 174 (dk_at dksX5_sum_0 17 rfl rfl)
theorem dX5_sum_20 : decode cX5_sum 20 = .ok (.iadd, 1) := dk_96 (dk_at dksX5_sum_0 20 rfl rfl)
theorem dX5_sum_21 : decode cX5_sum 21 = .ok (.istore_n 1, 1) := dk_60 (dk_at dksX5_sum_0 21 rfl rfl)
theorem dX5_sum_22 : decode cX5_sum 22 = .ok (.iinc 2 1, 3) := dk_132 2 1 (dk_at dksX5_sum_1 0 rfl rfl)
theorem dX5_sum_25 : decode cX5_sum 25 = .ok (.goto (-21), 3) := dk_167 255 235 (dk_at dksX5_sum_1 3 rfl rfl)
theorem dX5_sum_28 : decode cX5_sum 28 = .ok (.iload_n 1, 1) := dk_27 (dk_at dksX5_sum_1 6 rfl rfl)
theorem dX5_sum_29 : decode cX5_sum 29 = .ok (.ireturn, 1) := dk_172 (dk_at dksX5_sum_1 7 rfl rfl)
abbrev cX5_order : ByteArray := prog_21_method_45_code
def yX5_order : MethodName := ⟨RX5, "order", "()I"⟩
def dkwX5_order_5 : List UInt8 := [104, 96, 60, 28, 16, 10, 104, 61, 132, 4, 1, 167, 255, 165, 27, 172]
abbrev dktX5_order_5 : List UInt8 := dkwX5_order_5 ++ []
def dkwX5_order_4 : List UInt8 := [162, 0, 7, 21, 6, 54, 5, 132, 6, 1, 167, 255, 207, 29, 4, 21, 5, 120, 128, 62, 27, 21, 5, 28]
abbrev dktX5_order_4 : List UInt8 := dkwX5_order_4 ++ dktX5_order_5
def dkwX5_order_3 : List UInt8 := [4, 126, 154, 0, 29, 21, 5, 155, 0, 20, 42, 180, 0, 70, 21, 6, 46, 42, 180, 0, 70, 21, 5, 46]
abbrev dktX5_order_3 : List UInt8 := dkwX5_order_3 ++ dktX5_order_4
def dkwX5_order_2 : List UInt8 := [162, 0, 86, 2, 54, 5, 3, 54, 6, 21, 6, 42, 180, 0, 7, 4, 46, 162, 0, 44, 29, 21, 6, 122]
abbrev dktX5_order_2 : List UInt8 := dkwX5_order_2 ++ dktX5_order_3
def dkwX5_order_1 : List UInt8 := [132, 1, 1, 167, 255, 232, 3, 60, 4, 61, 3, 62, 3, 54, 4, 21, 4, 42, 180, 0, 7, 4, 46]
abbrev dktX5_order_1 : List UInt8 := dkwX5_order_1 ++ dktX5_order_2
def dkwX5_order_0 : List UInt8 := [3, 60, 27, 42, 180, 0, 7, 4, 46, 162, 0, 20, 42, 180, 0, 70, 27, 42, 27, 182, 0, 174, 79]
abbrev dktX5_order_0 : List UInt8 := dkwX5_order_0 ++ dktX5_order_1
theorem dksX5_order_0 : cX5_order.data.toList.drop 0 = dktX5_order_0 := by decide +kernel
theorem dksX5_order_1 : cX5_order.data.toList.drop 23 = dktX5_order_1 := dk_seg dksX5_order_0 23 rfl rfl
theorem dksX5_order_2 : cX5_order.data.toList.drop 46 = dktX5_order_2 := dk_seg dksX5_order_1 23 rfl rfl
theorem dksX5_order_3 : cX5_order.data.toList.drop 70 = dktX5_order_3 := dk_seg dksX5_order_2 24 rfl rfl
theorem dksX5_order_4 : cX5_order.data.toList.drop 94 = dktX5_order_4 := dk_seg dksX5_order_3 24 rfl rfl
theorem dksX5_order_5 : cX5_order.data.toList.drop 118 = dktX5_order_5 := dk_seg dksX5_order_4 24 rfl rfl
theorem dX5_order_0 : decode cX5_order 0 = .ok (.iconst 0, 1) := dk_3 (dk_at dksX5_order_0 0 rfl rfl)
theorem dX5_order_1 : decode cX5_order 1 = .ok (.istore_n 1, 1) := dk_60 (dk_at dksX5_order_0 1 rfl rfl)
theorem dX5_order_2 : decode cX5_order 2 = .ok (.iload_n 1, 1) := dk_27 (dk_at dksX5_order_0 2 rfl rfl)
theorem dX5_order_3 : decode cX5_order 3 = .ok (.aload_n 0, 1) := dk_42 (dk_at dksX5_order_0 3 rfl rfl)
theorem dX5_order_4 : decode cX5_order 4 = .ok (.getfield 7, 3) := dk_180 0 7 (dk_at dksX5_order_0 4 rfl rfl)
theorem dX5_order_7 : decode cX5_order 7 = .ok (.iconst 1, 1) := dk_4 (dk_at dksX5_order_0 7 rfl rfl)
theorem dX5_order_8 : decode cX5_order 8 = .ok (.iaload, 1) := dk_46 (dk_at dksX5_order_0 8 rfl rfl)
theorem dX5_order_9 : decode cX5_order 9 = .ok (.if_icmp .ge 20, 3) := dk_162 0 20 (dk_at dksX5_order_0 9 rfl rfl)
theorem dX5_order_12 : decode cX5_order 12 = .ok (.aload_n 0, 1) := dk_42 (dk_at dksX5_order_0 12 rfl rfl)
theorem dX5_order_13 : decode cX5_order 13 = .ok (.getfield 70, 3) := dk_180 0 70 (dk_at dksX5_order_0 13 rfl rfl)
theorem dX5_order_16 : decode cX5_order 16 = .ok (.iload_n 1, 1) := dk_27 (dk_at dksX5_order_0 16 rfl rfl)
theorem dX5_order_17 : decode cX5_order 17 = .ok (.aload_n 0, 1) := dk_42 (dk_at dksX5_order_0 17 rfl rfl)
theorem dX5_order_18 : decode cX5_order 18 = .ok (.iload_n 1, 1) := dk_27 (dk_at dksX5_order_0 18 rfl rfl)
theorem dX5_order_19 : decode cX5_order 19 = .ok (.invokevirtual 174, 3) := dk_182 0 174 (dk_at dksX5_order_0 19 rfl rfl)
theorem dX5_order_22 : decode cX5_order 22 = .ok (.iastore, 1) := dk_79 (dk_at dksX5_order_0 22 rfl rfl)
theorem dX5_order_23 : decode cX5_order 23 = .ok (.iinc 1 1, 3) := dk_132 1 1 (dk_at dksX5_order_1 0 rfl rfl)
theorem dX5_order_26 : decode cX5_order 26 = .ok (.goto (-24), 3) := dk_167 255 232 (dk_at dksX5_order_1 3 rfl rfl)
theorem dX5_order_29 : decode cX5_order 29 = .ok (.iconst 0, 1) := dk_3 (dk_at dksX5_order_1 6 rfl rfl)
theorem dX5_order_30 : decode cX5_order 30 = .ok (.istore_n 1, 1) := dk_60 (dk_at dksX5_order_1 7 rfl rfl)
theorem dX5_order_31 : decode cX5_order 31 = .ok (.iconst 1, 1) := dk_4 (dk_at dksX5_order_1 8 rfl rfl)
theorem dX5_order_32 : decode cX5_order 32 = .ok (.istore_n 2, 1) := dk_61 (dk_at dksX5_order_1 9 rfl rfl)
theorem dX5_order_33 : decode cX5_order 33 = .ok (.iconst 0, 1) := dk_3 (dk_at dksX5_order_1 10 rfl rfl)
theorem dX5_order_34 : decode cX5_order 34 = .ok (.istore_n 3, 1) := dk_62 (dk_at dksX5_order_1 11 rfl rfl)
theorem dX5_order_35 : decode cX5_order 35 = .ok (.iconst 0, 1) := dk_3 (dk_at dksX5_order_1 12 rfl rfl)
theorem dX5_order_36 : decode cX5_order 36 = .ok (.istore 4, 2) := dk_54 4 (dk_at dksX5_order_1 13 rfl rfl)
theorem dX5_order_38 : decode cX5_order 38 = .ok (.iload 4, 2) := dk_21 4 (dk_at dksX5_order_1 15 rfl rfl)
theorem dX5_order_40 : decode cX5_order 40 = .ok (.aload_n 0, 1) := dk_42 (dk_at dksX5_order_1 17 rfl rfl)
theorem dX5_order_41 : decode cX5_order 41 = .ok (.getfield 7, 3) := dk_180 0 7 (dk_at dksX5_order_1 18 rfl rfl)
theorem dX5_order_44 : decode cX5_order 44 = .ok (.iconst 1, 1) := dk_4 (dk_at dksX5_order_1 21 rfl rfl)
theorem dX5_order_45 : decode cX5_order 45 = .ok (.iaload, 1) := dk_46 (dk_at dksX5_order_1 22 rfl rfl)
theorem dX5_order_46 : decode cX5_order 46 = .ok (.if_icmp .ge 86, 3) := dk_162 0 86 (dk_at dksX5_order_2 0 rfl rfl)
theorem dX5_order_49 : decode cX5_order 49 = .ok (.iconst (-1), 1) := dk_2 (dk_at dksX5_order_2 3 rfl rfl)
theorem dX5_order_50 : decode cX5_order 50 = .ok (.istore 5, 2) := dk_54 5 (dk_at dksX5_order_2 4 rfl rfl)
theorem dX5_order_52 : decode cX5_order 52 = .ok (.iconst 0, 1) := dk_3 (dk_at dksX5_order_2 6 rfl rfl)
theorem dX5_order_53 : decode cX5_order 53 = .ok (.istore 6, 2) := dk_54 6 (dk_at dksX5_order_2 7 rfl rfl)
theorem dX5_order_55 : decode cX5_order 55 = .ok (.iload 6, 2) := dk_21 6 (dk_at dksX5_order_2 9 rfl rfl)
theorem dX5_order_57 : decode cX5_order 57 = .ok (.aload_n 0, 1) := dk_42 (dk_at dksX5_order_2 11 rfl rfl)
theorem dX5_order_58 : decode cX5_order 58 = .ok (.getfield 7, 3) := dk_180 0 7 (dk_at dksX5_order_2 12 rfl rfl)
theorem dX5_order_61 : decode cX5_order 61 = .ok (.iconst 1, 1) := dk_4 (dk_at dksX5_order_2 15 rfl rfl)
theorem dX5_order_62 : decode cX5_order 62 = .ok (.iaload, 1) := dk_46 (dk_at dksX5_order_2 16 rfl rfl)
theorem dX5_order_63 : decode cX5_order 63 = .ok (.if_icmp .ge 44, 3) := dk_162 0 44 (dk_at dksX5_order_2 17 rfl rfl)
theorem dX5_order_66 : decode cX5_order 66 = .ok (.iload_n 3, 1) := dk_29 (dk_at dksX5_order_2 20 rfl rfl)
theorem dX5_order_67 : decode cX5_order 67 = .ok (.iload 6, 2) := dk_21 6 (dk_at dksX5_order_2 21 rfl rfl)
theorem dX5_order_69 : decode cX5_order 69 = .ok (.ishr, 1) := dk_122 (dk_at dksX5_order_2 23 rfl rfl)
theorem dX5_order_70 : decode cX5_order 70 = .ok (.iconst 1, 1) := dk_4 (dk_at dksX5_order_3 0 rfl rfl)
theorem dX5_order_71 : decode cX5_order 71 = .ok (.iand, 1) := dk_126 (dk_at dksX5_order_3 1 rfl rfl)
theorem dX5_order_72 : decode cX5_order 72 = .ok (.ifCond .ne 29, 3) := dk_154 0 29 (dk_at dksX5_order_3 2 rfl rfl)
theorem dX5_order_75 : decode cX5_order 75 = .ok (.iload 5, 2) := dk_21 5 (dk_at dksX5_order_3 5 rfl rfl)
theorem dX5_order_77 : decode cX5_order 77 = .ok (.ifCond .lt 20, 3) := dk_155 0 20 (dk_at dksX5_order_3 7 rfl rfl)
theorem dX5_order_80 : decode cX5_order 80 = .ok (.aload_n 0, 1) := dk_42 (dk_at dksX5_order_3 10 rfl rfl)
theorem dX5_order_81 : decode cX5_order 81 = .ok (.getfield 70, 3) := dk_180 0 70 (dk_at dksX5_order_3 11 rfl rfl)
theorem dX5_order_84 : decode cX5_order 84 = .ok (.iload 6, 2) := dk_21 6 (dk_at dksX5_order_3 14 rfl rfl)
theorem dX5_order_86 : decode cX5_order 86 = .ok (.iaload, 1) := dk_46 (dk_at dksX5_order_3 16 rfl rfl)
theorem dX5_order_87 : decode cX5_order 87 = .ok (.aload_n 0, 1) := dk_42 (dk_at dksX5_order_3 17 rfl rfl)
theorem dX5_order_88 : decode cX5_order 88 = .ok (.getfield 70, 3) := dk_180 0 70 (dk_at dksX5_order_3 18 rfl rfl)
theorem dX5_order_91 : decode cX5_order 91 = .ok (.iload 5, 2) := dk_21 5 (dk_at dksX5_order_3 21 rfl rfl)
theorem dX5_order_93 : decode cX5_order 93 = .ok (.iaload, 1) := dk_46 (dk_at dksX5_order_3 23 rfl rfl)
theorem dX5_order_94 : decode cX5_order 94 = .ok (.if_icmp .ge 7, 3) := dk_162 0 7 (dk_at dksX5_order_4 0 rfl rfl)
theorem dX5_order_97 : decode cX5_order 97 = .ok (.iload 6, 2) := dk_21 6 (dk_at dksX5_order_4 3 rfl rfl)
theorem dX5_order_99 : decode cX5_order 99 = .ok (.istore 5, 2) := dk_54 5 (dk_at dksX5_order_4 5 rfl rfl)
theorem dX5_order_101 : decode cX5_order 101 = .ok (.iinc 6 1, 3) := dk_132 6 1 (dk_at dksX5_order_4 7 rfl rfl)
theorem dX5_order_104 : decode cX5_order 104 = .ok (.goto (-49), 3) := dk_167 255 207 (dk_at dksX5_order_4 10 rfl rfl)
theorem dX5_order_107 : decode cX5_order 107 = .ok (.iload_n 3, 1) := dk_29 (dk_at dksX5_order_4 13 rfl rfl)
theorem dX5_order_108 : decode cX5_order 108 = .ok (.iconst 1, 1) := dk_4 (dk_at dksX5_order_4 14 rfl rfl)
theorem dX5_order_109 : decode cX5_order 109 = .ok (.iload 5, 2) := dk_21 5 (dk_at dksX5_order_4 15 rfl rfl)
theorem dX5_order_111 : decode cX5_order 111 = .ok (.ishl, 1) := dk_120 (dk_at dksX5_order_4 17 rfl rfl)
theorem dX5_order_112 : decode cX5_order 112 = .ok (.ior, 1) := dk_128 (dk_at dksX5_order_4 18 rfl rfl)
theorem dX5_order_113 : decode cX5_order 113 = .ok (.istore_n 3, 1) := dk_62 (dk_at dksX5_order_4 19 rfl rfl)
theorem dX5_order_114 : decode cX5_order 114 = .ok (.iload_n 1, 1) := dk_27 (dk_at dksX5_order_4 20 rfl rfl)
theorem dX5_order_115 : decode cX5_order 115 = .ok (.iload 5, 2) := dk_21 5 (dk_at dksX5_order_4 21 rfl rfl)
theorem dX5_order_117 : decode cX5_order 117 = .ok (.iload_n 2, 1) := dk_28 (dk_at dksX5_order_4 23 rfl rfl)
theorem dX5_order_118 : decode cX5_order 118 = .ok (.imul, 1) := dk_104 (dk_at dksX5_order_5 0 rfl rfl)
theorem dX5_order_119 : decode cX5_order 119 = .ok (.iadd, 1) := dk_96 (dk_at dksX5_order_5 1 rfl rfl)
theorem dX5_order_120 : decode cX5_order 120 = .ok (.istore_n 1, 1) := dk_60 (dk_at dksX5_order_5 2 rfl rfl)
theorem dX5_order_121 : decode cX5_order 121 = .ok (.iload_n 2, 1) := dk_28 (dk_at dksX5_order_5 3 rfl rfl)
theorem dX5_order_122 : decode cX5_order 122 = .ok (.bipush 10, 2) := dk_16 10 (dk_at dksX5_order_5 4 rfl rfl)
theorem dX5_order_124 : decode cX5_order 124 = .ok (.imul, 1) := dk_104 (dk_at dksX5_order_5 6 rfl rfl)
theorem dX5_order_125 : decode cX5_order 125 = .ok (.istore_n 2, 1) := dk_61 (dk_at dksX5_order_5 7 rfl rfl)
theorem dX5_order_126 : decode cX5_order 126 = .ok (.iinc 4 1, 3) := dk_132 4 1 (dk_at dksX5_order_5 8 rfl rfl)
theorem dX5_order_129 : decode cX5_order 129 = .ok (.goto (-91), 3) := dk_167 255 165 (dk_at dksX5_order_5 11 rfl rfl)
theorem dX5_order_132 : decode cX5_order 132 = .ok (.iload_n 1, 1) := dk_27 (dk_at dksX5_order_5 14 rfl rfl)
theorem dX5_order_133 : decode cX5_order 133 = .ok (.ireturn, 1) := dk_172 (dk_at dksX5_order_5 15 rfl rfl)
abbrev cX5_seeded : ByteArray := prog_21_method_46_code
def yX5_seeded : MethodName := ⟨RX5, "seeded", "(IIII)I"⟩
def dkwX5_seeded_8 : List UInt8 := [154, 0, 8, 21, 6, 167, 0, 16, 21, 4, 4, 160, 0, 8, 21, 7, 167, 0, 5, 21, 8, 172]
abbrev dktX5_seeded_8 : List UInt8 := dkwX5_seeded_8 ++ []
def dkwX5_seeded_7 : List UInt8 := [42, 180, 0, 149, 158, 0, 7, 4, 167, 0, 4, 3, 96, 54, 8, 132, 9, 1, 167, 255, 121, 21, 4]
abbrev dktX5_seeded_7 : List UInt8 := dkwX5_seeded_7 ++ dktX5_seeded_8
def dkwX5_seeded_6 : List UInt8 := [46, 182, 0, 170, 54, 11, 21, 6, 21, 11, 96, 54, 6, 21, 7, 21, 11, 184, 0, 134, 54, 7, 21, 8]
abbrev dktX5_seeded_6 : List UInt8 := dkwX5_seeded_6 ++ dktX5_seeded_7
def dkwX5_seeded_5 : List UInt8 := [180, 0, 22, 27, 46, 42, 180, 0, 25, 27, 46, 21, 10, 42, 180, 0, 31, 27, 46, 42, 180, 0, 7, 6]
abbrev dktX5_seeded_5 : List UInt8 := dkwX5_seeded_5 ++ dktX5_seeded_6
def dkwX5_seeded_4 : List UInt8 := [16, 236, 167, 0, 17, 21, 10, 16, 20, 164, 0, 8, 16, 20, 167, 0, 5, 21, 10, 54, 10, 42, 42]
abbrev dktX5_seeded_4 : List UInt8 := dkwX5_seeded_4 ++ dktX5_seeded_5
def dkwX5_seeded_3 : List UInt8 := [21, 5, 18, 188, 126, 18, 189, 108, 16, 11, 112, 96, 8, 100, 54, 10, 21, 10, 16, 236, 162, 0, 8]
abbrev dktX5_seeded_3 : List UInt8 := dkwX5_seeded_3 ++ dktX5_seeded_4
def dkwX5_seeded_2 : List UInt8 := [21, 9, 28, 162, 0, 135, 21, 5, 18, 187, 104, 17, 48, 57, 96, 54, 5, 42, 180, 0, 28, 27, 46]
abbrev dktX5_seeded_2 : List UInt8 := dkwX5_seeded_2 ++ dktX5_seeded_3
def dkwX5_seeded_1 : List UInt8 := [184, 0, 100, 154, 0, 5, 2, 172, 29, 54, 5, 3, 54, 6, 3, 54, 7, 3, 54, 8, 3, 54, 9]
abbrev dktX5_seeded_1 : List UInt8 := dkwX5_seeded_1 ++ dktX5_seeded_2
def dkwX5_seeded_0 : List UInt8 := [42, 27, 182, 0, 123, 153, 0, 23, 28, 4, 16, 20, 184, 0, 100, 153, 0, 13, 21, 4, 3, 5]
abbrev dktX5_seeded_0 : List UInt8 := dkwX5_seeded_0 ++ dktX5_seeded_1
theorem dksX5_seeded_0 : cX5_seeded.data.toList.drop 0 = dktX5_seeded_0 := by decide +kernel
theorem dksX5_seeded_1 : cX5_seeded.data.toList.drop 22 = dktX5_seeded_1 := dk_seg dksX5_seeded_0 22 rfl rfl
theorem dksX5_seeded_2 : cX5_seeded.data.toList.drop 45 = dktX5_seeded_2 := dk_seg dksX5_seeded_1 23 rfl rfl
theorem dksX5_seeded_3 : cX5_seeded.data.toList.drop 68 = dktX5_seeded_3 := dk_seg dksX5_seeded_2 23 rfl rfl
theorem dksX5_seeded_4 : cX5_seeded.data.toList.drop 91 = dktX5_seeded_4 := dk_seg dksX5_seeded_3 23 rfl rfl
theorem dksX5_seeded_5 : cX5_seeded.data.toList.drop 114 = dktX5_seeded_5 := dk_seg dksX5_seeded_4 23 rfl rfl
theorem dksX5_seeded_6 : cX5_seeded.data.toList.drop 138 = dktX5_seeded_6 := dk_seg dksX5_seeded_5 24 rfl rfl
theorem dksX5_seeded_7 : cX5_seeded.data.toList.drop 162 = dktX5_seeded_7 := dk_seg dksX5_seeded_6 24 rfl rfl
theorem dksX5_seeded_8 : cX5_seeded.data.toList.drop 185 = dktX5_seeded_8 := dk_seg dksX5_seeded_7 23 rfl rfl
theorem dX5_seeded_0 : decode cX5_seeded 0 = .ok (.aload_n 0, 1) := dk_42 (dk_at dksX5_seeded_0 0 rfl rfl)
theorem dX5_seeded_1 : decode cX5_seeded 1 = .ok (.iload_n 1, 1) := dk_27 (dk_at dksX5_seeded_0 1 rfl rfl)
theorem dX5_seeded_2 : decode cX5_seeded 2 = .ok (.invokevirtual 123, 3) := dk_182 0 123 (dk_at dksX5_seeded_0 2 rfl rfl)
theorem dX5_seeded_5 : decode cX5_seeded 5 = .ok (.ifCond .eq 23, 3) := dk_153 0 23 (dk_at dksX5_seeded_0 5 rfl rfl)
theorem dX5_seeded_8 : decode cX5_seeded 8 = .ok (.iload_n 2, 1) := dk_28 (dk_at dksX5_seeded_0 8 rfl rfl)
theorem dX5_seeded_9 : decode cX5_seeded 9 = .ok (.iconst 1, 1) := dk_4 (dk_at dksX5_seeded_0 9 rfl rfl)
theorem dX5_seeded_10 : decode cX5_seeded 10 = .ok (.bipush 20, 2) := dk_16 20 (dk_at dksX5_seeded_0 10 rfl rfl)
theorem dX5_seeded_12 : decode cX5_seeded 12 = .ok (.invokestatic 100, 3) := dk_184 0 100 (dk_at dksX5_seeded_0 12 rfl rfl)
theorem dX5_seeded_15 : decode cX5_seeded 15 = .ok (.ifCond .eq 13, 3) := dk_153 0 13 (dk_at dksX5_seeded_0 15 rfl rfl)
theorem dX5_seeded_18 : decode cX5_seeded 18 = .ok (.iload 4, 2) := dk_21 4 (dk_at dksX5_seeded_0 18 rfl rfl)
theorem dX5_seeded_20 : decode cX5_seeded 20 = .ok (.iconst 0, 1) := dk_3 (dk_at dksX5_seeded_0 20 rfl rfl)
theorem dX5_seeded_21 : decode cX5_seeded 21 = .ok (.iconst 2, 1) := dk_5 (dk_at dksX5_seeded_0 21 rfl rfl)
theorem dX5_seeded_22 : decode cX5_seeded 22 = .ok (.invokestatic 100, 3) := dk_184 0 100 (dk_at dksX5_seeded_1 0 rfl rfl)
theorem dX5_seeded_25 : decode cX5_seeded 25 = .ok (.ifCond .ne 5, 3) := dk_154 0 5 (dk_at dksX5_seeded_1 3 rfl rfl)
theorem dX5_seeded_28 : decode cX5_seeded 28 = .ok (.iconst (-1), 1) := dk_2 (dk_at dksX5_seeded_1 6 rfl rfl)
theorem dX5_seeded_29 : decode cX5_seeded 29 = .ok (.ireturn, 1) := dk_172 (dk_at dksX5_seeded_1 7 rfl rfl)
theorem dX5_seeded_30 : decode cX5_seeded 30 = .ok (.iload_n 3, 1) := dk_29 (dk_at dksX5_seeded_1 8 rfl rfl)
theorem dX5_seeded_31 : decode cX5_seeded 31 = .ok (.istore 5, 2) := dk_54 5 (dk_at dksX5_seeded_1 9 rfl rfl)
theorem dX5_seeded_33 : decode cX5_seeded 33 = .ok (.iconst 0, 1) := dk_3 (dk_at dksX5_seeded_1 11 rfl rfl)
theorem dX5_seeded_34 : decode cX5_seeded 34 = .ok (.istore 6, 2) := dk_54 6 (dk_at dksX5_seeded_1 12 rfl rfl)
theorem dX5_seeded_36 : decode cX5_seeded 36 = .ok (.iconst 0, 1) := dk_3 (dk_at dksX5_seeded_1 14 rfl rfl)
theorem dX5_seeded_37 : decode cX5_seeded 37 = .ok (.istore 7, 2) := dk_54 7 (dk_at dksX5_seeded_1 15 rfl rfl)
theorem dX5_seeded_39 : decode cX5_seeded 39 = .ok (.iconst 0, 1) := dk_3 (dk_at dksX5_seeded_1 17 rfl rfl)
theorem dX5_seeded_40 : decode cX5_seeded 40 = .ok (.istore 8, 2) := dk_54 8 (dk_at dksX5_seeded_1 18 rfl rfl)
theorem dX5_seeded_42 : decode cX5_seeded 42 = .ok (.iconst 0, 1) := dk_3 (dk_at dksX5_seeded_1 20 rfl rfl)
theorem dX5_seeded_43 : decode cX5_seeded 43 = .ok (.istore 9, 2) := dk_54 9 (dk_at dksX5_seeded_1 21 rfl rfl)
theorem dX5_seeded_45 : decode cX5_seeded 45 = .ok (.iload 9, 2) := dk_21 9 (dk_at dksX5_seeded_2 0 rfl rfl)
theorem dX5_seeded_47 : decode cX5_seeded 47 = .ok (.iload_n 2, 1) := dk_28 (dk_at dksX5_seeded_2 2 rfl rfl)
theorem dX5_seeded_48 : decode cX5_seeded 48 = .ok (.if_icmp .ge 135, 3) := dk_162 0 135 (dk_at dksX5_seeded_2 3 rfl rfl)
theorem dX5_seeded_51 : decode cX5_seeded 51 = .ok (.iload 5, 2) := dk_21 5 (dk_at dksX5_seeded_2 6 rfl rfl)
theorem dX5_seeded_53 : decode cX5_seeded 53 = .ok (.ldc 187, 2) := dk_18 187 (dk_at dksX5_seeded_2 8 rfl rfl)
theorem dX5_seeded_55 : decode cX5_seeded 55 = .ok (.imul, 1) := dk_104 (dk_at dksX5_seeded_2 10 rfl rfl)
theorem dX5_seeded_56 : decode cX5_seeded 56 = .ok (.sipush 12345, 3) := dk_17 48 57 (dk_at dksX5_seeded_2 11 rfl rfl)
theorem dX5_seeded_59 : decode cX5_seeded 59 = .ok (.iadd, 1) := dk_96 (dk_at dksX5_seeded_2 14 rfl rfl)
theorem dX5_seeded_60 : decode cX5_seeded 60 = .ok (.istore 5, 2) := dk_54 5 (dk_at dksX5_seeded_2 15 rfl rfl)
theorem dX5_seeded_62 : decode cX5_seeded 62 = .ok (.aload_n 0, 1) := dk_42 (dk_at dksX5_seeded_2 17 rfl rfl)
theorem dX5_seeded_63 : decode cX5_seeded 63 = .ok (.getfield 28, 3) := dk_180 0 28 (dk_at dksX5_seeded_2 18 rfl rfl)
theorem dX5_seeded_66 : decode cX5_seeded 66 = .ok (.iload_n 1, 1) := dk_27 (dk_at dksX5_seeded_2 21 rfl rfl)
theorem dX5_seeded_67 : decode cX5_seeded 67 = .ok (.iaload, 1) := dk_46 (dk_at dksX5_seeded_2 22 rfl rfl)
theorem dX5_seeded_68 : decode cX5_seeded 68 = .ok (.iload 5, 2) := dk_21 5 (dk_at dksX5_seeded_3 0 rfl rfl)
theorem dX5_seeded_70 : decode cX5_seeded 70 = .ok (.ldc 188, 2) := dk_18 188 (dk_at dksX5_seeded_3 2 rfl rfl)
theorem dX5_seeded_72 : decode cX5_seeded 72 = .ok (.iand, 1) := dk_126 (dk_at dksX5_seeded_3 4 rfl rfl)
theorem dX5_seeded_73 : decode cX5_seeded 73 = .ok (.ldc 189, 2) := dk_18 189 (dk_at dksX5_seeded_3 5 rfl rfl)
theorem dX5_seeded_75 : decode cX5_seeded 75 = .ok (.idiv, 1) := dk_108 (dk_at dksX5_seeded_3 7 rfl rfl)
theorem dX5_seeded_76 : decode cX5_seeded 76 = .ok (.bipush 11, 2) := dk_16 11 (dk_at dksX5_seeded_3 8 rfl rfl)
theorem dX5_seeded_78 : decode cX5_seeded 78 = .ok (.irem, 1) := dk_112 (dk_at dksX5_seeded_3 10 rfl rfl)
theorem dX5_seeded_79 : decode cX5_seeded 79 = .ok (.iadd, 1) := dk_96 (dk_at dksX5_seeded_3 11 rfl rfl)
theorem dX5_seeded_80 : decode cX5_seeded 80 = .ok (.iconst 5, 1) := dk_8 (dk_at dksX5_seeded_3 12 rfl rfl)
theorem dX5_seeded_81 : decode cX5_seeded 81 = .ok (.isub, 1) := dk_100 (dk_at dksX5_seeded_3 13 rfl rfl)
theorem dX5_seeded_82 : decode cX5_seeded 82 = .ok (.istore 10, 2) := dk_54 10 (dk_at dksX5_seeded_3 14 rfl rfl)
theorem dX5_seeded_84 : decode cX5_seeded 84 = .ok (.iload 10, 2) := dk_21 10 (dk_at dksX5_seeded_3 16 rfl rfl)
theorem dX5_seeded_86 : decode cX5_seeded 86 = .ok (.bipush (-20), 2) := dk_16 236 (dk_at dksX5_seeded_3 18 rfl rfl)
theorem dX5_seeded_88 : decode cX5_seeded 88 = .ok (.if_icmp .ge 8, 3) := dk_162 0 8 (dk_at dksX5_seeded_3 20 rfl rfl)
theorem dX5_seeded_91 : decode cX5_seeded 91 = .ok (.bipush (-20), 2) := dk_16 236 (dk_at dksX5_seeded_4 0 rfl rfl)
theorem dX5_seeded_93 : decode cX5_seeded 93 = .ok (.goto 17, 3) := dk_167 0 17 (dk_at dksX5_seeded_4 2 rfl rfl)
theorem dX5_seeded_96 : decode cX5_seeded 96 = .ok (.iload 10, 2) := dk_21 10 (dk_at dksX5_seeded_4 5 rfl rfl)
theorem dX5_seeded_98 : decode cX5_seeded 98 = .ok (.bipush 20, 2) := dk_16 20 (dk_at dksX5_seeded_4 7 rfl rfl)
theorem dX5_seeded_100 : decode cX5_seeded 100 = .ok (.if_icmp .le 8, 3) := dk_164 0 8 (dk_at dksX5_seeded_4 9 rfl rfl)
theorem dX5_seeded_103 : decode cX5_seeded 103 = .ok (.bipush 20, 2) := dk_16 20 (dk_at dksX5_seeded_4 12 rfl rfl)
theorem dX5_seeded_105 : decode cX5_seeded 105 = .ok (.goto 5, 3) := dk_167 0 5 (dk_at dksX5_seeded_4 14 rfl rfl)
theorem dX5_seeded_108 : decode cX5_seeded 108 = .ok (.iload 10, 2) := dk_21 10 (dk_at dksX5_seeded_4 17 rfl rfl)
theorem dX5_seeded_110 : decode cX5_seeded 110 = .ok (.istore 10, 2) := dk_54 10 (dk_at dksX5_seeded_4 19 rfl rfl)
theorem dX5_seeded_112 : decode cX5_seeded 112 = .ok (.aload_n 0, 1) := dk_42 (dk_at dksX5_seeded_4 21 rfl rfl)
theorem dX5_seeded_113 : decode cX5_seeded 113 = .ok (.aload_n 0, 1) := dk_42 (dk_at dksX5_seeded_4 22 rfl rfl)
theorem dX5_seeded_114 : decode cX5_seeded 114 = .ok (.getfield 22, 3) := dk_180 0 22 (dk_at dksX5_seeded_5 0 rfl rfl)
theorem dX5_seeded_117 : decode cX5_seeded 117 = .ok (.iload_n 1, 1) := dk_27 (dk_at dksX5_seeded_5 3 rfl rfl)
theorem dX5_seeded_118 : decode cX5_seeded 118 = .ok (.iaload, 1) := dk_46 (dk_at dksX5_seeded_5 4 rfl rfl)
theorem dX5_seeded_119 : decode cX5_seeded 119 = .ok (.aload_n 0, 1) := dk_42 (dk_at dksX5_seeded_5 5 rfl rfl)
theorem dX5_seeded_120 : decode cX5_seeded 120 = .ok (.getfield 25, 3) := dk_180 0 25 (dk_at dksX5_seeded_5 6 rfl rfl)
theorem dX5_seeded_123 : decode cX5_seeded 123 = .ok (.iload_n 1, 1) := dk_27 (dk_at dksX5_seeded_5 9 rfl rfl)
theorem dX5_seeded_124 : decode cX5_seeded 124 = .ok (.iaload, 1) := dk_46 (dk_at dksX5_seeded_5 10 rfl rfl)
theorem dX5_seeded_125 : decode cX5_seeded 125 = .ok (.iload 10, 2) := dk_21 10 (dk_at dksX5_seeded_5 11 rfl rfl)
theorem dX5_seeded_127 : decode cX5_seeded 127 = .ok (.aload_n 0, 1) := dk_42 (dk_at dksX5_seeded_5 13 rfl rfl)
theorem dX5_seeded_128 : decode cX5_seeded 128 = .ok (.getfield 31, 3) := dk_180 0 31 (dk_at dksX5_seeded_5 14 rfl rfl)
theorem dX5_seeded_131 : decode cX5_seeded 131 = .ok (.iload_n 1, 1) := dk_27 (dk_at dksX5_seeded_5 17 rfl rfl)
theorem dX5_seeded_132 : decode cX5_seeded 132 = .ok (.iaload, 1) := dk_46 (dk_at dksX5_seeded_5 18 rfl rfl)
theorem dX5_seeded_133 : decode cX5_seeded 133 = .ok (.aload_n 0, 1) := dk_42 (dk_at dksX5_seeded_5 19 rfl rfl)
theorem dX5_seeded_134 : decode cX5_seeded 134 = .ok (.getfield 7, 3) := dk_180 0 7 (dk_at dksX5_seeded_5 20 rfl rfl)
theorem dX5_seeded_137 : decode cX5_seeded 137 = .ok (.iconst 3, 1) := dk_6 (dk_at dksX5_seeded_5 23 rfl rfl)
theorem dX5_seeded_138 : decode cX5_seeded 138 = .ok (.iaload, 1) := dk_46 (dk_at dksX5_seeded_6 0 rfl rfl)
theorem dX5_seeded_139 : decode cX5_seeded 139 = .ok (.invokevirtual 170, 3) := dk_182 0 170 (dk_at dksX5_seeded_6 1 rfl rfl)
theorem dX5_seeded_142 : decode cX5_seeded 142 = .ok (.istore 11, 2) := dk_54 11 (dk_at dksX5_seeded_6 4 rfl rfl)
theorem dX5_seeded_144 : decode cX5_seeded 144 = .ok (.iload 6, 2) := dk_21 6 (dk_at dksX5_seeded_6 6 rfl rfl)
theorem dX5_seeded_146 : decode cX5_seeded 146 = .ok (.iload 11, 2) := dk_21 11 (dk_at dksX5_seeded_6 8 rfl rfl)
theorem dX5_seeded_148 : decode cX5_seeded 148 = .ok (.iadd, 1) := dk_96 (dk_at dksX5_seeded_6 10 rfl rfl)
theorem dX5_seeded_149 : decode cX5_seeded 149 = .ok (.istore 6, 2) := dk_54 6 (dk_at dksX5_seeded_6 11 rfl rfl)
theorem dX5_seeded_151 : decode cX5_seeded 151 = .ok (.iload 7, 2) := dk_21 7 (dk_at dksX5_seeded_6 13 rfl rfl)
theorem dX5_seeded_153 : decode cX5_seeded 153 = .ok (.iload 11, 2) := dk_21 11 (dk_at dksX5_seeded_6 15 rfl rfl)
theorem dX5_seeded_155 : decode cX5_seeded 155 = .ok (.invokestatic 134, 3) := dk_184 0 134 (dk_at dksX5_seeded_6 17 rfl rfl)
theorem dX5_seeded_158 : decode cX5_seeded 158 = .ok (.istore 7, 2) := dk_54 7 (dk_at dksX5_seeded_6 20 rfl rfl)
theorem dX5_seeded_160 : decode cX5_seeded 160 = .ok (.iload 8, 2) := dk_21 8 (dk_at dksX5_seeded_6 22 rfl rfl)
theorem dX5_seeded_162 : decode cX5_seeded 162 = .ok (.aload_n 0, 1) := dk_42 (dk_at dksX5_seeded_7 0 rfl rfl)
theorem dX5_seeded_163 : decode cX5_seeded 163 = .ok (.getfield 149, 3) := dk_180 0 149 (dk_at dksX5_seeded_7 1 rfl rfl)
theorem dX5_seeded_166 : decode cX5_seeded 166 = .ok (.ifCond .le 7, 3) := dk_158 0 7 (dk_at dksX5_seeded_7 4 rfl rfl)
theorem dX5_seeded_169 : decode cX5_seeded 169 = .ok (.iconst 1, 1) := dk_4 (dk_at dksX5_seeded_7 7 rfl rfl)
theorem dX5_seeded_170 : decode cX5_seeded 170 = .ok (.goto 4, 3) := dk_167 0 4 (dk_at dksX5_seeded_7 8 rfl rfl)
theorem dX5_seeded_173 : decode cX5_seeded 173 = .ok (.iconst 0, 1) := dk_3 (dk_at dksX5_seeded_7 11 rfl rfl)
theorem dX5_seeded_174 : decode cX5_seeded 174 = .ok (.iadd, 1) := dk_96 (dk_at dksX5_seeded_7 12 rfl rfl)
theorem dX5_seeded_175 : decode cX5_seeded 175 = .ok (.istore 8, 2) := dk_54 8 (dk_at dksX5_seeded_7 13 rfl rfl)
theorem dX5_seeded_177 : decode cX5_seeded 177 = .ok (.iinc 9 1, 3) := dk_132 9 1 (dk_at dksX5_seeded_7 15 rfl rfl)
theorem dX5_seeded_180 : decode cX5_seeded 180 = .ok (.goto (-135), 3) := dk_167 255 121 (dk_at dksX5_seeded_7 18 rfl rfl)
theorem dX5_seeded_183 : decode cX5_seeded 183 = .ok (.iload 4, 2) := dk_21 4 (dk_at dksX5_seeded_7 21 rfl rfl)
theorem dX5_seeded_185 : decode cX5_seeded 185 = .ok (.ifCond .ne 8, 3) := dk_154 0 8 (dk_at dksX5_seeded_8 0 rfl rfl)
theorem dX5_seeded_188 : decode cX5_seeded 188 = .ok (.iload 6, 2) := dk_21 6 (dk_at dksX5_seeded_8 3 rfl rfl)
theorem dX5_seeded_190 : decode cX5_seeded 190 = .ok (.goto 16, 3) := dk_167 0 16 (dk_at dksX5_seeded_8 5 rfl rfl)
theorem dX5_seeded_193 : decode cX5_seeded 193 = .ok (.iload 4, 2) := dk_21 4 (dk_at dksX5_seeded_8 8 rfl rfl)
theorem dX5_seeded_195 : decode cX5_seeded 195 = .ok (.iconst 1, 1) := dk_4 (dk_at dksX5_seeded_8 10 rfl rfl)
theorem dX5_seeded_196 : decode cX5_seeded 196 = .ok (.if_icmp .ne 8, 3) := dk_160 0 8 (dk_at dksX5_seeded_8 11 rfl rfl)
theorem dX5_seeded_199 : decode cX5_seeded 199 = .ok (.iload 7, 2) := dk_21 7 (dk_at dksX5_seeded_8 14 rfl rfl)
theorem dX5_seeded_201 : decode cX5_seeded 201 = .ok (.goto 5, 3) := dk_167 0 5 (dk_at dksX5_seeded_8 16 rfl rfl)
theorem dX5_seeded_204 : decode cX5_seeded 204 = .ok (.iload 8, 2) := dk_21 8 (dk_at dksX5_seeded_8 19 rfl rfl)
theorem dX5_seeded_206 : decode cX5_seeded 206 = .ok (.ireturn, 1) := dk_172 (dk_at dksX5_seeded_8 21 rfl rfl)
abbrev cX5_judge : ByteArray := prog_21_method_47_code
def yX5_judge : MethodName := ⟨RX5, "judge", "(II)I"⟩
def dkwX5_judge_7 : List UInt8 := [162, 0, 12, 42, 180, 0, 82, 28, 46, 167, 0, 5, 16, 252, 172]
abbrev dktX5_judge_7 : List UInt8 := dkwX5_judge_7 ++ []
def dkwX5_judge_6 : List UInt8 := [159, 0, 6, 21, 4, 172, 132, 4, 1, 167, 255, 193, 42, 180, 0, 82, 28, 46, 42, 180, 0, 146]
abbrev dktX5_judge_6 : List UInt8 := dkwX5_judge_6 ++ dktX5_judge_7
def dkwX5_judge_5 : List UInt8 := [104, 21, 4, 96, 46, 54, 5, 21, 5, 29, 159, 0, 18, 21, 5, 42, 180, 0, 64, 21, 4, 46]
abbrev dktX5_judge_5 : List UInt8 := dkwX5_judge_5 ++ dktX5_judge_6
def dkwX5_judge_4 : List UInt8 := [162, 0, 58, 21, 4, 42, 180, 0, 146, 160, 0, 8, 42, 180, 0, 146, 172, 42, 180, 0, 85, 16, 100, 28]
abbrev dktX5_judge_4 : List UInt8 := dkwX5_judge_4 ++ dktX5_judge_5
def dkwX5_judge_3 : List UInt8 := [4, 160, 0, 9, 17, 128, 0, 167, 0, 5, 18, 190, 62, 3, 54, 4, 21, 4, 42, 180, 0, 82, 28, 46]
abbrev dktX5_judge_3 : List UInt8 := dkwX5_judge_3 ++ dktX5_judge_4
def dkwX5_judge_2 : List UInt8 := [182, 0, 174, 87, 42, 180, 0, 79, 28, 46, 154, 0, 8, 16, 128, 167, 0, 21, 42, 180, 0, 79, 28, 46]
abbrev dktX5_judge_2 : List UInt8 := dkwX5_judge_2 ++ dktX5_judge_3
def dkwX5_judge_1 : List UInt8 := [28, 46, 154, 0, 6, 16, 245, 172, 42, 180, 0, 76, 28, 46, 4, 160, 0, 6, 16, 244, 172, 42, 27]
abbrev dktX5_judge_1 : List UInt8 := dkwX5_judge_1 ++ dktX5_judge_2
def dkwX5_judge_0 : List UInt8 := [42, 27, 182, 0, 123, 153, 0, 13, 28, 3, 16, 7, 184, 0, 100, 154, 0, 5, 2, 172, 42, 180, 0, 76]
abbrev dktX5_judge_0 : List UInt8 := dkwX5_judge_0 ++ dktX5_judge_1
theorem dksX5_judge_0 : cX5_judge.data.toList.drop 0 = dktX5_judge_0 := by decide +kernel
theorem dksX5_judge_1 : cX5_judge.data.toList.drop 24 = dktX5_judge_1 := dk_seg dksX5_judge_0 24 rfl rfl
theorem dksX5_judge_2 : cX5_judge.data.toList.drop 47 = dktX5_judge_2 := dk_seg dksX5_judge_1 23 rfl rfl
theorem dksX5_judge_3 : cX5_judge.data.toList.drop 71 = dktX5_judge_3 := dk_seg dksX5_judge_2 24 rfl rfl
theorem dksX5_judge_4 : cX5_judge.data.toList.drop 95 = dktX5_judge_4 := dk_seg dksX5_judge_3 24 rfl rfl
theorem dksX5_judge_5 : cX5_judge.data.toList.drop 119 = dktX5_judge_5 := dk_seg dksX5_judge_4 24 rfl rfl
theorem dksX5_judge_6 : cX5_judge.data.toList.drop 141 = dktX5_judge_6 := dk_seg dksX5_judge_5 22 rfl rfl
theorem dksX5_judge_7 : cX5_judge.data.toList.drop 163 = dktX5_judge_7 := dk_seg dksX5_judge_6 22 rfl rfl
theorem dX5_judge_0 : decode cX5_judge 0 = .ok (.aload_n 0, 1) := dk_42 (dk_at dksX5_judge_0 0 rfl rfl)
theorem dX5_judge_1 : decode cX5_judge 1 = .ok (.iload_n 1, 1) := dk_27 (dk_at dksX5_judge_0 1 rfl rfl)
theorem dX5_judge_2 : decode cX5_judge 2 = .ok (.invokevirtual 123, 3) := dk_182 0 123 (dk_at dksX5_judge_0 2 rfl rfl)
theorem dX5_judge_5 : decode cX5_judge 5 = .ok (.ifCond .eq 13, 3) := dk_153 0 13 (dk_at dksX5_judge_0 5 rfl rfl)
theorem dX5_judge_8 : decode cX5_judge 8 = .ok (.iload_n 2, 1) := dk_28 (dk_at dksX5_judge_0 8 rfl rfl)
theorem dX5_judge_9 : decode cX5_judge 9 = .ok (.iconst 0, 1) := dk_3 (dk_at dksX5_judge_0 9 rfl rfl)
theorem dX5_judge_10 : decode cX5_judge 10 = .ok (.bipush 7, 2) := dk_16 7 (dk_at dksX5_judge_0 10 rfl rfl)
theorem dX5_judge_12 : decode cX5_judge 12 = .ok (.invokestatic 100, 3) := dk_184 0 100 (dk_at dksX5_judge_0 12 rfl rfl)
theorem dX5_judge_15 : decode cX5_judge 15 = .ok (.ifCond .ne 5, 3) := dk_154 0 5 (dk_at dksX5_judge_0 15 rfl rfl)
theorem dX5_judge_18 : decode cX5_judge 18 = .ok (.iconst (-1), 1) := dk_2 (dk_at dksX5_judge_0 18 rfl rfl)
theorem dX5_judge_19 : decode cX5_judge 19 = .ok (.ireturn, 1) := dk_172 (dk_at dksX5_judge_0 19 rfl rfl)
theorem dX5_judge_20 : decode cX5_judge 20 = .ok (.aload_n 0, 1) := dk_42 (dk_at dksX5_judge_0 20 rfl rfl)
theorem dX5_judge_21 : decode cX5_judge 21 = .ok (.getfield 76, 3) := dk_180 0 76 (dk_at dksX5_judge_0 21 rfl rfl)
theorem dX5_judge_24 : decode cX5_judge 24 = .ok (.iload_n 2, 1) := dk_28 (dk_at dksX5_judge_1 0 rfl rfl)
theorem dX5_judge_25 : decode cX5_judge 25 = .ok (.iaload, 1) := dk_46 (dk_at dksX5_judge_1 1 rfl rfl)
theorem dX5_judge_26 : decode cX5_judge 26 = .ok (.ifCond .ne 6, 3) := dk_154 0 6 (dk_at dksX5_judge_1 2 rfl rfl)
theorem dX5_judge_29 : decode cX5_judge 29 = .ok (.bipush (-11), 2) := dk_16 245 (dk_at dksX5_judge_1 5 rfl rfl)
theorem dX5_judge_31 : decode cX5_judge 31 = .ok (.ireturn, 1) := dk_172 (dk_at dksX5_judge_1 7 rfl rfl)
theorem dX5_judge_32 : decode cX5_judge 32 = .ok (.aload_n 0, 1) := dk_42 (dk_at dksX5_judge_1 8 rfl rfl)
theorem dX5_judge_33 : decode cX5_judge 33 = .ok (.getfield 76, 3) := dk_180 0 76 (dk_at dksX5_judge_1 9 rfl rfl)
theorem dX5_judge_36 : decode cX5_judge 36 = .ok (.iload_n 2, 1) := dk_28 (dk_at dksX5_judge_1 12 rfl rfl)
theorem dX5_judge_37 : decode cX5_judge 37 = .ok (.iaload, 1) := dk_46 (dk_at dksX5_judge_1 13 rfl rfl)
theorem dX5_judge_38 : decode cX5_judge 38 = .ok (.iconst 1, 1) := dk_4 (dk_at dksX5_judge_1 14 rfl rfl)
theorem dX5_judge_39 : decode cX5_judge 39 = .ok (.if_icmp .ne 6, 3) := dk_160 0 6 (dk_at dksX5_judge_1 15 rfl rfl)
theorem dX5_judge_42 : decode cX5_judge 42 = .ok (.bipush (-12), 2) := dk_16 244 (dk_at dksX5_judge_1 18 rfl rfl)
theorem dX5_judge_44 : decode cX5_judge 44 = .ok (.ireturn, 1) := dk_172 (dk_at dksX5_judge_1 20 rfl rfl)
theorem dX5_judge_45 : decode cX5_judge 45 = .ok (.aload_n 0, 1) := dk_42 (dk_at dksX5_judge_1 21 rfl rfl)
theorem dX5_judge_46 : decode cX5_judge 46 = .ok (.iload_n 1, 1) := dk_27 (dk_at dksX5_judge_1 22 rfl rfl)
theorem dX5_judge_47 : decode cX5_judge 47 = .ok (.invokevirtual 174, 3) := dk_182 0 174 (dk_at dksX5_judge_2 0 rfl rfl)
theorem dX5_judge_50 : decode cX5_judge 50 = .ok (.pop, 1) := dk_87 (dk_at dksX5_judge_2 3 rfl rfl)
theorem dX5_judge_51 : decode cX5_judge 51 = .ok (.aload_n 0, 1) := dk_42 (dk_at dksX5_judge_2 4 rfl rfl)
theorem dX5_judge_52 : decode cX5_judge 52 = .ok (.getfield 79, 3) := dk_180 0 79 (dk_at dksX5_judge_2 5 rfl rfl)
theorem dX5_judge_55 : decode cX5_judge 55 = .ok (.iload_n 2, 1) := dk_28 (dk_at dksX5_judge_2 8 rfl rfl)
theorem dX5_judge_56 : decode cX5_judge 56 = .ok (.iaload, 1) := dk_46 (dk_at dksX5_judge_2 9 rfl rfl)
theorem dX5_judge_57 : decode cX5_judge 57 = .ok (.ifCond .ne 8, 3) := dk_154 0 8 (dk_at dksX5_judge_2 10 rfl rfl)
theorem dX5_judge_60 : decode cX5_judge 60 = .ok (.bipush (-128), 2) := dk_16 128 (dk_at dksX5_judge_2 13 rfl rfl)
theorem dX5_judge_62 : decode cX5_judge 62 = .ok (.goto 21, 3) := dk_167 0 21 (dk_at dksX5_judge_2 15 rfl rfl)
theorem dX5_judge_65 : decode cX5_judge 65 = .ok (.aload_n 0, 1) := dk_42 (dk_at dksX5_judge_2 18 rfl rfl)
theorem dX5_judge_66 : decode cX5_judge 66 = .ok (.getfield 79, 3) := dk_180 0 79 (dk_at dksX5_judge_2 19 rfl rfl)
theorem dX5_judge_69 : decode cX5_judge 69 = .ok (.iload_n 2, 1) := dk_28 (dk_at dksX5_judge_2 22 rfl rfl)
theorem dX5_judge_70 : decode cX5_judge 70 = .ok (.iaload, 1) := dk_46 (dk_at dksX5_judge_2 23 rfl rfl)
theorem dX5_judge_71 : decode cX5_judge 71 = .ok (.iconst 1, 1) := dk_4 (dk_at dksX5_judge_3 0 rfl rfl)
theorem dX5_judge_72 : decode cX5_judge 72 = .ok (.if_icmp .ne 9, 3) := dk_160 0 9 (dk_at dksX5_judge_3 1 rfl rfl)
theorem dX5_judge_75 : decode cX5_judge 75 = .ok (.sipush (-32768), 3) := dk_17 128 0 (dk_at dksX5_judge_3 4 rfl rfl)
theorem dX5_judge_78 : decode cX5_judge 78 = .ok (.goto 5, 3) := dk_167 0 5 (dk_at dksX5_judge_3 7 rfl rfl)
theorem dX5_judge_81 : decode cX5_judge 81 = .ok (.ldc 190, 2) := dk_18 190 (dk_at dksX5_judge_3 10 rfl rfl)
theorem dX5_judge_83 : decode cX5_judge 83 = .ok (.istore_n 3, 1) := dk_62 (dk_at dksX5_judge_3 12 rfl rfl)
theorem dX5_judge_84 : decode cX5_judge 84 = .ok (.iconst 0, 1) := dk_3 (dk_at dksX5_judge_3 13 rfl rfl)
theorem dX5_judge_85 : decode cX5_judge 85 = .ok (.istore 4, 2) := dk_54 4 (dk_at dksX5_judge_3 14 rfl rfl)
theorem dX5_judge_87 : decode cX5_judge 87 = .ok (.iload 4, 2) := dk_21 4 (dk_at dksX5_judge_3 16 rfl rfl)
theorem dX5_judge_89 : decode cX5_judge 89 = .ok (.aload_n 0, 1) := dk_42 (dk_at dksX5_judge_3 18 rfl rfl)
theorem dX5_judge_90 : decode cX5_judge 90 = .ok (.getfield 82, 3) := dk_180 0 82 (dk_at dksX5_judge_3 19 rfl rfl)
theorem dX5_judge_93 : decode cX5_judge 93 = .ok (.iload_n 2, 1) := dk_28 (dk_at dksX5_judge_3 22 rfl rfl)
theorem dX5_judge_94 : decode cX5_judge 94 = .ok (.iaload, 1) := dk_46 (dk_at dksX5_judge_3 23 rfl rfl)
theorem dX5_judge_95 : decode cX5_judge 95 = .ok (.if_icmp .ge 58, 3) := dk_162 0 58 (dk_at dksX5_judge_4 0 rfl rfl)
theorem dX5_judge_98 : decode cX5_judge 98 = .ok (.iload 4, 2) := dk_21 4 (dk_at dksX5_judge_4 3 rfl rfl)
theorem dX5_judge_100 : decode cX5_judge 100 = .ok (.aload_n 0, 1) := dk_42 (dk_at dksX5_judge_4 5 rfl rfl)
theorem dX5_judge_101 : decode cX5_judge 101 = .ok (.getfield 146, 3) := dk_180 0 146 (dk_at dksX5_judge_4 6 rfl rfl)
theorem dX5_judge_104 : decode cX5_judge 104 = .ok (.if_icmp .ne 8, 3) := dk_160 0 8 (dk_at dksX5_judge_4 9 rfl rfl)
theorem dX5_judge_107 : decode cX5_judge 107 = .ok (.aload_n 0, 1) := dk_42 (dk_at dksX5_judge_4 12 rfl rfl)
theorem dX5_judge_108 : decode cX5_judge 108 = .ok (.getfield 146, 3) := dk_180 0 146 (dk_at dksX5_judge_4 13 rfl rfl)
theorem dX5_judge_111 : decode cX5_judge 111 = .ok (.ireturn, 1) := dk_172 (dk_at dksX5_judge_4 16 rfl rfl)
theorem dX5_judge_112 : decode cX5_judge 112 = .ok (.aload_n 0, 1) := dk_42 (dk_at dksX5_judge_4 17 rfl rfl)
theorem dX5_judge_113 : decode cX5_judge 113 = .ok (.getfield 85, 3) := dk_180 0 85 (dk_at dksX5_judge_4 18 rfl rfl)
theorem dX5_judge_116 : decode cX5_judge 116 = .ok (.bipush 100, 2) := dk_16 100 (dk_at dksX5_judge_4 21 rfl rfl)
theorem dX5_judge_118 : decode cX5_judge 118 = .ok (.iload_n 2, 1) := dk_28 (dk_at dksX5_judge_4 23 rfl rfl)
theorem dX5_judge_119 : decode cX5_judge 119 = .ok (.imul, 1) := dk_104 (dk_at dksX5_judge_5 0 rfl rfl)
theorem dX5_judge_120 : decode cX5_judge 120 = .ok (.iload 4, 2) := dk_21 4 (dk_at dksX5_judge_5 1 rfl rfl)
theorem dX5_judge_122 : decode cX5_judge 122 = .ok (.iadd, 1) := dk_96 (dk_at dksX5_judge_5 3 rfl rfl)
theorem dX5_judge_123 : decode cX5_judge 123 = .ok (.iaload, 1) := dk_46 (dk_at dksX5_judge_5 4 rfl rfl)
theorem dX5_judge_124 : decode cX5_judge 124 = .ok (.istore 5, 2) := dk_54 5 (dk_at dksX5_judge_5 5 rfl rfl)
theorem dX5_judge_126 : decode cX5_judge 126 = .ok (.iload 5, 2) := dk_21 5 (dk_at dksX5_judge_5 7 rfl rfl)
theorem dX5_judge_128 : decode cX5_judge 128 = .ok (.iload_n 3, 1) := dk_29 (dk_at dksX5_judge_5 9 rfl rfl)
theorem dX5_judge_129 : decode cX5_judge 129 = .ok (.if_icmp .eq 18, 3) := dk_159 0 18 (dk_at dksX5_judge_5 10 rfl rfl)
theorem dX5_judge_132 : decode cX5_judge 132 = .ok (.iload 5, 2) := dk_21 5 (dk_at dksX5_judge_5 13 rfl rfl)
theorem dX5_judge_134 : decode cX5_judge 134 = .ok (.aload_n 0, 1) := dk_42 (dk_at dksX5_judge_5 15 rfl rfl)
theorem dX5_judge_135 : decode cX5_judge 135 = .ok (.getfield 64, 3) := dk_180 0 64 (dk_at dksX5_judge_5 16 rfl rfl)
theorem dX5_judge_138 : decode cX5_judge 138 = .ok (.iload 4, 2) := dk_21 4 (dk_at dksX5_judge_5 19 rfl rfl)
theorem dX5_judge_140 : decode cX5_judge 140 = .ok (.iaload, 1) := dk_46 (dk_at dksX5_judge_5 21 rfl rfl)
theorem dX5_judge_141 : decode cX5_judge 141 = .ok (.if_icmp .eq 6, 3) := dk_159 0 6 (dk_at dksX5_judge_6 0 rfl rfl)
theorem dX5_judge_144 : decode cX5_judge 144 = .ok (.iload 4, 2) := dk_21 4 (dk_at dksX5_judge_6 3 rfl rfl)
theorem dX5_judge_146 : decode cX5_judge 146 = .ok (.ireturn, 1) := dk_172 (dk_at dksX5_judge_6 5 rfl rfl)
theorem dX5_judge_147 : decode cX5_judge 147 = .ok (.iinc 4 1, 3) := dk_132 4 1 (dk_at dksX5_judge_6 6 rfl rfl)
theorem dX5_judge_150 : decode cX5_judge 150 = .ok (.goto (-63), 3) := dk_167 255 193 (dk_at dksX5_judge_6 9 rfl rfl)
theorem dX5_judge_153 : decode cX5_judge 153 = .ok (.aload_n 0, 1) := dk_42 (dk_at dksX5_judge_6 12 rfl rfl)
theorem dX5_judge_154 : decode cX5_judge 154 = .ok (.getfield 82, 3) := dk_180 0 82 (dk_at dksX5_judge_6 13 rfl rfl)
theorem dX5_judge_157 : decode cX5_judge 157 = .ok (.iload_n 2, 1) := dk_28 (dk_at dksX5_judge_6 16 rfl rfl)
theorem dX5_judge_158 : decode cX5_judge 158 = .ok (.iaload, 1) := dk_46 (dk_at dksX5_judge_6 17 rfl rfl)
theorem dX5_judge_159 : decode cX5_judge 159 = .ok (.aload_n 0, 1) := dk_42 (dk_at dksX5_judge_6 18 rfl rfl)
theorem dX5_judge_160 : decode cX5_judge 160 = .ok (.getfield 146, 3) := dk_180 0 146 (dk_at dksX5_judge_6 19 rfl rfl)
theorem dX5_judge_163 : decode cX5_judge 163 = .ok (.if_icmp .ge 12, 3) := dk_162 0 12 (dk_at dksX5_judge_7 0 rfl rfl)
theorem dX5_judge_166 : decode cX5_judge 166 = .ok (.aload_n 0, 1) := dk_42 (dk_at dksX5_judge_7 3 rfl rfl)
theorem dX5_judge_167 : decode cX5_judge 167 = .ok (.getfield 82, 3) := dk_180 0 82 (dk_at dksX5_judge_7 4 rfl rfl)
theorem dX5_judge_170 : decode cX5_judge 170 = .ok (.iload_n 2, 1) := dk_28 (dk_at dksX5_judge_7 7 rfl rfl)
theorem dX5_judge_171 : decode cX5_judge 171 = .ok (.iaload, 1) := dk_46 (dk_at dksX5_judge_7 8 rfl rfl)
theorem dX5_judge_172 : decode cX5_judge 172 = .ok (.goto 5, 3) := dk_167 0 5 (dk_at dksX5_judge_7 9 rfl rfl)
theorem dX5_judge_175 : decode cX5_judge 175 = .ok (.bipush (-4), 2) := dk_16 252 (dk_at dksX5_judge_7 12 rfl rfl)
theorem dX5_judge_177 : decode cX5_judge 177 = .ok (.ireturn, 1) := dk_172 (dk_at dksX5_judge_7 14 rfl rfl)
abbrev cX5_count : ByteArray := prog_21_method_48_code
def yX5_count : MethodName := ⟨RX5, "count", "(I)I"⟩
def dkwX5_count_4 : List UInt8 := [167, 255, 234, 28, 172, 42, 180, 0, 7, 6, 46, 172, 2, 172]
abbrev dktX5_count_4 : List UInt8 := dkwX5_count_4 ++ []
def dkwX5_count_3 : List UInt8 := [62, 29, 42, 180, 0, 7, 3, 46, 162, 0, 18, 28, 42, 180, 0, 16, 29, 46, 96, 61, 132, 3, 1]
abbrev dktX5_count_3 : List UInt8 := dkwX5_count_3 ++ dktX5_count_4
def dkwX5_count_2 : List UInt8 := [42, 180, 0, 7, 3, 46, 172, 42, 180, 0, 7, 4, 46, 172, 42, 180, 0, 7, 5, 46, 172, 3, 61, 3]
abbrev dktX5_count_2 : List UInt8 := dkwX5_count_2 ++ dktX5_count_3
def dkwX5_count_1 : List UInt8 := [170, 0, 0, 0, 0, 0, 94, 0, 0, 0, 0, 0, 0, 0, 4, 0, 0, 0, 35, 0, 0, 0, 42, 0, 0, 0, 49, 0, 0, 0, 56, 0, 0, 0, 87]
abbrev dktX5_count_1 : List UInt8 := dkwX5_count_1 ++ dktX5_count_2
def dkwX5_count_0 : List UInt8 := [27]
abbrev dktX5_count_0 : List UInt8 := dkwX5_count_0 ++ dktX5_count_1
theorem dksX5_count_0 : cX5_count.data.toList.drop 0 = dktX5_count_0 := by decide +kernel
theorem dksX5_count_1 : cX5_count.data.toList.drop 1 = dktX5_count_1 := dk_seg dksX5_count_0 1 rfl rfl
theorem dksX5_count_2 : cX5_count.data.toList.drop 36 = dktX5_count_2 := dk_seg dksX5_count_1 35 rfl rfl
theorem dksX5_count_3 : cX5_count.data.toList.drop 60 = dktX5_count_3 := dk_seg dksX5_count_2 24 rfl rfl
theorem dksX5_count_4 : cX5_count.data.toList.drop 83 = dktX5_count_4 := dk_seg dksX5_count_3 23 rfl rfl
theorem dX5_count_0 : decode cX5_count 0 = .ok (.iload_n 1, 1) := dk_27 (dk_at dksX5_count_0 0 rfl rfl)
theorem dX5_count_1 : decode cX5_count 1 = .ok (.tableswitch 94 0 4 #[35, 42, 49, 56, 87], 35) := by decide +kernel
theorem dX5_count_36 : decode cX5_count 36 = .ok (.aload_n 0, 1) := dk_42 (dk_at dksX5_count_2 0 rfl rfl)
theorem dX5_count_37 : decode cX5_count 37 = .ok (.getfield 7, 3) := dk_180 0 7 (dk_at dksX5_count_2 1 rfl rfl)
theorem dX5_count_40 : decode cX5_count 40 = .ok (.iconst 0, 1) := dk_3 (dk_at dksX5_count_2 4 rfl rfl)
theorem dX5_count_41 : decode cX5_count 41 = .ok (.iaload, 1) := dk_46 (dk_at dksX5_count_2 5 rfl rfl)
theorem dX5_count_42 : decode cX5_count 42 = .ok (.ireturn, 1) := dk_172 (dk_at dksX5_count_2 6 rfl rfl)
theorem dX5_count_43 : decode cX5_count 43 = .ok (.aload_n 0, 1) := dk_42 (dk_at dksX5_count_2 7 rfl rfl)
theorem dX5_count_44 : decode cX5_count 44 = .ok (.getfield 7, 3) := dk_180 0 7 (dk_at dksX5_count_2 8 rfl rfl)
theorem dX5_count_47 : decode cX5_count 47 = .ok (.iconst 1, 1) := dk_4 (dk_at dksX5_count_2 11 rfl rfl)
theorem dX5_count_48 : decode cX5_count 48 = .ok (.iaload, 1) := dk_46 (dk_at dksX5_count_2 12 rfl rfl)
theorem dX5_count_49 : decode cX5_count 49 = .ok (.ireturn, 1) := dk_172 (dk_at dksX5_count_2 13 rfl rfl)
theorem dX5_count_50 : decode cX5_count 50 = .ok (.aload_n 0, 1) := dk_42 (dk_at dksX5_count_2 14 rfl rfl)
theorem dX5_count_51 : decode cX5_count 51 = .ok (.getfield 7, 3) := dk_180 0 7 (dk_at dksX5_count_2 15 rfl rfl)
theorem dX5_count_54 : decode cX5_count 54 = .ok (.iconst 2, 1) := dk_5 (dk_at dksX5_count_2 18 rfl rfl)
theorem dX5_count_55 : decode cX5_count 55 = .ok (.iaload, 1) := dk_46 (dk_at dksX5_count_2 19 rfl rfl)
theorem dX5_count_56 : decode cX5_count 56 = .ok (.ireturn, 1) := dk_172 (dk_at dksX5_count_2 20 rfl rfl)
theorem dX5_count_57 : decode cX5_count 57 = .ok (.iconst 0, 1) := dk_3 (dk_at dksX5_count_2 21 rfl rfl)
theorem dX5_count_58 : decode cX5_count 58 = .ok (.istore_n 2, 1) := dk_61 (dk_at dksX5_count_2 22 rfl rfl)
theorem dX5_count_59 : decode cX5_count 59 = .ok (.iconst 0, 1) := dk_3 (dk_at dksX5_count_2 23 rfl rfl)
theorem dX5_count_60 : decode cX5_count 60 = .ok (.istore_n 3, 1) := dk_62 (dk_at dksX5_count_3 0 rfl rfl)
theorem dX5_count_61 : decode cX5_count 61 = .ok (.iload_n 3, 1) := dk_29 (dk_at dksX5_count_3 1 rfl rfl)
theorem dX5_count_62 : decode cX5_count 62 = .ok (.aload_n 0, 1) := dk_42 (dk_at dksX5_count_3 2 rfl rfl)
theorem dX5_count_63 : decode cX5_count 63 = .ok (.getfield 7, 3) := dk_180 0 7 (dk_at dksX5_count_3 3 rfl rfl)
theorem dX5_count_66 : decode cX5_count 66 = .ok (.iconst 0, 1) := dk_3 (dk_at dksX5_count_3 6 rfl rfl)
theorem dX5_count_67 : decode cX5_count 67 = .ok (.iaload, 1) := dk_46 (dk_at dksX5_count_3 7 rfl rfl)
theorem dX5_count_68 : decode cX5_count 68 = .ok (.if_icmp .ge 18, 3) := dk_162 0 18 (dk_at dksX5_count_3 8 rfl rfl)
theorem dX5_count_71 : decode cX5_count 71 = .ok (.iload_n 2, 1) := dk_28 (dk_at dksX5_count_3 11 rfl rfl)
theorem dX5_count_72 : decode cX5_count 72 = .ok (.aload_n 0, 1) := dk_42 (dk_at dksX5_count_3 12 rfl rfl)
theorem dX5_count_73 : decode cX5_count 73 = .ok (.getfield 16, 3) := dk_180 0 16 (dk_at dksX5_count_3 13 rfl rfl)
theorem dX5_count_76 : decode cX5_count 76 = .ok (.iload_n 3, 1) := dk_29 (dk_at dksX5_count_3 16 rfl rfl)
theorem dX5_count_77 : decode cX5_count 77 = .ok (.iaload, 1) := dk_46 (dk_at dksX5_count_3 17 rfl rfl)
theorem dX5_count_78 : decode cX5_count 78 = .ok (.iadd, 1) := dk_96 (dk_at dksX5_count_3 18 rfl rfl)
theorem dX5_count_79 : decode cX5_count 79 = .ok (.istore_n 2, 1) := dk_61 (dk_at dksX5_count_3 19 rfl rfl)
theorem dX5_count_80 : decode cX5_count 80 = .ok (.iinc 3 1, 3) := dk_132 3 1 (dk_at dksX5_count_3 20 rfl rfl)
theorem dX5_count_83 : decode cX5_count 83 = .ok (.goto (-22), 3) := dk_167 255 234 (dk_at dksX5_count_4 0 rfl rfl)
theorem dX5_count_86 : decode cX5_count 86 = .ok (.iload_n 2, 1) := dk_28 (dk_at dksX5_count_4 3 rfl rfl)
theorem dX5_count_87 : decode cX5_count 87 = .ok (.ireturn, 1) := dk_172 (dk_at dksX5_count_4 4 rfl rfl)
theorem dX5_count_88 : decode cX5_count 88 = .ok (.aload_n 0, 1) := dk_42 (dk_at dksX5_count_4 5 rfl rfl)
theorem dX5_count_89 : decode cX5_count 89 = .ok (.getfield 7, 3) := dk_180 0 7 (dk_at dksX5_count_4 6 rfl rfl)
theorem dX5_count_92 : decode cX5_count 92 = .ok (.iconst 3, 1) := dk_6 (dk_at dksX5_count_4 9 rfl rfl)
theorem dX5_count_93 : decode cX5_count 93 = .ok (.iaload, 1) := dk_46 (dk_at dksX5_count_4 10 rfl rfl)
theorem dX5_count_94 : decode cX5_count 94 = .ok (.ireturn, 1) := dk_172 (dk_at dksX5_count_4 11 rfl rfl)
theorem dX5_count_95 : decode cX5_count 95 = .ok (.iconst (-1), 1) := dk_2 (dk_at dksX5_count_4 12 rfl rfl)
theorem dX5_count_96 : decode cX5_count 96 = .ok (.ireturn, 1) := dk_172 (dk_at dksX5_count_4 13 rfl rfl)
abbrev cX5_town : ByteArray := prog_21_method_57_code
def yX5_town : MethodName := ⟨RX5, "town", "(I)I"⟩
def dkwX5_town_2 : List UInt8 := [16, 100, 27, 104, 181, 0, 197, 42, 42, 180, 0, 82, 27, 46, 181, 0, 194, 42, 182, 0, 228, 172]
abbrev dktX5_town_2 : List UInt8 := dkwX5_town_2 ++ []
def dkwX5_town_1 : List UInt8 := [42, 180, 0, 76, 27, 46, 4, 159, 0, 12, 42, 180, 0, 79, 27, 46, 153, 0, 6, 16, 244, 172, 42]
abbrev dktX5_town_1 : List UInt8 := dkwX5_town_1 ++ dktX5_town_2
def dkwX5_town_0 : List UInt8 := [27, 3, 16, 7, 184, 0, 100, 154, 0, 5, 2, 172, 42, 180, 0, 76, 27, 46, 154, 0, 6, 16, 245, 172]
abbrev dktX5_town_0 : List UInt8 := dkwX5_town_0 ++ dktX5_town_1
theorem dksX5_town_0 : cX5_town.data.toList.drop 0 = dktX5_town_0 := by decide +kernel
theorem dksX5_town_1 : cX5_town.data.toList.drop 24 = dktX5_town_1 := dk_seg dksX5_town_0 24 rfl rfl
theorem dksX5_town_2 : cX5_town.data.toList.drop 47 = dktX5_town_2 := dk_seg dksX5_town_1 23 rfl rfl
theorem dX5_town_0 : decode cX5_town 0 = .ok (.iload_n 1, 1) := dk_27 (dk_at dksX5_town_0 0 rfl rfl)
theorem dX5_town_1 : decode cX5_town 1 = .ok (.iconst 0, 1) := dk_3 (dk_at dksX5_town_0 1 rfl rfl)
theorem dX5_town_2 : decode cX5_town 2 = .ok (.bipush 7, 2) := dk_16 7 (dk_at dksX5_town_0 2 rfl rfl)
theorem dX5_town_4 : decode cX5_town 4 = .ok (.invokestatic 100, 3) := dk_184 0 100 (dk_at dksX5_town_0 4 rfl rfl)
theorem dX5_town_7 : decode cX5_town 7 = .ok (.ifCond .ne 5, 3) := dk_154 0 5 (dk_at dksX5_town_0 7 rfl rfl)
theorem dX5_town_10 : decode cX5_town 10 = .ok (.iconst (-1), 1) := dk_2 (dk_at dksX5_town_0 10 rfl rfl)
theorem dX5_town_11 : decode cX5_town 11 = .ok (.ireturn, 1) := dk_172 (dk_at dksX5_town_0 11 rfl rfl)
theorem dX5_town_12 : decode cX5_town 12 = .ok (.aload_n 0, 1) := dk_42 (dk_at dksX5_town_0 12 rfl rfl)
theorem dX5_town_13 : decode cX5_town 13 = .ok (.getfield 76, 3) := dk_180 0 76 (dk_at dksX5_town_0 13 rfl rfl)
theorem dX5_town_16 : decode cX5_town 16 = .ok (.iload_n 1, 1) := dk_27 (dk_at dksX5_town_0 16 rfl rfl)
theorem dX5_town_17 : decode cX5_town 17 = .ok (.iaload, 1) := dk_46 (dk_at dksX5_town_0 17 rfl rfl)
theorem dX5_town_18 : decode cX5_town 18 = .ok (.ifCond .ne 6, 3) := dk_154 0 6 (dk_at dksX5_town_0 18 rfl rfl)
theorem dX5_town_21 : decode cX5_town 21 = .ok (.bipush (-11), 2) := dk_16 245 (dk_at dksX5_town_0 21 rfl rfl)
theorem dX5_town_23 : decode cX5_town 23 = .ok (.ireturn, 1) := dk_172 (dk_at dksX5_town_0 23 rfl rfl)
theorem dX5_town_24 : decode cX5_town 24 = .ok (.aload_n 0, 1) := dk_42 (dk_at dksX5_town_1 0 rfl rfl)
theorem dX5_town_25 : decode cX5_town 25 = .ok (.getfield 76, 3) := dk_180 0 76 (dk_at dksX5_town_1 1 rfl rfl)
theorem dX5_town_28 : decode cX5_town 28 = .ok (.iload_n 1, 1) := dk_27 (dk_at dksX5_town_1 4 rfl rfl)
theorem dX5_town_29 : decode cX5_town 29 = .ok (.iaload, 1) := dk_46 (dk_at dksX5_town_1 5 rfl rfl)
theorem dX5_town_30 : decode cX5_town 30 = .ok (.iconst 1, 1) := dk_4 (dk_at dksX5_town_1 6 rfl rfl)
theorem dX5_town_31 : decode cX5_town 31 = .ok (.if_icmp .eq 12, 3) := dk_159 0 12 (dk_at dksX5_town_1 7 rfl rfl)
theorem dX5_town_34 : decode cX5_town 34 = .ok (.aload_n 0, 1) := dk_42 (dk_at dksX5_town_1 10 rfl rfl)
theorem dX5_town_35 : decode cX5_town 35 = .ok (.getfield 79, 3) := dk_180 0 79 (dk_at dksX5_town_1 11 rfl rfl)
theorem dX5_town_38 : decode cX5_town 38 = .ok (.iload_n 1, 1) := dk_27 (dk_at dksX5_town_1 14 rfl rfl)
theorem dX5_town_39 : decode cX5_town 39 = .ok (.iaload, 1) := dk_46 (dk_at dksX5_town_1 15 rfl rfl)
theorem dX5_town_40 : decode cX5_town 40 = .ok (.ifCond .eq 6, 3) := dk_153 0 6 (dk_at dksX5_town_1 16 rfl rfl)
theorem dX5_town_43 : decode cX5_town 43 = .ok (.bipush (-12), 2) := dk_16 244 (dk_at dksX5_town_1 19 rfl rfl)
theorem dX5_town_45 : decode cX5_town 45 = .ok (.ireturn, 1) := dk_172 (dk_at dksX5_town_1 21 rfl rfl)
theorem dX5_town_46 : decode cX5_town 46 = .ok (.aload_n 0, 1) := dk_42 (dk_at dksX5_town_1 22 rfl rfl)
theorem dX5_town_47 : decode cX5_town 47 = .ok (.bipush 100, 2) := dk_16 100 (dk_at dksX5_town_2 0 rfl rfl)
theorem dX5_town_49 : decode cX5_town 49 = .ok (.iload_n 1, 1) := dk_27 (dk_at dksX5_town_2 2 rfl rfl)
theorem dX5_town_50 : decode cX5_town 50 = .ok (.imul, 1) := dk_104 (dk_at dksX5_town_2 3 rfl rfl)
theorem dX5_town_51 : decode cX5_town 51 = .ok (.putfield 197, 3) := dk_181 0 197 (dk_at dksX5_town_2 4 rfl rfl)
theorem dX5_town_54 : decode cX5_town 54 = .ok (.aload_n 0, 1) := dk_42 (dk_at dksX5_town_2 7 rfl rfl)
theorem dX5_town_55 : decode cX5_town 55 = .ok (.aload_n 0, 1) := dk_42 (dk_at dksX5_town_2 8 rfl rfl)
theorem dX5_town_56 : decode cX5_town 56 = .ok (.getfield 82, 3) := dk_180 0 82 (dk_at dksX5_town_2 9 rfl rfl)
theorem dX5_town_59 : decode cX5_town 59 = .ok (.iload_n 1, 1) := dk_27 (dk_at dksX5_town_2 12 rfl rfl)
theorem dX5_town_60 : decode cX5_town 60 = .ok (.iaload, 1) := dk_46 (dk_at dksX5_town_2 13 rfl rfl)
theorem dX5_town_61 : decode cX5_town 61 = .ok (.putfield 194, 3) := dk_181 0 194 (dk_at dksX5_town_2 14 rfl rfl)
theorem dX5_town_64 : decode cX5_town 64 = .ok (.aload_n 0, 1) := dk_42 (dk_at dksX5_town_2 17 rfl rfl)
theorem dX5_town_65 : decode cX5_town 65 = .ok (.invokevirtual 228, 3) := dk_182 0 228 (dk_at dksX5_town_2 18 rfl rfl)
theorem dX5_town_68 : decode cX5_town 68 = .ok (.ireturn, 1) := dk_172 (dk_at dksX5_town_2 21 rfl rfl)
abbrev cX5_read : ByteArray := prog_21_method_56_code
def yX5_read : MethodName := ⟨RX5, "read", "()I"⟩
def dkwX5_read_10 : List UInt8 := [162, 0, 14, 42, 42, 182, 0, 217, 182, 0, 225, 167, 255, 237, 27, 172]
abbrev dktX5_read_10 : List UInt8 := dkwX5_read_10 ++ []
def dkwX5_read_9 : List UInt8 := [180, 0, 73, 3, 46, 54, 6, 167, 255, 157, 42, 3, 181, 0, 191, 42, 180, 0, 191, 42, 180, 0, 194]
abbrev dktX5_read_9 : List UInt8 := dkwX5_read_9 ++ dktX5_read_10
def dkwX5_read_8 : List UInt8 := [16, 107, 160, 0, 9, 132, 3, 1, 167, 0, 21, 21, 8, 16, 112, 160, 0, 14, 132, 4, 1, 42]
abbrev dktX5_read_8 : List UInt8 := dkwX5_read_8 ++ dktX5_read_9
def dkwX5_read_7 : List UInt8 := [21, 8, 16, 119, 160, 0, 17, 132, 2, 1, 42, 180, 0, 73, 3, 46, 54, 5, 167, 0, 34, 21, 8]
abbrev dktX5_read_7 : List UInt8 := dkwX5_read_7 ++ dktX5_read_8
def dkwX5_read_6 : List UInt8 := [21, 8, 28, 29, 21, 4, 21, 5, 21, 6, 182, 0, 221, 154, 0, 10, 17, 248, 48, 21, 7, 100, 172]
abbrev dktX5_read_6 : List UInt8 := dkwX5_read_6 ++ dktX5_read_7
def dkwX5_read_5 : List UInt8 := [180, 0, 191, 42, 180, 0, 194, 162, 0, 94, 42, 180, 0, 191, 54, 7, 42, 182, 0, 217, 54, 8, 42]
abbrev dktX5_read_5 : List UInt8 := dkwX5_read_5 ++ dktX5_read_6
def dkwX5_read_4 : List UInt8 := [154, 0, 7, 2, 167, 0, 12, 42, 180, 0, 34, 21, 4, 4, 100, 46, 54, 6, 42, 3, 181, 0, 191, 42]
abbrev dktX5_read_4 : List UInt8 := dkwX5_read_4 ++ dktX5_read_5
def dkwX5_read_3 : List UInt8 := [5, 46, 54, 4, 28, 154, 0, 7, 2, 167, 0, 11, 42, 180, 0, 13, 28, 4, 100, 46, 54, 5, 21, 4]
abbrev dktX5_read_3 : List UInt8 := dkwX5_read_3 ++ dktX5_read_4
def dkwX5_read_2 : List UInt8 := [42, 180, 0, 191, 100, 172, 42, 180, 0, 7, 3, 46, 61, 42, 180, 0, 7, 4, 46, 62, 42, 180, 0, 7]
abbrev dktX5_read_2 : List UInt8 := dkwX5_read_2 ++ dktX5_read_3
def dkwX5_read_1 : List UInt8 := [153, 0, 14, 42, 180, 0, 191, 42, 180, 0, 194, 161, 255, 233, 42, 180, 0, 200, 154, 0, 12, 17, 252, 24]
abbrev dktX5_read_1 : List UInt8 := dkwX5_read_1 ++ dktX5_read_2
def dkwX5_read_0 : List UInt8 := [3, 60, 42, 3, 181, 0, 191, 42, 4, 181, 0, 200, 42, 182, 0, 217, 87, 132, 1, 1, 42, 180, 0, 200]
abbrev dktX5_read_0 : List UInt8 := dkwX5_read_0 ++ dktX5_read_1
theorem dksX5_read_0 : cX5_read.data.toList.drop 0 = dktX5_read_0 := by decide +kernel
theorem dksX5_read_1 : cX5_read.data.toList.drop 24 = dktX5_read_1 := dk_seg dksX5_read_0 24 rfl rfl
theorem dksX5_read_2 : cX5_read.data.toList.drop 48 = dktX5_read_2 := dk_seg dksX5_read_1 24 rfl rfl
theorem dksX5_read_3 : cX5_read.data.toList.drop 72 = dktX5_read_3 := dk_seg dksX5_read_2 24 rfl rfl
theorem dksX5_read_4 : cX5_read.data.toList.drop 96 = dktX5_read_4 := dk_seg dksX5_read_3 24 rfl rfl
theorem dksX5_read_5 : cX5_read.data.toList.drop 120 = dktX5_read_5 := dk_seg dksX5_read_4 24 rfl rfl
theorem dksX5_read_6 : cX5_read.data.toList.drop 143 = dktX5_read_6 := dk_seg dksX5_read_5 23 rfl rfl
theorem dksX5_read_7 : cX5_read.data.toList.drop 166 = dktX5_read_7 := dk_seg dksX5_read_6 23 rfl rfl
theorem dksX5_read_8 : cX5_read.data.toList.drop 189 = dktX5_read_8 := dk_seg dksX5_read_7 23 rfl rfl
theorem dksX5_read_9 : cX5_read.data.toList.drop 211 = dktX5_read_9 := dk_seg dksX5_read_8 22 rfl rfl
theorem dksX5_read_10 : cX5_read.data.toList.drop 234 = dktX5_read_10 := dk_seg dksX5_read_9 23 rfl rfl
theorem dX5_read_0 : decode cX5_read 0 = .ok (.iconst 0, 1) := dk_3 (dk_at dksX5_read_0 0 rfl rfl)
theorem dX5_read_1 : decode cX5_read 1 = .ok (.istore_n 1, 1) := dk_60 (dk_at dksX5_read_0 1 rfl rfl)
theorem dX5_read_2 : decode cX5_read 2 = .ok (.aload_n 0, 1) := dk_42 (dk_at dksX5_read_0 2 rfl rfl)
theorem dX5_read_3 : decode cX5_read 3 = .ok (.iconst 0, 1) := dk_3 (dk_at dksX5_read_0 3 rfl rfl)
theorem dX5_read_4 : decode cX5_read 4 = .ok (.putfield 191, 3) := dk_181 0 191 (dk_at dksX5_read_0 4 rfl rfl)
theorem dX5_read_7 : decode cX5_read 7 = .ok (.aload_n 0, 1) := dk_42 (dk_at dksX5_read_0 7 rfl rfl)
theorem dX5_read_8 : decode cX5_read 8 = .ok (.iconst 1, 1) := dk_4 (dk_at dksX5_read_0 8 rfl rfl)
theorem dX5_read_9 : decode cX5_read 9 = .ok (.putfield 200, 3) := dk_181 0 200 (dk_at dksX5_read_0 9 rfl rfl)
theorem dX5_read_12 : decode cX5_read 12 = .ok (.aload_n 0, 1) := dk_42 (dk_at dksX5_read_0 12 rfl rfl)
theorem dX5_read_13 : decode cX5_read 13 = .ok (.invokevirtual 217, 3) := dk_182 0 217 (dk_at dksX5_read_0 13 rfl rfl)
theorem dX5_read_16 : decode cX5_read 16 = .ok (.pop, 1) := dk_87 (dk_at dksX5_read_0 16 rfl rfl)
theorem dX5_read_17 : decode cX5_read 17 = .ok (.iinc 1 1, 3) := dk_132 1 1 (dk_at dksX5_read_0 17 rfl rfl)
theorem dX5_read_20 : decode cX5_read 20 = .ok (.aload_n 0, 1) := dk_42 (dk_at dksX5_read_0 20 rfl rfl)
theorem dX5_read_21 : decode cX5_read 21 = .ok (.getfield 200, 3) := dk_180 0 200 (dk_at dksX5_read_0 21 rfl rfl)
theorem dX5_read_24 : decode cX5_read 24 = .ok (.ifCond .eq 14, 3) := dk_153 0 14 (dk_at dksX5_read_1 0 rfl rfl)
theorem dX5_read_27 : decode cX5_read 27 = .ok (.aload_n 0, 1) := dk_42 (dk_at dksX5_read_1 3 rfl rfl)
theorem dX5_read_28 : decode cX5_read 28 = .ok (.getfield 191, 3) := dk_180 0 191 (dk_at dksX5_read_1 4 rfl rfl)
theorem dX5_read_31 : decode cX5_read 31 = .ok (.aload_n 0, 1) := dk_42 (dk_at dksX5_read_1 7 rfl rfl)
theorem dX5_read_32 : decode cX5_read 32 = .ok (.getfield 194, 3) := dk_180 0 194 (dk_at dksX5_read_1 8 rfl rfl)
theorem dX5_read_35 : decode cX5_read 35 = .ok (.if_icmp .lt (-23), 3) := dk_161 255 233 (dk_at dksX5_read_1 11 rfl rfl)
theorem dX5_read_38 : decode cX5_read 38 = .ok (.aload_n 0, 1) := dk_42 (dk_at dksX5_read_1 14 rfl rfl)
theorem dX5_read_39 : decode cX5_read 39 = .ok (.getfield 200, 3) := dk_180 0 200 (dk_at dksX5_read_1 15 rfl rfl)
theorem dX5_read_42 : decode cX5_read 42 = .ok (.ifCond .ne 12, 3) := dk_154 0 12 (dk_at dksX5_read_1 18 rfl rfl)
theorem dX5_read_45 : decode cX5_read 45 = .ok (.sipush (-1000), 3) := dk_17 252 24 (dk_at dksX5_read_1 21 rfl rfl)
theorem dX5_read_48 : decode cX5_read 48 = .ok (.aload_n 0, 1) := dk_42 (dk_at dksX5_read_2 0 rfl rfl)
theorem dX5_read_49 : decode cX5_read 49 = .ok (.getfield 191, 3) := dk_180 0 191 (dk_at dksX5_read_2 1 rfl rfl)
theorem dX5_read_52 : decode cX5_read 52 = .ok (.isub, 1) := dk_100 (dk_at dksX5_read_2 4 rfl rfl)
theorem dX5_read_53 : decode cX5_read 53 = .ok (.ireturn, 1) := dk_172 (dk_at dksX5_read_2 5 rfl rfl)
theorem dX5_read_54 : decode cX5_read 54 = .ok (.aload_n 0, 1) := dk_42 (dk_at dksX5_read_2 6 rfl rfl)
theorem dX5_read_55 : decode cX5_read 55 = .ok (.getfield 7, 3) := dk_180 0 7 (dk_at dksX5_read_2 7 rfl rfl)
theorem dX5_read_58 : decode cX5_read 58 = .ok (.iconst 0, 1) := dk_3 (dk_at dksX5_read_2 10 rfl rfl)
theorem dX5_read_59 : decode cX5_read 59 = .ok (.iaload, 1) := dk_46 (dk_at dksX5_read_2 11 rfl rfl)
theorem dX5_read_60 : decode cX5_read 60 = .ok (.istore_n 2, 1) := dk_61 (dk_at dksX5_read_2 12 rfl rfl)
theorem dX5_read_61 : decode cX5_read 61 = .ok (.aload_n 0, 1) := dk_42 (dk_at dksX5_read_2 13 rfl rfl)
theorem dX5_read_62 : decode cX5_read 62 = .ok (.getfield 7, 3) := dk_180 0 7 (dk_at dksX5_read_2 14 rfl rfl)
theorem dX5_read_65 : decode cX5_read 65 = .ok (.iconst 1, 1) := dk_4 (dk_at dksX5_read_2 17 rfl rfl)
theorem dX5_read_66 : decode cX5_read 66 = .ok (.iaload, 1) := dk_46 (dk_at dksX5_read_2 18 rfl rfl)
theorem dX5_read_67 : decode cX5_read 67 = .ok (.istore_n 3, 1) := dk_62 (dk_at dksX5_read_2 19 rfl rfl)
theorem dX5_read_68 : decode cX5_read 68 = .ok (.aload_n 0, 1) := dk_42 (dk_at dksX5_read_2 20 rfl rfl)
theorem dX5_read_69 : decode cX5_read 69 = .ok (.getfield 7, 3) := dk_180 0 7 (dk_at dksX5_read_2 21 rfl rfl)
theorem dX5_read_72 : decode cX5_read 72 = .ok (.iconst 2, 1) := dk_5 (dk_at dksX5_read_3 0 rfl rfl)
theorem dX5_read_73 : decode cX5_read 73 = .ok (.iaload, 1) := dk_46 (dk_at dksX5_read_3 1 rfl rfl)
theorem dX5_read_74 : decode cX5_read 74 = .ok (.istore 4, 2) := dk_54 4 (dk_at dksX5_read_3 2 rfl rfl)
theorem dX5_read_76 : decode cX5_read 76 = .ok (.iload_n 2, 1) := dk_28 (dk_at dksX5_read_3 4 rfl rfl)
theorem dX5_read_77 : decode cX5_read 77 = .ok (.ifCond .ne 7, 3) := dk_154 0 7 (dk_at dksX5_read_3 5 rfl rfl)
theorem dX5_read_80 : decode cX5_read 80 = .ok (.iconst (-1), 1) := dk_2 (dk_at dksX5_read_3 8 rfl rfl)
theorem dX5_read_81 : decode cX5_read 81 = .ok (.goto 11, 3) := dk_167 0 11 (dk_at dksX5_read_3 9 rfl rfl)
theorem dX5_read_84 : decode cX5_read 84 = .ok (.aload_n 0, 1) := dk_42 (dk_at dksX5_read_3 12 rfl rfl)
theorem dX5_read_85 : decode cX5_read 85 = .ok (.getfield 13, 3) := dk_180 0 13 (dk_at dksX5_read_3 13 rfl rfl)
theorem dX5_read_88 : decode cX5_read 88 = .ok (.iload_n 2, 1) := dk_28 (dk_at dksX5_read_3 16 rfl rfl)
theorem dX5_read_89 : decode cX5_read 89 = .ok (.iconst 1, 1) := dk_4 (dk_at dksX5_read_3 17 rfl rfl)
theorem dX5_read_90 : decode cX5_read 90 = .ok (.isub, 1) := dk_100 (dk_at dksX5_read_3 18 rfl rfl)
theorem dX5_read_91 : decode cX5_read 91 = .ok (.iaload, 1) := dk_46 (dk_at dksX5_read_3 19 rfl rfl)
theorem dX5_read_92 : decode cX5_read 92 = .ok (.istore 5, 2) := dk_54 5 (dk_at dksX5_read_3 20 rfl rfl)
theorem dX5_read_94 : decode cX5_read 94 = .ok (.iload 4, 2) := dk_21 4 (dk_at dksX5_read_3 22 rfl rfl)
theorem dX5_read_96 : decode cX5_read 96 = .ok (.ifCond .ne 7, 3) := dk_154 0 7 (dk_at dksX5_read_4 0 rfl rfl)
theorem dX5_read_99 : decode cX5_read 99 = .ok (.iconst (-1), 1) := dk_2 (dk_at dksX5_read_4 3 rfl rfl)
theorem dX5_read_100 : decode cX5_read 100 = .ok (.goto 12, 3) := dk_167 0 12 (dk_at dksX5_read_4 4 rfl rfl)
theorem dX5_read_103 : decode cX5_read 103 = .ok (.aload_n 0, 1) := dk_42 (dk_at dksX5_read_4 7 rfl rfl)
theorem dX5_read_104 : decode cX5_read 104 = .ok (.getfield 34, 3) := dk_180 0 34 (dk_at dksX5_read_4 8 rfl rfl)
theorem dX5_read_107 : decode cX5_read 107 = .ok (.iload 4, 2) := dk_21 4 (dk_at dksX5_read_4 11 rfl rfl)
theorem dX5_read_109 : decode cX5_read 109 = .ok (.iconst 1, 1) := dk_4 (dk_at dksX5_read_4 13 rfl rfl)
theorem dX5_read_110 : decode cX5_read 110 = .ok (.isub, 1) := dk_100 (dk_at dksX5_read_4 14 rfl rfl)
theorem dX5_read_111 : decode cX5_read 111 = .ok (.iaload, 1) := dk_46 (dk_at dksX5_read_4 15 rfl rfl)
theorem dX5_read_112 : decode cX5_read 112 = .ok (.istore 6, 2) := dk_54 6 (dk_at dksX5_read_4 16 rfl rfl)
theorem dX5_read_114 : decode cX5_read 114 = .ok (.aload_n 0, 1) := dk_42 (dk_at dksX5_read_4 18 rfl rfl)
theorem dX5_read_115 : decode cX5_read 115 = .ok (.iconst 0, 1) := dk_3 (dk_at dksX5_read_4 19 rfl rfl)
theorem dX5_read_116 : decode cX5_read 116 = .ok (.putfield 191, 3) := dk_181 0 191 (dk_at dksX5_read_4 20 rfl rfl)
theorem dX5_read_119 : decode cX5_read 119 = .ok (.aload_n 0, 1) := dk_42 (dk_at dksX5_read_4 23 rfl rfl)
theorem dX5_read_120 : decode cX5_read 120 = .ok (.getfield 191, 3) := dk_180 0 191 (dk_at dksX5_read_5 0 rfl rfl)
theorem dX5_read_123 : decode cX5_read 123 = .ok (.aload_n 0, 1) := dk_42 (dk_at dksX5_read_5 3 rfl rfl)
theorem dX5_read_124 : decode cX5_read 124 = .ok (.getfield 194, 3) := dk_180 0 194 (dk_at dksX5_read_5 4 rfl rfl)
theorem dX5_read_127 : decode cX5_read 127 = .ok (.if_icmp .ge 94, 3) := dk_162 0 94 (dk_at dksX5_read_5 7 rfl rfl)
theorem dX5_read_130 : decode cX5_read 130 = .ok (.aload_n 0, 1) := dk_42 (dk_at dksX5_read_5 10 rfl rfl)
theorem dX5_read_131 : decode cX5_read 131 = .ok (.getfield 191, 3) := dk_180 0 191 (dk_at dksX5_read_5 11 rfl rfl)
theorem dX5_read_134 : decode cX5_read 134 = .ok (.istore 7, 2) := dk_54 7 (dk_at dksX5_read_5 14 rfl rfl)
theorem dX5_read_136 : decode cX5_read 136 = .ok (.aload_n 0, 1) := dk_42 (dk_at dksX5_read_5 16 rfl rfl)
theorem dX5_read_137 : decode cX5_read 137 = .ok (.invokevirtual 217, 3) := dk_182 0 217 (dk_at dksX5_read_5 17 rfl rfl)
theorem dX5_read_140 : decode cX5_read 140 = .ok (.istore 8, 2) := dk_54 8 (dk_at dksX5_read_5 20 rfl rfl)
theorem dX5_read_142 : decode cX5_read 142 = .ok (.aload_n 0, 1) := dk_42 (dk_at dksX5_read_5 22 rfl rfl)
theorem dX5_read_143 : decode cX5_read 143 = .ok (.iload 8, 2) := dk_21 8 (dk_at dksX5_read_6 0 rfl rfl)
theorem dX5_read_145 : decode cX5_read 145 = .ok (.iload_n 2, 1) := dk_28 (dk_at dksX5_read_6 2 rfl rfl)
theorem dX5_read_146 : decode cX5_read 146 = .ok (.iload_n 3, 1) := dk_29 (dk_at dksX5_read_6 3 rfl rfl)
theorem dX5_read_147 : decode cX5_read 147 = .ok (.iload 4, 2) := dk_21 4 (dk_at dksX5_read_6 4 rfl rfl)
theorem dX5_read_149 : decode cX5_read 149 = .ok (.iload 5, 2) := dk_21 5 (dk_at dksX5_read_6 6 rfl rfl)
theorem dX5_read_151 : decode cX5_read 151 = .ok (.iload 6, 2) := dk_21 6 (dk_at dksX5_read_6 8 rfl rfl)
theorem dX5_read_153 : decode cX5_read 153 = .ok (.invokevirtual 221, 3) := dk_182 0 221 (dk_at dksX5_read_6 10 rfl rfl)
theorem dX5_read_156 : decode cX5_read 156 = .ok (.ifCond .ne 10, 3) := dk_154 0 10 (dk_at dksX5_read_6 13 rfl rfl)
theorem dX5_read_159 : decode cX5_read 159 = .ok (.sipush (-2000), 3) := dk_17 248 48 (dk_at dksX5_read_6 16 rfl rfl)
theorem dX5_read_162 : decode cX5_read 162 = .ok (.iload 7, 2) := dk_21 7 (dk_at dksX5_read_6 19 rfl rfl)
theorem dX5_read_164 : decode cX5_read 164 = .ok (.isub, 1) := dk_100 (dk_at dksX5_read_6 21 rfl rfl)
theorem dX5_read_165 : decode cX5_read 165 = .ok (.ireturn, 1) := dk_172 (dk_at dksX5_read_6 22 rfl rfl)
theorem dX5_read_166 : decode cX5_read 166 = .ok (.iload 8, 2) := dk_21 8 (dk_at dksX5_read_7 0 rfl rfl)
theorem dX5_read_168 : decode cX5_read 168 = .ok (.bipush 119, 2) := dk_16 119 (dk_at dksX5_read_7 2 rfl rfl)
theorem dX5_read_170 : decode cX5_read 170 = .ok (.if_icmp .ne 17, 3) := dk_160 0 17 (dk_at dksX5_read_7 4 rfl rfl)
theorem dX5_read_173 : decode cX5_read 173 = .ok (.iinc 2 1, 3) := dk_132 2 1 (dk_at dksX5_read_7 7 rfl rfl)
theorem dX5_read_176 : decode cX5_read 176 = .ok (.aload_n 0, 1) := dk_42 (dk_at dksX5_read_7 10 rfl rfl)
theorem dX5_read_177 : decode cX5_read 177 = .ok (.getfield 73, 3) := dk_180 0 73 (dk_at dksX5_read_7 11 rfl rfl)
theorem dX5_read_180 : decode cX5_read 180 = .ok (.iconst 0, 1) := dk_3 (dk_at dksX5_read_7 14 rfl rfl)
theorem dX5_read_181 : decode cX5_read 181 = .ok (.iaload, 1) := dk_46 (dk_at dksX5_read_7 15 rfl rfl)
theorem dX5_read_182 : decode cX5_read 182 = .ok (.istore 5, 2) := dk_54 5 (dk_at dksX5_read_7 16 rfl rfl)
theorem dX5_read_184 : decode cX5_read 184 = .ok (.goto 34, 3) := dk_167 0 34 (dk_at dksX5_read_7 18 rfl rfl)
theorem dX5_read_187 : decode cX5_read 187 = .ok (.iload 8, 2) := dk_21 8 (dk_at dksX5_read_7 21 rfl rfl)
theorem dX5_read_189 : decode cX5_read 189 = .ok (.bipush 107, 2) := dk_16 107 (dk_at dksX5_read_8 0 rfl rfl)
theorem dX5_read_191 : decode cX5_read 191 = .ok (.if_icmp .ne 9, 3) := dk_160 0 9 (dk_at dksX5_read_8 2 rfl rfl)
theorem dX5_read_194 : decode cX5_read 194 = .ok (.iinc 3 1, 3) := dk_132 3 1 (dk_at dksX5_read_8 5 rfl rfl)
theorem dX5_read_197 : decode cX5_read 197 = .ok (.goto 21, 3) := dk_167 0 21 (dk_at dksX5_read_8 8 rfl rfl)
theorem dX5_read_200 : decode cX5_read 200 = .ok (.iload 8, 2) := dk_21 8 (dk_at dksX5_read_8 11 rfl rfl)
theorem dX5_read_202 : decode cX5_read 202 = .ok (.bipush 112, 2) := dk_16 112 (dk_at dksX5_read_8 13 rfl rfl)
theorem dX5_read_204 : decode cX5_read 204 = .ok (.if_icmp .ne 14, 3) := dk_160 0 14 (dk_at dksX5_read_8 15 rfl rfl)
theorem dX5_read_207 : decode cX5_read 207 = .ok (.iinc 4 1, 3) := dk_132 4 1 (dk_at dksX5_read_8 18 rfl rfl)
theorem dX5_read_210 : decode cX5_read 210 = .ok (.aload_n 0, 1) := dk_42 (dk_at dksX5_read_8 21 rfl rfl)
theorem dX5_read_211 : decode cX5_read 211 = .ok (.getfield 73, 3) := dk_180 0 73 (dk_at dksX5_read_9 0 rfl rfl)
theorem dX5_read_214 : decode cX5_read 214 = .ok (.iconst 0, 1) := dk_3 (dk_at dksX5_read_9 3 rfl rfl)
theorem dX5_read_215 : decode cX5_read 215 = .ok (.iaload, 1) := dk_46 (dk_at dksX5_read_9 4 rfl rfl)
theorem dX5_read_216 : decode cX5_read 216 = .ok (.istore 6, 2) := dk_54 6 (dk_at dksX5_read_9 5 rfl rfl)
theorem dX5_read_218 : decode cX5_read 218 = .ok (.goto (-99), 3) := dk_167 255 157 (dk_at dksX5_read_9 7 rfl rfl)
theorem dX5_read_221 : decode cX5_read 221 = .ok (.aload_n 0, 1) := dk_42 (dk_at dksX5_read_9 10 rfl rfl)
theorem dX5_read_222 : decode cX5_read 222 = .ok (.iconst 0, 1) := dk_3 (dk_at dksX5_read_9 11 rfl rfl)
theorem dX5_read_223 : decode cX5_read 223 = .ok (.putfield 191, 3) := dk_181 0 191 (dk_at dksX5_read_9 12 rfl rfl)
theorem dX5_read_226 : decode cX5_read 226 = .ok (.aload_n 0, 1) := dk_42 (dk_at dksX5_read_9 15 rfl rfl)
theorem dX5_read_227 : decode cX5_read 227 = .ok (.getfield 191, 3) := dk_180 0 191 (dk_at dksX5_read_9 16 rfl rfl)
theorem dX5_read_230 : decode cX5_read 230 = .ok (.aload_n 0, 1) := dk_42 (dk_at dksX5_read_9 19 rfl rfl)
theorem dX5_read_231 : decode cX5_read 231 = .ok (.getfield 194, 3) := dk_180 0 194 (dk_at dksX5_read_9 20 rfl rfl)
theorem dX5_read_234 : decode cX5_read 234 = .ok (.if_icmp .ge 14, 3) := dk_162 0 14 (dk_at dksX5_read_10 0 rfl rfl)
theorem dX5_read_237 : decode cX5_read 237 = .ok (.aload_n 0, 1) := dk_42 (dk_at dksX5_read_10 3 rfl rfl)
theorem dX5_read_238 : decode cX5_read 238 = .ok (.aload_n 0, 1) := dk_42 (dk_at dksX5_read_10 4 rfl rfl)
theorem dX5_read_239 : decode cX5_read 239 = .ok (.invokevirtual 217, 3) := dk_182 0 217 (dk_at dksX5_read_10 5 rfl rfl)
theorem dX5_read_242 : decode cX5_read 242 = .ok (.invokevirtual 225, 3) := dk_182 0 225 (dk_at dksX5_read_10 8 rfl rfl)
theorem dX5_read_245 : decode cX5_read 245 = .ok (.goto (-19), 3) := dk_167 255 237 (dk_at dksX5_read_10 11 rfl rfl)
theorem dX5_read_248 : decode cX5_read 248 = .ok (.iload_n 1, 1) := dk_27 (dk_at dksX5_read_10 14 rfl rfl)
theorem dX5_read_249 : decode cX5_read 249 = .ok (.ireturn, 1) := dk_172 (dk_at dksX5_read_10 15 rfl rfl)
abbrev cX5_statement : ByteArray := prog_21_method_53_code
def yX5_statement : MethodName := ⟨RX5, "statement", "()I"⟩
def dkwX5_statement_11 : List UInt8 := [16, 59, 182, 0, 213, 27, 172]
abbrev dktX5_statement_11 : List UInt8 := dkwX5_statement_11 ++ []
def dkwX5_statement_10 : List UInt8 := [182, 0, 210, 79, 167, 0, 18, 42, 89, 180, 0, 191, 4, 100, 181, 0, 191, 42, 3, 181, 0, 200, 42]
abbrev dktX5_statement_10 : List UInt8 := dkwX5_statement_10 ++ dktX5_statement_11
def dkwX5_statement_9 : List UInt8 := [42, 4, 182, 0, 210, 79, 167, 0, 38, 27, 16, 112, 160, 0, 17, 42, 180, 0, 73, 3, 42, 6]
abbrev dktX5_statement_9 : List UInt8 := dkwX5_statement_9 ++ dktX5_statement_10
def dkwX5_statement_8 : List UInt8 := [180, 0, 73, 6, 42, 6, 182, 0, 210, 79, 167, 0, 58, 27, 16, 108, 160, 0, 17, 42, 180, 0, 73, 3]
abbrev dktX5_statement_8 : List UInt8 := dkwX5_statement_8 ++ dktX5_statement_9
def dkwX5_statement_7 : List UInt8 := [180, 0, 73, 5, 28, 153, 0, 8, 29, 116, 167, 0, 4, 29, 79, 42, 16, 32, 182, 0, 213, 42]
abbrev dktX5_statement_7 : List UInt8 := dkwX5_statement_7 ++ dktX5_statement_8
def dkwX5_statement_6 : List UInt8 := [3, 61, 42, 28, 153, 0, 8, 16, 45, 167, 0, 5, 16, 43, 182, 0, 213, 42, 5, 182, 0, 210, 62, 42]
abbrev dktX5_statement_6 : List UInt8 := dkwX5_statement_6 ++ dktX5_statement_7
def dkwX5_statement_5 : List UInt8 := [182, 0, 210, 79, 42, 180, 0, 200, 153, 0, 16, 42, 16, 45, 182, 0, 203, 153, 0, 7, 4, 167, 0, 4]
abbrev dktX5_statement_5 : List UInt8 := dkwX5_statement_5 ++ dktX5_statement_6
def dkwX5_statement_4 : List UInt8 := [27, 16, 107, 160, 0, 104, 42, 180, 0, 73, 3, 42, 4, 182, 0, 210, 79, 42, 180, 0, 73, 4, 42, 4]
abbrev dktX5_statement_4 : List UInt8 := dkwX5_statement_4 ++ dktX5_statement_5
def dkwX5_statement_3 : List UInt8 := [182, 0, 210, 79, 42, 16, 32, 182, 0, 213, 42, 180, 0, 73, 5, 42, 4, 182, 0, 210, 79, 167, 0, 165]
abbrev dktX5_statement_3 : List UInt8 := dkwX5_statement_3 ++ dktX5_statement_4
def dkwX5_statement_2 : List UInt8 := [180, 0, 73, 3, 42, 6, 182, 0, 210, 79, 42, 16, 32, 182, 0, 213, 42, 180, 0, 73, 4, 42, 5]
abbrev dktX5_statement_2 : List UInt8 := dkwX5_statement_2 ++ dktX5_statement_3
def dkwX5_statement_1 : List UInt8 := [46, 167, 0, 4, 3, 60, 42, 89, 180, 0, 191, 4, 96, 181, 0, 191, 27, 16, 119, 160, 0, 51, 42]
abbrev dktX5_statement_1 : List UInt8 := dkwX5_statement_1 ++ dktX5_statement_2
def dkwX5_statement_0 : List UInt8 := [42, 180, 0, 191, 42, 180, 0, 194, 162, 0, 20, 42, 180, 0, 85, 42, 180, 0, 197, 42, 180, 0, 191, 96]
abbrev dktX5_statement_0 : List UInt8 := dkwX5_statement_0 ++ dktX5_statement_1
theorem dksX5_statement_0 : cX5_statement.data.toList.drop 0 = dktX5_statement_0 := by decide +kernel
theorem dksX5_statement_1 : cX5_statement.data.toList.drop 24 = dktX5_statement_1 := dk_seg dksX5_statement_0 24 rfl rfl
theorem dksX5_statement_2 : cX5_statement.data.toList.drop 47 = dktX5_statement_2 := dk_seg dksX5_statement_1 23 rfl rfl
theorem dksX5_statement_3 : cX5_statement.data.toList.drop 70 = dktX5_statement_3 := dk_seg dksX5_statement_2 23 rfl rfl
theorem dksX5_statement_4 : cX5_statement.data.toList.drop 94 = dktX5_statement_4 := dk_seg dksX5_statement_3 24 rfl rfl
theorem dksX5_statement_5 : cX5_statement.data.toList.drop 118 = dktX5_statement_5 := dk_seg dksX5_statement_4 24 rfl rfl
theorem dksX5_statement_6 : cX5_statement.data.toList.drop 142 = dktX5_statement_6 := dk_seg dksX5_statement_5 24 rfl rfl
theorem dksX5_statement_7 : cX5_statement.data.toList.drop 166 = dktX5_statement_7 := dk_seg dksX5_statement_6 24 rfl rfl
theorem dksX5_statement_8 : cX5_statement.data.toList.drop 188 = dktX5_statement_8 := dk_seg dksX5_statement_7 22 rfl rfl
theorem dksX5_statement_9 : cX5_statement.data.toList.drop 212 = dktX5_statement_9 := dk_seg dksX5_statement_8 24 rfl rfl
theorem dksX5_statement_10 : cX5_statement.data.toList.drop 234 = dktX5_statement_10 := dk_seg dksX5_statement_9 22 rfl rfl
theorem dksX5_statement_11 : cX5_statement.data.toList.drop 257 = dktX5_statement_11 := dk_seg dksX5_statement_10 23 rfl rfl
theorem dX5_statement_0 : decode cX5_statement 0 = .ok (.aload_n 0, 1) := dk_42 (dk_at dksX5_statement_0 0 rfl rfl)
theorem dX5_statement_1 : decode cX5_statement 1 = .ok (.getfield 191, 3) := dk_180 0 191 (dk_at dksX5_statement_0 1 rfl rfl)
theorem dX5_statement_4 : decode cX5_statement 4 = .ok (.aload_n 0, 1) := dk_42 (dk_at dksX5_statement_0 4 rfl rfl)
theorem dX5_statement_5 : decode cX5_statement 5 = .ok (.getfield 194, 3) := dk_180 0 194 (dk_at dksX5_statement_0 5 rfl rfl)
theorem dX5_statement_8 : decode cX5_statement 8 = .ok (.if_icmp .ge 20, 3) := dk_162 0 20 (dk_at dksX5_statement_0 8 rfl rfl)
theorem dX5_statement_11 : decode cX5_statement 11 = .ok (.aload_n 0, 1) := dk_42 (dk_at dksX5_statement_0 11 rfl rfl)
theorem dX5_statement_12 : decode cX5_statement 12 = .ok (.getfield 85, 3) := dk_180 0 85 (dk_at dksX5_statement_0 12 rfl rfl)
theorem dX5_statement_15 : decode cX5_statement 15 = .ok (.aload_n 0, 1) := dk_42 (dk_at dksX5_statement_0 15 rfl rfl)
theorem dX5_statement_16 : decode cX5_statement 16 = .ok (.getfield 197, 3) := dk_180 0 197 (dk_at dksX5_statement_0 16 rfl rfl)
theorem dX5_statement_19 : decode cX5_statement 19 = .ok (.aload_n 0, 1) := dk_42 (dk_at dksX5_statement_0 19 rfl rfl)
theorem dX5_statement_20 : decode cX5_statement 20 = .ok (.getfield 191, 3) := dk_180 0 191 (dk_at dksX5_statement_0 20 rfl rfl)
theorem dX5_statement_23 : decode cX5_statement 23 = .ok (.iadd, 1) := dk_96 (dk_at dksX5_statement_0 23 rfl rfl)
theorem dX5_statement_24 : decode cX5_statement 24 = .ok (.iaload, 1) := dk_46 (dk_at dksX5_statement_1 0 rfl rfl)
theorem dX5_statement_25 : decode cX5_statement 25 = .ok (.goto 4, 3) := dk_167 0 4 (dk_at dksX5_statement_1 1 rfl rfl)
theorem dX5_statement_28 : decode cX5_statement 28 = .ok (.iconst 0, 1) := dk_3 (dk_at dksX5_statement_1 4 rfl rfl)
theorem dX5_statement_29 : decode cX5_statement 29 = .ok (.istore_n 1, 1) := dk_60 (dk_at dksX5_statement_1 5 rfl rfl)
theorem dX5_statement_30 : decode cX5_statement 30 = .ok (.aload_n 0, 1) := dk_42 (dk_at dksX5_statement_1 6 rfl rfl)
theorem dX5_statement_31 : decode cX5_statement 31 = .ok (.dup, 1) := dk_89 (dk_at dksX5_statement_1 7 rfl rfl)
theorem dX5_statement_32 : decode cX5_statement 32 = .ok (.getfield 191, 3) := dk_180 0 191 (dk_at dksX5_statement_1 8 rfl rfl)
theorem dX5_statement_35 : decode cX5_statement 35 = .ok (.iconst 1, 1) := dk_4 (dk_at dksX5_statement_1 11 rfl rfl)
theorem dX5_statement_36 : decode cX5_statement 36 = .ok (.iadd, 1) := dk_96 (dk_at dksX5_statement_1 12 rfl rfl)
theorem dX5_statement_37 : decode cX5_statement 37 = .ok (.putfield 191, 3) := dk_181 0 191 (dk_at dksX5_statement_1 13 rfl rfl)
theorem dX5_statement_40 : decode cX5_statement 40 = .ok (.iload_n 1, 1) := dk_27 (dk_at dksX5_statement_1 16 rfl rfl)
theorem dX5_statement_41 : decode cX5_statement 41 = .ok (.bipush 119, 2) := dk_16 119 (dk_at dksX5_statement_1 17 rfl rfl)
theorem dX5_statement_43 : decode cX5_statement 43 = .ok (.if_icmp .ne 51, 3) := dk_160 0 51 (dk_at dksX5_statement_1 19 rfl rfl)
theorem dX5_statement_46 : decode cX5_statement 46 = .ok (.aload_n 0, 1) := dk_42 (dk_at dksX5_statement_1 22 rfl rfl)
theorem dX5_statement_47 : decode cX5_statement 47 = .ok (.getfield 73, 3) := dk_180 0 73 (dk_at dksX5_statement_2 0 rfl rfl)
theorem dX5_statement_50 : decode cX5_statement 50 = .ok (.iconst 0, 1) := dk_3 (dk_at dksX5_statement_2 3 rfl rfl)
theorem dX5_statement_51 : decode cX5_statement 51 = .ok (.aload_n 0, 1) := dk_42 (dk_at dksX5_statement_2 4 rfl rfl)
theorem dX5_statement_52 : decode cX5_statement 52 = .ok (.iconst 3, 1) := dk_6 (dk_at dksX5_statement_2 5 rfl rfl)
theorem dX5_statement_53 : decode cX5_statement 53 = .ok (.invokevirtual 210, 3) := dk_182 0 210 (dk_at dksX5_statement_2 6 rfl rfl)
theorem dX5_statement_56 : decode cX5_statement 56 = .ok (.iastore, 1) := dk_79 (dk_at dksX5_statement_2 9 rfl rfl)
theorem dX5_statement_57 : decode cX5_statement 57 = .ok (.aload_n 0, 1) := dk_42 (dk_at dksX5_statement_2 10 rfl rfl)
theorem dX5_statement_58 : decode cX5_statement 58 = .ok (.bipush 32, 2) := dk_16 32 (dk_at dksX5_statement_2 11 rfl rfl)
theorem dX5_statement_60 : decode cX5_statement 60 = .ok (.invokevirtual 213, 3) := dk_182 0 213 (dk_at dksX5_statement_2 13 rfl rfl)
theorem dX5_statement_63 : decode cX5_statement 63 = .ok (.aload_n 0, 1) := dk_42 (dk_at dksX5_statement_2 16 rfl rfl)
theorem dX5_statement_64 : decode cX5_statement 64 = .ok (.getfield 73, 3) := dk_180 0 73 (dk_at dksX5_statement_2 17 rfl rfl)
theorem dX5_statement_67 : decode cX5_statement 67 = .ok (.iconst 1, 1) := dk_4 (dk_at dksX5_statement_2 20 rfl rfl)
theorem dX5_statement_68 : decode cX5_statement 68 = .ok (.aload_n 0, 1) := dk_42 (dk_at dksX5_statement_2 21 rfl rfl)
theorem dX5_statement_69 : decode cX5_statement 69 = .ok (.iconst 2, 1) := dk_5 (dk_at dksX5_statement_2 22 rfl rfl)
theorem dX5_statement_70 : decode cX5_statement 70 = .ok (.invokevirtual 210, 3) := dk_182 0 210 (dk_at dksX5_statement_3 0 rfl rfl)
theorem dX5_statement_73 : decode cX5_statement 73 = .ok (.iastore, 1) := dk_79 (dk_at dksX5_statement_3 3 rfl rfl)
theorem dX5_statement_74 : decode cX5_statement 74 = .ok (.aload_n 0, 1) := dk_42 (dk_at dksX5_statement_3 4 rfl rfl)
theorem dX5_statement_75 : decode cX5_statement 75 = .ok (.bipush 32, 2) := dk_16 32 (dk_at dksX5_statement_3 5 rfl rfl)
theorem dX5_statement_77 : decode cX5_statement 77 = .ok (.invokevirtual 213, 3) := dk_182 0 213 (dk_at dksX5_statement_3 7 rfl rfl)
theorem dX5_statement_80 : decode cX5_statement 80 = .ok (.aload_n 0, 1) := dk_42 (dk_at dksX5_statement_3 10 rfl rfl)
theorem dX5_statement_81 : decode cX5_statement 81 = .ok (.getfield 73, 3) := dk_180 0 73 (dk_at dksX5_statement_3 11 rfl rfl)
theorem dX5_statement_84 : decode cX5_statement 84 = .ok (.iconst 2, 1) := dk_5 (dk_at dksX5_statement_3 14 rfl rfl)
theorem dX5_statement_85 : decode cX5_statement 85 = .ok (.aload_n 0, 1) := dk_42 (dk_at dksX5_statement_3 15 rfl rfl)
theorem dX5_statement_86 : decode cX5_statement 86 = .ok (.iconst 1, 1) := dk_4 (dk_at dksX5_statement_3 16 rfl rfl)
theorem dX5_statement_87 : decode cX5_statement 87 = .ok (.invokevirtual 210, 3) := dk_182 0 210 (dk_at dksX5_statement_3 17 rfl rfl)
theorem dX5_statement_90 : decode cX5_statement 90 = .ok (.iastore, 1) := dk_79 (dk_at dksX5_statement_3 20 rfl rfl)
theorem dX5_statement_91 : decode cX5_statement 91 = .ok (.goto 165, 3) := dk_167 0 165 (dk_at dksX5_statement_3 21 rfl rfl)
theorem dX5_statement_94 : decode cX5_statement 94 = .ok (.iload_n 1, 1) := dk_27 (dk_at dksX5_statement_4 0 rfl rfl)
theorem dX5_statement_95 : decode cX5_statement 95 = .ok (.bipush 107, 2) := dk_16 107 (dk_at dksX5_statement_4 1 rfl rfl)
theorem dX5_statement_97 : decode cX5_statement 97 = .ok (.if_icmp .ne 104, 3) := dk_160 0 104 (dk_at dksX5_statement_4 3 rfl rfl)
theorem dX5_statement_100 : decode cX5_statement 100 = .ok (.aload_n 0, 1) := dk_42 (dk_at dksX5_statement_4 6 rfl rfl)
theorem dX5_statement_101 : decode cX5_statement 101 = .ok (.getfield 73, 3) := dk_180 0 73 (dk_at dksX5_statement_4 7 rfl rfl)
theorem dX5_statement_104 : decode cX5_statement 104 = .ok (.iconst 0, 1) := dk_3 (dk_at dksX5_statement_4 10 rfl rfl)
theorem dX5_statement_105 : decode cX5_statement 105 = .ok (.aload_n 0, 1) := dk_42 (dk_at dksX5_statement_4 11 rfl rfl)
theorem dX5_statement_106 : decode cX5_statement 106 = .ok (.iconst 1, 1) := dk_4 (dk_at dksX5_statement_4 12 rfl rfl)
theorem dX5_statement_107 : decode cX5_statement 107 = .ok (.invokevirtual 210, 3) := dk_182 0 210 (dk_at dksX5_statement_4 13 rfl rfl)
theorem dX5_statement_110 : decode cX5_statement 110 = .ok (.iastore, 1) := dk_79 (dk_at dksX5_statement_4 16 rfl rfl)
theorem dX5_statement_111 : decode cX5_statement 111 = .ok (.aload_n 0, 1) := dk_42 (dk_at dksX5_statement_4 17 rfl rfl)
theorem dX5_statement_112 : decode cX5_statement 112 = .ok (.getfield 73, 3) := dk_180 0 73 (dk_at dksX5_statement_4 18 rfl rfl)
theorem dX5_statement_115 : decode cX5_statement 115 = .ok (.iconst 1, 1) := dk_4 (dk_at dksX5_statement_4 21 rfl rfl)
theorem dX5_statement_116 : decode cX5_statement 116 = .ok (.aload_n 0, 1) := dk_42 (dk_at dksX5_statement_4 22 rfl rfl)
theorem dX5_statement_117 : decode cX5_statement 117 = .ok (.iconst 1, 1) := dk_4 (dk_at dksX5_statement_4 23 rfl rfl)
theorem dX5_statement_118 : decode cX5_statement 118 = .ok (.invokevirtual 210, 3) := dk_182 0 210 (dk_at dksX5_statement_5 0 rfl rfl)
theorem dX5_statement_121 : decode cX5_statement 121 = .ok (.iastore, 1) := dk_79 (dk_at dksX5_statement_5 3 rfl rfl)
theorem dX5_statement_122 : decode cX5_statement 122 = .ok (.aload_n 0, 1) := dk_42 (dk_at dksX5_statement_5 4 rfl rfl)
theorem dX5_statement_123 : decode cX5_statement 123 = .ok (.getfield 200, 3) := dk_180 0 200 (dk_at dksX5_statement_5 5 rfl rfl)
theorem dX5_statement_126 : decode cX5_statement 126 = .ok (.ifCond .eq 16, 3) := dk_153 0 16 (dk_at dksX5_statement_5 8 rfl rfl)
theorem dX5_statement_129 : decode cX5_statement 129 = .ok (.aload_n 0, 1) := dk_42 (dk_at dksX5_statement_5 11 rfl rfl)
theorem dX5_statement_130 : decode cX5_statement 130 = .ok (.bipush 45, 2) := dk_16 45 (dk_at dksX5_statement_5 12 rfl rfl)
theorem dX5_statement_132 : decode cX5_statement 132 = .ok (.invokevirtual 203, 3) := dk_182 0 203 (dk_at dksX5_statement_5 14 rfl rfl)
theorem dX5_statement_135 : decode cX5_statement 135 = .ok (.ifCond .eq 7, 3) := dk_153 0 7 (dk_at dksX5_statement_5 17 rfl rfl)
theorem dX5_statement_138 : decode cX5_statement 138 = .ok (.iconst 1, 1) := dk_4 (dk_at dksX5_statement_5 20 rfl rfl)
theorem dX5_statement_139 : decode cX5_statement 139 = .ok (.goto 4, 3) := dk_167 0 4 (dk_at dksX5_statement_5 21 rfl rfl)
theorem dX5_statement_142 : decode cX5_statement 142 = .ok (.iconst 0, 1) := dk_3 (dk_at dksX5_statement_6 0 rfl rfl)
theorem dX5_statement_143 : decode cX5_statement 143 = .ok (.istore_n 2, 1) := dk_61 (dk_at dksX5_statement_6 1 rfl rfl)
theorem dX5_statement_144 : decode cX5_statement 144 = .ok (.aload_n 0, 1) := dk_42 (dk_at dksX5_statement_6 2 rfl rfl)
theorem dX5_statement_145 : decode cX5_statement 145 = .ok (.iload_n 2, 1) := dk_28 (dk_at dksX5_statement_6 3 rfl rfl)
theorem dX5_statement_146 : decode cX5_statement 146 = .ok (.ifCond .eq 8, 3) := dk_153 0 8 (dk_at dksX5_statement_6 4 rfl rfl)
theorem dX5_statement_149 : decode cX5_statement 149 = .ok (.bipush 45, 2) := dk_16 45 (dk_at dksX5_statement_6 7 rfl rfl)
theorem dX5_statement_151 : decode cX5_statement 151 = .ok (.goto 5, 3) := dk_167 0 5 (dk_at dksX5_statement_6 9 rfl rfl)
theorem dX5_statement_154 : decode cX5_statement 154 = .ok (.bipush 43, 2) := dk_16 43 (dk_at dksX5_statement_6 12 rfl rfl)
theorem dX5_statement_156 : decode cX5_statement 156 = .ok (.invokevirtual 213, 3) := dk_182 0 213 (dk_at dksX5_statement_6 14 rfl rfl)
theorem dX5_statement_159 : decode cX5_statement 159 = .ok (.aload_n 0, 1) := dk_42 (dk_at dksX5_statement_6 17 rfl rfl)
theorem dX5_statement_160 : decode cX5_statement 160 = .ok (.iconst 2, 1) := dk_5 (dk_at dksX5_statement_6 18 rfl rfl)
theorem dX5_statement_161 : decode cX5_statement 161 = .ok (.invokevirtual 210, 3) := dk_182 0 210 (dk_at dksX5_statement_6 19 rfl rfl)
theorem dX5_statement_164 : decode cX5_statement 164 = .ok (.istore_n 3, 1) := dk_62 (dk_at dksX5_statement_6 22 rfl rfl)
theorem dX5_statement_165 : decode cX5_statement 165 = .ok (.aload_n 0, 1) := dk_42 (dk_at dksX5_statement_6 23 rfl rfl)
theorem dX5_statement_166 : decode cX5_statement 166 = .ok (.getfield 73, 3) := dk_180 0 73 (dk_at dksX5_statement_7 0 rfl rfl)
theorem dX5_statement_169 : decode cX5_statement 169 = .ok (.iconst 2, 1) := dk_5 (dk_at dksX5_statement_7 3 rfl rfl)
theorem dX5_statement_170 : decode cX5_statement 170 = .ok (.iload_n 2, 1) := dk_28 (dk_at dksX5_statement_7 4 rfl rfl)
theorem dX5_statement_171 : decode cX5_statement 171 = .ok (.ifCond .eq 8, 3) := dk_153 0 8 (dk_at dksX5_statement_7 5 rfl rfl)
theorem dX5_statement_174 : decode cX5_statement 174 = .ok (.iload_n 3, 1) := dk_29 (dk_at dksX5_statement_7 8 rfl rfl)
theorem dX5_statement_175 : decode cX5_statement 175 = .ok (.ineg, 1) := dk_116 (dk_at dksX5_statement_7 9 rfl rfl)
theorem dX5_statement_176 : decode cX5_statement 176 = .ok (.goto 4, 3) := dk_167 0 4 (dk_at dksX5_statement_7 10 rfl rfl)
theorem dX5_statement_179 : decode cX5_statement 179 = .ok (.iload_n 3, 1) := dk_29 (dk_at dksX5_statement_7 13 rfl rfl)
theorem dX5_statement_180 : decode cX5_statement 180 = .ok (.iastore, 1) := dk_79 (dk_at dksX5_statement_7 14 rfl rfl)
theorem dX5_statement_181 : decode cX5_statement 181 = .ok (.aload_n 0, 1) := dk_42 (dk_at dksX5_statement_7 15 rfl rfl)
theorem dX5_statement_182 : decode cX5_statement 182 = .ok (.bipush 32, 2) := dk_16 32 (dk_at dksX5_statement_7 16 rfl rfl)
theorem dX5_statement_184 : decode cX5_statement 184 = .ok (.invokevirtual 213, 3) := dk_182 0 213 (dk_at dksX5_statement_7 18 rfl rfl)
theorem dX5_statement_187 : decode cX5_statement 187 = .ok (.aload_n 0, 1) := dk_42 (dk_at dksX5_statement_7 21 rfl rfl)
theorem dX5_statement_188 : decode cX5_statement 188 = .ok (.getfield 73, 3) := dk_180 0 73 (dk_at dksX5_statement_8 0 rfl rfl)
theorem dX5_statement_191 : decode cX5_statement 191 = .ok (.iconst 3, 1) := dk_6 (dk_at dksX5_statement_8 3 rfl rfl)
theorem dX5_statement_192 : decode cX5_statement 192 = .ok (.aload_n 0, 1) := dk_42 (dk_at dksX5_statement_8 4 rfl rfl)
theorem dX5_statement_193 : decode cX5_statement 193 = .ok (.iconst 3, 1) := dk_6 (dk_at dksX5_statement_8 5 rfl rfl)
theorem dX5_statement_194 : decode cX5_statement 194 = .ok (.invokevirtual 210, 3) := dk_182 0 210 (dk_at dksX5_statement_8 6 rfl rfl)
theorem dX5_statement_197 : decode cX5_statement 197 = .ok (.iastore, 1) := dk_79 (dk_at dksX5_statement_8 9 rfl rfl)
theorem dX5_statement_198 : decode cX5_statement 198 = .ok (.goto 58, 3) := dk_167 0 58 (dk_at dksX5_statement_8 10 rfl rfl)
theorem dX5_statement_201 : decode cX5_statement 201 = .ok (.iload_n 1, 1) := dk_27 (dk_at dksX5_statement_8 13 rfl rfl)
theorem dX5_statement_202 : decode cX5_statement 202 = .ok (.bipush 108, 2) := dk_16 108 (dk_at dksX5_statement_8 14 rfl rfl)
theorem dX5_statement_204 : decode cX5_statement 204 = .ok (.if_icmp .ne 17, 3) := dk_160 0 17 (dk_at dksX5_statement_8 16 rfl rfl)
theorem dX5_statement_207 : decode cX5_statement 207 = .ok (.aload_n 0, 1) := dk_42 (dk_at dksX5_statement_8 19 rfl rfl)
theorem dX5_statement_208 : decode cX5_statement 208 = .ok (.getfield 73, 3) := dk_180 0 73 (dk_at dksX5_statement_8 20 rfl rfl)
theorem dX5_statement_211 : decode cX5_statement 211 = .ok (.iconst 0, 1) := dk_3 (dk_at dksX5_statement_8 23 rfl rfl)
theorem dX5_statement_212 : decode cX5_statement 212 = .ok (.aload_n 0, 1) := dk_42 (dk_at dksX5_statement_9 0 rfl rfl)
theorem dX5_statement_213 : decode cX5_statement 213 = .ok (.iconst 1, 1) := dk_4 (dk_at dksX5_statement_9 1 rfl rfl)
theorem dX5_statement_214 : decode cX5_statement 214 = .ok (.invokevirtual 210, 3) := dk_182 0 210 (dk_at dksX5_statement_9 2 rfl rfl)
theorem dX5_statement_217 : decode cX5_statement 217 = .ok (.iastore, 1) := dk_79 (dk_at dksX5_statement_9 5 rfl rfl)
theorem dX5_statement_218 : decode cX5_statement 218 = .ok (.goto 38, 3) := dk_167 0 38 (dk_at dksX5_statement_9 6 rfl rfl)
theorem dX5_statement_221 : decode cX5_statement 221 = .ok (.iload_n 1, 1) := dk_27 (dk_at dksX5_statement_9 9 rfl rfl)
theorem dX5_statement_222 : decode cX5_statement 222 = .ok (.bipush 112, 2) := dk_16 112 (dk_at dksX5_statement_9 10 rfl rfl)
theorem dX5_statement_224 : decode cX5_statement 224 = .ok (.if_icmp .ne 17, 3) := dk_160 0 17 (dk_at dksX5_statement_9 12 rfl rfl)
theorem dX5_statement_227 : decode cX5_statement 227 = .ok (.aload_n 0, 1) := dk_42 (dk_at dksX5_statement_9 15 rfl rfl)
theorem dX5_statement_228 : decode cX5_statement 228 = .ok (.getfield 73, 3) := dk_180 0 73 (dk_at dksX5_statement_9 16 rfl rfl)
theorem dX5_statement_231 : decode cX5_statement 231 = .ok (.iconst 0, 1) := dk_3 (dk_at dksX5_statement_9 19 rfl rfl)
theorem dX5_statement_232 : decode cX5_statement 232 = .ok (.aload_n 0, 1) := dk_42 (dk_at dksX5_statement_9 20 rfl rfl)
theorem dX5_statement_233 : decode cX5_statement 233 = .ok (.iconst 3, 1) := dk_6 (dk_at dksX5_statement_9 21 rfl rfl)
theorem dX5_statement_234 : decode cX5_statement 234 = .ok (.invokevirtual 210, 3) := dk_182 0 210 (dk_at dksX5_statement_10 0 rfl rfl)
theorem dX5_statement_237 : decode cX5_statement 237 = .ok (.iastore, 1) := dk_79 (dk_at dksX5_statement_10 3 rfl rfl)
theorem dX5_statement_238 : decode cX5_statement 238 = .ok (.goto 18, 3) := dk_167 0 18 (dk_at dksX5_statement_10 4 rfl rfl)
theorem dX5_statement_241 : decode cX5_statement 241 = .ok (.aload_n 0, 1) := dk_42 (dk_at dksX5_statement_10 7 rfl rfl)
theorem dX5_statement_242 : decode cX5_statement 242 = .ok (.dup, 1) := dk_89 (dk_at dksX5_statement_10 8 rfl rfl)
theorem dX5_statement_243 : decode cX5_statement 243 = .ok (.getfield 191, 3) := dk_180 0 191 (dk_at dksX5_statement_10 9 rfl rfl)
theorem dX5_statement_246 : decode cX5_statement 246 = .ok (.iconst 1, 1) := dk_4 (dk_at dksX5_statement_10 12 rfl rfl)
theorem dX5_statement_247 : decode cX5_statement 247 = .ok (.isub, 1) := dk_100 (dk_at dksX5_statement_10 13 rfl rfl)
theorem dX5_statement_248 : decode cX5_statement 248 = .ok (.putfield 191, 3) := dk_181 0 191 (dk_at dksX5_statement_10 14 rfl rfl)
theorem dX5_statement_251 : decode cX5_statement 251 = .ok (.aload_n 0, 1) := dk_42 (dk_at dksX5_statement_10 17 rfl rfl)
theorem dX5_statement_252 : decode cX5_statement 252 = .ok (.iconst 0, 1) := dk_3 (dk_at dksX5_statement_10 18 rfl rfl)
theorem dX5_statement_253 : decode cX5_statement 253 = .ok (.putfield 200, 3) := dk_181 0 200 (dk_at dksX5_statement_10 19 rfl rfl)
theorem dX5_statement_256 : decode cX5_statement 256 = .ok (.aload_n 0, 1) := dk_42 (dk_at dksX5_statement_10 22 rfl rfl)
theorem dX5_statement_257 : decode cX5_statement 257 = .ok (.bipush 59, 2) := dk_16 59 (dk_at dksX5_statement_11 0 rfl rfl)
theorem dX5_statement_259 : decode cX5_statement 259 = .ok (.invokevirtual 213, 3) := dk_182 0 213 (dk_at dksX5_statement_11 2 rfl rfl)
theorem dX5_statement_262 : decode cX5_statement 262 = .ok (.iload_n 1, 1) := dk_27 (dk_at dksX5_statement_11 5 rfl rfl)
theorem dX5_statement_263 : decode cX5_statement 263 = .ok (.ireturn, 1) := dk_172 (dk_at dksX5_statement_11 6 rfl rfl)
abbrev cX5_figures : ByteArray := prog_21_method_52_code
def yX5_figures : MethodName := ⟨RX5, "figures", "(I)I"⟩
def dkwX5_figures_4 : List UInt8 := [180, 0, 191, 4, 96, 181, 0, 191, 132, 3, 1, 167, 255, 204, 28, 172]
abbrev dktX5_figures_4 : List UInt8 := dkwX5_figures_4 ++ []
def dkwX5_figures_3 : List UInt8 := [104, 42, 180, 0, 85, 42, 180, 0, 197, 42, 180, 0, 191, 96, 46, 96, 16, 48, 100, 61, 42, 89]
abbrev dktX5_figures_3 : List UInt8 := dkwX5_figures_3 ++ dktX5_figures_4
def dkwX5_figures_2 : List UInt8 := [181, 0, 191, 4, 62, 29, 27, 162, 0, 53, 28, 158, 0, 49, 42, 182, 0, 206, 153, 0, 42, 16, 10, 28]
abbrev dktX5_figures_2 : List UInt8 := dkwX5_figures_2 ++ dktX5_figures_3
def dkwX5_figures_1 : List UInt8 := [180, 0, 85, 42, 180, 0, 197, 42, 180, 0, 191, 96, 46, 16, 48, 100, 61, 42, 89, 180, 0, 191, 4, 96]
abbrev dktX5_figures_1 : List UInt8 := dkwX5_figures_1 ++ dktX5_figures_2
def dkwX5_figures_0 : List UInt8 := [42, 180, 0, 200, 153, 0, 10, 42, 182, 0, 206, 154, 0, 10, 42, 3, 181, 0, 200, 3, 172, 42]
abbrev dktX5_figures_0 : List UInt8 := dkwX5_figures_0 ++ dktX5_figures_1
theorem dksX5_figures_0 : cX5_figures.data.toList.drop 0 = dktX5_figures_0 := by decide +kernel
theorem dksX5_figures_1 : cX5_figures.data.toList.drop 22 = dktX5_figures_1 := dk_seg dksX5_figures_0 22 rfl rfl
theorem dksX5_figures_2 : cX5_figures.data.toList.drop 46 = dktX5_figures_2 := dk_seg dksX5_figures_1 24 rfl rfl
theorem dksX5_figures_3 : cX5_figures.data.toList.drop 70 = dktX5_figures_3 := dk_seg dksX5_figures_2 24 rfl rfl
theorem dksX5_figures_4 : cX5_figures.data.toList.drop 92 = dktX5_figures_4 := dk_seg dksX5_figures_3 22 rfl rfl
theorem dX5_figures_0 : decode cX5_figures 0 = .ok (.aload_n 0, 1) := dk_42 (dk_at dksX5_figures_0 0 rfl rfl)
theorem dX5_figures_1 : decode cX5_figures 1 = .ok (.getfield 200, 3) := dk_180 0 200 (dk_at dksX5_figures_0 1 rfl rfl)
theorem dX5_figures_4 : decode cX5_figures 4 = .ok (.ifCond .eq 10, 3) := dk_153 0 10 (dk_at dksX5_figures_0 4 rfl rfl)
theorem dX5_figures_7 : decode cX5_figures 7 = .ok (.aload_n 0, 1) := dk_42 (dk_at dksX5_figures_0 7 rfl rfl)
theorem dX5_figures_8 : decode cX5_figures 8 = .ok (.invokevirtual 206, 3) := dk_182 0 206 (dk_at dksX5_figures_0 8 rfl rfl)
theorem dX5_figures_11 : decode cX5_figures 11 = .ok (.ifCond .ne 10, 3) := dk_154 0 10 (dk_at dksX5_figures_0 11 rfl rfl)
theorem dX5_figures_14 : decode cX5_figures 14 = .ok (.aload_n 0, 1) := dk_42 (dk_at dksX5_figures_0 14 rfl rfl)
theorem dX5_figures_15 : decode cX5_figures 15 = .ok (.iconst 0, 1) := dk_3 (dk_at dksX5_figures_0 15 rfl rfl)
theorem dX5_figures_16 : decode cX5_figures 16 = .ok (.putfield 200, 3) := dk_181 0 200 (dk_at dksX5_figures_0 16 rfl rfl)
theorem dX5_figures_19 : decode cX5_figures 19 = .ok (.iconst 0, 1) := dk_3 (dk_at dksX5_figures_0 19 rfl rfl)
theorem dX5_figures_20 : decode cX5_figures 20 = .ok (.ireturn, 1) := dk_172 (dk_at dksX5_figures_0 20 rfl rfl)
theorem dX5_figures_21 : decode cX5_figures 21 = .ok (.aload_n 0, 1) := dk_42 (dk_at dksX5_figures_0 21 rfl rfl)
theorem dX5_figures_22 : decode cX5_figures 22 = .ok (.getfield 85, 3) := dk_180 0 85 (dk_at dksX5_figures_1 0 rfl rfl)
theorem dX5_figures_25 : decode cX5_figures 25 = .ok (.aload_n 0, 1) := dk_42 (dk_at dksX5_figures_1 3 rfl rfl)
theorem dX5_figures_26 : decode cX5_figures 26 = .ok (.getfield 197, 3) := dk_180 0 197 (dk_at dksX5_figures_1 4 rfl rfl)
theorem dX5_figures_29 : decode cX5_figures 29 = .ok (.aload_n 0, 1) := dk_42 (dk_at dksX5_figures_1 7 rfl rfl)
theorem dX5_figures_30 : decode cX5_figures 30 = .ok (.getfield 191, 3) := dk_180 0 191 (dk_at dksX5_figures_1 8 rfl rfl)
theorem dX5_figures_33 : decode cX5_figures 33 = .ok (.iadd, 1) := dk_96 (dk_at dksX5_figures_1 11 rfl rfl)
theorem dX5_figures_34 : decode cX5_figures 34 = .ok (.iaload, 1) := dk_46 (dk_at dksX5_figures_1 12 rfl rfl)
theorem dX5_figures_35 : decode cX5_figures 35 = .ok (.bipush 48, 2) := dk_16 48 (dk_at dksX5_figures_1 13 rfl rfl)
theorem dX5_figures_37 : decode cX5_figures 37 = .ok (.isub, 1) := dk_100 (dk_at dksX5_figures_1 15 rfl rfl)
theorem dX5_figures_38 : decode cX5_figures 38 = .ok (.istore_n 2, 1) := dk_61 (dk_at dksX5_figures_1 16 rfl rfl)
theorem dX5_figures_39 : decode cX5_figures 39 = .ok (.aload_n 0, 1) := dk_42 (dk_at dksX5_figures_1 17 rfl rfl)
theorem dX5_figures_40 : decode cX5_figures 40 = .ok (.dup, 1) := dk_89 (dk_at dksX5_figures_1 18 rfl rfl)
theorem dX5_figures_41 : decode cX5_figures 41 = .ok (.getfield 191, 3) := dk_180 0 191 (dk_at dksX5_figures_1 19 rfl rfl)
theorem dX5_figures_44 : decode cX5_figures 44 = .ok (.iconst 1, 1) := dk_4 (dk_at dksX5_figures_1 22 rfl rfl)
theorem dX5_figures_45 : decode cX5_figures 45 = .ok (.iadd, 1) := dk_96 (dk_at dksX5_figures_1 23 rfl rfl)
theorem dX5_figures_46 : decode cX5_figures 46 = .ok (.putfield 191, 3) := dk_181 0 191 (dk_at dksX5_figures_2 0 rfl rfl)
theorem dX5_figures_49 : decode cX5_figures 49 = .ok (.iconst 1, 1) := dk_4 (dk_at dksX5_figures_2 3 rfl rfl)
theorem dX5_figures_50 : decode cX5_figures 50 = .ok (.istore_n 3, 1) := dk_62 (dk_at dksX5_figures_2 4 rfl rfl)
theorem dX5_figures_51 : decode cX5_figures 51 = .ok (.iload_n 3, 1) := dk_29 (dk_at dksX5_figures_2 5 rfl rfl)
theorem dX5_figures_52 : decode cX5_figures 52 = .ok (.iload_n 1, 1) := dk_27 (dk_at dksX5_figures_2 6 rfl rfl)
theorem dX5_figures_53 : decode cX5_figures 53 = .ok (.if_icmp .ge 53, 3) := dk_162 0 53 (dk_at dksX5_figures_2 7 rfl rfl)
theorem dX5_figures_56 : decode cX5_figures 56 = .ok (.iload_n 2, 1) := dk_28 (dk_at dksX5_figures_2 10 rfl rfl)
theorem dX5_figures_57 : decode cX5_figures 57 = .ok (.ifCond .le 49, 3) := dk_158 0 49 (dk_at dksX5_figures_2 11 rfl rfl)
theorem dX5_figures_60 : decode cX5_figures 60 = .ok (.aload_n 0, 1) := dk_42 (dk_at dksX5_figures_2 14 rfl rfl)
theorem dX5_figures_61 : decode cX5_figures 61 = .ok (.invokevirtual 206, 3) := dk_182 0 206 (dk_at dksX5_figures_2 15 rfl rfl)
theorem dX5_figures_64 : decode cX5_figures 64 = .ok (.ifCond .eq 42, 3) := dk_153 0 42 (dk_at dksX5_figures_2 18 rfl rfl)
theorem dX5_figures_67 : decode cX5_figures 67 = .ok (.bipush 10, 2) := dk_16 10 (dk_at dksX5_figures_2 21 rfl rfl)
theorem dX5_figures_69 : decode cX5_figures 69 = .ok (.iload_n 2, 1) := dk_28 (dk_at dksX5_figures_2 23 rfl rfl)
theorem dX5_figures_70 : decode cX5_figures 70 = .ok (.imul, 1) := dk_104 (dk_at dksX5_figures_3 0 rfl rfl)
theorem dX5_figures_71 : decode cX5_figures 71 = .ok (.aload_n 0, 1) := dk_42 (dk_at dksX5_figures_3 1 rfl rfl)
theorem dX5_figures_72 : decode cX5_figures 72 = .ok (.getfield 85, 3) := dk_180 0 85 (dk_at dksX5_figures_3 2 rfl rfl)
theorem dX5_figures_75 : decode cX5_figures 75 = .ok (.aload_n 0, 1) := dk_42 (dk_at dksX5_figures_3 5 rfl rfl)
theorem dX5_figures_76 : decode cX5_figures 76 = .ok (.getfield 197, 3) := dk_180 0 197 (dk_at dksX5_figures_3 6 rfl rfl)
theorem dX5_figures_79 : decode cX5_figures 79 = .ok (.aload_n 0, 1) := dk_42 (dk_at dksX5_figures_3 9 rfl rfl)
theorem dX5_figures_80 : decode cX5_figures 80 = .ok (.getfield 191, 3) := dk_180 0 191 (dk_at dksX5_figures_3 10 rfl rfl)
theorem dX5_figures_83 : decode cX5_figures 83 = .ok (.iadd, 1) := dk_96 (dk_at dksX5_figures_3 13 rfl rfl)
theorem dX5_figures_84 : decode cX5_figures 84 = .ok (.iaload, 1) := dk_46 (dk_at dksX5_figures_3 14 rfl rfl)
theorem dX5_figures_85 : decode cX5_figures 85 = .ok (.iadd, 1) := dk_96 (dk_at dksX5_figures_3 15 rfl rfl)
theorem dX5_figures_86 : decode cX5_figures 86 = .ok (.bipush 48, 2) := dk_16 48 (dk_at dksX5_figures_3 16 rfl rfl)
theorem dX5_figures_88 : decode cX5_figures 88 = .ok (.isub, 1) := dk_100 (dk_at dksX5_figures_3 18 rfl rfl)
theorem dX5_figures_89 : decode cX5_figures 89 = .ok (.istore_n 2, 1) := dk_61 (dk_at dksX5_figures_3 19 rfl rfl)
theorem dX5_figures_90 : decode cX5_figures 90 = .ok (.aload_n 0, 1) := dk_42 (dk_at dksX5_figures_3 20 rfl rfl)
theorem dX5_figures_91 : decode cX5_figures 91 = .ok (.dup, 1) := dk_89 (dk_at dksX5_figures_3 21 rfl rfl)
theorem dX5_figures_92 : decode cX5_figures 92 = .ok (.getfield 191, 3) := dk_180 0 191 (dk_at dksX5_figures_4 0 rfl rfl)
theorem dX5_figures_95 : decode cX5_figures 95 = .ok (.iconst 1, 1) := dk_4 (dk_at dksX5_figures_4 3 rfl rfl)
theorem dX5_figures_96 : decode cX5_figures 96 = .ok (.iadd, 1) := dk_96 (dk_at dksX5_figures_4 4 rfl rfl)
theorem dX5_figures_97 : decode cX5_figures 97 = .ok (.putfield 191, 3) := dk_181 0 191 (dk_at dksX5_figures_4 5 rfl rfl)
theorem dX5_figures_100 : decode cX5_figures 100 = .ok (.iinc 3 1, 3) := dk_132 3 1 (dk_at dksX5_figures_4 8 rfl rfl)
theorem dX5_figures_103 : decode cX5_figures 103 = .ok (.goto (-52), 3) := dk_167 255 204 (dk_at dksX5_figures_4 11 rfl rfl)
theorem dX5_figures_106 : decode cX5_figures 106 = .ok (.iload_n 2, 1) := dk_28 (dk_at dksX5_figures_4 14 rfl rfl)
theorem dX5_figures_107 : decode cX5_figures 107 = .ok (.ireturn, 1) := dk_172 (dk_at dksX5_figures_4 15 rfl rfl)
abbrev cX5_isDigit : ByteArray := prog_21_method_51_code
def yX5_isDigit : MethodName := ⟨RX5, "isDigit", "()Z"⟩
def dkwX5_isDigit_2 : List UInt8 := [163, 0, 7, 4, 167, 0, 4, 3, 172]
abbrev dktX5_isDigit_2 : List UInt8 := dkwX5_isDigit_2 ++ []
def dkwX5_isDigit_1 : List UInt8 := [46, 16, 48, 161, 0, 26, 42, 180, 0, 85, 42, 180, 0, 197, 42, 180, 0, 191, 96, 46, 16, 57]
abbrev dktX5_isDigit_1 : List UInt8 := dkwX5_isDigit_1 ++ dktX5_isDigit_2
def dkwX5_isDigit_0 : List UInt8 := [42, 180, 0, 191, 42, 180, 0, 194, 162, 0, 45, 42, 180, 0, 85, 42, 180, 0, 197, 42, 180, 0, 191, 96]
abbrev dktX5_isDigit_0 : List UInt8 := dkwX5_isDigit_0 ++ dktX5_isDigit_1
theorem dksX5_isDigit_0 : cX5_isDigit.data.toList.drop 0 = dktX5_isDigit_0 := by decide +kernel
theorem dksX5_isDigit_1 : cX5_isDigit.data.toList.drop 24 = dktX5_isDigit_1 := dk_seg dksX5_isDigit_0 24 rfl rfl
theorem dksX5_isDigit_2 : cX5_isDigit.data.toList.drop 46 = dktX5_isDigit_2 := dk_seg dksX5_isDigit_1 22 rfl rfl
theorem dX5_isDigit_0 : decode cX5_isDigit 0 = .ok (.aload_n 0, 1) := dk_42 (dk_at dksX5_isDigit_0 0 rfl rfl)
theorem dX5_isDigit_1 : decode cX5_isDigit 1 = .ok (.getfield 191, 3) := dk_180 0 191 (dk_at dksX5_isDigit_0 1 rfl rfl)
theorem dX5_isDigit_4 : decode cX5_isDigit 4 = .ok (.aload_n 0, 1) := dk_42 (dk_at dksX5_isDigit_0 4 rfl rfl)
theorem dX5_isDigit_5 : decode cX5_isDigit 5 = .ok (.getfield 194, 3) := dk_180 0 194 (dk_at dksX5_isDigit_0 5 rfl rfl)
theorem dX5_isDigit_8 : decode cX5_isDigit 8 = .ok (.if_icmp .ge 45, 3) := dk_162 0 45 (dk_at dksX5_isDigit_0 8 rfl rfl)
theorem dX5_isDigit_11 : decode cX5_isDigit 11 = .ok (.aload_n 0, 1) := dk_42 (dk_at dksX5_isDigit_0 11 rfl rfl)
theorem dX5_isDigit_12 : decode cX5_isDigit 12 = .ok (.getfield 85, 3) := dk_180 0 85 (dk_at dksX5_isDigit_0 12 rfl rfl)
theorem dX5_isDigit_15 : decode cX5_isDigit 15 = .ok (.aload_n 0, 1) := dk_42 (dk_at dksX5_isDigit_0 15 rfl rfl)
theorem dX5_isDigit_16 : decode cX5_isDigit 16 = .ok (.getfield 197, 3) := dk_180 0 197 (dk_at dksX5_isDigit_0 16 rfl rfl)
theorem dX5_isDigit_19 : decode cX5_isDigit 19 = .ok (.aload_n 0, 1) := dk_42 (dk_at dksX5_isDigit_0 19 rfl rfl)
theorem dX5_isDigit_20 : decode cX5_isDigit 20 = .ok (.getfield 191, 3) := dk_180 0 191 (dk_at dksX5_isDigit_0 20 rfl rfl)
theorem dX5_isDigit_23 : decode cX5_isDigit 23 = .ok (.iadd, 1) := dk_96 (dk_at dksX5_isDigit_0 23 rfl rfl)
theorem dX5_isDigit_24 : decode cX5_isDigit 24 = .ok (.iaload, 1) := dk_46 (dk_at dksX5_isDigit_1 0 rfl rfl)
theorem dX5_isDigit_25 : decode cX5_isDigit 25 = .ok (.bipush 48, 2) := dk_16 48 (dk_at dksX5_isDigit_1 1 rfl rfl)
theorem dX5_isDigit_27 : decode cX5_isDigit 27 = .ok (.if_icmp .lt 26, 3) := dk_161 0 26 (dk_at dksX5_isDigit_1 3 rfl rfl)
theorem dX5_isDigit_30 : decode cX5_isDigit 30 = .ok (.aload_n 0, 1) := dk_42 (dk_at dksX5_isDigit_1 6 rfl rfl)
theorem dX5_isDigit_31 : decode cX5_isDigit 31 = .ok (.getfield 85, 3) := dk_180 0 85 (dk_at dksX5_isDigit_1 7 rfl rfl)
theorem dX5_isDigit_34 : decode cX5_isDigit 34 = .ok (.aload_n 0, 1) := dk_42 (dk_at dksX5_isDigit_1 10 rfl rfl)
theorem dX5_isDigit_35 : decode cX5_isDigit 35 = .ok (.getfield 197, 3) := dk_180 0 197 (dk_at dksX5_isDigit_1 11 rfl rfl)
theorem dX5_isDigit_38 : decode cX5_isDigit 38 = .ok (.aload_n 0, 1) := dk_42 (dk_at dksX5_isDigit_1 14 rfl rfl)
theorem dX5_isDigit_39 : decode cX5_isDigit 39 = .ok (.getfield 191, 3) := dk_180 0 191 (dk_at dksX5_isDigit_1 15 rfl rfl)
theorem dX5_isDigit_42 : decode cX5_isDigit 42 = .ok (.iadd, 1) := dk_96 (dk_at dksX5_isDigit_1 18 rfl rfl)
theorem dX5_isDigit_43 : decode cX5_isDigit 43 = .ok (.iaload, 1) := dk_46 (dk_at dksX5_isDigit_1 19 rfl rfl)
theorem dX5_isDigit_44 : decode cX5_isDigit 44 = .ok (.bipush 57, 2) := dk_16 57 (dk_at dksX5_isDigit_1 20 rfl rfl)
theorem dX5_isDigit_46 : decode cX5_isDigit 46 = .ok (.if_icmp .gt 7, 3) := dk_163 0 7 (dk_at dksX5_isDigit_2 0 rfl rfl)
theorem dX5_isDigit_49 : decode cX5_isDigit 49 = .ok (.iconst 1, 1) := dk_4 (dk_at dksX5_isDigit_2 3 rfl rfl)
theorem dX5_isDigit_50 : decode cX5_isDigit 50 = .ok (.goto 4, 3) := dk_167 0 4 (dk_at dksX5_isDigit_2 4 rfl rfl)
theorem dX5_isDigit_53 : decode cX5_isDigit 53 = .ok (.iconst 0, 1) := dk_3 (dk_at dksX5_isDigit_2 7 rfl rfl)
theorem dX5_isDigit_54 : decode cX5_isDigit 54 = .ok (.ireturn, 1) := dk_172 (dk_at dksX5_isDigit_2 8 rfl rfl)
abbrev cX5_expect : ByteArray := prog_21_method_50_code
def yX5_expect : MethodName := ⟨RX5, "expect", "(I)V"⟩
def dkwX5_expect_1 : List UInt8 := [181, 0, 191, 167, 0, 8, 42, 3, 181, 0, 200, 177]
abbrev dktX5_expect_1 : List UInt8 := dkwX5_expect_1 ++ []
def dkwX5_expect_0 : List UInt8 := [42, 180, 0, 200, 153, 0, 24, 42, 27, 182, 0, 203, 153, 0, 16, 42, 89, 180, 0, 191, 4, 96]
abbrev dktX5_expect_0 : List UInt8 := dkwX5_expect_0 ++ dktX5_expect_1
theorem dksX5_expect_0 : cX5_expect.data.toList.drop 0 = dktX5_expect_0 := by decide +kernel
theorem dksX5_expect_1 : cX5_expect.data.toList.drop 22 = dktX5_expect_1 := dk_seg dksX5_expect_0 22 rfl rfl
theorem dX5_expect_0 : decode cX5_expect 0 = .ok (.aload_n 0, 1) := dk_42 (dk_at dksX5_expect_0 0 rfl rfl)
theorem dX5_expect_1 : decode cX5_expect 1 = .ok (.getfield 200, 3) := dk_180 0 200 (dk_at dksX5_expect_0 1 rfl rfl)
theorem dX5_expect_4 : decode cX5_expect 4 = .ok (.ifCond .eq 24, 3) := dk_153 0 24 (dk_at dksX5_expect_0 4 rfl rfl)
theorem dX5_expect_7 : decode cX5_expect 7 = .ok (.aload_n 0, 1) := dk_42 (dk_at dksX5_expect_0 7 rfl rfl)
theorem dX5_expect_8 : decode cX5_expect 8 = .ok (.iload_n 1, 1) := dk_27 (dk_at dksX5_expect_0 8 rfl rfl)
theorem dX5_expect_9 : decode cX5_expect 9 = .ok (.invokevirtual 203, 3) := dk_182 0 203 (dk_at dksX5_expect_0 9 rfl rfl)
theorem dX5_expect_12 : decode cX5_expect 12 = .ok (.ifCond .eq 16, 3) := dk_153 0 16 (dk_at dksX5_expect_0 12 rfl rfl)
theorem dX5_expect_15 : decode cX5_expect 15 = .ok (.aload_n 0, 1) := dk_42 (dk_at dksX5_expect_0 15 rfl rfl)
theorem dX5_expect_16 : decode cX5_expect 16 = .ok (.dup, 1) := dk_89 (dk_at dksX5_expect_0 16 rfl rfl)
theorem dX5_expect_17 : decode cX5_expect 17 = .ok (.getfield 191, 3) := dk_180 0 191 (dk_at dksX5_expect_0 17 rfl rfl)
theorem dX5_expect_20 : decode cX5_expect 20 = .ok (.iconst 1, 1) := dk_4 (dk_at dksX5_expect_0 20 rfl rfl)
theorem dX5_expect_21 : decode cX5_expect 21 = .ok (.iadd, 1) := dk_96 (dk_at dksX5_expect_0 21 rfl rfl)
theorem dX5_expect_22 : decode cX5_expect 22 = .ok (.putfield 191, 3) := dk_181 0 191 (dk_at dksX5_expect_1 0 rfl rfl)
theorem dX5_expect_25 : decode cX5_expect 25 = .ok (.goto 8, 3) := dk_167 0 8 (dk_at dksX5_expect_1 3 rfl rfl)
theorem dX5_expect_28 : decode cX5_expect 28 = .ok (.aload_n 0, 1) := dk_42 (dk_at dksX5_expect_1 6 rfl rfl)
theorem dX5_expect_29 : decode cX5_expect 29 = .ok (.iconst 0, 1) := dk_3 (dk_at dksX5_expect_1 7 rfl rfl)
theorem dX5_expect_30 : decode cX5_expect 30 = .ok (.putfield 200, 3) := dk_181 0 200 (dk_at dksX5_expect_1 8 rfl rfl)
theorem dX5_expect_33 : decode cX5_expect 33 = .ok (.return_, 1) := dk_177 (dk_at dksX5_expect_1 11 rfl rfl)
abbrev cX5_comes_2 : ByteArray := prog_21_method_49_code
def yX5_comes_2 : MethodName := ⟨RX5, "comes", "(I)Z"⟩
def dkwX5_comes_2_1 : List UInt8 := [46, 27, 160, 0, 7, 4, 167, 0, 4, 3, 172]
abbrev dktX5_comes_2_1 : List UInt8 := dkwX5_comes_2_1 ++ []
def dkwX5_comes_2_0 : List UInt8 := [42, 180, 0, 191, 42, 180, 0, 194, 162, 0, 25, 42, 180, 0, 85, 42, 180, 0, 197, 42, 180, 0, 191, 96]
abbrev dktX5_comes_2_0 : List UInt8 := dkwX5_comes_2_0 ++ dktX5_comes_2_1
theorem dksX5_comes_2_0 : cX5_comes_2.data.toList.drop 0 = dktX5_comes_2_0 := by decide +kernel
theorem dksX5_comes_2_1 : cX5_comes_2.data.toList.drop 24 = dktX5_comes_2_1 := dk_seg dksX5_comes_2_0 24 rfl rfl
theorem dX5_comes_2_0 : decode cX5_comes_2 0 = .ok (.aload_n 0, 1) := dk_42 (dk_at dksX5_comes_2_0 0 rfl rfl)
theorem dX5_comes_2_1 : decode cX5_comes_2 1 = .ok (.getfield 191, 3) := dk_180 0 191 (dk_at dksX5_comes_2_0 1 rfl rfl)
theorem dX5_comes_2_4 : decode cX5_comes_2 4 = .ok (.aload_n 0, 1) := dk_42 (dk_at dksX5_comes_2_0 4 rfl rfl)
theorem dX5_comes_2_5 : decode cX5_comes_2 5 = .ok (.getfield 194, 3) := dk_180 0 194 (dk_at dksX5_comes_2_0 5 rfl rfl)
theorem dX5_comes_2_8 : decode cX5_comes_2 8 = .ok (.if_icmp .ge 25, 3) := dk_162 0 25 (dk_at dksX5_comes_2_0 8 rfl rfl)
theorem dX5_comes_2_11 : decode cX5_comes_2 11 = .ok (.aload_n 0, 1) := dk_42 (dk_at dksX5_comes_2_0 11 rfl rfl)
theorem dX5_comes_2_12 : decode cX5_comes_2 12 = .ok (.getfield 85, 3) := dk_180 0 85 (dk_at dksX5_comes_2_0 12 rfl rfl)
theorem dX5_comes_2_15 : decode cX5_comes_2 15 = .ok (.aload_n 0, 1) := dk_42 (dk_at dksX5_comes_2_0 15 rfl rfl)
theorem dX5_comes_2_16 : decode cX5_comes_2 16 = .ok (.getfield 197, 3) := dk_180 0 197 (dk_at dksX5_comes_2_0 16 rfl rfl)
theorem dX5_comes_2_19 : decode cX5_comes_2 19 = .ok (.aload_n 0, 1) := dk_42 (dk_at dksX5_comes_2_0 19 rfl rfl)
theorem dX5_comes_2_20 : decode cX5_comes_2 20 = .ok (.getfield 191, 3) := dk_180 0 191 (dk_at dksX5_comes_2_0 20 rfl rfl)
theorem dX5_comes_2_23 : decode cX5_comes_2 23 = .ok (.iadd, 1) := dk_96 (dk_at dksX5_comes_2_0 23 rfl rfl)
theorem dX5_comes_2_24 : decode cX5_comes_2 24 = .ok (.iaload, 1) := dk_46 (dk_at dksX5_comes_2_1 0 rfl rfl)
theorem dX5_comes_2_25 : decode cX5_comes_2 25 = .ok (.iload_n 1, 1) := dk_27 (dk_at dksX5_comes_2_1 1 rfl rfl)
theorem dX5_comes_2_26 : decode cX5_comes_2 26 = .ok (.if_icmp .ne 7, 3) := dk_160 0 7 (dk_at dksX5_comes_2_1 2 rfl rfl)
theorem dX5_comes_2_29 : decode cX5_comes_2 29 = .ok (.iconst 1, 1) := dk_4 (dk_at dksX5_comes_2_1 5 rfl rfl)
theorem dX5_comes_2_30 : decode cX5_comes_2 30 = .ok (.goto 4, 3) := dk_167 0 4 (dk_at dksX5_comes_2_1 6 rfl rfl)
theorem dX5_comes_2_33 : decode cX5_comes_2 33 = .ok (.iconst 0, 1) := dk_3 (dk_at dksX5_comes_2_1 9 rfl rfl)
theorem dX5_comes_2_34 : decode cX5_comes_2 34 = .ok (.ireturn, 1) := dk_172 (dk_at dksX5_comes_2_1 10 rfl rfl)
abbrev cX5_isAsTold : ByteArray := prog_21_method_54_code
def yX5_isAsTold : MethodName := ⟨RX5, "isAsTold", "(IIIIII)Z"⟩
def dkwX5_isAsTold_8 : List UInt8 := [164, 0, 7, 4, 167, 0, 4, 3, 172]
abbrev dktX5_isAsTold_8 : List UInt8 := dkwX5_isAsTold_8 ++ []
def dkwX5_isAsTold_7 : List UInt8 := [162, 0, 30, 42, 180, 0, 73, 3, 46, 17, 2, 207, 163, 0, 18, 42, 180, 0, 73, 3, 46, 21, 6]
abbrev dktX5_isAsTold_7 : List UInt8 := dkwX5_isAsTold_7 ++ dktX5_isAsTold_8
def dkwX5_isAsTold_6 : List UInt8 := [3, 172, 42, 180, 0, 73, 3, 46, 5, 163, 0, 7, 4, 167, 0, 4, 3, 172, 21, 4, 16, 8]
abbrev dktX5_isAsTold_6 : List UInt8 := dkwX5_isAsTold_6 ++ dktX5_isAsTold_7
def dkwX5_isAsTold_5 : List UInt8 := [16, 20, 184, 0, 100, 153, 0, 19, 42, 180, 0, 73, 6, 46, 17, 2, 207, 163, 0, 7, 4, 167, 0, 4]
abbrev dktX5_isAsTold_5 : List UInt8 := dkwX5_isAsTold_5 ++ dktX5_isAsTold_6
def dkwX5_isAsTold_4 : List UInt8 := [16, 6, 162, 0, 46, 42, 180, 0, 73, 3, 46, 16, 7, 163, 0, 35, 42, 180, 0, 73, 5, 46, 16, 236]
abbrev dktX5_isAsTold_4 : List UInt8 := dkwX5_isAsTold_4 ++ dktX5_isAsTold_5
def dkwX5_isAsTold_3 : List UInt8 := [21, 5, 164, 0, 18, 42, 180, 0, 73, 4, 46, 16, 59, 163, 0, 7, 4, 167, 0, 4, 3, 172, 29]
abbrev dktX5_isAsTold_3 : List UInt8 := dkwX5_isAsTold_3 ++ dktX5_isAsTold_4
def dkwX5_isAsTold_2 : List UInt8 := [28, 8, 162, 0, 41, 42, 180, 0, 73, 3, 46, 17, 2, 207, 163, 0, 29, 42, 180, 0, 73, 3, 46]
abbrev dktX5_isAsTold_2 : List UInt8 := dkwX5_isAsTold_2 ++ dktX5_isAsTold_3
def dkwX5_isAsTold_1 : List UInt8 := [171, 0, 0, 0, 0, 0, 147, 0, 0, 0, 3, 0, 0, 0, 107, 0, 0, 0, 80, 0, 0, 0, 108, 0, 0, 0, 131, 0, 0, 0, 119, 0, 0, 0, 35]
abbrev dktX5_isAsTold_1 : List UInt8 := dkwX5_isAsTold_1 ++ dktX5_isAsTold_2
def dkwX5_isAsTold_0 : List UInt8 := [27]
abbrev dktX5_isAsTold_0 : List UInt8 := dkwX5_isAsTold_0 ++ dktX5_isAsTold_1
theorem dksX5_isAsTold_0 : cX5_isAsTold.data.toList.drop 0 = dktX5_isAsTold_0 := by decide +kernel
theorem dksX5_isAsTold_1 : cX5_isAsTold.data.toList.drop 1 = dktX5_isAsTold_1 := dk_seg dksX5_isAsTold_0 1 rfl rfl
theorem dksX5_isAsTold_2 : cX5_isAsTold.data.toList.drop 36 = dktX5_isAsTold_2 := dk_seg dksX5_isAsTold_1 35 rfl rfl
theorem dksX5_isAsTold_3 : cX5_isAsTold.data.toList.drop 59 = dktX5_isAsTold_3 := dk_seg dksX5_isAsTold_2 23 rfl rfl
theorem dksX5_isAsTold_4 : cX5_isAsTold.data.toList.drop 82 = dktX5_isAsTold_4 := dk_seg dksX5_isAsTold_3 23 rfl rfl
theorem dksX5_isAsTold_5 : cX5_isAsTold.data.toList.drop 106 = dktX5_isAsTold_5 := dk_seg dksX5_isAsTold_4 24 rfl rfl
theorem dksX5_isAsTold_6 : cX5_isAsTold.data.toList.drop 130 = dktX5_isAsTold_6 := dk_seg dksX5_isAsTold_5 24 rfl rfl
theorem dksX5_isAsTold_7 : cX5_isAsTold.data.toList.drop 152 = dktX5_isAsTold_7 := dk_seg dksX5_isAsTold_6 22 rfl rfl
theorem dksX5_isAsTold_8 : cX5_isAsTold.data.toList.drop 175 = dktX5_isAsTold_8 := dk_seg dksX5_isAsTold_7 23 rfl rfl
theorem dX5_isAsTold_0 : decode cX5_isAsTold 0 = .ok (.iload_n 1, 1) := dk_27 (dk_at dksX5_isAsTold_0 0 rfl rfl)
theorem dX5_isAsTold_1 : decode cX5_isAsTold 1 = .ok (.lookupswitch 147 #[(107, 80), (108, 131), (119, 35)], 35) := by decide +kernel
theorem dX5_isAsTold_36 : decode cX5_isAsTold 36 = .ok (.iload_n 2, 1) := dk_28 (dk_at dksX5_isAsTold_2 0 rfl rfl)
theorem dX5_isAsTold_37 : decode cX5_isAsTold 37 = .ok (.iconst 5, 1) := dk_8 (dk_at dksX5_isAsTold_2 1 rfl rfl)
theorem dX5_isAsTold_38 : decode cX5_isAsTold 38 = .ok (.if_icmp .ge 41, 3) := dk_162 0 41 (dk_at dksX5_isAsTold_2 2 rfl rfl)
theorem dX5_isAsTold_41 : decode cX5_isAsTold 41 = .ok (.aload_n 0, 1) := dk_42 (dk_at dksX5_isAsTold_2 5 rfl rfl)
theorem dX5_isAsTold_42 : decode cX5_isAsTold 42 = .ok (.getfield 73, 3) := dk_180 0 73 (dk_at dksX5_isAsTold_2 6 rfl rfl)
theorem dX5_isAsTold_45 : decode cX5_isAsTold 45 = .ok (.iconst 0, 1) := dk_3 (dk_at dksX5_isAsTold_2 9 rfl rfl)
theorem dX5_isAsTold_46 : decode cX5_isAsTold 46 = .ok (.iaload, 1) := dk_46 (dk_at dksX5_isAsTold_2 10 rfl rfl)
theorem dX5_isAsTold_47 : decode cX5_isAsTold 47 = .ok (.sipush 719, 3) := dk_17 2 207 (dk_at dksX5_isAsTold_2 11 rfl rfl)
theorem dX5_isAsTold_50 : decode cX5_isAsTold 50 = .ok (.if_icmp .gt 29, 3) := dk_163 0 29 (dk_at dksX5_isAsTold_2 14 rfl rfl)
theorem dX5_isAsTold_53 : decode cX5_isAsTold 53 = .ok (.aload_n 0, 1) := dk_42 (dk_at dksX5_isAsTold_2 17 rfl rfl)
theorem dX5_isAsTold_54 : decode cX5_isAsTold 54 = .ok (.getfield 73, 3) := dk_180 0 73 (dk_at dksX5_isAsTold_2 18 rfl rfl)
theorem dX5_isAsTold_57 : decode cX5_isAsTold 57 = .ok (.iconst 0, 1) := dk_3 (dk_at dksX5_isAsTold_2 21 rfl rfl)
theorem dX5_isAsTold_58 : decode cX5_isAsTold 58 = .ok (.iaload, 1) := dk_46 (dk_at dksX5_isAsTold_2 22 rfl rfl)
theorem dX5_isAsTold_59 : decode cX5_isAsTold 59 = .ok (.iload 5, 2) := dk_21 5 (dk_at dksX5_isAsTold_3 0 rfl rfl)
theorem dX5_isAsTold_61 : decode cX5_isAsTold 61 = .ok (.if_icmp .le 18, 3) := dk_164 0 18 (dk_at dksX5_isAsTold_3 2 rfl rfl)
theorem dX5_isAsTold_64 : decode cX5_isAsTold 64 = .ok (.aload_n 0, 1) := dk_42 (dk_at dksX5_isAsTold_3 5 rfl rfl)
theorem dX5_isAsTold_65 : decode cX5_isAsTold 65 = .ok (.getfield 73, 3) := dk_180 0 73 (dk_at dksX5_isAsTold_3 6 rfl rfl)
theorem dX5_isAsTold_68 : decode cX5_isAsTold 68 = .ok (.iconst 1, 1) := dk_4 (dk_at dksX5_isAsTold_3 9 rfl rfl)
theorem dX5_isAsTold_69 : decode cX5_isAsTold 69 = .ok (.iaload, 1) := dk_46 (dk_at dksX5_isAsTold_3 10 rfl rfl)
theorem dX5_isAsTold_70 : decode cX5_isAsTold 70 = .ok (.bipush 59, 2) := dk_16 59 (dk_at dksX5_isAsTold_3 11 rfl rfl)
theorem dX5_isAsTold_72 : decode cX5_isAsTold 72 = .ok (.if_icmp .gt 7, 3) := dk_163 0 7 (dk_at dksX5_isAsTold_3 13 rfl rfl)
theorem dX5_isAsTold_75 : decode cX5_isAsTold 75 = .ok (.iconst 1, 1) := dk_4 (dk_at dksX5_isAsTold_3 16 rfl rfl)
theorem dX5_isAsTold_76 : decode cX5_isAsTold 76 = .ok (.goto 4, 3) := dk_167 0 4 (dk_at dksX5_isAsTold_3 17 rfl rfl)
theorem dX5_isAsTold_79 : decode cX5_isAsTold 79 = .ok (.iconst 0, 1) := dk_3 (dk_at dksX5_isAsTold_3 20 rfl rfl)
theorem dX5_isAsTold_80 : decode cX5_isAsTold 80 = .ok (.ireturn, 1) := dk_172 (dk_at dksX5_isAsTold_3 21 rfl rfl)
theorem dX5_isAsTold_81 : decode cX5_isAsTold 81 = .ok (.iload_n 3, 1) := dk_29 (dk_at dksX5_isAsTold_3 22 rfl rfl)
theorem dX5_isAsTold_82 : decode cX5_isAsTold 82 = .ok (.bipush 6, 2) := dk_16 6 (dk_at dksX5_isAsTold_4 0 rfl rfl)
theorem dX5_isAsTold_84 : decode cX5_isAsTold 84 = .ok (.if_icmp .ge 46, 3) := dk_162 0 46 (dk_at dksX5_isAsTold_4 2 rfl rfl)
theorem dX5_isAsTold_87 : decode cX5_isAsTold 87 = .ok (.aload_n 0, 1) := dk_42 (dk_at dksX5_isAsTold_4 5 rfl rfl)
theorem dX5_isAsTold_88 : decode cX5_isAsTold 88 = .ok (.getfield 73, 3) := dk_180 0 73 (dk_at dksX5_isAsTold_4 6 rfl rfl)
theorem dX5_isAsTold_91 : decode cX5_isAsTold 91 = .ok (.iconst 0, 1) := dk_3 (dk_at dksX5_isAsTold_4 9 rfl rfl)
theorem dX5_isAsTold_92 : decode cX5_isAsTold 92 = .ok (.iaload, 1) := dk_46 (dk_at dksX5_isAsTold_4 10 rfl rfl)
theorem dX5_isAsTold_93 : decode cX5_isAsTold 93 = .ok (.bipush 7, 2) := dk_16 7 (dk_at dksX5_isAsTold_4 11 rfl rfl)
theorem dX5_isAsTold_95 : decode cX5_isAsTold 95 = .ok (.if_icmp .gt 35, 3) := dk_163 0 35 (dk_at dksX5_isAsTold_4 13 rfl rfl)
theorem dX5_isAsTold_98 : decode cX5_isAsTold 98 = .ok (.aload_n 0, 1) := dk_42 (dk_at dksX5_isAsTold_4 16 rfl rfl)
theorem dX5_isAsTold_99 : decode cX5_isAsTold 99 = .ok (.getfield 73, 3) := dk_180 0 73 (dk_at dksX5_isAsTold_4 17 rfl rfl)
theorem dX5_isAsTold_102 : decode cX5_isAsTold 102 = .ok (.iconst 2, 1) := dk_5 (dk_at dksX5_isAsTold_4 20 rfl rfl)
theorem dX5_isAsTold_103 : decode cX5_isAsTold 103 = .ok (.iaload, 1) := dk_46 (dk_at dksX5_isAsTold_4 21 rfl rfl)
theorem dX5_isAsTold_104 : decode cX5_isAsTold 104 = .ok (.bipush (-20), 2) := dk_16 236 (dk_at dksX5_isAsTold_4 22 rfl rfl)
theorem dX5_isAsTold_106 : decode cX5_isAsTold 106 = .ok (.bipush 20, 2) := dk_16 20 (dk_at dksX5_isAsTold_5 0 rfl rfl)
theorem dX5_isAsTold_108 : decode cX5_isAsTold 108 = .ok (.invokestatic 100, 3) := dk_184 0 100 (dk_at dksX5_isAsTold_5 2 rfl rfl)
theorem dX5_isAsTold_111 : decode cX5_isAsTold 111 = .ok (.ifCond .eq 19, 3) := dk_153 0 19 (dk_at dksX5_isAsTold_5 5 rfl rfl)
theorem dX5_isAsTold_114 : decode cX5_isAsTold 114 = .ok (.aload_n 0, 1) := dk_42 (dk_at dksX5_isAsTold_5 8 rfl rfl)
theorem dX5_isAsTold_115 : decode cX5_isAsTold 115 = .ok (.getfield 73, 3) := dk_180 0 73 (dk_at dksX5_isAsTold_5 9 rfl rfl)
theorem dX5_isAsTold_118 : decode cX5_isAsTold 118 = .ok (.iconst 3, 1) := dk_6 (dk_at dksX5_isAsTold_5 12 rfl rfl)
theorem dX5_isAsTold_119 : decode cX5_isAsTold 119 = .ok (.iaload, 1) := dk_46 (dk_at dksX5_isAsTold_5 13 rfl rfl)
theorem dX5_isAsTold_120 : decode cX5_isAsTold 120 = .ok (.sipush 719, 3) := dk_17 2 207 (dk_at dksX5_isAsTold_5 14 rfl rfl)
theorem dX5_isAsTold_123 : decode cX5_isAsTold 123 = .ok (.if_icmp .gt 7, 3) := dk_163 0 7 (dk_at dksX5_isAsTold_5 17 rfl rfl)
theorem dX5_isAsTold_126 : decode cX5_isAsTold 126 = .ok (.iconst 1, 1) := dk_4 (dk_at dksX5_isAsTold_5 20 rfl rfl)
theorem dX5_isAsTold_127 : decode cX5_isAsTold 127 = .ok (.goto 4, 3) := dk_167 0 4 (dk_at dksX5_isAsTold_5 21 rfl rfl)
theorem dX5_isAsTold_130 : decode cX5_isAsTold 130 = .ok (.iconst 0, 1) := dk_3 (dk_at dksX5_isAsTold_6 0 rfl rfl)
theorem dX5_isAsTold_131 : decode cX5_isAsTold 131 = .ok (.ireturn, 1) := dk_172 (dk_at dksX5_isAsTold_6 1 rfl rfl)
theorem dX5_isAsTold_132 : decode cX5_isAsTold 132 = .ok (.aload_n 0, 1) := dk_42 (dk_at dksX5_isAsTold_6 2 rfl rfl)
theorem dX5_isAsTold_133 : decode cX5_isAsTold 133 = .ok (.getfield 73, 3) := dk_180 0 73 (dk_at dksX5_isAsTold_6 3 rfl rfl)
theorem dX5_isAsTold_136 : decode cX5_isAsTold 136 = .ok (.iconst 0, 1) := dk_3 (dk_at dksX5_isAsTold_6 6 rfl rfl)
theorem dX5_isAsTold_137 : decode cX5_isAsTold 137 = .ok (.iaload, 1) := dk_46 (dk_at dksX5_isAsTold_6 7 rfl rfl)
theorem dX5_isAsTold_138 : decode cX5_isAsTold 138 = .ok (.iconst 2, 1) := dk_5 (dk_at dksX5_isAsTold_6 8 rfl rfl)
theorem dX5_isAsTold_139 : decode cX5_isAsTold 139 = .ok (.if_icmp .gt 7, 3) := dk_163 0 7 (dk_at dksX5_isAsTold_6 9 rfl rfl)
theorem dX5_isAsTold_142 : decode cX5_isAsTold 142 = .ok (.iconst 1, 1) := dk_4 (dk_at dksX5_isAsTold_6 12 rfl rfl)
theorem dX5_isAsTold_143 : decode cX5_isAsTold 143 = .ok (.goto 4, 3) := dk_167 0 4 (dk_at dksX5_isAsTold_6 13 rfl rfl)
theorem dX5_isAsTold_146 : decode cX5_isAsTold 146 = .ok (.iconst 0, 1) := dk_3 (dk_at dksX5_isAsTold_6 16 rfl rfl)
theorem dX5_isAsTold_147 : decode cX5_isAsTold 147 = .ok (.ireturn, 1) := dk_172 (dk_at dksX5_isAsTold_6 17 rfl rfl)
theorem dX5_isAsTold_148 : decode cX5_isAsTold 148 = .ok (.iload 4, 2) := dk_21 4 (dk_at dksX5_isAsTold_6 18 rfl rfl)
theorem dX5_isAsTold_150 : decode cX5_isAsTold 150 = .ok (.bipush 8, 2) := dk_16 8 (dk_at dksX5_isAsTold_6 20 rfl rfl)
theorem dX5_isAsTold_152 : decode cX5_isAsTold 152 = .ok (.if_icmp .ge 30, 3) := dk_162 0 30 (dk_at dksX5_isAsTold_7 0 rfl rfl)
theorem dX5_isAsTold_155 : decode cX5_isAsTold 155 = .ok (.aload_n 0, 1) := dk_42 (dk_at dksX5_isAsTold_7 3 rfl rfl)
theorem dX5_isAsTold_156 : decode cX5_isAsTold 156 = .ok (.getfield 73, 3) := dk_180 0 73 (dk_at dksX5_isAsTold_7 4 rfl rfl)
theorem dX5_isAsTold_159 : decode cX5_isAsTold 159 = .ok (.iconst 0, 1) := dk_3 (dk_at dksX5_isAsTold_7 7 rfl rfl)
theorem dX5_isAsTold_160 : decode cX5_isAsTold 160 = .ok (.iaload, 1) := dk_46 (dk_at dksX5_isAsTold_7 8 rfl rfl)
theorem dX5_isAsTold_161 : decode cX5_isAsTold 161 = .ok (.sipush 719, 3) := dk_17 2 207 (dk_at dksX5_isAsTold_7 9 rfl rfl)
theorem dX5_isAsTold_164 : decode cX5_isAsTold 164 = .ok (.if_icmp .gt 18, 3) := dk_163 0 18 (dk_at dksX5_isAsTold_7 12 rfl rfl)
theorem dX5_isAsTold_167 : decode cX5_isAsTold 167 = .ok (.aload_n 0, 1) := dk_42 (dk_at dksX5_isAsTold_7 15 rfl rfl)
theorem dX5_isAsTold_168 : decode cX5_isAsTold 168 = .ok (.getfield 73, 3) := dk_180 0 73 (dk_at dksX5_isAsTold_7 16 rfl rfl)
theorem dX5_isAsTold_171 : decode cX5_isAsTold 171 = .ok (.iconst 0, 1) := dk_3 (dk_at dksX5_isAsTold_7 19 rfl rfl)
theorem dX5_isAsTold_172 : decode cX5_isAsTold 172 = .ok (.iaload, 1) := dk_46 (dk_at dksX5_isAsTold_7 20 rfl rfl)
theorem dX5_isAsTold_173 : decode cX5_isAsTold 173 = .ok (.iload 6, 2) := dk_21 6 (dk_at dksX5_isAsTold_7 21 rfl rfl)
theorem dX5_isAsTold_175 : decode cX5_isAsTold 175 = .ok (.if_icmp .le 7, 3) := dk_164 0 7 (dk_at dksX5_isAsTold_8 0 rfl rfl)
theorem dX5_isAsTold_178 : decode cX5_isAsTold 178 = .ok (.iconst 1, 1) := dk_4 (dk_at dksX5_isAsTold_8 3 rfl rfl)
theorem dX5_isAsTold_179 : decode cX5_isAsTold 179 = .ok (.goto 4, 3) := dk_167 0 4 (dk_at dksX5_isAsTold_8 4 rfl rfl)
theorem dX5_isAsTold_182 : decode cX5_isAsTold 182 = .ok (.iconst 0, 1) := dk_3 (dk_at dksX5_isAsTold_8 7 rfl rfl)
theorem dX5_isAsTold_183 : decode cX5_isAsTold 183 = .ok (.ireturn, 1) := dk_172 (dk_at dksX5_isAsTold_8 8 rfl rfl)
abbrev cX5_come : ByteArray := prog_21_method_55_code
def yX5_come : MethodName := ⟨RX5, "come", "(I)V"⟩
def dkwX5_come_9 : List UInt8 := [42, 180, 0, 7, 5, 46, 42, 180, 0, 73, 3, 46, 79, 42, 180, 0, 7, 5, 92, 46, 4, 96, 79, 177]
abbrev dktX5_come_9 : List UInt8 := dkwX5_come_9 ++ []
def dkwX5_come_8 : List UInt8 := [96, 79, 167, 0, 45, 42, 180, 0, 7, 6, 42, 180, 0, 73, 3, 46, 79, 167, 0, 30, 42, 180, 0, 34]
abbrev dktX5_come_8 : List UInt8 := dkwX5_come_8 ++ dktX5_come_9
def dkwX5_come_7 : List UInt8 := [180, 0, 31, 42, 180, 0, 7, 4, 46, 42, 180, 0, 73, 6, 46, 79, 42, 180, 0, 7, 4, 92, 46, 4]
abbrev dktX5_come_7 : List UInt8 := dkwX5_come_7 ++ dktX5_come_8
def dkwX5_come_6 : List UInt8 := [180, 0, 73, 4, 46, 79, 42, 180, 0, 28, 42, 180, 0, 7, 4, 46, 42, 180, 0, 73, 5, 46, 79, 42]
abbrev dktX5_come_6 : List UInt8 := dkwX5_come_6 ++ dktX5_come_7
def dkwX5_come_5 : List UInt8 := [180, 0, 7, 4, 46, 42, 180, 0, 73, 3, 46, 79, 42, 180, 0, 25, 42, 180, 0, 7, 4, 46, 42]
abbrev dktX5_come_5 : List UInt8 := dkwX5_come_5 ++ dktX5_come_6
def dkwX5_come_4 : List UInt8 := [180, 0, 73, 5, 46, 79, 42, 180, 0, 7, 3, 92, 46, 4, 96, 79, 167, 0, 126, 42, 180, 0, 22, 42]
abbrev dktX5_come_4 : List UInt8 := dkwX5_come_4 ++ dktX5_come_5
def dkwX5_come_3 : List UInt8 := [180, 0, 7, 3, 46, 42, 180, 0, 73, 4, 46, 79, 42, 180, 0, 19, 42, 180, 0, 7, 3, 46, 42]
abbrev dktX5_come_3 : List UInt8 := dkwX5_come_3 ++ dktX5_come_4
def dkwX5_come_2 : List UInt8 := [42, 180, 0, 13, 42, 180, 0, 7, 3, 46, 42, 180, 0, 73, 3, 46, 79, 42, 180, 0, 16, 42]
abbrev dktX5_come_2 : List UInt8 := dkwX5_come_2 ++ dktX5_come_3
def dkwX5_come_1 : List UInt8 := [171, 0, 0, 0, 0, 0, 195, 0, 0, 0, 3, 0, 0, 0, 107, 0, 0, 0, 99, 0, 0, 0, 108, 0, 0, 0, 180, 0, 0, 0, 119, 0, 0, 0, 35]
abbrev dktX5_come_1 : List UInt8 := dkwX5_come_1 ++ dktX5_come_2
def dkwX5_come_0 : List UInt8 := [27]
abbrev dktX5_come_0 : List UInt8 := dkwX5_come_0 ++ dktX5_come_1
theorem dksX5_come_0 : cX5_come.data.toList.drop 0 = dktX5_come_0 := by decide +kernel
theorem dksX5_come_1 : cX5_come.data.toList.drop 1 = dktX5_come_1 := dk_seg dksX5_come_0 1 rfl rfl
theorem dksX5_come_2 : cX5_come.data.toList.drop 36 = dktX5_come_2 := dk_seg dksX5_come_1 35 rfl rfl
theorem dksX5_come_3 : cX5_come.data.toList.drop 58 = dktX5_come_3 := dk_seg dksX5_come_2 22 rfl rfl
theorem dksX5_come_4 : cX5_come.data.toList.drop 81 = dktX5_come_4 := dk_seg dksX5_come_3 23 rfl rfl
theorem dksX5_come_5 : cX5_come.data.toList.drop 105 = dktX5_come_5 := dk_seg dksX5_come_4 24 rfl rfl
theorem dksX5_come_6 : cX5_come.data.toList.drop 128 = dktX5_come_6 := dk_seg dksX5_come_5 23 rfl rfl
theorem dksX5_come_7 : cX5_come.data.toList.drop 152 = dktX5_come_7 := dk_seg dksX5_come_6 24 rfl rfl
theorem dksX5_come_8 : cX5_come.data.toList.drop 176 = dktX5_come_8 := dk_seg dksX5_come_7 24 rfl rfl
theorem dksX5_come_9 : cX5_come.data.toList.drop 200 = dktX5_come_9 := dk_seg dksX5_come_8 24 rfl rfl
theorem dX5_come_0 : decode cX5_come 0 = .ok (.iload_n 1, 1) := dk_27 (dk_at dksX5_come_0 0 rfl rfl)
theorem dX5_come_1 : decode cX5_come 1 = .ok (.lookupswitch 195 #[(107, 99), (108, 180), (119, 35)], 35) := by decide +kernel
theorem dX5_come_36 : decode cX5_come 36 = .ok (.aload_n 0, 1) := dk_42 (dk_at dksX5_come_2 0 rfl rfl)
theorem dX5_come_37 : decode cX5_come 37 = .ok (.getfield 13, 3) := dk_180 0 13 (dk_at dksX5_come_2 1 rfl rfl)
theorem dX5_come_40 : decode cX5_come 40 = .ok (.aload_n 0, 1) := dk_42 (dk_at dksX5_come_2 4 rfl rfl)
theorem dX5_come_41 : decode cX5_come 41 = .ok (.getfield 7, 3) := dk_180 0 7 (dk_at dksX5_come_2 5 rfl rfl)
theorem dX5_come_44 : decode cX5_come 44 = .ok (.iconst 0, 1) := dk_3 (dk_at dksX5_come_2 8 rfl rfl)
theorem dX5_come_45 : decode cX5_come 45 = .ok (.iaload, 1) := dk_46 (dk_at dksX5_come_2 9 rfl rfl)
theorem dX5_come_46 : decode cX5_come 46 = .ok (.aload_n 0, 1) := dk_42 (dk_at dksX5_come_2 10 rfl rfl)
theorem dX5_come_47 : decode cX5_come 47 = .ok (.getfield 73, 3) := dk_180 0 73 (dk_at dksX5_come_2 11 rfl rfl)
theorem dX5_come_50 : decode cX5_come 50 = .ok (.iconst 0, 1) := dk_3 (dk_at dksX5_come_2 14 rfl rfl)
theorem dX5_come_51 : decode cX5_come 51 = .ok (.iaload, 1) := dk_46 (dk_at dksX5_come_2 15 rfl rfl)
theorem dX5_come_52 : decode cX5_come 52 = .ok (.iastore, 1) := dk_79 (dk_at dksX5_come_2 16 rfl rfl)
theorem dX5_come_53 : decode cX5_come 53 = .ok (.aload_n 0, 1) := dk_42 (dk_at dksX5_come_2 17 rfl rfl)
theorem dX5_come_54 : decode cX5_come 54 = .ok (.getfield 16, 3) := dk_180 0 16 (dk_at dksX5_come_2 18 rfl rfl)
theorem dX5_come_57 : decode cX5_come 57 = .ok (.aload_n 0, 1) := dk_42 (dk_at dksX5_come_2 21 rfl rfl)
theorem dX5_come_58 : decode cX5_come 58 = .ok (.getfield 7, 3) := dk_180 0 7 (dk_at dksX5_come_3 0 rfl rfl)
theorem dX5_come_61 : decode cX5_come 61 = .ok (.iconst 0, 1) := dk_3 (dk_at dksX5_come_3 3 rfl rfl)
theorem dX5_come_62 : decode cX5_come 62 = .ok (.iaload, 1) := dk_46 (dk_at dksX5_come_3 4 rfl rfl)
theorem dX5_come_63 : decode cX5_come 63 = .ok (.aload_n 0, 1) := dk_42 (dk_at dksX5_come_3 5 rfl rfl)
theorem dX5_come_64 : decode cX5_come 64 = .ok (.getfield 73, 3) := dk_180 0 73 (dk_at dksX5_come_3 6 rfl rfl)
theorem dX5_come_67 : decode cX5_come 67 = .ok (.iconst 1, 1) := dk_4 (dk_at dksX5_come_3 9 rfl rfl)
theorem dX5_come_68 : decode cX5_come 68 = .ok (.iaload, 1) := dk_46 (dk_at dksX5_come_3 10 rfl rfl)
theorem dX5_come_69 : decode cX5_come 69 = .ok (.iastore, 1) := dk_79 (dk_at dksX5_come_3 11 rfl rfl)
theorem dX5_come_70 : decode cX5_come 70 = .ok (.aload_n 0, 1) := dk_42 (dk_at dksX5_come_3 12 rfl rfl)
theorem dX5_come_71 : decode cX5_come 71 = .ok (.getfield 19, 3) := dk_180 0 19 (dk_at dksX5_come_3 13 rfl rfl)
theorem dX5_come_74 : decode cX5_come 74 = .ok (.aload_n 0, 1) := dk_42 (dk_at dksX5_come_3 16 rfl rfl)
theorem dX5_come_75 : decode cX5_come 75 = .ok (.getfield 7, 3) := dk_180 0 7 (dk_at dksX5_come_3 17 rfl rfl)
theorem dX5_come_78 : decode cX5_come 78 = .ok (.iconst 0, 1) := dk_3 (dk_at dksX5_come_3 20 rfl rfl)
theorem dX5_come_79 : decode cX5_come 79 = .ok (.iaload, 1) := dk_46 (dk_at dksX5_come_3 21 rfl rfl)
theorem dX5_come_80 : decode cX5_come 80 = .ok (.aload_n 0, 1) := dk_42 (dk_at dksX5_come_3 22 rfl rfl)
theorem dX5_come_81 : decode cX5_come 81 = .ok (.getfield 73, 3) := dk_180 0 73 (dk_at dksX5_come_4 0 rfl rfl)
theorem dX5_come_84 : decode cX5_come 84 = .ok (.iconst 2, 1) := dk_5 (dk_at dksX5_come_4 3 rfl rfl)
theorem dX5_come_85 : decode cX5_come 85 = .ok (.iaload, 1) := dk_46 (dk_at dksX5_come_4 4 rfl rfl)
theorem dX5_come_86 : decode cX5_come 86 = .ok (.iastore, 1) := dk_79 (dk_at dksX5_come_4 5 rfl rfl)
theorem dX5_come_87 : decode cX5_come 87 = .ok (.aload_n 0, 1) := dk_42 (dk_at dksX5_come_4 6 rfl rfl)
theorem dX5_come_88 : decode cX5_come 88 = .ok (.getfield 7, 3) := dk_180 0 7 (dk_at dksX5_come_4 7 rfl rfl)
theorem dX5_come_91 : decode cX5_come 91 = .ok (.iconst 0, 1) := dk_3 (dk_at dksX5_come_4 10 rfl rfl)
theorem dX5_come_92 : decode cX5_come 92 = .ok (.dup2, 1) := dk_92 (dk_at dksX5_come_4 11 rfl rfl)
theorem dX5_come_93 : decode cX5_come 93 = .ok (.iaload, 1) := dk_46 (dk_at dksX5_come_4 12 rfl rfl)
theorem dX5_come_94 : decode cX5_come 94 = .ok (.iconst 1, 1) := dk_4 (dk_at dksX5_come_4 13 rfl rfl)
theorem dX5_come_95 : decode cX5_come 95 = .ok (.iadd, 1) := dk_96 (dk_at dksX5_come_4 14 rfl rfl)
theorem dX5_come_96 : decode cX5_come 96 = .ok (.iastore, 1) := dk_79 (dk_at dksX5_come_4 15 rfl rfl)
theorem dX5_come_97 : decode cX5_come 97 = .ok (.goto 126, 3) := dk_167 0 126 (dk_at dksX5_come_4 16 rfl rfl)
theorem dX5_come_100 : decode cX5_come 100 = .ok (.aload_n 0, 1) := dk_42 (dk_at dksX5_come_4 19 rfl rfl)
theorem dX5_come_101 : decode cX5_come 101 = .ok (.getfield 22, 3) := dk_180 0 22 (dk_at dksX5_come_4 20 rfl rfl)
theorem dX5_come_104 : decode cX5_come 104 = .ok (.aload_n 0, 1) := dk_42 (dk_at dksX5_come_4 23 rfl rfl)
theorem dX5_come_105 : decode cX5_come 105 = .ok (.getfield 7, 3) := dk_180 0 7 (dk_at dksX5_come_5 0 rfl rfl)
theorem dX5_come_108 : decode cX5_come 108 = .ok (.iconst 1, 1) := dk_4 (dk_at dksX5_come_5 3 rfl rfl)
theorem dX5_come_109 : decode cX5_come 109 = .ok (.iaload, 1) := dk_46 (dk_at dksX5_come_5 4 rfl rfl)
theorem dX5_come_110 : decode cX5_come 110 = .ok (.aload_n 0, 1) := dk_42 (dk_at dksX5_come_5 5 rfl rfl)
theorem dX5_come_111 : decode cX5_come 111 = .ok (.getfield 73, 3) := dk_180 0 73 (dk_at dksX5_come_5 6 rfl rfl)
theorem dX5_come_114 : decode cX5_come 114 = .ok (.iconst 0, 1) := dk_3 (dk_at dksX5_come_5 9 rfl rfl)
theorem dX5_come_115 : decode cX5_come 115 = .ok (.iaload, 1) := dk_46 (dk_at dksX5_come_5 10 rfl rfl)
theorem dX5_come_116 : decode cX5_come 116 = .ok (.iastore, 1) := dk_79 (dk_at dksX5_come_5 11 rfl rfl)
theorem dX5_come_117 : decode cX5_come 117 = .ok (.aload_n 0, 1) := dk_42 (dk_at dksX5_come_5 12 rfl rfl)
theorem dX5_come_118 : decode cX5_come 118 = .ok (.getfield 25, 3) := dk_180 0 25 (dk_at dksX5_come_5 13 rfl rfl)
theorem dX5_come_121 : decode cX5_come 121 = .ok (.aload_n 0, 1) := dk_42 (dk_at dksX5_come_5 16 rfl rfl)
theorem dX5_come_122 : decode cX5_come 122 = .ok (.getfield 7, 3) := dk_180 0 7 (dk_at dksX5_come_5 17 rfl rfl)
theorem dX5_come_125 : decode cX5_come 125 = .ok (.iconst 1, 1) := dk_4 (dk_at dksX5_come_5 20 rfl rfl)
theorem dX5_come_126 : decode cX5_come 126 = .ok (.iaload, 1) := dk_46 (dk_at dksX5_come_5 21 rfl rfl)
theorem dX5_come_127 : decode cX5_come 127 = .ok (.aload_n 0, 1) := dk_42 (dk_at dksX5_come_5 22 rfl rfl)
theorem dX5_come_128 : decode cX5_come 128 = .ok (.getfield 73, 3) := dk_180 0 73 (dk_at dksX5_come_6 0 rfl rfl)
theorem dX5_come_131 : decode cX5_come 131 = .ok (.iconst 1, 1) := dk_4 (dk_at dksX5_come_6 3 rfl rfl)
theorem dX5_come_132 : decode cX5_come 132 = .ok (.iaload, 1) := dk_46 (dk_at dksX5_come_6 4 rfl rfl)
theorem dX5_come_133 : decode cX5_come 133 = .ok (.iastore, 1) := dk_79 (dk_at dksX5_come_6 5 rfl rfl)
theorem dX5_come_134 : decode cX5_come 134 = .ok (.aload_n 0, 1) := dk_42 (dk_at dksX5_come_6 6 rfl rfl)
theorem dX5_come_135 : decode cX5_come 135 = .ok (.getfield 28, 3) := dk_180 0 28 (dk_at dksX5_come_6 7 rfl rfl)
theorem dX5_come_138 : decode cX5_come 138 = .ok (.aload_n 0, 1) := dk_42 (dk_at dksX5_come_6 10 rfl rfl)
theorem dX5_come_139 : decode cX5_come 139 = .ok (.getfield 7, 3) := dk_180 0 7 (dk_at dksX5_come_6 11 rfl rfl)
theorem dX5_come_142 : decode cX5_come 142 = .ok (.iconst 1, 1) := dk_4 (dk_at dksX5_come_6 14 rfl rfl)
theorem dX5_come_143 : decode cX5_come 143 = .ok (.iaload, 1) := dk_46 (dk_at dksX5_come_6 15 rfl rfl)
theorem dX5_come_144 : decode cX5_come 144 = .ok (.aload_n 0, 1) := dk_42 (dk_at dksX5_come_6 16 rfl rfl)
theorem dX5_come_145 : decode cX5_come 145 = .ok (.getfield 73, 3) := dk_180 0 73 (dk_at dksX5_come_6 17 rfl rfl)
theorem dX5_come_148 : decode cX5_come 148 = .ok (.iconst 2, 1) := dk_5 (dk_at dksX5_come_6 20 rfl rfl)
theorem dX5_come_149 : decode cX5_come 149 = .ok (.iaload, 1) := dk_46 (dk_at dksX5_come_6 21 rfl rfl)
theorem dX5_come_150 : decode cX5_come 150 = .ok (.iastore, 1) := dk_79 (dk_at dksX5_come_6 22 rfl rfl)
theorem dX5_come_151 : decode cX5_come 151 = .ok (.aload_n 0, 1) := dk_42 (dk_at dksX5_come_6 23 rfl rfl)
theorem dX5_come_152 : decode cX5_come 152 = .ok (.getfield 31, 3) := dk_180 0 31 (dk_at dksX5_come_7 0 rfl rfl)
theorem dX5_come_155 : decode cX5_come 155 = .ok (.aload_n 0, 1) := dk_42 (dk_at dksX5_come_7 3 rfl rfl)
theorem dX5_come_156 : decode cX5_come 156 = .ok (.getfield 7, 3) := dk_180 0 7 (dk_at dksX5_come_7 4 rfl rfl)
theorem dX5_come_159 : decode cX5_come 159 = .ok (.iconst 1, 1) := dk_4 (dk_at dksX5_come_7 7 rfl rfl)
theorem dX5_come_160 : decode cX5_come 160 = .ok (.iaload, 1) := dk_46 (dk_at dksX5_come_7 8 rfl rfl)
theorem dX5_come_161 : decode cX5_come 161 = .ok (.aload_n 0, 1) := dk_42 (dk_at dksX5_come_7 9 rfl rfl)
theorem dX5_come_162 : decode cX5_come 162 = .ok (.getfield 73, 3) := dk_180 0 73 (dk_at dksX5_come_7 10 rfl rfl)
theorem dX5_come_165 : decode cX5_come 165 = .ok (.iconst 3, 1) := dk_6 (dk_at dksX5_come_7 13 rfl rfl)
theorem dX5_come_166 : decode cX5_come 166 = .ok (.iaload, 1) := dk_46 (dk_at dksX5_come_7 14 rfl rfl)
theorem dX5_come_167 : decode cX5_come 167 = .ok (.iastore, 1) := dk_79 (dk_at dksX5_come_7 15 rfl rfl)
theorem dX5_come_168 : decode cX5_come 168 = .ok (.aload_n 0, 1) := dk_42 (dk_at dksX5_come_7 16 rfl rfl)
theorem dX5_come_169 : decode cX5_come 169 = .ok (.getfield 7, 3) := dk_180 0 7 (dk_at dksX5_come_7 17 rfl rfl)
theorem dX5_come_172 : decode cX5_come 172 = .ok (.iconst 1, 1) := dk_4 (dk_at dksX5_come_7 20 rfl rfl)
theorem dX5_come_173 : decode cX5_come 173 = .ok (.dup2, 1) := dk_92 (dk_at dksX5_come_7 21 rfl rfl)
theorem dX5_come_174 : decode cX5_come 174 = .ok (.iaload, 1) := dk_46 (dk_at dksX5_come_7 22 rfl rfl)
theorem dX5_come_175 : decode cX5_come 175 = .ok (.iconst 1, 1) := dk_4 (dk_at dksX5_come_7 23 rfl rfl)
theorem dX5_come_176 : decode cX5_come 176 = .ok (.iadd, 1) := dk_96 (dk_at dksX5_come_8 0 rfl rfl)
theorem dX5_come_177 : decode cX5_come 177 = .ok (.iastore, 1) := dk_79 (dk_at dksX5_come_8 1 rfl rfl)
theorem dX5_come_178 : decode cX5_come 178 = .ok (.goto 45, 3) := dk_167 0 45 (dk_at dksX5_come_8 2 rfl rfl)
theorem dX5_come_181 : decode cX5_come 181 = .ok (.aload_n 0, 1) := dk_42 (dk_at dksX5_come_8 5 rfl rfl)
theorem dX5_come_182 : decode cX5_come 182 = .ok (.getfield 7, 3) := dk_180 0 7 (dk_at dksX5_come_8 6 rfl rfl)
theorem dX5_come_185 : decode cX5_come 185 = .ok (.iconst 3, 1) := dk_6 (dk_at dksX5_come_8 9 rfl rfl)
theorem dX5_come_186 : decode cX5_come 186 = .ok (.aload_n 0, 1) := dk_42 (dk_at dksX5_come_8 10 rfl rfl)
theorem dX5_come_187 : decode cX5_come 187 = .ok (.getfield 73, 3) := dk_180 0 73 (dk_at dksX5_come_8 11 rfl rfl)
theorem dX5_come_190 : decode cX5_come 190 = .ok (.iconst 0, 1) := dk_3 (dk_at dksX5_come_8 14 rfl rfl)
theorem dX5_come_191 : decode cX5_come 191 = .ok (.iaload, 1) := dk_46 (dk_at dksX5_come_8 15 rfl rfl)
theorem dX5_come_192 : decode cX5_come 192 = .ok (.iastore, 1) := dk_79 (dk_at dksX5_come_8 16 rfl rfl)
theorem dX5_come_193 : decode cX5_come 193 = .ok (.goto 30, 3) := dk_167 0 30 (dk_at dksX5_come_8 17 rfl rfl)
theorem dX5_come_196 : decode cX5_come 196 = .ok (.aload_n 0, 1) := dk_42 (dk_at dksX5_come_8 20 rfl rfl)
theorem dX5_come_197 : decode cX5_come 197 = .ok (.getfield 34, 3) := dk_180 0 34 (dk_at dksX5_come_8 21 rfl rfl)
theorem dX5_come_200 : decode cX5_come 200 = .ok (.aload_n 0, 1) := dk_42 (dk_at dksX5_come_9 0 rfl rfl)
theorem dX5_come_201 : decode cX5_come 201 = .ok (.getfield 7, 3) := dk_180 0 7 (dk_at dksX5_come_9 1 rfl rfl)
theorem dX5_come_204 : decode cX5_come 204 = .ok (.iconst 2, 1) := dk_5 (dk_at dksX5_come_9 4 rfl rfl)
theorem dX5_come_205 : decode cX5_come 205 = .ok (.iaload, 1) := dk_46 (dk_at dksX5_come_9 5 rfl rfl)
theorem dX5_come_206 : decode cX5_come 206 = .ok (.aload_n 0, 1) := dk_42 (dk_at dksX5_come_9 6 rfl rfl)
theorem dX5_come_207 : decode cX5_come 207 = .ok (.getfield 73, 3) := dk_180 0 73 (dk_at dksX5_come_9 7 rfl rfl)
theorem dX5_come_210 : decode cX5_come 210 = .ok (.iconst 0, 1) := dk_3 (dk_at dksX5_come_9 10 rfl rfl)
theorem dX5_come_211 : decode cX5_come 211 = .ok (.iaload, 1) := dk_46 (dk_at dksX5_come_9 11 rfl rfl)
theorem dX5_come_212 : decode cX5_come 212 = .ok (.iastore, 1) := dk_79 (dk_at dksX5_come_9 12 rfl rfl)
theorem dX5_come_213 : decode cX5_come 213 = .ok (.aload_n 0, 1) := dk_42 (dk_at dksX5_come_9 13 rfl rfl)
theorem dX5_come_214 : decode cX5_come 214 = .ok (.getfield 7, 3) := dk_180 0 7 (dk_at dksX5_come_9 14 rfl rfl)
theorem dX5_come_217 : decode cX5_come 217 = .ok (.iconst 2, 1) := dk_5 (dk_at dksX5_come_9 17 rfl rfl)
theorem dX5_come_218 : decode cX5_come 218 = .ok (.dup2, 1) := dk_92 (dk_at dksX5_come_9 18 rfl rfl)
theorem dX5_come_219 : decode cX5_come 219 = .ok (.iaload, 1) := dk_46 (dk_at dksX5_come_9 19 rfl rfl)
theorem dX5_come_220 : decode cX5_come 220 = .ok (.iconst 1, 1) := dk_4 (dk_at dksX5_come_9 20 rfl rfl)
theorem dX5_come_221 : decode cX5_come 221 = .ok (.iadd, 1) := dk_96 (dk_at dksX5_come_9 21 rfl rfl)
theorem dX5_come_222 : decode cX5_come 222 = .ok (.iastore, 1) := dk_79 (dk_at dksX5_come_9 22 rfl rfl)
theorem dX5_come_223 : decode cX5_come 223 = .ok (.return_, 1) := dk_177 (dk_at dksX5_come_9 23 rfl rfl)
abbrev cX5_keep : ByteArray := prog_21_method_58_code
def yX5_keep : MethodName := ⟨RX5, "keep", "(III)I"⟩
def dkwX5_keep_3 : List UInt8 := [180, 0, 25, 29, 46, 79, 3, 172]
abbrev dktX5_keep_3 : List UInt8 := dkwX5_keep_3 ++ []
def dkwX5_keep_2 : List UInt8 := [180, 0, 91, 27, 29, 79, 42, 180, 0, 94, 27, 42, 180, 0, 22, 29, 46, 79, 42, 180, 0, 97, 27, 42]
abbrev dktX5_keep_2 : List UInt8 := dkwX5_keep_2 ++ dktX5_keep_3
def dkwX5_keep_1 : List UInt8 := [42, 29, 182, 0, 123, 154, 0, 5, 2, 172, 42, 180, 0, 76, 27, 28, 79, 28, 4, 160, 0, 34, 42]
abbrev dktX5_keep_1 : List UInt8 := dkwX5_keep_1 ++ dktX5_keep_2
def dkwX5_keep_0 : List UInt8 := [27, 3, 16, 7, 184, 0, 100, 153, 0, 25, 28, 3, 4, 184, 0, 100, 153, 0, 16, 28, 4, 160, 0, 13]
abbrev dktX5_keep_0 : List UInt8 := dkwX5_keep_0 ++ dktX5_keep_1
theorem dksX5_keep_0 : cX5_keep.data.toList.drop 0 = dktX5_keep_0 := by decide +kernel
theorem dksX5_keep_1 : cX5_keep.data.toList.drop 24 = dktX5_keep_1 := dk_seg dksX5_keep_0 24 rfl rfl
theorem dksX5_keep_2 : cX5_keep.data.toList.drop 47 = dktX5_keep_2 := dk_seg dksX5_keep_1 23 rfl rfl
theorem dksX5_keep_3 : cX5_keep.data.toList.drop 71 = dktX5_keep_3 := dk_seg dksX5_keep_2 24 rfl rfl
theorem dX5_keep_0 : decode cX5_keep 0 = .ok (.iload_n 1, 1) := dk_27 (dk_at dksX5_keep_0 0 rfl rfl)
theorem dX5_keep_1 : decode cX5_keep 1 = .ok (.iconst 0, 1) := dk_3 (dk_at dksX5_keep_0 1 rfl rfl)
theorem dX5_keep_2 : decode cX5_keep 2 = .ok (.bipush 7, 2) := dk_16 7 (dk_at dksX5_keep_0 2 rfl rfl)
theorem dX5_keep_4 : decode cX5_keep 4 = .ok (.invokestatic 100, 3) := dk_184 0 100 (dk_at dksX5_keep_0 4 rfl rfl)
theorem dX5_keep_7 : decode cX5_keep 7 = .ok (.ifCond .eq 25, 3) := dk_153 0 25 (dk_at dksX5_keep_0 7 rfl rfl)
theorem dX5_keep_10 : decode cX5_keep 10 = .ok (.iload_n 2, 1) := dk_28 (dk_at dksX5_keep_0 10 rfl rfl)
theorem dX5_keep_11 : decode cX5_keep 11 = .ok (.iconst 0, 1) := dk_3 (dk_at dksX5_keep_0 11 rfl rfl)
theorem dX5_keep_12 : decode cX5_keep 12 = .ok (.iconst 1, 1) := dk_4 (dk_at dksX5_keep_0 12 rfl rfl)
theorem dX5_keep_13 : decode cX5_keep 13 = .ok (.invokestatic 100, 3) := dk_184 0 100 (dk_at dksX5_keep_0 13 rfl rfl)
theorem dX5_keep_16 : decode cX5_keep 16 = .ok (.ifCond .eq 16, 3) := dk_153 0 16 (dk_at dksX5_keep_0 16 rfl rfl)
theorem dX5_keep_19 : decode cX5_keep 19 = .ok (.iload_n 2, 1) := dk_28 (dk_at dksX5_keep_0 19 rfl rfl)
theorem dX5_keep_20 : decode cX5_keep 20 = .ok (.iconst 1, 1) := dk_4 (dk_at dksX5_keep_0 20 rfl rfl)
theorem dX5_keep_21 : decode cX5_keep 21 = .ok (.if_icmp .ne 13, 3) := dk_160 0 13 (dk_at dksX5_keep_0 21 rfl rfl)
theorem dX5_keep_24 : decode cX5_keep 24 = .ok (.aload_n 0, 1) := dk_42 (dk_at dksX5_keep_1 0 rfl rfl)
theorem dX5_keep_25 : decode cX5_keep 25 = .ok (.iload_n 3, 1) := dk_29 (dk_at dksX5_keep_1 1 rfl rfl)
theorem dX5_keep_26 : decode cX5_keep 26 = .ok (.invokevirtual 123, 3) := dk_182 0 123 (dk_at dksX5_keep_1 2 rfl rfl)
theorem dX5_keep_29 : decode cX5_keep 29 = .ok (.ifCond .ne 5, 3) := dk_154 0 5 (dk_at dksX5_keep_1 5 rfl rfl)
theorem dX5_keep_32 : decode cX5_keep 32 = .ok (.iconst (-1), 1) := dk_2 (dk_at dksX5_keep_1 8 rfl rfl)
theorem dX5_keep_33 : decode cX5_keep 33 = .ok (.ireturn, 1) := dk_172 (dk_at dksX5_keep_1 9 rfl rfl)
theorem dX5_keep_34 : decode cX5_keep 34 = .ok (.aload_n 0, 1) := dk_42 (dk_at dksX5_keep_1 10 rfl rfl)
theorem dX5_keep_35 : decode cX5_keep 35 = .ok (.getfield 76, 3) := dk_180 0 76 (dk_at dksX5_keep_1 11 rfl rfl)
theorem dX5_keep_38 : decode cX5_keep 38 = .ok (.iload_n 1, 1) := dk_27 (dk_at dksX5_keep_1 14 rfl rfl)
theorem dX5_keep_39 : decode cX5_keep 39 = .ok (.iload_n 2, 1) := dk_28 (dk_at dksX5_keep_1 15 rfl rfl)
theorem dX5_keep_40 : decode cX5_keep 40 = .ok (.iastore, 1) := dk_79 (dk_at dksX5_keep_1 16 rfl rfl)
theorem dX5_keep_41 : decode cX5_keep 41 = .ok (.iload_n 2, 1) := dk_28 (dk_at dksX5_keep_1 17 rfl rfl)
theorem dX5_keep_42 : decode cX5_keep 42 = .ok (.iconst 1, 1) := dk_4 (dk_at dksX5_keep_1 18 rfl rfl)
theorem dX5_keep_43 : decode cX5_keep 43 = .ok (.if_icmp .ne 34, 3) := dk_160 0 34 (dk_at dksX5_keep_1 19 rfl rfl)
theorem dX5_keep_46 : decode cX5_keep 46 = .ok (.aload_n 0, 1) := dk_42 (dk_at dksX5_keep_1 22 rfl rfl)
theorem dX5_keep_47 : decode cX5_keep 47 = .ok (.getfield 91, 3) := dk_180 0 91 (dk_at dksX5_keep_2 0 rfl rfl)
theorem dX5_keep_50 : decode cX5_keep 50 = .ok (.iload_n 1, 1) := dk_27 (dk_at dksX5_keep_2 3 rfl rfl)
theorem dX5_keep_51 : decode cX5_keep 51 = .ok (.iload_n 3, 1) := dk_29 (dk_at dksX5_keep_2 4 rfl rfl)
theorem dX5_keep_52 : decode cX5_keep 52 = .ok (.iastore, 1) := dk_79 (dk_at dksX5_keep_2 5 rfl rfl)
theorem dX5_keep_53 : decode cX5_keep 53 = .ok (.aload_n 0, 1) := dk_42 (dk_at dksX5_keep_2 6 rfl rfl)
theorem dX5_keep_54 : decode cX5_keep 54 = .ok (.getfield 94, 3) := dk_180 0 94 (dk_at dksX5_keep_2 7 rfl rfl)
theorem dX5_keep_57 : decode cX5_keep 57 = .ok (.iload_n 1, 1) := dk_27 (dk_at dksX5_keep_2 10 rfl rfl)
theorem dX5_keep_58 : decode cX5_keep 58 = .ok (.aload_n 0, 1) := dk_42 (dk_at dksX5_keep_2 11 rfl rfl)
theorem dX5_keep_59 : decode cX5_keep 59 = .ok (.getfield 22, 3) := dk_180 0 22 (dk_at dksX5_keep_2 12 rfl rfl)
theorem dX5_keep_62 : decode cX5_keep 62 = .ok (.iload_n 3, 1) := dk_29 (dk_at dksX5_keep_2 15 rfl rfl)
theorem dX5_keep_63 : decode cX5_keep 63 = .ok (.iaload, 1) := dk_46 (dk_at dksX5_keep_2 16 rfl rfl)
theorem dX5_keep_64 : decode cX5_keep 64 = .ok (.iastore, 1) := dk_79 (dk_at dksX5_keep_2 17 rfl rfl)
theorem dX5_keep_65 : decode cX5_keep 65 = .ok (.aload_n 0, 1) := dk_42 (dk_at dksX5_keep_2 18 rfl rfl)
theorem dX5_keep_66 : decode cX5_keep 66 = .ok (.getfield 97, 3) := dk_180 0 97 (dk_at dksX5_keep_2 19 rfl rfl)
theorem dX5_keep_69 : decode cX5_keep 69 = .ok (.iload_n 1, 1) := dk_27 (dk_at dksX5_keep_2 22 rfl rfl)
theorem dX5_keep_70 : decode cX5_keep 70 = .ok (.aload_n 0, 1) := dk_42 (dk_at dksX5_keep_2 23 rfl rfl)
theorem dX5_keep_71 : decode cX5_keep 71 = .ok (.getfield 25, 3) := dk_180 0 25 (dk_at dksX5_keep_3 0 rfl rfl)
theorem dX5_keep_74 : decode cX5_keep 74 = .ok (.iload_n 3, 1) := dk_29 (dk_at dksX5_keep_3 3 rfl rfl)
theorem dX5_keep_75 : decode cX5_keep 75 = .ok (.iaload, 1) := dk_46 (dk_at dksX5_keep_3 4 rfl rfl)
theorem dX5_keep_76 : decode cX5_keep 76 = .ok (.iastore, 1) := dk_79 (dk_at dksX5_keep_3 5 rfl rfl)
theorem dX5_keep_77 : decode cX5_keep 77 = .ok (.iconst 0, 1) := dk_3 (dk_at dksX5_keep_3 6 rfl rfl)
theorem dX5_keep_78 : decode cX5_keep 78 = .ok (.ireturn, 1) := dk_172 (dk_at dksX5_keep_3 7 rfl rfl)
abbrev cX5_row : ByteArray := prog_21_method_59_code
def yX5_row : MethodName := ⟨RX5, "row", "(III)I"⟩
def dkwX5_row_3 : List UInt8 := [16, 100, 27, 104, 21, 4, 96, 3, 79, 132, 4, 1, 167, 255, 233, 3, 172]
abbrev dktX5_row_3 : List UInt8 := dkwX5_row_3 ++ []
def dkwX5_row_2 : List UInt8 := [28, 79, 42, 180, 0, 82, 27, 29, 79, 3, 54, 4, 21, 4, 16, 100, 162, 0, 22, 42, 180, 0, 85]
abbrev dktX5_row_2 : List UInt8 := dkwX5_row_2 ++ dktX5_row_3
def dkwX5_row_1 : List UInt8 := [164, 0, 5, 2, 172, 29, 156, 0, 6, 16, 242, 172, 42, 180, 0, 76, 27, 5, 79, 42, 180, 0, 79, 27]
abbrev dktX5_row_1 : List UInt8 := dkwX5_row_1 ++ dktX5_row_2
def dkwX5_row_0 : List UInt8 := [27, 3, 16, 7, 184, 0, 100, 153, 0, 18, 28, 3, 5, 184, 0, 100, 153, 0, 9, 29, 16, 100]
abbrev dktX5_row_0 : List UInt8 := dkwX5_row_0 ++ dktX5_row_1
theorem dksX5_row_0 : cX5_row.data.toList.drop 0 = dktX5_row_0 := by decide +kernel
theorem dksX5_row_1 : cX5_row.data.toList.drop 22 = dktX5_row_1 := dk_seg dksX5_row_0 22 rfl rfl
theorem dksX5_row_2 : cX5_row.data.toList.drop 46 = dktX5_row_2 := dk_seg dksX5_row_1 24 rfl rfl
theorem dksX5_row_3 : cX5_row.data.toList.drop 69 = dktX5_row_3 := dk_seg dksX5_row_2 23 rfl rfl
theorem dX5_row_0 : decode cX5_row 0 = .ok (.iload_n 1, 1) := dk_27 (dk_at dksX5_row_0 0 rfl rfl)
theorem dX5_row_1 : decode cX5_row 1 = .ok (.iconst 0, 1) := dk_3 (dk_at dksX5_row_0 1 rfl rfl)
theorem dX5_row_2 : decode cX5_row 2 = .ok (.bipush 7, 2) := dk_16 7 (dk_at dksX5_row_0 2 rfl rfl)
theorem dX5_row_4 : decode cX5_row 4 = .ok (.invokestatic 100, 3) := dk_184 0 100 (dk_at dksX5_row_0 4 rfl rfl)
theorem dX5_row_7 : decode cX5_row 7 = .ok (.ifCond .eq 18, 3) := dk_153 0 18 (dk_at dksX5_row_0 7 rfl rfl)
theorem dX5_row_10 : decode cX5_row 10 = .ok (.iload_n 2, 1) := dk_28 (dk_at dksX5_row_0 10 rfl rfl)
theorem dX5_row_11 : decode cX5_row 11 = .ok (.iconst 0, 1) := dk_3 (dk_at dksX5_row_0 11 rfl rfl)
theorem dX5_row_12 : decode cX5_row 12 = .ok (.iconst 2, 1) := dk_5 (dk_at dksX5_row_0 12 rfl rfl)
theorem dX5_row_13 : decode cX5_row 13 = .ok (.invokestatic 100, 3) := dk_184 0 100 (dk_at dksX5_row_0 13 rfl rfl)
theorem dX5_row_16 : decode cX5_row 16 = .ok (.ifCond .eq 9, 3) := dk_153 0 9 (dk_at dksX5_row_0 16 rfl rfl)
theorem dX5_row_19 : decode cX5_row 19 = .ok (.iload_n 3, 1) := dk_29 (dk_at dksX5_row_0 19 rfl rfl)
theorem dX5_row_20 : decode cX5_row 20 = .ok (.bipush 100, 2) := dk_16 100 (dk_at dksX5_row_0 20 rfl rfl)
theorem dX5_row_22 : decode cX5_row 22 = .ok (.if_icmp .le 5, 3) := dk_164 0 5 (dk_at dksX5_row_1 0 rfl rfl)
theorem dX5_row_25 : decode cX5_row 25 = .ok (.iconst (-1), 1) := dk_2 (dk_at dksX5_row_1 3 rfl rfl)
theorem dX5_row_26 : decode cX5_row 26 = .ok (.ireturn, 1) := dk_172 (dk_at dksX5_row_1 4 rfl rfl)
theorem dX5_row_27 : decode cX5_row 27 = .ok (.iload_n 3, 1) := dk_29 (dk_at dksX5_row_1 5 rfl rfl)
theorem dX5_row_28 : decode cX5_row 28 = .ok (.ifCond .ge 6, 3) := dk_156 0 6 (dk_at dksX5_row_1 6 rfl rfl)
theorem dX5_row_31 : decode cX5_row 31 = .ok (.bipush (-14), 2) := dk_16 242 (dk_at dksX5_row_1 9 rfl rfl)
theorem dX5_row_33 : decode cX5_row 33 = .ok (.ireturn, 1) := dk_172 (dk_at dksX5_row_1 11 rfl rfl)
theorem dX5_row_34 : decode cX5_row 34 = .ok (.aload_n 0, 1) := dk_42 (dk_at dksX5_row_1 12 rfl rfl)
theorem dX5_row_35 : decode cX5_row 35 = .ok (.getfield 76, 3) := dk_180 0 76 (dk_at dksX5_row_1 13 rfl rfl)
theorem dX5_row_38 : decode cX5_row 38 = .ok (.iload_n 1, 1) := dk_27 (dk_at dksX5_row_1 16 rfl rfl)
theorem dX5_row_39 : decode cX5_row 39 = .ok (.iconst 2, 1) := dk_5 (dk_at dksX5_row_1 17 rfl rfl)
theorem dX5_row_40 : decode cX5_row 40 = .ok (.iastore, 1) := dk_79 (dk_at dksX5_row_1 18 rfl rfl)
theorem dX5_row_41 : decode cX5_row 41 = .ok (.aload_n 0, 1) := dk_42 (dk_at dksX5_row_1 19 rfl rfl)
theorem dX5_row_42 : decode cX5_row 42 = .ok (.getfield 79, 3) := dk_180 0 79 (dk_at dksX5_row_1 20 rfl rfl)
theorem dX5_row_45 : decode cX5_row 45 = .ok (.iload_n 1, 1) := dk_27 (dk_at dksX5_row_1 23 rfl rfl)
theorem dX5_row_46 : decode cX5_row 46 = .ok (.iload_n 2, 1) := dk_28 (dk_at dksX5_row_2 0 rfl rfl)
theorem dX5_row_47 : decode cX5_row 47 = .ok (.iastore, 1) := dk_79 (dk_at dksX5_row_2 1 rfl rfl)
theorem dX5_row_48 : decode cX5_row 48 = .ok (.aload_n 0, 1) := dk_42 (dk_at dksX5_row_2 2 rfl rfl)
theorem dX5_row_49 : decode cX5_row 49 = .ok (.getfield 82, 3) := dk_180 0 82 (dk_at dksX5_row_2 3 rfl rfl)
theorem dX5_row_52 : decode cX5_row 52 = .ok (.iload_n 1, 1) := dk_27 (dk_at dksX5_row_2 6 rfl rfl)
theorem dX5_row_53 : decode cX5_row 53 = .ok (.iload_n 3, 1) := dk_29 (dk_at dksX5_row_2 7 rfl rfl)
theorem dX5_row_54 : decode cX5_row 54 = .ok (.iastore, 1) := dk_79 (dk_at dksX5_row_2 8 rfl rfl)
theorem dX5_row_55 : decode cX5_row 55 = .ok (.iconst 0, 1) := dk_3 (dk_at dksX5_row_2 9 rfl rfl)
theorem dX5_row_56 : decode cX5_row 56 = .ok (.istore 4, 2) := dk_54 4 (dk_at dksX5_row_2 10 rfl rfl)
theorem dX5_row_58 : decode cX5_row 58 = .ok (.iload 4, 2) := dk_21 4 (dk_at dksX5_row_2 12 rfl rfl)
theorem dX5_row_60 : decode cX5_row 60 = .ok (.bipush 100, 2) := dk_16 100 (dk_at dksX5_row_2 14 rfl rfl)
theorem dX5_row_62 : decode cX5_row 62 = .ok (.if_icmp .ge 22, 3) := dk_162 0 22 (dk_at dksX5_row_2 16 rfl rfl)
theorem dX5_row_65 : decode cX5_row 65 = .ok (.aload_n 0, 1) := dk_42 (dk_at dksX5_row_2 19 rfl rfl)
theorem dX5_row_66 : decode cX5_row 66 = .ok (.getfield 85, 3) := dk_180 0 85 (dk_at dksX5_row_2 20 rfl rfl)
theorem dX5_row_69 : decode cX5_row 69 = .ok (.bipush 100, 2) := dk_16 100 (dk_at dksX5_row_3 0 rfl rfl)
theorem dX5_row_71 : decode cX5_row 71 = .ok (.iload_n 1, 1) := dk_27 (dk_at dksX5_row_3 2 rfl rfl)
theorem dX5_row_72 : decode cX5_row 72 = .ok (.imul, 1) := dk_104 (dk_at dksX5_row_3 3 rfl rfl)
theorem dX5_row_73 : decode cX5_row 73 = .ok (.iload 4, 2) := dk_21 4 (dk_at dksX5_row_3 4 rfl rfl)
theorem dX5_row_75 : decode cX5_row 75 = .ok (.iadd, 1) := dk_96 (dk_at dksX5_row_3 6 rfl rfl)
theorem dX5_row_76 : decode cX5_row 76 = .ok (.iconst 0, 1) := dk_3 (dk_at dksX5_row_3 7 rfl rfl)
theorem dX5_row_77 : decode cX5_row 77 = .ok (.iastore, 1) := dk_79 (dk_at dksX5_row_3 8 rfl rfl)
theorem dX5_row_78 : decode cX5_row 78 = .ok (.iinc 4 1, 3) := dk_132 4 1 (dk_at dksX5_row_3 9 rfl rfl)
theorem dX5_row_81 : decode cX5_row 81 = .ok (.goto (-23), 3) := dk_167 255 233 (dk_at dksX5_row_3 12 rfl rfl)
theorem dX5_row_84 : decode cX5_row 84 = .ok (.iconst 0, 1) := dk_3 (dk_at dksX5_row_3 15 rfl rfl)
theorem dX5_row_85 : decode cX5_row 85 = .ok (.ireturn, 1) := dk_172 (dk_at dksX5_row_3 16 rfl rfl)
abbrev cX5_put : ByteArray := prog_21_method_60_code
def yX5_put : MethodName := ⟨RX5, "put", "(III)I"⟩
def dkwX5_put_4 : List UInt8 := [29, 79, 3, 172]
abbrev dktX5_put_4 : List UInt8 := dkwX5_put_4 ++ []
def dkwX5_put_3 : List UInt8 := [46, 154, 0, 8, 29, 145, 167, 0, 19, 42, 180, 0, 79, 27, 46, 4, 160, 0, 8, 29, 147, 167, 0, 4]
abbrev dktX5_put_3 : List UInt8 := dkwX5_put_3 ++ dktX5_put_4
def dkwX5_put_2 : List UInt8 := [184, 0, 100, 154, 0, 6, 16, 243, 172, 42, 180, 0, 85, 16, 100, 27, 104, 28, 96, 42, 180, 0, 79, 27]
abbrev dktX5_put_2 : List UInt8 := dkwX5_put_2 ++ dktX5_put_3
def dkwX5_put_1 : List UInt8 := [42, 180, 0, 76, 27, 46, 4, 160, 0, 6, 16, 244, 172, 28, 3, 42, 180, 0, 82, 27, 46, 4, 100]
abbrev dktX5_put_1 : List UInt8 := dkwX5_put_1 ++ dktX5_put_2
def dkwX5_put_0 : List UInt8 := [27, 3, 16, 7, 184, 0, 100, 154, 0, 5, 2, 172, 42, 180, 0, 76, 27, 46, 154, 0, 6, 16, 245, 172]
abbrev dktX5_put_0 : List UInt8 := dkwX5_put_0 ++ dktX5_put_1
theorem dksX5_put_0 : cX5_put.data.toList.drop 0 = dktX5_put_0 := by decide +kernel
theorem dksX5_put_1 : cX5_put.data.toList.drop 24 = dktX5_put_1 := dk_seg dksX5_put_0 24 rfl rfl
theorem dksX5_put_2 : cX5_put.data.toList.drop 47 = dktX5_put_2 := dk_seg dksX5_put_1 23 rfl rfl
theorem dksX5_put_3 : cX5_put.data.toList.drop 71 = dktX5_put_3 := dk_seg dksX5_put_2 24 rfl rfl
theorem dksX5_put_4 : cX5_put.data.toList.drop 95 = dktX5_put_4 := dk_seg dksX5_put_3 24 rfl rfl
theorem dX5_put_0 : decode cX5_put 0 = .ok (.iload_n 1, 1) := dk_27 (dk_at dksX5_put_0 0 rfl rfl)
theorem dX5_put_1 : decode cX5_put 1 = .ok (.iconst 0, 1) := dk_3 (dk_at dksX5_put_0 1 rfl rfl)
theorem dX5_put_2 : decode cX5_put 2 = .ok (.bipush 7, 2) := dk_16 7 (dk_at dksX5_put_0 2 rfl rfl)
theorem dX5_put_4 : decode cX5_put 4 = .ok (.invokestatic 100, 3) := dk_184 0 100 (dk_at dksX5_put_0 4 rfl rfl)
theorem dX5_put_7 : decode cX5_put 7 = .ok (.ifCond .ne 5, 3) := dk_154 0 5 (dk_at dksX5_put_0 7 rfl rfl)
theorem dX5_put_10 : decode cX5_put 10 = .ok (.iconst (-1), 1) := dk_2 (dk_at dksX5_put_0 10 rfl rfl)
theorem dX5_put_11 : decode cX5_put 11 = .ok (.ireturn, 1) := dk_172 (dk_at dksX5_put_0 11 rfl rfl)
theorem dX5_put_12 : decode cX5_put 12 = .ok (.aload_n 0, 1) := dk_42 (dk_at dksX5_put_0 12 rfl rfl)
theorem dX5_put_13 : decode cX5_put 13 = .ok (.getfield 76, 3) := dk_180 0 76 (dk_at dksX5_put_0 13 rfl rfl)
theorem dX5_put_16 : decode cX5_put 16 = .ok (.iload_n 1, 1) := dk_27 (dk_at dksX5_put_0 16 rfl rfl)
theorem dX5_put_17 : decode cX5_put 17 = .ok (.iaload, 1) := dk_46 (dk_at dksX5_put_0 17 rfl rfl)
theorem dX5_put_18 : decode cX5_put 18 = .ok (.ifCond .ne 6, 3) := dk_154 0 6 (dk_at dksX5_put_0 18 rfl rfl)
theorem dX5_put_21 : decode cX5_put 21 = .ok (.bipush (-11), 2) := dk_16 245 (dk_at dksX5_put_0 21 rfl rfl)
theorem dX5_put_23 : decode cX5_put 23 = .ok (.ireturn, 1) := dk_172 (dk_at dksX5_put_0 23 rfl rfl)
theorem dX5_put_24 : decode cX5_put 24 = .ok (.aload_n 0, 1) := dk_42 (dk_at dksX5_put_1 0 rfl rfl)
theorem dX5_put_25 : decode cX5_put 25 = .ok (.getfield 76, 3) := dk_180 0 76 (dk_at dksX5_put_1 1 rfl rfl)
theorem dX5_put_28 : decode cX5_put 28 = .ok (.iload_n 1, 1) := dk_27 (dk_at dksX5_put_1 4 rfl rfl)
theorem dX5_put_29 : decode cX5_put 29 = .ok (.iaload, 1) := dk_46 (dk_at dksX5_put_1 5 rfl rfl)
theorem dX5_put_30 : decode cX5_put 30 = .ok (.iconst 1, 1) := dk_4 (dk_at dksX5_put_1 6 rfl rfl)
theorem dX5_put_31 : decode cX5_put 31 = .ok (.if_icmp .ne 6, 3) := dk_160 0 6 (dk_at dksX5_put_1 7 rfl rfl)
theorem dX5_put_34 : decode cX5_put 34 = .ok (.bipush (-12), 2) := dk_16 244 (dk_at dksX5_put_1 10 rfl rfl)
theorem dX5_put_36 : decode cX5_put 36 = .ok (.ireturn, 1) := dk_172 (dk_at dksX5_put_1 12 rfl rfl)
theorem dX5_put_37 : decode cX5_put 37 = .ok (.iload_n 2, 1) := dk_28 (dk_at dksX5_put_1 13 rfl rfl)
theorem dX5_put_38 : decode cX5_put 38 = .ok (.iconst 0, 1) := dk_3 (dk_at dksX5_put_1 14 rfl rfl)
theorem dX5_put_39 : decode cX5_put 39 = .ok (.aload_n 0, 1) := dk_42 (dk_at dksX5_put_1 15 rfl rfl)
theorem dX5_put_40 : decode cX5_put 40 = .ok (.getfield 82, 3) := dk_180 0 82 (dk_at dksX5_put_1 16 rfl rfl)
theorem dX5_put_43 : decode cX5_put 43 = .ok (.iload_n 1, 1) := dk_27 (dk_at dksX5_put_1 19 rfl rfl)
theorem dX5_put_44 : decode cX5_put 44 = .ok (.iaload, 1) := dk_46 (dk_at dksX5_put_1 20 rfl rfl)
theorem dX5_put_45 : decode cX5_put 45 = .ok (.iconst 1, 1) := dk_4 (dk_at dksX5_put_1 21 rfl rfl)
theorem dX5_put_46 : decode cX5_put 46 = .ok (.isub, 1) := dk_100 (dk_at dksX5_put_1 22 rfl rfl)
theorem dX5_put_47 : decode cX5_put 47 = .ok (.invokestatic 100, 3) := dk_184 0 100 (dk_at dksX5_put_2 0 rfl rfl)
theorem dX5_put_50 : decode cX5_put 50 = .ok (.ifCond .ne 6, 3) := dk_154 0 6 (dk_at dksX5_put_2 3 rfl rfl)
theorem dX5_put_53 : decode cX5_put 53 = .ok (.bipush (-13), 2) := dk_16 243 (dk_at dksX5_put_2 6 rfl rfl)
theorem dX5_put_55 : decode cX5_put 55 = .ok (.ireturn, 1) := dk_172 (dk_at dksX5_put_2 8 rfl rfl)
theorem dX5_put_56 : decode cX5_put 56 = .ok (.aload_n 0, 1) := dk_42 (dk_at dksX5_put_2 9 rfl rfl)
theorem dX5_put_57 : decode cX5_put 57 = .ok (.getfield 85, 3) := dk_180 0 85 (dk_at dksX5_put_2 10 rfl rfl)
theorem dX5_put_60 : decode cX5_put 60 = .ok (.bipush 100, 2) := dk_16 100 (dk_at dksX5_put_2 13 rfl rfl)
theorem dX5_put_62 : decode cX5_put 62 = .ok (.iload_n 1, 1) := dk_27 (dk_at dksX5_put_2 15 rfl rfl)
theorem dX5_put_63 : decode cX5_put 63 = .ok (.imul, 1) := dk_104 (dk_at dksX5_put_2 16 rfl rfl)
theorem dX5_put_64 : decode cX5_put 64 = .ok (.iload_n 2, 1) := dk_28 (dk_at dksX5_put_2 17 rfl rfl)
theorem dX5_put_65 : decode cX5_put 65 = .ok (.iadd, 1) := dk_96 (dk_at dksX5_put_2 18 rfl rfl)
theorem dX5_put_66 : decode cX5_put 66 = .ok (.aload_n 0, 1) := dk_42 (dk_at dksX5_put_2 19 rfl rfl)
theorem dX5_put_67 : decode cX5_put 67 = .ok (.getfield 79, 3) := dk_180 0 79 (dk_at dksX5_put_2 20 rfl rfl)
theorem dX5_put_70 : decode cX5_put 70 = .ok (.iload_n 1, 1) := dk_27 (dk_at dksX5_put_2 23 rfl rfl)
theorem dX5_put_71 : decode cX5_put 71 = .ok (.iaload, 1) := dk_46 (dk_at dksX5_put_3 0 rfl rfl)
theorem dX5_put_72 : decode cX5_put 72 = .ok (.ifCond .ne 8, 3) := dk_154 0 8 (dk_at dksX5_put_3 1 rfl rfl)
theorem dX5_put_75 : decode cX5_put 75 = .ok (.iload_n 3, 1) := dk_29 (dk_at dksX5_put_3 4 rfl rfl)
theorem dX5_put_76 : decode cX5_put 76 = .ok (.i2b, 1) := dk_145 (dk_at dksX5_put_3 5 rfl rfl)
theorem dX5_put_77 : decode cX5_put 77 = .ok (.goto 19, 3) := dk_167 0 19 (dk_at dksX5_put_3 6 rfl rfl)
theorem dX5_put_80 : decode cX5_put 80 = .ok (.aload_n 0, 1) := dk_42 (dk_at dksX5_put_3 9 rfl rfl)
theorem dX5_put_81 : decode cX5_put 81 = .ok (.getfield 79, 3) := dk_180 0 79 (dk_at dksX5_put_3 10 rfl rfl)
theorem dX5_put_84 : decode cX5_put 84 = .ok (.iload_n 1, 1) := dk_27 (dk_at dksX5_put_3 13 rfl rfl)
theorem dX5_put_85 : decode cX5_put 85 = .ok (.iaload, 1) := dk_46 (dk_at dksX5_put_3 14 rfl rfl)
theorem dX5_put_86 : decode cX5_put 86 = .ok (.iconst 1, 1) := dk_4 (dk_at dksX5_put_3 15 rfl rfl)
theorem dX5_put_87 : decode cX5_put 87 = .ok (.if_icmp .ne 8, 3) := dk_160 0 8 (dk_at dksX5_put_3 16 rfl rfl)
theorem dX5_put_90 : decode cX5_put 90 = .ok (.iload_n 3, 1) := dk_29 (dk_at dksX5_put_3 19 rfl rfl)
theorem dX5_put_91 : decode cX5_put 91 = .ok (.i2s, 1) := dk_147 (dk_at dksX5_put_3 20 rfl rfl)
theorem dX5_put_92 : decode cX5_put 92 = .ok (.goto 4, 3) := dk_167 0 4 (dk_at dksX5_put_3 21 rfl rfl)
theorem dX5_put_95 : decode cX5_put 95 = .ok (.iload_n 3, 1) := dk_29 (dk_at dksX5_put_4 0 rfl rfl)
theorem dX5_put_96 : decode cX5_put 96 = .ok (.iastore, 1) := dk_79 (dk_at dksX5_put_4 1 rfl rfl)
theorem dX5_put_97 : decode cX5_put 97 = .ok (.iconst 0, 1) := dk_3 (dk_at dksX5_put_4 2 rfl rfl)
theorem dX5_put_98 : decode cX5_put 98 = .ok (.ireturn, 1) := dk_172 (dk_at dksX5_put_4 3 rfl rfl)
abbrev cX5_thrown : ByteArray := prog_21_method_61_code
def yX5_thrown : MethodName := ⟨RX5, "thrown", "()I"⟩
theorem dX5_thrown_0 : decode cX5_thrown 0 = .ok (.aload_n 0, 1) := by decide +kernel
theorem dX5_thrown_1 : decode cX5_thrown 1 = .ok (.getfield 231, 3) := by decide +kernel
theorem dX5_thrown_4 : decode cX5_thrown 4 = .ok (.ireturn, 1) := by decide +kernel
abbrev cX5_element : ByteArray := prog_21_method_62_code
def yX5_element : MethodName := ⟨RX5, "element", "(II)J"⟩
def dkwX5_element_3 : List UInt8 := [27, 104, 28, 96, 46, 133, 167, 0, 4, 9, 173]
abbrev dktX5_element_3 : List UInt8 := dkwX5_element_3 ++ []
def dkwX5_element_2 : List UInt8 := [184, 0, 100, 154, 0, 8, 42, 5, 181, 0, 231, 42, 180, 0, 231, 154, 0, 18, 42, 180, 0, 85, 16, 100]
abbrev dktX5_element_2 : List UInt8 := dkwX5_element_2 ++ dktX5_element_3
def dkwX5_element_1 : List UInt8 := [154, 0, 34, 42, 180, 0, 76, 27, 46, 5, 160, 0, 19, 28, 3, 42, 180, 0, 82, 27, 46, 4, 100]
abbrev dktX5_element_1 : List UInt8 := dkwX5_element_1 ++ dktX5_element_2
def dkwX5_element_0 : List UInt8 := [42, 27, 3, 16, 7, 184, 0, 100, 154, 0, 7, 4, 167, 0, 4, 3, 181, 0, 231, 42, 180, 0, 231]
abbrev dktX5_element_0 : List UInt8 := dkwX5_element_0 ++ dktX5_element_1
theorem dksX5_element_0 : cX5_element.data.toList.drop 0 = dktX5_element_0 := by decide +kernel
theorem dksX5_element_1 : cX5_element.data.toList.drop 23 = dktX5_element_1 := dk_seg dksX5_element_0 23 rfl rfl
theorem dksX5_element_2 : cX5_element.data.toList.drop 46 = dktX5_element_2 := dk_seg dksX5_element_1 23 rfl rfl
theorem dksX5_element_3 : cX5_element.data.toList.drop 70 = dktX5_element_3 := dk_seg dksX5_element_2 24 rfl rfl
theorem dX5_element_0 : decode cX5_element 0 = .ok (.aload_n 0, 1) := dk_42 (dk_at dksX5_element_0 0 rfl rfl)
theorem dX5_element_1 : decode cX5_element 1 = .ok (.iload_n 1, 1) := dk_27 (dk_at dksX5_element_0 1 rfl rfl)
theorem dX5_element_2 : decode cX5_element 2 = .ok (.iconst 0, 1) := dk_3 (dk_at dksX5_element_0 2 rfl rfl)
theorem dX5_element_3 : decode cX5_element 3 = .ok (.bipush 7, 2) := dk_16 7 (dk_at dksX5_element_0 3 rfl rfl)
theorem dX5_element_5 : decode cX5_element 5 = .ok (.invokestatic 100, 3) := dk_184 0 100 (dk_at dksX5_element_0 5 rfl rfl)
theorem dX5_element_8 : decode cX5_element 8 = .ok (.ifCond .ne 7, 3) := dk_154 0 7 (dk_at dksX5_element_0 8 rfl rfl)
theorem dX5_element_11 : decode cX5_element 11 = .ok (.iconst 1, 1) := dk_4 (dk_at dksX5_element_0 11 rfl rfl)
theorem dX5_element_12 : decode cX5_element 12 = .ok (.goto 4, 3) := dk_167 0 4 (dk_at dksX5_element_0 12 rfl rfl)
theorem dX5_element_15 : decode cX5_element 15 = .ok (.iconst 0, 1) := dk_3 (dk_at dksX5_element_0 15 rfl rfl)
theorem dX5_element_16 : decode cX5_element 16 = .ok (.putfield 231, 3) := dk_181 0 231 (dk_at dksX5_element_0 16 rfl rfl)
theorem dX5_element_19 : decode cX5_element 19 = .ok (.aload_n 0, 1) := dk_42 (dk_at dksX5_element_0 19 rfl rfl)
theorem dX5_element_20 : decode cX5_element 20 = .ok (.getfield 231, 3) := dk_180 0 231 (dk_at dksX5_element_0 20 rfl rfl)
theorem dX5_element_23 : decode cX5_element 23 = .ok (.ifCond .ne 34, 3) := dk_154 0 34 (dk_at dksX5_element_1 0 rfl rfl)
theorem dX5_element_26 : decode cX5_element 26 = .ok (.aload_n 0, 1) := dk_42 (dk_at dksX5_element_1 3 rfl rfl)
theorem dX5_element_27 : decode cX5_element 27 = .ok (.getfield 76, 3) := dk_180 0 76 (dk_at dksX5_element_1 4 rfl rfl)
theorem dX5_element_30 : decode cX5_element 30 = .ok (.iload_n 1, 1) := dk_27 (dk_at dksX5_element_1 7 rfl rfl)
theorem dX5_element_31 : decode cX5_element 31 = .ok (.iaload, 1) := dk_46 (dk_at dksX5_element_1 8 rfl rfl)
theorem dX5_element_32 : decode cX5_element 32 = .ok (.iconst 2, 1) := dk_5 (dk_at dksX5_element_1 9 rfl rfl)
theorem dX5_element_33 : decode cX5_element 33 = .ok (.if_icmp .ne 19, 3) := dk_160 0 19 (dk_at dksX5_element_1 10 rfl rfl)
theorem dX5_element_36 : decode cX5_element 36 = .ok (.iload_n 2, 1) := dk_28 (dk_at dksX5_element_1 13 rfl rfl)
theorem dX5_element_37 : decode cX5_element 37 = .ok (.iconst 0, 1) := dk_3 (dk_at dksX5_element_1 14 rfl rfl)
theorem dX5_element_38 : decode cX5_element 38 = .ok (.aload_n 0, 1) := dk_42 (dk_at dksX5_element_1 15 rfl rfl)
theorem dX5_element_39 : decode cX5_element 39 = .ok (.getfield 82, 3) := dk_180 0 82 (dk_at dksX5_element_1 16 rfl rfl)
theorem dX5_element_42 : decode cX5_element 42 = .ok (.iload_n 1, 1) := dk_27 (dk_at dksX5_element_1 19 rfl rfl)
theorem dX5_element_43 : decode cX5_element 43 = .ok (.iaload, 1) := dk_46 (dk_at dksX5_element_1 20 rfl rfl)
theorem dX5_element_44 : decode cX5_element 44 = .ok (.iconst 1, 1) := dk_4 (dk_at dksX5_element_1 21 rfl rfl)
theorem dX5_element_45 : decode cX5_element 45 = .ok (.isub, 1) := dk_100 (dk_at dksX5_element_1 22 rfl rfl)
theorem dX5_element_46 : decode cX5_element 46 = .ok (.invokestatic 100, 3) := dk_184 0 100 (dk_at dksX5_element_2 0 rfl rfl)
theorem dX5_element_49 : decode cX5_element 49 = .ok (.ifCond .ne 8, 3) := dk_154 0 8 (dk_at dksX5_element_2 3 rfl rfl)
theorem dX5_element_52 : decode cX5_element 52 = .ok (.aload_n 0, 1) := dk_42 (dk_at dksX5_element_2 6 rfl rfl)
theorem dX5_element_53 : decode cX5_element 53 = .ok (.iconst 2, 1) := dk_5 (dk_at dksX5_element_2 7 rfl rfl)
theorem dX5_element_54 : decode cX5_element 54 = .ok (.putfield 231, 3) := dk_181 0 231 (dk_at dksX5_element_2 8 rfl rfl)
theorem dX5_element_57 : decode cX5_element 57 = .ok (.aload_n 0, 1) := dk_42 (dk_at dksX5_element_2 11 rfl rfl)
theorem dX5_element_58 : decode cX5_element 58 = .ok (.getfield 231, 3) := dk_180 0 231 (dk_at dksX5_element_2 12 rfl rfl)
theorem dX5_element_61 : decode cX5_element 61 = .ok (.ifCond .ne 18, 3) := dk_154 0 18 (dk_at dksX5_element_2 15 rfl rfl)
theorem dX5_element_64 : decode cX5_element 64 = .ok (.aload_n 0, 1) := dk_42 (dk_at dksX5_element_2 18 rfl rfl)
theorem dX5_element_65 : decode cX5_element 65 = .ok (.getfield 85, 3) := dk_180 0 85 (dk_at dksX5_element_2 19 rfl rfl)
theorem dX5_element_68 : decode cX5_element 68 = .ok (.bipush 100, 2) := dk_16 100 (dk_at dksX5_element_2 22 rfl rfl)
theorem dX5_element_70 : decode cX5_element 70 = .ok (.iload_n 1, 1) := dk_27 (dk_at dksX5_element_3 0 rfl rfl)
theorem dX5_element_71 : decode cX5_element 71 = .ok (.imul, 1) := dk_104 (dk_at dksX5_element_3 1 rfl rfl)
theorem dX5_element_72 : decode cX5_element 72 = .ok (.iload_n 2, 1) := dk_28 (dk_at dksX5_element_3 2 rfl rfl)
theorem dX5_element_73 : decode cX5_element 73 = .ok (.iadd, 1) := dk_96 (dk_at dksX5_element_3 3 rfl rfl)
theorem dX5_element_74 : decode cX5_element 74 = .ok (.iaload, 1) := dk_46 (dk_at dksX5_element_3 4 rfl rfl)
theorem dX5_element_75 : decode cX5_element 75 = .ok (.i2l, 1) := dk_133 (dk_at dksX5_element_3 5 rfl rfl)
theorem dX5_element_76 : decode cX5_element 76 = .ok (.goto 4, 3) := dk_167 0 4 (dk_at dksX5_element_3 6 rfl rfl)
theorem dX5_element_79 : decode cX5_element 79 = .ok (.lconst 0, 1) := dk_9 (dk_at dksX5_element_3 9 rfl rfl)
theorem dX5_element_80 : decode cX5_element 80 = .ok (.lreturn, 1) := dk_173 (dk_at dksX5_element_3 10 rfl rfl)
abbrev cX5_copy : ByteArray := prog_21_method_63_code
def yX5_copy : MethodName := ⟨RX5, "copy", "(IIIII)I"⟩
def dkwX5_copy_8 : List UInt8 := [180, 0, 88, 21, 6, 46, 79, 132, 6, 1, 167, 255, 224, 21, 5, 172]
abbrev dktX5_copy_8 : List UInt8 := dkwX5_copy_8 ++ []
def dkwX5_copy_7 : List UInt8 := [54, 6, 21, 6, 21, 5, 162, 0, 31, 42, 180, 0, 85, 16, 100, 29, 104, 21, 4, 96, 21, 6, 96, 42]
abbrev dktX5_copy_7 : List UInt8 := dkwX5_copy_7 ++ dktX5_copy_8
def dkwX5_copy_6 : List UInt8 := [21, 6, 42, 180, 0, 85, 16, 100, 27, 104, 28, 96, 21, 6, 96, 46, 79, 132, 6, 1, 167, 255, 225, 3]
abbrev dktX5_copy_6 : List UInt8 := dkwX5_copy_6 ++ dktX5_copy_7
def dkwX5_copy_5 : List UInt8 := [21, 4, 100, 164, 0, 6, 16, 243, 172, 3, 54, 6, 21, 6, 21, 5, 162, 0, 30, 42, 180, 0, 88]
abbrev dktX5_copy_5 : List UInt8 := dkwX5_copy_5 ++ dktX5_copy_6
def dkwX5_copy_4 : List UInt8 := [155, 0, 30, 21, 5, 42, 180, 0, 82, 27, 46, 28, 100, 163, 0, 17, 21, 5, 42, 180, 0, 82, 29, 46]
abbrev dktX5_copy_4 : List UInt8 := dkwX5_copy_4 ++ dktX5_copy_5
def dkwX5_copy_3 : List UInt8 := [180, 0, 79, 29, 46, 159, 0, 6, 16, 244, 172, 21, 5, 155, 0, 39, 28, 155, 0, 35, 21, 4]
abbrev dktX5_copy_3 : List UInt8 := dkwX5_copy_3 ++ dktX5_copy_4
def dkwX5_copy_2 : List UInt8 := [27, 46, 4, 159, 0, 28, 42, 180, 0, 76, 29, 46, 4, 159, 0, 18, 42, 180, 0, 79, 27, 46, 42]
abbrev dktX5_copy_2 : List UInt8 := dkwX5_copy_2 ++ dktX5_copy_3
def dkwX5_copy_1 : List UInt8 := [180, 0, 76, 27, 46, 153, 0, 12, 42, 180, 0, 76, 29, 46, 154, 0, 6, 16, 245, 172, 42, 180, 0, 76]
abbrev dktX5_copy_1 : List UInt8 := dkwX5_copy_1 ++ dktX5_copy_2
def dkwX5_copy_0 : List UInt8 := [27, 3, 16, 7, 184, 0, 100, 153, 0, 13, 29, 3, 16, 7, 184, 0, 100, 154, 0, 5, 2, 172, 42]
abbrev dktX5_copy_0 : List UInt8 := dkwX5_copy_0 ++ dktX5_copy_1
theorem dksX5_copy_0 : cX5_copy.data.toList.drop 0 = dktX5_copy_0 := by decide +kernel
theorem dksX5_copy_1 : cX5_copy.data.toList.drop 23 = dktX5_copy_1 := dk_seg dksX5_copy_0 23 rfl rfl
theorem dksX5_copy_2 : cX5_copy.data.toList.drop 47 = dktX5_copy_2 := dk_seg dksX5_copy_1 24 rfl rfl
theorem dksX5_copy_3 : cX5_copy.data.toList.drop 70 = dktX5_copy_3 := dk_seg dksX5_copy_2 23 rfl rfl
theorem dksX5_copy_4 : cX5_copy.data.toList.drop 92 = dktX5_copy_4 := dk_seg dksX5_copy_3 22 rfl rfl
theorem dksX5_copy_5 : cX5_copy.data.toList.drop 116 = dktX5_copy_5 := dk_seg dksX5_copy_4 24 rfl rfl
theorem dksX5_copy_6 : cX5_copy.data.toList.drop 139 = dktX5_copy_6 := dk_seg dksX5_copy_5 23 rfl rfl
theorem dksX5_copy_7 : cX5_copy.data.toList.drop 163 = dktX5_copy_7 := dk_seg dksX5_copy_6 24 rfl rfl
theorem dksX5_copy_8 : cX5_copy.data.toList.drop 187 = dktX5_copy_8 := dk_seg dksX5_copy_7 24 rfl rfl
theorem dX5_copy_0 : decode cX5_copy 0 = .ok (.iload_n 1, 1) := dk_27 (dk_at dksX5_copy_0 0 rfl rfl)
theorem dX5_copy_1 : decode cX5_copy 1 = .ok (.iconst 0, 1) := dk_3 (dk_at dksX5_copy_0 1 rfl rfl)
theorem dX5_copy_2 : decode cX5_copy 2 = .ok (.bipush 7, 2) := dk_16 7 (dk_at dksX5_copy_0 2 rfl rfl)
theorem dX5_copy_4 : decode cX5_copy 4 = .ok (.invokestatic 100, 3) := dk_184 0 100 (dk_at dksX5_copy_0 4 rfl rfl)
theorem dX5_copy_7 : decode cX5_copy 7 = .ok (.ifCond .eq 13, 3) := dk_153 0 13 (dk_at dksX5_copy_0 7 rfl rfl)
theorem dX5_copy_10 : decode cX5_copy 10 = .ok (.iload_n 3, 1) := dk_29 (dk_at dksX5_copy_0 10 rfl rfl)
theorem dX5_copy_11 : decode cX5_copy 11 = .ok (.iconst 0, 1) := dk_3 (dk_at dksX5_copy_0 11 rfl rfl)
theorem dX5_copy_12 : decode cX5_copy 12 = .ok (.bipush 7, 2) := dk_16 7 (dk_at dksX5_copy_0 12 rfl rfl)
theorem dX5_copy_14 : decode cX5_copy 14 = .ok (.invokestatic 100, 3) := dk_184 0 100 (dk_at dksX5_copy_0 14 rfl rfl)
theorem dX5_copy_17 : decode cX5_copy 17 = .ok (.ifCond .ne 5, 3) := dk_154 0 5 (dk_at dksX5_copy_0 17 rfl rfl)
theorem dX5_copy_20 : decode cX5_copy 20 = .ok (.iconst (-1), 1) := dk_2 (dk_at dksX5_copy_0 20 rfl rfl)
theorem dX5_copy_21 : decode cX5_copy 21 = .ok (.ireturn, 1) := dk_172 (dk_at dksX5_copy_0 21 rfl rfl)
theorem dX5_copy_22 : decode cX5_copy 22 = .ok (.aload_n 0, 1) := dk_42 (dk_at dksX5_copy_0 22 rfl rfl)
theorem dX5_copy_23 : decode cX5_copy 23 = .ok (.getfield 76, 3) := dk_180 0 76 (dk_at dksX5_copy_1 0 rfl rfl)
theorem dX5_copy_26 : decode cX5_copy 26 = .ok (.iload_n 1, 1) := dk_27 (dk_at dksX5_copy_1 3 rfl rfl)
theorem dX5_copy_27 : decode cX5_copy 27 = .ok (.iaload, 1) := dk_46 (dk_at dksX5_copy_1 4 rfl rfl)
theorem dX5_copy_28 : decode cX5_copy 28 = .ok (.ifCond .eq 12, 3) := dk_153 0 12 (dk_at dksX5_copy_1 5 rfl rfl)
theorem dX5_copy_31 : decode cX5_copy 31 = .ok (.aload_n 0, 1) := dk_42 (dk_at dksX5_copy_1 8 rfl rfl)
theorem dX5_copy_32 : decode cX5_copy 32 = .ok (.getfield 76, 3) := dk_180 0 76 (dk_at dksX5_copy_1 9 rfl rfl)
theorem dX5_copy_35 : decode cX5_copy 35 = .ok (.iload_n 3, 1) := dk_29 (dk_at dksX5_copy_1 12 rfl rfl)
theorem dX5_copy_36 : decode cX5_copy 36 = .ok (.iaload, 1) := dk_46 (dk_at dksX5_copy_1 13 rfl rfl)
theorem dX5_copy_37 : decode cX5_copy 37 = .ok (.ifCond .ne 6, 3) := dk_154 0 6 (dk_at dksX5_copy_1 14 rfl rfl)
theorem dX5_copy_40 : decode cX5_copy 40 = .ok (.bipush (-11), 2) := dk_16 245 (dk_at dksX5_copy_1 17 rfl rfl)
theorem dX5_copy_42 : decode cX5_copy 42 = .ok (.ireturn, 1) := dk_172 (dk_at dksX5_copy_1 19 rfl rfl)
theorem dX5_copy_43 : decode cX5_copy 43 = .ok (.aload_n 0, 1) := dk_42 (dk_at dksX5_copy_1 20 rfl rfl)
theorem dX5_copy_44 : decode cX5_copy 44 = .ok (.getfield 76, 3) := dk_180 0 76 (dk_at dksX5_copy_1 21 rfl rfl)
theorem dX5_copy_47 : decode cX5_copy 47 = .ok (.iload_n 1, 1) := dk_27 (dk_at dksX5_copy_2 0 rfl rfl)
theorem dX5_copy_48 : decode cX5_copy 48 = .ok (.iaload, 1) := dk_46 (dk_at dksX5_copy_2 1 rfl rfl)
theorem dX5_copy_49 : decode cX5_copy 49 = .ok (.iconst 1, 1) := dk_4 (dk_at dksX5_copy_2 2 rfl rfl)
theorem dX5_copy_50 : decode cX5_copy 50 = .ok (.if_icmp .eq 28, 3) := dk_159 0 28 (dk_at dksX5_copy_2 3 rfl rfl)
theorem dX5_copy_53 : decode cX5_copy 53 = .ok (.aload_n 0, 1) := dk_42 (dk_at dksX5_copy_2 6 rfl rfl)
theorem dX5_copy_54 : decode cX5_copy 54 = .ok (.getfield 76, 3) := dk_180 0 76 (dk_at dksX5_copy_2 7 rfl rfl)
theorem dX5_copy_57 : decode cX5_copy 57 = .ok (.iload_n 3, 1) := dk_29 (dk_at dksX5_copy_2 10 rfl rfl)
theorem dX5_copy_58 : decode cX5_copy 58 = .ok (.iaload, 1) := dk_46 (dk_at dksX5_copy_2 11 rfl rfl)
theorem dX5_copy_59 : decode cX5_copy 59 = .ok (.iconst 1, 1) := dk_4 (dk_at dksX5_copy_2 12 rfl rfl)
theorem dX5_copy_60 : decode cX5_copy 60 = .ok (.if_icmp .eq 18, 3) := dk_159 0 18 (dk_at dksX5_copy_2 13 rfl rfl)
theorem dX5_copy_63 : decode cX5_copy 63 = .ok (.aload_n 0, 1) := dk_42 (dk_at dksX5_copy_2 16 rfl rfl)
theorem dX5_copy_64 : decode cX5_copy 64 = .ok (.getfield 79, 3) := dk_180 0 79 (dk_at dksX5_copy_2 17 rfl rfl)
theorem dX5_copy_67 : decode cX5_copy 67 = .ok (.iload_n 1, 1) := dk_27 (dk_at dksX5_copy_2 20 rfl rfl)
theorem dX5_copy_68 : decode cX5_copy 68 = .ok (.iaload, 1) := dk_46 (dk_at dksX5_copy_2 21 rfl rfl)
theorem dX5_copy_69 : decode cX5_copy 69 = .ok (.aload_n 0, 1) := dk_42 (dk_at dksX5_copy_2 22 rfl rfl)
theorem dX5_copy_70 : decode cX5_copy 70 = .ok (.getfield 79, 3) := dk_180 0 79 (dk_at dksX5_copy_3 0 rfl rfl)
theorem dX5_copy_73 : decode cX5_copy 73 = .ok (.iload_n 3, 1) := dk_29 (dk_at dksX5_copy_3 3 rfl rfl)
theorem dX5_copy_74 : decode cX5_copy 74 = .ok (.iaload, 1) := dk_46 (dk_at dksX5_copy_3 4 rfl rfl)
theorem dX5_copy_75 : decode cX5_copy 75 = .ok (.if_icmp .eq 6, 3) := dk_159 0 6 (dk_at dksX5_copy_3 5 rfl rfl)
theorem dX5_copy_78 : decode cX5_copy 78 = .ok (.bipush (-12), 2) := dk_16 244 (dk_at dksX5_copy_3 8 rfl rfl)
theorem dX5_copy_80 : decode cX5_copy 80 = .ok (.ireturn, 1) := dk_172 (dk_at dksX5_copy_3 10 rfl rfl)
theorem dX5_copy_81 : decode cX5_copy 81 = .ok (.iload 5, 2) := dk_21 5 (dk_at dksX5_copy_3 11 rfl rfl)
theorem dX5_copy_83 : decode cX5_copy 83 = .ok (.ifCond .lt 39, 3) := dk_155 0 39 (dk_at dksX5_copy_3 13 rfl rfl)
theorem dX5_copy_86 : decode cX5_copy 86 = .ok (.iload_n 2, 1) := dk_28 (dk_at dksX5_copy_3 16 rfl rfl)
theorem dX5_copy_87 : decode cX5_copy 87 = .ok (.ifCond .lt 35, 3) := dk_155 0 35 (dk_at dksX5_copy_3 17 rfl rfl)
theorem dX5_copy_90 : decode cX5_copy 90 = .ok (.iload 4, 2) := dk_21 4 (dk_at dksX5_copy_3 20 rfl rfl)
theorem dX5_copy_92 : decode cX5_copy 92 = .ok (.ifCond .lt 30, 3) := dk_155 0 30 (dk_at dksX5_copy_4 0 rfl rfl)
theorem dX5_copy_95 : decode cX5_copy 95 = .ok (.iload 5, 2) := dk_21 5 (dk_at dksX5_copy_4 3 rfl rfl)
theorem dX5_copy_97 : decode cX5_copy 97 = .ok (.aload_n 0, 1) := dk_42 (dk_at dksX5_copy_4 5 rfl rfl)
theorem dX5_copy_98 : decode cX5_copy 98 = .ok (.getfield 82, 3) := dk_180 0 82 (dk_at dksX5_copy_4 6 rfl rfl)
theorem dX5_copy_101 : decode cX5_copy 101 = .ok (.iload_n 1, 1) := dk_27 (dk_at dksX5_copy_4 9 rfl rfl)
theorem dX5_copy_102 : decode cX5_copy 102 = .ok (.iaload, 1) := dk_46 (dk_at dksX5_copy_4 10 rfl rfl)
theorem dX5_copy_103 : decode cX5_copy 103 = .ok (.iload_n 2, 1) := dk_28 (dk_at dksX5_copy_4 11 rfl rfl)
theorem dX5_copy_104 : decode cX5_copy 104 = .ok (.isub, 1) := dk_100 (dk_at dksX5_copy_4 12 rfl rfl)
theorem dX5_copy_105 : decode cX5_copy 105 = .ok (.if_icmp .gt 17, 3) := dk_163 0 17 (dk_at dksX5_copy_4 13 rfl rfl)
theorem dX5_copy_108 : decode cX5_copy 108 = .ok (.iload 5, 2) := dk_21 5 (dk_at dksX5_copy_4 16 rfl rfl)
theorem dX5_copy_110 : decode cX5_copy 110 = .ok (.aload_n 0, 1) := dk_42 (dk_at dksX5_copy_4 18 rfl rfl)
theorem dX5_copy_111 : decode cX5_copy 111 = .ok (.getfield 82, 3) := dk_180 0 82 (dk_at dksX5_copy_4 19 rfl rfl)
theorem dX5_copy_114 : decode cX5_copy 114 = .ok (.iload_n 3, 1) := dk_29 (dk_at dksX5_copy_4 22 rfl rfl)
theorem dX5_copy_115 : decode cX5_copy 115 = .ok (.iaload, 1) := dk_46 (dk_at dksX5_copy_4 23 rfl rfl)
theorem dX5_copy_116 : decode cX5_copy 116 = .ok (.iload 4, 2) := dk_21 4 (dk_at dksX5_copy_5 0 rfl rfl)
theorem dX5_copy_118 : decode cX5_copy 118 = .ok (.isub, 1) := dk_100 (dk_at dksX5_copy_5 2 rfl rfl)
theorem dX5_copy_119 : decode cX5_copy 119 = .ok (.if_icmp .le 6, 3) := dk_164 0 6 (dk_at dksX5_copy_5 3 rfl rfl)
theorem dX5_copy_122 : decode cX5_copy 122 = .ok (.bipush (-13), 2) := dk_16 243 (dk_at dksX5_copy_5 6 rfl rfl)
theorem dX5_copy_124 : decode cX5_copy 124 = .ok (.ireturn, 1) := dk_172 (dk_at dksX5_copy_5 8 rfl rfl)
theorem dX5_copy_125 : decode cX5_copy 125 = .ok (.iconst 0, 1) := dk_3 (dk_at dksX5_copy_5 9 rfl rfl)
theorem dX5_copy_126 : decode cX5_copy 126 = .ok (.istore 6, 2) := dk_54 6 (dk_at dksX5_copy_5 10 rfl rfl)
theorem dX5_copy_128 : decode cX5_copy 128 = .ok (.iload 6, 2) := dk_21 6 (dk_at dksX5_copy_5 12 rfl rfl)
theorem dX5_copy_130 : decode cX5_copy 130 = .ok (.iload 5, 2) := dk_21 5 (dk_at dksX5_copy_5 14 rfl rfl)
theorem dX5_copy_132 : decode cX5_copy 132 = .ok (.if_icmp .ge 30, 3) := dk_162 0 30 (dk_at dksX5_copy_5 16 rfl rfl)
theorem dX5_copy_135 : decode cX5_copy 135 = .ok (.aload_n 0, 1) := dk_42 (dk_at dksX5_copy_5 19 rfl rfl)
theorem dX5_copy_136 : decode cX5_copy 136 = .ok (.getfield 88, 3) := dk_180 0 88 (dk_at dksX5_copy_5 20 rfl rfl)
theorem dX5_copy_139 : decode cX5_copy 139 = .ok (.iload 6, 2) := dk_21 6 (dk_at dksX5_copy_6 0 rfl rfl)
theorem dX5_copy_141 : decode cX5_copy 141 = .ok (.aload_n 0, 1) := dk_42 (dk_at dksX5_copy_6 2 rfl rfl)
theorem dX5_copy_142 : decode cX5_copy 142 = .ok (.getfield 85, 3) := dk_180 0 85 (dk_at dksX5_copy_6 3 rfl rfl)
theorem dX5_copy_145 : decode cX5_copy 145 = .ok (.bipush 100, 2) := dk_16 100 (dk_at dksX5_copy_6 6 rfl rfl)
theorem dX5_copy_147 : decode cX5_copy 147 = .ok (.iload_n 1, 1) := dk_27 (dk_at dksX5_copy_6 8 rfl rfl)
theorem dX5_copy_148 : decode cX5_copy 148 = .ok (.imul, 1) := dk_104 (dk_at dksX5_copy_6 9 rfl rfl)
theorem dX5_copy_149 : decode cX5_copy 149 = .ok (.iload_n 2, 1) := dk_28 (dk_at dksX5_copy_6 10 rfl rfl)
theorem dX5_copy_150 : decode cX5_copy 150 = .ok (.iadd, 1) := dk_96 (dk_at dksX5_copy_6 11 rfl rfl)
theorem dX5_copy_151 : decode cX5_copy 151 = .ok (.iload 6, 2) := dk_21 6 (dk_at dksX5_copy_6 12 rfl rfl)
theorem dX5_copy_153 : decode cX5_copy 153 = .ok (.iadd, 1) := dk_96 (dk_at dksX5_copy_6 14 rfl rfl)
theorem dX5_copy_154 : decode cX5_copy 154 = .ok (.iaload, 1) := dk_46 (dk_at dksX5_copy_6 15 rfl rfl)
theorem dX5_copy_155 : decode cX5_copy 155 = .ok (.iastore, 1) := dk_79 (dk_at dksX5_copy_6 16 rfl rfl)
theorem dX5_copy_156 : decode cX5_copy 156 = .ok (.iinc 6 1, 3) := dk_132 6 1 (dk_at dksX5_copy_6 17 rfl rfl)
theorem dX5_copy_159 : decode cX5_copy 159 = .ok (.goto (-31), 3) := dk_167 255 225 (dk_at dksX5_copy_6 20 rfl rfl)
theorem dX5_copy_162 : decode cX5_copy 162 = .ok (.iconst 0, 1) := dk_3 (dk_at dksX5_copy_6 23 rfl rfl)
theorem dX5_copy_163 : decode cX5_copy 163 = .ok (.istore 6, 2) := dk_54 6 (dk_at dksX5_copy_7 0 rfl rfl)
theorem dX5_copy_165 : decode cX5_copy 165 = .ok (.iload 6, 2) := dk_21 6 (dk_at dksX5_copy_7 2 rfl rfl)
theorem dX5_copy_167 : decode cX5_copy 167 = .ok (.iload 5, 2) := dk_21 5 (dk_at dksX5_copy_7 4 rfl rfl)
theorem dX5_copy_169 : decode cX5_copy 169 = .ok (.if_icmp .ge 31, 3) := dk_162 0 31 (dk_at dksX5_copy_7 6 rfl rfl)
theorem dX5_copy_172 : decode cX5_copy 172 = .ok (.aload_n 0, 1) := dk_42 (dk_at dksX5_copy_7 9 rfl rfl)
theorem dX5_copy_173 : decode cX5_copy 173 = .ok (.getfield 85, 3) := dk_180 0 85 (dk_at dksX5_copy_7 10 rfl rfl)
theorem dX5_copy_176 : decode cX5_copy 176 = .ok (.bipush 100, 2) := dk_16 100 (dk_at dksX5_copy_7 13 rfl rfl)
theorem dX5_copy_178 : decode cX5_copy 178 = .ok (.iload_n 3, 1) := dk_29 (dk_at dksX5_copy_7 15 rfl rfl)
theorem dX5_copy_179 : decode cX5_copy 179 = .ok (.imul, 1) := dk_104 (dk_at dksX5_copy_7 16 rfl rfl)
theorem dX5_copy_180 : decode cX5_copy 180 = .ok (.iload 4, 2) := dk_21 4 (dk_at dksX5_copy_7 17 rfl rfl)
theorem dX5_copy_182 : decode cX5_copy 182 = .ok (.iadd, 1) := dk_96 (dk_at dksX5_copy_7 19 rfl rfl)
theorem dX5_copy_183 : decode cX5_copy 183 = .ok (.iload 6, 2) := dk_21 6 (dk_at dksX5_copy_7 20 rfl rfl)
theorem dX5_copy_185 : decode cX5_copy 185 = .ok (.iadd, 1) := dk_96 (dk_at dksX5_copy_7 22 rfl rfl)
theorem dX5_copy_186 : decode cX5_copy 186 = .ok (.aload_n 0, 1) := dk_42 (dk_at dksX5_copy_7 23 rfl rfl)
theorem dX5_copy_187 : decode cX5_copy 187 = .ok (.getfield 88, 3) := dk_180 0 88 (dk_at dksX5_copy_8 0 rfl rfl)
theorem dX5_copy_190 : decode cX5_copy 190 = .ok (.iload 6, 2) := dk_21 6 (dk_at dksX5_copy_8 3 rfl rfl)
theorem dX5_copy_192 : decode cX5_copy 192 = .ok (.iaload, 1) := dk_46 (dk_at dksX5_copy_8 5 rfl rfl)
theorem dX5_copy_193 : decode cX5_copy 193 = .ok (.iastore, 1) := dk_79 (dk_at dksX5_copy_8 6 rfl rfl)
theorem dX5_copy_194 : decode cX5_copy 194 = .ok (.iinc 6 1, 3) := dk_132 6 1 (dk_at dksX5_copy_8 7 rfl rfl)
theorem dX5_copy_197 : decode cX5_copy 197 = .ok (.goto (-32), 3) := dk_167 255 224 (dk_at dksX5_copy_8 10 rfl rfl)
theorem dX5_copy_200 : decode cX5_copy 200 = .ok (.iload 5, 2) := dk_21 5 (dk_at dksX5_copy_8 13 rfl rfl)
theorem dX5_copy_202 : decode cX5_copy 202 = .ok (.ireturn, 1) := dk_172 (dk_at dksX5_copy_8 15 rfl rfl)
abbrev cX5_skill : ByteArray := prog_21_method_65_code
def yX5_skill : MethodName := ⟨RX5, "skill", "(I)I"⟩
def dkwX5_skill_1 : List UInt8 := [167, 0, 23, 42, 180, 0, 76, 27, 46, 5, 160, 0, 8, 16, 244, 167, 0, 8, 42, 27, 182, 0, 234, 172]
abbrev dktX5_skill_1 : List UInt8 := dkwX5_skill_1 ++ []
def dkwX5_skill_0 : List UInt8 := [27, 3, 16, 7, 184, 0, 100, 154, 0, 5, 2, 172, 42, 180, 0, 76, 27, 46, 154, 0, 8, 16, 245]
abbrev dktX5_skill_0 : List UInt8 := dkwX5_skill_0 ++ dktX5_skill_1
theorem dksX5_skill_0 : cX5_skill.data.toList.drop 0 = dktX5_skill_0 := by decide +kernel
theorem dksX5_skill_1 : cX5_skill.data.toList.drop 23 = dktX5_skill_1 := dk_seg dksX5_skill_0 23 rfl rfl
theorem dX5_skill_0 : decode cX5_skill 0 = .ok (.iload_n 1, 1) := dk_27 (dk_at dksX5_skill_0 0 rfl rfl)
theorem dX5_skill_1 : decode cX5_skill 1 = .ok (.iconst 0, 1) := dk_3 (dk_at dksX5_skill_0 1 rfl rfl)
theorem dX5_skill_2 : decode cX5_skill 2 = .ok (.bipush 7, 2) := dk_16 7 (dk_at dksX5_skill_0 2 rfl rfl)
theorem dX5_skill_4 : decode cX5_skill 4 = .ok (.invokestatic 100, 3) := dk_184 0 100 (dk_at dksX5_skill_0 4 rfl rfl)
theorem dX5_skill_7 : decode cX5_skill 7 = .ok (.ifCond .ne 5, 3) := dk_154 0 5 (dk_at dksX5_skill_0 7 rfl rfl)
theorem dX5_skill_10 : decode cX5_skill 10 = .ok (.iconst (-1), 1) := dk_2 (dk_at dksX5_skill_0 10 rfl rfl)
theorem dX5_skill_11 : decode cX5_skill 11 = .ok (.ireturn, 1) := dk_172 (dk_at dksX5_skill_0 11 rfl rfl)
theorem dX5_skill_12 : decode cX5_skill 12 = .ok (.aload_n 0, 1) := dk_42 (dk_at dksX5_skill_0 12 rfl rfl)
theorem dX5_skill_13 : decode cX5_skill 13 = .ok (.getfield 76, 3) := dk_180 0 76 (dk_at dksX5_skill_0 13 rfl rfl)
theorem dX5_skill_16 : decode cX5_skill 16 = .ok (.iload_n 1, 1) := dk_27 (dk_at dksX5_skill_0 16 rfl rfl)
theorem dX5_skill_17 : decode cX5_skill 17 = .ok (.iaload, 1) := dk_46 (dk_at dksX5_skill_0 17 rfl rfl)
theorem dX5_skill_18 : decode cX5_skill 18 = .ok (.ifCond .ne 8, 3) := dk_154 0 8 (dk_at dksX5_skill_0 18 rfl rfl)
theorem dX5_skill_21 : decode cX5_skill 21 = .ok (.bipush (-11), 2) := dk_16 245 (dk_at dksX5_skill_0 21 rfl rfl)
theorem dX5_skill_23 : decode cX5_skill 23 = .ok (.goto 23, 3) := dk_167 0 23 (dk_at dksX5_skill_1 0 rfl rfl)
theorem dX5_skill_26 : decode cX5_skill 26 = .ok (.aload_n 0, 1) := dk_42 (dk_at dksX5_skill_1 3 rfl rfl)
theorem dX5_skill_27 : decode cX5_skill 27 = .ok (.getfield 76, 3) := dk_180 0 76 (dk_at dksX5_skill_1 4 rfl rfl)
theorem dX5_skill_30 : decode cX5_skill 30 = .ok (.iload_n 1, 1) := dk_27 (dk_at dksX5_skill_1 7 rfl rfl)
theorem dX5_skill_31 : decode cX5_skill 31 = .ok (.iaload, 1) := dk_46 (dk_at dksX5_skill_1 8 rfl rfl)
theorem dX5_skill_32 : decode cX5_skill 32 = .ok (.iconst 2, 1) := dk_5 (dk_at dksX5_skill_1 9 rfl rfl)
theorem dX5_skill_33 : decode cX5_skill 33 = .ok (.if_icmp .ne 8, 3) := dk_160 0 8 (dk_at dksX5_skill_1 10 rfl rfl)
theorem dX5_skill_36 : decode cX5_skill 36 = .ok (.bipush (-12), 2) := dk_16 244 (dk_at dksX5_skill_1 13 rfl rfl)
theorem dX5_skill_38 : decode cX5_skill 38 = .ok (.goto 8, 3) := dk_167 0 8 (dk_at dksX5_skill_1 15 rfl rfl)
theorem dX5_skill_41 : decode cX5_skill 41 = .ok (.aload_n 0, 1) := dk_42 (dk_at dksX5_skill_1 18 rfl rfl)
theorem dX5_skill_42 : decode cX5_skill 42 = .ok (.iload_n 1, 1) := dk_27 (dk_at dksX5_skill_1 19 rfl rfl)
theorem dX5_skill_43 : decode cX5_skill 43 = .ok (.invokevirtual 234, 3) := dk_182 0 234 (dk_at dksX5_skill_1 20 rfl rfl)
theorem dX5_skill_46 : decode cX5_skill 46 = .ok (.ireturn, 1) := dk_172 (dk_at dksX5_skill_1 23 rfl rfl)
abbrev cX5_skillOf : ByteArray := prog_21_method_64_code
def yX5_skillOf : MethodName := ⟨RX5, "skillOf", "(I)I"⟩
def dkwX5_skillOf_3 : List UInt8 := [96, 172]
abbrev dktX5_skillOf_3 : List UInt8 := dkwX5_skillOf_3 ++ []
def dkwX5_skillOf_2 : List UInt8 := [4, 172, 4, 28, 96, 172, 8, 172, 8, 28, 104, 172, 16, 15, 172, 6, 172, 3, 172, 8, 28, 104, 16, 9]
abbrev dktX5_skillOf_2 : List UInt8 := dkwX5_skillOf_2 ++ dktX5_skillOf_3
def dkwX5_skillOf_1 : List UInt8 := [170, 0, 0, 0, 0, 0, 62, 0, 0, 0, 0, 0, 0, 0, 6, 0, 0, 0, 43, 0, 0, 0, 45, 0, 0, 0, 49, 0, 0, 0, 51, 0, 0, 0, 55, 0, 0, 0, 58, 0, 0, 0, 60]
abbrev dktX5_skillOf_1 : List UInt8 := dkwX5_skillOf_1 ++ dktX5_skillOf_2
def dkwX5_skillOf_0 : List UInt8 := [42, 180, 0, 97, 27, 46, 61, 42, 180, 0, 94, 27, 46]
abbrev dktX5_skillOf_0 : List UInt8 := dkwX5_skillOf_0 ++ dktX5_skillOf_1
theorem dksX5_skillOf_0 : cX5_skillOf.data.toList.drop 0 = dktX5_skillOf_0 := by decide +kernel
theorem dksX5_skillOf_1 : cX5_skillOf.data.toList.drop 13 = dktX5_skillOf_1 := dk_seg dksX5_skillOf_0 13 rfl rfl
theorem dksX5_skillOf_2 : cX5_skillOf.data.toList.drop 56 = dktX5_skillOf_2 := dk_seg dksX5_skillOf_1 43 rfl rfl
theorem dksX5_skillOf_3 : cX5_skillOf.data.toList.drop 80 = dktX5_skillOf_3 := dk_seg dksX5_skillOf_2 24 rfl rfl
theorem dX5_skillOf_0 : decode cX5_skillOf 0 = .ok (.aload_n 0, 1) := dk_42 (dk_at dksX5_skillOf_0 0 rfl rfl)
theorem dX5_skillOf_1 : decode cX5_skillOf 1 = .ok (.getfield 97, 3) := dk_180 0 97 (dk_at dksX5_skillOf_0 1 rfl rfl)
theorem dX5_skillOf_4 : decode cX5_skillOf 4 = .ok (.iload_n 1, 1) := dk_27 (dk_at dksX5_skillOf_0 4 rfl rfl)
theorem dX5_skillOf_5 : decode cX5_skillOf 5 = .ok (.iaload, 1) := dk_46 (dk_at dksX5_skillOf_0 5 rfl rfl)
theorem dX5_skillOf_6 : decode cX5_skillOf 6 = .ok (.istore_n 2, 1) := dk_61 (dk_at dksX5_skillOf_0 6 rfl rfl)
theorem dX5_skillOf_7 : decode cX5_skillOf 7 = .ok (.aload_n 0, 1) := dk_42 (dk_at dksX5_skillOf_0 7 rfl rfl)
theorem dX5_skillOf_8 : decode cX5_skillOf 8 = .ok (.getfield 94, 3) := dk_180 0 94 (dk_at dksX5_skillOf_0 8 rfl rfl)
theorem dX5_skillOf_11 : decode cX5_skillOf 11 = .ok (.iload_n 1, 1) := dk_27 (dk_at dksX5_skillOf_0 11 rfl rfl)
theorem dX5_skillOf_12 : decode cX5_skillOf 12 = .ok (.iaload, 1) := dk_46 (dk_at dksX5_skillOf_0 12 rfl rfl)
theorem dX5_skillOf_13 : decode cX5_skillOf 13 = .ok (.tableswitch 62 0 6 #[43, 45, 49, 51, 55, 58, 60], 43) := by decide +kernel
theorem dX5_skillOf_56 : decode cX5_skillOf 56 = .ok (.iconst 1, 1) := dk_4 (dk_at dksX5_skillOf_2 0 rfl rfl)
theorem dX5_skillOf_57 : decode cX5_skillOf 57 = .ok (.ireturn, 1) := dk_172 (dk_at dksX5_skillOf_2 1 rfl rfl)
theorem dX5_skillOf_58 : decode cX5_skillOf 58 = .ok (.iconst 1, 1) := dk_4 (dk_at dksX5_skillOf_2 2 rfl rfl)
theorem dX5_skillOf_59 : decode cX5_skillOf 59 = .ok (.iload_n 2, 1) := dk_28 (dk_at dksX5_skillOf_2 3 rfl rfl)
theorem dX5_skillOf_60 : decode cX5_skillOf 60 = .ok (.iadd, 1) := dk_96 (dk_at dksX5_skillOf_2 4 rfl rfl)
theorem dX5_skillOf_61 : decode cX5_skillOf 61 = .ok (.ireturn, 1) := dk_172 (dk_at dksX5_skillOf_2 5 rfl rfl)
theorem dX5_skillOf_62 : decode cX5_skillOf 62 = .ok (.iconst 5, 1) := dk_8 (dk_at dksX5_skillOf_2 6 rfl rfl)
theorem dX5_skillOf_63 : decode cX5_skillOf 63 = .ok (.ireturn, 1) := dk_172 (dk_at dksX5_skillOf_2 7 rfl rfl)
theorem dX5_skillOf_64 : decode cX5_skillOf 64 = .ok (.iconst 5, 1) := dk_8 (dk_at dksX5_skillOf_2 8 rfl rfl)
theorem dX5_skillOf_65 : decode cX5_skillOf 65 = .ok (.iload_n 2, 1) := dk_28 (dk_at dksX5_skillOf_2 9 rfl rfl)
theorem dX5_skillOf_66 : decode cX5_skillOf 66 = .ok (.imul, 1) := dk_104 (dk_at dksX5_skillOf_2 10 rfl rfl)
theorem dX5_skillOf_67 : decode cX5_skillOf 67 = .ok (.ireturn, 1) := dk_172 (dk_at dksX5_skillOf_2 11 rfl rfl)
theorem dX5_skillOf_68 : decode cX5_skillOf 68 = .ok (.bipush 15, 2) := dk_16 15 (dk_at dksX5_skillOf_2 12 rfl rfl)
theorem dX5_skillOf_70 : decode cX5_skillOf 70 = .ok (.ireturn, 1) := dk_172 (dk_at dksX5_skillOf_2 14 rfl rfl)
theorem dX5_skillOf_71 : decode cX5_skillOf 71 = .ok (.iconst 3, 1) := dk_6 (dk_at dksX5_skillOf_2 15 rfl rfl)
theorem dX5_skillOf_72 : decode cX5_skillOf 72 = .ok (.ireturn, 1) := dk_172 (dk_at dksX5_skillOf_2 16 rfl rfl)
theorem dX5_skillOf_73 : decode cX5_skillOf 73 = .ok (.iconst 0, 1) := dk_3 (dk_at dksX5_skillOf_2 17 rfl rfl)
theorem dX5_skillOf_74 : decode cX5_skillOf 74 = .ok (.ireturn, 1) := dk_172 (dk_at dksX5_skillOf_2 18 rfl rfl)
theorem dX5_skillOf_75 : decode cX5_skillOf 75 = .ok (.iconst 5, 1) := dk_8 (dk_at dksX5_skillOf_2 19 rfl rfl)
theorem dX5_skillOf_76 : decode cX5_skillOf 76 = .ok (.iload_n 2, 1) := dk_28 (dk_at dksX5_skillOf_2 20 rfl rfl)
theorem dX5_skillOf_77 : decode cX5_skillOf 77 = .ok (.imul, 1) := dk_104 (dk_at dksX5_skillOf_2 21 rfl rfl)
theorem dX5_skillOf_78 : decode cX5_skillOf 78 = .ok (.bipush 9, 2) := dk_16 9 (dk_at dksX5_skillOf_2 22 rfl rfl)
theorem dX5_skillOf_80 : decode cX5_skillOf 80 = .ok (.iadd, 1) := dk_96 (dk_at dksX5_skillOf_3 0 rfl rfl)
theorem dX5_skillOf_81 : decode cX5_skillOf 81 = .ok (.ireturn, 1) := dk_172 (dk_at dksX5_skillOf_3 1 rfl rfl)
abbrev cX5_toss : ByteArray := prog_21_method_66_code
def yX5_toss : MethodName := ⟨RX5, "toss", "(I)I"⟩
def dkwX5_toss_4 : List UInt8 := [160, 0, 15, 17, 0, 200, 42, 27, 182, 0, 234, 96, 167, 0, 9, 42, 180, 0, 91, 27, 46, 172]
abbrev dktX5_toss_4 : List UInt8 := dkwX5_toss_4 ++ []
def dkwX5_toss_3 : List UInt8 := [160, 0, 15, 16, 100, 42, 180, 0, 91, 27, 46, 96, 167, 0, 32, 42, 180, 0, 94, 27, 46, 16, 7]
abbrev dktX5_toss_3 : List UInt8 := dkwX5_toss_3 ++ dktX5_toss_4
def dkwX5_toss_2 : List UInt8 := [159, 0, 12, 42, 180, 0, 97, 27, 46, 154, 0, 6, 16, 241, 172, 42, 180, 0, 94, 27, 46, 7]
abbrev dktX5_toss_2 : List UInt8 := dkwX5_toss_2 ++ dktX5_toss_3
def dkwX5_toss_1 : List UInt8 := [180, 0, 76, 27, 46, 154, 0, 8, 16, 245, 167, 0, 5, 16, 244, 172, 42, 180, 0, 94, 27, 46, 16, 6]
abbrev dktX5_toss_1 : List UInt8 := dkwX5_toss_1 ++ dktX5_toss_2
def dkwX5_toss_0 : List UInt8 := [27, 3, 16, 7, 184, 0, 100, 154, 0, 5, 2, 172, 42, 180, 0, 76, 27, 46, 4, 159, 0, 20, 42]
abbrev dktX5_toss_0 : List UInt8 := dkwX5_toss_0 ++ dktX5_toss_1
theorem dksX5_toss_0 : cX5_toss.data.toList.drop 0 = dktX5_toss_0 := by decide +kernel
theorem dksX5_toss_1 : cX5_toss.data.toList.drop 23 = dktX5_toss_1 := dk_seg dksX5_toss_0 23 rfl rfl
theorem dksX5_toss_2 : cX5_toss.data.toList.drop 47 = dktX5_toss_2 := dk_seg dksX5_toss_1 24 rfl rfl
theorem dksX5_toss_3 : cX5_toss.data.toList.drop 69 = dktX5_toss_3 := dk_seg dksX5_toss_2 22 rfl rfl
theorem dksX5_toss_4 : cX5_toss.data.toList.drop 92 = dktX5_toss_4 := dk_seg dksX5_toss_3 23 rfl rfl
theorem dX5_toss_0 : decode cX5_toss 0 = .ok (.iload_n 1, 1) := dk_27 (dk_at dksX5_toss_0 0 rfl rfl)
theorem dX5_toss_1 : decode cX5_toss 1 = .ok (.iconst 0, 1) := dk_3 (dk_at dksX5_toss_0 1 rfl rfl)
theorem dX5_toss_2 : decode cX5_toss 2 = .ok (.bipush 7, 2) := dk_16 7 (dk_at dksX5_toss_0 2 rfl rfl)
theorem dX5_toss_4 : decode cX5_toss 4 = .ok (.invokestatic 100, 3) := dk_184 0 100 (dk_at dksX5_toss_0 4 rfl rfl)
theorem dX5_toss_7 : decode cX5_toss 7 = .ok (.ifCond .ne 5, 3) := dk_154 0 5 (dk_at dksX5_toss_0 7 rfl rfl)
theorem dX5_toss_10 : decode cX5_toss 10 = .ok (.iconst (-1), 1) := dk_2 (dk_at dksX5_toss_0 10 rfl rfl)
theorem dX5_toss_11 : decode cX5_toss 11 = .ok (.ireturn, 1) := dk_172 (dk_at dksX5_toss_0 11 rfl rfl)
theorem dX5_toss_12 : decode cX5_toss 12 = .ok (.aload_n 0, 1) := dk_42 (dk_at dksX5_toss_0 12 rfl rfl)
theorem dX5_toss_13 : decode cX5_toss 13 = .ok (.getfield 76, 3) := dk_180 0 76 (dk_at dksX5_toss_0 13 rfl rfl)
theorem dX5_toss_16 : decode cX5_toss 16 = .ok (.iload_n 1, 1) := dk_27 (dk_at dksX5_toss_0 16 rfl rfl)
theorem dX5_toss_17 : decode cX5_toss 17 = .ok (.iaload, 1) := dk_46 (dk_at dksX5_toss_0 17 rfl rfl)
theorem dX5_toss_18 : decode cX5_toss 18 = .ok (.iconst 1, 1) := dk_4 (dk_at dksX5_toss_0 18 rfl rfl)
theorem dX5_toss_19 : decode cX5_toss 19 = .ok (.if_icmp .eq 20, 3) := dk_159 0 20 (dk_at dksX5_toss_0 19 rfl rfl)
theorem dX5_toss_22 : decode cX5_toss 22 = .ok (.aload_n 0, 1) := dk_42 (dk_at dksX5_toss_0 22 rfl rfl)
theorem dX5_toss_23 : decode cX5_toss 23 = .ok (.getfield 76, 3) := dk_180 0 76 (dk_at dksX5_toss_1 0 rfl rfl)
theorem dX5_toss_26 : decode cX5_toss 26 = .ok (.iload_n 1, 1) := dk_27 (dk_at dksX5_toss_1 3 rfl rfl)
theorem dX5_toss_27 : decode cX5_toss 27 = .ok (.iaload, 1) := dk_46 (dk_at dksX5_toss_1 4 rfl rfl)
theorem dX5_toss_28 : decode cX5_toss 28 = .ok (.ifCond .ne 8, 3) := dk_154 0 8 (dk_at dksX5_toss_1 5 rfl rfl)
theorem dX5_toss_31 : decode cX5_toss 31 = .ok (.bipush (-11), 2) := dk_16 245 (dk_at dksX5_toss_1 8 rfl rfl)
theorem dX5_toss_33 : decode cX5_toss 33 = .ok (.goto 5, 3) := dk_167 0 5 (dk_at dksX5_toss_1 10 rfl rfl)
theorem dX5_toss_36 : decode cX5_toss 36 = .ok (.bipush (-12), 2) := dk_16 244 (dk_at dksX5_toss_1 13 rfl rfl)
theorem dX5_toss_38 : decode cX5_toss 38 = .ok (.ireturn, 1) := dk_172 (dk_at dksX5_toss_1 15 rfl rfl)
theorem dX5_toss_39 : decode cX5_toss 39 = .ok (.aload_n 0, 1) := dk_42 (dk_at dksX5_toss_1 16 rfl rfl)
theorem dX5_toss_40 : decode cX5_toss 40 = .ok (.getfield 94, 3) := dk_180 0 94 (dk_at dksX5_toss_1 17 rfl rfl)
theorem dX5_toss_43 : decode cX5_toss 43 = .ok (.iload_n 1, 1) := dk_27 (dk_at dksX5_toss_1 20 rfl rfl)
theorem dX5_toss_44 : decode cX5_toss 44 = .ok (.iaload, 1) := dk_46 (dk_at dksX5_toss_1 21 rfl rfl)
theorem dX5_toss_45 : decode cX5_toss 45 = .ok (.bipush 6, 2) := dk_16 6 (dk_at dksX5_toss_1 22 rfl rfl)
theorem dX5_toss_47 : decode cX5_toss 47 = .ok (.if_icmp .eq 12, 3) := dk_159 0 12 (dk_at dksX5_toss_2 0 rfl rfl)
theorem dX5_toss_50 : decode cX5_toss 50 = .ok (.aload_n 0, 1) := dk_42 (dk_at dksX5_toss_2 3 rfl rfl)
theorem dX5_toss_51 : decode cX5_toss 51 = .ok (.getfield 97, 3) := dk_180 0 97 (dk_at dksX5_toss_2 4 rfl rfl)
theorem dX5_toss_54 : decode cX5_toss 54 = .ok (.iload_n 1, 1) := dk_27 (dk_at dksX5_toss_2 7 rfl rfl)
theorem dX5_toss_55 : decode cX5_toss 55 = .ok (.iaload, 1) := dk_46 (dk_at dksX5_toss_2 8 rfl rfl)
theorem dX5_toss_56 : decode cX5_toss 56 = .ok (.ifCond .ne 6, 3) := dk_154 0 6 (dk_at dksX5_toss_2 9 rfl rfl)
theorem dX5_toss_59 : decode cX5_toss 59 = .ok (.bipush (-15), 2) := dk_16 241 (dk_at dksX5_toss_2 12 rfl rfl)
theorem dX5_toss_61 : decode cX5_toss 61 = .ok (.ireturn, 1) := dk_172 (dk_at dksX5_toss_2 14 rfl rfl)
theorem dX5_toss_62 : decode cX5_toss 62 = .ok (.aload_n 0, 1) := dk_42 (dk_at dksX5_toss_2 15 rfl rfl)
theorem dX5_toss_63 : decode cX5_toss 63 = .ok (.getfield 94, 3) := dk_180 0 94 (dk_at dksX5_toss_2 16 rfl rfl)
theorem dX5_toss_66 : decode cX5_toss 66 = .ok (.iload_n 1, 1) := dk_27 (dk_at dksX5_toss_2 19 rfl rfl)
theorem dX5_toss_67 : decode cX5_toss 67 = .ok (.iaload, 1) := dk_46 (dk_at dksX5_toss_2 20 rfl rfl)
theorem dX5_toss_68 : decode cX5_toss 68 = .ok (.iconst 4, 1) := dk_7 (dk_at dksX5_toss_2 21 rfl rfl)
theorem dX5_toss_69 : decode cX5_toss 69 = .ok (.if_icmp .ne 15, 3) := dk_160 0 15 (dk_at dksX5_toss_3 0 rfl rfl)
theorem dX5_toss_72 : decode cX5_toss 72 = .ok (.bipush 100, 2) := dk_16 100 (dk_at dksX5_toss_3 3 rfl rfl)
theorem dX5_toss_74 : decode cX5_toss 74 = .ok (.aload_n 0, 1) := dk_42 (dk_at dksX5_toss_3 5 rfl rfl)
theorem dX5_toss_75 : decode cX5_toss 75 = .ok (.getfield 91, 3) := dk_180 0 91 (dk_at dksX5_toss_3 6 rfl rfl)
theorem dX5_toss_78 : decode cX5_toss 78 = .ok (.iload_n 1, 1) := dk_27 (dk_at dksX5_toss_3 9 rfl rfl)
theorem dX5_toss_79 : decode cX5_toss 79 = .ok (.iaload, 1) := dk_46 (dk_at dksX5_toss_3 10 rfl rfl)
theorem dX5_toss_80 : decode cX5_toss 80 = .ok (.iadd, 1) := dk_96 (dk_at dksX5_toss_3 11 rfl rfl)
theorem dX5_toss_81 : decode cX5_toss 81 = .ok (.goto 32, 3) := dk_167 0 32 (dk_at dksX5_toss_3 12 rfl rfl)
theorem dX5_toss_84 : decode cX5_toss 84 = .ok (.aload_n 0, 1) := dk_42 (dk_at dksX5_toss_3 15 rfl rfl)
theorem dX5_toss_85 : decode cX5_toss 85 = .ok (.getfield 94, 3) := dk_180 0 94 (dk_at dksX5_toss_3 16 rfl rfl)
theorem dX5_toss_88 : decode cX5_toss 88 = .ok (.iload_n 1, 1) := dk_27 (dk_at dksX5_toss_3 19 rfl rfl)
theorem dX5_toss_89 : decode cX5_toss 89 = .ok (.iaload, 1) := dk_46 (dk_at dksX5_toss_3 20 rfl rfl)
theorem dX5_toss_90 : decode cX5_toss 90 = .ok (.bipush 7, 2) := dk_16 7 (dk_at dksX5_toss_3 21 rfl rfl)
theorem dX5_toss_92 : decode cX5_toss 92 = .ok (.if_icmp .ne 15, 3) := dk_160 0 15 (dk_at dksX5_toss_4 0 rfl rfl)
theorem dX5_toss_95 : decode cX5_toss 95 = .ok (.sipush 200, 3) := dk_17 0 200 (dk_at dksX5_toss_4 3 rfl rfl)
theorem dX5_toss_98 : decode cX5_toss 98 = .ok (.aload_n 0, 1) := dk_42 (dk_at dksX5_toss_4 6 rfl rfl)
theorem dX5_toss_99 : decode cX5_toss 99 = .ok (.iload_n 1, 1) := dk_27 (dk_at dksX5_toss_4 7 rfl rfl)
theorem dX5_toss_100 : decode cX5_toss 100 = .ok (.invokevirtual 234, 3) := dk_182 0 234 (dk_at dksX5_toss_4 8 rfl rfl)
theorem dX5_toss_103 : decode cX5_toss 103 = .ok (.iadd, 1) := dk_96 (dk_at dksX5_toss_4 11 rfl rfl)
theorem dX5_toss_104 : decode cX5_toss 104 = .ok (.goto 9, 3) := dk_167 0 9 (dk_at dksX5_toss_4 12 rfl rfl)
theorem dX5_toss_107 : decode cX5_toss 107 = .ok (.aload_n 0, 1) := dk_42 (dk_at dksX5_toss_4 15 rfl rfl)
theorem dX5_toss_108 : decode cX5_toss 108 = .ok (.getfield 91, 3) := dk_180 0 91 (dk_at dksX5_toss_4 16 rfl rfl)
theorem dX5_toss_111 : decode cX5_toss 111 = .ok (.iload_n 1, 1) := dk_27 (dk_at dksX5_toss_4 19 rfl rfl)
theorem dX5_toss_112 : decode cX5_toss 112 = .ok (.iaload, 1) := dk_46 (dk_at dksX5_toss_4 20 rfl rfl)
theorem dX5_toss_113 : decode cX5_toss 113 = .ok (.ireturn, 1) := dk_172 (dk_at dksX5_toss_4 21 rfl rfl)
theorem q46 : (Jvm.Cond.initialized "LookAtClockModel") ∈ lw_all := lw_g (lw_at lw_m1 5 rfl) rfl
theorem q1087 : (Jvm.Cond.instantiable "LookAtClockModel" (41 : Nat)) ∈ lw_all := lw_g (lw_at lw_m5 86 rfl) rfl
theorem q1089 : (Jvm.Cond.instanceMethod ({ cls := "LookAtClockModel", name := "<init>", desc := "()V" } : Jvm.MethodName)) ∈ lw_all := lw_g (lw_at lw_m5 88 rfl) rfl
theorem q1090 : (Jvm.Cond.code ({ cls := "LookAtClockModel", name := "<init>", desc := "()V" } : Jvm.MethodName) prog_21_method_1_code (1 : Nat) (Option.none : Option Jvm.ClassFile.FieldType)) ∈ lw_all := lw_g (lw_at lw_m5 89 rfl) rfl
theorem q1091 : (Jvm.Cond.methodLink "LookAtClockModel" (1 : Nat) ({ cls := "java/lang/Object", name := "<init>", desc := "()V" } : Jvm.MethodName)) ∈ lw_all := lw_g (lw_at lw_m5 90 rfl) rfl
theorem q1092 : (Jvm.Cond.fieldLink "LookAtClockModel" (7 : Nat) "LookAtClockModel" "many" "[I") ∈ lw_all := lw_g (lw_at lw_m5 91 rfl) rfl
theorem q1093 : (Jvm.Cond.fieldLink "LookAtClockModel" (13 : Nat) "LookAtClockModel" "at" "[I") ∈ lw_all := lw_g (lw_at lw_m5 92 rfl) rfl
theorem q1094 : (Jvm.Cond.fieldLink "LookAtClockModel" (16 : Nat) "LookAtClockModel" "walk" "[I") ∈ lw_all := lw_g (lw_at lw_m5 93 rfl) rfl
theorem q1095 : (Jvm.Cond.fieldLink "LookAtClockModel" (19 : Nat) "LookAtClockModel" "fine" "[I") ∈ lw_all := lw_g (lw_at lw_m5 94 rfl) rfl
theorem q1096 : (Jvm.Cond.fieldLink "LookAtClockModel" (22 : Nat) "LookAtClockModel" "kind" "[I") ∈ lw_all := lw_g (lw_at lw_m5 95 rfl) rfl
theorem q1097 : (Jvm.Cond.fieldLink "LookAtClockModel" (25 : Nat) "LookAtClockModel" "figure" "[I") ∈ lw_all := lw_g (lw_at lw_m5 96 rfl) rfl
theorem q1098 : (Jvm.Cond.fieldLink "LookAtClockModel" (28 : Nat) "LookAtClockModel" "drift" "[I") ∈ lw_all := lw_g (lw_at lw_m5 97 rfl) rfl
theorem q1099 : (Jvm.Cond.fieldLink "LookAtClockModel" (31 : Nat) "LookAtClockModel" "wake" "[I") ∈ lw_all := lw_g (lw_at lw_m5 98 rfl) rfl
theorem q1100 : (Jvm.Cond.fieldLink "LookAtClockModel" (34 : Nat) "LookAtClockModel" "plan" "[I") ∈ lw_all := lw_g (lw_at lw_m5 99 rfl) rfl
theorem q1101 : (Jvm.Cond.fieldLink "LookAtClockModel" (104 : Nat) "LookAtClockModel" "kept" "Z") ∈ lw_all := lw_g (lw_at lw_m5 100 rfl) rfl
theorem q1102 : (Jvm.Cond.fieldLink "LookAtClockModel" (37 : Nat) "LookAtClockModel" "manyThen" "[I") ∈ lw_all := lw_g (lw_at lw_m5 101 rfl) rfl
theorem q1103 : (Jvm.Cond.fieldLink "LookAtClockModel" (40 : Nat) "LookAtClockModel" "atThen" "[I") ∈ lw_all := lw_g (lw_at lw_m5 102 rfl) rfl
theorem q1104 : (Jvm.Cond.fieldLink "LookAtClockModel" (43 : Nat) "LookAtClockModel" "walkThen" "[I") ∈ lw_all := lw_g (lw_at lw_m5 103 rfl) rfl
theorem q1105 : (Jvm.Cond.fieldLink "LookAtClockModel" (46 : Nat) "LookAtClockModel" "fineThen" "[I") ∈ lw_all := lw_g (lw_at lw_m5 104 rfl) rfl
theorem q1106 : (Jvm.Cond.fieldLink "LookAtClockModel" (49 : Nat) "LookAtClockModel" "kindThen" "[I") ∈ lw_all := lw_g (lw_at lw_m5 105 rfl) rfl
theorem q1107 : (Jvm.Cond.fieldLink "LookAtClockModel" (52 : Nat) "LookAtClockModel" "figureThen" "[I") ∈ lw_all := lw_g (lw_at lw_m5 106 rfl) rfl
theorem q1108 : (Jvm.Cond.fieldLink "LookAtClockModel" (55 : Nat) "LookAtClockModel" "driftThen" "[I") ∈ lw_all := lw_g (lw_at lw_m5 107 rfl) rfl
theorem q1109 : (Jvm.Cond.fieldLink "LookAtClockModel" (58 : Nat) "LookAtClockModel" "wakeThen" "[I") ∈ lw_all := lw_g (lw_at lw_m5 108 rfl) rfl
theorem q1110 : (Jvm.Cond.fieldLink "LookAtClockModel" (61 : Nat) "LookAtClockModel" "planThen" "[I") ∈ lw_all := lw_g (lw_at lw_m5 109 rfl) rfl
theorem q1111 : (Jvm.Cond.fieldLink "LookAtClockModel" (142 : Nat) "LookAtClockModel" "paid" "I") ∈ lw_all := lw_g (lw_at lw_m5 110 rfl) rfl
theorem q1112 : (Jvm.Cond.fieldLink "LookAtClockModel" (146 : Nat) "LookAtClockModel" "looks" "I") ∈ lw_all := lw_g (lw_at lw_m5 111 rfl) rfl
theorem q1113 : (Jvm.Cond.fieldLink "LookAtClockModel" (64 : Nat) "LookAtClockModel" "looked" "[I") ∈ lw_all := lw_g (lw_at lw_m5 112 rfl) rfl
theorem q1114 : (Jvm.Cond.fieldLink "LookAtClockModel" (149 : Nat) "LookAtClockModel" "late" "I") ∈ lw_all := lw_g (lw_at lw_m5 113 rfl) rfl
theorem q1115 : (Jvm.Cond.fieldLink "LookAtClockModel" (152 : Nat) "LookAtClockModel" "pence" "I") ∈ lw_all := lw_g (lw_at lw_m5 114 rfl) rfl
theorem q1116 : (Jvm.Cond.fieldLink "LookAtClockModel" (155 : Nat) "LookAtClockModel" "idle" "I") ∈ lw_all := lw_g (lw_at lw_m5 115 rfl) rfl
theorem q1117 : (Jvm.Cond.fieldLink "LookAtClockModel" (67 : Nat) "LookAtClockModel" "came" "[I") ∈ lw_all := lw_g (lw_at lw_m5 116 rfl) rfl
theorem q1118 : (Jvm.Cond.fieldLink "LookAtClockModel" (70 : Nat) "LookAtClockModel" "costs" "[I") ∈ lw_all := lw_g (lw_at lw_m5 117 rfl) rfl
theorem q1119 : (Jvm.Cond.fieldLink "LookAtClockModel" (197 : Nat) "LookAtClockModel" "from" "I") ∈ lw_all := lw_g (lw_at lw_m5 118 rfl) rfl
theorem q1120 : (Jvm.Cond.fieldLink "LookAtClockModel" (194 : Nat) "LookAtClockModel" "to" "I") ∈ lw_all := lw_g (lw_at lw_m5 119 rfl) rfl
theorem q1121 : (Jvm.Cond.fieldLink "LookAtClockModel" (191 : Nat) "LookAtClockModel" "place" "I") ∈ lw_all := lw_g (lw_at lw_m5 120 rfl) rfl
theorem q1122 : (Jvm.Cond.fieldLink "LookAtClockModel" (200 : Nat) "LookAtClockModel" "well" "Z") ∈ lw_all := lw_g (lw_at lw_m5 121 rfl) rfl
theorem q1123 : (Jvm.Cond.fieldLink "LookAtClockModel" (73 : Nat) "LookAtClockModel" "field" "[I") ∈ lw_all := lw_g (lw_at lw_m5 122 rfl) rfl
theorem q1124 : (Jvm.Cond.fieldLink "LookAtClockModel" (76 : Nat) "LookAtClockModel" "holds" "[I") ∈ lw_all := lw_g (lw_at lw_m5 123 rfl) rfl
theorem q1125 : (Jvm.Cond.fieldLink "LookAtClockModel" (79 : Nat) "LookAtClockModel" "sort" "[I") ∈ lw_all := lw_g (lw_at lw_m5 124 rfl) rfl
theorem q1126 : (Jvm.Cond.fieldLink "LookAtClockModel" (82 : Nat) "LookAtClockModel" "size" "[I") ∈ lw_all := lw_g (lw_at lw_m5 125 rfl) rfl
theorem q1127 : (Jvm.Cond.fieldLink "LookAtClockModel" (85 : Nat) "LookAtClockModel" "items" "[I") ∈ lw_all := lw_g (lw_at lw_m5 126 rfl) rfl
theorem q1128 : (Jvm.Cond.fieldLink "LookAtClockModel" (88 : Nat) "LookAtClockModel" "moved" "[I") ∈ lw_all := lw_g (lw_at lw_m5 127 rfl) rfl
theorem q1129 : (Jvm.Cond.fieldLink "LookAtClockModel" (91 : Nat) "LookAtClockModel" "numberOf" "[I") ∈ lw_all := lw_g (lw_at lw_m5 128 rfl) rfl
theorem q1130 : (Jvm.Cond.fieldLink "LookAtClockModel" (94 : Nat) "LookAtClockModel" "kindOf" "[I") ∈ lw_all := lw_g (lw_at lw_m5 129 rfl) rfl
theorem q1131 : (Jvm.Cond.fieldLink "LookAtClockModel" (97 : Nat) "LookAtClockModel" "figureOf" "[I") ∈ lw_all := lw_g (lw_at lw_m5 130 rfl) rfl
theorem q1132 : (Jvm.Cond.fieldLink "LookAtClockModel" (231 : Nat) "LookAtClockModel" "thrown" "I") ∈ lw_all := lw_g (lw_at lw_m5 131 rfl) rfl
theorem q1133 : (Jvm.Cond.laysFinal "LookAtClockModel" "LookAtClockModel" "many" "[I") ∈ lw_all := lw_g (lw_at lw_m5 132 rfl) rfl
theorem q1134 : (Jvm.Cond.soleField "LookAtClockModel" "many") ∈ lw_all := lw_g (lw_at lw_m5 133 rfl) rfl
theorem q1135 : (Jvm.Cond.laysFinal "LookAtClockModel" "LookAtClockModel" "at" "[I") ∈ lw_all := lw_g (lw_at lw_m5 134 rfl) rfl
theorem q1136 : (Jvm.Cond.soleField "LookAtClockModel" "at") ∈ lw_all := lw_g (lw_at lw_m5 135 rfl) rfl
theorem q1137 : (Jvm.Cond.laysFinal "LookAtClockModel" "LookAtClockModel" "walk" "[I") ∈ lw_all := lw_g (lw_at lw_m5 136 rfl) rfl
theorem q1138 : (Jvm.Cond.soleField "LookAtClockModel" "walk") ∈ lw_all := lw_g (lw_at lw_m5 137 rfl) rfl
theorem q1139 : (Jvm.Cond.laysFinal "LookAtClockModel" "LookAtClockModel" "fine" "[I") ∈ lw_all := lw_g (lw_at lw_m5 138 rfl) rfl
theorem q1140 : (Jvm.Cond.soleField "LookAtClockModel" "fine") ∈ lw_all := lw_g (lw_at lw_m5 139 rfl) rfl
theorem q1141 : (Jvm.Cond.laysFinal "LookAtClockModel" "LookAtClockModel" "kind" "[I") ∈ lw_all := lw_g (lw_at lw_m5 140 rfl) rfl
theorem q1142 : (Jvm.Cond.soleField "LookAtClockModel" "kind") ∈ lw_all := lw_g (lw_at lw_m5 141 rfl) rfl
theorem q1143 : (Jvm.Cond.laysFinal "LookAtClockModel" "LookAtClockModel" "figure" "[I") ∈ lw_all := lw_g (lw_at lw_m5 142 rfl) rfl
theorem q1144 : (Jvm.Cond.soleField "LookAtClockModel" "figure") ∈ lw_all := lw_g (lw_at lw_m5 143 rfl) rfl
theorem q1145 : (Jvm.Cond.laysFinal "LookAtClockModel" "LookAtClockModel" "drift" "[I") ∈ lw_all := lw_g (lw_at lw_m5 144 rfl) rfl
theorem q1146 : (Jvm.Cond.soleField "LookAtClockModel" "drift") ∈ lw_all := lw_g (lw_at lw_m5 145 rfl) rfl
theorem q1147 : (Jvm.Cond.laysFinal "LookAtClockModel" "LookAtClockModel" "wake" "[I") ∈ lw_all := lw_g (lw_at lw_m5 146 rfl) rfl
theorem q1148 : (Jvm.Cond.soleField "LookAtClockModel" "wake") ∈ lw_all := lw_g (lw_at lw_m5 147 rfl) rfl
theorem q1149 : (Jvm.Cond.laysFinal "LookAtClockModel" "LookAtClockModel" "plan" "[I") ∈ lw_all := lw_g (lw_at lw_m5 148 rfl) rfl
theorem q1150 : (Jvm.Cond.soleField "LookAtClockModel" "plan") ∈ lw_all := lw_g (lw_at lw_m5 149 rfl) rfl
theorem q1151 : (Jvm.Cond.lays "LookAtClockModel" "LookAtClockModel" "kept" "Z") ∈ lw_all := lw_g (lw_at lw_m5 150 rfl) rfl
theorem q1152 : (Jvm.Cond.soleField "LookAtClockModel" "kept") ∈ lw_all := lw_g (lw_at lw_m5 151 rfl) rfl
theorem q1153 : (Jvm.Cond.laysFinal "LookAtClockModel" "LookAtClockModel" "manyThen" "[I") ∈ lw_all := lw_g (lw_at lw_m5 152 rfl) rfl
theorem q1154 : (Jvm.Cond.soleField "LookAtClockModel" "manyThen") ∈ lw_all := lw_g (lw_at lw_m5 153 rfl) rfl
theorem q1155 : (Jvm.Cond.laysFinal "LookAtClockModel" "LookAtClockModel" "atThen" "[I") ∈ lw_all := lw_g (lw_at lw_m5 154 rfl) rfl
theorem q1156 : (Jvm.Cond.soleField "LookAtClockModel" "atThen") ∈ lw_all := lw_g (lw_at lw_m5 155 rfl) rfl
theorem q1157 : (Jvm.Cond.laysFinal "LookAtClockModel" "LookAtClockModel" "walkThen" "[I") ∈ lw_all := lw_g (lw_at lw_m5 156 rfl) rfl
theorem q1158 : (Jvm.Cond.soleField "LookAtClockModel" "walkThen") ∈ lw_all := lw_g (lw_at lw_m5 157 rfl) rfl
theorem q1159 : (Jvm.Cond.laysFinal "LookAtClockModel" "LookAtClockModel" "fineThen" "[I") ∈ lw_all := lw_g (lw_at lw_m5 158 rfl) rfl
theorem q1160 : (Jvm.Cond.soleField "LookAtClockModel" "fineThen") ∈ lw_all := lw_g (lw_at lw_m5 159 rfl) rfl
theorem q1161 : (Jvm.Cond.laysFinal "LookAtClockModel" "LookAtClockModel" "kindThen" "[I") ∈ lw_all := lw_g (lw_at lw_m5 160 rfl) rfl
theorem q1162 : (Jvm.Cond.soleField "LookAtClockModel" "kindThen") ∈ lw_all := lw_g (lw_at lw_m5 161 rfl) rfl
theorem q1163 : (Jvm.Cond.laysFinal "LookAtClockModel" "LookAtClockModel" "figureThen" "[I") ∈ lw_all := lw_g (lw_at lw_m5 162 rfl) rfl
theorem q1164 : (Jvm.Cond.soleField "LookAtClockModel" "figureThen") ∈ lw_all := lw_g (lw_at lw_m5 163 rfl) rfl
theorem q1165 : (Jvm.Cond.laysFinal "LookAtClockModel" "LookAtClockModel" "driftThen" "[I") ∈ lw_all := lw_g (lw_at lw_m5 164 rfl) rfl
theorem q1166 : (Jvm.Cond.soleField "LookAtClockModel" "driftThen") ∈ lw_all := lw_g (lw_at lw_m5 165 rfl) rfl
theorem q1167 : (Jvm.Cond.laysFinal "LookAtClockModel" "LookAtClockModel" "wakeThen" "[I") ∈ lw_all := lw_g (lw_at lw_m5 166 rfl) rfl
theorem q1168 : (Jvm.Cond.soleField "LookAtClockModel" "wakeThen") ∈ lw_all := lw_g (lw_at lw_m5 167 rfl) rfl
theorem q1169 : (Jvm.Cond.laysFinal "LookAtClockModel" "LookAtClockModel" "planThen" "[I") ∈ lw_all := lw_g (lw_at lw_m5 168 rfl) rfl
theorem q1170 : (Jvm.Cond.soleField "LookAtClockModel" "planThen") ∈ lw_all := lw_g (lw_at lw_m5 169 rfl) rfl
theorem q1171 : (Jvm.Cond.lays "LookAtClockModel" "LookAtClockModel" "paid" "I") ∈ lw_all := lw_g (lw_at lw_m5 170 rfl) rfl
theorem q1172 : (Jvm.Cond.soleField "LookAtClockModel" "paid") ∈ lw_all := lw_g (lw_at lw_m5 171 rfl) rfl
theorem q1173 : (Jvm.Cond.lays "LookAtClockModel" "LookAtClockModel" "looks" "I") ∈ lw_all := lw_g (lw_at lw_m5 172 rfl) rfl
theorem q1174 : (Jvm.Cond.soleField "LookAtClockModel" "looks") ∈ lw_all := lw_g (lw_at lw_m5 173 rfl) rfl
theorem q1175 : (Jvm.Cond.laysFinal "LookAtClockModel" "LookAtClockModel" "looked" "[I") ∈ lw_all := lw_g (lw_at lw_m5 174 rfl) rfl
theorem q1176 : (Jvm.Cond.soleField "LookAtClockModel" "looked") ∈ lw_all := lw_g (lw_at lw_m5 175 rfl) rfl
theorem q1177 : (Jvm.Cond.lays "LookAtClockModel" "LookAtClockModel" "late" "I") ∈ lw_all := lw_g (lw_at lw_m5 176 rfl) rfl
theorem q1178 : (Jvm.Cond.soleField "LookAtClockModel" "late") ∈ lw_all := lw_g (lw_at lw_m5 177 rfl) rfl
theorem q1179 : (Jvm.Cond.lays "LookAtClockModel" "LookAtClockModel" "pence" "I") ∈ lw_all := lw_g (lw_at lw_m5 178 rfl) rfl
theorem q1180 : (Jvm.Cond.soleField "LookAtClockModel" "pence") ∈ lw_all := lw_g (lw_at lw_m5 179 rfl) rfl
theorem q1181 : (Jvm.Cond.lays "LookAtClockModel" "LookAtClockModel" "idle" "I") ∈ lw_all := lw_g (lw_at lw_m5 180 rfl) rfl
theorem q1182 : (Jvm.Cond.soleField "LookAtClockModel" "idle") ∈ lw_all := lw_g (lw_at lw_m5 181 rfl) rfl
theorem q1183 : (Jvm.Cond.laysFinal "LookAtClockModel" "LookAtClockModel" "came" "[I") ∈ lw_all := lw_g (lw_at lw_m5 182 rfl) rfl
theorem q1184 : (Jvm.Cond.soleField "LookAtClockModel" "came") ∈ lw_all := lw_g (lw_at lw_m5 183 rfl) rfl
theorem q1185 : (Jvm.Cond.laysFinal "LookAtClockModel" "LookAtClockModel" "costs" "[I") ∈ lw_all := lw_g (lw_at lw_m5 184 rfl) rfl
theorem q1186 : (Jvm.Cond.soleField "LookAtClockModel" "costs") ∈ lw_all := lw_g (lw_at lw_m5 185 rfl) rfl
theorem q1187 : (Jvm.Cond.lays "LookAtClockModel" "LookAtClockModel" "from" "I") ∈ lw_all := lw_g (lw_at lw_m5 186 rfl) rfl
theorem q1188 : (Jvm.Cond.soleField "LookAtClockModel" "from") ∈ lw_all := lw_g (lw_at lw_m5 187 rfl) rfl
theorem q1189 : (Jvm.Cond.lays "LookAtClockModel" "LookAtClockModel" "to" "I") ∈ lw_all := lw_g (lw_at lw_m5 188 rfl) rfl
theorem q1190 : (Jvm.Cond.soleField "LookAtClockModel" "to") ∈ lw_all := lw_g (lw_at lw_m5 189 rfl) rfl
theorem q1191 : (Jvm.Cond.lays "LookAtClockModel" "LookAtClockModel" "place" "I") ∈ lw_all := lw_g (lw_at lw_m5 190 rfl) rfl
theorem q1192 : (Jvm.Cond.soleField "LookAtClockModel" "place") ∈ lw_all := lw_g (lw_at lw_m5 191 rfl) rfl
theorem q1193 : (Jvm.Cond.lays "LookAtClockModel" "LookAtClockModel" "well" "Z") ∈ lw_all := lw_g (lw_at lw_m5 192 rfl) rfl
theorem q1194 : (Jvm.Cond.soleField "LookAtClockModel" "well") ∈ lw_all := lw_g (lw_at lw_m5 193 rfl) rfl
theorem q1195 : (Jvm.Cond.laysFinal "LookAtClockModel" "LookAtClockModel" "field" "[I") ∈ lw_all := lw_g (lw_at lw_m5 194 rfl) rfl
theorem q1196 : (Jvm.Cond.soleField "LookAtClockModel" "field") ∈ lw_all := lw_g (lw_at lw_m5 195 rfl) rfl
theorem q1197 : (Jvm.Cond.laysFinal "LookAtClockModel" "LookAtClockModel" "holds" "[I") ∈ lw_all := lw_g (lw_at lw_m5 196 rfl) rfl
theorem q1198 : (Jvm.Cond.soleField "LookAtClockModel" "holds") ∈ lw_all := lw_g (lw_at lw_m5 197 rfl) rfl
theorem q1199 : (Jvm.Cond.laysFinal "LookAtClockModel" "LookAtClockModel" "sort" "[I") ∈ lw_all := lw_g (lw_at lw_m5 198 rfl) rfl
theorem q1200 : (Jvm.Cond.soleField "LookAtClockModel" "sort") ∈ lw_all := lw_g (lw_at lw_m5 199 rfl) rfl
theorem q1201 : (Jvm.Cond.laysFinal "LookAtClockModel" "LookAtClockModel" "size" "[I") ∈ lw_all := lw_g (lw_at lw_m5 200 rfl) rfl
theorem q1202 : (Jvm.Cond.soleField "LookAtClockModel" "size") ∈ lw_all := lw_g (lw_at lw_m5 201 rfl) rfl
theorem q1203 : (Jvm.Cond.laysFinal "LookAtClockModel" "LookAtClockModel" "items" "[I") ∈ lw_all := lw_g (lw_at lw_m5 202 rfl) rfl
theorem q1204 : (Jvm.Cond.soleField "LookAtClockModel" "items") ∈ lw_all := lw_g (lw_at lw_m5 203 rfl) rfl
theorem q1205 : (Jvm.Cond.laysFinal "LookAtClockModel" "LookAtClockModel" "moved" "[I") ∈ lw_all := lw_g (lw_at lw_m5 204 rfl) rfl
theorem q1206 : (Jvm.Cond.soleField "LookAtClockModel" "moved") ∈ lw_all := lw_g (lw_at lw_m5 205 rfl) rfl
theorem q1207 : (Jvm.Cond.laysFinal "LookAtClockModel" "LookAtClockModel" "numberOf" "[I") ∈ lw_all := lw_g (lw_at lw_m5 206 rfl) rfl
theorem q1208 : (Jvm.Cond.soleField "LookAtClockModel" "numberOf") ∈ lw_all := lw_g (lw_at lw_m5 207 rfl) rfl
theorem q1209 : (Jvm.Cond.laysFinal "LookAtClockModel" "LookAtClockModel" "kindOf" "[I") ∈ lw_all := lw_g (lw_at lw_m5 208 rfl) rfl
theorem q1210 : (Jvm.Cond.soleField "LookAtClockModel" "kindOf") ∈ lw_all := lw_g (lw_at lw_m5 209 rfl) rfl
theorem q1211 : (Jvm.Cond.laysFinal "LookAtClockModel" "LookAtClockModel" "figureOf" "[I") ∈ lw_all := lw_g (lw_at lw_m5 210 rfl) rfl
theorem q1212 : (Jvm.Cond.soleField "LookAtClockModel" "figureOf") ∈ lw_all := lw_g (lw_at lw_m5 211 rfl) rfl
theorem q1213 : (Jvm.Cond.lays "LookAtClockModel" "LookAtClockModel" "thrown" "I") ∈ lw_all := lw_g (lw_at lw_m5 212 rfl) rfl
theorem q1214 : (Jvm.Cond.soleField "LookAtClockModel" "thrown") ∈ lw_all := lw_g (lw_at lw_m5 213 rfl) rfl
theorem q1215 : (Jvm.Cond.superclass "LookAtClockModel" "java/lang/Object") ∈ lw_all := lw_g (lw_at lw_m5 214 rfl) rfl
theorem q1217 : (Jvm.Cond.instanceMethod ({ cls := "LookAtClockModel", name := "image", desc := "()I" } : Jvm.MethodName)) ∈ lw_all := lw_g (lw_at lw_m5 216 rfl) rfl
theorem q1218 : (Jvm.Cond.selects "LookAtClockModel" ({ cls := "LookAtClockModel", name := "image", desc := "()I" } : Jvm.MethodName) ({ cls := "LookAtClockModel", name := "image", desc := "()I" } : Jvm.MethodName)) ∈ lw_all := lw_g (lw_at lw_m5 217 rfl) rfl
theorem q1219 : (Jvm.Cond.code ({ cls := "LookAtClockModel", name := "image", desc := "()I" } : Jvm.MethodName) prog_21_method_5_code (1 : Nat) (Option.some Jvm.ClassFile.FieldType.int)) ∈ lw_all := lw_g (lw_at lw_m5 218 rfl) rfl
theorem q1220 : (Jvm.Cond.methodLink "LookAtClockModel" (108 : Nat) ({ cls := "LookAtClockModel", name := "move", desc := "([I[I)V" } : Jvm.MethodName)) ∈ lw_all := lw_g (lw_at lw_m5 219 rfl) rfl
theorem q1221 : (Jvm.Cond.static ({ cls := "LookAtClockModel", name := "move", desc := "([I[I)V" } : Jvm.MethodName)) ∈ lw_all := lw_g (lw_at lw_m5 220 rfl) rfl
theorem q1222 : (Jvm.Cond.code ({ cls := "LookAtClockModel", name := "move", desc := "([I[I)V" } : Jvm.MethodName) prog_21_method_4_code (3 : Nat) (Option.none : Option Jvm.ClassFile.FieldType)) ∈ lw_all := lw_g (lw_at lw_m5 221 rfl) rfl
theorem q1224 : (Jvm.Cond.instanceMethod ({ cls := "LookAtClockModel", name := "restore", desc := "()I" } : Jvm.MethodName)) ∈ lw_all := lw_g (lw_at lw_m5 223 rfl) rfl
theorem q1225 : (Jvm.Cond.selects "LookAtClockModel" ({ cls := "LookAtClockModel", name := "restore", desc := "()I" } : Jvm.MethodName) ({ cls := "LookAtClockModel", name := "restore", desc := "()I" } : Jvm.MethodName)) ∈ lw_all := lw_g (lw_at lw_m5 224 rfl) rfl
theorem q1226 : (Jvm.Cond.code ({ cls := "LookAtClockModel", name := "restore", desc := "()I" } : Jvm.MethodName) prog_21_method_6_code (1 : Nat) (Option.some Jvm.ClassFile.FieldType.int)) ∈ lw_all := lw_g (lw_at lw_m5 225 rfl) rfl
theorem q1228 : (Jvm.Cond.instanceMethod ({ cls := "LookAtClockModel", name := "price", desc := "(I)I" } : Jvm.MethodName)) ∈ lw_all := lw_g (lw_at lw_m5 227 rfl) rfl
theorem q1229 : (Jvm.Cond.selects "LookAtClockModel" ({ cls := "LookAtClockModel", name := "price", desc := "(I)I" } : Jvm.MethodName) ({ cls := "LookAtClockModel", name := "price", desc := "(I)I" } : Jvm.MethodName)) ∈ lw_all := lw_g (lw_at lw_m5 228 rfl) rfl
theorem q1230 : (Jvm.Cond.code ({ cls := "LookAtClockModel", name := "price", desc := "(I)I" } : Jvm.MethodName) prog_21_method_10_code (2 : Nat) (Option.some Jvm.ClassFile.FieldType.int)) ∈ lw_all := lw_g (lw_at lw_m5 229 rfl) rfl
theorem q1231 : (Jvm.Cond.methodLink "LookAtClockModel" (112 : Nat) ({ cls := "LookAtClockModel", name := "isMinute", desc := "(I)Z" } : Jvm.MethodName)) ∈ lw_all := lw_g (lw_at lw_m5 230 rfl) rfl
theorem q1232 : (Jvm.Cond.static ({ cls := "LookAtClockModel", name := "isMinute", desc := "(I)Z" } : Jvm.MethodName)) ∈ lw_all := lw_g (lw_at lw_m5 231 rfl) rfl
theorem q1233 : (Jvm.Cond.code ({ cls := "LookAtClockModel", name := "isMinute", desc := "(I)Z" } : Jvm.MethodName) prog_21_method_3_code (1 : Nat) (Option.some Jvm.ClassFile.FieldType.boolean)) ∈ lw_all := lw_g (lw_at lw_m5 232 rfl) rfl
theorem q1234 : (Jvm.Cond.methodLink "LookAtClockModel" (100 : Nat) ({ cls := "LookAtClockModel", name := "isIn", desc := "(III)Z" } : Jvm.MethodName)) ∈ lw_all := lw_g (lw_at lw_m5 233 rfl) rfl
theorem q1235 : (Jvm.Cond.static ({ cls := "LookAtClockModel", name := "isIn", desc := "(III)Z" } : Jvm.MethodName)) ∈ lw_all := lw_g (lw_at lw_m5 234 rfl) rfl
theorem q1236 : (Jvm.Cond.code ({ cls := "LookAtClockModel", name := "isIn", desc := "(III)Z" } : Jvm.MethodName) prog_21_method_2_code (3 : Nat) (Option.some Jvm.ClassFile.FieldType.boolean)) ∈ lw_all := lw_g (lw_at lw_m5 235 rfl) rfl
theorem q1237 : (Jvm.Cond.methodLink "LookAtClockModel" (116 : Nat) ({ cls := "LookAtClockModel", name := "priceBy", desc := "(II)I" } : Jvm.MethodName)) ∈ lw_all := lw_g (lw_at lw_m5 236 rfl) rfl
theorem q1238 : (Jvm.Cond.static ({ cls := "LookAtClockModel", name := "priceBy", desc := "(II)I" } : Jvm.MethodName)) ∈ lw_all := lw_g (lw_at lw_m5 237 rfl) rfl
theorem q1239 : (Jvm.Cond.code ({ cls := "LookAtClockModel", name := "priceBy", desc := "(II)I" } : Jvm.MethodName) prog_21_method_9_code (3 : Nat) (Option.some Jvm.ClassFile.FieldType.int)) ∈ lw_all := lw_g (lw_at lw_m5 238 rfl) rfl
theorem q1241 : (Jvm.Cond.instanceMethod ({ cls := "LookAtClockModel", name := "law", desc := "(I)I" } : Jvm.MethodName)) ∈ lw_all := lw_g (lw_at lw_m6 0 rfl) rfl
theorem q1242 : (Jvm.Cond.selects "LookAtClockModel" ({ cls := "LookAtClockModel", name := "law", desc := "(I)I" } : Jvm.MethodName) ({ cls := "LookAtClockModel", name := "law", desc := "(I)I" } : Jvm.MethodName)) ∈ lw_all := lw_g (lw_at lw_m6 1 rfl) rfl
theorem q1243 : (Jvm.Cond.code ({ cls := "LookAtClockModel", name := "law", desc := "(I)I" } : Jvm.MethodName) prog_21_method_11_code (3 : Nat) (Option.some Jvm.ClassFile.FieldType.int)) ∈ lw_all := lw_g (lw_at lw_m6 2 rfl) rfl
theorem q1245 : (Jvm.Cond.instanceMethod ({ cls := "LookAtClockModel", name := "work", desc := "(II)I" } : Jvm.MethodName)) ∈ lw_all := lw_g (lw_at lw_m6 4 rfl) rfl
theorem q1246 : (Jvm.Cond.selects "LookAtClockModel" ({ cls := "LookAtClockModel", name := "work", desc := "(II)I" } : Jvm.MethodName) ({ cls := "LookAtClockModel", name := "work", desc := "(II)I" } : Jvm.MethodName)) ∈ lw_all := lw_g (lw_at lw_m6 5 rfl) rfl
theorem q1247 : (Jvm.Cond.code ({ cls := "LookAtClockModel", name := "work", desc := "(II)I" } : Jvm.MethodName) prog_21_method_12_code (3 : Nat) (Option.some Jvm.ClassFile.FieldType.int)) ∈ lw_all := lw_g (lw_at lw_m6 6 rfl) rfl
theorem q1248 : (Jvm.Cond.methodLink "LookAtClockModel" (120 : Nat) ({ cls := "LookAtClockModel", name := "isWork", desc := "(I)Z" } : Jvm.MethodName)) ∈ lw_all := lw_g (lw_at lw_m6 7 rfl) rfl
theorem q1249 : (Jvm.Cond.privateMethod ({ cls := "LookAtClockModel", name := "isWork", desc := "(I)Z" } : Jvm.MethodName)) ∈ lw_tbl := lw_at lw_m6 8 rfl
theorem q1250 : (Jvm.Cond.instanceMethod ({ cls := "LookAtClockModel", name := "isWork", desc := "(I)Z" } : Jvm.MethodName)) ∈ lw_all := lw_g (lw_at lw_m6 9 rfl) rfl
theorem q1251 : (Jvm.Cond.code ({ cls := "LookAtClockModel", name := "isWork", desc := "(I)Z" } : Jvm.MethodName) prog_21_method_7_code (2 : Nat) (Option.some Jvm.ClassFile.FieldType.boolean)) ∈ lw_all := lw_g (lw_at lw_m6 10 rfl) rfl
theorem q1253 : (Jvm.Cond.instanceMethod ({ cls := "LookAtClockModel", name := "looker", desc := "(II)I" } : Jvm.MethodName)) ∈ lw_all := lw_g (lw_at lw_m6 12 rfl) rfl
theorem q1254 : (Jvm.Cond.selects "LookAtClockModel" ({ cls := "LookAtClockModel", name := "looker", desc := "(II)I" } : Jvm.MethodName) ({ cls := "LookAtClockModel", name := "looker", desc := "(II)I" } : Jvm.MethodName)) ∈ lw_all := lw_g (lw_at lw_m6 13 rfl) rfl
theorem q1255 : (Jvm.Cond.code ({ cls := "LookAtClockModel", name := "looker", desc := "(II)I" } : Jvm.MethodName) prog_21_method_14_code (3 : Nat) (Option.some Jvm.ClassFile.FieldType.int)) ∈ lw_all := lw_g (lw_at lw_m6 14 rfl) rfl
theorem q1256 : (Jvm.Cond.methodLink "LookAtClockModel" (123 : Nat) ({ cls := "LookAtClockModel", name := "isLooker", desc := "(I)Z" } : Jvm.MethodName)) ∈ lw_all := lw_g (lw_at lw_m6 15 rfl) rfl
theorem q1257 : (Jvm.Cond.privateMethod ({ cls := "LookAtClockModel", name := "isLooker", desc := "(I)Z" } : Jvm.MethodName)) ∈ lw_tbl := lw_at lw_m6 16 rfl
theorem q1258 : (Jvm.Cond.instanceMethod ({ cls := "LookAtClockModel", name := "isLooker", desc := "(I)Z" } : Jvm.MethodName)) ∈ lw_all := lw_g (lw_at lw_m6 17 rfl) rfl
theorem q1259 : (Jvm.Cond.code ({ cls := "LookAtClockModel", name := "isLooker", desc := "(I)Z" } : Jvm.MethodName) prog_21_method_8_code (2 : Nat) (Option.some Jvm.ClassFile.FieldType.boolean)) ∈ lw_all := lw_g (lw_at lw_m6 18 rfl) rfl
theorem q1260 : (Jvm.Cond.methodLink "LookAtClockModel" (126 : Nat) ({ cls := "LookAtClockModel", name := "early", desc := "(II)I" } : Jvm.MethodName)) ∈ lw_all := lw_g (lw_at lw_m6 19 rfl) rfl
theorem q1261 : (Jvm.Cond.static ({ cls := "LookAtClockModel", name := "early", desc := "(II)I" } : Jvm.MethodName)) ∈ lw_all := lw_g (lw_at lw_m6 20 rfl) rfl
theorem q1262 : (Jvm.Cond.code ({ cls := "LookAtClockModel", name := "early", desc := "(II)I" } : Jvm.MethodName) prog_21_method_13_code (2 : Nat) (Option.some Jvm.ClassFile.FieldType.int)) ∈ lw_all := lw_g (lw_at lw_m6 21 rfl) rfl
theorem q1264 : (Jvm.Cond.instanceMethod ({ cls := "LookAtClockModel", name := "drift", desc := "(I)I" } : Jvm.MethodName)) ∈ lw_all := lw_g (lw_at lw_m6 23 rfl) rfl
theorem q1265 : (Jvm.Cond.selects "LookAtClockModel" ({ cls := "LookAtClockModel", name := "drift", desc := "(I)I" } : Jvm.MethodName) ({ cls := "LookAtClockModel", name := "drift", desc := "(I)I" } : Jvm.MethodName)) ∈ lw_all := lw_g (lw_at lw_m6 24 rfl) rfl
theorem q1266 : (Jvm.Cond.code ({ cls := "LookAtClockModel", name := "drift", desc := "(I)I" } : Jvm.MethodName) prog_21_method_15_code (2 : Nat) (Option.some Jvm.ClassFile.FieldType.int)) ∈ lw_all := lw_g (lw_at lw_m6 25 rfl) rfl
theorem q1267 : (Jvm.Cond.constant "LookAtClockModel" (129 : Nat) (-1000000001 : Int32)) ∈ lw_all := lw_g (lw_at lw_m6 26 rfl) rfl
theorem q1269 : (Jvm.Cond.instanceMethod ({ cls := "LookAtClockModel", name := "thinks", desc := "(III)I" } : Jvm.MethodName)) ∈ lw_all := lw_g (lw_at lw_m6 28 rfl) rfl
theorem q1270 : (Jvm.Cond.selects "LookAtClockModel" ({ cls := "LookAtClockModel", name := "thinks", desc := "(III)I" } : Jvm.MethodName) ({ cls := "LookAtClockModel", name := "thinks", desc := "(III)I" } : Jvm.MethodName)) ∈ lw_all := lw_g (lw_at lw_m6 29 rfl) rfl
theorem q1271 : (Jvm.Cond.code ({ cls := "LookAtClockModel", name := "thinks", desc := "(III)I" } : Jvm.MethodName) prog_21_method_17_code (4 : Nat) (Option.some Jvm.ClassFile.FieldType.int)) ∈ lw_all := lw_g (lw_at lw_m6 30 rfl) rfl
theorem q1272 : (Jvm.Cond.methodLink "LookAtClockModel" (130 : Nat) ({ cls := "LookAtClockModel", name := "thought", desc := "(III)I" } : Jvm.MethodName)) ∈ lw_all := lw_g (lw_at lw_m6 31 rfl) rfl
theorem q1273 : (Jvm.Cond.static ({ cls := "LookAtClockModel", name := "thought", desc := "(III)I" } : Jvm.MethodName)) ∈ lw_all := lw_g (lw_at lw_m6 32 rfl) rfl
theorem q1274 : (Jvm.Cond.code ({ cls := "LookAtClockModel", name := "thought", desc := "(III)I" } : Jvm.MethodName) prog_21_method_16_code (3 : Nat) (Option.some Jvm.ClassFile.FieldType.int)) ∈ lw_all := lw_g (lw_at lw_m6 33 rfl) rfl
theorem q1276 : (Jvm.Cond.instanceMethod ({ cls := "LookAtClockModel", name := "day", desc := "(II)I" } : Jvm.MethodName)) ∈ lw_all := lw_g (lw_at lw_m6 35 rfl) rfl
theorem q1277 : (Jvm.Cond.selects "LookAtClockModel" ({ cls := "LookAtClockModel", name := "day", desc := "(II)I" } : Jvm.MethodName) ({ cls := "LookAtClockModel", name := "day", desc := "(II)I" } : Jvm.MethodName)) ∈ lw_all := lw_g (lw_at lw_m6 36 rfl) rfl
theorem q1278 : (Jvm.Cond.code ({ cls := "LookAtClockModel", name := "day", desc := "(II)I" } : Jvm.MethodName) prog_21_method_24_code (4 : Nat) (Option.some Jvm.ClassFile.FieldType.int)) ∈ lw_all := lw_g (lw_at lw_m6 37 rfl) rfl
theorem q1279 : (Jvm.Cond.methodLink "LookAtClockModel" (174 : Nat) ({ cls := "LookAtClockModel", name := "dayOf", desc := "(I)I" } : Jvm.MethodName)) ∈ lw_all := lw_g (lw_at lw_m6 38 rfl) rfl
theorem q1280 : (Jvm.Cond.privateMethod ({ cls := "LookAtClockModel", name := "dayOf", desc := "(I)I" } : Jvm.MethodName)) ∈ lw_tbl := lw_at lw_m6 39 rfl
theorem q1281 : (Jvm.Cond.instanceMethod ({ cls := "LookAtClockModel", name := "dayOf", desc := "(I)I" } : Jvm.MethodName)) ∈ lw_all := lw_g (lw_at lw_m6 40 rfl) rfl
theorem q1282 : (Jvm.Cond.code ({ cls := "LookAtClockModel", name := "dayOf", desc := "(I)I" } : Jvm.MethodName) prog_21_method_23_code (2 : Nat) (Option.some Jvm.ClassFile.FieldType.int)) ∈ lw_all := lw_g (lw_at lw_m6 41 rfl) rfl
theorem q1283 : (Jvm.Cond.methodLink "LookAtClockModel" (170 : Nat) ({ cls := "LookAtClockModel", name := "dayOf", desc := "(IIIII)I" } : Jvm.MethodName)) ∈ lw_all := lw_g (lw_at lw_m6 42 rfl) rfl
theorem q1284 : (Jvm.Cond.privateMethod ({ cls := "LookAtClockModel", name := "dayOf", desc := "(IIIII)I" } : Jvm.MethodName)) ∈ lw_tbl := lw_at lw_m6 43 rfl
theorem q1285 : (Jvm.Cond.instanceMethod ({ cls := "LookAtClockModel", name := "dayOf", desc := "(IIIII)I" } : Jvm.MethodName)) ∈ lw_all := lw_g (lw_at lw_m6 44 rfl) rfl
theorem q1286 : (Jvm.Cond.code ({ cls := "LookAtClockModel", name := "dayOf", desc := "(IIIII)I" } : Jvm.MethodName) prog_21_method_21_code (16 : Nat) (Option.some Jvm.ClassFile.FieldType.int)) ∈ lw_all := lw_g (lw_at lw_m6 45 rfl) rfl
theorem q1287 : (Jvm.Cond.methodLink "LookAtClockModel" (139 : Nat) ({ cls := "LookAtClockModel", name := "bestOf", desc := "(III)I" } : Jvm.MethodName)) ∈ lw_all := lw_g (lw_at lw_m6 46 rfl) rfl
theorem q1288 : (Jvm.Cond.privateMethod ({ cls := "LookAtClockModel", name := "bestOf", desc := "(III)I" } : Jvm.MethodName)) ∈ lw_tbl := lw_at lw_m6 47 rfl
theorem q1289 : (Jvm.Cond.instanceMethod ({ cls := "LookAtClockModel", name := "bestOf", desc := "(III)I" } : Jvm.MethodName)) ∈ lw_all := lw_g (lw_at lw_m6 48 rfl) rfl
theorem q1290 : (Jvm.Cond.code ({ cls := "LookAtClockModel", name := "bestOf", desc := "(III)I" } : Jvm.MethodName) prog_21_method_22_code (8 : Nat) (Option.some Jvm.ClassFile.FieldType.int)) ∈ lw_all := lw_g (lw_at lw_m6 49 rfl) rfl
theorem q1291 : (Jvm.Cond.methodLink "LookAtClockModel" (158 : Nat) ({ cls := "LookAtClockModel", name := "isPlanned", desc := "(I)Z" } : Jvm.MethodName)) ∈ lw_all := lw_g (lw_at lw_m6 50 rfl) rfl
theorem q1292 : (Jvm.Cond.privateMethod ({ cls := "LookAtClockModel", name := "isPlanned", desc := "(I)Z" } : Jvm.MethodName)) ∈ lw_tbl := lw_at lw_m6 51 rfl
theorem q1293 : (Jvm.Cond.instanceMethod ({ cls := "LookAtClockModel", name := "isPlanned", desc := "(I)Z" } : Jvm.MethodName)) ∈ lw_all := lw_g (lw_at lw_m6 52 rfl) rfl
theorem q1294 : (Jvm.Cond.code ({ cls := "LookAtClockModel", name := "isPlanned", desc := "(I)Z" } : Jvm.MethodName) prog_21_method_18_code (4 : Nat) (Option.some Jvm.ClassFile.FieldType.boolean)) ∈ lw_all := lw_g (lw_at lw_m6 53 rfl) rfl
theorem q1295 : (Jvm.Cond.methodLink "LookAtClockModel" (161 : Nat) ({ cls := "LookAtClockModel", name := "isClock", desc := "(I)Z" } : Jvm.MethodName)) ∈ lw_all := lw_g (lw_at lw_m6 54 rfl) rfl
theorem q1296 : (Jvm.Cond.static ({ cls := "LookAtClockModel", name := "isClock", desc := "(I)Z" } : Jvm.MethodName)) ∈ lw_all := lw_g (lw_at lw_m6 55 rfl) rfl
theorem q1297 : (Jvm.Cond.code ({ cls := "LookAtClockModel", name := "isClock", desc := "(I)Z" } : Jvm.MethodName) prog_21_method_19_code (1 : Nat) (Option.some Jvm.ClassFile.FieldType.boolean)) ∈ lw_all := lw_g (lw_at lw_m6 56 rfl) rfl
theorem q1298 : (Jvm.Cond.methodLink "LookAtClockModel" (164 : Nat) ({ cls := "LookAtClockModel", name := "pays", desc := "(II)I" } : Jvm.MethodName)) ∈ lw_all := lw_g (lw_at lw_m6 57 rfl) rfl
theorem q1299 : (Jvm.Cond.static ({ cls := "LookAtClockModel", name := "pays", desc := "(II)I" } : Jvm.MethodName)) ∈ lw_all := lw_g (lw_at lw_m6 58 rfl) rfl
theorem q1300 : (Jvm.Cond.code ({ cls := "LookAtClockModel", name := "pays", desc := "(II)I" } : Jvm.MethodName) prog_21_method_20_code (2 : Nat) (Option.some Jvm.ClassFile.FieldType.int)) ∈ lw_all := lw_g (lw_at lw_m6 59 rfl) rfl
theorem q1301 : (Jvm.Cond.methodLink "LookAtClockModel" (134 : Nat) ({ cls := "java/lang/Math", name := "max", desc := "(II)I" } : Jvm.MethodName)) ∈ lw_all := lw_g (lw_at lw_m6 60 rfl) rfl
theorem q1302 : (Jvm.Cond.methodLink "LookAtClockModel" (167 : Nat) ({ cls := "java/lang/Math", name := "min", desc := "(II)I" } : Jvm.MethodName)) ∈ lw_all := lw_g (lw_at lw_m6 61 rfl) rfl
theorem q1304 : (Jvm.Cond.instanceMethod ({ cls := "LookAtClockModel", name := "look", desc := "(II)I" } : Jvm.MethodName)) ∈ lw_all := lw_g (lw_at lw_m6 63 rfl) rfl
theorem q1305 : (Jvm.Cond.selects "LookAtClockModel" ({ cls := "LookAtClockModel", name := "look", desc := "(II)I" } : Jvm.MethodName) ({ cls := "LookAtClockModel", name := "look", desc := "(II)I" } : Jvm.MethodName)) ∈ lw_all := lw_g (lw_at lw_m6 64 rfl) rfl
theorem q1306 : (Jvm.Cond.code ({ cls := "LookAtClockModel", name := "look", desc := "(II)I" } : Jvm.MethodName) prog_21_method_25_code (3 : Nat) (Option.some Jvm.ClassFile.FieldType.int)) ∈ lw_all := lw_g (lw_at lw_m6 65 rfl) rfl
theorem q1308 : (Jvm.Cond.instanceMethod ({ cls := "LookAtClockModel", name := "comes", desc := "(II)I" } : Jvm.MethodName)) ∈ lw_all := lw_g (lw_at lw_m6 67 rfl) rfl
theorem q1309 : (Jvm.Cond.selects "LookAtClockModel" ({ cls := "LookAtClockModel", name := "comes", desc := "(II)I" } : Jvm.MethodName) ({ cls := "LookAtClockModel", name := "comes", desc := "(II)I" } : Jvm.MethodName)) ∈ lw_all := lw_g (lw_at lw_m6 68 rfl) rfl
theorem q1310 : (Jvm.Cond.code ({ cls := "LookAtClockModel", name := "comes", desc := "(II)I" } : Jvm.MethodName) prog_21_method_26_code (3 : Nat) (Option.some Jvm.ClassFile.FieldType.int)) ∈ lw_all := lw_g (lw_at lw_m6 69 rfl) rfl
theorem q1312 : (Jvm.Cond.instanceMethod ({ cls := "LookAtClockModel", name := "bestFigure", desc := "(I)I" } : Jvm.MethodName)) ∈ lw_all := lw_g (lw_at lw_m6 71 rfl) rfl
theorem q1313 : (Jvm.Cond.selects "LookAtClockModel" ({ cls := "LookAtClockModel", name := "bestFigure", desc := "(I)I" } : Jvm.MethodName) ({ cls := "LookAtClockModel", name := "bestFigure", desc := "(I)I" } : Jvm.MethodName)) ∈ lw_all := lw_g (lw_at lw_m6 72 rfl) rfl
theorem q1314 : (Jvm.Cond.code ({ cls := "LookAtClockModel", name := "bestFigure", desc := "(I)I" } : Jvm.MethodName) prog_21_method_27_code (2 : Nat) (Option.some Jvm.ClassFile.FieldType.int)) ∈ lw_all := lw_g (lw_at lw_m6 73 rfl) rfl
theorem q1316 : (Jvm.Cond.instanceMethod ({ cls := "LookAtClockModel", name := "always", desc := "(I)I" } : Jvm.MethodName)) ∈ lw_all := lw_g (lw_at lw_m6 75 rfl) rfl
theorem q1317 : (Jvm.Cond.selects "LookAtClockModel" ({ cls := "LookAtClockModel", name := "always", desc := "(I)I" } : Jvm.MethodName) ({ cls := "LookAtClockModel", name := "always", desc := "(I)I" } : Jvm.MethodName)) ∈ lw_all := lw_g (lw_at lw_m6 76 rfl) rfl
theorem q1318 : (Jvm.Cond.code ({ cls := "LookAtClockModel", name := "always", desc := "(I)I" } : Jvm.MethodName) prog_21_method_28_code (3 : Nat) (Option.some Jvm.ClassFile.FieldType.int)) ∈ lw_all := lw_g (lw_at lw_m6 77 rfl) rfl
theorem q1320 : (Jvm.Cond.instanceMethod ({ cls := "LookAtClockModel", name := "pays", desc := "(I)I" } : Jvm.MethodName)) ∈ lw_all := lw_g (lw_at lw_m6 79 rfl) rfl
theorem q1321 : (Jvm.Cond.selects "LookAtClockModel" ({ cls := "LookAtClockModel", name := "pays", desc := "(I)I" } : Jvm.MethodName) ({ cls := "LookAtClockModel", name := "pays", desc := "(I)I" } : Jvm.MethodName)) ∈ lw_all := lw_g (lw_at lw_m6 80 rfl) rfl
theorem q1322 : (Jvm.Cond.code ({ cls := "LookAtClockModel", name := "pays", desc := "(I)I" } : Jvm.MethodName) prog_21_method_29_code (2 : Nat) (Option.some Jvm.ClassFile.FieldType.int)) ∈ lw_all := lw_g (lw_at lw_m6 81 rfl) rfl
theorem q1324 : (Jvm.Cond.instanceMethod ({ cls := "LookAtClockModel", name := "bestKind", desc := "(I)I" } : Jvm.MethodName)) ∈ lw_all := lw_g (lw_at lw_m6 83 rfl) rfl
theorem q1325 : (Jvm.Cond.selects "LookAtClockModel" ({ cls := "LookAtClockModel", name := "bestKind", desc := "(I)I" } : Jvm.MethodName) ({ cls := "LookAtClockModel", name := "bestKind", desc := "(I)I" } : Jvm.MethodName)) ∈ lw_all := lw_g (lw_at lw_m6 84 rfl) rfl
theorem q1326 : (Jvm.Cond.code ({ cls := "LookAtClockModel", name := "bestKind", desc := "(I)I" } : Jvm.MethodName) prog_21_method_30_code (6 : Nat) (Option.some Jvm.ClassFile.FieldType.int)) ∈ lw_all := lw_g (lw_at lw_m6 85 rfl) rfl
theorem q1328 : (Jvm.Cond.instanceMethod ({ cls := "LookAtClockModel", name := "edge", desc := "(II)I" } : Jvm.MethodName)) ∈ lw_all := lw_g (lw_at lw_m6 87 rfl) rfl
theorem q1329 : (Jvm.Cond.selects "LookAtClockModel" ({ cls := "LookAtClockModel", name := "edge", desc := "(II)I" } : Jvm.MethodName) ({ cls := "LookAtClockModel", name := "edge", desc := "(II)I" } : Jvm.MethodName)) ∈ lw_all := lw_g (lw_at lw_m6 88 rfl) rfl
theorem q1330 : (Jvm.Cond.code ({ cls := "LookAtClockModel", name := "edge", desc := "(II)I" } : Jvm.MethodName) prog_21_method_31_code (4 : Nat) (Option.some Jvm.ClassFile.FieldType.int)) ∈ lw_all := lw_g (lw_at lw_m6 89 rfl) rfl
theorem q1332 : (Jvm.Cond.instanceMethod ({ cls := "LookAtClockModel", name := "waits", desc := "(II)I" } : Jvm.MethodName)) ∈ lw_all := lw_g (lw_at lw_m6 91 rfl) rfl
theorem q1333 : (Jvm.Cond.selects "LookAtClockModel" ({ cls := "LookAtClockModel", name := "waits", desc := "(II)I" } : Jvm.MethodName) ({ cls := "LookAtClockModel", name := "waits", desc := "(II)I" } : Jvm.MethodName)) ∈ lw_all := lw_g (lw_at lw_m6 92 rfl) rfl
theorem q1334 : (Jvm.Cond.code ({ cls := "LookAtClockModel", name := "waits", desc := "(II)I" } : Jvm.MethodName) prog_21_method_32_code (4 : Nat) (Option.some Jvm.ClassFile.FieldType.int)) ∈ lw_all := lw_g (lw_at lw_m6 93 rfl) rfl
theorem q1336 : (Jvm.Cond.instanceMethod ({ cls := "LookAtClockModel", name := "learn", desc := "(II)I" } : Jvm.MethodName)) ∈ lw_all := lw_g (lw_at lw_m6 95 rfl) rfl
theorem q1337 : (Jvm.Cond.selects "LookAtClockModel" ({ cls := "LookAtClockModel", name := "learn", desc := "(II)I" } : Jvm.MethodName) ({ cls := "LookAtClockModel", name := "learn", desc := "(II)I" } : Jvm.MethodName)) ∈ lw_all := lw_g (lw_at lw_m6 96 rfl) rfl
theorem q1338 : (Jvm.Cond.code ({ cls := "LookAtClockModel", name := "learn", desc := "(II)I" } : Jvm.MethodName) prog_21_method_33_code (11 : Nat) (Option.some Jvm.ClassFile.FieldType.int)) ∈ lw_all := lw_g (lw_at lw_m6 97 rfl) rfl
theorem q1340 : (Jvm.Cond.instanceMethod ({ cls := "LookAtClockModel", name := "shared", desc := "(II)I" } : Jvm.MethodName)) ∈ lw_all := lw_g (lw_at lw_m6 99 rfl) rfl
theorem q1341 : (Jvm.Cond.selects "LookAtClockModel" ({ cls := "LookAtClockModel", name := "shared", desc := "(II)I" } : Jvm.MethodName) ({ cls := "LookAtClockModel", name := "shared", desc := "(II)I" } : Jvm.MethodName)) ∈ lw_all := lw_g (lw_at lw_m6 100 rfl) rfl
theorem q1342 : (Jvm.Cond.code ({ cls := "LookAtClockModel", name := "shared", desc := "(II)I" } : Jvm.MethodName) prog_21_method_35_code (3 : Nat) (Option.some Jvm.ClassFile.FieldType.int)) ∈ lw_all := lw_g (lw_at lw_m6 101 rfl) rfl
theorem q1343 : (Jvm.Cond.methodLink "LookAtClockModel" (177 : Nat) ({ cls := "LookAtClockModel", name := "shareOf", desc := "(II)I" } : Jvm.MethodName)) ∈ lw_all := lw_g (lw_at lw_m6 102 rfl) rfl
theorem q1344 : (Jvm.Cond.static ({ cls := "LookAtClockModel", name := "shareOf", desc := "(II)I" } : Jvm.MethodName)) ∈ lw_all := lw_g (lw_at lw_m6 103 rfl) rfl
theorem q1345 : (Jvm.Cond.code ({ cls := "LookAtClockModel", name := "shareOf", desc := "(II)I" } : Jvm.MethodName) prog_21_method_34_code (2 : Nat) (Option.some Jvm.ClassFile.FieldType.int)) ∈ lw_all := lw_g (lw_at lw_m6 104 rfl) rfl
theorem q1347 : (Jvm.Cond.instanceMethod ({ cls := "LookAtClockModel", name := "nine", desc := "(II)I" } : Jvm.MethodName)) ∈ lw_all := lw_g (lw_at lw_m6 106 rfl) rfl
theorem q1348 : (Jvm.Cond.selects "LookAtClockModel" ({ cls := "LookAtClockModel", name := "nine", desc := "(II)I" } : Jvm.MethodName) ({ cls := "LookAtClockModel", name := "nine", desc := "(II)I" } : Jvm.MethodName)) ∈ lw_all := lw_g (lw_at lw_m6 107 rfl) rfl
theorem q1349 : (Jvm.Cond.code ({ cls := "LookAtClockModel", name := "nine", desc := "(II)I" } : Jvm.MethodName) prog_21_method_36_code (4 : Nat) (Option.some Jvm.ClassFile.FieldType.int)) ∈ lw_all := lw_g (lw_at lw_m6 108 rfl) rfl
theorem q1351 : (Jvm.Cond.instanceMethod ({ cls := "LookAtClockModel", name := "buys", desc := "(IIII)I" } : Jvm.MethodName)) ∈ lw_all := lw_g (lw_at lw_m6 110 rfl) rfl
theorem q1352 : (Jvm.Cond.selects "LookAtClockModel" ({ cls := "LookAtClockModel", name := "buys", desc := "(IIII)I" } : Jvm.MethodName) ({ cls := "LookAtClockModel", name := "buys", desc := "(IIII)I" } : Jvm.MethodName)) ∈ lw_all := lw_g (lw_at lw_m6 111 rfl) rfl
theorem q1353 : (Jvm.Cond.code ({ cls := "LookAtClockModel", name := "buys", desc := "(IIII)I" } : Jvm.MethodName) prog_21_method_38_code (5 : Nat) (Option.some Jvm.ClassFile.FieldType.int)) ∈ lw_all := lw_g (lw_at lw_m6 112 rfl) rfl
theorem q1354 : (Jvm.Cond.methodLink "LookAtClockModel" (180 : Nat) ({ cls := "LookAtClockModel", name := "isSold", desc := "(IIII)Z" } : Jvm.MethodName)) ∈ lw_all := lw_g (lw_at lw_m6 113 rfl) rfl
theorem q1355 : (Jvm.Cond.privateMethod ({ cls := "LookAtClockModel", name := "isSold", desc := "(IIII)Z" } : Jvm.MethodName)) ∈ lw_tbl := lw_at lw_m6 114 rfl
theorem q1356 : (Jvm.Cond.instanceMethod ({ cls := "LookAtClockModel", name := "isSold", desc := "(IIII)Z" } : Jvm.MethodName)) ∈ lw_all := lw_g (lw_at lw_m6 115 rfl) rfl
theorem q1357 : (Jvm.Cond.code ({ cls := "LookAtClockModel", name := "isSold", desc := "(IIII)Z" } : Jvm.MethodName) prog_21_method_37_code (5 : Nat) (Option.some Jvm.ClassFile.FieldType.boolean)) ∈ lw_all := lw_g (lw_at lw_m6 116 rfl) rfl
theorem q1359 : (Jvm.Cond.instanceMethod ({ cls := "LookAtClockModel", name := "rest", desc := "(III)I" } : Jvm.MethodName)) ∈ lw_all := lw_g (lw_at lw_m6 118 rfl) rfl
theorem q1360 : (Jvm.Cond.selects "LookAtClockModel" ({ cls := "LookAtClockModel", name := "rest", desc := "(III)I" } : Jvm.MethodName) ({ cls := "LookAtClockModel", name := "rest", desc := "(III)I" } : Jvm.MethodName)) ∈ lw_all := lw_g (lw_at lw_m6 119 rfl) rfl
theorem q1361 : (Jvm.Cond.code ({ cls := "LookAtClockModel", name := "rest", desc := "(III)I" } : Jvm.MethodName) prog_21_method_39_code (6 : Nat) (Option.some Jvm.ClassFile.FieldType.int)) ∈ lw_all := lw_g (lw_at lw_m6 120 rfl) rfl
theorem q1363 : (Jvm.Cond.instanceMethod ({ cls := "LookAtClockModel", name := "cheaper", desc := "(I)I" } : Jvm.MethodName)) ∈ lw_all := lw_g (lw_at lw_m6 122 rfl) rfl
theorem q1364 : (Jvm.Cond.selects "LookAtClockModel" ({ cls := "LookAtClockModel", name := "cheaper", desc := "(I)I" } : Jvm.MethodName) ({ cls := "LookAtClockModel", name := "cheaper", desc := "(I)I" } : Jvm.MethodName)) ∈ lw_all := lw_g (lw_at lw_m6 123 rfl) rfl
theorem q1365 : (Jvm.Cond.code ({ cls := "LookAtClockModel", name := "cheaper", desc := "(I)I" } : Jvm.MethodName) prog_21_method_41_code (2 : Nat) (Option.some Jvm.ClassFile.FieldType.int)) ∈ lw_all := lw_g (lw_at lw_m6 124 rfl) rfl
theorem q1366 : (Jvm.Cond.methodLink "LookAtClockModel" (184 : Nat) ({ cls := "LookAtClockModel", name := "otherPrice", desc := "(I)I" } : Jvm.MethodName)) ∈ lw_all := lw_g (lw_at lw_m6 125 rfl) rfl
theorem q1367 : (Jvm.Cond.privateMethod ({ cls := "LookAtClockModel", name := "otherPrice", desc := "(I)I" } : Jvm.MethodName)) ∈ lw_tbl := lw_at lw_m6 126 rfl
theorem q1368 : (Jvm.Cond.instanceMethod ({ cls := "LookAtClockModel", name := "otherPrice", desc := "(I)I" } : Jvm.MethodName)) ∈ lw_all := lw_g (lw_at lw_m6 127 rfl) rfl
theorem q1369 : (Jvm.Cond.code ({ cls := "LookAtClockModel", name := "otherPrice", desc := "(I)I" } : Jvm.MethodName) prog_21_method_40_code (2 : Nat) (Option.some Jvm.ClassFile.FieldType.int)) ∈ lw_all := lw_g (lw_at lw_m6 128 rfl) rfl
theorem q1371 : (Jvm.Cond.instanceMethod ({ cls := "LookAtClockModel", name := "otherCheaper", desc := "()I" } : Jvm.MethodName)) ∈ lw_all := lw_g (lw_at lw_m6 130 rfl) rfl
theorem q1372 : (Jvm.Cond.selects "LookAtClockModel" ({ cls := "LookAtClockModel", name := "otherCheaper", desc := "()I" } : Jvm.MethodName) ({ cls := "LookAtClockModel", name := "otherCheaper", desc := "()I" } : Jvm.MethodName)) ∈ lw_all := lw_g (lw_at lw_m6 131 rfl) rfl
theorem q1373 : (Jvm.Cond.code ({ cls := "LookAtClockModel", name := "otherCheaper", desc := "()I" } : Jvm.MethodName) prog_21_method_42_code (3 : Nat) (Option.some Jvm.ClassFile.FieldType.int)) ∈ lw_all := lw_g (lw_at lw_m6 132 rfl) rfl
theorem q1375 : (Jvm.Cond.instanceMethod ({ cls := "LookAtClockModel", name := "byLaw", desc := "(II)I" } : Jvm.MethodName)) ∈ lw_all := lw_g (lw_at lw_m6 134 rfl) rfl
theorem q1376 : (Jvm.Cond.selects "LookAtClockModel" ({ cls := "LookAtClockModel", name := "byLaw", desc := "(II)I" } : Jvm.MethodName) ({ cls := "LookAtClockModel", name := "byLaw", desc := "(II)I" } : Jvm.MethodName)) ∈ lw_all := lw_g (lw_at lw_m6 135 rfl) rfl
theorem q1377 : (Jvm.Cond.code ({ cls := "LookAtClockModel", name := "byLaw", desc := "(II)I" } : Jvm.MethodName) prog_21_method_43_code (3 : Nat) (Option.some Jvm.ClassFile.FieldType.int)) ∈ lw_all := lw_g (lw_at lw_m6 136 rfl) rfl
theorem q1379 : (Jvm.Cond.instanceMethod ({ cls := "LookAtClockModel", name := "sum", desc := "()I" } : Jvm.MethodName)) ∈ lw_all := lw_g (lw_at lw_m6 138 rfl) rfl
theorem q1380 : (Jvm.Cond.selects "LookAtClockModel" ({ cls := "LookAtClockModel", name := "sum", desc := "()I" } : Jvm.MethodName) ({ cls := "LookAtClockModel", name := "sum", desc := "()I" } : Jvm.MethodName)) ∈ lw_all := lw_g (lw_at lw_m6 139 rfl) rfl
theorem q1381 : (Jvm.Cond.code ({ cls := "LookAtClockModel", name := "sum", desc := "()I" } : Jvm.MethodName) prog_21_method_44_code (3 : Nat) (Option.some Jvm.ClassFile.FieldType.int)) ∈ lw_all := lw_g (lw_at lw_m6 140 rfl) rfl
theorem q1383 : (Jvm.Cond.instanceMethod ({ cls := "LookAtClockModel", name := "order", desc := "()I" } : Jvm.MethodName)) ∈ lw_all := lw_g (lw_at lw_m6 142 rfl) rfl
theorem q1384 : (Jvm.Cond.selects "LookAtClockModel" ({ cls := "LookAtClockModel", name := "order", desc := "()I" } : Jvm.MethodName) ({ cls := "LookAtClockModel", name := "order", desc := "()I" } : Jvm.MethodName)) ∈ lw_all := lw_g (lw_at lw_m6 143 rfl) rfl
theorem q1385 : (Jvm.Cond.code ({ cls := "LookAtClockModel", name := "order", desc := "()I" } : Jvm.MethodName) prog_21_method_45_code (7 : Nat) (Option.some Jvm.ClassFile.FieldType.int)) ∈ lw_all := lw_g (lw_at lw_m6 144 rfl) rfl
theorem q1387 : (Jvm.Cond.instanceMethod ({ cls := "LookAtClockModel", name := "seeded", desc := "(IIII)I" } : Jvm.MethodName)) ∈ lw_all := lw_g (lw_at lw_m6 146 rfl) rfl
theorem q1388 : (Jvm.Cond.selects "LookAtClockModel" ({ cls := "LookAtClockModel", name := "seeded", desc := "(IIII)I" } : Jvm.MethodName) ({ cls := "LookAtClockModel", name := "seeded", desc := "(IIII)I" } : Jvm.MethodName)) ∈ lw_all := lw_g (lw_at lw_m6 147 rfl) rfl
theorem q1389 : (Jvm.Cond.code ({ cls := "LookAtClockModel", name := "seeded", desc := "(IIII)I" } : Jvm.MethodName) prog_21_method_46_code (12 : Nat) (Option.some Jvm.ClassFile.FieldType.int)) ∈ lw_all := lw_g (lw_at lw_m6 148 rfl) rfl
theorem q1390 : (Jvm.Cond.constant "LookAtClockModel" (187 : Nat) (1103515245 : Int32)) ∈ lw_all := lw_g (lw_at lw_m6 149 rfl) rfl
theorem q1391 : (Jvm.Cond.constant "LookAtClockModel" (188 : Nat) (2147483647 : Int32)) ∈ lw_all := lw_g (lw_at lw_m6 150 rfl) rfl
theorem q1392 : (Jvm.Cond.constant "LookAtClockModel" (189 : Nat) (65536 : Int32)) ∈ lw_all := lw_g (lw_at lw_m6 151 rfl) rfl
theorem q1394 : (Jvm.Cond.instanceMethod ({ cls := "LookAtClockModel", name := "judge", desc := "(II)I" } : Jvm.MethodName)) ∈ lw_all := lw_g (lw_at lw_m6 153 rfl) rfl
theorem q1395 : (Jvm.Cond.selects "LookAtClockModel" ({ cls := "LookAtClockModel", name := "judge", desc := "(II)I" } : Jvm.MethodName) ({ cls := "LookAtClockModel", name := "judge", desc := "(II)I" } : Jvm.MethodName)) ∈ lw_all := lw_g (lw_at lw_m6 154 rfl) rfl
theorem q1396 : (Jvm.Cond.code ({ cls := "LookAtClockModel", name := "judge", desc := "(II)I" } : Jvm.MethodName) prog_21_method_47_code (6 : Nat) (Option.some Jvm.ClassFile.FieldType.int)) ∈ lw_all := lw_g (lw_at lw_m6 155 rfl) rfl
theorem q1397 : (Jvm.Cond.constant "LookAtClockModel" (190 : Nat) (-2147483648 : Int32)) ∈ lw_all := lw_g (lw_at lw_m6 156 rfl) rfl
theorem q1399 : (Jvm.Cond.instanceMethod ({ cls := "LookAtClockModel", name := "count", desc := "(I)I" } : Jvm.MethodName)) ∈ lw_all := lw_g (lw_at lw_m6 158 rfl) rfl
theorem q1400 : (Jvm.Cond.selects "LookAtClockModel" ({ cls := "LookAtClockModel", name := "count", desc := "(I)I" } : Jvm.MethodName) ({ cls := "LookAtClockModel", name := "count", desc := "(I)I" } : Jvm.MethodName)) ∈ lw_all := lw_g (lw_at lw_m6 159 rfl) rfl
theorem q1401 : (Jvm.Cond.code ({ cls := "LookAtClockModel", name := "count", desc := "(I)I" } : Jvm.MethodName) prog_21_method_48_code (4 : Nat) (Option.some Jvm.ClassFile.FieldType.int)) ∈ lw_all := lw_g (lw_at lw_m6 160 rfl) rfl
theorem q1403 : (Jvm.Cond.instanceMethod ({ cls := "LookAtClockModel", name := "town", desc := "(I)I" } : Jvm.MethodName)) ∈ lw_all := lw_g (lw_at lw_m6 162 rfl) rfl
theorem q1404 : (Jvm.Cond.selects "LookAtClockModel" ({ cls := "LookAtClockModel", name := "town", desc := "(I)I" } : Jvm.MethodName) ({ cls := "LookAtClockModel", name := "town", desc := "(I)I" } : Jvm.MethodName)) ∈ lw_all := lw_g (lw_at lw_m6 163 rfl) rfl
theorem q1405 : (Jvm.Cond.code ({ cls := "LookAtClockModel", name := "town", desc := "(I)I" } : Jvm.MethodName) prog_21_method_57_code (2 : Nat) (Option.some Jvm.ClassFile.FieldType.int)) ∈ lw_all := lw_g (lw_at lw_m6 164 rfl) rfl
theorem q1406 : (Jvm.Cond.methodLink "LookAtClockModel" (228 : Nat) ({ cls := "LookAtClockModel", name := "read", desc := "()I" } : Jvm.MethodName)) ∈ lw_all := lw_g (lw_at lw_m6 165 rfl) rfl
theorem q1407 : (Jvm.Cond.privateMethod ({ cls := "LookAtClockModel", name := "read", desc := "()I" } : Jvm.MethodName)) ∈ lw_tbl := lw_at lw_m6 166 rfl
theorem q1408 : (Jvm.Cond.instanceMethod ({ cls := "LookAtClockModel", name := "read", desc := "()I" } : Jvm.MethodName)) ∈ lw_all := lw_g (lw_at lw_m6 167 rfl) rfl
theorem q1409 : (Jvm.Cond.code ({ cls := "LookAtClockModel", name := "read", desc := "()I" } : Jvm.MethodName) prog_21_method_56_code (9 : Nat) (Option.some Jvm.ClassFile.FieldType.int)) ∈ lw_all := lw_g (lw_at lw_m6 168 rfl) rfl
theorem q1410 : (Jvm.Cond.methodLink "LookAtClockModel" (217 : Nat) ({ cls := "LookAtClockModel", name := "statement", desc := "()I" } : Jvm.MethodName)) ∈ lw_all := lw_g (lw_at lw_m6 169 rfl) rfl
theorem q1411 : (Jvm.Cond.privateMethod ({ cls := "LookAtClockModel", name := "statement", desc := "()I" } : Jvm.MethodName)) ∈ lw_tbl := lw_at lw_m6 170 rfl
theorem q1412 : (Jvm.Cond.instanceMethod ({ cls := "LookAtClockModel", name := "statement", desc := "()I" } : Jvm.MethodName)) ∈ lw_all := lw_g (lw_at lw_m6 171 rfl) rfl
theorem q1413 : (Jvm.Cond.code ({ cls := "LookAtClockModel", name := "statement", desc := "()I" } : Jvm.MethodName) prog_21_method_53_code (4 : Nat) (Option.some Jvm.ClassFile.FieldType.int)) ∈ lw_all := lw_g (lw_at lw_m6 172 rfl) rfl
theorem q1414 : (Jvm.Cond.methodLink "LookAtClockModel" (210 : Nat) ({ cls := "LookAtClockModel", name := "figures", desc := "(I)I" } : Jvm.MethodName)) ∈ lw_all := lw_g (lw_at lw_m6 173 rfl) rfl
theorem q1415 : (Jvm.Cond.privateMethod ({ cls := "LookAtClockModel", name := "figures", desc := "(I)I" } : Jvm.MethodName)) ∈ lw_tbl := lw_at lw_m6 174 rfl
theorem q1416 : (Jvm.Cond.instanceMethod ({ cls := "LookAtClockModel", name := "figures", desc := "(I)I" } : Jvm.MethodName)) ∈ lw_all := lw_g (lw_at lw_m6 175 rfl) rfl
theorem q1417 : (Jvm.Cond.code ({ cls := "LookAtClockModel", name := "figures", desc := "(I)I" } : Jvm.MethodName) prog_21_method_52_code (4 : Nat) (Option.some Jvm.ClassFile.FieldType.int)) ∈ lw_all := lw_g (lw_at lw_m6 176 rfl) rfl
theorem q1418 : (Jvm.Cond.methodLink "LookAtClockModel" (206 : Nat) ({ cls := "LookAtClockModel", name := "isDigit", desc := "()Z" } : Jvm.MethodName)) ∈ lw_all := lw_g (lw_at lw_m6 177 rfl) rfl
theorem q1419 : (Jvm.Cond.privateMethod ({ cls := "LookAtClockModel", name := "isDigit", desc := "()Z" } : Jvm.MethodName)) ∈ lw_tbl := lw_at lw_m6 178 rfl
theorem q1420 : (Jvm.Cond.instanceMethod ({ cls := "LookAtClockModel", name := "isDigit", desc := "()Z" } : Jvm.MethodName)) ∈ lw_all := lw_g (lw_at lw_m6 179 rfl) rfl
theorem q1421 : (Jvm.Cond.code ({ cls := "LookAtClockModel", name := "isDigit", desc := "()Z" } : Jvm.MethodName) prog_21_method_51_code (1 : Nat) (Option.some Jvm.ClassFile.FieldType.boolean)) ∈ lw_all := lw_g (lw_at lw_m6 180 rfl) rfl
theorem q1422 : (Jvm.Cond.methodLink "LookAtClockModel" (213 : Nat) ({ cls := "LookAtClockModel", name := "expect", desc := "(I)V" } : Jvm.MethodName)) ∈ lw_all := lw_g (lw_at lw_m6 181 rfl) rfl
theorem q1423 : (Jvm.Cond.privateMethod ({ cls := "LookAtClockModel", name := "expect", desc := "(I)V" } : Jvm.MethodName)) ∈ lw_tbl := lw_at lw_m6 182 rfl
theorem q1424 : (Jvm.Cond.instanceMethod ({ cls := "LookAtClockModel", name := "expect", desc := "(I)V" } : Jvm.MethodName)) ∈ lw_all := lw_g (lw_at lw_m6 183 rfl) rfl
theorem q1425 : (Jvm.Cond.code ({ cls := "LookAtClockModel", name := "expect", desc := "(I)V" } : Jvm.MethodName) prog_21_method_50_code (2 : Nat) (Option.none : Option Jvm.ClassFile.FieldType)) ∈ lw_all := lw_g (lw_at lw_m6 184 rfl) rfl
theorem q1426 : (Jvm.Cond.methodLink "LookAtClockModel" (203 : Nat) ({ cls := "LookAtClockModel", name := "comes", desc := "(I)Z" } : Jvm.MethodName)) ∈ lw_all := lw_g (lw_at lw_m6 185 rfl) rfl
theorem q1427 : (Jvm.Cond.privateMethod ({ cls := "LookAtClockModel", name := "comes", desc := "(I)Z" } : Jvm.MethodName)) ∈ lw_tbl := lw_at lw_m6 186 rfl
theorem q1428 : (Jvm.Cond.instanceMethod ({ cls := "LookAtClockModel", name := "comes", desc := "(I)Z" } : Jvm.MethodName)) ∈ lw_all := lw_g (lw_at lw_m6 187 rfl) rfl
theorem q1429 : (Jvm.Cond.code ({ cls := "LookAtClockModel", name := "comes", desc := "(I)Z" } : Jvm.MethodName) prog_21_method_49_code (2 : Nat) (Option.some Jvm.ClassFile.FieldType.boolean)) ∈ lw_all := lw_g (lw_at lw_m6 188 rfl) rfl
theorem q1430 : (Jvm.Cond.methodLink "LookAtClockModel" (221 : Nat) ({ cls := "LookAtClockModel", name := "isAsTold", desc := "(IIIIII)Z" } : Jvm.MethodName)) ∈ lw_all := lw_g (lw_at lw_m6 189 rfl) rfl
theorem q1431 : (Jvm.Cond.privateMethod ({ cls := "LookAtClockModel", name := "isAsTold", desc := "(IIIIII)Z" } : Jvm.MethodName)) ∈ lw_tbl := lw_at lw_m6 190 rfl
theorem q1432 : (Jvm.Cond.instanceMethod ({ cls := "LookAtClockModel", name := "isAsTold", desc := "(IIIIII)Z" } : Jvm.MethodName)) ∈ lw_all := lw_g (lw_at lw_m6 191 rfl) rfl
theorem q1433 : (Jvm.Cond.code ({ cls := "LookAtClockModel", name := "isAsTold", desc := "(IIIIII)Z" } : Jvm.MethodName) prog_21_method_54_code (7 : Nat) (Option.some Jvm.ClassFile.FieldType.boolean)) ∈ lw_all := lw_g (lw_at lw_m6 192 rfl) rfl
theorem q1434 : (Jvm.Cond.methodLink "LookAtClockModel" (225 : Nat) ({ cls := "LookAtClockModel", name := "come", desc := "(I)V" } : Jvm.MethodName)) ∈ lw_all := lw_g (lw_at lw_m6 193 rfl) rfl
theorem q1435 : (Jvm.Cond.privateMethod ({ cls := "LookAtClockModel", name := "come", desc := "(I)V" } : Jvm.MethodName)) ∈ lw_tbl := lw_at lw_m6 194 rfl
theorem q1436 : (Jvm.Cond.instanceMethod ({ cls := "LookAtClockModel", name := "come", desc := "(I)V" } : Jvm.MethodName)) ∈ lw_all := lw_g (lw_at lw_m6 195 rfl) rfl
theorem q1437 : (Jvm.Cond.code ({ cls := "LookAtClockModel", name := "come", desc := "(I)V" } : Jvm.MethodName) prog_21_method_55_code (2 : Nat) (Option.none : Option Jvm.ClassFile.FieldType)) ∈ lw_all := lw_g (lw_at lw_m6 196 rfl) rfl
theorem q1439 : (Jvm.Cond.instanceMethod ({ cls := "LookAtClockModel", name := "keep", desc := "(III)I" } : Jvm.MethodName)) ∈ lw_all := lw_g (lw_at lw_m6 198 rfl) rfl
theorem q1440 : (Jvm.Cond.selects "LookAtClockModel" ({ cls := "LookAtClockModel", name := "keep", desc := "(III)I" } : Jvm.MethodName) ({ cls := "LookAtClockModel", name := "keep", desc := "(III)I" } : Jvm.MethodName)) ∈ lw_all := lw_g (lw_at lw_m6 199 rfl) rfl
theorem q1441 : (Jvm.Cond.code ({ cls := "LookAtClockModel", name := "keep", desc := "(III)I" } : Jvm.MethodName) prog_21_method_58_code (4 : Nat) (Option.some Jvm.ClassFile.FieldType.int)) ∈ lw_all := lw_g (lw_at lw_m6 200 rfl) rfl
theorem q1443 : (Jvm.Cond.instanceMethod ({ cls := "LookAtClockModel", name := "row", desc := "(III)I" } : Jvm.MethodName)) ∈ lw_all := lw_g (lw_at lw_m6 202 rfl) rfl
theorem q1444 : (Jvm.Cond.selects "LookAtClockModel" ({ cls := "LookAtClockModel", name := "row", desc := "(III)I" } : Jvm.MethodName) ({ cls := "LookAtClockModel", name := "row", desc := "(III)I" } : Jvm.MethodName)) ∈ lw_all := lw_g (lw_at lw_m6 203 rfl) rfl
theorem q1445 : (Jvm.Cond.code ({ cls := "LookAtClockModel", name := "row", desc := "(III)I" } : Jvm.MethodName) prog_21_method_59_code (5 : Nat) (Option.some Jvm.ClassFile.FieldType.int)) ∈ lw_all := lw_g (lw_at lw_m6 204 rfl) rfl
theorem q1447 : (Jvm.Cond.instanceMethod ({ cls := "LookAtClockModel", name := "put", desc := "(III)I" } : Jvm.MethodName)) ∈ lw_all := lw_g (lw_at lw_m6 206 rfl) rfl
theorem q1448 : (Jvm.Cond.selects "LookAtClockModel" ({ cls := "LookAtClockModel", name := "put", desc := "(III)I" } : Jvm.MethodName) ({ cls := "LookAtClockModel", name := "put", desc := "(III)I" } : Jvm.MethodName)) ∈ lw_all := lw_g (lw_at lw_m6 207 rfl) rfl
theorem q1449 : (Jvm.Cond.code ({ cls := "LookAtClockModel", name := "put", desc := "(III)I" } : Jvm.MethodName) prog_21_method_60_code (4 : Nat) (Option.some Jvm.ClassFile.FieldType.int)) ∈ lw_all := lw_g (lw_at lw_m6 208 rfl) rfl
theorem q1451 : (Jvm.Cond.instanceMethod ({ cls := "LookAtClockModel", name := "thrown", desc := "()I" } : Jvm.MethodName)) ∈ lw_all := lw_g (lw_at lw_m6 210 rfl) rfl
theorem q1452 : (Jvm.Cond.selects "LookAtClockModel" ({ cls := "LookAtClockModel", name := "thrown", desc := "()I" } : Jvm.MethodName) ({ cls := "LookAtClockModel", name := "thrown", desc := "()I" } : Jvm.MethodName)) ∈ lw_all := lw_g (lw_at lw_m6 211 rfl) rfl
theorem q1453 : (Jvm.Cond.code ({ cls := "LookAtClockModel", name := "thrown", desc := "()I" } : Jvm.MethodName) prog_21_method_61_code (1 : Nat) (Option.some Jvm.ClassFile.FieldType.int)) ∈ lw_all := lw_g (lw_at lw_m6 212 rfl) rfl
theorem q1455 : (Jvm.Cond.instanceMethod ({ cls := "LookAtClockModel", name := "element", desc := "(II)J" } : Jvm.MethodName)) ∈ lw_all := lw_g (lw_at lw_m6 214 rfl) rfl
theorem q1456 : (Jvm.Cond.selects "LookAtClockModel" ({ cls := "LookAtClockModel", name := "element", desc := "(II)J" } : Jvm.MethodName) ({ cls := "LookAtClockModel", name := "element", desc := "(II)J" } : Jvm.MethodName)) ∈ lw_all := lw_g (lw_at lw_m6 215 rfl) rfl
theorem q1457 : (Jvm.Cond.code ({ cls := "LookAtClockModel", name := "element", desc := "(II)J" } : Jvm.MethodName) prog_21_method_62_code (3 : Nat) (Option.some Jvm.ClassFile.FieldType.long)) ∈ lw_all := lw_g (lw_at lw_m6 216 rfl) rfl
theorem q1459 : (Jvm.Cond.instanceMethod ({ cls := "LookAtClockModel", name := "copy", desc := "(IIIII)I" } : Jvm.MethodName)) ∈ lw_all := lw_g (lw_at lw_m6 218 rfl) rfl
theorem q1460 : (Jvm.Cond.selects "LookAtClockModel" ({ cls := "LookAtClockModel", name := "copy", desc := "(IIIII)I" } : Jvm.MethodName) ({ cls := "LookAtClockModel", name := "copy", desc := "(IIIII)I" } : Jvm.MethodName)) ∈ lw_all := lw_g (lw_at lw_m6 219 rfl) rfl
theorem q1461 : (Jvm.Cond.code ({ cls := "LookAtClockModel", name := "copy", desc := "(IIIII)I" } : Jvm.MethodName) prog_21_method_63_code (7 : Nat) (Option.some Jvm.ClassFile.FieldType.int)) ∈ lw_all := lw_g (lw_at lw_m6 220 rfl) rfl
theorem q1463 : (Jvm.Cond.instanceMethod ({ cls := "LookAtClockModel", name := "skill", desc := "(I)I" } : Jvm.MethodName)) ∈ lw_all := lw_g (lw_at lw_m6 222 rfl) rfl
theorem q1464 : (Jvm.Cond.selects "LookAtClockModel" ({ cls := "LookAtClockModel", name := "skill", desc := "(I)I" } : Jvm.MethodName) ({ cls := "LookAtClockModel", name := "skill", desc := "(I)I" } : Jvm.MethodName)) ∈ lw_all := lw_g (lw_at lw_m6 223 rfl) rfl
theorem q1465 : (Jvm.Cond.code ({ cls := "LookAtClockModel", name := "skill", desc := "(I)I" } : Jvm.MethodName) prog_21_method_65_code (2 : Nat) (Option.some Jvm.ClassFile.FieldType.int)) ∈ lw_all := lw_g (lw_at lw_m6 224 rfl) rfl
theorem q1466 : (Jvm.Cond.methodLink "LookAtClockModel" (234 : Nat) ({ cls := "LookAtClockModel", name := "skillOf", desc := "(I)I" } : Jvm.MethodName)) ∈ lw_all := lw_g (lw_at lw_m6 225 rfl) rfl
theorem q1467 : (Jvm.Cond.privateMethod ({ cls := "LookAtClockModel", name := "skillOf", desc := "(I)I" } : Jvm.MethodName)) ∈ lw_tbl := lw_at lw_m6 226 rfl
theorem q1468 : (Jvm.Cond.instanceMethod ({ cls := "LookAtClockModel", name := "skillOf", desc := "(I)I" } : Jvm.MethodName)) ∈ lw_all := lw_g (lw_at lw_m6 227 rfl) rfl
theorem q1469 : (Jvm.Cond.code ({ cls := "LookAtClockModel", name := "skillOf", desc := "(I)I" } : Jvm.MethodName) prog_21_method_64_code (3 : Nat) (Option.some Jvm.ClassFile.FieldType.int)) ∈ lw_all := lw_g (lw_at lw_m6 228 rfl) rfl
theorem q1471 : (Jvm.Cond.instanceMethod ({ cls := "LookAtClockModel", name := "toss", desc := "(I)I" } : Jvm.MethodName)) ∈ lw_all := lw_g (lw_at lw_m6 230 rfl) rfl
theorem q1472 : (Jvm.Cond.selects "LookAtClockModel" ({ cls := "LookAtClockModel", name := "toss", desc := "(I)I" } : Jvm.MethodName) ({ cls := "LookAtClockModel", name := "toss", desc := "(I)I" } : Jvm.MethodName)) ∈ lw_all := lw_g (lw_at lw_m6 231 rfl) rfl
theorem q1473 : (Jvm.Cond.code ({ cls := "LookAtClockModel", name := "toss", desc := "(I)I" } : Jvm.MethodName) prog_21_method_66_code (2 : Nat) (Option.some Jvm.ClassFile.FieldType.int)) ∈ lw_all := lw_g (lw_at lw_m6 232 rfl) rfl
theorem in_X5 : ∀ w ∈ wsX50, w ∈ lw_all := lw_in wsX50 [1133, 1135, 1137, 1139, 1141, 1143, 1145, 1147, 1149, 1151, 1153, 1155, 1157, 1159, 1161, 1163, 1165, 1167, 1169, 1171, 1173, 1175, 1177, 1179, 1181, 1183, 1185, 1187, 1189, 1191, 1193, 1195, 1197, 1199, 1201, 1203, 1205, 1207, 1209, 1211, 1213] (by decide +kernel) (by decide +kernel)
