/-! LookAtClock -/
set_option maxRecDepth 100000
def RX1 : String := "LookAtClock"
def TX1 : u_T := fun k => match k with
  | 0 => ("LookAtClock", "town", "LLookAtClock$Town;", true)
  | 1 => ("LookAtClock", "tried", "LLookAtClock$Town;", true)
  | 2 => ("LookAtClock", "kept", "LLookAtClock$Town;", true)
  | 3 => ("LookAtClock", "hasImage", "Z", false)
  | 4 => ("LookAtClock", "day", "LLookAtClock$Day;", true)
  | _ => ("LookAtClock", "shelves", "[LLookAtClock$Shelf;", true)
def tyX1 : Nat → FieldType := fun k => match k with
  | 0 => .object "LookAtClock$Town"
  | 1 => .object "LookAtClock$Town"
  | 2 => .object "LookAtClock$Town"
  | 3 => .boolean
  | 4 => .object "LookAtClock$Day"
  | _ => .array (.object "LookAtClock$Shelf")
abbrev wsX10 : List Cond := u_ws RX1 TX1 6
theorem nmX1 : ∀ a, a < 6 → ∀ b, b < 6 → a ≠ b → (TX1 a).2.1 ≠ (TX1 b).2.1 := by decide +kernel
theorem tyX1_ok : ∀ k, k < 6 → parseFieldDescriptor (TX1 k).2.2.1 = some (tyX1 k) := by decide +kernel
abbrev cX1_town : ByteArray := prog_1_method_11_code
def yX1_town : MethodName := ⟨RX1, "town", "(I)I"⟩
def dkwX1_town_5 : List UInt8 := [180, 0, 34, 42, 180, 0, 112, 182, 0, 115, 17, 252, 24, 45, 180, 0, 141, 104, 45, 180, 0, 144, 100, 172]
abbrev dktX1_town_5 : List UInt8 := dkwX1_town_5 ++ []
def dkwX1_town_4 : List UInt8 := [180, 0, 135, 21, 4, 46, 183, 0, 138, 191, 132, 4, 1, 167, 255, 218, 45, 180, 0, 126, 172, 78, 42]
abbrev dktX1_town_4 : List UInt8 := dkwX1_town_4 ++ dktX1_town_5
def dkwX1_town_3 : List UInt8 := [180, 0, 126, 162, 0, 35, 42, 45, 21, 4, 182, 0, 129, 154, 0, 19, 187, 0, 133, 89, 5, 45]
abbrev dktX1_town_3 : List UInt8 := dkwX1_town_3 ++ dktX1_town_4
def dkwX1_town_2 : List UInt8 := [187, 0, 76, 89, 44, 192, 0, 110, 183, 0, 119, 78, 45, 182, 0, 122, 3, 54, 4, 21, 4, 45]
abbrev dktX1_town_2 : List UInt8 := dkwX1_town_2 ++ dktX1_town_3
def dkwX1_town_1 : List UInt8 := [16, 245, 172, 44, 193, 0, 110, 154, 0, 6, 16, 244, 172, 42, 180, 0, 112, 42, 180, 0, 34, 182, 0, 115]
abbrev dktX1_town_1 : List UInt8 := dkwX1_town_1 ++ dktX1_town_2
def dkwX1_town_0 : List UInt8 := [27, 184, 0, 97, 154, 0, 5, 2, 172, 42, 180, 0, 100, 27, 50, 180, 0, 104, 77, 44, 199, 0, 6]
abbrev dktX1_town_0 : List UInt8 := dkwX1_town_0 ++ dktX1_town_1
theorem dksX1_town_0 : cX1_town.data.toList.drop 0 = dktX1_town_0 := by decide +kernel
theorem dksX1_town_1 : cX1_town.data.toList.drop 23 = dktX1_town_1 := dk_seg dksX1_town_0 23 rfl rfl
theorem dksX1_town_2 : cX1_town.data.toList.drop 47 = dktX1_town_2 := dk_seg dksX1_town_1 24 rfl rfl
theorem dksX1_town_3 : cX1_town.data.toList.drop 69 = dktX1_town_3 := dk_seg dksX1_town_2 22 rfl rfl
theorem dksX1_town_4 : cX1_town.data.toList.drop 91 = dktX1_town_4 := dk_seg dksX1_town_3 22 rfl rfl
theorem dksX1_town_5 : cX1_town.data.toList.drop 114 = dktX1_town_5 := dk_seg dksX1_town_4 23 rfl rfl
theorem dX1_town_0 : decode cX1_town 0 = .ok (.iload_n 1, 1) := dk_27 (dk_at dksX1_town_0 0 rfl rfl)
theorem dX1_town_1 : decode cX1_town 1 = .ok (.invokestatic 97, 3) := dk_184 0 97 (dk_at dksX1_town_0 1 rfl rfl)
theorem dX1_town_4 : decode cX1_town 4 = .ok (.ifCond .ne 5, 3) := dk_154 0 5 (dk_at dksX1_town_0 4 rfl rfl)
theorem dX1_town_7 : decode cX1_town 7 = .ok (.iconst (-1), 1) := dk_2 (dk_at dksX1_town_0 7 rfl rfl)
theorem dX1_town_8 : decode cX1_town 8 = .ok (.ireturn, 1) := dk_172 (dk_at dksX1_town_0 8 rfl rfl)
theorem dX1_town_9 : decode cX1_town 9 = .ok (.aload_n 0, 1) := dk_42 (dk_at dksX1_town_0 9 rfl rfl)
theorem dX1_town_10 : decode cX1_town 10 = .ok (.getfield 100, 3) := dk_180 0 100 (dk_at dksX1_town_0 10 rfl rfl)
theorem dX1_town_13 : decode cX1_town 13 = .ok (.iload_n 1, 1) := dk_27 (dk_at dksX1_town_0 13 rfl rfl)
theorem dX1_town_14 : decode cX1_town 14 = .ok (.aaload, 1) := dk_50 (dk_at dksX1_town_0 14 rfl rfl)
theorem dX1_town_15 : decode cX1_town 15 = .ok (.getfield 104, 3) := dk_180 0 104 (dk_at dksX1_town_0 15 rfl rfl)
theorem dX1_town_18 : decode cX1_town 18 = .ok (.astore_n 2, 1) := dk_77 (dk_at dksX1_town_0 18 rfl rfl)
theorem dX1_town_19 : decode cX1_town 19 = .ok (.aload_n 2, 1) := dk_44 (dk_at dksX1_town_0 19 rfl rfl)
theorem dX1_town_20 : decode cX1_town 20 = .ok (.ifnonnull 6, 3) := dk_199 0 6 (dk_at dksX1_town_0 20 rfl rfl)
theorem dX1_town_23 : decode cX1_town 23 = .ok (.bipush (-11), 2) := dk_16 245 (dk_at dksX1_town_1 0 rfl rfl)
theorem dX1_town_25 : decode cX1_town 25 = .ok (.ireturn, 1) := dk_172 (dk_at dksX1_town_1 2 rfl rfl)
theorem dX1_town_26 : decode cX1_town 26 = .ok (.aload_n 2, 1) := dk_44 (dk_at dksX1_town_1 3 rfl rfl)
theorem dX1_town_27 : decode cX1_town 27 = .ok (.instanceof 110, 3) := dk_193 0 110 (dk_at dksX1_town_1 4 rfl rfl)
theorem dX1_town_30 : decode cX1_town 30 = .ok (.ifCond .ne 6, 3) := dk_154 0 6 (dk_at dksX1_town_1 7 rfl rfl)
theorem dX1_town_33 : decode cX1_town 33 = .ok (.bipush (-12), 2) := dk_16 244 (dk_at dksX1_town_1 10 rfl rfl)
theorem dX1_town_35 : decode cX1_town 35 = .ok (.ireturn, 1) := dk_172 (dk_at dksX1_town_1 12 rfl rfl)
theorem dX1_town_36 : decode cX1_town 36 = .ok (.aload_n 0, 1) := dk_42 (dk_at dksX1_town_1 13 rfl rfl)
theorem dX1_town_37 : decode cX1_town 37 = .ok (.getfield 112, 3) := dk_180 0 112 (dk_at dksX1_town_1 14 rfl rfl)
theorem dX1_town_40 : decode cX1_town 40 = .ok (.aload_n 0, 1) := dk_42 (dk_at dksX1_town_1 17 rfl rfl)
theorem dX1_town_41 : decode cX1_town 41 = .ok (.getfield 34, 3) := dk_180 0 34 (dk_at dksX1_town_1 18 rfl rfl)
theorem dX1_town_44 : decode cX1_town 44 = .ok (.invokevirtual 115, 3) := dk_182 0 115 (dk_at dksX1_town_1 21 rfl rfl)
theorem dX1_town_47 : decode cX1_town 47 = .ok (.new 76, 3) := dk_187 0 76 (dk_at dksX1_town_2 0 rfl rfl)
theorem dX1_town_50 : decode cX1_town 50 = .ok (.dup, 1) := dk_89 (dk_at dksX1_town_2 3 rfl rfl)
theorem dX1_town_51 : decode cX1_town 51 = .ok (.aload_n 2, 1) := dk_44 (dk_at dksX1_town_2 4 rfl rfl)
theorem dX1_town_52 : decode cX1_town 52 = .ok (.checkcast 110, 3) := dk_192 0 110 (dk_at dksX1_town_2 5 rfl rfl)
theorem dX1_town_55 : decode cX1_town 55 = .ok (.invokespecial 119, 3) := dk_183 0 119 (dk_at dksX1_town_2 8 rfl rfl)
theorem dX1_town_58 : decode cX1_town 58 = .ok (.astore_n 3, 1) := dk_78 (dk_at dksX1_town_2 11 rfl rfl)
theorem dX1_town_59 : decode cX1_town 59 = .ok (.aload_n 3, 1) := dk_45 (dk_at dksX1_town_2 12 rfl rfl)
theorem dX1_town_60 : decode cX1_town 60 = .ok (.invokevirtual 122, 3) := dk_182 0 122 (dk_at dksX1_town_2 13 rfl rfl)
theorem dX1_town_63 : decode cX1_town 63 = .ok (.iconst 0, 1) := dk_3 (dk_at dksX1_town_2 16 rfl rfl)
theorem dX1_town_64 : decode cX1_town 64 = .ok (.istore 4, 2) := dk_54 4 (dk_at dksX1_town_2 17 rfl rfl)
theorem dX1_town_66 : decode cX1_town 66 = .ok (.iload 4, 2) := dk_21 4 (dk_at dksX1_town_2 19 rfl rfl)
theorem dX1_town_68 : decode cX1_town 68 = .ok (.aload_n 3, 1) := dk_45 (dk_at dksX1_town_2 21 rfl rfl)
theorem dX1_town_69 : decode cX1_town 69 = .ok (.getfield 126, 3) := dk_180 0 126 (dk_at dksX1_town_3 0 rfl rfl)
theorem dX1_town_72 : decode cX1_town 72 = .ok (.if_icmp .ge 35, 3) := dk_162 0 35 (dk_at dksX1_town_3 3 rfl rfl)
theorem dX1_town_75 : decode cX1_town 75 = .ok (.aload_n 0, 1) := dk_42 (dk_at dksX1_town_3 6 rfl rfl)
theorem dX1_town_76 : decode cX1_town 76 = .ok (.aload_n 3, 1) := dk_45 (dk_at dksX1_town_3 7 rfl rfl)
theorem dX1_town_77 : decode cX1_town 77 = .ok (.iload 4, 2) := dk_21 4 (dk_at dksX1_town_3 8 rfl rfl)
theorem dX1_town_79 : decode cX1_town 79 = .ok (.invokevirtual 129, 3) := dk_182 0 129 (dk_at dksX1_town_3 10 rfl rfl)
theorem dX1_town_82 : decode cX1_town 82 = .ok (.ifCond .ne 19, 3) := dk_154 0 19 (dk_at dksX1_town_3 13 rfl rfl)
theorem dX1_town_85 : decode cX1_town 85 = .ok (.new 133, 3) := dk_187 0 133 (dk_at dksX1_town_3 16 rfl rfl)
theorem dX1_town_88 : decode cX1_town 88 = .ok (.dup, 1) := dk_89 (dk_at dksX1_town_3 19 rfl rfl)
theorem dX1_town_89 : decode cX1_town 89 = .ok (.iconst 2, 1) := dk_5 (dk_at dksX1_town_3 20 rfl rfl)
theorem dX1_town_90 : decode cX1_town 90 = .ok (.aload_n 3, 1) := dk_45 (dk_at dksX1_town_3 21 rfl rfl)
theorem dX1_town_91 : decode cX1_town 91 = .ok (.getfield 135, 3) := dk_180 0 135 (dk_at dksX1_town_4 0 rfl rfl)
theorem dX1_town_94 : decode cX1_town 94 = .ok (.iload 4, 2) := dk_21 4 (dk_at dksX1_town_4 3 rfl rfl)
theorem dX1_town_96 : decode cX1_town 96 = .ok (.iaload, 1) := dk_46 (dk_at dksX1_town_4 5 rfl rfl)
theorem dX1_town_97 : decode cX1_town 97 = .ok (.invokespecial 138, 3) := dk_183 0 138 (dk_at dksX1_town_4 6 rfl rfl)
theorem dX1_town_100 : decode cX1_town 100 = .ok (.athrow, 1) := dk_191 (dk_at dksX1_town_4 9 rfl rfl)
theorem dX1_town_101 : decode cX1_town 101 = .ok (.iinc 4 1, 3) := dk_132 4 1 (dk_at dksX1_town_4 10 rfl rfl)
theorem dX1_town_104 : decode cX1_town 104 = .ok (.goto (-38), 3) := dk_167 255 218 (dk_at dksX1_town_4 13 rfl rfl)
theorem dX1_town_107 : decode cX1_town 107 = .ok (.aload_n 3, 1) := dk_45 (dk_at dksX1_town_4 16 rfl rfl)
theorem dX1_town_108 : decode cX1_town 108 = .ok (.getfield 126, 3) := dk_180 0 126 (dk_at dksX1_town_4 17 rfl rfl)
theorem dX1_town_111 : decode cX1_town 111 = .ok (.ireturn, 1) := dk_172 (dk_at dksX1_town_4 20 rfl rfl)
theorem dX1_town_112 : decode cX1_town 112 = .ok (.astore_n 3, 1) := dk_78 (dk_at dksX1_town_4 21 rfl rfl)
theorem dX1_town_113 : decode cX1_town 113 = .ok (.aload_n 0, 1) := dk_42 (dk_at dksX1_town_4 22 rfl rfl)
theorem dX1_town_114 : decode cX1_town 114 = .ok (.getfield 34, 3) := dk_180 0 34 (dk_at dksX1_town_5 0 rfl rfl)
theorem dX1_town_117 : decode cX1_town 117 = .ok (.aload_n 0, 1) := dk_42 (dk_at dksX1_town_5 3 rfl rfl)
theorem dX1_town_118 : decode cX1_town 118 = .ok (.getfield 112, 3) := dk_180 0 112 (dk_at dksX1_town_5 4 rfl rfl)
theorem dX1_town_121 : decode cX1_town 121 = .ok (.invokevirtual 115, 3) := dk_182 0 115 (dk_at dksX1_town_5 7 rfl rfl)
theorem dX1_town_124 : decode cX1_town 124 = .ok (.sipush (-1000), 3) := dk_17 252 24 (dk_at dksX1_town_5 10 rfl rfl)
theorem dX1_town_127 : decode cX1_town 127 = .ok (.aload_n 3, 1) := dk_45 (dk_at dksX1_town_5 13 rfl rfl)
theorem dX1_town_128 : decode cX1_town 128 = .ok (.getfield 141, 3) := dk_180 0 141 (dk_at dksX1_town_5 14 rfl rfl)
theorem dX1_town_131 : decode cX1_town 131 = .ok (.imul, 1) := dk_104 (dk_at dksX1_town_5 17 rfl rfl)
theorem dX1_town_132 : decode cX1_town 132 = .ok (.aload_n 3, 1) := dk_45 (dk_at dksX1_town_5 18 rfl rfl)
theorem dX1_town_133 : decode cX1_town 133 = .ok (.getfield 144, 3) := dk_180 0 144 (dk_at dksX1_town_5 19 rfl rfl)
theorem dX1_town_136 : decode cX1_town 136 = .ok (.isub, 1) := dk_100 (dk_at dksX1_town_5 22 rfl rfl)
theorem dX1_town_137 : decode cX1_town 137 = .ok (.ireturn, 1) := dk_172 (dk_at dksX1_town_5 23 rfl rfl)
abbrev cX1_isShelf : ByteArray := prog_1_method_10_code
def yX1_isShelf : MethodName := ⟨RX1, "isShelf", "(I)Z"⟩
def dkwX1_isShelf_0 : List UInt8 := [26, 3, 16, 7, 184, 0, 3, 172]
abbrev dktX1_isShelf_0 : List UInt8 := dkwX1_isShelf_0 ++ []
theorem dksX1_isShelf_0 : cX1_isShelf.data.toList.drop 0 = dktX1_isShelf_0 := by decide +kernel
theorem dX1_isShelf_0 : decode cX1_isShelf 0 = .ok (.iload_n 0, 1) := dk_26 (dk_at dksX1_isShelf_0 0 rfl rfl)
theorem dX1_isShelf_1 : decode cX1_isShelf 1 = .ok (.iconst 0, 1) := dk_3 (dk_at dksX1_isShelf_0 1 rfl rfl)
theorem dX1_isShelf_2 : decode cX1_isShelf 2 = .ok (.bipush 7, 2) := dk_16 7 (dk_at dksX1_isShelf_0 2 rfl rfl)
theorem dX1_isShelf_4 : decode cX1_isShelf 4 = .ok (.invokestatic 3, 3) := dk_184 0 3 (dk_at dksX1_isShelf_0 4 rfl rfl)
theorem dX1_isShelf_7 : decode cX1_isShelf 7 = .ok (.ireturn, 1) := dk_172 (dk_at dksX1_isShelf_0 7 rfl rfl)
abbrev cX1_isIn : ByteArray := prog_1_method_1_code
def yX1_isIn : MethodName := ⟨RX1, "isIn", "(III)Z"⟩
def dkwX1_isIn_0 : List UInt8 := [26, 27, 161, 0, 12, 26, 28, 163, 0, 7, 4, 167, 0, 4, 3, 172]
abbrev dktX1_isIn_0 : List UInt8 := dkwX1_isIn_0 ++ []
theorem dksX1_isIn_0 : cX1_isIn.data.toList.drop 0 = dktX1_isIn_0 := by decide +kernel
theorem dX1_isIn_0 : decode cX1_isIn 0 = .ok (.iload_n 0, 1) := dk_26 (dk_at dksX1_isIn_0 0 rfl rfl)
theorem dX1_isIn_1 : decode cX1_isIn 1 = .ok (.iload_n 1, 1) := dk_27 (dk_at dksX1_isIn_0 1 rfl rfl)
theorem dX1_isIn_2 : decode cX1_isIn 2 = .ok (.if_icmp .lt 12, 3) := dk_161 0 12 (dk_at dksX1_isIn_0 2 rfl rfl)
theorem dX1_isIn_5 : decode cX1_isIn 5 = .ok (.iload_n 0, 1) := dk_26 (dk_at dksX1_isIn_0 5 rfl rfl)
theorem dX1_isIn_6 : decode cX1_isIn 6 = .ok (.iload_n 2, 1) := dk_28 (dk_at dksX1_isIn_0 6 rfl rfl)
theorem dX1_isIn_7 : decode cX1_isIn 7 = .ok (.if_icmp .gt 7, 3) := dk_163 0 7 (dk_at dksX1_isIn_0 7 rfl rfl)
theorem dX1_isIn_10 : decode cX1_isIn 10 = .ok (.iconst 1, 1) := dk_4 (dk_at dksX1_isIn_0 10 rfl rfl)
theorem dX1_isIn_11 : decode cX1_isIn 11 = .ok (.goto 4, 3) := dk_167 0 4 (dk_at dksX1_isIn_0 11 rfl rfl)
theorem dX1_isIn_14 : decode cX1_isIn 14 = .ok (.iconst 0, 1) := dk_3 (dk_at dksX1_isIn_0 14 rfl rfl)
theorem dX1_isIn_15 : decode cX1_isIn 15 = .ok (.ireturn, 1) := dk_172 (dk_at dksX1_isIn_0 15 rfl rfl)
abbrev cX1_comesAs : ByteArray := prog_1_method_9_code
def yX1_comesAs : MethodName := ⟨RX1, "comesAs", "(LLookAtClock$Reader;I)Z"⟩
def dkwX1_comesAs_3 : List UInt8 := [46, 5, 163, 0, 7, 4, 167, 0, 4, 3, 172, 42, 45, 3, 46, 182, 0, 94, 172]
abbrev dktX1_comesAs_3 : List UInt8 := dkwX1_comesAs_3 ++ []
def dkwX1_comesAs_2 : List UInt8 := [42, 45, 182, 0, 84, 172, 42, 45, 182, 0, 88, 172, 42, 180, 0, 34, 45, 3, 46, 181, 0, 91, 45, 3]
abbrev dktX1_comesAs_2 : List UInt8 := dkwX1_comesAs_2 ++ dktX1_comesAs_3
def dkwX1_comesAs_1 : List UInt8 := [171, 0, 0, 0, 0, 0, 70, 0, 0, 0, 3, 0, 0, 0, 107, 0, 0, 0, 41, 0, 0, 0, 108, 0, 0, 0, 47, 0, 0, 0, 119, 0, 0, 0, 35]
abbrev dktX1_comesAs_1 : List UInt8 := dkwX1_comesAs_1 ++ dktX1_comesAs_2
def dkwX1_comesAs_0 : List UInt8 := [43, 180, 0, 75, 28, 50, 78, 43, 180, 0, 81, 28, 46]
abbrev dktX1_comesAs_0 : List UInt8 := dkwX1_comesAs_0 ++ dktX1_comesAs_1
theorem dksX1_comesAs_0 : cX1_comesAs.data.toList.drop 0 = dktX1_comesAs_0 := by decide +kernel
theorem dksX1_comesAs_1 : cX1_comesAs.data.toList.drop 13 = dktX1_comesAs_1 := dk_seg dksX1_comesAs_0 13 rfl rfl
theorem dksX1_comesAs_2 : cX1_comesAs.data.toList.drop 48 = dktX1_comesAs_2 := dk_seg dksX1_comesAs_1 35 rfl rfl
theorem dksX1_comesAs_3 : cX1_comesAs.data.toList.drop 72 = dktX1_comesAs_3 := dk_seg dksX1_comesAs_2 24 rfl rfl
theorem dX1_comesAs_0 : decode cX1_comesAs 0 = .ok (.aload_n 1, 1) := dk_43 (dk_at dksX1_comesAs_0 0 rfl rfl)
theorem dX1_comesAs_1 : decode cX1_comesAs 1 = .ok (.getfield 75, 3) := dk_180 0 75 (dk_at dksX1_comesAs_0 1 rfl rfl)
theorem dX1_comesAs_4 : decode cX1_comesAs 4 = .ok (.iload_n 2, 1) := dk_28 (dk_at dksX1_comesAs_0 4 rfl rfl)
theorem dX1_comesAs_5 : decode cX1_comesAs 5 = .ok (.aaload, 1) := dk_50 (dk_at dksX1_comesAs_0 5 rfl rfl)
theorem dX1_comesAs_6 : decode cX1_comesAs 6 = .ok (.astore_n 3, 1) := dk_78 (dk_at dksX1_comesAs_0 6 rfl rfl)
theorem dX1_comesAs_7 : decode cX1_comesAs 7 = .ok (.aload_n 1, 1) := dk_43 (dk_at dksX1_comesAs_0 7 rfl rfl)
theorem dX1_comesAs_8 : decode cX1_comesAs 8 = .ok (.getfield 81, 3) := dk_180 0 81 (dk_at dksX1_comesAs_0 8 rfl rfl)
theorem dX1_comesAs_11 : decode cX1_comesAs 11 = .ok (.iload_n 2, 1) := dk_28 (dk_at dksX1_comesAs_0 11 rfl rfl)
theorem dX1_comesAs_12 : decode cX1_comesAs 12 = .ok (.iaload, 1) := dk_46 (dk_at dksX1_comesAs_0 12 rfl rfl)
theorem dX1_comesAs_13 : decode cX1_comesAs 13 = .ok (.lookupswitch 70 #[(107, 41), (108, 47), (119, 35)], 35) := by decide +kernel
theorem dX1_comesAs_48 : decode cX1_comesAs 48 = .ok (.aload_n 0, 1) := dk_42 (dk_at dksX1_comesAs_2 0 rfl rfl)
theorem dX1_comesAs_49 : decode cX1_comesAs 49 = .ok (.aload_n 3, 1) := dk_45 (dk_at dksX1_comesAs_2 1 rfl rfl)
theorem dX1_comesAs_50 : decode cX1_comesAs 50 = .ok (.invokevirtual 84, 3) := dk_182 0 84 (dk_at dksX1_comesAs_2 2 rfl rfl)
theorem dX1_comesAs_53 : decode cX1_comesAs 53 = .ok (.ireturn, 1) := dk_172 (dk_at dksX1_comesAs_2 5 rfl rfl)
theorem dX1_comesAs_54 : decode cX1_comesAs 54 = .ok (.aload_n 0, 1) := dk_42 (dk_at dksX1_comesAs_2 6 rfl rfl)
theorem dX1_comesAs_55 : decode cX1_comesAs 55 = .ok (.aload_n 3, 1) := dk_45 (dk_at dksX1_comesAs_2 7 rfl rfl)
theorem dX1_comesAs_56 : decode cX1_comesAs 56 = .ok (.invokevirtual 88, 3) := dk_182 0 88 (dk_at dksX1_comesAs_2 8 rfl rfl)
theorem dX1_comesAs_59 : decode cX1_comesAs 59 = .ok (.ireturn, 1) := dk_172 (dk_at dksX1_comesAs_2 11 rfl rfl)
theorem dX1_comesAs_60 : decode cX1_comesAs 60 = .ok (.aload_n 0, 1) := dk_42 (dk_at dksX1_comesAs_2 12 rfl rfl)
theorem dX1_comesAs_61 : decode cX1_comesAs 61 = .ok (.getfield 34, 3) := dk_180 0 34 (dk_at dksX1_comesAs_2 13 rfl rfl)
theorem dX1_comesAs_64 : decode cX1_comesAs 64 = .ok (.aload_n 3, 1) := dk_45 (dk_at dksX1_comesAs_2 16 rfl rfl)
theorem dX1_comesAs_65 : decode cX1_comesAs 65 = .ok (.iconst 0, 1) := dk_3 (dk_at dksX1_comesAs_2 17 rfl rfl)
theorem dX1_comesAs_66 : decode cX1_comesAs 66 = .ok (.iaload, 1) := dk_46 (dk_at dksX1_comesAs_2 18 rfl rfl)
theorem dX1_comesAs_67 : decode cX1_comesAs 67 = .ok (.putfield 91, 3) := dk_181 0 91 (dk_at dksX1_comesAs_2 19 rfl rfl)
theorem dX1_comesAs_70 : decode cX1_comesAs 70 = .ok (.aload_n 3, 1) := dk_45 (dk_at dksX1_comesAs_2 22 rfl rfl)
theorem dX1_comesAs_71 : decode cX1_comesAs 71 = .ok (.iconst 0, 1) := dk_3 (dk_at dksX1_comesAs_2 23 rfl rfl)
theorem dX1_comesAs_72 : decode cX1_comesAs 72 = .ok (.iaload, 1) := dk_46 (dk_at dksX1_comesAs_3 0 rfl rfl)
theorem dX1_comesAs_73 : decode cX1_comesAs 73 = .ok (.iconst 2, 1) := dk_5 (dk_at dksX1_comesAs_3 1 rfl rfl)
theorem dX1_comesAs_74 : decode cX1_comesAs 74 = .ok (.if_icmp .gt 7, 3) := dk_163 0 7 (dk_at dksX1_comesAs_3 2 rfl rfl)
theorem dX1_comesAs_77 : decode cX1_comesAs 77 = .ok (.iconst 1, 1) := dk_4 (dk_at dksX1_comesAs_3 5 rfl rfl)
theorem dX1_comesAs_78 : decode cX1_comesAs 78 = .ok (.goto 4, 3) := dk_167 0 4 (dk_at dksX1_comesAs_3 6 rfl rfl)
theorem dX1_comesAs_81 : decode cX1_comesAs 81 = .ok (.iconst 0, 1) := dk_3 (dk_at dksX1_comesAs_3 9 rfl rfl)
theorem dX1_comesAs_82 : decode cX1_comesAs 82 = .ok (.ireturn, 1) := dk_172 (dk_at dksX1_comesAs_3 10 rfl rfl)
theorem dX1_comesAs_83 : decode cX1_comesAs 83 = .ok (.aload_n 0, 1) := dk_42 (dk_at dksX1_comesAs_3 11 rfl rfl)
theorem dX1_comesAs_84 : decode cX1_comesAs 84 = .ok (.aload_n 3, 1) := dk_45 (dk_at dksX1_comesAs_3 12 rfl rfl)
theorem dX1_comesAs_85 : decode cX1_comesAs 85 = .ok (.iconst 0, 1) := dk_3 (dk_at dksX1_comesAs_3 13 rfl rfl)
theorem dX1_comesAs_86 : decode cX1_comesAs 86 = .ok (.iaload, 1) := dk_46 (dk_at dksX1_comesAs_3 14 rfl rfl)
theorem dX1_comesAs_87 : decode cX1_comesAs 87 = .ok (.invokevirtual 94, 3) := dk_182 0 94 (dk_at dksX1_comesAs_3 15 rfl rfl)
theorem dX1_comesAs_90 : decode cX1_comesAs 90 = .ok (.ireturn, 1) := dk_172 (dk_at dksX1_comesAs_3 18 rfl rfl)
abbrev cX1_comesWork : ByteArray := prog_1_method_6_code
def yX1_comesWork : MethodName := ⟨RX1, "comesWork", "([I)Z"⟩
def dkwX1_comesWork_4 : List UInt8 := [89, 180, 0, 38, 4, 96, 181, 0, 38, 4, 172]
abbrev dktX1_comesWork_4 : List UInt8 := dkwX1_comesWork_4 ++ []
def dkwX1_comesWork_3 : List UInt8 := [180, 0, 52, 28, 43, 4, 46, 79, 42, 180, 0, 34, 180, 0, 55, 28, 43, 5, 46, 79, 42, 180, 0, 34]
abbrev dktX1_comesWork_3 : List UInt8 := dkwX1_comesWork_3 ++ dktX1_comesWork_4
def dkwX1_comesWork_2 : List UInt8 := [16, 59, 164, 0, 5, 3, 172, 42, 180, 0, 34, 180, 0, 48, 28, 43, 3, 46, 79, 42, 180, 0, 34]
abbrev dktX1_comesWork_2 : List UInt8 := dkwX1_comesWork_2 ++ dktX1_comesWork_3
def dkwX1_comesWork_1 : List UInt8 := [158, 0, 20, 43, 3, 46, 42, 180, 0, 34, 180, 0, 48, 28, 4, 100, 46, 164, 0, 11, 43, 4, 46]
abbrev dktX1_comesWork_1 : List UInt8 := dkwX1_comesWork_1 ++ dktX1_comesWork_2
def dkwX1_comesWork_0 : List UInt8 := [42, 180, 0, 34, 180, 0, 38, 61, 28, 8, 159, 0, 41, 43, 3, 46, 184, 0, 44, 153, 0, 32, 28]
abbrev dktX1_comesWork_0 : List UInt8 := dkwX1_comesWork_0 ++ dktX1_comesWork_1
theorem dksX1_comesWork_0 : cX1_comesWork.data.toList.drop 0 = dktX1_comesWork_0 := by decide +kernel
theorem dksX1_comesWork_1 : cX1_comesWork.data.toList.drop 23 = dktX1_comesWork_1 := dk_seg dksX1_comesWork_0 23 rfl rfl
theorem dksX1_comesWork_2 : cX1_comesWork.data.toList.drop 46 = dktX1_comesWork_2 := dk_seg dksX1_comesWork_1 23 rfl rfl
theorem dksX1_comesWork_3 : cX1_comesWork.data.toList.drop 69 = dktX1_comesWork_3 := dk_seg dksX1_comesWork_2 23 rfl rfl
theorem dksX1_comesWork_4 : cX1_comesWork.data.toList.drop 93 = dktX1_comesWork_4 := dk_seg dksX1_comesWork_3 24 rfl rfl
theorem dX1_comesWork_0 : decode cX1_comesWork 0 = .ok (.aload_n 0, 1) := dk_42 (dk_at dksX1_comesWork_0 0 rfl rfl)
theorem dX1_comesWork_1 : decode cX1_comesWork 1 = .ok (.getfield 34, 3) := dk_180 0 34 (dk_at dksX1_comesWork_0 1 rfl rfl)
theorem dX1_comesWork_4 : decode cX1_comesWork 4 = .ok (.getfield 38, 3) := dk_180 0 38 (dk_at dksX1_comesWork_0 4 rfl rfl)
theorem dX1_comesWork_7 : decode cX1_comesWork 7 = .ok (.istore_n 2, 1) := dk_61 (dk_at dksX1_comesWork_0 7 rfl rfl)
theorem dX1_comesWork_8 : decode cX1_comesWork 8 = .ok (.iload_n 2, 1) := dk_28 (dk_at dksX1_comesWork_0 8 rfl rfl)
theorem dX1_comesWork_9 : decode cX1_comesWork 9 = .ok (.iconst 5, 1) := dk_8 (dk_at dksX1_comesWork_0 9 rfl rfl)
theorem dX1_comesWork_10 : decode cX1_comesWork 10 = .ok (.if_icmp .eq 41, 3) := dk_159 0 41 (dk_at dksX1_comesWork_0 10 rfl rfl)
theorem dX1_comesWork_13 : decode cX1_comesWork 13 = .ok (.aload_n 1, 1) := dk_43 (dk_at dksX1_comesWork_0 13 rfl rfl)
theorem dX1_comesWork_14 : decode cX1_comesWork 14 = .ok (.iconst 0, 1) := dk_3 (dk_at dksX1_comesWork_0 14 rfl rfl)
theorem dX1_comesWork_15 : decode cX1_comesWork 15 = .ok (.iaload, 1) := dk_46 (dk_at dksX1_comesWork_0 15 rfl rfl)
theorem dX1_comesWork_16 : decode cX1_comesWork 16 = .ok (.invokestatic 44, 3) := dk_184 0 44 (dk_at dksX1_comesWork_0 16 rfl rfl)
theorem dX1_comesWork_19 : decode cX1_comesWork 19 = .ok (.ifCond .eq 32, 3) := dk_153 0 32 (dk_at dksX1_comesWork_0 19 rfl rfl)
theorem dX1_comesWork_22 : decode cX1_comesWork 22 = .ok (.iload_n 2, 1) := dk_28 (dk_at dksX1_comesWork_0 22 rfl rfl)
theorem dX1_comesWork_23 : decode cX1_comesWork 23 = .ok (.ifCond .le 20, 3) := dk_158 0 20 (dk_at dksX1_comesWork_1 0 rfl rfl)
theorem dX1_comesWork_26 : decode cX1_comesWork 26 = .ok (.aload_n 1, 1) := dk_43 (dk_at dksX1_comesWork_1 3 rfl rfl)
theorem dX1_comesWork_27 : decode cX1_comesWork 27 = .ok (.iconst 0, 1) := dk_3 (dk_at dksX1_comesWork_1 4 rfl rfl)
theorem dX1_comesWork_28 : decode cX1_comesWork 28 = .ok (.iaload, 1) := dk_46 (dk_at dksX1_comesWork_1 5 rfl rfl)
theorem dX1_comesWork_29 : decode cX1_comesWork 29 = .ok (.aload_n 0, 1) := dk_42 (dk_at dksX1_comesWork_1 6 rfl rfl)
theorem dX1_comesWork_30 : decode cX1_comesWork 30 = .ok (.getfield 34, 3) := dk_180 0 34 (dk_at dksX1_comesWork_1 7 rfl rfl)
theorem dX1_comesWork_33 : decode cX1_comesWork 33 = .ok (.getfield 48, 3) := dk_180 0 48 (dk_at dksX1_comesWork_1 10 rfl rfl)
theorem dX1_comesWork_36 : decode cX1_comesWork 36 = .ok (.iload_n 2, 1) := dk_28 (dk_at dksX1_comesWork_1 13 rfl rfl)
theorem dX1_comesWork_37 : decode cX1_comesWork 37 = .ok (.iconst 1, 1) := dk_4 (dk_at dksX1_comesWork_1 14 rfl rfl)
theorem dX1_comesWork_38 : decode cX1_comesWork 38 = .ok (.isub, 1) := dk_100 (dk_at dksX1_comesWork_1 15 rfl rfl)
theorem dX1_comesWork_39 : decode cX1_comesWork 39 = .ok (.iaload, 1) := dk_46 (dk_at dksX1_comesWork_1 16 rfl rfl)
theorem dX1_comesWork_40 : decode cX1_comesWork 40 = .ok (.if_icmp .le 11, 3) := dk_164 0 11 (dk_at dksX1_comesWork_1 17 rfl rfl)
theorem dX1_comesWork_43 : decode cX1_comesWork 43 = .ok (.aload_n 1, 1) := dk_43 (dk_at dksX1_comesWork_1 20 rfl rfl)
theorem dX1_comesWork_44 : decode cX1_comesWork 44 = .ok (.iconst 1, 1) := dk_4 (dk_at dksX1_comesWork_1 21 rfl rfl)
theorem dX1_comesWork_45 : decode cX1_comesWork 45 = .ok (.iaload, 1) := dk_46 (dk_at dksX1_comesWork_1 22 rfl rfl)
theorem dX1_comesWork_46 : decode cX1_comesWork 46 = .ok (.bipush 59, 2) := dk_16 59 (dk_at dksX1_comesWork_2 0 rfl rfl)
theorem dX1_comesWork_48 : decode cX1_comesWork 48 = .ok (.if_icmp .le 5, 3) := dk_164 0 5 (dk_at dksX1_comesWork_2 2 rfl rfl)
theorem dX1_comesWork_51 : decode cX1_comesWork 51 = .ok (.iconst 0, 1) := dk_3 (dk_at dksX1_comesWork_2 5 rfl rfl)
theorem dX1_comesWork_52 : decode cX1_comesWork 52 = .ok (.ireturn, 1) := dk_172 (dk_at dksX1_comesWork_2 6 rfl rfl)
theorem dX1_comesWork_53 : decode cX1_comesWork 53 = .ok (.aload_n 0, 1) := dk_42 (dk_at dksX1_comesWork_2 7 rfl rfl)
theorem dX1_comesWork_54 : decode cX1_comesWork 54 = .ok (.getfield 34, 3) := dk_180 0 34 (dk_at dksX1_comesWork_2 8 rfl rfl)
theorem dX1_comesWork_57 : decode cX1_comesWork 57 = .ok (.getfield 48, 3) := dk_180 0 48 (dk_at dksX1_comesWork_2 11 rfl rfl)
theorem dX1_comesWork_60 : decode cX1_comesWork 60 = .ok (.iload_n 2, 1) := dk_28 (dk_at dksX1_comesWork_2 14 rfl rfl)
theorem dX1_comesWork_61 : decode cX1_comesWork 61 = .ok (.aload_n 1, 1) := dk_43 (dk_at dksX1_comesWork_2 15 rfl rfl)
theorem dX1_comesWork_62 : decode cX1_comesWork 62 = .ok (.iconst 0, 1) := dk_3 (dk_at dksX1_comesWork_2 16 rfl rfl)
theorem dX1_comesWork_63 : decode cX1_comesWork 63 = .ok (.iaload, 1) := dk_46 (dk_at dksX1_comesWork_2 17 rfl rfl)
theorem dX1_comesWork_64 : decode cX1_comesWork 64 = .ok (.iastore, 1) := dk_79 (dk_at dksX1_comesWork_2 18 rfl rfl)
theorem dX1_comesWork_65 : decode cX1_comesWork 65 = .ok (.aload_n 0, 1) := dk_42 (dk_at dksX1_comesWork_2 19 rfl rfl)
theorem dX1_comesWork_66 : decode cX1_comesWork 66 = .ok (.getfield 34, 3) := dk_180 0 34 (dk_at dksX1_comesWork_2 20 rfl rfl)
theorem dX1_comesWork_69 : decode cX1_comesWork 69 = .ok (.getfield 52, 3) := dk_180 0 52 (dk_at dksX1_comesWork_3 0 rfl rfl)
theorem dX1_comesWork_72 : decode cX1_comesWork 72 = .ok (.iload_n 2, 1) := dk_28 (dk_at dksX1_comesWork_3 3 rfl rfl)
theorem dX1_comesWork_73 : decode cX1_comesWork 73 = .ok (.aload_n 1, 1) := dk_43 (dk_at dksX1_comesWork_3 4 rfl rfl)
theorem dX1_comesWork_74 : decode cX1_comesWork 74 = .ok (.iconst 1, 1) := dk_4 (dk_at dksX1_comesWork_3 5 rfl rfl)
theorem dX1_comesWork_75 : decode cX1_comesWork 75 = .ok (.iaload, 1) := dk_46 (dk_at dksX1_comesWork_3 6 rfl rfl)
theorem dX1_comesWork_76 : decode cX1_comesWork 76 = .ok (.iastore, 1) := dk_79 (dk_at dksX1_comesWork_3 7 rfl rfl)
theorem dX1_comesWork_77 : decode cX1_comesWork 77 = .ok (.aload_n 0, 1) := dk_42 (dk_at dksX1_comesWork_3 8 rfl rfl)
theorem dX1_comesWork_78 : decode cX1_comesWork 78 = .ok (.getfield 34, 3) := dk_180 0 34 (dk_at dksX1_comesWork_3 9 rfl rfl)
theorem dX1_comesWork_81 : decode cX1_comesWork 81 = .ok (.getfield 55, 3) := dk_180 0 55 (dk_at dksX1_comesWork_3 12 rfl rfl)
theorem dX1_comesWork_84 : decode cX1_comesWork 84 = .ok (.iload_n 2, 1) := dk_28 (dk_at dksX1_comesWork_3 15 rfl rfl)
theorem dX1_comesWork_85 : decode cX1_comesWork 85 = .ok (.aload_n 1, 1) := dk_43 (dk_at dksX1_comesWork_3 16 rfl rfl)
theorem dX1_comesWork_86 : decode cX1_comesWork 86 = .ok (.iconst 2, 1) := dk_5 (dk_at dksX1_comesWork_3 17 rfl rfl)
theorem dX1_comesWork_87 : decode cX1_comesWork 87 = .ok (.iaload, 1) := dk_46 (dk_at dksX1_comesWork_3 18 rfl rfl)
theorem dX1_comesWork_88 : decode cX1_comesWork 88 = .ok (.iastore, 1) := dk_79 (dk_at dksX1_comesWork_3 19 rfl rfl)
theorem dX1_comesWork_89 : decode cX1_comesWork 89 = .ok (.aload_n 0, 1) := dk_42 (dk_at dksX1_comesWork_3 20 rfl rfl)
theorem dX1_comesWork_90 : decode cX1_comesWork 90 = .ok (.getfield 34, 3) := dk_180 0 34 (dk_at dksX1_comesWork_3 21 rfl rfl)
theorem dX1_comesWork_93 : decode cX1_comesWork 93 = .ok (.dup, 1) := dk_89 (dk_at dksX1_comesWork_4 0 rfl rfl)
theorem dX1_comesWork_94 : decode cX1_comesWork 94 = .ok (.getfield 38, 3) := dk_180 0 38 (dk_at dksX1_comesWork_4 1 rfl rfl)
theorem dX1_comesWork_97 : decode cX1_comesWork 97 = .ok (.iconst 1, 1) := dk_4 (dk_at dksX1_comesWork_4 4 rfl rfl)
theorem dX1_comesWork_98 : decode cX1_comesWork 98 = .ok (.iadd, 1) := dk_96 (dk_at dksX1_comesWork_4 5 rfl rfl)
theorem dX1_comesWork_99 : decode cX1_comesWork 99 = .ok (.putfield 38, 3) := dk_181 0 38 (dk_at dksX1_comesWork_4 6 rfl rfl)
theorem dX1_comesWork_102 : decode cX1_comesWork 102 = .ok (.iconst 1, 1) := dk_4 (dk_at dksX1_comesWork_4 9 rfl rfl)
theorem dX1_comesWork_103 : decode cX1_comesWork 103 = .ok (.ireturn, 1) := dk_172 (dk_at dksX1_comesWork_4 10 rfl rfl)
abbrev cX1_isMinute : ByteArray := prog_1_method_2_code
def yX1_isMinute : MethodName := ⟨RX1, "isMinute", "(I)Z"⟩
def dkwX1_isMinute_0 : List UInt8 := [26, 3, 17, 2, 207, 184, 0, 3, 172]
abbrev dktX1_isMinute_0 : List UInt8 := dkwX1_isMinute_0 ++ []
theorem dksX1_isMinute_0 : cX1_isMinute.data.toList.drop 0 = dktX1_isMinute_0 := by decide +kernel
theorem dX1_isMinute_0 : decode cX1_isMinute 0 = .ok (.iload_n 0, 1) := dk_26 (dk_at dksX1_isMinute_0 0 rfl rfl)
theorem dX1_isMinute_1 : decode cX1_isMinute 1 = .ok (.iconst 0, 1) := dk_3 (dk_at dksX1_isMinute_0 1 rfl rfl)
theorem dX1_isMinute_2 : decode cX1_isMinute 2 = .ok (.sipush 719, 3) := dk_17 2 207 (dk_at dksX1_isMinute_0 2 rfl rfl)
theorem dX1_isMinute_5 : decode cX1_isMinute 5 = .ok (.invokestatic 3, 3) := dk_184 0 3 (dk_at dksX1_isMinute_0 5 rfl rfl)
theorem dX1_isMinute_8 : decode cX1_isMinute 8 = .ok (.ireturn, 1) := dk_172 (dk_at dksX1_isMinute_0 8 rfl rfl)
abbrev cX1_comesLooker : ByteArray := prog_1_method_7_code
def yX1_comesLooker : MethodName := ⟨RX1, "comesLooker", "([I)Z"⟩
def dkwX1_comesLooker_4 : List UInt8 := [181, 0, 58, 4, 172]
abbrev dktX1_comesLooker_4 : List UInt8 := dkwX1_comesLooker_4 ++ []
def dkwX1_comesLooker_3 : List UInt8 := [4, 46, 43, 5, 46, 43, 6, 46, 184, 0, 65, 83, 42, 180, 0, 34, 89, 180, 0, 58, 4, 96]
abbrev dktX1_comesLooker_3 : List UInt8 := dkwX1_comesLooker_3 ++ dktX1_comesLooker_4
def dkwX1_comesLooker_2 : List UInt8 := [180, 0, 34, 180, 0, 61, 42, 180, 0, 34, 180, 0, 58, 43, 3, 46, 42, 180, 0, 34, 180, 0, 58, 43]
abbrev dktX1_comesLooker_2 : List UInt8 := dkwX1_comesLooker_2 ++ dktX1_comesLooker_3
def dkwX1_comesLooker_1 : List UInt8 := [16, 236, 16, 20, 184, 0, 3, 153, 0, 12, 43, 6, 46, 184, 0, 44, 154, 0, 5, 3, 172, 42]
abbrev dktX1_comesLooker_1 : List UInt8 := dkwX1_comesLooker_1 ++ dktX1_comesLooker_2
def dkwX1_comesLooker_0 : List UInt8 := [42, 180, 0, 34, 180, 0, 58, 16, 6, 159, 0, 33, 43, 3, 46, 16, 8, 162, 0, 25, 43, 5, 46]
abbrev dktX1_comesLooker_0 : List UInt8 := dkwX1_comesLooker_0 ++ dktX1_comesLooker_1
theorem dksX1_comesLooker_0 : cX1_comesLooker.data.toList.drop 0 = dktX1_comesLooker_0 := by decide +kernel
theorem dksX1_comesLooker_1 : cX1_comesLooker.data.toList.drop 23 = dktX1_comesLooker_1 := dk_seg dksX1_comesLooker_0 23 rfl rfl
theorem dksX1_comesLooker_2 : cX1_comesLooker.data.toList.drop 45 = dktX1_comesLooker_2 := dk_seg dksX1_comesLooker_1 22 rfl rfl
theorem dksX1_comesLooker_3 : cX1_comesLooker.data.toList.drop 69 = dktX1_comesLooker_3 := dk_seg dksX1_comesLooker_2 24 rfl rfl
theorem dksX1_comesLooker_4 : cX1_comesLooker.data.toList.drop 91 = dktX1_comesLooker_4 := dk_seg dksX1_comesLooker_3 22 rfl rfl
theorem dX1_comesLooker_0 : decode cX1_comesLooker 0 = .ok (.aload_n 0, 1) := dk_42 (dk_at dksX1_comesLooker_0 0 rfl rfl)
theorem dX1_comesLooker_1 : decode cX1_comesLooker 1 = .ok (.getfield 34, 3) := dk_180 0 34 (dk_at dksX1_comesLooker_0 1 rfl rfl)
theorem dX1_comesLooker_4 : decode cX1_comesLooker 4 = .ok (.getfield 58, 3) := dk_180 0 58 (dk_at dksX1_comesLooker_0 4 rfl rfl)
theorem dX1_comesLooker_7 : decode cX1_comesLooker 7 = .ok (.bipush 6, 2) := dk_16 6 (dk_at dksX1_comesLooker_0 7 rfl rfl)
theorem dX1_comesLooker_9 : decode cX1_comesLooker 9 = .ok (.if_icmp .eq 33, 3) := dk_159 0 33 (dk_at dksX1_comesLooker_0 9 rfl rfl)
theorem dX1_comesLooker_12 : decode cX1_comesLooker 12 = .ok (.aload_n 1, 1) := dk_43 (dk_at dksX1_comesLooker_0 12 rfl rfl)
theorem dX1_comesLooker_13 : decode cX1_comesLooker 13 = .ok (.iconst 0, 1) := dk_3 (dk_at dksX1_comesLooker_0 13 rfl rfl)
theorem dX1_comesLooker_14 : decode cX1_comesLooker 14 = .ok (.iaload, 1) := dk_46 (dk_at dksX1_comesLooker_0 14 rfl rfl)
theorem dX1_comesLooker_15 : decode cX1_comesLooker 15 = .ok (.bipush 8, 2) := dk_16 8 (dk_at dksX1_comesLooker_0 15 rfl rfl)
theorem dX1_comesLooker_17 : decode cX1_comesLooker 17 = .ok (.if_icmp .ge 25, 3) := dk_162 0 25 (dk_at dksX1_comesLooker_0 17 rfl rfl)
theorem dX1_comesLooker_20 : decode cX1_comesLooker 20 = .ok (.aload_n 1, 1) := dk_43 (dk_at dksX1_comesLooker_0 20 rfl rfl)
theorem dX1_comesLooker_21 : decode cX1_comesLooker 21 = .ok (.iconst 2, 1) := dk_5 (dk_at dksX1_comesLooker_0 21 rfl rfl)
theorem dX1_comesLooker_22 : decode cX1_comesLooker 22 = .ok (.iaload, 1) := dk_46 (dk_at dksX1_comesLooker_0 22 rfl rfl)
theorem dX1_comesLooker_23 : decode cX1_comesLooker 23 = .ok (.bipush (-20), 2) := dk_16 236 (dk_at dksX1_comesLooker_1 0 rfl rfl)
theorem dX1_comesLooker_25 : decode cX1_comesLooker 25 = .ok (.bipush 20, 2) := dk_16 20 (dk_at dksX1_comesLooker_1 2 rfl rfl)
theorem dX1_comesLooker_27 : decode cX1_comesLooker 27 = .ok (.invokestatic 3, 3) := dk_184 0 3 (dk_at dksX1_comesLooker_1 4 rfl rfl)
theorem dX1_comesLooker_30 : decode cX1_comesLooker 30 = .ok (.ifCond .eq 12, 3) := dk_153 0 12 (dk_at dksX1_comesLooker_1 7 rfl rfl)
theorem dX1_comesLooker_33 : decode cX1_comesLooker 33 = .ok (.aload_n 1, 1) := dk_43 (dk_at dksX1_comesLooker_1 10 rfl rfl)
theorem dX1_comesLooker_34 : decode cX1_comesLooker 34 = .ok (.iconst 3, 1) := dk_6 (dk_at dksX1_comesLooker_1 11 rfl rfl)
theorem dX1_comesLooker_35 : decode cX1_comesLooker 35 = .ok (.iaload, 1) := dk_46 (dk_at dksX1_comesLooker_1 12 rfl rfl)
theorem dX1_comesLooker_36 : decode cX1_comesLooker 36 = .ok (.invokestatic 44, 3) := dk_184 0 44 (dk_at dksX1_comesLooker_1 13 rfl rfl)
theorem dX1_comesLooker_39 : decode cX1_comesLooker 39 = .ok (.ifCond .ne 5, 3) := dk_154 0 5 (dk_at dksX1_comesLooker_1 16 rfl rfl)
theorem dX1_comesLooker_42 : decode cX1_comesLooker 42 = .ok (.iconst 0, 1) := dk_3 (dk_at dksX1_comesLooker_1 19 rfl rfl)
theorem dX1_comesLooker_43 : decode cX1_comesLooker 43 = .ok (.ireturn, 1) := dk_172 (dk_at dksX1_comesLooker_1 20 rfl rfl)
theorem dX1_comesLooker_44 : decode cX1_comesLooker 44 = .ok (.aload_n 0, 1) := dk_42 (dk_at dksX1_comesLooker_1 21 rfl rfl)
theorem dX1_comesLooker_45 : decode cX1_comesLooker 45 = .ok (.getfield 34, 3) := dk_180 0 34 (dk_at dksX1_comesLooker_2 0 rfl rfl)
theorem dX1_comesLooker_48 : decode cX1_comesLooker 48 = .ok (.getfield 61, 3) := dk_180 0 61 (dk_at dksX1_comesLooker_2 3 rfl rfl)
theorem dX1_comesLooker_51 : decode cX1_comesLooker 51 = .ok (.aload_n 0, 1) := dk_42 (dk_at dksX1_comesLooker_2 6 rfl rfl)
theorem dX1_comesLooker_52 : decode cX1_comesLooker 52 = .ok (.getfield 34, 3) := dk_180 0 34 (dk_at dksX1_comesLooker_2 7 rfl rfl)
theorem dX1_comesLooker_55 : decode cX1_comesLooker 55 = .ok (.getfield 58, 3) := dk_180 0 58 (dk_at dksX1_comesLooker_2 10 rfl rfl)
theorem dX1_comesLooker_58 : decode cX1_comesLooker 58 = .ok (.aload_n 1, 1) := dk_43 (dk_at dksX1_comesLooker_2 13 rfl rfl)
theorem dX1_comesLooker_59 : decode cX1_comesLooker 59 = .ok (.iconst 0, 1) := dk_3 (dk_at dksX1_comesLooker_2 14 rfl rfl)
theorem dX1_comesLooker_60 : decode cX1_comesLooker 60 = .ok (.iaload, 1) := dk_46 (dk_at dksX1_comesLooker_2 15 rfl rfl)
theorem dX1_comesLooker_61 : decode cX1_comesLooker 61 = .ok (.aload_n 0, 1) := dk_42 (dk_at dksX1_comesLooker_2 16 rfl rfl)
theorem dX1_comesLooker_62 : decode cX1_comesLooker 62 = .ok (.getfield 34, 3) := dk_180 0 34 (dk_at dksX1_comesLooker_2 17 rfl rfl)
theorem dX1_comesLooker_65 : decode cX1_comesLooker 65 = .ok (.getfield 58, 3) := dk_180 0 58 (dk_at dksX1_comesLooker_2 20 rfl rfl)
theorem dX1_comesLooker_68 : decode cX1_comesLooker 68 = .ok (.aload_n 1, 1) := dk_43 (dk_at dksX1_comesLooker_2 23 rfl rfl)
theorem dX1_comesLooker_69 : decode cX1_comesLooker 69 = .ok (.iconst 1, 1) := dk_4 (dk_at dksX1_comesLooker_3 0 rfl rfl)
theorem dX1_comesLooker_70 : decode cX1_comesLooker 70 = .ok (.iaload, 1) := dk_46 (dk_at dksX1_comesLooker_3 1 rfl rfl)
theorem dX1_comesLooker_71 : decode cX1_comesLooker 71 = .ok (.aload_n 1, 1) := dk_43 (dk_at dksX1_comesLooker_3 2 rfl rfl)
theorem dX1_comesLooker_72 : decode cX1_comesLooker 72 = .ok (.iconst 2, 1) := dk_5 (dk_at dksX1_comesLooker_3 3 rfl rfl)
theorem dX1_comesLooker_73 : decode cX1_comesLooker 73 = .ok (.iaload, 1) := dk_46 (dk_at dksX1_comesLooker_3 4 rfl rfl)
theorem dX1_comesLooker_74 : decode cX1_comesLooker 74 = .ok (.aload_n 1, 1) := dk_43 (dk_at dksX1_comesLooker_3 5 rfl rfl)
theorem dX1_comesLooker_75 : decode cX1_comesLooker 75 = .ok (.iconst 3, 1) := dk_6 (dk_at dksX1_comesLooker_3 6 rfl rfl)
theorem dX1_comesLooker_76 : decode cX1_comesLooker 76 = .ok (.iaload, 1) := dk_46 (dk_at dksX1_comesLooker_3 7 rfl rfl)
theorem dX1_comesLooker_77 : decode cX1_comesLooker 77 = .ok (.invokestatic 65, 3) := dk_184 0 65 (dk_at dksX1_comesLooker_3 8 rfl rfl)
theorem dX1_comesLooker_80 : decode cX1_comesLooker 80 = .ok (.aastore, 1) := dk_83 (dk_at dksX1_comesLooker_3 11 rfl rfl)
theorem dX1_comesLooker_81 : decode cX1_comesLooker 81 = .ok (.aload_n 0, 1) := dk_42 (dk_at dksX1_comesLooker_3 12 rfl rfl)
theorem dX1_comesLooker_82 : decode cX1_comesLooker 82 = .ok (.getfield 34, 3) := dk_180 0 34 (dk_at dksX1_comesLooker_3 13 rfl rfl)
theorem dX1_comesLooker_85 : decode cX1_comesLooker 85 = .ok (.dup, 1) := dk_89 (dk_at dksX1_comesLooker_3 16 rfl rfl)
theorem dX1_comesLooker_86 : decode cX1_comesLooker 86 = .ok (.getfield 58, 3) := dk_180 0 58 (dk_at dksX1_comesLooker_3 17 rfl rfl)
theorem dX1_comesLooker_89 : decode cX1_comesLooker 89 = .ok (.iconst 1, 1) := dk_4 (dk_at dksX1_comesLooker_3 20 rfl rfl)
theorem dX1_comesLooker_90 : decode cX1_comesLooker 90 = .ok (.iadd, 1) := dk_96 (dk_at dksX1_comesLooker_3 21 rfl rfl)
theorem dX1_comesLooker_91 : decode cX1_comesLooker 91 = .ok (.putfield 58, 3) := dk_181 0 58 (dk_at dksX1_comesLooker_4 0 rfl rfl)
theorem dX1_comesLooker_94 : decode cX1_comesLooker 94 = .ok (.iconst 1, 1) := dk_4 (dk_at dksX1_comesLooker_4 3 rfl rfl)
theorem dX1_comesLooker_95 : decode cX1_comesLooker 95 = .ok (.ireturn, 1) := dk_172 (dk_at dksX1_comesLooker_4 4 rfl rfl)
abbrev cX1_lookerOf : ByteArray := prog_1_method_5_code
def yX1_lookerOf : MethodName := ⟨RX1, "lookerOf", "(IIIII)LLookAtClock$Looker;"⟩
def dkwX1_lookerOf_6 : List UInt8 := [89, 27, 28, 29, 21, 4, 183, 0, 33, 176]
abbrev dktX1_lookerOf_6 : List UInt8 := dkwX1_lookerOf_6 ++ []
def dkwX1_lookerOf_5 : List UInt8 := [28, 29, 21, 4, 183, 0, 27, 176, 187, 0, 28, 89, 27, 28, 29, 21, 4, 183, 0, 30, 176, 187, 0, 31]
abbrev dktX1_lookerOf_5 : List UInt8 := dkwX1_lookerOf_5 ++ dktX1_lookerOf_6
def dkwX1_lookerOf_4 : List UInt8 := [21, 4, 183, 0, 21, 176, 187, 0, 22, 89, 27, 28, 29, 21, 4, 183, 0, 24, 176, 187, 0, 25, 89, 27]
abbrev dktX1_lookerOf_4 : List UInt8 := dkwX1_lookerOf_4 ++ dktX1_lookerOf_5
def dkwX1_lookerOf_3 : List UInt8 := [183, 0, 15, 176, 187, 0, 16, 89, 27, 28, 29, 21, 4, 183, 0, 18, 176, 187, 0, 19, 89, 27, 28, 29]
abbrev dktX1_lookerOf_3 : List UInt8 := dkwX1_lookerOf_3 ++ dktX1_lookerOf_4
def dkwX1_lookerOf_2 : List UInt8 := [187, 0, 7, 89, 27, 28, 29, 21, 4, 183, 0, 9, 176, 187, 0, 13, 89, 27, 28, 29, 21, 4]
abbrev dktX1_lookerOf_2 : List UInt8 := dkwX1_lookerOf_2 ++ dktX1_lookerOf_3
def dkwX1_lookerOf_1 : List UInt8 := [170, 0, 0, 0, 0, 0, 134, 0, 0, 0, 0, 0, 0, 0, 6, 0, 0, 0, 43, 0, 0, 0, 56, 0, 0, 0, 69, 0, 0, 0, 82, 0, 0, 0, 95, 0, 0, 0, 108, 0, 0, 0, 121]
abbrev dktX1_lookerOf_1 : List UInt8 := dkwX1_lookerOf_1 ++ dktX1_lookerOf_2
def dkwX1_lookerOf_0 : List UInt8 := [26]
abbrev dktX1_lookerOf_0 : List UInt8 := dkwX1_lookerOf_0 ++ dktX1_lookerOf_1
theorem dksX1_lookerOf_0 : cX1_lookerOf.data.toList.drop 0 = dktX1_lookerOf_0 := by decide +kernel
theorem dksX1_lookerOf_1 : cX1_lookerOf.data.toList.drop 1 = dktX1_lookerOf_1 := dk_seg dksX1_lookerOf_0 1 rfl rfl
theorem dksX1_lookerOf_2 : cX1_lookerOf.data.toList.drop 44 = dktX1_lookerOf_2 := dk_seg dksX1_lookerOf_1 43 rfl rfl
theorem dksX1_lookerOf_3 : cX1_lookerOf.data.toList.drop 66 = dktX1_lookerOf_3 := dk_seg dksX1_lookerOf_2 22 rfl rfl
theorem dksX1_lookerOf_4 : cX1_lookerOf.data.toList.drop 90 = dktX1_lookerOf_4 := dk_seg dksX1_lookerOf_3 24 rfl rfl
theorem dksX1_lookerOf_5 : cX1_lookerOf.data.toList.drop 114 = dktX1_lookerOf_5 := dk_seg dksX1_lookerOf_4 24 rfl rfl
theorem dksX1_lookerOf_6 : cX1_lookerOf.data.toList.drop 138 = dktX1_lookerOf_6 := dk_seg dksX1_lookerOf_5 24 rfl rfl
theorem dX1_lookerOf_0 : decode cX1_lookerOf 0 = .ok (.iload_n 0, 1) := dk_26 (dk_at dksX1_lookerOf_0 0 rfl rfl)
theorem dX1_lookerOf_1 : decode cX1_lookerOf 1 = .ok (.tableswitch 134 0 6 #[43, 56, 69, 82, 95, 108, 121], 43) := by decide +kernel
theorem dX1_lookerOf_44 : decode cX1_lookerOf 44 = .ok (.new 7, 3) := dk_187 0 7 (dk_at dksX1_lookerOf_2 0 rfl rfl)
theorem dX1_lookerOf_47 : decode cX1_lookerOf 47 = .ok (.dup, 1) := dk_89 (dk_at dksX1_lookerOf_2 3 rfl rfl)
theorem dX1_lookerOf_48 : decode cX1_lookerOf 48 = .ok (.iload_n 1, 1) := dk_27 (dk_at dksX1_lookerOf_2 4 rfl rfl)
theorem dX1_lookerOf_49 : decode cX1_lookerOf 49 = .ok (.iload_n 2, 1) := dk_28 (dk_at dksX1_lookerOf_2 5 rfl rfl)
theorem dX1_lookerOf_50 : decode cX1_lookerOf 50 = .ok (.iload_n 3, 1) := dk_29 (dk_at dksX1_lookerOf_2 6 rfl rfl)
theorem dX1_lookerOf_51 : decode cX1_lookerOf 51 = .ok (.iload 4, 2) := dk_21 4 (dk_at dksX1_lookerOf_2 7 rfl rfl)
theorem dX1_lookerOf_53 : decode cX1_lookerOf 53 = .ok (.invokespecial 9, 3) := dk_183 0 9 (dk_at dksX1_lookerOf_2 9 rfl rfl)
theorem dX1_lookerOf_56 : decode cX1_lookerOf 56 = .ok (.areturn, 1) := dk_176 (dk_at dksX1_lookerOf_2 12 rfl rfl)
theorem dX1_lookerOf_57 : decode cX1_lookerOf 57 = .ok (.new 13, 3) := dk_187 0 13 (dk_at dksX1_lookerOf_2 13 rfl rfl)
theorem dX1_lookerOf_60 : decode cX1_lookerOf 60 = .ok (.dup, 1) := dk_89 (dk_at dksX1_lookerOf_2 16 rfl rfl)
theorem dX1_lookerOf_61 : decode cX1_lookerOf 61 = .ok (.iload_n 1, 1) := dk_27 (dk_at dksX1_lookerOf_2 17 rfl rfl)
theorem dX1_lookerOf_62 : decode cX1_lookerOf 62 = .ok (.iload_n 2, 1) := dk_28 (dk_at dksX1_lookerOf_2 18 rfl rfl)
theorem dX1_lookerOf_63 : decode cX1_lookerOf 63 = .ok (.iload_n 3, 1) := dk_29 (dk_at dksX1_lookerOf_2 19 rfl rfl)
theorem dX1_lookerOf_64 : decode cX1_lookerOf 64 = .ok (.iload 4, 2) := dk_21 4 (dk_at dksX1_lookerOf_2 20 rfl rfl)
theorem dX1_lookerOf_66 : decode cX1_lookerOf 66 = .ok (.invokespecial 15, 3) := dk_183 0 15 (dk_at dksX1_lookerOf_3 0 rfl rfl)
theorem dX1_lookerOf_69 : decode cX1_lookerOf 69 = .ok (.areturn, 1) := dk_176 (dk_at dksX1_lookerOf_3 3 rfl rfl)
theorem dX1_lookerOf_70 : decode cX1_lookerOf 70 = .ok (.new 16, 3) := dk_187 0 16 (dk_at dksX1_lookerOf_3 4 rfl rfl)
theorem dX1_lookerOf_73 : decode cX1_lookerOf 73 = .ok (.dup, 1) := dk_89 (dk_at dksX1_lookerOf_3 7 rfl rfl)
theorem dX1_lookerOf_74 : decode cX1_lookerOf 74 = .ok (.iload_n 1, 1) := dk_27 (dk_at dksX1_lookerOf_3 8 rfl rfl)
theorem dX1_lookerOf_75 : decode cX1_lookerOf 75 = .ok (.iload_n 2, 1) := dk_28 (dk_at dksX1_lookerOf_3 9 rfl rfl)
theorem dX1_lookerOf_76 : decode cX1_lookerOf 76 = .ok (.iload_n 3, 1) := dk_29 (dk_at dksX1_lookerOf_3 10 rfl rfl)
theorem dX1_lookerOf_77 : decode cX1_lookerOf 77 = .ok (.iload 4, 2) := dk_21 4 (dk_at dksX1_lookerOf_3 11 rfl rfl)
theorem dX1_lookerOf_79 : decode cX1_lookerOf 79 = .ok (.invokespecial 18, 3) := dk_183 0 18 (dk_at dksX1_lookerOf_3 13 rfl rfl)
theorem dX1_lookerOf_82 : decode cX1_lookerOf 82 = .ok (.areturn, 1) := dk_176 (dk_at dksX1_lookerOf_3 16 rfl rfl)
theorem dX1_lookerOf_83 : decode cX1_lookerOf 83 = .ok (.new 19, 3) := dk_187 0 19 (dk_at dksX1_lookerOf_3 17 rfl rfl)
theorem dX1_lookerOf_86 : decode cX1_lookerOf 86 = .ok (.dup, 1) := dk_89 (dk_at dksX1_lookerOf_3 20 rfl rfl)
theorem dX1_lookerOf_87 : decode cX1_lookerOf 87 = .ok (.iload_n 1, 1) := dk_27 (dk_at dksX1_lookerOf_3 21 rfl rfl)
theorem dX1_lookerOf_88 : decode cX1_lookerOf 88 = .ok (.iload_n 2, 1) := dk_28 (dk_at dksX1_lookerOf_3 22 rfl rfl)
theorem dX1_lookerOf_89 : decode cX1_lookerOf 89 = .ok (.iload_n 3, 1) := dk_29 (dk_at dksX1_lookerOf_3 23 rfl rfl)
theorem dX1_lookerOf_90 : decode cX1_lookerOf 90 = .ok (.iload 4, 2) := dk_21 4 (dk_at dksX1_lookerOf_4 0 rfl rfl)
theorem dX1_lookerOf_92 : decode cX1_lookerOf 92 = .ok (.invokespecial 21, 3) := dk_183 0 21 (dk_at dksX1_lookerOf_4 2 rfl rfl)
theorem dX1_lookerOf_95 : decode cX1_lookerOf 95 = .ok (.areturn, 1) := dk_176 (dk_at dksX1_lookerOf_4 5 rfl rfl)
theorem dX1_lookerOf_96 : decode cX1_lookerOf 96 = .ok (.new 22, 3) := dk_187 0 22 (dk_at dksX1_lookerOf_4 6 rfl rfl)
theorem dX1_lookerOf_99 : decode cX1_lookerOf 99 = .ok (.dup, 1) := dk_89 (dk_at dksX1_lookerOf_4 9 rfl rfl)
theorem dX1_lookerOf_100 : decode cX1_lookerOf 100 = .ok (.iload_n 1, 1) := dk_27 (dk_at dksX1_lookerOf_4 10 rfl rfl)
theorem dX1_lookerOf_101 : decode cX1_lookerOf 101 = .ok (.iload_n 2, 1) := dk_28 (dk_at dksX1_lookerOf_4 11 rfl rfl)
theorem dX1_lookerOf_102 : decode cX1_lookerOf 102 = .ok (.iload_n 3, 1) := dk_29 (dk_at dksX1_lookerOf_4 12 rfl rfl)
theorem dX1_lookerOf_103 : decode cX1_lookerOf 103 = .ok (.iload 4, 2) := dk_21 4 (dk_at dksX1_lookerOf_4 13 rfl rfl)
theorem dX1_lookerOf_105 : decode cX1_lookerOf 105 = .ok (.invokespecial 24, 3) := dk_183 0 24 (dk_at dksX1_lookerOf_4 15 rfl rfl)
theorem dX1_lookerOf_108 : decode cX1_lookerOf 108 = .ok (.areturn, 1) := dk_176 (dk_at dksX1_lookerOf_4 18 rfl rfl)
theorem dX1_lookerOf_109 : decode cX1_lookerOf 109 = .ok (.new 25, 3) := dk_187 0 25 (dk_at dksX1_lookerOf_4 19 rfl rfl)
theorem dX1_lookerOf_112 : decode cX1_lookerOf 112 = .ok (.dup, 1) := dk_89 (dk_at dksX1_lookerOf_4 22 rfl rfl)
theorem dX1_lookerOf_113 : decode cX1_lookerOf 113 = .ok (.iload_n 1, 1) := dk_27 (dk_at dksX1_lookerOf_4 23 rfl rfl)
theorem dX1_lookerOf_114 : decode cX1_lookerOf 114 = .ok (.iload_n 2, 1) := dk_28 (dk_at dksX1_lookerOf_5 0 rfl rfl)
theorem dX1_lookerOf_115 : decode cX1_lookerOf 115 = .ok (.iload_n 3, 1) := dk_29 (dk_at dksX1_lookerOf_5 1 rfl rfl)
theorem dX1_lookerOf_116 : decode cX1_lookerOf 116 = .ok (.iload 4, 2) := dk_21 4 (dk_at dksX1_lookerOf_5 2 rfl rfl)
theorem dX1_lookerOf_118 : decode cX1_lookerOf 118 = .ok (.invokespecial 27, 3) := dk_183 0 27 (dk_at dksX1_lookerOf_5 4 rfl rfl)
theorem dX1_lookerOf_121 : decode cX1_lookerOf 121 = .ok (.areturn, 1) := dk_176 (dk_at dksX1_lookerOf_5 7 rfl rfl)
theorem dX1_lookerOf_122 : decode cX1_lookerOf 122 = .ok (.new 28, 3) := dk_187 0 28 (dk_at dksX1_lookerOf_5 8 rfl rfl)
theorem dX1_lookerOf_125 : decode cX1_lookerOf 125 = .ok (.dup, 1) := dk_89 (dk_at dksX1_lookerOf_5 11 rfl rfl)
theorem dX1_lookerOf_126 : decode cX1_lookerOf 126 = .ok (.iload_n 1, 1) := dk_27 (dk_at dksX1_lookerOf_5 12 rfl rfl)
theorem dX1_lookerOf_127 : decode cX1_lookerOf 127 = .ok (.iload_n 2, 1) := dk_28 (dk_at dksX1_lookerOf_5 13 rfl rfl)
theorem dX1_lookerOf_128 : decode cX1_lookerOf 128 = .ok (.iload_n 3, 1) := dk_29 (dk_at dksX1_lookerOf_5 14 rfl rfl)
theorem dX1_lookerOf_129 : decode cX1_lookerOf 129 = .ok (.iload 4, 2) := dk_21 4 (dk_at dksX1_lookerOf_5 15 rfl rfl)
theorem dX1_lookerOf_131 : decode cX1_lookerOf 131 = .ok (.invokespecial 30, 3) := dk_183 0 30 (dk_at dksX1_lookerOf_5 17 rfl rfl)
theorem dX1_lookerOf_134 : decode cX1_lookerOf 134 = .ok (.areturn, 1) := dk_176 (dk_at dksX1_lookerOf_5 20 rfl rfl)
theorem dX1_lookerOf_135 : decode cX1_lookerOf 135 = .ok (.new 31, 3) := dk_187 0 31 (dk_at dksX1_lookerOf_5 21 rfl rfl)
theorem dX1_lookerOf_138 : decode cX1_lookerOf 138 = .ok (.dup, 1) := dk_89 (dk_at dksX1_lookerOf_6 0 rfl rfl)
theorem dX1_lookerOf_139 : decode cX1_lookerOf 139 = .ok (.iload_n 1, 1) := dk_27 (dk_at dksX1_lookerOf_6 1 rfl rfl)
theorem dX1_lookerOf_140 : decode cX1_lookerOf 140 = .ok (.iload_n 2, 1) := dk_28 (dk_at dksX1_lookerOf_6 2 rfl rfl)
theorem dX1_lookerOf_141 : decode cX1_lookerOf 141 = .ok (.iload_n 3, 1) := dk_29 (dk_at dksX1_lookerOf_6 3 rfl rfl)
theorem dX1_lookerOf_142 : decode cX1_lookerOf 142 = .ok (.iload 4, 2) := dk_21 4 (dk_at dksX1_lookerOf_6 4 rfl rfl)
theorem dX1_lookerOf_144 : decode cX1_lookerOf 144 = .ok (.invokespecial 33, 3) := dk_183 0 33 (dk_at dksX1_lookerOf_6 6 rfl rfl)
theorem dX1_lookerOf_147 : decode cX1_lookerOf 147 = .ok (.areturn, 1) := dk_176 (dk_at dksX1_lookerOf_6 9 rfl rfl)
abbrev cX1_comesPlan : ByteArray := prog_1_method_8_code
def yX1_comesPlan : MethodName := ⟨RX1, "comesPlan", "(I)Z"⟩
def dkwX1_comesPlan_3 : List UInt8 := [180, 0, 34, 89, 180, 0, 69, 4, 96, 181, 0, 69, 4, 172]
abbrev dktX1_comesPlan_3 : List UInt8 := dkwX1_comesPlan_3 ++ []
def dkwX1_comesPlan_2 : List UInt8 := [163, 0, 5, 3, 172, 42, 180, 0, 34, 180, 0, 72, 42, 180, 0, 34, 180, 0, 69, 27, 79, 42]
abbrev dktX1_comesPlan_2 : List UInt8 := dkwX1_comesPlan_2 ++ dktX1_comesPlan_3
def dkwX1_comesPlan_1 : List UInt8 := [180, 0, 69, 158, 0, 26, 27, 42, 180, 0, 34, 180, 0, 72, 42, 180, 0, 34, 180, 0, 69, 4, 100, 46]
abbrev dktX1_comesPlan_1 : List UInt8 := dkwX1_comesPlan_1 ++ dktX1_comesPlan_2
def dkwX1_comesPlan_0 : List UInt8 := [42, 180, 0, 34, 180, 0, 69, 16, 8, 159, 0, 41, 27, 184, 0, 44, 153, 0, 34, 42, 180, 0, 34]
abbrev dktX1_comesPlan_0 : List UInt8 := dkwX1_comesPlan_0 ++ dktX1_comesPlan_1
theorem dksX1_comesPlan_0 : cX1_comesPlan.data.toList.drop 0 = dktX1_comesPlan_0 := by decide +kernel
theorem dksX1_comesPlan_1 : cX1_comesPlan.data.toList.drop 23 = dktX1_comesPlan_1 := dk_seg dksX1_comesPlan_0 23 rfl rfl
theorem dksX1_comesPlan_2 : cX1_comesPlan.data.toList.drop 47 = dktX1_comesPlan_2 := dk_seg dksX1_comesPlan_1 24 rfl rfl
theorem dksX1_comesPlan_3 : cX1_comesPlan.data.toList.drop 69 = dktX1_comesPlan_3 := dk_seg dksX1_comesPlan_2 22 rfl rfl
theorem dX1_comesPlan_0 : decode cX1_comesPlan 0 = .ok (.aload_n 0, 1) := dk_42 (dk_at dksX1_comesPlan_0 0 rfl rfl)
theorem dX1_comesPlan_1 : decode cX1_comesPlan 1 = .ok (.getfield 34, 3) := dk_180 0 34 (dk_at dksX1_comesPlan_0 1 rfl rfl)
theorem dX1_comesPlan_4 : decode cX1_comesPlan 4 = .ok (.getfield 69, 3) := dk_180 0 69 (dk_at dksX1_comesPlan_0 4 rfl rfl)
theorem dX1_comesPlan_7 : decode cX1_comesPlan 7 = .ok (.bipush 8, 2) := dk_16 8 (dk_at dksX1_comesPlan_0 7 rfl rfl)
theorem dX1_comesPlan_9 : decode cX1_comesPlan 9 = .ok (.if_icmp .eq 41, 3) := dk_159 0 41 (dk_at dksX1_comesPlan_0 9 rfl rfl)
theorem dX1_comesPlan_12 : decode cX1_comesPlan 12 = .ok (.iload_n 1, 1) := dk_27 (dk_at dksX1_comesPlan_0 12 rfl rfl)
theorem dX1_comesPlan_13 : decode cX1_comesPlan 13 = .ok (.invokestatic 44, 3) := dk_184 0 44 (dk_at dksX1_comesPlan_0 13 rfl rfl)
theorem dX1_comesPlan_16 : decode cX1_comesPlan 16 = .ok (.ifCond .eq 34, 3) := dk_153 0 34 (dk_at dksX1_comesPlan_0 16 rfl rfl)
theorem dX1_comesPlan_19 : decode cX1_comesPlan 19 = .ok (.aload_n 0, 1) := dk_42 (dk_at dksX1_comesPlan_0 19 rfl rfl)
theorem dX1_comesPlan_20 : decode cX1_comesPlan 20 = .ok (.getfield 34, 3) := dk_180 0 34 (dk_at dksX1_comesPlan_0 20 rfl rfl)
theorem dX1_comesPlan_23 : decode cX1_comesPlan 23 = .ok (.getfield 69, 3) := dk_180 0 69 (dk_at dksX1_comesPlan_1 0 rfl rfl)
theorem dX1_comesPlan_26 : decode cX1_comesPlan 26 = .ok (.ifCond .le 26, 3) := dk_158 0 26 (dk_at dksX1_comesPlan_1 3 rfl rfl)
theorem dX1_comesPlan_29 : decode cX1_comesPlan 29 = .ok (.iload_n 1, 1) := dk_27 (dk_at dksX1_comesPlan_1 6 rfl rfl)
theorem dX1_comesPlan_30 : decode cX1_comesPlan 30 = .ok (.aload_n 0, 1) := dk_42 (dk_at dksX1_comesPlan_1 7 rfl rfl)
theorem dX1_comesPlan_31 : decode cX1_comesPlan 31 = .ok (.getfield 34, 3) := dk_180 0 34 (dk_at dksX1_comesPlan_1 8 rfl rfl)
theorem dX1_comesPlan_34 : decode cX1_comesPlan 34 = .ok (.getfield 72, 3) := dk_180 0 72 (dk_at dksX1_comesPlan_1 11 rfl rfl)
theorem dX1_comesPlan_37 : decode cX1_comesPlan 37 = .ok (.aload_n 0, 1) := dk_42 (dk_at dksX1_comesPlan_1 14 rfl rfl)
theorem dX1_comesPlan_38 : decode cX1_comesPlan 38 = .ok (.getfield 34, 3) := dk_180 0 34 (dk_at dksX1_comesPlan_1 15 rfl rfl)
theorem dX1_comesPlan_41 : decode cX1_comesPlan 41 = .ok (.getfield 69, 3) := dk_180 0 69 (dk_at dksX1_comesPlan_1 18 rfl rfl)
theorem dX1_comesPlan_44 : decode cX1_comesPlan 44 = .ok (.iconst 1, 1) := dk_4 (dk_at dksX1_comesPlan_1 21 rfl rfl)
theorem dX1_comesPlan_45 : decode cX1_comesPlan 45 = .ok (.isub, 1) := dk_100 (dk_at dksX1_comesPlan_1 22 rfl rfl)
theorem dX1_comesPlan_46 : decode cX1_comesPlan 46 = .ok (.iaload, 1) := dk_46 (dk_at dksX1_comesPlan_1 23 rfl rfl)
theorem dX1_comesPlan_47 : decode cX1_comesPlan 47 = .ok (.if_icmp .gt 5, 3) := dk_163 0 5 (dk_at dksX1_comesPlan_2 0 rfl rfl)
theorem dX1_comesPlan_50 : decode cX1_comesPlan 50 = .ok (.iconst 0, 1) := dk_3 (dk_at dksX1_comesPlan_2 3 rfl rfl)
theorem dX1_comesPlan_51 : decode cX1_comesPlan 51 = .ok (.ireturn, 1) := dk_172 (dk_at dksX1_comesPlan_2 4 rfl rfl)
theorem dX1_comesPlan_52 : decode cX1_comesPlan 52 = .ok (.aload_n 0, 1) := dk_42 (dk_at dksX1_comesPlan_2 5 rfl rfl)
theorem dX1_comesPlan_53 : decode cX1_comesPlan 53 = .ok (.getfield 34, 3) := dk_180 0 34 (dk_at dksX1_comesPlan_2 6 rfl rfl)
theorem dX1_comesPlan_56 : decode cX1_comesPlan 56 = .ok (.getfield 72, 3) := dk_180 0 72 (dk_at dksX1_comesPlan_2 9 rfl rfl)
theorem dX1_comesPlan_59 : decode cX1_comesPlan 59 = .ok (.aload_n 0, 1) := dk_42 (dk_at dksX1_comesPlan_2 12 rfl rfl)
theorem dX1_comesPlan_60 : decode cX1_comesPlan 60 = .ok (.getfield 34, 3) := dk_180 0 34 (dk_at dksX1_comesPlan_2 13 rfl rfl)
theorem dX1_comesPlan_63 : decode cX1_comesPlan 63 = .ok (.getfield 69, 3) := dk_180 0 69 (dk_at dksX1_comesPlan_2 16 rfl rfl)
theorem dX1_comesPlan_66 : decode cX1_comesPlan 66 = .ok (.iload_n 1, 1) := dk_27 (dk_at dksX1_comesPlan_2 19 rfl rfl)
theorem dX1_comesPlan_67 : decode cX1_comesPlan 67 = .ok (.iastore, 1) := dk_79 (dk_at dksX1_comesPlan_2 20 rfl rfl)
theorem dX1_comesPlan_68 : decode cX1_comesPlan 68 = .ok (.aload_n 0, 1) := dk_42 (dk_at dksX1_comesPlan_2 21 rfl rfl)
theorem dX1_comesPlan_69 : decode cX1_comesPlan 69 = .ok (.getfield 34, 3) := dk_180 0 34 (dk_at dksX1_comesPlan_3 0 rfl rfl)
theorem dX1_comesPlan_72 : decode cX1_comesPlan 72 = .ok (.dup, 1) := dk_89 (dk_at dksX1_comesPlan_3 3 rfl rfl)
theorem dX1_comesPlan_73 : decode cX1_comesPlan 73 = .ok (.getfield 69, 3) := dk_180 0 69 (dk_at dksX1_comesPlan_3 4 rfl rfl)
theorem dX1_comesPlan_76 : decode cX1_comesPlan 76 = .ok (.iconst 1, 1) := dk_4 (dk_at dksX1_comesPlan_3 7 rfl rfl)
theorem dX1_comesPlan_77 : decode cX1_comesPlan 77 = .ok (.iadd, 1) := dk_96 (dk_at dksX1_comesPlan_3 8 rfl rfl)
theorem dX1_comesPlan_78 : decode cX1_comesPlan 78 = .ok (.putfield 69, 3) := dk_181 0 69 (dk_at dksX1_comesPlan_3 9 rfl rfl)
theorem dX1_comesPlan_81 : decode cX1_comesPlan 81 = .ok (.iconst 1, 1) := dk_4 (dk_at dksX1_comesPlan_3 12 rfl rfl)
theorem dX1_comesPlan_82 : decode cX1_comesPlan 82 = .ok (.ireturn, 1) := dk_172 (dk_at dksX1_comesPlan_3 13 rfl rfl)
abbrev cX1_price : ByteArray := prog_1_method_12_code
def yX1_price : MethodName := ⟨RX1, "price", "(I)I"⟩
def dkwX1_price_0 : List UInt8 := [27, 184, 0, 44, 153, 0, 17, 42, 180, 0, 34, 180, 0, 91, 27, 184, 0, 146, 167, 0, 4, 2, 172]
abbrev dktX1_price_0 : List UInt8 := dkwX1_price_0 ++ []
theorem dksX1_price_0 : cX1_price.data.toList.drop 0 = dktX1_price_0 := by decide +kernel
theorem dX1_price_0 : decode cX1_price 0 = .ok (.iload_n 1, 1) := dk_27 (dk_at dksX1_price_0 0 rfl rfl)
theorem dX1_price_1 : decode cX1_price 1 = .ok (.invokestatic 44, 3) := dk_184 0 44 (dk_at dksX1_price_0 1 rfl rfl)
theorem dX1_price_4 : decode cX1_price 4 = .ok (.ifCond .eq 17, 3) := dk_153 0 17 (dk_at dksX1_price_0 4 rfl rfl)
theorem dX1_price_7 : decode cX1_price 7 = .ok (.aload_n 0, 1) := dk_42 (dk_at dksX1_price_0 7 rfl rfl)
theorem dX1_price_8 : decode cX1_price 8 = .ok (.getfield 34, 3) := dk_180 0 34 (dk_at dksX1_price_0 8 rfl rfl)
theorem dX1_price_11 : decode cX1_price 11 = .ok (.getfield 91, 3) := dk_180 0 91 (dk_at dksX1_price_0 11 rfl rfl)
theorem dX1_price_14 : decode cX1_price 14 = .ok (.iload_n 1, 1) := dk_27 (dk_at dksX1_price_0 14 rfl rfl)
theorem dX1_price_15 : decode cX1_price 15 = .ok (.invokestatic 146, 3) := dk_184 0 146 (dk_at dksX1_price_0 15 rfl rfl)
theorem dX1_price_18 : decode cX1_price 18 = .ok (.goto 4, 3) := dk_167 0 4 (dk_at dksX1_price_0 18 rfl rfl)
theorem dX1_price_21 : decode cX1_price 21 = .ok (.iconst (-1), 1) := dk_2 (dk_at dksX1_price_0 21 rfl rfl)
theorem dX1_price_22 : decode cX1_price 22 = .ok (.ireturn, 1) := dk_172 (dk_at dksX1_price_0 22 rfl rfl)
abbrev cX1_priceBy : ByteArray := prog_1_method_3_code
def yX1_priceBy : MethodName := ⟨RX1, "priceBy", "(II)I"⟩
def dkwX1_priceBy_2 : List UInt8 := [28, 172, 28, 27, 16, 60, 112, 16, 10, 108, 96, 172, 16, 6, 172]
abbrev dktX1_priceBy_2 : List UInt8 := dkwX1_priceBy_2 ++ []
def dkwX1_priceBy_1 : List UInt8 := [171, 0, 0, 0, 0, 38, 0, 0, 0, 2, 0, 0, 0, 0, 0, 0, 0, 26, 0, 0, 0, 1, 0, 0, 0, 28]
abbrev dktX1_priceBy_1 : List UInt8 := dkwX1_priceBy_1 ++ dktX1_priceBy_2
def dkwX1_priceBy_0 : List UInt8 := [27, 16, 60, 108, 154, 0, 8, 16, 12, 167, 0, 7, 27, 16, 60, 108, 61, 26]
abbrev dktX1_priceBy_0 : List UInt8 := dkwX1_priceBy_0 ++ dktX1_priceBy_1
theorem dksX1_priceBy_0 : cX1_priceBy.data.toList.drop 0 = dktX1_priceBy_0 := by decide +kernel
theorem dksX1_priceBy_1 : cX1_priceBy.data.toList.drop 18 = dktX1_priceBy_1 := dk_seg dksX1_priceBy_0 18 rfl rfl
theorem dksX1_priceBy_2 : cX1_priceBy.data.toList.drop 44 = dktX1_priceBy_2 := dk_seg dksX1_priceBy_1 26 rfl rfl
theorem dX1_priceBy_0 : decode cX1_priceBy 0 = .ok (.iload_n 1, 1) := dk_27 (dk_at dksX1_priceBy_0 0 rfl rfl)
theorem dX1_priceBy_1 : decode cX1_priceBy 1 = .ok (.bipush 60, 2) := dk_16 60 (dk_at dksX1_priceBy_0 1 rfl rfl)
theorem dX1_priceBy_3 : decode cX1_priceBy 3 = .ok (.idiv, 1) := dk_108 (dk_at dksX1_priceBy_0 3 rfl rfl)
theorem dX1_priceBy_4 : decode cX1_priceBy 4 = .ok (.ifCond .ne 8, 3) := dk_154 0 8 (dk_at dksX1_priceBy_0 4 rfl rfl)
theorem dX1_priceBy_7 : decode cX1_priceBy 7 = .ok (.bipush 12, 2) := dk_16 12 (dk_at dksX1_priceBy_0 7 rfl rfl)
theorem dX1_priceBy_9 : decode cX1_priceBy 9 = .ok (.goto 7, 3) := dk_167 0 7 (dk_at dksX1_priceBy_0 9 rfl rfl)
theorem dX1_priceBy_12 : decode cX1_priceBy 12 = .ok (.iload_n 1, 1) := dk_27 (dk_at dksX1_priceBy_0 12 rfl rfl)
theorem dX1_priceBy_13 : decode cX1_priceBy 13 = .ok (.bipush 60, 2) := dk_16 60 (dk_at dksX1_priceBy_0 13 rfl rfl)
theorem dX1_priceBy_15 : decode cX1_priceBy 15 = .ok (.idiv, 1) := dk_108 (dk_at dksX1_priceBy_0 15 rfl rfl)
theorem dX1_priceBy_16 : decode cX1_priceBy 16 = .ok (.istore_n 2, 1) := dk_61 (dk_at dksX1_priceBy_0 16 rfl rfl)
theorem dX1_priceBy_17 : decode cX1_priceBy 17 = .ok (.iload_n 0, 1) := dk_26 (dk_at dksX1_priceBy_0 17 rfl rfl)
theorem dX1_priceBy_18 : decode cX1_priceBy 18 = .ok (.lookupswitch 38 #[(0, 26), (1, 28)], 26) := by decide +kernel
theorem dX1_priceBy_44 : decode cX1_priceBy 44 = .ok (.iload_n 2, 1) := dk_28 (dk_at dksX1_priceBy_2 0 rfl rfl)
theorem dX1_priceBy_45 : decode cX1_priceBy 45 = .ok (.ireturn, 1) := dk_172 (dk_at dksX1_priceBy_2 1 rfl rfl)
theorem dX1_priceBy_46 : decode cX1_priceBy 46 = .ok (.iload_n 2, 1) := dk_28 (dk_at dksX1_priceBy_2 2 rfl rfl)
theorem dX1_priceBy_47 : decode cX1_priceBy 47 = .ok (.iload_n 1, 1) := dk_27 (dk_at dksX1_priceBy_2 3 rfl rfl)
theorem dX1_priceBy_48 : decode cX1_priceBy 48 = .ok (.bipush 60, 2) := dk_16 60 (dk_at dksX1_priceBy_2 4 rfl rfl)
theorem dX1_priceBy_50 : decode cX1_priceBy 50 = .ok (.irem, 1) := dk_112 (dk_at dksX1_priceBy_2 6 rfl rfl)
theorem dX1_priceBy_51 : decode cX1_priceBy 51 = .ok (.bipush 10, 2) := dk_16 10 (dk_at dksX1_priceBy_2 7 rfl rfl)
theorem dX1_priceBy_53 : decode cX1_priceBy 53 = .ok (.idiv, 1) := dk_108 (dk_at dksX1_priceBy_2 9 rfl rfl)
theorem dX1_priceBy_54 : decode cX1_priceBy 54 = .ok (.iadd, 1) := dk_96 (dk_at dksX1_priceBy_2 10 rfl rfl)
theorem dX1_priceBy_55 : decode cX1_priceBy 55 = .ok (.ireturn, 1) := dk_172 (dk_at dksX1_priceBy_2 11 rfl rfl)
theorem dX1_priceBy_56 : decode cX1_priceBy 56 = .ok (.bipush 6, 2) := dk_16 6 (dk_at dksX1_priceBy_2 12 rfl rfl)
theorem dX1_priceBy_58 : decode cX1_priceBy 58 = .ok (.ireturn, 1) := dk_172 (dk_at dksX1_priceBy_2 14 rfl rfl)
abbrev cX1_law : ByteArray := prog_1_method_13_code
def yX1_law : MethodName := ⟨RX1, "law", "(I)I"⟩
def dkwX1_law_1 : List UInt8 := [181, 0, 91, 28, 172]
abbrev dktX1_law_1 : List UInt8 := dkwX1_law_1 ++ []
def dkwX1_law_0 : List UInt8 := [27, 3, 5, 184, 0, 3, 154, 0, 5, 2, 172, 42, 180, 0, 34, 180, 0, 91, 61, 42, 180, 0, 34, 27]
abbrev dktX1_law_0 : List UInt8 := dkwX1_law_0 ++ dktX1_law_1
theorem dksX1_law_0 : cX1_law.data.toList.drop 0 = dktX1_law_0 := by decide +kernel
theorem dksX1_law_1 : cX1_law.data.toList.drop 24 = dktX1_law_1 := dk_seg dksX1_law_0 24 rfl rfl
theorem dX1_law_0 : decode cX1_law 0 = .ok (.iload_n 1, 1) := dk_27 (dk_at dksX1_law_0 0 rfl rfl)
theorem dX1_law_1 : decode cX1_law 1 = .ok (.iconst 0, 1) := dk_3 (dk_at dksX1_law_0 1 rfl rfl)
theorem dX1_law_2 : decode cX1_law 2 = .ok (.iconst 2, 1) := dk_5 (dk_at dksX1_law_0 2 rfl rfl)
theorem dX1_law_3 : decode cX1_law 3 = .ok (.invokestatic 3, 3) := dk_184 0 3 (dk_at dksX1_law_0 3 rfl rfl)
theorem dX1_law_6 : decode cX1_law 6 = .ok (.ifCond .ne 5, 3) := dk_154 0 5 (dk_at dksX1_law_0 6 rfl rfl)
theorem dX1_law_9 : decode cX1_law 9 = .ok (.iconst (-1), 1) := dk_2 (dk_at dksX1_law_0 9 rfl rfl)
theorem dX1_law_10 : decode cX1_law 10 = .ok (.ireturn, 1) := dk_172 (dk_at dksX1_law_0 10 rfl rfl)
theorem dX1_law_11 : decode cX1_law 11 = .ok (.aload_n 0, 1) := dk_42 (dk_at dksX1_law_0 11 rfl rfl)
theorem dX1_law_12 : decode cX1_law 12 = .ok (.getfield 34, 3) := dk_180 0 34 (dk_at dksX1_law_0 12 rfl rfl)
theorem dX1_law_15 : decode cX1_law 15 = .ok (.getfield 91, 3) := dk_180 0 91 (dk_at dksX1_law_0 15 rfl rfl)
theorem dX1_law_18 : decode cX1_law 18 = .ok (.istore_n 2, 1) := dk_61 (dk_at dksX1_law_0 18 rfl rfl)
theorem dX1_law_19 : decode cX1_law 19 = .ok (.aload_n 0, 1) := dk_42 (dk_at dksX1_law_0 19 rfl rfl)
theorem dX1_law_20 : decode cX1_law 20 = .ok (.getfield 34, 3) := dk_180 0 34 (dk_at dksX1_law_0 20 rfl rfl)
theorem dX1_law_23 : decode cX1_law 23 = .ok (.iload_n 1, 1) := dk_27 (dk_at dksX1_law_0 23 rfl rfl)
theorem dX1_law_24 : decode cX1_law 24 = .ok (.putfield 91, 3) := dk_181 0 91 (dk_at dksX1_law_1 0 rfl rfl)
theorem dX1_law_27 : decode cX1_law 27 = .ok (.iload_n 2, 1) := dk_28 (dk_at dksX1_law_1 3 rfl rfl)
theorem dX1_law_28 : decode cX1_law 28 = .ok (.ireturn, 1) := dk_172 (dk_at dksX1_law_1 4 rfl rfl)
abbrev cX1_work : ByteArray := prog_1_method_16_code
def yX1_work : MethodName := ⟨RX1, "work", "(II)I"⟩
def dkwX1_work_2 : List UInt8 := [46, 167, 0, 12, 42, 180, 0, 34, 180, 0, 55, 27, 46, 172]
abbrev dktX1_work_2 : List UInt8 := dkwX1_work_2 ++ []
def dkwX1_work_1 : List UInt8 := [180, 0, 34, 180, 0, 48, 27, 46, 167, 0, 29, 28, 4, 160, 0, 15, 42, 180, 0, 34, 180, 0, 52, 27]
abbrev dktX1_work_1 : List UInt8 := dkwX1_work_1 ++ dktX1_work_2
def dkwX1_work_0 : List UInt8 := [42, 27, 182, 0, 150, 153, 0, 12, 28, 3, 5, 184, 0, 3, 154, 0, 5, 2, 172, 28, 154, 0, 15, 42]
abbrev dktX1_work_0 : List UInt8 := dkwX1_work_0 ++ dktX1_work_1
theorem dksX1_work_0 : cX1_work.data.toList.drop 0 = dktX1_work_0 := by decide +kernel
theorem dksX1_work_1 : cX1_work.data.toList.drop 24 = dktX1_work_1 := dk_seg dksX1_work_0 24 rfl rfl
theorem dksX1_work_2 : cX1_work.data.toList.drop 48 = dktX1_work_2 := dk_seg dksX1_work_1 24 rfl rfl
theorem dX1_work_0 : decode cX1_work 0 = .ok (.aload_n 0, 1) := dk_42 (dk_at dksX1_work_0 0 rfl rfl)
theorem dX1_work_1 : decode cX1_work 1 = .ok (.iload_n 1, 1) := dk_27 (dk_at dksX1_work_0 1 rfl rfl)
theorem dX1_work_2 : decode cX1_work 2 = .ok (.invokevirtual 150, 3) := dk_182 0 150 (dk_at dksX1_work_0 2 rfl rfl)
theorem dX1_work_5 : decode cX1_work 5 = .ok (.ifCond .eq 12, 3) := dk_153 0 12 (dk_at dksX1_work_0 5 rfl rfl)
theorem dX1_work_8 : decode cX1_work 8 = .ok (.iload_n 2, 1) := dk_28 (dk_at dksX1_work_0 8 rfl rfl)
theorem dX1_work_9 : decode cX1_work 9 = .ok (.iconst 0, 1) := dk_3 (dk_at dksX1_work_0 9 rfl rfl)
theorem dX1_work_10 : decode cX1_work 10 = .ok (.iconst 2, 1) := dk_5 (dk_at dksX1_work_0 10 rfl rfl)
theorem dX1_work_11 : decode cX1_work 11 = .ok (.invokestatic 3, 3) := dk_184 0 3 (dk_at dksX1_work_0 11 rfl rfl)
theorem dX1_work_14 : decode cX1_work 14 = .ok (.ifCond .ne 5, 3) := dk_154 0 5 (dk_at dksX1_work_0 14 rfl rfl)
theorem dX1_work_17 : decode cX1_work 17 = .ok (.iconst (-1), 1) := dk_2 (dk_at dksX1_work_0 17 rfl rfl)
theorem dX1_work_18 : decode cX1_work 18 = .ok (.ireturn, 1) := dk_172 (dk_at dksX1_work_0 18 rfl rfl)
theorem dX1_work_19 : decode cX1_work 19 = .ok (.iload_n 2, 1) := dk_28 (dk_at dksX1_work_0 19 rfl rfl)
theorem dX1_work_20 : decode cX1_work 20 = .ok (.ifCond .ne 15, 3) := dk_154 0 15 (dk_at dksX1_work_0 20 rfl rfl)
theorem dX1_work_23 : decode cX1_work 23 = .ok (.aload_n 0, 1) := dk_42 (dk_at dksX1_work_0 23 rfl rfl)
theorem dX1_work_24 : decode cX1_work 24 = .ok (.getfield 34, 3) := dk_180 0 34 (dk_at dksX1_work_1 0 rfl rfl)
theorem dX1_work_27 : decode cX1_work 27 = .ok (.getfield 48, 3) := dk_180 0 48 (dk_at dksX1_work_1 3 rfl rfl)
theorem dX1_work_30 : decode cX1_work 30 = .ok (.iload_n 1, 1) := dk_27 (dk_at dksX1_work_1 6 rfl rfl)
theorem dX1_work_31 : decode cX1_work 31 = .ok (.iaload, 1) := dk_46 (dk_at dksX1_work_1 7 rfl rfl)
theorem dX1_work_32 : decode cX1_work 32 = .ok (.goto 29, 3) := dk_167 0 29 (dk_at dksX1_work_1 8 rfl rfl)
theorem dX1_work_35 : decode cX1_work 35 = .ok (.iload_n 2, 1) := dk_28 (dk_at dksX1_work_1 11 rfl rfl)
theorem dX1_work_36 : decode cX1_work 36 = .ok (.iconst 1, 1) := dk_4 (dk_at dksX1_work_1 12 rfl rfl)
theorem dX1_work_37 : decode cX1_work 37 = .ok (.if_icmp .ne 15, 3) := dk_160 0 15 (dk_at dksX1_work_1 13 rfl rfl)
theorem dX1_work_40 : decode cX1_work 40 = .ok (.aload_n 0, 1) := dk_42 (dk_at dksX1_work_1 16 rfl rfl)
theorem dX1_work_41 : decode cX1_work 41 = .ok (.getfield 34, 3) := dk_180 0 34 (dk_at dksX1_work_1 17 rfl rfl)
theorem dX1_work_44 : decode cX1_work 44 = .ok (.getfield 52, 3) := dk_180 0 52 (dk_at dksX1_work_1 20 rfl rfl)
theorem dX1_work_47 : decode cX1_work 47 = .ok (.iload_n 1, 1) := dk_27 (dk_at dksX1_work_1 23 rfl rfl)
theorem dX1_work_48 : decode cX1_work 48 = .ok (.iaload, 1) := dk_46 (dk_at dksX1_work_2 0 rfl rfl)
theorem dX1_work_49 : decode cX1_work 49 = .ok (.goto 12, 3) := dk_167 0 12 (dk_at dksX1_work_2 1 rfl rfl)
theorem dX1_work_52 : decode cX1_work 52 = .ok (.aload_n 0, 1) := dk_42 (dk_at dksX1_work_2 4 rfl rfl)
theorem dX1_work_53 : decode cX1_work 53 = .ok (.getfield 34, 3) := dk_180 0 34 (dk_at dksX1_work_2 5 rfl rfl)
theorem dX1_work_56 : decode cX1_work 56 = .ok (.getfield 55, 3) := dk_180 0 55 (dk_at dksX1_work_2 8 rfl rfl)
theorem dX1_work_59 : decode cX1_work 59 = .ok (.iload_n 1, 1) := dk_27 (dk_at dksX1_work_2 11 rfl rfl)
theorem dX1_work_60 : decode cX1_work 60 = .ok (.iaload, 1) := dk_46 (dk_at dksX1_work_2 12 rfl rfl)
theorem dX1_work_61 : decode cX1_work 61 = .ok (.ireturn, 1) := dk_172 (dk_at dksX1_work_2 13 rfl rfl)
abbrev cX1_isWork : ByteArray := prog_1_method_14_code
def yX1_isWork : MethodName := ⟨RX1, "isWork", "(I)Z"⟩
def dkwX1_isWork_0 : List UInt8 := [27, 3, 42, 180, 0, 34, 180, 0, 38, 4, 100, 184, 0, 3, 172]
abbrev dktX1_isWork_0 : List UInt8 := dkwX1_isWork_0 ++ []
theorem dksX1_isWork_0 : cX1_isWork.data.toList.drop 0 = dktX1_isWork_0 := by decide +kernel
theorem dX1_isWork_0 : decode cX1_isWork 0 = .ok (.iload_n 1, 1) := dk_27 (dk_at dksX1_isWork_0 0 rfl rfl)
theorem dX1_isWork_1 : decode cX1_isWork 1 = .ok (.iconst 0, 1) := dk_3 (dk_at dksX1_isWork_0 1 rfl rfl)
theorem dX1_isWork_2 : decode cX1_isWork 2 = .ok (.aload_n 0, 1) := dk_42 (dk_at dksX1_isWork_0 2 rfl rfl)
theorem dX1_isWork_3 : decode cX1_isWork 3 = .ok (.getfield 34, 3) := dk_180 0 34 (dk_at dksX1_isWork_0 3 rfl rfl)
theorem dX1_isWork_6 : decode cX1_isWork 6 = .ok (.getfield 38, 3) := dk_180 0 38 (dk_at dksX1_isWork_0 6 rfl rfl)
theorem dX1_isWork_9 : decode cX1_isWork 9 = .ok (.iconst 1, 1) := dk_4 (dk_at dksX1_isWork_0 9 rfl rfl)
theorem dX1_isWork_10 : decode cX1_isWork 10 = .ok (.isub, 1) := dk_100 (dk_at dksX1_isWork_0 10 rfl rfl)
theorem dX1_isWork_11 : decode cX1_isWork 11 = .ok (.invokestatic 3, 3) := dk_184 0 3 (dk_at dksX1_isWork_0 11 rfl rfl)
theorem dX1_isWork_14 : decode cX1_isWork 14 = .ok (.ireturn, 1) := dk_172 (dk_at dksX1_isWork_0 14 rfl rfl)
abbrev cX1_looker : ByteArray := prog_1_method_17_code
def yX1_looker : MethodName := ⟨RX1, "looker", "(II)I"⟩
def dkwX1_looker_2 : List UInt8 := [45, 182, 0, 156, 172, 45, 180, 0, 159, 172, 45, 180, 0, 162, 172, 45, 182, 0, 165, 172, 2, 172]
abbrev dktX1_looker_2 : List UInt8 := dkwX1_looker_2 ++ []
def dkwX1_looker_1 : List UInt8 := [170, 0, 0, 0, 0, 0, 51, 0, 0, 0, 0, 0, 0, 0, 3, 0, 0, 0, 31, 0, 0, 0, 36, 0, 0, 0, 41, 0, 0, 0, 46]
abbrev dktX1_looker_1 : List UInt8 := dkwX1_looker_1 ++ dktX1_looker_2
def dkwX1_looker_0 : List UInt8 := [42, 27, 182, 0, 153, 154, 0, 5, 2, 172, 42, 180, 0, 34, 180, 0, 61, 27, 50, 78, 28]
abbrev dktX1_looker_0 : List UInt8 := dkwX1_looker_0 ++ dktX1_looker_1
theorem dksX1_looker_0 : cX1_looker.data.toList.drop 0 = dktX1_looker_0 := by decide +kernel
theorem dksX1_looker_1 : cX1_looker.data.toList.drop 21 = dktX1_looker_1 := dk_seg dksX1_looker_0 21 rfl rfl
theorem dksX1_looker_2 : cX1_looker.data.toList.drop 52 = dktX1_looker_2 := dk_seg dksX1_looker_1 31 rfl rfl
theorem dX1_looker_0 : decode cX1_looker 0 = .ok (.aload_n 0, 1) := dk_42 (dk_at dksX1_looker_0 0 rfl rfl)
theorem dX1_looker_1 : decode cX1_looker 1 = .ok (.iload_n 1, 1) := dk_27 (dk_at dksX1_looker_0 1 rfl rfl)
theorem dX1_looker_2 : decode cX1_looker 2 = .ok (.invokevirtual 153, 3) := dk_182 0 153 (dk_at dksX1_looker_0 2 rfl rfl)
theorem dX1_looker_5 : decode cX1_looker 5 = .ok (.ifCond .ne 5, 3) := dk_154 0 5 (dk_at dksX1_looker_0 5 rfl rfl)
theorem dX1_looker_8 : decode cX1_looker 8 = .ok (.iconst (-1), 1) := dk_2 (dk_at dksX1_looker_0 8 rfl rfl)
theorem dX1_looker_9 : decode cX1_looker 9 = .ok (.ireturn, 1) := dk_172 (dk_at dksX1_looker_0 9 rfl rfl)
theorem dX1_looker_10 : decode cX1_looker 10 = .ok (.aload_n 0, 1) := dk_42 (dk_at dksX1_looker_0 10 rfl rfl)
theorem dX1_looker_11 : decode cX1_looker 11 = .ok (.getfield 34, 3) := dk_180 0 34 (dk_at dksX1_looker_0 11 rfl rfl)
theorem dX1_looker_14 : decode cX1_looker 14 = .ok (.getfield 61, 3) := dk_180 0 61 (dk_at dksX1_looker_0 14 rfl rfl)
theorem dX1_looker_17 : decode cX1_looker 17 = .ok (.iload_n 1, 1) := dk_27 (dk_at dksX1_looker_0 17 rfl rfl)
theorem dX1_looker_18 : decode cX1_looker 18 = .ok (.aaload, 1) := dk_50 (dk_at dksX1_looker_0 18 rfl rfl)
theorem dX1_looker_19 : decode cX1_looker 19 = .ok (.astore_n 3, 1) := dk_78 (dk_at dksX1_looker_0 19 rfl rfl)
theorem dX1_looker_20 : decode cX1_looker 20 = .ok (.iload_n 2, 1) := dk_28 (dk_at dksX1_looker_0 20 rfl rfl)
theorem dX1_looker_21 : decode cX1_looker 21 = .ok (.tableswitch 51 0 3 #[31, 36, 41, 46], 31) := by decide +kernel
theorem dX1_looker_52 : decode cX1_looker 52 = .ok (.aload_n 3, 1) := dk_45 (dk_at dksX1_looker_2 0 rfl rfl)
theorem dX1_looker_53 : decode cX1_looker 53 = .ok (.invokevirtual 156, 3) := dk_182 0 156 (dk_at dksX1_looker_2 1 rfl rfl)
theorem dX1_looker_56 : decode cX1_looker 56 = .ok (.ireturn, 1) := dk_172 (dk_at dksX1_looker_2 4 rfl rfl)
theorem dX1_looker_57 : decode cX1_looker 57 = .ok (.aload_n 3, 1) := dk_45 (dk_at dksX1_looker_2 5 rfl rfl)
theorem dX1_looker_58 : decode cX1_looker 58 = .ok (.getfield 159, 3) := dk_180 0 159 (dk_at dksX1_looker_2 6 rfl rfl)
theorem dX1_looker_61 : decode cX1_looker 61 = .ok (.ireturn, 1) := dk_172 (dk_at dksX1_looker_2 9 rfl rfl)
theorem dX1_looker_62 : decode cX1_looker 62 = .ok (.aload_n 3, 1) := dk_45 (dk_at dksX1_looker_2 10 rfl rfl)
theorem dX1_looker_63 : decode cX1_looker 63 = .ok (.getfield 162, 3) := dk_180 0 162 (dk_at dksX1_looker_2 11 rfl rfl)
theorem dX1_looker_66 : decode cX1_looker 66 = .ok (.ireturn, 1) := dk_172 (dk_at dksX1_looker_2 14 rfl rfl)
theorem dX1_looker_67 : decode cX1_looker 67 = .ok (.aload_n 3, 1) := dk_45 (dk_at dksX1_looker_2 15 rfl rfl)
theorem dX1_looker_68 : decode cX1_looker 68 = .ok (.invokevirtual 165, 3) := dk_182 0 165 (dk_at dksX1_looker_2 16 rfl rfl)
theorem dX1_looker_71 : decode cX1_looker 71 = .ok (.ireturn, 1) := dk_172 (dk_at dksX1_looker_2 19 rfl rfl)
theorem dX1_looker_72 : decode cX1_looker 72 = .ok (.iconst (-1), 1) := dk_2 (dk_at dksX1_looker_2 20 rfl rfl)
theorem dX1_looker_73 : decode cX1_looker 73 = .ok (.ireturn, 1) := dk_172 (dk_at dksX1_looker_2 21 rfl rfl)
abbrev cX1_isLooker : ByteArray := prog_1_method_15_code
def yX1_isLooker : MethodName := ⟨RX1, "isLooker", "(I)Z"⟩
def dkwX1_isLooker_0 : List UInt8 := [27, 3, 42, 180, 0, 34, 180, 0, 58, 4, 100, 184, 0, 3, 172]
abbrev dktX1_isLooker_0 : List UInt8 := dkwX1_isLooker_0 ++ []
theorem dksX1_isLooker_0 : cX1_isLooker.data.toList.drop 0 = dktX1_isLooker_0 := by decide +kernel
theorem dX1_isLooker_0 : decode cX1_isLooker 0 = .ok (.iload_n 1, 1) := dk_27 (dk_at dksX1_isLooker_0 0 rfl rfl)
theorem dX1_isLooker_1 : decode cX1_isLooker 1 = .ok (.iconst 0, 1) := dk_3 (dk_at dksX1_isLooker_0 1 rfl rfl)
theorem dX1_isLooker_2 : decode cX1_isLooker 2 = .ok (.aload_n 0, 1) := dk_42 (dk_at dksX1_isLooker_0 2 rfl rfl)
theorem dX1_isLooker_3 : decode cX1_isLooker 3 = .ok (.getfield 34, 3) := dk_180 0 34 (dk_at dksX1_isLooker_0 3 rfl rfl)
theorem dX1_isLooker_6 : decode cX1_isLooker 6 = .ok (.getfield 58, 3) := dk_180 0 58 (dk_at dksX1_isLooker_0 6 rfl rfl)
theorem dX1_isLooker_9 : decode cX1_isLooker 9 = .ok (.iconst 1, 1) := dk_4 (dk_at dksX1_isLooker_0 9 rfl rfl)
theorem dX1_isLooker_10 : decode cX1_isLooker 10 = .ok (.isub, 1) := dk_100 (dk_at dksX1_isLooker_0 10 rfl rfl)
theorem dX1_isLooker_11 : decode cX1_isLooker 11 = .ok (.invokestatic 3, 3) := dk_184 0 3 (dk_at dksX1_isLooker_0 11 rfl rfl)
theorem dX1_isLooker_14 : decode cX1_isLooker 14 = .ok (.ireturn, 1) := dk_172 (dk_at dksX1_isLooker_0 14 rfl rfl)
abbrev cX1_drift : ByteArray := prog_1_method_18_code
def yX1_drift : MethodName := ⟨RX1, "drift", "(I)I"⟩
def dkwX1_drift_1 : List UInt8 := [18, 171, 172]
abbrev dktX1_drift_1 : List UInt8 := dkwX1_drift_1 ++ []
def dkwX1_drift_0 : List UInt8 := [42, 27, 182, 0, 153, 153, 0, 18, 42, 180, 0, 34, 180, 0, 61, 27, 50, 180, 0, 168, 167, 0, 5]
abbrev dktX1_drift_0 : List UInt8 := dkwX1_drift_0 ++ dktX1_drift_1
theorem dksX1_drift_0 : cX1_drift.data.toList.drop 0 = dktX1_drift_0 := by decide +kernel
theorem dksX1_drift_1 : cX1_drift.data.toList.drop 23 = dktX1_drift_1 := dk_seg dksX1_drift_0 23 rfl rfl
theorem dX1_drift_0 : decode cX1_drift 0 = .ok (.aload_n 0, 1) := dk_42 (dk_at dksX1_drift_0 0 rfl rfl)
theorem dX1_drift_1 : decode cX1_drift 1 = .ok (.iload_n 1, 1) := dk_27 (dk_at dksX1_drift_0 1 rfl rfl)
theorem dX1_drift_2 : decode cX1_drift 2 = .ok (.invokevirtual 153, 3) := dk_182 0 153 (dk_at dksX1_drift_0 2 rfl rfl)
theorem dX1_drift_5 : decode cX1_drift 5 = .ok (.ifCond .eq 18, 3) := dk_153 0 18 (dk_at dksX1_drift_0 5 rfl rfl)
theorem dX1_drift_8 : decode cX1_drift 8 = .ok (.aload_n 0, 1) := dk_42 (dk_at dksX1_drift_0 8 rfl rfl)
theorem dX1_drift_9 : decode cX1_drift 9 = .ok (.getfield 34, 3) := dk_180 0 34 (dk_at dksX1_drift_0 9 rfl rfl)
theorem dX1_drift_12 : decode cX1_drift 12 = .ok (.getfield 61, 3) := dk_180 0 61 (dk_at dksX1_drift_0 12 rfl rfl)
theorem dX1_drift_15 : decode cX1_drift 15 = .ok (.iload_n 1, 1) := dk_27 (dk_at dksX1_drift_0 15 rfl rfl)
theorem dX1_drift_16 : decode cX1_drift 16 = .ok (.aaload, 1) := dk_50 (dk_at dksX1_drift_0 16 rfl rfl)
theorem dX1_drift_17 : decode cX1_drift 17 = .ok (.getfield 168, 3) := dk_180 0 168 (dk_at dksX1_drift_0 17 rfl rfl)
theorem dX1_drift_20 : decode cX1_drift 20 = .ok (.goto 5, 3) := dk_167 0 5 (dk_at dksX1_drift_0 20 rfl rfl)
theorem dX1_drift_23 : decode cX1_drift 23 = .ok (.ldc 171, 2) := dk_18 171 (dk_at dksX1_drift_1 0 rfl rfl)
theorem dX1_drift_25 : decode cX1_drift 25 = .ok (.ireturn, 1) := dk_172 (dk_at dksX1_drift_1 2 rfl rfl)
abbrev cX1_thinks : ByteArray := prog_1_method_19_code
def yX1_thinks : MethodName := ⟨RX1, "thinks", "(III)I"⟩
def dkwX1_thinks_1 : List UInt8 := [154, 0, 6, 18, 171, 172, 42, 180, 0, 34, 180, 0, 61, 27, 50, 180, 0, 168, 28, 29, 184, 0, 172, 172]
abbrev dktX1_thinks_1 : List UInt8 := dkwX1_thinks_1 ++ []
def dkwX1_thinks_0 : List UInt8 := [42, 27, 182, 0, 153, 153, 0, 21, 28, 184, 0, 44, 153, 0, 14, 29, 28, 17, 2, 207, 184, 0, 3]
abbrev dktX1_thinks_0 : List UInt8 := dkwX1_thinks_0 ++ dktX1_thinks_1
theorem dksX1_thinks_0 : cX1_thinks.data.toList.drop 0 = dktX1_thinks_0 := by decide +kernel
theorem dksX1_thinks_1 : cX1_thinks.data.toList.drop 23 = dktX1_thinks_1 := dk_seg dksX1_thinks_0 23 rfl rfl
theorem dX1_thinks_0 : decode cX1_thinks 0 = .ok (.aload_n 0, 1) := dk_42 (dk_at dksX1_thinks_0 0 rfl rfl)
theorem dX1_thinks_1 : decode cX1_thinks 1 = .ok (.iload_n 1, 1) := dk_27 (dk_at dksX1_thinks_0 1 rfl rfl)
theorem dX1_thinks_2 : decode cX1_thinks 2 = .ok (.invokevirtual 153, 3) := dk_182 0 153 (dk_at dksX1_thinks_0 2 rfl rfl)
theorem dX1_thinks_5 : decode cX1_thinks 5 = .ok (.ifCond .eq 21, 3) := dk_153 0 21 (dk_at dksX1_thinks_0 5 rfl rfl)
theorem dX1_thinks_8 : decode cX1_thinks 8 = .ok (.iload_n 2, 1) := dk_28 (dk_at dksX1_thinks_0 8 rfl rfl)
theorem dX1_thinks_9 : decode cX1_thinks 9 = .ok (.invokestatic 44, 3) := dk_184 0 44 (dk_at dksX1_thinks_0 9 rfl rfl)
theorem dX1_thinks_12 : decode cX1_thinks 12 = .ok (.ifCond .eq 14, 3) := dk_153 0 14 (dk_at dksX1_thinks_0 12 rfl rfl)
theorem dX1_thinks_15 : decode cX1_thinks 15 = .ok (.iload_n 3, 1) := dk_29 (dk_at dksX1_thinks_0 15 rfl rfl)
theorem dX1_thinks_16 : decode cX1_thinks 16 = .ok (.iload_n 2, 1) := dk_28 (dk_at dksX1_thinks_0 16 rfl rfl)
theorem dX1_thinks_17 : decode cX1_thinks 17 = .ok (.sipush 719, 3) := dk_17 2 207 (dk_at dksX1_thinks_0 17 rfl rfl)
theorem dX1_thinks_20 : decode cX1_thinks 20 = .ok (.invokestatic 3, 3) := dk_184 0 3 (dk_at dksX1_thinks_0 20 rfl rfl)
theorem dX1_thinks_23 : decode cX1_thinks 23 = .ok (.ifCond .ne 6, 3) := dk_154 0 6 (dk_at dksX1_thinks_1 0 rfl rfl)
theorem dX1_thinks_26 : decode cX1_thinks 26 = .ok (.ldc 171, 2) := dk_18 171 (dk_at dksX1_thinks_1 3 rfl rfl)
theorem dX1_thinks_28 : decode cX1_thinks 28 = .ok (.ireturn, 1) := dk_172 (dk_at dksX1_thinks_1 5 rfl rfl)
theorem dX1_thinks_29 : decode cX1_thinks 29 = .ok (.aload_n 0, 1) := dk_42 (dk_at dksX1_thinks_1 6 rfl rfl)
theorem dX1_thinks_30 : decode cX1_thinks 30 = .ok (.getfield 34, 3) := dk_180 0 34 (dk_at dksX1_thinks_1 7 rfl rfl)
theorem dX1_thinks_33 : decode cX1_thinks 33 = .ok (.getfield 61, 3) := dk_180 0 61 (dk_at dksX1_thinks_1 10 rfl rfl)
theorem dX1_thinks_36 : decode cX1_thinks 36 = .ok (.iload_n 1, 1) := dk_27 (dk_at dksX1_thinks_1 13 rfl rfl)
theorem dX1_thinks_37 : decode cX1_thinks 37 = .ok (.aaload, 1) := dk_50 (dk_at dksX1_thinks_1 14 rfl rfl)
theorem dX1_thinks_38 : decode cX1_thinks 38 = .ok (.getfield 168, 3) := dk_180 0 168 (dk_at dksX1_thinks_1 15 rfl rfl)
theorem dX1_thinks_41 : decode cX1_thinks 41 = .ok (.iload_n 2, 1) := dk_28 (dk_at dksX1_thinks_1 18 rfl rfl)
theorem dX1_thinks_42 : decode cX1_thinks 42 = .ok (.iload_n 3, 1) := dk_29 (dk_at dksX1_thinks_1 19 rfl rfl)
theorem dX1_thinks_43 : decode cX1_thinks 43 = .ok (.invokestatic 172, 3) := dk_184 0 172 (dk_at dksX1_thinks_1 20 rfl rfl)
theorem dX1_thinks_46 : decode cX1_thinks 46 = .ok (.ireturn, 1) := dk_172 (dk_at dksX1_thinks_1 23 rfl rfl)
abbrev cX1_thought : ByteArray := prog_1_method_4_code
def yX1_thought : MethodName := ⟨RX1, "thought", "(III)I"⟩
def dkwX1_thought_0 : List UInt8 := [28, 28, 27, 100, 26, 104, 16, 60, 108, 96, 172]
abbrev dktX1_thought_0 : List UInt8 := dkwX1_thought_0 ++ []
theorem dksX1_thought_0 : cX1_thought.data.toList.drop 0 = dktX1_thought_0 := by decide +kernel
theorem dX1_thought_0 : decode cX1_thought 0 = .ok (.iload_n 2, 1) := dk_28 (dk_at dksX1_thought_0 0 rfl rfl)
theorem dX1_thought_1 : decode cX1_thought 1 = .ok (.iload_n 2, 1) := dk_28 (dk_at dksX1_thought_0 1 rfl rfl)
theorem dX1_thought_2 : decode cX1_thought 2 = .ok (.iload_n 1, 1) := dk_27 (dk_at dksX1_thought_0 2 rfl rfl)
theorem dX1_thought_3 : decode cX1_thought 3 = .ok (.isub, 1) := dk_100 (dk_at dksX1_thought_0 3 rfl rfl)
theorem dX1_thought_4 : decode cX1_thought 4 = .ok (.iload_n 0, 1) := dk_26 (dk_at dksX1_thought_0 4 rfl rfl)
theorem dX1_thought_5 : decode cX1_thought 5 = .ok (.imul, 1) := dk_104 (dk_at dksX1_thought_0 5 rfl rfl)
theorem dX1_thought_6 : decode cX1_thought 6 = .ok (.bipush 60, 2) := dk_16 60 (dk_at dksX1_thought_0 6 rfl rfl)
theorem dX1_thought_8 : decode cX1_thought 8 = .ok (.idiv, 1) := dk_108 (dk_at dksX1_thought_0 8 rfl rfl)
theorem dX1_thought_9 : decode cX1_thought 9 = .ok (.iadd, 1) := dk_96 (dk_at dksX1_thought_0 9 rfl rfl)
theorem dX1_thought_10 : decode cX1_thought 10 = .ok (.ireturn, 1) := dk_172 (dk_at dksX1_thought_0 10 rfl rfl)
abbrev cX1_day : ByteArray := prog_1_method_21_code
def yX1_day : MethodName := ⟨RX1, "day", "(II)I"⟩
def dkwX1_day_4 : List UInt8 := [172]
abbrev dktX1_day_4 : List UInt8 := dkwX1_day_4 ++ []
def dkwX1_day_3 : List UInt8 := [45, 182, 0, 190, 172, 45, 180, 0, 193, 172, 45, 180, 0, 196, 172, 45, 180, 0, 198, 172, 45, 180, 0, 201]
abbrev dktX1_day_3 : List UInt8 := dkwX1_day_3 ++ dktX1_day_4
def dkwX1_day_2 : List UInt8 := [170, 0, 0, 0, 0, 50, 0, 0, 0, 0, 0, 0, 0, 3, 0, 0, 0, 30, 0, 0, 0, 35, 0, 0, 0, 40, 0, 0, 0, 45]
abbrev dktX1_day_2 : List UInt8 := dkwX1_day_2 ++ dktX1_day_3
def dkwX1_day_1 : List UInt8 := [180, 0, 61, 27, 50, 182, 0, 186, 78, 28]
abbrev dktX1_day_1 : List UInt8 := dkwX1_day_1 ++ dktX1_day_2
def dkwX1_day_0 : List UInt8 := [42, 27, 182, 0, 153, 153, 0, 12, 28, 3, 7, 184, 0, 3, 154, 0, 5, 2, 172, 42, 42, 180, 0, 34]
abbrev dktX1_day_0 : List UInt8 := dkwX1_day_0 ++ dktX1_day_1
theorem dksX1_day_0 : cX1_day.data.toList.drop 0 = dktX1_day_0 := by decide +kernel
theorem dksX1_day_1 : cX1_day.data.toList.drop 24 = dktX1_day_1 := dk_seg dksX1_day_0 24 rfl rfl
theorem dksX1_day_2 : cX1_day.data.toList.drop 34 = dktX1_day_2 := dk_seg dksX1_day_1 10 rfl rfl
theorem dksX1_day_3 : cX1_day.data.toList.drop 64 = dktX1_day_3 := dk_seg dksX1_day_2 30 rfl rfl
theorem dksX1_day_4 : cX1_day.data.toList.drop 88 = dktX1_day_4 := dk_seg dksX1_day_3 24 rfl rfl
theorem dX1_day_0 : decode cX1_day 0 = .ok (.aload_n 0, 1) := dk_42 (dk_at dksX1_day_0 0 rfl rfl)
theorem dX1_day_1 : decode cX1_day 1 = .ok (.iload_n 1, 1) := dk_27 (dk_at dksX1_day_0 1 rfl rfl)
theorem dX1_day_2 : decode cX1_day 2 = .ok (.invokevirtual 153, 3) := dk_182 0 153 (dk_at dksX1_day_0 2 rfl rfl)
theorem dX1_day_5 : decode cX1_day 5 = .ok (.ifCond .eq 12, 3) := dk_153 0 12 (dk_at dksX1_day_0 5 rfl rfl)
theorem dX1_day_8 : decode cX1_day 8 = .ok (.iload_n 2, 1) := dk_28 (dk_at dksX1_day_0 8 rfl rfl)
theorem dX1_day_9 : decode cX1_day 9 = .ok (.iconst 0, 1) := dk_3 (dk_at dksX1_day_0 9 rfl rfl)
theorem dX1_day_10 : decode cX1_day 10 = .ok (.iconst 4, 1) := dk_7 (dk_at dksX1_day_0 10 rfl rfl)
theorem dX1_day_11 : decode cX1_day 11 = .ok (.invokestatic 3, 3) := dk_184 0 3 (dk_at dksX1_day_0 11 rfl rfl)
theorem dX1_day_14 : decode cX1_day 14 = .ok (.ifCond .ne 5, 3) := dk_154 0 5 (dk_at dksX1_day_0 14 rfl rfl)
theorem dX1_day_17 : decode cX1_day 17 = .ok (.iconst (-1), 1) := dk_2 (dk_at dksX1_day_0 17 rfl rfl)
theorem dX1_day_18 : decode cX1_day 18 = .ok (.ireturn, 1) := dk_172 (dk_at dksX1_day_0 18 rfl rfl)
theorem dX1_day_19 : decode cX1_day 19 = .ok (.aload_n 0, 1) := dk_42 (dk_at dksX1_day_0 19 rfl rfl)
theorem dX1_day_20 : decode cX1_day 20 = .ok (.aload_n 0, 1) := dk_42 (dk_at dksX1_day_0 20 rfl rfl)
theorem dX1_day_21 : decode cX1_day 21 = .ok (.getfield 34, 3) := dk_180 0 34 (dk_at dksX1_day_0 21 rfl rfl)
theorem dX1_day_24 : decode cX1_day 24 = .ok (.getfield 61, 3) := dk_180 0 61 (dk_at dksX1_day_1 0 rfl rfl)
theorem dX1_day_27 : decode cX1_day 27 = .ok (.iload_n 1, 1) := dk_27 (dk_at dksX1_day_1 3 rfl rfl)
theorem dX1_day_28 : decode cX1_day 28 = .ok (.aaload, 1) := dk_50 (dk_at dksX1_day_1 4 rfl rfl)
theorem dX1_day_29 : decode cX1_day 29 = .ok (.invokevirtual 186, 3) := dk_182 0 186 (dk_at dksX1_day_1 5 rfl rfl)
theorem dX1_day_32 : decode cX1_day 32 = .ok (.astore_n 3, 1) := dk_78 (dk_at dksX1_day_1 8 rfl rfl)
theorem dX1_day_33 : decode cX1_day 33 = .ok (.iload_n 2, 1) := dk_28 (dk_at dksX1_day_1 9 rfl rfl)
theorem dX1_day_34 : decode cX1_day 34 = .ok (.tableswitch 50 0 3 #[30, 35, 40, 45], 30) := by decide +kernel
theorem dX1_day_64 : decode cX1_day 64 = .ok (.aload_n 3, 1) := dk_45 (dk_at dksX1_day_3 0 rfl rfl)
theorem dX1_day_65 : decode cX1_day 65 = .ok (.invokevirtual 190, 3) := dk_182 0 190 (dk_at dksX1_day_3 1 rfl rfl)
theorem dX1_day_68 : decode cX1_day 68 = .ok (.ireturn, 1) := dk_172 (dk_at dksX1_day_3 4 rfl rfl)
theorem dX1_day_69 : decode cX1_day 69 = .ok (.aload_n 3, 1) := dk_45 (dk_at dksX1_day_3 5 rfl rfl)
theorem dX1_day_70 : decode cX1_day 70 = .ok (.getfield 193, 3) := dk_180 0 193 (dk_at dksX1_day_3 6 rfl rfl)
theorem dX1_day_73 : decode cX1_day 73 = .ok (.ireturn, 1) := dk_172 (dk_at dksX1_day_3 9 rfl rfl)
theorem dX1_day_74 : decode cX1_day 74 = .ok (.aload_n 3, 1) := dk_45 (dk_at dksX1_day_3 10 rfl rfl)
theorem dX1_day_75 : decode cX1_day 75 = .ok (.getfield 196, 3) := dk_180 0 196 (dk_at dksX1_day_3 11 rfl rfl)
theorem dX1_day_78 : decode cX1_day 78 = .ok (.ireturn, 1) := dk_172 (dk_at dksX1_day_3 14 rfl rfl)
theorem dX1_day_79 : decode cX1_day 79 = .ok (.aload_n 3, 1) := dk_45 (dk_at dksX1_day_3 15 rfl rfl)
theorem dX1_day_80 : decode cX1_day 80 = .ok (.getfield 198, 3) := dk_180 0 198 (dk_at dksX1_day_3 16 rfl rfl)
theorem dX1_day_83 : decode cX1_day 83 = .ok (.ireturn, 1) := dk_172 (dk_at dksX1_day_3 19 rfl rfl)
theorem dX1_day_84 : decode cX1_day 84 = .ok (.aload_n 3, 1) := dk_45 (dk_at dksX1_day_3 20 rfl rfl)
theorem dX1_day_85 : decode cX1_day 85 = .ok (.getfield 201, 3) := dk_180 0 201 (dk_at dksX1_day_3 21 rfl rfl)
theorem dX1_day_88 : decode cX1_day 88 = .ok (.ireturn, 1) := dk_172 (dk_at dksX1_day_4 0 rfl rfl)
abbrev cX1_dayOf : ByteArray := prog_1_method_20_code
def yX1_dayOf : MethodName := ⟨RX1, "dayOf", "(LLookAtClock$Looker;)LLookAtClock$Day;"⟩
def dkwX1_dayOf_0 : List UInt8 := [42, 180, 0, 176, 42, 180, 0, 34, 43, 43, 180, 0, 168, 42, 180, 0, 34, 180, 0, 91, 182, 0, 180, 176]
abbrev dktX1_dayOf_0 : List UInt8 := dkwX1_dayOf_0 ++ []
theorem dksX1_dayOf_0 : cX1_dayOf.data.toList.drop 0 = dktX1_dayOf_0 := by decide +kernel
theorem dX1_dayOf_0 : decode cX1_dayOf 0 = .ok (.aload_n 0, 1) := dk_42 (dk_at dksX1_dayOf_0 0 rfl rfl)
theorem dX1_dayOf_1 : decode cX1_dayOf 1 = .ok (.getfield 176, 3) := dk_180 0 176 (dk_at dksX1_dayOf_0 1 rfl rfl)
theorem dX1_dayOf_4 : decode cX1_dayOf 4 = .ok (.aload_n 0, 1) := dk_42 (dk_at dksX1_dayOf_0 4 rfl rfl)
theorem dX1_dayOf_5 : decode cX1_dayOf 5 = .ok (.getfield 34, 3) := dk_180 0 34 (dk_at dksX1_dayOf_0 5 rfl rfl)
theorem dX1_dayOf_8 : decode cX1_dayOf 8 = .ok (.aload_n 1, 1) := dk_43 (dk_at dksX1_dayOf_0 8 rfl rfl)
theorem dX1_dayOf_9 : decode cX1_dayOf 9 = .ok (.aload_n 1, 1) := dk_43 (dk_at dksX1_dayOf_0 9 rfl rfl)
theorem dX1_dayOf_10 : decode cX1_dayOf 10 = .ok (.getfield 168, 3) := dk_180 0 168 (dk_at dksX1_dayOf_0 10 rfl rfl)
theorem dX1_dayOf_13 : decode cX1_dayOf 13 = .ok (.aload_n 0, 1) := dk_42 (dk_at dksX1_dayOf_0 13 rfl rfl)
theorem dX1_dayOf_14 : decode cX1_dayOf 14 = .ok (.getfield 34, 3) := dk_180 0 34 (dk_at dksX1_dayOf_0 14 rfl rfl)
theorem dX1_dayOf_17 : decode cX1_dayOf 17 = .ok (.getfield 91, 3) := dk_180 0 91 (dk_at dksX1_dayOf_0 17 rfl rfl)
theorem dX1_dayOf_20 : decode cX1_dayOf 20 = .ok (.invokevirtual 180, 3) := dk_182 0 180 (dk_at dksX1_dayOf_0 20 rfl rfl)
theorem dX1_dayOf_23 : decode cX1_dayOf 23 = .ok (.areturn, 1) := dk_176 (dk_at dksX1_dayOf_0 23 rfl rfl)
abbrev cX1_look : ByteArray := prog_1_method_22_code
def yX1_look : MethodName := ⟨RX1, "look", "(II)I"⟩
def dkwX1_look_1 : List UInt8 := [182, 0, 186, 78, 28, 45, 180, 0, 193, 162, 0, 12, 45, 180, 0, 204, 28, 46, 167, 0, 5, 16, 252, 172]
abbrev dktX1_look_1 : List UInt8 := dkwX1_look_1 ++ []
def dkwX1_look_0 : List UInt8 := [42, 27, 182, 0, 153, 153, 0, 7, 28, 156, 0, 5, 2, 172, 42, 42, 180, 0, 34, 180, 0, 61, 27, 50]
abbrev dktX1_look_0 : List UInt8 := dkwX1_look_0 ++ dktX1_look_1
theorem dksX1_look_0 : cX1_look.data.toList.drop 0 = dktX1_look_0 := by decide +kernel
theorem dksX1_look_1 : cX1_look.data.toList.drop 24 = dktX1_look_1 := dk_seg dksX1_look_0 24 rfl rfl
theorem dX1_look_0 : decode cX1_look 0 = .ok (.aload_n 0, 1) := dk_42 (dk_at dksX1_look_0 0 rfl rfl)
theorem dX1_look_1 : decode cX1_look 1 = .ok (.iload_n 1, 1) := dk_27 (dk_at dksX1_look_0 1 rfl rfl)
theorem dX1_look_2 : decode cX1_look 2 = .ok (.invokevirtual 153, 3) := dk_182 0 153 (dk_at dksX1_look_0 2 rfl rfl)
theorem dX1_look_5 : decode cX1_look 5 = .ok (.ifCond .eq 7, 3) := dk_153 0 7 (dk_at dksX1_look_0 5 rfl rfl)
theorem dX1_look_8 : decode cX1_look 8 = .ok (.iload_n 2, 1) := dk_28 (dk_at dksX1_look_0 8 rfl rfl)
theorem dX1_look_9 : decode cX1_look 9 = .ok (.ifCond .ge 5, 3) := dk_156 0 5 (dk_at dksX1_look_0 9 rfl rfl)
theorem dX1_look_12 : decode cX1_look 12 = .ok (.iconst (-1), 1) := dk_2 (dk_at dksX1_look_0 12 rfl rfl)
theorem dX1_look_13 : decode cX1_look 13 = .ok (.ireturn, 1) := dk_172 (dk_at dksX1_look_0 13 rfl rfl)
theorem dX1_look_14 : decode cX1_look 14 = .ok (.aload_n 0, 1) := dk_42 (dk_at dksX1_look_0 14 rfl rfl)
theorem dX1_look_15 : decode cX1_look 15 = .ok (.aload_n 0, 1) := dk_42 (dk_at dksX1_look_0 15 rfl rfl)
theorem dX1_look_16 : decode cX1_look 16 = .ok (.getfield 34, 3) := dk_180 0 34 (dk_at dksX1_look_0 16 rfl rfl)
theorem dX1_look_19 : decode cX1_look 19 = .ok (.getfield 61, 3) := dk_180 0 61 (dk_at dksX1_look_0 19 rfl rfl)
theorem dX1_look_22 : decode cX1_look 22 = .ok (.iload_n 1, 1) := dk_27 (dk_at dksX1_look_0 22 rfl rfl)
theorem dX1_look_23 : decode cX1_look 23 = .ok (.aaload, 1) := dk_50 (dk_at dksX1_look_0 23 rfl rfl)
theorem dX1_look_24 : decode cX1_look 24 = .ok (.invokevirtual 186, 3) := dk_182 0 186 (dk_at dksX1_look_1 0 rfl rfl)
theorem dX1_look_27 : decode cX1_look 27 = .ok (.astore_n 3, 1) := dk_78 (dk_at dksX1_look_1 3 rfl rfl)
theorem dX1_look_28 : decode cX1_look 28 = .ok (.iload_n 2, 1) := dk_28 (dk_at dksX1_look_1 4 rfl rfl)
theorem dX1_look_29 : decode cX1_look 29 = .ok (.aload_n 3, 1) := dk_45 (dk_at dksX1_look_1 5 rfl rfl)
theorem dX1_look_30 : decode cX1_look 30 = .ok (.getfield 193, 3) := dk_180 0 193 (dk_at dksX1_look_1 6 rfl rfl)
theorem dX1_look_33 : decode cX1_look 33 = .ok (.if_icmp .ge 12, 3) := dk_162 0 12 (dk_at dksX1_look_1 9 rfl rfl)
theorem dX1_look_36 : decode cX1_look 36 = .ok (.aload_n 3, 1) := dk_45 (dk_at dksX1_look_1 12 rfl rfl)
theorem dX1_look_37 : decode cX1_look 37 = .ok (.getfield 204, 3) := dk_180 0 204 (dk_at dksX1_look_1 13 rfl rfl)
theorem dX1_look_40 : decode cX1_look 40 = .ok (.iload_n 2, 1) := dk_28 (dk_at dksX1_look_1 16 rfl rfl)
theorem dX1_look_41 : decode cX1_look 41 = .ok (.iaload, 1) := dk_46 (dk_at dksX1_look_1 17 rfl rfl)
theorem dX1_look_42 : decode cX1_look 42 = .ok (.goto 5, 3) := dk_167 0 5 (dk_at dksX1_look_1 18 rfl rfl)
theorem dX1_look_45 : decode cX1_look 45 = .ok (.bipush (-4), 2) := dk_16 252 (dk_at dksX1_look_1 21 rfl rfl)
theorem dX1_look_47 : decode cX1_look 47 = .ok (.ireturn, 1) := dk_172 (dk_at dksX1_look_1 23 rfl rfl)
abbrev cX1_comes : ByteArray := prog_1_method_23_code
def yX1_comes : MethodName := ⟨RX1, "comes", "(II)I"⟩
def dkwX1_comes_1 : List UInt8 := [180, 0, 61, 27, 50, 182, 0, 186, 180, 0, 207, 28, 46, 172]
abbrev dktX1_comes_1 : List UInt8 := dkwX1_comes_1 ++ []
def dkwX1_comes_0 : List UInt8 := [42, 27, 182, 0, 153, 153, 0, 11, 42, 28, 182, 0, 150, 154, 0, 5, 2, 172, 42, 42, 180, 0, 34]
abbrev dktX1_comes_0 : List UInt8 := dkwX1_comes_0 ++ dktX1_comes_1
theorem dksX1_comes_0 : cX1_comes.data.toList.drop 0 = dktX1_comes_0 := by decide +kernel
theorem dksX1_comes_1 : cX1_comes.data.toList.drop 23 = dktX1_comes_1 := dk_seg dksX1_comes_0 23 rfl rfl
theorem dX1_comes_0 : decode cX1_comes 0 = .ok (.aload_n 0, 1) := dk_42 (dk_at dksX1_comes_0 0 rfl rfl)
theorem dX1_comes_1 : decode cX1_comes 1 = .ok (.iload_n 1, 1) := dk_27 (dk_at dksX1_comes_0 1 rfl rfl)
theorem dX1_comes_2 : decode cX1_comes 2 = .ok (.invokevirtual 153, 3) := dk_182 0 153 (dk_at dksX1_comes_0 2 rfl rfl)
theorem dX1_comes_5 : decode cX1_comes 5 = .ok (.ifCond .eq 11, 3) := dk_153 0 11 (dk_at dksX1_comes_0 5 rfl rfl)
theorem dX1_comes_8 : decode cX1_comes 8 = .ok (.aload_n 0, 1) := dk_42 (dk_at dksX1_comes_0 8 rfl rfl)
theorem dX1_comes_9 : decode cX1_comes 9 = .ok (.iload_n 2, 1) := dk_28 (dk_at dksX1_comes_0 9 rfl rfl)
theorem dX1_comes_10 : decode cX1_comes 10 = .ok (.invokevirtual 150, 3) := dk_182 0 150 (dk_at dksX1_comes_0 10 rfl rfl)
theorem dX1_comes_13 : decode cX1_comes 13 = .ok (.ifCond .ne 5, 3) := dk_154 0 5 (dk_at dksX1_comes_0 13 rfl rfl)
theorem dX1_comes_16 : decode cX1_comes 16 = .ok (.iconst (-1), 1) := dk_2 (dk_at dksX1_comes_0 16 rfl rfl)
theorem dX1_comes_17 : decode cX1_comes 17 = .ok (.ireturn, 1) := dk_172 (dk_at dksX1_comes_0 17 rfl rfl)
theorem dX1_comes_18 : decode cX1_comes 18 = .ok (.aload_n 0, 1) := dk_42 (dk_at dksX1_comes_0 18 rfl rfl)
theorem dX1_comes_19 : decode cX1_comes 19 = .ok (.aload_n 0, 1) := dk_42 (dk_at dksX1_comes_0 19 rfl rfl)
theorem dX1_comes_20 : decode cX1_comes 20 = .ok (.getfield 34, 3) := dk_180 0 34 (dk_at dksX1_comes_0 20 rfl rfl)
theorem dX1_comes_23 : decode cX1_comes 23 = .ok (.getfield 61, 3) := dk_180 0 61 (dk_at dksX1_comes_1 0 rfl rfl)
theorem dX1_comes_26 : decode cX1_comes 26 = .ok (.iload_n 1, 1) := dk_27 (dk_at dksX1_comes_1 3 rfl rfl)
theorem dX1_comes_27 : decode cX1_comes 27 = .ok (.aaload, 1) := dk_50 (dk_at dksX1_comes_1 4 rfl rfl)
theorem dX1_comes_28 : decode cX1_comes 28 = .ok (.invokevirtual 186, 3) := dk_182 0 186 (dk_at dksX1_comes_1 5 rfl rfl)
theorem dX1_comes_31 : decode cX1_comes 31 = .ok (.getfield 207, 3) := dk_180 0 207 (dk_at dksX1_comes_1 8 rfl rfl)
theorem dX1_comes_34 : decode cX1_comes 34 = .ok (.iload_n 2, 1) := dk_28 (dk_at dksX1_comes_1 11 rfl rfl)
theorem dX1_comes_35 : decode cX1_comes 35 = .ok (.iaload, 1) := dk_46 (dk_at dksX1_comes_1 12 rfl rfl)
theorem dX1_comes_36 : decode cX1_comes 36 = .ok (.ireturn, 1) := dk_172 (dk_at dksX1_comes_1 13 rfl rfl)
abbrev cX1_bestFigure : ByteArray := prog_1_method_25_code
def yX1_bestFigure : MethodName := ⟨RX1, "bestFigure", "(I)I"⟩
def dkwX1_bestFigure_2 : List UInt8 := [29, 161, 0, 6, 167, 0, 9, 21, 4, 61, 21, 5, 62, 132, 4, 1, 167, 255, 218, 28, 172]
abbrev dktX1_bestFigure_2 : List UInt8 := dkwX1_bestFigure_2 ++ []
def dkwX1_bestFigure_1 : List UInt8 := [54, 4, 21, 4, 16, 9, 163, 0, 37, 42, 27, 5, 21, 4, 182, 0, 210, 182, 0, 190, 54, 5, 21, 5]
abbrev dktX1_bestFigure_1 : List UInt8 := dkwX1_bestFigure_1 ++ dktX1_bestFigure_2
def dkwX1_bestFigure_0 : List UInt8 := [42, 27, 182, 0, 153, 154, 0, 5, 2, 172, 3, 61, 42, 27, 5, 3, 182, 0, 210, 182, 0, 190, 62, 4]
abbrev dktX1_bestFigure_0 : List UInt8 := dkwX1_bestFigure_0 ++ dktX1_bestFigure_1
theorem dksX1_bestFigure_0 : cX1_bestFigure.data.toList.drop 0 = dktX1_bestFigure_0 := by decide +kernel
theorem dksX1_bestFigure_1 : cX1_bestFigure.data.toList.drop 24 = dktX1_bestFigure_1 := dk_seg dksX1_bestFigure_0 24 rfl rfl
theorem dksX1_bestFigure_2 : cX1_bestFigure.data.toList.drop 48 = dktX1_bestFigure_2 := dk_seg dksX1_bestFigure_1 24 rfl rfl
theorem dX1_bestFigure_0 : decode cX1_bestFigure 0 = .ok (.aload_n 0, 1) := dk_42 (dk_at dksX1_bestFigure_0 0 rfl rfl)
theorem dX1_bestFigure_1 : decode cX1_bestFigure 1 = .ok (.iload_n 1, 1) := dk_27 (dk_at dksX1_bestFigure_0 1 rfl rfl)
theorem dX1_bestFigure_2 : decode cX1_bestFigure 2 = .ok (.invokevirtual 153, 3) := dk_182 0 153 (dk_at dksX1_bestFigure_0 2 rfl rfl)
theorem dX1_bestFigure_5 : decode cX1_bestFigure 5 = .ok (.ifCond .ne 5, 3) := dk_154 0 5 (dk_at dksX1_bestFigure_0 5 rfl rfl)
theorem dX1_bestFigure_8 : decode cX1_bestFigure 8 = .ok (.iconst (-1), 1) := dk_2 (dk_at dksX1_bestFigure_0 8 rfl rfl)
theorem dX1_bestFigure_9 : decode cX1_bestFigure 9 = .ok (.ireturn, 1) := dk_172 (dk_at dksX1_bestFigure_0 9 rfl rfl)
theorem dX1_bestFigure_10 : decode cX1_bestFigure 10 = .ok (.iconst 0, 1) := dk_3 (dk_at dksX1_bestFigure_0 10 rfl rfl)
theorem dX1_bestFigure_11 : decode cX1_bestFigure 11 = .ok (.istore_n 2, 1) := dk_61 (dk_at dksX1_bestFigure_0 11 rfl rfl)
theorem dX1_bestFigure_12 : decode cX1_bestFigure 12 = .ok (.aload_n 0, 1) := dk_42 (dk_at dksX1_bestFigure_0 12 rfl rfl)
theorem dX1_bestFigure_13 : decode cX1_bestFigure 13 = .ok (.iload_n 1, 1) := dk_27 (dk_at dksX1_bestFigure_0 13 rfl rfl)
theorem dX1_bestFigure_14 : decode cX1_bestFigure 14 = .ok (.iconst 2, 1) := dk_5 (dk_at dksX1_bestFigure_0 14 rfl rfl)
theorem dX1_bestFigure_15 : decode cX1_bestFigure 15 = .ok (.iconst 0, 1) := dk_3 (dk_at dksX1_bestFigure_0 15 rfl rfl)
theorem dX1_bestFigure_16 : decode cX1_bestFigure 16 = .ok (.invokevirtual 210, 3) := dk_182 0 210 (dk_at dksX1_bestFigure_0 16 rfl rfl)
theorem dX1_bestFigure_19 : decode cX1_bestFigure 19 = .ok (.invokevirtual 190, 3) := dk_182 0 190 (dk_at dksX1_bestFigure_0 19 rfl rfl)
theorem dX1_bestFigure_22 : decode cX1_bestFigure 22 = .ok (.istore_n 3, 1) := dk_62 (dk_at dksX1_bestFigure_0 22 rfl rfl)
theorem dX1_bestFigure_23 : decode cX1_bestFigure 23 = .ok (.iconst 1, 1) := dk_4 (dk_at dksX1_bestFigure_0 23 rfl rfl)
theorem dX1_bestFigure_24 : decode cX1_bestFigure 24 = .ok (.istore 4, 2) := dk_54 4 (dk_at dksX1_bestFigure_1 0 rfl rfl)
theorem dX1_bestFigure_26 : decode cX1_bestFigure 26 = .ok (.iload 4, 2) := dk_21 4 (dk_at dksX1_bestFigure_1 2 rfl rfl)
theorem dX1_bestFigure_28 : decode cX1_bestFigure 28 = .ok (.bipush 9, 2) := dk_16 9 (dk_at dksX1_bestFigure_1 4 rfl rfl)
theorem dX1_bestFigure_30 : decode cX1_bestFigure 30 = .ok (.if_icmp .gt 37, 3) := dk_163 0 37 (dk_at dksX1_bestFigure_1 6 rfl rfl)
theorem dX1_bestFigure_33 : decode cX1_bestFigure 33 = .ok (.aload_n 0, 1) := dk_42 (dk_at dksX1_bestFigure_1 9 rfl rfl)
theorem dX1_bestFigure_34 : decode cX1_bestFigure 34 = .ok (.iload_n 1, 1) := dk_27 (dk_at dksX1_bestFigure_1 10 rfl rfl)
theorem dX1_bestFigure_35 : decode cX1_bestFigure 35 = .ok (.iconst 2, 1) := dk_5 (dk_at dksX1_bestFigure_1 11 rfl rfl)
theorem dX1_bestFigure_36 : decode cX1_bestFigure 36 = .ok (.iload 4, 2) := dk_21 4 (dk_at dksX1_bestFigure_1 12 rfl rfl)
theorem dX1_bestFigure_38 : decode cX1_bestFigure 38 = .ok (.invokevirtual 210, 3) := dk_182 0 210 (dk_at dksX1_bestFigure_1 14 rfl rfl)
theorem dX1_bestFigure_41 : decode cX1_bestFigure 41 = .ok (.invokevirtual 190, 3) := dk_182 0 190 (dk_at dksX1_bestFigure_1 17 rfl rfl)
theorem dX1_bestFigure_44 : decode cX1_bestFigure 44 = .ok (.istore 5, 2) := dk_54 5 (dk_at dksX1_bestFigure_1 20 rfl rfl)
theorem dX1_bestFigure_46 : decode cX1_bestFigure 46 = .ok (.iload 5, 2) := dk_21 5 (dk_at dksX1_bestFigure_1 22 rfl rfl)
theorem dX1_bestFigure_48 : decode cX1_bestFigure 48 = .ok (.iload_n 3, 1) := dk_29 (dk_at dksX1_bestFigure_2 0 rfl rfl)
theorem dX1_bestFigure_49 : decode cX1_bestFigure 49 = .ok (.if_icmp .lt 6, 3) := dk_161 0 6 (dk_at dksX1_bestFigure_2 1 rfl rfl)
theorem dX1_bestFigure_52 : decode cX1_bestFigure 52 = .ok (.goto 9, 3) := dk_167 0 9 (dk_at dksX1_bestFigure_2 4 rfl rfl)
theorem dX1_bestFigure_55 : decode cX1_bestFigure 55 = .ok (.iload 4, 2) := dk_21 4 (dk_at dksX1_bestFigure_2 7 rfl rfl)
theorem dX1_bestFigure_57 : decode cX1_bestFigure 57 = .ok (.istore_n 2, 1) := dk_61 (dk_at dksX1_bestFigure_2 9 rfl rfl)
theorem dX1_bestFigure_58 : decode cX1_bestFigure 58 = .ok (.iload 5, 2) := dk_21 5 (dk_at dksX1_bestFigure_2 10 rfl rfl)
theorem dX1_bestFigure_60 : decode cX1_bestFigure 60 = .ok (.istore_n 3, 1) := dk_62 (dk_at dksX1_bestFigure_2 12 rfl rfl)
theorem dX1_bestFigure_61 : decode cX1_bestFigure 61 = .ok (.iinc 4 1, 3) := dk_132 4 1 (dk_at dksX1_bestFigure_2 13 rfl rfl)
theorem dX1_bestFigure_64 : decode cX1_bestFigure 64 = .ok (.goto (-38), 3) := dk_167 255 218 (dk_at dksX1_bestFigure_2 16 rfl rfl)
theorem dX1_bestFigure_67 : decode cX1_bestFigure 67 = .ok (.iload_n 2, 1) := dk_28 (dk_at dksX1_bestFigure_2 19 rfl rfl)
theorem dX1_bestFigure_68 : decode cX1_bestFigure 68 = .ok (.ireturn, 1) := dk_172 (dk_at dksX1_bestFigure_2 20 rfl rfl)
abbrev cX1_dayAs : ByteArray := prog_1_method_24_code
def yX1_dayAs : MethodName := ⟨RX1, "dayAs", "(III)LLookAtClock$Day;"⟩
def dkwX1_dayAs_1 : List UInt8 := [180, 0, 162, 184, 0, 65, 182, 0, 186, 176]
abbrev dktX1_dayAs_1 : List UInt8 := dkwX1_dayAs_1 ++ []
def dkwX1_dayAs_0 : List UInt8 := [42, 180, 0, 34, 180, 0, 61, 27, 50, 58, 4, 42, 28, 27, 29, 25, 4, 180, 0, 168, 25, 4]
abbrev dktX1_dayAs_0 : List UInt8 := dkwX1_dayAs_0 ++ dktX1_dayAs_1
theorem dksX1_dayAs_0 : cX1_dayAs.data.toList.drop 0 = dktX1_dayAs_0 := by decide +kernel
theorem dksX1_dayAs_1 : cX1_dayAs.data.toList.drop 22 = dktX1_dayAs_1 := dk_seg dksX1_dayAs_0 22 rfl rfl
theorem dX1_dayAs_0 : decode cX1_dayAs 0 = .ok (.aload_n 0, 1) := dk_42 (dk_at dksX1_dayAs_0 0 rfl rfl)
theorem dX1_dayAs_1 : decode cX1_dayAs 1 = .ok (.getfield 34, 3) := dk_180 0 34 (dk_at dksX1_dayAs_0 1 rfl rfl)
theorem dX1_dayAs_4 : decode cX1_dayAs 4 = .ok (.getfield 61, 3) := dk_180 0 61 (dk_at dksX1_dayAs_0 4 rfl rfl)
theorem dX1_dayAs_7 : decode cX1_dayAs 7 = .ok (.iload_n 1, 1) := dk_27 (dk_at dksX1_dayAs_0 7 rfl rfl)
theorem dX1_dayAs_8 : decode cX1_dayAs 8 = .ok (.aaload, 1) := dk_50 (dk_at dksX1_dayAs_0 8 rfl rfl)
theorem dX1_dayAs_9 : decode cX1_dayAs 9 = .ok (.astore 4, 2) := dk_58 4 (dk_at dksX1_dayAs_0 9 rfl rfl)
theorem dX1_dayAs_11 : decode cX1_dayAs 11 = .ok (.aload_n 0, 1) := dk_42 (dk_at dksX1_dayAs_0 11 rfl rfl)
theorem dX1_dayAs_12 : decode cX1_dayAs 12 = .ok (.iload_n 2, 1) := dk_28 (dk_at dksX1_dayAs_0 12 rfl rfl)
theorem dX1_dayAs_13 : decode cX1_dayAs 13 = .ok (.iload_n 1, 1) := dk_27 (dk_at dksX1_dayAs_0 13 rfl rfl)
theorem dX1_dayAs_14 : decode cX1_dayAs 14 = .ok (.iload_n 3, 1) := dk_29 (dk_at dksX1_dayAs_0 14 rfl rfl)
theorem dX1_dayAs_15 : decode cX1_dayAs 15 = .ok (.aload 4, 2) := dk_25 4 (dk_at dksX1_dayAs_0 15 rfl rfl)
theorem dX1_dayAs_17 : decode cX1_dayAs 17 = .ok (.getfield 168, 3) := dk_180 0 168 (dk_at dksX1_dayAs_0 17 rfl rfl)
theorem dX1_dayAs_20 : decode cX1_dayAs 20 = .ok (.aload 4, 2) := dk_25 4 (dk_at dksX1_dayAs_0 20 rfl rfl)
theorem dX1_dayAs_22 : decode cX1_dayAs 22 = .ok (.getfield 162, 3) := dk_180 0 162 (dk_at dksX1_dayAs_1 0 rfl rfl)
theorem dX1_dayAs_25 : decode cX1_dayAs 25 = .ok (.invokestatic 65, 3) := dk_184 0 65 (dk_at dksX1_dayAs_1 3 rfl rfl)
theorem dX1_dayAs_28 : decode cX1_dayAs 28 = .ok (.invokevirtual 186, 3) := dk_182 0 186 (dk_at dksX1_dayAs_1 6 rfl rfl)
theorem dX1_dayAs_31 : decode cX1_dayAs 31 = .ok (.areturn, 1) := dk_176 (dk_at dksX1_dayAs_1 9 rfl rfl)
abbrev cX1_always : ByteArray := prog_1_method_26_code
def yX1_always : MethodName := ⟨RX1, "always", "(I)I"⟩
def dkwX1_always_1 : List UInt8 := [182, 0, 210, 180, 0, 196, 154, 0, 5, 28, 172, 132, 2, 1, 167, 255, 232, 16, 252, 172]
abbrev dktX1_always_1 : List UInt8 := dkwX1_always_1 ++ []
def dkwX1_always_0 : List UInt8 := [42, 27, 182, 0, 153, 154, 0, 5, 2, 172, 3, 61, 28, 16, 9, 163, 0, 24, 42, 27, 4, 28]
abbrev dktX1_always_0 : List UInt8 := dkwX1_always_0 ++ dktX1_always_1
theorem dksX1_always_0 : cX1_always.data.toList.drop 0 = dktX1_always_0 := by decide +kernel
theorem dksX1_always_1 : cX1_always.data.toList.drop 22 = dktX1_always_1 := dk_seg dksX1_always_0 22 rfl rfl
theorem dX1_always_0 : decode cX1_always 0 = .ok (.aload_n 0, 1) := dk_42 (dk_at dksX1_always_0 0 rfl rfl)
theorem dX1_always_1 : decode cX1_always 1 = .ok (.iload_n 1, 1) := dk_27 (dk_at dksX1_always_0 1 rfl rfl)
theorem dX1_always_2 : decode cX1_always 2 = .ok (.invokevirtual 153, 3) := dk_182 0 153 (dk_at dksX1_always_0 2 rfl rfl)
theorem dX1_always_5 : decode cX1_always 5 = .ok (.ifCond .ne 5, 3) := dk_154 0 5 (dk_at dksX1_always_0 5 rfl rfl)
theorem dX1_always_8 : decode cX1_always 8 = .ok (.iconst (-1), 1) := dk_2 (dk_at dksX1_always_0 8 rfl rfl)
theorem dX1_always_9 : decode cX1_always 9 = .ok (.ireturn, 1) := dk_172 (dk_at dksX1_always_0 9 rfl rfl)
theorem dX1_always_10 : decode cX1_always 10 = .ok (.iconst 0, 1) := dk_3 (dk_at dksX1_always_0 10 rfl rfl)
theorem dX1_always_11 : decode cX1_always 11 = .ok (.istore_n 2, 1) := dk_61 (dk_at dksX1_always_0 11 rfl rfl)
theorem dX1_always_12 : decode cX1_always 12 = .ok (.iload_n 2, 1) := dk_28 (dk_at dksX1_always_0 12 rfl rfl)
theorem dX1_always_13 : decode cX1_always 13 = .ok (.bipush 9, 2) := dk_16 9 (dk_at dksX1_always_0 13 rfl rfl)
theorem dX1_always_15 : decode cX1_always 15 = .ok (.if_icmp .gt 24, 3) := dk_163 0 24 (dk_at dksX1_always_0 15 rfl rfl)
theorem dX1_always_18 : decode cX1_always 18 = .ok (.aload_n 0, 1) := dk_42 (dk_at dksX1_always_0 18 rfl rfl)
theorem dX1_always_19 : decode cX1_always 19 = .ok (.iload_n 1, 1) := dk_27 (dk_at dksX1_always_0 19 rfl rfl)
theorem dX1_always_20 : decode cX1_always 20 = .ok (.iconst 1, 1) := dk_4 (dk_at dksX1_always_0 20 rfl rfl)
theorem dX1_always_21 : decode cX1_always 21 = .ok (.iload_n 2, 1) := dk_28 (dk_at dksX1_always_0 21 rfl rfl)
theorem dX1_always_22 : decode cX1_always 22 = .ok (.invokevirtual 210, 3) := dk_182 0 210 (dk_at dksX1_always_1 0 rfl rfl)
theorem dX1_always_25 : decode cX1_always 25 = .ok (.getfield 196, 3) := dk_180 0 196 (dk_at dksX1_always_1 3 rfl rfl)
theorem dX1_always_28 : decode cX1_always 28 = .ok (.ifCond .ne 5, 3) := dk_154 0 5 (dk_at dksX1_always_1 6 rfl rfl)
theorem dX1_always_31 : decode cX1_always 31 = .ok (.iload_n 2, 1) := dk_28 (dk_at dksX1_always_1 9 rfl rfl)
theorem dX1_always_32 : decode cX1_always 32 = .ok (.ireturn, 1) := dk_172 (dk_at dksX1_always_1 10 rfl rfl)
theorem dX1_always_33 : decode cX1_always 33 = .ok (.iinc 2 1, 3) := dk_132 2 1 (dk_at dksX1_always_1 11 rfl rfl)
theorem dX1_always_36 : decode cX1_always 36 = .ok (.goto (-24), 3) := dk_167 255 232 (dk_at dksX1_always_1 14 rfl rfl)
theorem dX1_always_39 : decode cX1_always 39 = .ok (.bipush (-4), 2) := dk_16 252 (dk_at dksX1_always_1 17 rfl rfl)
theorem dX1_always_41 : decode cX1_always 41 = .ok (.ireturn, 1) := dk_172 (dk_at dksX1_always_1 19 rfl rfl)
abbrev cX1_pays : ByteArray := prog_1_method_27_code
def yX1_pays : MethodName := ⟨RX1, "pays", "(I)I"⟩
def dkwX1_pays_2 : List UInt8 := [182, 0, 190, 100, 172]
abbrev dktX1_pays_2 : List UInt8 := dkwX1_pays_2 ++ []
def dkwX1_pays_1 : List UInt8 := [180, 0, 159, 182, 0, 210, 182, 0, 190, 61, 28, 42, 42, 180, 0, 34, 180, 0, 61, 27, 50, 182, 0, 186]
abbrev dktX1_pays_1 : List UInt8 := dkwX1_pays_1 ++ dktX1_pays_2
def dkwX1_pays_0 : List UInt8 := [42, 27, 182, 0, 153, 154, 0, 6, 18, 171, 172, 42, 27, 3, 42, 180, 0, 34, 180, 0, 61, 27, 50]
abbrev dktX1_pays_0 : List UInt8 := dkwX1_pays_0 ++ dktX1_pays_1
theorem dksX1_pays_0 : cX1_pays.data.toList.drop 0 = dktX1_pays_0 := by decide +kernel
theorem dksX1_pays_1 : cX1_pays.data.toList.drop 23 = dktX1_pays_1 := dk_seg dksX1_pays_0 23 rfl rfl
theorem dksX1_pays_2 : cX1_pays.data.toList.drop 47 = dktX1_pays_2 := dk_seg dksX1_pays_1 24 rfl rfl
theorem dX1_pays_0 : decode cX1_pays 0 = .ok (.aload_n 0, 1) := dk_42 (dk_at dksX1_pays_0 0 rfl rfl)
theorem dX1_pays_1 : decode cX1_pays 1 = .ok (.iload_n 1, 1) := dk_27 (dk_at dksX1_pays_0 1 rfl rfl)
theorem dX1_pays_2 : decode cX1_pays 2 = .ok (.invokevirtual 153, 3) := dk_182 0 153 (dk_at dksX1_pays_0 2 rfl rfl)
theorem dX1_pays_5 : decode cX1_pays 5 = .ok (.ifCond .ne 6, 3) := dk_154 0 6 (dk_at dksX1_pays_0 5 rfl rfl)
theorem dX1_pays_8 : decode cX1_pays 8 = .ok (.ldc 171, 2) := dk_18 171 (dk_at dksX1_pays_0 8 rfl rfl)
theorem dX1_pays_10 : decode cX1_pays 10 = .ok (.ireturn, 1) := dk_172 (dk_at dksX1_pays_0 10 rfl rfl)
theorem dX1_pays_11 : decode cX1_pays 11 = .ok (.aload_n 0, 1) := dk_42 (dk_at dksX1_pays_0 11 rfl rfl)
theorem dX1_pays_12 : decode cX1_pays 12 = .ok (.iload_n 1, 1) := dk_27 (dk_at dksX1_pays_0 12 rfl rfl)
theorem dX1_pays_13 : decode cX1_pays 13 = .ok (.iconst 0, 1) := dk_3 (dk_at dksX1_pays_0 13 rfl rfl)
theorem dX1_pays_14 : decode cX1_pays 14 = .ok (.aload_n 0, 1) := dk_42 (dk_at dksX1_pays_0 14 rfl rfl)
theorem dX1_pays_15 : decode cX1_pays 15 = .ok (.getfield 34, 3) := dk_180 0 34 (dk_at dksX1_pays_0 15 rfl rfl)
theorem dX1_pays_18 : decode cX1_pays 18 = .ok (.getfield 61, 3) := dk_180 0 61 (dk_at dksX1_pays_0 18 rfl rfl)
theorem dX1_pays_21 : decode cX1_pays 21 = .ok (.iload_n 1, 1) := dk_27 (dk_at dksX1_pays_0 21 rfl rfl)
theorem dX1_pays_22 : decode cX1_pays 22 = .ok (.aaload, 1) := dk_50 (dk_at dksX1_pays_0 22 rfl rfl)
theorem dX1_pays_23 : decode cX1_pays 23 = .ok (.getfield 159, 3) := dk_180 0 159 (dk_at dksX1_pays_1 0 rfl rfl)
theorem dX1_pays_26 : decode cX1_pays 26 = .ok (.invokevirtual 210, 3) := dk_182 0 210 (dk_at dksX1_pays_1 3 rfl rfl)
theorem dX1_pays_29 : decode cX1_pays 29 = .ok (.invokevirtual 190, 3) := dk_182 0 190 (dk_at dksX1_pays_1 6 rfl rfl)
theorem dX1_pays_32 : decode cX1_pays 32 = .ok (.istore_n 2, 1) := dk_61 (dk_at dksX1_pays_1 9 rfl rfl)
theorem dX1_pays_33 : decode cX1_pays 33 = .ok (.iload_n 2, 1) := dk_28 (dk_at dksX1_pays_1 10 rfl rfl)
theorem dX1_pays_34 : decode cX1_pays 34 = .ok (.aload_n 0, 1) := dk_42 (dk_at dksX1_pays_1 11 rfl rfl)
theorem dX1_pays_35 : decode cX1_pays 35 = .ok (.aload_n 0, 1) := dk_42 (dk_at dksX1_pays_1 12 rfl rfl)
theorem dX1_pays_36 : decode cX1_pays 36 = .ok (.getfield 34, 3) := dk_180 0 34 (dk_at dksX1_pays_1 13 rfl rfl)
theorem dX1_pays_39 : decode cX1_pays 39 = .ok (.getfield 61, 3) := dk_180 0 61 (dk_at dksX1_pays_1 16 rfl rfl)
theorem dX1_pays_42 : decode cX1_pays 42 = .ok (.iload_n 1, 1) := dk_27 (dk_at dksX1_pays_1 19 rfl rfl)
theorem dX1_pays_43 : decode cX1_pays 43 = .ok (.aaload, 1) := dk_50 (dk_at dksX1_pays_1 20 rfl rfl)
theorem dX1_pays_44 : decode cX1_pays 44 = .ok (.invokevirtual 186, 3) := dk_182 0 186 (dk_at dksX1_pays_1 21 rfl rfl)
theorem dX1_pays_47 : decode cX1_pays 47 = .ok (.invokevirtual 190, 3) := dk_182 0 190 (dk_at dksX1_pays_2 0 rfl rfl)
theorem dX1_pays_50 : decode cX1_pays 50 = .ok (.isub, 1) := dk_100 (dk_at dksX1_pays_2 3 rfl rfl)
theorem dX1_pays_51 : decode cX1_pays 51 = .ok (.ireturn, 1) := dk_172 (dk_at dksX1_pays_2 4 rfl rfl)
abbrev cX1_bestKind : ByteArray := prog_1_method_28_code
def yX1_bestKind : MethodName := ⟨RX1, "bestKind", "(I)I"⟩
def dkwX1_bestKind_3 : List UInt8 := [62, 21, 6, 54, 4, 132, 5, 1, 167, 255, 216, 29, 172]
abbrev dktX1_bestKind_3 : List UInt8 := dkwX1_bestKind_3 ++ []
def dkwX1_bestKind_2 : List UInt8 := [27, 21, 5, 28, 182, 0, 210, 182, 0, 190, 54, 6, 21, 6, 21, 4, 161, 0, 6, 167, 0, 10, 21, 5]
abbrev dktX1_bestKind_2 : List UInt8 := dkwX1_bestKind_2 ++ dktX1_bestKind_3
def dkwX1_bestKind_1 : List UInt8 := [62, 42, 27, 3, 28, 182, 0, 210, 182, 0, 190, 54, 4, 4, 54, 5, 21, 5, 16, 8, 162, 0, 39, 42]
abbrev dktX1_bestKind_1 : List UInt8 := dkwX1_bestKind_1 ++ dktX1_bestKind_2
def dkwX1_bestKind_0 : List UInt8 := [42, 27, 182, 0, 153, 154, 0, 5, 2, 172, 42, 180, 0, 34, 180, 0, 61, 27, 50, 180, 0, 159, 61, 3]
abbrev dktX1_bestKind_0 : List UInt8 := dkwX1_bestKind_0 ++ dktX1_bestKind_1
theorem dksX1_bestKind_0 : cX1_bestKind.data.toList.drop 0 = dktX1_bestKind_0 := by decide +kernel
theorem dksX1_bestKind_1 : cX1_bestKind.data.toList.drop 24 = dktX1_bestKind_1 := dk_seg dksX1_bestKind_0 24 rfl rfl
theorem dksX1_bestKind_2 : cX1_bestKind.data.toList.drop 48 = dktX1_bestKind_2 := dk_seg dksX1_bestKind_1 24 rfl rfl
theorem dksX1_bestKind_3 : cX1_bestKind.data.toList.drop 72 = dktX1_bestKind_3 := dk_seg dksX1_bestKind_2 24 rfl rfl
theorem dX1_bestKind_0 : decode cX1_bestKind 0 = .ok (.aload_n 0, 1) := dk_42 (dk_at dksX1_bestKind_0 0 rfl rfl)
theorem dX1_bestKind_1 : decode cX1_bestKind 1 = .ok (.iload_n 1, 1) := dk_27 (dk_at dksX1_bestKind_0 1 rfl rfl)
theorem dX1_bestKind_2 : decode cX1_bestKind 2 = .ok (.invokevirtual 153, 3) := dk_182 0 153 (dk_at dksX1_bestKind_0 2 rfl rfl)
theorem dX1_bestKind_5 : decode cX1_bestKind 5 = .ok (.ifCond .ne 5, 3) := dk_154 0 5 (dk_at dksX1_bestKind_0 5 rfl rfl)
theorem dX1_bestKind_8 : decode cX1_bestKind 8 = .ok (.iconst (-1), 1) := dk_2 (dk_at dksX1_bestKind_0 8 rfl rfl)
theorem dX1_bestKind_9 : decode cX1_bestKind 9 = .ok (.ireturn, 1) := dk_172 (dk_at dksX1_bestKind_0 9 rfl rfl)
theorem dX1_bestKind_10 : decode cX1_bestKind 10 = .ok (.aload_n 0, 1) := dk_42 (dk_at dksX1_bestKind_0 10 rfl rfl)
theorem dX1_bestKind_11 : decode cX1_bestKind 11 = .ok (.getfield 34, 3) := dk_180 0 34 (dk_at dksX1_bestKind_0 11 rfl rfl)
theorem dX1_bestKind_14 : decode cX1_bestKind 14 = .ok (.getfield 61, 3) := dk_180 0 61 (dk_at dksX1_bestKind_0 14 rfl rfl)
theorem dX1_bestKind_17 : decode cX1_bestKind 17 = .ok (.iload_n 1, 1) := dk_27 (dk_at dksX1_bestKind_0 17 rfl rfl)
theorem dX1_bestKind_18 : decode cX1_bestKind 18 = .ok (.aaload, 1) := dk_50 (dk_at dksX1_bestKind_0 18 rfl rfl)
theorem dX1_bestKind_19 : decode cX1_bestKind 19 = .ok (.getfield 159, 3) := dk_180 0 159 (dk_at dksX1_bestKind_0 19 rfl rfl)
theorem dX1_bestKind_22 : decode cX1_bestKind 22 = .ok (.istore_n 2, 1) := dk_61 (dk_at dksX1_bestKind_0 22 rfl rfl)
theorem dX1_bestKind_23 : decode cX1_bestKind 23 = .ok (.iconst 0, 1) := dk_3 (dk_at dksX1_bestKind_0 23 rfl rfl)
theorem dX1_bestKind_24 : decode cX1_bestKind 24 = .ok (.istore_n 3, 1) := dk_62 (dk_at dksX1_bestKind_1 0 rfl rfl)
theorem dX1_bestKind_25 : decode cX1_bestKind 25 = .ok (.aload_n 0, 1) := dk_42 (dk_at dksX1_bestKind_1 1 rfl rfl)
theorem dX1_bestKind_26 : decode cX1_bestKind 26 = .ok (.iload_n 1, 1) := dk_27 (dk_at dksX1_bestKind_1 2 rfl rfl)
theorem dX1_bestKind_27 : decode cX1_bestKind 27 = .ok (.iconst 0, 1) := dk_3 (dk_at dksX1_bestKind_1 3 rfl rfl)
theorem dX1_bestKind_28 : decode cX1_bestKind 28 = .ok (.iload_n 2, 1) := dk_28 (dk_at dksX1_bestKind_1 4 rfl rfl)
theorem dX1_bestKind_29 : decode cX1_bestKind 29 = .ok (.invokevirtual 210, 3) := dk_182 0 210 (dk_at dksX1_bestKind_1 5 rfl rfl)
theorem dX1_bestKind_32 : decode cX1_bestKind 32 = .ok (.invokevirtual 190, 3) := dk_182 0 190 (dk_at dksX1_bestKind_1 8 rfl rfl)
theorem dX1_bestKind_35 : decode cX1_bestKind 35 = .ok (.istore 4, 2) := dk_54 4 (dk_at dksX1_bestKind_1 11 rfl rfl)
theorem dX1_bestKind_37 : decode cX1_bestKind 37 = .ok (.iconst 1, 1) := dk_4 (dk_at dksX1_bestKind_1 13 rfl rfl)
theorem dX1_bestKind_38 : decode cX1_bestKind 38 = .ok (.istore 5, 2) := dk_54 5 (dk_at dksX1_bestKind_1 14 rfl rfl)
theorem dX1_bestKind_40 : decode cX1_bestKind 40 = .ok (.iload 5, 2) := dk_21 5 (dk_at dksX1_bestKind_1 16 rfl rfl)
theorem dX1_bestKind_42 : decode cX1_bestKind 42 = .ok (.bipush 8, 2) := dk_16 8 (dk_at dksX1_bestKind_1 18 rfl rfl)
theorem dX1_bestKind_44 : decode cX1_bestKind 44 = .ok (.if_icmp .ge 39, 3) := dk_162 0 39 (dk_at dksX1_bestKind_1 20 rfl rfl)
theorem dX1_bestKind_47 : decode cX1_bestKind 47 = .ok (.aload_n 0, 1) := dk_42 (dk_at dksX1_bestKind_1 23 rfl rfl)
theorem dX1_bestKind_48 : decode cX1_bestKind 48 = .ok (.iload_n 1, 1) := dk_27 (dk_at dksX1_bestKind_2 0 rfl rfl)
theorem dX1_bestKind_49 : decode cX1_bestKind 49 = .ok (.iload 5, 2) := dk_21 5 (dk_at dksX1_bestKind_2 1 rfl rfl)
theorem dX1_bestKind_51 : decode cX1_bestKind 51 = .ok (.iload_n 2, 1) := dk_28 (dk_at dksX1_bestKind_2 3 rfl rfl)
theorem dX1_bestKind_52 : decode cX1_bestKind 52 = .ok (.invokevirtual 210, 3) := dk_182 0 210 (dk_at dksX1_bestKind_2 4 rfl rfl)
theorem dX1_bestKind_55 : decode cX1_bestKind 55 = .ok (.invokevirtual 190, 3) := dk_182 0 190 (dk_at dksX1_bestKind_2 7 rfl rfl)
theorem dX1_bestKind_58 : decode cX1_bestKind 58 = .ok (.istore 6, 2) := dk_54 6 (dk_at dksX1_bestKind_2 10 rfl rfl)
theorem dX1_bestKind_60 : decode cX1_bestKind 60 = .ok (.iload 6, 2) := dk_21 6 (dk_at dksX1_bestKind_2 12 rfl rfl)
theorem dX1_bestKind_62 : decode cX1_bestKind 62 = .ok (.iload 4, 2) := dk_21 4 (dk_at dksX1_bestKind_2 14 rfl rfl)
theorem dX1_bestKind_64 : decode cX1_bestKind 64 = .ok (.if_icmp .lt 6, 3) := dk_161 0 6 (dk_at dksX1_bestKind_2 16 rfl rfl)
theorem dX1_bestKind_67 : decode cX1_bestKind 67 = .ok (.goto 10, 3) := dk_167 0 10 (dk_at dksX1_bestKind_2 19 rfl rfl)
theorem dX1_bestKind_70 : decode cX1_bestKind 70 = .ok (.iload 5, 2) := dk_21 5 (dk_at dksX1_bestKind_2 22 rfl rfl)
theorem dX1_bestKind_72 : decode cX1_bestKind 72 = .ok (.istore_n 3, 1) := dk_62 (dk_at dksX1_bestKind_3 0 rfl rfl)
theorem dX1_bestKind_73 : decode cX1_bestKind 73 = .ok (.iload 6, 2) := dk_21 6 (dk_at dksX1_bestKind_3 1 rfl rfl)
theorem dX1_bestKind_75 : decode cX1_bestKind 75 = .ok (.istore 4, 2) := dk_54 4 (dk_at dksX1_bestKind_3 3 rfl rfl)
theorem dX1_bestKind_77 : decode cX1_bestKind 77 = .ok (.iinc 5 1, 3) := dk_132 5 1 (dk_at dksX1_bestKind_3 5 rfl rfl)
theorem dX1_bestKind_80 : decode cX1_bestKind 80 = .ok (.goto (-40), 3) := dk_167 255 216 (dk_at dksX1_bestKind_3 8 rfl rfl)
theorem dX1_bestKind_83 : decode cX1_bestKind 83 = .ok (.iload_n 3, 1) := dk_29 (dk_at dksX1_bestKind_3 11 rfl rfl)
theorem dX1_bestKind_84 : decode cX1_bestKind 84 = .ok (.ireturn, 1) := dk_172 (dk_at dksX1_bestKind_3 12 rfl rfl)
abbrev cX1_edge : ByteArray := prog_1_method_29_code
def yX1_edge : MethodName := ⟨RX1, "edge", "(II)I"⟩
def dkwX1_edge_2 : List UInt8 := [163, 0, 5, 29, 172, 132, 3, 1, 167, 255, 221, 16, 252, 172]
abbrev dktX1_edge_2 : List UInt8 := dkwX1_edge_2 ++ []
def dkwX1_edge_1 : List UInt8 := [163, 0, 35, 42, 27, 5, 29, 182, 0, 210, 180, 0, 207, 28, 46, 42, 180, 0, 34, 180, 0, 48, 28, 46]
abbrev dktX1_edge_1 : List UInt8 := dkwX1_edge_1 ++ dktX1_edge_2
def dkwX1_edge_0 : List UInt8 := [42, 27, 182, 0, 153, 153, 0, 11, 42, 28, 182, 0, 150, 154, 0, 5, 2, 172, 3, 62, 29, 16, 9]
abbrev dktX1_edge_0 : List UInt8 := dkwX1_edge_0 ++ dktX1_edge_1
theorem dksX1_edge_0 : cX1_edge.data.toList.drop 0 = dktX1_edge_0 := by decide +kernel
theorem dksX1_edge_1 : cX1_edge.data.toList.drop 23 = dktX1_edge_1 := dk_seg dksX1_edge_0 23 rfl rfl
theorem dksX1_edge_2 : cX1_edge.data.toList.drop 47 = dktX1_edge_2 := dk_seg dksX1_edge_1 24 rfl rfl
theorem dX1_edge_0 : decode cX1_edge 0 = .ok (.aload_n 0, 1) := dk_42 (dk_at dksX1_edge_0 0 rfl rfl)
theorem dX1_edge_1 : decode cX1_edge 1 = .ok (.iload_n 1, 1) := dk_27 (dk_at dksX1_edge_0 1 rfl rfl)
theorem dX1_edge_2 : decode cX1_edge 2 = .ok (.invokevirtual 153, 3) := dk_182 0 153 (dk_at dksX1_edge_0 2 rfl rfl)
theorem dX1_edge_5 : decode cX1_edge 5 = .ok (.ifCond .eq 11, 3) := dk_153 0 11 (dk_at dksX1_edge_0 5 rfl rfl)
theorem dX1_edge_8 : decode cX1_edge 8 = .ok (.aload_n 0, 1) := dk_42 (dk_at dksX1_edge_0 8 rfl rfl)
theorem dX1_edge_9 : decode cX1_edge 9 = .ok (.iload_n 2, 1) := dk_28 (dk_at dksX1_edge_0 9 rfl rfl)
theorem dX1_edge_10 : decode cX1_edge 10 = .ok (.invokevirtual 150, 3) := dk_182 0 150 (dk_at dksX1_edge_0 10 rfl rfl)
theorem dX1_edge_13 : decode cX1_edge 13 = .ok (.ifCond .ne 5, 3) := dk_154 0 5 (dk_at dksX1_edge_0 13 rfl rfl)
theorem dX1_edge_16 : decode cX1_edge 16 = .ok (.iconst (-1), 1) := dk_2 (dk_at dksX1_edge_0 16 rfl rfl)
theorem dX1_edge_17 : decode cX1_edge 17 = .ok (.ireturn, 1) := dk_172 (dk_at dksX1_edge_0 17 rfl rfl)
theorem dX1_edge_18 : decode cX1_edge 18 = .ok (.iconst 0, 1) := dk_3 (dk_at dksX1_edge_0 18 rfl rfl)
theorem dX1_edge_19 : decode cX1_edge 19 = .ok (.istore_n 3, 1) := dk_62 (dk_at dksX1_edge_0 19 rfl rfl)
theorem dX1_edge_20 : decode cX1_edge 20 = .ok (.iload_n 3, 1) := dk_29 (dk_at dksX1_edge_0 20 rfl rfl)
theorem dX1_edge_21 : decode cX1_edge 21 = .ok (.bipush 9, 2) := dk_16 9 (dk_at dksX1_edge_0 21 rfl rfl)
theorem dX1_edge_23 : decode cX1_edge 23 = .ok (.if_icmp .gt 35, 3) := dk_163 0 35 (dk_at dksX1_edge_1 0 rfl rfl)
theorem dX1_edge_26 : decode cX1_edge 26 = .ok (.aload_n 0, 1) := dk_42 (dk_at dksX1_edge_1 3 rfl rfl)
theorem dX1_edge_27 : decode cX1_edge 27 = .ok (.iload_n 1, 1) := dk_27 (dk_at dksX1_edge_1 4 rfl rfl)
theorem dX1_edge_28 : decode cX1_edge 28 = .ok (.iconst 2, 1) := dk_5 (dk_at dksX1_edge_1 5 rfl rfl)
theorem dX1_edge_29 : decode cX1_edge 29 = .ok (.iload_n 3, 1) := dk_29 (dk_at dksX1_edge_1 6 rfl rfl)
theorem dX1_edge_30 : decode cX1_edge 30 = .ok (.invokevirtual 210, 3) := dk_182 0 210 (dk_at dksX1_edge_1 7 rfl rfl)
theorem dX1_edge_33 : decode cX1_edge 33 = .ok (.getfield 207, 3) := dk_180 0 207 (dk_at dksX1_edge_1 10 rfl rfl)
theorem dX1_edge_36 : decode cX1_edge 36 = .ok (.iload_n 2, 1) := dk_28 (dk_at dksX1_edge_1 13 rfl rfl)
theorem dX1_edge_37 : decode cX1_edge 37 = .ok (.iaload, 1) := dk_46 (dk_at dksX1_edge_1 14 rfl rfl)
theorem dX1_edge_38 : decode cX1_edge 38 = .ok (.aload_n 0, 1) := dk_42 (dk_at dksX1_edge_1 15 rfl rfl)
theorem dX1_edge_39 : decode cX1_edge 39 = .ok (.getfield 34, 3) := dk_180 0 34 (dk_at dksX1_edge_1 16 rfl rfl)
theorem dX1_edge_42 : decode cX1_edge 42 = .ok (.getfield 48, 3) := dk_180 0 48 (dk_at dksX1_edge_1 19 rfl rfl)
theorem dX1_edge_45 : decode cX1_edge 45 = .ok (.iload_n 2, 1) := dk_28 (dk_at dksX1_edge_1 22 rfl rfl)
theorem dX1_edge_46 : decode cX1_edge 46 = .ok (.iaload, 1) := dk_46 (dk_at dksX1_edge_1 23 rfl rfl)
theorem dX1_edge_47 : decode cX1_edge 47 = .ok (.if_icmp .gt 5, 3) := dk_163 0 5 (dk_at dksX1_edge_2 0 rfl rfl)
theorem dX1_edge_50 : decode cX1_edge 50 = .ok (.iload_n 3, 1) := dk_29 (dk_at dksX1_edge_2 3 rfl rfl)
theorem dX1_edge_51 : decode cX1_edge 51 = .ok (.ireturn, 1) := dk_172 (dk_at dksX1_edge_2 4 rfl rfl)
theorem dX1_edge_52 : decode cX1_edge 52 = .ok (.iinc 3 1, 3) := dk_132 3 1 (dk_at dksX1_edge_2 5 rfl rfl)
theorem dX1_edge_55 : decode cX1_edge 55 = .ok (.goto (-35), 3) := dk_167 255 221 (dk_at dksX1_edge_2 8 rfl rfl)
theorem dX1_edge_58 : decode cX1_edge 58 = .ok (.bipush (-4), 2) := dk_16 252 (dk_at dksX1_edge_2 11 rfl rfl)
theorem dX1_edge_60 : decode cX1_edge 60 = .ok (.ireturn, 1) := dk_172 (dk_at dksX1_edge_2 13 rfl rfl)
abbrev cX1_waits : ByteArray := prog_1_method_30_code
def yX1_waits : MethodName := ⟨RX1, "waits", "(II)I"⟩
def dkwX1_waits_2 : List UInt8 := [172, 132, 3, 1, 167, 255, 227, 16, 252, 172]
abbrev dktX1_waits_2 : List UInt8 := dkwX1_waits_2 ++ []
def dkwX1_waits_1 : List UInt8 := [17, 2, 207, 163, 0, 28, 42, 180, 0, 34, 180, 0, 91, 29, 184, 0, 146, 28, 163, 0, 7, 29, 27, 100]
abbrev dktX1_waits_1 : List UInt8 := dkwX1_waits_1 ++ dktX1_waits_2
def dkwX1_waits_0 : List UInt8 := [27, 184, 0, 44, 153, 0, 13, 28, 3, 16, 20, 184, 0, 3, 154, 0, 5, 2, 172, 27, 62, 29]
abbrev dktX1_waits_0 : List UInt8 := dkwX1_waits_0 ++ dktX1_waits_1
theorem dksX1_waits_0 : cX1_waits.data.toList.drop 0 = dktX1_waits_0 := by decide +kernel
theorem dksX1_waits_1 : cX1_waits.data.toList.drop 22 = dktX1_waits_1 := dk_seg dksX1_waits_0 22 rfl rfl
theorem dksX1_waits_2 : cX1_waits.data.toList.drop 46 = dktX1_waits_2 := dk_seg dksX1_waits_1 24 rfl rfl
theorem dX1_waits_0 : decode cX1_waits 0 = .ok (.iload_n 1, 1) := dk_27 (dk_at dksX1_waits_0 0 rfl rfl)
theorem dX1_waits_1 : decode cX1_waits 1 = .ok (.invokestatic 44, 3) := dk_184 0 44 (dk_at dksX1_waits_0 1 rfl rfl)
theorem dX1_waits_4 : decode cX1_waits 4 = .ok (.ifCond .eq 13, 3) := dk_153 0 13 (dk_at dksX1_waits_0 4 rfl rfl)
theorem dX1_waits_7 : decode cX1_waits 7 = .ok (.iload_n 2, 1) := dk_28 (dk_at dksX1_waits_0 7 rfl rfl)
theorem dX1_waits_8 : decode cX1_waits 8 = .ok (.iconst 0, 1) := dk_3 (dk_at dksX1_waits_0 8 rfl rfl)
theorem dX1_waits_9 : decode cX1_waits 9 = .ok (.bipush 20, 2) := dk_16 20 (dk_at dksX1_waits_0 9 rfl rfl)
theorem dX1_waits_11 : decode cX1_waits 11 = .ok (.invokestatic 3, 3) := dk_184 0 3 (dk_at dksX1_waits_0 11 rfl rfl)
theorem dX1_waits_14 : decode cX1_waits 14 = .ok (.ifCond .ne 5, 3) := dk_154 0 5 (dk_at dksX1_waits_0 14 rfl rfl)
theorem dX1_waits_17 : decode cX1_waits 17 = .ok (.iconst (-1), 1) := dk_2 (dk_at dksX1_waits_0 17 rfl rfl)
theorem dX1_waits_18 : decode cX1_waits 18 = .ok (.ireturn, 1) := dk_172 (dk_at dksX1_waits_0 18 rfl rfl)
theorem dX1_waits_19 : decode cX1_waits 19 = .ok (.iload_n 1, 1) := dk_27 (dk_at dksX1_waits_0 19 rfl rfl)
theorem dX1_waits_20 : decode cX1_waits 20 = .ok (.istore_n 3, 1) := dk_62 (dk_at dksX1_waits_0 20 rfl rfl)
theorem dX1_waits_21 : decode cX1_waits 21 = .ok (.iload_n 3, 1) := dk_29 (dk_at dksX1_waits_0 21 rfl rfl)
theorem dX1_waits_22 : decode cX1_waits 22 = .ok (.sipush 719, 3) := dk_17 2 207 (dk_at dksX1_waits_1 0 rfl rfl)
theorem dX1_waits_25 : decode cX1_waits 25 = .ok (.if_icmp .gt 28, 3) := dk_163 0 28 (dk_at dksX1_waits_1 3 rfl rfl)
theorem dX1_waits_28 : decode cX1_waits 28 = .ok (.aload_n 0, 1) := dk_42 (dk_at dksX1_waits_1 6 rfl rfl)
theorem dX1_waits_29 : decode cX1_waits 29 = .ok (.getfield 34, 3) := dk_180 0 34 (dk_at dksX1_waits_1 7 rfl rfl)
theorem dX1_waits_32 : decode cX1_waits 32 = .ok (.getfield 91, 3) := dk_180 0 91 (dk_at dksX1_waits_1 10 rfl rfl)
theorem dX1_waits_35 : decode cX1_waits 35 = .ok (.iload_n 3, 1) := dk_29 (dk_at dksX1_waits_1 13 rfl rfl)
theorem dX1_waits_36 : decode cX1_waits 36 = .ok (.invokestatic 146, 3) := dk_184 0 146 (dk_at dksX1_waits_1 14 rfl rfl)
theorem dX1_waits_39 : decode cX1_waits 39 = .ok (.iload_n 2, 1) := dk_28 (dk_at dksX1_waits_1 17 rfl rfl)
theorem dX1_waits_40 : decode cX1_waits 40 = .ok (.if_icmp .gt 7, 3) := dk_163 0 7 (dk_at dksX1_waits_1 18 rfl rfl)
theorem dX1_waits_43 : decode cX1_waits 43 = .ok (.iload_n 3, 1) := dk_29 (dk_at dksX1_waits_1 21 rfl rfl)
theorem dX1_waits_44 : decode cX1_waits 44 = .ok (.iload_n 1, 1) := dk_27 (dk_at dksX1_waits_1 22 rfl rfl)
theorem dX1_waits_45 : decode cX1_waits 45 = .ok (.isub, 1) := dk_100 (dk_at dksX1_waits_1 23 rfl rfl)
theorem dX1_waits_46 : decode cX1_waits 46 = .ok (.ireturn, 1) := dk_172 (dk_at dksX1_waits_2 0 rfl rfl)
theorem dX1_waits_47 : decode cX1_waits 47 = .ok (.iinc 3 1, 3) := dk_132 3 1 (dk_at dksX1_waits_2 1 rfl rfl)
theorem dX1_waits_50 : decode cX1_waits 50 = .ok (.goto (-29), 3) := dk_167 255 227 (dk_at dksX1_waits_2 4 rfl rfl)
theorem dX1_waits_53 : decode cX1_waits 53 = .ok (.bipush (-4), 2) := dk_16 252 (dk_at dksX1_waits_2 7 rfl rfl)
theorem dX1_waits_55 : decode cX1_waits 55 = .ok (.ireturn, 1) := dk_172 (dk_at dksX1_waits_2 9 rfl rfl)
abbrev cX1_learn : ByteArray := prog_1_method_32_code
def yX1_learn : MethodName := ⟨RX1, "learn", "(II)I"⟩
def dkwX1_learn_9 : List UInt8 := [154, 0, 8, 21, 6, 167, 0, 15, 28, 4, 160, 0, 8, 21, 7, 167, 0, 5, 21, 8, 172]
abbrev dktX1_learn_9 : List UInt8 := dkwX1_learn_9 ++ []
def dkwX1_learn_8 : List UInt8 := [160, 0, 8, 21, 9, 167, 0, 5, 21, 7, 54, 7, 21, 9, 54, 8, 132, 9, 1, 167, 255, 207, 28]
abbrev dktX1_learn_8 : List UInt8 := dkwX1_learn_8 ++ dktX1_learn_9
def dkwX1_learn_7 : List UInt8 := [25, 4, 21, 9, 16, 20, 100, 184, 0, 215, 154, 0, 6, 167, 0, 26, 132, 6, 1, 21, 7, 16, 252]
abbrev dktX1_learn_7 : List UInt8 := dkwX1_learn_7 ++ dktX1_learn_8
def dkwX1_learn_6 : List UInt8 := [16, 243, 172, 3, 54, 6, 16, 252, 54, 7, 16, 252, 54, 8, 3, 54, 9, 21, 9, 16, 40, 163, 0, 48]
abbrev dktX1_learn_6 : List UInt8 := dkwX1_learn_6 ++ dktX1_learn_7
def dkwX1_learn_5 : List UInt8 := [46, 162, 0, 7, 4, 167, 0, 4, 3, 126, 54, 5, 132, 6, 3, 167, 255, 194, 21, 5, 154, 0, 6]
abbrev dktX1_learn_5 : List UInt8 := dkwX1_learn_5 ++ dktX1_learn_6
def dkwX1_learn_4 : List UInt8 := [25, 4, 21, 6, 4, 96, 46, 184, 0, 44, 153, 0, 22, 25, 4, 21, 6, 46, 25, 4, 21, 6, 4, 96]
abbrev dktX1_learn_4 : List UInt8 := dkwX1_learn_4 ++ dktX1_learn_5
def dkwX1_learn_3 : List UInt8 := [21, 6, 5, 96, 25, 4, 190, 162, 0, 58, 21, 5, 25, 4, 21, 6, 46, 184, 0, 44, 153, 0, 35]
abbrev dktX1_learn_3 : List UInt8 := dkwX1_learn_3 ++ dktX1_learn_4
def dkwX1_learn_2 : List UInt8 := [192, 0, 214, 58, 4, 25, 4, 190, 6, 112, 154, 0, 7, 4, 167, 0, 4, 3, 54, 5, 3, 54, 6]
abbrev dktX1_learn_2 : List UInt8 := dkwX1_learn_2 ++ dktX1_learn_3
def dkwX1_learn_1 : List UInt8 := [180, 0, 104, 78, 45, 199, 0, 6, 16, 245, 172, 45, 193, 0, 214, 154, 0, 6, 16, 244, 172, 45]
abbrev dktX1_learn_1 : List UInt8 := dkwX1_learn_1 ++ dktX1_learn_2
def dkwX1_learn_0 : List UInt8 := [27, 184, 0, 97, 153, 0, 12, 28, 3, 5, 184, 0, 3, 154, 0, 5, 2, 172, 42, 180, 0, 100, 27, 50]
abbrev dktX1_learn_0 : List UInt8 := dkwX1_learn_0 ++ dktX1_learn_1
theorem dksX1_learn_0 : cX1_learn.data.toList.drop 0 = dktX1_learn_0 := by decide +kernel
theorem dksX1_learn_1 : cX1_learn.data.toList.drop 24 = dktX1_learn_1 := dk_seg dksX1_learn_0 24 rfl rfl
theorem dksX1_learn_2 : cX1_learn.data.toList.drop 46 = dktX1_learn_2 := dk_seg dksX1_learn_1 22 rfl rfl
theorem dksX1_learn_3 : cX1_learn.data.toList.drop 69 = dktX1_learn_3 := dk_seg dksX1_learn_2 23 rfl rfl
theorem dksX1_learn_4 : cX1_learn.data.toList.drop 92 = dktX1_learn_4 := dk_seg dksX1_learn_3 23 rfl rfl
theorem dksX1_learn_5 : cX1_learn.data.toList.drop 116 = dktX1_learn_5 := dk_seg dksX1_learn_4 24 rfl rfl
theorem dksX1_learn_6 : cX1_learn.data.toList.drop 139 = dktX1_learn_6 := dk_seg dksX1_learn_5 23 rfl rfl
theorem dksX1_learn_7 : cX1_learn.data.toList.drop 163 = dktX1_learn_7 := dk_seg dksX1_learn_6 24 rfl rfl
theorem dksX1_learn_8 : cX1_learn.data.toList.drop 186 = dktX1_learn_8 := dk_seg dksX1_learn_7 23 rfl rfl
theorem dksX1_learn_9 : cX1_learn.data.toList.drop 209 = dktX1_learn_9 := dk_seg dksX1_learn_8 23 rfl rfl
theorem dX1_learn_0 : decode cX1_learn 0 = .ok (.iload_n 1, 1) := dk_27 (dk_at dksX1_learn_0 0 rfl rfl)
theorem dX1_learn_1 : decode cX1_learn 1 = .ok (.invokestatic 97, 3) := dk_184 0 97 (dk_at dksX1_learn_0 1 rfl rfl)
theorem dX1_learn_4 : decode cX1_learn 4 = .ok (.ifCond .eq 12, 3) := dk_153 0 12 (dk_at dksX1_learn_0 4 rfl rfl)
theorem dX1_learn_7 : decode cX1_learn 7 = .ok (.iload_n 2, 1) := dk_28 (dk_at dksX1_learn_0 7 rfl rfl)
theorem dX1_learn_8 : decode cX1_learn 8 = .ok (.iconst 0, 1) := dk_3 (dk_at dksX1_learn_0 8 rfl rfl)
theorem dX1_learn_9 : decode cX1_learn 9 = .ok (.iconst 2, 1) := dk_5 (dk_at dksX1_learn_0 9 rfl rfl)
theorem dX1_learn_10 : decode cX1_learn 10 = .ok (.invokestatic 3, 3) := dk_184 0 3 (dk_at dksX1_learn_0 10 rfl rfl)
theorem dX1_learn_13 : decode cX1_learn 13 = .ok (.ifCond .ne 5, 3) := dk_154 0 5 (dk_at dksX1_learn_0 13 rfl rfl)
theorem dX1_learn_16 : decode cX1_learn 16 = .ok (.iconst (-1), 1) := dk_2 (dk_at dksX1_learn_0 16 rfl rfl)
theorem dX1_learn_17 : decode cX1_learn 17 = .ok (.ireturn, 1) := dk_172 (dk_at dksX1_learn_0 17 rfl rfl)
theorem dX1_learn_18 : decode cX1_learn 18 = .ok (.aload_n 0, 1) := dk_42 (dk_at dksX1_learn_0 18 rfl rfl)
theorem dX1_learn_19 : decode cX1_learn 19 = .ok (.getfield 100, 3) := dk_180 0 100 (dk_at dksX1_learn_0 19 rfl rfl)
theorem dX1_learn_22 : decode cX1_learn 22 = .ok (.iload_n 1, 1) := dk_27 (dk_at dksX1_learn_0 22 rfl rfl)
theorem dX1_learn_23 : decode cX1_learn 23 = .ok (.aaload, 1) := dk_50 (dk_at dksX1_learn_0 23 rfl rfl)
theorem dX1_learn_24 : decode cX1_learn 24 = .ok (.getfield 104, 3) := dk_180 0 104 (dk_at dksX1_learn_1 0 rfl rfl)
theorem dX1_learn_27 : decode cX1_learn 27 = .ok (.astore_n 3, 1) := dk_78 (dk_at dksX1_learn_1 3 rfl rfl)
theorem dX1_learn_28 : decode cX1_learn 28 = .ok (.aload_n 3, 1) := dk_45 (dk_at dksX1_learn_1 4 rfl rfl)
theorem dX1_learn_29 : decode cX1_learn 29 = .ok (.ifnonnull 6, 3) := dk_199 0 6 (dk_at dksX1_learn_1 5 rfl rfl)
theorem dX1_learn_32 : decode cX1_learn 32 = .ok (.bipush (-11), 2) := dk_16 245 (dk_at dksX1_learn_1 8 rfl rfl)
theorem dX1_learn_34 : decode cX1_learn 34 = .ok (.ireturn, 1) := dk_172 (dk_at dksX1_learn_1 10 rfl rfl)
theorem dX1_learn_35 : decode cX1_learn 35 = .ok (.aload_n 3, 1) := dk_45 (dk_at dksX1_learn_1 11 rfl rfl)
theorem dX1_learn_36 : decode cX1_learn 36 = .ok (.instanceof 214, 3) := dk_193 0 214 (dk_at dksX1_learn_1 12 rfl rfl)
theorem dX1_learn_39 : decode cX1_learn 39 = .ok (.ifCond .ne 6, 3) := dk_154 0 6 (dk_at dksX1_learn_1 15 rfl rfl)
theorem dX1_learn_42 : decode cX1_learn 42 = .ok (.bipush (-12), 2) := dk_16 244 (dk_at dksX1_learn_1 18 rfl rfl)
theorem dX1_learn_44 : decode cX1_learn 44 = .ok (.ireturn, 1) := dk_172 (dk_at dksX1_learn_1 20 rfl rfl)
theorem dX1_learn_45 : decode cX1_learn 45 = .ok (.aload_n 3, 1) := dk_45 (dk_at dksX1_learn_1 21 rfl rfl)
theorem dX1_learn_46 : decode cX1_learn 46 = .ok (.checkcast 214, 3) := dk_192 0 214 (dk_at dksX1_learn_2 0 rfl rfl)
theorem dX1_learn_49 : decode cX1_learn 49 = .ok (.astore 4, 2) := dk_58 4 (dk_at dksX1_learn_2 3 rfl rfl)
theorem dX1_learn_51 : decode cX1_learn 51 = .ok (.aload 4, 2) := dk_25 4 (dk_at dksX1_learn_2 5 rfl rfl)
theorem dX1_learn_53 : decode cX1_learn 53 = .ok (.arraylength, 1) := dk_190 (dk_at dksX1_learn_2 7 rfl rfl)
theorem dX1_learn_54 : decode cX1_learn 54 = .ok (.iconst 3, 1) := dk_6 (dk_at dksX1_learn_2 8 rfl rfl)
theorem dX1_learn_55 : decode cX1_learn 55 = .ok (.irem, 1) := dk_112 (dk_at dksX1_learn_2 9 rfl rfl)
theorem dX1_learn_56 : decode cX1_learn 56 = .ok (.ifCond .ne 7, 3) := dk_154 0 7 (dk_at dksX1_learn_2 10 rfl rfl)
theorem dX1_learn_59 : decode cX1_learn 59 = .ok (.iconst 1, 1) := dk_4 (dk_at dksX1_learn_2 13 rfl rfl)
theorem dX1_learn_60 : decode cX1_learn 60 = .ok (.goto 4, 3) := dk_167 0 4 (dk_at dksX1_learn_2 14 rfl rfl)
theorem dX1_learn_63 : decode cX1_learn 63 = .ok (.iconst 0, 1) := dk_3 (dk_at dksX1_learn_2 17 rfl rfl)
theorem dX1_learn_64 : decode cX1_learn 64 = .ok (.istore 5, 2) := dk_54 5 (dk_at dksX1_learn_2 18 rfl rfl)
theorem dX1_learn_66 : decode cX1_learn 66 = .ok (.iconst 0, 1) := dk_3 (dk_at dksX1_learn_2 20 rfl rfl)
theorem dX1_learn_67 : decode cX1_learn 67 = .ok (.istore 6, 2) := dk_54 6 (dk_at dksX1_learn_2 21 rfl rfl)
theorem dX1_learn_69 : decode cX1_learn 69 = .ok (.iload 6, 2) := dk_21 6 (dk_at dksX1_learn_3 0 rfl rfl)
theorem dX1_learn_71 : decode cX1_learn 71 = .ok (.iconst 2, 1) := dk_5 (dk_at dksX1_learn_3 2 rfl rfl)
theorem dX1_learn_72 : decode cX1_learn 72 = .ok (.iadd, 1) := dk_96 (dk_at dksX1_learn_3 3 rfl rfl)
theorem dX1_learn_73 : decode cX1_learn 73 = .ok (.aload 4, 2) := dk_25 4 (dk_at dksX1_learn_3 4 rfl rfl)
theorem dX1_learn_75 : decode cX1_learn 75 = .ok (.arraylength, 1) := dk_190 (dk_at dksX1_learn_3 6 rfl rfl)
theorem dX1_learn_76 : decode cX1_learn 76 = .ok (.if_icmp .ge 58, 3) := dk_162 0 58 (dk_at dksX1_learn_3 7 rfl rfl)
theorem dX1_learn_79 : decode cX1_learn 79 = .ok (.iload 5, 2) := dk_21 5 (dk_at dksX1_learn_3 10 rfl rfl)
theorem dX1_learn_81 : decode cX1_learn 81 = .ok (.aload 4, 2) := dk_25 4 (dk_at dksX1_learn_3 12 rfl rfl)
theorem dX1_learn_83 : decode cX1_learn 83 = .ok (.iload 6, 2) := dk_21 6 (dk_at dksX1_learn_3 14 rfl rfl)
theorem dX1_learn_85 : decode cX1_learn 85 = .ok (.iaload, 1) := dk_46 (dk_at dksX1_learn_3 16 rfl rfl)
theorem dX1_learn_86 : decode cX1_learn 86 = .ok (.invokestatic 44, 3) := dk_184 0 44 (dk_at dksX1_learn_3 17 rfl rfl)
theorem dX1_learn_89 : decode cX1_learn 89 = .ok (.ifCond .eq 35, 3) := dk_153 0 35 (dk_at dksX1_learn_3 20 rfl rfl)
theorem dX1_learn_92 : decode cX1_learn 92 = .ok (.aload 4, 2) := dk_25 4 (dk_at dksX1_learn_4 0 rfl rfl)
theorem dX1_learn_94 : decode cX1_learn 94 = .ok (.iload 6, 2) := dk_21 6 (dk_at dksX1_learn_4 2 rfl rfl)
theorem dX1_learn_96 : decode cX1_learn 96 = .ok (.iconst 1, 1) := dk_4 (dk_at dksX1_learn_4 4 rfl rfl)
theorem dX1_learn_97 : decode cX1_learn 97 = .ok (.iadd, 1) := dk_96 (dk_at dksX1_learn_4 5 rfl rfl)
theorem dX1_learn_98 : decode cX1_learn 98 = .ok (.iaload, 1) := dk_46 (dk_at dksX1_learn_4 6 rfl rfl)
theorem dX1_learn_99 : decode cX1_learn 99 = .ok (.invokestatic 44, 3) := dk_184 0 44 (dk_at dksX1_learn_4 7 rfl rfl)
theorem dX1_learn_102 : decode cX1_learn 102 = .ok (.ifCond .eq 22, 3) := dk_153 0 22 (dk_at dksX1_learn_4 10 rfl rfl)
theorem dX1_learn_105 : decode cX1_learn 105 = .ok (.aload 4, 2) := dk_25 4 (dk_at dksX1_learn_4 13 rfl rfl)
theorem dX1_learn_107 : decode cX1_learn 107 = .ok (.iload 6, 2) := dk_21 6 (dk_at dksX1_learn_4 15 rfl rfl)
theorem dX1_learn_109 : decode cX1_learn 109 = .ok (.iaload, 1) := dk_46 (dk_at dksX1_learn_4 17 rfl rfl)
theorem dX1_learn_110 : decode cX1_learn 110 = .ok (.aload 4, 2) := dk_25 4 (dk_at dksX1_learn_4 18 rfl rfl)
theorem dX1_learn_112 : decode cX1_learn 112 = .ok (.iload 6, 2) := dk_21 6 (dk_at dksX1_learn_4 20 rfl rfl)
theorem dX1_learn_114 : decode cX1_learn 114 = .ok (.iconst 1, 1) := dk_4 (dk_at dksX1_learn_4 22 rfl rfl)
theorem dX1_learn_115 : decode cX1_learn 115 = .ok (.iadd, 1) := dk_96 (dk_at dksX1_learn_4 23 rfl rfl)
theorem dX1_learn_116 : decode cX1_learn 116 = .ok (.iaload, 1) := dk_46 (dk_at dksX1_learn_5 0 rfl rfl)
theorem dX1_learn_117 : decode cX1_learn 117 = .ok (.if_icmp .ge 7, 3) := dk_162 0 7 (dk_at dksX1_learn_5 1 rfl rfl)
theorem dX1_learn_120 : decode cX1_learn 120 = .ok (.iconst 1, 1) := dk_4 (dk_at dksX1_learn_5 4 rfl rfl)
theorem dX1_learn_121 : decode cX1_learn 121 = .ok (.goto 4, 3) := dk_167 0 4 (dk_at dksX1_learn_5 5 rfl rfl)
theorem dX1_learn_124 : decode cX1_learn 124 = .ok (.iconst 0, 1) := dk_3 (dk_at dksX1_learn_5 8 rfl rfl)
theorem dX1_learn_125 : decode cX1_learn 125 = .ok (.iand, 1) := dk_126 (dk_at dksX1_learn_5 9 rfl rfl)
theorem dX1_learn_126 : decode cX1_learn 126 = .ok (.istore 5, 2) := dk_54 5 (dk_at dksX1_learn_5 10 rfl rfl)
theorem dX1_learn_128 : decode cX1_learn 128 = .ok (.iinc 6 3, 3) := dk_132 6 3 (dk_at dksX1_learn_5 12 rfl rfl)
theorem dX1_learn_131 : decode cX1_learn 131 = .ok (.goto (-62), 3) := dk_167 255 194 (dk_at dksX1_learn_5 15 rfl rfl)
theorem dX1_learn_134 : decode cX1_learn 134 = .ok (.iload 5, 2) := dk_21 5 (dk_at dksX1_learn_5 18 rfl rfl)
theorem dX1_learn_136 : decode cX1_learn 136 = .ok (.ifCond .ne 6, 3) := dk_154 0 6 (dk_at dksX1_learn_5 20 rfl rfl)
theorem dX1_learn_139 : decode cX1_learn 139 = .ok (.bipush (-13), 2) := dk_16 243 (dk_at dksX1_learn_6 0 rfl rfl)
theorem dX1_learn_141 : decode cX1_learn 141 = .ok (.ireturn, 1) := dk_172 (dk_at dksX1_learn_6 2 rfl rfl)
theorem dX1_learn_142 : decode cX1_learn 142 = .ok (.iconst 0, 1) := dk_3 (dk_at dksX1_learn_6 3 rfl rfl)
theorem dX1_learn_143 : decode cX1_learn 143 = .ok (.istore 6, 2) := dk_54 6 (dk_at dksX1_learn_6 4 rfl rfl)
theorem dX1_learn_145 : decode cX1_learn 145 = .ok (.bipush (-4), 2) := dk_16 252 (dk_at dksX1_learn_6 6 rfl rfl)
theorem dX1_learn_147 : decode cX1_learn 147 = .ok (.istore 7, 2) := dk_54 7 (dk_at dksX1_learn_6 8 rfl rfl)
theorem dX1_learn_149 : decode cX1_learn 149 = .ok (.bipush (-4), 2) := dk_16 252 (dk_at dksX1_learn_6 10 rfl rfl)
theorem dX1_learn_151 : decode cX1_learn 151 = .ok (.istore 8, 2) := dk_54 8 (dk_at dksX1_learn_6 12 rfl rfl)
theorem dX1_learn_153 : decode cX1_learn 153 = .ok (.iconst 0, 1) := dk_3 (dk_at dksX1_learn_6 14 rfl rfl)
theorem dX1_learn_154 : decode cX1_learn 154 = .ok (.istore 9, 2) := dk_54 9 (dk_at dksX1_learn_6 15 rfl rfl)
theorem dX1_learn_156 : decode cX1_learn 156 = .ok (.iload 9, 2) := dk_21 9 (dk_at dksX1_learn_6 17 rfl rfl)
theorem dX1_learn_158 : decode cX1_learn 158 = .ok (.bipush 40, 2) := dk_16 40 (dk_at dksX1_learn_6 19 rfl rfl)
theorem dX1_learn_160 : decode cX1_learn 160 = .ok (.if_icmp .gt 48, 3) := dk_163 0 48 (dk_at dksX1_learn_6 21 rfl rfl)
theorem dX1_learn_163 : decode cX1_learn 163 = .ok (.aload 4, 2) := dk_25 4 (dk_at dksX1_learn_7 0 rfl rfl)
theorem dX1_learn_165 : decode cX1_learn 165 = .ok (.iload 9, 2) := dk_21 9 (dk_at dksX1_learn_7 2 rfl rfl)
theorem dX1_learn_167 : decode cX1_learn 167 = .ok (.bipush 20, 2) := dk_16 20 (dk_at dksX1_learn_7 4 rfl rfl)
theorem dX1_learn_169 : decode cX1_learn 169 = .ok (.isub, 1) := dk_100 (dk_at dksX1_learn_7 6 rfl rfl)
theorem dX1_learn_170 : decode cX1_learn 170 = .ok (.invokestatic 215, 3) := dk_184 0 215 (dk_at dksX1_learn_7 7 rfl rfl)
theorem dX1_learn_173 : decode cX1_learn 173 = .ok (.ifCond .ne 6, 3) := dk_154 0 6 (dk_at dksX1_learn_7 10 rfl rfl)
theorem dX1_learn_176 : decode cX1_learn 176 = .ok (.goto 26, 3) := dk_167 0 26 (dk_at dksX1_learn_7 13 rfl rfl)
theorem dX1_learn_179 : decode cX1_learn 179 = .ok (.iinc 6 1, 3) := dk_132 6 1 (dk_at dksX1_learn_7 16 rfl rfl)
theorem dX1_learn_182 : decode cX1_learn 182 = .ok (.iload 7, 2) := dk_21 7 (dk_at dksX1_learn_7 19 rfl rfl)
theorem dX1_learn_184 : decode cX1_learn 184 = .ok (.bipush (-4), 2) := dk_16 252 (dk_at dksX1_learn_7 21 rfl rfl)
theorem dX1_learn_186 : decode cX1_learn 186 = .ok (.if_icmp .ne 8, 3) := dk_160 0 8 (dk_at dksX1_learn_8 0 rfl rfl)
theorem dX1_learn_189 : decode cX1_learn 189 = .ok (.iload 9, 2) := dk_21 9 (dk_at dksX1_learn_8 3 rfl rfl)
theorem dX1_learn_191 : decode cX1_learn 191 = .ok (.goto 5, 3) := dk_167 0 5 (dk_at dksX1_learn_8 5 rfl rfl)
theorem dX1_learn_194 : decode cX1_learn 194 = .ok (.iload 7, 2) := dk_21 7 (dk_at dksX1_learn_8 8 rfl rfl)
theorem dX1_learn_196 : decode cX1_learn 196 = .ok (.istore 7, 2) := dk_54 7 (dk_at dksX1_learn_8 10 rfl rfl)
theorem dX1_learn_198 : decode cX1_learn 198 = .ok (.iload 9, 2) := dk_21 9 (dk_at dksX1_learn_8 12 rfl rfl)
theorem dX1_learn_200 : decode cX1_learn 200 = .ok (.istore 8, 2) := dk_54 8 (dk_at dksX1_learn_8 14 rfl rfl)
theorem dX1_learn_202 : decode cX1_learn 202 = .ok (.iinc 9 1, 3) := dk_132 9 1 (dk_at dksX1_learn_8 16 rfl rfl)
theorem dX1_learn_205 : decode cX1_learn 205 = .ok (.goto (-49), 3) := dk_167 255 207 (dk_at dksX1_learn_8 19 rfl rfl)
theorem dX1_learn_208 : decode cX1_learn 208 = .ok (.iload_n 2, 1) := dk_28 (dk_at dksX1_learn_8 22 rfl rfl)
theorem dX1_learn_209 : decode cX1_learn 209 = .ok (.ifCond .ne 8, 3) := dk_154 0 8 (dk_at dksX1_learn_9 0 rfl rfl)
theorem dX1_learn_212 : decode cX1_learn 212 = .ok (.iload 6, 2) := dk_21 6 (dk_at dksX1_learn_9 3 rfl rfl)
theorem dX1_learn_214 : decode cX1_learn 214 = .ok (.goto 15, 3) := dk_167 0 15 (dk_at dksX1_learn_9 5 rfl rfl)
theorem dX1_learn_217 : decode cX1_learn 217 = .ok (.iload_n 2, 1) := dk_28 (dk_at dksX1_learn_9 8 rfl rfl)
theorem dX1_learn_218 : decode cX1_learn 218 = .ok (.iconst 1, 1) := dk_4 (dk_at dksX1_learn_9 9 rfl rfl)
theorem dX1_learn_219 : decode cX1_learn 219 = .ok (.if_icmp .ne 8, 3) := dk_160 0 8 (dk_at dksX1_learn_9 10 rfl rfl)
theorem dX1_learn_222 : decode cX1_learn 222 = .ok (.iload 7, 2) := dk_21 7 (dk_at dksX1_learn_9 13 rfl rfl)
theorem dX1_learn_224 : decode cX1_learn 224 = .ok (.goto 5, 3) := dk_167 0 5 (dk_at dksX1_learn_9 15 rfl rfl)
theorem dX1_learn_227 : decode cX1_learn 227 = .ok (.iload 8, 2) := dk_21 8 (dk_at dksX1_learn_9 18 rfl rfl)
theorem dX1_learn_229 : decode cX1_learn 229 = .ok (.ireturn, 1) := dk_172 (dk_at dksX1_learn_9 20 rfl rfl)
abbrev cX1_doFit : ByteArray := prog_1_method_31_code
def yX1_doFit : MethodName := ⟨RX1, "doFit", "([II)Z"⟩
def dkwX1_doFit_1 : List UInt8 := [46, 159, 0, 5, 3, 172, 132, 2, 3, 167, 255, 225, 4, 172]
abbrev dktX1_doFit_1 : List UInt8 := dkwX1_doFit_1 ++ []
def dkwX1_doFit_0 : List UInt8 := [3, 61, 28, 42, 190, 162, 0, 31, 27, 42, 28, 46, 42, 28, 4, 96, 46, 184, 0, 172, 42, 28, 5, 96]
abbrev dktX1_doFit_0 : List UInt8 := dkwX1_doFit_0 ++ dktX1_doFit_1
theorem dksX1_doFit_0 : cX1_doFit.data.toList.drop 0 = dktX1_doFit_0 := by decide +kernel
theorem dksX1_doFit_1 : cX1_doFit.data.toList.drop 24 = dktX1_doFit_1 := dk_seg dksX1_doFit_0 24 rfl rfl
theorem dX1_doFit_0 : decode cX1_doFit 0 = .ok (.iconst 0, 1) := dk_3 (dk_at dksX1_doFit_0 0 rfl rfl)
theorem dX1_doFit_1 : decode cX1_doFit 1 = .ok (.istore_n 2, 1) := dk_61 (dk_at dksX1_doFit_0 1 rfl rfl)
theorem dX1_doFit_2 : decode cX1_doFit 2 = .ok (.iload_n 2, 1) := dk_28 (dk_at dksX1_doFit_0 2 rfl rfl)
theorem dX1_doFit_3 : decode cX1_doFit 3 = .ok (.aload_n 0, 1) := dk_42 (dk_at dksX1_doFit_0 3 rfl rfl)
theorem dX1_doFit_4 : decode cX1_doFit 4 = .ok (.arraylength, 1) := dk_190 (dk_at dksX1_doFit_0 4 rfl rfl)
theorem dX1_doFit_5 : decode cX1_doFit 5 = .ok (.if_icmp .ge 31, 3) := dk_162 0 31 (dk_at dksX1_doFit_0 5 rfl rfl)
theorem dX1_doFit_8 : decode cX1_doFit 8 = .ok (.iload_n 1, 1) := dk_27 (dk_at dksX1_doFit_0 8 rfl rfl)
theorem dX1_doFit_9 : decode cX1_doFit 9 = .ok (.aload_n 0, 1) := dk_42 (dk_at dksX1_doFit_0 9 rfl rfl)
theorem dX1_doFit_10 : decode cX1_doFit 10 = .ok (.iload_n 2, 1) := dk_28 (dk_at dksX1_doFit_0 10 rfl rfl)
theorem dX1_doFit_11 : decode cX1_doFit 11 = .ok (.iaload, 1) := dk_46 (dk_at dksX1_doFit_0 11 rfl rfl)
theorem dX1_doFit_12 : decode cX1_doFit 12 = .ok (.aload_n 0, 1) := dk_42 (dk_at dksX1_doFit_0 12 rfl rfl)
theorem dX1_doFit_13 : decode cX1_doFit 13 = .ok (.iload_n 2, 1) := dk_28 (dk_at dksX1_doFit_0 13 rfl rfl)
theorem dX1_doFit_14 : decode cX1_doFit 14 = .ok (.iconst 1, 1) := dk_4 (dk_at dksX1_doFit_0 14 rfl rfl)
theorem dX1_doFit_15 : decode cX1_doFit 15 = .ok (.iadd, 1) := dk_96 (dk_at dksX1_doFit_0 15 rfl rfl)
theorem dX1_doFit_16 : decode cX1_doFit 16 = .ok (.iaload, 1) := dk_46 (dk_at dksX1_doFit_0 16 rfl rfl)
theorem dX1_doFit_17 : decode cX1_doFit 17 = .ok (.invokestatic 172, 3) := dk_184 0 172 (dk_at dksX1_doFit_0 17 rfl rfl)
theorem dX1_doFit_20 : decode cX1_doFit 20 = .ok (.aload_n 0, 1) := dk_42 (dk_at dksX1_doFit_0 20 rfl rfl)
theorem dX1_doFit_21 : decode cX1_doFit 21 = .ok (.iload_n 2, 1) := dk_28 (dk_at dksX1_doFit_0 21 rfl rfl)
theorem dX1_doFit_22 : decode cX1_doFit 22 = .ok (.iconst 2, 1) := dk_5 (dk_at dksX1_doFit_0 22 rfl rfl)
theorem dX1_doFit_23 : decode cX1_doFit 23 = .ok (.iadd, 1) := dk_96 (dk_at dksX1_doFit_0 23 rfl rfl)
theorem dX1_doFit_24 : decode cX1_doFit 24 = .ok (.iaload, 1) := dk_46 (dk_at dksX1_doFit_1 0 rfl rfl)
theorem dX1_doFit_25 : decode cX1_doFit 25 = .ok (.if_icmp .eq 5, 3) := dk_159 0 5 (dk_at dksX1_doFit_1 1 rfl rfl)
theorem dX1_doFit_28 : decode cX1_doFit 28 = .ok (.iconst 0, 1) := dk_3 (dk_at dksX1_doFit_1 4 rfl rfl)
theorem dX1_doFit_29 : decode cX1_doFit 29 = .ok (.ireturn, 1) := dk_172 (dk_at dksX1_doFit_1 5 rfl rfl)
theorem dX1_doFit_30 : decode cX1_doFit 30 = .ok (.iinc 2 3, 3) := dk_132 2 3 (dk_at dksX1_doFit_1 6 rfl rfl)
theorem dX1_doFit_33 : decode cX1_doFit 33 = .ok (.goto (-31), 3) := dk_167 255 225 (dk_at dksX1_doFit_1 9 rfl rfl)
theorem dX1_doFit_36 : decode cX1_doFit 36 = .ok (.iconst 1, 1) := dk_4 (dk_at dksX1_doFit_1 12 rfl rfl)
theorem dX1_doFit_37 : decode cX1_doFit 37 = .ok (.ireturn, 1) := dk_172 (dk_at dksX1_doFit_1 13 rfl rfl)
abbrev cX1_shared : ByteArray := prog_1_method_34_code
def yX1_shared : MethodName := ⟨RX1, "shared", "(II)I"⟩
def dkwX1_shared_1 : List UInt8 := [167, 0, 4, 2, 172]
abbrev dktX1_shared_1 : List UInt8 := dkwX1_shared_1 ++ []
def dkwX1_shared_0 : List UInt8 := [27, 184, 0, 44, 153, 0, 22, 28, 4, 16, 9, 184, 0, 3, 153, 0, 12, 42, 27, 28, 182, 0, 219]
abbrev dktX1_shared_0 : List UInt8 := dkwX1_shared_0 ++ dktX1_shared_1
theorem dksX1_shared_0 : cX1_shared.data.toList.drop 0 = dktX1_shared_0 := by decide +kernel
theorem dksX1_shared_1 : cX1_shared.data.toList.drop 23 = dktX1_shared_1 := dk_seg dksX1_shared_0 23 rfl rfl
theorem dX1_shared_0 : decode cX1_shared 0 = .ok (.iload_n 1, 1) := dk_27 (dk_at dksX1_shared_0 0 rfl rfl)
theorem dX1_shared_1 : decode cX1_shared 1 = .ok (.invokestatic 44, 3) := dk_184 0 44 (dk_at dksX1_shared_0 1 rfl rfl)
theorem dX1_shared_4 : decode cX1_shared 4 = .ok (.ifCond .eq 22, 3) := dk_153 0 22 (dk_at dksX1_shared_0 4 rfl rfl)
theorem dX1_shared_7 : decode cX1_shared 7 = .ok (.iload_n 2, 1) := dk_28 (dk_at dksX1_shared_0 7 rfl rfl)
theorem dX1_shared_8 : decode cX1_shared 8 = .ok (.iconst 1, 1) := dk_4 (dk_at dksX1_shared_0 8 rfl rfl)
theorem dX1_shared_9 : decode cX1_shared 9 = .ok (.bipush 9, 2) := dk_16 9 (dk_at dksX1_shared_0 9 rfl rfl)
theorem dX1_shared_11 : decode cX1_shared 11 = .ok (.invokestatic 3, 3) := dk_184 0 3 (dk_at dksX1_shared_0 11 rfl rfl)
theorem dX1_shared_14 : decode cX1_shared 14 = .ok (.ifCond .eq 12, 3) := dk_153 0 12 (dk_at dksX1_shared_0 14 rfl rfl)
theorem dX1_shared_17 : decode cX1_shared 17 = .ok (.aload_n 0, 1) := dk_42 (dk_at dksX1_shared_0 17 rfl rfl)
theorem dX1_shared_18 : decode cX1_shared 18 = .ok (.iload_n 1, 1) := dk_27 (dk_at dksX1_shared_0 18 rfl rfl)
theorem dX1_shared_19 : decode cX1_shared 19 = .ok (.iload_n 2, 1) := dk_28 (dk_at dksX1_shared_0 19 rfl rfl)
theorem dX1_shared_20 : decode cX1_shared 20 = .ok (.invokevirtual 219, 3) := dk_182 0 219 (dk_at dksX1_shared_0 20 rfl rfl)
theorem dX1_shared_23 : decode cX1_shared 23 = .ok (.goto 4, 3) := dk_167 0 4 (dk_at dksX1_shared_1 0 rfl rfl)
theorem dX1_shared_26 : decode cX1_shared 26 = .ok (.iconst (-1), 1) := dk_2 (dk_at dksX1_shared_1 3 rfl rfl)
theorem dX1_shared_27 : decode cX1_shared 27 = .ok (.ireturn, 1) := dk_172 (dk_at dksX1_shared_1 4 rfl rfl)
abbrev cX1_partOf : ByteArray := prog_1_method_33_code
def yX1_partOf : MethodName := ⟨RX1, "partOf", "(II)I"⟩
def dkwX1_partOf_0 : List UInt8 := [42, 180, 0, 34, 180, 0, 91, 27, 184, 0, 146, 28, 96, 4, 100, 28, 108, 172]
abbrev dktX1_partOf_0 : List UInt8 := dkwX1_partOf_0 ++ []
theorem dksX1_partOf_0 : cX1_partOf.data.toList.drop 0 = dktX1_partOf_0 := by decide +kernel
theorem dX1_partOf_0 : decode cX1_partOf 0 = .ok (.aload_n 0, 1) := dk_42 (dk_at dksX1_partOf_0 0 rfl rfl)
theorem dX1_partOf_1 : decode cX1_partOf 1 = .ok (.getfield 34, 3) := dk_180 0 34 (dk_at dksX1_partOf_0 1 rfl rfl)
theorem dX1_partOf_4 : decode cX1_partOf 4 = .ok (.getfield 91, 3) := dk_180 0 91 (dk_at dksX1_partOf_0 4 rfl rfl)
theorem dX1_partOf_7 : decode cX1_partOf 7 = .ok (.iload_n 1, 1) := dk_27 (dk_at dksX1_partOf_0 7 rfl rfl)
theorem dX1_partOf_8 : decode cX1_partOf 8 = .ok (.invokestatic 146, 3) := dk_184 0 146 (dk_at dksX1_partOf_0 8 rfl rfl)
theorem dX1_partOf_11 : decode cX1_partOf 11 = .ok (.iload_n 2, 1) := dk_28 (dk_at dksX1_partOf_0 11 rfl rfl)
theorem dX1_partOf_12 : decode cX1_partOf 12 = .ok (.iadd, 1) := dk_96 (dk_at dksX1_partOf_0 12 rfl rfl)
theorem dX1_partOf_13 : decode cX1_partOf 13 = .ok (.iconst 1, 1) := dk_4 (dk_at dksX1_partOf_0 13 rfl rfl)
theorem dX1_partOf_14 : decode cX1_partOf 14 = .ok (.isub, 1) := dk_100 (dk_at dksX1_partOf_0 14 rfl rfl)
theorem dX1_partOf_15 : decode cX1_partOf 15 = .ok (.iload_n 2, 1) := dk_28 (dk_at dksX1_partOf_0 15 rfl rfl)
theorem dX1_partOf_16 : decode cX1_partOf 16 = .ok (.idiv, 1) := dk_108 (dk_at dksX1_partOf_0 16 rfl rfl)
theorem dX1_partOf_17 : decode cX1_partOf 17 = .ok (.ireturn, 1) := dk_172 (dk_at dksX1_partOf_0 17 rfl rfl)
abbrev cX1_nine : ByteArray := prog_1_method_35_code
def yX1_nine : MethodName := ⟨RX1, "nine", "(II)I"⟩
def dkwX1_nine_1 : List UInt8 := [163, 0, 21, 42, 27, 29, 182, 0, 219, 28, 163, 0, 5, 29, 172, 132, 3, 1, 167, 255, 235, 16, 252, 172]
abbrev dktX1_nine_1 : List UInt8 := dkwX1_nine_1 ++ []
def dkwX1_nine_0 : List UInt8 := [27, 184, 0, 44, 153, 0, 13, 28, 4, 16, 20, 184, 0, 3, 154, 0, 5, 2, 172, 4, 62, 29, 16, 9]
abbrev dktX1_nine_0 : List UInt8 := dkwX1_nine_0 ++ dktX1_nine_1
theorem dksX1_nine_0 : cX1_nine.data.toList.drop 0 = dktX1_nine_0 := by decide +kernel
theorem dksX1_nine_1 : cX1_nine.data.toList.drop 24 = dktX1_nine_1 := dk_seg dksX1_nine_0 24 rfl rfl
theorem dX1_nine_0 : decode cX1_nine 0 = .ok (.iload_n 1, 1) := dk_27 (dk_at dksX1_nine_0 0 rfl rfl)
theorem dX1_nine_1 : decode cX1_nine 1 = .ok (.invokestatic 44, 3) := dk_184 0 44 (dk_at dksX1_nine_0 1 rfl rfl)
theorem dX1_nine_4 : decode cX1_nine 4 = .ok (.ifCond .eq 13, 3) := dk_153 0 13 (dk_at dksX1_nine_0 4 rfl rfl)
theorem dX1_nine_7 : decode cX1_nine 7 = .ok (.iload_n 2, 1) := dk_28 (dk_at dksX1_nine_0 7 rfl rfl)
theorem dX1_nine_8 : decode cX1_nine 8 = .ok (.iconst 1, 1) := dk_4 (dk_at dksX1_nine_0 8 rfl rfl)
theorem dX1_nine_9 : decode cX1_nine 9 = .ok (.bipush 20, 2) := dk_16 20 (dk_at dksX1_nine_0 9 rfl rfl)
theorem dX1_nine_11 : decode cX1_nine 11 = .ok (.invokestatic 3, 3) := dk_184 0 3 (dk_at dksX1_nine_0 11 rfl rfl)
theorem dX1_nine_14 : decode cX1_nine 14 = .ok (.ifCond .ne 5, 3) := dk_154 0 5 (dk_at dksX1_nine_0 14 rfl rfl)
theorem dX1_nine_17 : decode cX1_nine 17 = .ok (.iconst (-1), 1) := dk_2 (dk_at dksX1_nine_0 17 rfl rfl)
theorem dX1_nine_18 : decode cX1_nine 18 = .ok (.ireturn, 1) := dk_172 (dk_at dksX1_nine_0 18 rfl rfl)
theorem dX1_nine_19 : decode cX1_nine 19 = .ok (.iconst 1, 1) := dk_4 (dk_at dksX1_nine_0 19 rfl rfl)
theorem dX1_nine_20 : decode cX1_nine 20 = .ok (.istore_n 3, 1) := dk_62 (dk_at dksX1_nine_0 20 rfl rfl)
theorem dX1_nine_21 : decode cX1_nine 21 = .ok (.iload_n 3, 1) := dk_29 (dk_at dksX1_nine_0 21 rfl rfl)
theorem dX1_nine_22 : decode cX1_nine 22 = .ok (.bipush 9, 2) := dk_16 9 (dk_at dksX1_nine_0 22 rfl rfl)
theorem dX1_nine_24 : decode cX1_nine 24 = .ok (.if_icmp .gt 21, 3) := dk_163 0 21 (dk_at dksX1_nine_1 0 rfl rfl)
theorem dX1_nine_27 : decode cX1_nine 27 = .ok (.aload_n 0, 1) := dk_42 (dk_at dksX1_nine_1 3 rfl rfl)
theorem dX1_nine_28 : decode cX1_nine 28 = .ok (.iload_n 1, 1) := dk_27 (dk_at dksX1_nine_1 4 rfl rfl)
theorem dX1_nine_29 : decode cX1_nine 29 = .ok (.iload_n 3, 1) := dk_29 (dk_at dksX1_nine_1 5 rfl rfl)
theorem dX1_nine_30 : decode cX1_nine 30 = .ok (.invokevirtual 219, 3) := dk_182 0 219 (dk_at dksX1_nine_1 6 rfl rfl)
theorem dX1_nine_33 : decode cX1_nine 33 = .ok (.iload_n 2, 1) := dk_28 (dk_at dksX1_nine_1 9 rfl rfl)
theorem dX1_nine_34 : decode cX1_nine 34 = .ok (.if_icmp .gt 5, 3) := dk_163 0 5 (dk_at dksX1_nine_1 10 rfl rfl)
theorem dX1_nine_37 : decode cX1_nine 37 = .ok (.iload_n 3, 1) := dk_29 (dk_at dksX1_nine_1 13 rfl rfl)
theorem dX1_nine_38 : decode cX1_nine 38 = .ok (.ireturn, 1) := dk_172 (dk_at dksX1_nine_1 14 rfl rfl)
theorem dX1_nine_39 : decode cX1_nine 39 = .ok (.iinc 3 1, 3) := dk_132 3 1 (dk_at dksX1_nine_1 15 rfl rfl)
theorem dX1_nine_42 : decode cX1_nine 42 = .ok (.goto (-21), 3) := dk_167 255 235 (dk_at dksX1_nine_1 18 rfl rfl)
theorem dX1_nine_45 : decode cX1_nine 45 = .ok (.bipush (-4), 2) := dk_16 252 (dk_at dksX1_nine_1 21 rfl rfl)
theorem dX1_nine_47 : decode cX1_nine 47 = .ok (.ireturn, 1) := dk_172 (dk_at dksX1_nine_1 23 rfl rfl)
abbrev cX1_buys : ByteArray := prog_1_method_37_code
def yX1_buys : MethodName := ⟨RX1, "buys", "(IIII)I"⟩
def dkwX1_buys_2 : List UInt8 := [172]
abbrev dktX1_buys_2 : List UInt8 := dkwX1_buys_2 ++ []
def dkwX1_buys_1 : List UInt8 := [28, 21, 4, 104, 96, 42, 180, 0, 34, 180, 0, 91, 27, 184, 0, 146, 162, 0, 7, 4, 167, 0, 4, 3]
abbrev dktX1_buys_1 : List UInt8 := dkwX1_buys_1 ++ dktX1_buys_2
def dkwX1_buys_0 : List UInt8 := [42, 27, 28, 21, 4, 182, 0, 222, 153, 0, 13, 29, 3, 16, 12, 184, 0, 3, 154, 0, 5, 2, 172, 29]
abbrev dktX1_buys_0 : List UInt8 := dkwX1_buys_0 ++ dktX1_buys_1
theorem dksX1_buys_0 : cX1_buys.data.toList.drop 0 = dktX1_buys_0 := by decide +kernel
theorem dksX1_buys_1 : cX1_buys.data.toList.drop 24 = dktX1_buys_1 := dk_seg dksX1_buys_0 24 rfl rfl
theorem dksX1_buys_2 : cX1_buys.data.toList.drop 48 = dktX1_buys_2 := dk_seg dksX1_buys_1 24 rfl rfl
theorem dX1_buys_0 : decode cX1_buys 0 = .ok (.aload_n 0, 1) := dk_42 (dk_at dksX1_buys_0 0 rfl rfl)
theorem dX1_buys_1 : decode cX1_buys 1 = .ok (.iload_n 1, 1) := dk_27 (dk_at dksX1_buys_0 1 rfl rfl)
theorem dX1_buys_2 : decode cX1_buys 2 = .ok (.iload_n 2, 1) := dk_28 (dk_at dksX1_buys_0 2 rfl rfl)
theorem dX1_buys_3 : decode cX1_buys 3 = .ok (.iload 4, 2) := dk_21 4 (dk_at dksX1_buys_0 3 rfl rfl)
theorem dX1_buys_5 : decode cX1_buys 5 = .ok (.invokevirtual 222, 3) := dk_182 0 222 (dk_at dksX1_buys_0 5 rfl rfl)
theorem dX1_buys_8 : decode cX1_buys 8 = .ok (.ifCond .eq 13, 3) := dk_153 0 13 (dk_at dksX1_buys_0 8 rfl rfl)
theorem dX1_buys_11 : decode cX1_buys 11 = .ok (.iload_n 3, 1) := dk_29 (dk_at dksX1_buys_0 11 rfl rfl)
theorem dX1_buys_12 : decode cX1_buys 12 = .ok (.iconst 0, 1) := dk_3 (dk_at dksX1_buys_0 12 rfl rfl)
theorem dX1_buys_13 : decode cX1_buys 13 = .ok (.bipush 12, 2) := dk_16 12 (dk_at dksX1_buys_0 13 rfl rfl)
theorem dX1_buys_15 : decode cX1_buys 15 = .ok (.invokestatic 3, 3) := dk_184 0 3 (dk_at dksX1_buys_0 15 rfl rfl)
theorem dX1_buys_18 : decode cX1_buys 18 = .ok (.ifCond .ne 5, 3) := dk_154 0 5 (dk_at dksX1_buys_0 18 rfl rfl)
theorem dX1_buys_21 : decode cX1_buys 21 = .ok (.iconst (-1), 1) := dk_2 (dk_at dksX1_buys_0 21 rfl rfl)
theorem dX1_buys_22 : decode cX1_buys 22 = .ok (.ireturn, 1) := dk_172 (dk_at dksX1_buys_0 22 rfl rfl)
theorem dX1_buys_23 : decode cX1_buys 23 = .ok (.iload_n 3, 1) := dk_29 (dk_at dksX1_buys_0 23 rfl rfl)
theorem dX1_buys_24 : decode cX1_buys 24 = .ok (.iload_n 2, 1) := dk_28 (dk_at dksX1_buys_1 0 rfl rfl)
theorem dX1_buys_25 : decode cX1_buys 25 = .ok (.iload 4, 2) := dk_21 4 (dk_at dksX1_buys_1 1 rfl rfl)
theorem dX1_buys_27 : decode cX1_buys 27 = .ok (.imul, 1) := dk_104 (dk_at dksX1_buys_1 3 rfl rfl)
theorem dX1_buys_28 : decode cX1_buys 28 = .ok (.iadd, 1) := dk_96 (dk_at dksX1_buys_1 4 rfl rfl)
theorem dX1_buys_29 : decode cX1_buys 29 = .ok (.aload_n 0, 1) := dk_42 (dk_at dksX1_buys_1 5 rfl rfl)
theorem dX1_buys_30 : decode cX1_buys 30 = .ok (.getfield 34, 3) := dk_180 0 34 (dk_at dksX1_buys_1 6 rfl rfl)
theorem dX1_buys_33 : decode cX1_buys 33 = .ok (.getfield 91, 3) := dk_180 0 91 (dk_at dksX1_buys_1 9 rfl rfl)
theorem dX1_buys_36 : decode cX1_buys 36 = .ok (.iload_n 1, 1) := dk_27 (dk_at dksX1_buys_1 12 rfl rfl)
theorem dX1_buys_37 : decode cX1_buys 37 = .ok (.invokestatic 146, 3) := dk_184 0 146 (dk_at dksX1_buys_1 13 rfl rfl)
theorem dX1_buys_40 : decode cX1_buys 40 = .ok (.if_icmp .ge 7, 3) := dk_162 0 7 (dk_at dksX1_buys_1 16 rfl rfl)
theorem dX1_buys_43 : decode cX1_buys 43 = .ok (.iconst 1, 1) := dk_4 (dk_at dksX1_buys_1 19 rfl rfl)
theorem dX1_buys_44 : decode cX1_buys 44 = .ok (.goto 4, 3) := dk_167 0 4 (dk_at dksX1_buys_1 20 rfl rfl)
theorem dX1_buys_47 : decode cX1_buys 47 = .ok (.iconst 0, 1) := dk_3 (dk_at dksX1_buys_1 23 rfl rfl)
theorem dX1_buys_48 : decode cX1_buys 48 = .ok (.ireturn, 1) := dk_172 (dk_at dksX1_buys_2 0 rfl rfl)
abbrev cX1_isSeller : ByteArray := prog_1_method_36_code
def yX1_isSeller : MethodName := ⟨RX1, "isSeller", "(III)Z"⟩
def dkwX1_isSeller_1 : List UInt8 := [153, 0, 7, 4, 167, 0, 4, 3, 172]
abbrev dktX1_isSeller_1 : List UInt8 := dkwX1_isSeller_1 ++ []
def dkwX1_isSeller_0 : List UInt8 := [27, 184, 0, 44, 153, 0, 27, 28, 3, 16, 60, 184, 0, 3, 153, 0, 17, 29, 3, 16, 9, 184, 0, 3]
abbrev dktX1_isSeller_0 : List UInt8 := dkwX1_isSeller_0 ++ dktX1_isSeller_1
theorem dksX1_isSeller_0 : cX1_isSeller.data.toList.drop 0 = dktX1_isSeller_0 := by decide +kernel
theorem dksX1_isSeller_1 : cX1_isSeller.data.toList.drop 24 = dktX1_isSeller_1 := dk_seg dksX1_isSeller_0 24 rfl rfl
theorem dX1_isSeller_0 : decode cX1_isSeller 0 = .ok (.iload_n 1, 1) := dk_27 (dk_at dksX1_isSeller_0 0 rfl rfl)
theorem dX1_isSeller_1 : decode cX1_isSeller 1 = .ok (.invokestatic 44, 3) := dk_184 0 44 (dk_at dksX1_isSeller_0 1 rfl rfl)
theorem dX1_isSeller_4 : decode cX1_isSeller 4 = .ok (.ifCond .eq 27, 3) := dk_153 0 27 (dk_at dksX1_isSeller_0 4 rfl rfl)
theorem dX1_isSeller_7 : decode cX1_isSeller 7 = .ok (.iload_n 2, 1) := dk_28 (dk_at dksX1_isSeller_0 7 rfl rfl)
theorem dX1_isSeller_8 : decode cX1_isSeller 8 = .ok (.iconst 0, 1) := dk_3 (dk_at dksX1_isSeller_0 8 rfl rfl)
theorem dX1_isSeller_9 : decode cX1_isSeller 9 = .ok (.bipush 60, 2) := dk_16 60 (dk_at dksX1_isSeller_0 9 rfl rfl)
theorem dX1_isSeller_11 : decode cX1_isSeller 11 = .ok (.invokestatic 3, 3) := dk_184 0 3 (dk_at dksX1_isSeller_0 11 rfl rfl)
theorem dX1_isSeller_14 : decode cX1_isSeller 14 = .ok (.ifCond .eq 17, 3) := dk_153 0 17 (dk_at dksX1_isSeller_0 14 rfl rfl)
theorem dX1_isSeller_17 : decode cX1_isSeller 17 = .ok (.iload_n 3, 1) := dk_29 (dk_at dksX1_isSeller_0 17 rfl rfl)
theorem dX1_isSeller_18 : decode cX1_isSeller 18 = .ok (.iconst 0, 1) := dk_3 (dk_at dksX1_isSeller_0 18 rfl rfl)
theorem dX1_isSeller_19 : decode cX1_isSeller 19 = .ok (.bipush 9, 2) := dk_16 9 (dk_at dksX1_isSeller_0 19 rfl rfl)
theorem dX1_isSeller_21 : decode cX1_isSeller 21 = .ok (.invokestatic 3, 3) := dk_184 0 3 (dk_at dksX1_isSeller_0 21 rfl rfl)
theorem dX1_isSeller_24 : decode cX1_isSeller 24 = .ok (.ifCond .eq 7, 3) := dk_153 0 7 (dk_at dksX1_isSeller_1 0 rfl rfl)
theorem dX1_isSeller_27 : decode cX1_isSeller 27 = .ok (.iconst 1, 1) := dk_4 (dk_at dksX1_isSeller_1 3 rfl rfl)
theorem dX1_isSeller_28 : decode cX1_isSeller 28 = .ok (.goto 4, 3) := dk_167 0 4 (dk_at dksX1_isSeller_1 4 rfl rfl)
theorem dX1_isSeller_31 : decode cX1_isSeller 31 = .ok (.iconst 0, 1) := dk_3 (dk_at dksX1_isSeller_1 7 rfl rfl)
theorem dX1_isSeller_32 : decode cX1_isSeller 32 = .ok (.ireturn, 1) := dk_172 (dk_at dksX1_isSeller_1 8 rfl rfl)
abbrev cX1_rest : ByteArray := prog_1_method_38_code
def yX1_rest : MethodName := ⟨RX1, "rest", "(III)I"⟩
def dkwX1_rest_2 : List UInt8 := [167, 255, 225, 16, 252, 172]
abbrev dktX1_rest_2 : List UInt8 := dkwX1_rest_2 ++ []
def dkwX1_rest_1 : List UInt8 := [29, 104, 96, 42, 180, 0, 34, 180, 0, 91, 27, 184, 0, 146, 162, 0, 6, 21, 4, 172, 132, 4, 255]
abbrev dktX1_rest_1 : List UInt8 := dkwX1_rest_1 ++ dktX1_rest_2
def dkwX1_rest_0 : List UInt8 := [42, 27, 28, 29, 182, 0, 222, 154, 0, 5, 2, 172, 16, 12, 54, 4, 21, 4, 155, 0, 32, 21, 4, 28]
abbrev dktX1_rest_0 : List UInt8 := dkwX1_rest_0 ++ dktX1_rest_1
theorem dksX1_rest_0 : cX1_rest.data.toList.drop 0 = dktX1_rest_0 := by decide +kernel
theorem dksX1_rest_1 : cX1_rest.data.toList.drop 24 = dktX1_rest_1 := dk_seg dksX1_rest_0 24 rfl rfl
theorem dksX1_rest_2 : cX1_rest.data.toList.drop 47 = dktX1_rest_2 := dk_seg dksX1_rest_1 23 rfl rfl
theorem dX1_rest_0 : decode cX1_rest 0 = .ok (.aload_n 0, 1) := dk_42 (dk_at dksX1_rest_0 0 rfl rfl)
theorem dX1_rest_1 : decode cX1_rest 1 = .ok (.iload_n 1, 1) := dk_27 (dk_at dksX1_rest_0 1 rfl rfl)
theorem dX1_rest_2 : decode cX1_rest 2 = .ok (.iload_n 2, 1) := dk_28 (dk_at dksX1_rest_0 2 rfl rfl)
theorem dX1_rest_3 : decode cX1_rest 3 = .ok (.iload_n 3, 1) := dk_29 (dk_at dksX1_rest_0 3 rfl rfl)
theorem dX1_rest_4 : decode cX1_rest 4 = .ok (.invokevirtual 222, 3) := dk_182 0 222 (dk_at dksX1_rest_0 4 rfl rfl)
theorem dX1_rest_7 : decode cX1_rest 7 = .ok (.ifCond .ne 5, 3) := dk_154 0 5 (dk_at dksX1_rest_0 7 rfl rfl)
theorem dX1_rest_10 : decode cX1_rest 10 = .ok (.iconst (-1), 1) := dk_2 (dk_at dksX1_rest_0 10 rfl rfl)
theorem dX1_rest_11 : decode cX1_rest 11 = .ok (.ireturn, 1) := dk_172 (dk_at dksX1_rest_0 11 rfl rfl)
theorem dX1_rest_12 : decode cX1_rest 12 = .ok (.bipush 12, 2) := dk_16 12 (dk_at dksX1_rest_0 12 rfl rfl)
theorem dX1_rest_14 : decode cX1_rest 14 = .ok (.istore 4, 2) := dk_54 4 (dk_at dksX1_rest_0 14 rfl rfl)
theorem dX1_rest_16 : decode cX1_rest 16 = .ok (.iload 4, 2) := dk_21 4 (dk_at dksX1_rest_0 16 rfl rfl)
theorem dX1_rest_18 : decode cX1_rest 18 = .ok (.ifCond .lt 32, 3) := dk_155 0 32 (dk_at dksX1_rest_0 18 rfl rfl)
theorem dX1_rest_21 : decode cX1_rest 21 = .ok (.iload 4, 2) := dk_21 4 (dk_at dksX1_rest_0 21 rfl rfl)
theorem dX1_rest_23 : decode cX1_rest 23 = .ok (.iload_n 2, 1) := dk_28 (dk_at dksX1_rest_0 23 rfl rfl)
theorem dX1_rest_24 : decode cX1_rest 24 = .ok (.iload_n 3, 1) := dk_29 (dk_at dksX1_rest_1 0 rfl rfl)
theorem dX1_rest_25 : decode cX1_rest 25 = .ok (.imul, 1) := dk_104 (dk_at dksX1_rest_1 1 rfl rfl)
theorem dX1_rest_26 : decode cX1_rest 26 = .ok (.iadd, 1) := dk_96 (dk_at dksX1_rest_1 2 rfl rfl)
theorem dX1_rest_27 : decode cX1_rest 27 = .ok (.aload_n 0, 1) := dk_42 (dk_at dksX1_rest_1 3 rfl rfl)
theorem dX1_rest_28 : decode cX1_rest 28 = .ok (.getfield 34, 3) := dk_180 0 34 (dk_at dksX1_rest_1 4 rfl rfl)
theorem dX1_rest_31 : decode cX1_rest 31 = .ok (.getfield 91, 3) := dk_180 0 91 (dk_at dksX1_rest_1 7 rfl rfl)
theorem dX1_rest_34 : decode cX1_rest 34 = .ok (.iload_n 1, 1) := dk_27 (dk_at dksX1_rest_1 10 rfl rfl)
theorem dX1_rest_35 : decode cX1_rest 35 = .ok (.invokestatic 146, 3) := dk_184 0 146 (dk_at dksX1_rest_1 11 rfl rfl)
theorem dX1_rest_38 : decode cX1_rest 38 = .ok (.if_icmp .ge 6, 3) := dk_162 0 6 (dk_at dksX1_rest_1 14 rfl rfl)
theorem dX1_rest_41 : decode cX1_rest 41 = .ok (.iload 4, 2) := dk_21 4 (dk_at dksX1_rest_1 17 rfl rfl)
theorem dX1_rest_43 : decode cX1_rest 43 = .ok (.ireturn, 1) := dk_172 (dk_at dksX1_rest_1 19 rfl rfl)
theorem dX1_rest_44 : decode cX1_rest 44 = .ok (.iinc 4 (-1), 3) := dk_132 4 255 (dk_at dksX1_rest_1 20 rfl rfl)
theorem dX1_rest_47 : decode cX1_rest 47 = .ok (.goto (-31), 3) := dk_167 255 225 (dk_at dksX1_rest_2 0 rfl rfl)
theorem dX1_rest_50 : decode cX1_rest 50 = .ok (.bipush (-4), 2) := dk_16 252 (dk_at dksX1_rest_2 3 rfl rfl)
theorem dX1_rest_52 : decode cX1_rest 52 = .ok (.ireturn, 1) := dk_172 (dk_at dksX1_rest_2 5 rfl rfl)
abbrev cX1_cheaper : ByteArray := prog_1_method_40_code
def yX1_cheaper : MethodName := ⟨RX1, "cheaper", "(I)I"⟩
def dkwX1_cheaper_1 : List UInt8 := [184, 0, 229, 167, 0, 4, 2, 172]
abbrev dktX1_cheaper_1 : List UInt8 := dkwX1_cheaper_1 ++ []
def dkwX1_cheaper_0 : List UInt8 := [27, 184, 0, 44, 153, 0, 25, 42, 180, 0, 34, 180, 0, 91, 27, 184, 0, 146, 42, 27, 182, 0, 225]
abbrev dktX1_cheaper_0 : List UInt8 := dkwX1_cheaper_0 ++ dktX1_cheaper_1
theorem dksX1_cheaper_0 : cX1_cheaper.data.toList.drop 0 = dktX1_cheaper_0 := by decide +kernel
theorem dksX1_cheaper_1 : cX1_cheaper.data.toList.drop 23 = dktX1_cheaper_1 := dk_seg dksX1_cheaper_0 23 rfl rfl
theorem dX1_cheaper_0 : decode cX1_cheaper 0 = .ok (.iload_n 1, 1) := dk_27 (dk_at dksX1_cheaper_0 0 rfl rfl)
theorem dX1_cheaper_1 : decode cX1_cheaper 1 = .ok (.invokestatic 44, 3) := dk_184 0 44 (dk_at dksX1_cheaper_0 1 rfl rfl)
theorem dX1_cheaper_4 : decode cX1_cheaper 4 = .ok (.ifCond .eq 25, 3) := dk_153 0 25 (dk_at dksX1_cheaper_0 4 rfl rfl)
theorem dX1_cheaper_7 : decode cX1_cheaper 7 = .ok (.aload_n 0, 1) := dk_42 (dk_at dksX1_cheaper_0 7 rfl rfl)
theorem dX1_cheaper_8 : decode cX1_cheaper 8 = .ok (.getfield 34, 3) := dk_180 0 34 (dk_at dksX1_cheaper_0 8 rfl rfl)
theorem dX1_cheaper_11 : decode cX1_cheaper 11 = .ok (.getfield 91, 3) := dk_180 0 91 (dk_at dksX1_cheaper_0 11 rfl rfl)
theorem dX1_cheaper_14 : decode cX1_cheaper 14 = .ok (.iload_n 1, 1) := dk_27 (dk_at dksX1_cheaper_0 14 rfl rfl)
theorem dX1_cheaper_15 : decode cX1_cheaper 15 = .ok (.invokestatic 146, 3) := dk_184 0 146 (dk_at dksX1_cheaper_0 15 rfl rfl)
theorem dX1_cheaper_18 : decode cX1_cheaper 18 = .ok (.aload_n 0, 1) := dk_42 (dk_at dksX1_cheaper_0 18 rfl rfl)
theorem dX1_cheaper_19 : decode cX1_cheaper 19 = .ok (.iload_n 1, 1) := dk_27 (dk_at dksX1_cheaper_0 19 rfl rfl)
theorem dX1_cheaper_20 : decode cX1_cheaper 20 = .ok (.invokevirtual 225, 3) := dk_182 0 225 (dk_at dksX1_cheaper_0 20 rfl rfl)
theorem dX1_cheaper_23 : decode cX1_cheaper 23 = .ok (.invokestatic 229, 3) := dk_184 0 229 (dk_at dksX1_cheaper_1 0 rfl rfl)
theorem dX1_cheaper_26 : decode cX1_cheaper 26 = .ok (.goto 4, 3) := dk_167 0 4 (dk_at dksX1_cheaper_1 3 rfl rfl)
theorem dX1_cheaper_29 : decode cX1_cheaper 29 = .ok (.iconst (-1), 1) := dk_2 (dk_at dksX1_cheaper_1 6 rfl rfl)
theorem dX1_cheaper_30 : decode cX1_cheaper 30 = .ok (.ireturn, 1) := dk_172 (dk_at dksX1_cheaper_1 7 rfl rfl)
abbrev cX1_otherPrice : ByteArray := prog_1_method_39_code
def yX1_otherPrice : MethodName := ⟨RX1, "otherPrice", "(I)I"⟩
def dkwX1_otherPrice_0 : List UInt8 := [42, 180, 0, 34, 180, 0, 91, 27, 16, 60, 96, 17, 2, 208, 112, 184, 0, 146, 172]
abbrev dktX1_otherPrice_0 : List UInt8 := dkwX1_otherPrice_0 ++ []
theorem dksX1_otherPrice_0 : cX1_otherPrice.data.toList.drop 0 = dktX1_otherPrice_0 := by decide +kernel
theorem dX1_otherPrice_0 : decode cX1_otherPrice 0 = .ok (.aload_n 0, 1) := dk_42 (dk_at dksX1_otherPrice_0 0 rfl rfl)
theorem dX1_otherPrice_1 : decode cX1_otherPrice 1 = .ok (.getfield 34, 3) := dk_180 0 34 (dk_at dksX1_otherPrice_0 1 rfl rfl)
theorem dX1_otherPrice_4 : decode cX1_otherPrice 4 = .ok (.getfield 91, 3) := dk_180 0 91 (dk_at dksX1_otherPrice_0 4 rfl rfl)
theorem dX1_otherPrice_7 : decode cX1_otherPrice 7 = .ok (.iload_n 1, 1) := dk_27 (dk_at dksX1_otherPrice_0 7 rfl rfl)
theorem dX1_otherPrice_8 : decode cX1_otherPrice 8 = .ok (.bipush 60, 2) := dk_16 60 (dk_at dksX1_otherPrice_0 8 rfl rfl)
theorem dX1_otherPrice_10 : decode cX1_otherPrice 10 = .ok (.iadd, 1) := dk_96 (dk_at dksX1_otherPrice_0 10 rfl rfl)
theorem dX1_otherPrice_11 : decode cX1_otherPrice 11 = .ok (.sipush 720, 3) := dk_17 2 208 (dk_at dksX1_otherPrice_0 11 rfl rfl)
theorem dX1_otherPrice_14 : decode cX1_otherPrice 14 = .ok (.irem, 1) := dk_112 (dk_at dksX1_otherPrice_0 14 rfl rfl)
theorem dX1_otherPrice_15 : decode cX1_otherPrice 15 = .ok (.invokestatic 146, 3) := dk_184 0 146 (dk_at dksX1_otherPrice_0 15 rfl rfl)
theorem dX1_otherPrice_18 : decode cX1_otherPrice 18 = .ok (.ireturn, 1) := dk_172 (dk_at dksX1_otherPrice_0 18 rfl rfl)
abbrev cX1_otherCheaper : ByteArray := prog_1_method_41_code
def yX1_otherCheaper : MethodName := ⟨RX1, "otherCheaper", "()I"⟩
def dkwX1_otherCheaper_1 : List UInt8 := [28, 184, 0, 146, 162, 0, 7, 4, 167, 0, 4, 3, 96, 60, 132, 2, 1, 167, 255, 219, 27, 172]
abbrev dktX1_otherCheaper_1 : List UInt8 := dkwX1_otherCheaper_1 ++ []
def dkwX1_otherCheaper_0 : List UInt8 := [3, 60, 3, 61, 28, 17, 2, 207, 163, 0, 36, 27, 42, 28, 182, 0, 225, 42, 180, 0, 34, 180, 0, 91]
abbrev dktX1_otherCheaper_0 : List UInt8 := dkwX1_otherCheaper_0 ++ dktX1_otherCheaper_1
theorem dksX1_otherCheaper_0 : cX1_otherCheaper.data.toList.drop 0 = dktX1_otherCheaper_0 := by decide +kernel
theorem dksX1_otherCheaper_1 : cX1_otherCheaper.data.toList.drop 24 = dktX1_otherCheaper_1 := dk_seg dksX1_otherCheaper_0 24 rfl rfl
theorem dX1_otherCheaper_0 : decode cX1_otherCheaper 0 = .ok (.iconst 0, 1) := dk_3 (dk_at dksX1_otherCheaper_0 0 rfl rfl)
theorem dX1_otherCheaper_1 : decode cX1_otherCheaper 1 = .ok (.istore_n 1, 1) := dk_60 (dk_at dksX1_otherCheaper_0 1 rfl rfl)
theorem dX1_otherCheaper_2 : decode cX1_otherCheaper 2 = .ok (.iconst 0, 1) := dk_3 (dk_at dksX1_otherCheaper_0 2 rfl rfl)
theorem dX1_otherCheaper_3 : decode cX1_otherCheaper 3 = .ok (.istore_n 2, 1) := dk_61 (dk_at dksX1_otherCheaper_0 3 rfl rfl)
theorem dX1_otherCheaper_4 : decode cX1_otherCheaper 4 = .ok (.iload_n 2, 1) := dk_28 (dk_at dksX1_otherCheaper_0 4 rfl rfl)
theorem dX1_otherCheaper_5 : decode cX1_otherCheaper 5 = .ok (.sipush 719, 3) := dk_17 2 207 (dk_at dksX1_otherCheaper_0 5 rfl rfl)
theorem dX1_otherCheaper_8 : decode cX1_otherCheaper 8 = .ok (.if_icmp .gt 36, 3) := dk_163 0 36 (dk_at dksX1_otherCheaper_0 8 rfl rfl)
theorem dX1_otherCheaper_11 : decode cX1_otherCheaper 11 = .ok (.iload_n 1, 1) := dk_27 (dk_at dksX1_otherCheaper_0 11 rfl rfl)
theorem dX1_otherCheaper_12 : decode cX1_otherCheaper 12 = .ok (.aload_n 0, 1) := dk_42 (dk_at dksX1_otherCheaper_0 12 rfl rfl)
theorem dX1_otherCheaper_13 : decode cX1_otherCheaper 13 = .ok (.iload_n 2, 1) := dk_28 (dk_at dksX1_otherCheaper_0 13 rfl rfl)
theorem dX1_otherCheaper_14 : decode cX1_otherCheaper 14 = .ok (.invokevirtual 225, 3) := dk_182 0 225 (dk_at dksX1_otherCheaper_0 14 rfl rfl)
theorem dX1_otherCheaper_17 : decode cX1_otherCheaper 17 = .ok (.aload_n 0, 1) := dk_42 (dk_at dksX1_otherCheaper_0 17 rfl rfl)
theorem dX1_otherCheaper_18 : decode cX1_otherCheaper 18 = .ok (.getfield 34, 3) := dk_180 0 34 (dk_at dksX1_otherCheaper_0 18 rfl rfl)
theorem dX1_otherCheaper_21 : decode cX1_otherCheaper 21 = .ok (.getfield 91, 3) := dk_180 0 91 (dk_at dksX1_otherCheaper_0 21 rfl rfl)
theorem dX1_otherCheaper_24 : decode cX1_otherCheaper 24 = .ok (.iload_n 2, 1) := dk_28 (dk_at dksX1_otherCheaper_1 0 rfl rfl)
theorem dX1_otherCheaper_25 : decode cX1_otherCheaper 25 = .ok (.invokestatic 146, 3) := dk_184 0 146 (dk_at dksX1_otherCheaper_1 1 rfl rfl)
theorem dX1_otherCheaper_28 : decode cX1_otherCheaper 28 = .ok (.if_icmp .ge 7, 3) := dk_162 0 7 (dk_at dksX1_otherCheaper_1 4 rfl rfl)
theorem dX1_otherCheaper_31 : decode cX1_otherCheaper 31 = .ok (.iconst 1, 1) := dk_4 (dk_at dksX1_otherCheaper_1 7 rfl rfl)
theorem dX1_otherCheaper_32 : decode cX1_otherCheaper 32 = .ok (.goto 4, 3) := dk_167 0 4 (dk_at dksX1_otherCheaper_1 8 rfl rfl)
theorem dX1_otherCheaper_35 : decode cX1_otherCheaper 35 = .ok (.iconst 0, 1) := dk_3 (dk_at dksX1_otherCheaper_1 11 rfl rfl)
theorem dX1_otherCheaper_36 : decode cX1_otherCheaper 36 = .ok (.iadd, 1) := dk_96 (dk_at dksX1_otherCheaper_1 12 rfl rfl)
theorem dX1_otherCheaper_37 : decode cX1_otherCheaper 37 = .ok (.istore_n 1, 1) := dk_60 (dk_at dksX1_otherCheaper_1 13 rfl rfl)
theorem dX1_otherCheaper_38 : decode cX1_otherCheaper 38 = .ok (.iinc 2 1, 3) := dk_132 2 1 (dk_at dksX1_otherCheaper_1 14 rfl rfl)
theorem dX1_otherCheaper_41 : decode cX1_otherCheaper 41 = .ok (.goto (-37), 3) := dk_167 255 219 (dk_at dksX1_otherCheaper_1 17 rfl rfl)
theorem dX1_otherCheaper_44 : decode cX1_otherCheaper 44 = .ok (.iload_n 1, 1) := dk_27 (dk_at dksX1_otherCheaper_1 20 rfl rfl)
theorem dX1_otherCheaper_45 : decode cX1_otherCheaper 45 = .ok (.ireturn, 1) := dk_172 (dk_at dksX1_otherCheaper_1 21 rfl rfl)
abbrev cX1_byLaw : ByteArray := prog_1_method_42_code
def yX1_byLaw : MethodName := ⟨RX1, "byLaw", "(II)I"⟩
def dkwX1_byLaw_2 : List UInt8 := [182, 0, 190, 172]
abbrev dktX1_byLaw_2 : List UInt8 := dkwX1_byLaw_2 ++ []
def dkwX1_byLaw_1 : List UInt8 := [180, 0, 61, 27, 50, 78, 42, 180, 0, 176, 42, 180, 0, 34, 45, 45, 180, 0, 168, 28, 182, 0, 180]
abbrev dktX1_byLaw_1 : List UInt8 := dkwX1_byLaw_1 ++ dktX1_byLaw_2
def dkwX1_byLaw_0 : List UInt8 := [42, 27, 182, 0, 153, 153, 0, 12, 28, 3, 5, 184, 0, 3, 154, 0, 5, 2, 172, 42, 180, 0, 34]
abbrev dktX1_byLaw_0 : List UInt8 := dkwX1_byLaw_0 ++ dktX1_byLaw_1
theorem dksX1_byLaw_0 : cX1_byLaw.data.toList.drop 0 = dktX1_byLaw_0 := by decide +kernel
theorem dksX1_byLaw_1 : cX1_byLaw.data.toList.drop 23 = dktX1_byLaw_1 := dk_seg dksX1_byLaw_0 23 rfl rfl
theorem dksX1_byLaw_2 : cX1_byLaw.data.toList.drop 46 = dktX1_byLaw_2 := dk_seg dksX1_byLaw_1 23 rfl rfl
theorem dX1_byLaw_0 : decode cX1_byLaw 0 = .ok (.aload_n 0, 1) := dk_42 (dk_at dksX1_byLaw_0 0 rfl rfl)
theorem dX1_byLaw_1 : decode cX1_byLaw 1 = .ok (.iload_n 1, 1) := dk_27 (dk_at dksX1_byLaw_0 1 rfl rfl)
theorem dX1_byLaw_2 : decode cX1_byLaw 2 = .ok (.invokevirtual 153, 3) := dk_182 0 153 (dk_at dksX1_byLaw_0 2 rfl rfl)
theorem dX1_byLaw_5 : decode cX1_byLaw 5 = .ok (.ifCond .eq 12, 3) := dk_153 0 12 (dk_at dksX1_byLaw_0 5 rfl rfl)
theorem dX1_byLaw_8 : decode cX1_byLaw 8 = .ok (.iload_n 2, 1) := dk_28 (dk_at dksX1_byLaw_0 8 rfl rfl)
theorem dX1_byLaw_9 : decode cX1_byLaw 9 = .ok (.iconst 0, 1) := dk_3 (dk_at dksX1_byLaw_0 9 rfl rfl)
theorem dX1_byLaw_10 : decode cX1_byLaw 10 = .ok (.iconst 2, 1) := dk_5 (dk_at dksX1_byLaw_0 10 rfl rfl)
theorem dX1_byLaw_11 : decode cX1_byLaw 11 = .ok (.invokestatic 3, 3) := dk_184 0 3 (dk_at dksX1_byLaw_0 11 rfl rfl)
theorem dX1_byLaw_14 : decode cX1_byLaw 14 = .ok (.ifCond .ne 5, 3) := dk_154 0 5 (dk_at dksX1_byLaw_0 14 rfl rfl)
theorem dX1_byLaw_17 : decode cX1_byLaw 17 = .ok (.iconst (-1), 1) := dk_2 (dk_at dksX1_byLaw_0 17 rfl rfl)
theorem dX1_byLaw_18 : decode cX1_byLaw 18 = .ok (.ireturn, 1) := dk_172 (dk_at dksX1_byLaw_0 18 rfl rfl)
theorem dX1_byLaw_19 : decode cX1_byLaw 19 = .ok (.aload_n 0, 1) := dk_42 (dk_at dksX1_byLaw_0 19 rfl rfl)
theorem dX1_byLaw_20 : decode cX1_byLaw 20 = .ok (.getfield 34, 3) := dk_180 0 34 (dk_at dksX1_byLaw_0 20 rfl rfl)
theorem dX1_byLaw_23 : decode cX1_byLaw 23 = .ok (.getfield 61, 3) := dk_180 0 61 (dk_at dksX1_byLaw_1 0 rfl rfl)
theorem dX1_byLaw_26 : decode cX1_byLaw 26 = .ok (.iload_n 1, 1) := dk_27 (dk_at dksX1_byLaw_1 3 rfl rfl)
theorem dX1_byLaw_27 : decode cX1_byLaw 27 = .ok (.aaload, 1) := dk_50 (dk_at dksX1_byLaw_1 4 rfl rfl)
theorem dX1_byLaw_28 : decode cX1_byLaw 28 = .ok (.astore_n 3, 1) := dk_78 (dk_at dksX1_byLaw_1 5 rfl rfl)
theorem dX1_byLaw_29 : decode cX1_byLaw 29 = .ok (.aload_n 0, 1) := dk_42 (dk_at dksX1_byLaw_1 6 rfl rfl)
theorem dX1_byLaw_30 : decode cX1_byLaw 30 = .ok (.getfield 176, 3) := dk_180 0 176 (dk_at dksX1_byLaw_1 7 rfl rfl)
theorem dX1_byLaw_33 : decode cX1_byLaw 33 = .ok (.aload_n 0, 1) := dk_42 (dk_at dksX1_byLaw_1 10 rfl rfl)
theorem dX1_byLaw_34 : decode cX1_byLaw 34 = .ok (.getfield 34, 3) := dk_180 0 34 (dk_at dksX1_byLaw_1 11 rfl rfl)
theorem dX1_byLaw_37 : decode cX1_byLaw 37 = .ok (.aload_n 3, 1) := dk_45 (dk_at dksX1_byLaw_1 14 rfl rfl)
theorem dX1_byLaw_38 : decode cX1_byLaw 38 = .ok (.aload_n 3, 1) := dk_45 (dk_at dksX1_byLaw_1 15 rfl rfl)
theorem dX1_byLaw_39 : decode cX1_byLaw 39 = .ok (.getfield 168, 3) := dk_180 0 168 (dk_at dksX1_byLaw_1 16 rfl rfl)
theorem dX1_byLaw_42 : decode cX1_byLaw 42 = .ok (.iload_n 2, 1) := dk_28 (dk_at dksX1_byLaw_1 19 rfl rfl)
theorem dX1_byLaw_43 : decode cX1_byLaw 43 = .ok (.invokevirtual 180, 3) := dk_182 0 180 (dk_at dksX1_byLaw_1 20 rfl rfl)
theorem dX1_byLaw_46 : decode cX1_byLaw 46 = .ok (.invokevirtual 190, 3) := dk_182 0 190 (dk_at dksX1_byLaw_2 0 rfl rfl)
theorem dX1_byLaw_49 : decode cX1_byLaw 49 = .ok (.ireturn, 1) := dk_172 (dk_at dksX1_byLaw_2 3 rfl rfl)
abbrev cX1_sum : ByteArray := prog_1_method_43_code
def yX1_sum : MethodName := ⟨RX1, "sum", "()I"⟩
def dkwX1_sum_1 : List UInt8 := [28, 50, 182, 0, 186, 182, 0, 190, 96, 60, 132, 2, 1, 167, 255, 223, 27, 172]
abbrev dktX1_sum_1 : List UInt8 := dkwX1_sum_1 ++ []
def dkwX1_sum_0 : List UInt8 := [3, 60, 3, 61, 28, 42, 180, 0, 34, 180, 0, 58, 162, 0, 28, 27, 42, 42, 180, 0, 34, 180, 0, 61]
abbrev dktX1_sum_0 : List UInt8 := dkwX1_sum_0 ++ dktX1_sum_1
theorem dksX1_sum_0 : cX1_sum.data.toList.drop 0 = dktX1_sum_0 := by decide +kernel
theorem dksX1_sum_1 : cX1_sum.data.toList.drop 24 = dktX1_sum_1 := dk_seg dksX1_sum_0 24 rfl rfl
theorem dX1_sum_0 : decode cX1_sum 0 = .ok (.iconst 0, 1) := dk_3 (dk_at dksX1_sum_0 0 rfl rfl)
theorem dX1_sum_1 : decode cX1_sum 1 = .ok (.istore_n 1, 1) := dk_60 (dk_at dksX1_sum_0 1 rfl rfl)
theorem dX1_sum_2 : decode cX1_sum 2 = .ok (.iconst 0, 1) := dk_3 (dk_at dksX1_sum_0 2 rfl rfl)
theorem dX1_sum_3 : decode cX1_sum 3 = .ok (.istore_n 2, 1) := dk_61 (dk_at dksX1_sum_0 3 rfl rfl)
theorem dX1_sum_4 : decode cX1_sum 4 = .ok (.iload_n 2, 1) := dk_28 (dk_at dksX1_sum_0 4 rfl rfl)
theorem dX1_sum_5 : decode cX1_sum 5 = .ok (.aload_n 0, 1) := dk_42 (dk_at dksX1_sum_0 5 rfl rfl)
theorem dX1_sum_6 : decode cX1_sum 6 = .ok (.getfield 34, 3) := dk_180 0 34 (dk_at dksX1_sum_0 6 rfl rfl)
theorem dX1_sum_9 : decode cX1_sum 9 = .ok (.getfield 58, 3) := dk_180 0 58 (dk_at dksX1_sum_0 9 rfl rfl)
theorem dX1_sum_12 : decode cX1_sum 12 = .ok (.if_icmp .ge 28, 3) := dk_162 0 28 (dk_at dksX1_sum_0 12 rfl rfl)
theorem dX1_sum_15 : decode cX1_sum 15 = .ok (.iload_n 1, 1) := dk_27 (dk_at dksX1_sum_0 15 rfl rfl)
theorem dX1_sum_16 : decode cX1_sum 16 = .ok (.aload_n 0, 1) := dk_42 (dk_at dksX1_sum_0 16 rfl rfl)
theorem dX1_sum_17 : decode cX1_sum 17 = .ok (.aload_n 0, 1) := dk_42 (dk_at dksX1_sum_0 17 rfl rfl)
theorem dX1_sum_18 : decode cX1_sum 18 = .ok (.getfield 34, 3) := dk_180 0 34 (dk_at dksX1_sum_0 18 rfl rfl)
theorem dX1_sum_21 : decode cX1_sum 21 = .ok (.getfield 61, 3) := dk_180 0 61 (dk_at dksX1_sum_0 21 rfl rfl)
theorem dX1_sum_24 : decode cX1_sum 24 = .ok (.iload_n 2, 1) := dk_28 (dk_at dksX1_sum_1 0 rfl rfl)
theorem dX1_sum_25 : decode cX1_sum 25 = .ok (.aaload, 1) := dk_50 (dk_at dksX1_sum_1 1 rfl rfl)
theorem dX1_sum_26 : decode cX1_sum 26 = .ok (.invokevirtual 186, 3) := dk_182 0 186 (dk_at dksX1_sum_1 2 rfl rfl)
theorem dX1_sum_29 : decode cX1_sum 29 = .ok (.invokevirtual 190, 3) := dk_182 0 190 (dk_at dksX1_sum_1 5 rfl rfl)
theorem dX1_sum_32 : decode cX1_sum 32 = .ok (.iadd, 1) := dk_96 (dk_at dksX1_sum_1 8 rfl rfl)
theorem dX1_sum_33 : decode cX1_sum 33 = .ok (.istore_n 1, 1) := dk_60 (dk_at dksX1_sum_1 9 rfl rfl)
theorem dX1_sum_34 : decode cX1_sum 34 = .ok (.iinc 2 1, 3) := dk_132 2 1 (dk_at dksX1_sum_1 10 rfl rfl)
theorem dX1_sum_37 : decode cX1_sum 37 = .ok (.goto (-33), 3) := dk_167 255 223 (dk_at dksX1_sum_1 13 rfl rfl)
theorem dX1_sum_40 : decode cX1_sum 40 = .ok (.iload_n 1, 1) := dk_27 (dk_at dksX1_sum_1 16 rfl rfl)
theorem dX1_sum_41 : decode cX1_sum 41 = .ok (.ireturn, 1) := dk_172 (dk_at dksX1_sum_1 17 rfl rfl)
abbrev cX1_order : ByteArray := prog_1_method_44_code
def yX1_order : MethodName := ⟨RX1, "order", "()I"⟩
def dkwX1_order_6 : List UInt8 := [28, 172]
abbrev dktX1_order_6 : List UInt8 := dkwX1_order_6 ++ []
def dkwX1_order_5 : List UInt8 := [167, 255, 210, 29, 4, 21, 5, 120, 128, 62, 16, 10, 28, 104, 21, 5, 96, 61, 132, 4, 1, 167, 255, 170]
abbrev dktX1_order_5 : List UInt8 := dkwX1_order_5 ++ dktX1_order_6
def dkwX1_order_4 : List UInt8 := [16, 252, 159, 0, 14, 43, 21, 6, 46, 43, 21, 5, 46, 161, 0, 7, 21, 6, 54, 5, 132, 6, 1]
abbrev dktX1_order_4 : List UInt8 := dkwX1_order_4 ++ dktX1_order_5
def dkwX1_order_3 : List UInt8 := [21, 6, 42, 180, 0, 34, 180, 0, 58, 162, 0, 40, 29, 21, 6, 122, 4, 126, 154, 0, 25, 21, 5]
abbrev dktX1_order_3 : List UInt8 := dkwX1_order_3 ++ dktX1_order_4
def dkwX1_order_2 : List UInt8 := [62, 3, 54, 4, 21, 4, 42, 180, 0, 34, 180, 0, 58, 162, 0, 80, 16, 252, 54, 5, 3, 54, 6]
abbrev dktX1_order_2 : List UInt8 := dkwX1_order_2 ++ dktX1_order_3
def dkwX1_order_1 : List UInt8 := [180, 0, 34, 180, 0, 61, 28, 50, 182, 0, 186, 182, 0, 190, 79, 132, 2, 1, 167, 255, 223, 3, 61, 3]
abbrev dktX1_order_1 : List UInt8 := dkwX1_order_1 ++ dktX1_order_2
def dkwX1_order_0 : List UInt8 := [16, 6, 188, 10, 76, 3, 61, 28, 42, 180, 0, 34, 180, 0, 58, 162, 0, 28, 43, 28, 42, 42]
abbrev dktX1_order_0 : List UInt8 := dkwX1_order_0 ++ dktX1_order_1
theorem dksX1_order_0 : cX1_order.data.toList.drop 0 = dktX1_order_0 := by decide +kernel
theorem dksX1_order_1 : cX1_order.data.toList.drop 22 = dktX1_order_1 := dk_seg dksX1_order_0 22 rfl rfl
theorem dksX1_order_2 : cX1_order.data.toList.drop 46 = dktX1_order_2 := dk_seg dksX1_order_1 24 rfl rfl
theorem dksX1_order_3 : cX1_order.data.toList.drop 69 = dktX1_order_3 := dk_seg dksX1_order_2 23 rfl rfl
theorem dksX1_order_4 : cX1_order.data.toList.drop 92 = dktX1_order_4 := dk_seg dksX1_order_3 23 rfl rfl
theorem dksX1_order_5 : cX1_order.data.toList.drop 115 = dktX1_order_5 := dk_seg dksX1_order_4 23 rfl rfl
theorem dksX1_order_6 : cX1_order.data.toList.drop 139 = dktX1_order_6 := dk_seg dksX1_order_5 24 rfl rfl
theorem dX1_order_0 : decode cX1_order 0 = .ok (.bipush 6, 2) := dk_16 6 (dk_at dksX1_order_0 0 rfl rfl)
theorem dX1_order_2 : decode cX1_order 2 = .ok (.newarray .int, 2) := dk_188_10 (dk_at dksX1_order_0 2 rfl rfl)
theorem dX1_order_4 : decode cX1_order 4 = .ok (.astore_n 1, 1) := dk_76 (dk_at dksX1_order_0 4 rfl rfl)
theorem dX1_order_5 : decode cX1_order 5 = .ok (.iconst 0, 1) := dk_3 (dk_at dksX1_order_0 5 rfl rfl)
theorem dX1_order_6 : decode cX1_order 6 = .ok (.istore_n 2, 1) := dk_61 (dk_at dksX1_order_0 6 rfl rfl)
theorem dX1_order_7 : decode cX1_order 7 = .ok (.iload_n 2, 1) := dk_28 (dk_at dksX1_order_0 7 rfl rfl)
theorem dX1_order_8 : decode cX1_order 8 = .ok (.aload_n 0, 1) := dk_42 (dk_at dksX1_order_0 8 rfl rfl)
theorem dX1_order_9 : decode cX1_order 9 = .ok (.getfield 34, 3) := dk_180 0 34 (dk_at dksX1_order_0 9 rfl rfl)
theorem dX1_order_12 : decode cX1_order 12 = .ok (.getfield 58, 3) := dk_180 0 58 (dk_at dksX1_order_0 12 rfl rfl)
theorem dX1_order_15 : decode cX1_order 15 = .ok (.if_icmp .ge 28, 3) := dk_162 0 28 (dk_at dksX1_order_0 15 rfl rfl)
theorem dX1_order_18 : decode cX1_order 18 = .ok (.aload_n 1, 1) := dk_43 (dk_at dksX1_order_0 18 rfl rfl)
theorem dX1_order_19 : decode cX1_order 19 = .ok (.iload_n 2, 1) := dk_28 (dk_at dksX1_order_0 19 rfl rfl)
theorem dX1_order_20 : decode cX1_order 20 = .ok (.aload_n 0, 1) := dk_42 (dk_at dksX1_order_0 20 rfl rfl)
theorem dX1_order_21 : decode cX1_order 21 = .ok (.aload_n 0, 1) := dk_42 (dk_at dksX1_order_0 21 rfl rfl)
theorem dX1_order_22 : decode cX1_order 22 = .ok (.getfield 34, 3) := dk_180 0 34 (dk_at dksX1_order_1 0 rfl rfl)
theorem dX1_order_25 : decode cX1_order 25 = .ok (.getfield 61, 3) := dk_180 0 61 (dk_at dksX1_order_1 3 rfl rfl)
theorem dX1_order_28 : decode cX1_order 28 = .ok (.iload_n 2, 1) := dk_28 (dk_at dksX1_order_1 6 rfl rfl)
theorem dX1_order_29 : decode cX1_order 29 = .ok (.aaload, 1) := dk_50 (dk_at dksX1_order_1 7 rfl rfl)
theorem dX1_order_30 : decode cX1_order 30 = .ok (.invokevirtual 186, 3) := dk_182 0 186 (dk_at dksX1_order_1 8 rfl rfl)
theorem dX1_order_33 : decode cX1_order 33 = .ok (.invokevirtual 190, 3) := dk_182 0 190 (dk_at dksX1_order_1 11 rfl rfl)
theorem dX1_order_36 : decode cX1_order 36 = .ok (.iastore, 1) := dk_79 (dk_at dksX1_order_1 14 rfl rfl)
theorem dX1_order_37 : decode cX1_order 37 = .ok (.iinc 2 1, 3) := dk_132 2 1 (dk_at dksX1_order_1 15 rfl rfl)
theorem dX1_order_40 : decode cX1_order 40 = .ok (.goto (-33), 3) := dk_167 255 223 (dk_at dksX1_order_1 18 rfl rfl)
theorem dX1_order_43 : decode cX1_order 43 = .ok (.iconst 0, 1) := dk_3 (dk_at dksX1_order_1 21 rfl rfl)
theorem dX1_order_44 : decode cX1_order 44 = .ok (.istore_n 2, 1) := dk_61 (dk_at dksX1_order_1 22 rfl rfl)
theorem dX1_order_45 : decode cX1_order 45 = .ok (.iconst 0, 1) := dk_3 (dk_at dksX1_order_1 23 rfl rfl)
theorem dX1_order_46 : decode cX1_order 46 = .ok (.istore_n 3, 1) := dk_62 (dk_at dksX1_order_2 0 rfl rfl)
theorem dX1_order_47 : decode cX1_order 47 = .ok (.iconst 0, 1) := dk_3 (dk_at dksX1_order_2 1 rfl rfl)
theorem dX1_order_48 : decode cX1_order 48 = .ok (.istore 4, 2) := dk_54 4 (dk_at dksX1_order_2 2 rfl rfl)
theorem dX1_order_50 : decode cX1_order 50 = .ok (.iload 4, 2) := dk_21 4 (dk_at dksX1_order_2 4 rfl rfl)
theorem dX1_order_52 : decode cX1_order 52 = .ok (.aload_n 0, 1) := dk_42 (dk_at dksX1_order_2 6 rfl rfl)
theorem dX1_order_53 : decode cX1_order 53 = .ok (.getfield 34, 3) := dk_180 0 34 (dk_at dksX1_order_2 7 rfl rfl)
theorem dX1_order_56 : decode cX1_order 56 = .ok (.getfield 58, 3) := dk_180 0 58 (dk_at dksX1_order_2 10 rfl rfl)
theorem dX1_order_59 : decode cX1_order 59 = .ok (.if_icmp .ge 80, 3) := dk_162 0 80 (dk_at dksX1_order_2 13 rfl rfl)
theorem dX1_order_62 : decode cX1_order 62 = .ok (.bipush (-4), 2) := dk_16 252 (dk_at dksX1_order_2 16 rfl rfl)
theorem dX1_order_64 : decode cX1_order 64 = .ok (.istore 5, 2) := dk_54 5 (dk_at dksX1_order_2 18 rfl rfl)
theorem dX1_order_66 : decode cX1_order 66 = .ok (.iconst 0, 1) := dk_3 (dk_at dksX1_order_2 20 rfl rfl)
theorem dX1_order_67 : decode cX1_order 67 = .ok (.istore 6, 2) := dk_54 6 (dk_at dksX1_order_2 21 rfl rfl)
theorem dX1_order_69 : decode cX1_order 69 = .ok (.iload 6, 2) := dk_21 6 (dk_at dksX1_order_3 0 rfl rfl)
theorem dX1_order_71 : decode cX1_order 71 = .ok (.aload_n 0, 1) := dk_42 (dk_at dksX1_order_3 2 rfl rfl)
theorem dX1_order_72 : decode cX1_order 72 = .ok (.getfield 34, 3) := dk_180 0 34 (dk_at dksX1_order_3 3 rfl rfl)
theorem dX1_order_75 : decode cX1_order 75 = .ok (.getfield 58, 3) := dk_180 0 58 (dk_at dksX1_order_3 6 rfl rfl)
theorem dX1_order_78 : decode cX1_order 78 = .ok (.if_icmp .ge 40, 3) := dk_162 0 40 (dk_at dksX1_order_3 9 rfl rfl)
theorem dX1_order_81 : decode cX1_order 81 = .ok (.iload_n 3, 1) := dk_29 (dk_at dksX1_order_3 12 rfl rfl)
theorem dX1_order_82 : decode cX1_order 82 = .ok (.iload 6, 2) := dk_21 6 (dk_at dksX1_order_3 13 rfl rfl)
theorem dX1_order_84 : decode cX1_order 84 = .ok (.ishr, 1) := dk_122 (dk_at dksX1_order_3 15 rfl rfl)
theorem dX1_order_85 : decode cX1_order 85 = .ok (.iconst 1, 1) := dk_4 (dk_at dksX1_order_3 16 rfl rfl)
theorem dX1_order_86 : decode cX1_order 86 = .ok (.iand, 1) := dk_126 (dk_at dksX1_order_3 17 rfl rfl)
theorem dX1_order_87 : decode cX1_order 87 = .ok (.ifCond .ne 25, 3) := dk_154 0 25 (dk_at dksX1_order_3 18 rfl rfl)
theorem dX1_order_90 : decode cX1_order 90 = .ok (.iload 5, 2) := dk_21 5 (dk_at dksX1_order_3 21 rfl rfl)
theorem dX1_order_92 : decode cX1_order 92 = .ok (.bipush (-4), 2) := dk_16 252 (dk_at dksX1_order_4 0 rfl rfl)
theorem dX1_order_94 : decode cX1_order 94 = .ok (.if_icmp .eq 14, 3) := dk_159 0 14 (dk_at dksX1_order_4 2 rfl rfl)
theorem dX1_order_97 : decode cX1_order 97 = .ok (.aload_n 1, 1) := dk_43 (dk_at dksX1_order_4 5 rfl rfl)
theorem dX1_order_98 : decode cX1_order 98 = .ok (.iload 6, 2) := dk_21 6 (dk_at dksX1_order_4 6 rfl rfl)
theorem dX1_order_100 : decode cX1_order 100 = .ok (.iaload, 1) := dk_46 (dk_at dksX1_order_4 8 rfl rfl)
theorem dX1_order_101 : decode cX1_order 101 = .ok (.aload_n 1, 1) := dk_43 (dk_at dksX1_order_4 9 rfl rfl)
theorem dX1_order_102 : decode cX1_order 102 = .ok (.iload 5, 2) := dk_21 5 (dk_at dksX1_order_4 10 rfl rfl)
theorem dX1_order_104 : decode cX1_order 104 = .ok (.iaload, 1) := dk_46 (dk_at dksX1_order_4 12 rfl rfl)
theorem dX1_order_105 : decode cX1_order 105 = .ok (.if_icmp .lt 7, 3) := dk_161 0 7 (dk_at dksX1_order_4 13 rfl rfl)
theorem dX1_order_108 : decode cX1_order 108 = .ok (.iload 6, 2) := dk_21 6 (dk_at dksX1_order_4 16 rfl rfl)
theorem dX1_order_110 : decode cX1_order 110 = .ok (.istore 5, 2) := dk_54 5 (dk_at dksX1_order_4 18 rfl rfl)
theorem dX1_order_112 : decode cX1_order 112 = .ok (.iinc 6 1, 3) := dk_132 6 1 (dk_at dksX1_order_4 20 rfl rfl)
theorem dX1_order_115 : decode cX1_order 115 = .ok (.goto (-46), 3) := dk_167 255 210 (dk_at dksX1_order_5 0 rfl rfl)
theorem dX1_order_118 : decode cX1_order 118 = .ok (.iload_n 3, 1) := dk_29 (dk_at dksX1_order_5 3 rfl rfl)
theorem dX1_order_119 : decode cX1_order 119 = .ok (.iconst 1, 1) := dk_4 (dk_at dksX1_order_5 4 rfl rfl)
theorem dX1_order_120 : decode cX1_order 120 = .ok (.iload 5, 2) := dk_21 5 (dk_at dksX1_order_5 5 rfl rfl)
theorem dX1_order_122 : decode cX1_order 122 = .ok (.ishl, 1) := dk_120 (dk_at dksX1_order_5 7 rfl rfl)
theorem dX1_order_123 : decode cX1_order 123 = .ok (.ior, 1) := dk_128 (dk_at dksX1_order_5 8 rfl rfl)
theorem dX1_order_124 : decode cX1_order 124 = .ok (.istore_n 3, 1) := dk_62 (dk_at dksX1_order_5 9 rfl rfl)
theorem dX1_order_125 : decode cX1_order 125 = .ok (.bipush 10, 2) := dk_16 10 (dk_at dksX1_order_5 10 rfl rfl)
theorem dX1_order_127 : decode cX1_order 127 = .ok (.iload_n 2, 1) := dk_28 (dk_at dksX1_order_5 12 rfl rfl)
theorem dX1_order_128 : decode cX1_order 128 = .ok (.imul, 1) := dk_104 (dk_at dksX1_order_5 13 rfl rfl)
theorem dX1_order_129 : decode cX1_order 129 = .ok (.iload 5, 2) := dk_21 5 (dk_at dksX1_order_5 14 rfl rfl)
theorem dX1_order_131 : decode cX1_order 131 = .ok (.iadd, 1) := dk_96 (dk_at dksX1_order_5 16 rfl rfl)
theorem dX1_order_132 : decode cX1_order 132 = .ok (.istore_n 2, 1) := dk_61 (dk_at dksX1_order_5 17 rfl rfl)
theorem dX1_order_133 : decode cX1_order 133 = .ok (.iinc 4 1, 3) := dk_132 4 1 (dk_at dksX1_order_5 18 rfl rfl)
theorem dX1_order_136 : decode cX1_order 136 = .ok (.goto (-86), 3) := dk_167 255 170 (dk_at dksX1_order_5 21 rfl rfl)
theorem dX1_order_139 : decode cX1_order 139 = .ok (.iload_n 2, 1) := dk_28 (dk_at dksX1_order_6 0 rfl rfl)
theorem dX1_order_140 : decode cX1_order 140 = .ok (.ireturn, 1) := dk_172 (dk_at dksX1_order_6 1 rfl rfl)
abbrev cX1_seeded : ByteArray := prog_1_method_45_code
def yX1_seeded : MethodName := ⟨RX1, "seeded", "(IIII)I"⟩
def dkwX1_seeded_8 : List UInt8 := [21, 4, 4, 160, 0, 8, 21, 8, 167, 0, 5, 21, 9, 172]
abbrev dktX1_seeded_8 : List UInt8 := dkwX1_seeded_8 ++ []
def dkwX1_seeded_7 : List UInt8 := [4, 167, 0, 4, 3, 96, 54, 9, 132, 10, 1, 167, 255, 141, 21, 4, 154, 0, 8, 21, 7, 167, 0, 16]
abbrev dktX1_seeded_7 : List UInt8 := dkwX1_seeded_7 ++ dktX1_seeded_8
def dkwX1_seeded_6 : List UInt8 := [54, 7, 21, 8, 25, 12, 182, 0, 190, 184, 0, 237, 54, 8, 21, 9, 25, 12, 180, 0, 196, 158, 0, 7]
abbrev dktX1_seeded_6 : List UInt8 := dkwX1_seeded_6 ++ dktX1_seeded_7
def dkwX1_seeded_5 : List UInt8 := [184, 0, 237, 42, 180, 0, 34, 180, 0, 91, 182, 0, 180, 58, 12, 21, 7, 25, 12, 182, 0, 190, 96]
abbrev dktX1_seeded_5 : List UInt8 := dkwX1_seeded_5 ++ dktX1_seeded_6
def dkwX1_seeded_4 : List UInt8 := [100, 54, 11, 42, 180, 0, 176, 42, 180, 0, 34, 25, 5, 16, 236, 16, 20, 21, 11, 184, 0, 229]
abbrev dktX1_seeded_4 : List UInt8 := dkwX1_seeded_4 ++ dktX1_seeded_5
def dkwX1_seeded_3 : List UInt8 := [17, 48, 57, 96, 54, 6, 25, 5, 180, 0, 168, 21, 6, 18, 235, 126, 18, 236, 108, 16, 11, 112, 96, 8]
abbrev dktX1_seeded_3 : List UInt8 := dkwX1_seeded_3 ++ dktX1_seeded_4
def dkwX1_seeded_2 : List UInt8 := [54, 7, 3, 54, 8, 3, 54, 9, 3, 54, 10, 21, 10, 28, 162, 0, 115, 21, 6, 18, 234, 104]
abbrev dktX1_seeded_2 : List UInt8 := dkwX1_seeded_2 ++ dktX1_seeded_3
def dkwX1_seeded_1 : List UInt8 := [184, 0, 3, 154, 0, 5, 2, 172, 42, 180, 0, 34, 180, 0, 61, 27, 50, 58, 5, 29, 54, 6, 3]
abbrev dktX1_seeded_1 : List UInt8 := dkwX1_seeded_1 ++ dktX1_seeded_2
def dkwX1_seeded_0 : List UInt8 := [42, 27, 182, 0, 153, 153, 0, 23, 28, 4, 16, 20, 184, 0, 3, 153, 0, 13, 21, 4, 3, 5]
abbrev dktX1_seeded_0 : List UInt8 := dkwX1_seeded_0 ++ dktX1_seeded_1
theorem dksX1_seeded_0 : cX1_seeded.data.toList.drop 0 = dktX1_seeded_0 := by decide +kernel
theorem dksX1_seeded_1 : cX1_seeded.data.toList.drop 22 = dktX1_seeded_1 := dk_seg dksX1_seeded_0 22 rfl rfl
theorem dksX1_seeded_2 : cX1_seeded.data.toList.drop 45 = dktX1_seeded_2 := dk_seg dksX1_seeded_1 23 rfl rfl
theorem dksX1_seeded_3 : cX1_seeded.data.toList.drop 67 = dktX1_seeded_3 := dk_seg dksX1_seeded_2 22 rfl rfl
theorem dksX1_seeded_4 : cX1_seeded.data.toList.drop 91 = dktX1_seeded_4 := dk_seg dksX1_seeded_3 24 rfl rfl
theorem dksX1_seeded_5 : cX1_seeded.data.toList.drop 113 = dktX1_seeded_5 := dk_seg dksX1_seeded_4 22 rfl rfl
theorem dksX1_seeded_6 : cX1_seeded.data.toList.drop 136 = dktX1_seeded_6 := dk_seg dksX1_seeded_5 23 rfl rfl
theorem dksX1_seeded_7 : cX1_seeded.data.toList.drop 160 = dktX1_seeded_7 := dk_seg dksX1_seeded_6 24 rfl rfl
theorem dksX1_seeded_8 : cX1_seeded.data.toList.drop 184 = dktX1_seeded_8 := dk_seg dksX1_seeded_7 24 rfl rfl
theorem dX1_seeded_0 : decode cX1_seeded 0 = .ok (.aload_n 0, 1) := dk_42 (dk_at dksX1_seeded_0 0 rfl rfl)
theorem dX1_seeded_1 : decode cX1_seeded 1 = .ok (.iload_n 1, 1) := dk_27 (dk_at dksX1_seeded_0 1 rfl rfl)
theorem dX1_seeded_2 : decode cX1_seeded 2 = .ok (.invokevirtual 153, 3) := dk_182 0 153 (dk_at dksX1_seeded_0 2 rfl rfl)
theorem dX1_seeded_5 : decode cX1_seeded 5 = .ok (.ifCond .eq 23, 3) := dk_153 0 23 (dk_at dksX1_seeded_0 5 rfl rfl)
theorem dX1_seeded_8 : decode cX1_seeded 8 = .ok (.iload_n 2, 1) := dk_28 (dk_at dksX1_seeded_0 8 rfl rfl)
theorem dX1_seeded_9 : decode cX1_seeded 9 = .ok (.iconst 1, 1) := dk_4 (dk_at dksX1_seeded_0 9 rfl rfl)
theorem dX1_seeded_10 : decode cX1_seeded 10 = .ok (.bipush 20, 2) := dk_16 20 (dk_at dksX1_seeded_0 10 rfl rfl)
theorem dX1_seeded_12 : decode cX1_seeded 12 = .ok (.invokestatic 3, 3) := dk_184 0 3 (dk_at dksX1_seeded_0 12 rfl rfl)
theorem dX1_seeded_15 : decode cX1_seeded 15 = .ok (.ifCond .eq 13, 3) := dk_153 0 13 (dk_at dksX1_seeded_0 15 rfl rfl)
theorem dX1_seeded_18 : decode cX1_seeded 18 = .ok (.iload 4, 2) := dk_21 4 (dk_at dksX1_seeded_0 18 rfl rfl)
theorem dX1_seeded_20 : decode cX1_seeded 20 = .ok (.iconst 0, 1) := dk_3 (dk_at dksX1_seeded_0 20 rfl rfl)
theorem dX1_seeded_21 : decode cX1_seeded 21 = .ok (.iconst 2, 1) := dk_5 (dk_at dksX1_seeded_0 21 rfl rfl)
theorem dX1_seeded_22 : decode cX1_seeded 22 = .ok (.invokestatic 3, 3) := dk_184 0 3 (dk_at dksX1_seeded_1 0 rfl rfl)
theorem dX1_seeded_25 : decode cX1_seeded 25 = .ok (.ifCond .ne 5, 3) := dk_154 0 5 (dk_at dksX1_seeded_1 3 rfl rfl)
theorem dX1_seeded_28 : decode cX1_seeded 28 = .ok (.iconst (-1), 1) := dk_2 (dk_at dksX1_seeded_1 6 rfl rfl)
theorem dX1_seeded_29 : decode cX1_seeded 29 = .ok (.ireturn, 1) := dk_172 (dk_at dksX1_seeded_1 7 rfl rfl)
theorem dX1_seeded_30 : decode cX1_seeded 30 = .ok (.aload_n 0, 1) := dk_42 (dk_at dksX1_seeded_1 8 rfl rfl)
theorem dX1_seeded_31 : decode cX1_seeded 31 = .ok (.getfield 34, 3) := dk_180 0 34 (dk_at dksX1_seeded_1 9 rfl rfl)
theorem dX1_seeded_34 : decode cX1_seeded 34 = .ok (.getfield 61, 3) := dk_180 0 61 (dk_at dksX1_seeded_1 12 rfl rfl)
theorem dX1_seeded_37 : decode cX1_seeded 37 = .ok (.iload_n 1, 1) := dk_27 (dk_at dksX1_seeded_1 15 rfl rfl)
theorem dX1_seeded_38 : decode cX1_seeded 38 = .ok (.aaload, 1) := dk_50 (dk_at dksX1_seeded_1 16 rfl rfl)
theorem dX1_seeded_39 : decode cX1_seeded 39 = .ok (.astore 5, 2) := dk_58 5 (dk_at dksX1_seeded_1 17 rfl rfl)
theorem dX1_seeded_41 : decode cX1_seeded 41 = .ok (.iload_n 3, 1) := dk_29 (dk_at dksX1_seeded_1 19 rfl rfl)
theorem dX1_seeded_42 : decode cX1_seeded 42 = .ok (.istore 6, 2) := dk_54 6 (dk_at dksX1_seeded_1 20 rfl rfl)
theorem dX1_seeded_44 : decode cX1_seeded 44 = .ok (.iconst 0, 1) := dk_3 (dk_at dksX1_seeded_1 22 rfl rfl)
theorem dX1_seeded_45 : decode cX1_seeded 45 = .ok (.istore 7, 2) := dk_54 7 (dk_at dksX1_seeded_2 0 rfl rfl)
theorem dX1_seeded_47 : decode cX1_seeded 47 = .ok (.iconst 0, 1) := dk_3 (dk_at dksX1_seeded_2 2 rfl rfl)
theorem dX1_seeded_48 : decode cX1_seeded 48 = .ok (.istore 8, 2) := dk_54 8 (dk_at dksX1_seeded_2 3 rfl rfl)
theorem dX1_seeded_50 : decode cX1_seeded 50 = .ok (.iconst 0, 1) := dk_3 (dk_at dksX1_seeded_2 5 rfl rfl)
theorem dX1_seeded_51 : decode cX1_seeded 51 = .ok (.istore 9, 2) := dk_54 9 (dk_at dksX1_seeded_2 6 rfl rfl)
theorem dX1_seeded_53 : decode cX1_seeded 53 = .ok (.iconst 0, 1) := dk_3 (dk_at dksX1_seeded_2 8 rfl rfl)
theorem dX1_seeded_54 : decode cX1_seeded 54 = .ok (.istore 10, 2) := dk_54 10 (dk_at dksX1_seeded_2 9 rfl rfl)
theorem dX1_seeded_56 : decode cX1_seeded 56 = .ok (.iload 10, 2) := dk_21 10 (dk_at dksX1_seeded_2 11 rfl rfl)
theorem dX1_seeded_58 : decode cX1_seeded 58 = .ok (.iload_n 2, 1) := dk_28 (dk_at dksX1_seeded_2 13 rfl rfl)
theorem dX1_seeded_59 : decode cX1_seeded 59 = .ok (.if_icmp .ge 115, 3) := dk_162 0 115 (dk_at dksX1_seeded_2 14 rfl rfl)
theorem dX1_seeded_62 : decode cX1_seeded 62 = .ok (.iload 6, 2) := dk_21 6 (dk_at dksX1_seeded_2 17 rfl rfl)
theorem dX1_seeded_64 : decode cX1_seeded 64 = .ok (.ldc 234, 2) := dk_18 234 (dk_at dksX1_seeded_2 19 rfl rfl)
theorem dX1_seeded_66 : decode cX1_seeded 66 = .ok (.imul, 1) := dk_104 (dk_at dksX1_seeded_2 21 rfl rfl)
theorem dX1_seeded_67 : decode cX1_seeded 67 = .ok (.sipush 12345, 3) := dk_17 48 57 (dk_at dksX1_seeded_3 0 rfl rfl)
theorem dX1_seeded_70 : decode cX1_seeded 70 = .ok (.iadd, 1) := dk_96 (dk_at dksX1_seeded_3 3 rfl rfl)
theorem dX1_seeded_71 : decode cX1_seeded 71 = .ok (.istore 6, 2) := dk_54 6 (dk_at dksX1_seeded_3 4 rfl rfl)
theorem dX1_seeded_73 : decode cX1_seeded 73 = .ok (.aload 5, 2) := dk_25 5 (dk_at dksX1_seeded_3 6 rfl rfl)
theorem dX1_seeded_75 : decode cX1_seeded 75 = .ok (.getfield 168, 3) := dk_180 0 168 (dk_at dksX1_seeded_3 8 rfl rfl)
theorem dX1_seeded_78 : decode cX1_seeded 78 = .ok (.iload 6, 2) := dk_21 6 (dk_at dksX1_seeded_3 11 rfl rfl)
theorem dX1_seeded_80 : decode cX1_seeded 80 = .ok (.ldc 235, 2) := dk_18 235 (dk_at dksX1_seeded_3 13 rfl rfl)
theorem dX1_seeded_82 : decode cX1_seeded 82 = .ok (.iand, 1) := dk_126 (dk_at dksX1_seeded_3 15 rfl rfl)
theorem dX1_seeded_83 : decode cX1_seeded 83 = .ok (.ldc 236, 2) := dk_18 236 (dk_at dksX1_seeded_3 16 rfl rfl)
theorem dX1_seeded_85 : decode cX1_seeded 85 = .ok (.idiv, 1) := dk_108 (dk_at dksX1_seeded_3 18 rfl rfl)
theorem dX1_seeded_86 : decode cX1_seeded 86 = .ok (.bipush 11, 2) := dk_16 11 (dk_at dksX1_seeded_3 19 rfl rfl)
theorem dX1_seeded_88 : decode cX1_seeded 88 = .ok (.irem, 1) := dk_112 (dk_at dksX1_seeded_3 21 rfl rfl)
theorem dX1_seeded_89 : decode cX1_seeded 89 = .ok (.iadd, 1) := dk_96 (dk_at dksX1_seeded_3 22 rfl rfl)
theorem dX1_seeded_90 : decode cX1_seeded 90 = .ok (.iconst 5, 1) := dk_8 (dk_at dksX1_seeded_3 23 rfl rfl)
theorem dX1_seeded_91 : decode cX1_seeded 91 = .ok (.isub, 1) := dk_100 (dk_at dksX1_seeded_4 0 rfl rfl)
theorem dX1_seeded_92 : decode cX1_seeded 92 = .ok (.istore 11, 2) := dk_54 11 (dk_at dksX1_seeded_4 1 rfl rfl)
theorem dX1_seeded_94 : decode cX1_seeded 94 = .ok (.aload_n 0, 1) := dk_42 (dk_at dksX1_seeded_4 3 rfl rfl)
theorem dX1_seeded_95 : decode cX1_seeded 95 = .ok (.getfield 176, 3) := dk_180 0 176 (dk_at dksX1_seeded_4 4 rfl rfl)
theorem dX1_seeded_98 : decode cX1_seeded 98 = .ok (.aload_n 0, 1) := dk_42 (dk_at dksX1_seeded_4 7 rfl rfl)
theorem dX1_seeded_99 : decode cX1_seeded 99 = .ok (.getfield 34, 3) := dk_180 0 34 (dk_at dksX1_seeded_4 8 rfl rfl)
theorem dX1_seeded_102 : decode cX1_seeded 102 = .ok (.aload 5, 2) := dk_25 5 (dk_at dksX1_seeded_4 11 rfl rfl)
theorem dX1_seeded_104 : decode cX1_seeded 104 = .ok (.bipush (-20), 2) := dk_16 236 (dk_at dksX1_seeded_4 13 rfl rfl)
theorem dX1_seeded_106 : decode cX1_seeded 106 = .ok (.bipush 20, 2) := dk_16 20 (dk_at dksX1_seeded_4 15 rfl rfl)
theorem dX1_seeded_108 : decode cX1_seeded 108 = .ok (.iload 11, 2) := dk_21 11 (dk_at dksX1_seeded_4 17 rfl rfl)
theorem dX1_seeded_110 : decode cX1_seeded 110 = .ok (.invokestatic 229, 3) := dk_184 0 229 (dk_at dksX1_seeded_4 19 rfl rfl)
theorem dX1_seeded_113 : decode cX1_seeded 113 = .ok (.invokestatic 237, 3) := dk_184 0 237 (dk_at dksX1_seeded_5 0 rfl rfl)
theorem dX1_seeded_116 : decode cX1_seeded 116 = .ok (.aload_n 0, 1) := dk_42 (dk_at dksX1_seeded_5 3 rfl rfl)
theorem dX1_seeded_117 : decode cX1_seeded 117 = .ok (.getfield 34, 3) := dk_180 0 34 (dk_at dksX1_seeded_5 4 rfl rfl)
theorem dX1_seeded_120 : decode cX1_seeded 120 = .ok (.getfield 91, 3) := dk_180 0 91 (dk_at dksX1_seeded_5 7 rfl rfl)
theorem dX1_seeded_123 : decode cX1_seeded 123 = .ok (.invokevirtual 180, 3) := dk_182 0 180 (dk_at dksX1_seeded_5 10 rfl rfl)
theorem dX1_seeded_126 : decode cX1_seeded 126 = .ok (.astore 12, 2) := dk_58 12 (dk_at dksX1_seeded_5 13 rfl rfl)
theorem dX1_seeded_128 : decode cX1_seeded 128 = .ok (.iload 7, 2) := dk_21 7 (dk_at dksX1_seeded_5 15 rfl rfl)
theorem dX1_seeded_130 : decode cX1_seeded 130 = .ok (.aload 12, 2) := dk_25 12 (dk_at dksX1_seeded_5 17 rfl rfl)
theorem dX1_seeded_132 : decode cX1_seeded 132 = .ok (.invokevirtual 190, 3) := dk_182 0 190 (dk_at dksX1_seeded_5 19 rfl rfl)
theorem dX1_seeded_135 : decode cX1_seeded 135 = .ok (.iadd, 1) := dk_96 (dk_at dksX1_seeded_5 22 rfl rfl)
theorem dX1_seeded_136 : decode cX1_seeded 136 = .ok (.istore 7, 2) := dk_54 7 (dk_at dksX1_seeded_6 0 rfl rfl)
theorem dX1_seeded_138 : decode cX1_seeded 138 = .ok (.iload 8, 2) := dk_21 8 (dk_at dksX1_seeded_6 2 rfl rfl)
theorem dX1_seeded_140 : decode cX1_seeded 140 = .ok (.aload 12, 2) := dk_25 12 (dk_at dksX1_seeded_6 4 rfl rfl)
theorem dX1_seeded_142 : decode cX1_seeded 142 = .ok (.invokevirtual 190, 3) := dk_182 0 190 (dk_at dksX1_seeded_6 6 rfl rfl)
theorem dX1_seeded_145 : decode cX1_seeded 145 = .ok (.invokestatic 237, 3) := dk_184 0 237 (dk_at dksX1_seeded_6 9 rfl rfl)
theorem dX1_seeded_148 : decode cX1_seeded 148 = .ok (.istore 8, 2) := dk_54 8 (dk_at dksX1_seeded_6 12 rfl rfl)
theorem dX1_seeded_150 : decode cX1_seeded 150 = .ok (.iload 9, 2) := dk_21 9 (dk_at dksX1_seeded_6 14 rfl rfl)
theorem dX1_seeded_152 : decode cX1_seeded 152 = .ok (.aload 12, 2) := dk_25 12 (dk_at dksX1_seeded_6 16 rfl rfl)
theorem dX1_seeded_154 : decode cX1_seeded 154 = .ok (.getfield 196, 3) := dk_180 0 196 (dk_at dksX1_seeded_6 18 rfl rfl)
theorem dX1_seeded_157 : decode cX1_seeded 157 = .ok (.ifCond .le 7, 3) := dk_158 0 7 (dk_at dksX1_seeded_6 21 rfl rfl)
theorem dX1_seeded_160 : decode cX1_seeded 160 = .ok (.iconst 1, 1) := dk_4 (dk_at dksX1_seeded_7 0 rfl rfl)
theorem dX1_seeded_161 : decode cX1_seeded 161 = .ok (.goto 4, 3) := dk_167 0 4 (dk_at dksX1_seeded_7 1 rfl rfl)
theorem dX1_seeded_164 : decode cX1_seeded 164 = .ok (.iconst 0, 1) := dk_3 (dk_at dksX1_seeded_7 4 rfl rfl)
theorem dX1_seeded_165 : decode cX1_seeded 165 = .ok (.iadd, 1) := dk_96 (dk_at dksX1_seeded_7 5 rfl rfl)
theorem dX1_seeded_166 : decode cX1_seeded 166 = .ok (.istore 9, 2) := dk_54 9 (dk_at dksX1_seeded_7 6 rfl rfl)
theorem dX1_seeded_168 : decode cX1_seeded 168 = .ok (.iinc 10 1, 3) := dk_132 10 1 (dk_at dksX1_seeded_7 8 rfl rfl)
theorem dX1_seeded_171 : decode cX1_seeded 171 = .ok (.goto (-115), 3) := dk_167 255 141 (dk_at dksX1_seeded_7 11 rfl rfl)
theorem dX1_seeded_174 : decode cX1_seeded 174 = .ok (.iload 4, 2) := dk_21 4 (dk_at dksX1_seeded_7 14 rfl rfl)
theorem dX1_seeded_176 : decode cX1_seeded 176 = .ok (.ifCond .ne 8, 3) := dk_154 0 8 (dk_at dksX1_seeded_7 16 rfl rfl)
theorem dX1_seeded_179 : decode cX1_seeded 179 = .ok (.iload 7, 2) := dk_21 7 (dk_at dksX1_seeded_7 19 rfl rfl)
theorem dX1_seeded_181 : decode cX1_seeded 181 = .ok (.goto 16, 3) := dk_167 0 16 (dk_at dksX1_seeded_7 21 rfl rfl)
theorem dX1_seeded_184 : decode cX1_seeded 184 = .ok (.iload 4, 2) := dk_21 4 (dk_at dksX1_seeded_8 0 rfl rfl)
theorem dX1_seeded_186 : decode cX1_seeded 186 = .ok (.iconst 1, 1) := dk_4 (dk_at dksX1_seeded_8 2 rfl rfl)
theorem dX1_seeded_187 : decode cX1_seeded 187 = .ok (.if_icmp .ne 8, 3) := dk_160 0 8 (dk_at dksX1_seeded_8 3 rfl rfl)
theorem dX1_seeded_190 : decode cX1_seeded 190 = .ok (.iload 8, 2) := dk_21 8 (dk_at dksX1_seeded_8 6 rfl rfl)
theorem dX1_seeded_192 : decode cX1_seeded 192 = .ok (.goto 5, 3) := dk_167 0 5 (dk_at dksX1_seeded_8 8 rfl rfl)
theorem dX1_seeded_195 : decode cX1_seeded 195 = .ok (.iload 9, 2) := dk_21 9 (dk_at dksX1_seeded_8 11 rfl rfl)
theorem dX1_seeded_197 : decode cX1_seeded 197 = .ok (.ireturn, 1) := dk_172 (dk_at dksX1_seeded_8 13 rfl rfl)
abbrev cX1_judge : ByteArray := prog_1_method_49_code
def yX1_judge : MethodName := ⟨RX1, "judge", "(II)I"⟩
def dkwX1_judge_6 : List UInt8 := [21, 5, 172]
abbrev dktX1_judge_6 : List UInt8 := dkwX1_judge_6 ++ []
def dkwX1_judge_5 : List UInt8 := [172, 132, 6, 1, 167, 255, 213, 45, 184, 0, 253, 25, 4, 180, 0, 193, 160, 0, 8, 16, 252, 167, 0, 5]
abbrev dktX1_judge_5 : List UInt8 := dkwX1_judge_5 ++ dktX1_judge_6
def dkwX1_judge_4 : List UInt8 := [21, 7, 45, 184, 1, 4, 159, 0, 19, 21, 7, 25, 4, 180, 0, 204, 21, 6, 46, 159, 0, 6, 21, 6]
abbrev dktX1_judge_4 : List UInt8 := dkwX1_judge_4 ++ dktX1_judge_5
def dkwX1_judge_3 : List UInt8 := [184, 0, 229, 54, 5, 3, 54, 6, 21, 6, 21, 5, 162, 0, 42, 45, 21, 6, 184, 1, 0, 54, 7]
abbrev dktX1_judge_3 : List UInt8 := dkwX1_judge_3 ++ dktX1_judge_4
def dkwX1_judge_2 : List UInt8 := [180, 0, 34, 180, 0, 61, 27, 50, 182, 0, 186, 58, 4, 45, 184, 0, 253, 25, 4, 180, 0, 193]
abbrev dktX1_judge_2 : List UInt8 := dkwX1_judge_2 ++ dktX1_judge_3
def dkwX1_judge_1 : List UInt8 := [180, 0, 104, 78, 45, 199, 0, 6, 16, 245, 172, 45, 184, 0, 249, 2, 160, 0, 6, 16, 244, 172, 42, 42]
abbrev dktX1_judge_1 : List UInt8 := dkwX1_judge_1 ++ dktX1_judge_2
def dkwX1_judge_0 : List UInt8 := [42, 27, 182, 0, 153, 153, 0, 10, 28, 184, 0, 97, 154, 0, 5, 2, 172, 42, 180, 0, 100, 28, 50]
abbrev dktX1_judge_0 : List UInt8 := dkwX1_judge_0 ++ dktX1_judge_1
theorem dksX1_judge_0 : cX1_judge.data.toList.drop 0 = dktX1_judge_0 := by decide +kernel
theorem dksX1_judge_1 : cX1_judge.data.toList.drop 23 = dktX1_judge_1 := dk_seg dksX1_judge_0 23 rfl rfl
theorem dksX1_judge_2 : cX1_judge.data.toList.drop 47 = dktX1_judge_2 := dk_seg dksX1_judge_1 24 rfl rfl
theorem dksX1_judge_3 : cX1_judge.data.toList.drop 69 = dktX1_judge_3 := dk_seg dksX1_judge_2 22 rfl rfl
theorem dksX1_judge_4 : cX1_judge.data.toList.drop 92 = dktX1_judge_4 := dk_seg dksX1_judge_3 23 rfl rfl
theorem dksX1_judge_5 : cX1_judge.data.toList.drop 116 = dktX1_judge_5 := dk_seg dksX1_judge_4 24 rfl rfl
theorem dksX1_judge_6 : cX1_judge.data.toList.drop 140 = dktX1_judge_6 := dk_seg dksX1_judge_5 24 rfl rfl
theorem dX1_judge_0 : decode cX1_judge 0 = .ok (.aload_n 0, 1) := dk_42 (dk_at dksX1_judge_0 0 rfl rfl)
theorem dX1_judge_1 : decode cX1_judge 1 = .ok (.iload_n 1, 1) := dk_27 (dk_at dksX1_judge_0 1 rfl rfl)
theorem dX1_judge_2 : decode cX1_judge 2 = .ok (.invokevirtual 153, 3) := dk_182 0 153 (dk_at dksX1_judge_0 2 rfl rfl)
theorem dX1_judge_5 : decode cX1_judge 5 = .ok (.ifCond .eq 10, 3) := dk_153 0 10 (dk_at dksX1_judge_0 5 rfl rfl)
theorem dX1_judge_8 : decode cX1_judge 8 = .ok (.iload_n 2, 1) := dk_28 (dk_at dksX1_judge_0 8 rfl rfl)
theorem dX1_judge_9 : decode cX1_judge 9 = .ok (.invokestatic 97, 3) := dk_184 0 97 (dk_at dksX1_judge_0 9 rfl rfl)
theorem dX1_judge_12 : decode cX1_judge 12 = .ok (.ifCond .ne 5, 3) := dk_154 0 5 (dk_at dksX1_judge_0 12 rfl rfl)
theorem dX1_judge_15 : decode cX1_judge 15 = .ok (.iconst (-1), 1) := dk_2 (dk_at dksX1_judge_0 15 rfl rfl)
theorem dX1_judge_16 : decode cX1_judge 16 = .ok (.ireturn, 1) := dk_172 (dk_at dksX1_judge_0 16 rfl rfl)
theorem dX1_judge_17 : decode cX1_judge 17 = .ok (.aload_n 0, 1) := dk_42 (dk_at dksX1_judge_0 17 rfl rfl)
theorem dX1_judge_18 : decode cX1_judge 18 = .ok (.getfield 100, 3) := dk_180 0 100 (dk_at dksX1_judge_0 18 rfl rfl)
theorem dX1_judge_21 : decode cX1_judge 21 = .ok (.iload_n 2, 1) := dk_28 (dk_at dksX1_judge_0 21 rfl rfl)
theorem dX1_judge_22 : decode cX1_judge 22 = .ok (.aaload, 1) := dk_50 (dk_at dksX1_judge_0 22 rfl rfl)
theorem dX1_judge_23 : decode cX1_judge 23 = .ok (.getfield 104, 3) := dk_180 0 104 (dk_at dksX1_judge_1 0 rfl rfl)
theorem dX1_judge_26 : decode cX1_judge 26 = .ok (.astore_n 3, 1) := dk_78 (dk_at dksX1_judge_1 3 rfl rfl)
theorem dX1_judge_27 : decode cX1_judge 27 = .ok (.aload_n 3, 1) := dk_45 (dk_at dksX1_judge_1 4 rfl rfl)
theorem dX1_judge_28 : decode cX1_judge 28 = .ok (.ifnonnull 6, 3) := dk_199 0 6 (dk_at dksX1_judge_1 5 rfl rfl)
theorem dX1_judge_31 : decode cX1_judge 31 = .ok (.bipush (-11), 2) := dk_16 245 (dk_at dksX1_judge_1 8 rfl rfl)
theorem dX1_judge_33 : decode cX1_judge 33 = .ok (.ireturn, 1) := dk_172 (dk_at dksX1_judge_1 10 rfl rfl)
theorem dX1_judge_34 : decode cX1_judge 34 = .ok (.aload_n 3, 1) := dk_45 (dk_at dksX1_judge_1 11 rfl rfl)
theorem dX1_judge_35 : decode cX1_judge 35 = .ok (.invokestatic 249, 3) := dk_184 0 249 (dk_at dksX1_judge_1 12 rfl rfl)
theorem dX1_judge_38 : decode cX1_judge 38 = .ok (.iconst (-1), 1) := dk_2 (dk_at dksX1_judge_1 15 rfl rfl)
theorem dX1_judge_39 : decode cX1_judge 39 = .ok (.if_icmp .ne 6, 3) := dk_160 0 6 (dk_at dksX1_judge_1 16 rfl rfl)
theorem dX1_judge_42 : decode cX1_judge 42 = .ok (.bipush (-12), 2) := dk_16 244 (dk_at dksX1_judge_1 19 rfl rfl)
theorem dX1_judge_44 : decode cX1_judge 44 = .ok (.ireturn, 1) := dk_172 (dk_at dksX1_judge_1 21 rfl rfl)
theorem dX1_judge_45 : decode cX1_judge 45 = .ok (.aload_n 0, 1) := dk_42 (dk_at dksX1_judge_1 22 rfl rfl)
theorem dX1_judge_46 : decode cX1_judge 46 = .ok (.aload_n 0, 1) := dk_42 (dk_at dksX1_judge_1 23 rfl rfl)
theorem dX1_judge_47 : decode cX1_judge 47 = .ok (.getfield 34, 3) := dk_180 0 34 (dk_at dksX1_judge_2 0 rfl rfl)
theorem dX1_judge_50 : decode cX1_judge 50 = .ok (.getfield 61, 3) := dk_180 0 61 (dk_at dksX1_judge_2 3 rfl rfl)
theorem dX1_judge_53 : decode cX1_judge 53 = .ok (.iload_n 1, 1) := dk_27 (dk_at dksX1_judge_2 6 rfl rfl)
theorem dX1_judge_54 : decode cX1_judge 54 = .ok (.aaload, 1) := dk_50 (dk_at dksX1_judge_2 7 rfl rfl)
theorem dX1_judge_55 : decode cX1_judge 55 = .ok (.invokevirtual 186, 3) := dk_182 0 186 (dk_at dksX1_judge_2 8 rfl rfl)
theorem dX1_judge_58 : decode cX1_judge 58 = .ok (.astore 4, 2) := dk_58 4 (dk_at dksX1_judge_2 11 rfl rfl)
theorem dX1_judge_60 : decode cX1_judge 60 = .ok (.aload_n 3, 1) := dk_45 (dk_at dksX1_judge_2 13 rfl rfl)
theorem dX1_judge_61 : decode cX1_judge 61 = .ok (.invokestatic 253, 3) := dk_184 0 253 (dk_at dksX1_judge_2 14 rfl rfl)
theorem dX1_judge_64 : decode cX1_judge 64 = .ok (.aload 4, 2) := dk_25 4 (dk_at dksX1_judge_2 17 rfl rfl)
theorem dX1_judge_66 : decode cX1_judge 66 = .ok (.getfield 193, 3) := dk_180 0 193 (dk_at dksX1_judge_2 19 rfl rfl)
theorem dX1_judge_69 : decode cX1_judge 69 = .ok (.invokestatic 229, 3) := dk_184 0 229 (dk_at dksX1_judge_3 0 rfl rfl)
theorem dX1_judge_72 : decode cX1_judge 72 = .ok (.istore 5, 2) := dk_54 5 (dk_at dksX1_judge_3 3 rfl rfl)
theorem dX1_judge_74 : decode cX1_judge 74 = .ok (.iconst 0, 1) := dk_3 (dk_at dksX1_judge_3 5 rfl rfl)
theorem dX1_judge_75 : decode cX1_judge 75 = .ok (.istore 6, 2) := dk_54 6 (dk_at dksX1_judge_3 6 rfl rfl)
theorem dX1_judge_77 : decode cX1_judge 77 = .ok (.iload 6, 2) := dk_21 6 (dk_at dksX1_judge_3 8 rfl rfl)
theorem dX1_judge_79 : decode cX1_judge 79 = .ok (.iload 5, 2) := dk_21 5 (dk_at dksX1_judge_3 10 rfl rfl)
theorem dX1_judge_81 : decode cX1_judge 81 = .ok (.if_icmp .ge 42, 3) := dk_162 0 42 (dk_at dksX1_judge_3 12 rfl rfl)
theorem dX1_judge_84 : decode cX1_judge 84 = .ok (.aload_n 3, 1) := dk_45 (dk_at dksX1_judge_3 15 rfl rfl)
theorem dX1_judge_85 : decode cX1_judge 85 = .ok (.iload 6, 2) := dk_21 6 (dk_at dksX1_judge_3 16 rfl rfl)
theorem dX1_judge_87 : decode cX1_judge 87 = .ok (.invokestatic 256, 3) := dk_184 1 0 (dk_at dksX1_judge_3 18 rfl rfl)
theorem dX1_judge_90 : decode cX1_judge 90 = .ok (.istore 7, 2) := dk_54 7 (dk_at dksX1_judge_3 21 rfl rfl)
theorem dX1_judge_92 : decode cX1_judge 92 = .ok (.iload 7, 2) := dk_21 7 (dk_at dksX1_judge_4 0 rfl rfl)
theorem dX1_judge_94 : decode cX1_judge 94 = .ok (.aload_n 3, 1) := dk_45 (dk_at dksX1_judge_4 2 rfl rfl)
theorem dX1_judge_95 : decode cX1_judge 95 = .ok (.invokestatic 260, 3) := dk_184 1 4 (dk_at dksX1_judge_4 3 rfl rfl)
theorem dX1_judge_98 : decode cX1_judge 98 = .ok (.if_icmp .eq 19, 3) := dk_159 0 19 (dk_at dksX1_judge_4 6 rfl rfl)
theorem dX1_judge_101 : decode cX1_judge 101 = .ok (.iload 7, 2) := dk_21 7 (dk_at dksX1_judge_4 9 rfl rfl)
theorem dX1_judge_103 : decode cX1_judge 103 = .ok (.aload 4, 2) := dk_25 4 (dk_at dksX1_judge_4 11 rfl rfl)
theorem dX1_judge_105 : decode cX1_judge 105 = .ok (.getfield 204, 3) := dk_180 0 204 (dk_at dksX1_judge_4 13 rfl rfl)
theorem dX1_judge_108 : decode cX1_judge 108 = .ok (.iload 6, 2) := dk_21 6 (dk_at dksX1_judge_4 16 rfl rfl)
theorem dX1_judge_110 : decode cX1_judge 110 = .ok (.iaload, 1) := dk_46 (dk_at dksX1_judge_4 18 rfl rfl)
theorem dX1_judge_111 : decode cX1_judge 111 = .ok (.if_icmp .eq 6, 3) := dk_159 0 6 (dk_at dksX1_judge_4 19 rfl rfl)
theorem dX1_judge_114 : decode cX1_judge 114 = .ok (.iload 6, 2) := dk_21 6 (dk_at dksX1_judge_4 22 rfl rfl)
theorem dX1_judge_116 : decode cX1_judge 116 = .ok (.ireturn, 1) := dk_172 (dk_at dksX1_judge_5 0 rfl rfl)
theorem dX1_judge_117 : decode cX1_judge 117 = .ok (.iinc 6 1, 3) := dk_132 6 1 (dk_at dksX1_judge_5 1 rfl rfl)
theorem dX1_judge_120 : decode cX1_judge 120 = .ok (.goto (-43), 3) := dk_167 255 213 (dk_at dksX1_judge_5 4 rfl rfl)
theorem dX1_judge_123 : decode cX1_judge 123 = .ok (.aload_n 3, 1) := dk_45 (dk_at dksX1_judge_5 7 rfl rfl)
theorem dX1_judge_124 : decode cX1_judge 124 = .ok (.invokestatic 253, 3) := dk_184 0 253 (dk_at dksX1_judge_5 8 rfl rfl)
theorem dX1_judge_127 : decode cX1_judge 127 = .ok (.aload 4, 2) := dk_25 4 (dk_at dksX1_judge_5 11 rfl rfl)
theorem dX1_judge_129 : decode cX1_judge 129 = .ok (.getfield 193, 3) := dk_180 0 193 (dk_at dksX1_judge_5 13 rfl rfl)
theorem dX1_judge_132 : decode cX1_judge 132 = .ok (.if_icmp .ne 8, 3) := dk_160 0 8 (dk_at dksX1_judge_5 16 rfl rfl)
theorem dX1_judge_135 : decode cX1_judge 135 = .ok (.bipush (-4), 2) := dk_16 252 (dk_at dksX1_judge_5 19 rfl rfl)
theorem dX1_judge_137 : decode cX1_judge 137 = .ok (.goto 5, 3) := dk_167 0 5 (dk_at dksX1_judge_5 21 rfl rfl)
theorem dX1_judge_140 : decode cX1_judge 140 = .ok (.iload 5, 2) := dk_21 5 (dk_at dksX1_judge_6 0 rfl rfl)
theorem dX1_judge_142 : decode cX1_judge 142 = .ok (.ireturn, 1) := dk_172 (dk_at dksX1_judge_6 2 rfl rfl)
abbrev cX1_sortOf : ByteArray := prog_1_method_58_code
def yX1_sortOf : MethodName := ⟨RX1, "sortOf", "(Ljava/lang/Object;)I"⟩
def dkwX1_sortOf_1 : List UInt8 := [193, 0, 214, 153, 0, 7, 5, 167, 0, 4, 2, 172]
abbrev dktX1_sortOf_1 : List UInt8 := dkwX1_sortOf_1 ++ []
def dkwX1_sortOf_0 : List UInt8 := [42, 193, 0, 110, 153, 0, 7, 3, 167, 0, 26, 42, 193, 0, 240, 153, 0, 7, 4, 167, 0, 15, 42]
abbrev dktX1_sortOf_0 : List UInt8 := dkwX1_sortOf_0 ++ dktX1_sortOf_1
theorem dksX1_sortOf_0 : cX1_sortOf.data.toList.drop 0 = dktX1_sortOf_0 := by decide +kernel
theorem dksX1_sortOf_1 : cX1_sortOf.data.toList.drop 23 = dktX1_sortOf_1 := dk_seg dksX1_sortOf_0 23 rfl rfl
theorem dX1_sortOf_0 : decode cX1_sortOf 0 = .ok (.aload_n 0, 1) := dk_42 (dk_at dksX1_sortOf_0 0 rfl rfl)
theorem dX1_sortOf_1 : decode cX1_sortOf 1 = .ok (.instanceof 110, 3) := dk_193 0 110 (dk_at dksX1_sortOf_0 1 rfl rfl)
theorem dX1_sortOf_4 : decode cX1_sortOf 4 = .ok (.ifCond .eq 7, 3) := dk_153 0 7 (dk_at dksX1_sortOf_0 4 rfl rfl)
theorem dX1_sortOf_7 : decode cX1_sortOf 7 = .ok (.iconst 0, 1) := dk_3 (dk_at dksX1_sortOf_0 7 rfl rfl)
theorem dX1_sortOf_8 : decode cX1_sortOf 8 = .ok (.goto 26, 3) := dk_167 0 26 (dk_at dksX1_sortOf_0 8 rfl rfl)
theorem dX1_sortOf_11 : decode cX1_sortOf 11 = .ok (.aload_n 0, 1) := dk_42 (dk_at dksX1_sortOf_0 11 rfl rfl)
theorem dX1_sortOf_12 : decode cX1_sortOf 12 = .ok (.instanceof 240, 3) := dk_193 0 240 (dk_at dksX1_sortOf_0 12 rfl rfl)
theorem dX1_sortOf_15 : decode cX1_sortOf 15 = .ok (.ifCond .eq 7, 3) := dk_153 0 7 (dk_at dksX1_sortOf_0 15 rfl rfl)
theorem dX1_sortOf_18 : decode cX1_sortOf 18 = .ok (.iconst 1, 1) := dk_4 (dk_at dksX1_sortOf_0 18 rfl rfl)
theorem dX1_sortOf_19 : decode cX1_sortOf 19 = .ok (.goto 15, 3) := dk_167 0 15 (dk_at dksX1_sortOf_0 19 rfl rfl)
theorem dX1_sortOf_22 : decode cX1_sortOf 22 = .ok (.aload_n 0, 1) := dk_42 (dk_at dksX1_sortOf_0 22 rfl rfl)
theorem dX1_sortOf_23 : decode cX1_sortOf 23 = .ok (.instanceof 214, 3) := dk_193 0 214 (dk_at dksX1_sortOf_1 0 rfl rfl)
theorem dX1_sortOf_26 : decode cX1_sortOf 26 = .ok (.ifCond .eq 7, 3) := dk_153 0 7 (dk_at dksX1_sortOf_1 3 rfl rfl)
theorem dX1_sortOf_29 : decode cX1_sortOf 29 = .ok (.iconst 2, 1) := dk_5 (dk_at dksX1_sortOf_1 6 rfl rfl)
theorem dX1_sortOf_30 : decode cX1_sortOf 30 = .ok (.goto 4, 3) := dk_167 0 4 (dk_at dksX1_sortOf_1 7 rfl rfl)
theorem dX1_sortOf_33 : decode cX1_sortOf 33 = .ok (.iconst (-1), 1) := dk_2 (dk_at dksX1_sortOf_1 10 rfl rfl)
theorem dX1_sortOf_34 : decode cX1_sortOf 34 = .ok (.ireturn, 1) := dk_172 (dk_at dksX1_sortOf_1 11 rfl rfl)
abbrev cX1_sizeOf : ByteArray := prog_1_method_46_code
def yX1_sizeOf : MethodName := ⟨RX1, "sizeOf", "(Ljava/lang/Object;)I"⟩
def dkwX1_sizeOf_1 : List UInt8 := [192, 0, 240, 190, 167, 0, 8, 42, 192, 0, 214, 190, 172]
abbrev dktX1_sizeOf_1 : List UInt8 := dkwX1_sizeOf_1 ++ []
def dkwX1_sizeOf_0 : List UInt8 := [42, 193, 0, 110, 153, 0, 11, 42, 192, 0, 110, 190, 167, 0, 23, 42, 193, 0, 240, 153, 0, 11, 42]
abbrev dktX1_sizeOf_0 : List UInt8 := dkwX1_sizeOf_0 ++ dktX1_sizeOf_1
theorem dksX1_sizeOf_0 : cX1_sizeOf.data.toList.drop 0 = dktX1_sizeOf_0 := by decide +kernel
theorem dksX1_sizeOf_1 : cX1_sizeOf.data.toList.drop 23 = dktX1_sizeOf_1 := dk_seg dksX1_sizeOf_0 23 rfl rfl
theorem dX1_sizeOf_0 : decode cX1_sizeOf 0 = .ok (.aload_n 0, 1) := dk_42 (dk_at dksX1_sizeOf_0 0 rfl rfl)
theorem dX1_sizeOf_1 : decode cX1_sizeOf 1 = .ok (.instanceof 110, 3) := dk_193 0 110 (dk_at dksX1_sizeOf_0 1 rfl rfl)
theorem dX1_sizeOf_4 : decode cX1_sizeOf 4 = .ok (.ifCond .eq 11, 3) := dk_153 0 11 (dk_at dksX1_sizeOf_0 4 rfl rfl)
theorem dX1_sizeOf_7 : decode cX1_sizeOf 7 = .ok (.aload_n 0, 1) := dk_42 (dk_at dksX1_sizeOf_0 7 rfl rfl)
theorem dX1_sizeOf_8 : decode cX1_sizeOf 8 = .ok (.checkcast 110, 3) := dk_192 0 110 (dk_at dksX1_sizeOf_0 8 rfl rfl)
theorem dX1_sizeOf_11 : decode cX1_sizeOf 11 = .ok (.arraylength, 1) := dk_190 (dk_at dksX1_sizeOf_0 11 rfl rfl)
theorem dX1_sizeOf_12 : decode cX1_sizeOf 12 = .ok (.goto 23, 3) := dk_167 0 23 (dk_at dksX1_sizeOf_0 12 rfl rfl)
theorem dX1_sizeOf_15 : decode cX1_sizeOf 15 = .ok (.aload_n 0, 1) := dk_42 (dk_at dksX1_sizeOf_0 15 rfl rfl)
theorem dX1_sizeOf_16 : decode cX1_sizeOf 16 = .ok (.instanceof 240, 3) := dk_193 0 240 (dk_at dksX1_sizeOf_0 16 rfl rfl)
theorem dX1_sizeOf_19 : decode cX1_sizeOf 19 = .ok (.ifCond .eq 11, 3) := dk_153 0 11 (dk_at dksX1_sizeOf_0 19 rfl rfl)
theorem dX1_sizeOf_22 : decode cX1_sizeOf 22 = .ok (.aload_n 0, 1) := dk_42 (dk_at dksX1_sizeOf_0 22 rfl rfl)
theorem dX1_sizeOf_23 : decode cX1_sizeOf 23 = .ok (.checkcast 240, 3) := dk_192 0 240 (dk_at dksX1_sizeOf_1 0 rfl rfl)
theorem dX1_sizeOf_26 : decode cX1_sizeOf 26 = .ok (.arraylength, 1) := dk_190 (dk_at dksX1_sizeOf_1 3 rfl rfl)
theorem dX1_sizeOf_27 : decode cX1_sizeOf 27 = .ok (.goto 8, 3) := dk_167 0 8 (dk_at dksX1_sizeOf_1 4 rfl rfl)
theorem dX1_sizeOf_30 : decode cX1_sizeOf 30 = .ok (.aload_n 0, 1) := dk_42 (dk_at dksX1_sizeOf_1 7 rfl rfl)
theorem dX1_sizeOf_31 : decode cX1_sizeOf 31 = .ok (.checkcast 214, 3) := dk_192 0 214 (dk_at dksX1_sizeOf_1 8 rfl rfl)
theorem dX1_sizeOf_34 : decode cX1_sizeOf 34 = .ok (.arraylength, 1) := dk_190 (dk_at dksX1_sizeOf_1 11 rfl rfl)
theorem dX1_sizeOf_35 : decode cX1_sizeOf 35 = .ok (.ireturn, 1) := dk_172 (dk_at dksX1_sizeOf_1 12 rfl rfl)
abbrev cX1_elementOf : ByteArray := prog_1_method_47_code
def yX1_elementOf : MethodName := ⟨RX1, "elementOf", "(Ljava/lang/Object;I)I"⟩
def dkwX1_elementOf_1 : List UInt8 := [192, 0, 240, 27, 53, 167, 0, 9, 42, 192, 0, 214, 27, 46, 172]
abbrev dktX1_elementOf_1 : List UInt8 := dkwX1_elementOf_1 ++ []
def dkwX1_elementOf_0 : List UInt8 := [42, 193, 0, 110, 153, 0, 12, 42, 192, 0, 110, 27, 51, 167, 0, 25, 42, 193, 0, 240, 153, 0, 12, 42]
abbrev dktX1_elementOf_0 : List UInt8 := dkwX1_elementOf_0 ++ dktX1_elementOf_1
theorem dksX1_elementOf_0 : cX1_elementOf.data.toList.drop 0 = dktX1_elementOf_0 := by decide +kernel
theorem dksX1_elementOf_1 : cX1_elementOf.data.toList.drop 24 = dktX1_elementOf_1 := dk_seg dksX1_elementOf_0 24 rfl rfl
theorem dX1_elementOf_0 : decode cX1_elementOf 0 = .ok (.aload_n 0, 1) := dk_42 (dk_at dksX1_elementOf_0 0 rfl rfl)
theorem dX1_elementOf_1 : decode cX1_elementOf 1 = .ok (.instanceof 110, 3) := dk_193 0 110 (dk_at dksX1_elementOf_0 1 rfl rfl)
theorem dX1_elementOf_4 : decode cX1_elementOf 4 = .ok (.ifCond .eq 12, 3) := dk_153 0 12 (dk_at dksX1_elementOf_0 4 rfl rfl)
theorem dX1_elementOf_7 : decode cX1_elementOf 7 = .ok (.aload_n 0, 1) := dk_42 (dk_at dksX1_elementOf_0 7 rfl rfl)
theorem dX1_elementOf_8 : decode cX1_elementOf 8 = .ok (.checkcast 110, 3) := dk_192 0 110 (dk_at dksX1_elementOf_0 8 rfl rfl)
theorem dX1_elementOf_11 : decode cX1_elementOf 11 = .ok (.iload_n 1, 1) := dk_27 (dk_at dksX1_elementOf_0 11 rfl rfl)
theorem dX1_elementOf_12 : decode cX1_elementOf 12 = .ok (.baload, 1) := dk_51 (dk_at dksX1_elementOf_0 12 rfl rfl)
theorem dX1_elementOf_13 : decode cX1_elementOf 13 = .ok (.goto 25, 3) := dk_167 0 25 (dk_at dksX1_elementOf_0 13 rfl rfl)
theorem dX1_elementOf_16 : decode cX1_elementOf 16 = .ok (.aload_n 0, 1) := dk_42 (dk_at dksX1_elementOf_0 16 rfl rfl)
theorem dX1_elementOf_17 : decode cX1_elementOf 17 = .ok (.instanceof 240, 3) := dk_193 0 240 (dk_at dksX1_elementOf_0 17 rfl rfl)
theorem dX1_elementOf_20 : decode cX1_elementOf 20 = .ok (.ifCond .eq 12, 3) := dk_153 0 12 (dk_at dksX1_elementOf_0 20 rfl rfl)
theorem dX1_elementOf_23 : decode cX1_elementOf 23 = .ok (.aload_n 0, 1) := dk_42 (dk_at dksX1_elementOf_0 23 rfl rfl)
theorem dX1_elementOf_24 : decode cX1_elementOf 24 = .ok (.checkcast 240, 3) := dk_192 0 240 (dk_at dksX1_elementOf_1 0 rfl rfl)
theorem dX1_elementOf_27 : decode cX1_elementOf 27 = .ok (.iload_n 1, 1) := dk_27 (dk_at dksX1_elementOf_1 3 rfl rfl)
theorem dX1_elementOf_28 : decode cX1_elementOf 28 = .ok (.saload, 1) := dk_53 (dk_at dksX1_elementOf_1 4 rfl rfl)
theorem dX1_elementOf_29 : decode cX1_elementOf 29 = .ok (.goto 9, 3) := dk_167 0 9 (dk_at dksX1_elementOf_1 5 rfl rfl)
theorem dX1_elementOf_32 : decode cX1_elementOf 32 = .ok (.aload_n 0, 1) := dk_42 (dk_at dksX1_elementOf_1 8 rfl rfl)
theorem dX1_elementOf_33 : decode cX1_elementOf 33 = .ok (.checkcast 214, 3) := dk_192 0 214 (dk_at dksX1_elementOf_1 9 rfl rfl)
theorem dX1_elementOf_36 : decode cX1_elementOf 36 = .ok (.iload_n 1, 1) := dk_27 (dk_at dksX1_elementOf_1 12 rfl rfl)
theorem dX1_elementOf_37 : decode cX1_elementOf 37 = .ok (.iaload, 1) := dk_46 (dk_at dksX1_elementOf_1 13 rfl rfl)
theorem dX1_elementOf_38 : decode cX1_elementOf 38 = .ok (.ireturn, 1) := dk_172 (dk_at dksX1_elementOf_1 14 rfl rfl)
abbrev cX1_leastOf : ByteArray := prog_1_method_48_code
def yX1_leastOf : MethodName := ⟨RX1, "leastOf", "(Ljava/lang/Object;)I"⟩
def dkwX1_leastOf_1 : List UInt8 := [167, 0, 5, 18, 248, 172]
abbrev dktX1_leastOf_1 : List UInt8 := dkwX1_leastOf_1 ++ []
def dkwX1_leastOf_0 : List UInt8 := [42, 193, 0, 110, 153, 0, 8, 16, 128, 167, 0, 18, 42, 193, 0, 240, 153, 0, 9, 17, 128, 0]
abbrev dktX1_leastOf_0 : List UInt8 := dkwX1_leastOf_0 ++ dktX1_leastOf_1
theorem dksX1_leastOf_0 : cX1_leastOf.data.toList.drop 0 = dktX1_leastOf_0 := by decide +kernel
theorem dksX1_leastOf_1 : cX1_leastOf.data.toList.drop 22 = dktX1_leastOf_1 := dk_seg dksX1_leastOf_0 22 rfl rfl
theorem dX1_leastOf_0 : decode cX1_leastOf 0 = .ok (.aload_n 0, 1) := dk_42 (dk_at dksX1_leastOf_0 0 rfl rfl)
theorem dX1_leastOf_1 : decode cX1_leastOf 1 = .ok (.instanceof 110, 3) := dk_193 0 110 (dk_at dksX1_leastOf_0 1 rfl rfl)
theorem dX1_leastOf_4 : decode cX1_leastOf 4 = .ok (.ifCond .eq 8, 3) := dk_153 0 8 (dk_at dksX1_leastOf_0 4 rfl rfl)
theorem dX1_leastOf_7 : decode cX1_leastOf 7 = .ok (.bipush (-128), 2) := dk_16 128 (dk_at dksX1_leastOf_0 7 rfl rfl)
theorem dX1_leastOf_9 : decode cX1_leastOf 9 = .ok (.goto 18, 3) := dk_167 0 18 (dk_at dksX1_leastOf_0 9 rfl rfl)
theorem dX1_leastOf_12 : decode cX1_leastOf 12 = .ok (.aload_n 0, 1) := dk_42 (dk_at dksX1_leastOf_0 12 rfl rfl)
theorem dX1_leastOf_13 : decode cX1_leastOf 13 = .ok (.instanceof 240, 3) := dk_193 0 240 (dk_at dksX1_leastOf_0 13 rfl rfl)
theorem dX1_leastOf_16 : decode cX1_leastOf 16 = .ok (.ifCond .eq 9, 3) := dk_153 0 9 (dk_at dksX1_leastOf_0 16 rfl rfl)
theorem dX1_leastOf_19 : decode cX1_leastOf 19 = .ok (.sipush (-32768), 3) := dk_17 128 0 (dk_at dksX1_leastOf_0 19 rfl rfl)
theorem dX1_leastOf_22 : decode cX1_leastOf 22 = .ok (.goto 5, 3) := dk_167 0 5 (dk_at dksX1_leastOf_1 0 rfl rfl)
theorem dX1_leastOf_25 : decode cX1_leastOf 25 = .ok (.ldc 248, 2) := dk_18 248 (dk_at dksX1_leastOf_1 3 rfl rfl)
theorem dX1_leastOf_27 : decode cX1_leastOf 27 = .ok (.ireturn, 1) := dk_172 (dk_at dksX1_leastOf_1 5 rfl rfl)
abbrev cX1_image : ByteArray := prog_1_method_50_code
def yX1_image : MethodName := ⟨RX1, "image", "()I"⟩
def dkwX1_image_0 : List UInt8 := [42, 180, 1, 7, 42, 180, 0, 34, 182, 0, 115, 42, 4, 181, 1, 10, 42, 180, 0, 34, 180, 0, 58, 172]
abbrev dktX1_image_0 : List UInt8 := dkwX1_image_0 ++ []
theorem dksX1_image_0 : cX1_image.data.toList.drop 0 = dktX1_image_0 := by decide +kernel
theorem dX1_image_0 : decode cX1_image 0 = .ok (.aload_n 0, 1) := dk_42 (dk_at dksX1_image_0 0 rfl rfl)
theorem dX1_image_1 : decode cX1_image 1 = .ok (.getfield 263, 3) := dk_180 1 7 (dk_at dksX1_image_0 1 rfl rfl)
theorem dX1_image_4 : decode cX1_image 4 = .ok (.aload_n 0, 1) := dk_42 (dk_at dksX1_image_0 4 rfl rfl)
theorem dX1_image_5 : decode cX1_image 5 = .ok (.getfield 34, 3) := dk_180 0 34 (dk_at dksX1_image_0 5 rfl rfl)
theorem dX1_image_8 : decode cX1_image 8 = .ok (.invokevirtual 115, 3) := dk_182 0 115 (dk_at dksX1_image_0 8 rfl rfl)
theorem dX1_image_11 : decode cX1_image 11 = .ok (.aload_n 0, 1) := dk_42 (dk_at dksX1_image_0 11 rfl rfl)
theorem dX1_image_12 : decode cX1_image 12 = .ok (.iconst 1, 1) := dk_4 (dk_at dksX1_image_0 12 rfl rfl)
theorem dX1_image_13 : decode cX1_image 13 = .ok (.putfield 266, 3) := dk_181 1 10 (dk_at dksX1_image_0 13 rfl rfl)
theorem dX1_image_16 : decode cX1_image 16 = .ok (.aload_n 0, 1) := dk_42 (dk_at dksX1_image_0 16 rfl rfl)
theorem dX1_image_17 : decode cX1_image 17 = .ok (.getfield 34, 3) := dk_180 0 34 (dk_at dksX1_image_0 17 rfl rfl)
theorem dX1_image_20 : decode cX1_image 20 = .ok (.getfield 58, 3) := dk_180 0 58 (dk_at dksX1_image_0 20 rfl rfl)
theorem dX1_image_23 : decode cX1_image 23 = .ok (.ireturn, 1) := dk_172 (dk_at dksX1_image_0 23 rfl rfl)
abbrev cX1_restore : ByteArray := prog_1_method_51_code
def yX1_restore : MethodName := ⟨RX1, "restore", "()I"⟩
def dkwX1_restore_1 : List UInt8 := [180, 0, 34, 180, 0, 58, 172]
abbrev dktX1_restore_1 : List UInt8 := dkwX1_restore_1 ++ []
def dkwX1_restore_0 : List UInt8 := [42, 180, 1, 10, 154, 0, 6, 16, 253, 172, 42, 180, 0, 34, 42, 180, 1, 7, 182, 0, 115, 42]
abbrev dktX1_restore_0 : List UInt8 := dkwX1_restore_0 ++ dktX1_restore_1
theorem dksX1_restore_0 : cX1_restore.data.toList.drop 0 = dktX1_restore_0 := by decide +kernel
theorem dksX1_restore_1 : cX1_restore.data.toList.drop 22 = dktX1_restore_1 := dk_seg dksX1_restore_0 22 rfl rfl
theorem dX1_restore_0 : decode cX1_restore 0 = .ok (.aload_n 0, 1) := dk_42 (dk_at dksX1_restore_0 0 rfl rfl)
theorem dX1_restore_1 : decode cX1_restore 1 = .ok (.getfield 266, 3) := dk_180 1 10 (dk_at dksX1_restore_0 1 rfl rfl)
theorem dX1_restore_4 : decode cX1_restore 4 = .ok (.ifCond .ne 6, 3) := dk_154 0 6 (dk_at dksX1_restore_0 4 rfl rfl)
theorem dX1_restore_7 : decode cX1_restore 7 = .ok (.bipush (-3), 2) := dk_16 253 (dk_at dksX1_restore_0 7 rfl rfl)
theorem dX1_restore_9 : decode cX1_restore 9 = .ok (.ireturn, 1) := dk_172 (dk_at dksX1_restore_0 9 rfl rfl)
theorem dX1_restore_10 : decode cX1_restore 10 = .ok (.aload_n 0, 1) := dk_42 (dk_at dksX1_restore_0 10 rfl rfl)
theorem dX1_restore_11 : decode cX1_restore 11 = .ok (.getfield 34, 3) := dk_180 0 34 (dk_at dksX1_restore_0 11 rfl rfl)
theorem dX1_restore_14 : decode cX1_restore 14 = .ok (.aload_n 0, 1) := dk_42 (dk_at dksX1_restore_0 14 rfl rfl)
theorem dX1_restore_15 : decode cX1_restore 15 = .ok (.getfield 263, 3) := dk_180 1 7 (dk_at dksX1_restore_0 15 rfl rfl)
theorem dX1_restore_18 : decode cX1_restore 18 = .ok (.invokevirtual 115, 3) := dk_182 0 115 (dk_at dksX1_restore_0 18 rfl rfl)
theorem dX1_restore_21 : decode cX1_restore 21 = .ok (.aload_n 0, 1) := dk_42 (dk_at dksX1_restore_0 21 rfl rfl)
theorem dX1_restore_22 : decode cX1_restore 22 = .ok (.getfield 34, 3) := dk_180 0 34 (dk_at dksX1_restore_1 0 rfl rfl)
theorem dX1_restore_25 : decode cX1_restore 25 = .ok (.getfield 58, 3) := dk_180 0 58 (dk_at dksX1_restore_1 3 rfl rfl)
theorem dX1_restore_28 : decode cX1_restore 28 = .ok (.ireturn, 1) := dk_172 (dk_at dksX1_restore_1 6 rfl rfl)
abbrev cX1_count : ByteArray := prog_1_method_52_code
def yX1_count : MethodName := ⟨RX1, "count", "(I)I"⟩
def dkwX1_count_4 : List UInt8 := [61, 132, 3, 1, 167, 255, 230, 28, 172, 42, 180, 0, 34, 180, 0, 91, 172, 2, 172]
abbrev dktX1_count_4 : List UInt8 := dkwX1_count_4 ++ []
def dkwX1_count_3 : List UInt8 := [3, 62, 29, 42, 180, 0, 34, 180, 0, 38, 162, 0, 21, 28, 42, 180, 0, 34, 180, 0, 52, 29, 46, 96]
abbrev dktX1_count_3 : List UInt8 := dkwX1_count_3 ++ dktX1_count_4
def dkwX1_count_2 : List UInt8 := [42, 180, 0, 34, 180, 0, 38, 172, 42, 180, 0, 34, 180, 0, 58, 172, 42, 180, 0, 34, 180, 0, 69, 172]
abbrev dktX1_count_2 : List UInt8 := dkwX1_count_2 ++ dktX1_count_3
def dkwX1_count_1 : List UInt8 := [170, 0, 0, 0, 98, 0, 0, 0, 0, 0, 0, 0, 4, 0, 0, 0, 33, 0, 0, 0, 41, 0, 0, 0, 49, 0, 0, 0, 57, 0, 0, 0, 90]
abbrev dktX1_count_1 : List UInt8 := dkwX1_count_1 ++ dktX1_count_2
def dkwX1_count_0 : List UInt8 := [3, 61, 27]
abbrev dktX1_count_0 : List UInt8 := dkwX1_count_0 ++ dktX1_count_1
theorem dksX1_count_0 : cX1_count.data.toList.drop 0 = dktX1_count_0 := by decide +kernel
theorem dksX1_count_1 : cX1_count.data.toList.drop 3 = dktX1_count_1 := dk_seg dksX1_count_0 3 rfl rfl
theorem dksX1_count_2 : cX1_count.data.toList.drop 36 = dktX1_count_2 := dk_seg dksX1_count_1 33 rfl rfl
theorem dksX1_count_3 : cX1_count.data.toList.drop 60 = dktX1_count_3 := dk_seg dksX1_count_2 24 rfl rfl
theorem dksX1_count_4 : cX1_count.data.toList.drop 84 = dktX1_count_4 := dk_seg dksX1_count_3 24 rfl rfl
theorem dX1_count_0 : decode cX1_count 0 = .ok (.iconst 0, 1) := dk_3 (dk_at dksX1_count_0 0 rfl rfl)
theorem dX1_count_1 : decode cX1_count 1 = .ok (.istore_n 2, 1) := dk_61 (dk_at dksX1_count_0 1 rfl rfl)
theorem dX1_count_2 : decode cX1_count 2 = .ok (.iload_n 1, 1) := dk_27 (dk_at dksX1_count_0 2 rfl rfl)
theorem dX1_count_3 : decode cX1_count 3 = .ok (.tableswitch 98 0 4 #[33, 41, 49, 57, 90], 33) := by decide +kernel
theorem dX1_count_36 : decode cX1_count 36 = .ok (.aload_n 0, 1) := dk_42 (dk_at dksX1_count_2 0 rfl rfl)
theorem dX1_count_37 : decode cX1_count 37 = .ok (.getfield 34, 3) := dk_180 0 34 (dk_at dksX1_count_2 1 rfl rfl)
theorem dX1_count_40 : decode cX1_count 40 = .ok (.getfield 38, 3) := dk_180 0 38 (dk_at dksX1_count_2 4 rfl rfl)
theorem dX1_count_43 : decode cX1_count 43 = .ok (.ireturn, 1) := dk_172 (dk_at dksX1_count_2 7 rfl rfl)
theorem dX1_count_44 : decode cX1_count 44 = .ok (.aload_n 0, 1) := dk_42 (dk_at dksX1_count_2 8 rfl rfl)
theorem dX1_count_45 : decode cX1_count 45 = .ok (.getfield 34, 3) := dk_180 0 34 (dk_at dksX1_count_2 9 rfl rfl)
theorem dX1_count_48 : decode cX1_count 48 = .ok (.getfield 58, 3) := dk_180 0 58 (dk_at dksX1_count_2 12 rfl rfl)
theorem dX1_count_51 : decode cX1_count 51 = .ok (.ireturn, 1) := dk_172 (dk_at dksX1_count_2 15 rfl rfl)
theorem dX1_count_52 : decode cX1_count 52 = .ok (.aload_n 0, 1) := dk_42 (dk_at dksX1_count_2 16 rfl rfl)
theorem dX1_count_53 : decode cX1_count 53 = .ok (.getfield 34, 3) := dk_180 0 34 (dk_at dksX1_count_2 17 rfl rfl)
theorem dX1_count_56 : decode cX1_count 56 = .ok (.getfield 69, 3) := dk_180 0 69 (dk_at dksX1_count_2 20 rfl rfl)
theorem dX1_count_59 : decode cX1_count 59 = .ok (.ireturn, 1) := dk_172 (dk_at dksX1_count_2 23 rfl rfl)
theorem dX1_count_60 : decode cX1_count 60 = .ok (.iconst 0, 1) := dk_3 (dk_at dksX1_count_3 0 rfl rfl)
theorem dX1_count_61 : decode cX1_count 61 = .ok (.istore_n 3, 1) := dk_62 (dk_at dksX1_count_3 1 rfl rfl)
theorem dX1_count_62 : decode cX1_count 62 = .ok (.iload_n 3, 1) := dk_29 (dk_at dksX1_count_3 2 rfl rfl)
theorem dX1_count_63 : decode cX1_count 63 = .ok (.aload_n 0, 1) := dk_42 (dk_at dksX1_count_3 3 rfl rfl)
theorem dX1_count_64 : decode cX1_count 64 = .ok (.getfield 34, 3) := dk_180 0 34 (dk_at dksX1_count_3 4 rfl rfl)
theorem dX1_count_67 : decode cX1_count 67 = .ok (.getfield 38, 3) := dk_180 0 38 (dk_at dksX1_count_3 7 rfl rfl)
theorem dX1_count_70 : decode cX1_count 70 = .ok (.if_icmp .ge 21, 3) := dk_162 0 21 (dk_at dksX1_count_3 10 rfl rfl)
theorem dX1_count_73 : decode cX1_count 73 = .ok (.iload_n 2, 1) := dk_28 (dk_at dksX1_count_3 13 rfl rfl)
theorem dX1_count_74 : decode cX1_count 74 = .ok (.aload_n 0, 1) := dk_42 (dk_at dksX1_count_3 14 rfl rfl)
theorem dX1_count_75 : decode cX1_count 75 = .ok (.getfield 34, 3) := dk_180 0 34 (dk_at dksX1_count_3 15 rfl rfl)
theorem dX1_count_78 : decode cX1_count 78 = .ok (.getfield 52, 3) := dk_180 0 52 (dk_at dksX1_count_3 18 rfl rfl)
theorem dX1_count_81 : decode cX1_count 81 = .ok (.iload_n 3, 1) := dk_29 (dk_at dksX1_count_3 21 rfl rfl)
theorem dX1_count_82 : decode cX1_count 82 = .ok (.iaload, 1) := dk_46 (dk_at dksX1_count_3 22 rfl rfl)
theorem dX1_count_83 : decode cX1_count 83 = .ok (.iadd, 1) := dk_96 (dk_at dksX1_count_3 23 rfl rfl)
theorem dX1_count_84 : decode cX1_count 84 = .ok (.istore_n 2, 1) := dk_61 (dk_at dksX1_count_4 0 rfl rfl)
theorem dX1_count_85 : decode cX1_count 85 = .ok (.iinc 3 1, 3) := dk_132 3 1 (dk_at dksX1_count_4 1 rfl rfl)
theorem dX1_count_88 : decode cX1_count 88 = .ok (.goto (-26), 3) := dk_167 255 230 (dk_at dksX1_count_4 4 rfl rfl)
theorem dX1_count_91 : decode cX1_count 91 = .ok (.iload_n 2, 1) := dk_28 (dk_at dksX1_count_4 7 rfl rfl)
theorem dX1_count_92 : decode cX1_count 92 = .ok (.ireturn, 1) := dk_172 (dk_at dksX1_count_4 8 rfl rfl)
theorem dX1_count_93 : decode cX1_count 93 = .ok (.aload_n 0, 1) := dk_42 (dk_at dksX1_count_4 9 rfl rfl)
theorem dX1_count_94 : decode cX1_count 94 = .ok (.getfield 34, 3) := dk_180 0 34 (dk_at dksX1_count_4 10 rfl rfl)
theorem dX1_count_97 : decode cX1_count 97 = .ok (.getfield 91, 3) := dk_180 0 91 (dk_at dksX1_count_4 13 rfl rfl)
theorem dX1_count_100 : decode cX1_count 100 = .ok (.ireturn, 1) := dk_172 (dk_at dksX1_count_4 16 rfl rfl)
theorem dX1_count_101 : decode cX1_count 101 = .ok (.iconst (-1), 1) := dk_2 (dk_at dksX1_count_4 17 rfl rfl)
theorem dX1_count_102 : decode cX1_count 102 = .ok (.ireturn, 1) := dk_172 (dk_at dksX1_count_4 18 rfl rfl)
abbrev cX1_init : ByteArray := prog_1_method_53_code
def yX1_init : MethodName := ⟨RX1, "<init>", "()V"⟩
def dkwX1_init_3 : List UInt8 := [27, 187, 0, 105, 89, 183, 1, 20, 83, 132, 1, 1, 167, 255, 234, 177]
abbrev dktX1_init_3 : List UInt8 := dkwX1_init_3 ++ []
def dkwX1_init_2 : List UInt8 := [181, 0, 176, 42, 16, 8, 189, 0, 105, 181, 0, 100, 3, 60, 27, 16, 8, 162, 0, 22, 42, 180, 0, 100]
abbrev dktX1_init_2 : List UInt8 := dkwX1_init_2 ++ dktX1_init_3
def dkwX1_init_1 : List UInt8 := [181, 0, 112, 42, 187, 0, 39, 89, 183, 1, 18, 181, 1, 7, 42, 187, 0, 181, 89, 183, 1, 19]
abbrev dktX1_init_1 : List UInt8 := dkwX1_init_1 ++ dktX1_init_2
def dkwX1_init_0 : List UInt8 := [42, 183, 1, 14, 42, 187, 0, 39, 89, 183, 1, 18, 181, 0, 34, 42, 187, 0, 39, 89, 183, 1, 18]
abbrev dktX1_init_0 : List UInt8 := dkwX1_init_0 ++ dktX1_init_1
theorem dksX1_init_0 : cX1_init.data.toList.drop 0 = dktX1_init_0 := by decide +kernel
theorem dksX1_init_1 : cX1_init.data.toList.drop 23 = dktX1_init_1 := dk_seg dksX1_init_0 23 rfl rfl
theorem dksX1_init_2 : cX1_init.data.toList.drop 45 = dktX1_init_2 := dk_seg dksX1_init_1 22 rfl rfl
theorem dksX1_init_3 : cX1_init.data.toList.drop 69 = dktX1_init_3 := dk_seg dksX1_init_2 24 rfl rfl
theorem dX1_init_0 : decode cX1_init 0 = .ok (.aload_n 0, 1) := dk_42 (dk_at dksX1_init_0 0 rfl rfl)
theorem dX1_init_1 : decode cX1_init 1 = .ok (.invokespecial 270, 3) := dk_183 1 14 (dk_at dksX1_init_0 1 rfl rfl)
theorem dX1_init_4 : decode cX1_init 4 = .ok (.aload_n 0, 1) := dk_42 (dk_at dksX1_init_0 4 rfl rfl)
theorem dX1_init_5 : decode cX1_init 5 = .ok (.new 39, 3) := dk_187 0 39 (dk_at dksX1_init_0 5 rfl rfl)
theorem dX1_init_8 : decode cX1_init 8 = .ok (.dup, 1) := dk_89 (dk_at dksX1_init_0 8 rfl rfl)
theorem dX1_init_9 : decode cX1_init 9 = .ok (.invokespecial 274, 3) := dk_183 1 18 (dk_at dksX1_init_0 9 rfl rfl)
theorem dX1_init_12 : decode cX1_init 12 = .ok (.putfield 34, 3) := dk_181 0 34 (dk_at dksX1_init_0 12 rfl rfl)
theorem dX1_init_15 : decode cX1_init 15 = .ok (.aload_n 0, 1) := dk_42 (dk_at dksX1_init_0 15 rfl rfl)
theorem dX1_init_16 : decode cX1_init 16 = .ok (.new 39, 3) := dk_187 0 39 (dk_at dksX1_init_0 16 rfl rfl)
theorem dX1_init_19 : decode cX1_init 19 = .ok (.dup, 1) := dk_89 (dk_at dksX1_init_0 19 rfl rfl)
theorem dX1_init_20 : decode cX1_init 20 = .ok (.invokespecial 274, 3) := dk_183 1 18 (dk_at dksX1_init_0 20 rfl rfl)
theorem dX1_init_23 : decode cX1_init 23 = .ok (.putfield 112, 3) := dk_181 0 112 (dk_at dksX1_init_1 0 rfl rfl)
theorem dX1_init_26 : decode cX1_init 26 = .ok (.aload_n 0, 1) := dk_42 (dk_at dksX1_init_1 3 rfl rfl)
theorem dX1_init_27 : decode cX1_init 27 = .ok (.new 39, 3) := dk_187 0 39 (dk_at dksX1_init_1 4 rfl rfl)
theorem dX1_init_30 : decode cX1_init 30 = .ok (.dup, 1) := dk_89 (dk_at dksX1_init_1 7 rfl rfl)
theorem dX1_init_31 : decode cX1_init 31 = .ok (.invokespecial 274, 3) := dk_183 1 18 (dk_at dksX1_init_1 8 rfl rfl)
theorem dX1_init_34 : decode cX1_init 34 = .ok (.putfield 263, 3) := dk_181 1 7 (dk_at dksX1_init_1 11 rfl rfl)
theorem dX1_init_37 : decode cX1_init 37 = .ok (.aload_n 0, 1) := dk_42 (dk_at dksX1_init_1 14 rfl rfl)
theorem dX1_init_38 : decode cX1_init 38 = .ok (.new 181, 3) := dk_187 0 181 (dk_at dksX1_init_1 15 rfl rfl)
theorem dX1_init_41 : decode cX1_init 41 = .ok (.dup, 1) := dk_89 (dk_at dksX1_init_1 18 rfl rfl)
theorem dX1_init_42 : decode cX1_init 42 = .ok (.invokespecial 275, 3) := dk_183 1 19 (dk_at dksX1_init_1 19 rfl rfl)
theorem dX1_init_45 : decode cX1_init 45 = .ok (.putfield 176, 3) := dk_181 0 176 (dk_at dksX1_init_2 0 rfl rfl)
theorem dX1_init_48 : decode cX1_init 48 = .ok (.aload_n 0, 1) := dk_42 (dk_at dksX1_init_2 3 rfl rfl)
theorem dX1_init_49 : decode cX1_init 49 = .ok (.bipush 8, 2) := dk_16 8 (dk_at dksX1_init_2 4 rfl rfl)
theorem dX1_init_51 : decode cX1_init 51 = .ok (.anewarray 105, 3) := dk_189 0 105 (dk_at dksX1_init_2 6 rfl rfl)
theorem dX1_init_54 : decode cX1_init 54 = .ok (.putfield 100, 3) := dk_181 0 100 (dk_at dksX1_init_2 9 rfl rfl)
theorem dX1_init_57 : decode cX1_init 57 = .ok (.iconst 0, 1) := dk_3 (dk_at dksX1_init_2 12 rfl rfl)
theorem dX1_init_58 : decode cX1_init 58 = .ok (.istore_n 1, 1) := dk_60 (dk_at dksX1_init_2 13 rfl rfl)
theorem dX1_init_59 : decode cX1_init 59 = .ok (.iload_n 1, 1) := dk_27 (dk_at dksX1_init_2 14 rfl rfl)
theorem dX1_init_60 : decode cX1_init 60 = .ok (.bipush 8, 2) := dk_16 8 (dk_at dksX1_init_2 15 rfl rfl)
theorem dX1_init_62 : decode cX1_init 62 = .ok (.if_icmp .ge 22, 3) := dk_162 0 22 (dk_at dksX1_init_2 17 rfl rfl)
theorem dX1_init_65 : decode cX1_init 65 = .ok (.aload_n 0, 1) := dk_42 (dk_at dksX1_init_2 20 rfl rfl)
theorem dX1_init_66 : decode cX1_init 66 = .ok (.getfield 100, 3) := dk_180 0 100 (dk_at dksX1_init_2 21 rfl rfl)
theorem dX1_init_69 : decode cX1_init 69 = .ok (.iload_n 1, 1) := dk_27 (dk_at dksX1_init_3 0 rfl rfl)
theorem dX1_init_70 : decode cX1_init 70 = .ok (.new 105, 3) := dk_187 0 105 (dk_at dksX1_init_3 1 rfl rfl)
theorem dX1_init_73 : decode cX1_init 73 = .ok (.dup, 1) := dk_89 (dk_at dksX1_init_3 4 rfl rfl)
theorem dX1_init_74 : decode cX1_init 74 = .ok (.invokespecial 276, 3) := dk_183 1 20 (dk_at dksX1_init_3 5 rfl rfl)
theorem dX1_init_77 : decode cX1_init 77 = .ok (.aastore, 1) := dk_83 (dk_at dksX1_init_3 8 rfl rfl)
theorem dX1_init_78 : decode cX1_init 78 = .ok (.iinc 1 1, 3) := dk_132 1 1 (dk_at dksX1_init_3 9 rfl rfl)
theorem dX1_init_81 : decode cX1_init 81 = .ok (.goto (-22), 3) := dk_167 255 234 (dk_at dksX1_init_3 12 rfl rfl)
theorem dX1_init_84 : decode cX1_init 84 = .ok (.return_, 1) := dk_177 (dk_at dksX1_init_3 15 rfl rfl)
abbrev cX1_keep : ByteArray := prog_1_method_54_code
def yX1_keep : MethodName := ⟨RX1, "keep", "(III)I"⟩
def dkwX1_keep_2 : List UInt8 := [180, 0, 34, 180, 0, 61, 29, 50, 181, 0, 104, 3, 172]
abbrev dktX1_keep_2 : List UInt8 := dkwX1_keep_2 ++ []
def dkwX1_keep_1 : List UInt8 := [182, 0, 153, 154, 0, 5, 2, 172, 42, 180, 0, 100, 27, 50, 28, 154, 0, 7, 1, 167, 0, 12, 42]
abbrev dktX1_keep_1 : List UInt8 := dkwX1_keep_1 ++ dktX1_keep_2
def dkwX1_keep_0 : List UInt8 := [27, 184, 0, 97, 153, 0, 25, 28, 3, 4, 184, 0, 3, 153, 0, 16, 28, 4, 160, 0, 13, 42, 29]
abbrev dktX1_keep_0 : List UInt8 := dkwX1_keep_0 ++ dktX1_keep_1
theorem dksX1_keep_0 : cX1_keep.data.toList.drop 0 = dktX1_keep_0 := by decide +kernel
theorem dksX1_keep_1 : cX1_keep.data.toList.drop 23 = dktX1_keep_1 := dk_seg dksX1_keep_0 23 rfl rfl
theorem dksX1_keep_2 : cX1_keep.data.toList.drop 46 = dktX1_keep_2 := dk_seg dksX1_keep_1 23 rfl rfl
theorem dX1_keep_0 : decode cX1_keep 0 = .ok (.iload_n 1, 1) := dk_27 (dk_at dksX1_keep_0 0 rfl rfl)
theorem dX1_keep_1 : decode cX1_keep 1 = .ok (.invokestatic 97, 3) := dk_184 0 97 (dk_at dksX1_keep_0 1 rfl rfl)
theorem dX1_keep_4 : decode cX1_keep 4 = .ok (.ifCond .eq 25, 3) := dk_153 0 25 (dk_at dksX1_keep_0 4 rfl rfl)
theorem dX1_keep_7 : decode cX1_keep 7 = .ok (.iload_n 2, 1) := dk_28 (dk_at dksX1_keep_0 7 rfl rfl)
theorem dX1_keep_8 : decode cX1_keep 8 = .ok (.iconst 0, 1) := dk_3 (dk_at dksX1_keep_0 8 rfl rfl)
theorem dX1_keep_9 : decode cX1_keep 9 = .ok (.iconst 1, 1) := dk_4 (dk_at dksX1_keep_0 9 rfl rfl)
theorem dX1_keep_10 : decode cX1_keep 10 = .ok (.invokestatic 3, 3) := dk_184 0 3 (dk_at dksX1_keep_0 10 rfl rfl)
theorem dX1_keep_13 : decode cX1_keep 13 = .ok (.ifCond .eq 16, 3) := dk_153 0 16 (dk_at dksX1_keep_0 13 rfl rfl)
theorem dX1_keep_16 : decode cX1_keep 16 = .ok (.iload_n 2, 1) := dk_28 (dk_at dksX1_keep_0 16 rfl rfl)
theorem dX1_keep_17 : decode cX1_keep 17 = .ok (.iconst 1, 1) := dk_4 (dk_at dksX1_keep_0 17 rfl rfl)
theorem dX1_keep_18 : decode cX1_keep 18 = .ok (.if_icmp .ne 13, 3) := dk_160 0 13 (dk_at dksX1_keep_0 18 rfl rfl)
theorem dX1_keep_21 : decode cX1_keep 21 = .ok (.aload_n 0, 1) := dk_42 (dk_at dksX1_keep_0 21 rfl rfl)
theorem dX1_keep_22 : decode cX1_keep 22 = .ok (.iload_n 3, 1) := dk_29 (dk_at dksX1_keep_0 22 rfl rfl)
theorem dX1_keep_23 : decode cX1_keep 23 = .ok (.invokevirtual 153, 3) := dk_182 0 153 (dk_at dksX1_keep_1 0 rfl rfl)
theorem dX1_keep_26 : decode cX1_keep 26 = .ok (.ifCond .ne 5, 3) := dk_154 0 5 (dk_at dksX1_keep_1 3 rfl rfl)
theorem dX1_keep_29 : decode cX1_keep 29 = .ok (.iconst (-1), 1) := dk_2 (dk_at dksX1_keep_1 6 rfl rfl)
theorem dX1_keep_30 : decode cX1_keep 30 = .ok (.ireturn, 1) := dk_172 (dk_at dksX1_keep_1 7 rfl rfl)
theorem dX1_keep_31 : decode cX1_keep 31 = .ok (.aload_n 0, 1) := dk_42 (dk_at dksX1_keep_1 8 rfl rfl)
theorem dX1_keep_32 : decode cX1_keep 32 = .ok (.getfield 100, 3) := dk_180 0 100 (dk_at dksX1_keep_1 9 rfl rfl)
theorem dX1_keep_35 : decode cX1_keep 35 = .ok (.iload_n 1, 1) := dk_27 (dk_at dksX1_keep_1 12 rfl rfl)
theorem dX1_keep_36 : decode cX1_keep 36 = .ok (.aaload, 1) := dk_50 (dk_at dksX1_keep_1 13 rfl rfl)
theorem dX1_keep_37 : decode cX1_keep 37 = .ok (.iload_n 2, 1) := dk_28 (dk_at dksX1_keep_1 14 rfl rfl)
theorem dX1_keep_38 : decode cX1_keep 38 = .ok (.ifCond .ne 7, 3) := dk_154 0 7 (dk_at dksX1_keep_1 15 rfl rfl)
theorem dX1_keep_41 : decode cX1_keep 41 = .ok (.aconst_null, 1) := dk_1 (dk_at dksX1_keep_1 18 rfl rfl)
theorem dX1_keep_42 : decode cX1_keep 42 = .ok (.goto 12, 3) := dk_167 0 12 (dk_at dksX1_keep_1 19 rfl rfl)
theorem dX1_keep_45 : decode cX1_keep 45 = .ok (.aload_n 0, 1) := dk_42 (dk_at dksX1_keep_1 22 rfl rfl)
theorem dX1_keep_46 : decode cX1_keep 46 = .ok (.getfield 34, 3) := dk_180 0 34 (dk_at dksX1_keep_2 0 rfl rfl)
theorem dX1_keep_49 : decode cX1_keep 49 = .ok (.getfield 61, 3) := dk_180 0 61 (dk_at dksX1_keep_2 3 rfl rfl)
theorem dX1_keep_52 : decode cX1_keep 52 = .ok (.iload_n 3, 1) := dk_29 (dk_at dksX1_keep_2 6 rfl rfl)
theorem dX1_keep_53 : decode cX1_keep 53 = .ok (.aaload, 1) := dk_50 (dk_at dksX1_keep_2 7 rfl rfl)
theorem dX1_keep_54 : decode cX1_keep 54 = .ok (.putfield 104, 3) := dk_181 0 104 (dk_at dksX1_keep_2 8 rfl rfl)
theorem dX1_keep_57 : decode cX1_keep 57 = .ok (.iconst 0, 1) := dk_3 (dk_at dksX1_keep_2 11 rfl rfl)
theorem dX1_keep_58 : decode cX1_keep 58 = .ok (.ireturn, 1) := dk_172 (dk_at dksX1_keep_2 12 rfl rfl)
abbrev cX1_row : ByteArray := prog_1_method_55_code
def yX1_row : MethodName := ⟨RX1, "row", "(III)I"⟩
def dkwX1_row_3 : List UInt8 := [16, 242, 172]
abbrev dktX1_row_3 : List UInt8 := dkwX1_row_3 ++ []
def dkwX1_row_2 : List UInt8 := [167, 0, 8, 29, 188, 10, 58, 4, 42, 180, 0, 100, 27, 50, 25, 4, 181, 0, 104, 3, 172, 58, 4]
abbrev dktX1_row_2 : List UInt8 := dkwX1_row_2 ++ dktX1_row_3
def dkwX1_row_1 : List UInt8 := [28, 154, 0, 11, 29, 188, 8, 58, 4, 167, 0, 21, 28, 4, 160, 0, 11, 29, 188, 9, 58, 4]
abbrev dktX1_row_1 : List UInt8 := dkwX1_row_1 ++ dktX1_row_2
def dkwX1_row_0 : List UInt8 := [27, 184, 0, 97, 153, 0, 18, 28, 3, 5, 184, 0, 3, 153, 0, 9, 29, 16, 100, 164, 0, 5, 2, 172]
abbrev dktX1_row_0 : List UInt8 := dkwX1_row_0 ++ dktX1_row_1
theorem dksX1_row_0 : cX1_row.data.toList.drop 0 = dktX1_row_0 := by decide +kernel
theorem dksX1_row_1 : cX1_row.data.toList.drop 24 = dktX1_row_1 := dk_seg dksX1_row_0 24 rfl rfl
theorem dksX1_row_2 : cX1_row.data.toList.drop 46 = dktX1_row_2 := dk_seg dksX1_row_1 22 rfl rfl
theorem dksX1_row_3 : cX1_row.data.toList.drop 69 = dktX1_row_3 := dk_seg dksX1_row_2 23 rfl rfl
theorem dX1_row_0 : decode cX1_row 0 = .ok (.iload_n 1, 1) := dk_27 (dk_at dksX1_row_0 0 rfl rfl)
theorem dX1_row_1 : decode cX1_row 1 = .ok (.invokestatic 97, 3) := dk_184 0 97 (dk_at dksX1_row_0 1 rfl rfl)
theorem dX1_row_4 : decode cX1_row 4 = .ok (.ifCond .eq 18, 3) := dk_153 0 18 (dk_at dksX1_row_0 4 rfl rfl)
theorem dX1_row_7 : decode cX1_row 7 = .ok (.iload_n 2, 1) := dk_28 (dk_at dksX1_row_0 7 rfl rfl)
theorem dX1_row_8 : decode cX1_row 8 = .ok (.iconst 0, 1) := dk_3 (dk_at dksX1_row_0 8 rfl rfl)
theorem dX1_row_9 : decode cX1_row 9 = .ok (.iconst 2, 1) := dk_5 (dk_at dksX1_row_0 9 rfl rfl)
theorem dX1_row_10 : decode cX1_row 10 = .ok (.invokestatic 3, 3) := dk_184 0 3 (dk_at dksX1_row_0 10 rfl rfl)
theorem dX1_row_13 : decode cX1_row 13 = .ok (.ifCond .eq 9, 3) := dk_153 0 9 (dk_at dksX1_row_0 13 rfl rfl)
theorem dX1_row_16 : decode cX1_row 16 = .ok (.iload_n 3, 1) := dk_29 (dk_at dksX1_row_0 16 rfl rfl)
theorem dX1_row_17 : decode cX1_row 17 = .ok (.bipush 100, 2) := dk_16 100 (dk_at dksX1_row_0 17 rfl rfl)
theorem dX1_row_19 : decode cX1_row 19 = .ok (.if_icmp .le 5, 3) := dk_164 0 5 (dk_at dksX1_row_0 19 rfl rfl)
theorem dX1_row_22 : decode cX1_row 22 = .ok (.iconst (-1), 1) := dk_2 (dk_at dksX1_row_0 22 rfl rfl)
theorem dX1_row_23 : decode cX1_row 23 = .ok (.ireturn, 1) := dk_172 (dk_at dksX1_row_0 23 rfl rfl)
theorem dX1_row_24 : decode cX1_row 24 = .ok (.iload_n 2, 1) := dk_28 (dk_at dksX1_row_1 0 rfl rfl)
theorem dX1_row_25 : decode cX1_row 25 = .ok (.ifCond .ne 11, 3) := dk_154 0 11 (dk_at dksX1_row_1 1 rfl rfl)
theorem dX1_row_28 : decode cX1_row 28 = .ok (.iload_n 3, 1) := dk_29 (dk_at dksX1_row_1 4 rfl rfl)
theorem dX1_row_29 : decode cX1_row 29 = .ok (.newarray .byte, 2) := dk_188_8 (dk_at dksX1_row_1 5 rfl rfl)
theorem dX1_row_31 : decode cX1_row 31 = .ok (.astore 4, 2) := dk_58 4 (dk_at dksX1_row_1 7 rfl rfl)
theorem dX1_row_33 : decode cX1_row 33 = .ok (.goto 21, 3) := dk_167 0 21 (dk_at dksX1_row_1 9 rfl rfl)
theorem dX1_row_36 : decode cX1_row 36 = .ok (.iload_n 2, 1) := dk_28 (dk_at dksX1_row_1 12 rfl rfl)
theorem dX1_row_37 : decode cX1_row 37 = .ok (.iconst 1, 1) := dk_4 (dk_at dksX1_row_1 13 rfl rfl)
theorem dX1_row_38 : decode cX1_row 38 = .ok (.if_icmp .ne 11, 3) := dk_160 0 11 (dk_at dksX1_row_1 14 rfl rfl)
theorem dX1_row_41 : decode cX1_row 41 = .ok (.iload_n 3, 1) := dk_29 (dk_at dksX1_row_1 17 rfl rfl)
theorem dX1_row_42 : decode cX1_row 42 = .ok (.newarray .short, 2) := dk_188_9 (dk_at dksX1_row_1 18 rfl rfl)
theorem dX1_row_44 : decode cX1_row 44 = .ok (.astore 4, 2) := dk_58 4 (dk_at dksX1_row_1 20 rfl rfl)
theorem dX1_row_46 : decode cX1_row 46 = .ok (.goto 8, 3) := dk_167 0 8 (dk_at dksX1_row_2 0 rfl rfl)
theorem dX1_row_49 : decode cX1_row 49 = .ok (.iload_n 3, 1) := dk_29 (dk_at dksX1_row_2 3 rfl rfl)
theorem dX1_row_50 : decode cX1_row 50 = .ok (.newarray .int, 2) := dk_188_10 (dk_at dksX1_row_2 4 rfl rfl)
theorem dX1_row_52 : decode cX1_row 52 = .ok (.astore 4, 2) := dk_58 4 (dk_at dksX1_row_2 6 rfl rfl)
theorem dX1_row_54 : decode cX1_row 54 = .ok (.aload_n 0, 1) := dk_42 (dk_at dksX1_row_2 8 rfl rfl)
theorem dX1_row_55 : decode cX1_row 55 = .ok (.getfield 100, 3) := dk_180 0 100 (dk_at dksX1_row_2 9 rfl rfl)
theorem dX1_row_58 : decode cX1_row 58 = .ok (.iload_n 1, 1) := dk_27 (dk_at dksX1_row_2 12 rfl rfl)
theorem dX1_row_59 : decode cX1_row 59 = .ok (.aaload, 1) := dk_50 (dk_at dksX1_row_2 13 rfl rfl)
theorem dX1_row_60 : decode cX1_row 60 = .ok (.aload 4, 2) := dk_25 4 (dk_at dksX1_row_2 14 rfl rfl)
theorem dX1_row_62 : decode cX1_row 62 = .ok (.putfield 104, 3) := dk_181 0 104 (dk_at dksX1_row_2 16 rfl rfl)
theorem dX1_row_65 : decode cX1_row 65 = .ok (.iconst 0, 1) := dk_3 (dk_at dksX1_row_2 19 rfl rfl)
theorem dX1_row_66 : decode cX1_row 66 = .ok (.ireturn, 1) := dk_172 (dk_at dksX1_row_2 20 rfl rfl)
theorem dX1_row_67 : decode cX1_row 67 = .ok (.astore 4, 2) := dk_58 4 (dk_at dksX1_row_2 21 rfl rfl)
theorem dX1_row_69 : decode cX1_row 69 = .ok (.bipush (-14), 2) := dk_16 242 (dk_at dksX1_row_3 0 rfl rfl)
theorem dX1_row_71 : decode cX1_row 71 = .ok (.ireturn, 1) := dk_172 (dk_at dksX1_row_3 2 rfl rfl)
abbrev cX1_put : ByteArray := prog_1_method_56_code
def yX1_put : MethodName := ⟨RX1, "put", "(III)I"⟩
def dkwX1_put_3 : List UInt8 := [25, 4, 192, 0, 214, 28, 29, 79, 3, 172, 58, 5, 16, 244, 172, 58, 5, 16, 243, 172]
abbrev dktX1_put_3 : List UInt8 := dkwX1_put_3 ++ []
def dkwX1_put_2 : List UInt8 := [167, 0, 31, 25, 4, 193, 0, 240, 153, 0, 15, 25, 4, 192, 0, 240, 28, 29, 147, 86, 167, 0, 11]
abbrev dktX1_put_2 : List UInt8 := dkwX1_put_2 ++ dktX1_put_3
def dkwX1_put_1 : List UInt8 := [199, 0, 6, 16, 245, 172, 25, 4, 193, 0, 110, 153, 0, 15, 25, 4, 192, 0, 110, 28, 29, 145, 84]
abbrev dktX1_put_1 : List UInt8 := dkwX1_put_1 ++ dktX1_put_2
def dkwX1_put_0 : List UInt8 := [27, 184, 0, 97, 154, 0, 5, 2, 172, 42, 180, 0, 100, 27, 50, 180, 0, 104, 58, 4, 25, 4]
abbrev dktX1_put_0 : List UInt8 := dkwX1_put_0 ++ dktX1_put_1
theorem dksX1_put_0 : cX1_put.data.toList.drop 0 = dktX1_put_0 := by decide +kernel
theorem dksX1_put_1 : cX1_put.data.toList.drop 22 = dktX1_put_1 := dk_seg dksX1_put_0 22 rfl rfl
theorem dksX1_put_2 : cX1_put.data.toList.drop 45 = dktX1_put_2 := dk_seg dksX1_put_1 23 rfl rfl
theorem dksX1_put_3 : cX1_put.data.toList.drop 68 = dktX1_put_3 := dk_seg dksX1_put_2 23 rfl rfl
theorem dX1_put_0 : decode cX1_put 0 = .ok (.iload_n 1, 1) := dk_27 (dk_at dksX1_put_0 0 rfl rfl)
theorem dX1_put_1 : decode cX1_put 1 = .ok (.invokestatic 97, 3) := dk_184 0 97 (dk_at dksX1_put_0 1 rfl rfl)
theorem dX1_put_4 : decode cX1_put 4 = .ok (.ifCond .ne 5, 3) := dk_154 0 5 (dk_at dksX1_put_0 4 rfl rfl)
theorem dX1_put_7 : decode cX1_put 7 = .ok (.iconst (-1), 1) := dk_2 (dk_at dksX1_put_0 7 rfl rfl)
theorem dX1_put_8 : decode cX1_put 8 = .ok (.ireturn, 1) := dk_172 (dk_at dksX1_put_0 8 rfl rfl)
theorem dX1_put_9 : decode cX1_put 9 = .ok (.aload_n 0, 1) := dk_42 (dk_at dksX1_put_0 9 rfl rfl)
theorem dX1_put_10 : decode cX1_put 10 = .ok (.getfield 100, 3) := dk_180 0 100 (dk_at dksX1_put_0 10 rfl rfl)
theorem dX1_put_13 : decode cX1_put 13 = .ok (.iload_n 1, 1) := dk_27 (dk_at dksX1_put_0 13 rfl rfl)
theorem dX1_put_14 : decode cX1_put 14 = .ok (.aaload, 1) := dk_50 (dk_at dksX1_put_0 14 rfl rfl)
theorem dX1_put_15 : decode cX1_put 15 = .ok (.getfield 104, 3) := dk_180 0 104 (dk_at dksX1_put_0 15 rfl rfl)
theorem dX1_put_18 : decode cX1_put 18 = .ok (.astore 4, 2) := dk_58 4 (dk_at dksX1_put_0 18 rfl rfl)
theorem dX1_put_20 : decode cX1_put 20 = .ok (.aload 4, 2) := dk_25 4 (dk_at dksX1_put_0 20 rfl rfl)
theorem dX1_put_22 : decode cX1_put 22 = .ok (.ifnonnull 6, 3) := dk_199 0 6 (dk_at dksX1_put_1 0 rfl rfl)
theorem dX1_put_25 : decode cX1_put 25 = .ok (.bipush (-11), 2) := dk_16 245 (dk_at dksX1_put_1 3 rfl rfl)
theorem dX1_put_27 : decode cX1_put 27 = .ok (.ireturn, 1) := dk_172 (dk_at dksX1_put_1 5 rfl rfl)
theorem dX1_put_28 : decode cX1_put 28 = .ok (.aload 4, 2) := dk_25 4 (dk_at dksX1_put_1 6 rfl rfl)
theorem dX1_put_30 : decode cX1_put 30 = .ok (.instanceof 110, 3) := dk_193 0 110 (dk_at dksX1_put_1 8 rfl rfl)
theorem dX1_put_33 : decode cX1_put 33 = .ok (.ifCond .eq 15, 3) := dk_153 0 15 (dk_at dksX1_put_1 11 rfl rfl)
theorem dX1_put_36 : decode cX1_put 36 = .ok (.aload 4, 2) := dk_25 4 (dk_at dksX1_put_1 14 rfl rfl)
theorem dX1_put_38 : decode cX1_put 38 = .ok (.checkcast 110, 3) := dk_192 0 110 (dk_at dksX1_put_1 16 rfl rfl)
theorem dX1_put_41 : decode cX1_put 41 = .ok (.iload_n 2, 1) := dk_28 (dk_at dksX1_put_1 19 rfl rfl)
theorem dX1_put_42 : decode cX1_put 42 = .ok (.iload_n 3, 1) := dk_29 (dk_at dksX1_put_1 20 rfl rfl)
theorem dX1_put_43 : decode cX1_put 43 = .ok (.i2b, 1) := dk_145 (dk_at dksX1_put_1 21 rfl rfl)
theorem dX1_put_44 : decode cX1_put 44 = .ok (.bastore, 1) := dk_84 (dk_at dksX1_put_1 22 rfl rfl)
theorem dX1_put_45 : decode cX1_put 45 = .ok (.goto 31, 3) := dk_167 0 31 (dk_at dksX1_put_2 0 rfl rfl)
theorem dX1_put_48 : decode cX1_put 48 = .ok (.aload 4, 2) := dk_25 4 (dk_at dksX1_put_2 3 rfl rfl)
theorem dX1_put_50 : decode cX1_put 50 = .ok (.instanceof 240, 3) := dk_193 0 240 (dk_at dksX1_put_2 5 rfl rfl)
theorem dX1_put_53 : decode cX1_put 53 = .ok (.ifCond .eq 15, 3) := dk_153 0 15 (dk_at dksX1_put_2 8 rfl rfl)
theorem dX1_put_56 : decode cX1_put 56 = .ok (.aload 4, 2) := dk_25 4 (dk_at dksX1_put_2 11 rfl rfl)
theorem dX1_put_58 : decode cX1_put 58 = .ok (.checkcast 240, 3) := dk_192 0 240 (dk_at dksX1_put_2 13 rfl rfl)
theorem dX1_put_61 : decode cX1_put 61 = .ok (.iload_n 2, 1) := dk_28 (dk_at dksX1_put_2 16 rfl rfl)
theorem dX1_put_62 : decode cX1_put 62 = .ok (.iload_n 3, 1) := dk_29 (dk_at dksX1_put_2 17 rfl rfl)
theorem dX1_put_63 : decode cX1_put 63 = .ok (.i2s, 1) := dk_147 (dk_at dksX1_put_2 18 rfl rfl)
theorem dX1_put_64 : decode cX1_put 64 = .ok (.sastore, 1) := dk_86 (dk_at dksX1_put_2 19 rfl rfl)
theorem dX1_put_65 : decode cX1_put 65 = .ok (.goto 11, 3) := dk_167 0 11 (dk_at dksX1_put_2 20 rfl rfl)
theorem dX1_put_68 : decode cX1_put 68 = .ok (.aload 4, 2) := dk_25 4 (dk_at dksX1_put_3 0 rfl rfl)
theorem dX1_put_70 : decode cX1_put 70 = .ok (.checkcast 214, 3) := dk_192 0 214 (dk_at dksX1_put_3 2 rfl rfl)
theorem dX1_put_73 : decode cX1_put 73 = .ok (.iload_n 2, 1) := dk_28 (dk_at dksX1_put_3 5 rfl rfl)
theorem dX1_put_74 : decode cX1_put 74 = .ok (.iload_n 3, 1) := dk_29 (dk_at dksX1_put_3 6 rfl rfl)
theorem dX1_put_75 : decode cX1_put 75 = .ok (.iastore, 1) := dk_79 (dk_at dksX1_put_3 7 rfl rfl)
theorem dX1_put_76 : decode cX1_put 76 = .ok (.iconst 0, 1) := dk_3 (dk_at dksX1_put_3 8 rfl rfl)
theorem dX1_put_77 : decode cX1_put 77 = .ok (.ireturn, 1) := dk_172 (dk_at dksX1_put_3 9 rfl rfl)
theorem dX1_put_78 : decode cX1_put 78 = .ok (.astore 5, 2) := dk_58 5 (dk_at dksX1_put_3 10 rfl rfl)
theorem dX1_put_80 : decode cX1_put 80 = .ok (.bipush (-12), 2) := dk_16 244 (dk_at dksX1_put_3 12 rfl rfl)
theorem dX1_put_82 : decode cX1_put 82 = .ok (.ireturn, 1) := dk_172 (dk_at dksX1_put_3 14 rfl rfl)
theorem dX1_put_83 : decode cX1_put 83 = .ok (.astore 5, 2) := dk_58 5 (dk_at dksX1_put_3 15 rfl rfl)
theorem dX1_put_85 : decode cX1_put 85 = .ok (.bipush (-13), 2) := dk_16 243 (dk_at dksX1_put_3 17 rfl rfl)
theorem dX1_put_87 : decode cX1_put 87 = .ok (.ireturn, 1) := dk_172 (dk_at dksX1_put_3 19 rfl rfl)
abbrev cX1_copy : ByteArray := prog_1_method_59_code
def yX1_copy : MethodName := ⟨RX1, "copy", "(IIIII)I"⟩
def dkwX1_copy_4 : List UInt8 := [58, 8, 16, 243, 172]
abbrev dktX1_copy_4 : List UInt8 := dkwX1_copy_4 ++ []
def dkwX1_copy_3 : List UInt8 := [184, 0, 249, 159, 0, 6, 16, 244, 172, 25, 6, 28, 25, 7, 21, 4, 21, 5, 184, 1, 35, 21, 5, 172]
abbrev dktX1_copy_3 : List UInt8 := dkwX1_copy_3 ++ dktX1_copy_4
def dkwX1_copy_2 : List UInt8 := [199, 0, 6, 16, 245, 172, 25, 6, 184, 0, 249, 2, 159, 0, 16, 25, 6, 184, 0, 249, 25, 7]
abbrev dktX1_copy_2 : List UInt8 := dkwX1_copy_2 ++ dktX1_copy_3
def dkwX1_copy_1 : List UInt8 := [180, 0, 104, 58, 6, 42, 180, 0, 100, 29, 50, 180, 0, 104, 58, 7, 25, 6, 198, 0, 8, 25, 7]
abbrev dktX1_copy_1 : List UInt8 := dkwX1_copy_1 ++ dktX1_copy_2
def dkwX1_copy_0 : List UInt8 := [27, 184, 0, 97, 153, 0, 10, 29, 184, 0, 97, 154, 0, 5, 2, 172, 42, 180, 0, 100, 27, 50]
abbrev dktX1_copy_0 : List UInt8 := dkwX1_copy_0 ++ dktX1_copy_1
theorem dksX1_copy_0 : cX1_copy.data.toList.drop 0 = dktX1_copy_0 := by decide +kernel
theorem dksX1_copy_1 : cX1_copy.data.toList.drop 22 = dktX1_copy_1 := dk_seg dksX1_copy_0 22 rfl rfl
theorem dksX1_copy_2 : cX1_copy.data.toList.drop 45 = dktX1_copy_2 := dk_seg dksX1_copy_1 23 rfl rfl
theorem dksX1_copy_3 : cX1_copy.data.toList.drop 67 = dktX1_copy_3 := dk_seg dksX1_copy_2 22 rfl rfl
theorem dksX1_copy_4 : cX1_copy.data.toList.drop 91 = dktX1_copy_4 := dk_seg dksX1_copy_3 24 rfl rfl
theorem dX1_copy_0 : decode cX1_copy 0 = .ok (.iload_n 1, 1) := dk_27 (dk_at dksX1_copy_0 0 rfl rfl)
theorem dX1_copy_1 : decode cX1_copy 1 = .ok (.invokestatic 97, 3) := dk_184 0 97 (dk_at dksX1_copy_0 1 rfl rfl)
theorem dX1_copy_4 : decode cX1_copy 4 = .ok (.ifCond .eq 10, 3) := dk_153 0 10 (dk_at dksX1_copy_0 4 rfl rfl)
theorem dX1_copy_7 : decode cX1_copy 7 = .ok (.iload_n 3, 1) := dk_29 (dk_at dksX1_copy_0 7 rfl rfl)
theorem dX1_copy_8 : decode cX1_copy 8 = .ok (.invokestatic 97, 3) := dk_184 0 97 (dk_at dksX1_copy_0 8 rfl rfl)
theorem dX1_copy_11 : decode cX1_copy 11 = .ok (.ifCond .ne 5, 3) := dk_154 0 5 (dk_at dksX1_copy_0 11 rfl rfl)
theorem dX1_copy_14 : decode cX1_copy 14 = .ok (.iconst (-1), 1) := dk_2 (dk_at dksX1_copy_0 14 rfl rfl)
theorem dX1_copy_15 : decode cX1_copy 15 = .ok (.ireturn, 1) := dk_172 (dk_at dksX1_copy_0 15 rfl rfl)
theorem dX1_copy_16 : decode cX1_copy 16 = .ok (.aload_n 0, 1) := dk_42 (dk_at dksX1_copy_0 16 rfl rfl)
theorem dX1_copy_17 : decode cX1_copy 17 = .ok (.getfield 100, 3) := dk_180 0 100 (dk_at dksX1_copy_0 17 rfl rfl)
theorem dX1_copy_20 : decode cX1_copy 20 = .ok (.iload_n 1, 1) := dk_27 (dk_at dksX1_copy_0 20 rfl rfl)
theorem dX1_copy_21 : decode cX1_copy 21 = .ok (.aaload, 1) := dk_50 (dk_at dksX1_copy_0 21 rfl rfl)
theorem dX1_copy_22 : decode cX1_copy 22 = .ok (.getfield 104, 3) := dk_180 0 104 (dk_at dksX1_copy_1 0 rfl rfl)
theorem dX1_copy_25 : decode cX1_copy 25 = .ok (.astore 6, 2) := dk_58 6 (dk_at dksX1_copy_1 3 rfl rfl)
theorem dX1_copy_27 : decode cX1_copy 27 = .ok (.aload_n 0, 1) := dk_42 (dk_at dksX1_copy_1 5 rfl rfl)
theorem dX1_copy_28 : decode cX1_copy 28 = .ok (.getfield 100, 3) := dk_180 0 100 (dk_at dksX1_copy_1 6 rfl rfl)
theorem dX1_copy_31 : decode cX1_copy 31 = .ok (.iload_n 3, 1) := dk_29 (dk_at dksX1_copy_1 9 rfl rfl)
theorem dX1_copy_32 : decode cX1_copy 32 = .ok (.aaload, 1) := dk_50 (dk_at dksX1_copy_1 10 rfl rfl)
theorem dX1_copy_33 : decode cX1_copy 33 = .ok (.getfield 104, 3) := dk_180 0 104 (dk_at dksX1_copy_1 11 rfl rfl)
theorem dX1_copy_36 : decode cX1_copy 36 = .ok (.astore 7, 2) := dk_58 7 (dk_at dksX1_copy_1 14 rfl rfl)
theorem dX1_copy_38 : decode cX1_copy 38 = .ok (.aload 6, 2) := dk_25 6 (dk_at dksX1_copy_1 16 rfl rfl)
theorem dX1_copy_40 : decode cX1_copy 40 = .ok (.ifnull 8, 3) := dk_198 0 8 (dk_at dksX1_copy_1 18 rfl rfl)
theorem dX1_copy_43 : decode cX1_copy 43 = .ok (.aload 7, 2) := dk_25 7 (dk_at dksX1_copy_1 21 rfl rfl)
theorem dX1_copy_45 : decode cX1_copy 45 = .ok (.ifnonnull 6, 3) := dk_199 0 6 (dk_at dksX1_copy_2 0 rfl rfl)
theorem dX1_copy_48 : decode cX1_copy 48 = .ok (.bipush (-11), 2) := dk_16 245 (dk_at dksX1_copy_2 3 rfl rfl)
theorem dX1_copy_50 : decode cX1_copy 50 = .ok (.ireturn, 1) := dk_172 (dk_at dksX1_copy_2 5 rfl rfl)
theorem dX1_copy_51 : decode cX1_copy 51 = .ok (.aload 6, 2) := dk_25 6 (dk_at dksX1_copy_2 6 rfl rfl)
theorem dX1_copy_53 : decode cX1_copy 53 = .ok (.invokestatic 249, 3) := dk_184 0 249 (dk_at dksX1_copy_2 8 rfl rfl)
theorem dX1_copy_56 : decode cX1_copy 56 = .ok (.iconst (-1), 1) := dk_2 (dk_at dksX1_copy_2 11 rfl rfl)
theorem dX1_copy_57 : decode cX1_copy 57 = .ok (.if_icmp .eq 16, 3) := dk_159 0 16 (dk_at dksX1_copy_2 12 rfl rfl)
theorem dX1_copy_60 : decode cX1_copy 60 = .ok (.aload 6, 2) := dk_25 6 (dk_at dksX1_copy_2 15 rfl rfl)
theorem dX1_copy_62 : decode cX1_copy 62 = .ok (.invokestatic 249, 3) := dk_184 0 249 (dk_at dksX1_copy_2 17 rfl rfl)
theorem dX1_copy_65 : decode cX1_copy 65 = .ok (.aload 7, 2) := dk_25 7 (dk_at dksX1_copy_2 20 rfl rfl)
theorem dX1_copy_67 : decode cX1_copy 67 = .ok (.invokestatic 249, 3) := dk_184 0 249 (dk_at dksX1_copy_3 0 rfl rfl)
theorem dX1_copy_70 : decode cX1_copy 70 = .ok (.if_icmp .eq 6, 3) := dk_159 0 6 (dk_at dksX1_copy_3 3 rfl rfl)
theorem dX1_copy_73 : decode cX1_copy 73 = .ok (.bipush (-12), 2) := dk_16 244 (dk_at dksX1_copy_3 6 rfl rfl)
theorem dX1_copy_75 : decode cX1_copy 75 = .ok (.ireturn, 1) := dk_172 (dk_at dksX1_copy_3 8 rfl rfl)
theorem dX1_copy_76 : decode cX1_copy 76 = .ok (.aload 6, 2) := dk_25 6 (dk_at dksX1_copy_3 9 rfl rfl)
theorem dX1_copy_78 : decode cX1_copy 78 = .ok (.iload_n 2, 1) := dk_28 (dk_at dksX1_copy_3 11 rfl rfl)
theorem dX1_copy_79 : decode cX1_copy 79 = .ok (.aload 7, 2) := dk_25 7 (dk_at dksX1_copy_3 12 rfl rfl)
theorem dX1_copy_81 : decode cX1_copy 81 = .ok (.iload 4, 2) := dk_21 4 (dk_at dksX1_copy_3 14 rfl rfl)
theorem dX1_copy_83 : decode cX1_copy 83 = .ok (.iload 5, 2) := dk_21 5 (dk_at dksX1_copy_3 16 rfl rfl)
theorem dX1_copy_85 : decode cX1_copy 85 = .ok (.invokestatic 291, 3) := dk_184 1 35 (dk_at dksX1_copy_3 18 rfl rfl)
theorem dX1_copy_88 : decode cX1_copy 88 = .ok (.iload 5, 2) := dk_21 5 (dk_at dksX1_copy_3 21 rfl rfl)
theorem dX1_copy_90 : decode cX1_copy 90 = .ok (.ireturn, 1) := dk_172 (dk_at dksX1_copy_3 23 rfl rfl)
theorem dX1_copy_91 : decode cX1_copy 91 = .ok (.astore 8, 2) := dk_58 8 (dk_at dksX1_copy_4 0 rfl rfl)
theorem dX1_copy_93 : decode cX1_copy 93 = .ok (.bipush (-13), 2) := dk_16 243 (dk_at dksX1_copy_4 2 rfl rfl)
theorem dX1_copy_95 : decode cX1_copy 95 = .ok (.ireturn, 1) := dk_172 (dk_at dksX1_copy_4 4 rfl rfl)
abbrev cX1_skill : ByteArray := prog_1_method_60_code
def yX1_skill : MethodName := ⟨RX1, "skill", "(I)I"⟩
def dkwX1_skill_1 : List UInt8 := [172, 77, 16, 245, 172, 77, 16, 244, 172]
abbrev dktX1_skill_1 : List UInt8 := dkwX1_skill_1 ++ []
def dkwX1_skill_0 : List UInt8 := [27, 184, 0, 97, 154, 0, 5, 2, 172, 42, 180, 0, 100, 27, 50, 180, 0, 104, 192, 0, 7, 182, 1, 43]
abbrev dktX1_skill_0 : List UInt8 := dkwX1_skill_0 ++ dktX1_skill_1
theorem dksX1_skill_0 : cX1_skill.data.toList.drop 0 = dktX1_skill_0 := by decide +kernel
theorem dksX1_skill_1 : cX1_skill.data.toList.drop 24 = dktX1_skill_1 := dk_seg dksX1_skill_0 24 rfl rfl
theorem dX1_skill_0 : decode cX1_skill 0 = .ok (.iload_n 1, 1) := dk_27 (dk_at dksX1_skill_0 0 rfl rfl)
theorem dX1_skill_1 : decode cX1_skill 1 = .ok (.invokestatic 97, 3) := dk_184 0 97 (dk_at dksX1_skill_0 1 rfl rfl)
theorem dX1_skill_4 : decode cX1_skill 4 = .ok (.ifCond .ne 5, 3) := dk_154 0 5 (dk_at dksX1_skill_0 4 rfl rfl)
theorem dX1_skill_7 : decode cX1_skill 7 = .ok (.iconst (-1), 1) := dk_2 (dk_at dksX1_skill_0 7 rfl rfl)
theorem dX1_skill_8 : decode cX1_skill 8 = .ok (.ireturn, 1) := dk_172 (dk_at dksX1_skill_0 8 rfl rfl)
theorem dX1_skill_9 : decode cX1_skill 9 = .ok (.aload_n 0, 1) := dk_42 (dk_at dksX1_skill_0 9 rfl rfl)
theorem dX1_skill_10 : decode cX1_skill 10 = .ok (.getfield 100, 3) := dk_180 0 100 (dk_at dksX1_skill_0 10 rfl rfl)
theorem dX1_skill_13 : decode cX1_skill 13 = .ok (.iload_n 1, 1) := dk_27 (dk_at dksX1_skill_0 13 rfl rfl)
theorem dX1_skill_14 : decode cX1_skill 14 = .ok (.aaload, 1) := dk_50 (dk_at dksX1_skill_0 14 rfl rfl)
theorem dX1_skill_15 : decode cX1_skill 15 = .ok (.getfield 104, 3) := dk_180 0 104 (dk_at dksX1_skill_0 15 rfl rfl)
theorem dX1_skill_18 : decode cX1_skill 18 = .ok (.checkcast 7, 3) := dk_192 0 7 (dk_at dksX1_skill_0 18 rfl rfl)
theorem dX1_skill_21 : decode cX1_skill 21 = .ok (.invokevirtual 299, 3) := dk_182 1 43 (dk_at dksX1_skill_0 21 rfl rfl)
theorem dX1_skill_24 : decode cX1_skill 24 = .ok (.ireturn, 1) := dk_172 (dk_at dksX1_skill_1 0 rfl rfl)
theorem dX1_skill_25 : decode cX1_skill 25 = .ok (.astore_n 2, 1) := dk_77 (dk_at dksX1_skill_1 1 rfl rfl)
theorem dX1_skill_26 : decode cX1_skill 26 = .ok (.bipush (-11), 2) := dk_16 245 (dk_at dksX1_skill_1 2 rfl rfl)
theorem dX1_skill_28 : decode cX1_skill 28 = .ok (.ireturn, 1) := dk_172 (dk_at dksX1_skill_1 4 rfl rfl)
theorem dX1_skill_29 : decode cX1_skill 29 = .ok (.astore_n 2, 1) := dk_77 (dk_at dksX1_skill_1 5 rfl rfl)
theorem dX1_skill_30 : decode cX1_skill 30 = .ok (.bipush (-12), 2) := dk_16 244 (dk_at dksX1_skill_1 6 rfl rfl)
theorem dX1_skill_32 : decode cX1_skill 32 = .ok (.ireturn, 1) := dk_172 (dk_at dksX1_skill_1 8 rfl rfl)
abbrev cX1_toss : ByteArray := prog_1_method_61_code
def yX1_toss : MethodName := ⟨RX1, "toss", "(I)I"⟩
def dkwX1_toss_2 : List UInt8 := [16, 241, 172, 77, 16, 244, 172]
abbrev dktX1_toss_2 : List UInt8 := dkwX1_toss_2 ++ []
def dkwX1_toss_1 : List UInt8 := [42, 180, 0, 100, 27, 50, 180, 0, 104, 192, 0, 7, 182, 1, 46, 191, 77, 44, 180, 1, 52, 172, 77]
abbrev dktX1_toss_1 : List UInt8 := dkwX1_toss_1 ++ dktX1_toss_2
def dkwX1_toss_0 : List UInt8 := [27, 184, 0, 97, 154, 0, 5, 2, 172, 42, 180, 0, 100, 27, 50, 180, 0, 104, 199, 0, 6, 16, 245, 172]
abbrev dktX1_toss_0 : List UInt8 := dkwX1_toss_0 ++ dktX1_toss_1
theorem dksX1_toss_0 : cX1_toss.data.toList.drop 0 = dktX1_toss_0 := by decide +kernel
theorem dksX1_toss_1 : cX1_toss.data.toList.drop 24 = dktX1_toss_1 := dk_seg dksX1_toss_0 24 rfl rfl
theorem dksX1_toss_2 : cX1_toss.data.toList.drop 47 = dktX1_toss_2 := dk_seg dksX1_toss_1 23 rfl rfl
theorem dX1_toss_0 : decode cX1_toss 0 = .ok (.iload_n 1, 1) := dk_27 (dk_at dksX1_toss_0 0 rfl rfl)
theorem dX1_toss_1 : decode cX1_toss 1 = .ok (.invokestatic 97, 3) := dk_184 0 97 (dk_at dksX1_toss_0 1 rfl rfl)
theorem dX1_toss_4 : decode cX1_toss 4 = .ok (.ifCond .ne 5, 3) := dk_154 0 5 (dk_at dksX1_toss_0 4 rfl rfl)
theorem dX1_toss_7 : decode cX1_toss 7 = .ok (.iconst (-1), 1) := dk_2 (dk_at dksX1_toss_0 7 rfl rfl)
theorem dX1_toss_8 : decode cX1_toss 8 = .ok (.ireturn, 1) := dk_172 (dk_at dksX1_toss_0 8 rfl rfl)
theorem dX1_toss_9 : decode cX1_toss 9 = .ok (.aload_n 0, 1) := dk_42 (dk_at dksX1_toss_0 9 rfl rfl)
theorem dX1_toss_10 : decode cX1_toss 10 = .ok (.getfield 100, 3) := dk_180 0 100 (dk_at dksX1_toss_0 10 rfl rfl)
theorem dX1_toss_13 : decode cX1_toss 13 = .ok (.iload_n 1, 1) := dk_27 (dk_at dksX1_toss_0 13 rfl rfl)
theorem dX1_toss_14 : decode cX1_toss 14 = .ok (.aaload, 1) := dk_50 (dk_at dksX1_toss_0 14 rfl rfl)
theorem dX1_toss_15 : decode cX1_toss 15 = .ok (.getfield 104, 3) := dk_180 0 104 (dk_at dksX1_toss_0 15 rfl rfl)
theorem dX1_toss_18 : decode cX1_toss 18 = .ok (.ifnonnull 6, 3) := dk_199 0 6 (dk_at dksX1_toss_0 18 rfl rfl)
theorem dX1_toss_21 : decode cX1_toss 21 = .ok (.bipush (-11), 2) := dk_16 245 (dk_at dksX1_toss_0 21 rfl rfl)
theorem dX1_toss_23 : decode cX1_toss 23 = .ok (.ireturn, 1) := dk_172 (dk_at dksX1_toss_0 23 rfl rfl)
theorem dX1_toss_24 : decode cX1_toss 24 = .ok (.aload_n 0, 1) := dk_42 (dk_at dksX1_toss_1 0 rfl rfl)
theorem dX1_toss_25 : decode cX1_toss 25 = .ok (.getfield 100, 3) := dk_180 0 100 (dk_at dksX1_toss_1 1 rfl rfl)
theorem dX1_toss_28 : decode cX1_toss 28 = .ok (.iload_n 1, 1) := dk_27 (dk_at dksX1_toss_1 4 rfl rfl)
theorem dX1_toss_29 : decode cX1_toss 29 = .ok (.aaload, 1) := dk_50 (dk_at dksX1_toss_1 5 rfl rfl)
theorem dX1_toss_30 : decode cX1_toss 30 = .ok (.getfield 104, 3) := dk_180 0 104 (dk_at dksX1_toss_1 6 rfl rfl)
theorem dX1_toss_33 : decode cX1_toss 33 = .ok (.checkcast 7, 3) := dk_192 0 7 (dk_at dksX1_toss_1 9 rfl rfl)
theorem dX1_toss_36 : decode cX1_toss 36 = .ok (.invokevirtual 302, 3) := dk_182 1 46 (dk_at dksX1_toss_1 12 rfl rfl)
theorem dX1_toss_39 : decode cX1_toss 39 = .ok (.athrow, 1) := dk_191 (dk_at dksX1_toss_1 15 rfl rfl)
theorem dX1_toss_40 : decode cX1_toss 40 = .ok (.astore_n 2, 1) := dk_77 (dk_at dksX1_toss_1 16 rfl rfl)
theorem dX1_toss_41 : decode cX1_toss 41 = .ok (.aload_n 2, 1) := dk_44 (dk_at dksX1_toss_1 17 rfl rfl)
theorem dX1_toss_42 : decode cX1_toss 42 = .ok (.getfield 308, 3) := dk_180 1 52 (dk_at dksX1_toss_1 18 rfl rfl)
theorem dX1_toss_45 : decode cX1_toss 45 = .ok (.ireturn, 1) := dk_172 (dk_at dksX1_toss_1 21 rfl rfl)
theorem dX1_toss_46 : decode cX1_toss 46 = .ok (.astore_n 2, 1) := dk_77 (dk_at dksX1_toss_1 22 rfl rfl)
theorem dX1_toss_47 : decode cX1_toss 47 = .ok (.bipush (-15), 2) := dk_16 241 (dk_at dksX1_toss_2 0 rfl rfl)
theorem dX1_toss_49 : decode cX1_toss 49 = .ok (.ireturn, 1) := dk_172 (dk_at dksX1_toss_2 2 rfl rfl)
theorem dX1_toss_50 : decode cX1_toss 50 = .ok (.astore_n 2, 1) := dk_77 (dk_at dksX1_toss_2 3 rfl rfl)
theorem dX1_toss_51 : decode cX1_toss 51 = .ok (.bipush (-12), 2) := dk_16 244 (dk_at dksX1_toss_2 4 rfl rfl)
theorem dX1_toss_53 : decode cX1_toss 53 = .ok (.ireturn, 1) := dk_172 (dk_at dksX1_toss_2 6 rfl rfl)
abbrev cX1_element : ByteArray := prog_1_method_57_code
def yX1_element : MethodName := ⟨RX1, "element", "(II)J"⟩
def dkwX1_element_3 : List UInt8 := [191, 58, 4, 187, 1, 32, 89, 183, 1, 34, 191, 58, 4, 187, 1, 32, 89, 183, 1, 34, 191]
abbrev dktX1_element_3 : List UInt8 := dkwX1_element_3 ++ []
def dkwX1_element_2 : List UInt8 := [192, 0, 240, 28, 53, 133, 173, 45, 192, 0, 214, 28, 46, 133, 173, 58, 4, 187, 1, 32, 89, 183, 1, 34]
abbrev dktX1_element_2 : List UInt8 := dkwX1_element_2 ++ dktX1_element_3
def dkwX1_element_1 : List UInt8 := [78, 45, 193, 0, 110, 153, 0, 11, 45, 192, 0, 110, 28, 51, 133, 173, 45, 193, 0, 240, 153, 0, 11, 45]
abbrev dktX1_element_1 : List UInt8 := dkwX1_element_1 ++ dktX1_element_2
def dkwX1_element_0 : List UInt8 := [27, 184, 0, 97, 154, 0, 11, 187, 1, 27, 89, 183, 1, 29, 191, 42, 180, 0, 100, 27, 50, 180, 0, 104]
abbrev dktX1_element_0 : List UInt8 := dkwX1_element_0 ++ dktX1_element_1
theorem dksX1_element_0 : cX1_element.data.toList.drop 0 = dktX1_element_0 := by decide +kernel
theorem dksX1_element_1 : cX1_element.data.toList.drop 24 = dktX1_element_1 := dk_seg dksX1_element_0 24 rfl rfl
theorem dksX1_element_2 : cX1_element.data.toList.drop 48 = dktX1_element_2 := dk_seg dksX1_element_1 24 rfl rfl
theorem dksX1_element_3 : cX1_element.data.toList.drop 72 = dktX1_element_3 := dk_seg dksX1_element_2 24 rfl rfl
theorem dX1_element_0 : decode cX1_element 0 = .ok (.iload_n 1, 1) := dk_27 (dk_at dksX1_element_0 0 rfl rfl)
theorem dX1_element_1 : decode cX1_element 1 = .ok (.invokestatic 97, 3) := dk_184 0 97 (dk_at dksX1_element_0 1 rfl rfl)
theorem dX1_element_4 : decode cX1_element 4 = .ok (.ifCond .ne 11, 3) := dk_154 0 11 (dk_at dksX1_element_0 4 rfl rfl)
theorem dX1_element_7 : decode cX1_element 7 = .ok (.new 283, 3) := dk_187 1 27 (dk_at dksX1_element_0 7 rfl rfl)
theorem dX1_element_10 : decode cX1_element 10 = .ok (.dup, 1) := dk_89 (dk_at dksX1_element_0 10 rfl rfl)
theorem dX1_element_11 : decode cX1_element 11 = .ok (.invokespecial 285, 3) := dk_183 1 29 (dk_at dksX1_element_0 11 rfl rfl)
theorem dX1_element_14 : decode cX1_element 14 = .ok (.athrow, 1) := dk_191 (dk_at dksX1_element_0 14 rfl rfl)
theorem dX1_element_15 : decode cX1_element 15 = .ok (.aload_n 0, 1) := dk_42 (dk_at dksX1_element_0 15 rfl rfl)
theorem dX1_element_16 : decode cX1_element 16 = .ok (.getfield 100, 3) := dk_180 0 100 (dk_at dksX1_element_0 16 rfl rfl)
theorem dX1_element_19 : decode cX1_element 19 = .ok (.iload_n 1, 1) := dk_27 (dk_at dksX1_element_0 19 rfl rfl)
theorem dX1_element_20 : decode cX1_element 20 = .ok (.aaload, 1) := dk_50 (dk_at dksX1_element_0 20 rfl rfl)
theorem dX1_element_21 : decode cX1_element 21 = .ok (.getfield 104, 3) := dk_180 0 104 (dk_at dksX1_element_0 21 rfl rfl)
theorem dX1_element_24 : decode cX1_element 24 = .ok (.astore_n 3, 1) := dk_78 (dk_at dksX1_element_1 0 rfl rfl)
theorem dX1_element_25 : decode cX1_element 25 = .ok (.aload_n 3, 1) := dk_45 (dk_at dksX1_element_1 1 rfl rfl)
theorem dX1_element_26 : decode cX1_element 26 = .ok (.instanceof 110, 3) := dk_193 0 110 (dk_at dksX1_element_1 2 rfl rfl)
theorem dX1_element_29 : decode cX1_element 29 = .ok (.ifCond .eq 11, 3) := dk_153 0 11 (dk_at dksX1_element_1 5 rfl rfl)
theorem dX1_element_32 : decode cX1_element 32 = .ok (.aload_n 3, 1) := dk_45 (dk_at dksX1_element_1 8 rfl rfl)
theorem dX1_element_33 : decode cX1_element 33 = .ok (.checkcast 110, 3) := dk_192 0 110 (dk_at dksX1_element_1 9 rfl rfl)
theorem dX1_element_36 : decode cX1_element 36 = .ok (.iload_n 2, 1) := dk_28 (dk_at dksX1_element_1 12 rfl rfl)
theorem dX1_element_37 : decode cX1_element 37 = .ok (.baload, 1) := dk_51 (dk_at dksX1_element_1 13 rfl rfl)
theorem dX1_element_38 : decode cX1_element 38 = .ok (.i2l, 1) := dk_133 (dk_at dksX1_element_1 14 rfl rfl)
theorem dX1_element_39 : decode cX1_element 39 = .ok (.lreturn, 1) := dk_173 (dk_at dksX1_element_1 15 rfl rfl)
theorem dX1_element_40 : decode cX1_element 40 = .ok (.aload_n 3, 1) := dk_45 (dk_at dksX1_element_1 16 rfl rfl)
theorem dX1_element_41 : decode cX1_element 41 = .ok (.instanceof 240, 3) := dk_193 0 240 (dk_at dksX1_element_1 17 rfl rfl)
theorem dX1_element_44 : decode cX1_element 44 = .ok (.ifCond .eq 11, 3) := dk_153 0 11 (dk_at dksX1_element_1 20 rfl rfl)
theorem dX1_element_47 : decode cX1_element 47 = .ok (.aload_n 3, 1) := dk_45 (dk_at dksX1_element_1 23 rfl rfl)
theorem dX1_element_48 : decode cX1_element 48 = .ok (.checkcast 240, 3) := dk_192 0 240 (dk_at dksX1_element_2 0 rfl rfl)
theorem dX1_element_51 : decode cX1_element 51 = .ok (.iload_n 2, 1) := dk_28 (dk_at dksX1_element_2 3 rfl rfl)
theorem dX1_element_52 : decode cX1_element 52 = .ok (.saload, 1) := dk_53 (dk_at dksX1_element_2 4 rfl rfl)
theorem dX1_element_53 : decode cX1_element 53 = .ok (.i2l, 1) := dk_133 (dk_at dksX1_element_2 5 rfl rfl)
theorem dX1_element_54 : decode cX1_element 54 = .ok (.lreturn, 1) := dk_173 (dk_at dksX1_element_2 6 rfl rfl)
theorem dX1_element_55 : decode cX1_element 55 = .ok (.aload_n 3, 1) := dk_45 (dk_at dksX1_element_2 7 rfl rfl)
theorem dX1_element_56 : decode cX1_element 56 = .ok (.checkcast 214, 3) := dk_192 0 214 (dk_at dksX1_element_2 8 rfl rfl)
theorem dX1_element_59 : decode cX1_element 59 = .ok (.iload_n 2, 1) := dk_28 (dk_at dksX1_element_2 11 rfl rfl)
theorem dX1_element_60 : decode cX1_element 60 = .ok (.iaload, 1) := dk_46 (dk_at dksX1_element_2 12 rfl rfl)
theorem dX1_element_61 : decode cX1_element 61 = .ok (.i2l, 1) := dk_133 (dk_at dksX1_element_2 13 rfl rfl)
theorem dX1_element_62 : decode cX1_element 62 = .ok (.lreturn, 1) := dk_173 (dk_at dksX1_element_2 14 rfl rfl)
theorem dX1_element_63 : decode cX1_element 63 = .ok (.astore 4, 2) := dk_58 4 (dk_at dksX1_element_2 15 rfl rfl)
theorem dX1_element_65 : decode cX1_element 65 = .ok (.new 288, 3) := dk_187 1 32 (dk_at dksX1_element_2 17 rfl rfl)
theorem dX1_element_68 : decode cX1_element 68 = .ok (.dup, 1) := dk_89 (dk_at dksX1_element_2 20 rfl rfl)
theorem dX1_element_69 : decode cX1_element 69 = .ok (.invokespecial 290, 3) := dk_183 1 34 (dk_at dksX1_element_2 21 rfl rfl)
theorem dX1_element_72 : decode cX1_element 72 = .ok (.athrow, 1) := dk_191 (dk_at dksX1_element_3 0 rfl rfl)
theorem dX1_element_73 : decode cX1_element 73 = .ok (.astore 4, 2) := dk_58 4 (dk_at dksX1_element_3 1 rfl rfl)
theorem dX1_element_75 : decode cX1_element 75 = .ok (.new 288, 3) := dk_187 1 32 (dk_at dksX1_element_3 3 rfl rfl)
theorem dX1_element_78 : decode cX1_element 78 = .ok (.dup, 1) := dk_89 (dk_at dksX1_element_3 6 rfl rfl)
theorem dX1_element_79 : decode cX1_element 79 = .ok (.invokespecial 290, 3) := dk_183 1 34 (dk_at dksX1_element_3 7 rfl rfl)
theorem dX1_element_82 : decode cX1_element 82 = .ok (.athrow, 1) := dk_191 (dk_at dksX1_element_3 10 rfl rfl)
theorem dX1_element_83 : decode cX1_element 83 = .ok (.astore 4, 2) := dk_58 4 (dk_at dksX1_element_3 11 rfl rfl)
theorem dX1_element_85 : decode cX1_element 85 = .ok (.new 288, 3) := dk_187 1 32 (dk_at dksX1_element_3 13 rfl rfl)
theorem dX1_element_88 : decode cX1_element 88 = .ok (.dup, 1) := dk_89 (dk_at dksX1_element_3 16 rfl rfl)
theorem dX1_element_89 : decode cX1_element 89 = .ok (.invokespecial 290, 3) := dk_183 1 34 (dk_at dksX1_element_3 17 rfl rfl)
theorem dX1_element_92 : decode cX1_element 92 = .ok (.athrow, 1) := dk_191 (dk_at dksX1_element_3 20 rfl rfl)
theorem q42 : (Jvm.Cond.initialized "LookAtClock") ∈ lw_all := lw_g (lw_at lw_m1 1 rfl) rfl
theorem q72 : (Jvm.Cond.instanceMethod ({ cls := "LookAtClock", name := "town", desc := "(I)I" } : Jvm.MethodName)) ∈ lw_all := lw_g (lw_at lw_m1 31 rfl) rfl
theorem q73 : (Jvm.Cond.selects "LookAtClock" ({ cls := "LookAtClock", name := "town", desc := "(I)I" } : Jvm.MethodName) ({ cls := "LookAtClock", name := "town", desc := "(I)I" } : Jvm.MethodName)) ∈ lw_all := lw_g (lw_at lw_m1 32 rfl) rfl
theorem q74 : (Jvm.Cond.codeWith ({ cls := "LookAtClock", name := "town", desc := "(I)I" } : Jvm.MethodName) prog_1_method_11_code (5 : Nat) (Option.some Jvm.ClassFile.FieldType.int) [((47 : Nat), (111 : Nat), (112 : Nat), (133 : Nat))]) ∈ lw_all := lw_g (lw_at lw_m1 33 rfl) rfl
theorem q75 : (Jvm.Cond.classLink "LookAtClock" (133 : Nat) "LookAtClock$Broken") ∈ lw_all := lw_g (lw_at lw_m1 34 rfl) rfl
theorem q76 : (Jvm.Cond.methodLink "LookAtClock" (97 : Nat) ({ cls := "LookAtClock", name := "isShelf", desc := "(I)Z" } : Jvm.MethodName)) ∈ lw_all := lw_g (lw_at lw_m1 35 rfl) rfl
theorem q77 : (Jvm.Cond.static ({ cls := "LookAtClock", name := "isShelf", desc := "(I)Z" } : Jvm.MethodName)) ∈ lw_all := lw_g (lw_at lw_m1 36 rfl) rfl
theorem q78 : (Jvm.Cond.code ({ cls := "LookAtClock", name := "isShelf", desc := "(I)Z" } : Jvm.MethodName) prog_1_method_10_code (1 : Nat) (Option.some Jvm.ClassFile.FieldType.boolean)) ∈ lw_all := lw_g (lw_at lw_m1 37 rfl) rfl
theorem q79 : (Jvm.Cond.methodLink "LookAtClock" (3 : Nat) ({ cls := "LookAtClock", name := "isIn", desc := "(III)Z" } : Jvm.MethodName)) ∈ lw_all := lw_g (lw_at lw_m1 38 rfl) rfl
theorem q80 : (Jvm.Cond.static ({ cls := "LookAtClock", name := "isIn", desc := "(III)Z" } : Jvm.MethodName)) ∈ lw_all := lw_g (lw_at lw_m1 39 rfl) rfl
theorem q81 : (Jvm.Cond.code ({ cls := "LookAtClock", name := "isIn", desc := "(III)Z" } : Jvm.MethodName) prog_1_method_1_code (3 : Nat) (Option.some Jvm.ClassFile.FieldType.boolean)) ∈ lw_all := lw_g (lw_at lw_m1 40 rfl) rfl
theorem q82 : (Jvm.Cond.classLink "LookAtClock" (110 : Nat) "[B") ∈ lw_all := lw_g (lw_at lw_m1 41 rfl) rfl
theorem q83 : (Jvm.Cond.methodLink "LookAtClock" (115 : Nat) ({ cls := "LookAtClock$Town", name := "takes", desc := "(LLookAtClock$Town;)V" } : Jvm.MethodName)) ∈ lw_all := lw_g (lw_at lw_m1 42 rfl) rfl
theorem q90 : (Jvm.Cond.classLink "LookAtClock" (76 : Nat) "LookAtClock$Reader") ∈ lw_all := lw_g (lw_at lw_m1 49 rfl) rfl
theorem q92 : (Jvm.Cond.methodLink "LookAtClock" (119 : Nat) ({ cls := "LookAtClock$Reader", name := "<init>", desc := "([B)V" } : Jvm.MethodName)) ∈ lw_all := lw_g (lw_at lw_m1 51 rfl) rfl
theorem q103 : (Jvm.Cond.fieldLink "LookAtClock" (81 : Nat) "LookAtClock$Reader" "letter" "[I") ∈ lw_all := lw_g (lw_at lw_m1 62 rfl) rfl
theorem q105 : (Jvm.Cond.fieldLink "LookAtClock" (135 : Nat) "LookAtClock$Reader" "place" "[I") ∈ lw_all := lw_g (lw_at lw_m1 64 rfl) rfl
theorem q107 : (Jvm.Cond.fieldLink "LookAtClock" (75 : Nat) "LookAtClock$Reader" "told" "[[I") ∈ lw_all := lw_g (lw_at lw_m1 66 rfl) rfl
theorem q109 : (Jvm.Cond.fieldLink "LookAtClock" (126 : Nat) "LookAtClock$Reader" "statements" "I") ∈ lw_all := lw_g (lw_at lw_m1 68 rfl) rfl
theorem q124 : (Jvm.Cond.methodLink "LookAtClock" (122 : Nat) ({ cls := "LookAtClock$Reader", name := "reads", desc := "()V" } : Jvm.MethodName)) ∈ lw_all := lw_g (lw_at lw_m1 83 rfl) rfl
theorem q215 : (Jvm.Cond.fieldLink "LookAtClock" (141 : Nat) "LookAtClock$Broken" "kind" "I") ∈ lw_all := lw_g (lw_at lw_m1 174 rfl) rfl
theorem q217 : (Jvm.Cond.fieldLink "LookAtClock" (144 : Nat) "LookAtClock$Broken" "place" "I") ∈ lw_all := lw_g (lw_at lw_m1 176 rfl) rfl
theorem q247 : (Jvm.Cond.methodLink "LookAtClock" (129 : Nat) ({ cls := "LookAtClock", name := "comesAs", desc := "(LLookAtClock$Reader;I)Z" } : Jvm.MethodName)) ∈ lw_all := lw_g (lw_at lw_m1 206 rfl) rfl
theorem q248 : (Jvm.Cond.privateMethod ({ cls := "LookAtClock", name := "comesAs", desc := "(LLookAtClock$Reader;I)Z" } : Jvm.MethodName)) ∈ lw_tbl := lw_at lw_m1 207 rfl
theorem q249 : (Jvm.Cond.instanceMethod ({ cls := "LookAtClock", name := "comesAs", desc := "(LLookAtClock$Reader;I)Z" } : Jvm.MethodName)) ∈ lw_all := lw_g (lw_at lw_m1 208 rfl) rfl
theorem q250 : (Jvm.Cond.instantiable "LookAtClock" (6 : Nat)) ∈ lw_all := lw_g (lw_at lw_m1 209 rfl) rfl
theorem q251 : (Jvm.Cond.code ({ cls := "LookAtClock", name := "comesAs", desc := "(LLookAtClock$Reader;I)Z" } : Jvm.MethodName) prog_1_method_9_code (4 : Nat) (Option.some Jvm.ClassFile.FieldType.boolean)) ∈ lw_all := lw_g (lw_at lw_m1 210 rfl) rfl
theorem q252 : (Jvm.Cond.methodLink "LookAtClock" (84 : Nat) ({ cls := "LookAtClock", name := "comesWork", desc := "([I)Z" } : Jvm.MethodName)) ∈ lw_all := lw_g (lw_at lw_m1 211 rfl) rfl
theorem q253 : (Jvm.Cond.privateMethod ({ cls := "LookAtClock", name := "comesWork", desc := "([I)Z" } : Jvm.MethodName)) ∈ lw_tbl := lw_at lw_m1 212 rfl
theorem q254 : (Jvm.Cond.instanceMethod ({ cls := "LookAtClock", name := "comesWork", desc := "([I)Z" } : Jvm.MethodName)) ∈ lw_all := lw_g (lw_at lw_m1 213 rfl) rfl
theorem q255 : (Jvm.Cond.code ({ cls := "LookAtClock", name := "comesWork", desc := "([I)Z" } : Jvm.MethodName) prog_1_method_6_code (3 : Nat) (Option.some Jvm.ClassFile.FieldType.boolean)) ∈ lw_all := lw_g (lw_at lw_m1 214 rfl) rfl
theorem q256 : (Jvm.Cond.methodLink "LookAtClock" (44 : Nat) ({ cls := "LookAtClock", name := "isMinute", desc := "(I)Z" } : Jvm.MethodName)) ∈ lw_all := lw_g (lw_at lw_m1 215 rfl) rfl
theorem q257 : (Jvm.Cond.static ({ cls := "LookAtClock", name := "isMinute", desc := "(I)Z" } : Jvm.MethodName)) ∈ lw_all := lw_g (lw_at lw_m1 216 rfl) rfl
theorem q258 : (Jvm.Cond.code ({ cls := "LookAtClock", name := "isMinute", desc := "(I)Z" } : Jvm.MethodName) prog_1_method_2_code (1 : Nat) (Option.some Jvm.ClassFile.FieldType.boolean)) ∈ lw_all := lw_g (lw_at lw_m1 217 rfl) rfl
theorem q259 : (Jvm.Cond.methodLink "LookAtClock" (88 : Nat) ({ cls := "LookAtClock", name := "comesLooker", desc := "([I)Z" } : Jvm.MethodName)) ∈ lw_all := lw_g (lw_at lw_m1 218 rfl) rfl
theorem q260 : (Jvm.Cond.privateMethod ({ cls := "LookAtClock", name := "comesLooker", desc := "([I)Z" } : Jvm.MethodName)) ∈ lw_tbl := lw_at lw_m1 219 rfl
theorem q261 : (Jvm.Cond.instanceMethod ({ cls := "LookAtClock", name := "comesLooker", desc := "([I)Z" } : Jvm.MethodName)) ∈ lw_all := lw_g (lw_at lw_m1 220 rfl) rfl
theorem q262 : (Jvm.Cond.code ({ cls := "LookAtClock", name := "comesLooker", desc := "([I)Z" } : Jvm.MethodName) prog_1_method_7_code (2 : Nat) (Option.some Jvm.ClassFile.FieldType.boolean)) ∈ lw_all := lw_g (lw_at lw_m1 221 rfl) rfl
theorem q263 : (Jvm.Cond.methodLink "LookAtClock" (65 : Nat) ({ cls := "LookAtClock", name := "lookerOf", desc := "(IIIII)LLookAtClock$Looker;" } : Jvm.MethodName)) ∈ lw_all := lw_g (lw_at lw_m1 222 rfl) rfl
theorem q264 : (Jvm.Cond.static ({ cls := "LookAtClock", name := "lookerOf", desc := "(IIIII)LLookAtClock$Looker;" } : Jvm.MethodName)) ∈ lw_all := lw_g (lw_at lw_m1 223 rfl) rfl
theorem q265 : (Jvm.Cond.code ({ cls := "LookAtClock", name := "lookerOf", desc := "(IIIII)LLookAtClock$Looker;" } : Jvm.MethodName) prog_1_method_5_code (5 : Nat) (Option.some (Jvm.ClassFile.FieldType.object "LookAtClock$Looker"))) ∈ lw_all := lw_g (lw_at lw_m1 224 rfl) rfl
theorem q266 : (Jvm.Cond.classLink "LookAtClock" (7 : Nat) "LookAtClock$Looker") ∈ lw_all := lw_g (lw_at lw_m1 225 rfl) rfl
theorem q268 : (Jvm.Cond.methodLink "LookAtClock" (9 : Nat) ({ cls := "LookAtClock$Looker", name := "<init>", desc := "(IIII)V" } : Jvm.MethodName)) ∈ lw_all := lw_g (lw_at lw_m1 227 rfl) rfl
theorem q284 : (Jvm.Cond.fieldLink "LookAtClock" (159 : Nat) "LookAtClock$Looker" "figure" "I") ∈ lw_all := lw_g (lw_at lw_m2 3 rfl) rfl
theorem q286 : (Jvm.Cond.fieldLink "LookAtClock" (168 : Nat) "LookAtClock$Looker" "drift" "I") ∈ lw_all := lw_g (lw_at lw_m2 5 rfl) rfl
theorem q291 : (Jvm.Cond.fieldLink "LookAtClock" (162 : Nat) "LookAtClock$Looker" "wake" "I") ∈ lw_all := lw_g (lw_at lw_m2 10 rfl) rfl
theorem q301 : (Jvm.Cond.classLink "LookAtClock" (13 : Nat) "LookAtClock$Never") ∈ lw_all := lw_g (lw_at lw_m2 20 rfl) rfl
theorem q303 : (Jvm.Cond.methodLink "LookAtClock" (15 : Nat) ({ cls := "LookAtClock$Never", name := "<init>", desc := "(IIII)V" } : Jvm.MethodName)) ∈ lw_all := lw_g (lw_at lw_m2 22 rfl) rfl
theorem q312 : (Jvm.Cond.classLink "LookAtClock" (16 : Nat) "LookAtClock$Watcher") ∈ lw_all := lw_g (lw_at lw_m2 31 rfl) rfl
theorem q314 : (Jvm.Cond.methodLink "LookAtClock" (18 : Nat) ({ cls := "LookAtClock$Watcher", name := "<init>", desc := "(IIII)V" } : Jvm.MethodName)) ∈ lw_all := lw_g (lw_at lw_m2 33 rfl) rfl
theorem q323 : (Jvm.Cond.classLink "LookAtClock" (19 : Nat) "LookAtClock$Cheap") ∈ lw_all := lw_g (lw_at lw_m2 42 rfl) rfl
theorem q325 : (Jvm.Cond.methodLink "LookAtClock" (21 : Nat) ({ cls := "LookAtClock$Cheap", name := "<init>", desc := "(IIII)V" } : Jvm.MethodName)) ∈ lw_all := lw_g (lw_at lw_m2 44 rfl) rfl
theorem q334 : (Jvm.Cond.classLink "LookAtClock" (22 : Nat) "LookAtClock$Best") ∈ lw_all := lw_g (lw_at lw_m2 53 rfl) rfl
theorem q336 : (Jvm.Cond.methodLink "LookAtClock" (24 : Nat) ({ cls := "LookAtClock$Best", name := "<init>", desc := "(IIII)V" } : Jvm.MethodName)) ∈ lw_all := lw_g (lw_at lw_m2 55 rfl) rfl
theorem q362 : (Jvm.Cond.fieldLink "LookAtClock" (204 : Nat) "LookAtClock$Day" "looks" "[I") ∈ lw_all := lw_g (lw_at lw_m2 81 rfl) rfl
theorem q365 : (Jvm.Cond.fieldLink "LookAtClock" (193 : Nat) "LookAtClock$Day" "lookMany" "I") ∈ lw_all := lw_g (lw_at lw_m2 84 rfl) rfl
theorem q367 : (Jvm.Cond.fieldLink "LookAtClock" (207 : Nat) "LookAtClock$Day" "came" "[I") ∈ lw_all := lw_g (lw_at lw_m2 86 rfl) rfl
theorem q369 : (Jvm.Cond.fieldLink "LookAtClock" (201 : Nat) "LookAtClock$Day" "paid" "I") ∈ lw_all := lw_g (lw_at lw_m2 88 rfl) rfl
theorem q372 : (Jvm.Cond.fieldLink "LookAtClock" (196 : Nat) "LookAtClock$Day" "late" "I") ∈ lw_all := lw_g (lw_at lw_m2 91 rfl) rfl
theorem q374 : (Jvm.Cond.fieldLink "LookAtClock" (198 : Nat) "LookAtClock$Day" "idle" "I") ∈ lw_all := lw_g (lw_at lw_m2 93 rfl) rfl
theorem q417 : (Jvm.Cond.classLink "LookAtClock" (25 : Nat) "LookAtClock$Share") ∈ lw_all := lw_g (lw_at lw_m2 136 rfl) rfl
theorem q419 : (Jvm.Cond.methodLink "LookAtClock" (27 : Nat) ({ cls := "LookAtClock$Share", name := "<init>", desc := "(IIII)V" } : Jvm.MethodName)) ∈ lw_all := lw_g (lw_at lw_m2 138 rfl) rfl
theorem q428 : (Jvm.Cond.classLink "LookAtClock" (28 : Nat) "LookAtClock$Told") ∈ lw_all := lw_g (lw_at lw_m2 147 rfl) rfl
theorem q430 : (Jvm.Cond.methodLink "LookAtClock" (30 : Nat) ({ cls := "LookAtClock$Told", name := "<init>", desc := "(IIII)V" } : Jvm.MethodName)) ∈ lw_all := lw_g (lw_at lw_m2 149 rfl) rfl
theorem q439 : (Jvm.Cond.classLink "LookAtClock" (31 : Nat) "LookAtClock$Seller") ∈ lw_all := lw_g (lw_at lw_m2 158 rfl) rfl
theorem q441 : (Jvm.Cond.methodLink "LookAtClock" (33 : Nat) ({ cls := "LookAtClock$Seller", name := "<init>", desc := "(IIII)V" } : Jvm.MethodName)) ∈ lw_all := lw_g (lw_at lw_m2 160 rfl) rfl
theorem q450 : (Jvm.Cond.methodLink "LookAtClock" (94 : Nat) ({ cls := "LookAtClock", name := "comesPlan", desc := "(I)Z" } : Jvm.MethodName)) ∈ lw_all := lw_g (lw_at lw_m2 169 rfl) rfl
theorem q451 : (Jvm.Cond.privateMethod ({ cls := "LookAtClock", name := "comesPlan", desc := "(I)Z" } : Jvm.MethodName)) ∈ lw_tbl := lw_at lw_m2 170 rfl
theorem q452 : (Jvm.Cond.instanceMethod ({ cls := "LookAtClock", name := "comesPlan", desc := "(I)Z" } : Jvm.MethodName)) ∈ lw_all := lw_g (lw_at lw_m2 171 rfl) rfl
theorem q453 : (Jvm.Cond.code ({ cls := "LookAtClock", name := "comesPlan", desc := "(I)Z" } : Jvm.MethodName) prog_1_method_8_code (2 : Nat) (Option.some Jvm.ClassFile.FieldType.boolean)) ∈ lw_all := lw_g (lw_at lw_m2 172 rfl) rfl
theorem q454 : (Jvm.Cond.methodLink "LookAtClock" (138 : Nat) ({ cls := "LookAtClock$Broken", name := "<init>", desc := "(II)V" } : Jvm.MethodName)) ∈ lw_all := lw_g (lw_at lw_m2 173 rfl) rfl
theorem q456 : (Jvm.Cond.instanceMethod ({ cls := "LookAtClock", name := "price", desc := "(I)I" } : Jvm.MethodName)) ∈ lw_all := lw_g (lw_at lw_m2 175 rfl) rfl
theorem q457 : (Jvm.Cond.selects "LookAtClock" ({ cls := "LookAtClock", name := "price", desc := "(I)I" } : Jvm.MethodName) ({ cls := "LookAtClock", name := "price", desc := "(I)I" } : Jvm.MethodName)) ∈ lw_all := lw_g (lw_at lw_m2 176 rfl) rfl
theorem q458 : (Jvm.Cond.code ({ cls := "LookAtClock", name := "price", desc := "(I)I" } : Jvm.MethodName) prog_1_method_12_code (2 : Nat) (Option.some Jvm.ClassFile.FieldType.int)) ∈ lw_all := lw_g (lw_at lw_m2 177 rfl) rfl
theorem q459 : (Jvm.Cond.methodLink "LookAtClock" (146 : Nat) ({ cls := "LookAtClock", name := "priceBy", desc := "(II)I" } : Jvm.MethodName)) ∈ lw_all := lw_g (lw_at lw_m2 178 rfl) rfl
theorem q460 : (Jvm.Cond.static ({ cls := "LookAtClock", name := "priceBy", desc := "(II)I" } : Jvm.MethodName)) ∈ lw_all := lw_g (lw_at lw_m2 179 rfl) rfl
theorem q461 : (Jvm.Cond.code ({ cls := "LookAtClock", name := "priceBy", desc := "(II)I" } : Jvm.MethodName) prog_1_method_3_code (3 : Nat) (Option.some Jvm.ClassFile.FieldType.int)) ∈ lw_all := lw_g (lw_at lw_m2 180 rfl) rfl
theorem q463 : (Jvm.Cond.instanceMethod ({ cls := "LookAtClock", name := "law", desc := "(I)I" } : Jvm.MethodName)) ∈ lw_all := lw_g (lw_at lw_m2 182 rfl) rfl
theorem q464 : (Jvm.Cond.selects "LookAtClock" ({ cls := "LookAtClock", name := "law", desc := "(I)I" } : Jvm.MethodName) ({ cls := "LookAtClock", name := "law", desc := "(I)I" } : Jvm.MethodName)) ∈ lw_all := lw_g (lw_at lw_m2 183 rfl) rfl
theorem q465 : (Jvm.Cond.code ({ cls := "LookAtClock", name := "law", desc := "(I)I" } : Jvm.MethodName) prog_1_method_13_code (3 : Nat) (Option.some Jvm.ClassFile.FieldType.int)) ∈ lw_all := lw_g (lw_at lw_m2 184 rfl) rfl
theorem q467 : (Jvm.Cond.instanceMethod ({ cls := "LookAtClock", name := "work", desc := "(II)I" } : Jvm.MethodName)) ∈ lw_all := lw_g (lw_at lw_m2 186 rfl) rfl
theorem q468 : (Jvm.Cond.selects "LookAtClock" ({ cls := "LookAtClock", name := "work", desc := "(II)I" } : Jvm.MethodName) ({ cls := "LookAtClock", name := "work", desc := "(II)I" } : Jvm.MethodName)) ∈ lw_all := lw_g (lw_at lw_m2 187 rfl) rfl
theorem q469 : (Jvm.Cond.code ({ cls := "LookAtClock", name := "work", desc := "(II)I" } : Jvm.MethodName) prog_1_method_16_code (3 : Nat) (Option.some Jvm.ClassFile.FieldType.int)) ∈ lw_all := lw_g (lw_at lw_m2 188 rfl) rfl
theorem q470 : (Jvm.Cond.methodLink "LookAtClock" (150 : Nat) ({ cls := "LookAtClock", name := "isWork", desc := "(I)Z" } : Jvm.MethodName)) ∈ lw_all := lw_g (lw_at lw_m2 189 rfl) rfl
theorem q471 : (Jvm.Cond.privateMethod ({ cls := "LookAtClock", name := "isWork", desc := "(I)Z" } : Jvm.MethodName)) ∈ lw_tbl := lw_at lw_m2 190 rfl
theorem q472 : (Jvm.Cond.instanceMethod ({ cls := "LookAtClock", name := "isWork", desc := "(I)Z" } : Jvm.MethodName)) ∈ lw_all := lw_g (lw_at lw_m2 191 rfl) rfl
theorem q473 : (Jvm.Cond.code ({ cls := "LookAtClock", name := "isWork", desc := "(I)Z" } : Jvm.MethodName) prog_1_method_14_code (2 : Nat) (Option.some Jvm.ClassFile.FieldType.boolean)) ∈ lw_all := lw_g (lw_at lw_m2 192 rfl) rfl
theorem q475 : (Jvm.Cond.instanceMethod ({ cls := "LookAtClock", name := "looker", desc := "(II)I" } : Jvm.MethodName)) ∈ lw_all := lw_g (lw_at lw_m2 194 rfl) rfl
theorem q476 : (Jvm.Cond.selects "LookAtClock" ({ cls := "LookAtClock", name := "looker", desc := "(II)I" } : Jvm.MethodName) ({ cls := "LookAtClock", name := "looker", desc := "(II)I" } : Jvm.MethodName)) ∈ lw_all := lw_g (lw_at lw_m2 195 rfl) rfl
theorem q477 : (Jvm.Cond.code ({ cls := "LookAtClock", name := "looker", desc := "(II)I" } : Jvm.MethodName) prog_1_method_17_code (4 : Nat) (Option.some Jvm.ClassFile.FieldType.int)) ∈ lw_all := lw_g (lw_at lw_m2 196 rfl) rfl
theorem q478 : (Jvm.Cond.methodLink "LookAtClock" (153 : Nat) ({ cls := "LookAtClock", name := "isLooker", desc := "(I)Z" } : Jvm.MethodName)) ∈ lw_all := lw_g (lw_at lw_m2 197 rfl) rfl
theorem q479 : (Jvm.Cond.privateMethod ({ cls := "LookAtClock", name := "isLooker", desc := "(I)Z" } : Jvm.MethodName)) ∈ lw_tbl := lw_at lw_m2 198 rfl
theorem q480 : (Jvm.Cond.instanceMethod ({ cls := "LookAtClock", name := "isLooker", desc := "(I)Z" } : Jvm.MethodName)) ∈ lw_all := lw_g (lw_at lw_m2 199 rfl) rfl
theorem q481 : (Jvm.Cond.code ({ cls := "LookAtClock", name := "isLooker", desc := "(I)Z" } : Jvm.MethodName) prog_1_method_15_code (2 : Nat) (Option.some Jvm.ClassFile.FieldType.boolean)) ∈ lw_all := lw_g (lw_at lw_m2 200 rfl) rfl
theorem q482 : (Jvm.Cond.methodLink "LookAtClock" (156 : Nat) ({ cls := "LookAtClock$Looker", name := "kind", desc := "()I" } : Jvm.MethodName)) ∈ lw_all := lw_g (lw_at lw_m2 201 rfl) rfl
theorem q525 : (Jvm.Cond.instanceMethod ({ cls := "LookAtClock", name := "drift", desc := "(I)I" } : Jvm.MethodName)) ∈ lw_all := lw_g (lw_at lw_m3 4 rfl) rfl
theorem q526 : (Jvm.Cond.selects "LookAtClock" ({ cls := "LookAtClock", name := "drift", desc := "(I)I" } : Jvm.MethodName) ({ cls := "LookAtClock", name := "drift", desc := "(I)I" } : Jvm.MethodName)) ∈ lw_all := lw_g (lw_at lw_m3 5 rfl) rfl
theorem q527 : (Jvm.Cond.code ({ cls := "LookAtClock", name := "drift", desc := "(I)I" } : Jvm.MethodName) prog_1_method_18_code (2 : Nat) (Option.some Jvm.ClassFile.FieldType.int)) ∈ lw_all := lw_g (lw_at lw_m3 6 rfl) rfl
theorem q528 : (Jvm.Cond.constant "LookAtClock" (171 : Nat) (-1000000001 : Int32)) ∈ lw_all := lw_g (lw_at lw_m3 7 rfl) rfl
theorem q530 : (Jvm.Cond.instanceMethod ({ cls := "LookAtClock", name := "thinks", desc := "(III)I" } : Jvm.MethodName)) ∈ lw_all := lw_g (lw_at lw_m3 9 rfl) rfl
theorem q531 : (Jvm.Cond.selects "LookAtClock" ({ cls := "LookAtClock", name := "thinks", desc := "(III)I" } : Jvm.MethodName) ({ cls := "LookAtClock", name := "thinks", desc := "(III)I" } : Jvm.MethodName)) ∈ lw_all := lw_g (lw_at lw_m3 10 rfl) rfl
theorem q532 : (Jvm.Cond.code ({ cls := "LookAtClock", name := "thinks", desc := "(III)I" } : Jvm.MethodName) prog_1_method_19_code (4 : Nat) (Option.some Jvm.ClassFile.FieldType.int)) ∈ lw_all := lw_g (lw_at lw_m3 11 rfl) rfl
theorem q533 : (Jvm.Cond.methodLink "LookAtClock" (172 : Nat) ({ cls := "LookAtClock", name := "thought", desc := "(III)I" } : Jvm.MethodName)) ∈ lw_all := lw_g (lw_at lw_m3 12 rfl) rfl
theorem q534 : (Jvm.Cond.static ({ cls := "LookAtClock", name := "thought", desc := "(III)I" } : Jvm.MethodName)) ∈ lw_all := lw_g (lw_at lw_m3 13 rfl) rfl
theorem q535 : (Jvm.Cond.code ({ cls := "LookAtClock", name := "thought", desc := "(III)I" } : Jvm.MethodName) prog_1_method_4_code (3 : Nat) (Option.some Jvm.ClassFile.FieldType.int)) ∈ lw_all := lw_g (lw_at lw_m3 14 rfl) rfl
theorem q537 : (Jvm.Cond.instanceMethod ({ cls := "LookAtClock", name := "day", desc := "(II)I" } : Jvm.MethodName)) ∈ lw_all := lw_g (lw_at lw_m3 16 rfl) rfl
theorem q538 : (Jvm.Cond.selects "LookAtClock" ({ cls := "LookAtClock", name := "day", desc := "(II)I" } : Jvm.MethodName) ({ cls := "LookAtClock", name := "day", desc := "(II)I" } : Jvm.MethodName)) ∈ lw_all := lw_g (lw_at lw_m3 17 rfl) rfl
theorem q539 : (Jvm.Cond.code ({ cls := "LookAtClock", name := "day", desc := "(II)I" } : Jvm.MethodName) prog_1_method_21_code (4 : Nat) (Option.some Jvm.ClassFile.FieldType.int)) ∈ lw_all := lw_g (lw_at lw_m3 18 rfl) rfl
theorem q540 : (Jvm.Cond.methodLink "LookAtClock" (186 : Nat) ({ cls := "LookAtClock", name := "dayOf", desc := "(LLookAtClock$Looker;)LLookAtClock$Day;" } : Jvm.MethodName)) ∈ lw_all := lw_g (lw_at lw_m3 19 rfl) rfl
theorem q541 : (Jvm.Cond.privateMethod ({ cls := "LookAtClock", name := "dayOf", desc := "(LLookAtClock$Looker;)LLookAtClock$Day;" } : Jvm.MethodName)) ∈ lw_tbl := lw_at lw_m3 20 rfl
theorem q542 : (Jvm.Cond.instanceMethod ({ cls := "LookAtClock", name := "dayOf", desc := "(LLookAtClock$Looker;)LLookAtClock$Day;" } : Jvm.MethodName)) ∈ lw_all := lw_g (lw_at lw_m3 21 rfl) rfl
theorem q543 : (Jvm.Cond.code ({ cls := "LookAtClock", name := "dayOf", desc := "(LLookAtClock$Looker;)LLookAtClock$Day;" } : Jvm.MethodName) prog_1_method_20_code (2 : Nat) (Option.some (Jvm.ClassFile.FieldType.object "LookAtClock$Day"))) ∈ lw_all := lw_g (lw_at lw_m3 22 rfl) rfl
theorem q544 : (Jvm.Cond.methodLink "LookAtClock" (180 : Nat) ({ cls := "LookAtClock$Day", name := "goes", desc := "(LLookAtClock$Town;LLookAtClock$Looker;II)LLookAtClock$Day;" } : Jvm.MethodName)) ∈ lw_all := lw_g (lw_at lw_m3 23 rfl) rfl
theorem q643 : (Jvm.Cond.methodLink "LookAtClock" (190 : Nat) ({ cls := "LookAtClock$Day", name := "cost", desc := "()I" } : Jvm.MethodName)) ∈ lw_all := lw_g (lw_at lw_m3 122 rfl) rfl
theorem q645 : (Jvm.Cond.instanceMethod ({ cls := "LookAtClock", name := "look", desc := "(II)I" } : Jvm.MethodName)) ∈ lw_all := lw_g (lw_at lw_m3 124 rfl) rfl
theorem q646 : (Jvm.Cond.selects "LookAtClock" ({ cls := "LookAtClock", name := "look", desc := "(II)I" } : Jvm.MethodName) ({ cls := "LookAtClock", name := "look", desc := "(II)I" } : Jvm.MethodName)) ∈ lw_all := lw_g (lw_at lw_m3 125 rfl) rfl
theorem q647 : (Jvm.Cond.code ({ cls := "LookAtClock", name := "look", desc := "(II)I" } : Jvm.MethodName) prog_1_method_22_code (4 : Nat) (Option.some Jvm.ClassFile.FieldType.int)) ∈ lw_all := lw_g (lw_at lw_m3 126 rfl) rfl
theorem q649 : (Jvm.Cond.instanceMethod ({ cls := "LookAtClock", name := "comes", desc := "(II)I" } : Jvm.MethodName)) ∈ lw_all := lw_g (lw_at lw_m3 128 rfl) rfl
theorem q650 : (Jvm.Cond.selects "LookAtClock" ({ cls := "LookAtClock", name := "comes", desc := "(II)I" } : Jvm.MethodName) ({ cls := "LookAtClock", name := "comes", desc := "(II)I" } : Jvm.MethodName)) ∈ lw_all := lw_g (lw_at lw_m3 129 rfl) rfl
theorem q651 : (Jvm.Cond.code ({ cls := "LookAtClock", name := "comes", desc := "(II)I" } : Jvm.MethodName) prog_1_method_23_code (3 : Nat) (Option.some Jvm.ClassFile.FieldType.int)) ∈ lw_all := lw_g (lw_at lw_m3 130 rfl) rfl
theorem q653 : (Jvm.Cond.instanceMethod ({ cls := "LookAtClock", name := "bestFigure", desc := "(I)I" } : Jvm.MethodName)) ∈ lw_all := lw_g (lw_at lw_m3 132 rfl) rfl
theorem q654 : (Jvm.Cond.selects "LookAtClock" ({ cls := "LookAtClock", name := "bestFigure", desc := "(I)I" } : Jvm.MethodName) ({ cls := "LookAtClock", name := "bestFigure", desc := "(I)I" } : Jvm.MethodName)) ∈ lw_all := lw_g (lw_at lw_m3 133 rfl) rfl
theorem q655 : (Jvm.Cond.code ({ cls := "LookAtClock", name := "bestFigure", desc := "(I)I" } : Jvm.MethodName) prog_1_method_25_code (6 : Nat) (Option.some Jvm.ClassFile.FieldType.int)) ∈ lw_all := lw_g (lw_at lw_m3 134 rfl) rfl
theorem q656 : (Jvm.Cond.methodLink "LookAtClock" (210 : Nat) ({ cls := "LookAtClock", name := "dayAs", desc := "(III)LLookAtClock$Day;" } : Jvm.MethodName)) ∈ lw_all := lw_g (lw_at lw_m3 135 rfl) rfl
theorem q657 : (Jvm.Cond.privateMethod ({ cls := "LookAtClock", name := "dayAs", desc := "(III)LLookAtClock$Day;" } : Jvm.MethodName)) ∈ lw_tbl := lw_at lw_m3 136 rfl
theorem q658 : (Jvm.Cond.instanceMethod ({ cls := "LookAtClock", name := "dayAs", desc := "(III)LLookAtClock$Day;" } : Jvm.MethodName)) ∈ lw_all := lw_g (lw_at lw_m3 137 rfl) rfl
theorem q659 : (Jvm.Cond.code ({ cls := "LookAtClock", name := "dayAs", desc := "(III)LLookAtClock$Day;" } : Jvm.MethodName) prog_1_method_24_code (5 : Nat) (Option.some (Jvm.ClassFile.FieldType.object "LookAtClock$Day"))) ∈ lw_all := lw_g (lw_at lw_m3 138 rfl) rfl
theorem q661 : (Jvm.Cond.instanceMethod ({ cls := "LookAtClock", name := "always", desc := "(I)I" } : Jvm.MethodName)) ∈ lw_all := lw_g (lw_at lw_m3 140 rfl) rfl
theorem q662 : (Jvm.Cond.selects "LookAtClock" ({ cls := "LookAtClock", name := "always", desc := "(I)I" } : Jvm.MethodName) ({ cls := "LookAtClock", name := "always", desc := "(I)I" } : Jvm.MethodName)) ∈ lw_all := lw_g (lw_at lw_m3 141 rfl) rfl
theorem q663 : (Jvm.Cond.code ({ cls := "LookAtClock", name := "always", desc := "(I)I" } : Jvm.MethodName) prog_1_method_26_code (3 : Nat) (Option.some Jvm.ClassFile.FieldType.int)) ∈ lw_all := lw_g (lw_at lw_m3 142 rfl) rfl
theorem q665 : (Jvm.Cond.instanceMethod ({ cls := "LookAtClock", name := "pays", desc := "(I)I" } : Jvm.MethodName)) ∈ lw_all := lw_g (lw_at lw_m3 144 rfl) rfl
theorem q666 : (Jvm.Cond.selects "LookAtClock" ({ cls := "LookAtClock", name := "pays", desc := "(I)I" } : Jvm.MethodName) ({ cls := "LookAtClock", name := "pays", desc := "(I)I" } : Jvm.MethodName)) ∈ lw_all := lw_g (lw_at lw_m3 145 rfl) rfl
theorem q667 : (Jvm.Cond.code ({ cls := "LookAtClock", name := "pays", desc := "(I)I" } : Jvm.MethodName) prog_1_method_27_code (3 : Nat) (Option.some Jvm.ClassFile.FieldType.int)) ∈ lw_all := lw_g (lw_at lw_m3 146 rfl) rfl
theorem q669 : (Jvm.Cond.instanceMethod ({ cls := "LookAtClock", name := "bestKind", desc := "(I)I" } : Jvm.MethodName)) ∈ lw_all := lw_g (lw_at lw_m3 148 rfl) rfl
theorem q670 : (Jvm.Cond.selects "LookAtClock" ({ cls := "LookAtClock", name := "bestKind", desc := "(I)I" } : Jvm.MethodName) ({ cls := "LookAtClock", name := "bestKind", desc := "(I)I" } : Jvm.MethodName)) ∈ lw_all := lw_g (lw_at lw_m3 149 rfl) rfl
theorem q671 : (Jvm.Cond.code ({ cls := "LookAtClock", name := "bestKind", desc := "(I)I" } : Jvm.MethodName) prog_1_method_28_code (7 : Nat) (Option.some Jvm.ClassFile.FieldType.int)) ∈ lw_all := lw_g (lw_at lw_m3 150 rfl) rfl
theorem q673 : (Jvm.Cond.instanceMethod ({ cls := "LookAtClock", name := "edge", desc := "(II)I" } : Jvm.MethodName)) ∈ lw_all := lw_g (lw_at lw_m3 152 rfl) rfl
theorem q674 : (Jvm.Cond.selects "LookAtClock" ({ cls := "LookAtClock", name := "edge", desc := "(II)I" } : Jvm.MethodName) ({ cls := "LookAtClock", name := "edge", desc := "(II)I" } : Jvm.MethodName)) ∈ lw_all := lw_g (lw_at lw_m3 153 rfl) rfl
theorem q675 : (Jvm.Cond.code ({ cls := "LookAtClock", name := "edge", desc := "(II)I" } : Jvm.MethodName) prog_1_method_29_code (4 : Nat) (Option.some Jvm.ClassFile.FieldType.int)) ∈ lw_all := lw_g (lw_at lw_m3 154 rfl) rfl
theorem q677 : (Jvm.Cond.instanceMethod ({ cls := "LookAtClock", name := "waits", desc := "(II)I" } : Jvm.MethodName)) ∈ lw_all := lw_g (lw_at lw_m3 156 rfl) rfl
theorem q678 : (Jvm.Cond.selects "LookAtClock" ({ cls := "LookAtClock", name := "waits", desc := "(II)I" } : Jvm.MethodName) ({ cls := "LookAtClock", name := "waits", desc := "(II)I" } : Jvm.MethodName)) ∈ lw_all := lw_g (lw_at lw_m3 157 rfl) rfl
theorem q679 : (Jvm.Cond.code ({ cls := "LookAtClock", name := "waits", desc := "(II)I" } : Jvm.MethodName) prog_1_method_30_code (4 : Nat) (Option.some Jvm.ClassFile.FieldType.int)) ∈ lw_all := lw_g (lw_at lw_m3 158 rfl) rfl
theorem q681 : (Jvm.Cond.instanceMethod ({ cls := "LookAtClock", name := "learn", desc := "(II)I" } : Jvm.MethodName)) ∈ lw_all := lw_g (lw_at lw_m3 160 rfl) rfl
theorem q682 : (Jvm.Cond.selects "LookAtClock" ({ cls := "LookAtClock", name := "learn", desc := "(II)I" } : Jvm.MethodName) ({ cls := "LookAtClock", name := "learn", desc := "(II)I" } : Jvm.MethodName)) ∈ lw_all := lw_g (lw_at lw_m3 161 rfl) rfl
theorem q683 : (Jvm.Cond.code ({ cls := "LookAtClock", name := "learn", desc := "(II)I" } : Jvm.MethodName) prog_1_method_32_code (10 : Nat) (Option.some Jvm.ClassFile.FieldType.int)) ∈ lw_all := lw_g (lw_at lw_m3 162 rfl) rfl
theorem q684 : (Jvm.Cond.classLink "LookAtClock" (214 : Nat) "[I") ∈ lw_all := lw_g (lw_at lw_m3 163 rfl) rfl
theorem q685 : (Jvm.Cond.methodLink "LookAtClock" (215 : Nat) ({ cls := "LookAtClock", name := "doFit", desc := "([II)Z" } : Jvm.MethodName)) ∈ lw_all := lw_g (lw_at lw_m3 164 rfl) rfl
theorem q686 : (Jvm.Cond.static ({ cls := "LookAtClock", name := "doFit", desc := "([II)Z" } : Jvm.MethodName)) ∈ lw_all := lw_g (lw_at lw_m3 165 rfl) rfl
theorem q687 : (Jvm.Cond.code ({ cls := "LookAtClock", name := "doFit", desc := "([II)Z" } : Jvm.MethodName) prog_1_method_31_code (3 : Nat) (Option.some Jvm.ClassFile.FieldType.boolean)) ∈ lw_all := lw_g (lw_at lw_m3 166 rfl) rfl
theorem q689 : (Jvm.Cond.instanceMethod ({ cls := "LookAtClock", name := "shared", desc := "(II)I" } : Jvm.MethodName)) ∈ lw_all := lw_g (lw_at lw_m3 168 rfl) rfl
theorem q690 : (Jvm.Cond.selects "LookAtClock" ({ cls := "LookAtClock", name := "shared", desc := "(II)I" } : Jvm.MethodName) ({ cls := "LookAtClock", name := "shared", desc := "(II)I" } : Jvm.MethodName)) ∈ lw_all := lw_g (lw_at lw_m3 169 rfl) rfl
theorem q691 : (Jvm.Cond.code ({ cls := "LookAtClock", name := "shared", desc := "(II)I" } : Jvm.MethodName) prog_1_method_34_code (3 : Nat) (Option.some Jvm.ClassFile.FieldType.int)) ∈ lw_all := lw_g (lw_at lw_m3 170 rfl) rfl
theorem q692 : (Jvm.Cond.methodLink "LookAtClock" (219 : Nat) ({ cls := "LookAtClock", name := "partOf", desc := "(II)I" } : Jvm.MethodName)) ∈ lw_all := lw_g (lw_at lw_m3 171 rfl) rfl
theorem q693 : (Jvm.Cond.privateMethod ({ cls := "LookAtClock", name := "partOf", desc := "(II)I" } : Jvm.MethodName)) ∈ lw_tbl := lw_at lw_m3 172 rfl
theorem q694 : (Jvm.Cond.instanceMethod ({ cls := "LookAtClock", name := "partOf", desc := "(II)I" } : Jvm.MethodName)) ∈ lw_all := lw_g (lw_at lw_m3 173 rfl) rfl
theorem q695 : (Jvm.Cond.code ({ cls := "LookAtClock", name := "partOf", desc := "(II)I" } : Jvm.MethodName) prog_1_method_33_code (3 : Nat) (Option.some Jvm.ClassFile.FieldType.int)) ∈ lw_all := lw_g (lw_at lw_m3 174 rfl) rfl
theorem q697 : (Jvm.Cond.instanceMethod ({ cls := "LookAtClock", name := "nine", desc := "(II)I" } : Jvm.MethodName)) ∈ lw_all := lw_g (lw_at lw_m3 176 rfl) rfl
theorem q698 : (Jvm.Cond.selects "LookAtClock" ({ cls := "LookAtClock", name := "nine", desc := "(II)I" } : Jvm.MethodName) ({ cls := "LookAtClock", name := "nine", desc := "(II)I" } : Jvm.MethodName)) ∈ lw_all := lw_g (lw_at lw_m3 177 rfl) rfl
theorem q699 : (Jvm.Cond.code ({ cls := "LookAtClock", name := "nine", desc := "(II)I" } : Jvm.MethodName) prog_1_method_35_code (4 : Nat) (Option.some Jvm.ClassFile.FieldType.int)) ∈ lw_all := lw_g (lw_at lw_m3 178 rfl) rfl
theorem q701 : (Jvm.Cond.instanceMethod ({ cls := "LookAtClock", name := "buys", desc := "(IIII)I" } : Jvm.MethodName)) ∈ lw_all := lw_g (lw_at lw_m3 180 rfl) rfl
theorem q702 : (Jvm.Cond.selects "LookAtClock" ({ cls := "LookAtClock", name := "buys", desc := "(IIII)I" } : Jvm.MethodName) ({ cls := "LookAtClock", name := "buys", desc := "(IIII)I" } : Jvm.MethodName)) ∈ lw_all := lw_g (lw_at lw_m3 181 rfl) rfl
theorem q703 : (Jvm.Cond.code ({ cls := "LookAtClock", name := "buys", desc := "(IIII)I" } : Jvm.MethodName) prog_1_method_37_code (5 : Nat) (Option.some Jvm.ClassFile.FieldType.int)) ∈ lw_all := lw_g (lw_at lw_m3 182 rfl) rfl
theorem q704 : (Jvm.Cond.methodLink "LookAtClock" (222 : Nat) ({ cls := "LookAtClock", name := "isSeller", desc := "(III)Z" } : Jvm.MethodName)) ∈ lw_all := lw_g (lw_at lw_m3 183 rfl) rfl
theorem q705 : (Jvm.Cond.privateMethod ({ cls := "LookAtClock", name := "isSeller", desc := "(III)Z" } : Jvm.MethodName)) ∈ lw_tbl := lw_at lw_m3 184 rfl
theorem q706 : (Jvm.Cond.instanceMethod ({ cls := "LookAtClock", name := "isSeller", desc := "(III)Z" } : Jvm.MethodName)) ∈ lw_all := lw_g (lw_at lw_m3 185 rfl) rfl
theorem q707 : (Jvm.Cond.code ({ cls := "LookAtClock", name := "isSeller", desc := "(III)Z" } : Jvm.MethodName) prog_1_method_36_code (4 : Nat) (Option.some Jvm.ClassFile.FieldType.boolean)) ∈ lw_all := lw_g (lw_at lw_m3 186 rfl) rfl
theorem q709 : (Jvm.Cond.instanceMethod ({ cls := "LookAtClock", name := "rest", desc := "(III)I" } : Jvm.MethodName)) ∈ lw_all := lw_g (lw_at lw_m3 188 rfl) rfl
theorem q710 : (Jvm.Cond.selects "LookAtClock" ({ cls := "LookAtClock", name := "rest", desc := "(III)I" } : Jvm.MethodName) ({ cls := "LookAtClock", name := "rest", desc := "(III)I" } : Jvm.MethodName)) ∈ lw_all := lw_g (lw_at lw_m3 189 rfl) rfl
theorem q711 : (Jvm.Cond.code ({ cls := "LookAtClock", name := "rest", desc := "(III)I" } : Jvm.MethodName) prog_1_method_38_code (5 : Nat) (Option.some Jvm.ClassFile.FieldType.int)) ∈ lw_all := lw_g (lw_at lw_m3 190 rfl) rfl
theorem q713 : (Jvm.Cond.instanceMethod ({ cls := "LookAtClock", name := "cheaper", desc := "(I)I" } : Jvm.MethodName)) ∈ lw_all := lw_g (lw_at lw_m3 192 rfl) rfl
theorem q714 : (Jvm.Cond.selects "LookAtClock" ({ cls := "LookAtClock", name := "cheaper", desc := "(I)I" } : Jvm.MethodName) ({ cls := "LookAtClock", name := "cheaper", desc := "(I)I" } : Jvm.MethodName)) ∈ lw_all := lw_g (lw_at lw_m3 193 rfl) rfl
theorem q715 : (Jvm.Cond.code ({ cls := "LookAtClock", name := "cheaper", desc := "(I)I" } : Jvm.MethodName) prog_1_method_40_code (2 : Nat) (Option.some Jvm.ClassFile.FieldType.int)) ∈ lw_all := lw_g (lw_at lw_m3 194 rfl) rfl
theorem q716 : (Jvm.Cond.methodLink "LookAtClock" (225 : Nat) ({ cls := "LookAtClock", name := "otherPrice", desc := "(I)I" } : Jvm.MethodName)) ∈ lw_all := lw_g (lw_at lw_m3 195 rfl) rfl
theorem q717 : (Jvm.Cond.privateMethod ({ cls := "LookAtClock", name := "otherPrice", desc := "(I)I" } : Jvm.MethodName)) ∈ lw_tbl := lw_at lw_m3 196 rfl
theorem q718 : (Jvm.Cond.instanceMethod ({ cls := "LookAtClock", name := "otherPrice", desc := "(I)I" } : Jvm.MethodName)) ∈ lw_all := lw_g (lw_at lw_m3 197 rfl) rfl
theorem q719 : (Jvm.Cond.code ({ cls := "LookAtClock", name := "otherPrice", desc := "(I)I" } : Jvm.MethodName) prog_1_method_39_code (2 : Nat) (Option.some Jvm.ClassFile.FieldType.int)) ∈ lw_all := lw_g (lw_at lw_m3 198 rfl) rfl
theorem q720 : (Jvm.Cond.methodLink "LookAtClock" (229 : Nat) ({ cls := "java/lang/Math", name := "min", desc := "(II)I" } : Jvm.MethodName)) ∈ lw_all := lw_g (lw_at lw_m3 199 rfl) rfl
theorem q722 : (Jvm.Cond.instanceMethod ({ cls := "LookAtClock", name := "otherCheaper", desc := "()I" } : Jvm.MethodName)) ∈ lw_all := lw_g (lw_at lw_m3 201 rfl) rfl
theorem q723 : (Jvm.Cond.selects "LookAtClock" ({ cls := "LookAtClock", name := "otherCheaper", desc := "()I" } : Jvm.MethodName) ({ cls := "LookAtClock", name := "otherCheaper", desc := "()I" } : Jvm.MethodName)) ∈ lw_all := lw_g (lw_at lw_m3 202 rfl) rfl
theorem q724 : (Jvm.Cond.code ({ cls := "LookAtClock", name := "otherCheaper", desc := "()I" } : Jvm.MethodName) prog_1_method_41_code (3 : Nat) (Option.some Jvm.ClassFile.FieldType.int)) ∈ lw_all := lw_g (lw_at lw_m3 203 rfl) rfl
theorem q726 : (Jvm.Cond.instanceMethod ({ cls := "LookAtClock", name := "byLaw", desc := "(II)I" } : Jvm.MethodName)) ∈ lw_all := lw_g (lw_at lw_m3 205 rfl) rfl
theorem q727 : (Jvm.Cond.selects "LookAtClock" ({ cls := "LookAtClock", name := "byLaw", desc := "(II)I" } : Jvm.MethodName) ({ cls := "LookAtClock", name := "byLaw", desc := "(II)I" } : Jvm.MethodName)) ∈ lw_all := lw_g (lw_at lw_m3 206 rfl) rfl
theorem q728 : (Jvm.Cond.code ({ cls := "LookAtClock", name := "byLaw", desc := "(II)I" } : Jvm.MethodName) prog_1_method_42_code (4 : Nat) (Option.some Jvm.ClassFile.FieldType.int)) ∈ lw_all := lw_g (lw_at lw_m3 207 rfl) rfl
theorem q730 : (Jvm.Cond.instanceMethod ({ cls := "LookAtClock", name := "sum", desc := "()I" } : Jvm.MethodName)) ∈ lw_all := lw_g (lw_at lw_m3 209 rfl) rfl
theorem q731 : (Jvm.Cond.selects "LookAtClock" ({ cls := "LookAtClock", name := "sum", desc := "()I" } : Jvm.MethodName) ({ cls := "LookAtClock", name := "sum", desc := "()I" } : Jvm.MethodName)) ∈ lw_all := lw_g (lw_at lw_m3 210 rfl) rfl
theorem q732 : (Jvm.Cond.code ({ cls := "LookAtClock", name := "sum", desc := "()I" } : Jvm.MethodName) prog_1_method_43_code (3 : Nat) (Option.some Jvm.ClassFile.FieldType.int)) ∈ lw_all := lw_g (lw_at lw_m3 211 rfl) rfl
theorem q734 : (Jvm.Cond.instanceMethod ({ cls := "LookAtClock", name := "order", desc := "()I" } : Jvm.MethodName)) ∈ lw_all := lw_g (lw_at lw_m3 213 rfl) rfl
theorem q735 : (Jvm.Cond.selects "LookAtClock" ({ cls := "LookAtClock", name := "order", desc := "()I" } : Jvm.MethodName) ({ cls := "LookAtClock", name := "order", desc := "()I" } : Jvm.MethodName)) ∈ lw_all := lw_g (lw_at lw_m3 214 rfl) rfl
theorem q736 : (Jvm.Cond.code ({ cls := "LookAtClock", name := "order", desc := "()I" } : Jvm.MethodName) prog_1_method_44_code (7 : Nat) (Option.some Jvm.ClassFile.FieldType.int)) ∈ lw_all := lw_g (lw_at lw_m3 215 rfl) rfl
theorem q738 : (Jvm.Cond.instanceMethod ({ cls := "LookAtClock", name := "seeded", desc := "(IIII)I" } : Jvm.MethodName)) ∈ lw_all := lw_g (lw_at lw_m3 217 rfl) rfl
theorem q739 : (Jvm.Cond.selects "LookAtClock" ({ cls := "LookAtClock", name := "seeded", desc := "(IIII)I" } : Jvm.MethodName) ({ cls := "LookAtClock", name := "seeded", desc := "(IIII)I" } : Jvm.MethodName)) ∈ lw_all := lw_g (lw_at lw_m3 218 rfl) rfl
theorem q740 : (Jvm.Cond.code ({ cls := "LookAtClock", name := "seeded", desc := "(IIII)I" } : Jvm.MethodName) prog_1_method_45_code (13 : Nat) (Option.some Jvm.ClassFile.FieldType.int)) ∈ lw_all := lw_g (lw_at lw_m3 219 rfl) rfl
theorem q741 : (Jvm.Cond.constant "LookAtClock" (234 : Nat) (1103515245 : Int32)) ∈ lw_all := lw_g (lw_at lw_m3 220 rfl) rfl
theorem q742 : (Jvm.Cond.constant "LookAtClock" (235 : Nat) (2147483647 : Int32)) ∈ lw_all := lw_g (lw_at lw_m3 221 rfl) rfl
theorem q743 : (Jvm.Cond.constant "LookAtClock" (236 : Nat) (65536 : Int32)) ∈ lw_all := lw_g (lw_at lw_m3 222 rfl) rfl
theorem q744 : (Jvm.Cond.methodLink "LookAtClock" (237 : Nat) ({ cls := "java/lang/Math", name := "max", desc := "(II)I" } : Jvm.MethodName)) ∈ lw_all := lw_g (lw_at lw_m3 223 rfl) rfl
theorem q746 : (Jvm.Cond.instanceMethod ({ cls := "LookAtClock", name := "judge", desc := "(II)I" } : Jvm.MethodName)) ∈ lw_all := lw_g (lw_at lw_m3 225 rfl) rfl
theorem q747 : (Jvm.Cond.selects "LookAtClock" ({ cls := "LookAtClock", name := "judge", desc := "(II)I" } : Jvm.MethodName) ({ cls := "LookAtClock", name := "judge", desc := "(II)I" } : Jvm.MethodName)) ∈ lw_all := lw_g (lw_at lw_m3 226 rfl) rfl
theorem q748 : (Jvm.Cond.code ({ cls := "LookAtClock", name := "judge", desc := "(II)I" } : Jvm.MethodName) prog_1_method_49_code (8 : Nat) (Option.some Jvm.ClassFile.FieldType.int)) ∈ lw_all := lw_g (lw_at lw_m3 227 rfl) rfl
theorem q749 : (Jvm.Cond.methodLink "LookAtClock" (249 : Nat) ({ cls := "LookAtClock", name := "sortOf", desc := "(Ljava/lang/Object;)I" } : Jvm.MethodName)) ∈ lw_all := lw_g (lw_at lw_m3 228 rfl) rfl
theorem q750 : (Jvm.Cond.static ({ cls := "LookAtClock", name := "sortOf", desc := "(Ljava/lang/Object;)I" } : Jvm.MethodName)) ∈ lw_all := lw_g (lw_at lw_m3 229 rfl) rfl
theorem q751 : (Jvm.Cond.code ({ cls := "LookAtClock", name := "sortOf", desc := "(Ljava/lang/Object;)I" } : Jvm.MethodName) prog_1_method_58_code (1 : Nat) (Option.some Jvm.ClassFile.FieldType.int)) ∈ lw_all := lw_g (lw_at lw_m3 230 rfl) rfl
theorem q752 : (Jvm.Cond.classLink "LookAtClock" (240 : Nat) "[S") ∈ lw_all := lw_g (lw_at lw_m3 231 rfl) rfl
theorem q753 : (Jvm.Cond.methodLink "LookAtClock" (253 : Nat) ({ cls := "LookAtClock", name := "sizeOf", desc := "(Ljava/lang/Object;)I" } : Jvm.MethodName)) ∈ lw_all := lw_g (lw_at lw_m3 232 rfl) rfl
theorem q754 : (Jvm.Cond.static ({ cls := "LookAtClock", name := "sizeOf", desc := "(Ljava/lang/Object;)I" } : Jvm.MethodName)) ∈ lw_all := lw_g (lw_at lw_m3 233 rfl) rfl
theorem q755 : (Jvm.Cond.code ({ cls := "LookAtClock", name := "sizeOf", desc := "(Ljava/lang/Object;)I" } : Jvm.MethodName) prog_1_method_46_code (1 : Nat) (Option.some Jvm.ClassFile.FieldType.int)) ∈ lw_all := lw_g (lw_at lw_m3 234 rfl) rfl
theorem q756 : (Jvm.Cond.methodLink "LookAtClock" (256 : Nat) ({ cls := "LookAtClock", name := "elementOf", desc := "(Ljava/lang/Object;I)I" } : Jvm.MethodName)) ∈ lw_all := lw_g (lw_at lw_m3 235 rfl) rfl
theorem q757 : (Jvm.Cond.static ({ cls := "LookAtClock", name := "elementOf", desc := "(Ljava/lang/Object;I)I" } : Jvm.MethodName)) ∈ lw_all := lw_g (lw_at lw_m3 236 rfl) rfl
theorem q758 : (Jvm.Cond.code ({ cls := "LookAtClock", name := "elementOf", desc := "(Ljava/lang/Object;I)I" } : Jvm.MethodName) prog_1_method_47_code (2 : Nat) (Option.some Jvm.ClassFile.FieldType.int)) ∈ lw_all := lw_g (lw_at lw_m3 237 rfl) rfl
theorem q759 : (Jvm.Cond.methodLink "LookAtClock" (260 : Nat) ({ cls := "LookAtClock", name := "leastOf", desc := "(Ljava/lang/Object;)I" } : Jvm.MethodName)) ∈ lw_all := lw_g (lw_at lw_m3 238 rfl) rfl
theorem q760 : (Jvm.Cond.static ({ cls := "LookAtClock", name := "leastOf", desc := "(Ljava/lang/Object;)I" } : Jvm.MethodName)) ∈ lw_all := lw_g (lw_at lw_m3 239 rfl) rfl
theorem q761 : (Jvm.Cond.code ({ cls := "LookAtClock", name := "leastOf", desc := "(Ljava/lang/Object;)I" } : Jvm.MethodName) prog_1_method_48_code (1 : Nat) (Option.some Jvm.ClassFile.FieldType.int)) ∈ lw_all := lw_g (lw_at lw_m4 0 rfl) rfl
theorem q762 : (Jvm.Cond.constant "LookAtClock" (248 : Nat) (-2147483648 : Int32)) ∈ lw_all := lw_g (lw_at lw_m4 1 rfl) rfl
theorem q764 : (Jvm.Cond.instanceMethod ({ cls := "LookAtClock", name := "image", desc := "()I" } : Jvm.MethodName)) ∈ lw_all := lw_g (lw_at lw_m4 3 rfl) rfl
theorem q765 : (Jvm.Cond.selects "LookAtClock" ({ cls := "LookAtClock", name := "image", desc := "()I" } : Jvm.MethodName) ({ cls := "LookAtClock", name := "image", desc := "()I" } : Jvm.MethodName)) ∈ lw_all := lw_g (lw_at lw_m4 4 rfl) rfl
theorem q766 : (Jvm.Cond.code ({ cls := "LookAtClock", name := "image", desc := "()I" } : Jvm.MethodName) prog_1_method_50_code (1 : Nat) (Option.some Jvm.ClassFile.FieldType.int)) ∈ lw_all := lw_g (lw_at lw_m4 5 rfl) rfl
theorem q768 : (Jvm.Cond.instanceMethod ({ cls := "LookAtClock", name := "restore", desc := "()I" } : Jvm.MethodName)) ∈ lw_all := lw_g (lw_at lw_m4 7 rfl) rfl
theorem q769 : (Jvm.Cond.selects "LookAtClock" ({ cls := "LookAtClock", name := "restore", desc := "()I" } : Jvm.MethodName) ({ cls := "LookAtClock", name := "restore", desc := "()I" } : Jvm.MethodName)) ∈ lw_all := lw_g (lw_at lw_m4 8 rfl) rfl
theorem q770 : (Jvm.Cond.code ({ cls := "LookAtClock", name := "restore", desc := "()I" } : Jvm.MethodName) prog_1_method_51_code (1 : Nat) (Option.some Jvm.ClassFile.FieldType.int)) ∈ lw_all := lw_g (lw_at lw_m4 9 rfl) rfl
theorem q772 : (Jvm.Cond.instanceMethod ({ cls := "LookAtClock", name := "count", desc := "(I)I" } : Jvm.MethodName)) ∈ lw_all := lw_g (lw_at lw_m4 11 rfl) rfl
theorem q773 : (Jvm.Cond.selects "LookAtClock" ({ cls := "LookAtClock", name := "count", desc := "(I)I" } : Jvm.MethodName) ({ cls := "LookAtClock", name := "count", desc := "(I)I" } : Jvm.MethodName)) ∈ lw_all := lw_g (lw_at lw_m4 12 rfl) rfl
theorem q774 : (Jvm.Cond.code ({ cls := "LookAtClock", name := "count", desc := "(I)I" } : Jvm.MethodName) prog_1_method_52_code (4 : Nat) (Option.some Jvm.ClassFile.FieldType.int)) ∈ lw_all := lw_g (lw_at lw_m4 13 rfl) rfl
theorem q777 : (Jvm.Cond.instanceMethod ({ cls := "LookAtClock", name := "<init>", desc := "()V" } : Jvm.MethodName)) ∈ lw_all := lw_g (lw_at lw_m4 16 rfl) rfl
theorem q778 : (Jvm.Cond.code ({ cls := "LookAtClock", name := "<init>", desc := "()V" } : Jvm.MethodName) prog_1_method_53_code (2 : Nat) (Option.none : Option Jvm.ClassFile.FieldType)) ∈ lw_all := lw_g (lw_at lw_m4 17 rfl) rfl
theorem q779 : (Jvm.Cond.methodLink "LookAtClock" (270 : Nat) ({ cls := "java/lang/Object", name := "<init>", desc := "()V" } : Jvm.MethodName)) ∈ lw_all := lw_g (lw_at lw_m4 18 rfl) rfl
theorem q780 : (Jvm.Cond.classLink "LookAtClock" (39 : Nat) "LookAtClock$Town") ∈ lw_all := lw_g (lw_at lw_m4 19 rfl) rfl
theorem q782 : (Jvm.Cond.methodLinkNest "LookAtClock" (274 : Nat) ({ cls := "LookAtClock$Town", name := "<init>", desc := "()V" } : Jvm.MethodName) "LookAtClock") ∈ lw_tbl := lw_at lw_m4 21 rfl
theorem q790 : (Jvm.Cond.fieldLink "LookAtClock" (48 : Nat) "LookAtClock$Town" "at" "[I") ∈ lw_all := lw_g (lw_at lw_m4 29 rfl) rfl
theorem q793 : (Jvm.Cond.fieldLink "LookAtClock" (52 : Nat) "LookAtClock$Town" "walk" "[I") ∈ lw_all := lw_g (lw_at lw_m4 32 rfl) rfl
theorem q796 : (Jvm.Cond.fieldLink "LookAtClock" (55 : Nat) "LookAtClock$Town" "late" "[I") ∈ lw_all := lw_g (lw_at lw_m4 35 rfl) rfl
theorem q798 : (Jvm.Cond.fieldLink "LookAtClock" (38 : Nat) "LookAtClock$Town" "works" "I") ∈ lw_all := lw_g (lw_at lw_m4 37 rfl) rfl
theorem q801 : (Jvm.Cond.fieldLink "LookAtClock" (61 : Nat) "LookAtClock$Town" "lookers" "[LLookAtClock$Looker;") ∈ lw_all := lw_g (lw_at lw_m4 40 rfl) rfl
theorem q803 : (Jvm.Cond.fieldLink "LookAtClock" (58 : Nat) "LookAtClock$Town" "many" "I") ∈ lw_all := lw_g (lw_at lw_m4 42 rfl) rfl
theorem q805 : (Jvm.Cond.fieldLink "LookAtClock" (72 : Nat) "LookAtClock$Town" "plan" "[I") ∈ lw_all := lw_g (lw_at lw_m4 44 rfl) rfl
theorem q807 : (Jvm.Cond.fieldLink "LookAtClock" (69 : Nat) "LookAtClock$Town" "planned" "I") ∈ lw_all := lw_g (lw_at lw_m4 46 rfl) rfl
theorem q809 : (Jvm.Cond.fieldLink "LookAtClock" (91 : Nat) "LookAtClock$Town" "law" "I") ∈ lw_all := lw_g (lw_at lw_m4 48 rfl) rfl
theorem q829 : (Jvm.Cond.classLink "LookAtClock" (181 : Nat) "LookAtClock$Day") ∈ lw_all := lw_g (lw_at lw_m4 68 rfl) rfl
theorem q830 : (Jvm.Cond.methodLinkNest "LookAtClock" (275 : Nat) ({ cls := "LookAtClock$Day", name := "<init>", desc := "()V" } : Jvm.MethodName) "LookAtClock") ∈ lw_tbl := lw_at lw_m4 69 rfl
theorem q831 : (Jvm.Cond.classLink "LookAtClock" (105 : Nat) "LookAtClock$Shelf") ∈ lw_all := lw_g (lw_at lw_m4 70 rfl) rfl
theorem q834 : (Jvm.Cond.methodLinkNest "LookAtClock" (276 : Nat) ({ cls := "LookAtClock$Shelf", name := "<init>", desc := "()V" } : Jvm.MethodName) "LookAtClock") ∈ lw_tbl := lw_at lw_m4 73 rfl
theorem q838 : (Jvm.Cond.fieldLink "LookAtClock" (104 : Nat) "LookAtClock$Shelf" "held" "Ljava/lang/Object;") ∈ lw_all := lw_g (lw_at lw_m4 77 rfl) rfl
theorem q842 : (Jvm.Cond.fieldLink "LookAtClock" (34 : Nat) "LookAtClock" "town" "LLookAtClock$Town;") ∈ lw_all := lw_g (lw_at lw_m4 81 rfl) rfl
theorem q843 : (Jvm.Cond.fieldLink "LookAtClock" (112 : Nat) "LookAtClock" "tried" "LLookAtClock$Town;") ∈ lw_all := lw_g (lw_at lw_m4 82 rfl) rfl
theorem q844 : (Jvm.Cond.fieldLink "LookAtClock" (263 : Nat) "LookAtClock" "kept" "LLookAtClock$Town;") ∈ lw_all := lw_g (lw_at lw_m4 83 rfl) rfl
theorem q845 : (Jvm.Cond.fieldLink "LookAtClock" (266 : Nat) "LookAtClock" "hasImage" "Z") ∈ lw_all := lw_g (lw_at lw_m4 84 rfl) rfl
theorem q846 : (Jvm.Cond.fieldLink "LookAtClock" (176 : Nat) "LookAtClock" "day" "LLookAtClock$Day;") ∈ lw_all := lw_g (lw_at lw_m4 85 rfl) rfl
theorem q847 : (Jvm.Cond.fieldLink "LookAtClock" (100 : Nat) "LookAtClock" "shelves" "[LLookAtClock$Shelf;") ∈ lw_all := lw_g (lw_at lw_m4 86 rfl) rfl
theorem q848 : (Jvm.Cond.laysFinal "LookAtClock" "LookAtClock" "town" "LLookAtClock$Town;") ∈ lw_all := lw_g (lw_at lw_m4 87 rfl) rfl
theorem q849 : (Jvm.Cond.soleField "LookAtClock" "town") ∈ lw_all := lw_g (lw_at lw_m4 88 rfl) rfl
theorem q850 : (Jvm.Cond.laysFinal "LookAtClock" "LookAtClock" "tried" "LLookAtClock$Town;") ∈ lw_all := lw_g (lw_at lw_m4 89 rfl) rfl
theorem q851 : (Jvm.Cond.soleField "LookAtClock" "tried") ∈ lw_all := lw_g (lw_at lw_m4 90 rfl) rfl
theorem q852 : (Jvm.Cond.laysFinal "LookAtClock" "LookAtClock" "kept" "LLookAtClock$Town;") ∈ lw_all := lw_g (lw_at lw_m4 91 rfl) rfl
theorem q853 : (Jvm.Cond.soleField "LookAtClock" "kept") ∈ lw_all := lw_g (lw_at lw_m4 92 rfl) rfl
theorem q854 : (Jvm.Cond.lays "LookAtClock" "LookAtClock" "hasImage" "Z") ∈ lw_all := lw_g (lw_at lw_m4 93 rfl) rfl
theorem q855 : (Jvm.Cond.soleField "LookAtClock" "hasImage") ∈ lw_all := lw_g (lw_at lw_m4 94 rfl) rfl
theorem q856 : (Jvm.Cond.laysFinal "LookAtClock" "LookAtClock" "day" "LLookAtClock$Day;") ∈ lw_all := lw_g (lw_at lw_m4 95 rfl) rfl
theorem q857 : (Jvm.Cond.soleField "LookAtClock" "day") ∈ lw_all := lw_g (lw_at lw_m4 96 rfl) rfl
theorem q858 : (Jvm.Cond.laysFinal "LookAtClock" "LookAtClock" "shelves" "[LLookAtClock$Shelf;") ∈ lw_all := lw_g (lw_at lw_m4 97 rfl) rfl
theorem q859 : (Jvm.Cond.soleField "LookAtClock" "shelves") ∈ lw_all := lw_g (lw_at lw_m4 98 rfl) rfl
theorem q860 : (Jvm.Cond.superclass "LookAtClock" "java/lang/Object") ∈ lw_all := lw_g (lw_at lw_m4 99 rfl) rfl
theorem q862 : (Jvm.Cond.instanceMethod ({ cls := "LookAtClock", name := "keep", desc := "(III)I" } : Jvm.MethodName)) ∈ lw_all := lw_g (lw_at lw_m4 101 rfl) rfl
theorem q863 : (Jvm.Cond.selects "LookAtClock" ({ cls := "LookAtClock", name := "keep", desc := "(III)I" } : Jvm.MethodName) ({ cls := "LookAtClock", name := "keep", desc := "(III)I" } : Jvm.MethodName)) ∈ lw_all := lw_g (lw_at lw_m4 102 rfl) rfl
theorem q864 : (Jvm.Cond.code ({ cls := "LookAtClock", name := "keep", desc := "(III)I" } : Jvm.MethodName) prog_1_method_54_code (4 : Nat) (Option.some Jvm.ClassFile.FieldType.int)) ∈ lw_all := lw_g (lw_at lw_m4 103 rfl) rfl
theorem q866 : (Jvm.Cond.instanceMethod ({ cls := "LookAtClock", name := "row", desc := "(III)I" } : Jvm.MethodName)) ∈ lw_all := lw_g (lw_at lw_m4 105 rfl) rfl
theorem q867 : (Jvm.Cond.selects "LookAtClock" ({ cls := "LookAtClock", name := "row", desc := "(III)I" } : Jvm.MethodName) ({ cls := "LookAtClock", name := "row", desc := "(III)I" } : Jvm.MethodName)) ∈ lw_all := lw_g (lw_at lw_m4 106 rfl) rfl
theorem q868 : (Jvm.Cond.codeWith ({ cls := "LookAtClock", name := "row", desc := "(III)I" } : Jvm.MethodName) prog_1_method_55_code (5 : Nat) (Option.some Jvm.ClassFile.FieldType.int) [((24 : Nat), (66 : Nat), (67 : Nat), (277 : Nat))]) ∈ lw_all := lw_g (lw_at lw_m4 107 rfl) rfl
theorem q869 : (Jvm.Cond.classLink "LookAtClock" (277 : Nat) "java/lang/NegativeArraySizeException") ∈ lw_all := lw_g (lw_at lw_m4 108 rfl) rfl
theorem q899 : (Jvm.Cond.instanceMethod ({ cls := "LookAtClock", name := "put", desc := "(III)I" } : Jvm.MethodName)) ∈ lw_all := lw_g (lw_at lw_m4 138 rfl) rfl
theorem q900 : (Jvm.Cond.selects "LookAtClock" ({ cls := "LookAtClock", name := "put", desc := "(III)I" } : Jvm.MethodName) ({ cls := "LookAtClock", name := "put", desc := "(III)I" } : Jvm.MethodName)) ∈ lw_all := lw_g (lw_at lw_m4 139 rfl) rfl
theorem q901 : (Jvm.Cond.codeWith ({ cls := "LookAtClock", name := "put", desc := "(III)I" } : Jvm.MethodName) prog_1_method_56_code (6 : Nat) (Option.some Jvm.ClassFile.FieldType.int) [((28 : Nat), (77 : Nat), (78 : Nat), (279 : Nat)), ((28 : Nat), (77 : Nat), (83 : Nat), (281 : Nat))]) ∈ lw_all := lw_g (lw_at lw_m4 140 rfl) rfl
theorem q902 : (Jvm.Cond.classLink "LookAtClock" (279 : Nat) "java/lang/ClassCastException") ∈ lw_all := lw_g (lw_at lw_m4 141 rfl) rfl
theorem q916 : (Jvm.Cond.classLink "LookAtClock" (281 : Nat) "java/lang/ArrayIndexOutOfBoundsException") ∈ lw_all := lw_g (lw_at lw_m4 155 rfl) rfl
theorem q936 : (Jvm.Cond.instanceMethod ({ cls := "LookAtClock", name := "copy", desc := "(IIIII)I" } : Jvm.MethodName)) ∈ lw_all := lw_g (lw_at lw_m4 175 rfl) rfl
theorem q937 : (Jvm.Cond.selects "LookAtClock" ({ cls := "LookAtClock", name := "copy", desc := "(IIIII)I" } : Jvm.MethodName) ({ cls := "LookAtClock", name := "copy", desc := "(IIIII)I" } : Jvm.MethodName)) ∈ lw_all := lw_g (lw_at lw_m4 176 rfl) rfl
theorem q938 : (Jvm.Cond.codeWith ({ cls := "LookAtClock", name := "copy", desc := "(IIIII)I" } : Jvm.MethodName) prog_1_method_59_code (9 : Nat) (Option.some Jvm.ClassFile.FieldType.int) [((76 : Nat), (90 : Nat), (91 : Nat), (297 : Nat))]) ∈ lw_all := lw_g (lw_at lw_m4 177 rfl) rfl
theorem q939 : (Jvm.Cond.classLink "LookAtClock" (297 : Nat) "java/lang/IndexOutOfBoundsException") ∈ lw_all := lw_g (lw_at lw_m4 178 rfl) rfl
theorem q940 : (Jvm.Cond.methodLink "LookAtClock" (291 : Nat) ({ cls := "java/lang/System", name := "arraycopy", desc := "(Ljava/lang/Object;ILjava/lang/Object;II)V" } : Jvm.MethodName)) ∈ lw_all := lw_g (lw_at lw_m4 179 rfl) rfl
theorem q942 : (Jvm.Cond.instanceMethod ({ cls := "LookAtClock", name := "skill", desc := "(I)I" } : Jvm.MethodName)) ∈ lw_all := lw_g (lw_at lw_m4 181 rfl) rfl
theorem q943 : (Jvm.Cond.selects "LookAtClock" ({ cls := "LookAtClock", name := "skill", desc := "(I)I" } : Jvm.MethodName) ({ cls := "LookAtClock", name := "skill", desc := "(I)I" } : Jvm.MethodName)) ∈ lw_all := lw_g (lw_at lw_m4 182 rfl) rfl
theorem q944 : (Jvm.Cond.codeWith ({ cls := "LookAtClock", name := "skill", desc := "(I)I" } : Jvm.MethodName) prog_1_method_60_code (3 : Nat) (Option.some Jvm.ClassFile.FieldType.int) [((9 : Nat), (24 : Nat), (25 : Nat), (286 : Nat)), ((9 : Nat), (24 : Nat), (29 : Nat), (279 : Nat))]) ∈ lw_all := lw_g (lw_at lw_m4 183 rfl) rfl
theorem q945 : (Jvm.Cond.classLink "LookAtClock" (286 : Nat) "java/lang/NullPointerException") ∈ lw_all := lw_g (lw_at lw_m4 184 rfl) rfl
theorem q995 : (Jvm.Cond.instanceMethod ({ cls := "LookAtClock", name := "toss", desc := "(I)I" } : Jvm.MethodName)) ∈ lw_all := lw_g (lw_at lw_m4 234 rfl) rfl
theorem q996 : (Jvm.Cond.selects "LookAtClock" ({ cls := "LookAtClock", name := "toss", desc := "(I)I" } : Jvm.MethodName) ({ cls := "LookAtClock", name := "toss", desc := "(I)I" } : Jvm.MethodName)) ∈ lw_all := lw_g (lw_at lw_m4 235 rfl) rfl
theorem q997 : (Jvm.Cond.codeWith ({ cls := "LookAtClock", name := "toss", desc := "(I)I" } : Jvm.MethodName) prog_1_method_61_code (3 : Nat) (Option.some Jvm.ClassFile.FieldType.int) [((24 : Nat), (40 : Nat), (40 : Nat), (306 : Nat)), ((24 : Nat), (40 : Nat), (46 : Nat), (286 : Nat)), ((24 : Nat), (40 : Nat), (50 : Nat), (279 : Nat))]) ∈ lw_all := lw_g (lw_at lw_m4 236 rfl) rfl
theorem q998 : (Jvm.Cond.classLink "LookAtClock" (306 : Nat) "LookAtClock$Tossed") ∈ lw_all := lw_g (lw_at lw_m4 237 rfl) rfl
theorem q999 : (Jvm.Cond.methodLink "LookAtClock" (302 : Nat) ({ cls := "LookAtClock$Looker", name := "failure", desc := "()LLookAtClock$Tossed;" } : Jvm.MethodName)) ∈ lw_all := lw_g (lw_at lw_m4 238 rfl) rfl
theorem q1025 : (Jvm.Cond.fieldLink "LookAtClock" (308 : Nat) "LookAtClock$Tossed" "n" "I") ∈ lw_all := lw_g (lw_at lw_m5 24 rfl) rfl
theorem q1053 : (Jvm.Cond.instanceMethod ({ cls := "LookAtClock", name := "element", desc := "(II)J" } : Jvm.MethodName)) ∈ lw_all := lw_g (lw_at lw_m5 52 rfl) rfl
theorem q1054 : (Jvm.Cond.selects "LookAtClock" ({ cls := "LookAtClock", name := "element", desc := "(II)J" } : Jvm.MethodName) ({ cls := "LookAtClock", name := "element", desc := "(II)J" } : Jvm.MethodName)) ∈ lw_all := lw_g (lw_at lw_m5 53 rfl) rfl
theorem q1055 : (Jvm.Cond.codeWith ({ cls := "LookAtClock", name := "element", desc := "(II)J" } : Jvm.MethodName) prog_1_method_57_code (5 : Nat) (Option.some Jvm.ClassFile.FieldType.long) [((25 : Nat), (39 : Nat), (63 : Nat), (286 : Nat)), ((40 : Nat), (54 : Nat), (63 : Nat), (286 : Nat)), ((55 : Nat), (62 : Nat), (63 : Nat), (286 : Nat)), ((25 : Nat), (39 : Nat), (73 : Nat), (279 : Nat)), ((40 : Nat), (54 : Nat), (73 : Nat), (279 : Nat)), ((55 : Nat), (62 : Nat), (73 : Nat), (279 : Nat)), ((25 : Nat), (39 : Nat), (83 : Nat), (281 : Nat)), ((40 : Nat), (54 : Nat), (83 : Nat), (281 : Nat)), ((55 : Nat), (62 : Nat), (83 : Nat), (281 : Nat))]) ∈ lw_all := lw_g (lw_at lw_m5 54 rfl) rfl
theorem q1056 : (Jvm.Cond.classLink "LookAtClock" (283 : Nat) "java/lang/IllegalArgumentException") ∈ lw_all := lw_g (lw_at lw_m5 55 rfl) rfl
theorem q1065 : (Jvm.Cond.methodLink "LookAtClock" (285 : Nat) ({ cls := "java/lang/IllegalArgumentException", name := "<init>", desc := "()V" } : Jvm.MethodName)) ∈ lw_all := lw_g (lw_at lw_m5 64 rfl) rfl
theorem q1071 : (Jvm.Cond.classLink "LookAtClock" (288 : Nat) "java/lang/IllegalStateException") ∈ lw_all := lw_g (lw_at lw_m5 70 rfl) rfl
theorem q1080 : (Jvm.Cond.methodLink "LookAtClock" (290 : Nat) ({ cls := "java/lang/IllegalStateException", name := "<init>", desc := "()V" } : Jvm.MethodName)) ∈ lw_all := lw_g (lw_at lw_m5 79 rfl) rfl
theorem in_X1 : ∀ w ∈ wsX10, w ∈ lw_all := lw_in wsX10 [848, 850, 852, 854, 856, 858] (by decide +kernel) (by decide +kernel)
