/-! DepthSorterModel -/
set_option maxRecDepth 100000
def RX1 : String := "DepthSorterModel"
def TX1 : u_T := fun k => match k with
  | 0 => ("DepthSorterModel", "w", "[I", true)
  | 1 => ("DepthSorterModel", "past", "[I", true)
  | 2 => ("DepthSorterModel", "changes", "I", false)
  | 3 => ("DepthSorterModel", "slots", "[I", true)
  | 4 => ("DepthSorterModel", "filled", "I", false)
  | 5 => ("DepthSorterModel", "text", "[I", true)
  | 6 => ("DepthSorterModel", "length", "I", false)
  | 7 => ("DepthSorterModel", "trial", "[I", true)
  | 8 => ("DepthSorterModel", "steps", "[I", true)
  | 9 => ("DepthSorterModel", "ring", "[I", true)
  | 10 => ("DepthSorterModel", "pieces", "[I", true)
  | 11 => ("DepthSorterModel", "pieceMany", "I", false)
  | 12 => ("DepthSorterModel", "drawn", "[I", true)
  | 13 => ("DepthSorterModel", "drawnMany", "I", false)
  | 14 => ("DepthSorterModel", "isDrawn", "[Z", true)
  | 15 => ("DepthSorterModel", "loop", "[I", true)
  | 16 => ("DepthSorterModel", "loopMany", "I", false)
  | 17 => ("DepthSorterModel", "leavesAt", "I", false)
  | 18 => ("DepthSorterModel", "leavesBy", "I", false)
  | 19 => ("DepthSorterModel", "seenFace", "I", false)
  | 20 => ("DepthSorterModel", "metMany", "I", false)
  | 21 => ("DepthSorterModel", "seenAreas", "[I", true)
  | 22 => ("DepthSorterModel", "covers", "[I", true)
  | 23 => ("DepthSorterModel", "faces", "[I", true)
  | 24 => ("DepthSorterModel", "at", "I", false)
  | 25 => ("DepthSorterModel", "wrong", "I", false)
  | 26 => ("DepthSorterModel", "read", "[I", true)
  | _ => ("DepthSorterModel", "items", "I", false)
def tyX1 : Nat → FieldType := fun k => match k with
  | 0 => .array .int
  | 1 => .array .int
  | 2 => .int
  | 3 => .array .int
  | 4 => .int
  | 5 => .array .int
  | 6 => .int
  | 7 => .array .int
  | 8 => .array .int
  | 9 => .array .int
  | 10 => .array .int
  | 11 => .int
  | 12 => .array .int
  | 13 => .int
  | 14 => .array .boolean
  | 15 => .array .int
  | 16 => .int
  | 17 => .int
  | 18 => .int
  | 19 => .int
  | 20 => .int
  | 21 => .array .int
  | 22 => .array .int
  | 23 => .array .int
  | 24 => .int
  | 25 => .int
  | 26 => .array .int
  | _ => .int
abbrev wsX10 : List Cond := u_ws RX1 TX1 28
set_option maxRecDepth 100000 in
theorem nmX1 : ∀ a, a < 28 → ∀ b, b < 28 → a ≠ b → (TX1 a).2.1 ≠ (TX1 b).2.1 := by decide +kernel
set_option maxRecDepth 100000 in
theorem tyX1_ok : ∀ k, k < 28 → parseFieldDescriptor (TX1 k).2.2.1 = some (tyX1 k) := by decide +kernel
abbrev cX1_init : ByteArray := prog_9_method_1_code
def yX1_init : MethodName := ⟨RX1, "<init>", "()V"⟩
def dkwX1_init_5 : List UInt8 := [188, 10, 181, 0, 50, 42, 16, 84, 188, 10, 181, 0, 53, 42, 3, 181, 0, 56, 177]
abbrev dktX1_init_5 : List UInt8 := dkwX1_init_5 ++ []
def dkwX1_init_4 : List UInt8 := [188, 10, 181, 0, 41, 42, 16, 12, 188, 10, 181, 0, 44, 42, 16, 12, 188, 10, 181, 0, 47, 42, 6]
abbrev dktX1_init_4 : List UInt8 := dkwX1_init_4 ++ dktX1_init_5
def dkwX1_init_3 : List UInt8 := [188, 10, 181, 0, 31, 42, 16, 40, 188, 10, 181, 0, 34, 42, 16, 40, 188, 4, 181, 0, 37, 42, 16, 40]
abbrev dktX1_init_3 : List UInt8 := dkwX1_init_3 ++ dktX1_init_4
def dkwX1_init_2 : List UInt8 := [181, 0, 22, 42, 16, 12, 188, 10, 181, 0, 25, 42, 16, 12, 188, 10, 181, 0, 28, 42, 17, 1, 24]
abbrev dktX1_init_2 : List UInt8 := dkwX1_init_2 ++ dktX1_init_3
def dkwX1_init_1 : List UInt8 := [17, 0, 168, 188, 10, 181, 0, 16, 42, 17, 0, 240, 188, 10, 181, 0, 19, 42, 16, 6, 188, 10]
abbrev dktX1_init_1 : List UInt8 := dkwX1_init_1 ++ dktX1_init_2
def dkwX1_init_0 : List UInt8 := [42, 183, 0, 1, 42, 16, 84, 188, 10, 181, 0, 7, 42, 17, 2, 160, 188, 10, 181, 0, 13, 42]
abbrev dktX1_init_0 : List UInt8 := dkwX1_init_0 ++ dktX1_init_1
theorem dksX1_init_0 : cX1_init.data.toList.drop 0 = dktX1_init_0 := by decide +kernel
theorem dksX1_init_1 : cX1_init.data.toList.drop 22 = dktX1_init_1 := dk_seg dksX1_init_0 22 rfl rfl
theorem dksX1_init_2 : cX1_init.data.toList.drop 44 = dktX1_init_2 := dk_seg dksX1_init_1 22 rfl rfl
theorem dksX1_init_3 : cX1_init.data.toList.drop 67 = dktX1_init_3 := dk_seg dksX1_init_2 23 rfl rfl
theorem dksX1_init_4 : cX1_init.data.toList.drop 91 = dktX1_init_4 := dk_seg dksX1_init_3 24 rfl rfl
theorem dksX1_init_5 : cX1_init.data.toList.drop 114 = dktX1_init_5 := dk_seg dksX1_init_4 23 rfl rfl
theorem dX1_init_0 : decode cX1_init 0 = .ok (.aload_n 0, 1) := dk_42 (dk_at dksX1_init_0 0 rfl rfl)
theorem dX1_init_1 : decode cX1_init 1 = .ok (.invokespecial 1, 3) := dk_183 0 1 (dk_at dksX1_init_0 1 rfl rfl)
theorem dX1_init_4 : decode cX1_init 4 = .ok (.aload_n 0, 1) := dk_42 (dk_at dksX1_init_0 4 rfl rfl)
theorem dX1_init_5 : decode cX1_init 5 = .ok (.bipush 84, 2) := dk_16 84 (dk_at dksX1_init_0 5 rfl rfl)
theorem dX1_init_7 : decode cX1_init 7 = .ok (.newarray .int, 2) := dk_188_10 (dk_at dksX1_init_0 7 rfl rfl)
theorem dX1_init_9 : decode cX1_init 9 = .ok (.putfield 7, 3) := dk_181 0 7 (dk_at dksX1_init_0 9 rfl rfl)
theorem dX1_init_12 : decode cX1_init 12 = .ok (.aload_n 0, 1) := dk_42 (dk_at dksX1_init_0 12 rfl rfl)
theorem dX1_init_13 : decode cX1_init 13 = .ok (.sipush 672, 3) := dk_17 2 160 (dk_at dksX1_init_0 13 rfl rfl)
theorem dX1_init_16 : decode cX1_init 16 = .ok (.newarray .int, 2) := dk_188_10 (dk_at dksX1_init_0 16 rfl rfl)
theorem dX1_init_18 : decode cX1_init 18 = .ok (.putfield 13, 3) := dk_181 0 13 (dk_at dksX1_init_0 18 rfl rfl)
theorem dX1_init_21 : decode cX1_init 21 = .ok (.aload_n 0, 1) := dk_42 (dk_at dksX1_init_0 21 rfl rfl)
theorem dX1_init_22 : decode cX1_init 22 = .ok (.sipush 168, 3) := dk_17 0 168 (dk_at dksX1_init_1 0 rfl rfl)
theorem dX1_init_25 : decode cX1_init 25 = .ok (.newarray .int, 2) := dk_188_10 (dk_at dksX1_init_1 3 rfl rfl)
theorem dX1_init_27 : decode cX1_init 27 = .ok (.putfield 16, 3) := dk_181 0 16 (dk_at dksX1_init_1 5 rfl rfl)
theorem dX1_init_30 : decode cX1_init 30 = .ok (.aload_n 0, 1) := dk_42 (dk_at dksX1_init_1 8 rfl rfl)
theorem dX1_init_31 : decode cX1_init 31 = .ok (.sipush 240, 3) := dk_17 0 240 (dk_at dksX1_init_1 9 rfl rfl)
theorem dX1_init_34 : decode cX1_init 34 = .ok (.newarray .int, 2) := dk_188_10 (dk_at dksX1_init_1 12 rfl rfl)
theorem dX1_init_36 : decode cX1_init 36 = .ok (.putfield 19, 3) := dk_181 0 19 (dk_at dksX1_init_1 14 rfl rfl)
theorem dX1_init_39 : decode cX1_init 39 = .ok (.aload_n 0, 1) := dk_42 (dk_at dksX1_init_1 17 rfl rfl)
theorem dX1_init_40 : decode cX1_init 40 = .ok (.bipush 6, 2) := dk_16 6 (dk_at dksX1_init_1 18 rfl rfl)
theorem dX1_init_42 : decode cX1_init 42 = .ok (.newarray .int, 2) := dk_188_10 (dk_at dksX1_init_1 20 rfl rfl)
theorem dX1_init_44 : decode cX1_init 44 = .ok (.putfield 22, 3) := dk_181 0 22 (dk_at dksX1_init_2 0 rfl rfl)
theorem dX1_init_47 : decode cX1_init 47 = .ok (.aload_n 0, 1) := dk_42 (dk_at dksX1_init_2 3 rfl rfl)
theorem dX1_init_48 : decode cX1_init 48 = .ok (.bipush 12, 2) := dk_16 12 (dk_at dksX1_init_2 4 rfl rfl)
theorem dX1_init_50 : decode cX1_init 50 = .ok (.newarray .int, 2) := dk_188_10 (dk_at dksX1_init_2 6 rfl rfl)
theorem dX1_init_52 : decode cX1_init 52 = .ok (.putfield 25, 3) := dk_181 0 25 (dk_at dksX1_init_2 8 rfl rfl)
theorem dX1_init_55 : decode cX1_init 55 = .ok (.aload_n 0, 1) := dk_42 (dk_at dksX1_init_2 11 rfl rfl)
theorem dX1_init_56 : decode cX1_init 56 = .ok (.bipush 12, 2) := dk_16 12 (dk_at dksX1_init_2 12 rfl rfl)
theorem dX1_init_58 : decode cX1_init 58 = .ok (.newarray .int, 2) := dk_188_10 (dk_at dksX1_init_2 14 rfl rfl)
theorem dX1_init_60 : decode cX1_init 60 = .ok (.putfield 28, 3) := dk_181 0 28 (dk_at dksX1_init_2 16 rfl rfl)
theorem dX1_init_63 : decode cX1_init 63 = .ok (.aload_n 0, 1) := dk_42 (dk_at dksX1_init_2 19 rfl rfl)
theorem dX1_init_64 : decode cX1_init 64 = .ok (.sipush 280, 3) := dk_17 1 24 (dk_at dksX1_init_2 20 rfl rfl)
theorem dX1_init_67 : decode cX1_init 67 = .ok (.newarray .int, 2) := dk_188_10 (dk_at dksX1_init_3 0 rfl rfl)
theorem dX1_init_69 : decode cX1_init 69 = .ok (.putfield 31, 3) := dk_181 0 31 (dk_at dksX1_init_3 2 rfl rfl)
theorem dX1_init_72 : decode cX1_init 72 = .ok (.aload_n 0, 1) := dk_42 (dk_at dksX1_init_3 5 rfl rfl)
theorem dX1_init_73 : decode cX1_init 73 = .ok (.bipush 40, 2) := dk_16 40 (dk_at dksX1_init_3 6 rfl rfl)
theorem dX1_init_75 : decode cX1_init 75 = .ok (.newarray .int, 2) := dk_188_10 (dk_at dksX1_init_3 8 rfl rfl)
theorem dX1_init_77 : decode cX1_init 77 = .ok (.putfield 34, 3) := dk_181 0 34 (dk_at dksX1_init_3 10 rfl rfl)
theorem dX1_init_80 : decode cX1_init 80 = .ok (.aload_n 0, 1) := dk_42 (dk_at dksX1_init_3 13 rfl rfl)
theorem dX1_init_81 : decode cX1_init 81 = .ok (.bipush 40, 2) := dk_16 40 (dk_at dksX1_init_3 14 rfl rfl)
theorem dX1_init_83 : decode cX1_init 83 = .ok (.newarray .boolean, 2) := dk_188_4 (dk_at dksX1_init_3 16 rfl rfl)
theorem dX1_init_85 : decode cX1_init 85 = .ok (.putfield 37, 3) := dk_181 0 37 (dk_at dksX1_init_3 18 rfl rfl)
theorem dX1_init_88 : decode cX1_init 88 = .ok (.aload_n 0, 1) := dk_42 (dk_at dksX1_init_3 21 rfl rfl)
theorem dX1_init_89 : decode cX1_init 89 = .ok (.bipush 40, 2) := dk_16 40 (dk_at dksX1_init_3 22 rfl rfl)
theorem dX1_init_91 : decode cX1_init 91 = .ok (.newarray .int, 2) := dk_188_10 (dk_at dksX1_init_4 0 rfl rfl)
theorem dX1_init_93 : decode cX1_init 93 = .ok (.putfield 41, 3) := dk_181 0 41 (dk_at dksX1_init_4 2 rfl rfl)
theorem dX1_init_96 : decode cX1_init 96 = .ok (.aload_n 0, 1) := dk_42 (dk_at dksX1_init_4 5 rfl rfl)
theorem dX1_init_97 : decode cX1_init 97 = .ok (.bipush 12, 2) := dk_16 12 (dk_at dksX1_init_4 6 rfl rfl)
theorem dX1_init_99 : decode cX1_init 99 = .ok (.newarray .int, 2) := dk_188_10 (dk_at dksX1_init_4 8 rfl rfl)
theorem dX1_init_101 : decode cX1_init 101 = .ok (.putfield 44, 3) := dk_181 0 44 (dk_at dksX1_init_4 10 rfl rfl)
theorem dX1_init_104 : decode cX1_init 104 = .ok (.aload_n 0, 1) := dk_42 (dk_at dksX1_init_4 13 rfl rfl)
theorem dX1_init_105 : decode cX1_init 105 = .ok (.bipush 12, 2) := dk_16 12 (dk_at dksX1_init_4 14 rfl rfl)
theorem dX1_init_107 : decode cX1_init 107 = .ok (.newarray .int, 2) := dk_188_10 (dk_at dksX1_init_4 16 rfl rfl)
theorem dX1_init_109 : decode cX1_init 109 = .ok (.putfield 47, 3) := dk_181 0 47 (dk_at dksX1_init_4 18 rfl rfl)
theorem dX1_init_112 : decode cX1_init 112 = .ok (.aload_n 0, 1) := dk_42 (dk_at dksX1_init_4 21 rfl rfl)
theorem dX1_init_113 : decode cX1_init 113 = .ok (.iconst 3, 1) := dk_6 (dk_at dksX1_init_4 22 rfl rfl)
theorem dX1_init_114 : decode cX1_init 114 = .ok (.newarray .int, 2) := dk_188_10 (dk_at dksX1_init_5 0 rfl rfl)
theorem dX1_init_116 : decode cX1_init 116 = .ok (.putfield 50, 3) := dk_181 0 50 (dk_at dksX1_init_5 2 rfl rfl)
theorem dX1_init_119 : decode cX1_init 119 = .ok (.aload_n 0, 1) := dk_42 (dk_at dksX1_init_5 5 rfl rfl)
theorem dX1_init_120 : decode cX1_init 120 = .ok (.bipush 84, 2) := dk_16 84 (dk_at dksX1_init_5 6 rfl rfl)
theorem dX1_init_122 : decode cX1_init 122 = .ok (.newarray .int, 2) := dk_188_10 (dk_at dksX1_init_5 8 rfl rfl)
theorem dX1_init_124 : decode cX1_init 124 = .ok (.putfield 53, 3) := dk_181 0 53 (dk_at dksX1_init_5 10 rfl rfl)
theorem dX1_init_127 : decode cX1_init 127 = .ok (.aload_n 0, 1) := dk_42 (dk_at dksX1_init_5 13 rfl rfl)
theorem dX1_init_128 : decode cX1_init 128 = .ok (.iconst 0, 1) := dk_3 (dk_at dksX1_init_5 14 rfl rfl)
theorem dX1_init_129 : decode cX1_init 129 = .ok (.putfield 56, 3) := dk_181 0 56 (dk_at dksX1_init_5 15 rfl rfl)
theorem dX1_init_132 : decode cX1_init 132 = .ok (.return_, 1) := dk_177 (dk_at dksX1_init_5 18 rfl rfl)
abbrev cX1_add : ByteArray := prog_9_method_15_code
def yX1_add : MethodName := ⟨RX1, "add", "(IIIIII)I"⟩
def dkwX1_add_2 : List UInt8 := [42, 182, 0, 94, 42, 21, 7, 182, 0, 97, 21, 7, 172]
abbrev dktX1_add_2 : List UInt8 := dkwX1_add_2 ++ []
def dkwX1_add_1 : List UInt8 := [16, 150, 159, 0, 6, 16, 153, 172, 42, 182, 0, 90, 54, 7, 21, 7, 16, 12, 160, 0, 6, 16, 152, 172]
abbrev dktX1_add_1 : List UInt8 := dkwX1_add_1 ++ dktX1_add_2
def dkwX1_add_0 : List UInt8 := [42, 27, 28, 29, 21, 4, 21, 5, 21, 6, 182, 0, 82, 154, 0, 6, 16, 154, 172, 42, 2, 182, 0, 86]
abbrev dktX1_add_0 : List UInt8 := dkwX1_add_0 ++ dktX1_add_1
theorem dksX1_add_0 : cX1_add.data.toList.drop 0 = dktX1_add_0 := by decide +kernel
theorem dksX1_add_1 : cX1_add.data.toList.drop 24 = dktX1_add_1 := dk_seg dksX1_add_0 24 rfl rfl
theorem dksX1_add_2 : cX1_add.data.toList.drop 48 = dktX1_add_2 := dk_seg dksX1_add_1 24 rfl rfl
theorem dX1_add_0 : decode cX1_add 0 = .ok (.aload_n 0, 1) := dk_42 (dk_at dksX1_add_0 0 rfl rfl)
theorem dX1_add_1 : decode cX1_add 1 = .ok (.iload_n 1, 1) := dk_27 (dk_at dksX1_add_0 1 rfl rfl)
theorem dX1_add_2 : decode cX1_add 2 = .ok (.iload_n 2, 1) := dk_28 (dk_at dksX1_add_0 2 rfl rfl)
theorem dX1_add_3 : decode cX1_add 3 = .ok (.iload_n 3, 1) := dk_29 (dk_at dksX1_add_0 3 rfl rfl)
theorem dX1_add_4 : decode cX1_add 4 = .ok (.iload 4, 2) := dk_21 4 (dk_at dksX1_add_0 4 rfl rfl)
theorem dX1_add_6 : decode cX1_add 6 = .ok (.iload 5, 2) := dk_21 5 (dk_at dksX1_add_0 6 rfl rfl)
theorem dX1_add_8 : decode cX1_add 8 = .ok (.iload 6, 2) := dk_21 6 (dk_at dksX1_add_0 8 rfl rfl)
theorem dX1_add_10 : decode cX1_add 10 = .ok (.invokevirtual 82, 3) := dk_182 0 82 (dk_at dksX1_add_0 10 rfl rfl)
theorem dX1_add_13 : decode cX1_add 13 = .ok (.ifCond .ne 6, 3) := dk_154 0 6 (dk_at dksX1_add_0 13 rfl rfl)
theorem dX1_add_16 : decode cX1_add 16 = .ok (.bipush (-102), 2) := dk_16 154 (dk_at dksX1_add_0 16 rfl rfl)
theorem dX1_add_18 : decode cX1_add 18 = .ok (.ireturn, 1) := dk_172 (dk_at dksX1_add_0 18 rfl rfl)
theorem dX1_add_19 : decode cX1_add 19 = .ok (.aload_n 0, 1) := dk_42 (dk_at dksX1_add_0 19 rfl rfl)
theorem dX1_add_20 : decode cX1_add 20 = .ok (.iconst (-1), 1) := dk_2 (dk_at dksX1_add_0 20 rfl rfl)
theorem dX1_add_21 : decode cX1_add 21 = .ok (.invokevirtual 86, 3) := dk_182 0 86 (dk_at dksX1_add_0 21 rfl rfl)
theorem dX1_add_24 : decode cX1_add 24 = .ok (.bipush (-106), 2) := dk_16 150 (dk_at dksX1_add_1 0 rfl rfl)
theorem dX1_add_26 : decode cX1_add 26 = .ok (.if_icmp .eq 6, 3) := dk_159 0 6 (dk_at dksX1_add_1 2 rfl rfl)
theorem dX1_add_29 : decode cX1_add 29 = .ok (.bipush (-103), 2) := dk_16 153 (dk_at dksX1_add_1 5 rfl rfl)
theorem dX1_add_31 : decode cX1_add 31 = .ok (.ireturn, 1) := dk_172 (dk_at dksX1_add_1 7 rfl rfl)
theorem dX1_add_32 : decode cX1_add 32 = .ok (.aload_n 0, 1) := dk_42 (dk_at dksX1_add_1 8 rfl rfl)
theorem dX1_add_33 : decode cX1_add 33 = .ok (.invokevirtual 90, 3) := dk_182 0 90 (dk_at dksX1_add_1 9 rfl rfl)
theorem dX1_add_36 : decode cX1_add 36 = .ok (.istore 7, 2) := dk_54 7 (dk_at dksX1_add_1 12 rfl rfl)
theorem dX1_add_38 : decode cX1_add 38 = .ok (.iload 7, 2) := dk_21 7 (dk_at dksX1_add_1 14 rfl rfl)
theorem dX1_add_40 : decode cX1_add 40 = .ok (.bipush 12, 2) := dk_16 12 (dk_at dksX1_add_1 16 rfl rfl)
theorem dX1_add_42 : decode cX1_add 42 = .ok (.if_icmp .ne 6, 3) := dk_160 0 6 (dk_at dksX1_add_1 18 rfl rfl)
theorem dX1_add_45 : decode cX1_add 45 = .ok (.bipush (-104), 2) := dk_16 152 (dk_at dksX1_add_1 21 rfl rfl)
theorem dX1_add_47 : decode cX1_add 47 = .ok (.ireturn, 1) := dk_172 (dk_at dksX1_add_1 23 rfl rfl)
theorem dX1_add_48 : decode cX1_add 48 = .ok (.aload_n 0, 1) := dk_42 (dk_at dksX1_add_2 0 rfl rfl)
theorem dX1_add_49 : decode cX1_add 49 = .ok (.invokevirtual 94, 3) := dk_182 0 94 (dk_at dksX1_add_2 1 rfl rfl)
theorem dX1_add_52 : decode cX1_add 52 = .ok (.aload_n 0, 1) := dk_42 (dk_at dksX1_add_2 4 rfl rfl)
theorem dX1_add_53 : decode cX1_add 53 = .ok (.iload 7, 2) := dk_21 7 (dk_at dksX1_add_2 5 rfl rfl)
theorem dX1_add_55 : decode cX1_add 55 = .ok (.invokevirtual 97, 3) := dk_182 0 97 (dk_at dksX1_add_2 7 rfl rfl)
theorem dX1_add_58 : decode cX1_add 58 = .ok (.iload 7, 2) := dk_21 7 (dk_at dksX1_add_2 10 rfl rfl)
theorem dX1_add_60 : decode cX1_add 60 = .ok (.ireturn, 1) := dk_172 (dk_at dksX1_add_2 12 rfl rfl)
abbrev cX1_isTrial : ByteArray := prog_9_method_11_code
def yX1_isTrial : MethodName := ⟨RX1, "isTrial", "(IIIIII)Z"⟩
def dkwX1_isTrial_5 : List UInt8 := [172]
abbrev dktX1_isTrial_5 : List UInt8 := dkwX1_isTrial_5 ++ []
def dkwX1_isTrial_4 : List UInt8 := [6, 96, 46, 16, 32, 163, 0, 7, 4, 167, 0, 4, 3, 126, 54, 7, 132, 8, 1, 167, 255, 194, 21, 7]
abbrev dktX1_isTrial_4 : List UInt8 := dkwX1_isTrial_4 ++ dktX1_isTrial_5
def dkwX1_isTrial_3 : List UInt8 := [180, 0, 22, 21, 8, 46, 42, 180, 0, 22, 21, 8, 6, 96, 46, 162, 0, 21, 42, 180, 0, 22, 21, 8]
abbrev dktX1_isTrial_3 : List UInt8 := dkwX1_isTrial_3 ++ dktX1_isTrial_4
def dkwX1_isTrial_2 : List UInt8 := [54, 7, 3, 54, 8, 21, 8, 6, 162, 0, 62, 21, 7, 42, 180, 0, 22, 21, 8, 46, 155, 0, 40, 42]
abbrev dktX1_isTrial_2 : List UInt8 := dkwX1_isTrial_2 ++ dktX1_isTrial_3
def dkwX1_isTrial_1 : List UInt8 := [180, 0, 22, 6, 21, 4, 79, 42, 180, 0, 22, 7, 21, 5, 79, 42, 180, 0, 22, 8, 21, 6, 79, 4]
abbrev dktX1_isTrial_1 : List UInt8 := dkwX1_isTrial_1 ++ dktX1_isTrial_2
def dkwX1_isTrial_0 : List UInt8 := [42, 180, 0, 22, 3, 27, 79, 42, 180, 0, 22, 4, 28, 79, 42, 180, 0, 22, 5, 29, 79, 42]
abbrev dktX1_isTrial_0 : List UInt8 := dkwX1_isTrial_0 ++ dktX1_isTrial_1
theorem dksX1_isTrial_0 : cX1_isTrial.data.toList.drop 0 = dktX1_isTrial_0 := by decide +kernel
theorem dksX1_isTrial_1 : cX1_isTrial.data.toList.drop 22 = dktX1_isTrial_1 := dk_seg dksX1_isTrial_0 22 rfl rfl
theorem dksX1_isTrial_2 : cX1_isTrial.data.toList.drop 46 = dktX1_isTrial_2 := dk_seg dksX1_isTrial_1 24 rfl rfl
theorem dksX1_isTrial_3 : cX1_isTrial.data.toList.drop 70 = dktX1_isTrial_3 := dk_seg dksX1_isTrial_2 24 rfl rfl
theorem dksX1_isTrial_4 : cX1_isTrial.data.toList.drop 94 = dktX1_isTrial_4 := dk_seg dksX1_isTrial_3 24 rfl rfl
theorem dksX1_isTrial_5 : cX1_isTrial.data.toList.drop 118 = dktX1_isTrial_5 := dk_seg dksX1_isTrial_4 24 rfl rfl
theorem dX1_isTrial_0 : decode cX1_isTrial 0 = .ok (.aload_n 0, 1) := dk_42 (dk_at dksX1_isTrial_0 0 rfl rfl)
theorem dX1_isTrial_1 : decode cX1_isTrial 1 = .ok (.getfield 22, 3) := dk_180 0 22 (dk_at dksX1_isTrial_0 1 rfl rfl)
theorem dX1_isTrial_4 : decode cX1_isTrial 4 = .ok (.iconst 0, 1) := dk_3 (dk_at dksX1_isTrial_0 4 rfl rfl)
theorem dX1_isTrial_5 : decode cX1_isTrial 5 = .ok (.iload_n 1, 1) := dk_27 (dk_at dksX1_isTrial_0 5 rfl rfl)
theorem dX1_isTrial_6 : decode cX1_isTrial 6 = .ok (.iastore, 1) := dk_79 (dk_at dksX1_isTrial_0 6 rfl rfl)
theorem dX1_isTrial_7 : decode cX1_isTrial 7 = .ok (.aload_n 0, 1) := dk_42 (dk_at dksX1_isTrial_0 7 rfl rfl)
theorem dX1_isTrial_8 : decode cX1_isTrial 8 = .ok (.getfield 22, 3) := dk_180 0 22 (dk_at dksX1_isTrial_0 8 rfl rfl)
theorem dX1_isTrial_11 : decode cX1_isTrial 11 = .ok (.iconst 1, 1) := dk_4 (dk_at dksX1_isTrial_0 11 rfl rfl)
theorem dX1_isTrial_12 : decode cX1_isTrial 12 = .ok (.iload_n 2, 1) := dk_28 (dk_at dksX1_isTrial_0 12 rfl rfl)
theorem dX1_isTrial_13 : decode cX1_isTrial 13 = .ok (.iastore, 1) := dk_79 (dk_at dksX1_isTrial_0 13 rfl rfl)
theorem dX1_isTrial_14 : decode cX1_isTrial 14 = .ok (.aload_n 0, 1) := dk_42 (dk_at dksX1_isTrial_0 14 rfl rfl)
theorem dX1_isTrial_15 : decode cX1_isTrial 15 = .ok (.getfield 22, 3) := dk_180 0 22 (dk_at dksX1_isTrial_0 15 rfl rfl)
theorem dX1_isTrial_18 : decode cX1_isTrial 18 = .ok (.iconst 2, 1) := dk_5 (dk_at dksX1_isTrial_0 18 rfl rfl)
theorem dX1_isTrial_19 : decode cX1_isTrial 19 = .ok (.iload_n 3, 1) := dk_29 (dk_at dksX1_isTrial_0 19 rfl rfl)
theorem dX1_isTrial_20 : decode cX1_isTrial 20 = .ok (.iastore, 1) := dk_79 (dk_at dksX1_isTrial_0 20 rfl rfl)
theorem dX1_isTrial_21 : decode cX1_isTrial 21 = .ok (.aload_n 0, 1) := dk_42 (dk_at dksX1_isTrial_0 21 rfl rfl)
theorem dX1_isTrial_22 : decode cX1_isTrial 22 = .ok (.getfield 22, 3) := dk_180 0 22 (dk_at dksX1_isTrial_1 0 rfl rfl)
theorem dX1_isTrial_25 : decode cX1_isTrial 25 = .ok (.iconst 3, 1) := dk_6 (dk_at dksX1_isTrial_1 3 rfl rfl)
theorem dX1_isTrial_26 : decode cX1_isTrial 26 = .ok (.iload 4, 2) := dk_21 4 (dk_at dksX1_isTrial_1 4 rfl rfl)
theorem dX1_isTrial_28 : decode cX1_isTrial 28 = .ok (.iastore, 1) := dk_79 (dk_at dksX1_isTrial_1 6 rfl rfl)
theorem dX1_isTrial_29 : decode cX1_isTrial 29 = .ok (.aload_n 0, 1) := dk_42 (dk_at dksX1_isTrial_1 7 rfl rfl)
theorem dX1_isTrial_30 : decode cX1_isTrial 30 = .ok (.getfield 22, 3) := dk_180 0 22 (dk_at dksX1_isTrial_1 8 rfl rfl)
theorem dX1_isTrial_33 : decode cX1_isTrial 33 = .ok (.iconst 4, 1) := dk_7 (dk_at dksX1_isTrial_1 11 rfl rfl)
theorem dX1_isTrial_34 : decode cX1_isTrial 34 = .ok (.iload 5, 2) := dk_21 5 (dk_at dksX1_isTrial_1 12 rfl rfl)
theorem dX1_isTrial_36 : decode cX1_isTrial 36 = .ok (.iastore, 1) := dk_79 (dk_at dksX1_isTrial_1 14 rfl rfl)
theorem dX1_isTrial_37 : decode cX1_isTrial 37 = .ok (.aload_n 0, 1) := dk_42 (dk_at dksX1_isTrial_1 15 rfl rfl)
theorem dX1_isTrial_38 : decode cX1_isTrial 38 = .ok (.getfield 22, 3) := dk_180 0 22 (dk_at dksX1_isTrial_1 16 rfl rfl)
theorem dX1_isTrial_41 : decode cX1_isTrial 41 = .ok (.iconst 5, 1) := dk_8 (dk_at dksX1_isTrial_1 19 rfl rfl)
theorem dX1_isTrial_42 : decode cX1_isTrial 42 = .ok (.iload 6, 2) := dk_21 6 (dk_at dksX1_isTrial_1 20 rfl rfl)
theorem dX1_isTrial_44 : decode cX1_isTrial 44 = .ok (.iastore, 1) := dk_79 (dk_at dksX1_isTrial_1 22 rfl rfl)
theorem dX1_isTrial_45 : decode cX1_isTrial 45 = .ok (.iconst 1, 1) := dk_4 (dk_at dksX1_isTrial_1 23 rfl rfl)
theorem dX1_isTrial_46 : decode cX1_isTrial 46 = .ok (.istore 7, 2) := dk_54 7 (dk_at dksX1_isTrial_2 0 rfl rfl)
theorem dX1_isTrial_48 : decode cX1_isTrial 48 = .ok (.iconst 0, 1) := dk_3 (dk_at dksX1_isTrial_2 2 rfl rfl)
theorem dX1_isTrial_49 : decode cX1_isTrial 49 = .ok (.istore 8, 2) := dk_54 8 (dk_at dksX1_isTrial_2 3 rfl rfl)
theorem dX1_isTrial_51 : decode cX1_isTrial 51 = .ok (.iload 8, 2) := dk_21 8 (dk_at dksX1_isTrial_2 5 rfl rfl)
theorem dX1_isTrial_53 : decode cX1_isTrial 53 = .ok (.iconst 3, 1) := dk_6 (dk_at dksX1_isTrial_2 7 rfl rfl)
theorem dX1_isTrial_54 : decode cX1_isTrial 54 = .ok (.if_icmp .ge 62, 3) := dk_162 0 62 (dk_at dksX1_isTrial_2 8 rfl rfl)
theorem dX1_isTrial_57 : decode cX1_isTrial 57 = .ok (.iload 7, 2) := dk_21 7 (dk_at dksX1_isTrial_2 11 rfl rfl)
theorem dX1_isTrial_59 : decode cX1_isTrial 59 = .ok (.aload_n 0, 1) := dk_42 (dk_at dksX1_isTrial_2 13 rfl rfl)
theorem dX1_isTrial_60 : decode cX1_isTrial 60 = .ok (.getfield 22, 3) := dk_180 0 22 (dk_at dksX1_isTrial_2 14 rfl rfl)
theorem dX1_isTrial_63 : decode cX1_isTrial 63 = .ok (.iload 8, 2) := dk_21 8 (dk_at dksX1_isTrial_2 17 rfl rfl)
theorem dX1_isTrial_65 : decode cX1_isTrial 65 = .ok (.iaload, 1) := dk_46 (dk_at dksX1_isTrial_2 19 rfl rfl)
theorem dX1_isTrial_66 : decode cX1_isTrial 66 = .ok (.ifCond .lt 40, 3) := dk_155 0 40 (dk_at dksX1_isTrial_2 20 rfl rfl)
theorem dX1_isTrial_69 : decode cX1_isTrial 69 = .ok (.aload_n 0, 1) := dk_42 (dk_at dksX1_isTrial_2 23 rfl rfl)
theorem dX1_isTrial_70 : decode cX1_isTrial 70 = .ok (.getfield 22, 3) := dk_180 0 22 (dk_at dksX1_isTrial_3 0 rfl rfl)
theorem dX1_isTrial_73 : decode cX1_isTrial 73 = .ok (.iload 8, 2) := dk_21 8 (dk_at dksX1_isTrial_3 3 rfl rfl)
theorem dX1_isTrial_75 : decode cX1_isTrial 75 = .ok (.iaload, 1) := dk_46 (dk_at dksX1_isTrial_3 5 rfl rfl)
theorem dX1_isTrial_76 : decode cX1_isTrial 76 = .ok (.aload_n 0, 1) := dk_42 (dk_at dksX1_isTrial_3 6 rfl rfl)
theorem dX1_isTrial_77 : decode cX1_isTrial 77 = .ok (.getfield 22, 3) := dk_180 0 22 (dk_at dksX1_isTrial_3 7 rfl rfl)
theorem dX1_isTrial_80 : decode cX1_isTrial 80 = .ok (.iload 8, 2) := dk_21 8 (dk_at dksX1_isTrial_3 10 rfl rfl)
theorem dX1_isTrial_82 : decode cX1_isTrial 82 = .ok (.iconst 3, 1) := dk_6 (dk_at dksX1_isTrial_3 12 rfl rfl)
theorem dX1_isTrial_83 : decode cX1_isTrial 83 = .ok (.iadd, 1) := dk_96 (dk_at dksX1_isTrial_3 13 rfl rfl)
theorem dX1_isTrial_84 : decode cX1_isTrial 84 = .ok (.iaload, 1) := dk_46 (dk_at dksX1_isTrial_3 14 rfl rfl)
theorem dX1_isTrial_85 : decode cX1_isTrial 85 = .ok (.if_icmp .ge 21, 3) := dk_162 0 21 (dk_at dksX1_isTrial_3 15 rfl rfl)
theorem dX1_isTrial_88 : decode cX1_isTrial 88 = .ok (.aload_n 0, 1) := dk_42 (dk_at dksX1_isTrial_3 18 rfl rfl)
theorem dX1_isTrial_89 : decode cX1_isTrial 89 = .ok (.getfield 22, 3) := dk_180 0 22 (dk_at dksX1_isTrial_3 19 rfl rfl)
theorem dX1_isTrial_92 : decode cX1_isTrial 92 = .ok (.iload 8, 2) := dk_21 8 (dk_at dksX1_isTrial_3 22 rfl rfl)
theorem dX1_isTrial_94 : decode cX1_isTrial 94 = .ok (.iconst 3, 1) := dk_6 (dk_at dksX1_isTrial_4 0 rfl rfl)
theorem dX1_isTrial_95 : decode cX1_isTrial 95 = .ok (.iadd, 1) := dk_96 (dk_at dksX1_isTrial_4 1 rfl rfl)
theorem dX1_isTrial_96 : decode cX1_isTrial 96 = .ok (.iaload, 1) := dk_46 (dk_at dksX1_isTrial_4 2 rfl rfl)
theorem dX1_isTrial_97 : decode cX1_isTrial 97 = .ok (.bipush 32, 2) := dk_16 32 (dk_at dksX1_isTrial_4 3 rfl rfl)
theorem dX1_isTrial_99 : decode cX1_isTrial 99 = .ok (.if_icmp .gt 7, 3) := dk_163 0 7 (dk_at dksX1_isTrial_4 5 rfl rfl)
theorem dX1_isTrial_102 : decode cX1_isTrial 102 = .ok (.iconst 1, 1) := dk_4 (dk_at dksX1_isTrial_4 8 rfl rfl)
theorem dX1_isTrial_103 : decode cX1_isTrial 103 = .ok (.goto 4, 3) := dk_167 0 4 (dk_at dksX1_isTrial_4 9 rfl rfl)
theorem dX1_isTrial_106 : decode cX1_isTrial 106 = .ok (.iconst 0, 1) := dk_3 (dk_at dksX1_isTrial_4 12 rfl rfl)
theorem dX1_isTrial_107 : decode cX1_isTrial 107 = .ok (.iand, 1) := dk_126 (dk_at dksX1_isTrial_4 13 rfl rfl)
theorem dX1_isTrial_108 : decode cX1_isTrial 108 = .ok (.istore 7, 2) := dk_54 7 (dk_at dksX1_isTrial_4 14 rfl rfl)
theorem dX1_isTrial_110 : decode cX1_isTrial 110 = .ok (.iinc 8 1, 3) := dk_132 8 1 (dk_at dksX1_isTrial_4 16 rfl rfl)
theorem dX1_isTrial_113 : decode cX1_isTrial 113 = .ok (.goto (-62), 3) := dk_167 255 194 (dk_at dksX1_isTrial_4 19 rfl rfl)
theorem dX1_isTrial_116 : decode cX1_isTrial 116 = .ok (.iload 7, 2) := dk_21 7 (dk_at dksX1_isTrial_4 22 rfl rfl)
theorem dX1_isTrial_118 : decode cX1_isTrial 118 = .ok (.ireturn, 1) := dk_172 (dk_at dksX1_isTrial_5 0 rfl rfl)
abbrev cX1_metByTrial : ByteArray := prog_9_method_12_code
def yX1_metByTrial : MethodName := ⟨RX1, "metByTrial", "(I)I"⟩
def dkwX1_metByTrial_2 : List UInt8 := [132, 3, 255, 167, 255, 211, 28, 172]
abbrev dktX1_metByTrial_2 : List UInt8 := dkwX1_metByTrial_2 ++ []
def dkwX1_metByTrial_1 : List UInt8 := [180, 0, 22, 3, 42, 180, 0, 7, 16, 7, 29, 104, 184, 0, 79, 153, 0, 7, 29, 167, 0, 4, 28, 61]
abbrev dktX1_metByTrial_1 : List UInt8 := dkwX1_metByTrial_1 ++ dktX1_metByTrial_2
def dkwX1_metByTrial_0 : List UInt8 := [16, 150, 61, 16, 11, 62, 29, 155, 0, 47, 29, 27, 159, 0, 34, 42, 29, 182, 0, 75, 153, 0, 26, 42]
abbrev dktX1_metByTrial_0 : List UInt8 := dkwX1_metByTrial_0 ++ dktX1_metByTrial_1
theorem dksX1_metByTrial_0 : cX1_metByTrial.data.toList.drop 0 = dktX1_metByTrial_0 := by decide +kernel
theorem dksX1_metByTrial_1 : cX1_metByTrial.data.toList.drop 24 = dktX1_metByTrial_1 := dk_seg dksX1_metByTrial_0 24 rfl rfl
theorem dksX1_metByTrial_2 : cX1_metByTrial.data.toList.drop 48 = dktX1_metByTrial_2 := dk_seg dksX1_metByTrial_1 24 rfl rfl
theorem dX1_metByTrial_0 : decode cX1_metByTrial 0 = .ok (.bipush (-106), 2) := dk_16 150 (dk_at dksX1_metByTrial_0 0 rfl rfl)
theorem dX1_metByTrial_2 : decode cX1_metByTrial 2 = .ok (.istore_n 2, 1) := dk_61 (dk_at dksX1_metByTrial_0 2 rfl rfl)
theorem dX1_metByTrial_3 : decode cX1_metByTrial 3 = .ok (.bipush 11, 2) := dk_16 11 (dk_at dksX1_metByTrial_0 3 rfl rfl)
theorem dX1_metByTrial_5 : decode cX1_metByTrial 5 = .ok (.istore_n 3, 1) := dk_62 (dk_at dksX1_metByTrial_0 5 rfl rfl)
theorem dX1_metByTrial_6 : decode cX1_metByTrial 6 = .ok (.iload_n 3, 1) := dk_29 (dk_at dksX1_metByTrial_0 6 rfl rfl)
theorem dX1_metByTrial_7 : decode cX1_metByTrial 7 = .ok (.ifCond .lt 47, 3) := dk_155 0 47 (dk_at dksX1_metByTrial_0 7 rfl rfl)
theorem dX1_metByTrial_10 : decode cX1_metByTrial 10 = .ok (.iload_n 3, 1) := dk_29 (dk_at dksX1_metByTrial_0 10 rfl rfl)
theorem dX1_metByTrial_11 : decode cX1_metByTrial 11 = .ok (.iload_n 1, 1) := dk_27 (dk_at dksX1_metByTrial_0 11 rfl rfl)
theorem dX1_metByTrial_12 : decode cX1_metByTrial 12 = .ok (.if_icmp .eq 34, 3) := dk_159 0 34 (dk_at dksX1_metByTrial_0 12 rfl rfl)
theorem dX1_metByTrial_15 : decode cX1_metByTrial 15 = .ok (.aload_n 0, 1) := dk_42 (dk_at dksX1_metByTrial_0 15 rfl rfl)
theorem dX1_metByTrial_16 : decode cX1_metByTrial 16 = .ok (.iload_n 3, 1) := dk_29 (dk_at dksX1_metByTrial_0 16 rfl rfl)
theorem dX1_metByTrial_17 : decode cX1_metByTrial 17 = .ok (.invokevirtual 75, 3) := dk_182 0 75 (dk_at dksX1_metByTrial_0 17 rfl rfl)
theorem dX1_metByTrial_20 : decode cX1_metByTrial 20 = .ok (.ifCond .eq 26, 3) := dk_153 0 26 (dk_at dksX1_metByTrial_0 20 rfl rfl)
theorem dX1_metByTrial_23 : decode cX1_metByTrial 23 = .ok (.aload_n 0, 1) := dk_42 (dk_at dksX1_metByTrial_0 23 rfl rfl)
theorem dX1_metByTrial_24 : decode cX1_metByTrial 24 = .ok (.getfield 22, 3) := dk_180 0 22 (dk_at dksX1_metByTrial_1 0 rfl rfl)
theorem dX1_metByTrial_27 : decode cX1_metByTrial 27 = .ok (.iconst 0, 1) := dk_3 (dk_at dksX1_metByTrial_1 3 rfl rfl)
theorem dX1_metByTrial_28 : decode cX1_metByTrial 28 = .ok (.aload_n 0, 1) := dk_42 (dk_at dksX1_metByTrial_1 4 rfl rfl)
theorem dX1_metByTrial_29 : decode cX1_metByTrial 29 = .ok (.getfield 7, 3) := dk_180 0 7 (dk_at dksX1_metByTrial_1 5 rfl rfl)
theorem dX1_metByTrial_32 : decode cX1_metByTrial 32 = .ok (.bipush 7, 2) := dk_16 7 (dk_at dksX1_metByTrial_1 8 rfl rfl)
theorem dX1_metByTrial_34 : decode cX1_metByTrial 34 = .ok (.iload_n 3, 1) := dk_29 (dk_at dksX1_metByTrial_1 10 rfl rfl)
theorem dX1_metByTrial_35 : decode cX1_metByTrial 35 = .ok (.imul, 1) := dk_104 (dk_at dksX1_metByTrial_1 11 rfl rfl)
theorem dX1_metByTrial_36 : decode cX1_metByTrial 36 = .ok (.invokestatic 79, 3) := dk_184 0 79 (dk_at dksX1_metByTrial_1 12 rfl rfl)
theorem dX1_metByTrial_39 : decode cX1_metByTrial 39 = .ok (.ifCond .eq 7, 3) := dk_153 0 7 (dk_at dksX1_metByTrial_1 15 rfl rfl)
theorem dX1_metByTrial_42 : decode cX1_metByTrial 42 = .ok (.iload_n 3, 1) := dk_29 (dk_at dksX1_metByTrial_1 18 rfl rfl)
theorem dX1_metByTrial_43 : decode cX1_metByTrial 43 = .ok (.goto 4, 3) := dk_167 0 4 (dk_at dksX1_metByTrial_1 19 rfl rfl)
theorem dX1_metByTrial_46 : decode cX1_metByTrial 46 = .ok (.iload_n 2, 1) := dk_28 (dk_at dksX1_metByTrial_1 22 rfl rfl)
theorem dX1_metByTrial_47 : decode cX1_metByTrial 47 = .ok (.istore_n 2, 1) := dk_61 (dk_at dksX1_metByTrial_1 23 rfl rfl)
theorem dX1_metByTrial_48 : decode cX1_metByTrial 48 = .ok (.iinc 3 (-1), 3) := dk_132 3 255 (dk_at dksX1_metByTrial_2 0 rfl rfl)
theorem dX1_metByTrial_51 : decode cX1_metByTrial 51 = .ok (.goto (-45), 3) := dk_167 255 211 (dk_at dksX1_metByTrial_2 3 rfl rfl)
theorem dX1_metByTrial_54 : decode cX1_metByTrial 54 = .ok (.iload_n 2, 1) := dk_28 (dk_at dksX1_metByTrial_2 6 rfl rfl)
theorem dX1_metByTrial_55 : decode cX1_metByTrial 55 = .ok (.ireturn, 1) := dk_172 (dk_at dksX1_metByTrial_2 7 rfl rfl)
abbrev cX1_isBox : ByteArray := prog_9_method_3_code
def yX1_isBox : MethodName := ⟨RX1, "isBox", "(I)Z"⟩
def dkwX1_isBox_1 : List UInt8 := [160, 0, 7, 4, 167, 0, 4, 3, 172]
abbrev dktX1_isBox_1 : List UInt8 := dkwX1_isBox_1 ++ []
def dkwX1_isBox_0 : List UInt8 := [27, 3, 16, 11, 184, 0, 60, 153, 0, 23, 42, 180, 0, 7, 16, 7, 27, 104, 16, 6, 96, 46, 4]
abbrev dktX1_isBox_0 : List UInt8 := dkwX1_isBox_0 ++ dktX1_isBox_1
theorem dksX1_isBox_0 : cX1_isBox.data.toList.drop 0 = dktX1_isBox_0 := by decide +kernel
theorem dksX1_isBox_1 : cX1_isBox.data.toList.drop 23 = dktX1_isBox_1 := dk_seg dksX1_isBox_0 23 rfl rfl
theorem dX1_isBox_0 : decode cX1_isBox 0 = .ok (.iload_n 1, 1) := dk_27 (dk_at dksX1_isBox_0 0 rfl rfl)
theorem dX1_isBox_1 : decode cX1_isBox 1 = .ok (.iconst 0, 1) := dk_3 (dk_at dksX1_isBox_0 1 rfl rfl)
theorem dX1_isBox_2 : decode cX1_isBox 2 = .ok (.bipush 11, 2) := dk_16 11 (dk_at dksX1_isBox_0 2 rfl rfl)
theorem dX1_isBox_4 : decode cX1_isBox 4 = .ok (.invokestatic 60, 3) := dk_184 0 60 (dk_at dksX1_isBox_0 4 rfl rfl)
theorem dX1_isBox_7 : decode cX1_isBox 7 = .ok (.ifCond .eq 23, 3) := dk_153 0 23 (dk_at dksX1_isBox_0 7 rfl rfl)
theorem dX1_isBox_10 : decode cX1_isBox 10 = .ok (.aload_n 0, 1) := dk_42 (dk_at dksX1_isBox_0 10 rfl rfl)
theorem dX1_isBox_11 : decode cX1_isBox 11 = .ok (.getfield 7, 3) := dk_180 0 7 (dk_at dksX1_isBox_0 11 rfl rfl)
theorem dX1_isBox_14 : decode cX1_isBox 14 = .ok (.bipush 7, 2) := dk_16 7 (dk_at dksX1_isBox_0 14 rfl rfl)
theorem dX1_isBox_16 : decode cX1_isBox 16 = .ok (.iload_n 1, 1) := dk_27 (dk_at dksX1_isBox_0 16 rfl rfl)
theorem dX1_isBox_17 : decode cX1_isBox 17 = .ok (.imul, 1) := dk_104 (dk_at dksX1_isBox_0 17 rfl rfl)
theorem dX1_isBox_18 : decode cX1_isBox 18 = .ok (.bipush 6, 2) := dk_16 6 (dk_at dksX1_isBox_0 18 rfl rfl)
theorem dX1_isBox_20 : decode cX1_isBox 20 = .ok (.iadd, 1) := dk_96 (dk_at dksX1_isBox_0 20 rfl rfl)
theorem dX1_isBox_21 : decode cX1_isBox 21 = .ok (.iaload, 1) := dk_46 (dk_at dksX1_isBox_0 21 rfl rfl)
theorem dX1_isBox_22 : decode cX1_isBox 22 = .ok (.iconst 1, 1) := dk_4 (dk_at dksX1_isBox_0 22 rfl rfl)
theorem dX1_isBox_23 : decode cX1_isBox 23 = .ok (.if_icmp .ne 7, 3) := dk_160 0 7 (dk_at dksX1_isBox_1 0 rfl rfl)
theorem dX1_isBox_26 : decode cX1_isBox 26 = .ok (.iconst 1, 1) := dk_4 (dk_at dksX1_isBox_1 3 rfl rfl)
theorem dX1_isBox_27 : decode cX1_isBox 27 = .ok (.goto 4, 3) := dk_167 0 4 (dk_at dksX1_isBox_1 4 rfl rfl)
theorem dX1_isBox_30 : decode cX1_isBox 30 = .ok (.iconst 0, 1) := dk_3 (dk_at dksX1_isBox_1 7 rfl rfl)
theorem dX1_isBox_31 : decode cX1_isBox 31 = .ok (.ireturn, 1) := dk_172 (dk_at dksX1_isBox_1 8 rfl rfl)
abbrev cX1_isIn : ByteArray := prog_9_method_2_code
def yX1_isIn : MethodName := ⟨RX1, "isIn", "(III)Z"⟩
def dkwX1_isIn_0 : List UInt8 := [26, 27, 161, 0, 12, 26, 28, 163, 0, 7, 4, 167, 0, 4, 3, 172]
abbrev dktX1_isIn_0 : List UInt8 := dkwX1_isIn_0 ++ []
theorem dksX1_isIn_0 : cX1_isIn.data.toList.drop 0 = dktX1_isIn_0 := by decide +kernel
theorem dX1_isIn_0 : decode cX1_isIn 0 = .ok (.iload_n 0, 1) := dk_26 (dk_at dksX1_isIn_0 0 rfl rfl)
theorem dX1_isIn_1 : decode cX1_isIn 1 = .ok (.iload_n 1, 1) := dk_27 (dk_at dksX1_isIn_0 1 rfl rfl)
theorem dX1_isIn_2 : decode cX1_isIn 2 = .ok (.if_icmp .lt 12, 3) := dk_161 0 12 (dk_at dksX1_isIn_0 2 rfl rfl)
theorem dX1_isIn_5 : decode cX1_isIn 5 = .ok (.iload_n 0, 1) := dk_26 (dk_at dksX1_isIn_0 5 rfl rfl)
theorem dX1_isIn_6 : decode cX1_isIn 6 = .ok (.iload_n 2, 1) := dk_28 (dk_at dksX1_isIn_0 6 rfl rfl)
theorem dX1_isIn_7 : decode cX1_isIn 7 = .ok (.if_icmp .gt 7, 3) := dk_163 0 7 (dk_at dksX1_isIn_0 7 rfl rfl)
theorem dX1_isIn_10 : decode cX1_isIn 10 = .ok (.iconst 1, 1) := dk_4 (dk_at dksX1_isIn_0 10 rfl rfl)
theorem dX1_isIn_11 : decode cX1_isIn 11 = .ok (.goto 4, 3) := dk_167 0 4 (dk_at dksX1_isIn_0 11 rfl rfl)
theorem dX1_isIn_14 : decode cX1_isIn 14 = .ok (.iconst 0, 1) := dk_3 (dk_at dksX1_isIn_0 14 rfl rfl)
theorem dX1_isIn_15 : decode cX1_isIn 15 = .ok (.ireturn, 1) := dk_172 (dk_at dksX1_isIn_0 15 rfl rfl)
abbrev cX1_doMeet : ByteArray := prog_9_method_5_code
def yX1_doMeet : MethodName := ⟨RX1, "doMeet", "([II[II)Z"⟩
def dkwX1_doMeet_2 : List UInt8 := [4, 167, 0, 4, 3, 126, 54, 4, 132, 5, 1, 167, 255, 203, 21, 4, 172]
abbrev dktX1_doMeet_2 : List UInt8 := dkwX1_doMeet_2 ++ []
def dkwX1_doMeet_1 : List UInt8 := [21, 5, 96, 46, 162, 0, 24, 44, 29, 21, 5, 96, 46, 42, 27, 6, 96, 21, 5, 96, 46, 162, 0, 7]
abbrev dktX1_doMeet_1 : List UInt8 := dkwX1_doMeet_1 ++ dktX1_doMeet_2
def dkwX1_doMeet_0 : List UInt8 := [4, 54, 4, 3, 54, 5, 21, 5, 6, 162, 0, 53, 21, 4, 42, 27, 21, 5, 96, 46, 44, 29, 6, 96]
abbrev dktX1_doMeet_0 : List UInt8 := dkwX1_doMeet_0 ++ dktX1_doMeet_1
theorem dksX1_doMeet_0 : cX1_doMeet.data.toList.drop 0 = dktX1_doMeet_0 := by decide +kernel
theorem dksX1_doMeet_1 : cX1_doMeet.data.toList.drop 24 = dktX1_doMeet_1 := dk_seg dksX1_doMeet_0 24 rfl rfl
theorem dksX1_doMeet_2 : cX1_doMeet.data.toList.drop 48 = dktX1_doMeet_2 := dk_seg dksX1_doMeet_1 24 rfl rfl
theorem dX1_doMeet_0 : decode cX1_doMeet 0 = .ok (.iconst 1, 1) := dk_4 (dk_at dksX1_doMeet_0 0 rfl rfl)
theorem dX1_doMeet_1 : decode cX1_doMeet 1 = .ok (.istore 4, 2) := dk_54 4 (dk_at dksX1_doMeet_0 1 rfl rfl)
theorem dX1_doMeet_3 : decode cX1_doMeet 3 = .ok (.iconst 0, 1) := dk_3 (dk_at dksX1_doMeet_0 3 rfl rfl)
theorem dX1_doMeet_4 : decode cX1_doMeet 4 = .ok (.istore 5, 2) := dk_54 5 (dk_at dksX1_doMeet_0 4 rfl rfl)
theorem dX1_doMeet_6 : decode cX1_doMeet 6 = .ok (.iload 5, 2) := dk_21 5 (dk_at dksX1_doMeet_0 6 rfl rfl)
theorem dX1_doMeet_8 : decode cX1_doMeet 8 = .ok (.iconst 3, 1) := dk_6 (dk_at dksX1_doMeet_0 8 rfl rfl)
theorem dX1_doMeet_9 : decode cX1_doMeet 9 = .ok (.if_icmp .ge 53, 3) := dk_162 0 53 (dk_at dksX1_doMeet_0 9 rfl rfl)
theorem dX1_doMeet_12 : decode cX1_doMeet 12 = .ok (.iload 4, 2) := dk_21 4 (dk_at dksX1_doMeet_0 12 rfl rfl)
theorem dX1_doMeet_14 : decode cX1_doMeet 14 = .ok (.aload_n 0, 1) := dk_42 (dk_at dksX1_doMeet_0 14 rfl rfl)
theorem dX1_doMeet_15 : decode cX1_doMeet 15 = .ok (.iload_n 1, 1) := dk_27 (dk_at dksX1_doMeet_0 15 rfl rfl)
theorem dX1_doMeet_16 : decode cX1_doMeet 16 = .ok (.iload 5, 2) := dk_21 5 (dk_at dksX1_doMeet_0 16 rfl rfl)
theorem dX1_doMeet_18 : decode cX1_doMeet 18 = .ok (.iadd, 1) := dk_96 (dk_at dksX1_doMeet_0 18 rfl rfl)
theorem dX1_doMeet_19 : decode cX1_doMeet 19 = .ok (.iaload, 1) := dk_46 (dk_at dksX1_doMeet_0 19 rfl rfl)
theorem dX1_doMeet_20 : decode cX1_doMeet 20 = .ok (.aload_n 2, 1) := dk_44 (dk_at dksX1_doMeet_0 20 rfl rfl)
theorem dX1_doMeet_21 : decode cX1_doMeet 21 = .ok (.iload_n 3, 1) := dk_29 (dk_at dksX1_doMeet_0 21 rfl rfl)
theorem dX1_doMeet_22 : decode cX1_doMeet 22 = .ok (.iconst 3, 1) := dk_6 (dk_at dksX1_doMeet_0 22 rfl rfl)
theorem dX1_doMeet_23 : decode cX1_doMeet 23 = .ok (.iadd, 1) := dk_96 (dk_at dksX1_doMeet_0 23 rfl rfl)
theorem dX1_doMeet_24 : decode cX1_doMeet 24 = .ok (.iload 5, 2) := dk_21 5 (dk_at dksX1_doMeet_1 0 rfl rfl)
theorem dX1_doMeet_26 : decode cX1_doMeet 26 = .ok (.iadd, 1) := dk_96 (dk_at dksX1_doMeet_1 2 rfl rfl)
theorem dX1_doMeet_27 : decode cX1_doMeet 27 = .ok (.iaload, 1) := dk_46 (dk_at dksX1_doMeet_1 3 rfl rfl)
theorem dX1_doMeet_28 : decode cX1_doMeet 28 = .ok (.if_icmp .ge 24, 3) := dk_162 0 24 (dk_at dksX1_doMeet_1 4 rfl rfl)
theorem dX1_doMeet_31 : decode cX1_doMeet 31 = .ok (.aload_n 2, 1) := dk_44 (dk_at dksX1_doMeet_1 7 rfl rfl)
theorem dX1_doMeet_32 : decode cX1_doMeet 32 = .ok (.iload_n 3, 1) := dk_29 (dk_at dksX1_doMeet_1 8 rfl rfl)
theorem dX1_doMeet_33 : decode cX1_doMeet 33 = .ok (.iload 5, 2) := dk_21 5 (dk_at dksX1_doMeet_1 9 rfl rfl)
theorem dX1_doMeet_35 : decode cX1_doMeet 35 = .ok (.iadd, 1) := dk_96 (dk_at dksX1_doMeet_1 11 rfl rfl)
theorem dX1_doMeet_36 : decode cX1_doMeet 36 = .ok (.iaload, 1) := dk_46 (dk_at dksX1_doMeet_1 12 rfl rfl)
theorem dX1_doMeet_37 : decode cX1_doMeet 37 = .ok (.aload_n 0, 1) := dk_42 (dk_at dksX1_doMeet_1 13 rfl rfl)
theorem dX1_doMeet_38 : decode cX1_doMeet 38 = .ok (.iload_n 1, 1) := dk_27 (dk_at dksX1_doMeet_1 14 rfl rfl)
theorem dX1_doMeet_39 : decode cX1_doMeet 39 = .ok (.iconst 3, 1) := dk_6 (dk_at dksX1_doMeet_1 15 rfl rfl)
theorem dX1_doMeet_40 : decode cX1_doMeet 40 = .ok (.iadd, 1) := dk_96 (dk_at dksX1_doMeet_1 16 rfl rfl)
theorem dX1_doMeet_41 : decode cX1_doMeet 41 = .ok (.iload 5, 2) := dk_21 5 (dk_at dksX1_doMeet_1 17 rfl rfl)
theorem dX1_doMeet_43 : decode cX1_doMeet 43 = .ok (.iadd, 1) := dk_96 (dk_at dksX1_doMeet_1 19 rfl rfl)
theorem dX1_doMeet_44 : decode cX1_doMeet 44 = .ok (.iaload, 1) := dk_46 (dk_at dksX1_doMeet_1 20 rfl rfl)
theorem dX1_doMeet_45 : decode cX1_doMeet 45 = .ok (.if_icmp .ge 7, 3) := dk_162 0 7 (dk_at dksX1_doMeet_1 21 rfl rfl)
theorem dX1_doMeet_48 : decode cX1_doMeet 48 = .ok (.iconst 1, 1) := dk_4 (dk_at dksX1_doMeet_2 0 rfl rfl)
theorem dX1_doMeet_49 : decode cX1_doMeet 49 = .ok (.goto 4, 3) := dk_167 0 4 (dk_at dksX1_doMeet_2 1 rfl rfl)
theorem dX1_doMeet_52 : decode cX1_doMeet 52 = .ok (.iconst 0, 1) := dk_3 (dk_at dksX1_doMeet_2 4 rfl rfl)
theorem dX1_doMeet_53 : decode cX1_doMeet 53 = .ok (.iand, 1) := dk_126 (dk_at dksX1_doMeet_2 5 rfl rfl)
theorem dX1_doMeet_54 : decode cX1_doMeet 54 = .ok (.istore 4, 2) := dk_54 4 (dk_at dksX1_doMeet_2 6 rfl rfl)
theorem dX1_doMeet_56 : decode cX1_doMeet 56 = .ok (.iinc 5 1, 3) := dk_132 5 1 (dk_at dksX1_doMeet_2 8 rfl rfl)
theorem dX1_doMeet_59 : decode cX1_doMeet 59 = .ok (.goto (-53), 3) := dk_167 255 203 (dk_at dksX1_doMeet_2 11 rfl rfl)
theorem dX1_doMeet_62 : decode cX1_doMeet 62 = .ok (.iload 4, 2) := dk_21 4 (dk_at dksX1_doMeet_2 14 rfl rfl)
theorem dX1_doMeet_64 : decode cX1_doMeet 64 = .ok (.ireturn, 1) := dk_172 (dk_at dksX1_doMeet_2 16 rfl rfl)
abbrev cX1_lowestFree : ByteArray := prog_9_method_14_code
def yX1_lowestFree : MethodName := ⟨RX1, "lowestFree", "()I"⟩
def dkwX1_lowestFree_0 : List UInt8 := [3, 60, 27, 16, 12, 162, 0, 17, 42, 27, 182, 0, 75, 153, 0, 9, 132, 1, 1, 167, 255, 239, 27, 172]
abbrev dktX1_lowestFree_0 : List UInt8 := dkwX1_lowestFree_0 ++ []
theorem dksX1_lowestFree_0 : cX1_lowestFree.data.toList.drop 0 = dktX1_lowestFree_0 := by decide +kernel
theorem dX1_lowestFree_0 : decode cX1_lowestFree 0 = .ok (.iconst 0, 1) := dk_3 (dk_at dksX1_lowestFree_0 0 rfl rfl)
theorem dX1_lowestFree_1 : decode cX1_lowestFree 1 = .ok (.istore_n 1, 1) := dk_60 (dk_at dksX1_lowestFree_0 1 rfl rfl)
theorem dX1_lowestFree_2 : decode cX1_lowestFree 2 = .ok (.iload_n 1, 1) := dk_27 (dk_at dksX1_lowestFree_0 2 rfl rfl)
theorem dX1_lowestFree_3 : decode cX1_lowestFree 3 = .ok (.bipush 12, 2) := dk_16 12 (dk_at dksX1_lowestFree_0 3 rfl rfl)
theorem dX1_lowestFree_5 : decode cX1_lowestFree 5 = .ok (.if_icmp .ge 17, 3) := dk_162 0 17 (dk_at dksX1_lowestFree_0 5 rfl rfl)
theorem dX1_lowestFree_8 : decode cX1_lowestFree 8 = .ok (.aload_n 0, 1) := dk_42 (dk_at dksX1_lowestFree_0 8 rfl rfl)
theorem dX1_lowestFree_9 : decode cX1_lowestFree 9 = .ok (.iload_n 1, 1) := dk_27 (dk_at dksX1_lowestFree_0 9 rfl rfl)
theorem dX1_lowestFree_10 : decode cX1_lowestFree 10 = .ok (.invokevirtual 75, 3) := dk_182 0 75 (dk_at dksX1_lowestFree_0 10 rfl rfl)
theorem dX1_lowestFree_13 : decode cX1_lowestFree 13 = .ok (.ifCond .eq 9, 3) := dk_153 0 9 (dk_at dksX1_lowestFree_0 13 rfl rfl)
theorem dX1_lowestFree_16 : decode cX1_lowestFree 16 = .ok (.iinc 1 1, 3) := dk_132 1 1 (dk_at dksX1_lowestFree_0 16 rfl rfl)
theorem dX1_lowestFree_19 : decode cX1_lowestFree 19 = .ok (.goto (-17), 3) := dk_167 255 239 (dk_at dksX1_lowestFree_0 19 rfl rfl)
theorem dX1_lowestFree_22 : decode cX1_lowestFree 22 = .ok (.iload_n 1, 1) := dk_27 (dk_at dksX1_lowestFree_0 22 rfl rfl)
theorem dX1_lowestFree_23 : decode cX1_lowestFree 23 = .ok (.ireturn, 1) := dk_172 (dk_at dksX1_lowestFree_0 23 rfl rfl)
abbrev cX1_keep : ByteArray := prog_9_method_10_code
def yX1_keep : MethodName := ⟨RX1, "keep", "()V"⟩
def dkwX1_keep_3 : List UInt8 := [42, 180, 0, 7, 27, 46, 79, 132, 1, 1, 167, 255, 227, 42, 89, 180, 0, 56, 4, 96, 181, 0, 56, 177]
abbrev dktX1_keep_3 : List UInt8 := dkwX1_keep_3 ++ []
def dkwX1_keep_2 : List UInt8 := [181, 0, 56, 3, 60, 27, 16, 84, 162, 0, 29, 42, 180, 0, 13, 16, 84, 42, 180, 0, 56, 104, 27, 96]
abbrev dktX1_keep_2 : List UInt8 := dkwX1_keep_2 ++ dktX1_keep_3
def dkwX1_keep_1 : List UInt8 := [180, 0, 13, 27, 16, 84, 96, 46, 79, 132, 1, 1, 167, 255, 231, 42, 89, 180, 0, 56, 4, 100]
abbrev dktX1_keep_1 : List UInt8 := dkwX1_keep_1 ++ dktX1_keep_2
def dkwX1_keep_0 : List UInt8 := [42, 180, 0, 56, 16, 8, 160, 0, 43, 3, 60, 27, 17, 2, 76, 162, 0, 24, 42, 180, 0, 13, 27, 42]
abbrev dktX1_keep_0 : List UInt8 := dkwX1_keep_0 ++ dktX1_keep_1
theorem dksX1_keep_0 : cX1_keep.data.toList.drop 0 = dktX1_keep_0 := by decide +kernel
theorem dksX1_keep_1 : cX1_keep.data.toList.drop 24 = dktX1_keep_1 := dk_seg dksX1_keep_0 24 rfl rfl
theorem dksX1_keep_2 : cX1_keep.data.toList.drop 46 = dktX1_keep_2 := dk_seg dksX1_keep_1 22 rfl rfl
theorem dksX1_keep_3 : cX1_keep.data.toList.drop 70 = dktX1_keep_3 := dk_seg dksX1_keep_2 24 rfl rfl
theorem dX1_keep_0 : decode cX1_keep 0 = .ok (.aload_n 0, 1) := dk_42 (dk_at dksX1_keep_0 0 rfl rfl)
theorem dX1_keep_1 : decode cX1_keep 1 = .ok (.getfield 56, 3) := dk_180 0 56 (dk_at dksX1_keep_0 1 rfl rfl)
theorem dX1_keep_4 : decode cX1_keep 4 = .ok (.bipush 8, 2) := dk_16 8 (dk_at dksX1_keep_0 4 rfl rfl)
theorem dX1_keep_6 : decode cX1_keep 6 = .ok (.if_icmp .ne 43, 3) := dk_160 0 43 (dk_at dksX1_keep_0 6 rfl rfl)
theorem dX1_keep_9 : decode cX1_keep 9 = .ok (.iconst 0, 1) := dk_3 (dk_at dksX1_keep_0 9 rfl rfl)
theorem dX1_keep_10 : decode cX1_keep 10 = .ok (.istore_n 1, 1) := dk_60 (dk_at dksX1_keep_0 10 rfl rfl)
theorem dX1_keep_11 : decode cX1_keep 11 = .ok (.iload_n 1, 1) := dk_27 (dk_at dksX1_keep_0 11 rfl rfl)
theorem dX1_keep_12 : decode cX1_keep 12 = .ok (.sipush 588, 3) := dk_17 2 76 (dk_at dksX1_keep_0 12 rfl rfl)
theorem dX1_keep_15 : decode cX1_keep 15 = .ok (.if_icmp .ge 24, 3) := dk_162 0 24 (dk_at dksX1_keep_0 15 rfl rfl)
theorem dX1_keep_18 : decode cX1_keep 18 = .ok (.aload_n 0, 1) := dk_42 (dk_at dksX1_keep_0 18 rfl rfl)
theorem dX1_keep_19 : decode cX1_keep 19 = .ok (.getfield 13, 3) := dk_180 0 13 (dk_at dksX1_keep_0 19 rfl rfl)
theorem dX1_keep_22 : decode cX1_keep 22 = .ok (.iload_n 1, 1) := dk_27 (dk_at dksX1_keep_0 22 rfl rfl)
theorem dX1_keep_23 : decode cX1_keep 23 = .ok (.aload_n 0, 1) := dk_42 (dk_at dksX1_keep_0 23 rfl rfl)
theorem dX1_keep_24 : decode cX1_keep 24 = .ok (.getfield 13, 3) := dk_180 0 13 (dk_at dksX1_keep_1 0 rfl rfl)
theorem dX1_keep_27 : decode cX1_keep 27 = .ok (.iload_n 1, 1) := dk_27 (dk_at dksX1_keep_1 3 rfl rfl)
theorem dX1_keep_28 : decode cX1_keep 28 = .ok (.bipush 84, 2) := dk_16 84 (dk_at dksX1_keep_1 4 rfl rfl)
theorem dX1_keep_30 : decode cX1_keep 30 = .ok (.iadd, 1) := dk_96 (dk_at dksX1_keep_1 6 rfl rfl)
theorem dX1_keep_31 : decode cX1_keep 31 = .ok (.iaload, 1) := dk_46 (dk_at dksX1_keep_1 7 rfl rfl)
theorem dX1_keep_32 : decode cX1_keep 32 = .ok (.iastore, 1) := dk_79 (dk_at dksX1_keep_1 8 rfl rfl)
theorem dX1_keep_33 : decode cX1_keep 33 = .ok (.iinc 1 1, 3) := dk_132 1 1 (dk_at dksX1_keep_1 9 rfl rfl)
theorem dX1_keep_36 : decode cX1_keep 36 = .ok (.goto (-25), 3) := dk_167 255 231 (dk_at dksX1_keep_1 12 rfl rfl)
theorem dX1_keep_39 : decode cX1_keep 39 = .ok (.aload_n 0, 1) := dk_42 (dk_at dksX1_keep_1 15 rfl rfl)
theorem dX1_keep_40 : decode cX1_keep 40 = .ok (.dup, 1) := dk_89 (dk_at dksX1_keep_1 16 rfl rfl)
theorem dX1_keep_41 : decode cX1_keep 41 = .ok (.getfield 56, 3) := dk_180 0 56 (dk_at dksX1_keep_1 17 rfl rfl)
theorem dX1_keep_44 : decode cX1_keep 44 = .ok (.iconst 1, 1) := dk_4 (dk_at dksX1_keep_1 20 rfl rfl)
theorem dX1_keep_45 : decode cX1_keep 45 = .ok (.isub, 1) := dk_100 (dk_at dksX1_keep_1 21 rfl rfl)
theorem dX1_keep_46 : decode cX1_keep 46 = .ok (.putfield 56, 3) := dk_181 0 56 (dk_at dksX1_keep_2 0 rfl rfl)
theorem dX1_keep_49 : decode cX1_keep 49 = .ok (.iconst 0, 1) := dk_3 (dk_at dksX1_keep_2 3 rfl rfl)
theorem dX1_keep_50 : decode cX1_keep 50 = .ok (.istore_n 1, 1) := dk_60 (dk_at dksX1_keep_2 4 rfl rfl)
theorem dX1_keep_51 : decode cX1_keep 51 = .ok (.iload_n 1, 1) := dk_27 (dk_at dksX1_keep_2 5 rfl rfl)
theorem dX1_keep_52 : decode cX1_keep 52 = .ok (.bipush 84, 2) := dk_16 84 (dk_at dksX1_keep_2 6 rfl rfl)
theorem dX1_keep_54 : decode cX1_keep 54 = .ok (.if_icmp .ge 29, 3) := dk_162 0 29 (dk_at dksX1_keep_2 8 rfl rfl)
theorem dX1_keep_57 : decode cX1_keep 57 = .ok (.aload_n 0, 1) := dk_42 (dk_at dksX1_keep_2 11 rfl rfl)
theorem dX1_keep_58 : decode cX1_keep 58 = .ok (.getfield 13, 3) := dk_180 0 13 (dk_at dksX1_keep_2 12 rfl rfl)
theorem dX1_keep_61 : decode cX1_keep 61 = .ok (.bipush 84, 2) := dk_16 84 (dk_at dksX1_keep_2 15 rfl rfl)
theorem dX1_keep_63 : decode cX1_keep 63 = .ok (.aload_n 0, 1) := dk_42 (dk_at dksX1_keep_2 17 rfl rfl)
theorem dX1_keep_64 : decode cX1_keep 64 = .ok (.getfield 56, 3) := dk_180 0 56 (dk_at dksX1_keep_2 18 rfl rfl)
theorem dX1_keep_67 : decode cX1_keep 67 = .ok (.imul, 1) := dk_104 (dk_at dksX1_keep_2 21 rfl rfl)
theorem dX1_keep_68 : decode cX1_keep 68 = .ok (.iload_n 1, 1) := dk_27 (dk_at dksX1_keep_2 22 rfl rfl)
theorem dX1_keep_69 : decode cX1_keep 69 = .ok (.iadd, 1) := dk_96 (dk_at dksX1_keep_2 23 rfl rfl)
theorem dX1_keep_70 : decode cX1_keep 70 = .ok (.aload_n 0, 1) := dk_42 (dk_at dksX1_keep_3 0 rfl rfl)
theorem dX1_keep_71 : decode cX1_keep 71 = .ok (.getfield 7, 3) := dk_180 0 7 (dk_at dksX1_keep_3 1 rfl rfl)
theorem dX1_keep_74 : decode cX1_keep 74 = .ok (.iload_n 1, 1) := dk_27 (dk_at dksX1_keep_3 4 rfl rfl)
theorem dX1_keep_75 : decode cX1_keep 75 = .ok (.iaload, 1) := dk_46 (dk_at dksX1_keep_3 5 rfl rfl)
theorem dX1_keep_76 : decode cX1_keep 76 = .ok (.iastore, 1) := dk_79 (dk_at dksX1_keep_3 6 rfl rfl)
theorem dX1_keep_77 : decode cX1_keep 77 = .ok (.iinc 1 1, 3) := dk_132 1 1 (dk_at dksX1_keep_3 7 rfl rfl)
theorem dX1_keep_80 : decode cX1_keep 80 = .ok (.goto (-29), 3) := dk_167 255 227 (dk_at dksX1_keep_3 10 rfl rfl)
theorem dX1_keep_83 : decode cX1_keep 83 = .ok (.aload_n 0, 1) := dk_42 (dk_at dksX1_keep_3 13 rfl rfl)
theorem dX1_keep_84 : decode cX1_keep 84 = .ok (.dup, 1) := dk_89 (dk_at dksX1_keep_3 14 rfl rfl)
theorem dX1_keep_85 : decode cX1_keep 85 = .ok (.getfield 56, 3) := dk_180 0 56 (dk_at dksX1_keep_3 15 rfl rfl)
theorem dX1_keep_88 : decode cX1_keep 88 = .ok (.iconst 1, 1) := dk_4 (dk_at dksX1_keep_3 18 rfl rfl)
theorem dX1_keep_89 : decode cX1_keep 89 = .ok (.iadd, 1) := dk_96 (dk_at dksX1_keep_3 19 rfl rfl)
theorem dX1_keep_90 : decode cX1_keep 90 = .ok (.putfield 56, 3) := dk_181 0 56 (dk_at dksX1_keep_3 20 rfl rfl)
theorem dX1_keep_93 : decode cX1_keep 93 = .ok (.return_, 1) := dk_177 (dk_at dksX1_keep_3 23 rfl rfl)
abbrev cX1_lay : ByteArray := prog_9_method_13_code
def yX1_lay : MethodName := ⟨RX1, "lay", "(I)V"⟩
def dkwX1_lay_1 : List UInt8 := [79, 132, 2, 1, 167, 255, 230, 42, 180, 0, 7, 16, 7, 27, 104, 16, 6, 96, 4, 79, 177]
abbrev dktX1_lay_1 : List UInt8 := dkwX1_lay_1 ++ []
def dkwX1_lay_0 : List UInt8 := [3, 61, 28, 16, 6, 162, 0, 26, 42, 180, 0, 7, 16, 7, 27, 104, 28, 96, 42, 180, 0, 22, 28, 46]
abbrev dktX1_lay_0 : List UInt8 := dkwX1_lay_0 ++ dktX1_lay_1
theorem dksX1_lay_0 : cX1_lay.data.toList.drop 0 = dktX1_lay_0 := by decide +kernel
theorem dksX1_lay_1 : cX1_lay.data.toList.drop 24 = dktX1_lay_1 := dk_seg dksX1_lay_0 24 rfl rfl
theorem dX1_lay_0 : decode cX1_lay 0 = .ok (.iconst 0, 1) := dk_3 (dk_at dksX1_lay_0 0 rfl rfl)
theorem dX1_lay_1 : decode cX1_lay 1 = .ok (.istore_n 2, 1) := dk_61 (dk_at dksX1_lay_0 1 rfl rfl)
theorem dX1_lay_2 : decode cX1_lay 2 = .ok (.iload_n 2, 1) := dk_28 (dk_at dksX1_lay_0 2 rfl rfl)
theorem dX1_lay_3 : decode cX1_lay 3 = .ok (.bipush 6, 2) := dk_16 6 (dk_at dksX1_lay_0 3 rfl rfl)
theorem dX1_lay_5 : decode cX1_lay 5 = .ok (.if_icmp .ge 26, 3) := dk_162 0 26 (dk_at dksX1_lay_0 5 rfl rfl)
theorem dX1_lay_8 : decode cX1_lay 8 = .ok (.aload_n 0, 1) := dk_42 (dk_at dksX1_lay_0 8 rfl rfl)
theorem dX1_lay_9 : decode cX1_lay 9 = .ok (.getfield 7, 3) := dk_180 0 7 (dk_at dksX1_lay_0 9 rfl rfl)
theorem dX1_lay_12 : decode cX1_lay 12 = .ok (.bipush 7, 2) := dk_16 7 (dk_at dksX1_lay_0 12 rfl rfl)
theorem dX1_lay_14 : decode cX1_lay 14 = .ok (.iload_n 1, 1) := dk_27 (dk_at dksX1_lay_0 14 rfl rfl)
theorem dX1_lay_15 : decode cX1_lay 15 = .ok (.imul, 1) := dk_104 (dk_at dksX1_lay_0 15 rfl rfl)
theorem dX1_lay_16 : decode cX1_lay 16 = .ok (.iload_n 2, 1) := dk_28 (dk_at dksX1_lay_0 16 rfl rfl)
theorem dX1_lay_17 : decode cX1_lay 17 = .ok (.iadd, 1) := dk_96 (dk_at dksX1_lay_0 17 rfl rfl)
theorem dX1_lay_18 : decode cX1_lay 18 = .ok (.aload_n 0, 1) := dk_42 (dk_at dksX1_lay_0 18 rfl rfl)
theorem dX1_lay_19 : decode cX1_lay 19 = .ok (.getfield 22, 3) := dk_180 0 22 (dk_at dksX1_lay_0 19 rfl rfl)
theorem dX1_lay_22 : decode cX1_lay 22 = .ok (.iload_n 2, 1) := dk_28 (dk_at dksX1_lay_0 22 rfl rfl)
theorem dX1_lay_23 : decode cX1_lay 23 = .ok (.iaload, 1) := dk_46 (dk_at dksX1_lay_0 23 rfl rfl)
theorem dX1_lay_24 : decode cX1_lay 24 = .ok (.iastore, 1) := dk_79 (dk_at dksX1_lay_1 0 rfl rfl)
theorem dX1_lay_25 : decode cX1_lay 25 = .ok (.iinc 2 1, 3) := dk_132 2 1 (dk_at dksX1_lay_1 1 rfl rfl)
theorem dX1_lay_28 : decode cX1_lay 28 = .ok (.goto (-26), 3) := dk_167 255 230 (dk_at dksX1_lay_1 4 rfl rfl)
theorem dX1_lay_31 : decode cX1_lay 31 = .ok (.aload_n 0, 1) := dk_42 (dk_at dksX1_lay_1 7 rfl rfl)
theorem dX1_lay_32 : decode cX1_lay 32 = .ok (.getfield 7, 3) := dk_180 0 7 (dk_at dksX1_lay_1 8 rfl rfl)
theorem dX1_lay_35 : decode cX1_lay 35 = .ok (.bipush 7, 2) := dk_16 7 (dk_at dksX1_lay_1 11 rfl rfl)
theorem dX1_lay_37 : decode cX1_lay 37 = .ok (.iload_n 1, 1) := dk_27 (dk_at dksX1_lay_1 13 rfl rfl)
theorem dX1_lay_38 : decode cX1_lay 38 = .ok (.imul, 1) := dk_104 (dk_at dksX1_lay_1 14 rfl rfl)
theorem dX1_lay_39 : decode cX1_lay 39 = .ok (.bipush 6, 2) := dk_16 6 (dk_at dksX1_lay_1 15 rfl rfl)
theorem dX1_lay_41 : decode cX1_lay 41 = .ok (.iadd, 1) := dk_96 (dk_at dksX1_lay_1 17 rfl rfl)
theorem dX1_lay_42 : decode cX1_lay 42 = .ok (.iconst 1, 1) := dk_4 (dk_at dksX1_lay_1 18 rfl rfl)
theorem dX1_lay_43 : decode cX1_lay 43 = .ok (.iastore, 1) := dk_79 (dk_at dksX1_lay_1 19 rfl rfl)
theorem dX1_lay_44 : decode cX1_lay 44 = .ok (.return_, 1) := dk_177 (dk_at dksX1_lay_1 20 rfl rfl)
abbrev cX1_remove : ByteArray := prog_9_method_16_code
def yX1_remove : MethodName := ⟨RX1, "remove", "(I)I"⟩
def dkwX1_remove_1 : List UInt8 := [16, 6, 96, 3, 79, 42, 182, 0, 101, 172]
abbrev dktX1_remove_1 : List UInt8 := dkwX1_remove_1 ++ []
def dkwX1_remove_0 : List UInt8 := [42, 27, 182, 0, 75, 154, 0, 6, 16, 155, 172, 42, 182, 0, 94, 42, 180, 0, 7, 16, 7, 27, 104]
abbrev dktX1_remove_0 : List UInt8 := dkwX1_remove_0 ++ dktX1_remove_1
theorem dksX1_remove_0 : cX1_remove.data.toList.drop 0 = dktX1_remove_0 := by decide +kernel
theorem dksX1_remove_1 : cX1_remove.data.toList.drop 23 = dktX1_remove_1 := dk_seg dksX1_remove_0 23 rfl rfl
theorem dX1_remove_0 : decode cX1_remove 0 = .ok (.aload_n 0, 1) := dk_42 (dk_at dksX1_remove_0 0 rfl rfl)
theorem dX1_remove_1 : decode cX1_remove 1 = .ok (.iload_n 1, 1) := dk_27 (dk_at dksX1_remove_0 1 rfl rfl)
theorem dX1_remove_2 : decode cX1_remove 2 = .ok (.invokevirtual 75, 3) := dk_182 0 75 (dk_at dksX1_remove_0 2 rfl rfl)
theorem dX1_remove_5 : decode cX1_remove 5 = .ok (.ifCond .ne 6, 3) := dk_154 0 6 (dk_at dksX1_remove_0 5 rfl rfl)
theorem dX1_remove_8 : decode cX1_remove 8 = .ok (.bipush (-101), 2) := dk_16 155 (dk_at dksX1_remove_0 8 rfl rfl)
theorem dX1_remove_10 : decode cX1_remove 10 = .ok (.ireturn, 1) := dk_172 (dk_at dksX1_remove_0 10 rfl rfl)
theorem dX1_remove_11 : decode cX1_remove 11 = .ok (.aload_n 0, 1) := dk_42 (dk_at dksX1_remove_0 11 rfl rfl)
theorem dX1_remove_12 : decode cX1_remove 12 = .ok (.invokevirtual 94, 3) := dk_182 0 94 (dk_at dksX1_remove_0 12 rfl rfl)
theorem dX1_remove_15 : decode cX1_remove 15 = .ok (.aload_n 0, 1) := dk_42 (dk_at dksX1_remove_0 15 rfl rfl)
theorem dX1_remove_16 : decode cX1_remove 16 = .ok (.getfield 7, 3) := dk_180 0 7 (dk_at dksX1_remove_0 16 rfl rfl)
theorem dX1_remove_19 : decode cX1_remove 19 = .ok (.bipush 7, 2) := dk_16 7 (dk_at dksX1_remove_0 19 rfl rfl)
theorem dX1_remove_21 : decode cX1_remove 21 = .ok (.iload_n 1, 1) := dk_27 (dk_at dksX1_remove_0 21 rfl rfl)
theorem dX1_remove_22 : decode cX1_remove 22 = .ok (.imul, 1) := dk_104 (dk_at dksX1_remove_0 22 rfl rfl)
theorem dX1_remove_23 : decode cX1_remove 23 = .ok (.bipush 6, 2) := dk_16 6 (dk_at dksX1_remove_1 0 rfl rfl)
theorem dX1_remove_25 : decode cX1_remove 25 = .ok (.iadd, 1) := dk_96 (dk_at dksX1_remove_1 2 rfl rfl)
theorem dX1_remove_26 : decode cX1_remove 26 = .ok (.iconst 0, 1) := dk_3 (dk_at dksX1_remove_1 3 rfl rfl)
theorem dX1_remove_27 : decode cX1_remove 27 = .ok (.iastore, 1) := dk_79 (dk_at dksX1_remove_1 4 rfl rfl)
theorem dX1_remove_28 : decode cX1_remove 28 = .ok (.aload_n 0, 1) := dk_42 (dk_at dksX1_remove_1 5 rfl rfl)
theorem dX1_remove_29 : decode cX1_remove 29 = .ok (.invokevirtual 101, 3) := dk_182 0 101 (dk_at dksX1_remove_1 6 rfl rfl)
theorem dX1_remove_32 : decode cX1_remove 32 = .ok (.ireturn, 1) := dk_172 (dk_at dksX1_remove_1 9 rfl rfl)
abbrev cX1_boxes : ByteArray := prog_9_method_22_code
def yX1_boxes : MethodName := ⟨RX1, "boxes", "()I"⟩
def dkwX1_boxes_1 : List UInt8 := [60, 132, 2, 1, 167, 255, 232, 27, 172]
abbrev dktX1_boxes_1 : List UInt8 := dkwX1_boxes_1 ++ []
def dkwX1_boxes_0 : List UInt8 := [3, 60, 3, 61, 28, 16, 12, 162, 0, 24, 27, 42, 180, 0, 7, 16, 7, 28, 104, 16, 6, 96, 46, 96]
abbrev dktX1_boxes_0 : List UInt8 := dkwX1_boxes_0 ++ dktX1_boxes_1
theorem dksX1_boxes_0 : cX1_boxes.data.toList.drop 0 = dktX1_boxes_0 := by decide +kernel
theorem dksX1_boxes_1 : cX1_boxes.data.toList.drop 24 = dktX1_boxes_1 := dk_seg dksX1_boxes_0 24 rfl rfl
theorem dX1_boxes_0 : decode cX1_boxes 0 = .ok (.iconst 0, 1) := dk_3 (dk_at dksX1_boxes_0 0 rfl rfl)
theorem dX1_boxes_1 : decode cX1_boxes 1 = .ok (.istore_n 1, 1) := dk_60 (dk_at dksX1_boxes_0 1 rfl rfl)
theorem dX1_boxes_2 : decode cX1_boxes 2 = .ok (.iconst 0, 1) := dk_3 (dk_at dksX1_boxes_0 2 rfl rfl)
theorem dX1_boxes_3 : decode cX1_boxes 3 = .ok (.istore_n 2, 1) := dk_61 (dk_at dksX1_boxes_0 3 rfl rfl)
theorem dX1_boxes_4 : decode cX1_boxes 4 = .ok (.iload_n 2, 1) := dk_28 (dk_at dksX1_boxes_0 4 rfl rfl)
theorem dX1_boxes_5 : decode cX1_boxes 5 = .ok (.bipush 12, 2) := dk_16 12 (dk_at dksX1_boxes_0 5 rfl rfl)
theorem dX1_boxes_7 : decode cX1_boxes 7 = .ok (.if_icmp .ge 24, 3) := dk_162 0 24 (dk_at dksX1_boxes_0 7 rfl rfl)
theorem dX1_boxes_10 : decode cX1_boxes 10 = .ok (.iload_n 1, 1) := dk_27 (dk_at dksX1_boxes_0 10 rfl rfl)
theorem dX1_boxes_11 : decode cX1_boxes 11 = .ok (.aload_n 0, 1) := dk_42 (dk_at dksX1_boxes_0 11 rfl rfl)
theorem dX1_boxes_12 : decode cX1_boxes 12 = .ok (.getfield 7, 3) := dk_180 0 7 (dk_at dksX1_boxes_0 12 rfl rfl)
theorem dX1_boxes_15 : decode cX1_boxes 15 = .ok (.bipush 7, 2) := dk_16 7 (dk_at dksX1_boxes_0 15 rfl rfl)
theorem dX1_boxes_17 : decode cX1_boxes 17 = .ok (.iload_n 2, 1) := dk_28 (dk_at dksX1_boxes_0 17 rfl rfl)
theorem dX1_boxes_18 : decode cX1_boxes 18 = .ok (.imul, 1) := dk_104 (dk_at dksX1_boxes_0 18 rfl rfl)
theorem dX1_boxes_19 : decode cX1_boxes 19 = .ok (.bipush 6, 2) := dk_16 6 (dk_at dksX1_boxes_0 19 rfl rfl)
theorem dX1_boxes_21 : decode cX1_boxes 21 = .ok (.iadd, 1) := dk_96 (dk_at dksX1_boxes_0 21 rfl rfl)
theorem dX1_boxes_22 : decode cX1_boxes 22 = .ok (.iaload, 1) := dk_46 (dk_at dksX1_boxes_0 22 rfl rfl)
theorem dX1_boxes_23 : decode cX1_boxes 23 = .ok (.iadd, 1) := dk_96 (dk_at dksX1_boxes_0 23 rfl rfl)
theorem dX1_boxes_24 : decode cX1_boxes 24 = .ok (.istore_n 1, 1) := dk_60 (dk_at dksX1_boxes_1 0 rfl rfl)
theorem dX1_boxes_25 : decode cX1_boxes 25 = .ok (.iinc 2 1, 3) := dk_132 2 1 (dk_at dksX1_boxes_1 1 rfl rfl)
theorem dX1_boxes_28 : decode cX1_boxes 28 = .ok (.goto (-24), 3) := dk_167 255 232 (dk_at dksX1_boxes_1 4 rfl rfl)
theorem dX1_boxes_31 : decode cX1_boxes 31 = .ok (.iload_n 1, 1) := dk_27 (dk_at dksX1_boxes_1 7 rfl rfl)
theorem dX1_boxes_32 : decode cX1_boxes 32 = .ok (.ireturn, 1) := dk_172 (dk_at dksX1_boxes_1 8 rfl rfl)
abbrev cX1_move : ByteArray := prog_9_method_17_code
def yX1_move : MethodName := ⟨RX1, "move", "(IIII)I"⟩
def dkwX1_move_6 : List UInt8 := [182, 0, 108, 21, 5, 100, 172]
abbrev dktX1_move_6 : List UInt8 := dkwX1_move_6 ++ []
def dkwX1_move_5 : List UInt8 := [159, 0, 6, 16, 153, 172, 42, 182, 0, 108, 54, 5, 42, 182, 0, 94, 42, 27, 182, 0, 97, 42]
abbrev dktX1_move_5 : List UInt8 := dkwX1_move_5 ++ dktX1_move_6
def dkwX1_move_4 : List UInt8 := [182, 0, 104, 21, 4, 96, 182, 0, 82, 154, 0, 6, 16, 151, 172, 42, 27, 182, 0, 86, 16, 150]
abbrev dktX1_move_4 : List UInt8 := dkwX1_move_4 ++ dktX1_move_5
def dkwX1_move_3 : List UInt8 := [21, 4, 96, 42, 27, 6, 182, 0, 104, 28, 96, 42, 27, 7, 182, 0, 104, 29, 96, 42, 27, 8]
abbrev dktX1_move_3 : List UInt8 := dkwX1_move_3 ++ dktX1_move_4
def dkwX1_move_2 : List UInt8 := [172, 42, 42, 27, 3, 182, 0, 104, 28, 96, 42, 27, 4, 182, 0, 104, 29, 96, 42, 27, 5, 182, 0, 104]
abbrev dktX1_move_2 : List UInt8 := dkwX1_move_2 ++ dktX1_move_3
def dkwX1_move_1 : List UInt8 := [16, 224, 16, 32, 184, 0, 60, 153, 0, 15, 21, 4, 16, 224, 16, 32, 184, 0, 60, 154, 0, 6, 16, 154]
abbrev dktX1_move_1 : List UInt8 := dkwX1_move_1 ++ dktX1_move_2
def dkwX1_move_0 : List UInt8 := [42, 27, 182, 0, 75, 154, 0, 6, 16, 155, 172, 28, 16, 224, 16, 32, 184, 0, 60, 153, 0, 26, 29]
abbrev dktX1_move_0 : List UInt8 := dkwX1_move_0 ++ dktX1_move_1
theorem dksX1_move_0 : cX1_move.data.toList.drop 0 = dktX1_move_0 := by decide +kernel
theorem dksX1_move_1 : cX1_move.data.toList.drop 23 = dktX1_move_1 := dk_seg dksX1_move_0 23 rfl rfl
theorem dksX1_move_2 : cX1_move.data.toList.drop 47 = dktX1_move_2 := dk_seg dksX1_move_1 24 rfl rfl
theorem dksX1_move_3 : cX1_move.data.toList.drop 71 = dktX1_move_3 := dk_seg dksX1_move_2 24 rfl rfl
theorem dksX1_move_4 : cX1_move.data.toList.drop 93 = dktX1_move_4 := dk_seg dksX1_move_3 22 rfl rfl
theorem dksX1_move_5 : cX1_move.data.toList.drop 115 = dktX1_move_5 := dk_seg dksX1_move_4 22 rfl rfl
theorem dksX1_move_6 : cX1_move.data.toList.drop 137 = dktX1_move_6 := dk_seg dksX1_move_5 22 rfl rfl
theorem dX1_move_0 : decode cX1_move 0 = .ok (.aload_n 0, 1) := dk_42 (dk_at dksX1_move_0 0 rfl rfl)
theorem dX1_move_1 : decode cX1_move 1 = .ok (.iload_n 1, 1) := dk_27 (dk_at dksX1_move_0 1 rfl rfl)
theorem dX1_move_2 : decode cX1_move 2 = .ok (.invokevirtual 75, 3) := dk_182 0 75 (dk_at dksX1_move_0 2 rfl rfl)
theorem dX1_move_5 : decode cX1_move 5 = .ok (.ifCond .ne 6, 3) := dk_154 0 6 (dk_at dksX1_move_0 5 rfl rfl)
theorem dX1_move_8 : decode cX1_move 8 = .ok (.bipush (-101), 2) := dk_16 155 (dk_at dksX1_move_0 8 rfl rfl)
theorem dX1_move_10 : decode cX1_move 10 = .ok (.ireturn, 1) := dk_172 (dk_at dksX1_move_0 10 rfl rfl)
theorem dX1_move_11 : decode cX1_move 11 = .ok (.iload_n 2, 1) := dk_28 (dk_at dksX1_move_0 11 rfl rfl)
theorem dX1_move_12 : decode cX1_move 12 = .ok (.bipush (-32), 2) := dk_16 224 (dk_at dksX1_move_0 12 rfl rfl)
theorem dX1_move_14 : decode cX1_move 14 = .ok (.bipush 32, 2) := dk_16 32 (dk_at dksX1_move_0 14 rfl rfl)
theorem dX1_move_16 : decode cX1_move 16 = .ok (.invokestatic 60, 3) := dk_184 0 60 (dk_at dksX1_move_0 16 rfl rfl)
theorem dX1_move_19 : decode cX1_move 19 = .ok (.ifCond .eq 26, 3) := dk_153 0 26 (dk_at dksX1_move_0 19 rfl rfl)
theorem dX1_move_22 : decode cX1_move 22 = .ok (.iload_n 3, 1) := dk_29 (dk_at dksX1_move_0 22 rfl rfl)
theorem dX1_move_23 : decode cX1_move 23 = .ok (.bipush (-32), 2) := dk_16 224 (dk_at dksX1_move_1 0 rfl rfl)
theorem dX1_move_25 : decode cX1_move 25 = .ok (.bipush 32, 2) := dk_16 32 (dk_at dksX1_move_1 2 rfl rfl)
theorem dX1_move_27 : decode cX1_move 27 = .ok (.invokestatic 60, 3) := dk_184 0 60 (dk_at dksX1_move_1 4 rfl rfl)
theorem dX1_move_30 : decode cX1_move 30 = .ok (.ifCond .eq 15, 3) := dk_153 0 15 (dk_at dksX1_move_1 7 rfl rfl)
theorem dX1_move_33 : decode cX1_move 33 = .ok (.iload 4, 2) := dk_21 4 (dk_at dksX1_move_1 10 rfl rfl)
theorem dX1_move_35 : decode cX1_move 35 = .ok (.bipush (-32), 2) := dk_16 224 (dk_at dksX1_move_1 12 rfl rfl)
theorem dX1_move_37 : decode cX1_move 37 = .ok (.bipush 32, 2) := dk_16 32 (dk_at dksX1_move_1 14 rfl rfl)
theorem dX1_move_39 : decode cX1_move 39 = .ok (.invokestatic 60, 3) := dk_184 0 60 (dk_at dksX1_move_1 16 rfl rfl)
theorem dX1_move_42 : decode cX1_move 42 = .ok (.ifCond .ne 6, 3) := dk_154 0 6 (dk_at dksX1_move_1 19 rfl rfl)
theorem dX1_move_45 : decode cX1_move 45 = .ok (.bipush (-102), 2) := dk_16 154 (dk_at dksX1_move_1 22 rfl rfl)
theorem dX1_move_47 : decode cX1_move 47 = .ok (.ireturn, 1) := dk_172 (dk_at dksX1_move_2 0 rfl rfl)
theorem dX1_move_48 : decode cX1_move 48 = .ok (.aload_n 0, 1) := dk_42 (dk_at dksX1_move_2 1 rfl rfl)
theorem dX1_move_49 : decode cX1_move 49 = .ok (.aload_n 0, 1) := dk_42 (dk_at dksX1_move_2 2 rfl rfl)
theorem dX1_move_50 : decode cX1_move 50 = .ok (.iload_n 1, 1) := dk_27 (dk_at dksX1_move_2 3 rfl rfl)
theorem dX1_move_51 : decode cX1_move 51 = .ok (.iconst 0, 1) := dk_3 (dk_at dksX1_move_2 4 rfl rfl)
theorem dX1_move_52 : decode cX1_move 52 = .ok (.invokevirtual 104, 3) := dk_182 0 104 (dk_at dksX1_move_2 5 rfl rfl)
theorem dX1_move_55 : decode cX1_move 55 = .ok (.iload_n 2, 1) := dk_28 (dk_at dksX1_move_2 8 rfl rfl)
theorem dX1_move_56 : decode cX1_move 56 = .ok (.iadd, 1) := dk_96 (dk_at dksX1_move_2 9 rfl rfl)
theorem dX1_move_57 : decode cX1_move 57 = .ok (.aload_n 0, 1) := dk_42 (dk_at dksX1_move_2 10 rfl rfl)
theorem dX1_move_58 : decode cX1_move 58 = .ok (.iload_n 1, 1) := dk_27 (dk_at dksX1_move_2 11 rfl rfl)
theorem dX1_move_59 : decode cX1_move 59 = .ok (.iconst 1, 1) := dk_4 (dk_at dksX1_move_2 12 rfl rfl)
theorem dX1_move_60 : decode cX1_move 60 = .ok (.invokevirtual 104, 3) := dk_182 0 104 (dk_at dksX1_move_2 13 rfl rfl)
theorem dX1_move_63 : decode cX1_move 63 = .ok (.iload_n 3, 1) := dk_29 (dk_at dksX1_move_2 16 rfl rfl)
theorem dX1_move_64 : decode cX1_move 64 = .ok (.iadd, 1) := dk_96 (dk_at dksX1_move_2 17 rfl rfl)
theorem dX1_move_65 : decode cX1_move 65 = .ok (.aload_n 0, 1) := dk_42 (dk_at dksX1_move_2 18 rfl rfl)
theorem dX1_move_66 : decode cX1_move 66 = .ok (.iload_n 1, 1) := dk_27 (dk_at dksX1_move_2 19 rfl rfl)
theorem dX1_move_67 : decode cX1_move 67 = .ok (.iconst 2, 1) := dk_5 (dk_at dksX1_move_2 20 rfl rfl)
theorem dX1_move_68 : decode cX1_move 68 = .ok (.invokevirtual 104, 3) := dk_182 0 104 (dk_at dksX1_move_2 21 rfl rfl)
theorem dX1_move_71 : decode cX1_move 71 = .ok (.iload 4, 2) := dk_21 4 (dk_at dksX1_move_3 0 rfl rfl)
theorem dX1_move_73 : decode cX1_move 73 = .ok (.iadd, 1) := dk_96 (dk_at dksX1_move_3 2 rfl rfl)
theorem dX1_move_74 : decode cX1_move 74 = .ok (.aload_n 0, 1) := dk_42 (dk_at dksX1_move_3 3 rfl rfl)
theorem dX1_move_75 : decode cX1_move 75 = .ok (.iload_n 1, 1) := dk_27 (dk_at dksX1_move_3 4 rfl rfl)
theorem dX1_move_76 : decode cX1_move 76 = .ok (.iconst 3, 1) := dk_6 (dk_at dksX1_move_3 5 rfl rfl)
theorem dX1_move_77 : decode cX1_move 77 = .ok (.invokevirtual 104, 3) := dk_182 0 104 (dk_at dksX1_move_3 6 rfl rfl)
theorem dX1_move_80 : decode cX1_move 80 = .ok (.iload_n 2, 1) := dk_28 (dk_at dksX1_move_3 9 rfl rfl)
theorem dX1_move_81 : decode cX1_move 81 = .ok (.iadd, 1) := dk_96 (dk_at dksX1_move_3 10 rfl rfl)
theorem dX1_move_82 : decode cX1_move 82 = .ok (.aload_n 0, 1) := dk_42 (dk_at dksX1_move_3 11 rfl rfl)
theorem dX1_move_83 : decode cX1_move 83 = .ok (.iload_n 1, 1) := dk_27 (dk_at dksX1_move_3 12 rfl rfl)
theorem dX1_move_84 : decode cX1_move 84 = .ok (.iconst 4, 1) := dk_7 (dk_at dksX1_move_3 13 rfl rfl)
theorem dX1_move_85 : decode cX1_move 85 = .ok (.invokevirtual 104, 3) := dk_182 0 104 (dk_at dksX1_move_3 14 rfl rfl)
theorem dX1_move_88 : decode cX1_move 88 = .ok (.iload_n 3, 1) := dk_29 (dk_at dksX1_move_3 17 rfl rfl)
theorem dX1_move_89 : decode cX1_move 89 = .ok (.iadd, 1) := dk_96 (dk_at dksX1_move_3 18 rfl rfl)
theorem dX1_move_90 : decode cX1_move 90 = .ok (.aload_n 0, 1) := dk_42 (dk_at dksX1_move_3 19 rfl rfl)
theorem dX1_move_91 : decode cX1_move 91 = .ok (.iload_n 1, 1) := dk_27 (dk_at dksX1_move_3 20 rfl rfl)
theorem dX1_move_92 : decode cX1_move 92 = .ok (.iconst 5, 1) := dk_8 (dk_at dksX1_move_3 21 rfl rfl)
theorem dX1_move_93 : decode cX1_move 93 = .ok (.invokevirtual 104, 3) := dk_182 0 104 (dk_at dksX1_move_4 0 rfl rfl)
theorem dX1_move_96 : decode cX1_move 96 = .ok (.iload 4, 2) := dk_21 4 (dk_at dksX1_move_4 3 rfl rfl)
theorem dX1_move_98 : decode cX1_move 98 = .ok (.iadd, 1) := dk_96 (dk_at dksX1_move_4 5 rfl rfl)
theorem dX1_move_99 : decode cX1_move 99 = .ok (.invokevirtual 82, 3) := dk_182 0 82 (dk_at dksX1_move_4 6 rfl rfl)
theorem dX1_move_102 : decode cX1_move 102 = .ok (.ifCond .ne 6, 3) := dk_154 0 6 (dk_at dksX1_move_4 9 rfl rfl)
theorem dX1_move_105 : decode cX1_move 105 = .ok (.bipush (-105), 2) := dk_16 151 (dk_at dksX1_move_4 12 rfl rfl)
theorem dX1_move_107 : decode cX1_move 107 = .ok (.ireturn, 1) := dk_172 (dk_at dksX1_move_4 14 rfl rfl)
theorem dX1_move_108 : decode cX1_move 108 = .ok (.aload_n 0, 1) := dk_42 (dk_at dksX1_move_4 15 rfl rfl)
theorem dX1_move_109 : decode cX1_move 109 = .ok (.iload_n 1, 1) := dk_27 (dk_at dksX1_move_4 16 rfl rfl)
theorem dX1_move_110 : decode cX1_move 110 = .ok (.invokevirtual 86, 3) := dk_182 0 86 (dk_at dksX1_move_4 17 rfl rfl)
theorem dX1_move_113 : decode cX1_move 113 = .ok (.bipush (-106), 2) := dk_16 150 (dk_at dksX1_move_4 20 rfl rfl)
theorem dX1_move_115 : decode cX1_move 115 = .ok (.if_icmp .eq 6, 3) := dk_159 0 6 (dk_at dksX1_move_5 0 rfl rfl)
theorem dX1_move_118 : decode cX1_move 118 = .ok (.bipush (-103), 2) := dk_16 153 (dk_at dksX1_move_5 3 rfl rfl)
theorem dX1_move_120 : decode cX1_move 120 = .ok (.ireturn, 1) := dk_172 (dk_at dksX1_move_5 5 rfl rfl)
theorem dX1_move_121 : decode cX1_move 121 = .ok (.aload_n 0, 1) := dk_42 (dk_at dksX1_move_5 6 rfl rfl)
theorem dX1_move_122 : decode cX1_move 122 = .ok (.invokevirtual 108, 3) := dk_182 0 108 (dk_at dksX1_move_5 7 rfl rfl)
theorem dX1_move_125 : decode cX1_move 125 = .ok (.istore 5, 2) := dk_54 5 (dk_at dksX1_move_5 10 rfl rfl)
theorem dX1_move_127 : decode cX1_move 127 = .ok (.aload_n 0, 1) := dk_42 (dk_at dksX1_move_5 12 rfl rfl)
theorem dX1_move_128 : decode cX1_move 128 = .ok (.invokevirtual 94, 3) := dk_182 0 94 (dk_at dksX1_move_5 13 rfl rfl)
theorem dX1_move_131 : decode cX1_move 131 = .ok (.aload_n 0, 1) := dk_42 (dk_at dksX1_move_5 16 rfl rfl)
theorem dX1_move_132 : decode cX1_move 132 = .ok (.iload_n 1, 1) := dk_27 (dk_at dksX1_move_5 17 rfl rfl)
theorem dX1_move_133 : decode cX1_move 133 = .ok (.invokevirtual 97, 3) := dk_182 0 97 (dk_at dksX1_move_5 18 rfl rfl)
theorem dX1_move_136 : decode cX1_move 136 = .ok (.aload_n 0, 1) := dk_42 (dk_at dksX1_move_5 21 rfl rfl)
theorem dX1_move_137 : decode cX1_move 137 = .ok (.invokevirtual 108, 3) := dk_182 0 108 (dk_at dksX1_move_6 0 rfl rfl)
theorem dX1_move_140 : decode cX1_move 140 = .ok (.iload 5, 2) := dk_21 5 (dk_at dksX1_move_6 3 rfl rfl)
theorem dX1_move_142 : decode cX1_move 142 = .ok (.isub, 1) := dk_100 (dk_at dksX1_move_6 5 rfl rfl)
theorem dX1_move_143 : decode cX1_move 143 = .ok (.ireturn, 1) := dk_172 (dk_at dksX1_move_6 6 rfl rfl)
abbrev cX1_of : ByteArray := prog_9_method_4_code
def yX1_of : MethodName := ⟨RX1, "of", "(II)I"⟩
def dkwX1_of_0 : List UInt8 := [42, 180, 0, 7, 16, 7, 27, 104, 28, 96, 46, 172]
abbrev dktX1_of_0 : List UInt8 := dkwX1_of_0 ++ []
theorem dksX1_of_0 : cX1_of.data.toList.drop 0 = dktX1_of_0 := by decide +kernel
theorem dX1_of_0 : decode cX1_of 0 = .ok (.aload_n 0, 1) := dk_42 (dk_at dksX1_of_0 0 rfl rfl)
theorem dX1_of_1 : decode cX1_of 1 = .ok (.getfield 7, 3) := dk_180 0 7 (dk_at dksX1_of_0 1 rfl rfl)
theorem dX1_of_4 : decode cX1_of 4 = .ok (.bipush 7, 2) := dk_16 7 (dk_at dksX1_of_0 4 rfl rfl)
theorem dX1_of_6 : decode cX1_of 6 = .ok (.iload_n 1, 1) := dk_27 (dk_at dksX1_of_0 6 rfl rfl)
theorem dX1_of_7 : decode cX1_of 7 = .ok (.imul, 1) := dk_104 (dk_at dksX1_of_0 7 rfl rfl)
theorem dX1_of_8 : decode cX1_of 8 = .ok (.iload_n 2, 1) := dk_28 (dk_at dksX1_of_0 8 rfl rfl)
theorem dX1_of_9 : decode cX1_of 9 = .ok (.iadd, 1) := dk_96 (dk_at dksX1_of_0 9 rfl rfl)
theorem dX1_of_10 : decode cX1_of 10 = .ok (.iaload, 1) := dk_46 (dk_at dksX1_of_0 10 rfl rfl)
theorem dX1_of_11 : decode cX1_of 11 = .ok (.ireturn, 1) := dk_172 (dk_at dksX1_of_0 11 rfl rfl)
abbrev cX1_pairs : ByteArray := prog_9_method_28_code
def yX1_pairs : MethodName := ⟨RX1, "pairs", "()I"⟩
def dkwX1_pairs_2 : List UInt8 := [132, 4, 1, 167, 255, 237, 132, 2, 1, 167, 255, 204, 27, 172]
abbrev dktX1_pairs_2 : List UInt8 := dkwX1_pairs_2 ++ []
def dkwX1_pairs_1 : List UInt8 := [167, 0, 4, 3, 62, 3, 54, 4, 21, 4, 16, 12, 162, 0, 18, 27, 29, 21, 4, 122, 4, 126, 96, 60]
abbrev dktX1_pairs_1 : List UInt8 := dkwX1_pairs_1 ++ dktX1_pairs_2
def dkwX1_pairs_0 : List UInt8 := [3, 60, 3, 61, 28, 16, 12, 162, 0, 52, 42, 28, 182, 0, 75, 153, 0, 11, 42, 28, 182, 0, 115]
abbrev dktX1_pairs_0 : List UInt8 := dkwX1_pairs_0 ++ dktX1_pairs_1
theorem dksX1_pairs_0 : cX1_pairs.data.toList.drop 0 = dktX1_pairs_0 := by decide +kernel
theorem dksX1_pairs_1 : cX1_pairs.data.toList.drop 23 = dktX1_pairs_1 := dk_seg dksX1_pairs_0 23 rfl rfl
theorem dksX1_pairs_2 : cX1_pairs.data.toList.drop 47 = dktX1_pairs_2 := dk_seg dksX1_pairs_1 24 rfl rfl
theorem dX1_pairs_0 : decode cX1_pairs 0 = .ok (.iconst 0, 1) := dk_3 (dk_at dksX1_pairs_0 0 rfl rfl)
theorem dX1_pairs_1 : decode cX1_pairs 1 = .ok (.istore_n 1, 1) := dk_60 (dk_at dksX1_pairs_0 1 rfl rfl)
theorem dX1_pairs_2 : decode cX1_pairs 2 = .ok (.iconst 0, 1) := dk_3 (dk_at dksX1_pairs_0 2 rfl rfl)
theorem dX1_pairs_3 : decode cX1_pairs 3 = .ok (.istore_n 2, 1) := dk_61 (dk_at dksX1_pairs_0 3 rfl rfl)
theorem dX1_pairs_4 : decode cX1_pairs 4 = .ok (.iload_n 2, 1) := dk_28 (dk_at dksX1_pairs_0 4 rfl rfl)
theorem dX1_pairs_5 : decode cX1_pairs 5 = .ok (.bipush 12, 2) := dk_16 12 (dk_at dksX1_pairs_0 5 rfl rfl)
theorem dX1_pairs_7 : decode cX1_pairs 7 = .ok (.if_icmp .ge 52, 3) := dk_162 0 52 (dk_at dksX1_pairs_0 7 rfl rfl)
theorem dX1_pairs_10 : decode cX1_pairs 10 = .ok (.aload_n 0, 1) := dk_42 (dk_at dksX1_pairs_0 10 rfl rfl)
theorem dX1_pairs_11 : decode cX1_pairs 11 = .ok (.iload_n 2, 1) := dk_28 (dk_at dksX1_pairs_0 11 rfl rfl)
theorem dX1_pairs_12 : decode cX1_pairs 12 = .ok (.invokevirtual 75, 3) := dk_182 0 75 (dk_at dksX1_pairs_0 12 rfl rfl)
theorem dX1_pairs_15 : decode cX1_pairs 15 = .ok (.ifCond .eq 11, 3) := dk_153 0 11 (dk_at dksX1_pairs_0 15 rfl rfl)
theorem dX1_pairs_18 : decode cX1_pairs 18 = .ok (.aload_n 0, 1) := dk_42 (dk_at dksX1_pairs_0 18 rfl rfl)
theorem dX1_pairs_19 : decode cX1_pairs 19 = .ok (.iload_n 2, 1) := dk_28 (dk_at dksX1_pairs_0 19 rfl rfl)
theorem dX1_pairs_20 : decode cX1_pairs 20 = .ok (.invokevirtual 115, 3) := dk_182 0 115 (dk_at dksX1_pairs_0 20 rfl rfl)
theorem dX1_pairs_23 : decode cX1_pairs 23 = .ok (.goto 4, 3) := dk_167 0 4 (dk_at dksX1_pairs_1 0 rfl rfl)
theorem dX1_pairs_26 : decode cX1_pairs 26 = .ok (.iconst 0, 1) := dk_3 (dk_at dksX1_pairs_1 3 rfl rfl)
theorem dX1_pairs_27 : decode cX1_pairs 27 = .ok (.istore_n 3, 1) := dk_62 (dk_at dksX1_pairs_1 4 rfl rfl)
theorem dX1_pairs_28 : decode cX1_pairs 28 = .ok (.iconst 0, 1) := dk_3 (dk_at dksX1_pairs_1 5 rfl rfl)
theorem dX1_pairs_29 : decode cX1_pairs 29 = .ok (.istore 4, 2) := dk_54 4 (dk_at dksX1_pairs_1 6 rfl rfl)
theorem dX1_pairs_31 : decode cX1_pairs 31 = .ok (.iload 4, 2) := dk_21 4 (dk_at dksX1_pairs_1 8 rfl rfl)
theorem dX1_pairs_33 : decode cX1_pairs 33 = .ok (.bipush 12, 2) := dk_16 12 (dk_at dksX1_pairs_1 10 rfl rfl)
theorem dX1_pairs_35 : decode cX1_pairs 35 = .ok (.if_icmp .ge 18, 3) := dk_162 0 18 (dk_at dksX1_pairs_1 12 rfl rfl)
theorem dX1_pairs_38 : decode cX1_pairs 38 = .ok (.iload_n 1, 1) := dk_27 (dk_at dksX1_pairs_1 15 rfl rfl)
theorem dX1_pairs_39 : decode cX1_pairs 39 = .ok (.iload_n 3, 1) := dk_29 (dk_at dksX1_pairs_1 16 rfl rfl)
theorem dX1_pairs_40 : decode cX1_pairs 40 = .ok (.iload 4, 2) := dk_21 4 (dk_at dksX1_pairs_1 17 rfl rfl)
theorem dX1_pairs_42 : decode cX1_pairs 42 = .ok (.ishr, 1) := dk_122 (dk_at dksX1_pairs_1 19 rfl rfl)
theorem dX1_pairs_43 : decode cX1_pairs 43 = .ok (.iconst 1, 1) := dk_4 (dk_at dksX1_pairs_1 20 rfl rfl)
theorem dX1_pairs_44 : decode cX1_pairs 44 = .ok (.iand, 1) := dk_126 (dk_at dksX1_pairs_1 21 rfl rfl)
theorem dX1_pairs_45 : decode cX1_pairs 45 = .ok (.iadd, 1) := dk_96 (dk_at dksX1_pairs_1 22 rfl rfl)
theorem dX1_pairs_46 : decode cX1_pairs 46 = .ok (.istore_n 1, 1) := dk_60 (dk_at dksX1_pairs_1 23 rfl rfl)
theorem dX1_pairs_47 : decode cX1_pairs 47 = .ok (.iinc 4 1, 3) := dk_132 4 1 (dk_at dksX1_pairs_2 0 rfl rfl)
theorem dX1_pairs_50 : decode cX1_pairs 50 = .ok (.goto (-19), 3) := dk_167 255 237 (dk_at dksX1_pairs_2 3 rfl rfl)
theorem dX1_pairs_53 : decode cX1_pairs 53 = .ok (.iinc 2 1, 3) := dk_132 2 1 (dk_at dksX1_pairs_2 6 rfl rfl)
theorem dX1_pairs_56 : decode cX1_pairs 56 = .ok (.goto (-52), 3) := dk_167 255 204 (dk_at dksX1_pairs_2 9 rfl rfl)
theorem dX1_pairs_59 : decode cX1_pairs 59 = .ok (.iload_n 1, 1) := dk_27 (dk_at dksX1_pairs_2 12 rfl rfl)
theorem dX1_pairs_60 : decode cX1_pairs 60 = .ok (.ireturn, 1) := dk_172 (dk_at dksX1_pairs_2 13 rfl rfl)
abbrev cX1_setBehind : ByteArray := prog_9_method_26_code
def yX1_setBehind : MethodName := ⟨RX1, "setBehind", "(I)I"⟩
def dkwX1_setBehind_1 : List UInt8 := [182, 0, 111, 153, 0, 9, 4, 29, 120, 167, 0, 4, 3, 128, 61, 132, 3, 1, 167, 255, 220, 28, 172]
abbrev dktX1_setBehind_1 : List UInt8 := dkwX1_setBehind_1 ++ []
def dkwX1_setBehind_0 : List UInt8 := [3, 61, 3, 62, 29, 16, 12, 162, 0, 36, 28, 42, 29, 182, 0, 75, 153, 0, 18, 42, 29, 27]
abbrev dktX1_setBehind_0 : List UInt8 := dkwX1_setBehind_0 ++ dktX1_setBehind_1
theorem dksX1_setBehind_0 : cX1_setBehind.data.toList.drop 0 = dktX1_setBehind_0 := by decide +kernel
theorem dksX1_setBehind_1 : cX1_setBehind.data.toList.drop 22 = dktX1_setBehind_1 := dk_seg dksX1_setBehind_0 22 rfl rfl
theorem dX1_setBehind_0 : decode cX1_setBehind 0 = .ok (.iconst 0, 1) := dk_3 (dk_at dksX1_setBehind_0 0 rfl rfl)
theorem dX1_setBehind_1 : decode cX1_setBehind 1 = .ok (.istore_n 2, 1) := dk_61 (dk_at dksX1_setBehind_0 1 rfl rfl)
theorem dX1_setBehind_2 : decode cX1_setBehind 2 = .ok (.iconst 0, 1) := dk_3 (dk_at dksX1_setBehind_0 2 rfl rfl)
theorem dX1_setBehind_3 : decode cX1_setBehind 3 = .ok (.istore_n 3, 1) := dk_62 (dk_at dksX1_setBehind_0 3 rfl rfl)
theorem dX1_setBehind_4 : decode cX1_setBehind 4 = .ok (.iload_n 3, 1) := dk_29 (dk_at dksX1_setBehind_0 4 rfl rfl)
theorem dX1_setBehind_5 : decode cX1_setBehind 5 = .ok (.bipush 12, 2) := dk_16 12 (dk_at dksX1_setBehind_0 5 rfl rfl)
theorem dX1_setBehind_7 : decode cX1_setBehind 7 = .ok (.if_icmp .ge 36, 3) := dk_162 0 36 (dk_at dksX1_setBehind_0 7 rfl rfl)
theorem dX1_setBehind_10 : decode cX1_setBehind 10 = .ok (.iload_n 2, 1) := dk_28 (dk_at dksX1_setBehind_0 10 rfl rfl)
theorem dX1_setBehind_11 : decode cX1_setBehind 11 = .ok (.aload_n 0, 1) := dk_42 (dk_at dksX1_setBehind_0 11 rfl rfl)
theorem dX1_setBehind_12 : decode cX1_setBehind 12 = .ok (.iload_n 3, 1) := dk_29 (dk_at dksX1_setBehind_0 12 rfl rfl)
theorem dX1_setBehind_13 : decode cX1_setBehind 13 = .ok (.invokevirtual 75, 3) := dk_182 0 75 (dk_at dksX1_setBehind_0 13 rfl rfl)
theorem dX1_setBehind_16 : decode cX1_setBehind 16 = .ok (.ifCond .eq 18, 3) := dk_153 0 18 (dk_at dksX1_setBehind_0 16 rfl rfl)
theorem dX1_setBehind_19 : decode cX1_setBehind 19 = .ok (.aload_n 0, 1) := dk_42 (dk_at dksX1_setBehind_0 19 rfl rfl)
theorem dX1_setBehind_20 : decode cX1_setBehind 20 = .ok (.iload_n 3, 1) := dk_29 (dk_at dksX1_setBehind_0 20 rfl rfl)
theorem dX1_setBehind_21 : decode cX1_setBehind 21 = .ok (.iload_n 1, 1) := dk_27 (dk_at dksX1_setBehind_0 21 rfl rfl)
theorem dX1_setBehind_22 : decode cX1_setBehind 22 = .ok (.invokevirtual 111, 3) := dk_182 0 111 (dk_at dksX1_setBehind_1 0 rfl rfl)
theorem dX1_setBehind_25 : decode cX1_setBehind 25 = .ok (.ifCond .eq 9, 3) := dk_153 0 9 (dk_at dksX1_setBehind_1 3 rfl rfl)
theorem dX1_setBehind_28 : decode cX1_setBehind 28 = .ok (.iconst 1, 1) := dk_4 (dk_at dksX1_setBehind_1 6 rfl rfl)
theorem dX1_setBehind_29 : decode cX1_setBehind 29 = .ok (.iload_n 3, 1) := dk_29 (dk_at dksX1_setBehind_1 7 rfl rfl)
theorem dX1_setBehind_30 : decode cX1_setBehind 30 = .ok (.ishl, 1) := dk_120 (dk_at dksX1_setBehind_1 8 rfl rfl)
theorem dX1_setBehind_31 : decode cX1_setBehind 31 = .ok (.goto 4, 3) := dk_167 0 4 (dk_at dksX1_setBehind_1 9 rfl rfl)
theorem dX1_setBehind_34 : decode cX1_setBehind 34 = .ok (.iconst 0, 1) := dk_3 (dk_at dksX1_setBehind_1 12 rfl rfl)
theorem dX1_setBehind_35 : decode cX1_setBehind 35 = .ok (.ior, 1) := dk_128 (dk_at dksX1_setBehind_1 13 rfl rfl)
theorem dX1_setBehind_36 : decode cX1_setBehind 36 = .ok (.istore_n 2, 1) := dk_61 (dk_at dksX1_setBehind_1 14 rfl rfl)
theorem dX1_setBehind_37 : decode cX1_setBehind 37 = .ok (.iinc 3 1, 3) := dk_132 3 1 (dk_at dksX1_setBehind_1 15 rfl rfl)
theorem dX1_setBehind_40 : decode cX1_setBehind 40 = .ok (.goto (-36), 3) := dk_167 255 220 (dk_at dksX1_setBehind_1 18 rfl rfl)
theorem dX1_setBehind_43 : decode cX1_setBehind 43 = .ok (.iload_n 2, 1) := dk_28 (dk_at dksX1_setBehind_1 21 rfl rfl)
theorem dX1_setBehind_44 : decode cX1_setBehind 44 = .ok (.ireturn, 1) := dk_172 (dk_at dksX1_setBehind_1 22 rfl rfl)
abbrev cX1_isBoxBehind : ByteArray := prog_9_method_9_code
def yX1_isBoxBehind : MethodName := ⟨RX1, "isBoxBehind", "(II)Z"⟩
def dkwX1_isBoxBehind_1 : List UInt8 := [153, 0, 7, 4, 167, 0, 4, 3, 172]
abbrev dktX1_isBoxBehind_1 : List UInt8 := dkwX1_isBoxBehind_1 ++ []
def dkwX1_isBoxBehind_0 : List UInt8 := [27, 28, 159, 0, 29, 42, 180, 0, 7, 16, 7, 27, 104, 42, 180, 0, 7, 16, 7, 28, 104, 184, 0, 72]
abbrev dktX1_isBoxBehind_0 : List UInt8 := dkwX1_isBoxBehind_0 ++ dktX1_isBoxBehind_1
theorem dksX1_isBoxBehind_0 : cX1_isBoxBehind.data.toList.drop 0 = dktX1_isBoxBehind_0 := by decide +kernel
theorem dksX1_isBoxBehind_1 : cX1_isBoxBehind.data.toList.drop 24 = dktX1_isBoxBehind_1 := dk_seg dksX1_isBoxBehind_0 24 rfl rfl
theorem dX1_isBoxBehind_0 : decode cX1_isBoxBehind 0 = .ok (.iload_n 1, 1) := dk_27 (dk_at dksX1_isBoxBehind_0 0 rfl rfl)
theorem dX1_isBoxBehind_1 : decode cX1_isBoxBehind 1 = .ok (.iload_n 2, 1) := dk_28 (dk_at dksX1_isBoxBehind_0 1 rfl rfl)
theorem dX1_isBoxBehind_2 : decode cX1_isBoxBehind 2 = .ok (.if_icmp .eq 29, 3) := dk_159 0 29 (dk_at dksX1_isBoxBehind_0 2 rfl rfl)
theorem dX1_isBoxBehind_5 : decode cX1_isBoxBehind 5 = .ok (.aload_n 0, 1) := dk_42 (dk_at dksX1_isBoxBehind_0 5 rfl rfl)
theorem dX1_isBoxBehind_6 : decode cX1_isBoxBehind 6 = .ok (.getfield 7, 3) := dk_180 0 7 (dk_at dksX1_isBoxBehind_0 6 rfl rfl)
theorem dX1_isBoxBehind_9 : decode cX1_isBoxBehind 9 = .ok (.bipush 7, 2) := dk_16 7 (dk_at dksX1_isBoxBehind_0 9 rfl rfl)
theorem dX1_isBoxBehind_11 : decode cX1_isBoxBehind 11 = .ok (.iload_n 1, 1) := dk_27 (dk_at dksX1_isBoxBehind_0 11 rfl rfl)
theorem dX1_isBoxBehind_12 : decode cX1_isBoxBehind 12 = .ok (.imul, 1) := dk_104 (dk_at dksX1_isBoxBehind_0 12 rfl rfl)
theorem dX1_isBoxBehind_13 : decode cX1_isBoxBehind 13 = .ok (.aload_n 0, 1) := dk_42 (dk_at dksX1_isBoxBehind_0 13 rfl rfl)
theorem dX1_isBoxBehind_14 : decode cX1_isBoxBehind 14 = .ok (.getfield 7, 3) := dk_180 0 7 (dk_at dksX1_isBoxBehind_0 14 rfl rfl)
theorem dX1_isBoxBehind_17 : decode cX1_isBoxBehind 17 = .ok (.bipush 7, 2) := dk_16 7 (dk_at dksX1_isBoxBehind_0 17 rfl rfl)
theorem dX1_isBoxBehind_19 : decode cX1_isBoxBehind 19 = .ok (.iload_n 2, 1) := dk_28 (dk_at dksX1_isBoxBehind_0 19 rfl rfl)
theorem dX1_isBoxBehind_20 : decode cX1_isBoxBehind 20 = .ok (.imul, 1) := dk_104 (dk_at dksX1_isBoxBehind_0 20 rfl rfl)
theorem dX1_isBoxBehind_21 : decode cX1_isBoxBehind 21 = .ok (.invokestatic 72, 3) := dk_184 0 72 (dk_at dksX1_isBoxBehind_0 21 rfl rfl)
theorem dX1_isBoxBehind_24 : decode cX1_isBoxBehind 24 = .ok (.ifCond .eq 7, 3) := dk_153 0 7 (dk_at dksX1_isBoxBehind_1 0 rfl rfl)
theorem dX1_isBoxBehind_27 : decode cX1_isBoxBehind 27 = .ok (.iconst 1, 1) := dk_4 (dk_at dksX1_isBoxBehind_1 3 rfl rfl)
theorem dX1_isBoxBehind_28 : decode cX1_isBoxBehind 28 = .ok (.goto 4, 3) := dk_167 0 4 (dk_at dksX1_isBoxBehind_1 4 rfl rfl)
theorem dX1_isBoxBehind_31 : decode cX1_isBoxBehind 31 = .ok (.iconst 0, 1) := dk_3 (dk_at dksX1_isBoxBehind_1 7 rfl rfl)
theorem dX1_isBoxBehind_32 : decode cX1_isBoxBehind 32 = .ok (.ireturn, 1) := dk_172 (dk_at dksX1_isBoxBehind_1 8 rfl rfl)
abbrev cX1_isBehind : ByteArray := prog_9_method_8_code
def yX1_isBehind : MethodName := ⟨RX1, "isBehind", "([II[II)Z"⟩
def dkwX1_isBehind_2 : List UInt8 := [153, 0, 17, 42, 27, 44, 29, 184, 0, 68, 153, 0, 7, 4, 167, 0, 4, 3, 172]
abbrev dktX1_isBehind_2 : List UInt8 := dkwX1_isBehind_2 ++ []
def dkwX1_isBehind_1 : List UInt8 := [21, 5, 96, 46, 163, 0, 7, 4, 167, 0, 4, 3, 128, 54, 4, 132, 5, 1, 167, 255, 220, 21, 4]
abbrev dktX1_isBehind_1 : List UInt8 := dkwX1_isBehind_1 ++ dktX1_isBehind_2
def dkwX1_isBehind_0 : List UInt8 := [3, 54, 4, 3, 54, 5, 21, 5, 6, 162, 0, 36, 21, 4, 42, 27, 6, 96, 21, 5, 96, 46, 44, 29]
abbrev dktX1_isBehind_0 : List UInt8 := dkwX1_isBehind_0 ++ dktX1_isBehind_1
theorem dksX1_isBehind_0 : cX1_isBehind.data.toList.drop 0 = dktX1_isBehind_0 := by decide +kernel
theorem dksX1_isBehind_1 : cX1_isBehind.data.toList.drop 24 = dktX1_isBehind_1 := dk_seg dksX1_isBehind_0 24 rfl rfl
theorem dksX1_isBehind_2 : cX1_isBehind.data.toList.drop 47 = dktX1_isBehind_2 := dk_seg dksX1_isBehind_1 23 rfl rfl
theorem dX1_isBehind_0 : decode cX1_isBehind 0 = .ok (.iconst 0, 1) := dk_3 (dk_at dksX1_isBehind_0 0 rfl rfl)
theorem dX1_isBehind_1 : decode cX1_isBehind 1 = .ok (.istore 4, 2) := dk_54 4 (dk_at dksX1_isBehind_0 1 rfl rfl)
theorem dX1_isBehind_3 : decode cX1_isBehind 3 = .ok (.iconst 0, 1) := dk_3 (dk_at dksX1_isBehind_0 3 rfl rfl)
theorem dX1_isBehind_4 : decode cX1_isBehind 4 = .ok (.istore 5, 2) := dk_54 5 (dk_at dksX1_isBehind_0 4 rfl rfl)
theorem dX1_isBehind_6 : decode cX1_isBehind 6 = .ok (.iload 5, 2) := dk_21 5 (dk_at dksX1_isBehind_0 6 rfl rfl)
theorem dX1_isBehind_8 : decode cX1_isBehind 8 = .ok (.iconst 3, 1) := dk_6 (dk_at dksX1_isBehind_0 8 rfl rfl)
theorem dX1_isBehind_9 : decode cX1_isBehind 9 = .ok (.if_icmp .ge 36, 3) := dk_162 0 36 (dk_at dksX1_isBehind_0 9 rfl rfl)
theorem dX1_isBehind_12 : decode cX1_isBehind 12 = .ok (.iload 4, 2) := dk_21 4 (dk_at dksX1_isBehind_0 12 rfl rfl)
theorem dX1_isBehind_14 : decode cX1_isBehind 14 = .ok (.aload_n 0, 1) := dk_42 (dk_at dksX1_isBehind_0 14 rfl rfl)
theorem dX1_isBehind_15 : decode cX1_isBehind 15 = .ok (.iload_n 1, 1) := dk_27 (dk_at dksX1_isBehind_0 15 rfl rfl)
theorem dX1_isBehind_16 : decode cX1_isBehind 16 = .ok (.iconst 3, 1) := dk_6 (dk_at dksX1_isBehind_0 16 rfl rfl)
theorem dX1_isBehind_17 : decode cX1_isBehind 17 = .ok (.iadd, 1) := dk_96 (dk_at dksX1_isBehind_0 17 rfl rfl)
theorem dX1_isBehind_18 : decode cX1_isBehind 18 = .ok (.iload 5, 2) := dk_21 5 (dk_at dksX1_isBehind_0 18 rfl rfl)
theorem dX1_isBehind_20 : decode cX1_isBehind 20 = .ok (.iadd, 1) := dk_96 (dk_at dksX1_isBehind_0 20 rfl rfl)
theorem dX1_isBehind_21 : decode cX1_isBehind 21 = .ok (.iaload, 1) := dk_46 (dk_at dksX1_isBehind_0 21 rfl rfl)
theorem dX1_isBehind_22 : decode cX1_isBehind 22 = .ok (.aload_n 2, 1) := dk_44 (dk_at dksX1_isBehind_0 22 rfl rfl)
theorem dX1_isBehind_23 : decode cX1_isBehind 23 = .ok (.iload_n 3, 1) := dk_29 (dk_at dksX1_isBehind_0 23 rfl rfl)
theorem dX1_isBehind_24 : decode cX1_isBehind 24 = .ok (.iload 5, 2) := dk_21 5 (dk_at dksX1_isBehind_1 0 rfl rfl)
theorem dX1_isBehind_26 : decode cX1_isBehind 26 = .ok (.iadd, 1) := dk_96 (dk_at dksX1_isBehind_1 2 rfl rfl)
theorem dX1_isBehind_27 : decode cX1_isBehind 27 = .ok (.iaload, 1) := dk_46 (dk_at dksX1_isBehind_1 3 rfl rfl)
theorem dX1_isBehind_28 : decode cX1_isBehind 28 = .ok (.if_icmp .gt 7, 3) := dk_163 0 7 (dk_at dksX1_isBehind_1 4 rfl rfl)
theorem dX1_isBehind_31 : decode cX1_isBehind 31 = .ok (.iconst 1, 1) := dk_4 (dk_at dksX1_isBehind_1 7 rfl rfl)
theorem dX1_isBehind_32 : decode cX1_isBehind 32 = .ok (.goto 4, 3) := dk_167 0 4 (dk_at dksX1_isBehind_1 8 rfl rfl)
theorem dX1_isBehind_35 : decode cX1_isBehind 35 = .ok (.iconst 0, 1) := dk_3 (dk_at dksX1_isBehind_1 11 rfl rfl)
theorem dX1_isBehind_36 : decode cX1_isBehind 36 = .ok (.ior, 1) := dk_128 (dk_at dksX1_isBehind_1 12 rfl rfl)
theorem dX1_isBehind_37 : decode cX1_isBehind 37 = .ok (.istore 4, 2) := dk_54 4 (dk_at dksX1_isBehind_1 13 rfl rfl)
theorem dX1_isBehind_39 : decode cX1_isBehind 39 = .ok (.iinc 5 1, 3) := dk_132 5 1 (dk_at dksX1_isBehind_1 15 rfl rfl)
theorem dX1_isBehind_42 : decode cX1_isBehind 42 = .ok (.goto (-36), 3) := dk_167 255 220 (dk_at dksX1_isBehind_1 18 rfl rfl)
theorem dX1_isBehind_45 : decode cX1_isBehind 45 = .ok (.iload 4, 2) := dk_21 4 (dk_at dksX1_isBehind_1 21 rfl rfl)
theorem dX1_isBehind_47 : decode cX1_isBehind 47 = .ok (.ifCond .eq 17, 3) := dk_153 0 17 (dk_at dksX1_isBehind_2 0 rfl rfl)
theorem dX1_isBehind_50 : decode cX1_isBehind 50 = .ok (.aload_n 0, 1) := dk_42 (dk_at dksX1_isBehind_2 3 rfl rfl)
theorem dX1_isBehind_51 : decode cX1_isBehind 51 = .ok (.iload_n 1, 1) := dk_27 (dk_at dksX1_isBehind_2 4 rfl rfl)
theorem dX1_isBehind_52 : decode cX1_isBehind 52 = .ok (.aload_n 2, 1) := dk_44 (dk_at dksX1_isBehind_2 5 rfl rfl)
theorem dX1_isBehind_53 : decode cX1_isBehind 53 = .ok (.iload_n 3, 1) := dk_29 (dk_at dksX1_isBehind_2 6 rfl rfl)
theorem dX1_isBehind_54 : decode cX1_isBehind 54 = .ok (.invokestatic 68, 3) := dk_184 0 68 (dk_at dksX1_isBehind_2 7 rfl rfl)
theorem dX1_isBehind_57 : decode cX1_isBehind 57 = .ok (.ifCond .eq 7, 3) := dk_153 0 7 (dk_at dksX1_isBehind_2 10 rfl rfl)
theorem dX1_isBehind_60 : decode cX1_isBehind 60 = .ok (.iconst 1, 1) := dk_4 (dk_at dksX1_isBehind_2 13 rfl rfl)
theorem dX1_isBehind_61 : decode cX1_isBehind 61 = .ok (.goto 4, 3) := dk_167 0 4 (dk_at dksX1_isBehind_2 14 rfl rfl)
theorem dX1_isBehind_64 : decode cX1_isBehind 64 = .ok (.iconst 0, 1) := dk_3 (dk_at dksX1_isBehind_2 17 rfl rfl)
theorem dX1_isBehind_65 : decode cX1_isBehind 65 = .ok (.ireturn, 1) := dk_172 (dk_at dksX1_isBehind_2 18 rfl rfl)
abbrev cX1_doOverlap : ByteArray := prog_9_method_7_code
def yX1_doOverlap : MethodName := ⟨RX1, "doOverlap", "([II[II)Z"⟩
def dkwX1_doOverlap_4 : List UInt8 := [21, 4, 172]
abbrev dktX1_doOverlap_4 : List UInt8 := dkwX1_doOverlap_4 ++ []
def dkwX1_doOverlap_3 : List UInt8 := [21, 5, 96, 46, 44, 29, 21, 6, 96, 46, 100, 184, 0, 64, 126, 54, 4, 132, 5, 1, 167, 255, 171]
abbrev dktX1_doOverlap_3 : List UInt8 := dkwX1_doOverlap_3 ++ dktX1_doOverlap_4
def dkwX1_doOverlap_2 : List UInt8 := [21, 6, 96, 46, 100, 44, 29, 21, 5, 96, 46, 44, 29, 6, 96, 21, 6, 96, 46, 100, 44, 29, 6, 96]
abbrev dktX1_doOverlap_2 : List UInt8 := dkwX1_doOverlap_2 ++ dktX1_doOverlap_3
def dkwX1_doOverlap_1 : List UInt8 := [21, 5, 96, 46, 42, 27, 6, 96, 21, 6, 96, 46, 100, 42, 27, 6, 96, 21, 5, 96, 46, 42, 27]
abbrev dktX1_doOverlap_1 : List UInt8 := dkwX1_doOverlap_1 ++ dktX1_doOverlap_2
def dkwX1_doOverlap_0 : List UInt8 := [4, 54, 4, 3, 54, 5, 21, 5, 6, 162, 0, 85, 21, 5, 4, 96, 6, 112, 54, 6, 21, 4, 42, 27]
abbrev dktX1_doOverlap_0 : List UInt8 := dkwX1_doOverlap_0 ++ dktX1_doOverlap_1
theorem dksX1_doOverlap_0 : cX1_doOverlap.data.toList.drop 0 = dktX1_doOverlap_0 := by decide +kernel
theorem dksX1_doOverlap_1 : cX1_doOverlap.data.toList.drop 24 = dktX1_doOverlap_1 := dk_seg dksX1_doOverlap_0 24 rfl rfl
theorem dksX1_doOverlap_2 : cX1_doOverlap.data.toList.drop 47 = dktX1_doOverlap_2 := dk_seg dksX1_doOverlap_1 23 rfl rfl
theorem dksX1_doOverlap_3 : cX1_doOverlap.data.toList.drop 71 = dktX1_doOverlap_3 := dk_seg dksX1_doOverlap_2 24 rfl rfl
theorem dksX1_doOverlap_4 : cX1_doOverlap.data.toList.drop 94 = dktX1_doOverlap_4 := dk_seg dksX1_doOverlap_3 23 rfl rfl
theorem dX1_doOverlap_0 : decode cX1_doOverlap 0 = .ok (.iconst 1, 1) := dk_4 (dk_at dksX1_doOverlap_0 0 rfl rfl)
theorem dX1_doOverlap_1 : decode cX1_doOverlap 1 = .ok (.istore 4, 2) := dk_54 4 (dk_at dksX1_doOverlap_0 1 rfl rfl)
theorem dX1_doOverlap_3 : decode cX1_doOverlap 3 = .ok (.iconst 0, 1) := dk_3 (dk_at dksX1_doOverlap_0 3 rfl rfl)
theorem dX1_doOverlap_4 : decode cX1_doOverlap 4 = .ok (.istore 5, 2) := dk_54 5 (dk_at dksX1_doOverlap_0 4 rfl rfl)
theorem dX1_doOverlap_6 : decode cX1_doOverlap 6 = .ok (.iload 5, 2) := dk_21 5 (dk_at dksX1_doOverlap_0 6 rfl rfl)
theorem dX1_doOverlap_8 : decode cX1_doOverlap 8 = .ok (.iconst 3, 1) := dk_6 (dk_at dksX1_doOverlap_0 8 rfl rfl)
theorem dX1_doOverlap_9 : decode cX1_doOverlap 9 = .ok (.if_icmp .ge 85, 3) := dk_162 0 85 (dk_at dksX1_doOverlap_0 9 rfl rfl)
theorem dX1_doOverlap_12 : decode cX1_doOverlap 12 = .ok (.iload 5, 2) := dk_21 5 (dk_at dksX1_doOverlap_0 12 rfl rfl)
theorem dX1_doOverlap_14 : decode cX1_doOverlap 14 = .ok (.iconst 1, 1) := dk_4 (dk_at dksX1_doOverlap_0 14 rfl rfl)
theorem dX1_doOverlap_15 : decode cX1_doOverlap 15 = .ok (.iadd, 1) := dk_96 (dk_at dksX1_doOverlap_0 15 rfl rfl)
theorem dX1_doOverlap_16 : decode cX1_doOverlap 16 = .ok (.iconst 3, 1) := dk_6 (dk_at dksX1_doOverlap_0 16 rfl rfl)
theorem dX1_doOverlap_17 : decode cX1_doOverlap 17 = .ok (.irem, 1) := dk_112 (dk_at dksX1_doOverlap_0 17 rfl rfl)
theorem dX1_doOverlap_18 : decode cX1_doOverlap 18 = .ok (.istore 6, 2) := dk_54 6 (dk_at dksX1_doOverlap_0 18 rfl rfl)
theorem dX1_doOverlap_20 : decode cX1_doOverlap 20 = .ok (.iload 4, 2) := dk_21 4 (dk_at dksX1_doOverlap_0 20 rfl rfl)
theorem dX1_doOverlap_22 : decode cX1_doOverlap 22 = .ok (.aload_n 0, 1) := dk_42 (dk_at dksX1_doOverlap_0 22 rfl rfl)
theorem dX1_doOverlap_23 : decode cX1_doOverlap 23 = .ok (.iload_n 1, 1) := dk_27 (dk_at dksX1_doOverlap_0 23 rfl rfl)
theorem dX1_doOverlap_24 : decode cX1_doOverlap 24 = .ok (.iload 5, 2) := dk_21 5 (dk_at dksX1_doOverlap_1 0 rfl rfl)
theorem dX1_doOverlap_26 : decode cX1_doOverlap 26 = .ok (.iadd, 1) := dk_96 (dk_at dksX1_doOverlap_1 2 rfl rfl)
theorem dX1_doOverlap_27 : decode cX1_doOverlap 27 = .ok (.iaload, 1) := dk_46 (dk_at dksX1_doOverlap_1 3 rfl rfl)
theorem dX1_doOverlap_28 : decode cX1_doOverlap 28 = .ok (.aload_n 0, 1) := dk_42 (dk_at dksX1_doOverlap_1 4 rfl rfl)
theorem dX1_doOverlap_29 : decode cX1_doOverlap 29 = .ok (.iload_n 1, 1) := dk_27 (dk_at dksX1_doOverlap_1 5 rfl rfl)
theorem dX1_doOverlap_30 : decode cX1_doOverlap 30 = .ok (.iconst 3, 1) := dk_6 (dk_at dksX1_doOverlap_1 6 rfl rfl)
theorem dX1_doOverlap_31 : decode cX1_doOverlap 31 = .ok (.iadd, 1) := dk_96 (dk_at dksX1_doOverlap_1 7 rfl rfl)
theorem dX1_doOverlap_32 : decode cX1_doOverlap 32 = .ok (.iload 6, 2) := dk_21 6 (dk_at dksX1_doOverlap_1 8 rfl rfl)
theorem dX1_doOverlap_34 : decode cX1_doOverlap 34 = .ok (.iadd, 1) := dk_96 (dk_at dksX1_doOverlap_1 10 rfl rfl)
theorem dX1_doOverlap_35 : decode cX1_doOverlap 35 = .ok (.iaload, 1) := dk_46 (dk_at dksX1_doOverlap_1 11 rfl rfl)
theorem dX1_doOverlap_36 : decode cX1_doOverlap 36 = .ok (.isub, 1) := dk_100 (dk_at dksX1_doOverlap_1 12 rfl rfl)
theorem dX1_doOverlap_37 : decode cX1_doOverlap 37 = .ok (.aload_n 0, 1) := dk_42 (dk_at dksX1_doOverlap_1 13 rfl rfl)
theorem dX1_doOverlap_38 : decode cX1_doOverlap 38 = .ok (.iload_n 1, 1) := dk_27 (dk_at dksX1_doOverlap_1 14 rfl rfl)
theorem dX1_doOverlap_39 : decode cX1_doOverlap 39 = .ok (.iconst 3, 1) := dk_6 (dk_at dksX1_doOverlap_1 15 rfl rfl)
theorem dX1_doOverlap_40 : decode cX1_doOverlap 40 = .ok (.iadd, 1) := dk_96 (dk_at dksX1_doOverlap_1 16 rfl rfl)
theorem dX1_doOverlap_41 : decode cX1_doOverlap 41 = .ok (.iload 5, 2) := dk_21 5 (dk_at dksX1_doOverlap_1 17 rfl rfl)
theorem dX1_doOverlap_43 : decode cX1_doOverlap 43 = .ok (.iadd, 1) := dk_96 (dk_at dksX1_doOverlap_1 19 rfl rfl)
theorem dX1_doOverlap_44 : decode cX1_doOverlap 44 = .ok (.iaload, 1) := dk_46 (dk_at dksX1_doOverlap_1 20 rfl rfl)
theorem dX1_doOverlap_45 : decode cX1_doOverlap 45 = .ok (.aload_n 0, 1) := dk_42 (dk_at dksX1_doOverlap_1 21 rfl rfl)
theorem dX1_doOverlap_46 : decode cX1_doOverlap 46 = .ok (.iload_n 1, 1) := dk_27 (dk_at dksX1_doOverlap_1 22 rfl rfl)
theorem dX1_doOverlap_47 : decode cX1_doOverlap 47 = .ok (.iload 6, 2) := dk_21 6 (dk_at dksX1_doOverlap_2 0 rfl rfl)
theorem dX1_doOverlap_49 : decode cX1_doOverlap 49 = .ok (.iadd, 1) := dk_96 (dk_at dksX1_doOverlap_2 2 rfl rfl)
theorem dX1_doOverlap_50 : decode cX1_doOverlap 50 = .ok (.iaload, 1) := dk_46 (dk_at dksX1_doOverlap_2 3 rfl rfl)
theorem dX1_doOverlap_51 : decode cX1_doOverlap 51 = .ok (.isub, 1) := dk_100 (dk_at dksX1_doOverlap_2 4 rfl rfl)
theorem dX1_doOverlap_52 : decode cX1_doOverlap 52 = .ok (.aload_n 2, 1) := dk_44 (dk_at dksX1_doOverlap_2 5 rfl rfl)
theorem dX1_doOverlap_53 : decode cX1_doOverlap 53 = .ok (.iload_n 3, 1) := dk_29 (dk_at dksX1_doOverlap_2 6 rfl rfl)
theorem dX1_doOverlap_54 : decode cX1_doOverlap 54 = .ok (.iload 5, 2) := dk_21 5 (dk_at dksX1_doOverlap_2 7 rfl rfl)
theorem dX1_doOverlap_56 : decode cX1_doOverlap 56 = .ok (.iadd, 1) := dk_96 (dk_at dksX1_doOverlap_2 9 rfl rfl)
theorem dX1_doOverlap_57 : decode cX1_doOverlap 57 = .ok (.iaload, 1) := dk_46 (dk_at dksX1_doOverlap_2 10 rfl rfl)
theorem dX1_doOverlap_58 : decode cX1_doOverlap 58 = .ok (.aload_n 2, 1) := dk_44 (dk_at dksX1_doOverlap_2 11 rfl rfl)
theorem dX1_doOverlap_59 : decode cX1_doOverlap 59 = .ok (.iload_n 3, 1) := dk_29 (dk_at dksX1_doOverlap_2 12 rfl rfl)
theorem dX1_doOverlap_60 : decode cX1_doOverlap 60 = .ok (.iconst 3, 1) := dk_6 (dk_at dksX1_doOverlap_2 13 rfl rfl)
theorem dX1_doOverlap_61 : decode cX1_doOverlap 61 = .ok (.iadd, 1) := dk_96 (dk_at dksX1_doOverlap_2 14 rfl rfl)
theorem dX1_doOverlap_62 : decode cX1_doOverlap 62 = .ok (.iload 6, 2) := dk_21 6 (dk_at dksX1_doOverlap_2 15 rfl rfl)
theorem dX1_doOverlap_64 : decode cX1_doOverlap 64 = .ok (.iadd, 1) := dk_96 (dk_at dksX1_doOverlap_2 17 rfl rfl)
theorem dX1_doOverlap_65 : decode cX1_doOverlap 65 = .ok (.iaload, 1) := dk_46 (dk_at dksX1_doOverlap_2 18 rfl rfl)
theorem dX1_doOverlap_66 : decode cX1_doOverlap 66 = .ok (.isub, 1) := dk_100 (dk_at dksX1_doOverlap_2 19 rfl rfl)
theorem dX1_doOverlap_67 : decode cX1_doOverlap 67 = .ok (.aload_n 2, 1) := dk_44 (dk_at dksX1_doOverlap_2 20 rfl rfl)
theorem dX1_doOverlap_68 : decode cX1_doOverlap 68 = .ok (.iload_n 3, 1) := dk_29 (dk_at dksX1_doOverlap_2 21 rfl rfl)
theorem dX1_doOverlap_69 : decode cX1_doOverlap 69 = .ok (.iconst 3, 1) := dk_6 (dk_at dksX1_doOverlap_2 22 rfl rfl)
theorem dX1_doOverlap_70 : decode cX1_doOverlap 70 = .ok (.iadd, 1) := dk_96 (dk_at dksX1_doOverlap_2 23 rfl rfl)
theorem dX1_doOverlap_71 : decode cX1_doOverlap 71 = .ok (.iload 5, 2) := dk_21 5 (dk_at dksX1_doOverlap_3 0 rfl rfl)
theorem dX1_doOverlap_73 : decode cX1_doOverlap 73 = .ok (.iadd, 1) := dk_96 (dk_at dksX1_doOverlap_3 2 rfl rfl)
theorem dX1_doOverlap_74 : decode cX1_doOverlap 74 = .ok (.iaload, 1) := dk_46 (dk_at dksX1_doOverlap_3 3 rfl rfl)
theorem dX1_doOverlap_75 : decode cX1_doOverlap 75 = .ok (.aload_n 2, 1) := dk_44 (dk_at dksX1_doOverlap_3 4 rfl rfl)
theorem dX1_doOverlap_76 : decode cX1_doOverlap 76 = .ok (.iload_n 3, 1) := dk_29 (dk_at dksX1_doOverlap_3 5 rfl rfl)
theorem dX1_doOverlap_77 : decode cX1_doOverlap 77 = .ok (.iload 6, 2) := dk_21 6 (dk_at dksX1_doOverlap_3 6 rfl rfl)
theorem dX1_doOverlap_79 : decode cX1_doOverlap 79 = .ok (.iadd, 1) := dk_96 (dk_at dksX1_doOverlap_3 8 rfl rfl)
theorem dX1_doOverlap_80 : decode cX1_doOverlap 80 = .ok (.iaload, 1) := dk_46 (dk_at dksX1_doOverlap_3 9 rfl rfl)
theorem dX1_doOverlap_81 : decode cX1_doOverlap 81 = .ok (.isub, 1) := dk_100 (dk_at dksX1_doOverlap_3 10 rfl rfl)
theorem dX1_doOverlap_82 : decode cX1_doOverlap 82 = .ok (.invokestatic 64, 3) := dk_184 0 64 (dk_at dksX1_doOverlap_3 11 rfl rfl)
theorem dX1_doOverlap_85 : decode cX1_doOverlap 85 = .ok (.iand, 1) := dk_126 (dk_at dksX1_doOverlap_3 14 rfl rfl)
theorem dX1_doOverlap_86 : decode cX1_doOverlap 86 = .ok (.istore 4, 2) := dk_54 4 (dk_at dksX1_doOverlap_3 15 rfl rfl)
theorem dX1_doOverlap_88 : decode cX1_doOverlap 88 = .ok (.iinc 5 1, 3) := dk_132 5 1 (dk_at dksX1_doOverlap_3 17 rfl rfl)
theorem dX1_doOverlap_91 : decode cX1_doOverlap 91 = .ok (.goto (-85), 3) := dk_167 255 171 (dk_at dksX1_doOverlap_3 20 rfl rfl)
theorem dX1_doOverlap_94 : decode cX1_doOverlap 94 = .ok (.iload 4, 2) := dk_21 4 (dk_at dksX1_doOverlap_4 0 rfl rfl)
theorem dX1_doOverlap_96 : decode cX1_doOverlap 96 = .ok (.ireturn, 1) := dk_172 (dk_at dksX1_doOverlap_4 2 rfl rfl)
abbrev cX1_share : ByteArray := prog_9_method_6_code
def yX1_share : MethodName := ⟨RX1, "share", "(IIII)Z"⟩
def dkwX1_share_0 : List UInt8 := [26, 29, 162, 0, 12, 28, 27, 162, 0, 7, 4, 167, 0, 4, 3, 172]
abbrev dktX1_share_0 : List UInt8 := dkwX1_share_0 ++ []
theorem dksX1_share_0 : cX1_share.data.toList.drop 0 = dktX1_share_0 := by decide +kernel
theorem dX1_share_0 : decode cX1_share 0 = .ok (.iload_n 0, 1) := dk_26 (dk_at dksX1_share_0 0 rfl rfl)
theorem dX1_share_1 : decode cX1_share 1 = .ok (.iload_n 3, 1) := dk_29 (dk_at dksX1_share_0 1 rfl rfl)
theorem dX1_share_2 : decode cX1_share 2 = .ok (.if_icmp .ge 12, 3) := dk_162 0 12 (dk_at dksX1_share_0 2 rfl rfl)
theorem dX1_share_5 : decode cX1_share 5 = .ok (.iload_n 2, 1) := dk_28 (dk_at dksX1_share_0 5 rfl rfl)
theorem dX1_share_6 : decode cX1_share 6 = .ok (.iload_n 1, 1) := dk_27 (dk_at dksX1_share_0 6 rfl rfl)
theorem dX1_share_7 : decode cX1_share 7 = .ok (.if_icmp .ge 7, 3) := dk_162 0 7 (dk_at dksX1_share_0 7 rfl rfl)
theorem dX1_share_10 : decode cX1_share 10 = .ok (.iconst 1, 1) := dk_4 (dk_at dksX1_share_0 10 rfl rfl)
theorem dX1_share_11 : decode cX1_share 11 = .ok (.goto 4, 3) := dk_167 0 4 (dk_at dksX1_share_0 11 rfl rfl)
theorem dX1_share_14 : decode cX1_share 14 = .ok (.iconst 0, 1) := dk_3 (dk_at dksX1_share_0 14 rfl rfl)
theorem dX1_share_15 : decode cX1_share 15 = .ok (.ireturn, 1) := dk_172 (dk_at dksX1_share_0 15 rfl rfl)
abbrev cX1_push : ByteArray := prog_9_method_18_code
def yX1_push : MethodName := ⟨RX1, "push", "(III)I"⟩
def dkwX1_push_7 : List UInt8 := [153, 0, 11, 42, 27, 182, 0, 97, 132, 4, 1, 167, 255, 125, 21, 4, 172]
abbrev dktX1_push_7 : List UInt8 := dkwX1_push_7 ++ []
def dkwX1_push_6 : List UInt8 := [153, 0, 17, 42, 27, 182, 0, 86, 16, 150, 160, 0, 7, 4, 167, 0, 4, 3, 54, 5, 21, 5]
abbrev dktX1_push_6 : List UInt8 := dkwX1_push_6 ++ dktX1_push_7
def dkwX1_push_5 : List UInt8 := [21, 6, 96, 42, 27, 7, 182, 0, 104, 21, 7, 96, 42, 27, 8, 182, 0, 104, 21, 8, 96, 182, 0, 82]
abbrev dktX1_push_5 : List UInt8 := dkwX1_push_5 ++ dktX1_push_6
def dkwX1_push_4 : List UInt8 := [42, 27, 4, 182, 0, 104, 21, 7, 96, 42, 27, 5, 182, 0, 104, 21, 8, 96, 42, 27, 6, 182, 0, 104]
abbrev dktX1_push_4 : List UInt8 := dkwX1_push_4 ++ dktX1_push_5
def dkwX1_push_3 : List UInt8 := [54, 7, 28, 5, 160, 0, 7, 29, 167, 0, 4, 3, 54, 8, 42, 42, 27, 3, 182, 0, 104, 21, 6, 96]
abbrev dktX1_push_3 : List UInt8 := dkwX1_push_3 ++ dktX1_push_4
def dkwX1_push_2 : List UInt8 := [153, 0, 132, 28, 154, 0, 7, 29, 167, 0, 4, 3, 54, 6, 28, 4, 160, 0, 7, 29, 167, 0, 4, 3]
abbrev dktX1_push_2 : List UInt8 := dkwX1_push_2 ++ dktX1_push_3
def dkwX1_push_1 : List UInt8 := [159, 0, 11, 29, 2, 159, 0, 6, 16, 154, 172, 42, 182, 0, 94, 3, 54, 4, 4, 54, 5, 21, 5]
abbrev dktX1_push_1 : List UInt8 := dkwX1_push_1 ++ dktX1_push_2
def dkwX1_push_0 : List UInt8 := [42, 27, 182, 0, 75, 154, 0, 6, 16, 155, 172, 28, 3, 5, 184, 0, 60, 153, 0, 13, 29, 4]
abbrev dktX1_push_0 : List UInt8 := dkwX1_push_0 ++ dktX1_push_1
theorem dksX1_push_0 : cX1_push.data.toList.drop 0 = dktX1_push_0 := by decide +kernel
theorem dksX1_push_1 : cX1_push.data.toList.drop 22 = dktX1_push_1 := dk_seg dksX1_push_0 22 rfl rfl
theorem dksX1_push_2 : cX1_push.data.toList.drop 45 = dktX1_push_2 := dk_seg dksX1_push_1 23 rfl rfl
theorem dksX1_push_3 : cX1_push.data.toList.drop 69 = dktX1_push_3 := dk_seg dksX1_push_2 24 rfl rfl
theorem dksX1_push_4 : cX1_push.data.toList.drop 93 = dktX1_push_4 := dk_seg dksX1_push_3 24 rfl rfl
theorem dksX1_push_5 : cX1_push.data.toList.drop 117 = dktX1_push_5 := dk_seg dksX1_push_4 24 rfl rfl
theorem dksX1_push_6 : cX1_push.data.toList.drop 141 = dktX1_push_6 := dk_seg dksX1_push_5 24 rfl rfl
theorem dksX1_push_7 : cX1_push.data.toList.drop 163 = dktX1_push_7 := dk_seg dksX1_push_6 22 rfl rfl
theorem dX1_push_0 : decode cX1_push 0 = .ok (.aload_n 0, 1) := dk_42 (dk_at dksX1_push_0 0 rfl rfl)
theorem dX1_push_1 : decode cX1_push 1 = .ok (.iload_n 1, 1) := dk_27 (dk_at dksX1_push_0 1 rfl rfl)
theorem dX1_push_2 : decode cX1_push 2 = .ok (.invokevirtual 75, 3) := dk_182 0 75 (dk_at dksX1_push_0 2 rfl rfl)
theorem dX1_push_5 : decode cX1_push 5 = .ok (.ifCond .ne 6, 3) := dk_154 0 6 (dk_at dksX1_push_0 5 rfl rfl)
theorem dX1_push_8 : decode cX1_push 8 = .ok (.bipush (-101), 2) := dk_16 155 (dk_at dksX1_push_0 8 rfl rfl)
theorem dX1_push_10 : decode cX1_push 10 = .ok (.ireturn, 1) := dk_172 (dk_at dksX1_push_0 10 rfl rfl)
theorem dX1_push_11 : decode cX1_push 11 = .ok (.iload_n 2, 1) := dk_28 (dk_at dksX1_push_0 11 rfl rfl)
theorem dX1_push_12 : decode cX1_push 12 = .ok (.iconst 0, 1) := dk_3 (dk_at dksX1_push_0 12 rfl rfl)
theorem dX1_push_13 : decode cX1_push 13 = .ok (.iconst 2, 1) := dk_5 (dk_at dksX1_push_0 13 rfl rfl)
theorem dX1_push_14 : decode cX1_push 14 = .ok (.invokestatic 60, 3) := dk_184 0 60 (dk_at dksX1_push_0 14 rfl rfl)
theorem dX1_push_17 : decode cX1_push 17 = .ok (.ifCond .eq 13, 3) := dk_153 0 13 (dk_at dksX1_push_0 17 rfl rfl)
theorem dX1_push_20 : decode cX1_push 20 = .ok (.iload_n 3, 1) := dk_29 (dk_at dksX1_push_0 20 rfl rfl)
theorem dX1_push_21 : decode cX1_push 21 = .ok (.iconst 1, 1) := dk_4 (dk_at dksX1_push_0 21 rfl rfl)
theorem dX1_push_22 : decode cX1_push 22 = .ok (.if_icmp .eq 11, 3) := dk_159 0 11 (dk_at dksX1_push_1 0 rfl rfl)
theorem dX1_push_25 : decode cX1_push 25 = .ok (.iload_n 3, 1) := dk_29 (dk_at dksX1_push_1 3 rfl rfl)
theorem dX1_push_26 : decode cX1_push 26 = .ok (.iconst (-1), 1) := dk_2 (dk_at dksX1_push_1 4 rfl rfl)
theorem dX1_push_27 : decode cX1_push 27 = .ok (.if_icmp .eq 6, 3) := dk_159 0 6 (dk_at dksX1_push_1 5 rfl rfl)
theorem dX1_push_30 : decode cX1_push 30 = .ok (.bipush (-102), 2) := dk_16 154 (dk_at dksX1_push_1 8 rfl rfl)
theorem dX1_push_32 : decode cX1_push 32 = .ok (.ireturn, 1) := dk_172 (dk_at dksX1_push_1 10 rfl rfl)
theorem dX1_push_33 : decode cX1_push 33 = .ok (.aload_n 0, 1) := dk_42 (dk_at dksX1_push_1 11 rfl rfl)
theorem dX1_push_34 : decode cX1_push 34 = .ok (.invokevirtual 94, 3) := dk_182 0 94 (dk_at dksX1_push_1 12 rfl rfl)
theorem dX1_push_37 : decode cX1_push 37 = .ok (.iconst 0, 1) := dk_3 (dk_at dksX1_push_1 15 rfl rfl)
theorem dX1_push_38 : decode cX1_push 38 = .ok (.istore 4, 2) := dk_54 4 (dk_at dksX1_push_1 16 rfl rfl)
theorem dX1_push_40 : decode cX1_push 40 = .ok (.iconst 1, 1) := dk_4 (dk_at dksX1_push_1 18 rfl rfl)
theorem dX1_push_41 : decode cX1_push 41 = .ok (.istore 5, 2) := dk_54 5 (dk_at dksX1_push_1 19 rfl rfl)
theorem dX1_push_43 : decode cX1_push 43 = .ok (.iload 5, 2) := dk_21 5 (dk_at dksX1_push_1 21 rfl rfl)
theorem dX1_push_45 : decode cX1_push 45 = .ok (.ifCond .eq 132, 3) := dk_153 0 132 (dk_at dksX1_push_2 0 rfl rfl)
theorem dX1_push_48 : decode cX1_push 48 = .ok (.iload_n 2, 1) := dk_28 (dk_at dksX1_push_2 3 rfl rfl)
theorem dX1_push_49 : decode cX1_push 49 = .ok (.ifCond .ne 7, 3) := dk_154 0 7 (dk_at dksX1_push_2 4 rfl rfl)
theorem dX1_push_52 : decode cX1_push 52 = .ok (.iload_n 3, 1) := dk_29 (dk_at dksX1_push_2 7 rfl rfl)
theorem dX1_push_53 : decode cX1_push 53 = .ok (.goto 4, 3) := dk_167 0 4 (dk_at dksX1_push_2 8 rfl rfl)
theorem dX1_push_56 : decode cX1_push 56 = .ok (.iconst 0, 1) := dk_3 (dk_at dksX1_push_2 11 rfl rfl)
theorem dX1_push_57 : decode cX1_push 57 = .ok (.istore 6, 2) := dk_54 6 (dk_at dksX1_push_2 12 rfl rfl)
theorem dX1_push_59 : decode cX1_push 59 = .ok (.iload_n 2, 1) := dk_28 (dk_at dksX1_push_2 14 rfl rfl)
theorem dX1_push_60 : decode cX1_push 60 = .ok (.iconst 1, 1) := dk_4 (dk_at dksX1_push_2 15 rfl rfl)
theorem dX1_push_61 : decode cX1_push 61 = .ok (.if_icmp .ne 7, 3) := dk_160 0 7 (dk_at dksX1_push_2 16 rfl rfl)
theorem dX1_push_64 : decode cX1_push 64 = .ok (.iload_n 3, 1) := dk_29 (dk_at dksX1_push_2 19 rfl rfl)
theorem dX1_push_65 : decode cX1_push 65 = .ok (.goto 4, 3) := dk_167 0 4 (dk_at dksX1_push_2 20 rfl rfl)
theorem dX1_push_68 : decode cX1_push 68 = .ok (.iconst 0, 1) := dk_3 (dk_at dksX1_push_2 23 rfl rfl)
theorem dX1_push_69 : decode cX1_push 69 = .ok (.istore 7, 2) := dk_54 7 (dk_at dksX1_push_3 0 rfl rfl)
theorem dX1_push_71 : decode cX1_push 71 = .ok (.iload_n 2, 1) := dk_28 (dk_at dksX1_push_3 2 rfl rfl)
theorem dX1_push_72 : decode cX1_push 72 = .ok (.iconst 2, 1) := dk_5 (dk_at dksX1_push_3 3 rfl rfl)
theorem dX1_push_73 : decode cX1_push 73 = .ok (.if_icmp .ne 7, 3) := dk_160 0 7 (dk_at dksX1_push_3 4 rfl rfl)
theorem dX1_push_76 : decode cX1_push 76 = .ok (.iload_n 3, 1) := dk_29 (dk_at dksX1_push_3 7 rfl rfl)
theorem dX1_push_77 : decode cX1_push 77 = .ok (.goto 4, 3) := dk_167 0 4 (dk_at dksX1_push_3 8 rfl rfl)
theorem dX1_push_80 : decode cX1_push 80 = .ok (.iconst 0, 1) := dk_3 (dk_at dksX1_push_3 11 rfl rfl)
theorem dX1_push_81 : decode cX1_push 81 = .ok (.istore 8, 2) := dk_54 8 (dk_at dksX1_push_3 12 rfl rfl)
theorem dX1_push_83 : decode cX1_push 83 = .ok (.aload_n 0, 1) := dk_42 (dk_at dksX1_push_3 14 rfl rfl)
theorem dX1_push_84 : decode cX1_push 84 = .ok (.aload_n 0, 1) := dk_42 (dk_at dksX1_push_3 15 rfl rfl)
theorem dX1_push_85 : decode cX1_push 85 = .ok (.iload_n 1, 1) := dk_27 (dk_at dksX1_push_3 16 rfl rfl)
theorem dX1_push_86 : decode cX1_push 86 = .ok (.iconst 0, 1) := dk_3 (dk_at dksX1_push_3 17 rfl rfl)
theorem dX1_push_87 : decode cX1_push 87 = .ok (.invokevirtual 104, 3) := dk_182 0 104 (dk_at dksX1_push_3 18 rfl rfl)
theorem dX1_push_90 : decode cX1_push 90 = .ok (.iload 6, 2) := dk_21 6 (dk_at dksX1_push_3 21 rfl rfl)
theorem dX1_push_92 : decode cX1_push 92 = .ok (.iadd, 1) := dk_96 (dk_at dksX1_push_3 23 rfl rfl)
theorem dX1_push_93 : decode cX1_push 93 = .ok (.aload_n 0, 1) := dk_42 (dk_at dksX1_push_4 0 rfl rfl)
theorem dX1_push_94 : decode cX1_push 94 = .ok (.iload_n 1, 1) := dk_27 (dk_at dksX1_push_4 1 rfl rfl)
theorem dX1_push_95 : decode cX1_push 95 = .ok (.iconst 1, 1) := dk_4 (dk_at dksX1_push_4 2 rfl rfl)
theorem dX1_push_96 : decode cX1_push 96 = .ok (.invokevirtual 104, 3) := dk_182 0 104 (dk_at dksX1_push_4 3 rfl rfl)
theorem dX1_push_99 : decode cX1_push 99 = .ok (.iload 7, 2) := dk_21 7 (dk_at dksX1_push_4 6 rfl rfl)
theorem dX1_push_101 : decode cX1_push 101 = .ok (.iadd, 1) := dk_96 (dk_at dksX1_push_4 8 rfl rfl)
theorem dX1_push_102 : decode cX1_push 102 = .ok (.aload_n 0, 1) := dk_42 (dk_at dksX1_push_4 9 rfl rfl)
theorem dX1_push_103 : decode cX1_push 103 = .ok (.iload_n 1, 1) := dk_27 (dk_at dksX1_push_4 10 rfl rfl)
theorem dX1_push_104 : decode cX1_push 104 = .ok (.iconst 2, 1) := dk_5 (dk_at dksX1_push_4 11 rfl rfl)
theorem dX1_push_105 : decode cX1_push 105 = .ok (.invokevirtual 104, 3) := dk_182 0 104 (dk_at dksX1_push_4 12 rfl rfl)
theorem dX1_push_108 : decode cX1_push 108 = .ok (.iload 8, 2) := dk_21 8 (dk_at dksX1_push_4 15 rfl rfl)
theorem dX1_push_110 : decode cX1_push 110 = .ok (.iadd, 1) := dk_96 (dk_at dksX1_push_4 17 rfl rfl)
theorem dX1_push_111 : decode cX1_push 111 = .ok (.aload_n 0, 1) := dk_42 (dk_at dksX1_push_4 18 rfl rfl)
theorem dX1_push_112 : decode cX1_push 112 = .ok (.iload_n 1, 1) := dk_27 (dk_at dksX1_push_4 19 rfl rfl)
theorem dX1_push_113 : decode cX1_push 113 = .ok (.iconst 3, 1) := dk_6 (dk_at dksX1_push_4 20 rfl rfl)
theorem dX1_push_114 : decode cX1_push 114 = .ok (.invokevirtual 104, 3) := dk_182 0 104 (dk_at dksX1_push_4 21 rfl rfl)
theorem dX1_push_117 : decode cX1_push 117 = .ok (.iload 6, 2) := dk_21 6 (dk_at dksX1_push_5 0 rfl rfl)
theorem dX1_push_119 : decode cX1_push 119 = .ok (.iadd, 1) := dk_96 (dk_at dksX1_push_5 2 rfl rfl)
theorem dX1_push_120 : decode cX1_push 120 = .ok (.aload_n 0, 1) := dk_42 (dk_at dksX1_push_5 3 rfl rfl)
theorem dX1_push_121 : decode cX1_push 121 = .ok (.iload_n 1, 1) := dk_27 (dk_at dksX1_push_5 4 rfl rfl)
theorem dX1_push_122 : decode cX1_push 122 = .ok (.iconst 4, 1) := dk_7 (dk_at dksX1_push_5 5 rfl rfl)
theorem dX1_push_123 : decode cX1_push 123 = .ok (.invokevirtual 104, 3) := dk_182 0 104 (dk_at dksX1_push_5 6 rfl rfl)
theorem dX1_push_126 : decode cX1_push 126 = .ok (.iload 7, 2) := dk_21 7 (dk_at dksX1_push_5 9 rfl rfl)
theorem dX1_push_128 : decode cX1_push 128 = .ok (.iadd, 1) := dk_96 (dk_at dksX1_push_5 11 rfl rfl)
theorem dX1_push_129 : decode cX1_push 129 = .ok (.aload_n 0, 1) := dk_42 (dk_at dksX1_push_5 12 rfl rfl)
theorem dX1_push_130 : decode cX1_push 130 = .ok (.iload_n 1, 1) := dk_27 (dk_at dksX1_push_5 13 rfl rfl)
theorem dX1_push_131 : decode cX1_push 131 = .ok (.iconst 5, 1) := dk_8 (dk_at dksX1_push_5 14 rfl rfl)
theorem dX1_push_132 : decode cX1_push 132 = .ok (.invokevirtual 104, 3) := dk_182 0 104 (dk_at dksX1_push_5 15 rfl rfl)
theorem dX1_push_135 : decode cX1_push 135 = .ok (.iload 8, 2) := dk_21 8 (dk_at dksX1_push_5 18 rfl rfl)
theorem dX1_push_137 : decode cX1_push 137 = .ok (.iadd, 1) := dk_96 (dk_at dksX1_push_5 20 rfl rfl)
theorem dX1_push_138 : decode cX1_push 138 = .ok (.invokevirtual 82, 3) := dk_182 0 82 (dk_at dksX1_push_5 21 rfl rfl)
theorem dX1_push_141 : decode cX1_push 141 = .ok (.ifCond .eq 17, 3) := dk_153 0 17 (dk_at dksX1_push_6 0 rfl rfl)
theorem dX1_push_144 : decode cX1_push 144 = .ok (.aload_n 0, 1) := dk_42 (dk_at dksX1_push_6 3 rfl rfl)
theorem dX1_push_145 : decode cX1_push 145 = .ok (.iload_n 1, 1) := dk_27 (dk_at dksX1_push_6 4 rfl rfl)
theorem dX1_push_146 : decode cX1_push 146 = .ok (.invokevirtual 86, 3) := dk_182 0 86 (dk_at dksX1_push_6 5 rfl rfl)
theorem dX1_push_149 : decode cX1_push 149 = .ok (.bipush (-106), 2) := dk_16 150 (dk_at dksX1_push_6 8 rfl rfl)
theorem dX1_push_151 : decode cX1_push 151 = .ok (.if_icmp .ne 7, 3) := dk_160 0 7 (dk_at dksX1_push_6 10 rfl rfl)
theorem dX1_push_154 : decode cX1_push 154 = .ok (.iconst 1, 1) := dk_4 (dk_at dksX1_push_6 13 rfl rfl)
theorem dX1_push_155 : decode cX1_push 155 = .ok (.goto 4, 3) := dk_167 0 4 (dk_at dksX1_push_6 14 rfl rfl)
theorem dX1_push_158 : decode cX1_push 158 = .ok (.iconst 0, 1) := dk_3 (dk_at dksX1_push_6 17 rfl rfl)
theorem dX1_push_159 : decode cX1_push 159 = .ok (.istore 5, 2) := dk_54 5 (dk_at dksX1_push_6 18 rfl rfl)
theorem dX1_push_161 : decode cX1_push 161 = .ok (.iload 5, 2) := dk_21 5 (dk_at dksX1_push_6 20 rfl rfl)
theorem dX1_push_163 : decode cX1_push 163 = .ok (.ifCond .eq 11, 3) := dk_153 0 11 (dk_at dksX1_push_7 0 rfl rfl)
theorem dX1_push_166 : decode cX1_push 166 = .ok (.aload_n 0, 1) := dk_42 (dk_at dksX1_push_7 3 rfl rfl)
theorem dX1_push_167 : decode cX1_push 167 = .ok (.iload_n 1, 1) := dk_27 (dk_at dksX1_push_7 4 rfl rfl)
theorem dX1_push_168 : decode cX1_push 168 = .ok (.invokevirtual 97, 3) := dk_182 0 97 (dk_at dksX1_push_7 5 rfl rfl)
theorem dX1_push_171 : decode cX1_push 171 = .ok (.iinc 4 1, 3) := dk_132 4 1 (dk_at dksX1_push_7 8 rfl rfl)
theorem dX1_push_174 : decode cX1_push 174 = .ok (.goto (-131), 3) := dk_167 255 125 (dk_at dksX1_push_7 11 rfl rfl)
theorem dX1_push_177 : decode cX1_push 177 = .ok (.iload 4, 2) := dk_21 4 (dk_at dksX1_push_7 14 rfl rfl)
theorem dX1_push_179 : decode cX1_push 179 = .ok (.ireturn, 1) := dk_172 (dk_at dksX1_push_7 16 rfl rfl)
abbrev cX1_turn : ByteArray := prog_9_method_19_code
def yX1_turn : MethodName := ⟨RX1, "turn", "()I"⟩
def dkwX1_turn_3 : List UInt8 := [182, 0, 97, 132, 1, 1, 167, 255, 187, 42, 182, 0, 101, 172]
abbrev dktX1_turn_3 : List UInt8 := dkwX1_turn_3 ++ []
def dkwX1_turn_2 : List UInt8 := [182, 0, 104, 100, 42, 27, 6, 182, 0, 104, 42, 27, 8, 182, 0, 104, 182, 0, 82, 61, 42, 27]
abbrev dktX1_turn_2 : List UInt8 := dkwX1_turn_2 ++ dktX1_turn_3
def dkwX1_turn_1 : List UInt8 := [27, 7, 182, 0, 104, 100, 42, 27, 3, 182, 0, 104, 42, 27, 5, 182, 0, 104, 16, 32, 42, 27, 4]
abbrev dktX1_turn_1 : List UInt8 := dkwX1_turn_1 ++ dktX1_turn_2
def dkwX1_turn_0 : List UInt8 := [42, 182, 0, 94, 3, 60, 27, 16, 12, 162, 0, 69, 42, 27, 182, 0, 75, 153, 0, 55, 42, 16, 32, 42]
abbrev dktX1_turn_0 : List UInt8 := dkwX1_turn_0 ++ dktX1_turn_1
theorem dksX1_turn_0 : cX1_turn.data.toList.drop 0 = dktX1_turn_0 := by decide +kernel
theorem dksX1_turn_1 : cX1_turn.data.toList.drop 24 = dktX1_turn_1 := dk_seg dksX1_turn_0 24 rfl rfl
theorem dksX1_turn_2 : cX1_turn.data.toList.drop 47 = dktX1_turn_2 := dk_seg dksX1_turn_1 23 rfl rfl
theorem dksX1_turn_3 : cX1_turn.data.toList.drop 69 = dktX1_turn_3 := dk_seg dksX1_turn_2 22 rfl rfl
theorem dX1_turn_0 : decode cX1_turn 0 = .ok (.aload_n 0, 1) := dk_42 (dk_at dksX1_turn_0 0 rfl rfl)
theorem dX1_turn_1 : decode cX1_turn 1 = .ok (.invokevirtual 94, 3) := dk_182 0 94 (dk_at dksX1_turn_0 1 rfl rfl)
theorem dX1_turn_4 : decode cX1_turn 4 = .ok (.iconst 0, 1) := dk_3 (dk_at dksX1_turn_0 4 rfl rfl)
theorem dX1_turn_5 : decode cX1_turn 5 = .ok (.istore_n 1, 1) := dk_60 (dk_at dksX1_turn_0 5 rfl rfl)
theorem dX1_turn_6 : decode cX1_turn 6 = .ok (.iload_n 1, 1) := dk_27 (dk_at dksX1_turn_0 6 rfl rfl)
theorem dX1_turn_7 : decode cX1_turn 7 = .ok (.bipush 12, 2) := dk_16 12 (dk_at dksX1_turn_0 7 rfl rfl)
theorem dX1_turn_9 : decode cX1_turn 9 = .ok (.if_icmp .ge 69, 3) := dk_162 0 69 (dk_at dksX1_turn_0 9 rfl rfl)
theorem dX1_turn_12 : decode cX1_turn 12 = .ok (.aload_n 0, 1) := dk_42 (dk_at dksX1_turn_0 12 rfl rfl)
theorem dX1_turn_13 : decode cX1_turn 13 = .ok (.iload_n 1, 1) := dk_27 (dk_at dksX1_turn_0 13 rfl rfl)
theorem dX1_turn_14 : decode cX1_turn 14 = .ok (.invokevirtual 75, 3) := dk_182 0 75 (dk_at dksX1_turn_0 14 rfl rfl)
theorem dX1_turn_17 : decode cX1_turn 17 = .ok (.ifCond .eq 55, 3) := dk_153 0 55 (dk_at dksX1_turn_0 17 rfl rfl)
theorem dX1_turn_20 : decode cX1_turn 20 = .ok (.aload_n 0, 1) := dk_42 (dk_at dksX1_turn_0 20 rfl rfl)
theorem dX1_turn_21 : decode cX1_turn 21 = .ok (.bipush 32, 2) := dk_16 32 (dk_at dksX1_turn_0 21 rfl rfl)
theorem dX1_turn_23 : decode cX1_turn 23 = .ok (.aload_n 0, 1) := dk_42 (dk_at dksX1_turn_0 23 rfl rfl)
theorem dX1_turn_24 : decode cX1_turn 24 = .ok (.iload_n 1, 1) := dk_27 (dk_at dksX1_turn_1 0 rfl rfl)
theorem dX1_turn_25 : decode cX1_turn 25 = .ok (.iconst 4, 1) := dk_7 (dk_at dksX1_turn_1 1 rfl rfl)
theorem dX1_turn_26 : decode cX1_turn 26 = .ok (.invokevirtual 104, 3) := dk_182 0 104 (dk_at dksX1_turn_1 2 rfl rfl)
theorem dX1_turn_29 : decode cX1_turn 29 = .ok (.isub, 1) := dk_100 (dk_at dksX1_turn_1 5 rfl rfl)
theorem dX1_turn_30 : decode cX1_turn 30 = .ok (.aload_n 0, 1) := dk_42 (dk_at dksX1_turn_1 6 rfl rfl)
theorem dX1_turn_31 : decode cX1_turn 31 = .ok (.iload_n 1, 1) := dk_27 (dk_at dksX1_turn_1 7 rfl rfl)
theorem dX1_turn_32 : decode cX1_turn 32 = .ok (.iconst 0, 1) := dk_3 (dk_at dksX1_turn_1 8 rfl rfl)
theorem dX1_turn_33 : decode cX1_turn 33 = .ok (.invokevirtual 104, 3) := dk_182 0 104 (dk_at dksX1_turn_1 9 rfl rfl)
theorem dX1_turn_36 : decode cX1_turn 36 = .ok (.aload_n 0, 1) := dk_42 (dk_at dksX1_turn_1 12 rfl rfl)
theorem dX1_turn_37 : decode cX1_turn 37 = .ok (.iload_n 1, 1) := dk_27 (dk_at dksX1_turn_1 13 rfl rfl)
theorem dX1_turn_38 : decode cX1_turn 38 = .ok (.iconst 2, 1) := dk_5 (dk_at dksX1_turn_1 14 rfl rfl)
theorem dX1_turn_39 : decode cX1_turn 39 = .ok (.invokevirtual 104, 3) := dk_182 0 104 (dk_at dksX1_turn_1 15 rfl rfl)
theorem dX1_turn_42 : decode cX1_turn 42 = .ok (.bipush 32, 2) := dk_16 32 (dk_at dksX1_turn_1 18 rfl rfl)
theorem dX1_turn_44 : decode cX1_turn 44 = .ok (.aload_n 0, 1) := dk_42 (dk_at dksX1_turn_1 20 rfl rfl)
theorem dX1_turn_45 : decode cX1_turn 45 = .ok (.iload_n 1, 1) := dk_27 (dk_at dksX1_turn_1 21 rfl rfl)
theorem dX1_turn_46 : decode cX1_turn 46 = .ok (.iconst 1, 1) := dk_4 (dk_at dksX1_turn_1 22 rfl rfl)
theorem dX1_turn_47 : decode cX1_turn 47 = .ok (.invokevirtual 104, 3) := dk_182 0 104 (dk_at dksX1_turn_2 0 rfl rfl)
theorem dX1_turn_50 : decode cX1_turn 50 = .ok (.isub, 1) := dk_100 (dk_at dksX1_turn_2 3 rfl rfl)
theorem dX1_turn_51 : decode cX1_turn 51 = .ok (.aload_n 0, 1) := dk_42 (dk_at dksX1_turn_2 4 rfl rfl)
theorem dX1_turn_52 : decode cX1_turn 52 = .ok (.iload_n 1, 1) := dk_27 (dk_at dksX1_turn_2 5 rfl rfl)
theorem dX1_turn_53 : decode cX1_turn 53 = .ok (.iconst 3, 1) := dk_6 (dk_at dksX1_turn_2 6 rfl rfl)
theorem dX1_turn_54 : decode cX1_turn 54 = .ok (.invokevirtual 104, 3) := dk_182 0 104 (dk_at dksX1_turn_2 7 rfl rfl)
theorem dX1_turn_57 : decode cX1_turn 57 = .ok (.aload_n 0, 1) := dk_42 (dk_at dksX1_turn_2 10 rfl rfl)
theorem dX1_turn_58 : decode cX1_turn 58 = .ok (.iload_n 1, 1) := dk_27 (dk_at dksX1_turn_2 11 rfl rfl)
theorem dX1_turn_59 : decode cX1_turn 59 = .ok (.iconst 5, 1) := dk_8 (dk_at dksX1_turn_2 12 rfl rfl)
theorem dX1_turn_60 : decode cX1_turn 60 = .ok (.invokevirtual 104, 3) := dk_182 0 104 (dk_at dksX1_turn_2 13 rfl rfl)
theorem dX1_turn_63 : decode cX1_turn 63 = .ok (.invokevirtual 82, 3) := dk_182 0 82 (dk_at dksX1_turn_2 16 rfl rfl)
theorem dX1_turn_66 : decode cX1_turn 66 = .ok (.istore_n 2, 1) := dk_61 (dk_at dksX1_turn_2 19 rfl rfl)
theorem dX1_turn_67 : decode cX1_turn 67 = .ok (.aload_n 0, 1) := dk_42 (dk_at dksX1_turn_2 20 rfl rfl)
theorem dX1_turn_68 : decode cX1_turn 68 = .ok (.iload_n 1, 1) := dk_27 (dk_at dksX1_turn_2 21 rfl rfl)
theorem dX1_turn_69 : decode cX1_turn 69 = .ok (.invokevirtual 97, 3) := dk_182 0 97 (dk_at dksX1_turn_3 0 rfl rfl)
theorem dX1_turn_72 : decode cX1_turn 72 = .ok (.iinc 1 1, 3) := dk_132 1 1 (dk_at dksX1_turn_3 3 rfl rfl)
theorem dX1_turn_75 : decode cX1_turn 75 = .ok (.goto (-69), 3) := dk_167 255 187 (dk_at dksX1_turn_3 6 rfl rfl)
theorem dX1_turn_78 : decode cX1_turn 78 = .ok (.aload_n 0, 1) := dk_42 (dk_at dksX1_turn_3 9 rfl rfl)
theorem dX1_turn_79 : decode cX1_turn 79 = .ok (.invokevirtual 101, 3) := dk_182 0 101 (dk_at dksX1_turn_3 10 rfl rfl)
theorem dX1_turn_82 : decode cX1_turn 82 = .ok (.ireturn, 1) := dk_172 (dk_at dksX1_turn_3 13 rfl rfl)
abbrev cX1_split : ByteArray := prog_9_method_20_code
def yX1_split : MethodName := ⟨RX1, "split", "(III)I"⟩
def dkwX1_split_5 : List UInt8 := [182, 0, 97, 42, 180, 0, 7, 16, 7, 27, 104, 6, 96, 28, 96, 29, 79, 21, 4, 172]
abbrev dktX1_split_5 : List UInt8 := dkwX1_split_5 ++ []
def dkwX1_split_4 : List UInt8 := [182, 0, 104, 42, 27, 8, 182, 0, 104, 182, 0, 82, 54, 5, 42, 180, 0, 22, 28, 29, 79, 42, 21, 4]
abbrev dktX1_split_4 : List UInt8 := dkwX1_split_4 ++ dktX1_split_5
def dkwX1_split_3 : List UInt8 := [182, 0, 104, 42, 27, 4, 182, 0, 104, 42, 27, 5, 182, 0, 104, 42, 27, 6, 182, 0, 104, 42, 27, 7]
abbrev dktX1_split_3 : List UInt8 := dkwX1_split_3 ++ dktX1_split_4
def dkwX1_split_2 : List UInt8 := [182, 0, 90, 54, 4, 21, 4, 16, 12, 160, 0, 6, 16, 152, 172, 42, 182, 0, 94, 42, 42, 27, 3]
abbrev dktX1_split_2 : List UInt8 := dkwX1_split_2 ++ dktX1_split_3
def dkwX1_split_1 : List UInt8 := [182, 0, 104, 164, 0, 15, 29, 42, 27, 28, 6, 96, 182, 0, 104, 161, 0, 6, 16, 154, 172, 42]
abbrev dktX1_split_1 : List UInt8 := dkwX1_split_1 ++ dktX1_split_2
def dkwX1_split_0 : List UInt8 := [42, 27, 182, 0, 75, 154, 0, 6, 16, 155, 172, 28, 3, 5, 184, 0, 60, 153, 0, 25, 29, 42, 27, 28]
abbrev dktX1_split_0 : List UInt8 := dkwX1_split_0 ++ dktX1_split_1
theorem dksX1_split_0 : cX1_split.data.toList.drop 0 = dktX1_split_0 := by decide +kernel
theorem dksX1_split_1 : cX1_split.data.toList.drop 24 = dktX1_split_1 := dk_seg dksX1_split_0 24 rfl rfl
theorem dksX1_split_2 : cX1_split.data.toList.drop 46 = dktX1_split_2 := dk_seg dksX1_split_1 22 rfl rfl
theorem dksX1_split_3 : cX1_split.data.toList.drop 69 = dktX1_split_3 := dk_seg dksX1_split_2 23 rfl rfl
theorem dksX1_split_4 : cX1_split.data.toList.drop 93 = dktX1_split_4 := dk_seg dksX1_split_3 24 rfl rfl
theorem dksX1_split_5 : cX1_split.data.toList.drop 117 = dktX1_split_5 := dk_seg dksX1_split_4 24 rfl rfl
theorem dX1_split_0 : decode cX1_split 0 = .ok (.aload_n 0, 1) := dk_42 (dk_at dksX1_split_0 0 rfl rfl)
theorem dX1_split_1 : decode cX1_split 1 = .ok (.iload_n 1, 1) := dk_27 (dk_at dksX1_split_0 1 rfl rfl)
theorem dX1_split_2 : decode cX1_split 2 = .ok (.invokevirtual 75, 3) := dk_182 0 75 (dk_at dksX1_split_0 2 rfl rfl)
theorem dX1_split_5 : decode cX1_split 5 = .ok (.ifCond .ne 6, 3) := dk_154 0 6 (dk_at dksX1_split_0 5 rfl rfl)
theorem dX1_split_8 : decode cX1_split 8 = .ok (.bipush (-101), 2) := dk_16 155 (dk_at dksX1_split_0 8 rfl rfl)
theorem dX1_split_10 : decode cX1_split 10 = .ok (.ireturn, 1) := dk_172 (dk_at dksX1_split_0 10 rfl rfl)
theorem dX1_split_11 : decode cX1_split 11 = .ok (.iload_n 2, 1) := dk_28 (dk_at dksX1_split_0 11 rfl rfl)
theorem dX1_split_12 : decode cX1_split 12 = .ok (.iconst 0, 1) := dk_3 (dk_at dksX1_split_0 12 rfl rfl)
theorem dX1_split_13 : decode cX1_split 13 = .ok (.iconst 2, 1) := dk_5 (dk_at dksX1_split_0 13 rfl rfl)
theorem dX1_split_14 : decode cX1_split 14 = .ok (.invokestatic 60, 3) := dk_184 0 60 (dk_at dksX1_split_0 14 rfl rfl)
theorem dX1_split_17 : decode cX1_split 17 = .ok (.ifCond .eq 25, 3) := dk_153 0 25 (dk_at dksX1_split_0 17 rfl rfl)
theorem dX1_split_20 : decode cX1_split 20 = .ok (.iload_n 3, 1) := dk_29 (dk_at dksX1_split_0 20 rfl rfl)
theorem dX1_split_21 : decode cX1_split 21 = .ok (.aload_n 0, 1) := dk_42 (dk_at dksX1_split_0 21 rfl rfl)
theorem dX1_split_22 : decode cX1_split 22 = .ok (.iload_n 1, 1) := dk_27 (dk_at dksX1_split_0 22 rfl rfl)
theorem dX1_split_23 : decode cX1_split 23 = .ok (.iload_n 2, 1) := dk_28 (dk_at dksX1_split_0 23 rfl rfl)
theorem dX1_split_24 : decode cX1_split 24 = .ok (.invokevirtual 104, 3) := dk_182 0 104 (dk_at dksX1_split_1 0 rfl rfl)
theorem dX1_split_27 : decode cX1_split 27 = .ok (.if_icmp .le 15, 3) := dk_164 0 15 (dk_at dksX1_split_1 3 rfl rfl)
theorem dX1_split_30 : decode cX1_split 30 = .ok (.iload_n 3, 1) := dk_29 (dk_at dksX1_split_1 6 rfl rfl)
theorem dX1_split_31 : decode cX1_split 31 = .ok (.aload_n 0, 1) := dk_42 (dk_at dksX1_split_1 7 rfl rfl)
theorem dX1_split_32 : decode cX1_split 32 = .ok (.iload_n 1, 1) := dk_27 (dk_at dksX1_split_1 8 rfl rfl)
theorem dX1_split_33 : decode cX1_split 33 = .ok (.iload_n 2, 1) := dk_28 (dk_at dksX1_split_1 9 rfl rfl)
theorem dX1_split_34 : decode cX1_split 34 = .ok (.iconst 3, 1) := dk_6 (dk_at dksX1_split_1 10 rfl rfl)
theorem dX1_split_35 : decode cX1_split 35 = .ok (.iadd, 1) := dk_96 (dk_at dksX1_split_1 11 rfl rfl)
theorem dX1_split_36 : decode cX1_split 36 = .ok (.invokevirtual 104, 3) := dk_182 0 104 (dk_at dksX1_split_1 12 rfl rfl)
theorem dX1_split_39 : decode cX1_split 39 = .ok (.if_icmp .lt 6, 3) := dk_161 0 6 (dk_at dksX1_split_1 15 rfl rfl)
theorem dX1_split_42 : decode cX1_split 42 = .ok (.bipush (-102), 2) := dk_16 154 (dk_at dksX1_split_1 18 rfl rfl)
theorem dX1_split_44 : decode cX1_split 44 = .ok (.ireturn, 1) := dk_172 (dk_at dksX1_split_1 20 rfl rfl)
theorem dX1_split_45 : decode cX1_split 45 = .ok (.aload_n 0, 1) := dk_42 (dk_at dksX1_split_1 21 rfl rfl)
theorem dX1_split_46 : decode cX1_split 46 = .ok (.invokevirtual 90, 3) := dk_182 0 90 (dk_at dksX1_split_2 0 rfl rfl)
theorem dX1_split_49 : decode cX1_split 49 = .ok (.istore 4, 2) := dk_54 4 (dk_at dksX1_split_2 3 rfl rfl)
theorem dX1_split_51 : decode cX1_split 51 = .ok (.iload 4, 2) := dk_21 4 (dk_at dksX1_split_2 5 rfl rfl)
theorem dX1_split_53 : decode cX1_split 53 = .ok (.bipush 12, 2) := dk_16 12 (dk_at dksX1_split_2 7 rfl rfl)
theorem dX1_split_55 : decode cX1_split 55 = .ok (.if_icmp .ne 6, 3) := dk_160 0 6 (dk_at dksX1_split_2 9 rfl rfl)
theorem dX1_split_58 : decode cX1_split 58 = .ok (.bipush (-104), 2) := dk_16 152 (dk_at dksX1_split_2 12 rfl rfl)
theorem dX1_split_60 : decode cX1_split 60 = .ok (.ireturn, 1) := dk_172 (dk_at dksX1_split_2 14 rfl rfl)
theorem dX1_split_61 : decode cX1_split 61 = .ok (.aload_n 0, 1) := dk_42 (dk_at dksX1_split_2 15 rfl rfl)
theorem dX1_split_62 : decode cX1_split 62 = .ok (.invokevirtual 94, 3) := dk_182 0 94 (dk_at dksX1_split_2 16 rfl rfl)
theorem dX1_split_65 : decode cX1_split 65 = .ok (.aload_n 0, 1) := dk_42 (dk_at dksX1_split_2 19 rfl rfl)
theorem dX1_split_66 : decode cX1_split 66 = .ok (.aload_n 0, 1) := dk_42 (dk_at dksX1_split_2 20 rfl rfl)
theorem dX1_split_67 : decode cX1_split 67 = .ok (.iload_n 1, 1) := dk_27 (dk_at dksX1_split_2 21 rfl rfl)
theorem dX1_split_68 : decode cX1_split 68 = .ok (.iconst 0, 1) := dk_3 (dk_at dksX1_split_2 22 rfl rfl)
theorem dX1_split_69 : decode cX1_split 69 = .ok (.invokevirtual 104, 3) := dk_182 0 104 (dk_at dksX1_split_3 0 rfl rfl)
theorem dX1_split_72 : decode cX1_split 72 = .ok (.aload_n 0, 1) := dk_42 (dk_at dksX1_split_3 3 rfl rfl)
theorem dX1_split_73 : decode cX1_split 73 = .ok (.iload_n 1, 1) := dk_27 (dk_at dksX1_split_3 4 rfl rfl)
theorem dX1_split_74 : decode cX1_split 74 = .ok (.iconst 1, 1) := dk_4 (dk_at dksX1_split_3 5 rfl rfl)
theorem dX1_split_75 : decode cX1_split 75 = .ok (.invokevirtual 104, 3) := dk_182 0 104 (dk_at dksX1_split_3 6 rfl rfl)
theorem dX1_split_78 : decode cX1_split 78 = .ok (.aload_n 0, 1) := dk_42 (dk_at dksX1_split_3 9 rfl rfl)
theorem dX1_split_79 : decode cX1_split 79 = .ok (.iload_n 1, 1) := dk_27 (dk_at dksX1_split_3 10 rfl rfl)
theorem dX1_split_80 : decode cX1_split 80 = .ok (.iconst 2, 1) := dk_5 (dk_at dksX1_split_3 11 rfl rfl)
theorem dX1_split_81 : decode cX1_split 81 = .ok (.invokevirtual 104, 3) := dk_182 0 104 (dk_at dksX1_split_3 12 rfl rfl)
theorem dX1_split_84 : decode cX1_split 84 = .ok (.aload_n 0, 1) := dk_42 (dk_at dksX1_split_3 15 rfl rfl)
theorem dX1_split_85 : decode cX1_split 85 = .ok (.iload_n 1, 1) := dk_27 (dk_at dksX1_split_3 16 rfl rfl)
theorem dX1_split_86 : decode cX1_split 86 = .ok (.iconst 3, 1) := dk_6 (dk_at dksX1_split_3 17 rfl rfl)
theorem dX1_split_87 : decode cX1_split 87 = .ok (.invokevirtual 104, 3) := dk_182 0 104 (dk_at dksX1_split_3 18 rfl rfl)
theorem dX1_split_90 : decode cX1_split 90 = .ok (.aload_n 0, 1) := dk_42 (dk_at dksX1_split_3 21 rfl rfl)
theorem dX1_split_91 : decode cX1_split 91 = .ok (.iload_n 1, 1) := dk_27 (dk_at dksX1_split_3 22 rfl rfl)
theorem dX1_split_92 : decode cX1_split 92 = .ok (.iconst 4, 1) := dk_7 (dk_at dksX1_split_3 23 rfl rfl)
theorem dX1_split_93 : decode cX1_split 93 = .ok (.invokevirtual 104, 3) := dk_182 0 104 (dk_at dksX1_split_4 0 rfl rfl)
theorem dX1_split_96 : decode cX1_split 96 = .ok (.aload_n 0, 1) := dk_42 (dk_at dksX1_split_4 3 rfl rfl)
theorem dX1_split_97 : decode cX1_split 97 = .ok (.iload_n 1, 1) := dk_27 (dk_at dksX1_split_4 4 rfl rfl)
theorem dX1_split_98 : decode cX1_split 98 = .ok (.iconst 5, 1) := dk_8 (dk_at dksX1_split_4 5 rfl rfl)
theorem dX1_split_99 : decode cX1_split 99 = .ok (.invokevirtual 104, 3) := dk_182 0 104 (dk_at dksX1_split_4 6 rfl rfl)
theorem dX1_split_102 : decode cX1_split 102 = .ok (.invokevirtual 82, 3) := dk_182 0 82 (dk_at dksX1_split_4 9 rfl rfl)
theorem dX1_split_105 : decode cX1_split 105 = .ok (.istore 5, 2) := dk_54 5 (dk_at dksX1_split_4 12 rfl rfl)
theorem dX1_split_107 : decode cX1_split 107 = .ok (.aload_n 0, 1) := dk_42 (dk_at dksX1_split_4 14 rfl rfl)
theorem dX1_split_108 : decode cX1_split 108 = .ok (.getfield 22, 3) := dk_180 0 22 (dk_at dksX1_split_4 15 rfl rfl)
theorem dX1_split_111 : decode cX1_split 111 = .ok (.iload_n 2, 1) := dk_28 (dk_at dksX1_split_4 18 rfl rfl)
theorem dX1_split_112 : decode cX1_split 112 = .ok (.iload_n 3, 1) := dk_29 (dk_at dksX1_split_4 19 rfl rfl)
theorem dX1_split_113 : decode cX1_split 113 = .ok (.iastore, 1) := dk_79 (dk_at dksX1_split_4 20 rfl rfl)
theorem dX1_split_114 : decode cX1_split 114 = .ok (.aload_n 0, 1) := dk_42 (dk_at dksX1_split_4 21 rfl rfl)
theorem dX1_split_115 : decode cX1_split 115 = .ok (.iload 4, 2) := dk_21 4 (dk_at dksX1_split_4 22 rfl rfl)
theorem dX1_split_117 : decode cX1_split 117 = .ok (.invokevirtual 97, 3) := dk_182 0 97 (dk_at dksX1_split_5 0 rfl rfl)
theorem dX1_split_120 : decode cX1_split 120 = .ok (.aload_n 0, 1) := dk_42 (dk_at dksX1_split_5 3 rfl rfl)
theorem dX1_split_121 : decode cX1_split 121 = .ok (.getfield 7, 3) := dk_180 0 7 (dk_at dksX1_split_5 4 rfl rfl)
theorem dX1_split_124 : decode cX1_split 124 = .ok (.bipush 7, 2) := dk_16 7 (dk_at dksX1_split_5 7 rfl rfl)
theorem dX1_split_126 : decode cX1_split 126 = .ok (.iload_n 1, 1) := dk_27 (dk_at dksX1_split_5 9 rfl rfl)
theorem dX1_split_127 : decode cX1_split 127 = .ok (.imul, 1) := dk_104 (dk_at dksX1_split_5 10 rfl rfl)
theorem dX1_split_128 : decode cX1_split 128 = .ok (.iconst 3, 1) := dk_6 (dk_at dksX1_split_5 11 rfl rfl)
theorem dX1_split_129 : decode cX1_split 129 = .ok (.iadd, 1) := dk_96 (dk_at dksX1_split_5 12 rfl rfl)
theorem dX1_split_130 : decode cX1_split 130 = .ok (.iload_n 2, 1) := dk_28 (dk_at dksX1_split_5 13 rfl rfl)
theorem dX1_split_131 : decode cX1_split 131 = .ok (.iadd, 1) := dk_96 (dk_at dksX1_split_5 14 rfl rfl)
theorem dX1_split_132 : decode cX1_split 132 = .ok (.iload_n 3, 1) := dk_29 (dk_at dksX1_split_5 15 rfl rfl)
theorem dX1_split_133 : decode cX1_split 133 = .ok (.iastore, 1) := dk_79 (dk_at dksX1_split_5 16 rfl rfl)
theorem dX1_split_134 : decode cX1_split 134 = .ok (.iload 4, 2) := dk_21 4 (dk_at dksX1_split_5 17 rfl rfl)
theorem dX1_split_136 : decode cX1_split 136 = .ok (.ireturn, 1) := dk_172 (dk_at dksX1_split_5 19 rfl rfl)
abbrev cX1_undo : ByteArray := prog_9_method_21_code
def yX1_undo : MethodName := ⟨RX1, "undo", "()I"⟩
def dkwX1_undo_2 : List UInt8 := [79, 132, 1, 1, 167, 255, 227, 42, 180, 0, 56, 172]
abbrev dktX1_undo_2 : List UInt8 := dkwX1_undo_2 ++ []
def dkwX1_undo_1 : List UInt8 := [16, 84, 162, 0, 29, 42, 180, 0, 7, 27, 42, 180, 0, 13, 16, 84, 42, 180, 0, 56, 104, 27, 96, 46]
abbrev dktX1_undo_1 : List UInt8 := dkwX1_undo_1 ++ dktX1_undo_2
def dkwX1_undo_0 : List UInt8 := [42, 180, 0, 56, 154, 0, 6, 16, 151, 172, 42, 89, 180, 0, 56, 4, 100, 181, 0, 56, 3, 60, 27]
abbrev dktX1_undo_0 : List UInt8 := dkwX1_undo_0 ++ dktX1_undo_1
theorem dksX1_undo_0 : cX1_undo.data.toList.drop 0 = dktX1_undo_0 := by decide +kernel
theorem dksX1_undo_1 : cX1_undo.data.toList.drop 23 = dktX1_undo_1 := dk_seg dksX1_undo_0 23 rfl rfl
theorem dksX1_undo_2 : cX1_undo.data.toList.drop 47 = dktX1_undo_2 := dk_seg dksX1_undo_1 24 rfl rfl
theorem dX1_undo_0 : decode cX1_undo 0 = .ok (.aload_n 0, 1) := dk_42 (dk_at dksX1_undo_0 0 rfl rfl)
theorem dX1_undo_1 : decode cX1_undo 1 = .ok (.getfield 56, 3) := dk_180 0 56 (dk_at dksX1_undo_0 1 rfl rfl)
theorem dX1_undo_4 : decode cX1_undo 4 = .ok (.ifCond .ne 6, 3) := dk_154 0 6 (dk_at dksX1_undo_0 4 rfl rfl)
theorem dX1_undo_7 : decode cX1_undo 7 = .ok (.bipush (-105), 2) := dk_16 151 (dk_at dksX1_undo_0 7 rfl rfl)
theorem dX1_undo_9 : decode cX1_undo 9 = .ok (.ireturn, 1) := dk_172 (dk_at dksX1_undo_0 9 rfl rfl)
theorem dX1_undo_10 : decode cX1_undo 10 = .ok (.aload_n 0, 1) := dk_42 (dk_at dksX1_undo_0 10 rfl rfl)
theorem dX1_undo_11 : decode cX1_undo 11 = .ok (.dup, 1) := dk_89 (dk_at dksX1_undo_0 11 rfl rfl)
theorem dX1_undo_12 : decode cX1_undo 12 = .ok (.getfield 56, 3) := dk_180 0 56 (dk_at dksX1_undo_0 12 rfl rfl)
theorem dX1_undo_15 : decode cX1_undo 15 = .ok (.iconst 1, 1) := dk_4 (dk_at dksX1_undo_0 15 rfl rfl)
theorem dX1_undo_16 : decode cX1_undo 16 = .ok (.isub, 1) := dk_100 (dk_at dksX1_undo_0 16 rfl rfl)
theorem dX1_undo_17 : decode cX1_undo 17 = .ok (.putfield 56, 3) := dk_181 0 56 (dk_at dksX1_undo_0 17 rfl rfl)
theorem dX1_undo_20 : decode cX1_undo 20 = .ok (.iconst 0, 1) := dk_3 (dk_at dksX1_undo_0 20 rfl rfl)
theorem dX1_undo_21 : decode cX1_undo 21 = .ok (.istore_n 1, 1) := dk_60 (dk_at dksX1_undo_0 21 rfl rfl)
theorem dX1_undo_22 : decode cX1_undo 22 = .ok (.iload_n 1, 1) := dk_27 (dk_at dksX1_undo_0 22 rfl rfl)
theorem dX1_undo_23 : decode cX1_undo 23 = .ok (.bipush 84, 2) := dk_16 84 (dk_at dksX1_undo_1 0 rfl rfl)
theorem dX1_undo_25 : decode cX1_undo 25 = .ok (.if_icmp .ge 29, 3) := dk_162 0 29 (dk_at dksX1_undo_1 2 rfl rfl)
theorem dX1_undo_28 : decode cX1_undo 28 = .ok (.aload_n 0, 1) := dk_42 (dk_at dksX1_undo_1 5 rfl rfl)
theorem dX1_undo_29 : decode cX1_undo 29 = .ok (.getfield 7, 3) := dk_180 0 7 (dk_at dksX1_undo_1 6 rfl rfl)
theorem dX1_undo_32 : decode cX1_undo 32 = .ok (.iload_n 1, 1) := dk_27 (dk_at dksX1_undo_1 9 rfl rfl)
theorem dX1_undo_33 : decode cX1_undo 33 = .ok (.aload_n 0, 1) := dk_42 (dk_at dksX1_undo_1 10 rfl rfl)
theorem dX1_undo_34 : decode cX1_undo 34 = .ok (.getfield 13, 3) := dk_180 0 13 (dk_at dksX1_undo_1 11 rfl rfl)
theorem dX1_undo_37 : decode cX1_undo 37 = .ok (.bipush 84, 2) := dk_16 84 (dk_at dksX1_undo_1 14 rfl rfl)
theorem dX1_undo_39 : decode cX1_undo 39 = .ok (.aload_n 0, 1) := dk_42 (dk_at dksX1_undo_1 16 rfl rfl)
theorem dX1_undo_40 : decode cX1_undo 40 = .ok (.getfield 56, 3) := dk_180 0 56 (dk_at dksX1_undo_1 17 rfl rfl)
theorem dX1_undo_43 : decode cX1_undo 43 = .ok (.imul, 1) := dk_104 (dk_at dksX1_undo_1 20 rfl rfl)
theorem dX1_undo_44 : decode cX1_undo 44 = .ok (.iload_n 1, 1) := dk_27 (dk_at dksX1_undo_1 21 rfl rfl)
theorem dX1_undo_45 : decode cX1_undo 45 = .ok (.iadd, 1) := dk_96 (dk_at dksX1_undo_1 22 rfl rfl)
theorem dX1_undo_46 : decode cX1_undo 46 = .ok (.iaload, 1) := dk_46 (dk_at dksX1_undo_1 23 rfl rfl)
theorem dX1_undo_47 : decode cX1_undo 47 = .ok (.iastore, 1) := dk_79 (dk_at dksX1_undo_2 0 rfl rfl)
theorem dX1_undo_48 : decode cX1_undo 48 = .ok (.iinc 1 1, 3) := dk_132 1 1 (dk_at dksX1_undo_2 1 rfl rfl)
theorem dX1_undo_51 : decode cX1_undo 51 = .ok (.goto (-29), 3) := dk_167 255 227 (dk_at dksX1_undo_2 4 rfl rfl)
theorem dX1_undo_54 : decode cX1_undo 54 = .ok (.aload_n 0, 1) := dk_42 (dk_at dksX1_undo_2 7 rfl rfl)
theorem dX1_undo_55 : decode cX1_undo 55 = .ok (.getfield 56, 3) := dk_180 0 56 (dk_at dksX1_undo_2 8 rfl rfl)
theorem dX1_undo_58 : decode cX1_undo 58 = .ok (.ireturn, 1) := dk_172 (dk_at dksX1_undo_2 11 rfl rfl)
abbrev cX1_coordinate : ByteArray := prog_9_method_23_code
def yX1_coordinate : MethodName := ⟨RX1, "coordinate", "(II)I"⟩
def dkwX1_coordinate_1 : List UInt8 := [182, 0, 104, 167, 0, 5, 16, 154, 172]
abbrev dktX1_coordinate_1 : List UInt8 := dkwX1_coordinate_1 ++ []
def dkwX1_coordinate_0 : List UInt8 := [42, 27, 182, 0, 75, 154, 0, 6, 16, 155, 172, 28, 3, 8, 184, 0, 60, 153, 0, 12, 42, 27, 28]
abbrev dktX1_coordinate_0 : List UInt8 := dkwX1_coordinate_0 ++ dktX1_coordinate_1
theorem dksX1_coordinate_0 : cX1_coordinate.data.toList.drop 0 = dktX1_coordinate_0 := by decide +kernel
theorem dksX1_coordinate_1 : cX1_coordinate.data.toList.drop 23 = dktX1_coordinate_1 := dk_seg dksX1_coordinate_0 23 rfl rfl
theorem dX1_coordinate_0 : decode cX1_coordinate 0 = .ok (.aload_n 0, 1) := dk_42 (dk_at dksX1_coordinate_0 0 rfl rfl)
theorem dX1_coordinate_1 : decode cX1_coordinate 1 = .ok (.iload_n 1, 1) := dk_27 (dk_at dksX1_coordinate_0 1 rfl rfl)
theorem dX1_coordinate_2 : decode cX1_coordinate 2 = .ok (.invokevirtual 75, 3) := dk_182 0 75 (dk_at dksX1_coordinate_0 2 rfl rfl)
theorem dX1_coordinate_5 : decode cX1_coordinate 5 = .ok (.ifCond .ne 6, 3) := dk_154 0 6 (dk_at dksX1_coordinate_0 5 rfl rfl)
theorem dX1_coordinate_8 : decode cX1_coordinate 8 = .ok (.bipush (-101), 2) := dk_16 155 (dk_at dksX1_coordinate_0 8 rfl rfl)
theorem dX1_coordinate_10 : decode cX1_coordinate 10 = .ok (.ireturn, 1) := dk_172 (dk_at dksX1_coordinate_0 10 rfl rfl)
theorem dX1_coordinate_11 : decode cX1_coordinate 11 = .ok (.iload_n 2, 1) := dk_28 (dk_at dksX1_coordinate_0 11 rfl rfl)
theorem dX1_coordinate_12 : decode cX1_coordinate 12 = .ok (.iconst 0, 1) := dk_3 (dk_at dksX1_coordinate_0 12 rfl rfl)
theorem dX1_coordinate_13 : decode cX1_coordinate 13 = .ok (.iconst 5, 1) := dk_8 (dk_at dksX1_coordinate_0 13 rfl rfl)
theorem dX1_coordinate_14 : decode cX1_coordinate 14 = .ok (.invokestatic 60, 3) := dk_184 0 60 (dk_at dksX1_coordinate_0 14 rfl rfl)
theorem dX1_coordinate_17 : decode cX1_coordinate 17 = .ok (.ifCond .eq 12, 3) := dk_153 0 12 (dk_at dksX1_coordinate_0 17 rfl rfl)
theorem dX1_coordinate_20 : decode cX1_coordinate 20 = .ok (.aload_n 0, 1) := dk_42 (dk_at dksX1_coordinate_0 20 rfl rfl)
theorem dX1_coordinate_21 : decode cX1_coordinate 21 = .ok (.iload_n 1, 1) := dk_27 (dk_at dksX1_coordinate_0 21 rfl rfl)
theorem dX1_coordinate_22 : decode cX1_coordinate 22 = .ok (.iload_n 2, 1) := dk_28 (dk_at dksX1_coordinate_0 22 rfl rfl)
theorem dX1_coordinate_23 : decode cX1_coordinate 23 = .ok (.invokevirtual 104, 3) := dk_182 0 104 (dk_at dksX1_coordinate_1 0 rfl rfl)
theorem dX1_coordinate_26 : decode cX1_coordinate 26 = .ok (.goto 5, 3) := dk_167 0 5 (dk_at dksX1_coordinate_1 3 rfl rfl)
theorem dX1_coordinate_29 : decode cX1_coordinate 29 = .ok (.bipush (-102), 2) := dk_16 154 (dk_at dksX1_coordinate_1 6 rfl rfl)
theorem dX1_coordinate_31 : decode cX1_coordinate 31 = .ok (.ireturn, 1) := dk_172 (dk_at dksX1_coordinate_1 8 rfl rfl)
abbrev cX1_met : ByteArray := prog_9_method_24_code
def yX1_met : MethodName := ⟨RX1, "met", "(IIIIII)I"⟩
def dkwX1_met_1 : List UInt8 := [16, 154, 172]
abbrev dktX1_met_1 : List UInt8 := dkwX1_met_1 ++ []
def dkwX1_met_0 : List UInt8 := [42, 27, 28, 29, 21, 4, 21, 5, 21, 6, 182, 0, 82, 153, 0, 11, 42, 2, 182, 0, 86, 167, 0, 5]
abbrev dktX1_met_0 : List UInt8 := dkwX1_met_0 ++ dktX1_met_1
theorem dksX1_met_0 : cX1_met.data.toList.drop 0 = dktX1_met_0 := by decide +kernel
theorem dksX1_met_1 : cX1_met.data.toList.drop 24 = dktX1_met_1 := dk_seg dksX1_met_0 24 rfl rfl
theorem dX1_met_0 : decode cX1_met 0 = .ok (.aload_n 0, 1) := dk_42 (dk_at dksX1_met_0 0 rfl rfl)
theorem dX1_met_1 : decode cX1_met 1 = .ok (.iload_n 1, 1) := dk_27 (dk_at dksX1_met_0 1 rfl rfl)
theorem dX1_met_2 : decode cX1_met 2 = .ok (.iload_n 2, 1) := dk_28 (dk_at dksX1_met_0 2 rfl rfl)
theorem dX1_met_3 : decode cX1_met 3 = .ok (.iload_n 3, 1) := dk_29 (dk_at dksX1_met_0 3 rfl rfl)
theorem dX1_met_4 : decode cX1_met 4 = .ok (.iload 4, 2) := dk_21 4 (dk_at dksX1_met_0 4 rfl rfl)
theorem dX1_met_6 : decode cX1_met 6 = .ok (.iload 5, 2) := dk_21 5 (dk_at dksX1_met_0 6 rfl rfl)
theorem dX1_met_8 : decode cX1_met 8 = .ok (.iload 6, 2) := dk_21 6 (dk_at dksX1_met_0 8 rfl rfl)
theorem dX1_met_10 : decode cX1_met 10 = .ok (.invokevirtual 82, 3) := dk_182 0 82 (dk_at dksX1_met_0 10 rfl rfl)
theorem dX1_met_13 : decode cX1_met 13 = .ok (.ifCond .eq 11, 3) := dk_153 0 11 (dk_at dksX1_met_0 13 rfl rfl)
theorem dX1_met_16 : decode cX1_met 16 = .ok (.aload_n 0, 1) := dk_42 (dk_at dksX1_met_0 16 rfl rfl)
theorem dX1_met_17 : decode cX1_met 17 = .ok (.iconst (-1), 1) := dk_2 (dk_at dksX1_met_0 17 rfl rfl)
theorem dX1_met_18 : decode cX1_met 18 = .ok (.invokevirtual 86, 3) := dk_182 0 86 (dk_at dksX1_met_0 18 rfl rfl)
theorem dX1_met_21 : decode cX1_met 21 = .ok (.goto 5, 3) := dk_167 0 5 (dk_at dksX1_met_0 21 rfl rfl)
theorem dX1_met_24 : decode cX1_met 24 = .ok (.bipush (-102), 2) := dk_16 154 (dk_at dksX1_met_1 0 rfl rfl)
theorem dX1_met_26 : decode cX1_met 26 = .ok (.ireturn, 1) := dk_172 (dk_at dksX1_met_1 2 rfl rfl)
abbrev cX1_compare : ByteArray := prog_9_method_25_code
def yX1_compare : MethodName := ⟨RX1, "compare", "(II)I"⟩
def dkwX1_compare_2 : List UInt8 := [172]
abbrev dktX1_compare_2 : List UInt8 := dkwX1_compare_2 ++ []
def dkwX1_compare_1 : List UInt8 := [182, 0, 111, 153, 0, 7, 2, 167, 0, 17, 42, 28, 27, 182, 0, 111, 153, 0, 7, 4, 167, 0, 4, 3]
abbrev dktX1_compare_1 : List UInt8 := dkwX1_compare_1 ++ dktX1_compare_2
def dkwX1_compare_0 : List UInt8 := [42, 27, 182, 0, 75, 153, 0, 11, 42, 28, 182, 0, 75, 154, 0, 6, 16, 155, 172, 42, 27, 28]
abbrev dktX1_compare_0 : List UInt8 := dkwX1_compare_0 ++ dktX1_compare_1
theorem dksX1_compare_0 : cX1_compare.data.toList.drop 0 = dktX1_compare_0 := by decide +kernel
theorem dksX1_compare_1 : cX1_compare.data.toList.drop 22 = dktX1_compare_1 := dk_seg dksX1_compare_0 22 rfl rfl
theorem dksX1_compare_2 : cX1_compare.data.toList.drop 46 = dktX1_compare_2 := dk_seg dksX1_compare_1 24 rfl rfl
theorem dX1_compare_0 : decode cX1_compare 0 = .ok (.aload_n 0, 1) := dk_42 (dk_at dksX1_compare_0 0 rfl rfl)
theorem dX1_compare_1 : decode cX1_compare 1 = .ok (.iload_n 1, 1) := dk_27 (dk_at dksX1_compare_0 1 rfl rfl)
theorem dX1_compare_2 : decode cX1_compare 2 = .ok (.invokevirtual 75, 3) := dk_182 0 75 (dk_at dksX1_compare_0 2 rfl rfl)
theorem dX1_compare_5 : decode cX1_compare 5 = .ok (.ifCond .eq 11, 3) := dk_153 0 11 (dk_at dksX1_compare_0 5 rfl rfl)
theorem dX1_compare_8 : decode cX1_compare 8 = .ok (.aload_n 0, 1) := dk_42 (dk_at dksX1_compare_0 8 rfl rfl)
theorem dX1_compare_9 : decode cX1_compare 9 = .ok (.iload_n 2, 1) := dk_28 (dk_at dksX1_compare_0 9 rfl rfl)
theorem dX1_compare_10 : decode cX1_compare 10 = .ok (.invokevirtual 75, 3) := dk_182 0 75 (dk_at dksX1_compare_0 10 rfl rfl)
theorem dX1_compare_13 : decode cX1_compare 13 = .ok (.ifCond .ne 6, 3) := dk_154 0 6 (dk_at dksX1_compare_0 13 rfl rfl)
theorem dX1_compare_16 : decode cX1_compare 16 = .ok (.bipush (-101), 2) := dk_16 155 (dk_at dksX1_compare_0 16 rfl rfl)
theorem dX1_compare_18 : decode cX1_compare 18 = .ok (.ireturn, 1) := dk_172 (dk_at dksX1_compare_0 18 rfl rfl)
theorem dX1_compare_19 : decode cX1_compare 19 = .ok (.aload_n 0, 1) := dk_42 (dk_at dksX1_compare_0 19 rfl rfl)
theorem dX1_compare_20 : decode cX1_compare 20 = .ok (.iload_n 1, 1) := dk_27 (dk_at dksX1_compare_0 20 rfl rfl)
theorem dX1_compare_21 : decode cX1_compare 21 = .ok (.iload_n 2, 1) := dk_28 (dk_at dksX1_compare_0 21 rfl rfl)
theorem dX1_compare_22 : decode cX1_compare 22 = .ok (.invokevirtual 111, 3) := dk_182 0 111 (dk_at dksX1_compare_1 0 rfl rfl)
theorem dX1_compare_25 : decode cX1_compare 25 = .ok (.ifCond .eq 7, 3) := dk_153 0 7 (dk_at dksX1_compare_1 3 rfl rfl)
theorem dX1_compare_28 : decode cX1_compare 28 = .ok (.iconst (-1), 1) := dk_2 (dk_at dksX1_compare_1 6 rfl rfl)
theorem dX1_compare_29 : decode cX1_compare 29 = .ok (.goto 17, 3) := dk_167 0 17 (dk_at dksX1_compare_1 7 rfl rfl)
theorem dX1_compare_32 : decode cX1_compare 32 = .ok (.aload_n 0, 1) := dk_42 (dk_at dksX1_compare_1 10 rfl rfl)
theorem dX1_compare_33 : decode cX1_compare 33 = .ok (.iload_n 2, 1) := dk_28 (dk_at dksX1_compare_1 11 rfl rfl)
theorem dX1_compare_34 : decode cX1_compare 34 = .ok (.iload_n 1, 1) := dk_27 (dk_at dksX1_compare_1 12 rfl rfl)
theorem dX1_compare_35 : decode cX1_compare 35 = .ok (.invokevirtual 111, 3) := dk_182 0 111 (dk_at dksX1_compare_1 13 rfl rfl)
theorem dX1_compare_38 : decode cX1_compare 38 = .ok (.ifCond .eq 7, 3) := dk_153 0 7 (dk_at dksX1_compare_1 16 rfl rfl)
theorem dX1_compare_41 : decode cX1_compare 41 = .ok (.iconst 1, 1) := dk_4 (dk_at dksX1_compare_1 19 rfl rfl)
theorem dX1_compare_42 : decode cX1_compare 42 = .ok (.goto 4, 3) := dk_167 0 4 (dk_at dksX1_compare_1 20 rfl rfl)
theorem dX1_compare_45 : decode cX1_compare 45 = .ok (.iconst 0, 1) := dk_3 (dk_at dksX1_compare_1 23 rfl rfl)
theorem dX1_compare_46 : decode cX1_compare 46 = .ok (.ireturn, 1) := dk_172 (dk_at dksX1_compare_2 0 rfl rfl)
abbrev cX1_behind : ByteArray := prog_9_method_27_code
def yX1_behind : MethodName := ⟨RX1, "behind", "(I)I"⟩
def dkwX1_behind_0 : List UInt8 := [42, 27, 182, 0, 75, 153, 0, 11, 42, 27, 182, 0, 115, 167, 0, 5, 16, 155, 172]
abbrev dktX1_behind_0 : List UInt8 := dkwX1_behind_0 ++ []
theorem dksX1_behind_0 : cX1_behind.data.toList.drop 0 = dktX1_behind_0 := by decide +kernel
theorem dX1_behind_0 : decode cX1_behind 0 = .ok (.aload_n 0, 1) := dk_42 (dk_at dksX1_behind_0 0 rfl rfl)
theorem dX1_behind_1 : decode cX1_behind 1 = .ok (.iload_n 1, 1) := dk_27 (dk_at dksX1_behind_0 1 rfl rfl)
theorem dX1_behind_2 : decode cX1_behind 2 = .ok (.invokevirtual 75, 3) := dk_182 0 75 (dk_at dksX1_behind_0 2 rfl rfl)
theorem dX1_behind_5 : decode cX1_behind 5 = .ok (.ifCond .eq 11, 3) := dk_153 0 11 (dk_at dksX1_behind_0 5 rfl rfl)
theorem dX1_behind_8 : decode cX1_behind 8 = .ok (.aload_n 0, 1) := dk_42 (dk_at dksX1_behind_0 8 rfl rfl)
theorem dX1_behind_9 : decode cX1_behind 9 = .ok (.iload_n 1, 1) := dk_27 (dk_at dksX1_behind_0 9 rfl rfl)
theorem dX1_behind_10 : decode cX1_behind 10 = .ok (.invokevirtual 115, 3) := dk_182 0 115 (dk_at dksX1_behind_0 10 rfl rfl)
theorem dX1_behind_13 : decode cX1_behind 13 = .ok (.goto 5, 3) := dk_167 0 5 (dk_at dksX1_behind_0 13 rfl rfl)
theorem dX1_behind_16 : decode cX1_behind 16 = .ok (.bipush (-101), 2) := dk_16 155 (dk_at dksX1_behind_0 16 rfl rfl)
theorem dX1_behind_18 : decode cX1_behind 18 = .ok (.ireturn, 1) := dk_172 (dk_at dksX1_behind_0 18 rfl rfl)
abbrev cX1_touching : ByteArray := prog_9_method_29_code
def yX1_touching : MethodName := ⟨RX1, "touching", "(II)I"⟩
def dkwX1_touching_7 : List UInt8 := [132, 4, 1, 167, 255, 115, 29, 172]
abbrev dktX1_touching_7 : List UInt8 := dkwX1_touching_7 ++ []
def dkwX1_touching_6 : List UInt8 := [132, 6, 1, 167, 255, 192, 21, 5, 153, 0, 13, 27, 28, 159, 0, 8, 21, 4, 167, 0, 4, 29, 62]
abbrev dktX1_touching_6 : List UInt8 := dkwX1_touching_6 ++ dktX1_touching_7
def dkwX1_touching_5 : List UInt8 := [28, 21, 6, 6, 96, 182, 0, 104, 184, 0, 64, 153, 0, 7, 4, 167, 0, 4, 3, 126, 54, 5]
abbrev dktX1_touching_5 : List UInt8 := dkwX1_touching_5 ++ dktX1_touching_6
def dkwX1_touching_4 : List UInt8 := [42, 27, 21, 6, 182, 0, 104, 42, 27, 21, 6, 6, 96, 182, 0, 104, 42, 28, 21, 6, 182, 0, 104, 42]
abbrev dktX1_touching_4 : List UInt8 := dkwX1_touching_4 ++ dktX1_touching_5
def dkwX1_touching_3 : List UInt8 := [167, 0, 4, 3, 54, 5, 3, 54, 6, 21, 6, 6, 162, 0, 64, 21, 5, 21, 6, 21, 4, 159, 0, 41]
abbrev dktX1_touching_3 : List UInt8 := dkwX1_touching_3 ++ dktX1_touching_4
def dkwX1_touching_2 : List UInt8 := [159, 0, 22, 42, 28, 21, 4, 6, 96, 182, 0, 104, 42, 27, 21, 4, 182, 0, 104, 160, 0, 7, 4]
abbrev dktX1_touching_2 : List UInt8 := dkwX1_touching_2 ++ dktX1_touching_3
def dkwX1_touching_1 : List UInt8 := [54, 4, 21, 4, 6, 162, 0, 141, 42, 27, 21, 4, 6, 96, 182, 0, 104, 42, 28, 21, 4, 182, 0, 104]
abbrev dktX1_touching_1 : List UInt8 := dkwX1_touching_1 ++ dktX1_touching_2
def dkwX1_touching_0 : List UInt8 := [42, 27, 182, 0, 75, 153, 0, 11, 42, 28, 182, 0, 75, 154, 0, 6, 16, 155, 172, 16, 150, 62, 3]
abbrev dktX1_touching_0 : List UInt8 := dkwX1_touching_0 ++ dktX1_touching_1
theorem dksX1_touching_0 : cX1_touching.data.toList.drop 0 = dktX1_touching_0 := by decide +kernel
theorem dksX1_touching_1 : cX1_touching.data.toList.drop 23 = dktX1_touching_1 := dk_seg dksX1_touching_0 23 rfl rfl
theorem dksX1_touching_2 : cX1_touching.data.toList.drop 47 = dktX1_touching_2 := dk_seg dksX1_touching_1 24 rfl rfl
theorem dksX1_touching_3 : cX1_touching.data.toList.drop 70 = dktX1_touching_3 := dk_seg dksX1_touching_2 23 rfl rfl
theorem dksX1_touching_4 : cX1_touching.data.toList.drop 94 = dktX1_touching_4 := dk_seg dksX1_touching_3 24 rfl rfl
theorem dksX1_touching_5 : cX1_touching.data.toList.drop 118 = dktX1_touching_5 := dk_seg dksX1_touching_4 24 rfl rfl
theorem dksX1_touching_6 : cX1_touching.data.toList.drop 140 = dktX1_touching_6 := dk_seg dksX1_touching_5 22 rfl rfl
theorem dksX1_touching_7 : cX1_touching.data.toList.drop 163 = dktX1_touching_7 := dk_seg dksX1_touching_6 23 rfl rfl
theorem dX1_touching_0 : decode cX1_touching 0 = .ok (.aload_n 0, 1) := dk_42 (dk_at dksX1_touching_0 0 rfl rfl)
theorem dX1_touching_1 : decode cX1_touching 1 = .ok (.iload_n 1, 1) := dk_27 (dk_at dksX1_touching_0 1 rfl rfl)
theorem dX1_touching_2 : decode cX1_touching 2 = .ok (.invokevirtual 75, 3) := dk_182 0 75 (dk_at dksX1_touching_0 2 rfl rfl)
theorem dX1_touching_5 : decode cX1_touching 5 = .ok (.ifCond .eq 11, 3) := dk_153 0 11 (dk_at dksX1_touching_0 5 rfl rfl)
theorem dX1_touching_8 : decode cX1_touching 8 = .ok (.aload_n 0, 1) := dk_42 (dk_at dksX1_touching_0 8 rfl rfl)
theorem dX1_touching_9 : decode cX1_touching 9 = .ok (.iload_n 2, 1) := dk_28 (dk_at dksX1_touching_0 9 rfl rfl)
theorem dX1_touching_10 : decode cX1_touching 10 = .ok (.invokevirtual 75, 3) := dk_182 0 75 (dk_at dksX1_touching_0 10 rfl rfl)
theorem dX1_touching_13 : decode cX1_touching 13 = .ok (.ifCond .ne 6, 3) := dk_154 0 6 (dk_at dksX1_touching_0 13 rfl rfl)
theorem dX1_touching_16 : decode cX1_touching 16 = .ok (.bipush (-101), 2) := dk_16 155 (dk_at dksX1_touching_0 16 rfl rfl)
theorem dX1_touching_18 : decode cX1_touching 18 = .ok (.ireturn, 1) := dk_172 (dk_at dksX1_touching_0 18 rfl rfl)
theorem dX1_touching_19 : decode cX1_touching 19 = .ok (.bipush (-106), 2) := dk_16 150 (dk_at dksX1_touching_0 19 rfl rfl)
theorem dX1_touching_21 : decode cX1_touching 21 = .ok (.istore_n 3, 1) := dk_62 (dk_at dksX1_touching_0 21 rfl rfl)
theorem dX1_touching_22 : decode cX1_touching 22 = .ok (.iconst 0, 1) := dk_3 (dk_at dksX1_touching_0 22 rfl rfl)
theorem dX1_touching_23 : decode cX1_touching 23 = .ok (.istore 4, 2) := dk_54 4 (dk_at dksX1_touching_1 0 rfl rfl)
theorem dX1_touching_25 : decode cX1_touching 25 = .ok (.iload 4, 2) := dk_21 4 (dk_at dksX1_touching_1 2 rfl rfl)
theorem dX1_touching_27 : decode cX1_touching 27 = .ok (.iconst 3, 1) := dk_6 (dk_at dksX1_touching_1 4 rfl rfl)
theorem dX1_touching_28 : decode cX1_touching 28 = .ok (.if_icmp .ge 141, 3) := dk_162 0 141 (dk_at dksX1_touching_1 5 rfl rfl)
theorem dX1_touching_31 : decode cX1_touching 31 = .ok (.aload_n 0, 1) := dk_42 (dk_at dksX1_touching_1 8 rfl rfl)
theorem dX1_touching_32 : decode cX1_touching 32 = .ok (.iload_n 1, 1) := dk_27 (dk_at dksX1_touching_1 9 rfl rfl)
theorem dX1_touching_33 : decode cX1_touching 33 = .ok (.iload 4, 2) := dk_21 4 (dk_at dksX1_touching_1 10 rfl rfl)
theorem dX1_touching_35 : decode cX1_touching 35 = .ok (.iconst 3, 1) := dk_6 (dk_at dksX1_touching_1 12 rfl rfl)
theorem dX1_touching_36 : decode cX1_touching 36 = .ok (.iadd, 1) := dk_96 (dk_at dksX1_touching_1 13 rfl rfl)
theorem dX1_touching_37 : decode cX1_touching 37 = .ok (.invokevirtual 104, 3) := dk_182 0 104 (dk_at dksX1_touching_1 14 rfl rfl)
theorem dX1_touching_40 : decode cX1_touching 40 = .ok (.aload_n 0, 1) := dk_42 (dk_at dksX1_touching_1 17 rfl rfl)
theorem dX1_touching_41 : decode cX1_touching 41 = .ok (.iload_n 2, 1) := dk_28 (dk_at dksX1_touching_1 18 rfl rfl)
theorem dX1_touching_42 : decode cX1_touching 42 = .ok (.iload 4, 2) := dk_21 4 (dk_at dksX1_touching_1 19 rfl rfl)
theorem dX1_touching_44 : decode cX1_touching 44 = .ok (.invokevirtual 104, 3) := dk_182 0 104 (dk_at dksX1_touching_1 21 rfl rfl)
theorem dX1_touching_47 : decode cX1_touching 47 = .ok (.if_icmp .eq 22, 3) := dk_159 0 22 (dk_at dksX1_touching_2 0 rfl rfl)
theorem dX1_touching_50 : decode cX1_touching 50 = .ok (.aload_n 0, 1) := dk_42 (dk_at dksX1_touching_2 3 rfl rfl)
theorem dX1_touching_51 : decode cX1_touching 51 = .ok (.iload_n 2, 1) := dk_28 (dk_at dksX1_touching_2 4 rfl rfl)
theorem dX1_touching_52 : decode cX1_touching 52 = .ok (.iload 4, 2) := dk_21 4 (dk_at dksX1_touching_2 5 rfl rfl)
theorem dX1_touching_54 : decode cX1_touching 54 = .ok (.iconst 3, 1) := dk_6 (dk_at dksX1_touching_2 7 rfl rfl)
theorem dX1_touching_55 : decode cX1_touching 55 = .ok (.iadd, 1) := dk_96 (dk_at dksX1_touching_2 8 rfl rfl)
theorem dX1_touching_56 : decode cX1_touching 56 = .ok (.invokevirtual 104, 3) := dk_182 0 104 (dk_at dksX1_touching_2 9 rfl rfl)
theorem dX1_touching_59 : decode cX1_touching 59 = .ok (.aload_n 0, 1) := dk_42 (dk_at dksX1_touching_2 12 rfl rfl)
theorem dX1_touching_60 : decode cX1_touching 60 = .ok (.iload_n 1, 1) := dk_27 (dk_at dksX1_touching_2 13 rfl rfl)
theorem dX1_touching_61 : decode cX1_touching 61 = .ok (.iload 4, 2) := dk_21 4 (dk_at dksX1_touching_2 14 rfl rfl)
theorem dX1_touching_63 : decode cX1_touching 63 = .ok (.invokevirtual 104, 3) := dk_182 0 104 (dk_at dksX1_touching_2 16 rfl rfl)
theorem dX1_touching_66 : decode cX1_touching 66 = .ok (.if_icmp .ne 7, 3) := dk_160 0 7 (dk_at dksX1_touching_2 19 rfl rfl)
theorem dX1_touching_69 : decode cX1_touching 69 = .ok (.iconst 1, 1) := dk_4 (dk_at dksX1_touching_2 22 rfl rfl)
theorem dX1_touching_70 : decode cX1_touching 70 = .ok (.goto 4, 3) := dk_167 0 4 (dk_at dksX1_touching_3 0 rfl rfl)
theorem dX1_touching_73 : decode cX1_touching 73 = .ok (.iconst 0, 1) := dk_3 (dk_at dksX1_touching_3 3 rfl rfl)
theorem dX1_touching_74 : decode cX1_touching 74 = .ok (.istore 5, 2) := dk_54 5 (dk_at dksX1_touching_3 4 rfl rfl)
theorem dX1_touching_76 : decode cX1_touching 76 = .ok (.iconst 0, 1) := dk_3 (dk_at dksX1_touching_3 6 rfl rfl)
theorem dX1_touching_77 : decode cX1_touching 77 = .ok (.istore 6, 2) := dk_54 6 (dk_at dksX1_touching_3 7 rfl rfl)
theorem dX1_touching_79 : decode cX1_touching 79 = .ok (.iload 6, 2) := dk_21 6 (dk_at dksX1_touching_3 9 rfl rfl)
theorem dX1_touching_81 : decode cX1_touching 81 = .ok (.iconst 3, 1) := dk_6 (dk_at dksX1_touching_3 11 rfl rfl)
theorem dX1_touching_82 : decode cX1_touching 82 = .ok (.if_icmp .ge 64, 3) := dk_162 0 64 (dk_at dksX1_touching_3 12 rfl rfl)
theorem dX1_touching_85 : decode cX1_touching 85 = .ok (.iload 5, 2) := dk_21 5 (dk_at dksX1_touching_3 15 rfl rfl)
theorem dX1_touching_87 : decode cX1_touching 87 = .ok (.iload 6, 2) := dk_21 6 (dk_at dksX1_touching_3 17 rfl rfl)
theorem dX1_touching_89 : decode cX1_touching 89 = .ok (.iload 4, 2) := dk_21 4 (dk_at dksX1_touching_3 19 rfl rfl)
theorem dX1_touching_91 : decode cX1_touching 91 = .ok (.if_icmp .eq 41, 3) := dk_159 0 41 (dk_at dksX1_touching_3 21 rfl rfl)
theorem dX1_touching_94 : decode cX1_touching 94 = .ok (.aload_n 0, 1) := dk_42 (dk_at dksX1_touching_4 0 rfl rfl)
theorem dX1_touching_95 : decode cX1_touching 95 = .ok (.iload_n 1, 1) := dk_27 (dk_at dksX1_touching_4 1 rfl rfl)
theorem dX1_touching_96 : decode cX1_touching 96 = .ok (.iload 6, 2) := dk_21 6 (dk_at dksX1_touching_4 2 rfl rfl)
theorem dX1_touching_98 : decode cX1_touching 98 = .ok (.invokevirtual 104, 3) := dk_182 0 104 (dk_at dksX1_touching_4 4 rfl rfl)
theorem dX1_touching_101 : decode cX1_touching 101 = .ok (.aload_n 0, 1) := dk_42 (dk_at dksX1_touching_4 7 rfl rfl)
theorem dX1_touching_102 : decode cX1_touching 102 = .ok (.iload_n 1, 1) := dk_27 (dk_at dksX1_touching_4 8 rfl rfl)
theorem dX1_touching_103 : decode cX1_touching 103 = .ok (.iload 6, 2) := dk_21 6 (dk_at dksX1_touching_4 9 rfl rfl)
theorem dX1_touching_105 : decode cX1_touching 105 = .ok (.iconst 3, 1) := dk_6 (dk_at dksX1_touching_4 11 rfl rfl)
theorem dX1_touching_106 : decode cX1_touching 106 = .ok (.iadd, 1) := dk_96 (dk_at dksX1_touching_4 12 rfl rfl)
theorem dX1_touching_107 : decode cX1_touching 107 = .ok (.invokevirtual 104, 3) := dk_182 0 104 (dk_at dksX1_touching_4 13 rfl rfl)
theorem dX1_touching_110 : decode cX1_touching 110 = .ok (.aload_n 0, 1) := dk_42 (dk_at dksX1_touching_4 16 rfl rfl)
theorem dX1_touching_111 : decode cX1_touching 111 = .ok (.iload_n 2, 1) := dk_28 (dk_at dksX1_touching_4 17 rfl rfl)
theorem dX1_touching_112 : decode cX1_touching 112 = .ok (.iload 6, 2) := dk_21 6 (dk_at dksX1_touching_4 18 rfl rfl)
theorem dX1_touching_114 : decode cX1_touching 114 = .ok (.invokevirtual 104, 3) := dk_182 0 104 (dk_at dksX1_touching_4 20 rfl rfl)
theorem dX1_touching_117 : decode cX1_touching 117 = .ok (.aload_n 0, 1) := dk_42 (dk_at dksX1_touching_4 23 rfl rfl)
theorem dX1_touching_118 : decode cX1_touching 118 = .ok (.iload_n 2, 1) := dk_28 (dk_at dksX1_touching_5 0 rfl rfl)
theorem dX1_touching_119 : decode cX1_touching 119 = .ok (.iload 6, 2) := dk_21 6 (dk_at dksX1_touching_5 1 rfl rfl)
theorem dX1_touching_121 : decode cX1_touching 121 = .ok (.iconst 3, 1) := dk_6 (dk_at dksX1_touching_5 3 rfl rfl)
theorem dX1_touching_122 : decode cX1_touching 122 = .ok (.iadd, 1) := dk_96 (dk_at dksX1_touching_5 4 rfl rfl)
theorem dX1_touching_123 : decode cX1_touching 123 = .ok (.invokevirtual 104, 3) := dk_182 0 104 (dk_at dksX1_touching_5 5 rfl rfl)
theorem dX1_touching_126 : decode cX1_touching 126 = .ok (.invokestatic 64, 3) := dk_184 0 64 (dk_at dksX1_touching_5 8 rfl rfl)
theorem dX1_touching_129 : decode cX1_touching 129 = .ok (.ifCond .eq 7, 3) := dk_153 0 7 (dk_at dksX1_touching_5 11 rfl rfl)
theorem dX1_touching_132 : decode cX1_touching 132 = .ok (.iconst 1, 1) := dk_4 (dk_at dksX1_touching_5 14 rfl rfl)
theorem dX1_touching_133 : decode cX1_touching 133 = .ok (.goto 4, 3) := dk_167 0 4 (dk_at dksX1_touching_5 15 rfl rfl)
theorem dX1_touching_136 : decode cX1_touching 136 = .ok (.iconst 0, 1) := dk_3 (dk_at dksX1_touching_5 18 rfl rfl)
theorem dX1_touching_137 : decode cX1_touching 137 = .ok (.iand, 1) := dk_126 (dk_at dksX1_touching_5 19 rfl rfl)
theorem dX1_touching_138 : decode cX1_touching 138 = .ok (.istore 5, 2) := dk_54 5 (dk_at dksX1_touching_5 20 rfl rfl)
theorem dX1_touching_140 : decode cX1_touching 140 = .ok (.iinc 6 1, 3) := dk_132 6 1 (dk_at dksX1_touching_6 0 rfl rfl)
theorem dX1_touching_143 : decode cX1_touching 143 = .ok (.goto (-64), 3) := dk_167 255 192 (dk_at dksX1_touching_6 3 rfl rfl)
theorem dX1_touching_146 : decode cX1_touching 146 = .ok (.iload 5, 2) := dk_21 5 (dk_at dksX1_touching_6 6 rfl rfl)
theorem dX1_touching_148 : decode cX1_touching 148 = .ok (.ifCond .eq 13, 3) := dk_153 0 13 (dk_at dksX1_touching_6 8 rfl rfl)
theorem dX1_touching_151 : decode cX1_touching 151 = .ok (.iload_n 1, 1) := dk_27 (dk_at dksX1_touching_6 11 rfl rfl)
theorem dX1_touching_152 : decode cX1_touching 152 = .ok (.iload_n 2, 1) := dk_28 (dk_at dksX1_touching_6 12 rfl rfl)
theorem dX1_touching_153 : decode cX1_touching 153 = .ok (.if_icmp .eq 8, 3) := dk_159 0 8 (dk_at dksX1_touching_6 13 rfl rfl)
theorem dX1_touching_156 : decode cX1_touching 156 = .ok (.iload 4, 2) := dk_21 4 (dk_at dksX1_touching_6 16 rfl rfl)
theorem dX1_touching_158 : decode cX1_touching 158 = .ok (.goto 4, 3) := dk_167 0 4 (dk_at dksX1_touching_6 18 rfl rfl)
theorem dX1_touching_161 : decode cX1_touching 161 = .ok (.iload_n 3, 1) := dk_29 (dk_at dksX1_touching_6 21 rfl rfl)
theorem dX1_touching_162 : decode cX1_touching 162 = .ok (.istore_n 3, 1) := dk_62 (dk_at dksX1_touching_6 22 rfl rfl)
theorem dX1_touching_163 : decode cX1_touching 163 = .ok (.iinc 4 1, 3) := dk_132 4 1 (dk_at dksX1_touching_7 0 rfl rfl)
theorem dX1_touching_166 : decode cX1_touching 166 = .ok (.goto (-141), 3) := dk_167 255 115 (dk_at dksX1_touching_7 3 rfl rfl)
theorem dX1_touching_169 : decode cX1_touching 169 = .ok (.iload_n 3, 1) := dk_29 (dk_at dksX1_touching_7 6 rfl rfl)
theorem dX1_touching_170 : decode cX1_touching 170 = .ok (.ireturn, 1) := dk_172 (dk_at dksX1_touching_7 7 rfl rfl)
abbrev cX1_cycle : ByteArray := prog_9_method_33_code
def yX1_cycle : MethodName := ⟨RX1, "cycle", "(I)I"⟩
def dkwX1_cycle_1 : List UInt8 := [16, 150, 172]
abbrev dktX1_cycle_1 : List UInt8 := dkwX1_cycle_1 ++ []
def dkwX1_cycle_0 : List UInt8 := [27, 156, 0, 6, 16, 154, 172, 27, 42, 182, 0, 124, 162, 0, 12, 42, 180, 0, 28, 27, 46, 167, 0, 5]
abbrev dktX1_cycle_0 : List UInt8 := dkwX1_cycle_0 ++ dktX1_cycle_1
theorem dksX1_cycle_0 : cX1_cycle.data.toList.drop 0 = dktX1_cycle_0 := by decide +kernel
theorem dksX1_cycle_1 : cX1_cycle.data.toList.drop 24 = dktX1_cycle_1 := dk_seg dksX1_cycle_0 24 rfl rfl
theorem dX1_cycle_0 : decode cX1_cycle 0 = .ok (.iload_n 1, 1) := dk_27 (dk_at dksX1_cycle_0 0 rfl rfl)
theorem dX1_cycle_1 : decode cX1_cycle 1 = .ok (.ifCond .ge 6, 3) := dk_156 0 6 (dk_at dksX1_cycle_0 1 rfl rfl)
theorem dX1_cycle_4 : decode cX1_cycle 4 = .ok (.bipush (-102), 2) := dk_16 154 (dk_at dksX1_cycle_0 4 rfl rfl)
theorem dX1_cycle_6 : decode cX1_cycle 6 = .ok (.ireturn, 1) := dk_172 (dk_at dksX1_cycle_0 6 rfl rfl)
theorem dX1_cycle_7 : decode cX1_cycle 7 = .ok (.iload_n 1, 1) := dk_27 (dk_at dksX1_cycle_0 7 rfl rfl)
theorem dX1_cycle_8 : decode cX1_cycle 8 = .ok (.aload_n 0, 1) := dk_42 (dk_at dksX1_cycle_0 8 rfl rfl)
theorem dX1_cycle_9 : decode cX1_cycle 9 = .ok (.invokevirtual 124, 3) := dk_182 0 124 (dk_at dksX1_cycle_0 9 rfl rfl)
theorem dX1_cycle_12 : decode cX1_cycle 12 = .ok (.if_icmp .ge 12, 3) := dk_162 0 12 (dk_at dksX1_cycle_0 12 rfl rfl)
theorem dX1_cycle_15 : decode cX1_cycle 15 = .ok (.aload_n 0, 1) := dk_42 (dk_at dksX1_cycle_0 15 rfl rfl)
theorem dX1_cycle_16 : decode cX1_cycle 16 = .ok (.getfield 28, 3) := dk_180 0 28 (dk_at dksX1_cycle_0 16 rfl rfl)
theorem dX1_cycle_19 : decode cX1_cycle 19 = .ok (.iload_n 1, 1) := dk_27 (dk_at dksX1_cycle_0 19 rfl rfl)
theorem dX1_cycle_20 : decode cX1_cycle 20 = .ok (.iaload, 1) := dk_46 (dk_at dksX1_cycle_0 20 rfl rfl)
theorem dX1_cycle_21 : decode cX1_cycle 21 = .ok (.goto 5, 3) := dk_167 0 5 (dk_at dksX1_cycle_0 21 rfl rfl)
theorem dX1_cycle_24 : decode cX1_cycle 24 = .ok (.bipush (-106), 2) := dk_16 150 (dk_at dksX1_cycle_1 0 rfl rfl)
theorem dX1_cycle_26 : decode cX1_cycle 26 = .ok (.ireturn, 1) := dk_172 (dk_at dksX1_cycle_1 2 rfl rfl)
abbrev cX1_layCycle : ByteArray := prog_9_method_31_code
def yX1_layCycle : MethodName := ⟨RX1, "layCycle", "()I"⟩
def dkwX1_layCycle_6 : List UInt8 := [167, 255, 214, 42, 180, 0, 28, 29, 21, 4, 79, 132, 3, 1, 167, 255, 192, 28, 172]
abbrev dktX1_layCycle_6 : List UInt8 := dkwX1_layCycle_6 ++ []
def dkwX1_layCycle_5 : List UInt8 := [100, 46, 182, 0, 111, 153, 0, 16, 42, 180, 0, 25, 21, 4, 46, 28, 29, 100, 159, 0, 9, 132, 4, 1]
abbrev dktX1_layCycle_5 : List UInt8 := dkwX1_layCycle_5 ++ dktX1_layCycle_6
def dkwX1_layCycle_4 : List UInt8 := [162, 0, 65, 3, 54, 4, 42, 21, 4, 182, 0, 75, 153, 0, 33, 42, 21, 4, 42, 180, 0, 28, 29, 4]
abbrev dktX1_layCycle_4 : List UInt8 := dkwX1_layCycle_4 ++ dktX1_layCycle_5
def dkwX1_layCycle_3 : List UInt8 := [27, 16, 150, 160, 0, 5, 3, 172, 42, 27, 182, 0, 121, 42, 180, 0, 28, 3, 27, 79, 4, 62, 29, 28]
abbrev dktX1_layCycle_3 : List UInt8 := dkwX1_layCycle_3 ++ dktX1_layCycle_4
def dkwX1_layCycle_2 : List UInt8 := [167, 0, 4, 27, 60, 21, 4, 28, 162, 0, 8, 21, 4, 167, 0, 4, 28, 61, 132, 3, 255, 167, 255, 197]
abbrev dktX1_layCycle_2 : List UInt8 := dkwX1_layCycle_2 ++ dktX1_layCycle_3
def dkwX1_layCycle_1 : List UInt8 := [182, 0, 118, 167, 0, 5, 16, 99, 54, 4, 21, 4, 28, 163, 0, 14, 21, 4, 16, 99, 162, 0, 7, 29]
abbrev dktX1_layCycle_1 : List UInt8 := dkwX1_layCycle_1 ++ dktX1_layCycle_2
def dkwX1_layCycle_0 : List UInt8 := [16, 150, 60, 16, 99, 61, 16, 11, 62, 29, 155, 0, 61, 42, 29, 182, 0, 75, 153, 0, 11, 42, 29]
abbrev dktX1_layCycle_0 : List UInt8 := dkwX1_layCycle_0 ++ dktX1_layCycle_1
theorem dksX1_layCycle_0 : cX1_layCycle.data.toList.drop 0 = dktX1_layCycle_0 := by decide +kernel
theorem dksX1_layCycle_1 : cX1_layCycle.data.toList.drop 23 = dktX1_layCycle_1 := dk_seg dksX1_layCycle_0 23 rfl rfl
theorem dksX1_layCycle_2 : cX1_layCycle.data.toList.drop 47 = dktX1_layCycle_2 := dk_seg dksX1_layCycle_1 24 rfl rfl
theorem dksX1_layCycle_3 : cX1_layCycle.data.toList.drop 71 = dktX1_layCycle_3 := dk_seg dksX1_layCycle_2 24 rfl rfl
theorem dksX1_layCycle_4 : cX1_layCycle.data.toList.drop 95 = dktX1_layCycle_4 := dk_seg dksX1_layCycle_3 24 rfl rfl
theorem dksX1_layCycle_5 : cX1_layCycle.data.toList.drop 119 = dktX1_layCycle_5 := dk_seg dksX1_layCycle_4 24 rfl rfl
theorem dksX1_layCycle_6 : cX1_layCycle.data.toList.drop 143 = dktX1_layCycle_6 := dk_seg dksX1_layCycle_5 24 rfl rfl
theorem dX1_layCycle_0 : decode cX1_layCycle 0 = .ok (.bipush (-106), 2) := dk_16 150 (dk_at dksX1_layCycle_0 0 rfl rfl)
theorem dX1_layCycle_2 : decode cX1_layCycle 2 = .ok (.istore_n 1, 1) := dk_60 (dk_at dksX1_layCycle_0 2 rfl rfl)
theorem dX1_layCycle_3 : decode cX1_layCycle 3 = .ok (.bipush 99, 2) := dk_16 99 (dk_at dksX1_layCycle_0 3 rfl rfl)
theorem dX1_layCycle_5 : decode cX1_layCycle 5 = .ok (.istore_n 2, 1) := dk_61 (dk_at dksX1_layCycle_0 5 rfl rfl)
theorem dX1_layCycle_6 : decode cX1_layCycle 6 = .ok (.bipush 11, 2) := dk_16 11 (dk_at dksX1_layCycle_0 6 rfl rfl)
theorem dX1_layCycle_8 : decode cX1_layCycle 8 = .ok (.istore_n 3, 1) := dk_62 (dk_at dksX1_layCycle_0 8 rfl rfl)
theorem dX1_layCycle_9 : decode cX1_layCycle 9 = .ok (.iload_n 3, 1) := dk_29 (dk_at dksX1_layCycle_0 9 rfl rfl)
theorem dX1_layCycle_10 : decode cX1_layCycle 10 = .ok (.ifCond .lt 61, 3) := dk_155 0 61 (dk_at dksX1_layCycle_0 10 rfl rfl)
theorem dX1_layCycle_13 : decode cX1_layCycle 13 = .ok (.aload_n 0, 1) := dk_42 (dk_at dksX1_layCycle_0 13 rfl rfl)
theorem dX1_layCycle_14 : decode cX1_layCycle 14 = .ok (.iload_n 3, 1) := dk_29 (dk_at dksX1_layCycle_0 14 rfl rfl)
theorem dX1_layCycle_15 : decode cX1_layCycle 15 = .ok (.invokevirtual 75, 3) := dk_182 0 75 (dk_at dksX1_layCycle_0 15 rfl rfl)
theorem dX1_layCycle_18 : decode cX1_layCycle 18 = .ok (.ifCond .eq 11, 3) := dk_153 0 11 (dk_at dksX1_layCycle_0 18 rfl rfl)
theorem dX1_layCycle_21 : decode cX1_layCycle 21 = .ok (.aload_n 0, 1) := dk_42 (dk_at dksX1_layCycle_0 21 rfl rfl)
theorem dX1_layCycle_22 : decode cX1_layCycle 22 = .ok (.iload_n 3, 1) := dk_29 (dk_at dksX1_layCycle_0 22 rfl rfl)
theorem dX1_layCycle_23 : decode cX1_layCycle 23 = .ok (.invokevirtual 118, 3) := dk_182 0 118 (dk_at dksX1_layCycle_1 0 rfl rfl)
theorem dX1_layCycle_26 : decode cX1_layCycle 26 = .ok (.goto 5, 3) := dk_167 0 5 (dk_at dksX1_layCycle_1 3 rfl rfl)
theorem dX1_layCycle_29 : decode cX1_layCycle 29 = .ok (.bipush 99, 2) := dk_16 99 (dk_at dksX1_layCycle_1 6 rfl rfl)
theorem dX1_layCycle_31 : decode cX1_layCycle 31 = .ok (.istore 4, 2) := dk_54 4 (dk_at dksX1_layCycle_1 8 rfl rfl)
theorem dX1_layCycle_33 : decode cX1_layCycle 33 = .ok (.iload 4, 2) := dk_21 4 (dk_at dksX1_layCycle_1 10 rfl rfl)
theorem dX1_layCycle_35 : decode cX1_layCycle 35 = .ok (.iload_n 2, 1) := dk_28 (dk_at dksX1_layCycle_1 12 rfl rfl)
theorem dX1_layCycle_36 : decode cX1_layCycle 36 = .ok (.if_icmp .gt 14, 3) := dk_163 0 14 (dk_at dksX1_layCycle_1 13 rfl rfl)
theorem dX1_layCycle_39 : decode cX1_layCycle 39 = .ok (.iload 4, 2) := dk_21 4 (dk_at dksX1_layCycle_1 16 rfl rfl)
theorem dX1_layCycle_41 : decode cX1_layCycle 41 = .ok (.bipush 99, 2) := dk_16 99 (dk_at dksX1_layCycle_1 18 rfl rfl)
theorem dX1_layCycle_43 : decode cX1_layCycle 43 = .ok (.if_icmp .ge 7, 3) := dk_162 0 7 (dk_at dksX1_layCycle_1 20 rfl rfl)
theorem dX1_layCycle_46 : decode cX1_layCycle 46 = .ok (.iload_n 3, 1) := dk_29 (dk_at dksX1_layCycle_1 23 rfl rfl)
theorem dX1_layCycle_47 : decode cX1_layCycle 47 = .ok (.goto 4, 3) := dk_167 0 4 (dk_at dksX1_layCycle_2 0 rfl rfl)
theorem dX1_layCycle_50 : decode cX1_layCycle 50 = .ok (.iload_n 1, 1) := dk_27 (dk_at dksX1_layCycle_2 3 rfl rfl)
theorem dX1_layCycle_51 : decode cX1_layCycle 51 = .ok (.istore_n 1, 1) := dk_60 (dk_at dksX1_layCycle_2 4 rfl rfl)
theorem dX1_layCycle_52 : decode cX1_layCycle 52 = .ok (.iload 4, 2) := dk_21 4 (dk_at dksX1_layCycle_2 5 rfl rfl)
theorem dX1_layCycle_54 : decode cX1_layCycle 54 = .ok (.iload_n 2, 1) := dk_28 (dk_at dksX1_layCycle_2 7 rfl rfl)
theorem dX1_layCycle_55 : decode cX1_layCycle 55 = .ok (.if_icmp .ge 8, 3) := dk_162 0 8 (dk_at dksX1_layCycle_2 8 rfl rfl)
theorem dX1_layCycle_58 : decode cX1_layCycle 58 = .ok (.iload 4, 2) := dk_21 4 (dk_at dksX1_layCycle_2 11 rfl rfl)
theorem dX1_layCycle_60 : decode cX1_layCycle 60 = .ok (.goto 4, 3) := dk_167 0 4 (dk_at dksX1_layCycle_2 13 rfl rfl)
theorem dX1_layCycle_63 : decode cX1_layCycle 63 = .ok (.iload_n 2, 1) := dk_28 (dk_at dksX1_layCycle_2 16 rfl rfl)
theorem dX1_layCycle_64 : decode cX1_layCycle 64 = .ok (.istore_n 2, 1) := dk_61 (dk_at dksX1_layCycle_2 17 rfl rfl)
theorem dX1_layCycle_65 : decode cX1_layCycle 65 = .ok (.iinc 3 (-1), 3) := dk_132 3 255 (dk_at dksX1_layCycle_2 18 rfl rfl)
theorem dX1_layCycle_68 : decode cX1_layCycle 68 = .ok (.goto (-59), 3) := dk_167 255 197 (dk_at dksX1_layCycle_2 21 rfl rfl)
theorem dX1_layCycle_71 : decode cX1_layCycle 71 = .ok (.iload_n 1, 1) := dk_27 (dk_at dksX1_layCycle_3 0 rfl rfl)
theorem dX1_layCycle_72 : decode cX1_layCycle 72 = .ok (.bipush (-106), 2) := dk_16 150 (dk_at dksX1_layCycle_3 1 rfl rfl)
theorem dX1_layCycle_74 : decode cX1_layCycle 74 = .ok (.if_icmp .ne 5, 3) := dk_160 0 5 (dk_at dksX1_layCycle_3 3 rfl rfl)
theorem dX1_layCycle_77 : decode cX1_layCycle 77 = .ok (.iconst 0, 1) := dk_3 (dk_at dksX1_layCycle_3 6 rfl rfl)
theorem dX1_layCycle_78 : decode cX1_layCycle 78 = .ok (.ireturn, 1) := dk_172 (dk_at dksX1_layCycle_3 7 rfl rfl)
theorem dX1_layCycle_79 : decode cX1_layCycle 79 = .ok (.aload_n 0, 1) := dk_42 (dk_at dksX1_layCycle_3 8 rfl rfl)
theorem dX1_layCycle_80 : decode cX1_layCycle 80 = .ok (.iload_n 1, 1) := dk_27 (dk_at dksX1_layCycle_3 9 rfl rfl)
theorem dX1_layCycle_81 : decode cX1_layCycle 81 = .ok (.invokevirtual 121, 3) := dk_182 0 121 (dk_at dksX1_layCycle_3 10 rfl rfl)
theorem dX1_layCycle_84 : decode cX1_layCycle 84 = .ok (.aload_n 0, 1) := dk_42 (dk_at dksX1_layCycle_3 13 rfl rfl)
theorem dX1_layCycle_85 : decode cX1_layCycle 85 = .ok (.getfield 28, 3) := dk_180 0 28 (dk_at dksX1_layCycle_3 14 rfl rfl)
theorem dX1_layCycle_88 : decode cX1_layCycle 88 = .ok (.iconst 0, 1) := dk_3 (dk_at dksX1_layCycle_3 17 rfl rfl)
theorem dX1_layCycle_89 : decode cX1_layCycle 89 = .ok (.iload_n 1, 1) := dk_27 (dk_at dksX1_layCycle_3 18 rfl rfl)
theorem dX1_layCycle_90 : decode cX1_layCycle 90 = .ok (.iastore, 1) := dk_79 (dk_at dksX1_layCycle_3 19 rfl rfl)
theorem dX1_layCycle_91 : decode cX1_layCycle 91 = .ok (.iconst 1, 1) := dk_4 (dk_at dksX1_layCycle_3 20 rfl rfl)
theorem dX1_layCycle_92 : decode cX1_layCycle 92 = .ok (.istore_n 3, 1) := dk_62 (dk_at dksX1_layCycle_3 21 rfl rfl)
theorem dX1_layCycle_93 : decode cX1_layCycle 93 = .ok (.iload_n 3, 1) := dk_29 (dk_at dksX1_layCycle_3 22 rfl rfl)
theorem dX1_layCycle_94 : decode cX1_layCycle 94 = .ok (.iload_n 2, 1) := dk_28 (dk_at dksX1_layCycle_3 23 rfl rfl)
theorem dX1_layCycle_95 : decode cX1_layCycle 95 = .ok (.if_icmp .ge 65, 3) := dk_162 0 65 (dk_at dksX1_layCycle_4 0 rfl rfl)
theorem dX1_layCycle_98 : decode cX1_layCycle 98 = .ok (.iconst 0, 1) := dk_3 (dk_at dksX1_layCycle_4 3 rfl rfl)
theorem dX1_layCycle_99 : decode cX1_layCycle 99 = .ok (.istore 4, 2) := dk_54 4 (dk_at dksX1_layCycle_4 4 rfl rfl)
theorem dX1_layCycle_101 : decode cX1_layCycle 101 = .ok (.aload_n 0, 1) := dk_42 (dk_at dksX1_layCycle_4 6 rfl rfl)
theorem dX1_layCycle_102 : decode cX1_layCycle 102 = .ok (.iload 4, 2) := dk_21 4 (dk_at dksX1_layCycle_4 7 rfl rfl)
theorem dX1_layCycle_104 : decode cX1_layCycle 104 = .ok (.invokevirtual 75, 3) := dk_182 0 75 (dk_at dksX1_layCycle_4 9 rfl rfl)
theorem dX1_layCycle_107 : decode cX1_layCycle 107 = .ok (.ifCond .eq 33, 3) := dk_153 0 33 (dk_at dksX1_layCycle_4 12 rfl rfl)
theorem dX1_layCycle_110 : decode cX1_layCycle 110 = .ok (.aload_n 0, 1) := dk_42 (dk_at dksX1_layCycle_4 15 rfl rfl)
theorem dX1_layCycle_111 : decode cX1_layCycle 111 = .ok (.iload 4, 2) := dk_21 4 (dk_at dksX1_layCycle_4 16 rfl rfl)
theorem dX1_layCycle_113 : decode cX1_layCycle 113 = .ok (.aload_n 0, 1) := dk_42 (dk_at dksX1_layCycle_4 18 rfl rfl)
theorem dX1_layCycle_114 : decode cX1_layCycle 114 = .ok (.getfield 28, 3) := dk_180 0 28 (dk_at dksX1_layCycle_4 19 rfl rfl)
theorem dX1_layCycle_117 : decode cX1_layCycle 117 = .ok (.iload_n 3, 1) := dk_29 (dk_at dksX1_layCycle_4 22 rfl rfl)
theorem dX1_layCycle_118 : decode cX1_layCycle 118 = .ok (.iconst 1, 1) := dk_4 (dk_at dksX1_layCycle_4 23 rfl rfl)
theorem dX1_layCycle_119 : decode cX1_layCycle 119 = .ok (.isub, 1) := dk_100 (dk_at dksX1_layCycle_5 0 rfl rfl)
theorem dX1_layCycle_120 : decode cX1_layCycle 120 = .ok (.iaload, 1) := dk_46 (dk_at dksX1_layCycle_5 1 rfl rfl)
theorem dX1_layCycle_121 : decode cX1_layCycle 121 = .ok (.invokevirtual 111, 3) := dk_182 0 111 (dk_at dksX1_layCycle_5 2 rfl rfl)
theorem dX1_layCycle_124 : decode cX1_layCycle 124 = .ok (.ifCond .eq 16, 3) := dk_153 0 16 (dk_at dksX1_layCycle_5 5 rfl rfl)
theorem dX1_layCycle_127 : decode cX1_layCycle 127 = .ok (.aload_n 0, 1) := dk_42 (dk_at dksX1_layCycle_5 8 rfl rfl)
theorem dX1_layCycle_128 : decode cX1_layCycle 128 = .ok (.getfield 25, 3) := dk_180 0 25 (dk_at dksX1_layCycle_5 9 rfl rfl)
theorem dX1_layCycle_131 : decode cX1_layCycle 131 = .ok (.iload 4, 2) := dk_21 4 (dk_at dksX1_layCycle_5 12 rfl rfl)
theorem dX1_layCycle_133 : decode cX1_layCycle 133 = .ok (.iaload, 1) := dk_46 (dk_at dksX1_layCycle_5 14 rfl rfl)
theorem dX1_layCycle_134 : decode cX1_layCycle 134 = .ok (.iload_n 2, 1) := dk_28 (dk_at dksX1_layCycle_5 15 rfl rfl)
theorem dX1_layCycle_135 : decode cX1_layCycle 135 = .ok (.iload_n 3, 1) := dk_29 (dk_at dksX1_layCycle_5 16 rfl rfl)
theorem dX1_layCycle_136 : decode cX1_layCycle 136 = .ok (.isub, 1) := dk_100 (dk_at dksX1_layCycle_5 17 rfl rfl)
theorem dX1_layCycle_137 : decode cX1_layCycle 137 = .ok (.if_icmp .eq 9, 3) := dk_159 0 9 (dk_at dksX1_layCycle_5 18 rfl rfl)
theorem dX1_layCycle_140 : decode cX1_layCycle 140 = .ok (.iinc 4 1, 3) := dk_132 4 1 (dk_at dksX1_layCycle_5 21 rfl rfl)
theorem dX1_layCycle_143 : decode cX1_layCycle 143 = .ok (.goto (-42), 3) := dk_167 255 214 (dk_at dksX1_layCycle_6 0 rfl rfl)
theorem dX1_layCycle_146 : decode cX1_layCycle 146 = .ok (.aload_n 0, 1) := dk_42 (dk_at dksX1_layCycle_6 3 rfl rfl)
theorem dX1_layCycle_147 : decode cX1_layCycle 147 = .ok (.getfield 28, 3) := dk_180 0 28 (dk_at dksX1_layCycle_6 4 rfl rfl)
theorem dX1_layCycle_150 : decode cX1_layCycle 150 = .ok (.iload_n 3, 1) := dk_29 (dk_at dksX1_layCycle_6 7 rfl rfl)
theorem dX1_layCycle_151 : decode cX1_layCycle 151 = .ok (.iload 4, 2) := dk_21 4 (dk_at dksX1_layCycle_6 8 rfl rfl)
theorem dX1_layCycle_153 : decode cX1_layCycle 153 = .ok (.iastore, 1) := dk_79 (dk_at dksX1_layCycle_6 10 rfl rfl)
theorem dX1_layCycle_154 : decode cX1_layCycle 154 = .ok (.iinc 3 1, 3) := dk_132 3 1 (dk_at dksX1_layCycle_6 11 rfl rfl)
theorem dX1_layCycle_157 : decode cX1_layCycle 157 = .ok (.goto (-64), 3) := dk_167 255 192 (dk_at dksX1_layCycle_6 14 rfl rfl)
theorem dX1_layCycle_160 : decode cX1_layCycle 160 = .ok (.iload_n 2, 1) := dk_28 (dk_at dksX1_layCycle_6 17 rfl rfl)
theorem dX1_layCycle_161 : decode cX1_layCycle 161 = .ok (.ireturn, 1) := dk_172 (dk_at dksX1_layCycle_6 18 rfl rfl)
abbrev cX1_cycleOf : ByteArray := prog_9_method_32_code
def yX1_cycleOf : MethodName := ⟨RX1, "cycleOf", "(I)I"⟩
def dkwX1_cycleOf_2 : List UInt8 := [180, 0, 25, 29, 46, 4, 96, 167, 0, 4, 28, 61, 132, 3, 1, 167, 255, 205, 28, 172]
abbrev dktX1_cycleOf_2 : List UInt8 := dkwX1_cycleOf_2 ++ []
def dkwX1_cycleOf_1 : List UInt8 := [42, 29, 27, 182, 0, 111, 153, 0, 26, 42, 180, 0, 25, 29, 46, 4, 96, 28, 162, 0, 14, 42]
abbrev dktX1_cycleOf_1 : List UInt8 := dkwX1_cycleOf_1 ++ dktX1_cycleOf_2
def dkwX1_cycleOf_0 : List UInt8 := [42, 27, 182, 0, 121, 16, 99, 61, 3, 62, 29, 16, 12, 162, 0, 51, 42, 29, 182, 0, 75, 153, 0, 35]
abbrev dktX1_cycleOf_0 : List UInt8 := dkwX1_cycleOf_0 ++ dktX1_cycleOf_1
theorem dksX1_cycleOf_0 : cX1_cycleOf.data.toList.drop 0 = dktX1_cycleOf_0 := by decide +kernel
theorem dksX1_cycleOf_1 : cX1_cycleOf.data.toList.drop 24 = dktX1_cycleOf_1 := dk_seg dksX1_cycleOf_0 24 rfl rfl
theorem dksX1_cycleOf_2 : cX1_cycleOf.data.toList.drop 46 = dktX1_cycleOf_2 := dk_seg dksX1_cycleOf_1 22 rfl rfl
theorem dX1_cycleOf_0 : decode cX1_cycleOf 0 = .ok (.aload_n 0, 1) := dk_42 (dk_at dksX1_cycleOf_0 0 rfl rfl)
theorem dX1_cycleOf_1 : decode cX1_cycleOf 1 = .ok (.iload_n 1, 1) := dk_27 (dk_at dksX1_cycleOf_0 1 rfl rfl)
theorem dX1_cycleOf_2 : decode cX1_cycleOf 2 = .ok (.invokevirtual 121, 3) := dk_182 0 121 (dk_at dksX1_cycleOf_0 2 rfl rfl)
theorem dX1_cycleOf_5 : decode cX1_cycleOf 5 = .ok (.bipush 99, 2) := dk_16 99 (dk_at dksX1_cycleOf_0 5 rfl rfl)
theorem dX1_cycleOf_7 : decode cX1_cycleOf 7 = .ok (.istore_n 2, 1) := dk_61 (dk_at dksX1_cycleOf_0 7 rfl rfl)
theorem dX1_cycleOf_8 : decode cX1_cycleOf 8 = .ok (.iconst 0, 1) := dk_3 (dk_at dksX1_cycleOf_0 8 rfl rfl)
theorem dX1_cycleOf_9 : decode cX1_cycleOf 9 = .ok (.istore_n 3, 1) := dk_62 (dk_at dksX1_cycleOf_0 9 rfl rfl)
theorem dX1_cycleOf_10 : decode cX1_cycleOf 10 = .ok (.iload_n 3, 1) := dk_29 (dk_at dksX1_cycleOf_0 10 rfl rfl)
theorem dX1_cycleOf_11 : decode cX1_cycleOf 11 = .ok (.bipush 12, 2) := dk_16 12 (dk_at dksX1_cycleOf_0 11 rfl rfl)
theorem dX1_cycleOf_13 : decode cX1_cycleOf 13 = .ok (.if_icmp .ge 51, 3) := dk_162 0 51 (dk_at dksX1_cycleOf_0 13 rfl rfl)
theorem dX1_cycleOf_16 : decode cX1_cycleOf 16 = .ok (.aload_n 0, 1) := dk_42 (dk_at dksX1_cycleOf_0 16 rfl rfl)
theorem dX1_cycleOf_17 : decode cX1_cycleOf 17 = .ok (.iload_n 3, 1) := dk_29 (dk_at dksX1_cycleOf_0 17 rfl rfl)
theorem dX1_cycleOf_18 : decode cX1_cycleOf 18 = .ok (.invokevirtual 75, 3) := dk_182 0 75 (dk_at dksX1_cycleOf_0 18 rfl rfl)
theorem dX1_cycleOf_21 : decode cX1_cycleOf 21 = .ok (.ifCond .eq 35, 3) := dk_153 0 35 (dk_at dksX1_cycleOf_0 21 rfl rfl)
theorem dX1_cycleOf_24 : decode cX1_cycleOf 24 = .ok (.aload_n 0, 1) := dk_42 (dk_at dksX1_cycleOf_1 0 rfl rfl)
theorem dX1_cycleOf_25 : decode cX1_cycleOf 25 = .ok (.iload_n 3, 1) := dk_29 (dk_at dksX1_cycleOf_1 1 rfl rfl)
theorem dX1_cycleOf_26 : decode cX1_cycleOf 26 = .ok (.iload_n 1, 1) := dk_27 (dk_at dksX1_cycleOf_1 2 rfl rfl)
theorem dX1_cycleOf_27 : decode cX1_cycleOf 27 = .ok (.invokevirtual 111, 3) := dk_182 0 111 (dk_at dksX1_cycleOf_1 3 rfl rfl)
theorem dX1_cycleOf_30 : decode cX1_cycleOf 30 = .ok (.ifCond .eq 26, 3) := dk_153 0 26 (dk_at dksX1_cycleOf_1 6 rfl rfl)
theorem dX1_cycleOf_33 : decode cX1_cycleOf 33 = .ok (.aload_n 0, 1) := dk_42 (dk_at dksX1_cycleOf_1 9 rfl rfl)
theorem dX1_cycleOf_34 : decode cX1_cycleOf 34 = .ok (.getfield 25, 3) := dk_180 0 25 (dk_at dksX1_cycleOf_1 10 rfl rfl)
theorem dX1_cycleOf_37 : decode cX1_cycleOf 37 = .ok (.iload_n 3, 1) := dk_29 (dk_at dksX1_cycleOf_1 13 rfl rfl)
theorem dX1_cycleOf_38 : decode cX1_cycleOf 38 = .ok (.iaload, 1) := dk_46 (dk_at dksX1_cycleOf_1 14 rfl rfl)
theorem dX1_cycleOf_39 : decode cX1_cycleOf 39 = .ok (.iconst 1, 1) := dk_4 (dk_at dksX1_cycleOf_1 15 rfl rfl)
theorem dX1_cycleOf_40 : decode cX1_cycleOf 40 = .ok (.iadd, 1) := dk_96 (dk_at dksX1_cycleOf_1 16 rfl rfl)
theorem dX1_cycleOf_41 : decode cX1_cycleOf 41 = .ok (.iload_n 2, 1) := dk_28 (dk_at dksX1_cycleOf_1 17 rfl rfl)
theorem dX1_cycleOf_42 : decode cX1_cycleOf 42 = .ok (.if_icmp .ge 14, 3) := dk_162 0 14 (dk_at dksX1_cycleOf_1 18 rfl rfl)
theorem dX1_cycleOf_45 : decode cX1_cycleOf 45 = .ok (.aload_n 0, 1) := dk_42 (dk_at dksX1_cycleOf_1 21 rfl rfl)
theorem dX1_cycleOf_46 : decode cX1_cycleOf 46 = .ok (.getfield 25, 3) := dk_180 0 25 (dk_at dksX1_cycleOf_2 0 rfl rfl)
theorem dX1_cycleOf_49 : decode cX1_cycleOf 49 = .ok (.iload_n 3, 1) := dk_29 (dk_at dksX1_cycleOf_2 3 rfl rfl)
theorem dX1_cycleOf_50 : decode cX1_cycleOf 50 = .ok (.iaload, 1) := dk_46 (dk_at dksX1_cycleOf_2 4 rfl rfl)
theorem dX1_cycleOf_51 : decode cX1_cycleOf 51 = .ok (.iconst 1, 1) := dk_4 (dk_at dksX1_cycleOf_2 5 rfl rfl)
theorem dX1_cycleOf_52 : decode cX1_cycleOf 52 = .ok (.iadd, 1) := dk_96 (dk_at dksX1_cycleOf_2 6 rfl rfl)
theorem dX1_cycleOf_53 : decode cX1_cycleOf 53 = .ok (.goto 4, 3) := dk_167 0 4 (dk_at dksX1_cycleOf_2 7 rfl rfl)
theorem dX1_cycleOf_56 : decode cX1_cycleOf 56 = .ok (.iload_n 2, 1) := dk_28 (dk_at dksX1_cycleOf_2 10 rfl rfl)
theorem dX1_cycleOf_57 : decode cX1_cycleOf 57 = .ok (.istore_n 2, 1) := dk_61 (dk_at dksX1_cycleOf_2 11 rfl rfl)
theorem dX1_cycleOf_58 : decode cX1_cycleOf 58 = .ok (.iinc 3 1, 3) := dk_132 3 1 (dk_at dksX1_cycleOf_2 12 rfl rfl)
theorem dX1_cycleOf_61 : decode cX1_cycleOf 61 = .ok (.goto (-51), 3) := dk_167 255 205 (dk_at dksX1_cycleOf_2 15 rfl rfl)
theorem dX1_cycleOf_64 : decode cX1_cycleOf 64 = .ok (.iload_n 2, 1) := dk_28 (dk_at dksX1_cycleOf_2 18 rfl rfl)
theorem dX1_cycleOf_65 : decode cX1_cycleOf 65 = .ok (.ireturn, 1) := dk_172 (dk_at dksX1_cycleOf_2 19 rfl rfl)
abbrev cX1_measure : ByteArray := prog_9_method_30_code
def yX1_measure : MethodName := ⟨RX1, "measure", "(I)V"⟩
def dkwX1_measure_5 : List UInt8 := [132, 4, 1, 167, 255, 186, 132, 3, 1, 167, 255, 171, 132, 2, 1, 167, 255, 157, 177]
abbrev dktX1_measure_5 : List UInt8 := dkwX1_measure_5 ++ []
def dkwX1_measure_4 : List UInt8 := [180, 0, 25, 29, 46, 162, 0, 18, 42, 180, 0, 25, 29, 42, 180, 0, 25, 21, 4, 46, 4, 96, 79]
abbrev dktX1_measure_4 : List UInt8 := dkwX1_measure_4 ++ dktX1_measure_5
def dkwX1_measure_3 : List UInt8 := [153, 0, 46, 42, 21, 4, 29, 182, 0, 111, 153, 0, 36, 42, 180, 0, 25, 21, 4, 46, 4, 96, 42]
abbrev dktX1_measure_3 : List UInt8 := dkwX1_measure_3 ++ dktX1_measure_4
def dkwX1_measure_2 : List UInt8 := [54, 4, 21, 4, 16, 12, 162, 0, 69, 42, 29, 182, 0, 75, 153, 0, 55, 42, 21, 4, 182, 0, 75]
abbrev dktX1_measure_2 : List UInt8 := dkwX1_measure_2 ++ dktX1_measure_3
def dkwX1_measure_1 : List UInt8 := [79, 132, 2, 1, 167, 255, 230, 3, 61, 28, 16, 12, 162, 0, 99, 3, 62, 29, 16, 12, 162, 0, 85, 3]
abbrev dktX1_measure_1 : List UInt8 := dkwX1_measure_1 ++ dktX1_measure_2
def dkwX1_measure_0 : List UInt8 := [3, 61, 28, 16, 12, 162, 0, 26, 42, 180, 0, 25, 28, 28, 27, 160, 0, 7, 3, 167, 0, 5, 16, 99]
abbrev dktX1_measure_0 : List UInt8 := dkwX1_measure_0 ++ dktX1_measure_1
theorem dksX1_measure_0 : cX1_measure.data.toList.drop 0 = dktX1_measure_0 := by decide +kernel
theorem dksX1_measure_1 : cX1_measure.data.toList.drop 24 = dktX1_measure_1 := dk_seg dksX1_measure_0 24 rfl rfl
theorem dksX1_measure_2 : cX1_measure.data.toList.drop 48 = dktX1_measure_2 := dk_seg dksX1_measure_1 24 rfl rfl
theorem dksX1_measure_3 : cX1_measure.data.toList.drop 71 = dktX1_measure_3 := dk_seg dksX1_measure_2 23 rfl rfl
theorem dksX1_measure_4 : cX1_measure.data.toList.drop 94 = dktX1_measure_4 := dk_seg dksX1_measure_3 23 rfl rfl
theorem dksX1_measure_5 : cX1_measure.data.toList.drop 117 = dktX1_measure_5 := dk_seg dksX1_measure_4 23 rfl rfl
theorem dX1_measure_0 : decode cX1_measure 0 = .ok (.iconst 0, 1) := dk_3 (dk_at dksX1_measure_0 0 rfl rfl)
theorem dX1_measure_1 : decode cX1_measure 1 = .ok (.istore_n 2, 1) := dk_61 (dk_at dksX1_measure_0 1 rfl rfl)
theorem dX1_measure_2 : decode cX1_measure 2 = .ok (.iload_n 2, 1) := dk_28 (dk_at dksX1_measure_0 2 rfl rfl)
theorem dX1_measure_3 : decode cX1_measure 3 = .ok (.bipush 12, 2) := dk_16 12 (dk_at dksX1_measure_0 3 rfl rfl)
theorem dX1_measure_5 : decode cX1_measure 5 = .ok (.if_icmp .ge 26, 3) := dk_162 0 26 (dk_at dksX1_measure_0 5 rfl rfl)
theorem dX1_measure_8 : decode cX1_measure 8 = .ok (.aload_n 0, 1) := dk_42 (dk_at dksX1_measure_0 8 rfl rfl)
theorem dX1_measure_9 : decode cX1_measure 9 = .ok (.getfield 25, 3) := dk_180 0 25 (dk_at dksX1_measure_0 9 rfl rfl)
theorem dX1_measure_12 : decode cX1_measure 12 = .ok (.iload_n 2, 1) := dk_28 (dk_at dksX1_measure_0 12 rfl rfl)
theorem dX1_measure_13 : decode cX1_measure 13 = .ok (.iload_n 2, 1) := dk_28 (dk_at dksX1_measure_0 13 rfl rfl)
theorem dX1_measure_14 : decode cX1_measure 14 = .ok (.iload_n 1, 1) := dk_27 (dk_at dksX1_measure_0 14 rfl rfl)
theorem dX1_measure_15 : decode cX1_measure 15 = .ok (.if_icmp .ne 7, 3) := dk_160 0 7 (dk_at dksX1_measure_0 15 rfl rfl)
theorem dX1_measure_18 : decode cX1_measure 18 = .ok (.iconst 0, 1) := dk_3 (dk_at dksX1_measure_0 18 rfl rfl)
theorem dX1_measure_19 : decode cX1_measure 19 = .ok (.goto 5, 3) := dk_167 0 5 (dk_at dksX1_measure_0 19 rfl rfl)
theorem dX1_measure_22 : decode cX1_measure 22 = .ok (.bipush 99, 2) := dk_16 99 (dk_at dksX1_measure_0 22 rfl rfl)
theorem dX1_measure_24 : decode cX1_measure 24 = .ok (.iastore, 1) := dk_79 (dk_at dksX1_measure_1 0 rfl rfl)
theorem dX1_measure_25 : decode cX1_measure 25 = .ok (.iinc 2 1, 3) := dk_132 2 1 (dk_at dksX1_measure_1 1 rfl rfl)
theorem dX1_measure_28 : decode cX1_measure 28 = .ok (.goto (-26), 3) := dk_167 255 230 (dk_at dksX1_measure_1 4 rfl rfl)
theorem dX1_measure_31 : decode cX1_measure 31 = .ok (.iconst 0, 1) := dk_3 (dk_at dksX1_measure_1 7 rfl rfl)
theorem dX1_measure_32 : decode cX1_measure 32 = .ok (.istore_n 2, 1) := dk_61 (dk_at dksX1_measure_1 8 rfl rfl)
theorem dX1_measure_33 : decode cX1_measure 33 = .ok (.iload_n 2, 1) := dk_28 (dk_at dksX1_measure_1 9 rfl rfl)
theorem dX1_measure_34 : decode cX1_measure 34 = .ok (.bipush 12, 2) := dk_16 12 (dk_at dksX1_measure_1 10 rfl rfl)
theorem dX1_measure_36 : decode cX1_measure 36 = .ok (.if_icmp .ge 99, 3) := dk_162 0 99 (dk_at dksX1_measure_1 12 rfl rfl)
theorem dX1_measure_39 : decode cX1_measure 39 = .ok (.iconst 0, 1) := dk_3 (dk_at dksX1_measure_1 15 rfl rfl)
theorem dX1_measure_40 : decode cX1_measure 40 = .ok (.istore_n 3, 1) := dk_62 (dk_at dksX1_measure_1 16 rfl rfl)
theorem dX1_measure_41 : decode cX1_measure 41 = .ok (.iload_n 3, 1) := dk_29 (dk_at dksX1_measure_1 17 rfl rfl)
theorem dX1_measure_42 : decode cX1_measure 42 = .ok (.bipush 12, 2) := dk_16 12 (dk_at dksX1_measure_1 18 rfl rfl)
theorem dX1_measure_44 : decode cX1_measure 44 = .ok (.if_icmp .ge 85, 3) := dk_162 0 85 (dk_at dksX1_measure_1 20 rfl rfl)
theorem dX1_measure_47 : decode cX1_measure 47 = .ok (.iconst 0, 1) := dk_3 (dk_at dksX1_measure_1 23 rfl rfl)
theorem dX1_measure_48 : decode cX1_measure 48 = .ok (.istore 4, 2) := dk_54 4 (dk_at dksX1_measure_2 0 rfl rfl)
theorem dX1_measure_50 : decode cX1_measure 50 = .ok (.iload 4, 2) := dk_21 4 (dk_at dksX1_measure_2 2 rfl rfl)
theorem dX1_measure_52 : decode cX1_measure 52 = .ok (.bipush 12, 2) := dk_16 12 (dk_at dksX1_measure_2 4 rfl rfl)
theorem dX1_measure_54 : decode cX1_measure 54 = .ok (.if_icmp .ge 69, 3) := dk_162 0 69 (dk_at dksX1_measure_2 6 rfl rfl)
theorem dX1_measure_57 : decode cX1_measure 57 = .ok (.aload_n 0, 1) := dk_42 (dk_at dksX1_measure_2 9 rfl rfl)
theorem dX1_measure_58 : decode cX1_measure 58 = .ok (.iload_n 3, 1) := dk_29 (dk_at dksX1_measure_2 10 rfl rfl)
theorem dX1_measure_59 : decode cX1_measure 59 = .ok (.invokevirtual 75, 3) := dk_182 0 75 (dk_at dksX1_measure_2 11 rfl rfl)
theorem dX1_measure_62 : decode cX1_measure 62 = .ok (.ifCond .eq 55, 3) := dk_153 0 55 (dk_at dksX1_measure_2 14 rfl rfl)
theorem dX1_measure_65 : decode cX1_measure 65 = .ok (.aload_n 0, 1) := dk_42 (dk_at dksX1_measure_2 17 rfl rfl)
theorem dX1_measure_66 : decode cX1_measure 66 = .ok (.iload 4, 2) := dk_21 4 (dk_at dksX1_measure_2 18 rfl rfl)
theorem dX1_measure_68 : decode cX1_measure 68 = .ok (.invokevirtual 75, 3) := dk_182 0 75 (dk_at dksX1_measure_2 20 rfl rfl)
theorem dX1_measure_71 : decode cX1_measure 71 = .ok (.ifCond .eq 46, 3) := dk_153 0 46 (dk_at dksX1_measure_3 0 rfl rfl)
theorem dX1_measure_74 : decode cX1_measure 74 = .ok (.aload_n 0, 1) := dk_42 (dk_at dksX1_measure_3 3 rfl rfl)
theorem dX1_measure_75 : decode cX1_measure 75 = .ok (.iload 4, 2) := dk_21 4 (dk_at dksX1_measure_3 4 rfl rfl)
theorem dX1_measure_77 : decode cX1_measure 77 = .ok (.iload_n 3, 1) := dk_29 (dk_at dksX1_measure_3 6 rfl rfl)
theorem dX1_measure_78 : decode cX1_measure 78 = .ok (.invokevirtual 111, 3) := dk_182 0 111 (dk_at dksX1_measure_3 7 rfl rfl)
theorem dX1_measure_81 : decode cX1_measure 81 = .ok (.ifCond .eq 36, 3) := dk_153 0 36 (dk_at dksX1_measure_3 10 rfl rfl)
theorem dX1_measure_84 : decode cX1_measure 84 = .ok (.aload_n 0, 1) := dk_42 (dk_at dksX1_measure_3 13 rfl rfl)
theorem dX1_measure_85 : decode cX1_measure 85 = .ok (.getfield 25, 3) := dk_180 0 25 (dk_at dksX1_measure_3 14 rfl rfl)
theorem dX1_measure_88 : decode cX1_measure 88 = .ok (.iload 4, 2) := dk_21 4 (dk_at dksX1_measure_3 17 rfl rfl)
theorem dX1_measure_90 : decode cX1_measure 90 = .ok (.iaload, 1) := dk_46 (dk_at dksX1_measure_3 19 rfl rfl)
theorem dX1_measure_91 : decode cX1_measure 91 = .ok (.iconst 1, 1) := dk_4 (dk_at dksX1_measure_3 20 rfl rfl)
theorem dX1_measure_92 : decode cX1_measure 92 = .ok (.iadd, 1) := dk_96 (dk_at dksX1_measure_3 21 rfl rfl)
theorem dX1_measure_93 : decode cX1_measure 93 = .ok (.aload_n 0, 1) := dk_42 (dk_at dksX1_measure_3 22 rfl rfl)
theorem dX1_measure_94 : decode cX1_measure 94 = .ok (.getfield 25, 3) := dk_180 0 25 (dk_at dksX1_measure_4 0 rfl rfl)
theorem dX1_measure_97 : decode cX1_measure 97 = .ok (.iload_n 3, 1) := dk_29 (dk_at dksX1_measure_4 3 rfl rfl)
theorem dX1_measure_98 : decode cX1_measure 98 = .ok (.iaload, 1) := dk_46 (dk_at dksX1_measure_4 4 rfl rfl)
theorem dX1_measure_99 : decode cX1_measure 99 = .ok (.if_icmp .ge 18, 3) := dk_162 0 18 (dk_at dksX1_measure_4 5 rfl rfl)
theorem dX1_measure_102 : decode cX1_measure 102 = .ok (.aload_n 0, 1) := dk_42 (dk_at dksX1_measure_4 8 rfl rfl)
theorem dX1_measure_103 : decode cX1_measure 103 = .ok (.getfield 25, 3) := dk_180 0 25 (dk_at dksX1_measure_4 9 rfl rfl)
theorem dX1_measure_106 : decode cX1_measure 106 = .ok (.iload_n 3, 1) := dk_29 (dk_at dksX1_measure_4 12 rfl rfl)
theorem dX1_measure_107 : decode cX1_measure 107 = .ok (.aload_n 0, 1) := dk_42 (dk_at dksX1_measure_4 13 rfl rfl)
theorem dX1_measure_108 : decode cX1_measure 108 = .ok (.getfield 25, 3) := dk_180 0 25 (dk_at dksX1_measure_4 14 rfl rfl)
theorem dX1_measure_111 : decode cX1_measure 111 = .ok (.iload 4, 2) := dk_21 4 (dk_at dksX1_measure_4 17 rfl rfl)
theorem dX1_measure_113 : decode cX1_measure 113 = .ok (.iaload, 1) := dk_46 (dk_at dksX1_measure_4 19 rfl rfl)
theorem dX1_measure_114 : decode cX1_measure 114 = .ok (.iconst 1, 1) := dk_4 (dk_at dksX1_measure_4 20 rfl rfl)
theorem dX1_measure_115 : decode cX1_measure 115 = .ok (.iadd, 1) := dk_96 (dk_at dksX1_measure_4 21 rfl rfl)
theorem dX1_measure_116 : decode cX1_measure 116 = .ok (.iastore, 1) := dk_79 (dk_at dksX1_measure_4 22 rfl rfl)
theorem dX1_measure_117 : decode cX1_measure 117 = .ok (.iinc 4 1, 3) := dk_132 4 1 (dk_at dksX1_measure_5 0 rfl rfl)
theorem dX1_measure_120 : decode cX1_measure 120 = .ok (.goto (-70), 3) := dk_167 255 186 (dk_at dksX1_measure_5 3 rfl rfl)
theorem dX1_measure_123 : decode cX1_measure 123 = .ok (.iinc 3 1, 3) := dk_132 3 1 (dk_at dksX1_measure_5 6 rfl rfl)
theorem dX1_measure_126 : decode cX1_measure 126 = .ok (.goto (-85), 3) := dk_167 255 171 (dk_at dksX1_measure_5 9 rfl rfl)
theorem dX1_measure_129 : decode cX1_measure 129 = .ok (.iinc 2 1, 3) := dk_132 2 1 (dk_at dksX1_measure_5 12 rfl rfl)
theorem dX1_measure_132 : decode cX1_measure 132 = .ok (.goto (-99), 3) := dk_167 255 157 (dk_at dksX1_measure_5 15 rfl rfl)
theorem dX1_measure_135 : decode cX1_measure 135 = .ok (.return_, 1) := dk_177 (dk_at dksX1_measure_5 18 rfl rfl)
abbrev cX1_level : ByteArray := prog_9_method_34_code
def yX1_level : MethodName := ⟨RX1, "level", "(I)I"⟩
def dkwX1_level_6 : List UInt8 := [46, 79, 132, 5, 1, 167, 255, 175, 132, 4, 1, 167, 255, 159, 132, 3, 1, 167, 255, 144, 44, 27, 46, 172]
abbrev dktX1_level_6 : List UInt8 := dkwX1_level_6 ++ []
def dkwX1_level_5 : List UInt8 := [21, 5, 46, 4, 96, 44, 21, 4, 46, 164, 0, 12, 44, 21, 5, 46, 4, 96, 167, 0, 7, 44, 21, 4]
abbrev dktX1_level_5 : List UInt8 := dkwX1_level_5 ++ dktX1_level_6
def dkwX1_level_4 : List UInt8 := [21, 4, 182, 0, 111, 153, 0, 7, 4, 167, 0, 4, 3, 54, 6, 44, 21, 4, 21, 6, 153, 0, 25, 44]
abbrev dktX1_level_4 : List UInt8 := dkwX1_level_4 ++ dktX1_level_5
def dkwX1_level_3 : List UInt8 := [162, 0, 80, 42, 21, 4, 182, 0, 75, 153, 0, 27, 42, 21, 5, 182, 0, 75, 153, 0, 18, 42, 21, 5]
abbrev dktX1_level_3 : List UInt8 := dkwX1_level_3 ++ dktX1_level_4
def dkwX1_level_2 : List UInt8 := [29, 16, 12, 162, 0, 112, 3, 54, 4, 21, 4, 16, 12, 162, 0, 96, 3, 54, 5, 21, 5, 16, 12]
abbrev dktX1_level_2 : List UInt8 := dkwX1_level_2 ++ dktX1_level_3
def dkwX1_level_1 : List UInt8 := [180, 0, 25, 77, 3, 62, 29, 16, 12, 162, 0, 13, 44, 29, 3, 79, 132, 3, 1, 167, 255, 243, 3, 62]
abbrev dktX1_level_1 : List UInt8 := dkwX1_level_1 ++ dktX1_level_2
def dkwX1_level_0 : List UInt8 := [42, 27, 182, 0, 75, 154, 0, 6, 16, 155, 172, 42, 182, 0, 124, 158, 0, 6, 16, 151, 172, 42]
abbrev dktX1_level_0 : List UInt8 := dkwX1_level_0 ++ dktX1_level_1
theorem dksX1_level_0 : cX1_level.data.toList.drop 0 = dktX1_level_0 := by decide +kernel
theorem dksX1_level_1 : cX1_level.data.toList.drop 22 = dktX1_level_1 := dk_seg dksX1_level_0 22 rfl rfl
theorem dksX1_level_2 : cX1_level.data.toList.drop 46 = dktX1_level_2 := dk_seg dksX1_level_1 24 rfl rfl
theorem dksX1_level_3 : cX1_level.data.toList.drop 69 = dktX1_level_3 := dk_seg dksX1_level_2 23 rfl rfl
theorem dksX1_level_4 : cX1_level.data.toList.drop 93 = dktX1_level_4 := dk_seg dksX1_level_3 24 rfl rfl
theorem dksX1_level_5 : cX1_level.data.toList.drop 117 = dktX1_level_5 := dk_seg dksX1_level_4 24 rfl rfl
theorem dksX1_level_6 : cX1_level.data.toList.drop 141 = dktX1_level_6 := dk_seg dksX1_level_5 24 rfl rfl
theorem dX1_level_0 : decode cX1_level 0 = .ok (.aload_n 0, 1) := dk_42 (dk_at dksX1_level_0 0 rfl rfl)
theorem dX1_level_1 : decode cX1_level 1 = .ok (.iload_n 1, 1) := dk_27 (dk_at dksX1_level_0 1 rfl rfl)
theorem dX1_level_2 : decode cX1_level 2 = .ok (.invokevirtual 75, 3) := dk_182 0 75 (dk_at dksX1_level_0 2 rfl rfl)
theorem dX1_level_5 : decode cX1_level 5 = .ok (.ifCond .ne 6, 3) := dk_154 0 6 (dk_at dksX1_level_0 5 rfl rfl)
theorem dX1_level_8 : decode cX1_level 8 = .ok (.bipush (-101), 2) := dk_16 155 (dk_at dksX1_level_0 8 rfl rfl)
theorem dX1_level_10 : decode cX1_level 10 = .ok (.ireturn, 1) := dk_172 (dk_at dksX1_level_0 10 rfl rfl)
theorem dX1_level_11 : decode cX1_level 11 = .ok (.aload_n 0, 1) := dk_42 (dk_at dksX1_level_0 11 rfl rfl)
theorem dX1_level_12 : decode cX1_level 12 = .ok (.invokevirtual 124, 3) := dk_182 0 124 (dk_at dksX1_level_0 12 rfl rfl)
theorem dX1_level_15 : decode cX1_level 15 = .ok (.ifCond .le 6, 3) := dk_158 0 6 (dk_at dksX1_level_0 15 rfl rfl)
theorem dX1_level_18 : decode cX1_level 18 = .ok (.bipush (-105), 2) := dk_16 151 (dk_at dksX1_level_0 18 rfl rfl)
theorem dX1_level_20 : decode cX1_level 20 = .ok (.ireturn, 1) := dk_172 (dk_at dksX1_level_0 20 rfl rfl)
theorem dX1_level_21 : decode cX1_level 21 = .ok (.aload_n 0, 1) := dk_42 (dk_at dksX1_level_0 21 rfl rfl)
theorem dX1_level_22 : decode cX1_level 22 = .ok (.getfield 25, 3) := dk_180 0 25 (dk_at dksX1_level_1 0 rfl rfl)
theorem dX1_level_25 : decode cX1_level 25 = .ok (.astore_n 2, 1) := dk_77 (dk_at dksX1_level_1 3 rfl rfl)
theorem dX1_level_26 : decode cX1_level 26 = .ok (.iconst 0, 1) := dk_3 (dk_at dksX1_level_1 4 rfl rfl)
theorem dX1_level_27 : decode cX1_level 27 = .ok (.istore_n 3, 1) := dk_62 (dk_at dksX1_level_1 5 rfl rfl)
theorem dX1_level_28 : decode cX1_level 28 = .ok (.iload_n 3, 1) := dk_29 (dk_at dksX1_level_1 6 rfl rfl)
theorem dX1_level_29 : decode cX1_level 29 = .ok (.bipush 12, 2) := dk_16 12 (dk_at dksX1_level_1 7 rfl rfl)
theorem dX1_level_31 : decode cX1_level 31 = .ok (.if_icmp .ge 13, 3) := dk_162 0 13 (dk_at dksX1_level_1 9 rfl rfl)
theorem dX1_level_34 : decode cX1_level 34 = .ok (.aload_n 2, 1) := dk_44 (dk_at dksX1_level_1 12 rfl rfl)
theorem dX1_level_35 : decode cX1_level 35 = .ok (.iload_n 3, 1) := dk_29 (dk_at dksX1_level_1 13 rfl rfl)
theorem dX1_level_36 : decode cX1_level 36 = .ok (.iconst 0, 1) := dk_3 (dk_at dksX1_level_1 14 rfl rfl)
theorem dX1_level_37 : decode cX1_level 37 = .ok (.iastore, 1) := dk_79 (dk_at dksX1_level_1 15 rfl rfl)
theorem dX1_level_38 : decode cX1_level 38 = .ok (.iinc 3 1, 3) := dk_132 3 1 (dk_at dksX1_level_1 16 rfl rfl)
theorem dX1_level_41 : decode cX1_level 41 = .ok (.goto (-13), 3) := dk_167 255 243 (dk_at dksX1_level_1 19 rfl rfl)
theorem dX1_level_44 : decode cX1_level 44 = .ok (.iconst 0, 1) := dk_3 (dk_at dksX1_level_1 22 rfl rfl)
theorem dX1_level_45 : decode cX1_level 45 = .ok (.istore_n 3, 1) := dk_62 (dk_at dksX1_level_1 23 rfl rfl)
theorem dX1_level_46 : decode cX1_level 46 = .ok (.iload_n 3, 1) := dk_29 (dk_at dksX1_level_2 0 rfl rfl)
theorem dX1_level_47 : decode cX1_level 47 = .ok (.bipush 12, 2) := dk_16 12 (dk_at dksX1_level_2 1 rfl rfl)
theorem dX1_level_49 : decode cX1_level 49 = .ok (.if_icmp .ge 112, 3) := dk_162 0 112 (dk_at dksX1_level_2 3 rfl rfl)
theorem dX1_level_52 : decode cX1_level 52 = .ok (.iconst 0, 1) := dk_3 (dk_at dksX1_level_2 6 rfl rfl)
theorem dX1_level_53 : decode cX1_level 53 = .ok (.istore 4, 2) := dk_54 4 (dk_at dksX1_level_2 7 rfl rfl)
theorem dX1_level_55 : decode cX1_level 55 = .ok (.iload 4, 2) := dk_21 4 (dk_at dksX1_level_2 9 rfl rfl)
theorem dX1_level_57 : decode cX1_level 57 = .ok (.bipush 12, 2) := dk_16 12 (dk_at dksX1_level_2 11 rfl rfl)
theorem dX1_level_59 : decode cX1_level 59 = .ok (.if_icmp .ge 96, 3) := dk_162 0 96 (dk_at dksX1_level_2 13 rfl rfl)
theorem dX1_level_62 : decode cX1_level 62 = .ok (.iconst 0, 1) := dk_3 (dk_at dksX1_level_2 16 rfl rfl)
theorem dX1_level_63 : decode cX1_level 63 = .ok (.istore 5, 2) := dk_54 5 (dk_at dksX1_level_2 17 rfl rfl)
theorem dX1_level_65 : decode cX1_level 65 = .ok (.iload 5, 2) := dk_21 5 (dk_at dksX1_level_2 19 rfl rfl)
theorem dX1_level_67 : decode cX1_level 67 = .ok (.bipush 12, 2) := dk_16 12 (dk_at dksX1_level_2 21 rfl rfl)
theorem dX1_level_69 : decode cX1_level 69 = .ok (.if_icmp .ge 80, 3) := dk_162 0 80 (dk_at dksX1_level_3 0 rfl rfl)
theorem dX1_level_72 : decode cX1_level 72 = .ok (.aload_n 0, 1) := dk_42 (dk_at dksX1_level_3 3 rfl rfl)
theorem dX1_level_73 : decode cX1_level 73 = .ok (.iload 4, 2) := dk_21 4 (dk_at dksX1_level_3 4 rfl rfl)
theorem dX1_level_75 : decode cX1_level 75 = .ok (.invokevirtual 75, 3) := dk_182 0 75 (dk_at dksX1_level_3 6 rfl rfl)
theorem dX1_level_78 : decode cX1_level 78 = .ok (.ifCond .eq 27, 3) := dk_153 0 27 (dk_at dksX1_level_3 9 rfl rfl)
theorem dX1_level_81 : decode cX1_level 81 = .ok (.aload_n 0, 1) := dk_42 (dk_at dksX1_level_3 12 rfl rfl)
theorem dX1_level_82 : decode cX1_level 82 = .ok (.iload 5, 2) := dk_21 5 (dk_at dksX1_level_3 13 rfl rfl)
theorem dX1_level_84 : decode cX1_level 84 = .ok (.invokevirtual 75, 3) := dk_182 0 75 (dk_at dksX1_level_3 15 rfl rfl)
theorem dX1_level_87 : decode cX1_level 87 = .ok (.ifCond .eq 18, 3) := dk_153 0 18 (dk_at dksX1_level_3 18 rfl rfl)
theorem dX1_level_90 : decode cX1_level 90 = .ok (.aload_n 0, 1) := dk_42 (dk_at dksX1_level_3 21 rfl rfl)
theorem dX1_level_91 : decode cX1_level 91 = .ok (.iload 5, 2) := dk_21 5 (dk_at dksX1_level_3 22 rfl rfl)
theorem dX1_level_93 : decode cX1_level 93 = .ok (.iload 4, 2) := dk_21 4 (dk_at dksX1_level_4 0 rfl rfl)
theorem dX1_level_95 : decode cX1_level 95 = .ok (.invokevirtual 111, 3) := dk_182 0 111 (dk_at dksX1_level_4 2 rfl rfl)
theorem dX1_level_98 : decode cX1_level 98 = .ok (.ifCond .eq 7, 3) := dk_153 0 7 (dk_at dksX1_level_4 5 rfl rfl)
theorem dX1_level_101 : decode cX1_level 101 = .ok (.iconst 1, 1) := dk_4 (dk_at dksX1_level_4 8 rfl rfl)
theorem dX1_level_102 : decode cX1_level 102 = .ok (.goto 4, 3) := dk_167 0 4 (dk_at dksX1_level_4 9 rfl rfl)
theorem dX1_level_105 : decode cX1_level 105 = .ok (.iconst 0, 1) := dk_3 (dk_at dksX1_level_4 12 rfl rfl)
theorem dX1_level_106 : decode cX1_level 106 = .ok (.istore 6, 2) := dk_54 6 (dk_at dksX1_level_4 13 rfl rfl)
theorem dX1_level_108 : decode cX1_level 108 = .ok (.aload_n 2, 1) := dk_44 (dk_at dksX1_level_4 15 rfl rfl)
theorem dX1_level_109 : decode cX1_level 109 = .ok (.iload 4, 2) := dk_21 4 (dk_at dksX1_level_4 16 rfl rfl)
theorem dX1_level_111 : decode cX1_level 111 = .ok (.iload 6, 2) := dk_21 6 (dk_at dksX1_level_4 18 rfl rfl)
theorem dX1_level_113 : decode cX1_level 113 = .ok (.ifCond .eq 25, 3) := dk_153 0 25 (dk_at dksX1_level_4 20 rfl rfl)
theorem dX1_level_116 : decode cX1_level 116 = .ok (.aload_n 2, 1) := dk_44 (dk_at dksX1_level_4 23 rfl rfl)
theorem dX1_level_117 : decode cX1_level 117 = .ok (.iload 5, 2) := dk_21 5 (dk_at dksX1_level_5 0 rfl rfl)
theorem dX1_level_119 : decode cX1_level 119 = .ok (.iaload, 1) := dk_46 (dk_at dksX1_level_5 2 rfl rfl)
theorem dX1_level_120 : decode cX1_level 120 = .ok (.iconst 1, 1) := dk_4 (dk_at dksX1_level_5 3 rfl rfl)
theorem dX1_level_121 : decode cX1_level 121 = .ok (.iadd, 1) := dk_96 (dk_at dksX1_level_5 4 rfl rfl)
theorem dX1_level_122 : decode cX1_level 122 = .ok (.aload_n 2, 1) := dk_44 (dk_at dksX1_level_5 5 rfl rfl)
theorem dX1_level_123 : decode cX1_level 123 = .ok (.iload 4, 2) := dk_21 4 (dk_at dksX1_level_5 6 rfl rfl)
theorem dX1_level_125 : decode cX1_level 125 = .ok (.iaload, 1) := dk_46 (dk_at dksX1_level_5 8 rfl rfl)
theorem dX1_level_126 : decode cX1_level 126 = .ok (.if_icmp .le 12, 3) := dk_164 0 12 (dk_at dksX1_level_5 9 rfl rfl)
theorem dX1_level_129 : decode cX1_level 129 = .ok (.aload_n 2, 1) := dk_44 (dk_at dksX1_level_5 12 rfl rfl)
theorem dX1_level_130 : decode cX1_level 130 = .ok (.iload 5, 2) := dk_21 5 (dk_at dksX1_level_5 13 rfl rfl)
theorem dX1_level_132 : decode cX1_level 132 = .ok (.iaload, 1) := dk_46 (dk_at dksX1_level_5 15 rfl rfl)
theorem dX1_level_133 : decode cX1_level 133 = .ok (.iconst 1, 1) := dk_4 (dk_at dksX1_level_5 16 rfl rfl)
theorem dX1_level_134 : decode cX1_level 134 = .ok (.iadd, 1) := dk_96 (dk_at dksX1_level_5 17 rfl rfl)
theorem dX1_level_135 : decode cX1_level 135 = .ok (.goto 7, 3) := dk_167 0 7 (dk_at dksX1_level_5 18 rfl rfl)
theorem dX1_level_138 : decode cX1_level 138 = .ok (.aload_n 2, 1) := dk_44 (dk_at dksX1_level_5 21 rfl rfl)
theorem dX1_level_139 : decode cX1_level 139 = .ok (.iload 4, 2) := dk_21 4 (dk_at dksX1_level_5 22 rfl rfl)
theorem dX1_level_141 : decode cX1_level 141 = .ok (.iaload, 1) := dk_46 (dk_at dksX1_level_6 0 rfl rfl)
theorem dX1_level_142 : decode cX1_level 142 = .ok (.iastore, 1) := dk_79 (dk_at dksX1_level_6 1 rfl rfl)
theorem dX1_level_143 : decode cX1_level 143 = .ok (.iinc 5 1, 3) := dk_132 5 1 (dk_at dksX1_level_6 2 rfl rfl)
theorem dX1_level_146 : decode cX1_level 146 = .ok (.goto (-81), 3) := dk_167 255 175 (dk_at dksX1_level_6 5 rfl rfl)
theorem dX1_level_149 : decode cX1_level 149 = .ok (.iinc 4 1, 3) := dk_132 4 1 (dk_at dksX1_level_6 8 rfl rfl)
theorem dX1_level_152 : decode cX1_level 152 = .ok (.goto (-97), 3) := dk_167 255 159 (dk_at dksX1_level_6 11 rfl rfl)
theorem dX1_level_155 : decode cX1_level 155 = .ok (.iinc 3 1, 3) := dk_132 3 1 (dk_at dksX1_level_6 14 rfl rfl)
theorem dX1_level_158 : decode cX1_level 158 = .ok (.goto (-112), 3) := dk_167 255 144 (dk_at dksX1_level_6 17 rfl rfl)
theorem dX1_level_161 : decode cX1_level 161 = .ok (.aload_n 2, 1) := dk_44 (dk_at dksX1_level_6 20 rfl rfl)
theorem dX1_level_162 : decode cX1_level 162 = .ok (.iload_n 1, 1) := dk_27 (dk_at dksX1_level_6 21 rfl rfl)
theorem dX1_level_163 : decode cX1_level 163 = .ok (.iaload, 1) := dk_46 (dk_at dksX1_level_6 22 rfl rfl)
theorem dX1_level_164 : decode cX1_level 164 = .ok (.ireturn, 1) := dk_172 (dk_at dksX1_level_6 23 rfl rfl)
abbrev cX1_pieces : ByteArray := prog_9_method_44_code
def yX1_pieces : MethodName := ⟨RX1, "pieces", "()I"⟩
def dkwX1_pieces_0 : List UInt8 := [42, 182, 0, 161, 153, 0, 10, 42, 180, 0, 127, 167, 0, 5, 16, 152, 172]
abbrev dktX1_pieces_0 : List UInt8 := dkwX1_pieces_0 ++ []
theorem dksX1_pieces_0 : cX1_pieces.data.toList.drop 0 = dktX1_pieces_0 := by decide +kernel
theorem dX1_pieces_0 : decode cX1_pieces 0 = .ok (.aload_n 0, 1) := dk_42 (dk_at dksX1_pieces_0 0 rfl rfl)
theorem dX1_pieces_1 : decode cX1_pieces 1 = .ok (.invokevirtual 161, 3) := dk_182 0 161 (dk_at dksX1_pieces_0 1 rfl rfl)
theorem dX1_pieces_4 : decode cX1_pieces 4 = .ok (.ifCond .eq 10, 3) := dk_153 0 10 (dk_at dksX1_pieces_0 4 rfl rfl)
theorem dX1_pieces_7 : decode cX1_pieces 7 = .ok (.aload_n 0, 1) := dk_42 (dk_at dksX1_pieces_0 7 rfl rfl)
theorem dX1_pieces_8 : decode cX1_pieces 8 = .ok (.getfield 127, 3) := dk_180 0 127 (dk_at dksX1_pieces_0 8 rfl rfl)
theorem dX1_pieces_11 : decode cX1_pieces 11 = .ok (.goto 5, 3) := dk_167 0 5 (dk_at dksX1_pieces_0 11 rfl rfl)
theorem dX1_pieces_14 : decode cX1_pieces 14 = .ok (.bipush (-104), 2) := dk_16 152 (dk_at dksX1_pieces_0 14 rfl rfl)
theorem dX1_pieces_16 : decode cX1_pieces 16 = .ok (.ireturn, 1) := dk_172 (dk_at dksX1_pieces_0 16 rfl rfl)
abbrev cX1_draws : ByteArray := prog_9_method_43_code
def yX1_draws : MethodName := ⟨RX1, "draws", "()Z"⟩
def dkwX1_draws_7 : List UInt8 := [182, 0, 157, 154, 0, 5, 3, 172, 167, 255, 186, 4, 172]
abbrev dktX1_draws_7 : List UInt8 := dkwX1_draws_7 ++ []
def dkwX1_draws_6 : List UInt8 := [42, 89, 180, 0, 151, 4, 96, 181, 0, 151, 167, 0, 21, 42, 180, 0, 127, 16, 40, 159, 0, 10, 42]
abbrev dktX1_draws_6 : List UInt8 := dkwX1_draws_6 ++ dktX1_draws_7
def dkwX1_draws_5 : List UInt8 := [60, 27, 16, 150, 159, 0, 33, 42, 180, 0, 37, 27, 4, 84, 42, 180, 0, 34, 42, 180, 0, 151, 27, 79]
abbrev dktX1_draws_5 : List UInt8 := dkwX1_draws_5 ++ dktX1_draws_6
def dkwX1_draws_4 : List UInt8 := [181, 0, 127, 132, 1, 1, 167, 255, 169, 42, 180, 0, 151, 42, 180, 0, 127, 162, 0, 65, 42, 182, 0, 154]
abbrev dktX1_draws_4 : List UInt8 := dkwX1_draws_4 ++ dktX1_draws_5
def dkwX1_draws_3 : List UInt8 := [16, 6, 96, 27, 79, 42, 180, 0, 37, 42, 180, 0, 127, 3, 84, 42, 89, 180, 0, 127, 4, 96]
abbrev dktX1_draws_3 : List UInt8 := dkwX1_draws_3 ++ dktX1_draws_4
def dkwX1_draws_2 : List UInt8 := [42, 27, 28, 182, 0, 104, 79, 132, 2, 1, 167, 255, 227, 42, 180, 0, 31, 16, 7, 42, 180, 0, 127, 104]
abbrev dktX1_draws_2 : List UInt8 := dkwX1_draws_2 ++ dktX1_draws_3
def dkwX1_draws_1 : List UInt8 := [153, 0, 73, 3, 61, 28, 16, 6, 162, 0, 29, 42, 180, 0, 31, 16, 7, 42, 180, 0, 127, 104, 28, 96]
abbrev dktX1_draws_1 : List UInt8 := dkwX1_draws_1 ++ dktX1_draws_2
def dkwX1_draws_0 : List UInt8 := [42, 3, 181, 0, 127, 42, 3, 181, 0, 151, 3, 60, 27, 16, 12, 162, 0, 87, 42, 27, 182, 0, 75]
abbrev dktX1_draws_0 : List UInt8 := dkwX1_draws_0 ++ dktX1_draws_1
theorem dksX1_draws_0 : cX1_draws.data.toList.drop 0 = dktX1_draws_0 := by decide +kernel
theorem dksX1_draws_1 : cX1_draws.data.toList.drop 23 = dktX1_draws_1 := dk_seg dksX1_draws_0 23 rfl rfl
theorem dksX1_draws_2 : cX1_draws.data.toList.drop 47 = dktX1_draws_2 := dk_seg dksX1_draws_1 24 rfl rfl
theorem dksX1_draws_3 : cX1_draws.data.toList.drop 71 = dktX1_draws_3 := dk_seg dksX1_draws_2 24 rfl rfl
theorem dksX1_draws_4 : cX1_draws.data.toList.drop 93 = dktX1_draws_4 := dk_seg dksX1_draws_3 22 rfl rfl
theorem dksX1_draws_5 : cX1_draws.data.toList.drop 117 = dktX1_draws_5 := dk_seg dksX1_draws_4 24 rfl rfl
theorem dksX1_draws_6 : cX1_draws.data.toList.drop 141 = dktX1_draws_6 := dk_seg dksX1_draws_5 24 rfl rfl
theorem dksX1_draws_7 : cX1_draws.data.toList.drop 164 = dktX1_draws_7 := dk_seg dksX1_draws_6 23 rfl rfl
theorem dX1_draws_0 : decode cX1_draws 0 = .ok (.aload_n 0, 1) := dk_42 (dk_at dksX1_draws_0 0 rfl rfl)
theorem dX1_draws_1 : decode cX1_draws 1 = .ok (.iconst 0, 1) := dk_3 (dk_at dksX1_draws_0 1 rfl rfl)
theorem dX1_draws_2 : decode cX1_draws 2 = .ok (.putfield 127, 3) := dk_181 0 127 (dk_at dksX1_draws_0 2 rfl rfl)
theorem dX1_draws_5 : decode cX1_draws 5 = .ok (.aload_n 0, 1) := dk_42 (dk_at dksX1_draws_0 5 rfl rfl)
theorem dX1_draws_6 : decode cX1_draws 6 = .ok (.iconst 0, 1) := dk_3 (dk_at dksX1_draws_0 6 rfl rfl)
theorem dX1_draws_7 : decode cX1_draws 7 = .ok (.putfield 151, 3) := dk_181 0 151 (dk_at dksX1_draws_0 7 rfl rfl)
theorem dX1_draws_10 : decode cX1_draws 10 = .ok (.iconst 0, 1) := dk_3 (dk_at dksX1_draws_0 10 rfl rfl)
theorem dX1_draws_11 : decode cX1_draws 11 = .ok (.istore_n 1, 1) := dk_60 (dk_at dksX1_draws_0 11 rfl rfl)
theorem dX1_draws_12 : decode cX1_draws 12 = .ok (.iload_n 1, 1) := dk_27 (dk_at dksX1_draws_0 12 rfl rfl)
theorem dX1_draws_13 : decode cX1_draws 13 = .ok (.bipush 12, 2) := dk_16 12 (dk_at dksX1_draws_0 13 rfl rfl)
theorem dX1_draws_15 : decode cX1_draws 15 = .ok (.if_icmp .ge 87, 3) := dk_162 0 87 (dk_at dksX1_draws_0 15 rfl rfl)
theorem dX1_draws_18 : decode cX1_draws 18 = .ok (.aload_n 0, 1) := dk_42 (dk_at dksX1_draws_0 18 rfl rfl)
theorem dX1_draws_19 : decode cX1_draws 19 = .ok (.iload_n 1, 1) := dk_27 (dk_at dksX1_draws_0 19 rfl rfl)
theorem dX1_draws_20 : decode cX1_draws 20 = .ok (.invokevirtual 75, 3) := dk_182 0 75 (dk_at dksX1_draws_0 20 rfl rfl)
theorem dX1_draws_23 : decode cX1_draws 23 = .ok (.ifCond .eq 73, 3) := dk_153 0 73 (dk_at dksX1_draws_1 0 rfl rfl)
theorem dX1_draws_26 : decode cX1_draws 26 = .ok (.iconst 0, 1) := dk_3 (dk_at dksX1_draws_1 3 rfl rfl)
theorem dX1_draws_27 : decode cX1_draws 27 = .ok (.istore_n 2, 1) := dk_61 (dk_at dksX1_draws_1 4 rfl rfl)
theorem dX1_draws_28 : decode cX1_draws 28 = .ok (.iload_n 2, 1) := dk_28 (dk_at dksX1_draws_1 5 rfl rfl)
theorem dX1_draws_29 : decode cX1_draws 29 = .ok (.bipush 6, 2) := dk_16 6 (dk_at dksX1_draws_1 6 rfl rfl)
theorem dX1_draws_31 : decode cX1_draws 31 = .ok (.if_icmp .ge 29, 3) := dk_162 0 29 (dk_at dksX1_draws_1 8 rfl rfl)
theorem dX1_draws_34 : decode cX1_draws 34 = .ok (.aload_n 0, 1) := dk_42 (dk_at dksX1_draws_1 11 rfl rfl)
theorem dX1_draws_35 : decode cX1_draws 35 = .ok (.getfield 31, 3) := dk_180 0 31 (dk_at dksX1_draws_1 12 rfl rfl)
theorem dX1_draws_38 : decode cX1_draws 38 = .ok (.bipush 7, 2) := dk_16 7 (dk_at dksX1_draws_1 15 rfl rfl)
theorem dX1_draws_40 : decode cX1_draws 40 = .ok (.aload_n 0, 1) := dk_42 (dk_at dksX1_draws_1 17 rfl rfl)
theorem dX1_draws_41 : decode cX1_draws 41 = .ok (.getfield 127, 3) := dk_180 0 127 (dk_at dksX1_draws_1 18 rfl rfl)
theorem dX1_draws_44 : decode cX1_draws 44 = .ok (.imul, 1) := dk_104 (dk_at dksX1_draws_1 21 rfl rfl)
theorem dX1_draws_45 : decode cX1_draws 45 = .ok (.iload_n 2, 1) := dk_28 (dk_at dksX1_draws_1 22 rfl rfl)
theorem dX1_draws_46 : decode cX1_draws 46 = .ok (.iadd, 1) := dk_96 (dk_at dksX1_draws_1 23 rfl rfl)
theorem dX1_draws_47 : decode cX1_draws 47 = .ok (.aload_n 0, 1) := dk_42 (dk_at dksX1_draws_2 0 rfl rfl)
theorem dX1_draws_48 : decode cX1_draws 48 = .ok (.iload_n 1, 1) := dk_27 (dk_at dksX1_draws_2 1 rfl rfl)
theorem dX1_draws_49 : decode cX1_draws 49 = .ok (.iload_n 2, 1) := dk_28 (dk_at dksX1_draws_2 2 rfl rfl)
theorem dX1_draws_50 : decode cX1_draws 50 = .ok (.invokevirtual 104, 3) := dk_182 0 104 (dk_at dksX1_draws_2 3 rfl rfl)
theorem dX1_draws_53 : decode cX1_draws 53 = .ok (.iastore, 1) := dk_79 (dk_at dksX1_draws_2 6 rfl rfl)
theorem dX1_draws_54 : decode cX1_draws 54 = .ok (.iinc 2 1, 3) := dk_132 2 1 (dk_at dksX1_draws_2 7 rfl rfl)
theorem dX1_draws_57 : decode cX1_draws 57 = .ok (.goto (-29), 3) := dk_167 255 227 (dk_at dksX1_draws_2 10 rfl rfl)
theorem dX1_draws_60 : decode cX1_draws 60 = .ok (.aload_n 0, 1) := dk_42 (dk_at dksX1_draws_2 13 rfl rfl)
theorem dX1_draws_61 : decode cX1_draws 61 = .ok (.getfield 31, 3) := dk_180 0 31 (dk_at dksX1_draws_2 14 rfl rfl)
theorem dX1_draws_64 : decode cX1_draws 64 = .ok (.bipush 7, 2) := dk_16 7 (dk_at dksX1_draws_2 17 rfl rfl)
theorem dX1_draws_66 : decode cX1_draws 66 = .ok (.aload_n 0, 1) := dk_42 (dk_at dksX1_draws_2 19 rfl rfl)
theorem dX1_draws_67 : decode cX1_draws 67 = .ok (.getfield 127, 3) := dk_180 0 127 (dk_at dksX1_draws_2 20 rfl rfl)
theorem dX1_draws_70 : decode cX1_draws 70 = .ok (.imul, 1) := dk_104 (dk_at dksX1_draws_2 23 rfl rfl)
theorem dX1_draws_71 : decode cX1_draws 71 = .ok (.bipush 6, 2) := dk_16 6 (dk_at dksX1_draws_3 0 rfl rfl)
theorem dX1_draws_73 : decode cX1_draws 73 = .ok (.iadd, 1) := dk_96 (dk_at dksX1_draws_3 2 rfl rfl)
theorem dX1_draws_74 : decode cX1_draws 74 = .ok (.iload_n 1, 1) := dk_27 (dk_at dksX1_draws_3 3 rfl rfl)
theorem dX1_draws_75 : decode cX1_draws 75 = .ok (.iastore, 1) := dk_79 (dk_at dksX1_draws_3 4 rfl rfl)
theorem dX1_draws_76 : decode cX1_draws 76 = .ok (.aload_n 0, 1) := dk_42 (dk_at dksX1_draws_3 5 rfl rfl)
theorem dX1_draws_77 : decode cX1_draws 77 = .ok (.getfield 37, 3) := dk_180 0 37 (dk_at dksX1_draws_3 6 rfl rfl)
theorem dX1_draws_80 : decode cX1_draws 80 = .ok (.aload_n 0, 1) := dk_42 (dk_at dksX1_draws_3 9 rfl rfl)
theorem dX1_draws_81 : decode cX1_draws 81 = .ok (.getfield 127, 3) := dk_180 0 127 (dk_at dksX1_draws_3 10 rfl rfl)
theorem dX1_draws_84 : decode cX1_draws 84 = .ok (.iconst 0, 1) := dk_3 (dk_at dksX1_draws_3 13 rfl rfl)
theorem dX1_draws_85 : decode cX1_draws 85 = .ok (.bastore, 1) := dk_84 (dk_at dksX1_draws_3 14 rfl rfl)
theorem dX1_draws_86 : decode cX1_draws 86 = .ok (.aload_n 0, 1) := dk_42 (dk_at dksX1_draws_3 15 rfl rfl)
theorem dX1_draws_87 : decode cX1_draws 87 = .ok (.dup, 1) := dk_89 (dk_at dksX1_draws_3 16 rfl rfl)
theorem dX1_draws_88 : decode cX1_draws 88 = .ok (.getfield 127, 3) := dk_180 0 127 (dk_at dksX1_draws_3 17 rfl rfl)
theorem dX1_draws_91 : decode cX1_draws 91 = .ok (.iconst 1, 1) := dk_4 (dk_at dksX1_draws_3 20 rfl rfl)
theorem dX1_draws_92 : decode cX1_draws 92 = .ok (.iadd, 1) := dk_96 (dk_at dksX1_draws_3 21 rfl rfl)
theorem dX1_draws_93 : decode cX1_draws 93 = .ok (.putfield 127, 3) := dk_181 0 127 (dk_at dksX1_draws_4 0 rfl rfl)
theorem dX1_draws_96 : decode cX1_draws 96 = .ok (.iinc 1 1, 3) := dk_132 1 1 (dk_at dksX1_draws_4 3 rfl rfl)
theorem dX1_draws_99 : decode cX1_draws 99 = .ok (.goto (-87), 3) := dk_167 255 169 (dk_at dksX1_draws_4 6 rfl rfl)
theorem dX1_draws_102 : decode cX1_draws 102 = .ok (.aload_n 0, 1) := dk_42 (dk_at dksX1_draws_4 9 rfl rfl)
theorem dX1_draws_103 : decode cX1_draws 103 = .ok (.getfield 151, 3) := dk_180 0 151 (dk_at dksX1_draws_4 10 rfl rfl)
theorem dX1_draws_106 : decode cX1_draws 106 = .ok (.aload_n 0, 1) := dk_42 (dk_at dksX1_draws_4 13 rfl rfl)
theorem dX1_draws_107 : decode cX1_draws 107 = .ok (.getfield 127, 3) := dk_180 0 127 (dk_at dksX1_draws_4 14 rfl rfl)
theorem dX1_draws_110 : decode cX1_draws 110 = .ok (.if_icmp .ge 65, 3) := dk_162 0 65 (dk_at dksX1_draws_4 17 rfl rfl)
theorem dX1_draws_113 : decode cX1_draws 113 = .ok (.aload_n 0, 1) := dk_42 (dk_at dksX1_draws_4 20 rfl rfl)
theorem dX1_draws_114 : decode cX1_draws 114 = .ok (.invokevirtual 154, 3) := dk_182 0 154 (dk_at dksX1_draws_4 21 rfl rfl)
theorem dX1_draws_117 : decode cX1_draws 117 = .ok (.istore_n 1, 1) := dk_60 (dk_at dksX1_draws_5 0 rfl rfl)
theorem dX1_draws_118 : decode cX1_draws 118 = .ok (.iload_n 1, 1) := dk_27 (dk_at dksX1_draws_5 1 rfl rfl)
theorem dX1_draws_119 : decode cX1_draws 119 = .ok (.bipush (-106), 2) := dk_16 150 (dk_at dksX1_draws_5 2 rfl rfl)
theorem dX1_draws_121 : decode cX1_draws 121 = .ok (.if_icmp .eq 33, 3) := dk_159 0 33 (dk_at dksX1_draws_5 4 rfl rfl)
theorem dX1_draws_124 : decode cX1_draws 124 = .ok (.aload_n 0, 1) := dk_42 (dk_at dksX1_draws_5 7 rfl rfl)
theorem dX1_draws_125 : decode cX1_draws 125 = .ok (.getfield 37, 3) := dk_180 0 37 (dk_at dksX1_draws_5 8 rfl rfl)
theorem dX1_draws_128 : decode cX1_draws 128 = .ok (.iload_n 1, 1) := dk_27 (dk_at dksX1_draws_5 11 rfl rfl)
theorem dX1_draws_129 : decode cX1_draws 129 = .ok (.iconst 1, 1) := dk_4 (dk_at dksX1_draws_5 12 rfl rfl)
theorem dX1_draws_130 : decode cX1_draws 130 = .ok (.bastore, 1) := dk_84 (dk_at dksX1_draws_5 13 rfl rfl)
theorem dX1_draws_131 : decode cX1_draws 131 = .ok (.aload_n 0, 1) := dk_42 (dk_at dksX1_draws_5 14 rfl rfl)
theorem dX1_draws_132 : decode cX1_draws 132 = .ok (.getfield 34, 3) := dk_180 0 34 (dk_at dksX1_draws_5 15 rfl rfl)
theorem dX1_draws_135 : decode cX1_draws 135 = .ok (.aload_n 0, 1) := dk_42 (dk_at dksX1_draws_5 18 rfl rfl)
theorem dX1_draws_136 : decode cX1_draws 136 = .ok (.getfield 151, 3) := dk_180 0 151 (dk_at dksX1_draws_5 19 rfl rfl)
theorem dX1_draws_139 : decode cX1_draws 139 = .ok (.iload_n 1, 1) := dk_27 (dk_at dksX1_draws_5 22 rfl rfl)
theorem dX1_draws_140 : decode cX1_draws 140 = .ok (.iastore, 1) := dk_79 (dk_at dksX1_draws_5 23 rfl rfl)
theorem dX1_draws_141 : decode cX1_draws 141 = .ok (.aload_n 0, 1) := dk_42 (dk_at dksX1_draws_6 0 rfl rfl)
theorem dX1_draws_142 : decode cX1_draws 142 = .ok (.dup, 1) := dk_89 (dk_at dksX1_draws_6 1 rfl rfl)
theorem dX1_draws_143 : decode cX1_draws 143 = .ok (.getfield 151, 3) := dk_180 0 151 (dk_at dksX1_draws_6 2 rfl rfl)
theorem dX1_draws_146 : decode cX1_draws 146 = .ok (.iconst 1, 1) := dk_4 (dk_at dksX1_draws_6 5 rfl rfl)
theorem dX1_draws_147 : decode cX1_draws 147 = .ok (.iadd, 1) := dk_96 (dk_at dksX1_draws_6 6 rfl rfl)
theorem dX1_draws_148 : decode cX1_draws 148 = .ok (.putfield 151, 3) := dk_181 0 151 (dk_at dksX1_draws_6 7 rfl rfl)
theorem dX1_draws_151 : decode cX1_draws 151 = .ok (.goto 21, 3) := dk_167 0 21 (dk_at dksX1_draws_6 10 rfl rfl)
theorem dX1_draws_154 : decode cX1_draws 154 = .ok (.aload_n 0, 1) := dk_42 (dk_at dksX1_draws_6 13 rfl rfl)
theorem dX1_draws_155 : decode cX1_draws 155 = .ok (.getfield 127, 3) := dk_180 0 127 (dk_at dksX1_draws_6 14 rfl rfl)
theorem dX1_draws_158 : decode cX1_draws 158 = .ok (.bipush 40, 2) := dk_16 40 (dk_at dksX1_draws_6 17 rfl rfl)
theorem dX1_draws_160 : decode cX1_draws 160 = .ok (.if_icmp .eq 10, 3) := dk_159 0 10 (dk_at dksX1_draws_6 19 rfl rfl)
theorem dX1_draws_163 : decode cX1_draws 163 = .ok (.aload_n 0, 1) := dk_42 (dk_at dksX1_draws_6 22 rfl rfl)
theorem dX1_draws_164 : decode cX1_draws 164 = .ok (.invokevirtual 157, 3) := dk_182 0 157 (dk_at dksX1_draws_7 0 rfl rfl)
theorem dX1_draws_167 : decode cX1_draws 167 = .ok (.ifCond .ne 5, 3) := dk_154 0 5 (dk_at dksX1_draws_7 3 rfl rfl)
theorem dX1_draws_170 : decode cX1_draws 170 = .ok (.iconst 0, 1) := dk_3 (dk_at dksX1_draws_7 6 rfl rfl)
theorem dX1_draws_171 : decode cX1_draws 171 = .ok (.ireturn, 1) := dk_172 (dk_at dksX1_draws_7 7 rfl rfl)
theorem dX1_draws_172 : decode cX1_draws 172 = .ok (.goto (-70), 3) := dk_167 255 186 (dk_at dksX1_draws_7 8 rfl rfl)
theorem dX1_draws_175 : decode cX1_draws 175 = .ok (.iconst 1, 1) := dk_4 (dk_at dksX1_draws_7 11 rfl rfl)
theorem dX1_draws_176 : decode cX1_draws 176 = .ok (.ireturn, 1) := dk_172 (dk_at dksX1_draws_7 12 rfl rfl)
abbrev cX1_nextDrawn : ByteArray := prog_9_method_37_code
def yX1_nextDrawn : MethodName := ⟨RX1, "nextDrawn", "()I"⟩
def dkwX1_nextDrawn_1 : List UInt8 := [16, 150, 160, 0, 5, 27, 172, 132, 1, 1, 167, 255, 224, 16, 150, 172]
abbrev dktX1_nextDrawn_1 : List UInt8 := dkwX1_nextDrawn_1 ++ []
def dkwX1_nextDrawn_0 : List UInt8 := [3, 60, 27, 42, 180, 0, 127, 162, 0, 30, 42, 180, 0, 37, 27, 51, 154, 0, 15, 42, 27, 182, 0, 133]
abbrev dktX1_nextDrawn_0 : List UInt8 := dkwX1_nextDrawn_0 ++ dktX1_nextDrawn_1
theorem dksX1_nextDrawn_0 : cX1_nextDrawn.data.toList.drop 0 = dktX1_nextDrawn_0 := by decide +kernel
theorem dksX1_nextDrawn_1 : cX1_nextDrawn.data.toList.drop 24 = dktX1_nextDrawn_1 := dk_seg dksX1_nextDrawn_0 24 rfl rfl
theorem dX1_nextDrawn_0 : decode cX1_nextDrawn 0 = .ok (.iconst 0, 1) := dk_3 (dk_at dksX1_nextDrawn_0 0 rfl rfl)
theorem dX1_nextDrawn_1 : decode cX1_nextDrawn 1 = .ok (.istore_n 1, 1) := dk_60 (dk_at dksX1_nextDrawn_0 1 rfl rfl)
theorem dX1_nextDrawn_2 : decode cX1_nextDrawn 2 = .ok (.iload_n 1, 1) := dk_27 (dk_at dksX1_nextDrawn_0 2 rfl rfl)
theorem dX1_nextDrawn_3 : decode cX1_nextDrawn 3 = .ok (.aload_n 0, 1) := dk_42 (dk_at dksX1_nextDrawn_0 3 rfl rfl)
theorem dX1_nextDrawn_4 : decode cX1_nextDrawn 4 = .ok (.getfield 127, 3) := dk_180 0 127 (dk_at dksX1_nextDrawn_0 4 rfl rfl)
theorem dX1_nextDrawn_7 : decode cX1_nextDrawn 7 = .ok (.if_icmp .ge 30, 3) := dk_162 0 30 (dk_at dksX1_nextDrawn_0 7 rfl rfl)
theorem dX1_nextDrawn_10 : decode cX1_nextDrawn 10 = .ok (.aload_n 0, 1) := dk_42 (dk_at dksX1_nextDrawn_0 10 rfl rfl)
theorem dX1_nextDrawn_11 : decode cX1_nextDrawn 11 = .ok (.getfield 37, 3) := dk_180 0 37 (dk_at dksX1_nextDrawn_0 11 rfl rfl)
theorem dX1_nextDrawn_14 : decode cX1_nextDrawn 14 = .ok (.iload_n 1, 1) := dk_27 (dk_at dksX1_nextDrawn_0 14 rfl rfl)
theorem dX1_nextDrawn_15 : decode cX1_nextDrawn 15 = .ok (.baload, 1) := dk_51 (dk_at dksX1_nextDrawn_0 15 rfl rfl)
theorem dX1_nextDrawn_16 : decode cX1_nextDrawn 16 = .ok (.ifCond .ne 15, 3) := dk_154 0 15 (dk_at dksX1_nextDrawn_0 16 rfl rfl)
theorem dX1_nextDrawn_19 : decode cX1_nextDrawn 19 = .ok (.aload_n 0, 1) := dk_42 (dk_at dksX1_nextDrawn_0 19 rfl rfl)
theorem dX1_nextDrawn_20 : decode cX1_nextDrawn 20 = .ok (.iload_n 1, 1) := dk_27 (dk_at dksX1_nextDrawn_0 20 rfl rfl)
theorem dX1_nextDrawn_21 : decode cX1_nextDrawn 21 = .ok (.invokevirtual 133, 3) := dk_182 0 133 (dk_at dksX1_nextDrawn_0 21 rfl rfl)
theorem dX1_nextDrawn_24 : decode cX1_nextDrawn 24 = .ok (.bipush (-106), 2) := dk_16 150 (dk_at dksX1_nextDrawn_1 0 rfl rfl)
theorem dX1_nextDrawn_26 : decode cX1_nextDrawn 26 = .ok (.if_icmp .ne 5, 3) := dk_160 0 5 (dk_at dksX1_nextDrawn_1 2 rfl rfl)
theorem dX1_nextDrawn_29 : decode cX1_nextDrawn 29 = .ok (.iload_n 1, 1) := dk_27 (dk_at dksX1_nextDrawn_1 5 rfl rfl)
theorem dX1_nextDrawn_30 : decode cX1_nextDrawn 30 = .ok (.ireturn, 1) := dk_172 (dk_at dksX1_nextDrawn_1 6 rfl rfl)
theorem dX1_nextDrawn_31 : decode cX1_nextDrawn 31 = .ok (.iinc 1 1, 3) := dk_132 1 1 (dk_at dksX1_nextDrawn_1 7 rfl rfl)
theorem dX1_nextDrawn_34 : decode cX1_nextDrawn 34 = .ok (.goto (-32), 3) := dk_167 255 224 (dk_at dksX1_nextDrawn_1 10 rfl rfl)
theorem dX1_nextDrawn_37 : decode cX1_nextDrawn 37 = .ok (.bipush (-106), 2) := dk_16 150 (dk_at dksX1_nextDrawn_1 13 rfl rfl)
theorem dX1_nextDrawn_39 : decode cX1_nextDrawn 39 = .ok (.ireturn, 1) := dk_172 (dk_at dksX1_nextDrawn_1 15 rfl rfl)
abbrev cX1_lowestBehind : ByteArray := prog_9_method_36_code
def yX1_lowestBehind : MethodName := ⟨RX1, "lowestBehind", "(I)I"⟩
def dkwX1_lowestBehind_1 : List UInt8 := [182, 0, 130, 153, 0, 5, 28, 172, 132, 2, 1, 167, 255, 225, 16, 150, 172]
abbrev dktX1_lowestBehind_1 : List UInt8 := dkwX1_lowestBehind_1 ++ []
def dkwX1_lowestBehind_0 : List UInt8 := [3, 61, 28, 42, 180, 0, 127, 162, 0, 29, 42, 180, 0, 37, 28, 51, 154, 0, 14, 42, 28, 27]
abbrev dktX1_lowestBehind_0 : List UInt8 := dkwX1_lowestBehind_0 ++ dktX1_lowestBehind_1
theorem dksX1_lowestBehind_0 : cX1_lowestBehind.data.toList.drop 0 = dktX1_lowestBehind_0 := by decide +kernel
theorem dksX1_lowestBehind_1 : cX1_lowestBehind.data.toList.drop 22 = dktX1_lowestBehind_1 := dk_seg dksX1_lowestBehind_0 22 rfl rfl
theorem dX1_lowestBehind_0 : decode cX1_lowestBehind 0 = .ok (.iconst 0, 1) := dk_3 (dk_at dksX1_lowestBehind_0 0 rfl rfl)
theorem dX1_lowestBehind_1 : decode cX1_lowestBehind 1 = .ok (.istore_n 2, 1) := dk_61 (dk_at dksX1_lowestBehind_0 1 rfl rfl)
theorem dX1_lowestBehind_2 : decode cX1_lowestBehind 2 = .ok (.iload_n 2, 1) := dk_28 (dk_at dksX1_lowestBehind_0 2 rfl rfl)
theorem dX1_lowestBehind_3 : decode cX1_lowestBehind 3 = .ok (.aload_n 0, 1) := dk_42 (dk_at dksX1_lowestBehind_0 3 rfl rfl)
theorem dX1_lowestBehind_4 : decode cX1_lowestBehind 4 = .ok (.getfield 127, 3) := dk_180 0 127 (dk_at dksX1_lowestBehind_0 4 rfl rfl)
theorem dX1_lowestBehind_7 : decode cX1_lowestBehind 7 = .ok (.if_icmp .ge 29, 3) := dk_162 0 29 (dk_at dksX1_lowestBehind_0 7 rfl rfl)
theorem dX1_lowestBehind_10 : decode cX1_lowestBehind 10 = .ok (.aload_n 0, 1) := dk_42 (dk_at dksX1_lowestBehind_0 10 rfl rfl)
theorem dX1_lowestBehind_11 : decode cX1_lowestBehind 11 = .ok (.getfield 37, 3) := dk_180 0 37 (dk_at dksX1_lowestBehind_0 11 rfl rfl)
theorem dX1_lowestBehind_14 : decode cX1_lowestBehind 14 = .ok (.iload_n 2, 1) := dk_28 (dk_at dksX1_lowestBehind_0 14 rfl rfl)
theorem dX1_lowestBehind_15 : decode cX1_lowestBehind 15 = .ok (.baload, 1) := dk_51 (dk_at dksX1_lowestBehind_0 15 rfl rfl)
theorem dX1_lowestBehind_16 : decode cX1_lowestBehind 16 = .ok (.ifCond .ne 14, 3) := dk_154 0 14 (dk_at dksX1_lowestBehind_0 16 rfl rfl)
theorem dX1_lowestBehind_19 : decode cX1_lowestBehind 19 = .ok (.aload_n 0, 1) := dk_42 (dk_at dksX1_lowestBehind_0 19 rfl rfl)
theorem dX1_lowestBehind_20 : decode cX1_lowestBehind 20 = .ok (.iload_n 2, 1) := dk_28 (dk_at dksX1_lowestBehind_0 20 rfl rfl)
theorem dX1_lowestBehind_21 : decode cX1_lowestBehind 21 = .ok (.iload_n 1, 1) := dk_27 (dk_at dksX1_lowestBehind_0 21 rfl rfl)
theorem dX1_lowestBehind_22 : decode cX1_lowestBehind 22 = .ok (.invokevirtual 130, 3) := dk_182 0 130 (dk_at dksX1_lowestBehind_1 0 rfl rfl)
theorem dX1_lowestBehind_25 : decode cX1_lowestBehind 25 = .ok (.ifCond .eq 5, 3) := dk_153 0 5 (dk_at dksX1_lowestBehind_1 3 rfl rfl)
theorem dX1_lowestBehind_28 : decode cX1_lowestBehind 28 = .ok (.iload_n 2, 1) := dk_28 (dk_at dksX1_lowestBehind_1 6 rfl rfl)
theorem dX1_lowestBehind_29 : decode cX1_lowestBehind 29 = .ok (.ireturn, 1) := dk_172 (dk_at dksX1_lowestBehind_1 7 rfl rfl)
theorem dX1_lowestBehind_30 : decode cX1_lowestBehind 30 = .ok (.iinc 2 1, 3) := dk_132 2 1 (dk_at dksX1_lowestBehind_1 8 rfl rfl)
theorem dX1_lowestBehind_33 : decode cX1_lowestBehind 33 = .ok (.goto (-31), 3) := dk_167 255 225 (dk_at dksX1_lowestBehind_1 11 rfl rfl)
theorem dX1_lowestBehind_36 : decode cX1_lowestBehind 36 = .ok (.bipush (-106), 2) := dk_16 150 (dk_at dksX1_lowestBehind_1 14 rfl rfl)
theorem dX1_lowestBehind_38 : decode cX1_lowestBehind 38 = .ok (.ireturn, 1) := dk_172 (dk_at dksX1_lowestBehind_1 16 rfl rfl)
abbrev cX1_isPieceBehind : ByteArray := prog_9_method_35_code
def yX1_isPieceBehind : MethodName := ⟨RX1, "isPieceBehind", "(II)Z"⟩
def dkwX1_isPieceBehind_1 : List UInt8 := [153, 0, 7, 4, 167, 0, 4, 3, 172]
abbrev dktX1_isPieceBehind_1 : List UInt8 := dkwX1_isPieceBehind_1 ++ []
def dkwX1_isPieceBehind_0 : List UInt8 := [27, 28, 159, 0, 29, 42, 180, 0, 31, 16, 7, 27, 104, 42, 180, 0, 31, 16, 7, 28, 104, 184, 0, 72]
abbrev dktX1_isPieceBehind_0 : List UInt8 := dkwX1_isPieceBehind_0 ++ dktX1_isPieceBehind_1
theorem dksX1_isPieceBehind_0 : cX1_isPieceBehind.data.toList.drop 0 = dktX1_isPieceBehind_0 := by decide +kernel
theorem dksX1_isPieceBehind_1 : cX1_isPieceBehind.data.toList.drop 24 = dktX1_isPieceBehind_1 := dk_seg dksX1_isPieceBehind_0 24 rfl rfl
theorem dX1_isPieceBehind_0 : decode cX1_isPieceBehind 0 = .ok (.iload_n 1, 1) := dk_27 (dk_at dksX1_isPieceBehind_0 0 rfl rfl)
theorem dX1_isPieceBehind_1 : decode cX1_isPieceBehind 1 = .ok (.iload_n 2, 1) := dk_28 (dk_at dksX1_isPieceBehind_0 1 rfl rfl)
theorem dX1_isPieceBehind_2 : decode cX1_isPieceBehind 2 = .ok (.if_icmp .eq 29, 3) := dk_159 0 29 (dk_at dksX1_isPieceBehind_0 2 rfl rfl)
theorem dX1_isPieceBehind_5 : decode cX1_isPieceBehind 5 = .ok (.aload_n 0, 1) := dk_42 (dk_at dksX1_isPieceBehind_0 5 rfl rfl)
theorem dX1_isPieceBehind_6 : decode cX1_isPieceBehind 6 = .ok (.getfield 31, 3) := dk_180 0 31 (dk_at dksX1_isPieceBehind_0 6 rfl rfl)
theorem dX1_isPieceBehind_9 : decode cX1_isPieceBehind 9 = .ok (.bipush 7, 2) := dk_16 7 (dk_at dksX1_isPieceBehind_0 9 rfl rfl)
theorem dX1_isPieceBehind_11 : decode cX1_isPieceBehind 11 = .ok (.iload_n 1, 1) := dk_27 (dk_at dksX1_isPieceBehind_0 11 rfl rfl)
theorem dX1_isPieceBehind_12 : decode cX1_isPieceBehind 12 = .ok (.imul, 1) := dk_104 (dk_at dksX1_isPieceBehind_0 12 rfl rfl)
theorem dX1_isPieceBehind_13 : decode cX1_isPieceBehind 13 = .ok (.aload_n 0, 1) := dk_42 (dk_at dksX1_isPieceBehind_0 13 rfl rfl)
theorem dX1_isPieceBehind_14 : decode cX1_isPieceBehind 14 = .ok (.getfield 31, 3) := dk_180 0 31 (dk_at dksX1_isPieceBehind_0 14 rfl rfl)
theorem dX1_isPieceBehind_17 : decode cX1_isPieceBehind 17 = .ok (.bipush 7, 2) := dk_16 7 (dk_at dksX1_isPieceBehind_0 17 rfl rfl)
theorem dX1_isPieceBehind_19 : decode cX1_isPieceBehind 19 = .ok (.iload_n 2, 1) := dk_28 (dk_at dksX1_isPieceBehind_0 19 rfl rfl)
theorem dX1_isPieceBehind_20 : decode cX1_isPieceBehind 20 = .ok (.imul, 1) := dk_104 (dk_at dksX1_isPieceBehind_0 20 rfl rfl)
theorem dX1_isPieceBehind_21 : decode cX1_isPieceBehind 21 = .ok (.invokestatic 72, 3) := dk_184 0 72 (dk_at dksX1_isPieceBehind_0 21 rfl rfl)
theorem dX1_isPieceBehind_24 : decode cX1_isPieceBehind 24 = .ok (.ifCond .eq 7, 3) := dk_153 0 7 (dk_at dksX1_isPieceBehind_1 0 rfl rfl)
theorem dX1_isPieceBehind_27 : decode cX1_isPieceBehind 27 = .ok (.iconst 1, 1) := dk_4 (dk_at dksX1_isPieceBehind_1 3 rfl rfl)
theorem dX1_isPieceBehind_28 : decode cX1_isPieceBehind 28 = .ok (.goto 4, 3) := dk_167 0 4 (dk_at dksX1_isPieceBehind_1 4 rfl rfl)
theorem dX1_isPieceBehind_31 : decode cX1_isPieceBehind 31 = .ok (.iconst 0, 1) := dk_3 (dk_at dksX1_isPieceBehind_1 7 rfl rfl)
theorem dX1_isPieceBehind_32 : decode cX1_isPieceBehind 32 = .ok (.ireturn, 1) := dk_172 (dk_at dksX1_isPieceBehind_1 8 rfl rfl)
abbrev cX1_cutsLoop : ByteArray := prog_9_method_42_code
def yX1_cutsLoop : MethodName := ⟨RX1, "cutsLoop", "()Z"⟩
def dkwX1_cutsLoop_1 : List UInt8 := [182, 0, 148, 153, 0, 5, 4, 172, 132, 2, 1, 167, 255, 236, 132, 1, 1, 167, 255, 223, 3, 172]
abbrev dktX1_cutsLoop_1 : List UInt8 := dkwX1_cutsLoop_1 ++ []
def dkwX1_cutsLoop_0 : List UInt8 := [42, 182, 0, 145, 3, 60, 27, 6, 162, 0, 34, 4, 61, 28, 16, 32, 162, 0, 20, 42, 27, 28]
abbrev dktX1_cutsLoop_0 : List UInt8 := dkwX1_cutsLoop_0 ++ dktX1_cutsLoop_1
theorem dksX1_cutsLoop_0 : cX1_cutsLoop.data.toList.drop 0 = dktX1_cutsLoop_0 := by decide +kernel
theorem dksX1_cutsLoop_1 : cX1_cutsLoop.data.toList.drop 22 = dktX1_cutsLoop_1 := dk_seg dksX1_cutsLoop_0 22 rfl rfl
theorem dX1_cutsLoop_0 : decode cX1_cutsLoop 0 = .ok (.aload_n 0, 1) := dk_42 (dk_at dksX1_cutsLoop_0 0 rfl rfl)
theorem dX1_cutsLoop_1 : decode cX1_cutsLoop 1 = .ok (.invokevirtual 145, 3) := dk_182 0 145 (dk_at dksX1_cutsLoop_0 1 rfl rfl)
theorem dX1_cutsLoop_4 : decode cX1_cutsLoop 4 = .ok (.iconst 0, 1) := dk_3 (dk_at dksX1_cutsLoop_0 4 rfl rfl)
theorem dX1_cutsLoop_5 : decode cX1_cutsLoop 5 = .ok (.istore_n 1, 1) := dk_60 (dk_at dksX1_cutsLoop_0 5 rfl rfl)
theorem dX1_cutsLoop_6 : decode cX1_cutsLoop 6 = .ok (.iload_n 1, 1) := dk_27 (dk_at dksX1_cutsLoop_0 6 rfl rfl)
theorem dX1_cutsLoop_7 : decode cX1_cutsLoop 7 = .ok (.iconst 3, 1) := dk_6 (dk_at dksX1_cutsLoop_0 7 rfl rfl)
theorem dX1_cutsLoop_8 : decode cX1_cutsLoop 8 = .ok (.if_icmp .ge 34, 3) := dk_162 0 34 (dk_at dksX1_cutsLoop_0 8 rfl rfl)
theorem dX1_cutsLoop_11 : decode cX1_cutsLoop 11 = .ok (.iconst 1, 1) := dk_4 (dk_at dksX1_cutsLoop_0 11 rfl rfl)
theorem dX1_cutsLoop_12 : decode cX1_cutsLoop 12 = .ok (.istore_n 2, 1) := dk_61 (dk_at dksX1_cutsLoop_0 12 rfl rfl)
theorem dX1_cutsLoop_13 : decode cX1_cutsLoop 13 = .ok (.iload_n 2, 1) := dk_28 (dk_at dksX1_cutsLoop_0 13 rfl rfl)
theorem dX1_cutsLoop_14 : decode cX1_cutsLoop 14 = .ok (.bipush 32, 2) := dk_16 32 (dk_at dksX1_cutsLoop_0 14 rfl rfl)
theorem dX1_cutsLoop_16 : decode cX1_cutsLoop 16 = .ok (.if_icmp .ge 20, 3) := dk_162 0 20 (dk_at dksX1_cutsLoop_0 16 rfl rfl)
theorem dX1_cutsLoop_19 : decode cX1_cutsLoop 19 = .ok (.aload_n 0, 1) := dk_42 (dk_at dksX1_cutsLoop_0 19 rfl rfl)
theorem dX1_cutsLoop_20 : decode cX1_cutsLoop 20 = .ok (.iload_n 1, 1) := dk_27 (dk_at dksX1_cutsLoop_0 20 rfl rfl)
theorem dX1_cutsLoop_21 : decode cX1_cutsLoop 21 = .ok (.iload_n 2, 1) := dk_28 (dk_at dksX1_cutsLoop_0 21 rfl rfl)
theorem dX1_cutsLoop_22 : decode cX1_cutsLoop 22 = .ok (.invokevirtual 148, 3) := dk_182 0 148 (dk_at dksX1_cutsLoop_1 0 rfl rfl)
theorem dX1_cutsLoop_25 : decode cX1_cutsLoop 25 = .ok (.ifCond .eq 5, 3) := dk_153 0 5 (dk_at dksX1_cutsLoop_1 3 rfl rfl)
theorem dX1_cutsLoop_28 : decode cX1_cutsLoop 28 = .ok (.iconst 1, 1) := dk_4 (dk_at dksX1_cutsLoop_1 6 rfl rfl)
theorem dX1_cutsLoop_29 : decode cX1_cutsLoop 29 = .ok (.ireturn, 1) := dk_172 (dk_at dksX1_cutsLoop_1 7 rfl rfl)
theorem dX1_cutsLoop_30 : decode cX1_cutsLoop 30 = .ok (.iinc 2 1, 3) := dk_132 2 1 (dk_at dksX1_cutsLoop_1 8 rfl rfl)
theorem dX1_cutsLoop_33 : decode cX1_cutsLoop 33 = .ok (.goto (-20), 3) := dk_167 255 236 (dk_at dksX1_cutsLoop_1 11 rfl rfl)
theorem dX1_cutsLoop_36 : decode cX1_cutsLoop 36 = .ok (.iinc 1 1, 3) := dk_132 1 1 (dk_at dksX1_cutsLoop_1 14 rfl rfl)
theorem dX1_cutsLoop_39 : decode cX1_cutsLoop 39 = .ok (.goto (-33), 3) := dk_167 255 223 (dk_at dksX1_cutsLoop_1 17 rfl rfl)
theorem dX1_cutsLoop_42 : decode cX1_cutsLoop 42 = .ok (.iconst 0, 1) := dk_3 (dk_at dksX1_cutsLoop_1 20 rfl rfl)
theorem dX1_cutsLoop_43 : decode cX1_cutsLoop 43 = .ok (.ireturn, 1) := dk_172 (dk_at dksX1_cutsLoop_1 21 rfl rfl)
abbrev cX1_layLoop : ByteArray := prog_9_method_38_code
def yX1_layLoop : MethodName := ⟨RX1, "layLoop", "()V"⟩
def dkwX1_layLoop_5 : List UInt8 := [167, 255, 233, 42, 29, 21, 4, 100, 181, 0, 136, 177]
abbrev dktX1_layLoop_5 : List UInt8 := dkwX1_layLoop_5 ++ []
def dkwX1_layLoop_4 : List UInt8 := [21, 5, 29, 162, 0, 23, 42, 180, 0, 41, 21, 5, 21, 4, 100, 44, 21, 5, 46, 79, 132, 5, 1]
abbrev dktX1_layLoop_4 : List UInt8 := dkwX1_layLoop_4 ++ dktX1_layLoop_5
def dkwX1_layLoop_3 : List UInt8 := [160, 255, 213, 44, 29, 27, 79, 132, 3, 1, 42, 27, 182, 0, 133, 60, 167, 255, 197, 21, 4, 54, 5]
abbrev dktX1_layLoop_3 : List UInt8 := dkwX1_layLoop_3 ++ dktX1_layLoop_4
def dkwX1_layLoop_2 : List UInt8 := [27, 160, 0, 8, 21, 5, 167, 0, 5, 21, 4, 54, 4, 132, 5, 1, 167, 255, 230, 21, 4, 16, 150]
abbrev dktX1_layLoop_2 : List UInt8 := dkwX1_layLoop_2 ++ dktX1_layLoop_3
def dkwX1_layLoop_1 : List UInt8 := [16, 150, 54, 4, 21, 4, 16, 150, 160, 0, 58, 3, 54, 5, 21, 5, 29, 162, 0, 26, 44, 21, 5, 46]
abbrev dktX1_layLoop_1 : List UInt8 := dkwX1_layLoop_1 ++ dktX1_layLoop_2
def dkwX1_layLoop_0 : List UInt8 := [3, 60, 42, 180, 0, 37, 27, 51, 153, 0, 9, 132, 1, 1, 167, 255, 244, 42, 180, 0, 41, 77, 3, 62]
abbrev dktX1_layLoop_0 : List UInt8 := dkwX1_layLoop_0 ++ dktX1_layLoop_1
theorem dksX1_layLoop_0 : cX1_layLoop.data.toList.drop 0 = dktX1_layLoop_0 := by decide +kernel
theorem dksX1_layLoop_1 : cX1_layLoop.data.toList.drop 24 = dktX1_layLoop_1 := dk_seg dksX1_layLoop_0 24 rfl rfl
theorem dksX1_layLoop_2 : cX1_layLoop.data.toList.drop 48 = dktX1_layLoop_2 := dk_seg dksX1_layLoop_1 24 rfl rfl
theorem dksX1_layLoop_3 : cX1_layLoop.data.toList.drop 71 = dktX1_layLoop_3 := dk_seg dksX1_layLoop_2 23 rfl rfl
theorem dksX1_layLoop_4 : cX1_layLoop.data.toList.drop 94 = dktX1_layLoop_4 := dk_seg dksX1_layLoop_3 23 rfl rfl
theorem dksX1_layLoop_5 : cX1_layLoop.data.toList.drop 117 = dktX1_layLoop_5 := dk_seg dksX1_layLoop_4 23 rfl rfl
theorem dX1_layLoop_0 : decode cX1_layLoop 0 = .ok (.iconst 0, 1) := dk_3 (dk_at dksX1_layLoop_0 0 rfl rfl)
theorem dX1_layLoop_1 : decode cX1_layLoop 1 = .ok (.istore_n 1, 1) := dk_60 (dk_at dksX1_layLoop_0 1 rfl rfl)
theorem dX1_layLoop_2 : decode cX1_layLoop 2 = .ok (.aload_n 0, 1) := dk_42 (dk_at dksX1_layLoop_0 2 rfl rfl)
theorem dX1_layLoop_3 : decode cX1_layLoop 3 = .ok (.getfield 37, 3) := dk_180 0 37 (dk_at dksX1_layLoop_0 3 rfl rfl)
theorem dX1_layLoop_6 : decode cX1_layLoop 6 = .ok (.iload_n 1, 1) := dk_27 (dk_at dksX1_layLoop_0 6 rfl rfl)
theorem dX1_layLoop_7 : decode cX1_layLoop 7 = .ok (.baload, 1) := dk_51 (dk_at dksX1_layLoop_0 7 rfl rfl)
theorem dX1_layLoop_8 : decode cX1_layLoop 8 = .ok (.ifCond .eq 9, 3) := dk_153 0 9 (dk_at dksX1_layLoop_0 8 rfl rfl)
theorem dX1_layLoop_11 : decode cX1_layLoop 11 = .ok (.iinc 1 1, 3) := dk_132 1 1 (dk_at dksX1_layLoop_0 11 rfl rfl)
theorem dX1_layLoop_14 : decode cX1_layLoop 14 = .ok (.goto (-12), 3) := dk_167 255 244 (dk_at dksX1_layLoop_0 14 rfl rfl)
theorem dX1_layLoop_17 : decode cX1_layLoop 17 = .ok (.aload_n 0, 1) := dk_42 (dk_at dksX1_layLoop_0 17 rfl rfl)
theorem dX1_layLoop_18 : decode cX1_layLoop 18 = .ok (.getfield 41, 3) := dk_180 0 41 (dk_at dksX1_layLoop_0 18 rfl rfl)
theorem dX1_layLoop_21 : decode cX1_layLoop 21 = .ok (.astore_n 2, 1) := dk_77 (dk_at dksX1_layLoop_0 21 rfl rfl)
theorem dX1_layLoop_22 : decode cX1_layLoop 22 = .ok (.iconst 0, 1) := dk_3 (dk_at dksX1_layLoop_0 22 rfl rfl)
theorem dX1_layLoop_23 : decode cX1_layLoop 23 = .ok (.istore_n 3, 1) := dk_62 (dk_at dksX1_layLoop_0 23 rfl rfl)
theorem dX1_layLoop_24 : decode cX1_layLoop 24 = .ok (.bipush (-106), 2) := dk_16 150 (dk_at dksX1_layLoop_1 0 rfl rfl)
theorem dX1_layLoop_26 : decode cX1_layLoop 26 = .ok (.istore 4, 2) := dk_54 4 (dk_at dksX1_layLoop_1 2 rfl rfl)
theorem dX1_layLoop_28 : decode cX1_layLoop 28 = .ok (.iload 4, 2) := dk_21 4 (dk_at dksX1_layLoop_1 4 rfl rfl)
theorem dX1_layLoop_30 : decode cX1_layLoop 30 = .ok (.bipush (-106), 2) := dk_16 150 (dk_at dksX1_layLoop_1 6 rfl rfl)
theorem dX1_layLoop_32 : decode cX1_layLoop 32 = .ok (.if_icmp .ne 58, 3) := dk_160 0 58 (dk_at dksX1_layLoop_1 8 rfl rfl)
theorem dX1_layLoop_35 : decode cX1_layLoop 35 = .ok (.iconst 0, 1) := dk_3 (dk_at dksX1_layLoop_1 11 rfl rfl)
theorem dX1_layLoop_36 : decode cX1_layLoop 36 = .ok (.istore 5, 2) := dk_54 5 (dk_at dksX1_layLoop_1 12 rfl rfl)
theorem dX1_layLoop_38 : decode cX1_layLoop 38 = .ok (.iload 5, 2) := dk_21 5 (dk_at dksX1_layLoop_1 14 rfl rfl)
theorem dX1_layLoop_40 : decode cX1_layLoop 40 = .ok (.iload_n 3, 1) := dk_29 (dk_at dksX1_layLoop_1 16 rfl rfl)
theorem dX1_layLoop_41 : decode cX1_layLoop 41 = .ok (.if_icmp .ge 26, 3) := dk_162 0 26 (dk_at dksX1_layLoop_1 17 rfl rfl)
theorem dX1_layLoop_44 : decode cX1_layLoop 44 = .ok (.aload_n 2, 1) := dk_44 (dk_at dksX1_layLoop_1 20 rfl rfl)
theorem dX1_layLoop_45 : decode cX1_layLoop 45 = .ok (.iload 5, 2) := dk_21 5 (dk_at dksX1_layLoop_1 21 rfl rfl)
theorem dX1_layLoop_47 : decode cX1_layLoop 47 = .ok (.iaload, 1) := dk_46 (dk_at dksX1_layLoop_1 23 rfl rfl)
theorem dX1_layLoop_48 : decode cX1_layLoop 48 = .ok (.iload_n 1, 1) := dk_27 (dk_at dksX1_layLoop_2 0 rfl rfl)
theorem dX1_layLoop_49 : decode cX1_layLoop 49 = .ok (.if_icmp .ne 8, 3) := dk_160 0 8 (dk_at dksX1_layLoop_2 1 rfl rfl)
theorem dX1_layLoop_52 : decode cX1_layLoop 52 = .ok (.iload 5, 2) := dk_21 5 (dk_at dksX1_layLoop_2 4 rfl rfl)
theorem dX1_layLoop_54 : decode cX1_layLoop 54 = .ok (.goto 5, 3) := dk_167 0 5 (dk_at dksX1_layLoop_2 6 rfl rfl)
theorem dX1_layLoop_57 : decode cX1_layLoop 57 = .ok (.iload 4, 2) := dk_21 4 (dk_at dksX1_layLoop_2 9 rfl rfl)
theorem dX1_layLoop_59 : decode cX1_layLoop 59 = .ok (.istore 4, 2) := dk_54 4 (dk_at dksX1_layLoop_2 11 rfl rfl)
theorem dX1_layLoop_61 : decode cX1_layLoop 61 = .ok (.iinc 5 1, 3) := dk_132 5 1 (dk_at dksX1_layLoop_2 13 rfl rfl)
theorem dX1_layLoop_64 : decode cX1_layLoop 64 = .ok (.goto (-26), 3) := dk_167 255 230 (dk_at dksX1_layLoop_2 16 rfl rfl)
theorem dX1_layLoop_67 : decode cX1_layLoop 67 = .ok (.iload 4, 2) := dk_21 4 (dk_at dksX1_layLoop_2 19 rfl rfl)
theorem dX1_layLoop_69 : decode cX1_layLoop 69 = .ok (.bipush (-106), 2) := dk_16 150 (dk_at dksX1_layLoop_2 21 rfl rfl)
theorem dX1_layLoop_71 : decode cX1_layLoop 71 = .ok (.if_icmp .ne (-43), 3) := dk_160 255 213 (dk_at dksX1_layLoop_3 0 rfl rfl)
theorem dX1_layLoop_74 : decode cX1_layLoop 74 = .ok (.aload_n 2, 1) := dk_44 (dk_at dksX1_layLoop_3 3 rfl rfl)
theorem dX1_layLoop_75 : decode cX1_layLoop 75 = .ok (.iload_n 3, 1) := dk_29 (dk_at dksX1_layLoop_3 4 rfl rfl)
theorem dX1_layLoop_76 : decode cX1_layLoop 76 = .ok (.iload_n 1, 1) := dk_27 (dk_at dksX1_layLoop_3 5 rfl rfl)
theorem dX1_layLoop_77 : decode cX1_layLoop 77 = .ok (.iastore, 1) := dk_79 (dk_at dksX1_layLoop_3 6 rfl rfl)
theorem dX1_layLoop_78 : decode cX1_layLoop 78 = .ok (.iinc 3 1, 3) := dk_132 3 1 (dk_at dksX1_layLoop_3 7 rfl rfl)
theorem dX1_layLoop_81 : decode cX1_layLoop 81 = .ok (.aload_n 0, 1) := dk_42 (dk_at dksX1_layLoop_3 10 rfl rfl)
theorem dX1_layLoop_82 : decode cX1_layLoop 82 = .ok (.iload_n 1, 1) := dk_27 (dk_at dksX1_layLoop_3 11 rfl rfl)
theorem dX1_layLoop_83 : decode cX1_layLoop 83 = .ok (.invokevirtual 133, 3) := dk_182 0 133 (dk_at dksX1_layLoop_3 12 rfl rfl)
theorem dX1_layLoop_86 : decode cX1_layLoop 86 = .ok (.istore_n 1, 1) := dk_60 (dk_at dksX1_layLoop_3 15 rfl rfl)
theorem dX1_layLoop_87 : decode cX1_layLoop 87 = .ok (.goto (-59), 3) := dk_167 255 197 (dk_at dksX1_layLoop_3 16 rfl rfl)
theorem dX1_layLoop_90 : decode cX1_layLoop 90 = .ok (.iload 4, 2) := dk_21 4 (dk_at dksX1_layLoop_3 19 rfl rfl)
theorem dX1_layLoop_92 : decode cX1_layLoop 92 = .ok (.istore 5, 2) := dk_54 5 (dk_at dksX1_layLoop_3 21 rfl rfl)
theorem dX1_layLoop_94 : decode cX1_layLoop 94 = .ok (.iload 5, 2) := dk_21 5 (dk_at dksX1_layLoop_4 0 rfl rfl)
theorem dX1_layLoop_96 : decode cX1_layLoop 96 = .ok (.iload_n 3, 1) := dk_29 (dk_at dksX1_layLoop_4 2 rfl rfl)
theorem dX1_layLoop_97 : decode cX1_layLoop 97 = .ok (.if_icmp .ge 23, 3) := dk_162 0 23 (dk_at dksX1_layLoop_4 3 rfl rfl)
theorem dX1_layLoop_100 : decode cX1_layLoop 100 = .ok (.aload_n 0, 1) := dk_42 (dk_at dksX1_layLoop_4 6 rfl rfl)
theorem dX1_layLoop_101 : decode cX1_layLoop 101 = .ok (.getfield 41, 3) := dk_180 0 41 (dk_at dksX1_layLoop_4 7 rfl rfl)
theorem dX1_layLoop_104 : decode cX1_layLoop 104 = .ok (.iload 5, 2) := dk_21 5 (dk_at dksX1_layLoop_4 10 rfl rfl)
theorem dX1_layLoop_106 : decode cX1_layLoop 106 = .ok (.iload 4, 2) := dk_21 4 (dk_at dksX1_layLoop_4 12 rfl rfl)
theorem dX1_layLoop_108 : decode cX1_layLoop 108 = .ok (.isub, 1) := dk_100 (dk_at dksX1_layLoop_4 14 rfl rfl)
theorem dX1_layLoop_109 : decode cX1_layLoop 109 = .ok (.aload_n 2, 1) := dk_44 (dk_at dksX1_layLoop_4 15 rfl rfl)
theorem dX1_layLoop_110 : decode cX1_layLoop 110 = .ok (.iload 5, 2) := dk_21 5 (dk_at dksX1_layLoop_4 16 rfl rfl)
theorem dX1_layLoop_112 : decode cX1_layLoop 112 = .ok (.iaload, 1) := dk_46 (dk_at dksX1_layLoop_4 18 rfl rfl)
theorem dX1_layLoop_113 : decode cX1_layLoop 113 = .ok (.iastore, 1) := dk_79 (dk_at dksX1_layLoop_4 19 rfl rfl)
theorem dX1_layLoop_114 : decode cX1_layLoop 114 = .ok (.iinc 5 1, 3) := dk_132 5 1 (dk_at dksX1_layLoop_4 20 rfl rfl)
theorem dX1_layLoop_117 : decode cX1_layLoop 117 = .ok (.goto (-23), 3) := dk_167 255 233 (dk_at dksX1_layLoop_5 0 rfl rfl)
theorem dX1_layLoop_120 : decode cX1_layLoop 120 = .ok (.aload_n 0, 1) := dk_42 (dk_at dksX1_layLoop_5 3 rfl rfl)
theorem dX1_layLoop_121 : decode cX1_layLoop 121 = .ok (.iload_n 3, 1) := dk_29 (dk_at dksX1_layLoop_5 4 rfl rfl)
theorem dX1_layLoop_122 : decode cX1_layLoop 122 = .ok (.iload 4, 2) := dk_21 4 (dk_at dksX1_layLoop_5 5 rfl rfl)
theorem dX1_layLoop_124 : decode cX1_layLoop 124 = .ok (.isub, 1) := dk_100 (dk_at dksX1_layLoop_5 7 rfl rfl)
theorem dX1_layLoop_125 : decode cX1_layLoop 125 = .ok (.putfield 136, 3) := dk_181 0 136 (dk_at dksX1_layLoop_5 8 rfl rfl)
theorem dX1_layLoop_128 : decode cX1_layLoop 128 = .ok (.return_, 1) := dk_177 (dk_at dksX1_layLoop_5 11 rfl rfl)
abbrev cX1_slices : ByteArray := prog_9_method_41_code
def yX1_slices : MethodName := ⟨RX1, "slices", "(II)Z"⟩
def dkwX1_slices_6 : List UInt8 := [42, 89, 180, 0, 127, 4, 96, 181, 0, 127, 4, 172, 132, 4, 1, 167, 255, 106, 3, 172]
abbrev dktX1_slices_6 : List UInt8 := dkwX1_slices_6 ++ []
def dkwX1_slices_5 : List UInt8 := [28, 79, 42, 180, 0, 31, 16, 7, 21, 4, 104, 6, 96, 27, 96, 28, 79, 42, 180, 0, 37, 29, 3, 84]
abbrev dktX1_slices_5 : List UInt8 := dkwX1_slices_5 ++ dktX1_slices_6
def dkwX1_slices_4 : List UInt8 := [21, 4, 104, 21, 5, 96, 46, 79, 132, 5, 1, 167, 255, 221, 42, 180, 0, 31, 16, 7, 29, 104, 27, 96]
abbrev dktX1_slices_4 : List UInt8 := dkwX1_slices_4 ++ dktX1_slices_5
def dkwX1_slices_3 : List UInt8 := [21, 5, 16, 7, 162, 0, 34, 42, 180, 0, 31, 16, 7, 29, 104, 21, 5, 96, 42, 180, 0, 31, 16, 7]
abbrev dktX1_slices_3 : List UInt8 := dkwX1_slices_3 ++ dktX1_slices_4
def dkwX1_slices_2 : List UInt8 := [104, 6, 96, 27, 96, 46, 162, 0, 101, 42, 27, 28, 21, 4, 182, 0, 142, 153, 0, 90, 3, 54, 5]
abbrev dktX1_slices_2 : List UInt8 := dkwX1_slices_2 ++ dktX1_slices_3
def dkwX1_slices_1 : List UInt8 := [180, 0, 31, 16, 7, 21, 4, 104, 27, 96, 46, 28, 162, 0, 119, 28, 42, 180, 0, 31, 16, 7, 21, 4]
abbrev dktX1_slices_1 : List UInt8 := dkwX1_slices_1 ++ dktX1_slices_2
def dkwX1_slices_0 : List UInt8 := [42, 180, 0, 127, 62, 3, 54, 4, 21, 4, 29, 162, 0, 150, 42, 21, 4, 182, 0, 139, 153, 0, 135, 42]
abbrev dktX1_slices_0 : List UInt8 := dkwX1_slices_0 ++ dktX1_slices_1
theorem dksX1_slices_0 : cX1_slices.data.toList.drop 0 = dktX1_slices_0 := by decide +kernel
theorem dksX1_slices_1 : cX1_slices.data.toList.drop 24 = dktX1_slices_1 := dk_seg dksX1_slices_0 24 rfl rfl
theorem dksX1_slices_2 : cX1_slices.data.toList.drop 48 = dktX1_slices_2 := dk_seg dksX1_slices_1 24 rfl rfl
theorem dksX1_slices_3 : cX1_slices.data.toList.drop 71 = dktX1_slices_3 := dk_seg dksX1_slices_2 23 rfl rfl
theorem dksX1_slices_4 : cX1_slices.data.toList.drop 95 = dktX1_slices_4 := dk_seg dksX1_slices_3 24 rfl rfl
theorem dksX1_slices_5 : cX1_slices.data.toList.drop 119 = dktX1_slices_5 := dk_seg dksX1_slices_4 24 rfl rfl
theorem dksX1_slices_6 : cX1_slices.data.toList.drop 143 = dktX1_slices_6 := dk_seg dksX1_slices_5 24 rfl rfl
theorem dX1_slices_0 : decode cX1_slices 0 = .ok (.aload_n 0, 1) := dk_42 (dk_at dksX1_slices_0 0 rfl rfl)
theorem dX1_slices_1 : decode cX1_slices 1 = .ok (.getfield 127, 3) := dk_180 0 127 (dk_at dksX1_slices_0 1 rfl rfl)
theorem dX1_slices_4 : decode cX1_slices 4 = .ok (.istore_n 3, 1) := dk_62 (dk_at dksX1_slices_0 4 rfl rfl)
theorem dX1_slices_5 : decode cX1_slices 5 = .ok (.iconst 0, 1) := dk_3 (dk_at dksX1_slices_0 5 rfl rfl)
theorem dX1_slices_6 : decode cX1_slices 6 = .ok (.istore 4, 2) := dk_54 4 (dk_at dksX1_slices_0 6 rfl rfl)
theorem dX1_slices_8 : decode cX1_slices 8 = .ok (.iload 4, 2) := dk_21 4 (dk_at dksX1_slices_0 8 rfl rfl)
theorem dX1_slices_10 : decode cX1_slices 10 = .ok (.iload_n 3, 1) := dk_29 (dk_at dksX1_slices_0 10 rfl rfl)
theorem dX1_slices_11 : decode cX1_slices 11 = .ok (.if_icmp .ge 150, 3) := dk_162 0 150 (dk_at dksX1_slices_0 11 rfl rfl)
theorem dX1_slices_14 : decode cX1_slices 14 = .ok (.aload_n 0, 1) := dk_42 (dk_at dksX1_slices_0 14 rfl rfl)
theorem dX1_slices_15 : decode cX1_slices 15 = .ok (.iload 4, 2) := dk_21 4 (dk_at dksX1_slices_0 15 rfl rfl)
theorem dX1_slices_17 : decode cX1_slices 17 = .ok (.invokevirtual 139, 3) := dk_182 0 139 (dk_at dksX1_slices_0 17 rfl rfl)
theorem dX1_slices_20 : decode cX1_slices 20 = .ok (.ifCond .eq 135, 3) := dk_153 0 135 (dk_at dksX1_slices_0 20 rfl rfl)
theorem dX1_slices_23 : decode cX1_slices 23 = .ok (.aload_n 0, 1) := dk_42 (dk_at dksX1_slices_0 23 rfl rfl)
theorem dX1_slices_24 : decode cX1_slices 24 = .ok (.getfield 31, 3) := dk_180 0 31 (dk_at dksX1_slices_1 0 rfl rfl)
theorem dX1_slices_27 : decode cX1_slices 27 = .ok (.bipush 7, 2) := dk_16 7 (dk_at dksX1_slices_1 3 rfl rfl)
theorem dX1_slices_29 : decode cX1_slices 29 = .ok (.iload 4, 2) := dk_21 4 (dk_at dksX1_slices_1 5 rfl rfl)
theorem dX1_slices_31 : decode cX1_slices 31 = .ok (.imul, 1) := dk_104 (dk_at dksX1_slices_1 7 rfl rfl)
theorem dX1_slices_32 : decode cX1_slices 32 = .ok (.iload_n 1, 1) := dk_27 (dk_at dksX1_slices_1 8 rfl rfl)
theorem dX1_slices_33 : decode cX1_slices 33 = .ok (.iadd, 1) := dk_96 (dk_at dksX1_slices_1 9 rfl rfl)
theorem dX1_slices_34 : decode cX1_slices 34 = .ok (.iaload, 1) := dk_46 (dk_at dksX1_slices_1 10 rfl rfl)
theorem dX1_slices_35 : decode cX1_slices 35 = .ok (.iload_n 2, 1) := dk_28 (dk_at dksX1_slices_1 11 rfl rfl)
theorem dX1_slices_36 : decode cX1_slices 36 = .ok (.if_icmp .ge 119, 3) := dk_162 0 119 (dk_at dksX1_slices_1 12 rfl rfl)
theorem dX1_slices_39 : decode cX1_slices 39 = .ok (.iload_n 2, 1) := dk_28 (dk_at dksX1_slices_1 15 rfl rfl)
theorem dX1_slices_40 : decode cX1_slices 40 = .ok (.aload_n 0, 1) := dk_42 (dk_at dksX1_slices_1 16 rfl rfl)
theorem dX1_slices_41 : decode cX1_slices 41 = .ok (.getfield 31, 3) := dk_180 0 31 (dk_at dksX1_slices_1 17 rfl rfl)
theorem dX1_slices_44 : decode cX1_slices 44 = .ok (.bipush 7, 2) := dk_16 7 (dk_at dksX1_slices_1 20 rfl rfl)
theorem dX1_slices_46 : decode cX1_slices 46 = .ok (.iload 4, 2) := dk_21 4 (dk_at dksX1_slices_1 22 rfl rfl)
theorem dX1_slices_48 : decode cX1_slices 48 = .ok (.imul, 1) := dk_104 (dk_at dksX1_slices_2 0 rfl rfl)
theorem dX1_slices_49 : decode cX1_slices 49 = .ok (.iconst 3, 1) := dk_6 (dk_at dksX1_slices_2 1 rfl rfl)
theorem dX1_slices_50 : decode cX1_slices 50 = .ok (.iadd, 1) := dk_96 (dk_at dksX1_slices_2 2 rfl rfl)
theorem dX1_slices_51 : decode cX1_slices 51 = .ok (.iload_n 1, 1) := dk_27 (dk_at dksX1_slices_2 3 rfl rfl)
theorem dX1_slices_52 : decode cX1_slices 52 = .ok (.iadd, 1) := dk_96 (dk_at dksX1_slices_2 4 rfl rfl)
theorem dX1_slices_53 : decode cX1_slices 53 = .ok (.iaload, 1) := dk_46 (dk_at dksX1_slices_2 5 rfl rfl)
theorem dX1_slices_54 : decode cX1_slices 54 = .ok (.if_icmp .ge 101, 3) := dk_162 0 101 (dk_at dksX1_slices_2 6 rfl rfl)
theorem dX1_slices_57 : decode cX1_slices 57 = .ok (.aload_n 0, 1) := dk_42 (dk_at dksX1_slices_2 9 rfl rfl)
theorem dX1_slices_58 : decode cX1_slices 58 = .ok (.iload_n 1, 1) := dk_27 (dk_at dksX1_slices_2 10 rfl rfl)
theorem dX1_slices_59 : decode cX1_slices 59 = .ok (.iload_n 2, 1) := dk_28 (dk_at dksX1_slices_2 11 rfl rfl)
theorem dX1_slices_60 : decode cX1_slices 60 = .ok (.iload 4, 2) := dk_21 4 (dk_at dksX1_slices_2 12 rfl rfl)
theorem dX1_slices_62 : decode cX1_slices 62 = .ok (.invokevirtual 142, 3) := dk_182 0 142 (dk_at dksX1_slices_2 14 rfl rfl)
theorem dX1_slices_65 : decode cX1_slices 65 = .ok (.ifCond .eq 90, 3) := dk_153 0 90 (dk_at dksX1_slices_2 17 rfl rfl)
theorem dX1_slices_68 : decode cX1_slices 68 = .ok (.iconst 0, 1) := dk_3 (dk_at dksX1_slices_2 20 rfl rfl)
theorem dX1_slices_69 : decode cX1_slices 69 = .ok (.istore 5, 2) := dk_54 5 (dk_at dksX1_slices_2 21 rfl rfl)
theorem dX1_slices_71 : decode cX1_slices 71 = .ok (.iload 5, 2) := dk_21 5 (dk_at dksX1_slices_3 0 rfl rfl)
theorem dX1_slices_73 : decode cX1_slices 73 = .ok (.bipush 7, 2) := dk_16 7 (dk_at dksX1_slices_3 2 rfl rfl)
theorem dX1_slices_75 : decode cX1_slices 75 = .ok (.if_icmp .ge 34, 3) := dk_162 0 34 (dk_at dksX1_slices_3 4 rfl rfl)
theorem dX1_slices_78 : decode cX1_slices 78 = .ok (.aload_n 0, 1) := dk_42 (dk_at dksX1_slices_3 7 rfl rfl)
theorem dX1_slices_79 : decode cX1_slices 79 = .ok (.getfield 31, 3) := dk_180 0 31 (dk_at dksX1_slices_3 8 rfl rfl)
theorem dX1_slices_82 : decode cX1_slices 82 = .ok (.bipush 7, 2) := dk_16 7 (dk_at dksX1_slices_3 11 rfl rfl)
theorem dX1_slices_84 : decode cX1_slices 84 = .ok (.iload_n 3, 1) := dk_29 (dk_at dksX1_slices_3 13 rfl rfl)
theorem dX1_slices_85 : decode cX1_slices 85 = .ok (.imul, 1) := dk_104 (dk_at dksX1_slices_3 14 rfl rfl)
theorem dX1_slices_86 : decode cX1_slices 86 = .ok (.iload 5, 2) := dk_21 5 (dk_at dksX1_slices_3 15 rfl rfl)
theorem dX1_slices_88 : decode cX1_slices 88 = .ok (.iadd, 1) := dk_96 (dk_at dksX1_slices_3 17 rfl rfl)
theorem dX1_slices_89 : decode cX1_slices 89 = .ok (.aload_n 0, 1) := dk_42 (dk_at dksX1_slices_3 18 rfl rfl)
theorem dX1_slices_90 : decode cX1_slices 90 = .ok (.getfield 31, 3) := dk_180 0 31 (dk_at dksX1_slices_3 19 rfl rfl)
theorem dX1_slices_93 : decode cX1_slices 93 = .ok (.bipush 7, 2) := dk_16 7 (dk_at dksX1_slices_3 22 rfl rfl)
theorem dX1_slices_95 : decode cX1_slices 95 = .ok (.iload 4, 2) := dk_21 4 (dk_at dksX1_slices_4 0 rfl rfl)
theorem dX1_slices_97 : decode cX1_slices 97 = .ok (.imul, 1) := dk_104 (dk_at dksX1_slices_4 2 rfl rfl)
theorem dX1_slices_98 : decode cX1_slices 98 = .ok (.iload 5, 2) := dk_21 5 (dk_at dksX1_slices_4 3 rfl rfl)
theorem dX1_slices_100 : decode cX1_slices 100 = .ok (.iadd, 1) := dk_96 (dk_at dksX1_slices_4 5 rfl rfl)
theorem dX1_slices_101 : decode cX1_slices 101 = .ok (.iaload, 1) := dk_46 (dk_at dksX1_slices_4 6 rfl rfl)
theorem dX1_slices_102 : decode cX1_slices 102 = .ok (.iastore, 1) := dk_79 (dk_at dksX1_slices_4 7 rfl rfl)
theorem dX1_slices_103 : decode cX1_slices 103 = .ok (.iinc 5 1, 3) := dk_132 5 1 (dk_at dksX1_slices_4 8 rfl rfl)
theorem dX1_slices_106 : decode cX1_slices 106 = .ok (.goto (-35), 3) := dk_167 255 221 (dk_at dksX1_slices_4 11 rfl rfl)
theorem dX1_slices_109 : decode cX1_slices 109 = .ok (.aload_n 0, 1) := dk_42 (dk_at dksX1_slices_4 14 rfl rfl)
theorem dX1_slices_110 : decode cX1_slices 110 = .ok (.getfield 31, 3) := dk_180 0 31 (dk_at dksX1_slices_4 15 rfl rfl)
theorem dX1_slices_113 : decode cX1_slices 113 = .ok (.bipush 7, 2) := dk_16 7 (dk_at dksX1_slices_4 18 rfl rfl)
theorem dX1_slices_115 : decode cX1_slices 115 = .ok (.iload_n 3, 1) := dk_29 (dk_at dksX1_slices_4 20 rfl rfl)
theorem dX1_slices_116 : decode cX1_slices 116 = .ok (.imul, 1) := dk_104 (dk_at dksX1_slices_4 21 rfl rfl)
theorem dX1_slices_117 : decode cX1_slices 117 = .ok (.iload_n 1, 1) := dk_27 (dk_at dksX1_slices_4 22 rfl rfl)
theorem dX1_slices_118 : decode cX1_slices 118 = .ok (.iadd, 1) := dk_96 (dk_at dksX1_slices_4 23 rfl rfl)
theorem dX1_slices_119 : decode cX1_slices 119 = .ok (.iload_n 2, 1) := dk_28 (dk_at dksX1_slices_5 0 rfl rfl)
theorem dX1_slices_120 : decode cX1_slices 120 = .ok (.iastore, 1) := dk_79 (dk_at dksX1_slices_5 1 rfl rfl)
theorem dX1_slices_121 : decode cX1_slices 121 = .ok (.aload_n 0, 1) := dk_42 (dk_at dksX1_slices_5 2 rfl rfl)
theorem dX1_slices_122 : decode cX1_slices 122 = .ok (.getfield 31, 3) := dk_180 0 31 (dk_at dksX1_slices_5 3 rfl rfl)
theorem dX1_slices_125 : decode cX1_slices 125 = .ok (.bipush 7, 2) := dk_16 7 (dk_at dksX1_slices_5 6 rfl rfl)
theorem dX1_slices_127 : decode cX1_slices 127 = .ok (.iload 4, 2) := dk_21 4 (dk_at dksX1_slices_5 8 rfl rfl)
theorem dX1_slices_129 : decode cX1_slices 129 = .ok (.imul, 1) := dk_104 (dk_at dksX1_slices_5 10 rfl rfl)
theorem dX1_slices_130 : decode cX1_slices 130 = .ok (.iconst 3, 1) := dk_6 (dk_at dksX1_slices_5 11 rfl rfl)
theorem dX1_slices_131 : decode cX1_slices 131 = .ok (.iadd, 1) := dk_96 (dk_at dksX1_slices_5 12 rfl rfl)
theorem dX1_slices_132 : decode cX1_slices 132 = .ok (.iload_n 1, 1) := dk_27 (dk_at dksX1_slices_5 13 rfl rfl)
theorem dX1_slices_133 : decode cX1_slices 133 = .ok (.iadd, 1) := dk_96 (dk_at dksX1_slices_5 14 rfl rfl)
theorem dX1_slices_134 : decode cX1_slices 134 = .ok (.iload_n 2, 1) := dk_28 (dk_at dksX1_slices_5 15 rfl rfl)
theorem dX1_slices_135 : decode cX1_slices 135 = .ok (.iastore, 1) := dk_79 (dk_at dksX1_slices_5 16 rfl rfl)
theorem dX1_slices_136 : decode cX1_slices 136 = .ok (.aload_n 0, 1) := dk_42 (dk_at dksX1_slices_5 17 rfl rfl)
theorem dX1_slices_137 : decode cX1_slices 137 = .ok (.getfield 37, 3) := dk_180 0 37 (dk_at dksX1_slices_5 18 rfl rfl)
theorem dX1_slices_140 : decode cX1_slices 140 = .ok (.iload_n 3, 1) := dk_29 (dk_at dksX1_slices_5 21 rfl rfl)
theorem dX1_slices_141 : decode cX1_slices 141 = .ok (.iconst 0, 1) := dk_3 (dk_at dksX1_slices_5 22 rfl rfl)
theorem dX1_slices_142 : decode cX1_slices 142 = .ok (.bastore, 1) := dk_84 (dk_at dksX1_slices_5 23 rfl rfl)
theorem dX1_slices_143 : decode cX1_slices 143 = .ok (.aload_n 0, 1) := dk_42 (dk_at dksX1_slices_6 0 rfl rfl)
theorem dX1_slices_144 : decode cX1_slices 144 = .ok (.dup, 1) := dk_89 (dk_at dksX1_slices_6 1 rfl rfl)
theorem dX1_slices_145 : decode cX1_slices 145 = .ok (.getfield 127, 3) := dk_180 0 127 (dk_at dksX1_slices_6 2 rfl rfl)
theorem dX1_slices_148 : decode cX1_slices 148 = .ok (.iconst 1, 1) := dk_4 (dk_at dksX1_slices_6 5 rfl rfl)
theorem dX1_slices_149 : decode cX1_slices 149 = .ok (.iadd, 1) := dk_96 (dk_at dksX1_slices_6 6 rfl rfl)
theorem dX1_slices_150 : decode cX1_slices 150 = .ok (.putfield 127, 3) := dk_181 0 127 (dk_at dksX1_slices_6 7 rfl rfl)
theorem dX1_slices_153 : decode cX1_slices 153 = .ok (.iconst 1, 1) := dk_4 (dk_at dksX1_slices_6 10 rfl rfl)
theorem dX1_slices_154 : decode cX1_slices 154 = .ok (.ireturn, 1) := dk_172 (dk_at dksX1_slices_6 11 rfl rfl)
theorem dX1_slices_155 : decode cX1_slices 155 = .ok (.iinc 4 1, 3) := dk_132 4 1 (dk_at dksX1_slices_6 12 rfl rfl)
theorem dX1_slices_158 : decode cX1_slices 158 = .ok (.goto (-150), 3) := dk_167 255 106 (dk_at dksX1_slices_6 15 rfl rfl)
theorem dX1_slices_161 : decode cX1_slices 161 = .ok (.iconst 0, 1) := dk_3 (dk_at dksX1_slices_6 18 rfl rfl)
theorem dX1_slices_162 : decode cX1_slices 162 = .ok (.ireturn, 1) := dk_172 (dk_at dksX1_slices_6 19 rfl rfl)
abbrev cX1_isInLoop : ByteArray := prog_9_method_40_code
def yX1_isInLoop : MethodName := ⟨RX1, "isInLoop", "(I)Z"⟩
def dkwX1_isInLoop_1 : List UInt8 := [167, 0, 4, 3, 128, 61, 132, 3, 1, 167, 255, 227, 28, 172]
abbrev dktX1_isInLoop_1 : List UInt8 := dkwX1_isInLoop_1 ++ []
def dkwX1_isInLoop_0 : List UInt8 := [3, 61, 3, 62, 29, 42, 180, 0, 136, 162, 0, 27, 28, 42, 180, 0, 41, 29, 46, 27, 160, 0, 7, 4]
abbrev dktX1_isInLoop_0 : List UInt8 := dkwX1_isInLoop_0 ++ dktX1_isInLoop_1
theorem dksX1_isInLoop_0 : cX1_isInLoop.data.toList.drop 0 = dktX1_isInLoop_0 := by decide +kernel
theorem dksX1_isInLoop_1 : cX1_isInLoop.data.toList.drop 24 = dktX1_isInLoop_1 := dk_seg dksX1_isInLoop_0 24 rfl rfl
theorem dX1_isInLoop_0 : decode cX1_isInLoop 0 = .ok (.iconst 0, 1) := dk_3 (dk_at dksX1_isInLoop_0 0 rfl rfl)
theorem dX1_isInLoop_1 : decode cX1_isInLoop 1 = .ok (.istore_n 2, 1) := dk_61 (dk_at dksX1_isInLoop_0 1 rfl rfl)
theorem dX1_isInLoop_2 : decode cX1_isInLoop 2 = .ok (.iconst 0, 1) := dk_3 (dk_at dksX1_isInLoop_0 2 rfl rfl)
theorem dX1_isInLoop_3 : decode cX1_isInLoop 3 = .ok (.istore_n 3, 1) := dk_62 (dk_at dksX1_isInLoop_0 3 rfl rfl)
theorem dX1_isInLoop_4 : decode cX1_isInLoop 4 = .ok (.iload_n 3, 1) := dk_29 (dk_at dksX1_isInLoop_0 4 rfl rfl)
theorem dX1_isInLoop_5 : decode cX1_isInLoop 5 = .ok (.aload_n 0, 1) := dk_42 (dk_at dksX1_isInLoop_0 5 rfl rfl)
theorem dX1_isInLoop_6 : decode cX1_isInLoop 6 = .ok (.getfield 136, 3) := dk_180 0 136 (dk_at dksX1_isInLoop_0 6 rfl rfl)
theorem dX1_isInLoop_9 : decode cX1_isInLoop 9 = .ok (.if_icmp .ge 27, 3) := dk_162 0 27 (dk_at dksX1_isInLoop_0 9 rfl rfl)
theorem dX1_isInLoop_12 : decode cX1_isInLoop 12 = .ok (.iload_n 2, 1) := dk_28 (dk_at dksX1_isInLoop_0 12 rfl rfl)
theorem dX1_isInLoop_13 : decode cX1_isInLoop 13 = .ok (.aload_n 0, 1) := dk_42 (dk_at dksX1_isInLoop_0 13 rfl rfl)
theorem dX1_isInLoop_14 : decode cX1_isInLoop 14 = .ok (.getfield 41, 3) := dk_180 0 41 (dk_at dksX1_isInLoop_0 14 rfl rfl)
theorem dX1_isInLoop_17 : decode cX1_isInLoop 17 = .ok (.iload_n 3, 1) := dk_29 (dk_at dksX1_isInLoop_0 17 rfl rfl)
theorem dX1_isInLoop_18 : decode cX1_isInLoop 18 = .ok (.iaload, 1) := dk_46 (dk_at dksX1_isInLoop_0 18 rfl rfl)
theorem dX1_isInLoop_19 : decode cX1_isInLoop 19 = .ok (.iload_n 1, 1) := dk_27 (dk_at dksX1_isInLoop_0 19 rfl rfl)
theorem dX1_isInLoop_20 : decode cX1_isInLoop 20 = .ok (.if_icmp .ne 7, 3) := dk_160 0 7 (dk_at dksX1_isInLoop_0 20 rfl rfl)
theorem dX1_isInLoop_23 : decode cX1_isInLoop 23 = .ok (.iconst 1, 1) := dk_4 (dk_at dksX1_isInLoop_0 23 rfl rfl)
theorem dX1_isInLoop_24 : decode cX1_isInLoop 24 = .ok (.goto 4, 3) := dk_167 0 4 (dk_at dksX1_isInLoop_1 0 rfl rfl)
theorem dX1_isInLoop_27 : decode cX1_isInLoop 27 = .ok (.iconst 0, 1) := dk_3 (dk_at dksX1_isInLoop_1 3 rfl rfl)
theorem dX1_isInLoop_28 : decode cX1_isInLoop 28 = .ok (.ior, 1) := dk_128 (dk_at dksX1_isInLoop_1 4 rfl rfl)
theorem dX1_isInLoop_29 : decode cX1_isInLoop 29 = .ok (.istore_n 2, 1) := dk_61 (dk_at dksX1_isInLoop_1 5 rfl rfl)
theorem dX1_isInLoop_30 : decode cX1_isInLoop 30 = .ok (.iinc 3 1, 3) := dk_132 3 1 (dk_at dksX1_isInLoop_1 6 rfl rfl)
theorem dX1_isInLoop_33 : decode cX1_isInLoop 33 = .ok (.goto (-29), 3) := dk_167 255 227 (dk_at dksX1_isInLoop_1 9 rfl rfl)
theorem dX1_isInLoop_36 : decode cX1_isInLoop 36 = .ok (.iload_n 2, 1) := dk_28 (dk_at dksX1_isInLoop_1 12 rfl rfl)
theorem dX1_isInLoop_37 : decode cX1_isInLoop 37 = .ok (.ireturn, 1) := dk_172 (dk_at dksX1_isInLoop_1 13 rfl rfl)
abbrev cX1_isFace : ByteArray := prog_9_method_39_code
def yX1_isFace : MethodName := ⟨RX1, "isFace", "(III)Z"⟩
def dkwX1_isFace_3 : List UInt8 := [3, 128, 54, 4, 132, 5, 1, 167, 255, 183, 21, 4, 172]
abbrev dktX1_isFace_3 : List UInt8 := dkwX1_isFace_3 ++ []
def dkwX1_isFace_2 : List UInt8 := [46, 28, 159, 0, 18, 42, 180, 0, 31, 21, 6, 6, 96, 27, 96, 46, 28, 160, 0, 7, 4, 167, 0, 4]
abbrev dktX1_isFace_2 : List UInt8 := dkwX1_isFace_2 ++ dktX1_isFace_3
def dkwX1_isFace_1 : List UInt8 := [104, 54, 6, 21, 4, 42, 180, 0, 41, 21, 5, 46, 29, 159, 0, 35, 42, 180, 0, 31, 21, 6, 27, 96]
abbrev dktX1_isFace_1 : List UInt8 := dkwX1_isFace_1 ++ dktX1_isFace_2
def dkwX1_isFace_0 : List UInt8 := [3, 54, 4, 3, 54, 5, 21, 5, 42, 180, 0, 136, 162, 0, 70, 16, 7, 42, 180, 0, 41, 21, 5, 46]
abbrev dktX1_isFace_0 : List UInt8 := dkwX1_isFace_0 ++ dktX1_isFace_1
theorem dksX1_isFace_0 : cX1_isFace.data.toList.drop 0 = dktX1_isFace_0 := by decide +kernel
theorem dksX1_isFace_1 : cX1_isFace.data.toList.drop 24 = dktX1_isFace_1 := dk_seg dksX1_isFace_0 24 rfl rfl
theorem dksX1_isFace_2 : cX1_isFace.data.toList.drop 48 = dktX1_isFace_2 := dk_seg dksX1_isFace_1 24 rfl rfl
theorem dksX1_isFace_3 : cX1_isFace.data.toList.drop 72 = dktX1_isFace_3 := dk_seg dksX1_isFace_2 24 rfl rfl
theorem dX1_isFace_0 : decode cX1_isFace 0 = .ok (.iconst 0, 1) := dk_3 (dk_at dksX1_isFace_0 0 rfl rfl)
theorem dX1_isFace_1 : decode cX1_isFace 1 = .ok (.istore 4, 2) := dk_54 4 (dk_at dksX1_isFace_0 1 rfl rfl)
theorem dX1_isFace_3 : decode cX1_isFace 3 = .ok (.iconst 0, 1) := dk_3 (dk_at dksX1_isFace_0 3 rfl rfl)
theorem dX1_isFace_4 : decode cX1_isFace 4 = .ok (.istore 5, 2) := dk_54 5 (dk_at dksX1_isFace_0 4 rfl rfl)
theorem dX1_isFace_6 : decode cX1_isFace 6 = .ok (.iload 5, 2) := dk_21 5 (dk_at dksX1_isFace_0 6 rfl rfl)
theorem dX1_isFace_8 : decode cX1_isFace 8 = .ok (.aload_n 0, 1) := dk_42 (dk_at dksX1_isFace_0 8 rfl rfl)
theorem dX1_isFace_9 : decode cX1_isFace 9 = .ok (.getfield 136, 3) := dk_180 0 136 (dk_at dksX1_isFace_0 9 rfl rfl)
theorem dX1_isFace_12 : decode cX1_isFace 12 = .ok (.if_icmp .ge 70, 3) := dk_162 0 70 (dk_at dksX1_isFace_0 12 rfl rfl)
theorem dX1_isFace_15 : decode cX1_isFace 15 = .ok (.bipush 7, 2) := dk_16 7 (dk_at dksX1_isFace_0 15 rfl rfl)
theorem dX1_isFace_17 : decode cX1_isFace 17 = .ok (.aload_n 0, 1) := dk_42 (dk_at dksX1_isFace_0 17 rfl rfl)
theorem dX1_isFace_18 : decode cX1_isFace 18 = .ok (.getfield 41, 3) := dk_180 0 41 (dk_at dksX1_isFace_0 18 rfl rfl)
theorem dX1_isFace_21 : decode cX1_isFace 21 = .ok (.iload 5, 2) := dk_21 5 (dk_at dksX1_isFace_0 21 rfl rfl)
theorem dX1_isFace_23 : decode cX1_isFace 23 = .ok (.iaload, 1) := dk_46 (dk_at dksX1_isFace_0 23 rfl rfl)
theorem dX1_isFace_24 : decode cX1_isFace 24 = .ok (.imul, 1) := dk_104 (dk_at dksX1_isFace_1 0 rfl rfl)
theorem dX1_isFace_25 : decode cX1_isFace 25 = .ok (.istore 6, 2) := dk_54 6 (dk_at dksX1_isFace_1 1 rfl rfl)
theorem dX1_isFace_27 : decode cX1_isFace 27 = .ok (.iload 4, 2) := dk_21 4 (dk_at dksX1_isFace_1 3 rfl rfl)
theorem dX1_isFace_29 : decode cX1_isFace 29 = .ok (.aload_n 0, 1) := dk_42 (dk_at dksX1_isFace_1 5 rfl rfl)
theorem dX1_isFace_30 : decode cX1_isFace 30 = .ok (.getfield 41, 3) := dk_180 0 41 (dk_at dksX1_isFace_1 6 rfl rfl)
theorem dX1_isFace_33 : decode cX1_isFace 33 = .ok (.iload 5, 2) := dk_21 5 (dk_at dksX1_isFace_1 9 rfl rfl)
theorem dX1_isFace_35 : decode cX1_isFace 35 = .ok (.iaload, 1) := dk_46 (dk_at dksX1_isFace_1 11 rfl rfl)
theorem dX1_isFace_36 : decode cX1_isFace 36 = .ok (.iload_n 3, 1) := dk_29 (dk_at dksX1_isFace_1 12 rfl rfl)
theorem dX1_isFace_37 : decode cX1_isFace 37 = .ok (.if_icmp .eq 35, 3) := dk_159 0 35 (dk_at dksX1_isFace_1 13 rfl rfl)
theorem dX1_isFace_40 : decode cX1_isFace 40 = .ok (.aload_n 0, 1) := dk_42 (dk_at dksX1_isFace_1 16 rfl rfl)
theorem dX1_isFace_41 : decode cX1_isFace 41 = .ok (.getfield 31, 3) := dk_180 0 31 (dk_at dksX1_isFace_1 17 rfl rfl)
theorem dX1_isFace_44 : decode cX1_isFace 44 = .ok (.iload 6, 2) := dk_21 6 (dk_at dksX1_isFace_1 20 rfl rfl)
theorem dX1_isFace_46 : decode cX1_isFace 46 = .ok (.iload_n 1, 1) := dk_27 (dk_at dksX1_isFace_1 22 rfl rfl)
theorem dX1_isFace_47 : decode cX1_isFace 47 = .ok (.iadd, 1) := dk_96 (dk_at dksX1_isFace_1 23 rfl rfl)
theorem dX1_isFace_48 : decode cX1_isFace 48 = .ok (.iaload, 1) := dk_46 (dk_at dksX1_isFace_2 0 rfl rfl)
theorem dX1_isFace_49 : decode cX1_isFace 49 = .ok (.iload_n 2, 1) := dk_28 (dk_at dksX1_isFace_2 1 rfl rfl)
theorem dX1_isFace_50 : decode cX1_isFace 50 = .ok (.if_icmp .eq 18, 3) := dk_159 0 18 (dk_at dksX1_isFace_2 2 rfl rfl)
theorem dX1_isFace_53 : decode cX1_isFace 53 = .ok (.aload_n 0, 1) := dk_42 (dk_at dksX1_isFace_2 5 rfl rfl)
theorem dX1_isFace_54 : decode cX1_isFace 54 = .ok (.getfield 31, 3) := dk_180 0 31 (dk_at dksX1_isFace_2 6 rfl rfl)
theorem dX1_isFace_57 : decode cX1_isFace 57 = .ok (.iload 6, 2) := dk_21 6 (dk_at dksX1_isFace_2 9 rfl rfl)
theorem dX1_isFace_59 : decode cX1_isFace 59 = .ok (.iconst 3, 1) := dk_6 (dk_at dksX1_isFace_2 11 rfl rfl)
theorem dX1_isFace_60 : decode cX1_isFace 60 = .ok (.iadd, 1) := dk_96 (dk_at dksX1_isFace_2 12 rfl rfl)
theorem dX1_isFace_61 : decode cX1_isFace 61 = .ok (.iload_n 1, 1) := dk_27 (dk_at dksX1_isFace_2 13 rfl rfl)
theorem dX1_isFace_62 : decode cX1_isFace 62 = .ok (.iadd, 1) := dk_96 (dk_at dksX1_isFace_2 14 rfl rfl)
theorem dX1_isFace_63 : decode cX1_isFace 63 = .ok (.iaload, 1) := dk_46 (dk_at dksX1_isFace_2 15 rfl rfl)
theorem dX1_isFace_64 : decode cX1_isFace 64 = .ok (.iload_n 2, 1) := dk_28 (dk_at dksX1_isFace_2 16 rfl rfl)
theorem dX1_isFace_65 : decode cX1_isFace 65 = .ok (.if_icmp .ne 7, 3) := dk_160 0 7 (dk_at dksX1_isFace_2 17 rfl rfl)
theorem dX1_isFace_68 : decode cX1_isFace 68 = .ok (.iconst 1, 1) := dk_4 (dk_at dksX1_isFace_2 20 rfl rfl)
theorem dX1_isFace_69 : decode cX1_isFace 69 = .ok (.goto 4, 3) := dk_167 0 4 (dk_at dksX1_isFace_2 21 rfl rfl)
theorem dX1_isFace_72 : decode cX1_isFace 72 = .ok (.iconst 0, 1) := dk_3 (dk_at dksX1_isFace_3 0 rfl rfl)
theorem dX1_isFace_73 : decode cX1_isFace 73 = .ok (.ior, 1) := dk_128 (dk_at dksX1_isFace_3 1 rfl rfl)
theorem dX1_isFace_74 : decode cX1_isFace 74 = .ok (.istore 4, 2) := dk_54 4 (dk_at dksX1_isFace_3 2 rfl rfl)
theorem dX1_isFace_76 : decode cX1_isFace 76 = .ok (.iinc 5 1, 3) := dk_132 5 1 (dk_at dksX1_isFace_3 4 rfl rfl)
theorem dX1_isFace_79 : decode cX1_isFace 79 = .ok (.goto (-73), 3) := dk_167 255 183 (dk_at dksX1_isFace_3 7 rfl rfl)
theorem dX1_isFace_82 : decode cX1_isFace 82 = .ok (.iload 4, 2) := dk_21 4 (dk_at dksX1_isFace_3 10 rfl rfl)
theorem dX1_isFace_84 : decode cX1_isFace 84 = .ok (.ireturn, 1) := dk_172 (dk_at dksX1_isFace_3 12 rfl rfl)
abbrev cX1_cuts : ByteArray := prog_9_method_45_code
def yX1_cuts : MethodName := ⟨RX1, "cuts", "()I"⟩
def dkwX1_cuts_0 : List UInt8 := [42, 182, 0, 161, 153, 0, 15, 42, 180, 0, 127, 42, 182, 0, 101, 100, 167, 0, 5, 16, 152, 172]
abbrev dktX1_cuts_0 : List UInt8 := dkwX1_cuts_0 ++ []
theorem dksX1_cuts_0 : cX1_cuts.data.toList.drop 0 = dktX1_cuts_0 := by decide +kernel
theorem dX1_cuts_0 : decode cX1_cuts 0 = .ok (.aload_n 0, 1) := dk_42 (dk_at dksX1_cuts_0 0 rfl rfl)
theorem dX1_cuts_1 : decode cX1_cuts 1 = .ok (.invokevirtual 161, 3) := dk_182 0 161 (dk_at dksX1_cuts_0 1 rfl rfl)
theorem dX1_cuts_4 : decode cX1_cuts 4 = .ok (.ifCond .eq 15, 3) := dk_153 0 15 (dk_at dksX1_cuts_0 4 rfl rfl)
theorem dX1_cuts_7 : decode cX1_cuts 7 = .ok (.aload_n 0, 1) := dk_42 (dk_at dksX1_cuts_0 7 rfl rfl)
theorem dX1_cuts_8 : decode cX1_cuts 8 = .ok (.getfield 127, 3) := dk_180 0 127 (dk_at dksX1_cuts_0 8 rfl rfl)
theorem dX1_cuts_11 : decode cX1_cuts 11 = .ok (.aload_n 0, 1) := dk_42 (dk_at dksX1_cuts_0 11 rfl rfl)
theorem dX1_cuts_12 : decode cX1_cuts 12 = .ok (.invokevirtual 101, 3) := dk_182 0 101 (dk_at dksX1_cuts_0 12 rfl rfl)
theorem dX1_cuts_15 : decode cX1_cuts 15 = .ok (.isub, 1) := dk_100 (dk_at dksX1_cuts_0 15 rfl rfl)
theorem dX1_cuts_16 : decode cX1_cuts 16 = .ok (.goto 5, 3) := dk_167 0 5 (dk_at dksX1_cuts_0 16 rfl rfl)
theorem dX1_cuts_19 : decode cX1_cuts 19 = .ok (.bipush (-104), 2) := dk_16 152 (dk_at dksX1_cuts_0 19 rfl rfl)
theorem dX1_cuts_21 : decode cX1_cuts 21 = .ok (.ireturn, 1) := dk_172 (dk_at dksX1_cuts_0 21 rfl rfl)
abbrev cX1_piece : ByteArray := prog_9_method_46_code
def yX1_piece : MethodName := ⟨RX1, "piece", "(II)I"⟩
def dkwX1_piece_3 : List UInt8 := [167, 0, 16, 42, 180, 0, 31, 16, 7, 29, 104, 28, 96, 5, 100, 46, 172]
abbrev dktX1_piece_3 : List UInt8 := dkwX1_piece_3 ++ []
def dkwX1_piece_2 : List UInt8 := [154, 0, 7, 29, 167, 0, 36, 28, 4, 160, 0, 18, 42, 180, 0, 31, 16, 7, 29, 104, 16, 6, 96, 46]
abbrev dktX1_piece_2 : List UInt8 := dkwX1_piece_2 ++ dktX1_piece_3
def dkwX1_piece_1 : List UInt8 := [16, 152, 172, 27, 42, 180, 0, 151, 161, 0, 6, 16, 150, 172, 42, 180, 0, 34, 27, 46, 62, 28]
abbrev dktX1_piece_1 : List UInt8 := dkwX1_piece_1 ++ dktX1_piece_2
def dkwX1_piece_0 : List UInt8 := [27, 155, 0, 13, 28, 3, 16, 7, 184, 0, 60, 154, 0, 6, 16, 154, 172, 42, 182, 0, 161, 154, 0, 6]
abbrev dktX1_piece_0 : List UInt8 := dkwX1_piece_0 ++ dktX1_piece_1
theorem dksX1_piece_0 : cX1_piece.data.toList.drop 0 = dktX1_piece_0 := by decide +kernel
theorem dksX1_piece_1 : cX1_piece.data.toList.drop 24 = dktX1_piece_1 := dk_seg dksX1_piece_0 24 rfl rfl
theorem dksX1_piece_2 : cX1_piece.data.toList.drop 46 = dktX1_piece_2 := dk_seg dksX1_piece_1 22 rfl rfl
theorem dksX1_piece_3 : cX1_piece.data.toList.drop 70 = dktX1_piece_3 := dk_seg dksX1_piece_2 24 rfl rfl
theorem dX1_piece_0 : decode cX1_piece 0 = .ok (.iload_n 1, 1) := dk_27 (dk_at dksX1_piece_0 0 rfl rfl)
theorem dX1_piece_1 : decode cX1_piece 1 = .ok (.ifCond .lt 13, 3) := dk_155 0 13 (dk_at dksX1_piece_0 1 rfl rfl)
theorem dX1_piece_4 : decode cX1_piece 4 = .ok (.iload_n 2, 1) := dk_28 (dk_at dksX1_piece_0 4 rfl rfl)
theorem dX1_piece_5 : decode cX1_piece 5 = .ok (.iconst 0, 1) := dk_3 (dk_at dksX1_piece_0 5 rfl rfl)
theorem dX1_piece_6 : decode cX1_piece 6 = .ok (.bipush 7, 2) := dk_16 7 (dk_at dksX1_piece_0 6 rfl rfl)
theorem dX1_piece_8 : decode cX1_piece 8 = .ok (.invokestatic 60, 3) := dk_184 0 60 (dk_at dksX1_piece_0 8 rfl rfl)
theorem dX1_piece_11 : decode cX1_piece 11 = .ok (.ifCond .ne 6, 3) := dk_154 0 6 (dk_at dksX1_piece_0 11 rfl rfl)
theorem dX1_piece_14 : decode cX1_piece 14 = .ok (.bipush (-102), 2) := dk_16 154 (dk_at dksX1_piece_0 14 rfl rfl)
theorem dX1_piece_16 : decode cX1_piece 16 = .ok (.ireturn, 1) := dk_172 (dk_at dksX1_piece_0 16 rfl rfl)
theorem dX1_piece_17 : decode cX1_piece 17 = .ok (.aload_n 0, 1) := dk_42 (dk_at dksX1_piece_0 17 rfl rfl)
theorem dX1_piece_18 : decode cX1_piece 18 = .ok (.invokevirtual 161, 3) := dk_182 0 161 (dk_at dksX1_piece_0 18 rfl rfl)
theorem dX1_piece_21 : decode cX1_piece 21 = .ok (.ifCond .ne 6, 3) := dk_154 0 6 (dk_at dksX1_piece_0 21 rfl rfl)
theorem dX1_piece_24 : decode cX1_piece 24 = .ok (.bipush (-104), 2) := dk_16 152 (dk_at dksX1_piece_1 0 rfl rfl)
theorem dX1_piece_26 : decode cX1_piece 26 = .ok (.ireturn, 1) := dk_172 (dk_at dksX1_piece_1 2 rfl rfl)
theorem dX1_piece_27 : decode cX1_piece 27 = .ok (.iload_n 1, 1) := dk_27 (dk_at dksX1_piece_1 3 rfl rfl)
theorem dX1_piece_28 : decode cX1_piece 28 = .ok (.aload_n 0, 1) := dk_42 (dk_at dksX1_piece_1 4 rfl rfl)
theorem dX1_piece_29 : decode cX1_piece 29 = .ok (.getfield 151, 3) := dk_180 0 151 (dk_at dksX1_piece_1 5 rfl rfl)
theorem dX1_piece_32 : decode cX1_piece 32 = .ok (.if_icmp .lt 6, 3) := dk_161 0 6 (dk_at dksX1_piece_1 8 rfl rfl)
theorem dX1_piece_35 : decode cX1_piece 35 = .ok (.bipush (-106), 2) := dk_16 150 (dk_at dksX1_piece_1 11 rfl rfl)
theorem dX1_piece_37 : decode cX1_piece 37 = .ok (.ireturn, 1) := dk_172 (dk_at dksX1_piece_1 13 rfl rfl)
theorem dX1_piece_38 : decode cX1_piece 38 = .ok (.aload_n 0, 1) := dk_42 (dk_at dksX1_piece_1 14 rfl rfl)
theorem dX1_piece_39 : decode cX1_piece 39 = .ok (.getfield 34, 3) := dk_180 0 34 (dk_at dksX1_piece_1 15 rfl rfl)
theorem dX1_piece_42 : decode cX1_piece 42 = .ok (.iload_n 1, 1) := dk_27 (dk_at dksX1_piece_1 18 rfl rfl)
theorem dX1_piece_43 : decode cX1_piece 43 = .ok (.iaload, 1) := dk_46 (dk_at dksX1_piece_1 19 rfl rfl)
theorem dX1_piece_44 : decode cX1_piece 44 = .ok (.istore_n 3, 1) := dk_62 (dk_at dksX1_piece_1 20 rfl rfl)
theorem dX1_piece_45 : decode cX1_piece 45 = .ok (.iload_n 2, 1) := dk_28 (dk_at dksX1_piece_1 21 rfl rfl)
theorem dX1_piece_46 : decode cX1_piece 46 = .ok (.ifCond .ne 7, 3) := dk_154 0 7 (dk_at dksX1_piece_2 0 rfl rfl)
theorem dX1_piece_49 : decode cX1_piece 49 = .ok (.iload_n 3, 1) := dk_29 (dk_at dksX1_piece_2 3 rfl rfl)
theorem dX1_piece_50 : decode cX1_piece 50 = .ok (.goto 36, 3) := dk_167 0 36 (dk_at dksX1_piece_2 4 rfl rfl)
theorem dX1_piece_53 : decode cX1_piece 53 = .ok (.iload_n 2, 1) := dk_28 (dk_at dksX1_piece_2 7 rfl rfl)
theorem dX1_piece_54 : decode cX1_piece 54 = .ok (.iconst 1, 1) := dk_4 (dk_at dksX1_piece_2 8 rfl rfl)
theorem dX1_piece_55 : decode cX1_piece 55 = .ok (.if_icmp .ne 18, 3) := dk_160 0 18 (dk_at dksX1_piece_2 9 rfl rfl)
theorem dX1_piece_58 : decode cX1_piece 58 = .ok (.aload_n 0, 1) := dk_42 (dk_at dksX1_piece_2 12 rfl rfl)
theorem dX1_piece_59 : decode cX1_piece 59 = .ok (.getfield 31, 3) := dk_180 0 31 (dk_at dksX1_piece_2 13 rfl rfl)
theorem dX1_piece_62 : decode cX1_piece 62 = .ok (.bipush 7, 2) := dk_16 7 (dk_at dksX1_piece_2 16 rfl rfl)
theorem dX1_piece_64 : decode cX1_piece 64 = .ok (.iload_n 3, 1) := dk_29 (dk_at dksX1_piece_2 18 rfl rfl)
theorem dX1_piece_65 : decode cX1_piece 65 = .ok (.imul, 1) := dk_104 (dk_at dksX1_piece_2 19 rfl rfl)
theorem dX1_piece_66 : decode cX1_piece 66 = .ok (.bipush 6, 2) := dk_16 6 (dk_at dksX1_piece_2 20 rfl rfl)
theorem dX1_piece_68 : decode cX1_piece 68 = .ok (.iadd, 1) := dk_96 (dk_at dksX1_piece_2 22 rfl rfl)
theorem dX1_piece_69 : decode cX1_piece 69 = .ok (.iaload, 1) := dk_46 (dk_at dksX1_piece_2 23 rfl rfl)
theorem dX1_piece_70 : decode cX1_piece 70 = .ok (.goto 16, 3) := dk_167 0 16 (dk_at dksX1_piece_3 0 rfl rfl)
theorem dX1_piece_73 : decode cX1_piece 73 = .ok (.aload_n 0, 1) := dk_42 (dk_at dksX1_piece_3 3 rfl rfl)
theorem dX1_piece_74 : decode cX1_piece 74 = .ok (.getfield 31, 3) := dk_180 0 31 (dk_at dksX1_piece_3 4 rfl rfl)
theorem dX1_piece_77 : decode cX1_piece 77 = .ok (.bipush 7, 2) := dk_16 7 (dk_at dksX1_piece_3 7 rfl rfl)
theorem dX1_piece_79 : decode cX1_piece 79 = .ok (.iload_n 3, 1) := dk_29 (dk_at dksX1_piece_3 9 rfl rfl)
theorem dX1_piece_80 : decode cX1_piece 80 = .ok (.imul, 1) := dk_104 (dk_at dksX1_piece_3 10 rfl rfl)
theorem dX1_piece_81 : decode cX1_piece 81 = .ok (.iload_n 2, 1) := dk_28 (dk_at dksX1_piece_3 11 rfl rfl)
theorem dX1_piece_82 : decode cX1_piece 82 = .ok (.iadd, 1) := dk_96 (dk_at dksX1_piece_3 12 rfl rfl)
theorem dX1_piece_83 : decode cX1_piece 83 = .ok (.iconst 2, 1) := dk_5 (dk_at dksX1_piece_3 13 rfl rfl)
theorem dX1_piece_84 : decode cX1_piece 84 = .ok (.isub, 1) := dk_100 (dk_at dksX1_piece_3 14 rfl rfl)
theorem dX1_piece_85 : decode cX1_piece 85 = .ok (.iaload, 1) := dk_46 (dk_at dksX1_piece_3 15 rfl rfl)
theorem dX1_piece_86 : decode cX1_piece 86 = .ok (.ireturn, 1) := dk_172 (dk_at dksX1_piece_3 16 rfl rfl)
abbrev cX1_drawnLast : ByteArray := prog_9_method_49_code
def yX1_drawnLast : MethodName := ⟨RX1, "drawnLast", "(III)I"⟩
def dkwX1_drawnLast_3 : List UInt8 := [54, 4, 132, 5, 1, 167, 255, 211, 21, 4, 172]
abbrev dktX1_drawnLast_3 : List UInt8 := dkwX1_drawnLast_3 ++ []
def dkwX1_drawnLast_2 : List UInt8 := [180, 0, 34, 21, 5, 46, 104, 27, 28, 29, 182, 0, 173, 153, 0, 8, 21, 5, 167, 0, 5, 21, 4]
abbrev dktX1_drawnLast_2 : List UInt8 := dkwX1_drawnLast_2 ++ dktX1_drawnLast_3
def dkwX1_drawnLast_1 : List UInt8 := [54, 4, 3, 54, 5, 21, 5, 42, 180, 0, 151, 162, 0, 42, 42, 42, 180, 0, 31, 16, 7, 42]
abbrev dktX1_drawnLast_1 : List UInt8 := dkwX1_drawnLast_1 ++ dktX1_drawnLast_2
def dkwX1_drawnLast_0 : List UInt8 := [27, 28, 29, 184, 0, 170, 154, 0, 6, 16, 154, 172, 42, 182, 0, 161, 154, 0, 6, 16, 152, 172, 16, 150]
abbrev dktX1_drawnLast_0 : List UInt8 := dkwX1_drawnLast_0 ++ dktX1_drawnLast_1
theorem dksX1_drawnLast_0 : cX1_drawnLast.data.toList.drop 0 = dktX1_drawnLast_0 := by decide +kernel
theorem dksX1_drawnLast_1 : cX1_drawnLast.data.toList.drop 24 = dktX1_drawnLast_1 := dk_seg dksX1_drawnLast_0 24 rfl rfl
theorem dksX1_drawnLast_2 : cX1_drawnLast.data.toList.drop 46 = dktX1_drawnLast_2 := dk_seg dksX1_drawnLast_1 22 rfl rfl
theorem dksX1_drawnLast_3 : cX1_drawnLast.data.toList.drop 69 = dktX1_drawnLast_3 := dk_seg dksX1_drawnLast_2 23 rfl rfl
theorem dX1_drawnLast_0 : decode cX1_drawnLast 0 = .ok (.iload_n 1, 1) := dk_27 (dk_at dksX1_drawnLast_0 0 rfl rfl)
theorem dX1_drawnLast_1 : decode cX1_drawnLast 1 = .ok (.iload_n 2, 1) := dk_28 (dk_at dksX1_drawnLast_0 1 rfl rfl)
theorem dX1_drawnLast_2 : decode cX1_drawnLast 2 = .ok (.iload_n 3, 1) := dk_29 (dk_at dksX1_drawnLast_0 2 rfl rfl)
theorem dX1_drawnLast_3 : decode cX1_drawnLast 3 = .ok (.invokestatic 170, 3) := dk_184 0 170 (dk_at dksX1_drawnLast_0 3 rfl rfl)
theorem dX1_drawnLast_6 : decode cX1_drawnLast 6 = .ok (.ifCond .ne 6, 3) := dk_154 0 6 (dk_at dksX1_drawnLast_0 6 rfl rfl)
theorem dX1_drawnLast_9 : decode cX1_drawnLast 9 = .ok (.bipush (-102), 2) := dk_16 154 (dk_at dksX1_drawnLast_0 9 rfl rfl)
theorem dX1_drawnLast_11 : decode cX1_drawnLast 11 = .ok (.ireturn, 1) := dk_172 (dk_at dksX1_drawnLast_0 11 rfl rfl)
theorem dX1_drawnLast_12 : decode cX1_drawnLast 12 = .ok (.aload_n 0, 1) := dk_42 (dk_at dksX1_drawnLast_0 12 rfl rfl)
theorem dX1_drawnLast_13 : decode cX1_drawnLast 13 = .ok (.invokevirtual 161, 3) := dk_182 0 161 (dk_at dksX1_drawnLast_0 13 rfl rfl)
theorem dX1_drawnLast_16 : decode cX1_drawnLast 16 = .ok (.ifCond .ne 6, 3) := dk_154 0 6 (dk_at dksX1_drawnLast_0 16 rfl rfl)
theorem dX1_drawnLast_19 : decode cX1_drawnLast 19 = .ok (.bipush (-104), 2) := dk_16 152 (dk_at dksX1_drawnLast_0 19 rfl rfl)
theorem dX1_drawnLast_21 : decode cX1_drawnLast 21 = .ok (.ireturn, 1) := dk_172 (dk_at dksX1_drawnLast_0 21 rfl rfl)
theorem dX1_drawnLast_22 : decode cX1_drawnLast 22 = .ok (.bipush (-106), 2) := dk_16 150 (dk_at dksX1_drawnLast_0 22 rfl rfl)
theorem dX1_drawnLast_24 : decode cX1_drawnLast 24 = .ok (.istore 4, 2) := dk_54 4 (dk_at dksX1_drawnLast_1 0 rfl rfl)
theorem dX1_drawnLast_26 : decode cX1_drawnLast 26 = .ok (.iconst 0, 1) := dk_3 (dk_at dksX1_drawnLast_1 2 rfl rfl)
theorem dX1_drawnLast_27 : decode cX1_drawnLast 27 = .ok (.istore 5, 2) := dk_54 5 (dk_at dksX1_drawnLast_1 3 rfl rfl)
theorem dX1_drawnLast_29 : decode cX1_drawnLast 29 = .ok (.iload 5, 2) := dk_21 5 (dk_at dksX1_drawnLast_1 5 rfl rfl)
theorem dX1_drawnLast_31 : decode cX1_drawnLast 31 = .ok (.aload_n 0, 1) := dk_42 (dk_at dksX1_drawnLast_1 7 rfl rfl)
theorem dX1_drawnLast_32 : decode cX1_drawnLast 32 = .ok (.getfield 151, 3) := dk_180 0 151 (dk_at dksX1_drawnLast_1 8 rfl rfl)
theorem dX1_drawnLast_35 : decode cX1_drawnLast 35 = .ok (.if_icmp .ge 42, 3) := dk_162 0 42 (dk_at dksX1_drawnLast_1 11 rfl rfl)
theorem dX1_drawnLast_38 : decode cX1_drawnLast 38 = .ok (.aload_n 0, 1) := dk_42 (dk_at dksX1_drawnLast_1 14 rfl rfl)
theorem dX1_drawnLast_39 : decode cX1_drawnLast 39 = .ok (.aload_n 0, 1) := dk_42 (dk_at dksX1_drawnLast_1 15 rfl rfl)
theorem dX1_drawnLast_40 : decode cX1_drawnLast 40 = .ok (.getfield 31, 3) := dk_180 0 31 (dk_at dksX1_drawnLast_1 16 rfl rfl)
theorem dX1_drawnLast_43 : decode cX1_drawnLast 43 = .ok (.bipush 7, 2) := dk_16 7 (dk_at dksX1_drawnLast_1 19 rfl rfl)
theorem dX1_drawnLast_45 : decode cX1_drawnLast 45 = .ok (.aload_n 0, 1) := dk_42 (dk_at dksX1_drawnLast_1 21 rfl rfl)
theorem dX1_drawnLast_46 : decode cX1_drawnLast 46 = .ok (.getfield 34, 3) := dk_180 0 34 (dk_at dksX1_drawnLast_2 0 rfl rfl)
theorem dX1_drawnLast_49 : decode cX1_drawnLast 49 = .ok (.iload 5, 2) := dk_21 5 (dk_at dksX1_drawnLast_2 3 rfl rfl)
theorem dX1_drawnLast_51 : decode cX1_drawnLast 51 = .ok (.iaload, 1) := dk_46 (dk_at dksX1_drawnLast_2 5 rfl rfl)
theorem dX1_drawnLast_52 : decode cX1_drawnLast 52 = .ok (.imul, 1) := dk_104 (dk_at dksX1_drawnLast_2 6 rfl rfl)
theorem dX1_drawnLast_53 : decode cX1_drawnLast 53 = .ok (.iload_n 1, 1) := dk_27 (dk_at dksX1_drawnLast_2 7 rfl rfl)
theorem dX1_drawnLast_54 : decode cX1_drawnLast 54 = .ok (.iload_n 2, 1) := dk_28 (dk_at dksX1_drawnLast_2 8 rfl rfl)
theorem dX1_drawnLast_55 : decode cX1_drawnLast 55 = .ok (.iload_n 3, 1) := dk_29 (dk_at dksX1_drawnLast_2 9 rfl rfl)
theorem dX1_drawnLast_56 : decode cX1_drawnLast 56 = .ok (.invokevirtual 173, 3) := dk_182 0 173 (dk_at dksX1_drawnLast_2 10 rfl rfl)
theorem dX1_drawnLast_59 : decode cX1_drawnLast 59 = .ok (.ifCond .eq 8, 3) := dk_153 0 8 (dk_at dksX1_drawnLast_2 13 rfl rfl)
theorem dX1_drawnLast_62 : decode cX1_drawnLast 62 = .ok (.iload 5, 2) := dk_21 5 (dk_at dksX1_drawnLast_2 16 rfl rfl)
theorem dX1_drawnLast_64 : decode cX1_drawnLast 64 = .ok (.goto 5, 3) := dk_167 0 5 (dk_at dksX1_drawnLast_2 18 rfl rfl)
theorem dX1_drawnLast_67 : decode cX1_drawnLast 67 = .ok (.iload 4, 2) := dk_21 4 (dk_at dksX1_drawnLast_2 21 rfl rfl)
theorem dX1_drawnLast_69 : decode cX1_drawnLast 69 = .ok (.istore 4, 2) := dk_54 4 (dk_at dksX1_drawnLast_3 0 rfl rfl)
theorem dX1_drawnLast_71 : decode cX1_drawnLast 71 = .ok (.iinc 5 1, 3) := dk_132 5 1 (dk_at dksX1_drawnLast_3 2 rfl rfl)
theorem dX1_drawnLast_74 : decode cX1_drawnLast 74 = .ok (.goto (-45), 3) := dk_167 255 211 (dk_at dksX1_drawnLast_3 5 rfl rfl)
theorem dX1_drawnLast_77 : decode cX1_drawnLast 77 = .ok (.iload 4, 2) := dk_21 4 (dk_at dksX1_drawnLast_3 8 rfl rfl)
theorem dX1_drawnLast_79 : decode cX1_drawnLast 79 = .ok (.ireturn, 1) := dk_172 (dk_at dksX1_drawnLast_3 10 rfl rfl)
abbrev cX1_isPoint : ByteArray := prog_9_method_47_code
def yX1_isPoint : MethodName := ⟨RX1, "isPoint", "(III)Z"⟩
def dkwX1_isPoint_1 : List UInt8 := [4, 184, 0, 60, 153, 0, 7, 4, 167, 0, 4, 3, 172]
abbrev dktX1_isPoint_1 : List UInt8 := dkwX1_isPoint_1 ++ []
def dkwX1_isPoint_0 : List UInt8 := [26, 16, 224, 16, 31, 184, 0, 60, 153, 0, 27, 27, 16, 224, 16, 31, 184, 0, 60, 153, 0, 16, 28, 3]
abbrev dktX1_isPoint_0 : List UInt8 := dkwX1_isPoint_0 ++ dktX1_isPoint_1
theorem dksX1_isPoint_0 : cX1_isPoint.data.toList.drop 0 = dktX1_isPoint_0 := by decide +kernel
theorem dksX1_isPoint_1 : cX1_isPoint.data.toList.drop 24 = dktX1_isPoint_1 := dk_seg dksX1_isPoint_0 24 rfl rfl
theorem dX1_isPoint_0 : decode cX1_isPoint 0 = .ok (.iload_n 0, 1) := dk_26 (dk_at dksX1_isPoint_0 0 rfl rfl)
theorem dX1_isPoint_1 : decode cX1_isPoint 1 = .ok (.bipush (-32), 2) := dk_16 224 (dk_at dksX1_isPoint_0 1 rfl rfl)
theorem dX1_isPoint_3 : decode cX1_isPoint 3 = .ok (.bipush 31, 2) := dk_16 31 (dk_at dksX1_isPoint_0 3 rfl rfl)
theorem dX1_isPoint_5 : decode cX1_isPoint 5 = .ok (.invokestatic 60, 3) := dk_184 0 60 (dk_at dksX1_isPoint_0 5 rfl rfl)
theorem dX1_isPoint_8 : decode cX1_isPoint 8 = .ok (.ifCond .eq 27, 3) := dk_153 0 27 (dk_at dksX1_isPoint_0 8 rfl rfl)
theorem dX1_isPoint_11 : decode cX1_isPoint 11 = .ok (.iload_n 1, 1) := dk_27 (dk_at dksX1_isPoint_0 11 rfl rfl)
theorem dX1_isPoint_12 : decode cX1_isPoint 12 = .ok (.bipush (-32), 2) := dk_16 224 (dk_at dksX1_isPoint_0 12 rfl rfl)
theorem dX1_isPoint_14 : decode cX1_isPoint 14 = .ok (.bipush 31, 2) := dk_16 31 (dk_at dksX1_isPoint_0 14 rfl rfl)
theorem dX1_isPoint_16 : decode cX1_isPoint 16 = .ok (.invokestatic 60, 3) := dk_184 0 60 (dk_at dksX1_isPoint_0 16 rfl rfl)
theorem dX1_isPoint_19 : decode cX1_isPoint 19 = .ok (.ifCond .eq 16, 3) := dk_153 0 16 (dk_at dksX1_isPoint_0 19 rfl rfl)
theorem dX1_isPoint_22 : decode cX1_isPoint 22 = .ok (.iload_n 2, 1) := dk_28 (dk_at dksX1_isPoint_0 22 rfl rfl)
theorem dX1_isPoint_23 : decode cX1_isPoint 23 = .ok (.iconst 0, 1) := dk_3 (dk_at dksX1_isPoint_0 23 rfl rfl)
theorem dX1_isPoint_24 : decode cX1_isPoint 24 = .ok (.iconst 1, 1) := dk_4 (dk_at dksX1_isPoint_1 0 rfl rfl)
theorem dX1_isPoint_25 : decode cX1_isPoint 25 = .ok (.invokestatic 60, 3) := dk_184 0 60 (dk_at dksX1_isPoint_1 1 rfl rfl)
theorem dX1_isPoint_28 : decode cX1_isPoint 28 = .ok (.ifCond .eq 7, 3) := dk_153 0 7 (dk_at dksX1_isPoint_1 4 rfl rfl)
theorem dX1_isPoint_31 : decode cX1_isPoint 31 = .ok (.iconst 1, 1) := dk_4 (dk_at dksX1_isPoint_1 7 rfl rfl)
theorem dX1_isPoint_32 : decode cX1_isPoint 32 = .ok (.goto 4, 3) := dk_167 0 4 (dk_at dksX1_isPoint_1 8 rfl rfl)
theorem dX1_isPoint_35 : decode cX1_isPoint 35 = .ok (.iconst 0, 1) := dk_3 (dk_at dksX1_isPoint_1 11 rfl rfl)
theorem dX1_isPoint_36 : decode cX1_isPoint 36 = .ok (.ireturn, 1) := dk_172 (dk_at dksX1_isPoint_1 12 rfl rfl)
abbrev cX1_isMet : ByteArray := prog_9_method_48_code
def yX1_isMet : MethodName := ⟨RX1, "isMet", "([IIIII)Z"⟩
def dkwX1_isMet_6 : List UInt8 := [167, 255, 140, 42, 21, 7, 181, 0, 167, 21, 6, 21, 7, 162, 0, 7, 4, 167, 0, 4, 3, 172]
abbrev dktX1_isMet_6 : List UInt8 := dkwX1_isMet_6 ++ []
def dkwX1_isMet_5 : List UInt8 := [181, 0, 164, 21, 11, 21, 7, 162, 0, 8, 21, 11, 167, 0, 5, 21, 7, 54, 7, 132, 8, 1]
abbrev dktX1_isMet_5 : List UInt8 := dkwX1_isMet_5 ++ dktX1_isMet_6
def dkwX1_isMet_4 : List UInt8 := [167, 0, 5, 21, 6, 54, 6, 42, 21, 11, 21, 7, 162, 0, 8, 21, 8, 167, 0, 7, 42, 180, 0, 164]
abbrev dktX1_isMet_4 : List UInt8 := dkwX1_isMet_4 ++ dktX1_isMet_5
def dkwX1_isMet_3 : List UInt8 := [6, 43, 28, 6, 96, 21, 8, 96, 46, 104, 21, 9, 100, 54, 11, 21, 10, 21, 6, 164, 0, 8, 21, 10]
abbrev dktX1_isMet_3 : List UInt8 := dkwX1_isMet_3 ++ dktX1_isMet_4
def dkwX1_isMet_2 : List UInt8 := [6, 21, 4, 104, 5, 96, 21, 5, 100, 54, 9, 6, 43, 28, 21, 8, 96, 46, 104, 21, 9, 100, 54, 10]
abbrev dktX1_isMet_2 : List UInt8 := dkwX1_isMet_2 ++ dktX1_isMet_3
def dkwX1_isMet_1 : List UInt8 := [54, 8, 21, 8, 5, 162, 0, 116, 21, 8, 154, 0, 14, 6, 29, 104, 4, 96, 21, 5, 96, 167, 0, 12]
abbrev dktX1_isMet_1 : List UInt8 := dkwX1_isMet_1 ++ dktX1_isMet_2
def dkwX1_isMet_0 : List UInt8 := [6, 43, 28, 5, 96, 46, 104, 54, 6, 6, 43, 28, 8, 96, 46, 104, 54, 7, 42, 5, 181, 0, 164, 3]
abbrev dktX1_isMet_0 : List UInt8 := dkwX1_isMet_0 ++ dktX1_isMet_1
theorem dksX1_isMet_0 : cX1_isMet.data.toList.drop 0 = dktX1_isMet_0 := by decide +kernel
theorem dksX1_isMet_1 : cX1_isMet.data.toList.drop 24 = dktX1_isMet_1 := dk_seg dksX1_isMet_0 24 rfl rfl
theorem dksX1_isMet_2 : cX1_isMet.data.toList.drop 48 = dktX1_isMet_2 := dk_seg dksX1_isMet_1 24 rfl rfl
theorem dksX1_isMet_3 : cX1_isMet.data.toList.drop 72 = dktX1_isMet_3 := dk_seg dksX1_isMet_2 24 rfl rfl
theorem dksX1_isMet_4 : cX1_isMet.data.toList.drop 96 = dktX1_isMet_4 := dk_seg dksX1_isMet_3 24 rfl rfl
theorem dksX1_isMet_5 : cX1_isMet.data.toList.drop 120 = dktX1_isMet_5 := dk_seg dksX1_isMet_4 24 rfl rfl
theorem dksX1_isMet_6 : cX1_isMet.data.toList.drop 142 = dktX1_isMet_6 := dk_seg dksX1_isMet_5 22 rfl rfl
theorem dX1_isMet_0 : decode cX1_isMet 0 = .ok (.iconst 3, 1) := dk_6 (dk_at dksX1_isMet_0 0 rfl rfl)
theorem dX1_isMet_1 : decode cX1_isMet 1 = .ok (.aload_n 1, 1) := dk_43 (dk_at dksX1_isMet_0 1 rfl rfl)
theorem dX1_isMet_2 : decode cX1_isMet 2 = .ok (.iload_n 2, 1) := dk_28 (dk_at dksX1_isMet_0 2 rfl rfl)
theorem dX1_isMet_3 : decode cX1_isMet 3 = .ok (.iconst 2, 1) := dk_5 (dk_at dksX1_isMet_0 3 rfl rfl)
theorem dX1_isMet_4 : decode cX1_isMet 4 = .ok (.iadd, 1) := dk_96 (dk_at dksX1_isMet_0 4 rfl rfl)
theorem dX1_isMet_5 : decode cX1_isMet 5 = .ok (.iaload, 1) := dk_46 (dk_at dksX1_isMet_0 5 rfl rfl)
theorem dX1_isMet_6 : decode cX1_isMet 6 = .ok (.imul, 1) := dk_104 (dk_at dksX1_isMet_0 6 rfl rfl)
theorem dX1_isMet_7 : decode cX1_isMet 7 = .ok (.istore 6, 2) := dk_54 6 (dk_at dksX1_isMet_0 7 rfl rfl)
theorem dX1_isMet_9 : decode cX1_isMet 9 = .ok (.iconst 3, 1) := dk_6 (dk_at dksX1_isMet_0 9 rfl rfl)
theorem dX1_isMet_10 : decode cX1_isMet 10 = .ok (.aload_n 1, 1) := dk_43 (dk_at dksX1_isMet_0 10 rfl rfl)
theorem dX1_isMet_11 : decode cX1_isMet 11 = .ok (.iload_n 2, 1) := dk_28 (dk_at dksX1_isMet_0 11 rfl rfl)
theorem dX1_isMet_12 : decode cX1_isMet 12 = .ok (.iconst 5, 1) := dk_8 (dk_at dksX1_isMet_0 12 rfl rfl)
theorem dX1_isMet_13 : decode cX1_isMet 13 = .ok (.iadd, 1) := dk_96 (dk_at dksX1_isMet_0 13 rfl rfl)
theorem dX1_isMet_14 : decode cX1_isMet 14 = .ok (.iaload, 1) := dk_46 (dk_at dksX1_isMet_0 14 rfl rfl)
theorem dX1_isMet_15 : decode cX1_isMet 15 = .ok (.imul, 1) := dk_104 (dk_at dksX1_isMet_0 15 rfl rfl)
theorem dX1_isMet_16 : decode cX1_isMet 16 = .ok (.istore 7, 2) := dk_54 7 (dk_at dksX1_isMet_0 16 rfl rfl)
theorem dX1_isMet_18 : decode cX1_isMet 18 = .ok (.aload_n 0, 1) := dk_42 (dk_at dksX1_isMet_0 18 rfl rfl)
theorem dX1_isMet_19 : decode cX1_isMet 19 = .ok (.iconst 2, 1) := dk_5 (dk_at dksX1_isMet_0 19 rfl rfl)
theorem dX1_isMet_20 : decode cX1_isMet 20 = .ok (.putfield 164, 3) := dk_181 0 164 (dk_at dksX1_isMet_0 20 rfl rfl)
theorem dX1_isMet_23 : decode cX1_isMet 23 = .ok (.iconst 0, 1) := dk_3 (dk_at dksX1_isMet_0 23 rfl rfl)
theorem dX1_isMet_24 : decode cX1_isMet 24 = .ok (.istore 8, 2) := dk_54 8 (dk_at dksX1_isMet_1 0 rfl rfl)
theorem dX1_isMet_26 : decode cX1_isMet 26 = .ok (.iload 8, 2) := dk_21 8 (dk_at dksX1_isMet_1 2 rfl rfl)
theorem dX1_isMet_28 : decode cX1_isMet 28 = .ok (.iconst 2, 1) := dk_5 (dk_at dksX1_isMet_1 4 rfl rfl)
theorem dX1_isMet_29 : decode cX1_isMet 29 = .ok (.if_icmp .ge 116, 3) := dk_162 0 116 (dk_at dksX1_isMet_1 5 rfl rfl)
theorem dX1_isMet_32 : decode cX1_isMet 32 = .ok (.iload 8, 2) := dk_21 8 (dk_at dksX1_isMet_1 8 rfl rfl)
theorem dX1_isMet_34 : decode cX1_isMet 34 = .ok (.ifCond .ne 14, 3) := dk_154 0 14 (dk_at dksX1_isMet_1 10 rfl rfl)
theorem dX1_isMet_37 : decode cX1_isMet 37 = .ok (.iconst 3, 1) := dk_6 (dk_at dksX1_isMet_1 13 rfl rfl)
theorem dX1_isMet_38 : decode cX1_isMet 38 = .ok (.iload_n 3, 1) := dk_29 (dk_at dksX1_isMet_1 14 rfl rfl)
theorem dX1_isMet_39 : decode cX1_isMet 39 = .ok (.imul, 1) := dk_104 (dk_at dksX1_isMet_1 15 rfl rfl)
theorem dX1_isMet_40 : decode cX1_isMet 40 = .ok (.iconst 1, 1) := dk_4 (dk_at dksX1_isMet_1 16 rfl rfl)
theorem dX1_isMet_41 : decode cX1_isMet 41 = .ok (.iadd, 1) := dk_96 (dk_at dksX1_isMet_1 17 rfl rfl)
theorem dX1_isMet_42 : decode cX1_isMet 42 = .ok (.iload 5, 2) := dk_21 5 (dk_at dksX1_isMet_1 18 rfl rfl)
theorem dX1_isMet_44 : decode cX1_isMet 44 = .ok (.iadd, 1) := dk_96 (dk_at dksX1_isMet_1 20 rfl rfl)
theorem dX1_isMet_45 : decode cX1_isMet 45 = .ok (.goto 12, 3) := dk_167 0 12 (dk_at dksX1_isMet_1 21 rfl rfl)
theorem dX1_isMet_48 : decode cX1_isMet 48 = .ok (.iconst 3, 1) := dk_6 (dk_at dksX1_isMet_2 0 rfl rfl)
theorem dX1_isMet_49 : decode cX1_isMet 49 = .ok (.iload 4, 2) := dk_21 4 (dk_at dksX1_isMet_2 1 rfl rfl)
theorem dX1_isMet_51 : decode cX1_isMet 51 = .ok (.imul, 1) := dk_104 (dk_at dksX1_isMet_2 3 rfl rfl)
theorem dX1_isMet_52 : decode cX1_isMet 52 = .ok (.iconst 2, 1) := dk_5 (dk_at dksX1_isMet_2 4 rfl rfl)
theorem dX1_isMet_53 : decode cX1_isMet 53 = .ok (.iadd, 1) := dk_96 (dk_at dksX1_isMet_2 5 rfl rfl)
theorem dX1_isMet_54 : decode cX1_isMet 54 = .ok (.iload 5, 2) := dk_21 5 (dk_at dksX1_isMet_2 6 rfl rfl)
theorem dX1_isMet_56 : decode cX1_isMet 56 = .ok (.isub, 1) := dk_100 (dk_at dksX1_isMet_2 8 rfl rfl)
theorem dX1_isMet_57 : decode cX1_isMet 57 = .ok (.istore 9, 2) := dk_54 9 (dk_at dksX1_isMet_2 9 rfl rfl)
theorem dX1_isMet_59 : decode cX1_isMet 59 = .ok (.iconst 3, 1) := dk_6 (dk_at dksX1_isMet_2 11 rfl rfl)
theorem dX1_isMet_60 : decode cX1_isMet 60 = .ok (.aload_n 1, 1) := dk_43 (dk_at dksX1_isMet_2 12 rfl rfl)
theorem dX1_isMet_61 : decode cX1_isMet 61 = .ok (.iload_n 2, 1) := dk_28 (dk_at dksX1_isMet_2 13 rfl rfl)
theorem dX1_isMet_62 : decode cX1_isMet 62 = .ok (.iload 8, 2) := dk_21 8 (dk_at dksX1_isMet_2 14 rfl rfl)
theorem dX1_isMet_64 : decode cX1_isMet 64 = .ok (.iadd, 1) := dk_96 (dk_at dksX1_isMet_2 16 rfl rfl)
theorem dX1_isMet_65 : decode cX1_isMet 65 = .ok (.iaload, 1) := dk_46 (dk_at dksX1_isMet_2 17 rfl rfl)
theorem dX1_isMet_66 : decode cX1_isMet 66 = .ok (.imul, 1) := dk_104 (dk_at dksX1_isMet_2 18 rfl rfl)
theorem dX1_isMet_67 : decode cX1_isMet 67 = .ok (.iload 9, 2) := dk_21 9 (dk_at dksX1_isMet_2 19 rfl rfl)
theorem dX1_isMet_69 : decode cX1_isMet 69 = .ok (.isub, 1) := dk_100 (dk_at dksX1_isMet_2 21 rfl rfl)
theorem dX1_isMet_70 : decode cX1_isMet 70 = .ok (.istore 10, 2) := dk_54 10 (dk_at dksX1_isMet_2 22 rfl rfl)
theorem dX1_isMet_72 : decode cX1_isMet 72 = .ok (.iconst 3, 1) := dk_6 (dk_at dksX1_isMet_3 0 rfl rfl)
theorem dX1_isMet_73 : decode cX1_isMet 73 = .ok (.aload_n 1, 1) := dk_43 (dk_at dksX1_isMet_3 1 rfl rfl)
theorem dX1_isMet_74 : decode cX1_isMet 74 = .ok (.iload_n 2, 1) := dk_28 (dk_at dksX1_isMet_3 2 rfl rfl)
theorem dX1_isMet_75 : decode cX1_isMet 75 = .ok (.iconst 3, 1) := dk_6 (dk_at dksX1_isMet_3 3 rfl rfl)
theorem dX1_isMet_76 : decode cX1_isMet 76 = .ok (.iadd, 1) := dk_96 (dk_at dksX1_isMet_3 4 rfl rfl)
theorem dX1_isMet_77 : decode cX1_isMet 77 = .ok (.iload 8, 2) := dk_21 8 (dk_at dksX1_isMet_3 5 rfl rfl)
theorem dX1_isMet_79 : decode cX1_isMet 79 = .ok (.iadd, 1) := dk_96 (dk_at dksX1_isMet_3 7 rfl rfl)
theorem dX1_isMet_80 : decode cX1_isMet 80 = .ok (.iaload, 1) := dk_46 (dk_at dksX1_isMet_3 8 rfl rfl)
theorem dX1_isMet_81 : decode cX1_isMet 81 = .ok (.imul, 1) := dk_104 (dk_at dksX1_isMet_3 9 rfl rfl)
theorem dX1_isMet_82 : decode cX1_isMet 82 = .ok (.iload 9, 2) := dk_21 9 (dk_at dksX1_isMet_3 10 rfl rfl)
theorem dX1_isMet_84 : decode cX1_isMet 84 = .ok (.isub, 1) := dk_100 (dk_at dksX1_isMet_3 12 rfl rfl)
theorem dX1_isMet_85 : decode cX1_isMet 85 = .ok (.istore 11, 2) := dk_54 11 (dk_at dksX1_isMet_3 13 rfl rfl)
theorem dX1_isMet_87 : decode cX1_isMet 87 = .ok (.iload 10, 2) := dk_21 10 (dk_at dksX1_isMet_3 15 rfl rfl)
theorem dX1_isMet_89 : decode cX1_isMet 89 = .ok (.iload 6, 2) := dk_21 6 (dk_at dksX1_isMet_3 17 rfl rfl)
theorem dX1_isMet_91 : decode cX1_isMet 91 = .ok (.if_icmp .le 8, 3) := dk_164 0 8 (dk_at dksX1_isMet_3 19 rfl rfl)
theorem dX1_isMet_94 : decode cX1_isMet 94 = .ok (.iload 10, 2) := dk_21 10 (dk_at dksX1_isMet_3 22 rfl rfl)
theorem dX1_isMet_96 : decode cX1_isMet 96 = .ok (.goto 5, 3) := dk_167 0 5 (dk_at dksX1_isMet_4 0 rfl rfl)
theorem dX1_isMet_99 : decode cX1_isMet 99 = .ok (.iload 6, 2) := dk_21 6 (dk_at dksX1_isMet_4 3 rfl rfl)
theorem dX1_isMet_101 : decode cX1_isMet 101 = .ok (.istore 6, 2) := dk_54 6 (dk_at dksX1_isMet_4 5 rfl rfl)
theorem dX1_isMet_103 : decode cX1_isMet 103 = .ok (.aload_n 0, 1) := dk_42 (dk_at dksX1_isMet_4 7 rfl rfl)
theorem dX1_isMet_104 : decode cX1_isMet 104 = .ok (.iload 11, 2) := dk_21 11 (dk_at dksX1_isMet_4 8 rfl rfl)
theorem dX1_isMet_106 : decode cX1_isMet 106 = .ok (.iload 7, 2) := dk_21 7 (dk_at dksX1_isMet_4 10 rfl rfl)
theorem dX1_isMet_108 : decode cX1_isMet 108 = .ok (.if_icmp .ge 8, 3) := dk_162 0 8 (dk_at dksX1_isMet_4 12 rfl rfl)
theorem dX1_isMet_111 : decode cX1_isMet 111 = .ok (.iload 8, 2) := dk_21 8 (dk_at dksX1_isMet_4 15 rfl rfl)
theorem dX1_isMet_113 : decode cX1_isMet 113 = .ok (.goto 7, 3) := dk_167 0 7 (dk_at dksX1_isMet_4 17 rfl rfl)
theorem dX1_isMet_116 : decode cX1_isMet 116 = .ok (.aload_n 0, 1) := dk_42 (dk_at dksX1_isMet_4 20 rfl rfl)
theorem dX1_isMet_117 : decode cX1_isMet 117 = .ok (.getfield 164, 3) := dk_180 0 164 (dk_at dksX1_isMet_4 21 rfl rfl)
theorem dX1_isMet_120 : decode cX1_isMet 120 = .ok (.putfield 164, 3) := dk_181 0 164 (dk_at dksX1_isMet_5 0 rfl rfl)
theorem dX1_isMet_123 : decode cX1_isMet 123 = .ok (.iload 11, 2) := dk_21 11 (dk_at dksX1_isMet_5 3 rfl rfl)
theorem dX1_isMet_125 : decode cX1_isMet 125 = .ok (.iload 7, 2) := dk_21 7 (dk_at dksX1_isMet_5 5 rfl rfl)
theorem dX1_isMet_127 : decode cX1_isMet 127 = .ok (.if_icmp .ge 8, 3) := dk_162 0 8 (dk_at dksX1_isMet_5 7 rfl rfl)
theorem dX1_isMet_130 : decode cX1_isMet 130 = .ok (.iload 11, 2) := dk_21 11 (dk_at dksX1_isMet_5 10 rfl rfl)
theorem dX1_isMet_132 : decode cX1_isMet 132 = .ok (.goto 5, 3) := dk_167 0 5 (dk_at dksX1_isMet_5 12 rfl rfl)
theorem dX1_isMet_135 : decode cX1_isMet 135 = .ok (.iload 7, 2) := dk_21 7 (dk_at dksX1_isMet_5 15 rfl rfl)
theorem dX1_isMet_137 : decode cX1_isMet 137 = .ok (.istore 7, 2) := dk_54 7 (dk_at dksX1_isMet_5 17 rfl rfl)
theorem dX1_isMet_139 : decode cX1_isMet 139 = .ok (.iinc 8 1, 3) := dk_132 8 1 (dk_at dksX1_isMet_5 19 rfl rfl)
theorem dX1_isMet_142 : decode cX1_isMet 142 = .ok (.goto (-116), 3) := dk_167 255 140 (dk_at dksX1_isMet_6 0 rfl rfl)
theorem dX1_isMet_145 : decode cX1_isMet 145 = .ok (.aload_n 0, 1) := dk_42 (dk_at dksX1_isMet_6 3 rfl rfl)
theorem dX1_isMet_146 : decode cX1_isMet 146 = .ok (.iload 7, 2) := dk_21 7 (dk_at dksX1_isMet_6 4 rfl rfl)
theorem dX1_isMet_148 : decode cX1_isMet 148 = .ok (.putfield 167, 3) := dk_181 0 167 (dk_at dksX1_isMet_6 6 rfl rfl)
theorem dX1_isMet_151 : decode cX1_isMet 151 = .ok (.iload 6, 2) := dk_21 6 (dk_at dksX1_isMet_6 9 rfl rfl)
theorem dX1_isMet_153 : decode cX1_isMet 153 = .ok (.iload 7, 2) := dk_21 7 (dk_at dksX1_isMet_6 11 rfl rfl)
theorem dX1_isMet_155 : decode cX1_isMet 155 = .ok (.if_icmp .ge 7, 3) := dk_162 0 7 (dk_at dksX1_isMet_6 13 rfl rfl)
theorem dX1_isMet_158 : decode cX1_isMet 158 = .ok (.iconst 1, 1) := dk_4 (dk_at dksX1_isMet_6 16 rfl rfl)
theorem dX1_isMet_159 : decode cX1_isMet 159 = .ok (.goto 4, 3) := dk_167 0 4 (dk_at dksX1_isMet_6 17 rfl rfl)
theorem dX1_isMet_162 : decode cX1_isMet 162 = .ok (.iconst 0, 1) := dk_3 (dk_at dksX1_isMet_6 20 rfl rfl)
theorem dX1_isMet_163 : decode cX1_isMet 163 = .ok (.ireturn, 1) := dk_172 (dk_at dksX1_isMet_6 21 rfl rfl)
abbrev cX1_seen : ByteArray := prog_9_method_51_code
def yX1_seen : MethodName := ⟨RX1, "seen", "(III)I"⟩
def dkwX1_seen_0 : List UInt8 := [27, 28, 29, 184, 0, 170, 153, 0, 13, 42, 27, 28, 29, 182, 0, 183, 167, 0, 5, 16, 154, 172]
abbrev dktX1_seen_0 : List UInt8 := dkwX1_seen_0 ++ []
theorem dksX1_seen_0 : cX1_seen.data.toList.drop 0 = dktX1_seen_0 := by decide +kernel
theorem dX1_seen_0 : decode cX1_seen 0 = .ok (.iload_n 1, 1) := dk_27 (dk_at dksX1_seen_0 0 rfl rfl)
theorem dX1_seen_1 : decode cX1_seen 1 = .ok (.iload_n 2, 1) := dk_28 (dk_at dksX1_seen_0 1 rfl rfl)
theorem dX1_seen_2 : decode cX1_seen 2 = .ok (.iload_n 3, 1) := dk_29 (dk_at dksX1_seen_0 2 rfl rfl)
theorem dX1_seen_3 : decode cX1_seen 3 = .ok (.invokestatic 170, 3) := dk_184 0 170 (dk_at dksX1_seen_0 3 rfl rfl)
theorem dX1_seen_6 : decode cX1_seen 6 = .ok (.ifCond .eq 13, 3) := dk_153 0 13 (dk_at dksX1_seen_0 6 rfl rfl)
theorem dX1_seen_9 : decode cX1_seen 9 = .ok (.aload_n 0, 1) := dk_42 (dk_at dksX1_seen_0 9 rfl rfl)
theorem dX1_seen_10 : decode cX1_seen 10 = .ok (.iload_n 1, 1) := dk_27 (dk_at dksX1_seen_0 10 rfl rfl)
theorem dX1_seen_11 : decode cX1_seen 11 = .ok (.iload_n 2, 1) := dk_28 (dk_at dksX1_seen_0 11 rfl rfl)
theorem dX1_seen_12 : decode cX1_seen 12 = .ok (.iload_n 3, 1) := dk_29 (dk_at dksX1_seen_0 12 rfl rfl)
theorem dX1_seen_13 : decode cX1_seen 13 = .ok (.invokevirtual 183, 3) := dk_182 0 183 (dk_at dksX1_seen_0 13 rfl rfl)
theorem dX1_seen_16 : decode cX1_seen 16 = .ok (.goto 5, 3) := dk_167 0 5 (dk_at dksX1_seen_0 16 rfl rfl)
theorem dX1_seen_19 : decode cX1_seen 19 = .ok (.bipush (-102), 2) := dk_16 154 (dk_at dksX1_seen_0 19 rfl rfl)
theorem dX1_seen_21 : decode cX1_seen 21 = .ok (.ireturn, 1) := dk_172 (dk_at dksX1_seen_0 21 rfl rfl)
abbrev cX1_look : ByteArray := prog_9_method_50_code
def yX1_look : MethodName := ⟨RX1, "look", "(III)I"⟩
def dkwX1_look_4 : List UInt8 := [132, 6, 1, 167, 255, 174, 21, 4, 172]
abbrev dktX1_look_4 : List UInt8 := dkwX1_look_4 ++ []
def dkwX1_look_3 : List UInt8 := [21, 5, 164, 0, 21, 21, 6, 54, 4, 42, 180, 0, 167, 54, 5, 42, 42, 180, 0, 164, 181, 0, 180]
abbrev dktX1_look_3 : List UInt8 := dkwX1_look_3 ++ dktX1_look_4
def dkwX1_look_2 : List UInt8 := [153, 0, 47, 42, 89, 180, 0, 177, 4, 96, 181, 0, 177, 21, 4, 16, 150, 159, 0, 12, 42, 180, 0, 167]
abbrev dktX1_look_2 : List UInt8 := dkwX1_look_2 ++ dktX1_look_3
def dkwX1_look_1 : List UInt8 := [21, 6, 182, 0, 75, 153, 0, 66, 42, 42, 180, 0, 7, 16, 7, 21, 6, 104, 27, 28, 29, 182, 0, 173]
abbrev dktX1_look_1 : List UInt8 := dkwX1_look_1 ++ dktX1_look_2
def dkwX1_look_0 : List UInt8 := [16, 150, 54, 4, 3, 54, 5, 42, 3, 181, 0, 177, 3, 54, 6, 21, 6, 16, 12, 162, 0, 81, 42]
abbrev dktX1_look_0 : List UInt8 := dkwX1_look_0 ++ dktX1_look_1
theorem dksX1_look_0 : cX1_look.data.toList.drop 0 = dktX1_look_0 := by decide +kernel
theorem dksX1_look_1 : cX1_look.data.toList.drop 23 = dktX1_look_1 := dk_seg dksX1_look_0 23 rfl rfl
theorem dksX1_look_2 : cX1_look.data.toList.drop 47 = dktX1_look_2 := dk_seg dksX1_look_1 24 rfl rfl
theorem dksX1_look_3 : cX1_look.data.toList.drop 71 = dktX1_look_3 := dk_seg dksX1_look_2 24 rfl rfl
theorem dksX1_look_4 : cX1_look.data.toList.drop 94 = dktX1_look_4 := dk_seg dksX1_look_3 23 rfl rfl
theorem dX1_look_0 : decode cX1_look 0 = .ok (.bipush (-106), 2) := dk_16 150 (dk_at dksX1_look_0 0 rfl rfl)
theorem dX1_look_2 : decode cX1_look 2 = .ok (.istore 4, 2) := dk_54 4 (dk_at dksX1_look_0 2 rfl rfl)
theorem dX1_look_4 : decode cX1_look 4 = .ok (.iconst 0, 1) := dk_3 (dk_at dksX1_look_0 4 rfl rfl)
theorem dX1_look_5 : decode cX1_look 5 = .ok (.istore 5, 2) := dk_54 5 (dk_at dksX1_look_0 5 rfl rfl)
theorem dX1_look_7 : decode cX1_look 7 = .ok (.aload_n 0, 1) := dk_42 (dk_at dksX1_look_0 7 rfl rfl)
theorem dX1_look_8 : decode cX1_look 8 = .ok (.iconst 0, 1) := dk_3 (dk_at dksX1_look_0 8 rfl rfl)
theorem dX1_look_9 : decode cX1_look 9 = .ok (.putfield 177, 3) := dk_181 0 177 (dk_at dksX1_look_0 9 rfl rfl)
theorem dX1_look_12 : decode cX1_look 12 = .ok (.iconst 0, 1) := dk_3 (dk_at dksX1_look_0 12 rfl rfl)
theorem dX1_look_13 : decode cX1_look 13 = .ok (.istore 6, 2) := dk_54 6 (dk_at dksX1_look_0 13 rfl rfl)
theorem dX1_look_15 : decode cX1_look 15 = .ok (.iload 6, 2) := dk_21 6 (dk_at dksX1_look_0 15 rfl rfl)
theorem dX1_look_17 : decode cX1_look 17 = .ok (.bipush 12, 2) := dk_16 12 (dk_at dksX1_look_0 17 rfl rfl)
theorem dX1_look_19 : decode cX1_look 19 = .ok (.if_icmp .ge 81, 3) := dk_162 0 81 (dk_at dksX1_look_0 19 rfl rfl)
theorem dX1_look_22 : decode cX1_look 22 = .ok (.aload_n 0, 1) := dk_42 (dk_at dksX1_look_0 22 rfl rfl)
theorem dX1_look_23 : decode cX1_look 23 = .ok (.iload 6, 2) := dk_21 6 (dk_at dksX1_look_1 0 rfl rfl)
theorem dX1_look_25 : decode cX1_look 25 = .ok (.invokevirtual 75, 3) := dk_182 0 75 (dk_at dksX1_look_1 2 rfl rfl)
theorem dX1_look_28 : decode cX1_look 28 = .ok (.ifCond .eq 66, 3) := dk_153 0 66 (dk_at dksX1_look_1 5 rfl rfl)
theorem dX1_look_31 : decode cX1_look 31 = .ok (.aload_n 0, 1) := dk_42 (dk_at dksX1_look_1 8 rfl rfl)
theorem dX1_look_32 : decode cX1_look 32 = .ok (.aload_n 0, 1) := dk_42 (dk_at dksX1_look_1 9 rfl rfl)
theorem dX1_look_33 : decode cX1_look 33 = .ok (.getfield 7, 3) := dk_180 0 7 (dk_at dksX1_look_1 10 rfl rfl)
theorem dX1_look_36 : decode cX1_look 36 = .ok (.bipush 7, 2) := dk_16 7 (dk_at dksX1_look_1 13 rfl rfl)
theorem dX1_look_38 : decode cX1_look 38 = .ok (.iload 6, 2) := dk_21 6 (dk_at dksX1_look_1 15 rfl rfl)
theorem dX1_look_40 : decode cX1_look 40 = .ok (.imul, 1) := dk_104 (dk_at dksX1_look_1 17 rfl rfl)
theorem dX1_look_41 : decode cX1_look 41 = .ok (.iload_n 1, 1) := dk_27 (dk_at dksX1_look_1 18 rfl rfl)
theorem dX1_look_42 : decode cX1_look 42 = .ok (.iload_n 2, 1) := dk_28 (dk_at dksX1_look_1 19 rfl rfl)
theorem dX1_look_43 : decode cX1_look 43 = .ok (.iload_n 3, 1) := dk_29 (dk_at dksX1_look_1 20 rfl rfl)
theorem dX1_look_44 : decode cX1_look 44 = .ok (.invokevirtual 173, 3) := dk_182 0 173 (dk_at dksX1_look_1 21 rfl rfl)
theorem dX1_look_47 : decode cX1_look 47 = .ok (.ifCond .eq 47, 3) := dk_153 0 47 (dk_at dksX1_look_2 0 rfl rfl)
theorem dX1_look_50 : decode cX1_look 50 = .ok (.aload_n 0, 1) := dk_42 (dk_at dksX1_look_2 3 rfl rfl)
theorem dX1_look_51 : decode cX1_look 51 = .ok (.dup, 1) := dk_89 (dk_at dksX1_look_2 4 rfl rfl)
theorem dX1_look_52 : decode cX1_look 52 = .ok (.getfield 177, 3) := dk_180 0 177 (dk_at dksX1_look_2 5 rfl rfl)
theorem dX1_look_55 : decode cX1_look 55 = .ok (.iconst 1, 1) := dk_4 (dk_at dksX1_look_2 8 rfl rfl)
theorem dX1_look_56 : decode cX1_look 56 = .ok (.iadd, 1) := dk_96 (dk_at dksX1_look_2 9 rfl rfl)
theorem dX1_look_57 : decode cX1_look 57 = .ok (.putfield 177, 3) := dk_181 0 177 (dk_at dksX1_look_2 10 rfl rfl)
theorem dX1_look_60 : decode cX1_look 60 = .ok (.iload 4, 2) := dk_21 4 (dk_at dksX1_look_2 13 rfl rfl)
theorem dX1_look_62 : decode cX1_look 62 = .ok (.bipush (-106), 2) := dk_16 150 (dk_at dksX1_look_2 15 rfl rfl)
theorem dX1_look_64 : decode cX1_look 64 = .ok (.if_icmp .eq 12, 3) := dk_159 0 12 (dk_at dksX1_look_2 17 rfl rfl)
theorem dX1_look_67 : decode cX1_look 67 = .ok (.aload_n 0, 1) := dk_42 (dk_at dksX1_look_2 20 rfl rfl)
theorem dX1_look_68 : decode cX1_look 68 = .ok (.getfield 167, 3) := dk_180 0 167 (dk_at dksX1_look_2 21 rfl rfl)
theorem dX1_look_71 : decode cX1_look 71 = .ok (.iload 5, 2) := dk_21 5 (dk_at dksX1_look_3 0 rfl rfl)
theorem dX1_look_73 : decode cX1_look 73 = .ok (.if_icmp .le 21, 3) := dk_164 0 21 (dk_at dksX1_look_3 2 rfl rfl)
theorem dX1_look_76 : decode cX1_look 76 = .ok (.iload 6, 2) := dk_21 6 (dk_at dksX1_look_3 5 rfl rfl)
theorem dX1_look_78 : decode cX1_look 78 = .ok (.istore 4, 2) := dk_54 4 (dk_at dksX1_look_3 7 rfl rfl)
theorem dX1_look_80 : decode cX1_look 80 = .ok (.aload_n 0, 1) := dk_42 (dk_at dksX1_look_3 9 rfl rfl)
theorem dX1_look_81 : decode cX1_look 81 = .ok (.getfield 167, 3) := dk_180 0 167 (dk_at dksX1_look_3 10 rfl rfl)
theorem dX1_look_84 : decode cX1_look 84 = .ok (.istore 5, 2) := dk_54 5 (dk_at dksX1_look_3 13 rfl rfl)
theorem dX1_look_86 : decode cX1_look 86 = .ok (.aload_n 0, 1) := dk_42 (dk_at dksX1_look_3 15 rfl rfl)
theorem dX1_look_87 : decode cX1_look 87 = .ok (.aload_n 0, 1) := dk_42 (dk_at dksX1_look_3 16 rfl rfl)
theorem dX1_look_88 : decode cX1_look 88 = .ok (.getfield 164, 3) := dk_180 0 164 (dk_at dksX1_look_3 17 rfl rfl)
theorem dX1_look_91 : decode cX1_look 91 = .ok (.putfield 180, 3) := dk_181 0 180 (dk_at dksX1_look_3 20 rfl rfl)
theorem dX1_look_94 : decode cX1_look 94 = .ok (.iinc 6 1, 3) := dk_132 6 1 (dk_at dksX1_look_4 0 rfl rfl)
theorem dX1_look_97 : decode cX1_look 97 = .ok (.goto (-82), 3) := dk_167 255 174 (dk_at dksX1_look_4 3 rfl rfl)
theorem dX1_look_100 : decode cX1_look 100 = .ok (.iload 4, 2) := dk_21 4 (dk_at dksX1_look_4 6 rfl rfl)
theorem dX1_look_102 : decode cX1_look 102 = .ok (.ireturn, 1) := dk_172 (dk_at dksX1_look_4 8 rfl rfl)
abbrev cX1_face : ByteArray := prog_9_method_52_code
def yX1_face : MethodName := ⟨RX1, "face", "(III)I"⟩
def dkwX1_face_1 : List UInt8 := [16, 150, 167, 0, 7, 42, 180, 0, 180, 172]
abbrev dktX1_face_1 : List UInt8 := dkwX1_face_1 ++ []
def dkwX1_face_0 : List UInt8 := [27, 28, 29, 184, 0, 170, 154, 0, 6, 16, 154, 172, 42, 27, 28, 29, 182, 0, 183, 16, 150, 160, 0, 8]
abbrev dktX1_face_0 : List UInt8 := dkwX1_face_0 ++ dktX1_face_1
theorem dksX1_face_0 : cX1_face.data.toList.drop 0 = dktX1_face_0 := by decide +kernel
theorem dksX1_face_1 : cX1_face.data.toList.drop 24 = dktX1_face_1 := dk_seg dksX1_face_0 24 rfl rfl
theorem dX1_face_0 : decode cX1_face 0 = .ok (.iload_n 1, 1) := dk_27 (dk_at dksX1_face_0 0 rfl rfl)
theorem dX1_face_1 : decode cX1_face 1 = .ok (.iload_n 2, 1) := dk_28 (dk_at dksX1_face_0 1 rfl rfl)
theorem dX1_face_2 : decode cX1_face 2 = .ok (.iload_n 3, 1) := dk_29 (dk_at dksX1_face_0 2 rfl rfl)
theorem dX1_face_3 : decode cX1_face 3 = .ok (.invokestatic 170, 3) := dk_184 0 170 (dk_at dksX1_face_0 3 rfl rfl)
theorem dX1_face_6 : decode cX1_face 6 = .ok (.ifCond .ne 6, 3) := dk_154 0 6 (dk_at dksX1_face_0 6 rfl rfl)
theorem dX1_face_9 : decode cX1_face 9 = .ok (.bipush (-102), 2) := dk_16 154 (dk_at dksX1_face_0 9 rfl rfl)
theorem dX1_face_11 : decode cX1_face 11 = .ok (.ireturn, 1) := dk_172 (dk_at dksX1_face_0 11 rfl rfl)
theorem dX1_face_12 : decode cX1_face 12 = .ok (.aload_n 0, 1) := dk_42 (dk_at dksX1_face_0 12 rfl rfl)
theorem dX1_face_13 : decode cX1_face 13 = .ok (.iload_n 1, 1) := dk_27 (dk_at dksX1_face_0 13 rfl rfl)
theorem dX1_face_14 : decode cX1_face 14 = .ok (.iload_n 2, 1) := dk_28 (dk_at dksX1_face_0 14 rfl rfl)
theorem dX1_face_15 : decode cX1_face 15 = .ok (.iload_n 3, 1) := dk_29 (dk_at dksX1_face_0 15 rfl rfl)
theorem dX1_face_16 : decode cX1_face 16 = .ok (.invokevirtual 183, 3) := dk_182 0 183 (dk_at dksX1_face_0 16 rfl rfl)
theorem dX1_face_19 : decode cX1_face 19 = .ok (.bipush (-106), 2) := dk_16 150 (dk_at dksX1_face_0 19 rfl rfl)
theorem dX1_face_21 : decode cX1_face 21 = .ok (.if_icmp .ne 8, 3) := dk_160 0 8 (dk_at dksX1_face_0 21 rfl rfl)
theorem dX1_face_24 : decode cX1_face 24 = .ok (.bipush (-106), 2) := dk_16 150 (dk_at dksX1_face_1 0 rfl rfl)
theorem dX1_face_26 : decode cX1_face 26 = .ok (.goto 7, 3) := dk_167 0 7 (dk_at dksX1_face_1 2 rfl rfl)
theorem dX1_face_29 : decode cX1_face 29 = .ok (.aload_n 0, 1) := dk_42 (dk_at dksX1_face_1 5 rfl rfl)
theorem dX1_face_30 : decode cX1_face 30 = .ok (.getfield 180, 3) := dk_180 0 180 (dk_at dksX1_face_1 6 rfl rfl)
theorem dX1_face_33 : decode cX1_face 33 = .ok (.ireturn, 1) := dk_172 (dk_at dksX1_face_1 9 rfl rfl)
abbrev cX1_through : ByteArray := prog_9_method_53_code
def yX1_through : MethodName := ⟨RX1, "through", "(IIII)I"⟩
def dkwX1_through_6 : List UInt8 := [16, 150, 172]
abbrev dktX1_through_6 : List UInt8 := dkwX1_through_6 ++ []
def dkwX1_through_5 : List UInt8 := [159, 0, 10, 21, 6, 21, 4, 160, 0, 6, 21, 7, 172, 21, 8, 54, 5, 132, 6, 1, 167, 255, 144]
abbrev dktX1_through_5 : List UInt8 := dkwX1_through_5 ++ dktX1_through_6
def dkwX1_through_4 : List UInt8 := [164, 0, 13, 21, 9, 54, 7, 42, 180, 0, 167, 54, 8, 132, 9, 1, 167, 255, 190, 21, 7, 16, 150]
abbrev dktX1_through_4 : List UInt8 := dkwX1_through_4 ++ dktX1_through_5
def dkwX1_through_3 : List UInt8 := [27, 28, 29, 182, 0, 173, 153, 0, 31, 42, 180, 0, 167, 21, 5, 162, 0, 22, 42, 180, 0, 167, 21, 8]
abbrev dktX1_through_3 : List UInt8 := dkwX1_through_3 ++ dktX1_through_4
def dkwX1_through_2 : List UInt8 := [16, 12, 162, 0, 65, 42, 21, 9, 182, 0, 75, 153, 0, 50, 42, 42, 180, 0, 7, 16, 7, 21, 9, 104]
abbrev dktX1_through_2 : List UInt8 := dkwX1_through_2 ++ dktX1_through_3
def dkwX1_through_1 : List UInt8 := [54, 6, 21, 6, 21, 4, 163, 0, 111, 16, 150, 54, 7, 17, 252, 24, 54, 8, 3, 54, 9, 21, 9]
abbrev dktX1_through_1 : List UInt8 := dkwX1_through_1 ++ dktX1_through_2
def dkwX1_through_0 : List UInt8 := [27, 28, 29, 184, 0, 170, 153, 0, 8, 21, 4, 156, 0, 6, 16, 154, 172, 17, 3, 232, 54, 5, 3]
abbrev dktX1_through_0 : List UInt8 := dkwX1_through_0 ++ dktX1_through_1
theorem dksX1_through_0 : cX1_through.data.toList.drop 0 = dktX1_through_0 := by decide +kernel
theorem dksX1_through_1 : cX1_through.data.toList.drop 23 = dktX1_through_1 := dk_seg dksX1_through_0 23 rfl rfl
theorem dksX1_through_2 : cX1_through.data.toList.drop 46 = dktX1_through_2 := dk_seg dksX1_through_1 23 rfl rfl
theorem dksX1_through_3 : cX1_through.data.toList.drop 70 = dktX1_through_3 := dk_seg dksX1_through_2 24 rfl rfl
theorem dksX1_through_4 : cX1_through.data.toList.drop 94 = dktX1_through_4 := dk_seg dksX1_through_3 24 rfl rfl
theorem dksX1_through_5 : cX1_through.data.toList.drop 117 = dktX1_through_5 := dk_seg dksX1_through_4 23 rfl rfl
theorem dksX1_through_6 : cX1_through.data.toList.drop 140 = dktX1_through_6 := dk_seg dksX1_through_5 23 rfl rfl
theorem dX1_through_0 : decode cX1_through 0 = .ok (.iload_n 1, 1) := dk_27 (dk_at dksX1_through_0 0 rfl rfl)
theorem dX1_through_1 : decode cX1_through 1 = .ok (.iload_n 2, 1) := dk_28 (dk_at dksX1_through_0 1 rfl rfl)
theorem dX1_through_2 : decode cX1_through 2 = .ok (.iload_n 3, 1) := dk_29 (dk_at dksX1_through_0 2 rfl rfl)
theorem dX1_through_3 : decode cX1_through 3 = .ok (.invokestatic 170, 3) := dk_184 0 170 (dk_at dksX1_through_0 3 rfl rfl)
theorem dX1_through_6 : decode cX1_through 6 = .ok (.ifCond .eq 8, 3) := dk_153 0 8 (dk_at dksX1_through_0 6 rfl rfl)
theorem dX1_through_9 : decode cX1_through 9 = .ok (.iload 4, 2) := dk_21 4 (dk_at dksX1_through_0 9 rfl rfl)
theorem dX1_through_11 : decode cX1_through 11 = .ok (.ifCond .ge 6, 3) := dk_156 0 6 (dk_at dksX1_through_0 11 rfl rfl)
theorem dX1_through_14 : decode cX1_through 14 = .ok (.bipush (-102), 2) := dk_16 154 (dk_at dksX1_through_0 14 rfl rfl)
theorem dX1_through_16 : decode cX1_through 16 = .ok (.ireturn, 1) := dk_172 (dk_at dksX1_through_0 16 rfl rfl)
theorem dX1_through_17 : decode cX1_through 17 = .ok (.sipush 1000, 3) := dk_17 3 232 (dk_at dksX1_through_0 17 rfl rfl)
theorem dX1_through_20 : decode cX1_through 20 = .ok (.istore 5, 2) := dk_54 5 (dk_at dksX1_through_0 20 rfl rfl)
theorem dX1_through_22 : decode cX1_through 22 = .ok (.iconst 0, 1) := dk_3 (dk_at dksX1_through_0 22 rfl rfl)
theorem dX1_through_23 : decode cX1_through 23 = .ok (.istore 6, 2) := dk_54 6 (dk_at dksX1_through_1 0 rfl rfl)
theorem dX1_through_25 : decode cX1_through 25 = .ok (.iload 6, 2) := dk_21 6 (dk_at dksX1_through_1 2 rfl rfl)
theorem dX1_through_27 : decode cX1_through 27 = .ok (.iload 4, 2) := dk_21 4 (dk_at dksX1_through_1 4 rfl rfl)
theorem dX1_through_29 : decode cX1_through 29 = .ok (.if_icmp .gt 111, 3) := dk_163 0 111 (dk_at dksX1_through_1 6 rfl rfl)
theorem dX1_through_32 : decode cX1_through 32 = .ok (.bipush (-106), 2) := dk_16 150 (dk_at dksX1_through_1 9 rfl rfl)
theorem dX1_through_34 : decode cX1_through 34 = .ok (.istore 7, 2) := dk_54 7 (dk_at dksX1_through_1 11 rfl rfl)
theorem dX1_through_36 : decode cX1_through 36 = .ok (.sipush (-1000), 3) := dk_17 252 24 (dk_at dksX1_through_1 13 rfl rfl)
theorem dX1_through_39 : decode cX1_through 39 = .ok (.istore 8, 2) := dk_54 8 (dk_at dksX1_through_1 16 rfl rfl)
theorem dX1_through_41 : decode cX1_through 41 = .ok (.iconst 0, 1) := dk_3 (dk_at dksX1_through_1 18 rfl rfl)
theorem dX1_through_42 : decode cX1_through 42 = .ok (.istore 9, 2) := dk_54 9 (dk_at dksX1_through_1 19 rfl rfl)
theorem dX1_through_44 : decode cX1_through 44 = .ok (.iload 9, 2) := dk_21 9 (dk_at dksX1_through_1 21 rfl rfl)
theorem dX1_through_46 : decode cX1_through 46 = .ok (.bipush 12, 2) := dk_16 12 (dk_at dksX1_through_2 0 rfl rfl)
theorem dX1_through_48 : decode cX1_through 48 = .ok (.if_icmp .ge 65, 3) := dk_162 0 65 (dk_at dksX1_through_2 2 rfl rfl)
theorem dX1_through_51 : decode cX1_through 51 = .ok (.aload_n 0, 1) := dk_42 (dk_at dksX1_through_2 5 rfl rfl)
theorem dX1_through_52 : decode cX1_through 52 = .ok (.iload 9, 2) := dk_21 9 (dk_at dksX1_through_2 6 rfl rfl)
theorem dX1_through_54 : decode cX1_through 54 = .ok (.invokevirtual 75, 3) := dk_182 0 75 (dk_at dksX1_through_2 8 rfl rfl)
theorem dX1_through_57 : decode cX1_through 57 = .ok (.ifCond .eq 50, 3) := dk_153 0 50 (dk_at dksX1_through_2 11 rfl rfl)
theorem dX1_through_60 : decode cX1_through 60 = .ok (.aload_n 0, 1) := dk_42 (dk_at dksX1_through_2 14 rfl rfl)
theorem dX1_through_61 : decode cX1_through 61 = .ok (.aload_n 0, 1) := dk_42 (dk_at dksX1_through_2 15 rfl rfl)
theorem dX1_through_62 : decode cX1_through 62 = .ok (.getfield 7, 3) := dk_180 0 7 (dk_at dksX1_through_2 16 rfl rfl)
theorem dX1_through_65 : decode cX1_through 65 = .ok (.bipush 7, 2) := dk_16 7 (dk_at dksX1_through_2 19 rfl rfl)
theorem dX1_through_67 : decode cX1_through 67 = .ok (.iload 9, 2) := dk_21 9 (dk_at dksX1_through_2 21 rfl rfl)
theorem dX1_through_69 : decode cX1_through 69 = .ok (.imul, 1) := dk_104 (dk_at dksX1_through_2 23 rfl rfl)
theorem dX1_through_70 : decode cX1_through 70 = .ok (.iload_n 1, 1) := dk_27 (dk_at dksX1_through_3 0 rfl rfl)
theorem dX1_through_71 : decode cX1_through 71 = .ok (.iload_n 2, 1) := dk_28 (dk_at dksX1_through_3 1 rfl rfl)
theorem dX1_through_72 : decode cX1_through 72 = .ok (.iload_n 3, 1) := dk_29 (dk_at dksX1_through_3 2 rfl rfl)
theorem dX1_through_73 : decode cX1_through 73 = .ok (.invokevirtual 173, 3) := dk_182 0 173 (dk_at dksX1_through_3 3 rfl rfl)
theorem dX1_through_76 : decode cX1_through 76 = .ok (.ifCond .eq 31, 3) := dk_153 0 31 (dk_at dksX1_through_3 6 rfl rfl)
theorem dX1_through_79 : decode cX1_through 79 = .ok (.aload_n 0, 1) := dk_42 (dk_at dksX1_through_3 9 rfl rfl)
theorem dX1_through_80 : decode cX1_through 80 = .ok (.getfield 167, 3) := dk_180 0 167 (dk_at dksX1_through_3 10 rfl rfl)
theorem dX1_through_83 : decode cX1_through 83 = .ok (.iload 5, 2) := dk_21 5 (dk_at dksX1_through_3 13 rfl rfl)
theorem dX1_through_85 : decode cX1_through 85 = .ok (.if_icmp .ge 22, 3) := dk_162 0 22 (dk_at dksX1_through_3 15 rfl rfl)
theorem dX1_through_88 : decode cX1_through 88 = .ok (.aload_n 0, 1) := dk_42 (dk_at dksX1_through_3 18 rfl rfl)
theorem dX1_through_89 : decode cX1_through 89 = .ok (.getfield 167, 3) := dk_180 0 167 (dk_at dksX1_through_3 19 rfl rfl)
theorem dX1_through_92 : decode cX1_through 92 = .ok (.iload 8, 2) := dk_21 8 (dk_at dksX1_through_3 22 rfl rfl)
theorem dX1_through_94 : decode cX1_through 94 = .ok (.if_icmp .le 13, 3) := dk_164 0 13 (dk_at dksX1_through_4 0 rfl rfl)
theorem dX1_through_97 : decode cX1_through 97 = .ok (.iload 9, 2) := dk_21 9 (dk_at dksX1_through_4 3 rfl rfl)
theorem dX1_through_99 : decode cX1_through 99 = .ok (.istore 7, 2) := dk_54 7 (dk_at dksX1_through_4 5 rfl rfl)
theorem dX1_through_101 : decode cX1_through 101 = .ok (.aload_n 0, 1) := dk_42 (dk_at dksX1_through_4 7 rfl rfl)
theorem dX1_through_102 : decode cX1_through 102 = .ok (.getfield 167, 3) := dk_180 0 167 (dk_at dksX1_through_4 8 rfl rfl)
theorem dX1_through_105 : decode cX1_through 105 = .ok (.istore 8, 2) := dk_54 8 (dk_at dksX1_through_4 11 rfl rfl)
theorem dX1_through_107 : decode cX1_through 107 = .ok (.iinc 9 1, 3) := dk_132 9 1 (dk_at dksX1_through_4 13 rfl rfl)
theorem dX1_through_110 : decode cX1_through 110 = .ok (.goto (-66), 3) := dk_167 255 190 (dk_at dksX1_through_4 16 rfl rfl)
theorem dX1_through_113 : decode cX1_through 113 = .ok (.iload 7, 2) := dk_21 7 (dk_at dksX1_through_4 19 rfl rfl)
theorem dX1_through_115 : decode cX1_through 115 = .ok (.bipush (-106), 2) := dk_16 150 (dk_at dksX1_through_4 21 rfl rfl)
theorem dX1_through_117 : decode cX1_through 117 = .ok (.if_icmp .eq 10, 3) := dk_159 0 10 (dk_at dksX1_through_5 0 rfl rfl)
theorem dX1_through_120 : decode cX1_through 120 = .ok (.iload 6, 2) := dk_21 6 (dk_at dksX1_through_5 3 rfl rfl)
theorem dX1_through_122 : decode cX1_through 122 = .ok (.iload 4, 2) := dk_21 4 (dk_at dksX1_through_5 5 rfl rfl)
theorem dX1_through_124 : decode cX1_through 124 = .ok (.if_icmp .ne 6, 3) := dk_160 0 6 (dk_at dksX1_through_5 7 rfl rfl)
theorem dX1_through_127 : decode cX1_through 127 = .ok (.iload 7, 2) := dk_21 7 (dk_at dksX1_through_5 10 rfl rfl)
theorem dX1_through_129 : decode cX1_through 129 = .ok (.ireturn, 1) := dk_172 (dk_at dksX1_through_5 12 rfl rfl)
theorem dX1_through_130 : decode cX1_through 130 = .ok (.iload 8, 2) := dk_21 8 (dk_at dksX1_through_5 13 rfl rfl)
theorem dX1_through_132 : decode cX1_through 132 = .ok (.istore 5, 2) := dk_54 5 (dk_at dksX1_through_5 15 rfl rfl)
theorem dX1_through_134 : decode cX1_through 134 = .ok (.iinc 6 1, 3) := dk_132 6 1 (dk_at dksX1_through_5 17 rfl rfl)
theorem dX1_through_137 : decode cX1_through 137 = .ok (.goto (-112), 3) := dk_167 255 144 (dk_at dksX1_through_5 20 rfl rfl)
theorem dX1_through_140 : decode cX1_through 140 = .ok (.bipush (-106), 2) := dk_16 150 (dk_at dksX1_through_6 0 rfl rfl)
theorem dX1_through_142 : decode cX1_through 142 = .ok (.ireturn, 1) := dk_172 (dk_at dksX1_through_6 2 rfl rfl)
abbrev cX1_area : ByteArray := prog_9_method_55_code
def yX1_area : MethodName := ⟨RX1, "area", "(I)I"⟩
def dkwX1_area_4 : List UInt8 := [132, 3, 1, 167, 255, 176, 28, 172]
abbrev dktX1_area_4 : List UInt8 := dkwX1_area_4 ++ []
def dkwX1_area_3 : List UInt8 := [21, 4, 4, 182, 0, 173, 153, 0, 7, 4, 167, 0, 4, 3, 96, 61, 132, 4, 1, 167, 255, 192]
abbrev dktX1_area_3 : List UInt8 := dkwX1_area_3 ++ dktX1_area_4
def dkwX1_area_2 : List UInt8 := [182, 0, 173, 153, 0, 7, 4, 167, 0, 4, 3, 96, 61, 28, 42, 42, 180, 0, 7, 16, 7, 27, 104, 29]
abbrev dktX1_area_2 : List UInt8 := dkwX1_area_2 ++ dktX1_area_3
def dkwX1_area_1 : List UInt8 := [54, 4, 21, 4, 16, 32, 162, 0, 63, 28, 42, 42, 180, 0, 7, 16, 7, 27, 104, 29, 21, 4, 3]
abbrev dktX1_area_1 : List UInt8 := dkwX1_area_1 ++ dktX1_area_2
def dkwX1_area_0 : List UInt8 := [42, 27, 182, 0, 75, 154, 0, 6, 16, 155, 172, 3, 61, 16, 224, 62, 29, 16, 32, 162, 0, 80, 16, 224]
abbrev dktX1_area_0 : List UInt8 := dkwX1_area_0 ++ dktX1_area_1
theorem dksX1_area_0 : cX1_area.data.toList.drop 0 = dktX1_area_0 := by decide +kernel
theorem dksX1_area_1 : cX1_area.data.toList.drop 24 = dktX1_area_1 := dk_seg dksX1_area_0 24 rfl rfl
theorem dksX1_area_2 : cX1_area.data.toList.drop 47 = dktX1_area_2 := dk_seg dksX1_area_1 23 rfl rfl
theorem dksX1_area_3 : cX1_area.data.toList.drop 71 = dktX1_area_3 := dk_seg dksX1_area_2 24 rfl rfl
theorem dksX1_area_4 : cX1_area.data.toList.drop 93 = dktX1_area_4 := dk_seg dksX1_area_3 22 rfl rfl
theorem dX1_area_0 : decode cX1_area 0 = .ok (.aload_n 0, 1) := dk_42 (dk_at dksX1_area_0 0 rfl rfl)
theorem dX1_area_1 : decode cX1_area 1 = .ok (.iload_n 1, 1) := dk_27 (dk_at dksX1_area_0 1 rfl rfl)
theorem dX1_area_2 : decode cX1_area 2 = .ok (.invokevirtual 75, 3) := dk_182 0 75 (dk_at dksX1_area_0 2 rfl rfl)
theorem dX1_area_5 : decode cX1_area 5 = .ok (.ifCond .ne 6, 3) := dk_154 0 6 (dk_at dksX1_area_0 5 rfl rfl)
theorem dX1_area_8 : decode cX1_area 8 = .ok (.bipush (-101), 2) := dk_16 155 (dk_at dksX1_area_0 8 rfl rfl)
theorem dX1_area_10 : decode cX1_area 10 = .ok (.ireturn, 1) := dk_172 (dk_at dksX1_area_0 10 rfl rfl)
theorem dX1_area_11 : decode cX1_area 11 = .ok (.iconst 0, 1) := dk_3 (dk_at dksX1_area_0 11 rfl rfl)
theorem dX1_area_12 : decode cX1_area 12 = .ok (.istore_n 2, 1) := dk_61 (dk_at dksX1_area_0 12 rfl rfl)
theorem dX1_area_13 : decode cX1_area 13 = .ok (.bipush (-32), 2) := dk_16 224 (dk_at dksX1_area_0 13 rfl rfl)
theorem dX1_area_15 : decode cX1_area 15 = .ok (.istore_n 3, 1) := dk_62 (dk_at dksX1_area_0 15 rfl rfl)
theorem dX1_area_16 : decode cX1_area 16 = .ok (.iload_n 3, 1) := dk_29 (dk_at dksX1_area_0 16 rfl rfl)
theorem dX1_area_17 : decode cX1_area 17 = .ok (.bipush 32, 2) := dk_16 32 (dk_at dksX1_area_0 17 rfl rfl)
theorem dX1_area_19 : decode cX1_area 19 = .ok (.if_icmp .ge 80, 3) := dk_162 0 80 (dk_at dksX1_area_0 19 rfl rfl)
theorem dX1_area_22 : decode cX1_area 22 = .ok (.bipush (-32), 2) := dk_16 224 (dk_at dksX1_area_0 22 rfl rfl)
theorem dX1_area_24 : decode cX1_area 24 = .ok (.istore 4, 2) := dk_54 4 (dk_at dksX1_area_1 0 rfl rfl)
theorem dX1_area_26 : decode cX1_area 26 = .ok (.iload 4, 2) := dk_21 4 (dk_at dksX1_area_1 2 rfl rfl)
theorem dX1_area_28 : decode cX1_area 28 = .ok (.bipush 32, 2) := dk_16 32 (dk_at dksX1_area_1 4 rfl rfl)
theorem dX1_area_30 : decode cX1_area 30 = .ok (.if_icmp .ge 63, 3) := dk_162 0 63 (dk_at dksX1_area_1 6 rfl rfl)
theorem dX1_area_33 : decode cX1_area 33 = .ok (.iload_n 2, 1) := dk_28 (dk_at dksX1_area_1 9 rfl rfl)
theorem dX1_area_34 : decode cX1_area 34 = .ok (.aload_n 0, 1) := dk_42 (dk_at dksX1_area_1 10 rfl rfl)
theorem dX1_area_35 : decode cX1_area 35 = .ok (.aload_n 0, 1) := dk_42 (dk_at dksX1_area_1 11 rfl rfl)
theorem dX1_area_36 : decode cX1_area 36 = .ok (.getfield 7, 3) := dk_180 0 7 (dk_at dksX1_area_1 12 rfl rfl)
theorem dX1_area_39 : decode cX1_area 39 = .ok (.bipush 7, 2) := dk_16 7 (dk_at dksX1_area_1 15 rfl rfl)
theorem dX1_area_41 : decode cX1_area 41 = .ok (.iload_n 1, 1) := dk_27 (dk_at dksX1_area_1 17 rfl rfl)
theorem dX1_area_42 : decode cX1_area 42 = .ok (.imul, 1) := dk_104 (dk_at dksX1_area_1 18 rfl rfl)
theorem dX1_area_43 : decode cX1_area 43 = .ok (.iload_n 3, 1) := dk_29 (dk_at dksX1_area_1 19 rfl rfl)
theorem dX1_area_44 : decode cX1_area 44 = .ok (.iload 4, 2) := dk_21 4 (dk_at dksX1_area_1 20 rfl rfl)
theorem dX1_area_46 : decode cX1_area 46 = .ok (.iconst 0, 1) := dk_3 (dk_at dksX1_area_1 22 rfl rfl)
theorem dX1_area_47 : decode cX1_area 47 = .ok (.invokevirtual 173, 3) := dk_182 0 173 (dk_at dksX1_area_2 0 rfl rfl)
theorem dX1_area_50 : decode cX1_area 50 = .ok (.ifCond .eq 7, 3) := dk_153 0 7 (dk_at dksX1_area_2 3 rfl rfl)
theorem dX1_area_53 : decode cX1_area 53 = .ok (.iconst 1, 1) := dk_4 (dk_at dksX1_area_2 6 rfl rfl)
theorem dX1_area_54 : decode cX1_area 54 = .ok (.goto 4, 3) := dk_167 0 4 (dk_at dksX1_area_2 7 rfl rfl)
theorem dX1_area_57 : decode cX1_area 57 = .ok (.iconst 0, 1) := dk_3 (dk_at dksX1_area_2 10 rfl rfl)
theorem dX1_area_58 : decode cX1_area 58 = .ok (.iadd, 1) := dk_96 (dk_at dksX1_area_2 11 rfl rfl)
theorem dX1_area_59 : decode cX1_area 59 = .ok (.istore_n 2, 1) := dk_61 (dk_at dksX1_area_2 12 rfl rfl)
theorem dX1_area_60 : decode cX1_area 60 = .ok (.iload_n 2, 1) := dk_28 (dk_at dksX1_area_2 13 rfl rfl)
theorem dX1_area_61 : decode cX1_area 61 = .ok (.aload_n 0, 1) := dk_42 (dk_at dksX1_area_2 14 rfl rfl)
theorem dX1_area_62 : decode cX1_area 62 = .ok (.aload_n 0, 1) := dk_42 (dk_at dksX1_area_2 15 rfl rfl)
theorem dX1_area_63 : decode cX1_area 63 = .ok (.getfield 7, 3) := dk_180 0 7 (dk_at dksX1_area_2 16 rfl rfl)
theorem dX1_area_66 : decode cX1_area 66 = .ok (.bipush 7, 2) := dk_16 7 (dk_at dksX1_area_2 19 rfl rfl)
theorem dX1_area_68 : decode cX1_area 68 = .ok (.iload_n 1, 1) := dk_27 (dk_at dksX1_area_2 21 rfl rfl)
theorem dX1_area_69 : decode cX1_area 69 = .ok (.imul, 1) := dk_104 (dk_at dksX1_area_2 22 rfl rfl)
theorem dX1_area_70 : decode cX1_area 70 = .ok (.iload_n 3, 1) := dk_29 (dk_at dksX1_area_2 23 rfl rfl)
theorem dX1_area_71 : decode cX1_area 71 = .ok (.iload 4, 2) := dk_21 4 (dk_at dksX1_area_3 0 rfl rfl)
theorem dX1_area_73 : decode cX1_area 73 = .ok (.iconst 1, 1) := dk_4 (dk_at dksX1_area_3 2 rfl rfl)
theorem dX1_area_74 : decode cX1_area 74 = .ok (.invokevirtual 173, 3) := dk_182 0 173 (dk_at dksX1_area_3 3 rfl rfl)
theorem dX1_area_77 : decode cX1_area 77 = .ok (.ifCond .eq 7, 3) := dk_153 0 7 (dk_at dksX1_area_3 6 rfl rfl)
theorem dX1_area_80 : decode cX1_area 80 = .ok (.iconst 1, 1) := dk_4 (dk_at dksX1_area_3 9 rfl rfl)
theorem dX1_area_81 : decode cX1_area 81 = .ok (.goto 4, 3) := dk_167 0 4 (dk_at dksX1_area_3 10 rfl rfl)
theorem dX1_area_84 : decode cX1_area 84 = .ok (.iconst 0, 1) := dk_3 (dk_at dksX1_area_3 13 rfl rfl)
theorem dX1_area_85 : decode cX1_area 85 = .ok (.iadd, 1) := dk_96 (dk_at dksX1_area_3 14 rfl rfl)
theorem dX1_area_86 : decode cX1_area 86 = .ok (.istore_n 2, 1) := dk_61 (dk_at dksX1_area_3 15 rfl rfl)
theorem dX1_area_87 : decode cX1_area 87 = .ok (.iinc 4 1, 3) := dk_132 4 1 (dk_at dksX1_area_3 16 rfl rfl)
theorem dX1_area_90 : decode cX1_area 90 = .ok (.goto (-64), 3) := dk_167 255 192 (dk_at dksX1_area_3 19 rfl rfl)
theorem dX1_area_93 : decode cX1_area 93 = .ok (.iinc 3 1, 3) := dk_132 3 1 (dk_at dksX1_area_4 0 rfl rfl)
theorem dX1_area_96 : decode cX1_area 96 = .ok (.goto (-80), 3) := dk_167 255 176 (dk_at dksX1_area_4 3 rfl rfl)
theorem dX1_area_99 : decode cX1_area 99 = .ok (.iload_n 2, 1) := dk_28 (dk_at dksX1_area_4 6 rfl rfl)
theorem dX1_area_100 : decode cX1_area 100 = .ok (.ireturn, 1) := dk_172 (dk_at dksX1_area_4 7 rfl rfl)
abbrev cX1_seenArea : ByteArray := prog_9_method_56_code
def yX1_seenArea : MethodName := ⟨RX1, "seenArea", "(I)I"⟩
def dkwX1_seenArea_0 : List UInt8 := [42, 27, 182, 0, 75, 154, 0, 6, 16, 155, 172, 42, 182, 0, 187, 42, 180, 0, 44, 27, 46, 172]
abbrev dktX1_seenArea_0 : List UInt8 := dkwX1_seenArea_0 ++ []
theorem dksX1_seenArea_0 : cX1_seenArea.data.toList.drop 0 = dktX1_seenArea_0 := by decide +kernel
theorem dX1_seenArea_0 : decode cX1_seenArea 0 = .ok (.aload_n 0, 1) := dk_42 (dk_at dksX1_seenArea_0 0 rfl rfl)
theorem dX1_seenArea_1 : decode cX1_seenArea 1 = .ok (.iload_n 1, 1) := dk_27 (dk_at dksX1_seenArea_0 1 rfl rfl)
theorem dX1_seenArea_2 : decode cX1_seenArea 2 = .ok (.invokevirtual 75, 3) := dk_182 0 75 (dk_at dksX1_seenArea_0 2 rfl rfl)
theorem dX1_seenArea_5 : decode cX1_seenArea 5 = .ok (.ifCond .ne 6, 3) := dk_154 0 6 (dk_at dksX1_seenArea_0 5 rfl rfl)
theorem dX1_seenArea_8 : decode cX1_seenArea 8 = .ok (.bipush (-101), 2) := dk_16 155 (dk_at dksX1_seenArea_0 8 rfl rfl)
theorem dX1_seenArea_10 : decode cX1_seenArea 10 = .ok (.ireturn, 1) := dk_172 (dk_at dksX1_seenArea_0 10 rfl rfl)
theorem dX1_seenArea_11 : decode cX1_seenArea 11 = .ok (.aload_n 0, 1) := dk_42 (dk_at dksX1_seenArea_0 11 rfl rfl)
theorem dX1_seenArea_12 : decode cX1_seenArea 12 = .ok (.invokevirtual 187, 3) := dk_182 0 187 (dk_at dksX1_seenArea_0 12 rfl rfl)
theorem dX1_seenArea_15 : decode cX1_seenArea 15 = .ok (.aload_n 0, 1) := dk_42 (dk_at dksX1_seenArea_0 15 rfl rfl)
theorem dX1_seenArea_16 : decode cX1_seenArea 16 = .ok (.getfield 44, 3) := dk_180 0 44 (dk_at dksX1_seenArea_0 16 rfl rfl)
theorem dX1_seenArea_19 : decode cX1_seenArea 19 = .ok (.iload_n 1, 1) := dk_27 (dk_at dksX1_seenArea_0 19 rfl rfl)
theorem dX1_seenArea_20 : decode cX1_seenArea 20 = .ok (.iaload, 1) := dk_46 (dk_at dksX1_seenArea_0 20 rfl rfl)
theorem dX1_seenArea_21 : decode cX1_seenArea 21 = .ok (.ireturn, 1) := dk_172 (dk_at dksX1_seenArea_0 21 rfl rfl)
abbrev cX1_lookAll : ByteArray := prog_9_method_54_code
def yX1_lookAll : MethodName := ⟨RX1, "lookAll", "()V"⟩
def dkwX1_lookAll_6 : List UInt8 := [167, 255, 185, 132, 2, 1, 167, 255, 171, 132, 1, 1, 167, 255, 156, 177]
abbrev dktX1_lookAll_6 : List UInt8 := dkwX1_lookAll_6 ++ []
def dkwX1_lookAll_5 : List UInt8 := [167, 0, 4, 3, 96, 79, 42, 180, 0, 50, 42, 180, 0, 180, 92, 46, 4, 96, 79, 132, 3, 1]
abbrev dktX1_lookAll_5 : List UInt8 := dkwX1_lookAll_5 ++ dktX1_lookAll_6
def dkwX1_lookAll_4 : List UInt8 := [21, 4, 92, 46, 4, 96, 79, 42, 180, 0, 47, 21, 4, 92, 46, 42, 180, 0, 177, 4, 164, 0, 7, 4]
abbrev dktX1_lookAll_4 : List UInt8 := dkwX1_lookAll_4 ++ dktX1_lookAll_5
def dkwX1_lookAll_3 : List UInt8 := [5, 162, 0, 72, 42, 27, 28, 29, 182, 0, 183, 54, 4, 21, 4, 16, 150, 159, 0, 50, 42, 180, 0, 44]
abbrev dktX1_lookAll_3 : List UInt8 := dkwX1_lookAll_3 ++ dktX1_lookAll_4
def dkwX1_lookAll_2 : List UInt8 := [167, 255, 241, 16, 224, 60, 27, 16, 32, 162, 0, 100, 16, 224, 61, 28, 16, 32, 162, 0, 85, 3, 62, 29]
abbrev dktX1_lookAll_2 : List UInt8 := dkwX1_lookAll_2 ++ dktX1_lookAll_3
def dkwX1_lookAll_1 : List UInt8 := [132, 1, 1, 167, 255, 233, 3, 60, 27, 6, 162, 0, 16, 42, 180, 0, 50, 27, 3, 79, 132, 1, 1]
abbrev dktX1_lookAll_1 : List UInt8 := dkwX1_lookAll_1 ++ dktX1_lookAll_2
def dkwX1_lookAll_0 : List UInt8 := [3, 60, 27, 16, 12, 162, 0, 23, 42, 180, 0, 44, 27, 3, 79, 42, 180, 0, 47, 27, 3, 79]
abbrev dktX1_lookAll_0 : List UInt8 := dkwX1_lookAll_0 ++ dktX1_lookAll_1
theorem dksX1_lookAll_0 : cX1_lookAll.data.toList.drop 0 = dktX1_lookAll_0 := by decide +kernel
theorem dksX1_lookAll_1 : cX1_lookAll.data.toList.drop 22 = dktX1_lookAll_1 := dk_seg dksX1_lookAll_0 22 rfl rfl
theorem dksX1_lookAll_2 : cX1_lookAll.data.toList.drop 45 = dktX1_lookAll_2 := dk_seg dksX1_lookAll_1 23 rfl rfl
theorem dksX1_lookAll_3 : cX1_lookAll.data.toList.drop 69 = dktX1_lookAll_3 := dk_seg dksX1_lookAll_2 24 rfl rfl
theorem dksX1_lookAll_4 : cX1_lookAll.data.toList.drop 93 = dktX1_lookAll_4 := dk_seg dksX1_lookAll_3 24 rfl rfl
theorem dksX1_lookAll_5 : cX1_lookAll.data.toList.drop 117 = dktX1_lookAll_5 := dk_seg dksX1_lookAll_4 24 rfl rfl
theorem dksX1_lookAll_6 : cX1_lookAll.data.toList.drop 139 = dktX1_lookAll_6 := dk_seg dksX1_lookAll_5 22 rfl rfl
theorem dX1_lookAll_0 : decode cX1_lookAll 0 = .ok (.iconst 0, 1) := dk_3 (dk_at dksX1_lookAll_0 0 rfl rfl)
theorem dX1_lookAll_1 : decode cX1_lookAll 1 = .ok (.istore_n 1, 1) := dk_60 (dk_at dksX1_lookAll_0 1 rfl rfl)
theorem dX1_lookAll_2 : decode cX1_lookAll 2 = .ok (.iload_n 1, 1) := dk_27 (dk_at dksX1_lookAll_0 2 rfl rfl)
theorem dX1_lookAll_3 : decode cX1_lookAll 3 = .ok (.bipush 12, 2) := dk_16 12 (dk_at dksX1_lookAll_0 3 rfl rfl)
theorem dX1_lookAll_5 : decode cX1_lookAll 5 = .ok (.if_icmp .ge 23, 3) := dk_162 0 23 (dk_at dksX1_lookAll_0 5 rfl rfl)
theorem dX1_lookAll_8 : decode cX1_lookAll 8 = .ok (.aload_n 0, 1) := dk_42 (dk_at dksX1_lookAll_0 8 rfl rfl)
theorem dX1_lookAll_9 : decode cX1_lookAll 9 = .ok (.getfield 44, 3) := dk_180 0 44 (dk_at dksX1_lookAll_0 9 rfl rfl)
theorem dX1_lookAll_12 : decode cX1_lookAll 12 = .ok (.iload_n 1, 1) := dk_27 (dk_at dksX1_lookAll_0 12 rfl rfl)
theorem dX1_lookAll_13 : decode cX1_lookAll 13 = .ok (.iconst 0, 1) := dk_3 (dk_at dksX1_lookAll_0 13 rfl rfl)
theorem dX1_lookAll_14 : decode cX1_lookAll 14 = .ok (.iastore, 1) := dk_79 (dk_at dksX1_lookAll_0 14 rfl rfl)
theorem dX1_lookAll_15 : decode cX1_lookAll 15 = .ok (.aload_n 0, 1) := dk_42 (dk_at dksX1_lookAll_0 15 rfl rfl)
theorem dX1_lookAll_16 : decode cX1_lookAll 16 = .ok (.getfield 47, 3) := dk_180 0 47 (dk_at dksX1_lookAll_0 16 rfl rfl)
theorem dX1_lookAll_19 : decode cX1_lookAll 19 = .ok (.iload_n 1, 1) := dk_27 (dk_at dksX1_lookAll_0 19 rfl rfl)
theorem dX1_lookAll_20 : decode cX1_lookAll 20 = .ok (.iconst 0, 1) := dk_3 (dk_at dksX1_lookAll_0 20 rfl rfl)
theorem dX1_lookAll_21 : decode cX1_lookAll 21 = .ok (.iastore, 1) := dk_79 (dk_at dksX1_lookAll_0 21 rfl rfl)
theorem dX1_lookAll_22 : decode cX1_lookAll 22 = .ok (.iinc 1 1, 3) := dk_132 1 1 (dk_at dksX1_lookAll_1 0 rfl rfl)
theorem dX1_lookAll_25 : decode cX1_lookAll 25 = .ok (.goto (-23), 3) := dk_167 255 233 (dk_at dksX1_lookAll_1 3 rfl rfl)
theorem dX1_lookAll_28 : decode cX1_lookAll 28 = .ok (.iconst 0, 1) := dk_3 (dk_at dksX1_lookAll_1 6 rfl rfl)
theorem dX1_lookAll_29 : decode cX1_lookAll 29 = .ok (.istore_n 1, 1) := dk_60 (dk_at dksX1_lookAll_1 7 rfl rfl)
theorem dX1_lookAll_30 : decode cX1_lookAll 30 = .ok (.iload_n 1, 1) := dk_27 (dk_at dksX1_lookAll_1 8 rfl rfl)
theorem dX1_lookAll_31 : decode cX1_lookAll 31 = .ok (.iconst 3, 1) := dk_6 (dk_at dksX1_lookAll_1 9 rfl rfl)
theorem dX1_lookAll_32 : decode cX1_lookAll 32 = .ok (.if_icmp .ge 16, 3) := dk_162 0 16 (dk_at dksX1_lookAll_1 10 rfl rfl)
theorem dX1_lookAll_35 : decode cX1_lookAll 35 = .ok (.aload_n 0, 1) := dk_42 (dk_at dksX1_lookAll_1 13 rfl rfl)
theorem dX1_lookAll_36 : decode cX1_lookAll 36 = .ok (.getfield 50, 3) := dk_180 0 50 (dk_at dksX1_lookAll_1 14 rfl rfl)
theorem dX1_lookAll_39 : decode cX1_lookAll 39 = .ok (.iload_n 1, 1) := dk_27 (dk_at dksX1_lookAll_1 17 rfl rfl)
theorem dX1_lookAll_40 : decode cX1_lookAll 40 = .ok (.iconst 0, 1) := dk_3 (dk_at dksX1_lookAll_1 18 rfl rfl)
theorem dX1_lookAll_41 : decode cX1_lookAll 41 = .ok (.iastore, 1) := dk_79 (dk_at dksX1_lookAll_1 19 rfl rfl)
theorem dX1_lookAll_42 : decode cX1_lookAll 42 = .ok (.iinc 1 1, 3) := dk_132 1 1 (dk_at dksX1_lookAll_1 20 rfl rfl)
theorem dX1_lookAll_45 : decode cX1_lookAll 45 = .ok (.goto (-15), 3) := dk_167 255 241 (dk_at dksX1_lookAll_2 0 rfl rfl)
theorem dX1_lookAll_48 : decode cX1_lookAll 48 = .ok (.bipush (-32), 2) := dk_16 224 (dk_at dksX1_lookAll_2 3 rfl rfl)
theorem dX1_lookAll_50 : decode cX1_lookAll 50 = .ok (.istore_n 1, 1) := dk_60 (dk_at dksX1_lookAll_2 5 rfl rfl)
theorem dX1_lookAll_51 : decode cX1_lookAll 51 = .ok (.iload_n 1, 1) := dk_27 (dk_at dksX1_lookAll_2 6 rfl rfl)
theorem dX1_lookAll_52 : decode cX1_lookAll 52 = .ok (.bipush 32, 2) := dk_16 32 (dk_at dksX1_lookAll_2 7 rfl rfl)
theorem dX1_lookAll_54 : decode cX1_lookAll 54 = .ok (.if_icmp .ge 100, 3) := dk_162 0 100 (dk_at dksX1_lookAll_2 9 rfl rfl)
theorem dX1_lookAll_57 : decode cX1_lookAll 57 = .ok (.bipush (-32), 2) := dk_16 224 (dk_at dksX1_lookAll_2 12 rfl rfl)
theorem dX1_lookAll_59 : decode cX1_lookAll 59 = .ok (.istore_n 2, 1) := dk_61 (dk_at dksX1_lookAll_2 14 rfl rfl)
theorem dX1_lookAll_60 : decode cX1_lookAll 60 = .ok (.iload_n 2, 1) := dk_28 (dk_at dksX1_lookAll_2 15 rfl rfl)
theorem dX1_lookAll_61 : decode cX1_lookAll 61 = .ok (.bipush 32, 2) := dk_16 32 (dk_at dksX1_lookAll_2 16 rfl rfl)
theorem dX1_lookAll_63 : decode cX1_lookAll 63 = .ok (.if_icmp .ge 85, 3) := dk_162 0 85 (dk_at dksX1_lookAll_2 18 rfl rfl)
theorem dX1_lookAll_66 : decode cX1_lookAll 66 = .ok (.iconst 0, 1) := dk_3 (dk_at dksX1_lookAll_2 21 rfl rfl)
theorem dX1_lookAll_67 : decode cX1_lookAll 67 = .ok (.istore_n 3, 1) := dk_62 (dk_at dksX1_lookAll_2 22 rfl rfl)
theorem dX1_lookAll_68 : decode cX1_lookAll 68 = .ok (.iload_n 3, 1) := dk_29 (dk_at dksX1_lookAll_2 23 rfl rfl)
theorem dX1_lookAll_69 : decode cX1_lookAll 69 = .ok (.iconst 2, 1) := dk_5 (dk_at dksX1_lookAll_3 0 rfl rfl)
theorem dX1_lookAll_70 : decode cX1_lookAll 70 = .ok (.if_icmp .ge 72, 3) := dk_162 0 72 (dk_at dksX1_lookAll_3 1 rfl rfl)
theorem dX1_lookAll_73 : decode cX1_lookAll 73 = .ok (.aload_n 0, 1) := dk_42 (dk_at dksX1_lookAll_3 4 rfl rfl)
theorem dX1_lookAll_74 : decode cX1_lookAll 74 = .ok (.iload_n 1, 1) := dk_27 (dk_at dksX1_lookAll_3 5 rfl rfl)
theorem dX1_lookAll_75 : decode cX1_lookAll 75 = .ok (.iload_n 2, 1) := dk_28 (dk_at dksX1_lookAll_3 6 rfl rfl)
theorem dX1_lookAll_76 : decode cX1_lookAll 76 = .ok (.iload_n 3, 1) := dk_29 (dk_at dksX1_lookAll_3 7 rfl rfl)
theorem dX1_lookAll_77 : decode cX1_lookAll 77 = .ok (.invokevirtual 183, 3) := dk_182 0 183 (dk_at dksX1_lookAll_3 8 rfl rfl)
theorem dX1_lookAll_80 : decode cX1_lookAll 80 = .ok (.istore 4, 2) := dk_54 4 (dk_at dksX1_lookAll_3 11 rfl rfl)
theorem dX1_lookAll_82 : decode cX1_lookAll 82 = .ok (.iload 4, 2) := dk_21 4 (dk_at dksX1_lookAll_3 13 rfl rfl)
theorem dX1_lookAll_84 : decode cX1_lookAll 84 = .ok (.bipush (-106), 2) := dk_16 150 (dk_at dksX1_lookAll_3 15 rfl rfl)
theorem dX1_lookAll_86 : decode cX1_lookAll 86 = .ok (.if_icmp .eq 50, 3) := dk_159 0 50 (dk_at dksX1_lookAll_3 17 rfl rfl)
theorem dX1_lookAll_89 : decode cX1_lookAll 89 = .ok (.aload_n 0, 1) := dk_42 (dk_at dksX1_lookAll_3 20 rfl rfl)
theorem dX1_lookAll_90 : decode cX1_lookAll 90 = .ok (.getfield 44, 3) := dk_180 0 44 (dk_at dksX1_lookAll_3 21 rfl rfl)
theorem dX1_lookAll_93 : decode cX1_lookAll 93 = .ok (.iload 4, 2) := dk_21 4 (dk_at dksX1_lookAll_4 0 rfl rfl)
theorem dX1_lookAll_95 : decode cX1_lookAll 95 = .ok (.dup2, 1) := dk_92 (dk_at dksX1_lookAll_4 2 rfl rfl)
theorem dX1_lookAll_96 : decode cX1_lookAll 96 = .ok (.iaload, 1) := dk_46 (dk_at dksX1_lookAll_4 3 rfl rfl)
theorem dX1_lookAll_97 : decode cX1_lookAll 97 = .ok (.iconst 1, 1) := dk_4 (dk_at dksX1_lookAll_4 4 rfl rfl)
theorem dX1_lookAll_98 : decode cX1_lookAll 98 = .ok (.iadd, 1) := dk_96 (dk_at dksX1_lookAll_4 5 rfl rfl)
theorem dX1_lookAll_99 : decode cX1_lookAll 99 = .ok (.iastore, 1) := dk_79 (dk_at dksX1_lookAll_4 6 rfl rfl)
theorem dX1_lookAll_100 : decode cX1_lookAll 100 = .ok (.aload_n 0, 1) := dk_42 (dk_at dksX1_lookAll_4 7 rfl rfl)
theorem dX1_lookAll_101 : decode cX1_lookAll 101 = .ok (.getfield 47, 3) := dk_180 0 47 (dk_at dksX1_lookAll_4 8 rfl rfl)
theorem dX1_lookAll_104 : decode cX1_lookAll 104 = .ok (.iload 4, 2) := dk_21 4 (dk_at dksX1_lookAll_4 11 rfl rfl)
theorem dX1_lookAll_106 : decode cX1_lookAll 106 = .ok (.dup2, 1) := dk_92 (dk_at dksX1_lookAll_4 13 rfl rfl)
theorem dX1_lookAll_107 : decode cX1_lookAll 107 = .ok (.iaload, 1) := dk_46 (dk_at dksX1_lookAll_4 14 rfl rfl)
theorem dX1_lookAll_108 : decode cX1_lookAll 108 = .ok (.aload_n 0, 1) := dk_42 (dk_at dksX1_lookAll_4 15 rfl rfl)
theorem dX1_lookAll_109 : decode cX1_lookAll 109 = .ok (.getfield 177, 3) := dk_180 0 177 (dk_at dksX1_lookAll_4 16 rfl rfl)
theorem dX1_lookAll_112 : decode cX1_lookAll 112 = .ok (.iconst 1, 1) := dk_4 (dk_at dksX1_lookAll_4 19 rfl rfl)
theorem dX1_lookAll_113 : decode cX1_lookAll 113 = .ok (.if_icmp .le 7, 3) := dk_164 0 7 (dk_at dksX1_lookAll_4 20 rfl rfl)
theorem dX1_lookAll_116 : decode cX1_lookAll 116 = .ok (.iconst 1, 1) := dk_4 (dk_at dksX1_lookAll_4 23 rfl rfl)
theorem dX1_lookAll_117 : decode cX1_lookAll 117 = .ok (.goto 4, 3) := dk_167 0 4 (dk_at dksX1_lookAll_5 0 rfl rfl)
theorem dX1_lookAll_120 : decode cX1_lookAll 120 = .ok (.iconst 0, 1) := dk_3 (dk_at dksX1_lookAll_5 3 rfl rfl)
theorem dX1_lookAll_121 : decode cX1_lookAll 121 = .ok (.iadd, 1) := dk_96 (dk_at dksX1_lookAll_5 4 rfl rfl)
theorem dX1_lookAll_122 : decode cX1_lookAll 122 = .ok (.iastore, 1) := dk_79 (dk_at dksX1_lookAll_5 5 rfl rfl)
theorem dX1_lookAll_123 : decode cX1_lookAll 123 = .ok (.aload_n 0, 1) := dk_42 (dk_at dksX1_lookAll_5 6 rfl rfl)
theorem dX1_lookAll_124 : decode cX1_lookAll 124 = .ok (.getfield 50, 3) := dk_180 0 50 (dk_at dksX1_lookAll_5 7 rfl rfl)
theorem dX1_lookAll_127 : decode cX1_lookAll 127 = .ok (.aload_n 0, 1) := dk_42 (dk_at dksX1_lookAll_5 10 rfl rfl)
theorem dX1_lookAll_128 : decode cX1_lookAll 128 = .ok (.getfield 180, 3) := dk_180 0 180 (dk_at dksX1_lookAll_5 11 rfl rfl)
theorem dX1_lookAll_131 : decode cX1_lookAll 131 = .ok (.dup2, 1) := dk_92 (dk_at dksX1_lookAll_5 14 rfl rfl)
theorem dX1_lookAll_132 : decode cX1_lookAll 132 = .ok (.iaload, 1) := dk_46 (dk_at dksX1_lookAll_5 15 rfl rfl)
theorem dX1_lookAll_133 : decode cX1_lookAll 133 = .ok (.iconst 1, 1) := dk_4 (dk_at dksX1_lookAll_5 16 rfl rfl)
theorem dX1_lookAll_134 : decode cX1_lookAll 134 = .ok (.iadd, 1) := dk_96 (dk_at dksX1_lookAll_5 17 rfl rfl)
theorem dX1_lookAll_135 : decode cX1_lookAll 135 = .ok (.iastore, 1) := dk_79 (dk_at dksX1_lookAll_5 18 rfl rfl)
theorem dX1_lookAll_136 : decode cX1_lookAll 136 = .ok (.iinc 3 1, 3) := dk_132 3 1 (dk_at dksX1_lookAll_5 19 rfl rfl)
theorem dX1_lookAll_139 : decode cX1_lookAll 139 = .ok (.goto (-71), 3) := dk_167 255 185 (dk_at dksX1_lookAll_6 0 rfl rfl)
theorem dX1_lookAll_142 : decode cX1_lookAll 142 = .ok (.iinc 2 1, 3) := dk_132 2 1 (dk_at dksX1_lookAll_6 3 rfl rfl)
theorem dX1_lookAll_145 : decode cX1_lookAll 145 = .ok (.goto (-85), 3) := dk_167 255 171 (dk_at dksX1_lookAll_6 6 rfl rfl)
theorem dX1_lookAll_148 : decode cX1_lookAll 148 = .ok (.iinc 1 1, 3) := dk_132 1 1 (dk_at dksX1_lookAll_6 9 rfl rfl)
theorem dX1_lookAll_151 : decode cX1_lookAll 151 = .ok (.goto (-100), 3) := dk_167 255 156 (dk_at dksX1_lookAll_6 12 rfl rfl)
theorem dX1_lookAll_154 : decode cX1_lookAll 154 = .ok (.return_, 1) := dk_177 (dk_at dksX1_lookAll_6 15 rfl rfl)
abbrev cX1_faceArea : ByteArray := prog_9_method_57_code
def yX1_faceArea : MethodName := ⟨RX1, "faceArea", "(I)I"⟩
def dkwX1_faceArea_0 : List UInt8 := [27, 3, 5, 184, 0, 60, 154, 0, 6, 16, 154, 172, 42, 182, 0, 187, 42, 180, 0, 50, 27, 46, 172]
abbrev dktX1_faceArea_0 : List UInt8 := dkwX1_faceArea_0 ++ []
theorem dksX1_faceArea_0 : cX1_faceArea.data.toList.drop 0 = dktX1_faceArea_0 := by decide +kernel
theorem dX1_faceArea_0 : decode cX1_faceArea 0 = .ok (.iload_n 1, 1) := dk_27 (dk_at dksX1_faceArea_0 0 rfl rfl)
theorem dX1_faceArea_1 : decode cX1_faceArea 1 = .ok (.iconst 0, 1) := dk_3 (dk_at dksX1_faceArea_0 1 rfl rfl)
theorem dX1_faceArea_2 : decode cX1_faceArea 2 = .ok (.iconst 2, 1) := dk_5 (dk_at dksX1_faceArea_0 2 rfl rfl)
theorem dX1_faceArea_3 : decode cX1_faceArea 3 = .ok (.invokestatic 60, 3) := dk_184 0 60 (dk_at dksX1_faceArea_0 3 rfl rfl)
theorem dX1_faceArea_6 : decode cX1_faceArea 6 = .ok (.ifCond .ne 6, 3) := dk_154 0 6 (dk_at dksX1_faceArea_0 6 rfl rfl)
theorem dX1_faceArea_9 : decode cX1_faceArea 9 = .ok (.bipush (-102), 2) := dk_16 154 (dk_at dksX1_faceArea_0 9 rfl rfl)
theorem dX1_faceArea_11 : decode cX1_faceArea 11 = .ok (.ireturn, 1) := dk_172 (dk_at dksX1_faceArea_0 11 rfl rfl)
theorem dX1_faceArea_12 : decode cX1_faceArea 12 = .ok (.aload_n 0, 1) := dk_42 (dk_at dksX1_faceArea_0 12 rfl rfl)
theorem dX1_faceArea_13 : decode cX1_faceArea 13 = .ok (.invokevirtual 187, 3) := dk_182 0 187 (dk_at dksX1_faceArea_0 13 rfl rfl)
theorem dX1_faceArea_16 : decode cX1_faceArea 16 = .ok (.aload_n 0, 1) := dk_42 (dk_at dksX1_faceArea_0 16 rfl rfl)
theorem dX1_faceArea_17 : decode cX1_faceArea 17 = .ok (.getfield 50, 3) := dk_180 0 50 (dk_at dksX1_faceArea_0 17 rfl rfl)
theorem dX1_faceArea_20 : decode cX1_faceArea 20 = .ok (.iload_n 1, 1) := dk_27 (dk_at dksX1_faceArea_0 20 rfl rfl)
theorem dX1_faceArea_21 : decode cX1_faceArea 21 = .ok (.iaload, 1) := dk_46 (dk_at dksX1_faceArea_0 21 rfl rfl)
theorem dX1_faceArea_22 : decode cX1_faceArea 22 = .ok (.ireturn, 1) := dk_172 (dk_at dksX1_faceArea_0 22 rfl rfl)
abbrev cX1_pictureArea : ByteArray := prog_9_method_58_code
def yX1_pictureArea : MethodName := ⟨RX1, "pictureArea", "()I"⟩
def dkwX1_pictureArea_1 : List UInt8 := [172]
abbrev dktX1_pictureArea_1 : List UInt8 := dkwX1_pictureArea_1 ++ []
def dkwX1_pictureArea_0 : List UInt8 := [42, 182, 0, 187, 42, 180, 0, 50, 3, 46, 42, 180, 0, 50, 4, 46, 96, 42, 180, 0, 50, 5, 46, 96]
abbrev dktX1_pictureArea_0 : List UInt8 := dkwX1_pictureArea_0 ++ dktX1_pictureArea_1
theorem dksX1_pictureArea_0 : cX1_pictureArea.data.toList.drop 0 = dktX1_pictureArea_0 := by decide +kernel
theorem dksX1_pictureArea_1 : cX1_pictureArea.data.toList.drop 24 = dktX1_pictureArea_1 := dk_seg dksX1_pictureArea_0 24 rfl rfl
theorem dX1_pictureArea_0 : decode cX1_pictureArea 0 = .ok (.aload_n 0, 1) := dk_42 (dk_at dksX1_pictureArea_0 0 rfl rfl)
theorem dX1_pictureArea_1 : decode cX1_pictureArea 1 = .ok (.invokevirtual 187, 3) := dk_182 0 187 (dk_at dksX1_pictureArea_0 1 rfl rfl)
theorem dX1_pictureArea_4 : decode cX1_pictureArea 4 = .ok (.aload_n 0, 1) := dk_42 (dk_at dksX1_pictureArea_0 4 rfl rfl)
theorem dX1_pictureArea_5 : decode cX1_pictureArea 5 = .ok (.getfield 50, 3) := dk_180 0 50 (dk_at dksX1_pictureArea_0 5 rfl rfl)
theorem dX1_pictureArea_8 : decode cX1_pictureArea 8 = .ok (.iconst 0, 1) := dk_3 (dk_at dksX1_pictureArea_0 8 rfl rfl)
theorem dX1_pictureArea_9 : decode cX1_pictureArea 9 = .ok (.iaload, 1) := dk_46 (dk_at dksX1_pictureArea_0 9 rfl rfl)
theorem dX1_pictureArea_10 : decode cX1_pictureArea 10 = .ok (.aload_n 0, 1) := dk_42 (dk_at dksX1_pictureArea_0 10 rfl rfl)
theorem dX1_pictureArea_11 : decode cX1_pictureArea 11 = .ok (.getfield 50, 3) := dk_180 0 50 (dk_at dksX1_pictureArea_0 11 rfl rfl)
theorem dX1_pictureArea_14 : decode cX1_pictureArea 14 = .ok (.iconst 1, 1) := dk_4 (dk_at dksX1_pictureArea_0 14 rfl rfl)
theorem dX1_pictureArea_15 : decode cX1_pictureArea 15 = .ok (.iaload, 1) := dk_46 (dk_at dksX1_pictureArea_0 15 rfl rfl)
theorem dX1_pictureArea_16 : decode cX1_pictureArea 16 = .ok (.iadd, 1) := dk_96 (dk_at dksX1_pictureArea_0 16 rfl rfl)
theorem dX1_pictureArea_17 : decode cX1_pictureArea 17 = .ok (.aload_n 0, 1) := dk_42 (dk_at dksX1_pictureArea_0 17 rfl rfl)
theorem dX1_pictureArea_18 : decode cX1_pictureArea 18 = .ok (.getfield 50, 3) := dk_180 0 50 (dk_at dksX1_pictureArea_0 18 rfl rfl)
theorem dX1_pictureArea_21 : decode cX1_pictureArea 21 = .ok (.iconst 2, 1) := dk_5 (dk_at dksX1_pictureArea_0 21 rfl rfl)
theorem dX1_pictureArea_22 : decode cX1_pictureArea 22 = .ok (.iaload, 1) := dk_46 (dk_at dksX1_pictureArea_0 22 rfl rfl)
theorem dX1_pictureArea_23 : decode cX1_pictureArea 23 = .ok (.iadd, 1) := dk_96 (dk_at dksX1_pictureArea_0 23 rfl rfl)
theorem dX1_pictureArea_24 : decode cX1_pictureArea 24 = .ok (.ireturn, 1) := dk_172 (dk_at dksX1_pictureArea_1 0 rfl rfl)
abbrev cX1_hiddenBoxes : ByteArray := prog_9_method_59_code
def yX1_hiddenBoxes : MethodName := ⟨RX1, "hiddenBoxes", "()I"⟩
def dkwX1_hiddenBoxes_1 : List UInt8 := [180, 0, 44, 28, 46, 154, 0, 7, 4, 167, 0, 4, 3, 96, 60, 132, 2, 1, 167, 255, 222, 27, 172]
abbrev dktX1_hiddenBoxes_1 : List UInt8 := dkwX1_hiddenBoxes_1 ++ []
def dkwX1_hiddenBoxes_0 : List UInt8 := [42, 182, 0, 187, 3, 60, 3, 61, 28, 16, 12, 162, 0, 34, 27, 42, 28, 182, 0, 75, 153, 0, 16, 42]
abbrev dktX1_hiddenBoxes_0 : List UInt8 := dkwX1_hiddenBoxes_0 ++ dktX1_hiddenBoxes_1
theorem dksX1_hiddenBoxes_0 : cX1_hiddenBoxes.data.toList.drop 0 = dktX1_hiddenBoxes_0 := by decide +kernel
theorem dksX1_hiddenBoxes_1 : cX1_hiddenBoxes.data.toList.drop 24 = dktX1_hiddenBoxes_1 := dk_seg dksX1_hiddenBoxes_0 24 rfl rfl
theorem dX1_hiddenBoxes_0 : decode cX1_hiddenBoxes 0 = .ok (.aload_n 0, 1) := dk_42 (dk_at dksX1_hiddenBoxes_0 0 rfl rfl)
theorem dX1_hiddenBoxes_1 : decode cX1_hiddenBoxes 1 = .ok (.invokevirtual 187, 3) := dk_182 0 187 (dk_at dksX1_hiddenBoxes_0 1 rfl rfl)
theorem dX1_hiddenBoxes_4 : decode cX1_hiddenBoxes 4 = .ok (.iconst 0, 1) := dk_3 (dk_at dksX1_hiddenBoxes_0 4 rfl rfl)
theorem dX1_hiddenBoxes_5 : decode cX1_hiddenBoxes 5 = .ok (.istore_n 1, 1) := dk_60 (dk_at dksX1_hiddenBoxes_0 5 rfl rfl)
theorem dX1_hiddenBoxes_6 : decode cX1_hiddenBoxes 6 = .ok (.iconst 0, 1) := dk_3 (dk_at dksX1_hiddenBoxes_0 6 rfl rfl)
theorem dX1_hiddenBoxes_7 : decode cX1_hiddenBoxes 7 = .ok (.istore_n 2, 1) := dk_61 (dk_at dksX1_hiddenBoxes_0 7 rfl rfl)
theorem dX1_hiddenBoxes_8 : decode cX1_hiddenBoxes 8 = .ok (.iload_n 2, 1) := dk_28 (dk_at dksX1_hiddenBoxes_0 8 rfl rfl)
theorem dX1_hiddenBoxes_9 : decode cX1_hiddenBoxes 9 = .ok (.bipush 12, 2) := dk_16 12 (dk_at dksX1_hiddenBoxes_0 9 rfl rfl)
theorem dX1_hiddenBoxes_11 : decode cX1_hiddenBoxes 11 = .ok (.if_icmp .ge 34, 3) := dk_162 0 34 (dk_at dksX1_hiddenBoxes_0 11 rfl rfl)
theorem dX1_hiddenBoxes_14 : decode cX1_hiddenBoxes 14 = .ok (.iload_n 1, 1) := dk_27 (dk_at dksX1_hiddenBoxes_0 14 rfl rfl)
theorem dX1_hiddenBoxes_15 : decode cX1_hiddenBoxes 15 = .ok (.aload_n 0, 1) := dk_42 (dk_at dksX1_hiddenBoxes_0 15 rfl rfl)
theorem dX1_hiddenBoxes_16 : decode cX1_hiddenBoxes 16 = .ok (.iload_n 2, 1) := dk_28 (dk_at dksX1_hiddenBoxes_0 16 rfl rfl)
theorem dX1_hiddenBoxes_17 : decode cX1_hiddenBoxes 17 = .ok (.invokevirtual 75, 3) := dk_182 0 75 (dk_at dksX1_hiddenBoxes_0 17 rfl rfl)
theorem dX1_hiddenBoxes_20 : decode cX1_hiddenBoxes 20 = .ok (.ifCond .eq 16, 3) := dk_153 0 16 (dk_at dksX1_hiddenBoxes_0 20 rfl rfl)
theorem dX1_hiddenBoxes_23 : decode cX1_hiddenBoxes 23 = .ok (.aload_n 0, 1) := dk_42 (dk_at dksX1_hiddenBoxes_0 23 rfl rfl)
theorem dX1_hiddenBoxes_24 : decode cX1_hiddenBoxes 24 = .ok (.getfield 44, 3) := dk_180 0 44 (dk_at dksX1_hiddenBoxes_1 0 rfl rfl)
theorem dX1_hiddenBoxes_27 : decode cX1_hiddenBoxes 27 = .ok (.iload_n 2, 1) := dk_28 (dk_at dksX1_hiddenBoxes_1 3 rfl rfl)
theorem dX1_hiddenBoxes_28 : decode cX1_hiddenBoxes 28 = .ok (.iaload, 1) := dk_46 (dk_at dksX1_hiddenBoxes_1 4 rfl rfl)
theorem dX1_hiddenBoxes_29 : decode cX1_hiddenBoxes 29 = .ok (.ifCond .ne 7, 3) := dk_154 0 7 (dk_at dksX1_hiddenBoxes_1 5 rfl rfl)
theorem dX1_hiddenBoxes_32 : decode cX1_hiddenBoxes 32 = .ok (.iconst 1, 1) := dk_4 (dk_at dksX1_hiddenBoxes_1 8 rfl rfl)
theorem dX1_hiddenBoxes_33 : decode cX1_hiddenBoxes 33 = .ok (.goto 4, 3) := dk_167 0 4 (dk_at dksX1_hiddenBoxes_1 9 rfl rfl)
theorem dX1_hiddenBoxes_36 : decode cX1_hiddenBoxes 36 = .ok (.iconst 0, 1) := dk_3 (dk_at dksX1_hiddenBoxes_1 12 rfl rfl)
theorem dX1_hiddenBoxes_37 : decode cX1_hiddenBoxes 37 = .ok (.iadd, 1) := dk_96 (dk_at dksX1_hiddenBoxes_1 13 rfl rfl)
theorem dX1_hiddenBoxes_38 : decode cX1_hiddenBoxes 38 = .ok (.istore_n 1, 1) := dk_60 (dk_at dksX1_hiddenBoxes_1 14 rfl rfl)
theorem dX1_hiddenBoxes_39 : decode cX1_hiddenBoxes 39 = .ok (.iinc 2 1, 3) := dk_132 2 1 (dk_at dksX1_hiddenBoxes_1 15 rfl rfl)
theorem dX1_hiddenBoxes_42 : decode cX1_hiddenBoxes 42 = .ok (.goto (-34), 3) := dk_167 255 222 (dk_at dksX1_hiddenBoxes_1 18 rfl rfl)
theorem dX1_hiddenBoxes_45 : decode cX1_hiddenBoxes 45 = .ok (.iload_n 1, 1) := dk_27 (dk_at dksX1_hiddenBoxes_1 21 rfl rfl)
theorem dX1_hiddenBoxes_46 : decode cX1_hiddenBoxes 46 = .ok (.ireturn, 1) := dk_172 (dk_at dksX1_hiddenBoxes_1 22 rfl rfl)
abbrev cX1_greatestCover : ByteArray := prog_9_method_60_code
def yX1_greatestCover : MethodName := ⟨RX1, "greatestCover", "(I)I"⟩
def dkwX1_greatestCover_3 : List UInt8 := [159, 0, 7, 27, 154, 0, 7, 28, 167, 0, 9, 42, 180, 0, 47, 28, 46, 172]
abbrev dktX1_greatestCover_3 : List UInt8 := dkwX1_greatestCover_3 ++ []
def dkwX1_greatestCover_2 : List UInt8 := [180, 0, 47, 28, 46, 164, 0, 7, 29, 167, 0, 4, 28, 61, 132, 3, 1, 167, 255, 212, 28, 16, 150]
abbrev dktX1_greatestCover_2 : List UInt8 := dkwX1_greatestCover_2 ++ dktX1_greatestCover_3
def dkwX1_greatestCover_1 : List UInt8 := [162, 0, 44, 42, 29, 182, 0, 75, 153, 0, 28, 28, 16, 150, 159, 0, 18, 42, 180, 0, 47, 29, 46, 42]
abbrev dktX1_greatestCover_1 : List UInt8 := dkwX1_greatestCover_1 ++ dktX1_greatestCover_2
def dkwX1_greatestCover_0 : List UInt8 := [27, 3, 4, 184, 0, 60, 154, 0, 6, 16, 154, 172, 42, 182, 0, 187, 16, 150, 61, 3, 62, 29, 16, 12]
abbrev dktX1_greatestCover_0 : List UInt8 := dkwX1_greatestCover_0 ++ dktX1_greatestCover_1
theorem dksX1_greatestCover_0 : cX1_greatestCover.data.toList.drop 0 = dktX1_greatestCover_0 := by decide +kernel
theorem dksX1_greatestCover_1 : cX1_greatestCover.data.toList.drop 24 = dktX1_greatestCover_1 := dk_seg dksX1_greatestCover_0 24 rfl rfl
theorem dksX1_greatestCover_2 : cX1_greatestCover.data.toList.drop 48 = dktX1_greatestCover_2 := dk_seg dksX1_greatestCover_1 24 rfl rfl
theorem dksX1_greatestCover_3 : cX1_greatestCover.data.toList.drop 71 = dktX1_greatestCover_3 := dk_seg dksX1_greatestCover_2 23 rfl rfl
theorem dX1_greatestCover_0 : decode cX1_greatestCover 0 = .ok (.iload_n 1, 1) := dk_27 (dk_at dksX1_greatestCover_0 0 rfl rfl)
theorem dX1_greatestCover_1 : decode cX1_greatestCover 1 = .ok (.iconst 0, 1) := dk_3 (dk_at dksX1_greatestCover_0 1 rfl rfl)
theorem dX1_greatestCover_2 : decode cX1_greatestCover 2 = .ok (.iconst 1, 1) := dk_4 (dk_at dksX1_greatestCover_0 2 rfl rfl)
theorem dX1_greatestCover_3 : decode cX1_greatestCover 3 = .ok (.invokestatic 60, 3) := dk_184 0 60 (dk_at dksX1_greatestCover_0 3 rfl rfl)
theorem dX1_greatestCover_6 : decode cX1_greatestCover 6 = .ok (.ifCond .ne 6, 3) := dk_154 0 6 (dk_at dksX1_greatestCover_0 6 rfl rfl)
theorem dX1_greatestCover_9 : decode cX1_greatestCover 9 = .ok (.bipush (-102), 2) := dk_16 154 (dk_at dksX1_greatestCover_0 9 rfl rfl)
theorem dX1_greatestCover_11 : decode cX1_greatestCover 11 = .ok (.ireturn, 1) := dk_172 (dk_at dksX1_greatestCover_0 11 rfl rfl)
theorem dX1_greatestCover_12 : decode cX1_greatestCover 12 = .ok (.aload_n 0, 1) := dk_42 (dk_at dksX1_greatestCover_0 12 rfl rfl)
theorem dX1_greatestCover_13 : decode cX1_greatestCover 13 = .ok (.invokevirtual 187, 3) := dk_182 0 187 (dk_at dksX1_greatestCover_0 13 rfl rfl)
theorem dX1_greatestCover_16 : decode cX1_greatestCover 16 = .ok (.bipush (-106), 2) := dk_16 150 (dk_at dksX1_greatestCover_0 16 rfl rfl)
theorem dX1_greatestCover_18 : decode cX1_greatestCover 18 = .ok (.istore_n 2, 1) := dk_61 (dk_at dksX1_greatestCover_0 18 rfl rfl)
theorem dX1_greatestCover_19 : decode cX1_greatestCover 19 = .ok (.iconst 0, 1) := dk_3 (dk_at dksX1_greatestCover_0 19 rfl rfl)
theorem dX1_greatestCover_20 : decode cX1_greatestCover 20 = .ok (.istore_n 3, 1) := dk_62 (dk_at dksX1_greatestCover_0 20 rfl rfl)
theorem dX1_greatestCover_21 : decode cX1_greatestCover 21 = .ok (.iload_n 3, 1) := dk_29 (dk_at dksX1_greatestCover_0 21 rfl rfl)
theorem dX1_greatestCover_22 : decode cX1_greatestCover 22 = .ok (.bipush 12, 2) := dk_16 12 (dk_at dksX1_greatestCover_0 22 rfl rfl)
theorem dX1_greatestCover_24 : decode cX1_greatestCover 24 = .ok (.if_icmp .ge 44, 3) := dk_162 0 44 (dk_at dksX1_greatestCover_1 0 rfl rfl)
theorem dX1_greatestCover_27 : decode cX1_greatestCover 27 = .ok (.aload_n 0, 1) := dk_42 (dk_at dksX1_greatestCover_1 3 rfl rfl)
theorem dX1_greatestCover_28 : decode cX1_greatestCover 28 = .ok (.iload_n 3, 1) := dk_29 (dk_at dksX1_greatestCover_1 4 rfl rfl)
theorem dX1_greatestCover_29 : decode cX1_greatestCover 29 = .ok (.invokevirtual 75, 3) := dk_182 0 75 (dk_at dksX1_greatestCover_1 5 rfl rfl)
theorem dX1_greatestCover_32 : decode cX1_greatestCover 32 = .ok (.ifCond .eq 28, 3) := dk_153 0 28 (dk_at dksX1_greatestCover_1 8 rfl rfl)
theorem dX1_greatestCover_35 : decode cX1_greatestCover 35 = .ok (.iload_n 2, 1) := dk_28 (dk_at dksX1_greatestCover_1 11 rfl rfl)
theorem dX1_greatestCover_36 : decode cX1_greatestCover 36 = .ok (.bipush (-106), 2) := dk_16 150 (dk_at dksX1_greatestCover_1 12 rfl rfl)
theorem dX1_greatestCover_38 : decode cX1_greatestCover 38 = .ok (.if_icmp .eq 18, 3) := dk_159 0 18 (dk_at dksX1_greatestCover_1 14 rfl rfl)
theorem dX1_greatestCover_41 : decode cX1_greatestCover 41 = .ok (.aload_n 0, 1) := dk_42 (dk_at dksX1_greatestCover_1 17 rfl rfl)
theorem dX1_greatestCover_42 : decode cX1_greatestCover 42 = .ok (.getfield 47, 3) := dk_180 0 47 (dk_at dksX1_greatestCover_1 18 rfl rfl)
theorem dX1_greatestCover_45 : decode cX1_greatestCover 45 = .ok (.iload_n 3, 1) := dk_29 (dk_at dksX1_greatestCover_1 21 rfl rfl)
theorem dX1_greatestCover_46 : decode cX1_greatestCover 46 = .ok (.iaload, 1) := dk_46 (dk_at dksX1_greatestCover_1 22 rfl rfl)
theorem dX1_greatestCover_47 : decode cX1_greatestCover 47 = .ok (.aload_n 0, 1) := dk_42 (dk_at dksX1_greatestCover_1 23 rfl rfl)
theorem dX1_greatestCover_48 : decode cX1_greatestCover 48 = .ok (.getfield 47, 3) := dk_180 0 47 (dk_at dksX1_greatestCover_2 0 rfl rfl)
theorem dX1_greatestCover_51 : decode cX1_greatestCover 51 = .ok (.iload_n 2, 1) := dk_28 (dk_at dksX1_greatestCover_2 3 rfl rfl)
theorem dX1_greatestCover_52 : decode cX1_greatestCover 52 = .ok (.iaload, 1) := dk_46 (dk_at dksX1_greatestCover_2 4 rfl rfl)
theorem dX1_greatestCover_53 : decode cX1_greatestCover 53 = .ok (.if_icmp .le 7, 3) := dk_164 0 7 (dk_at dksX1_greatestCover_2 5 rfl rfl)
theorem dX1_greatestCover_56 : decode cX1_greatestCover 56 = .ok (.iload_n 3, 1) := dk_29 (dk_at dksX1_greatestCover_2 8 rfl rfl)
theorem dX1_greatestCover_57 : decode cX1_greatestCover 57 = .ok (.goto 4, 3) := dk_167 0 4 (dk_at dksX1_greatestCover_2 9 rfl rfl)
theorem dX1_greatestCover_60 : decode cX1_greatestCover 60 = .ok (.iload_n 2, 1) := dk_28 (dk_at dksX1_greatestCover_2 12 rfl rfl)
theorem dX1_greatestCover_61 : decode cX1_greatestCover 61 = .ok (.istore_n 2, 1) := dk_61 (dk_at dksX1_greatestCover_2 13 rfl rfl)
theorem dX1_greatestCover_62 : decode cX1_greatestCover 62 = .ok (.iinc 3 1, 3) := dk_132 3 1 (dk_at dksX1_greatestCover_2 14 rfl rfl)
theorem dX1_greatestCover_65 : decode cX1_greatestCover 65 = .ok (.goto (-44), 3) := dk_167 255 212 (dk_at dksX1_greatestCover_2 17 rfl rfl)
theorem dX1_greatestCover_68 : decode cX1_greatestCover 68 = .ok (.iload_n 2, 1) := dk_28 (dk_at dksX1_greatestCover_2 20 rfl rfl)
theorem dX1_greatestCover_69 : decode cX1_greatestCover 69 = .ok (.bipush (-106), 2) := dk_16 150 (dk_at dksX1_greatestCover_2 21 rfl rfl)
theorem dX1_greatestCover_71 : decode cX1_greatestCover 71 = .ok (.if_icmp .eq 7, 3) := dk_159 0 7 (dk_at dksX1_greatestCover_3 0 rfl rfl)
theorem dX1_greatestCover_74 : decode cX1_greatestCover 74 = .ok (.iload_n 1, 1) := dk_27 (dk_at dksX1_greatestCover_3 3 rfl rfl)
theorem dX1_greatestCover_75 : decode cX1_greatestCover 75 = .ok (.ifCond .ne 7, 3) := dk_154 0 7 (dk_at dksX1_greatestCover_3 4 rfl rfl)
theorem dX1_greatestCover_78 : decode cX1_greatestCover 78 = .ok (.iload_n 2, 1) := dk_28 (dk_at dksX1_greatestCover_3 7 rfl rfl)
theorem dX1_greatestCover_79 : decode cX1_greatestCover 79 = .ok (.goto 9, 3) := dk_167 0 9 (dk_at dksX1_greatestCover_3 8 rfl rfl)
theorem dX1_greatestCover_82 : decode cX1_greatestCover 82 = .ok (.aload_n 0, 1) := dk_42 (dk_at dksX1_greatestCover_3 11 rfl rfl)
theorem dX1_greatestCover_83 : decode cX1_greatestCover 83 = .ok (.getfield 47, 3) := dk_180 0 47 (dk_at dksX1_greatestCover_3 12 rfl rfl)
theorem dX1_greatestCover_86 : decode cX1_greatestCover 86 = .ok (.iload_n 2, 1) := dk_28 (dk_at dksX1_greatestCover_3 15 rfl rfl)
theorem dX1_greatestCover_87 : decode cX1_greatestCover 87 = .ok (.iaload, 1) := dk_46 (dk_at dksX1_greatestCover_3 16 rfl rfl)
theorem dX1_greatestCover_88 : decode cX1_greatestCover 88 = .ok (.ireturn, 1) := dk_172 (dk_at dksX1_greatestCover_3 17 rfl rfl)
abbrev cX1_write : ByteArray := prog_9_method_61_code
def yX1_write : MethodName := ⟨RX1, "write", "(I)I"⟩
def dkwX1_write_2 : List UInt8 := [180, 0, 190, 172]
abbrev dktX1_write_2 : List UInt8 := dkwX1_write_2 ++ []
def dkwX1_write_1 : List UInt8 := [16, 152, 172, 42, 180, 0, 19, 42, 180, 0, 190, 27, 79, 42, 89, 180, 0, 190, 4, 96, 181, 0, 190, 42]
abbrev dktX1_write_1 : List UInt8 := dkwX1_write_1 ++ dktX1_write_2
def dkwX1_write_0 : List UInt8 := [27, 16, 32, 16, 126, 184, 0, 60, 154, 0, 6, 16, 154, 172, 42, 180, 0, 190, 17, 0, 240, 160, 0, 6]
abbrev dktX1_write_0 : List UInt8 := dkwX1_write_0 ++ dktX1_write_1
theorem dksX1_write_0 : cX1_write.data.toList.drop 0 = dktX1_write_0 := by decide +kernel
theorem dksX1_write_1 : cX1_write.data.toList.drop 24 = dktX1_write_1 := dk_seg dksX1_write_0 24 rfl rfl
theorem dksX1_write_2 : cX1_write.data.toList.drop 48 = dktX1_write_2 := dk_seg dksX1_write_1 24 rfl rfl
theorem dX1_write_0 : decode cX1_write 0 = .ok (.iload_n 1, 1) := dk_27 (dk_at dksX1_write_0 0 rfl rfl)
theorem dX1_write_1 : decode cX1_write 1 = .ok (.bipush 32, 2) := dk_16 32 (dk_at dksX1_write_0 1 rfl rfl)
theorem dX1_write_3 : decode cX1_write 3 = .ok (.bipush 126, 2) := dk_16 126 (dk_at dksX1_write_0 3 rfl rfl)
theorem dX1_write_5 : decode cX1_write 5 = .ok (.invokestatic 60, 3) := dk_184 0 60 (dk_at dksX1_write_0 5 rfl rfl)
theorem dX1_write_8 : decode cX1_write 8 = .ok (.ifCond .ne 6, 3) := dk_154 0 6 (dk_at dksX1_write_0 8 rfl rfl)
theorem dX1_write_11 : decode cX1_write 11 = .ok (.bipush (-102), 2) := dk_16 154 (dk_at dksX1_write_0 11 rfl rfl)
theorem dX1_write_13 : decode cX1_write 13 = .ok (.ireturn, 1) := dk_172 (dk_at dksX1_write_0 13 rfl rfl)
theorem dX1_write_14 : decode cX1_write 14 = .ok (.aload_n 0, 1) := dk_42 (dk_at dksX1_write_0 14 rfl rfl)
theorem dX1_write_15 : decode cX1_write 15 = .ok (.getfield 190, 3) := dk_180 0 190 (dk_at dksX1_write_0 15 rfl rfl)
theorem dX1_write_18 : decode cX1_write 18 = .ok (.sipush 240, 3) := dk_17 0 240 (dk_at dksX1_write_0 18 rfl rfl)
theorem dX1_write_21 : decode cX1_write 21 = .ok (.if_icmp .ne 6, 3) := dk_160 0 6 (dk_at dksX1_write_0 21 rfl rfl)
theorem dX1_write_24 : decode cX1_write 24 = .ok (.bipush (-104), 2) := dk_16 152 (dk_at dksX1_write_1 0 rfl rfl)
theorem dX1_write_26 : decode cX1_write 26 = .ok (.ireturn, 1) := dk_172 (dk_at dksX1_write_1 2 rfl rfl)
theorem dX1_write_27 : decode cX1_write 27 = .ok (.aload_n 0, 1) := dk_42 (dk_at dksX1_write_1 3 rfl rfl)
theorem dX1_write_28 : decode cX1_write 28 = .ok (.getfield 19, 3) := dk_180 0 19 (dk_at dksX1_write_1 4 rfl rfl)
theorem dX1_write_31 : decode cX1_write 31 = .ok (.aload_n 0, 1) := dk_42 (dk_at dksX1_write_1 7 rfl rfl)
theorem dX1_write_32 : decode cX1_write 32 = .ok (.getfield 190, 3) := dk_180 0 190 (dk_at dksX1_write_1 8 rfl rfl)
theorem dX1_write_35 : decode cX1_write 35 = .ok (.iload_n 1, 1) := dk_27 (dk_at dksX1_write_1 11 rfl rfl)
theorem dX1_write_36 : decode cX1_write 36 = .ok (.iastore, 1) := dk_79 (dk_at dksX1_write_1 12 rfl rfl)
theorem dX1_write_37 : decode cX1_write 37 = .ok (.aload_n 0, 1) := dk_42 (dk_at dksX1_write_1 13 rfl rfl)
theorem dX1_write_38 : decode cX1_write 38 = .ok (.dup, 1) := dk_89 (dk_at dksX1_write_1 14 rfl rfl)
theorem dX1_write_39 : decode cX1_write 39 = .ok (.getfield 190, 3) := dk_180 0 190 (dk_at dksX1_write_1 15 rfl rfl)
theorem dX1_write_42 : decode cX1_write 42 = .ok (.iconst 1, 1) := dk_4 (dk_at dksX1_write_1 18 rfl rfl)
theorem dX1_write_43 : decode cX1_write 43 = .ok (.iadd, 1) := dk_96 (dk_at dksX1_write_1 19 rfl rfl)
theorem dX1_write_44 : decode cX1_write 44 = .ok (.putfield 190, 3) := dk_181 0 190 (dk_at dksX1_write_1 20 rfl rfl)
theorem dX1_write_47 : decode cX1_write 47 = .ok (.aload_n 0, 1) := dk_42 (dk_at dksX1_write_1 23 rfl rfl)
theorem dX1_write_48 : decode cX1_write 48 = .ok (.getfield 190, 3) := dk_180 0 190 (dk_at dksX1_write_2 0 rfl rfl)
theorem dX1_write_51 : decode cX1_write 51 = .ok (.ireturn, 1) := dk_172 (dk_at dksX1_write_2 3 rfl rfl)
abbrev cX1_wipe : ByteArray := prog_9_method_62_code
def yX1_wipe : MethodName := ⟨RX1, "wipe", "()I"⟩
def dkwX1_wipe_0 : List UInt8 := [42, 180, 0, 190, 60, 42, 3, 181, 0, 190, 27, 172]
abbrev dktX1_wipe_0 : List UInt8 := dkwX1_wipe_0 ++ []
theorem dksX1_wipe_0 : cX1_wipe.data.toList.drop 0 = dktX1_wipe_0 := by decide +kernel
theorem dX1_wipe_0 : decode cX1_wipe 0 = .ok (.aload_n 0, 1) := dk_42 (dk_at dksX1_wipe_0 0 rfl rfl)
theorem dX1_wipe_1 : decode cX1_wipe 1 = .ok (.getfield 190, 3) := dk_180 0 190 (dk_at dksX1_wipe_0 1 rfl rfl)
theorem dX1_wipe_4 : decode cX1_wipe 4 = .ok (.istore_n 1, 1) := dk_60 (dk_at dksX1_wipe_0 4 rfl rfl)
theorem dX1_wipe_5 : decode cX1_wipe 5 = .ok (.aload_n 0, 1) := dk_42 (dk_at dksX1_wipe_0 5 rfl rfl)
theorem dX1_wipe_6 : decode cX1_wipe 6 = .ok (.iconst 0, 1) := dk_3 (dk_at dksX1_wipe_0 6 rfl rfl)
theorem dX1_wipe_7 : decode cX1_wipe 7 = .ok (.putfield 190, 3) := dk_181 0 190 (dk_at dksX1_wipe_0 7 rfl rfl)
theorem dX1_wipe_10 : decode cX1_wipe 10 = .ok (.iload_n 1, 1) := dk_27 (dk_at dksX1_wipe_0 10 rfl rfl)
theorem dX1_wipe_11 : decode cX1_wipe 11 = .ok (.ireturn, 1) := dk_172 (dk_at dksX1_wipe_0 11 rfl rfl)
abbrev cX1_fault : ByteArray := prog_9_method_67_code
def yX1_fault : MethodName := ⟨RX1, "fault", "()I"⟩
def dkwX1_fault_2 : List UInt8 := [42, 180, 0, 193, 182, 0, 202, 167, 255, 219, 42, 182, 0, 211, 167, 255, 212, 42, 180, 0, 196, 172]
abbrev dktX1_fault_2 : List UInt8 := dkwX1_fault_2 ++ []
def dkwX1_fault_1 : List UInt8 := [160, 0, 41, 42, 180, 0, 193, 42, 180, 0, 190, 162, 0, 30, 42, 180, 0, 205, 16, 12, 160, 0, 14, 42]
abbrev dktX1_fault_1 : List UInt8 := dkwX1_fault_1 ++ dktX1_fault_2
def dkwX1_fault_0 : List UInt8 := [42, 3, 181, 0, 193, 42, 16, 150, 181, 0, 196, 42, 3, 181, 0, 205, 42, 180, 0, 196, 16, 150]
abbrev dktX1_fault_0 : List UInt8 := dkwX1_fault_0 ++ dktX1_fault_1
theorem dksX1_fault_0 : cX1_fault.data.toList.drop 0 = dktX1_fault_0 := by decide +kernel
theorem dksX1_fault_1 : cX1_fault.data.toList.drop 22 = dktX1_fault_1 := dk_seg dksX1_fault_0 22 rfl rfl
theorem dksX1_fault_2 : cX1_fault.data.toList.drop 46 = dktX1_fault_2 := dk_seg dksX1_fault_1 24 rfl rfl
theorem dX1_fault_0 : decode cX1_fault 0 = .ok (.aload_n 0, 1) := dk_42 (dk_at dksX1_fault_0 0 rfl rfl)
theorem dX1_fault_1 : decode cX1_fault 1 = .ok (.iconst 0, 1) := dk_3 (dk_at dksX1_fault_0 1 rfl rfl)
theorem dX1_fault_2 : decode cX1_fault 2 = .ok (.putfield 193, 3) := dk_181 0 193 (dk_at dksX1_fault_0 2 rfl rfl)
theorem dX1_fault_5 : decode cX1_fault 5 = .ok (.aload_n 0, 1) := dk_42 (dk_at dksX1_fault_0 5 rfl rfl)
theorem dX1_fault_6 : decode cX1_fault 6 = .ok (.bipush (-106), 2) := dk_16 150 (dk_at dksX1_fault_0 6 rfl rfl)
theorem dX1_fault_8 : decode cX1_fault 8 = .ok (.putfield 196, 3) := dk_181 0 196 (dk_at dksX1_fault_0 8 rfl rfl)
theorem dX1_fault_11 : decode cX1_fault 11 = .ok (.aload_n 0, 1) := dk_42 (dk_at dksX1_fault_0 11 rfl rfl)
theorem dX1_fault_12 : decode cX1_fault 12 = .ok (.iconst 0, 1) := dk_3 (dk_at dksX1_fault_0 12 rfl rfl)
theorem dX1_fault_13 : decode cX1_fault 13 = .ok (.putfield 205, 3) := dk_181 0 205 (dk_at dksX1_fault_0 13 rfl rfl)
theorem dX1_fault_16 : decode cX1_fault 16 = .ok (.aload_n 0, 1) := dk_42 (dk_at dksX1_fault_0 16 rfl rfl)
theorem dX1_fault_17 : decode cX1_fault 17 = .ok (.getfield 196, 3) := dk_180 0 196 (dk_at dksX1_fault_0 17 rfl rfl)
theorem dX1_fault_20 : decode cX1_fault 20 = .ok (.bipush (-106), 2) := dk_16 150 (dk_at dksX1_fault_0 20 rfl rfl)
theorem dX1_fault_22 : decode cX1_fault 22 = .ok (.if_icmp .ne 41, 3) := dk_160 0 41 (dk_at dksX1_fault_1 0 rfl rfl)
theorem dX1_fault_25 : decode cX1_fault 25 = .ok (.aload_n 0, 1) := dk_42 (dk_at dksX1_fault_1 3 rfl rfl)
theorem dX1_fault_26 : decode cX1_fault 26 = .ok (.getfield 193, 3) := dk_180 0 193 (dk_at dksX1_fault_1 4 rfl rfl)
theorem dX1_fault_29 : decode cX1_fault 29 = .ok (.aload_n 0, 1) := dk_42 (dk_at dksX1_fault_1 7 rfl rfl)
theorem dX1_fault_30 : decode cX1_fault 30 = .ok (.getfield 190, 3) := dk_180 0 190 (dk_at dksX1_fault_1 8 rfl rfl)
theorem dX1_fault_33 : decode cX1_fault 33 = .ok (.if_icmp .ge 30, 3) := dk_162 0 30 (dk_at dksX1_fault_1 11 rfl rfl)
theorem dX1_fault_36 : decode cX1_fault 36 = .ok (.aload_n 0, 1) := dk_42 (dk_at dksX1_fault_1 14 rfl rfl)
theorem dX1_fault_37 : decode cX1_fault 37 = .ok (.getfield 205, 3) := dk_180 0 205 (dk_at dksX1_fault_1 15 rfl rfl)
theorem dX1_fault_40 : decode cX1_fault 40 = .ok (.bipush 12, 2) := dk_16 12 (dk_at dksX1_fault_1 18 rfl rfl)
theorem dX1_fault_42 : decode cX1_fault 42 = .ok (.if_icmp .ne 14, 3) := dk_160 0 14 (dk_at dksX1_fault_1 20 rfl rfl)
theorem dX1_fault_45 : decode cX1_fault 45 = .ok (.aload_n 0, 1) := dk_42 (dk_at dksX1_fault_1 23 rfl rfl)
theorem dX1_fault_46 : decode cX1_fault 46 = .ok (.aload_n 0, 1) := dk_42 (dk_at dksX1_fault_2 0 rfl rfl)
theorem dX1_fault_47 : decode cX1_fault 47 = .ok (.getfield 193, 3) := dk_180 0 193 (dk_at dksX1_fault_2 1 rfl rfl)
theorem dX1_fault_50 : decode cX1_fault 50 = .ok (.invokevirtual 202, 3) := dk_182 0 202 (dk_at dksX1_fault_2 4 rfl rfl)
theorem dX1_fault_53 : decode cX1_fault 53 = .ok (.goto (-37), 3) := dk_167 255 219 (dk_at dksX1_fault_2 7 rfl rfl)
theorem dX1_fault_56 : decode cX1_fault 56 = .ok (.aload_n 0, 1) := dk_42 (dk_at dksX1_fault_2 10 rfl rfl)
theorem dX1_fault_57 : decode cX1_fault 57 = .ok (.invokevirtual 211, 3) := dk_182 0 211 (dk_at dksX1_fault_2 11 rfl rfl)
theorem dX1_fault_60 : decode cX1_fault 60 = .ok (.goto (-44), 3) := dk_167 255 212 (dk_at dksX1_fault_2 14 rfl rfl)
theorem dX1_fault_63 : decode cX1_fault 63 = .ok (.aload_n 0, 1) := dk_42 (dk_at dksX1_fault_2 17 rfl rfl)
theorem dX1_fault_64 : decode cX1_fault 64 = .ok (.getfield 196, 3) := dk_180 0 196 (dk_at dksX1_fault_2 18 rfl rfl)
theorem dX1_fault_67 : decode cX1_fault 67 = .ok (.ireturn, 1) := dk_172 (dk_at dksX1_fault_2 21 rfl rfl)
abbrev cX1_fails : ByteArray := prog_9_method_64_code
def yX1_fails : MethodName := ⟨RX1, "fails", "(I)V"⟩
def dkwX1_fails_0 : List UInt8 := [42, 42, 180, 0, 196, 16, 150, 160, 0, 7, 27, 167, 0, 7, 42, 180, 0, 196, 181, 0, 196, 177]
abbrev dktX1_fails_0 : List UInt8 := dkwX1_fails_0 ++ []
theorem dksX1_fails_0 : cX1_fails.data.toList.drop 0 = dktX1_fails_0 := by decide +kernel
theorem dX1_fails_0 : decode cX1_fails 0 = .ok (.aload_n 0, 1) := dk_42 (dk_at dksX1_fails_0 0 rfl rfl)
theorem dX1_fails_1 : decode cX1_fails 1 = .ok (.aload_n 0, 1) := dk_42 (dk_at dksX1_fails_0 1 rfl rfl)
theorem dX1_fails_2 : decode cX1_fails 2 = .ok (.getfield 196, 3) := dk_180 0 196 (dk_at dksX1_fails_0 2 rfl rfl)
theorem dX1_fails_5 : decode cX1_fails 5 = .ok (.bipush (-106), 2) := dk_16 150 (dk_at dksX1_fails_0 5 rfl rfl)
theorem dX1_fails_7 : decode cX1_fails 7 = .ok (.if_icmp .ne 7, 3) := dk_160 0 7 (dk_at dksX1_fails_0 7 rfl rfl)
theorem dX1_fails_10 : decode cX1_fails 10 = .ok (.iload_n 1, 1) := dk_27 (dk_at dksX1_fails_0 10 rfl rfl)
theorem dX1_fails_11 : decode cX1_fails 11 = .ok (.goto 7, 3) := dk_167 0 7 (dk_at dksX1_fails_0 11 rfl rfl)
theorem dX1_fails_14 : decode cX1_fails 14 = .ok (.aload_n 0, 1) := dk_42 (dk_at dksX1_fails_0 14 rfl rfl)
theorem dX1_fails_15 : decode cX1_fails 15 = .ok (.getfield 196, 3) := dk_180 0 196 (dk_at dksX1_fails_0 15 rfl rfl)
theorem dX1_fails_18 : decode cX1_fails 18 = .ok (.putfield 196, 3) := dk_181 0 196 (dk_at dksX1_fails_0 18 rfl rfl)
theorem dX1_fails_21 : decode cX1_fails 21 = .ok (.return_, 1) := dk_177 (dk_at dksX1_fails_0 21 rfl rfl)
abbrev cX1_readItem : ByteArray := prog_9_method_66_code
def yX1_readItem : MethodName := ⟨RX1, "readItem", "()V"⟩
def dkwX1_readItem_7 : List UInt8 := [180, 0, 205, 4, 96, 181, 0, 205, 177]
abbrev dktX1_readItem_7 : List UInt8 := dkwX1_readItem_7 ++ []
def dkwX1_readItem_6 : List UInt8 := [184, 0, 79, 153, 0, 13, 42, 42, 180, 0, 193, 4, 100, 182, 0, 202, 132, 1, 1, 167, 255, 201, 42, 89]
abbrev dktX1_readItem_6 : List UInt8 := dkwX1_readItem_6 ++ dktX1_readItem_7
def dkwX1_readItem_5 : List UInt8 := [16, 150, 160, 0, 44, 42, 180, 0, 53, 16, 7, 42, 180, 0, 205, 104, 42, 180, 0, 53, 16, 7, 27, 104]
abbrev dktX1_readItem_5 : List UInt8 := dkwX1_readItem_5 ++ dktX1_readItem_6
def dkwX1_readItem_4 : List UInt8 := [181, 0, 193, 132, 1, 1, 167, 255, 159, 3, 60, 27, 42, 180, 0, 205, 162, 0, 53, 42, 180, 0, 196]
abbrev dktX1_readItem_4 : List UInt8 := dkwX1_readItem_4 ++ dktX1_readItem_5
def dkwX1_readItem_3 : List UInt8 := [180, 0, 193, 46, 28, 159, 0, 11, 42, 42, 180, 0, 193, 182, 0, 202, 42, 89, 180, 0, 193, 4, 96]
abbrev dktX1_readItem_3 : List UInt8 := dkwX1_readItem_3 ++ dktX1_readItem_4
def dkwX1_readItem_2 : List UInt8 := [180, 0, 196, 16, 150, 160, 0, 35, 42, 180, 0, 193, 42, 180, 0, 190, 162, 0, 16, 42, 180, 0, 19, 42]
abbrev dktX1_readItem_2 : List UInt8 := dkwX1_readItem_2 ++ dktX1_readItem_3
def dkwX1_readItem_1 : List UInt8 := [160, 0, 8, 16, 58, 167, 0, 15, 27, 8, 160, 0, 8, 16, 59, 167, 0, 5, 16, 44, 61, 42]
abbrev dktX1_readItem_1 : List UInt8 := dkwX1_readItem_1 ++ dktX1_readItem_2
def dkwX1_readItem_0 : List UInt8 := [3, 60, 27, 16, 6, 162, 0, 97, 42, 180, 0, 196, 16, 150, 160, 0, 88, 42, 27, 182, 0, 208, 27, 5]
abbrev dktX1_readItem_0 : List UInt8 := dkwX1_readItem_0 ++ dktX1_readItem_1
theorem dksX1_readItem_0 : cX1_readItem.data.toList.drop 0 = dktX1_readItem_0 := by decide +kernel
theorem dksX1_readItem_1 : cX1_readItem.data.toList.drop 24 = dktX1_readItem_1 := dk_seg dksX1_readItem_0 24 rfl rfl
theorem dksX1_readItem_2 : cX1_readItem.data.toList.drop 46 = dktX1_readItem_2 := dk_seg dksX1_readItem_1 22 rfl rfl
theorem dksX1_readItem_3 : cX1_readItem.data.toList.drop 70 = dktX1_readItem_3 := dk_seg dksX1_readItem_2 24 rfl rfl
theorem dksX1_readItem_4 : cX1_readItem.data.toList.drop 93 = dktX1_readItem_4 := dk_seg dksX1_readItem_3 23 rfl rfl
theorem dksX1_readItem_5 : cX1_readItem.data.toList.drop 116 = dktX1_readItem_5 := dk_seg dksX1_readItem_4 23 rfl rfl
theorem dksX1_readItem_6 : cX1_readItem.data.toList.drop 140 = dktX1_readItem_6 := dk_seg dksX1_readItem_5 24 rfl rfl
theorem dksX1_readItem_7 : cX1_readItem.data.toList.drop 164 = dktX1_readItem_7 := dk_seg dksX1_readItem_6 24 rfl rfl
theorem dX1_readItem_0 : decode cX1_readItem 0 = .ok (.iconst 0, 1) := dk_3 (dk_at dksX1_readItem_0 0 rfl rfl)
theorem dX1_readItem_1 : decode cX1_readItem 1 = .ok (.istore_n 1, 1) := dk_60 (dk_at dksX1_readItem_0 1 rfl rfl)
theorem dX1_readItem_2 : decode cX1_readItem 2 = .ok (.iload_n 1, 1) := dk_27 (dk_at dksX1_readItem_0 2 rfl rfl)
theorem dX1_readItem_3 : decode cX1_readItem 3 = .ok (.bipush 6, 2) := dk_16 6 (dk_at dksX1_readItem_0 3 rfl rfl)
theorem dX1_readItem_5 : decode cX1_readItem 5 = .ok (.if_icmp .ge 97, 3) := dk_162 0 97 (dk_at dksX1_readItem_0 5 rfl rfl)
theorem dX1_readItem_8 : decode cX1_readItem 8 = .ok (.aload_n 0, 1) := dk_42 (dk_at dksX1_readItem_0 8 rfl rfl)
theorem dX1_readItem_9 : decode cX1_readItem 9 = .ok (.getfield 196, 3) := dk_180 0 196 (dk_at dksX1_readItem_0 9 rfl rfl)
theorem dX1_readItem_12 : decode cX1_readItem 12 = .ok (.bipush (-106), 2) := dk_16 150 (dk_at dksX1_readItem_0 12 rfl rfl)
theorem dX1_readItem_14 : decode cX1_readItem 14 = .ok (.if_icmp .ne 88, 3) := dk_160 0 88 (dk_at dksX1_readItem_0 14 rfl rfl)
theorem dX1_readItem_17 : decode cX1_readItem 17 = .ok (.aload_n 0, 1) := dk_42 (dk_at dksX1_readItem_0 17 rfl rfl)
theorem dX1_readItem_18 : decode cX1_readItem 18 = .ok (.iload_n 1, 1) := dk_27 (dk_at dksX1_readItem_0 18 rfl rfl)
theorem dX1_readItem_19 : decode cX1_readItem 19 = .ok (.invokevirtual 208, 3) := dk_182 0 208 (dk_at dksX1_readItem_0 19 rfl rfl)
theorem dX1_readItem_22 : decode cX1_readItem 22 = .ok (.iload_n 1, 1) := dk_27 (dk_at dksX1_readItem_0 22 rfl rfl)
theorem dX1_readItem_23 : decode cX1_readItem 23 = .ok (.iconst 2, 1) := dk_5 (dk_at dksX1_readItem_0 23 rfl rfl)
theorem dX1_readItem_24 : decode cX1_readItem 24 = .ok (.if_icmp .ne 8, 3) := dk_160 0 8 (dk_at dksX1_readItem_1 0 rfl rfl)
theorem dX1_readItem_27 : decode cX1_readItem 27 = .ok (.bipush 58, 2) := dk_16 58 (dk_at dksX1_readItem_1 3 rfl rfl)
theorem dX1_readItem_29 : decode cX1_readItem 29 = .ok (.goto 15, 3) := dk_167 0 15 (dk_at dksX1_readItem_1 5 rfl rfl)
theorem dX1_readItem_32 : decode cX1_readItem 32 = .ok (.iload_n 1, 1) := dk_27 (dk_at dksX1_readItem_1 8 rfl rfl)
theorem dX1_readItem_33 : decode cX1_readItem 33 = .ok (.iconst 5, 1) := dk_8 (dk_at dksX1_readItem_1 9 rfl rfl)
theorem dX1_readItem_34 : decode cX1_readItem 34 = .ok (.if_icmp .ne 8, 3) := dk_160 0 8 (dk_at dksX1_readItem_1 10 rfl rfl)
theorem dX1_readItem_37 : decode cX1_readItem 37 = .ok (.bipush 59, 2) := dk_16 59 (dk_at dksX1_readItem_1 13 rfl rfl)
theorem dX1_readItem_39 : decode cX1_readItem 39 = .ok (.goto 5, 3) := dk_167 0 5 (dk_at dksX1_readItem_1 15 rfl rfl)
theorem dX1_readItem_42 : decode cX1_readItem 42 = .ok (.bipush 44, 2) := dk_16 44 (dk_at dksX1_readItem_1 18 rfl rfl)
theorem dX1_readItem_44 : decode cX1_readItem 44 = .ok (.istore_n 2, 1) := dk_61 (dk_at dksX1_readItem_1 20 rfl rfl)
theorem dX1_readItem_45 : decode cX1_readItem 45 = .ok (.aload_n 0, 1) := dk_42 (dk_at dksX1_readItem_1 21 rfl rfl)
theorem dX1_readItem_46 : decode cX1_readItem 46 = .ok (.getfield 196, 3) := dk_180 0 196 (dk_at dksX1_readItem_2 0 rfl rfl)
theorem dX1_readItem_49 : decode cX1_readItem 49 = .ok (.bipush (-106), 2) := dk_16 150 (dk_at dksX1_readItem_2 3 rfl rfl)
theorem dX1_readItem_51 : decode cX1_readItem 51 = .ok (.if_icmp .ne 35, 3) := dk_160 0 35 (dk_at dksX1_readItem_2 5 rfl rfl)
theorem dX1_readItem_54 : decode cX1_readItem 54 = .ok (.aload_n 0, 1) := dk_42 (dk_at dksX1_readItem_2 8 rfl rfl)
theorem dX1_readItem_55 : decode cX1_readItem 55 = .ok (.getfield 193, 3) := dk_180 0 193 (dk_at dksX1_readItem_2 9 rfl rfl)
theorem dX1_readItem_58 : decode cX1_readItem 58 = .ok (.aload_n 0, 1) := dk_42 (dk_at dksX1_readItem_2 12 rfl rfl)
theorem dX1_readItem_59 : decode cX1_readItem 59 = .ok (.getfield 190, 3) := dk_180 0 190 (dk_at dksX1_readItem_2 13 rfl rfl)
theorem dX1_readItem_62 : decode cX1_readItem 62 = .ok (.if_icmp .ge 16, 3) := dk_162 0 16 (dk_at dksX1_readItem_2 16 rfl rfl)
theorem dX1_readItem_65 : decode cX1_readItem 65 = .ok (.aload_n 0, 1) := dk_42 (dk_at dksX1_readItem_2 19 rfl rfl)
theorem dX1_readItem_66 : decode cX1_readItem 66 = .ok (.getfield 19, 3) := dk_180 0 19 (dk_at dksX1_readItem_2 20 rfl rfl)
theorem dX1_readItem_69 : decode cX1_readItem 69 = .ok (.aload_n 0, 1) := dk_42 (dk_at dksX1_readItem_2 23 rfl rfl)
theorem dX1_readItem_70 : decode cX1_readItem 70 = .ok (.getfield 193, 3) := dk_180 0 193 (dk_at dksX1_readItem_3 0 rfl rfl)
theorem dX1_readItem_73 : decode cX1_readItem 73 = .ok (.iaload, 1) := dk_46 (dk_at dksX1_readItem_3 3 rfl rfl)
theorem dX1_readItem_74 : decode cX1_readItem 74 = .ok (.iload_n 2, 1) := dk_28 (dk_at dksX1_readItem_3 4 rfl rfl)
theorem dX1_readItem_75 : decode cX1_readItem 75 = .ok (.if_icmp .eq 11, 3) := dk_159 0 11 (dk_at dksX1_readItem_3 5 rfl rfl)
theorem dX1_readItem_78 : decode cX1_readItem 78 = .ok (.aload_n 0, 1) := dk_42 (dk_at dksX1_readItem_3 8 rfl rfl)
theorem dX1_readItem_79 : decode cX1_readItem 79 = .ok (.aload_n 0, 1) := dk_42 (dk_at dksX1_readItem_3 9 rfl rfl)
theorem dX1_readItem_80 : decode cX1_readItem 80 = .ok (.getfield 193, 3) := dk_180 0 193 (dk_at dksX1_readItem_3 10 rfl rfl)
theorem dX1_readItem_83 : decode cX1_readItem 83 = .ok (.invokevirtual 202, 3) := dk_182 0 202 (dk_at dksX1_readItem_3 13 rfl rfl)
theorem dX1_readItem_86 : decode cX1_readItem 86 = .ok (.aload_n 0, 1) := dk_42 (dk_at dksX1_readItem_3 16 rfl rfl)
theorem dX1_readItem_87 : decode cX1_readItem 87 = .ok (.dup, 1) := dk_89 (dk_at dksX1_readItem_3 17 rfl rfl)
theorem dX1_readItem_88 : decode cX1_readItem 88 = .ok (.getfield 193, 3) := dk_180 0 193 (dk_at dksX1_readItem_3 18 rfl rfl)
theorem dX1_readItem_91 : decode cX1_readItem 91 = .ok (.iconst 1, 1) := dk_4 (dk_at dksX1_readItem_3 21 rfl rfl)
theorem dX1_readItem_92 : decode cX1_readItem 92 = .ok (.iadd, 1) := dk_96 (dk_at dksX1_readItem_3 22 rfl rfl)
theorem dX1_readItem_93 : decode cX1_readItem 93 = .ok (.putfield 193, 3) := dk_181 0 193 (dk_at dksX1_readItem_4 0 rfl rfl)
theorem dX1_readItem_96 : decode cX1_readItem 96 = .ok (.iinc 1 1, 3) := dk_132 1 1 (dk_at dksX1_readItem_4 3 rfl rfl)
theorem dX1_readItem_99 : decode cX1_readItem 99 = .ok (.goto (-97), 3) := dk_167 255 159 (dk_at dksX1_readItem_4 6 rfl rfl)
theorem dX1_readItem_102 : decode cX1_readItem 102 = .ok (.iconst 0, 1) := dk_3 (dk_at dksX1_readItem_4 9 rfl rfl)
theorem dX1_readItem_103 : decode cX1_readItem 103 = .ok (.istore_n 1, 1) := dk_60 (dk_at dksX1_readItem_4 10 rfl rfl)
theorem dX1_readItem_104 : decode cX1_readItem 104 = .ok (.iload_n 1, 1) := dk_27 (dk_at dksX1_readItem_4 11 rfl rfl)
theorem dX1_readItem_105 : decode cX1_readItem 105 = .ok (.aload_n 0, 1) := dk_42 (dk_at dksX1_readItem_4 12 rfl rfl)
theorem dX1_readItem_106 : decode cX1_readItem 106 = .ok (.getfield 205, 3) := dk_180 0 205 (dk_at dksX1_readItem_4 13 rfl rfl)
theorem dX1_readItem_109 : decode cX1_readItem 109 = .ok (.if_icmp .ge 53, 3) := dk_162 0 53 (dk_at dksX1_readItem_4 16 rfl rfl)
theorem dX1_readItem_112 : decode cX1_readItem 112 = .ok (.aload_n 0, 1) := dk_42 (dk_at dksX1_readItem_4 19 rfl rfl)
theorem dX1_readItem_113 : decode cX1_readItem 113 = .ok (.getfield 196, 3) := dk_180 0 196 (dk_at dksX1_readItem_4 20 rfl rfl)
theorem dX1_readItem_116 : decode cX1_readItem 116 = .ok (.bipush (-106), 2) := dk_16 150 (dk_at dksX1_readItem_5 0 rfl rfl)
theorem dX1_readItem_118 : decode cX1_readItem 118 = .ok (.if_icmp .ne 44, 3) := dk_160 0 44 (dk_at dksX1_readItem_5 2 rfl rfl)
theorem dX1_readItem_121 : decode cX1_readItem 121 = .ok (.aload_n 0, 1) := dk_42 (dk_at dksX1_readItem_5 5 rfl rfl)
theorem dX1_readItem_122 : decode cX1_readItem 122 = .ok (.getfield 53, 3) := dk_180 0 53 (dk_at dksX1_readItem_5 6 rfl rfl)
theorem dX1_readItem_125 : decode cX1_readItem 125 = .ok (.bipush 7, 2) := dk_16 7 (dk_at dksX1_readItem_5 9 rfl rfl)
theorem dX1_readItem_127 : decode cX1_readItem 127 = .ok (.aload_n 0, 1) := dk_42 (dk_at dksX1_readItem_5 11 rfl rfl)
theorem dX1_readItem_128 : decode cX1_readItem 128 = .ok (.getfield 205, 3) := dk_180 0 205 (dk_at dksX1_readItem_5 12 rfl rfl)
theorem dX1_readItem_131 : decode cX1_readItem 131 = .ok (.imul, 1) := dk_104 (dk_at dksX1_readItem_5 15 rfl rfl)
theorem dX1_readItem_132 : decode cX1_readItem 132 = .ok (.aload_n 0, 1) := dk_42 (dk_at dksX1_readItem_5 16 rfl rfl)
theorem dX1_readItem_133 : decode cX1_readItem 133 = .ok (.getfield 53, 3) := dk_180 0 53 (dk_at dksX1_readItem_5 17 rfl rfl)
theorem dX1_readItem_136 : decode cX1_readItem 136 = .ok (.bipush 7, 2) := dk_16 7 (dk_at dksX1_readItem_5 20 rfl rfl)
theorem dX1_readItem_138 : decode cX1_readItem 138 = .ok (.iload_n 1, 1) := dk_27 (dk_at dksX1_readItem_5 22 rfl rfl)
theorem dX1_readItem_139 : decode cX1_readItem 139 = .ok (.imul, 1) := dk_104 (dk_at dksX1_readItem_5 23 rfl rfl)
theorem dX1_readItem_140 : decode cX1_readItem 140 = .ok (.invokestatic 79, 3) := dk_184 0 79 (dk_at dksX1_readItem_6 0 rfl rfl)
theorem dX1_readItem_143 : decode cX1_readItem 143 = .ok (.ifCond .eq 13, 3) := dk_153 0 13 (dk_at dksX1_readItem_6 3 rfl rfl)
theorem dX1_readItem_146 : decode cX1_readItem 146 = .ok (.aload_n 0, 1) := dk_42 (dk_at dksX1_readItem_6 6 rfl rfl)
theorem dX1_readItem_147 : decode cX1_readItem 147 = .ok (.aload_n 0, 1) := dk_42 (dk_at dksX1_readItem_6 7 rfl rfl)
theorem dX1_readItem_148 : decode cX1_readItem 148 = .ok (.getfield 193, 3) := dk_180 0 193 (dk_at dksX1_readItem_6 8 rfl rfl)
theorem dX1_readItem_151 : decode cX1_readItem 151 = .ok (.iconst 1, 1) := dk_4 (dk_at dksX1_readItem_6 11 rfl rfl)
theorem dX1_readItem_152 : decode cX1_readItem 152 = .ok (.isub, 1) := dk_100 (dk_at dksX1_readItem_6 12 rfl rfl)
theorem dX1_readItem_153 : decode cX1_readItem 153 = .ok (.invokevirtual 202, 3) := dk_182 0 202 (dk_at dksX1_readItem_6 13 rfl rfl)
theorem dX1_readItem_156 : decode cX1_readItem 156 = .ok (.iinc 1 1, 3) := dk_132 1 1 (dk_at dksX1_readItem_6 16 rfl rfl)
theorem dX1_readItem_159 : decode cX1_readItem 159 = .ok (.goto (-55), 3) := dk_167 255 201 (dk_at dksX1_readItem_6 19 rfl rfl)
theorem dX1_readItem_162 : decode cX1_readItem 162 = .ok (.aload_n 0, 1) := dk_42 (dk_at dksX1_readItem_6 22 rfl rfl)
theorem dX1_readItem_163 : decode cX1_readItem 163 = .ok (.dup, 1) := dk_89 (dk_at dksX1_readItem_6 23 rfl rfl)
theorem dX1_readItem_164 : decode cX1_readItem 164 = .ok (.getfield 205, 3) := dk_180 0 205 (dk_at dksX1_readItem_7 0 rfl rfl)
theorem dX1_readItem_167 : decode cX1_readItem 167 = .ok (.iconst 1, 1) := dk_4 (dk_at dksX1_readItem_7 3 rfl rfl)
theorem dX1_readItem_168 : decode cX1_readItem 168 = .ok (.iadd, 1) := dk_96 (dk_at dksX1_readItem_7 4 rfl rfl)
theorem dX1_readItem_169 : decode cX1_readItem 169 = .ok (.putfield 205, 3) := dk_181 0 205 (dk_at dksX1_readItem_7 5 rfl rfl)
theorem dX1_readItem_172 : decode cX1_readItem 172 = .ok (.return_, 1) := dk_177 (dk_at dksX1_readItem_7 8 rfl rfl)
abbrev cX1_readCoordinate : ByteArray := prog_9_method_65_code
def yX1_readCoordinate : MethodName := ⟨RX1, "readCoordinate", "(I)V"⟩
def dkwX1_readCoordinate_5 : List UInt8 := [180, 0, 53, 16, 7, 42, 180, 0, 205, 104, 27, 96, 29, 79, 177]
abbrev dktX1_readCoordinate_5 : List UInt8 := dkwX1_readCoordinate_5 ++ []
def dkwX1_readCoordinate_4 : List UInt8 := [180, 0, 53, 16, 7, 42, 180, 0, 205, 104, 27, 96, 6, 100, 46, 163, 0, 8, 42, 28, 182, 0, 202, 42]
abbrev dktX1_readCoordinate_4 : List UInt8 := dkwX1_readCoordinate_4 ++ dktX1_readCoordinate_5
def dkwX1_readCoordinate_3 : List UInt8 := [42, 89, 180, 0, 193, 4, 96, 181, 0, 193, 29, 16, 32, 163, 0, 28, 27, 5, 164, 0, 28, 29, 42]
abbrev dktX1_readCoordinate_3 : List UInt8 := dkwX1_readCoordinate_3 ++ dktX1_readCoordinate_4
def dkwX1_readCoordinate_2 : List UInt8 := [182, 0, 199, 153, 0, 31, 16, 10, 29, 104, 42, 180, 0, 19, 42, 180, 0, 193, 46, 96, 16, 48, 100, 62]
abbrev dktX1_readCoordinate_2 : List UInt8 := dkwX1_readCoordinate_2 ++ dktX1_readCoordinate_3
def dkwX1_readCoordinate_1 : List UInt8 := [180, 0, 19, 42, 180, 0, 193, 46, 16, 48, 100, 62, 42, 89, 180, 0, 193, 4, 96, 181, 0, 193, 42]
abbrev dktX1_readCoordinate_1 : List UInt8 := dkwX1_readCoordinate_1 ++ dktX1_readCoordinate_2
def dkwX1_readCoordinate_0 : List UInt8 := [42, 180, 0, 193, 61, 42, 182, 0, 199, 154, 0, 12, 42, 42, 180, 0, 193, 182, 0, 202, 177, 42]
abbrev dktX1_readCoordinate_0 : List UInt8 := dkwX1_readCoordinate_0 ++ dktX1_readCoordinate_1
theorem dksX1_readCoordinate_0 : cX1_readCoordinate.data.toList.drop 0 = dktX1_readCoordinate_0 := by decide +kernel
theorem dksX1_readCoordinate_1 : cX1_readCoordinate.data.toList.drop 22 = dktX1_readCoordinate_1 := dk_seg dksX1_readCoordinate_0 22 rfl rfl
theorem dksX1_readCoordinate_2 : cX1_readCoordinate.data.toList.drop 45 = dktX1_readCoordinate_2 := dk_seg dksX1_readCoordinate_1 23 rfl rfl
theorem dksX1_readCoordinate_3 : cX1_readCoordinate.data.toList.drop 69 = dktX1_readCoordinate_3 := dk_seg dksX1_readCoordinate_2 24 rfl rfl
theorem dksX1_readCoordinate_4 : cX1_readCoordinate.data.toList.drop 92 = dktX1_readCoordinate_4 := dk_seg dksX1_readCoordinate_3 23 rfl rfl
theorem dksX1_readCoordinate_5 : cX1_readCoordinate.data.toList.drop 116 = dktX1_readCoordinate_5 := dk_seg dksX1_readCoordinate_4 24 rfl rfl
theorem dX1_readCoordinate_0 : decode cX1_readCoordinate 0 = .ok (.aload_n 0, 1) := dk_42 (dk_at dksX1_readCoordinate_0 0 rfl rfl)
theorem dX1_readCoordinate_1 : decode cX1_readCoordinate 1 = .ok (.getfield 193, 3) := dk_180 0 193 (dk_at dksX1_readCoordinate_0 1 rfl rfl)
theorem dX1_readCoordinate_4 : decode cX1_readCoordinate 4 = .ok (.istore_n 2, 1) := dk_61 (dk_at dksX1_readCoordinate_0 4 rfl rfl)
theorem dX1_readCoordinate_5 : decode cX1_readCoordinate 5 = .ok (.aload_n 0, 1) := dk_42 (dk_at dksX1_readCoordinate_0 5 rfl rfl)
theorem dX1_readCoordinate_6 : decode cX1_readCoordinate 6 = .ok (.invokevirtual 199, 3) := dk_182 0 199 (dk_at dksX1_readCoordinate_0 6 rfl rfl)
theorem dX1_readCoordinate_9 : decode cX1_readCoordinate 9 = .ok (.ifCond .ne 12, 3) := dk_154 0 12 (dk_at dksX1_readCoordinate_0 9 rfl rfl)
theorem dX1_readCoordinate_12 : decode cX1_readCoordinate 12 = .ok (.aload_n 0, 1) := dk_42 (dk_at dksX1_readCoordinate_0 12 rfl rfl)
theorem dX1_readCoordinate_13 : decode cX1_readCoordinate 13 = .ok (.aload_n 0, 1) := dk_42 (dk_at dksX1_readCoordinate_0 13 rfl rfl)
theorem dX1_readCoordinate_14 : decode cX1_readCoordinate 14 = .ok (.getfield 193, 3) := dk_180 0 193 (dk_at dksX1_readCoordinate_0 14 rfl rfl)
theorem dX1_readCoordinate_17 : decode cX1_readCoordinate 17 = .ok (.invokevirtual 202, 3) := dk_182 0 202 (dk_at dksX1_readCoordinate_0 17 rfl rfl)
theorem dX1_readCoordinate_20 : decode cX1_readCoordinate 20 = .ok (.return_, 1) := dk_177 (dk_at dksX1_readCoordinate_0 20 rfl rfl)
theorem dX1_readCoordinate_21 : decode cX1_readCoordinate 21 = .ok (.aload_n 0, 1) := dk_42 (dk_at dksX1_readCoordinate_0 21 rfl rfl)
theorem dX1_readCoordinate_22 : decode cX1_readCoordinate 22 = .ok (.getfield 19, 3) := dk_180 0 19 (dk_at dksX1_readCoordinate_1 0 rfl rfl)
theorem dX1_readCoordinate_25 : decode cX1_readCoordinate 25 = .ok (.aload_n 0, 1) := dk_42 (dk_at dksX1_readCoordinate_1 3 rfl rfl)
theorem dX1_readCoordinate_26 : decode cX1_readCoordinate 26 = .ok (.getfield 193, 3) := dk_180 0 193 (dk_at dksX1_readCoordinate_1 4 rfl rfl)
theorem dX1_readCoordinate_29 : decode cX1_readCoordinate 29 = .ok (.iaload, 1) := dk_46 (dk_at dksX1_readCoordinate_1 7 rfl rfl)
theorem dX1_readCoordinate_30 : decode cX1_readCoordinate 30 = .ok (.bipush 48, 2) := dk_16 48 (dk_at dksX1_readCoordinate_1 8 rfl rfl)
theorem dX1_readCoordinate_32 : decode cX1_readCoordinate 32 = .ok (.isub, 1) := dk_100 (dk_at dksX1_readCoordinate_1 10 rfl rfl)
theorem dX1_readCoordinate_33 : decode cX1_readCoordinate 33 = .ok (.istore_n 3, 1) := dk_62 (dk_at dksX1_readCoordinate_1 11 rfl rfl)
theorem dX1_readCoordinate_34 : decode cX1_readCoordinate 34 = .ok (.aload_n 0, 1) := dk_42 (dk_at dksX1_readCoordinate_1 12 rfl rfl)
theorem dX1_readCoordinate_35 : decode cX1_readCoordinate 35 = .ok (.dup, 1) := dk_89 (dk_at dksX1_readCoordinate_1 13 rfl rfl)
theorem dX1_readCoordinate_36 : decode cX1_readCoordinate 36 = .ok (.getfield 193, 3) := dk_180 0 193 (dk_at dksX1_readCoordinate_1 14 rfl rfl)
theorem dX1_readCoordinate_39 : decode cX1_readCoordinate 39 = .ok (.iconst 1, 1) := dk_4 (dk_at dksX1_readCoordinate_1 17 rfl rfl)
theorem dX1_readCoordinate_40 : decode cX1_readCoordinate 40 = .ok (.iadd, 1) := dk_96 (dk_at dksX1_readCoordinate_1 18 rfl rfl)
theorem dX1_readCoordinate_41 : decode cX1_readCoordinate 41 = .ok (.putfield 193, 3) := dk_181 0 193 (dk_at dksX1_readCoordinate_1 19 rfl rfl)
theorem dX1_readCoordinate_44 : decode cX1_readCoordinate 44 = .ok (.aload_n 0, 1) := dk_42 (dk_at dksX1_readCoordinate_1 22 rfl rfl)
theorem dX1_readCoordinate_45 : decode cX1_readCoordinate 45 = .ok (.invokevirtual 199, 3) := dk_182 0 199 (dk_at dksX1_readCoordinate_2 0 rfl rfl)
theorem dX1_readCoordinate_48 : decode cX1_readCoordinate 48 = .ok (.ifCond .eq 31, 3) := dk_153 0 31 (dk_at dksX1_readCoordinate_2 3 rfl rfl)
theorem dX1_readCoordinate_51 : decode cX1_readCoordinate 51 = .ok (.bipush 10, 2) := dk_16 10 (dk_at dksX1_readCoordinate_2 6 rfl rfl)
theorem dX1_readCoordinate_53 : decode cX1_readCoordinate 53 = .ok (.iload_n 3, 1) := dk_29 (dk_at dksX1_readCoordinate_2 8 rfl rfl)
theorem dX1_readCoordinate_54 : decode cX1_readCoordinate 54 = .ok (.imul, 1) := dk_104 (dk_at dksX1_readCoordinate_2 9 rfl rfl)
theorem dX1_readCoordinate_55 : decode cX1_readCoordinate 55 = .ok (.aload_n 0, 1) := dk_42 (dk_at dksX1_readCoordinate_2 10 rfl rfl)
theorem dX1_readCoordinate_56 : decode cX1_readCoordinate 56 = .ok (.getfield 19, 3) := dk_180 0 19 (dk_at dksX1_readCoordinate_2 11 rfl rfl)
theorem dX1_readCoordinate_59 : decode cX1_readCoordinate 59 = .ok (.aload_n 0, 1) := dk_42 (dk_at dksX1_readCoordinate_2 14 rfl rfl)
theorem dX1_readCoordinate_60 : decode cX1_readCoordinate 60 = .ok (.getfield 193, 3) := dk_180 0 193 (dk_at dksX1_readCoordinate_2 15 rfl rfl)
theorem dX1_readCoordinate_63 : decode cX1_readCoordinate 63 = .ok (.iaload, 1) := dk_46 (dk_at dksX1_readCoordinate_2 18 rfl rfl)
theorem dX1_readCoordinate_64 : decode cX1_readCoordinate 64 = .ok (.iadd, 1) := dk_96 (dk_at dksX1_readCoordinate_2 19 rfl rfl)
theorem dX1_readCoordinate_65 : decode cX1_readCoordinate 65 = .ok (.bipush 48, 2) := dk_16 48 (dk_at dksX1_readCoordinate_2 20 rfl rfl)
theorem dX1_readCoordinate_67 : decode cX1_readCoordinate 67 = .ok (.isub, 1) := dk_100 (dk_at dksX1_readCoordinate_2 22 rfl rfl)
theorem dX1_readCoordinate_68 : decode cX1_readCoordinate 68 = .ok (.istore_n 3, 1) := dk_62 (dk_at dksX1_readCoordinate_2 23 rfl rfl)
theorem dX1_readCoordinate_69 : decode cX1_readCoordinate 69 = .ok (.aload_n 0, 1) := dk_42 (dk_at dksX1_readCoordinate_3 0 rfl rfl)
theorem dX1_readCoordinate_70 : decode cX1_readCoordinate 70 = .ok (.dup, 1) := dk_89 (dk_at dksX1_readCoordinate_3 1 rfl rfl)
theorem dX1_readCoordinate_71 : decode cX1_readCoordinate 71 = .ok (.getfield 193, 3) := dk_180 0 193 (dk_at dksX1_readCoordinate_3 2 rfl rfl)
theorem dX1_readCoordinate_74 : decode cX1_readCoordinate 74 = .ok (.iconst 1, 1) := dk_4 (dk_at dksX1_readCoordinate_3 5 rfl rfl)
theorem dX1_readCoordinate_75 : decode cX1_readCoordinate 75 = .ok (.iadd, 1) := dk_96 (dk_at dksX1_readCoordinate_3 6 rfl rfl)
theorem dX1_readCoordinate_76 : decode cX1_readCoordinate 76 = .ok (.putfield 193, 3) := dk_181 0 193 (dk_at dksX1_readCoordinate_3 7 rfl rfl)
theorem dX1_readCoordinate_79 : decode cX1_readCoordinate 79 = .ok (.iload_n 3, 1) := dk_29 (dk_at dksX1_readCoordinate_3 10 rfl rfl)
theorem dX1_readCoordinate_80 : decode cX1_readCoordinate 80 = .ok (.bipush 32, 2) := dk_16 32 (dk_at dksX1_readCoordinate_3 11 rfl rfl)
theorem dX1_readCoordinate_82 : decode cX1_readCoordinate 82 = .ok (.if_icmp .gt 28, 3) := dk_163 0 28 (dk_at dksX1_readCoordinate_3 13 rfl rfl)
theorem dX1_readCoordinate_85 : decode cX1_readCoordinate 85 = .ok (.iload_n 1, 1) := dk_27 (dk_at dksX1_readCoordinate_3 16 rfl rfl)
theorem dX1_readCoordinate_86 : decode cX1_readCoordinate 86 = .ok (.iconst 2, 1) := dk_5 (dk_at dksX1_readCoordinate_3 17 rfl rfl)
theorem dX1_readCoordinate_87 : decode cX1_readCoordinate 87 = .ok (.if_icmp .le 28, 3) := dk_164 0 28 (dk_at dksX1_readCoordinate_3 18 rfl rfl)
theorem dX1_readCoordinate_90 : decode cX1_readCoordinate 90 = .ok (.iload_n 3, 1) := dk_29 (dk_at dksX1_readCoordinate_3 21 rfl rfl)
theorem dX1_readCoordinate_91 : decode cX1_readCoordinate 91 = .ok (.aload_n 0, 1) := dk_42 (dk_at dksX1_readCoordinate_3 22 rfl rfl)
theorem dX1_readCoordinate_92 : decode cX1_readCoordinate 92 = .ok (.getfield 53, 3) := dk_180 0 53 (dk_at dksX1_readCoordinate_4 0 rfl rfl)
theorem dX1_readCoordinate_95 : decode cX1_readCoordinate 95 = .ok (.bipush 7, 2) := dk_16 7 (dk_at dksX1_readCoordinate_4 3 rfl rfl)
theorem dX1_readCoordinate_97 : decode cX1_readCoordinate 97 = .ok (.aload_n 0, 1) := dk_42 (dk_at dksX1_readCoordinate_4 5 rfl rfl)
theorem dX1_readCoordinate_98 : decode cX1_readCoordinate 98 = .ok (.getfield 205, 3) := dk_180 0 205 (dk_at dksX1_readCoordinate_4 6 rfl rfl)
theorem dX1_readCoordinate_101 : decode cX1_readCoordinate 101 = .ok (.imul, 1) := dk_104 (dk_at dksX1_readCoordinate_4 9 rfl rfl)
theorem dX1_readCoordinate_102 : decode cX1_readCoordinate 102 = .ok (.iload_n 1, 1) := dk_27 (dk_at dksX1_readCoordinate_4 10 rfl rfl)
theorem dX1_readCoordinate_103 : decode cX1_readCoordinate 103 = .ok (.iadd, 1) := dk_96 (dk_at dksX1_readCoordinate_4 11 rfl rfl)
theorem dX1_readCoordinate_104 : decode cX1_readCoordinate 104 = .ok (.iconst 3, 1) := dk_6 (dk_at dksX1_readCoordinate_4 12 rfl rfl)
theorem dX1_readCoordinate_105 : decode cX1_readCoordinate 105 = .ok (.isub, 1) := dk_100 (dk_at dksX1_readCoordinate_4 13 rfl rfl)
theorem dX1_readCoordinate_106 : decode cX1_readCoordinate 106 = .ok (.iaload, 1) := dk_46 (dk_at dksX1_readCoordinate_4 14 rfl rfl)
theorem dX1_readCoordinate_107 : decode cX1_readCoordinate 107 = .ok (.if_icmp .gt 8, 3) := dk_163 0 8 (dk_at dksX1_readCoordinate_4 15 rfl rfl)
theorem dX1_readCoordinate_110 : decode cX1_readCoordinate 110 = .ok (.aload_n 0, 1) := dk_42 (dk_at dksX1_readCoordinate_4 18 rfl rfl)
theorem dX1_readCoordinate_111 : decode cX1_readCoordinate 111 = .ok (.iload_n 2, 1) := dk_28 (dk_at dksX1_readCoordinate_4 19 rfl rfl)
theorem dX1_readCoordinate_112 : decode cX1_readCoordinate 112 = .ok (.invokevirtual 202, 3) := dk_182 0 202 (dk_at dksX1_readCoordinate_4 20 rfl rfl)
theorem dX1_readCoordinate_115 : decode cX1_readCoordinate 115 = .ok (.aload_n 0, 1) := dk_42 (dk_at dksX1_readCoordinate_4 23 rfl rfl)
theorem dX1_readCoordinate_116 : decode cX1_readCoordinate 116 = .ok (.getfield 53, 3) := dk_180 0 53 (dk_at dksX1_readCoordinate_5 0 rfl rfl)
theorem dX1_readCoordinate_119 : decode cX1_readCoordinate 119 = .ok (.bipush 7, 2) := dk_16 7 (dk_at dksX1_readCoordinate_5 3 rfl rfl)
theorem dX1_readCoordinate_121 : decode cX1_readCoordinate 121 = .ok (.aload_n 0, 1) := dk_42 (dk_at dksX1_readCoordinate_5 5 rfl rfl)
theorem dX1_readCoordinate_122 : decode cX1_readCoordinate 122 = .ok (.getfield 205, 3) := dk_180 0 205 (dk_at dksX1_readCoordinate_5 6 rfl rfl)
theorem dX1_readCoordinate_125 : decode cX1_readCoordinate 125 = .ok (.imul, 1) := dk_104 (dk_at dksX1_readCoordinate_5 9 rfl rfl)
theorem dX1_readCoordinate_126 : decode cX1_readCoordinate 126 = .ok (.iload_n 1, 1) := dk_27 (dk_at dksX1_readCoordinate_5 10 rfl rfl)
theorem dX1_readCoordinate_127 : decode cX1_readCoordinate 127 = .ok (.iadd, 1) := dk_96 (dk_at dksX1_readCoordinate_5 11 rfl rfl)
theorem dX1_readCoordinate_128 : decode cX1_readCoordinate 128 = .ok (.iload_n 3, 1) := dk_29 (dk_at dksX1_readCoordinate_5 12 rfl rfl)
theorem dX1_readCoordinate_129 : decode cX1_readCoordinate 129 = .ok (.iastore, 1) := dk_79 (dk_at dksX1_readCoordinate_5 13 rfl rfl)
theorem dX1_readCoordinate_130 : decode cX1_readCoordinate 130 = .ok (.return_, 1) := dk_177 (dk_at dksX1_readCoordinate_5 14 rfl rfl)
abbrev cX1_isDigit : ByteArray := prog_9_method_63_code
def yX1_isDigit : MethodName := ⟨RX1, "isDigit", "()Z"⟩
def dkwX1_isDigit_1 : List UInt8 := [184, 0, 60, 153, 0, 7, 4, 167, 0, 4, 3, 172]
abbrev dktX1_isDigit_1 : List UInt8 := dkwX1_isDigit_1 ++ []
def dkwX1_isDigit_0 : List UInt8 := [42, 180, 0, 193, 42, 180, 0, 190, 162, 0, 26, 42, 180, 0, 19, 42, 180, 0, 193, 46, 16, 48, 16, 57]
abbrev dktX1_isDigit_0 : List UInt8 := dkwX1_isDigit_0 ++ dktX1_isDigit_1
theorem dksX1_isDigit_0 : cX1_isDigit.data.toList.drop 0 = dktX1_isDigit_0 := by decide +kernel
theorem dksX1_isDigit_1 : cX1_isDigit.data.toList.drop 24 = dktX1_isDigit_1 := dk_seg dksX1_isDigit_0 24 rfl rfl
theorem dX1_isDigit_0 : decode cX1_isDigit 0 = .ok (.aload_n 0, 1) := dk_42 (dk_at dksX1_isDigit_0 0 rfl rfl)
theorem dX1_isDigit_1 : decode cX1_isDigit 1 = .ok (.getfield 193, 3) := dk_180 0 193 (dk_at dksX1_isDigit_0 1 rfl rfl)
theorem dX1_isDigit_4 : decode cX1_isDigit 4 = .ok (.aload_n 0, 1) := dk_42 (dk_at dksX1_isDigit_0 4 rfl rfl)
theorem dX1_isDigit_5 : decode cX1_isDigit 5 = .ok (.getfield 190, 3) := dk_180 0 190 (dk_at dksX1_isDigit_0 5 rfl rfl)
theorem dX1_isDigit_8 : decode cX1_isDigit 8 = .ok (.if_icmp .ge 26, 3) := dk_162 0 26 (dk_at dksX1_isDigit_0 8 rfl rfl)
theorem dX1_isDigit_11 : decode cX1_isDigit 11 = .ok (.aload_n 0, 1) := dk_42 (dk_at dksX1_isDigit_0 11 rfl rfl)
theorem dX1_isDigit_12 : decode cX1_isDigit 12 = .ok (.getfield 19, 3) := dk_180 0 19 (dk_at dksX1_isDigit_0 12 rfl rfl)
theorem dX1_isDigit_15 : decode cX1_isDigit 15 = .ok (.aload_n 0, 1) := dk_42 (dk_at dksX1_isDigit_0 15 rfl rfl)
theorem dX1_isDigit_16 : decode cX1_isDigit 16 = .ok (.getfield 193, 3) := dk_180 0 193 (dk_at dksX1_isDigit_0 16 rfl rfl)
theorem dX1_isDigit_19 : decode cX1_isDigit 19 = .ok (.iaload, 1) := dk_46 (dk_at dksX1_isDigit_0 19 rfl rfl)
theorem dX1_isDigit_20 : decode cX1_isDigit 20 = .ok (.bipush 48, 2) := dk_16 48 (dk_at dksX1_isDigit_0 20 rfl rfl)
theorem dX1_isDigit_22 : decode cX1_isDigit 22 = .ok (.bipush 57, 2) := dk_16 57 (dk_at dksX1_isDigit_0 22 rfl rfl)
theorem dX1_isDigit_24 : decode cX1_isDigit 24 = .ok (.invokestatic 60, 3) := dk_184 0 60 (dk_at dksX1_isDigit_1 0 rfl rfl)
theorem dX1_isDigit_27 : decode cX1_isDigit 27 = .ok (.ifCond .eq 7, 3) := dk_153 0 7 (dk_at dksX1_isDigit_1 3 rfl rfl)
theorem dX1_isDigit_30 : decode cX1_isDigit 30 = .ok (.iconst 1, 1) := dk_4 (dk_at dksX1_isDigit_1 6 rfl rfl)
theorem dX1_isDigit_31 : decode cX1_isDigit 31 = .ok (.goto 4, 3) := dk_167 0 4 (dk_at dksX1_isDigit_1 7 rfl rfl)
theorem dX1_isDigit_34 : decode cX1_isDigit 34 = .ok (.iconst 0, 1) := dk_3 (dk_at dksX1_isDigit_1 10 rfl rfl)
theorem dX1_isDigit_35 : decode cX1_isDigit 35 = .ok (.ireturn, 1) := dk_172 (dk_at dksX1_isDigit_1 11 rfl rfl)
abbrev cX1_load : ByteArray := prog_9_method_68_code
def yX1_load : MethodName := ⟨RX1, "load", "()I"⟩
def dkwX1_load_4 : List UInt8 := [27, 104, 16, 6, 96, 4, 79, 132, 1, 1, 167, 255, 196, 42, 180, 0, 205, 172]
abbrev dktX1_load_4 : List UInt8 := dkwX1_load_4 ++ []
def dkwX1_load_3 : List UInt8 := [42, 180, 0, 53, 16, 7, 27, 104, 28, 96, 46, 79, 132, 2, 1, 167, 255, 225, 42, 180, 0, 7, 16, 7]
abbrev dktX1_load_3 : List UInt8 := dkwX1_load_3 ++ dktX1_load_4
def dkwX1_load_2 : List UInt8 := [180, 0, 205, 162, 0, 58, 3, 61, 28, 16, 6, 162, 0, 31, 42, 180, 0, 7, 16, 7, 27, 104, 28, 96]
abbrev dktX1_load_2 : List UInt8 := dkwX1_load_2 ++ dktX1_load_3
def dkwX1_load_1 : List UInt8 := [42, 180, 0, 7, 16, 7, 27, 104, 16, 6, 96, 3, 79, 132, 1, 1, 167, 255, 234, 3, 60, 27, 42]
abbrev dktX1_load_1 : List UInt8 := dkwX1_load_1 ++ dktX1_load_2
def dkwX1_load_0 : List UInt8 := [42, 182, 0, 214, 16, 150, 159, 0, 6, 16, 151, 172, 42, 182, 0, 94, 3, 60, 27, 16, 12, 162, 0, 22]
abbrev dktX1_load_0 : List UInt8 := dkwX1_load_0 ++ dktX1_load_1
theorem dksX1_load_0 : cX1_load.data.toList.drop 0 = dktX1_load_0 := by decide +kernel
theorem dksX1_load_1 : cX1_load.data.toList.drop 24 = dktX1_load_1 := dk_seg dksX1_load_0 24 rfl rfl
theorem dksX1_load_2 : cX1_load.data.toList.drop 47 = dktX1_load_2 := dk_seg dksX1_load_1 23 rfl rfl
theorem dksX1_load_3 : cX1_load.data.toList.drop 71 = dktX1_load_3 := dk_seg dksX1_load_2 24 rfl rfl
theorem dksX1_load_4 : cX1_load.data.toList.drop 95 = dktX1_load_4 := dk_seg dksX1_load_3 24 rfl rfl
theorem dX1_load_0 : decode cX1_load 0 = .ok (.aload_n 0, 1) := dk_42 (dk_at dksX1_load_0 0 rfl rfl)
theorem dX1_load_1 : decode cX1_load 1 = .ok (.invokevirtual 214, 3) := dk_182 0 214 (dk_at dksX1_load_0 1 rfl rfl)
theorem dX1_load_4 : decode cX1_load 4 = .ok (.bipush (-106), 2) := dk_16 150 (dk_at dksX1_load_0 4 rfl rfl)
theorem dX1_load_6 : decode cX1_load 6 = .ok (.if_icmp .eq 6, 3) := dk_159 0 6 (dk_at dksX1_load_0 6 rfl rfl)
theorem dX1_load_9 : decode cX1_load 9 = .ok (.bipush (-105), 2) := dk_16 151 (dk_at dksX1_load_0 9 rfl rfl)
theorem dX1_load_11 : decode cX1_load 11 = .ok (.ireturn, 1) := dk_172 (dk_at dksX1_load_0 11 rfl rfl)
theorem dX1_load_12 : decode cX1_load 12 = .ok (.aload_n 0, 1) := dk_42 (dk_at dksX1_load_0 12 rfl rfl)
theorem dX1_load_13 : decode cX1_load 13 = .ok (.invokevirtual 94, 3) := dk_182 0 94 (dk_at dksX1_load_0 13 rfl rfl)
theorem dX1_load_16 : decode cX1_load 16 = .ok (.iconst 0, 1) := dk_3 (dk_at dksX1_load_0 16 rfl rfl)
theorem dX1_load_17 : decode cX1_load 17 = .ok (.istore_n 1, 1) := dk_60 (dk_at dksX1_load_0 17 rfl rfl)
theorem dX1_load_18 : decode cX1_load 18 = .ok (.iload_n 1, 1) := dk_27 (dk_at dksX1_load_0 18 rfl rfl)
theorem dX1_load_19 : decode cX1_load 19 = .ok (.bipush 12, 2) := dk_16 12 (dk_at dksX1_load_0 19 rfl rfl)
theorem dX1_load_21 : decode cX1_load 21 = .ok (.if_icmp .ge 22, 3) := dk_162 0 22 (dk_at dksX1_load_0 21 rfl rfl)
theorem dX1_load_24 : decode cX1_load 24 = .ok (.aload_n 0, 1) := dk_42 (dk_at dksX1_load_1 0 rfl rfl)
theorem dX1_load_25 : decode cX1_load 25 = .ok (.getfield 7, 3) := dk_180 0 7 (dk_at dksX1_load_1 1 rfl rfl)
theorem dX1_load_28 : decode cX1_load 28 = .ok (.bipush 7, 2) := dk_16 7 (dk_at dksX1_load_1 4 rfl rfl)
theorem dX1_load_30 : decode cX1_load 30 = .ok (.iload_n 1, 1) := dk_27 (dk_at dksX1_load_1 6 rfl rfl)
theorem dX1_load_31 : decode cX1_load 31 = .ok (.imul, 1) := dk_104 (dk_at dksX1_load_1 7 rfl rfl)
theorem dX1_load_32 : decode cX1_load 32 = .ok (.bipush 6, 2) := dk_16 6 (dk_at dksX1_load_1 8 rfl rfl)
theorem dX1_load_34 : decode cX1_load 34 = .ok (.iadd, 1) := dk_96 (dk_at dksX1_load_1 10 rfl rfl)
theorem dX1_load_35 : decode cX1_load 35 = .ok (.iconst 0, 1) := dk_3 (dk_at dksX1_load_1 11 rfl rfl)
theorem dX1_load_36 : decode cX1_load 36 = .ok (.iastore, 1) := dk_79 (dk_at dksX1_load_1 12 rfl rfl)
theorem dX1_load_37 : decode cX1_load 37 = .ok (.iinc 1 1, 3) := dk_132 1 1 (dk_at dksX1_load_1 13 rfl rfl)
theorem dX1_load_40 : decode cX1_load 40 = .ok (.goto (-22), 3) := dk_167 255 234 (dk_at dksX1_load_1 16 rfl rfl)
theorem dX1_load_43 : decode cX1_load 43 = .ok (.iconst 0, 1) := dk_3 (dk_at dksX1_load_1 19 rfl rfl)
theorem dX1_load_44 : decode cX1_load 44 = .ok (.istore_n 1, 1) := dk_60 (dk_at dksX1_load_1 20 rfl rfl)
theorem dX1_load_45 : decode cX1_load 45 = .ok (.iload_n 1, 1) := dk_27 (dk_at dksX1_load_1 21 rfl rfl)
theorem dX1_load_46 : decode cX1_load 46 = .ok (.aload_n 0, 1) := dk_42 (dk_at dksX1_load_1 22 rfl rfl)
theorem dX1_load_47 : decode cX1_load 47 = .ok (.getfield 205, 3) := dk_180 0 205 (dk_at dksX1_load_2 0 rfl rfl)
theorem dX1_load_50 : decode cX1_load 50 = .ok (.if_icmp .ge 58, 3) := dk_162 0 58 (dk_at dksX1_load_2 3 rfl rfl)
theorem dX1_load_53 : decode cX1_load 53 = .ok (.iconst 0, 1) := dk_3 (dk_at dksX1_load_2 6 rfl rfl)
theorem dX1_load_54 : decode cX1_load 54 = .ok (.istore_n 2, 1) := dk_61 (dk_at dksX1_load_2 7 rfl rfl)
theorem dX1_load_55 : decode cX1_load 55 = .ok (.iload_n 2, 1) := dk_28 (dk_at dksX1_load_2 8 rfl rfl)
theorem dX1_load_56 : decode cX1_load 56 = .ok (.bipush 6, 2) := dk_16 6 (dk_at dksX1_load_2 9 rfl rfl)
theorem dX1_load_58 : decode cX1_load 58 = .ok (.if_icmp .ge 31, 3) := dk_162 0 31 (dk_at dksX1_load_2 11 rfl rfl)
theorem dX1_load_61 : decode cX1_load 61 = .ok (.aload_n 0, 1) := dk_42 (dk_at dksX1_load_2 14 rfl rfl)
theorem dX1_load_62 : decode cX1_load 62 = .ok (.getfield 7, 3) := dk_180 0 7 (dk_at dksX1_load_2 15 rfl rfl)
theorem dX1_load_65 : decode cX1_load 65 = .ok (.bipush 7, 2) := dk_16 7 (dk_at dksX1_load_2 18 rfl rfl)
theorem dX1_load_67 : decode cX1_load 67 = .ok (.iload_n 1, 1) := dk_27 (dk_at dksX1_load_2 20 rfl rfl)
theorem dX1_load_68 : decode cX1_load 68 = .ok (.imul, 1) := dk_104 (dk_at dksX1_load_2 21 rfl rfl)
theorem dX1_load_69 : decode cX1_load 69 = .ok (.iload_n 2, 1) := dk_28 (dk_at dksX1_load_2 22 rfl rfl)
theorem dX1_load_70 : decode cX1_load 70 = .ok (.iadd, 1) := dk_96 (dk_at dksX1_load_2 23 rfl rfl)
theorem dX1_load_71 : decode cX1_load 71 = .ok (.aload_n 0, 1) := dk_42 (dk_at dksX1_load_3 0 rfl rfl)
theorem dX1_load_72 : decode cX1_load 72 = .ok (.getfield 53, 3) := dk_180 0 53 (dk_at dksX1_load_3 1 rfl rfl)
theorem dX1_load_75 : decode cX1_load 75 = .ok (.bipush 7, 2) := dk_16 7 (dk_at dksX1_load_3 4 rfl rfl)
theorem dX1_load_77 : decode cX1_load 77 = .ok (.iload_n 1, 1) := dk_27 (dk_at dksX1_load_3 6 rfl rfl)
theorem dX1_load_78 : decode cX1_load 78 = .ok (.imul, 1) := dk_104 (dk_at dksX1_load_3 7 rfl rfl)
theorem dX1_load_79 : decode cX1_load 79 = .ok (.iload_n 2, 1) := dk_28 (dk_at dksX1_load_3 8 rfl rfl)
theorem dX1_load_80 : decode cX1_load 80 = .ok (.iadd, 1) := dk_96 (dk_at dksX1_load_3 9 rfl rfl)
theorem dX1_load_81 : decode cX1_load 81 = .ok (.iaload, 1) := dk_46 (dk_at dksX1_load_3 10 rfl rfl)
theorem dX1_load_82 : decode cX1_load 82 = .ok (.iastore, 1) := dk_79 (dk_at dksX1_load_3 11 rfl rfl)
theorem dX1_load_83 : decode cX1_load 83 = .ok (.iinc 2 1, 3) := dk_132 2 1 (dk_at dksX1_load_3 12 rfl rfl)
theorem dX1_load_86 : decode cX1_load 86 = .ok (.goto (-31), 3) := dk_167 255 225 (dk_at dksX1_load_3 15 rfl rfl)
theorem dX1_load_89 : decode cX1_load 89 = .ok (.aload_n 0, 1) := dk_42 (dk_at dksX1_load_3 18 rfl rfl)
theorem dX1_load_90 : decode cX1_load 90 = .ok (.getfield 7, 3) := dk_180 0 7 (dk_at dksX1_load_3 19 rfl rfl)
theorem dX1_load_93 : decode cX1_load 93 = .ok (.bipush 7, 2) := dk_16 7 (dk_at dksX1_load_3 22 rfl rfl)
theorem dX1_load_95 : decode cX1_load 95 = .ok (.iload_n 1, 1) := dk_27 (dk_at dksX1_load_4 0 rfl rfl)
theorem dX1_load_96 : decode cX1_load 96 = .ok (.imul, 1) := dk_104 (dk_at dksX1_load_4 1 rfl rfl)
theorem dX1_load_97 : decode cX1_load 97 = .ok (.bipush 6, 2) := dk_16 6 (dk_at dksX1_load_4 2 rfl rfl)
theorem dX1_load_99 : decode cX1_load 99 = .ok (.iadd, 1) := dk_96 (dk_at dksX1_load_4 4 rfl rfl)
theorem dX1_load_100 : decode cX1_load 100 = .ok (.iconst 1, 1) := dk_4 (dk_at dksX1_load_4 5 rfl rfl)
theorem dX1_load_101 : decode cX1_load 101 = .ok (.iastore, 1) := dk_79 (dk_at dksX1_load_4 6 rfl rfl)
theorem dX1_load_102 : decode cX1_load 102 = .ok (.iinc 1 1, 3) := dk_132 1 1 (dk_at dksX1_load_4 7 rfl rfl)
theorem dX1_load_105 : decode cX1_load 105 = .ok (.goto (-60), 3) := dk_167 255 196 (dk_at dksX1_load_4 10 rfl rfl)
theorem dX1_load_108 : decode cX1_load 108 = .ok (.aload_n 0, 1) := dk_42 (dk_at dksX1_load_4 13 rfl rfl)
theorem dX1_load_109 : decode cX1_load 109 = .ok (.getfield 205, 3) := dk_180 0 205 (dk_at dksX1_load_4 14 rfl rfl)
theorem dX1_load_112 : decode cX1_load 112 = .ok (.ireturn, 1) := dk_172 (dk_at dksX1_load_4 17 rfl rfl)
abbrev cX1_save : ByteArray := prog_9_method_69_code
def yX1_save : MethodName := ⟨RX1, "save", "(I)I"⟩
def dkwX1_save_2 : List UInt8 := [4, 27, 120, 128, 181, 0, 217, 42, 182, 0, 101, 172]
abbrev dktX1_save_2 : List UInt8 := dkwX1_save_2 ++ []
def dkwX1_save_1 : List UInt8 := [16, 84, 27, 104, 28, 96, 42, 180, 0, 7, 28, 46, 79, 132, 2, 1, 167, 255, 230, 42, 89, 180, 0, 217]
abbrev dktX1_save_1 : List UInt8 := dkwX1_save_1 ++ dktX1_save_2
def dkwX1_save_0 : List UInt8 := [27, 3, 4, 184, 0, 60, 154, 0, 6, 16, 154, 172, 3, 61, 28, 16, 84, 162, 0, 26, 42, 180, 0, 16]
abbrev dktX1_save_0 : List UInt8 := dkwX1_save_0 ++ dktX1_save_1
theorem dksX1_save_0 : cX1_save.data.toList.drop 0 = dktX1_save_0 := by decide +kernel
theorem dksX1_save_1 : cX1_save.data.toList.drop 24 = dktX1_save_1 := dk_seg dksX1_save_0 24 rfl rfl
theorem dksX1_save_2 : cX1_save.data.toList.drop 48 = dktX1_save_2 := dk_seg dksX1_save_1 24 rfl rfl
theorem dX1_save_0 : decode cX1_save 0 = .ok (.iload_n 1, 1) := dk_27 (dk_at dksX1_save_0 0 rfl rfl)
theorem dX1_save_1 : decode cX1_save 1 = .ok (.iconst 0, 1) := dk_3 (dk_at dksX1_save_0 1 rfl rfl)
theorem dX1_save_2 : decode cX1_save 2 = .ok (.iconst 1, 1) := dk_4 (dk_at dksX1_save_0 2 rfl rfl)
theorem dX1_save_3 : decode cX1_save 3 = .ok (.invokestatic 60, 3) := dk_184 0 60 (dk_at dksX1_save_0 3 rfl rfl)
theorem dX1_save_6 : decode cX1_save 6 = .ok (.ifCond .ne 6, 3) := dk_154 0 6 (dk_at dksX1_save_0 6 rfl rfl)
theorem dX1_save_9 : decode cX1_save 9 = .ok (.bipush (-102), 2) := dk_16 154 (dk_at dksX1_save_0 9 rfl rfl)
theorem dX1_save_11 : decode cX1_save 11 = .ok (.ireturn, 1) := dk_172 (dk_at dksX1_save_0 11 rfl rfl)
theorem dX1_save_12 : decode cX1_save 12 = .ok (.iconst 0, 1) := dk_3 (dk_at dksX1_save_0 12 rfl rfl)
theorem dX1_save_13 : decode cX1_save 13 = .ok (.istore_n 2, 1) := dk_61 (dk_at dksX1_save_0 13 rfl rfl)
theorem dX1_save_14 : decode cX1_save 14 = .ok (.iload_n 2, 1) := dk_28 (dk_at dksX1_save_0 14 rfl rfl)
theorem dX1_save_15 : decode cX1_save 15 = .ok (.bipush 84, 2) := dk_16 84 (dk_at dksX1_save_0 15 rfl rfl)
theorem dX1_save_17 : decode cX1_save 17 = .ok (.if_icmp .ge 26, 3) := dk_162 0 26 (dk_at dksX1_save_0 17 rfl rfl)
theorem dX1_save_20 : decode cX1_save 20 = .ok (.aload_n 0, 1) := dk_42 (dk_at dksX1_save_0 20 rfl rfl)
theorem dX1_save_21 : decode cX1_save 21 = .ok (.getfield 16, 3) := dk_180 0 16 (dk_at dksX1_save_0 21 rfl rfl)
theorem dX1_save_24 : decode cX1_save 24 = .ok (.bipush 84, 2) := dk_16 84 (dk_at dksX1_save_1 0 rfl rfl)
theorem dX1_save_26 : decode cX1_save 26 = .ok (.iload_n 1, 1) := dk_27 (dk_at dksX1_save_1 2 rfl rfl)
theorem dX1_save_27 : decode cX1_save 27 = .ok (.imul, 1) := dk_104 (dk_at dksX1_save_1 3 rfl rfl)
theorem dX1_save_28 : decode cX1_save 28 = .ok (.iload_n 2, 1) := dk_28 (dk_at dksX1_save_1 4 rfl rfl)
theorem dX1_save_29 : decode cX1_save 29 = .ok (.iadd, 1) := dk_96 (dk_at dksX1_save_1 5 rfl rfl)
theorem dX1_save_30 : decode cX1_save 30 = .ok (.aload_n 0, 1) := dk_42 (dk_at dksX1_save_1 6 rfl rfl)
theorem dX1_save_31 : decode cX1_save 31 = .ok (.getfield 7, 3) := dk_180 0 7 (dk_at dksX1_save_1 7 rfl rfl)
theorem dX1_save_34 : decode cX1_save 34 = .ok (.iload_n 2, 1) := dk_28 (dk_at dksX1_save_1 10 rfl rfl)
theorem dX1_save_35 : decode cX1_save 35 = .ok (.iaload, 1) := dk_46 (dk_at dksX1_save_1 11 rfl rfl)
theorem dX1_save_36 : decode cX1_save 36 = .ok (.iastore, 1) := dk_79 (dk_at dksX1_save_1 12 rfl rfl)
theorem dX1_save_37 : decode cX1_save 37 = .ok (.iinc 2 1, 3) := dk_132 2 1 (dk_at dksX1_save_1 13 rfl rfl)
theorem dX1_save_40 : decode cX1_save 40 = .ok (.goto (-26), 3) := dk_167 255 230 (dk_at dksX1_save_1 16 rfl rfl)
theorem dX1_save_43 : decode cX1_save 43 = .ok (.aload_n 0, 1) := dk_42 (dk_at dksX1_save_1 19 rfl rfl)
theorem dX1_save_44 : decode cX1_save 44 = .ok (.dup, 1) := dk_89 (dk_at dksX1_save_1 20 rfl rfl)
theorem dX1_save_45 : decode cX1_save 45 = .ok (.getfield 217, 3) := dk_180 0 217 (dk_at dksX1_save_1 21 rfl rfl)
theorem dX1_save_48 : decode cX1_save 48 = .ok (.iconst 1, 1) := dk_4 (dk_at dksX1_save_2 0 rfl rfl)
theorem dX1_save_49 : decode cX1_save 49 = .ok (.iload_n 1, 1) := dk_27 (dk_at dksX1_save_2 1 rfl rfl)
theorem dX1_save_50 : decode cX1_save 50 = .ok (.ishl, 1) := dk_120 (dk_at dksX1_save_2 2 rfl rfl)
theorem dX1_save_51 : decode cX1_save 51 = .ok (.ior, 1) := dk_128 (dk_at dksX1_save_2 3 rfl rfl)
theorem dX1_save_52 : decode cX1_save 52 = .ok (.putfield 217, 3) := dk_181 0 217 (dk_at dksX1_save_2 4 rfl rfl)
theorem dX1_save_55 : decode cX1_save 55 = .ok (.aload_n 0, 1) := dk_42 (dk_at dksX1_save_2 7 rfl rfl)
theorem dX1_save_56 : decode cX1_save 56 = .ok (.invokevirtual 101, 3) := dk_182 0 101 (dk_at dksX1_save_2 8 rfl rfl)
theorem dX1_save_59 : decode cX1_save 59 = .ok (.ireturn, 1) := dk_172 (dk_at dksX1_save_2 11 rfl rfl)
abbrev cX1_restore : ByteArray := prog_9_method_70_code
def yX1_restore : MethodName := ⟨RX1, "restore", "(I)I"⟩
def dkwX1_restore_2 : List UInt8 := [28, 96, 46, 79, 132, 2, 1, 167, 255, 230, 42, 3, 181, 0, 56, 42, 182, 0, 101, 172]
abbrev dktX1_restore_2 : List UInt8 := dkwX1_restore_2 ++ []
def dkwX1_restore_1 : List UInt8 := [16, 151, 172, 3, 61, 28, 16, 84, 162, 0, 26, 42, 180, 0, 7, 28, 42, 180, 0, 16, 16, 84, 27, 104]
abbrev dktX1_restore_1 : List UInt8 := dkwX1_restore_1 ++ dktX1_restore_2
def dkwX1_restore_0 : List UInt8 := [27, 3, 4, 184, 0, 60, 154, 0, 6, 16, 154, 172, 42, 180, 0, 217, 27, 122, 4, 126, 154, 0, 6]
abbrev dktX1_restore_0 : List UInt8 := dkwX1_restore_0 ++ dktX1_restore_1
theorem dksX1_restore_0 : cX1_restore.data.toList.drop 0 = dktX1_restore_0 := by decide +kernel
theorem dksX1_restore_1 : cX1_restore.data.toList.drop 23 = dktX1_restore_1 := dk_seg dksX1_restore_0 23 rfl rfl
theorem dksX1_restore_2 : cX1_restore.data.toList.drop 47 = dktX1_restore_2 := dk_seg dksX1_restore_1 24 rfl rfl
theorem dX1_restore_0 : decode cX1_restore 0 = .ok (.iload_n 1, 1) := dk_27 (dk_at dksX1_restore_0 0 rfl rfl)
theorem dX1_restore_1 : decode cX1_restore 1 = .ok (.iconst 0, 1) := dk_3 (dk_at dksX1_restore_0 1 rfl rfl)
theorem dX1_restore_2 : decode cX1_restore 2 = .ok (.iconst 1, 1) := dk_4 (dk_at dksX1_restore_0 2 rfl rfl)
theorem dX1_restore_3 : decode cX1_restore 3 = .ok (.invokestatic 60, 3) := dk_184 0 60 (dk_at dksX1_restore_0 3 rfl rfl)
theorem dX1_restore_6 : decode cX1_restore 6 = .ok (.ifCond .ne 6, 3) := dk_154 0 6 (dk_at dksX1_restore_0 6 rfl rfl)
theorem dX1_restore_9 : decode cX1_restore 9 = .ok (.bipush (-102), 2) := dk_16 154 (dk_at dksX1_restore_0 9 rfl rfl)
theorem dX1_restore_11 : decode cX1_restore 11 = .ok (.ireturn, 1) := dk_172 (dk_at dksX1_restore_0 11 rfl rfl)
theorem dX1_restore_12 : decode cX1_restore 12 = .ok (.aload_n 0, 1) := dk_42 (dk_at dksX1_restore_0 12 rfl rfl)
theorem dX1_restore_13 : decode cX1_restore 13 = .ok (.getfield 217, 3) := dk_180 0 217 (dk_at dksX1_restore_0 13 rfl rfl)
theorem dX1_restore_16 : decode cX1_restore 16 = .ok (.iload_n 1, 1) := dk_27 (dk_at dksX1_restore_0 16 rfl rfl)
theorem dX1_restore_17 : decode cX1_restore 17 = .ok (.ishr, 1) := dk_122 (dk_at dksX1_restore_0 17 rfl rfl)
theorem dX1_restore_18 : decode cX1_restore 18 = .ok (.iconst 1, 1) := dk_4 (dk_at dksX1_restore_0 18 rfl rfl)
theorem dX1_restore_19 : decode cX1_restore 19 = .ok (.iand, 1) := dk_126 (dk_at dksX1_restore_0 19 rfl rfl)
theorem dX1_restore_20 : decode cX1_restore 20 = .ok (.ifCond .ne 6, 3) := dk_154 0 6 (dk_at dksX1_restore_0 20 rfl rfl)
theorem dX1_restore_23 : decode cX1_restore 23 = .ok (.bipush (-105), 2) := dk_16 151 (dk_at dksX1_restore_1 0 rfl rfl)
theorem dX1_restore_25 : decode cX1_restore 25 = .ok (.ireturn, 1) := dk_172 (dk_at dksX1_restore_1 2 rfl rfl)
theorem dX1_restore_26 : decode cX1_restore 26 = .ok (.iconst 0, 1) := dk_3 (dk_at dksX1_restore_1 3 rfl rfl)
theorem dX1_restore_27 : decode cX1_restore 27 = .ok (.istore_n 2, 1) := dk_61 (dk_at dksX1_restore_1 4 rfl rfl)
theorem dX1_restore_28 : decode cX1_restore 28 = .ok (.iload_n 2, 1) := dk_28 (dk_at dksX1_restore_1 5 rfl rfl)
theorem dX1_restore_29 : decode cX1_restore 29 = .ok (.bipush 84, 2) := dk_16 84 (dk_at dksX1_restore_1 6 rfl rfl)
theorem dX1_restore_31 : decode cX1_restore 31 = .ok (.if_icmp .ge 26, 3) := dk_162 0 26 (dk_at dksX1_restore_1 8 rfl rfl)
theorem dX1_restore_34 : decode cX1_restore 34 = .ok (.aload_n 0, 1) := dk_42 (dk_at dksX1_restore_1 11 rfl rfl)
theorem dX1_restore_35 : decode cX1_restore 35 = .ok (.getfield 7, 3) := dk_180 0 7 (dk_at dksX1_restore_1 12 rfl rfl)
theorem dX1_restore_38 : decode cX1_restore 38 = .ok (.iload_n 2, 1) := dk_28 (dk_at dksX1_restore_1 15 rfl rfl)
theorem dX1_restore_39 : decode cX1_restore 39 = .ok (.aload_n 0, 1) := dk_42 (dk_at dksX1_restore_1 16 rfl rfl)
theorem dX1_restore_40 : decode cX1_restore 40 = .ok (.getfield 16, 3) := dk_180 0 16 (dk_at dksX1_restore_1 17 rfl rfl)
theorem dX1_restore_43 : decode cX1_restore 43 = .ok (.bipush 84, 2) := dk_16 84 (dk_at dksX1_restore_1 20 rfl rfl)
theorem dX1_restore_45 : decode cX1_restore 45 = .ok (.iload_n 1, 1) := dk_27 (dk_at dksX1_restore_1 22 rfl rfl)
theorem dX1_restore_46 : decode cX1_restore 46 = .ok (.imul, 1) := dk_104 (dk_at dksX1_restore_1 23 rfl rfl)
theorem dX1_restore_47 : decode cX1_restore 47 = .ok (.iload_n 2, 1) := dk_28 (dk_at dksX1_restore_2 0 rfl rfl)
theorem dX1_restore_48 : decode cX1_restore 48 = .ok (.iadd, 1) := dk_96 (dk_at dksX1_restore_2 1 rfl rfl)
theorem dX1_restore_49 : decode cX1_restore 49 = .ok (.iaload, 1) := dk_46 (dk_at dksX1_restore_2 2 rfl rfl)
theorem dX1_restore_50 : decode cX1_restore 50 = .ok (.iastore, 1) := dk_79 (dk_at dksX1_restore_2 3 rfl rfl)
theorem dX1_restore_51 : decode cX1_restore 51 = .ok (.iinc 2 1, 3) := dk_132 2 1 (dk_at dksX1_restore_2 4 rfl rfl)
theorem dX1_restore_54 : decode cX1_restore 54 = .ok (.goto (-26), 3) := dk_167 255 230 (dk_at dksX1_restore_2 7 rfl rfl)
theorem dX1_restore_57 : decode cX1_restore 57 = .ok (.aload_n 0, 1) := dk_42 (dk_at dksX1_restore_2 10 rfl rfl)
theorem dX1_restore_58 : decode cX1_restore 58 = .ok (.iconst 0, 1) := dk_3 (dk_at dksX1_restore_2 11 rfl rfl)
theorem dX1_restore_59 : decode cX1_restore 59 = .ok (.putfield 56, 3) := dk_181 0 56 (dk_at dksX1_restore_2 12 rfl rfl)
theorem dX1_restore_62 : decode cX1_restore 62 = .ok (.aload_n 0, 1) := dk_42 (dk_at dksX1_restore_2 15 rfl rfl)
theorem dX1_restore_63 : decode cX1_restore 63 = .ok (.invokevirtual 101, 3) := dk_182 0 101 (dk_at dksX1_restore_2 16 rfl rfl)
theorem dX1_restore_66 : decode cX1_restore 66 = .ok (.ireturn, 1) := dk_172 (dk_at dksX1_restore_2 19 rfl rfl)
theorem q81 : (Jvm.Cond.initialized "DepthSorterModel") ∈ lw_all := lw_g (lw_at lw_m1 7 rfl) rfl
theorem q540 : (Jvm.Cond.selects "DepthSorterModel" ({ cls := "java/lang/Object", name := "getClass", desc := "()Ljava/lang/Class;" } : Jvm.MethodName) ({ cls := "java/lang/Object", name := "getClass", desc := "()Ljava/lang/Class;" } : Jvm.MethodName)) ∈ lw_all := lw_g (lw_at lw_m2 226 rfl) rfl
theorem q1656 : (Jvm.Cond.instantiable "DepthSorterModel" (28 : Nat)) ∈ lw_all := lw_g (lw_at lw_m7 142 rfl) rfl
theorem q1658 : (Jvm.Cond.instanceMethod ({ cls := "DepthSorterModel", name := "<init>", desc := "()V" } : Jvm.MethodName)) ∈ lw_all := lw_g (lw_at lw_m7 144 rfl) rfl
theorem q1659 : (Jvm.Cond.code ({ cls := "DepthSorterModel", name := "<init>", desc := "()V" } : Jvm.MethodName) prog_9_method_1_code (1 : Nat) (Option.none : Option Jvm.ClassFile.FieldType)) ∈ lw_all := lw_g (lw_at lw_m7 145 rfl) rfl
theorem q1660 : (Jvm.Cond.methodLink "DepthSorterModel" (1 : Nat) ({ cls := "java/lang/Object", name := "<init>", desc := "()V" } : Jvm.MethodName)) ∈ lw_all := lw_g (lw_at lw_m7 146 rfl) rfl
theorem q1661 : (Jvm.Cond.fieldLink "DepthSorterModel" (7 : Nat) "DepthSorterModel" "w" "[I") ∈ lw_all := lw_g (lw_at lw_m7 147 rfl) rfl
theorem q1662 : (Jvm.Cond.fieldLink "DepthSorterModel" (13 : Nat) "DepthSorterModel" "past" "[I") ∈ lw_all := lw_g (lw_at lw_m7 148 rfl) rfl
theorem q1663 : (Jvm.Cond.fieldLink "DepthSorterModel" (56 : Nat) "DepthSorterModel" "changes" "I") ∈ lw_all := lw_g (lw_at lw_m7 149 rfl) rfl
theorem q1664 : (Jvm.Cond.fieldLink "DepthSorterModel" (16 : Nat) "DepthSorterModel" "slots" "[I") ∈ lw_all := lw_g (lw_at lw_m7 150 rfl) rfl
theorem q1665 : (Jvm.Cond.fieldLink "DepthSorterModel" (217 : Nat) "DepthSorterModel" "filled" "I") ∈ lw_all := lw_g (lw_at lw_m7 151 rfl) rfl
theorem q1666 : (Jvm.Cond.fieldLink "DepthSorterModel" (19 : Nat) "DepthSorterModel" "text" "[I") ∈ lw_all := lw_g (lw_at lw_m7 152 rfl) rfl
theorem q1667 : (Jvm.Cond.fieldLink "DepthSorterModel" (190 : Nat) "DepthSorterModel" "length" "I") ∈ lw_all := lw_g (lw_at lw_m7 153 rfl) rfl
theorem q1668 : (Jvm.Cond.fieldLink "DepthSorterModel" (22 : Nat) "DepthSorterModel" "trial" "[I") ∈ lw_all := lw_g (lw_at lw_m7 154 rfl) rfl
theorem q1669 : (Jvm.Cond.fieldLink "DepthSorterModel" (25 : Nat) "DepthSorterModel" "steps" "[I") ∈ lw_all := lw_g (lw_at lw_m7 155 rfl) rfl
theorem q1670 : (Jvm.Cond.fieldLink "DepthSorterModel" (28 : Nat) "DepthSorterModel" "ring" "[I") ∈ lw_all := lw_g (lw_at lw_m7 156 rfl) rfl
theorem q1671 : (Jvm.Cond.fieldLink "DepthSorterModel" (31 : Nat) "DepthSorterModel" "pieces" "[I") ∈ lw_all := lw_g (lw_at lw_m7 157 rfl) rfl
theorem q1672 : (Jvm.Cond.fieldLink "DepthSorterModel" (127 : Nat) "DepthSorterModel" "pieceMany" "I") ∈ lw_all := lw_g (lw_at lw_m7 158 rfl) rfl
theorem q1673 : (Jvm.Cond.fieldLink "DepthSorterModel" (34 : Nat) "DepthSorterModel" "drawn" "[I") ∈ lw_all := lw_g (lw_at lw_m7 159 rfl) rfl
theorem q1674 : (Jvm.Cond.fieldLink "DepthSorterModel" (151 : Nat) "DepthSorterModel" "drawnMany" "I") ∈ lw_all := lw_g (lw_at lw_m7 160 rfl) rfl
theorem q1675 : (Jvm.Cond.fieldLink "DepthSorterModel" (37 : Nat) "DepthSorterModel" "isDrawn" "[Z") ∈ lw_all := lw_g (lw_at lw_m7 161 rfl) rfl
theorem q1676 : (Jvm.Cond.fieldLink "DepthSorterModel" (41 : Nat) "DepthSorterModel" "loop" "[I") ∈ lw_all := lw_g (lw_at lw_m7 162 rfl) rfl
theorem q1677 : (Jvm.Cond.fieldLink "DepthSorterModel" (136 : Nat) "DepthSorterModel" "loopMany" "I") ∈ lw_all := lw_g (lw_at lw_m7 163 rfl) rfl
theorem q1678 : (Jvm.Cond.fieldLink "DepthSorterModel" (167 : Nat) "DepthSorterModel" "leavesAt" "I") ∈ lw_all := lw_g (lw_at lw_m7 164 rfl) rfl
theorem q1679 : (Jvm.Cond.fieldLink "DepthSorterModel" (164 : Nat) "DepthSorterModel" "leavesBy" "I") ∈ lw_all := lw_g (lw_at lw_m7 165 rfl) rfl
theorem q1680 : (Jvm.Cond.fieldLink "DepthSorterModel" (180 : Nat) "DepthSorterModel" "seenFace" "I") ∈ lw_all := lw_g (lw_at lw_m7 166 rfl) rfl
theorem q1681 : (Jvm.Cond.fieldLink "DepthSorterModel" (177 : Nat) "DepthSorterModel" "metMany" "I") ∈ lw_all := lw_g (lw_at lw_m7 167 rfl) rfl
theorem q1682 : (Jvm.Cond.fieldLink "DepthSorterModel" (44 : Nat) "DepthSorterModel" "seenAreas" "[I") ∈ lw_all := lw_g (lw_at lw_m7 168 rfl) rfl
theorem q1683 : (Jvm.Cond.fieldLink "DepthSorterModel" (47 : Nat) "DepthSorterModel" "covers" "[I") ∈ lw_all := lw_g (lw_at lw_m7 169 rfl) rfl
theorem q1684 : (Jvm.Cond.fieldLink "DepthSorterModel" (50 : Nat) "DepthSorterModel" "faces" "[I") ∈ lw_all := lw_g (lw_at lw_m7 170 rfl) rfl
theorem q1685 : (Jvm.Cond.fieldLink "DepthSorterModel" (193 : Nat) "DepthSorterModel" "at" "I") ∈ lw_all := lw_g (lw_at lw_m7 171 rfl) rfl
theorem q1686 : (Jvm.Cond.fieldLink "DepthSorterModel" (196 : Nat) "DepthSorterModel" "wrong" "I") ∈ lw_all := lw_g (lw_at lw_m7 172 rfl) rfl
theorem q1687 : (Jvm.Cond.fieldLink "DepthSorterModel" (53 : Nat) "DepthSorterModel" "read" "[I") ∈ lw_all := lw_g (lw_at lw_m7 173 rfl) rfl
theorem q1688 : (Jvm.Cond.fieldLink "DepthSorterModel" (205 : Nat) "DepthSorterModel" "items" "I") ∈ lw_all := lw_g (lw_at lw_m7 174 rfl) rfl
theorem q1689 : (Jvm.Cond.laysFinal "DepthSorterModel" "DepthSorterModel" "w" "[I") ∈ lw_all := lw_g (lw_at lw_m7 175 rfl) rfl
theorem q1690 : (Jvm.Cond.soleField "DepthSorterModel" "w") ∈ lw_all := lw_g (lw_at lw_m7 176 rfl) rfl
theorem q1691 : (Jvm.Cond.laysFinal "DepthSorterModel" "DepthSorterModel" "past" "[I") ∈ lw_all := lw_g (lw_at lw_m7 177 rfl) rfl
theorem q1692 : (Jvm.Cond.soleField "DepthSorterModel" "past") ∈ lw_all := lw_g (lw_at lw_m7 178 rfl) rfl
theorem q1693 : (Jvm.Cond.lays "DepthSorterModel" "DepthSorterModel" "changes" "I") ∈ lw_all := lw_g (lw_at lw_m7 179 rfl) rfl
theorem q1694 : (Jvm.Cond.soleField "DepthSorterModel" "changes") ∈ lw_all := lw_g (lw_at lw_m7 180 rfl) rfl
theorem q1695 : (Jvm.Cond.laysFinal "DepthSorterModel" "DepthSorterModel" "slots" "[I") ∈ lw_all := lw_g (lw_at lw_m7 181 rfl) rfl
theorem q1696 : (Jvm.Cond.soleField "DepthSorterModel" "slots") ∈ lw_all := lw_g (lw_at lw_m7 182 rfl) rfl
theorem q1697 : (Jvm.Cond.lays "DepthSorterModel" "DepthSorterModel" "filled" "I") ∈ lw_all := lw_g (lw_at lw_m7 183 rfl) rfl
theorem q1698 : (Jvm.Cond.soleField "DepthSorterModel" "filled") ∈ lw_all := lw_g (lw_at lw_m7 184 rfl) rfl
theorem q1699 : (Jvm.Cond.laysFinal "DepthSorterModel" "DepthSorterModel" "text" "[I") ∈ lw_all := lw_g (lw_at lw_m7 185 rfl) rfl
theorem q1700 : (Jvm.Cond.soleField "DepthSorterModel" "text") ∈ lw_all := lw_g (lw_at lw_m7 186 rfl) rfl
theorem q1701 : (Jvm.Cond.lays "DepthSorterModel" "DepthSorterModel" "length" "I") ∈ lw_all := lw_g (lw_at lw_m7 187 rfl) rfl
theorem q1702 : (Jvm.Cond.soleField "DepthSorterModel" "length") ∈ lw_all := lw_g (lw_at lw_m7 188 rfl) rfl
theorem q1703 : (Jvm.Cond.laysFinal "DepthSorterModel" "DepthSorterModel" "trial" "[I") ∈ lw_all := lw_g (lw_at lw_m7 189 rfl) rfl
theorem q1704 : (Jvm.Cond.soleField "DepthSorterModel" "trial") ∈ lw_all := lw_g (lw_at lw_m7 190 rfl) rfl
theorem q1705 : (Jvm.Cond.laysFinal "DepthSorterModel" "DepthSorterModel" "steps" "[I") ∈ lw_all := lw_g (lw_at lw_m7 191 rfl) rfl
theorem q1706 : (Jvm.Cond.soleField "DepthSorterModel" "steps") ∈ lw_all := lw_g (lw_at lw_m7 192 rfl) rfl
theorem q1707 : (Jvm.Cond.laysFinal "DepthSorterModel" "DepthSorterModel" "ring" "[I") ∈ lw_all := lw_g (lw_at lw_m7 193 rfl) rfl
theorem q1708 : (Jvm.Cond.soleField "DepthSorterModel" "ring") ∈ lw_all := lw_g (lw_at lw_m7 194 rfl) rfl
theorem q1709 : (Jvm.Cond.laysFinal "DepthSorterModel" "DepthSorterModel" "pieces" "[I") ∈ lw_all := lw_g (lw_at lw_m7 195 rfl) rfl
theorem q1710 : (Jvm.Cond.soleField "DepthSorterModel" "pieces") ∈ lw_all := lw_g (lw_at lw_m7 196 rfl) rfl
theorem q1711 : (Jvm.Cond.lays "DepthSorterModel" "DepthSorterModel" "pieceMany" "I") ∈ lw_all := lw_g (lw_at lw_m7 197 rfl) rfl
theorem q1712 : (Jvm.Cond.soleField "DepthSorterModel" "pieceMany") ∈ lw_all := lw_g (lw_at lw_m7 198 rfl) rfl
theorem q1713 : (Jvm.Cond.laysFinal "DepthSorterModel" "DepthSorterModel" "drawn" "[I") ∈ lw_all := lw_g (lw_at lw_m7 199 rfl) rfl
theorem q1714 : (Jvm.Cond.soleField "DepthSorterModel" "drawn") ∈ lw_all := lw_g (lw_at lw_m7 200 rfl) rfl
theorem q1715 : (Jvm.Cond.lays "DepthSorterModel" "DepthSorterModel" "drawnMany" "I") ∈ lw_all := lw_g (lw_at lw_m7 201 rfl) rfl
theorem q1716 : (Jvm.Cond.soleField "DepthSorterModel" "drawnMany") ∈ lw_all := lw_g (lw_at lw_m7 202 rfl) rfl
theorem q1717 : (Jvm.Cond.laysFinal "DepthSorterModel" "DepthSorterModel" "isDrawn" "[Z") ∈ lw_all := lw_g (lw_at lw_m7 203 rfl) rfl
theorem q1718 : (Jvm.Cond.soleField "DepthSorterModel" "isDrawn") ∈ lw_all := lw_g (lw_at lw_m7 204 rfl) rfl
theorem q1719 : (Jvm.Cond.laysFinal "DepthSorterModel" "DepthSorterModel" "loop" "[I") ∈ lw_all := lw_g (lw_at lw_m7 205 rfl) rfl
theorem q1720 : (Jvm.Cond.soleField "DepthSorterModel" "loop") ∈ lw_all := lw_g (lw_at lw_m7 206 rfl) rfl
theorem q1721 : (Jvm.Cond.lays "DepthSorterModel" "DepthSorterModel" "loopMany" "I") ∈ lw_all := lw_g (lw_at lw_m7 207 rfl) rfl
theorem q1722 : (Jvm.Cond.soleField "DepthSorterModel" "loopMany") ∈ lw_all := lw_g (lw_at lw_m7 208 rfl) rfl
theorem q1723 : (Jvm.Cond.lays "DepthSorterModel" "DepthSorterModel" "leavesAt" "I") ∈ lw_all := lw_g (lw_at lw_m7 209 rfl) rfl
theorem q1724 : (Jvm.Cond.soleField "DepthSorterModel" "leavesAt") ∈ lw_all := lw_g (lw_at lw_m7 210 rfl) rfl
theorem q1725 : (Jvm.Cond.lays "DepthSorterModel" "DepthSorterModel" "leavesBy" "I") ∈ lw_all := lw_g (lw_at lw_m7 211 rfl) rfl
theorem q1726 : (Jvm.Cond.soleField "DepthSorterModel" "leavesBy") ∈ lw_all := lw_g (lw_at lw_m7 212 rfl) rfl
theorem q1727 : (Jvm.Cond.lays "DepthSorterModel" "DepthSorterModel" "seenFace" "I") ∈ lw_all := lw_g (lw_at lw_m7 213 rfl) rfl
theorem q1728 : (Jvm.Cond.soleField "DepthSorterModel" "seenFace") ∈ lw_all := lw_g (lw_at lw_m7 214 rfl) rfl
theorem q1729 : (Jvm.Cond.lays "DepthSorterModel" "DepthSorterModel" "metMany" "I") ∈ lw_all := lw_g (lw_at lw_m7 215 rfl) rfl
theorem q1730 : (Jvm.Cond.soleField "DepthSorterModel" "metMany") ∈ lw_all := lw_g (lw_at lw_m7 216 rfl) rfl
theorem q1731 : (Jvm.Cond.laysFinal "DepthSorterModel" "DepthSorterModel" "seenAreas" "[I") ∈ lw_all := lw_g (lw_at lw_m7 217 rfl) rfl
theorem q1732 : (Jvm.Cond.soleField "DepthSorterModel" "seenAreas") ∈ lw_all := lw_g (lw_at lw_m7 218 rfl) rfl
theorem q1733 : (Jvm.Cond.laysFinal "DepthSorterModel" "DepthSorterModel" "covers" "[I") ∈ lw_all := lw_g (lw_at lw_m7 219 rfl) rfl
theorem q1734 : (Jvm.Cond.soleField "DepthSorterModel" "covers") ∈ lw_all := lw_g (lw_at lw_m7 220 rfl) rfl
theorem q1735 : (Jvm.Cond.laysFinal "DepthSorterModel" "DepthSorterModel" "faces" "[I") ∈ lw_all := lw_g (lw_at lw_m7 221 rfl) rfl
theorem q1736 : (Jvm.Cond.soleField "DepthSorterModel" "faces") ∈ lw_all := lw_g (lw_at lw_m7 222 rfl) rfl
theorem q1737 : (Jvm.Cond.lays "DepthSorterModel" "DepthSorterModel" "at" "I") ∈ lw_all := lw_g (lw_at lw_m7 223 rfl) rfl
theorem q1738 : (Jvm.Cond.soleField "DepthSorterModel" "at") ∈ lw_all := lw_g (lw_at lw_m7 224 rfl) rfl
theorem q1739 : (Jvm.Cond.lays "DepthSorterModel" "DepthSorterModel" "wrong" "I") ∈ lw_all := lw_g (lw_at lw_m7 225 rfl) rfl
theorem q1740 : (Jvm.Cond.soleField "DepthSorterModel" "wrong") ∈ lw_all := lw_g (lw_at lw_m7 226 rfl) rfl
theorem q1741 : (Jvm.Cond.laysFinal "DepthSorterModel" "DepthSorterModel" "read" "[I") ∈ lw_all := lw_g (lw_at lw_m7 227 rfl) rfl
theorem q1742 : (Jvm.Cond.soleField "DepthSorterModel" "read") ∈ lw_all := lw_g (lw_at lw_m7 228 rfl) rfl
theorem q1743 : (Jvm.Cond.lays "DepthSorterModel" "DepthSorterModel" "items" "I") ∈ lw_all := lw_g (lw_at lw_m7 229 rfl) rfl
theorem q1744 : (Jvm.Cond.soleField "DepthSorterModel" "items") ∈ lw_all := lw_g (lw_at lw_m7 230 rfl) rfl
theorem q1745 : (Jvm.Cond.superclass "DepthSorterModel" "java/lang/Object") ∈ lw_all := lw_g (lw_at lw_m7 231 rfl) rfl
theorem q1748 : (Jvm.Cond.instanceMethod ({ cls := "DepthSorterModel", name := "add", desc := "(IIIIII)I" } : Jvm.MethodName)) ∈ lw_all := lw_g (lw_at lw_m7 234 rfl) rfl
theorem q1749 : (Jvm.Cond.selects "DepthSorterModel" ({ cls := "DepthSorterModel", name := "add", desc := "(IIIIII)I" } : Jvm.MethodName) ({ cls := "DepthSorterModel", name := "add", desc := "(IIIIII)I" } : Jvm.MethodName)) ∈ lw_all := lw_g (lw_at lw_m7 235 rfl) rfl
theorem q1750 : (Jvm.Cond.code ({ cls := "DepthSorterModel", name := "add", desc := "(IIIIII)I" } : Jvm.MethodName) prog_9_method_15_code (8 : Nat) (Option.some Jvm.ClassFile.FieldType.int)) ∈ lw_all := lw_g (lw_at lw_m7 236 rfl) rfl
theorem q1751 : (Jvm.Cond.methodLink "DepthSorterModel" (82 : Nat) ({ cls := "DepthSorterModel", name := "isTrial", desc := "(IIIIII)Z" } : Jvm.MethodName)) ∈ lw_all := lw_g (lw_at lw_m7 237 rfl) rfl
theorem q1752 : (Jvm.Cond.privateMethod ({ cls := "DepthSorterModel", name := "isTrial", desc := "(IIIIII)Z" } : Jvm.MethodName)) ∈ lw_tbl := lw_at lw_m7 238 rfl
theorem q1753 : (Jvm.Cond.instanceMethod ({ cls := "DepthSorterModel", name := "isTrial", desc := "(IIIIII)Z" } : Jvm.MethodName)) ∈ lw_all := lw_g (lw_at lw_m7 239 rfl) rfl
theorem q1754 : (Jvm.Cond.code ({ cls := "DepthSorterModel", name := "isTrial", desc := "(IIIIII)Z" } : Jvm.MethodName) prog_9_method_11_code (9 : Nat) (Option.some Jvm.ClassFile.FieldType.boolean)) ∈ lw_all := lw_g (lw_at lw_m8 0 rfl) rfl
theorem q1755 : (Jvm.Cond.methodLink "DepthSorterModel" (86 : Nat) ({ cls := "DepthSorterModel", name := "metByTrial", desc := "(I)I" } : Jvm.MethodName)) ∈ lw_all := lw_g (lw_at lw_m8 1 rfl) rfl
theorem q1756 : (Jvm.Cond.privateMethod ({ cls := "DepthSorterModel", name := "metByTrial", desc := "(I)I" } : Jvm.MethodName)) ∈ lw_tbl := lw_at lw_m8 2 rfl
theorem q1757 : (Jvm.Cond.instanceMethod ({ cls := "DepthSorterModel", name := "metByTrial", desc := "(I)I" } : Jvm.MethodName)) ∈ lw_all := lw_g (lw_at lw_m8 3 rfl) rfl
theorem q1758 : (Jvm.Cond.code ({ cls := "DepthSorterModel", name := "metByTrial", desc := "(I)I" } : Jvm.MethodName) prog_9_method_12_code (4 : Nat) (Option.some Jvm.ClassFile.FieldType.int)) ∈ lw_all := lw_g (lw_at lw_m8 4 rfl) rfl
theorem q1759 : (Jvm.Cond.methodLink "DepthSorterModel" (75 : Nat) ({ cls := "DepthSorterModel", name := "isBox", desc := "(I)Z" } : Jvm.MethodName)) ∈ lw_all := lw_g (lw_at lw_m8 5 rfl) rfl
theorem q1760 : (Jvm.Cond.privateMethod ({ cls := "DepthSorterModel", name := "isBox", desc := "(I)Z" } : Jvm.MethodName)) ∈ lw_tbl := lw_at lw_m8 6 rfl
theorem q1761 : (Jvm.Cond.instanceMethod ({ cls := "DepthSorterModel", name := "isBox", desc := "(I)Z" } : Jvm.MethodName)) ∈ lw_all := lw_g (lw_at lw_m8 7 rfl) rfl
theorem q1762 : (Jvm.Cond.code ({ cls := "DepthSorterModel", name := "isBox", desc := "(I)Z" } : Jvm.MethodName) prog_9_method_3_code (2 : Nat) (Option.some Jvm.ClassFile.FieldType.boolean)) ∈ lw_all := lw_g (lw_at lw_m8 8 rfl) rfl
theorem q1763 : (Jvm.Cond.methodLink "DepthSorterModel" (60 : Nat) ({ cls := "DepthSorterModel", name := "isIn", desc := "(III)Z" } : Jvm.MethodName)) ∈ lw_all := lw_g (lw_at lw_m8 9 rfl) rfl
theorem q1764 : (Jvm.Cond.static ({ cls := "DepthSorterModel", name := "isIn", desc := "(III)Z" } : Jvm.MethodName)) ∈ lw_all := lw_g (lw_at lw_m8 10 rfl) rfl
theorem q1765 : (Jvm.Cond.code ({ cls := "DepthSorterModel", name := "isIn", desc := "(III)Z" } : Jvm.MethodName) prog_9_method_2_code (3 : Nat) (Option.some Jvm.ClassFile.FieldType.boolean)) ∈ lw_all := lw_g (lw_at lw_m8 11 rfl) rfl
theorem q1766 : (Jvm.Cond.methodLink "DepthSorterModel" (79 : Nat) ({ cls := "DepthSorterModel", name := "doMeet", desc := "([II[II)Z" } : Jvm.MethodName)) ∈ lw_all := lw_g (lw_at lw_m8 12 rfl) rfl
theorem q1767 : (Jvm.Cond.static ({ cls := "DepthSorterModel", name := "doMeet", desc := "([II[II)Z" } : Jvm.MethodName)) ∈ lw_all := lw_g (lw_at lw_m8 13 rfl) rfl
theorem q1768 : (Jvm.Cond.code ({ cls := "DepthSorterModel", name := "doMeet", desc := "([II[II)Z" } : Jvm.MethodName) prog_9_method_5_code (6 : Nat) (Option.some Jvm.ClassFile.FieldType.boolean)) ∈ lw_all := lw_g (lw_at lw_m8 14 rfl) rfl
theorem q1769 : (Jvm.Cond.methodLink "DepthSorterModel" (90 : Nat) ({ cls := "DepthSorterModel", name := "lowestFree", desc := "()I" } : Jvm.MethodName)) ∈ lw_all := lw_g (lw_at lw_m8 15 rfl) rfl
theorem q1770 : (Jvm.Cond.privateMethod ({ cls := "DepthSorterModel", name := "lowestFree", desc := "()I" } : Jvm.MethodName)) ∈ lw_tbl := lw_at lw_m8 16 rfl
theorem q1771 : (Jvm.Cond.instanceMethod ({ cls := "DepthSorterModel", name := "lowestFree", desc := "()I" } : Jvm.MethodName)) ∈ lw_all := lw_g (lw_at lw_m8 17 rfl) rfl
theorem q1772 : (Jvm.Cond.code ({ cls := "DepthSorterModel", name := "lowestFree", desc := "()I" } : Jvm.MethodName) prog_9_method_14_code (2 : Nat) (Option.some Jvm.ClassFile.FieldType.int)) ∈ lw_all := lw_g (lw_at lw_m8 18 rfl) rfl
theorem q1773 : (Jvm.Cond.methodLink "DepthSorterModel" (94 : Nat) ({ cls := "DepthSorterModel", name := "keep", desc := "()V" } : Jvm.MethodName)) ∈ lw_all := lw_g (lw_at lw_m8 19 rfl) rfl
theorem q1774 : (Jvm.Cond.privateMethod ({ cls := "DepthSorterModel", name := "keep", desc := "()V" } : Jvm.MethodName)) ∈ lw_tbl := lw_at lw_m8 20 rfl
theorem q1775 : (Jvm.Cond.instanceMethod ({ cls := "DepthSorterModel", name := "keep", desc := "()V" } : Jvm.MethodName)) ∈ lw_all := lw_g (lw_at lw_m8 21 rfl) rfl
theorem q1776 : (Jvm.Cond.code ({ cls := "DepthSorterModel", name := "keep", desc := "()V" } : Jvm.MethodName) prog_9_method_10_code (2 : Nat) (Option.none : Option Jvm.ClassFile.FieldType)) ∈ lw_all := lw_g (lw_at lw_m8 22 rfl) rfl
theorem q1777 : (Jvm.Cond.methodLink "DepthSorterModel" (97 : Nat) ({ cls := "DepthSorterModel", name := "lay", desc := "(I)V" } : Jvm.MethodName)) ∈ lw_all := lw_g (lw_at lw_m8 23 rfl) rfl
theorem q1778 : (Jvm.Cond.privateMethod ({ cls := "DepthSorterModel", name := "lay", desc := "(I)V" } : Jvm.MethodName)) ∈ lw_tbl := lw_at lw_m8 24 rfl
theorem q1779 : (Jvm.Cond.instanceMethod ({ cls := "DepthSorterModel", name := "lay", desc := "(I)V" } : Jvm.MethodName)) ∈ lw_all := lw_g (lw_at lw_m8 25 rfl) rfl
theorem q1780 : (Jvm.Cond.code ({ cls := "DepthSorterModel", name := "lay", desc := "(I)V" } : Jvm.MethodName) prog_9_method_13_code (3 : Nat) (Option.none : Option Jvm.ClassFile.FieldType)) ∈ lw_all := lw_g (lw_at lw_m8 26 rfl) rfl
theorem q1782 : (Jvm.Cond.instanceMethod ({ cls := "DepthSorterModel", name := "remove", desc := "(I)I" } : Jvm.MethodName)) ∈ lw_all := lw_g (lw_at lw_m8 28 rfl) rfl
theorem q1783 : (Jvm.Cond.selects "DepthSorterModel" ({ cls := "DepthSorterModel", name := "remove", desc := "(I)I" } : Jvm.MethodName) ({ cls := "DepthSorterModel", name := "remove", desc := "(I)I" } : Jvm.MethodName)) ∈ lw_all := lw_g (lw_at lw_m8 29 rfl) rfl
theorem q1784 : (Jvm.Cond.code ({ cls := "DepthSorterModel", name := "remove", desc := "(I)I" } : Jvm.MethodName) prog_9_method_16_code (2 : Nat) (Option.some Jvm.ClassFile.FieldType.int)) ∈ lw_all := lw_g (lw_at lw_m8 30 rfl) rfl
theorem q1785 : (Jvm.Cond.methodLink "DepthSorterModel" (101 : Nat) ({ cls := "DepthSorterModel", name := "boxes", desc := "()I" } : Jvm.MethodName)) ∈ lw_all := lw_g (lw_at lw_m8 31 rfl) rfl
theorem q1786 : (Jvm.Cond.instanceMethod ({ cls := "DepthSorterModel", name := "boxes", desc := "()I" } : Jvm.MethodName)) ∈ lw_all := lw_g (lw_at lw_m8 32 rfl) rfl
theorem q1787 : (Jvm.Cond.selects "DepthSorterModel" ({ cls := "DepthSorterModel", name := "boxes", desc := "()I" } : Jvm.MethodName) ({ cls := "DepthSorterModel", name := "boxes", desc := "()I" } : Jvm.MethodName)) ∈ lw_all := lw_g (lw_at lw_m8 33 rfl) rfl
theorem q1788 : (Jvm.Cond.code ({ cls := "DepthSorterModel", name := "boxes", desc := "()I" } : Jvm.MethodName) prog_9_method_22_code (3 : Nat) (Option.some Jvm.ClassFile.FieldType.int)) ∈ lw_all := lw_g (lw_at lw_m8 34 rfl) rfl
theorem q1790 : (Jvm.Cond.instanceMethod ({ cls := "DepthSorterModel", name := "move", desc := "(IIII)I" } : Jvm.MethodName)) ∈ lw_all := lw_g (lw_at lw_m8 36 rfl) rfl
theorem q1791 : (Jvm.Cond.selects "DepthSorterModel" ({ cls := "DepthSorterModel", name := "move", desc := "(IIII)I" } : Jvm.MethodName) ({ cls := "DepthSorterModel", name := "move", desc := "(IIII)I" } : Jvm.MethodName)) ∈ lw_all := lw_g (lw_at lw_m8 37 rfl) rfl
theorem q1792 : (Jvm.Cond.code ({ cls := "DepthSorterModel", name := "move", desc := "(IIII)I" } : Jvm.MethodName) prog_9_method_17_code (6 : Nat) (Option.some Jvm.ClassFile.FieldType.int)) ∈ lw_all := lw_g (lw_at lw_m8 38 rfl) rfl
theorem q1793 : (Jvm.Cond.methodLink "DepthSorterModel" (104 : Nat) ({ cls := "DepthSorterModel", name := "of", desc := "(II)I" } : Jvm.MethodName)) ∈ lw_all := lw_g (lw_at lw_m8 39 rfl) rfl
theorem q1794 : (Jvm.Cond.privateMethod ({ cls := "DepthSorterModel", name := "of", desc := "(II)I" } : Jvm.MethodName)) ∈ lw_tbl := lw_at lw_m8 40 rfl
theorem q1795 : (Jvm.Cond.instanceMethod ({ cls := "DepthSorterModel", name := "of", desc := "(II)I" } : Jvm.MethodName)) ∈ lw_all := lw_g (lw_at lw_m8 41 rfl) rfl
theorem q1796 : (Jvm.Cond.code ({ cls := "DepthSorterModel", name := "of", desc := "(II)I" } : Jvm.MethodName) prog_9_method_4_code (3 : Nat) (Option.some Jvm.ClassFile.FieldType.int)) ∈ lw_all := lw_g (lw_at lw_m8 42 rfl) rfl
theorem q1797 : (Jvm.Cond.methodLink "DepthSorterModel" (108 : Nat) ({ cls := "DepthSorterModel", name := "pairs", desc := "()I" } : Jvm.MethodName)) ∈ lw_all := lw_g (lw_at lw_m8 43 rfl) rfl
theorem q1798 : (Jvm.Cond.instanceMethod ({ cls := "DepthSorterModel", name := "pairs", desc := "()I" } : Jvm.MethodName)) ∈ lw_all := lw_g (lw_at lw_m8 44 rfl) rfl
theorem q1799 : (Jvm.Cond.selects "DepthSorterModel" ({ cls := "DepthSorterModel", name := "pairs", desc := "()I" } : Jvm.MethodName) ({ cls := "DepthSorterModel", name := "pairs", desc := "()I" } : Jvm.MethodName)) ∈ lw_all := lw_g (lw_at lw_m8 45 rfl) rfl
theorem q1800 : (Jvm.Cond.code ({ cls := "DepthSorterModel", name := "pairs", desc := "()I" } : Jvm.MethodName) prog_9_method_28_code (5 : Nat) (Option.some Jvm.ClassFile.FieldType.int)) ∈ lw_all := lw_g (lw_at lw_m8 46 rfl) rfl
theorem q1801 : (Jvm.Cond.methodLink "DepthSorterModel" (115 : Nat) ({ cls := "DepthSorterModel", name := "setBehind", desc := "(I)I" } : Jvm.MethodName)) ∈ lw_all := lw_g (lw_at lw_m8 47 rfl) rfl
theorem q1802 : (Jvm.Cond.privateMethod ({ cls := "DepthSorterModel", name := "setBehind", desc := "(I)I" } : Jvm.MethodName)) ∈ lw_tbl := lw_at lw_m8 48 rfl
theorem q1803 : (Jvm.Cond.instanceMethod ({ cls := "DepthSorterModel", name := "setBehind", desc := "(I)I" } : Jvm.MethodName)) ∈ lw_all := lw_g (lw_at lw_m8 49 rfl) rfl
theorem q1804 : (Jvm.Cond.code ({ cls := "DepthSorterModel", name := "setBehind", desc := "(I)I" } : Jvm.MethodName) prog_9_method_26_code (4 : Nat) (Option.some Jvm.ClassFile.FieldType.int)) ∈ lw_all := lw_g (lw_at lw_m8 50 rfl) rfl
theorem q1805 : (Jvm.Cond.methodLink "DepthSorterModel" (111 : Nat) ({ cls := "DepthSorterModel", name := "isBoxBehind", desc := "(II)Z" } : Jvm.MethodName)) ∈ lw_all := lw_g (lw_at lw_m8 51 rfl) rfl
theorem q1806 : (Jvm.Cond.privateMethod ({ cls := "DepthSorterModel", name := "isBoxBehind", desc := "(II)Z" } : Jvm.MethodName)) ∈ lw_tbl := lw_at lw_m8 52 rfl
theorem q1807 : (Jvm.Cond.instanceMethod ({ cls := "DepthSorterModel", name := "isBoxBehind", desc := "(II)Z" } : Jvm.MethodName)) ∈ lw_all := lw_g (lw_at lw_m8 53 rfl) rfl
theorem q1808 : (Jvm.Cond.code ({ cls := "DepthSorterModel", name := "isBoxBehind", desc := "(II)Z" } : Jvm.MethodName) prog_9_method_9_code (3 : Nat) (Option.some Jvm.ClassFile.FieldType.boolean)) ∈ lw_all := lw_g (lw_at lw_m8 54 rfl) rfl
theorem q1809 : (Jvm.Cond.methodLink "DepthSorterModel" (72 : Nat) ({ cls := "DepthSorterModel", name := "isBehind", desc := "([II[II)Z" } : Jvm.MethodName)) ∈ lw_all := lw_g (lw_at lw_m8 55 rfl) rfl
theorem q1810 : (Jvm.Cond.static ({ cls := "DepthSorterModel", name := "isBehind", desc := "([II[II)Z" } : Jvm.MethodName)) ∈ lw_all := lw_g (lw_at lw_m8 56 rfl) rfl
theorem q1811 : (Jvm.Cond.code ({ cls := "DepthSorterModel", name := "isBehind", desc := "([II[II)Z" } : Jvm.MethodName) prog_9_method_8_code (6 : Nat) (Option.some Jvm.ClassFile.FieldType.boolean)) ∈ lw_all := lw_g (lw_at lw_m8 57 rfl) rfl
theorem q1812 : (Jvm.Cond.methodLink "DepthSorterModel" (68 : Nat) ({ cls := "DepthSorterModel", name := "doOverlap", desc := "([II[II)Z" } : Jvm.MethodName)) ∈ lw_all := lw_g (lw_at lw_m8 58 rfl) rfl
theorem q1813 : (Jvm.Cond.static ({ cls := "DepthSorterModel", name := "doOverlap", desc := "([II[II)Z" } : Jvm.MethodName)) ∈ lw_all := lw_g (lw_at lw_m8 59 rfl) rfl
theorem q1814 : (Jvm.Cond.code ({ cls := "DepthSorterModel", name := "doOverlap", desc := "([II[II)Z" } : Jvm.MethodName) prog_9_method_7_code (7 : Nat) (Option.some Jvm.ClassFile.FieldType.boolean)) ∈ lw_all := lw_g (lw_at lw_m8 60 rfl) rfl
theorem q1815 : (Jvm.Cond.methodLink "DepthSorterModel" (64 : Nat) ({ cls := "DepthSorterModel", name := "share", desc := "(IIII)Z" } : Jvm.MethodName)) ∈ lw_all := lw_g (lw_at lw_m8 61 rfl) rfl
theorem q1816 : (Jvm.Cond.static ({ cls := "DepthSorterModel", name := "share", desc := "(IIII)Z" } : Jvm.MethodName)) ∈ lw_all := lw_g (lw_at lw_m8 62 rfl) rfl
theorem q1817 : (Jvm.Cond.code ({ cls := "DepthSorterModel", name := "share", desc := "(IIII)Z" } : Jvm.MethodName) prog_9_method_6_code (4 : Nat) (Option.some Jvm.ClassFile.FieldType.boolean)) ∈ lw_all := lw_g (lw_at lw_m8 63 rfl) rfl
theorem q1819 : (Jvm.Cond.instanceMethod ({ cls := "DepthSorterModel", name := "push", desc := "(III)I" } : Jvm.MethodName)) ∈ lw_all := lw_g (lw_at lw_m8 65 rfl) rfl
theorem q1820 : (Jvm.Cond.selects "DepthSorterModel" ({ cls := "DepthSorterModel", name := "push", desc := "(III)I" } : Jvm.MethodName) ({ cls := "DepthSorterModel", name := "push", desc := "(III)I" } : Jvm.MethodName)) ∈ lw_all := lw_g (lw_at lw_m8 66 rfl) rfl
theorem q1821 : (Jvm.Cond.code ({ cls := "DepthSorterModel", name := "push", desc := "(III)I" } : Jvm.MethodName) prog_9_method_18_code (9 : Nat) (Option.some Jvm.ClassFile.FieldType.int)) ∈ lw_all := lw_g (lw_at lw_m8 67 rfl) rfl
theorem q1823 : (Jvm.Cond.instanceMethod ({ cls := "DepthSorterModel", name := "turn", desc := "()I" } : Jvm.MethodName)) ∈ lw_all := lw_g (lw_at lw_m8 69 rfl) rfl
theorem q1824 : (Jvm.Cond.selects "DepthSorterModel" ({ cls := "DepthSorterModel", name := "turn", desc := "()I" } : Jvm.MethodName) ({ cls := "DepthSorterModel", name := "turn", desc := "()I" } : Jvm.MethodName)) ∈ lw_all := lw_g (lw_at lw_m8 70 rfl) rfl
theorem q1825 : (Jvm.Cond.code ({ cls := "DepthSorterModel", name := "turn", desc := "()I" } : Jvm.MethodName) prog_9_method_19_code (3 : Nat) (Option.some Jvm.ClassFile.FieldType.int)) ∈ lw_all := lw_g (lw_at lw_m8 71 rfl) rfl
theorem q1827 : (Jvm.Cond.instanceMethod ({ cls := "DepthSorterModel", name := "split", desc := "(III)I" } : Jvm.MethodName)) ∈ lw_all := lw_g (lw_at lw_m8 73 rfl) rfl
theorem q1828 : (Jvm.Cond.selects "DepthSorterModel" ({ cls := "DepthSorterModel", name := "split", desc := "(III)I" } : Jvm.MethodName) ({ cls := "DepthSorterModel", name := "split", desc := "(III)I" } : Jvm.MethodName)) ∈ lw_all := lw_g (lw_at lw_m8 74 rfl) rfl
theorem q1829 : (Jvm.Cond.code ({ cls := "DepthSorterModel", name := "split", desc := "(III)I" } : Jvm.MethodName) prog_9_method_20_code (6 : Nat) (Option.some Jvm.ClassFile.FieldType.int)) ∈ lw_all := lw_g (lw_at lw_m8 75 rfl) rfl
theorem q1831 : (Jvm.Cond.instanceMethod ({ cls := "DepthSorterModel", name := "undo", desc := "()I" } : Jvm.MethodName)) ∈ lw_all := lw_g (lw_at lw_m8 77 rfl) rfl
theorem q1832 : (Jvm.Cond.selects "DepthSorterModel" ({ cls := "DepthSorterModel", name := "undo", desc := "()I" } : Jvm.MethodName) ({ cls := "DepthSorterModel", name := "undo", desc := "()I" } : Jvm.MethodName)) ∈ lw_all := lw_g (lw_at lw_m8 78 rfl) rfl
theorem q1833 : (Jvm.Cond.code ({ cls := "DepthSorterModel", name := "undo", desc := "()I" } : Jvm.MethodName) prog_9_method_21_code (2 : Nat) (Option.some Jvm.ClassFile.FieldType.int)) ∈ lw_all := lw_g (lw_at lw_m8 79 rfl) rfl
theorem q1836 : (Jvm.Cond.instanceMethod ({ cls := "DepthSorterModel", name := "coordinate", desc := "(II)I" } : Jvm.MethodName)) ∈ lw_all := lw_g (lw_at lw_m8 82 rfl) rfl
theorem q1837 : (Jvm.Cond.selects "DepthSorterModel" ({ cls := "DepthSorterModel", name := "coordinate", desc := "(II)I" } : Jvm.MethodName) ({ cls := "DepthSorterModel", name := "coordinate", desc := "(II)I" } : Jvm.MethodName)) ∈ lw_all := lw_g (lw_at lw_m8 83 rfl) rfl
theorem q1838 : (Jvm.Cond.code ({ cls := "DepthSorterModel", name := "coordinate", desc := "(II)I" } : Jvm.MethodName) prog_9_method_23_code (3 : Nat) (Option.some Jvm.ClassFile.FieldType.int)) ∈ lw_all := lw_g (lw_at lw_m8 84 rfl) rfl
theorem q1840 : (Jvm.Cond.instanceMethod ({ cls := "DepthSorterModel", name := "met", desc := "(IIIIII)I" } : Jvm.MethodName)) ∈ lw_all := lw_g (lw_at lw_m8 86 rfl) rfl
theorem q1841 : (Jvm.Cond.selects "DepthSorterModel" ({ cls := "DepthSorterModel", name := "met", desc := "(IIIIII)I" } : Jvm.MethodName) ({ cls := "DepthSorterModel", name := "met", desc := "(IIIIII)I" } : Jvm.MethodName)) ∈ lw_all := lw_g (lw_at lw_m8 87 rfl) rfl
theorem q1842 : (Jvm.Cond.code ({ cls := "DepthSorterModel", name := "met", desc := "(IIIIII)I" } : Jvm.MethodName) prog_9_method_24_code (7 : Nat) (Option.some Jvm.ClassFile.FieldType.int)) ∈ lw_all := lw_g (lw_at lw_m8 88 rfl) rfl
theorem q1844 : (Jvm.Cond.instanceMethod ({ cls := "DepthSorterModel", name := "compare", desc := "(II)I" } : Jvm.MethodName)) ∈ lw_all := lw_g (lw_at lw_m8 90 rfl) rfl
theorem q1845 : (Jvm.Cond.selects "DepthSorterModel" ({ cls := "DepthSorterModel", name := "compare", desc := "(II)I" } : Jvm.MethodName) ({ cls := "DepthSorterModel", name := "compare", desc := "(II)I" } : Jvm.MethodName)) ∈ lw_all := lw_g (lw_at lw_m8 91 rfl) rfl
theorem q1846 : (Jvm.Cond.code ({ cls := "DepthSorterModel", name := "compare", desc := "(II)I" } : Jvm.MethodName) prog_9_method_25_code (3 : Nat) (Option.some Jvm.ClassFile.FieldType.int)) ∈ lw_all := lw_g (lw_at lw_m8 92 rfl) rfl
theorem q1848 : (Jvm.Cond.instanceMethod ({ cls := "DepthSorterModel", name := "behind", desc := "(I)I" } : Jvm.MethodName)) ∈ lw_all := lw_g (lw_at lw_m8 94 rfl) rfl
theorem q1849 : (Jvm.Cond.selects "DepthSorterModel" ({ cls := "DepthSorterModel", name := "behind", desc := "(I)I" } : Jvm.MethodName) ({ cls := "DepthSorterModel", name := "behind", desc := "(I)I" } : Jvm.MethodName)) ∈ lw_all := lw_g (lw_at lw_m8 95 rfl) rfl
theorem q1850 : (Jvm.Cond.code ({ cls := "DepthSorterModel", name := "behind", desc := "(I)I" } : Jvm.MethodName) prog_9_method_27_code (2 : Nat) (Option.some Jvm.ClassFile.FieldType.int)) ∈ lw_all := lw_g (lw_at lw_m8 96 rfl) rfl
theorem q1853 : (Jvm.Cond.instanceMethod ({ cls := "DepthSorterModel", name := "touching", desc := "(II)I" } : Jvm.MethodName)) ∈ lw_all := lw_g (lw_at lw_m8 99 rfl) rfl
theorem q1854 : (Jvm.Cond.selects "DepthSorterModel" ({ cls := "DepthSorterModel", name := "touching", desc := "(II)I" } : Jvm.MethodName) ({ cls := "DepthSorterModel", name := "touching", desc := "(II)I" } : Jvm.MethodName)) ∈ lw_all := lw_g (lw_at lw_m8 100 rfl) rfl
theorem q1855 : (Jvm.Cond.code ({ cls := "DepthSorterModel", name := "touching", desc := "(II)I" } : Jvm.MethodName) prog_9_method_29_code (7 : Nat) (Option.some Jvm.ClassFile.FieldType.int)) ∈ lw_all := lw_g (lw_at lw_m8 101 rfl) rfl
theorem q1857 : (Jvm.Cond.instanceMethod ({ cls := "DepthSorterModel", name := "cycle", desc := "(I)I" } : Jvm.MethodName)) ∈ lw_all := lw_g (lw_at lw_m8 103 rfl) rfl
theorem q1858 : (Jvm.Cond.selects "DepthSorterModel" ({ cls := "DepthSorterModel", name := "cycle", desc := "(I)I" } : Jvm.MethodName) ({ cls := "DepthSorterModel", name := "cycle", desc := "(I)I" } : Jvm.MethodName)) ∈ lw_all := lw_g (lw_at lw_m8 104 rfl) rfl
theorem q1859 : (Jvm.Cond.code ({ cls := "DepthSorterModel", name := "cycle", desc := "(I)I" } : Jvm.MethodName) prog_9_method_33_code (2 : Nat) (Option.some Jvm.ClassFile.FieldType.int)) ∈ lw_all := lw_g (lw_at lw_m8 105 rfl) rfl
theorem q1860 : (Jvm.Cond.methodLink "DepthSorterModel" (124 : Nat) ({ cls := "DepthSorterModel", name := "layCycle", desc := "()I" } : Jvm.MethodName)) ∈ lw_all := lw_g (lw_at lw_m8 106 rfl) rfl
theorem q1861 : (Jvm.Cond.privateMethod ({ cls := "DepthSorterModel", name := "layCycle", desc := "()I" } : Jvm.MethodName)) ∈ lw_tbl := lw_at lw_m8 107 rfl
theorem q1862 : (Jvm.Cond.instanceMethod ({ cls := "DepthSorterModel", name := "layCycle", desc := "()I" } : Jvm.MethodName)) ∈ lw_all := lw_g (lw_at lw_m8 108 rfl) rfl
theorem q1863 : (Jvm.Cond.code ({ cls := "DepthSorterModel", name := "layCycle", desc := "()I" } : Jvm.MethodName) prog_9_method_31_code (5 : Nat) (Option.some Jvm.ClassFile.FieldType.int)) ∈ lw_all := lw_g (lw_at lw_m8 109 rfl) rfl
theorem q1864 : (Jvm.Cond.methodLink "DepthSorterModel" (118 : Nat) ({ cls := "DepthSorterModel", name := "cycleOf", desc := "(I)I" } : Jvm.MethodName)) ∈ lw_all := lw_g (lw_at lw_m8 110 rfl) rfl
theorem q1865 : (Jvm.Cond.privateMethod ({ cls := "DepthSorterModel", name := "cycleOf", desc := "(I)I" } : Jvm.MethodName)) ∈ lw_tbl := lw_at lw_m8 111 rfl
theorem q1866 : (Jvm.Cond.instanceMethod ({ cls := "DepthSorterModel", name := "cycleOf", desc := "(I)I" } : Jvm.MethodName)) ∈ lw_all := lw_g (lw_at lw_m8 112 rfl) rfl
theorem q1867 : (Jvm.Cond.code ({ cls := "DepthSorterModel", name := "cycleOf", desc := "(I)I" } : Jvm.MethodName) prog_9_method_32_code (4 : Nat) (Option.some Jvm.ClassFile.FieldType.int)) ∈ lw_all := lw_g (lw_at lw_m8 113 rfl) rfl
theorem q1868 : (Jvm.Cond.methodLink "DepthSorterModel" (121 : Nat) ({ cls := "DepthSorterModel", name := "measure", desc := "(I)V" } : Jvm.MethodName)) ∈ lw_all := lw_g (lw_at lw_m8 114 rfl) rfl
theorem q1869 : (Jvm.Cond.privateMethod ({ cls := "DepthSorterModel", name := "measure", desc := "(I)V" } : Jvm.MethodName)) ∈ lw_tbl := lw_at lw_m8 115 rfl
theorem q1870 : (Jvm.Cond.instanceMethod ({ cls := "DepthSorterModel", name := "measure", desc := "(I)V" } : Jvm.MethodName)) ∈ lw_all := lw_g (lw_at lw_m8 116 rfl) rfl
theorem q1871 : (Jvm.Cond.code ({ cls := "DepthSorterModel", name := "measure", desc := "(I)V" } : Jvm.MethodName) prog_9_method_30_code (5 : Nat) (Option.none : Option Jvm.ClassFile.FieldType)) ∈ lw_all := lw_g (lw_at lw_m8 117 rfl) rfl
theorem q1873 : (Jvm.Cond.instanceMethod ({ cls := "DepthSorterModel", name := "level", desc := "(I)I" } : Jvm.MethodName)) ∈ lw_all := lw_g (lw_at lw_m8 119 rfl) rfl
theorem q1874 : (Jvm.Cond.selects "DepthSorterModel" ({ cls := "DepthSorterModel", name := "level", desc := "(I)I" } : Jvm.MethodName) ({ cls := "DepthSorterModel", name := "level", desc := "(I)I" } : Jvm.MethodName)) ∈ lw_all := lw_g (lw_at lw_m8 120 rfl) rfl
theorem q1875 : (Jvm.Cond.code ({ cls := "DepthSorterModel", name := "level", desc := "(I)I" } : Jvm.MethodName) prog_9_method_34_code (7 : Nat) (Option.some Jvm.ClassFile.FieldType.int)) ∈ lw_all := lw_g (lw_at lw_m8 121 rfl) rfl
theorem q1877 : (Jvm.Cond.instanceMethod ({ cls := "DepthSorterModel", name := "pieces", desc := "()I" } : Jvm.MethodName)) ∈ lw_all := lw_g (lw_at lw_m8 123 rfl) rfl
theorem q1878 : (Jvm.Cond.selects "DepthSorterModel" ({ cls := "DepthSorterModel", name := "pieces", desc := "()I" } : Jvm.MethodName) ({ cls := "DepthSorterModel", name := "pieces", desc := "()I" } : Jvm.MethodName)) ∈ lw_all := lw_g (lw_at lw_m8 124 rfl) rfl
theorem q1879 : (Jvm.Cond.code ({ cls := "DepthSorterModel", name := "pieces", desc := "()I" } : Jvm.MethodName) prog_9_method_44_code (1 : Nat) (Option.some Jvm.ClassFile.FieldType.int)) ∈ lw_all := lw_g (lw_at lw_m8 125 rfl) rfl
theorem q1880 : (Jvm.Cond.methodLink "DepthSorterModel" (161 : Nat) ({ cls := "DepthSorterModel", name := "draws", desc := "()Z" } : Jvm.MethodName)) ∈ lw_all := lw_g (lw_at lw_m8 126 rfl) rfl
theorem q1881 : (Jvm.Cond.privateMethod ({ cls := "DepthSorterModel", name := "draws", desc := "()Z" } : Jvm.MethodName)) ∈ lw_tbl := lw_at lw_m8 127 rfl
theorem q1882 : (Jvm.Cond.instanceMethod ({ cls := "DepthSorterModel", name := "draws", desc := "()Z" } : Jvm.MethodName)) ∈ lw_all := lw_g (lw_at lw_m8 128 rfl) rfl
theorem q1883 : (Jvm.Cond.code ({ cls := "DepthSorterModel", name := "draws", desc := "()Z" } : Jvm.MethodName) prog_9_method_43_code (3 : Nat) (Option.some Jvm.ClassFile.FieldType.boolean)) ∈ lw_all := lw_g (lw_at lw_m8 129 rfl) rfl
theorem q1884 : (Jvm.Cond.methodLink "DepthSorterModel" (154 : Nat) ({ cls := "DepthSorterModel", name := "nextDrawn", desc := "()I" } : Jvm.MethodName)) ∈ lw_all := lw_g (lw_at lw_m8 130 rfl) rfl
theorem q1885 : (Jvm.Cond.privateMethod ({ cls := "DepthSorterModel", name := "nextDrawn", desc := "()I" } : Jvm.MethodName)) ∈ lw_tbl := lw_at lw_m8 131 rfl
theorem q1886 : (Jvm.Cond.instanceMethod ({ cls := "DepthSorterModel", name := "nextDrawn", desc := "()I" } : Jvm.MethodName)) ∈ lw_all := lw_g (lw_at lw_m8 132 rfl) rfl
theorem q1887 : (Jvm.Cond.code ({ cls := "DepthSorterModel", name := "nextDrawn", desc := "()I" } : Jvm.MethodName) prog_9_method_37_code (2 : Nat) (Option.some Jvm.ClassFile.FieldType.int)) ∈ lw_all := lw_g (lw_at lw_m8 133 rfl) rfl
theorem q1888 : (Jvm.Cond.methodLink "DepthSorterModel" (133 : Nat) ({ cls := "DepthSorterModel", name := "lowestBehind", desc := "(I)I" } : Jvm.MethodName)) ∈ lw_all := lw_g (lw_at lw_m8 134 rfl) rfl
theorem q1889 : (Jvm.Cond.privateMethod ({ cls := "DepthSorterModel", name := "lowestBehind", desc := "(I)I" } : Jvm.MethodName)) ∈ lw_tbl := lw_at lw_m8 135 rfl
theorem q1890 : (Jvm.Cond.instanceMethod ({ cls := "DepthSorterModel", name := "lowestBehind", desc := "(I)I" } : Jvm.MethodName)) ∈ lw_all := lw_g (lw_at lw_m8 136 rfl) rfl
theorem q1891 : (Jvm.Cond.code ({ cls := "DepthSorterModel", name := "lowestBehind", desc := "(I)I" } : Jvm.MethodName) prog_9_method_36_code (3 : Nat) (Option.some Jvm.ClassFile.FieldType.int)) ∈ lw_all := lw_g (lw_at lw_m8 137 rfl) rfl
theorem q1892 : (Jvm.Cond.methodLink "DepthSorterModel" (130 : Nat) ({ cls := "DepthSorterModel", name := "isPieceBehind", desc := "(II)Z" } : Jvm.MethodName)) ∈ lw_all := lw_g (lw_at lw_m8 138 rfl) rfl
theorem q1893 : (Jvm.Cond.privateMethod ({ cls := "DepthSorterModel", name := "isPieceBehind", desc := "(II)Z" } : Jvm.MethodName)) ∈ lw_tbl := lw_at lw_m8 139 rfl
theorem q1894 : (Jvm.Cond.instanceMethod ({ cls := "DepthSorterModel", name := "isPieceBehind", desc := "(II)Z" } : Jvm.MethodName)) ∈ lw_all := lw_g (lw_at lw_m8 140 rfl) rfl
theorem q1895 : (Jvm.Cond.code ({ cls := "DepthSorterModel", name := "isPieceBehind", desc := "(II)Z" } : Jvm.MethodName) prog_9_method_35_code (3 : Nat) (Option.some Jvm.ClassFile.FieldType.boolean)) ∈ lw_all := lw_g (lw_at lw_m8 141 rfl) rfl
theorem q1896 : (Jvm.Cond.methodLink "DepthSorterModel" (157 : Nat) ({ cls := "DepthSorterModel", name := "cutsLoop", desc := "()Z" } : Jvm.MethodName)) ∈ lw_all := lw_g (lw_at lw_m8 142 rfl) rfl
theorem q1897 : (Jvm.Cond.privateMethod ({ cls := "DepthSorterModel", name := "cutsLoop", desc := "()Z" } : Jvm.MethodName)) ∈ lw_tbl := lw_at lw_m8 143 rfl
theorem q1898 : (Jvm.Cond.instanceMethod ({ cls := "DepthSorterModel", name := "cutsLoop", desc := "()Z" } : Jvm.MethodName)) ∈ lw_all := lw_g (lw_at lw_m8 144 rfl) rfl
theorem q1899 : (Jvm.Cond.code ({ cls := "DepthSorterModel", name := "cutsLoop", desc := "()Z" } : Jvm.MethodName) prog_9_method_42_code (3 : Nat) (Option.some Jvm.ClassFile.FieldType.boolean)) ∈ lw_all := lw_g (lw_at lw_m8 145 rfl) rfl
theorem q1900 : (Jvm.Cond.methodLink "DepthSorterModel" (145 : Nat) ({ cls := "DepthSorterModel", name := "layLoop", desc := "()V" } : Jvm.MethodName)) ∈ lw_all := lw_g (lw_at lw_m8 146 rfl) rfl
theorem q1901 : (Jvm.Cond.privateMethod ({ cls := "DepthSorterModel", name := "layLoop", desc := "()V" } : Jvm.MethodName)) ∈ lw_tbl := lw_at lw_m8 147 rfl
theorem q1902 : (Jvm.Cond.instanceMethod ({ cls := "DepthSorterModel", name := "layLoop", desc := "()V" } : Jvm.MethodName)) ∈ lw_all := lw_g (lw_at lw_m8 148 rfl) rfl
theorem q1903 : (Jvm.Cond.code ({ cls := "DepthSorterModel", name := "layLoop", desc := "()V" } : Jvm.MethodName) prog_9_method_38_code (6 : Nat) (Option.none : Option Jvm.ClassFile.FieldType)) ∈ lw_all := lw_g (lw_at lw_m8 149 rfl) rfl
theorem q1904 : (Jvm.Cond.methodLink "DepthSorterModel" (148 : Nat) ({ cls := "DepthSorterModel", name := "slices", desc := "(II)Z" } : Jvm.MethodName)) ∈ lw_all := lw_g (lw_at lw_m8 150 rfl) rfl
theorem q1905 : (Jvm.Cond.privateMethod ({ cls := "DepthSorterModel", name := "slices", desc := "(II)Z" } : Jvm.MethodName)) ∈ lw_tbl := lw_at lw_m8 151 rfl
theorem q1906 : (Jvm.Cond.instanceMethod ({ cls := "DepthSorterModel", name := "slices", desc := "(II)Z" } : Jvm.MethodName)) ∈ lw_all := lw_g (lw_at lw_m8 152 rfl) rfl
theorem q1907 : (Jvm.Cond.code ({ cls := "DepthSorterModel", name := "slices", desc := "(II)Z" } : Jvm.MethodName) prog_9_method_41_code (6 : Nat) (Option.some Jvm.ClassFile.FieldType.boolean)) ∈ lw_all := lw_g (lw_at lw_m8 153 rfl) rfl
theorem q1908 : (Jvm.Cond.methodLink "DepthSorterModel" (139 : Nat) ({ cls := "DepthSorterModel", name := "isInLoop", desc := "(I)Z" } : Jvm.MethodName)) ∈ lw_all := lw_g (lw_at lw_m8 154 rfl) rfl
theorem q1909 : (Jvm.Cond.privateMethod ({ cls := "DepthSorterModel", name := "isInLoop", desc := "(I)Z" } : Jvm.MethodName)) ∈ lw_tbl := lw_at lw_m8 155 rfl
theorem q1910 : (Jvm.Cond.instanceMethod ({ cls := "DepthSorterModel", name := "isInLoop", desc := "(I)Z" } : Jvm.MethodName)) ∈ lw_all := lw_g (lw_at lw_m8 156 rfl) rfl
theorem q1911 : (Jvm.Cond.code ({ cls := "DepthSorterModel", name := "isInLoop", desc := "(I)Z" } : Jvm.MethodName) prog_9_method_40_code (4 : Nat) (Option.some Jvm.ClassFile.FieldType.boolean)) ∈ lw_all := lw_g (lw_at lw_m8 157 rfl) rfl
theorem q1912 : (Jvm.Cond.methodLink "DepthSorterModel" (142 : Nat) ({ cls := "DepthSorterModel", name := "isFace", desc := "(III)Z" } : Jvm.MethodName)) ∈ lw_all := lw_g (lw_at lw_m8 158 rfl) rfl
theorem q1913 : (Jvm.Cond.privateMethod ({ cls := "DepthSorterModel", name := "isFace", desc := "(III)Z" } : Jvm.MethodName)) ∈ lw_tbl := lw_at lw_m8 159 rfl
theorem q1914 : (Jvm.Cond.instanceMethod ({ cls := "DepthSorterModel", name := "isFace", desc := "(III)Z" } : Jvm.MethodName)) ∈ lw_all := lw_g (lw_at lw_m8 160 rfl) rfl
theorem q1915 : (Jvm.Cond.code ({ cls := "DepthSorterModel", name := "isFace", desc := "(III)Z" } : Jvm.MethodName) prog_9_method_39_code (7 : Nat) (Option.some Jvm.ClassFile.FieldType.boolean)) ∈ lw_all := lw_g (lw_at lw_m8 161 rfl) rfl
theorem q1917 : (Jvm.Cond.instanceMethod ({ cls := "DepthSorterModel", name := "cuts", desc := "()I" } : Jvm.MethodName)) ∈ lw_all := lw_g (lw_at lw_m8 163 rfl) rfl
theorem q1918 : (Jvm.Cond.selects "DepthSorterModel" ({ cls := "DepthSorterModel", name := "cuts", desc := "()I" } : Jvm.MethodName) ({ cls := "DepthSorterModel", name := "cuts", desc := "()I" } : Jvm.MethodName)) ∈ lw_all := lw_g (lw_at lw_m8 164 rfl) rfl
theorem q1919 : (Jvm.Cond.code ({ cls := "DepthSorterModel", name := "cuts", desc := "()I" } : Jvm.MethodName) prog_9_method_45_code (1 : Nat) (Option.some Jvm.ClassFile.FieldType.int)) ∈ lw_all := lw_g (lw_at lw_m8 165 rfl) rfl
theorem q1921 : (Jvm.Cond.instanceMethod ({ cls := "DepthSorterModel", name := "piece", desc := "(II)I" } : Jvm.MethodName)) ∈ lw_all := lw_g (lw_at lw_m8 167 rfl) rfl
theorem q1922 : (Jvm.Cond.selects "DepthSorterModel" ({ cls := "DepthSorterModel", name := "piece", desc := "(II)I" } : Jvm.MethodName) ({ cls := "DepthSorterModel", name := "piece", desc := "(II)I" } : Jvm.MethodName)) ∈ lw_all := lw_g (lw_at lw_m8 168 rfl) rfl
theorem q1923 : (Jvm.Cond.code ({ cls := "DepthSorterModel", name := "piece", desc := "(II)I" } : Jvm.MethodName) prog_9_method_46_code (4 : Nat) (Option.some Jvm.ClassFile.FieldType.int)) ∈ lw_all := lw_g (lw_at lw_m8 169 rfl) rfl
theorem q1925 : (Jvm.Cond.instanceMethod ({ cls := "DepthSorterModel", name := "drawnLast", desc := "(III)I" } : Jvm.MethodName)) ∈ lw_all := lw_g (lw_at lw_m8 171 rfl) rfl
theorem q1926 : (Jvm.Cond.selects "DepthSorterModel" ({ cls := "DepthSorterModel", name := "drawnLast", desc := "(III)I" } : Jvm.MethodName) ({ cls := "DepthSorterModel", name := "drawnLast", desc := "(III)I" } : Jvm.MethodName)) ∈ lw_all := lw_g (lw_at lw_m8 172 rfl) rfl
theorem q1927 : (Jvm.Cond.code ({ cls := "DepthSorterModel", name := "drawnLast", desc := "(III)I" } : Jvm.MethodName) prog_9_method_49_code (6 : Nat) (Option.some Jvm.ClassFile.FieldType.int)) ∈ lw_all := lw_g (lw_at lw_m8 173 rfl) rfl
theorem q1928 : (Jvm.Cond.methodLink "DepthSorterModel" (170 : Nat) ({ cls := "DepthSorterModel", name := "isPoint", desc := "(III)Z" } : Jvm.MethodName)) ∈ lw_all := lw_g (lw_at lw_m8 174 rfl) rfl
theorem q1929 : (Jvm.Cond.static ({ cls := "DepthSorterModel", name := "isPoint", desc := "(III)Z" } : Jvm.MethodName)) ∈ lw_all := lw_g (lw_at lw_m8 175 rfl) rfl
theorem q1930 : (Jvm.Cond.code ({ cls := "DepthSorterModel", name := "isPoint", desc := "(III)Z" } : Jvm.MethodName) prog_9_method_47_code (3 : Nat) (Option.some Jvm.ClassFile.FieldType.boolean)) ∈ lw_all := lw_g (lw_at lw_m8 176 rfl) rfl
theorem q1931 : (Jvm.Cond.methodLink "DepthSorterModel" (173 : Nat) ({ cls := "DepthSorterModel", name := "isMet", desc := "([IIIII)Z" } : Jvm.MethodName)) ∈ lw_all := lw_g (lw_at lw_m8 177 rfl) rfl
theorem q1932 : (Jvm.Cond.privateMethod ({ cls := "DepthSorterModel", name := "isMet", desc := "([IIIII)Z" } : Jvm.MethodName)) ∈ lw_tbl := lw_at lw_m8 178 rfl
theorem q1933 : (Jvm.Cond.instanceMethod ({ cls := "DepthSorterModel", name := "isMet", desc := "([IIIII)Z" } : Jvm.MethodName)) ∈ lw_all := lw_g (lw_at lw_m8 179 rfl) rfl
theorem q1934 : (Jvm.Cond.code ({ cls := "DepthSorterModel", name := "isMet", desc := "([IIIII)Z" } : Jvm.MethodName) prog_9_method_48_code (12 : Nat) (Option.some Jvm.ClassFile.FieldType.boolean)) ∈ lw_all := lw_g (lw_at lw_m8 180 rfl) rfl
theorem q1936 : (Jvm.Cond.instanceMethod ({ cls := "DepthSorterModel", name := "seen", desc := "(III)I" } : Jvm.MethodName)) ∈ lw_all := lw_g (lw_at lw_m8 182 rfl) rfl
theorem q1937 : (Jvm.Cond.selects "DepthSorterModel" ({ cls := "DepthSorterModel", name := "seen", desc := "(III)I" } : Jvm.MethodName) ({ cls := "DepthSorterModel", name := "seen", desc := "(III)I" } : Jvm.MethodName)) ∈ lw_all := lw_g (lw_at lw_m8 183 rfl) rfl
theorem q1938 : (Jvm.Cond.code ({ cls := "DepthSorterModel", name := "seen", desc := "(III)I" } : Jvm.MethodName) prog_9_method_51_code (4 : Nat) (Option.some Jvm.ClassFile.FieldType.int)) ∈ lw_all := lw_g (lw_at lw_m8 184 rfl) rfl
theorem q1939 : (Jvm.Cond.methodLink "DepthSorterModel" (183 : Nat) ({ cls := "DepthSorterModel", name := "look", desc := "(III)I" } : Jvm.MethodName)) ∈ lw_all := lw_g (lw_at lw_m8 185 rfl) rfl
theorem q1940 : (Jvm.Cond.privateMethod ({ cls := "DepthSorterModel", name := "look", desc := "(III)I" } : Jvm.MethodName)) ∈ lw_tbl := lw_at lw_m8 186 rfl
theorem q1941 : (Jvm.Cond.instanceMethod ({ cls := "DepthSorterModel", name := "look", desc := "(III)I" } : Jvm.MethodName)) ∈ lw_all := lw_g (lw_at lw_m8 187 rfl) rfl
theorem q1942 : (Jvm.Cond.code ({ cls := "DepthSorterModel", name := "look", desc := "(III)I" } : Jvm.MethodName) prog_9_method_50_code (7 : Nat) (Option.some Jvm.ClassFile.FieldType.int)) ∈ lw_all := lw_g (lw_at lw_m8 188 rfl) rfl
theorem q1944 : (Jvm.Cond.instanceMethod ({ cls := "DepthSorterModel", name := "face", desc := "(III)I" } : Jvm.MethodName)) ∈ lw_all := lw_g (lw_at lw_m8 190 rfl) rfl
theorem q1945 : (Jvm.Cond.selects "DepthSorterModel" ({ cls := "DepthSorterModel", name := "face", desc := "(III)I" } : Jvm.MethodName) ({ cls := "DepthSorterModel", name := "face", desc := "(III)I" } : Jvm.MethodName)) ∈ lw_all := lw_g (lw_at lw_m8 191 rfl) rfl
theorem q1946 : (Jvm.Cond.code ({ cls := "DepthSorterModel", name := "face", desc := "(III)I" } : Jvm.MethodName) prog_9_method_52_code (4 : Nat) (Option.some Jvm.ClassFile.FieldType.int)) ∈ lw_all := lw_g (lw_at lw_m8 192 rfl) rfl
theorem q1948 : (Jvm.Cond.instanceMethod ({ cls := "DepthSorterModel", name := "through", desc := "(IIII)I" } : Jvm.MethodName)) ∈ lw_all := lw_g (lw_at lw_m8 194 rfl) rfl
theorem q1949 : (Jvm.Cond.selects "DepthSorterModel" ({ cls := "DepthSorterModel", name := "through", desc := "(IIII)I" } : Jvm.MethodName) ({ cls := "DepthSorterModel", name := "through", desc := "(IIII)I" } : Jvm.MethodName)) ∈ lw_all := lw_g (lw_at lw_m8 195 rfl) rfl
theorem q1950 : (Jvm.Cond.code ({ cls := "DepthSorterModel", name := "through", desc := "(IIII)I" } : Jvm.MethodName) prog_9_method_53_code (10 : Nat) (Option.some Jvm.ClassFile.FieldType.int)) ∈ lw_all := lw_g (lw_at lw_m8 196 rfl) rfl
theorem q1952 : (Jvm.Cond.instanceMethod ({ cls := "DepthSorterModel", name := "area", desc := "(I)I" } : Jvm.MethodName)) ∈ lw_all := lw_g (lw_at lw_m8 198 rfl) rfl
theorem q1953 : (Jvm.Cond.selects "DepthSorterModel" ({ cls := "DepthSorterModel", name := "area", desc := "(I)I" } : Jvm.MethodName) ({ cls := "DepthSorterModel", name := "area", desc := "(I)I" } : Jvm.MethodName)) ∈ lw_all := lw_g (lw_at lw_m8 199 rfl) rfl
theorem q1954 : (Jvm.Cond.code ({ cls := "DepthSorterModel", name := "area", desc := "(I)I" } : Jvm.MethodName) prog_9_method_55_code (5 : Nat) (Option.some Jvm.ClassFile.FieldType.int)) ∈ lw_all := lw_g (lw_at lw_m8 200 rfl) rfl
theorem q1956 : (Jvm.Cond.instanceMethod ({ cls := "DepthSorterModel", name := "seenArea", desc := "(I)I" } : Jvm.MethodName)) ∈ lw_all := lw_g (lw_at lw_m8 202 rfl) rfl
theorem q1957 : (Jvm.Cond.selects "DepthSorterModel" ({ cls := "DepthSorterModel", name := "seenArea", desc := "(I)I" } : Jvm.MethodName) ({ cls := "DepthSorterModel", name := "seenArea", desc := "(I)I" } : Jvm.MethodName)) ∈ lw_all := lw_g (lw_at lw_m8 203 rfl) rfl
theorem q1958 : (Jvm.Cond.code ({ cls := "DepthSorterModel", name := "seenArea", desc := "(I)I" } : Jvm.MethodName) prog_9_method_56_code (2 : Nat) (Option.some Jvm.ClassFile.FieldType.int)) ∈ lw_all := lw_g (lw_at lw_m8 204 rfl) rfl
theorem q1959 : (Jvm.Cond.methodLink "DepthSorterModel" (187 : Nat) ({ cls := "DepthSorterModel", name := "lookAll", desc := "()V" } : Jvm.MethodName)) ∈ lw_all := lw_g (lw_at lw_m8 205 rfl) rfl
theorem q1960 : (Jvm.Cond.privateMethod ({ cls := "DepthSorterModel", name := "lookAll", desc := "()V" } : Jvm.MethodName)) ∈ lw_tbl := lw_at lw_m8 206 rfl
theorem q1961 : (Jvm.Cond.instanceMethod ({ cls := "DepthSorterModel", name := "lookAll", desc := "()V" } : Jvm.MethodName)) ∈ lw_all := lw_g (lw_at lw_m8 207 rfl) rfl
theorem q1962 : (Jvm.Cond.code ({ cls := "DepthSorterModel", name := "lookAll", desc := "()V" } : Jvm.MethodName) prog_9_method_54_code (5 : Nat) (Option.none : Option Jvm.ClassFile.FieldType)) ∈ lw_all := lw_g (lw_at lw_m8 208 rfl) rfl
theorem q1964 : (Jvm.Cond.instanceMethod ({ cls := "DepthSorterModel", name := "faceArea", desc := "(I)I" } : Jvm.MethodName)) ∈ lw_all := lw_g (lw_at lw_m8 210 rfl) rfl
theorem q1965 : (Jvm.Cond.selects "DepthSorterModel" ({ cls := "DepthSorterModel", name := "faceArea", desc := "(I)I" } : Jvm.MethodName) ({ cls := "DepthSorterModel", name := "faceArea", desc := "(I)I" } : Jvm.MethodName)) ∈ lw_all := lw_g (lw_at lw_m8 211 rfl) rfl
theorem q1966 : (Jvm.Cond.code ({ cls := "DepthSorterModel", name := "faceArea", desc := "(I)I" } : Jvm.MethodName) prog_9_method_57_code (2 : Nat) (Option.some Jvm.ClassFile.FieldType.int)) ∈ lw_all := lw_g (lw_at lw_m8 212 rfl) rfl
theorem q1968 : (Jvm.Cond.instanceMethod ({ cls := "DepthSorterModel", name := "pictureArea", desc := "()I" } : Jvm.MethodName)) ∈ lw_all := lw_g (lw_at lw_m8 214 rfl) rfl
theorem q1969 : (Jvm.Cond.selects "DepthSorterModel" ({ cls := "DepthSorterModel", name := "pictureArea", desc := "()I" } : Jvm.MethodName) ({ cls := "DepthSorterModel", name := "pictureArea", desc := "()I" } : Jvm.MethodName)) ∈ lw_all := lw_g (lw_at lw_m8 215 rfl) rfl
theorem q1970 : (Jvm.Cond.code ({ cls := "DepthSorterModel", name := "pictureArea", desc := "()I" } : Jvm.MethodName) prog_9_method_58_code (1 : Nat) (Option.some Jvm.ClassFile.FieldType.int)) ∈ lw_all := lw_g (lw_at lw_m8 216 rfl) rfl
theorem q1972 : (Jvm.Cond.instanceMethod ({ cls := "DepthSorterModel", name := "hiddenBoxes", desc := "()I" } : Jvm.MethodName)) ∈ lw_all := lw_g (lw_at lw_m8 218 rfl) rfl
theorem q1973 : (Jvm.Cond.selects "DepthSorterModel" ({ cls := "DepthSorterModel", name := "hiddenBoxes", desc := "()I" } : Jvm.MethodName) ({ cls := "DepthSorterModel", name := "hiddenBoxes", desc := "()I" } : Jvm.MethodName)) ∈ lw_all := lw_g (lw_at lw_m8 219 rfl) rfl
theorem q1974 : (Jvm.Cond.code ({ cls := "DepthSorterModel", name := "hiddenBoxes", desc := "()I" } : Jvm.MethodName) prog_9_method_59_code (3 : Nat) (Option.some Jvm.ClassFile.FieldType.int)) ∈ lw_all := lw_g (lw_at lw_m8 220 rfl) rfl
theorem q1976 : (Jvm.Cond.instanceMethod ({ cls := "DepthSorterModel", name := "greatestCover", desc := "(I)I" } : Jvm.MethodName)) ∈ lw_all := lw_g (lw_at lw_m8 222 rfl) rfl
theorem q1977 : (Jvm.Cond.selects "DepthSorterModel" ({ cls := "DepthSorterModel", name := "greatestCover", desc := "(I)I" } : Jvm.MethodName) ({ cls := "DepthSorterModel", name := "greatestCover", desc := "(I)I" } : Jvm.MethodName)) ∈ lw_all := lw_g (lw_at lw_m8 223 rfl) rfl
theorem q1978 : (Jvm.Cond.code ({ cls := "DepthSorterModel", name := "greatestCover", desc := "(I)I" } : Jvm.MethodName) prog_9_method_60_code (4 : Nat) (Option.some Jvm.ClassFile.FieldType.int)) ∈ lw_all := lw_g (lw_at lw_m8 224 rfl) rfl
theorem q1980 : (Jvm.Cond.instanceMethod ({ cls := "DepthSorterModel", name := "write", desc := "(I)I" } : Jvm.MethodName)) ∈ lw_all := lw_g (lw_at lw_m8 226 rfl) rfl
theorem q1981 : (Jvm.Cond.selects "DepthSorterModel" ({ cls := "DepthSorterModel", name := "write", desc := "(I)I" } : Jvm.MethodName) ({ cls := "DepthSorterModel", name := "write", desc := "(I)I" } : Jvm.MethodName)) ∈ lw_all := lw_g (lw_at lw_m8 227 rfl) rfl
theorem q1982 : (Jvm.Cond.code ({ cls := "DepthSorterModel", name := "write", desc := "(I)I" } : Jvm.MethodName) prog_9_method_61_code (2 : Nat) (Option.some Jvm.ClassFile.FieldType.int)) ∈ lw_all := lw_g (lw_at lw_m8 228 rfl) rfl
theorem q1984 : (Jvm.Cond.instanceMethod ({ cls := "DepthSorterModel", name := "wipe", desc := "()I" } : Jvm.MethodName)) ∈ lw_all := lw_g (lw_at lw_m8 230 rfl) rfl
theorem q1985 : (Jvm.Cond.selects "DepthSorterModel" ({ cls := "DepthSorterModel", name := "wipe", desc := "()I" } : Jvm.MethodName) ({ cls := "DepthSorterModel", name := "wipe", desc := "()I" } : Jvm.MethodName)) ∈ lw_all := lw_g (lw_at lw_m8 231 rfl) rfl
theorem q1986 : (Jvm.Cond.code ({ cls := "DepthSorterModel", name := "wipe", desc := "()I" } : Jvm.MethodName) prog_9_method_62_code (2 : Nat) (Option.some Jvm.ClassFile.FieldType.int)) ∈ lw_all := lw_g (lw_at lw_m8 232 rfl) rfl
theorem q1988 : (Jvm.Cond.instanceMethod ({ cls := "DepthSorterModel", name := "fault", desc := "()I" } : Jvm.MethodName)) ∈ lw_all := lw_g (lw_at lw_m8 234 rfl) rfl
theorem q1989 : (Jvm.Cond.selects "DepthSorterModel" ({ cls := "DepthSorterModel", name := "fault", desc := "()I" } : Jvm.MethodName) ({ cls := "DepthSorterModel", name := "fault", desc := "()I" } : Jvm.MethodName)) ∈ lw_all := lw_g (lw_at lw_m8 235 rfl) rfl
theorem q1990 : (Jvm.Cond.code ({ cls := "DepthSorterModel", name := "fault", desc := "()I" } : Jvm.MethodName) prog_9_method_67_code (1 : Nat) (Option.some Jvm.ClassFile.FieldType.int)) ∈ lw_all := lw_g (lw_at lw_m8 236 rfl) rfl
theorem q1991 : (Jvm.Cond.methodLink "DepthSorterModel" (202 : Nat) ({ cls := "DepthSorterModel", name := "fails", desc := "(I)V" } : Jvm.MethodName)) ∈ lw_all := lw_g (lw_at lw_m8 237 rfl) rfl
theorem q1992 : (Jvm.Cond.privateMethod ({ cls := "DepthSorterModel", name := "fails", desc := "(I)V" } : Jvm.MethodName)) ∈ lw_tbl := lw_at lw_m8 238 rfl
theorem q1993 : (Jvm.Cond.instanceMethod ({ cls := "DepthSorterModel", name := "fails", desc := "(I)V" } : Jvm.MethodName)) ∈ lw_all := lw_g (lw_at lw_m8 239 rfl) rfl
theorem q1994 : (Jvm.Cond.code ({ cls := "DepthSorterModel", name := "fails", desc := "(I)V" } : Jvm.MethodName) prog_9_method_64_code (2 : Nat) (Option.none : Option Jvm.ClassFile.FieldType)) ∈ lw_all := lw_g (lw_at lw_m9 0 rfl) rfl
theorem q1995 : (Jvm.Cond.methodLink "DepthSorterModel" (211 : Nat) ({ cls := "DepthSorterModel", name := "readItem", desc := "()V" } : Jvm.MethodName)) ∈ lw_all := lw_g (lw_at lw_m9 1 rfl) rfl
theorem q1996 : (Jvm.Cond.privateMethod ({ cls := "DepthSorterModel", name := "readItem", desc := "()V" } : Jvm.MethodName)) ∈ lw_tbl := lw_at lw_m9 2 rfl
theorem q1997 : (Jvm.Cond.instanceMethod ({ cls := "DepthSorterModel", name := "readItem", desc := "()V" } : Jvm.MethodName)) ∈ lw_all := lw_g (lw_at lw_m9 3 rfl) rfl
theorem q1998 : (Jvm.Cond.code ({ cls := "DepthSorterModel", name := "readItem", desc := "()V" } : Jvm.MethodName) prog_9_method_66_code (3 : Nat) (Option.none : Option Jvm.ClassFile.FieldType)) ∈ lw_all := lw_g (lw_at lw_m9 4 rfl) rfl
theorem q1999 : (Jvm.Cond.methodLink "DepthSorterModel" (208 : Nat) ({ cls := "DepthSorterModel", name := "readCoordinate", desc := "(I)V" } : Jvm.MethodName)) ∈ lw_all := lw_g (lw_at lw_m9 5 rfl) rfl
theorem q2000 : (Jvm.Cond.privateMethod ({ cls := "DepthSorterModel", name := "readCoordinate", desc := "(I)V" } : Jvm.MethodName)) ∈ lw_tbl := lw_at lw_m9 6 rfl
theorem q2001 : (Jvm.Cond.instanceMethod ({ cls := "DepthSorterModel", name := "readCoordinate", desc := "(I)V" } : Jvm.MethodName)) ∈ lw_all := lw_g (lw_at lw_m9 7 rfl) rfl
theorem q2002 : (Jvm.Cond.code ({ cls := "DepthSorterModel", name := "readCoordinate", desc := "(I)V" } : Jvm.MethodName) prog_9_method_65_code (4 : Nat) (Option.none : Option Jvm.ClassFile.FieldType)) ∈ lw_all := lw_g (lw_at lw_m9 8 rfl) rfl
theorem q2003 : (Jvm.Cond.methodLink "DepthSorterModel" (199 : Nat) ({ cls := "DepthSorterModel", name := "isDigit", desc := "()Z" } : Jvm.MethodName)) ∈ lw_all := lw_g (lw_at lw_m9 9 rfl) rfl
theorem q2004 : (Jvm.Cond.privateMethod ({ cls := "DepthSorterModel", name := "isDigit", desc := "()Z" } : Jvm.MethodName)) ∈ lw_tbl := lw_at lw_m9 10 rfl
theorem q2005 : (Jvm.Cond.instanceMethod ({ cls := "DepthSorterModel", name := "isDigit", desc := "()Z" } : Jvm.MethodName)) ∈ lw_all := lw_g (lw_at lw_m9 11 rfl) rfl
theorem q2006 : (Jvm.Cond.code ({ cls := "DepthSorterModel", name := "isDigit", desc := "()Z" } : Jvm.MethodName) prog_9_method_63_code (1 : Nat) (Option.some Jvm.ClassFile.FieldType.boolean)) ∈ lw_all := lw_g (lw_at lw_m9 12 rfl) rfl
theorem q2008 : (Jvm.Cond.instanceMethod ({ cls := "DepthSorterModel", name := "load", desc := "()I" } : Jvm.MethodName)) ∈ lw_all := lw_g (lw_at lw_m9 14 rfl) rfl
theorem q2009 : (Jvm.Cond.selects "DepthSorterModel" ({ cls := "DepthSorterModel", name := "load", desc := "()I" } : Jvm.MethodName) ({ cls := "DepthSorterModel", name := "load", desc := "()I" } : Jvm.MethodName)) ∈ lw_all := lw_g (lw_at lw_m9 15 rfl) rfl
theorem q2010 : (Jvm.Cond.code ({ cls := "DepthSorterModel", name := "load", desc := "()I" } : Jvm.MethodName) prog_9_method_68_code (3 : Nat) (Option.some Jvm.ClassFile.FieldType.int)) ∈ lw_all := lw_g (lw_at lw_m9 16 rfl) rfl
theorem q2011 : (Jvm.Cond.methodLink "DepthSorterModel" (214 : Nat) ({ cls := "DepthSorterModel", name := "fault", desc := "()I" } : Jvm.MethodName)) ∈ lw_all := lw_g (lw_at lw_m9 17 rfl) rfl
theorem q2013 : (Jvm.Cond.instanceMethod ({ cls := "DepthSorterModel", name := "save", desc := "(I)I" } : Jvm.MethodName)) ∈ lw_all := lw_g (lw_at lw_m9 19 rfl) rfl
theorem q2014 : (Jvm.Cond.selects "DepthSorterModel" ({ cls := "DepthSorterModel", name := "save", desc := "(I)I" } : Jvm.MethodName) ({ cls := "DepthSorterModel", name := "save", desc := "(I)I" } : Jvm.MethodName)) ∈ lw_all := lw_g (lw_at lw_m9 20 rfl) rfl
theorem q2015 : (Jvm.Cond.code ({ cls := "DepthSorterModel", name := "save", desc := "(I)I" } : Jvm.MethodName) prog_9_method_69_code (3 : Nat) (Option.some Jvm.ClassFile.FieldType.int)) ∈ lw_all := lw_g (lw_at lw_m9 21 rfl) rfl
theorem q2017 : (Jvm.Cond.instanceMethod ({ cls := "DepthSorterModel", name := "restore", desc := "(I)I" } : Jvm.MethodName)) ∈ lw_all := lw_g (lw_at lw_m9 23 rfl) rfl
theorem q2018 : (Jvm.Cond.selects "DepthSorterModel" ({ cls := "DepthSorterModel", name := "restore", desc := "(I)I" } : Jvm.MethodName) ({ cls := "DepthSorterModel", name := "restore", desc := "(I)I" } : Jvm.MethodName)) ∈ lw_all := lw_g (lw_at lw_m9 24 rfl) rfl
theorem q2019 : (Jvm.Cond.code ({ cls := "DepthSorterModel", name := "restore", desc := "(I)I" } : Jvm.MethodName) prog_9_method_70_code (3 : Nat) (Option.some Jvm.ClassFile.FieldType.int)) ∈ lw_all := lw_g (lw_at lw_m9 25 rfl) rfl
theorem q2041 : (Jvm.Cond.castable "DepthSorterModel" "java/lang/Object") ∈ lw_tbl := lw_at lw_m9 47 rfl
theorem in_X1 : ∀ w ∈ wsX10, w ∈ lw_all := lw_in wsX10 [1689, 1691, 1693, 1695, 1697, 1699, 1701, 1703, 1705, 1707, 1709, 1711, 1713, 1715, 1717, 1719, 1721, 1723, 1725, 1727, 1729, 1731, 1733, 1735, 1737, 1739, 1741, 1743] (by decide +kernel) (by decide +kernel)
