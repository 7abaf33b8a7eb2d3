/-! InitiatorRowsModel -/
set_option maxRecDepth 100000
def RX11 : String := "InitiatorRowsModel"
def TX11 : u_T := fun k => match k with
  | 0 => ("InitiatorRowsModel", "thrown", "I", false)
  | 1 => ("InitiatorRowsModel", "now", "J", false)
  | 2 => ("InitiatorRowsModel", "lists", "[I", true)
  | 3 => ("InitiatorRowsModel", "runs", "[I", true)
  | 4 => ("InitiatorRowsModel", "drained", "[Z", true)
  | 5 => ("InitiatorRowsModel", "initiators", "I", false)
  | 6 => ("InitiatorRowsModel", "limits", "[I", true)
  | 7 => ("InitiatorRowsModel", "froms", "[I", true)
  | 8 => ("InitiatorRowsModel", "tos", "[I", true)
  | 9 => ("InitiatorRowsModel", "weights", "[I", true)
  | 10 => ("InitiatorRowsModel", "units", "[I", true)
  | 11 => ("InitiatorRowsModel", "sorts", "[I", true)
  | 12 => ("InitiatorRowsModel", "priorities", "[I", true)
  | 13 => ("InitiatorRowsModel", "names", "[I", true)
  | 14 => ("InitiatorRowsModel", "states", "[I", true)
  | 15 => ("InitiatorRowsModel", "uses", "[I", true)
  | 16 => ("InitiatorRowsModel", "held", "[Z", true)
  | 17 => ("InitiatorRowsModel", "lone", "[Z", true)
  | 18 => ("InitiatorRowsModel", "needed", "[Z", true)
  | 19 => ("InitiatorRowsModel", "reached", "[Z", true)
  | 20 => ("InitiatorRowsModel", "came", "[J", true)
  | 21 => ("InitiatorRowsModel", "ran", "[J", true)
  | 22 => ("InitiatorRowsModel", "jobs", "I", false)
  | 23 => ("InitiatorRowsModel", "per", "J", false)
  | _ => ("InitiatorRowsModel", "most", "I", false)
def tyX11 : Nat → FieldType := fun k => match k with
  | 0 => .int
  | 1 => .long
  | 2 => .array .int
  | 3 => .array .int
  | 4 => .array .boolean
  | 5 => .int
  | 6 => .array .int
  | 7 => .array .int
  | 8 => .array .int
  | 9 => .array .int
  | 10 => .array .int
  | 11 => .array .int
  | 12 => .array .int
  | 13 => .array .int
  | 14 => .array .int
  | 15 => .array .int
  | 16 => .array .boolean
  | 17 => .array .boolean
  | 18 => .array .boolean
  | 19 => .array .boolean
  | 20 => .array .long
  | 21 => .array .long
  | 22 => .int
  | 23 => .long
  | _ => .int
abbrev wsX110 : List Cond := u_ws RX11 TX11 25
set_option maxRecDepth 100000 in
theorem nmX11 : ∀ a, a < 25 → ∀ b, b < 25 → a ≠ b → (TX11 a).2.1 ≠ (TX11 b).2.1 := by decide +kernel
set_option maxRecDepth 100000 in
theorem tyX11_ok : ∀ k, k < 25 → parseFieldDescriptor (TX11 k).2.2.1 = some (tyX11 k) := by decide +kernel
abbrev cX11_init : ByteArray := prog_16_method_1_code
def yX11_init : MethodName := ⟨RX11, "<init>", "()V"⟩
def dkwX11_init_9 : List UInt8 := [180, 0, 13, 27, 2, 79, 132, 1, 1, 167, 255, 240, 177]
abbrev dktX11_init_9 : List UInt8 := dkwX11_init_9 ++ []
def dkwX11_init_8 : List UInt8 := [42, 180, 0, 20, 27, 16, 40, 79, 132, 1, 1, 167, 255, 239, 3, 60, 27, 16, 12, 162, 0, 16, 42]
abbrev dktX11_init_8 : List UInt8 := dkwX11_init_8 ++ dktX11_init_9
def dkwX11_init_7 : List UInt8 := [162, 0, 16, 42, 180, 0, 7, 27, 2, 79, 132, 1, 1, 167, 255, 237, 3, 60, 27, 16, 36, 162, 0, 17]
abbrev dktX11_init_7 : List UInt8 := dkwX11_init_7 ++ dktX11_init_8
def dkwX11_init_6 : List UInt8 := [42, 16, 100, 188, 11, 181, 0, 62, 42, 16, 100, 188, 11, 181, 0, 66, 3, 60, 27, 42, 180, 0, 7, 190]
abbrev dktX11_init_6 : List UInt8 := dkwX11_init_6 ++ dktX11_init_7
def dkwX11_init_5 : List UInt8 := [16, 100, 188, 4, 181, 0, 53, 42, 17, 39, 16, 188, 4, 181, 0, 56, 42, 16, 100, 188, 4, 181, 0, 59]
abbrev dktX11_init_5 : List UInt8 := dkwX11_init_5 ++ dktX11_init_6
def dkwX11_init_4 : List UInt8 := [188, 10, 181, 0, 44, 42, 17, 1, 144, 188, 10, 181, 0, 47, 42, 16, 100, 188, 4, 181, 0, 50, 42]
abbrev dktX11_init_4 : List UInt8 := dkwX11_init_4 ++ dktX11_init_5
def dkwX11_init_3 : List UInt8 := [188, 10, 181, 0, 35, 42, 16, 100, 188, 10, 181, 0, 38, 42, 16, 100, 188, 10, 181, 0, 41, 42, 16, 100]
abbrev dktX11_init_3 : List UInt8 := dkwX11_init_3 ++ dktX11_init_4
def dkwX11_init_2 : List UInt8 := [188, 10, 181, 0, 26, 42, 16, 36, 188, 10, 181, 0, 29, 42, 7, 188, 10, 181, 0, 32, 42, 16, 100]
abbrev dktX11_init_2 : List UInt8 := dkwX11_init_2 ++ dktX11_init_3
def dkwX11_init_1 : List UInt8 := [188, 4, 181, 0, 16, 42, 16, 36, 188, 10, 181, 0, 20, 42, 16, 36, 188, 10, 181, 0, 23, 42, 16, 36]
abbrev dktX11_init_1 : List UInt8 := dkwX11_init_1 ++ dktX11_init_2
def dkwX11_init_0 : List UInt8 := [42, 183, 0, 1, 42, 16, 96, 188, 10, 181, 0, 7, 42, 16, 12, 188, 10, 181, 0, 13, 42, 16, 12]
abbrev dktX11_init_0 : List UInt8 := dkwX11_init_0 ++ dktX11_init_1
theorem dksX11_init_0 : cX11_init.data.toList.drop 0 = dktX11_init_0 := by decide +kernel
theorem dksX11_init_1 : cX11_init.data.toList.drop 23 = dktX11_init_1 := dk_seg dksX11_init_0 23 rfl rfl
theorem dksX11_init_2 : cX11_init.data.toList.drop 47 = dktX11_init_2 := dk_seg dksX11_init_1 24 rfl rfl
theorem dksX11_init_3 : cX11_init.data.toList.drop 70 = dktX11_init_3 := dk_seg dksX11_init_2 23 rfl rfl
theorem dksX11_init_4 : cX11_init.data.toList.drop 94 = dktX11_init_4 := dk_seg dksX11_init_3 24 rfl rfl
theorem dksX11_init_5 : cX11_init.data.toList.drop 117 = dktX11_init_5 := dk_seg dksX11_init_4 23 rfl rfl
theorem dksX11_init_6 : cX11_init.data.toList.drop 141 = dktX11_init_6 := dk_seg dksX11_init_5 24 rfl rfl
theorem dksX11_init_7 : cX11_init.data.toList.drop 165 = dktX11_init_7 := dk_seg dksX11_init_6 24 rfl rfl
theorem dksX11_init_8 : cX11_init.data.toList.drop 189 = dktX11_init_8 := dk_seg dksX11_init_7 24 rfl rfl
theorem dksX11_init_9 : cX11_init.data.toList.drop 212 = dktX11_init_9 := dk_seg dksX11_init_8 23 rfl rfl
theorem dX11_init_0 : decode cX11_init 0 = .ok (.aload_n 0, 1) := dk_42 (dk_at dksX11_init_0 0 rfl rfl)
theorem dX11_init_1 : decode cX11_init 1 = .ok (.invokespecial 1, 3) := dk_183 0 1 (dk_at dksX11_init_0 1 rfl rfl)
theorem dX11_init_4 : decode cX11_init 4 = .ok (.aload_n 0, 1) := dk_42 (dk_at dksX11_init_0 4 rfl rfl)
theorem dX11_init_5 : decode cX11_init 5 = .ok (.bipush 96, 2) := dk_16 96 (dk_at dksX11_init_0 5 rfl rfl)
theorem dX11_init_7 : decode cX11_init 7 = .ok (.newarray .int, 2) := dk_188_10 (dk_at dksX11_init_0 7 rfl rfl)
theorem dX11_init_9 : decode cX11_init 9 = .ok (.putfield 7, 3) := dk_181 0 7 (dk_at dksX11_init_0 9 rfl rfl)
theorem dX11_init_12 : decode cX11_init 12 = .ok (.aload_n 0, 1) := dk_42 (dk_at dksX11_init_0 12 rfl rfl)
theorem dX11_init_13 : decode cX11_init 13 = .ok (.bipush 12, 2) := dk_16 12 (dk_at dksX11_init_0 13 rfl rfl)
theorem dX11_init_15 : decode cX11_init 15 = .ok (.newarray .int, 2) := dk_188_10 (dk_at dksX11_init_0 15 rfl rfl)
theorem dX11_init_17 : decode cX11_init 17 = .ok (.putfield 13, 3) := dk_181 0 13 (dk_at dksX11_init_0 17 rfl rfl)
theorem dX11_init_20 : decode cX11_init 20 = .ok (.aload_n 0, 1) := dk_42 (dk_at dksX11_init_0 20 rfl rfl)
theorem dX11_init_21 : decode cX11_init 21 = .ok (.bipush 12, 2) := dk_16 12 (dk_at dksX11_init_0 21 rfl rfl)
theorem dX11_init_23 : decode cX11_init 23 = .ok (.newarray .boolean, 2) := dk_188_4 (dk_at dksX11_init_1 0 rfl rfl)
theorem dX11_init_25 : decode cX11_init 25 = .ok (.putfield 16, 3) := dk_181 0 16 (dk_at dksX11_init_1 2 rfl rfl)
theorem dX11_init_28 : decode cX11_init 28 = .ok (.aload_n 0, 1) := dk_42 (dk_at dksX11_init_1 5 rfl rfl)
theorem dX11_init_29 : decode cX11_init 29 = .ok (.bipush 36, 2) := dk_16 36 (dk_at dksX11_init_1 6 rfl rfl)
theorem dX11_init_31 : decode cX11_init 31 = .ok (.newarray .int, 2) := dk_188_10 (dk_at dksX11_init_1 8 rfl rfl)
theorem dX11_init_33 : decode cX11_init 33 = .ok (.putfield 20, 3) := dk_181 0 20 (dk_at dksX11_init_1 10 rfl rfl)
theorem dX11_init_36 : decode cX11_init 36 = .ok (.aload_n 0, 1) := dk_42 (dk_at dksX11_init_1 13 rfl rfl)
theorem dX11_init_37 : decode cX11_init 37 = .ok (.bipush 36, 2) := dk_16 36 (dk_at dksX11_init_1 14 rfl rfl)
theorem dX11_init_39 : decode cX11_init 39 = .ok (.newarray .int, 2) := dk_188_10 (dk_at dksX11_init_1 16 rfl rfl)
theorem dX11_init_41 : decode cX11_init 41 = .ok (.putfield 23, 3) := dk_181 0 23 (dk_at dksX11_init_1 18 rfl rfl)
theorem dX11_init_44 : decode cX11_init 44 = .ok (.aload_n 0, 1) := dk_42 (dk_at dksX11_init_1 21 rfl rfl)
theorem dX11_init_45 : decode cX11_init 45 = .ok (.bipush 36, 2) := dk_16 36 (dk_at dksX11_init_1 22 rfl rfl)
theorem dX11_init_47 : decode cX11_init 47 = .ok (.newarray .int, 2) := dk_188_10 (dk_at dksX11_init_2 0 rfl rfl)
theorem dX11_init_49 : decode cX11_init 49 = .ok (.putfield 26, 3) := dk_181 0 26 (dk_at dksX11_init_2 2 rfl rfl)
theorem dX11_init_52 : decode cX11_init 52 = .ok (.aload_n 0, 1) := dk_42 (dk_at dksX11_init_2 5 rfl rfl)
theorem dX11_init_53 : decode cX11_init 53 = .ok (.bipush 36, 2) := dk_16 36 (dk_at dksX11_init_2 6 rfl rfl)
theorem dX11_init_55 : decode cX11_init 55 = .ok (.newarray .int, 2) := dk_188_10 (dk_at dksX11_init_2 8 rfl rfl)
theorem dX11_init_57 : decode cX11_init 57 = .ok (.putfield 29, 3) := dk_181 0 29 (dk_at dksX11_init_2 10 rfl rfl)
theorem dX11_init_60 : decode cX11_init 60 = .ok (.aload_n 0, 1) := dk_42 (dk_at dksX11_init_2 13 rfl rfl)
theorem dX11_init_61 : decode cX11_init 61 = .ok (.iconst 4, 1) := dk_7 (dk_at dksX11_init_2 14 rfl rfl)
theorem dX11_init_62 : decode cX11_init 62 = .ok (.newarray .int, 2) := dk_188_10 (dk_at dksX11_init_2 15 rfl rfl)
theorem dX11_init_64 : decode cX11_init 64 = .ok (.putfield 32, 3) := dk_181 0 32 (dk_at dksX11_init_2 17 rfl rfl)
theorem dX11_init_67 : decode cX11_init 67 = .ok (.aload_n 0, 1) := dk_42 (dk_at dksX11_init_2 20 rfl rfl)
theorem dX11_init_68 : decode cX11_init 68 = .ok (.bipush 100, 2) := dk_16 100 (dk_at dksX11_init_2 21 rfl rfl)
theorem dX11_init_70 : decode cX11_init 70 = .ok (.newarray .int, 2) := dk_188_10 (dk_at dksX11_init_3 0 rfl rfl)
theorem dX11_init_72 : decode cX11_init 72 = .ok (.putfield 35, 3) := dk_181 0 35 (dk_at dksX11_init_3 2 rfl rfl)
theorem dX11_init_75 : decode cX11_init 75 = .ok (.aload_n 0, 1) := dk_42 (dk_at dksX11_init_3 5 rfl rfl)
theorem dX11_init_76 : decode cX11_init 76 = .ok (.bipush 100, 2) := dk_16 100 (dk_at dksX11_init_3 6 rfl rfl)
theorem dX11_init_78 : decode cX11_init 78 = .ok (.newarray .int, 2) := dk_188_10 (dk_at dksX11_init_3 8 rfl rfl)
theorem dX11_init_80 : decode cX11_init 80 = .ok (.putfield 38, 3) := dk_181 0 38 (dk_at dksX11_init_3 10 rfl rfl)
theorem dX11_init_83 : decode cX11_init 83 = .ok (.aload_n 0, 1) := dk_42 (dk_at dksX11_init_3 13 rfl rfl)
theorem dX11_init_84 : decode cX11_init 84 = .ok (.bipush 100, 2) := dk_16 100 (dk_at dksX11_init_3 14 rfl rfl)
theorem dX11_init_86 : decode cX11_init 86 = .ok (.newarray .int, 2) := dk_188_10 (dk_at dksX11_init_3 16 rfl rfl)
theorem dX11_init_88 : decode cX11_init 88 = .ok (.putfield 41, 3) := dk_181 0 41 (dk_at dksX11_init_3 18 rfl rfl)
theorem dX11_init_91 : decode cX11_init 91 = .ok (.aload_n 0, 1) := dk_42 (dk_at dksX11_init_3 21 rfl rfl)
theorem dX11_init_92 : decode cX11_init 92 = .ok (.bipush 100, 2) := dk_16 100 (dk_at dksX11_init_3 22 rfl rfl)
theorem dX11_init_94 : decode cX11_init 94 = .ok (.newarray .int, 2) := dk_188_10 (dk_at dksX11_init_4 0 rfl rfl)
theorem dX11_init_96 : decode cX11_init 96 = .ok (.putfield 44, 3) := dk_181 0 44 (dk_at dksX11_init_4 2 rfl rfl)
theorem dX11_init_99 : decode cX11_init 99 = .ok (.aload_n 0, 1) := dk_42 (dk_at dksX11_init_4 5 rfl rfl)
theorem dX11_init_100 : decode cX11_init 100 = .ok (.sipush 400, 3) := dk_17 1 144 (dk_at dksX11_init_4 6 rfl rfl)
theorem dX11_init_103 : decode cX11_init 103 = .ok (.newarray .int, 2) := dk_188_10 (dk_at dksX11_init_4 9 rfl rfl)
theorem dX11_init_105 : decode cX11_init 105 = .ok (.putfield 47, 3) := dk_181 0 47 (dk_at dksX11_init_4 11 rfl rfl)
theorem dX11_init_108 : decode cX11_init 108 = .ok (.aload_n 0, 1) := dk_42 (dk_at dksX11_init_4 14 rfl rfl)
theorem dX11_init_109 : decode cX11_init 109 = .ok (.bipush 100, 2) := dk_16 100 (dk_at dksX11_init_4 15 rfl rfl)
theorem dX11_init_111 : decode cX11_init 111 = .ok (.newarray .boolean, 2) := dk_188_4 (dk_at dksX11_init_4 17 rfl rfl)
theorem dX11_init_113 : decode cX11_init 113 = .ok (.putfield 50, 3) := dk_181 0 50 (dk_at dksX11_init_4 19 rfl rfl)
theorem dX11_init_116 : decode cX11_init 116 = .ok (.aload_n 0, 1) := dk_42 (dk_at dksX11_init_4 22 rfl rfl)
theorem dX11_init_117 : decode cX11_init 117 = .ok (.bipush 100, 2) := dk_16 100 (dk_at dksX11_init_5 0 rfl rfl)
theorem dX11_init_119 : decode cX11_init 119 = .ok (.newarray .boolean, 2) := dk_188_4 (dk_at dksX11_init_5 2 rfl rfl)
theorem dX11_init_121 : decode cX11_init 121 = .ok (.putfield 53, 3) := dk_181 0 53 (dk_at dksX11_init_5 4 rfl rfl)
theorem dX11_init_124 : decode cX11_init 124 = .ok (.aload_n 0, 1) := dk_42 (dk_at dksX11_init_5 7 rfl rfl)
theorem dX11_init_125 : decode cX11_init 125 = .ok (.sipush 10000, 3) := dk_17 39 16 (dk_at dksX11_init_5 8 rfl rfl)
theorem dX11_init_128 : decode cX11_init 128 = .ok (.newarray .boolean, 2) := dk_188_4 (dk_at dksX11_init_5 11 rfl rfl)
theorem dX11_init_130 : decode cX11_init 130 = .ok (.putfield 56, 3) := dk_181 0 56 (dk_at dksX11_init_5 13 rfl rfl)
theorem dX11_init_133 : decode cX11_init 133 = .ok (.aload_n 0, 1) := dk_42 (dk_at dksX11_init_5 16 rfl rfl)
theorem dX11_init_134 : decode cX11_init 134 = .ok (.bipush 100, 2) := dk_16 100 (dk_at dksX11_init_5 17 rfl rfl)
theorem dX11_init_136 : decode cX11_init 136 = .ok (.newarray .boolean, 2) := dk_188_4 (dk_at dksX11_init_5 19 rfl rfl)
theorem dX11_init_138 : decode cX11_init 138 = .ok (.putfield 59, 3) := dk_181 0 59 (dk_at dksX11_init_5 21 rfl rfl)
theorem dX11_init_141 : decode cX11_init 141 = .ok (.aload_n 0, 1) := dk_42 (dk_at dksX11_init_6 0 rfl rfl)
theorem dX11_init_142 : decode cX11_init 142 = .ok (.bipush 100, 2) := dk_16 100 (dk_at dksX11_init_6 1 rfl rfl)
theorem dX11_init_144 : decode cX11_init 144 = .ok (.newarray .long, 2) := dk_188_11 (dk_at dksX11_init_6 3 rfl rfl)
theorem dX11_init_146 : decode cX11_init 146 = .ok (.putfield 62, 3) := dk_181 0 62 (dk_at dksX11_init_6 5 rfl rfl)
theorem dX11_init_149 : decode cX11_init 149 = .ok (.aload_n 0, 1) := dk_42 (dk_at dksX11_init_6 8 rfl rfl)
theorem dX11_init_150 : decode cX11_init 150 = .ok (.bipush 100, 2) := dk_16 100 (dk_at dksX11_init_6 9 rfl rfl)
theorem dX11_init_152 : decode cX11_init 152 = .ok (.newarray .long, 2) := dk_188_11 (dk_at dksX11_init_6 11 rfl rfl)
theorem dX11_init_154 : decode cX11_init 154 = .ok (.putfield 66, 3) := dk_181 0 66 (dk_at dksX11_init_6 13 rfl rfl)
theorem dX11_init_157 : decode cX11_init 157 = .ok (.iconst 0, 1) := dk_3 (dk_at dksX11_init_6 16 rfl rfl)
theorem dX11_init_158 : decode cX11_init 158 = .ok (.istore_n 1, 1) := dk_60 (dk_at dksX11_init_6 17 rfl rfl)
theorem dX11_init_159 : decode cX11_init 159 = .ok (.iload_n 1, 1) := dk_27 (dk_at dksX11_init_6 18 rfl rfl)
theorem dX11_init_160 : decode cX11_init 160 = .ok (.aload_n 0, 1) := dk_42 (dk_at dksX11_init_6 19 rfl rfl)
theorem dX11_init_161 : decode cX11_init 161 = .ok (.getfield 7, 3) := dk_180 0 7 (dk_at dksX11_init_6 20 rfl rfl)
theorem dX11_init_164 : decode cX11_init 164 = .ok (.arraylength, 1) := dk_190 (dk_at dksX11_init_6 23 rfl rfl)
theorem dX11_init_165 : decode cX11_init 165 = .ok (.if_icmp .ge 16, 3) := dk_162 0 16 (dk_at dksX11_init_7 0 rfl rfl)
theorem dX11_init_168 : decode cX11_init 168 = .ok (.aload_n 0, 1) := dk_42 (dk_at dksX11_init_7 3 rfl rfl)
theorem dX11_init_169 : decode cX11_init 169 = .ok (.getfield 7, 3) := dk_180 0 7 (dk_at dksX11_init_7 4 rfl rfl)
theorem dX11_init_172 : decode cX11_init 172 = .ok (.iload_n 1, 1) := dk_27 (dk_at dksX11_init_7 7 rfl rfl)
theorem dX11_init_173 : decode cX11_init 173 = .ok (.iconst (-1), 1) := dk_2 (dk_at dksX11_init_7 8 rfl rfl)
theorem dX11_init_174 : decode cX11_init 174 = .ok (.iastore, 1) := dk_79 (dk_at dksX11_init_7 9 rfl rfl)
theorem dX11_init_175 : decode cX11_init 175 = .ok (.iinc 1 1, 3) := dk_132 1 1 (dk_at dksX11_init_7 10 rfl rfl)
theorem dX11_init_178 : decode cX11_init 178 = .ok (.goto (-19), 3) := dk_167 255 237 (dk_at dksX11_init_7 13 rfl rfl)
theorem dX11_init_181 : decode cX11_init 181 = .ok (.iconst 0, 1) := dk_3 (dk_at dksX11_init_7 16 rfl rfl)
theorem dX11_init_182 : decode cX11_init 182 = .ok (.istore_n 1, 1) := dk_60 (dk_at dksX11_init_7 17 rfl rfl)
theorem dX11_init_183 : decode cX11_init 183 = .ok (.iload_n 1, 1) := dk_27 (dk_at dksX11_init_7 18 rfl rfl)
theorem dX11_init_184 : decode cX11_init 184 = .ok (.bipush 36, 2) := dk_16 36 (dk_at dksX11_init_7 19 rfl rfl)
theorem dX11_init_186 : decode cX11_init 186 = .ok (.if_icmp .ge 17, 3) := dk_162 0 17 (dk_at dksX11_init_7 21 rfl rfl)
theorem dX11_init_189 : decode cX11_init 189 = .ok (.aload_n 0, 1) := dk_42 (dk_at dksX11_init_8 0 rfl rfl)
theorem dX11_init_190 : decode cX11_init 190 = .ok (.getfield 20, 3) := dk_180 0 20 (dk_at dksX11_init_8 1 rfl rfl)
theorem dX11_init_193 : decode cX11_init 193 = .ok (.iload_n 1, 1) := dk_27 (dk_at dksX11_init_8 4 rfl rfl)
theorem dX11_init_194 : decode cX11_init 194 = .ok (.bipush 40, 2) := dk_16 40 (dk_at dksX11_init_8 5 rfl rfl)
theorem dX11_init_196 : decode cX11_init 196 = .ok (.iastore, 1) := dk_79 (dk_at dksX11_init_8 7 rfl rfl)
theorem dX11_init_197 : decode cX11_init 197 = .ok (.iinc 1 1, 3) := dk_132 1 1 (dk_at dksX11_init_8 8 rfl rfl)
theorem dX11_init_200 : decode cX11_init 200 = .ok (.goto (-17), 3) := dk_167 255 239 (dk_at dksX11_init_8 11 rfl rfl)
theorem dX11_init_203 : decode cX11_init 203 = .ok (.iconst 0, 1) := dk_3 (dk_at dksX11_init_8 14 rfl rfl)
theorem dX11_init_204 : decode cX11_init 204 = .ok (.istore_n 1, 1) := dk_60 (dk_at dksX11_init_8 15 rfl rfl)
theorem dX11_init_205 : decode cX11_init 205 = .ok (.iload_n 1, 1) := dk_27 (dk_at dksX11_init_8 16 rfl rfl)
theorem dX11_init_206 : decode cX11_init 206 = .ok (.bipush 12, 2) := dk_16 12 (dk_at dksX11_init_8 17 rfl rfl)
theorem dX11_init_208 : decode cX11_init 208 = .ok (.if_icmp .ge 16, 3) := dk_162 0 16 (dk_at dksX11_init_8 19 rfl rfl)
theorem dX11_init_211 : decode cX11_init 211 = .ok (.aload_n 0, 1) := dk_42 (dk_at dksX11_init_8 22 rfl rfl)
theorem dX11_init_212 : decode cX11_init 212 = .ok (.getfield 13, 3) := dk_180 0 13 (dk_at dksX11_init_9 0 rfl rfl)
theorem dX11_init_215 : decode cX11_init 215 = .ok (.iload_n 1, 1) := dk_27 (dk_at dksX11_init_9 3 rfl rfl)
theorem dX11_init_216 : decode cX11_init 216 = .ok (.iconst (-1), 1) := dk_2 (dk_at dksX11_init_9 4 rfl rfl)
theorem dX11_init_217 : decode cX11_init 217 = .ok (.iastore, 1) := dk_79 (dk_at dksX11_init_9 5 rfl rfl)
theorem dX11_init_218 : decode cX11_init 218 = .ok (.iinc 1 1, 3) := dk_132 1 1 (dk_at dksX11_init_9 6 rfl rfl)
theorem dX11_init_221 : decode cX11_init 221 = .ok (.goto (-16), 3) := dk_167 255 240 (dk_at dksX11_init_9 9 rfl rfl)
theorem dX11_init_224 : decode cX11_init 224 = .ok (.return_, 1) := dk_177 (dk_at dksX11_init_9 12 rfl rfl)
abbrev cX11_thrown : ByteArray := prog_16_method_2_code
def yX11_thrown : MethodName := ⟨RX11, "thrown", "()I"⟩
theorem dX11_thrown_0 : decode cX11_thrown 0 = .ok (.aload_n 0, 1) := by decide +kernel
theorem dX11_thrown_1 : decode cX11_thrown 1 = .ok (.getfield 69, 3) := by decide +kernel
theorem dX11_thrown_4 : decode cX11_thrown 4 = .ok (.ireturn, 1) := by decide +kernel
abbrev cX11_initiator : ByteArray := prog_16_method_6_code
def yX11_initiator : MethodName := ⟨RX11, "initiator", "()I"⟩
def dkwX11_initiator_1 : List UInt8 := [181, 0, 73, 42, 180, 0, 73, 172]
abbrev dktX11_initiator_1 : List UInt8 := dkwX11_initiator_1 ++ []
def dkwX11_initiator_0 : List UInt8 := [42, 3, 181, 0, 69, 42, 180, 0, 73, 16, 12, 160, 0, 5, 2, 172, 42, 89, 180, 0, 73, 4, 96]
abbrev dktX11_initiator_0 : List UInt8 := dkwX11_initiator_0 ++ dktX11_initiator_1
theorem dksX11_initiator_0 : cX11_initiator.data.toList.drop 0 = dktX11_initiator_0 := by decide +kernel
theorem dksX11_initiator_1 : cX11_initiator.data.toList.drop 23 = dktX11_initiator_1 := dk_seg dksX11_initiator_0 23 rfl rfl
theorem dX11_initiator_0 : decode cX11_initiator 0 = .ok (.aload_n 0, 1) := dk_42 (dk_at dksX11_initiator_0 0 rfl rfl)
theorem dX11_initiator_1 : decode cX11_initiator 1 = .ok (.iconst 0, 1) := dk_3 (dk_at dksX11_initiator_0 1 rfl rfl)
theorem dX11_initiator_2 : decode cX11_initiator 2 = .ok (.putfield 69, 3) := dk_181 0 69 (dk_at dksX11_initiator_0 2 rfl rfl)
theorem dX11_initiator_5 : decode cX11_initiator 5 = .ok (.aload_n 0, 1) := dk_42 (dk_at dksX11_initiator_0 5 rfl rfl)
theorem dX11_initiator_6 : decode cX11_initiator 6 = .ok (.getfield 73, 3) := dk_180 0 73 (dk_at dksX11_initiator_0 6 rfl rfl)
theorem dX11_initiator_9 : decode cX11_initiator 9 = .ok (.bipush 12, 2) := dk_16 12 (dk_at dksX11_initiator_0 9 rfl rfl)
theorem dX11_initiator_11 : decode cX11_initiator 11 = .ok (.if_icmp .ne 5, 3) := dk_160 0 5 (dk_at dksX11_initiator_0 11 rfl rfl)
theorem dX11_initiator_14 : decode cX11_initiator 14 = .ok (.iconst (-1), 1) := dk_2 (dk_at dksX11_initiator_0 14 rfl rfl)
theorem dX11_initiator_15 : decode cX11_initiator 15 = .ok (.ireturn, 1) := dk_172 (dk_at dksX11_initiator_0 15 rfl rfl)
theorem dX11_initiator_16 : decode cX11_initiator 16 = .ok (.aload_n 0, 1) := dk_42 (dk_at dksX11_initiator_0 16 rfl rfl)
theorem dX11_initiator_17 : decode cX11_initiator 17 = .ok (.dup, 1) := dk_89 (dk_at dksX11_initiator_0 17 rfl rfl)
theorem dX11_initiator_18 : decode cX11_initiator 18 = .ok (.getfield 73, 3) := dk_180 0 73 (dk_at dksX11_initiator_0 18 rfl rfl)
theorem dX11_initiator_21 : decode cX11_initiator 21 = .ok (.iconst 1, 1) := dk_4 (dk_at dksX11_initiator_0 21 rfl rfl)
theorem dX11_initiator_22 : decode cX11_initiator 22 = .ok (.iadd, 1) := dk_96 (dk_at dksX11_initiator_0 22 rfl rfl)
theorem dX11_initiator_23 : decode cX11_initiator 23 = .ok (.putfield 73, 3) := dk_181 0 73 (dk_at dksX11_initiator_1 0 rfl rfl)
theorem dX11_initiator_26 : decode cX11_initiator 26 = .ok (.aload_n 0, 1) := dk_42 (dk_at dksX11_initiator_1 3 rfl rfl)
theorem dX11_initiator_27 : decode cX11_initiator 27 = .ok (.getfield 73, 3) := dk_180 0 73 (dk_at dksX11_initiator_1 4 rfl rfl)
theorem dX11_initiator_30 : decode cX11_initiator 30 = .ok (.ireturn, 1) := dk_172 (dk_at dksX11_initiator_1 7 rfl rfl)
abbrev cX11_cls : ByteArray := prog_16_method_7_code
def yX11_cls : MethodName := ⟨RX11, "cls", "(III)I"⟩
def dkwX11_cls_2 : List UInt8 := [27, 104, 16, 8, 100, 28, 96, 29, 79, 4, 172]
abbrev dktX11_cls_2 : List UInt8 := dkwX11_cls_2 ++ []
def dkwX11_cls_1 : List UInt8 := [163, 0, 15, 29, 2, 159, 0, 13, 29, 184, 0, 83, 154, 0, 6, 16, 252, 172, 42, 180, 0, 7, 16, 8]
abbrev dktX11_cls_1 : List UInt8 := dkwX11_cls_1 ++ dktX11_cls_2
def dkwX11_cls_0 : List UInt8 := [42, 3, 181, 0, 69, 42, 27, 182, 0, 79, 154, 0, 6, 16, 254, 172, 28, 155, 0, 21, 28, 16, 7]
abbrev dktX11_cls_0 : List UInt8 := dkwX11_cls_0 ++ dktX11_cls_1
theorem dksX11_cls_0 : cX11_cls.data.toList.drop 0 = dktX11_cls_0 := by decide +kernel
theorem dksX11_cls_1 : cX11_cls.data.toList.drop 23 = dktX11_cls_1 := dk_seg dksX11_cls_0 23 rfl rfl
theorem dksX11_cls_2 : cX11_cls.data.toList.drop 47 = dktX11_cls_2 := dk_seg dksX11_cls_1 24 rfl rfl
theorem dX11_cls_0 : decode cX11_cls 0 = .ok (.aload_n 0, 1) := dk_42 (dk_at dksX11_cls_0 0 rfl rfl)
theorem dX11_cls_1 : decode cX11_cls 1 = .ok (.iconst 0, 1) := dk_3 (dk_at dksX11_cls_0 1 rfl rfl)
theorem dX11_cls_2 : decode cX11_cls 2 = .ok (.putfield 69, 3) := dk_181 0 69 (dk_at dksX11_cls_0 2 rfl rfl)
theorem dX11_cls_5 : decode cX11_cls 5 = .ok (.aload_n 0, 1) := dk_42 (dk_at dksX11_cls_0 5 rfl rfl)
theorem dX11_cls_6 : decode cX11_cls 6 = .ok (.iload_n 1, 1) := dk_27 (dk_at dksX11_cls_0 6 rfl rfl)
theorem dX11_cls_7 : decode cX11_cls 7 = .ok (.invokevirtual 79, 3) := dk_182 0 79 (dk_at dksX11_cls_0 7 rfl rfl)
theorem dX11_cls_10 : decode cX11_cls 10 = .ok (.ifCond .ne 6, 3) := dk_154 0 6 (dk_at dksX11_cls_0 10 rfl rfl)
theorem dX11_cls_13 : decode cX11_cls 13 = .ok (.bipush (-2), 2) := dk_16 254 (dk_at dksX11_cls_0 13 rfl rfl)
theorem dX11_cls_15 : decode cX11_cls 15 = .ok (.ireturn, 1) := dk_172 (dk_at dksX11_cls_0 15 rfl rfl)
theorem dX11_cls_16 : decode cX11_cls 16 = .ok (.iload_n 2, 1) := dk_28 (dk_at dksX11_cls_0 16 rfl rfl)
theorem dX11_cls_17 : decode cX11_cls 17 = .ok (.ifCond .lt 21, 3) := dk_155 0 21 (dk_at dksX11_cls_0 17 rfl rfl)
theorem dX11_cls_20 : decode cX11_cls 20 = .ok (.iload_n 2, 1) := dk_28 (dk_at dksX11_cls_0 20 rfl rfl)
theorem dX11_cls_21 : decode cX11_cls 21 = .ok (.bipush 7, 2) := dk_16 7 (dk_at dksX11_cls_0 21 rfl rfl)
theorem dX11_cls_23 : decode cX11_cls 23 = .ok (.if_icmp .gt 15, 3) := dk_163 0 15 (dk_at dksX11_cls_1 0 rfl rfl)
theorem dX11_cls_26 : decode cX11_cls 26 = .ok (.iload_n 3, 1) := dk_29 (dk_at dksX11_cls_1 3 rfl rfl)
theorem dX11_cls_27 : decode cX11_cls 27 = .ok (.iconst (-1), 1) := dk_2 (dk_at dksX11_cls_1 4 rfl rfl)
theorem dX11_cls_28 : decode cX11_cls 28 = .ok (.if_icmp .eq 13, 3) := dk_159 0 13 (dk_at dksX11_cls_1 5 rfl rfl)
theorem dX11_cls_31 : decode cX11_cls 31 = .ok (.iload_n 3, 1) := dk_29 (dk_at dksX11_cls_1 8 rfl rfl)
theorem dX11_cls_32 : decode cX11_cls 32 = .ok (.invokestatic 83, 3) := dk_184 0 83 (dk_at dksX11_cls_1 9 rfl rfl)
theorem dX11_cls_35 : decode cX11_cls 35 = .ok (.ifCond .ne 6, 3) := dk_154 0 6 (dk_at dksX11_cls_1 12 rfl rfl)
theorem dX11_cls_38 : decode cX11_cls 38 = .ok (.bipush (-4), 2) := dk_16 252 (dk_at dksX11_cls_1 15 rfl rfl)
theorem dX11_cls_40 : decode cX11_cls 40 = .ok (.ireturn, 1) := dk_172 (dk_at dksX11_cls_1 17 rfl rfl)
theorem dX11_cls_41 : decode cX11_cls 41 = .ok (.aload_n 0, 1) := dk_42 (dk_at dksX11_cls_1 18 rfl rfl)
theorem dX11_cls_42 : decode cX11_cls 42 = .ok (.getfield 7, 3) := dk_180 0 7 (dk_at dksX11_cls_1 19 rfl rfl)
theorem dX11_cls_45 : decode cX11_cls 45 = .ok (.bipush 8, 2) := dk_16 8 (dk_at dksX11_cls_1 22 rfl rfl)
theorem dX11_cls_47 : decode cX11_cls 47 = .ok (.iload_n 1, 1) := dk_27 (dk_at dksX11_cls_2 0 rfl rfl)
theorem dX11_cls_48 : decode cX11_cls 48 = .ok (.imul, 1) := dk_104 (dk_at dksX11_cls_2 1 rfl rfl)
theorem dX11_cls_49 : decode cX11_cls 49 = .ok (.bipush 8, 2) := dk_16 8 (dk_at dksX11_cls_2 2 rfl rfl)
theorem dX11_cls_51 : decode cX11_cls 51 = .ok (.isub, 1) := dk_100 (dk_at dksX11_cls_2 4 rfl rfl)
theorem dX11_cls_52 : decode cX11_cls 52 = .ok (.iload_n 2, 1) := dk_28 (dk_at dksX11_cls_2 5 rfl rfl)
theorem dX11_cls_53 : decode cX11_cls 53 = .ok (.iadd, 1) := dk_96 (dk_at dksX11_cls_2 6 rfl rfl)
theorem dX11_cls_54 : decode cX11_cls 54 = .ok (.iload_n 3, 1) := dk_29 (dk_at dksX11_cls_2 7 rfl rfl)
theorem dX11_cls_55 : decode cX11_cls 55 = .ok (.iastore, 1) := dk_79 (dk_at dksX11_cls_2 8 rfl rfl)
theorem dX11_cls_56 : decode cX11_cls 56 = .ok (.iconst 1, 1) := dk_4 (dk_at dksX11_cls_2 9 rfl rfl)
theorem dX11_cls_57 : decode cX11_cls 57 = .ok (.ireturn, 1) := dk_172 (dk_at dksX11_cls_2 10 rfl rfl)
abbrev cX11_isInitiator : ByteArray := prog_16_method_3_code
def yX11_isInitiator : MethodName := ⟨RX11, "isInitiator", "(I)Z"⟩
def dkwX11_isInitiator_0 : List UInt8 := [27, 4, 161, 0, 15, 27, 42, 180, 0, 73, 163, 0, 7, 4, 167, 0, 4, 3, 172]
abbrev dktX11_isInitiator_0 : List UInt8 := dkwX11_isInitiator_0 ++ []
theorem dksX11_isInitiator_0 : cX11_isInitiator.data.toList.drop 0 = dktX11_isInitiator_0 := by decide +kernel
theorem dX11_isInitiator_0 : decode cX11_isInitiator 0 = .ok (.iload_n 1, 1) := dk_27 (dk_at dksX11_isInitiator_0 0 rfl rfl)
theorem dX11_isInitiator_1 : decode cX11_isInitiator 1 = .ok (.iconst 1, 1) := dk_4 (dk_at dksX11_isInitiator_0 1 rfl rfl)
theorem dX11_isInitiator_2 : decode cX11_isInitiator 2 = .ok (.if_icmp .lt 15, 3) := dk_161 0 15 (dk_at dksX11_isInitiator_0 2 rfl rfl)
theorem dX11_isInitiator_5 : decode cX11_isInitiator 5 = .ok (.iload_n 1, 1) := dk_27 (dk_at dksX11_isInitiator_0 5 rfl rfl)
theorem dX11_isInitiator_6 : decode cX11_isInitiator 6 = .ok (.aload_n 0, 1) := dk_42 (dk_at dksX11_isInitiator_0 6 rfl rfl)
theorem dX11_isInitiator_7 : decode cX11_isInitiator 7 = .ok (.getfield 73, 3) := dk_180 0 73 (dk_at dksX11_isInitiator_0 7 rfl rfl)
theorem dX11_isInitiator_10 : decode cX11_isInitiator 10 = .ok (.if_icmp .gt 7, 3) := dk_163 0 7 (dk_at dksX11_isInitiator_0 10 rfl rfl)
theorem dX11_isInitiator_13 : decode cX11_isInitiator 13 = .ok (.iconst 1, 1) := dk_4 (dk_at dksX11_isInitiator_0 13 rfl rfl)
theorem dX11_isInitiator_14 : decode cX11_isInitiator 14 = .ok (.goto 4, 3) := dk_167 0 4 (dk_at dksX11_isInitiator_0 14 rfl rfl)
theorem dX11_isInitiator_17 : decode cX11_isInitiator 17 = .ok (.iconst 0, 1) := dk_3 (dk_at dksX11_isInitiator_0 17 rfl rfl)
theorem dX11_isInitiator_18 : decode cX11_isInitiator 18 = .ok (.ireturn, 1) := dk_172 (dk_at dksX11_isInitiator_0 18 rfl rfl)
abbrev cX11_isClass : ByteArray := prog_16_method_5_code
def yX11_isClass : MethodName := ⟨RX11, "isClass", "(I)Z"⟩
def dkwX11_isClass_0 : List UInt8 := [26, 155, 0, 13, 26, 16, 36, 162, 0, 7, 4, 167, 0, 4, 3, 172]
abbrev dktX11_isClass_0 : List UInt8 := dkwX11_isClass_0 ++ []
theorem dksX11_isClass_0 : cX11_isClass.data.toList.drop 0 = dktX11_isClass_0 := by decide +kernel
theorem dX11_isClass_0 : decode cX11_isClass 0 = .ok (.iload_n 0, 1) := dk_26 (dk_at dksX11_isClass_0 0 rfl rfl)
theorem dX11_isClass_1 : decode cX11_isClass 1 = .ok (.ifCond .lt 13, 3) := dk_155 0 13 (dk_at dksX11_isClass_0 1 rfl rfl)
theorem dX11_isClass_4 : decode cX11_isClass 4 = .ok (.iload_n 0, 1) := dk_26 (dk_at dksX11_isClass_0 4 rfl rfl)
theorem dX11_isClass_5 : decode cX11_isClass 5 = .ok (.bipush 36, 2) := dk_16 36 (dk_at dksX11_isClass_0 5 rfl rfl)
theorem dX11_isClass_7 : decode cX11_isClass 7 = .ok (.if_icmp .ge 7, 3) := dk_162 0 7 (dk_at dksX11_isClass_0 7 rfl rfl)
theorem dX11_isClass_10 : decode cX11_isClass 10 = .ok (.iconst 1, 1) := dk_4 (dk_at dksX11_isClass_0 10 rfl rfl)
theorem dX11_isClass_11 : decode cX11_isClass 11 = .ok (.goto 4, 3) := dk_167 0 4 (dk_at dksX11_isClass_0 11 rfl rfl)
theorem dX11_isClass_14 : decode cX11_isClass 14 = .ok (.iconst 0, 1) := dk_3 (dk_at dksX11_isClass_0 14 rfl rfl)
theorem dX11_isClass_15 : decode cX11_isClass 15 = .ok (.ireturn, 1) := dk_172 (dk_at dksX11_isClass_0 15 rfl rfl)
abbrev cX11_limit : ByteArray := prog_16_method_8_code
def yX11_limit : MethodName := ⟨RX11, "limit", "(II)I"⟩
def dkwX11_limit_1 : List UInt8 := [172, 42, 180, 0, 20, 27, 28, 79, 4, 172]
abbrev dktX11_limit_1 : List UInt8 := dkwX11_limit_1 ++ []
def dkwX11_limit_0 : List UInt8 := [42, 3, 181, 0, 69, 27, 184, 0, 83, 153, 0, 13, 28, 155, 0, 9, 28, 16, 40, 164, 0, 6, 16, 252]
abbrev dktX11_limit_0 : List UInt8 := dkwX11_limit_0 ++ dktX11_limit_1
theorem dksX11_limit_0 : cX11_limit.data.toList.drop 0 = dktX11_limit_0 := by decide +kernel
theorem dksX11_limit_1 : cX11_limit.data.toList.drop 24 = dktX11_limit_1 := dk_seg dksX11_limit_0 24 rfl rfl
theorem dX11_limit_0 : decode cX11_limit 0 = .ok (.aload_n 0, 1) := dk_42 (dk_at dksX11_limit_0 0 rfl rfl)
theorem dX11_limit_1 : decode cX11_limit 1 = .ok (.iconst 0, 1) := dk_3 (dk_at dksX11_limit_0 1 rfl rfl)
theorem dX11_limit_2 : decode cX11_limit 2 = .ok (.putfield 69, 3) := dk_181 0 69 (dk_at dksX11_limit_0 2 rfl rfl)
theorem dX11_limit_5 : decode cX11_limit 5 = .ok (.iload_n 1, 1) := dk_27 (dk_at dksX11_limit_0 5 rfl rfl)
theorem dX11_limit_6 : decode cX11_limit 6 = .ok (.invokestatic 83, 3) := dk_184 0 83 (dk_at dksX11_limit_0 6 rfl rfl)
theorem dX11_limit_9 : decode cX11_limit 9 = .ok (.ifCond .eq 13, 3) := dk_153 0 13 (dk_at dksX11_limit_0 9 rfl rfl)
theorem dX11_limit_12 : decode cX11_limit 12 = .ok (.iload_n 2, 1) := dk_28 (dk_at dksX11_limit_0 12 rfl rfl)
theorem dX11_limit_13 : decode cX11_limit 13 = .ok (.ifCond .lt 9, 3) := dk_155 0 9 (dk_at dksX11_limit_0 13 rfl rfl)
theorem dX11_limit_16 : decode cX11_limit 16 = .ok (.iload_n 2, 1) := dk_28 (dk_at dksX11_limit_0 16 rfl rfl)
theorem dX11_limit_17 : decode cX11_limit 17 = .ok (.bipush 40, 2) := dk_16 40 (dk_at dksX11_limit_0 17 rfl rfl)
theorem dX11_limit_19 : decode cX11_limit 19 = .ok (.if_icmp .le 6, 3) := dk_164 0 6 (dk_at dksX11_limit_0 19 rfl rfl)
theorem dX11_limit_22 : decode cX11_limit 22 = .ok (.bipush (-4), 2) := dk_16 252 (dk_at dksX11_limit_0 22 rfl rfl)
theorem dX11_limit_24 : decode cX11_limit 24 = .ok (.ireturn, 1) := dk_172 (dk_at dksX11_limit_1 0 rfl rfl)
theorem dX11_limit_25 : decode cX11_limit 25 = .ok (.aload_n 0, 1) := dk_42 (dk_at dksX11_limit_1 1 rfl rfl)
theorem dX11_limit_26 : decode cX11_limit 26 = .ok (.getfield 20, 3) := dk_180 0 20 (dk_at dksX11_limit_1 2 rfl rfl)
theorem dX11_limit_29 : decode cX11_limit 29 = .ok (.iload_n 1, 1) := dk_27 (dk_at dksX11_limit_1 5 rfl rfl)
theorem dX11_limit_30 : decode cX11_limit 30 = .ok (.iload_n 2, 1) := dk_28 (dk_at dksX11_limit_1 6 rfl rfl)
theorem dX11_limit_31 : decode cX11_limit 31 = .ok (.iastore, 1) := dk_79 (dk_at dksX11_limit_1 7 rfl rfl)
theorem dX11_limit_32 : decode cX11_limit 32 = .ok (.iconst 1, 1) := dk_4 (dk_at dksX11_limit_1 8 rfl rfl)
theorem dX11_limit_33 : decode cX11_limit 33 = .ok (.ireturn, 1) := dk_172 (dk_at dksX11_limit_1 9 rfl rfl)
abbrev cX11_window : ByteArray := prog_16_method_10_code
def yX11_window : MethodName := ⟨RX11, "window", "(III)I"⟩
def dkwX11_window_1 : List UInt8 := [154, 0, 6, 16, 252, 172, 42, 180, 0, 23, 27, 28, 79, 42, 180, 0, 26, 27, 29, 79, 4, 172]
abbrev dktX11_window_1 : List UInt8 := dkwX11_window_1 ++ []
def dkwX11_window_0 : List UInt8 := [42, 3, 181, 0, 69, 27, 184, 0, 83, 153, 0, 17, 28, 184, 0, 86, 153, 0, 10, 29, 184, 0, 86]
abbrev dktX11_window_0 : List UInt8 := dkwX11_window_0 ++ dktX11_window_1
theorem dksX11_window_0 : cX11_window.data.toList.drop 0 = dktX11_window_0 := by decide +kernel
theorem dksX11_window_1 : cX11_window.data.toList.drop 23 = dktX11_window_1 := dk_seg dksX11_window_0 23 rfl rfl
theorem dX11_window_0 : decode cX11_window 0 = .ok (.aload_n 0, 1) := dk_42 (dk_at dksX11_window_0 0 rfl rfl)
theorem dX11_window_1 : decode cX11_window 1 = .ok (.iconst 0, 1) := dk_3 (dk_at dksX11_window_0 1 rfl rfl)
theorem dX11_window_2 : decode cX11_window 2 = .ok (.putfield 69, 3) := dk_181 0 69 (dk_at dksX11_window_0 2 rfl rfl)
theorem dX11_window_5 : decode cX11_window 5 = .ok (.iload_n 1, 1) := dk_27 (dk_at dksX11_window_0 5 rfl rfl)
theorem dX11_window_6 : decode cX11_window 6 = .ok (.invokestatic 83, 3) := dk_184 0 83 (dk_at dksX11_window_0 6 rfl rfl)
theorem dX11_window_9 : decode cX11_window 9 = .ok (.ifCond .eq 17, 3) := dk_153 0 17 (dk_at dksX11_window_0 9 rfl rfl)
theorem dX11_window_12 : decode cX11_window 12 = .ok (.iload_n 2, 1) := dk_28 (dk_at dksX11_window_0 12 rfl rfl)
theorem dX11_window_13 : decode cX11_window 13 = .ok (.invokestatic 86, 3) := dk_184 0 86 (dk_at dksX11_window_0 13 rfl rfl)
theorem dX11_window_16 : decode cX11_window 16 = .ok (.ifCond .eq 10, 3) := dk_153 0 10 (dk_at dksX11_window_0 16 rfl rfl)
theorem dX11_window_19 : decode cX11_window 19 = .ok (.iload_n 3, 1) := dk_29 (dk_at dksX11_window_0 19 rfl rfl)
theorem dX11_window_20 : decode cX11_window 20 = .ok (.invokestatic 86, 3) := dk_184 0 86 (dk_at dksX11_window_0 20 rfl rfl)
theorem dX11_window_23 : decode cX11_window 23 = .ok (.ifCond .ne 6, 3) := dk_154 0 6 (dk_at dksX11_window_1 0 rfl rfl)
theorem dX11_window_26 : decode cX11_window 26 = .ok (.bipush (-4), 2) := dk_16 252 (dk_at dksX11_window_1 3 rfl rfl)
theorem dX11_window_28 : decode cX11_window 28 = .ok (.ireturn, 1) := dk_172 (dk_at dksX11_window_1 5 rfl rfl)
theorem dX11_window_29 : decode cX11_window 29 = .ok (.aload_n 0, 1) := dk_42 (dk_at dksX11_window_1 6 rfl rfl)
theorem dX11_window_30 : decode cX11_window 30 = .ok (.getfield 23, 3) := dk_180 0 23 (dk_at dksX11_window_1 7 rfl rfl)
theorem dX11_window_33 : decode cX11_window 33 = .ok (.iload_n 1, 1) := dk_27 (dk_at dksX11_window_1 10 rfl rfl)
theorem dX11_window_34 : decode cX11_window 34 = .ok (.iload_n 2, 1) := dk_28 (dk_at dksX11_window_1 11 rfl rfl)
theorem dX11_window_35 : decode cX11_window 35 = .ok (.iastore, 1) := dk_79 (dk_at dksX11_window_1 12 rfl rfl)
theorem dX11_window_36 : decode cX11_window 36 = .ok (.aload_n 0, 1) := dk_42 (dk_at dksX11_window_1 13 rfl rfl)
theorem dX11_window_37 : decode cX11_window 37 = .ok (.getfield 26, 3) := dk_180 0 26 (dk_at dksX11_window_1 14 rfl rfl)
theorem dX11_window_40 : decode cX11_window 40 = .ok (.iload_n 1, 1) := dk_27 (dk_at dksX11_window_1 17 rfl rfl)
theorem dX11_window_41 : decode cX11_window 41 = .ok (.iload_n 3, 1) := dk_29 (dk_at dksX11_window_1 18 rfl rfl)
theorem dX11_window_42 : decode cX11_window 42 = .ok (.iastore, 1) := dk_79 (dk_at dksX11_window_1 19 rfl rfl)
theorem dX11_window_43 : decode cX11_window 43 = .ok (.iconst 1, 1) := dk_4 (dk_at dksX11_window_1 20 rfl rfl)
theorem dX11_window_44 : decode cX11_window 44 = .ok (.ireturn, 1) := dk_172 (dk_at dksX11_window_1 21 rfl rfl)
abbrev cX11_isMinute : ByteArray := prog_16_method_9_code
def yX11_isMinute : MethodName := ⟨RX11, "isMinute", "(I)Z"⟩
def dkwX11_isMinute_0 : List UInt8 := [26, 155, 0, 14, 26, 17, 5, 160, 162, 0, 7, 4, 167, 0, 4, 3, 172]
abbrev dktX11_isMinute_0 : List UInt8 := dkwX11_isMinute_0 ++ []
theorem dksX11_isMinute_0 : cX11_isMinute.data.toList.drop 0 = dktX11_isMinute_0 := by decide +kernel
theorem dX11_isMinute_0 : decode cX11_isMinute 0 = .ok (.iload_n 0, 1) := dk_26 (dk_at dksX11_isMinute_0 0 rfl rfl)
theorem dX11_isMinute_1 : decode cX11_isMinute 1 = .ok (.ifCond .lt 14, 3) := dk_155 0 14 (dk_at dksX11_isMinute_0 1 rfl rfl)
theorem dX11_isMinute_4 : decode cX11_isMinute 4 = .ok (.iload_n 0, 1) := dk_26 (dk_at dksX11_isMinute_0 4 rfl rfl)
theorem dX11_isMinute_5 : decode cX11_isMinute 5 = .ok (.sipush 1440, 3) := dk_17 5 160 (dk_at dksX11_isMinute_0 5 rfl rfl)
theorem dX11_isMinute_8 : decode cX11_isMinute 8 = .ok (.if_icmp .ge 7, 3) := dk_162 0 7 (dk_at dksX11_isMinute_0 8 rfl rfl)
theorem dX11_isMinute_11 : decode cX11_isMinute 11 = .ok (.iconst 1, 1) := dk_4 (dk_at dksX11_isMinute_0 11 rfl rfl)
theorem dX11_isMinute_12 : decode cX11_isMinute 12 = .ok (.goto 4, 3) := dk_167 0 4 (dk_at dksX11_isMinute_0 12 rfl rfl)
theorem dX11_isMinute_15 : decode cX11_isMinute 15 = .ok (.iconst 0, 1) := dk_3 (dk_at dksX11_isMinute_0 15 rfl rfl)
theorem dX11_isMinute_16 : decode cX11_isMinute 16 = .ok (.ireturn, 1) := dk_172 (dk_at dksX11_isMinute_0 16 rfl rfl)
abbrev cX11_job : ByteArray := prog_16_method_11_code
def yX11_job : MethodName := ⟨RX11, "job", "(IIIJ)I"⟩
def dkwX11_job_5 : List UInt8 := [172]
abbrev dktX11_job_5 : List UInt8 := dkwX11_job_5 ++ []
def dkwX11_job_4 : List UInt8 := [180, 0, 62, 42, 180, 0, 76, 22, 4, 80, 42, 89, 180, 0, 76, 4, 96, 181, 0, 76, 42, 180, 0, 76]
abbrev dktX11_job_4 : List UInt8 := dkwX11_job_4 ++ dktX11_job_5
def dkwX11_job_3 : List UInt8 := [27, 79, 42, 180, 0, 38, 42, 180, 0, 76, 28, 79, 42, 180, 0, 41, 42, 180, 0, 76, 29, 79, 42]
abbrev dktX11_job_3 : List UInt8 := dkwX11_job_3 ++ dktX11_job_4
def dkwX11_job_2 : List UInt8 := [180, 0, 76, 16, 100, 160, 0, 5, 2, 172, 42, 22, 4, 181, 0, 89, 42, 180, 0, 35, 42, 180, 0, 76]
abbrev dktX11_job_2 : List UInt8 := dkwX11_job_2 ++ dktX11_job_3
def dkwX11_job_1 : List UInt8 := [155, 0, 19, 29, 16, 99, 163, 0, 13, 22, 4, 42, 180, 0, 89, 148, 156, 0, 6, 16, 252, 172, 42]
abbrev dktX11_job_1 : List UInt8 := dkwX11_job_1 ++ dktX11_job_2
def dkwX11_job_0 : List UInt8 := [42, 3, 181, 0, 69, 27, 184, 0, 83, 153, 0, 33, 28, 155, 0, 29, 28, 16, 15, 163, 0, 23, 29]
abbrev dktX11_job_0 : List UInt8 := dkwX11_job_0 ++ dktX11_job_1
theorem dksX11_job_0 : cX11_job.data.toList.drop 0 = dktX11_job_0 := by decide +kernel
theorem dksX11_job_1 : cX11_job.data.toList.drop 23 = dktX11_job_1 := dk_seg dksX11_job_0 23 rfl rfl
theorem dksX11_job_2 : cX11_job.data.toList.drop 46 = dktX11_job_2 := dk_seg dksX11_job_1 23 rfl rfl
theorem dksX11_job_3 : cX11_job.data.toList.drop 70 = dktX11_job_3 := dk_seg dksX11_job_2 24 rfl rfl
theorem dksX11_job_4 : cX11_job.data.toList.drop 93 = dktX11_job_4 := dk_seg dksX11_job_3 23 rfl rfl
theorem dksX11_job_5 : cX11_job.data.toList.drop 117 = dktX11_job_5 := dk_seg dksX11_job_4 24 rfl rfl
theorem dX11_job_0 : decode cX11_job 0 = .ok (.aload_n 0, 1) := dk_42 (dk_at dksX11_job_0 0 rfl rfl)
theorem dX11_job_1 : decode cX11_job 1 = .ok (.iconst 0, 1) := dk_3 (dk_at dksX11_job_0 1 rfl rfl)
theorem dX11_job_2 : decode cX11_job 2 = .ok (.putfield 69, 3) := dk_181 0 69 (dk_at dksX11_job_0 2 rfl rfl)
theorem dX11_job_5 : decode cX11_job 5 = .ok (.iload_n 1, 1) := dk_27 (dk_at dksX11_job_0 5 rfl rfl)
theorem dX11_job_6 : decode cX11_job 6 = .ok (.invokestatic 83, 3) := dk_184 0 83 (dk_at dksX11_job_0 6 rfl rfl)
theorem dX11_job_9 : decode cX11_job 9 = .ok (.ifCond .eq 33, 3) := dk_153 0 33 (dk_at dksX11_job_0 9 rfl rfl)
theorem dX11_job_12 : decode cX11_job 12 = .ok (.iload_n 2, 1) := dk_28 (dk_at dksX11_job_0 12 rfl rfl)
theorem dX11_job_13 : decode cX11_job 13 = .ok (.ifCond .lt 29, 3) := dk_155 0 29 (dk_at dksX11_job_0 13 rfl rfl)
theorem dX11_job_16 : decode cX11_job 16 = .ok (.iload_n 2, 1) := dk_28 (dk_at dksX11_job_0 16 rfl rfl)
theorem dX11_job_17 : decode cX11_job 17 = .ok (.bipush 15, 2) := dk_16 15 (dk_at dksX11_job_0 17 rfl rfl)
theorem dX11_job_19 : decode cX11_job 19 = .ok (.if_icmp .gt 23, 3) := dk_163 0 23 (dk_at dksX11_job_0 19 rfl rfl)
theorem dX11_job_22 : decode cX11_job 22 = .ok (.iload_n 3, 1) := dk_29 (dk_at dksX11_job_0 22 rfl rfl)
theorem dX11_job_23 : decode cX11_job 23 = .ok (.ifCond .lt 19, 3) := dk_155 0 19 (dk_at dksX11_job_1 0 rfl rfl)
theorem dX11_job_26 : decode cX11_job 26 = .ok (.iload_n 3, 1) := dk_29 (dk_at dksX11_job_1 3 rfl rfl)
theorem dX11_job_27 : decode cX11_job 27 = .ok (.bipush 99, 2) := dk_16 99 (dk_at dksX11_job_1 4 rfl rfl)
theorem dX11_job_29 : decode cX11_job 29 = .ok (.if_icmp .gt 13, 3) := dk_163 0 13 (dk_at dksX11_job_1 6 rfl rfl)
theorem dX11_job_32 : decode cX11_job 32 = .ok (.lload 4, 2) := dk_22 4 (dk_at dksX11_job_1 9 rfl rfl)
theorem dX11_job_34 : decode cX11_job 34 = .ok (.aload_n 0, 1) := dk_42 (dk_at dksX11_job_1 11 rfl rfl)
theorem dX11_job_35 : decode cX11_job 35 = .ok (.getfield 89, 3) := dk_180 0 89 (dk_at dksX11_job_1 12 rfl rfl)
theorem dX11_job_38 : decode cX11_job 38 = .ok (.lcmp, 1) := dk_148 (dk_at dksX11_job_1 15 rfl rfl)
theorem dX11_job_39 : decode cX11_job 39 = .ok (.ifCond .ge 6, 3) := dk_156 0 6 (dk_at dksX11_job_1 16 rfl rfl)
theorem dX11_job_42 : decode cX11_job 42 = .ok (.bipush (-4), 2) := dk_16 252 (dk_at dksX11_job_1 19 rfl rfl)
theorem dX11_job_44 : decode cX11_job 44 = .ok (.ireturn, 1) := dk_172 (dk_at dksX11_job_1 21 rfl rfl)
theorem dX11_job_45 : decode cX11_job 45 = .ok (.aload_n 0, 1) := dk_42 (dk_at dksX11_job_1 22 rfl rfl)
theorem dX11_job_46 : decode cX11_job 46 = .ok (.getfield 76, 3) := dk_180 0 76 (dk_at dksX11_job_2 0 rfl rfl)
theorem dX11_job_49 : decode cX11_job 49 = .ok (.bipush 100, 2) := dk_16 100 (dk_at dksX11_job_2 3 rfl rfl)
theorem dX11_job_51 : decode cX11_job 51 = .ok (.if_icmp .ne 5, 3) := dk_160 0 5 (dk_at dksX11_job_2 5 rfl rfl)
theorem dX11_job_54 : decode cX11_job 54 = .ok (.iconst (-1), 1) := dk_2 (dk_at dksX11_job_2 8 rfl rfl)
theorem dX11_job_55 : decode cX11_job 55 = .ok (.ireturn, 1) := dk_172 (dk_at dksX11_job_2 9 rfl rfl)
theorem dX11_job_56 : decode cX11_job 56 = .ok (.aload_n 0, 1) := dk_42 (dk_at dksX11_job_2 10 rfl rfl)
theorem dX11_job_57 : decode cX11_job 57 = .ok (.lload 4, 2) := dk_22 4 (dk_at dksX11_job_2 11 rfl rfl)
theorem dX11_job_59 : decode cX11_job 59 = .ok (.putfield 89, 3) := dk_181 0 89 (dk_at dksX11_job_2 13 rfl rfl)
theorem dX11_job_62 : decode cX11_job 62 = .ok (.aload_n 0, 1) := dk_42 (dk_at dksX11_job_2 16 rfl rfl)
theorem dX11_job_63 : decode cX11_job 63 = .ok (.getfield 35, 3) := dk_180 0 35 (dk_at dksX11_job_2 17 rfl rfl)
theorem dX11_job_66 : decode cX11_job 66 = .ok (.aload_n 0, 1) := dk_42 (dk_at dksX11_job_2 20 rfl rfl)
theorem dX11_job_67 : decode cX11_job 67 = .ok (.getfield 76, 3) := dk_180 0 76 (dk_at dksX11_job_2 21 rfl rfl)
theorem dX11_job_70 : decode cX11_job 70 = .ok (.iload_n 1, 1) := dk_27 (dk_at dksX11_job_3 0 rfl rfl)
theorem dX11_job_71 : decode cX11_job 71 = .ok (.iastore, 1) := dk_79 (dk_at dksX11_job_3 1 rfl rfl)
theorem dX11_job_72 : decode cX11_job 72 = .ok (.aload_n 0, 1) := dk_42 (dk_at dksX11_job_3 2 rfl rfl)
theorem dX11_job_73 : decode cX11_job 73 = .ok (.getfield 38, 3) := dk_180 0 38 (dk_at dksX11_job_3 3 rfl rfl)
theorem dX11_job_76 : decode cX11_job 76 = .ok (.aload_n 0, 1) := dk_42 (dk_at dksX11_job_3 6 rfl rfl)
theorem dX11_job_77 : decode cX11_job 77 = .ok (.getfield 76, 3) := dk_180 0 76 (dk_at dksX11_job_3 7 rfl rfl)
theorem dX11_job_80 : decode cX11_job 80 = .ok (.iload_n 2, 1) := dk_28 (dk_at dksX11_job_3 10 rfl rfl)
theorem dX11_job_81 : decode cX11_job 81 = .ok (.iastore, 1) := dk_79 (dk_at dksX11_job_3 11 rfl rfl)
theorem dX11_job_82 : decode cX11_job 82 = .ok (.aload_n 0, 1) := dk_42 (dk_at dksX11_job_3 12 rfl rfl)
theorem dX11_job_83 : decode cX11_job 83 = .ok (.getfield 41, 3) := dk_180 0 41 (dk_at dksX11_job_3 13 rfl rfl)
theorem dX11_job_86 : decode cX11_job 86 = .ok (.aload_n 0, 1) := dk_42 (dk_at dksX11_job_3 16 rfl rfl)
theorem dX11_job_87 : decode cX11_job 87 = .ok (.getfield 76, 3) := dk_180 0 76 (dk_at dksX11_job_3 17 rfl rfl)
theorem dX11_job_90 : decode cX11_job 90 = .ok (.iload_n 3, 1) := dk_29 (dk_at dksX11_job_3 20 rfl rfl)
theorem dX11_job_91 : decode cX11_job 91 = .ok (.iastore, 1) := dk_79 (dk_at dksX11_job_3 21 rfl rfl)
theorem dX11_job_92 : decode cX11_job 92 = .ok (.aload_n 0, 1) := dk_42 (dk_at dksX11_job_3 22 rfl rfl)
theorem dX11_job_93 : decode cX11_job 93 = .ok (.getfield 62, 3) := dk_180 0 62 (dk_at dksX11_job_4 0 rfl rfl)
theorem dX11_job_96 : decode cX11_job 96 = .ok (.aload_n 0, 1) := dk_42 (dk_at dksX11_job_4 3 rfl rfl)
theorem dX11_job_97 : decode cX11_job 97 = .ok (.getfield 76, 3) := dk_180 0 76 (dk_at dksX11_job_4 4 rfl rfl)
theorem dX11_job_100 : decode cX11_job 100 = .ok (.lload 4, 2) := dk_22 4 (dk_at dksX11_job_4 7 rfl rfl)
theorem dX11_job_102 : decode cX11_job 102 = .ok (.lastore, 1) := dk_80 (dk_at dksX11_job_4 9 rfl rfl)
theorem dX11_job_103 : decode cX11_job 103 = .ok (.aload_n 0, 1) := dk_42 (dk_at dksX11_job_4 10 rfl rfl)
theorem dX11_job_104 : decode cX11_job 104 = .ok (.dup, 1) := dk_89 (dk_at dksX11_job_4 11 rfl rfl)
theorem dX11_job_105 : decode cX11_job 105 = .ok (.getfield 76, 3) := dk_180 0 76 (dk_at dksX11_job_4 12 rfl rfl)
theorem dX11_job_108 : decode cX11_job 108 = .ok (.iconst 1, 1) := dk_4 (dk_at dksX11_job_4 15 rfl rfl)
theorem dX11_job_109 : decode cX11_job 109 = .ok (.iadd, 1) := dk_96 (dk_at dksX11_job_4 16 rfl rfl)
theorem dX11_job_110 : decode cX11_job 110 = .ok (.putfield 76, 3) := dk_181 0 76 (dk_at dksX11_job_4 17 rfl rfl)
theorem dX11_job_113 : decode cX11_job 113 = .ok (.aload_n 0, 1) := dk_42 (dk_at dksX11_job_4 20 rfl rfl)
theorem dX11_job_114 : decode cX11_job 114 = .ok (.getfield 76, 3) := dk_180 0 76 (dk_at dksX11_job_4 21 rfl rfl)
theorem dX11_job_117 : decode cX11_job 117 = .ok (.ireturn, 1) := dk_172 (dk_at dksX11_job_5 0 rfl rfl)
abbrev cX11_needs : ByteArray := prog_16_method_13_code
def yX11_needs : MethodName := ⟨RX11, "needs", "(II)I"⟩
def dkwX11_needs_2 : List UInt8 := [153, 0, 5, 3, 172, 42, 180, 0, 56, 16, 100, 27, 4, 100, 104, 28, 96, 4, 100, 4, 84, 4, 172]
abbrev dktX11_needs_2 : List UInt8 := dkwX11_needs_2 ++ []
def dkwX11_needs_1 : List UInt8 := [42, 180, 0, 44, 27, 4, 100, 46, 153, 0, 6, 16, 251, 172, 42, 28, 4, 100, 27, 4, 100, 182, 0, 96]
abbrev dktX11_needs_1 : List UInt8 := dkwX11_needs_1 ++ dktX11_needs_2
def dkwX11_needs_0 : List UInt8 := [42, 3, 181, 0, 69, 42, 27, 182, 0, 93, 153, 0, 11, 42, 28, 182, 0, 93, 154, 0, 6, 16, 254, 172]
abbrev dktX11_needs_0 : List UInt8 := dkwX11_needs_0 ++ dktX11_needs_1
theorem dksX11_needs_0 : cX11_needs.data.toList.drop 0 = dktX11_needs_0 := by decide +kernel
theorem dksX11_needs_1 : cX11_needs.data.toList.drop 24 = dktX11_needs_1 := dk_seg dksX11_needs_0 24 rfl rfl
theorem dksX11_needs_2 : cX11_needs.data.toList.drop 48 = dktX11_needs_2 := dk_seg dksX11_needs_1 24 rfl rfl
theorem dX11_needs_0 : decode cX11_needs 0 = .ok (.aload_n 0, 1) := dk_42 (dk_at dksX11_needs_0 0 rfl rfl)
theorem dX11_needs_1 : decode cX11_needs 1 = .ok (.iconst 0, 1) := dk_3 (dk_at dksX11_needs_0 1 rfl rfl)
theorem dX11_needs_2 : decode cX11_needs 2 = .ok (.putfield 69, 3) := dk_181 0 69 (dk_at dksX11_needs_0 2 rfl rfl)
theorem dX11_needs_5 : decode cX11_needs 5 = .ok (.aload_n 0, 1) := dk_42 (dk_at dksX11_needs_0 5 rfl rfl)
theorem dX11_needs_6 : decode cX11_needs 6 = .ok (.iload_n 1, 1) := dk_27 (dk_at dksX11_needs_0 6 rfl rfl)
theorem dX11_needs_7 : decode cX11_needs 7 = .ok (.invokevirtual 93, 3) := dk_182 0 93 (dk_at dksX11_needs_0 7 rfl rfl)
theorem dX11_needs_10 : decode cX11_needs 10 = .ok (.ifCond .eq 11, 3) := dk_153 0 11 (dk_at dksX11_needs_0 10 rfl rfl)
theorem dX11_needs_13 : decode cX11_needs 13 = .ok (.aload_n 0, 1) := dk_42 (dk_at dksX11_needs_0 13 rfl rfl)
theorem dX11_needs_14 : decode cX11_needs 14 = .ok (.iload_n 2, 1) := dk_28 (dk_at dksX11_needs_0 14 rfl rfl)
theorem dX11_needs_15 : decode cX11_needs 15 = .ok (.invokevirtual 93, 3) := dk_182 0 93 (dk_at dksX11_needs_0 15 rfl rfl)
theorem dX11_needs_18 : decode cX11_needs 18 = .ok (.ifCond .ne 6, 3) := dk_154 0 6 (dk_at dksX11_needs_0 18 rfl rfl)
theorem dX11_needs_21 : decode cX11_needs 21 = .ok (.bipush (-2), 2) := dk_16 254 (dk_at dksX11_needs_0 21 rfl rfl)
theorem dX11_needs_23 : decode cX11_needs 23 = .ok (.ireturn, 1) := dk_172 (dk_at dksX11_needs_0 23 rfl rfl)
theorem dX11_needs_24 : decode cX11_needs 24 = .ok (.aload_n 0, 1) := dk_42 (dk_at dksX11_needs_1 0 rfl rfl)
theorem dX11_needs_25 : decode cX11_needs 25 = .ok (.getfield 44, 3) := dk_180 0 44 (dk_at dksX11_needs_1 1 rfl rfl)
theorem dX11_needs_28 : decode cX11_needs 28 = .ok (.iload_n 1, 1) := dk_27 (dk_at dksX11_needs_1 4 rfl rfl)
theorem dX11_needs_29 : decode cX11_needs 29 = .ok (.iconst 1, 1) := dk_4 (dk_at dksX11_needs_1 5 rfl rfl)
theorem dX11_needs_30 : decode cX11_needs 30 = .ok (.isub, 1) := dk_100 (dk_at dksX11_needs_1 6 rfl rfl)
theorem dX11_needs_31 : decode cX11_needs 31 = .ok (.iaload, 1) := dk_46 (dk_at dksX11_needs_1 7 rfl rfl)
theorem dX11_needs_32 : decode cX11_needs 32 = .ok (.ifCond .eq 6, 3) := dk_153 0 6 (dk_at dksX11_needs_1 8 rfl rfl)
theorem dX11_needs_35 : decode cX11_needs 35 = .ok (.bipush (-5), 2) := dk_16 251 (dk_at dksX11_needs_1 11 rfl rfl)
theorem dX11_needs_37 : decode cX11_needs 37 = .ok (.ireturn, 1) := dk_172 (dk_at dksX11_needs_1 13 rfl rfl)
theorem dX11_needs_38 : decode cX11_needs 38 = .ok (.aload_n 0, 1) := dk_42 (dk_at dksX11_needs_1 14 rfl rfl)
theorem dX11_needs_39 : decode cX11_needs 39 = .ok (.iload_n 2, 1) := dk_28 (dk_at dksX11_needs_1 15 rfl rfl)
theorem dX11_needs_40 : decode cX11_needs 40 = .ok (.iconst 1, 1) := dk_4 (dk_at dksX11_needs_1 16 rfl rfl)
theorem dX11_needs_41 : decode cX11_needs 41 = .ok (.isub, 1) := dk_100 (dk_at dksX11_needs_1 17 rfl rfl)
theorem dX11_needs_42 : decode cX11_needs 42 = .ok (.iload_n 1, 1) := dk_27 (dk_at dksX11_needs_1 18 rfl rfl)
theorem dX11_needs_43 : decode cX11_needs 43 = .ok (.iconst 1, 1) := dk_4 (dk_at dksX11_needs_1 19 rfl rfl)
theorem dX11_needs_44 : decode cX11_needs 44 = .ok (.isub, 1) := dk_100 (dk_at dksX11_needs_1 20 rfl rfl)
theorem dX11_needs_45 : decode cX11_needs 45 = .ok (.invokevirtual 96, 3) := dk_182 0 96 (dk_at dksX11_needs_1 21 rfl rfl)
theorem dX11_needs_48 : decode cX11_needs 48 = .ok (.ifCond .eq 5, 3) := dk_153 0 5 (dk_at dksX11_needs_2 0 rfl rfl)
theorem dX11_needs_51 : decode cX11_needs 51 = .ok (.iconst 0, 1) := dk_3 (dk_at dksX11_needs_2 3 rfl rfl)
theorem dX11_needs_52 : decode cX11_needs 52 = .ok (.ireturn, 1) := dk_172 (dk_at dksX11_needs_2 4 rfl rfl)
theorem dX11_needs_53 : decode cX11_needs 53 = .ok (.aload_n 0, 1) := dk_42 (dk_at dksX11_needs_2 5 rfl rfl)
theorem dX11_needs_54 : decode cX11_needs 54 = .ok (.getfield 56, 3) := dk_180 0 56 (dk_at dksX11_needs_2 6 rfl rfl)
theorem dX11_needs_57 : decode cX11_needs 57 = .ok (.bipush 100, 2) := dk_16 100 (dk_at dksX11_needs_2 9 rfl rfl)
theorem dX11_needs_59 : decode cX11_needs 59 = .ok (.iload_n 1, 1) := dk_27 (dk_at dksX11_needs_2 11 rfl rfl)
theorem dX11_needs_60 : decode cX11_needs 60 = .ok (.iconst 1, 1) := dk_4 (dk_at dksX11_needs_2 12 rfl rfl)
theorem dX11_needs_61 : decode cX11_needs 61 = .ok (.isub, 1) := dk_100 (dk_at dksX11_needs_2 13 rfl rfl)
theorem dX11_needs_62 : decode cX11_needs 62 = .ok (.imul, 1) := dk_104 (dk_at dksX11_needs_2 14 rfl rfl)
theorem dX11_needs_63 : decode cX11_needs 63 = .ok (.iload_n 2, 1) := dk_28 (dk_at dksX11_needs_2 15 rfl rfl)
theorem dX11_needs_64 : decode cX11_needs 64 = .ok (.iadd, 1) := dk_96 (dk_at dksX11_needs_2 16 rfl rfl)
theorem dX11_needs_65 : decode cX11_needs 65 = .ok (.iconst 1, 1) := dk_4 (dk_at dksX11_needs_2 17 rfl rfl)
theorem dX11_needs_66 : decode cX11_needs 66 = .ok (.isub, 1) := dk_100 (dk_at dksX11_needs_2 18 rfl rfl)
theorem dX11_needs_67 : decode cX11_needs 67 = .ok (.iconst 1, 1) := dk_4 (dk_at dksX11_needs_2 19 rfl rfl)
theorem dX11_needs_68 : decode cX11_needs 68 = .ok (.bastore, 1) := dk_84 (dk_at dksX11_needs_2 20 rfl rfl)
theorem dX11_needs_69 : decode cX11_needs 69 = .ok (.iconst 1, 1) := dk_4 (dk_at dksX11_needs_2 21 rfl rfl)
theorem dX11_needs_70 : decode cX11_needs 70 = .ok (.ireturn, 1) := dk_172 (dk_at dksX11_needs_2 22 rfl rfl)
abbrev cX11_isJob : ByteArray := prog_16_method_4_code
def yX11_isJob : MethodName := ⟨RX11, "isJob", "(I)Z"⟩
def dkwX11_isJob_0 : List UInt8 := [27, 4, 161, 0, 15, 27, 42, 180, 0, 76, 163, 0, 7, 4, 167, 0, 4, 3, 172]
abbrev dktX11_isJob_0 : List UInt8 := dkwX11_isJob_0 ++ []
theorem dksX11_isJob_0 : cX11_isJob.data.toList.drop 0 = dktX11_isJob_0 := by decide +kernel
theorem dX11_isJob_0 : decode cX11_isJob 0 = .ok (.iload_n 1, 1) := dk_27 (dk_at dksX11_isJob_0 0 rfl rfl)
theorem dX11_isJob_1 : decode cX11_isJob 1 = .ok (.iconst 1, 1) := dk_4 (dk_at dksX11_isJob_0 1 rfl rfl)
theorem dX11_isJob_2 : decode cX11_isJob 2 = .ok (.if_icmp .lt 15, 3) := dk_161 0 15 (dk_at dksX11_isJob_0 2 rfl rfl)
theorem dX11_isJob_5 : decode cX11_isJob 5 = .ok (.iload_n 1, 1) := dk_27 (dk_at dksX11_isJob_0 5 rfl rfl)
theorem dX11_isJob_6 : decode cX11_isJob 6 = .ok (.aload_n 0, 1) := dk_42 (dk_at dksX11_isJob_0 6 rfl rfl)
theorem dX11_isJob_7 : decode cX11_isJob 7 = .ok (.getfield 76, 3) := dk_180 0 76 (dk_at dksX11_isJob_0 7 rfl rfl)
theorem dX11_isJob_10 : decode cX11_isJob 10 = .ok (.if_icmp .gt 7, 3) := dk_163 0 7 (dk_at dksX11_isJob_0 10 rfl rfl)
theorem dX11_isJob_13 : decode cX11_isJob 13 = .ok (.iconst 1, 1) := dk_4 (dk_at dksX11_isJob_0 13 rfl rfl)
theorem dX11_isJob_14 : decode cX11_isJob 14 = .ok (.goto 4, 3) := dk_167 0 4 (dk_at dksX11_isJob_0 14 rfl rfl)
theorem dX11_isJob_17 : decode cX11_isJob 17 = .ok (.iconst 0, 1) := dk_3 (dk_at dksX11_isJob_0 17 rfl rfl)
theorem dX11_isJob_18 : decode cX11_isJob 18 = .ok (.ireturn, 1) := dk_172 (dk_at dksX11_isJob_0 18 rfl rfl)
abbrev cX11_reaches : ByteArray := prog_16_method_12_code
def yX11_reaches : MethodName := ⟨RX11, "reaches", "(II)Z"⟩
def dkwX11_reaches_5 : List UInt8 := [167, 255, 181, 167, 255, 169, 42, 180, 0, 59, 28, 51, 172]
abbrev dktX11_reaches_5 : List UInt8 := dkwX11_reaches_5 ++ []
def dkwX11_reaches_4 : List UInt8 := [167, 0, 13, 42, 180, 0, 59, 21, 5, 4, 84, 4, 62, 132, 5, 1, 167, 255, 197, 132, 4, 1]
abbrev dktX11_reaches_4 : List UInt8 := dkwX11_reaches_4 ++ dktX11_reaches_5
def dkwX11_reaches_3 : List UInt8 := [16, 100, 21, 4, 104, 21, 5, 96, 51, 153, 0, 26, 42, 180, 0, 59, 21, 5, 51, 153, 0, 6]
abbrev dktX11_reaches_3 : List UInt8 := dkwX11_reaches_3 ++ dktX11_reaches_4
def dkwX11_reaches_2 : List UInt8 := [3, 54, 5, 21, 5, 16, 100, 162, 0, 58, 42, 180, 0, 59, 21, 4, 51, 153, 0, 48, 42, 180, 0, 56]
abbrev dktX11_reaches_2 : List UInt8 := dkwX11_reaches_2 ++ dktX11_reaches_3
def dkwX11_reaches_1 : List UInt8 := [132, 3, 1, 167, 255, 231, 4, 62, 29, 153, 0, 89, 3, 62, 3, 54, 4, 21, 4, 16, 100, 162, 0, 74]
abbrev dktX11_reaches_1 : List UInt8 := dkwX11_reaches_1 ++ dktX11_reaches_2
def dkwX11_reaches_0 : List UInt8 := [3, 62, 29, 16, 100, 162, 0, 25, 42, 180, 0, 59, 29, 29, 27, 160, 0, 7, 4, 167, 0, 4, 3, 84]
abbrev dktX11_reaches_0 : List UInt8 := dkwX11_reaches_0 ++ dktX11_reaches_1
theorem dksX11_reaches_0 : cX11_reaches.data.toList.drop 0 = dktX11_reaches_0 := by decide +kernel
theorem dksX11_reaches_1 : cX11_reaches.data.toList.drop 24 = dktX11_reaches_1 := dk_seg dksX11_reaches_0 24 rfl rfl
theorem dksX11_reaches_2 : cX11_reaches.data.toList.drop 48 = dktX11_reaches_2 := dk_seg dksX11_reaches_1 24 rfl rfl
theorem dksX11_reaches_3 : cX11_reaches.data.toList.drop 72 = dktX11_reaches_3 := dk_seg dksX11_reaches_2 24 rfl rfl
theorem dksX11_reaches_4 : cX11_reaches.data.toList.drop 94 = dktX11_reaches_4 := dk_seg dksX11_reaches_3 22 rfl rfl
theorem dksX11_reaches_5 : cX11_reaches.data.toList.drop 116 = dktX11_reaches_5 := dk_seg dksX11_reaches_4 22 rfl rfl
theorem dX11_reaches_0 : decode cX11_reaches 0 = .ok (.iconst 0, 1) := dk_3 (dk_at dksX11_reaches_0 0 rfl rfl)
theorem dX11_reaches_1 : decode cX11_reaches 1 = .ok (.istore_n 3, 1) := dk_62 (dk_at dksX11_reaches_0 1 rfl rfl)
theorem dX11_reaches_2 : decode cX11_reaches 2 = .ok (.iload_n 3, 1) := dk_29 (dk_at dksX11_reaches_0 2 rfl rfl)
theorem dX11_reaches_3 : decode cX11_reaches 3 = .ok (.bipush 100, 2) := dk_16 100 (dk_at dksX11_reaches_0 3 rfl rfl)
theorem dX11_reaches_5 : decode cX11_reaches 5 = .ok (.if_icmp .ge 25, 3) := dk_162 0 25 (dk_at dksX11_reaches_0 5 rfl rfl)
theorem dX11_reaches_8 : decode cX11_reaches 8 = .ok (.aload_n 0, 1) := dk_42 (dk_at dksX11_reaches_0 8 rfl rfl)
theorem dX11_reaches_9 : decode cX11_reaches 9 = .ok (.getfield 59, 3) := dk_180 0 59 (dk_at dksX11_reaches_0 9 rfl rfl)
theorem dX11_reaches_12 : decode cX11_reaches 12 = .ok (.iload_n 3, 1) := dk_29 (dk_at dksX11_reaches_0 12 rfl rfl)
theorem dX11_reaches_13 : decode cX11_reaches 13 = .ok (.iload_n 3, 1) := dk_29 (dk_at dksX11_reaches_0 13 rfl rfl)
theorem dX11_reaches_14 : decode cX11_reaches 14 = .ok (.iload_n 1, 1) := dk_27 (dk_at dksX11_reaches_0 14 rfl rfl)
theorem dX11_reaches_15 : decode cX11_reaches 15 = .ok (.if_icmp .ne 7, 3) := dk_160 0 7 (dk_at dksX11_reaches_0 15 rfl rfl)
theorem dX11_reaches_18 : decode cX11_reaches 18 = .ok (.iconst 1, 1) := dk_4 (dk_at dksX11_reaches_0 18 rfl rfl)
theorem dX11_reaches_19 : decode cX11_reaches 19 = .ok (.goto 4, 3) := dk_167 0 4 (dk_at dksX11_reaches_0 19 rfl rfl)
theorem dX11_reaches_22 : decode cX11_reaches 22 = .ok (.iconst 0, 1) := dk_3 (dk_at dksX11_reaches_0 22 rfl rfl)
theorem dX11_reaches_23 : decode cX11_reaches 23 = .ok (.bastore, 1) := dk_84 (dk_at dksX11_reaches_0 23 rfl rfl)
theorem dX11_reaches_24 : decode cX11_reaches 24 = .ok (.iinc 3 1, 3) := dk_132 3 1 (dk_at dksX11_reaches_1 0 rfl rfl)
theorem dX11_reaches_27 : decode cX11_reaches 27 = .ok (.goto (-25), 3) := dk_167 255 231 (dk_at dksX11_reaches_1 3 rfl rfl)
theorem dX11_reaches_30 : decode cX11_reaches 30 = .ok (.iconst 1, 1) := dk_4 (dk_at dksX11_reaches_1 6 rfl rfl)
theorem dX11_reaches_31 : decode cX11_reaches 31 = .ok (.istore_n 3, 1) := dk_62 (dk_at dksX11_reaches_1 7 rfl rfl)
theorem dX11_reaches_32 : decode cX11_reaches 32 = .ok (.iload_n 3, 1) := dk_29 (dk_at dksX11_reaches_1 8 rfl rfl)
theorem dX11_reaches_33 : decode cX11_reaches 33 = .ok (.ifCond .eq 89, 3) := dk_153 0 89 (dk_at dksX11_reaches_1 9 rfl rfl)
theorem dX11_reaches_36 : decode cX11_reaches 36 = .ok (.iconst 0, 1) := dk_3 (dk_at dksX11_reaches_1 12 rfl rfl)
theorem dX11_reaches_37 : decode cX11_reaches 37 = .ok (.istore_n 3, 1) := dk_62 (dk_at dksX11_reaches_1 13 rfl rfl)
theorem dX11_reaches_38 : decode cX11_reaches 38 = .ok (.iconst 0, 1) := dk_3 (dk_at dksX11_reaches_1 14 rfl rfl)
theorem dX11_reaches_39 : decode cX11_reaches 39 = .ok (.istore 4, 2) := dk_54 4 (dk_at dksX11_reaches_1 15 rfl rfl)
theorem dX11_reaches_41 : decode cX11_reaches 41 = .ok (.iload 4, 2) := dk_21 4 (dk_at dksX11_reaches_1 17 rfl rfl)
theorem dX11_reaches_43 : decode cX11_reaches 43 = .ok (.bipush 100, 2) := dk_16 100 (dk_at dksX11_reaches_1 19 rfl rfl)
theorem dX11_reaches_45 : decode cX11_reaches 45 = .ok (.if_icmp .ge 74, 3) := dk_162 0 74 (dk_at dksX11_reaches_1 21 rfl rfl)
theorem dX11_reaches_48 : decode cX11_reaches 48 = .ok (.iconst 0, 1) := dk_3 (dk_at dksX11_reaches_2 0 rfl rfl)
theorem dX11_reaches_49 : decode cX11_reaches 49 = .ok (.istore 5, 2) := dk_54 5 (dk_at dksX11_reaches_2 1 rfl rfl)
theorem dX11_reaches_51 : decode cX11_reaches 51 = .ok (.iload 5, 2) := dk_21 5 (dk_at dksX11_reaches_2 3 rfl rfl)
theorem dX11_reaches_53 : decode cX11_reaches 53 = .ok (.bipush 100, 2) := dk_16 100 (dk_at dksX11_reaches_2 5 rfl rfl)
theorem dX11_reaches_55 : decode cX11_reaches 55 = .ok (.if_icmp .ge 58, 3) := dk_162 0 58 (dk_at dksX11_reaches_2 7 rfl rfl)
theorem dX11_reaches_58 : decode cX11_reaches 58 = .ok (.aload_n 0, 1) := dk_42 (dk_at dksX11_reaches_2 10 rfl rfl)
theorem dX11_reaches_59 : decode cX11_reaches 59 = .ok (.getfield 59, 3) := dk_180 0 59 (dk_at dksX11_reaches_2 11 rfl rfl)
theorem dX11_reaches_62 : decode cX11_reaches 62 = .ok (.iload 4, 2) := dk_21 4 (dk_at dksX11_reaches_2 14 rfl rfl)
theorem dX11_reaches_64 : decode cX11_reaches 64 = .ok (.baload, 1) := dk_51 (dk_at dksX11_reaches_2 16 rfl rfl)
theorem dX11_reaches_65 : decode cX11_reaches 65 = .ok (.ifCond .eq 48, 3) := dk_153 0 48 (dk_at dksX11_reaches_2 17 rfl rfl)
theorem dX11_reaches_68 : decode cX11_reaches 68 = .ok (.aload_n 0, 1) := dk_42 (dk_at dksX11_reaches_2 20 rfl rfl)
theorem dX11_reaches_69 : decode cX11_reaches 69 = .ok (.getfield 56, 3) := dk_180 0 56 (dk_at dksX11_reaches_2 21 rfl rfl)
theorem dX11_reaches_72 : decode cX11_reaches 72 = .ok (.bipush 100, 2) := dk_16 100 (dk_at dksX11_reaches_3 0 rfl rfl)
theorem dX11_reaches_74 : decode cX11_reaches 74 = .ok (.iload 4, 2) := dk_21 4 (dk_at dksX11_reaches_3 2 rfl rfl)
theorem dX11_reaches_76 : decode cX11_reaches 76 = .ok (.imul, 1) := dk_104 (dk_at dksX11_reaches_3 4 rfl rfl)
theorem dX11_reaches_77 : decode cX11_reaches 77 = .ok (.iload 5, 2) := dk_21 5 (dk_at dksX11_reaches_3 5 rfl rfl)
theorem dX11_reaches_79 : decode cX11_reaches 79 = .ok (.iadd, 1) := dk_96 (dk_at dksX11_reaches_3 7 rfl rfl)
theorem dX11_reaches_80 : decode cX11_reaches 80 = .ok (.baload, 1) := dk_51 (dk_at dksX11_reaches_3 8 rfl rfl)
theorem dX11_reaches_81 : decode cX11_reaches 81 = .ok (.ifCond .eq 26, 3) := dk_153 0 26 (dk_at dksX11_reaches_3 9 rfl rfl)
theorem dX11_reaches_84 : decode cX11_reaches 84 = .ok (.aload_n 0, 1) := dk_42 (dk_at dksX11_reaches_3 12 rfl rfl)
theorem dX11_reaches_85 : decode cX11_reaches 85 = .ok (.getfield 59, 3) := dk_180 0 59 (dk_at dksX11_reaches_3 13 rfl rfl)
theorem dX11_reaches_88 : decode cX11_reaches 88 = .ok (.iload 5, 2) := dk_21 5 (dk_at dksX11_reaches_3 16 rfl rfl)
theorem dX11_reaches_90 : decode cX11_reaches 90 = .ok (.baload, 1) := dk_51 (dk_at dksX11_reaches_3 18 rfl rfl)
theorem dX11_reaches_91 : decode cX11_reaches 91 = .ok (.ifCond .eq 6, 3) := dk_153 0 6 (dk_at dksX11_reaches_3 19 rfl rfl)
theorem dX11_reaches_94 : decode cX11_reaches 94 = .ok (.goto 13, 3) := dk_167 0 13 (dk_at dksX11_reaches_4 0 rfl rfl)
theorem dX11_reaches_97 : decode cX11_reaches 97 = .ok (.aload_n 0, 1) := dk_42 (dk_at dksX11_reaches_4 3 rfl rfl)
theorem dX11_reaches_98 : decode cX11_reaches 98 = .ok (.getfield 59, 3) := dk_180 0 59 (dk_at dksX11_reaches_4 4 rfl rfl)
theorem dX11_reaches_101 : decode cX11_reaches 101 = .ok (.iload 5, 2) := dk_21 5 (dk_at dksX11_reaches_4 7 rfl rfl)
theorem dX11_reaches_103 : decode cX11_reaches 103 = .ok (.iconst 1, 1) := dk_4 (dk_at dksX11_reaches_4 9 rfl rfl)
theorem dX11_reaches_104 : decode cX11_reaches 104 = .ok (.bastore, 1) := dk_84 (dk_at dksX11_reaches_4 10 rfl rfl)
theorem dX11_reaches_105 : decode cX11_reaches 105 = .ok (.iconst 1, 1) := dk_4 (dk_at dksX11_reaches_4 11 rfl rfl)
theorem dX11_reaches_106 : decode cX11_reaches 106 = .ok (.istore_n 3, 1) := dk_62 (dk_at dksX11_reaches_4 12 rfl rfl)
theorem dX11_reaches_107 : decode cX11_reaches 107 = .ok (.iinc 5 1, 3) := dk_132 5 1 (dk_at dksX11_reaches_4 13 rfl rfl)
theorem dX11_reaches_110 : decode cX11_reaches 110 = .ok (.goto (-59), 3) := dk_167 255 197 (dk_at dksX11_reaches_4 16 rfl rfl)
theorem dX11_reaches_113 : decode cX11_reaches 113 = .ok (.iinc 4 1, 3) := dk_132 4 1 (dk_at dksX11_reaches_4 19 rfl rfl)
theorem dX11_reaches_116 : decode cX11_reaches 116 = .ok (.goto (-75), 3) := dk_167 255 181 (dk_at dksX11_reaches_5 0 rfl rfl)
theorem dX11_reaches_119 : decode cX11_reaches 119 = .ok (.goto (-87), 3) := dk_167 255 169 (dk_at dksX11_reaches_5 3 rfl rfl)
theorem dX11_reaches_122 : decode cX11_reaches 122 = .ok (.aload_n 0, 1) := dk_42 (dk_at dksX11_reaches_5 6 rfl rfl)
theorem dX11_reaches_123 : decode cX11_reaches 123 = .ok (.getfield 59, 3) := dk_180 0 59 (dk_at dksX11_reaches_5 7 rfl rfl)
theorem dX11_reaches_126 : decode cX11_reaches 126 = .ok (.iload_n 2, 1) := dk_28 (dk_at dksX11_reaches_5 10 rfl rfl)
theorem dX11_reaches_127 : decode cX11_reaches 127 = .ok (.baload, 1) := dk_51 (dk_at dksX11_reaches_5 11 rfl rfl)
theorem dX11_reaches_128 : decode cX11_reaches 128 = .ok (.ireturn, 1) := dk_172 (dk_at dksX11_reaches_5 12 rfl rfl)
abbrev cX11_units : ByteArray := prog_16_method_14_code
def yX11_units : MethodName := ⟨RX11, "units", "(II)I"⟩
def dkwX11_units_1 : List UInt8 := [164, 0, 6, 16, 252, 172, 42, 180, 0, 32, 27, 28, 79, 4, 172]
abbrev dktX11_units_1 : List UInt8 := dkwX11_units_1 ++ []
def dkwX11_units_0 : List UInt8 := [42, 3, 181, 0, 69, 27, 155, 0, 19, 27, 6, 163, 0, 14, 28, 155, 0, 10, 28, 17, 3, 232]
abbrev dktX11_units_0 : List UInt8 := dkwX11_units_0 ++ dktX11_units_1
theorem dksX11_units_0 : cX11_units.data.toList.drop 0 = dktX11_units_0 := by decide +kernel
theorem dksX11_units_1 : cX11_units.data.toList.drop 22 = dktX11_units_1 := dk_seg dksX11_units_0 22 rfl rfl
theorem dX11_units_0 : decode cX11_units 0 = .ok (.aload_n 0, 1) := dk_42 (dk_at dksX11_units_0 0 rfl rfl)
theorem dX11_units_1 : decode cX11_units 1 = .ok (.iconst 0, 1) := dk_3 (dk_at dksX11_units_0 1 rfl rfl)
theorem dX11_units_2 : decode cX11_units 2 = .ok (.putfield 69, 3) := dk_181 0 69 (dk_at dksX11_units_0 2 rfl rfl)
theorem dX11_units_5 : decode cX11_units 5 = .ok (.iload_n 1, 1) := dk_27 (dk_at dksX11_units_0 5 rfl rfl)
theorem dX11_units_6 : decode cX11_units 6 = .ok (.ifCond .lt 19, 3) := dk_155 0 19 (dk_at dksX11_units_0 6 rfl rfl)
theorem dX11_units_9 : decode cX11_units 9 = .ok (.iload_n 1, 1) := dk_27 (dk_at dksX11_units_0 9 rfl rfl)
theorem dX11_units_10 : decode cX11_units 10 = .ok (.iconst 3, 1) := dk_6 (dk_at dksX11_units_0 10 rfl rfl)
theorem dX11_units_11 : decode cX11_units 11 = .ok (.if_icmp .gt 14, 3) := dk_163 0 14 (dk_at dksX11_units_0 11 rfl rfl)
theorem dX11_units_14 : decode cX11_units 14 = .ok (.iload_n 2, 1) := dk_28 (dk_at dksX11_units_0 14 rfl rfl)
theorem dX11_units_15 : decode cX11_units 15 = .ok (.ifCond .lt 10, 3) := dk_155 0 10 (dk_at dksX11_units_0 15 rfl rfl)
theorem dX11_units_18 : decode cX11_units 18 = .ok (.iload_n 2, 1) := dk_28 (dk_at dksX11_units_0 18 rfl rfl)
theorem dX11_units_19 : decode cX11_units 19 = .ok (.sipush 1000, 3) := dk_17 3 232 (dk_at dksX11_units_0 19 rfl rfl)
theorem dX11_units_22 : decode cX11_units 22 = .ok (.if_icmp .le 6, 3) := dk_164 0 6 (dk_at dksX11_units_1 0 rfl rfl)
theorem dX11_units_25 : decode cX11_units 25 = .ok (.bipush (-4), 2) := dk_16 252 (dk_at dksX11_units_1 3 rfl rfl)
theorem dX11_units_27 : decode cX11_units 27 = .ok (.ireturn, 1) := dk_172 (dk_at dksX11_units_1 5 rfl rfl)
theorem dX11_units_28 : decode cX11_units 28 = .ok (.aload_n 0, 1) := dk_42 (dk_at dksX11_units_1 6 rfl rfl)
theorem dX11_units_29 : decode cX11_units 29 = .ok (.getfield 32, 3) := dk_180 0 32 (dk_at dksX11_units_1 7 rfl rfl)
theorem dX11_units_32 : decode cX11_units 32 = .ok (.iload_n 1, 1) := dk_27 (dk_at dksX11_units_1 10 rfl rfl)
theorem dX11_units_33 : decode cX11_units 33 = .ok (.iload_n 2, 1) := dk_28 (dk_at dksX11_units_1 11 rfl rfl)
theorem dX11_units_34 : decode cX11_units 34 = .ok (.iastore, 1) := dk_79 (dk_at dksX11_units_1 12 rfl rfl)
theorem dX11_units_35 : decode cX11_units 35 = .ok (.iconst 1, 1) := dk_4 (dk_at dksX11_units_1 13 rfl rfl)
theorem dX11_units_36 : decode cX11_units 36 = .ok (.ireturn, 1) := dk_172 (dk_at dksX11_units_1 14 rfl rfl)
abbrev cX11_uses : ByteArray := prog_16_method_15_code
def yX11_uses : MethodName := ⟨RX11, "uses", "(III)I"⟩
def dkwX11_uses_2 : List UInt8 := [46, 153, 0, 6, 16, 251, 172, 42, 180, 0, 47, 7, 27, 104, 7, 100, 28, 96, 29, 79, 4, 172]
abbrev dktX11_uses_2 : List UInt8 := dkwX11_uses_2 ++ []
def dkwX11_uses_1 : List UInt8 := [163, 0, 14, 29, 155, 0, 10, 29, 17, 3, 232, 164, 0, 6, 16, 252, 172, 42, 180, 0, 44, 27, 4, 100]
abbrev dktX11_uses_1 : List UInt8 := dkwX11_uses_1 ++ dktX11_uses_2
def dkwX11_uses_0 : List UInt8 := [42, 3, 181, 0, 69, 42, 27, 182, 0, 93, 154, 0, 6, 16, 254, 172, 28, 155, 0, 19, 28, 6]
abbrev dktX11_uses_0 : List UInt8 := dkwX11_uses_0 ++ dktX11_uses_1
theorem dksX11_uses_0 : cX11_uses.data.toList.drop 0 = dktX11_uses_0 := by decide +kernel
theorem dksX11_uses_1 : cX11_uses.data.toList.drop 22 = dktX11_uses_1 := dk_seg dksX11_uses_0 22 rfl rfl
theorem dksX11_uses_2 : cX11_uses.data.toList.drop 46 = dktX11_uses_2 := dk_seg dksX11_uses_1 24 rfl rfl
theorem dX11_uses_0 : decode cX11_uses 0 = .ok (.aload_n 0, 1) := dk_42 (dk_at dksX11_uses_0 0 rfl rfl)
theorem dX11_uses_1 : decode cX11_uses 1 = .ok (.iconst 0, 1) := dk_3 (dk_at dksX11_uses_0 1 rfl rfl)
theorem dX11_uses_2 : decode cX11_uses 2 = .ok (.putfield 69, 3) := dk_181 0 69 (dk_at dksX11_uses_0 2 rfl rfl)
theorem dX11_uses_5 : decode cX11_uses 5 = .ok (.aload_n 0, 1) := dk_42 (dk_at dksX11_uses_0 5 rfl rfl)
theorem dX11_uses_6 : decode cX11_uses 6 = .ok (.iload_n 1, 1) := dk_27 (dk_at dksX11_uses_0 6 rfl rfl)
theorem dX11_uses_7 : decode cX11_uses 7 = .ok (.invokevirtual 93, 3) := dk_182 0 93 (dk_at dksX11_uses_0 7 rfl rfl)
theorem dX11_uses_10 : decode cX11_uses 10 = .ok (.ifCond .ne 6, 3) := dk_154 0 6 (dk_at dksX11_uses_0 10 rfl rfl)
theorem dX11_uses_13 : decode cX11_uses 13 = .ok (.bipush (-2), 2) := dk_16 254 (dk_at dksX11_uses_0 13 rfl rfl)
theorem dX11_uses_15 : decode cX11_uses 15 = .ok (.ireturn, 1) := dk_172 (dk_at dksX11_uses_0 15 rfl rfl)
theorem dX11_uses_16 : decode cX11_uses 16 = .ok (.iload_n 2, 1) := dk_28 (dk_at dksX11_uses_0 16 rfl rfl)
theorem dX11_uses_17 : decode cX11_uses 17 = .ok (.ifCond .lt 19, 3) := dk_155 0 19 (dk_at dksX11_uses_0 17 rfl rfl)
theorem dX11_uses_20 : decode cX11_uses 20 = .ok (.iload_n 2, 1) := dk_28 (dk_at dksX11_uses_0 20 rfl rfl)
theorem dX11_uses_21 : decode cX11_uses 21 = .ok (.iconst 3, 1) := dk_6 (dk_at dksX11_uses_0 21 rfl rfl)
theorem dX11_uses_22 : decode cX11_uses 22 = .ok (.if_icmp .gt 14, 3) := dk_163 0 14 (dk_at dksX11_uses_1 0 rfl rfl)
theorem dX11_uses_25 : decode cX11_uses 25 = .ok (.iload_n 3, 1) := dk_29 (dk_at dksX11_uses_1 3 rfl rfl)
theorem dX11_uses_26 : decode cX11_uses 26 = .ok (.ifCond .lt 10, 3) := dk_155 0 10 (dk_at dksX11_uses_1 4 rfl rfl)
theorem dX11_uses_29 : decode cX11_uses 29 = .ok (.iload_n 3, 1) := dk_29 (dk_at dksX11_uses_1 7 rfl rfl)
theorem dX11_uses_30 : decode cX11_uses 30 = .ok (.sipush 1000, 3) := dk_17 3 232 (dk_at dksX11_uses_1 8 rfl rfl)
theorem dX11_uses_33 : decode cX11_uses 33 = .ok (.if_icmp .le 6, 3) := dk_164 0 6 (dk_at dksX11_uses_1 11 rfl rfl)
theorem dX11_uses_36 : decode cX11_uses 36 = .ok (.bipush (-4), 2) := dk_16 252 (dk_at dksX11_uses_1 14 rfl rfl)
theorem dX11_uses_38 : decode cX11_uses 38 = .ok (.ireturn, 1) := dk_172 (dk_at dksX11_uses_1 16 rfl rfl)
theorem dX11_uses_39 : decode cX11_uses 39 = .ok (.aload_n 0, 1) := dk_42 (dk_at dksX11_uses_1 17 rfl rfl)
theorem dX11_uses_40 : decode cX11_uses 40 = .ok (.getfield 44, 3) := dk_180 0 44 (dk_at dksX11_uses_1 18 rfl rfl)
theorem dX11_uses_43 : decode cX11_uses 43 = .ok (.iload_n 1, 1) := dk_27 (dk_at dksX11_uses_1 21 rfl rfl)
theorem dX11_uses_44 : decode cX11_uses 44 = .ok (.iconst 1, 1) := dk_4 (dk_at dksX11_uses_1 22 rfl rfl)
theorem dX11_uses_45 : decode cX11_uses 45 = .ok (.isub, 1) := dk_100 (dk_at dksX11_uses_1 23 rfl rfl)
theorem dX11_uses_46 : decode cX11_uses 46 = .ok (.iaload, 1) := dk_46 (dk_at dksX11_uses_2 0 rfl rfl)
theorem dX11_uses_47 : decode cX11_uses 47 = .ok (.ifCond .eq 6, 3) := dk_153 0 6 (dk_at dksX11_uses_2 1 rfl rfl)
theorem dX11_uses_50 : decode cX11_uses 50 = .ok (.bipush (-5), 2) := dk_16 251 (dk_at dksX11_uses_2 4 rfl rfl)
theorem dX11_uses_52 : decode cX11_uses 52 = .ok (.ireturn, 1) := dk_172 (dk_at dksX11_uses_2 6 rfl rfl)
theorem dX11_uses_53 : decode cX11_uses 53 = .ok (.aload_n 0, 1) := dk_42 (dk_at dksX11_uses_2 7 rfl rfl)
theorem dX11_uses_54 : decode cX11_uses 54 = .ok (.getfield 47, 3) := dk_180 0 47 (dk_at dksX11_uses_2 8 rfl rfl)
theorem dX11_uses_57 : decode cX11_uses 57 = .ok (.iconst 4, 1) := dk_7 (dk_at dksX11_uses_2 11 rfl rfl)
theorem dX11_uses_58 : decode cX11_uses 58 = .ok (.iload_n 1, 1) := dk_27 (dk_at dksX11_uses_2 12 rfl rfl)
theorem dX11_uses_59 : decode cX11_uses 59 = .ok (.imul, 1) := dk_104 (dk_at dksX11_uses_2 13 rfl rfl)
theorem dX11_uses_60 : decode cX11_uses 60 = .ok (.iconst 4, 1) := dk_7 (dk_at dksX11_uses_2 14 rfl rfl)
theorem dX11_uses_61 : decode cX11_uses 61 = .ok (.isub, 1) := dk_100 (dk_at dksX11_uses_2 15 rfl rfl)
theorem dX11_uses_62 : decode cX11_uses 62 = .ok (.iload_n 2, 1) := dk_28 (dk_at dksX11_uses_2 16 rfl rfl)
theorem dX11_uses_63 : decode cX11_uses 63 = .ok (.iadd, 1) := dk_96 (dk_at dksX11_uses_2 17 rfl rfl)
theorem dX11_uses_64 : decode cX11_uses 64 = .ok (.iload_n 3, 1) := dk_29 (dk_at dksX11_uses_2 18 rfl rfl)
theorem dX11_uses_65 : decode cX11_uses 65 = .ok (.iastore, 1) := dk_79 (dk_at dksX11_uses_2 19 rfl rfl)
theorem dX11_uses_66 : decode cX11_uses 66 = .ok (.iconst 1, 1) := dk_4 (dk_at dksX11_uses_2 20 rfl rfl)
theorem dX11_uses_67 : decode cX11_uses 67 = .ok (.ireturn, 1) := dk_172 (dk_at dksX11_uses_2 21 rfl rfl)
abbrev cX11_alone : ByteArray := prog_16_method_16_code
def yX11_alone : MethodName := ⟨RX11, "alone", "(I)I"⟩
def dkwX11_alone_1 : List UInt8 := [153, 0, 6, 16, 251, 172, 42, 180, 0, 53, 27, 4, 100, 4, 84, 4, 172]
abbrev dktX11_alone_1 : List UInt8 := dkwX11_alone_1 ++ []
def dkwX11_alone_0 : List UInt8 := [42, 3, 181, 0, 69, 42, 27, 182, 0, 93, 154, 0, 6, 16, 254, 172, 42, 180, 0, 44, 27, 4, 100, 46]
abbrev dktX11_alone_0 : List UInt8 := dkwX11_alone_0 ++ dktX11_alone_1
theorem dksX11_alone_0 : cX11_alone.data.toList.drop 0 = dktX11_alone_0 := by decide +kernel
theorem dksX11_alone_1 : cX11_alone.data.toList.drop 24 = dktX11_alone_1 := dk_seg dksX11_alone_0 24 rfl rfl
theorem dX11_alone_0 : decode cX11_alone 0 = .ok (.aload_n 0, 1) := dk_42 (dk_at dksX11_alone_0 0 rfl rfl)
theorem dX11_alone_1 : decode cX11_alone 1 = .ok (.iconst 0, 1) := dk_3 (dk_at dksX11_alone_0 1 rfl rfl)
theorem dX11_alone_2 : decode cX11_alone 2 = .ok (.putfield 69, 3) := dk_181 0 69 (dk_at dksX11_alone_0 2 rfl rfl)
theorem dX11_alone_5 : decode cX11_alone 5 = .ok (.aload_n 0, 1) := dk_42 (dk_at dksX11_alone_0 5 rfl rfl)
theorem dX11_alone_6 : decode cX11_alone 6 = .ok (.iload_n 1, 1) := dk_27 (dk_at dksX11_alone_0 6 rfl rfl)
theorem dX11_alone_7 : decode cX11_alone 7 = .ok (.invokevirtual 93, 3) := dk_182 0 93 (dk_at dksX11_alone_0 7 rfl rfl)
theorem dX11_alone_10 : decode cX11_alone 10 = .ok (.ifCond .ne 6, 3) := dk_154 0 6 (dk_at dksX11_alone_0 10 rfl rfl)
theorem dX11_alone_13 : decode cX11_alone 13 = .ok (.bipush (-2), 2) := dk_16 254 (dk_at dksX11_alone_0 13 rfl rfl)
theorem dX11_alone_15 : decode cX11_alone 15 = .ok (.ireturn, 1) := dk_172 (dk_at dksX11_alone_0 15 rfl rfl)
theorem dX11_alone_16 : decode cX11_alone 16 = .ok (.aload_n 0, 1) := dk_42 (dk_at dksX11_alone_0 16 rfl rfl)
theorem dX11_alone_17 : decode cX11_alone 17 = .ok (.getfield 44, 3) := dk_180 0 44 (dk_at dksX11_alone_0 17 rfl rfl)
theorem dX11_alone_20 : decode cX11_alone 20 = .ok (.iload_n 1, 1) := dk_27 (dk_at dksX11_alone_0 20 rfl rfl)
theorem dX11_alone_21 : decode cX11_alone 21 = .ok (.iconst 1, 1) := dk_4 (dk_at dksX11_alone_0 21 rfl rfl)
theorem dX11_alone_22 : decode cX11_alone 22 = .ok (.isub, 1) := dk_100 (dk_at dksX11_alone_0 22 rfl rfl)
theorem dX11_alone_23 : decode cX11_alone 23 = .ok (.iaload, 1) := dk_46 (dk_at dksX11_alone_0 23 rfl rfl)
theorem dX11_alone_24 : decode cX11_alone 24 = .ok (.ifCond .eq 6, 3) := dk_153 0 6 (dk_at dksX11_alone_1 0 rfl rfl)
theorem dX11_alone_27 : decode cX11_alone 27 = .ok (.bipush (-5), 2) := dk_16 251 (dk_at dksX11_alone_1 3 rfl rfl)
theorem dX11_alone_29 : decode cX11_alone 29 = .ok (.ireturn, 1) := dk_172 (dk_at dksX11_alone_1 5 rfl rfl)
theorem dX11_alone_30 : decode cX11_alone 30 = .ok (.aload_n 0, 1) := dk_42 (dk_at dksX11_alone_1 6 rfl rfl)
theorem dX11_alone_31 : decode cX11_alone 31 = .ok (.getfield 53, 3) := dk_180 0 53 (dk_at dksX11_alone_1 7 rfl rfl)
theorem dX11_alone_34 : decode cX11_alone 34 = .ok (.iload_n 1, 1) := dk_27 (dk_at dksX11_alone_1 10 rfl rfl)
theorem dX11_alone_35 : decode cX11_alone 35 = .ok (.iconst 1, 1) := dk_4 (dk_at dksX11_alone_1 11 rfl rfl)
theorem dX11_alone_36 : decode cX11_alone 36 = .ok (.isub, 1) := dk_100 (dk_at dksX11_alone_1 12 rfl rfl)
theorem dX11_alone_37 : decode cX11_alone 37 = .ok (.iconst 1, 1) := dk_4 (dk_at dksX11_alone_1 13 rfl rfl)
theorem dX11_alone_38 : decode cX11_alone 38 = .ok (.bastore, 1) := dk_84 (dk_at dksX11_alone_1 14 rfl rfl)
theorem dX11_alone_39 : decode cX11_alone 39 = .ok (.iconst 1, 1) := dk_4 (dk_at dksX11_alone_1 15 rfl rfl)
theorem dX11_alone_40 : decode cX11_alone 40 = .ok (.ireturn, 1) := dk_172 (dk_at dksX11_alone_1 16 rfl rfl)
abbrev cX11_hold : ByteArray := prog_16_method_17_code
def yX11_hold : MethodName := ⟨RX11, "hold", "(IZ)I"⟩
def dkwX11_hold_2 : List UInt8 := [29, 28, 160, 0, 7, 3, 167, 0, 4, 4, 172]
abbrev dktX11_hold_2 : List UInt8 := dkwX11_hold_2 ++ []
def dkwX11_hold_1 : List UInt8 := [153, 0, 6, 16, 251, 172, 42, 180, 0, 50, 27, 4, 100, 51, 62, 42, 180, 0, 50, 27, 4, 100, 28, 84]
abbrev dktX11_hold_1 : List UInt8 := dkwX11_hold_1 ++ dktX11_hold_2
def dkwX11_hold_0 : List UInt8 := [42, 3, 181, 0, 69, 42, 27, 182, 0, 93, 154, 0, 6, 16, 254, 172, 42, 180, 0, 44, 27, 4, 100, 46]
abbrev dktX11_hold_0 : List UInt8 := dkwX11_hold_0 ++ dktX11_hold_1
theorem dksX11_hold_0 : cX11_hold.data.toList.drop 0 = dktX11_hold_0 := by decide +kernel
theorem dksX11_hold_1 : cX11_hold.data.toList.drop 24 = dktX11_hold_1 := dk_seg dksX11_hold_0 24 rfl rfl
theorem dksX11_hold_2 : cX11_hold.data.toList.drop 48 = dktX11_hold_2 := dk_seg dksX11_hold_1 24 rfl rfl
theorem dX11_hold_0 : decode cX11_hold 0 = .ok (.aload_n 0, 1) := dk_42 (dk_at dksX11_hold_0 0 rfl rfl)
theorem dX11_hold_1 : decode cX11_hold 1 = .ok (.iconst 0, 1) := dk_3 (dk_at dksX11_hold_0 1 rfl rfl)
theorem dX11_hold_2 : decode cX11_hold 2 = .ok (.putfield 69, 3) := dk_181 0 69 (dk_at dksX11_hold_0 2 rfl rfl)
theorem dX11_hold_5 : decode cX11_hold 5 = .ok (.aload_n 0, 1) := dk_42 (dk_at dksX11_hold_0 5 rfl rfl)
theorem dX11_hold_6 : decode cX11_hold 6 = .ok (.iload_n 1, 1) := dk_27 (dk_at dksX11_hold_0 6 rfl rfl)
theorem dX11_hold_7 : decode cX11_hold 7 = .ok (.invokevirtual 93, 3) := dk_182 0 93 (dk_at dksX11_hold_0 7 rfl rfl)
theorem dX11_hold_10 : decode cX11_hold 10 = .ok (.ifCond .ne 6, 3) := dk_154 0 6 (dk_at dksX11_hold_0 10 rfl rfl)
theorem dX11_hold_13 : decode cX11_hold 13 = .ok (.bipush (-2), 2) := dk_16 254 (dk_at dksX11_hold_0 13 rfl rfl)
theorem dX11_hold_15 : decode cX11_hold 15 = .ok (.ireturn, 1) := dk_172 (dk_at dksX11_hold_0 15 rfl rfl)
theorem dX11_hold_16 : decode cX11_hold 16 = .ok (.aload_n 0, 1) := dk_42 (dk_at dksX11_hold_0 16 rfl rfl)
theorem dX11_hold_17 : decode cX11_hold 17 = .ok (.getfield 44, 3) := dk_180 0 44 (dk_at dksX11_hold_0 17 rfl rfl)
theorem dX11_hold_20 : decode cX11_hold 20 = .ok (.iload_n 1, 1) := dk_27 (dk_at dksX11_hold_0 20 rfl rfl)
theorem dX11_hold_21 : decode cX11_hold 21 = .ok (.iconst 1, 1) := dk_4 (dk_at dksX11_hold_0 21 rfl rfl)
theorem dX11_hold_22 : decode cX11_hold 22 = .ok (.isub, 1) := dk_100 (dk_at dksX11_hold_0 22 rfl rfl)
theorem dX11_hold_23 : decode cX11_hold 23 = .ok (.iaload, 1) := dk_46 (dk_at dksX11_hold_0 23 rfl rfl)
theorem dX11_hold_24 : decode cX11_hold 24 = .ok (.ifCond .eq 6, 3) := dk_153 0 6 (dk_at dksX11_hold_1 0 rfl rfl)
theorem dX11_hold_27 : decode cX11_hold 27 = .ok (.bipush (-5), 2) := dk_16 251 (dk_at dksX11_hold_1 3 rfl rfl)
theorem dX11_hold_29 : decode cX11_hold 29 = .ok (.ireturn, 1) := dk_172 (dk_at dksX11_hold_1 5 rfl rfl)
theorem dX11_hold_30 : decode cX11_hold 30 = .ok (.aload_n 0, 1) := dk_42 (dk_at dksX11_hold_1 6 rfl rfl)
theorem dX11_hold_31 : decode cX11_hold 31 = .ok (.getfield 50, 3) := dk_180 0 50 (dk_at dksX11_hold_1 7 rfl rfl)
theorem dX11_hold_34 : decode cX11_hold 34 = .ok (.iload_n 1, 1) := dk_27 (dk_at dksX11_hold_1 10 rfl rfl)
theorem dX11_hold_35 : decode cX11_hold 35 = .ok (.iconst 1, 1) := dk_4 (dk_at dksX11_hold_1 11 rfl rfl)
theorem dX11_hold_36 : decode cX11_hold 36 = .ok (.isub, 1) := dk_100 (dk_at dksX11_hold_1 12 rfl rfl)
theorem dX11_hold_37 : decode cX11_hold 37 = .ok (.baload, 1) := dk_51 (dk_at dksX11_hold_1 13 rfl rfl)
theorem dX11_hold_38 : decode cX11_hold 38 = .ok (.istore_n 3, 1) := dk_62 (dk_at dksX11_hold_1 14 rfl rfl)
theorem dX11_hold_39 : decode cX11_hold 39 = .ok (.aload_n 0, 1) := dk_42 (dk_at dksX11_hold_1 15 rfl rfl)
theorem dX11_hold_40 : decode cX11_hold 40 = .ok (.getfield 50, 3) := dk_180 0 50 (dk_at dksX11_hold_1 16 rfl rfl)
theorem dX11_hold_43 : decode cX11_hold 43 = .ok (.iload_n 1, 1) := dk_27 (dk_at dksX11_hold_1 19 rfl rfl)
theorem dX11_hold_44 : decode cX11_hold 44 = .ok (.iconst 1, 1) := dk_4 (dk_at dksX11_hold_1 20 rfl rfl)
theorem dX11_hold_45 : decode cX11_hold 45 = .ok (.isub, 1) := dk_100 (dk_at dksX11_hold_1 21 rfl rfl)
theorem dX11_hold_46 : decode cX11_hold 46 = .ok (.iload_n 2, 1) := dk_28 (dk_at dksX11_hold_1 22 rfl rfl)
theorem dX11_hold_47 : decode cX11_hold 47 = .ok (.bastore, 1) := dk_84 (dk_at dksX11_hold_1 23 rfl rfl)
theorem dX11_hold_48 : decode cX11_hold 48 = .ok (.iload_n 3, 1) := dk_29 (dk_at dksX11_hold_2 0 rfl rfl)
theorem dX11_hold_49 : decode cX11_hold 49 = .ok (.iload_n 2, 1) := dk_28 (dk_at dksX11_hold_2 1 rfl rfl)
theorem dX11_hold_50 : decode cX11_hold 50 = .ok (.if_icmp .ne 7, 3) := dk_160 0 7 (dk_at dksX11_hold_2 2 rfl rfl)
theorem dX11_hold_53 : decode cX11_hold 53 = .ok (.iconst 0, 1) := dk_3 (dk_at dksX11_hold_2 5 rfl rfl)
theorem dX11_hold_54 : decode cX11_hold 54 = .ok (.goto 4, 3) := dk_167 0 4 (dk_at dksX11_hold_2 6 rfl rfl)
theorem dX11_hold_57 : decode cX11_hold 57 = .ok (.iconst 1, 1) := dk_4 (dk_at dksX11_hold_2 9 rfl rfl)
theorem dX11_hold_58 : decode cX11_hold 58 = .ok (.ireturn, 1) := dk_172 (dk_at dksX11_hold_2 10 rfl rfl)
abbrev cX11_next : ByteArray := prog_16_method_23_code
def yX11_next : MethodName := ⟨RX11, "next", "(IJ)I"⟩
def dkwX11_next_8 : List UInt8 := [180, 0, 66, 21, 5, 42, 180, 0, 89, 80, 21, 5, 4, 96, 172]
abbrev dktX11_next_8 : List UInt8 := dkwX11_next_8 ++ []
def dkwX11_next_7 : List UInt8 := [2, 160, 0, 5, 3, 172, 42, 180, 0, 13, 21, 4, 21, 5, 79, 42, 180, 0, 44, 21, 5, 5, 79, 42]
abbrev dktX11_next_7 : List UInt8 := dkwX11_next_7 ++ dktX11_next_8
def dkwX11_next_6 : List UInt8 := [182, 0, 124, 153, 0, 7, 21, 7, 54, 5, 132, 7, 1, 167, 255, 191, 132, 6, 1, 167, 255, 169, 21, 5]
abbrev dktX11_next_6 : List UInt8 := dkwX11_next_6 ++ dktX11_next_7
def dkwX11_next_5 : List UInt8 := [160, 0, 33, 42, 21, 7, 182, 0, 121, 153, 0, 24, 21, 5, 2, 159, 0, 14, 42, 21, 7, 21, 5]
abbrev dktX11_next_5 : List UInt8 := dkwX11_next_5 ++ dktX11_next_6
def dkwX11_next_4 : List UInt8 := [162, 0, 62, 42, 180, 0, 35, 21, 7, 46, 42, 180, 0, 7, 16, 8, 21, 4, 104, 21, 6, 96, 46]
abbrev dktX11_next_4 : List UInt8 := dkwX11_next_4 ++ dktX11_next_5
def dkwX11_next_3 : List UInt8 := [21, 6, 16, 8, 162, 0, 86, 21, 5, 2, 160, 0, 80, 3, 54, 7, 21, 7, 42, 180, 0, 76]
abbrev dktX11_next_3 : List UInt8 := dkwX11_next_3 ++ dktX11_next_4
def dkwX11_next_2 : List UInt8 := [180, 0, 13, 21, 4, 46, 2, 159, 0, 6, 16, 251, 172, 42, 32, 181, 0, 89, 2, 54, 5, 3, 54, 6]
abbrev dktX11_next_2 : List UInt8 := dkwX11_next_2 ++ dktX11_next_3
def dkwX11_next_1 : List UInt8 := [156, 0, 6, 16, 252, 172, 27, 4, 100, 54, 4, 42, 180, 0, 16, 21, 4, 51, 154, 0, 14, 42]
abbrev dktX11_next_1 : List UInt8 := dkwX11_next_1 ++ dktX11_next_2
def dkwX11_next_0 : List UInt8 := [42, 3, 181, 0, 69, 42, 27, 182, 0, 79, 154, 0, 6, 16, 254, 172, 32, 42, 180, 0, 89, 148]
abbrev dktX11_next_0 : List UInt8 := dkwX11_next_0 ++ dktX11_next_1
theorem dksX11_next_0 : cX11_next.data.toList.drop 0 = dktX11_next_0 := by decide +kernel
theorem dksX11_next_1 : cX11_next.data.toList.drop 22 = dktX11_next_1 := dk_seg dksX11_next_0 22 rfl rfl
theorem dksX11_next_2 : cX11_next.data.toList.drop 44 = dktX11_next_2 := dk_seg dksX11_next_1 22 rfl rfl
theorem dksX11_next_3 : cX11_next.data.toList.drop 68 = dktX11_next_3 := dk_seg dksX11_next_2 24 rfl rfl
theorem dksX11_next_4 : cX11_next.data.toList.drop 90 = dktX11_next_4 := dk_seg dksX11_next_3 22 rfl rfl
theorem dksX11_next_5 : cX11_next.data.toList.drop 113 = dktX11_next_5 := dk_seg dksX11_next_4 23 rfl rfl
theorem dksX11_next_6 : cX11_next.data.toList.drop 136 = dktX11_next_6 := dk_seg dksX11_next_5 23 rfl rfl
theorem dksX11_next_7 : cX11_next.data.toList.drop 160 = dktX11_next_7 := dk_seg dksX11_next_6 24 rfl rfl
theorem dksX11_next_8 : cX11_next.data.toList.drop 184 = dktX11_next_8 := dk_seg dksX11_next_7 24 rfl rfl
theorem dX11_next_0 : decode cX11_next 0 = .ok (.aload_n 0, 1) := dk_42 (dk_at dksX11_next_0 0 rfl rfl)
theorem dX11_next_1 : decode cX11_next 1 = .ok (.iconst 0, 1) := dk_3 (dk_at dksX11_next_0 1 rfl rfl)
theorem dX11_next_2 : decode cX11_next 2 = .ok (.putfield 69, 3) := dk_181 0 69 (dk_at dksX11_next_0 2 rfl rfl)
theorem dX11_next_5 : decode cX11_next 5 = .ok (.aload_n 0, 1) := dk_42 (dk_at dksX11_next_0 5 rfl rfl)
theorem dX11_next_6 : decode cX11_next 6 = .ok (.iload_n 1, 1) := dk_27 (dk_at dksX11_next_0 6 rfl rfl)
theorem dX11_next_7 : decode cX11_next 7 = .ok (.invokevirtual 79, 3) := dk_182 0 79 (dk_at dksX11_next_0 7 rfl rfl)
theorem dX11_next_10 : decode cX11_next 10 = .ok (.ifCond .ne 6, 3) := dk_154 0 6 (dk_at dksX11_next_0 10 rfl rfl)
theorem dX11_next_13 : decode cX11_next 13 = .ok (.bipush (-2), 2) := dk_16 254 (dk_at dksX11_next_0 13 rfl rfl)
theorem dX11_next_15 : decode cX11_next 15 = .ok (.ireturn, 1) := dk_172 (dk_at dksX11_next_0 15 rfl rfl)
theorem dX11_next_16 : decode cX11_next 16 = .ok (.lload_n 2, 1) := dk_32 (dk_at dksX11_next_0 16 rfl rfl)
theorem dX11_next_17 : decode cX11_next 17 = .ok (.aload_n 0, 1) := dk_42 (dk_at dksX11_next_0 17 rfl rfl)
theorem dX11_next_18 : decode cX11_next 18 = .ok (.getfield 89, 3) := dk_180 0 89 (dk_at dksX11_next_0 18 rfl rfl)
theorem dX11_next_21 : decode cX11_next 21 = .ok (.lcmp, 1) := dk_148 (dk_at dksX11_next_0 21 rfl rfl)
theorem dX11_next_22 : decode cX11_next 22 = .ok (.ifCond .ge 6, 3) := dk_156 0 6 (dk_at dksX11_next_1 0 rfl rfl)
theorem dX11_next_25 : decode cX11_next 25 = .ok (.bipush (-4), 2) := dk_16 252 (dk_at dksX11_next_1 3 rfl rfl)
theorem dX11_next_27 : decode cX11_next 27 = .ok (.ireturn, 1) := dk_172 (dk_at dksX11_next_1 5 rfl rfl)
theorem dX11_next_28 : decode cX11_next 28 = .ok (.iload_n 1, 1) := dk_27 (dk_at dksX11_next_1 6 rfl rfl)
theorem dX11_next_29 : decode cX11_next 29 = .ok (.iconst 1, 1) := dk_4 (dk_at dksX11_next_1 7 rfl rfl)
theorem dX11_next_30 : decode cX11_next 30 = .ok (.isub, 1) := dk_100 (dk_at dksX11_next_1 8 rfl rfl)
theorem dX11_next_31 : decode cX11_next 31 = .ok (.istore 4, 2) := dk_54 4 (dk_at dksX11_next_1 9 rfl rfl)
theorem dX11_next_33 : decode cX11_next 33 = .ok (.aload_n 0, 1) := dk_42 (dk_at dksX11_next_1 11 rfl rfl)
theorem dX11_next_34 : decode cX11_next 34 = .ok (.getfield 16, 3) := dk_180 0 16 (dk_at dksX11_next_1 12 rfl rfl)
theorem dX11_next_37 : decode cX11_next 37 = .ok (.iload 4, 2) := dk_21 4 (dk_at dksX11_next_1 15 rfl rfl)
theorem dX11_next_39 : decode cX11_next 39 = .ok (.baload, 1) := dk_51 (dk_at dksX11_next_1 17 rfl rfl)
theorem dX11_next_40 : decode cX11_next 40 = .ok (.ifCond .ne 14, 3) := dk_154 0 14 (dk_at dksX11_next_1 18 rfl rfl)
theorem dX11_next_43 : decode cX11_next 43 = .ok (.aload_n 0, 1) := dk_42 (dk_at dksX11_next_1 21 rfl rfl)
theorem dX11_next_44 : decode cX11_next 44 = .ok (.getfield 13, 3) := dk_180 0 13 (dk_at dksX11_next_2 0 rfl rfl)
theorem dX11_next_47 : decode cX11_next 47 = .ok (.iload 4, 2) := dk_21 4 (dk_at dksX11_next_2 3 rfl rfl)
theorem dX11_next_49 : decode cX11_next 49 = .ok (.iaload, 1) := dk_46 (dk_at dksX11_next_2 5 rfl rfl)
theorem dX11_next_50 : decode cX11_next 50 = .ok (.iconst (-1), 1) := dk_2 (dk_at dksX11_next_2 6 rfl rfl)
theorem dX11_next_51 : decode cX11_next 51 = .ok (.if_icmp .eq 6, 3) := dk_159 0 6 (dk_at dksX11_next_2 7 rfl rfl)
theorem dX11_next_54 : decode cX11_next 54 = .ok (.bipush (-5), 2) := dk_16 251 (dk_at dksX11_next_2 10 rfl rfl)
theorem dX11_next_56 : decode cX11_next 56 = .ok (.ireturn, 1) := dk_172 (dk_at dksX11_next_2 12 rfl rfl)
theorem dX11_next_57 : decode cX11_next 57 = .ok (.aload_n 0, 1) := dk_42 (dk_at dksX11_next_2 13 rfl rfl)
theorem dX11_next_58 : decode cX11_next 58 = .ok (.lload_n 2, 1) := dk_32 (dk_at dksX11_next_2 14 rfl rfl)
theorem dX11_next_59 : decode cX11_next 59 = .ok (.putfield 89, 3) := dk_181 0 89 (dk_at dksX11_next_2 15 rfl rfl)
theorem dX11_next_62 : decode cX11_next 62 = .ok (.iconst (-1), 1) := dk_2 (dk_at dksX11_next_2 18 rfl rfl)
theorem dX11_next_63 : decode cX11_next 63 = .ok (.istore 5, 2) := dk_54 5 (dk_at dksX11_next_2 19 rfl rfl)
theorem dX11_next_65 : decode cX11_next 65 = .ok (.iconst 0, 1) := dk_3 (dk_at dksX11_next_2 21 rfl rfl)
theorem dX11_next_66 : decode cX11_next 66 = .ok (.istore 6, 2) := dk_54 6 (dk_at dksX11_next_2 22 rfl rfl)
theorem dX11_next_68 : decode cX11_next 68 = .ok (.iload 6, 2) := dk_21 6 (dk_at dksX11_next_3 0 rfl rfl)
theorem dX11_next_70 : decode cX11_next 70 = .ok (.bipush 8, 2) := dk_16 8 (dk_at dksX11_next_3 2 rfl rfl)
theorem dX11_next_72 : decode cX11_next 72 = .ok (.if_icmp .ge 86, 3) := dk_162 0 86 (dk_at dksX11_next_3 4 rfl rfl)
theorem dX11_next_75 : decode cX11_next 75 = .ok (.iload 5, 2) := dk_21 5 (dk_at dksX11_next_3 7 rfl rfl)
theorem dX11_next_77 : decode cX11_next 77 = .ok (.iconst (-1), 1) := dk_2 (dk_at dksX11_next_3 9 rfl rfl)
theorem dX11_next_78 : decode cX11_next 78 = .ok (.if_icmp .ne 80, 3) := dk_160 0 80 (dk_at dksX11_next_3 10 rfl rfl)
theorem dX11_next_81 : decode cX11_next 81 = .ok (.iconst 0, 1) := dk_3 (dk_at dksX11_next_3 13 rfl rfl)
theorem dX11_next_82 : decode cX11_next 82 = .ok (.istore 7, 2) := dk_54 7 (dk_at dksX11_next_3 14 rfl rfl)
theorem dX11_next_84 : decode cX11_next 84 = .ok (.iload 7, 2) := dk_21 7 (dk_at dksX11_next_3 16 rfl rfl)
theorem dX11_next_86 : decode cX11_next 86 = .ok (.aload_n 0, 1) := dk_42 (dk_at dksX11_next_3 18 rfl rfl)
theorem dX11_next_87 : decode cX11_next 87 = .ok (.getfield 76, 3) := dk_180 0 76 (dk_at dksX11_next_3 19 rfl rfl)
theorem dX11_next_90 : decode cX11_next 90 = .ok (.if_icmp .ge 62, 3) := dk_162 0 62 (dk_at dksX11_next_4 0 rfl rfl)
theorem dX11_next_93 : decode cX11_next 93 = .ok (.aload_n 0, 1) := dk_42 (dk_at dksX11_next_4 3 rfl rfl)
theorem dX11_next_94 : decode cX11_next 94 = .ok (.getfield 35, 3) := dk_180 0 35 (dk_at dksX11_next_4 4 rfl rfl)
theorem dX11_next_97 : decode cX11_next 97 = .ok (.iload 7, 2) := dk_21 7 (dk_at dksX11_next_4 7 rfl rfl)
theorem dX11_next_99 : decode cX11_next 99 = .ok (.iaload, 1) := dk_46 (dk_at dksX11_next_4 9 rfl rfl)
theorem dX11_next_100 : decode cX11_next 100 = .ok (.aload_n 0, 1) := dk_42 (dk_at dksX11_next_4 10 rfl rfl)
theorem dX11_next_101 : decode cX11_next 101 = .ok (.getfield 7, 3) := dk_180 0 7 (dk_at dksX11_next_4 11 rfl rfl)
theorem dX11_next_104 : decode cX11_next 104 = .ok (.bipush 8, 2) := dk_16 8 (dk_at dksX11_next_4 14 rfl rfl)
theorem dX11_next_106 : decode cX11_next 106 = .ok (.iload 4, 2) := dk_21 4 (dk_at dksX11_next_4 16 rfl rfl)
theorem dX11_next_108 : decode cX11_next 108 = .ok (.imul, 1) := dk_104 (dk_at dksX11_next_4 18 rfl rfl)
theorem dX11_next_109 : decode cX11_next 109 = .ok (.iload 6, 2) := dk_21 6 (dk_at dksX11_next_4 19 rfl rfl)
theorem dX11_next_111 : decode cX11_next 111 = .ok (.iadd, 1) := dk_96 (dk_at dksX11_next_4 21 rfl rfl)
theorem dX11_next_112 : decode cX11_next 112 = .ok (.iaload, 1) := dk_46 (dk_at dksX11_next_4 22 rfl rfl)
theorem dX11_next_113 : decode cX11_next 113 = .ok (.if_icmp .ne 33, 3) := dk_160 0 33 (dk_at dksX11_next_5 0 rfl rfl)
theorem dX11_next_116 : decode cX11_next 116 = .ok (.aload_n 0, 1) := dk_42 (dk_at dksX11_next_5 3 rfl rfl)
theorem dX11_next_117 : decode cX11_next 117 = .ok (.iload 7, 2) := dk_21 7 (dk_at dksX11_next_5 4 rfl rfl)
theorem dX11_next_119 : decode cX11_next 119 = .ok (.invokevirtual 121, 3) := dk_182 0 121 (dk_at dksX11_next_5 6 rfl rfl)
theorem dX11_next_122 : decode cX11_next 122 = .ok (.ifCond .eq 24, 3) := dk_153 0 24 (dk_at dksX11_next_5 9 rfl rfl)
theorem dX11_next_125 : decode cX11_next 125 = .ok (.iload 5, 2) := dk_21 5 (dk_at dksX11_next_5 12 rfl rfl)
theorem dX11_next_127 : decode cX11_next 127 = .ok (.iconst (-1), 1) := dk_2 (dk_at dksX11_next_5 14 rfl rfl)
theorem dX11_next_128 : decode cX11_next 128 = .ok (.if_icmp .eq 14, 3) := dk_159 0 14 (dk_at dksX11_next_5 15 rfl rfl)
theorem dX11_next_131 : decode cX11_next 131 = .ok (.aload_n 0, 1) := dk_42 (dk_at dksX11_next_5 18 rfl rfl)
theorem dX11_next_132 : decode cX11_next 132 = .ok (.iload 7, 2) := dk_21 7 (dk_at dksX11_next_5 19 rfl rfl)
theorem dX11_next_134 : decode cX11_next 134 = .ok (.iload 5, 2) := dk_21 5 (dk_at dksX11_next_5 21 rfl rfl)
theorem dX11_next_136 : decode cX11_next 136 = .ok (.invokevirtual 124, 3) := dk_182 0 124 (dk_at dksX11_next_6 0 rfl rfl)
theorem dX11_next_139 : decode cX11_next 139 = .ok (.ifCond .eq 7, 3) := dk_153 0 7 (dk_at dksX11_next_6 3 rfl rfl)
theorem dX11_next_142 : decode cX11_next 142 = .ok (.iload 7, 2) := dk_21 7 (dk_at dksX11_next_6 6 rfl rfl)
theorem dX11_next_144 : decode cX11_next 144 = .ok (.istore 5, 2) := dk_54 5 (dk_at dksX11_next_6 8 rfl rfl)
theorem dX11_next_146 : decode cX11_next 146 = .ok (.iinc 7 1, 3) := dk_132 7 1 (dk_at dksX11_next_6 10 rfl rfl)
theorem dX11_next_149 : decode cX11_next 149 = .ok (.goto (-65), 3) := dk_167 255 191 (dk_at dksX11_next_6 13 rfl rfl)
theorem dX11_next_152 : decode cX11_next 152 = .ok (.iinc 6 1, 3) := dk_132 6 1 (dk_at dksX11_next_6 16 rfl rfl)
theorem dX11_next_155 : decode cX11_next 155 = .ok (.goto (-87), 3) := dk_167 255 169 (dk_at dksX11_next_6 19 rfl rfl)
theorem dX11_next_158 : decode cX11_next 158 = .ok (.iload 5, 2) := dk_21 5 (dk_at dksX11_next_6 22 rfl rfl)
theorem dX11_next_160 : decode cX11_next 160 = .ok (.iconst (-1), 1) := dk_2 (dk_at dksX11_next_7 0 rfl rfl)
theorem dX11_next_161 : decode cX11_next 161 = .ok (.if_icmp .ne 5, 3) := dk_160 0 5 (dk_at dksX11_next_7 1 rfl rfl)
theorem dX11_next_164 : decode cX11_next 164 = .ok (.iconst 0, 1) := dk_3 (dk_at dksX11_next_7 4 rfl rfl)
theorem dX11_next_165 : decode cX11_next 165 = .ok (.ireturn, 1) := dk_172 (dk_at dksX11_next_7 5 rfl rfl)
theorem dX11_next_166 : decode cX11_next 166 = .ok (.aload_n 0, 1) := dk_42 (dk_at dksX11_next_7 6 rfl rfl)
theorem dX11_next_167 : decode cX11_next 167 = .ok (.getfield 13, 3) := dk_180 0 13 (dk_at dksX11_next_7 7 rfl rfl)
theorem dX11_next_170 : decode cX11_next 170 = .ok (.iload 4, 2) := dk_21 4 (dk_at dksX11_next_7 10 rfl rfl)
theorem dX11_next_172 : decode cX11_next 172 = .ok (.iload 5, 2) := dk_21 5 (dk_at dksX11_next_7 12 rfl rfl)
theorem dX11_next_174 : decode cX11_next 174 = .ok (.iastore, 1) := dk_79 (dk_at dksX11_next_7 14 rfl rfl)
theorem dX11_next_175 : decode cX11_next 175 = .ok (.aload_n 0, 1) := dk_42 (dk_at dksX11_next_7 15 rfl rfl)
theorem dX11_next_176 : decode cX11_next 176 = .ok (.getfield 44, 3) := dk_180 0 44 (dk_at dksX11_next_7 16 rfl rfl)
theorem dX11_next_179 : decode cX11_next 179 = .ok (.iload 5, 2) := dk_21 5 (dk_at dksX11_next_7 19 rfl rfl)
theorem dX11_next_181 : decode cX11_next 181 = .ok (.iconst 2, 1) := dk_5 (dk_at dksX11_next_7 21 rfl rfl)
theorem dX11_next_182 : decode cX11_next 182 = .ok (.iastore, 1) := dk_79 (dk_at dksX11_next_7 22 rfl rfl)
theorem dX11_next_183 : decode cX11_next 183 = .ok (.aload_n 0, 1) := dk_42 (dk_at dksX11_next_7 23 rfl rfl)
theorem dX11_next_184 : decode cX11_next 184 = .ok (.getfield 66, 3) := dk_180 0 66 (dk_at dksX11_next_8 0 rfl rfl)
theorem dX11_next_187 : decode cX11_next 187 = .ok (.iload 5, 2) := dk_21 5 (dk_at dksX11_next_8 3 rfl rfl)
theorem dX11_next_189 : decode cX11_next 189 = .ok (.aload_n 0, 1) := dk_42 (dk_at dksX11_next_8 5 rfl rfl)
theorem dX11_next_190 : decode cX11_next 190 = .ok (.getfield 89, 3) := dk_180 0 89 (dk_at dksX11_next_8 6 rfl rfl)
theorem dX11_next_193 : decode cX11_next 193 = .ok (.lastore, 1) := dk_80 (dk_at dksX11_next_8 9 rfl rfl)
theorem dX11_next_194 : decode cX11_next 194 = .ok (.iload 5, 2) := dk_21 5 (dk_at dksX11_next_8 10 rfl rfl)
theorem dX11_next_196 : decode cX11_next 196 = .ok (.iconst 1, 1) := dk_4 (dk_at dksX11_next_8 12 rfl rfl)
theorem dX11_next_197 : decode cX11_next 197 = .ok (.iadd, 1) := dk_96 (dk_at dksX11_next_8 13 rfl rfl)
theorem dX11_next_198 : decode cX11_next 198 = .ok (.ireturn, 1) := dk_172 (dk_at dksX11_next_8 14 rfl rfl)
abbrev cX11_mayStart : ByteArray := prog_16_method_20_code
def yX11_mayStart : MethodName := ⟨RX11, "mayStart", "(I)Z"⟩
def dkwX11_mayStart_13 : List UInt8 := [167, 0, 4, 3, 172]
abbrev dktX11_mayStart_13 : List UInt8 := dkwX11_mayStart_13 ++ []
def dkwX11_mayStart_12 : List UInt8 := [180, 0, 35, 27, 46, 46, 162, 0, 21, 42, 180, 0, 53, 27, 51, 153, 0, 8, 21, 4, 154, 0, 7, 4]
abbrev dktX11_mayStart_12 : List UInt8 := dkwX11_mayStart_12 ++ dktX11_mayStart_13
def dkwX11_mayStart_11 : List UInt8 := [167, 255, 207, 29, 153, 0, 46, 21, 5, 154, 0, 41, 21, 6, 153, 0, 36, 28, 42, 180, 0, 20, 42]
abbrev dktX11_mayStart_11 : List UInt8 := dkwX11_mayStart_11 ++ dktX11_mayStart_12
def dkwX11_mayStart_10 : List UInt8 := [182, 0, 105, 96, 42, 180, 0, 32, 21, 7, 46, 163, 0, 7, 4, 167, 0, 4, 3, 54, 6, 132, 7, 1]
abbrev dktX11_mayStart_10 : List UInt8 := dkwX11_mayStart_10 ++ dktX11_mayStart_11
def dkwX11_mayStart_9 : List UInt8 := [7, 162, 0, 49, 21, 6, 153, 0, 35, 42, 180, 0, 47, 7, 27, 104, 21, 7, 96, 46, 42, 21, 7]
abbrev dktX11_mayStart_9 : List UInt8 := dkwX11_mayStart_9 ++ dktX11_mayStart_10
def dkwX11_mayStart_8 : List UInt8 := [159, 0, 7, 4, 167, 0, 4, 3, 54, 5, 132, 6, 1, 167, 255, 101, 4, 54, 6, 3, 54, 7, 21, 7]
abbrev dktX11_mayStart_8 : List UInt8 := dkwX11_mayStart_8 ++ dktX11_mayStart_9
def dkwX11_mayStart_7 : List UInt8 := [42, 180, 0, 56, 16, 100, 27, 104, 21, 6, 96, 51, 153, 0, 18, 42, 180, 0, 44, 21, 6, 46, 6]
abbrev dktX11_mayStart_7 : List UInt8 := dkwX11_mayStart_7 ++ dktX11_mayStart_8
def dkwX11_mayStart_6 : List UInt8 := [159, 0, 17, 42, 180, 0, 53, 21, 6, 51, 154, 0, 7, 4, 167, 0, 4, 3, 62, 21, 5, 154, 0, 29]
abbrev dktX11_mayStart_6 : List UInt8 := dkwX11_mayStart_6 ++ dktX11_mayStart_7
def dkwX11_mayStart_5 : List UInt8 := [96, 61, 29, 153, 0, 38, 21, 7, 153, 0, 29, 42, 180, 0, 41, 21, 6, 46, 42, 180, 0, 41, 27, 46]
abbrev dktX11_mayStart_5 : List UInt8 := dkwX11_mayStart_5 ++ dktX11_mayStart_6
def dkwX11_mayStart_4 : List UInt8 := [153, 0, 23, 42, 180, 0, 35, 21, 6, 46, 42, 180, 0, 35, 27, 46, 160, 0, 7, 4, 167, 0, 4, 3]
abbrev dktX11_mayStart_4 : List UInt8 := dkwX11_mayStart_4 ++ dktX11_mayStart_5
def dkwX11_mayStart_3 : List UInt8 := [54, 7, 21, 4, 154, 0, 8, 21, 7, 153, 0, 7, 4, 167, 0, 4, 3, 54, 4, 28, 21, 7]
abbrev dktX11_mayStart_3 : List UInt8 := dkwX11_mayStart_3 ++ dktX11_mayStart_4
def dkwX11_mayStart_2 : List UInt8 := [42, 180, 0, 76, 162, 0, 152, 42, 180, 0, 44, 21, 6, 46, 5, 160, 0, 7, 4, 167, 0, 4, 3]
abbrev dktX11_mayStart_2 : List UInt8 := dkwX11_mayStart_2 ++ dktX11_mayStart_3
def dkwX11_mayStart_1 : List UInt8 := [46, 182, 0, 102, 154, 0, 5, 3, 172, 3, 61, 4, 62, 3, 54, 4, 3, 54, 5, 3, 54, 6, 21, 6]
abbrev dktX11_mayStart_1 : List UInt8 := dkwX11_mayStart_1 ++ dktX11_mayStart_2
def dkwX11_mayStart_0 : List UInt8 := [42, 180, 0, 44, 27, 46, 154, 0, 25, 42, 180, 0, 50, 27, 51, 154, 0, 16, 42, 42, 180, 0, 35, 27]
abbrev dktX11_mayStart_0 : List UInt8 := dkwX11_mayStart_0 ++ dktX11_mayStart_1
theorem dksX11_mayStart_0 : cX11_mayStart.data.toList.drop 0 = dktX11_mayStart_0 := by decide +kernel
theorem dksX11_mayStart_1 : cX11_mayStart.data.toList.drop 24 = dktX11_mayStart_1 := dk_seg dksX11_mayStart_0 24 rfl rfl
theorem dksX11_mayStart_2 : cX11_mayStart.data.toList.drop 48 = dktX11_mayStart_2 := dk_seg dksX11_mayStart_1 24 rfl rfl
theorem dksX11_mayStart_3 : cX11_mayStart.data.toList.drop 71 = dktX11_mayStart_3 := dk_seg dksX11_mayStart_2 23 rfl rfl
theorem dksX11_mayStart_4 : cX11_mayStart.data.toList.drop 93 = dktX11_mayStart_4 := dk_seg dksX11_mayStart_3 22 rfl rfl
theorem dksX11_mayStart_5 : cX11_mayStart.data.toList.drop 117 = dktX11_mayStart_5 := dk_seg dksX11_mayStart_4 24 rfl rfl
theorem dksX11_mayStart_6 : cX11_mayStart.data.toList.drop 141 = dktX11_mayStart_6 := dk_seg dksX11_mayStart_5 24 rfl rfl
theorem dksX11_mayStart_7 : cX11_mayStart.data.toList.drop 165 = dktX11_mayStart_7 := dk_seg dksX11_mayStart_6 24 rfl rfl
theorem dksX11_mayStart_8 : cX11_mayStart.data.toList.drop 188 = dktX11_mayStart_8 := dk_seg dksX11_mayStart_7 23 rfl rfl
theorem dksX11_mayStart_9 : cX11_mayStart.data.toList.drop 212 = dktX11_mayStart_9 := dk_seg dksX11_mayStart_8 24 rfl rfl
theorem dksX11_mayStart_10 : cX11_mayStart.data.toList.drop 235 = dktX11_mayStart_10 := dk_seg dksX11_mayStart_9 23 rfl rfl
theorem dksX11_mayStart_11 : cX11_mayStart.data.toList.drop 259 = dktX11_mayStart_11 := dk_seg dksX11_mayStart_10 24 rfl rfl
theorem dksX11_mayStart_12 : cX11_mayStart.data.toList.drop 282 = dktX11_mayStart_12 := dk_seg dksX11_mayStart_11 23 rfl rfl
theorem dksX11_mayStart_13 : cX11_mayStart.data.toList.drop 306 = dktX11_mayStart_13 := dk_seg dksX11_mayStart_12 24 rfl rfl
theorem dX11_mayStart_0 : decode cX11_mayStart 0 = .ok (.aload_n 0, 1) := dk_42 (dk_at dksX11_mayStart_0 0 rfl rfl)
theorem dX11_mayStart_1 : decode cX11_mayStart 1 = .ok (.getfield 44, 3) := dk_180 0 44 (dk_at dksX11_mayStart_0 1 rfl rfl)
theorem dX11_mayStart_4 : decode cX11_mayStart 4 = .ok (.iload_n 1, 1) := dk_27 (dk_at dksX11_mayStart_0 4 rfl rfl)
theorem dX11_mayStart_5 : decode cX11_mayStart 5 = .ok (.iaload, 1) := dk_46 (dk_at dksX11_mayStart_0 5 rfl rfl)
theorem dX11_mayStart_6 : decode cX11_mayStart 6 = .ok (.ifCond .ne 25, 3) := dk_154 0 25 (dk_at dksX11_mayStart_0 6 rfl rfl)
theorem dX11_mayStart_9 : decode cX11_mayStart 9 = .ok (.aload_n 0, 1) := dk_42 (dk_at dksX11_mayStart_0 9 rfl rfl)
theorem dX11_mayStart_10 : decode cX11_mayStart 10 = .ok (.getfield 50, 3) := dk_180 0 50 (dk_at dksX11_mayStart_0 10 rfl rfl)
theorem dX11_mayStart_13 : decode cX11_mayStart 13 = .ok (.iload_n 1, 1) := dk_27 (dk_at dksX11_mayStart_0 13 rfl rfl)
theorem dX11_mayStart_14 : decode cX11_mayStart 14 = .ok (.baload, 1) := dk_51 (dk_at dksX11_mayStart_0 14 rfl rfl)
theorem dX11_mayStart_15 : decode cX11_mayStart 15 = .ok (.ifCond .ne 16, 3) := dk_154 0 16 (dk_at dksX11_mayStart_0 15 rfl rfl)
theorem dX11_mayStart_18 : decode cX11_mayStart 18 = .ok (.aload_n 0, 1) := dk_42 (dk_at dksX11_mayStart_0 18 rfl rfl)
theorem dX11_mayStart_19 : decode cX11_mayStart 19 = .ok (.aload_n 0, 1) := dk_42 (dk_at dksX11_mayStart_0 19 rfl rfl)
theorem dX11_mayStart_20 : decode cX11_mayStart 20 = .ok (.getfield 35, 3) := dk_180 0 35 (dk_at dksX11_mayStart_0 20 rfl rfl)
theorem dX11_mayStart_23 : decode cX11_mayStart 23 = .ok (.iload_n 1, 1) := dk_27 (dk_at dksX11_mayStart_0 23 rfl rfl)
theorem dX11_mayStart_24 : decode cX11_mayStart 24 = .ok (.iaload, 1) := dk_46 (dk_at dksX11_mayStart_1 0 rfl rfl)
theorem dX11_mayStart_25 : decode cX11_mayStart 25 = .ok (.invokevirtual 102, 3) := dk_182 0 102 (dk_at dksX11_mayStart_1 1 rfl rfl)
theorem dX11_mayStart_28 : decode cX11_mayStart 28 = .ok (.ifCond .ne 5, 3) := dk_154 0 5 (dk_at dksX11_mayStart_1 4 rfl rfl)
theorem dX11_mayStart_31 : decode cX11_mayStart 31 = .ok (.iconst 0, 1) := dk_3 (dk_at dksX11_mayStart_1 7 rfl rfl)
theorem dX11_mayStart_32 : decode cX11_mayStart 32 = .ok (.ireturn, 1) := dk_172 (dk_at dksX11_mayStart_1 8 rfl rfl)
theorem dX11_mayStart_33 : decode cX11_mayStart 33 = .ok (.iconst 0, 1) := dk_3 (dk_at dksX11_mayStart_1 9 rfl rfl)
theorem dX11_mayStart_34 : decode cX11_mayStart 34 = .ok (.istore_n 2, 1) := dk_61 (dk_at dksX11_mayStart_1 10 rfl rfl)
theorem dX11_mayStart_35 : decode cX11_mayStart 35 = .ok (.iconst 1, 1) := dk_4 (dk_at dksX11_mayStart_1 11 rfl rfl)
theorem dX11_mayStart_36 : decode cX11_mayStart 36 = .ok (.istore_n 3, 1) := dk_62 (dk_at dksX11_mayStart_1 12 rfl rfl)
theorem dX11_mayStart_37 : decode cX11_mayStart 37 = .ok (.iconst 0, 1) := dk_3 (dk_at dksX11_mayStart_1 13 rfl rfl)
theorem dX11_mayStart_38 : decode cX11_mayStart 38 = .ok (.istore 4, 2) := dk_54 4 (dk_at dksX11_mayStart_1 14 rfl rfl)
theorem dX11_mayStart_40 : decode cX11_mayStart 40 = .ok (.iconst 0, 1) := dk_3 (dk_at dksX11_mayStart_1 16 rfl rfl)
theorem dX11_mayStart_41 : decode cX11_mayStart 41 = .ok (.istore 5, 2) := dk_54 5 (dk_at dksX11_mayStart_1 17 rfl rfl)
theorem dX11_mayStart_43 : decode cX11_mayStart 43 = .ok (.iconst 0, 1) := dk_3 (dk_at dksX11_mayStart_1 19 rfl rfl)
theorem dX11_mayStart_44 : decode cX11_mayStart 44 = .ok (.istore 6, 2) := dk_54 6 (dk_at dksX11_mayStart_1 20 rfl rfl)
theorem dX11_mayStart_46 : decode cX11_mayStart 46 = .ok (.iload 6, 2) := dk_21 6 (dk_at dksX11_mayStart_1 22 rfl rfl)
theorem dX11_mayStart_48 : decode cX11_mayStart 48 = .ok (.aload_n 0, 1) := dk_42 (dk_at dksX11_mayStart_2 0 rfl rfl)
theorem dX11_mayStart_49 : decode cX11_mayStart 49 = .ok (.getfield 76, 3) := dk_180 0 76 (dk_at dksX11_mayStart_2 1 rfl rfl)
theorem dX11_mayStart_52 : decode cX11_mayStart 52 = .ok (.if_icmp .ge 152, 3) := dk_162 0 152 (dk_at dksX11_mayStart_2 4 rfl rfl)
theorem dX11_mayStart_55 : decode cX11_mayStart 55 = .ok (.aload_n 0, 1) := dk_42 (dk_at dksX11_mayStart_2 7 rfl rfl)
theorem dX11_mayStart_56 : decode cX11_mayStart 56 = .ok (.getfield 44, 3) := dk_180 0 44 (dk_at dksX11_mayStart_2 8 rfl rfl)
theorem dX11_mayStart_59 : decode cX11_mayStart 59 = .ok (.iload 6, 2) := dk_21 6 (dk_at dksX11_mayStart_2 11 rfl rfl)
theorem dX11_mayStart_61 : decode cX11_mayStart 61 = .ok (.iaload, 1) := dk_46 (dk_at dksX11_mayStart_2 13 rfl rfl)
theorem dX11_mayStart_62 : decode cX11_mayStart 62 = .ok (.iconst 2, 1) := dk_5 (dk_at dksX11_mayStart_2 14 rfl rfl)
theorem dX11_mayStart_63 : decode cX11_mayStart 63 = .ok (.if_icmp .ne 7, 3) := dk_160 0 7 (dk_at dksX11_mayStart_2 15 rfl rfl)
theorem dX11_mayStart_66 : decode cX11_mayStart 66 = .ok (.iconst 1, 1) := dk_4 (dk_at dksX11_mayStart_2 18 rfl rfl)
theorem dX11_mayStart_67 : decode cX11_mayStart 67 = .ok (.goto 4, 3) := dk_167 0 4 (dk_at dksX11_mayStart_2 19 rfl rfl)
theorem dX11_mayStart_70 : decode cX11_mayStart 70 = .ok (.iconst 0, 1) := dk_3 (dk_at dksX11_mayStart_2 22 rfl rfl)
theorem dX11_mayStart_71 : decode cX11_mayStart 71 = .ok (.istore 7, 2) := dk_54 7 (dk_at dksX11_mayStart_3 0 rfl rfl)
theorem dX11_mayStart_73 : decode cX11_mayStart 73 = .ok (.iload 4, 2) := dk_21 4 (dk_at dksX11_mayStart_3 2 rfl rfl)
theorem dX11_mayStart_75 : decode cX11_mayStart 75 = .ok (.ifCond .ne 8, 3) := dk_154 0 8 (dk_at dksX11_mayStart_3 4 rfl rfl)
theorem dX11_mayStart_78 : decode cX11_mayStart 78 = .ok (.iload 7, 2) := dk_21 7 (dk_at dksX11_mayStart_3 7 rfl rfl)
theorem dX11_mayStart_80 : decode cX11_mayStart 80 = .ok (.ifCond .eq 7, 3) := dk_153 0 7 (dk_at dksX11_mayStart_3 9 rfl rfl)
theorem dX11_mayStart_83 : decode cX11_mayStart 83 = .ok (.iconst 1, 1) := dk_4 (dk_at dksX11_mayStart_3 12 rfl rfl)
theorem dX11_mayStart_84 : decode cX11_mayStart 84 = .ok (.goto 4, 3) := dk_167 0 4 (dk_at dksX11_mayStart_3 13 rfl rfl)
theorem dX11_mayStart_87 : decode cX11_mayStart 87 = .ok (.iconst 0, 1) := dk_3 (dk_at dksX11_mayStart_3 16 rfl rfl)
theorem dX11_mayStart_88 : decode cX11_mayStart 88 = .ok (.istore 4, 2) := dk_54 4 (dk_at dksX11_mayStart_3 17 rfl rfl)
theorem dX11_mayStart_90 : decode cX11_mayStart 90 = .ok (.iload_n 2, 1) := dk_28 (dk_at dksX11_mayStart_3 19 rfl rfl)
theorem dX11_mayStart_91 : decode cX11_mayStart 91 = .ok (.iload 7, 2) := dk_21 7 (dk_at dksX11_mayStart_3 20 rfl rfl)
theorem dX11_mayStart_93 : decode cX11_mayStart 93 = .ok (.ifCond .eq 23, 3) := dk_153 0 23 (dk_at dksX11_mayStart_4 0 rfl rfl)
theorem dX11_mayStart_96 : decode cX11_mayStart 96 = .ok (.aload_n 0, 1) := dk_42 (dk_at dksX11_mayStart_4 3 rfl rfl)
theorem dX11_mayStart_97 : decode cX11_mayStart 97 = .ok (.getfield 35, 3) := dk_180 0 35 (dk_at dksX11_mayStart_4 4 rfl rfl)
theorem dX11_mayStart_100 : decode cX11_mayStart 100 = .ok (.iload 6, 2) := dk_21 6 (dk_at dksX11_mayStart_4 7 rfl rfl)
theorem dX11_mayStart_102 : decode cX11_mayStart 102 = .ok (.iaload, 1) := dk_46 (dk_at dksX11_mayStart_4 9 rfl rfl)
theorem dX11_mayStart_103 : decode cX11_mayStart 103 = .ok (.aload_n 0, 1) := dk_42 (dk_at dksX11_mayStart_4 10 rfl rfl)
theorem dX11_mayStart_104 : decode cX11_mayStart 104 = .ok (.getfield 35, 3) := dk_180 0 35 (dk_at dksX11_mayStart_4 11 rfl rfl)
theorem dX11_mayStart_107 : decode cX11_mayStart 107 = .ok (.iload_n 1, 1) := dk_27 (dk_at dksX11_mayStart_4 14 rfl rfl)
theorem dX11_mayStart_108 : decode cX11_mayStart 108 = .ok (.iaload, 1) := dk_46 (dk_at dksX11_mayStart_4 15 rfl rfl)
theorem dX11_mayStart_109 : decode cX11_mayStart 109 = .ok (.if_icmp .ne 7, 3) := dk_160 0 7 (dk_at dksX11_mayStart_4 16 rfl rfl)
theorem dX11_mayStart_112 : decode cX11_mayStart 112 = .ok (.iconst 1, 1) := dk_4 (dk_at dksX11_mayStart_4 19 rfl rfl)
theorem dX11_mayStart_113 : decode cX11_mayStart 113 = .ok (.goto 4, 3) := dk_167 0 4 (dk_at dksX11_mayStart_4 20 rfl rfl)
theorem dX11_mayStart_116 : decode cX11_mayStart 116 = .ok (.iconst 0, 1) := dk_3 (dk_at dksX11_mayStart_4 23 rfl rfl)
theorem dX11_mayStart_117 : decode cX11_mayStart 117 = .ok (.iadd, 1) := dk_96 (dk_at dksX11_mayStart_5 0 rfl rfl)
theorem dX11_mayStart_118 : decode cX11_mayStart 118 = .ok (.istore_n 2, 1) := dk_61 (dk_at dksX11_mayStart_5 1 rfl rfl)
theorem dX11_mayStart_119 : decode cX11_mayStart 119 = .ok (.iload_n 3, 1) := dk_29 (dk_at dksX11_mayStart_5 2 rfl rfl)
theorem dX11_mayStart_120 : decode cX11_mayStart 120 = .ok (.ifCond .eq 38, 3) := dk_153 0 38 (dk_at dksX11_mayStart_5 3 rfl rfl)
theorem dX11_mayStart_123 : decode cX11_mayStart 123 = .ok (.iload 7, 2) := dk_21 7 (dk_at dksX11_mayStart_5 6 rfl rfl)
theorem dX11_mayStart_125 : decode cX11_mayStart 125 = .ok (.ifCond .eq 29, 3) := dk_153 0 29 (dk_at dksX11_mayStart_5 8 rfl rfl)
theorem dX11_mayStart_128 : decode cX11_mayStart 128 = .ok (.aload_n 0, 1) := dk_42 (dk_at dksX11_mayStart_5 11 rfl rfl)
theorem dX11_mayStart_129 : decode cX11_mayStart 129 = .ok (.getfield 41, 3) := dk_180 0 41 (dk_at dksX11_mayStart_5 12 rfl rfl)
theorem dX11_mayStart_132 : decode cX11_mayStart 132 = .ok (.iload 6, 2) := dk_21 6 (dk_at dksX11_mayStart_5 15 rfl rfl)
theorem dX11_mayStart_134 : decode cX11_mayStart 134 = .ok (.iaload, 1) := dk_46 (dk_at dksX11_mayStart_5 17 rfl rfl)
theorem dX11_mayStart_135 : decode cX11_mayStart 135 = .ok (.aload_n 0, 1) := dk_42 (dk_at dksX11_mayStart_5 18 rfl rfl)
theorem dX11_mayStart_136 : decode cX11_mayStart 136 = .ok (.getfield 41, 3) := dk_180 0 41 (dk_at dksX11_mayStart_5 19 rfl rfl)
theorem dX11_mayStart_139 : decode cX11_mayStart 139 = .ok (.iload_n 1, 1) := dk_27 (dk_at dksX11_mayStart_5 22 rfl rfl)
theorem dX11_mayStart_140 : decode cX11_mayStart 140 = .ok (.iaload, 1) := dk_46 (dk_at dksX11_mayStart_5 23 rfl rfl)
theorem dX11_mayStart_141 : decode cX11_mayStart 141 = .ok (.if_icmp .eq 17, 3) := dk_159 0 17 (dk_at dksX11_mayStart_6 0 rfl rfl)
theorem dX11_mayStart_144 : decode cX11_mayStart 144 = .ok (.aload_n 0, 1) := dk_42 (dk_at dksX11_mayStart_6 3 rfl rfl)
theorem dX11_mayStart_145 : decode cX11_mayStart 145 = .ok (.getfield 53, 3) := dk_180 0 53 (dk_at dksX11_mayStart_6 4 rfl rfl)
theorem dX11_mayStart_148 : decode cX11_mayStart 148 = .ok (.iload 6, 2) := dk_21 6 (dk_at dksX11_mayStart_6 7 rfl rfl)
theorem dX11_mayStart_150 : decode cX11_mayStart 150 = .ok (.baload, 1) := dk_51 (dk_at dksX11_mayStart_6 9 rfl rfl)
theorem dX11_mayStart_151 : decode cX11_mayStart 151 = .ok (.ifCond .ne 7, 3) := dk_154 0 7 (dk_at dksX11_mayStart_6 10 rfl rfl)
theorem dX11_mayStart_154 : decode cX11_mayStart 154 = .ok (.iconst 1, 1) := dk_4 (dk_at dksX11_mayStart_6 13 rfl rfl)
theorem dX11_mayStart_155 : decode cX11_mayStart 155 = .ok (.goto 4, 3) := dk_167 0 4 (dk_at dksX11_mayStart_6 14 rfl rfl)
theorem dX11_mayStart_158 : decode cX11_mayStart 158 = .ok (.iconst 0, 1) := dk_3 (dk_at dksX11_mayStart_6 17 rfl rfl)
theorem dX11_mayStart_159 : decode cX11_mayStart 159 = .ok (.istore_n 3, 1) := dk_62 (dk_at dksX11_mayStart_6 18 rfl rfl)
theorem dX11_mayStart_160 : decode cX11_mayStart 160 = .ok (.iload 5, 2) := dk_21 5 (dk_at dksX11_mayStart_6 19 rfl rfl)
theorem dX11_mayStart_162 : decode cX11_mayStart 162 = .ok (.ifCond .ne 29, 3) := dk_154 0 29 (dk_at dksX11_mayStart_6 21 rfl rfl)
theorem dX11_mayStart_165 : decode cX11_mayStart 165 = .ok (.aload_n 0, 1) := dk_42 (dk_at dksX11_mayStart_7 0 rfl rfl)
theorem dX11_mayStart_166 : decode cX11_mayStart 166 = .ok (.getfield 56, 3) := dk_180 0 56 (dk_at dksX11_mayStart_7 1 rfl rfl)
theorem dX11_mayStart_169 : decode cX11_mayStart 169 = .ok (.bipush 100, 2) := dk_16 100 (dk_at dksX11_mayStart_7 4 rfl rfl)
theorem dX11_mayStart_171 : decode cX11_mayStart 171 = .ok (.iload_n 1, 1) := dk_27 (dk_at dksX11_mayStart_7 6 rfl rfl)
theorem dX11_mayStart_172 : decode cX11_mayStart 172 = .ok (.imul, 1) := dk_104 (dk_at dksX11_mayStart_7 7 rfl rfl)
theorem dX11_mayStart_173 : decode cX11_mayStart 173 = .ok (.iload 6, 2) := dk_21 6 (dk_at dksX11_mayStart_7 8 rfl rfl)
theorem dX11_mayStart_175 : decode cX11_mayStart 175 = .ok (.iadd, 1) := dk_96 (dk_at dksX11_mayStart_7 10 rfl rfl)
theorem dX11_mayStart_176 : decode cX11_mayStart 176 = .ok (.baload, 1) := dk_51 (dk_at dksX11_mayStart_7 11 rfl rfl)
theorem dX11_mayStart_177 : decode cX11_mayStart 177 = .ok (.ifCond .eq 18, 3) := dk_153 0 18 (dk_at dksX11_mayStart_7 12 rfl rfl)
theorem dX11_mayStart_180 : decode cX11_mayStart 180 = .ok (.aload_n 0, 1) := dk_42 (dk_at dksX11_mayStart_7 15 rfl rfl)
theorem dX11_mayStart_181 : decode cX11_mayStart 181 = .ok (.getfield 44, 3) := dk_180 0 44 (dk_at dksX11_mayStart_7 16 rfl rfl)
theorem dX11_mayStart_184 : decode cX11_mayStart 184 = .ok (.iload 6, 2) := dk_21 6 (dk_at dksX11_mayStart_7 19 rfl rfl)
theorem dX11_mayStart_186 : decode cX11_mayStart 186 = .ok (.iaload, 1) := dk_46 (dk_at dksX11_mayStart_7 21 rfl rfl)
theorem dX11_mayStart_187 : decode cX11_mayStart 187 = .ok (.iconst 3, 1) := dk_6 (dk_at dksX11_mayStart_7 22 rfl rfl)
theorem dX11_mayStart_188 : decode cX11_mayStart 188 = .ok (.if_icmp .eq 7, 3) := dk_159 0 7 (dk_at dksX11_mayStart_8 0 rfl rfl)
theorem dX11_mayStart_191 : decode cX11_mayStart 191 = .ok (.iconst 1, 1) := dk_4 (dk_at dksX11_mayStart_8 3 rfl rfl)
theorem dX11_mayStart_192 : decode cX11_mayStart 192 = .ok (.goto 4, 3) := dk_167 0 4 (dk_at dksX11_mayStart_8 4 rfl rfl)
theorem dX11_mayStart_195 : decode cX11_mayStart 195 = .ok (.iconst 0, 1) := dk_3 (dk_at dksX11_mayStart_8 7 rfl rfl)
theorem dX11_mayStart_196 : decode cX11_mayStart 196 = .ok (.istore 5, 2) := dk_54 5 (dk_at dksX11_mayStart_8 8 rfl rfl)
theorem dX11_mayStart_198 : decode cX11_mayStart 198 = .ok (.iinc 6 1, 3) := dk_132 6 1 (dk_at dksX11_mayStart_8 10 rfl rfl)
theorem dX11_mayStart_201 : decode cX11_mayStart 201 = .ok (.goto (-155), 3) := dk_167 255 101 (dk_at dksX11_mayStart_8 13 rfl rfl)
theorem dX11_mayStart_204 : decode cX11_mayStart 204 = .ok (.iconst 1, 1) := dk_4 (dk_at dksX11_mayStart_8 16 rfl rfl)
theorem dX11_mayStart_205 : decode cX11_mayStart 205 = .ok (.istore 6, 2) := dk_54 6 (dk_at dksX11_mayStart_8 17 rfl rfl)
theorem dX11_mayStart_207 : decode cX11_mayStart 207 = .ok (.iconst 0, 1) := dk_3 (dk_at dksX11_mayStart_8 19 rfl rfl)
theorem dX11_mayStart_208 : decode cX11_mayStart 208 = .ok (.istore 7, 2) := dk_54 7 (dk_at dksX11_mayStart_8 20 rfl rfl)
theorem dX11_mayStart_210 : decode cX11_mayStart 210 = .ok (.iload 7, 2) := dk_21 7 (dk_at dksX11_mayStart_8 22 rfl rfl)
theorem dX11_mayStart_212 : decode cX11_mayStart 212 = .ok (.iconst 4, 1) := dk_7 (dk_at dksX11_mayStart_9 0 rfl rfl)
theorem dX11_mayStart_213 : decode cX11_mayStart 213 = .ok (.if_icmp .ge 49, 3) := dk_162 0 49 (dk_at dksX11_mayStart_9 1 rfl rfl)
theorem dX11_mayStart_216 : decode cX11_mayStart 216 = .ok (.iload 6, 2) := dk_21 6 (dk_at dksX11_mayStart_9 4 rfl rfl)
theorem dX11_mayStart_218 : decode cX11_mayStart 218 = .ok (.ifCond .eq 35, 3) := dk_153 0 35 (dk_at dksX11_mayStart_9 6 rfl rfl)
theorem dX11_mayStart_221 : decode cX11_mayStart 221 = .ok (.aload_n 0, 1) := dk_42 (dk_at dksX11_mayStart_9 9 rfl rfl)
theorem dX11_mayStart_222 : decode cX11_mayStart 222 = .ok (.getfield 47, 3) := dk_180 0 47 (dk_at dksX11_mayStart_9 10 rfl rfl)
theorem dX11_mayStart_225 : decode cX11_mayStart 225 = .ok (.iconst 4, 1) := dk_7 (dk_at dksX11_mayStart_9 13 rfl rfl)
theorem dX11_mayStart_226 : decode cX11_mayStart 226 = .ok (.iload_n 1, 1) := dk_27 (dk_at dksX11_mayStart_9 14 rfl rfl)
theorem dX11_mayStart_227 : decode cX11_mayStart 227 = .ok (.imul, 1) := dk_104 (dk_at dksX11_mayStart_9 15 rfl rfl)
theorem dX11_mayStart_228 : decode cX11_mayStart 228 = .ok (.iload 7, 2) := dk_21 7 (dk_at dksX11_mayStart_9 16 rfl rfl)
theorem dX11_mayStart_230 : decode cX11_mayStart 230 = .ok (.iadd, 1) := dk_96 (dk_at dksX11_mayStart_9 18 rfl rfl)
theorem dX11_mayStart_231 : decode cX11_mayStart 231 = .ok (.iaload, 1) := dk_46 (dk_at dksX11_mayStart_9 19 rfl rfl)
theorem dX11_mayStart_232 : decode cX11_mayStart 232 = .ok (.aload_n 0, 1) := dk_42 (dk_at dksX11_mayStart_9 20 rfl rfl)
theorem dX11_mayStart_233 : decode cX11_mayStart 233 = .ok (.iload 7, 2) := dk_21 7 (dk_at dksX11_mayStart_9 21 rfl rfl)
theorem dX11_mayStart_235 : decode cX11_mayStart 235 = .ok (.invokevirtual 105, 3) := dk_182 0 105 (dk_at dksX11_mayStart_10 0 rfl rfl)
theorem dX11_mayStart_238 : decode cX11_mayStart 238 = .ok (.iadd, 1) := dk_96 (dk_at dksX11_mayStart_10 3 rfl rfl)
theorem dX11_mayStart_239 : decode cX11_mayStart 239 = .ok (.aload_n 0, 1) := dk_42 (dk_at dksX11_mayStart_10 4 rfl rfl)
theorem dX11_mayStart_240 : decode cX11_mayStart 240 = .ok (.getfield 32, 3) := dk_180 0 32 (dk_at dksX11_mayStart_10 5 rfl rfl)
theorem dX11_mayStart_243 : decode cX11_mayStart 243 = .ok (.iload 7, 2) := dk_21 7 (dk_at dksX11_mayStart_10 8 rfl rfl)
theorem dX11_mayStart_245 : decode cX11_mayStart 245 = .ok (.iaload, 1) := dk_46 (dk_at dksX11_mayStart_10 10 rfl rfl)
theorem dX11_mayStart_246 : decode cX11_mayStart 246 = .ok (.if_icmp .gt 7, 3) := dk_163 0 7 (dk_at dksX11_mayStart_10 11 rfl rfl)
theorem dX11_mayStart_249 : decode cX11_mayStart 249 = .ok (.iconst 1, 1) := dk_4 (dk_at dksX11_mayStart_10 14 rfl rfl)
theorem dX11_mayStart_250 : decode cX11_mayStart 250 = .ok (.goto 4, 3) := dk_167 0 4 (dk_at dksX11_mayStart_10 15 rfl rfl)
theorem dX11_mayStart_253 : decode cX11_mayStart 253 = .ok (.iconst 0, 1) := dk_3 (dk_at dksX11_mayStart_10 18 rfl rfl)
theorem dX11_mayStart_254 : decode cX11_mayStart 254 = .ok (.istore 6, 2) := dk_54 6 (dk_at dksX11_mayStart_10 19 rfl rfl)
theorem dX11_mayStart_256 : decode cX11_mayStart 256 = .ok (.iinc 7 1, 3) := dk_132 7 1 (dk_at dksX11_mayStart_10 21 rfl rfl)
theorem dX11_mayStart_259 : decode cX11_mayStart 259 = .ok (.goto (-49), 3) := dk_167 255 207 (dk_at dksX11_mayStart_11 0 rfl rfl)
theorem dX11_mayStart_262 : decode cX11_mayStart 262 = .ok (.iload_n 3, 1) := dk_29 (dk_at dksX11_mayStart_11 3 rfl rfl)
theorem dX11_mayStart_263 : decode cX11_mayStart 263 = .ok (.ifCond .eq 46, 3) := dk_153 0 46 (dk_at dksX11_mayStart_11 4 rfl rfl)
theorem dX11_mayStart_266 : decode cX11_mayStart 266 = .ok (.iload 5, 2) := dk_21 5 (dk_at dksX11_mayStart_11 7 rfl rfl)
theorem dX11_mayStart_268 : decode cX11_mayStart 268 = .ok (.ifCond .ne 41, 3) := dk_154 0 41 (dk_at dksX11_mayStart_11 9 rfl rfl)
theorem dX11_mayStart_271 : decode cX11_mayStart 271 = .ok (.iload 6, 2) := dk_21 6 (dk_at dksX11_mayStart_11 12 rfl rfl)
theorem dX11_mayStart_273 : decode cX11_mayStart 273 = .ok (.ifCond .eq 36, 3) := dk_153 0 36 (dk_at dksX11_mayStart_11 14 rfl rfl)
theorem dX11_mayStart_276 : decode cX11_mayStart 276 = .ok (.iload_n 2, 1) := dk_28 (dk_at dksX11_mayStart_11 17 rfl rfl)
theorem dX11_mayStart_277 : decode cX11_mayStart 277 = .ok (.aload_n 0, 1) := dk_42 (dk_at dksX11_mayStart_11 18 rfl rfl)
theorem dX11_mayStart_278 : decode cX11_mayStart 278 = .ok (.getfield 20, 3) := dk_180 0 20 (dk_at dksX11_mayStart_11 19 rfl rfl)
theorem dX11_mayStart_281 : decode cX11_mayStart 281 = .ok (.aload_n 0, 1) := dk_42 (dk_at dksX11_mayStart_11 22 rfl rfl)
theorem dX11_mayStart_282 : decode cX11_mayStart 282 = .ok (.getfield 35, 3) := dk_180 0 35 (dk_at dksX11_mayStart_12 0 rfl rfl)
theorem dX11_mayStart_285 : decode cX11_mayStart 285 = .ok (.iload_n 1, 1) := dk_27 (dk_at dksX11_mayStart_12 3 rfl rfl)
theorem dX11_mayStart_286 : decode cX11_mayStart 286 = .ok (.iaload, 1) := dk_46 (dk_at dksX11_mayStart_12 4 rfl rfl)
theorem dX11_mayStart_287 : decode cX11_mayStart 287 = .ok (.iaload, 1) := dk_46 (dk_at dksX11_mayStart_12 5 rfl rfl)
theorem dX11_mayStart_288 : decode cX11_mayStart 288 = .ok (.if_icmp .ge 21, 3) := dk_162 0 21 (dk_at dksX11_mayStart_12 6 rfl rfl)
theorem dX11_mayStart_291 : decode cX11_mayStart 291 = .ok (.aload_n 0, 1) := dk_42 (dk_at dksX11_mayStart_12 9 rfl rfl)
theorem dX11_mayStart_292 : decode cX11_mayStart 292 = .ok (.getfield 53, 3) := dk_180 0 53 (dk_at dksX11_mayStart_12 10 rfl rfl)
theorem dX11_mayStart_295 : decode cX11_mayStart 295 = .ok (.iload_n 1, 1) := dk_27 (dk_at dksX11_mayStart_12 13 rfl rfl)
theorem dX11_mayStart_296 : decode cX11_mayStart 296 = .ok (.baload, 1) := dk_51 (dk_at dksX11_mayStart_12 14 rfl rfl)
theorem dX11_mayStart_297 : decode cX11_mayStart 297 = .ok (.ifCond .eq 8, 3) := dk_153 0 8 (dk_at dksX11_mayStart_12 15 rfl rfl)
theorem dX11_mayStart_300 : decode cX11_mayStart 300 = .ok (.iload 4, 2) := dk_21 4 (dk_at dksX11_mayStart_12 18 rfl rfl)
theorem dX11_mayStart_302 : decode cX11_mayStart 302 = .ok (.ifCond .ne 7, 3) := dk_154 0 7 (dk_at dksX11_mayStart_12 20 rfl rfl)
theorem dX11_mayStart_305 : decode cX11_mayStart 305 = .ok (.iconst 1, 1) := dk_4 (dk_at dksX11_mayStart_12 23 rfl rfl)
theorem dX11_mayStart_306 : decode cX11_mayStart 306 = .ok (.goto 4, 3) := dk_167 0 4 (dk_at dksX11_mayStart_13 0 rfl rfl)
theorem dX11_mayStart_309 : decode cX11_mayStart 309 = .ok (.iconst 0, 1) := dk_3 (dk_at dksX11_mayStart_13 3 rfl rfl)
theorem dX11_mayStart_310 : decode cX11_mayStart 310 = .ok (.ireturn, 1) := dk_172 (dk_at dksX11_mayStart_13 4 rfl rfl)
abbrev cX11_isOpen : ByteArray := prog_16_method_18_code
def yX11_isOpen : MethodName := ⟨RX11, "isOpen", "(I)Z"⟩
def dkwX11_isOpen_4 : List UInt8 := [167, 0, 4, 3, 172]
abbrev dktX11_isOpen_4 : List UInt8 := dkwX11_isOpen_4 ++ []
def dkwX11_isOpen_3 : List UInt8 := [167, 0, 28, 28, 42, 180, 0, 23, 27, 46, 162, 0, 13, 28, 42, 180, 0, 26, 27, 46, 162, 0, 7, 4]
abbrev dktX11_isOpen_3 : List UInt8 := dkwX11_isOpen_3 ++ dktX11_isOpen_4
def dkwX11_isOpen_2 : List UInt8 := [180, 0, 23, 27, 46, 161, 0, 17, 28, 42, 180, 0, 26, 27, 46, 162, 0, 7, 4, 167, 0, 32, 3]
abbrev dktX11_isOpen_2 : List UInt8 := dkwX11_isOpen_2 ++ dktX11_isOpen_3
def dkwX11_isOpen_1 : List UInt8 := [160, 0, 5, 4, 172, 42, 180, 0, 23, 27, 46, 42, 180, 0, 26, 27, 46, 162, 0, 31, 28, 42]
abbrev dktX11_isOpen_1 : List UInt8 := dkwX11_isOpen_1 ++ dktX11_isOpen_2
def dkwX11_isOpen_0 : List UInt8 := [42, 180, 0, 89, 20, 0, 100, 113, 136, 61, 42, 180, 0, 23, 27, 46, 42, 180, 0, 26, 27, 46]
abbrev dktX11_isOpen_0 : List UInt8 := dkwX11_isOpen_0 ++ dktX11_isOpen_1
theorem dksX11_isOpen_0 : cX11_isOpen.data.toList.drop 0 = dktX11_isOpen_0 := by decide +kernel
theorem dksX11_isOpen_1 : cX11_isOpen.data.toList.drop 22 = dktX11_isOpen_1 := dk_seg dksX11_isOpen_0 22 rfl rfl
theorem dksX11_isOpen_2 : cX11_isOpen.data.toList.drop 44 = dktX11_isOpen_2 := dk_seg dksX11_isOpen_1 22 rfl rfl
theorem dksX11_isOpen_3 : cX11_isOpen.data.toList.drop 67 = dktX11_isOpen_3 := dk_seg dksX11_isOpen_2 23 rfl rfl
theorem dksX11_isOpen_4 : cX11_isOpen.data.toList.drop 91 = dktX11_isOpen_4 := dk_seg dksX11_isOpen_3 24 rfl rfl
theorem dX11_isOpen_0 : decode cX11_isOpen 0 = .ok (.aload_n 0, 1) := dk_42 (dk_at dksX11_isOpen_0 0 rfl rfl)
theorem dX11_isOpen_1 : decode cX11_isOpen 1 = .ok (.getfield 89, 3) := dk_180 0 89 (dk_at dksX11_isOpen_0 1 rfl rfl)
theorem dX11_isOpen_4 : decode cX11_isOpen 4 = .ok (.ldc2_w 100, 3) := dk_20 0 100 (dk_at dksX11_isOpen_0 4 rfl rfl)
theorem dX11_isOpen_7 : decode cX11_isOpen 7 = .ok (.lrem, 1) := dk_113 (dk_at dksX11_isOpen_0 7 rfl rfl)
theorem dX11_isOpen_8 : decode cX11_isOpen 8 = .ok (.l2i, 1) := dk_136 (dk_at dksX11_isOpen_0 8 rfl rfl)
theorem dX11_isOpen_9 : decode cX11_isOpen 9 = .ok (.istore_n 2, 1) := dk_61 (dk_at dksX11_isOpen_0 9 rfl rfl)
theorem dX11_isOpen_10 : decode cX11_isOpen 10 = .ok (.aload_n 0, 1) := dk_42 (dk_at dksX11_isOpen_0 10 rfl rfl)
theorem dX11_isOpen_11 : decode cX11_isOpen 11 = .ok (.getfield 23, 3) := dk_180 0 23 (dk_at dksX11_isOpen_0 11 rfl rfl)
theorem dX11_isOpen_14 : decode cX11_isOpen 14 = .ok (.iload_n 1, 1) := dk_27 (dk_at dksX11_isOpen_0 14 rfl rfl)
theorem dX11_isOpen_15 : decode cX11_isOpen 15 = .ok (.iaload, 1) := dk_46 (dk_at dksX11_isOpen_0 15 rfl rfl)
theorem dX11_isOpen_16 : decode cX11_isOpen 16 = .ok (.aload_n 0, 1) := dk_42 (dk_at dksX11_isOpen_0 16 rfl rfl)
theorem dX11_isOpen_17 : decode cX11_isOpen 17 = .ok (.getfield 26, 3) := dk_180 0 26 (dk_at dksX11_isOpen_0 17 rfl rfl)
theorem dX11_isOpen_20 : decode cX11_isOpen 20 = .ok (.iload_n 1, 1) := dk_27 (dk_at dksX11_isOpen_0 20 rfl rfl)
theorem dX11_isOpen_21 : decode cX11_isOpen 21 = .ok (.iaload, 1) := dk_46 (dk_at dksX11_isOpen_0 21 rfl rfl)
theorem dX11_isOpen_22 : decode cX11_isOpen 22 = .ok (.if_icmp .ne 5, 3) := dk_160 0 5 (dk_at dksX11_isOpen_1 0 rfl rfl)
theorem dX11_isOpen_25 : decode cX11_isOpen 25 = .ok (.iconst 1, 1) := dk_4 (dk_at dksX11_isOpen_1 3 rfl rfl)
theorem dX11_isOpen_26 : decode cX11_isOpen 26 = .ok (.ireturn, 1) := dk_172 (dk_at dksX11_isOpen_1 4 rfl rfl)
theorem dX11_isOpen_27 : decode cX11_isOpen 27 = .ok (.aload_n 0, 1) := dk_42 (dk_at dksX11_isOpen_1 5 rfl rfl)
theorem dX11_isOpen_28 : decode cX11_isOpen 28 = .ok (.getfield 23, 3) := dk_180 0 23 (dk_at dksX11_isOpen_1 6 rfl rfl)
theorem dX11_isOpen_31 : decode cX11_isOpen 31 = .ok (.iload_n 1, 1) := dk_27 (dk_at dksX11_isOpen_1 9 rfl rfl)
theorem dX11_isOpen_32 : decode cX11_isOpen 32 = .ok (.iaload, 1) := dk_46 (dk_at dksX11_isOpen_1 10 rfl rfl)
theorem dX11_isOpen_33 : decode cX11_isOpen 33 = .ok (.aload_n 0, 1) := dk_42 (dk_at dksX11_isOpen_1 11 rfl rfl)
theorem dX11_isOpen_34 : decode cX11_isOpen 34 = .ok (.getfield 26, 3) := dk_180 0 26 (dk_at dksX11_isOpen_1 12 rfl rfl)
theorem dX11_isOpen_37 : decode cX11_isOpen 37 = .ok (.iload_n 1, 1) := dk_27 (dk_at dksX11_isOpen_1 15 rfl rfl)
theorem dX11_isOpen_38 : decode cX11_isOpen 38 = .ok (.iaload, 1) := dk_46 (dk_at dksX11_isOpen_1 16 rfl rfl)
theorem dX11_isOpen_39 : decode cX11_isOpen 39 = .ok (.if_icmp .ge 31, 3) := dk_162 0 31 (dk_at dksX11_isOpen_1 17 rfl rfl)
theorem dX11_isOpen_42 : decode cX11_isOpen 42 = .ok (.iload_n 2, 1) := dk_28 (dk_at dksX11_isOpen_1 20 rfl rfl)
theorem dX11_isOpen_43 : decode cX11_isOpen 43 = .ok (.aload_n 0, 1) := dk_42 (dk_at dksX11_isOpen_1 21 rfl rfl)
theorem dX11_isOpen_44 : decode cX11_isOpen 44 = .ok (.getfield 23, 3) := dk_180 0 23 (dk_at dksX11_isOpen_2 0 rfl rfl)
theorem dX11_isOpen_47 : decode cX11_isOpen 47 = .ok (.iload_n 1, 1) := dk_27 (dk_at dksX11_isOpen_2 3 rfl rfl)
theorem dX11_isOpen_48 : decode cX11_isOpen 48 = .ok (.iaload, 1) := dk_46 (dk_at dksX11_isOpen_2 4 rfl rfl)
theorem dX11_isOpen_49 : decode cX11_isOpen 49 = .ok (.if_icmp .lt 17, 3) := dk_161 0 17 (dk_at dksX11_isOpen_2 5 rfl rfl)
theorem dX11_isOpen_52 : decode cX11_isOpen 52 = .ok (.iload_n 2, 1) := dk_28 (dk_at dksX11_isOpen_2 8 rfl rfl)
theorem dX11_isOpen_53 : decode cX11_isOpen 53 = .ok (.aload_n 0, 1) := dk_42 (dk_at dksX11_isOpen_2 9 rfl rfl)
theorem dX11_isOpen_54 : decode cX11_isOpen 54 = .ok (.getfield 26, 3) := dk_180 0 26 (dk_at dksX11_isOpen_2 10 rfl rfl)
theorem dX11_isOpen_57 : decode cX11_isOpen 57 = .ok (.iload_n 1, 1) := dk_27 (dk_at dksX11_isOpen_2 13 rfl rfl)
theorem dX11_isOpen_58 : decode cX11_isOpen 58 = .ok (.iaload, 1) := dk_46 (dk_at dksX11_isOpen_2 14 rfl rfl)
theorem dX11_isOpen_59 : decode cX11_isOpen 59 = .ok (.if_icmp .ge 7, 3) := dk_162 0 7 (dk_at dksX11_isOpen_2 15 rfl rfl)
theorem dX11_isOpen_62 : decode cX11_isOpen 62 = .ok (.iconst 1, 1) := dk_4 (dk_at dksX11_isOpen_2 18 rfl rfl)
theorem dX11_isOpen_63 : decode cX11_isOpen 63 = .ok (.goto 32, 3) := dk_167 0 32 (dk_at dksX11_isOpen_2 19 rfl rfl)
theorem dX11_isOpen_66 : decode cX11_isOpen 66 = .ok (.iconst 0, 1) := dk_3 (dk_at dksX11_isOpen_2 22 rfl rfl)
theorem dX11_isOpen_67 : decode cX11_isOpen 67 = .ok (.goto 28, 3) := dk_167 0 28 (dk_at dksX11_isOpen_3 0 rfl rfl)
theorem dX11_isOpen_70 : decode cX11_isOpen 70 = .ok (.iload_n 2, 1) := dk_28 (dk_at dksX11_isOpen_3 3 rfl rfl)
theorem dX11_isOpen_71 : decode cX11_isOpen 71 = .ok (.aload_n 0, 1) := dk_42 (dk_at dksX11_isOpen_3 4 rfl rfl)
theorem dX11_isOpen_72 : decode cX11_isOpen 72 = .ok (.getfield 23, 3) := dk_180 0 23 (dk_at dksX11_isOpen_3 5 rfl rfl)
theorem dX11_isOpen_75 : decode cX11_isOpen 75 = .ok (.iload_n 1, 1) := dk_27 (dk_at dksX11_isOpen_3 8 rfl rfl)
theorem dX11_isOpen_76 : decode cX11_isOpen 76 = .ok (.iaload, 1) := dk_46 (dk_at dksX11_isOpen_3 9 rfl rfl)
theorem dX11_isOpen_77 : decode cX11_isOpen 77 = .ok (.if_icmp .ge 13, 3) := dk_162 0 13 (dk_at dksX11_isOpen_3 10 rfl rfl)
theorem dX11_isOpen_80 : decode cX11_isOpen 80 = .ok (.iload_n 2, 1) := dk_28 (dk_at dksX11_isOpen_3 13 rfl rfl)
theorem dX11_isOpen_81 : decode cX11_isOpen 81 = .ok (.aload_n 0, 1) := dk_42 (dk_at dksX11_isOpen_3 14 rfl rfl)
theorem dX11_isOpen_82 : decode cX11_isOpen 82 = .ok (.getfield 26, 3) := dk_180 0 26 (dk_at dksX11_isOpen_3 15 rfl rfl)
theorem dX11_isOpen_85 : decode cX11_isOpen 85 = .ok (.iload_n 1, 1) := dk_27 (dk_at dksX11_isOpen_3 18 rfl rfl)
theorem dX11_isOpen_86 : decode cX11_isOpen 86 = .ok (.iaload, 1) := dk_46 (dk_at dksX11_isOpen_3 19 rfl rfl)
theorem dX11_isOpen_87 : decode cX11_isOpen 87 = .ok (.if_icmp .ge 7, 3) := dk_162 0 7 (dk_at dksX11_isOpen_3 20 rfl rfl)
theorem dX11_isOpen_90 : decode cX11_isOpen 90 = .ok (.iconst 1, 1) := dk_4 (dk_at dksX11_isOpen_3 23 rfl rfl)
theorem dX11_isOpen_91 : decode cX11_isOpen 91 = .ok (.goto 4, 3) := dk_167 0 4 (dk_at dksX11_isOpen_4 0 rfl rfl)
theorem dX11_isOpen_94 : decode cX11_isOpen 94 = .ok (.iconst 0, 1) := dk_3 (dk_at dksX11_isOpen_4 3 rfl rfl)
theorem dX11_isOpen_95 : decode cX11_isOpen 95 = .ok (.ireturn, 1) := dk_172 (dk_at dksX11_isOpen_4 4 rfl rfl)
abbrev cX11_used : ByteArray := prog_16_method_19_code
def yX11_used : MethodName := ⟨RX11, "used", "(I)I"⟩
def dkwX11_used_1 : List UInt8 := [180, 0, 47, 7, 29, 104, 27, 96, 46, 167, 0, 4, 3, 96, 61, 132, 3, 1, 167, 255, 218, 28, 172]
abbrev dktX11_used_1 : List UInt8 := dkwX11_used_1 ++ []
def dkwX11_used_0 : List UInt8 := [3, 61, 3, 62, 29, 42, 180, 0, 76, 162, 0, 36, 28, 42, 180, 0, 44, 29, 46, 5, 160, 0, 16, 42]
abbrev dktX11_used_0 : List UInt8 := dkwX11_used_0 ++ dktX11_used_1
theorem dksX11_used_0 : cX11_used.data.toList.drop 0 = dktX11_used_0 := by decide +kernel
theorem dksX11_used_1 : cX11_used.data.toList.drop 24 = dktX11_used_1 := dk_seg dksX11_used_0 24 rfl rfl
theorem dX11_used_0 : decode cX11_used 0 = .ok (.iconst 0, 1) := dk_3 (dk_at dksX11_used_0 0 rfl rfl)
theorem dX11_used_1 : decode cX11_used 1 = .ok (.istore_n 2, 1) := dk_61 (dk_at dksX11_used_0 1 rfl rfl)
theorem dX11_used_2 : decode cX11_used 2 = .ok (.iconst 0, 1) := dk_3 (dk_at dksX11_used_0 2 rfl rfl)
theorem dX11_used_3 : decode cX11_used 3 = .ok (.istore_n 3, 1) := dk_62 (dk_at dksX11_used_0 3 rfl rfl)
theorem dX11_used_4 : decode cX11_used 4 = .ok (.iload_n 3, 1) := dk_29 (dk_at dksX11_used_0 4 rfl rfl)
theorem dX11_used_5 : decode cX11_used 5 = .ok (.aload_n 0, 1) := dk_42 (dk_at dksX11_used_0 5 rfl rfl)
theorem dX11_used_6 : decode cX11_used 6 = .ok (.getfield 76, 3) := dk_180 0 76 (dk_at dksX11_used_0 6 rfl rfl)
theorem dX11_used_9 : decode cX11_used 9 = .ok (.if_icmp .ge 36, 3) := dk_162 0 36 (dk_at dksX11_used_0 9 rfl rfl)
theorem dX11_used_12 : decode cX11_used 12 = .ok (.iload_n 2, 1) := dk_28 (dk_at dksX11_used_0 12 rfl rfl)
theorem dX11_used_13 : decode cX11_used 13 = .ok (.aload_n 0, 1) := dk_42 (dk_at dksX11_used_0 13 rfl rfl)
theorem dX11_used_14 : decode cX11_used 14 = .ok (.getfield 44, 3) := dk_180 0 44 (dk_at dksX11_used_0 14 rfl rfl)
theorem dX11_used_17 : decode cX11_used 17 = .ok (.iload_n 3, 1) := dk_29 (dk_at dksX11_used_0 17 rfl rfl)
theorem dX11_used_18 : decode cX11_used 18 = .ok (.iaload, 1) := dk_46 (dk_at dksX11_used_0 18 rfl rfl)
theorem dX11_used_19 : decode cX11_used 19 = .ok (.iconst 2, 1) := dk_5 (dk_at dksX11_used_0 19 rfl rfl)
theorem dX11_used_20 : decode cX11_used 20 = .ok (.if_icmp .ne 16, 3) := dk_160 0 16 (dk_at dksX11_used_0 20 rfl rfl)
theorem dX11_used_23 : decode cX11_used 23 = .ok (.aload_n 0, 1) := dk_42 (dk_at dksX11_used_0 23 rfl rfl)
theorem dX11_used_24 : decode cX11_used 24 = .ok (.getfield 47, 3) := dk_180 0 47 (dk_at dksX11_used_1 0 rfl rfl)
theorem dX11_used_27 : decode cX11_used 27 = .ok (.iconst 4, 1) := dk_7 (dk_at dksX11_used_1 3 rfl rfl)
theorem dX11_used_28 : decode cX11_used 28 = .ok (.iload_n 3, 1) := dk_29 (dk_at dksX11_used_1 4 rfl rfl)
theorem dX11_used_29 : decode cX11_used 29 = .ok (.imul, 1) := dk_104 (dk_at dksX11_used_1 5 rfl rfl)
theorem dX11_used_30 : decode cX11_used 30 = .ok (.iload_n 1, 1) := dk_27 (dk_at dksX11_used_1 6 rfl rfl)
theorem dX11_used_31 : decode cX11_used 31 = .ok (.iadd, 1) := dk_96 (dk_at dksX11_used_1 7 rfl rfl)
theorem dX11_used_32 : decode cX11_used 32 = .ok (.iaload, 1) := dk_46 (dk_at dksX11_used_1 8 rfl rfl)
theorem dX11_used_33 : decode cX11_used 33 = .ok (.goto 4, 3) := dk_167 0 4 (dk_at dksX11_used_1 9 rfl rfl)
theorem dX11_used_36 : decode cX11_used 36 = .ok (.iconst 0, 1) := dk_3 (dk_at dksX11_used_1 12 rfl rfl)
theorem dX11_used_37 : decode cX11_used 37 = .ok (.iadd, 1) := dk_96 (dk_at dksX11_used_1 13 rfl rfl)
theorem dX11_used_38 : decode cX11_used 38 = .ok (.istore_n 2, 1) := dk_61 (dk_at dksX11_used_1 14 rfl rfl)
theorem dX11_used_39 : decode cX11_used 39 = .ok (.iinc 3 1, 3) := dk_132 3 1 (dk_at dksX11_used_1 15 rfl rfl)
theorem dX11_used_42 : decode cX11_used 42 = .ok (.goto (-38), 3) := dk_167 255 218 (dk_at dksX11_used_1 18 rfl rfl)
theorem dX11_used_45 : decode cX11_used 45 = .ok (.iload_n 2, 1) := dk_28 (dk_at dksX11_used_1 21 rfl rfl)
theorem dX11_used_46 : decode cX11_used 46 = .ok (.ireturn, 1) := dk_172 (dk_at dksX11_used_1 22 rfl rfl)
abbrev cX11_isAhead : ByteArray := prog_16_method_22_code
def yX11_isAhead : MethodName := ⟨RX11, "isAhead", "(II)Z"⟩
def dkwX11_isAhead_1 : List UInt8 := [154, 0, 12, 27, 28, 162, 0, 7, 4, 167, 0, 4, 3, 172]
abbrev dktX11_isAhead_1 : List UInt8 := dkwX11_isAhead_1 ++ []
def dkwX11_isAhead_0 : List UInt8 := [42, 27, 182, 0, 117, 66, 42, 28, 182, 0, 117, 55, 5, 33, 22, 5, 148, 157, 0, 15, 33, 22, 5, 148]
abbrev dktX11_isAhead_0 : List UInt8 := dkwX11_isAhead_0 ++ dktX11_isAhead_1
theorem dksX11_isAhead_0 : cX11_isAhead.data.toList.drop 0 = dktX11_isAhead_0 := by decide +kernel
theorem dksX11_isAhead_1 : cX11_isAhead.data.toList.drop 24 = dktX11_isAhead_1 := dk_seg dksX11_isAhead_0 24 rfl rfl
theorem dX11_isAhead_0 : decode cX11_isAhead 0 = .ok (.aload_n 0, 1) := dk_42 (dk_at dksX11_isAhead_0 0 rfl rfl)
theorem dX11_isAhead_1 : decode cX11_isAhead 1 = .ok (.iload_n 1, 1) := dk_27 (dk_at dksX11_isAhead_0 1 rfl rfl)
theorem dX11_isAhead_2 : decode cX11_isAhead 2 = .ok (.invokevirtual 117, 3) := dk_182 0 117 (dk_at dksX11_isAhead_0 2 rfl rfl)
theorem dX11_isAhead_5 : decode cX11_isAhead 5 = .ok (.lstore_n 3, 1) := dk_66 (dk_at dksX11_isAhead_0 5 rfl rfl)
theorem dX11_isAhead_6 : decode cX11_isAhead 6 = .ok (.aload_n 0, 1) := dk_42 (dk_at dksX11_isAhead_0 6 rfl rfl)
theorem dX11_isAhead_7 : decode cX11_isAhead 7 = .ok (.iload_n 2, 1) := dk_28 (dk_at dksX11_isAhead_0 7 rfl rfl)
theorem dX11_isAhead_8 : decode cX11_isAhead 8 = .ok (.invokevirtual 117, 3) := dk_182 0 117 (dk_at dksX11_isAhead_0 8 rfl rfl)
theorem dX11_isAhead_11 : decode cX11_isAhead 11 = .ok (.lstore 5, 2) := dk_55 5 (dk_at dksX11_isAhead_0 11 rfl rfl)
theorem dX11_isAhead_13 : decode cX11_isAhead 13 = .ok (.lload_n 3, 1) := dk_33 (dk_at dksX11_isAhead_0 13 rfl rfl)
theorem dX11_isAhead_14 : decode cX11_isAhead 14 = .ok (.lload 5, 2) := dk_22 5 (dk_at dksX11_isAhead_0 14 rfl rfl)
theorem dX11_isAhead_16 : decode cX11_isAhead 16 = .ok (.lcmp, 1) := dk_148 (dk_at dksX11_isAhead_0 16 rfl rfl)
theorem dX11_isAhead_17 : decode cX11_isAhead 17 = .ok (.ifCond .gt 15, 3) := dk_157 0 15 (dk_at dksX11_isAhead_0 17 rfl rfl)
theorem dX11_isAhead_20 : decode cX11_isAhead 20 = .ok (.lload_n 3, 1) := dk_33 (dk_at dksX11_isAhead_0 20 rfl rfl)
theorem dX11_isAhead_21 : decode cX11_isAhead 21 = .ok (.lload 5, 2) := dk_22 5 (dk_at dksX11_isAhead_0 21 rfl rfl)
theorem dX11_isAhead_23 : decode cX11_isAhead 23 = .ok (.lcmp, 1) := dk_148 (dk_at dksX11_isAhead_0 23 rfl rfl)
theorem dX11_isAhead_24 : decode cX11_isAhead 24 = .ok (.ifCond .ne 12, 3) := dk_154 0 12 (dk_at dksX11_isAhead_1 0 rfl rfl)
theorem dX11_isAhead_27 : decode cX11_isAhead 27 = .ok (.iload_n 1, 1) := dk_27 (dk_at dksX11_isAhead_1 3 rfl rfl)
theorem dX11_isAhead_28 : decode cX11_isAhead 28 = .ok (.iload_n 2, 1) := dk_28 (dk_at dksX11_isAhead_1 4 rfl rfl)
theorem dX11_isAhead_29 : decode cX11_isAhead 29 = .ok (.if_icmp .ge 7, 3) := dk_162 0 7 (dk_at dksX11_isAhead_1 5 rfl rfl)
theorem dX11_isAhead_32 : decode cX11_isAhead 32 = .ok (.iconst 1, 1) := dk_4 (dk_at dksX11_isAhead_1 8 rfl rfl)
theorem dX11_isAhead_33 : decode cX11_isAhead 33 = .ok (.goto 4, 3) := dk_167 0 4 (dk_at dksX11_isAhead_1 9 rfl rfl)
theorem dX11_isAhead_36 : decode cX11_isAhead 36 = .ok (.iconst 0, 1) := dk_3 (dk_at dksX11_isAhead_1 12 rfl rfl)
theorem dX11_isAhead_37 : decode cX11_isAhead 37 = .ok (.ireturn, 1) := dk_172 (dk_at dksX11_isAhead_1 13 rfl rfl)
abbrev cX11_priority : ByteArray := prog_16_method_21_code
def yX11_priority : MethodName := ⟨RX11, "priority", "(I)J"⟩
def dkwX11_priority_4 : List UInt8 := [22, 8, 173]
abbrev dktX11_priority_4 : List UInt8 := dkwX11_priority_4 ++ []
def dkwX11_priority_3 : List UInt8 := [180, 0, 114, 133, 167, 0, 7, 32, 22, 6, 97, 55, 8, 22, 8, 32, 148, 156, 0, 7, 32, 167, 0, 5]
abbrev dktX11_priority_3 : List UInt8 := dkwX11_priority_3 ++ dktX11_priority_4
def dkwX11_priority_2 : List UInt8 := [20, 0, 112, 167, 0, 5, 22, 4, 55, 6, 32, 22, 6, 97, 42, 180, 0, 114, 133, 148, 158, 0, 11, 42]
abbrev dktX11_priority_2 : List UInt8 := dkwX11_priority_2 ++ dktX11_priority_3
def dkwX11_priority_1 : List UInt8 := [180, 0, 62, 27, 47, 101, 42, 180, 0, 109, 109, 55, 4, 22, 4, 20, 0, 112, 148, 158, 0, 9]
abbrev dktX11_priority_1 : List UInt8 := dkwX11_priority_1 ++ dktX11_priority_2
def dkwX11_priority_0 : List UInt8 := [42, 180, 0, 38, 27, 46, 133, 65, 42, 180, 0, 109, 9, 148, 154, 0, 5, 32, 173, 42, 180, 0, 89, 42]
abbrev dktX11_priority_0 : List UInt8 := dkwX11_priority_0 ++ dktX11_priority_1
theorem dksX11_priority_0 : cX11_priority.data.toList.drop 0 = dktX11_priority_0 := by decide +kernel
theorem dksX11_priority_1 : cX11_priority.data.toList.drop 24 = dktX11_priority_1 := dk_seg dksX11_priority_0 24 rfl rfl
theorem dksX11_priority_2 : cX11_priority.data.toList.drop 46 = dktX11_priority_2 := dk_seg dksX11_priority_1 22 rfl rfl
theorem dksX11_priority_3 : cX11_priority.data.toList.drop 70 = dktX11_priority_3 := dk_seg dksX11_priority_2 24 rfl rfl
theorem dksX11_priority_4 : cX11_priority.data.toList.drop 94 = dktX11_priority_4 := dk_seg dksX11_priority_3 24 rfl rfl
theorem dX11_priority_0 : decode cX11_priority 0 = .ok (.aload_n 0, 1) := dk_42 (dk_at dksX11_priority_0 0 rfl rfl)
theorem dX11_priority_1 : decode cX11_priority 1 = .ok (.getfield 38, 3) := dk_180 0 38 (dk_at dksX11_priority_0 1 rfl rfl)
theorem dX11_priority_4 : decode cX11_priority 4 = .ok (.iload_n 1, 1) := dk_27 (dk_at dksX11_priority_0 4 rfl rfl)
theorem dX11_priority_5 : decode cX11_priority 5 = .ok (.iaload, 1) := dk_46 (dk_at dksX11_priority_0 5 rfl rfl)
theorem dX11_priority_6 : decode cX11_priority 6 = .ok (.i2l, 1) := dk_133 (dk_at dksX11_priority_0 6 rfl rfl)
theorem dX11_priority_7 : decode cX11_priority 7 = .ok (.lstore_n 2, 1) := dk_65 (dk_at dksX11_priority_0 7 rfl rfl)
theorem dX11_priority_8 : decode cX11_priority 8 = .ok (.aload_n 0, 1) := dk_42 (dk_at dksX11_priority_0 8 rfl rfl)
theorem dX11_priority_9 : decode cX11_priority 9 = .ok (.getfield 109, 3) := dk_180 0 109 (dk_at dksX11_priority_0 9 rfl rfl)
theorem dX11_priority_12 : decode cX11_priority 12 = .ok (.lconst 0, 1) := dk_9 (dk_at dksX11_priority_0 12 rfl rfl)
theorem dX11_priority_13 : decode cX11_priority 13 = .ok (.lcmp, 1) := dk_148 (dk_at dksX11_priority_0 13 rfl rfl)
theorem dX11_priority_14 : decode cX11_priority 14 = .ok (.ifCond .ne 5, 3) := dk_154 0 5 (dk_at dksX11_priority_0 14 rfl rfl)
theorem dX11_priority_17 : decode cX11_priority 17 = .ok (.lload_n 2, 1) := dk_32 (dk_at dksX11_priority_0 17 rfl rfl)
theorem dX11_priority_18 : decode cX11_priority 18 = .ok (.lreturn, 1) := dk_173 (dk_at dksX11_priority_0 18 rfl rfl)
theorem dX11_priority_19 : decode cX11_priority 19 = .ok (.aload_n 0, 1) := dk_42 (dk_at dksX11_priority_0 19 rfl rfl)
theorem dX11_priority_20 : decode cX11_priority 20 = .ok (.getfield 89, 3) := dk_180 0 89 (dk_at dksX11_priority_0 20 rfl rfl)
theorem dX11_priority_23 : decode cX11_priority 23 = .ok (.aload_n 0, 1) := dk_42 (dk_at dksX11_priority_0 23 rfl rfl)
theorem dX11_priority_24 : decode cX11_priority 24 = .ok (.getfield 62, 3) := dk_180 0 62 (dk_at dksX11_priority_1 0 rfl rfl)
theorem dX11_priority_27 : decode cX11_priority 27 = .ok (.iload_n 1, 1) := dk_27 (dk_at dksX11_priority_1 3 rfl rfl)
theorem dX11_priority_28 : decode cX11_priority 28 = .ok (.laload, 1) := dk_47 (dk_at dksX11_priority_1 4 rfl rfl)
theorem dX11_priority_29 : decode cX11_priority 29 = .ok (.lsub, 1) := dk_101 (dk_at dksX11_priority_1 5 rfl rfl)
theorem dX11_priority_30 : decode cX11_priority 30 = .ok (.aload_n 0, 1) := dk_42 (dk_at dksX11_priority_1 6 rfl rfl)
theorem dX11_priority_31 : decode cX11_priority 31 = .ok (.getfield 109, 3) := dk_180 0 109 (dk_at dksX11_priority_1 7 rfl rfl)
theorem dX11_priority_34 : decode cX11_priority 34 = .ok (.ldiv, 1) := dk_109 (dk_at dksX11_priority_1 10 rfl rfl)
theorem dX11_priority_35 : decode cX11_priority 35 = .ok (.lstore 4, 2) := dk_55 4 (dk_at dksX11_priority_1 11 rfl rfl)
theorem dX11_priority_37 : decode cX11_priority 37 = .ok (.lload 4, 2) := dk_22 4 (dk_at dksX11_priority_1 13 rfl rfl)
theorem dX11_priority_39 : decode cX11_priority 39 = .ok (.ldc2_w 112, 3) := dk_20 0 112 (dk_at dksX11_priority_1 15 rfl rfl)
theorem dX11_priority_42 : decode cX11_priority 42 = .ok (.lcmp, 1) := dk_148 (dk_at dksX11_priority_1 18 rfl rfl)
theorem dX11_priority_43 : decode cX11_priority 43 = .ok (.ifCond .le 9, 3) := dk_158 0 9 (dk_at dksX11_priority_1 19 rfl rfl)
theorem dX11_priority_46 : decode cX11_priority 46 = .ok (.ldc2_w 112, 3) := dk_20 0 112 (dk_at dksX11_priority_2 0 rfl rfl)
theorem dX11_priority_49 : decode cX11_priority 49 = .ok (.goto 5, 3) := dk_167 0 5 (dk_at dksX11_priority_2 3 rfl rfl)
theorem dX11_priority_52 : decode cX11_priority 52 = .ok (.lload 4, 2) := dk_22 4 (dk_at dksX11_priority_2 6 rfl rfl)
theorem dX11_priority_54 : decode cX11_priority 54 = .ok (.lstore 6, 2) := dk_55 6 (dk_at dksX11_priority_2 8 rfl rfl)
theorem dX11_priority_56 : decode cX11_priority 56 = .ok (.lload_n 2, 1) := dk_32 (dk_at dksX11_priority_2 10 rfl rfl)
theorem dX11_priority_57 : decode cX11_priority 57 = .ok (.lload 6, 2) := dk_22 6 (dk_at dksX11_priority_2 11 rfl rfl)
theorem dX11_priority_59 : decode cX11_priority 59 = .ok (.ladd, 1) := dk_97 (dk_at dksX11_priority_2 13 rfl rfl)
theorem dX11_priority_60 : decode cX11_priority 60 = .ok (.aload_n 0, 1) := dk_42 (dk_at dksX11_priority_2 14 rfl rfl)
theorem dX11_priority_61 : decode cX11_priority 61 = .ok (.getfield 114, 3) := dk_180 0 114 (dk_at dksX11_priority_2 15 rfl rfl)
theorem dX11_priority_64 : decode cX11_priority 64 = .ok (.i2l, 1) := dk_133 (dk_at dksX11_priority_2 18 rfl rfl)
theorem dX11_priority_65 : decode cX11_priority 65 = .ok (.lcmp, 1) := dk_148 (dk_at dksX11_priority_2 19 rfl rfl)
theorem dX11_priority_66 : decode cX11_priority 66 = .ok (.ifCond .le 11, 3) := dk_158 0 11 (dk_at dksX11_priority_2 20 rfl rfl)
theorem dX11_priority_69 : decode cX11_priority 69 = .ok (.aload_n 0, 1) := dk_42 (dk_at dksX11_priority_2 23 rfl rfl)
theorem dX11_priority_70 : decode cX11_priority 70 = .ok (.getfield 114, 3) := dk_180 0 114 (dk_at dksX11_priority_3 0 rfl rfl)
theorem dX11_priority_73 : decode cX11_priority 73 = .ok (.i2l, 1) := dk_133 (dk_at dksX11_priority_3 3 rfl rfl)
theorem dX11_priority_74 : decode cX11_priority 74 = .ok (.goto 7, 3) := dk_167 0 7 (dk_at dksX11_priority_3 4 rfl rfl)
theorem dX11_priority_77 : decode cX11_priority 77 = .ok (.lload_n 2, 1) := dk_32 (dk_at dksX11_priority_3 7 rfl rfl)
theorem dX11_priority_78 : decode cX11_priority 78 = .ok (.lload 6, 2) := dk_22 6 (dk_at dksX11_priority_3 8 rfl rfl)
theorem dX11_priority_80 : decode cX11_priority 80 = .ok (.ladd, 1) := dk_97 (dk_at dksX11_priority_3 10 rfl rfl)
theorem dX11_priority_81 : decode cX11_priority 81 = .ok (.lstore 8, 2) := dk_55 8 (dk_at dksX11_priority_3 11 rfl rfl)
theorem dX11_priority_83 : decode cX11_priority 83 = .ok (.lload 8, 2) := dk_22 8 (dk_at dksX11_priority_3 13 rfl rfl)
theorem dX11_priority_85 : decode cX11_priority 85 = .ok (.lload_n 2, 1) := dk_32 (dk_at dksX11_priority_3 15 rfl rfl)
theorem dX11_priority_86 : decode cX11_priority 86 = .ok (.lcmp, 1) := dk_148 (dk_at dksX11_priority_3 16 rfl rfl)
theorem dX11_priority_87 : decode cX11_priority 87 = .ok (.ifCond .ge 7, 3) := dk_156 0 7 (dk_at dksX11_priority_3 17 rfl rfl)
theorem dX11_priority_90 : decode cX11_priority 90 = .ok (.lload_n 2, 1) := dk_32 (dk_at dksX11_priority_3 20 rfl rfl)
theorem dX11_priority_91 : decode cX11_priority 91 = .ok (.goto 5, 3) := dk_167 0 5 (dk_at dksX11_priority_3 21 rfl rfl)
theorem dX11_priority_94 : decode cX11_priority 94 = .ok (.lload 8, 2) := dk_22 8 (dk_at dksX11_priority_4 0 rfl rfl)
theorem dX11_priority_96 : decode cX11_priority 96 = .ok (.lreturn, 1) := dk_173 (dk_at dksX11_priority_4 2 rfl rfl)
abbrev cX11_end : ByteArray := prog_16_method_24_code
def yX11_end : MethodName := ⟨RX11, "end", "(I)I"⟩
def dkwX11_end_3 : List UInt8 := [180, 0, 13, 28, 46, 79, 132, 2, 1, 167, 255, 219, 4, 172]
abbrev dktX11_end_3 : List UInt8 := dkwX11_end_3 ++ []
def dkwX11_end_2 : List UInt8 := [42, 180, 0, 13, 28, 42, 180, 0, 13, 28, 46, 27, 4, 100, 160, 0, 7, 2, 167, 0, 9, 42]
abbrev dktX11_end_2 : List UInt8 := dkwX11_end_2 ++ dktX11_end_3
def dkwX11_end_1 : List UInt8 := [5, 159, 0, 6, 16, 251, 172, 42, 180, 0, 44, 27, 4, 100, 6, 79, 3, 61, 28, 16, 12, 162, 0, 37]
abbrev dktX11_end_1 : List UInt8 := dkwX11_end_1 ++ dktX11_end_2
def dkwX11_end_0 : List UInt8 := [42, 3, 181, 0, 69, 42, 27, 182, 0, 93, 154, 0, 6, 16, 254, 172, 42, 180, 0, 44, 27, 4, 100, 46]
abbrev dktX11_end_0 : List UInt8 := dkwX11_end_0 ++ dktX11_end_1
theorem dksX11_end_0 : cX11_end.data.toList.drop 0 = dktX11_end_0 := by decide +kernel
theorem dksX11_end_1 : cX11_end.data.toList.drop 24 = dktX11_end_1 := dk_seg dksX11_end_0 24 rfl rfl
theorem dksX11_end_2 : cX11_end.data.toList.drop 48 = dktX11_end_2 := dk_seg dksX11_end_1 24 rfl rfl
theorem dksX11_end_3 : cX11_end.data.toList.drop 70 = dktX11_end_3 := dk_seg dksX11_end_2 22 rfl rfl
theorem dX11_end_0 : decode cX11_end 0 = .ok (.aload_n 0, 1) := dk_42 (dk_at dksX11_end_0 0 rfl rfl)
theorem dX11_end_1 : decode cX11_end 1 = .ok (.iconst 0, 1) := dk_3 (dk_at dksX11_end_0 1 rfl rfl)
theorem dX11_end_2 : decode cX11_end 2 = .ok (.putfield 69, 3) := dk_181 0 69 (dk_at dksX11_end_0 2 rfl rfl)
theorem dX11_end_5 : decode cX11_end 5 = .ok (.aload_n 0, 1) := dk_42 (dk_at dksX11_end_0 5 rfl rfl)
theorem dX11_end_6 : decode cX11_end 6 = .ok (.iload_n 1, 1) := dk_27 (dk_at dksX11_end_0 6 rfl rfl)
theorem dX11_end_7 : decode cX11_end 7 = .ok (.invokevirtual 93, 3) := dk_182 0 93 (dk_at dksX11_end_0 7 rfl rfl)
theorem dX11_end_10 : decode cX11_end 10 = .ok (.ifCond .ne 6, 3) := dk_154 0 6 (dk_at dksX11_end_0 10 rfl rfl)
theorem dX11_end_13 : decode cX11_end 13 = .ok (.bipush (-2), 2) := dk_16 254 (dk_at dksX11_end_0 13 rfl rfl)
theorem dX11_end_15 : decode cX11_end 15 = .ok (.ireturn, 1) := dk_172 (dk_at dksX11_end_0 15 rfl rfl)
theorem dX11_end_16 : decode cX11_end 16 = .ok (.aload_n 0, 1) := dk_42 (dk_at dksX11_end_0 16 rfl rfl)
theorem dX11_end_17 : decode cX11_end 17 = .ok (.getfield 44, 3) := dk_180 0 44 (dk_at dksX11_end_0 17 rfl rfl)
theorem dX11_end_20 : decode cX11_end 20 = .ok (.iload_n 1, 1) := dk_27 (dk_at dksX11_end_0 20 rfl rfl)
theorem dX11_end_21 : decode cX11_end 21 = .ok (.iconst 1, 1) := dk_4 (dk_at dksX11_end_0 21 rfl rfl)
theorem dX11_end_22 : decode cX11_end 22 = .ok (.isub, 1) := dk_100 (dk_at dksX11_end_0 22 rfl rfl)
theorem dX11_end_23 : decode cX11_end 23 = .ok (.iaload, 1) := dk_46 (dk_at dksX11_end_0 23 rfl rfl)
theorem dX11_end_24 : decode cX11_end 24 = .ok (.iconst 2, 1) := dk_5 (dk_at dksX11_end_1 0 rfl rfl)
theorem dX11_end_25 : decode cX11_end 25 = .ok (.if_icmp .eq 6, 3) := dk_159 0 6 (dk_at dksX11_end_1 1 rfl rfl)
theorem dX11_end_28 : decode cX11_end 28 = .ok (.bipush (-5), 2) := dk_16 251 (dk_at dksX11_end_1 4 rfl rfl)
theorem dX11_end_30 : decode cX11_end 30 = .ok (.ireturn, 1) := dk_172 (dk_at dksX11_end_1 6 rfl rfl)
theorem dX11_end_31 : decode cX11_end 31 = .ok (.aload_n 0, 1) := dk_42 (dk_at dksX11_end_1 7 rfl rfl)
theorem dX11_end_32 : decode cX11_end 32 = .ok (.getfield 44, 3) := dk_180 0 44 (dk_at dksX11_end_1 8 rfl rfl)
theorem dX11_end_35 : decode cX11_end 35 = .ok (.iload_n 1, 1) := dk_27 (dk_at dksX11_end_1 11 rfl rfl)
theorem dX11_end_36 : decode cX11_end 36 = .ok (.iconst 1, 1) := dk_4 (dk_at dksX11_end_1 12 rfl rfl)
theorem dX11_end_37 : decode cX11_end 37 = .ok (.isub, 1) := dk_100 (dk_at dksX11_end_1 13 rfl rfl)
theorem dX11_end_38 : decode cX11_end 38 = .ok (.iconst 3, 1) := dk_6 (dk_at dksX11_end_1 14 rfl rfl)
theorem dX11_end_39 : decode cX11_end 39 = .ok (.iastore, 1) := dk_79 (dk_at dksX11_end_1 15 rfl rfl)
theorem dX11_end_40 : decode cX11_end 40 = .ok (.iconst 0, 1) := dk_3 (dk_at dksX11_end_1 16 rfl rfl)
theorem dX11_end_41 : decode cX11_end 41 = .ok (.istore_n 2, 1) := dk_61 (dk_at dksX11_end_1 17 rfl rfl)
theorem dX11_end_42 : decode cX11_end 42 = .ok (.iload_n 2, 1) := dk_28 (dk_at dksX11_end_1 18 rfl rfl)
theorem dX11_end_43 : decode cX11_end 43 = .ok (.bipush 12, 2) := dk_16 12 (dk_at dksX11_end_1 19 rfl rfl)
theorem dX11_end_45 : decode cX11_end 45 = .ok (.if_icmp .ge 37, 3) := dk_162 0 37 (dk_at dksX11_end_1 21 rfl rfl)
theorem dX11_end_48 : decode cX11_end 48 = .ok (.aload_n 0, 1) := dk_42 (dk_at dksX11_end_2 0 rfl rfl)
theorem dX11_end_49 : decode cX11_end 49 = .ok (.getfield 13, 3) := dk_180 0 13 (dk_at dksX11_end_2 1 rfl rfl)
theorem dX11_end_52 : decode cX11_end 52 = .ok (.iload_n 2, 1) := dk_28 (dk_at dksX11_end_2 4 rfl rfl)
theorem dX11_end_53 : decode cX11_end 53 = .ok (.aload_n 0, 1) := dk_42 (dk_at dksX11_end_2 5 rfl rfl)
theorem dX11_end_54 : decode cX11_end 54 = .ok (.getfield 13, 3) := dk_180 0 13 (dk_at dksX11_end_2 6 rfl rfl)
theorem dX11_end_57 : decode cX11_end 57 = .ok (.iload_n 2, 1) := dk_28 (dk_at dksX11_end_2 9 rfl rfl)
theorem dX11_end_58 : decode cX11_end 58 = .ok (.iaload, 1) := dk_46 (dk_at dksX11_end_2 10 rfl rfl)
theorem dX11_end_59 : decode cX11_end 59 = .ok (.iload_n 1, 1) := dk_27 (dk_at dksX11_end_2 11 rfl rfl)
theorem dX11_end_60 : decode cX11_end 60 = .ok (.iconst 1, 1) := dk_4 (dk_at dksX11_end_2 12 rfl rfl)
theorem dX11_end_61 : decode cX11_end 61 = .ok (.isub, 1) := dk_100 (dk_at dksX11_end_2 13 rfl rfl)
theorem dX11_end_62 : decode cX11_end 62 = .ok (.if_icmp .ne 7, 3) := dk_160 0 7 (dk_at dksX11_end_2 14 rfl rfl)
theorem dX11_end_65 : decode cX11_end 65 = .ok (.iconst (-1), 1) := dk_2 (dk_at dksX11_end_2 17 rfl rfl)
theorem dX11_end_66 : decode cX11_end 66 = .ok (.goto 9, 3) := dk_167 0 9 (dk_at dksX11_end_2 18 rfl rfl)
theorem dX11_end_69 : decode cX11_end 69 = .ok (.aload_n 0, 1) := dk_42 (dk_at dksX11_end_2 21 rfl rfl)
theorem dX11_end_70 : decode cX11_end 70 = .ok (.getfield 13, 3) := dk_180 0 13 (dk_at dksX11_end_3 0 rfl rfl)
theorem dX11_end_73 : decode cX11_end 73 = .ok (.iload_n 2, 1) := dk_28 (dk_at dksX11_end_3 3 rfl rfl)
theorem dX11_end_74 : decode cX11_end 74 = .ok (.iaload, 1) := dk_46 (dk_at dksX11_end_3 4 rfl rfl)
theorem dX11_end_75 : decode cX11_end 75 = .ok (.iastore, 1) := dk_79 (dk_at dksX11_end_3 5 rfl rfl)
theorem dX11_end_76 : decode cX11_end 76 = .ok (.iinc 2 1, 3) := dk_132 2 1 (dk_at dksX11_end_3 6 rfl rfl)
theorem dX11_end_79 : decode cX11_end 79 = .ok (.goto (-37), 3) := dk_167 255 219 (dk_at dksX11_end_3 9 rfl rfl)
theorem dX11_end_82 : decode cX11_end 82 = .ok (.iconst 1, 1) := dk_4 (dk_at dksX11_end_3 12 rfl rfl)
theorem dX11_end_83 : decode cX11_end 83 = .ok (.ireturn, 1) := dk_172 (dk_at dksX11_end_3 13 rfl rfl)
abbrev cX11_age : ByteArray := prog_16_method_25_code
def yX11_age : MethodName := ⟨RX11, "age", "(JI)I"⟩
def dkwX11_age_1 : List UInt8 := [42, 31, 181, 0, 109, 42, 29, 181, 0, 114, 4, 172]
abbrev dktX11_age_1 : List UInt8 := dkwX11_age_1 ++ []
def dkwX11_age_0 : List UInt8 := [42, 3, 181, 0, 69, 31, 9, 148, 155, 0, 13, 29, 155, 0, 9, 29, 16, 15, 164, 0, 6, 16, 252, 172]
abbrev dktX11_age_0 : List UInt8 := dkwX11_age_0 ++ dktX11_age_1
theorem dksX11_age_0 : cX11_age.data.toList.drop 0 = dktX11_age_0 := by decide +kernel
theorem dksX11_age_1 : cX11_age.data.toList.drop 24 = dktX11_age_1 := dk_seg dksX11_age_0 24 rfl rfl
theorem dX11_age_0 : decode cX11_age 0 = .ok (.aload_n 0, 1) := dk_42 (dk_at dksX11_age_0 0 rfl rfl)
theorem dX11_age_1 : decode cX11_age 1 = .ok (.iconst 0, 1) := dk_3 (dk_at dksX11_age_0 1 rfl rfl)
theorem dX11_age_2 : decode cX11_age 2 = .ok (.putfield 69, 3) := dk_181 0 69 (dk_at dksX11_age_0 2 rfl rfl)
theorem dX11_age_5 : decode cX11_age 5 = .ok (.lload_n 1, 1) := dk_31 (dk_at dksX11_age_0 5 rfl rfl)
theorem dX11_age_6 : decode cX11_age 6 = .ok (.lconst 0, 1) := dk_9 (dk_at dksX11_age_0 6 rfl rfl)
theorem dX11_age_7 : decode cX11_age 7 = .ok (.lcmp, 1) := dk_148 (dk_at dksX11_age_0 7 rfl rfl)
theorem dX11_age_8 : decode cX11_age 8 = .ok (.ifCond .lt 13, 3) := dk_155 0 13 (dk_at dksX11_age_0 8 rfl rfl)
theorem dX11_age_11 : decode cX11_age 11 = .ok (.iload_n 3, 1) := dk_29 (dk_at dksX11_age_0 11 rfl rfl)
theorem dX11_age_12 : decode cX11_age 12 = .ok (.ifCond .lt 9, 3) := dk_155 0 9 (dk_at dksX11_age_0 12 rfl rfl)
theorem dX11_age_15 : decode cX11_age 15 = .ok (.iload_n 3, 1) := dk_29 (dk_at dksX11_age_0 15 rfl rfl)
theorem dX11_age_16 : decode cX11_age 16 = .ok (.bipush 15, 2) := dk_16 15 (dk_at dksX11_age_0 16 rfl rfl)
theorem dX11_age_18 : decode cX11_age 18 = .ok (.if_icmp .le 6, 3) := dk_164 0 6 (dk_at dksX11_age_0 18 rfl rfl)
theorem dX11_age_21 : decode cX11_age 21 = .ok (.bipush (-4), 2) := dk_16 252 (dk_at dksX11_age_0 21 rfl rfl)
theorem dX11_age_23 : decode cX11_age 23 = .ok (.ireturn, 1) := dk_172 (dk_at dksX11_age_0 23 rfl rfl)
theorem dX11_age_24 : decode cX11_age 24 = .ok (.aload_n 0, 1) := dk_42 (dk_at dksX11_age_1 0 rfl rfl)
theorem dX11_age_25 : decode cX11_age 25 = .ok (.lload_n 1, 1) := dk_31 (dk_at dksX11_age_1 1 rfl rfl)
theorem dX11_age_26 : decode cX11_age 26 = .ok (.putfield 109, 3) := dk_181 0 109 (dk_at dksX11_age_1 2 rfl rfl)
theorem dX11_age_29 : decode cX11_age 29 = .ok (.aload_n 0, 1) := dk_42 (dk_at dksX11_age_1 5 rfl rfl)
theorem dX11_age_30 : decode cX11_age 30 = .ok (.iload_n 3, 1) := dk_29 (dk_at dksX11_age_1 6 rfl rfl)
theorem dX11_age_31 : decode cX11_age 31 = .ok (.putfield 114, 3) := dk_181 0 114 (dk_at dksX11_age_1 7 rfl rfl)
theorem dX11_age_34 : decode cX11_age 34 = .ok (.iconst 1, 1) := dk_4 (dk_at dksX11_age_1 10 rfl rfl)
theorem dX11_age_35 : decode cX11_age 35 = .ok (.ireturn, 1) := dk_172 (dk_at dksX11_age_1 11 rfl rfl)
abbrev cX11_drain : ByteArray := prog_16_method_26_code
def yX11_drain : MethodName := ⟨RX11, "drain", "(IZ)I"⟩
def dkwX11_drain_1 : List UInt8 := [62, 42, 180, 0, 16, 27, 4, 100, 28, 84, 29, 28, 160, 0, 7, 3, 167, 0, 4, 4, 172]
abbrev dktX11_drain_1 : List UInt8 := dkwX11_drain_1 ++ []
def dkwX11_drain_0 : List UInt8 := [42, 3, 181, 0, 69, 42, 27, 182, 0, 79, 154, 0, 6, 16, 254, 172, 42, 180, 0, 16, 27, 4, 100, 51]
abbrev dktX11_drain_0 : List UInt8 := dkwX11_drain_0 ++ dktX11_drain_1
theorem dksX11_drain_0 : cX11_drain.data.toList.drop 0 = dktX11_drain_0 := by decide +kernel
theorem dksX11_drain_1 : cX11_drain.data.toList.drop 24 = dktX11_drain_1 := dk_seg dksX11_drain_0 24 rfl rfl
theorem dX11_drain_0 : decode cX11_drain 0 = .ok (.aload_n 0, 1) := dk_42 (dk_at dksX11_drain_0 0 rfl rfl)
theorem dX11_drain_1 : decode cX11_drain 1 = .ok (.iconst 0, 1) := dk_3 (dk_at dksX11_drain_0 1 rfl rfl)
theorem dX11_drain_2 : decode cX11_drain 2 = .ok (.putfield 69, 3) := dk_181 0 69 (dk_at dksX11_drain_0 2 rfl rfl)
theorem dX11_drain_5 : decode cX11_drain 5 = .ok (.aload_n 0, 1) := dk_42 (dk_at dksX11_drain_0 5 rfl rfl)
theorem dX11_drain_6 : decode cX11_drain 6 = .ok (.iload_n 1, 1) := dk_27 (dk_at dksX11_drain_0 6 rfl rfl)
theorem dX11_drain_7 : decode cX11_drain 7 = .ok (.invokevirtual 79, 3) := dk_182 0 79 (dk_at dksX11_drain_0 7 rfl rfl)
theorem dX11_drain_10 : decode cX11_drain 10 = .ok (.ifCond .ne 6, 3) := dk_154 0 6 (dk_at dksX11_drain_0 10 rfl rfl)
theorem dX11_drain_13 : decode cX11_drain 13 = .ok (.bipush (-2), 2) := dk_16 254 (dk_at dksX11_drain_0 13 rfl rfl)
theorem dX11_drain_15 : decode cX11_drain 15 = .ok (.ireturn, 1) := dk_172 (dk_at dksX11_drain_0 15 rfl rfl)
theorem dX11_drain_16 : decode cX11_drain 16 = .ok (.aload_n 0, 1) := dk_42 (dk_at dksX11_drain_0 16 rfl rfl)
theorem dX11_drain_17 : decode cX11_drain 17 = .ok (.getfield 16, 3) := dk_180 0 16 (dk_at dksX11_drain_0 17 rfl rfl)
theorem dX11_drain_20 : decode cX11_drain 20 = .ok (.iload_n 1, 1) := dk_27 (dk_at dksX11_drain_0 20 rfl rfl)
theorem dX11_drain_21 : decode cX11_drain 21 = .ok (.iconst 1, 1) := dk_4 (dk_at dksX11_drain_0 21 rfl rfl)
theorem dX11_drain_22 : decode cX11_drain 22 = .ok (.isub, 1) := dk_100 (dk_at dksX11_drain_0 22 rfl rfl)
theorem dX11_drain_23 : decode cX11_drain 23 = .ok (.baload, 1) := dk_51 (dk_at dksX11_drain_0 23 rfl rfl)
theorem dX11_drain_24 : decode cX11_drain 24 = .ok (.istore_n 3, 1) := dk_62 (dk_at dksX11_drain_1 0 rfl rfl)
theorem dX11_drain_25 : decode cX11_drain 25 = .ok (.aload_n 0, 1) := dk_42 (dk_at dksX11_drain_1 1 rfl rfl)
theorem dX11_drain_26 : decode cX11_drain 26 = .ok (.getfield 16, 3) := dk_180 0 16 (dk_at dksX11_drain_1 2 rfl rfl)
theorem dX11_drain_29 : decode cX11_drain 29 = .ok (.iload_n 1, 1) := dk_27 (dk_at dksX11_drain_1 5 rfl rfl)
theorem dX11_drain_30 : decode cX11_drain 30 = .ok (.iconst 1, 1) := dk_4 (dk_at dksX11_drain_1 6 rfl rfl)
theorem dX11_drain_31 : decode cX11_drain 31 = .ok (.isub, 1) := dk_100 (dk_at dksX11_drain_1 7 rfl rfl)
theorem dX11_drain_32 : decode cX11_drain 32 = .ok (.iload_n 2, 1) := dk_28 (dk_at dksX11_drain_1 8 rfl rfl)
theorem dX11_drain_33 : decode cX11_drain 33 = .ok (.bastore, 1) := dk_84 (dk_at dksX11_drain_1 9 rfl rfl)
theorem dX11_drain_34 : decode cX11_drain 34 = .ok (.iload_n 3, 1) := dk_29 (dk_at dksX11_drain_1 10 rfl rfl)
theorem dX11_drain_35 : decode cX11_drain 35 = .ok (.iload_n 2, 1) := dk_28 (dk_at dksX11_drain_1 11 rfl rfl)
theorem dX11_drain_36 : decode cX11_drain 36 = .ok (.if_icmp .ne 7, 3) := dk_160 0 7 (dk_at dksX11_drain_1 12 rfl rfl)
theorem dX11_drain_39 : decode cX11_drain 39 = .ok (.iconst 0, 1) := dk_3 (dk_at dksX11_drain_1 15 rfl rfl)
theorem dX11_drain_40 : decode cX11_drain 40 = .ok (.goto 4, 3) := dk_167 0 4 (dk_at dksX11_drain_1 16 rfl rfl)
theorem dX11_drain_43 : decode cX11_drain 43 = .ok (.iconst 1, 1) := dk_4 (dk_at dksX11_drain_1 19 rfl rfl)
theorem dX11_drain_44 : decode cX11_drain 44 = .ok (.ireturn, 1) := dk_172 (dk_at dksX11_drain_1 20 rfl rfl)
abbrev cX11_weight : ByteArray := prog_16_method_27_code
def yX11_weight : MethodName := ⟨RX11, "weight", "(II)I"⟩
def dkwX11_weight_1 : List UInt8 := [16, 252, 172, 42, 180, 0, 29, 27, 28, 79, 4, 172]
abbrev dktX11_weight_1 : List UInt8 := dkwX11_weight_1 ++ []
def dkwX11_weight_0 : List UInt8 := [42, 3, 181, 0, 69, 27, 184, 0, 83, 153, 0, 14, 28, 155, 0, 10, 28, 17, 3, 232, 164, 0, 6]
abbrev dktX11_weight_0 : List UInt8 := dkwX11_weight_0 ++ dktX11_weight_1
theorem dksX11_weight_0 : cX11_weight.data.toList.drop 0 = dktX11_weight_0 := by decide +kernel
theorem dksX11_weight_1 : cX11_weight.data.toList.drop 23 = dktX11_weight_1 := dk_seg dksX11_weight_0 23 rfl rfl
theorem dX11_weight_0 : decode cX11_weight 0 = .ok (.aload_n 0, 1) := dk_42 (dk_at dksX11_weight_0 0 rfl rfl)
theorem dX11_weight_1 : decode cX11_weight 1 = .ok (.iconst 0, 1) := dk_3 (dk_at dksX11_weight_0 1 rfl rfl)
theorem dX11_weight_2 : decode cX11_weight 2 = .ok (.putfield 69, 3) := dk_181 0 69 (dk_at dksX11_weight_0 2 rfl rfl)
theorem dX11_weight_5 : decode cX11_weight 5 = .ok (.iload_n 1, 1) := dk_27 (dk_at dksX11_weight_0 5 rfl rfl)
theorem dX11_weight_6 : decode cX11_weight 6 = .ok (.invokestatic 83, 3) := dk_184 0 83 (dk_at dksX11_weight_0 6 rfl rfl)
theorem dX11_weight_9 : decode cX11_weight 9 = .ok (.ifCond .eq 14, 3) := dk_153 0 14 (dk_at dksX11_weight_0 9 rfl rfl)
theorem dX11_weight_12 : decode cX11_weight 12 = .ok (.iload_n 2, 1) := dk_28 (dk_at dksX11_weight_0 12 rfl rfl)
theorem dX11_weight_13 : decode cX11_weight 13 = .ok (.ifCond .lt 10, 3) := dk_155 0 10 (dk_at dksX11_weight_0 13 rfl rfl)
theorem dX11_weight_16 : decode cX11_weight 16 = .ok (.iload_n 2, 1) := dk_28 (dk_at dksX11_weight_0 16 rfl rfl)
theorem dX11_weight_17 : decode cX11_weight 17 = .ok (.sipush 1000, 3) := dk_17 3 232 (dk_at dksX11_weight_0 17 rfl rfl)
theorem dX11_weight_20 : decode cX11_weight 20 = .ok (.if_icmp .le 6, 3) := dk_164 0 6 (dk_at dksX11_weight_0 20 rfl rfl)
theorem dX11_weight_23 : decode cX11_weight 23 = .ok (.bipush (-4), 2) := dk_16 252 (dk_at dksX11_weight_1 0 rfl rfl)
theorem dX11_weight_25 : decode cX11_weight 25 = .ok (.ireturn, 1) := dk_172 (dk_at dksX11_weight_1 2 rfl rfl)
theorem dX11_weight_26 : decode cX11_weight 26 = .ok (.aload_n 0, 1) := dk_42 (dk_at dksX11_weight_1 3 rfl rfl)
theorem dX11_weight_27 : decode cX11_weight 27 = .ok (.getfield 29, 3) := dk_180 0 29 (dk_at dksX11_weight_1 4 rfl rfl)
theorem dX11_weight_30 : decode cX11_weight 30 = .ok (.iload_n 1, 1) := dk_27 (dk_at dksX11_weight_1 7 rfl rfl)
theorem dX11_weight_31 : decode cX11_weight 31 = .ok (.iload_n 2, 1) := dk_28 (dk_at dksX11_weight_1 8 rfl rfl)
theorem dX11_weight_32 : decode cX11_weight 32 = .ok (.iastore, 1) := dk_79 (dk_at dksX11_weight_1 9 rfl rfl)
theorem dX11_weight_33 : decode cX11_weight 33 = .ok (.iconst 1, 1) := dk_4 (dk_at dksX11_weight_1 10 rfl rfl)
theorem dX11_weight_34 : decode cX11_weight 34 = .ok (.ireturn, 1) := dk_172 (dk_at dksX11_weight_1 11 rfl rfl)
abbrev cX11_share : ByteArray := prog_16_method_28_code
def yX11_share : MethodName := ⟨RX11, "share", "(IJ)J"⟩
def dkwX11_share_9 : List UInt8 := [27, 46, 133, 105, 22, 4, 109, 97, 21, 12, 133, 22, 10, 148, 156, 0, 7, 10, 167, 0, 4, 9, 97, 173]
abbrev dktX11_share_9 : List UInt8 := dkwX11_share_9 ++ []
def dkwX11_share_8 : List UInt8 := [54, 12, 132, 15, 1, 167, 255, 167, 22, 6, 42, 180, 0, 29, 27, 46, 133, 105, 22, 8, 42, 180, 0, 29]
abbrev dktX11_share_8 : List UInt8 := dkwX11_share_8 ++ dktX11_share_9
def dkwX11_share_7 : List UInt8 := [148, 157, 0, 17, 22, 16, 22, 13, 148, 154, 0, 13, 21, 15, 27, 162, 0, 7, 4, 167, 0, 4, 3, 96]
abbrev dktX11_share_7 : List UInt8 := dkwX11_share_7 ++ dktX11_share_8
def dkwX11_share_6 : List UInt8 := [55, 10, 22, 8, 42, 180, 0, 29, 21, 15, 46, 133, 105, 22, 4, 113, 55, 16, 21, 12, 22, 16, 22, 13]
abbrev dktX11_share_6 : List UInt8 := dkwX11_share_6 ++ dktX11_share_7
def dkwX11_share_5 : List UInt8 := [180, 0, 29, 21, 15, 46, 133, 105, 22, 8, 42, 180, 0, 29, 21, 15, 46, 133, 105, 22, 4, 109, 97, 101]
abbrev dktX11_share_5 : List UInt8 := dkwX11_share_5 ++ dktX11_share_6
def dkwX11_share_4 : List UInt8 := [46, 133, 105, 22, 4, 113, 55, 13, 3, 54, 15, 21, 15, 16, 36, 162, 0, 88, 22, 10, 22, 6, 42]
abbrev dktX11_share_4 : List UInt8 := dkwX11_share_4 ++ dktX11_share_5
def dkwX11_share_3 : List UInt8 := [22, 4, 109, 55, 6, 32, 22, 4, 113, 55, 8, 32, 55, 10, 3, 54, 12, 22, 8, 42, 180, 0, 29, 27]
abbrev dktX11_share_3 : List UInt8 := dkwX11_share_3 ++ dktX11_share_4
def dkwX11_share_2 : List UInt8 := [55, 4, 132, 6, 1, 167, 255, 233, 22, 4, 9, 148, 154, 0, 10, 42, 4, 181, 0, 69, 9, 173, 32]
abbrev dktX11_share_2 : List UInt8 := dkwX11_share_2 ++ dktX11_share_3
def dkwX11_share_1 : List UInt8 := [55, 4, 3, 54, 6, 21, 6, 16, 36, 162, 0, 22, 22, 4, 42, 180, 0, 29, 21, 6, 46, 133, 97]
abbrev dktX11_share_1 : List UInt8 := dkwX11_share_1 ++ dktX11_share_2
def dkwX11_share_0 : List UInt8 := [42, 3, 181, 0, 69, 27, 184, 0, 83, 153, 0, 9, 32, 9, 148, 156, 0, 7, 20, 0, 127, 173, 9]
abbrev dktX11_share_0 : List UInt8 := dkwX11_share_0 ++ dktX11_share_1
theorem dksX11_share_0 : cX11_share.data.toList.drop 0 = dktX11_share_0 := by decide +kernel
theorem dksX11_share_1 : cX11_share.data.toList.drop 23 = dktX11_share_1 := dk_seg dksX11_share_0 23 rfl rfl
theorem dksX11_share_2 : cX11_share.data.toList.drop 46 = dktX11_share_2 := dk_seg dksX11_share_1 23 rfl rfl
theorem dksX11_share_3 : cX11_share.data.toList.drop 69 = dktX11_share_3 := dk_seg dksX11_share_2 23 rfl rfl
theorem dksX11_share_4 : cX11_share.data.toList.drop 93 = dktX11_share_4 := dk_seg dksX11_share_3 24 rfl rfl
theorem dksX11_share_5 : cX11_share.data.toList.drop 116 = dktX11_share_5 := dk_seg dksX11_share_4 23 rfl rfl
theorem dksX11_share_6 : cX11_share.data.toList.drop 140 = dktX11_share_6 := dk_seg dksX11_share_5 24 rfl rfl
theorem dksX11_share_7 : cX11_share.data.toList.drop 164 = dktX11_share_7 := dk_seg dksX11_share_6 24 rfl rfl
theorem dksX11_share_8 : cX11_share.data.toList.drop 188 = dktX11_share_8 := dk_seg dksX11_share_7 24 rfl rfl
theorem dksX11_share_9 : cX11_share.data.toList.drop 212 = dktX11_share_9 := dk_seg dksX11_share_8 24 rfl rfl
theorem dX11_share_0 : decode cX11_share 0 = .ok (.aload_n 0, 1) := dk_42 (dk_at dksX11_share_0 0 rfl rfl)
theorem dX11_share_1 : decode cX11_share 1 = .ok (.iconst 0, 1) := dk_3 (dk_at dksX11_share_0 1 rfl rfl)
theorem dX11_share_2 : decode cX11_share 2 = .ok (.putfield 69, 3) := dk_181 0 69 (dk_at dksX11_share_0 2 rfl rfl)
theorem dX11_share_5 : decode cX11_share 5 = .ok (.iload_n 1, 1) := dk_27 (dk_at dksX11_share_0 5 rfl rfl)
theorem dX11_share_6 : decode cX11_share 6 = .ok (.invokestatic 83, 3) := dk_184 0 83 (dk_at dksX11_share_0 6 rfl rfl)
theorem dX11_share_9 : decode cX11_share 9 = .ok (.ifCond .eq 9, 3) := dk_153 0 9 (dk_at dksX11_share_0 9 rfl rfl)
theorem dX11_share_12 : decode cX11_share 12 = .ok (.lload_n 2, 1) := dk_32 (dk_at dksX11_share_0 12 rfl rfl)
theorem dX11_share_13 : decode cX11_share 13 = .ok (.lconst 0, 1) := dk_9 (dk_at dksX11_share_0 13 rfl rfl)
theorem dX11_share_14 : decode cX11_share 14 = .ok (.lcmp, 1) := dk_148 (dk_at dksX11_share_0 14 rfl rfl)
theorem dX11_share_15 : decode cX11_share 15 = .ok (.ifCond .ge 7, 3) := dk_156 0 7 (dk_at dksX11_share_0 15 rfl rfl)
theorem dX11_share_18 : decode cX11_share 18 = .ok (.ldc2_w 127, 3) := dk_20 0 127 (dk_at dksX11_share_0 18 rfl rfl)
theorem dX11_share_21 : decode cX11_share 21 = .ok (.lreturn, 1) := dk_173 (dk_at dksX11_share_0 21 rfl rfl)
theorem dX11_share_22 : decode cX11_share 22 = .ok (.lconst 0, 1) := dk_9 (dk_at dksX11_share_0 22 rfl rfl)
theorem dX11_share_23 : decode cX11_share 23 = .ok (.lstore 4, 2) := dk_55 4 (dk_at dksX11_share_1 0 rfl rfl)
theorem dX11_share_25 : decode cX11_share 25 = .ok (.iconst 0, 1) := dk_3 (dk_at dksX11_share_1 2 rfl rfl)
theorem dX11_share_26 : decode cX11_share 26 = .ok (.istore 6, 2) := dk_54 6 (dk_at dksX11_share_1 3 rfl rfl)
theorem dX11_share_28 : decode cX11_share 28 = .ok (.iload 6, 2) := dk_21 6 (dk_at dksX11_share_1 5 rfl rfl)
theorem dX11_share_30 : decode cX11_share 30 = .ok (.bipush 36, 2) := dk_16 36 (dk_at dksX11_share_1 7 rfl rfl)
theorem dX11_share_32 : decode cX11_share 32 = .ok (.if_icmp .ge 22, 3) := dk_162 0 22 (dk_at dksX11_share_1 9 rfl rfl)
theorem dX11_share_35 : decode cX11_share 35 = .ok (.lload 4, 2) := dk_22 4 (dk_at dksX11_share_1 12 rfl rfl)
theorem dX11_share_37 : decode cX11_share 37 = .ok (.aload_n 0, 1) := dk_42 (dk_at dksX11_share_1 14 rfl rfl)
theorem dX11_share_38 : decode cX11_share 38 = .ok (.getfield 29, 3) := dk_180 0 29 (dk_at dksX11_share_1 15 rfl rfl)
theorem dX11_share_41 : decode cX11_share 41 = .ok (.iload 6, 2) := dk_21 6 (dk_at dksX11_share_1 18 rfl rfl)
theorem dX11_share_43 : decode cX11_share 43 = .ok (.iaload, 1) := dk_46 (dk_at dksX11_share_1 20 rfl rfl)
theorem dX11_share_44 : decode cX11_share 44 = .ok (.i2l, 1) := dk_133 (dk_at dksX11_share_1 21 rfl rfl)
theorem dX11_share_45 : decode cX11_share 45 = .ok (.ladd, 1) := dk_97 (dk_at dksX11_share_1 22 rfl rfl)
theorem dX11_share_46 : decode cX11_share 46 = .ok (.lstore 4, 2) := dk_55 4 (dk_at dksX11_share_2 0 rfl rfl)
theorem dX11_share_48 : decode cX11_share 48 = .ok (.iinc 6 1, 3) := dk_132 6 1 (dk_at dksX11_share_2 2 rfl rfl)
theorem dX11_share_51 : decode cX11_share 51 = .ok (.goto (-23), 3) := dk_167 255 233 (dk_at dksX11_share_2 5 rfl rfl)
theorem dX11_share_54 : decode cX11_share 54 = .ok (.lload 4, 2) := dk_22 4 (dk_at dksX11_share_2 8 rfl rfl)
theorem dX11_share_56 : decode cX11_share 56 = .ok (.lconst 0, 1) := dk_9 (dk_at dksX11_share_2 10 rfl rfl)
theorem dX11_share_57 : decode cX11_share 57 = .ok (.lcmp, 1) := dk_148 (dk_at dksX11_share_2 11 rfl rfl)
theorem dX11_share_58 : decode cX11_share 58 = .ok (.ifCond .ne 10, 3) := dk_154 0 10 (dk_at dksX11_share_2 12 rfl rfl)
theorem dX11_share_61 : decode cX11_share 61 = .ok (.aload_n 0, 1) := dk_42 (dk_at dksX11_share_2 15 rfl rfl)
theorem dX11_share_62 : decode cX11_share 62 = .ok (.iconst 1, 1) := dk_4 (dk_at dksX11_share_2 16 rfl rfl)
theorem dX11_share_63 : decode cX11_share 63 = .ok (.putfield 69, 3) := dk_181 0 69 (dk_at dksX11_share_2 17 rfl rfl)
theorem dX11_share_66 : decode cX11_share 66 = .ok (.lconst 0, 1) := dk_9 (dk_at dksX11_share_2 20 rfl rfl)
theorem dX11_share_67 : decode cX11_share 67 = .ok (.lreturn, 1) := dk_173 (dk_at dksX11_share_2 21 rfl rfl)
theorem dX11_share_68 : decode cX11_share 68 = .ok (.lload_n 2, 1) := dk_32 (dk_at dksX11_share_2 22 rfl rfl)
theorem dX11_share_69 : decode cX11_share 69 = .ok (.lload 4, 2) := dk_22 4 (dk_at dksX11_share_3 0 rfl rfl)
theorem dX11_share_71 : decode cX11_share 71 = .ok (.ldiv, 1) := dk_109 (dk_at dksX11_share_3 2 rfl rfl)
theorem dX11_share_72 : decode cX11_share 72 = .ok (.lstore 6, 2) := dk_55 6 (dk_at dksX11_share_3 3 rfl rfl)
theorem dX11_share_74 : decode cX11_share 74 = .ok (.lload_n 2, 1) := dk_32 (dk_at dksX11_share_3 5 rfl rfl)
theorem dX11_share_75 : decode cX11_share 75 = .ok (.lload 4, 2) := dk_22 4 (dk_at dksX11_share_3 6 rfl rfl)
theorem dX11_share_77 : decode cX11_share 77 = .ok (.lrem, 1) := dk_113 (dk_at dksX11_share_3 8 rfl rfl)
theorem dX11_share_78 : decode cX11_share 78 = .ok (.lstore 8, 2) := dk_55 8 (dk_at dksX11_share_3 9 rfl rfl)
theorem dX11_share_80 : decode cX11_share 80 = .ok (.lload_n 2, 1) := dk_32 (dk_at dksX11_share_3 11 rfl rfl)
theorem dX11_share_81 : decode cX11_share 81 = .ok (.lstore 10, 2) := dk_55 10 (dk_at dksX11_share_3 12 rfl rfl)
theorem dX11_share_83 : decode cX11_share 83 = .ok (.iconst 0, 1) := dk_3 (dk_at dksX11_share_3 14 rfl rfl)
theorem dX11_share_84 : decode cX11_share 84 = .ok (.istore 12, 2) := dk_54 12 (dk_at dksX11_share_3 15 rfl rfl)
theorem dX11_share_86 : decode cX11_share 86 = .ok (.lload 8, 2) := dk_22 8 (dk_at dksX11_share_3 17 rfl rfl)
theorem dX11_share_88 : decode cX11_share 88 = .ok (.aload_n 0, 1) := dk_42 (dk_at dksX11_share_3 19 rfl rfl)
theorem dX11_share_89 : decode cX11_share 89 = .ok (.getfield 29, 3) := dk_180 0 29 (dk_at dksX11_share_3 20 rfl rfl)
theorem dX11_share_92 : decode cX11_share 92 = .ok (.iload_n 1, 1) := dk_27 (dk_at dksX11_share_3 23 rfl rfl)
theorem dX11_share_93 : decode cX11_share 93 = .ok (.iaload, 1) := dk_46 (dk_at dksX11_share_4 0 rfl rfl)
theorem dX11_share_94 : decode cX11_share 94 = .ok (.i2l, 1) := dk_133 (dk_at dksX11_share_4 1 rfl rfl)
theorem dX11_share_95 : decode cX11_share 95 = .ok (.lmul, 1) := dk_105 (dk_at dksX11_share_4 2 rfl rfl)
theorem dX11_share_96 : decode cX11_share 96 = .ok (.lload 4, 2) := dk_22 4 (dk_at dksX11_share_4 3 rfl rfl)
theorem dX11_share_98 : decode cX11_share 98 = .ok (.lrem, 1) := dk_113 (dk_at dksX11_share_4 5 rfl rfl)
theorem dX11_share_99 : decode cX11_share 99 = .ok (.lstore 13, 2) := dk_55 13 (dk_at dksX11_share_4 6 rfl rfl)
theorem dX11_share_101 : decode cX11_share 101 = .ok (.iconst 0, 1) := dk_3 (dk_at dksX11_share_4 8 rfl rfl)
theorem dX11_share_102 : decode cX11_share 102 = .ok (.istore 15, 2) := dk_54 15 (dk_at dksX11_share_4 9 rfl rfl)
theorem dX11_share_104 : decode cX11_share 104 = .ok (.iload 15, 2) := dk_21 15 (dk_at dksX11_share_4 11 rfl rfl)
theorem dX11_share_106 : decode cX11_share 106 = .ok (.bipush 36, 2) := dk_16 36 (dk_at dksX11_share_4 13 rfl rfl)
theorem dX11_share_108 : decode cX11_share 108 = .ok (.if_icmp .ge 88, 3) := dk_162 0 88 (dk_at dksX11_share_4 15 rfl rfl)
theorem dX11_share_111 : decode cX11_share 111 = .ok (.lload 10, 2) := dk_22 10 (dk_at dksX11_share_4 18 rfl rfl)
theorem dX11_share_113 : decode cX11_share 113 = .ok (.lload 6, 2) := dk_22 6 (dk_at dksX11_share_4 20 rfl rfl)
theorem dX11_share_115 : decode cX11_share 115 = .ok (.aload_n 0, 1) := dk_42 (dk_at dksX11_share_4 22 rfl rfl)
theorem dX11_share_116 : decode cX11_share 116 = .ok (.getfield 29, 3) := dk_180 0 29 (dk_at dksX11_share_5 0 rfl rfl)
theorem dX11_share_119 : decode cX11_share 119 = .ok (.iload 15, 2) := dk_21 15 (dk_at dksX11_share_5 3 rfl rfl)
theorem dX11_share_121 : decode cX11_share 121 = .ok (.iaload, 1) := dk_46 (dk_at dksX11_share_5 5 rfl rfl)
theorem dX11_share_122 : decode cX11_share 122 = .ok (.i2l, 1) := dk_133 (dk_at dksX11_share_5 6 rfl rfl)
theorem dX11_share_123 : decode cX11_share 123 = .ok (.lmul, 1) := dk_105 (dk_at dksX11_share_5 7 rfl rfl)
theorem dX11_share_124 : decode cX11_share 124 = .ok (.lload 8, 2) := dk_22 8 (dk_at dksX11_share_5 8 rfl rfl)
theorem dX11_share_126 : decode cX11_share 126 = .ok (.aload_n 0, 1) := dk_42 (dk_at dksX11_share_5 10 rfl rfl)
theorem dX11_share_127 : decode cX11_share 127 = .ok (.getfield 29, 3) := dk_180 0 29 (dk_at dksX11_share_5 11 rfl rfl)
theorem dX11_share_130 : decode cX11_share 130 = .ok (.iload 15, 2) := dk_21 15 (dk_at dksX11_share_5 14 rfl rfl)
theorem dX11_share_132 : decode cX11_share 132 = .ok (.iaload, 1) := dk_46 (dk_at dksX11_share_5 16 rfl rfl)
theorem dX11_share_133 : decode cX11_share 133 = .ok (.i2l, 1) := dk_133 (dk_at dksX11_share_5 17 rfl rfl)
theorem dX11_share_134 : decode cX11_share 134 = .ok (.lmul, 1) := dk_105 (dk_at dksX11_share_5 18 rfl rfl)
theorem dX11_share_135 : decode cX11_share 135 = .ok (.lload 4, 2) := dk_22 4 (dk_at dksX11_share_5 19 rfl rfl)
theorem dX11_share_137 : decode cX11_share 137 = .ok (.ldiv, 1) := dk_109 (dk_at dksX11_share_5 21 rfl rfl)
theorem dX11_share_138 : decode cX11_share 138 = .ok (.ladd, 1) := dk_97 (dk_at dksX11_share_5 22 rfl rfl)
theorem dX11_share_139 : decode cX11_share 139 = .ok (.lsub, 1) := dk_101 (dk_at dksX11_share_5 23 rfl rfl)
theorem dX11_share_140 : decode cX11_share 140 = .ok (.lstore 10, 2) := dk_55 10 (dk_at dksX11_share_6 0 rfl rfl)
theorem dX11_share_142 : decode cX11_share 142 = .ok (.lload 8, 2) := dk_22 8 (dk_at dksX11_share_6 2 rfl rfl)
theorem dX11_share_144 : decode cX11_share 144 = .ok (.aload_n 0, 1) := dk_42 (dk_at dksX11_share_6 4 rfl rfl)
theorem dX11_share_145 : decode cX11_share 145 = .ok (.getfield 29, 3) := dk_180 0 29 (dk_at dksX11_share_6 5 rfl rfl)
theorem dX11_share_148 : decode cX11_share 148 = .ok (.iload 15, 2) := dk_21 15 (dk_at dksX11_share_6 8 rfl rfl)
theorem dX11_share_150 : decode cX11_share 150 = .ok (.iaload, 1) := dk_46 (dk_at dksX11_share_6 10 rfl rfl)
theorem dX11_share_151 : decode cX11_share 151 = .ok (.i2l, 1) := dk_133 (dk_at dksX11_share_6 11 rfl rfl)
theorem dX11_share_152 : decode cX11_share 152 = .ok (.lmul, 1) := dk_105 (dk_at dksX11_share_6 12 rfl rfl)
theorem dX11_share_153 : decode cX11_share 153 = .ok (.lload 4, 2) := dk_22 4 (dk_at dksX11_share_6 13 rfl rfl)
theorem dX11_share_155 : decode cX11_share 155 = .ok (.lrem, 1) := dk_113 (dk_at dksX11_share_6 15 rfl rfl)
theorem dX11_share_156 : decode cX11_share 156 = .ok (.lstore 16, 2) := dk_55 16 (dk_at dksX11_share_6 16 rfl rfl)
theorem dX11_share_158 : decode cX11_share 158 = .ok (.iload 12, 2) := dk_21 12 (dk_at dksX11_share_6 18 rfl rfl)
theorem dX11_share_160 : decode cX11_share 160 = .ok (.lload 16, 2) := dk_22 16 (dk_at dksX11_share_6 20 rfl rfl)
theorem dX11_share_162 : decode cX11_share 162 = .ok (.lload 13, 2) := dk_22 13 (dk_at dksX11_share_6 22 rfl rfl)
theorem dX11_share_164 : decode cX11_share 164 = .ok (.lcmp, 1) := dk_148 (dk_at dksX11_share_7 0 rfl rfl)
theorem dX11_share_165 : decode cX11_share 165 = .ok (.ifCond .gt 17, 3) := dk_157 0 17 (dk_at dksX11_share_7 1 rfl rfl)
theorem dX11_share_168 : decode cX11_share 168 = .ok (.lload 16, 2) := dk_22 16 (dk_at dksX11_share_7 4 rfl rfl)
theorem dX11_share_170 : decode cX11_share 170 = .ok (.lload 13, 2) := dk_22 13 (dk_at dksX11_share_7 6 rfl rfl)
theorem dX11_share_172 : decode cX11_share 172 = .ok (.lcmp, 1) := dk_148 (dk_at dksX11_share_7 8 rfl rfl)
theorem dX11_share_173 : decode cX11_share 173 = .ok (.ifCond .ne 13, 3) := dk_154 0 13 (dk_at dksX11_share_7 9 rfl rfl)
theorem dX11_share_176 : decode cX11_share 176 = .ok (.iload 15, 2) := dk_21 15 (dk_at dksX11_share_7 12 rfl rfl)
theorem dX11_share_178 : decode cX11_share 178 = .ok (.iload_n 1, 1) := dk_27 (dk_at dksX11_share_7 14 rfl rfl)
theorem dX11_share_179 : decode cX11_share 179 = .ok (.if_icmp .ge 7, 3) := dk_162 0 7 (dk_at dksX11_share_7 15 rfl rfl)
theorem dX11_share_182 : decode cX11_share 182 = .ok (.iconst 1, 1) := dk_4 (dk_at dksX11_share_7 18 rfl rfl)
theorem dX11_share_183 : decode cX11_share 183 = .ok (.goto 4, 3) := dk_167 0 4 (dk_at dksX11_share_7 19 rfl rfl)
theorem dX11_share_186 : decode cX11_share 186 = .ok (.iconst 0, 1) := dk_3 (dk_at dksX11_share_7 22 rfl rfl)
theorem dX11_share_187 : decode cX11_share 187 = .ok (.iadd, 1) := dk_96 (dk_at dksX11_share_7 23 rfl rfl)
theorem dX11_share_188 : decode cX11_share 188 = .ok (.istore 12, 2) := dk_54 12 (dk_at dksX11_share_8 0 rfl rfl)
theorem dX11_share_190 : decode cX11_share 190 = .ok (.iinc 15 1, 3) := dk_132 15 1 (dk_at dksX11_share_8 2 rfl rfl)
theorem dX11_share_193 : decode cX11_share 193 = .ok (.goto (-89), 3) := dk_167 255 167 (dk_at dksX11_share_8 5 rfl rfl)
theorem dX11_share_196 : decode cX11_share 196 = .ok (.lload 6, 2) := dk_22 6 (dk_at dksX11_share_8 8 rfl rfl)
theorem dX11_share_198 : decode cX11_share 198 = .ok (.aload_n 0, 1) := dk_42 (dk_at dksX11_share_8 10 rfl rfl)
theorem dX11_share_199 : decode cX11_share 199 = .ok (.getfield 29, 3) := dk_180 0 29 (dk_at dksX11_share_8 11 rfl rfl)
theorem dX11_share_202 : decode cX11_share 202 = .ok (.iload_n 1, 1) := dk_27 (dk_at dksX11_share_8 14 rfl rfl)
theorem dX11_share_203 : decode cX11_share 203 = .ok (.iaload, 1) := dk_46 (dk_at dksX11_share_8 15 rfl rfl)
theorem dX11_share_204 : decode cX11_share 204 = .ok (.i2l, 1) := dk_133 (dk_at dksX11_share_8 16 rfl rfl)
theorem dX11_share_205 : decode cX11_share 205 = .ok (.lmul, 1) := dk_105 (dk_at dksX11_share_8 17 rfl rfl)
theorem dX11_share_206 : decode cX11_share 206 = .ok (.lload 8, 2) := dk_22 8 (dk_at dksX11_share_8 18 rfl rfl)
theorem dX11_share_208 : decode cX11_share 208 = .ok (.aload_n 0, 1) := dk_42 (dk_at dksX11_share_8 20 rfl rfl)
theorem dX11_share_209 : decode cX11_share 209 = .ok (.getfield 29, 3) := dk_180 0 29 (dk_at dksX11_share_8 21 rfl rfl)
theorem dX11_share_212 : decode cX11_share 212 = .ok (.iload_n 1, 1) := dk_27 (dk_at dksX11_share_9 0 rfl rfl)
theorem dX11_share_213 : decode cX11_share 213 = .ok (.iaload, 1) := dk_46 (dk_at dksX11_share_9 1 rfl rfl)
theorem dX11_share_214 : decode cX11_share 214 = .ok (.i2l, 1) := dk_133 (dk_at dksX11_share_9 2 rfl rfl)
theorem dX11_share_215 : decode cX11_share 215 = .ok (.lmul, 1) := dk_105 (dk_at dksX11_share_9 3 rfl rfl)
theorem dX11_share_216 : decode cX11_share 216 = .ok (.lload 4, 2) := dk_22 4 (dk_at dksX11_share_9 4 rfl rfl)
theorem dX11_share_218 : decode cX11_share 218 = .ok (.ldiv, 1) := dk_109 (dk_at dksX11_share_9 6 rfl rfl)
theorem dX11_share_219 : decode cX11_share 219 = .ok (.ladd, 1) := dk_97 (dk_at dksX11_share_9 7 rfl rfl)
theorem dX11_share_220 : decode cX11_share 220 = .ok (.iload 12, 2) := dk_21 12 (dk_at dksX11_share_9 8 rfl rfl)
theorem dX11_share_222 : decode cX11_share 222 = .ok (.i2l, 1) := dk_133 (dk_at dksX11_share_9 10 rfl rfl)
theorem dX11_share_223 : decode cX11_share 223 = .ok (.lload 10, 2) := dk_22 10 (dk_at dksX11_share_9 11 rfl rfl)
theorem dX11_share_225 : decode cX11_share 225 = .ok (.lcmp, 1) := dk_148 (dk_at dksX11_share_9 13 rfl rfl)
theorem dX11_share_226 : decode cX11_share 226 = .ok (.ifCond .ge 7, 3) := dk_156 0 7 (dk_at dksX11_share_9 14 rfl rfl)
theorem dX11_share_229 : decode cX11_share 229 = .ok (.lconst 1, 1) := dk_10 (dk_at dksX11_share_9 17 rfl rfl)
theorem dX11_share_230 : decode cX11_share 230 = .ok (.goto 4, 3) := dk_167 0 4 (dk_at dksX11_share_9 18 rfl rfl)
theorem dX11_share_233 : decode cX11_share 233 = .ok (.lconst 0, 1) := dk_9 (dk_at dksX11_share_9 21 rfl rfl)
theorem dX11_share_234 : decode cX11_share 234 = .ok (.ladd, 1) := dk_97 (dk_at dksX11_share_9 22 rfl rfl)
theorem dX11_share_235 : decode cX11_share 235 = .ok (.lreturn, 1) := dk_173 (dk_at dksX11_share_9 23 rfl rfl)
abbrev cX11_order : ByteArray := prog_16_method_29_code
def yX11_order : MethodName := ⟨RX11, "order", "(I)I"⟩
def dkwX11_order_4 : List UInt8 := [132, 4, 1, 167, 255, 200, 29, 27, 160, 0, 7, 28, 4, 96, 172, 132, 2, 1, 167, 255, 151, 2, 172]
abbrev dktX11_order_4 : List UInt8 := dkwX11_order_4 ++ []
def dkwX11_order_3 : List UInt8 := [21, 4, 28, 159, 0, 17, 42, 21, 4, 28, 182, 0, 124, 153, 0, 7, 4, 167, 0, 4, 3, 96, 62]
abbrev dktX11_order_3 : List UInt8 := dkwX11_order_3 ++ dktX11_order_4
def dkwX11_order_2 : List UInt8 := [162, 0, 53, 29, 42, 180, 0, 44, 21, 4, 46, 154, 0, 33, 42, 180, 0, 50, 21, 4, 51, 154, 0, 23]
abbrev dktX11_order_2 : List UInt8 := dkwX11_order_2 ++ dktX11_order_3
def dkwX11_order_1 : List UInt8 := [42, 180, 0, 50, 28, 51, 153, 0, 6, 167, 0, 76, 3, 62, 3, 54, 4, 21, 4, 42, 180, 0, 76]
abbrev dktX11_order_1 : List UInt8 := dkwX11_order_1 ++ dktX11_order_2
def dkwX11_order_0 : List UInt8 := [42, 3, 181, 0, 69, 3, 61, 28, 42, 180, 0, 76, 162, 0, 103, 42, 180, 0, 44, 28, 46, 154, 0, 88]
abbrev dktX11_order_0 : List UInt8 := dkwX11_order_0 ++ dktX11_order_1
theorem dksX11_order_0 : cX11_order.data.toList.drop 0 = dktX11_order_0 := by decide +kernel
theorem dksX11_order_1 : cX11_order.data.toList.drop 24 = dktX11_order_1 := dk_seg dksX11_order_0 24 rfl rfl
theorem dksX11_order_2 : cX11_order.data.toList.drop 47 = dktX11_order_2 := dk_seg dksX11_order_1 23 rfl rfl
theorem dksX11_order_3 : cX11_order.data.toList.drop 71 = dktX11_order_3 := dk_seg dksX11_order_2 24 rfl rfl
theorem dksX11_order_4 : cX11_order.data.toList.drop 94 = dktX11_order_4 := dk_seg dksX11_order_3 23 rfl rfl
theorem dX11_order_0 : decode cX11_order 0 = .ok (.aload_n 0, 1) := dk_42 (dk_at dksX11_order_0 0 rfl rfl)
theorem dX11_order_1 : decode cX11_order 1 = .ok (.iconst 0, 1) := dk_3 (dk_at dksX11_order_0 1 rfl rfl)
theorem dX11_order_2 : decode cX11_order 2 = .ok (.putfield 69, 3) := dk_181 0 69 (dk_at dksX11_order_0 2 rfl rfl)
theorem dX11_order_5 : decode cX11_order 5 = .ok (.iconst 0, 1) := dk_3 (dk_at dksX11_order_0 5 rfl rfl)
theorem dX11_order_6 : decode cX11_order 6 = .ok (.istore_n 2, 1) := dk_61 (dk_at dksX11_order_0 6 rfl rfl)
theorem dX11_order_7 : decode cX11_order 7 = .ok (.iload_n 2, 1) := dk_28 (dk_at dksX11_order_0 7 rfl rfl)
theorem dX11_order_8 : decode cX11_order 8 = .ok (.aload_n 0, 1) := dk_42 (dk_at dksX11_order_0 8 rfl rfl)
theorem dX11_order_9 : decode cX11_order 9 = .ok (.getfield 76, 3) := dk_180 0 76 (dk_at dksX11_order_0 9 rfl rfl)
theorem dX11_order_12 : decode cX11_order 12 = .ok (.if_icmp .ge 103, 3) := dk_162 0 103 (dk_at dksX11_order_0 12 rfl rfl)
theorem dX11_order_15 : decode cX11_order 15 = .ok (.aload_n 0, 1) := dk_42 (dk_at dksX11_order_0 15 rfl rfl)
theorem dX11_order_16 : decode cX11_order 16 = .ok (.getfield 44, 3) := dk_180 0 44 (dk_at dksX11_order_0 16 rfl rfl)
theorem dX11_order_19 : decode cX11_order 19 = .ok (.iload_n 2, 1) := dk_28 (dk_at dksX11_order_0 19 rfl rfl)
theorem dX11_order_20 : decode cX11_order 20 = .ok (.iaload, 1) := dk_46 (dk_at dksX11_order_0 20 rfl rfl)
theorem dX11_order_21 : decode cX11_order 21 = .ok (.ifCond .ne 88, 3) := dk_154 0 88 (dk_at dksX11_order_0 21 rfl rfl)
theorem dX11_order_24 : decode cX11_order 24 = .ok (.aload_n 0, 1) := dk_42 (dk_at dksX11_order_1 0 rfl rfl)
theorem dX11_order_25 : decode cX11_order 25 = .ok (.getfield 50, 3) := dk_180 0 50 (dk_at dksX11_order_1 1 rfl rfl)
theorem dX11_order_28 : decode cX11_order 28 = .ok (.iload_n 2, 1) := dk_28 (dk_at dksX11_order_1 4 rfl rfl)
theorem dX11_order_29 : decode cX11_order 29 = .ok (.baload, 1) := dk_51 (dk_at dksX11_order_1 5 rfl rfl)
theorem dX11_order_30 : decode cX11_order 30 = .ok (.ifCond .eq 6, 3) := dk_153 0 6 (dk_at dksX11_order_1 6 rfl rfl)
theorem dX11_order_33 : decode cX11_order 33 = .ok (.goto 76, 3) := dk_167 0 76 (dk_at dksX11_order_1 9 rfl rfl)
theorem dX11_order_36 : decode cX11_order 36 = .ok (.iconst 0, 1) := dk_3 (dk_at dksX11_order_1 12 rfl rfl)
theorem dX11_order_37 : decode cX11_order 37 = .ok (.istore_n 3, 1) := dk_62 (dk_at dksX11_order_1 13 rfl rfl)
theorem dX11_order_38 : decode cX11_order 38 = .ok (.iconst 0, 1) := dk_3 (dk_at dksX11_order_1 14 rfl rfl)
theorem dX11_order_39 : decode cX11_order 39 = .ok (.istore 4, 2) := dk_54 4 (dk_at dksX11_order_1 15 rfl rfl)
theorem dX11_order_41 : decode cX11_order 41 = .ok (.iload 4, 2) := dk_21 4 (dk_at dksX11_order_1 17 rfl rfl)
theorem dX11_order_43 : decode cX11_order 43 = .ok (.aload_n 0, 1) := dk_42 (dk_at dksX11_order_1 19 rfl rfl)
theorem dX11_order_44 : decode cX11_order 44 = .ok (.getfield 76, 3) := dk_180 0 76 (dk_at dksX11_order_1 20 rfl rfl)
theorem dX11_order_47 : decode cX11_order 47 = .ok (.if_icmp .ge 53, 3) := dk_162 0 53 (dk_at dksX11_order_2 0 rfl rfl)
theorem dX11_order_50 : decode cX11_order 50 = .ok (.iload_n 3, 1) := dk_29 (dk_at dksX11_order_2 3 rfl rfl)
theorem dX11_order_51 : decode cX11_order 51 = .ok (.aload_n 0, 1) := dk_42 (dk_at dksX11_order_2 4 rfl rfl)
theorem dX11_order_52 : decode cX11_order 52 = .ok (.getfield 44, 3) := dk_180 0 44 (dk_at dksX11_order_2 5 rfl rfl)
theorem dX11_order_55 : decode cX11_order 55 = .ok (.iload 4, 2) := dk_21 4 (dk_at dksX11_order_2 8 rfl rfl)
theorem dX11_order_57 : decode cX11_order 57 = .ok (.iaload, 1) := dk_46 (dk_at dksX11_order_2 10 rfl rfl)
theorem dX11_order_58 : decode cX11_order 58 = .ok (.ifCond .ne 33, 3) := dk_154 0 33 (dk_at dksX11_order_2 11 rfl rfl)
theorem dX11_order_61 : decode cX11_order 61 = .ok (.aload_n 0, 1) := dk_42 (dk_at dksX11_order_2 14 rfl rfl)
theorem dX11_order_62 : decode cX11_order 62 = .ok (.getfield 50, 3) := dk_180 0 50 (dk_at dksX11_order_2 15 rfl rfl)
theorem dX11_order_65 : decode cX11_order 65 = .ok (.iload 4, 2) := dk_21 4 (dk_at dksX11_order_2 18 rfl rfl)
theorem dX11_order_67 : decode cX11_order 67 = .ok (.baload, 1) := dk_51 (dk_at dksX11_order_2 20 rfl rfl)
theorem dX11_order_68 : decode cX11_order 68 = .ok (.ifCond .ne 23, 3) := dk_154 0 23 (dk_at dksX11_order_2 21 rfl rfl)
theorem dX11_order_71 : decode cX11_order 71 = .ok (.iload 4, 2) := dk_21 4 (dk_at dksX11_order_3 0 rfl rfl)
theorem dX11_order_73 : decode cX11_order 73 = .ok (.iload_n 2, 1) := dk_28 (dk_at dksX11_order_3 2 rfl rfl)
theorem dX11_order_74 : decode cX11_order 74 = .ok (.if_icmp .eq 17, 3) := dk_159 0 17 (dk_at dksX11_order_3 3 rfl rfl)
theorem dX11_order_77 : decode cX11_order 77 = .ok (.aload_n 0, 1) := dk_42 (dk_at dksX11_order_3 6 rfl rfl)
theorem dX11_order_78 : decode cX11_order 78 = .ok (.iload 4, 2) := dk_21 4 (dk_at dksX11_order_3 7 rfl rfl)
theorem dX11_order_80 : decode cX11_order 80 = .ok (.iload_n 2, 1) := dk_28 (dk_at dksX11_order_3 9 rfl rfl)
theorem dX11_order_81 : decode cX11_order 81 = .ok (.invokevirtual 124, 3) := dk_182 0 124 (dk_at dksX11_order_3 10 rfl rfl)
theorem dX11_order_84 : decode cX11_order 84 = .ok (.ifCond .eq 7, 3) := dk_153 0 7 (dk_at dksX11_order_3 13 rfl rfl)
theorem dX11_order_87 : decode cX11_order 87 = .ok (.iconst 1, 1) := dk_4 (dk_at dksX11_order_3 16 rfl rfl)
theorem dX11_order_88 : decode cX11_order 88 = .ok (.goto 4, 3) := dk_167 0 4 (dk_at dksX11_order_3 17 rfl rfl)
theorem dX11_order_91 : decode cX11_order 91 = .ok (.iconst 0, 1) := dk_3 (dk_at dksX11_order_3 20 rfl rfl)
theorem dX11_order_92 : decode cX11_order 92 = .ok (.iadd, 1) := dk_96 (dk_at dksX11_order_3 21 rfl rfl)
theorem dX11_order_93 : decode cX11_order 93 = .ok (.istore_n 3, 1) := dk_62 (dk_at dksX11_order_3 22 rfl rfl)
theorem dX11_order_94 : decode cX11_order 94 = .ok (.iinc 4 1, 3) := dk_132 4 1 (dk_at dksX11_order_4 0 rfl rfl)
theorem dX11_order_97 : decode cX11_order 97 = .ok (.goto (-56), 3) := dk_167 255 200 (dk_at dksX11_order_4 3 rfl rfl)
theorem dX11_order_100 : decode cX11_order 100 = .ok (.iload_n 3, 1) := dk_29 (dk_at dksX11_order_4 6 rfl rfl)
theorem dX11_order_101 : decode cX11_order 101 = .ok (.iload_n 1, 1) := dk_27 (dk_at dksX11_order_4 7 rfl rfl)
theorem dX11_order_102 : decode cX11_order 102 = .ok (.if_icmp .ne 7, 3) := dk_160 0 7 (dk_at dksX11_order_4 8 rfl rfl)
theorem dX11_order_105 : decode cX11_order 105 = .ok (.iload_n 2, 1) := dk_28 (dk_at dksX11_order_4 11 rfl rfl)
theorem dX11_order_106 : decode cX11_order 106 = .ok (.iconst 1, 1) := dk_4 (dk_at dksX11_order_4 12 rfl rfl)
theorem dX11_order_107 : decode cX11_order 107 = .ok (.iadd, 1) := dk_96 (dk_at dksX11_order_4 13 rfl rfl)
theorem dX11_order_108 : decode cX11_order 108 = .ok (.ireturn, 1) := dk_172 (dk_at dksX11_order_4 14 rfl rfl)
theorem dX11_order_109 : decode cX11_order 109 = .ok (.iinc 2 1, 3) := dk_132 2 1 (dk_at dksX11_order_4 15 rfl rfl)
theorem dX11_order_112 : decode cX11_order 112 = .ok (.goto (-105), 3) := dk_167 255 151 (dk_at dksX11_order_4 18 rfl rfl)
theorem dX11_order_115 : decode cX11_order 115 = .ok (.iconst (-1), 1) := dk_2 (dk_at dksX11_order_4 21 rfl rfl)
theorem dX11_order_116 : decode cX11_order 116 = .ok (.ireturn, 1) := dk_172 (dk_at dksX11_order_4 22 rfl rfl)
abbrev cX11_waited : ByteArray := prog_16_method_30_code
def yX11_waited : MethodName := ⟨RX11, "waited", "(I)J"⟩
def dkwX11_waited_2 : List UInt8 := [4, 100, 47, 101, 173]
abbrev dktX11_waited_2 : List UInt8 := dkwX11_waited_2 ++ []
def dkwX11_waited_1 : List UInt8 := [46, 154, 0, 10, 42, 180, 0, 89, 167, 0, 11, 42, 180, 0, 66, 27, 4, 100, 47, 42, 180, 0, 62, 27]
abbrev dktX11_waited_1 : List UInt8 := dkwX11_waited_1 ++ dktX11_waited_2
def dkwX11_waited_0 : List UInt8 := [42, 3, 181, 0, 69, 42, 27, 182, 0, 93, 154, 0, 7, 20, 0, 127, 173, 42, 180, 0, 44, 27, 4, 100]
abbrev dktX11_waited_0 : List UInt8 := dkwX11_waited_0 ++ dktX11_waited_1
theorem dksX11_waited_0 : cX11_waited.data.toList.drop 0 = dktX11_waited_0 := by decide +kernel
theorem dksX11_waited_1 : cX11_waited.data.toList.drop 24 = dktX11_waited_1 := dk_seg dksX11_waited_0 24 rfl rfl
theorem dksX11_waited_2 : cX11_waited.data.toList.drop 48 = dktX11_waited_2 := dk_seg dksX11_waited_1 24 rfl rfl
theorem dX11_waited_0 : decode cX11_waited 0 = .ok (.aload_n 0, 1) := dk_42 (dk_at dksX11_waited_0 0 rfl rfl)
theorem dX11_waited_1 : decode cX11_waited 1 = .ok (.iconst 0, 1) := dk_3 (dk_at dksX11_waited_0 1 rfl rfl)
theorem dX11_waited_2 : decode cX11_waited 2 = .ok (.putfield 69, 3) := dk_181 0 69 (dk_at dksX11_waited_0 2 rfl rfl)
theorem dX11_waited_5 : decode cX11_waited 5 = .ok (.aload_n 0, 1) := dk_42 (dk_at dksX11_waited_0 5 rfl rfl)
theorem dX11_waited_6 : decode cX11_waited 6 = .ok (.iload_n 1, 1) := dk_27 (dk_at dksX11_waited_0 6 rfl rfl)
theorem dX11_waited_7 : decode cX11_waited 7 = .ok (.invokevirtual 93, 3) := dk_182 0 93 (dk_at dksX11_waited_0 7 rfl rfl)
theorem dX11_waited_10 : decode cX11_waited 10 = .ok (.ifCond .ne 7, 3) := dk_154 0 7 (dk_at dksX11_waited_0 10 rfl rfl)
theorem dX11_waited_13 : decode cX11_waited 13 = .ok (.ldc2_w 127, 3) := dk_20 0 127 (dk_at dksX11_waited_0 13 rfl rfl)
theorem dX11_waited_16 : decode cX11_waited 16 = .ok (.lreturn, 1) := dk_173 (dk_at dksX11_waited_0 16 rfl rfl)
theorem dX11_waited_17 : decode cX11_waited 17 = .ok (.aload_n 0, 1) := dk_42 (dk_at dksX11_waited_0 17 rfl rfl)
theorem dX11_waited_18 : decode cX11_waited 18 = .ok (.getfield 44, 3) := dk_180 0 44 (dk_at dksX11_waited_0 18 rfl rfl)
theorem dX11_waited_21 : decode cX11_waited 21 = .ok (.iload_n 1, 1) := dk_27 (dk_at dksX11_waited_0 21 rfl rfl)
theorem dX11_waited_22 : decode cX11_waited 22 = .ok (.iconst 1, 1) := dk_4 (dk_at dksX11_waited_0 22 rfl rfl)
theorem dX11_waited_23 : decode cX11_waited 23 = .ok (.isub, 1) := dk_100 (dk_at dksX11_waited_0 23 rfl rfl)
theorem dX11_waited_24 : decode cX11_waited 24 = .ok (.iaload, 1) := dk_46 (dk_at dksX11_waited_1 0 rfl rfl)
theorem dX11_waited_25 : decode cX11_waited 25 = .ok (.ifCond .ne 10, 3) := dk_154 0 10 (dk_at dksX11_waited_1 1 rfl rfl)
theorem dX11_waited_28 : decode cX11_waited 28 = .ok (.aload_n 0, 1) := dk_42 (dk_at dksX11_waited_1 4 rfl rfl)
theorem dX11_waited_29 : decode cX11_waited 29 = .ok (.getfield 89, 3) := dk_180 0 89 (dk_at dksX11_waited_1 5 rfl rfl)
theorem dX11_waited_32 : decode cX11_waited 32 = .ok (.goto 11, 3) := dk_167 0 11 (dk_at dksX11_waited_1 8 rfl rfl)
theorem dX11_waited_35 : decode cX11_waited 35 = .ok (.aload_n 0, 1) := dk_42 (dk_at dksX11_waited_1 11 rfl rfl)
theorem dX11_waited_36 : decode cX11_waited 36 = .ok (.getfield 66, 3) := dk_180 0 66 (dk_at dksX11_waited_1 12 rfl rfl)
theorem dX11_waited_39 : decode cX11_waited 39 = .ok (.iload_n 1, 1) := dk_27 (dk_at dksX11_waited_1 15 rfl rfl)
theorem dX11_waited_40 : decode cX11_waited 40 = .ok (.iconst 1, 1) := dk_4 (dk_at dksX11_waited_1 16 rfl rfl)
theorem dX11_waited_41 : decode cX11_waited 41 = .ok (.isub, 1) := dk_100 (dk_at dksX11_waited_1 17 rfl rfl)
theorem dX11_waited_42 : decode cX11_waited 42 = .ok (.laload, 1) := dk_47 (dk_at dksX11_waited_1 18 rfl rfl)
theorem dX11_waited_43 : decode cX11_waited 43 = .ok (.aload_n 0, 1) := dk_42 (dk_at dksX11_waited_1 19 rfl rfl)
theorem dX11_waited_44 : decode cX11_waited 44 = .ok (.getfield 62, 3) := dk_180 0 62 (dk_at dksX11_waited_1 20 rfl rfl)
theorem dX11_waited_47 : decode cX11_waited 47 = .ok (.iload_n 1, 1) := dk_27 (dk_at dksX11_waited_1 23 rfl rfl)
theorem dX11_waited_48 : decode cX11_waited 48 = .ok (.iconst 1, 1) := dk_4 (dk_at dksX11_waited_2 0 rfl rfl)
theorem dX11_waited_49 : decode cX11_waited 49 = .ok (.isub, 1) := dk_100 (dk_at dksX11_waited_2 1 rfl rfl)
theorem dX11_waited_50 : decode cX11_waited 50 = .ok (.laload, 1) := dk_47 (dk_at dksX11_waited_2 2 rfl rfl)
theorem dX11_waited_51 : decode cX11_waited 51 = .ok (.lsub, 1) := dk_101 (dk_at dksX11_waited_2 3 rfl rfl)
theorem dX11_waited_52 : decode cX11_waited 52 = .ok (.lreturn, 1) := dk_173 (dk_at dksX11_waited_2 4 rfl rfl)
abbrev cX11_state : ByteArray := prog_16_method_31_code
def yX11_state : MethodName := ⟨RX11, "state", "(I)I"⟩
def dkwX11_state_2 : List UInt8 := [100, 46, 172]
abbrev dktX11_state_2 : List UInt8 := dkwX11_state_2 ++ []
def dkwX11_state_1 : List UInt8 := [154, 0, 18, 42, 180, 0, 50, 27, 4, 100, 51, 153, 0, 7, 4, 167, 0, 11, 42, 180, 0, 44, 27, 4]
abbrev dktX11_state_1 : List UInt8 := dkwX11_state_1 ++ dktX11_state_2
def dkwX11_state_0 : List UInt8 := [42, 3, 181, 0, 69, 42, 27, 182, 0, 93, 154, 0, 5, 2, 172, 42, 180, 0, 44, 27, 4, 100, 46]
abbrev dktX11_state_0 : List UInt8 := dkwX11_state_0 ++ dktX11_state_1
theorem dksX11_state_0 : cX11_state.data.toList.drop 0 = dktX11_state_0 := by decide +kernel
theorem dksX11_state_1 : cX11_state.data.toList.drop 23 = dktX11_state_1 := dk_seg dksX11_state_0 23 rfl rfl
theorem dksX11_state_2 : cX11_state.data.toList.drop 47 = dktX11_state_2 := dk_seg dksX11_state_1 24 rfl rfl
theorem dX11_state_0 : decode cX11_state 0 = .ok (.aload_n 0, 1) := dk_42 (dk_at dksX11_state_0 0 rfl rfl)
theorem dX11_state_1 : decode cX11_state 1 = .ok (.iconst 0, 1) := dk_3 (dk_at dksX11_state_0 1 rfl rfl)
theorem dX11_state_2 : decode cX11_state 2 = .ok (.putfield 69, 3) := dk_181 0 69 (dk_at dksX11_state_0 2 rfl rfl)
theorem dX11_state_5 : decode cX11_state 5 = .ok (.aload_n 0, 1) := dk_42 (dk_at dksX11_state_0 5 rfl rfl)
theorem dX11_state_6 : decode cX11_state 6 = .ok (.iload_n 1, 1) := dk_27 (dk_at dksX11_state_0 6 rfl rfl)
theorem dX11_state_7 : decode cX11_state 7 = .ok (.invokevirtual 93, 3) := dk_182 0 93 (dk_at dksX11_state_0 7 rfl rfl)
theorem dX11_state_10 : decode cX11_state 10 = .ok (.ifCond .ne 5, 3) := dk_154 0 5 (dk_at dksX11_state_0 10 rfl rfl)
theorem dX11_state_13 : decode cX11_state 13 = .ok (.iconst (-1), 1) := dk_2 (dk_at dksX11_state_0 13 rfl rfl)
theorem dX11_state_14 : decode cX11_state 14 = .ok (.ireturn, 1) := dk_172 (dk_at dksX11_state_0 14 rfl rfl)
theorem dX11_state_15 : decode cX11_state 15 = .ok (.aload_n 0, 1) := dk_42 (dk_at dksX11_state_0 15 rfl rfl)
theorem dX11_state_16 : decode cX11_state 16 = .ok (.getfield 44, 3) := dk_180 0 44 (dk_at dksX11_state_0 16 rfl rfl)
theorem dX11_state_19 : decode cX11_state 19 = .ok (.iload_n 1, 1) := dk_27 (dk_at dksX11_state_0 19 rfl rfl)
theorem dX11_state_20 : decode cX11_state 20 = .ok (.iconst 1, 1) := dk_4 (dk_at dksX11_state_0 20 rfl rfl)
theorem dX11_state_21 : decode cX11_state 21 = .ok (.isub, 1) := dk_100 (dk_at dksX11_state_0 21 rfl rfl)
theorem dX11_state_22 : decode cX11_state 22 = .ok (.iaload, 1) := dk_46 (dk_at dksX11_state_0 22 rfl rfl)
theorem dX11_state_23 : decode cX11_state 23 = .ok (.ifCond .ne 18, 3) := dk_154 0 18 (dk_at dksX11_state_1 0 rfl rfl)
theorem dX11_state_26 : decode cX11_state 26 = .ok (.aload_n 0, 1) := dk_42 (dk_at dksX11_state_1 3 rfl rfl)
theorem dX11_state_27 : decode cX11_state 27 = .ok (.getfield 50, 3) := dk_180 0 50 (dk_at dksX11_state_1 4 rfl rfl)
theorem dX11_state_30 : decode cX11_state 30 = .ok (.iload_n 1, 1) := dk_27 (dk_at dksX11_state_1 7 rfl rfl)
theorem dX11_state_31 : decode cX11_state 31 = .ok (.iconst 1, 1) := dk_4 (dk_at dksX11_state_1 8 rfl rfl)
theorem dX11_state_32 : decode cX11_state 32 = .ok (.isub, 1) := dk_100 (dk_at dksX11_state_1 9 rfl rfl)
theorem dX11_state_33 : decode cX11_state 33 = .ok (.baload, 1) := dk_51 (dk_at dksX11_state_1 10 rfl rfl)
theorem dX11_state_34 : decode cX11_state 34 = .ok (.ifCond .eq 7, 3) := dk_153 0 7 (dk_at dksX11_state_1 11 rfl rfl)
theorem dX11_state_37 : decode cX11_state 37 = .ok (.iconst 1, 1) := dk_4 (dk_at dksX11_state_1 14 rfl rfl)
theorem dX11_state_38 : decode cX11_state 38 = .ok (.goto 11, 3) := dk_167 0 11 (dk_at dksX11_state_1 15 rfl rfl)
theorem dX11_state_41 : decode cX11_state 41 = .ok (.aload_n 0, 1) := dk_42 (dk_at dksX11_state_1 18 rfl rfl)
theorem dX11_state_42 : decode cX11_state 42 = .ok (.getfield 44, 3) := dk_180 0 44 (dk_at dksX11_state_1 19 rfl rfl)
theorem dX11_state_45 : decode cX11_state 45 = .ok (.iload_n 1, 1) := dk_27 (dk_at dksX11_state_1 22 rfl rfl)
theorem dX11_state_46 : decode cX11_state 46 = .ok (.iconst 1, 1) := dk_4 (dk_at dksX11_state_1 23 rfl rfl)
theorem dX11_state_47 : decode cX11_state 47 = .ok (.isub, 1) := dk_100 (dk_at dksX11_state_2 0 rfl rfl)
theorem dX11_state_48 : decode cX11_state 48 = .ok (.iaload, 1) := dk_46 (dk_at dksX11_state_2 1 rfl rfl)
theorem dX11_state_49 : decode cX11_state 49 = .ok (.ireturn, 1) := dk_172 (dk_at dksX11_state_2 2 rfl rfl)
abbrev cX11_count : ByteArray := prog_16_method_33_code
def yX11_count : MethodName := ⟨RX11, "count", "(I)I"⟩
def dkwX11_count_5 : List UInt8 := [132, 3, 1, 167, 255, 218, 28, 172, 42, 27, 16, 10, 100, 182, 0, 105, 172, 2, 172]
abbrev dktX11_count_5 : List UInt8 := dkwX11_count_5 ++ []
def dkwX11_count_4 : List UInt8 := [29, 51, 153, 0, 17, 42, 180, 0, 13, 29, 46, 2, 160, 0, 7, 4, 167, 0, 4, 3, 96, 61]
abbrev dktX11_count_4 : List UInt8 := dkwX11_count_4 ++ dktX11_count_5
def dkwX11_count_3 : List UInt8 := [42, 5, 4, 182, 0, 129, 172, 3, 61, 3, 62, 29, 42, 180, 0, 73, 162, 0, 36, 28, 42, 180, 0, 16]
abbrev dktX11_count_3 : List UInt8 := dkwX11_count_3 ++ dktX11_count_4
def dkwX11_count_2 : List UInt8 := [42, 180, 0, 73, 172, 42, 180, 0, 76, 172, 42, 3, 4, 182, 0, 129, 172, 42, 3, 3, 182, 0, 129, 172]
abbrev dktX11_count_2 : List UInt8 := dkwX11_count_2 ++ dktX11_count_3
def dkwX11_count_1 : List UInt8 := [170, 0, 0, 0, 0, 157, 0, 0, 0, 0, 0, 0, 0, 13, 0, 0, 0, 70, 0, 0, 0, 75, 0, 0, 0, 80, 0, 0, 0, 87, 0, 0, 0, 94, 0, 0, 0, 101, 0, 0, 0, 157, 0, 0, 0, 157, 0, 0, 0, 157, 0, 0, 0, 157, 0, 0, 0, 148, 0, 0, 0, 148, 0, 0, 0, 148, 0, 0, 0, 148]
abbrev dktX11_count_1 : List UInt8 := dkwX11_count_1 ++ dktX11_count_2
def dkwX11_count_0 : List UInt8 := [42, 3, 181, 0, 69, 27]
abbrev dktX11_count_0 : List UInt8 := dkwX11_count_0 ++ dktX11_count_1
theorem dksX11_count_0 : cX11_count.data.toList.drop 0 = dktX11_count_0 := by decide +kernel
theorem dksX11_count_1 : cX11_count.data.toList.drop 6 = dktX11_count_1 := dk_seg dksX11_count_0 6 rfl rfl
theorem dksX11_count_2 : cX11_count.data.toList.drop 76 = dktX11_count_2 := dk_seg dksX11_count_1 70 rfl rfl
theorem dksX11_count_3 : cX11_count.data.toList.drop 100 = dktX11_count_3 := dk_seg dksX11_count_2 24 rfl rfl
theorem dksX11_count_4 : cX11_count.data.toList.drop 124 = dktX11_count_4 := dk_seg dksX11_count_3 24 rfl rfl
theorem dksX11_count_5 : cX11_count.data.toList.drop 146 = dktX11_count_5 := dk_seg dksX11_count_4 22 rfl rfl
theorem dX11_count_0 : decode cX11_count 0 = .ok (.aload_n 0, 1) := dk_42 (dk_at dksX11_count_0 0 rfl rfl)
theorem dX11_count_1 : decode cX11_count 1 = .ok (.iconst 0, 1) := dk_3 (dk_at dksX11_count_0 1 rfl rfl)
theorem dX11_count_2 : decode cX11_count 2 = .ok (.putfield 69, 3) := dk_181 0 69 (dk_at dksX11_count_0 2 rfl rfl)
theorem dX11_count_5 : decode cX11_count 5 = .ok (.iload_n 1, 1) := dk_27 (dk_at dksX11_count_0 5 rfl rfl)
theorem dX11_count_6 : decode cX11_count 6 = .ok (.tableswitch 157 0 13 #[70, 75, 80, 87, 94, 101, 157, 157, 157, 157, 148, 148, 148, 148], 70) := by decide +kernel
theorem dX11_count_76 : decode cX11_count 76 = .ok (.aload_n 0, 1) := dk_42 (dk_at dksX11_count_2 0 rfl rfl)
theorem dX11_count_77 : decode cX11_count 77 = .ok (.getfield 73, 3) := dk_180 0 73 (dk_at dksX11_count_2 1 rfl rfl)
theorem dX11_count_80 : decode cX11_count 80 = .ok (.ireturn, 1) := dk_172 (dk_at dksX11_count_2 4 rfl rfl)
theorem dX11_count_81 : decode cX11_count 81 = .ok (.aload_n 0, 1) := dk_42 (dk_at dksX11_count_2 5 rfl rfl)
theorem dX11_count_82 : decode cX11_count 82 = .ok (.getfield 76, 3) := dk_180 0 76 (dk_at dksX11_count_2 6 rfl rfl)
theorem dX11_count_85 : decode cX11_count 85 = .ok (.ireturn, 1) := dk_172 (dk_at dksX11_count_2 9 rfl rfl)
theorem dX11_count_86 : decode cX11_count 86 = .ok (.aload_n 0, 1) := dk_42 (dk_at dksX11_count_2 10 rfl rfl)
theorem dX11_count_87 : decode cX11_count 87 = .ok (.iconst 0, 1) := dk_3 (dk_at dksX11_count_2 11 rfl rfl)
theorem dX11_count_88 : decode cX11_count 88 = .ok (.iconst 1, 1) := dk_4 (dk_at dksX11_count_2 12 rfl rfl)
theorem dX11_count_89 : decode cX11_count 89 = .ok (.invokevirtual 129, 3) := dk_182 0 129 (dk_at dksX11_count_2 13 rfl rfl)
theorem dX11_count_92 : decode cX11_count 92 = .ok (.ireturn, 1) := dk_172 (dk_at dksX11_count_2 16 rfl rfl)
theorem dX11_count_93 : decode cX11_count 93 = .ok (.aload_n 0, 1) := dk_42 (dk_at dksX11_count_2 17 rfl rfl)
theorem dX11_count_94 : decode cX11_count 94 = .ok (.iconst 0, 1) := dk_3 (dk_at dksX11_count_2 18 rfl rfl)
theorem dX11_count_95 : decode cX11_count 95 = .ok (.iconst 0, 1) := dk_3 (dk_at dksX11_count_2 19 rfl rfl)
theorem dX11_count_96 : decode cX11_count 96 = .ok (.invokevirtual 129, 3) := dk_182 0 129 (dk_at dksX11_count_2 20 rfl rfl)
theorem dX11_count_99 : decode cX11_count 99 = .ok (.ireturn, 1) := dk_172 (dk_at dksX11_count_2 23 rfl rfl)
theorem dX11_count_100 : decode cX11_count 100 = .ok (.aload_n 0, 1) := dk_42 (dk_at dksX11_count_3 0 rfl rfl)
theorem dX11_count_101 : decode cX11_count 101 = .ok (.iconst 2, 1) := dk_5 (dk_at dksX11_count_3 1 rfl rfl)
theorem dX11_count_102 : decode cX11_count 102 = .ok (.iconst 1, 1) := dk_4 (dk_at dksX11_count_3 2 rfl rfl)
theorem dX11_count_103 : decode cX11_count 103 = .ok (.invokevirtual 129, 3) := dk_182 0 129 (dk_at dksX11_count_3 3 rfl rfl)
theorem dX11_count_106 : decode cX11_count 106 = .ok (.ireturn, 1) := dk_172 (dk_at dksX11_count_3 6 rfl rfl)
theorem dX11_count_107 : decode cX11_count 107 = .ok (.iconst 0, 1) := dk_3 (dk_at dksX11_count_3 7 rfl rfl)
theorem dX11_count_108 : decode cX11_count 108 = .ok (.istore_n 2, 1) := dk_61 (dk_at dksX11_count_3 8 rfl rfl)
theorem dX11_count_109 : decode cX11_count 109 = .ok (.iconst 0, 1) := dk_3 (dk_at dksX11_count_3 9 rfl rfl)
theorem dX11_count_110 : decode cX11_count 110 = .ok (.istore_n 3, 1) := dk_62 (dk_at dksX11_count_3 10 rfl rfl)
theorem dX11_count_111 : decode cX11_count 111 = .ok (.iload_n 3, 1) := dk_29 (dk_at dksX11_count_3 11 rfl rfl)
theorem dX11_count_112 : decode cX11_count 112 = .ok (.aload_n 0, 1) := dk_42 (dk_at dksX11_count_3 12 rfl rfl)
theorem dX11_count_113 : decode cX11_count 113 = .ok (.getfield 73, 3) := dk_180 0 73 (dk_at dksX11_count_3 13 rfl rfl)
theorem dX11_count_116 : decode cX11_count 116 = .ok (.if_icmp .ge 36, 3) := dk_162 0 36 (dk_at dksX11_count_3 16 rfl rfl)
theorem dX11_count_119 : decode cX11_count 119 = .ok (.iload_n 2, 1) := dk_28 (dk_at dksX11_count_3 19 rfl rfl)
theorem dX11_count_120 : decode cX11_count 120 = .ok (.aload_n 0, 1) := dk_42 (dk_at dksX11_count_3 20 rfl rfl)
theorem dX11_count_121 : decode cX11_count 121 = .ok (.getfield 16, 3) := dk_180 0 16 (dk_at dksX11_count_3 21 rfl rfl)
theorem dX11_count_124 : decode cX11_count 124 = .ok (.iload_n 3, 1) := dk_29 (dk_at dksX11_count_4 0 rfl rfl)
theorem dX11_count_125 : decode cX11_count 125 = .ok (.baload, 1) := dk_51 (dk_at dksX11_count_4 1 rfl rfl)
theorem dX11_count_126 : decode cX11_count 126 = .ok (.ifCond .eq 17, 3) := dk_153 0 17 (dk_at dksX11_count_4 2 rfl rfl)
theorem dX11_count_129 : decode cX11_count 129 = .ok (.aload_n 0, 1) := dk_42 (dk_at dksX11_count_4 5 rfl rfl)
theorem dX11_count_130 : decode cX11_count 130 = .ok (.getfield 13, 3) := dk_180 0 13 (dk_at dksX11_count_4 6 rfl rfl)
theorem dX11_count_133 : decode cX11_count 133 = .ok (.iload_n 3, 1) := dk_29 (dk_at dksX11_count_4 9 rfl rfl)
theorem dX11_count_134 : decode cX11_count 134 = .ok (.iaload, 1) := dk_46 (dk_at dksX11_count_4 10 rfl rfl)
theorem dX11_count_135 : decode cX11_count 135 = .ok (.iconst (-1), 1) := dk_2 (dk_at dksX11_count_4 11 rfl rfl)
theorem dX11_count_136 : decode cX11_count 136 = .ok (.if_icmp .ne 7, 3) := dk_160 0 7 (dk_at dksX11_count_4 12 rfl rfl)
theorem dX11_count_139 : decode cX11_count 139 = .ok (.iconst 1, 1) := dk_4 (dk_at dksX11_count_4 15 rfl rfl)
theorem dX11_count_140 : decode cX11_count 140 = .ok (.goto 4, 3) := dk_167 0 4 (dk_at dksX11_count_4 16 rfl rfl)
theorem dX11_count_143 : decode cX11_count 143 = .ok (.iconst 0, 1) := dk_3 (dk_at dksX11_count_4 19 rfl rfl)
theorem dX11_count_144 : decode cX11_count 144 = .ok (.iadd, 1) := dk_96 (dk_at dksX11_count_4 20 rfl rfl)
theorem dX11_count_145 : decode cX11_count 145 = .ok (.istore_n 2, 1) := dk_61 (dk_at dksX11_count_4 21 rfl rfl)
theorem dX11_count_146 : decode cX11_count 146 = .ok (.iinc 3 1, 3) := dk_132 3 1 (dk_at dksX11_count_5 0 rfl rfl)
theorem dX11_count_149 : decode cX11_count 149 = .ok (.goto (-38), 3) := dk_167 255 218 (dk_at dksX11_count_5 3 rfl rfl)
theorem dX11_count_152 : decode cX11_count 152 = .ok (.iload_n 2, 1) := dk_28 (dk_at dksX11_count_5 6 rfl rfl)
theorem dX11_count_153 : decode cX11_count 153 = .ok (.ireturn, 1) := dk_172 (dk_at dksX11_count_5 7 rfl rfl)
theorem dX11_count_154 : decode cX11_count 154 = .ok (.aload_n 0, 1) := dk_42 (dk_at dksX11_count_5 8 rfl rfl)
theorem dX11_count_155 : decode cX11_count 155 = .ok (.iload_n 1, 1) := dk_27 (dk_at dksX11_count_5 9 rfl rfl)
theorem dX11_count_156 : decode cX11_count 156 = .ok (.bipush 10, 2) := dk_16 10 (dk_at dksX11_count_5 10 rfl rfl)
theorem dX11_count_158 : decode cX11_count 158 = .ok (.isub, 1) := dk_100 (dk_at dksX11_count_5 12 rfl rfl)
theorem dX11_count_159 : decode cX11_count 159 = .ok (.invokevirtual 105, 3) := dk_182 0 105 (dk_at dksX11_count_5 13 rfl rfl)
theorem dX11_count_162 : decode cX11_count 162 = .ok (.ireturn, 1) := dk_172 (dk_at dksX11_count_5 16 rfl rfl)
theorem dX11_count_163 : decode cX11_count 163 = .ok (.iconst (-1), 1) := dk_2 (dk_at dksX11_count_5 17 rfl rfl)
theorem dX11_count_164 : decode cX11_count 164 = .ok (.ireturn, 1) := dk_172 (dk_at dksX11_count_5 18 rfl rfl)
abbrev cX11_those : ByteArray := prog_16_method_32_code
def yX11_those : MethodName := ⟨RX11, "those", "(IZ)I"⟩
def dkwX11_those_2 : List UInt8 := [132, 4, 1, 167, 255, 211, 29, 172]
abbrev dktX11_those_2 : List UInt8 := dkwX11_those_2 ++ []
def dkwX11_those_1 : List UInt8 := [160, 0, 21, 28, 154, 0, 13, 42, 180, 0, 50, 21, 4, 51, 153, 0, 7, 4, 167, 0, 4, 3, 96, 62]
abbrev dktX11_those_1 : List UInt8 := dkwX11_those_1 ++ dktX11_those_2
def dkwX11_those_0 : List UInt8 := [3, 62, 3, 54, 4, 21, 4, 42, 180, 0, 76, 162, 0, 42, 29, 42, 180, 0, 44, 21, 4, 46, 27]
abbrev dktX11_those_0 : List UInt8 := dkwX11_those_0 ++ dktX11_those_1
theorem dksX11_those_0 : cX11_those.data.toList.drop 0 = dktX11_those_0 := by decide +kernel
theorem dksX11_those_1 : cX11_those.data.toList.drop 23 = dktX11_those_1 := dk_seg dksX11_those_0 23 rfl rfl
theorem dksX11_those_2 : cX11_those.data.toList.drop 47 = dktX11_those_2 := dk_seg dksX11_those_1 24 rfl rfl
theorem dX11_those_0 : decode cX11_those 0 = .ok (.iconst 0, 1) := dk_3 (dk_at dksX11_those_0 0 rfl rfl)
theorem dX11_those_1 : decode cX11_those 1 = .ok (.istore_n 3, 1) := dk_62 (dk_at dksX11_those_0 1 rfl rfl)
theorem dX11_those_2 : decode cX11_those 2 = .ok (.iconst 0, 1) := dk_3 (dk_at dksX11_those_0 2 rfl rfl)
theorem dX11_those_3 : decode cX11_those 3 = .ok (.istore 4, 2) := dk_54 4 (dk_at dksX11_those_0 3 rfl rfl)
theorem dX11_those_5 : decode cX11_those 5 = .ok (.iload 4, 2) := dk_21 4 (dk_at dksX11_those_0 5 rfl rfl)
theorem dX11_those_7 : decode cX11_those 7 = .ok (.aload_n 0, 1) := dk_42 (dk_at dksX11_those_0 7 rfl rfl)
theorem dX11_those_8 : decode cX11_those 8 = .ok (.getfield 76, 3) := dk_180 0 76 (dk_at dksX11_those_0 8 rfl rfl)
theorem dX11_those_11 : decode cX11_those 11 = .ok (.if_icmp .ge 42, 3) := dk_162 0 42 (dk_at dksX11_those_0 11 rfl rfl)
theorem dX11_those_14 : decode cX11_those 14 = .ok (.iload_n 3, 1) := dk_29 (dk_at dksX11_those_0 14 rfl rfl)
theorem dX11_those_15 : decode cX11_those 15 = .ok (.aload_n 0, 1) := dk_42 (dk_at dksX11_those_0 15 rfl rfl)
theorem dX11_those_16 : decode cX11_those 16 = .ok (.getfield 44, 3) := dk_180 0 44 (dk_at dksX11_those_0 16 rfl rfl)
theorem dX11_those_19 : decode cX11_those 19 = .ok (.iload 4, 2) := dk_21 4 (dk_at dksX11_those_0 19 rfl rfl)
theorem dX11_those_21 : decode cX11_those 21 = .ok (.iaload, 1) := dk_46 (dk_at dksX11_those_0 21 rfl rfl)
theorem dX11_those_22 : decode cX11_those 22 = .ok (.iload_n 1, 1) := dk_27 (dk_at dksX11_those_0 22 rfl rfl)
theorem dX11_those_23 : decode cX11_those 23 = .ok (.if_icmp .ne 21, 3) := dk_160 0 21 (dk_at dksX11_those_1 0 rfl rfl)
theorem dX11_those_26 : decode cX11_those 26 = .ok (.iload_n 2, 1) := dk_28 (dk_at dksX11_those_1 3 rfl rfl)
theorem dX11_those_27 : decode cX11_those 27 = .ok (.ifCond .ne 13, 3) := dk_154 0 13 (dk_at dksX11_those_1 4 rfl rfl)
theorem dX11_those_30 : decode cX11_those 30 = .ok (.aload_n 0, 1) := dk_42 (dk_at dksX11_those_1 7 rfl rfl)
theorem dX11_those_31 : decode cX11_those 31 = .ok (.getfield 50, 3) := dk_180 0 50 (dk_at dksX11_those_1 8 rfl rfl)
theorem dX11_those_34 : decode cX11_those 34 = .ok (.iload 4, 2) := dk_21 4 (dk_at dksX11_those_1 11 rfl rfl)
theorem dX11_those_36 : decode cX11_those 36 = .ok (.baload, 1) := dk_51 (dk_at dksX11_those_1 13 rfl rfl)
theorem dX11_those_37 : decode cX11_those 37 = .ok (.ifCond .eq 7, 3) := dk_153 0 7 (dk_at dksX11_those_1 14 rfl rfl)
theorem dX11_those_40 : decode cX11_those 40 = .ok (.iconst 1, 1) := dk_4 (dk_at dksX11_those_1 17 rfl rfl)
theorem dX11_those_41 : decode cX11_those 41 = .ok (.goto 4, 3) := dk_167 0 4 (dk_at dksX11_those_1 18 rfl rfl)
theorem dX11_those_44 : decode cX11_those 44 = .ok (.iconst 0, 1) := dk_3 (dk_at dksX11_those_1 21 rfl rfl)
theorem dX11_those_45 : decode cX11_those 45 = .ok (.iadd, 1) := dk_96 (dk_at dksX11_those_1 22 rfl rfl)
theorem dX11_those_46 : decode cX11_those 46 = .ok (.istore_n 3, 1) := dk_62 (dk_at dksX11_those_1 23 rfl rfl)
theorem dX11_those_47 : decode cX11_those 47 = .ok (.iinc 4 1, 3) := dk_132 4 1 (dk_at dksX11_those_2 0 rfl rfl)
theorem dX11_those_50 : decode cX11_those 50 = .ok (.goto (-45), 3) := dk_167 255 211 (dk_at dksX11_those_2 3 rfl rfl)
theorem dX11_those_53 : decode cX11_those 53 = .ok (.iload_n 3, 1) := dk_29 (dk_at dksX11_those_2 6 rfl rfl)
theorem dX11_those_54 : decode cX11_those 54 = .ok (.ireturn, 1) := dk_172 (dk_at dksX11_those_2 7 rfl rfl)
theorem q34 : (Jvm.Cond.initialized "InitiatorRowsModel") ∈ lw_all := lw_g (lw_at lw_m1 14 rfl) rfl
theorem q301 : (Jvm.Cond.selects "InitiatorRowsModel" ({ cls := "java/lang/Object", name := "getClass", desc := "()Ljava/lang/Class;" } : Jvm.MethodName) ({ cls := "java/lang/Object", name := "getClass", desc := "()Ljava/lang/Class;" } : Jvm.MethodName)) ∈ lw_all := lw_g (lw_at lw_m2 41 rfl) rfl
theorem q487 : (Jvm.Cond.selects "InitiatorRowsModel" ({ cls := "java/lang/Object", name := "equals", desc := "(Ljava/lang/Object;)Z" } : Jvm.MethodName) ({ cls := "java/lang/Object", name := "equals", desc := "(Ljava/lang/Object;)Z" } : Jvm.MethodName)) ∈ lw_all := lw_g (lw_at lw_m2 227 rfl) rfl
theorem q827 : (Jvm.Cond.instantiable "InitiatorRowsModel" (25 : Nat)) ∈ lw_all := lw_g (lw_at lw_m4 87 rfl) rfl
theorem q829 : (Jvm.Cond.instanceMethod ({ cls := "InitiatorRowsModel", name := "<init>", desc := "()V" } : Jvm.MethodName)) ∈ lw_all := lw_g (lw_at lw_m4 89 rfl) rfl
theorem q830 : (Jvm.Cond.code ({ cls := "InitiatorRowsModel", name := "<init>", desc := "()V" } : Jvm.MethodName) prog_16_method_1_code (2 : Nat) (Option.none : Option Jvm.ClassFile.FieldType)) ∈ lw_all := lw_g (lw_at lw_m4 90 rfl) rfl
theorem q831 : (Jvm.Cond.methodLink "InitiatorRowsModel" (1 : Nat) ({ cls := "java/lang/Object", name := "<init>", desc := "()V" } : Jvm.MethodName)) ∈ lw_all := lw_g (lw_at lw_m4 91 rfl) rfl
theorem q832 : (Jvm.Cond.fieldLink "InitiatorRowsModel" (69 : Nat) "InitiatorRowsModel" "thrown" "I") ∈ lw_all := lw_g (lw_at lw_m4 92 rfl) rfl
theorem q833 : (Jvm.Cond.fieldLink "InitiatorRowsModel" (89 : Nat) "InitiatorRowsModel" "now" "J") ∈ lw_all := lw_g (lw_at lw_m4 93 rfl) rfl
theorem q834 : (Jvm.Cond.fieldLink "InitiatorRowsModel" (7 : Nat) "InitiatorRowsModel" "lists" "[I") ∈ lw_all := lw_g (lw_at lw_m4 94 rfl) rfl
theorem q835 : (Jvm.Cond.fieldLink "InitiatorRowsModel" (13 : Nat) "InitiatorRowsModel" "runs" "[I") ∈ lw_all := lw_g (lw_at lw_m4 95 rfl) rfl
theorem q836 : (Jvm.Cond.fieldLink "InitiatorRowsModel" (16 : Nat) "InitiatorRowsModel" "drained" "[Z") ∈ lw_all := lw_g (lw_at lw_m4 96 rfl) rfl
theorem q837 : (Jvm.Cond.fieldLink "InitiatorRowsModel" (73 : Nat) "InitiatorRowsModel" "initiators" "I") ∈ lw_all := lw_g (lw_at lw_m4 97 rfl) rfl
theorem q838 : (Jvm.Cond.fieldLink "InitiatorRowsModel" (20 : Nat) "InitiatorRowsModel" "limits" "[I") ∈ lw_all := lw_g (lw_at lw_m4 98 rfl) rfl
theorem q839 : (Jvm.Cond.fieldLink "InitiatorRowsModel" (23 : Nat) "InitiatorRowsModel" "froms" "[I") ∈ lw_all := lw_g (lw_at lw_m4 99 rfl) rfl
theorem q840 : (Jvm.Cond.fieldLink "InitiatorRowsModel" (26 : Nat) "InitiatorRowsModel" "tos" "[I") ∈ lw_all := lw_g (lw_at lw_m4 100 rfl) rfl
theorem q841 : (Jvm.Cond.fieldLink "InitiatorRowsModel" (29 : Nat) "InitiatorRowsModel" "weights" "[I") ∈ lw_all := lw_g (lw_at lw_m4 101 rfl) rfl
theorem q842 : (Jvm.Cond.fieldLink "InitiatorRowsModel" (32 : Nat) "InitiatorRowsModel" "units" "[I") ∈ lw_all := lw_g (lw_at lw_m4 102 rfl) rfl
theorem q843 : (Jvm.Cond.fieldLink "InitiatorRowsModel" (35 : Nat) "InitiatorRowsModel" "sorts" "[I") ∈ lw_all := lw_g (lw_at lw_m4 103 rfl) rfl
theorem q844 : (Jvm.Cond.fieldLink "InitiatorRowsModel" (38 : Nat) "InitiatorRowsModel" "priorities" "[I") ∈ lw_all := lw_g (lw_at lw_m4 104 rfl) rfl
theorem q845 : (Jvm.Cond.fieldLink "InitiatorRowsModel" (41 : Nat) "InitiatorRowsModel" "names" "[I") ∈ lw_all := lw_g (lw_at lw_m4 105 rfl) rfl
theorem q846 : (Jvm.Cond.fieldLink "InitiatorRowsModel" (44 : Nat) "InitiatorRowsModel" "states" "[I") ∈ lw_all := lw_g (lw_at lw_m4 106 rfl) rfl
theorem q847 : (Jvm.Cond.fieldLink "InitiatorRowsModel" (47 : Nat) "InitiatorRowsModel" "uses" "[I") ∈ lw_all := lw_g (lw_at lw_m4 107 rfl) rfl
theorem q848 : (Jvm.Cond.fieldLink "InitiatorRowsModel" (50 : Nat) "InitiatorRowsModel" "held" "[Z") ∈ lw_all := lw_g (lw_at lw_m4 108 rfl) rfl
theorem q849 : (Jvm.Cond.fieldLink "InitiatorRowsModel" (53 : Nat) "InitiatorRowsModel" "lone" "[Z") ∈ lw_all := lw_g (lw_at lw_m4 109 rfl) rfl
theorem q850 : (Jvm.Cond.fieldLink "InitiatorRowsModel" (56 : Nat) "InitiatorRowsModel" "needed" "[Z") ∈ lw_all := lw_g (lw_at lw_m4 110 rfl) rfl
theorem q851 : (Jvm.Cond.fieldLink "InitiatorRowsModel" (59 : Nat) "InitiatorRowsModel" "reached" "[Z") ∈ lw_all := lw_g (lw_at lw_m4 111 rfl) rfl
theorem q852 : (Jvm.Cond.fieldLink "InitiatorRowsModel" (62 : Nat) "InitiatorRowsModel" "came" "[J") ∈ lw_all := lw_g (lw_at lw_m4 112 rfl) rfl
theorem q853 : (Jvm.Cond.fieldLink "InitiatorRowsModel" (66 : Nat) "InitiatorRowsModel" "ran" "[J") ∈ lw_all := lw_g (lw_at lw_m4 113 rfl) rfl
theorem q854 : (Jvm.Cond.fieldLink "InitiatorRowsModel" (76 : Nat) "InitiatorRowsModel" "jobs" "I") ∈ lw_all := lw_g (lw_at lw_m4 114 rfl) rfl
theorem q855 : (Jvm.Cond.fieldLink "InitiatorRowsModel" (109 : Nat) "InitiatorRowsModel" "per" "J") ∈ lw_all := lw_g (lw_at lw_m4 115 rfl) rfl
theorem q856 : (Jvm.Cond.fieldLink "InitiatorRowsModel" (114 : Nat) "InitiatorRowsModel" "most" "I") ∈ lw_all := lw_g (lw_at lw_m4 116 rfl) rfl
theorem q857 : (Jvm.Cond.lays "InitiatorRowsModel" "InitiatorRowsModel" "thrown" "I") ∈ lw_all := lw_g (lw_at lw_m4 117 rfl) rfl
theorem q858 : (Jvm.Cond.soleField "InitiatorRowsModel" "thrown") ∈ lw_all := lw_g (lw_at lw_m4 118 rfl) rfl
theorem q859 : (Jvm.Cond.lays "InitiatorRowsModel" "InitiatorRowsModel" "now" "J") ∈ lw_all := lw_g (lw_at lw_m4 119 rfl) rfl
theorem q860 : (Jvm.Cond.soleField "InitiatorRowsModel" "now") ∈ lw_all := lw_g (lw_at lw_m4 120 rfl) rfl
theorem q861 : (Jvm.Cond.laysFinal "InitiatorRowsModel" "InitiatorRowsModel" "lists" "[I") ∈ lw_all := lw_g (lw_at lw_m4 121 rfl) rfl
theorem q862 : (Jvm.Cond.soleField "InitiatorRowsModel" "lists") ∈ lw_all := lw_g (lw_at lw_m4 122 rfl) rfl
theorem q863 : (Jvm.Cond.laysFinal "InitiatorRowsModel" "InitiatorRowsModel" "runs" "[I") ∈ lw_all := lw_g (lw_at lw_m4 123 rfl) rfl
theorem q864 : (Jvm.Cond.soleField "InitiatorRowsModel" "runs") ∈ lw_all := lw_g (lw_at lw_m4 124 rfl) rfl
theorem q865 : (Jvm.Cond.laysFinal "InitiatorRowsModel" "InitiatorRowsModel" "drained" "[Z") ∈ lw_all := lw_g (lw_at lw_m4 125 rfl) rfl
theorem q866 : (Jvm.Cond.soleField "InitiatorRowsModel" "drained") ∈ lw_all := lw_g (lw_at lw_m4 126 rfl) rfl
theorem q867 : (Jvm.Cond.lays "InitiatorRowsModel" "InitiatorRowsModel" "initiators" "I") ∈ lw_all := lw_g (lw_at lw_m4 127 rfl) rfl
theorem q868 : (Jvm.Cond.soleField "InitiatorRowsModel" "initiators") ∈ lw_all := lw_g (lw_at lw_m4 128 rfl) rfl
theorem q869 : (Jvm.Cond.laysFinal "InitiatorRowsModel" "InitiatorRowsModel" "limits" "[I") ∈ lw_all := lw_g (lw_at lw_m4 129 rfl) rfl
theorem q870 : (Jvm.Cond.soleField "InitiatorRowsModel" "limits") ∈ lw_all := lw_g (lw_at lw_m4 130 rfl) rfl
theorem q871 : (Jvm.Cond.laysFinal "InitiatorRowsModel" "InitiatorRowsModel" "froms" "[I") ∈ lw_all := lw_g (lw_at lw_m4 131 rfl) rfl
theorem q872 : (Jvm.Cond.soleField "InitiatorRowsModel" "froms") ∈ lw_all := lw_g (lw_at lw_m4 132 rfl) rfl
theorem q873 : (Jvm.Cond.laysFinal "InitiatorRowsModel" "InitiatorRowsModel" "tos" "[I") ∈ lw_all := lw_g (lw_at lw_m4 133 rfl) rfl
theorem q874 : (Jvm.Cond.soleField "InitiatorRowsModel" "tos") ∈ lw_all := lw_g (lw_at lw_m4 134 rfl) rfl
theorem q875 : (Jvm.Cond.laysFinal "InitiatorRowsModel" "InitiatorRowsModel" "weights" "[I") ∈ lw_all := lw_g (lw_at lw_m4 135 rfl) rfl
theorem q876 : (Jvm.Cond.soleField "InitiatorRowsModel" "weights") ∈ lw_all := lw_g (lw_at lw_m4 136 rfl) rfl
theorem q877 : (Jvm.Cond.laysFinal "InitiatorRowsModel" "InitiatorRowsModel" "units" "[I") ∈ lw_all := lw_g (lw_at lw_m4 137 rfl) rfl
theorem q878 : (Jvm.Cond.soleField "InitiatorRowsModel" "units") ∈ lw_all := lw_g (lw_at lw_m4 138 rfl) rfl
theorem q879 : (Jvm.Cond.laysFinal "InitiatorRowsModel" "InitiatorRowsModel" "sorts" "[I") ∈ lw_all := lw_g (lw_at lw_m4 139 rfl) rfl
theorem q880 : (Jvm.Cond.soleField "InitiatorRowsModel" "sorts") ∈ lw_all := lw_g (lw_at lw_m4 140 rfl) rfl
theorem q881 : (Jvm.Cond.laysFinal "InitiatorRowsModel" "InitiatorRowsModel" "priorities" "[I") ∈ lw_all := lw_g (lw_at lw_m4 141 rfl) rfl
theorem q882 : (Jvm.Cond.soleField "InitiatorRowsModel" "priorities") ∈ lw_all := lw_g (lw_at lw_m4 142 rfl) rfl
theorem q883 : (Jvm.Cond.laysFinal "InitiatorRowsModel" "InitiatorRowsModel" "names" "[I") ∈ lw_all := lw_g (lw_at lw_m4 143 rfl) rfl
theorem q884 : (Jvm.Cond.soleField "InitiatorRowsModel" "names") ∈ lw_all := lw_g (lw_at lw_m4 144 rfl) rfl
theorem q885 : (Jvm.Cond.laysFinal "InitiatorRowsModel" "InitiatorRowsModel" "states" "[I") ∈ lw_all := lw_g (lw_at lw_m4 145 rfl) rfl
theorem q886 : (Jvm.Cond.soleField "InitiatorRowsModel" "states") ∈ lw_all := lw_g (lw_at lw_m4 146 rfl) rfl
theorem q887 : (Jvm.Cond.laysFinal "InitiatorRowsModel" "InitiatorRowsModel" "uses" "[I") ∈ lw_all := lw_g (lw_at lw_m4 147 rfl) rfl
theorem q888 : (Jvm.Cond.soleField "InitiatorRowsModel" "uses") ∈ lw_all := lw_g (lw_at lw_m4 148 rfl) rfl
theorem q889 : (Jvm.Cond.laysFinal "InitiatorRowsModel" "InitiatorRowsModel" "held" "[Z") ∈ lw_all := lw_g (lw_at lw_m4 149 rfl) rfl
theorem q890 : (Jvm.Cond.soleField "InitiatorRowsModel" "held") ∈ lw_all := lw_g (lw_at lw_m4 150 rfl) rfl
theorem q891 : (Jvm.Cond.laysFinal "InitiatorRowsModel" "InitiatorRowsModel" "lone" "[Z") ∈ lw_all := lw_g (lw_at lw_m4 151 rfl) rfl
theorem q892 : (Jvm.Cond.soleField "InitiatorRowsModel" "lone") ∈ lw_all := lw_g (lw_at lw_m4 152 rfl) rfl
theorem q893 : (Jvm.Cond.laysFinal "InitiatorRowsModel" "InitiatorRowsModel" "needed" "[Z") ∈ lw_all := lw_g (lw_at lw_m4 153 rfl) rfl
theorem q894 : (Jvm.Cond.soleField "InitiatorRowsModel" "needed") ∈ lw_all := lw_g (lw_at lw_m4 154 rfl) rfl
theorem q895 : (Jvm.Cond.laysFinal "InitiatorRowsModel" "InitiatorRowsModel" "reached" "[Z") ∈ lw_all := lw_g (lw_at lw_m4 155 rfl) rfl
theorem q896 : (Jvm.Cond.soleField "InitiatorRowsModel" "reached") ∈ lw_all := lw_g (lw_at lw_m4 156 rfl) rfl
theorem q897 : (Jvm.Cond.laysFinal "InitiatorRowsModel" "InitiatorRowsModel" "came" "[J") ∈ lw_all := lw_g (lw_at lw_m4 157 rfl) rfl
theorem q898 : (Jvm.Cond.soleField "InitiatorRowsModel" "came") ∈ lw_all := lw_g (lw_at lw_m4 158 rfl) rfl
theorem q899 : (Jvm.Cond.laysFinal "InitiatorRowsModel" "InitiatorRowsModel" "ran" "[J") ∈ lw_all := lw_g (lw_at lw_m4 159 rfl) rfl
theorem q900 : (Jvm.Cond.soleField "InitiatorRowsModel" "ran") ∈ lw_all := lw_g (lw_at lw_m4 160 rfl) rfl
theorem q901 : (Jvm.Cond.lays "InitiatorRowsModel" "InitiatorRowsModel" "jobs" "I") ∈ lw_all := lw_g (lw_at lw_m4 161 rfl) rfl
theorem q902 : (Jvm.Cond.soleField "InitiatorRowsModel" "jobs") ∈ lw_all := lw_g (lw_at lw_m4 162 rfl) rfl
theorem q903 : (Jvm.Cond.lays "InitiatorRowsModel" "InitiatorRowsModel" "per" "J") ∈ lw_all := lw_g (lw_at lw_m4 163 rfl) rfl
theorem q904 : (Jvm.Cond.soleField "InitiatorRowsModel" "per") ∈ lw_all := lw_g (lw_at lw_m4 164 rfl) rfl
theorem q905 : (Jvm.Cond.lays "InitiatorRowsModel" "InitiatorRowsModel" "most" "I") ∈ lw_all := lw_g (lw_at lw_m4 165 rfl) rfl
theorem q906 : (Jvm.Cond.soleField "InitiatorRowsModel" "most") ∈ lw_all := lw_g (lw_at lw_m4 166 rfl) rfl
theorem q907 : (Jvm.Cond.superclass "InitiatorRowsModel" "java/lang/Object") ∈ lw_all := lw_g (lw_at lw_m4 167 rfl) rfl
theorem q910 : (Jvm.Cond.instanceMethod ({ cls := "InitiatorRowsModel", name := "thrown", desc := "()I" } : Jvm.MethodName)) ∈ lw_all := lw_g (lw_at lw_m4 170 rfl) rfl
theorem q911 : (Jvm.Cond.selects "InitiatorRowsModel" ({ cls := "InitiatorRowsModel", name := "thrown", desc := "()I" } : Jvm.MethodName) ({ cls := "InitiatorRowsModel", name := "thrown", desc := "()I" } : Jvm.MethodName)) ∈ lw_all := lw_g (lw_at lw_m4 171 rfl) rfl
theorem q912 : (Jvm.Cond.code ({ cls := "InitiatorRowsModel", name := "thrown", desc := "()I" } : Jvm.MethodName) prog_16_method_2_code (1 : Nat) (Option.some Jvm.ClassFile.FieldType.int)) ∈ lw_all := lw_g (lw_at lw_m4 172 rfl) rfl
theorem q914 : (Jvm.Cond.instanceMethod ({ cls := "InitiatorRowsModel", name := "initiator", desc := "()I" } : Jvm.MethodName)) ∈ lw_all := lw_g (lw_at lw_m4 174 rfl) rfl
theorem q915 : (Jvm.Cond.selects "InitiatorRowsModel" ({ cls := "InitiatorRowsModel", name := "initiator", desc := "()I" } : Jvm.MethodName) ({ cls := "InitiatorRowsModel", name := "initiator", desc := "()I" } : Jvm.MethodName)) ∈ lw_all := lw_g (lw_at lw_m4 175 rfl) rfl
theorem q916 : (Jvm.Cond.code ({ cls := "InitiatorRowsModel", name := "initiator", desc := "()I" } : Jvm.MethodName) prog_16_method_6_code (1 : Nat) (Option.some Jvm.ClassFile.FieldType.int)) ∈ lw_all := lw_g (lw_at lw_m4 176 rfl) rfl
theorem q918 : (Jvm.Cond.instanceMethod ({ cls := "InitiatorRowsModel", name := "cls", desc := "(III)I" } : Jvm.MethodName)) ∈ lw_all := lw_g (lw_at lw_m4 178 rfl) rfl
theorem q919 : (Jvm.Cond.selects "InitiatorRowsModel" ({ cls := "InitiatorRowsModel", name := "cls", desc := "(III)I" } : Jvm.MethodName) ({ cls := "InitiatorRowsModel", name := "cls", desc := "(III)I" } : Jvm.MethodName)) ∈ lw_all := lw_g (lw_at lw_m4 179 rfl) rfl
theorem q920 : (Jvm.Cond.code ({ cls := "InitiatorRowsModel", name := "cls", desc := "(III)I" } : Jvm.MethodName) prog_16_method_7_code (4 : Nat) (Option.some Jvm.ClassFile.FieldType.int)) ∈ lw_all := lw_g (lw_at lw_m4 180 rfl) rfl
theorem q921 : (Jvm.Cond.methodLink "InitiatorRowsModel" (79 : Nat) ({ cls := "InitiatorRowsModel", name := "isInitiator", desc := "(I)Z" } : Jvm.MethodName)) ∈ lw_all := lw_g (lw_at lw_m4 181 rfl) rfl
theorem q922 : (Jvm.Cond.privateMethod ({ cls := "InitiatorRowsModel", name := "isInitiator", desc := "(I)Z" } : Jvm.MethodName)) ∈ lw_tbl := lw_at lw_m4 182 rfl
theorem q923 : (Jvm.Cond.instanceMethod ({ cls := "InitiatorRowsModel", name := "isInitiator", desc := "(I)Z" } : Jvm.MethodName)) ∈ lw_all := lw_g (lw_at lw_m4 183 rfl) rfl
theorem q924 : (Jvm.Cond.code ({ cls := "InitiatorRowsModel", name := "isInitiator", desc := "(I)Z" } : Jvm.MethodName) prog_16_method_3_code (2 : Nat) (Option.some Jvm.ClassFile.FieldType.boolean)) ∈ lw_all := lw_g (lw_at lw_m4 184 rfl) rfl
theorem q925 : (Jvm.Cond.methodLink "InitiatorRowsModel" (83 : Nat) ({ cls := "InitiatorRowsModel", name := "isClass", desc := "(I)Z" } : Jvm.MethodName)) ∈ lw_all := lw_g (lw_at lw_m4 185 rfl) rfl
theorem q926 : (Jvm.Cond.static ({ cls := "InitiatorRowsModel", name := "isClass", desc := "(I)Z" } : Jvm.MethodName)) ∈ lw_all := lw_g (lw_at lw_m4 186 rfl) rfl
theorem q927 : (Jvm.Cond.code ({ cls := "InitiatorRowsModel", name := "isClass", desc := "(I)Z" } : Jvm.MethodName) prog_16_method_5_code (1 : Nat) (Option.some Jvm.ClassFile.FieldType.boolean)) ∈ lw_all := lw_g (lw_at lw_m4 187 rfl) rfl
theorem q929 : (Jvm.Cond.instanceMethod ({ cls := "InitiatorRowsModel", name := "limit", desc := "(II)I" } : Jvm.MethodName)) ∈ lw_all := lw_g (lw_at lw_m4 189 rfl) rfl
theorem q930 : (Jvm.Cond.selects "InitiatorRowsModel" ({ cls := "InitiatorRowsModel", name := "limit", desc := "(II)I" } : Jvm.MethodName) ({ cls := "InitiatorRowsModel", name := "limit", desc := "(II)I" } : Jvm.MethodName)) ∈ lw_all := lw_g (lw_at lw_m4 190 rfl) rfl
theorem q931 : (Jvm.Cond.code ({ cls := "InitiatorRowsModel", name := "limit", desc := "(II)I" } : Jvm.MethodName) prog_16_method_8_code (3 : Nat) (Option.some Jvm.ClassFile.FieldType.int)) ∈ lw_all := lw_g (lw_at lw_m4 191 rfl) rfl
theorem q933 : (Jvm.Cond.instanceMethod ({ cls := "InitiatorRowsModel", name := "window", desc := "(III)I" } : Jvm.MethodName)) ∈ lw_all := lw_g (lw_at lw_m4 193 rfl) rfl
theorem q934 : (Jvm.Cond.selects "InitiatorRowsModel" ({ cls := "InitiatorRowsModel", name := "window", desc := "(III)I" } : Jvm.MethodName) ({ cls := "InitiatorRowsModel", name := "window", desc := "(III)I" } : Jvm.MethodName)) ∈ lw_all := lw_g (lw_at lw_m4 194 rfl) rfl
theorem q935 : (Jvm.Cond.code ({ cls := "InitiatorRowsModel", name := "window", desc := "(III)I" } : Jvm.MethodName) prog_16_method_10_code (4 : Nat) (Option.some Jvm.ClassFile.FieldType.int)) ∈ lw_all := lw_g (lw_at lw_m4 195 rfl) rfl
theorem q936 : (Jvm.Cond.methodLink "InitiatorRowsModel" (86 : Nat) ({ cls := "InitiatorRowsModel", name := "isMinute", desc := "(I)Z" } : Jvm.MethodName)) ∈ lw_all := lw_g (lw_at lw_m4 196 rfl) rfl
theorem q937 : (Jvm.Cond.static ({ cls := "InitiatorRowsModel", name := "isMinute", desc := "(I)Z" } : Jvm.MethodName)) ∈ lw_all := lw_g (lw_at lw_m4 197 rfl) rfl
theorem q938 : (Jvm.Cond.code ({ cls := "InitiatorRowsModel", name := "isMinute", desc := "(I)Z" } : Jvm.MethodName) prog_16_method_9_code (1 : Nat) (Option.some Jvm.ClassFile.FieldType.boolean)) ∈ lw_all := lw_g (lw_at lw_m4 198 rfl) rfl
theorem q940 : (Jvm.Cond.instanceMethod ({ cls := "InitiatorRowsModel", name := "job", desc := "(IIIJ)I" } : Jvm.MethodName)) ∈ lw_all := lw_g (lw_at lw_m4 200 rfl) rfl
theorem q941 : (Jvm.Cond.selects "InitiatorRowsModel" ({ cls := "InitiatorRowsModel", name := "job", desc := "(IIIJ)I" } : Jvm.MethodName) ({ cls := "InitiatorRowsModel", name := "job", desc := "(IIIJ)I" } : Jvm.MethodName)) ∈ lw_all := lw_g (lw_at lw_m4 201 rfl) rfl
theorem q942 : (Jvm.Cond.code ({ cls := "InitiatorRowsModel", name := "job", desc := "(IIIJ)I" } : Jvm.MethodName) prog_16_method_11_code (6 : Nat) (Option.some Jvm.ClassFile.FieldType.int)) ∈ lw_all := lw_g (lw_at lw_m4 202 rfl) rfl
theorem q944 : (Jvm.Cond.instanceMethod ({ cls := "InitiatorRowsModel", name := "needs", desc := "(II)I" } : Jvm.MethodName)) ∈ lw_all := lw_g (lw_at lw_m4 204 rfl) rfl
theorem q945 : (Jvm.Cond.selects "InitiatorRowsModel" ({ cls := "InitiatorRowsModel", name := "needs", desc := "(II)I" } : Jvm.MethodName) ({ cls := "InitiatorRowsModel", name := "needs", desc := "(II)I" } : Jvm.MethodName)) ∈ lw_all := lw_g (lw_at lw_m4 205 rfl) rfl
theorem q946 : (Jvm.Cond.code ({ cls := "InitiatorRowsModel", name := "needs", desc := "(II)I" } : Jvm.MethodName) prog_16_method_13_code (3 : Nat) (Option.some Jvm.ClassFile.FieldType.int)) ∈ lw_all := lw_g (lw_at lw_m4 206 rfl) rfl
theorem q947 : (Jvm.Cond.methodLink "InitiatorRowsModel" (93 : Nat) ({ cls := "InitiatorRowsModel", name := "isJob", desc := "(I)Z" } : Jvm.MethodName)) ∈ lw_all := lw_g (lw_at lw_m4 207 rfl) rfl
theorem q948 : (Jvm.Cond.privateMethod ({ cls := "InitiatorRowsModel", name := "isJob", desc := "(I)Z" } : Jvm.MethodName)) ∈ lw_tbl := lw_at lw_m4 208 rfl
theorem q949 : (Jvm.Cond.instanceMethod ({ cls := "InitiatorRowsModel", name := "isJob", desc := "(I)Z" } : Jvm.MethodName)) ∈ lw_all := lw_g (lw_at lw_m4 209 rfl) rfl
theorem q950 : (Jvm.Cond.code ({ cls := "InitiatorRowsModel", name := "isJob", desc := "(I)Z" } : Jvm.MethodName) prog_16_method_4_code (2 : Nat) (Option.some Jvm.ClassFile.FieldType.boolean)) ∈ lw_all := lw_g (lw_at lw_m4 210 rfl) rfl
theorem q951 : (Jvm.Cond.methodLink "InitiatorRowsModel" (96 : Nat) ({ cls := "InitiatorRowsModel", name := "reaches", desc := "(II)Z" } : Jvm.MethodName)) ∈ lw_all := lw_g (lw_at lw_m4 211 rfl) rfl
theorem q952 : (Jvm.Cond.privateMethod ({ cls := "InitiatorRowsModel", name := "reaches", desc := "(II)Z" } : Jvm.MethodName)) ∈ lw_tbl := lw_at lw_m4 212 rfl
theorem q953 : (Jvm.Cond.instanceMethod ({ cls := "InitiatorRowsModel", name := "reaches", desc := "(II)Z" } : Jvm.MethodName)) ∈ lw_all := lw_g (lw_at lw_m4 213 rfl) rfl
theorem q954 : (Jvm.Cond.code ({ cls := "InitiatorRowsModel", name := "reaches", desc := "(II)Z" } : Jvm.MethodName) prog_16_method_12_code (6 : Nat) (Option.some Jvm.ClassFile.FieldType.boolean)) ∈ lw_all := lw_g (lw_at lw_m4 214 rfl) rfl
theorem q956 : (Jvm.Cond.instanceMethod ({ cls := "InitiatorRowsModel", name := "units", desc := "(II)I" } : Jvm.MethodName)) ∈ lw_all := lw_g (lw_at lw_m4 216 rfl) rfl
theorem q957 : (Jvm.Cond.selects "InitiatorRowsModel" ({ cls := "InitiatorRowsModel", name := "units", desc := "(II)I" } : Jvm.MethodName) ({ cls := "InitiatorRowsModel", name := "units", desc := "(II)I" } : Jvm.MethodName)) ∈ lw_all := lw_g (lw_at lw_m4 217 rfl) rfl
theorem q958 : (Jvm.Cond.code ({ cls := "InitiatorRowsModel", name := "units", desc := "(II)I" } : Jvm.MethodName) prog_16_method_14_code (3 : Nat) (Option.some Jvm.ClassFile.FieldType.int)) ∈ lw_all := lw_g (lw_at lw_m4 218 rfl) rfl
theorem q960 : (Jvm.Cond.instanceMethod ({ cls := "InitiatorRowsModel", name := "uses", desc := "(III)I" } : Jvm.MethodName)) ∈ lw_all := lw_g (lw_at lw_m4 220 rfl) rfl
theorem q961 : (Jvm.Cond.selects "InitiatorRowsModel" ({ cls := "InitiatorRowsModel", name := "uses", desc := "(III)I" } : Jvm.MethodName) ({ cls := "InitiatorRowsModel", name := "uses", desc := "(III)I" } : Jvm.MethodName)) ∈ lw_all := lw_g (lw_at lw_m4 221 rfl) rfl
theorem q962 : (Jvm.Cond.code ({ cls := "InitiatorRowsModel", name := "uses", desc := "(III)I" } : Jvm.MethodName) prog_16_method_15_code (4 : Nat) (Option.some Jvm.ClassFile.FieldType.int)) ∈ lw_all := lw_g (lw_at lw_m4 222 rfl) rfl
theorem q964 : (Jvm.Cond.instanceMethod ({ cls := "InitiatorRowsModel", name := "alone", desc := "(I)I" } : Jvm.MethodName)) ∈ lw_all := lw_g (lw_at lw_m4 224 rfl) rfl
theorem q965 : (Jvm.Cond.selects "InitiatorRowsModel" ({ cls := "InitiatorRowsModel", name := "alone", desc := "(I)I" } : Jvm.MethodName) ({ cls := "InitiatorRowsModel", name := "alone", desc := "(I)I" } : Jvm.MethodName)) ∈ lw_all := lw_g (lw_at lw_m4 225 rfl) rfl
theorem q966 : (Jvm.Cond.code ({ cls := "InitiatorRowsModel", name := "alone", desc := "(I)I" } : Jvm.MethodName) prog_16_method_16_code (2 : Nat) (Option.some Jvm.ClassFile.FieldType.int)) ∈ lw_all := lw_g (lw_at lw_m4 226 rfl) rfl
theorem q968 : (Jvm.Cond.instanceMethod ({ cls := "InitiatorRowsModel", name := "hold", desc := "(IZ)I" } : Jvm.MethodName)) ∈ lw_all := lw_g (lw_at lw_m4 228 rfl) rfl
theorem q969 : (Jvm.Cond.selects "InitiatorRowsModel" ({ cls := "InitiatorRowsModel", name := "hold", desc := "(IZ)I" } : Jvm.MethodName) ({ cls := "InitiatorRowsModel", name := "hold", desc := "(IZ)I" } : Jvm.MethodName)) ∈ lw_all := lw_g (lw_at lw_m4 229 rfl) rfl
theorem q970 : (Jvm.Cond.code ({ cls := "InitiatorRowsModel", name := "hold", desc := "(IZ)I" } : Jvm.MethodName) prog_16_method_17_code (4 : Nat) (Option.some Jvm.ClassFile.FieldType.int)) ∈ lw_all := lw_g (lw_at lw_m4 230 rfl) rfl
theorem q972 : (Jvm.Cond.instanceMethod ({ cls := "InitiatorRowsModel", name := "next", desc := "(IJ)I" } : Jvm.MethodName)) ∈ lw_all := lw_g (lw_at lw_m4 232 rfl) rfl
theorem q973 : (Jvm.Cond.selects "InitiatorRowsModel" ({ cls := "InitiatorRowsModel", name := "next", desc := "(IJ)I" } : Jvm.MethodName) ({ cls := "InitiatorRowsModel", name := "next", desc := "(IJ)I" } : Jvm.MethodName)) ∈ lw_all := lw_g (lw_at lw_m4 233 rfl) rfl
theorem q974 : (Jvm.Cond.code ({ cls := "InitiatorRowsModel", name := "next", desc := "(IJ)I" } : Jvm.MethodName) prog_16_method_23_code (8 : Nat) (Option.some Jvm.ClassFile.FieldType.int)) ∈ lw_all := lw_g (lw_at lw_m4 234 rfl) rfl
theorem q975 : (Jvm.Cond.methodLink "InitiatorRowsModel" (121 : Nat) ({ cls := "InitiatorRowsModel", name := "mayStart", desc := "(I)Z" } : Jvm.MethodName)) ∈ lw_all := lw_g (lw_at lw_m4 235 rfl) rfl
theorem q976 : (Jvm.Cond.privateMethod ({ cls := "InitiatorRowsModel", name := "mayStart", desc := "(I)Z" } : Jvm.MethodName)) ∈ lw_tbl := lw_at lw_m4 236 rfl
theorem q977 : (Jvm.Cond.instanceMethod ({ cls := "InitiatorRowsModel", name := "mayStart", desc := "(I)Z" } : Jvm.MethodName)) ∈ lw_all := lw_g (lw_at lw_m4 237 rfl) rfl
theorem q978 : (Jvm.Cond.code ({ cls := "InitiatorRowsModel", name := "mayStart", desc := "(I)Z" } : Jvm.MethodName) prog_16_method_20_code (8 : Nat) (Option.some Jvm.ClassFile.FieldType.boolean)) ∈ lw_all := lw_g (lw_at lw_m4 238 rfl) rfl
theorem q979 : (Jvm.Cond.methodLink "InitiatorRowsModel" (102 : Nat) ({ cls := "InitiatorRowsModel", name := "isOpen", desc := "(I)Z" } : Jvm.MethodName)) ∈ lw_all := lw_g (lw_at lw_m4 239 rfl) rfl
theorem q980 : (Jvm.Cond.privateMethod ({ cls := "InitiatorRowsModel", name := "isOpen", desc := "(I)Z" } : Jvm.MethodName)) ∈ lw_tbl := lw_at lw_m5 0 rfl
theorem q981 : (Jvm.Cond.instanceMethod ({ cls := "InitiatorRowsModel", name := "isOpen", desc := "(I)Z" } : Jvm.MethodName)) ∈ lw_all := lw_g (lw_at lw_m5 1 rfl) rfl
theorem q982 : (Jvm.Cond.code ({ cls := "InitiatorRowsModel", name := "isOpen", desc := "(I)Z" } : Jvm.MethodName) prog_16_method_18_code (3 : Nat) (Option.some Jvm.ClassFile.FieldType.boolean)) ∈ lw_all := lw_g (lw_at lw_m5 2 rfl) rfl
theorem q983 : (Jvm.Cond.constantLong "InitiatorRowsModel" (100 : Nat) (1440 : Int64)) ∈ lw_all := lw_g (lw_at lw_m5 3 rfl) rfl
theorem q984 : (Jvm.Cond.methodLink "InitiatorRowsModel" (105 : Nat) ({ cls := "InitiatorRowsModel", name := "used", desc := "(I)I" } : Jvm.MethodName)) ∈ lw_all := lw_g (lw_at lw_m5 4 rfl) rfl
theorem q985 : (Jvm.Cond.privateMethod ({ cls := "InitiatorRowsModel", name := "used", desc := "(I)I" } : Jvm.MethodName)) ∈ lw_tbl := lw_at lw_m5 5 rfl
theorem q986 : (Jvm.Cond.instanceMethod ({ cls := "InitiatorRowsModel", name := "used", desc := "(I)I" } : Jvm.MethodName)) ∈ lw_all := lw_g (lw_at lw_m5 6 rfl) rfl
theorem q987 : (Jvm.Cond.code ({ cls := "InitiatorRowsModel", name := "used", desc := "(I)I" } : Jvm.MethodName) prog_16_method_19_code (4 : Nat) (Option.some Jvm.ClassFile.FieldType.int)) ∈ lw_all := lw_g (lw_at lw_m5 7 rfl) rfl
theorem q988 : (Jvm.Cond.methodLink "InitiatorRowsModel" (124 : Nat) ({ cls := "InitiatorRowsModel", name := "isAhead", desc := "(II)Z" } : Jvm.MethodName)) ∈ lw_all := lw_g (lw_at lw_m5 8 rfl) rfl
theorem q989 : (Jvm.Cond.privateMethod ({ cls := "InitiatorRowsModel", name := "isAhead", desc := "(II)Z" } : Jvm.MethodName)) ∈ lw_tbl := lw_at lw_m5 9 rfl
theorem q990 : (Jvm.Cond.instanceMethod ({ cls := "InitiatorRowsModel", name := "isAhead", desc := "(II)Z" } : Jvm.MethodName)) ∈ lw_all := lw_g (lw_at lw_m5 10 rfl) rfl
theorem q991 : (Jvm.Cond.code ({ cls := "InitiatorRowsModel", name := "isAhead", desc := "(II)Z" } : Jvm.MethodName) prog_16_method_22_code (7 : Nat) (Option.some Jvm.ClassFile.FieldType.boolean)) ∈ lw_all := lw_g (lw_at lw_m5 11 rfl) rfl
theorem q992 : (Jvm.Cond.methodLink "InitiatorRowsModel" (117 : Nat) ({ cls := "InitiatorRowsModel", name := "priority", desc := "(I)J" } : Jvm.MethodName)) ∈ lw_all := lw_g (lw_at lw_m5 12 rfl) rfl
theorem q993 : (Jvm.Cond.privateMethod ({ cls := "InitiatorRowsModel", name := "priority", desc := "(I)J" } : Jvm.MethodName)) ∈ lw_tbl := lw_at lw_m5 13 rfl
theorem q994 : (Jvm.Cond.instanceMethod ({ cls := "InitiatorRowsModel", name := "priority", desc := "(I)J" } : Jvm.MethodName)) ∈ lw_all := lw_g (lw_at lw_m5 14 rfl) rfl
theorem q995 : (Jvm.Cond.code ({ cls := "InitiatorRowsModel", name := "priority", desc := "(I)J" } : Jvm.MethodName) prog_16_method_21_code (10 : Nat) (Option.some Jvm.ClassFile.FieldType.long)) ∈ lw_all := lw_g (lw_at lw_m5 15 rfl) rfl
theorem q996 : (Jvm.Cond.constantLong "InitiatorRowsModel" (112 : Nat) (15 : Int64)) ∈ lw_all := lw_g (lw_at lw_m5 16 rfl) rfl
theorem q998 : (Jvm.Cond.instanceMethod ({ cls := "InitiatorRowsModel", name := "end", desc := "(I)I" } : Jvm.MethodName)) ∈ lw_all := lw_g (lw_at lw_m5 18 rfl) rfl
theorem q999 : (Jvm.Cond.selects "InitiatorRowsModel" ({ cls := "InitiatorRowsModel", name := "end", desc := "(I)I" } : Jvm.MethodName) ({ cls := "InitiatorRowsModel", name := "end", desc := "(I)I" } : Jvm.MethodName)) ∈ lw_all := lw_g (lw_at lw_m5 19 rfl) rfl
theorem q1000 : (Jvm.Cond.code ({ cls := "InitiatorRowsModel", name := "end", desc := "(I)I" } : Jvm.MethodName) prog_16_method_24_code (3 : Nat) (Option.some Jvm.ClassFile.FieldType.int)) ∈ lw_all := lw_g (lw_at lw_m5 20 rfl) rfl
theorem q1002 : (Jvm.Cond.instanceMethod ({ cls := "InitiatorRowsModel", name := "age", desc := "(JI)I" } : Jvm.MethodName)) ∈ lw_all := lw_g (lw_at lw_m5 22 rfl) rfl
theorem q1003 : (Jvm.Cond.selects "InitiatorRowsModel" ({ cls := "InitiatorRowsModel", name := "age", desc := "(JI)I" } : Jvm.MethodName) ({ cls := "InitiatorRowsModel", name := "age", desc := "(JI)I" } : Jvm.MethodName)) ∈ lw_all := lw_g (lw_at lw_m5 23 rfl) rfl
theorem q1004 : (Jvm.Cond.code ({ cls := "InitiatorRowsModel", name := "age", desc := "(JI)I" } : Jvm.MethodName) prog_16_method_25_code (4 : Nat) (Option.some Jvm.ClassFile.FieldType.int)) ∈ lw_all := lw_g (lw_at lw_m5 24 rfl) rfl
theorem q1006 : (Jvm.Cond.instanceMethod ({ cls := "InitiatorRowsModel", name := "drain", desc := "(IZ)I" } : Jvm.MethodName)) ∈ lw_all := lw_g (lw_at lw_m5 26 rfl) rfl
theorem q1007 : (Jvm.Cond.selects "InitiatorRowsModel" ({ cls := "InitiatorRowsModel", name := "drain", desc := "(IZ)I" } : Jvm.MethodName) ({ cls := "InitiatorRowsModel", name := "drain", desc := "(IZ)I" } : Jvm.MethodName)) ∈ lw_all := lw_g (lw_at lw_m5 27 rfl) rfl
theorem q1008 : (Jvm.Cond.code ({ cls := "InitiatorRowsModel", name := "drain", desc := "(IZ)I" } : Jvm.MethodName) prog_16_method_26_code (4 : Nat) (Option.some Jvm.ClassFile.FieldType.int)) ∈ lw_all := lw_g (lw_at lw_m5 28 rfl) rfl
theorem q1010 : (Jvm.Cond.instanceMethod ({ cls := "InitiatorRowsModel", name := "weight", desc := "(II)I" } : Jvm.MethodName)) ∈ lw_all := lw_g (lw_at lw_m5 30 rfl) rfl
theorem q1011 : (Jvm.Cond.selects "InitiatorRowsModel" ({ cls := "InitiatorRowsModel", name := "weight", desc := "(II)I" } : Jvm.MethodName) ({ cls := "InitiatorRowsModel", name := "weight", desc := "(II)I" } : Jvm.MethodName)) ∈ lw_all := lw_g (lw_at lw_m5 31 rfl) rfl
theorem q1012 : (Jvm.Cond.code ({ cls := "InitiatorRowsModel", name := "weight", desc := "(II)I" } : Jvm.MethodName) prog_16_method_27_code (3 : Nat) (Option.some Jvm.ClassFile.FieldType.int)) ∈ lw_all := lw_g (lw_at lw_m5 32 rfl) rfl
theorem q1014 : (Jvm.Cond.instanceMethod ({ cls := "InitiatorRowsModel", name := "share", desc := "(IJ)J" } : Jvm.MethodName)) ∈ lw_all := lw_g (lw_at lw_m5 34 rfl) rfl
theorem q1015 : (Jvm.Cond.selects "InitiatorRowsModel" ({ cls := "InitiatorRowsModel", name := "share", desc := "(IJ)J" } : Jvm.MethodName) ({ cls := "InitiatorRowsModel", name := "share", desc := "(IJ)J" } : Jvm.MethodName)) ∈ lw_all := lw_g (lw_at lw_m5 35 rfl) rfl
theorem q1016 : (Jvm.Cond.code ({ cls := "InitiatorRowsModel", name := "share", desc := "(IJ)J" } : Jvm.MethodName) prog_16_method_28_code (18 : Nat) (Option.some Jvm.ClassFile.FieldType.long)) ∈ lw_all := lw_g (lw_at lw_m5 36 rfl) rfl
theorem q1017 : (Jvm.Cond.constantLong "InitiatorRowsModel" (127 : Nat) (-1 : Int64)) ∈ lw_all := lw_g (lw_at lw_m5 37 rfl) rfl
theorem q1019 : (Jvm.Cond.instanceMethod ({ cls := "InitiatorRowsModel", name := "order", desc := "(I)I" } : Jvm.MethodName)) ∈ lw_all := lw_g (lw_at lw_m5 39 rfl) rfl
theorem q1020 : (Jvm.Cond.selects "InitiatorRowsModel" ({ cls := "InitiatorRowsModel", name := "order", desc := "(I)I" } : Jvm.MethodName) ({ cls := "InitiatorRowsModel", name := "order", desc := "(I)I" } : Jvm.MethodName)) ∈ lw_all := lw_g (lw_at lw_m5 40 rfl) rfl
theorem q1021 : (Jvm.Cond.code ({ cls := "InitiatorRowsModel", name := "order", desc := "(I)I" } : Jvm.MethodName) prog_16_method_29_code (5 : Nat) (Option.some Jvm.ClassFile.FieldType.int)) ∈ lw_all := lw_g (lw_at lw_m5 41 rfl) rfl
theorem q1023 : (Jvm.Cond.instanceMethod ({ cls := "InitiatorRowsModel", name := "waited", desc := "(I)J" } : Jvm.MethodName)) ∈ lw_all := lw_g (lw_at lw_m5 43 rfl) rfl
theorem q1024 : (Jvm.Cond.selects "InitiatorRowsModel" ({ cls := "InitiatorRowsModel", name := "waited", desc := "(I)J" } : Jvm.MethodName) ({ cls := "InitiatorRowsModel", name := "waited", desc := "(I)J" } : Jvm.MethodName)) ∈ lw_all := lw_g (lw_at lw_m5 44 rfl) rfl
theorem q1025 : (Jvm.Cond.code ({ cls := "InitiatorRowsModel", name := "waited", desc := "(I)J" } : Jvm.MethodName) prog_16_method_30_code (2 : Nat) (Option.some Jvm.ClassFile.FieldType.long)) ∈ lw_all := lw_g (lw_at lw_m5 45 rfl) rfl
theorem q1027 : (Jvm.Cond.instanceMethod ({ cls := "InitiatorRowsModel", name := "state", desc := "(I)I" } : Jvm.MethodName)) ∈ lw_all := lw_g (lw_at lw_m5 47 rfl) rfl
theorem q1028 : (Jvm.Cond.selects "InitiatorRowsModel" ({ cls := "InitiatorRowsModel", name := "state", desc := "(I)I" } : Jvm.MethodName) ({ cls := "InitiatorRowsModel", name := "state", desc := "(I)I" } : Jvm.MethodName)) ∈ lw_all := lw_g (lw_at lw_m5 48 rfl) rfl
theorem q1029 : (Jvm.Cond.code ({ cls := "InitiatorRowsModel", name := "state", desc := "(I)I" } : Jvm.MethodName) prog_16_method_31_code (2 : Nat) (Option.some Jvm.ClassFile.FieldType.int)) ∈ lw_all := lw_g (lw_at lw_m5 49 rfl) rfl
theorem q1031 : (Jvm.Cond.instanceMethod ({ cls := "InitiatorRowsModel", name := "count", desc := "(I)I" } : Jvm.MethodName)) ∈ lw_all := lw_g (lw_at lw_m5 51 rfl) rfl
theorem q1032 : (Jvm.Cond.selects "InitiatorRowsModel" ({ cls := "InitiatorRowsModel", name := "count", desc := "(I)I" } : Jvm.MethodName) ({ cls := "InitiatorRowsModel", name := "count", desc := "(I)I" } : Jvm.MethodName)) ∈ lw_all := lw_g (lw_at lw_m5 52 rfl) rfl
theorem q1033 : (Jvm.Cond.code ({ cls := "InitiatorRowsModel", name := "count", desc := "(I)I" } : Jvm.MethodName) prog_16_method_33_code (4 : Nat) (Option.some Jvm.ClassFile.FieldType.int)) ∈ lw_all := lw_g (lw_at lw_m5 53 rfl) rfl
theorem q1034 : (Jvm.Cond.methodLink "InitiatorRowsModel" (129 : Nat) ({ cls := "InitiatorRowsModel", name := "those", desc := "(IZ)I" } : Jvm.MethodName)) ∈ lw_all := lw_g (lw_at lw_m5 54 rfl) rfl
theorem q1035 : (Jvm.Cond.privateMethod ({ cls := "InitiatorRowsModel", name := "those", desc := "(IZ)I" } : Jvm.MethodName)) ∈ lw_tbl := lw_at lw_m5 55 rfl
theorem q1036 : (Jvm.Cond.instanceMethod ({ cls := "InitiatorRowsModel", name := "those", desc := "(IZ)I" } : Jvm.MethodName)) ∈ lw_all := lw_g (lw_at lw_m5 56 rfl) rfl
theorem q1037 : (Jvm.Cond.code ({ cls := "InitiatorRowsModel", name := "those", desc := "(IZ)I" } : Jvm.MethodName) prog_16_method_32_code (5 : Nat) (Option.some Jvm.ClassFile.FieldType.int)) ∈ lw_all := lw_g (lw_at lw_m5 57 rfl) rfl
theorem q1052 : (Jvm.Cond.castable "InitiatorRowsModel" "java/lang/Object") ∈ lw_tbl := lw_at lw_m5 72 rfl
theorem in_X11 : ∀ w ∈ wsX110, w ∈ lw_all := lw_in wsX110 [857, 859, 861, 863, 865, 867, 869, 871, 873, 875, 877, 879, 881, 883, 885, 887, 889, 891, 893, 895, 897, 899, 901, 903, 905] (by decide +kernel) (by decide +kernel)
/-! the law's own entry -/
set_option maxRecDepth 100000
abbrev cL_law : ByteArray := code
def dkwL_law_41 : List UInt8 := [167, 252, 13, 4, 172]
abbrev dktL_law_41 : List UInt8 := dkwL_law_41 ++ []
def dkwL_law_40 : List UInt8 := [46, 182, 0, 111, 44, 42, 21, 4, 4, 96, 46, 182, 0, 114, 159, 0, 5, 3, 172, 132, 4, 6]
abbrev dktL_law_40 : List UInt8 := dkwL_law_40 ++ dktL_law_41
def dkwL_law_39 : List UInt8 := [182, 0, 107, 44, 42, 21, 4, 4, 96, 46, 182, 0, 110, 159, 0, 30, 3, 172, 43, 42, 21, 4, 4, 96]
abbrev dktL_law_39 : List UInt8 := dkwL_law_39 ++ dktL_law_40
def dkwL_law_38 : List UInt8 := [42, 21, 4, 4, 96, 46, 182, 0, 106, 148, 153, 0, 55, 3, 172, 43, 42, 21, 4, 4, 96, 46]
abbrev dktL_law_38 : List UInt8 := dkwL_law_38 ++ dktL_law_39
def dkwL_law_37 : List UInt8 := [21, 4, 4, 96, 46, 182, 0, 101, 159, 0, 81, 3, 172, 43, 42, 21, 4, 4, 96, 46, 182, 0, 102, 44]
abbrev dktL_law_37 : List UInt8 := dkwL_law_37 ++ dktL_law_38
def dkwL_law_36 : List UInt8 := [22, 6, 148, 153, 0, 5, 3, 172, 167, 0, 104, 43, 42, 21, 4, 4, 96, 46, 182, 0, 98, 44, 42]
abbrev dktL_law_36 : List UInt8 := dkwL_law_36 ++ dktL_law_37
def dkwL_law_35 : List UInt8 := [182, 0, 94, 55, 6, 44, 182, 0, 95, 21, 5, 159, 0, 5, 3, 172, 21, 5, 154, 0, 14, 45, 3, 47]
abbrev dktL_law_35 : List UInt8 := dkwL_law_35 ++ dktL_law_36
def dkwL_law_34 : List UInt8 := [42, 21, 4, 5, 96, 46, 133, 16, 32, 121, 42, 21, 4, 6, 96, 46, 133, 20, 0, 38, 127, 129]
abbrev dktL_law_34 : List UInt8 := dkwL_law_34 ++ dktL_law_35
def dkwL_law_33 : List UInt8 := [21, 4, 6, 96, 46, 133, 20, 0, 38, 127, 129, 45, 184, 0, 89, 54, 5, 44, 42, 21, 4, 4, 96, 46]
abbrev dktL_law_33 : List UInt8 := dkwL_law_33 ++ dktL_law_34
def dkwL_law_32 : List UInt8 := [159, 0, 205, 3, 172, 43, 42, 21, 4, 4, 96, 46, 42, 21, 4, 5, 96, 46, 133, 16, 32, 121, 42]
abbrev dktL_law_32 : List UInt8 := dkwL_law_32 ++ dktL_law_33
def dkwL_law_31 : List UInt8 := [21, 4, 5, 96, 46, 182, 0, 85, 44, 42, 21, 4, 4, 96, 46, 42, 21, 4, 5, 96, 46, 182, 0, 88]
abbrev dktL_law_31 : List UInt8 := dkwL_law_31 ++ dktL_law_32
def dkwL_law_30 : List UInt8 := [153, 0, 7, 4, 167, 0, 4, 3, 182, 0, 84, 159, 0, 242, 3, 172, 43, 42, 21, 4, 4, 96, 46, 42]
abbrev dktL_law_30 : List UInt8 := dkwL_law_30 ++ dktL_law_31
def dkwL_law_29 : List UInt8 := [153, 0, 7, 4, 167, 0, 4, 3, 182, 0, 81, 44, 42, 21, 4, 4, 96, 46, 42, 21, 4, 5, 96, 46]
abbrev dktL_law_29 : List UInt8 := dkwL_law_29 ++ dktL_law_30
def dkwL_law_28 : List UInt8 := [6, 96, 46, 182, 0, 80, 159, 1, 39, 3, 172, 43, 42, 21, 4, 4, 96, 46, 42, 21, 4, 5, 96, 46]
abbrev dktL_law_28 : List UInt8 := dkwL_law_28 ++ dktL_law_29
def dkwL_law_27 : List UInt8 := [21, 4, 4, 96, 46, 133, 16, 32, 121, 42, 21, 4, 5, 96, 46, 133, 20, 0, 38, 127, 129, 42, 21, 4]
abbrev dktL_law_27 : List UInt8 := dkwL_law_27 ++ dktL_law_28
def dkwL_law_26 : List UInt8 := [121, 42, 21, 4, 5, 96, 46, 133, 20, 0, 38, 127, 129, 42, 21, 4, 6, 96, 46, 182, 0, 76, 44, 42]
abbrev dktL_law_26 : List UInt8 := dkwL_law_26 ++ dktL_law_27
def dkwL_law_25 : List UInt8 := [42, 21, 4, 4, 96, 46, 182, 0, 75, 159, 1, 108, 3, 172, 43, 42, 21, 4, 4, 96, 46, 133, 16, 32]
abbrev dktL_law_25 : List UInt8 := dkwL_law_25 ++ dktL_law_26
def dkwL_law_24 : List UInt8 := [20, 0, 38, 127, 129, 182, 0, 71, 159, 1, 133, 3, 172, 43, 42, 21, 4, 4, 96, 46, 182, 0, 72, 44]
abbrev dktL_law_24 : List UInt8 := dkwL_law_24 ++ dktL_law_25
def dkwL_law_23 : List UInt8 := [44, 42, 21, 4, 4, 96, 46, 42, 21, 4, 5, 96, 46, 133, 16, 32, 121, 42, 21, 4, 6, 96, 46, 133]
abbrev dktL_law_23 : List UInt8 := dkwL_law_23 ++ dktL_law_24
def dkwL_law_22 : List UInt8 := [21, 4, 5, 96, 46, 133, 16, 32, 121, 42, 21, 4, 6, 96, 46, 133, 20, 0, 38, 127, 129, 182, 0, 67]
abbrev dktL_law_22 : List UInt8 := dkwL_law_22 ++ dktL_law_23
def dkwL_law_21 : List UInt8 := [153, 0, 7, 4, 167, 0, 4, 3, 182, 0, 66, 159, 1, 202, 3, 172, 43, 42, 21, 4, 4, 96, 46, 42]
abbrev dktL_law_21 : List UInt8 := dkwL_law_21 ++ dktL_law_22
def dkwL_law_20 : List UInt8 := [153, 0, 7, 4, 167, 0, 4, 3, 182, 0, 62, 44, 42, 21, 4, 4, 96, 46, 42, 21, 4, 5, 96, 46]
abbrev dktL_law_20 : List UInt8 := dkwL_law_20 ++ dktL_law_21
def dkwL_law_19 : List UInt8 := [96, 46, 182, 0, 61, 159, 1, 255, 3, 172, 43, 42, 21, 4, 4, 96, 46, 42, 21, 4, 5, 96, 46]
abbrev dktL_law_19 : List UInt8 := dkwL_law_19 ++ dktL_law_20
def dkwL_law_18 : List UInt8 := [46, 182, 0, 56, 159, 2, 24, 3, 172, 43, 42, 21, 4, 4, 96, 46, 182, 0, 57, 44, 42, 21, 4, 4]
abbrev dktL_law_18 : List UInt8 := dkwL_law_18 ++ dktL_law_19
def dkwL_law_17 : List UInt8 := [6, 96, 46, 182, 0, 53, 44, 42, 21, 4, 4, 96, 46, 42, 21, 4, 5, 96, 46, 42, 21, 4, 6, 96]
abbrev dktL_law_17 : List UInt8 := dkwL_law_17 ++ dktL_law_18
def dkwL_law_16 : List UInt8 := [182, 0, 52, 159, 2, 73, 3, 172, 43, 42, 21, 4, 4, 96, 46, 42, 21, 4, 5, 96, 46, 42, 21, 4]
abbrev dktL_law_16 : List UInt8 := dkwL_law_16 ++ dktL_law_17
def dkwL_law_15 : List UInt8 := [96, 46, 42, 21, 4, 5, 96, 46, 182, 0, 49, 44, 42, 21, 4, 4, 96, 46, 42, 21, 4, 5, 96, 46]
abbrev dktL_law_15 : List UInt8 := dkwL_law_15 ++ dktL_law_16
def dkwL_law_14 : List UInt8 := [21, 4, 4, 96, 46, 42, 21, 4, 5, 96, 46, 182, 0, 48, 159, 2, 110, 3, 172, 43, 42, 21, 4, 4]
abbrev dktL_law_14 : List UInt8 := dkwL_law_14 ++ dktL_law_15
def dkwL_law_13 : List UInt8 := [159, 2, 147, 3, 172, 43, 42, 21, 4, 4, 96, 46, 42, 21, 4, 5, 96, 46, 182, 0, 45, 44, 42]
abbrev dktL_law_13 : List UInt8 := dkwL_law_13 ++ dktL_law_14
def dkwL_law_12 : List UInt8 := [21, 4, 7, 96, 46, 133, 16, 32, 121, 42, 21, 4, 8, 96, 46, 133, 20, 0, 38, 127, 129, 182, 0, 44]
abbrev dktL_law_12 : List UInt8 := dkwL_law_12 ++ dktL_law_13
def dkwL_law_11 : List UInt8 := [129, 182, 0, 40, 44, 42, 21, 4, 4, 96, 46, 42, 21, 4, 5, 96, 46, 42, 21, 4, 6, 96, 46, 42]
abbrev dktL_law_11 : List UInt8 := dkwL_law_11 ++ dktL_law_12
def dkwL_law_10 : List UInt8 := [6, 96, 46, 42, 21, 4, 7, 96, 46, 133, 16, 32, 121, 42, 21, 4, 8, 96, 46, 133, 20, 0, 38, 127]
abbrev dktL_law_10 : List UInt8 := dkwL_law_10 ++ dktL_law_11
def dkwL_law_9 : List UInt8 := [182, 0, 37, 159, 2, 240, 3, 172, 43, 42, 21, 4, 4, 96, 46, 42, 21, 4, 5, 96, 46, 42, 21, 4]
abbrev dktL_law_9 : List UInt8 := dkwL_law_9 ++ dktL_law_10
def dkwL_law_8 : List UInt8 := [182, 0, 34, 44, 42, 21, 4, 4, 96, 46, 42, 21, 4, 5, 96, 46, 42, 21, 4, 6, 96, 46]
abbrev dktL_law_8 : List UInt8 := dkwL_law_8 ++ dktL_law_9
def dkwL_law_7 : List UInt8 := [159, 3, 33, 3, 172, 43, 42, 21, 4, 4, 96, 46, 42, 21, 4, 5, 96, 46, 42, 21, 4, 6, 96, 46]
abbrev dktL_law_7 : List UInt8 := dkwL_law_7 ++ dktL_law_8
def dkwL_law_6 : List UInt8 := [5, 96, 46, 182, 0, 29, 44, 42, 21, 4, 4, 96, 46, 42, 21, 4, 5, 96, 46, 182, 0, 33]
abbrev dktL_law_6 : List UInt8 := dkwL_law_6 ++ dktL_law_7
def dkwL_law_5 : List UInt8 := [42, 21, 4, 6, 96, 46, 182, 0, 28, 159, 3, 70, 3, 172, 43, 42, 21, 4, 4, 96, 46, 42, 21, 4]
abbrev dktL_law_5 : List UInt8 := dkwL_law_5 ++ dktL_law_6
def dkwL_law_4 : List UInt8 := [96, 46, 42, 21, 4, 6, 96, 46, 182, 0, 24, 44, 42, 21, 4, 4, 96, 46, 42, 21, 4, 5, 96, 46]
abbrev dktL_law_4 : List UInt8 := dkwL_law_4 ++ dktL_law_5
def dkwL_law_3 : List UInt8 := [43, 182, 0, 19, 44, 182, 0, 23, 159, 3, 119, 3, 172, 43, 42, 21, 4, 4, 96, 46, 42, 21, 4, 5]
abbrev dktL_law_3 : List UInt8 := dkwL_law_3 ++ dktL_law_4
def dkwL_law_2 : List UInt8 := [170, 0, 0, 0, 0, 0, 3, 223, 0, 0, 0, 0, 0, 0, 0, 19, 0, 0, 0, 96, 0, 0, 0, 109, 0, 0, 0, 158, 0, 0, 0, 195, 0, 0, 0, 244, 0, 0, 1, 81, 0, 0, 1, 118, 0, 0, 1, 155, 0, 0, 1, 204, 0, 0, 1, 229, 0, 0, 2, 26, 0, 0, 2, 95, 0, 0, 2, 120, 0, 0, 2, 189, 0, 0, 2, 242, 0, 0, 3, 23, 0, 0, 3, 122, 0, 0, 3, 147, 0, 0, 3, 173, 0, 0, 3, 198]
abbrev dktL_law_2 : List UInt8 := dkwL_law_2 ++ dktL_law_3
def dkwL_law_1 : List UInt8 := [21, 4, 42, 190, 16, 6, 100, 163, 3, 239, 42, 21, 4, 46, 16, 31, 126]
abbrev dktL_law_1 : List UInt8 := dkwL_law_1 ++ dktL_law_2
def dkwL_law_0 : List UInt8 := [187, 0, 8, 89, 183, 0, 15, 76, 187, 0, 16, 89, 183, 0, 18, 77, 4, 188, 11, 78, 3, 54, 4]
abbrev dktL_law_0 : List UInt8 := dkwL_law_0 ++ dktL_law_1
theorem dksL_law_0 : cL_law.data.toList.drop 0 = dktL_law_0 := by decide +kernel
theorem dksL_law_1 : cL_law.data.toList.drop 23 = dktL_law_1 := dk_seg dksL_law_0 23 rfl rfl
theorem dksL_law_2 : cL_law.data.toList.drop 40 = dktL_law_2 := dk_seg dksL_law_1 17 rfl rfl
theorem dksL_law_3 : cL_law.data.toList.drop 136 = dktL_law_3 := dk_seg dksL_law_2 96 rfl rfl
theorem dksL_law_4 : cL_law.data.toList.drop 160 = dktL_law_4 := dk_seg dksL_law_3 24 rfl rfl
theorem dksL_law_5 : cL_law.data.toList.drop 184 = dktL_law_5 := dk_seg dksL_law_4 24 rfl rfl
theorem dksL_law_6 : cL_law.data.toList.drop 208 = dktL_law_6 := dk_seg dksL_law_5 24 rfl rfl
theorem dksL_law_7 : cL_law.data.toList.drop 230 = dktL_law_7 := dk_seg dksL_law_6 22 rfl rfl
theorem dksL_law_8 : cL_law.data.toList.drop 254 = dktL_law_8 := dk_seg dksL_law_7 24 rfl rfl
theorem dksL_law_9 : cL_law.data.toList.drop 276 = dktL_law_9 := dk_seg dksL_law_8 22 rfl rfl
theorem dksL_law_10 : cL_law.data.toList.drop 300 = dktL_law_10 := dk_seg dksL_law_9 24 rfl rfl
theorem dksL_law_11 : cL_law.data.toList.drop 324 = dktL_law_11 := dk_seg dksL_law_10 24 rfl rfl
theorem dksL_law_12 : cL_law.data.toList.drop 348 = dktL_law_12 := dk_seg dksL_law_11 24 rfl rfl
theorem dksL_law_13 : cL_law.data.toList.drop 372 = dktL_law_13 := dk_seg dksL_law_12 24 rfl rfl
theorem dksL_law_14 : cL_law.data.toList.drop 395 = dktL_law_14 := dk_seg dksL_law_13 23 rfl rfl
theorem dksL_law_15 : cL_law.data.toList.drop 419 = dktL_law_15 := dk_seg dksL_law_14 24 rfl rfl
theorem dksL_law_16 : cL_law.data.toList.drop 443 = dktL_law_16 := dk_seg dksL_law_15 24 rfl rfl
theorem dksL_law_17 : cL_law.data.toList.drop 467 = dktL_law_17 := dk_seg dksL_law_16 24 rfl rfl
theorem dksL_law_18 : cL_law.data.toList.drop 491 = dktL_law_18 := dk_seg dksL_law_17 24 rfl rfl
theorem dksL_law_19 : cL_law.data.toList.drop 515 = dktL_law_19 := dk_seg dksL_law_18 24 rfl rfl
theorem dksL_law_20 : cL_law.data.toList.drop 538 = dktL_law_20 := dk_seg dksL_law_19 23 rfl rfl
theorem dksL_law_21 : cL_law.data.toList.drop 562 = dktL_law_21 := dk_seg dksL_law_20 24 rfl rfl
theorem dksL_law_22 : cL_law.data.toList.drop 586 = dktL_law_22 := dk_seg dksL_law_21 24 rfl rfl
theorem dksL_law_23 : cL_law.data.toList.drop 610 = dktL_law_23 := dk_seg dksL_law_22 24 rfl rfl
theorem dksL_law_24 : cL_law.data.toList.drop 634 = dktL_law_24 := dk_seg dksL_law_23 24 rfl rfl
theorem dksL_law_25 : cL_law.data.toList.drop 658 = dktL_law_25 := dk_seg dksL_law_24 24 rfl rfl
theorem dksL_law_26 : cL_law.data.toList.drop 682 = dktL_law_26 := dk_seg dksL_law_25 24 rfl rfl
theorem dksL_law_27 : cL_law.data.toList.drop 706 = dktL_law_27 := dk_seg dksL_law_26 24 rfl rfl
theorem dksL_law_28 : cL_law.data.toList.drop 730 = dktL_law_28 := dk_seg dksL_law_27 24 rfl rfl
theorem dksL_law_29 : cL_law.data.toList.drop 754 = dktL_law_29 := dk_seg dksL_law_28 24 rfl rfl
theorem dksL_law_30 : cL_law.data.toList.drop 778 = dktL_law_30 := dk_seg dksL_law_29 24 rfl rfl
theorem dksL_law_31 : cL_law.data.toList.drop 802 = dktL_law_31 := dk_seg dksL_law_30 24 rfl rfl
theorem dksL_law_32 : cL_law.data.toList.drop 826 = dktL_law_32 := dk_seg dksL_law_31 24 rfl rfl
theorem dksL_law_33 : cL_law.data.toList.drop 849 = dktL_law_33 := dk_seg dksL_law_32 23 rfl rfl
theorem dksL_law_34 : cL_law.data.toList.drop 873 = dktL_law_34 := dk_seg dksL_law_33 24 rfl rfl
theorem dksL_law_35 : cL_law.data.toList.drop 895 = dktL_law_35 := dk_seg dksL_law_34 22 rfl rfl
theorem dksL_law_36 : cL_law.data.toList.drop 919 = dktL_law_36 := dk_seg dksL_law_35 24 rfl rfl
theorem dksL_law_37 : cL_law.data.toList.drop 942 = dktL_law_37 := dk_seg dksL_law_36 23 rfl rfl
theorem dksL_law_38 : cL_law.data.toList.drop 966 = dktL_law_38 := dk_seg dksL_law_37 24 rfl rfl
theorem dksL_law_39 : cL_law.data.toList.drop 988 = dktL_law_39 := dk_seg dksL_law_38 22 rfl rfl
theorem dksL_law_40 : cL_law.data.toList.drop 1012 = dktL_law_40 := dk_seg dksL_law_39 24 rfl rfl
theorem dksL_law_41 : cL_law.data.toList.drop 1034 = dktL_law_41 := dk_seg dksL_law_40 22 rfl rfl
theorem dL_law_0 : decode cL_law 0 = .ok (.new 8, 3) := dk_187 0 8 (dk_at dksL_law_0 0 rfl rfl)
theorem dL_law_3 : decode cL_law 3 = .ok (.dup, 1) := dk_89 (dk_at dksL_law_0 3 rfl rfl)
theorem dL_law_4 : decode cL_law 4 = .ok (.invokespecial 15, 3) := dk_183 0 15 (dk_at dksL_law_0 4 rfl rfl)
theorem dL_law_7 : decode cL_law 7 = .ok (.astore_n 1, 1) := dk_76 (dk_at dksL_law_0 7 rfl rfl)
theorem dL_law_8 : decode cL_law 8 = .ok (.new 16, 3) := dk_187 0 16 (dk_at dksL_law_0 8 rfl rfl)
theorem dL_law_11 : decode cL_law 11 = .ok (.dup, 1) := dk_89 (dk_at dksL_law_0 11 rfl rfl)
theorem dL_law_12 : decode cL_law 12 = .ok (.invokespecial 18, 3) := dk_183 0 18 (dk_at dksL_law_0 12 rfl rfl)
theorem dL_law_15 : decode cL_law 15 = .ok (.astore_n 2, 1) := dk_77 (dk_at dksL_law_0 15 rfl rfl)
theorem dL_law_16 : decode cL_law 16 = .ok (.iconst 1, 1) := dk_4 (dk_at dksL_law_0 16 rfl rfl)
theorem dL_law_17 : decode cL_law 17 = .ok (.newarray .long, 2) := dk_188_11 (dk_at dksL_law_0 17 rfl rfl)
theorem dL_law_19 : decode cL_law 19 = .ok (.astore_n 3, 1) := dk_78 (dk_at dksL_law_0 19 rfl rfl)
theorem dL_law_20 : decode cL_law 20 = .ok (.iconst 0, 1) := dk_3 (dk_at dksL_law_0 20 rfl rfl)
theorem dL_law_21 : decode cL_law 21 = .ok (.istore 4, 2) := dk_54 4 (dk_at dksL_law_0 21 rfl rfl)
theorem dL_law_23 : decode cL_law 23 = .ok (.iload 4, 2) := dk_21 4 (dk_at dksL_law_1 0 rfl rfl)
theorem dL_law_25 : decode cL_law 25 = .ok (.aload_n 0, 1) := dk_42 (dk_at dksL_law_1 2 rfl rfl)
theorem dL_law_26 : decode cL_law 26 = .ok (.arraylength, 1) := dk_190 (dk_at dksL_law_1 3 rfl rfl)
theorem dL_law_27 : decode cL_law 27 = .ok (.bipush 6, 2) := dk_16 6 (dk_at dksL_law_1 4 rfl rfl)
theorem dL_law_29 : decode cL_law 29 = .ok (.isub, 1) := dk_100 (dk_at dksL_law_1 6 rfl rfl)
theorem dL_law_30 : decode cL_law 30 = .ok (.if_icmp .gt 1007, 3) := dk_163 3 239 (dk_at dksL_law_1 7 rfl rfl)
theorem dL_law_33 : decode cL_law 33 = .ok (.aload_n 0, 1) := dk_42 (dk_at dksL_law_1 10 rfl rfl)
theorem dL_law_34 : decode cL_law 34 = .ok (.iload 4, 2) := dk_21 4 (dk_at dksL_law_1 11 rfl rfl)
theorem dL_law_36 : decode cL_law 36 = .ok (.iaload, 1) := dk_46 (dk_at dksL_law_1 13 rfl rfl)
theorem dL_law_37 : decode cL_law 37 = .ok (.bipush 31, 2) := dk_16 31 (dk_at dksL_law_1 14 rfl rfl)
theorem dL_law_39 : decode cL_law 39 = .ok (.iand, 1) := dk_126 (dk_at dksL_law_1 16 rfl rfl)
theorem dL_law_40 : decode cL_law 40 = .ok (.tableswitch 991 0 19 #[96, 109, 158, 195, 244, 337, 374, 411, 460, 485, 538, 607, 632, 701, 754, 791, 890, 915, 941, 966], 96) := by decide +kernel
theorem dL_law_136 : decode cL_law 136 = .ok (.aload_n 1, 1) := dk_43 (dk_at dksL_law_3 0 rfl rfl)
theorem dL_law_137 : decode cL_law 137 = .ok (.invokevirtual 19, 3) := dk_182 0 19 (dk_at dksL_law_3 1 rfl rfl)
theorem dL_law_140 : decode cL_law 140 = .ok (.aload_n 2, 1) := dk_44 (dk_at dksL_law_3 4 rfl rfl)
theorem dL_law_141 : decode cL_law 141 = .ok (.invokevirtual 23, 3) := dk_182 0 23 (dk_at dksL_law_3 5 rfl rfl)
theorem dL_law_144 : decode cL_law 144 = .ok (.if_icmp .eq 887, 3) := dk_159 3 119 (dk_at dksL_law_3 8 rfl rfl)
theorem dL_law_147 : decode cL_law 147 = .ok (.iconst 0, 1) := dk_3 (dk_at dksL_law_3 11 rfl rfl)
theorem dL_law_148 : decode cL_law 148 = .ok (.ireturn, 1) := dk_172 (dk_at dksL_law_3 12 rfl rfl)
theorem dL_law_149 : decode cL_law 149 = .ok (.aload_n 1, 1) := dk_43 (dk_at dksL_law_3 13 rfl rfl)
theorem dL_law_150 : decode cL_law 150 = .ok (.aload_n 0, 1) := dk_42 (dk_at dksL_law_3 14 rfl rfl)
theorem dL_law_151 : decode cL_law 151 = .ok (.iload 4, 2) := dk_21 4 (dk_at dksL_law_3 15 rfl rfl)
theorem dL_law_153 : decode cL_law 153 = .ok (.iconst 1, 1) := dk_4 (dk_at dksL_law_3 17 rfl rfl)
theorem dL_law_154 : decode cL_law 154 = .ok (.iadd, 1) := dk_96 (dk_at dksL_law_3 18 rfl rfl)
theorem dL_law_155 : decode cL_law 155 = .ok (.iaload, 1) := dk_46 (dk_at dksL_law_3 19 rfl rfl)
theorem dL_law_156 : decode cL_law 156 = .ok (.aload_n 0, 1) := dk_42 (dk_at dksL_law_3 20 rfl rfl)
theorem dL_law_157 : decode cL_law 157 = .ok (.iload 4, 2) := dk_21 4 (dk_at dksL_law_3 21 rfl rfl)
theorem dL_law_159 : decode cL_law 159 = .ok (.iconst 2, 1) := dk_5 (dk_at dksL_law_3 23 rfl rfl)
theorem dL_law_160 : decode cL_law 160 = .ok (.iadd, 1) := dk_96 (dk_at dksL_law_4 0 rfl rfl)
theorem dL_law_161 : decode cL_law 161 = .ok (.iaload, 1) := dk_46 (dk_at dksL_law_4 1 rfl rfl)
theorem dL_law_162 : decode cL_law 162 = .ok (.aload_n 0, 1) := dk_42 (dk_at dksL_law_4 2 rfl rfl)
theorem dL_law_163 : decode cL_law 163 = .ok (.iload 4, 2) := dk_21 4 (dk_at dksL_law_4 3 rfl rfl)
theorem dL_law_165 : decode cL_law 165 = .ok (.iconst 3, 1) := dk_6 (dk_at dksL_law_4 5 rfl rfl)
theorem dL_law_166 : decode cL_law 166 = .ok (.iadd, 1) := dk_96 (dk_at dksL_law_4 6 rfl rfl)
theorem dL_law_167 : decode cL_law 167 = .ok (.iaload, 1) := dk_46 (dk_at dksL_law_4 7 rfl rfl)
theorem dL_law_168 : decode cL_law 168 = .ok (.invokevirtual 24, 3) := dk_182 0 24 (dk_at dksL_law_4 8 rfl rfl)
theorem dL_law_171 : decode cL_law 171 = .ok (.aload_n 2, 1) := dk_44 (dk_at dksL_law_4 11 rfl rfl)
theorem dL_law_172 : decode cL_law 172 = .ok (.aload_n 0, 1) := dk_42 (dk_at dksL_law_4 12 rfl rfl)
theorem dL_law_173 : decode cL_law 173 = .ok (.iload 4, 2) := dk_21 4 (dk_at dksL_law_4 13 rfl rfl)
theorem dL_law_175 : decode cL_law 175 = .ok (.iconst 1, 1) := dk_4 (dk_at dksL_law_4 15 rfl rfl)
theorem dL_law_176 : decode cL_law 176 = .ok (.iadd, 1) := dk_96 (dk_at dksL_law_4 16 rfl rfl)
theorem dL_law_177 : decode cL_law 177 = .ok (.iaload, 1) := dk_46 (dk_at dksL_law_4 17 rfl rfl)
theorem dL_law_178 : decode cL_law 178 = .ok (.aload_n 0, 1) := dk_42 (dk_at dksL_law_4 18 rfl rfl)
theorem dL_law_179 : decode cL_law 179 = .ok (.iload 4, 2) := dk_21 4 (dk_at dksL_law_4 19 rfl rfl)
theorem dL_law_181 : decode cL_law 181 = .ok (.iconst 2, 1) := dk_5 (dk_at dksL_law_4 21 rfl rfl)
theorem dL_law_182 : decode cL_law 182 = .ok (.iadd, 1) := dk_96 (dk_at dksL_law_4 22 rfl rfl)
theorem dL_law_183 : decode cL_law 183 = .ok (.iaload, 1) := dk_46 (dk_at dksL_law_4 23 rfl rfl)
theorem dL_law_184 : decode cL_law 184 = .ok (.aload_n 0, 1) := dk_42 (dk_at dksL_law_5 0 rfl rfl)
theorem dL_law_185 : decode cL_law 185 = .ok (.iload 4, 2) := dk_21 4 (dk_at dksL_law_5 1 rfl rfl)
theorem dL_law_187 : decode cL_law 187 = .ok (.iconst 3, 1) := dk_6 (dk_at dksL_law_5 3 rfl rfl)
theorem dL_law_188 : decode cL_law 188 = .ok (.iadd, 1) := dk_96 (dk_at dksL_law_5 4 rfl rfl)
theorem dL_law_189 : decode cL_law 189 = .ok (.iaload, 1) := dk_46 (dk_at dksL_law_5 5 rfl rfl)
theorem dL_law_190 : decode cL_law 190 = .ok (.invokevirtual 28, 3) := dk_182 0 28 (dk_at dksL_law_5 6 rfl rfl)
theorem dL_law_193 : decode cL_law 193 = .ok (.if_icmp .eq 838, 3) := dk_159 3 70 (dk_at dksL_law_5 9 rfl rfl)
theorem dL_law_196 : decode cL_law 196 = .ok (.iconst 0, 1) := dk_3 (dk_at dksL_law_5 12 rfl rfl)
theorem dL_law_197 : decode cL_law 197 = .ok (.ireturn, 1) := dk_172 (dk_at dksL_law_5 13 rfl rfl)
theorem dL_law_198 : decode cL_law 198 = .ok (.aload_n 1, 1) := dk_43 (dk_at dksL_law_5 14 rfl rfl)
theorem dL_law_199 : decode cL_law 199 = .ok (.aload_n 0, 1) := dk_42 (dk_at dksL_law_5 15 rfl rfl)
theorem dL_law_200 : decode cL_law 200 = .ok (.iload 4, 2) := dk_21 4 (dk_at dksL_law_5 16 rfl rfl)
theorem dL_law_202 : decode cL_law 202 = .ok (.iconst 1, 1) := dk_4 (dk_at dksL_law_5 18 rfl rfl)
theorem dL_law_203 : decode cL_law 203 = .ok (.iadd, 1) := dk_96 (dk_at dksL_law_5 19 rfl rfl)
theorem dL_law_204 : decode cL_law 204 = .ok (.iaload, 1) := dk_46 (dk_at dksL_law_5 20 rfl rfl)
theorem dL_law_205 : decode cL_law 205 = .ok (.aload_n 0, 1) := dk_42 (dk_at dksL_law_5 21 rfl rfl)
theorem dL_law_206 : decode cL_law 206 = .ok (.iload 4, 2) := dk_21 4 (dk_at dksL_law_5 22 rfl rfl)
theorem dL_law_208 : decode cL_law 208 = .ok (.iconst 2, 1) := dk_5 (dk_at dksL_law_6 0 rfl rfl)
theorem dL_law_209 : decode cL_law 209 = .ok (.iadd, 1) := dk_96 (dk_at dksL_law_6 1 rfl rfl)
theorem dL_law_210 : decode cL_law 210 = .ok (.iaload, 1) := dk_46 (dk_at dksL_law_6 2 rfl rfl)
theorem dL_law_211 : decode cL_law 211 = .ok (.invokevirtual 29, 3) := dk_182 0 29 (dk_at dksL_law_6 3 rfl rfl)
theorem dL_law_214 : decode cL_law 214 = .ok (.aload_n 2, 1) := dk_44 (dk_at dksL_law_6 6 rfl rfl)
theorem dL_law_215 : decode cL_law 215 = .ok (.aload_n 0, 1) := dk_42 (dk_at dksL_law_6 7 rfl rfl)
theorem dL_law_216 : decode cL_law 216 = .ok (.iload 4, 2) := dk_21 4 (dk_at dksL_law_6 8 rfl rfl)
theorem dL_law_218 : decode cL_law 218 = .ok (.iconst 1, 1) := dk_4 (dk_at dksL_law_6 10 rfl rfl)
theorem dL_law_219 : decode cL_law 219 = .ok (.iadd, 1) := dk_96 (dk_at dksL_law_6 11 rfl rfl)
theorem dL_law_220 : decode cL_law 220 = .ok (.iaload, 1) := dk_46 (dk_at dksL_law_6 12 rfl rfl)
theorem dL_law_221 : decode cL_law 221 = .ok (.aload_n 0, 1) := dk_42 (dk_at dksL_law_6 13 rfl rfl)
theorem dL_law_222 : decode cL_law 222 = .ok (.iload 4, 2) := dk_21 4 (dk_at dksL_law_6 14 rfl rfl)
theorem dL_law_224 : decode cL_law 224 = .ok (.iconst 2, 1) := dk_5 (dk_at dksL_law_6 16 rfl rfl)
theorem dL_law_225 : decode cL_law 225 = .ok (.iadd, 1) := dk_96 (dk_at dksL_law_6 17 rfl rfl)
theorem dL_law_226 : decode cL_law 226 = .ok (.iaload, 1) := dk_46 (dk_at dksL_law_6 18 rfl rfl)
theorem dL_law_227 : decode cL_law 227 = .ok (.invokevirtual 33, 3) := dk_182 0 33 (dk_at dksL_law_6 19 rfl rfl)
theorem dL_law_230 : decode cL_law 230 = .ok (.if_icmp .eq 801, 3) := dk_159 3 33 (dk_at dksL_law_7 0 rfl rfl)
theorem dL_law_233 : decode cL_law 233 = .ok (.iconst 0, 1) := dk_3 (dk_at dksL_law_7 3 rfl rfl)
theorem dL_law_234 : decode cL_law 234 = .ok (.ireturn, 1) := dk_172 (dk_at dksL_law_7 4 rfl rfl)
theorem dL_law_235 : decode cL_law 235 = .ok (.aload_n 1, 1) := dk_43 (dk_at dksL_law_7 5 rfl rfl)
theorem dL_law_236 : decode cL_law 236 = .ok (.aload_n 0, 1) := dk_42 (dk_at dksL_law_7 6 rfl rfl)
theorem dL_law_237 : decode cL_law 237 = .ok (.iload 4, 2) := dk_21 4 (dk_at dksL_law_7 7 rfl rfl)
theorem dL_law_239 : decode cL_law 239 = .ok (.iconst 1, 1) := dk_4 (dk_at dksL_law_7 9 rfl rfl)
theorem dL_law_240 : decode cL_law 240 = .ok (.iadd, 1) := dk_96 (dk_at dksL_law_7 10 rfl rfl)
theorem dL_law_241 : decode cL_law 241 = .ok (.iaload, 1) := dk_46 (dk_at dksL_law_7 11 rfl rfl)
theorem dL_law_242 : decode cL_law 242 = .ok (.aload_n 0, 1) := dk_42 (dk_at dksL_law_7 12 rfl rfl)
theorem dL_law_243 : decode cL_law 243 = .ok (.iload 4, 2) := dk_21 4 (dk_at dksL_law_7 13 rfl rfl)
theorem dL_law_245 : decode cL_law 245 = .ok (.iconst 2, 1) := dk_5 (dk_at dksL_law_7 15 rfl rfl)
theorem dL_law_246 : decode cL_law 246 = .ok (.iadd, 1) := dk_96 (dk_at dksL_law_7 16 rfl rfl)
theorem dL_law_247 : decode cL_law 247 = .ok (.iaload, 1) := dk_46 (dk_at dksL_law_7 17 rfl rfl)
theorem dL_law_248 : decode cL_law 248 = .ok (.aload_n 0, 1) := dk_42 (dk_at dksL_law_7 18 rfl rfl)
theorem dL_law_249 : decode cL_law 249 = .ok (.iload 4, 2) := dk_21 4 (dk_at dksL_law_7 19 rfl rfl)
theorem dL_law_251 : decode cL_law 251 = .ok (.iconst 3, 1) := dk_6 (dk_at dksL_law_7 21 rfl rfl)
theorem dL_law_252 : decode cL_law 252 = .ok (.iadd, 1) := dk_96 (dk_at dksL_law_7 22 rfl rfl)
theorem dL_law_253 : decode cL_law 253 = .ok (.iaload, 1) := dk_46 (dk_at dksL_law_7 23 rfl rfl)
theorem dL_law_254 : decode cL_law 254 = .ok (.invokevirtual 34, 3) := dk_182 0 34 (dk_at dksL_law_8 0 rfl rfl)
theorem dL_law_257 : decode cL_law 257 = .ok (.aload_n 2, 1) := dk_44 (dk_at dksL_law_8 3 rfl rfl)
theorem dL_law_258 : decode cL_law 258 = .ok (.aload_n 0, 1) := dk_42 (dk_at dksL_law_8 4 rfl rfl)
theorem dL_law_259 : decode cL_law 259 = .ok (.iload 4, 2) := dk_21 4 (dk_at dksL_law_8 5 rfl rfl)
theorem dL_law_261 : decode cL_law 261 = .ok (.iconst 1, 1) := dk_4 (dk_at dksL_law_8 7 rfl rfl)
theorem dL_law_262 : decode cL_law 262 = .ok (.iadd, 1) := dk_96 (dk_at dksL_law_8 8 rfl rfl)
theorem dL_law_263 : decode cL_law 263 = .ok (.iaload, 1) := dk_46 (dk_at dksL_law_8 9 rfl rfl)
theorem dL_law_264 : decode cL_law 264 = .ok (.aload_n 0, 1) := dk_42 (dk_at dksL_law_8 10 rfl rfl)
theorem dL_law_265 : decode cL_law 265 = .ok (.iload 4, 2) := dk_21 4 (dk_at dksL_law_8 11 rfl rfl)
theorem dL_law_267 : decode cL_law 267 = .ok (.iconst 2, 1) := dk_5 (dk_at dksL_law_8 13 rfl rfl)
theorem dL_law_268 : decode cL_law 268 = .ok (.iadd, 1) := dk_96 (dk_at dksL_law_8 14 rfl rfl)
theorem dL_law_269 : decode cL_law 269 = .ok (.iaload, 1) := dk_46 (dk_at dksL_law_8 15 rfl rfl)
theorem dL_law_270 : decode cL_law 270 = .ok (.aload_n 0, 1) := dk_42 (dk_at dksL_law_8 16 rfl rfl)
theorem dL_law_271 : decode cL_law 271 = .ok (.iload 4, 2) := dk_21 4 (dk_at dksL_law_8 17 rfl rfl)
theorem dL_law_273 : decode cL_law 273 = .ok (.iconst 3, 1) := dk_6 (dk_at dksL_law_8 19 rfl rfl)
theorem dL_law_274 : decode cL_law 274 = .ok (.iadd, 1) := dk_96 (dk_at dksL_law_8 20 rfl rfl)
theorem dL_law_275 : decode cL_law 275 = .ok (.iaload, 1) := dk_46 (dk_at dksL_law_8 21 rfl rfl)
theorem dL_law_276 : decode cL_law 276 = .ok (.invokevirtual 37, 3) := dk_182 0 37 (dk_at dksL_law_9 0 rfl rfl)
theorem dL_law_279 : decode cL_law 279 = .ok (.if_icmp .eq 752, 3) := dk_159 2 240 (dk_at dksL_law_9 3 rfl rfl)
theorem dL_law_282 : decode cL_law 282 = .ok (.iconst 0, 1) := dk_3 (dk_at dksL_law_9 6 rfl rfl)
theorem dL_law_283 : decode cL_law 283 = .ok (.ireturn, 1) := dk_172 (dk_at dksL_law_9 7 rfl rfl)
theorem dL_law_284 : decode cL_law 284 = .ok (.aload_n 1, 1) := dk_43 (dk_at dksL_law_9 8 rfl rfl)
theorem dL_law_285 : decode cL_law 285 = .ok (.aload_n 0, 1) := dk_42 (dk_at dksL_law_9 9 rfl rfl)
theorem dL_law_286 : decode cL_law 286 = .ok (.iload 4, 2) := dk_21 4 (dk_at dksL_law_9 10 rfl rfl)
theorem dL_law_288 : decode cL_law 288 = .ok (.iconst 1, 1) := dk_4 (dk_at dksL_law_9 12 rfl rfl)
theorem dL_law_289 : decode cL_law 289 = .ok (.iadd, 1) := dk_96 (dk_at dksL_law_9 13 rfl rfl)
theorem dL_law_290 : decode cL_law 290 = .ok (.iaload, 1) := dk_46 (dk_at dksL_law_9 14 rfl rfl)
theorem dL_law_291 : decode cL_law 291 = .ok (.aload_n 0, 1) := dk_42 (dk_at dksL_law_9 15 rfl rfl)
theorem dL_law_292 : decode cL_law 292 = .ok (.iload 4, 2) := dk_21 4 (dk_at dksL_law_9 16 rfl rfl)
theorem dL_law_294 : decode cL_law 294 = .ok (.iconst 2, 1) := dk_5 (dk_at dksL_law_9 18 rfl rfl)
theorem dL_law_295 : decode cL_law 295 = .ok (.iadd, 1) := dk_96 (dk_at dksL_law_9 19 rfl rfl)
theorem dL_law_296 : decode cL_law 296 = .ok (.iaload, 1) := dk_46 (dk_at dksL_law_9 20 rfl rfl)
theorem dL_law_297 : decode cL_law 297 = .ok (.aload_n 0, 1) := dk_42 (dk_at dksL_law_9 21 rfl rfl)
theorem dL_law_298 : decode cL_law 298 = .ok (.iload 4, 2) := dk_21 4 (dk_at dksL_law_9 22 rfl rfl)
theorem dL_law_300 : decode cL_law 300 = .ok (.iconst 3, 1) := dk_6 (dk_at dksL_law_10 0 rfl rfl)
theorem dL_law_301 : decode cL_law 301 = .ok (.iadd, 1) := dk_96 (dk_at dksL_law_10 1 rfl rfl)
theorem dL_law_302 : decode cL_law 302 = .ok (.iaload, 1) := dk_46 (dk_at dksL_law_10 2 rfl rfl)
theorem dL_law_303 : decode cL_law 303 = .ok (.aload_n 0, 1) := dk_42 (dk_at dksL_law_10 3 rfl rfl)
theorem dL_law_304 : decode cL_law 304 = .ok (.iload 4, 2) := dk_21 4 (dk_at dksL_law_10 4 rfl rfl)
theorem dL_law_306 : decode cL_law 306 = .ok (.iconst 4, 1) := dk_7 (dk_at dksL_law_10 6 rfl rfl)
theorem dL_law_307 : decode cL_law 307 = .ok (.iadd, 1) := dk_96 (dk_at dksL_law_10 7 rfl rfl)
theorem dL_law_308 : decode cL_law 308 = .ok (.iaload, 1) := dk_46 (dk_at dksL_law_10 8 rfl rfl)
theorem dL_law_309 : decode cL_law 309 = .ok (.i2l, 1) := dk_133 (dk_at dksL_law_10 9 rfl rfl)
theorem dL_law_310 : decode cL_law 310 = .ok (.bipush 32, 2) := dk_16 32 (dk_at dksL_law_10 10 rfl rfl)
theorem dL_law_312 : decode cL_law 312 = .ok (.lshl, 1) := dk_121 (dk_at dksL_law_10 12 rfl rfl)
theorem dL_law_313 : decode cL_law 313 = .ok (.aload_n 0, 1) := dk_42 (dk_at dksL_law_10 13 rfl rfl)
theorem dL_law_314 : decode cL_law 314 = .ok (.iload 4, 2) := dk_21 4 (dk_at dksL_law_10 14 rfl rfl)
theorem dL_law_316 : decode cL_law 316 = .ok (.iconst 5, 1) := dk_8 (dk_at dksL_law_10 16 rfl rfl)
theorem dL_law_317 : decode cL_law 317 = .ok (.iadd, 1) := dk_96 (dk_at dksL_law_10 17 rfl rfl)
theorem dL_law_318 : decode cL_law 318 = .ok (.iaload, 1) := dk_46 (dk_at dksL_law_10 18 rfl rfl)
theorem dL_law_319 : decode cL_law 319 = .ok (.i2l, 1) := dk_133 (dk_at dksL_law_10 19 rfl rfl)
theorem dL_law_320 : decode cL_law 320 = .ok (.ldc2_w 38, 3) := dk_20 0 38 (dk_at dksL_law_10 20 rfl rfl)
theorem dL_law_323 : decode cL_law 323 = .ok (.land, 1) := dk_127 (dk_at dksL_law_10 23 rfl rfl)
theorem dL_law_324 : decode cL_law 324 = .ok (.lor, 1) := dk_129 (dk_at dksL_law_11 0 rfl rfl)
theorem dL_law_325 : decode cL_law 325 = .ok (.invokevirtual 40, 3) := dk_182 0 40 (dk_at dksL_law_11 1 rfl rfl)
theorem dL_law_328 : decode cL_law 328 = .ok (.aload_n 2, 1) := dk_44 (dk_at dksL_law_11 4 rfl rfl)
theorem dL_law_329 : decode cL_law 329 = .ok (.aload_n 0, 1) := dk_42 (dk_at dksL_law_11 5 rfl rfl)
theorem dL_law_330 : decode cL_law 330 = .ok (.iload 4, 2) := dk_21 4 (dk_at dksL_law_11 6 rfl rfl)
theorem dL_law_332 : decode cL_law 332 = .ok (.iconst 1, 1) := dk_4 (dk_at dksL_law_11 8 rfl rfl)
theorem dL_law_333 : decode cL_law 333 = .ok (.iadd, 1) := dk_96 (dk_at dksL_law_11 9 rfl rfl)
theorem dL_law_334 : decode cL_law 334 = .ok (.iaload, 1) := dk_46 (dk_at dksL_law_11 10 rfl rfl)
theorem dL_law_335 : decode cL_law 335 = .ok (.aload_n 0, 1) := dk_42 (dk_at dksL_law_11 11 rfl rfl)
theorem dL_law_336 : decode cL_law 336 = .ok (.iload 4, 2) := dk_21 4 (dk_at dksL_law_11 12 rfl rfl)
theorem dL_law_338 : decode cL_law 338 = .ok (.iconst 2, 1) := dk_5 (dk_at dksL_law_11 14 rfl rfl)
theorem dL_law_339 : decode cL_law 339 = .ok (.iadd, 1) := dk_96 (dk_at dksL_law_11 15 rfl rfl)
theorem dL_law_340 : decode cL_law 340 = .ok (.iaload, 1) := dk_46 (dk_at dksL_law_11 16 rfl rfl)
theorem dL_law_341 : decode cL_law 341 = .ok (.aload_n 0, 1) := dk_42 (dk_at dksL_law_11 17 rfl rfl)
theorem dL_law_342 : decode cL_law 342 = .ok (.iload 4, 2) := dk_21 4 (dk_at dksL_law_11 18 rfl rfl)
theorem dL_law_344 : decode cL_law 344 = .ok (.iconst 3, 1) := dk_6 (dk_at dksL_law_11 20 rfl rfl)
theorem dL_law_345 : decode cL_law 345 = .ok (.iadd, 1) := dk_96 (dk_at dksL_law_11 21 rfl rfl)
theorem dL_law_346 : decode cL_law 346 = .ok (.iaload, 1) := dk_46 (dk_at dksL_law_11 22 rfl rfl)
theorem dL_law_347 : decode cL_law 347 = .ok (.aload_n 0, 1) := dk_42 (dk_at dksL_law_11 23 rfl rfl)
theorem dL_law_348 : decode cL_law 348 = .ok (.iload 4, 2) := dk_21 4 (dk_at dksL_law_12 0 rfl rfl)
theorem dL_law_350 : decode cL_law 350 = .ok (.iconst 4, 1) := dk_7 (dk_at dksL_law_12 2 rfl rfl)
theorem dL_law_351 : decode cL_law 351 = .ok (.iadd, 1) := dk_96 (dk_at dksL_law_12 3 rfl rfl)
theorem dL_law_352 : decode cL_law 352 = .ok (.iaload, 1) := dk_46 (dk_at dksL_law_12 4 rfl rfl)
theorem dL_law_353 : decode cL_law 353 = .ok (.i2l, 1) := dk_133 (dk_at dksL_law_12 5 rfl rfl)
theorem dL_law_354 : decode cL_law 354 = .ok (.bipush 32, 2) := dk_16 32 (dk_at dksL_law_12 6 rfl rfl)
theorem dL_law_356 : decode cL_law 356 = .ok (.lshl, 1) := dk_121 (dk_at dksL_law_12 8 rfl rfl)
theorem dL_law_357 : decode cL_law 357 = .ok (.aload_n 0, 1) := dk_42 (dk_at dksL_law_12 9 rfl rfl)
theorem dL_law_358 : decode cL_law 358 = .ok (.iload 4, 2) := dk_21 4 (dk_at dksL_law_12 10 rfl rfl)
theorem dL_law_360 : decode cL_law 360 = .ok (.iconst 5, 1) := dk_8 (dk_at dksL_law_12 12 rfl rfl)
theorem dL_law_361 : decode cL_law 361 = .ok (.iadd, 1) := dk_96 (dk_at dksL_law_12 13 rfl rfl)
theorem dL_law_362 : decode cL_law 362 = .ok (.iaload, 1) := dk_46 (dk_at dksL_law_12 14 rfl rfl)
theorem dL_law_363 : decode cL_law 363 = .ok (.i2l, 1) := dk_133 (dk_at dksL_law_12 15 rfl rfl)
theorem dL_law_364 : decode cL_law 364 = .ok (.ldc2_w 38, 3) := dk_20 0 38 (dk_at dksL_law_12 16 rfl rfl)
theorem dL_law_367 : decode cL_law 367 = .ok (.land, 1) := dk_127 (dk_at dksL_law_12 19 rfl rfl)
theorem dL_law_368 : decode cL_law 368 = .ok (.lor, 1) := dk_129 (dk_at dksL_law_12 20 rfl rfl)
theorem dL_law_369 : decode cL_law 369 = .ok (.invokevirtual 44, 3) := dk_182 0 44 (dk_at dksL_law_12 21 rfl rfl)
theorem dL_law_372 : decode cL_law 372 = .ok (.if_icmp .eq 659, 3) := dk_159 2 147 (dk_at dksL_law_13 0 rfl rfl)
theorem dL_law_375 : decode cL_law 375 = .ok (.iconst 0, 1) := dk_3 (dk_at dksL_law_13 3 rfl rfl)
theorem dL_law_376 : decode cL_law 376 = .ok (.ireturn, 1) := dk_172 (dk_at dksL_law_13 4 rfl rfl)
theorem dL_law_377 : decode cL_law 377 = .ok (.aload_n 1, 1) := dk_43 (dk_at dksL_law_13 5 rfl rfl)
theorem dL_law_378 : decode cL_law 378 = .ok (.aload_n 0, 1) := dk_42 (dk_at dksL_law_13 6 rfl rfl)
theorem dL_law_379 : decode cL_law 379 = .ok (.iload 4, 2) := dk_21 4 (dk_at dksL_law_13 7 rfl rfl)
theorem dL_law_381 : decode cL_law 381 = .ok (.iconst 1, 1) := dk_4 (dk_at dksL_law_13 9 rfl rfl)
theorem dL_law_382 : decode cL_law 382 = .ok (.iadd, 1) := dk_96 (dk_at dksL_law_13 10 rfl rfl)
theorem dL_law_383 : decode cL_law 383 = .ok (.iaload, 1) := dk_46 (dk_at dksL_law_13 11 rfl rfl)
theorem dL_law_384 : decode cL_law 384 = .ok (.aload_n 0, 1) := dk_42 (dk_at dksL_law_13 12 rfl rfl)
theorem dL_law_385 : decode cL_law 385 = .ok (.iload 4, 2) := dk_21 4 (dk_at dksL_law_13 13 rfl rfl)
theorem dL_law_387 : decode cL_law 387 = .ok (.iconst 2, 1) := dk_5 (dk_at dksL_law_13 15 rfl rfl)
theorem dL_law_388 : decode cL_law 388 = .ok (.iadd, 1) := dk_96 (dk_at dksL_law_13 16 rfl rfl)
theorem dL_law_389 : decode cL_law 389 = .ok (.iaload, 1) := dk_46 (dk_at dksL_law_13 17 rfl rfl)
theorem dL_law_390 : decode cL_law 390 = .ok (.invokevirtual 45, 3) := dk_182 0 45 (dk_at dksL_law_13 18 rfl rfl)
theorem dL_law_393 : decode cL_law 393 = .ok (.aload_n 2, 1) := dk_44 (dk_at dksL_law_13 21 rfl rfl)
theorem dL_law_394 : decode cL_law 394 = .ok (.aload_n 0, 1) := dk_42 (dk_at dksL_law_13 22 rfl rfl)
theorem dL_law_395 : decode cL_law 395 = .ok (.iload 4, 2) := dk_21 4 (dk_at dksL_law_14 0 rfl rfl)
theorem dL_law_397 : decode cL_law 397 = .ok (.iconst 1, 1) := dk_4 (dk_at dksL_law_14 2 rfl rfl)
theorem dL_law_398 : decode cL_law 398 = .ok (.iadd, 1) := dk_96 (dk_at dksL_law_14 3 rfl rfl)
theorem dL_law_399 : decode cL_law 399 = .ok (.iaload, 1) := dk_46 (dk_at dksL_law_14 4 rfl rfl)
theorem dL_law_400 : decode cL_law 400 = .ok (.aload_n 0, 1) := dk_42 (dk_at dksL_law_14 5 rfl rfl)
theorem dL_law_401 : decode cL_law 401 = .ok (.iload 4, 2) := dk_21 4 (dk_at dksL_law_14 6 rfl rfl)
theorem dL_law_403 : decode cL_law 403 = .ok (.iconst 2, 1) := dk_5 (dk_at dksL_law_14 8 rfl rfl)
theorem dL_law_404 : decode cL_law 404 = .ok (.iadd, 1) := dk_96 (dk_at dksL_law_14 9 rfl rfl)
theorem dL_law_405 : decode cL_law 405 = .ok (.iaload, 1) := dk_46 (dk_at dksL_law_14 10 rfl rfl)
theorem dL_law_406 : decode cL_law 406 = .ok (.invokevirtual 48, 3) := dk_182 0 48 (dk_at dksL_law_14 11 rfl rfl)
theorem dL_law_409 : decode cL_law 409 = .ok (.if_icmp .eq 622, 3) := dk_159 2 110 (dk_at dksL_law_14 14 rfl rfl)
theorem dL_law_412 : decode cL_law 412 = .ok (.iconst 0, 1) := dk_3 (dk_at dksL_law_14 17 rfl rfl)
theorem dL_law_413 : decode cL_law 413 = .ok (.ireturn, 1) := dk_172 (dk_at dksL_law_14 18 rfl rfl)
theorem dL_law_414 : decode cL_law 414 = .ok (.aload_n 1, 1) := dk_43 (dk_at dksL_law_14 19 rfl rfl)
theorem dL_law_415 : decode cL_law 415 = .ok (.aload_n 0, 1) := dk_42 (dk_at dksL_law_14 20 rfl rfl)
theorem dL_law_416 : decode cL_law 416 = .ok (.iload 4, 2) := dk_21 4 (dk_at dksL_law_14 21 rfl rfl)
theorem dL_law_418 : decode cL_law 418 = .ok (.iconst 1, 1) := dk_4 (dk_at dksL_law_14 23 rfl rfl)
theorem dL_law_419 : decode cL_law 419 = .ok (.iadd, 1) := dk_96 (dk_at dksL_law_15 0 rfl rfl)
theorem dL_law_420 : decode cL_law 420 = .ok (.iaload, 1) := dk_46 (dk_at dksL_law_15 1 rfl rfl)
theorem dL_law_421 : decode cL_law 421 = .ok (.aload_n 0, 1) := dk_42 (dk_at dksL_law_15 2 rfl rfl)
theorem dL_law_422 : decode cL_law 422 = .ok (.iload 4, 2) := dk_21 4 (dk_at dksL_law_15 3 rfl rfl)
theorem dL_law_424 : decode cL_law 424 = .ok (.iconst 2, 1) := dk_5 (dk_at dksL_law_15 5 rfl rfl)
theorem dL_law_425 : decode cL_law 425 = .ok (.iadd, 1) := dk_96 (dk_at dksL_law_15 6 rfl rfl)
theorem dL_law_426 : decode cL_law 426 = .ok (.iaload, 1) := dk_46 (dk_at dksL_law_15 7 rfl rfl)
theorem dL_law_427 : decode cL_law 427 = .ok (.invokevirtual 49, 3) := dk_182 0 49 (dk_at dksL_law_15 8 rfl rfl)
theorem dL_law_430 : decode cL_law 430 = .ok (.aload_n 2, 1) := dk_44 (dk_at dksL_law_15 11 rfl rfl)
theorem dL_law_431 : decode cL_law 431 = .ok (.aload_n 0, 1) := dk_42 (dk_at dksL_law_15 12 rfl rfl)
theorem dL_law_432 : decode cL_law 432 = .ok (.iload 4, 2) := dk_21 4 (dk_at dksL_law_15 13 rfl rfl)
theorem dL_law_434 : decode cL_law 434 = .ok (.iconst 1, 1) := dk_4 (dk_at dksL_law_15 15 rfl rfl)
theorem dL_law_435 : decode cL_law 435 = .ok (.iadd, 1) := dk_96 (dk_at dksL_law_15 16 rfl rfl)
theorem dL_law_436 : decode cL_law 436 = .ok (.iaload, 1) := dk_46 (dk_at dksL_law_15 17 rfl rfl)
theorem dL_law_437 : decode cL_law 437 = .ok (.aload_n 0, 1) := dk_42 (dk_at dksL_law_15 18 rfl rfl)
theorem dL_law_438 : decode cL_law 438 = .ok (.iload 4, 2) := dk_21 4 (dk_at dksL_law_15 19 rfl rfl)
theorem dL_law_440 : decode cL_law 440 = .ok (.iconst 2, 1) := dk_5 (dk_at dksL_law_15 21 rfl rfl)
theorem dL_law_441 : decode cL_law 441 = .ok (.iadd, 1) := dk_96 (dk_at dksL_law_15 22 rfl rfl)
theorem dL_law_442 : decode cL_law 442 = .ok (.iaload, 1) := dk_46 (dk_at dksL_law_15 23 rfl rfl)
theorem dL_law_443 : decode cL_law 443 = .ok (.invokevirtual 52, 3) := dk_182 0 52 (dk_at dksL_law_16 0 rfl rfl)
theorem dL_law_446 : decode cL_law 446 = .ok (.if_icmp .eq 585, 3) := dk_159 2 73 (dk_at dksL_law_16 3 rfl rfl)
theorem dL_law_449 : decode cL_law 449 = .ok (.iconst 0, 1) := dk_3 (dk_at dksL_law_16 6 rfl rfl)
theorem dL_law_450 : decode cL_law 450 = .ok (.ireturn, 1) := dk_172 (dk_at dksL_law_16 7 rfl rfl)
theorem dL_law_451 : decode cL_law 451 = .ok (.aload_n 1, 1) := dk_43 (dk_at dksL_law_16 8 rfl rfl)
theorem dL_law_452 : decode cL_law 452 = .ok (.aload_n 0, 1) := dk_42 (dk_at dksL_law_16 9 rfl rfl)
theorem dL_law_453 : decode cL_law 453 = .ok (.iload 4, 2) := dk_21 4 (dk_at dksL_law_16 10 rfl rfl)
theorem dL_law_455 : decode cL_law 455 = .ok (.iconst 1, 1) := dk_4 (dk_at dksL_law_16 12 rfl rfl)
theorem dL_law_456 : decode cL_law 456 = .ok (.iadd, 1) := dk_96 (dk_at dksL_law_16 13 rfl rfl)
theorem dL_law_457 : decode cL_law 457 = .ok (.iaload, 1) := dk_46 (dk_at dksL_law_16 14 rfl rfl)
theorem dL_law_458 : decode cL_law 458 = .ok (.aload_n 0, 1) := dk_42 (dk_at dksL_law_16 15 rfl rfl)
theorem dL_law_459 : decode cL_law 459 = .ok (.iload 4, 2) := dk_21 4 (dk_at dksL_law_16 16 rfl rfl)
theorem dL_law_461 : decode cL_law 461 = .ok (.iconst 2, 1) := dk_5 (dk_at dksL_law_16 18 rfl rfl)
theorem dL_law_462 : decode cL_law 462 = .ok (.iadd, 1) := dk_96 (dk_at dksL_law_16 19 rfl rfl)
theorem dL_law_463 : decode cL_law 463 = .ok (.iaload, 1) := dk_46 (dk_at dksL_law_16 20 rfl rfl)
theorem dL_law_464 : decode cL_law 464 = .ok (.aload_n 0, 1) := dk_42 (dk_at dksL_law_16 21 rfl rfl)
theorem dL_law_465 : decode cL_law 465 = .ok (.iload 4, 2) := dk_21 4 (dk_at dksL_law_16 22 rfl rfl)
theorem dL_law_467 : decode cL_law 467 = .ok (.iconst 3, 1) := dk_6 (dk_at dksL_law_17 0 rfl rfl)
theorem dL_law_468 : decode cL_law 468 = .ok (.iadd, 1) := dk_96 (dk_at dksL_law_17 1 rfl rfl)
theorem dL_law_469 : decode cL_law 469 = .ok (.iaload, 1) := dk_46 (dk_at dksL_law_17 2 rfl rfl)
theorem dL_law_470 : decode cL_law 470 = .ok (.invokevirtual 53, 3) := dk_182 0 53 (dk_at dksL_law_17 3 rfl rfl)
theorem dL_law_473 : decode cL_law 473 = .ok (.aload_n 2, 1) := dk_44 (dk_at dksL_law_17 6 rfl rfl)
theorem dL_law_474 : decode cL_law 474 = .ok (.aload_n 0, 1) := dk_42 (dk_at dksL_law_17 7 rfl rfl)
theorem dL_law_475 : decode cL_law 475 = .ok (.iload 4, 2) := dk_21 4 (dk_at dksL_law_17 8 rfl rfl)
theorem dL_law_477 : decode cL_law 477 = .ok (.iconst 1, 1) := dk_4 (dk_at dksL_law_17 10 rfl rfl)
theorem dL_law_478 : decode cL_law 478 = .ok (.iadd, 1) := dk_96 (dk_at dksL_law_17 11 rfl rfl)
theorem dL_law_479 : decode cL_law 479 = .ok (.iaload, 1) := dk_46 (dk_at dksL_law_17 12 rfl rfl)
theorem dL_law_480 : decode cL_law 480 = .ok (.aload_n 0, 1) := dk_42 (dk_at dksL_law_17 13 rfl rfl)
theorem dL_law_481 : decode cL_law 481 = .ok (.iload 4, 2) := dk_21 4 (dk_at dksL_law_17 14 rfl rfl)
theorem dL_law_483 : decode cL_law 483 = .ok (.iconst 2, 1) := dk_5 (dk_at dksL_law_17 16 rfl rfl)
theorem dL_law_484 : decode cL_law 484 = .ok (.iadd, 1) := dk_96 (dk_at dksL_law_17 17 rfl rfl)
theorem dL_law_485 : decode cL_law 485 = .ok (.iaload, 1) := dk_46 (dk_at dksL_law_17 18 rfl rfl)
theorem dL_law_486 : decode cL_law 486 = .ok (.aload_n 0, 1) := dk_42 (dk_at dksL_law_17 19 rfl rfl)
theorem dL_law_487 : decode cL_law 487 = .ok (.iload 4, 2) := dk_21 4 (dk_at dksL_law_17 20 rfl rfl)
theorem dL_law_489 : decode cL_law 489 = .ok (.iconst 3, 1) := dk_6 (dk_at dksL_law_17 22 rfl rfl)
theorem dL_law_490 : decode cL_law 490 = .ok (.iadd, 1) := dk_96 (dk_at dksL_law_17 23 rfl rfl)
theorem dL_law_491 : decode cL_law 491 = .ok (.iaload, 1) := dk_46 (dk_at dksL_law_18 0 rfl rfl)
theorem dL_law_492 : decode cL_law 492 = .ok (.invokevirtual 56, 3) := dk_182 0 56 (dk_at dksL_law_18 1 rfl rfl)
theorem dL_law_495 : decode cL_law 495 = .ok (.if_icmp .eq 536, 3) := dk_159 2 24 (dk_at dksL_law_18 4 rfl rfl)
theorem dL_law_498 : decode cL_law 498 = .ok (.iconst 0, 1) := dk_3 (dk_at dksL_law_18 7 rfl rfl)
theorem dL_law_499 : decode cL_law 499 = .ok (.ireturn, 1) := dk_172 (dk_at dksL_law_18 8 rfl rfl)
theorem dL_law_500 : decode cL_law 500 = .ok (.aload_n 1, 1) := dk_43 (dk_at dksL_law_18 9 rfl rfl)
theorem dL_law_501 : decode cL_law 501 = .ok (.aload_n 0, 1) := dk_42 (dk_at dksL_law_18 10 rfl rfl)
theorem dL_law_502 : decode cL_law 502 = .ok (.iload 4, 2) := dk_21 4 (dk_at dksL_law_18 11 rfl rfl)
theorem dL_law_504 : decode cL_law 504 = .ok (.iconst 1, 1) := dk_4 (dk_at dksL_law_18 13 rfl rfl)
theorem dL_law_505 : decode cL_law 505 = .ok (.iadd, 1) := dk_96 (dk_at dksL_law_18 14 rfl rfl)
theorem dL_law_506 : decode cL_law 506 = .ok (.iaload, 1) := dk_46 (dk_at dksL_law_18 15 rfl rfl)
theorem dL_law_507 : decode cL_law 507 = .ok (.invokevirtual 57, 3) := dk_182 0 57 (dk_at dksL_law_18 16 rfl rfl)
theorem dL_law_510 : decode cL_law 510 = .ok (.aload_n 2, 1) := dk_44 (dk_at dksL_law_18 19 rfl rfl)
theorem dL_law_511 : decode cL_law 511 = .ok (.aload_n 0, 1) := dk_42 (dk_at dksL_law_18 20 rfl rfl)
theorem dL_law_512 : decode cL_law 512 = .ok (.iload 4, 2) := dk_21 4 (dk_at dksL_law_18 21 rfl rfl)
theorem dL_law_514 : decode cL_law 514 = .ok (.iconst 1, 1) := dk_4 (dk_at dksL_law_18 23 rfl rfl)
theorem dL_law_515 : decode cL_law 515 = .ok (.iadd, 1) := dk_96 (dk_at dksL_law_19 0 rfl rfl)
theorem dL_law_516 : decode cL_law 516 = .ok (.iaload, 1) := dk_46 (dk_at dksL_law_19 1 rfl rfl)
theorem dL_law_517 : decode cL_law 517 = .ok (.invokevirtual 61, 3) := dk_182 0 61 (dk_at dksL_law_19 2 rfl rfl)
theorem dL_law_520 : decode cL_law 520 = .ok (.if_icmp .eq 511, 3) := dk_159 1 255 (dk_at dksL_law_19 5 rfl rfl)
theorem dL_law_523 : decode cL_law 523 = .ok (.iconst 0, 1) := dk_3 (dk_at dksL_law_19 8 rfl rfl)
theorem dL_law_524 : decode cL_law 524 = .ok (.ireturn, 1) := dk_172 (dk_at dksL_law_19 9 rfl rfl)
theorem dL_law_525 : decode cL_law 525 = .ok (.aload_n 1, 1) := dk_43 (dk_at dksL_law_19 10 rfl rfl)
theorem dL_law_526 : decode cL_law 526 = .ok (.aload_n 0, 1) := dk_42 (dk_at dksL_law_19 11 rfl rfl)
theorem dL_law_527 : decode cL_law 527 = .ok (.iload 4, 2) := dk_21 4 (dk_at dksL_law_19 12 rfl rfl)
theorem dL_law_529 : decode cL_law 529 = .ok (.iconst 1, 1) := dk_4 (dk_at dksL_law_19 14 rfl rfl)
theorem dL_law_530 : decode cL_law 530 = .ok (.iadd, 1) := dk_96 (dk_at dksL_law_19 15 rfl rfl)
theorem dL_law_531 : decode cL_law 531 = .ok (.iaload, 1) := dk_46 (dk_at dksL_law_19 16 rfl rfl)
theorem dL_law_532 : decode cL_law 532 = .ok (.aload_n 0, 1) := dk_42 (dk_at dksL_law_19 17 rfl rfl)
theorem dL_law_533 : decode cL_law 533 = .ok (.iload 4, 2) := dk_21 4 (dk_at dksL_law_19 18 rfl rfl)
theorem dL_law_535 : decode cL_law 535 = .ok (.iconst 2, 1) := dk_5 (dk_at dksL_law_19 20 rfl rfl)
theorem dL_law_536 : decode cL_law 536 = .ok (.iadd, 1) := dk_96 (dk_at dksL_law_19 21 rfl rfl)
theorem dL_law_537 : decode cL_law 537 = .ok (.iaload, 1) := dk_46 (dk_at dksL_law_19 22 rfl rfl)
theorem dL_law_538 : decode cL_law 538 = .ok (.ifCond .eq 7, 3) := dk_153 0 7 (dk_at dksL_law_20 0 rfl rfl)
theorem dL_law_541 : decode cL_law 541 = .ok (.iconst 1, 1) := dk_4 (dk_at dksL_law_20 3 rfl rfl)
theorem dL_law_542 : decode cL_law 542 = .ok (.goto 4, 3) := dk_167 0 4 (dk_at dksL_law_20 4 rfl rfl)
theorem dL_law_545 : decode cL_law 545 = .ok (.iconst 0, 1) := dk_3 (dk_at dksL_law_20 7 rfl rfl)
theorem dL_law_546 : decode cL_law 546 = .ok (.invokevirtual 62, 3) := dk_182 0 62 (dk_at dksL_law_20 8 rfl rfl)
theorem dL_law_549 : decode cL_law 549 = .ok (.aload_n 2, 1) := dk_44 (dk_at dksL_law_20 11 rfl rfl)
theorem dL_law_550 : decode cL_law 550 = .ok (.aload_n 0, 1) := dk_42 (dk_at dksL_law_20 12 rfl rfl)
theorem dL_law_551 : decode cL_law 551 = .ok (.iload 4, 2) := dk_21 4 (dk_at dksL_law_20 13 rfl rfl)
theorem dL_law_553 : decode cL_law 553 = .ok (.iconst 1, 1) := dk_4 (dk_at dksL_law_20 15 rfl rfl)
theorem dL_law_554 : decode cL_law 554 = .ok (.iadd, 1) := dk_96 (dk_at dksL_law_20 16 rfl rfl)
theorem dL_law_555 : decode cL_law 555 = .ok (.iaload, 1) := dk_46 (dk_at dksL_law_20 17 rfl rfl)
theorem dL_law_556 : decode cL_law 556 = .ok (.aload_n 0, 1) := dk_42 (dk_at dksL_law_20 18 rfl rfl)
theorem dL_law_557 : decode cL_law 557 = .ok (.iload 4, 2) := dk_21 4 (dk_at dksL_law_20 19 rfl rfl)
theorem dL_law_559 : decode cL_law 559 = .ok (.iconst 2, 1) := dk_5 (dk_at dksL_law_20 21 rfl rfl)
theorem dL_law_560 : decode cL_law 560 = .ok (.iadd, 1) := dk_96 (dk_at dksL_law_20 22 rfl rfl)
theorem dL_law_561 : decode cL_law 561 = .ok (.iaload, 1) := dk_46 (dk_at dksL_law_20 23 rfl rfl)
theorem dL_law_562 : decode cL_law 562 = .ok (.ifCond .eq 7, 3) := dk_153 0 7 (dk_at dksL_law_21 0 rfl rfl)
theorem dL_law_565 : decode cL_law 565 = .ok (.iconst 1, 1) := dk_4 (dk_at dksL_law_21 3 rfl rfl)
theorem dL_law_566 : decode cL_law 566 = .ok (.goto 4, 3) := dk_167 0 4 (dk_at dksL_law_21 4 rfl rfl)
theorem dL_law_569 : decode cL_law 569 = .ok (.iconst 0, 1) := dk_3 (dk_at dksL_law_21 7 rfl rfl)
theorem dL_law_570 : decode cL_law 570 = .ok (.invokevirtual 66, 3) := dk_182 0 66 (dk_at dksL_law_21 8 rfl rfl)
theorem dL_law_573 : decode cL_law 573 = .ok (.if_icmp .eq 458, 3) := dk_159 1 202 (dk_at dksL_law_21 11 rfl rfl)
theorem dL_law_576 : decode cL_law 576 = .ok (.iconst 0, 1) := dk_3 (dk_at dksL_law_21 14 rfl rfl)
theorem dL_law_577 : decode cL_law 577 = .ok (.ireturn, 1) := dk_172 (dk_at dksL_law_21 15 rfl rfl)
theorem dL_law_578 : decode cL_law 578 = .ok (.aload_n 1, 1) := dk_43 (dk_at dksL_law_21 16 rfl rfl)
theorem dL_law_579 : decode cL_law 579 = .ok (.aload_n 0, 1) := dk_42 (dk_at dksL_law_21 17 rfl rfl)
theorem dL_law_580 : decode cL_law 580 = .ok (.iload 4, 2) := dk_21 4 (dk_at dksL_law_21 18 rfl rfl)
theorem dL_law_582 : decode cL_law 582 = .ok (.iconst 1, 1) := dk_4 (dk_at dksL_law_21 20 rfl rfl)
theorem dL_law_583 : decode cL_law 583 = .ok (.iadd, 1) := dk_96 (dk_at dksL_law_21 21 rfl rfl)
theorem dL_law_584 : decode cL_law 584 = .ok (.iaload, 1) := dk_46 (dk_at dksL_law_21 22 rfl rfl)
theorem dL_law_585 : decode cL_law 585 = .ok (.aload_n 0, 1) := dk_42 (dk_at dksL_law_21 23 rfl rfl)
theorem dL_law_586 : decode cL_law 586 = .ok (.iload 4, 2) := dk_21 4 (dk_at dksL_law_22 0 rfl rfl)
theorem dL_law_588 : decode cL_law 588 = .ok (.iconst 2, 1) := dk_5 (dk_at dksL_law_22 2 rfl rfl)
theorem dL_law_589 : decode cL_law 589 = .ok (.iadd, 1) := dk_96 (dk_at dksL_law_22 3 rfl rfl)
theorem dL_law_590 : decode cL_law 590 = .ok (.iaload, 1) := dk_46 (dk_at dksL_law_22 4 rfl rfl)
theorem dL_law_591 : decode cL_law 591 = .ok (.i2l, 1) := dk_133 (dk_at dksL_law_22 5 rfl rfl)
theorem dL_law_592 : decode cL_law 592 = .ok (.bipush 32, 2) := dk_16 32 (dk_at dksL_law_22 6 rfl rfl)
theorem dL_law_594 : decode cL_law 594 = .ok (.lshl, 1) := dk_121 (dk_at dksL_law_22 8 rfl rfl)
theorem dL_law_595 : decode cL_law 595 = .ok (.aload_n 0, 1) := dk_42 (dk_at dksL_law_22 9 rfl rfl)
theorem dL_law_596 : decode cL_law 596 = .ok (.iload 4, 2) := dk_21 4 (dk_at dksL_law_22 10 rfl rfl)
theorem dL_law_598 : decode cL_law 598 = .ok (.iconst 3, 1) := dk_6 (dk_at dksL_law_22 12 rfl rfl)
theorem dL_law_599 : decode cL_law 599 = .ok (.iadd, 1) := dk_96 (dk_at dksL_law_22 13 rfl rfl)
theorem dL_law_600 : decode cL_law 600 = .ok (.iaload, 1) := dk_46 (dk_at dksL_law_22 14 rfl rfl)
theorem dL_law_601 : decode cL_law 601 = .ok (.i2l, 1) := dk_133 (dk_at dksL_law_22 15 rfl rfl)
theorem dL_law_602 : decode cL_law 602 = .ok (.ldc2_w 38, 3) := dk_20 0 38 (dk_at dksL_law_22 16 rfl rfl)
theorem dL_law_605 : decode cL_law 605 = .ok (.land, 1) := dk_127 (dk_at dksL_law_22 19 rfl rfl)
theorem dL_law_606 : decode cL_law 606 = .ok (.lor, 1) := dk_129 (dk_at dksL_law_22 20 rfl rfl)
theorem dL_law_607 : decode cL_law 607 = .ok (.invokevirtual 67, 3) := dk_182 0 67 (dk_at dksL_law_22 21 rfl rfl)
theorem dL_law_610 : decode cL_law 610 = .ok (.aload_n 2, 1) := dk_44 (dk_at dksL_law_23 0 rfl rfl)
theorem dL_law_611 : decode cL_law 611 = .ok (.aload_n 0, 1) := dk_42 (dk_at dksL_law_23 1 rfl rfl)
theorem dL_law_612 : decode cL_law 612 = .ok (.iload 4, 2) := dk_21 4 (dk_at dksL_law_23 2 rfl rfl)
theorem dL_law_614 : decode cL_law 614 = .ok (.iconst 1, 1) := dk_4 (dk_at dksL_law_23 4 rfl rfl)
theorem dL_law_615 : decode cL_law 615 = .ok (.iadd, 1) := dk_96 (dk_at dksL_law_23 5 rfl rfl)
theorem dL_law_616 : decode cL_law 616 = .ok (.iaload, 1) := dk_46 (dk_at dksL_law_23 6 rfl rfl)
theorem dL_law_617 : decode cL_law 617 = .ok (.aload_n 0, 1) := dk_42 (dk_at dksL_law_23 7 rfl rfl)
theorem dL_law_618 : decode cL_law 618 = .ok (.iload 4, 2) := dk_21 4 (dk_at dksL_law_23 8 rfl rfl)
theorem dL_law_620 : decode cL_law 620 = .ok (.iconst 2, 1) := dk_5 (dk_at dksL_law_23 10 rfl rfl)
theorem dL_law_621 : decode cL_law 621 = .ok (.iadd, 1) := dk_96 (dk_at dksL_law_23 11 rfl rfl)
theorem dL_law_622 : decode cL_law 622 = .ok (.iaload, 1) := dk_46 (dk_at dksL_law_23 12 rfl rfl)
theorem dL_law_623 : decode cL_law 623 = .ok (.i2l, 1) := dk_133 (dk_at dksL_law_23 13 rfl rfl)
theorem dL_law_624 : decode cL_law 624 = .ok (.bipush 32, 2) := dk_16 32 (dk_at dksL_law_23 14 rfl rfl)
theorem dL_law_626 : decode cL_law 626 = .ok (.lshl, 1) := dk_121 (dk_at dksL_law_23 16 rfl rfl)
theorem dL_law_627 : decode cL_law 627 = .ok (.aload_n 0, 1) := dk_42 (dk_at dksL_law_23 17 rfl rfl)
theorem dL_law_628 : decode cL_law 628 = .ok (.iload 4, 2) := dk_21 4 (dk_at dksL_law_23 18 rfl rfl)
theorem dL_law_630 : decode cL_law 630 = .ok (.iconst 3, 1) := dk_6 (dk_at dksL_law_23 20 rfl rfl)
theorem dL_law_631 : decode cL_law 631 = .ok (.iadd, 1) := dk_96 (dk_at dksL_law_23 21 rfl rfl)
theorem dL_law_632 : decode cL_law 632 = .ok (.iaload, 1) := dk_46 (dk_at dksL_law_23 22 rfl rfl)
theorem dL_law_633 : decode cL_law 633 = .ok (.i2l, 1) := dk_133 (dk_at dksL_law_23 23 rfl rfl)
theorem dL_law_634 : decode cL_law 634 = .ok (.ldc2_w 38, 3) := dk_20 0 38 (dk_at dksL_law_24 0 rfl rfl)
theorem dL_law_637 : decode cL_law 637 = .ok (.land, 1) := dk_127 (dk_at dksL_law_24 3 rfl rfl)
theorem dL_law_638 : decode cL_law 638 = .ok (.lor, 1) := dk_129 (dk_at dksL_law_24 4 rfl rfl)
theorem dL_law_639 : decode cL_law 639 = .ok (.invokevirtual 71, 3) := dk_182 0 71 (dk_at dksL_law_24 5 rfl rfl)
theorem dL_law_642 : decode cL_law 642 = .ok (.if_icmp .eq 389, 3) := dk_159 1 133 (dk_at dksL_law_24 8 rfl rfl)
theorem dL_law_645 : decode cL_law 645 = .ok (.iconst 0, 1) := dk_3 (dk_at dksL_law_24 11 rfl rfl)
theorem dL_law_646 : decode cL_law 646 = .ok (.ireturn, 1) := dk_172 (dk_at dksL_law_24 12 rfl rfl)
theorem dL_law_647 : decode cL_law 647 = .ok (.aload_n 1, 1) := dk_43 (dk_at dksL_law_24 13 rfl rfl)
theorem dL_law_648 : decode cL_law 648 = .ok (.aload_n 0, 1) := dk_42 (dk_at dksL_law_24 14 rfl rfl)
theorem dL_law_649 : decode cL_law 649 = .ok (.iload 4, 2) := dk_21 4 (dk_at dksL_law_24 15 rfl rfl)
theorem dL_law_651 : decode cL_law 651 = .ok (.iconst 1, 1) := dk_4 (dk_at dksL_law_24 17 rfl rfl)
theorem dL_law_652 : decode cL_law 652 = .ok (.iadd, 1) := dk_96 (dk_at dksL_law_24 18 rfl rfl)
theorem dL_law_653 : decode cL_law 653 = .ok (.iaload, 1) := dk_46 (dk_at dksL_law_24 19 rfl rfl)
theorem dL_law_654 : decode cL_law 654 = .ok (.invokevirtual 72, 3) := dk_182 0 72 (dk_at dksL_law_24 20 rfl rfl)
theorem dL_law_657 : decode cL_law 657 = .ok (.aload_n 2, 1) := dk_44 (dk_at dksL_law_24 23 rfl rfl)
theorem dL_law_658 : decode cL_law 658 = .ok (.aload_n 0, 1) := dk_42 (dk_at dksL_law_25 0 rfl rfl)
theorem dL_law_659 : decode cL_law 659 = .ok (.iload 4, 2) := dk_21 4 (dk_at dksL_law_25 1 rfl rfl)
theorem dL_law_661 : decode cL_law 661 = .ok (.iconst 1, 1) := dk_4 (dk_at dksL_law_25 3 rfl rfl)
theorem dL_law_662 : decode cL_law 662 = .ok (.iadd, 1) := dk_96 (dk_at dksL_law_25 4 rfl rfl)
theorem dL_law_663 : decode cL_law 663 = .ok (.iaload, 1) := dk_46 (dk_at dksL_law_25 5 rfl rfl)
theorem dL_law_664 : decode cL_law 664 = .ok (.invokevirtual 75, 3) := dk_182 0 75 (dk_at dksL_law_25 6 rfl rfl)
theorem dL_law_667 : decode cL_law 667 = .ok (.if_icmp .eq 364, 3) := dk_159 1 108 (dk_at dksL_law_25 9 rfl rfl)
theorem dL_law_670 : decode cL_law 670 = .ok (.iconst 0, 1) := dk_3 (dk_at dksL_law_25 12 rfl rfl)
theorem dL_law_671 : decode cL_law 671 = .ok (.ireturn, 1) := dk_172 (dk_at dksL_law_25 13 rfl rfl)
theorem dL_law_672 : decode cL_law 672 = .ok (.aload_n 1, 1) := dk_43 (dk_at dksL_law_25 14 rfl rfl)
theorem dL_law_673 : decode cL_law 673 = .ok (.aload_n 0, 1) := dk_42 (dk_at dksL_law_25 15 rfl rfl)
theorem dL_law_674 : decode cL_law 674 = .ok (.iload 4, 2) := dk_21 4 (dk_at dksL_law_25 16 rfl rfl)
theorem dL_law_676 : decode cL_law 676 = .ok (.iconst 1, 1) := dk_4 (dk_at dksL_law_25 18 rfl rfl)
theorem dL_law_677 : decode cL_law 677 = .ok (.iadd, 1) := dk_96 (dk_at dksL_law_25 19 rfl rfl)
theorem dL_law_678 : decode cL_law 678 = .ok (.iaload, 1) := dk_46 (dk_at dksL_law_25 20 rfl rfl)
theorem dL_law_679 : decode cL_law 679 = .ok (.i2l, 1) := dk_133 (dk_at dksL_law_25 21 rfl rfl)
theorem dL_law_680 : decode cL_law 680 = .ok (.bipush 32, 2) := dk_16 32 (dk_at dksL_law_25 22 rfl rfl)
theorem dL_law_682 : decode cL_law 682 = .ok (.lshl, 1) := dk_121 (dk_at dksL_law_26 0 rfl rfl)
theorem dL_law_683 : decode cL_law 683 = .ok (.aload_n 0, 1) := dk_42 (dk_at dksL_law_26 1 rfl rfl)
theorem dL_law_684 : decode cL_law 684 = .ok (.iload 4, 2) := dk_21 4 (dk_at dksL_law_26 2 rfl rfl)
theorem dL_law_686 : decode cL_law 686 = .ok (.iconst 2, 1) := dk_5 (dk_at dksL_law_26 4 rfl rfl)
theorem dL_law_687 : decode cL_law 687 = .ok (.iadd, 1) := dk_96 (dk_at dksL_law_26 5 rfl rfl)
theorem dL_law_688 : decode cL_law 688 = .ok (.iaload, 1) := dk_46 (dk_at dksL_law_26 6 rfl rfl)
theorem dL_law_689 : decode cL_law 689 = .ok (.i2l, 1) := dk_133 (dk_at dksL_law_26 7 rfl rfl)
theorem dL_law_690 : decode cL_law 690 = .ok (.ldc2_w 38, 3) := dk_20 0 38 (dk_at dksL_law_26 8 rfl rfl)
theorem dL_law_693 : decode cL_law 693 = .ok (.land, 1) := dk_127 (dk_at dksL_law_26 11 rfl rfl)
theorem dL_law_694 : decode cL_law 694 = .ok (.lor, 1) := dk_129 (dk_at dksL_law_26 12 rfl rfl)
theorem dL_law_695 : decode cL_law 695 = .ok (.aload_n 0, 1) := dk_42 (dk_at dksL_law_26 13 rfl rfl)
theorem dL_law_696 : decode cL_law 696 = .ok (.iload 4, 2) := dk_21 4 (dk_at dksL_law_26 14 rfl rfl)
theorem dL_law_698 : decode cL_law 698 = .ok (.iconst 3, 1) := dk_6 (dk_at dksL_law_26 16 rfl rfl)
theorem dL_law_699 : decode cL_law 699 = .ok (.iadd, 1) := dk_96 (dk_at dksL_law_26 17 rfl rfl)
theorem dL_law_700 : decode cL_law 700 = .ok (.iaload, 1) := dk_46 (dk_at dksL_law_26 18 rfl rfl)
theorem dL_law_701 : decode cL_law 701 = .ok (.invokevirtual 76, 3) := dk_182 0 76 (dk_at dksL_law_26 19 rfl rfl)
theorem dL_law_704 : decode cL_law 704 = .ok (.aload_n 2, 1) := dk_44 (dk_at dksL_law_26 22 rfl rfl)
theorem dL_law_705 : decode cL_law 705 = .ok (.aload_n 0, 1) := dk_42 (dk_at dksL_law_26 23 rfl rfl)
theorem dL_law_706 : decode cL_law 706 = .ok (.iload 4, 2) := dk_21 4 (dk_at dksL_law_27 0 rfl rfl)
theorem dL_law_708 : decode cL_law 708 = .ok (.iconst 1, 1) := dk_4 (dk_at dksL_law_27 2 rfl rfl)
theorem dL_law_709 : decode cL_law 709 = .ok (.iadd, 1) := dk_96 (dk_at dksL_law_27 3 rfl rfl)
theorem dL_law_710 : decode cL_law 710 = .ok (.iaload, 1) := dk_46 (dk_at dksL_law_27 4 rfl rfl)
theorem dL_law_711 : decode cL_law 711 = .ok (.i2l, 1) := dk_133 (dk_at dksL_law_27 5 rfl rfl)
theorem dL_law_712 : decode cL_law 712 = .ok (.bipush 32, 2) := dk_16 32 (dk_at dksL_law_27 6 rfl rfl)
theorem dL_law_714 : decode cL_law 714 = .ok (.lshl, 1) := dk_121 (dk_at dksL_law_27 8 rfl rfl)
theorem dL_law_715 : decode cL_law 715 = .ok (.aload_n 0, 1) := dk_42 (dk_at dksL_law_27 9 rfl rfl)
theorem dL_law_716 : decode cL_law 716 = .ok (.iload 4, 2) := dk_21 4 (dk_at dksL_law_27 10 rfl rfl)
theorem dL_law_718 : decode cL_law 718 = .ok (.iconst 2, 1) := dk_5 (dk_at dksL_law_27 12 rfl rfl)
theorem dL_law_719 : decode cL_law 719 = .ok (.iadd, 1) := dk_96 (dk_at dksL_law_27 13 rfl rfl)
theorem dL_law_720 : decode cL_law 720 = .ok (.iaload, 1) := dk_46 (dk_at dksL_law_27 14 rfl rfl)
theorem dL_law_721 : decode cL_law 721 = .ok (.i2l, 1) := dk_133 (dk_at dksL_law_27 15 rfl rfl)
theorem dL_law_722 : decode cL_law 722 = .ok (.ldc2_w 38, 3) := dk_20 0 38 (dk_at dksL_law_27 16 rfl rfl)
theorem dL_law_725 : decode cL_law 725 = .ok (.land, 1) := dk_127 (dk_at dksL_law_27 19 rfl rfl)
theorem dL_law_726 : decode cL_law 726 = .ok (.lor, 1) := dk_129 (dk_at dksL_law_27 20 rfl rfl)
theorem dL_law_727 : decode cL_law 727 = .ok (.aload_n 0, 1) := dk_42 (dk_at dksL_law_27 21 rfl rfl)
theorem dL_law_728 : decode cL_law 728 = .ok (.iload 4, 2) := dk_21 4 (dk_at dksL_law_27 22 rfl rfl)
theorem dL_law_730 : decode cL_law 730 = .ok (.iconst 3, 1) := dk_6 (dk_at dksL_law_28 0 rfl rfl)
theorem dL_law_731 : decode cL_law 731 = .ok (.iadd, 1) := dk_96 (dk_at dksL_law_28 1 rfl rfl)
theorem dL_law_732 : decode cL_law 732 = .ok (.iaload, 1) := dk_46 (dk_at dksL_law_28 2 rfl rfl)
theorem dL_law_733 : decode cL_law 733 = .ok (.invokevirtual 80, 3) := dk_182 0 80 (dk_at dksL_law_28 3 rfl rfl)
theorem dL_law_736 : decode cL_law 736 = .ok (.if_icmp .eq 295, 3) := dk_159 1 39 (dk_at dksL_law_28 6 rfl rfl)
theorem dL_law_739 : decode cL_law 739 = .ok (.iconst 0, 1) := dk_3 (dk_at dksL_law_28 9 rfl rfl)
theorem dL_law_740 : decode cL_law 740 = .ok (.ireturn, 1) := dk_172 (dk_at dksL_law_28 10 rfl rfl)
theorem dL_law_741 : decode cL_law 741 = .ok (.aload_n 1, 1) := dk_43 (dk_at dksL_law_28 11 rfl rfl)
theorem dL_law_742 : decode cL_law 742 = .ok (.aload_n 0, 1) := dk_42 (dk_at dksL_law_28 12 rfl rfl)
theorem dL_law_743 : decode cL_law 743 = .ok (.iload 4, 2) := dk_21 4 (dk_at dksL_law_28 13 rfl rfl)
theorem dL_law_745 : decode cL_law 745 = .ok (.iconst 1, 1) := dk_4 (dk_at dksL_law_28 15 rfl rfl)
theorem dL_law_746 : decode cL_law 746 = .ok (.iadd, 1) := dk_96 (dk_at dksL_law_28 16 rfl rfl)
theorem dL_law_747 : decode cL_law 747 = .ok (.iaload, 1) := dk_46 (dk_at dksL_law_28 17 rfl rfl)
theorem dL_law_748 : decode cL_law 748 = .ok (.aload_n 0, 1) := dk_42 (dk_at dksL_law_28 18 rfl rfl)
theorem dL_law_749 : decode cL_law 749 = .ok (.iload 4, 2) := dk_21 4 (dk_at dksL_law_28 19 rfl rfl)
theorem dL_law_751 : decode cL_law 751 = .ok (.iconst 2, 1) := dk_5 (dk_at dksL_law_28 21 rfl rfl)
theorem dL_law_752 : decode cL_law 752 = .ok (.iadd, 1) := dk_96 (dk_at dksL_law_28 22 rfl rfl)
theorem dL_law_753 : decode cL_law 753 = .ok (.iaload, 1) := dk_46 (dk_at dksL_law_28 23 rfl rfl)
theorem dL_law_754 : decode cL_law 754 = .ok (.ifCond .eq 7, 3) := dk_153 0 7 (dk_at dksL_law_29 0 rfl rfl)
theorem dL_law_757 : decode cL_law 757 = .ok (.iconst 1, 1) := dk_4 (dk_at dksL_law_29 3 rfl rfl)
theorem dL_law_758 : decode cL_law 758 = .ok (.goto 4, 3) := dk_167 0 4 (dk_at dksL_law_29 4 rfl rfl)
theorem dL_law_761 : decode cL_law 761 = .ok (.iconst 0, 1) := dk_3 (dk_at dksL_law_29 7 rfl rfl)
theorem dL_law_762 : decode cL_law 762 = .ok (.invokevirtual 81, 3) := dk_182 0 81 (dk_at dksL_law_29 8 rfl rfl)
theorem dL_law_765 : decode cL_law 765 = .ok (.aload_n 2, 1) := dk_44 (dk_at dksL_law_29 11 rfl rfl)
theorem dL_law_766 : decode cL_law 766 = .ok (.aload_n 0, 1) := dk_42 (dk_at dksL_law_29 12 rfl rfl)
theorem dL_law_767 : decode cL_law 767 = .ok (.iload 4, 2) := dk_21 4 (dk_at dksL_law_29 13 rfl rfl)
theorem dL_law_769 : decode cL_law 769 = .ok (.iconst 1, 1) := dk_4 (dk_at dksL_law_29 15 rfl rfl)
theorem dL_law_770 : decode cL_law 770 = .ok (.iadd, 1) := dk_96 (dk_at dksL_law_29 16 rfl rfl)
theorem dL_law_771 : decode cL_law 771 = .ok (.iaload, 1) := dk_46 (dk_at dksL_law_29 17 rfl rfl)
theorem dL_law_772 : decode cL_law 772 = .ok (.aload_n 0, 1) := dk_42 (dk_at dksL_law_29 18 rfl rfl)
theorem dL_law_773 : decode cL_law 773 = .ok (.iload 4, 2) := dk_21 4 (dk_at dksL_law_29 19 rfl rfl)
theorem dL_law_775 : decode cL_law 775 = .ok (.iconst 2, 1) := dk_5 (dk_at dksL_law_29 21 rfl rfl)
theorem dL_law_776 : decode cL_law 776 = .ok (.iadd, 1) := dk_96 (dk_at dksL_law_29 22 rfl rfl)
theorem dL_law_777 : decode cL_law 777 = .ok (.iaload, 1) := dk_46 (dk_at dksL_law_29 23 rfl rfl)
theorem dL_law_778 : decode cL_law 778 = .ok (.ifCond .eq 7, 3) := dk_153 0 7 (dk_at dksL_law_30 0 rfl rfl)
theorem dL_law_781 : decode cL_law 781 = .ok (.iconst 1, 1) := dk_4 (dk_at dksL_law_30 3 rfl rfl)
theorem dL_law_782 : decode cL_law 782 = .ok (.goto 4, 3) := dk_167 0 4 (dk_at dksL_law_30 4 rfl rfl)
theorem dL_law_785 : decode cL_law 785 = .ok (.iconst 0, 1) := dk_3 (dk_at dksL_law_30 7 rfl rfl)
theorem dL_law_786 : decode cL_law 786 = .ok (.invokevirtual 84, 3) := dk_182 0 84 (dk_at dksL_law_30 8 rfl rfl)
theorem dL_law_789 : decode cL_law 789 = .ok (.if_icmp .eq 242, 3) := dk_159 0 242 (dk_at dksL_law_30 11 rfl rfl)
theorem dL_law_792 : decode cL_law 792 = .ok (.iconst 0, 1) := dk_3 (dk_at dksL_law_30 14 rfl rfl)
theorem dL_law_793 : decode cL_law 793 = .ok (.ireturn, 1) := dk_172 (dk_at dksL_law_30 15 rfl rfl)
theorem dL_law_794 : decode cL_law 794 = .ok (.aload_n 1, 1) := dk_43 (dk_at dksL_law_30 16 rfl rfl)
theorem dL_law_795 : decode cL_law 795 = .ok (.aload_n 0, 1) := dk_42 (dk_at dksL_law_30 17 rfl rfl)
theorem dL_law_796 : decode cL_law 796 = .ok (.iload 4, 2) := dk_21 4 (dk_at dksL_law_30 18 rfl rfl)
theorem dL_law_798 : decode cL_law 798 = .ok (.iconst 1, 1) := dk_4 (dk_at dksL_law_30 20 rfl rfl)
theorem dL_law_799 : decode cL_law 799 = .ok (.iadd, 1) := dk_96 (dk_at dksL_law_30 21 rfl rfl)
theorem dL_law_800 : decode cL_law 800 = .ok (.iaload, 1) := dk_46 (dk_at dksL_law_30 22 rfl rfl)
theorem dL_law_801 : decode cL_law 801 = .ok (.aload_n 0, 1) := dk_42 (dk_at dksL_law_30 23 rfl rfl)
theorem dL_law_802 : decode cL_law 802 = .ok (.iload 4, 2) := dk_21 4 (dk_at dksL_law_31 0 rfl rfl)
theorem dL_law_804 : decode cL_law 804 = .ok (.iconst 2, 1) := dk_5 (dk_at dksL_law_31 2 rfl rfl)
theorem dL_law_805 : decode cL_law 805 = .ok (.iadd, 1) := dk_96 (dk_at dksL_law_31 3 rfl rfl)
theorem dL_law_806 : decode cL_law 806 = .ok (.iaload, 1) := dk_46 (dk_at dksL_law_31 4 rfl rfl)
theorem dL_law_807 : decode cL_law 807 = .ok (.invokevirtual 85, 3) := dk_182 0 85 (dk_at dksL_law_31 5 rfl rfl)
theorem dL_law_810 : decode cL_law 810 = .ok (.aload_n 2, 1) := dk_44 (dk_at dksL_law_31 8 rfl rfl)
theorem dL_law_811 : decode cL_law 811 = .ok (.aload_n 0, 1) := dk_42 (dk_at dksL_law_31 9 rfl rfl)
theorem dL_law_812 : decode cL_law 812 = .ok (.iload 4, 2) := dk_21 4 (dk_at dksL_law_31 10 rfl rfl)
theorem dL_law_814 : decode cL_law 814 = .ok (.iconst 1, 1) := dk_4 (dk_at dksL_law_31 12 rfl rfl)
theorem dL_law_815 : decode cL_law 815 = .ok (.iadd, 1) := dk_96 (dk_at dksL_law_31 13 rfl rfl)
theorem dL_law_816 : decode cL_law 816 = .ok (.iaload, 1) := dk_46 (dk_at dksL_law_31 14 rfl rfl)
theorem dL_law_817 : decode cL_law 817 = .ok (.aload_n 0, 1) := dk_42 (dk_at dksL_law_31 15 rfl rfl)
theorem dL_law_818 : decode cL_law 818 = .ok (.iload 4, 2) := dk_21 4 (dk_at dksL_law_31 16 rfl rfl)
theorem dL_law_820 : decode cL_law 820 = .ok (.iconst 2, 1) := dk_5 (dk_at dksL_law_31 18 rfl rfl)
theorem dL_law_821 : decode cL_law 821 = .ok (.iadd, 1) := dk_96 (dk_at dksL_law_31 19 rfl rfl)
theorem dL_law_822 : decode cL_law 822 = .ok (.iaload, 1) := dk_46 (dk_at dksL_law_31 20 rfl rfl)
theorem dL_law_823 : decode cL_law 823 = .ok (.invokevirtual 88, 3) := dk_182 0 88 (dk_at dksL_law_31 21 rfl rfl)
theorem dL_law_826 : decode cL_law 826 = .ok (.if_icmp .eq 205, 3) := dk_159 0 205 (dk_at dksL_law_32 0 rfl rfl)
theorem dL_law_829 : decode cL_law 829 = .ok (.iconst 0, 1) := dk_3 (dk_at dksL_law_32 3 rfl rfl)
theorem dL_law_830 : decode cL_law 830 = .ok (.ireturn, 1) := dk_172 (dk_at dksL_law_32 4 rfl rfl)
theorem dL_law_831 : decode cL_law 831 = .ok (.aload_n 1, 1) := dk_43 (dk_at dksL_law_32 5 rfl rfl)
theorem dL_law_832 : decode cL_law 832 = .ok (.aload_n 0, 1) := dk_42 (dk_at dksL_law_32 6 rfl rfl)
theorem dL_law_833 : decode cL_law 833 = .ok (.iload 4, 2) := dk_21 4 (dk_at dksL_law_32 7 rfl rfl)
theorem dL_law_835 : decode cL_law 835 = .ok (.iconst 1, 1) := dk_4 (dk_at dksL_law_32 9 rfl rfl)
theorem dL_law_836 : decode cL_law 836 = .ok (.iadd, 1) := dk_96 (dk_at dksL_law_32 10 rfl rfl)
theorem dL_law_837 : decode cL_law 837 = .ok (.iaload, 1) := dk_46 (dk_at dksL_law_32 11 rfl rfl)
theorem dL_law_838 : decode cL_law 838 = .ok (.aload_n 0, 1) := dk_42 (dk_at dksL_law_32 12 rfl rfl)
theorem dL_law_839 : decode cL_law 839 = .ok (.iload 4, 2) := dk_21 4 (dk_at dksL_law_32 13 rfl rfl)
theorem dL_law_841 : decode cL_law 841 = .ok (.iconst 2, 1) := dk_5 (dk_at dksL_law_32 15 rfl rfl)
theorem dL_law_842 : decode cL_law 842 = .ok (.iadd, 1) := dk_96 (dk_at dksL_law_32 16 rfl rfl)
theorem dL_law_843 : decode cL_law 843 = .ok (.iaload, 1) := dk_46 (dk_at dksL_law_32 17 rfl rfl)
theorem dL_law_844 : decode cL_law 844 = .ok (.i2l, 1) := dk_133 (dk_at dksL_law_32 18 rfl rfl)
theorem dL_law_845 : decode cL_law 845 = .ok (.bipush 32, 2) := dk_16 32 (dk_at dksL_law_32 19 rfl rfl)
theorem dL_law_847 : decode cL_law 847 = .ok (.lshl, 1) := dk_121 (dk_at dksL_law_32 21 rfl rfl)
theorem dL_law_848 : decode cL_law 848 = .ok (.aload_n 0, 1) := dk_42 (dk_at dksL_law_32 22 rfl rfl)
theorem dL_law_849 : decode cL_law 849 = .ok (.iload 4, 2) := dk_21 4 (dk_at dksL_law_33 0 rfl rfl)
theorem dL_law_851 : decode cL_law 851 = .ok (.iconst 3, 1) := dk_6 (dk_at dksL_law_33 2 rfl rfl)
theorem dL_law_852 : decode cL_law 852 = .ok (.iadd, 1) := dk_96 (dk_at dksL_law_33 3 rfl rfl)
theorem dL_law_853 : decode cL_law 853 = .ok (.iaload, 1) := dk_46 (dk_at dksL_law_33 4 rfl rfl)
theorem dL_law_854 : decode cL_law 854 = .ok (.i2l, 1) := dk_133 (dk_at dksL_law_33 5 rfl rfl)
theorem dL_law_855 : decode cL_law 855 = .ok (.ldc2_w 38, 3) := dk_20 0 38 (dk_at dksL_law_33 6 rfl rfl)
theorem dL_law_858 : decode cL_law 858 = .ok (.land, 1) := dk_127 (dk_at dksL_law_33 9 rfl rfl)
theorem dL_law_859 : decode cL_law 859 = .ok (.lor, 1) := dk_129 (dk_at dksL_law_33 10 rfl rfl)
theorem dL_law_860 : decode cL_law 860 = .ok (.aload_n 3, 1) := dk_45 (dk_at dksL_law_33 11 rfl rfl)
theorem dL_law_861 : decode cL_law 861 = .ok (.invokestatic 89, 3) := dk_184 0 89 (dk_at dksL_law_33 12 rfl rfl)
theorem dL_law_864 : decode cL_law 864 = .ok (.istore 5, 2) := dk_54 5 (dk_at dksL_law_33 15 rfl rfl)
theorem dL_law_866 : decode cL_law 866 = .ok (.aload_n 2, 1) := dk_44 (dk_at dksL_law_33 17 rfl rfl)
theorem dL_law_867 : decode cL_law 867 = .ok (.aload_n 0, 1) := dk_42 (dk_at dksL_law_33 18 rfl rfl)
theorem dL_law_868 : decode cL_law 868 = .ok (.iload 4, 2) := dk_21 4 (dk_at dksL_law_33 19 rfl rfl)
theorem dL_law_870 : decode cL_law 870 = .ok (.iconst 1, 1) := dk_4 (dk_at dksL_law_33 21 rfl rfl)
theorem dL_law_871 : decode cL_law 871 = .ok (.iadd, 1) := dk_96 (dk_at dksL_law_33 22 rfl rfl)
theorem dL_law_872 : decode cL_law 872 = .ok (.iaload, 1) := dk_46 (dk_at dksL_law_33 23 rfl rfl)
theorem dL_law_873 : decode cL_law 873 = .ok (.aload_n 0, 1) := dk_42 (dk_at dksL_law_34 0 rfl rfl)
theorem dL_law_874 : decode cL_law 874 = .ok (.iload 4, 2) := dk_21 4 (dk_at dksL_law_34 1 rfl rfl)
theorem dL_law_876 : decode cL_law 876 = .ok (.iconst 2, 1) := dk_5 (dk_at dksL_law_34 3 rfl rfl)
theorem dL_law_877 : decode cL_law 877 = .ok (.iadd, 1) := dk_96 (dk_at dksL_law_34 4 rfl rfl)
theorem dL_law_878 : decode cL_law 878 = .ok (.iaload, 1) := dk_46 (dk_at dksL_law_34 5 rfl rfl)
theorem dL_law_879 : decode cL_law 879 = .ok (.i2l, 1) := dk_133 (dk_at dksL_law_34 6 rfl rfl)
theorem dL_law_880 : decode cL_law 880 = .ok (.bipush 32, 2) := dk_16 32 (dk_at dksL_law_34 7 rfl rfl)
theorem dL_law_882 : decode cL_law 882 = .ok (.lshl, 1) := dk_121 (dk_at dksL_law_34 9 rfl rfl)
theorem dL_law_883 : decode cL_law 883 = .ok (.aload_n 0, 1) := dk_42 (dk_at dksL_law_34 10 rfl rfl)
theorem dL_law_884 : decode cL_law 884 = .ok (.iload 4, 2) := dk_21 4 (dk_at dksL_law_34 11 rfl rfl)
theorem dL_law_886 : decode cL_law 886 = .ok (.iconst 3, 1) := dk_6 (dk_at dksL_law_34 13 rfl rfl)
theorem dL_law_887 : decode cL_law 887 = .ok (.iadd, 1) := dk_96 (dk_at dksL_law_34 14 rfl rfl)
theorem dL_law_888 : decode cL_law 888 = .ok (.iaload, 1) := dk_46 (dk_at dksL_law_34 15 rfl rfl)
theorem dL_law_889 : decode cL_law 889 = .ok (.i2l, 1) := dk_133 (dk_at dksL_law_34 16 rfl rfl)
theorem dL_law_890 : decode cL_law 890 = .ok (.ldc2_w 38, 3) := dk_20 0 38 (dk_at dksL_law_34 17 rfl rfl)
theorem dL_law_893 : decode cL_law 893 = .ok (.land, 1) := dk_127 (dk_at dksL_law_34 20 rfl rfl)
theorem dL_law_894 : decode cL_law 894 = .ok (.lor, 1) := dk_129 (dk_at dksL_law_34 21 rfl rfl)
theorem dL_law_895 : decode cL_law 895 = .ok (.invokevirtual 94, 3) := dk_182 0 94 (dk_at dksL_law_35 0 rfl rfl)
theorem dL_law_898 : decode cL_law 898 = .ok (.lstore 6, 2) := dk_55 6 (dk_at dksL_law_35 3 rfl rfl)
theorem dL_law_900 : decode cL_law 900 = .ok (.aload_n 2, 1) := dk_44 (dk_at dksL_law_35 5 rfl rfl)
theorem dL_law_901 : decode cL_law 901 = .ok (.invokevirtual 95, 3) := dk_182 0 95 (dk_at dksL_law_35 6 rfl rfl)
theorem dL_law_904 : decode cL_law 904 = .ok (.iload 5, 2) := dk_21 5 (dk_at dksL_law_35 9 rfl rfl)
theorem dL_law_906 : decode cL_law 906 = .ok (.if_icmp .eq 5, 3) := dk_159 0 5 (dk_at dksL_law_35 11 rfl rfl)
theorem dL_law_909 : decode cL_law 909 = .ok (.iconst 0, 1) := dk_3 (dk_at dksL_law_35 14 rfl rfl)
theorem dL_law_910 : decode cL_law 910 = .ok (.ireturn, 1) := dk_172 (dk_at dksL_law_35 15 rfl rfl)
theorem dL_law_911 : decode cL_law 911 = .ok (.iload 5, 2) := dk_21 5 (dk_at dksL_law_35 16 rfl rfl)
theorem dL_law_913 : decode cL_law 913 = .ok (.ifCond .ne 14, 3) := dk_154 0 14 (dk_at dksL_law_35 18 rfl rfl)
theorem dL_law_916 : decode cL_law 916 = .ok (.aload_n 3, 1) := dk_45 (dk_at dksL_law_35 21 rfl rfl)
theorem dL_law_917 : decode cL_law 917 = .ok (.iconst 0, 1) := dk_3 (dk_at dksL_law_35 22 rfl rfl)
theorem dL_law_918 : decode cL_law 918 = .ok (.laload, 1) := dk_47 (dk_at dksL_law_35 23 rfl rfl)
theorem dL_law_919 : decode cL_law 919 = .ok (.lload 6, 2) := dk_22 6 (dk_at dksL_law_36 0 rfl rfl)
theorem dL_law_921 : decode cL_law 921 = .ok (.lcmp, 1) := dk_148 (dk_at dksL_law_36 2 rfl rfl)
theorem dL_law_922 : decode cL_law 922 = .ok (.ifCond .eq 5, 3) := dk_153 0 5 (dk_at dksL_law_36 3 rfl rfl)
theorem dL_law_925 : decode cL_law 925 = .ok (.iconst 0, 1) := dk_3 (dk_at dksL_law_36 6 rfl rfl)
theorem dL_law_926 : decode cL_law 926 = .ok (.ireturn, 1) := dk_172 (dk_at dksL_law_36 7 rfl rfl)
theorem dL_law_927 : decode cL_law 927 = .ok (.goto 104, 3) := dk_167 0 104 (dk_at dksL_law_36 8 rfl rfl)
theorem dL_law_930 : decode cL_law 930 = .ok (.aload_n 1, 1) := dk_43 (dk_at dksL_law_36 11 rfl rfl)
theorem dL_law_931 : decode cL_law 931 = .ok (.aload_n 0, 1) := dk_42 (dk_at dksL_law_36 12 rfl rfl)
theorem dL_law_932 : decode cL_law 932 = .ok (.iload 4, 2) := dk_21 4 (dk_at dksL_law_36 13 rfl rfl)
theorem dL_law_934 : decode cL_law 934 = .ok (.iconst 1, 1) := dk_4 (dk_at dksL_law_36 15 rfl rfl)
theorem dL_law_935 : decode cL_law 935 = .ok (.iadd, 1) := dk_96 (dk_at dksL_law_36 16 rfl rfl)
theorem dL_law_936 : decode cL_law 936 = .ok (.iaload, 1) := dk_46 (dk_at dksL_law_36 17 rfl rfl)
theorem dL_law_937 : decode cL_law 937 = .ok (.invokevirtual 98, 3) := dk_182 0 98 (dk_at dksL_law_36 18 rfl rfl)
theorem dL_law_940 : decode cL_law 940 = .ok (.aload_n 2, 1) := dk_44 (dk_at dksL_law_36 21 rfl rfl)
theorem dL_law_941 : decode cL_law 941 = .ok (.aload_n 0, 1) := dk_42 (dk_at dksL_law_36 22 rfl rfl)
theorem dL_law_942 : decode cL_law 942 = .ok (.iload 4, 2) := dk_21 4 (dk_at dksL_law_37 0 rfl rfl)
theorem dL_law_944 : decode cL_law 944 = .ok (.iconst 1, 1) := dk_4 (dk_at dksL_law_37 2 rfl rfl)
theorem dL_law_945 : decode cL_law 945 = .ok (.iadd, 1) := dk_96 (dk_at dksL_law_37 3 rfl rfl)
theorem dL_law_946 : decode cL_law 946 = .ok (.iaload, 1) := dk_46 (dk_at dksL_law_37 4 rfl rfl)
theorem dL_law_947 : decode cL_law 947 = .ok (.invokevirtual 101, 3) := dk_182 0 101 (dk_at dksL_law_37 5 rfl rfl)
theorem dL_law_950 : decode cL_law 950 = .ok (.if_icmp .eq 81, 3) := dk_159 0 81 (dk_at dksL_law_37 8 rfl rfl)
theorem dL_law_953 : decode cL_law 953 = .ok (.iconst 0, 1) := dk_3 (dk_at dksL_law_37 11 rfl rfl)
theorem dL_law_954 : decode cL_law 954 = .ok (.ireturn, 1) := dk_172 (dk_at dksL_law_37 12 rfl rfl)
theorem dL_law_955 : decode cL_law 955 = .ok (.aload_n 1, 1) := dk_43 (dk_at dksL_law_37 13 rfl rfl)
theorem dL_law_956 : decode cL_law 956 = .ok (.aload_n 0, 1) := dk_42 (dk_at dksL_law_37 14 rfl rfl)
theorem dL_law_957 : decode cL_law 957 = .ok (.iload 4, 2) := dk_21 4 (dk_at dksL_law_37 15 rfl rfl)
theorem dL_law_959 : decode cL_law 959 = .ok (.iconst 1, 1) := dk_4 (dk_at dksL_law_37 17 rfl rfl)
theorem dL_law_960 : decode cL_law 960 = .ok (.iadd, 1) := dk_96 (dk_at dksL_law_37 18 rfl rfl)
theorem dL_law_961 : decode cL_law 961 = .ok (.iaload, 1) := dk_46 (dk_at dksL_law_37 19 rfl rfl)
theorem dL_law_962 : decode cL_law 962 = .ok (.invokevirtual 102, 3) := dk_182 0 102 (dk_at dksL_law_37 20 rfl rfl)
theorem dL_law_965 : decode cL_law 965 = .ok (.aload_n 2, 1) := dk_44 (dk_at dksL_law_37 23 rfl rfl)
theorem dL_law_966 : decode cL_law 966 = .ok (.aload_n 0, 1) := dk_42 (dk_at dksL_law_38 0 rfl rfl)
theorem dL_law_967 : decode cL_law 967 = .ok (.iload 4, 2) := dk_21 4 (dk_at dksL_law_38 1 rfl rfl)
theorem dL_law_969 : decode cL_law 969 = .ok (.iconst 1, 1) := dk_4 (dk_at dksL_law_38 3 rfl rfl)
theorem dL_law_970 : decode cL_law 970 = .ok (.iadd, 1) := dk_96 (dk_at dksL_law_38 4 rfl rfl)
theorem dL_law_971 : decode cL_law 971 = .ok (.iaload, 1) := dk_46 (dk_at dksL_law_38 5 rfl rfl)
theorem dL_law_972 : decode cL_law 972 = .ok (.invokevirtual 106, 3) := dk_182 0 106 (dk_at dksL_law_38 6 rfl rfl)
theorem dL_law_975 : decode cL_law 975 = .ok (.lcmp, 1) := dk_148 (dk_at dksL_law_38 9 rfl rfl)
theorem dL_law_976 : decode cL_law 976 = .ok (.ifCond .eq 55, 3) := dk_153 0 55 (dk_at dksL_law_38 10 rfl rfl)
theorem dL_law_979 : decode cL_law 979 = .ok (.iconst 0, 1) := dk_3 (dk_at dksL_law_38 13 rfl rfl)
theorem dL_law_980 : decode cL_law 980 = .ok (.ireturn, 1) := dk_172 (dk_at dksL_law_38 14 rfl rfl)
theorem dL_law_981 : decode cL_law 981 = .ok (.aload_n 1, 1) := dk_43 (dk_at dksL_law_38 15 rfl rfl)
theorem dL_law_982 : decode cL_law 982 = .ok (.aload_n 0, 1) := dk_42 (dk_at dksL_law_38 16 rfl rfl)
theorem dL_law_983 : decode cL_law 983 = .ok (.iload 4, 2) := dk_21 4 (dk_at dksL_law_38 17 rfl rfl)
theorem dL_law_985 : decode cL_law 985 = .ok (.iconst 1, 1) := dk_4 (dk_at dksL_law_38 19 rfl rfl)
theorem dL_law_986 : decode cL_law 986 = .ok (.iadd, 1) := dk_96 (dk_at dksL_law_38 20 rfl rfl)
theorem dL_law_987 : decode cL_law 987 = .ok (.iaload, 1) := dk_46 (dk_at dksL_law_38 21 rfl rfl)
theorem dL_law_988 : decode cL_law 988 = .ok (.invokevirtual 107, 3) := dk_182 0 107 (dk_at dksL_law_39 0 rfl rfl)
theorem dL_law_991 : decode cL_law 991 = .ok (.aload_n 2, 1) := dk_44 (dk_at dksL_law_39 3 rfl rfl)
theorem dL_law_992 : decode cL_law 992 = .ok (.aload_n 0, 1) := dk_42 (dk_at dksL_law_39 4 rfl rfl)
theorem dL_law_993 : decode cL_law 993 = .ok (.iload 4, 2) := dk_21 4 (dk_at dksL_law_39 5 rfl rfl)
theorem dL_law_995 : decode cL_law 995 = .ok (.iconst 1, 1) := dk_4 (dk_at dksL_law_39 7 rfl rfl)
theorem dL_law_996 : decode cL_law 996 = .ok (.iadd, 1) := dk_96 (dk_at dksL_law_39 8 rfl rfl)
theorem dL_law_997 : decode cL_law 997 = .ok (.iaload, 1) := dk_46 (dk_at dksL_law_39 9 rfl rfl)
theorem dL_law_998 : decode cL_law 998 = .ok (.invokevirtual 110, 3) := dk_182 0 110 (dk_at dksL_law_39 10 rfl rfl)
theorem dL_law_1001 : decode cL_law 1001 = .ok (.if_icmp .eq 30, 3) := dk_159 0 30 (dk_at dksL_law_39 13 rfl rfl)
theorem dL_law_1004 : decode cL_law 1004 = .ok (.iconst 0, 1) := dk_3 (dk_at dksL_law_39 16 rfl rfl)
theorem dL_law_1005 : decode cL_law 1005 = .ok (.ireturn, 1) := dk_172 (dk_at dksL_law_39 17 rfl rfl)
theorem dL_law_1006 : decode cL_law 1006 = .ok (.aload_n 1, 1) := dk_43 (dk_at dksL_law_39 18 rfl rfl)
theorem dL_law_1007 : decode cL_law 1007 = .ok (.aload_n 0, 1) := dk_42 (dk_at dksL_law_39 19 rfl rfl)
theorem dL_law_1008 : decode cL_law 1008 = .ok (.iload 4, 2) := dk_21 4 (dk_at dksL_law_39 20 rfl rfl)
theorem dL_law_1010 : decode cL_law 1010 = .ok (.iconst 1, 1) := dk_4 (dk_at dksL_law_39 22 rfl rfl)
theorem dL_law_1011 : decode cL_law 1011 = .ok (.iadd, 1) := dk_96 (dk_at dksL_law_39 23 rfl rfl)
theorem dL_law_1012 : decode cL_law 1012 = .ok (.iaload, 1) := dk_46 (dk_at dksL_law_40 0 rfl rfl)
theorem dL_law_1013 : decode cL_law 1013 = .ok (.invokevirtual 111, 3) := dk_182 0 111 (dk_at dksL_law_40 1 rfl rfl)
theorem dL_law_1016 : decode cL_law 1016 = .ok (.aload_n 2, 1) := dk_44 (dk_at dksL_law_40 4 rfl rfl)
theorem dL_law_1017 : decode cL_law 1017 = .ok (.aload_n 0, 1) := dk_42 (dk_at dksL_law_40 5 rfl rfl)
theorem dL_law_1018 : decode cL_law 1018 = .ok (.iload 4, 2) := dk_21 4 (dk_at dksL_law_40 6 rfl rfl)
theorem dL_law_1020 : decode cL_law 1020 = .ok (.iconst 1, 1) := dk_4 (dk_at dksL_law_40 8 rfl rfl)
theorem dL_law_1021 : decode cL_law 1021 = .ok (.iadd, 1) := dk_96 (dk_at dksL_law_40 9 rfl rfl)
theorem dL_law_1022 : decode cL_law 1022 = .ok (.iaload, 1) := dk_46 (dk_at dksL_law_40 10 rfl rfl)
theorem dL_law_1023 : decode cL_law 1023 = .ok (.invokevirtual 114, 3) := dk_182 0 114 (dk_at dksL_law_40 11 rfl rfl)
theorem dL_law_1026 : decode cL_law 1026 = .ok (.if_icmp .eq 5, 3) := dk_159 0 5 (dk_at dksL_law_40 14 rfl rfl)
theorem dL_law_1029 : decode cL_law 1029 = .ok (.iconst 0, 1) := dk_3 (dk_at dksL_law_40 17 rfl rfl)
theorem dL_law_1030 : decode cL_law 1030 = .ok (.ireturn, 1) := dk_172 (dk_at dksL_law_40 18 rfl rfl)
theorem dL_law_1031 : decode cL_law 1031 = .ok (.iinc 4 6, 3) := dk_132 4 6 (dk_at dksL_law_40 19 rfl rfl)
theorem dL_law_1034 : decode cL_law 1034 = .ok (.goto (-1011), 3) := dk_167 252 13 (dk_at dksL_law_41 0 rfl rfl)
theorem dL_law_1037 : decode cL_law 1037 = .ok (.iconst 1, 1) := dk_4 (dk_at dksL_law_41 3 rfl rfl)
theorem dL_law_1038 : decode cL_law 1038 = .ok (.ireturn, 1) := dk_172 (dk_at dksL_law_41 4 rfl rfl)
