/-! InitiatorRowsLaw -/
set_option maxRecDepth 100000
def RX0 : String := "InitiatorRowsLaw"
abbrev cX0_share : ByteArray := method_3_code
def yX0_share : MethodName := ⟨RX0, "share", "(LInitiatorRows;IJ[J)I"⟩
def dkwX0_share_0 : List UInt8 := [25, 4, 3, 42, 27, 32, 182, 0, 7, 80, 167, 0, 7, 58, 5, 4, 172, 3, 172]
abbrev dktX0_share_0 : List UInt8 := dkwX0_share_0 ++ []
theorem dksX0_share_0 : cX0_share.data.toList.drop 0 = dktX0_share_0 := by decide +kernel
theorem dX0_share_0 : decode cX0_share 0 = .ok (.aload 4, 2) := dk_25 4 (dk_at dksX0_share_0 0 rfl rfl)
theorem dX0_share_2 : decode cX0_share 2 = .ok (.iconst 0, 1) := dk_3 (dk_at dksX0_share_0 2 rfl rfl)
theorem dX0_share_3 : decode cX0_share 3 = .ok (.aload_n 0, 1) := dk_42 (dk_at dksX0_share_0 3 rfl rfl)
theorem dX0_share_4 : decode cX0_share 4 = .ok (.iload_n 1, 1) := dk_27 (dk_at dksX0_share_0 4 rfl rfl)
theorem dX0_share_5 : decode cX0_share 5 = .ok (.lload_n 2, 1) := dk_32 (dk_at dksX0_share_0 5 rfl rfl)
theorem dX0_share_6 : decode cX0_share 6 = .ok (.invokevirtual 7, 3) := dk_182 0 7 (dk_at dksX0_share_0 6 rfl rfl)
theorem dX0_share_9 : decode cX0_share 9 = .ok (.lastore, 1) := dk_80 (dk_at dksX0_share_0 9 rfl rfl)
theorem dX0_share_10 : decode cX0_share 10 = .ok (.goto 7, 3) := dk_167 0 7 (dk_at dksX0_share_0 10 rfl rfl)
theorem dX0_share_13 : decode cX0_share 13 = .ok (.astore 5, 2) := dk_58 5 (dk_at dksX0_share_0 13 rfl rfl)
theorem dX0_share_15 : decode cX0_share 15 = .ok (.iconst 1, 1) := dk_4 (dk_at dksX0_share_0 15 rfl rfl)
theorem dX0_share_16 : decode cX0_share 16 = .ok (.ireturn, 1) := dk_172 (dk_at dksX0_share_0 16 rfl rfl)
theorem dX0_share_17 : decode cX0_share 17 = .ok (.iconst 0, 1) := dk_3 (dk_at dksX0_share_0 17 rfl rfl)
theorem dX0_share_18 : decode cX0_share 18 = .ok (.ireturn, 1) := dk_172 (dk_at dksX0_share_0 18 rfl rfl)
theorem q20 : (Jvm.Cond.initialized "InitiatorRowsLaw") ∈ lw_all := lw_g (lw_at lw_m1 0 rfl) rfl
theorem q51 : (Jvm.Cond.classLink "InitiatorRowsLaw" (8 : Nat) "InitiatorRows") ∈ lw_all := lw_g (lw_at lw_m1 31 rfl) rfl
theorem q53 : (Jvm.Cond.methodLink "InitiatorRowsLaw" (15 : Nat) ({ cls := "InitiatorRows", name := "<init>", desc := "()V" } : Jvm.MethodName)) ∈ lw_all := lw_g (lw_at lw_m1 33 rfl) rfl
theorem q221 : (Jvm.Cond.methodLink "InitiatorRowsLaw" (19 : Nat) ({ cls := "InitiatorRows", name := "initiator", desc := "()I" } : Jvm.MethodName)) ∈ lw_all := lw_g (lw_at lw_m1 201 rfl) rfl
theorem q320 : (Jvm.Cond.methodLink "InitiatorRowsLaw" (24 : Nat) ({ cls := "InitiatorRows", name := "cls", desc := "(III)I" } : Jvm.MethodName)) ∈ lw_all := lw_g (lw_at lw_m2 60 rfl) rfl
theorem q350 : (Jvm.Cond.methodLink "InitiatorRowsLaw" (29 : Nat) ({ cls := "InitiatorRows", name := "limit", desc := "(II)I" } : Jvm.MethodName)) ∈ lw_all := lw_g (lw_at lw_m2 90 rfl) rfl
theorem q357 : (Jvm.Cond.methodLink "InitiatorRowsLaw" (34 : Nat) ({ cls := "InitiatorRows", name := "window", desc := "(III)I" } : Jvm.MethodName)) ∈ lw_all := lw_g (lw_at lw_m2 97 rfl) rfl
theorem q361 : (Jvm.Cond.methodLink "InitiatorRowsLaw" (40 : Nat) ({ cls := "InitiatorRows", name := "job", desc := "(IIIJ)I" } : Jvm.MethodName)) ∈ lw_all := lw_g (lw_at lw_m2 101 rfl) rfl
theorem q428 : (Jvm.Cond.methodLink "InitiatorRowsLaw" (45 : Nat) ({ cls := "InitiatorRows", name := "needs", desc := "(II)I" } : Jvm.MethodName)) ∈ lw_all := lw_g (lw_at lw_m2 168 rfl) rfl
theorem q491 : (Jvm.Cond.methodLink "InitiatorRowsLaw" (49 : Nat) ({ cls := "InitiatorRows", name := "units", desc := "(II)I" } : Jvm.MethodName)) ∈ lw_all := lw_g (lw_at lw_m2 231 rfl) rfl
theorem q495 : (Jvm.Cond.methodLink "InitiatorRowsLaw" (53 : Nat) ({ cls := "InitiatorRows", name := "uses", desc := "(III)I" } : Jvm.MethodName)) ∈ lw_all := lw_g (lw_at lw_m2 235 rfl) rfl
theorem q499 : (Jvm.Cond.methodLink "InitiatorRowsLaw" (57 : Nat) ({ cls := "InitiatorRows", name := "alone", desc := "(I)I" } : Jvm.MethodName)) ∈ lw_all := lw_g (lw_at lw_m2 239 rfl) rfl
theorem q503 : (Jvm.Cond.methodLink "InitiatorRowsLaw" (62 : Nat) ({ cls := "InitiatorRows", name := "hold", desc := "(IZ)I" } : Jvm.MethodName)) ∈ lw_all := lw_g (lw_at lw_m3 3 rfl) rfl
theorem q509 : (Jvm.Cond.methodLink "InitiatorRowsLaw" (67 : Nat) ({ cls := "InitiatorRows", name := "next", desc := "(IJ)I" } : Jvm.MethodName)) ∈ lw_all := lw_g (lw_at lw_m3 9 rfl) rfl
theorem q611 : (Jvm.Cond.methodLink "InitiatorRowsLaw" (72 : Nat) ({ cls := "InitiatorRows", name := "end", desc := "(I)I" } : Jvm.MethodName)) ∈ lw_all := lw_g (lw_at lw_m3 111 rfl) rfl
theorem q635 : (Jvm.Cond.methodLink "InitiatorRowsLaw" (76 : Nat) ({ cls := "InitiatorRows", name := "age", desc := "(JI)I" } : Jvm.MethodName)) ∈ lw_all := lw_g (lw_at lw_m3 135 rfl) rfl
theorem q639 : (Jvm.Cond.methodLink "InitiatorRowsLaw" (81 : Nat) ({ cls := "InitiatorRows", name := "drain", desc := "(IZ)I" } : Jvm.MethodName)) ∈ lw_all := lw_g (lw_at lw_m3 139 rfl) rfl
theorem q643 : (Jvm.Cond.methodLink "InitiatorRowsLaw" (85 : Nat) ({ cls := "InitiatorRows", name := "weight", desc := "(II)I" } : Jvm.MethodName)) ∈ lw_all := lw_g (lw_at lw_m3 143 rfl) rfl
theorem q647 : (Jvm.Cond.methodLink "InitiatorRowsLaw" (98 : Nat) ({ cls := "InitiatorRows", name := "order", desc := "(I)I" } : Jvm.MethodName)) ∈ lw_all := lw_g (lw_at lw_m3 147 rfl) rfl
theorem q664 : (Jvm.Cond.methodLink "InitiatorRowsLaw" (102 : Nat) ({ cls := "InitiatorRows", name := "waited", desc := "(I)J" } : Jvm.MethodName)) ∈ lw_all := lw_g (lw_at lw_m3 164 rfl) rfl
theorem q669 : (Jvm.Cond.methodLink "InitiatorRowsLaw" (107 : Nat) ({ cls := "InitiatorRows", name := "state", desc := "(I)I" } : Jvm.MethodName)) ∈ lw_all := lw_g (lw_at lw_m3 169 rfl) rfl
theorem q679 : (Jvm.Cond.methodLink "InitiatorRowsLaw" (111 : Nat) ({ cls := "InitiatorRows", name := "count", desc := "(I)I" } : Jvm.MethodName)) ∈ lw_all := lw_g (lw_at lw_m3 179 rfl) rfl
theorem q739 : (Jvm.Cond.methodLink "InitiatorRowsLaw" (89 : Nat) ({ cls := "InitiatorRowsLaw", name := "share", desc := "(LInitiatorRows;IJ[J)I" } : Jvm.MethodName)) ∈ lw_all := lw_g (lw_at lw_m3 239 rfl) rfl
theorem q740 : (Jvm.Cond.static ({ cls := "InitiatorRowsLaw", name := "share", desc := "(LInitiatorRows;IJ[J)I" } : Jvm.MethodName)) ∈ lw_all := lw_g (lw_at lw_m4 0 rfl) rfl
theorem q741 : (Jvm.Cond.codeWith ({ cls := "InitiatorRowsLaw", name := "share", desc := "(LInitiatorRows;IJ[J)I" } : Jvm.MethodName) method_3_code (6 : Nat) (Option.some Jvm.ClassFile.FieldType.int) [((0 : Nat), (10 : Nat), (13 : Nat), (13 : Nat))]) ∈ lw_all := lw_g (lw_at lw_m4 1 rfl) rfl
theorem q742 : (Jvm.Cond.classLink "InitiatorRowsLaw" (13 : Nat) "java/lang/ArithmeticException") ∈ lw_all := lw_g (lw_at lw_m4 2 rfl) rfl
theorem q811 : (Jvm.Cond.methodLink "InitiatorRowsLaw" (7 : Nat) ({ cls := "InitiatorRows", name := "share", desc := "(IJ)J" } : Jvm.MethodName)) ∈ lw_all := lw_g (lw_at lw_m4 71 rfl) rfl
theorem q826 : (Jvm.Cond.classLink "InitiatorRowsLaw" (16 : Nat) "InitiatorRowsModel") ∈ lw_all := lw_g (lw_at lw_m4 86 rfl) rfl
theorem q828 : (Jvm.Cond.methodLink "InitiatorRowsLaw" (18 : Nat) ({ cls := "InitiatorRowsModel", name := "<init>", desc := "()V" } : Jvm.MethodName)) ∈ lw_all := lw_g (lw_at lw_m4 88 rfl) rfl
theorem q909 : (Jvm.Cond.methodLink "InitiatorRowsLaw" (95 : Nat) ({ cls := "InitiatorRowsModel", name := "thrown", desc := "()I" } : Jvm.MethodName)) ∈ lw_all := lw_g (lw_at lw_m4 169 rfl) rfl
theorem q913 : (Jvm.Cond.methodLink "InitiatorRowsLaw" (23 : Nat) ({ cls := "InitiatorRowsModel", name := "initiator", desc := "()I" } : Jvm.MethodName)) ∈ lw_all := lw_g (lw_at lw_m4 173 rfl) rfl
theorem q917 : (Jvm.Cond.methodLink "InitiatorRowsLaw" (28 : Nat) ({ cls := "InitiatorRowsModel", name := "cls", desc := "(III)I" } : Jvm.MethodName)) ∈ lw_all := lw_g (lw_at lw_m4 177 rfl) rfl
theorem q928 : (Jvm.Cond.methodLink "InitiatorRowsLaw" (33 : Nat) ({ cls := "InitiatorRowsModel", name := "limit", desc := "(II)I" } : Jvm.MethodName)) ∈ lw_all := lw_g (lw_at lw_m4 188 rfl) rfl
theorem q932 : (Jvm.Cond.methodLink "InitiatorRowsLaw" (37 : Nat) ({ cls := "InitiatorRowsModel", name := "window", desc := "(III)I" } : Jvm.MethodName)) ∈ lw_all := lw_g (lw_at lw_m4 192 rfl) rfl
theorem q939 : (Jvm.Cond.methodLink "InitiatorRowsLaw" (44 : Nat) ({ cls := "InitiatorRowsModel", name := "job", desc := "(IIIJ)I" } : Jvm.MethodName)) ∈ lw_all := lw_g (lw_at lw_m4 199 rfl) rfl
theorem q943 : (Jvm.Cond.methodLink "InitiatorRowsLaw" (48 : Nat) ({ cls := "InitiatorRowsModel", name := "needs", desc := "(II)I" } : Jvm.MethodName)) ∈ lw_all := lw_g (lw_at lw_m4 203 rfl) rfl
theorem q955 : (Jvm.Cond.methodLink "InitiatorRowsLaw" (52 : Nat) ({ cls := "InitiatorRowsModel", name := "units", desc := "(II)I" } : Jvm.MethodName)) ∈ lw_all := lw_g (lw_at lw_m4 215 rfl) rfl
theorem q959 : (Jvm.Cond.methodLink "InitiatorRowsLaw" (56 : Nat) ({ cls := "InitiatorRowsModel", name := "uses", desc := "(III)I" } : Jvm.MethodName)) ∈ lw_all := lw_g (lw_at lw_m4 219 rfl) rfl
theorem q963 : (Jvm.Cond.methodLink "InitiatorRowsLaw" (61 : Nat) ({ cls := "InitiatorRowsModel", name := "alone", desc := "(I)I" } : Jvm.MethodName)) ∈ lw_all := lw_g (lw_at lw_m4 223 rfl) rfl
theorem q967 : (Jvm.Cond.methodLink "InitiatorRowsLaw" (66 : Nat) ({ cls := "InitiatorRowsModel", name := "hold", desc := "(IZ)I" } : Jvm.MethodName)) ∈ lw_all := lw_g (lw_at lw_m4 227 rfl) rfl
theorem q971 : (Jvm.Cond.methodLink "InitiatorRowsLaw" (71 : Nat) ({ cls := "InitiatorRowsModel", name := "next", desc := "(IJ)I" } : Jvm.MethodName)) ∈ lw_all := lw_g (lw_at lw_m4 231 rfl) rfl
theorem q997 : (Jvm.Cond.methodLink "InitiatorRowsLaw" (75 : Nat) ({ cls := "InitiatorRowsModel", name := "end", desc := "(I)I" } : Jvm.MethodName)) ∈ lw_all := lw_g (lw_at lw_m5 17 rfl) rfl
theorem q1001 : (Jvm.Cond.methodLink "InitiatorRowsLaw" (80 : Nat) ({ cls := "InitiatorRowsModel", name := "age", desc := "(JI)I" } : Jvm.MethodName)) ∈ lw_all := lw_g (lw_at lw_m5 21 rfl) rfl
theorem q1005 : (Jvm.Cond.methodLink "InitiatorRowsLaw" (84 : Nat) ({ cls := "InitiatorRowsModel", name := "drain", desc := "(IZ)I" } : Jvm.MethodName)) ∈ lw_all := lw_g (lw_at lw_m5 25 rfl) rfl
theorem q1009 : (Jvm.Cond.methodLink "InitiatorRowsLaw" (88 : Nat) ({ cls := "InitiatorRowsModel", name := "weight", desc := "(II)I" } : Jvm.MethodName)) ∈ lw_all := lw_g (lw_at lw_m5 29 rfl) rfl
theorem q1013 : (Jvm.Cond.methodLink "InitiatorRowsLaw" (94 : Nat) ({ cls := "InitiatorRowsModel", name := "share", desc := "(IJ)J" } : Jvm.MethodName)) ∈ lw_all := lw_g (lw_at lw_m5 33 rfl) rfl
theorem q1018 : (Jvm.Cond.methodLink "InitiatorRowsLaw" (101 : Nat) ({ cls := "InitiatorRowsModel", name := "order", desc := "(I)I" } : Jvm.MethodName)) ∈ lw_all := lw_g (lw_at lw_m5 38 rfl) rfl
theorem q1022 : (Jvm.Cond.methodLink "InitiatorRowsLaw" (106 : Nat) ({ cls := "InitiatorRowsModel", name := "waited", desc := "(I)J" } : Jvm.MethodName)) ∈ lw_all := lw_g (lw_at lw_m5 42 rfl) rfl
theorem q1026 : (Jvm.Cond.methodLink "InitiatorRowsLaw" (110 : Nat) ({ cls := "InitiatorRowsModel", name := "state", desc := "(I)I" } : Jvm.MethodName)) ∈ lw_all := lw_g (lw_at lw_m5 46 rfl) rfl
theorem q1030 : (Jvm.Cond.methodLink "InitiatorRowsLaw" (114 : Nat) ({ cls := "InitiatorRowsModel", name := "count", desc := "(I)I" } : Jvm.MethodName)) ∈ lw_all := lw_g (lw_at lw_m5 50 rfl) rfl
theorem q1038 : (Jvm.Cond.constantLong "InitiatorRowsLaw" (38 : Nat) (4294967295 : Int64)) ∈ lw_all := lw_g (lw_at lw_m5 58 rfl) rfl
/-! InitiatorRows -/
set_option maxRecDepth 100000
def RX1 : String := "InitiatorRows"
def TX1 : u_T := fun k => match k with
  | 0 => ("InitiatorRows", "initiators", "Ljava/util/List;", true)
  | 1 => ("InitiatorRows", "jobs", "Ljava/util/List;", true)
  | 2 => ("InitiatorRows", "running", "Ljava/util/List;", true)
  | 3 => ("InitiatorRows", "classes", "[LInitiatorRows$Cls;", true)
  | 4 => ("InitiatorRows", "units", "[I", true)
  | 5 => ("InitiatorRows", "unitsRule", "LInitiatorRows$UnitsRule;", true)
  | 6 => ("InitiatorRows", "rules", "[LInitiatorRows$Rule;", true)
  | 7 => ("InitiatorRows", "ageing", "LInitiatorRows$Ageing;", false)
  | _ => ("InitiatorRows", "now", "J", false)
def tyX1 : Nat → FieldType := fun k => match k with
  | 0 => .object "java/util/List"
  | 1 => .object "java/util/List"
  | 2 => .object "java/util/List"
  | 3 => .array (.object "InitiatorRows$Cls")
  | 4 => .array .int
  | 5 => .object "InitiatorRows$UnitsRule"
  | 6 => .array (.object "InitiatorRows$Rule")
  | 7 => .object "InitiatorRows$Ageing"
  | _ => .long
abbrev wsX10 : List Cond := u_ws RX1 TX1 9
theorem nmX1 : ∀ a, a < 9 → ∀ b, b < 9 → a ≠ b → (TX1 a).2.1 ≠ (TX1 b).2.1 := by decide +kernel
theorem tyX1_ok : ∀ k, k < 9 → parseFieldDescriptor (TX1 k).2.2.1 = some (tyX1 k) := by decide +kernel
abbrev cX1_init : ByteArray := prog_1_method_1_code
def yX1_init : MethodName := ⟨RX1, "<init>", "()V"⟩
def dkwX1_init_8 : List UInt8 := [183, 0, 75, 83, 132, 1, 1, 167, 255, 234, 177]
abbrev dktX1_init_8 : List UInt8 := dkwX1_init_8 ++ []
def dkwX1_init_7 : List UInt8 := [183, 0, 68, 181, 0, 71, 3, 60, 27, 16, 36, 162, 0, 22, 42, 180, 0, 24, 27, 187, 0, 22, 89]
abbrev dktX1_init_7 : List UInt8 := dkwX1_init_7 ++ dktX1_init_8
def dkwX1_init_6 : List UInt8 := [187, 0, 59, 89, 42, 180, 0, 19, 183, 0, 61, 83, 181, 0, 62, 42, 187, 0, 66, 89, 9, 3]
abbrev dktX1_init_6 : List UInt8 := dkwX1_init_6 ++ dktX1_init_7
def dkwX1_init_5 : List UInt8 := [183, 0, 53, 83, 89, 6, 187, 0, 56, 89, 183, 0, 58, 83, 89, 7, 42, 180, 0, 37, 83, 89, 8]
abbrev dktX1_init_5 : List UInt8 := dkwX1_init_5 ++ dktX1_init_6
def dkwX1_init_4 : List UInt8 := [89, 42, 180, 0, 19, 42, 180, 0, 24, 183, 0, 48, 83, 89, 5, 187, 0, 51, 89, 42, 180, 0, 19]
abbrev dktX1_init_4 : List UInt8 := dkwX1_init_4 ++ dktX1_init_5
def dkwX1_init_3 : List UInt8 := [181, 0, 37, 42, 16, 6, 189, 0, 41, 89, 3, 187, 0, 43, 89, 183, 0, 45, 83, 89, 4, 187, 0, 46]
abbrev dktX1_init_3 : List UInt8 := dkwX1_init_3 ++ dktX1_init_4
def dkwX1_init_2 : List UInt8 := [7, 188, 10, 181, 0, 28, 42, 187, 0, 32, 89, 42, 180, 0, 19, 42, 180, 0, 28, 183, 0, 34]
abbrev dktX1_init_2 : List UInt8 := dkwX1_init_2 ++ dktX1_init_3
def dkwX1_init_1 : List UInt8 := [181, 0, 16, 42, 187, 0, 7, 89, 183, 0, 9, 181, 0, 19, 42, 16, 36, 189, 0, 22, 181, 0, 24, 42]
abbrev dktX1_init_1 : List UInt8 := dkwX1_init_1 ++ dktX1_init_2
def dkwX1_init_0 : List UInt8 := [42, 183, 0, 1, 42, 187, 0, 7, 89, 183, 0, 9, 181, 0, 10, 42, 187, 0, 7, 89, 183, 0, 9]
abbrev dktX1_init_0 : List UInt8 := dkwX1_init_0 ++ dktX1_init_1
theorem dksX1_init_0 : cX1_init.data.toList.drop 0 = dktX1_init_0 := by decide +kernel
theorem dksX1_init_1 : cX1_init.data.toList.drop 23 = dktX1_init_1 := dk_seg dksX1_init_0 23 rfl rfl
theorem dksX1_init_2 : cX1_init.data.toList.drop 47 = dktX1_init_2 := dk_seg dksX1_init_1 24 rfl rfl
theorem dksX1_init_3 : cX1_init.data.toList.drop 69 = dktX1_init_3 := dk_seg dksX1_init_2 22 rfl rfl
theorem dksX1_init_4 : cX1_init.data.toList.drop 93 = dktX1_init_4 := dk_seg dksX1_init_3 24 rfl rfl
theorem dksX1_init_5 : cX1_init.data.toList.drop 116 = dktX1_init_5 := dk_seg dksX1_init_4 23 rfl rfl
theorem dksX1_init_6 : cX1_init.data.toList.drop 139 = dktX1_init_6 := dk_seg dksX1_init_5 23 rfl rfl
theorem dksX1_init_7 : cX1_init.data.toList.drop 161 = dktX1_init_7 := dk_seg dksX1_init_6 22 rfl rfl
theorem dksX1_init_8 : cX1_init.data.toList.drop 184 = dktX1_init_8 := dk_seg dksX1_init_7 23 rfl rfl
theorem dX1_init_0 : decode cX1_init 0 = .ok (.aload_n 0, 1) := dk_42 (dk_at dksX1_init_0 0 rfl rfl)
theorem dX1_init_1 : decode cX1_init 1 = .ok (.invokespecial 1, 3) := dk_183 0 1 (dk_at dksX1_init_0 1 rfl rfl)
theorem dX1_init_4 : decode cX1_init 4 = .ok (.aload_n 0, 1) := dk_42 (dk_at dksX1_init_0 4 rfl rfl)
theorem dX1_init_5 : decode cX1_init 5 = .ok (.new 7, 3) := dk_187 0 7 (dk_at dksX1_init_0 5 rfl rfl)
theorem dX1_init_8 : decode cX1_init 8 = .ok (.dup, 1) := dk_89 (dk_at dksX1_init_0 8 rfl rfl)
theorem dX1_init_9 : decode cX1_init 9 = .ok (.invokespecial 9, 3) := dk_183 0 9 (dk_at dksX1_init_0 9 rfl rfl)
theorem dX1_init_12 : decode cX1_init 12 = .ok (.putfield 10, 3) := dk_181 0 10 (dk_at dksX1_init_0 12 rfl rfl)
theorem dX1_init_15 : decode cX1_init 15 = .ok (.aload_n 0, 1) := dk_42 (dk_at dksX1_init_0 15 rfl rfl)
theorem dX1_init_16 : decode cX1_init 16 = .ok (.new 7, 3) := dk_187 0 7 (dk_at dksX1_init_0 16 rfl rfl)
theorem dX1_init_19 : decode cX1_init 19 = .ok (.dup, 1) := dk_89 (dk_at dksX1_init_0 19 rfl rfl)
theorem dX1_init_20 : decode cX1_init 20 = .ok (.invokespecial 9, 3) := dk_183 0 9 (dk_at dksX1_init_0 20 rfl rfl)
theorem dX1_init_23 : decode cX1_init 23 = .ok (.putfield 16, 3) := dk_181 0 16 (dk_at dksX1_init_1 0 rfl rfl)
theorem dX1_init_26 : decode cX1_init 26 = .ok (.aload_n 0, 1) := dk_42 (dk_at dksX1_init_1 3 rfl rfl)
theorem dX1_init_27 : decode cX1_init 27 = .ok (.new 7, 3) := dk_187 0 7 (dk_at dksX1_init_1 4 rfl rfl)
theorem dX1_init_30 : decode cX1_init 30 = .ok (.dup, 1) := dk_89 (dk_at dksX1_init_1 7 rfl rfl)
theorem dX1_init_31 : decode cX1_init 31 = .ok (.invokespecial 9, 3) := dk_183 0 9 (dk_at dksX1_init_1 8 rfl rfl)
theorem dX1_init_34 : decode cX1_init 34 = .ok (.putfield 19, 3) := dk_181 0 19 (dk_at dksX1_init_1 11 rfl rfl)
theorem dX1_init_37 : decode cX1_init 37 = .ok (.aload_n 0, 1) := dk_42 (dk_at dksX1_init_1 14 rfl rfl)
theorem dX1_init_38 : decode cX1_init 38 = .ok (.bipush 36, 2) := dk_16 36 (dk_at dksX1_init_1 15 rfl rfl)
theorem dX1_init_40 : decode cX1_init 40 = .ok (.anewarray 22, 3) := dk_189 0 22 (dk_at dksX1_init_1 17 rfl rfl)
theorem dX1_init_43 : decode cX1_init 43 = .ok (.putfield 24, 3) := dk_181 0 24 (dk_at dksX1_init_1 20 rfl rfl)
theorem dX1_init_46 : decode cX1_init 46 = .ok (.aload_n 0, 1) := dk_42 (dk_at dksX1_init_1 23 rfl rfl)
theorem dX1_init_47 : decode cX1_init 47 = .ok (.iconst 4, 1) := dk_7 (dk_at dksX1_init_2 0 rfl rfl)
theorem dX1_init_48 : decode cX1_init 48 = .ok (.newarray .int, 2) := dk_188_10 (dk_at dksX1_init_2 1 rfl rfl)
theorem dX1_init_50 : decode cX1_init 50 = .ok (.putfield 28, 3) := dk_181 0 28 (dk_at dksX1_init_2 3 rfl rfl)
theorem dX1_init_53 : decode cX1_init 53 = .ok (.aload_n 0, 1) := dk_42 (dk_at dksX1_init_2 6 rfl rfl)
theorem dX1_init_54 : decode cX1_init 54 = .ok (.new 32, 3) := dk_187 0 32 (dk_at dksX1_init_2 7 rfl rfl)
theorem dX1_init_57 : decode cX1_init 57 = .ok (.dup, 1) := dk_89 (dk_at dksX1_init_2 10 rfl rfl)
theorem dX1_init_58 : decode cX1_init 58 = .ok (.aload_n 0, 1) := dk_42 (dk_at dksX1_init_2 11 rfl rfl)
theorem dX1_init_59 : decode cX1_init 59 = .ok (.getfield 19, 3) := dk_180 0 19 (dk_at dksX1_init_2 12 rfl rfl)
theorem dX1_init_62 : decode cX1_init 62 = .ok (.aload_n 0, 1) := dk_42 (dk_at dksX1_init_2 15 rfl rfl)
theorem dX1_init_63 : decode cX1_init 63 = .ok (.getfield 28, 3) := dk_180 0 28 (dk_at dksX1_init_2 16 rfl rfl)
theorem dX1_init_66 : decode cX1_init 66 = .ok (.invokespecial 34, 3) := dk_183 0 34 (dk_at dksX1_init_2 19 rfl rfl)
theorem dX1_init_69 : decode cX1_init 69 = .ok (.putfield 37, 3) := dk_181 0 37 (dk_at dksX1_init_3 0 rfl rfl)
theorem dX1_init_72 : decode cX1_init 72 = .ok (.aload_n 0, 1) := dk_42 (dk_at dksX1_init_3 3 rfl rfl)
theorem dX1_init_73 : decode cX1_init 73 = .ok (.bipush 6, 2) := dk_16 6 (dk_at dksX1_init_3 4 rfl rfl)
theorem dX1_init_75 : decode cX1_init 75 = .ok (.anewarray 41, 3) := dk_189 0 41 (dk_at dksX1_init_3 6 rfl rfl)
theorem dX1_init_78 : decode cX1_init 78 = .ok (.dup, 1) := dk_89 (dk_at dksX1_init_3 9 rfl rfl)
theorem dX1_init_79 : decode cX1_init 79 = .ok (.iconst 0, 1) := dk_3 (dk_at dksX1_init_3 10 rfl rfl)
theorem dX1_init_80 : decode cX1_init 80 = .ok (.new 43, 3) := dk_187 0 43 (dk_at dksX1_init_3 11 rfl rfl)
theorem dX1_init_83 : decode cX1_init 83 = .ok (.dup, 1) := dk_89 (dk_at dksX1_init_3 14 rfl rfl)
theorem dX1_init_84 : decode cX1_init 84 = .ok (.invokespecial 45, 3) := dk_183 0 45 (dk_at dksX1_init_3 15 rfl rfl)
theorem dX1_init_87 : decode cX1_init 87 = .ok (.aastore, 1) := dk_83 (dk_at dksX1_init_3 18 rfl rfl)
theorem dX1_init_88 : decode cX1_init 88 = .ok (.dup, 1) := dk_89 (dk_at dksX1_init_3 19 rfl rfl)
theorem dX1_init_89 : decode cX1_init 89 = .ok (.iconst 1, 1) := dk_4 (dk_at dksX1_init_3 20 rfl rfl)
theorem dX1_init_90 : decode cX1_init 90 = .ok (.new 46, 3) := dk_187 0 46 (dk_at dksX1_init_3 21 rfl rfl)
theorem dX1_init_93 : decode cX1_init 93 = .ok (.dup, 1) := dk_89 (dk_at dksX1_init_4 0 rfl rfl)
theorem dX1_init_94 : decode cX1_init 94 = .ok (.aload_n 0, 1) := dk_42 (dk_at dksX1_init_4 1 rfl rfl)
theorem dX1_init_95 : decode cX1_init 95 = .ok (.getfield 19, 3) := dk_180 0 19 (dk_at dksX1_init_4 2 rfl rfl)
theorem dX1_init_98 : decode cX1_init 98 = .ok (.aload_n 0, 1) := dk_42 (dk_at dksX1_init_4 5 rfl rfl)
theorem dX1_init_99 : decode cX1_init 99 = .ok (.getfield 24, 3) := dk_180 0 24 (dk_at dksX1_init_4 6 rfl rfl)
theorem dX1_init_102 : decode cX1_init 102 = .ok (.invokespecial 48, 3) := dk_183 0 48 (dk_at dksX1_init_4 9 rfl rfl)
theorem dX1_init_105 : decode cX1_init 105 = .ok (.aastore, 1) := dk_83 (dk_at dksX1_init_4 12 rfl rfl)
theorem dX1_init_106 : decode cX1_init 106 = .ok (.dup, 1) := dk_89 (dk_at dksX1_init_4 13 rfl rfl)
theorem dX1_init_107 : decode cX1_init 107 = .ok (.iconst 2, 1) := dk_5 (dk_at dksX1_init_4 14 rfl rfl)
theorem dX1_init_108 : decode cX1_init 108 = .ok (.new 51, 3) := dk_187 0 51 (dk_at dksX1_init_4 15 rfl rfl)
theorem dX1_init_111 : decode cX1_init 111 = .ok (.dup, 1) := dk_89 (dk_at dksX1_init_4 18 rfl rfl)
theorem dX1_init_112 : decode cX1_init 112 = .ok (.aload_n 0, 1) := dk_42 (dk_at dksX1_init_4 19 rfl rfl)
theorem dX1_init_113 : decode cX1_init 113 = .ok (.getfield 19, 3) := dk_180 0 19 (dk_at dksX1_init_4 20 rfl rfl)
theorem dX1_init_116 : decode cX1_init 116 = .ok (.invokespecial 53, 3) := dk_183 0 53 (dk_at dksX1_init_5 0 rfl rfl)
theorem dX1_init_119 : decode cX1_init 119 = .ok (.aastore, 1) := dk_83 (dk_at dksX1_init_5 3 rfl rfl)
theorem dX1_init_120 : decode cX1_init 120 = .ok (.dup, 1) := dk_89 (dk_at dksX1_init_5 4 rfl rfl)
theorem dX1_init_121 : decode cX1_init 121 = .ok (.iconst 3, 1) := dk_6 (dk_at dksX1_init_5 5 rfl rfl)
theorem dX1_init_122 : decode cX1_init 122 = .ok (.new 56, 3) := dk_187 0 56 (dk_at dksX1_init_5 6 rfl rfl)
theorem dX1_init_125 : decode cX1_init 125 = .ok (.dup, 1) := dk_89 (dk_at dksX1_init_5 9 rfl rfl)
theorem dX1_init_126 : decode cX1_init 126 = .ok (.invokespecial 58, 3) := dk_183 0 58 (dk_at dksX1_init_5 10 rfl rfl)
theorem dX1_init_129 : decode cX1_init 129 = .ok (.aastore, 1) := dk_83 (dk_at dksX1_init_5 13 rfl rfl)
theorem dX1_init_130 : decode cX1_init 130 = .ok (.dup, 1) := dk_89 (dk_at dksX1_init_5 14 rfl rfl)
theorem dX1_init_131 : decode cX1_init 131 = .ok (.iconst 4, 1) := dk_7 (dk_at dksX1_init_5 15 rfl rfl)
theorem dX1_init_132 : decode cX1_init 132 = .ok (.aload_n 0, 1) := dk_42 (dk_at dksX1_init_5 16 rfl rfl)
theorem dX1_init_133 : decode cX1_init 133 = .ok (.getfield 37, 3) := dk_180 0 37 (dk_at dksX1_init_5 17 rfl rfl)
theorem dX1_init_136 : decode cX1_init 136 = .ok (.aastore, 1) := dk_83 (dk_at dksX1_init_5 20 rfl rfl)
theorem dX1_init_137 : decode cX1_init 137 = .ok (.dup, 1) := dk_89 (dk_at dksX1_init_5 21 rfl rfl)
theorem dX1_init_138 : decode cX1_init 138 = .ok (.iconst 5, 1) := dk_8 (dk_at dksX1_init_5 22 rfl rfl)
theorem dX1_init_139 : decode cX1_init 139 = .ok (.new 59, 3) := dk_187 0 59 (dk_at dksX1_init_6 0 rfl rfl)
theorem dX1_init_142 : decode cX1_init 142 = .ok (.dup, 1) := dk_89 (dk_at dksX1_init_6 3 rfl rfl)
theorem dX1_init_143 : decode cX1_init 143 = .ok (.aload_n 0, 1) := dk_42 (dk_at dksX1_init_6 4 rfl rfl)
theorem dX1_init_144 : decode cX1_init 144 = .ok (.getfield 19, 3) := dk_180 0 19 (dk_at dksX1_init_6 5 rfl rfl)
theorem dX1_init_147 : decode cX1_init 147 = .ok (.invokespecial 61, 3) := dk_183 0 61 (dk_at dksX1_init_6 8 rfl rfl)
theorem dX1_init_150 : decode cX1_init 150 = .ok (.aastore, 1) := dk_83 (dk_at dksX1_init_6 11 rfl rfl)
theorem dX1_init_151 : decode cX1_init 151 = .ok (.putfield 62, 3) := dk_181 0 62 (dk_at dksX1_init_6 12 rfl rfl)
theorem dX1_init_154 : decode cX1_init 154 = .ok (.aload_n 0, 1) := dk_42 (dk_at dksX1_init_6 15 rfl rfl)
theorem dX1_init_155 : decode cX1_init 155 = .ok (.new 66, 3) := dk_187 0 66 (dk_at dksX1_init_6 16 rfl rfl)
theorem dX1_init_158 : decode cX1_init 158 = .ok (.dup, 1) := dk_89 (dk_at dksX1_init_6 19 rfl rfl)
theorem dX1_init_159 : decode cX1_init 159 = .ok (.lconst 0, 1) := dk_9 (dk_at dksX1_init_6 20 rfl rfl)
theorem dX1_init_160 : decode cX1_init 160 = .ok (.iconst 0, 1) := dk_3 (dk_at dksX1_init_6 21 rfl rfl)
theorem dX1_init_161 : decode cX1_init 161 = .ok (.invokespecial 68, 3) := dk_183 0 68 (dk_at dksX1_init_7 0 rfl rfl)
theorem dX1_init_164 : decode cX1_init 164 = .ok (.putfield 71, 3) := dk_181 0 71 (dk_at dksX1_init_7 3 rfl rfl)
theorem dX1_init_167 : decode cX1_init 167 = .ok (.iconst 0, 1) := dk_3 (dk_at dksX1_init_7 6 rfl rfl)
theorem dX1_init_168 : decode cX1_init 168 = .ok (.istore_n 1, 1) := dk_60 (dk_at dksX1_init_7 7 rfl rfl)
theorem dX1_init_169 : decode cX1_init 169 = .ok (.iload_n 1, 1) := dk_27 (dk_at dksX1_init_7 8 rfl rfl)
theorem dX1_init_170 : decode cX1_init 170 = .ok (.bipush 36, 2) := dk_16 36 (dk_at dksX1_init_7 9 rfl rfl)
theorem dX1_init_172 : decode cX1_init 172 = .ok (.if_icmp .ge 22, 3) := dk_162 0 22 (dk_at dksX1_init_7 11 rfl rfl)
theorem dX1_init_175 : decode cX1_init 175 = .ok (.aload_n 0, 1) := dk_42 (dk_at dksX1_init_7 14 rfl rfl)
theorem dX1_init_176 : decode cX1_init 176 = .ok (.getfield 24, 3) := dk_180 0 24 (dk_at dksX1_init_7 15 rfl rfl)
theorem dX1_init_179 : decode cX1_init 179 = .ok (.iload_n 1, 1) := dk_27 (dk_at dksX1_init_7 18 rfl rfl)
theorem dX1_init_180 : decode cX1_init 180 = .ok (.new 22, 3) := dk_187 0 22 (dk_at dksX1_init_7 19 rfl rfl)
theorem dX1_init_183 : decode cX1_init 183 = .ok (.dup, 1) := dk_89 (dk_at dksX1_init_7 22 rfl rfl)
theorem dX1_init_184 : decode cX1_init 184 = .ok (.invokespecial 75, 3) := dk_183 0 75 (dk_at dksX1_init_8 0 rfl rfl)
theorem dX1_init_187 : decode cX1_init 187 = .ok (.aastore, 1) := dk_83 (dk_at dksX1_init_8 3 rfl rfl)
theorem dX1_init_188 : decode cX1_init 188 = .ok (.iinc 1 1, 3) := dk_132 1 1 (dk_at dksX1_init_8 4 rfl rfl)
theorem dX1_init_191 : decode cX1_init 191 = .ok (.goto (-22), 3) := dk_167 255 234 (dk_at dksX1_init_8 7 rfl rfl)
theorem dX1_init_194 : decode cX1_init 194 = .ok (.return_, 1) := dk_177 (dk_at dksX1_init_8 10 rfl rfl)
abbrev cX1_initiator : ByteArray := prog_1_method_6_code
def yX1_initiator : MethodName := ⟨RX1, "initiator", "()I"⟩
def dkwX1_initiator_1 : List UInt8 := [183, 0, 94, 185, 0, 95, 2, 0, 87, 42, 180, 0, 10, 185, 0, 80, 1, 0, 172]
abbrev dktX1_initiator_1 : List UInt8 := dkwX1_initiator_1 ++ []
def dkwX1_initiator_0 : List UInt8 := [42, 180, 0, 10, 185, 0, 80, 1, 0, 16, 12, 160, 0, 5, 2, 172, 42, 180, 0, 10, 187, 0, 90, 89]
abbrev dktX1_initiator_0 : List UInt8 := dkwX1_initiator_0 ++ dktX1_initiator_1
theorem dksX1_initiator_0 : cX1_initiator.data.toList.drop 0 = dktX1_initiator_0 := by decide +kernel
theorem dksX1_initiator_1 : cX1_initiator.data.toList.drop 24 = dktX1_initiator_1 := dk_seg dksX1_initiator_0 24 rfl rfl
theorem dX1_initiator_0 : decode cX1_initiator 0 = .ok (.aload_n 0, 1) := dk_42 (dk_at dksX1_initiator_0 0 rfl rfl)
theorem dX1_initiator_1 : decode cX1_initiator 1 = .ok (.getfield 10, 3) := dk_180 0 10 (dk_at dksX1_initiator_0 1 rfl rfl)
theorem dX1_initiator_4 : decode cX1_initiator 4 = .ok (.invokeinterface 80 1, 5) := by decide +kernel
theorem dX1_initiator_9 : decode cX1_initiator 9 = .ok (.bipush 12, 2) := dk_16 12 (dk_at dksX1_initiator_0 9 rfl rfl)
theorem dX1_initiator_11 : decode cX1_initiator 11 = .ok (.if_icmp .ne 5, 3) := dk_160 0 5 (dk_at dksX1_initiator_0 11 rfl rfl)
theorem dX1_initiator_14 : decode cX1_initiator 14 = .ok (.iconst (-1), 1) := dk_2 (dk_at dksX1_initiator_0 14 rfl rfl)
theorem dX1_initiator_15 : decode cX1_initiator 15 = .ok (.ireturn, 1) := dk_172 (dk_at dksX1_initiator_0 15 rfl rfl)
theorem dX1_initiator_16 : decode cX1_initiator 16 = .ok (.aload_n 0, 1) := dk_42 (dk_at dksX1_initiator_0 16 rfl rfl)
theorem dX1_initiator_17 : decode cX1_initiator 17 = .ok (.getfield 10, 3) := dk_180 0 10 (dk_at dksX1_initiator_0 17 rfl rfl)
theorem dX1_initiator_20 : decode cX1_initiator 20 = .ok (.new 90, 3) := dk_187 0 90 (dk_at dksX1_initiator_0 20 rfl rfl)
theorem dX1_initiator_23 : decode cX1_initiator 23 = .ok (.dup, 1) := dk_89 (dk_at dksX1_initiator_0 23 rfl rfl)
theorem dX1_initiator_24 : decode cX1_initiator 24 = .ok (.invokespecial 94, 3) := dk_183 0 94 (dk_at dksX1_initiator_1 0 rfl rfl)
theorem dX1_initiator_27 : decode cX1_initiator 27 = .ok (.invokeinterface 95 2, 5) := by decide +kernel
theorem dX1_initiator_32 : decode cX1_initiator 32 = .ok (.pop, 1) := dk_87 (dk_at dksX1_initiator_1 8 rfl rfl)
theorem dX1_initiator_33 : decode cX1_initiator 33 = .ok (.aload_n 0, 1) := dk_42 (dk_at dksX1_initiator_1 9 rfl rfl)
theorem dX1_initiator_34 : decode cX1_initiator 34 = .ok (.getfield 10, 3) := dk_180 0 10 (dk_at dksX1_initiator_1 10 rfl rfl)
theorem dX1_initiator_37 : decode cX1_initiator 37 = .ok (.invokeinterface 80 1, 5) := by decide +kernel
theorem dX1_initiator_42 : decode cX1_initiator 42 = .ok (.ireturn, 1) := dk_172 (dk_at dksX1_initiator_1 18 rfl rfl)
abbrev cX1_cls : ByteArray := prog_1_method_7_code
def yX1_cls : MethodName := ⟨RX1, "cls", "(III)I"⟩
def dkwX1_cls_2 : List UInt8 := [4, 172]
abbrev dktX1_cls_2 : List UInt8 := dkwX1_cls_2 ++ []
def dkwX1_cls_1 : List UInt8 := [153, 0, 13, 29, 2, 16, 35, 184, 0, 76, 154, 0, 6, 16, 252, 172, 25, 4, 180, 0, 103, 28, 29, 79]
abbrev dktX1_cls_1 : List UInt8 := dkwX1_cls_1 ++ dktX1_cls_2
def dkwX1_cls_0 : List UInt8 := [42, 27, 182, 0, 99, 58, 4, 25, 4, 199, 0, 6, 16, 254, 172, 28, 3, 16, 7, 184, 0, 76]
abbrev dktX1_cls_0 : List UInt8 := dkwX1_cls_0 ++ dktX1_cls_1
theorem dksX1_cls_0 : cX1_cls.data.toList.drop 0 = dktX1_cls_0 := by decide +kernel
theorem dksX1_cls_1 : cX1_cls.data.toList.drop 22 = dktX1_cls_1 := dk_seg dksX1_cls_0 22 rfl rfl
theorem dksX1_cls_2 : cX1_cls.data.toList.drop 46 = dktX1_cls_2 := dk_seg dksX1_cls_1 24 rfl rfl
theorem dX1_cls_0 : decode cX1_cls 0 = .ok (.aload_n 0, 1) := dk_42 (dk_at dksX1_cls_0 0 rfl rfl)
theorem dX1_cls_1 : decode cX1_cls 1 = .ok (.iload_n 1, 1) := dk_27 (dk_at dksX1_cls_0 1 rfl rfl)
theorem dX1_cls_2 : decode cX1_cls 2 = .ok (.invokevirtual 99, 3) := dk_182 0 99 (dk_at dksX1_cls_0 2 rfl rfl)
theorem dX1_cls_5 : decode cX1_cls 5 = .ok (.astore 4, 2) := dk_58 4 (dk_at dksX1_cls_0 5 rfl rfl)
theorem dX1_cls_7 : decode cX1_cls 7 = .ok (.aload 4, 2) := dk_25 4 (dk_at dksX1_cls_0 7 rfl rfl)
theorem dX1_cls_9 : decode cX1_cls 9 = .ok (.ifnonnull 6, 3) := dk_199 0 6 (dk_at dksX1_cls_0 9 rfl rfl)
theorem dX1_cls_12 : decode cX1_cls 12 = .ok (.bipush (-2), 2) := dk_16 254 (dk_at dksX1_cls_0 12 rfl rfl)
theorem dX1_cls_14 : decode cX1_cls 14 = .ok (.ireturn, 1) := dk_172 (dk_at dksX1_cls_0 14 rfl rfl)
theorem dX1_cls_15 : decode cX1_cls 15 = .ok (.iload_n 2, 1) := dk_28 (dk_at dksX1_cls_0 15 rfl rfl)
theorem dX1_cls_16 : decode cX1_cls 16 = .ok (.iconst 0, 1) := dk_3 (dk_at dksX1_cls_0 16 rfl rfl)
theorem dX1_cls_17 : decode cX1_cls 17 = .ok (.bipush 7, 2) := dk_16 7 (dk_at dksX1_cls_0 17 rfl rfl)
theorem dX1_cls_19 : decode cX1_cls 19 = .ok (.invokestatic 76, 3) := dk_184 0 76 (dk_at dksX1_cls_0 19 rfl rfl)
theorem dX1_cls_22 : decode cX1_cls 22 = .ok (.ifCond .eq 13, 3) := dk_153 0 13 (dk_at dksX1_cls_1 0 rfl rfl)
theorem dX1_cls_25 : decode cX1_cls 25 = .ok (.iload_n 3, 1) := dk_29 (dk_at dksX1_cls_1 3 rfl rfl)
theorem dX1_cls_26 : decode cX1_cls 26 = .ok (.iconst (-1), 1) := dk_2 (dk_at dksX1_cls_1 4 rfl rfl)
theorem dX1_cls_27 : decode cX1_cls 27 = .ok (.bipush 35, 2) := dk_16 35 (dk_at dksX1_cls_1 5 rfl rfl)
theorem dX1_cls_29 : decode cX1_cls 29 = .ok (.invokestatic 76, 3) := dk_184 0 76 (dk_at dksX1_cls_1 7 rfl rfl)
theorem dX1_cls_32 : decode cX1_cls 32 = .ok (.ifCond .ne 6, 3) := dk_154 0 6 (dk_at dksX1_cls_1 10 rfl rfl)
theorem dX1_cls_35 : decode cX1_cls 35 = .ok (.bipush (-4), 2) := dk_16 252 (dk_at dksX1_cls_1 13 rfl rfl)
theorem dX1_cls_37 : decode cX1_cls 37 = .ok (.ireturn, 1) := dk_172 (dk_at dksX1_cls_1 15 rfl rfl)
theorem dX1_cls_38 : decode cX1_cls 38 = .ok (.aload 4, 2) := dk_25 4 (dk_at dksX1_cls_1 16 rfl rfl)
theorem dX1_cls_40 : decode cX1_cls 40 = .ok (.getfield 103, 3) := dk_180 0 103 (dk_at dksX1_cls_1 18 rfl rfl)
theorem dX1_cls_43 : decode cX1_cls 43 = .ok (.iload_n 2, 1) := dk_28 (dk_at dksX1_cls_1 21 rfl rfl)
theorem dX1_cls_44 : decode cX1_cls 44 = .ok (.iload_n 3, 1) := dk_29 (dk_at dksX1_cls_1 22 rfl rfl)
theorem dX1_cls_45 : decode cX1_cls 45 = .ok (.iastore, 1) := dk_79 (dk_at dksX1_cls_1 23 rfl rfl)
theorem dX1_cls_46 : decode cX1_cls 46 = .ok (.iconst 1, 1) := dk_4 (dk_at dksX1_cls_2 0 rfl rfl)
theorem dX1_cls_47 : decode cX1_cls 47 = .ok (.ireturn, 1) := dk_172 (dk_at dksX1_cls_2 1 rfl rfl)
abbrev cX1_initiator_2 : ByteArray := prog_1_method_4_code
def yX1_initiator_2 : MethodName := ⟨RX1, "initiator", "(I)LInitiatorRows$Initiator;"⟩
def dkwX1_initiator_2_1 : List UInt8 := [185, 0, 86, 2, 0, 192, 0, 90, 167, 0, 4, 1, 176]
abbrev dktX1_initiator_2_1 : List UInt8 := dkwX1_initiator_2_1 ++ []
def dkwX1_initiator_2_0 : List UInt8 := [27, 4, 42, 180, 0, 10, 185, 0, 80, 1, 0, 184, 0, 76, 153, 0, 21, 42, 180, 0, 10, 27, 4, 100]
abbrev dktX1_initiator_2_0 : List UInt8 := dkwX1_initiator_2_0 ++ dktX1_initiator_2_1
theorem dksX1_initiator_2_0 : cX1_initiator_2.data.toList.drop 0 = dktX1_initiator_2_0 := by decide +kernel
theorem dksX1_initiator_2_1 : cX1_initiator_2.data.toList.drop 24 = dktX1_initiator_2_1 := dk_seg dksX1_initiator_2_0 24 rfl rfl
theorem dX1_initiator_2_0 : decode cX1_initiator_2 0 = .ok (.iload_n 1, 1) := dk_27 (dk_at dksX1_initiator_2_0 0 rfl rfl)
theorem dX1_initiator_2_1 : decode cX1_initiator_2 1 = .ok (.iconst 1, 1) := dk_4 (dk_at dksX1_initiator_2_0 1 rfl rfl)
theorem dX1_initiator_2_2 : decode cX1_initiator_2 2 = .ok (.aload_n 0, 1) := dk_42 (dk_at dksX1_initiator_2_0 2 rfl rfl)
theorem dX1_initiator_2_3 : decode cX1_initiator_2 3 = .ok (.getfield 10, 3) := dk_180 0 10 (dk_at dksX1_initiator_2_0 3 rfl rfl)
theorem dX1_initiator_2_6 : decode cX1_initiator_2 6 = .ok (.invokeinterface 80 1, 5) := by decide +kernel
theorem dX1_initiator_2_11 : decode cX1_initiator_2 11 = .ok (.invokestatic 76, 3) := dk_184 0 76 (dk_at dksX1_initiator_2_0 11 rfl rfl)
theorem dX1_initiator_2_14 : decode cX1_initiator_2 14 = .ok (.ifCond .eq 21, 3) := dk_153 0 21 (dk_at dksX1_initiator_2_0 14 rfl rfl)
theorem dX1_initiator_2_17 : decode cX1_initiator_2 17 = .ok (.aload_n 0, 1) := dk_42 (dk_at dksX1_initiator_2_0 17 rfl rfl)
theorem dX1_initiator_2_18 : decode cX1_initiator_2 18 = .ok (.getfield 10, 3) := dk_180 0 10 (dk_at dksX1_initiator_2_0 18 rfl rfl)
theorem dX1_initiator_2_21 : decode cX1_initiator_2 21 = .ok (.iload_n 1, 1) := dk_27 (dk_at dksX1_initiator_2_0 21 rfl rfl)
theorem dX1_initiator_2_22 : decode cX1_initiator_2 22 = .ok (.iconst 1, 1) := dk_4 (dk_at dksX1_initiator_2_0 22 rfl rfl)
theorem dX1_initiator_2_23 : decode cX1_initiator_2 23 = .ok (.isub, 1) := dk_100 (dk_at dksX1_initiator_2_0 23 rfl rfl)
theorem dX1_initiator_2_24 : decode cX1_initiator_2 24 = .ok (.invokeinterface 86 2, 5) := by decide +kernel
theorem dX1_initiator_2_29 : decode cX1_initiator_2 29 = .ok (.checkcast 90, 3) := dk_192 0 90 (dk_at dksX1_initiator_2_1 5 rfl rfl)
theorem dX1_initiator_2_32 : decode cX1_initiator_2 32 = .ok (.goto 4, 3) := dk_167 0 4 (dk_at dksX1_initiator_2_1 8 rfl rfl)
theorem dX1_initiator_2_35 : decode cX1_initiator_2 35 = .ok (.aconst_null, 1) := dk_1 (dk_at dksX1_initiator_2_1 11 rfl rfl)
theorem dX1_initiator_2_36 : decode cX1_initiator_2 36 = .ok (.areturn, 1) := dk_176 (dk_at dksX1_initiator_2_1 12 rfl rfl)
abbrev cX1_isIn : ByteArray := prog_1_method_2_code
def yX1_isIn : MethodName := ⟨RX1, "isIn", "(III)Z"⟩
def dkwX1_isIn_0 : List UInt8 := [26, 27, 161, 0, 12, 26, 28, 163, 0, 7, 4, 167, 0, 4, 3, 172]
abbrev dktX1_isIn_0 : List UInt8 := dkwX1_isIn_0 ++ []
theorem dksX1_isIn_0 : cX1_isIn.data.toList.drop 0 = dktX1_isIn_0 := by decide +kernel
theorem dX1_isIn_0 : decode cX1_isIn 0 = .ok (.iload_n 0, 1) := dk_26 (dk_at dksX1_isIn_0 0 rfl rfl)
theorem dX1_isIn_1 : decode cX1_isIn 1 = .ok (.iload_n 1, 1) := dk_27 (dk_at dksX1_isIn_0 1 rfl rfl)
theorem dX1_isIn_2 : decode cX1_isIn 2 = .ok (.if_icmp .lt 12, 3) := dk_161 0 12 (dk_at dksX1_isIn_0 2 rfl rfl)
theorem dX1_isIn_5 : decode cX1_isIn 5 = .ok (.iload_n 0, 1) := dk_26 (dk_at dksX1_isIn_0 5 rfl rfl)
theorem dX1_isIn_6 : decode cX1_isIn 6 = .ok (.iload_n 2, 1) := dk_28 (dk_at dksX1_isIn_0 6 rfl rfl)
theorem dX1_isIn_7 : decode cX1_isIn 7 = .ok (.if_icmp .gt 7, 3) := dk_163 0 7 (dk_at dksX1_isIn_0 7 rfl rfl)
theorem dX1_isIn_10 : decode cX1_isIn 10 = .ok (.iconst 1, 1) := dk_4 (dk_at dksX1_isIn_0 10 rfl rfl)
theorem dX1_isIn_11 : decode cX1_isIn 11 = .ok (.goto 4, 3) := dk_167 0 4 (dk_at dksX1_isIn_0 11 rfl rfl)
theorem dX1_isIn_14 : decode cX1_isIn 14 = .ok (.iconst 0, 1) := dk_3 (dk_at dksX1_isIn_0 14 rfl rfl)
theorem dX1_isIn_15 : decode cX1_isIn 15 = .ok (.ireturn, 1) := dk_172 (dk_at dksX1_isIn_0 15 rfl rfl)
abbrev cX1_limit : ByteArray := prog_1_method_8_code
def yX1_limit : MethodName := ⟨RX1, "limit", "(II)I"⟩
def dkwX1_limit_1 : List UInt8 := [27, 50, 28, 181, 0, 110, 4, 172]
abbrev dktX1_limit_1 : List UInt8 := dkwX1_limit_1 ++ []
def dkwX1_limit_0 : List UInt8 := [27, 184, 0, 106, 153, 0, 13, 28, 3, 16, 40, 184, 0, 76, 154, 0, 6, 16, 252, 172, 42, 180, 0, 24]
abbrev dktX1_limit_0 : List UInt8 := dkwX1_limit_0 ++ dktX1_limit_1
theorem dksX1_limit_0 : cX1_limit.data.toList.drop 0 = dktX1_limit_0 := by decide +kernel
theorem dksX1_limit_1 : cX1_limit.data.toList.drop 24 = dktX1_limit_1 := dk_seg dksX1_limit_0 24 rfl rfl
theorem dX1_limit_0 : decode cX1_limit 0 = .ok (.iload_n 1, 1) := dk_27 (dk_at dksX1_limit_0 0 rfl rfl)
theorem dX1_limit_1 : decode cX1_limit 1 = .ok (.invokestatic 106, 3) := dk_184 0 106 (dk_at dksX1_limit_0 1 rfl rfl)
theorem dX1_limit_4 : decode cX1_limit 4 = .ok (.ifCond .eq 13, 3) := dk_153 0 13 (dk_at dksX1_limit_0 4 rfl rfl)
theorem dX1_limit_7 : decode cX1_limit 7 = .ok (.iload_n 2, 1) := dk_28 (dk_at dksX1_limit_0 7 rfl rfl)
theorem dX1_limit_8 : decode cX1_limit 8 = .ok (.iconst 0, 1) := dk_3 (dk_at dksX1_limit_0 8 rfl rfl)
theorem dX1_limit_9 : decode cX1_limit 9 = .ok (.bipush 40, 2) := dk_16 40 (dk_at dksX1_limit_0 9 rfl rfl)
theorem dX1_limit_11 : decode cX1_limit 11 = .ok (.invokestatic 76, 3) := dk_184 0 76 (dk_at dksX1_limit_0 11 rfl rfl)
theorem dX1_limit_14 : decode cX1_limit 14 = .ok (.ifCond .ne 6, 3) := dk_154 0 6 (dk_at dksX1_limit_0 14 rfl rfl)
theorem dX1_limit_17 : decode cX1_limit 17 = .ok (.bipush (-4), 2) := dk_16 252 (dk_at dksX1_limit_0 17 rfl rfl)
theorem dX1_limit_19 : decode cX1_limit 19 = .ok (.ireturn, 1) := dk_172 (dk_at dksX1_limit_0 19 rfl rfl)
theorem dX1_limit_20 : decode cX1_limit 20 = .ok (.aload_n 0, 1) := dk_42 (dk_at dksX1_limit_0 20 rfl rfl)
theorem dX1_limit_21 : decode cX1_limit 21 = .ok (.getfield 24, 3) := dk_180 0 24 (dk_at dksX1_limit_0 21 rfl rfl)
theorem dX1_limit_24 : decode cX1_limit 24 = .ok (.iload_n 1, 1) := dk_27 (dk_at dksX1_limit_1 0 rfl rfl)
theorem dX1_limit_25 : decode cX1_limit 25 = .ok (.aaload, 1) := dk_50 (dk_at dksX1_limit_1 1 rfl rfl)
theorem dX1_limit_26 : decode cX1_limit 26 = .ok (.iload_n 2, 1) := dk_28 (dk_at dksX1_limit_1 2 rfl rfl)
theorem dX1_limit_27 : decode cX1_limit 27 = .ok (.putfield 110, 3) := dk_181 0 110 (dk_at dksX1_limit_1 3 rfl rfl)
theorem dX1_limit_30 : decode cX1_limit 30 = .ok (.iconst 1, 1) := dk_4 (dk_at dksX1_limit_1 6 rfl rfl)
theorem dX1_limit_31 : decode cX1_limit 31 = .ok (.ireturn, 1) := dk_172 (dk_at dksX1_limit_1 7 rfl rfl)
abbrev cX1_isClass : ByteArray := prog_1_method_3_code
def yX1_isClass : MethodName := ⟨RX1, "isClass", "(I)Z"⟩
def dkwX1_isClass_0 : List UInt8 := [26, 3, 16, 35, 184, 0, 76, 172]
abbrev dktX1_isClass_0 : List UInt8 := dkwX1_isClass_0 ++ []
theorem dksX1_isClass_0 : cX1_isClass.data.toList.drop 0 = dktX1_isClass_0 := by decide +kernel
theorem dX1_isClass_0 : decode cX1_isClass 0 = .ok (.iload_n 0, 1) := dk_26 (dk_at dksX1_isClass_0 0 rfl rfl)
theorem dX1_isClass_1 : decode cX1_isClass 1 = .ok (.iconst 0, 1) := dk_3 (dk_at dksX1_isClass_0 1 rfl rfl)
theorem dX1_isClass_2 : decode cX1_isClass 2 = .ok (.bipush 35, 2) := dk_16 35 (dk_at dksX1_isClass_0 2 rfl rfl)
theorem dX1_isClass_4 : decode cX1_isClass 4 = .ok (.invokestatic 76, 3) := dk_184 0 76 (dk_at dksX1_isClass_0 4 rfl rfl)
theorem dX1_isClass_7 : decode cX1_isClass 7 = .ok (.ireturn, 1) := dk_172 (dk_at dksX1_isClass_0 7 rfl rfl)
abbrev cX1_window : ByteArray := prog_1_method_9_code
def yX1_window : MethodName := ⟨RX1, "window", "(III)I"⟩
def dkwX1_window_2 : List UInt8 := [50, 29, 181, 0, 117, 4, 172]
abbrev dktX1_window_2 : List UInt8 := dkwX1_window_2 ++ []
def dkwX1_window_1 : List UInt8 := [184, 0, 76, 154, 0, 6, 16, 252, 172, 42, 180, 0, 24, 27, 50, 28, 181, 0, 114, 42, 180, 0, 24, 27]
abbrev dktX1_window_1 : List UInt8 := dkwX1_window_1 ++ dktX1_window_2
def dkwX1_window_0 : List UInt8 := [27, 184, 0, 106, 153, 0, 25, 28, 3, 17, 5, 159, 184, 0, 76, 153, 0, 14, 29, 3, 17, 5, 159]
abbrev dktX1_window_0 : List UInt8 := dkwX1_window_0 ++ dktX1_window_1
theorem dksX1_window_0 : cX1_window.data.toList.drop 0 = dktX1_window_0 := by decide +kernel
theorem dksX1_window_1 : cX1_window.data.toList.drop 23 = dktX1_window_1 := dk_seg dksX1_window_0 23 rfl rfl
theorem dksX1_window_2 : cX1_window.data.toList.drop 47 = dktX1_window_2 := dk_seg dksX1_window_1 24 rfl rfl
theorem dX1_window_0 : decode cX1_window 0 = .ok (.iload_n 1, 1) := dk_27 (dk_at dksX1_window_0 0 rfl rfl)
theorem dX1_window_1 : decode cX1_window 1 = .ok (.invokestatic 106, 3) := dk_184 0 106 (dk_at dksX1_window_0 1 rfl rfl)
theorem dX1_window_4 : decode cX1_window 4 = .ok (.ifCond .eq 25, 3) := dk_153 0 25 (dk_at dksX1_window_0 4 rfl rfl)
theorem dX1_window_7 : decode cX1_window 7 = .ok (.iload_n 2, 1) := dk_28 (dk_at dksX1_window_0 7 rfl rfl)
theorem dX1_window_8 : decode cX1_window 8 = .ok (.iconst 0, 1) := dk_3 (dk_at dksX1_window_0 8 rfl rfl)
theorem dX1_window_9 : decode cX1_window 9 = .ok (.sipush 1439, 3) := dk_17 5 159 (dk_at dksX1_window_0 9 rfl rfl)
theorem dX1_window_12 : decode cX1_window 12 = .ok (.invokestatic 76, 3) := dk_184 0 76 (dk_at dksX1_window_0 12 rfl rfl)
theorem dX1_window_15 : decode cX1_window 15 = .ok (.ifCond .eq 14, 3) := dk_153 0 14 (dk_at dksX1_window_0 15 rfl rfl)
theorem dX1_window_18 : decode cX1_window 18 = .ok (.iload_n 3, 1) := dk_29 (dk_at dksX1_window_0 18 rfl rfl)
theorem dX1_window_19 : decode cX1_window 19 = .ok (.iconst 0, 1) := dk_3 (dk_at dksX1_window_0 19 rfl rfl)
theorem dX1_window_20 : decode cX1_window 20 = .ok (.sipush 1439, 3) := dk_17 5 159 (dk_at dksX1_window_0 20 rfl rfl)
theorem dX1_window_23 : decode cX1_window 23 = .ok (.invokestatic 76, 3) := dk_184 0 76 (dk_at dksX1_window_1 0 rfl rfl)
theorem dX1_window_26 : decode cX1_window 26 = .ok (.ifCond .ne 6, 3) := dk_154 0 6 (dk_at dksX1_window_1 3 rfl rfl)
theorem dX1_window_29 : decode cX1_window 29 = .ok (.bipush (-4), 2) := dk_16 252 (dk_at dksX1_window_1 6 rfl rfl)
theorem dX1_window_31 : decode cX1_window 31 = .ok (.ireturn, 1) := dk_172 (dk_at dksX1_window_1 8 rfl rfl)
theorem dX1_window_32 : decode cX1_window 32 = .ok (.aload_n 0, 1) := dk_42 (dk_at dksX1_window_1 9 rfl rfl)
theorem dX1_window_33 : decode cX1_window 33 = .ok (.getfield 24, 3) := dk_180 0 24 (dk_at dksX1_window_1 10 rfl rfl)
theorem dX1_window_36 : decode cX1_window 36 = .ok (.iload_n 1, 1) := dk_27 (dk_at dksX1_window_1 13 rfl rfl)
theorem dX1_window_37 : decode cX1_window 37 = .ok (.aaload, 1) := dk_50 (dk_at dksX1_window_1 14 rfl rfl)
theorem dX1_window_38 : decode cX1_window 38 = .ok (.iload_n 2, 1) := dk_28 (dk_at dksX1_window_1 15 rfl rfl)
theorem dX1_window_39 : decode cX1_window 39 = .ok (.putfield 114, 3) := dk_181 0 114 (dk_at dksX1_window_1 16 rfl rfl)
theorem dX1_window_42 : decode cX1_window 42 = .ok (.aload_n 0, 1) := dk_42 (dk_at dksX1_window_1 19 rfl rfl)
theorem dX1_window_43 : decode cX1_window 43 = .ok (.getfield 24, 3) := dk_180 0 24 (dk_at dksX1_window_1 20 rfl rfl)
theorem dX1_window_46 : decode cX1_window 46 = .ok (.iload_n 1, 1) := dk_27 (dk_at dksX1_window_1 23 rfl rfl)
theorem dX1_window_47 : decode cX1_window 47 = .ok (.aaload, 1) := dk_50 (dk_at dksX1_window_2 0 rfl rfl)
theorem dX1_window_48 : decode cX1_window 48 = .ok (.iload_n 3, 1) := dk_29 (dk_at dksX1_window_2 1 rfl rfl)
theorem dX1_window_49 : decode cX1_window 49 = .ok (.putfield 117, 3) := dk_181 0 117 (dk_at dksX1_window_2 2 rfl rfl)
theorem dX1_window_52 : decode cX1_window 52 = .ok (.iconst 1, 1) := dk_4 (dk_at dksX1_window_2 5 rfl rfl)
theorem dX1_window_53 : decode cX1_window 53 = .ok (.ireturn, 1) := dk_172 (dk_at dksX1_window_2 6 rfl rfl)
abbrev cX1_job : ByteArray := prog_1_method_10_code
def yX1_job : MethodName := ⟨RX1, "job", "(IIIJ)I"⟩
def dkwX1_job_4 : List UInt8 := [185, 0, 95, 2, 0, 87, 42, 180, 0, 16, 185, 0, 80, 1, 0, 172]
abbrev dktX1_job_4 : List UInt8 := dkwX1_job_4 ++ []
def dkwX1_job_3 : List UInt8 := [187, 0, 92, 89, 42, 180, 0, 16, 185, 0, 80, 1, 0, 4, 96, 27, 28, 29, 22, 4, 183, 0, 124]
abbrev dktX1_job_3 : List UInt8 := dkwX1_job_3 ++ dktX1_job_4
def dkwX1_job_2 : List UInt8 := [185, 0, 80, 1, 0, 16, 100, 160, 0, 5, 2, 172, 42, 22, 4, 181, 0, 120, 42, 180, 0, 16]
abbrev dktX1_job_2 : List UInt8 := dkwX1_job_2 ++ dktX1_job_3
def dkwX1_job_1 : List UInt8 := [153, 0, 13, 22, 4, 42, 180, 0, 120, 148, 156, 0, 6, 16, 252, 172, 42, 180, 0, 16]
abbrev dktX1_job_1 : List UInt8 := dkwX1_job_1 ++ dktX1_job_2
def dkwX1_job_0 : List UInt8 := [27, 184, 0, 106, 153, 0, 33, 28, 3, 16, 15, 184, 0, 76, 153, 0, 23, 29, 3, 16, 99, 184, 0, 76]
abbrev dktX1_job_0 : List UInt8 := dkwX1_job_0 ++ dktX1_job_1
theorem dksX1_job_0 : cX1_job.data.toList.drop 0 = dktX1_job_0 := by decide +kernel
theorem dksX1_job_1 : cX1_job.data.toList.drop 24 = dktX1_job_1 := dk_seg dksX1_job_0 24 rfl rfl
theorem dksX1_job_2 : cX1_job.data.toList.drop 44 = dktX1_job_2 := dk_seg dksX1_job_1 20 rfl rfl
theorem dksX1_job_3 : cX1_job.data.toList.drop 66 = dktX1_job_3 := dk_seg dksX1_job_2 22 rfl rfl
theorem dksX1_job_4 : cX1_job.data.toList.drop 89 = dktX1_job_4 := dk_seg dksX1_job_3 23 rfl rfl
theorem dX1_job_0 : decode cX1_job 0 = .ok (.iload_n 1, 1) := dk_27 (dk_at dksX1_job_0 0 rfl rfl)
theorem dX1_job_1 : decode cX1_job 1 = .ok (.invokestatic 106, 3) := dk_184 0 106 (dk_at dksX1_job_0 1 rfl rfl)
theorem dX1_job_4 : decode cX1_job 4 = .ok (.ifCond .eq 33, 3) := dk_153 0 33 (dk_at dksX1_job_0 4 rfl rfl)
theorem dX1_job_7 : decode cX1_job 7 = .ok (.iload_n 2, 1) := dk_28 (dk_at dksX1_job_0 7 rfl rfl)
theorem dX1_job_8 : decode cX1_job 8 = .ok (.iconst 0, 1) := dk_3 (dk_at dksX1_job_0 8 rfl rfl)
theorem dX1_job_9 : decode cX1_job 9 = .ok (.bipush 15, 2) := dk_16 15 (dk_at dksX1_job_0 9 rfl rfl)
theorem dX1_job_11 : decode cX1_job 11 = .ok (.invokestatic 76, 3) := dk_184 0 76 (dk_at dksX1_job_0 11 rfl rfl)
theorem dX1_job_14 : decode cX1_job 14 = .ok (.ifCond .eq 23, 3) := dk_153 0 23 (dk_at dksX1_job_0 14 rfl rfl)
theorem dX1_job_17 : decode cX1_job 17 = .ok (.iload_n 3, 1) := dk_29 (dk_at dksX1_job_0 17 rfl rfl)
theorem dX1_job_18 : decode cX1_job 18 = .ok (.iconst 0, 1) := dk_3 (dk_at dksX1_job_0 18 rfl rfl)
theorem dX1_job_19 : decode cX1_job 19 = .ok (.bipush 99, 2) := dk_16 99 (dk_at dksX1_job_0 19 rfl rfl)
theorem dX1_job_21 : decode cX1_job 21 = .ok (.invokestatic 76, 3) := dk_184 0 76 (dk_at dksX1_job_0 21 rfl rfl)
theorem dX1_job_24 : decode cX1_job 24 = .ok (.ifCond .eq 13, 3) := dk_153 0 13 (dk_at dksX1_job_1 0 rfl rfl)
theorem dX1_job_27 : decode cX1_job 27 = .ok (.lload 4, 2) := dk_22 4 (dk_at dksX1_job_1 3 rfl rfl)
theorem dX1_job_29 : decode cX1_job 29 = .ok (.aload_n 0, 1) := dk_42 (dk_at dksX1_job_1 5 rfl rfl)
theorem dX1_job_30 : decode cX1_job 30 = .ok (.getfield 120, 3) := dk_180 0 120 (dk_at dksX1_job_1 6 rfl rfl)
theorem dX1_job_33 : decode cX1_job 33 = .ok (.lcmp, 1) := dk_148 (dk_at dksX1_job_1 9 rfl rfl)
theorem dX1_job_34 : decode cX1_job 34 = .ok (.ifCond .ge 6, 3) := dk_156 0 6 (dk_at dksX1_job_1 10 rfl rfl)
theorem dX1_job_37 : decode cX1_job 37 = .ok (.bipush (-4), 2) := dk_16 252 (dk_at dksX1_job_1 13 rfl rfl)
theorem dX1_job_39 : decode cX1_job 39 = .ok (.ireturn, 1) := dk_172 (dk_at dksX1_job_1 15 rfl rfl)
theorem dX1_job_40 : decode cX1_job 40 = .ok (.aload_n 0, 1) := dk_42 (dk_at dksX1_job_1 16 rfl rfl)
theorem dX1_job_41 : decode cX1_job 41 = .ok (.getfield 16, 3) := dk_180 0 16 (dk_at dksX1_job_1 17 rfl rfl)
theorem dX1_job_44 : decode cX1_job 44 = .ok (.invokeinterface 80 1, 5) := by decide +kernel
theorem dX1_job_49 : decode cX1_job 49 = .ok (.bipush 100, 2) := dk_16 100 (dk_at dksX1_job_2 5 rfl rfl)
theorem dX1_job_51 : decode cX1_job 51 = .ok (.if_icmp .ne 5, 3) := dk_160 0 5 (dk_at dksX1_job_2 7 rfl rfl)
theorem dX1_job_54 : decode cX1_job 54 = .ok (.iconst (-1), 1) := dk_2 (dk_at dksX1_job_2 10 rfl rfl)
theorem dX1_job_55 : decode cX1_job 55 = .ok (.ireturn, 1) := dk_172 (dk_at dksX1_job_2 11 rfl rfl)
theorem dX1_job_56 : decode cX1_job 56 = .ok (.aload_n 0, 1) := dk_42 (dk_at dksX1_job_2 12 rfl rfl)
theorem dX1_job_57 : decode cX1_job 57 = .ok (.lload 4, 2) := dk_22 4 (dk_at dksX1_job_2 13 rfl rfl)
theorem dX1_job_59 : decode cX1_job 59 = .ok (.putfield 120, 3) := dk_181 0 120 (dk_at dksX1_job_2 15 rfl rfl)
theorem dX1_job_62 : decode cX1_job 62 = .ok (.aload_n 0, 1) := dk_42 (dk_at dksX1_job_2 18 rfl rfl)
theorem dX1_job_63 : decode cX1_job 63 = .ok (.getfield 16, 3) := dk_180 0 16 (dk_at dksX1_job_2 19 rfl rfl)
theorem dX1_job_66 : decode cX1_job 66 = .ok (.new 92, 3) := dk_187 0 92 (dk_at dksX1_job_3 0 rfl rfl)
theorem dX1_job_69 : decode cX1_job 69 = .ok (.dup, 1) := dk_89 (dk_at dksX1_job_3 3 rfl rfl)
theorem dX1_job_70 : decode cX1_job 70 = .ok (.aload_n 0, 1) := dk_42 (dk_at dksX1_job_3 4 rfl rfl)
theorem dX1_job_71 : decode cX1_job 71 = .ok (.getfield 16, 3) := dk_180 0 16 (dk_at dksX1_job_3 5 rfl rfl)
theorem dX1_job_74 : decode cX1_job 74 = .ok (.invokeinterface 80 1, 5) := by decide +kernel
theorem dX1_job_79 : decode cX1_job 79 = .ok (.iconst 1, 1) := dk_4 (dk_at dksX1_job_3 13 rfl rfl)
theorem dX1_job_80 : decode cX1_job 80 = .ok (.iadd, 1) := dk_96 (dk_at dksX1_job_3 14 rfl rfl)
theorem dX1_job_81 : decode cX1_job 81 = .ok (.iload_n 1, 1) := dk_27 (dk_at dksX1_job_3 15 rfl rfl)
theorem dX1_job_82 : decode cX1_job 82 = .ok (.iload_n 2, 1) := dk_28 (dk_at dksX1_job_3 16 rfl rfl)
theorem dX1_job_83 : decode cX1_job 83 = .ok (.iload_n 3, 1) := dk_29 (dk_at dksX1_job_3 17 rfl rfl)
theorem dX1_job_84 : decode cX1_job 84 = .ok (.lload 4, 2) := dk_22 4 (dk_at dksX1_job_3 18 rfl rfl)
theorem dX1_job_86 : decode cX1_job 86 = .ok (.invokespecial 124, 3) := dk_183 0 124 (dk_at dksX1_job_3 20 rfl rfl)
theorem dX1_job_89 : decode cX1_job 89 = .ok (.invokeinterface 95 2, 5) := by decide +kernel
theorem dX1_job_94 : decode cX1_job 94 = .ok (.pop, 1) := dk_87 (dk_at dksX1_job_4 5 rfl rfl)
theorem dX1_job_95 : decode cX1_job 95 = .ok (.aload_n 0, 1) := dk_42 (dk_at dksX1_job_4 6 rfl rfl)
theorem dX1_job_96 : decode cX1_job 96 = .ok (.getfield 16, 3) := dk_180 0 16 (dk_at dksX1_job_4 7 rfl rfl)
theorem dX1_job_99 : decode cX1_job 99 = .ok (.invokeinterface 80 1, 5) := by decide +kernel
theorem dX1_job_104 : decode cX1_job 104 = .ok (.ireturn, 1) := dk_172 (dk_at dksX1_job_4 15 rfl rfl)
abbrev cX1_needs : ByteArray := prog_1_method_11_code
def yX1_needs : MethodName := ⟨RX1, "needs", "(II)I"⟩
def dkwX1_needs_3 : List UInt8 := [185, 0, 95, 2, 0, 87, 4, 172]
abbrev dktX1_needs_3 : List UInt8 := dkwX1_needs_3 ++ []
def dkwX1_needs_2 : List UInt8 := [3, 172, 45, 180, 0, 139, 25, 4, 185, 0, 142, 2, 0, 154, 0, 15, 45, 180, 0, 139, 25, 4]
abbrev dktX1_needs_2 : List UInt8 := dkwX1_needs_2 ++ dktX1_needs_3
def dkwX1_needs_1 : List UInt8 := [172, 45, 182, 0, 131, 154, 0, 6, 16, 251, 172, 25, 4, 45, 16, 100, 188, 4, 182, 0, 135, 153, 0, 5]
abbrev dktX1_needs_1 : List UInt8 := dkwX1_needs_1 ++ dktX1_needs_2
def dkwX1_needs_0 : List UInt8 := [42, 27, 182, 0, 127, 78, 42, 28, 182, 0, 127, 58, 4, 45, 198, 0, 8, 25, 4, 199, 0, 6, 16, 254]
abbrev dktX1_needs_0 : List UInt8 := dkwX1_needs_0 ++ dktX1_needs_1
theorem dksX1_needs_0 : cX1_needs.data.toList.drop 0 = dktX1_needs_0 := by decide +kernel
theorem dksX1_needs_1 : cX1_needs.data.toList.drop 24 = dktX1_needs_1 := dk_seg dksX1_needs_0 24 rfl rfl
theorem dksX1_needs_2 : cX1_needs.data.toList.drop 48 = dktX1_needs_2 := dk_seg dksX1_needs_1 24 rfl rfl
theorem dksX1_needs_3 : cX1_needs.data.toList.drop 70 = dktX1_needs_3 := dk_seg dksX1_needs_2 22 rfl rfl
theorem dX1_needs_0 : decode cX1_needs 0 = .ok (.aload_n 0, 1) := dk_42 (dk_at dksX1_needs_0 0 rfl rfl)
theorem dX1_needs_1 : decode cX1_needs 1 = .ok (.iload_n 1, 1) := dk_27 (dk_at dksX1_needs_0 1 rfl rfl)
theorem dX1_needs_2 : decode cX1_needs 2 = .ok (.invokevirtual 127, 3) := dk_182 0 127 (dk_at dksX1_needs_0 2 rfl rfl)
theorem dX1_needs_5 : decode cX1_needs 5 = .ok (.astore_n 3, 1) := dk_78 (dk_at dksX1_needs_0 5 rfl rfl)
theorem dX1_needs_6 : decode cX1_needs 6 = .ok (.aload_n 0, 1) := dk_42 (dk_at dksX1_needs_0 6 rfl rfl)
theorem dX1_needs_7 : decode cX1_needs 7 = .ok (.iload_n 2, 1) := dk_28 (dk_at dksX1_needs_0 7 rfl rfl)
theorem dX1_needs_8 : decode cX1_needs 8 = .ok (.invokevirtual 127, 3) := dk_182 0 127 (dk_at dksX1_needs_0 8 rfl rfl)
theorem dX1_needs_11 : decode cX1_needs 11 = .ok (.astore 4, 2) := dk_58 4 (dk_at dksX1_needs_0 11 rfl rfl)
theorem dX1_needs_13 : decode cX1_needs 13 = .ok (.aload_n 3, 1) := dk_45 (dk_at dksX1_needs_0 13 rfl rfl)
theorem dX1_needs_14 : decode cX1_needs 14 = .ok (.ifnull 8, 3) := dk_198 0 8 (dk_at dksX1_needs_0 14 rfl rfl)
theorem dX1_needs_17 : decode cX1_needs 17 = .ok (.aload 4, 2) := dk_25 4 (dk_at dksX1_needs_0 17 rfl rfl)
theorem dX1_needs_19 : decode cX1_needs 19 = .ok (.ifnonnull 6, 3) := dk_199 0 6 (dk_at dksX1_needs_0 19 rfl rfl)
theorem dX1_needs_22 : decode cX1_needs 22 = .ok (.bipush (-2), 2) := dk_16 254 (dk_at dksX1_needs_0 22 rfl rfl)
theorem dX1_needs_24 : decode cX1_needs 24 = .ok (.ireturn, 1) := dk_172 (dk_at dksX1_needs_1 0 rfl rfl)
theorem dX1_needs_25 : decode cX1_needs 25 = .ok (.aload_n 3, 1) := dk_45 (dk_at dksX1_needs_1 1 rfl rfl)
theorem dX1_needs_26 : decode cX1_needs 26 = .ok (.invokevirtual 131, 3) := dk_182 0 131 (dk_at dksX1_needs_1 2 rfl rfl)
theorem dX1_needs_29 : decode cX1_needs 29 = .ok (.ifCond .ne 6, 3) := dk_154 0 6 (dk_at dksX1_needs_1 5 rfl rfl)
theorem dX1_needs_32 : decode cX1_needs 32 = .ok (.bipush (-5), 2) := dk_16 251 (dk_at dksX1_needs_1 8 rfl rfl)
theorem dX1_needs_34 : decode cX1_needs 34 = .ok (.ireturn, 1) := dk_172 (dk_at dksX1_needs_1 10 rfl rfl)
theorem dX1_needs_35 : decode cX1_needs 35 = .ok (.aload 4, 2) := dk_25 4 (dk_at dksX1_needs_1 11 rfl rfl)
theorem dX1_needs_37 : decode cX1_needs 37 = .ok (.aload_n 3, 1) := dk_45 (dk_at dksX1_needs_1 13 rfl rfl)
theorem dX1_needs_38 : decode cX1_needs 38 = .ok (.bipush 100, 2) := dk_16 100 (dk_at dksX1_needs_1 14 rfl rfl)
theorem dX1_needs_40 : decode cX1_needs 40 = .ok (.newarray .boolean, 2) := dk_188_4 (dk_at dksX1_needs_1 16 rfl rfl)
theorem dX1_needs_42 : decode cX1_needs 42 = .ok (.invokevirtual 135, 3) := dk_182 0 135 (dk_at dksX1_needs_1 18 rfl rfl)
theorem dX1_needs_45 : decode cX1_needs 45 = .ok (.ifCond .eq 5, 3) := dk_153 0 5 (dk_at dksX1_needs_1 21 rfl rfl)
theorem dX1_needs_48 : decode cX1_needs 48 = .ok (.iconst 0, 1) := dk_3 (dk_at dksX1_needs_2 0 rfl rfl)
theorem dX1_needs_49 : decode cX1_needs 49 = .ok (.ireturn, 1) := dk_172 (dk_at dksX1_needs_2 1 rfl rfl)
theorem dX1_needs_50 : decode cX1_needs 50 = .ok (.aload_n 3, 1) := dk_45 (dk_at dksX1_needs_2 2 rfl rfl)
theorem dX1_needs_51 : decode cX1_needs 51 = .ok (.getfield 139, 3) := dk_180 0 139 (dk_at dksX1_needs_2 3 rfl rfl)
theorem dX1_needs_54 : decode cX1_needs 54 = .ok (.aload 4, 2) := dk_25 4 (dk_at dksX1_needs_2 6 rfl rfl)
theorem dX1_needs_56 : decode cX1_needs 56 = .ok (.invokeinterface 142 2, 5) := by decide +kernel
theorem dX1_needs_61 : decode cX1_needs 61 = .ok (.ifCond .ne 15, 3) := dk_154 0 15 (dk_at dksX1_needs_2 13 rfl rfl)
theorem dX1_needs_64 : decode cX1_needs 64 = .ok (.aload_n 3, 1) := dk_45 (dk_at dksX1_needs_2 16 rfl rfl)
theorem dX1_needs_65 : decode cX1_needs 65 = .ok (.getfield 139, 3) := dk_180 0 139 (dk_at dksX1_needs_2 17 rfl rfl)
theorem dX1_needs_68 : decode cX1_needs 68 = .ok (.aload 4, 2) := dk_25 4 (dk_at dksX1_needs_2 20 rfl rfl)
theorem dX1_needs_70 : decode cX1_needs 70 = .ok (.invokeinterface 95 2, 5) := by decide +kernel
theorem dX1_needs_75 : decode cX1_needs 75 = .ok (.pop, 1) := dk_87 (dk_at dksX1_needs_3 5 rfl rfl)
theorem dX1_needs_76 : decode cX1_needs 76 = .ok (.iconst 1, 1) := dk_4 (dk_at dksX1_needs_3 6 rfl rfl)
theorem dX1_needs_77 : decode cX1_needs 77 = .ok (.ireturn, 1) := dk_172 (dk_at dksX1_needs_3 7 rfl rfl)
abbrev cX1_find : ByteArray := prog_1_method_5_code
def yX1_find : MethodName := ⟨RX1, "find", "(I)LInitiatorRows$Job;"⟩
def dkwX1_find_1 : List UInt8 := [185, 0, 86, 2, 0, 192, 0, 92, 167, 0, 4, 1, 176]
abbrev dktX1_find_1 : List UInt8 := dkwX1_find_1 ++ []
def dkwX1_find_0 : List UInt8 := [27, 4, 42, 180, 0, 16, 185, 0, 80, 1, 0, 184, 0, 76, 153, 0, 21, 42, 180, 0, 16, 27, 4, 100]
abbrev dktX1_find_0 : List UInt8 := dkwX1_find_0 ++ dktX1_find_1
theorem dksX1_find_0 : cX1_find.data.toList.drop 0 = dktX1_find_0 := by decide +kernel
theorem dksX1_find_1 : cX1_find.data.toList.drop 24 = dktX1_find_1 := dk_seg dksX1_find_0 24 rfl rfl
theorem dX1_find_0 : decode cX1_find 0 = .ok (.iload_n 1, 1) := dk_27 (dk_at dksX1_find_0 0 rfl rfl)
theorem dX1_find_1 : decode cX1_find 1 = .ok (.iconst 1, 1) := dk_4 (dk_at dksX1_find_0 1 rfl rfl)
theorem dX1_find_2 : decode cX1_find 2 = .ok (.aload_n 0, 1) := dk_42 (dk_at dksX1_find_0 2 rfl rfl)
theorem dX1_find_3 : decode cX1_find 3 = .ok (.getfield 16, 3) := dk_180 0 16 (dk_at dksX1_find_0 3 rfl rfl)
theorem dX1_find_6 : decode cX1_find 6 = .ok (.invokeinterface 80 1, 5) := by decide +kernel
theorem dX1_find_11 : decode cX1_find 11 = .ok (.invokestatic 76, 3) := dk_184 0 76 (dk_at dksX1_find_0 11 rfl rfl)
theorem dX1_find_14 : decode cX1_find 14 = .ok (.ifCond .eq 21, 3) := dk_153 0 21 (dk_at dksX1_find_0 14 rfl rfl)
theorem dX1_find_17 : decode cX1_find 17 = .ok (.aload_n 0, 1) := dk_42 (dk_at dksX1_find_0 17 rfl rfl)
theorem dX1_find_18 : decode cX1_find 18 = .ok (.getfield 16, 3) := dk_180 0 16 (dk_at dksX1_find_0 18 rfl rfl)
theorem dX1_find_21 : decode cX1_find 21 = .ok (.iload_n 1, 1) := dk_27 (dk_at dksX1_find_0 21 rfl rfl)
theorem dX1_find_22 : decode cX1_find 22 = .ok (.iconst 1, 1) := dk_4 (dk_at dksX1_find_0 22 rfl rfl)
theorem dX1_find_23 : decode cX1_find 23 = .ok (.isub, 1) := dk_100 (dk_at dksX1_find_0 23 rfl rfl)
theorem dX1_find_24 : decode cX1_find 24 = .ok (.invokeinterface 86 2, 5) := by decide +kernel
theorem dX1_find_29 : decode cX1_find 29 = .ok (.checkcast 92, 3) := dk_192 0 92 (dk_at dksX1_find_1 5 rfl rfl)
theorem dX1_find_32 : decode cX1_find 32 = .ok (.goto 4, 3) := dk_167 0 4 (dk_at dksX1_find_1 8 rfl rfl)
theorem dX1_find_35 : decode cX1_find 35 = .ok (.aconst_null, 1) := dk_1 (dk_at dksX1_find_1 11 rfl rfl)
theorem dX1_find_36 : decode cX1_find 36 = .ok (.areturn, 1) := dk_176 (dk_at dksX1_find_1 12 rfl rfl)
abbrev cX1_units : ByteArray := prog_1_method_12_code
def yX1_units : MethodName := ⟨RX1, "units", "(II)I"⟩
def dkwX1_units_1 : List UInt8 := [180, 0, 28, 27, 28, 79, 4, 172]
abbrev dktX1_units_1 : List UInt8 := dkwX1_units_1 ++ []
def dkwX1_units_0 : List UInt8 := [27, 3, 6, 184, 0, 76, 153, 0, 14, 28, 3, 17, 3, 232, 184, 0, 76, 154, 0, 6, 16, 252, 172, 42]
abbrev dktX1_units_0 : List UInt8 := dkwX1_units_0 ++ dktX1_units_1
theorem dksX1_units_0 : cX1_units.data.toList.drop 0 = dktX1_units_0 := by decide +kernel
theorem dksX1_units_1 : cX1_units.data.toList.drop 24 = dktX1_units_1 := dk_seg dksX1_units_0 24 rfl rfl
theorem dX1_units_0 : decode cX1_units 0 = .ok (.iload_n 1, 1) := dk_27 (dk_at dksX1_units_0 0 rfl rfl)
theorem dX1_units_1 : decode cX1_units 1 = .ok (.iconst 0, 1) := dk_3 (dk_at dksX1_units_0 1 rfl rfl)
theorem dX1_units_2 : decode cX1_units 2 = .ok (.iconst 3, 1) := dk_6 (dk_at dksX1_units_0 2 rfl rfl)
theorem dX1_units_3 : decode cX1_units 3 = .ok (.invokestatic 76, 3) := dk_184 0 76 (dk_at dksX1_units_0 3 rfl rfl)
theorem dX1_units_6 : decode cX1_units 6 = .ok (.ifCond .eq 14, 3) := dk_153 0 14 (dk_at dksX1_units_0 6 rfl rfl)
theorem dX1_units_9 : decode cX1_units 9 = .ok (.iload_n 2, 1) := dk_28 (dk_at dksX1_units_0 9 rfl rfl)
theorem dX1_units_10 : decode cX1_units 10 = .ok (.iconst 0, 1) := dk_3 (dk_at dksX1_units_0 10 rfl rfl)
theorem dX1_units_11 : decode cX1_units 11 = .ok (.sipush 1000, 3) := dk_17 3 232 (dk_at dksX1_units_0 11 rfl rfl)
theorem dX1_units_14 : decode cX1_units 14 = .ok (.invokestatic 76, 3) := dk_184 0 76 (dk_at dksX1_units_0 14 rfl rfl)
theorem dX1_units_17 : decode cX1_units 17 = .ok (.ifCond .ne 6, 3) := dk_154 0 6 (dk_at dksX1_units_0 17 rfl rfl)
theorem dX1_units_20 : decode cX1_units 20 = .ok (.bipush (-4), 2) := dk_16 252 (dk_at dksX1_units_0 20 rfl rfl)
theorem dX1_units_22 : decode cX1_units 22 = .ok (.ireturn, 1) := dk_172 (dk_at dksX1_units_0 22 rfl rfl)
theorem dX1_units_23 : decode cX1_units 23 = .ok (.aload_n 0, 1) := dk_42 (dk_at dksX1_units_0 23 rfl rfl)
theorem dX1_units_24 : decode cX1_units 24 = .ok (.getfield 28, 3) := dk_180 0 28 (dk_at dksX1_units_1 0 rfl rfl)
theorem dX1_units_27 : decode cX1_units 27 = .ok (.iload_n 1, 1) := dk_27 (dk_at dksX1_units_1 3 rfl rfl)
theorem dX1_units_28 : decode cX1_units 28 = .ok (.iload_n 2, 1) := dk_28 (dk_at dksX1_units_1 4 rfl rfl)
theorem dX1_units_29 : decode cX1_units 29 = .ok (.iastore, 1) := dk_79 (dk_at dksX1_units_1 5 rfl rfl)
theorem dX1_units_30 : decode cX1_units 30 = .ok (.iconst 1, 1) := dk_4 (dk_at dksX1_units_1 6 rfl rfl)
theorem dX1_units_31 : decode cX1_units 31 = .ok (.ireturn, 1) := dk_172 (dk_at dksX1_units_1 7 rfl rfl)
abbrev cX1_uses : ByteArray := prog_1_method_13_code
def yX1_uses : MethodName := ⟨RX1, "uses", "(III)I"⟩
def dkwX1_uses_2 : List UInt8 := [172, 25, 4, 180, 0, 145, 28, 29, 79, 4, 172]
abbrev dktX1_uses_2 : List UInt8 := dkwX1_uses_2 ++ []
def dkwX1_uses_1 : List UInt8 := [29, 3, 17, 3, 232, 184, 0, 76, 154, 0, 6, 16, 252, 172, 25, 4, 182, 0, 131, 154, 0, 6, 16, 251]
abbrev dktX1_uses_1 : List UInt8 := dkwX1_uses_1 ++ dktX1_uses_2
def dkwX1_uses_0 : List UInt8 := [42, 27, 182, 0, 127, 58, 4, 25, 4, 199, 0, 6, 16, 254, 172, 28, 3, 6, 184, 0, 76, 153, 0, 14]
abbrev dktX1_uses_0 : List UInt8 := dkwX1_uses_0 ++ dktX1_uses_1
theorem dksX1_uses_0 : cX1_uses.data.toList.drop 0 = dktX1_uses_0 := by decide +kernel
theorem dksX1_uses_1 : cX1_uses.data.toList.drop 24 = dktX1_uses_1 := dk_seg dksX1_uses_0 24 rfl rfl
theorem dksX1_uses_2 : cX1_uses.data.toList.drop 48 = dktX1_uses_2 := dk_seg dksX1_uses_1 24 rfl rfl
theorem dX1_uses_0 : decode cX1_uses 0 = .ok (.aload_n 0, 1) := dk_42 (dk_at dksX1_uses_0 0 rfl rfl)
theorem dX1_uses_1 : decode cX1_uses 1 = .ok (.iload_n 1, 1) := dk_27 (dk_at dksX1_uses_0 1 rfl rfl)
theorem dX1_uses_2 : decode cX1_uses 2 = .ok (.invokevirtual 127, 3) := dk_182 0 127 (dk_at dksX1_uses_0 2 rfl rfl)
theorem dX1_uses_5 : decode cX1_uses 5 = .ok (.astore 4, 2) := dk_58 4 (dk_at dksX1_uses_0 5 rfl rfl)
theorem dX1_uses_7 : decode cX1_uses 7 = .ok (.aload 4, 2) := dk_25 4 (dk_at dksX1_uses_0 7 rfl rfl)
theorem dX1_uses_9 : decode cX1_uses 9 = .ok (.ifnonnull 6, 3) := dk_199 0 6 (dk_at dksX1_uses_0 9 rfl rfl)
theorem dX1_uses_12 : decode cX1_uses 12 = .ok (.bipush (-2), 2) := dk_16 254 (dk_at dksX1_uses_0 12 rfl rfl)
theorem dX1_uses_14 : decode cX1_uses 14 = .ok (.ireturn, 1) := dk_172 (dk_at dksX1_uses_0 14 rfl rfl)
theorem dX1_uses_15 : decode cX1_uses 15 = .ok (.iload_n 2, 1) := dk_28 (dk_at dksX1_uses_0 15 rfl rfl)
theorem dX1_uses_16 : decode cX1_uses 16 = .ok (.iconst 0, 1) := dk_3 (dk_at dksX1_uses_0 16 rfl rfl)
theorem dX1_uses_17 : decode cX1_uses 17 = .ok (.iconst 3, 1) := dk_6 (dk_at dksX1_uses_0 17 rfl rfl)
theorem dX1_uses_18 : decode cX1_uses 18 = .ok (.invokestatic 76, 3) := dk_184 0 76 (dk_at dksX1_uses_0 18 rfl rfl)
theorem dX1_uses_21 : decode cX1_uses 21 = .ok (.ifCond .eq 14, 3) := dk_153 0 14 (dk_at dksX1_uses_0 21 rfl rfl)
theorem dX1_uses_24 : decode cX1_uses 24 = .ok (.iload_n 3, 1) := dk_29 (dk_at dksX1_uses_1 0 rfl rfl)
theorem dX1_uses_25 : decode cX1_uses 25 = .ok (.iconst 0, 1) := dk_3 (dk_at dksX1_uses_1 1 rfl rfl)
theorem dX1_uses_26 : decode cX1_uses 26 = .ok (.sipush 1000, 3) := dk_17 3 232 (dk_at dksX1_uses_1 2 rfl rfl)
theorem dX1_uses_29 : decode cX1_uses 29 = .ok (.invokestatic 76, 3) := dk_184 0 76 (dk_at dksX1_uses_1 5 rfl rfl)
theorem dX1_uses_32 : decode cX1_uses 32 = .ok (.ifCond .ne 6, 3) := dk_154 0 6 (dk_at dksX1_uses_1 8 rfl rfl)
theorem dX1_uses_35 : decode cX1_uses 35 = .ok (.bipush (-4), 2) := dk_16 252 (dk_at dksX1_uses_1 11 rfl rfl)
theorem dX1_uses_37 : decode cX1_uses 37 = .ok (.ireturn, 1) := dk_172 (dk_at dksX1_uses_1 13 rfl rfl)
theorem dX1_uses_38 : decode cX1_uses 38 = .ok (.aload 4, 2) := dk_25 4 (dk_at dksX1_uses_1 14 rfl rfl)
theorem dX1_uses_40 : decode cX1_uses 40 = .ok (.invokevirtual 131, 3) := dk_182 0 131 (dk_at dksX1_uses_1 16 rfl rfl)
theorem dX1_uses_43 : decode cX1_uses 43 = .ok (.ifCond .ne 6, 3) := dk_154 0 6 (dk_at dksX1_uses_1 19 rfl rfl)
theorem dX1_uses_46 : decode cX1_uses 46 = .ok (.bipush (-5), 2) := dk_16 251 (dk_at dksX1_uses_1 22 rfl rfl)
theorem dX1_uses_48 : decode cX1_uses 48 = .ok (.ireturn, 1) := dk_172 (dk_at dksX1_uses_2 0 rfl rfl)
theorem dX1_uses_49 : decode cX1_uses 49 = .ok (.aload 4, 2) := dk_25 4 (dk_at dksX1_uses_2 1 rfl rfl)
theorem dX1_uses_51 : decode cX1_uses 51 = .ok (.getfield 145, 3) := dk_180 0 145 (dk_at dksX1_uses_2 3 rfl rfl)
theorem dX1_uses_54 : decode cX1_uses 54 = .ok (.iload_n 2, 1) := dk_28 (dk_at dksX1_uses_2 6 rfl rfl)
theorem dX1_uses_55 : decode cX1_uses 55 = .ok (.iload_n 3, 1) := dk_29 (dk_at dksX1_uses_2 7 rfl rfl)
theorem dX1_uses_56 : decode cX1_uses 56 = .ok (.iastore, 1) := dk_79 (dk_at dksX1_uses_2 8 rfl rfl)
theorem dX1_uses_57 : decode cX1_uses 57 = .ok (.iconst 1, 1) := dk_4 (dk_at dksX1_uses_2 9 rfl rfl)
theorem dX1_uses_58 : decode cX1_uses 58 = .ok (.ireturn, 1) := dk_172 (dk_at dksX1_uses_2 10 rfl rfl)
abbrev cX1_alone : ByteArray := prog_1_method_14_code
def yX1_alone : MethodName := ⟨RX1, "alone", "(I)I"⟩
def dkwX1_alone_1 : List UInt8 := [4, 181, 0, 148, 4, 172]
abbrev dktX1_alone_1 : List UInt8 := dkwX1_alone_1 ++ []
def dkwX1_alone_0 : List UInt8 := [42, 27, 182, 0, 127, 77, 44, 199, 0, 6, 16, 254, 172, 44, 182, 0, 131, 154, 0, 6, 16, 251, 172, 44]
abbrev dktX1_alone_0 : List UInt8 := dkwX1_alone_0 ++ dktX1_alone_1
theorem dksX1_alone_0 : cX1_alone.data.toList.drop 0 = dktX1_alone_0 := by decide +kernel
theorem dksX1_alone_1 : cX1_alone.data.toList.drop 24 = dktX1_alone_1 := dk_seg dksX1_alone_0 24 rfl rfl
theorem dX1_alone_0 : decode cX1_alone 0 = .ok (.aload_n 0, 1) := dk_42 (dk_at dksX1_alone_0 0 rfl rfl)
theorem dX1_alone_1 : decode cX1_alone 1 = .ok (.iload_n 1, 1) := dk_27 (dk_at dksX1_alone_0 1 rfl rfl)
theorem dX1_alone_2 : decode cX1_alone 2 = .ok (.invokevirtual 127, 3) := dk_182 0 127 (dk_at dksX1_alone_0 2 rfl rfl)
theorem dX1_alone_5 : decode cX1_alone 5 = .ok (.astore_n 2, 1) := dk_77 (dk_at dksX1_alone_0 5 rfl rfl)
theorem dX1_alone_6 : decode cX1_alone 6 = .ok (.aload_n 2, 1) := dk_44 (dk_at dksX1_alone_0 6 rfl rfl)
theorem dX1_alone_7 : decode cX1_alone 7 = .ok (.ifnonnull 6, 3) := dk_199 0 6 (dk_at dksX1_alone_0 7 rfl rfl)
theorem dX1_alone_10 : decode cX1_alone 10 = .ok (.bipush (-2), 2) := dk_16 254 (dk_at dksX1_alone_0 10 rfl rfl)
theorem dX1_alone_12 : decode cX1_alone 12 = .ok (.ireturn, 1) := dk_172 (dk_at dksX1_alone_0 12 rfl rfl)
theorem dX1_alone_13 : decode cX1_alone 13 = .ok (.aload_n 2, 1) := dk_44 (dk_at dksX1_alone_0 13 rfl rfl)
theorem dX1_alone_14 : decode cX1_alone 14 = .ok (.invokevirtual 131, 3) := dk_182 0 131 (dk_at dksX1_alone_0 14 rfl rfl)
theorem dX1_alone_17 : decode cX1_alone 17 = .ok (.ifCond .ne 6, 3) := dk_154 0 6 (dk_at dksX1_alone_0 17 rfl rfl)
theorem dX1_alone_20 : decode cX1_alone 20 = .ok (.bipush (-5), 2) := dk_16 251 (dk_at dksX1_alone_0 20 rfl rfl)
theorem dX1_alone_22 : decode cX1_alone 22 = .ok (.ireturn, 1) := dk_172 (dk_at dksX1_alone_0 22 rfl rfl)
theorem dX1_alone_23 : decode cX1_alone 23 = .ok (.aload_n 2, 1) := dk_44 (dk_at dksX1_alone_0 23 rfl rfl)
theorem dX1_alone_24 : decode cX1_alone 24 = .ok (.iconst 1, 1) := dk_4 (dk_at dksX1_alone_1 0 rfl rfl)
theorem dX1_alone_25 : decode cX1_alone 25 = .ok (.putfield 148, 3) := dk_181 0 148 (dk_at dksX1_alone_1 1 rfl rfl)
theorem dX1_alone_28 : decode cX1_alone 28 = .ok (.iconst 1, 1) := dk_4 (dk_at dksX1_alone_1 4 rfl rfl)
theorem dX1_alone_29 : decode cX1_alone 29 = .ok (.ireturn, 1) := dk_172 (dk_at dksX1_alone_1 5 rfl rfl)
abbrev cX1_hold : ByteArray := prog_1_method_15_code
def yX1_hold : MethodName := ⟨RX1, "hold", "(IZ)I"⟩
def dkwX1_hold_2 : List UInt8 := [172, 45, 25, 4, 181, 0, 161, 4, 172]
abbrev dktX1_hold_2 : List UInt8 := dkwX1_hold_2 ++ []
def dkwX1_hold_1 : List UInt8 := [153, 0, 9, 178, 0, 152, 167, 0, 6, 178, 0, 158, 58, 4, 45, 180, 0, 161, 25, 4, 166, 0, 5, 3]
abbrev dktX1_hold_1 : List UInt8 := dkwX1_hold_1 ++ dktX1_hold_2
def dkwX1_hold_0 : List UInt8 := [42, 27, 182, 0, 127, 78, 45, 199, 0, 6, 16, 254, 172, 45, 182, 0, 131, 154, 0, 6, 16, 251, 172, 28]
abbrev dktX1_hold_0 : List UInt8 := dkwX1_hold_0 ++ dktX1_hold_1
theorem dksX1_hold_0 : cX1_hold.data.toList.drop 0 = dktX1_hold_0 := by decide +kernel
theorem dksX1_hold_1 : cX1_hold.data.toList.drop 24 = dktX1_hold_1 := dk_seg dksX1_hold_0 24 rfl rfl
theorem dksX1_hold_2 : cX1_hold.data.toList.drop 48 = dktX1_hold_2 := dk_seg dksX1_hold_1 24 rfl rfl
theorem dX1_hold_0 : decode cX1_hold 0 = .ok (.aload_n 0, 1) := dk_42 (dk_at dksX1_hold_0 0 rfl rfl)
theorem dX1_hold_1 : decode cX1_hold 1 = .ok (.iload_n 1, 1) := dk_27 (dk_at dksX1_hold_0 1 rfl rfl)
theorem dX1_hold_2 : decode cX1_hold 2 = .ok (.invokevirtual 127, 3) := dk_182 0 127 (dk_at dksX1_hold_0 2 rfl rfl)
theorem dX1_hold_5 : decode cX1_hold 5 = .ok (.astore_n 3, 1) := dk_78 (dk_at dksX1_hold_0 5 rfl rfl)
theorem dX1_hold_6 : decode cX1_hold 6 = .ok (.aload_n 3, 1) := dk_45 (dk_at dksX1_hold_0 6 rfl rfl)
theorem dX1_hold_7 : decode cX1_hold 7 = .ok (.ifnonnull 6, 3) := dk_199 0 6 (dk_at dksX1_hold_0 7 rfl rfl)
theorem dX1_hold_10 : decode cX1_hold 10 = .ok (.bipush (-2), 2) := dk_16 254 (dk_at dksX1_hold_0 10 rfl rfl)
theorem dX1_hold_12 : decode cX1_hold 12 = .ok (.ireturn, 1) := dk_172 (dk_at dksX1_hold_0 12 rfl rfl)
theorem dX1_hold_13 : decode cX1_hold 13 = .ok (.aload_n 3, 1) := dk_45 (dk_at dksX1_hold_0 13 rfl rfl)
theorem dX1_hold_14 : decode cX1_hold 14 = .ok (.invokevirtual 131, 3) := dk_182 0 131 (dk_at dksX1_hold_0 14 rfl rfl)
theorem dX1_hold_17 : decode cX1_hold 17 = .ok (.ifCond .ne 6, 3) := dk_154 0 6 (dk_at dksX1_hold_0 17 rfl rfl)
theorem dX1_hold_20 : decode cX1_hold 20 = .ok (.bipush (-5), 2) := dk_16 251 (dk_at dksX1_hold_0 20 rfl rfl)
theorem dX1_hold_22 : decode cX1_hold 22 = .ok (.ireturn, 1) := dk_172 (dk_at dksX1_hold_0 22 rfl rfl)
theorem dX1_hold_23 : decode cX1_hold 23 = .ok (.iload_n 2, 1) := dk_28 (dk_at dksX1_hold_0 23 rfl rfl)
theorem dX1_hold_24 : decode cX1_hold 24 = .ok (.ifCond .eq 9, 3) := dk_153 0 9 (dk_at dksX1_hold_1 0 rfl rfl)
theorem dX1_hold_27 : decode cX1_hold 27 = .ok (.getstatic 152, 3) := dk_178 0 152 (dk_at dksX1_hold_1 3 rfl rfl)
theorem dX1_hold_30 : decode cX1_hold 30 = .ok (.goto 6, 3) := dk_167 0 6 (dk_at dksX1_hold_1 6 rfl rfl)
theorem dX1_hold_33 : decode cX1_hold 33 = .ok (.getstatic 158, 3) := dk_178 0 158 (dk_at dksX1_hold_1 9 rfl rfl)
theorem dX1_hold_36 : decode cX1_hold 36 = .ok (.astore 4, 2) := dk_58 4 (dk_at dksX1_hold_1 12 rfl rfl)
theorem dX1_hold_38 : decode cX1_hold 38 = .ok (.aload_n 3, 1) := dk_45 (dk_at dksX1_hold_1 14 rfl rfl)
theorem dX1_hold_39 : decode cX1_hold 39 = .ok (.getfield 161, 3) := dk_180 0 161 (dk_at dksX1_hold_1 15 rfl rfl)
theorem dX1_hold_42 : decode cX1_hold 42 = .ok (.aload 4, 2) := dk_25 4 (dk_at dksX1_hold_1 18 rfl rfl)
theorem dX1_hold_44 : decode cX1_hold 44 = .ok (.if_acmp .ne 5, 3) := dk_166 0 5 (dk_at dksX1_hold_1 20 rfl rfl)
theorem dX1_hold_47 : decode cX1_hold 47 = .ok (.iconst 0, 1) := dk_3 (dk_at dksX1_hold_1 23 rfl rfl)
theorem dX1_hold_48 : decode cX1_hold 48 = .ok (.ireturn, 1) := dk_172 (dk_at dksX1_hold_2 0 rfl rfl)
theorem dX1_hold_49 : decode cX1_hold 49 = .ok (.aload_n 3, 1) := dk_45 (dk_at dksX1_hold_2 1 rfl rfl)
theorem dX1_hold_50 : decode cX1_hold 50 = .ok (.aload 4, 2) := dk_25 4 (dk_at dksX1_hold_2 2 rfl rfl)
theorem dX1_hold_52 : decode cX1_hold 52 = .ok (.putfield 161, 3) := dk_181 0 161 (dk_at dksX1_hold_2 4 rfl rfl)
theorem dX1_hold_55 : decode cX1_hold 55 = .ok (.iconst 1, 1) := dk_4 (dk_at dksX1_hold_2 7 rfl rfl)
theorem dX1_hold_56 : decode cX1_hold 56 = .ok (.ireturn, 1) := dk_172 (dk_at dksX1_hold_2 8 rfl rfl)
abbrev cX1_next : ByteArray := prog_1_method_18_code
def yX1_next : MethodName := ⟨RX1, "next", "(IJ)I"⟩
def dkwX1_next_6 : List UInt8 := [25, 9, 185, 0, 95, 2, 0, 87, 25, 9, 180, 0, 203, 172, 132, 7, 1, 167, 255, 164, 3, 172]
abbrev dktX1_next_6 : List UInt8 := dkwX1_next_6 ++ []
def dkwX1_next_5 : List UInt8 := [180, 0, 120, 181, 0, 196, 25, 9, 25, 4, 181, 0, 199, 25, 4, 25, 9, 181, 0, 186, 42, 180, 0, 19]
abbrev dktX1_next_5 : List UInt8 := dkwX1_next_5 ++ dktX1_next_6
def dkwX1_next_4 : List UInt8 := [182, 0, 190, 58, 9, 25, 9, 199, 0, 6, 167, 0, 52, 25, 9, 178, 0, 193, 181, 0, 161, 25, 9, 42]
abbrev dktX1_next_4 : List UInt8 := dkwX1_next_4 ++ dktX1_next_5
def dkwX1_next_3 : List UInt8 := [162, 0, 91, 25, 5, 21, 7, 46, 54, 8, 21, 8, 2, 160, 0, 7, 1, 167, 0, 9, 42, 21, 8]
abbrev dktX1_next_3 : List UInt8 := dkwX1_next_3 ++ dktX1_next_4
def dkwX1_next_2 : List UInt8 := [181, 0, 120, 25, 4, 180, 0, 103, 58, 5, 25, 5, 190, 54, 6, 3, 54, 7, 21, 7, 21, 6]
abbrev dktX1_next_2 : List UInt8 := dkwX1_next_2 ++ dktX1_next_3
def dkwX1_next_1 : List UInt8 := [16, 252, 172, 25, 4, 180, 0, 183, 154, 0, 11, 25, 4, 180, 0, 186, 198, 0, 6, 16, 251, 172, 42, 32]
abbrev dktX1_next_1 : List UInt8 := dkwX1_next_1 ++ dktX1_next_2
def dkwX1_next_0 : List UInt8 := [42, 27, 182, 0, 99, 58, 4, 25, 4, 199, 0, 6, 16, 254, 172, 32, 42, 180, 0, 120, 148, 156, 0, 6]
abbrev dktX1_next_0 : List UInt8 := dkwX1_next_0 ++ dktX1_next_1
theorem dksX1_next_0 : cX1_next.data.toList.drop 0 = dktX1_next_0 := by decide +kernel
theorem dksX1_next_1 : cX1_next.data.toList.drop 24 = dktX1_next_1 := dk_seg dksX1_next_0 24 rfl rfl
theorem dksX1_next_2 : cX1_next.data.toList.drop 48 = dktX1_next_2 := dk_seg dksX1_next_1 24 rfl rfl
theorem dksX1_next_3 : cX1_next.data.toList.drop 70 = dktX1_next_3 := dk_seg dksX1_next_2 22 rfl rfl
theorem dksX1_next_4 : cX1_next.data.toList.drop 93 = dktX1_next_4 := dk_seg dksX1_next_3 23 rfl rfl
theorem dksX1_next_5 : cX1_next.data.toList.drop 117 = dktX1_next_5 := dk_seg dksX1_next_4 24 rfl rfl
theorem dksX1_next_6 : cX1_next.data.toList.drop 141 = dktX1_next_6 := dk_seg dksX1_next_5 24 rfl rfl
theorem dX1_next_0 : decode cX1_next 0 = .ok (.aload_n 0, 1) := dk_42 (dk_at dksX1_next_0 0 rfl rfl)
theorem dX1_next_1 : decode cX1_next 1 = .ok (.iload_n 1, 1) := dk_27 (dk_at dksX1_next_0 1 rfl rfl)
theorem dX1_next_2 : decode cX1_next 2 = .ok (.invokevirtual 99, 3) := dk_182 0 99 (dk_at dksX1_next_0 2 rfl rfl)
theorem dX1_next_5 : decode cX1_next 5 = .ok (.astore 4, 2) := dk_58 4 (dk_at dksX1_next_0 5 rfl rfl)
theorem dX1_next_7 : decode cX1_next 7 = .ok (.aload 4, 2) := dk_25 4 (dk_at dksX1_next_0 7 rfl rfl)
theorem dX1_next_9 : decode cX1_next 9 = .ok (.ifnonnull 6, 3) := dk_199 0 6 (dk_at dksX1_next_0 9 rfl rfl)
theorem dX1_next_12 : decode cX1_next 12 = .ok (.bipush (-2), 2) := dk_16 254 (dk_at dksX1_next_0 12 rfl rfl)
theorem dX1_next_14 : decode cX1_next 14 = .ok (.ireturn, 1) := dk_172 (dk_at dksX1_next_0 14 rfl rfl)
theorem dX1_next_15 : decode cX1_next 15 = .ok (.lload_n 2, 1) := dk_32 (dk_at dksX1_next_0 15 rfl rfl)
theorem dX1_next_16 : decode cX1_next 16 = .ok (.aload_n 0, 1) := dk_42 (dk_at dksX1_next_0 16 rfl rfl)
theorem dX1_next_17 : decode cX1_next 17 = .ok (.getfield 120, 3) := dk_180 0 120 (dk_at dksX1_next_0 17 rfl rfl)
theorem dX1_next_20 : decode cX1_next 20 = .ok (.lcmp, 1) := dk_148 (dk_at dksX1_next_0 20 rfl rfl)
theorem dX1_next_21 : decode cX1_next 21 = .ok (.ifCond .ge 6, 3) := dk_156 0 6 (dk_at dksX1_next_0 21 rfl rfl)
theorem dX1_next_24 : decode cX1_next 24 = .ok (.bipush (-4), 2) := dk_16 252 (dk_at dksX1_next_1 0 rfl rfl)
theorem dX1_next_26 : decode cX1_next 26 = .ok (.ireturn, 1) := dk_172 (dk_at dksX1_next_1 2 rfl rfl)
theorem dX1_next_27 : decode cX1_next 27 = .ok (.aload 4, 2) := dk_25 4 (dk_at dksX1_next_1 3 rfl rfl)
theorem dX1_next_29 : decode cX1_next 29 = .ok (.getfield 183, 3) := dk_180 0 183 (dk_at dksX1_next_1 5 rfl rfl)
theorem dX1_next_32 : decode cX1_next 32 = .ok (.ifCond .ne 11, 3) := dk_154 0 11 (dk_at dksX1_next_1 8 rfl rfl)
theorem dX1_next_35 : decode cX1_next 35 = .ok (.aload 4, 2) := dk_25 4 (dk_at dksX1_next_1 11 rfl rfl)
theorem dX1_next_37 : decode cX1_next 37 = .ok (.getfield 186, 3) := dk_180 0 186 (dk_at dksX1_next_1 13 rfl rfl)
theorem dX1_next_40 : decode cX1_next 40 = .ok (.ifnull 6, 3) := dk_198 0 6 (dk_at dksX1_next_1 16 rfl rfl)
theorem dX1_next_43 : decode cX1_next 43 = .ok (.bipush (-5), 2) := dk_16 251 (dk_at dksX1_next_1 19 rfl rfl)
theorem dX1_next_45 : decode cX1_next 45 = .ok (.ireturn, 1) := dk_172 (dk_at dksX1_next_1 21 rfl rfl)
theorem dX1_next_46 : decode cX1_next 46 = .ok (.aload_n 0, 1) := dk_42 (dk_at dksX1_next_1 22 rfl rfl)
theorem dX1_next_47 : decode cX1_next 47 = .ok (.lload_n 2, 1) := dk_32 (dk_at dksX1_next_1 23 rfl rfl)
theorem dX1_next_48 : decode cX1_next 48 = .ok (.putfield 120, 3) := dk_181 0 120 (dk_at dksX1_next_2 0 rfl rfl)
theorem dX1_next_51 : decode cX1_next 51 = .ok (.aload 4, 2) := dk_25 4 (dk_at dksX1_next_2 3 rfl rfl)
theorem dX1_next_53 : decode cX1_next 53 = .ok (.getfield 103, 3) := dk_180 0 103 (dk_at dksX1_next_2 5 rfl rfl)
theorem dX1_next_56 : decode cX1_next 56 = .ok (.astore 5, 2) := dk_58 5 (dk_at dksX1_next_2 8 rfl rfl)
theorem dX1_next_58 : decode cX1_next 58 = .ok (.aload 5, 2) := dk_25 5 (dk_at dksX1_next_2 10 rfl rfl)
theorem dX1_next_60 : decode cX1_next 60 = .ok (.arraylength, 1) := dk_190 (dk_at dksX1_next_2 12 rfl rfl)
theorem dX1_next_61 : decode cX1_next 61 = .ok (.istore 6, 2) := dk_54 6 (dk_at dksX1_next_2 13 rfl rfl)
theorem dX1_next_63 : decode cX1_next 63 = .ok (.iconst 0, 1) := dk_3 (dk_at dksX1_next_2 15 rfl rfl)
theorem dX1_next_64 : decode cX1_next 64 = .ok (.istore 7, 2) := dk_54 7 (dk_at dksX1_next_2 16 rfl rfl)
theorem dX1_next_66 : decode cX1_next 66 = .ok (.iload 7, 2) := dk_21 7 (dk_at dksX1_next_2 18 rfl rfl)
theorem dX1_next_68 : decode cX1_next 68 = .ok (.iload 6, 2) := dk_21 6 (dk_at dksX1_next_2 20 rfl rfl)
theorem dX1_next_70 : decode cX1_next 70 = .ok (.if_icmp .ge 91, 3) := dk_162 0 91 (dk_at dksX1_next_3 0 rfl rfl)
theorem dX1_next_73 : decode cX1_next 73 = .ok (.aload 5, 2) := dk_25 5 (dk_at dksX1_next_3 3 rfl rfl)
theorem dX1_next_75 : decode cX1_next 75 = .ok (.iload 7, 2) := dk_21 7 (dk_at dksX1_next_3 5 rfl rfl)
theorem dX1_next_77 : decode cX1_next 77 = .ok (.iaload, 1) := dk_46 (dk_at dksX1_next_3 7 rfl rfl)
theorem dX1_next_78 : decode cX1_next 78 = .ok (.istore 8, 2) := dk_54 8 (dk_at dksX1_next_3 8 rfl rfl)
theorem dX1_next_80 : decode cX1_next 80 = .ok (.iload 8, 2) := dk_21 8 (dk_at dksX1_next_3 10 rfl rfl)
theorem dX1_next_82 : decode cX1_next 82 = .ok (.iconst (-1), 1) := dk_2 (dk_at dksX1_next_3 12 rfl rfl)
theorem dX1_next_83 : decode cX1_next 83 = .ok (.if_icmp .ne 7, 3) := dk_160 0 7 (dk_at dksX1_next_3 13 rfl rfl)
theorem dX1_next_86 : decode cX1_next 86 = .ok (.aconst_null, 1) := dk_1 (dk_at dksX1_next_3 16 rfl rfl)
theorem dX1_next_87 : decode cX1_next 87 = .ok (.goto 9, 3) := dk_167 0 9 (dk_at dksX1_next_3 17 rfl rfl)
theorem dX1_next_90 : decode cX1_next 90 = .ok (.aload_n 0, 1) := dk_42 (dk_at dksX1_next_3 20 rfl rfl)
theorem dX1_next_91 : decode cX1_next 91 = .ok (.iload 8, 2) := dk_21 8 (dk_at dksX1_next_3 21 rfl rfl)
theorem dX1_next_93 : decode cX1_next 93 = .ok (.invokevirtual 190, 3) := dk_182 0 190 (dk_at dksX1_next_4 0 rfl rfl)
theorem dX1_next_96 : decode cX1_next 96 = .ok (.astore 9, 2) := dk_58 9 (dk_at dksX1_next_4 3 rfl rfl)
theorem dX1_next_98 : decode cX1_next 98 = .ok (.aload 9, 2) := dk_25 9 (dk_at dksX1_next_4 5 rfl rfl)
theorem dX1_next_100 : decode cX1_next 100 = .ok (.ifnonnull 6, 3) := dk_199 0 6 (dk_at dksX1_next_4 7 rfl rfl)
theorem dX1_next_103 : decode cX1_next 103 = .ok (.goto 52, 3) := dk_167 0 52 (dk_at dksX1_next_4 10 rfl rfl)
theorem dX1_next_106 : decode cX1_next 106 = .ok (.aload 9, 2) := dk_25 9 (dk_at dksX1_next_4 13 rfl rfl)
theorem dX1_next_108 : decode cX1_next 108 = .ok (.getstatic 193, 3) := dk_178 0 193 (dk_at dksX1_next_4 15 rfl rfl)
theorem dX1_next_111 : decode cX1_next 111 = .ok (.putfield 161, 3) := dk_181 0 161 (dk_at dksX1_next_4 18 rfl rfl)
theorem dX1_next_114 : decode cX1_next 114 = .ok (.aload 9, 2) := dk_25 9 (dk_at dksX1_next_4 21 rfl rfl)
theorem dX1_next_116 : decode cX1_next 116 = .ok (.aload_n 0, 1) := dk_42 (dk_at dksX1_next_4 23 rfl rfl)
theorem dX1_next_117 : decode cX1_next 117 = .ok (.getfield 120, 3) := dk_180 0 120 (dk_at dksX1_next_5 0 rfl rfl)
theorem dX1_next_120 : decode cX1_next 120 = .ok (.putfield 196, 3) := dk_181 0 196 (dk_at dksX1_next_5 3 rfl rfl)
theorem dX1_next_123 : decode cX1_next 123 = .ok (.aload 9, 2) := dk_25 9 (dk_at dksX1_next_5 6 rfl rfl)
theorem dX1_next_125 : decode cX1_next 125 = .ok (.aload 4, 2) := dk_25 4 (dk_at dksX1_next_5 8 rfl rfl)
theorem dX1_next_127 : decode cX1_next 127 = .ok (.putfield 199, 3) := dk_181 0 199 (dk_at dksX1_next_5 10 rfl rfl)
theorem dX1_next_130 : decode cX1_next 130 = .ok (.aload 4, 2) := dk_25 4 (dk_at dksX1_next_5 13 rfl rfl)
theorem dX1_next_132 : decode cX1_next 132 = .ok (.aload 9, 2) := dk_25 9 (dk_at dksX1_next_5 15 rfl rfl)
theorem dX1_next_134 : decode cX1_next 134 = .ok (.putfield 186, 3) := dk_181 0 186 (dk_at dksX1_next_5 17 rfl rfl)
theorem dX1_next_137 : decode cX1_next 137 = .ok (.aload_n 0, 1) := dk_42 (dk_at dksX1_next_5 20 rfl rfl)
theorem dX1_next_138 : decode cX1_next 138 = .ok (.getfield 19, 3) := dk_180 0 19 (dk_at dksX1_next_5 21 rfl rfl)
theorem dX1_next_141 : decode cX1_next 141 = .ok (.aload 9, 2) := dk_25 9 (dk_at dksX1_next_6 0 rfl rfl)
theorem dX1_next_143 : decode cX1_next 143 = .ok (.invokeinterface 95 2, 5) := by decide +kernel
theorem dX1_next_148 : decode cX1_next 148 = .ok (.pop, 1) := dk_87 (dk_at dksX1_next_6 7 rfl rfl)
theorem dX1_next_149 : decode cX1_next 149 = .ok (.aload 9, 2) := dk_25 9 (dk_at dksX1_next_6 8 rfl rfl)
theorem dX1_next_151 : decode cX1_next 151 = .ok (.getfield 203, 3) := dk_180 0 203 (dk_at dksX1_next_6 10 rfl rfl)
theorem dX1_next_154 : decode cX1_next 154 = .ok (.ireturn, 1) := dk_172 (dk_at dksX1_next_6 13 rfl rfl)
theorem dX1_next_155 : decode cX1_next 155 = .ok (.iinc 7 1, 3) := dk_132 7 1 (dk_at dksX1_next_6 14 rfl rfl)
theorem dX1_next_158 : decode cX1_next 158 = .ok (.goto (-92), 3) := dk_167 255 164 (dk_at dksX1_next_6 17 rfl rfl)
theorem dX1_next_161 : decode cX1_next 161 = .ok (.iconst 0, 1) := dk_3 (dk_at dksX1_next_6 20 rfl rfl)
theorem dX1_next_162 : decode cX1_next 162 = .ok (.ireturn, 1) := dk_172 (dk_at dksX1_next_6 21 rfl rfl)
abbrev cX1_best : ByteArray := prog_1_method_17_code
def yX1_best : MethodName := ⟨RX1, "best", "(I)LInitiatorRows$Job;"⟩
def dkwX1_best_4 : List UInt8 := [167, 255, 169, 44, 176]
abbrev dktX1_best_4 : List UInt8 := dkwX1_best_4 ++ []
def dkwX1_best_3 : List UInt8 := [182, 0, 179, 42, 180, 0, 71, 44, 42, 180, 0, 120, 182, 0, 179, 164, 0, 6, 25, 4, 77, 132, 3, 1]
abbrev dktX1_best_3 : List UInt8 := dkwX1_best_3 ++ dktX1_best_4
def dkwX1_best_2 : List UInt8 := [182, 0, 176, 154, 0, 6, 167, 0, 38, 44, 198, 0, 31, 42, 180, 0, 71, 25, 4, 42, 180, 0, 120]
abbrev dktX1_best_2 : List UInt8 := dkwX1_best_2 ++ dktX1_best_3
def dkwX1_best_1 : List UInt8 := [185, 0, 86, 2, 0, 192, 0, 92, 58, 4, 25, 4, 180, 0, 164, 27, 160, 0, 50, 42, 25, 4]
abbrev dktX1_best_1 : List UInt8 := dkwX1_best_1 ++ dktX1_best_2
def dkwX1_best_0 : List UInt8 := [1, 77, 3, 62, 29, 42, 180, 0, 16, 185, 0, 80, 1, 0, 162, 0, 80, 42, 180, 0, 16, 29]
abbrev dktX1_best_0 : List UInt8 := dkwX1_best_0 ++ dktX1_best_1
theorem dksX1_best_0 : cX1_best.data.toList.drop 0 = dktX1_best_0 := by decide +kernel
theorem dksX1_best_1 : cX1_best.data.toList.drop 22 = dktX1_best_1 := dk_seg dksX1_best_0 22 rfl rfl
theorem dksX1_best_2 : cX1_best.data.toList.drop 44 = dktX1_best_2 := dk_seg dksX1_best_1 22 rfl rfl
theorem dksX1_best_3 : cX1_best.data.toList.drop 67 = dktX1_best_3 := dk_seg dksX1_best_2 23 rfl rfl
theorem dksX1_best_4 : cX1_best.data.toList.drop 91 = dktX1_best_4 := dk_seg dksX1_best_3 24 rfl rfl
theorem dX1_best_0 : decode cX1_best 0 = .ok (.aconst_null, 1) := dk_1 (dk_at dksX1_best_0 0 rfl rfl)
theorem dX1_best_1 : decode cX1_best 1 = .ok (.astore_n 2, 1) := dk_77 (dk_at dksX1_best_0 1 rfl rfl)
theorem dX1_best_2 : decode cX1_best 2 = .ok (.iconst 0, 1) := dk_3 (dk_at dksX1_best_0 2 rfl rfl)
theorem dX1_best_3 : decode cX1_best 3 = .ok (.istore_n 3, 1) := dk_62 (dk_at dksX1_best_0 3 rfl rfl)
theorem dX1_best_4 : decode cX1_best 4 = .ok (.iload_n 3, 1) := dk_29 (dk_at dksX1_best_0 4 rfl rfl)
theorem dX1_best_5 : decode cX1_best 5 = .ok (.aload_n 0, 1) := dk_42 (dk_at dksX1_best_0 5 rfl rfl)
theorem dX1_best_6 : decode cX1_best 6 = .ok (.getfield 16, 3) := dk_180 0 16 (dk_at dksX1_best_0 6 rfl rfl)
theorem dX1_best_9 : decode cX1_best 9 = .ok (.invokeinterface 80 1, 5) := by decide +kernel
theorem dX1_best_14 : decode cX1_best 14 = .ok (.if_icmp .ge 80, 3) := dk_162 0 80 (dk_at dksX1_best_0 14 rfl rfl)
theorem dX1_best_17 : decode cX1_best 17 = .ok (.aload_n 0, 1) := dk_42 (dk_at dksX1_best_0 17 rfl rfl)
theorem dX1_best_18 : decode cX1_best 18 = .ok (.getfield 16, 3) := dk_180 0 16 (dk_at dksX1_best_0 18 rfl rfl)
theorem dX1_best_21 : decode cX1_best 21 = .ok (.iload_n 3, 1) := dk_29 (dk_at dksX1_best_0 21 rfl rfl)
theorem dX1_best_22 : decode cX1_best 22 = .ok (.invokeinterface 86 2, 5) := by decide +kernel
theorem dX1_best_27 : decode cX1_best 27 = .ok (.checkcast 92, 3) := dk_192 0 92 (dk_at dksX1_best_1 5 rfl rfl)
theorem dX1_best_30 : decode cX1_best 30 = .ok (.astore 4, 2) := dk_58 4 (dk_at dksX1_best_1 8 rfl rfl)
theorem dX1_best_32 : decode cX1_best 32 = .ok (.aload 4, 2) := dk_25 4 (dk_at dksX1_best_1 10 rfl rfl)
theorem dX1_best_34 : decode cX1_best 34 = .ok (.getfield 164, 3) := dk_180 0 164 (dk_at dksX1_best_1 12 rfl rfl)
theorem dX1_best_37 : decode cX1_best 37 = .ok (.iload_n 1, 1) := dk_27 (dk_at dksX1_best_1 15 rfl rfl)
theorem dX1_best_38 : decode cX1_best 38 = .ok (.if_icmp .ne 50, 3) := dk_160 0 50 (dk_at dksX1_best_1 16 rfl rfl)
theorem dX1_best_41 : decode cX1_best 41 = .ok (.aload_n 0, 1) := dk_42 (dk_at dksX1_best_1 19 rfl rfl)
theorem dX1_best_42 : decode cX1_best 42 = .ok (.aload 4, 2) := dk_25 4 (dk_at dksX1_best_1 20 rfl rfl)
theorem dX1_best_44 : decode cX1_best 44 = .ok (.invokevirtual 176, 3) := dk_182 0 176 (dk_at dksX1_best_2 0 rfl rfl)
theorem dX1_best_47 : decode cX1_best 47 = .ok (.ifCond .ne 6, 3) := dk_154 0 6 (dk_at dksX1_best_2 3 rfl rfl)
theorem dX1_best_50 : decode cX1_best 50 = .ok (.goto 38, 3) := dk_167 0 38 (dk_at dksX1_best_2 6 rfl rfl)
theorem dX1_best_53 : decode cX1_best 53 = .ok (.aload_n 2, 1) := dk_44 (dk_at dksX1_best_2 9 rfl rfl)
theorem dX1_best_54 : decode cX1_best 54 = .ok (.ifnull 31, 3) := dk_198 0 31 (dk_at dksX1_best_2 10 rfl rfl)
theorem dX1_best_57 : decode cX1_best 57 = .ok (.aload_n 0, 1) := dk_42 (dk_at dksX1_best_2 13 rfl rfl)
theorem dX1_best_58 : decode cX1_best 58 = .ok (.getfield 71, 3) := dk_180 0 71 (dk_at dksX1_best_2 14 rfl rfl)
theorem dX1_best_61 : decode cX1_best 61 = .ok (.aload 4, 2) := dk_25 4 (dk_at dksX1_best_2 17 rfl rfl)
theorem dX1_best_63 : decode cX1_best 63 = .ok (.aload_n 0, 1) := dk_42 (dk_at dksX1_best_2 19 rfl rfl)
theorem dX1_best_64 : decode cX1_best 64 = .ok (.getfield 120, 3) := dk_180 0 120 (dk_at dksX1_best_2 20 rfl rfl)
theorem dX1_best_67 : decode cX1_best 67 = .ok (.invokevirtual 179, 3) := dk_182 0 179 (dk_at dksX1_best_3 0 rfl rfl)
theorem dX1_best_70 : decode cX1_best 70 = .ok (.aload_n 0, 1) := dk_42 (dk_at dksX1_best_3 3 rfl rfl)
theorem dX1_best_71 : decode cX1_best 71 = .ok (.getfield 71, 3) := dk_180 0 71 (dk_at dksX1_best_3 4 rfl rfl)
theorem dX1_best_74 : decode cX1_best 74 = .ok (.aload_n 2, 1) := dk_44 (dk_at dksX1_best_3 7 rfl rfl)
theorem dX1_best_75 : decode cX1_best 75 = .ok (.aload_n 0, 1) := dk_42 (dk_at dksX1_best_3 8 rfl rfl)
theorem dX1_best_76 : decode cX1_best 76 = .ok (.getfield 120, 3) := dk_180 0 120 (dk_at dksX1_best_3 9 rfl rfl)
theorem dX1_best_79 : decode cX1_best 79 = .ok (.invokevirtual 179, 3) := dk_182 0 179 (dk_at dksX1_best_3 12 rfl rfl)
theorem dX1_best_82 : decode cX1_best 82 = .ok (.if_icmp .le 6, 3) := dk_164 0 6 (dk_at dksX1_best_3 15 rfl rfl)
theorem dX1_best_85 : decode cX1_best 85 = .ok (.aload 4, 2) := dk_25 4 (dk_at dksX1_best_3 18 rfl rfl)
theorem dX1_best_87 : decode cX1_best 87 = .ok (.astore_n 2, 1) := dk_77 (dk_at dksX1_best_3 20 rfl rfl)
theorem dX1_best_88 : decode cX1_best 88 = .ok (.iinc 3 1, 3) := dk_132 3 1 (dk_at dksX1_best_3 21 rfl rfl)
theorem dX1_best_91 : decode cX1_best 91 = .ok (.goto (-87), 3) := dk_167 255 169 (dk_at dksX1_best_4 0 rfl rfl)
theorem dX1_best_94 : decode cX1_best 94 = .ok (.aload_n 2, 1) := dk_44 (dk_at dksX1_best_4 3 rfl rfl)
theorem dX1_best_95 : decode cX1_best 95 = .ok (.areturn, 1) := dk_176 (dk_at dksX1_best_4 4 rfl rfl)
abbrev cX1_mayStart : ByteArray := prog_1_method_16_code
def yX1_mayStart : MethodName := ⟨RX1, "mayStart", "(LInitiatorRows$Job;)Z"⟩
def dkwX1_mayStart_2 : List UInt8 := [58, 5, 25, 5, 43, 185, 0, 172, 2, 0, 154, 0, 5, 3, 172, 132, 4, 1, 167, 255, 228, 4, 172]
abbrev dktX1_mayStart_2 : List UInt8 := dkwX1_mayStart_2 ++ []
def dkwX1_mayStart_1 : List UInt8 := [3, 172, 42, 180, 0, 62, 77, 44, 190, 62, 3, 54, 4, 21, 4, 29, 162, 0, 28, 44, 21, 4, 50]
abbrev dktX1_mayStart_1 : List UInt8 := dkwX1_mayStart_1 ++ dktX1_mayStart_2
def dkwX1_mayStart_0 : List UInt8 := [42, 180, 0, 24, 43, 180, 0, 164, 50, 42, 180, 0, 120, 20, 0, 167, 113, 136, 182, 0, 169, 154, 0, 5]
abbrev dktX1_mayStart_0 : List UInt8 := dkwX1_mayStart_0 ++ dktX1_mayStart_1
theorem dksX1_mayStart_0 : cX1_mayStart.data.toList.drop 0 = dktX1_mayStart_0 := by decide +kernel
theorem dksX1_mayStart_1 : cX1_mayStart.data.toList.drop 24 = dktX1_mayStart_1 := dk_seg dksX1_mayStart_0 24 rfl rfl
theorem dksX1_mayStart_2 : cX1_mayStart.data.toList.drop 47 = dktX1_mayStart_2 := dk_seg dksX1_mayStart_1 23 rfl rfl
theorem dX1_mayStart_0 : decode cX1_mayStart 0 = .ok (.aload_n 0, 1) := dk_42 (dk_at dksX1_mayStart_0 0 rfl rfl)
theorem dX1_mayStart_1 : decode cX1_mayStart 1 = .ok (.getfield 24, 3) := dk_180 0 24 (dk_at dksX1_mayStart_0 1 rfl rfl)
theorem dX1_mayStart_4 : decode cX1_mayStart 4 = .ok (.aload_n 1, 1) := dk_43 (dk_at dksX1_mayStart_0 4 rfl rfl)
theorem dX1_mayStart_5 : decode cX1_mayStart 5 = .ok (.getfield 164, 3) := dk_180 0 164 (dk_at dksX1_mayStart_0 5 rfl rfl)
theorem dX1_mayStart_8 : decode cX1_mayStart 8 = .ok (.aaload, 1) := dk_50 (dk_at dksX1_mayStart_0 8 rfl rfl)
theorem dX1_mayStart_9 : decode cX1_mayStart 9 = .ok (.aload_n 0, 1) := dk_42 (dk_at dksX1_mayStart_0 9 rfl rfl)
theorem dX1_mayStart_10 : decode cX1_mayStart 10 = .ok (.getfield 120, 3) := dk_180 0 120 (dk_at dksX1_mayStart_0 10 rfl rfl)
theorem dX1_mayStart_13 : decode cX1_mayStart 13 = .ok (.ldc2_w 167, 3) := dk_20 0 167 (dk_at dksX1_mayStart_0 13 rfl rfl)
theorem dX1_mayStart_16 : decode cX1_mayStart 16 = .ok (.lrem, 1) := dk_113 (dk_at dksX1_mayStart_0 16 rfl rfl)
theorem dX1_mayStart_17 : decode cX1_mayStart 17 = .ok (.l2i, 1) := dk_136 (dk_at dksX1_mayStart_0 17 rfl rfl)
theorem dX1_mayStart_18 : decode cX1_mayStart 18 = .ok (.invokevirtual 169, 3) := dk_182 0 169 (dk_at dksX1_mayStart_0 18 rfl rfl)
theorem dX1_mayStart_21 : decode cX1_mayStart 21 = .ok (.ifCond .ne 5, 3) := dk_154 0 5 (dk_at dksX1_mayStart_0 21 rfl rfl)
theorem dX1_mayStart_24 : decode cX1_mayStart 24 = .ok (.iconst 0, 1) := dk_3 (dk_at dksX1_mayStart_1 0 rfl rfl)
theorem dX1_mayStart_25 : decode cX1_mayStart 25 = .ok (.ireturn, 1) := dk_172 (dk_at dksX1_mayStart_1 1 rfl rfl)
theorem dX1_mayStart_26 : decode cX1_mayStart 26 = .ok (.aload_n 0, 1) := dk_42 (dk_at dksX1_mayStart_1 2 rfl rfl)
theorem dX1_mayStart_27 : decode cX1_mayStart 27 = .ok (.getfield 62, 3) := dk_180 0 62 (dk_at dksX1_mayStart_1 3 rfl rfl)
theorem dX1_mayStart_30 : decode cX1_mayStart 30 = .ok (.astore_n 2, 1) := dk_77 (dk_at dksX1_mayStart_1 6 rfl rfl)
theorem dX1_mayStart_31 : decode cX1_mayStart 31 = .ok (.aload_n 2, 1) := dk_44 (dk_at dksX1_mayStart_1 7 rfl rfl)
theorem dX1_mayStart_32 : decode cX1_mayStart 32 = .ok (.arraylength, 1) := dk_190 (dk_at dksX1_mayStart_1 8 rfl rfl)
theorem dX1_mayStart_33 : decode cX1_mayStart 33 = .ok (.istore_n 3, 1) := dk_62 (dk_at dksX1_mayStart_1 9 rfl rfl)
theorem dX1_mayStart_34 : decode cX1_mayStart 34 = .ok (.iconst 0, 1) := dk_3 (dk_at dksX1_mayStart_1 10 rfl rfl)
theorem dX1_mayStart_35 : decode cX1_mayStart 35 = .ok (.istore 4, 2) := dk_54 4 (dk_at dksX1_mayStart_1 11 rfl rfl)
theorem dX1_mayStart_37 : decode cX1_mayStart 37 = .ok (.iload 4, 2) := dk_21 4 (dk_at dksX1_mayStart_1 13 rfl rfl)
theorem dX1_mayStart_39 : decode cX1_mayStart 39 = .ok (.iload_n 3, 1) := dk_29 (dk_at dksX1_mayStart_1 15 rfl rfl)
theorem dX1_mayStart_40 : decode cX1_mayStart 40 = .ok (.if_icmp .ge 28, 3) := dk_162 0 28 (dk_at dksX1_mayStart_1 16 rfl rfl)
theorem dX1_mayStart_43 : decode cX1_mayStart 43 = .ok (.aload_n 2, 1) := dk_44 (dk_at dksX1_mayStart_1 19 rfl rfl)
theorem dX1_mayStart_44 : decode cX1_mayStart 44 = .ok (.iload 4, 2) := dk_21 4 (dk_at dksX1_mayStart_1 20 rfl rfl)
theorem dX1_mayStart_46 : decode cX1_mayStart 46 = .ok (.aaload, 1) := dk_50 (dk_at dksX1_mayStart_1 22 rfl rfl)
theorem dX1_mayStart_47 : decode cX1_mayStart 47 = .ok (.astore 5, 2) := dk_58 5 (dk_at dksX1_mayStart_2 0 rfl rfl)
theorem dX1_mayStart_49 : decode cX1_mayStart 49 = .ok (.aload 5, 2) := dk_25 5 (dk_at dksX1_mayStart_2 2 rfl rfl)
theorem dX1_mayStart_51 : decode cX1_mayStart 51 = .ok (.aload_n 1, 1) := dk_43 (dk_at dksX1_mayStart_2 4 rfl rfl)
theorem dX1_mayStart_52 : decode cX1_mayStart 52 = .ok (.invokeinterface 172 2, 5) := by decide +kernel
theorem dX1_mayStart_57 : decode cX1_mayStart 57 = .ok (.ifCond .ne 5, 3) := dk_154 0 5 (dk_at dksX1_mayStart_2 10 rfl rfl)
theorem dX1_mayStart_60 : decode cX1_mayStart 60 = .ok (.iconst 0, 1) := dk_3 (dk_at dksX1_mayStart_2 13 rfl rfl)
theorem dX1_mayStart_61 : decode cX1_mayStart 61 = .ok (.ireturn, 1) := dk_172 (dk_at dksX1_mayStart_2 14 rfl rfl)
theorem dX1_mayStart_62 : decode cX1_mayStart 62 = .ok (.iinc 4 1, 3) := dk_132 4 1 (dk_at dksX1_mayStart_2 15 rfl rfl)
theorem dX1_mayStart_65 : decode cX1_mayStart 65 = .ok (.goto (-28), 3) := dk_167 255 228 (dk_at dksX1_mayStart_2 18 rfl rfl)
theorem dX1_mayStart_68 : decode cX1_mayStart 68 = .ok (.iconst 1, 1) := dk_4 (dk_at dksX1_mayStart_2 21 rfl rfl)
theorem dX1_mayStart_69 : decode cX1_mayStart 69 = .ok (.ireturn, 1) := dk_172 (dk_at dksX1_mayStart_2 22 rfl rfl)
abbrev cX1_end : ByteArray := prog_1_method_19_code
def yX1_end : MethodName := ⟨RX1, "end", "(I)I"⟩
def dkwX1_end_2 : List UInt8 := [87, 4, 172]
abbrev dktX1_end_2 : List UInt8 := dkwX1_end_2 ++ []
def dkwX1_end_1 : List UInt8 := [178, 0, 209, 181, 0, 161, 44, 180, 0, 199, 1, 181, 0, 186, 42, 180, 0, 19, 44, 185, 0, 212, 2, 0]
abbrev dktX1_end_1 : List UInt8 := dkwX1_end_1 ++ dktX1_end_2
def dkwX1_end_0 : List UInt8 := [42, 27, 182, 0, 127, 77, 44, 199, 0, 6, 16, 254, 172, 44, 182, 0, 206, 154, 0, 6, 16, 251, 172, 44]
abbrev dktX1_end_0 : List UInt8 := dkwX1_end_0 ++ dktX1_end_1
theorem dksX1_end_0 : cX1_end.data.toList.drop 0 = dktX1_end_0 := by decide +kernel
theorem dksX1_end_1 : cX1_end.data.toList.drop 24 = dktX1_end_1 := dk_seg dksX1_end_0 24 rfl rfl
theorem dksX1_end_2 : cX1_end.data.toList.drop 48 = dktX1_end_2 := dk_seg dksX1_end_1 24 rfl rfl
theorem dX1_end_0 : decode cX1_end 0 = .ok (.aload_n 0, 1) := dk_42 (dk_at dksX1_end_0 0 rfl rfl)
theorem dX1_end_1 : decode cX1_end 1 = .ok (.iload_n 1, 1) := dk_27 (dk_at dksX1_end_0 1 rfl rfl)
theorem dX1_end_2 : decode cX1_end 2 = .ok (.invokevirtual 127, 3) := dk_182 0 127 (dk_at dksX1_end_0 2 rfl rfl)
theorem dX1_end_5 : decode cX1_end 5 = .ok (.astore_n 2, 1) := dk_77 (dk_at dksX1_end_0 5 rfl rfl)
theorem dX1_end_6 : decode cX1_end 6 = .ok (.aload_n 2, 1) := dk_44 (dk_at dksX1_end_0 6 rfl rfl)
theorem dX1_end_7 : decode cX1_end 7 = .ok (.ifnonnull 6, 3) := dk_199 0 6 (dk_at dksX1_end_0 7 rfl rfl)
theorem dX1_end_10 : decode cX1_end 10 = .ok (.bipush (-2), 2) := dk_16 254 (dk_at dksX1_end_0 10 rfl rfl)
theorem dX1_end_12 : decode cX1_end 12 = .ok (.ireturn, 1) := dk_172 (dk_at dksX1_end_0 12 rfl rfl)
theorem dX1_end_13 : decode cX1_end 13 = .ok (.aload_n 2, 1) := dk_44 (dk_at dksX1_end_0 13 rfl rfl)
theorem dX1_end_14 : decode cX1_end 14 = .ok (.invokevirtual 206, 3) := dk_182 0 206 (dk_at dksX1_end_0 14 rfl rfl)
theorem dX1_end_17 : decode cX1_end 17 = .ok (.ifCond .ne 6, 3) := dk_154 0 6 (dk_at dksX1_end_0 17 rfl rfl)
theorem dX1_end_20 : decode cX1_end 20 = .ok (.bipush (-5), 2) := dk_16 251 (dk_at dksX1_end_0 20 rfl rfl)
theorem dX1_end_22 : decode cX1_end 22 = .ok (.ireturn, 1) := dk_172 (dk_at dksX1_end_0 22 rfl rfl)
theorem dX1_end_23 : decode cX1_end 23 = .ok (.aload_n 2, 1) := dk_44 (dk_at dksX1_end_0 23 rfl rfl)
theorem dX1_end_24 : decode cX1_end 24 = .ok (.getstatic 209, 3) := dk_178 0 209 (dk_at dksX1_end_1 0 rfl rfl)
theorem dX1_end_27 : decode cX1_end 27 = .ok (.putfield 161, 3) := dk_181 0 161 (dk_at dksX1_end_1 3 rfl rfl)
theorem dX1_end_30 : decode cX1_end 30 = .ok (.aload_n 2, 1) := dk_44 (dk_at dksX1_end_1 6 rfl rfl)
theorem dX1_end_31 : decode cX1_end 31 = .ok (.getfield 199, 3) := dk_180 0 199 (dk_at dksX1_end_1 7 rfl rfl)
theorem dX1_end_34 : decode cX1_end 34 = .ok (.aconst_null, 1) := dk_1 (dk_at dksX1_end_1 10 rfl rfl)
theorem dX1_end_35 : decode cX1_end 35 = .ok (.putfield 186, 3) := dk_181 0 186 (dk_at dksX1_end_1 11 rfl rfl)
theorem dX1_end_38 : decode cX1_end 38 = .ok (.aload_n 0, 1) := dk_42 (dk_at dksX1_end_1 14 rfl rfl)
theorem dX1_end_39 : decode cX1_end 39 = .ok (.getfield 19, 3) := dk_180 0 19 (dk_at dksX1_end_1 15 rfl rfl)
theorem dX1_end_42 : decode cX1_end 42 = .ok (.aload_n 2, 1) := dk_44 (dk_at dksX1_end_1 18 rfl rfl)
theorem dX1_end_43 : decode cX1_end 43 = .ok (.invokeinterface 212 2, 5) := by decide +kernel
theorem dX1_end_48 : decode cX1_end 48 = .ok (.pop, 1) := dk_87 (dk_at dksX1_end_2 0 rfl rfl)
theorem dX1_end_49 : decode cX1_end 49 = .ok (.iconst 1, 1) := dk_4 (dk_at dksX1_end_2 1 rfl rfl)
theorem dX1_end_50 : decode cX1_end 50 = .ok (.ireturn, 1) := dk_172 (dk_at dksX1_end_2 2 rfl rfl)
abbrev cX1_age : ByteArray := prog_1_method_20_code
def yX1_age : MethodName := ⟨RX1, "age", "(JI)I"⟩
def dkwX1_age_1 : List UInt8 := [31, 29, 183, 0, 68, 181, 0, 71, 4, 172]
abbrev dktX1_age_1 : List UInt8 := dkwX1_age_1 ++ []
def dkwX1_age_0 : List UInt8 := [31, 9, 148, 155, 0, 13, 29, 3, 16, 15, 184, 0, 76, 154, 0, 6, 16, 252, 172, 42, 187, 0, 66, 89]
abbrev dktX1_age_0 : List UInt8 := dkwX1_age_0 ++ dktX1_age_1
theorem dksX1_age_0 : cX1_age.data.toList.drop 0 = dktX1_age_0 := by decide +kernel
theorem dksX1_age_1 : cX1_age.data.toList.drop 24 = dktX1_age_1 := dk_seg dksX1_age_0 24 rfl rfl
theorem dX1_age_0 : decode cX1_age 0 = .ok (.lload_n 1, 1) := dk_31 (dk_at dksX1_age_0 0 rfl rfl)
theorem dX1_age_1 : decode cX1_age 1 = .ok (.lconst 0, 1) := dk_9 (dk_at dksX1_age_0 1 rfl rfl)
theorem dX1_age_2 : decode cX1_age 2 = .ok (.lcmp, 1) := dk_148 (dk_at dksX1_age_0 2 rfl rfl)
theorem dX1_age_3 : decode cX1_age 3 = .ok (.ifCond .lt 13, 3) := dk_155 0 13 (dk_at dksX1_age_0 3 rfl rfl)
theorem dX1_age_6 : decode cX1_age 6 = .ok (.iload_n 3, 1) := dk_29 (dk_at dksX1_age_0 6 rfl rfl)
theorem dX1_age_7 : decode cX1_age 7 = .ok (.iconst 0, 1) := dk_3 (dk_at dksX1_age_0 7 rfl rfl)
theorem dX1_age_8 : decode cX1_age 8 = .ok (.bipush 15, 2) := dk_16 15 (dk_at dksX1_age_0 8 rfl rfl)
theorem dX1_age_10 : decode cX1_age 10 = .ok (.invokestatic 76, 3) := dk_184 0 76 (dk_at dksX1_age_0 10 rfl rfl)
theorem dX1_age_13 : decode cX1_age 13 = .ok (.ifCond .ne 6, 3) := dk_154 0 6 (dk_at dksX1_age_0 13 rfl rfl)
theorem dX1_age_16 : decode cX1_age 16 = .ok (.bipush (-4), 2) := dk_16 252 (dk_at dksX1_age_0 16 rfl rfl)
theorem dX1_age_18 : decode cX1_age 18 = .ok (.ireturn, 1) := dk_172 (dk_at dksX1_age_0 18 rfl rfl)
theorem dX1_age_19 : decode cX1_age 19 = .ok (.aload_n 0, 1) := dk_42 (dk_at dksX1_age_0 19 rfl rfl)
theorem dX1_age_20 : decode cX1_age 20 = .ok (.new 66, 3) := dk_187 0 66 (dk_at dksX1_age_0 20 rfl rfl)
theorem dX1_age_23 : decode cX1_age 23 = .ok (.dup, 1) := dk_89 (dk_at dksX1_age_0 23 rfl rfl)
theorem dX1_age_24 : decode cX1_age 24 = .ok (.lload_n 1, 1) := dk_31 (dk_at dksX1_age_1 0 rfl rfl)
theorem dX1_age_25 : decode cX1_age 25 = .ok (.iload_n 3, 1) := dk_29 (dk_at dksX1_age_1 1 rfl rfl)
theorem dX1_age_26 : decode cX1_age 26 = .ok (.invokespecial 68, 3) := dk_183 0 68 (dk_at dksX1_age_1 2 rfl rfl)
theorem dX1_age_29 : decode cX1_age 29 = .ok (.putfield 71, 3) := dk_181 0 71 (dk_at dksX1_age_1 5 rfl rfl)
theorem dX1_age_32 : decode cX1_age 32 = .ok (.iconst 1, 1) := dk_4 (dk_at dksX1_age_1 8 rfl rfl)
theorem dX1_age_33 : decode cX1_age 33 = .ok (.ireturn, 1) := dk_172 (dk_at dksX1_age_1 9 rfl rfl)
abbrev cX1_drain : ByteArray := prog_1_method_21_code
def yX1_drain : MethodName := ⟨RX1, "drain", "(IZ)I"⟩
def dkwX1_drain_1 : List UInt8 := [28, 181, 0, 183, 4, 172]
abbrev dktX1_drain_1 : List UInt8 := dkwX1_drain_1 ++ []
def dkwX1_drain_0 : List UInt8 := [42, 27, 182, 0, 99, 78, 45, 199, 0, 6, 16, 254, 172, 45, 180, 0, 183, 28, 160, 0, 5, 3, 172, 45]
abbrev dktX1_drain_0 : List UInt8 := dkwX1_drain_0 ++ dktX1_drain_1
theorem dksX1_drain_0 : cX1_drain.data.toList.drop 0 = dktX1_drain_0 := by decide +kernel
theorem dksX1_drain_1 : cX1_drain.data.toList.drop 24 = dktX1_drain_1 := dk_seg dksX1_drain_0 24 rfl rfl
theorem dX1_drain_0 : decode cX1_drain 0 = .ok (.aload_n 0, 1) := dk_42 (dk_at dksX1_drain_0 0 rfl rfl)
theorem dX1_drain_1 : decode cX1_drain 1 = .ok (.iload_n 1, 1) := dk_27 (dk_at dksX1_drain_0 1 rfl rfl)
theorem dX1_drain_2 : decode cX1_drain 2 = .ok (.invokevirtual 99, 3) := dk_182 0 99 (dk_at dksX1_drain_0 2 rfl rfl)
theorem dX1_drain_5 : decode cX1_drain 5 = .ok (.astore_n 3, 1) := dk_78 (dk_at dksX1_drain_0 5 rfl rfl)
theorem dX1_drain_6 : decode cX1_drain 6 = .ok (.aload_n 3, 1) := dk_45 (dk_at dksX1_drain_0 6 rfl rfl)
theorem dX1_drain_7 : decode cX1_drain 7 = .ok (.ifnonnull 6, 3) := dk_199 0 6 (dk_at dksX1_drain_0 7 rfl rfl)
theorem dX1_drain_10 : decode cX1_drain 10 = .ok (.bipush (-2), 2) := dk_16 254 (dk_at dksX1_drain_0 10 rfl rfl)
theorem dX1_drain_12 : decode cX1_drain 12 = .ok (.ireturn, 1) := dk_172 (dk_at dksX1_drain_0 12 rfl rfl)
theorem dX1_drain_13 : decode cX1_drain 13 = .ok (.aload_n 3, 1) := dk_45 (dk_at dksX1_drain_0 13 rfl rfl)
theorem dX1_drain_14 : decode cX1_drain 14 = .ok (.getfield 183, 3) := dk_180 0 183 (dk_at dksX1_drain_0 14 rfl rfl)
theorem dX1_drain_17 : decode cX1_drain 17 = .ok (.iload_n 2, 1) := dk_28 (dk_at dksX1_drain_0 17 rfl rfl)
theorem dX1_drain_18 : decode cX1_drain 18 = .ok (.if_icmp .ne 5, 3) := dk_160 0 5 (dk_at dksX1_drain_0 18 rfl rfl)
theorem dX1_drain_21 : decode cX1_drain 21 = .ok (.iconst 0, 1) := dk_3 (dk_at dksX1_drain_0 21 rfl rfl)
theorem dX1_drain_22 : decode cX1_drain 22 = .ok (.ireturn, 1) := dk_172 (dk_at dksX1_drain_0 22 rfl rfl)
theorem dX1_drain_23 : decode cX1_drain 23 = .ok (.aload_n 3, 1) := dk_45 (dk_at dksX1_drain_0 23 rfl rfl)
theorem dX1_drain_24 : decode cX1_drain 24 = .ok (.iload_n 2, 1) := dk_28 (dk_at dksX1_drain_1 0 rfl rfl)
theorem dX1_drain_25 : decode cX1_drain 25 = .ok (.putfield 183, 3) := dk_181 0 183 (dk_at dksX1_drain_1 1 rfl rfl)
theorem dX1_drain_28 : decode cX1_drain 28 = .ok (.iconst 1, 1) := dk_4 (dk_at dksX1_drain_1 4 rfl rfl)
theorem dX1_drain_29 : decode cX1_drain 29 = .ok (.ireturn, 1) := dk_172 (dk_at dksX1_drain_1 5 rfl rfl)
abbrev cX1_weight : ByteArray := prog_1_method_22_code
def yX1_weight : MethodName := ⟨RX1, "weight", "(II)I"⟩
def dkwX1_weight_1 : List UInt8 := [180, 0, 24, 27, 50, 28, 181, 0, 215, 4, 172]
abbrev dktX1_weight_1 : List UInt8 := dkwX1_weight_1 ++ []
def dkwX1_weight_0 : List UInt8 := [27, 184, 0, 106, 153, 0, 14, 28, 3, 17, 3, 232, 184, 0, 76, 154, 0, 6, 16, 252, 172, 42]
abbrev dktX1_weight_0 : List UInt8 := dkwX1_weight_0 ++ dktX1_weight_1
theorem dksX1_weight_0 : cX1_weight.data.toList.drop 0 = dktX1_weight_0 := by decide +kernel
theorem dksX1_weight_1 : cX1_weight.data.toList.drop 22 = dktX1_weight_1 := dk_seg dksX1_weight_0 22 rfl rfl
theorem dX1_weight_0 : decode cX1_weight 0 = .ok (.iload_n 1, 1) := dk_27 (dk_at dksX1_weight_0 0 rfl rfl)
theorem dX1_weight_1 : decode cX1_weight 1 = .ok (.invokestatic 106, 3) := dk_184 0 106 (dk_at dksX1_weight_0 1 rfl rfl)
theorem dX1_weight_4 : decode cX1_weight 4 = .ok (.ifCond .eq 14, 3) := dk_153 0 14 (dk_at dksX1_weight_0 4 rfl rfl)
theorem dX1_weight_7 : decode cX1_weight 7 = .ok (.iload_n 2, 1) := dk_28 (dk_at dksX1_weight_0 7 rfl rfl)
theorem dX1_weight_8 : decode cX1_weight 8 = .ok (.iconst 0, 1) := dk_3 (dk_at dksX1_weight_0 8 rfl rfl)
theorem dX1_weight_9 : decode cX1_weight 9 = .ok (.sipush 1000, 3) := dk_17 3 232 (dk_at dksX1_weight_0 9 rfl rfl)
theorem dX1_weight_12 : decode cX1_weight 12 = .ok (.invokestatic 76, 3) := dk_184 0 76 (dk_at dksX1_weight_0 12 rfl rfl)
theorem dX1_weight_15 : decode cX1_weight 15 = .ok (.ifCond .ne 6, 3) := dk_154 0 6 (dk_at dksX1_weight_0 15 rfl rfl)
theorem dX1_weight_18 : decode cX1_weight 18 = .ok (.bipush (-4), 2) := dk_16 252 (dk_at dksX1_weight_0 18 rfl rfl)
theorem dX1_weight_20 : decode cX1_weight 20 = .ok (.ireturn, 1) := dk_172 (dk_at dksX1_weight_0 20 rfl rfl)
theorem dX1_weight_21 : decode cX1_weight 21 = .ok (.aload_n 0, 1) := dk_42 (dk_at dksX1_weight_0 21 rfl rfl)
theorem dX1_weight_22 : decode cX1_weight 22 = .ok (.getfield 24, 3) := dk_180 0 24 (dk_at dksX1_weight_1 0 rfl rfl)
theorem dX1_weight_25 : decode cX1_weight 25 = .ok (.iload_n 1, 1) := dk_27 (dk_at dksX1_weight_1 3 rfl rfl)
theorem dX1_weight_26 : decode cX1_weight 26 = .ok (.aaload, 1) := dk_50 (dk_at dksX1_weight_1 4 rfl rfl)
theorem dX1_weight_27 : decode cX1_weight 27 = .ok (.iload_n 2, 1) := dk_28 (dk_at dksX1_weight_1 5 rfl rfl)
theorem dX1_weight_28 : decode cX1_weight 28 = .ok (.putfield 215, 3) := dk_181 0 215 (dk_at dksX1_weight_1 6 rfl rfl)
theorem dX1_weight_31 : decode cX1_weight 31 = .ok (.iconst 1, 1) := dk_4 (dk_at dksX1_weight_1 9 rfl rfl)
theorem dX1_weight_32 : decode cX1_weight 32 = .ok (.ireturn, 1) := dk_172 (dk_at dksX1_weight_1 10 rfl rfl)
abbrev cX1_order : ByteArray := prog_1_method_24_code
def yX1_order : MethodName := ⟨RX1, "order", "(I)I"⟩
def dkwX1_order_7 : List UInt8 := [2, 172]
abbrev dktX1_order_7 : List UInt8 := dkwX1_order_7 ++ []
def dkwX1_order_6 : List UInt8 := [185, 0, 80, 1, 0, 162, 0, 19, 44, 27, 185, 0, 86, 2, 0, 192, 0, 92, 180, 0, 203, 167, 0, 4]
abbrev dktX1_order_6 : List UInt8 := dkwX1_order_6 ++ dktX1_order_7
def dkwX1_order_5 : List UInt8 := [132, 6, 255, 167, 255, 219, 44, 21, 6, 25, 4, 185, 0, 223, 3, 0, 132, 3, 1, 167, 255, 138, 27, 44]
abbrev dktX1_order_5 : List UInt8 := dkwX1_order_5 ++ dktX1_order_6
def dkwX1_order_4 : List UInt8 := [21, 6, 4, 100, 185, 0, 86, 2, 0, 192, 0, 92, 42, 180, 0, 120, 182, 0, 179, 21, 5, 162, 0, 9]
abbrev dktX1_order_4 : List UInt8 := dkwX1_order_4 ++ dktX1_order_5
def dkwX1_order_3 : List UInt8 := [182, 0, 179, 54, 5, 44, 185, 0, 80, 1, 0, 54, 6, 21, 6, 158, 0, 38, 42, 180, 0, 71, 44]
abbrev dktX1_order_3 : List UInt8 := dkwX1_order_3 ++ dktX1_order_4
def dkwX1_order_2 : List UInt8 := [25, 4, 180, 0, 161, 178, 0, 158, 165, 0, 6, 167, 0, 76, 42, 180, 0, 71, 25, 4, 42, 180, 0, 120]
abbrev dktX1_order_2 : List UInt8 := dkwX1_order_2 ++ dktX1_order_3
def dkwX1_order_1 : List UInt8 := [185, 0, 80, 1, 0, 162, 0, 111, 42, 180, 0, 16, 29, 185, 0, 86, 2, 0, 192, 0, 92, 58, 4]
abbrev dktX1_order_1 : List UInt8 := dkwX1_order_1 ++ dktX1_order_2
def dkwX1_order_0 : List UInt8 := [27, 156, 0, 5, 2, 172, 187, 0, 7, 89, 183, 0, 9, 77, 3, 62, 29, 42, 180, 0, 16]
abbrev dktX1_order_0 : List UInt8 := dkwX1_order_0 ++ dktX1_order_1
theorem dksX1_order_0 : cX1_order.data.toList.drop 0 = dktX1_order_0 := by decide +kernel
theorem dksX1_order_1 : cX1_order.data.toList.drop 21 = dktX1_order_1 := dk_seg dksX1_order_0 21 rfl rfl
theorem dksX1_order_2 : cX1_order.data.toList.drop 44 = dktX1_order_2 := dk_seg dksX1_order_1 23 rfl rfl
theorem dksX1_order_3 : cX1_order.data.toList.drop 68 = dktX1_order_3 := dk_seg dksX1_order_2 24 rfl rfl
theorem dksX1_order_4 : cX1_order.data.toList.drop 91 = dktX1_order_4 := dk_seg dksX1_order_3 23 rfl rfl
theorem dksX1_order_5 : cX1_order.data.toList.drop 115 = dktX1_order_5 := dk_seg dksX1_order_4 24 rfl rfl
theorem dksX1_order_6 : cX1_order.data.toList.drop 139 = dktX1_order_6 := dk_seg dksX1_order_5 24 rfl rfl
theorem dksX1_order_7 : cX1_order.data.toList.drop 163 = dktX1_order_7 := dk_seg dksX1_order_6 24 rfl rfl
theorem dX1_order_0 : decode cX1_order 0 = .ok (.iload_n 1, 1) := dk_27 (dk_at dksX1_order_0 0 rfl rfl)
theorem dX1_order_1 : decode cX1_order 1 = .ok (.ifCond .ge 5, 3) := dk_156 0 5 (dk_at dksX1_order_0 1 rfl rfl)
theorem dX1_order_4 : decode cX1_order 4 = .ok (.iconst (-1), 1) := dk_2 (dk_at dksX1_order_0 4 rfl rfl)
theorem dX1_order_5 : decode cX1_order 5 = .ok (.ireturn, 1) := dk_172 (dk_at dksX1_order_0 5 rfl rfl)
theorem dX1_order_6 : decode cX1_order 6 = .ok (.new 7, 3) := dk_187 0 7 (dk_at dksX1_order_0 6 rfl rfl)
theorem dX1_order_9 : decode cX1_order 9 = .ok (.dup, 1) := dk_89 (dk_at dksX1_order_0 9 rfl rfl)
theorem dX1_order_10 : decode cX1_order 10 = .ok (.invokespecial 9, 3) := dk_183 0 9 (dk_at dksX1_order_0 10 rfl rfl)
theorem dX1_order_13 : decode cX1_order 13 = .ok (.astore_n 2, 1) := dk_77 (dk_at dksX1_order_0 13 rfl rfl)
theorem dX1_order_14 : decode cX1_order 14 = .ok (.iconst 0, 1) := dk_3 (dk_at dksX1_order_0 14 rfl rfl)
theorem dX1_order_15 : decode cX1_order 15 = .ok (.istore_n 3, 1) := dk_62 (dk_at dksX1_order_0 15 rfl rfl)
theorem dX1_order_16 : decode cX1_order 16 = .ok (.iload_n 3, 1) := dk_29 (dk_at dksX1_order_0 16 rfl rfl)
theorem dX1_order_17 : decode cX1_order 17 = .ok (.aload_n 0, 1) := dk_42 (dk_at dksX1_order_0 17 rfl rfl)
theorem dX1_order_18 : decode cX1_order 18 = .ok (.getfield 16, 3) := dk_180 0 16 (dk_at dksX1_order_0 18 rfl rfl)
theorem dX1_order_21 : decode cX1_order 21 = .ok (.invokeinterface 80 1, 5) := by decide +kernel
theorem dX1_order_26 : decode cX1_order 26 = .ok (.if_icmp .ge 111, 3) := dk_162 0 111 (dk_at dksX1_order_1 5 rfl rfl)
theorem dX1_order_29 : decode cX1_order 29 = .ok (.aload_n 0, 1) := dk_42 (dk_at dksX1_order_1 8 rfl rfl)
theorem dX1_order_30 : decode cX1_order 30 = .ok (.getfield 16, 3) := dk_180 0 16 (dk_at dksX1_order_1 9 rfl rfl)
theorem dX1_order_33 : decode cX1_order 33 = .ok (.iload_n 3, 1) := dk_29 (dk_at dksX1_order_1 12 rfl rfl)
theorem dX1_order_34 : decode cX1_order 34 = .ok (.invokeinterface 86 2, 5) := by decide +kernel
theorem dX1_order_39 : decode cX1_order 39 = .ok (.checkcast 92, 3) := dk_192 0 92 (dk_at dksX1_order_1 18 rfl rfl)
theorem dX1_order_42 : decode cX1_order 42 = .ok (.astore 4, 2) := dk_58 4 (dk_at dksX1_order_1 21 rfl rfl)
theorem dX1_order_44 : decode cX1_order 44 = .ok (.aload 4, 2) := dk_25 4 (dk_at dksX1_order_2 0 rfl rfl)
theorem dX1_order_46 : decode cX1_order 46 = .ok (.getfield 161, 3) := dk_180 0 161 (dk_at dksX1_order_2 2 rfl rfl)
theorem dX1_order_49 : decode cX1_order 49 = .ok (.getstatic 158, 3) := dk_178 0 158 (dk_at dksX1_order_2 5 rfl rfl)
theorem dX1_order_52 : decode cX1_order 52 = .ok (.if_acmp .eq 6, 3) := dk_165 0 6 (dk_at dksX1_order_2 8 rfl rfl)
theorem dX1_order_55 : decode cX1_order 55 = .ok (.goto 76, 3) := dk_167 0 76 (dk_at dksX1_order_2 11 rfl rfl)
theorem dX1_order_58 : decode cX1_order 58 = .ok (.aload_n 0, 1) := dk_42 (dk_at dksX1_order_2 14 rfl rfl)
theorem dX1_order_59 : decode cX1_order 59 = .ok (.getfield 71, 3) := dk_180 0 71 (dk_at dksX1_order_2 15 rfl rfl)
theorem dX1_order_62 : decode cX1_order 62 = .ok (.aload 4, 2) := dk_25 4 (dk_at dksX1_order_2 18 rfl rfl)
theorem dX1_order_64 : decode cX1_order 64 = .ok (.aload_n 0, 1) := dk_42 (dk_at dksX1_order_2 20 rfl rfl)
theorem dX1_order_65 : decode cX1_order 65 = .ok (.getfield 120, 3) := dk_180 0 120 (dk_at dksX1_order_2 21 rfl rfl)
theorem dX1_order_68 : decode cX1_order 68 = .ok (.invokevirtual 179, 3) := dk_182 0 179 (dk_at dksX1_order_3 0 rfl rfl)
theorem dX1_order_71 : decode cX1_order 71 = .ok (.istore 5, 2) := dk_54 5 (dk_at dksX1_order_3 3 rfl rfl)
theorem dX1_order_73 : decode cX1_order 73 = .ok (.aload_n 2, 1) := dk_44 (dk_at dksX1_order_3 5 rfl rfl)
theorem dX1_order_74 : decode cX1_order 74 = .ok (.invokeinterface 80 1, 5) := by decide +kernel
theorem dX1_order_79 : decode cX1_order 79 = .ok (.istore 6, 2) := dk_54 6 (dk_at dksX1_order_3 11 rfl rfl)
theorem dX1_order_81 : decode cX1_order 81 = .ok (.iload 6, 2) := dk_21 6 (dk_at dksX1_order_3 13 rfl rfl)
theorem dX1_order_83 : decode cX1_order 83 = .ok (.ifCond .le 38, 3) := dk_158 0 38 (dk_at dksX1_order_3 15 rfl rfl)
theorem dX1_order_86 : decode cX1_order 86 = .ok (.aload_n 0, 1) := dk_42 (dk_at dksX1_order_3 18 rfl rfl)
theorem dX1_order_87 : decode cX1_order 87 = .ok (.getfield 71, 3) := dk_180 0 71 (dk_at dksX1_order_3 19 rfl rfl)
theorem dX1_order_90 : decode cX1_order 90 = .ok (.aload_n 2, 1) := dk_44 (dk_at dksX1_order_3 22 rfl rfl)
theorem dX1_order_91 : decode cX1_order 91 = .ok (.iload 6, 2) := dk_21 6 (dk_at dksX1_order_4 0 rfl rfl)
theorem dX1_order_93 : decode cX1_order 93 = .ok (.iconst 1, 1) := dk_4 (dk_at dksX1_order_4 2 rfl rfl)
theorem dX1_order_94 : decode cX1_order 94 = .ok (.isub, 1) := dk_100 (dk_at dksX1_order_4 3 rfl rfl)
theorem dX1_order_95 : decode cX1_order 95 = .ok (.invokeinterface 86 2, 5) := by decide +kernel
theorem dX1_order_100 : decode cX1_order 100 = .ok (.checkcast 92, 3) := dk_192 0 92 (dk_at dksX1_order_4 9 rfl rfl)
theorem dX1_order_103 : decode cX1_order 103 = .ok (.aload_n 0, 1) := dk_42 (dk_at dksX1_order_4 12 rfl rfl)
theorem dX1_order_104 : decode cX1_order 104 = .ok (.getfield 120, 3) := dk_180 0 120 (dk_at dksX1_order_4 13 rfl rfl)
theorem dX1_order_107 : decode cX1_order 107 = .ok (.invokevirtual 179, 3) := dk_182 0 179 (dk_at dksX1_order_4 16 rfl rfl)
theorem dX1_order_110 : decode cX1_order 110 = .ok (.iload 5, 2) := dk_21 5 (dk_at dksX1_order_4 19 rfl rfl)
theorem dX1_order_112 : decode cX1_order 112 = .ok (.if_icmp .ge 9, 3) := dk_162 0 9 (dk_at dksX1_order_4 21 rfl rfl)
theorem dX1_order_115 : decode cX1_order 115 = .ok (.iinc 6 (-1), 3) := dk_132 6 255 (dk_at dksX1_order_5 0 rfl rfl)
theorem dX1_order_118 : decode cX1_order 118 = .ok (.goto (-37), 3) := dk_167 255 219 (dk_at dksX1_order_5 3 rfl rfl)
theorem dX1_order_121 : decode cX1_order 121 = .ok (.aload_n 2, 1) := dk_44 (dk_at dksX1_order_5 6 rfl rfl)
theorem dX1_order_122 : decode cX1_order 122 = .ok (.iload 6, 2) := dk_21 6 (dk_at dksX1_order_5 7 rfl rfl)
theorem dX1_order_124 : decode cX1_order 124 = .ok (.aload 4, 2) := dk_25 4 (dk_at dksX1_order_5 9 rfl rfl)
theorem dX1_order_126 : decode cX1_order 126 = .ok (.invokeinterface 223 3, 5) := by decide +kernel
theorem dX1_order_131 : decode cX1_order 131 = .ok (.iinc 3 1, 3) := dk_132 3 1 (dk_at dksX1_order_5 16 rfl rfl)
theorem dX1_order_134 : decode cX1_order 134 = .ok (.goto (-118), 3) := dk_167 255 138 (dk_at dksX1_order_5 19 rfl rfl)
theorem dX1_order_137 : decode cX1_order 137 = .ok (.iload_n 1, 1) := dk_27 (dk_at dksX1_order_5 22 rfl rfl)
theorem dX1_order_138 : decode cX1_order 138 = .ok (.aload_n 2, 1) := dk_44 (dk_at dksX1_order_5 23 rfl rfl)
theorem dX1_order_139 : decode cX1_order 139 = .ok (.invokeinterface 80 1, 5) := by decide +kernel
theorem dX1_order_144 : decode cX1_order 144 = .ok (.if_icmp .ge 19, 3) := dk_162 0 19 (dk_at dksX1_order_6 5 rfl rfl)
theorem dX1_order_147 : decode cX1_order 147 = .ok (.aload_n 2, 1) := dk_44 (dk_at dksX1_order_6 8 rfl rfl)
theorem dX1_order_148 : decode cX1_order 148 = .ok (.iload_n 1, 1) := dk_27 (dk_at dksX1_order_6 9 rfl rfl)
theorem dX1_order_149 : decode cX1_order 149 = .ok (.invokeinterface 86 2, 5) := by decide +kernel
theorem dX1_order_154 : decode cX1_order 154 = .ok (.checkcast 92, 3) := dk_192 0 92 (dk_at dksX1_order_6 15 rfl rfl)
theorem dX1_order_157 : decode cX1_order 157 = .ok (.getfield 203, 3) := dk_180 0 203 (dk_at dksX1_order_6 18 rfl rfl)
theorem dX1_order_160 : decode cX1_order 160 = .ok (.goto 4, 3) := dk_167 0 4 (dk_at dksX1_order_6 21 rfl rfl)
theorem dX1_order_163 : decode cX1_order 163 = .ok (.iconst (-1), 1) := dk_2 (dk_at dksX1_order_7 0 rfl rfl)
theorem dX1_order_164 : decode cX1_order 164 = .ok (.ireturn, 1) := dk_172 (dk_at dksX1_order_7 1 rfl rfl)
abbrev cX1_waited : ByteArray := prog_1_method_25_code
def yX1_waited : MethodName := ⟨RX1, "waited", "(I)J"⟩
def dkwX1_waited_1 : List UInt8 := [180, 0, 120, 167, 0, 7, 44, 180, 0, 196, 44, 180, 0, 226, 101, 173]
abbrev dktX1_waited_1 : List UInt8 := dkwX1_waited_1 ++ []
def dkwX1_waited_0 : List UInt8 := [42, 27, 182, 0, 127, 77, 44, 199, 0, 7, 20, 0, 218, 173, 44, 182, 0, 131, 153, 0, 10, 42]
abbrev dktX1_waited_0 : List UInt8 := dkwX1_waited_0 ++ dktX1_waited_1
theorem dksX1_waited_0 : cX1_waited.data.toList.drop 0 = dktX1_waited_0 := by decide +kernel
theorem dksX1_waited_1 : cX1_waited.data.toList.drop 22 = dktX1_waited_1 := dk_seg dksX1_waited_0 22 rfl rfl
theorem dX1_waited_0 : decode cX1_waited 0 = .ok (.aload_n 0, 1) := dk_42 (dk_at dksX1_waited_0 0 rfl rfl)
theorem dX1_waited_1 : decode cX1_waited 1 = .ok (.iload_n 1, 1) := dk_27 (dk_at dksX1_waited_0 1 rfl rfl)
theorem dX1_waited_2 : decode cX1_waited 2 = .ok (.invokevirtual 127, 3) := dk_182 0 127 (dk_at dksX1_waited_0 2 rfl rfl)
theorem dX1_waited_5 : decode cX1_waited 5 = .ok (.astore_n 2, 1) := dk_77 (dk_at dksX1_waited_0 5 rfl rfl)
theorem dX1_waited_6 : decode cX1_waited 6 = .ok (.aload_n 2, 1) := dk_44 (dk_at dksX1_waited_0 6 rfl rfl)
theorem dX1_waited_7 : decode cX1_waited 7 = .ok (.ifnonnull 7, 3) := dk_199 0 7 (dk_at dksX1_waited_0 7 rfl rfl)
theorem dX1_waited_10 : decode cX1_waited 10 = .ok (.ldc2_w 218, 3) := dk_20 0 218 (dk_at dksX1_waited_0 10 rfl rfl)
theorem dX1_waited_13 : decode cX1_waited 13 = .ok (.lreturn, 1) := dk_173 (dk_at dksX1_waited_0 13 rfl rfl)
theorem dX1_waited_14 : decode cX1_waited 14 = .ok (.aload_n 2, 1) := dk_44 (dk_at dksX1_waited_0 14 rfl rfl)
theorem dX1_waited_15 : decode cX1_waited 15 = .ok (.invokevirtual 131, 3) := dk_182 0 131 (dk_at dksX1_waited_0 15 rfl rfl)
theorem dX1_waited_18 : decode cX1_waited 18 = .ok (.ifCond .eq 10, 3) := dk_153 0 10 (dk_at dksX1_waited_0 18 rfl rfl)
theorem dX1_waited_21 : decode cX1_waited 21 = .ok (.aload_n 0, 1) := dk_42 (dk_at dksX1_waited_0 21 rfl rfl)
theorem dX1_waited_22 : decode cX1_waited 22 = .ok (.getfield 120, 3) := dk_180 0 120 (dk_at dksX1_waited_1 0 rfl rfl)
theorem dX1_waited_25 : decode cX1_waited 25 = .ok (.goto 7, 3) := dk_167 0 7 (dk_at dksX1_waited_1 3 rfl rfl)
theorem dX1_waited_28 : decode cX1_waited 28 = .ok (.aload_n 2, 1) := dk_44 (dk_at dksX1_waited_1 6 rfl rfl)
theorem dX1_waited_29 : decode cX1_waited 29 = .ok (.getfield 196, 3) := dk_180 0 196 (dk_at dksX1_waited_1 7 rfl rfl)
theorem dX1_waited_32 : decode cX1_waited 32 = .ok (.aload_n 2, 1) := dk_44 (dk_at dksX1_waited_1 10 rfl rfl)
theorem dX1_waited_33 : decode cX1_waited 33 = .ok (.getfield 226, 3) := dk_180 0 226 (dk_at dksX1_waited_1 11 rfl rfl)
theorem dX1_waited_36 : decode cX1_waited 36 = .ok (.lsub, 1) := dk_101 (dk_at dksX1_waited_1 14 rfl rfl)
theorem dX1_waited_37 : decode cX1_waited 37 = .ok (.lreturn, 1) := dk_173 (dk_at dksX1_waited_1 15 rfl rfl)
abbrev cX1_state : ByteArray := prog_1_method_26_code
def yX1_state : MethodName := ⟨RX1, "state", "(I)I"⟩
def dkwX1_state_0 : List UInt8 := [42, 27, 182, 0, 127, 77, 44, 199, 0, 7, 2, 167, 0, 10, 44, 180, 0, 161, 182, 0, 229, 172]
abbrev dktX1_state_0 : List UInt8 := dkwX1_state_0 ++ []
theorem dksX1_state_0 : cX1_state.data.toList.drop 0 = dktX1_state_0 := by decide +kernel
theorem dX1_state_0 : decode cX1_state 0 = .ok (.aload_n 0, 1) := dk_42 (dk_at dksX1_state_0 0 rfl rfl)
theorem dX1_state_1 : decode cX1_state 1 = .ok (.iload_n 1, 1) := dk_27 (dk_at dksX1_state_0 1 rfl rfl)
theorem dX1_state_2 : decode cX1_state 2 = .ok (.invokevirtual 127, 3) := dk_182 0 127 (dk_at dksX1_state_0 2 rfl rfl)
theorem dX1_state_5 : decode cX1_state 5 = .ok (.astore_n 2, 1) := dk_77 (dk_at dksX1_state_0 5 rfl rfl)
theorem dX1_state_6 : decode cX1_state 6 = .ok (.aload_n 2, 1) := dk_44 (dk_at dksX1_state_0 6 rfl rfl)
theorem dX1_state_7 : decode cX1_state 7 = .ok (.ifnonnull 7, 3) := dk_199 0 7 (dk_at dksX1_state_0 7 rfl rfl)
theorem dX1_state_10 : decode cX1_state 10 = .ok (.iconst (-1), 1) := dk_2 (dk_at dksX1_state_0 10 rfl rfl)
theorem dX1_state_11 : decode cX1_state 11 = .ok (.goto 10, 3) := dk_167 0 10 (dk_at dksX1_state_0 11 rfl rfl)
theorem dX1_state_14 : decode cX1_state 14 = .ok (.aload_n 2, 1) := dk_44 (dk_at dksX1_state_0 14 rfl rfl)
theorem dX1_state_15 : decode cX1_state 15 = .ok (.getfield 161, 3) := dk_180 0 161 (dk_at dksX1_state_0 15 rfl rfl)
theorem dX1_state_18 : decode cX1_state 18 = .ok (.invokevirtual 229, 3) := dk_182 0 229 (dk_at dksX1_state_0 18 rfl rfl)
theorem dX1_state_21 : decode cX1_state 21 = .ok (.ireturn, 1) := dk_172 (dk_at dksX1_state_0 21 rfl rfl)
abbrev cX1_count : ByteArray := prog_1_method_28_code
def yX1_count : MethodName := ⟨RX1, "count", "(I)I"⟩
def dkwX1_count_7 : List UInt8 := [27, 16, 10, 100, 182, 0, 249, 172, 2, 172]
abbrev dktX1_count_7 : List UInt8 := dkwX1_count_7 ++ []
def dkwX1_count_6 : List UInt8 := [25, 4, 180, 0, 186, 199, 0, 7, 4, 167, 0, 4, 3, 96, 61, 167, 255, 212, 28, 172, 42, 180, 0, 37]
abbrev dktX1_count_6 : List UInt8 := dkwX1_count_6 ++ dktX1_count_7
def dkwX1_count_5 : List UInt8 := [153, 0, 41, 45, 185, 0, 245, 1, 0, 192, 0, 90, 58, 4, 28, 25, 4, 180, 0, 183, 153, 0, 15]
abbrev dktX1_count_5 : List UInt8 := dkwX1_count_5 ++ dktX1_count_6
def dkwX1_count_4 : List UInt8 := [185, 0, 80, 1, 0, 172, 3, 61, 42, 180, 0, 10, 185, 0, 236, 1, 0, 78, 45, 185, 0, 240, 1, 0]
abbrev dktX1_count_4 : List UInt8 := dkwX1_count_4 ++ dktX1_count_5
def dkwX1_count_3 : List UInt8 := [182, 0, 232, 42, 178, 0, 152, 182, 0, 232, 96, 172, 42, 178, 0, 152, 182, 0, 232, 172, 42, 180, 0, 19]
abbrev dktX1_count_3 : List UInt8 := dkwX1_count_3 ++ dktX1_count_4
def dkwX1_count_2 : List UInt8 := [42, 180, 0, 10, 185, 0, 80, 1, 0, 172, 42, 180, 0, 16, 185, 0, 80, 1, 0, 172, 42, 178, 0, 158]
abbrev dktX1_count_2 : List UInt8 := dkwX1_count_2 ++ dktX1_count_3
def dkwX1_count_1 : List UInt8 := [170, 0, 0, 0, 0, 0, 198, 0, 0, 0, 0, 0, 0, 0, 13, 0, 0, 0, 71, 0, 0, 0, 81, 0, 0, 0, 91, 0, 0, 0, 107, 0, 0, 0, 115, 0, 0, 0, 125, 0, 0, 0, 198, 0, 0, 0, 198, 0, 0, 0, 198, 0, 0, 0, 198, 0, 0, 0, 186, 0, 0, 0, 186, 0, 0, 0, 186, 0, 0, 0, 186]
abbrev dktX1_count_1 : List UInt8 := dkwX1_count_1 ++ dktX1_count_2
def dkwX1_count_0 : List UInt8 := [27]
abbrev dktX1_count_0 : List UInt8 := dkwX1_count_0 ++ dktX1_count_1
theorem dksX1_count_0 : cX1_count.data.toList.drop 0 = dktX1_count_0 := by decide +kernel
theorem dksX1_count_1 : cX1_count.data.toList.drop 1 = dktX1_count_1 := dk_seg dksX1_count_0 1 rfl rfl
theorem dksX1_count_2 : cX1_count.data.toList.drop 72 = dktX1_count_2 := dk_seg dksX1_count_1 71 rfl rfl
theorem dksX1_count_3 : cX1_count.data.toList.drop 96 = dktX1_count_3 := dk_seg dksX1_count_2 24 rfl rfl
theorem dksX1_count_4 : cX1_count.data.toList.drop 120 = dktX1_count_4 := dk_seg dksX1_count_3 24 rfl rfl
theorem dksX1_count_5 : cX1_count.data.toList.drop 144 = dktX1_count_5 := dk_seg dksX1_count_4 24 rfl rfl
theorem dksX1_count_6 : cX1_count.data.toList.drop 167 = dktX1_count_6 := dk_seg dksX1_count_5 23 rfl rfl
theorem dksX1_count_7 : cX1_count.data.toList.drop 191 = dktX1_count_7 := dk_seg dksX1_count_6 24 rfl rfl
theorem dX1_count_0 : decode cX1_count 0 = .ok (.iload_n 1, 1) := dk_27 (dk_at dksX1_count_0 0 rfl rfl)
theorem dX1_count_1 : decode cX1_count 1 = .ok (.tableswitch 198 0 13 #[71, 81, 91, 107, 115, 125, 198, 198, 198, 198, 186, 186, 186, 186], 71) := by decide +kernel
theorem dX1_count_72 : decode cX1_count 72 = .ok (.aload_n 0, 1) := dk_42 (dk_at dksX1_count_2 0 rfl rfl)
theorem dX1_count_73 : decode cX1_count 73 = .ok (.getfield 10, 3) := dk_180 0 10 (dk_at dksX1_count_2 1 rfl rfl)
theorem dX1_count_76 : decode cX1_count 76 = .ok (.invokeinterface 80 1, 5) := by decide +kernel
theorem dX1_count_81 : decode cX1_count 81 = .ok (.ireturn, 1) := dk_172 (dk_at dksX1_count_2 9 rfl rfl)
theorem dX1_count_82 : decode cX1_count 82 = .ok (.aload_n 0, 1) := dk_42 (dk_at dksX1_count_2 10 rfl rfl)
theorem dX1_count_83 : decode cX1_count 83 = .ok (.getfield 16, 3) := dk_180 0 16 (dk_at dksX1_count_2 11 rfl rfl)
theorem dX1_count_86 : decode cX1_count 86 = .ok (.invokeinterface 80 1, 5) := by decide +kernel
theorem dX1_count_91 : decode cX1_count 91 = .ok (.ireturn, 1) := dk_172 (dk_at dksX1_count_2 19 rfl rfl)
theorem dX1_count_92 : decode cX1_count 92 = .ok (.aload_n 0, 1) := dk_42 (dk_at dksX1_count_2 20 rfl rfl)
theorem dX1_count_93 : decode cX1_count 93 = .ok (.getstatic 158, 3) := dk_178 0 158 (dk_at dksX1_count_2 21 rfl rfl)
theorem dX1_count_96 : decode cX1_count 96 = .ok (.invokevirtual 232, 3) := dk_182 0 232 (dk_at dksX1_count_3 0 rfl rfl)
theorem dX1_count_99 : decode cX1_count 99 = .ok (.aload_n 0, 1) := dk_42 (dk_at dksX1_count_3 3 rfl rfl)
theorem dX1_count_100 : decode cX1_count 100 = .ok (.getstatic 152, 3) := dk_178 0 152 (dk_at dksX1_count_3 4 rfl rfl)
theorem dX1_count_103 : decode cX1_count 103 = .ok (.invokevirtual 232, 3) := dk_182 0 232 (dk_at dksX1_count_3 7 rfl rfl)
theorem dX1_count_106 : decode cX1_count 106 = .ok (.iadd, 1) := dk_96 (dk_at dksX1_count_3 10 rfl rfl)
theorem dX1_count_107 : decode cX1_count 107 = .ok (.ireturn, 1) := dk_172 (dk_at dksX1_count_3 11 rfl rfl)
theorem dX1_count_108 : decode cX1_count 108 = .ok (.aload_n 0, 1) := dk_42 (dk_at dksX1_count_3 12 rfl rfl)
theorem dX1_count_109 : decode cX1_count 109 = .ok (.getstatic 152, 3) := dk_178 0 152 (dk_at dksX1_count_3 13 rfl rfl)
theorem dX1_count_112 : decode cX1_count 112 = .ok (.invokevirtual 232, 3) := dk_182 0 232 (dk_at dksX1_count_3 16 rfl rfl)
theorem dX1_count_115 : decode cX1_count 115 = .ok (.ireturn, 1) := dk_172 (dk_at dksX1_count_3 19 rfl rfl)
theorem dX1_count_116 : decode cX1_count 116 = .ok (.aload_n 0, 1) := dk_42 (dk_at dksX1_count_3 20 rfl rfl)
theorem dX1_count_117 : decode cX1_count 117 = .ok (.getfield 19, 3) := dk_180 0 19 (dk_at dksX1_count_3 21 rfl rfl)
theorem dX1_count_120 : decode cX1_count 120 = .ok (.invokeinterface 80 1, 5) := by decide +kernel
theorem dX1_count_125 : decode cX1_count 125 = .ok (.ireturn, 1) := dk_172 (dk_at dksX1_count_4 5 rfl rfl)
theorem dX1_count_126 : decode cX1_count 126 = .ok (.iconst 0, 1) := dk_3 (dk_at dksX1_count_4 6 rfl rfl)
theorem dX1_count_127 : decode cX1_count 127 = .ok (.istore_n 2, 1) := dk_61 (dk_at dksX1_count_4 7 rfl rfl)
theorem dX1_count_128 : decode cX1_count 128 = .ok (.aload_n 0, 1) := dk_42 (dk_at dksX1_count_4 8 rfl rfl)
theorem dX1_count_129 : decode cX1_count 129 = .ok (.getfield 10, 3) := dk_180 0 10 (dk_at dksX1_count_4 9 rfl rfl)
theorem dX1_count_132 : decode cX1_count 132 = .ok (.invokeinterface 236 1, 5) := by decide +kernel
theorem dX1_count_137 : decode cX1_count 137 = .ok (.astore_n 3, 1) := dk_78 (dk_at dksX1_count_4 17 rfl rfl)
theorem dX1_count_138 : decode cX1_count 138 = .ok (.aload_n 3, 1) := dk_45 (dk_at dksX1_count_4 18 rfl rfl)
theorem dX1_count_139 : decode cX1_count 139 = .ok (.invokeinterface 240 1, 5) := by decide +kernel
theorem dX1_count_144 : decode cX1_count 144 = .ok (.ifCond .eq 41, 3) := dk_153 0 41 (dk_at dksX1_count_5 0 rfl rfl)
theorem dX1_count_147 : decode cX1_count 147 = .ok (.aload_n 3, 1) := dk_45 (dk_at dksX1_count_5 3 rfl rfl)
theorem dX1_count_148 : decode cX1_count 148 = .ok (.invokeinterface 245 1, 5) := by decide +kernel
theorem dX1_count_153 : decode cX1_count 153 = .ok (.checkcast 90, 3) := dk_192 0 90 (dk_at dksX1_count_5 9 rfl rfl)
theorem dX1_count_156 : decode cX1_count 156 = .ok (.astore 4, 2) := dk_58 4 (dk_at dksX1_count_5 12 rfl rfl)
theorem dX1_count_158 : decode cX1_count 158 = .ok (.iload_n 2, 1) := dk_28 (dk_at dksX1_count_5 14 rfl rfl)
theorem dX1_count_159 : decode cX1_count 159 = .ok (.aload 4, 2) := dk_25 4 (dk_at dksX1_count_5 15 rfl rfl)
theorem dX1_count_161 : decode cX1_count 161 = .ok (.getfield 183, 3) := dk_180 0 183 (dk_at dksX1_count_5 17 rfl rfl)
theorem dX1_count_164 : decode cX1_count 164 = .ok (.ifCond .eq 15, 3) := dk_153 0 15 (dk_at dksX1_count_5 20 rfl rfl)
theorem dX1_count_167 : decode cX1_count 167 = .ok (.aload 4, 2) := dk_25 4 (dk_at dksX1_count_6 0 rfl rfl)
theorem dX1_count_169 : decode cX1_count 169 = .ok (.getfield 186, 3) := dk_180 0 186 (dk_at dksX1_count_6 2 rfl rfl)
theorem dX1_count_172 : decode cX1_count 172 = .ok (.ifnonnull 7, 3) := dk_199 0 7 (dk_at dksX1_count_6 5 rfl rfl)
theorem dX1_count_175 : decode cX1_count 175 = .ok (.iconst 1, 1) := dk_4 (dk_at dksX1_count_6 8 rfl rfl)
theorem dX1_count_176 : decode cX1_count 176 = .ok (.goto 4, 3) := dk_167 0 4 (dk_at dksX1_count_6 9 rfl rfl)
theorem dX1_count_179 : decode cX1_count 179 = .ok (.iconst 0, 1) := dk_3 (dk_at dksX1_count_6 12 rfl rfl)
theorem dX1_count_180 : decode cX1_count 180 = .ok (.iadd, 1) := dk_96 (dk_at dksX1_count_6 13 rfl rfl)
theorem dX1_count_181 : decode cX1_count 181 = .ok (.istore_n 2, 1) := dk_61 (dk_at dksX1_count_6 14 rfl rfl)
theorem dX1_count_182 : decode cX1_count 182 = .ok (.goto (-44), 3) := dk_167 255 212 (dk_at dksX1_count_6 15 rfl rfl)
theorem dX1_count_185 : decode cX1_count 185 = .ok (.iload_n 2, 1) := dk_28 (dk_at dksX1_count_6 18 rfl rfl)
theorem dX1_count_186 : decode cX1_count 186 = .ok (.ireturn, 1) := dk_172 (dk_at dksX1_count_6 19 rfl rfl)
theorem dX1_count_187 : decode cX1_count 187 = .ok (.aload_n 0, 1) := dk_42 (dk_at dksX1_count_6 20 rfl rfl)
theorem dX1_count_188 : decode cX1_count 188 = .ok (.getfield 37, 3) := dk_180 0 37 (dk_at dksX1_count_6 21 rfl rfl)
theorem dX1_count_191 : decode cX1_count 191 = .ok (.iload_n 1, 1) := dk_27 (dk_at dksX1_count_7 0 rfl rfl)
theorem dX1_count_192 : decode cX1_count 192 = .ok (.bipush 10, 2) := dk_16 10 (dk_at dksX1_count_7 1 rfl rfl)
theorem dX1_count_194 : decode cX1_count 194 = .ok (.isub, 1) := dk_100 (dk_at dksX1_count_7 3 rfl rfl)
theorem dX1_count_195 : decode cX1_count 195 = .ok (.invokevirtual 249, 3) := dk_182 0 249 (dk_at dksX1_count_7 4 rfl rfl)
theorem dX1_count_198 : decode cX1_count 198 = .ok (.ireturn, 1) := dk_172 (dk_at dksX1_count_7 7 rfl rfl)
theorem dX1_count_199 : decode cX1_count 199 = .ok (.iconst (-1), 1) := dk_2 (dk_at dksX1_count_7 8 rfl rfl)
theorem dX1_count_200 : decode cX1_count 200 = .ok (.ireturn, 1) := dk_172 (dk_at dksX1_count_7 9 rfl rfl)
abbrev cX1_those : ByteArray := prog_1_method_27_code
def yX1_those : MethodName := ⟨RX1, "those", "(LInitiatorRows$State;)I"⟩
def dkwX1_those_2 : List UInt8 := [132, 3, 1, 167, 255, 212, 28, 172]
abbrev dktX1_those_2 : List UInt8 := dkwX1_those_2 ++ []
def dkwX1_those_1 : List UInt8 := [185, 0, 86, 2, 0, 192, 0, 92, 180, 0, 161, 43, 166, 0, 7, 4, 167, 0, 4, 3, 96, 61]
abbrev dktX1_those_1 : List UInt8 := dkwX1_those_1 ++ dktX1_those_2
def dkwX1_those_0 : List UInt8 := [3, 61, 3, 62, 29, 42, 180, 0, 16, 185, 0, 80, 1, 0, 162, 0, 37, 28, 42, 180, 0, 16, 29]
abbrev dktX1_those_0 : List UInt8 := dkwX1_those_0 ++ dktX1_those_1
theorem dksX1_those_0 : cX1_those.data.toList.drop 0 = dktX1_those_0 := by decide +kernel
theorem dksX1_those_1 : cX1_those.data.toList.drop 23 = dktX1_those_1 := dk_seg dksX1_those_0 23 rfl rfl
theorem dksX1_those_2 : cX1_those.data.toList.drop 45 = dktX1_those_2 := dk_seg dksX1_those_1 22 rfl rfl
theorem dX1_those_0 : decode cX1_those 0 = .ok (.iconst 0, 1) := dk_3 (dk_at dksX1_those_0 0 rfl rfl)
theorem dX1_those_1 : decode cX1_those 1 = .ok (.istore_n 2, 1) := dk_61 (dk_at dksX1_those_0 1 rfl rfl)
theorem dX1_those_2 : decode cX1_those 2 = .ok (.iconst 0, 1) := dk_3 (dk_at dksX1_those_0 2 rfl rfl)
theorem dX1_those_3 : decode cX1_those 3 = .ok (.istore_n 3, 1) := dk_62 (dk_at dksX1_those_0 3 rfl rfl)
theorem dX1_those_4 : decode cX1_those 4 = .ok (.iload_n 3, 1) := dk_29 (dk_at dksX1_those_0 4 rfl rfl)
theorem dX1_those_5 : decode cX1_those 5 = .ok (.aload_n 0, 1) := dk_42 (dk_at dksX1_those_0 5 rfl rfl)
theorem dX1_those_6 : decode cX1_those 6 = .ok (.getfield 16, 3) := dk_180 0 16 (dk_at dksX1_those_0 6 rfl rfl)
theorem dX1_those_9 : decode cX1_those 9 = .ok (.invokeinterface 80 1, 5) := by decide +kernel
theorem dX1_those_14 : decode cX1_those 14 = .ok (.if_icmp .ge 37, 3) := dk_162 0 37 (dk_at dksX1_those_0 14 rfl rfl)
theorem dX1_those_17 : decode cX1_those 17 = .ok (.iload_n 2, 1) := dk_28 (dk_at dksX1_those_0 17 rfl rfl)
theorem dX1_those_18 : decode cX1_those 18 = .ok (.aload_n 0, 1) := dk_42 (dk_at dksX1_those_0 18 rfl rfl)
theorem dX1_those_19 : decode cX1_those 19 = .ok (.getfield 16, 3) := dk_180 0 16 (dk_at dksX1_those_0 19 rfl rfl)
theorem dX1_those_22 : decode cX1_those 22 = .ok (.iload_n 3, 1) := dk_29 (dk_at dksX1_those_0 22 rfl rfl)
theorem dX1_those_23 : decode cX1_those 23 = .ok (.invokeinterface 86 2, 5) := by decide +kernel
theorem dX1_those_28 : decode cX1_those 28 = .ok (.checkcast 92, 3) := dk_192 0 92 (dk_at dksX1_those_1 5 rfl rfl)
theorem dX1_those_31 : decode cX1_those 31 = .ok (.getfield 161, 3) := dk_180 0 161 (dk_at dksX1_those_1 8 rfl rfl)
theorem dX1_those_34 : decode cX1_those 34 = .ok (.aload_n 1, 1) := dk_43 (dk_at dksX1_those_1 11 rfl rfl)
theorem dX1_those_35 : decode cX1_those 35 = .ok (.if_acmp .ne 7, 3) := dk_166 0 7 (dk_at dksX1_those_1 12 rfl rfl)
theorem dX1_those_38 : decode cX1_those 38 = .ok (.iconst 1, 1) := dk_4 (dk_at dksX1_those_1 15 rfl rfl)
theorem dX1_those_39 : decode cX1_those 39 = .ok (.goto 4, 3) := dk_167 0 4 (dk_at dksX1_those_1 16 rfl rfl)
theorem dX1_those_42 : decode cX1_those 42 = .ok (.iconst 0, 1) := dk_3 (dk_at dksX1_those_1 19 rfl rfl)
theorem dX1_those_43 : decode cX1_those 43 = .ok (.iadd, 1) := dk_96 (dk_at dksX1_those_1 20 rfl rfl)
theorem dX1_those_44 : decode cX1_those 44 = .ok (.istore_n 2, 1) := dk_61 (dk_at dksX1_those_1 21 rfl rfl)
theorem dX1_those_45 : decode cX1_those 45 = .ok (.iinc 3 1, 3) := dk_132 3 1 (dk_at dksX1_those_2 0 rfl rfl)
theorem dX1_those_48 : decode cX1_those 48 = .ok (.goto (-44), 3) := dk_167 255 212 (dk_at dksX1_those_2 3 rfl rfl)
theorem dX1_those_51 : decode cX1_those 51 = .ok (.iload_n 2, 1) := dk_28 (dk_at dksX1_those_2 6 rfl rfl)
theorem dX1_those_52 : decode cX1_those 52 = .ok (.ireturn, 1) := dk_172 (dk_at dksX1_those_2 7 rfl rfl)
abbrev cX1_share : ByteArray := prog_1_method_23_code
def yX1_share : MethodName := ⟨RX1, "share", "(IJ)J"⟩
def dkwX1_share_10 : List UInt8 := [133, 22, 10, 148, 156, 0, 7, 10, 167, 0, 4, 9, 97, 173]
abbrev dktX1_share_10 : List UInt8 := dkwX1_share_10 ++ []
def dkwX1_share_9 : List UInt8 := [180, 0, 215, 133, 105, 22, 8, 42, 180, 0, 24, 27, 50, 180, 0, 215, 133, 105, 22, 4, 109, 97, 21, 12]
abbrev dktX1_share_9 : List UInt8 := dkwX1_share_9 ++ dktX1_share_10
def dkwX1_share_8 : List UInt8 := [4, 167, 0, 4, 3, 96, 54, 12, 132, 15, 1, 167, 255, 173, 22, 6, 42, 180, 0, 24, 27, 50]
abbrev dktX1_share_8 : List UInt8 := dkwX1_share_8 ++ dktX1_share_9
def dkwX1_share_7 : List UInt8 := [21, 12, 22, 16, 22, 13, 148, 157, 0, 17, 22, 16, 22, 13, 148, 154, 0, 13, 21, 15, 27, 162, 0, 7]
abbrev dktX1_share_7 : List UInt8 := dkwX1_share_7 ++ dktX1_share_8
def dkwX1_share_6 : List UInt8 := [55, 16, 22, 10, 22, 8, 42, 180, 0, 24, 21, 15, 50, 180, 0, 215, 133, 105, 22, 4, 109, 101, 55, 10]
abbrev dktX1_share_6 : List UInt8 := dkwX1_share_6 ++ dktX1_share_7
def dkwX1_share_5 : List UInt8 := [21, 15, 16, 36, 162, 0, 82, 22, 8, 42, 180, 0, 24, 21, 15, 50, 180, 0, 215, 133, 105, 22, 4, 113]
abbrev dktX1_share_5 : List UInt8 := dkwX1_share_5 ++ dktX1_share_6
def dkwX1_share_4 : List UInt8 := [3, 54, 12, 22, 8, 42, 180, 0, 24, 27, 50, 180, 0, 215, 133, 105, 22, 4, 113, 55, 13, 3, 54, 15]
abbrev dktX1_share_4 : List UInt8 := dkwX1_share_4 ++ dktX1_share_5
def dkwX1_share_3 : List UInt8 := [187, 0, 220, 89, 183, 0, 222, 191, 32, 22, 4, 109, 55, 6, 32, 22, 4, 113, 55, 8, 22, 8, 55, 10]
abbrev dktX1_share_3 : List UInt8 := dkwX1_share_3 ++ dktX1_share_4
def dkwX1_share_2 : List UInt8 := [22, 4, 25, 9, 180, 0, 215, 133, 97, 55, 4, 132, 8, 1, 167, 255, 228, 22, 4, 9, 148, 154, 0, 11]
abbrev dktX1_share_2 : List UInt8 := dkwX1_share_2 ++ dktX1_share_3
def dkwX1_share_1 : List UInt8 := [58, 6, 25, 6, 190, 54, 7, 3, 54, 8, 21, 8, 21, 7, 162, 0, 27, 25, 6, 21, 8, 50, 58, 9]
abbrev dktX1_share_1 : List UInt8 := dkwX1_share_1 ++ dktX1_share_2
def dkwX1_share_0 : List UInt8 := [27, 184, 0, 106, 153, 0, 9, 32, 9, 148, 156, 0, 7, 20, 0, 218, 173, 9, 55, 4, 42, 180, 0, 24]
abbrev dktX1_share_0 : List UInt8 := dkwX1_share_0 ++ dktX1_share_1
theorem dksX1_share_0 : cX1_share.data.toList.drop 0 = dktX1_share_0 := by decide +kernel
theorem dksX1_share_1 : cX1_share.data.toList.drop 24 = dktX1_share_1 := dk_seg dksX1_share_0 24 rfl rfl
theorem dksX1_share_2 : cX1_share.data.toList.drop 48 = dktX1_share_2 := dk_seg dksX1_share_1 24 rfl rfl
theorem dksX1_share_3 : cX1_share.data.toList.drop 72 = dktX1_share_3 := dk_seg dksX1_share_2 24 rfl rfl
theorem dksX1_share_4 : cX1_share.data.toList.drop 96 = dktX1_share_4 := dk_seg dksX1_share_3 24 rfl rfl
theorem dksX1_share_5 : cX1_share.data.toList.drop 120 = dktX1_share_5 := dk_seg dksX1_share_4 24 rfl rfl
theorem dksX1_share_6 : cX1_share.data.toList.drop 144 = dktX1_share_6 := dk_seg dksX1_share_5 24 rfl rfl
theorem dksX1_share_7 : cX1_share.data.toList.drop 168 = dktX1_share_7 := dk_seg dksX1_share_6 24 rfl rfl
theorem dksX1_share_8 : cX1_share.data.toList.drop 192 = dktX1_share_8 := dk_seg dksX1_share_7 24 rfl rfl
theorem dksX1_share_9 : cX1_share.data.toList.drop 214 = dktX1_share_9 := dk_seg dksX1_share_8 22 rfl rfl
theorem dksX1_share_10 : cX1_share.data.toList.drop 238 = dktX1_share_10 := dk_seg dksX1_share_9 24 rfl rfl
theorem dX1_share_0 : decode cX1_share 0 = .ok (.iload_n 1, 1) := dk_27 (dk_at dksX1_share_0 0 rfl rfl)
theorem dX1_share_1 : decode cX1_share 1 = .ok (.invokestatic 106, 3) := dk_184 0 106 (dk_at dksX1_share_0 1 rfl rfl)
theorem dX1_share_4 : decode cX1_share 4 = .ok (.ifCond .eq 9, 3) := dk_153 0 9 (dk_at dksX1_share_0 4 rfl rfl)
theorem dX1_share_7 : decode cX1_share 7 = .ok (.lload_n 2, 1) := dk_32 (dk_at dksX1_share_0 7 rfl rfl)
theorem dX1_share_8 : decode cX1_share 8 = .ok (.lconst 0, 1) := dk_9 (dk_at dksX1_share_0 8 rfl rfl)
theorem dX1_share_9 : decode cX1_share 9 = .ok (.lcmp, 1) := dk_148 (dk_at dksX1_share_0 9 rfl rfl)
theorem dX1_share_10 : decode cX1_share 10 = .ok (.ifCond .ge 7, 3) := dk_156 0 7 (dk_at dksX1_share_0 10 rfl rfl)
theorem dX1_share_13 : decode cX1_share 13 = .ok (.ldc2_w 218, 3) := dk_20 0 218 (dk_at dksX1_share_0 13 rfl rfl)
theorem dX1_share_16 : decode cX1_share 16 = .ok (.lreturn, 1) := dk_173 (dk_at dksX1_share_0 16 rfl rfl)
theorem dX1_share_17 : decode cX1_share 17 = .ok (.lconst 0, 1) := dk_9 (dk_at dksX1_share_0 17 rfl rfl)
theorem dX1_share_18 : decode cX1_share 18 = .ok (.lstore 4, 2) := dk_55 4 (dk_at dksX1_share_0 18 rfl rfl)
theorem dX1_share_20 : decode cX1_share 20 = .ok (.aload_n 0, 1) := dk_42 (dk_at dksX1_share_0 20 rfl rfl)
theorem dX1_share_21 : decode cX1_share 21 = .ok (.getfield 24, 3) := dk_180 0 24 (dk_at dksX1_share_0 21 rfl rfl)
theorem dX1_share_24 : decode cX1_share 24 = .ok (.astore 6, 2) := dk_58 6 (dk_at dksX1_share_1 0 rfl rfl)
theorem dX1_share_26 : decode cX1_share 26 = .ok (.aload 6, 2) := dk_25 6 (dk_at dksX1_share_1 2 rfl rfl)
theorem dX1_share_28 : decode cX1_share 28 = .ok (.arraylength, 1) := dk_190 (dk_at dksX1_share_1 4 rfl rfl)
theorem dX1_share_29 : decode cX1_share 29 = .ok (.istore 7, 2) := dk_54 7 (dk_at dksX1_share_1 5 rfl rfl)
theorem dX1_share_31 : decode cX1_share 31 = .ok (.iconst 0, 1) := dk_3 (dk_at dksX1_share_1 7 rfl rfl)
theorem dX1_share_32 : decode cX1_share 32 = .ok (.istore 8, 2) := dk_54 8 (dk_at dksX1_share_1 8 rfl rfl)
theorem dX1_share_34 : decode cX1_share 34 = .ok (.iload 8, 2) := dk_21 8 (dk_at dksX1_share_1 10 rfl rfl)
theorem dX1_share_36 : decode cX1_share 36 = .ok (.iload 7, 2) := dk_21 7 (dk_at dksX1_share_1 12 rfl rfl)
theorem dX1_share_38 : decode cX1_share 38 = .ok (.if_icmp .ge 27, 3) := dk_162 0 27 (dk_at dksX1_share_1 14 rfl rfl)
theorem dX1_share_41 : decode cX1_share 41 = .ok (.aload 6, 2) := dk_25 6 (dk_at dksX1_share_1 17 rfl rfl)
theorem dX1_share_43 : decode cX1_share 43 = .ok (.iload 8, 2) := dk_21 8 (dk_at dksX1_share_1 19 rfl rfl)
theorem dX1_share_45 : decode cX1_share 45 = .ok (.aaload, 1) := dk_50 (dk_at dksX1_share_1 21 rfl rfl)
theorem dX1_share_46 : decode cX1_share 46 = .ok (.astore 9, 2) := dk_58 9 (dk_at dksX1_share_1 22 rfl rfl)
theorem dX1_share_48 : decode cX1_share 48 = .ok (.lload 4, 2) := dk_22 4 (dk_at dksX1_share_2 0 rfl rfl)
theorem dX1_share_50 : decode cX1_share 50 = .ok (.aload 9, 2) := dk_25 9 (dk_at dksX1_share_2 2 rfl rfl)
theorem dX1_share_52 : decode cX1_share 52 = .ok (.getfield 215, 3) := dk_180 0 215 (dk_at dksX1_share_2 4 rfl rfl)
theorem dX1_share_55 : decode cX1_share 55 = .ok (.i2l, 1) := dk_133 (dk_at dksX1_share_2 7 rfl rfl)
theorem dX1_share_56 : decode cX1_share 56 = .ok (.ladd, 1) := dk_97 (dk_at dksX1_share_2 8 rfl rfl)
theorem dX1_share_57 : decode cX1_share 57 = .ok (.lstore 4, 2) := dk_55 4 (dk_at dksX1_share_2 9 rfl rfl)
theorem dX1_share_59 : decode cX1_share 59 = .ok (.iinc 8 1, 3) := dk_132 8 1 (dk_at dksX1_share_2 11 rfl rfl)
theorem dX1_share_62 : decode cX1_share 62 = .ok (.goto (-28), 3) := dk_167 255 228 (dk_at dksX1_share_2 14 rfl rfl)
theorem dX1_share_65 : decode cX1_share 65 = .ok (.lload 4, 2) := dk_22 4 (dk_at dksX1_share_2 17 rfl rfl)
theorem dX1_share_67 : decode cX1_share 67 = .ok (.lconst 0, 1) := dk_9 (dk_at dksX1_share_2 19 rfl rfl)
theorem dX1_share_68 : decode cX1_share 68 = .ok (.lcmp, 1) := dk_148 (dk_at dksX1_share_2 20 rfl rfl)
theorem dX1_share_69 : decode cX1_share 69 = .ok (.ifCond .ne 11, 3) := dk_154 0 11 (dk_at dksX1_share_2 21 rfl rfl)
theorem dX1_share_72 : decode cX1_share 72 = .ok (.new 220, 3) := dk_187 0 220 (dk_at dksX1_share_3 0 rfl rfl)
theorem dX1_share_75 : decode cX1_share 75 = .ok (.dup, 1) := dk_89 (dk_at dksX1_share_3 3 rfl rfl)
theorem dX1_share_76 : decode cX1_share 76 = .ok (.invokespecial 222, 3) := dk_183 0 222 (dk_at dksX1_share_3 4 rfl rfl)
theorem dX1_share_79 : decode cX1_share 79 = .ok (.athrow, 1) := dk_191 (dk_at dksX1_share_3 7 rfl rfl)
theorem dX1_share_80 : decode cX1_share 80 = .ok (.lload_n 2, 1) := dk_32 (dk_at dksX1_share_3 8 rfl rfl)
theorem dX1_share_81 : decode cX1_share 81 = .ok (.lload 4, 2) := dk_22 4 (dk_at dksX1_share_3 9 rfl rfl)
theorem dX1_share_83 : decode cX1_share 83 = .ok (.ldiv, 1) := dk_109 (dk_at dksX1_share_3 11 rfl rfl)
theorem dX1_share_84 : decode cX1_share 84 = .ok (.lstore 6, 2) := dk_55 6 (dk_at dksX1_share_3 12 rfl rfl)
theorem dX1_share_86 : decode cX1_share 86 = .ok (.lload_n 2, 1) := dk_32 (dk_at dksX1_share_3 14 rfl rfl)
theorem dX1_share_87 : decode cX1_share 87 = .ok (.lload 4, 2) := dk_22 4 (dk_at dksX1_share_3 15 rfl rfl)
theorem dX1_share_89 : decode cX1_share 89 = .ok (.lrem, 1) := dk_113 (dk_at dksX1_share_3 17 rfl rfl)
theorem dX1_share_90 : decode cX1_share 90 = .ok (.lstore 8, 2) := dk_55 8 (dk_at dksX1_share_3 18 rfl rfl)
theorem dX1_share_92 : decode cX1_share 92 = .ok (.lload 8, 2) := dk_22 8 (dk_at dksX1_share_3 20 rfl rfl)
theorem dX1_share_94 : decode cX1_share 94 = .ok (.lstore 10, 2) := dk_55 10 (dk_at dksX1_share_3 22 rfl rfl)
theorem dX1_share_96 : decode cX1_share 96 = .ok (.iconst 0, 1) := dk_3 (dk_at dksX1_share_4 0 rfl rfl)
theorem dX1_share_97 : decode cX1_share 97 = .ok (.istore 12, 2) := dk_54 12 (dk_at dksX1_share_4 1 rfl rfl)
theorem dX1_share_99 : decode cX1_share 99 = .ok (.lload 8, 2) := dk_22 8 (dk_at dksX1_share_4 3 rfl rfl)
theorem dX1_share_101 : decode cX1_share 101 = .ok (.aload_n 0, 1) := dk_42 (dk_at dksX1_share_4 5 rfl rfl)
theorem dX1_share_102 : decode cX1_share 102 = .ok (.getfield 24, 3) := dk_180 0 24 (dk_at dksX1_share_4 6 rfl rfl)
theorem dX1_share_105 : decode cX1_share 105 = .ok (.iload_n 1, 1) := dk_27 (dk_at dksX1_share_4 9 rfl rfl)
theorem dX1_share_106 : decode cX1_share 106 = .ok (.aaload, 1) := dk_50 (dk_at dksX1_share_4 10 rfl rfl)
theorem dX1_share_107 : decode cX1_share 107 = .ok (.getfield 215, 3) := dk_180 0 215 (dk_at dksX1_share_4 11 rfl rfl)
theorem dX1_share_110 : decode cX1_share 110 = .ok (.i2l, 1) := dk_133 (dk_at dksX1_share_4 14 rfl rfl)
theorem dX1_share_111 : decode cX1_share 111 = .ok (.lmul, 1) := dk_105 (dk_at dksX1_share_4 15 rfl rfl)
theorem dX1_share_112 : decode cX1_share 112 = .ok (.lload 4, 2) := dk_22 4 (dk_at dksX1_share_4 16 rfl rfl)
theorem dX1_share_114 : decode cX1_share 114 = .ok (.lrem, 1) := dk_113 (dk_at dksX1_share_4 18 rfl rfl)
theorem dX1_share_115 : decode cX1_share 115 = .ok (.lstore 13, 2) := dk_55 13 (dk_at dksX1_share_4 19 rfl rfl)
theorem dX1_share_117 : decode cX1_share 117 = .ok (.iconst 0, 1) := dk_3 (dk_at dksX1_share_4 21 rfl rfl)
theorem dX1_share_118 : decode cX1_share 118 = .ok (.istore 15, 2) := dk_54 15 (dk_at dksX1_share_4 22 rfl rfl)
theorem dX1_share_120 : decode cX1_share 120 = .ok (.iload 15, 2) := dk_21 15 (dk_at dksX1_share_5 0 rfl rfl)
theorem dX1_share_122 : decode cX1_share 122 = .ok (.bipush 36, 2) := dk_16 36 (dk_at dksX1_share_5 2 rfl rfl)
theorem dX1_share_124 : decode cX1_share 124 = .ok (.if_icmp .ge 82, 3) := dk_162 0 82 (dk_at dksX1_share_5 4 rfl rfl)
theorem dX1_share_127 : decode cX1_share 127 = .ok (.lload 8, 2) := dk_22 8 (dk_at dksX1_share_5 7 rfl rfl)
theorem dX1_share_129 : decode cX1_share 129 = .ok (.aload_n 0, 1) := dk_42 (dk_at dksX1_share_5 9 rfl rfl)
theorem dX1_share_130 : decode cX1_share 130 = .ok (.getfield 24, 3) := dk_180 0 24 (dk_at dksX1_share_5 10 rfl rfl)
theorem dX1_share_133 : decode cX1_share 133 = .ok (.iload 15, 2) := dk_21 15 (dk_at dksX1_share_5 13 rfl rfl)
theorem dX1_share_135 : decode cX1_share 135 = .ok (.aaload, 1) := dk_50 (dk_at dksX1_share_5 15 rfl rfl)
theorem dX1_share_136 : decode cX1_share 136 = .ok (.getfield 215, 3) := dk_180 0 215 (dk_at dksX1_share_5 16 rfl rfl)
theorem dX1_share_139 : decode cX1_share 139 = .ok (.i2l, 1) := dk_133 (dk_at dksX1_share_5 19 rfl rfl)
theorem dX1_share_140 : decode cX1_share 140 = .ok (.lmul, 1) := dk_105 (dk_at dksX1_share_5 20 rfl rfl)
theorem dX1_share_141 : decode cX1_share 141 = .ok (.lload 4, 2) := dk_22 4 (dk_at dksX1_share_5 21 rfl rfl)
theorem dX1_share_143 : decode cX1_share 143 = .ok (.lrem, 1) := dk_113 (dk_at dksX1_share_5 23 rfl rfl)
theorem dX1_share_144 : decode cX1_share 144 = .ok (.lstore 16, 2) := dk_55 16 (dk_at dksX1_share_6 0 rfl rfl)
theorem dX1_share_146 : decode cX1_share 146 = .ok (.lload 10, 2) := dk_22 10 (dk_at dksX1_share_6 2 rfl rfl)
theorem dX1_share_148 : decode cX1_share 148 = .ok (.lload 8, 2) := dk_22 8 (dk_at dksX1_share_6 4 rfl rfl)
theorem dX1_share_150 : decode cX1_share 150 = .ok (.aload_n 0, 1) := dk_42 (dk_at dksX1_share_6 6 rfl rfl)
theorem dX1_share_151 : decode cX1_share 151 = .ok (.getfield 24, 3) := dk_180 0 24 (dk_at dksX1_share_6 7 rfl rfl)
theorem dX1_share_154 : decode cX1_share 154 = .ok (.iload 15, 2) := dk_21 15 (dk_at dksX1_share_6 10 rfl rfl)
theorem dX1_share_156 : decode cX1_share 156 = .ok (.aaload, 1) := dk_50 (dk_at dksX1_share_6 12 rfl rfl)
theorem dX1_share_157 : decode cX1_share 157 = .ok (.getfield 215, 3) := dk_180 0 215 (dk_at dksX1_share_6 13 rfl rfl)
theorem dX1_share_160 : decode cX1_share 160 = .ok (.i2l, 1) := dk_133 (dk_at dksX1_share_6 16 rfl rfl)
theorem dX1_share_161 : decode cX1_share 161 = .ok (.lmul, 1) := dk_105 (dk_at dksX1_share_6 17 rfl rfl)
theorem dX1_share_162 : decode cX1_share 162 = .ok (.lload 4, 2) := dk_22 4 (dk_at dksX1_share_6 18 rfl rfl)
theorem dX1_share_164 : decode cX1_share 164 = .ok (.ldiv, 1) := dk_109 (dk_at dksX1_share_6 20 rfl rfl)
theorem dX1_share_165 : decode cX1_share 165 = .ok (.lsub, 1) := dk_101 (dk_at dksX1_share_6 21 rfl rfl)
theorem dX1_share_166 : decode cX1_share 166 = .ok (.lstore 10, 2) := dk_55 10 (dk_at dksX1_share_6 22 rfl rfl)
theorem dX1_share_168 : decode cX1_share 168 = .ok (.iload 12, 2) := dk_21 12 (dk_at dksX1_share_7 0 rfl rfl)
theorem dX1_share_170 : decode cX1_share 170 = .ok (.lload 16, 2) := dk_22 16 (dk_at dksX1_share_7 2 rfl rfl)
theorem dX1_share_172 : decode cX1_share 172 = .ok (.lload 13, 2) := dk_22 13 (dk_at dksX1_share_7 4 rfl rfl)
theorem dX1_share_174 : decode cX1_share 174 = .ok (.lcmp, 1) := dk_148 (dk_at dksX1_share_7 6 rfl rfl)
theorem dX1_share_175 : decode cX1_share 175 = .ok (.ifCond .gt 17, 3) := dk_157 0 17 (dk_at dksX1_share_7 7 rfl rfl)
theorem dX1_share_178 : decode cX1_share 178 = .ok (.lload 16, 2) := dk_22 16 (dk_at dksX1_share_7 10 rfl rfl)
theorem dX1_share_180 : decode cX1_share 180 = .ok (.lload 13, 2) := dk_22 13 (dk_at dksX1_share_7 12 rfl rfl)
theorem dX1_share_182 : decode cX1_share 182 = .ok (.lcmp, 1) := dk_148 (dk_at dksX1_share_7 14 rfl rfl)
theorem dX1_share_183 : decode cX1_share 183 = .ok (.ifCond .ne 13, 3) := dk_154 0 13 (dk_at dksX1_share_7 15 rfl rfl)
theorem dX1_share_186 : decode cX1_share 186 = .ok (.iload 15, 2) := dk_21 15 (dk_at dksX1_share_7 18 rfl rfl)
theorem dX1_share_188 : decode cX1_share 188 = .ok (.iload_n 1, 1) := dk_27 (dk_at dksX1_share_7 20 rfl rfl)
theorem dX1_share_189 : decode cX1_share 189 = .ok (.if_icmp .ge 7, 3) := dk_162 0 7 (dk_at dksX1_share_7 21 rfl rfl)
theorem dX1_share_192 : decode cX1_share 192 = .ok (.iconst 1, 1) := dk_4 (dk_at dksX1_share_8 0 rfl rfl)
theorem dX1_share_193 : decode cX1_share 193 = .ok (.goto 4, 3) := dk_167 0 4 (dk_at dksX1_share_8 1 rfl rfl)
theorem dX1_share_196 : decode cX1_share 196 = .ok (.iconst 0, 1) := dk_3 (dk_at dksX1_share_8 4 rfl rfl)
theorem dX1_share_197 : decode cX1_share 197 = .ok (.iadd, 1) := dk_96 (dk_at dksX1_share_8 5 rfl rfl)
theorem dX1_share_198 : decode cX1_share 198 = .ok (.istore 12, 2) := dk_54 12 (dk_at dksX1_share_8 6 rfl rfl)
theorem dX1_share_200 : decode cX1_share 200 = .ok (.iinc 15 1, 3) := dk_132 15 1 (dk_at dksX1_share_8 8 rfl rfl)
theorem dX1_share_203 : decode cX1_share 203 = .ok (.goto (-83), 3) := dk_167 255 173 (dk_at dksX1_share_8 11 rfl rfl)
theorem dX1_share_206 : decode cX1_share 206 = .ok (.lload 6, 2) := dk_22 6 (dk_at dksX1_share_8 14 rfl rfl)
theorem dX1_share_208 : decode cX1_share 208 = .ok (.aload_n 0, 1) := dk_42 (dk_at dksX1_share_8 16 rfl rfl)
theorem dX1_share_209 : decode cX1_share 209 = .ok (.getfield 24, 3) := dk_180 0 24 (dk_at dksX1_share_8 17 rfl rfl)
theorem dX1_share_212 : decode cX1_share 212 = .ok (.iload_n 1, 1) := dk_27 (dk_at dksX1_share_8 20 rfl rfl)
theorem dX1_share_213 : decode cX1_share 213 = .ok (.aaload, 1) := dk_50 (dk_at dksX1_share_8 21 rfl rfl)
theorem dX1_share_214 : decode cX1_share 214 = .ok (.getfield 215, 3) := dk_180 0 215 (dk_at dksX1_share_9 0 rfl rfl)
theorem dX1_share_217 : decode cX1_share 217 = .ok (.i2l, 1) := dk_133 (dk_at dksX1_share_9 3 rfl rfl)
theorem dX1_share_218 : decode cX1_share 218 = .ok (.lmul, 1) := dk_105 (dk_at dksX1_share_9 4 rfl rfl)
theorem dX1_share_219 : decode cX1_share 219 = .ok (.lload 8, 2) := dk_22 8 (dk_at dksX1_share_9 5 rfl rfl)
theorem dX1_share_221 : decode cX1_share 221 = .ok (.aload_n 0, 1) := dk_42 (dk_at dksX1_share_9 7 rfl rfl)
theorem dX1_share_222 : decode cX1_share 222 = .ok (.getfield 24, 3) := dk_180 0 24 (dk_at dksX1_share_9 8 rfl rfl)
theorem dX1_share_225 : decode cX1_share 225 = .ok (.iload_n 1, 1) := dk_27 (dk_at dksX1_share_9 11 rfl rfl)
theorem dX1_share_226 : decode cX1_share 226 = .ok (.aaload, 1) := dk_50 (dk_at dksX1_share_9 12 rfl rfl)
theorem dX1_share_227 : decode cX1_share 227 = .ok (.getfield 215, 3) := dk_180 0 215 (dk_at dksX1_share_9 13 rfl rfl)
theorem dX1_share_230 : decode cX1_share 230 = .ok (.i2l, 1) := dk_133 (dk_at dksX1_share_9 16 rfl rfl)
theorem dX1_share_231 : decode cX1_share 231 = .ok (.lmul, 1) := dk_105 (dk_at dksX1_share_9 17 rfl rfl)
theorem dX1_share_232 : decode cX1_share 232 = .ok (.lload 4, 2) := dk_22 4 (dk_at dksX1_share_9 18 rfl rfl)
theorem dX1_share_234 : decode cX1_share 234 = .ok (.ldiv, 1) := dk_109 (dk_at dksX1_share_9 20 rfl rfl)
theorem dX1_share_235 : decode cX1_share 235 = .ok (.ladd, 1) := dk_97 (dk_at dksX1_share_9 21 rfl rfl)
theorem dX1_share_236 : decode cX1_share 236 = .ok (.iload 12, 2) := dk_21 12 (dk_at dksX1_share_9 22 rfl rfl)
theorem dX1_share_238 : decode cX1_share 238 = .ok (.i2l, 1) := dk_133 (dk_at dksX1_share_10 0 rfl rfl)
theorem dX1_share_239 : decode cX1_share 239 = .ok (.lload 10, 2) := dk_22 10 (dk_at dksX1_share_10 1 rfl rfl)
theorem dX1_share_241 : decode cX1_share 241 = .ok (.lcmp, 1) := dk_148 (dk_at dksX1_share_10 3 rfl rfl)
theorem dX1_share_242 : decode cX1_share 242 = .ok (.ifCond .ge 7, 3) := dk_156 0 7 (dk_at dksX1_share_10 4 rfl rfl)
theorem dX1_share_245 : decode cX1_share 245 = .ok (.lconst 1, 1) := dk_10 (dk_at dksX1_share_10 7 rfl rfl)
theorem dX1_share_246 : decode cX1_share 246 = .ok (.goto 4, 3) := dk_167 0 4 (dk_at dksX1_share_10 8 rfl rfl)
theorem dX1_share_249 : decode cX1_share 249 = .ok (.lconst 0, 1) := dk_9 (dk_at dksX1_share_10 11 rfl rfl)
theorem dX1_share_250 : decode cX1_share 250 = .ok (.ladd, 1) := dk_97 (dk_at dksX1_share_10 12 rfl rfl)
theorem dX1_share_251 : decode cX1_share 251 = .ok (.lreturn, 1) := dk_173 (dk_at dksX1_share_10 13 rfl rfl)
theorem q21 : (Jvm.Cond.initialized "InitiatorRows") ∈ lw_all := lw_g (lw_at lw_m1 1 rfl) rfl
theorem q52 : (Jvm.Cond.instantiable "InitiatorRows" (9 : Nat)) ∈ lw_all := lw_g (lw_at lw_m1 32 rfl) rfl
theorem q54 : (Jvm.Cond.instanceMethod ({ cls := "InitiatorRows", name := "<init>", desc := "()V" } : Jvm.MethodName)) ∈ lw_all := lw_g (lw_at lw_m1 34 rfl) rfl
theorem q55 : (Jvm.Cond.code ({ cls := "InitiatorRows", name := "<init>", desc := "()V" } : Jvm.MethodName) prog_1_method_1_code (2 : Nat) (Option.none : Option Jvm.ClassFile.FieldType)) ∈ lw_all := lw_g (lw_at lw_m1 35 rfl) rfl
theorem q56 : (Jvm.Cond.methodLink "InitiatorRows" (1 : Nat) ({ cls := "java/lang/Object", name := "<init>", desc := "()V" } : Jvm.MethodName)) ∈ lw_all := lw_g (lw_at lw_m1 36 rfl) rfl
theorem q59 : (Jvm.Cond.classLink "InitiatorRows" (7 : Nat) "java/util/ArrayList") ∈ lw_all := lw_g (lw_at lw_m1 39 rfl) rfl
theorem q61 : (Jvm.Cond.methodLink "InitiatorRows" (9 : Nat) ({ cls := "java/util/ArrayList", name := "<init>", desc := "()V" } : Jvm.MethodName)) ∈ lw_all := lw_g (lw_at lw_m1 41 rfl) rfl
theorem q88 : (Jvm.Cond.classLink "InitiatorRows" (22 : Nat) "InitiatorRows$Cls") ∈ lw_all := lw_g (lw_at lw_m1 68 rfl) rfl
theorem q90 : (Jvm.Cond.classLink "InitiatorRows" (32 : Nat) "InitiatorRows$UnitsRule") ∈ lw_all := lw_g (lw_at lw_m1 70 rfl) rfl
theorem q92 : (Jvm.Cond.methodLink "InitiatorRows" (34 : Nat) ({ cls := "InitiatorRows$UnitsRule", name := "<init>", desc := "(Ljava/util/List;[I)V" } : Jvm.MethodName)) ∈ lw_all := lw_g (lw_at lw_m1 72 rfl) rfl
theorem q115 : (Jvm.Cond.classLink "InitiatorRows" (41 : Nat) "InitiatorRows$Rule") ∈ lw_all := lw_g (lw_at lw_m1 95 rfl) rfl
theorem q117 : (Jvm.Cond.classLink "InitiatorRows" (43 : Nat) "InitiatorRows$HoldRule") ∈ lw_all := lw_g (lw_at lw_m1 97 rfl) rfl
theorem q119 : (Jvm.Cond.methodLinkNest "InitiatorRows" (45 : Nat) ({ cls := "InitiatorRows$HoldRule", name := "<init>", desc := "()V" } : Jvm.MethodName) "InitiatorRows") ∈ lw_tbl := lw_at lw_m1 99 rfl
theorem q124 : (Jvm.Cond.classLink "InitiatorRows" (46 : Nat) "InitiatorRows$LimitRule") ∈ lw_all := lw_g (lw_at lw_m1 104 rfl) rfl
theorem q126 : (Jvm.Cond.methodLink "InitiatorRows" (48 : Nat) ({ cls := "InitiatorRows$LimitRule", name := "<init>", desc := "(Ljava/util/List;[LInitiatorRows$Cls;)V" } : Jvm.MethodName)) ∈ lw_all := lw_g (lw_at lw_m1 106 rfl) rfl
theorem q135 : (Jvm.Cond.classLink "InitiatorRows" (51 : Nat) "InitiatorRows$NameRule") ∈ lw_all := lw_g (lw_at lw_m1 115 rfl) rfl
theorem q137 : (Jvm.Cond.methodLink "InitiatorRows" (53 : Nat) ({ cls := "InitiatorRows$NameRule", name := "<init>", desc := "(Ljava/util/List;)V" } : Jvm.MethodName)) ∈ lw_all := lw_g (lw_at lw_m1 117 rfl) rfl
theorem q143 : (Jvm.Cond.classLink "InitiatorRows" (56 : Nat) "InitiatorRows$NeedsRule") ∈ lw_all := lw_g (lw_at lw_m1 123 rfl) rfl
theorem q145 : (Jvm.Cond.methodLinkNest "InitiatorRows" (58 : Nat) ({ cls := "InitiatorRows$NeedsRule", name := "<init>", desc := "()V" } : Jvm.MethodName) "InitiatorRows") ∈ lw_tbl := lw_at lw_m1 125 rfl
theorem q150 : (Jvm.Cond.classLink "InitiatorRows" (59 : Nat) "InitiatorRows$AloneRule") ∈ lw_all := lw_g (lw_at lw_m1 130 rfl) rfl
theorem q152 : (Jvm.Cond.methodLink "InitiatorRows" (61 : Nat) ({ cls := "InitiatorRows$AloneRule", name := "<init>", desc := "(Ljava/util/List;)V" } : Jvm.MethodName)) ∈ lw_all := lw_g (lw_at lw_m1 132 rfl) rfl
theorem q158 : (Jvm.Cond.classLink "InitiatorRows" (66 : Nat) "InitiatorRows$Ageing") ∈ lw_all := lw_g (lw_at lw_m1 138 rfl) rfl
theorem q160 : (Jvm.Cond.methodLink "InitiatorRows" (68 : Nat) ({ cls := "InitiatorRows$Ageing", name := "<init>", desc := "(JI)V" } : Jvm.MethodName)) ∈ lw_all := lw_g (lw_at lw_m1 140 rfl) rfl
theorem q172 : (Jvm.Cond.methodLinkNest "InitiatorRows" (75 : Nat) ({ cls := "InitiatorRows$Cls", name := "<init>", desc := "()V" } : Jvm.MethodName) "InitiatorRows") ∈ lw_tbl := lw_at lw_m1 152 rfl
theorem q178 : (Jvm.Cond.fieldLinkNest "InitiatorRows" (110 : Nat) "InitiatorRows$Cls" "limit" "I" "InitiatorRows") ∈ lw_tbl := lw_at lw_m1 158 rfl
theorem q180 : (Jvm.Cond.fieldLinkNest "InitiatorRows" (114 : Nat) "InitiatorRows$Cls" "from" "I" "InitiatorRows") ∈ lw_tbl := lw_at lw_m1 160 rfl
theorem q182 : (Jvm.Cond.fieldLinkNest "InitiatorRows" (117 : Nat) "InitiatorRows$Cls" "to" "I" "InitiatorRows") ∈ lw_tbl := lw_at lw_m1 162 rfl
theorem q183 : (Jvm.Cond.fieldLinkNest "InitiatorRows" (215 : Nat) "InitiatorRows$Cls" "weight" "I" "InitiatorRows") ∈ lw_tbl := lw_at lw_m1 163 rfl
theorem q193 : (Jvm.Cond.fieldLink "InitiatorRows" (10 : Nat) "InitiatorRows" "initiators" "Ljava/util/List;") ∈ lw_all := lw_g (lw_at lw_m1 173 rfl) rfl
theorem q194 : (Jvm.Cond.fieldLink "InitiatorRows" (16 : Nat) "InitiatorRows" "jobs" "Ljava/util/List;") ∈ lw_all := lw_g (lw_at lw_m1 174 rfl) rfl
theorem q195 : (Jvm.Cond.fieldLink "InitiatorRows" (19 : Nat) "InitiatorRows" "running" "Ljava/util/List;") ∈ lw_all := lw_g (lw_at lw_m1 175 rfl) rfl
theorem q196 : (Jvm.Cond.fieldLink "InitiatorRows" (24 : Nat) "InitiatorRows" "classes" "[LInitiatorRows$Cls;") ∈ lw_all := lw_g (lw_at lw_m1 176 rfl) rfl
theorem q197 : (Jvm.Cond.fieldLink "InitiatorRows" (28 : Nat) "InitiatorRows" "units" "[I") ∈ lw_all := lw_g (lw_at lw_m1 177 rfl) rfl
theorem q198 : (Jvm.Cond.fieldLink "InitiatorRows" (37 : Nat) "InitiatorRows" "unitsRule" "LInitiatorRows$UnitsRule;") ∈ lw_all := lw_g (lw_at lw_m1 178 rfl) rfl
theorem q199 : (Jvm.Cond.fieldLink "InitiatorRows" (62 : Nat) "InitiatorRows" "rules" "[LInitiatorRows$Rule;") ∈ lw_all := lw_g (lw_at lw_m1 179 rfl) rfl
theorem q200 : (Jvm.Cond.fieldLink "InitiatorRows" (71 : Nat) "InitiatorRows" "ageing" "LInitiatorRows$Ageing;") ∈ lw_all := lw_g (lw_at lw_m1 180 rfl) rfl
theorem q201 : (Jvm.Cond.fieldLink "InitiatorRows" (120 : Nat) "InitiatorRows" "now" "J") ∈ lw_all := lw_g (lw_at lw_m1 181 rfl) rfl
theorem q202 : (Jvm.Cond.laysFinal "InitiatorRows" "InitiatorRows" "initiators" "Ljava/util/List;") ∈ lw_all := lw_g (lw_at lw_m1 182 rfl) rfl
theorem q203 : (Jvm.Cond.soleField "InitiatorRows" "initiators") ∈ lw_all := lw_g (lw_at lw_m1 183 rfl) rfl
theorem q204 : (Jvm.Cond.laysFinal "InitiatorRows" "InitiatorRows" "jobs" "Ljava/util/List;") ∈ lw_all := lw_g (lw_at lw_m1 184 rfl) rfl
theorem q205 : (Jvm.Cond.soleField "InitiatorRows" "jobs") ∈ lw_all := lw_g (lw_at lw_m1 185 rfl) rfl
theorem q206 : (Jvm.Cond.laysFinal "InitiatorRows" "InitiatorRows" "running" "Ljava/util/List;") ∈ lw_all := lw_g (lw_at lw_m1 186 rfl) rfl
theorem q207 : (Jvm.Cond.soleField "InitiatorRows" "running") ∈ lw_all := lw_g (lw_at lw_m1 187 rfl) rfl
theorem q208 : (Jvm.Cond.laysFinal "InitiatorRows" "InitiatorRows" "classes" "[LInitiatorRows$Cls;") ∈ lw_all := lw_g (lw_at lw_m1 188 rfl) rfl
theorem q209 : (Jvm.Cond.soleField "InitiatorRows" "classes") ∈ lw_all := lw_g (lw_at lw_m1 189 rfl) rfl
theorem q210 : (Jvm.Cond.laysFinal "InitiatorRows" "InitiatorRows" "units" "[I") ∈ lw_all := lw_g (lw_at lw_m1 190 rfl) rfl
theorem q211 : (Jvm.Cond.soleField "InitiatorRows" "units") ∈ lw_all := lw_g (lw_at lw_m1 191 rfl) rfl
theorem q212 : (Jvm.Cond.laysFinal "InitiatorRows" "InitiatorRows" "unitsRule" "LInitiatorRows$UnitsRule;") ∈ lw_all := lw_g (lw_at lw_m1 192 rfl) rfl
theorem q213 : (Jvm.Cond.soleField "InitiatorRows" "unitsRule") ∈ lw_all := lw_g (lw_at lw_m1 193 rfl) rfl
theorem q214 : (Jvm.Cond.laysFinal "InitiatorRows" "InitiatorRows" "rules" "[LInitiatorRows$Rule;") ∈ lw_all := lw_g (lw_at lw_m1 194 rfl) rfl
theorem q215 : (Jvm.Cond.soleField "InitiatorRows" "rules") ∈ lw_all := lw_g (lw_at lw_m1 195 rfl) rfl
theorem q216 : (Jvm.Cond.lays "InitiatorRows" "InitiatorRows" "ageing" "LInitiatorRows$Ageing;") ∈ lw_all := lw_g (lw_at lw_m1 196 rfl) rfl
theorem q217 : (Jvm.Cond.soleField "InitiatorRows" "ageing") ∈ lw_all := lw_g (lw_at lw_m1 197 rfl) rfl
theorem q218 : (Jvm.Cond.lays "InitiatorRows" "InitiatorRows" "now" "J") ∈ lw_all := lw_g (lw_at lw_m1 198 rfl) rfl
theorem q219 : (Jvm.Cond.soleField "InitiatorRows" "now") ∈ lw_all := lw_g (lw_at lw_m1 199 rfl) rfl
theorem q220 : (Jvm.Cond.superclass "InitiatorRows" "java/lang/Object") ∈ lw_all := lw_g (lw_at lw_m1 200 rfl) rfl
theorem q222 : (Jvm.Cond.instanceMethod ({ cls := "InitiatorRows", name := "initiator", desc := "()I" } : Jvm.MethodName)) ∈ lw_all := lw_g (lw_at lw_m1 202 rfl) rfl
theorem q223 : (Jvm.Cond.selects "InitiatorRows" ({ cls := "InitiatorRows", name := "initiator", desc := "()I" } : Jvm.MethodName) ({ cls := "InitiatorRows", name := "initiator", desc := "()I" } : Jvm.MethodName)) ∈ lw_all := lw_g (lw_at lw_m1 203 rfl) rfl
theorem q224 : (Jvm.Cond.code ({ cls := "InitiatorRows", name := "initiator", desc := "()I" } : Jvm.MethodName) prog_1_method_6_code (1 : Nat) (Option.some Jvm.ClassFile.FieldType.int)) ∈ lw_all := lw_g (lw_at lw_m1 204 rfl) rfl
theorem q225 : (Jvm.Cond.interfaceEntry "InitiatorRows" (80 : Nat)) ∈ lw_tbl := lw_at lw_m1 205 rfl
theorem q226 : (Jvm.Cond.methodLink "InitiatorRows" (80 : Nat) ({ cls := "java/util/List", name := "size", desc := "()I" } : Jvm.MethodName)) ∈ lw_all := lw_g (lw_at lw_m1 206 rfl) rfl
theorem q235 : (Jvm.Cond.classLink "InitiatorRows" (90 : Nat) "InitiatorRows$Initiator") ∈ lw_all := lw_g (lw_at lw_m1 215 rfl) rfl
theorem q237 : (Jvm.Cond.methodLink "InitiatorRows" (94 : Nat) ({ cls := "InitiatorRows$Initiator", name := "<init>", desc := "()V" } : Jvm.MethodName)) ∈ lw_all := lw_g (lw_at lw_m1 217 rfl) rfl
theorem q242 : (Jvm.Cond.fieldLinkNest "InitiatorRows" (103 : Nat) "InitiatorRows$Initiator" "list" "[I" "InitiatorRows") ∈ lw_tbl := lw_at lw_m1 222 rfl
theorem q243 : (Jvm.Cond.fieldLinkNest "InitiatorRows" (183 : Nat) "InitiatorRows$Initiator" "drained" "Z" "InitiatorRows") ∈ lw_tbl := lw_at lw_m1 223 rfl
theorem q244 : (Jvm.Cond.fieldLinkNest "InitiatorRows" (186 : Nat) "InitiatorRows$Initiator" "job" "LInitiatorRows$Job;" "InitiatorRows") ∈ lw_tbl := lw_at lw_m1 224 rfl
theorem q252 : (Jvm.Cond.interfaceEntry "InitiatorRows" (95 : Nat)) ∈ lw_tbl := lw_at lw_m1 232 rfl
theorem q253 : (Jvm.Cond.methodLink "InitiatorRows" (95 : Nat) ({ cls := "java/util/List", name := "add", desc := "(Ljava/lang/Object;)Z" } : Jvm.MethodName)) ∈ lw_all := lw_g (lw_at lw_m1 233 rfl) rfl
theorem q289 : (Jvm.Cond.selects "InitiatorRows" ({ cls := "java/lang/Object", name := "getClass", desc := "()Ljava/lang/Class;" } : Jvm.MethodName) ({ cls := "java/lang/Object", name := "getClass", desc := "()Ljava/lang/Class;" } : Jvm.MethodName)) ∈ lw_all := lw_g (lw_at lw_m2 29 rfl) rfl
theorem q321 : (Jvm.Cond.instanceMethod ({ cls := "InitiatorRows", name := "cls", desc := "(III)I" } : Jvm.MethodName)) ∈ lw_all := lw_g (lw_at lw_m2 61 rfl) rfl
theorem q322 : (Jvm.Cond.selects "InitiatorRows" ({ cls := "InitiatorRows", name := "cls", desc := "(III)I" } : Jvm.MethodName) ({ cls := "InitiatorRows", name := "cls", desc := "(III)I" } : Jvm.MethodName)) ∈ lw_all := lw_g (lw_at lw_m2 62 rfl) rfl
theorem q323 : (Jvm.Cond.code ({ cls := "InitiatorRows", name := "cls", desc := "(III)I" } : Jvm.MethodName) prog_1_method_7_code (5 : Nat) (Option.some Jvm.ClassFile.FieldType.int)) ∈ lw_all := lw_g (lw_at lw_m2 63 rfl) rfl
theorem q324 : (Jvm.Cond.methodLink "InitiatorRows" (99 : Nat) ({ cls := "InitiatorRows", name := "initiator", desc := "(I)LInitiatorRows$Initiator;" } : Jvm.MethodName)) ∈ lw_all := lw_g (lw_at lw_m2 64 rfl) rfl
theorem q325 : (Jvm.Cond.privateMethod ({ cls := "InitiatorRows", name := "initiator", desc := "(I)LInitiatorRows$Initiator;" } : Jvm.MethodName)) ∈ lw_tbl := lw_at lw_m2 65 rfl
theorem q326 : (Jvm.Cond.instanceMethod ({ cls := "InitiatorRows", name := "initiator", desc := "(I)LInitiatorRows$Initiator;" } : Jvm.MethodName)) ∈ lw_all := lw_g (lw_at lw_m2 66 rfl) rfl
theorem q327 : (Jvm.Cond.code ({ cls := "InitiatorRows", name := "initiator", desc := "(I)LInitiatorRows$Initiator;" } : Jvm.MethodName) prog_1_method_4_code (2 : Nat) (Option.some (Jvm.ClassFile.FieldType.object "InitiatorRows$Initiator"))) ∈ lw_all := lw_g (lw_at lw_m2 67 rfl) rfl
theorem q328 : (Jvm.Cond.methodLink "InitiatorRows" (76 : Nat) ({ cls := "InitiatorRows", name := "isIn", desc := "(III)Z" } : Jvm.MethodName)) ∈ lw_all := lw_g (lw_at lw_m2 68 rfl) rfl
theorem q329 : (Jvm.Cond.static ({ cls := "InitiatorRows", name := "isIn", desc := "(III)Z" } : Jvm.MethodName)) ∈ lw_all := lw_g (lw_at lw_m2 69 rfl) rfl
theorem q330 : (Jvm.Cond.code ({ cls := "InitiatorRows", name := "isIn", desc := "(III)Z" } : Jvm.MethodName) prog_1_method_2_code (3 : Nat) (Option.some Jvm.ClassFile.FieldType.boolean)) ∈ lw_all := lw_g (lw_at lw_m2 70 rfl) rfl
theorem q331 : (Jvm.Cond.interfaceEntry "InitiatorRows" (86 : Nat)) ∈ lw_tbl := lw_at lw_m2 71 rfl
theorem q332 : (Jvm.Cond.methodLink "InitiatorRows" (86 : Nat) ({ cls := "java/util/List", name := "get", desc := "(I)Ljava/lang/Object;" } : Jvm.MethodName)) ∈ lw_all := lw_g (lw_at lw_m2 72 rfl) rfl
theorem q351 : (Jvm.Cond.instanceMethod ({ cls := "InitiatorRows", name := "limit", desc := "(II)I" } : Jvm.MethodName)) ∈ lw_all := lw_g (lw_at lw_m2 91 rfl) rfl
theorem q352 : (Jvm.Cond.selects "InitiatorRows" ({ cls := "InitiatorRows", name := "limit", desc := "(II)I" } : Jvm.MethodName) ({ cls := "InitiatorRows", name := "limit", desc := "(II)I" } : Jvm.MethodName)) ∈ lw_all := lw_g (lw_at lw_m2 92 rfl) rfl
theorem q353 : (Jvm.Cond.code ({ cls := "InitiatorRows", name := "limit", desc := "(II)I" } : Jvm.MethodName) prog_1_method_8_code (3 : Nat) (Option.some Jvm.ClassFile.FieldType.int)) ∈ lw_all := lw_g (lw_at lw_m2 93 rfl) rfl
theorem q354 : (Jvm.Cond.methodLink "InitiatorRows" (106 : Nat) ({ cls := "InitiatorRows", name := "isClass", desc := "(I)Z" } : Jvm.MethodName)) ∈ lw_all := lw_g (lw_at lw_m2 94 rfl) rfl
theorem q355 : (Jvm.Cond.static ({ cls := "InitiatorRows", name := "isClass", desc := "(I)Z" } : Jvm.MethodName)) ∈ lw_all := lw_g (lw_at lw_m2 95 rfl) rfl
theorem q356 : (Jvm.Cond.code ({ cls := "InitiatorRows", name := "isClass", desc := "(I)Z" } : Jvm.MethodName) prog_1_method_3_code (1 : Nat) (Option.some Jvm.ClassFile.FieldType.boolean)) ∈ lw_all := lw_g (lw_at lw_m2 96 rfl) rfl
theorem q358 : (Jvm.Cond.instanceMethod ({ cls := "InitiatorRows", name := "window", desc := "(III)I" } : Jvm.MethodName)) ∈ lw_all := lw_g (lw_at lw_m2 98 rfl) rfl
theorem q359 : (Jvm.Cond.selects "InitiatorRows" ({ cls := "InitiatorRows", name := "window", desc := "(III)I" } : Jvm.MethodName) ({ cls := "InitiatorRows", name := "window", desc := "(III)I" } : Jvm.MethodName)) ∈ lw_all := lw_g (lw_at lw_m2 99 rfl) rfl
theorem q360 : (Jvm.Cond.code ({ cls := "InitiatorRows", name := "window", desc := "(III)I" } : Jvm.MethodName) prog_1_method_9_code (4 : Nat) (Option.some Jvm.ClassFile.FieldType.int)) ∈ lw_all := lw_g (lw_at lw_m2 100 rfl) rfl
theorem q362 : (Jvm.Cond.instanceMethod ({ cls := "InitiatorRows", name := "job", desc := "(IIIJ)I" } : Jvm.MethodName)) ∈ lw_all := lw_g (lw_at lw_m2 102 rfl) rfl
theorem q363 : (Jvm.Cond.selects "InitiatorRows" ({ cls := "InitiatorRows", name := "job", desc := "(IIIJ)I" } : Jvm.MethodName) ({ cls := "InitiatorRows", name := "job", desc := "(IIIJ)I" } : Jvm.MethodName)) ∈ lw_all := lw_g (lw_at lw_m2 103 rfl) rfl
theorem q364 : (Jvm.Cond.code ({ cls := "InitiatorRows", name := "job", desc := "(IIIJ)I" } : Jvm.MethodName) prog_1_method_10_code (6 : Nat) (Option.some Jvm.ClassFile.FieldType.int)) ∈ lw_all := lw_g (lw_at lw_m2 104 rfl) rfl
theorem q365 : (Jvm.Cond.classLink "InitiatorRows" (92 : Nat) "InitiatorRows$Job") ∈ lw_all := lw_g (lw_at lw_m2 105 rfl) rfl
theorem q367 : (Jvm.Cond.methodLink "InitiatorRows" (124 : Nat) ({ cls := "InitiatorRows$Job", name := "<init>", desc := "(IIIIJ)V" } : Jvm.MethodName)) ∈ lw_all := lw_g (lw_at lw_m2 107 rfl) rfl
theorem q380 : (Jvm.Cond.fieldLinkNest "InitiatorRows" (203 : Nat) "InitiatorRows$Job" "number" "I" "InitiatorRows") ∈ lw_tbl := lw_at lw_m2 120 rfl
theorem q383 : (Jvm.Cond.fieldLinkNest "InitiatorRows" (164 : Nat) "InitiatorRows$Job" "cls" "I" "InitiatorRows") ∈ lw_tbl := lw_at lw_m2 123 rfl
theorem q390 : (Jvm.Cond.fieldLinkNest "InitiatorRows" (226 : Nat) "InitiatorRows$Job" "arrived" "J" "InitiatorRows") ∈ lw_tbl := lw_at lw_m2 130 rfl
theorem q393 : (Jvm.Cond.fieldLinkNest "InitiatorRows" (139 : Nat) "InitiatorRows$Job" "needs" "Ljava/util/List;" "InitiatorRows") ∈ lw_tbl := lw_at lw_m2 133 rfl
theorem q396 : (Jvm.Cond.fieldLinkNest "InitiatorRows" (145 : Nat) "InitiatorRows$Job" "uses" "[I" "InitiatorRows") ∈ lw_tbl := lw_at lw_m2 136 rfl
theorem q400 : (Jvm.Cond.fieldLinkNest "InitiatorRows" (161 : Nat) "InitiatorRows$Job" "state" "LInitiatorRows$State;" "InitiatorRows") ∈ lw_tbl := lw_at lw_m2 140 rfl
theorem q402 : (Jvm.Cond.fieldLinkNest "InitiatorRows" (148 : Nat) "InitiatorRows$Job" "alone" "Z" "InitiatorRows") ∈ lw_tbl := lw_at lw_m2 142 rfl
theorem q403 : (Jvm.Cond.fieldLinkNest "InitiatorRows" (196 : Nat) "InitiatorRows$Job" "began" "J" "InitiatorRows") ∈ lw_tbl := lw_at lw_m2 143 rfl
theorem q404 : (Jvm.Cond.fieldLinkNest "InitiatorRows" (199 : Nat) "InitiatorRows$Job" "at" "LInitiatorRows$Initiator;" "InitiatorRows") ∈ lw_tbl := lw_at lw_m2 144 rfl
theorem q429 : (Jvm.Cond.instanceMethod ({ cls := "InitiatorRows", name := "needs", desc := "(II)I" } : Jvm.MethodName)) ∈ lw_all := lw_g (lw_at lw_m2 169 rfl) rfl
theorem q430 : (Jvm.Cond.selects "InitiatorRows" ({ cls := "InitiatorRows", name := "needs", desc := "(II)I" } : Jvm.MethodName) ({ cls := "InitiatorRows", name := "needs", desc := "(II)I" } : Jvm.MethodName)) ∈ lw_all := lw_g (lw_at lw_m2 170 rfl) rfl
theorem q431 : (Jvm.Cond.code ({ cls := "InitiatorRows", name := "needs", desc := "(II)I" } : Jvm.MethodName) prog_1_method_11_code (5 : Nat) (Option.some Jvm.ClassFile.FieldType.int)) ∈ lw_all := lw_g (lw_at lw_m2 171 rfl) rfl
theorem q432 : (Jvm.Cond.methodLink "InitiatorRows" (127 : Nat) ({ cls := "InitiatorRows", name := "find", desc := "(I)LInitiatorRows$Job;" } : Jvm.MethodName)) ∈ lw_all := lw_g (lw_at lw_m2 172 rfl) rfl
theorem q433 : (Jvm.Cond.privateMethod ({ cls := "InitiatorRows", name := "find", desc := "(I)LInitiatorRows$Job;" } : Jvm.MethodName)) ∈ lw_tbl := lw_at lw_m2 173 rfl
theorem q434 : (Jvm.Cond.instanceMethod ({ cls := "InitiatorRows", name := "find", desc := "(I)LInitiatorRows$Job;" } : Jvm.MethodName)) ∈ lw_all := lw_g (lw_at lw_m2 174 rfl) rfl
theorem q435 : (Jvm.Cond.code ({ cls := "InitiatorRows", name := "find", desc := "(I)LInitiatorRows$Job;" } : Jvm.MethodName) prog_1_method_5_code (2 : Nat) (Option.some (Jvm.ClassFile.FieldType.object "InitiatorRows$Job"))) ∈ lw_all := lw_g (lw_at lw_m2 175 rfl) rfl
theorem q436 : (Jvm.Cond.methodLink "InitiatorRows" (131 : Nat) ({ cls := "InitiatorRows$Job", name := "waits", desc := "()Z" } : Jvm.MethodName)) ∈ lw_all := lw_g (lw_at lw_m2 176 rfl) rfl
theorem q442 : (Jvm.Cond.methodLink "InitiatorRows" (135 : Nat) ({ cls := "InitiatorRows$Job", name := "reaches", desc := "(LInitiatorRows$Job;[Z)Z" } : Jvm.MethodName)) ∈ lw_all := lw_g (lw_at lw_m2 182 rfl) rfl
theorem q452 : (Jvm.Cond.interfaceEntry "InitiatorRows" (142 : Nat)) ∈ lw_tbl := lw_at lw_m2 192 rfl
theorem q453 : (Jvm.Cond.methodLink "InitiatorRows" (142 : Nat) ({ cls := "java/util/List", name := "contains", desc := "(Ljava/lang/Object;)Z" } : Jvm.MethodName)) ∈ lw_all := lw_g (lw_at lw_m2 193 rfl) rfl
theorem q473 : (Jvm.Cond.selects "InitiatorRows" ({ cls := "java/lang/Object", name := "equals", desc := "(Ljava/lang/Object;)Z" } : Jvm.MethodName) ({ cls := "java/lang/Object", name := "equals", desc := "(Ljava/lang/Object;)Z" } : Jvm.MethodName)) ∈ lw_all := lw_g (lw_at lw_m2 213 rfl) rfl
theorem q492 : (Jvm.Cond.instanceMethod ({ cls := "InitiatorRows", name := "units", desc := "(II)I" } : Jvm.MethodName)) ∈ lw_all := lw_g (lw_at lw_m2 232 rfl) rfl
theorem q493 : (Jvm.Cond.selects "InitiatorRows" ({ cls := "InitiatorRows", name := "units", desc := "(II)I" } : Jvm.MethodName) ({ cls := "InitiatorRows", name := "units", desc := "(II)I" } : Jvm.MethodName)) ∈ lw_all := lw_g (lw_at lw_m2 233 rfl) rfl
theorem q494 : (Jvm.Cond.code ({ cls := "InitiatorRows", name := "units", desc := "(II)I" } : Jvm.MethodName) prog_1_method_12_code (3 : Nat) (Option.some Jvm.ClassFile.FieldType.int)) ∈ lw_all := lw_g (lw_at lw_m2 234 rfl) rfl
theorem q496 : (Jvm.Cond.instanceMethod ({ cls := "InitiatorRows", name := "uses", desc := "(III)I" } : Jvm.MethodName)) ∈ lw_all := lw_g (lw_at lw_m2 236 rfl) rfl
theorem q497 : (Jvm.Cond.selects "InitiatorRows" ({ cls := "InitiatorRows", name := "uses", desc := "(III)I" } : Jvm.MethodName) ({ cls := "InitiatorRows", name := "uses", desc := "(III)I" } : Jvm.MethodName)) ∈ lw_all := lw_g (lw_at lw_m2 237 rfl) rfl
theorem q498 : (Jvm.Cond.code ({ cls := "InitiatorRows", name := "uses", desc := "(III)I" } : Jvm.MethodName) prog_1_method_13_code (5 : Nat) (Option.some Jvm.ClassFile.FieldType.int)) ∈ lw_all := lw_g (lw_at lw_m2 238 rfl) rfl
theorem q500 : (Jvm.Cond.instanceMethod ({ cls := "InitiatorRows", name := "alone", desc := "(I)I" } : Jvm.MethodName)) ∈ lw_all := lw_g (lw_at lw_m3 0 rfl) rfl
theorem q501 : (Jvm.Cond.selects "InitiatorRows" ({ cls := "InitiatorRows", name := "alone", desc := "(I)I" } : Jvm.MethodName) ({ cls := "InitiatorRows", name := "alone", desc := "(I)I" } : Jvm.MethodName)) ∈ lw_all := lw_g (lw_at lw_m3 1 rfl) rfl
theorem q502 : (Jvm.Cond.code ({ cls := "InitiatorRows", name := "alone", desc := "(I)I" } : Jvm.MethodName) prog_1_method_14_code (3 : Nat) (Option.some Jvm.ClassFile.FieldType.int)) ∈ lw_all := lw_g (lw_at lw_m3 2 rfl) rfl
theorem q504 : (Jvm.Cond.instanceMethod ({ cls := "InitiatorRows", name := "hold", desc := "(IZ)I" } : Jvm.MethodName)) ∈ lw_all := lw_g (lw_at lw_m3 4 rfl) rfl
theorem q505 : (Jvm.Cond.selects "InitiatorRows" ({ cls := "InitiatorRows", name := "hold", desc := "(IZ)I" } : Jvm.MethodName) ({ cls := "InitiatorRows", name := "hold", desc := "(IZ)I" } : Jvm.MethodName)) ∈ lw_all := lw_g (lw_at lw_m3 5 rfl) rfl
theorem q506 : (Jvm.Cond.code ({ cls := "InitiatorRows", name := "hold", desc := "(IZ)I" } : Jvm.MethodName) prog_1_method_15_code (5 : Nat) (Option.some Jvm.ClassFile.FieldType.int)) ∈ lw_all := lw_g (lw_at lw_m3 6 rfl) rfl
theorem q507 : (Jvm.Cond.fieldLink "InitiatorRows" (152 : Nat) "InitiatorRows$State" "HELD" "LInitiatorRows$State;") ∈ lw_all := lw_g (lw_at lw_m3 7 rfl) rfl
theorem q508 : (Jvm.Cond.fieldLink "InitiatorRows" (158 : Nat) "InitiatorRows$State" "WAITS" "LInitiatorRows$State;") ∈ lw_all := lw_g (lw_at lw_m3 8 rfl) rfl
theorem q510 : (Jvm.Cond.instanceMethod ({ cls := "InitiatorRows", name := "next", desc := "(IJ)I" } : Jvm.MethodName)) ∈ lw_all := lw_g (lw_at lw_m3 10 rfl) rfl
theorem q511 : (Jvm.Cond.selects "InitiatorRows" ({ cls := "InitiatorRows", name := "next", desc := "(IJ)I" } : Jvm.MethodName) ({ cls := "InitiatorRows", name := "next", desc := "(IJ)I" } : Jvm.MethodName)) ∈ lw_all := lw_g (lw_at lw_m3 11 rfl) rfl
theorem q512 : (Jvm.Cond.code ({ cls := "InitiatorRows", name := "next", desc := "(IJ)I" } : Jvm.MethodName) prog_1_method_18_code (10 : Nat) (Option.some Jvm.ClassFile.FieldType.int)) ∈ lw_all := lw_g (lw_at lw_m3 12 rfl) rfl
theorem q513 : (Jvm.Cond.methodLink "InitiatorRows" (190 : Nat) ({ cls := "InitiatorRows", name := "best", desc := "(I)LInitiatorRows$Job;" } : Jvm.MethodName)) ∈ lw_all := lw_g (lw_at lw_m3 13 rfl) rfl
theorem q514 : (Jvm.Cond.privateMethod ({ cls := "InitiatorRows", name := "best", desc := "(I)LInitiatorRows$Job;" } : Jvm.MethodName)) ∈ lw_tbl := lw_at lw_m3 14 rfl
theorem q515 : (Jvm.Cond.instanceMethod ({ cls := "InitiatorRows", name := "best", desc := "(I)LInitiatorRows$Job;" } : Jvm.MethodName)) ∈ lw_all := lw_g (lw_at lw_m3 15 rfl) rfl
theorem q516 : (Jvm.Cond.code ({ cls := "InitiatorRows", name := "best", desc := "(I)LInitiatorRows$Job;" } : Jvm.MethodName) prog_1_method_17_code (5 : Nat) (Option.some (Jvm.ClassFile.FieldType.object "InitiatorRows$Job"))) ∈ lw_all := lw_g (lw_at lw_m3 16 rfl) rfl
theorem q517 : (Jvm.Cond.methodLink "InitiatorRows" (176 : Nat) ({ cls := "InitiatorRows", name := "mayStart", desc := "(LInitiatorRows$Job;)Z" } : Jvm.MethodName)) ∈ lw_all := lw_g (lw_at lw_m3 17 rfl) rfl
theorem q518 : (Jvm.Cond.privateMethod ({ cls := "InitiatorRows", name := "mayStart", desc := "(LInitiatorRows$Job;)Z" } : Jvm.MethodName)) ∈ lw_tbl := lw_at lw_m3 18 rfl
theorem q519 : (Jvm.Cond.instanceMethod ({ cls := "InitiatorRows", name := "mayStart", desc := "(LInitiatorRows$Job;)Z" } : Jvm.MethodName)) ∈ lw_all := lw_g (lw_at lw_m3 19 rfl) rfl
theorem q520 : (Jvm.Cond.code ({ cls := "InitiatorRows", name := "mayStart", desc := "(LInitiatorRows$Job;)Z" } : Jvm.MethodName) prog_1_method_16_code (6 : Nat) (Option.some Jvm.ClassFile.FieldType.boolean)) ∈ lw_all := lw_g (lw_at lw_m3 20 rfl) rfl
theorem q521 : (Jvm.Cond.constantLong "InitiatorRows" (167 : Nat) (1440 : Int64)) ∈ lw_all := lw_g (lw_at lw_m3 21 rfl) rfl
theorem q522 : (Jvm.Cond.methodLink "InitiatorRows" (169 : Nat) ({ cls := "InitiatorRows$Cls", name := "isOpen", desc := "(I)Z" } : Jvm.MethodName)) ∈ lw_all := lw_g (lw_at lw_m3 22 rfl) rfl
theorem q526 : (Jvm.Cond.interfaceEntry "InitiatorRows" (172 : Nat)) ∈ lw_tbl := lw_at lw_m3 26 rfl
theorem q527 : (Jvm.Cond.methodLink "InitiatorRows" (172 : Nat) ({ cls := "InitiatorRows$Rule", name := "allows", desc := "(LInitiatorRows$Job;)Z" } : Jvm.MethodName)) ∈ lw_all := lw_g (lw_at lw_m3 27 rfl) rfl
theorem q598 : (Jvm.Cond.methodLink "InitiatorRows" (179 : Nat) ({ cls := "InitiatorRows$Ageing", name := "priority", desc := "(LInitiatorRows$Job;J)I" } : Jvm.MethodName)) ∈ lw_all := lw_g (lw_at lw_m3 98 rfl) rfl
theorem q609 : (Jvm.Cond.fieldLink "InitiatorRows" (193 : Nat) "InitiatorRows$State" "RUNS" "LInitiatorRows$State;") ∈ lw_all := lw_g (lw_at lw_m3 109 rfl) rfl
theorem q612 : (Jvm.Cond.instanceMethod ({ cls := "InitiatorRows", name := "end", desc := "(I)I" } : Jvm.MethodName)) ∈ lw_all := lw_g (lw_at lw_m3 112 rfl) rfl
theorem q613 : (Jvm.Cond.selects "InitiatorRows" ({ cls := "InitiatorRows", name := "end", desc := "(I)I" } : Jvm.MethodName) ({ cls := "InitiatorRows", name := "end", desc := "(I)I" } : Jvm.MethodName)) ∈ lw_all := lw_g (lw_at lw_m3 113 rfl) rfl
theorem q614 : (Jvm.Cond.code ({ cls := "InitiatorRows", name := "end", desc := "(I)I" } : Jvm.MethodName) prog_1_method_19_code (3 : Nat) (Option.some Jvm.ClassFile.FieldType.int)) ∈ lw_all := lw_g (lw_at lw_m3 114 rfl) rfl
theorem q615 : (Jvm.Cond.methodLink "InitiatorRows" (206 : Nat) ({ cls := "InitiatorRows$Job", name := "runs", desc := "()Z" } : Jvm.MethodName)) ∈ lw_all := lw_g (lw_at lw_m3 115 rfl) rfl
theorem q620 : (Jvm.Cond.fieldLink "InitiatorRows" (209 : Nat) "InitiatorRows$State" "ENDED" "LInitiatorRows$State;") ∈ lw_all := lw_g (lw_at lw_m3 120 rfl) rfl
theorem q621 : (Jvm.Cond.interfaceEntry "InitiatorRows" (212 : Nat)) ∈ lw_tbl := lw_at lw_m3 121 rfl
theorem q622 : (Jvm.Cond.methodLink "InitiatorRows" (212 : Nat) ({ cls := "java/util/List", name := "remove", desc := "(Ljava/lang/Object;)Z" } : Jvm.MethodName)) ∈ lw_all := lw_g (lw_at lw_m3 122 rfl) rfl
theorem q636 : (Jvm.Cond.instanceMethod ({ cls := "InitiatorRows", name := "age", desc := "(JI)I" } : Jvm.MethodName)) ∈ lw_all := lw_g (lw_at lw_m3 136 rfl) rfl
theorem q637 : (Jvm.Cond.selects "InitiatorRows" ({ cls := "InitiatorRows", name := "age", desc := "(JI)I" } : Jvm.MethodName) ({ cls := "InitiatorRows", name := "age", desc := "(JI)I" } : Jvm.MethodName)) ∈ lw_all := lw_g (lw_at lw_m3 137 rfl) rfl
theorem q638 : (Jvm.Cond.code ({ cls := "InitiatorRows", name := "age", desc := "(JI)I" } : Jvm.MethodName) prog_1_method_20_code (4 : Nat) (Option.some Jvm.ClassFile.FieldType.int)) ∈ lw_all := lw_g (lw_at lw_m3 138 rfl) rfl
theorem q640 : (Jvm.Cond.instanceMethod ({ cls := "InitiatorRows", name := "drain", desc := "(IZ)I" } : Jvm.MethodName)) ∈ lw_all := lw_g (lw_at lw_m3 140 rfl) rfl
theorem q641 : (Jvm.Cond.selects "InitiatorRows" ({ cls := "InitiatorRows", name := "drain", desc := "(IZ)I" } : Jvm.MethodName) ({ cls := "InitiatorRows", name := "drain", desc := "(IZ)I" } : Jvm.MethodName)) ∈ lw_all := lw_g (lw_at lw_m3 141 rfl) rfl
theorem q642 : (Jvm.Cond.code ({ cls := "InitiatorRows", name := "drain", desc := "(IZ)I" } : Jvm.MethodName) prog_1_method_21_code (4 : Nat) (Option.some Jvm.ClassFile.FieldType.int)) ∈ lw_all := lw_g (lw_at lw_m3 142 rfl) rfl
theorem q644 : (Jvm.Cond.instanceMethod ({ cls := "InitiatorRows", name := "weight", desc := "(II)I" } : Jvm.MethodName)) ∈ lw_all := lw_g (lw_at lw_m3 144 rfl) rfl
theorem q645 : (Jvm.Cond.selects "InitiatorRows" ({ cls := "InitiatorRows", name := "weight", desc := "(II)I" } : Jvm.MethodName) ({ cls := "InitiatorRows", name := "weight", desc := "(II)I" } : Jvm.MethodName)) ∈ lw_all := lw_g (lw_at lw_m3 145 rfl) rfl
theorem q646 : (Jvm.Cond.code ({ cls := "InitiatorRows", name := "weight", desc := "(II)I" } : Jvm.MethodName) prog_1_method_22_code (3 : Nat) (Option.some Jvm.ClassFile.FieldType.int)) ∈ lw_all := lw_g (lw_at lw_m3 146 rfl) rfl
theorem q648 : (Jvm.Cond.instanceMethod ({ cls := "InitiatorRows", name := "order", desc := "(I)I" } : Jvm.MethodName)) ∈ lw_all := lw_g (lw_at lw_m3 148 rfl) rfl
theorem q649 : (Jvm.Cond.selects "InitiatorRows" ({ cls := "InitiatorRows", name := "order", desc := "(I)I" } : Jvm.MethodName) ({ cls := "InitiatorRows", name := "order", desc := "(I)I" } : Jvm.MethodName)) ∈ lw_all := lw_g (lw_at lw_m3 149 rfl) rfl
theorem q650 : (Jvm.Cond.code ({ cls := "InitiatorRows", name := "order", desc := "(I)I" } : Jvm.MethodName) prog_1_method_24_code (7 : Nat) (Option.some Jvm.ClassFile.FieldType.int)) ∈ lw_all := lw_g (lw_at lw_m3 150 rfl) rfl
theorem q651 : (Jvm.Cond.interfaceEntry "InitiatorRows" (223 : Nat)) ∈ lw_tbl := lw_at lw_m3 151 rfl
theorem q652 : (Jvm.Cond.methodLink "InitiatorRows" (223 : Nat) ({ cls := "java/util/List", name := "add", desc := "(ILjava/lang/Object;)V" } : Jvm.MethodName)) ∈ lw_all := lw_g (lw_at lw_m3 152 rfl) rfl
theorem q665 : (Jvm.Cond.instanceMethod ({ cls := "InitiatorRows", name := "waited", desc := "(I)J" } : Jvm.MethodName)) ∈ lw_all := lw_g (lw_at lw_m3 165 rfl) rfl
theorem q666 : (Jvm.Cond.selects "InitiatorRows" ({ cls := "InitiatorRows", name := "waited", desc := "(I)J" } : Jvm.MethodName) ({ cls := "InitiatorRows", name := "waited", desc := "(I)J" } : Jvm.MethodName)) ∈ lw_all := lw_g (lw_at lw_m3 166 rfl) rfl
theorem q667 : (Jvm.Cond.code ({ cls := "InitiatorRows", name := "waited", desc := "(I)J" } : Jvm.MethodName) prog_1_method_25_code (3 : Nat) (Option.some Jvm.ClassFile.FieldType.long)) ∈ lw_all := lw_g (lw_at lw_m3 167 rfl) rfl
theorem q668 : (Jvm.Cond.constantLong "InitiatorRows" (218 : Nat) (-1 : Int64)) ∈ lw_all := lw_g (lw_at lw_m3 168 rfl) rfl
theorem q670 : (Jvm.Cond.instanceMethod ({ cls := "InitiatorRows", name := "state", desc := "(I)I" } : Jvm.MethodName)) ∈ lw_all := lw_g (lw_at lw_m3 170 rfl) rfl
theorem q671 : (Jvm.Cond.selects "InitiatorRows" ({ cls := "InitiatorRows", name := "state", desc := "(I)I" } : Jvm.MethodName) ({ cls := "InitiatorRows", name := "state", desc := "(I)I" } : Jvm.MethodName)) ∈ lw_all := lw_g (lw_at lw_m3 171 rfl) rfl
theorem q672 : (Jvm.Cond.code ({ cls := "InitiatorRows", name := "state", desc := "(I)I" } : Jvm.MethodName) prog_1_method_26_code (3 : Nat) (Option.some Jvm.ClassFile.FieldType.int)) ∈ lw_all := lw_g (lw_at lw_m3 172 rfl) rfl
theorem q673 : (Jvm.Cond.methodLink "InitiatorRows" (229 : Nat) ({ cls := "InitiatorRows$State", name := "ordinal", desc := "()I" } : Jvm.MethodName)) ∈ lw_all := lw_g (lw_at lw_m3 173 rfl) rfl
theorem q680 : (Jvm.Cond.instanceMethod ({ cls := "InitiatorRows", name := "count", desc := "(I)I" } : Jvm.MethodName)) ∈ lw_all := lw_g (lw_at lw_m3 180 rfl) rfl
theorem q681 : (Jvm.Cond.selects "InitiatorRows" ({ cls := "InitiatorRows", name := "count", desc := "(I)I" } : Jvm.MethodName) ({ cls := "InitiatorRows", name := "count", desc := "(I)I" } : Jvm.MethodName)) ∈ lw_all := lw_g (lw_at lw_m3 181 rfl) rfl
theorem q682 : (Jvm.Cond.code ({ cls := "InitiatorRows", name := "count", desc := "(I)I" } : Jvm.MethodName) prog_1_method_28_code (5 : Nat) (Option.some Jvm.ClassFile.FieldType.int)) ∈ lw_all := lw_g (lw_at lw_m3 182 rfl) rfl
theorem q683 : (Jvm.Cond.methodLink "InitiatorRows" (232 : Nat) ({ cls := "InitiatorRows", name := "those", desc := "(LInitiatorRows$State;)I" } : Jvm.MethodName)) ∈ lw_all := lw_g (lw_at lw_m3 183 rfl) rfl
theorem q684 : (Jvm.Cond.privateMethod ({ cls := "InitiatorRows", name := "those", desc := "(LInitiatorRows$State;)I" } : Jvm.MethodName)) ∈ lw_tbl := lw_at lw_m3 184 rfl
theorem q685 : (Jvm.Cond.instanceMethod ({ cls := "InitiatorRows", name := "those", desc := "(LInitiatorRows$State;)I" } : Jvm.MethodName)) ∈ lw_all := lw_g (lw_at lw_m3 185 rfl) rfl
theorem q686 : (Jvm.Cond.code ({ cls := "InitiatorRows", name := "those", desc := "(LInitiatorRows$State;)I" } : Jvm.MethodName) prog_1_method_27_code (4 : Nat) (Option.some Jvm.ClassFile.FieldType.int)) ∈ lw_all := lw_g (lw_at lw_m3 186 rfl) rfl
theorem q687 : (Jvm.Cond.interfaceEntry "InitiatorRows" (236 : Nat)) ∈ lw_tbl := lw_at lw_m3 187 rfl
theorem q688 : (Jvm.Cond.methodLink "InitiatorRows" (236 : Nat) ({ cls := "java/util/List", name := "iterator", desc := "()Ljava/util/Iterator;" } : Jvm.MethodName)) ∈ lw_all := lw_g (lw_at lw_m3 188 rfl) rfl
theorem q715 : (Jvm.Cond.interfaceEntry "InitiatorRows" (240 : Nat)) ∈ lw_tbl := lw_at lw_m3 215 rfl
theorem q716 : (Jvm.Cond.methodLink "InitiatorRows" (240 : Nat) ({ cls := "java/util/Iterator", name := "hasNext", desc := "()Z" } : Jvm.MethodName)) ∈ lw_all := lw_g (lw_at lw_m3 216 rfl) rfl
theorem q725 : (Jvm.Cond.interfaceEntry "InitiatorRows" (245 : Nat)) ∈ lw_tbl := lw_at lw_m3 225 rfl
theorem q726 : (Jvm.Cond.methodLink "InitiatorRows" (245 : Nat) ({ cls := "java/util/Iterator", name := "next", desc := "()Ljava/lang/Object;" } : Jvm.MethodName)) ∈ lw_all := lw_g (lw_at lw_m3 226 rfl) rfl
theorem q738 : (Jvm.Cond.methodLink "InitiatorRows" (249 : Nat) ({ cls := "InitiatorRows$UnitsRule", name := "used", desc := "(I)I" } : Jvm.MethodName)) ∈ lw_all := lw_g (lw_at lw_m3 238 rfl) rfl
theorem q812 : (Jvm.Cond.instanceMethod ({ cls := "InitiatorRows", name := "share", desc := "(IJ)J" } : Jvm.MethodName)) ∈ lw_all := lw_g (lw_at lw_m4 72 rfl) rfl
theorem q813 : (Jvm.Cond.selects "InitiatorRows" ({ cls := "InitiatorRows", name := "share", desc := "(IJ)J" } : Jvm.MethodName) ({ cls := "InitiatorRows", name := "share", desc := "(IJ)J" } : Jvm.MethodName)) ∈ lw_all := lw_g (lw_at lw_m4 73 rfl) rfl
theorem q814 : (Jvm.Cond.code ({ cls := "InitiatorRows", name := "share", desc := "(IJ)J" } : Jvm.MethodName) prog_1_method_23_code (18 : Nat) (Option.some Jvm.ClassFile.FieldType.long)) ∈ lw_all := lw_g (lw_at lw_m4 74 rfl) rfl
theorem q815 : (Jvm.Cond.classLink "InitiatorRows" (220 : Nat) "java/lang/ArithmeticException") ∈ lw_all := lw_g (lw_at lw_m4 75 rfl) rfl
theorem q816 : (Jvm.Cond.methodLink "InitiatorRows" (222 : Nat) ({ cls := "java/lang/ArithmeticException", name := "<init>", desc := "()V" } : Jvm.MethodName)) ∈ lw_all := lw_g (lw_at lw_m4 76 rfl) rfl
theorem q1043 : (Jvm.Cond.castable "InitiatorRows" "java/lang/Object") ∈ lw_tbl := lw_at lw_m5 63 rfl
theorem in_X1 : ∀ w ∈ wsX10, w ∈ lw_all := lw_in wsX10 [202, 204, 206, 208, 210, 212, 214, 216, 218] (by decide +kernel) (by decide +kernel)
/-! InitiatorRows$RunningRule -/
set_option maxRecDepth 100000
def RX2 : String := "InitiatorRows$RunningRule"
abbrev cX2_init : ByteArray := prog_12_method_1_code
def yX2_init : MethodName := ⟨RX2, "<init>", "(Ljava/util/List;)V"⟩
def dkwX2_init_0 : List UInt8 := [42, 183, 0, 1, 42, 43, 181, 0, 7, 177]
abbrev dktX2_init_0 : List UInt8 := dkwX2_init_0 ++ []
theorem dksX2_init_0 : cX2_init.data.toList.drop 0 = dktX2_init_0 := by decide +kernel
theorem dX2_init_0 : decode cX2_init 0 = .ok (.aload_n 0, 1) := dk_42 (dk_at dksX2_init_0 0 rfl rfl)
theorem dX2_init_1 : decode cX2_init 1 = .ok (.invokespecial 1, 3) := dk_183 0 1 (dk_at dksX2_init_0 1 rfl rfl)
theorem dX2_init_4 : decode cX2_init 4 = .ok (.aload_n 0, 1) := dk_42 (dk_at dksX2_init_0 4 rfl rfl)
theorem dX2_init_5 : decode cX2_init 5 = .ok (.aload_n 1, 1) := dk_43 (dk_at dksX2_init_0 5 rfl rfl)
theorem dX2_init_6 : decode cX2_init 6 = .ok (.putfield 7, 3) := dk_181 0 7 (dk_at dksX2_init_0 6 rfl rfl)
theorem dX2_init_9 : decode cX2_init 9 = .ok (.return_, 1) := dk_177 (dk_at dksX2_init_0 9 rfl rfl)
theorem q25 : (Jvm.Cond.initialized "InitiatorRows$RunningRule") ∈ lw_all := lw_g (lw_at lw_m1 5 rfl) rfl
theorem q96 : (Jvm.Cond.instanceMethod ({ cls := "InitiatorRows$RunningRule", name := "<init>", desc := "(Ljava/util/List;)V" } : Jvm.MethodName)) ∈ lw_all := lw_g (lw_at lw_m1 76 rfl) rfl
theorem q97 : (Jvm.Cond.code ({ cls := "InitiatorRows$RunningRule", name := "<init>", desc := "(Ljava/util/List;)V" } : Jvm.MethodName) prog_12_method_1_code (2 : Nat) (Option.none : Option Jvm.ClassFile.FieldType)) ∈ lw_all := lw_g (lw_at lw_m1 77 rfl) rfl
theorem q98 : (Jvm.Cond.methodLink "InitiatorRows$RunningRule" (1 : Nat) ({ cls := "java/lang/Object", name := "<init>", desc := "()V" } : Jvm.MethodName)) ∈ lw_all := lw_g (lw_at lw_m1 78 rfl) rfl
theorem q100 : (Jvm.Cond.fieldLink "InitiatorRows$RunningRule" (7 : Nat) "InitiatorRows$RunningRule" "running" "Ljava/util/List;") ∈ lw_all := lw_g (lw_at lw_m1 80 rfl) rfl
theorem q112 : (Jvm.Cond.soleField "InitiatorRows$RunningRule" "running") ∈ lw_all := lw_g (lw_at lw_m1 92 rfl) rfl
/-! InitiatorRows$UnitsRule -/
set_option maxRecDepth 100000
def RX3 : String := "InitiatorRows$UnitsRule"
def TX3 : u_T := fun k => match k with
  | 0 => ("InitiatorRows$RunningRule", "running", "Ljava/util/List;", true)
  | _ => ("InitiatorRows$UnitsRule", "units", "[I", true)
def tyX3 : Nat → FieldType := fun k => match k with
  | 0 => .object "java/util/List"
  | _ => .array .int
abbrev wsX30 : List Cond := u_ws RX3 TX3 2
theorem nmX3 : ∀ a, a < 2 → ∀ b, b < 2 → a ≠ b → (TX3 a).2.1 ≠ (TX3 b).2.1 := by decide +kernel
theorem tyX3_ok : ∀ k, k < 2 → parseFieldDescriptor (TX3 k).2.2.1 = some (tyX3 k) := by decide +kernel
abbrev cX3_init : ByteArray := prog_14_method_1_code
def yX3_init : MethodName := ⟨RX3, "<init>", "(Ljava/util/List;[I)V"⟩
def dkwX3_init_0 : List UInt8 := [42, 43, 183, 0, 3, 42, 44, 181, 0, 9, 177]
abbrev dktX3_init_0 : List UInt8 := dkwX3_init_0 ++ []
theorem dksX3_init_0 : cX3_init.data.toList.drop 0 = dktX3_init_0 := by decide +kernel
theorem dX3_init_0 : decode cX3_init 0 = .ok (.aload_n 0, 1) := dk_42 (dk_at dksX3_init_0 0 rfl rfl)
theorem dX3_init_1 : decode cX3_init 1 = .ok (.aload_n 1, 1) := dk_43 (dk_at dksX3_init_0 1 rfl rfl)
theorem dX3_init_2 : decode cX3_init 2 = .ok (.invokespecial 3, 3) := dk_183 0 3 (dk_at dksX3_init_0 2 rfl rfl)
theorem dX3_init_5 : decode cX3_init 5 = .ok (.aload_n 0, 1) := dk_42 (dk_at dksX3_init_0 5 rfl rfl)
theorem dX3_init_6 : decode cX3_init 6 = .ok (.aload_n 2, 1) := dk_44 (dk_at dksX3_init_0 6 rfl rfl)
theorem dX3_init_7 : decode cX3_init 7 = .ok (.putfield 9, 3) := dk_181 0 9 (dk_at dksX3_init_0 7 rfl rfl)
theorem dX3_init_10 : decode cX3_init 10 = .ok (.return_, 1) := dk_177 (dk_at dksX3_init_0 10 rfl rfl)
abbrev cX3_allows : ByteArray := prog_14_method_3_code
def yX3_allows : MethodName := ⟨RX3, "allows", "(LInitiatorRows$Job;)Z"⟩
def dkwX3_allows_1 : List UInt8 := [46, 164, 0, 5, 3, 172, 132, 2, 1, 167, 255, 225, 4, 172]
abbrev dktX3_allows_1 : List UInt8 := dkwX3_allows_1 ++ []
def dkwX3_allows_0 : List UInt8 := [3, 61, 28, 7, 162, 0, 32, 42, 28, 182, 0, 34, 43, 180, 0, 31, 28, 46, 96, 42, 180, 0, 9, 28]
abbrev dktX3_allows_0 : List UInt8 := dkwX3_allows_0 ++ dktX3_allows_1
theorem dksX3_allows_0 : cX3_allows.data.toList.drop 0 = dktX3_allows_0 := by decide +kernel
theorem dksX3_allows_1 : cX3_allows.data.toList.drop 24 = dktX3_allows_1 := dk_seg dksX3_allows_0 24 rfl rfl
theorem dX3_allows_0 : decode cX3_allows 0 = .ok (.iconst 0, 1) := dk_3 (dk_at dksX3_allows_0 0 rfl rfl)
theorem dX3_allows_1 : decode cX3_allows 1 = .ok (.istore_n 2, 1) := dk_61 (dk_at dksX3_allows_0 1 rfl rfl)
theorem dX3_allows_2 : decode cX3_allows 2 = .ok (.iload_n 2, 1) := dk_28 (dk_at dksX3_allows_0 2 rfl rfl)
theorem dX3_allows_3 : decode cX3_allows 3 = .ok (.iconst 4, 1) := dk_7 (dk_at dksX3_allows_0 3 rfl rfl)
theorem dX3_allows_4 : decode cX3_allows 4 = .ok (.if_icmp .ge 32, 3) := dk_162 0 32 (dk_at dksX3_allows_0 4 rfl rfl)
theorem dX3_allows_7 : decode cX3_allows 7 = .ok (.aload_n 0, 1) := dk_42 (dk_at dksX3_allows_0 7 rfl rfl)
theorem dX3_allows_8 : decode cX3_allows 8 = .ok (.iload_n 2, 1) := dk_28 (dk_at dksX3_allows_0 8 rfl rfl)
theorem dX3_allows_9 : decode cX3_allows 9 = .ok (.invokevirtual 34, 3) := dk_182 0 34 (dk_at dksX3_allows_0 9 rfl rfl)
theorem dX3_allows_12 : decode cX3_allows 12 = .ok (.aload_n 1, 1) := dk_43 (dk_at dksX3_allows_0 12 rfl rfl)
theorem dX3_allows_13 : decode cX3_allows 13 = .ok (.getfield 31, 3) := dk_180 0 31 (dk_at dksX3_allows_0 13 rfl rfl)
theorem dX3_allows_16 : decode cX3_allows 16 = .ok (.iload_n 2, 1) := dk_28 (dk_at dksX3_allows_0 16 rfl rfl)
theorem dX3_allows_17 : decode cX3_allows 17 = .ok (.iaload, 1) := dk_46 (dk_at dksX3_allows_0 17 rfl rfl)
theorem dX3_allows_18 : decode cX3_allows 18 = .ok (.iadd, 1) := dk_96 (dk_at dksX3_allows_0 18 rfl rfl)
theorem dX3_allows_19 : decode cX3_allows 19 = .ok (.aload_n 0, 1) := dk_42 (dk_at dksX3_allows_0 19 rfl rfl)
theorem dX3_allows_20 : decode cX3_allows 20 = .ok (.getfield 9, 3) := dk_180 0 9 (dk_at dksX3_allows_0 20 rfl rfl)
theorem dX3_allows_23 : decode cX3_allows 23 = .ok (.iload_n 2, 1) := dk_28 (dk_at dksX3_allows_0 23 rfl rfl)
theorem dX3_allows_24 : decode cX3_allows 24 = .ok (.iaload, 1) := dk_46 (dk_at dksX3_allows_1 0 rfl rfl)
theorem dX3_allows_25 : decode cX3_allows 25 = .ok (.if_icmp .le 5, 3) := dk_164 0 5 (dk_at dksX3_allows_1 1 rfl rfl)
theorem dX3_allows_28 : decode cX3_allows 28 = .ok (.iconst 0, 1) := dk_3 (dk_at dksX3_allows_1 4 rfl rfl)
theorem dX3_allows_29 : decode cX3_allows 29 = .ok (.ireturn, 1) := dk_172 (dk_at dksX3_allows_1 5 rfl rfl)
theorem dX3_allows_30 : decode cX3_allows 30 = .ok (.iinc 2 1, 3) := dk_132 2 1 (dk_at dksX3_allows_1 6 rfl rfl)
theorem dX3_allows_33 : decode cX3_allows 33 = .ok (.goto (-31), 3) := dk_167 255 225 (dk_at dksX3_allows_1 9 rfl rfl)
theorem dX3_allows_36 : decode cX3_allows 36 = .ok (.iconst 1, 1) := dk_4 (dk_at dksX3_allows_1 12 rfl rfl)
theorem dX3_allows_37 : decode cX3_allows 37 = .ok (.ireturn, 1) := dk_172 (dk_at dksX3_allows_1 13 rfl rfl)
abbrev cX3_used : ByteArray := prog_14_method_2_code
def yX3_used : MethodName := ⟨RX3, "used", "(I)I"⟩
def dkwX3_used_1 : List UInt8 := [185, 0, 25, 2, 0, 192, 0, 29, 180, 0, 31, 27, 46, 96, 61, 132, 3, 1, 167, 255, 219, 28, 172]
abbrev dktX3_used_1 : List UInt8 := dkwX3_used_1 ++ []
def dkwX3_used_0 : List UInt8 := [3, 61, 3, 62, 29, 42, 180, 0, 15, 185, 0, 19, 1, 0, 162, 0, 30, 28, 42, 180, 0, 15, 29]
abbrev dktX3_used_0 : List UInt8 := dkwX3_used_0 ++ dktX3_used_1
theorem dksX3_used_0 : cX3_used.data.toList.drop 0 = dktX3_used_0 := by decide +kernel
theorem dksX3_used_1 : cX3_used.data.toList.drop 23 = dktX3_used_1 := dk_seg dksX3_used_0 23 rfl rfl
theorem dX3_used_0 : decode cX3_used 0 = .ok (.iconst 0, 1) := dk_3 (dk_at dksX3_used_0 0 rfl rfl)
theorem dX3_used_1 : decode cX3_used 1 = .ok (.istore_n 2, 1) := dk_61 (dk_at dksX3_used_0 1 rfl rfl)
theorem dX3_used_2 : decode cX3_used 2 = .ok (.iconst 0, 1) := dk_3 (dk_at dksX3_used_0 2 rfl rfl)
theorem dX3_used_3 : decode cX3_used 3 = .ok (.istore_n 3, 1) := dk_62 (dk_at dksX3_used_0 3 rfl rfl)
theorem dX3_used_4 : decode cX3_used 4 = .ok (.iload_n 3, 1) := dk_29 (dk_at dksX3_used_0 4 rfl rfl)
theorem dX3_used_5 : decode cX3_used 5 = .ok (.aload_n 0, 1) := dk_42 (dk_at dksX3_used_0 5 rfl rfl)
theorem dX3_used_6 : decode cX3_used 6 = .ok (.getfield 15, 3) := dk_180 0 15 (dk_at dksX3_used_0 6 rfl rfl)
theorem dX3_used_9 : decode cX3_used 9 = .ok (.invokeinterface 19 1, 5) := by decide +kernel
theorem dX3_used_14 : decode cX3_used 14 = .ok (.if_icmp .ge 30, 3) := dk_162 0 30 (dk_at dksX3_used_0 14 rfl rfl)
theorem dX3_used_17 : decode cX3_used 17 = .ok (.iload_n 2, 1) := dk_28 (dk_at dksX3_used_0 17 rfl rfl)
theorem dX3_used_18 : decode cX3_used 18 = .ok (.aload_n 0, 1) := dk_42 (dk_at dksX3_used_0 18 rfl rfl)
theorem dX3_used_19 : decode cX3_used 19 = .ok (.getfield 15, 3) := dk_180 0 15 (dk_at dksX3_used_0 19 rfl rfl)
theorem dX3_used_22 : decode cX3_used 22 = .ok (.iload_n 3, 1) := dk_29 (dk_at dksX3_used_0 22 rfl rfl)
theorem dX3_used_23 : decode cX3_used 23 = .ok (.invokeinterface 25 2, 5) := by decide +kernel
theorem dX3_used_28 : decode cX3_used 28 = .ok (.checkcast 29, 3) := dk_192 0 29 (dk_at dksX3_used_1 5 rfl rfl)
theorem dX3_used_31 : decode cX3_used 31 = .ok (.getfield 31, 3) := dk_180 0 31 (dk_at dksX3_used_1 8 rfl rfl)
theorem dX3_used_34 : decode cX3_used 34 = .ok (.iload_n 1, 1) := dk_27 (dk_at dksX3_used_1 11 rfl rfl)
theorem dX3_used_35 : decode cX3_used 35 = .ok (.iaload, 1) := dk_46 (dk_at dksX3_used_1 12 rfl rfl)
theorem dX3_used_36 : decode cX3_used 36 = .ok (.iadd, 1) := dk_96 (dk_at dksX3_used_1 13 rfl rfl)
theorem dX3_used_37 : decode cX3_used 37 = .ok (.istore_n 2, 1) := dk_61 (dk_at dksX3_used_1 14 rfl rfl)
theorem dX3_used_38 : decode cX3_used 38 = .ok (.iinc 3 1, 3) := dk_132 3 1 (dk_at dksX3_used_1 15 rfl rfl)
theorem dX3_used_41 : decode cX3_used 41 = .ok (.goto (-37), 3) := dk_167 255 219 (dk_at dksX3_used_1 18 rfl rfl)
theorem dX3_used_44 : decode cX3_used 44 = .ok (.iload_n 2, 1) := dk_28 (dk_at dksX3_used_1 21 rfl rfl)
theorem dX3_used_45 : decode cX3_used 45 = .ok (.ireturn, 1) := dk_172 (dk_at dksX3_used_1 22 rfl rfl)
theorem q26 : (Jvm.Cond.initialized "InitiatorRows$UnitsRule") ∈ lw_all := lw_g (lw_at lw_m1 6 rfl) rfl
theorem q91 : (Jvm.Cond.instantiable "InitiatorRows$UnitsRule" (2 : Nat)) ∈ lw_all := lw_g (lw_at lw_m1 71 rfl) rfl
theorem q93 : (Jvm.Cond.instanceMethod ({ cls := "InitiatorRows$UnitsRule", name := "<init>", desc := "(Ljava/util/List;[I)V" } : Jvm.MethodName)) ∈ lw_all := lw_g (lw_at lw_m1 73 rfl) rfl
theorem q94 : (Jvm.Cond.code ({ cls := "InitiatorRows$UnitsRule", name := "<init>", desc := "(Ljava/util/List;[I)V" } : Jvm.MethodName) prog_14_method_1_code (3 : Nat) (Option.none : Option Jvm.ClassFile.FieldType)) ∈ lw_all := lw_g (lw_at lw_m1 74 rfl) rfl
theorem q95 : (Jvm.Cond.methodLink "InitiatorRows$UnitsRule" (3 : Nat) ({ cls := "InitiatorRows$RunningRule", name := "<init>", desc := "(Ljava/util/List;)V" } : Jvm.MethodName)) ∈ lw_all := lw_g (lw_at lw_m1 75 rfl) rfl
theorem q99 : (Jvm.Cond.fieldLink "InitiatorRows$UnitsRule" (9 : Nat) "InitiatorRows$UnitsRule" "units" "[I") ∈ lw_all := lw_g (lw_at lw_m1 79 rfl) rfl
theorem q107 : (Jvm.Cond.fieldLink "InitiatorRows$UnitsRule" (15 : Nat) "InitiatorRows$UnitsRule" "running" "Ljava/util/List;") ∈ lw_all := lw_g (lw_at lw_m1 87 rfl) rfl
theorem q108 : (Jvm.Cond.sameField "InitiatorRows$UnitsRule" "InitiatorRows$RunningRule" "running" "Ljava/util/List;") ∈ lw_all := lw_g (lw_at lw_m1 88 rfl) rfl
theorem q109 : (Jvm.Cond.laysFinal "InitiatorRows$UnitsRule" "InitiatorRows$UnitsRule" "units" "[I") ∈ lw_all := lw_g (lw_at lw_m1 89 rfl) rfl
theorem q110 : (Jvm.Cond.soleField "InitiatorRows$UnitsRule" "units") ∈ lw_all := lw_g (lw_at lw_m1 90 rfl) rfl
theorem q111 : (Jvm.Cond.laysFinal "InitiatorRows$UnitsRule" "InitiatorRows$RunningRule" "running" "Ljava/util/List;") ∈ lw_all := lw_g (lw_at lw_m1 91 rfl) rfl
theorem q113 : (Jvm.Cond.superclass "InitiatorRows$UnitsRule" "InitiatorRows$RunningRule") ∈ lw_all := lw_g (lw_at lw_m1 93 rfl) rfl
theorem q300 : (Jvm.Cond.selects "InitiatorRows$UnitsRule" ({ cls := "java/lang/Object", name := "getClass", desc := "()Ljava/lang/Class;" } : Jvm.MethodName) ({ cls := "java/lang/Object", name := "getClass", desc := "()Ljava/lang/Class;" } : Jvm.MethodName)) ∈ lw_all := lw_g (lw_at lw_m2 40 rfl) rfl
theorem q395 : (Jvm.Cond.fieldLinkNest "InitiatorRows$UnitsRule" (31 : Nat) "InitiatorRows$Job" "uses" "[I" "InitiatorRows") ∈ lw_tbl := lw_at lw_m2 135 rfl
theorem q486 : (Jvm.Cond.selects "InitiatorRows$UnitsRule" ({ cls := "java/lang/Object", name := "equals", desc := "(Ljava/lang/Object;)Z" } : Jvm.MethodName) ({ cls := "java/lang/Object", name := "equals", desc := "(Ljava/lang/Object;)Z" } : Jvm.MethodName)) ∈ lw_all := lw_g (lw_at lw_m2 226 rfl) rfl
theorem q583 : (Jvm.Cond.castable "InitiatorRows$UnitsRule" "InitiatorRows$Rule") ∈ lw_tbl := lw_at lw_m3 83 rfl
theorem q584 : (Jvm.Cond.selects "InitiatorRows$UnitsRule" ({ cls := "InitiatorRows$Rule", name := "allows", desc := "(LInitiatorRows$Job;)Z" } : Jvm.MethodName) ({ cls := "InitiatorRows$UnitsRule", name := "allows", desc := "(LInitiatorRows$Job;)Z" } : Jvm.MethodName)) ∈ lw_all := lw_g (lw_at lw_m3 84 rfl) rfl
theorem q585 : (Jvm.Cond.unhidden "InitiatorRows$UnitsRule" "allows" "(LInitiatorRows$Job;)Z") ∈ lw_tbl := lw_at lw_m3 85 rfl
theorem q586 : (Jvm.Cond.instanceMethod ({ cls := "InitiatorRows$UnitsRule", name := "allows", desc := "(LInitiatorRows$Job;)Z" } : Jvm.MethodName)) ∈ lw_all := lw_g (lw_at lw_m3 86 rfl) rfl
theorem q587 : (Jvm.Cond.publicMethod ({ cls := "InitiatorRows$UnitsRule", name := "allows", desc := "(LInitiatorRows$Job;)Z" } : Jvm.MethodName)) ∈ lw_tbl := lw_at lw_m3 87 rfl
theorem q588 : (Jvm.Cond.code ({ cls := "InitiatorRows$UnitsRule", name := "allows", desc := "(LInitiatorRows$Job;)Z" } : Jvm.MethodName) prog_14_method_3_code (3 : Nat) (Option.some Jvm.ClassFile.FieldType.boolean)) ∈ lw_all := lw_g (lw_at lw_m3 88 rfl) rfl
theorem q589 : (Jvm.Cond.methodLink "InitiatorRows$UnitsRule" (34 : Nat) ({ cls := "InitiatorRows$UnitsRule", name := "used", desc := "(I)I" } : Jvm.MethodName)) ∈ lw_all := lw_g (lw_at lw_m3 89 rfl) rfl
theorem q590 : (Jvm.Cond.instanceMethod ({ cls := "InitiatorRows$UnitsRule", name := "used", desc := "(I)I" } : Jvm.MethodName)) ∈ lw_all := lw_g (lw_at lw_m3 90 rfl) rfl
theorem q591 : (Jvm.Cond.selects "InitiatorRows$UnitsRule" ({ cls := "InitiatorRows$UnitsRule", name := "used", desc := "(I)I" } : Jvm.MethodName) ({ cls := "InitiatorRows$UnitsRule", name := "used", desc := "(I)I" } : Jvm.MethodName)) ∈ lw_all := lw_g (lw_at lw_m3 91 rfl) rfl
theorem q592 : (Jvm.Cond.code ({ cls := "InitiatorRows$UnitsRule", name := "used", desc := "(I)I" } : Jvm.MethodName) prog_14_method_2_code (4 : Nat) (Option.some Jvm.ClassFile.FieldType.int)) ∈ lw_all := lw_g (lw_at lw_m3 92 rfl) rfl
theorem q593 : (Jvm.Cond.interfaceEntry "InitiatorRows$UnitsRule" (19 : Nat)) ∈ lw_tbl := lw_at lw_m3 93 rfl
theorem q594 : (Jvm.Cond.methodLink "InitiatorRows$UnitsRule" (19 : Nat) ({ cls := "java/util/List", name := "size", desc := "()I" } : Jvm.MethodName)) ∈ lw_all := lw_g (lw_at lw_m3 94 rfl) rfl
theorem q595 : (Jvm.Cond.interfaceEntry "InitiatorRows$UnitsRule" (25 : Nat)) ∈ lw_tbl := lw_at lw_m3 95 rfl
theorem q596 : (Jvm.Cond.methodLink "InitiatorRows$UnitsRule" (25 : Nat) ({ cls := "java/util/List", name := "get", desc := "(I)Ljava/lang/Object;" } : Jvm.MethodName)) ∈ lw_all := lw_g (lw_at lw_m3 96 rfl) rfl
theorem q597 : (Jvm.Cond.classLink "InitiatorRows$UnitsRule" (29 : Nat) "InitiatorRows$Job") ∈ lw_all := lw_g (lw_at lw_m3 97 rfl) rfl
theorem q1045 : (Jvm.Cond.castable "InitiatorRows$UnitsRule" "java/lang/Object") ∈ lw_tbl := lw_at lw_m5 65 rfl
theorem in_X3 : ∀ w ∈ wsX30, w ∈ lw_all := lw_in wsX30 [111, 109] (by decide +kernel) (by decide +kernel)
/-! InitiatorRows$HoldRule -/
set_option maxRecDepth 100000
def RX4 : String := "InitiatorRows$HoldRule"
abbrev cX4_init : ByteArray := prog_5_method_1_code
def yX4_init : MethodName := ⟨RX4, "<init>", "()V"⟩
theorem dX4_init_0 : decode cX4_init 0 = .ok (.aload_n 0, 1) := by decide +kernel
theorem dX4_init_1 : decode cX4_init 1 = .ok (.invokespecial 1, 3) := by decide +kernel
theorem dX4_init_4 : decode cX4_init 4 = .ok (.return_, 1) := by decide +kernel
abbrev cX4_allows : ByteArray := prog_5_method_2_code
def yX4_allows : MethodName := ⟨RX4, "allows", "(LInitiatorRows$Job;)Z"⟩
def dkwX4_allows_0 : List UInt8 := [43, 180, 0, 7, 178, 0, 13, 166, 0, 7, 4, 167, 0, 4, 3, 172]
abbrev dktX4_allows_0 : List UInt8 := dkwX4_allows_0 ++ []
theorem dksX4_allows_0 : cX4_allows.data.toList.drop 0 = dktX4_allows_0 := by decide +kernel
theorem dX4_allows_0 : decode cX4_allows 0 = .ok (.aload_n 1, 1) := dk_43 (dk_at dksX4_allows_0 0 rfl rfl)
theorem dX4_allows_1 : decode cX4_allows 1 = .ok (.getfield 7, 3) := dk_180 0 7 (dk_at dksX4_allows_0 1 rfl rfl)
theorem dX4_allows_4 : decode cX4_allows 4 = .ok (.getstatic 13, 3) := dk_178 0 13 (dk_at dksX4_allows_0 4 rfl rfl)
theorem dX4_allows_7 : decode cX4_allows 7 = .ok (.if_acmp .ne 7, 3) := dk_166 0 7 (dk_at dksX4_allows_0 7 rfl rfl)
theorem dX4_allows_10 : decode cX4_allows 10 = .ok (.iconst 1, 1) := dk_4 (dk_at dksX4_allows_0 10 rfl rfl)
theorem dX4_allows_11 : decode cX4_allows 11 = .ok (.goto 4, 3) := dk_167 0 4 (dk_at dksX4_allows_0 11 rfl rfl)
theorem dX4_allows_14 : decode cX4_allows 14 = .ok (.iconst 0, 1) := dk_3 (dk_at dksX4_allows_0 14 rfl rfl)
theorem dX4_allows_15 : decode cX4_allows 15 = .ok (.ireturn, 1) := dk_172 (dk_at dksX4_allows_0 15 rfl rfl)
theorem q27 : (Jvm.Cond.initialized "InitiatorRows$HoldRule") ∈ lw_all := lw_g (lw_at lw_m1 7 rfl) rfl
theorem q118 : (Jvm.Cond.instantiable "InitiatorRows$HoldRule" (0 : Nat)) ∈ lw_all := lw_g (lw_at lw_m1 98 rfl) rfl
theorem q120 : (Jvm.Cond.instanceMethod ({ cls := "InitiatorRows$HoldRule", name := "<init>", desc := "()V" } : Jvm.MethodName)) ∈ lw_all := lw_g (lw_at lw_m1 100 rfl) rfl
theorem q121 : (Jvm.Cond.code ({ cls := "InitiatorRows$HoldRule", name := "<init>", desc := "()V" } : Jvm.MethodName) prog_5_method_1_code (1 : Nat) (Option.none : Option Jvm.ClassFile.FieldType)) ∈ lw_all := lw_g (lw_at lw_m1 101 rfl) rfl
theorem q122 : (Jvm.Cond.methodLink "InitiatorRows$HoldRule" (1 : Nat) ({ cls := "java/lang/Object", name := "<init>", desc := "()V" } : Jvm.MethodName)) ∈ lw_all := lw_g (lw_at lw_m1 102 rfl) rfl
theorem q123 : (Jvm.Cond.superclass "InitiatorRows$HoldRule" "java/lang/Object") ∈ lw_all := lw_g (lw_at lw_m1 103 rfl) rfl
theorem q293 : (Jvm.Cond.selects "InitiatorRows$HoldRule" ({ cls := "java/lang/Object", name := "getClass", desc := "()Ljava/lang/Class;" } : Jvm.MethodName) ({ cls := "java/lang/Object", name := "getClass", desc := "()Ljava/lang/Class;" } : Jvm.MethodName)) ∈ lw_all := lw_g (lw_at lw_m2 33 rfl) rfl
theorem q398 : (Jvm.Cond.fieldLinkNest "InitiatorRows$HoldRule" (7 : Nat) "InitiatorRows$Job" "state" "LInitiatorRows$State;" "InitiatorRows") ∈ lw_tbl := lw_at lw_m2 138 rfl
theorem q477 : (Jvm.Cond.selects "InitiatorRows$HoldRule" ({ cls := "java/lang/Object", name := "equals", desc := "(Ljava/lang/Object;)Z" } : Jvm.MethodName) ({ cls := "java/lang/Object", name := "equals", desc := "(Ljava/lang/Object;)Z" } : Jvm.MethodName)) ∈ lw_all := lw_g (lw_at lw_m2 217 rfl) rfl
theorem q541 : (Jvm.Cond.castable "InitiatorRows$HoldRule" "InitiatorRows$Rule") ∈ lw_tbl := lw_at lw_m3 41 rfl
theorem q542 : (Jvm.Cond.selects "InitiatorRows$HoldRule" ({ cls := "InitiatorRows$Rule", name := "allows", desc := "(LInitiatorRows$Job;)Z" } : Jvm.MethodName) ({ cls := "InitiatorRows$HoldRule", name := "allows", desc := "(LInitiatorRows$Job;)Z" } : Jvm.MethodName)) ∈ lw_all := lw_g (lw_at lw_m3 42 rfl) rfl
theorem q543 : (Jvm.Cond.unhidden "InitiatorRows$HoldRule" "allows" "(LInitiatorRows$Job;)Z") ∈ lw_tbl := lw_at lw_m3 43 rfl
theorem q544 : (Jvm.Cond.instanceMethod ({ cls := "InitiatorRows$HoldRule", name := "allows", desc := "(LInitiatorRows$Job;)Z" } : Jvm.MethodName)) ∈ lw_all := lw_g (lw_at lw_m3 44 rfl) rfl
theorem q545 : (Jvm.Cond.publicMethod ({ cls := "InitiatorRows$HoldRule", name := "allows", desc := "(LInitiatorRows$Job;)Z" } : Jvm.MethodName)) ∈ lw_tbl := lw_at lw_m3 45 rfl
theorem q546 : (Jvm.Cond.code ({ cls := "InitiatorRows$HoldRule", name := "allows", desc := "(LInitiatorRows$Job;)Z" } : Jvm.MethodName) prog_5_method_2_code (2 : Nat) (Option.some Jvm.ClassFile.FieldType.boolean)) ∈ lw_all := lw_g (lw_at lw_m3 46 rfl) rfl
theorem q547 : (Jvm.Cond.fieldLink "InitiatorRows$HoldRule" (13 : Nat) "InitiatorRows$State" "WAITS" "LInitiatorRows$State;") ∈ lw_all := lw_g (lw_at lw_m3 47 rfl) rfl
theorem q1046 : (Jvm.Cond.castable "InitiatorRows$HoldRule" "java/lang/Object") ∈ lw_tbl := lw_at lw_m5 66 rfl
/-! InitiatorRows$LimitRule -/
set_option maxRecDepth 100000
def RX5 : String := "InitiatorRows$LimitRule"
def TX5 : u_T := fun k => match k with
  | 0 => ("InitiatorRows$RunningRule", "running", "Ljava/util/List;", true)
  | _ => ("InitiatorRows$LimitRule", "classes", "[LInitiatorRows$Cls;", true)
def tyX5 : Nat → FieldType := fun k => match k with
  | 0 => .object "java/util/List"
  | _ => .array (.object "InitiatorRows$Cls")
abbrev wsX50 : List Cond := u_ws RX5 TX5 2
theorem nmX5 : ∀ a, a < 2 → ∀ b, b < 2 → a ≠ b → (TX5 a).2.1 ≠ (TX5 b).2.1 := by decide +kernel
theorem tyX5_ok : ∀ k, k < 2 → parseFieldDescriptor (TX5 k).2.2.1 = some (tyX5 k) := by decide +kernel
abbrev cX5_init : ByteArray := prog_8_method_1_code
def yX5_init : MethodName := ⟨RX5, "<init>", "(Ljava/util/List;[LInitiatorRows$Cls;)V"⟩
def dkwX5_init_0 : List UInt8 := [42, 43, 183, 0, 1, 42, 44, 181, 0, 7, 177]
abbrev dktX5_init_0 : List UInt8 := dkwX5_init_0 ++ []
theorem dksX5_init_0 : cX5_init.data.toList.drop 0 = dktX5_init_0 := by decide +kernel
theorem dX5_init_0 : decode cX5_init 0 = .ok (.aload_n 0, 1) := dk_42 (dk_at dksX5_init_0 0 rfl rfl)
theorem dX5_init_1 : decode cX5_init 1 = .ok (.aload_n 1, 1) := dk_43 (dk_at dksX5_init_0 1 rfl rfl)
theorem dX5_init_2 : decode cX5_init 2 = .ok (.invokespecial 1, 3) := dk_183 0 1 (dk_at dksX5_init_0 2 rfl rfl)
theorem dX5_init_5 : decode cX5_init 5 = .ok (.aload_n 0, 1) := dk_42 (dk_at dksX5_init_0 5 rfl rfl)
theorem dX5_init_6 : decode cX5_init 6 = .ok (.aload_n 2, 1) := dk_44 (dk_at dksX5_init_0 6 rfl rfl)
theorem dX5_init_7 : decode cX5_init 7 = .ok (.putfield 7, 3) := dk_181 0 7 (dk_at dksX5_init_0 7 rfl rfl)
theorem dX5_init_10 : decode cX5_init 10 = .ok (.return_, 1) := dk_177 (dk_at dksX5_init_0 10 rfl rfl)
abbrev cX5_allows : ByteArray := prog_8_method_2_code
def yX5_allows : MethodName := ⟨RX5, "allows", "(LInitiatorRows$Job;)Z"⟩
def dkwX5_allows_3 : List UInt8 := [167, 0, 4, 3, 172]
abbrev dktX5_allows_3 : List UInt8 := dkwX5_allows_3 ++ []
def dkwX5_allows_2 : List UInt8 := [61, 132, 3, 1, 167, 255, 209, 28, 42, 180, 0, 7, 43, 180, 0, 29, 50, 180, 0, 33, 162, 0, 7, 4]
abbrev dktX5_allows_2 : List UInt8 := dkwX5_allows_2 ++ dktX5_allows_3
def dkwX5_allows_1 : List UInt8 := [185, 0, 23, 2, 0, 192, 0, 27, 180, 0, 29, 43, 180, 0, 29, 160, 0, 7, 4, 167, 0, 4, 3, 96]
abbrev dktX5_allows_1 : List UInt8 := dkwX5_allows_1 ++ dktX5_allows_2
def dkwX5_allows_0 : List UInt8 := [3, 61, 3, 62, 29, 42, 180, 0, 13, 185, 0, 17, 1, 0, 162, 0, 40, 28, 42, 180, 0, 13, 29]
abbrev dktX5_allows_0 : List UInt8 := dkwX5_allows_0 ++ dktX5_allows_1
theorem dksX5_allows_0 : cX5_allows.data.toList.drop 0 = dktX5_allows_0 := by decide +kernel
theorem dksX5_allows_1 : cX5_allows.data.toList.drop 23 = dktX5_allows_1 := dk_seg dksX5_allows_0 23 rfl rfl
theorem dksX5_allows_2 : cX5_allows.data.toList.drop 47 = dktX5_allows_2 := dk_seg dksX5_allows_1 24 rfl rfl
theorem dksX5_allows_3 : cX5_allows.data.toList.drop 71 = dktX5_allows_3 := dk_seg dksX5_allows_2 24 rfl rfl
theorem dX5_allows_0 : decode cX5_allows 0 = .ok (.iconst 0, 1) := dk_3 (dk_at dksX5_allows_0 0 rfl rfl)
theorem dX5_allows_1 : decode cX5_allows 1 = .ok (.istore_n 2, 1) := dk_61 (dk_at dksX5_allows_0 1 rfl rfl)
theorem dX5_allows_2 : decode cX5_allows 2 = .ok (.iconst 0, 1) := dk_3 (dk_at dksX5_allows_0 2 rfl rfl)
theorem dX5_allows_3 : decode cX5_allows 3 = .ok (.istore_n 3, 1) := dk_62 (dk_at dksX5_allows_0 3 rfl rfl)
theorem dX5_allows_4 : decode cX5_allows 4 = .ok (.iload_n 3, 1) := dk_29 (dk_at dksX5_allows_0 4 rfl rfl)
theorem dX5_allows_5 : decode cX5_allows 5 = .ok (.aload_n 0, 1) := dk_42 (dk_at dksX5_allows_0 5 rfl rfl)
theorem dX5_allows_6 : decode cX5_allows 6 = .ok (.getfield 13, 3) := dk_180 0 13 (dk_at dksX5_allows_0 6 rfl rfl)
theorem dX5_allows_9 : decode cX5_allows 9 = .ok (.invokeinterface 17 1, 5) := by decide +kernel
theorem dX5_allows_14 : decode cX5_allows 14 = .ok (.if_icmp .ge 40, 3) := dk_162 0 40 (dk_at dksX5_allows_0 14 rfl rfl)
theorem dX5_allows_17 : decode cX5_allows 17 = .ok (.iload_n 2, 1) := dk_28 (dk_at dksX5_allows_0 17 rfl rfl)
theorem dX5_allows_18 : decode cX5_allows 18 = .ok (.aload_n 0, 1) := dk_42 (dk_at dksX5_allows_0 18 rfl rfl)
theorem dX5_allows_19 : decode cX5_allows 19 = .ok (.getfield 13, 3) := dk_180 0 13 (dk_at dksX5_allows_0 19 rfl rfl)
theorem dX5_allows_22 : decode cX5_allows 22 = .ok (.iload_n 3, 1) := dk_29 (dk_at dksX5_allows_0 22 rfl rfl)
theorem dX5_allows_23 : decode cX5_allows 23 = .ok (.invokeinterface 23 2, 5) := by decide +kernel
theorem dX5_allows_28 : decode cX5_allows 28 = .ok (.checkcast 27, 3) := dk_192 0 27 (dk_at dksX5_allows_1 5 rfl rfl)
theorem dX5_allows_31 : decode cX5_allows 31 = .ok (.getfield 29, 3) := dk_180 0 29 (dk_at dksX5_allows_1 8 rfl rfl)
theorem dX5_allows_34 : decode cX5_allows 34 = .ok (.aload_n 1, 1) := dk_43 (dk_at dksX5_allows_1 11 rfl rfl)
theorem dX5_allows_35 : decode cX5_allows 35 = .ok (.getfield 29, 3) := dk_180 0 29 (dk_at dksX5_allows_1 12 rfl rfl)
theorem dX5_allows_38 : decode cX5_allows 38 = .ok (.if_icmp .ne 7, 3) := dk_160 0 7 (dk_at dksX5_allows_1 15 rfl rfl)
theorem dX5_allows_41 : decode cX5_allows 41 = .ok (.iconst 1, 1) := dk_4 (dk_at dksX5_allows_1 18 rfl rfl)
theorem dX5_allows_42 : decode cX5_allows 42 = .ok (.goto 4, 3) := dk_167 0 4 (dk_at dksX5_allows_1 19 rfl rfl)
theorem dX5_allows_45 : decode cX5_allows 45 = .ok (.iconst 0, 1) := dk_3 (dk_at dksX5_allows_1 22 rfl rfl)
theorem dX5_allows_46 : decode cX5_allows 46 = .ok (.iadd, 1) := dk_96 (dk_at dksX5_allows_1 23 rfl rfl)
theorem dX5_allows_47 : decode cX5_allows 47 = .ok (.istore_n 2, 1) := dk_61 (dk_at dksX5_allows_2 0 rfl rfl)
theorem dX5_allows_48 : decode cX5_allows 48 = .ok (.iinc 3 1, 3) := dk_132 3 1 (dk_at dksX5_allows_2 1 rfl rfl)
theorem dX5_allows_51 : decode cX5_allows 51 = .ok (.goto (-47), 3) := dk_167 255 209 (dk_at dksX5_allows_2 4 rfl rfl)
theorem dX5_allows_54 : decode cX5_allows 54 = .ok (.iload_n 2, 1) := dk_28 (dk_at dksX5_allows_2 7 rfl rfl)
theorem dX5_allows_55 : decode cX5_allows 55 = .ok (.aload_n 0, 1) := dk_42 (dk_at dksX5_allows_2 8 rfl rfl)
theorem dX5_allows_56 : decode cX5_allows 56 = .ok (.getfield 7, 3) := dk_180 0 7 (dk_at dksX5_allows_2 9 rfl rfl)
theorem dX5_allows_59 : decode cX5_allows 59 = .ok (.aload_n 1, 1) := dk_43 (dk_at dksX5_allows_2 12 rfl rfl)
theorem dX5_allows_60 : decode cX5_allows 60 = .ok (.getfield 29, 3) := dk_180 0 29 (dk_at dksX5_allows_2 13 rfl rfl)
theorem dX5_allows_63 : decode cX5_allows 63 = .ok (.aaload, 1) := dk_50 (dk_at dksX5_allows_2 16 rfl rfl)
theorem dX5_allows_64 : decode cX5_allows 64 = .ok (.getfield 33, 3) := dk_180 0 33 (dk_at dksX5_allows_2 17 rfl rfl)
theorem dX5_allows_67 : decode cX5_allows 67 = .ok (.if_icmp .ge 7, 3) := dk_162 0 7 (dk_at dksX5_allows_2 20 rfl rfl)
theorem dX5_allows_70 : decode cX5_allows 70 = .ok (.iconst 1, 1) := dk_4 (dk_at dksX5_allows_2 23 rfl rfl)
theorem dX5_allows_71 : decode cX5_allows 71 = .ok (.goto 4, 3) := dk_167 0 4 (dk_at dksX5_allows_3 0 rfl rfl)
theorem dX5_allows_74 : decode cX5_allows 74 = .ok (.iconst 0, 1) := dk_3 (dk_at dksX5_allows_3 3 rfl rfl)
theorem dX5_allows_75 : decode cX5_allows 75 = .ok (.ireturn, 1) := dk_172 (dk_at dksX5_allows_3 4 rfl rfl)
theorem q28 : (Jvm.Cond.initialized "InitiatorRows$LimitRule") ∈ lw_all := lw_g (lw_at lw_m1 8 rfl) rfl
theorem q105 : (Jvm.Cond.fieldLink "InitiatorRows$LimitRule" (13 : Nat) "InitiatorRows$LimitRule" "running" "Ljava/util/List;") ∈ lw_all := lw_g (lw_at lw_m1 85 rfl) rfl
theorem q106 : (Jvm.Cond.sameField "InitiatorRows$LimitRule" "InitiatorRows$RunningRule" "running" "Ljava/util/List;") ∈ lw_all := lw_g (lw_at lw_m1 86 rfl) rfl
theorem q125 : (Jvm.Cond.instantiable "InitiatorRows$LimitRule" (2 : Nat)) ∈ lw_all := lw_g (lw_at lw_m1 105 rfl) rfl
theorem q127 : (Jvm.Cond.instanceMethod ({ cls := "InitiatorRows$LimitRule", name := "<init>", desc := "(Ljava/util/List;[LInitiatorRows$Cls;)V" } : Jvm.MethodName)) ∈ lw_all := lw_g (lw_at lw_m1 107 rfl) rfl
theorem q128 : (Jvm.Cond.code ({ cls := "InitiatorRows$LimitRule", name := "<init>", desc := "(Ljava/util/List;[LInitiatorRows$Cls;)V" } : Jvm.MethodName) prog_8_method_1_code (3 : Nat) (Option.none : Option Jvm.ClassFile.FieldType)) ∈ lw_all := lw_g (lw_at lw_m1 108 rfl) rfl
theorem q129 : (Jvm.Cond.methodLink "InitiatorRows$LimitRule" (1 : Nat) ({ cls := "InitiatorRows$RunningRule", name := "<init>", desc := "(Ljava/util/List;)V" } : Jvm.MethodName)) ∈ lw_all := lw_g (lw_at lw_m1 109 rfl) rfl
theorem q130 : (Jvm.Cond.fieldLink "InitiatorRows$LimitRule" (7 : Nat) "InitiatorRows$LimitRule" "classes" "[LInitiatorRows$Cls;") ∈ lw_all := lw_g (lw_at lw_m1 110 rfl) rfl
theorem q131 : (Jvm.Cond.laysFinal "InitiatorRows$LimitRule" "InitiatorRows$LimitRule" "classes" "[LInitiatorRows$Cls;") ∈ lw_all := lw_g (lw_at lw_m1 111 rfl) rfl
theorem q132 : (Jvm.Cond.soleField "InitiatorRows$LimitRule" "classes") ∈ lw_all := lw_g (lw_at lw_m1 112 rfl) rfl
theorem q133 : (Jvm.Cond.laysFinal "InitiatorRows$LimitRule" "InitiatorRows$RunningRule" "running" "Ljava/util/List;") ∈ lw_all := lw_g (lw_at lw_m1 113 rfl) rfl
theorem q134 : (Jvm.Cond.superclass "InitiatorRows$LimitRule" "InitiatorRows$RunningRule") ∈ lw_all := lw_g (lw_at lw_m1 114 rfl) rfl
theorem q177 : (Jvm.Cond.fieldLinkNest "InitiatorRows$LimitRule" (33 : Nat) "InitiatorRows$Cls" "limit" "I" "InitiatorRows") ∈ lw_tbl := lw_at lw_m1 157 rfl
theorem q296 : (Jvm.Cond.selects "InitiatorRows$LimitRule" ({ cls := "java/lang/Object", name := "getClass", desc := "()Ljava/lang/Class;" } : Jvm.MethodName) ({ cls := "java/lang/Object", name := "getClass", desc := "()Ljava/lang/Class;" } : Jvm.MethodName)) ∈ lw_all := lw_g (lw_at lw_m2 36 rfl) rfl
theorem q382 : (Jvm.Cond.fieldLinkNest "InitiatorRows$LimitRule" (29 : Nat) "InitiatorRows$Job" "cls" "I" "InitiatorRows") ∈ lw_tbl := lw_at lw_m2 122 rfl
theorem q480 : (Jvm.Cond.selects "InitiatorRows$LimitRule" ({ cls := "java/lang/Object", name := "equals", desc := "(Ljava/lang/Object;)Z" } : Jvm.MethodName) ({ cls := "java/lang/Object", name := "equals", desc := "(Ljava/lang/Object;)Z" } : Jvm.MethodName)) ∈ lw_all := lw_g (lw_at lw_m2 220 rfl) rfl
theorem q548 : (Jvm.Cond.castable "InitiatorRows$LimitRule" "InitiatorRows$Rule") ∈ lw_tbl := lw_at lw_m3 48 rfl
theorem q549 : (Jvm.Cond.selects "InitiatorRows$LimitRule" ({ cls := "InitiatorRows$Rule", name := "allows", desc := "(LInitiatorRows$Job;)Z" } : Jvm.MethodName) ({ cls := "InitiatorRows$LimitRule", name := "allows", desc := "(LInitiatorRows$Job;)Z" } : Jvm.MethodName)) ∈ lw_all := lw_g (lw_at lw_m3 49 rfl) rfl
theorem q550 : (Jvm.Cond.unhidden "InitiatorRows$LimitRule" "allows" "(LInitiatorRows$Job;)Z") ∈ lw_tbl := lw_at lw_m3 50 rfl
theorem q551 : (Jvm.Cond.instanceMethod ({ cls := "InitiatorRows$LimitRule", name := "allows", desc := "(LInitiatorRows$Job;)Z" } : Jvm.MethodName)) ∈ lw_all := lw_g (lw_at lw_m3 51 rfl) rfl
theorem q552 : (Jvm.Cond.publicMethod ({ cls := "InitiatorRows$LimitRule", name := "allows", desc := "(LInitiatorRows$Job;)Z" } : Jvm.MethodName)) ∈ lw_tbl := lw_at lw_m3 52 rfl
theorem q553 : (Jvm.Cond.code ({ cls := "InitiatorRows$LimitRule", name := "allows", desc := "(LInitiatorRows$Job;)Z" } : Jvm.MethodName) prog_8_method_2_code (4 : Nat) (Option.some Jvm.ClassFile.FieldType.boolean)) ∈ lw_all := lw_g (lw_at lw_m3 53 rfl) rfl
theorem q554 : (Jvm.Cond.interfaceEntry "InitiatorRows$LimitRule" (17 : Nat)) ∈ lw_tbl := lw_at lw_m3 54 rfl
theorem q555 : (Jvm.Cond.methodLink "InitiatorRows$LimitRule" (17 : Nat) ({ cls := "java/util/List", name := "size", desc := "()I" } : Jvm.MethodName)) ∈ lw_all := lw_g (lw_at lw_m3 55 rfl) rfl
theorem q556 : (Jvm.Cond.interfaceEntry "InitiatorRows$LimitRule" (23 : Nat)) ∈ lw_tbl := lw_at lw_m3 56 rfl
theorem q557 : (Jvm.Cond.methodLink "InitiatorRows$LimitRule" (23 : Nat) ({ cls := "java/util/List", name := "get", desc := "(I)Ljava/lang/Object;" } : Jvm.MethodName)) ∈ lw_all := lw_g (lw_at lw_m3 57 rfl) rfl
theorem q558 : (Jvm.Cond.classLink "InitiatorRows$LimitRule" (27 : Nat) "InitiatorRows$Job") ∈ lw_all := lw_g (lw_at lw_m3 58 rfl) rfl
theorem q1047 : (Jvm.Cond.castable "InitiatorRows$LimitRule" "java/lang/Object") ∈ lw_tbl := lw_at lw_m5 67 rfl
theorem in_X5 : ∀ w ∈ wsX50, w ∈ lw_all := lw_in wsX50 [133, 131] (by decide +kernel) (by decide +kernel)
/-! InitiatorRows$NameRule -/
set_option maxRecDepth 100000
def RX6 : String := "InitiatorRows$NameRule"
def TX6 : u_T := fun k => match k with
  | _ => ("InitiatorRows$RunningRule", "running", "Ljava/util/List;", true)
def tyX6 : Nat → FieldType := fun k => match k with
  | _ => .object "java/util/List"
abbrev wsX60 : List Cond := u_ws RX6 TX6 1
theorem nmX6 : ∀ a, a < 1 → ∀ b, b < 1 → a ≠ b → (TX6 a).2.1 ≠ (TX6 b).2.1 := by decide +kernel
theorem tyX6_ok : ∀ k, k < 1 → parseFieldDescriptor (TX6 k).2.2.1 = some (tyX6 k) := by decide +kernel
abbrev cX6_init : ByteArray := prog_9_method_1_code
def yX6_init : MethodName := ⟨RX6, "<init>", "(Ljava/util/List;)V"⟩
def dkwX6_init_0 : List UInt8 := [42, 43, 183, 0, 1, 177]
abbrev dktX6_init_0 : List UInt8 := dkwX6_init_0 ++ []
theorem dksX6_init_0 : cX6_init.data.toList.drop 0 = dktX6_init_0 := by decide +kernel
theorem dX6_init_0 : decode cX6_init 0 = .ok (.aload_n 0, 1) := dk_42 (dk_at dksX6_init_0 0 rfl rfl)
theorem dX6_init_1 : decode cX6_init 1 = .ok (.aload_n 1, 1) := dk_43 (dk_at dksX6_init_0 1 rfl rfl)
theorem dX6_init_2 : decode cX6_init 2 = .ok (.invokespecial 1, 3) := dk_183 0 1 (dk_at dksX6_init_0 2 rfl rfl)
theorem dX6_init_5 : decode cX6_init 5 = .ok (.return_, 1) := dk_177 (dk_at dksX6_init_0 5 rfl rfl)
abbrev cX6_allows : ByteArray := prog_9_method_2_code
def yX6_allows : MethodName := ⟨RX6, "allows", "(LInitiatorRows$Job;)Z"⟩
def dkwX6_allows_2 : List UInt8 := [167, 255, 215, 4, 172]
abbrev dktX6_allows_2 : List UInt8 := dkwX6_allows_2 ++ []
def dkwX6_allows_1 : List UInt8 := [185, 0, 19, 2, 0, 192, 0, 23, 180, 0, 25, 43, 180, 0, 25, 160, 0, 5, 3, 172, 132, 2, 1]
abbrev dktX6_allows_1 : List UInt8 := dkwX6_allows_1 ++ dktX6_allows_2
def dkwX6_allows_0 : List UInt8 := [3, 61, 28, 42, 180, 0, 7, 185, 0, 13, 1, 0, 162, 0, 34, 42, 180, 0, 7, 28]
abbrev dktX6_allows_0 : List UInt8 := dkwX6_allows_0 ++ dktX6_allows_1
theorem dksX6_allows_0 : cX6_allows.data.toList.drop 0 = dktX6_allows_0 := by decide +kernel
theorem dksX6_allows_1 : cX6_allows.data.toList.drop 20 = dktX6_allows_1 := dk_seg dksX6_allows_0 20 rfl rfl
theorem dksX6_allows_2 : cX6_allows.data.toList.drop 43 = dktX6_allows_2 := dk_seg dksX6_allows_1 23 rfl rfl
theorem dX6_allows_0 : decode cX6_allows 0 = .ok (.iconst 0, 1) := dk_3 (dk_at dksX6_allows_0 0 rfl rfl)
theorem dX6_allows_1 : decode cX6_allows 1 = .ok (.istore_n 2, 1) := dk_61 (dk_at dksX6_allows_0 1 rfl rfl)
theorem dX6_allows_2 : decode cX6_allows 2 = .ok (.iload_n 2, 1) := dk_28 (dk_at dksX6_allows_0 2 rfl rfl)
theorem dX6_allows_3 : decode cX6_allows 3 = .ok (.aload_n 0, 1) := dk_42 (dk_at dksX6_allows_0 3 rfl rfl)
theorem dX6_allows_4 : decode cX6_allows 4 = .ok (.getfield 7, 3) := dk_180 0 7 (dk_at dksX6_allows_0 4 rfl rfl)
theorem dX6_allows_7 : decode cX6_allows 7 = .ok (.invokeinterface 13 1, 5) := by decide +kernel
theorem dX6_allows_12 : decode cX6_allows 12 = .ok (.if_icmp .ge 34, 3) := dk_162 0 34 (dk_at dksX6_allows_0 12 rfl rfl)
theorem dX6_allows_15 : decode cX6_allows 15 = .ok (.aload_n 0, 1) := dk_42 (dk_at dksX6_allows_0 15 rfl rfl)
theorem dX6_allows_16 : decode cX6_allows 16 = .ok (.getfield 7, 3) := dk_180 0 7 (dk_at dksX6_allows_0 16 rfl rfl)
theorem dX6_allows_19 : decode cX6_allows 19 = .ok (.iload_n 2, 1) := dk_28 (dk_at dksX6_allows_0 19 rfl rfl)
theorem dX6_allows_20 : decode cX6_allows 20 = .ok (.invokeinterface 19 2, 5) := by decide +kernel
theorem dX6_allows_25 : decode cX6_allows 25 = .ok (.checkcast 23, 3) := dk_192 0 23 (dk_at dksX6_allows_1 5 rfl rfl)
theorem dX6_allows_28 : decode cX6_allows 28 = .ok (.getfield 25, 3) := dk_180 0 25 (dk_at dksX6_allows_1 8 rfl rfl)
theorem dX6_allows_31 : decode cX6_allows 31 = .ok (.aload_n 1, 1) := dk_43 (dk_at dksX6_allows_1 11 rfl rfl)
theorem dX6_allows_32 : decode cX6_allows 32 = .ok (.getfield 25, 3) := dk_180 0 25 (dk_at dksX6_allows_1 12 rfl rfl)
theorem dX6_allows_35 : decode cX6_allows 35 = .ok (.if_icmp .ne 5, 3) := dk_160 0 5 (dk_at dksX6_allows_1 15 rfl rfl)
theorem dX6_allows_38 : decode cX6_allows 38 = .ok (.iconst 0, 1) := dk_3 (dk_at dksX6_allows_1 18 rfl rfl)
theorem dX6_allows_39 : decode cX6_allows 39 = .ok (.ireturn, 1) := dk_172 (dk_at dksX6_allows_1 19 rfl rfl)
theorem dX6_allows_40 : decode cX6_allows 40 = .ok (.iinc 2 1, 3) := dk_132 2 1 (dk_at dksX6_allows_1 20 rfl rfl)
theorem dX6_allows_43 : decode cX6_allows 43 = .ok (.goto (-41), 3) := dk_167 255 215 (dk_at dksX6_allows_2 0 rfl rfl)
theorem dX6_allows_46 : decode cX6_allows 46 = .ok (.iconst 1, 1) := dk_4 (dk_at dksX6_allows_2 3 rfl rfl)
theorem dX6_allows_47 : decode cX6_allows 47 = .ok (.ireturn, 1) := dk_172 (dk_at dksX6_allows_2 4 rfl rfl)
theorem q29 : (Jvm.Cond.initialized "InitiatorRows$NameRule") ∈ lw_all := lw_g (lw_at lw_m1 9 rfl) rfl
theorem q103 : (Jvm.Cond.fieldLink "InitiatorRows$NameRule" (7 : Nat) "InitiatorRows$NameRule" "running" "Ljava/util/List;") ∈ lw_all := lw_g (lw_at lw_m1 83 rfl) rfl
theorem q104 : (Jvm.Cond.sameField "InitiatorRows$NameRule" "InitiatorRows$RunningRule" "running" "Ljava/util/List;") ∈ lw_all := lw_g (lw_at lw_m1 84 rfl) rfl
theorem q136 : (Jvm.Cond.instantiable "InitiatorRows$NameRule" (1 : Nat)) ∈ lw_all := lw_g (lw_at lw_m1 116 rfl) rfl
theorem q138 : (Jvm.Cond.instanceMethod ({ cls := "InitiatorRows$NameRule", name := "<init>", desc := "(Ljava/util/List;)V" } : Jvm.MethodName)) ∈ lw_all := lw_g (lw_at lw_m1 118 rfl) rfl
theorem q139 : (Jvm.Cond.code ({ cls := "InitiatorRows$NameRule", name := "<init>", desc := "(Ljava/util/List;)V" } : Jvm.MethodName) prog_9_method_1_code (2 : Nat) (Option.none : Option Jvm.ClassFile.FieldType)) ∈ lw_all := lw_g (lw_at lw_m1 119 rfl) rfl
theorem q140 : (Jvm.Cond.methodLink "InitiatorRows$NameRule" (1 : Nat) ({ cls := "InitiatorRows$RunningRule", name := "<init>", desc := "(Ljava/util/List;)V" } : Jvm.MethodName)) ∈ lw_all := lw_g (lw_at lw_m1 120 rfl) rfl
theorem q141 : (Jvm.Cond.laysFinal "InitiatorRows$NameRule" "InitiatorRows$RunningRule" "running" "Ljava/util/List;") ∈ lw_all := lw_g (lw_at lw_m1 121 rfl) rfl
theorem q142 : (Jvm.Cond.superclass "InitiatorRows$NameRule" "InitiatorRows$RunningRule") ∈ lw_all := lw_g (lw_at lw_m1 122 rfl) rfl
theorem q297 : (Jvm.Cond.selects "InitiatorRows$NameRule" ({ cls := "java/lang/Object", name := "getClass", desc := "()Ljava/lang/Class;" } : Jvm.MethodName) ({ cls := "java/lang/Object", name := "getClass", desc := "()Ljava/lang/Class;" } : Jvm.MethodName)) ∈ lw_all := lw_g (lw_at lw_m2 37 rfl) rfl
theorem q387 : (Jvm.Cond.fieldLinkNest "InitiatorRows$NameRule" (25 : Nat) "InitiatorRows$Job" "name" "I" "InitiatorRows") ∈ lw_tbl := lw_at lw_m2 127 rfl
theorem q481 : (Jvm.Cond.selects "InitiatorRows$NameRule" ({ cls := "java/lang/Object", name := "equals", desc := "(Ljava/lang/Object;)Z" } : Jvm.MethodName) ({ cls := "java/lang/Object", name := "equals", desc := "(Ljava/lang/Object;)Z" } : Jvm.MethodName)) ∈ lw_all := lw_g (lw_at lw_m2 221 rfl) rfl
theorem q559 : (Jvm.Cond.castable "InitiatorRows$NameRule" "InitiatorRows$Rule") ∈ lw_tbl := lw_at lw_m3 59 rfl
theorem q560 : (Jvm.Cond.selects "InitiatorRows$NameRule" ({ cls := "InitiatorRows$Rule", name := "allows", desc := "(LInitiatorRows$Job;)Z" } : Jvm.MethodName) ({ cls := "InitiatorRows$NameRule", name := "allows", desc := "(LInitiatorRows$Job;)Z" } : Jvm.MethodName)) ∈ lw_all := lw_g (lw_at lw_m3 60 rfl) rfl
theorem q561 : (Jvm.Cond.unhidden "InitiatorRows$NameRule" "allows" "(LInitiatorRows$Job;)Z") ∈ lw_tbl := lw_at lw_m3 61 rfl
theorem q562 : (Jvm.Cond.instanceMethod ({ cls := "InitiatorRows$NameRule", name := "allows", desc := "(LInitiatorRows$Job;)Z" } : Jvm.MethodName)) ∈ lw_all := lw_g (lw_at lw_m3 62 rfl) rfl
theorem q563 : (Jvm.Cond.publicMethod ({ cls := "InitiatorRows$NameRule", name := "allows", desc := "(LInitiatorRows$Job;)Z" } : Jvm.MethodName)) ∈ lw_tbl := lw_at lw_m3 63 rfl
theorem q564 : (Jvm.Cond.code ({ cls := "InitiatorRows$NameRule", name := "allows", desc := "(LInitiatorRows$Job;)Z" } : Jvm.MethodName) prog_9_method_2_code (3 : Nat) (Option.some Jvm.ClassFile.FieldType.boolean)) ∈ lw_all := lw_g (lw_at lw_m3 64 rfl) rfl
theorem q565 : (Jvm.Cond.interfaceEntry "InitiatorRows$NameRule" (13 : Nat)) ∈ lw_tbl := lw_at lw_m3 65 rfl
theorem q566 : (Jvm.Cond.methodLink "InitiatorRows$NameRule" (13 : Nat) ({ cls := "java/util/List", name := "size", desc := "()I" } : Jvm.MethodName)) ∈ lw_all := lw_g (lw_at lw_m3 66 rfl) rfl
theorem q567 : (Jvm.Cond.interfaceEntry "InitiatorRows$NameRule" (19 : Nat)) ∈ lw_tbl := lw_at lw_m3 67 rfl
theorem q568 : (Jvm.Cond.methodLink "InitiatorRows$NameRule" (19 : Nat) ({ cls := "java/util/List", name := "get", desc := "(I)Ljava/lang/Object;" } : Jvm.MethodName)) ∈ lw_all := lw_g (lw_at lw_m3 68 rfl) rfl
theorem q569 : (Jvm.Cond.classLink "InitiatorRows$NameRule" (23 : Nat) "InitiatorRows$Job") ∈ lw_all := lw_g (lw_at lw_m3 69 rfl) rfl
theorem q1048 : (Jvm.Cond.castable "InitiatorRows$NameRule" "java/lang/Object") ∈ lw_tbl := lw_at lw_m5 68 rfl
theorem in_X6 : ∀ w ∈ wsX60, w ∈ lw_all := lw_in wsX60 [141] (by decide +kernel) (by decide +kernel)
/-! InitiatorRows$NeedsRule -/
set_option maxRecDepth 100000
def RX7 : String := "InitiatorRows$NeedsRule"
abbrev cX7_init : ByteArray := prog_10_method_1_code
def yX7_init : MethodName := ⟨RX7, "<init>", "()V"⟩
theorem dX7_init_0 : decode cX7_init 0 = .ok (.aload_n 0, 1) := by decide +kernel
theorem dX7_init_1 : decode cX7_init 1 = .ok (.invokespecial 1, 3) := by decide +kernel
theorem dX7_init_4 : decode cX7_init 4 = .ok (.return_, 1) := by decide +kernel
abbrev cX7_allows : ByteArray := prog_10_method_2_code
def yX7_allows : MethodName := ⟨RX7, "allows", "(LInitiatorRows$Job;)Z"⟩
def dkwX7_allows_2 : List UInt8 := [167, 255, 216, 4, 172]
abbrev dktX7_allows_2 : List UInt8 := dkwX7_allows_2 ++ []
def dkwX7_allows_1 : List UInt8 := [185, 0, 19, 2, 0, 192, 0, 8, 180, 0, 23, 178, 0, 27, 165, 0, 5, 3, 172, 132, 2, 1]
abbrev dktX7_allows_1 : List UInt8 := dkwX7_allows_1 ++ dktX7_allows_2
def dkwX7_allows_0 : List UInt8 := [3, 61, 28, 43, 180, 0, 7, 185, 0, 13, 1, 0, 162, 0, 33, 43, 180, 0, 7, 28]
abbrev dktX7_allows_0 : List UInt8 := dkwX7_allows_0 ++ dktX7_allows_1
theorem dksX7_allows_0 : cX7_allows.data.toList.drop 0 = dktX7_allows_0 := by decide +kernel
theorem dksX7_allows_1 : cX7_allows.data.toList.drop 20 = dktX7_allows_1 := dk_seg dksX7_allows_0 20 rfl rfl
theorem dksX7_allows_2 : cX7_allows.data.toList.drop 42 = dktX7_allows_2 := dk_seg dksX7_allows_1 22 rfl rfl
theorem dX7_allows_0 : decode cX7_allows 0 = .ok (.iconst 0, 1) := dk_3 (dk_at dksX7_allows_0 0 rfl rfl)
theorem dX7_allows_1 : decode cX7_allows 1 = .ok (.istore_n 2, 1) := dk_61 (dk_at dksX7_allows_0 1 rfl rfl)
theorem dX7_allows_2 : decode cX7_allows 2 = .ok (.iload_n 2, 1) := dk_28 (dk_at dksX7_allows_0 2 rfl rfl)
theorem dX7_allows_3 : decode cX7_allows 3 = .ok (.aload_n 1, 1) := dk_43 (dk_at dksX7_allows_0 3 rfl rfl)
theorem dX7_allows_4 : decode cX7_allows 4 = .ok (.getfield 7, 3) := dk_180 0 7 (dk_at dksX7_allows_0 4 rfl rfl)
theorem dX7_allows_7 : decode cX7_allows 7 = .ok (.invokeinterface 13 1, 5) := by decide +kernel
theorem dX7_allows_12 : decode cX7_allows 12 = .ok (.if_icmp .ge 33, 3) := dk_162 0 33 (dk_at dksX7_allows_0 12 rfl rfl)
theorem dX7_allows_15 : decode cX7_allows 15 = .ok (.aload_n 1, 1) := dk_43 (dk_at dksX7_allows_0 15 rfl rfl)
theorem dX7_allows_16 : decode cX7_allows 16 = .ok (.getfield 7, 3) := dk_180 0 7 (dk_at dksX7_allows_0 16 rfl rfl)
theorem dX7_allows_19 : decode cX7_allows 19 = .ok (.iload_n 2, 1) := dk_28 (dk_at dksX7_allows_0 19 rfl rfl)
theorem dX7_allows_20 : decode cX7_allows 20 = .ok (.invokeinterface 19 2, 5) := by decide +kernel
theorem dX7_allows_25 : decode cX7_allows 25 = .ok (.checkcast 8, 3) := dk_192 0 8 (dk_at dksX7_allows_1 5 rfl rfl)
theorem dX7_allows_28 : decode cX7_allows 28 = .ok (.getfield 23, 3) := dk_180 0 23 (dk_at dksX7_allows_1 8 rfl rfl)
theorem dX7_allows_31 : decode cX7_allows 31 = .ok (.getstatic 27, 3) := dk_178 0 27 (dk_at dksX7_allows_1 11 rfl rfl)
theorem dX7_allows_34 : decode cX7_allows 34 = .ok (.if_acmp .eq 5, 3) := dk_165 0 5 (dk_at dksX7_allows_1 14 rfl rfl)
theorem dX7_allows_37 : decode cX7_allows 37 = .ok (.iconst 0, 1) := dk_3 (dk_at dksX7_allows_1 17 rfl rfl)
theorem dX7_allows_38 : decode cX7_allows 38 = .ok (.ireturn, 1) := dk_172 (dk_at dksX7_allows_1 18 rfl rfl)
theorem dX7_allows_39 : decode cX7_allows 39 = .ok (.iinc 2 1, 3) := dk_132 2 1 (dk_at dksX7_allows_1 19 rfl rfl)
theorem dX7_allows_42 : decode cX7_allows 42 = .ok (.goto (-40), 3) := dk_167 255 216 (dk_at dksX7_allows_2 0 rfl rfl)
theorem dX7_allows_45 : decode cX7_allows 45 = .ok (.iconst 1, 1) := dk_4 (dk_at dksX7_allows_2 3 rfl rfl)
theorem dX7_allows_46 : decode cX7_allows 46 = .ok (.ireturn, 1) := dk_172 (dk_at dksX7_allows_2 4 rfl rfl)
theorem q30 : (Jvm.Cond.initialized "InitiatorRows$NeedsRule") ∈ lw_all := lw_g (lw_at lw_m1 10 rfl) rfl
theorem q144 : (Jvm.Cond.instantiable "InitiatorRows$NeedsRule" (0 : Nat)) ∈ lw_all := lw_g (lw_at lw_m1 124 rfl) rfl
theorem q146 : (Jvm.Cond.instanceMethod ({ cls := "InitiatorRows$NeedsRule", name := "<init>", desc := "()V" } : Jvm.MethodName)) ∈ lw_all := lw_g (lw_at lw_m1 126 rfl) rfl
theorem q147 : (Jvm.Cond.code ({ cls := "InitiatorRows$NeedsRule", name := "<init>", desc := "()V" } : Jvm.MethodName) prog_10_method_1_code (1 : Nat) (Option.none : Option Jvm.ClassFile.FieldType)) ∈ lw_all := lw_g (lw_at lw_m1 127 rfl) rfl
theorem q148 : (Jvm.Cond.methodLink "InitiatorRows$NeedsRule" (1 : Nat) ({ cls := "java/lang/Object", name := "<init>", desc := "()V" } : Jvm.MethodName)) ∈ lw_all := lw_g (lw_at lw_m1 128 rfl) rfl
theorem q149 : (Jvm.Cond.superclass "InitiatorRows$NeedsRule" "java/lang/Object") ∈ lw_all := lw_g (lw_at lw_m1 129 rfl) rfl
theorem q298 : (Jvm.Cond.selects "InitiatorRows$NeedsRule" ({ cls := "java/lang/Object", name := "getClass", desc := "()Ljava/lang/Class;" } : Jvm.MethodName) ({ cls := "java/lang/Object", name := "getClass", desc := "()Ljava/lang/Class;" } : Jvm.MethodName)) ∈ lw_all := lw_g (lw_at lw_m2 38 rfl) rfl
theorem q392 : (Jvm.Cond.fieldLinkNest "InitiatorRows$NeedsRule" (7 : Nat) "InitiatorRows$Job" "needs" "Ljava/util/List;" "InitiatorRows") ∈ lw_tbl := lw_at lw_m2 132 rfl
theorem q399 : (Jvm.Cond.fieldLinkNest "InitiatorRows$NeedsRule" (23 : Nat) "InitiatorRows$Job" "state" "LInitiatorRows$State;" "InitiatorRows") ∈ lw_tbl := lw_at lw_m2 139 rfl
theorem q482 : (Jvm.Cond.selects "InitiatorRows$NeedsRule" ({ cls := "java/lang/Object", name := "equals", desc := "(Ljava/lang/Object;)Z" } : Jvm.MethodName) ({ cls := "java/lang/Object", name := "equals", desc := "(Ljava/lang/Object;)Z" } : Jvm.MethodName)) ∈ lw_all := lw_g (lw_at lw_m2 222 rfl) rfl
theorem q570 : (Jvm.Cond.castable "InitiatorRows$NeedsRule" "InitiatorRows$Rule") ∈ lw_tbl := lw_at lw_m3 70 rfl
theorem q571 : (Jvm.Cond.selects "InitiatorRows$NeedsRule" ({ cls := "InitiatorRows$Rule", name := "allows", desc := "(LInitiatorRows$Job;)Z" } : Jvm.MethodName) ({ cls := "InitiatorRows$NeedsRule", name := "allows", desc := "(LInitiatorRows$Job;)Z" } : Jvm.MethodName)) ∈ lw_all := lw_g (lw_at lw_m3 71 rfl) rfl
theorem q572 : (Jvm.Cond.unhidden "InitiatorRows$NeedsRule" "allows" "(LInitiatorRows$Job;)Z") ∈ lw_tbl := lw_at lw_m3 72 rfl
theorem q573 : (Jvm.Cond.instanceMethod ({ cls := "InitiatorRows$NeedsRule", name := "allows", desc := "(LInitiatorRows$Job;)Z" } : Jvm.MethodName)) ∈ lw_all := lw_g (lw_at lw_m3 73 rfl) rfl
theorem q574 : (Jvm.Cond.publicMethod ({ cls := "InitiatorRows$NeedsRule", name := "allows", desc := "(LInitiatorRows$Job;)Z" } : Jvm.MethodName)) ∈ lw_tbl := lw_at lw_m3 74 rfl
theorem q575 : (Jvm.Cond.code ({ cls := "InitiatorRows$NeedsRule", name := "allows", desc := "(LInitiatorRows$Job;)Z" } : Jvm.MethodName) prog_10_method_2_code (3 : Nat) (Option.some Jvm.ClassFile.FieldType.boolean)) ∈ lw_all := lw_g (lw_at lw_m3 75 rfl) rfl
theorem q576 : (Jvm.Cond.interfaceEntry "InitiatorRows$NeedsRule" (13 : Nat)) ∈ lw_tbl := lw_at lw_m3 76 rfl
theorem q577 : (Jvm.Cond.methodLink "InitiatorRows$NeedsRule" (13 : Nat) ({ cls := "java/util/List", name := "size", desc := "()I" } : Jvm.MethodName)) ∈ lw_all := lw_g (lw_at lw_m3 77 rfl) rfl
theorem q578 : (Jvm.Cond.interfaceEntry "InitiatorRows$NeedsRule" (19 : Nat)) ∈ lw_tbl := lw_at lw_m3 78 rfl
theorem q579 : (Jvm.Cond.methodLink "InitiatorRows$NeedsRule" (19 : Nat) ({ cls := "java/util/List", name := "get", desc := "(I)Ljava/lang/Object;" } : Jvm.MethodName)) ∈ lw_all := lw_g (lw_at lw_m3 79 rfl) rfl
theorem q580 : (Jvm.Cond.classLink "InitiatorRows$NeedsRule" (8 : Nat) "InitiatorRows$Job") ∈ lw_all := lw_g (lw_at lw_m3 80 rfl) rfl
theorem q581 : (Jvm.Cond.fieldLink "InitiatorRows$NeedsRule" (27 : Nat) "InitiatorRows$State" "ENDED" "LInitiatorRows$State;") ∈ lw_all := lw_g (lw_at lw_m3 81 rfl) rfl
theorem q1049 : (Jvm.Cond.castable "InitiatorRows$NeedsRule" "java/lang/Object") ∈ lw_tbl := lw_at lw_m5 69 rfl
/-! InitiatorRows$AloneRule -/
set_option maxRecDepth 100000
def RX8 : String := "InitiatorRows$AloneRule"
def TX8 : u_T := fun k => match k with
  | _ => ("InitiatorRows$RunningRule", "running", "Ljava/util/List;", true)
def tyX8 : Nat → FieldType := fun k => match k with
  | _ => .object "java/util/List"
abbrev wsX80 : List Cond := u_ws RX8 TX8 1
theorem nmX8 : ∀ a, a < 1 → ∀ b, b < 1 → a ≠ b → (TX8 a).2.1 ≠ (TX8 b).2.1 := by decide +kernel
theorem tyX8_ok : ∀ k, k < 1 → parseFieldDescriptor (TX8 k).2.2.1 = some (tyX8 k) := by decide +kernel
abbrev cX8_init : ByteArray := prog_3_method_1_code
def yX8_init : MethodName := ⟨RX8, "<init>", "(Ljava/util/List;)V"⟩
def dkwX8_init_0 : List UInt8 := [42, 43, 183, 0, 1, 177]
abbrev dktX8_init_0 : List UInt8 := dkwX8_init_0 ++ []
theorem dksX8_init_0 : cX8_init.data.toList.drop 0 = dktX8_init_0 := by decide +kernel
theorem dX8_init_0 : decode cX8_init 0 = .ok (.aload_n 0, 1) := dk_42 (dk_at dksX8_init_0 0 rfl rfl)
theorem dX8_init_1 : decode cX8_init 1 = .ok (.aload_n 1, 1) := dk_43 (dk_at dksX8_init_0 1 rfl rfl)
theorem dX8_init_2 : decode cX8_init 2 = .ok (.invokespecial 1, 3) := dk_183 0 1 (dk_at dksX8_init_0 2 rfl rfl)
theorem dX8_init_5 : decode cX8_init 5 = .ok (.return_, 1) := dk_177 (dk_at dksX8_init_0 5 rfl rfl)
abbrev cX8_allows : ByteArray := prog_3_method_2_code
def yX8_allows : MethodName := ⟨RX8, "allows", "(LInitiatorRows$Job;)Z"⟩
def dkwX8_allows_2 : List UInt8 := [167, 255, 212, 4, 172]
abbrev dktX8_allows_2 : List UInt8 := dkwX8_allows_2 ++ []
def dkwX8_allows_1 : List UInt8 := [180, 0, 7, 28, 185, 0, 25, 2, 0, 192, 0, 20, 180, 0, 19, 153, 0, 5, 3, 172, 132, 2, 1]
abbrev dktX8_allows_1 : List UInt8 := dkwX8_allows_1 ++ dktX8_allows_2
def dkwX8_allows_0 : List UInt8 := [3, 61, 28, 42, 180, 0, 7, 185, 0, 13, 1, 0, 162, 0, 37, 43, 180, 0, 19, 154, 0, 22, 42]
abbrev dktX8_allows_0 : List UInt8 := dkwX8_allows_0 ++ dktX8_allows_1
theorem dksX8_allows_0 : cX8_allows.data.toList.drop 0 = dktX8_allows_0 := by decide +kernel
theorem dksX8_allows_1 : cX8_allows.data.toList.drop 23 = dktX8_allows_1 := dk_seg dksX8_allows_0 23 rfl rfl
theorem dksX8_allows_2 : cX8_allows.data.toList.drop 46 = dktX8_allows_2 := dk_seg dksX8_allows_1 23 rfl rfl
theorem dX8_allows_0 : decode cX8_allows 0 = .ok (.iconst 0, 1) := dk_3 (dk_at dksX8_allows_0 0 rfl rfl)
theorem dX8_allows_1 : decode cX8_allows 1 = .ok (.istore_n 2, 1) := dk_61 (dk_at dksX8_allows_0 1 rfl rfl)
theorem dX8_allows_2 : decode cX8_allows 2 = .ok (.iload_n 2, 1) := dk_28 (dk_at dksX8_allows_0 2 rfl rfl)
theorem dX8_allows_3 : decode cX8_allows 3 = .ok (.aload_n 0, 1) := dk_42 (dk_at dksX8_allows_0 3 rfl rfl)
theorem dX8_allows_4 : decode cX8_allows 4 = .ok (.getfield 7, 3) := dk_180 0 7 (dk_at dksX8_allows_0 4 rfl rfl)
theorem dX8_allows_7 : decode cX8_allows 7 = .ok (.invokeinterface 13 1, 5) := by decide +kernel
theorem dX8_allows_12 : decode cX8_allows 12 = .ok (.if_icmp .ge 37, 3) := dk_162 0 37 (dk_at dksX8_allows_0 12 rfl rfl)
theorem dX8_allows_15 : decode cX8_allows 15 = .ok (.aload_n 1, 1) := dk_43 (dk_at dksX8_allows_0 15 rfl rfl)
theorem dX8_allows_16 : decode cX8_allows 16 = .ok (.getfield 19, 3) := dk_180 0 19 (dk_at dksX8_allows_0 16 rfl rfl)
theorem dX8_allows_19 : decode cX8_allows 19 = .ok (.ifCond .ne 22, 3) := dk_154 0 22 (dk_at dksX8_allows_0 19 rfl rfl)
theorem dX8_allows_22 : decode cX8_allows 22 = .ok (.aload_n 0, 1) := dk_42 (dk_at dksX8_allows_0 22 rfl rfl)
theorem dX8_allows_23 : decode cX8_allows 23 = .ok (.getfield 7, 3) := dk_180 0 7 (dk_at dksX8_allows_1 0 rfl rfl)
theorem dX8_allows_26 : decode cX8_allows 26 = .ok (.iload_n 2, 1) := dk_28 (dk_at dksX8_allows_1 3 rfl rfl)
theorem dX8_allows_27 : decode cX8_allows 27 = .ok (.invokeinterface 25 2, 5) := by decide +kernel
theorem dX8_allows_32 : decode cX8_allows 32 = .ok (.checkcast 20, 3) := dk_192 0 20 (dk_at dksX8_allows_1 9 rfl rfl)
theorem dX8_allows_35 : decode cX8_allows 35 = .ok (.getfield 19, 3) := dk_180 0 19 (dk_at dksX8_allows_1 12 rfl rfl)
theorem dX8_allows_38 : decode cX8_allows 38 = .ok (.ifCond .eq 5, 3) := dk_153 0 5 (dk_at dksX8_allows_1 15 rfl rfl)
theorem dX8_allows_41 : decode cX8_allows 41 = .ok (.iconst 0, 1) := dk_3 (dk_at dksX8_allows_1 18 rfl rfl)
theorem dX8_allows_42 : decode cX8_allows 42 = .ok (.ireturn, 1) := dk_172 (dk_at dksX8_allows_1 19 rfl rfl)
theorem dX8_allows_43 : decode cX8_allows 43 = .ok (.iinc 2 1, 3) := dk_132 2 1 (dk_at dksX8_allows_1 20 rfl rfl)
theorem dX8_allows_46 : decode cX8_allows 46 = .ok (.goto (-44), 3) := dk_167 255 212 (dk_at dksX8_allows_2 0 rfl rfl)
theorem dX8_allows_49 : decode cX8_allows 49 = .ok (.iconst 1, 1) := dk_4 (dk_at dksX8_allows_2 3 rfl rfl)
theorem dX8_allows_50 : decode cX8_allows 50 = .ok (.ireturn, 1) := dk_172 (dk_at dksX8_allows_2 4 rfl rfl)
theorem q31 : (Jvm.Cond.initialized "InitiatorRows$AloneRule") ∈ lw_all := lw_g (lw_at lw_m1 11 rfl) rfl
theorem q101 : (Jvm.Cond.fieldLink "InitiatorRows$AloneRule" (7 : Nat) "InitiatorRows$AloneRule" "running" "Ljava/util/List;") ∈ lw_all := lw_g (lw_at lw_m1 81 rfl) rfl
theorem q102 : (Jvm.Cond.sameField "InitiatorRows$AloneRule" "InitiatorRows$RunningRule" "running" "Ljava/util/List;") ∈ lw_all := lw_g (lw_at lw_m1 82 rfl) rfl
theorem q151 : (Jvm.Cond.instantiable "InitiatorRows$AloneRule" (1 : Nat)) ∈ lw_all := lw_g (lw_at lw_m1 131 rfl) rfl
theorem q153 : (Jvm.Cond.instanceMethod ({ cls := "InitiatorRows$AloneRule", name := "<init>", desc := "(Ljava/util/List;)V" } : Jvm.MethodName)) ∈ lw_all := lw_g (lw_at lw_m1 133 rfl) rfl
theorem q154 : (Jvm.Cond.code ({ cls := "InitiatorRows$AloneRule", name := "<init>", desc := "(Ljava/util/List;)V" } : Jvm.MethodName) prog_3_method_1_code (2 : Nat) (Option.none : Option Jvm.ClassFile.FieldType)) ∈ lw_all := lw_g (lw_at lw_m1 134 rfl) rfl
theorem q155 : (Jvm.Cond.methodLink "InitiatorRows$AloneRule" (1 : Nat) ({ cls := "InitiatorRows$RunningRule", name := "<init>", desc := "(Ljava/util/List;)V" } : Jvm.MethodName)) ∈ lw_all := lw_g (lw_at lw_m1 135 rfl) rfl
theorem q156 : (Jvm.Cond.laysFinal "InitiatorRows$AloneRule" "InitiatorRows$RunningRule" "running" "Ljava/util/List;") ∈ lw_all := lw_g (lw_at lw_m1 136 rfl) rfl
theorem q157 : (Jvm.Cond.superclass "InitiatorRows$AloneRule" "InitiatorRows$RunningRule") ∈ lw_all := lw_g (lw_at lw_m1 137 rfl) rfl
theorem q291 : (Jvm.Cond.selects "InitiatorRows$AloneRule" ({ cls := "java/lang/Object", name := "getClass", desc := "()Ljava/lang/Class;" } : Jvm.MethodName) ({ cls := "java/lang/Object", name := "getClass", desc := "()Ljava/lang/Class;" } : Jvm.MethodName)) ∈ lw_all := lw_g (lw_at lw_m2 31 rfl) rfl
theorem q401 : (Jvm.Cond.fieldLinkNest "InitiatorRows$AloneRule" (19 : Nat) "InitiatorRows$Job" "alone" "Z" "InitiatorRows") ∈ lw_tbl := lw_at lw_m2 141 rfl
theorem q475 : (Jvm.Cond.selects "InitiatorRows$AloneRule" ({ cls := "java/lang/Object", name := "equals", desc := "(Ljava/lang/Object;)Z" } : Jvm.MethodName) ({ cls := "java/lang/Object", name := "equals", desc := "(Ljava/lang/Object;)Z" } : Jvm.MethodName)) ∈ lw_all := lw_g (lw_at lw_m2 215 rfl) rfl
theorem q530 : (Jvm.Cond.castable "InitiatorRows$AloneRule" "InitiatorRows$Rule") ∈ lw_tbl := lw_at lw_m3 30 rfl
theorem q531 : (Jvm.Cond.selects "InitiatorRows$AloneRule" ({ cls := "InitiatorRows$Rule", name := "allows", desc := "(LInitiatorRows$Job;)Z" } : Jvm.MethodName) ({ cls := "InitiatorRows$AloneRule", name := "allows", desc := "(LInitiatorRows$Job;)Z" } : Jvm.MethodName)) ∈ lw_all := lw_g (lw_at lw_m3 31 rfl) rfl
theorem q532 : (Jvm.Cond.unhidden "InitiatorRows$AloneRule" "allows" "(LInitiatorRows$Job;)Z") ∈ lw_tbl := lw_at lw_m3 32 rfl
theorem q533 : (Jvm.Cond.instanceMethod ({ cls := "InitiatorRows$AloneRule", name := "allows", desc := "(LInitiatorRows$Job;)Z" } : Jvm.MethodName)) ∈ lw_all := lw_g (lw_at lw_m3 33 rfl) rfl
theorem q534 : (Jvm.Cond.publicMethod ({ cls := "InitiatorRows$AloneRule", name := "allows", desc := "(LInitiatorRows$Job;)Z" } : Jvm.MethodName)) ∈ lw_tbl := lw_at lw_m3 34 rfl
theorem q535 : (Jvm.Cond.code ({ cls := "InitiatorRows$AloneRule", name := "allows", desc := "(LInitiatorRows$Job;)Z" } : Jvm.MethodName) prog_3_method_2_code (3 : Nat) (Option.some Jvm.ClassFile.FieldType.boolean)) ∈ lw_all := lw_g (lw_at lw_m3 35 rfl) rfl
theorem q536 : (Jvm.Cond.interfaceEntry "InitiatorRows$AloneRule" (13 : Nat)) ∈ lw_tbl := lw_at lw_m3 36 rfl
theorem q537 : (Jvm.Cond.methodLink "InitiatorRows$AloneRule" (13 : Nat) ({ cls := "java/util/List", name := "size", desc := "()I" } : Jvm.MethodName)) ∈ lw_all := lw_g (lw_at lw_m3 37 rfl) rfl
theorem q538 : (Jvm.Cond.interfaceEntry "InitiatorRows$AloneRule" (25 : Nat)) ∈ lw_tbl := lw_at lw_m3 38 rfl
theorem q539 : (Jvm.Cond.methodLink "InitiatorRows$AloneRule" (25 : Nat) ({ cls := "java/util/List", name := "get", desc := "(I)Ljava/lang/Object;" } : Jvm.MethodName)) ∈ lw_all := lw_g (lw_at lw_m3 39 rfl) rfl
theorem q540 : (Jvm.Cond.classLink "InitiatorRows$AloneRule" (20 : Nat) "InitiatorRows$Job") ∈ lw_all := lw_g (lw_at lw_m3 40 rfl) rfl
theorem q1050 : (Jvm.Cond.castable "InitiatorRows$AloneRule" "java/lang/Object") ∈ lw_tbl := lw_at lw_m5 70 rfl
theorem in_X8 : ∀ w ∈ wsX80, w ∈ lw_all := lw_in wsX80 [156] (by decide +kernel) (by decide +kernel)
/-! InitiatorRows$Ageing -/
set_option maxRecDepth 100000
def RX9 : String := "InitiatorRows$Ageing"
def TX9 : u_T := fun k => match k with
  | 0 => ("InitiatorRows$Ageing", "per", "J", true)
  | _ => ("InitiatorRows$Ageing", "most", "I", true)
def tyX9 : Nat → FieldType := fun k => match k with
  | 0 => .long
  | _ => .int
abbrev wsX90 : List Cond := u_ws RX9 TX9 2
theorem nmX9 : ∀ a, a < 2 → ∀ b, b < 2 → a ≠ b → (TX9 a).2.1 ≠ (TX9 b).2.1 := by decide +kernel
theorem tyX9_ok : ∀ k, k < 2 → parseFieldDescriptor (TX9 k).2.2.1 = some (tyX9 k) := by decide +kernel
abbrev cX9_init : ByteArray := prog_2_method_1_code
def yX9_init : MethodName := ⟨RX9, "<init>", "(JI)V"⟩
def dkwX9_init_0 : List UInt8 := [42, 183, 0, 3, 42, 31, 181, 0, 9, 42, 29, 181, 0, 15, 177]
abbrev dktX9_init_0 : List UInt8 := dkwX9_init_0 ++ []
theorem dksX9_init_0 : cX9_init.data.toList.drop 0 = dktX9_init_0 := by decide +kernel
theorem dX9_init_0 : decode cX9_init 0 = .ok (.aload_n 0, 1) := dk_42 (dk_at dksX9_init_0 0 rfl rfl)
theorem dX9_init_1 : decode cX9_init 1 = .ok (.invokespecial 3, 3) := dk_183 0 3 (dk_at dksX9_init_0 1 rfl rfl)
theorem dX9_init_4 : decode cX9_init 4 = .ok (.aload_n 0, 1) := dk_42 (dk_at dksX9_init_0 4 rfl rfl)
theorem dX9_init_5 : decode cX9_init 5 = .ok (.lload_n 1, 1) := dk_31 (dk_at dksX9_init_0 5 rfl rfl)
theorem dX9_init_6 : decode cX9_init 6 = .ok (.putfield 9, 3) := dk_181 0 9 (dk_at dksX9_init_0 6 rfl rfl)
theorem dX9_init_9 : decode cX9_init 9 = .ok (.aload_n 0, 1) := dk_42 (dk_at dksX9_init_0 9 rfl rfl)
theorem dX9_init_10 : decode cX9_init 10 = .ok (.iload_n 3, 1) := dk_29 (dk_at dksX9_init_0 10 rfl rfl)
theorem dX9_init_11 : decode cX9_init 11 = .ok (.putfield 15, 3) := dk_181 0 15 (dk_at dksX9_init_0 11 rfl rfl)
theorem dX9_init_14 : decode cX9_init 14 = .ok (.return_, 1) := dk_177 (dk_at dksX9_init_0 14 rfl rfl)
abbrev cX9_priority : ByteArray := prog_2_method_2_code
def yX9_priority : MethodName := ⟨RX9, "priority", "(LInitiatorRows$Job;J)I"⟩
def dkwX9_priority_3 : List UInt8 := [136, 172]
abbrev dktX9_priority_3 : List UInt8 := dkwX9_priority_3 ++ []
def dkwX9_priority_2 : List UInt8 := [133, 43, 180, 0, 19, 133, 22, 4, 97, 184, 0, 29, 55, 6, 43, 180, 0, 19, 133, 22, 6, 184, 0, 35]
abbrev dktX9_priority_2 : List UInt8 := dkwX9_priority_2 ++ dktX9_priority_3
def dkwX9_priority_1 : List UInt8 := [109, 55, 4, 22, 4, 20, 0, 27, 148, 158, 0, 11, 42, 180, 0, 15, 133, 167, 0, 19, 42, 180, 0, 15]
abbrev dktX9_priority_1 : List UInt8 := dkwX9_priority_1 ++ dktX9_priority_2
def dkwX9_priority_0 : List UInt8 := [42, 180, 0, 9, 9, 148, 154, 0, 8, 43, 180, 0, 19, 172, 32, 43, 180, 0, 24, 101, 42, 180, 0, 9]
abbrev dktX9_priority_0 : List UInt8 := dkwX9_priority_0 ++ dktX9_priority_1
theorem dksX9_priority_0 : cX9_priority.data.toList.drop 0 = dktX9_priority_0 := by decide +kernel
theorem dksX9_priority_1 : cX9_priority.data.toList.drop 24 = dktX9_priority_1 := dk_seg dksX9_priority_0 24 rfl rfl
theorem dksX9_priority_2 : cX9_priority.data.toList.drop 48 = dktX9_priority_2 := dk_seg dksX9_priority_1 24 rfl rfl
theorem dksX9_priority_3 : cX9_priority.data.toList.drop 72 = dktX9_priority_3 := dk_seg dksX9_priority_2 24 rfl rfl
theorem dX9_priority_0 : decode cX9_priority 0 = .ok (.aload_n 0, 1) := dk_42 (dk_at dksX9_priority_0 0 rfl rfl)
theorem dX9_priority_1 : decode cX9_priority 1 = .ok (.getfield 9, 3) := dk_180 0 9 (dk_at dksX9_priority_0 1 rfl rfl)
theorem dX9_priority_4 : decode cX9_priority 4 = .ok (.lconst 0, 1) := dk_9 (dk_at dksX9_priority_0 4 rfl rfl)
theorem dX9_priority_5 : decode cX9_priority 5 = .ok (.lcmp, 1) := dk_148 (dk_at dksX9_priority_0 5 rfl rfl)
theorem dX9_priority_6 : decode cX9_priority 6 = .ok (.ifCond .ne 8, 3) := dk_154 0 8 (dk_at dksX9_priority_0 6 rfl rfl)
theorem dX9_priority_9 : decode cX9_priority 9 = .ok (.aload_n 1, 1) := dk_43 (dk_at dksX9_priority_0 9 rfl rfl)
theorem dX9_priority_10 : decode cX9_priority 10 = .ok (.getfield 19, 3) := dk_180 0 19 (dk_at dksX9_priority_0 10 rfl rfl)
theorem dX9_priority_13 : decode cX9_priority 13 = .ok (.ireturn, 1) := dk_172 (dk_at dksX9_priority_0 13 rfl rfl)
theorem dX9_priority_14 : decode cX9_priority 14 = .ok (.lload_n 2, 1) := dk_32 (dk_at dksX9_priority_0 14 rfl rfl)
theorem dX9_priority_15 : decode cX9_priority 15 = .ok (.aload_n 1, 1) := dk_43 (dk_at dksX9_priority_0 15 rfl rfl)
theorem dX9_priority_16 : decode cX9_priority 16 = .ok (.getfield 24, 3) := dk_180 0 24 (dk_at dksX9_priority_0 16 rfl rfl)
theorem dX9_priority_19 : decode cX9_priority 19 = .ok (.lsub, 1) := dk_101 (dk_at dksX9_priority_0 19 rfl rfl)
theorem dX9_priority_20 : decode cX9_priority 20 = .ok (.aload_n 0, 1) := dk_42 (dk_at dksX9_priority_0 20 rfl rfl)
theorem dX9_priority_21 : decode cX9_priority 21 = .ok (.getfield 9, 3) := dk_180 0 9 (dk_at dksX9_priority_0 21 rfl rfl)
theorem dX9_priority_24 : decode cX9_priority 24 = .ok (.ldiv, 1) := dk_109 (dk_at dksX9_priority_1 0 rfl rfl)
theorem dX9_priority_25 : decode cX9_priority 25 = .ok (.lstore 4, 2) := dk_55 4 (dk_at dksX9_priority_1 1 rfl rfl)
theorem dX9_priority_27 : decode cX9_priority 27 = .ok (.lload 4, 2) := dk_22 4 (dk_at dksX9_priority_1 3 rfl rfl)
theorem dX9_priority_29 : decode cX9_priority 29 = .ok (.ldc2_w 27, 3) := dk_20 0 27 (dk_at dksX9_priority_1 5 rfl rfl)
theorem dX9_priority_32 : decode cX9_priority 32 = .ok (.lcmp, 1) := dk_148 (dk_at dksX9_priority_1 8 rfl rfl)
theorem dX9_priority_33 : decode cX9_priority 33 = .ok (.ifCond .le 11, 3) := dk_158 0 11 (dk_at dksX9_priority_1 9 rfl rfl)
theorem dX9_priority_36 : decode cX9_priority 36 = .ok (.aload_n 0, 1) := dk_42 (dk_at dksX9_priority_1 12 rfl rfl)
theorem dX9_priority_37 : decode cX9_priority 37 = .ok (.getfield 15, 3) := dk_180 0 15 (dk_at dksX9_priority_1 13 rfl rfl)
theorem dX9_priority_40 : decode cX9_priority 40 = .ok (.i2l, 1) := dk_133 (dk_at dksX9_priority_1 16 rfl rfl)
theorem dX9_priority_41 : decode cX9_priority 41 = .ok (.goto 19, 3) := dk_167 0 19 (dk_at dksX9_priority_1 17 rfl rfl)
theorem dX9_priority_44 : decode cX9_priority 44 = .ok (.aload_n 0, 1) := dk_42 (dk_at dksX9_priority_1 20 rfl rfl)
theorem dX9_priority_45 : decode cX9_priority 45 = .ok (.getfield 15, 3) := dk_180 0 15 (dk_at dksX9_priority_1 21 rfl rfl)
theorem dX9_priority_48 : decode cX9_priority 48 = .ok (.i2l, 1) := dk_133 (dk_at dksX9_priority_2 0 rfl rfl)
theorem dX9_priority_49 : decode cX9_priority 49 = .ok (.aload_n 1, 1) := dk_43 (dk_at dksX9_priority_2 1 rfl rfl)
theorem dX9_priority_50 : decode cX9_priority 50 = .ok (.getfield 19, 3) := dk_180 0 19 (dk_at dksX9_priority_2 2 rfl rfl)
theorem dX9_priority_53 : decode cX9_priority 53 = .ok (.i2l, 1) := dk_133 (dk_at dksX9_priority_2 5 rfl rfl)
theorem dX9_priority_54 : decode cX9_priority 54 = .ok (.lload 4, 2) := dk_22 4 (dk_at dksX9_priority_2 6 rfl rfl)
theorem dX9_priority_56 : decode cX9_priority 56 = .ok (.ladd, 1) := dk_97 (dk_at dksX9_priority_2 8 rfl rfl)
theorem dX9_priority_57 : decode cX9_priority 57 = .ok (.invokestatic 29, 3) := dk_184 0 29 (dk_at dksX9_priority_2 9 rfl rfl)
theorem dX9_priority_60 : decode cX9_priority 60 = .ok (.lstore 6, 2) := dk_55 6 (dk_at dksX9_priority_2 12 rfl rfl)
theorem dX9_priority_62 : decode cX9_priority 62 = .ok (.aload_n 1, 1) := dk_43 (dk_at dksX9_priority_2 14 rfl rfl)
theorem dX9_priority_63 : decode cX9_priority 63 = .ok (.getfield 19, 3) := dk_180 0 19 (dk_at dksX9_priority_2 15 rfl rfl)
theorem dX9_priority_66 : decode cX9_priority 66 = .ok (.i2l, 1) := dk_133 (dk_at dksX9_priority_2 18 rfl rfl)
theorem dX9_priority_67 : decode cX9_priority 67 = .ok (.lload 6, 2) := dk_22 6 (dk_at dksX9_priority_2 19 rfl rfl)
theorem dX9_priority_69 : decode cX9_priority 69 = .ok (.invokestatic 35, 3) := dk_184 0 35 (dk_at dksX9_priority_2 21 rfl rfl)
theorem dX9_priority_72 : decode cX9_priority 72 = .ok (.l2i, 1) := dk_136 (dk_at dksX9_priority_3 0 rfl rfl)
theorem dX9_priority_73 : decode cX9_priority 73 = .ok (.ireturn, 1) := dk_172 (dk_at dksX9_priority_3 1 rfl rfl)
theorem q32 : (Jvm.Cond.initialized "InitiatorRows$Ageing") ∈ lw_all := lw_g (lw_at lw_m1 12 rfl) rfl
theorem q159 : (Jvm.Cond.instantiable "InitiatorRows$Ageing" (2 : Nat)) ∈ lw_all := lw_g (lw_at lw_m1 139 rfl) rfl
theorem q161 : (Jvm.Cond.instanceMethod ({ cls := "InitiatorRows$Ageing", name := "<init>", desc := "(JI)V" } : Jvm.MethodName)) ∈ lw_all := lw_g (lw_at lw_m1 141 rfl) rfl
theorem q162 : (Jvm.Cond.code ({ cls := "InitiatorRows$Ageing", name := "<init>", desc := "(JI)V" } : Jvm.MethodName) prog_2_method_1_code (4 : Nat) (Option.none : Option Jvm.ClassFile.FieldType)) ∈ lw_all := lw_g (lw_at lw_m1 142 rfl) rfl
theorem q163 : (Jvm.Cond.methodLink "InitiatorRows$Ageing" (3 : Nat) ({ cls := "java/lang/Object", name := "<init>", desc := "()V" } : Jvm.MethodName)) ∈ lw_all := lw_g (lw_at lw_m1 143 rfl) rfl
theorem q164 : (Jvm.Cond.fieldLink "InitiatorRows$Ageing" (9 : Nat) "InitiatorRows$Ageing" "per" "J") ∈ lw_all := lw_g (lw_at lw_m1 144 rfl) rfl
theorem q165 : (Jvm.Cond.fieldLink "InitiatorRows$Ageing" (15 : Nat) "InitiatorRows$Ageing" "most" "I") ∈ lw_all := lw_g (lw_at lw_m1 145 rfl) rfl
theorem q166 : (Jvm.Cond.laysFinal "InitiatorRows$Ageing" "InitiatorRows$Ageing" "per" "J") ∈ lw_all := lw_g (lw_at lw_m1 146 rfl) rfl
theorem q167 : (Jvm.Cond.soleField "InitiatorRows$Ageing" "per") ∈ lw_all := lw_g (lw_at lw_m1 147 rfl) rfl
theorem q168 : (Jvm.Cond.laysFinal "InitiatorRows$Ageing" "InitiatorRows$Ageing" "most" "I") ∈ lw_all := lw_g (lw_at lw_m1 148 rfl) rfl
theorem q169 : (Jvm.Cond.soleField "InitiatorRows$Ageing" "most") ∈ lw_all := lw_g (lw_at lw_m1 149 rfl) rfl
theorem q170 : (Jvm.Cond.superclass "InitiatorRows$Ageing" "java/lang/Object") ∈ lw_all := lw_g (lw_at lw_m1 150 rfl) rfl
theorem q290 : (Jvm.Cond.selects "InitiatorRows$Ageing" ({ cls := "java/lang/Object", name := "getClass", desc := "()Ljava/lang/Class;" } : Jvm.MethodName) ({ cls := "java/lang/Object", name := "getClass", desc := "()Ljava/lang/Class;" } : Jvm.MethodName)) ∈ lw_all := lw_g (lw_at lw_m2 30 rfl) rfl
theorem q385 : (Jvm.Cond.fieldLinkNest "InitiatorRows$Ageing" (19 : Nat) "InitiatorRows$Job" "priority" "I" "InitiatorRows") ∈ lw_tbl := lw_at lw_m2 125 rfl
theorem q389 : (Jvm.Cond.fieldLinkNest "InitiatorRows$Ageing" (24 : Nat) "InitiatorRows$Job" "arrived" "J" "InitiatorRows") ∈ lw_tbl := lw_at lw_m2 129 rfl
theorem q474 : (Jvm.Cond.selects "InitiatorRows$Ageing" ({ cls := "java/lang/Object", name := "equals", desc := "(Ljava/lang/Object;)Z" } : Jvm.MethodName) ({ cls := "java/lang/Object", name := "equals", desc := "(Ljava/lang/Object;)Z" } : Jvm.MethodName)) ∈ lw_all := lw_g (lw_at lw_m2 214 rfl) rfl
theorem q599 : (Jvm.Cond.instanceMethod ({ cls := "InitiatorRows$Ageing", name := "priority", desc := "(LInitiatorRows$Job;J)I" } : Jvm.MethodName)) ∈ lw_all := lw_g (lw_at lw_m3 99 rfl) rfl
theorem q600 : (Jvm.Cond.selects "InitiatorRows$Ageing" ({ cls := "InitiatorRows$Ageing", name := "priority", desc := "(LInitiatorRows$Job;J)I" } : Jvm.MethodName) ({ cls := "InitiatorRows$Ageing", name := "priority", desc := "(LInitiatorRows$Job;J)I" } : Jvm.MethodName)) ∈ lw_all := lw_g (lw_at lw_m3 100 rfl) rfl
theorem q601 : (Jvm.Cond.code ({ cls := "InitiatorRows$Ageing", name := "priority", desc := "(LInitiatorRows$Job;J)I" } : Jvm.MethodName) prog_2_method_2_code (8 : Nat) (Option.some Jvm.ClassFile.FieldType.int)) ∈ lw_all := lw_g (lw_at lw_m3 101 rfl) rfl
theorem q602 : (Jvm.Cond.constantLong "InitiatorRows$Ageing" (27 : Nat) (15 : Int64)) ∈ lw_all := lw_g (lw_at lw_m3 102 rfl) rfl
theorem q603 : (Jvm.Cond.methodLink "InitiatorRows$Ageing" (29 : Nat) ({ cls := "java/lang/Math", name := "min", desc := "(JJ)J" } : Jvm.MethodName)) ∈ lw_all := lw_g (lw_at lw_m3 103 rfl) rfl
theorem q606 : (Jvm.Cond.methodLink "InitiatorRows$Ageing" (35 : Nat) ({ cls := "java/lang/Math", name := "max", desc := "(JJ)J" } : Jvm.MethodName)) ∈ lw_all := lw_g (lw_at lw_m3 106 rfl) rfl
theorem q1051 : (Jvm.Cond.castable "InitiatorRows$Ageing" "java/lang/Object") ∈ lw_tbl := lw_at lw_m5 71 rfl
theorem in_X9 : ∀ w ∈ wsX90, w ∈ lw_all := lw_in wsX90 [166, 168] (by decide +kernel) (by decide +kernel)
/-! InitiatorRows$Cls -/
set_option maxRecDepth 100000
def RX10 : String := "InitiatorRows$Cls"
def TX10 : u_T := fun k => match k with
  | 0 => ("InitiatorRows$Cls", "limit", "I", false)
  | 1 => ("InitiatorRows$Cls", "from", "I", false)
  | 2 => ("InitiatorRows$Cls", "to", "I", false)
  | _ => ("InitiatorRows$Cls", "weight", "I", false)
def tyX10 : Nat → FieldType := fun k => match k with
  | 0 => .int
  | 1 => .int
  | 2 => .int
  | _ => .int
abbrev wsX100 : List Cond := u_ws RX10 TX10 4
theorem nmX10 : ∀ a, a < 4 → ∀ b, b < 4 → a ≠ b → (TX10 a).2.1 ≠ (TX10 b).2.1 := by decide +kernel
theorem tyX10_ok : ∀ k, k < 4 → parseFieldDescriptor (TX10 k).2.2.1 = some (tyX10 k) := by decide +kernel
abbrev cX10_init : ByteArray := prog_4_method_1_code
def yX10_init : MethodName := ⟨RX10, "<init>", "()V"⟩
def dkwX10_init_0 : List UInt8 := [42, 183, 0, 3, 42, 16, 40, 181, 0, 9, 177]
abbrev dktX10_init_0 : List UInt8 := dkwX10_init_0 ++ []
theorem dksX10_init_0 : cX10_init.data.toList.drop 0 = dktX10_init_0 := by decide +kernel
theorem dX10_init_0 : decode cX10_init 0 = .ok (.aload_n 0, 1) := dk_42 (dk_at dksX10_init_0 0 rfl rfl)
theorem dX10_init_1 : decode cX10_init 1 = .ok (.invokespecial 3, 3) := dk_183 0 3 (dk_at dksX10_init_0 1 rfl rfl)
theorem dX10_init_4 : decode cX10_init 4 = .ok (.aload_n 0, 1) := dk_42 (dk_at dksX10_init_0 4 rfl rfl)
theorem dX10_init_5 : decode cX10_init 5 = .ok (.bipush 40, 2) := dk_16 40 (dk_at dksX10_init_0 5 rfl rfl)
theorem dX10_init_7 : decode cX10_init 7 = .ok (.putfield 9, 3) := dk_181 0 9 (dk_at dksX10_init_0 7 rfl rfl)
theorem dX10_init_10 : decode cX10_init 10 = .ok (.return_, 1) := dk_177 (dk_at dksX10_init_0 10 rfl rfl)
abbrev cX10_isOpen : ByteArray := prog_4_method_2_code
def yX10_isOpen : MethodName := ⟨RX10, "isOpen", "(I)Z"⟩
def dkwX10_isOpen_2 : List UInt8 := [27, 42, 180, 0, 15, 162, 0, 11, 27, 42, 180, 0, 18, 162, 0, 7, 4, 167, 0, 4, 3, 172]
abbrev dktX10_isOpen_2 : List UInt8 := dkwX10_isOpen_2 ++ []
def dkwX10_isOpen_1 : List UInt8 := [27, 42, 180, 0, 15, 161, 0, 15, 27, 42, 180, 0, 18, 162, 0, 7, 4, 167, 0, 28, 3, 167, 0, 24]
abbrev dktX10_isOpen_1 : List UInt8 := dkwX10_isOpen_1 ++ dktX10_isOpen_2
def dkwX10_isOpen_0 : List UInt8 := [42, 180, 0, 15, 42, 180, 0, 18, 160, 0, 5, 4, 172, 42, 180, 0, 15, 42, 180, 0, 18, 162, 0, 27]
abbrev dktX10_isOpen_0 : List UInt8 := dkwX10_isOpen_0 ++ dktX10_isOpen_1
theorem dksX10_isOpen_0 : cX10_isOpen.data.toList.drop 0 = dktX10_isOpen_0 := by decide +kernel
theorem dksX10_isOpen_1 : cX10_isOpen.data.toList.drop 24 = dktX10_isOpen_1 := dk_seg dksX10_isOpen_0 24 rfl rfl
theorem dksX10_isOpen_2 : cX10_isOpen.data.toList.drop 48 = dktX10_isOpen_2 := dk_seg dksX10_isOpen_1 24 rfl rfl
theorem dX10_isOpen_0 : decode cX10_isOpen 0 = .ok (.aload_n 0, 1) := dk_42 (dk_at dksX10_isOpen_0 0 rfl rfl)
theorem dX10_isOpen_1 : decode cX10_isOpen 1 = .ok (.getfield 15, 3) := dk_180 0 15 (dk_at dksX10_isOpen_0 1 rfl rfl)
theorem dX10_isOpen_4 : decode cX10_isOpen 4 = .ok (.aload_n 0, 1) := dk_42 (dk_at dksX10_isOpen_0 4 rfl rfl)
theorem dX10_isOpen_5 : decode cX10_isOpen 5 = .ok (.getfield 18, 3) := dk_180 0 18 (dk_at dksX10_isOpen_0 5 rfl rfl)
theorem dX10_isOpen_8 : decode cX10_isOpen 8 = .ok (.if_icmp .ne 5, 3) := dk_160 0 5 (dk_at dksX10_isOpen_0 8 rfl rfl)
theorem dX10_isOpen_11 : decode cX10_isOpen 11 = .ok (.iconst 1, 1) := dk_4 (dk_at dksX10_isOpen_0 11 rfl rfl)
theorem dX10_isOpen_12 : decode cX10_isOpen 12 = .ok (.ireturn, 1) := dk_172 (dk_at dksX10_isOpen_0 12 rfl rfl)
theorem dX10_isOpen_13 : decode cX10_isOpen 13 = .ok (.aload_n 0, 1) := dk_42 (dk_at dksX10_isOpen_0 13 rfl rfl)
theorem dX10_isOpen_14 : decode cX10_isOpen 14 = .ok (.getfield 15, 3) := dk_180 0 15 (dk_at dksX10_isOpen_0 14 rfl rfl)
theorem dX10_isOpen_17 : decode cX10_isOpen 17 = .ok (.aload_n 0, 1) := dk_42 (dk_at dksX10_isOpen_0 17 rfl rfl)
theorem dX10_isOpen_18 : decode cX10_isOpen 18 = .ok (.getfield 18, 3) := dk_180 0 18 (dk_at dksX10_isOpen_0 18 rfl rfl)
theorem dX10_isOpen_21 : decode cX10_isOpen 21 = .ok (.if_icmp .ge 27, 3) := dk_162 0 27 (dk_at dksX10_isOpen_0 21 rfl rfl)
theorem dX10_isOpen_24 : decode cX10_isOpen 24 = .ok (.iload_n 1, 1) := dk_27 (dk_at dksX10_isOpen_1 0 rfl rfl)
theorem dX10_isOpen_25 : decode cX10_isOpen 25 = .ok (.aload_n 0, 1) := dk_42 (dk_at dksX10_isOpen_1 1 rfl rfl)
theorem dX10_isOpen_26 : decode cX10_isOpen 26 = .ok (.getfield 15, 3) := dk_180 0 15 (dk_at dksX10_isOpen_1 2 rfl rfl)
theorem dX10_isOpen_29 : decode cX10_isOpen 29 = .ok (.if_icmp .lt 15, 3) := dk_161 0 15 (dk_at dksX10_isOpen_1 5 rfl rfl)
theorem dX10_isOpen_32 : decode cX10_isOpen 32 = .ok (.iload_n 1, 1) := dk_27 (dk_at dksX10_isOpen_1 8 rfl rfl)
theorem dX10_isOpen_33 : decode cX10_isOpen 33 = .ok (.aload_n 0, 1) := dk_42 (dk_at dksX10_isOpen_1 9 rfl rfl)
theorem dX10_isOpen_34 : decode cX10_isOpen 34 = .ok (.getfield 18, 3) := dk_180 0 18 (dk_at dksX10_isOpen_1 10 rfl rfl)
theorem dX10_isOpen_37 : decode cX10_isOpen 37 = .ok (.if_icmp .ge 7, 3) := dk_162 0 7 (dk_at dksX10_isOpen_1 13 rfl rfl)
theorem dX10_isOpen_40 : decode cX10_isOpen 40 = .ok (.iconst 1, 1) := dk_4 (dk_at dksX10_isOpen_1 16 rfl rfl)
theorem dX10_isOpen_41 : decode cX10_isOpen 41 = .ok (.goto 28, 3) := dk_167 0 28 (dk_at dksX10_isOpen_1 17 rfl rfl)
theorem dX10_isOpen_44 : decode cX10_isOpen 44 = .ok (.iconst 0, 1) := dk_3 (dk_at dksX10_isOpen_1 20 rfl rfl)
theorem dX10_isOpen_45 : decode cX10_isOpen 45 = .ok (.goto 24, 3) := dk_167 0 24 (dk_at dksX10_isOpen_1 21 rfl rfl)
theorem dX10_isOpen_48 : decode cX10_isOpen 48 = .ok (.iload_n 1, 1) := dk_27 (dk_at dksX10_isOpen_2 0 rfl rfl)
theorem dX10_isOpen_49 : decode cX10_isOpen 49 = .ok (.aload_n 0, 1) := dk_42 (dk_at dksX10_isOpen_2 1 rfl rfl)
theorem dX10_isOpen_50 : decode cX10_isOpen 50 = .ok (.getfield 15, 3) := dk_180 0 15 (dk_at dksX10_isOpen_2 2 rfl rfl)
theorem dX10_isOpen_53 : decode cX10_isOpen 53 = .ok (.if_icmp .ge 11, 3) := dk_162 0 11 (dk_at dksX10_isOpen_2 5 rfl rfl)
theorem dX10_isOpen_56 : decode cX10_isOpen 56 = .ok (.iload_n 1, 1) := dk_27 (dk_at dksX10_isOpen_2 8 rfl rfl)
theorem dX10_isOpen_57 : decode cX10_isOpen 57 = .ok (.aload_n 0, 1) := dk_42 (dk_at dksX10_isOpen_2 9 rfl rfl)
theorem dX10_isOpen_58 : decode cX10_isOpen 58 = .ok (.getfield 18, 3) := dk_180 0 18 (dk_at dksX10_isOpen_2 10 rfl rfl)
theorem dX10_isOpen_61 : decode cX10_isOpen 61 = .ok (.if_icmp .ge 7, 3) := dk_162 0 7 (dk_at dksX10_isOpen_2 13 rfl rfl)
theorem dX10_isOpen_64 : decode cX10_isOpen 64 = .ok (.iconst 1, 1) := dk_4 (dk_at dksX10_isOpen_2 16 rfl rfl)
theorem dX10_isOpen_65 : decode cX10_isOpen 65 = .ok (.goto 4, 3) := dk_167 0 4 (dk_at dksX10_isOpen_2 17 rfl rfl)
theorem dX10_isOpen_68 : decode cX10_isOpen 68 = .ok (.iconst 0, 1) := dk_3 (dk_at dksX10_isOpen_2 20 rfl rfl)
theorem dX10_isOpen_69 : decode cX10_isOpen 69 = .ok (.ireturn, 1) := dk_172 (dk_at dksX10_isOpen_2 21 rfl rfl)
theorem q33 : (Jvm.Cond.initialized "InitiatorRows$Cls") ∈ lw_all := lw_g (lw_at lw_m1 13 rfl) rfl
theorem q171 : (Jvm.Cond.instantiable "InitiatorRows$Cls" (4 : Nat)) ∈ lw_all := lw_g (lw_at lw_m1 151 rfl) rfl
theorem q173 : (Jvm.Cond.instanceMethod ({ cls := "InitiatorRows$Cls", name := "<init>", desc := "()V" } : Jvm.MethodName)) ∈ lw_all := lw_g (lw_at lw_m1 153 rfl) rfl
theorem q174 : (Jvm.Cond.code ({ cls := "InitiatorRows$Cls", name := "<init>", desc := "()V" } : Jvm.MethodName) prog_4_method_1_code (1 : Nat) (Option.none : Option Jvm.ClassFile.FieldType)) ∈ lw_all := lw_g (lw_at lw_m1 154 rfl) rfl
theorem q175 : (Jvm.Cond.methodLink "InitiatorRows$Cls" (3 : Nat) ({ cls := "java/lang/Object", name := "<init>", desc := "()V" } : Jvm.MethodName)) ∈ lw_all := lw_g (lw_at lw_m1 155 rfl) rfl
theorem q176 : (Jvm.Cond.fieldLink "InitiatorRows$Cls" (9 : Nat) "InitiatorRows$Cls" "limit" "I") ∈ lw_all := lw_g (lw_at lw_m1 156 rfl) rfl
theorem q179 : (Jvm.Cond.fieldLink "InitiatorRows$Cls" (15 : Nat) "InitiatorRows$Cls" "from" "I") ∈ lw_all := lw_g (lw_at lw_m1 159 rfl) rfl
theorem q181 : (Jvm.Cond.fieldLink "InitiatorRows$Cls" (18 : Nat) "InitiatorRows$Cls" "to" "I") ∈ lw_all := lw_g (lw_at lw_m1 161 rfl) rfl
theorem q184 : (Jvm.Cond.lays "InitiatorRows$Cls" "InitiatorRows$Cls" "limit" "I") ∈ lw_all := lw_g (lw_at lw_m1 164 rfl) rfl
theorem q185 : (Jvm.Cond.soleField "InitiatorRows$Cls" "limit") ∈ lw_all := lw_g (lw_at lw_m1 165 rfl) rfl
theorem q186 : (Jvm.Cond.lays "InitiatorRows$Cls" "InitiatorRows$Cls" "from" "I") ∈ lw_all := lw_g (lw_at lw_m1 166 rfl) rfl
theorem q187 : (Jvm.Cond.soleField "InitiatorRows$Cls" "from") ∈ lw_all := lw_g (lw_at lw_m1 167 rfl) rfl
theorem q188 : (Jvm.Cond.lays "InitiatorRows$Cls" "InitiatorRows$Cls" "to" "I") ∈ lw_all := lw_g (lw_at lw_m1 168 rfl) rfl
theorem q189 : (Jvm.Cond.soleField "InitiatorRows$Cls" "to") ∈ lw_all := lw_g (lw_at lw_m1 169 rfl) rfl
theorem q190 : (Jvm.Cond.lays "InitiatorRows$Cls" "InitiatorRows$Cls" "weight" "I") ∈ lw_all := lw_g (lw_at lw_m1 170 rfl) rfl
theorem q191 : (Jvm.Cond.soleField "InitiatorRows$Cls" "weight") ∈ lw_all := lw_g (lw_at lw_m1 171 rfl) rfl
theorem q192 : (Jvm.Cond.superclass "InitiatorRows$Cls" "java/lang/Object") ∈ lw_all := lw_g (lw_at lw_m1 172 rfl) rfl
theorem q292 : (Jvm.Cond.selects "InitiatorRows$Cls" ({ cls := "java/lang/Object", name := "getClass", desc := "()Ljava/lang/Class;" } : Jvm.MethodName) ({ cls := "java/lang/Object", name := "getClass", desc := "()Ljava/lang/Class;" } : Jvm.MethodName)) ∈ lw_all := lw_g (lw_at lw_m2 32 rfl) rfl
theorem q476 : (Jvm.Cond.selects "InitiatorRows$Cls" ({ cls := "java/lang/Object", name := "equals", desc := "(Ljava/lang/Object;)Z" } : Jvm.MethodName) ({ cls := "java/lang/Object", name := "equals", desc := "(Ljava/lang/Object;)Z" } : Jvm.MethodName)) ∈ lw_all := lw_g (lw_at lw_m2 216 rfl) rfl
theorem q523 : (Jvm.Cond.instanceMethod ({ cls := "InitiatorRows$Cls", name := "isOpen", desc := "(I)Z" } : Jvm.MethodName)) ∈ lw_all := lw_g (lw_at lw_m3 23 rfl) rfl
theorem q524 : (Jvm.Cond.selects "InitiatorRows$Cls" ({ cls := "InitiatorRows$Cls", name := "isOpen", desc := "(I)Z" } : Jvm.MethodName) ({ cls := "InitiatorRows$Cls", name := "isOpen", desc := "(I)Z" } : Jvm.MethodName)) ∈ lw_all := lw_g (lw_at lw_m3 24 rfl) rfl
theorem q525 : (Jvm.Cond.code ({ cls := "InitiatorRows$Cls", name := "isOpen", desc := "(I)Z" } : Jvm.MethodName) prog_4_method_2_code (2 : Nat) (Option.some Jvm.ClassFile.FieldType.boolean)) ∈ lw_all := lw_g (lw_at lw_m3 25 rfl) rfl
theorem q1041 : (Jvm.Cond.castable "InitiatorRows$Cls" "java/lang/Object") ∈ lw_tbl := lw_at lw_m5 61 rfl
theorem in_X10 : ∀ w ∈ wsX100, w ∈ lw_all := lw_in wsX100 [184, 186, 188, 190] (by decide +kernel) (by decide +kernel)
/-! InitiatorRows$Initiator -/
set_option maxRecDepth 100000
def RX12 : String := "InitiatorRows$Initiator"
def TX12 : u_T := fun k => match k with
  | 0 => ("InitiatorRows$Initiator", "list", "[I", true)
  | 1 => ("InitiatorRows$Initiator", "drained", "Z", false)
  | _ => ("InitiatorRows$Initiator", "job", "LInitiatorRows$Job;", false)
def tyX12 : Nat → FieldType := fun k => match k with
  | 0 => .array .int
  | 1 => .boolean
  | _ => .object "InitiatorRows$Job"
abbrev wsX120 : List Cond := u_ws RX12 TX12 3
theorem nmX12 : ∀ a, a < 3 → ∀ b, b < 3 → a ≠ b → (TX12 a).2.1 ≠ (TX12 b).2.1 := by decide +kernel
theorem tyX12_ok : ∀ k, k < 3 → parseFieldDescriptor (TX12 k).2.2.1 = some (tyX12 k) := by decide +kernel
abbrev cX12_init : ByteArray := prog_6_method_1_code
def yX12_init : MethodName := ⟨RX12, "<init>", "()V"⟩
def dkwX12_init_1 : List UInt8 := [27, 2, 79, 132, 1, 1, 167, 255, 240, 177]
abbrev dktX12_init_1 : List UInt8 := dkwX12_init_1 ++ []
def dkwX12_init_0 : List UInt8 := [42, 183, 0, 3, 42, 16, 8, 188, 10, 181, 0, 9, 3, 60, 27, 16, 8, 162, 0, 16, 42, 180, 0, 9]
abbrev dktX12_init_0 : List UInt8 := dkwX12_init_0 ++ dktX12_init_1
theorem dksX12_init_0 : cX12_init.data.toList.drop 0 = dktX12_init_0 := by decide +kernel
theorem dksX12_init_1 : cX12_init.data.toList.drop 24 = dktX12_init_1 := dk_seg dksX12_init_0 24 rfl rfl
theorem dX12_init_0 : decode cX12_init 0 = .ok (.aload_n 0, 1) := dk_42 (dk_at dksX12_init_0 0 rfl rfl)
theorem dX12_init_1 : decode cX12_init 1 = .ok (.invokespecial 3, 3) := dk_183 0 3 (dk_at dksX12_init_0 1 rfl rfl)
theorem dX12_init_4 : decode cX12_init 4 = .ok (.aload_n 0, 1) := dk_42 (dk_at dksX12_init_0 4 rfl rfl)
theorem dX12_init_5 : decode cX12_init 5 = .ok (.bipush 8, 2) := dk_16 8 (dk_at dksX12_init_0 5 rfl rfl)
theorem dX12_init_7 : decode cX12_init 7 = .ok (.newarray .int, 2) := dk_188_10 (dk_at dksX12_init_0 7 rfl rfl)
theorem dX12_init_9 : decode cX12_init 9 = .ok (.putfield 9, 3) := dk_181 0 9 (dk_at dksX12_init_0 9 rfl rfl)
theorem dX12_init_12 : decode cX12_init 12 = .ok (.iconst 0, 1) := dk_3 (dk_at dksX12_init_0 12 rfl rfl)
theorem dX12_init_13 : decode cX12_init 13 = .ok (.istore_n 1, 1) := dk_60 (dk_at dksX12_init_0 13 rfl rfl)
theorem dX12_init_14 : decode cX12_init 14 = .ok (.iload_n 1, 1) := dk_27 (dk_at dksX12_init_0 14 rfl rfl)
theorem dX12_init_15 : decode cX12_init 15 = .ok (.bipush 8, 2) := dk_16 8 (dk_at dksX12_init_0 15 rfl rfl)
theorem dX12_init_17 : decode cX12_init 17 = .ok (.if_icmp .ge 16, 3) := dk_162 0 16 (dk_at dksX12_init_0 17 rfl rfl)
theorem dX12_init_20 : decode cX12_init 20 = .ok (.aload_n 0, 1) := dk_42 (dk_at dksX12_init_0 20 rfl rfl)
theorem dX12_init_21 : decode cX12_init 21 = .ok (.getfield 9, 3) := dk_180 0 9 (dk_at dksX12_init_0 21 rfl rfl)
theorem dX12_init_24 : decode cX12_init 24 = .ok (.iload_n 1, 1) := dk_27 (dk_at dksX12_init_1 0 rfl rfl)
theorem dX12_init_25 : decode cX12_init 25 = .ok (.iconst (-1), 1) := dk_2 (dk_at dksX12_init_1 1 rfl rfl)
theorem dX12_init_26 : decode cX12_init 26 = .ok (.iastore, 1) := dk_79 (dk_at dksX12_init_1 2 rfl rfl)
theorem dX12_init_27 : decode cX12_init 27 = .ok (.iinc 1 1, 3) := dk_132 1 1 (dk_at dksX12_init_1 3 rfl rfl)
theorem dX12_init_30 : decode cX12_init 30 = .ok (.goto (-16), 3) := dk_167 255 240 (dk_at dksX12_init_1 6 rfl rfl)
theorem dX12_init_33 : decode cX12_init 33 = .ok (.return_, 1) := dk_177 (dk_at dksX12_init_1 9 rfl rfl)
theorem q35 : (Jvm.Cond.initialized "InitiatorRows$Initiator") ∈ lw_all := lw_g (lw_at lw_m1 15 rfl) rfl
theorem q236 : (Jvm.Cond.instantiable "InitiatorRows$Initiator" (3 : Nat)) ∈ lw_all := lw_g (lw_at lw_m1 216 rfl) rfl
theorem q238 : (Jvm.Cond.instanceMethod ({ cls := "InitiatorRows$Initiator", name := "<init>", desc := "()V" } : Jvm.MethodName)) ∈ lw_all := lw_g (lw_at lw_m1 218 rfl) rfl
theorem q239 : (Jvm.Cond.code ({ cls := "InitiatorRows$Initiator", name := "<init>", desc := "()V" } : Jvm.MethodName) prog_6_method_1_code (2 : Nat) (Option.none : Option Jvm.ClassFile.FieldType)) ∈ lw_all := lw_g (lw_at lw_m1 219 rfl) rfl
theorem q240 : (Jvm.Cond.methodLink "InitiatorRows$Initiator" (3 : Nat) ({ cls := "java/lang/Object", name := "<init>", desc := "()V" } : Jvm.MethodName)) ∈ lw_all := lw_g (lw_at lw_m1 220 rfl) rfl
theorem q241 : (Jvm.Cond.fieldLink "InitiatorRows$Initiator" (9 : Nat) "InitiatorRows$Initiator" "list" "[I") ∈ lw_all := lw_g (lw_at lw_m1 221 rfl) rfl
theorem q245 : (Jvm.Cond.laysFinal "InitiatorRows$Initiator" "InitiatorRows$Initiator" "list" "[I") ∈ lw_all := lw_g (lw_at lw_m1 225 rfl) rfl
theorem q246 : (Jvm.Cond.soleField "InitiatorRows$Initiator" "list") ∈ lw_all := lw_g (lw_at lw_m1 226 rfl) rfl
theorem q247 : (Jvm.Cond.lays "InitiatorRows$Initiator" "InitiatorRows$Initiator" "drained" "Z") ∈ lw_all := lw_g (lw_at lw_m1 227 rfl) rfl
theorem q248 : (Jvm.Cond.soleField "InitiatorRows$Initiator" "drained") ∈ lw_all := lw_g (lw_at lw_m1 228 rfl) rfl
theorem q249 : (Jvm.Cond.lays "InitiatorRows$Initiator" "InitiatorRows$Initiator" "job" "LInitiatorRows$Job;") ∈ lw_all := lw_g (lw_at lw_m1 229 rfl) rfl
theorem q250 : (Jvm.Cond.soleField "InitiatorRows$Initiator" "job") ∈ lw_all := lw_g (lw_at lw_m1 230 rfl) rfl
theorem q251 : (Jvm.Cond.superclass "InitiatorRows$Initiator" "java/lang/Object") ∈ lw_all := lw_g (lw_at lw_m1 231 rfl) rfl
theorem q294 : (Jvm.Cond.selects "InitiatorRows$Initiator" ({ cls := "java/lang/Object", name := "getClass", desc := "()Ljava/lang/Class;" } : Jvm.MethodName) ({ cls := "java/lang/Object", name := "getClass", desc := "()Ljava/lang/Class;" } : Jvm.MethodName)) ∈ lw_all := lw_g (lw_at lw_m2 34 rfl) rfl
theorem q478 : (Jvm.Cond.selects "InitiatorRows$Initiator" ({ cls := "java/lang/Object", name := "equals", desc := "(Ljava/lang/Object;)Z" } : Jvm.MethodName) ({ cls := "java/lang/Object", name := "equals", desc := "(Ljava/lang/Object;)Z" } : Jvm.MethodName)) ∈ lw_all := lw_g (lw_at lw_m2 218 rfl) rfl
theorem q1053 : (Jvm.Cond.castable "InitiatorRows$Initiator" "java/lang/Object") ∈ lw_tbl := lw_at lw_m5 73 rfl
theorem in_X12 : ∀ w ∈ wsX120, w ∈ lw_all := lw_in wsX120 [245, 247, 249] (by decide +kernel) (by decide +kernel)
/-! InitiatorRows$Job -/
set_option maxRecDepth 100000
def RX13 : String := "InitiatorRows$Job"
def TX13 : u_T := fun k => match k with
  | 0 => ("InitiatorRows$Job", "number", "I", true)
  | 1 => ("InitiatorRows$Job", "cls", "I", true)
  | 2 => ("InitiatorRows$Job", "priority", "I", true)
  | 3 => ("InitiatorRows$Job", "name", "I", true)
  | 4 => ("InitiatorRows$Job", "arrived", "J", true)
  | 5 => ("InitiatorRows$Job", "needs", "Ljava/util/List;", true)
  | 6 => ("InitiatorRows$Job", "uses", "[I", true)
  | 7 => ("InitiatorRows$Job", "state", "LInitiatorRows$State;", false)
  | 8 => ("InitiatorRows$Job", "alone", "Z", false)
  | 9 => ("InitiatorRows$Job", "began", "J", false)
  | _ => ("InitiatorRows$Job", "at", "LInitiatorRows$Initiator;", false)
def tyX13 : Nat → FieldType := fun k => match k with
  | 0 => .int
  | 1 => .int
  | 2 => .int
  | 3 => .int
  | 4 => .long
  | 5 => .object "java/util/List"
  | 6 => .array .int
  | 7 => .object "InitiatorRows$State"
  | 8 => .boolean
  | 9 => .long
  | _ => .object "InitiatorRows$Initiator"
abbrev wsX130 : List Cond := u_ws RX13 TX13 11
theorem nmX13 : ∀ a, a < 11 → ∀ b, b < 11 → a ≠ b → (TX13 a).2.1 ≠ (TX13 b).2.1 := by decide +kernel
theorem tyX13_ok : ∀ k, k < 11 → parseFieldDescriptor (TX13 k).2.2.1 = some (tyX13 k) := by decide +kernel
abbrev cX13_init : ByteArray := prog_7_method_1_code
def yX13_init : MethodName := ⟨RX13, "<init>", "(IIIIJ)V"⟩
def dkwX13_init_2 : List UInt8 := [181, 0, 43, 42, 22, 5, 181, 0, 46, 177]
abbrev dktX13_init_2 : List UInt8 := dkwX13_init_2 ++ []
def dkwX13_init_1 : List UInt8 := [178, 0, 24, 181, 0, 30, 42, 27, 181, 0, 33, 42, 28, 181, 0, 37, 42, 29, 181, 0, 40, 42, 21, 4]
abbrev dktX13_init_1 : List UInt8 := dkwX13_init_1 ++ dktX13_init_2
def dkwX13_init_0 : List UInt8 := [42, 183, 0, 3, 42, 187, 0, 9, 89, 5, 183, 0, 11, 181, 0, 14, 42, 7, 188, 10, 181, 0, 20, 42]
abbrev dktX13_init_0 : List UInt8 := dkwX13_init_0 ++ dktX13_init_1
theorem dksX13_init_0 : cX13_init.data.toList.drop 0 = dktX13_init_0 := by decide +kernel
theorem dksX13_init_1 : cX13_init.data.toList.drop 24 = dktX13_init_1 := dk_seg dksX13_init_0 24 rfl rfl
theorem dksX13_init_2 : cX13_init.data.toList.drop 48 = dktX13_init_2 := dk_seg dksX13_init_1 24 rfl rfl
theorem dX13_init_0 : decode cX13_init 0 = .ok (.aload_n 0, 1) := dk_42 (dk_at dksX13_init_0 0 rfl rfl)
theorem dX13_init_1 : decode cX13_init 1 = .ok (.invokespecial 3, 3) := dk_183 0 3 (dk_at dksX13_init_0 1 rfl rfl)
theorem dX13_init_4 : decode cX13_init 4 = .ok (.aload_n 0, 1) := dk_42 (dk_at dksX13_init_0 4 rfl rfl)
theorem dX13_init_5 : decode cX13_init 5 = .ok (.new 9, 3) := dk_187 0 9 (dk_at dksX13_init_0 5 rfl rfl)
theorem dX13_init_8 : decode cX13_init 8 = .ok (.dup, 1) := dk_89 (dk_at dksX13_init_0 8 rfl rfl)
theorem dX13_init_9 : decode cX13_init 9 = .ok (.iconst 2, 1) := dk_5 (dk_at dksX13_init_0 9 rfl rfl)
theorem dX13_init_10 : decode cX13_init 10 = .ok (.invokespecial 11, 3) := dk_183 0 11 (dk_at dksX13_init_0 10 rfl rfl)
theorem dX13_init_13 : decode cX13_init 13 = .ok (.putfield 14, 3) := dk_181 0 14 (dk_at dksX13_init_0 13 rfl rfl)
theorem dX13_init_16 : decode cX13_init 16 = .ok (.aload_n 0, 1) := dk_42 (dk_at dksX13_init_0 16 rfl rfl)
theorem dX13_init_17 : decode cX13_init 17 = .ok (.iconst 4, 1) := dk_7 (dk_at dksX13_init_0 17 rfl rfl)
theorem dX13_init_18 : decode cX13_init 18 = .ok (.newarray .int, 2) := dk_188_10 (dk_at dksX13_init_0 18 rfl rfl)
theorem dX13_init_20 : decode cX13_init 20 = .ok (.putfield 20, 3) := dk_181 0 20 (dk_at dksX13_init_0 20 rfl rfl)
theorem dX13_init_23 : decode cX13_init 23 = .ok (.aload_n 0, 1) := dk_42 (dk_at dksX13_init_0 23 rfl rfl)
theorem dX13_init_24 : decode cX13_init 24 = .ok (.getstatic 24, 3) := dk_178 0 24 (dk_at dksX13_init_1 0 rfl rfl)
theorem dX13_init_27 : decode cX13_init 27 = .ok (.putfield 30, 3) := dk_181 0 30 (dk_at dksX13_init_1 3 rfl rfl)
theorem dX13_init_30 : decode cX13_init 30 = .ok (.aload_n 0, 1) := dk_42 (dk_at dksX13_init_1 6 rfl rfl)
theorem dX13_init_31 : decode cX13_init 31 = .ok (.iload_n 1, 1) := dk_27 (dk_at dksX13_init_1 7 rfl rfl)
theorem dX13_init_32 : decode cX13_init 32 = .ok (.putfield 33, 3) := dk_181 0 33 (dk_at dksX13_init_1 8 rfl rfl)
theorem dX13_init_35 : decode cX13_init 35 = .ok (.aload_n 0, 1) := dk_42 (dk_at dksX13_init_1 11 rfl rfl)
theorem dX13_init_36 : decode cX13_init 36 = .ok (.iload_n 2, 1) := dk_28 (dk_at dksX13_init_1 12 rfl rfl)
theorem dX13_init_37 : decode cX13_init 37 = .ok (.putfield 37, 3) := dk_181 0 37 (dk_at dksX13_init_1 13 rfl rfl)
theorem dX13_init_40 : decode cX13_init 40 = .ok (.aload_n 0, 1) := dk_42 (dk_at dksX13_init_1 16 rfl rfl)
theorem dX13_init_41 : decode cX13_init 41 = .ok (.iload_n 3, 1) := dk_29 (dk_at dksX13_init_1 17 rfl rfl)
theorem dX13_init_42 : decode cX13_init 42 = .ok (.putfield 40, 3) := dk_181 0 40 (dk_at dksX13_init_1 18 rfl rfl)
theorem dX13_init_45 : decode cX13_init 45 = .ok (.aload_n 0, 1) := dk_42 (dk_at dksX13_init_1 21 rfl rfl)
theorem dX13_init_46 : decode cX13_init 46 = .ok (.iload 4, 2) := dk_21 4 (dk_at dksX13_init_1 22 rfl rfl)
theorem dX13_init_48 : decode cX13_init 48 = .ok (.putfield 43, 3) := dk_181 0 43 (dk_at dksX13_init_2 0 rfl rfl)
theorem dX13_init_51 : decode cX13_init 51 = .ok (.aload_n 0, 1) := dk_42 (dk_at dksX13_init_2 3 rfl rfl)
theorem dX13_init_52 : decode cX13_init 52 = .ok (.lload 5, 2) := dk_22 5 (dk_at dksX13_init_2 4 rfl rfl)
theorem dX13_init_54 : decode cX13_init 54 = .ok (.putfield 46, 3) := dk_181 0 46 (dk_at dksX13_init_2 6 rfl rfl)
theorem dX13_init_57 : decode cX13_init 57 = .ok (.return_, 1) := dk_177 (dk_at dksX13_init_2 9 rfl rfl)
abbrev cX13_waits : ByteArray := prog_7_method_2_code
def yX13_waits : MethodName := ⟨RX13, "waits", "()Z"⟩
def dkwX13_waits_1 : List UInt8 := [3, 172]
abbrev dktX13_waits_1 : List UInt8 := dkwX13_waits_1 ++ []
def dkwX13_waits_0 : List UInt8 := [42, 180, 0, 30, 178, 0, 24, 165, 0, 13, 42, 180, 0, 30, 178, 0, 50, 166, 0, 7, 4, 167, 0, 4]
abbrev dktX13_waits_0 : List UInt8 := dkwX13_waits_0 ++ dktX13_waits_1
theorem dksX13_waits_0 : cX13_waits.data.toList.drop 0 = dktX13_waits_0 := by decide +kernel
theorem dksX13_waits_1 : cX13_waits.data.toList.drop 24 = dktX13_waits_1 := dk_seg dksX13_waits_0 24 rfl rfl
theorem dX13_waits_0 : decode cX13_waits 0 = .ok (.aload_n 0, 1) := dk_42 (dk_at dksX13_waits_0 0 rfl rfl)
theorem dX13_waits_1 : decode cX13_waits 1 = .ok (.getfield 30, 3) := dk_180 0 30 (dk_at dksX13_waits_0 1 rfl rfl)
theorem dX13_waits_4 : decode cX13_waits 4 = .ok (.getstatic 24, 3) := dk_178 0 24 (dk_at dksX13_waits_0 4 rfl rfl)
theorem dX13_waits_7 : decode cX13_waits 7 = .ok (.if_acmp .eq 13, 3) := dk_165 0 13 (dk_at dksX13_waits_0 7 rfl rfl)
theorem dX13_waits_10 : decode cX13_waits 10 = .ok (.aload_n 0, 1) := dk_42 (dk_at dksX13_waits_0 10 rfl rfl)
theorem dX13_waits_11 : decode cX13_waits 11 = .ok (.getfield 30, 3) := dk_180 0 30 (dk_at dksX13_waits_0 11 rfl rfl)
theorem dX13_waits_14 : decode cX13_waits 14 = .ok (.getstatic 50, 3) := dk_178 0 50 (dk_at dksX13_waits_0 14 rfl rfl)
theorem dX13_waits_17 : decode cX13_waits 17 = .ok (.if_acmp .ne 7, 3) := dk_166 0 7 (dk_at dksX13_waits_0 17 rfl rfl)
theorem dX13_waits_20 : decode cX13_waits 20 = .ok (.iconst 1, 1) := dk_4 (dk_at dksX13_waits_0 20 rfl rfl)
theorem dX13_waits_21 : decode cX13_waits 21 = .ok (.goto 4, 3) := dk_167 0 4 (dk_at dksX13_waits_0 21 rfl rfl)
theorem dX13_waits_24 : decode cX13_waits 24 = .ok (.iconst 0, 1) := dk_3 (dk_at dksX13_waits_1 0 rfl rfl)
theorem dX13_waits_25 : decode cX13_waits 25 = .ok (.ireturn, 1) := dk_172 (dk_at dksX13_waits_1 1 rfl rfl)
abbrev cX13_reaches : ByteArray := prog_7_method_4_code
def yX13_reaches : MethodName := ⟨RX13, "reaches", "(LInitiatorRows$Job;[Z)Z"⟩
def dkwX13_reaches_3 : List UInt8 := [132, 3, 1, 167, 255, 201, 3, 172]
abbrev dktX13_reaches_3 : List UInt8 := dkwX13_reaches_3 ++ []
def dkwX13_reaches_2 : List UInt8 := [25, 4, 180, 0, 33, 4, 100, 51, 154, 0, 15, 25, 4, 43, 44, 182, 0, 66, 153, 0, 5, 4, 172]
abbrev dktX13_reaches_2 : List UInt8 := dkwX13_reaches_2 ++ dktX13_reaches_3
def dkwX13_reaches_1 : List UInt8 := [185, 0, 56, 1, 0, 162, 0, 48, 42, 180, 0, 14, 29, 185, 0, 62, 2, 0, 192, 0, 15, 58, 4, 44]
abbrev dktX13_reaches_1 : List UInt8 := dkwX13_reaches_1 ++ dktX13_reaches_2
def dkwX13_reaches_0 : List UInt8 := [42, 43, 166, 0, 5, 4, 172, 44, 42, 180, 0, 33, 4, 100, 4, 84, 3, 62, 29, 42, 180, 0, 14]
abbrev dktX13_reaches_0 : List UInt8 := dkwX13_reaches_0 ++ dktX13_reaches_1
theorem dksX13_reaches_0 : cX13_reaches.data.toList.drop 0 = dktX13_reaches_0 := by decide +kernel
theorem dksX13_reaches_1 : cX13_reaches.data.toList.drop 23 = dktX13_reaches_1 := dk_seg dksX13_reaches_0 23 rfl rfl
theorem dksX13_reaches_2 : cX13_reaches.data.toList.drop 47 = dktX13_reaches_2 := dk_seg dksX13_reaches_1 24 rfl rfl
theorem dksX13_reaches_3 : cX13_reaches.data.toList.drop 70 = dktX13_reaches_3 := dk_seg dksX13_reaches_2 23 rfl rfl
theorem dX13_reaches_0 : decode cX13_reaches 0 = .ok (.aload_n 0, 1) := dk_42 (dk_at dksX13_reaches_0 0 rfl rfl)
theorem dX13_reaches_1 : decode cX13_reaches 1 = .ok (.aload_n 1, 1) := dk_43 (dk_at dksX13_reaches_0 1 rfl rfl)
theorem dX13_reaches_2 : decode cX13_reaches 2 = .ok (.if_acmp .ne 5, 3) := dk_166 0 5 (dk_at dksX13_reaches_0 2 rfl rfl)
theorem dX13_reaches_5 : decode cX13_reaches 5 = .ok (.iconst 1, 1) := dk_4 (dk_at dksX13_reaches_0 5 rfl rfl)
theorem dX13_reaches_6 : decode cX13_reaches 6 = .ok (.ireturn, 1) := dk_172 (dk_at dksX13_reaches_0 6 rfl rfl)
theorem dX13_reaches_7 : decode cX13_reaches 7 = .ok (.aload_n 2, 1) := dk_44 (dk_at dksX13_reaches_0 7 rfl rfl)
theorem dX13_reaches_8 : decode cX13_reaches 8 = .ok (.aload_n 0, 1) := dk_42 (dk_at dksX13_reaches_0 8 rfl rfl)
theorem dX13_reaches_9 : decode cX13_reaches 9 = .ok (.getfield 33, 3) := dk_180 0 33 (dk_at dksX13_reaches_0 9 rfl rfl)
theorem dX13_reaches_12 : decode cX13_reaches 12 = .ok (.iconst 1, 1) := dk_4 (dk_at dksX13_reaches_0 12 rfl rfl)
theorem dX13_reaches_13 : decode cX13_reaches 13 = .ok (.isub, 1) := dk_100 (dk_at dksX13_reaches_0 13 rfl rfl)
theorem dX13_reaches_14 : decode cX13_reaches 14 = .ok (.iconst 1, 1) := dk_4 (dk_at dksX13_reaches_0 14 rfl rfl)
theorem dX13_reaches_15 : decode cX13_reaches 15 = .ok (.bastore, 1) := dk_84 (dk_at dksX13_reaches_0 15 rfl rfl)
theorem dX13_reaches_16 : decode cX13_reaches 16 = .ok (.iconst 0, 1) := dk_3 (dk_at dksX13_reaches_0 16 rfl rfl)
theorem dX13_reaches_17 : decode cX13_reaches 17 = .ok (.istore_n 3, 1) := dk_62 (dk_at dksX13_reaches_0 17 rfl rfl)
theorem dX13_reaches_18 : decode cX13_reaches 18 = .ok (.iload_n 3, 1) := dk_29 (dk_at dksX13_reaches_0 18 rfl rfl)
theorem dX13_reaches_19 : decode cX13_reaches 19 = .ok (.aload_n 0, 1) := dk_42 (dk_at dksX13_reaches_0 19 rfl rfl)
theorem dX13_reaches_20 : decode cX13_reaches 20 = .ok (.getfield 14, 3) := dk_180 0 14 (dk_at dksX13_reaches_0 20 rfl rfl)
theorem dX13_reaches_23 : decode cX13_reaches 23 = .ok (.invokeinterface 56 1, 5) := by decide +kernel
theorem dX13_reaches_28 : decode cX13_reaches 28 = .ok (.if_icmp .ge 48, 3) := dk_162 0 48 (dk_at dksX13_reaches_1 5 rfl rfl)
theorem dX13_reaches_31 : decode cX13_reaches 31 = .ok (.aload_n 0, 1) := dk_42 (dk_at dksX13_reaches_1 8 rfl rfl)
theorem dX13_reaches_32 : decode cX13_reaches 32 = .ok (.getfield 14, 3) := dk_180 0 14 (dk_at dksX13_reaches_1 9 rfl rfl)
theorem dX13_reaches_35 : decode cX13_reaches 35 = .ok (.iload_n 3, 1) := dk_29 (dk_at dksX13_reaches_1 12 rfl rfl)
theorem dX13_reaches_36 : decode cX13_reaches 36 = .ok (.invokeinterface 62 2, 5) := by decide +kernel
theorem dX13_reaches_41 : decode cX13_reaches 41 = .ok (.checkcast 15, 3) := dk_192 0 15 (dk_at dksX13_reaches_1 18 rfl rfl)
theorem dX13_reaches_44 : decode cX13_reaches 44 = .ok (.astore 4, 2) := dk_58 4 (dk_at dksX13_reaches_1 21 rfl rfl)
theorem dX13_reaches_46 : decode cX13_reaches 46 = .ok (.aload_n 2, 1) := dk_44 (dk_at dksX13_reaches_1 23 rfl rfl)
theorem dX13_reaches_47 : decode cX13_reaches 47 = .ok (.aload 4, 2) := dk_25 4 (dk_at dksX13_reaches_2 0 rfl rfl)
theorem dX13_reaches_49 : decode cX13_reaches 49 = .ok (.getfield 33, 3) := dk_180 0 33 (dk_at dksX13_reaches_2 2 rfl rfl)
theorem dX13_reaches_52 : decode cX13_reaches 52 = .ok (.iconst 1, 1) := dk_4 (dk_at dksX13_reaches_2 5 rfl rfl)
theorem dX13_reaches_53 : decode cX13_reaches 53 = .ok (.isub, 1) := dk_100 (dk_at dksX13_reaches_2 6 rfl rfl)
theorem dX13_reaches_54 : decode cX13_reaches 54 = .ok (.baload, 1) := dk_51 (dk_at dksX13_reaches_2 7 rfl rfl)
theorem dX13_reaches_55 : decode cX13_reaches 55 = .ok (.ifCond .ne 15, 3) := dk_154 0 15 (dk_at dksX13_reaches_2 8 rfl rfl)
theorem dX13_reaches_58 : decode cX13_reaches 58 = .ok (.aload 4, 2) := dk_25 4 (dk_at dksX13_reaches_2 11 rfl rfl)
theorem dX13_reaches_60 : decode cX13_reaches 60 = .ok (.aload_n 1, 1) := dk_43 (dk_at dksX13_reaches_2 13 rfl rfl)
theorem dX13_reaches_61 : decode cX13_reaches 61 = .ok (.aload_n 2, 1) := dk_44 (dk_at dksX13_reaches_2 14 rfl rfl)
theorem dX13_reaches_62 : decode cX13_reaches 62 = .ok (.invokevirtual 66, 3) := dk_182 0 66 (dk_at dksX13_reaches_2 15 rfl rfl)
theorem dX13_reaches_65 : decode cX13_reaches 65 = .ok (.ifCond .eq 5, 3) := dk_153 0 5 (dk_at dksX13_reaches_2 18 rfl rfl)
theorem dX13_reaches_68 : decode cX13_reaches 68 = .ok (.iconst 1, 1) := dk_4 (dk_at dksX13_reaches_2 21 rfl rfl)
theorem dX13_reaches_69 : decode cX13_reaches 69 = .ok (.ireturn, 1) := dk_172 (dk_at dksX13_reaches_2 22 rfl rfl)
theorem dX13_reaches_70 : decode cX13_reaches 70 = .ok (.iinc 3 1, 3) := dk_132 3 1 (dk_at dksX13_reaches_3 0 rfl rfl)
theorem dX13_reaches_73 : decode cX13_reaches 73 = .ok (.goto (-55), 3) := dk_167 255 201 (dk_at dksX13_reaches_3 3 rfl rfl)
theorem dX13_reaches_76 : decode cX13_reaches 76 = .ok (.iconst 0, 1) := dk_3 (dk_at dksX13_reaches_3 6 rfl rfl)
theorem dX13_reaches_77 : decode cX13_reaches 77 = .ok (.ireturn, 1) := dk_172 (dk_at dksX13_reaches_3 7 rfl rfl)
abbrev cX13_runs : ByteArray := prog_7_method_3_code
def yX13_runs : MethodName := ⟨RX13, "runs", "()Z"⟩
def dkwX13_runs_0 : List UInt8 := [42, 180, 0, 30, 178, 0, 53, 166, 0, 7, 4, 167, 0, 4, 3, 172]
abbrev dktX13_runs_0 : List UInt8 := dkwX13_runs_0 ++ []
theorem dksX13_runs_0 : cX13_runs.data.toList.drop 0 = dktX13_runs_0 := by decide +kernel
theorem dX13_runs_0 : decode cX13_runs 0 = .ok (.aload_n 0, 1) := dk_42 (dk_at dksX13_runs_0 0 rfl rfl)
theorem dX13_runs_1 : decode cX13_runs 1 = .ok (.getfield 30, 3) := dk_180 0 30 (dk_at dksX13_runs_0 1 rfl rfl)
theorem dX13_runs_4 : decode cX13_runs 4 = .ok (.getstatic 53, 3) := dk_178 0 53 (dk_at dksX13_runs_0 4 rfl rfl)
theorem dX13_runs_7 : decode cX13_runs 7 = .ok (.if_acmp .ne 7, 3) := dk_166 0 7 (dk_at dksX13_runs_0 7 rfl rfl)
theorem dX13_runs_10 : decode cX13_runs 10 = .ok (.iconst 1, 1) := dk_4 (dk_at dksX13_runs_0 10 rfl rfl)
theorem dX13_runs_11 : decode cX13_runs 11 = .ok (.goto 4, 3) := dk_167 0 4 (dk_at dksX13_runs_0 11 rfl rfl)
theorem dX13_runs_14 : decode cX13_runs 14 = .ok (.iconst 0, 1) := dk_3 (dk_at dksX13_runs_0 14 rfl rfl)
theorem dX13_runs_15 : decode cX13_runs 15 = .ok (.ireturn, 1) := dk_172 (dk_at dksX13_runs_0 15 rfl rfl)
theorem q42 : (Jvm.Cond.initialized "InitiatorRows$Job") ∈ lw_all := lw_g (lw_at lw_m1 22 rfl) rfl
theorem q295 : (Jvm.Cond.selects "InitiatorRows$Job" ({ cls := "java/lang/Object", name := "getClass", desc := "()Ljava/lang/Class;" } : Jvm.MethodName) ({ cls := "java/lang/Object", name := "getClass", desc := "()Ljava/lang/Class;" } : Jvm.MethodName)) ∈ lw_all := lw_g (lw_at lw_m2 35 rfl) rfl
theorem q366 : (Jvm.Cond.instantiable "InitiatorRows$Job" (11 : Nat)) ∈ lw_all := lw_g (lw_at lw_m2 106 rfl) rfl
theorem q368 : (Jvm.Cond.instanceMethod ({ cls := "InitiatorRows$Job", name := "<init>", desc := "(IIIIJ)V" } : Jvm.MethodName)) ∈ lw_all := lw_g (lw_at lw_m2 108 rfl) rfl
theorem q369 : (Jvm.Cond.code ({ cls := "InitiatorRows$Job", name := "<init>", desc := "(IIIIJ)V" } : Jvm.MethodName) prog_7_method_1_code (7 : Nat) (Option.none : Option Jvm.ClassFile.FieldType)) ∈ lw_all := lw_g (lw_at lw_m2 109 rfl) rfl
theorem q370 : (Jvm.Cond.methodLink "InitiatorRows$Job" (3 : Nat) ({ cls := "java/lang/Object", name := "<init>", desc := "()V" } : Jvm.MethodName)) ∈ lw_all := lw_g (lw_at lw_m2 110 rfl) rfl
theorem q371 : (Jvm.Cond.classLink "InitiatorRows$Job" (9 : Nat) "java/util/ArrayList") ∈ lw_all := lw_g (lw_at lw_m2 111 rfl) rfl
theorem q372 : (Jvm.Cond.methodLink "InitiatorRows$Job" (11 : Nat) ({ cls := "java/util/ArrayList", name := "<init>", desc := "(I)V" } : Jvm.MethodName)) ∈ lw_all := lw_g (lw_at lw_m2 112 rfl) rfl
theorem q377 : (Jvm.Cond.fieldLink "InitiatorRows$Job" (24 : Nat) "InitiatorRows$State" "WAITS" "LInitiatorRows$State;") ∈ lw_all := lw_g (lw_at lw_m2 117 rfl) rfl
theorem q379 : (Jvm.Cond.fieldLink "InitiatorRows$Job" (33 : Nat) "InitiatorRows$Job" "number" "I") ∈ lw_all := lw_g (lw_at lw_m2 119 rfl) rfl
theorem q381 : (Jvm.Cond.fieldLink "InitiatorRows$Job" (37 : Nat) "InitiatorRows$Job" "cls" "I") ∈ lw_all := lw_g (lw_at lw_m2 121 rfl) rfl
theorem q384 : (Jvm.Cond.fieldLink "InitiatorRows$Job" (40 : Nat) "InitiatorRows$Job" "priority" "I") ∈ lw_all := lw_g (lw_at lw_m2 124 rfl) rfl
theorem q386 : (Jvm.Cond.fieldLink "InitiatorRows$Job" (43 : Nat) "InitiatorRows$Job" "name" "I") ∈ lw_all := lw_g (lw_at lw_m2 126 rfl) rfl
theorem q388 : (Jvm.Cond.fieldLink "InitiatorRows$Job" (46 : Nat) "InitiatorRows$Job" "arrived" "J") ∈ lw_all := lw_g (lw_at lw_m2 128 rfl) rfl
theorem q391 : (Jvm.Cond.fieldLink "InitiatorRows$Job" (14 : Nat) "InitiatorRows$Job" "needs" "Ljava/util/List;") ∈ lw_all := lw_g (lw_at lw_m2 131 rfl) rfl
theorem q394 : (Jvm.Cond.fieldLink "InitiatorRows$Job" (20 : Nat) "InitiatorRows$Job" "uses" "[I") ∈ lw_all := lw_g (lw_at lw_m2 134 rfl) rfl
theorem q397 : (Jvm.Cond.fieldLink "InitiatorRows$Job" (30 : Nat) "InitiatorRows$Job" "state" "LInitiatorRows$State;") ∈ lw_all := lw_g (lw_at lw_m2 137 rfl) rfl
theorem q405 : (Jvm.Cond.laysFinal "InitiatorRows$Job" "InitiatorRows$Job" "number" "I") ∈ lw_all := lw_g (lw_at lw_m2 145 rfl) rfl
theorem q406 : (Jvm.Cond.soleField "InitiatorRows$Job" "number") ∈ lw_all := lw_g (lw_at lw_m2 146 rfl) rfl
theorem q407 : (Jvm.Cond.laysFinal "InitiatorRows$Job" "InitiatorRows$Job" "cls" "I") ∈ lw_all := lw_g (lw_at lw_m2 147 rfl) rfl
theorem q408 : (Jvm.Cond.soleField "InitiatorRows$Job" "cls") ∈ lw_all := lw_g (lw_at lw_m2 148 rfl) rfl
theorem q409 : (Jvm.Cond.laysFinal "InitiatorRows$Job" "InitiatorRows$Job" "priority" "I") ∈ lw_all := lw_g (lw_at lw_m2 149 rfl) rfl
theorem q410 : (Jvm.Cond.soleField "InitiatorRows$Job" "priority") ∈ lw_all := lw_g (lw_at lw_m2 150 rfl) rfl
theorem q411 : (Jvm.Cond.laysFinal "InitiatorRows$Job" "InitiatorRows$Job" "name" "I") ∈ lw_all := lw_g (lw_at lw_m2 151 rfl) rfl
theorem q412 : (Jvm.Cond.soleField "InitiatorRows$Job" "name") ∈ lw_all := lw_g (lw_at lw_m2 152 rfl) rfl
theorem q413 : (Jvm.Cond.laysFinal "InitiatorRows$Job" "InitiatorRows$Job" "arrived" "J") ∈ lw_all := lw_g (lw_at lw_m2 153 rfl) rfl
theorem q414 : (Jvm.Cond.soleField "InitiatorRows$Job" "arrived") ∈ lw_all := lw_g (lw_at lw_m2 154 rfl) rfl
theorem q415 : (Jvm.Cond.laysFinal "InitiatorRows$Job" "InitiatorRows$Job" "needs" "Ljava/util/List;") ∈ lw_all := lw_g (lw_at lw_m2 155 rfl) rfl
theorem q416 : (Jvm.Cond.soleField "InitiatorRows$Job" "needs") ∈ lw_all := lw_g (lw_at lw_m2 156 rfl) rfl
theorem q417 : (Jvm.Cond.laysFinal "InitiatorRows$Job" "InitiatorRows$Job" "uses" "[I") ∈ lw_all := lw_g (lw_at lw_m2 157 rfl) rfl
theorem q418 : (Jvm.Cond.soleField "InitiatorRows$Job" "uses") ∈ lw_all := lw_g (lw_at lw_m2 158 rfl) rfl
theorem q419 : (Jvm.Cond.lays "InitiatorRows$Job" "InitiatorRows$Job" "state" "LInitiatorRows$State;") ∈ lw_all := lw_g (lw_at lw_m2 159 rfl) rfl
theorem q420 : (Jvm.Cond.soleField "InitiatorRows$Job" "state") ∈ lw_all := lw_g (lw_at lw_m2 160 rfl) rfl
theorem q421 : (Jvm.Cond.lays "InitiatorRows$Job" "InitiatorRows$Job" "alone" "Z") ∈ lw_all := lw_g (lw_at lw_m2 161 rfl) rfl
theorem q422 : (Jvm.Cond.soleField "InitiatorRows$Job" "alone") ∈ lw_all := lw_g (lw_at lw_m2 162 rfl) rfl
theorem q423 : (Jvm.Cond.lays "InitiatorRows$Job" "InitiatorRows$Job" "began" "J") ∈ lw_all := lw_g (lw_at lw_m2 163 rfl) rfl
theorem q424 : (Jvm.Cond.soleField "InitiatorRows$Job" "began") ∈ lw_all := lw_g (lw_at lw_m2 164 rfl) rfl
theorem q425 : (Jvm.Cond.lays "InitiatorRows$Job" "InitiatorRows$Job" "at" "LInitiatorRows$Initiator;") ∈ lw_all := lw_g (lw_at lw_m2 165 rfl) rfl
theorem q426 : (Jvm.Cond.soleField "InitiatorRows$Job" "at") ∈ lw_all := lw_g (lw_at lw_m2 166 rfl) rfl
theorem q427 : (Jvm.Cond.superclass "InitiatorRows$Job" "java/lang/Object") ∈ lw_all := lw_g (lw_at lw_m2 167 rfl) rfl
theorem q437 : (Jvm.Cond.instanceMethod ({ cls := "InitiatorRows$Job", name := "waits", desc := "()Z" } : Jvm.MethodName)) ∈ lw_all := lw_g (lw_at lw_m2 177 rfl) rfl
theorem q438 : (Jvm.Cond.selects "InitiatorRows$Job" ({ cls := "InitiatorRows$Job", name := "waits", desc := "()Z" } : Jvm.MethodName) ({ cls := "InitiatorRows$Job", name := "waits", desc := "()Z" } : Jvm.MethodName)) ∈ lw_all := lw_g (lw_at lw_m2 178 rfl) rfl
theorem q439 : (Jvm.Cond.code ({ cls := "InitiatorRows$Job", name := "waits", desc := "()Z" } : Jvm.MethodName) prog_7_method_2_code (1 : Nat) (Option.some Jvm.ClassFile.FieldType.boolean)) ∈ lw_all := lw_g (lw_at lw_m2 179 rfl) rfl
theorem q440 : (Jvm.Cond.fieldLink "InitiatorRows$Job" (50 : Nat) "InitiatorRows$State" "HELD" "LInitiatorRows$State;") ∈ lw_all := lw_g (lw_at lw_m2 180 rfl) rfl
theorem q443 : (Jvm.Cond.instanceMethod ({ cls := "InitiatorRows$Job", name := "reaches", desc := "(LInitiatorRows$Job;[Z)Z" } : Jvm.MethodName)) ∈ lw_all := lw_g (lw_at lw_m2 183 rfl) rfl
theorem q444 : (Jvm.Cond.selects "InitiatorRows$Job" ({ cls := "InitiatorRows$Job", name := "reaches", desc := "(LInitiatorRows$Job;[Z)Z" } : Jvm.MethodName) ({ cls := "InitiatorRows$Job", name := "reaches", desc := "(LInitiatorRows$Job;[Z)Z" } : Jvm.MethodName)) ∈ lw_all := lw_g (lw_at lw_m2 184 rfl) rfl
theorem q445 : (Jvm.Cond.code ({ cls := "InitiatorRows$Job", name := "reaches", desc := "(LInitiatorRows$Job;[Z)Z" } : Jvm.MethodName) prog_7_method_4_code (5 : Nat) (Option.some Jvm.ClassFile.FieldType.boolean)) ∈ lw_all := lw_g (lw_at lw_m2 185 rfl) rfl
theorem q446 : (Jvm.Cond.interfaceEntry "InitiatorRows$Job" (56 : Nat)) ∈ lw_tbl := lw_at lw_m2 186 rfl
theorem q447 : (Jvm.Cond.methodLink "InitiatorRows$Job" (56 : Nat) ({ cls := "java/util/List", name := "size", desc := "()I" } : Jvm.MethodName)) ∈ lw_all := lw_g (lw_at lw_m2 187 rfl) rfl
theorem q448 : (Jvm.Cond.interfaceEntry "InitiatorRows$Job" (62 : Nat)) ∈ lw_tbl := lw_at lw_m2 188 rfl
theorem q449 : (Jvm.Cond.methodLink "InitiatorRows$Job" (62 : Nat) ({ cls := "java/util/List", name := "get", desc := "(I)Ljava/lang/Object;" } : Jvm.MethodName)) ∈ lw_all := lw_g (lw_at lw_m2 189 rfl) rfl
theorem q450 : (Jvm.Cond.classLink "InitiatorRows$Job" (15 : Nat) "InitiatorRows$Job") ∈ lw_all := lw_g (lw_at lw_m2 190 rfl) rfl
theorem q451 : (Jvm.Cond.methodLink "InitiatorRows$Job" (66 : Nat) ({ cls := "InitiatorRows$Job", name := "reaches", desc := "(LInitiatorRows$Job;[Z)Z" } : Jvm.MethodName)) ∈ lw_all := lw_g (lw_at lw_m2 191 rfl) rfl
theorem q479 : (Jvm.Cond.selects "InitiatorRows$Job" ({ cls := "java/lang/Object", name := "equals", desc := "(Ljava/lang/Object;)Z" } : Jvm.MethodName) ({ cls := "java/lang/Object", name := "equals", desc := "(Ljava/lang/Object;)Z" } : Jvm.MethodName)) ∈ lw_all := lw_g (lw_at lw_m2 219 rfl) rfl
theorem q616 : (Jvm.Cond.instanceMethod ({ cls := "InitiatorRows$Job", name := "runs", desc := "()Z" } : Jvm.MethodName)) ∈ lw_all := lw_g (lw_at lw_m3 116 rfl) rfl
theorem q617 : (Jvm.Cond.selects "InitiatorRows$Job" ({ cls := "InitiatorRows$Job", name := "runs", desc := "()Z" } : Jvm.MethodName) ({ cls := "InitiatorRows$Job", name := "runs", desc := "()Z" } : Jvm.MethodName)) ∈ lw_all := lw_g (lw_at lw_m3 117 rfl) rfl
theorem q618 : (Jvm.Cond.code ({ cls := "InitiatorRows$Job", name := "runs", desc := "()Z" } : Jvm.MethodName) prog_7_method_3_code (1 : Nat) (Option.some Jvm.ClassFile.FieldType.boolean)) ∈ lw_all := lw_g (lw_at lw_m3 118 rfl) rfl
theorem q619 : (Jvm.Cond.fieldLink "InitiatorRows$Job" (53 : Nat) "InitiatorRows$State" "RUNS" "LInitiatorRows$State;") ∈ lw_all := lw_g (lw_at lw_m3 119 rfl) rfl
theorem q1054 : (Jvm.Cond.castable "InitiatorRows$Job" "java/lang/Object") ∈ lw_tbl := lw_at lw_m5 74 rfl
theorem in_X13 : ∀ w ∈ wsX130, w ∈ lw_all := lw_in wsX130 [405, 407, 409, 411, 413, 415, 417, 419, 421, 423, 425] (by decide +kernel) (by decide +kernel)
