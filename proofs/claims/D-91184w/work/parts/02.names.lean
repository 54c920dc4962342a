set_option maxRecDepth 100000
/-! WicketBoard -/
def RX1 : String := "WicketBoard"
def TX1 : u_T := fun k => match k with
  | 0 => ("WicketBoard", "tape", "[B", true)
  | 1 => ("WicketBoard", "length", "I", false)
  | 2 => ("WicketBoard", "size", "I", false)
  | 3 => ("WicketBoard", "all", "[LWicketBoard$Rule;", true)
  | 4 => ("WicketBoard", "law", "[I", true)
  | 5 => ("WicketBoard", "fresh", "[I", true)
  | 6 => ("WicketBoard", "broken", "LWicketBoard$Fault;", true)
  | 7 => ("WicketBoard", "fault", "I", false)
  | 8 => ("WicketBoard", "p", "I", false)
  | 9 => ("WicketBoard", "at", "I", false)
  | 10 => ("WicketBoard", "token", "I", false)
  | 11 => ("WicketBoard", "value", "I", false)
  | 12 => ("WicketBoard", "umpires", "[LWicketBoard$Umpire;", true)
  | 13 => ("WicketBoard", "games", "[LWicketBoard$Game;", true)
  | 14 => ("WicketBoard", "seats", "[I", true)
  | 15 => ("WicketBoard", "umpireMany", "I", false)
  | 16 => ("WicketBoard", "gameMany", "I", false)
  | 17 => ("WicketBoard", "week", "I", false)
  | 18 => ("WicketBoard", "given", "I", false)
  | 19 => ("WicketBoard", "cost", "[I", true)
  | 20 => ("WicketBoard", "offRow", "[I", true)
  | 21 => ("WicketBoard", "offColumn", "[I", true)
  | 22 => ("WicketBoard", "rowOf", "[I", true)
  | 23 => ("WicketBoard", "way", "[I", true)
  | 24 => ("WicketBoard", "least", "[I", true)
  | 25 => ("WicketBoard", "done", "[Z", true)
  | _ => ("WicketBoard", "kept", "[I", true)
def tyX1 : Nat → FieldType := fun k => match k with
  | 0 => .array .byte
  | 1 => .int
  | 2 => .int
  | 3 => .array (.object "WicketBoard$Rule")
  | 4 => .array .int
  | 5 => .array .int
  | 6 => .object "WicketBoard$Fault"
  | 7 => .int
  | 8 => .int
  | 9 => .int
  | 10 => .int
  | 11 => .int
  | 12 => .array (.object "WicketBoard$Umpire")
  | 13 => .array (.object "WicketBoard$Game")
  | 14 => .array .int
  | 15 => .int
  | 16 => .int
  | 17 => .int
  | 18 => .int
  | 19 => .array .int
  | 20 => .array .int
  | 21 => .array .int
  | 22 => .array .int
  | 23 => .array .int
  | 24 => .array .int
  | 25 => .array .boolean
  | _ => .array .int
abbrev wsX10 : List Cond := u_ws RX1 TX1 27
set_option maxRecDepth 100000 in
theorem nmX1 : ∀ a, a < 27 → ∀ b, b < 27 → a ≠ b → (TX1 a).2.1 ≠ (TX1 b).2.1 := by decide +kernel
set_option maxRecDepth 100000 in
theorem tyX1_ok : ∀ k, k < 27 → parseFieldDescriptor (TX1 k).2.2.1 = some (tyX1 k) := by decide +kernel
abbrev cX1_feed : ByteArray := prog_1_method_1_code
def yX1_feed : MethodName := ⟨RX1, "feed", "(IIIII)I"⟩
abbrev cX1_four : ByteArray := prog_1_method_2_code
def yX1_four : MethodName := ⟨RX1, "four", "(I)V"⟩
abbrev cX1_end : ByteArray := prog_1_method_3_code
def yX1_end : MethodName := ⟨RX1, "end", "(I)Z"⟩
abbrev cX1_rules : ByteArray := prog_1_method_10_code
def yX1_rules : MethodName := ⟨RX1, "rules", "()I"⟩
abbrev cX1_readRules : ByteArray := prog_1_method_9_code
def yX1_readRules : MethodName := ⟨RX1, "readRules", "()I"⟩
abbrev cX1_nextToken : ByteArray := prog_1_method_7_code
def yX1_nextToken : MethodName := ⟨RX1, "nextToken", "()V"⟩
abbrev cX1_peek : ByteArray := prog_1_method_4_code
def yX1_peek : MethodName := ⟨RX1, "peek", "()I"⟩
abbrev cX1_isLetter : ByteArray := prog_1_method_5_code
def yX1_isLetter : MethodName := ⟨RX1, "isLetter", "(I)Z"⟩
abbrev cX1_isDigit : ByteArray := prog_1_method_6_code
def yX1_isDigit : MethodName := ⟨RX1, "isDigit", "(I)Z"⟩
abbrev cX1_wrong : ByteArray := prog_1_method_8_code
def yX1_wrong : MethodName := ⟨RX1, "wrong", "(I)LWicketBoard$Fault;"⟩
abbrev cX1_fault : ByteArray := prog_1_method_11_code
def yX1_fault : MethodName := ⟨RX1, "fault", "()I"⟩
abbrev cX1_rule : ByteArray := prog_1_method_12_code
def yX1_rule : MethodName := ⟨RX1, "rule", "(I)I"⟩
abbrev cX1_init : ByteArray := prog_1_method_13_code
def yX1_init : MethodName := ⟨RX1, "<init>", "()V"⟩
abbrev cX1_umpire : ByteArray := prog_1_method_17_code
def yX1_umpire : MethodName := ⟨RX1, "umpire", "(IIII)I"⟩
abbrev cX1_isIn : ByteArray := prog_1_method_14_code
def yX1_isIn : MethodName := ⟨RX1, "isIn", "(III)Z"⟩
abbrev cX1_away : ByteArray := prog_1_method_18_code
def yX1_away : MethodName := ⟨RX1, "away", "(IIZ)Z"⟩
abbrev cX1_isUmpire : ByteArray := prog_1_method_15_code
def yX1_isUmpire : MethodName := ⟨RX1, "isUmpire", "(I)Z"⟩
abbrev cX1_game : ByteArray := prog_1_method_19_code
def yX1_game : MethodName := ⟨RX1, "game", "(IIIII)I"⟩
abbrev cX1_may : ByteArray := prog_1_method_24_code
def yX1_may : MethodName := ⟨RX1, "may", "(II)Z"⟩
abbrev cX1_isSeat : ByteArray := prog_1_method_16_code
def yX1_isSeat : MethodName := ⟨RX1, "isSeat", "(I)Z"⟩
abbrev cX1_mayHave : ByteArray := prog_1_method_22_code
def yX1_mayHave : MethodName := ⟨RX1, "mayHave", "(LWicketBoard$Umpire;I)Z"⟩
abbrev cX1_milesOf : ByteArray := prog_1_method_20_code
def yX1_milesOf : MethodName := ⟨RX1, "milesOf", "(LWicketBoard$Umpire;LWicketBoard$Game;)I"⟩
abbrev cX1_isTired : ByteArray := prog_1_method_21_code
def yX1_isTired : MethodName := ⟨RX1, "isTired", "(LWicketBoard$Umpire;)Z"⟩
abbrev cX1_cost : ByteArray := prog_1_method_25_code
def yX1_cost : MethodName := ⟨RX1, "cost", "(II)I"⟩
abbrev cX1_costOf : ByteArray := prog_1_method_23_code
def yX1_costOf : MethodName := ⟨RX1, "costOf", "(LWicketBoard$Umpire;I)I"⟩
abbrev cX1_send : ByteArray := prog_1_method_29_code
def yX1_send : MethodName := ⟨RX1, "send", "()I"⟩
abbrev cX1_sit : ByteArray := prog_1_method_26_code
def yX1_sit : MethodName := ⟨RX1, "sit", "(II)V"⟩
abbrev cX1_solve : ByteArray := prog_1_method_27_code
def yX1_solve : MethodName := ⟨RX1, "solve", "(II)J"⟩
abbrev cX1_enter : ByteArray := prog_1_method_28_code
def yX1_enter : MethodName := ⟨RX1, "enter", "(II)V"⟩
abbrev cX1_holds : ByteArray := prog_1_method_30_code
def yX1_holds : MethodName := ⟨RX1, "holds", "(IIIIJ)Z"⟩
abbrev cX1_off : ByteArray := prog_1_method_32_code
def yX1_off : MethodName := ⟨RX1, "off", "(I)I"⟩
abbrev cX1_cheapest : ByteArray := prog_1_method_31_code
def yX1_cheapest : MethodName := ⟨RX1, "cheapest", "(I)I"⟩
abbrev cX1_seat : ByteArray := prog_1_method_33_code
def yX1_seat : MethodName := ⟨RX1, "seat", "(I)I"⟩
abbrev cX1_mark : ByteArray := prog_1_method_34_code
def yX1_mark : MethodName := ⟨RX1, "mark", "(IIIZ)Z"⟩
abbrev cX1_next : ByteArray := prog_1_method_35_code
def yX1_next : MethodName := ⟨RX1, "next", "()I"⟩
abbrev cX1_grade : ByteArray := prog_1_method_36_code
def yX1_grade : MethodName := ⟨RX1, "grade", "(LWicketBoard$Umpire;)V"⟩
abbrev cX1_stood : ByteArray := prog_1_method_38_code
def yX1_stood : MethodName := ⟨RX1, "stood", "(II)I"⟩
abbrev cX1_together : ByteArray := prog_1_method_39_code
def yX1_together : MethodName := ⟨RX1, "together", "()I"⟩
abbrev cX1_count : ByteArray := prog_1_method_40_code
def yX1_count : MethodName := ⟨RX1, "count", "(I)I"⟩
abbrev cX1_about : ByteArray := prog_1_method_37_code
def yX1_about : MethodName := ⟨RX1, "about", "(II)I"⟩
theorem q43 : (Jvm.Cond.initialized "WicketBoard") ∈ lw_all := lw_g (lw_at lw_m1 1 rfl) rfl
theorem q61 : (Jvm.Cond.instanceMethod ({ cls := "WicketBoard", name := "feed", desc := "(IIIII)I" } : Jvm.MethodName)) ∈ lw_all := lw_g (lw_at lw_m1 19 rfl) rfl
theorem q62 : (Jvm.Cond.selects "WicketBoard" ({ cls := "WicketBoard", name := "feed", desc := "(IIIII)I" } : Jvm.MethodName) ({ cls := "WicketBoard", name := "feed", desc := "(IIIII)I" } : Jvm.MethodName)) ∈ lw_all := lw_g (lw_at lw_m1 20 rfl) rfl
theorem q63 : (Jvm.Cond.code ({ cls := "WicketBoard", name := "feed", desc := "(IIIII)I" } : Jvm.MethodName) prog_1_method_1_code (6 : Nat) (Option.some Jvm.ClassFile.FieldType.int)) ∈ lw_all := lw_g (lw_at lw_m1 21 rfl) rfl
theorem q64 : (Jvm.Cond.methodLink "WicketBoard" (7 : Nat) ({ cls := "WicketBoard", name := "four", desc := "(I)V" } : Jvm.MethodName)) ∈ lw_all := lw_g (lw_at lw_m1 22 rfl) rfl
theorem q65 : (Jvm.Cond.privateMethod ({ cls := "WicketBoard", name := "four", desc := "(I)V" } : Jvm.MethodName)) ∈ lw_tbl := lw_at lw_m1 23 rfl
theorem q66 : (Jvm.Cond.instanceMethod ({ cls := "WicketBoard", name := "four", desc := "(I)V" } : Jvm.MethodName)) ∈ lw_all := lw_g (lw_at lw_m1 24 rfl) rfl
theorem q67 : (Jvm.Cond.instantiable "WicketBoard" (27 : Nat)) ∈ lw_all := lw_g (lw_at lw_m1 25 rfl) rfl
theorem q68 : (Jvm.Cond.code ({ cls := "WicketBoard", name := "four", desc := "(I)V" } : Jvm.MethodName) prog_1_method_2_code (3 : Nat) (Option.none : Option Jvm.ClassFile.FieldType)) ∈ lw_all := lw_g (lw_at lw_m1 26 rfl) rfl
theorem q70 : (Jvm.Cond.instanceMethod ({ cls := "WicketBoard", name := "end", desc := "(I)Z" } : Jvm.MethodName)) ∈ lw_all := lw_g (lw_at lw_m1 28 rfl) rfl
theorem q71 : (Jvm.Cond.selects "WicketBoard" ({ cls := "WicketBoard", name := "end", desc := "(I)Z" } : Jvm.MethodName) ({ cls := "WicketBoard", name := "end", desc := "(I)Z" } : Jvm.MethodName)) ∈ lw_all := lw_g (lw_at lw_m1 29 rfl) rfl
theorem q72 : (Jvm.Cond.code ({ cls := "WicketBoard", name := "end", desc := "(I)Z" } : Jvm.MethodName) prog_1_method_3_code (2 : Nat) (Option.some Jvm.ClassFile.FieldType.boolean)) ∈ lw_all := lw_g (lw_at lw_m1 30 rfl) rfl
theorem q74 : (Jvm.Cond.instanceMethod ({ cls := "WicketBoard", name := "rules", desc := "()I" } : Jvm.MethodName)) ∈ lw_all := lw_g (lw_at lw_m1 32 rfl) rfl
theorem q75 : (Jvm.Cond.selects "WicketBoard" ({ cls := "WicketBoard", name := "rules", desc := "()I" } : Jvm.MethodName) ({ cls := "WicketBoard", name := "rules", desc := "()I" } : Jvm.MethodName)) ∈ lw_all := lw_g (lw_at lw_m1 33 rfl) rfl
theorem q76 : (Jvm.Cond.codeWith ({ cls := "WicketBoard", name := "rules", desc := "()I" } : Jvm.MethodName) prog_1_method_10_code (2 : Nat) (Option.some Jvm.ClassFile.FieldType.int) [((50 : Nat), (74 : Nat), (75 : Nat), (46 : Nat))]) ∈ lw_all := lw_g (lw_at lw_m1 34 rfl) rfl
theorem q77 : (Jvm.Cond.classLink "WicketBoard" (46 : Nat) "WicketBoard$Fault") ∈ lw_all := lw_g (lw_at lw_m1 35 rfl) rfl
theorem q78 : (Jvm.Cond.methodLink "WicketBoard" (87 : Nat) ({ cls := "WicketBoard", name := "readRules", desc := "()I" } : Jvm.MethodName)) ∈ lw_all := lw_g (lw_at lw_m1 36 rfl) rfl
theorem q79 : (Jvm.Cond.privateMethod ({ cls := "WicketBoard", name := "readRules", desc := "()I" } : Jvm.MethodName)) ∈ lw_tbl := lw_at lw_m1 37 rfl
theorem q80 : (Jvm.Cond.instanceMethod ({ cls := "WicketBoard", name := "readRules", desc := "()I" } : Jvm.MethodName)) ∈ lw_all := lw_g (lw_at lw_m1 38 rfl) rfl
theorem q81 : (Jvm.Cond.code ({ cls := "WicketBoard", name := "readRules", desc := "()I" } : Jvm.MethodName) prog_1_method_9_code (5 : Nat) (Option.some Jvm.ClassFile.FieldType.int)) ∈ lw_all := lw_g (lw_at lw_m1 39 rfl) rfl
theorem q82 : (Jvm.Cond.methodLink "WicketBoard" (53 : Nat) ({ cls := "WicketBoard", name := "nextToken", desc := "()V" } : Jvm.MethodName)) ∈ lw_all := lw_g (lw_at lw_m1 40 rfl) rfl
theorem q83 : (Jvm.Cond.privateMethod ({ cls := "WicketBoard", name := "nextToken", desc := "()V" } : Jvm.MethodName)) ∈ lw_tbl := lw_at lw_m1 41 rfl
theorem q84 : (Jvm.Cond.instanceMethod ({ cls := "WicketBoard", name := "nextToken", desc := "()V" } : Jvm.MethodName)) ∈ lw_all := lw_g (lw_at lw_m1 42 rfl) rfl
theorem q85 : (Jvm.Cond.code ({ cls := "WicketBoard", name := "nextToken", desc := "()V" } : Jvm.MethodName) prog_1_method_7_code (4 : Nat) (Option.none : Option Jvm.ClassFile.FieldType)) ∈ lw_all := lw_g (lw_at lw_m1 43 rfl) rfl
theorem q86 : (Jvm.Cond.methodLink "WicketBoard" (21 : Nat) ({ cls := "WicketBoard", name := "peek", desc := "()I" } : Jvm.MethodName)) ∈ lw_all := lw_g (lw_at lw_m1 44 rfl) rfl
theorem q87 : (Jvm.Cond.privateMethod ({ cls := "WicketBoard", name := "peek", desc := "()I" } : Jvm.MethodName)) ∈ lw_tbl := lw_at lw_m1 45 rfl
theorem q88 : (Jvm.Cond.instanceMethod ({ cls := "WicketBoard", name := "peek", desc := "()I" } : Jvm.MethodName)) ∈ lw_all := lw_g (lw_at lw_m1 46 rfl) rfl
theorem q89 : (Jvm.Cond.code ({ cls := "WicketBoard", name := "peek", desc := "()I" } : Jvm.MethodName) prog_1_method_4_code (1 : Nat) (Option.some Jvm.ClassFile.FieldType.int)) ∈ lw_all := lw_g (lw_at lw_m1 47 rfl) rfl
theorem q90 : (Jvm.Cond.methodLink "WicketBoard" (31 : Nat) ({ cls := "WicketBoard", name := "isLetter", desc := "(I)Z" } : Jvm.MethodName)) ∈ lw_all := lw_g (lw_at lw_m1 48 rfl) rfl
theorem q91 : (Jvm.Cond.static ({ cls := "WicketBoard", name := "isLetter", desc := "(I)Z" } : Jvm.MethodName)) ∈ lw_all := lw_g (lw_at lw_m1 49 rfl) rfl
theorem q92 : (Jvm.Cond.code ({ cls := "WicketBoard", name := "isLetter", desc := "(I)Z" } : Jvm.MethodName) prog_1_method_5_code (1 : Nat) (Option.some Jvm.ClassFile.FieldType.boolean)) ∈ lw_all := lw_g (lw_at lw_m1 50 rfl) rfl
theorem q93 : (Jvm.Cond.methodLink "WicketBoard" (35 : Nat) ({ cls := "WicketBoard", name := "isDigit", desc := "(I)Z" } : Jvm.MethodName)) ∈ lw_all := lw_g (lw_at lw_m1 51 rfl) rfl
theorem q94 : (Jvm.Cond.static ({ cls := "WicketBoard", name := "isDigit", desc := "(I)Z" } : Jvm.MethodName)) ∈ lw_all := lw_g (lw_at lw_m1 52 rfl) rfl
theorem q95 : (Jvm.Cond.code ({ cls := "WicketBoard", name := "isDigit", desc := "(I)Z" } : Jvm.MethodName) prog_1_method_6_code (1 : Nat) (Option.some Jvm.ClassFile.FieldType.boolean)) ∈ lw_all := lw_g (lw_at lw_m1 53 rfl) rfl
theorem q96 : (Jvm.Cond.methodLink "WicketBoard" (61 : Nat) ({ cls := "WicketBoard$Rule", name := "is", desc := "([BII)Z" } : Jvm.MethodName)) ∈ lw_all := lw_g (lw_at lw_m1 54 rfl) rfl
theorem q148 : (Jvm.Cond.methodLink "WicketBoard" (67 : Nat) ({ cls := "WicketBoard", name := "wrong", desc := "(I)LWicketBoard$Fault;" } : Jvm.MethodName)) ∈ lw_all := lw_g (lw_at lw_m1 106 rfl) rfl
theorem q149 : (Jvm.Cond.privateMethod ({ cls := "WicketBoard", name := "wrong", desc := "(I)LWicketBoard$Fault;" } : Jvm.MethodName)) ∈ lw_tbl := lw_at lw_m1 107 rfl
theorem q150 : (Jvm.Cond.instanceMethod ({ cls := "WicketBoard", name := "wrong", desc := "(I)LWicketBoard$Fault;" } : Jvm.MethodName)) ∈ lw_all := lw_g (lw_at lw_m1 108 rfl) rfl
theorem q151 : (Jvm.Cond.code ({ cls := "WicketBoard", name := "wrong", desc := "(I)LWicketBoard$Fault;" } : Jvm.MethodName) prog_1_method_8_code (2 : Nat) (Option.some (Jvm.ClassFile.FieldType.object "WicketBoard$Fault"))) ∈ lw_all := lw_g (lw_at lw_m1 109 rfl) rfl
theorem q152 : (Jvm.Cond.methodLink "WicketBoard" (93 : Nat) ({ cls := "java/lang/System", name := "arraycopy", desc := "(Ljava/lang/Object;ILjava/lang/Object;II)V" } : Jvm.MethodName)) ∈ lw_all := lw_g (lw_at lw_m1 110 rfl) rfl
theorem q156 : (Jvm.Cond.instanceMethod ({ cls := "WicketBoard", name := "fault", desc := "()I" } : Jvm.MethodName)) ∈ lw_all := lw_g (lw_at lw_m1 114 rfl) rfl
theorem q157 : (Jvm.Cond.selects "WicketBoard" ({ cls := "WicketBoard", name := "fault", desc := "()I" } : Jvm.MethodName) ({ cls := "WicketBoard", name := "fault", desc := "()I" } : Jvm.MethodName)) ∈ lw_all := lw_g (lw_at lw_m1 115 rfl) rfl
theorem q158 : (Jvm.Cond.code ({ cls := "WicketBoard", name := "fault", desc := "()I" } : Jvm.MethodName) prog_1_method_11_code (1 : Nat) (Option.some Jvm.ClassFile.FieldType.int)) ∈ lw_all := lw_g (lw_at lw_m1 116 rfl) rfl
theorem q160 : (Jvm.Cond.instanceMethod ({ cls := "WicketBoard", name := "rule", desc := "(I)I" } : Jvm.MethodName)) ∈ lw_all := lw_g (lw_at lw_m1 118 rfl) rfl
theorem q161 : (Jvm.Cond.selects "WicketBoard" ({ cls := "WicketBoard", name := "rule", desc := "(I)I" } : Jvm.MethodName) ({ cls := "WicketBoard", name := "rule", desc := "(I)I" } : Jvm.MethodName)) ∈ lw_all := lw_g (lw_at lw_m1 119 rfl) rfl
theorem q162 : (Jvm.Cond.code ({ cls := "WicketBoard", name := "rule", desc := "(I)I" } : Jvm.MethodName) prog_1_method_12_code (2 : Nat) (Option.some Jvm.ClassFile.FieldType.int)) ∈ lw_all := lw_g (lw_at lw_m1 120 rfl) rfl
theorem q165 : (Jvm.Cond.instanceMethod ({ cls := "WicketBoard", name := "<init>", desc := "()V" } : Jvm.MethodName)) ∈ lw_all := lw_g (lw_at lw_m1 123 rfl) rfl
theorem q166 : (Jvm.Cond.code ({ cls := "WicketBoard", name := "<init>", desc := "()V" } : Jvm.MethodName) prog_1_method_13_code (2 : Nat) (Option.none : Option Jvm.ClassFile.FieldType)) ∈ lw_all := lw_g (lw_at lw_m1 124 rfl) rfl
theorem q167 : (Jvm.Cond.methodLink "WicketBoard" (99 : Nat) ({ cls := "java/lang/Object", name := "<init>", desc := "()V" } : Jvm.MethodName)) ∈ lw_all := lw_g (lw_at lw_m1 125 rfl) rfl
theorem q170 : (Jvm.Cond.classLink "WicketBoard" (62 : Nat) "WicketBoard$Rule") ∈ lw_all := lw_g (lw_at lw_m1 128 rfl) rfl
theorem q173 : (Jvm.Cond.stringRef "WicketBoard" (104 : Nat) "row") ∈ lw_tbl := lw_at lw_m1 131 rfl
theorem q174 : (Jvm.Cond.methodLink "WicketBoard" (106 : Nat) ({ cls := "WicketBoard$Rule", name := "<init>", desc := "(Ljava/lang/String;III)V" } : Jvm.MethodName)) ∈ lw_all := lw_g (lw_at lw_m1 132 rfl) rfl
theorem q180 : (Jvm.Cond.fieldLink "WicketBoard" (71 : Nat) "WicketBoard$Rule" "low" "I") ∈ lw_all := lw_g (lw_at lw_m1 138 rfl) rfl
theorem q182 : (Jvm.Cond.fieldLink "WicketBoard" (74 : Nat) "WicketBoard$Rule" "high" "I") ∈ lw_all := lw_g (lw_at lw_m1 140 rfl) rfl
theorem q184 : (Jvm.Cond.fieldLink "WicketBoard" (84 : Nat) "WicketBoard$Rule" "without" "I") ∈ lw_all := lw_g (lw_at lw_m1 142 rfl) rfl
theorem q195 : (Jvm.Cond.stringRef "WicketBoard" (109 : Nat) "again") ∈ lw_tbl := lw_at lw_m1 153 rfl
theorem q196 : (Jvm.Cond.stringRef "WicketBoard" (111 : Nat) "far") ∈ lw_tbl := lw_at lw_m1 154 rfl
theorem q197 : (Jvm.Cond.stringRef "WicketBoard" (113 : Nat) "fair") ∈ lw_tbl := lw_at lw_m1 155 rfl
theorem q198 : (Jvm.Cond.stringRef "WicketBoard" (115 : Nat) "won") ∈ lw_tbl := lw_at lw_m1 156 rfl
theorem q199 : (Jvm.Cond.stringRef "WicketBoard" (117 : Nat) "lost") ∈ lw_tbl := lw_at lw_m1 157 rfl
theorem q200 : (Jvm.Cond.stringRef "WicketBoard" (119 : Nat) "up") ∈ lw_tbl := lw_at lw_m1 158 rfl
theorem q201 : (Jvm.Cond.stringRef "WicketBoard" (121 : Nat) "down") ∈ lw_tbl := lw_at lw_m1 159 rfl
theorem q202 : (Jvm.Cond.stringRef "WicketBoard" (123 : Nat) "of") ∈ lw_tbl := lw_at lw_m1 160 rfl
theorem q240 : (Jvm.Cond.methodLink "WicketBoard" (125 : Nat) ({ cls := "WicketBoard$Fault", name := "<init>", desc := "()V" } : Jvm.MethodName)) ∈ lw_all := lw_g (lw_at lw_m1 198 rfl) rfl
theorem q249 : (Jvm.Cond.fieldLink "WicketBoard" (45 : Nat) "WicketBoard$Fault" "kind" "I") ∈ lw_all := lw_g (lw_at lw_m1 207 rfl) rfl
theorem q250 : (Jvm.Cond.fieldLink "WicketBoard" (50 : Nat) "WicketBoard$Fault" "place" "I") ∈ lw_all := lw_g (lw_at lw_m1 208 rfl) rfl
theorem q269 : (Jvm.Cond.classLink "WicketBoard" (126 : Nat) "WicketBoard$Umpire") ∈ lw_all := lw_g (lw_at lw_m1 227 rfl) rfl
theorem q271 : (Jvm.Cond.classLink "WicketBoard" (132 : Nat) "WicketBoard$Game") ∈ lw_all := lw_g (lw_at lw_m1 229 rfl) rfl
theorem q273 : (Jvm.Cond.fieldLink "WicketBoard" (11 : Nat) "WicketBoard" "tape" "[B") ∈ lw_all := lw_g (lw_at lw_m1 231 rfl) rfl
theorem q274 : (Jvm.Cond.fieldLink "WicketBoard" (3 : Nat) "WicketBoard" "length" "I") ∈ lw_all := lw_g (lw_at lw_m1 232 rfl) rfl
theorem q275 : (Jvm.Cond.fieldLink "WicketBoard" (18 : Nat) "WicketBoard" "size" "I") ∈ lw_all := lw_g (lw_at lw_m1 233 rfl) rfl
theorem q276 : (Jvm.Cond.fieldLink "WicketBoard" (57 : Nat) "WicketBoard" "all" "[LWicketBoard$Rule;") ∈ lw_all := lw_g (lw_at lw_m1 234 rfl) rfl
theorem q277 : (Jvm.Cond.fieldLink "WicketBoard" (90 : Nat) "WicketBoard" "law" "[I") ∈ lw_all := lw_g (lw_at lw_m1 235 rfl) rfl
theorem q278 : (Jvm.Cond.fieldLink "WicketBoard" (77 : Nat) "WicketBoard" "fresh" "[I") ∈ lw_all := lw_g (lw_at lw_m1 236 rfl) rfl
theorem q279 : (Jvm.Cond.fieldLink "WicketBoard" (41 : Nat) "WicketBoard" "broken" "LWicketBoard$Fault;") ∈ lw_all := lw_g (lw_at lw_m1 237 rfl) rfl
theorem q280 : (Jvm.Cond.fieldLink "WicketBoard" (81 : Nat) "WicketBoard" "fault" "I") ∈ lw_all := lw_g (lw_at lw_m1 238 rfl) rfl
theorem q281 : (Jvm.Cond.fieldLink "WicketBoard" (15 : Nat) "WicketBoard" "p" "I") ∈ lw_all := lw_g (lw_at lw_m1 239 rfl) rfl
theorem q282 : (Jvm.Cond.fieldLink "WicketBoard" (25 : Nat) "WicketBoard" "at" "I") ∈ lw_all := lw_g (lw_at lw_m2 0 rfl) rfl
theorem q283 : (Jvm.Cond.fieldLink "WicketBoard" (28 : Nat) "WicketBoard" "token" "I") ∈ lw_all := lw_g (lw_at lw_m2 1 rfl) rfl
theorem q284 : (Jvm.Cond.fieldLink "WicketBoard" (38 : Nat) "WicketBoard" "value" "I") ∈ lw_all := lw_g (lw_at lw_m2 2 rfl) rfl
theorem q285 : (Jvm.Cond.fieldLink "WicketBoard" (128 : Nat) "WicketBoard" "umpires" "[LWicketBoard$Umpire;") ∈ lw_all := lw_g (lw_at lw_m2 3 rfl) rfl
theorem q286 : (Jvm.Cond.fieldLink "WicketBoard" (134 : Nat) "WicketBoard" "games" "[LWicketBoard$Game;") ∈ lw_all := lw_g (lw_at lw_m2 4 rfl) rfl
theorem q287 : (Jvm.Cond.fieldLink "WicketBoard" (138 : Nat) "WicketBoard" "seats" "[I") ∈ lw_all := lw_g (lw_at lw_m2 5 rfl) rfl
theorem q288 : (Jvm.Cond.fieldLink "WicketBoard" (166 : Nat) "WicketBoard" "umpireMany" "I") ∈ lw_all := lw_g (lw_at lw_m2 6 rfl) rfl
theorem q289 : (Jvm.Cond.fieldLink "WicketBoard" (173 : Nat) "WicketBoard" "gameMany" "I") ∈ lw_all := lw_g (lw_at lw_m2 7 rfl) rfl
theorem q290 : (Jvm.Cond.fieldLink "WicketBoard" (182 : Nat) "WicketBoard" "week" "I") ∈ lw_all := lw_g (lw_at lw_m2 8 rfl) rfl
theorem q291 : (Jvm.Cond.fieldLink "WicketBoard" (254 : Nat) "WicketBoard" "given" "I") ∈ lw_all := lw_g (lw_at lw_m2 9 rfl) rfl
theorem q292 : (Jvm.Cond.fieldLink "WicketBoard" (141 : Nat) "WicketBoard" "cost" "[I") ∈ lw_all := lw_g (lw_at lw_m2 10 rfl) rfl
theorem q293 : (Jvm.Cond.fieldLink "WicketBoard" (144 : Nat) "WicketBoard" "offRow" "[I") ∈ lw_all := lw_g (lw_at lw_m2 11 rfl) rfl
theorem q294 : (Jvm.Cond.fieldLink "WicketBoard" (147 : Nat) "WicketBoard" "offColumn" "[I") ∈ lw_all := lw_g (lw_at lw_m2 12 rfl) rfl
theorem q295 : (Jvm.Cond.fieldLink "WicketBoard" (150 : Nat) "WicketBoard" "rowOf" "[I") ∈ lw_all := lw_g (lw_at lw_m2 13 rfl) rfl
theorem q296 : (Jvm.Cond.fieldLink "WicketBoard" (153 : Nat) "WicketBoard" "way" "[I") ∈ lw_all := lw_g (lw_at lw_m2 14 rfl) rfl
theorem q297 : (Jvm.Cond.fieldLink "WicketBoard" (156 : Nat) "WicketBoard" "least" "[I") ∈ lw_all := lw_g (lw_at lw_m2 15 rfl) rfl
theorem q298 : (Jvm.Cond.fieldLink "WicketBoard" (159 : Nat) "WicketBoard" "done" "[Z") ∈ lw_all := lw_g (lw_at lw_m2 16 rfl) rfl
theorem q299 : (Jvm.Cond.fieldLink "WicketBoard" (163 : Nat) "WicketBoard" "kept" "[I") ∈ lw_all := lw_g (lw_at lw_m2 17 rfl) rfl
theorem q300 : (Jvm.Cond.laysFinal "WicketBoard" "WicketBoard" "tape" "[B") ∈ lw_all := lw_g (lw_at lw_m2 18 rfl) rfl
theorem q301 : (Jvm.Cond.soleField "WicketBoard" "tape") ∈ lw_all := lw_g (lw_at lw_m2 19 rfl) rfl
theorem q302 : (Jvm.Cond.lays "WicketBoard" "WicketBoard" "length" "I") ∈ lw_all := lw_g (lw_at lw_m2 20 rfl) rfl
theorem q303 : (Jvm.Cond.soleField "WicketBoard" "length") ∈ lw_all := lw_g (lw_at lw_m2 21 rfl) rfl
theorem q304 : (Jvm.Cond.lays "WicketBoard" "WicketBoard" "size" "I") ∈ lw_all := lw_g (lw_at lw_m2 22 rfl) rfl
theorem q305 : (Jvm.Cond.soleField "WicketBoard" "size") ∈ lw_all := lw_g (lw_at lw_m2 23 rfl) rfl
theorem q306 : (Jvm.Cond.laysFinal "WicketBoard" "WicketBoard" "all" "[LWicketBoard$Rule;") ∈ lw_all := lw_g (lw_at lw_m2 24 rfl) rfl
theorem q307 : (Jvm.Cond.soleField "WicketBoard" "all") ∈ lw_all := lw_g (lw_at lw_m2 25 rfl) rfl
theorem q308 : (Jvm.Cond.laysFinal "WicketBoard" "WicketBoard" "law" "[I") ∈ lw_all := lw_g (lw_at lw_m2 26 rfl) rfl
theorem q309 : (Jvm.Cond.soleField "WicketBoard" "law") ∈ lw_all := lw_g (lw_at lw_m2 27 rfl) rfl
theorem q310 : (Jvm.Cond.laysFinal "WicketBoard" "WicketBoard" "fresh" "[I") ∈ lw_all := lw_g (lw_at lw_m2 28 rfl) rfl
theorem q311 : (Jvm.Cond.soleField "WicketBoard" "fresh") ∈ lw_all := lw_g (lw_at lw_m2 29 rfl) rfl
theorem q312 : (Jvm.Cond.laysFinal "WicketBoard" "WicketBoard" "broken" "LWicketBoard$Fault;") ∈ lw_all := lw_g (lw_at lw_m2 30 rfl) rfl
theorem q313 : (Jvm.Cond.soleField "WicketBoard" "broken") ∈ lw_all := lw_g (lw_at lw_m2 31 rfl) rfl
theorem q314 : (Jvm.Cond.lays "WicketBoard" "WicketBoard" "fault" "I") ∈ lw_all := lw_g (lw_at lw_m2 32 rfl) rfl
theorem q315 : (Jvm.Cond.soleField "WicketBoard" "fault") ∈ lw_all := lw_g (lw_at lw_m2 33 rfl) rfl
theorem q316 : (Jvm.Cond.lays "WicketBoard" "WicketBoard" "p" "I") ∈ lw_all := lw_g (lw_at lw_m2 34 rfl) rfl
theorem q317 : (Jvm.Cond.soleField "WicketBoard" "p") ∈ lw_all := lw_g (lw_at lw_m2 35 rfl) rfl
theorem q318 : (Jvm.Cond.lays "WicketBoard" "WicketBoard" "at" "I") ∈ lw_all := lw_g (lw_at lw_m2 36 rfl) rfl
theorem q319 : (Jvm.Cond.soleField "WicketBoard" "at") ∈ lw_all := lw_g (lw_at lw_m2 37 rfl) rfl
theorem q320 : (Jvm.Cond.lays "WicketBoard" "WicketBoard" "token" "I") ∈ lw_all := lw_g (lw_at lw_m2 38 rfl) rfl
theorem q321 : (Jvm.Cond.soleField "WicketBoard" "token") ∈ lw_all := lw_g (lw_at lw_m2 39 rfl) rfl
theorem q322 : (Jvm.Cond.lays "WicketBoard" "WicketBoard" "value" "I") ∈ lw_all := lw_g (lw_at lw_m2 40 rfl) rfl
theorem q323 : (Jvm.Cond.soleField "WicketBoard" "value") ∈ lw_all := lw_g (lw_at lw_m2 41 rfl) rfl
theorem q324 : (Jvm.Cond.laysFinal "WicketBoard" "WicketBoard" "umpires" "[LWicketBoard$Umpire;") ∈ lw_all := lw_g (lw_at lw_m2 42 rfl) rfl
theorem q325 : (Jvm.Cond.soleField "WicketBoard" "umpires") ∈ lw_all := lw_g (lw_at lw_m2 43 rfl) rfl
theorem q326 : (Jvm.Cond.laysFinal "WicketBoard" "WicketBoard" "games" "[LWicketBoard$Game;") ∈ lw_all := lw_g (lw_at lw_m2 44 rfl) rfl
theorem q327 : (Jvm.Cond.soleField "WicketBoard" "games") ∈ lw_all := lw_g (lw_at lw_m2 45 rfl) rfl
theorem q328 : (Jvm.Cond.laysFinal "WicketBoard" "WicketBoard" "seats" "[I") ∈ lw_all := lw_g (lw_at lw_m2 46 rfl) rfl
theorem q329 : (Jvm.Cond.soleField "WicketBoard" "seats") ∈ lw_all := lw_g (lw_at lw_m2 47 rfl) rfl
theorem q330 : (Jvm.Cond.lays "WicketBoard" "WicketBoard" "umpireMany" "I") ∈ lw_all := lw_g (lw_at lw_m2 48 rfl) rfl
theorem q331 : (Jvm.Cond.soleField "WicketBoard" "umpireMany") ∈ lw_all := lw_g (lw_at lw_m2 49 rfl) rfl
theorem q332 : (Jvm.Cond.lays "WicketBoard" "WicketBoard" "gameMany" "I") ∈ lw_all := lw_g (lw_at lw_m2 50 rfl) rfl
theorem q333 : (Jvm.Cond.soleField "WicketBoard" "gameMany") ∈ lw_all := lw_g (lw_at lw_m2 51 rfl) rfl
theorem q334 : (Jvm.Cond.lays "WicketBoard" "WicketBoard" "week" "I") ∈ lw_all := lw_g (lw_at lw_m2 52 rfl) rfl
theorem q335 : (Jvm.Cond.soleField "WicketBoard" "week") ∈ lw_all := lw_g (lw_at lw_m2 53 rfl) rfl
theorem q336 : (Jvm.Cond.lays "WicketBoard" "WicketBoard" "given" "I") ∈ lw_all := lw_g (lw_at lw_m2 54 rfl) rfl
theorem q337 : (Jvm.Cond.soleField "WicketBoard" "given") ∈ lw_all := lw_g (lw_at lw_m2 55 rfl) rfl
theorem q338 : (Jvm.Cond.laysFinal "WicketBoard" "WicketBoard" "cost" "[I") ∈ lw_all := lw_g (lw_at lw_m2 56 rfl) rfl
theorem q339 : (Jvm.Cond.soleField "WicketBoard" "cost") ∈ lw_all := lw_g (lw_at lw_m2 57 rfl) rfl
theorem q340 : (Jvm.Cond.laysFinal "WicketBoard" "WicketBoard" "offRow" "[I") ∈ lw_all := lw_g (lw_at lw_m2 58 rfl) rfl
theorem q341 : (Jvm.Cond.soleField "WicketBoard" "offRow") ∈ lw_all := lw_g (lw_at lw_m2 59 rfl) rfl
theorem q342 : (Jvm.Cond.laysFinal "WicketBoard" "WicketBoard" "offColumn" "[I") ∈ lw_all := lw_g (lw_at lw_m2 60 rfl) rfl
theorem q343 : (Jvm.Cond.soleField "WicketBoard" "offColumn") ∈ lw_all := lw_g (lw_at lw_m2 61 rfl) rfl
theorem q344 : (Jvm.Cond.laysFinal "WicketBoard" "WicketBoard" "rowOf" "[I") ∈ lw_all := lw_g (lw_at lw_m2 62 rfl) rfl
theorem q345 : (Jvm.Cond.soleField "WicketBoard" "rowOf") ∈ lw_all := lw_g (lw_at lw_m2 63 rfl) rfl
theorem q346 : (Jvm.Cond.laysFinal "WicketBoard" "WicketBoard" "way" "[I") ∈ lw_all := lw_g (lw_at lw_m2 64 rfl) rfl
theorem q347 : (Jvm.Cond.soleField "WicketBoard" "way") ∈ lw_all := lw_g (lw_at lw_m2 65 rfl) rfl
theorem q348 : (Jvm.Cond.laysFinal "WicketBoard" "WicketBoard" "least" "[I") ∈ lw_all := lw_g (lw_at lw_m2 66 rfl) rfl
theorem q349 : (Jvm.Cond.soleField "WicketBoard" "least") ∈ lw_all := lw_g (lw_at lw_m2 67 rfl) rfl
theorem q350 : (Jvm.Cond.laysFinal "WicketBoard" "WicketBoard" "done" "[Z") ∈ lw_all := lw_g (lw_at lw_m2 68 rfl) rfl
theorem q351 : (Jvm.Cond.soleField "WicketBoard" "done") ∈ lw_all := lw_g (lw_at lw_m2 69 rfl) rfl
theorem q352 : (Jvm.Cond.laysFinal "WicketBoard" "WicketBoard" "kept" "[I") ∈ lw_all := lw_g (lw_at lw_m2 70 rfl) rfl
theorem q353 : (Jvm.Cond.soleField "WicketBoard" "kept") ∈ lw_all := lw_g (lw_at lw_m2 71 rfl) rfl
theorem q354 : (Jvm.Cond.superclass "WicketBoard" "java/lang/Object") ∈ lw_all := lw_g (lw_at lw_m2 72 rfl) rfl
theorem q357 : (Jvm.Cond.instanceMethod ({ cls := "WicketBoard", name := "umpire", desc := "(IIII)I" } : Jvm.MethodName)) ∈ lw_all := lw_g (lw_at lw_m2 75 rfl) rfl
theorem q358 : (Jvm.Cond.selects "WicketBoard" ({ cls := "WicketBoard", name := "umpire", desc := "(IIII)I" } : Jvm.MethodName) ({ cls := "WicketBoard", name := "umpire", desc := "(IIII)I" } : Jvm.MethodName)) ∈ lw_all := lw_g (lw_at lw_m2 76 rfl) rfl
theorem q359 : (Jvm.Cond.code ({ cls := "WicketBoard", name := "umpire", desc := "(IIII)I" } : Jvm.MethodName) prog_1_method_17_code (5 : Nat) (Option.some Jvm.ClassFile.FieldType.int)) ∈ lw_all := lw_g (lw_at lw_m2 77 rfl) rfl
theorem q360 : (Jvm.Cond.methodLink "WicketBoard" (169 : Nat) ({ cls := "WicketBoard", name := "isIn", desc := "(III)Z" } : Jvm.MethodName)) ∈ lw_all := lw_g (lw_at lw_m2 78 rfl) rfl
theorem q361 : (Jvm.Cond.static ({ cls := "WicketBoard", name := "isIn", desc := "(III)Z" } : Jvm.MethodName)) ∈ lw_all := lw_g (lw_at lw_m2 79 rfl) rfl
theorem q362 : (Jvm.Cond.code ({ cls := "WicketBoard", name := "isIn", desc := "(III)Z" } : Jvm.MethodName) prog_1_method_14_code (3 : Nat) (Option.some Jvm.ClassFile.FieldType.boolean)) ∈ lw_all := lw_g (lw_at lw_m2 80 rfl) rfl
theorem q364 : (Jvm.Cond.methodLink "WicketBoard" (176 : Nat) ({ cls := "WicketBoard$Umpire", name := "<init>", desc := "(IIII)V" } : Jvm.MethodName)) ∈ lw_all := lw_g (lw_at lw_m2 82 rfl) rfl
theorem q369 : (Jvm.Cond.fieldLink "WicketBoard" (192 : Nat) "WicketBoard$Umpire" "x" "I") ∈ lw_all := lw_g (lw_at lw_m2 87 rfl) rfl
theorem q371 : (Jvm.Cond.fieldLink "WicketBoard" (202 : Nat) "WicketBoard$Umpire" "y" "I") ∈ lw_all := lw_g (lw_at lw_m2 89 rfl) rfl
theorem q373 : (Jvm.Cond.fieldLink "WicketBoard" (209 : Nat) "WicketBoard$Umpire" "barred" "I") ∈ lw_all := lw_g (lw_at lw_m2 91 rfl) rfl
theorem q375 : (Jvm.Cond.fieldLink "WicketBoard" (185 : Nat) "WicketBoard$Umpire" "away" "[Z") ∈ lw_all := lw_g (lw_at lw_m2 93 rfl) rfl
theorem q377 : (Jvm.Cond.fieldLink "WicketBoard" (206 : Nat) "WicketBoard$Umpire" "stood" "[I") ∈ lw_all := lw_g (lw_at lw_m2 95 rfl) rfl
theorem q379 : (Jvm.Cond.fieldLink "WicketBoard" (215 : Nat) "WicketBoard$Umpire" "grade" "I") ∈ lw_all := lw_g (lw_at lw_m2 97 rfl) rfl
theorem q381 : (Jvm.Cond.fieldLink "WicketBoard" (188 : Nat) "WicketBoard$Umpire" "seat" "I") ∈ lw_all := lw_g (lw_at lw_m2 99 rfl) rfl
theorem q382 : (Jvm.Cond.fieldLink "WicketBoard" (233 : Nat) "WicketBoard$Umpire" "weeks" "I") ∈ lw_all := lw_g (lw_at lw_m2 100 rfl) rfl
theorem q384 : (Jvm.Cond.fieldLink "WicketBoard" (273 : Nat) "WicketBoard$Umpire" "marks" "I") ∈ lw_all := lw_g (lw_at lw_m2 102 rfl) rfl
theorem q386 : (Jvm.Cond.fieldLink "WicketBoard" (276 : Nat) "WicketBoard$Umpire" "weight" "I") ∈ lw_all := lw_g (lw_at lw_m2 104 rfl) rfl
theorem q388 : (Jvm.Cond.fieldLink "WicketBoard" (279 : Nat) "WicketBoard$Umpire" "sum" "I") ∈ lw_all := lw_g (lw_at lw_m2 106 rfl) rfl
theorem q413 : (Jvm.Cond.instanceMethod ({ cls := "WicketBoard", name := "away", desc := "(IIZ)Z" } : Jvm.MethodName)) ∈ lw_all := lw_g (lw_at lw_m2 131 rfl) rfl
theorem q414 : (Jvm.Cond.selects "WicketBoard" ({ cls := "WicketBoard", name := "away", desc := "(IIZ)Z" } : Jvm.MethodName) ({ cls := "WicketBoard", name := "away", desc := "(IIZ)Z" } : Jvm.MethodName)) ∈ lw_all := lw_g (lw_at lw_m2 132 rfl) rfl
theorem q415 : (Jvm.Cond.code ({ cls := "WicketBoard", name := "away", desc := "(IIZ)Z" } : Jvm.MethodName) prog_1_method_18_code (4 : Nat) (Option.some Jvm.ClassFile.FieldType.boolean)) ∈ lw_all := lw_g (lw_at lw_m2 133 rfl) rfl
theorem q416 : (Jvm.Cond.methodLink "WicketBoard" (179 : Nat) ({ cls := "WicketBoard", name := "isUmpire", desc := "(I)Z" } : Jvm.MethodName)) ∈ lw_all := lw_g (lw_at lw_m2 134 rfl) rfl
theorem q417 : (Jvm.Cond.privateMethod ({ cls := "WicketBoard", name := "isUmpire", desc := "(I)Z" } : Jvm.MethodName)) ∈ lw_tbl := lw_at lw_m2 135 rfl
theorem q418 : (Jvm.Cond.instanceMethod ({ cls := "WicketBoard", name := "isUmpire", desc := "(I)Z" } : Jvm.MethodName)) ∈ lw_all := lw_g (lw_at lw_m2 136 rfl) rfl
theorem q419 : (Jvm.Cond.code ({ cls := "WicketBoard", name := "isUmpire", desc := "(I)Z" } : Jvm.MethodName) prog_1_method_15_code (2 : Nat) (Option.some Jvm.ClassFile.FieldType.boolean)) ∈ lw_all := lw_g (lw_at lw_m2 137 rfl) rfl
theorem q421 : (Jvm.Cond.instanceMethod ({ cls := "WicketBoard", name := "game", desc := "(IIIII)I" } : Jvm.MethodName)) ∈ lw_all := lw_g (lw_at lw_m2 139 rfl) rfl
theorem q422 : (Jvm.Cond.selects "WicketBoard" ({ cls := "WicketBoard", name := "game", desc := "(IIIII)I" } : Jvm.MethodName) ({ cls := "WicketBoard", name := "game", desc := "(IIIII)I" } : Jvm.MethodName)) ∈ lw_all := lw_g (lw_at lw_m2 140 rfl) rfl
theorem q423 : (Jvm.Cond.code ({ cls := "WicketBoard", name := "game", desc := "(IIIII)I" } : Jvm.MethodName) prog_1_method_19_code (6 : Nat) (Option.some Jvm.ClassFile.FieldType.int)) ∈ lw_all := lw_g (lw_at lw_m2 141 rfl) rfl
theorem q425 : (Jvm.Cond.methodLink "WicketBoard" (191 : Nat) ({ cls := "WicketBoard$Game", name := "<init>", desc := "(IIII)V" } : Jvm.MethodName)) ∈ lw_all := lw_g (lw_at lw_m2 143 rfl) rfl
theorem q430 : (Jvm.Cond.fieldLink "WicketBoard" (195 : Nat) "WicketBoard$Game" "x" "I") ∈ lw_all := lw_g (lw_at lw_m2 148 rfl) rfl
theorem q432 : (Jvm.Cond.fieldLink "WicketBoard" (205 : Nat) "WicketBoard$Game" "y" "I") ∈ lw_all := lw_g (lw_at lw_m2 150 rfl) rfl
theorem q434 : (Jvm.Cond.fieldLink "WicketBoard" (212 : Nat) "WicketBoard$Game" "clubs" "I") ∈ lw_all := lw_g (lw_at lw_m2 152 rfl) rfl
theorem q436 : (Jvm.Cond.fieldLink "WicketBoard" (218 : Nat) "WicketBoard$Game" "level" "I") ∈ lw_all := lw_g (lw_at lw_m2 154 rfl) rfl
theorem q447 : (Jvm.Cond.instanceMethod ({ cls := "WicketBoard", name := "may", desc := "(II)Z" } : Jvm.MethodName)) ∈ lw_all := lw_g (lw_at lw_m2 165 rfl) rfl
theorem q448 : (Jvm.Cond.selects "WicketBoard" ({ cls := "WicketBoard", name := "may", desc := "(II)Z" } : Jvm.MethodName) ({ cls := "WicketBoard", name := "may", desc := "(II)Z" } : Jvm.MethodName)) ∈ lw_all := lw_g (lw_at lw_m2 166 rfl) rfl
theorem q449 : (Jvm.Cond.code ({ cls := "WicketBoard", name := "may", desc := "(II)Z" } : Jvm.MethodName) prog_1_method_24_code (3 : Nat) (Option.some Jvm.ClassFile.FieldType.boolean)) ∈ lw_all := lw_g (lw_at lw_m2 167 rfl) rfl
theorem q450 : (Jvm.Cond.methodLink "WicketBoard" (236 : Nat) ({ cls := "WicketBoard", name := "isSeat", desc := "(I)Z" } : Jvm.MethodName)) ∈ lw_all := lw_g (lw_at lw_m2 168 rfl) rfl
theorem q451 : (Jvm.Cond.privateMethod ({ cls := "WicketBoard", name := "isSeat", desc := "(I)Z" } : Jvm.MethodName)) ∈ lw_tbl := lw_at lw_m2 169 rfl
theorem q452 : (Jvm.Cond.instanceMethod ({ cls := "WicketBoard", name := "isSeat", desc := "(I)Z" } : Jvm.MethodName)) ∈ lw_all := lw_g (lw_at lw_m2 170 rfl) rfl
theorem q453 : (Jvm.Cond.code ({ cls := "WicketBoard", name := "isSeat", desc := "(I)Z" } : Jvm.MethodName) prog_1_method_16_code (2 : Nat) (Option.some Jvm.ClassFile.FieldType.boolean)) ∈ lw_all := lw_g (lw_at lw_m2 171 rfl) rfl
theorem q454 : (Jvm.Cond.methodLink "WicketBoard" (239 : Nat) ({ cls := "WicketBoard", name := "mayHave", desc := "(LWicketBoard$Umpire;I)Z" } : Jvm.MethodName)) ∈ lw_all := lw_g (lw_at lw_m2 172 rfl) rfl
theorem q455 : (Jvm.Cond.privateMethod ({ cls := "WicketBoard", name := "mayHave", desc := "(LWicketBoard$Umpire;I)Z" } : Jvm.MethodName)) ∈ lw_tbl := lw_at lw_m2 173 rfl
theorem q456 : (Jvm.Cond.instanceMethod ({ cls := "WicketBoard", name := "mayHave", desc := "(LWicketBoard$Umpire;I)Z" } : Jvm.MethodName)) ∈ lw_all := lw_g (lw_at lw_m2 174 rfl) rfl
theorem q457 : (Jvm.Cond.code ({ cls := "WicketBoard", name := "mayHave", desc := "(LWicketBoard$Umpire;I)Z" } : Jvm.MethodName) prog_1_method_22_code (5 : Nat) (Option.some Jvm.ClassFile.FieldType.boolean)) ∈ lw_all := lw_g (lw_at lw_m2 175 rfl) rfl
theorem q458 : (Jvm.Cond.methodLink "WicketBoard" (221 : Nat) ({ cls := "WicketBoard", name := "milesOf", desc := "(LWicketBoard$Umpire;LWicketBoard$Game;)I" } : Jvm.MethodName)) ∈ lw_all := lw_g (lw_at lw_m2 176 rfl) rfl
theorem q459 : (Jvm.Cond.static ({ cls := "WicketBoard", name := "milesOf", desc := "(LWicketBoard$Umpire;LWicketBoard$Game;)I" } : Jvm.MethodName)) ∈ lw_all := lw_g (lw_at lw_m2 177 rfl) rfl
theorem q460 : (Jvm.Cond.code ({ cls := "WicketBoard", name := "milesOf", desc := "(LWicketBoard$Umpire;LWicketBoard$Game;)I" } : Jvm.MethodName) prog_1_method_20_code (2 : Nat) (Option.some Jvm.ClassFile.FieldType.int)) ∈ lw_all := lw_g (lw_at lw_m2 178 rfl) rfl
theorem q461 : (Jvm.Cond.methodLink "WicketBoard" (196 : Nat) ({ cls := "java/lang/Math", name := "abs", desc := "(I)I" } : Jvm.MethodName)) ∈ lw_all := lw_g (lw_at lw_m2 179 rfl) rfl
theorem q464 : (Jvm.Cond.methodLink "WicketBoard" (225 : Nat) ({ cls := "WicketBoard", name := "isTired", desc := "(LWicketBoard$Umpire;)Z" } : Jvm.MethodName)) ∈ lw_all := lw_g (lw_at lw_m2 182 rfl) rfl
theorem q465 : (Jvm.Cond.privateMethod ({ cls := "WicketBoard", name := "isTired", desc := "(LWicketBoard$Umpire;)Z" } : Jvm.MethodName)) ∈ lw_tbl := lw_at lw_m2 183 rfl
theorem q466 : (Jvm.Cond.instanceMethod ({ cls := "WicketBoard", name := "isTired", desc := "(LWicketBoard$Umpire;)Z" } : Jvm.MethodName)) ∈ lw_all := lw_g (lw_at lw_m2 184 rfl) rfl
theorem q467 : (Jvm.Cond.code ({ cls := "WicketBoard", name := "isTired", desc := "(LWicketBoard$Umpire;)Z" } : Jvm.MethodName) prog_1_method_21_code (3 : Nat) (Option.some Jvm.ClassFile.FieldType.boolean)) ∈ lw_all := lw_g (lw_at lw_m2 185 rfl) rfl
theorem q468 : (Jvm.Cond.methodLink "WicketBoard" (229 : Nat) ({ cls := "java/lang/Math", name := "max", desc := "(II)I" } : Jvm.MethodName)) ∈ lw_all := lw_g (lw_at lw_m2 186 rfl) rfl
theorem q472 : (Jvm.Cond.instanceMethod ({ cls := "WicketBoard", name := "cost", desc := "(II)I" } : Jvm.MethodName)) ∈ lw_all := lw_g (lw_at lw_m2 190 rfl) rfl
theorem q473 : (Jvm.Cond.selects "WicketBoard" ({ cls := "WicketBoard", name := "cost", desc := "(II)I" } : Jvm.MethodName) ({ cls := "WicketBoard", name := "cost", desc := "(II)I" } : Jvm.MethodName)) ∈ lw_all := lw_g (lw_at lw_m2 191 rfl) rfl
theorem q474 : (Jvm.Cond.code ({ cls := "WicketBoard", name := "cost", desc := "(II)I" } : Jvm.MethodName) prog_1_method_25_code (3 : Nat) (Option.some Jvm.ClassFile.FieldType.int)) ∈ lw_all := lw_g (lw_at lw_m2 192 rfl) rfl
theorem q475 : (Jvm.Cond.methodLink "WicketBoard" (243 : Nat) ({ cls := "WicketBoard", name := "costOf", desc := "(LWicketBoard$Umpire;I)I" } : Jvm.MethodName)) ∈ lw_all := lw_g (lw_at lw_m2 193 rfl) rfl
theorem q476 : (Jvm.Cond.privateMethod ({ cls := "WicketBoard", name := "costOf", desc := "(LWicketBoard$Umpire;I)I" } : Jvm.MethodName)) ∈ lw_tbl := lw_at lw_m2 194 rfl
theorem q477 : (Jvm.Cond.instanceMethod ({ cls := "WicketBoard", name := "costOf", desc := "(LWicketBoard$Umpire;I)I" } : Jvm.MethodName)) ∈ lw_all := lw_g (lw_at lw_m2 195 rfl) rfl
theorem q478 : (Jvm.Cond.code ({ cls := "WicketBoard", name := "costOf", desc := "(LWicketBoard$Umpire;I)I" } : Jvm.MethodName) prog_1_method_23_code (3 : Nat) (Option.some Jvm.ClassFile.FieldType.int)) ∈ lw_all := lw_g (lw_at lw_m2 196 rfl) rfl
theorem q480 : (Jvm.Cond.instanceMethod ({ cls := "WicketBoard", name := "send", desc := "()I" } : Jvm.MethodName)) ∈ lw_all := lw_g (lw_at lw_m2 198 rfl) rfl
theorem q481 : (Jvm.Cond.selects "WicketBoard" ({ cls := "WicketBoard", name := "send", desc := "()I" } : Jvm.MethodName) ({ cls := "WicketBoard", name := "send", desc := "()I" } : Jvm.MethodName)) ∈ lw_all := lw_g (lw_at lw_m2 199 rfl) rfl
theorem q482 : (Jvm.Cond.code ({ cls := "WicketBoard", name := "send", desc := "()I" } : Jvm.MethodName) prog_1_method_29_code (8 : Nat) (Option.some Jvm.ClassFile.FieldType.int)) ∈ lw_all := lw_g (lw_at lw_m2 200 rfl) rfl
theorem q483 : (Jvm.Cond.methodLink "WicketBoard" (257 : Nat) ({ cls := "WicketBoard", name := "sit", desc := "(II)V" } : Jvm.MethodName)) ∈ lw_all := lw_g (lw_at lw_m2 201 rfl) rfl
theorem q484 : (Jvm.Cond.privateMethod ({ cls := "WicketBoard", name := "sit", desc := "(II)V" } : Jvm.MethodName)) ∈ lw_tbl := lw_at lw_m2 202 rfl
theorem q485 : (Jvm.Cond.instanceMethod ({ cls := "WicketBoard", name := "sit", desc := "(II)V" } : Jvm.MethodName)) ∈ lw_all := lw_g (lw_at lw_m2 203 rfl) rfl
theorem q486 : (Jvm.Cond.code ({ cls := "WicketBoard", name := "sit", desc := "(II)V" } : Jvm.MethodName) prog_1_method_26_code (3 : Nat) (Option.none : Option Jvm.ClassFile.FieldType)) ∈ lw_all := lw_g (lw_at lw_m2 204 rfl) rfl
theorem q487 : (Jvm.Cond.constant "WicketBoard" (260 : Nat) (100000 : Int32)) ∈ lw_all := lw_g (lw_at lw_m2 205 rfl) rfl
theorem q488 : (Jvm.Cond.constant "WicketBoard" (261 : Nat) (100000000 : Int32)) ∈ lw_all := lw_g (lw_at lw_m2 206 rfl) rfl
theorem q489 : (Jvm.Cond.methodLink "WicketBoard" (262 : Nat) ({ cls := "WicketBoard", name := "solve", desc := "(II)J" } : Jvm.MethodName)) ∈ lw_all := lw_g (lw_at lw_m2 207 rfl) rfl
theorem q490 : (Jvm.Cond.privateMethod ({ cls := "WicketBoard", name := "solve", desc := "(II)J" } : Jvm.MethodName)) ∈ lw_tbl := lw_at lw_m2 208 rfl
theorem q491 : (Jvm.Cond.instanceMethod ({ cls := "WicketBoard", name := "solve", desc := "(II)J" } : Jvm.MethodName)) ∈ lw_all := lw_g (lw_at lw_m2 209 rfl) rfl
theorem q492 : (Jvm.Cond.code ({ cls := "WicketBoard", name := "solve", desc := "(II)J" } : Jvm.MethodName) prog_1_method_27_code (6 : Nat) (Option.some Jvm.ClassFile.FieldType.long)) ∈ lw_all := lw_g (lw_at lw_m2 210 rfl) rfl
theorem q493 : (Jvm.Cond.methodLink "WicketBoard" (247 : Nat) ({ cls := "WicketBoard", name := "enter", desc := "(II)V" } : Jvm.MethodName)) ∈ lw_all := lw_g (lw_at lw_m2 211 rfl) rfl
theorem q494 : (Jvm.Cond.privateMethod ({ cls := "WicketBoard", name := "enter", desc := "(II)V" } : Jvm.MethodName)) ∈ lw_tbl := lw_at lw_m2 212 rfl
theorem q495 : (Jvm.Cond.instanceMethod ({ cls := "WicketBoard", name := "enter", desc := "(II)V" } : Jvm.MethodName)) ∈ lw_all := lw_g (lw_at lw_m2 213 rfl) rfl
theorem q496 : (Jvm.Cond.code ({ cls := "WicketBoard", name := "enter", desc := "(II)V" } : Jvm.MethodName) prog_1_method_28_code (9 : Nat) (Option.none : Option Jvm.ClassFile.FieldType)) ∈ lw_all := lw_g (lw_at lw_m2 214 rfl) rfl
theorem q497 : (Jvm.Cond.constant "WicketBoard" (253 : Nat) (2147483647 : Int32)) ∈ lw_all := lw_g (lw_at lw_m2 215 rfl) rfl
theorem q498 : (Jvm.Cond.methodLink "WicketBoard" (266 : Nat) ({ cls := "WicketBoard", name := "holds", desc := "(IIIIJ)Z" } : Jvm.MethodName)) ∈ lw_all := lw_g (lw_at lw_m2 216 rfl) rfl
theorem q499 : (Jvm.Cond.privateMethod ({ cls := "WicketBoard", name := "holds", desc := "(IIIIJ)Z" } : Jvm.MethodName)) ∈ lw_tbl := lw_at lw_m2 217 rfl
theorem q500 : (Jvm.Cond.instanceMethod ({ cls := "WicketBoard", name := "holds", desc := "(IIIIJ)Z" } : Jvm.MethodName)) ∈ lw_all := lw_g (lw_at lw_m2 218 rfl) rfl
theorem q501 : (Jvm.Cond.code ({ cls := "WicketBoard", name := "holds", desc := "(IIIIJ)Z" } : Jvm.MethodName) prog_1_method_30_code (9 : Nat) (Option.some Jvm.ClassFile.FieldType.boolean)) ∈ lw_all := lw_g (lw_at lw_m2 219 rfl) rfl
theorem q503 : (Jvm.Cond.instanceMethod ({ cls := "WicketBoard", name := "off", desc := "(I)I" } : Jvm.MethodName)) ∈ lw_all := lw_g (lw_at lw_m2 221 rfl) rfl
theorem q504 : (Jvm.Cond.selects "WicketBoard" ({ cls := "WicketBoard", name := "off", desc := "(I)I" } : Jvm.MethodName) ({ cls := "WicketBoard", name := "off", desc := "(I)I" } : Jvm.MethodName)) ∈ lw_all := lw_g (lw_at lw_m2 222 rfl) rfl
theorem q505 : (Jvm.Cond.code ({ cls := "WicketBoard", name := "off", desc := "(I)I" } : Jvm.MethodName) prog_1_method_32_code (9 : Nat) (Option.some Jvm.ClassFile.FieldType.int)) ∈ lw_all := lw_g (lw_at lw_m2 223 rfl) rfl
theorem q506 : (Jvm.Cond.methodLink "WicketBoard" (270 : Nat) ({ cls := "WicketBoard", name := "cheapest", desc := "(I)I" } : Jvm.MethodName)) ∈ lw_all := lw_g (lw_at lw_m2 224 rfl) rfl
theorem q507 : (Jvm.Cond.privateMethod ({ cls := "WicketBoard", name := "cheapest", desc := "(I)I" } : Jvm.MethodName)) ∈ lw_tbl := lw_at lw_m2 225 rfl
theorem q508 : (Jvm.Cond.instanceMethod ({ cls := "WicketBoard", name := "cheapest", desc := "(I)I" } : Jvm.MethodName)) ∈ lw_all := lw_g (lw_at lw_m2 226 rfl) rfl
theorem q509 : (Jvm.Cond.code ({ cls := "WicketBoard", name := "cheapest", desc := "(I)I" } : Jvm.MethodName) prog_1_method_31_code (4 : Nat) (Option.some Jvm.ClassFile.FieldType.int)) ∈ lw_all := lw_g (lw_at lw_m2 227 rfl) rfl
theorem q511 : (Jvm.Cond.instanceMethod ({ cls := "WicketBoard", name := "seat", desc := "(I)I" } : Jvm.MethodName)) ∈ lw_all := lw_g (lw_at lw_m2 229 rfl) rfl
theorem q512 : (Jvm.Cond.selects "WicketBoard" ({ cls := "WicketBoard", name := "seat", desc := "(I)I" } : Jvm.MethodName) ({ cls := "WicketBoard", name := "seat", desc := "(I)I" } : Jvm.MethodName)) ∈ lw_all := lw_g (lw_at lw_m2 230 rfl) rfl
theorem q513 : (Jvm.Cond.code ({ cls := "WicketBoard", name := "seat", desc := "(I)I" } : Jvm.MethodName) prog_1_method_33_code (2 : Nat) (Option.some Jvm.ClassFile.FieldType.int)) ∈ lw_all := lw_g (lw_at lw_m2 231 rfl) rfl
theorem q515 : (Jvm.Cond.instanceMethod ({ cls := "WicketBoard", name := "mark", desc := "(IIIZ)Z" } : Jvm.MethodName)) ∈ lw_all := lw_g (lw_at lw_m2 233 rfl) rfl
theorem q516 : (Jvm.Cond.selects "WicketBoard" ({ cls := "WicketBoard", name := "mark", desc := "(IIIZ)Z" } : Jvm.MethodName) ({ cls := "WicketBoard", name := "mark", desc := "(IIIZ)Z" } : Jvm.MethodName)) ∈ lw_all := lw_g (lw_at lw_m2 234 rfl) rfl
theorem q517 : (Jvm.Cond.code ({ cls := "WicketBoard", name := "mark", desc := "(IIIZ)Z" } : Jvm.MethodName) prog_1_method_34_code (7 : Nat) (Option.some Jvm.ClassFile.FieldType.boolean)) ∈ lw_all := lw_g (lw_at lw_m2 235 rfl) rfl
theorem q519 : (Jvm.Cond.instanceMethod ({ cls := "WicketBoard", name := "next", desc := "()I" } : Jvm.MethodName)) ∈ lw_all := lw_g (lw_at lw_m2 237 rfl) rfl
theorem q520 : (Jvm.Cond.selects "WicketBoard" ({ cls := "WicketBoard", name := "next", desc := "()I" } : Jvm.MethodName) ({ cls := "WicketBoard", name := "next", desc := "()I" } : Jvm.MethodName)) ∈ lw_all := lw_g (lw_at lw_m2 238 rfl) rfl
theorem q521 : (Jvm.Cond.code ({ cls := "WicketBoard", name := "next", desc := "()I" } : Jvm.MethodName) prog_1_method_35_code (3 : Nat) (Option.some Jvm.ClassFile.FieldType.int)) ∈ lw_all := lw_g (lw_at lw_m2 239 rfl) rfl
theorem q522 : (Jvm.Cond.methodLink "WicketBoard" (282 : Nat) ({ cls := "WicketBoard", name := "grade", desc := "(LWicketBoard$Umpire;)V" } : Jvm.MethodName)) ∈ lw_all := lw_g (lw_at lw_m3 0 rfl) rfl
theorem q523 : (Jvm.Cond.privateMethod ({ cls := "WicketBoard", name := "grade", desc := "(LWicketBoard$Umpire;)V" } : Jvm.MethodName)) ∈ lw_tbl := lw_at lw_m3 1 rfl
theorem q524 : (Jvm.Cond.instanceMethod ({ cls := "WicketBoard", name := "grade", desc := "(LWicketBoard$Umpire;)V" } : Jvm.MethodName)) ∈ lw_all := lw_g (lw_at lw_m3 2 rfl) rfl
theorem q525 : (Jvm.Cond.code ({ cls := "WicketBoard", name := "grade", desc := "(LWicketBoard$Umpire;)V" } : Jvm.MethodName) prog_1_method_36_code (4 : Nat) (Option.none : Option Jvm.ClassFile.FieldType)) ∈ lw_all := lw_g (lw_at lw_m3 3 rfl) rfl
theorem q526 : (Jvm.Cond.methodLink "WicketBoard" (285 : Nat) ({ cls := "WicketBoard$Umpire", name := "forget", desc := "()V" } : Jvm.MethodName)) ∈ lw_all := lw_g (lw_at lw_m3 4 rfl) rfl
theorem q531 : (Jvm.Cond.instanceMethod ({ cls := "WicketBoard", name := "stood", desc := "(II)I" } : Jvm.MethodName)) ∈ lw_all := lw_g (lw_at lw_m3 9 rfl) rfl
theorem q532 : (Jvm.Cond.selects "WicketBoard" ({ cls := "WicketBoard", name := "stood", desc := "(II)I" } : Jvm.MethodName) ({ cls := "WicketBoard", name := "stood", desc := "(II)I" } : Jvm.MethodName)) ∈ lw_all := lw_g (lw_at lw_m3 10 rfl) rfl
theorem q533 : (Jvm.Cond.code ({ cls := "WicketBoard", name := "stood", desc := "(II)I" } : Jvm.MethodName) prog_1_method_38_code (3 : Nat) (Option.some Jvm.ClassFile.FieldType.int)) ∈ lw_all := lw_g (lw_at lw_m3 11 rfl) rfl
theorem q535 : (Jvm.Cond.instanceMethod ({ cls := "WicketBoard", name := "together", desc := "()I" } : Jvm.MethodName)) ∈ lw_all := lw_g (lw_at lw_m3 13 rfl) rfl
theorem q536 : (Jvm.Cond.selects "WicketBoard" ({ cls := "WicketBoard", name := "together", desc := "()I" } : Jvm.MethodName) ({ cls := "WicketBoard", name := "together", desc := "()I" } : Jvm.MethodName)) ∈ lw_all := lw_g (lw_at lw_m3 14 rfl) rfl
theorem q537 : (Jvm.Cond.code ({ cls := "WicketBoard", name := "together", desc := "()I" } : Jvm.MethodName) prog_1_method_39_code (3 : Nat) (Option.some Jvm.ClassFile.FieldType.int)) ∈ lw_all := lw_g (lw_at lw_m3 15 rfl) rfl
theorem q539 : (Jvm.Cond.instanceMethod ({ cls := "WicketBoard", name := "count", desc := "(I)I" } : Jvm.MethodName)) ∈ lw_all := lw_g (lw_at lw_m3 17 rfl) rfl
theorem q540 : (Jvm.Cond.selects "WicketBoard" ({ cls := "WicketBoard", name := "count", desc := "(I)I" } : Jvm.MethodName) ({ cls := "WicketBoard", name := "count", desc := "(I)I" } : Jvm.MethodName)) ∈ lw_all := lw_g (lw_at lw_m3 18 rfl) rfl
theorem q541 : (Jvm.Cond.code ({ cls := "WicketBoard", name := "count", desc := "(I)I" } : Jvm.MethodName) prog_1_method_40_code (4 : Nat) (Option.some Jvm.ClassFile.FieldType.int)) ∈ lw_all := lw_g (lw_at lw_m3 19 rfl) rfl
theorem q542 : (Jvm.Cond.methodLink "WicketBoard" (291 : Nat) ({ cls := "java/lang/Integer", name := "bitCount", desc := "(I)I" } : Jvm.MethodName)) ∈ lw_all := lw_g (lw_at lw_m3 20 rfl) rfl
theorem q553 : (Jvm.Cond.instanceMethod ({ cls := "WicketBoard", name := "about", desc := "(II)I" } : Jvm.MethodName)) ∈ lw_all := lw_g (lw_at lw_m3 31 rfl) rfl
theorem q554 : (Jvm.Cond.selects "WicketBoard" ({ cls := "WicketBoard", name := "about", desc := "(II)I" } : Jvm.MethodName) ({ cls := "WicketBoard", name := "about", desc := "(II)I" } : Jvm.MethodName)) ∈ lw_all := lw_g (lw_at lw_m3 32 rfl) rfl
theorem q555 : (Jvm.Cond.code ({ cls := "WicketBoard", name := "about", desc := "(II)I" } : Jvm.MethodName) prog_1_method_37_code (4 : Nat) (Option.some Jvm.ClassFile.FieldType.int)) ∈ lw_all := lw_g (lw_at lw_m3 33 rfl) rfl
theorem q556 : (Jvm.Cond.classLink "WicketBoard" (288 : Nat) "java/util/NoSuchElementException") ∈ lw_all := lw_g (lw_at lw_m3 34 rfl) rfl
theorem q567 : (Jvm.Cond.methodLink "WicketBoard" (290 : Nat) ({ cls := "java/util/NoSuchElementException", name := "<init>", desc := "()V" } : Jvm.MethodName)) ∈ lw_all := lw_g (lw_at lw_m3 45 rfl) rfl
theorem q927 : (Jvm.Cond.castable "WicketBoard" "java/lang/Object") ∈ lw_tbl := lw_at lw_m4 165 rfl
theorem in_X1 : ∀ w ∈ wsX10, w ∈ lw_all := lw_in wsX10 [300, 302, 304, 306, 308, 310, 312, 314, 316, 318, 320, 322, 324, 326, 328, 330, 332, 334, 336, 338, 340, 342, 344, 346, 348, 350, 352] (by decide +kernel) (by decide +kernel)
/-! WicketBoard$Rule -/
def RX2 : String := "WicketBoard$Rule"
def TX2 : u_T := fun k => match k with
  | 0 => ("WicketBoard$Rule", "name", "Ljava/lang/String;", true)
  | 1 => ("WicketBoard$Rule", "low", "I", true)
  | 2 => ("WicketBoard$Rule", "high", "I", true)
  | _ => ("WicketBoard$Rule", "without", "I", true)
def tyX2 : Nat → FieldType := fun k => match k with
  | 0 => .object "java/lang/String"
  | 1 => .int
  | 2 => .int
  | _ => .int
abbrev wsX20 : List Cond := u_ws RX2 TX2 4
theorem nmX2 : ∀ a, a < 4 → ∀ b, b < 4 → a ≠ b → (TX2 a).2.1 ≠ (TX2 b).2.1 := by decide +kernel
theorem tyX2_ok : ∀ k, k < 4 → parseFieldDescriptor (TX2 k).2.2.1 = some (tyX2 k) := by decide +kernel
abbrev cX2_is : ByteArray := prog_4_method_2_code
def yX2_is : MethodName := ⟨RX2, "is", "([BII)Z"⟩
abbrev cX2_init : ByteArray := prog_4_method_1_code
def yX2_init : MethodName := ⟨RX2, "<init>", "(Ljava/lang/String;III)V"⟩
theorem q44 : (Jvm.Cond.initialized "WicketBoard$Rule") ∈ lw_all := lw_g (lw_at lw_m1 2 rfl) rfl
theorem q97 : (Jvm.Cond.instanceMethod ({ cls := "WicketBoard$Rule", name := "is", desc := "([BII)Z" } : Jvm.MethodName)) ∈ lw_all := lw_g (lw_at lw_m1 55 rfl) rfl
theorem q98 : (Jvm.Cond.selects "WicketBoard$Rule" ({ cls := "WicketBoard$Rule", name := "is", desc := "([BII)Z" } : Jvm.MethodName) ({ cls := "WicketBoard$Rule", name := "is", desc := "([BII)Z" } : Jvm.MethodName)) ∈ lw_all := lw_g (lw_at lw_m1 56 rfl) rfl
theorem q99 : (Jvm.Cond.code ({ cls := "WicketBoard$Rule", name := "is", desc := "([BII)Z" } : Jvm.MethodName) prog_4_method_2_code (5 : Nat) (Option.some Jvm.ClassFile.FieldType.boolean)) ∈ lw_all := lw_g (lw_at lw_m1 57 rfl) rfl
theorem q100 : (Jvm.Cond.methodLink "WicketBoard$Rule" (23 : Nat) ({ cls := "java/lang/String", name := "length", desc := "()I" } : Jvm.MethodName)) ∈ lw_all := lw_g (lw_at lw_m1 58 rfl) rfl
theorem q110 : (Jvm.Cond.methodLink "WicketBoard$Rule" (29 : Nat) ({ cls := "java/lang/String", name := "charAt", desc := "(I)C" } : Jvm.MethodName)) ∈ lw_all := lw_g (lw_at lw_m1 68 rfl) rfl
theorem q172 : (Jvm.Cond.instantiable "WicketBoard$Rule" (4 : Nat)) ∈ lw_all := lw_g (lw_at lw_m1 130 rfl) rfl
theorem q175 : (Jvm.Cond.instanceMethod ({ cls := "WicketBoard$Rule", name := "<init>", desc := "(Ljava/lang/String;III)V" } : Jvm.MethodName)) ∈ lw_all := lw_g (lw_at lw_m1 133 rfl) rfl
theorem q176 : (Jvm.Cond.code ({ cls := "WicketBoard$Rule", name := "<init>", desc := "(Ljava/lang/String;III)V" } : Jvm.MethodName) prog_4_method_1_code (5 : Nat) (Option.none : Option Jvm.ClassFile.FieldType)) ∈ lw_all := lw_g (lw_at lw_m1 134 rfl) rfl
theorem q177 : (Jvm.Cond.methodLink "WicketBoard$Rule" (1 : Nat) ({ cls := "java/lang/Object", name := "<init>", desc := "()V" } : Jvm.MethodName)) ∈ lw_all := lw_g (lw_at lw_m1 135 rfl) rfl
theorem q178 : (Jvm.Cond.fieldLink "WicketBoard$Rule" (7 : Nat) "WicketBoard$Rule" "name" "Ljava/lang/String;") ∈ lw_all := lw_g (lw_at lw_m1 136 rfl) rfl
theorem q179 : (Jvm.Cond.fieldLink "WicketBoard$Rule" (13 : Nat) "WicketBoard$Rule" "low" "I") ∈ lw_all := lw_g (lw_at lw_m1 137 rfl) rfl
theorem q181 : (Jvm.Cond.fieldLink "WicketBoard$Rule" (17 : Nat) "WicketBoard$Rule" "high" "I") ∈ lw_all := lw_g (lw_at lw_m1 139 rfl) rfl
theorem q183 : (Jvm.Cond.fieldLink "WicketBoard$Rule" (20 : Nat) "WicketBoard$Rule" "without" "I") ∈ lw_all := lw_g (lw_at lw_m1 141 rfl) rfl
theorem q185 : (Jvm.Cond.laysFinal "WicketBoard$Rule" "WicketBoard$Rule" "name" "Ljava/lang/String;") ∈ lw_all := lw_g (lw_at lw_m1 143 rfl) rfl
theorem q186 : (Jvm.Cond.soleField "WicketBoard$Rule" "name") ∈ lw_all := lw_g (lw_at lw_m1 144 rfl) rfl
theorem q187 : (Jvm.Cond.laysFinal "WicketBoard$Rule" "WicketBoard$Rule" "low" "I") ∈ lw_all := lw_g (lw_at lw_m1 145 rfl) rfl
theorem q188 : (Jvm.Cond.soleField "WicketBoard$Rule" "low") ∈ lw_all := lw_g (lw_at lw_m1 146 rfl) rfl
theorem q189 : (Jvm.Cond.laysFinal "WicketBoard$Rule" "WicketBoard$Rule" "high" "I") ∈ lw_all := lw_g (lw_at lw_m1 147 rfl) rfl
theorem q190 : (Jvm.Cond.soleField "WicketBoard$Rule" "high") ∈ lw_all := lw_g (lw_at lw_m1 148 rfl) rfl
theorem q191 : (Jvm.Cond.laysFinal "WicketBoard$Rule" "WicketBoard$Rule" "without" "I") ∈ lw_all := lw_g (lw_at lw_m1 149 rfl) rfl
theorem q192 : (Jvm.Cond.soleField "WicketBoard$Rule" "without") ∈ lw_all := lw_g (lw_at lw_m1 150 rfl) rfl
theorem q193 : (Jvm.Cond.superclass "WicketBoard$Rule" "java/lang/Object") ∈ lw_all := lw_g (lw_at lw_m1 151 rfl) rfl
theorem q928 : (Jvm.Cond.castable "WicketBoard$Rule" "java/lang/Object") ∈ lw_tbl := lw_at lw_m4 166 rfl
theorem in_X2 : ∀ w ∈ wsX20, w ∈ lw_all := lw_in wsX20 [185, 187, 189, 191] (by decide +kernel) (by decide +kernel)
/-! WicketBoard$Fault -/
def RX3 : String := "WicketBoard$Fault"
def TX3 : u_T := fun k => match k with
  | 0 => ("java/lang/Throwable", "cause", "Ljava/lang/Throwable;", false)
  | 1 => ("java/lang/Throwable", "stackTrace", "[Ljava/lang/StackTraceElement;", false)
  | 2 => ("java/lang/Throwable", "suppressedExceptions", "Ljava/util/List;", false)
  | 3 => ("java/lang/Throwable", "detailMessage", "Ljava/lang/String;", false)
  | 4 => ("java/lang/Throwable", "backtrace", "Ljava/lang/Object;", false)
  | 5 => ("java/lang/Throwable", "depth", "I", false)
  | 6 => ("WicketBoard$Fault", "kind", "I", false)
  | _ => ("WicketBoard$Fault", "place", "I", false)
def tyX3 : Nat → FieldType := fun k => match k with
  | 0 => .object "java/lang/Throwable"
  | 1 => .array (.object "java/lang/StackTraceElement")
  | 2 => .object "java/util/List"
  | 3 => .object "java/lang/String"
  | 4 => .object "java/lang/Object"
  | 5 => .int
  | 6 => .int
  | _ => .int
abbrev wsX30 : List Cond := u_ws RX3 TX3 8
theorem nmX3 : ∀ a, a < 8 → ∀ b, b < 8 → a ≠ b → (TX3 a).2.1 ≠ (TX3 b).2.1 := by decide +kernel
theorem tyX3_ok : ∀ k, k < 8 → parseFieldDescriptor (TX3 k).2.2.1 = some (tyX3 k) := by decide +kernel
abbrev cX3_init : ByteArray := prog_2_method_1_code
def yX3_init : MethodName := ⟨RX3, "<init>", "()V"⟩
theorem q47 : (Jvm.Cond.initialized "WicketBoard$Fault") ∈ lw_all := lw_g (lw_at lw_m1 5 rfl) rfl
theorem q203 : (Jvm.Cond.instantiable "WicketBoard$Fault" (8 : Nat)) ∈ lw_all := lw_g (lw_at lw_m1 161 rfl) rfl
theorem q204 : (Jvm.Cond.castable "WicketBoard$Fault" "WicketBoard$Fault") ∈ lw_tbl := lw_at lw_m1 162 rfl
theorem q209 : (Jvm.Cond.selects "WicketBoard$Fault" ({ cls := "java/lang/Throwable", name := "fillInStackTrace", desc := "(I)Ljava/lang/Throwable;" } : Jvm.MethodName) ({ cls := "java/lang/Throwable", name := "fillInStackTrace", desc := "(I)Ljava/lang/Throwable;" } : Jvm.MethodName)) ∈ lw_all := lw_g (lw_at lw_m1 167 rfl) rfl
theorem q210 : (Jvm.Cond.selects "WicketBoard$Fault" ({ cls := "java/lang/Throwable", name := "fillInStackTrace", desc := "()Ljava/lang/Throwable;" } : Jvm.MethodName) ({ cls := "java/lang/Throwable", name := "fillInStackTrace", desc := "()Ljava/lang/Throwable;" } : Jvm.MethodName)) ∈ lw_all := lw_g (lw_at lw_m1 168 rfl) rfl
theorem q211 : (Jvm.Cond.lays "WicketBoard$Fault" "java/lang/Throwable" "cause" "Ljava/lang/Throwable;") ∈ lw_all := lw_g (lw_at lw_m1 169 rfl) rfl
theorem q213 : (Jvm.Cond.lays "WicketBoard$Fault" "java/lang/Throwable" "stackTrace" "[Ljava/lang/StackTraceElement;") ∈ lw_all := lw_g (lw_at lw_m1 171 rfl) rfl
theorem q215 : (Jvm.Cond.lays "WicketBoard$Fault" "java/lang/Throwable" "suppressedExceptions" "Ljava/util/List;") ∈ lw_all := lw_g (lw_at lw_m1 173 rfl) rfl
theorem q217 : (Jvm.Cond.lays "WicketBoard$Fault" "java/lang/Throwable" "detailMessage" "Ljava/lang/String;") ∈ lw_all := lw_g (lw_at lw_m1 175 rfl) rfl
theorem q219 : (Jvm.Cond.lays "WicketBoard$Fault" "java/lang/Throwable" "backtrace" "Ljava/lang/Object;") ∈ lw_all := lw_g (lw_at lw_m1 177 rfl) rfl
theorem q241 : (Jvm.Cond.instanceMethod ({ cls := "WicketBoard$Fault", name := "<init>", desc := "()V" } : Jvm.MethodName)) ∈ lw_all := lw_g (lw_at lw_m1 199 rfl) rfl
theorem q242 : (Jvm.Cond.code ({ cls := "WicketBoard$Fault", name := "<init>", desc := "()V" } : Jvm.MethodName) prog_2_method_1_code (1 : Nat) (Option.none : Option Jvm.ClassFile.FieldType)) ∈ lw_all := lw_g (lw_at lw_m1 200 rfl) rfl
theorem q243 : (Jvm.Cond.methodLink "WicketBoard$Fault" (1 : Nat) ({ cls := "java/lang/Exception", name := "<init>", desc := "(Ljava/lang/String;Ljava/lang/Throwable;ZZ)V" } : Jvm.MethodName)) ∈ lw_all := lw_g (lw_at lw_m1 201 rfl) rfl
theorem q256 : (Jvm.Cond.lays "WicketBoard$Fault" "WicketBoard$Fault" "kind" "I") ∈ lw_all := lw_g (lw_at lw_m1 214 rfl) rfl
theorem q257 : (Jvm.Cond.soleField "WicketBoard$Fault" "kind") ∈ lw_all := lw_g (lw_at lw_m1 215 rfl) rfl
theorem q258 : (Jvm.Cond.lays "WicketBoard$Fault" "WicketBoard$Fault" "place" "I") ∈ lw_all := lw_g (lw_at lw_m1 216 rfl) rfl
theorem q259 : (Jvm.Cond.soleField "WicketBoard$Fault" "place") ∈ lw_all := lw_g (lw_at lw_m1 217 rfl) rfl
theorem q264 : (Jvm.Cond.lays "WicketBoard$Fault" "java/lang/Throwable" "depth" "I") ∈ lw_all := lw_g (lw_at lw_m1 222 rfl) rfl
theorem q267 : (Jvm.Cond.superclass "WicketBoard$Fault" "java/lang/Exception") ∈ lw_all := lw_g (lw_at lw_m1 225 rfl) rfl
theorem q929 : (Jvm.Cond.castable "WicketBoard$Fault" "java/lang/Object") ∈ lw_tbl := lw_at lw_m4 167 rfl
theorem in_X3 : ∀ w ∈ wsX30, w ∈ lw_all := lw_in wsX30 [211, 213, 215, 217, 219, 264, 256, 258] (by decide +kernel) (by decide +kernel)
/-! WicketBoardModel -/
def RX4 : String := "WicketBoardModel"
def TX4 : u_T := fun k => match k with
  | 0 => ("WicketBoardModel", "thrown", "I", false)
  | 1 => ("WicketBoardModel", "tape", "[I", true)
  | 2 => ("WicketBoardModel", "taped", "I", false)
  | 3 => ("WicketBoardModel", "rule", "[I", true)
  | 4 => ("WicketBoardModel", "usual", "[I", true)
  | 5 => ("WicketBoardModel", "low", "[I", true)
  | 6 => ("WicketBoardModel", "high", "[I", true)
  | 7 => ("WicketBoardModel", "fresh", "[I", true)
  | 8 => ("WicketBoardModel", "size", "I", false)
  | 9 => ("WicketBoardModel", "to", "I", false)
  | 10 => ("WicketBoardModel", "from", "I", false)
  | 11 => ("WicketBoardModel", "kind", "I", false)
  | 12 => ("WicketBoardModel", "number", "I", false)
  | 13 => ("WicketBoardModel", "fault", "I", false)
  | 14 => ("WicketBoardModel", "place", "I", false)
  | 15 => ("WicketBoardModel", "told", "I", false)
  | 16 => ("WicketBoardModel", "word", "J", false)
  | 17 => ("WicketBoardModel", "homeX", "[I", true)
  | 18 => ("WicketBoardModel", "homeY", "[I", true)
  | 19 => ("WicketBoardModel", "grade", "[I", true)
  | 20 => ("WicketBoardModel", "barred", "[I", true)
  | 21 => ("WicketBoardModel", "marks", "[I", true)
  | 22 => ("WicketBoardModel", "times", "[I", true)
  | 23 => ("WicketBoardModel", "points", "[I", true)
  | 24 => ("WicketBoardModel", "weeksStood", "[I", true)
  | 25 => ("WicketBoardModel", "stood", "[I", true)
  | 26 => ("WicketBoardModel", "gone", "[Z", true)
  | 27 => ("WicketBoardModel", "gameX", "[I", true)
  | 28 => ("WicketBoardModel", "gameY", "[I", true)
  | 29 => ("WicketBoardModel", "clubs", "[I", true)
  | 30 => ("WicketBoardModel", "level", "[I", true)
  | 31 => ("WicketBoardModel", "who", "[I", true)
  | 32 => ("WicketBoardModel", "marked", "[I", true)
  | 33 => ("WicketBoardModel", "umpires", "I", false)
  | 34 => ("WicketBoardModel", "games", "I", false)
  | 35 => ("WicketBoardModel", "week", "I", false)
  | 36 => ("WicketBoardModel", "marksNow", "I", false)
  | 37 => ("WicketBoardModel", "comes", "[I", true)
  | 38 => ("WicketBoardModel", "takes", "[I", true)
  | 39 => ("WicketBoardModel", "cell", "[I", true)
  | 40 => ("WicketBoardModel", "holder", "[I", true)
  | 41 => ("WicketBoardModel", "fixed", "[Z", true)
  | 42 => ("WicketBoardModel", "way", "[I", true)
  | 43 => ("WicketBoardModel", "whence", "[I", true)
  | 44 => ("WicketBoardModel", "mover", "[I", true)
  | _ => ("WicketBoardModel", "changed", "Z", false)
def tyX4 : Nat → FieldType := fun k => match k with
  | 0 => .int
  | 1 => .array .int
  | 2 => .int
  | 3 => .array .int
  | 4 => .array .int
  | 5 => .array .int
  | 6 => .array .int
  | 7 => .array .int
  | 8 => .int
  | 9 => .int
  | 10 => .int
  | 11 => .int
  | 12 => .int
  | 13 => .int
  | 14 => .int
  | 15 => .int
  | 16 => .long
  | 17 => .array .int
  | 18 => .array .int
  | 19 => .array .int
  | 20 => .array .int
  | 21 => .array .int
  | 22 => .array .int
  | 23 => .array .int
  | 24 => .array .int
  | 25 => .array .int
  | 26 => .array .boolean
  | 27 => .array .int
  | 28 => .array .int
  | 29 => .array .int
  | 30 => .array .int
  | 31 => .array .int
  | 32 => .array .int
  | 33 => .int
  | 34 => .int
  | 35 => .int
  | 36 => .int
  | 37 => .array .int
  | 38 => .array .int
  | 39 => .array .int
  | 40 => .array .int
  | 41 => .array .boolean
  | 42 => .array .int
  | 43 => .array .int
  | 44 => .array .int
  | _ => .boolean
abbrev wsX40 : List Cond := u_ws RX4 TX4 46
set_option maxRecDepth 100000 in
theorem nmX4 : ∀ a, a < 46 → ∀ b, b < 46 → a ≠ b → (TX4 a).2.1 ≠ (TX4 b).2.1 := by decide +kernel
set_option maxRecDepth 100000 in
theorem tyX4_ok : ∀ k, k < 46 → parseFieldDescriptor (TX4 k).2.2.1 = some (tyX4 k) := by decide +kernel
abbrev cX4_init : ByteArray := prog_7_method_1_code
def yX4_init : MethodName := ⟨RX4, "<init>", "()V"⟩
abbrev cX4_thrown : ByteArray := prog_7_method_2_code
def yX4_thrown : MethodName := ⟨RX4, "thrown", "()I"⟩
abbrev cX4_feed : ByteArray := prog_7_method_5_code
def yX4_feed : MethodName := ⟨RX4, "feed", "(IIIII)I"⟩
abbrev cX4_come : ByteArray := prog_7_method_4_code
def yX4_come : MethodName := ⟨RX4, "come", "(I)V"⟩
abbrev cX4_end : ByteArray := prog_7_method_6_code
def yX4_end : MethodName := ⟨RX4, "end", "(I)Z"⟩
abbrev cX4_rules : ByteArray := prog_7_method_16_code
def yX4_rules : MethodName := ⟨RX4, "rules", "()I"⟩
abbrev cX4_go : ByteArray := prog_7_method_10_code
def yX4_go : MethodName := ⟨RX4, "go", "()V"⟩
abbrev cX4_isLetter : ByteArray := prog_7_method_9_code
def yX4_isLetter : MethodName := ⟨RX4, "isLetter", "(I)Z"⟩
abbrev cX4_isDigit : ByteArray := prog_7_method_8_code
def yX4_isDigit : MethodName := ⟨RX4, "isDigit", "(I)Z"⟩
abbrev cX4_byteAt : ByteArray := prog_7_method_7_code
def yX4_byteAt : MethodName := ⟨RX4, "byteAt", "(I)I"⟩
abbrev cX4_readRule : ByteArray := prog_7_method_15_code
def yX4_readRule : MethodName := ⟨RX4, "readRule", "()Z"⟩
abbrev cX4_ruleAtHand : ByteArray := prog_7_method_13_code
def yX4_ruleAtHand : MethodName := ⟨RX4, "ruleAtHand", "()I"⟩
abbrev cX4_spelt : ByteArray := prog_7_method_11_code
def yX4_spelt : MethodName := ⟨RX4, "spelt", "(IIII)J"⟩
abbrev cX4_isKey : ByteArray := prog_7_method_12_code
def yX4_isKey : MethodName := ⟨RX4, "isKey", "(J)Z"⟩
abbrev cX4_bad : ByteArray := prog_7_method_14_code
def yX4_bad : MethodName := ⟨RX4, "bad", "(I)Z"⟩
abbrev cX4_fault : ByteArray := prog_7_method_17_code
def yX4_fault : MethodName := ⟨RX4, "fault", "()I"⟩
abbrev cX4_rule : ByteArray := prog_7_method_18_code
def yX4_rule : MethodName := ⟨RX4, "rule", "(I)I"⟩
abbrev cX4_umpire : ByteArray := prog_7_method_22_code
def yX4_umpire : MethodName := ⟨RX4, "umpire", "(IIII)I"⟩
abbrev cX4_isIn : ByteArray := prog_7_method_19_code
def yX4_isIn : MethodName := ⟨RX4, "isIn", "(III)Z"⟩
abbrev cX4_away : ByteArray := prog_7_method_24_code
def yX4_away : MethodName := ⟨RX4, "away", "(IIZ)Z"⟩
abbrev cX4_isUmpire : ByteArray := prog_7_method_20_code
def yX4_isUmpire : MethodName := ⟨RX4, "isUmpire", "(I)Z"⟩
abbrev cX4_seatOf : ByteArray := prog_7_method_23_code
def yX4_seatOf : MethodName := ⟨RX4, "seatOf", "(I)I"⟩
abbrev cX4_game : ByteArray := prog_7_method_25_code
def yX4_game : MethodName := ⟨RX4, "game", "(IIIII)I"⟩
abbrev cX4_may : ByteArray := prog_7_method_30_code
def yX4_may : MethodName := ⟨RX4, "may", "(II)Z"⟩
abbrev cX4_isSeat : ByteArray := prog_7_method_21_code
def yX4_isSeat : MethodName := ⟨RX4, "isSeat", "(I)Z"⟩
abbrev cX4_mayHave : ByteArray := prog_7_method_28_code
def yX4_mayHave : MethodName := ⟨RX4, "mayHave", "(II)Z"⟩
abbrev cX4_miles : ByteArray := prog_7_method_27_code
def yX4_miles : MethodName := ⟨RX4, "miles", "(II)I"⟩
abbrev cX4_less : ByteArray := prog_7_method_26_code
def yX4_less : MethodName := ⟨RX4, "less", "(II)I"⟩
abbrev cX4_cost : ByteArray := prog_7_method_31_code
def yX4_cost : MethodName := ⟨RX4, "cost", "(II)I"⟩
abbrev cX4_costOf : ByteArray := prog_7_method_29_code
def yX4_costOf : MethodName := ⟨RX4, "costOf", "(II)I"⟩
abbrev cX4_send : ByteArray := prog_7_method_41_code
def yX4_send : MethodName := ⟨RX4, "send", "()I"⟩
abbrev cX4_settle : ByteArray := prog_7_method_35_code
def yX4_settle : MethodName := ⟨RX4, "settle", "()V"⟩
abbrev cX4_seek : ByteArray := prog_7_method_33_code
def yX4_seek : MethodName := ⟨RX4, "seek", "(I)V"⟩
abbrev cX4_pays : ByteArray := prog_7_method_32_code
def yX4_pays : MethodName := ⟨RX4, "pays", "(I)I"⟩
abbrev cX4_change : ByteArray := prog_7_method_34_code
def yX4_change : MethodName := ⟨RX4, "change", "(I)V"⟩
abbrev cX4_lessen : ByteArray := prog_7_method_40_code
def yX4_lessen : MethodName := ⟨RX4, "lessen", "(II)V"⟩
abbrev cX4_placeOf : ByteArray := prog_7_method_37_code
def yX4_placeOf : MethodName := ⟨RX4, "placeOf", "(I)I"⟩
abbrev cX4_ways : ByteArray := prog_7_method_38_code
def yX4_ways : MethodName := ⟨RX4, "ways", "(III)V"⟩
abbrev cX4_moves : ByteArray := prog_7_method_39_code
def yX4_moves : MethodName := ⟨RX4, "moves", "(I)V"⟩
abbrev cX4_offer : ByteArray := prog_7_method_36_code
def yX4_offer : MethodName := ⟨RX4, "offer", "(IIII)V"⟩
abbrev cX4_filled : ByteArray := prog_7_method_42_code
def yX4_filled : MethodName := ⟨RX4, "filled", "()I"⟩
abbrev cX4_off : ByteArray := prog_7_method_43_code
def yX4_off : MethodName := ⟨RX4, "off", "(I)I"⟩
abbrev cX4_spare : ByteArray := prog_7_method_44_code
def yX4_spare : MethodName := ⟨RX4, "spare", "(I)I"⟩
abbrev cX4_seat : ByteArray := prog_7_method_45_code
def yX4_seat : MethodName := ⟨RX4, "seat", "(I)I"⟩
abbrev cX4_mark : ByteArray := prog_7_method_46_code
def yX4_mark : MethodName := ⟨RX4, "mark", "(IIIZ)Z"⟩
abbrev cX4_next : ByteArray := prog_7_method_47_code
def yX4_next : MethodName := ⟨RX4, "next", "()I"⟩
abbrev cX4_about : ByteArray := prog_7_method_48_code
def yX4_about : MethodName := ⟨RX4, "about", "(II)I"⟩
abbrev cX4_refuse : ByteArray := prog_7_method_3_code
def yX4_refuse : MethodName := ⟨RX4, "refuse", "()I"⟩
abbrev cX4_stood : ByteArray := prog_7_method_49_code
def yX4_stood : MethodName := ⟨RX4, "stood", "(II)I"⟩
abbrev cX4_together : ByteArray := prog_7_method_50_code
def yX4_together : MethodName := ⟨RX4, "together", "()I"⟩
abbrev cX4_count : ByteArray := prog_7_method_51_code
def yX4_count : MethodName := ⟨RX4, "count", "(I)I"⟩
theorem q48 : (Jvm.Cond.initialized "WicketBoardModel") ∈ lw_all := lw_g (lw_at lw_m1 6 rfl) rfl
theorem q580 : (Jvm.Cond.instantiable "WicketBoardModel" (46 : Nat)) ∈ lw_all := lw_g (lw_at lw_m3 58 rfl) rfl
theorem q582 : (Jvm.Cond.instanceMethod ({ cls := "WicketBoardModel", name := "<init>", desc := "()V" } : Jvm.MethodName)) ∈ lw_all := lw_g (lw_at lw_m3 60 rfl) rfl
theorem q583 : (Jvm.Cond.code ({ cls := "WicketBoardModel", name := "<init>", desc := "()V" } : Jvm.MethodName) prog_7_method_1_code (1 : Nat) (Option.none : Option Jvm.ClassFile.FieldType)) ∈ lw_all := lw_g (lw_at lw_m3 61 rfl) rfl
theorem q584 : (Jvm.Cond.methodLink "WicketBoardModel" (1 : Nat) ({ cls := "java/lang/Object", name := "<init>", desc := "()V" } : Jvm.MethodName)) ∈ lw_all := lw_g (lw_at lw_m3 62 rfl) rfl
theorem q585 : (Jvm.Cond.fieldLink "WicketBoardModel" (101 : Nat) "WicketBoardModel" "thrown" "I") ∈ lw_all := lw_g (lw_at lw_m3 63 rfl) rfl
theorem q586 : (Jvm.Cond.fieldLink "WicketBoardModel" (7 : Nat) "WicketBoardModel" "tape" "[I") ∈ lw_all := lw_g (lw_at lw_m3 64 rfl) rfl
theorem q587 : (Jvm.Cond.fieldLink "WicketBoardModel" (105 : Nat) "WicketBoardModel" "taped" "I") ∈ lw_all := lw_g (lw_at lw_m3 65 rfl) rfl
theorem q588 : (Jvm.Cond.fieldLink "WicketBoardModel" (13 : Nat) "WicketBoardModel" "rule" "[I") ∈ lw_all := lw_g (lw_at lw_m3 66 rfl) rfl
theorem q589 : (Jvm.Cond.fieldLink "WicketBoardModel" (16 : Nat) "WicketBoardModel" "usual" "[I") ∈ lw_all := lw_g (lw_at lw_m3 67 rfl) rfl
theorem q590 : (Jvm.Cond.fieldLink "WicketBoardModel" (19 : Nat) "WicketBoardModel" "low" "[I") ∈ lw_all := lw_g (lw_at lw_m3 68 rfl) rfl
theorem q591 : (Jvm.Cond.fieldLink "WicketBoardModel" (22 : Nat) "WicketBoardModel" "high" "[I") ∈ lw_all := lw_g (lw_at lw_m3 69 rfl) rfl
theorem q592 : (Jvm.Cond.fieldLink "WicketBoardModel" (25 : Nat) "WicketBoardModel" "fresh" "[I") ∈ lw_all := lw_g (lw_at lw_m3 70 rfl) rfl
theorem q593 : (Jvm.Cond.fieldLink "WicketBoardModel" (112 : Nat) "WicketBoardModel" "size" "I") ∈ lw_all := lw_g (lw_at lw_m3 71 rfl) rfl
theorem q594 : (Jvm.Cond.fieldLink "WicketBoardModel" (115 : Nat) "WicketBoardModel" "to" "I") ∈ lw_all := lw_g (lw_at lw_m3 72 rfl) rfl
theorem q595 : (Jvm.Cond.fieldLink "WicketBoardModel" (118 : Nat) "WicketBoardModel" "from" "I") ∈ lw_all := lw_g (lw_at lw_m3 73 rfl) rfl
theorem q596 : (Jvm.Cond.fieldLink "WicketBoardModel" (121 : Nat) "WicketBoardModel" "kind" "I") ∈ lw_all := lw_g (lw_at lw_m3 74 rfl) rfl
theorem q597 : (Jvm.Cond.fieldLink "WicketBoardModel" (135 : Nat) "WicketBoardModel" "number" "I") ∈ lw_all := lw_g (lw_at lw_m3 75 rfl) rfl
theorem q598 : (Jvm.Cond.fieldLink "WicketBoardModel" (158 : Nat) "WicketBoardModel" "fault" "I") ∈ lw_all := lw_g (lw_at lw_m3 76 rfl) rfl
theorem q599 : (Jvm.Cond.fieldLink "WicketBoardModel" (161 : Nat) "WicketBoardModel" "place" "I") ∈ lw_all := lw_g (lw_at lw_m3 77 rfl) rfl
theorem q600 : (Jvm.Cond.fieldLink "WicketBoardModel" (171 : Nat) "WicketBoardModel" "told" "I") ∈ lw_all := lw_g (lw_at lw_m3 78 rfl) rfl
theorem q601 : (Jvm.Cond.fieldLink "WicketBoardModel" (131 : Nat) "WicketBoardModel" "word" "J") ∈ lw_all := lw_g (lw_at lw_m3 79 rfl) rfl
theorem q602 : (Jvm.Cond.fieldLink "WicketBoardModel" (28 : Nat) "WicketBoardModel" "homeX" "[I") ∈ lw_all := lw_g (lw_at lw_m3 80 rfl) rfl
theorem q603 : (Jvm.Cond.fieldLink "WicketBoardModel" (31 : Nat) "WicketBoardModel" "homeY" "[I") ∈ lw_all := lw_g (lw_at lw_m3 81 rfl) rfl
theorem q604 : (Jvm.Cond.fieldLink "WicketBoardModel" (34 : Nat) "WicketBoardModel" "grade" "[I") ∈ lw_all := lw_g (lw_at lw_m3 82 rfl) rfl
theorem q605 : (Jvm.Cond.fieldLink "WicketBoardModel" (37 : Nat) "WicketBoardModel" "barred" "[I") ∈ lw_all := lw_g (lw_at lw_m3 83 rfl) rfl
theorem q606 : (Jvm.Cond.fieldLink "WicketBoardModel" (40 : Nat) "WicketBoardModel" "marks" "[I") ∈ lw_all := lw_g (lw_at lw_m3 84 rfl) rfl
theorem q607 : (Jvm.Cond.fieldLink "WicketBoardModel" (43 : Nat) "WicketBoardModel" "times" "[I") ∈ lw_all := lw_g (lw_at lw_m3 85 rfl) rfl
theorem q608 : (Jvm.Cond.fieldLink "WicketBoardModel" (46 : Nat) "WicketBoardModel" "points" "[I") ∈ lw_all := lw_g (lw_at lw_m3 86 rfl) rfl
theorem q609 : (Jvm.Cond.fieldLink "WicketBoardModel" (49 : Nat) "WicketBoardModel" "weeksStood" "[I") ∈ lw_all := lw_g (lw_at lw_m3 87 rfl) rfl
theorem q610 : (Jvm.Cond.fieldLink "WicketBoardModel" (52 : Nat) "WicketBoardModel" "stood" "[I") ∈ lw_all := lw_g (lw_at lw_m3 88 rfl) rfl
theorem q611 : (Jvm.Cond.fieldLink "WicketBoardModel" (55 : Nat) "WicketBoardModel" "gone" "[Z") ∈ lw_all := lw_g (lw_at lw_m3 89 rfl) rfl
theorem q612 : (Jvm.Cond.fieldLink "WicketBoardModel" (59 : Nat) "WicketBoardModel" "gameX" "[I") ∈ lw_all := lw_g (lw_at lw_m3 90 rfl) rfl
theorem q613 : (Jvm.Cond.fieldLink "WicketBoardModel" (62 : Nat) "WicketBoardModel" "gameY" "[I") ∈ lw_all := lw_g (lw_at lw_m3 91 rfl) rfl
theorem q614 : (Jvm.Cond.fieldLink "WicketBoardModel" (65 : Nat) "WicketBoardModel" "clubs" "[I") ∈ lw_all := lw_g (lw_at lw_m3 92 rfl) rfl
theorem q615 : (Jvm.Cond.fieldLink "WicketBoardModel" (68 : Nat) "WicketBoardModel" "level" "[I") ∈ lw_all := lw_g (lw_at lw_m3 93 rfl) rfl
theorem q616 : (Jvm.Cond.fieldLink "WicketBoardModel" (71 : Nat) "WicketBoardModel" "who" "[I") ∈ lw_all := lw_g (lw_at lw_m3 94 rfl) rfl
theorem q617 : (Jvm.Cond.fieldLink "WicketBoardModel" (74 : Nat) "WicketBoardModel" "marked" "[I") ∈ lw_all := lw_g (lw_at lw_m3 95 rfl) rfl
theorem q618 : (Jvm.Cond.fieldLink "WicketBoardModel" (181 : Nat) "WicketBoardModel" "umpires" "I") ∈ lw_all := lw_g (lw_at lw_m3 96 rfl) rfl
theorem q619 : (Jvm.Cond.fieldLink "WicketBoardModel" (184 : Nat) "WicketBoardModel" "games" "I") ∈ lw_all := lw_g (lw_at lw_m3 97 rfl) rfl
theorem q620 : (Jvm.Cond.fieldLink "WicketBoardModel" (194 : Nat) "WicketBoardModel" "week" "I") ∈ lw_all := lw_g (lw_at lw_m3 98 rfl) rfl
theorem q621 : (Jvm.Cond.fieldLink "WicketBoardModel" (250 : Nat) "WicketBoardModel" "marksNow" "I") ∈ lw_all := lw_g (lw_at lw_m3 99 rfl) rfl
theorem q622 : (Jvm.Cond.fieldLink "WicketBoardModel" (77 : Nat) "WicketBoardModel" "comes" "[I") ∈ lw_all := lw_g (lw_at lw_m3 100 rfl) rfl
theorem q623 : (Jvm.Cond.fieldLink "WicketBoardModel" (80 : Nat) "WicketBoardModel" "takes" "[I") ∈ lw_all := lw_g (lw_at lw_m3 101 rfl) rfl
theorem q624 : (Jvm.Cond.fieldLink "WicketBoardModel" (83 : Nat) "WicketBoardModel" "cell" "[I") ∈ lw_all := lw_g (lw_at lw_m3 102 rfl) rfl
theorem q625 : (Jvm.Cond.fieldLink "WicketBoardModel" (86 : Nat) "WicketBoardModel" "holder" "[I") ∈ lw_all := lw_g (lw_at lw_m3 103 rfl) rfl
theorem q626 : (Jvm.Cond.fieldLink "WicketBoardModel" (89 : Nat) "WicketBoardModel" "fixed" "[Z") ∈ lw_all := lw_g (lw_at lw_m3 104 rfl) rfl
theorem q627 : (Jvm.Cond.fieldLink "WicketBoardModel" (92 : Nat) "WicketBoardModel" "way" "[I") ∈ lw_all := lw_g (lw_at lw_m3 105 rfl) rfl
theorem q628 : (Jvm.Cond.fieldLink "WicketBoardModel" (95 : Nat) "WicketBoardModel" "whence" "[I") ∈ lw_all := lw_g (lw_at lw_m3 106 rfl) rfl
theorem q629 : (Jvm.Cond.fieldLink "WicketBoardModel" (98 : Nat) "WicketBoardModel" "mover" "[I") ∈ lw_all := lw_g (lw_at lw_m3 107 rfl) rfl
theorem q630 : (Jvm.Cond.fieldLink "WicketBoardModel" (232 : Nat) "WicketBoardModel" "changed" "Z") ∈ lw_all := lw_g (lw_at lw_m3 108 rfl) rfl
theorem q631 : (Jvm.Cond.lays "WicketBoardModel" "WicketBoardModel" "thrown" "I") ∈ lw_all := lw_g (lw_at lw_m3 109 rfl) rfl
theorem q632 : (Jvm.Cond.soleField "WicketBoardModel" "thrown") ∈ lw_all := lw_g (lw_at lw_m3 110 rfl) rfl
theorem q633 : (Jvm.Cond.laysFinal "WicketBoardModel" "WicketBoardModel" "tape" "[I") ∈ lw_all := lw_g (lw_at lw_m3 111 rfl) rfl
theorem q634 : (Jvm.Cond.soleField "WicketBoardModel" "tape") ∈ lw_all := lw_g (lw_at lw_m3 112 rfl) rfl
theorem q635 : (Jvm.Cond.lays "WicketBoardModel" "WicketBoardModel" "taped" "I") ∈ lw_all := lw_g (lw_at lw_m3 113 rfl) rfl
theorem q636 : (Jvm.Cond.soleField "WicketBoardModel" "taped") ∈ lw_all := lw_g (lw_at lw_m3 114 rfl) rfl
theorem q637 : (Jvm.Cond.laysFinal "WicketBoardModel" "WicketBoardModel" "rule" "[I") ∈ lw_all := lw_g (lw_at lw_m3 115 rfl) rfl
theorem q638 : (Jvm.Cond.soleField "WicketBoardModel" "rule") ∈ lw_all := lw_g (lw_at lw_m3 116 rfl) rfl
theorem q639 : (Jvm.Cond.laysFinal "WicketBoardModel" "WicketBoardModel" "usual" "[I") ∈ lw_all := lw_g (lw_at lw_m3 117 rfl) rfl
theorem q640 : (Jvm.Cond.soleField "WicketBoardModel" "usual") ∈ lw_all := lw_g (lw_at lw_m3 118 rfl) rfl
theorem q641 : (Jvm.Cond.laysFinal "WicketBoardModel" "WicketBoardModel" "low" "[I") ∈ lw_all := lw_g (lw_at lw_m3 119 rfl) rfl
theorem q642 : (Jvm.Cond.soleField "WicketBoardModel" "low") ∈ lw_all := lw_g (lw_at lw_m3 120 rfl) rfl
theorem q643 : (Jvm.Cond.laysFinal "WicketBoardModel" "WicketBoardModel" "high" "[I") ∈ lw_all := lw_g (lw_at lw_m3 121 rfl) rfl
theorem q644 : (Jvm.Cond.soleField "WicketBoardModel" "high") ∈ lw_all := lw_g (lw_at lw_m3 122 rfl) rfl
theorem q645 : (Jvm.Cond.laysFinal "WicketBoardModel" "WicketBoardModel" "fresh" "[I") ∈ lw_all := lw_g (lw_at lw_m3 123 rfl) rfl
theorem q646 : (Jvm.Cond.soleField "WicketBoardModel" "fresh") ∈ lw_all := lw_g (lw_at lw_m3 124 rfl) rfl
theorem q647 : (Jvm.Cond.lays "WicketBoardModel" "WicketBoardModel" "size" "I") ∈ lw_all := lw_g (lw_at lw_m3 125 rfl) rfl
theorem q648 : (Jvm.Cond.soleField "WicketBoardModel" "size") ∈ lw_all := lw_g (lw_at lw_m3 126 rfl) rfl
theorem q649 : (Jvm.Cond.lays "WicketBoardModel" "WicketBoardModel" "to" "I") ∈ lw_all := lw_g (lw_at lw_m3 127 rfl) rfl
theorem q650 : (Jvm.Cond.soleField "WicketBoardModel" "to") ∈ lw_all := lw_g (lw_at lw_m3 128 rfl) rfl
theorem q651 : (Jvm.Cond.lays "WicketBoardModel" "WicketBoardModel" "from" "I") ∈ lw_all := lw_g (lw_at lw_m3 129 rfl) rfl
theorem q652 : (Jvm.Cond.soleField "WicketBoardModel" "from") ∈ lw_all := lw_g (lw_at lw_m3 130 rfl) rfl
theorem q653 : (Jvm.Cond.lays "WicketBoardModel" "WicketBoardModel" "kind" "I") ∈ lw_all := lw_g (lw_at lw_m3 131 rfl) rfl
theorem q654 : (Jvm.Cond.soleField "WicketBoardModel" "kind") ∈ lw_all := lw_g (lw_at lw_m3 132 rfl) rfl
theorem q655 : (Jvm.Cond.lays "WicketBoardModel" "WicketBoardModel" "number" "I") ∈ lw_all := lw_g (lw_at lw_m3 133 rfl) rfl
theorem q656 : (Jvm.Cond.soleField "WicketBoardModel" "number") ∈ lw_all := lw_g (lw_at lw_m3 134 rfl) rfl
theorem q657 : (Jvm.Cond.lays "WicketBoardModel" "WicketBoardModel" "fault" "I") ∈ lw_all := lw_g (lw_at lw_m3 135 rfl) rfl
theorem q658 : (Jvm.Cond.soleField "WicketBoardModel" "fault") ∈ lw_all := lw_g (lw_at lw_m3 136 rfl) rfl
theorem q659 : (Jvm.Cond.lays "WicketBoardModel" "WicketBoardModel" "place" "I") ∈ lw_all := lw_g (lw_at lw_m3 137 rfl) rfl
theorem q660 : (Jvm.Cond.soleField "WicketBoardModel" "place") ∈ lw_all := lw_g (lw_at lw_m3 138 rfl) rfl
theorem q661 : (Jvm.Cond.lays "WicketBoardModel" "WicketBoardModel" "told" "I") ∈ lw_all := lw_g (lw_at lw_m3 139 rfl) rfl
theorem q662 : (Jvm.Cond.soleField "WicketBoardModel" "told") ∈ lw_all := lw_g (lw_at lw_m3 140 rfl) rfl
theorem q663 : (Jvm.Cond.lays "WicketBoardModel" "WicketBoardModel" "word" "J") ∈ lw_all := lw_g (lw_at lw_m3 141 rfl) rfl
theorem q664 : (Jvm.Cond.soleField "WicketBoardModel" "word") ∈ lw_all := lw_g (lw_at lw_m3 142 rfl) rfl
theorem q665 : (Jvm.Cond.laysFinal "WicketBoardModel" "WicketBoardModel" "homeX" "[I") ∈ lw_all := lw_g (lw_at lw_m3 143 rfl) rfl
theorem q666 : (Jvm.Cond.soleField "WicketBoardModel" "homeX") ∈ lw_all := lw_g (lw_at lw_m3 144 rfl) rfl
theorem q667 : (Jvm.Cond.laysFinal "WicketBoardModel" "WicketBoardModel" "homeY" "[I") ∈ lw_all := lw_g (lw_at lw_m3 145 rfl) rfl
theorem q668 : (Jvm.Cond.soleField "WicketBoardModel" "homeY") ∈ lw_all := lw_g (lw_at lw_m3 146 rfl) rfl
theorem q669 : (Jvm.Cond.laysFinal "WicketBoardModel" "WicketBoardModel" "grade" "[I") ∈ lw_all := lw_g (lw_at lw_m3 147 rfl) rfl
theorem q670 : (Jvm.Cond.soleField "WicketBoardModel" "grade") ∈ lw_all := lw_g (lw_at lw_m3 148 rfl) rfl
theorem q671 : (Jvm.Cond.laysFinal "WicketBoardModel" "WicketBoardModel" "barred" "[I") ∈ lw_all := lw_g (lw_at lw_m3 149 rfl) rfl
theorem q672 : (Jvm.Cond.soleField "WicketBoardModel" "barred") ∈ lw_all := lw_g (lw_at lw_m3 150 rfl) rfl
theorem q673 : (Jvm.Cond.laysFinal "WicketBoardModel" "WicketBoardModel" "marks" "[I") ∈ lw_all := lw_g (lw_at lw_m3 151 rfl) rfl
theorem q674 : (Jvm.Cond.soleField "WicketBoardModel" "marks") ∈ lw_all := lw_g (lw_at lw_m3 152 rfl) rfl
theorem q675 : (Jvm.Cond.laysFinal "WicketBoardModel" "WicketBoardModel" "times" "[I") ∈ lw_all := lw_g (lw_at lw_m3 153 rfl) rfl
theorem q676 : (Jvm.Cond.soleField "WicketBoardModel" "times") ∈ lw_all := lw_g (lw_at lw_m3 154 rfl) rfl
theorem q677 : (Jvm.Cond.laysFinal "WicketBoardModel" "WicketBoardModel" "points" "[I") ∈ lw_all := lw_g (lw_at lw_m3 155 rfl) rfl
theorem q678 : (Jvm.Cond.soleField "WicketBoardModel" "points") ∈ lw_all := lw_g (lw_at lw_m3 156 rfl) rfl
theorem q679 : (Jvm.Cond.laysFinal "WicketBoardModel" "WicketBoardModel" "weeksStood" "[I") ∈ lw_all := lw_g (lw_at lw_m3 157 rfl) rfl
theorem q680 : (Jvm.Cond.soleField "WicketBoardModel" "weeksStood") ∈ lw_all := lw_g (lw_at lw_m3 158 rfl) rfl
theorem q681 : (Jvm.Cond.laysFinal "WicketBoardModel" "WicketBoardModel" "stood" "[I") ∈ lw_all := lw_g (lw_at lw_m3 159 rfl) rfl
theorem q682 : (Jvm.Cond.soleField "WicketBoardModel" "stood") ∈ lw_all := lw_g (lw_at lw_m3 160 rfl) rfl
theorem q683 : (Jvm.Cond.laysFinal "WicketBoardModel" "WicketBoardModel" "gone" "[Z") ∈ lw_all := lw_g (lw_at lw_m3 161 rfl) rfl
theorem q684 : (Jvm.Cond.soleField "WicketBoardModel" "gone") ∈ lw_all := lw_g (lw_at lw_m3 162 rfl) rfl
theorem q685 : (Jvm.Cond.laysFinal "WicketBoardModel" "WicketBoardModel" "gameX" "[I") ∈ lw_all := lw_g (lw_at lw_m3 163 rfl) rfl
theorem q686 : (Jvm.Cond.soleField "WicketBoardModel" "gameX") ∈ lw_all := lw_g (lw_at lw_m3 164 rfl) rfl
theorem q687 : (Jvm.Cond.laysFinal "WicketBoardModel" "WicketBoardModel" "gameY" "[I") ∈ lw_all := lw_g (lw_at lw_m3 165 rfl) rfl
theorem q688 : (Jvm.Cond.soleField "WicketBoardModel" "gameY") ∈ lw_all := lw_g (lw_at lw_m3 166 rfl) rfl
theorem q689 : (Jvm.Cond.laysFinal "WicketBoardModel" "WicketBoardModel" "clubs" "[I") ∈ lw_all := lw_g (lw_at lw_m3 167 rfl) rfl
theorem q690 : (Jvm.Cond.soleField "WicketBoardModel" "clubs") ∈ lw_all := lw_g (lw_at lw_m3 168 rfl) rfl
theorem q691 : (Jvm.Cond.laysFinal "WicketBoardModel" "WicketBoardModel" "level" "[I") ∈ lw_all := lw_g (lw_at lw_m3 169 rfl) rfl
theorem q692 : (Jvm.Cond.soleField "WicketBoardModel" "level") ∈ lw_all := lw_g (lw_at lw_m3 170 rfl) rfl
theorem q693 : (Jvm.Cond.laysFinal "WicketBoardModel" "WicketBoardModel" "who" "[I") ∈ lw_all := lw_g (lw_at lw_m3 171 rfl) rfl
theorem q694 : (Jvm.Cond.soleField "WicketBoardModel" "who") ∈ lw_all := lw_g (lw_at lw_m3 172 rfl) rfl
theorem q695 : (Jvm.Cond.laysFinal "WicketBoardModel" "WicketBoardModel" "marked" "[I") ∈ lw_all := lw_g (lw_at lw_m3 173 rfl) rfl
theorem q696 : (Jvm.Cond.soleField "WicketBoardModel" "marked") ∈ lw_all := lw_g (lw_at lw_m3 174 rfl) rfl
theorem q697 : (Jvm.Cond.lays "WicketBoardModel" "WicketBoardModel" "umpires" "I") ∈ lw_all := lw_g (lw_at lw_m3 175 rfl) rfl
theorem q698 : (Jvm.Cond.soleField "WicketBoardModel" "umpires") ∈ lw_all := lw_g (lw_at lw_m3 176 rfl) rfl
theorem q699 : (Jvm.Cond.lays "WicketBoardModel" "WicketBoardModel" "games" "I") ∈ lw_all := lw_g (lw_at lw_m3 177 rfl) rfl
theorem q700 : (Jvm.Cond.soleField "WicketBoardModel" "games") ∈ lw_all := lw_g (lw_at lw_m3 178 rfl) rfl
theorem q701 : (Jvm.Cond.lays "WicketBoardModel" "WicketBoardModel" "week" "I") ∈ lw_all := lw_g (lw_at lw_m3 179 rfl) rfl
theorem q702 : (Jvm.Cond.soleField "WicketBoardModel" "week") ∈ lw_all := lw_g (lw_at lw_m3 180 rfl) rfl
theorem q703 : (Jvm.Cond.lays "WicketBoardModel" "WicketBoardModel" "marksNow" "I") ∈ lw_all := lw_g (lw_at lw_m3 181 rfl) rfl
theorem q704 : (Jvm.Cond.soleField "WicketBoardModel" "marksNow") ∈ lw_all := lw_g (lw_at lw_m3 182 rfl) rfl
theorem q705 : (Jvm.Cond.laysFinal "WicketBoardModel" "WicketBoardModel" "comes" "[I") ∈ lw_all := lw_g (lw_at lw_m3 183 rfl) rfl
theorem q706 : (Jvm.Cond.soleField "WicketBoardModel" "comes") ∈ lw_all := lw_g (lw_at lw_m3 184 rfl) rfl
theorem q707 : (Jvm.Cond.laysFinal "WicketBoardModel" "WicketBoardModel" "takes" "[I") ∈ lw_all := lw_g (lw_at lw_m3 185 rfl) rfl
theorem q708 : (Jvm.Cond.soleField "WicketBoardModel" "takes") ∈ lw_all := lw_g (lw_at lw_m3 186 rfl) rfl
theorem q709 : (Jvm.Cond.laysFinal "WicketBoardModel" "WicketBoardModel" "cell" "[I") ∈ lw_all := lw_g (lw_at lw_m3 187 rfl) rfl
theorem q710 : (Jvm.Cond.soleField "WicketBoardModel" "cell") ∈ lw_all := lw_g (lw_at lw_m3 188 rfl) rfl
theorem q711 : (Jvm.Cond.laysFinal "WicketBoardModel" "WicketBoardModel" "holder" "[I") ∈ lw_all := lw_g (lw_at lw_m3 189 rfl) rfl
theorem q712 : (Jvm.Cond.soleField "WicketBoardModel" "holder") ∈ lw_all := lw_g (lw_at lw_m3 190 rfl) rfl
theorem q713 : (Jvm.Cond.laysFinal "WicketBoardModel" "WicketBoardModel" "fixed" "[Z") ∈ lw_all := lw_g (lw_at lw_m3 191 rfl) rfl
theorem q714 : (Jvm.Cond.soleField "WicketBoardModel" "fixed") ∈ lw_all := lw_g (lw_at lw_m3 192 rfl) rfl
theorem q715 : (Jvm.Cond.laysFinal "WicketBoardModel" "WicketBoardModel" "way" "[I") ∈ lw_all := lw_g (lw_at lw_m3 193 rfl) rfl
theorem q716 : (Jvm.Cond.soleField "WicketBoardModel" "way") ∈ lw_all := lw_g (lw_at lw_m3 194 rfl) rfl
theorem q717 : (Jvm.Cond.laysFinal "WicketBoardModel" "WicketBoardModel" "whence" "[I") ∈ lw_all := lw_g (lw_at lw_m3 195 rfl) rfl
theorem q718 : (Jvm.Cond.soleField "WicketBoardModel" "whence") ∈ lw_all := lw_g (lw_at lw_m3 196 rfl) rfl
theorem q719 : (Jvm.Cond.laysFinal "WicketBoardModel" "WicketBoardModel" "mover" "[I") ∈ lw_all := lw_g (lw_at lw_m3 197 rfl) rfl
theorem q720 : (Jvm.Cond.soleField "WicketBoardModel" "mover") ∈ lw_all := lw_g (lw_at lw_m3 198 rfl) rfl
theorem q721 : (Jvm.Cond.lays "WicketBoardModel" "WicketBoardModel" "changed" "Z") ∈ lw_all := lw_g (lw_at lw_m3 199 rfl) rfl
theorem q722 : (Jvm.Cond.soleField "WicketBoardModel" "changed") ∈ lw_all := lw_g (lw_at lw_m3 200 rfl) rfl
theorem q723 : (Jvm.Cond.superclass "WicketBoardModel" "java/lang/Object") ∈ lw_all := lw_g (lw_at lw_m3 201 rfl) rfl
theorem q725 : (Jvm.Cond.instanceMethod ({ cls := "WicketBoardModel", name := "thrown", desc := "()I" } : Jvm.MethodName)) ∈ lw_all := lw_g (lw_at lw_m3 203 rfl) rfl
theorem q726 : (Jvm.Cond.selects "WicketBoardModel" ({ cls := "WicketBoardModel", name := "thrown", desc := "()I" } : Jvm.MethodName) ({ cls := "WicketBoardModel", name := "thrown", desc := "()I" } : Jvm.MethodName)) ∈ lw_all := lw_g (lw_at lw_m3 204 rfl) rfl
theorem q727 : (Jvm.Cond.code ({ cls := "WicketBoardModel", name := "thrown", desc := "()I" } : Jvm.MethodName) prog_7_method_2_code (1 : Nat) (Option.some Jvm.ClassFile.FieldType.int)) ∈ lw_all := lw_g (lw_at lw_m3 205 rfl) rfl
theorem q729 : (Jvm.Cond.instanceMethod ({ cls := "WicketBoardModel", name := "feed", desc := "(IIIII)I" } : Jvm.MethodName)) ∈ lw_all := lw_g (lw_at lw_m3 207 rfl) rfl
theorem q730 : (Jvm.Cond.selects "WicketBoardModel" ({ cls := "WicketBoardModel", name := "feed", desc := "(IIIII)I" } : Jvm.MethodName) ({ cls := "WicketBoardModel", name := "feed", desc := "(IIIII)I" } : Jvm.MethodName)) ∈ lw_all := lw_g (lw_at lw_m3 208 rfl) rfl
theorem q731 : (Jvm.Cond.code ({ cls := "WicketBoardModel", name := "feed", desc := "(IIIII)I" } : Jvm.MethodName) prog_7_method_5_code (6 : Nat) (Option.some Jvm.ClassFile.FieldType.int)) ∈ lw_all := lw_g (lw_at lw_m3 209 rfl) rfl
theorem q732 : (Jvm.Cond.methodLink "WicketBoardModel" (108 : Nat) ({ cls := "WicketBoardModel", name := "come", desc := "(I)V" } : Jvm.MethodName)) ∈ lw_all := lw_g (lw_at lw_m3 210 rfl) rfl
theorem q733 : (Jvm.Cond.privateMethod ({ cls := "WicketBoardModel", name := "come", desc := "(I)V" } : Jvm.MethodName)) ∈ lw_tbl := lw_at lw_m3 211 rfl
theorem q734 : (Jvm.Cond.instanceMethod ({ cls := "WicketBoardModel", name := "come", desc := "(I)V" } : Jvm.MethodName)) ∈ lw_all := lw_g (lw_at lw_m3 212 rfl) rfl
theorem q735 : (Jvm.Cond.code ({ cls := "WicketBoardModel", name := "come", desc := "(I)V" } : Jvm.MethodName) prog_7_method_4_code (3 : Nat) (Option.none : Option Jvm.ClassFile.FieldType)) ∈ lw_all := lw_g (lw_at lw_m3 213 rfl) rfl
theorem q737 : (Jvm.Cond.instanceMethod ({ cls := "WicketBoardModel", name := "end", desc := "(I)Z" } : Jvm.MethodName)) ∈ lw_all := lw_g (lw_at lw_m3 215 rfl) rfl
theorem q738 : (Jvm.Cond.selects "WicketBoardModel" ({ cls := "WicketBoardModel", name := "end", desc := "(I)Z" } : Jvm.MethodName) ({ cls := "WicketBoardModel", name := "end", desc := "(I)Z" } : Jvm.MethodName)) ∈ lw_all := lw_g (lw_at lw_m3 216 rfl) rfl
theorem q739 : (Jvm.Cond.code ({ cls := "WicketBoardModel", name := "end", desc := "(I)Z" } : Jvm.MethodName) prog_7_method_6_code (2 : Nat) (Option.some Jvm.ClassFile.FieldType.boolean)) ∈ lw_all := lw_g (lw_at lw_m3 217 rfl) rfl
theorem q741 : (Jvm.Cond.instanceMethod ({ cls := "WicketBoardModel", name := "rules", desc := "()I" } : Jvm.MethodName)) ∈ lw_all := lw_g (lw_at lw_m3 219 rfl) rfl
theorem q742 : (Jvm.Cond.selects "WicketBoardModel" ({ cls := "WicketBoardModel", name := "rules", desc := "()I" } : Jvm.MethodName) ({ cls := "WicketBoardModel", name := "rules", desc := "()I" } : Jvm.MethodName)) ∈ lw_all := lw_g (lw_at lw_m3 220 rfl) rfl
theorem q743 : (Jvm.Cond.code ({ cls := "WicketBoardModel", name := "rules", desc := "()I" } : Jvm.MethodName) prog_7_method_16_code (3 : Nat) (Option.some Jvm.ClassFile.FieldType.int)) ∈ lw_all := lw_g (lw_at lw_m3 221 rfl) rfl
theorem q744 : (Jvm.Cond.methodLink "WicketBoardModel" (174 : Nat) ({ cls := "WicketBoardModel", name := "go", desc := "()V" } : Jvm.MethodName)) ∈ lw_all := lw_g (lw_at lw_m3 222 rfl) rfl
theorem q745 : (Jvm.Cond.privateMethod ({ cls := "WicketBoardModel", name := "go", desc := "()V" } : Jvm.MethodName)) ∈ lw_tbl := lw_at lw_m3 223 rfl
theorem q746 : (Jvm.Cond.instanceMethod ({ cls := "WicketBoardModel", name := "go", desc := "()V" } : Jvm.MethodName)) ∈ lw_all := lw_g (lw_at lw_m3 224 rfl) rfl
theorem q747 : (Jvm.Cond.code ({ cls := "WicketBoardModel", name := "go", desc := "()V" } : Jvm.MethodName) prog_7_method_10_code (5 : Nat) (Option.none : Option Jvm.ClassFile.FieldType)) ∈ lw_all := lw_g (lw_at lw_m3 225 rfl) rfl
theorem q748 : (Jvm.Cond.methodLink "WicketBoardModel" (124 : Nat) ({ cls := "WicketBoardModel", name := "isLetter", desc := "(I)Z" } : Jvm.MethodName)) ∈ lw_all := lw_g (lw_at lw_m3 226 rfl) rfl
theorem q749 : (Jvm.Cond.static ({ cls := "WicketBoardModel", name := "isLetter", desc := "(I)Z" } : Jvm.MethodName)) ∈ lw_all := lw_g (lw_at lw_m3 227 rfl) rfl
theorem q750 : (Jvm.Cond.code ({ cls := "WicketBoardModel", name := "isLetter", desc := "(I)Z" } : Jvm.MethodName) prog_7_method_9_code (1 : Nat) (Option.some Jvm.ClassFile.FieldType.boolean)) ∈ lw_all := lw_g (lw_at lw_m3 228 rfl) rfl
theorem q751 : (Jvm.Cond.methodLink "WicketBoardModel" (128 : Nat) ({ cls := "WicketBoardModel", name := "isDigit", desc := "(I)Z" } : Jvm.MethodName)) ∈ lw_all := lw_g (lw_at lw_m3 229 rfl) rfl
theorem q752 : (Jvm.Cond.static ({ cls := "WicketBoardModel", name := "isDigit", desc := "(I)Z" } : Jvm.MethodName)) ∈ lw_all := lw_g (lw_at lw_m3 230 rfl) rfl
theorem q753 : (Jvm.Cond.code ({ cls := "WicketBoardModel", name := "isDigit", desc := "(I)Z" } : Jvm.MethodName) prog_7_method_8_code (1 : Nat) (Option.some Jvm.ClassFile.FieldType.boolean)) ∈ lw_all := lw_g (lw_at lw_m3 231 rfl) rfl
theorem q754 : (Jvm.Cond.methodLink "WicketBoardModel" (138 : Nat) ({ cls := "WicketBoardModel", name := "byteAt", desc := "(I)I" } : Jvm.MethodName)) ∈ lw_all := lw_g (lw_at lw_m3 232 rfl) rfl
theorem q755 : (Jvm.Cond.privateMethod ({ cls := "WicketBoardModel", name := "byteAt", desc := "(I)I" } : Jvm.MethodName)) ∈ lw_tbl := lw_at lw_m3 233 rfl
theorem q756 : (Jvm.Cond.instanceMethod ({ cls := "WicketBoardModel", name := "byteAt", desc := "(I)I" } : Jvm.MethodName)) ∈ lw_all := lw_g (lw_at lw_m3 234 rfl) rfl
theorem q757 : (Jvm.Cond.code ({ cls := "WicketBoardModel", name := "byteAt", desc := "(I)I" } : Jvm.MethodName) prog_7_method_7_code (2 : Nat) (Option.some Jvm.ClassFile.FieldType.int)) ∈ lw_all := lw_g (lw_at lw_m3 235 rfl) rfl
theorem q758 : (Jvm.Cond.constantLong "WicketBoardModel" (142 : Nat) (27 : Int64)) ∈ lw_all := lw_g (lw_at lw_m3 236 rfl) rfl
theorem q759 : (Jvm.Cond.constantLong "WicketBoardModel" (144 : Nat) (96 : Int64)) ∈ lw_all := lw_g (lw_at lw_m3 237 rfl) rfl
theorem q760 : (Jvm.Cond.constantLong "WicketBoardModel" (146 : Nat) (-1 : Int64)) ∈ lw_all := lw_g (lw_at lw_m3 238 rfl) rfl
theorem q761 : (Jvm.Cond.methodLink "WicketBoardModel" (177 : Nat) ({ cls := "WicketBoardModel", name := "readRule", desc := "()Z" } : Jvm.MethodName)) ∈ lw_all := lw_g (lw_at lw_m3 239 rfl) rfl
theorem q762 : (Jvm.Cond.privateMethod ({ cls := "WicketBoardModel", name := "readRule", desc := "()Z" } : Jvm.MethodName)) ∈ lw_tbl := lw_at lw_m4 0 rfl
theorem q763 : (Jvm.Cond.instanceMethod ({ cls := "WicketBoardModel", name := "readRule", desc := "()Z" } : Jvm.MethodName)) ∈ lw_all := lw_g (lw_at lw_m4 1 rfl) rfl
theorem q764 : (Jvm.Cond.code ({ cls := "WicketBoardModel", name := "readRule", desc := "()Z" } : Jvm.MethodName) prog_7_method_15_code (2 : Nat) (Option.some Jvm.ClassFile.FieldType.boolean)) ∈ lw_all := lw_g (lw_at lw_m4 2 rfl) rfl
theorem q765 : (Jvm.Cond.methodLink "WicketBoardModel" (164 : Nat) ({ cls := "WicketBoardModel", name := "ruleAtHand", desc := "()I" } : Jvm.MethodName)) ∈ lw_all := lw_g (lw_at lw_m4 3 rfl) rfl
theorem q766 : (Jvm.Cond.privateMethod ({ cls := "WicketBoardModel", name := "ruleAtHand", desc := "()I" } : Jvm.MethodName)) ∈ lw_tbl := lw_at lw_m4 4 rfl
theorem q767 : (Jvm.Cond.instanceMethod ({ cls := "WicketBoardModel", name := "ruleAtHand", desc := "()I" } : Jvm.MethodName)) ∈ lw_all := lw_g (lw_at lw_m4 5 rfl) rfl
theorem q768 : (Jvm.Cond.code ({ cls := "WicketBoardModel", name := "ruleAtHand", desc := "()I" } : Jvm.MethodName) prog_7_method_13_code (1 : Nat) (Option.some Jvm.ClassFile.FieldType.int)) ∈ lw_all := lw_g (lw_at lw_m4 6 rfl) rfl
theorem q769 : (Jvm.Cond.methodLink "WicketBoardModel" (148 : Nat) ({ cls := "WicketBoardModel", name := "spelt", desc := "(IIII)J" } : Jvm.MethodName)) ∈ lw_all := lw_g (lw_at lw_m4 7 rfl) rfl
theorem q770 : (Jvm.Cond.static ({ cls := "WicketBoardModel", name := "spelt", desc := "(IIII)J" } : Jvm.MethodName)) ∈ lw_all := lw_g (lw_at lw_m4 8 rfl) rfl
theorem q771 : (Jvm.Cond.code ({ cls := "WicketBoardModel", name := "spelt", desc := "(IIII)J" } : Jvm.MethodName) prog_7_method_11_code (6 : Nat) (Option.some Jvm.ClassFile.FieldType.long)) ∈ lw_all := lw_g (lw_at lw_m4 9 rfl) rfl
theorem q772 : (Jvm.Cond.methodLink "WicketBoardModel" (152 : Nat) ({ cls := "WicketBoardModel", name := "isKey", desc := "(J)Z" } : Jvm.MethodName)) ∈ lw_all := lw_g (lw_at lw_m4 10 rfl) rfl
theorem q773 : (Jvm.Cond.privateMethod ({ cls := "WicketBoardModel", name := "isKey", desc := "(J)Z" } : Jvm.MethodName)) ∈ lw_tbl := lw_at lw_m4 11 rfl
theorem q774 : (Jvm.Cond.instanceMethod ({ cls := "WicketBoardModel", name := "isKey", desc := "(J)Z" } : Jvm.MethodName)) ∈ lw_all := lw_g (lw_at lw_m4 12 rfl) rfl
theorem q775 : (Jvm.Cond.code ({ cls := "WicketBoardModel", name := "isKey", desc := "(J)Z" } : Jvm.MethodName) prog_7_method_12_code (3 : Nat) (Option.some Jvm.ClassFile.FieldType.boolean)) ∈ lw_all := lw_g (lw_at lw_m4 13 rfl) rfl
theorem q776 : (Jvm.Cond.constantLong "WicketBoardModel" (156 : Nat) (14 : Int64)) ∈ lw_all := lw_g (lw_at lw_m4 14 rfl) rfl
theorem q777 : (Jvm.Cond.methodLink "WicketBoardModel" (168 : Nat) ({ cls := "WicketBoardModel", name := "bad", desc := "(I)Z" } : Jvm.MethodName)) ∈ lw_all := lw_g (lw_at lw_m4 15 rfl) rfl
theorem q778 : (Jvm.Cond.privateMethod ({ cls := "WicketBoardModel", name := "bad", desc := "(I)Z" } : Jvm.MethodName)) ∈ lw_tbl := lw_at lw_m4 16 rfl
theorem q779 : (Jvm.Cond.instanceMethod ({ cls := "WicketBoardModel", name := "bad", desc := "(I)Z" } : Jvm.MethodName)) ∈ lw_all := lw_g (lw_at lw_m4 17 rfl) rfl
theorem q780 : (Jvm.Cond.code ({ cls := "WicketBoardModel", name := "bad", desc := "(I)Z" } : Jvm.MethodName) prog_7_method_14_code (2 : Nat) (Option.some Jvm.ClassFile.FieldType.boolean)) ∈ lw_all := lw_g (lw_at lw_m4 18 rfl) rfl
theorem q782 : (Jvm.Cond.instanceMethod ({ cls := "WicketBoardModel", name := "fault", desc := "()I" } : Jvm.MethodName)) ∈ lw_all := lw_g (lw_at lw_m4 20 rfl) rfl
theorem q783 : (Jvm.Cond.selects "WicketBoardModel" ({ cls := "WicketBoardModel", name := "fault", desc := "()I" } : Jvm.MethodName) ({ cls := "WicketBoardModel", name := "fault", desc := "()I" } : Jvm.MethodName)) ∈ lw_all := lw_g (lw_at lw_m4 21 rfl) rfl
theorem q784 : (Jvm.Cond.code ({ cls := "WicketBoardModel", name := "fault", desc := "()I" } : Jvm.MethodName) prog_7_method_17_code (1 : Nat) (Option.some Jvm.ClassFile.FieldType.int)) ∈ lw_all := lw_g (lw_at lw_m4 22 rfl) rfl
theorem q786 : (Jvm.Cond.instanceMethod ({ cls := "WicketBoardModel", name := "rule", desc := "(I)I" } : Jvm.MethodName)) ∈ lw_all := lw_g (lw_at lw_m4 24 rfl) rfl
theorem q787 : (Jvm.Cond.selects "WicketBoardModel" ({ cls := "WicketBoardModel", name := "rule", desc := "(I)I" } : Jvm.MethodName) ({ cls := "WicketBoardModel", name := "rule", desc := "(I)I" } : Jvm.MethodName)) ∈ lw_all := lw_g (lw_at lw_m4 25 rfl) rfl
theorem q788 : (Jvm.Cond.code ({ cls := "WicketBoardModel", name := "rule", desc := "(I)I" } : Jvm.MethodName) prog_7_method_18_code (2 : Nat) (Option.some Jvm.ClassFile.FieldType.int)) ∈ lw_all := lw_g (lw_at lw_m4 26 rfl) rfl
theorem q790 : (Jvm.Cond.instanceMethod ({ cls := "WicketBoardModel", name := "umpire", desc := "(IIII)I" } : Jvm.MethodName)) ∈ lw_all := lw_g (lw_at lw_m4 28 rfl) rfl
theorem q791 : (Jvm.Cond.selects "WicketBoardModel" ({ cls := "WicketBoardModel", name := "umpire", desc := "(IIII)I" } : Jvm.MethodName) ({ cls := "WicketBoardModel", name := "umpire", desc := "(IIII)I" } : Jvm.MethodName)) ∈ lw_all := lw_g (lw_at lw_m4 29 rfl) rfl
theorem q792 : (Jvm.Cond.code ({ cls := "WicketBoardModel", name := "umpire", desc := "(IIII)I" } : Jvm.MethodName) prog_7_method_22_code (5 : Nat) (Option.some Jvm.ClassFile.FieldType.int)) ∈ lw_all := lw_g (lw_at lw_m4 30 rfl) rfl
theorem q793 : (Jvm.Cond.methodLink "WicketBoardModel" (187 : Nat) ({ cls := "WicketBoardModel", name := "isIn", desc := "(III)Z" } : Jvm.MethodName)) ∈ lw_all := lw_g (lw_at lw_m4 31 rfl) rfl
theorem q794 : (Jvm.Cond.static ({ cls := "WicketBoardModel", name := "isIn", desc := "(III)Z" } : Jvm.MethodName)) ∈ lw_all := lw_g (lw_at lw_m4 32 rfl) rfl
theorem q795 : (Jvm.Cond.code ({ cls := "WicketBoardModel", name := "isIn", desc := "(III)Z" } : Jvm.MethodName) prog_7_method_19_code (3 : Nat) (Option.some Jvm.ClassFile.FieldType.boolean)) ∈ lw_all := lw_g (lw_at lw_m4 33 rfl) rfl
theorem q797 : (Jvm.Cond.instanceMethod ({ cls := "WicketBoardModel", name := "away", desc := "(IIZ)Z" } : Jvm.MethodName)) ∈ lw_all := lw_g (lw_at lw_m4 35 rfl) rfl
theorem q798 : (Jvm.Cond.selects "WicketBoardModel" ({ cls := "WicketBoardModel", name := "away", desc := "(IIZ)Z" } : Jvm.MethodName) ({ cls := "WicketBoardModel", name := "away", desc := "(IIZ)Z" } : Jvm.MethodName)) ∈ lw_all := lw_g (lw_at lw_m4 36 rfl) rfl
theorem q799 : (Jvm.Cond.code ({ cls := "WicketBoardModel", name := "away", desc := "(IIZ)Z" } : Jvm.MethodName) prog_7_method_24_code (4 : Nat) (Option.some Jvm.ClassFile.FieldType.boolean)) ∈ lw_all := lw_g (lw_at lw_m4 37 rfl) rfl
theorem q800 : (Jvm.Cond.methodLink "WicketBoardModel" (191 : Nat) ({ cls := "WicketBoardModel", name := "isUmpire", desc := "(I)Z" } : Jvm.MethodName)) ∈ lw_all := lw_g (lw_at lw_m4 38 rfl) rfl
theorem q801 : (Jvm.Cond.privateMethod ({ cls := "WicketBoardModel", name := "isUmpire", desc := "(I)Z" } : Jvm.MethodName)) ∈ lw_tbl := lw_at lw_m4 39 rfl
theorem q802 : (Jvm.Cond.instanceMethod ({ cls := "WicketBoardModel", name := "isUmpire", desc := "(I)Z" } : Jvm.MethodName)) ∈ lw_all := lw_g (lw_at lw_m4 40 rfl) rfl
theorem q803 : (Jvm.Cond.code ({ cls := "WicketBoardModel", name := "isUmpire", desc := "(I)Z" } : Jvm.MethodName) prog_7_method_20_code (2 : Nat) (Option.some Jvm.ClassFile.FieldType.boolean)) ∈ lw_all := lw_g (lw_at lw_m4 41 rfl) rfl
theorem q804 : (Jvm.Cond.methodLink "WicketBoardModel" (197 : Nat) ({ cls := "WicketBoardModel", name := "seatOf", desc := "(I)I" } : Jvm.MethodName)) ∈ lw_all := lw_g (lw_at lw_m4 42 rfl) rfl
theorem q805 : (Jvm.Cond.privateMethod ({ cls := "WicketBoardModel", name := "seatOf", desc := "(I)I" } : Jvm.MethodName)) ∈ lw_tbl := lw_at lw_m4 43 rfl
theorem q806 : (Jvm.Cond.instanceMethod ({ cls := "WicketBoardModel", name := "seatOf", desc := "(I)I" } : Jvm.MethodName)) ∈ lw_all := lw_g (lw_at lw_m4 44 rfl) rfl
theorem q807 : (Jvm.Cond.code ({ cls := "WicketBoardModel", name := "seatOf", desc := "(I)I" } : Jvm.MethodName) prog_7_method_23_code (3 : Nat) (Option.some Jvm.ClassFile.FieldType.int)) ∈ lw_all := lw_g (lw_at lw_m4 45 rfl) rfl
theorem q809 : (Jvm.Cond.instanceMethod ({ cls := "WicketBoardModel", name := "game", desc := "(IIIII)I" } : Jvm.MethodName)) ∈ lw_all := lw_g (lw_at lw_m4 47 rfl) rfl
theorem q810 : (Jvm.Cond.selects "WicketBoardModel" ({ cls := "WicketBoardModel", name := "game", desc := "(IIIII)I" } : Jvm.MethodName) ({ cls := "WicketBoardModel", name := "game", desc := "(IIIII)I" } : Jvm.MethodName)) ∈ lw_all := lw_g (lw_at lw_m4 48 rfl) rfl
theorem q811 : (Jvm.Cond.code ({ cls := "WicketBoardModel", name := "game", desc := "(IIIII)I" } : Jvm.MethodName) prog_7_method_25_code (7 : Nat) (Option.some Jvm.ClassFile.FieldType.int)) ∈ lw_all := lw_g (lw_at lw_m4 49 rfl) rfl
theorem q813 : (Jvm.Cond.instanceMethod ({ cls := "WicketBoardModel", name := "may", desc := "(II)Z" } : Jvm.MethodName)) ∈ lw_all := lw_g (lw_at lw_m4 51 rfl) rfl
theorem q814 : (Jvm.Cond.selects "WicketBoardModel" ({ cls := "WicketBoardModel", name := "may", desc := "(II)Z" } : Jvm.MethodName) ({ cls := "WicketBoardModel", name := "may", desc := "(II)Z" } : Jvm.MethodName)) ∈ lw_all := lw_g (lw_at lw_m4 52 rfl) rfl
theorem q815 : (Jvm.Cond.code ({ cls := "WicketBoardModel", name := "may", desc := "(II)Z" } : Jvm.MethodName) prog_7_method_30_code (3 : Nat) (Option.some Jvm.ClassFile.FieldType.boolean)) ∈ lw_all := lw_g (lw_at lw_m4 53 rfl) rfl
theorem q816 : (Jvm.Cond.methodLink "WicketBoardModel" (207 : Nat) ({ cls := "WicketBoardModel", name := "isSeat", desc := "(I)Z" } : Jvm.MethodName)) ∈ lw_all := lw_g (lw_at lw_m4 54 rfl) rfl
theorem q817 : (Jvm.Cond.privateMethod ({ cls := "WicketBoardModel", name := "isSeat", desc := "(I)Z" } : Jvm.MethodName)) ∈ lw_tbl := lw_at lw_m4 55 rfl
theorem q818 : (Jvm.Cond.instanceMethod ({ cls := "WicketBoardModel", name := "isSeat", desc := "(I)Z" } : Jvm.MethodName)) ∈ lw_all := lw_g (lw_at lw_m4 56 rfl) rfl
theorem q819 : (Jvm.Cond.code ({ cls := "WicketBoardModel", name := "isSeat", desc := "(I)Z" } : Jvm.MethodName) prog_7_method_21_code (2 : Nat) (Option.some Jvm.ClassFile.FieldType.boolean)) ∈ lw_all := lw_g (lw_at lw_m4 57 rfl) rfl
theorem q820 : (Jvm.Cond.methodLink "WicketBoardModel" (210 : Nat) ({ cls := "WicketBoardModel", name := "mayHave", desc := "(II)Z" } : Jvm.MethodName)) ∈ lw_all := lw_g (lw_at lw_m4 58 rfl) rfl
theorem q821 : (Jvm.Cond.privateMethod ({ cls := "WicketBoardModel", name := "mayHave", desc := "(II)Z" } : Jvm.MethodName)) ∈ lw_tbl := lw_at lw_m4 59 rfl
theorem q822 : (Jvm.Cond.instanceMethod ({ cls := "WicketBoardModel", name := "mayHave", desc := "(II)Z" } : Jvm.MethodName)) ∈ lw_all := lw_g (lw_at lw_m4 60 rfl) rfl
theorem q823 : (Jvm.Cond.code ({ cls := "WicketBoardModel", name := "mayHave", desc := "(II)Z" } : Jvm.MethodName) prog_7_method_28_code (6 : Nat) (Option.some Jvm.ClassFile.FieldType.boolean)) ∈ lw_all := lw_g (lw_at lw_m4 61 rfl) rfl
theorem q824 : (Jvm.Cond.methodLink "WicketBoardModel" (204 : Nat) ({ cls := "WicketBoardModel", name := "miles", desc := "(II)I" } : Jvm.MethodName)) ∈ lw_all := lw_g (lw_at lw_m4 62 rfl) rfl
theorem q825 : (Jvm.Cond.privateMethod ({ cls := "WicketBoardModel", name := "miles", desc := "(II)I" } : Jvm.MethodName)) ∈ lw_tbl := lw_at lw_m4 63 rfl
theorem q826 : (Jvm.Cond.instanceMethod ({ cls := "WicketBoardModel", name := "miles", desc := "(II)I" } : Jvm.MethodName)) ∈ lw_all := lw_g (lw_at lw_m4 64 rfl) rfl
theorem q827 : (Jvm.Cond.code ({ cls := "WicketBoardModel", name := "miles", desc := "(II)I" } : Jvm.MethodName) prog_7_method_27_code (3 : Nat) (Option.some Jvm.ClassFile.FieldType.int)) ∈ lw_all := lw_g (lw_at lw_m4 65 rfl) rfl
theorem q828 : (Jvm.Cond.methodLink "WicketBoardModel" (200 : Nat) ({ cls := "WicketBoardModel", name := "less", desc := "(II)I" } : Jvm.MethodName)) ∈ lw_all := lw_g (lw_at lw_m4 66 rfl) rfl
theorem q829 : (Jvm.Cond.static ({ cls := "WicketBoardModel", name := "less", desc := "(II)I" } : Jvm.MethodName)) ∈ lw_all := lw_g (lw_at lw_m4 67 rfl) rfl
theorem q830 : (Jvm.Cond.code ({ cls := "WicketBoardModel", name := "less", desc := "(II)I" } : Jvm.MethodName) prog_7_method_26_code (2 : Nat) (Option.some Jvm.ClassFile.FieldType.int)) ∈ lw_all := lw_g (lw_at lw_m4 68 rfl) rfl
theorem q832 : (Jvm.Cond.instanceMethod ({ cls := "WicketBoardModel", name := "cost", desc := "(II)I" } : Jvm.MethodName)) ∈ lw_all := lw_g (lw_at lw_m4 70 rfl) rfl
theorem q833 : (Jvm.Cond.selects "WicketBoardModel" ({ cls := "WicketBoardModel", name := "cost", desc := "(II)I" } : Jvm.MethodName) ({ cls := "WicketBoardModel", name := "cost", desc := "(II)I" } : Jvm.MethodName)) ∈ lw_all := lw_g (lw_at lw_m4 71 rfl) rfl
theorem q834 : (Jvm.Cond.code ({ cls := "WicketBoardModel", name := "cost", desc := "(II)I" } : Jvm.MethodName) prog_7_method_31_code (3 : Nat) (Option.some Jvm.ClassFile.FieldType.int)) ∈ lw_all := lw_g (lw_at lw_m4 72 rfl) rfl
theorem q835 : (Jvm.Cond.methodLink "WicketBoardModel" (214 : Nat) ({ cls := "WicketBoardModel", name := "costOf", desc := "(II)I" } : Jvm.MethodName)) ∈ lw_all := lw_g (lw_at lw_m4 73 rfl) rfl
theorem q836 : (Jvm.Cond.privateMethod ({ cls := "WicketBoardModel", name := "costOf", desc := "(II)I" } : Jvm.MethodName)) ∈ lw_tbl := lw_at lw_m4 74 rfl
theorem q837 : (Jvm.Cond.instanceMethod ({ cls := "WicketBoardModel", name := "costOf", desc := "(II)I" } : Jvm.MethodName)) ∈ lw_all := lw_g (lw_at lw_m4 75 rfl) rfl
theorem q838 : (Jvm.Cond.code ({ cls := "WicketBoardModel", name := "costOf", desc := "(II)I" } : Jvm.MethodName) prog_7_method_29_code (3 : Nat) (Option.some Jvm.ClassFile.FieldType.int)) ∈ lw_all := lw_g (lw_at lw_m4 76 rfl) rfl
theorem q840 : (Jvm.Cond.instanceMethod ({ cls := "WicketBoardModel", name := "send", desc := "()I" } : Jvm.MethodName)) ∈ lw_all := lw_g (lw_at lw_m4 78 rfl) rfl
theorem q841 : (Jvm.Cond.selects "WicketBoardModel" ({ cls := "WicketBoardModel", name := "send", desc := "()I" } : Jvm.MethodName) ({ cls := "WicketBoardModel", name := "send", desc := "()I" } : Jvm.MethodName)) ∈ lw_all := lw_g (lw_at lw_m4 79 rfl) rfl
theorem q842 : (Jvm.Cond.code ({ cls := "WicketBoardModel", name := "send", desc := "()I" } : Jvm.MethodName) prog_7_method_41_code (1 : Nat) (Option.some Jvm.ClassFile.FieldType.int)) ∈ lw_all := lw_g (lw_at lw_m4 80 rfl) rfl
theorem q843 : (Jvm.Cond.methodLink "WicketBoardModel" (253 : Nat) ({ cls := "WicketBoardModel", name := "settle", desc := "()V" } : Jvm.MethodName)) ∈ lw_all := lw_g (lw_at lw_m4 81 rfl) rfl
theorem q844 : (Jvm.Cond.privateMethod ({ cls := "WicketBoardModel", name := "settle", desc := "()V" } : Jvm.MethodName)) ∈ lw_tbl := lw_at lw_m4 82 rfl
theorem q845 : (Jvm.Cond.instanceMethod ({ cls := "WicketBoardModel", name := "settle", desc := "()V" } : Jvm.MethodName)) ∈ lw_all := lw_g (lw_at lw_m4 83 rfl) rfl
theorem q846 : (Jvm.Cond.code ({ cls := "WicketBoardModel", name := "settle", desc := "()V" } : Jvm.MethodName) prog_7_method_35_code (4 : Nat) (Option.none : Option Jvm.ClassFile.FieldType)) ∈ lw_all := lw_g (lw_at lw_m4 84 rfl) rfl
theorem q847 : (Jvm.Cond.constant "WicketBoardModel" (218 : Nat) (100000000 : Int32)) ∈ lw_all := lw_g (lw_at lw_m4 85 rfl) rfl
theorem q848 : (Jvm.Cond.methodLink "WicketBoardModel" (222 : Nat) ({ cls := "WicketBoardModel", name := "seek", desc := "(I)V" } : Jvm.MethodName)) ∈ lw_all := lw_g (lw_at lw_m4 86 rfl) rfl
theorem q849 : (Jvm.Cond.privateMethod ({ cls := "WicketBoardModel", name := "seek", desc := "(I)V" } : Jvm.MethodName)) ∈ lw_tbl := lw_at lw_m4 87 rfl
theorem q850 : (Jvm.Cond.instanceMethod ({ cls := "WicketBoardModel", name := "seek", desc := "(I)V" } : Jvm.MethodName)) ∈ lw_all := lw_g (lw_at lw_m4 88 rfl) rfl
theorem q851 : (Jvm.Cond.code ({ cls := "WicketBoardModel", name := "seek", desc := "(I)V" } : Jvm.MethodName) prog_7_method_33_code (7 : Nat) (Option.none : Option Jvm.ClassFile.FieldType)) ∈ lw_all := lw_g (lw_at lw_m4 89 rfl) rfl
theorem q852 : (Jvm.Cond.constant "WicketBoardModel" (217 : Nat) (1000000 : Int32)) ∈ lw_all := lw_g (lw_at lw_m4 90 rfl) rfl
theorem q853 : (Jvm.Cond.methodLink "WicketBoardModel" (219 : Nat) ({ cls := "WicketBoardModel", name := "pays", desc := "(I)I" } : Jvm.MethodName)) ∈ lw_all := lw_g (lw_at lw_m4 91 rfl) rfl
theorem q854 : (Jvm.Cond.privateMethod ({ cls := "WicketBoardModel", name := "pays", desc := "(I)I" } : Jvm.MethodName)) ∈ lw_tbl := lw_at lw_m4 92 rfl
theorem q855 : (Jvm.Cond.instanceMethod ({ cls := "WicketBoardModel", name := "pays", desc := "(I)I" } : Jvm.MethodName)) ∈ lw_all := lw_g (lw_at lw_m4 93 rfl) rfl
theorem q856 : (Jvm.Cond.code ({ cls := "WicketBoardModel", name := "pays", desc := "(I)I" } : Jvm.MethodName) prog_7_method_32_code (2 : Nat) (Option.some Jvm.ClassFile.FieldType.int)) ∈ lw_all := lw_g (lw_at lw_m4 94 rfl) rfl
theorem q857 : (Jvm.Cond.methodLink "WicketBoardModel" (225 : Nat) ({ cls := "WicketBoardModel", name := "change", desc := "(I)V" } : Jvm.MethodName)) ∈ lw_all := lw_g (lw_at lw_m4 95 rfl) rfl
theorem q858 : (Jvm.Cond.privateMethod ({ cls := "WicketBoardModel", name := "change", desc := "(I)V" } : Jvm.MethodName)) ∈ lw_tbl := lw_at lw_m4 96 rfl
theorem q859 : (Jvm.Cond.instanceMethod ({ cls := "WicketBoardModel", name := "change", desc := "(I)V" } : Jvm.MethodName)) ∈ lw_all := lw_g (lw_at lw_m4 97 rfl) rfl
theorem q860 : (Jvm.Cond.code ({ cls := "WicketBoardModel", name := "change", desc := "(I)V" } : Jvm.MethodName) prog_7_method_34_code (5 : Nat) (Option.none : Option Jvm.ClassFile.FieldType)) ∈ lw_all := lw_g (lw_at lw_m4 98 rfl) rfl
theorem q861 : (Jvm.Cond.methodLink "WicketBoardModel" (228 : Nat) ({ cls := "WicketBoardModel", name := "lessen", desc := "(II)V" } : Jvm.MethodName)) ∈ lw_all := lw_g (lw_at lw_m4 99 rfl) rfl
theorem q862 : (Jvm.Cond.privateMethod ({ cls := "WicketBoardModel", name := "lessen", desc := "(II)V" } : Jvm.MethodName)) ∈ lw_tbl := lw_at lw_m4 100 rfl
theorem q863 : (Jvm.Cond.instanceMethod ({ cls := "WicketBoardModel", name := "lessen", desc := "(II)V" } : Jvm.MethodName)) ∈ lw_all := lw_g (lw_at lw_m4 101 rfl) rfl
theorem q864 : (Jvm.Cond.code ({ cls := "WicketBoardModel", name := "lessen", desc := "(II)V" } : Jvm.MethodName) prog_7_method_40_code (7 : Nat) (Option.none : Option Jvm.ClassFile.FieldType)) ∈ lw_all := lw_g (lw_at lw_m4 102 rfl) rfl
theorem q865 : (Jvm.Cond.methodLink "WicketBoardModel" (236 : Nat) ({ cls := "WicketBoardModel", name := "placeOf", desc := "(I)I" } : Jvm.MethodName)) ∈ lw_all := lw_g (lw_at lw_m4 103 rfl) rfl
theorem q866 : (Jvm.Cond.privateMethod ({ cls := "WicketBoardModel", name := "placeOf", desc := "(I)I" } : Jvm.MethodName)) ∈ lw_tbl := lw_at lw_m4 104 rfl
theorem q867 : (Jvm.Cond.instanceMethod ({ cls := "WicketBoardModel", name := "placeOf", desc := "(I)I" } : Jvm.MethodName)) ∈ lw_all := lw_g (lw_at lw_m4 105 rfl) rfl
theorem q868 : (Jvm.Cond.code ({ cls := "WicketBoardModel", name := "placeOf", desc := "(I)I" } : Jvm.MethodName) prog_7_method_37_code (2 : Nat) (Option.some Jvm.ClassFile.FieldType.int)) ∈ lw_all := lw_g (lw_at lw_m4 106 rfl) rfl
theorem q869 : (Jvm.Cond.methodLink "WicketBoardModel" (246 : Nat) ({ cls := "WicketBoardModel", name := "ways", desc := "(III)V" } : Jvm.MethodName)) ∈ lw_all := lw_g (lw_at lw_m4 107 rfl) rfl
theorem q870 : (Jvm.Cond.privateMethod ({ cls := "WicketBoardModel", name := "ways", desc := "(III)V" } : Jvm.MethodName)) ∈ lw_tbl := lw_at lw_m4 108 rfl
theorem q871 : (Jvm.Cond.instanceMethod ({ cls := "WicketBoardModel", name := "ways", desc := "(III)V" } : Jvm.MethodName)) ∈ lw_all := lw_g (lw_at lw_m4 109 rfl) rfl
theorem q872 : (Jvm.Cond.code ({ cls := "WicketBoardModel", name := "ways", desc := "(III)V" } : Jvm.MethodName) prog_7_method_38_code (5 : Nat) (Option.none : Option Jvm.ClassFile.FieldType)) ∈ lw_all := lw_g (lw_at lw_m4 110 rfl) rfl
theorem q873 : (Jvm.Cond.methodLink "WicketBoardModel" (239 : Nat) ({ cls := "WicketBoardModel", name := "moves", desc := "(I)V" } : Jvm.MethodName)) ∈ lw_all := lw_g (lw_at lw_m4 111 rfl) rfl
theorem q874 : (Jvm.Cond.privateMethod ({ cls := "WicketBoardModel", name := "moves", desc := "(I)V" } : Jvm.MethodName)) ∈ lw_tbl := lw_at lw_m4 112 rfl
theorem q875 : (Jvm.Cond.instanceMethod ({ cls := "WicketBoardModel", name := "moves", desc := "(I)V" } : Jvm.MethodName)) ∈ lw_all := lw_g (lw_at lw_m4 113 rfl) rfl
theorem q876 : (Jvm.Cond.code ({ cls := "WicketBoardModel", name := "moves", desc := "(I)V" } : Jvm.MethodName) prog_7_method_39_code (5 : Nat) (Option.none : Option Jvm.ClassFile.FieldType)) ∈ lw_all := lw_g (lw_at lw_m4 114 rfl) rfl
theorem q877 : (Jvm.Cond.methodLink "WicketBoardModel" (242 : Nat) ({ cls := "WicketBoardModel", name := "offer", desc := "(IIII)V" } : Jvm.MethodName)) ∈ lw_all := lw_g (lw_at lw_m4 115 rfl) rfl
theorem q878 : (Jvm.Cond.privateMethod ({ cls := "WicketBoardModel", name := "offer", desc := "(IIII)V" } : Jvm.MethodName)) ∈ lw_tbl := lw_at lw_m4 116 rfl
theorem q879 : (Jvm.Cond.instanceMethod ({ cls := "WicketBoardModel", name := "offer", desc := "(IIII)V" } : Jvm.MethodName)) ∈ lw_all := lw_g (lw_at lw_m4 117 rfl) rfl
theorem q880 : (Jvm.Cond.code ({ cls := "WicketBoardModel", name := "offer", desc := "(IIII)V" } : Jvm.MethodName) prog_7_method_36_code (5 : Nat) (Option.none : Option Jvm.ClassFile.FieldType)) ∈ lw_all := lw_g (lw_at lw_m4 118 rfl) rfl
theorem q881 : (Jvm.Cond.methodLink "WicketBoardModel" (256 : Nat) ({ cls := "WicketBoardModel", name := "filled", desc := "()I" } : Jvm.MethodName)) ∈ lw_all := lw_g (lw_at lw_m4 119 rfl) rfl
theorem q882 : (Jvm.Cond.privateMethod ({ cls := "WicketBoardModel", name := "filled", desc := "()I" } : Jvm.MethodName)) ∈ lw_tbl := lw_at lw_m4 120 rfl
theorem q883 : (Jvm.Cond.instanceMethod ({ cls := "WicketBoardModel", name := "filled", desc := "()I" } : Jvm.MethodName)) ∈ lw_all := lw_g (lw_at lw_m4 121 rfl) rfl
theorem q884 : (Jvm.Cond.code ({ cls := "WicketBoardModel", name := "filled", desc := "()I" } : Jvm.MethodName) prog_7_method_42_code (3 : Nat) (Option.some Jvm.ClassFile.FieldType.int)) ∈ lw_all := lw_g (lw_at lw_m4 122 rfl) rfl
theorem q886 : (Jvm.Cond.instanceMethod ({ cls := "WicketBoardModel", name := "off", desc := "(I)I" } : Jvm.MethodName)) ∈ lw_all := lw_g (lw_at lw_m4 124 rfl) rfl
theorem q887 : (Jvm.Cond.selects "WicketBoardModel" ({ cls := "WicketBoardModel", name := "off", desc := "(I)I" } : Jvm.MethodName) ({ cls := "WicketBoardModel", name := "off", desc := "(I)I" } : Jvm.MethodName)) ∈ lw_all := lw_g (lw_at lw_m4 125 rfl) rfl
theorem q888 : (Jvm.Cond.code ({ cls := "WicketBoardModel", name := "off", desc := "(I)I" } : Jvm.MethodName) prog_7_method_43_code (10 : Nat) (Option.some Jvm.ClassFile.FieldType.int)) ∈ lw_all := lw_g (lw_at lw_m4 126 rfl) rfl
theorem q889 : (Jvm.Cond.methodLink "WicketBoardModel" (259 : Nat) ({ cls := "WicketBoardModel", name := "spare", desc := "(I)I" } : Jvm.MethodName)) ∈ lw_all := lw_g (lw_at lw_m4 127 rfl) rfl
theorem q890 : (Jvm.Cond.privateMethod ({ cls := "WicketBoardModel", name := "spare", desc := "(I)I" } : Jvm.MethodName)) ∈ lw_tbl := lw_at lw_m4 128 rfl
theorem q891 : (Jvm.Cond.instanceMethod ({ cls := "WicketBoardModel", name := "spare", desc := "(I)I" } : Jvm.MethodName)) ∈ lw_all := lw_g (lw_at lw_m4 129 rfl) rfl
theorem q892 : (Jvm.Cond.code ({ cls := "WicketBoardModel", name := "spare", desc := "(I)I" } : Jvm.MethodName) prog_7_method_44_code (4 : Nat) (Option.some Jvm.ClassFile.FieldType.int)) ∈ lw_all := lw_g (lw_at lw_m4 130 rfl) rfl
theorem q894 : (Jvm.Cond.instanceMethod ({ cls := "WicketBoardModel", name := "seat", desc := "(I)I" } : Jvm.MethodName)) ∈ lw_all := lw_g (lw_at lw_m4 132 rfl) rfl
theorem q895 : (Jvm.Cond.selects "WicketBoardModel" ({ cls := "WicketBoardModel", name := "seat", desc := "(I)I" } : Jvm.MethodName) ({ cls := "WicketBoardModel", name := "seat", desc := "(I)I" } : Jvm.MethodName)) ∈ lw_all := lw_g (lw_at lw_m4 133 rfl) rfl
theorem q896 : (Jvm.Cond.code ({ cls := "WicketBoardModel", name := "seat", desc := "(I)I" } : Jvm.MethodName) prog_7_method_45_code (2 : Nat) (Option.some Jvm.ClassFile.FieldType.int)) ∈ lw_all := lw_g (lw_at lw_m4 134 rfl) rfl
theorem q898 : (Jvm.Cond.instanceMethod ({ cls := "WicketBoardModel", name := "mark", desc := "(IIIZ)Z" } : Jvm.MethodName)) ∈ lw_all := lw_g (lw_at lw_m4 136 rfl) rfl
theorem q899 : (Jvm.Cond.selects "WicketBoardModel" ({ cls := "WicketBoardModel", name := "mark", desc := "(IIIZ)Z" } : Jvm.MethodName) ({ cls := "WicketBoardModel", name := "mark", desc := "(IIIZ)Z" } : Jvm.MethodName)) ∈ lw_all := lw_g (lw_at lw_m4 137 rfl) rfl
theorem q900 : (Jvm.Cond.code ({ cls := "WicketBoardModel", name := "mark", desc := "(IIIZ)Z" } : Jvm.MethodName) prog_7_method_46_code (7 : Nat) (Option.some Jvm.ClassFile.FieldType.boolean)) ∈ lw_all := lw_g (lw_at lw_m4 138 rfl) rfl
theorem q902 : (Jvm.Cond.instanceMethod ({ cls := "WicketBoardModel", name := "next", desc := "()I" } : Jvm.MethodName)) ∈ lw_all := lw_g (lw_at lw_m4 140 rfl) rfl
theorem q903 : (Jvm.Cond.selects "WicketBoardModel" ({ cls := "WicketBoardModel", name := "next", desc := "()I" } : Jvm.MethodName) ({ cls := "WicketBoardModel", name := "next", desc := "()I" } : Jvm.MethodName)) ∈ lw_all := lw_g (lw_at lw_m4 141 rfl) rfl
theorem q904 : (Jvm.Cond.code ({ cls := "WicketBoardModel", name := "next", desc := "()I" } : Jvm.MethodName) prog_7_method_47_code (3 : Nat) (Option.some Jvm.ClassFile.FieldType.int)) ∈ lw_all := lw_g (lw_at lw_m4 142 rfl) rfl
theorem q906 : (Jvm.Cond.instanceMethod ({ cls := "WicketBoardModel", name := "about", desc := "(II)I" } : Jvm.MethodName)) ∈ lw_all := lw_g (lw_at lw_m4 144 rfl) rfl
theorem q907 : (Jvm.Cond.selects "WicketBoardModel" ({ cls := "WicketBoardModel", name := "about", desc := "(II)I" } : Jvm.MethodName) ({ cls := "WicketBoardModel", name := "about", desc := "(II)I" } : Jvm.MethodName)) ∈ lw_all := lw_g (lw_at lw_m4 145 rfl) rfl
theorem q908 : (Jvm.Cond.code ({ cls := "WicketBoardModel", name := "about", desc := "(II)I" } : Jvm.MethodName) prog_7_method_48_code (3 : Nat) (Option.some Jvm.ClassFile.FieldType.int)) ∈ lw_all := lw_g (lw_at lw_m4 146 rfl) rfl
theorem q909 : (Jvm.Cond.methodLink "WicketBoardModel" (262 : Nat) ({ cls := "WicketBoardModel", name := "refuse", desc := "()I" } : Jvm.MethodName)) ∈ lw_all := lw_g (lw_at lw_m4 147 rfl) rfl
theorem q910 : (Jvm.Cond.privateMethod ({ cls := "WicketBoardModel", name := "refuse", desc := "()I" } : Jvm.MethodName)) ∈ lw_tbl := lw_at lw_m4 148 rfl
theorem q911 : (Jvm.Cond.instanceMethod ({ cls := "WicketBoardModel", name := "refuse", desc := "()I" } : Jvm.MethodName)) ∈ lw_all := lw_g (lw_at lw_m4 149 rfl) rfl
theorem q912 : (Jvm.Cond.code ({ cls := "WicketBoardModel", name := "refuse", desc := "()I" } : Jvm.MethodName) prog_7_method_3_code (1 : Nat) (Option.some Jvm.ClassFile.FieldType.int)) ∈ lw_all := lw_g (lw_at lw_m4 150 rfl) rfl
theorem q914 : (Jvm.Cond.instanceMethod ({ cls := "WicketBoardModel", name := "stood", desc := "(II)I" } : Jvm.MethodName)) ∈ lw_all := lw_g (lw_at lw_m4 152 rfl) rfl
theorem q915 : (Jvm.Cond.selects "WicketBoardModel" ({ cls := "WicketBoardModel", name := "stood", desc := "(II)I" } : Jvm.MethodName) ({ cls := "WicketBoardModel", name := "stood", desc := "(II)I" } : Jvm.MethodName)) ∈ lw_all := lw_g (lw_at lw_m4 153 rfl) rfl
theorem q916 : (Jvm.Cond.code ({ cls := "WicketBoardModel", name := "stood", desc := "(II)I" } : Jvm.MethodName) prog_7_method_49_code (3 : Nat) (Option.some Jvm.ClassFile.FieldType.int)) ∈ lw_all := lw_g (lw_at lw_m4 154 rfl) rfl
theorem q918 : (Jvm.Cond.instanceMethod ({ cls := "WicketBoardModel", name := "together", desc := "()I" } : Jvm.MethodName)) ∈ lw_all := lw_g (lw_at lw_m4 156 rfl) rfl
theorem q919 : (Jvm.Cond.selects "WicketBoardModel" ({ cls := "WicketBoardModel", name := "together", desc := "()I" } : Jvm.MethodName) ({ cls := "WicketBoardModel", name := "together", desc := "()I" } : Jvm.MethodName)) ∈ lw_all := lw_g (lw_at lw_m4 157 rfl) rfl
theorem q920 : (Jvm.Cond.code ({ cls := "WicketBoardModel", name := "together", desc := "()I" } : Jvm.MethodName) prog_7_method_50_code (3 : Nat) (Option.some Jvm.ClassFile.FieldType.int)) ∈ lw_all := lw_g (lw_at lw_m4 158 rfl) rfl
theorem q922 : (Jvm.Cond.instanceMethod ({ cls := "WicketBoardModel", name := "count", desc := "(I)I" } : Jvm.MethodName)) ∈ lw_all := lw_g (lw_at lw_m4 160 rfl) rfl
theorem q923 : (Jvm.Cond.selects "WicketBoardModel" ({ cls := "WicketBoardModel", name := "count", desc := "(I)I" } : Jvm.MethodName) ({ cls := "WicketBoardModel", name := "count", desc := "(I)I" } : Jvm.MethodName)) ∈ lw_all := lw_g (lw_at lw_m4 161 rfl) rfl
theorem q924 : (Jvm.Cond.code ({ cls := "WicketBoardModel", name := "count", desc := "(I)I" } : Jvm.MethodName) prog_7_method_51_code (2 : Nat) (Option.some Jvm.ClassFile.FieldType.int)) ∈ lw_all := lw_g (lw_at lw_m4 162 rfl) rfl
theorem q930 : (Jvm.Cond.castable "WicketBoardModel" "java/lang/Object") ∈ lw_tbl := lw_at lw_m4 168 rfl
theorem in_X4 : ∀ w ∈ wsX40, w ∈ lw_all := lw_in wsX40 [631, 633, 635, 637, 639, 641, 643, 645, 647, 649, 651, 653, 655, 657, 659, 661, 663, 665, 667, 669, 671, 673, 675, 677, 679, 681, 683, 685, 687, 689, 691, 693, 695, 697, 699, 701, 703, 705, 707, 709, 711, 713, 715, 717, 719, 721] (by decide +kernel) (by decide +kernel)
/-! WicketBoard$Umpire -/
def RX5 : String := "WicketBoard$Umpire"
def TX5 : u_T := fun k => match k with
  | 0 => ("WicketBoard$Umpire", "x", "I", true)
  | 1 => ("WicketBoard$Umpire", "y", "I", true)
  | 2 => ("WicketBoard$Umpire", "barred", "I", true)
  | 3 => ("WicketBoard$Umpire", "away", "[Z", true)
  | 4 => ("WicketBoard$Umpire", "stood", "[I", true)
  | 5 => ("WicketBoard$Umpire", "grade", "I", false)
  | 6 => ("WicketBoard$Umpire", "seat", "I", false)
  | 7 => ("WicketBoard$Umpire", "weeks", "I", false)
  | 8 => ("WicketBoard$Umpire", "marks", "I", false)
  | 9 => ("WicketBoard$Umpire", "weight", "I", false)
  | _ => ("WicketBoard$Umpire", "sum", "I", false)
def tyX5 : Nat → FieldType := fun k => match k with
  | 0 => .int
  | 1 => .int
  | 2 => .int
  | 3 => .array .boolean
  | 4 => .array .int
  | 5 => .int
  | 6 => .int
  | 7 => .int
  | 8 => .int
  | 9 => .int
  | _ => .int
abbrev wsX50 : List Cond := u_ws RX5 TX5 11
theorem nmX5 : ∀ a, a < 11 → ∀ b, b < 11 → a ≠ b → (TX5 a).2.1 ≠ (TX5 b).2.1 := by decide +kernel
theorem tyX5_ok : ∀ k, k < 11 → parseFieldDescriptor (TX5 k).2.2.1 = some (tyX5 k) := by decide +kernel
abbrev cX5_init : ByteArray := prog_5_method_1_code
def yX5_init : MethodName := ⟨RX5, "<init>", "(IIII)V"⟩
abbrev cX5_forget : ByteArray := prog_5_method_2_code
def yX5_forget : MethodName := ⟨RX5, "forget", "()V"⟩
theorem q54 : (Jvm.Cond.initialized "WicketBoard$Umpire") ∈ lw_all := lw_g (lw_at lw_m1 12 rfl) rfl
theorem q363 : (Jvm.Cond.instantiable "WicketBoard$Umpire" (11 : Nat)) ∈ lw_all := lw_g (lw_at lw_m2 81 rfl) rfl
theorem q365 : (Jvm.Cond.instanceMethod ({ cls := "WicketBoard$Umpire", name := "<init>", desc := "(IIII)V" } : Jvm.MethodName)) ∈ lw_all := lw_g (lw_at lw_m2 83 rfl) rfl
theorem q366 : (Jvm.Cond.code ({ cls := "WicketBoard$Umpire", name := "<init>", desc := "(IIII)V" } : Jvm.MethodName) prog_5_method_1_code (5 : Nat) (Option.none : Option Jvm.ClassFile.FieldType)) ∈ lw_all := lw_g (lw_at lw_m2 84 rfl) rfl
theorem q367 : (Jvm.Cond.methodLink "WicketBoard$Umpire" (3 : Nat) ({ cls := "java/lang/Object", name := "<init>", desc := "()V" } : Jvm.MethodName)) ∈ lw_all := lw_g (lw_at lw_m2 85 rfl) rfl
theorem q368 : (Jvm.Cond.fieldLink "WicketBoard$Umpire" (23 : Nat) "WicketBoard$Umpire" "x" "I") ∈ lw_all := lw_g (lw_at lw_m2 86 rfl) rfl
theorem q370 : (Jvm.Cond.fieldLink "WicketBoard$Umpire" (26 : Nat) "WicketBoard$Umpire" "y" "I") ∈ lw_all := lw_g (lw_at lw_m2 88 rfl) rfl
theorem q372 : (Jvm.Cond.fieldLink "WicketBoard$Umpire" (32 : Nat) "WicketBoard$Umpire" "barred" "I") ∈ lw_all := lw_g (lw_at lw_m2 90 rfl) rfl
theorem q374 : (Jvm.Cond.fieldLink "WicketBoard$Umpire" (9 : Nat) "WicketBoard$Umpire" "away" "[Z") ∈ lw_all := lw_g (lw_at lw_m2 92 rfl) rfl
theorem q376 : (Jvm.Cond.fieldLink "WicketBoard$Umpire" (15 : Nat) "WicketBoard$Umpire" "stood" "[I") ∈ lw_all := lw_g (lw_at lw_m2 94 rfl) rfl
theorem q378 : (Jvm.Cond.fieldLink "WicketBoard$Umpire" (29 : Nat) "WicketBoard$Umpire" "grade" "I") ∈ lw_all := lw_g (lw_at lw_m2 96 rfl) rfl
theorem q380 : (Jvm.Cond.fieldLink "WicketBoard$Umpire" (19 : Nat) "WicketBoard$Umpire" "seat" "I") ∈ lw_all := lw_g (lw_at lw_m2 98 rfl) rfl
theorem q383 : (Jvm.Cond.fieldLink "WicketBoard$Umpire" (35 : Nat) "WicketBoard$Umpire" "marks" "I") ∈ lw_all := lw_g (lw_at lw_m2 101 rfl) rfl
theorem q385 : (Jvm.Cond.fieldLink "WicketBoard$Umpire" (38 : Nat) "WicketBoard$Umpire" "weight" "I") ∈ lw_all := lw_g (lw_at lw_m2 103 rfl) rfl
theorem q387 : (Jvm.Cond.fieldLink "WicketBoard$Umpire" (41 : Nat) "WicketBoard$Umpire" "sum" "I") ∈ lw_all := lw_g (lw_at lw_m2 105 rfl) rfl
theorem q389 : (Jvm.Cond.laysFinal "WicketBoard$Umpire" "WicketBoard$Umpire" "x" "I") ∈ lw_all := lw_g (lw_at lw_m2 107 rfl) rfl
theorem q390 : (Jvm.Cond.soleField "WicketBoard$Umpire" "x") ∈ lw_all := lw_g (lw_at lw_m2 108 rfl) rfl
theorem q391 : (Jvm.Cond.laysFinal "WicketBoard$Umpire" "WicketBoard$Umpire" "y" "I") ∈ lw_all := lw_g (lw_at lw_m2 109 rfl) rfl
theorem q392 : (Jvm.Cond.soleField "WicketBoard$Umpire" "y") ∈ lw_all := lw_g (lw_at lw_m2 110 rfl) rfl
theorem q393 : (Jvm.Cond.laysFinal "WicketBoard$Umpire" "WicketBoard$Umpire" "barred" "I") ∈ lw_all := lw_g (lw_at lw_m2 111 rfl) rfl
theorem q394 : (Jvm.Cond.soleField "WicketBoard$Umpire" "barred") ∈ lw_all := lw_g (lw_at lw_m2 112 rfl) rfl
theorem q395 : (Jvm.Cond.laysFinal "WicketBoard$Umpire" "WicketBoard$Umpire" "away" "[Z") ∈ lw_all := lw_g (lw_at lw_m2 113 rfl) rfl
theorem q396 : (Jvm.Cond.soleField "WicketBoard$Umpire" "away") ∈ lw_all := lw_g (lw_at lw_m2 114 rfl) rfl
theorem q397 : (Jvm.Cond.laysFinal "WicketBoard$Umpire" "WicketBoard$Umpire" "stood" "[I") ∈ lw_all := lw_g (lw_at lw_m2 115 rfl) rfl
theorem q398 : (Jvm.Cond.soleField "WicketBoard$Umpire" "stood") ∈ lw_all := lw_g (lw_at lw_m2 116 rfl) rfl
theorem q399 : (Jvm.Cond.lays "WicketBoard$Umpire" "WicketBoard$Umpire" "grade" "I") ∈ lw_all := lw_g (lw_at lw_m2 117 rfl) rfl
theorem q400 : (Jvm.Cond.soleField "WicketBoard$Umpire" "grade") ∈ lw_all := lw_g (lw_at lw_m2 118 rfl) rfl
theorem q401 : (Jvm.Cond.lays "WicketBoard$Umpire" "WicketBoard$Umpire" "seat" "I") ∈ lw_all := lw_g (lw_at lw_m2 119 rfl) rfl
theorem q402 : (Jvm.Cond.soleField "WicketBoard$Umpire" "seat") ∈ lw_all := lw_g (lw_at lw_m2 120 rfl) rfl
theorem q403 : (Jvm.Cond.lays "WicketBoard$Umpire" "WicketBoard$Umpire" "weeks" "I") ∈ lw_all := lw_g (lw_at lw_m2 121 rfl) rfl
theorem q404 : (Jvm.Cond.soleField "WicketBoard$Umpire" "weeks") ∈ lw_all := lw_g (lw_at lw_m2 122 rfl) rfl
theorem q405 : (Jvm.Cond.lays "WicketBoard$Umpire" "WicketBoard$Umpire" "marks" "I") ∈ lw_all := lw_g (lw_at lw_m2 123 rfl) rfl
theorem q406 : (Jvm.Cond.soleField "WicketBoard$Umpire" "marks") ∈ lw_all := lw_g (lw_at lw_m2 124 rfl) rfl
theorem q407 : (Jvm.Cond.lays "WicketBoard$Umpire" "WicketBoard$Umpire" "weight" "I") ∈ lw_all := lw_g (lw_at lw_m2 125 rfl) rfl
theorem q408 : (Jvm.Cond.soleField "WicketBoard$Umpire" "weight") ∈ lw_all := lw_g (lw_at lw_m2 126 rfl) rfl
theorem q409 : (Jvm.Cond.lays "WicketBoard$Umpire" "WicketBoard$Umpire" "sum" "I") ∈ lw_all := lw_g (lw_at lw_m2 127 rfl) rfl
theorem q410 : (Jvm.Cond.soleField "WicketBoard$Umpire" "sum") ∈ lw_all := lw_g (lw_at lw_m2 128 rfl) rfl
theorem q411 : (Jvm.Cond.superclass "WicketBoard$Umpire" "java/lang/Object") ∈ lw_all := lw_g (lw_at lw_m2 129 rfl) rfl
theorem q527 : (Jvm.Cond.instanceMethod ({ cls := "WicketBoard$Umpire", name := "forget", desc := "()V" } : Jvm.MethodName)) ∈ lw_all := lw_g (lw_at lw_m3 5 rfl) rfl
theorem q528 : (Jvm.Cond.selects "WicketBoard$Umpire" ({ cls := "WicketBoard$Umpire", name := "forget", desc := "()V" } : Jvm.MethodName) ({ cls := "WicketBoard$Umpire", name := "forget", desc := "()V" } : Jvm.MethodName)) ∈ lw_all := lw_g (lw_at lw_m3 6 rfl) rfl
theorem q529 : (Jvm.Cond.code ({ cls := "WicketBoard$Umpire", name := "forget", desc := "()V" } : Jvm.MethodName) prog_5_method_2_code (1 : Nat) (Option.none : Option Jvm.ClassFile.FieldType)) ∈ lw_all := lw_g (lw_at lw_m3 7 rfl) rfl
theorem q931 : (Jvm.Cond.castable "WicketBoard$Umpire" "java/lang/Object") ∈ lw_tbl := lw_at lw_m4 169 rfl
theorem in_X5 : ∀ w ∈ wsX50, w ∈ lw_all := lw_in wsX50 [389, 391, 393, 395, 397, 399, 401, 403, 405, 407, 409] (by decide +kernel) (by decide +kernel)
/-! WicketBoard$Game -/
def RX6 : String := "WicketBoard$Game"
def TX6 : u_T := fun k => match k with
  | 0 => ("WicketBoard$Game", "x", "I", true)
  | 1 => ("WicketBoard$Game", "y", "I", true)
  | 2 => ("WicketBoard$Game", "clubs", "I", true)
  | _ => ("WicketBoard$Game", "level", "I", true)
def tyX6 : Nat → FieldType := fun k => match k with
  | 0 => .int
  | 1 => .int
  | 2 => .int
  | _ => .int
abbrev wsX60 : List Cond := u_ws RX6 TX6 4
theorem nmX6 : ∀ a, a < 4 → ∀ b, b < 4 → a ≠ b → (TX6 a).2.1 ≠ (TX6 b).2.1 := by decide +kernel
theorem tyX6_ok : ∀ k, k < 4 → parseFieldDescriptor (TX6 k).2.2.1 = some (tyX6 k) := by decide +kernel
abbrev cX6_init : ByteArray := prog_3_method_1_code
def yX6_init : MethodName := ⟨RX6, "<init>", "(IIII)V"⟩
theorem q55 : (Jvm.Cond.initialized "WicketBoard$Game") ∈ lw_all := lw_g (lw_at lw_m1 13 rfl) rfl
theorem q424 : (Jvm.Cond.instantiable "WicketBoard$Game" (4 : Nat)) ∈ lw_all := lw_g (lw_at lw_m2 142 rfl) rfl
theorem q426 : (Jvm.Cond.instanceMethod ({ cls := "WicketBoard$Game", name := "<init>", desc := "(IIII)V" } : Jvm.MethodName)) ∈ lw_all := lw_g (lw_at lw_m2 144 rfl) rfl
theorem q427 : (Jvm.Cond.code ({ cls := "WicketBoard$Game", name := "<init>", desc := "(IIII)V" } : Jvm.MethodName) prog_3_method_1_code (5 : Nat) (Option.none : Option Jvm.ClassFile.FieldType)) ∈ lw_all := lw_g (lw_at lw_m2 145 rfl) rfl
theorem q428 : (Jvm.Cond.methodLink "WicketBoard$Game" (1 : Nat) ({ cls := "java/lang/Object", name := "<init>", desc := "()V" } : Jvm.MethodName)) ∈ lw_all := lw_g (lw_at lw_m2 146 rfl) rfl
theorem q429 : (Jvm.Cond.fieldLink "WicketBoard$Game" (7 : Nat) "WicketBoard$Game" "x" "I") ∈ lw_all := lw_g (lw_at lw_m2 147 rfl) rfl
theorem q431 : (Jvm.Cond.fieldLink "WicketBoard$Game" (13 : Nat) "WicketBoard$Game" "y" "I") ∈ lw_all := lw_g (lw_at lw_m2 149 rfl) rfl
theorem q433 : (Jvm.Cond.fieldLink "WicketBoard$Game" (16 : Nat) "WicketBoard$Game" "clubs" "I") ∈ lw_all := lw_g (lw_at lw_m2 151 rfl) rfl
theorem q435 : (Jvm.Cond.fieldLink "WicketBoard$Game" (19 : Nat) "WicketBoard$Game" "level" "I") ∈ lw_all := lw_g (lw_at lw_m2 153 rfl) rfl
theorem q437 : (Jvm.Cond.laysFinal "WicketBoard$Game" "WicketBoard$Game" "x" "I") ∈ lw_all := lw_g (lw_at lw_m2 155 rfl) rfl
theorem q438 : (Jvm.Cond.soleField "WicketBoard$Game" "x") ∈ lw_all := lw_g (lw_at lw_m2 156 rfl) rfl
theorem q439 : (Jvm.Cond.laysFinal "WicketBoard$Game" "WicketBoard$Game" "y" "I") ∈ lw_all := lw_g (lw_at lw_m2 157 rfl) rfl
theorem q440 : (Jvm.Cond.soleField "WicketBoard$Game" "y") ∈ lw_all := lw_g (lw_at lw_m2 158 rfl) rfl
theorem q441 : (Jvm.Cond.laysFinal "WicketBoard$Game" "WicketBoard$Game" "clubs" "I") ∈ lw_all := lw_g (lw_at lw_m2 159 rfl) rfl
theorem q442 : (Jvm.Cond.soleField "WicketBoard$Game" "clubs") ∈ lw_all := lw_g (lw_at lw_m2 160 rfl) rfl
theorem q443 : (Jvm.Cond.laysFinal "WicketBoard$Game" "WicketBoard$Game" "level" "I") ∈ lw_all := lw_g (lw_at lw_m2 161 rfl) rfl
theorem q444 : (Jvm.Cond.soleField "WicketBoard$Game" "level") ∈ lw_all := lw_g (lw_at lw_m2 162 rfl) rfl
theorem q445 : (Jvm.Cond.superclass "WicketBoard$Game" "java/lang/Object") ∈ lw_all := lw_g (lw_at lw_m2 163 rfl) rfl
theorem q932 : (Jvm.Cond.castable "WicketBoard$Game" "java/lang/Object") ∈ lw_tbl := lw_at lw_m4 170 rfl
theorem in_X6 : ∀ w ∈ wsX60, w ∈ lw_all := lw_in wsX60 [437, 439, 441, 443] (by decide +kernel) (by decide +kernel)
/-! WicketBoardLaw -/
def RX0 : String := "WicketBoardLaw"
abbrev cX0_about : ByteArray := method_3_code
def yX0_about : MethodName := ⟨RX0, "about", "(LWicketBoard;II[J)I"⟩
theorem q42 : (Jvm.Cond.initialized "WicketBoardLaw") ∈ lw_all := lw_g (lw_at lw_m1 0 rfl) rfl
theorem q60 : (Jvm.Cond.methodLink "WicketBoardLaw" (19 : Nat) ({ cls := "WicketBoard", name := "feed", desc := "(IIIII)I" } : Jvm.MethodName)) ∈ lw_all := lw_g (lw_at lw_m1 18 rfl) rfl
theorem q69 : (Jvm.Cond.methodLink "WicketBoardLaw" (24 : Nat) ({ cls := "WicketBoard", name := "end", desc := "(I)Z" } : Jvm.MethodName)) ∈ lw_all := lw_g (lw_at lw_m1 27 rfl) rfl
theorem q73 : (Jvm.Cond.methodLink "WicketBoardLaw" (29 : Nat) ({ cls := "WicketBoard", name := "rules", desc := "()I" } : Jvm.MethodName)) ∈ lw_all := lw_g (lw_at lw_m1 31 rfl) rfl
theorem q155 : (Jvm.Cond.methodLink "WicketBoardLaw" (34 : Nat) ({ cls := "WicketBoard", name := "fault", desc := "()I" } : Jvm.MethodName)) ∈ lw_all := lw_g (lw_at lw_m1 113 rfl) rfl
theorem q159 : (Jvm.Cond.methodLink "WicketBoardLaw" (38 : Nat) ({ cls := "WicketBoard", name := "rule", desc := "(I)I" } : Jvm.MethodName)) ∈ lw_all := lw_g (lw_at lw_m1 117 rfl) rfl
theorem q163 : (Jvm.Cond.classLink "WicketBoardLaw" (8 : Nat) "WicketBoard") ∈ lw_all := lw_g (lw_at lw_m1 121 rfl) rfl
theorem q164 : (Jvm.Cond.methodLink "WicketBoardLaw" (15 : Nat) ({ cls := "WicketBoard", name := "<init>", desc := "()V" } : Jvm.MethodName)) ∈ lw_all := lw_g (lw_at lw_m1 122 rfl) rfl
theorem q356 : (Jvm.Cond.methodLink "WicketBoardLaw" (43 : Nat) ({ cls := "WicketBoard", name := "umpire", desc := "(IIII)I" } : Jvm.MethodName)) ∈ lw_all := lw_g (lw_at lw_m2 74 rfl) rfl
theorem q412 : (Jvm.Cond.methodLink "WicketBoardLaw" (48 : Nat) ({ cls := "WicketBoard", name := "away", desc := "(IIZ)Z" } : Jvm.MethodName)) ∈ lw_all := lw_g (lw_at lw_m2 130 rfl) rfl
theorem q420 : (Jvm.Cond.methodLink "WicketBoardLaw" (53 : Nat) ({ cls := "WicketBoard", name := "game", desc := "(IIIII)I" } : Jvm.MethodName)) ∈ lw_all := lw_g (lw_at lw_m2 138 rfl) rfl
theorem q446 : (Jvm.Cond.methodLink "WicketBoardLaw" (57 : Nat) ({ cls := "WicketBoard", name := "may", desc := "(II)Z" } : Jvm.MethodName)) ∈ lw_all := lw_g (lw_at lw_m2 164 rfl) rfl
theorem q471 : (Jvm.Cond.methodLink "WicketBoardLaw" (62 : Nat) ({ cls := "WicketBoard", name := "cost", desc := "(II)I" } : Jvm.MethodName)) ∈ lw_all := lw_g (lw_at lw_m2 189 rfl) rfl
theorem q479 : (Jvm.Cond.methodLink "WicketBoardLaw" (66 : Nat) ({ cls := "WicketBoard", name := "send", desc := "()I" } : Jvm.MethodName)) ∈ lw_all := lw_g (lw_at lw_m2 197 rfl) rfl
theorem q502 : (Jvm.Cond.methodLink "WicketBoardLaw" (70 : Nat) ({ cls := "WicketBoard", name := "off", desc := "(I)I" } : Jvm.MethodName)) ∈ lw_all := lw_g (lw_at lw_m2 220 rfl) rfl
theorem q510 : (Jvm.Cond.methodLink "WicketBoardLaw" (74 : Nat) ({ cls := "WicketBoard", name := "seat", desc := "(I)I" } : Jvm.MethodName)) ∈ lw_all := lw_g (lw_at lw_m2 228 rfl) rfl
theorem q514 : (Jvm.Cond.methodLink "WicketBoardLaw" (78 : Nat) ({ cls := "WicketBoard", name := "mark", desc := "(IIIZ)Z" } : Jvm.MethodName)) ∈ lw_all := lw_g (lw_at lw_m2 232 rfl) rfl
theorem q518 : (Jvm.Cond.methodLink "WicketBoardLaw" (83 : Nat) ({ cls := "WicketBoard", name := "next", desc := "()I" } : Jvm.MethodName)) ∈ lw_all := lw_g (lw_at lw_m2 236 rfl) rfl
theorem q530 : (Jvm.Cond.methodLink "WicketBoardLaw" (96 : Nat) ({ cls := "WicketBoard", name := "stood", desc := "(II)I" } : Jvm.MethodName)) ∈ lw_all := lw_g (lw_at lw_m3 8 rfl) rfl
theorem q534 : (Jvm.Cond.methodLink "WicketBoardLaw" (100 : Nat) ({ cls := "WicketBoard", name := "together", desc := "()I" } : Jvm.MethodName)) ∈ lw_all := lw_g (lw_at lw_m3 12 rfl) rfl
theorem q538 : (Jvm.Cond.methodLink "WicketBoardLaw" (104 : Nat) ({ cls := "WicketBoard", name := "count", desc := "(I)I" } : Jvm.MethodName)) ∈ lw_all := lw_g (lw_at lw_m3 16 rfl) rfl
theorem q548 : (Jvm.Cond.methodLink "WicketBoardLaw" (87 : Nat) ({ cls := "WicketBoardLaw", name := "about", desc := "(LWicketBoard;II[J)I" } : Jvm.MethodName)) ∈ lw_all := lw_g (lw_at lw_m3 26 rfl) rfl
theorem q549 : (Jvm.Cond.static ({ cls := "WicketBoardLaw", name := "about", desc := "(LWicketBoard;II[J)I" } : Jvm.MethodName)) ∈ lw_all := lw_g (lw_at lw_m3 27 rfl) rfl
theorem q550 : (Jvm.Cond.codeWith ({ cls := "WicketBoardLaw", name := "about", desc := "(LWicketBoard;II[J)I" } : Jvm.MethodName) method_3_code (5 : Nat) (Option.some Jvm.ClassFile.FieldType.int) [((0 : Nat), (10 : Nat), (13 : Nat), (13 : Nat))]) ∈ lw_all := lw_g (lw_at lw_m3 28 rfl) rfl
theorem q551 : (Jvm.Cond.classLink "WicketBoardLaw" (13 : Nat) "java/util/NoSuchElementException") ∈ lw_all := lw_g (lw_at lw_m3 29 rfl) rfl
theorem q552 : (Jvm.Cond.methodLink "WicketBoardLaw" (7 : Nat) ({ cls := "WicketBoard", name := "about", desc := "(II)I" } : Jvm.MethodName)) ∈ lw_all := lw_g (lw_at lw_m3 30 rfl) rfl
theorem q579 : (Jvm.Cond.classLink "WicketBoardLaw" (16 : Nat) "WicketBoardModel") ∈ lw_all := lw_g (lw_at lw_m3 57 rfl) rfl
theorem q581 : (Jvm.Cond.methodLink "WicketBoardLaw" (18 : Nat) ({ cls := "WicketBoardModel", name := "<init>", desc := "()V" } : Jvm.MethodName)) ∈ lw_all := lw_g (lw_at lw_m3 59 rfl) rfl
theorem q724 : (Jvm.Cond.methodLink "WicketBoardLaw" (93 : Nat) ({ cls := "WicketBoardModel", name := "thrown", desc := "()I" } : Jvm.MethodName)) ∈ lw_all := lw_g (lw_at lw_m3 202 rfl) rfl
theorem q728 : (Jvm.Cond.methodLink "WicketBoardLaw" (23 : Nat) ({ cls := "WicketBoardModel", name := "feed", desc := "(IIIII)I" } : Jvm.MethodName)) ∈ lw_all := lw_g (lw_at lw_m3 206 rfl) rfl
theorem q736 : (Jvm.Cond.methodLink "WicketBoardLaw" (28 : Nat) ({ cls := "WicketBoardModel", name := "end", desc := "(I)Z" } : Jvm.MethodName)) ∈ lw_all := lw_g (lw_at lw_m3 214 rfl) rfl
theorem q740 : (Jvm.Cond.methodLink "WicketBoardLaw" (33 : Nat) ({ cls := "WicketBoardModel", name := "rules", desc := "()I" } : Jvm.MethodName)) ∈ lw_all := lw_g (lw_at lw_m3 218 rfl) rfl
theorem q781 : (Jvm.Cond.methodLink "WicketBoardLaw" (37 : Nat) ({ cls := "WicketBoardModel", name := "fault", desc := "()I" } : Jvm.MethodName)) ∈ lw_all := lw_g (lw_at lw_m4 19 rfl) rfl
theorem q785 : (Jvm.Cond.methodLink "WicketBoardLaw" (42 : Nat) ({ cls := "WicketBoardModel", name := "rule", desc := "(I)I" } : Jvm.MethodName)) ∈ lw_all := lw_g (lw_at lw_m4 23 rfl) rfl
theorem q789 : (Jvm.Cond.methodLink "WicketBoardLaw" (47 : Nat) ({ cls := "WicketBoardModel", name := "umpire", desc := "(IIII)I" } : Jvm.MethodName)) ∈ lw_all := lw_g (lw_at lw_m4 27 rfl) rfl
theorem q796 : (Jvm.Cond.methodLink "WicketBoardLaw" (52 : Nat) ({ cls := "WicketBoardModel", name := "away", desc := "(IIZ)Z" } : Jvm.MethodName)) ∈ lw_all := lw_g (lw_at lw_m4 34 rfl) rfl
theorem q808 : (Jvm.Cond.methodLink "WicketBoardLaw" (56 : Nat) ({ cls := "WicketBoardModel", name := "game", desc := "(IIIII)I" } : Jvm.MethodName)) ∈ lw_all := lw_g (lw_at lw_m4 46 rfl) rfl
theorem q812 : (Jvm.Cond.methodLink "WicketBoardLaw" (61 : Nat) ({ cls := "WicketBoardModel", name := "may", desc := "(II)Z" } : Jvm.MethodName)) ∈ lw_all := lw_g (lw_at lw_m4 50 rfl) rfl
theorem q831 : (Jvm.Cond.methodLink "WicketBoardLaw" (65 : Nat) ({ cls := "WicketBoardModel", name := "cost", desc := "(II)I" } : Jvm.MethodName)) ∈ lw_all := lw_g (lw_at lw_m4 69 rfl) rfl
theorem q839 : (Jvm.Cond.methodLink "WicketBoardLaw" (69 : Nat) ({ cls := "WicketBoardModel", name := "send", desc := "()I" } : Jvm.MethodName)) ∈ lw_all := lw_g (lw_at lw_m4 77 rfl) rfl
theorem q885 : (Jvm.Cond.methodLink "WicketBoardLaw" (73 : Nat) ({ cls := "WicketBoardModel", name := "off", desc := "(I)I" } : Jvm.MethodName)) ∈ lw_all := lw_g (lw_at lw_m4 123 rfl) rfl
theorem q893 : (Jvm.Cond.methodLink "WicketBoardLaw" (77 : Nat) ({ cls := "WicketBoardModel", name := "seat", desc := "(I)I" } : Jvm.MethodName)) ∈ lw_all := lw_g (lw_at lw_m4 131 rfl) rfl
theorem q897 : (Jvm.Cond.methodLink "WicketBoardLaw" (82 : Nat) ({ cls := "WicketBoardModel", name := "mark", desc := "(IIIZ)Z" } : Jvm.MethodName)) ∈ lw_all := lw_g (lw_at lw_m4 135 rfl) rfl
theorem q901 : (Jvm.Cond.methodLink "WicketBoardLaw" (86 : Nat) ({ cls := "WicketBoardModel", name := "next", desc := "()I" } : Jvm.MethodName)) ∈ lw_all := lw_g (lw_at lw_m4 139 rfl) rfl
theorem q905 : (Jvm.Cond.methodLink "WicketBoardLaw" (92 : Nat) ({ cls := "WicketBoardModel", name := "about", desc := "(II)I" } : Jvm.MethodName)) ∈ lw_all := lw_g (lw_at lw_m4 143 rfl) rfl
theorem q913 : (Jvm.Cond.methodLink "WicketBoardLaw" (99 : Nat) ({ cls := "WicketBoardModel", name := "stood", desc := "(II)I" } : Jvm.MethodName)) ∈ lw_all := lw_g (lw_at lw_m4 151 rfl) rfl
theorem q917 : (Jvm.Cond.methodLink "WicketBoardLaw" (103 : Nat) ({ cls := "WicketBoardModel", name := "together", desc := "()I" } : Jvm.MethodName)) ∈ lw_all := lw_g (lw_at lw_m4 155 rfl) rfl
theorem q921 : (Jvm.Cond.methodLink "WicketBoardLaw" (107 : Nat) ({ cls := "WicketBoardModel", name := "count", desc := "(I)I" } : Jvm.MethodName)) ∈ lw_all := lw_g (lw_at lw_m4 159 rfl) rfl
/-! java/lang/Throwable -/
def RJ0 : String := "java/lang/Throwable"
def TJ0 : u_T := fun k => match k with
  | 0 => ("java/lang/Throwable", "cause", "Ljava/lang/Throwable;", false)
  | 1 => ("java/lang/Throwable", "stackTrace", "[Ljava/lang/StackTraceElement;", false)
  | 2 => ("java/lang/Throwable", "suppressedExceptions", "Ljava/util/List;", false)
  | 3 => ("java/lang/Throwable", "detailMessage", "Ljava/lang/String;", false)
  | _ => ("java/lang/Throwable", "backtrace", "Ljava/lang/Object;", false)
def tyJ0 : Nat → FieldType := fun k => match k with
  | 0 => .object "java/lang/Throwable"
  | 1 => .array (.object "java/lang/StackTraceElement")
  | 2 => .object "java/util/List"
  | 3 => .object "java/lang/String"
  | _ => .object "java/lang/Object"
abbrev wsJ00 : List Cond := u_ws RJ0 TJ0 5
theorem nmJ0 : ∀ a, a < 5 → ∀ b, b < 5 → a ≠ b → (TJ0 a).2.1 ≠ (TJ0 b).2.1 := by decide +kernel
theorem tyJ0_ok : ∀ k, k < 5 → parseFieldDescriptor (TJ0 k).2.2.1 = some (tyJ0 k) := by decide +kernel
abbrev cJ0_init : ByteArray := prog_16_method_1_code
def yJ0_init : MethodName := ⟨RJ0, "<init>", "()V"⟩
abbrev cJ0_init_2 : ByteArray := prog_16_method_5_code
def yJ0_init_2 : MethodName := ⟨RJ0, "<init>", "(Ljava/lang/String;Ljava/lang/Throwable;ZZ)V"⟩
theorem q45 : (Jvm.Cond.initialized "java/lang/Throwable") ∈ lw_all := lw_g (lw_at lw_m1 3 rfl) rfl
theorem q207 : (Jvm.Cond.declares ({ cls := "java/lang/Throwable", name := "<init>", desc := "()V" } : Jvm.MethodName)) ∈ lw_tbl := lw_at lw_m1 165 rfl
theorem q208 : (Jvm.Cond.declares ({ cls := "java/lang/Throwable", name := "<init>", desc := "(Ljava/lang/String;)V" } : Jvm.MethodName)) ∈ lw_tbl := lw_at lw_m1 166 rfl
theorem q212 : (Jvm.Cond.lays "java/lang/Throwable" "java/lang/Throwable" "cause" "Ljava/lang/Throwable;") ∈ lw_all := lw_g (lw_at lw_m1 170 rfl) rfl
theorem q214 : (Jvm.Cond.lays "java/lang/Throwable" "java/lang/Throwable" "stackTrace" "[Ljava/lang/StackTraceElement;") ∈ lw_all := lw_g (lw_at lw_m1 172 rfl) rfl
theorem q216 : (Jvm.Cond.lays "java/lang/Throwable" "java/lang/Throwable" "suppressedExceptions" "Ljava/util/List;") ∈ lw_all := lw_g (lw_at lw_m1 174 rfl) rfl
theorem q218 : (Jvm.Cond.lays "java/lang/Throwable" "java/lang/Throwable" "detailMessage" "Ljava/lang/String;") ∈ lw_all := lw_g (lw_at lw_m1 176 rfl) rfl
theorem q220 : (Jvm.Cond.lays "java/lang/Throwable" "java/lang/Throwable" "backtrace" "Ljava/lang/Object;") ∈ lw_all := lw_g (lw_at lw_m1 178 rfl) rfl
theorem q221 : (Jvm.Cond.fieldLink "java/lang/Throwable" (198 : Nat) "java/lang/Throwable" "backtrace" "Ljava/lang/Object;") ∈ lw_all := lw_g (lw_at lw_m1 179 rfl) rfl
theorem q222 : (Jvm.Cond.superclass "java/lang/Throwable" "java/lang/Object") ∈ lw_all := lw_g (lw_at lw_m1 180 rfl) rfl
theorem q223 : (Jvm.Cond.instanceMethod ({ cls := "java/lang/Throwable", name := "<init>", desc := "()V" } : Jvm.MethodName)) ∈ lw_all := lw_g (lw_at lw_m1 181 rfl) rfl
theorem q224 : (Jvm.Cond.code ({ cls := "java/lang/Throwable", name := "<init>", desc := "()V" } : Jvm.MethodName) prog_16_method_1_code (1 : Nat) (Option.none : Option Jvm.ClassFile.FieldType)) ∈ lw_all := lw_g (lw_at lw_m1 182 rfl) rfl
theorem q225 : (Jvm.Cond.methodLink "java/lang/Throwable" (1 : Nat) ({ cls := "java/lang/Object", name := "<init>", desc := "()V" } : Jvm.MethodName)) ∈ lw_all := lw_g (lw_at lw_m1 183 rfl) rfl
theorem q226 : (Jvm.Cond.fieldLink "java/lang/Throwable" (13 : Nat) "java/lang/Throwable" "UNASSIGNED_STACK" "[Ljava/lang/StackTraceElement;") ∈ lw_all := lw_g (lw_at lw_m1 184 rfl) rfl
theorem q227 : (Jvm.Cond.laysStatic "java/lang/Throwable" "UNASSIGNED_STACK" "[Ljava/lang/StackTraceElement;") ∈ lw_tbl := lw_at lw_m1 185 rfl
theorem q228 : (Jvm.Cond.fieldLink "java/lang/Throwable" (20 : Nat) "java/lang/Throwable" "SUPPRESSED_SENTINEL" "Ljava/util/List;") ∈ lw_all := lw_g (lw_at lw_m1 186 rfl) rfl
theorem q229 : (Jvm.Cond.laysStatic "java/lang/Throwable" "SUPPRESSED_SENTINEL" "Ljava/util/List;") ∈ lw_tbl := lw_at lw_m1 187 rfl
theorem q230 : (Jvm.Cond.methodLink "java/lang/Throwable" (27 : Nat) ({ cls := "java/lang/Throwable", name := "fillInStackTrace", desc := "()Ljava/lang/Throwable;" } : Jvm.MethodName)) ∈ lw_all := lw_g (lw_at lw_m1 188 rfl) rfl
theorem q231 : (Jvm.Cond.instanceMethod ({ cls := "java/lang/Throwable", name := "fillInStackTrace", desc := "()Ljava/lang/Throwable;" } : Jvm.MethodName)) ∈ lw_all := lw_g (lw_at lw_m1 189 rfl) rfl
theorem q232 : (Jvm.Cond.sameMethod "java/lang/Throwable" "java/lang/Throwable" "fillInStackTrace" "()Ljava/lang/Throwable;") ∈ lw_all := lw_g (lw_at lw_m1 190 rfl) rfl
theorem q234 : (Jvm.Cond.codeSync ({ cls := "java/lang/Throwable", name := "fillInStackTrace", desc := "()Ljava/lang/Throwable;" } : Jvm.MethodName) prog_16_method_18_code (1 : Nat) (Option.some (Jvm.ClassFile.FieldType.object "java/lang/Throwable"))) ∈ lw_all := lw_g (lw_at lw_m1 192 rfl) rfl
theorem q235 : (Jvm.Cond.methodLink "java/lang/Throwable" (202 : Nat) ({ cls := "java/lang/Throwable", name := "fillInStackTrace", desc := "(I)Ljava/lang/Throwable;" } : Jvm.MethodName)) ∈ lw_all := lw_g (lw_at lw_m1 193 rfl) rfl
theorem q236 : (Jvm.Cond.privateMethod ({ cls := "java/lang/Throwable", name := "fillInStackTrace", desc := "(I)Ljava/lang/Throwable;" } : Jvm.MethodName)) ∈ lw_tbl := lw_at lw_m1 194 rfl
theorem q237 : (Jvm.Cond.instanceMethod ({ cls := "java/lang/Throwable", name := "fillInStackTrace", desc := "(I)Ljava/lang/Throwable;" } : Jvm.MethodName)) ∈ lw_all := lw_g (lw_at lw_m1 195 rfl) rfl
theorem q238 : (Jvm.Cond.instantiable "java/lang/Throwable" (6 : Nat)) ∈ lw_all := lw_g (lw_at lw_m1 196 rfl) rfl
theorem q239 : (Jvm.Cond.native ({ cls := "java/lang/Throwable", name := "fillInStackTrace", desc := "(I)Ljava/lang/Throwable;" } : Jvm.MethodName)) ∈ lw_all := lw_g (lw_at lw_m1 197 rfl) rfl
theorem q247 : (Jvm.Cond.instanceMethod ({ cls := "java/lang/Throwable", name := "<init>", desc := "(Ljava/lang/String;Ljava/lang/Throwable;ZZ)V" } : Jvm.MethodName)) ∈ lw_all := lw_g (lw_at lw_m1 205 rfl) rfl
theorem q248 : (Jvm.Cond.code ({ cls := "java/lang/Throwable", name := "<init>", desc := "(Ljava/lang/String;Ljava/lang/Throwable;ZZ)V" } : Jvm.MethodName) prog_16_method_5_code (5 : Nat) (Option.none : Option Jvm.ClassFile.FieldType)) ∈ lw_all := lw_g (lw_at lw_m1 206 rfl) rfl
theorem q251 : (Jvm.Cond.fieldLink "java/lang/Throwable" (198 : Nat) "java/lang/Throwable" "backtrace" "Ljava/lang/Object;") ∈ lw_all := lw_g (lw_at lw_m1 209 rfl) rfl
theorem q252 : (Jvm.Cond.fieldLink "java/lang/Throwable" (31 : Nat) "java/lang/Throwable" "detailMessage" "Ljava/lang/String;") ∈ lw_all := lw_g (lw_at lw_m1 210 rfl) rfl
theorem q253 : (Jvm.Cond.fieldLink "java/lang/Throwable" (7 : Nat) "java/lang/Throwable" "cause" "Ljava/lang/Throwable;") ∈ lw_all := lw_g (lw_at lw_m1 211 rfl) rfl
theorem q254 : (Jvm.Cond.fieldLink "java/lang/Throwable" (17 : Nat) "java/lang/Throwable" "stackTrace" "[Ljava/lang/StackTraceElement;") ∈ lw_all := lw_g (lw_at lw_m1 212 rfl) rfl
theorem q255 : (Jvm.Cond.fieldLink "java/lang/Throwable" (24 : Nat) "java/lang/Throwable" "suppressedExceptions" "Ljava/util/List;") ∈ lw_all := lw_g (lw_at lw_m1 213 rfl) rfl
theorem q260 : (Jvm.Cond.soleField "java/lang/Throwable" "backtrace") ∈ lw_all := lw_g (lw_at lw_m1 218 rfl) rfl
theorem q261 : (Jvm.Cond.soleField "java/lang/Throwable" "detailMessage") ∈ lw_all := lw_g (lw_at lw_m1 219 rfl) rfl
theorem q262 : (Jvm.Cond.soleField "java/lang/Throwable" "cause") ∈ lw_all := lw_g (lw_at lw_m1 220 rfl) rfl
theorem q263 : (Jvm.Cond.soleField "java/lang/Throwable" "stackTrace") ∈ lw_all := lw_g (lw_at lw_m1 221 rfl) rfl
theorem q265 : (Jvm.Cond.soleField "java/lang/Throwable" "depth") ∈ lw_all := lw_g (lw_at lw_m1 223 rfl) rfl
theorem q266 : (Jvm.Cond.soleField "java/lang/Throwable" "suppressedExceptions") ∈ lw_all := lw_g (lw_at lw_m1 224 rfl) rfl
theorem q926 : (Jvm.Cond.sameMethod "java/lang/Throwable" "java/lang/Throwable" "fillInStackTrace" "(I)Ljava/lang/Throwable;") ∈ lw_all := lw_g (lw_at lw_m4 164 rfl) rfl
theorem q934 : (Jvm.Cond.castable "java/lang/Throwable" "java/lang/Object") ∈ lw_tbl := lw_at lw_m4 172 rfl
theorem in_J0 : ∀ w ∈ wsJ00, w ∈ lw_all := lw_in wsJ00 [212, 214, 216, 218, 220] (by decide +kernel) (by decide +kernel)
/-! java/lang/Exception -/
def RJ1 : String := "java/lang/Exception"
abbrev cJ1_init : ByteArray := prog_8_method_5_code
def yJ1_init : MethodName := ⟨RJ1, "<init>", "(Ljava/lang/String;Ljava/lang/Throwable;ZZ)V"⟩
abbrev cJ1_init_2 : ByteArray := prog_8_method_1_code
def yJ1_init_2 : MethodName := ⟨RJ1, "<init>", "()V"⟩
theorem q46 : (Jvm.Cond.initialized "java/lang/Exception") ∈ lw_all := lw_g (lw_at lw_m1 4 rfl) rfl
theorem q205 : (Jvm.Cond.declares ({ cls := "java/lang/Exception", name := "<init>", desc := "()V" } : Jvm.MethodName)) ∈ lw_tbl := lw_at lw_m1 163 rfl
theorem q206 : (Jvm.Cond.declares ({ cls := "java/lang/Exception", name := "<init>", desc := "(Ljava/lang/String;)V" } : Jvm.MethodName)) ∈ lw_tbl := lw_at lw_m1 164 rfl
theorem q244 : (Jvm.Cond.instanceMethod ({ cls := "java/lang/Exception", name := "<init>", desc := "(Ljava/lang/String;Ljava/lang/Throwable;ZZ)V" } : Jvm.MethodName)) ∈ lw_all := lw_g (lw_at lw_m1 202 rfl) rfl
theorem q245 : (Jvm.Cond.code ({ cls := "java/lang/Exception", name := "<init>", desc := "(Ljava/lang/String;Ljava/lang/Throwable;ZZ)V" } : Jvm.MethodName) prog_8_method_5_code (5 : Nat) (Option.none : Option Jvm.ClassFile.FieldType)) ∈ lw_all := lw_g (lw_at lw_m1 203 rfl) rfl
theorem q246 : (Jvm.Cond.methodLink "java/lang/Exception" (16 : Nat) ({ cls := "java/lang/Throwable", name := "<init>", desc := "(Ljava/lang/String;Ljava/lang/Throwable;ZZ)V" } : Jvm.MethodName)) ∈ lw_all := lw_g (lw_at lw_m1 204 rfl) rfl
theorem q574 : (Jvm.Cond.instanceMethod ({ cls := "java/lang/Exception", name := "<init>", desc := "()V" } : Jvm.MethodName)) ∈ lw_all := lw_g (lw_at lw_m3 52 rfl) rfl
theorem q575 : (Jvm.Cond.code ({ cls := "java/lang/Exception", name := "<init>", desc := "()V" } : Jvm.MethodName) prog_8_method_1_code (1 : Nat) (Option.none : Option Jvm.ClassFile.FieldType)) ∈ lw_all := lw_g (lw_at lw_m3 53 rfl) rfl
theorem q576 : (Jvm.Cond.methodLink "java/lang/Exception" (1 : Nat) ({ cls := "java/lang/Throwable", name := "<init>", desc := "()V" } : Jvm.MethodName)) ∈ lw_all := lw_g (lw_at lw_m3 54 rfl) rfl
/-! java/lang/String -/
def RJ2 : String := "java/lang/String"
abbrev cJ2_length : ByteArray := prog_12_method_54_code
def yJ2_length : MethodName := ⟨RJ2, "length", "()I"⟩
abbrev cJ2_coder : ByteArray := prog_12_method_152_code
def yJ2_coder : MethodName := ⟨RJ2, "coder", "()B"⟩
abbrev cJ2_charAt : ByteArray := prog_12_method_56_code
def yJ2_charAt : MethodName := ⟨RJ2, "charAt", "(I)C"⟩
abbrev cJ2_isLatin1 : ByteArray := prog_12_method_154_code
def yJ2_isLatin1 : MethodName := ⟨RJ2, "isLatin1", "()Z"⟩
abbrev cJ2_checkIndex : ByteArray := prog_12_method_155_code
def yJ2_checkIndex : MethodName := ⟨RJ2, "checkIndex", "(II)V"⟩
theorem q49 : (Jvm.Cond.initialized "java/lang/String") ∈ lw_all := lw_g (lw_at lw_m1 7 rfl) rfl
theorem q101 : (Jvm.Cond.instanceMethod ({ cls := "java/lang/String", name := "length", desc := "()I" } : Jvm.MethodName)) ∈ lw_all := lw_g (lw_at lw_m1 59 rfl) rfl
theorem q102 : (Jvm.Cond.selects "java/lang/String" ({ cls := "java/lang/String", name := "length", desc := "()I" } : Jvm.MethodName) ({ cls := "java/lang/String", name := "length", desc := "()I" } : Jvm.MethodName)) ∈ lw_all := lw_g (lw_at lw_m1 60 rfl) rfl
theorem q103 : (Jvm.Cond.code ({ cls := "java/lang/String", name := "length", desc := "()I" } : Jvm.MethodName) prog_12_method_54_code (1 : Nat) (Option.some Jvm.ClassFile.FieldType.int)) ∈ lw_all := lw_g (lw_at lw_m1 61 rfl) rfl
theorem q104 : (Jvm.Cond.methodLink "java/lang/String" (335 : Nat) ({ cls := "java/lang/String", name := "coder", desc := "()B" } : Jvm.MethodName)) ∈ lw_all := lw_g (lw_at lw_m1 62 rfl) rfl
theorem q105 : (Jvm.Cond.instanceMethod ({ cls := "java/lang/String", name := "coder", desc := "()B" } : Jvm.MethodName)) ∈ lw_all := lw_g (lw_at lw_m1 63 rfl) rfl
theorem q106 : (Jvm.Cond.selects "java/lang/String" ({ cls := "java/lang/String", name := "coder", desc := "()B" } : Jvm.MethodName) ({ cls := "java/lang/String", name := "coder", desc := "()B" } : Jvm.MethodName)) ∈ lw_all := lw_g (lw_at lw_m1 64 rfl) rfl
theorem q107 : (Jvm.Cond.code ({ cls := "java/lang/String", name := "coder", desc := "()B" } : Jvm.MethodName) prog_12_method_152_code (1 : Nat) (Option.some Jvm.ClassFile.FieldType.byte)) ∈ lw_all := lw_g (lw_at lw_m1 65 rfl) rfl
theorem q108 : (Jvm.Cond.fieldLink "java/lang/String" (38 : Nat) "java/lang/String" "COMPACT_STRINGS" "Z") ∈ lw_all := lw_g (lw_at lw_m1 66 rfl) rfl
theorem q109 : (Jvm.Cond.laysStatic "java/lang/String" "COMPACT_STRINGS" "Z") ∈ lw_tbl := lw_at lw_m1 67 rfl
theorem q111 : (Jvm.Cond.instanceMethod ({ cls := "java/lang/String", name := "charAt", desc := "(I)C" } : Jvm.MethodName)) ∈ lw_all := lw_g (lw_at lw_m1 69 rfl) rfl
theorem q112 : (Jvm.Cond.selects "java/lang/String" ({ cls := "java/lang/String", name := "charAt", desc := "(I)C" } : Jvm.MethodName) ({ cls := "java/lang/String", name := "charAt", desc := "(I)C" } : Jvm.MethodName)) ∈ lw_all := lw_g (lw_at lw_m1 70 rfl) rfl
theorem q113 : (Jvm.Cond.code ({ cls := "java/lang/String", name := "charAt", desc := "(I)C" } : Jvm.MethodName) prog_12_method_56_code (2 : Nat) (Option.some Jvm.ClassFile.FieldType.char)) ∈ lw_all := lw_g (lw_at lw_m1 71 rfl) rfl
theorem q114 : (Jvm.Cond.methodLink "java/lang/String" (492 : Nat) ({ cls := "java/lang/String", name := "isLatin1", desc := "()Z" } : Jvm.MethodName)) ∈ lw_all := lw_g (lw_at lw_m1 72 rfl) rfl
theorem q115 : (Jvm.Cond.instanceMethod ({ cls := "java/lang/String", name := "isLatin1", desc := "()Z" } : Jvm.MethodName)) ∈ lw_all := lw_g (lw_at lw_m1 73 rfl) rfl
theorem q116 : (Jvm.Cond.selects "java/lang/String" ({ cls := "java/lang/String", name := "isLatin1", desc := "()Z" } : Jvm.MethodName) ({ cls := "java/lang/String", name := "isLatin1", desc := "()Z" } : Jvm.MethodName)) ∈ lw_all := lw_g (lw_at lw_m1 74 rfl) rfl
theorem q117 : (Jvm.Cond.code ({ cls := "java/lang/String", name := "isLatin1", desc := "()Z" } : Jvm.MethodName) prog_12_method_154_code (1 : Nat) (Option.some Jvm.ClassFile.FieldType.boolean)) ∈ lw_all := lw_g (lw_at lw_m1 75 rfl) rfl
theorem q118 : (Jvm.Cond.methodLink "java/lang/String" (495 : Nat) ({ cls := "java/lang/StringLatin1", name := "charAt", desc := "([BI)C" } : Jvm.MethodName)) ∈ lw_all := lw_g (lw_at lw_m1 76 rfl) rfl
theorem q122 : (Jvm.Cond.static ({ cls := "java/lang/String", name := "checkIndex", desc := "(II)V" } : Jvm.MethodName)) ∈ lw_all := lw_g (lw_at lw_m1 80 rfl) rfl
theorem q123 : (Jvm.Cond.code ({ cls := "java/lang/String", name := "checkIndex", desc := "(II)V" } : Jvm.MethodName) prog_12_method_155_code (2 : Nat) (Option.none : Option Jvm.ClassFile.FieldType)) ∈ lw_all := lw_g (lw_at lw_m1 81 rfl) rfl
theorem q124 : (Jvm.Cond.fieldLink "java/lang/String" (1053 : Nat) "jdk/internal/util/Preconditions" "SIOOBE_FORMATTER" "Ljava/util/function/BiFunction;") ∈ lw_all := lw_g (lw_at lw_m1 82 rfl) rfl
theorem q126 : (Jvm.Cond.methodLink "java/lang/String" (1059 : Nat) ({ cls := "jdk/internal/util/Preconditions", name := "checkIndex", desc := "(IILjava/util/function/BiFunction;)I" } : Jvm.MethodName)) ∈ lw_all := lw_g (lw_at lw_m1 84 rfl) rfl
theorem q129 : (Jvm.Cond.methodLink "java/lang/String" (498 : Nat) ({ cls := "java/lang/StringUTF16", name := "charAt", desc := "([BI)C" } : Jvm.MethodName)) ∈ lw_all := lw_g (lw_at lw_m1 87 rfl) rfl
theorem q935 : (Jvm.Cond.castable "java/lang/String" "java/lang/Object") ∈ lw_tbl := lw_at lw_m4 173 rfl
theorem q936 : (Jvm.Cond.fieldLink "java/lang/String" (9 : Nat) "java/lang/String" "value" "[B") ∈ lw_all := lw_g (lw_at lw_m4 174 rfl) rfl
theorem q937 : (Jvm.Cond.fieldLink "java/lang/String" (15 : Nat) "java/lang/String" "coder" "B") ∈ lw_all := lw_g (lw_at lw_m4 175 rfl) rfl
/-! java/lang/StringLatin1 -/
def RJ3 : String := "java/lang/StringLatin1"
abbrev cJ3_charAt : ByteArray := prog_13_method_2_code
def yJ3_charAt : MethodName := ⟨RJ3, "charAt", "([BI)C"⟩
theorem q50 : (Jvm.Cond.initialized "java/lang/StringLatin1") ∈ lw_all := lw_g (lw_at lw_m1 8 rfl) rfl
theorem q119 : (Jvm.Cond.static ({ cls := "java/lang/StringLatin1", name := "charAt", desc := "([BI)C" } : Jvm.MethodName)) ∈ lw_all := lw_g (lw_at lw_m1 77 rfl) rfl
theorem q120 : (Jvm.Cond.code ({ cls := "java/lang/StringLatin1", name := "charAt", desc := "([BI)C" } : Jvm.MethodName) prog_13_method_2_code (2 : Nat) (Option.some Jvm.ClassFile.FieldType.char)) ∈ lw_all := lw_g (lw_at lw_m1 78 rfl) rfl
theorem q121 : (Jvm.Cond.methodLink "java/lang/StringLatin1" (9 : Nat) ({ cls := "java/lang/String", name := "checkIndex", desc := "(II)V" } : Jvm.MethodName)) ∈ lw_all := lw_g (lw_at lw_m1 79 rfl) rfl
/-! jdk/internal/util/Preconditions -/
def RJ4 : String := "jdk/internal/util/Preconditions"
abbrev cJ4_checkIndex : ByteArray := prog_18_method_11_code
def yJ4_checkIndex : MethodName := ⟨RJ4, "checkIndex", "(IILjava/util/function/BiFunction;)I"⟩
theorem q51 : (Jvm.Cond.initialized "jdk/internal/util/Preconditions") ∈ lw_all := lw_g (lw_at lw_m1 9 rfl) rfl
theorem q125 : (Jvm.Cond.laysStatic "jdk/internal/util/Preconditions" "SIOOBE_FORMATTER" "Ljava/util/function/BiFunction;") ∈ lw_tbl := lw_at lw_m1 83 rfl
theorem q127 : (Jvm.Cond.static ({ cls := "jdk/internal/util/Preconditions", name := "checkIndex", desc := "(IILjava/util/function/BiFunction;)I" } : Jvm.MethodName)) ∈ lw_all := lw_g (lw_at lw_m1 85 rfl) rfl
theorem q128 : (Jvm.Cond.code ({ cls := "jdk/internal/util/Preconditions", name := "checkIndex", desc := "(IILjava/util/function/BiFunction;)I" } : Jvm.MethodName) prog_18_method_11_code (3 : Nat) (Option.some Jvm.ClassFile.FieldType.int)) ∈ lw_all := lw_g (lw_at lw_m1 86 rfl) rfl
/-! java/lang/StringUTF16 -/
def RJ5 : String := "java/lang/StringUTF16"
abbrev cJ5_charAt : ByteArray := prog_14_method_83_code
def yJ5_charAt : MethodName := ⟨RJ5, "charAt", "([BI)C"⟩
abbrev cJ5_checkIndex : ByteArray := prog_14_method_91_code
def yJ5_checkIndex : MethodName := ⟨RJ5, "checkIndex", "(I[B)V"⟩
abbrev cJ5_length : ByteArray := prog_14_method_6_code
def yJ5_length : MethodName := ⟨RJ5, "length", "([B)I"⟩
abbrev cJ5_getChar : ByteArray := prog_14_method_5_code
def yJ5_getChar : MethodName := ⟨RJ5, "getChar", "([BI)C"⟩
theorem q52 : (Jvm.Cond.initialized "java/lang/StringUTF16") ∈ lw_all := lw_g (lw_at lw_m1 10 rfl) rfl
theorem q130 : (Jvm.Cond.static ({ cls := "java/lang/StringUTF16", name := "charAt", desc := "([BI)C" } : Jvm.MethodName)) ∈ lw_all := lw_g (lw_at lw_m1 88 rfl) rfl
theorem q131 : (Jvm.Cond.code ({ cls := "java/lang/StringUTF16", name := "charAt", desc := "([BI)C" } : Jvm.MethodName) prog_14_method_83_code (2 : Nat) (Option.some Jvm.ClassFile.FieldType.char)) ∈ lw_all := lw_g (lw_at lw_m1 89 rfl) rfl
theorem q132 : (Jvm.Cond.methodLink "java/lang/StringUTF16" (67 : Nat) ({ cls := "java/lang/StringUTF16", name := "checkIndex", desc := "(I[B)V" } : Jvm.MethodName)) ∈ lw_all := lw_g (lw_at lw_m1 90 rfl) rfl
theorem q133 : (Jvm.Cond.static ({ cls := "java/lang/StringUTF16", name := "checkIndex", desc := "(I[B)V" } : Jvm.MethodName)) ∈ lw_all := lw_g (lw_at lw_m1 91 rfl) rfl
theorem q134 : (Jvm.Cond.code ({ cls := "java/lang/StringUTF16", name := "checkIndex", desc := "(I[B)V" } : Jvm.MethodName) prog_14_method_91_code (2 : Nat) (Option.none : Option Jvm.ClassFile.FieldType)) ∈ lw_all := lw_g (lw_at lw_m1 92 rfl) rfl
theorem q135 : (Jvm.Cond.methodLink "java/lang/StringUTF16" (48 : Nat) ({ cls := "java/lang/StringUTF16", name := "length", desc := "([B)I" } : Jvm.MethodName)) ∈ lw_all := lw_g (lw_at lw_m1 93 rfl) rfl
theorem q136 : (Jvm.Cond.static ({ cls := "java/lang/StringUTF16", name := "length", desc := "([B)I" } : Jvm.MethodName)) ∈ lw_all := lw_g (lw_at lw_m1 94 rfl) rfl
theorem q137 : (Jvm.Cond.code ({ cls := "java/lang/StringUTF16", name := "length", desc := "([B)I" } : Jvm.MethodName) prog_14_method_6_code (1 : Nat) (Option.some Jvm.ClassFile.FieldType.int)) ∈ lw_all := lw_g (lw_at lw_m1 95 rfl) rfl
theorem q138 : (Jvm.Cond.methodLink "java/lang/StringUTF16" (414 : Nat) ({ cls := "java/lang/String", name := "checkIndex", desc := "(II)V" } : Jvm.MethodName)) ∈ lw_all := lw_g (lw_at lw_m1 96 rfl) rfl
theorem q139 : (Jvm.Cond.methodLink "java/lang/StringUTF16" (71 : Nat) ({ cls := "java/lang/StringUTF16", name := "getChar", desc := "([BI)C" } : Jvm.MethodName)) ∈ lw_all := lw_g (lw_at lw_m1 97 rfl) rfl
theorem q140 : (Jvm.Cond.static ({ cls := "java/lang/StringUTF16", name := "getChar", desc := "([BI)C" } : Jvm.MethodName)) ∈ lw_all := lw_g (lw_at lw_m1 98 rfl) rfl
theorem q141 : (Jvm.Cond.code ({ cls := "java/lang/StringUTF16", name := "getChar", desc := "([BI)C" } : Jvm.MethodName) prog_14_method_5_code (2 : Nat) (Option.some Jvm.ClassFile.FieldType.char)) ∈ lw_all := lw_g (lw_at lw_m1 99 rfl) rfl
theorem q142 : (Jvm.Cond.fieldLink "java/lang/StringUTF16" (44 : Nat) "java/lang/StringUTF16" "$assertionsDisabled" "Z") ∈ lw_all := lw_g (lw_at lw_m1 100 rfl) rfl
theorem q143 : (Jvm.Cond.laysStatic "java/lang/StringUTF16" "$assertionsDisabled" "Z") ∈ lw_tbl := lw_at lw_m1 101 rfl
theorem q144 : (Jvm.Cond.fieldLink "java/lang/StringUTF16" (59 : Nat) "java/lang/StringUTF16" "HI_BYTE_SHIFT" "I") ∈ lw_all := lw_g (lw_at lw_m1 102 rfl) rfl
theorem q145 : (Jvm.Cond.laysStatic "java/lang/StringUTF16" "HI_BYTE_SHIFT" "I") ∈ lw_tbl := lw_at lw_m1 103 rfl
theorem q146 : (Jvm.Cond.fieldLink "java/lang/StringUTF16" (63 : Nat) "java/lang/StringUTF16" "LO_BYTE_SHIFT" "I") ∈ lw_all := lw_g (lw_at lw_m1 104 rfl) rfl
theorem q147 : (Jvm.Cond.laysStatic "java/lang/StringUTF16" "LO_BYTE_SHIFT" "I") ∈ lw_tbl := lw_at lw_m1 105 rfl
/-! java/lang/Math -/
def RJ6 : String := "java/lang/Math"
abbrev cJ6_abs : ByteArray := prog_10_method_59_code
def yJ6_abs : MethodName := ⟨RJ6, "abs", "(I)I"⟩
abbrev cJ6_max : ByteArray := prog_10_method_65_code
def yJ6_max : MethodName := ⟨RJ6, "max", "(II)I"⟩
theorem q56 : (Jvm.Cond.initialized "java/lang/Math") ∈ lw_all := lw_g (lw_at lw_m1 14 rfl) rfl
theorem q462 : (Jvm.Cond.static ({ cls := "java/lang/Math", name := "abs", desc := "(I)I" } : Jvm.MethodName)) ∈ lw_all := lw_g (lw_at lw_m2 180 rfl) rfl
theorem q463 : (Jvm.Cond.code ({ cls := "java/lang/Math", name := "abs", desc := "(I)I" } : Jvm.MethodName) prog_10_method_59_code (1 : Nat) (Option.some Jvm.ClassFile.FieldType.int)) ∈ lw_all := lw_g (lw_at lw_m2 181 rfl) rfl
theorem q469 : (Jvm.Cond.static ({ cls := "java/lang/Math", name := "max", desc := "(II)I" } : Jvm.MethodName)) ∈ lw_all := lw_g (lw_at lw_m2 187 rfl) rfl
theorem q470 : (Jvm.Cond.code ({ cls := "java/lang/Math", name := "max", desc := "(II)I" } : Jvm.MethodName) prog_10_method_65_code (2 : Nat) (Option.some Jvm.ClassFile.FieldType.int)) ∈ lw_all := lw_g (lw_at lw_m2 188 rfl) rfl
/-! java/lang/RuntimeException -/
def RJ7 : String := "java/lang/RuntimeException"
abbrev cJ7_init : ByteArray := prog_11_method_1_code
def yJ7_init : MethodName := ⟨RJ7, "<init>", "()V"⟩
theorem q57 : (Jvm.Cond.initialized "java/lang/RuntimeException") ∈ lw_all := lw_g (lw_at lw_m1 15 rfl) rfl
theorem q559 : (Jvm.Cond.declares ({ cls := "java/lang/RuntimeException", name := "<init>", desc := "()V" } : Jvm.MethodName)) ∈ lw_tbl := lw_at lw_m3 37 rfl
theorem q560 : (Jvm.Cond.declares ({ cls := "java/lang/RuntimeException", name := "<init>", desc := "(Ljava/lang/String;)V" } : Jvm.MethodName)) ∈ lw_tbl := lw_at lw_m3 38 rfl
theorem q571 : (Jvm.Cond.instanceMethod ({ cls := "java/lang/RuntimeException", name := "<init>", desc := "()V" } : Jvm.MethodName)) ∈ lw_all := lw_g (lw_at lw_m3 49 rfl) rfl
theorem q572 : (Jvm.Cond.code ({ cls := "java/lang/RuntimeException", name := "<init>", desc := "()V" } : Jvm.MethodName) prog_11_method_1_code (1 : Nat) (Option.none : Option Jvm.ClassFile.FieldType)) ∈ lw_all := lw_g (lw_at lw_m3 50 rfl) rfl
theorem q573 : (Jvm.Cond.methodLink "java/lang/RuntimeException" (1 : Nat) ({ cls := "java/lang/Exception", name := "<init>", desc := "()V" } : Jvm.MethodName)) ∈ lw_all := lw_g (lw_at lw_m3 51 rfl) rfl
/-! java/util/NoSuchElementException -/
def RJ8 : String := "java/util/NoSuchElementException"
def TJ8 : u_T := fun k => match k with
  | 0 => ("java/lang/Throwable", "cause", "Ljava/lang/Throwable;", false)
  | 1 => ("java/lang/Throwable", "stackTrace", "[Ljava/lang/StackTraceElement;", false)
  | 2 => ("java/lang/Throwable", "suppressedExceptions", "Ljava/util/List;", false)
  | 3 => ("java/lang/Throwable", "detailMessage", "Ljava/lang/String;", false)
  | 4 => ("java/lang/Throwable", "backtrace", "Ljava/lang/Object;", false)
  | _ => ("java/lang/Throwable", "depth", "I", false)
def tyJ8 : Nat → FieldType := fun k => match k with
  | 0 => .object "java/lang/Throwable"
  | 1 => .array (.object "java/lang/StackTraceElement")
  | 2 => .object "java/util/List"
  | 3 => .object "java/lang/String"
  | 4 => .object "java/lang/Object"
  | _ => .int
abbrev wsJ80 : List Cond := u_ws RJ8 TJ8 6
theorem nmJ8 : ∀ a, a < 6 → ∀ b, b < 6 → a ≠ b → (TJ8 a).2.1 ≠ (TJ8 b).2.1 := by decide +kernel
theorem tyJ8_ok : ∀ k, k < 6 → parseFieldDescriptor (TJ8 k).2.2.1 = some (tyJ8 k) := by decide +kernel
abbrev cJ8_init : ByteArray := prog_17_method_1_code
def yJ8_init : MethodName := ⟨RJ8, "<init>", "()V"⟩
theorem q58 : (Jvm.Cond.initialized "java/util/NoSuchElementException") ∈ lw_all := lw_g (lw_at lw_m1 16 rfl) rfl
theorem q233 : (Jvm.Cond.selects "java/util/NoSuchElementException" ({ cls := "java/lang/Throwable", name := "fillInStackTrace", desc := "()Ljava/lang/Throwable;" } : Jvm.MethodName) ({ cls := "java/lang/Throwable", name := "fillInStackTrace", desc := "()Ljava/lang/Throwable;" } : Jvm.MethodName)) ∈ lw_all := lw_g (lw_at lw_m1 191 rfl) rfl
theorem q557 : (Jvm.Cond.instantiable "java/util/NoSuchElementException" (6 : Nat)) ∈ lw_all := lw_g (lw_at lw_m3 35 rfl) rfl
theorem q558 : (Jvm.Cond.castable "java/util/NoSuchElementException" "java/util/NoSuchElementException") ∈ lw_tbl := lw_at lw_m3 36 rfl
theorem q561 : (Jvm.Cond.selects "java/util/NoSuchElementException" ({ cls := "java/lang/Throwable", name := "fillInStackTrace", desc := "(I)Ljava/lang/Throwable;" } : Jvm.MethodName) ({ cls := "java/lang/Throwable", name := "fillInStackTrace", desc := "(I)Ljava/lang/Throwable;" } : Jvm.MethodName)) ∈ lw_all := lw_g (lw_at lw_m3 39 rfl) rfl
theorem q562 : (Jvm.Cond.lays "java/util/NoSuchElementException" "java/lang/Throwable" "cause" "Ljava/lang/Throwable;") ∈ lw_all := lw_g (lw_at lw_m3 40 rfl) rfl
theorem q563 : (Jvm.Cond.lays "java/util/NoSuchElementException" "java/lang/Throwable" "stackTrace" "[Ljava/lang/StackTraceElement;") ∈ lw_all := lw_g (lw_at lw_m3 41 rfl) rfl
theorem q564 : (Jvm.Cond.lays "java/util/NoSuchElementException" "java/lang/Throwable" "suppressedExceptions" "Ljava/util/List;") ∈ lw_all := lw_g (lw_at lw_m3 42 rfl) rfl
theorem q565 : (Jvm.Cond.lays "java/util/NoSuchElementException" "java/lang/Throwable" "detailMessage" "Ljava/lang/String;") ∈ lw_all := lw_g (lw_at lw_m3 43 rfl) rfl
theorem q566 : (Jvm.Cond.lays "java/util/NoSuchElementException" "java/lang/Throwable" "backtrace" "Ljava/lang/Object;") ∈ lw_all := lw_g (lw_at lw_m3 44 rfl) rfl
theorem q568 : (Jvm.Cond.instanceMethod ({ cls := "java/util/NoSuchElementException", name := "<init>", desc := "()V" } : Jvm.MethodName)) ∈ lw_all := lw_g (lw_at lw_m3 46 rfl) rfl
theorem q569 : (Jvm.Cond.code ({ cls := "java/util/NoSuchElementException", name := "<init>", desc := "()V" } : Jvm.MethodName) prog_17_method_1_code (1 : Nat) (Option.none : Option Jvm.ClassFile.FieldType)) ∈ lw_all := lw_g (lw_at lw_m3 47 rfl) rfl
theorem q570 : (Jvm.Cond.methodLink "java/util/NoSuchElementException" (1 : Nat) ({ cls := "java/lang/RuntimeException", name := "<init>", desc := "()V" } : Jvm.MethodName)) ∈ lw_all := lw_g (lw_at lw_m3 48 rfl) rfl
theorem q577 : (Jvm.Cond.lays "java/util/NoSuchElementException" "java/lang/Throwable" "depth" "I") ∈ lw_all := lw_g (lw_at lw_m3 55 rfl) rfl
theorem q578 : (Jvm.Cond.superclass "java/util/NoSuchElementException" "java/lang/RuntimeException") ∈ lw_all := lw_g (lw_at lw_m3 56 rfl) rfl
theorem q933 : (Jvm.Cond.castable "java/util/NoSuchElementException" "java/lang/Object") ∈ lw_tbl := lw_at lw_m4 171 rfl
theorem in_J8 : ∀ w ∈ wsJ80, w ∈ lw_all := lw_in wsJ80 [562, 563, 564, 565, 566, 577] (by decide +kernel) (by decide +kernel)
/-! java/lang/Integer -/
def RJ9 : String := "java/lang/Integer"
abbrev cJ9_bitCount : ByteArray := prog_9_method_49_code
def yJ9_bitCount : MethodName := ⟨RJ9, "bitCount", "(I)I"⟩
theorem q59 : (Jvm.Cond.initialized "java/lang/Integer") ∈ lw_all := lw_g (lw_at lw_m1 17 rfl) rfl
theorem q543 : (Jvm.Cond.static ({ cls := "java/lang/Integer", name := "bitCount", desc := "(I)I" } : Jvm.MethodName)) ∈ lw_all := lw_g (lw_at lw_m3 21 rfl) rfl
theorem q544 : (Jvm.Cond.code ({ cls := "java/lang/Integer", name := "bitCount", desc := "(I)I" } : Jvm.MethodName) prog_9_method_49_code (1 : Nat) (Option.some Jvm.ClassFile.FieldType.int)) ∈ lw_all := lw_g (lw_at lw_m3 22 rfl) rfl
theorem q545 : (Jvm.Cond.constant "java/lang/Integer" (265 : Nat) (1431655765 : Int32)) ∈ lw_all := lw_g (lw_at lw_m3 23 rfl) rfl
theorem q546 : (Jvm.Cond.constant "java/lang/Integer" (266 : Nat) (858993459 : Int32)) ∈ lw_all := lw_g (lw_at lw_m3 24 rfl) rfl
theorem q547 : (Jvm.Cond.constant "java/lang/Integer" (267 : Nat) (252645135 : Int32)) ∈ lw_all := lw_g (lw_at lw_m3 25 rfl) rfl
/-! java/lang/Object -/
def RJ10 : String := "java/lang/Object"
abbrev cJ10_init : ByteArray := object_method_1_code
def yJ10_init : MethodName := ⟨RJ10, "<init>", "()V"⟩
theorem q168 : (Jvm.Cond.instanceMethod ({ cls := "java/lang/Object", name := "<init>", desc := "()V" } : Jvm.MethodName)) ∈ lw_all := lw_g (lw_at lw_m1 126 rfl) rfl
theorem q169 : (Jvm.Cond.code ({ cls := "java/lang/Object", name := "<init>", desc := "()V" } : Jvm.MethodName) object_method_1_code (1 : Nat) (Option.none : Option Jvm.ClassFile.FieldType)) ∈ lw_all := lw_g (lw_at lw_m1 127 rfl) rfl
theorem q53 : (Jvm.Cond.initialized "java/lang/System") ∈ lw_all := lw_g (lw_at lw_m1 11 rfl) rfl
theorem q153 : (Jvm.Cond.static ({ cls := "java/lang/System", name := "arraycopy", desc := "(Ljava/lang/Object;ILjava/lang/Object;II)V" } : Jvm.MethodName)) ∈ lw_all := lw_g (lw_at lw_m1 111 rfl) rfl
theorem q154 : (Jvm.Cond.native ({ cls := "java/lang/System", name := "arraycopy", desc := "(Ljava/lang/Object;ILjava/lang/Object;II)V" } : Jvm.MethodName)) ∈ lw_all := lw_g (lw_at lw_m1 112 rfl) rfl
theorem q171 : (Jvm.Cond.arrayOver (Jvm.ClassFile.FieldType.object "WicketBoard$Rule")) ∈ lw_tbl := lw_at lw_m1 129 rfl
theorem q194 : (Jvm.Cond.arrayClass Jvm.ClassFile.FieldType.byte) ∈ lw_all := lw_g (lw_at lw_m1 152 rfl) rfl
theorem q268 : (Jvm.Cond.arrayClass Jvm.ClassFile.FieldType.int) ∈ lw_all := lw_g (lw_at lw_m1 226 rfl) rfl
theorem q270 : (Jvm.Cond.arrayOver (Jvm.ClassFile.FieldType.object "WicketBoard$Umpire")) ∈ lw_tbl := lw_at lw_m1 228 rfl
theorem q272 : (Jvm.Cond.arrayOver (Jvm.ClassFile.FieldType.object "WicketBoard$Game")) ∈ lw_tbl := lw_at lw_m1 230 rfl
theorem q355 : (Jvm.Cond.arrayClass Jvm.ClassFile.FieldType.boolean) ∈ lw_all := lw_g (lw_at lw_m2 73 rfl) rfl
theorem q925 : (Jvm.Cond.arrayClass Jvm.ClassFile.FieldType.long) ∈ lw_all := lw_g (lw_at lw_m4 163 rfl) rfl
