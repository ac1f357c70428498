set_option maxRecDepth 100000
/-! ThirdAfter -/
def RX0 : String := "ThirdAfter"
def TX0 : u_T := fun k => match k with
  | 0 => ("ThirdAfter", "buyers", "[LThirdAfter$Buyer;", true)
  | 1 => ("ThirdAfter", "many", "I", false)
  | 2 => ("ThirdAfter", "third", "I", false)
  | 3 => ("ThirdAfter", "dogs", "I", false)
  | 4 => ("ThirdAfter", "day", "I", false)
  | 5 => ("ThirdAfter", "changes", "[LThirdAfter$Change;", true)
  | 6 => ("ThirdAfter", "doneMany", "I", false)
  | 7 => ("ThirdAfter", "undoneMany", "I", false)
  | 8 => ("ThirdAfter", "tape", "[B", true)
  | 9 => ("ThirdAfter", "taped", "I", false)
  | 10 => ("ThirdAfter", "law", "LThirdAfter$Line;", false)
  | 11 => ("ThirdAfter", "facts", "LThirdAfter$Facts;", true)
  | 12 => ("ThirdAfter", "now", "LThirdAfter$Market;", true)
  | 13 => ("ThirdAfter", "thought", "[LThirdAfter$Market;", true)
  | 14 => ("ThirdAfter", "paidTo", "[[I", true)
  | 15 => ("ThirdAfter", "payer", "I", false)
  | 16 => ("ThirdAfter", "paid", "I", false)
  | 17 => ("ThirdAfter", "bought", "I", false)
  | 18 => ("ThirdAfter", "row", "[I", true)
  | 19 => ("ThirdAfter", "rowMany", "I", false)
  | 20 => ("ThirdAfter", "bestOrder", "[I", true)
  | 21 => ("ThirdAfter", "bestPurse", "I", false)
  | 22 => ("ThirdAfter", "seen", "[I", true)
  | 23 => ("ThirdAfter", "seenMany", "I", false)
  | 24 => ("ThirdAfter", "oneOf", "I", false)
  | 25 => ("ThirdAfter", "otherOf", "I", false)
  | 26 => ("ThirdAfter", "ledComings", "I", false)
  | 27 => ("ThirdAfter", "ledPaid", "I", false)
  | 28 => ("ThirdAfter", "ledLacking", "I", false)
  | 29 => ("ThirdAfter", "ledEvenings", "I", false)
  | 30 => ("ThirdAfter", "ledGiven", "I", false)
  | 31 => ("ThirdAfter", "hasImage", "Z", false)
  | 32 => ("ThirdAfter", "kept", "LThirdAfter$Market;", true)
  | 33 => ("ThirdAfter", "keptMany", "I", false)
  | 34 => ("ThirdAfter", "keptComings", "I", false)
  | 35 => ("ThirdAfter", "keptPaid", "I", false)
  | 36 => ("ThirdAfter", "keptLacking", "I", false)
  | 37 => ("ThirdAfter", "keptEvenings", "I", false)
  | 38 => ("ThirdAfter", "keptGiven", "I", false)
  | 39 => ("ThirdAfter", "traces", "I", false)
  | 40 => ("ThirdAfter", "traced", "[B", true)
  | 41 => ("ThirdAfter", "bodies", "[LThirdAfter$Latch;", true)
  | 42 => ("ThirdAfter", "bodyMany", "I", false)
  | _ => ("ThirdAfter", "shelves", "[LThirdAfter$Held;", true)
def tyX0 : Nat → FieldType := fun k => match k with
  | 0 => .array (.object "ThirdAfter$Buyer")
  | 1 => .int
  | 2 => .int
  | 3 => .int
  | 4 => .int
  | 5 => .array (.object "ThirdAfter$Change")
  | 6 => .int
  | 7 => .int
  | 8 => .array .byte
  | 9 => .int
  | 10 => .object "ThirdAfter$Line"
  | 11 => .object "ThirdAfter$Facts"
  | 12 => .object "ThirdAfter$Market"
  | 13 => .array (.object "ThirdAfter$Market")
  | 14 => .array (.array .int)
  | 15 => .int
  | 16 => .int
  | 17 => .int
  | 18 => .array .int
  | 19 => .int
  | 20 => .array .int
  | 21 => .int
  | 22 => .array .int
  | 23 => .int
  | 24 => .int
  | 25 => .int
  | 26 => .int
  | 27 => .int
  | 28 => .int
  | 29 => .int
  | 30 => .int
  | 31 => .boolean
  | 32 => .object "ThirdAfter$Market"
  | 33 => .int
  | 34 => .int
  | 35 => .int
  | 36 => .int
  | 37 => .int
  | 38 => .int
  | 39 => .int
  | 40 => .array .byte
  | 41 => .array (.object "ThirdAfter$Latch")
  | 42 => .int
  | _ => .array (.object "ThirdAfter$Held")
abbrev wsX00 : List Cond := u_ws RX0 TX0 44
set_option maxRecDepth 100000 in
theorem nmX0 : ∀ a, a < 44 → ∀ b, b < 44 → a ≠ b → (TX0 a).2.1 ≠ (TX0 b).2.1 := by decide +kernel
set_option maxRecDepth 100000 in
theorem tyX0_ok : ∀ k, k < 44 → parseFieldDescriptor (TX0 k).2.2.1 = some (tyX0 k) := by decide +kernel
abbrev cX0_buyer : ByteArray := prog_1_method_6_code
def yX0_buyer : MethodName := ⟨RX0, "buyer", "(II)I"⟩
abbrev cX0_in : ByteArray := prog_1_method_1_code
def yX0_in : MethodName := ⟨RX0, "in", "(III)Z"⟩
abbrev cX0_add : ByteArray := prog_1_method_5_code
def yX0_add : MethodName := ⟨RX0, "add", "(II)LThirdAfter$Buyer;"⟩
abbrev cX0_buyers : ByteArray := prog_1_method_7_code
def yX0_buyers : MethodName := ⟨RX0, "buyers", "(III)I"⟩
abbrev cX0_isShelf : ByteArray := prog_1_method_69_code
def yX0_isShelf : MethodName := ⟨RX0, "isShelf", "(I)Z"⟩
abbrev cX0_undo : ByteArray := prog_1_method_10_code
def yX0_undo : MethodName := ⟨RX0, "undo", "()I"⟩
abbrev cX0_setTo : ByteArray := prog_1_method_8_code
def yX0_setTo : MethodName := ⟨RX0, "setTo", "(III)V"⟩
abbrev cX0_redo : ByteArray := prog_1_method_11_code
def yX0_redo : MethodName := ⟨RX0, "redo", "()I"⟩
abbrev cX0_mend : ByteArray := prog_1_method_15_code
def yX0_mend : MethodName := ⟨RX0, "mend", "(III)I"⟩
abbrev cX0_isOf : ByteArray := prog_1_method_12_code
def yX0_isOf : MethodName := ⟨RX0, "isOf", "(II)Z"⟩
abbrev cX0_isBuyer : ByteArray := prog_1_method_3_code
def yX0_isBuyer : MethodName := ⟨RX0, "isBuyer", "(I)Z"⟩
abbrev cX0_mayBe : ByteArray := prog_1_method_14_code
def yX0_mayBe : MethodName := ⟨RX0, "mayBe", "(II)Z"⟩
abbrev cX0_valueOf : ByteArray := prog_1_method_13_code
def yX0_valueOf : MethodName := ⟨RX0, "valueOf", "(II)I"⟩
abbrev cX0_become : ByteArray := prog_1_method_9_code
def yX0_become : MethodName := ⟨RX0, "become", "(IIII)I"⟩
abbrev cX0_of : ByteArray := prog_1_method_16_code
def yX0_of : MethodName := ⟨RX0, "of", "(II)I"⟩
abbrev cX0_feed : ByteArray := prog_1_method_17_code
def yX0_feed : MethodName := ⟨RX0, "feed", "(I)I"⟩
abbrev cX0_law : ByteArray := prog_1_method_18_code
def yX0_law : MethodName := ⟨RX0, "law", "()I"⟩
abbrev cX0_init : ByteArray := prog_1_method_20_code
def yX0_init : MethodName := ⟨RX0, "<init>", "()V"⟩
abbrev cX0_book : ByteArray := prog_1_method_26_code
def yX0_book : MethodName := ⟨RX0, "book", "(II)I"⟩
abbrev cX0_market : ByteArray := prog_1_method_31_code
def yX0_market : MethodName := ⟨RX0, "market", "(III)I"⟩
abbrev cX0_layRow : ByteArray := prog_1_method_27_code
def yX0_layRow : MethodName := ⟨RX0, "layRow", "(I)I"⟩
abbrev cX0_behindRow : ByteArray := prog_1_method_30_code
def yX0_behindRow : MethodName := ⟨RX0, "behindRow", "()LThirdAfter$Market;"⟩
abbrev cX0_clearPaid : ByteArray := prog_1_method_28_code
def yX0_clearPaid : MethodName := ⟨RX0, "clearPaid", "()V"⟩
abbrev cX0_layNow : ByteArray := prog_1_method_21_code
def yX0_layNow : MethodName := ⟨RX0, "layNow", "()LThirdAfter$Market;"⟩
abbrev cX0_goRow : ByteArray := prog_1_method_29_code
def yX0_goRow : MethodName := ⟨RX0, "goRow", "(LThirdAfter$Market;)V"⟩
abbrev cX0_comesIn : ByteArray := prog_1_method_25_code
def yX0_comesIn : MethodName := ⟨RX0, "comesIn", "(LThirdAfter$Market;I)V"⟩
abbrev cX0_counts : ByteArray := prog_1_method_23_code
def yX0_counts : MethodName := ⟨RX0, "counts", "(I)Z"⟩
abbrev cX0_pays : ByteArray := prog_1_method_24_code
def yX0_pays : MethodName := ⟨RX0, "pays", "(LThirdAfter$Market;III)V"⟩
abbrev cX0_buysFor : ByteArray := prog_1_method_22_code
def yX0_buysFor : MethodName := ⟨RX0, "buysFor", "(LThirdAfter$Market;II)I"⟩
abbrev cX0_gives : ByteArray := prog_1_method_19_code
def yX0_gives : MethodName := ⟨RX0, "gives", "()I"⟩
abbrev cX0_coming : ByteArray := prog_1_method_32_code
def yX0_coming : MethodName := ⟨RX0, "coming", "(III)I"⟩
abbrev cX0_later : ByteArray := prog_1_method_33_code
def yX0_later : MethodName := ⟨RX0, "later", "(III)I"⟩
abbrev cX0_onceMore : ByteArray := prog_1_method_37_code
def yX0_onceMore : MethodName := ⟨RX0, "onceMore", "(III)I"⟩
abbrev cX0_purseWith : ByteArray := prog_1_method_36_code
def yX0_purseWith : MethodName := ⟨RX0, "purseWith", "(III)I"⟩
abbrev cX0_putIn : ByteArray := prog_1_method_34_code
def yX0_putIn : MethodName := ⟨RX0, "putIn", "(II)V"⟩
abbrev cX0_takeOut : ByteArray := prog_1_method_35_code
def yX0_takeOut : MethodName := ⟨RX0, "takeOut", "(I)V"⟩
abbrev cX0_hired : ByteArray := prog_1_method_38_code
def yX0_hired : MethodName := ⟨RX0, "hired", "(IIII)I"⟩
abbrev cX0_latch : ByteArray := prog_1_method_40_code
def yX0_latch : MethodName := ⟨RX0, "latch", "(III)I"⟩
abbrev cX0_change : ByteArray := prog_1_method_39_code
def yX0_change : MethodName := ⟨RX0, "change", "(I)V"⟩
abbrev cX0_order : ByteArray := prog_1_method_42_code
def yX0_order : MethodName := ⟨RX0, "order", "(III)I"⟩
abbrev cX0_orderOn : ByteArray := prog_1_method_41_code
def yX0_orderOn : MethodName := ⟨RX0, "orderOn", "(II)V"⟩
abbrev cX0_has : ByteArray := prog_1_method_2_code
def yX0_has : MethodName := ⟨RX0, "has", "(II)Z"⟩
abbrev cX0_flow : ByteArray := prog_1_method_43_code
def yX0_flow : MethodName := ⟨RX0, "flow", "(II)I"⟩
abbrev cX0_areTwo : ByteArray := prog_1_method_4_code
def yX0_areTwo : MethodName := ⟨RX0, "areTwo", "(I)Z"⟩
abbrev cX0_round : ByteArray := prog_1_method_47_code
def yX0_round : MethodName := ⟨RX0, "round", "(II)I"⟩
abbrev cX0_smallestRing : ByteArray := prog_1_method_45_code
def yX0_smallestRing : MethodName := ⟨RX0, "smallestRing", "()I"⟩
abbrev cX0_stepsTo : ByteArray := prog_1_method_44_code
def yX0_stepsTo : MethodName := ⟨RX0, "stepsTo", "(II)I"⟩
abbrev cX0_gainsMost : ByteArray := prog_1_method_46_code
def yX0_gainsMost : MethodName := ⟨RX0, "gainsMost", "(LThirdAfter$Market;)I"⟩
abbrev cX0_judge : ByteArray := prog_1_method_52_code
def yX0_judge : MethodName := ⟨RX0, "judge", "(I)I"⟩
abbrev cX0_areShelves : ByteArray := prog_1_method_49_code
def yX0_areShelves : MethodName := ⟨RX0, "areShelves", "(I)Z"⟩
abbrev cX0_layBoth : ByteArray := prog_1_method_50_code
def yX0_layBoth : MethodName := ⟨RX0, "layBoth", "(I)I"⟩
abbrev cX0_laySeen : ByteArray := prog_1_method_48_code
def yX0_laySeen : MethodName := ⟨RX0, "laySeen", "(I)I"⟩
abbrev cX0_wrongIn : ByteArray := prog_1_method_51_code
def yX0_wrongIn : MethodName := ⟨RX0, "wrongIn", "(LThirdAfter$Market;)I"⟩
abbrev cX0_fits : ByteArray := prog_1_method_56_code
def yX0_fits : MethodName := ⟨RX0, "fits", "(III)I"⟩
abbrev cX0_thirds : ByteArray := prog_1_method_53_code
def yX0_thirds : MethodName := ⟨RX0, "thirds", "()I"⟩
abbrev cX0_wanted : ByteArray := prog_1_method_55_code
def yX0_wanted : MethodName := ⟨RX0, "wanted", "(IZ)I"⟩
abbrev cX0_whose : ByteArray := prog_1_method_54_code
def yX0_whose : MethodName := ⟨RX0, "whose", "(I)I"⟩
abbrev cX0_byTurns : ByteArray := prog_1_method_58_code
def yX0_byTurns : MethodName := ⟨RX0, "byTurns", "(III)I"⟩
abbrev cX0_bestOf : ByteArray := prog_1_method_57_code
def yX0_bestOf : MethodName := ⟨RX0, "bestOf", "(II)I"⟩
abbrev cX0_drawn : ByteArray := prog_1_method_59_code
def yX0_drawn : MethodName := ⟨RX0, "drawn", "(III)I"⟩
abbrev cX0_comes : ByteArray := prog_1_method_60_code
def yX0_comes : MethodName := ⟨RX0, "comes", "(I)I"⟩
abbrev cX0_evening : ByteArray := prog_1_method_61_code
def yX0_evening : MethodName := ⟨RX0, "evening", "()I"⟩
abbrev cX0_gives_2 : ByteArray := prog_1_method_62_code
def yX0_gives_2 : MethodName := ⟨RX0, "gives", "(III)I"⟩
abbrev cX0_led : ByteArray := prog_1_method_63_code
def yX0_led : MethodName := ⟨RX0, "led", "(I)I"⟩
abbrev cX0_image : ByteArray := prog_1_method_64_code
def yX0_image : MethodName := ⟨RX0, "image", "()I"⟩
abbrev cX0_back : ByteArray := prog_1_method_65_code
def yX0_back : MethodName := ⟨RX0, "back", "()I"⟩
abbrev cX0_body : ByteArray := prog_1_method_68_code
def yX0_body : MethodName := ⟨RX0, "body", "(I)I"⟩
abbrev cX0_made : ByteArray := prog_1_method_67_code
def yX0_made : MethodName := ⟨RX0, "made", "(I)LThirdAfter$Latch;"⟩
abbrev cX0_act : ByteArray := prog_1_method_70_code
def yX0_act : MethodName := ⟨RX0, "act", "(III)I"⟩
abbrev cX0_isBody : ByteArray := prog_1_method_66_code
def yX0_isBody : MethodName := ⟨RX0, "isBody", "(I)Z"⟩
abbrev cX0_trace : ByteArray := prog_1_method_71_code
def yX0_trace : MethodName := ⟨RX0, "trace", "(I)I"⟩
abbrev cX0_keep : ByteArray := prog_1_method_72_code
def yX0_keep : MethodName := ⟨RX0, "keep", "(II)I"⟩
abbrev cX0_row : ByteArray := prog_1_method_74_code
def yX0_row : MethodName := ⟨RX0, "row", "(III)I"⟩
abbrev cX0_newRow : ByteArray := prog_1_method_73_code
def yX0_newRow : MethodName := ⟨RX0, "newRow", "(II)LThirdAfter$Row;"⟩
abbrev cX0_put : ByteArray := prog_1_method_75_code
def yX0_put : MethodName := ⟨RX0, "put", "(IIJ)I"⟩
abbrev cX0_element : ByteArray := prog_1_method_76_code
def yX0_element : MethodName := ⟨RX0, "element", "(II)J"⟩
abbrev cX0_shift : ByteArray := prog_1_method_77_code
def yX0_shift : MethodName := ⟨RX0, "shift", "(IIIII)I"⟩
abbrev cX0_taken : ByteArray := prog_1_method_78_code
def yX0_taken : MethodName := ⟨RX0, "taken", "(II)I"⟩
abbrev cX0_count : ByteArray := prog_1_method_79_code
def yX0_count : MethodName := ⟨RX0, "count", "(I)I"⟩
theorem q99 : (Jvm.Cond.initialized "ThirdAfter") ∈ lw_all := lw_g (lw_at lw_m1 1 rfl) rfl
theorem q145 : (Jvm.Cond.instanceMethod ({ cls := "ThirdAfter", name := "buyer", desc := "(II)I" } : Jvm.MethodName)) ∈ lw_all := lw_g (lw_at lw_m1 47 rfl) rfl
theorem q146 : (Jvm.Cond.selects "ThirdAfter" ({ cls := "ThirdAfter", name := "buyer", desc := "(II)I" } : Jvm.MethodName) ({ cls := "ThirdAfter", name := "buyer", desc := "(II)I" } : Jvm.MethodName)) ∈ lw_all := lw_g (lw_at lw_m1 48 rfl) rfl
theorem q147 : (Jvm.Cond.code ({ cls := "ThirdAfter", name := "buyer", desc := "(II)I" } : Jvm.MethodName) prog_1_method_6_code (3 : Nat) (Option.some Jvm.ClassFile.FieldType.int)) ∈ lw_all := lw_g (lw_at lw_m1 49 rfl) rfl
theorem q148 : (Jvm.Cond.methodLink "ThirdAfter" (7 : Nat) ({ cls := "ThirdAfter", name := "in", desc := "(III)Z" } : Jvm.MethodName)) ∈ lw_all := lw_g (lw_at lw_m1 50 rfl) rfl
theorem q149 : (Jvm.Cond.static ({ cls := "ThirdAfter", name := "in", desc := "(III)Z" } : Jvm.MethodName)) ∈ lw_all := lw_g (lw_at lw_m1 51 rfl) rfl
theorem q150 : (Jvm.Cond.code ({ cls := "ThirdAfter", name := "in", desc := "(III)Z" } : Jvm.MethodName) prog_1_method_1_code (3 : Nat) (Option.some Jvm.ClassFile.FieldType.boolean)) ∈ lw_all := lw_g (lw_at lw_m1 52 rfl) rfl
theorem q151 : (Jvm.Cond.methodLink "ThirdAfter" (25 : Nat) ({ cls := "ThirdAfter", name := "add", desc := "(II)LThirdAfter$Buyer;" } : Jvm.MethodName)) ∈ lw_all := lw_g (lw_at lw_m1 53 rfl) rfl
theorem q152 : (Jvm.Cond.privateMethod ({ cls := "ThirdAfter", name := "add", desc := "(II)LThirdAfter$Buyer;" } : Jvm.MethodName)) ∈ lw_tbl := lw_at lw_m1 54 rfl
theorem q153 : (Jvm.Cond.instanceMethod ({ cls := "ThirdAfter", name := "add", desc := "(II)LThirdAfter$Buyer;" } : Jvm.MethodName)) ∈ lw_all := lw_g (lw_at lw_m1 55 rfl) rfl
theorem q154 : (Jvm.Cond.instantiable "ThirdAfter" (44 : Nat)) ∈ lw_all := lw_g (lw_at lw_m1 56 rfl) rfl
theorem q155 : (Jvm.Cond.code ({ cls := "ThirdAfter", name := "add", desc := "(II)LThirdAfter$Buyer;" } : Jvm.MethodName) prog_1_method_5_code (3 : Nat) (Option.some (Jvm.ClassFile.FieldType.object "ThirdAfter$Buyer"))) ∈ lw_all := lw_g (lw_at lw_m1 57 rfl) rfl
theorem q156 : (Jvm.Cond.classLink "ThirdAfter" (19 : Nat) "ThirdAfter$Buyer") ∈ lw_all := lw_g (lw_at lw_m1 58 rfl) rfl
theorem q158 : (Jvm.Cond.methodLink "ThirdAfter" (21 : Nat) ({ cls := "ThirdAfter$Buyer", name := "<init>", desc := "(II)V" } : Jvm.MethodName)) ∈ lw_all := lw_g (lw_at lw_m1 60 rfl) rfl
theorem q165 : (Jvm.Cond.fieldLinkNest "ThirdAfter" (42 : Nat) "ThirdAfter$Buyer" "purse" "I" "ThirdAfter") ∈ lw_tbl := lw_at lw_m1 67 rfl
theorem q167 : (Jvm.Cond.fieldLinkNest "ThirdAfter" (51 : Nat) "ThirdAfter$Buyer" "wants" "I" "ThirdAfter") ∈ lw_tbl := lw_at lw_m1 69 rfl
theorem q169 : (Jvm.Cond.fieldLinkNest "ThirdAfter" (54 : Nat) "ThirdAfter$Buyer" "haste" "I" "ThirdAfter") ∈ lw_tbl := lw_at lw_m1 71 rfl
theorem q170 : (Jvm.Cond.fieldLinkNest "ThirdAfter" (57 : Nat) "ThirdAfter$Buyer" "dog" "I" "ThirdAfter") ∈ lw_tbl := lw_at lw_m1 72 rfl
theorem q181 : (Jvm.Cond.instanceMethod ({ cls := "ThirdAfter", name := "buyers", desc := "(III)I" } : Jvm.MethodName)) ∈ lw_all := lw_g (lw_at lw_m1 83 rfl) rfl
theorem q182 : (Jvm.Cond.selects "ThirdAfter" ({ cls := "ThirdAfter", name := "buyers", desc := "(III)I" } : Jvm.MethodName) ({ cls := "ThirdAfter", name := "buyers", desc := "(III)I" } : Jvm.MethodName)) ∈ lw_all := lw_g (lw_at lw_m1 84 rfl) rfl
theorem q183 : (Jvm.Cond.codeWith ({ cls := "ThirdAfter", name := "buyers", desc := "(III)I" } : Jvm.MethodName) prog_1_method_7_code (10 : Nat) (Option.some Jvm.ClassFile.FieldType.int) [((22 : Nat), (133 : Nat), (159 : Nat), (45 : Nat)), ((134 : Nat), (156 : Nat), (159 : Nat), (45 : Nat)), ((22 : Nat), (133 : Nat), (164 : Nat), (47 : Nat)), ((134 : Nat), (156 : Nat), (164 : Nat), (47 : Nat)), ((22 : Nat), (133 : Nat), (169 : Nat), (49 : Nat)), ((134 : Nat), (156 : Nat), (169 : Nat), (49 : Nat))]) ∈ lw_all := lw_g (lw_at lw_m1 85 rfl) rfl
theorem q184 : (Jvm.Cond.classLink "ThirdAfter" (45 : Nat) "java/lang/ClassCastException") ∈ lw_all := lw_g (lw_at lw_m1 86 rfl) rfl
theorem q269 : (Jvm.Cond.classLink "ThirdAfter" (47 : Nat) "java/lang/NullPointerException") ∈ lw_all := lw_g (lw_at lw_m1 171 rfl) rfl
theorem q294 : (Jvm.Cond.classLink "ThirdAfter" (49 : Nat) "java/lang/IndexOutOfBoundsException") ∈ lw_all := lw_g (lw_at lw_m1 196 rfl) rfl
theorem q313 : (Jvm.Cond.methodLink "ThirdAfter" (29 : Nat) ({ cls := "ThirdAfter", name := "isShelf", desc := "(I)Z" } : Jvm.MethodName)) ∈ lw_all := lw_g (lw_at lw_m1 215 rfl) rfl
theorem q314 : (Jvm.Cond.static ({ cls := "ThirdAfter", name := "isShelf", desc := "(I)Z" } : Jvm.MethodName)) ∈ lw_all := lw_g (lw_at lw_m1 216 rfl) rfl
theorem q315 : (Jvm.Cond.code ({ cls := "ThirdAfter", name := "isShelf", desc := "(I)Z" } : Jvm.MethodName) prog_1_method_69_code (1 : Nat) (Option.some Jvm.ClassFile.FieldType.boolean)) ∈ lw_all := lw_g (lw_at lw_m1 217 rfl) rfl
theorem q316 : (Jvm.Cond.classLink "ThirdAfter" (36 : Nat) "ThirdAfter$ShortRow") ∈ lw_all := lw_g (lw_at lw_m1 218 rfl) rfl
theorem q317 : (Jvm.Cond.methodLink "ThirdAfter" (38 : Nat) ({ cls := "ThirdAfter$ShortRow", name := "at", desc := "(I)J" } : Jvm.MethodName)) ∈ lw_all := lw_g (lw_at lw_m1 219 rfl) rfl
theorem q322 : (Jvm.Cond.instanceMethod ({ cls := "ThirdAfter", name := "undo", desc := "()I" } : Jvm.MethodName)) ∈ lw_all := lw_g (lw_at lw_m1 224 rfl) rfl
theorem q323 : (Jvm.Cond.selects "ThirdAfter" ({ cls := "ThirdAfter", name := "undo", desc := "()I" } : Jvm.MethodName) ({ cls := "ThirdAfter", name := "undo", desc := "()I" } : Jvm.MethodName)) ∈ lw_all := lw_g (lw_at lw_m1 225 rfl) rfl
theorem q324 : (Jvm.Cond.code ({ cls := "ThirdAfter", name := "undo", desc := "()I" } : Jvm.MethodName) prog_1_method_10_code (1 : Nat) (Option.some Jvm.ClassFile.FieldType.int)) ∈ lw_all := lw_g (lw_at lw_m1 226 rfl) rfl
theorem q325 : (Jvm.Cond.methodLink "ThirdAfter" (84 : Nat) ({ cls := "ThirdAfter", name := "setTo", desc := "(III)V" } : Jvm.MethodName)) ∈ lw_all := lw_g (lw_at lw_m1 227 rfl) rfl
theorem q326 : (Jvm.Cond.privateMethod ({ cls := "ThirdAfter", name := "setTo", desc := "(III)V" } : Jvm.MethodName)) ∈ lw_tbl := lw_at lw_m1 228 rfl
theorem q327 : (Jvm.Cond.instanceMethod ({ cls := "ThirdAfter", name := "setTo", desc := "(III)V" } : Jvm.MethodName)) ∈ lw_all := lw_g (lw_at lw_m1 229 rfl) rfl
theorem q328 : (Jvm.Cond.code ({ cls := "ThirdAfter", name := "setTo", desc := "(III)V" } : Jvm.MethodName) prog_1_method_8_code (4 : Nat) (Option.none : Option Jvm.ClassFile.FieldType)) ∈ lw_all := lw_g (lw_at lw_m1 230 rfl) rfl
theorem q330 : (Jvm.Cond.instanceMethod ({ cls := "ThirdAfter", name := "redo", desc := "()I" } : Jvm.MethodName)) ∈ lw_all := lw_g (lw_at lw_m1 232 rfl) rfl
theorem q331 : (Jvm.Cond.selects "ThirdAfter" ({ cls := "ThirdAfter", name := "redo", desc := "()I" } : Jvm.MethodName) ({ cls := "ThirdAfter", name := "redo", desc := "()I" } : Jvm.MethodName)) ∈ lw_all := lw_g (lw_at lw_m1 233 rfl) rfl
theorem q332 : (Jvm.Cond.code ({ cls := "ThirdAfter", name := "redo", desc := "()I" } : Jvm.MethodName) prog_1_method_11_code (1 : Nat) (Option.some Jvm.ClassFile.FieldType.int)) ∈ lw_all := lw_g (lw_at lw_m1 234 rfl) rfl
theorem q334 : (Jvm.Cond.instanceMethod ({ cls := "ThirdAfter", name := "mend", desc := "(III)I" } : Jvm.MethodName)) ∈ lw_all := lw_g (lw_at lw_m1 236 rfl) rfl
theorem q335 : (Jvm.Cond.selects "ThirdAfter" ({ cls := "ThirdAfter", name := "mend", desc := "(III)I" } : Jvm.MethodName) ({ cls := "ThirdAfter", name := "mend", desc := "(III)I" } : Jvm.MethodName)) ∈ lw_all := lw_g (lw_at lw_m1 237 rfl) rfl
theorem q336 : (Jvm.Cond.code ({ cls := "ThirdAfter", name := "mend", desc := "(III)I" } : Jvm.MethodName) prog_1_method_15_code (4 : Nat) (Option.some Jvm.ClassFile.FieldType.int)) ∈ lw_all := lw_g (lw_at lw_m1 238 rfl) rfl
theorem q337 : (Jvm.Cond.methodLink "ThirdAfter" (99 : Nat) ({ cls := "ThirdAfter", name := "isOf", desc := "(II)Z" } : Jvm.MethodName)) ∈ lw_all := lw_g (lw_at lw_m1 239 rfl) rfl
theorem q338 : (Jvm.Cond.privateMethod ({ cls := "ThirdAfter", name := "isOf", desc := "(II)Z" } : Jvm.MethodName)) ∈ lw_tbl := lw_at lw_m2 0 rfl
theorem q339 : (Jvm.Cond.instanceMethod ({ cls := "ThirdAfter", name := "isOf", desc := "(II)Z" } : Jvm.MethodName)) ∈ lw_all := lw_g (lw_at lw_m2 1 rfl) rfl
theorem q340 : (Jvm.Cond.code ({ cls := "ThirdAfter", name := "isOf", desc := "(II)Z" } : Jvm.MethodName) prog_1_method_12_code (3 : Nat) (Option.some Jvm.ClassFile.FieldType.boolean)) ∈ lw_all := lw_g (lw_at lw_m2 2 rfl) rfl
theorem q341 : (Jvm.Cond.methodLink "ThirdAfter" (11 : Nat) ({ cls := "ThirdAfter", name := "isBuyer", desc := "(I)Z" } : Jvm.MethodName)) ∈ lw_all := lw_g (lw_at lw_m2 3 rfl) rfl
theorem q342 : (Jvm.Cond.privateMethod ({ cls := "ThirdAfter", name := "isBuyer", desc := "(I)Z" } : Jvm.MethodName)) ∈ lw_tbl := lw_at lw_m2 4 rfl
theorem q343 : (Jvm.Cond.instanceMethod ({ cls := "ThirdAfter", name := "isBuyer", desc := "(I)Z" } : Jvm.MethodName)) ∈ lw_all := lw_g (lw_at lw_m2 5 rfl) rfl
theorem q344 : (Jvm.Cond.code ({ cls := "ThirdAfter", name := "isBuyer", desc := "(I)Z" } : Jvm.MethodName) prog_1_method_3_code (2 : Nat) (Option.some Jvm.ClassFile.FieldType.boolean)) ∈ lw_all := lw_g (lw_at lw_m2 6 rfl) rfl
theorem q345 : (Jvm.Cond.methodLink "ThirdAfter" (103 : Nat) ({ cls := "ThirdAfter", name := "mayBe", desc := "(II)Z" } : Jvm.MethodName)) ∈ lw_all := lw_g (lw_at lw_m2 7 rfl) rfl
theorem q346 : (Jvm.Cond.static ({ cls := "ThirdAfter", name := "mayBe", desc := "(II)Z" } : Jvm.MethodName)) ∈ lw_all := lw_g (lw_at lw_m2 8 rfl) rfl
theorem q347 : (Jvm.Cond.code ({ cls := "ThirdAfter", name := "mayBe", desc := "(II)Z" } : Jvm.MethodName) prog_1_method_14_code (2 : Nat) (Option.some Jvm.ClassFile.FieldType.boolean)) ∈ lw_all := lw_g (lw_at lw_m2 9 rfl) rfl
theorem q348 : (Jvm.Cond.methodLink "ThirdAfter" (106 : Nat) ({ cls := "ThirdAfter", name := "valueOf", desc := "(II)I" } : Jvm.MethodName)) ∈ lw_all := lw_g (lw_at lw_m2 10 rfl) rfl
theorem q349 : (Jvm.Cond.privateMethod ({ cls := "ThirdAfter", name := "valueOf", desc := "(II)I" } : Jvm.MethodName)) ∈ lw_tbl := lw_at lw_m2 11 rfl
theorem q350 : (Jvm.Cond.instanceMethod ({ cls := "ThirdAfter", name := "valueOf", desc := "(II)I" } : Jvm.MethodName)) ∈ lw_all := lw_g (lw_at lw_m2 12 rfl) rfl
theorem q351 : (Jvm.Cond.code ({ cls := "ThirdAfter", name := "valueOf", desc := "(II)I" } : Jvm.MethodName) prog_1_method_13_code (3 : Nat) (Option.some Jvm.ClassFile.FieldType.int)) ∈ lw_all := lw_g (lw_at lw_m2 13 rfl) rfl
theorem q352 : (Jvm.Cond.methodLink "ThirdAfter" (110 : Nat) ({ cls := "ThirdAfter", name := "become", desc := "(IIII)I" } : Jvm.MethodName)) ∈ lw_all := lw_g (lw_at lw_m2 14 rfl) rfl
theorem q353 : (Jvm.Cond.privateMethod ({ cls := "ThirdAfter", name := "become", desc := "(IIII)I" } : Jvm.MethodName)) ∈ lw_tbl := lw_at lw_m2 15 rfl
theorem q354 : (Jvm.Cond.instanceMethod ({ cls := "ThirdAfter", name := "become", desc := "(IIII)I" } : Jvm.MethodName)) ∈ lw_all := lw_g (lw_at lw_m2 16 rfl) rfl
theorem q355 : (Jvm.Cond.code ({ cls := "ThirdAfter", name := "become", desc := "(IIII)I" } : Jvm.MethodName) prog_1_method_9_code (6 : Nat) (Option.some Jvm.ClassFile.FieldType.int)) ∈ lw_all := lw_g (lw_at lw_m2 17 rfl) rfl
theorem q356 : (Jvm.Cond.classLink "ThirdAfter" (79 : Nat) "ThirdAfter$Change") ∈ lw_all := lw_g (lw_at lw_m2 18 rfl) rfl
theorem q358 : (Jvm.Cond.methodLink "ThirdAfter" (81 : Nat) ({ cls := "ThirdAfter$Change", name := "<init>", desc := "(IIII)V" } : Jvm.MethodName)) ∈ lw_all := lw_g (lw_at lw_m2 20 rfl) rfl
theorem q363 : (Jvm.Cond.fieldLinkNest "ThirdAfter" (88 : Nat) "ThirdAfter$Change" "of" "I" "ThirdAfter") ∈ lw_tbl := lw_at lw_m2 25 rfl
theorem q365 : (Jvm.Cond.fieldLinkNest "ThirdAfter" (91 : Nat) "ThirdAfter$Change" "at" "I" "ThirdAfter") ∈ lw_tbl := lw_at lw_m2 27 rfl
theorem q367 : (Jvm.Cond.fieldLinkNest "ThirdAfter" (93 : Nat) "ThirdAfter$Change" "before" "I" "ThirdAfter") ∈ lw_tbl := lw_at lw_m2 29 rfl
theorem q369 : (Jvm.Cond.fieldLinkNest "ThirdAfter" (96 : Nat) "ThirdAfter$Change" "behind" "I" "ThirdAfter") ∈ lw_tbl := lw_at lw_m2 31 rfl
theorem q380 : (Jvm.Cond.instanceMethod ({ cls := "ThirdAfter", name := "of", desc := "(II)I" } : Jvm.MethodName)) ∈ lw_all := lw_g (lw_at lw_m2 42 rfl) rfl
theorem q381 : (Jvm.Cond.selects "ThirdAfter" ({ cls := "ThirdAfter", name := "of", desc := "(II)I" } : Jvm.MethodName) ({ cls := "ThirdAfter", name := "of", desc := "(II)I" } : Jvm.MethodName)) ∈ lw_all := lw_g (lw_at lw_m2 43 rfl) rfl
theorem q382 : (Jvm.Cond.code ({ cls := "ThirdAfter", name := "of", desc := "(II)I" } : Jvm.MethodName) prog_1_method_16_code (3 : Nat) (Option.some Jvm.ClassFile.FieldType.int)) ∈ lw_all := lw_g (lw_at lw_m2 44 rfl) rfl
theorem q384 : (Jvm.Cond.instanceMethod ({ cls := "ThirdAfter", name := "feed", desc := "(I)I" } : Jvm.MethodName)) ∈ lw_all := lw_g (lw_at lw_m2 46 rfl) rfl
theorem q385 : (Jvm.Cond.selects "ThirdAfter" ({ cls := "ThirdAfter", name := "feed", desc := "(I)I" } : Jvm.MethodName) ({ cls := "ThirdAfter", name := "feed", desc := "(I)I" } : Jvm.MethodName)) ∈ lw_all := lw_g (lw_at lw_m2 47 rfl) rfl
theorem q386 : (Jvm.Cond.code ({ cls := "ThirdAfter", name := "feed", desc := "(I)I" } : Jvm.MethodName) prog_1_method_17_code (2 : Nat) (Option.some Jvm.ClassFile.FieldType.int)) ∈ lw_all := lw_g (lw_at lw_m2 48 rfl) rfl
theorem q388 : (Jvm.Cond.instanceMethod ({ cls := "ThirdAfter", name := "law", desc := "()I" } : Jvm.MethodName)) ∈ lw_all := lw_g (lw_at lw_m2 50 rfl) rfl
theorem q389 : (Jvm.Cond.selects "ThirdAfter" ({ cls := "ThirdAfter", name := "law", desc := "()I" } : Jvm.MethodName) ({ cls := "ThirdAfter", name := "law", desc := "()I" } : Jvm.MethodName)) ∈ lw_all := lw_g (lw_at lw_m2 51 rfl) rfl
theorem q390 : (Jvm.Cond.code ({ cls := "ThirdAfter", name := "law", desc := "()I" } : Jvm.MethodName) prog_1_method_18_code (3 : Nat) (Option.some Jvm.ClassFile.FieldType.int)) ∈ lw_all := lw_g (lw_at lw_m2 52 rfl) rfl
theorem q391 : (Jvm.Cond.classLink "ThirdAfter" (121 : Nat) "ThirdAfter$Reader") ∈ lw_all := lw_g (lw_at lw_m2 53 rfl) rfl
theorem q393 : (Jvm.Cond.methodLinkNest "ThirdAfter" (123 : Nat) ({ cls := "ThirdAfter$Reader", name := "<init>", desc := "(LThirdAfter;)V" } : Jvm.MethodName) "ThirdAfter") ∈ lw_tbl := lw_at lw_m2 55 rfl
theorem q399 : (Jvm.Cond.fieldLinkNest "ThirdAfter" (130 : Nat) "ThirdAfter$Reader" "fault" "I" "ThirdAfter") ∈ lw_tbl := lw_at lw_m2 61 rfl
theorem q411 : (Jvm.Cond.methodLink "ThirdAfter" (126 : Nat) ({ cls := "ThirdAfter$Reader", name := "lines", desc := "()LThirdAfter$Line;" } : Jvm.MethodName)) ∈ lw_all := lw_g (lw_at lw_m2 73 rfl) rfl
theorem q426 : (Jvm.Cond.fieldLinkNest "ThirdAfter" (137 : Nat) "ThirdAfter$Line" "test" "LThirdAfter$Node;" "ThirdAfter") ∈ lw_tbl := lw_at lw_m2 88 rfl
theorem q428 : (Jvm.Cond.fieldLinkNest "ThirdAfter" (153 : Nat) "ThirdAfter$Line" "gives" "LThirdAfter$Node;" "ThirdAfter") ∈ lw_tbl := lw_at lw_m2 90 rfl
theorem q430 : (Jvm.Cond.fieldLinkNest "ThirdAfter" (156 : Nat) "ThirdAfter$Line" "next" "LThirdAfter$Line;" "ThirdAfter") ∈ lw_tbl := lw_at lw_m2 92 rfl
theorem q634 : (Jvm.Cond.instanceMethod ({ cls := "ThirdAfter", name := "<init>", desc := "()V" } : Jvm.MethodName)) ∈ lw_all := lw_g (lw_at lw_m3 56 rfl) rfl
theorem q635 : (Jvm.Cond.code ({ cls := "ThirdAfter", name := "<init>", desc := "()V" } : Jvm.MethodName) prog_1_method_20_code (2 : Nat) (Option.none : Option Jvm.ClassFile.FieldType)) ∈ lw_all := lw_g (lw_at lw_m3 57 rfl) rfl
theorem q636 : (Jvm.Cond.methodLink "ThirdAfter" (159 : Nat) ({ cls := "java/lang/Object", name := "<init>", desc := "()V" } : Jvm.MethodName)) ∈ lw_all := lw_g (lw_at lw_m3 58 rfl) rfl
theorem q639 : (Jvm.Cond.classLink "ThirdAfter" (164 : Nat) "ThirdAfter$Facts") ∈ lw_all := lw_g (lw_at lw_m3 61 rfl) rfl
theorem q641 : (Jvm.Cond.methodLinkNest "ThirdAfter" (166 : Nat) ({ cls := "ThirdAfter$Facts", name := "<init>", desc := "()V" } : Jvm.MethodName) "ThirdAfter") ∈ lw_tbl := lw_at lw_m3 63 rfl
theorem q647 : (Jvm.Cond.fieldLinkNest "ThirdAfter" (223 : Nat) "ThirdAfter$Facts" "named" "[I" "ThirdAfter") ∈ lw_tbl := lw_at lw_m3 69 rfl
theorem q652 : (Jvm.Cond.classLink "ThirdAfter" (167 : Nat) "ThirdAfter$Market") ∈ lw_all := lw_g (lw_at lw_m3 74 rfl) rfl
theorem q654 : (Jvm.Cond.methodLinkNest "ThirdAfter" (169 : Nat) ({ cls := "ThirdAfter$Market", name := "<init>", desc := "()V" } : Jvm.MethodName) "ThirdAfter") ∈ lw_tbl := lw_at lw_m3 76 rfl
theorem q659 : (Jvm.Cond.fieldLinkNest "ThirdAfter" (207 : Nat) "ThirdAfter$Market" "purse" "[I" "ThirdAfter") ∈ lw_tbl := lw_at lw_m3 81 rfl
theorem q661 : (Jvm.Cond.fieldLinkNest "ThirdAfter" (209 : Nat) "ThirdAfter$Market" "wants" "[I" "ThirdAfter") ∈ lw_tbl := lw_at lw_m3 83 rfl
theorem q663 : (Jvm.Cond.fieldLinkNest "ThirdAfter" (220 : Nat) "ThirdAfter$Market" "often" "[I" "ThirdAfter") ∈ lw_tbl := lw_at lw_m3 85 rfl
theorem q665 : (Jvm.Cond.fieldLinkNest "ThirdAfter" (255 : Nat) "ThirdAfter$Market" "owes" "[I" "ThirdAfter") ∈ lw_tbl := lw_at lw_m3 87 rfl
theorem q667 : (Jvm.Cond.fieldLinkNest "ThirdAfter" (258 : Nat) "ThirdAfter$Market" "debt" "[I" "ThirdAfter") ∈ lw_tbl := lw_at lw_m3 89 rfl
theorem q669 : (Jvm.Cond.fieldLinkNest "ThirdAfter" (252 : Nat) "ThirdAfter$Market" "open" "I" "ThirdAfter") ∈ lw_tbl := lw_at lw_m3 91 rfl
theorem q671 : (Jvm.Cond.fieldLinkNest "ThirdAfter" (226 : Nat) "ThirdAfter$Market" "came" "I" "ThirdAfter") ∈ lw_tbl := lw_at lw_m3 93 rfl
theorem q673 : (Jvm.Cond.fieldLinkNest "ThirdAfter" (211 : Nat) "ThirdAfter$Market" "third" "I" "ThirdAfter") ∈ lw_tbl := lw_at lw_m3 95 rfl
theorem q675 : (Jvm.Cond.fieldLinkNest "ThirdAfter" (212 : Nat) "ThirdAfter$Market" "day" "I" "ThirdAfter") ∈ lw_tbl := lw_at lw_m3 97 rfl
theorem q677 : (Jvm.Cond.fieldLinkNest "ThirdAfter" (213 : Nat) "ThirdAfter$Market" "lacking" "I" "ThirdAfter") ∈ lw_tbl := lw_at lw_m3 99 rfl
theorem q700 : (Jvm.Cond.classLink "ThirdAfter" (178 : Nat) "[[I") ∈ lw_all := lw_g (lw_at lw_m3 122 rfl) rfl
theorem q702 : (Jvm.Cond.classLink "ThirdAfter" (199 : Nat) "ThirdAfter$Latch") ∈ lw_all := lw_g (lw_at lw_m3 124 rfl) rfl
theorem q704 : (Jvm.Cond.classLink "ThirdAfter" (205 : Nat) "ThirdAfter$Held") ∈ lw_all := lw_g (lw_at lw_m3 126 rfl) rfl
theorem q706 : (Jvm.Cond.fieldLink "ThirdAfter" (15 : Nat) "ThirdAfter" "buyers" "[LThirdAfter$Buyer;") ∈ lw_all := lw_g (lw_at lw_m3 128 rfl) rfl
theorem q707 : (Jvm.Cond.fieldLink "ThirdAfter" (1 : Nat) "ThirdAfter" "many" "I") ∈ lw_all := lw_g (lw_at lw_m3 129 rfl) rfl
theorem q708 : (Jvm.Cond.fieldLink "ThirdAfter" (60 : Nat) "ThirdAfter" "third" "I") ∈ lw_all := lw_g (lw_at lw_m3 130 rfl) rfl
theorem q709 : (Jvm.Cond.fieldLink "ThirdAfter" (63 : Nat) "ThirdAfter" "dogs" "I") ∈ lw_all := lw_g (lw_at lw_m3 131 rfl) rfl
theorem q710 : (Jvm.Cond.fieldLink "ThirdAfter" (66 : Nat) "ThirdAfter" "day" "I") ∈ lw_all := lw_g (lw_at lw_m3 132 rfl) rfl
theorem q711 : (Jvm.Cond.fieldLink "ThirdAfter" (75 : Nat) "ThirdAfter" "changes" "[LThirdAfter$Change;") ∈ lw_all := lw_g (lw_at lw_m3 133 rfl) rfl
theorem q712 : (Jvm.Cond.fieldLink "ThirdAfter" (72 : Nat) "ThirdAfter" "doneMany" "I") ∈ lw_all := lw_g (lw_at lw_m3 134 rfl) rfl
theorem q713 : (Jvm.Cond.fieldLink "ThirdAfter" (69 : Nat) "ThirdAfter" "undoneMany" "I") ∈ lw_all := lw_g (lw_at lw_m3 135 rfl) rfl
theorem q715 : (Jvm.Cond.fieldLink "ThirdAfter" (117 : Nat) "ThirdAfter" "tape" "[B") ∈ lw_all := lw_g (lw_at lw_m3 137 rfl) rfl
theorem q717 : (Jvm.Cond.fieldLink "ThirdAfter" (114 : Nat) "ThirdAfter" "taped" "I") ∈ lw_all := lw_g (lw_at lw_m3 139 rfl) rfl
theorem q718 : (Jvm.Cond.fieldLink "ThirdAfter" (133 : Nat) "ThirdAfter" "law" "LThirdAfter$Line;") ∈ lw_all := lw_g (lw_at lw_m3 140 rfl) rfl
theorem q719 : (Jvm.Cond.fieldLink "ThirdAfter" (143 : Nat) "ThirdAfter" "facts" "LThirdAfter$Facts;") ∈ lw_all := lw_g (lw_at lw_m3 141 rfl) rfl
theorem q720 : (Jvm.Cond.fieldLink "ThirdAfter" (170 : Nat) "ThirdAfter" "now" "LThirdAfter$Market;") ∈ lw_all := lw_g (lw_at lw_m3 142 rfl) rfl
theorem q721 : (Jvm.Cond.fieldLink "ThirdAfter" (174 : Nat) "ThirdAfter" "thought" "[LThirdAfter$Market;") ∈ lw_all := lw_g (lw_at lw_m3 143 rfl) rfl
theorem q722 : (Jvm.Cond.fieldLink "ThirdAfter" (180 : Nat) "ThirdAfter" "paidTo" "[[I") ∈ lw_all := lw_g (lw_at lw_m3 144 rfl) rfl
theorem q723 : (Jvm.Cond.fieldLink "ThirdAfter" (243 : Nat) "ThirdAfter" "payer" "I") ∈ lw_all := lw_g (lw_at lw_m3 145 rfl) rfl
theorem q724 : (Jvm.Cond.fieldLink "ThirdAfter" (240 : Nat) "ThirdAfter" "paid" "I") ∈ lw_all := lw_g (lw_at lw_m3 146 rfl) rfl
theorem q725 : (Jvm.Cond.fieldLink "ThirdAfter" (246 : Nat) "ThirdAfter" "bought" "I") ∈ lw_all := lw_g (lw_at lw_m3 147 rfl) rfl
theorem q726 : (Jvm.Cond.fieldLink "ThirdAfter" (183 : Nat) "ThirdAfter" "row" "[I") ∈ lw_all := lw_g (lw_at lw_m3 148 rfl) rfl
theorem q727 : (Jvm.Cond.fieldLink "ThirdAfter" (275 : Nat) "ThirdAfter" "rowMany" "I") ∈ lw_all := lw_g (lw_at lw_m3 149 rfl) rfl
theorem q728 : (Jvm.Cond.fieldLink "ThirdAfter" (187 : Nat) "ThirdAfter" "bestOrder" "[I") ∈ lw_all := lw_g (lw_at lw_m3 150 rfl) rfl
theorem q729 : (Jvm.Cond.fieldLink "ThirdAfter" (322 : Nat) "ThirdAfter" "bestPurse" "I") ∈ lw_all := lw_g (lw_at lw_m3 151 rfl) rfl
theorem q730 : (Jvm.Cond.fieldLink "ThirdAfter" (190 : Nat) "ThirdAfter" "seen" "[I") ∈ lw_all := lw_g (lw_at lw_m3 152 rfl) rfl
theorem q731 : (Jvm.Cond.fieldLink "ThirdAfter" (349 : Nat) "ThirdAfter" "seenMany" "I") ∈ lw_all := lw_g (lw_at lw_m3 153 rfl) rfl
theorem q732 : (Jvm.Cond.fieldLink "ThirdAfter" (374 : Nat) "ThirdAfter" "oneOf" "I") ∈ lw_all := lw_g (lw_at lw_m3 154 rfl) rfl
theorem q733 : (Jvm.Cond.fieldLink "ThirdAfter" (377 : Nat) "ThirdAfter" "otherOf" "I") ∈ lw_all := lw_g (lw_at lw_m3 155 rfl) rfl
theorem q734 : (Jvm.Cond.fieldLink "ThirdAfter" (385 : Nat) "ThirdAfter" "ledComings" "I") ∈ lw_all := lw_g (lw_at lw_m3 156 rfl) rfl
theorem q735 : (Jvm.Cond.fieldLink "ThirdAfter" (388 : Nat) "ThirdAfter" "ledPaid" "I") ∈ lw_all := lw_g (lw_at lw_m3 157 rfl) rfl
theorem q736 : (Jvm.Cond.fieldLink "ThirdAfter" (391 : Nat) "ThirdAfter" "ledLacking" "I") ∈ lw_all := lw_g (lw_at lw_m3 158 rfl) rfl
theorem q737 : (Jvm.Cond.fieldLink "ThirdAfter" (394 : Nat) "ThirdAfter" "ledEvenings" "I") ∈ lw_all := lw_g (lw_at lw_m3 159 rfl) rfl
theorem q738 : (Jvm.Cond.fieldLink "ThirdAfter" (397 : Nat) "ThirdAfter" "ledGiven" "I") ∈ lw_all := lw_g (lw_at lw_m3 160 rfl) rfl
theorem q739 : (Jvm.Cond.fieldLink "ThirdAfter" (400 : Nat) "ThirdAfter" "hasImage" "Z") ∈ lw_all := lw_g (lw_at lw_m3 161 rfl) rfl
theorem q740 : (Jvm.Cond.fieldLink "ThirdAfter" (193 : Nat) "ThirdAfter" "kept" "LThirdAfter$Market;") ∈ lw_all := lw_g (lw_at lw_m3 162 rfl) rfl
theorem q741 : (Jvm.Cond.fieldLink "ThirdAfter" (404 : Nat) "ThirdAfter" "keptMany" "I") ∈ lw_all := lw_g (lw_at lw_m3 163 rfl) rfl
theorem q742 : (Jvm.Cond.fieldLink "ThirdAfter" (407 : Nat) "ThirdAfter" "keptComings" "I") ∈ lw_all := lw_g (lw_at lw_m3 164 rfl) rfl
theorem q743 : (Jvm.Cond.fieldLink "ThirdAfter" (410 : Nat) "ThirdAfter" "keptPaid" "I") ∈ lw_all := lw_g (lw_at lw_m3 165 rfl) rfl
theorem q744 : (Jvm.Cond.fieldLink "ThirdAfter" (413 : Nat) "ThirdAfter" "keptLacking" "I") ∈ lw_all := lw_g (lw_at lw_m3 166 rfl) rfl
theorem q745 : (Jvm.Cond.fieldLink "ThirdAfter" (416 : Nat) "ThirdAfter" "keptEvenings" "I") ∈ lw_all := lw_g (lw_at lw_m3 167 rfl) rfl
theorem q746 : (Jvm.Cond.fieldLink "ThirdAfter" (419 : Nat) "ThirdAfter" "keptGiven" "I") ∈ lw_all := lw_g (lw_at lw_m3 168 rfl) rfl
theorem q748 : (Jvm.Cond.fieldLink "ThirdAfter" (459 : Nat) "ThirdAfter" "traces" "I") ∈ lw_all := lw_g (lw_at lw_m3 170 rfl) rfl
theorem q750 : (Jvm.Cond.fieldLink "ThirdAfter" (196 : Nat) "ThirdAfter" "traced" "[B") ∈ lw_all := lw_g (lw_at lw_m3 172 rfl) rfl
theorem q751 : (Jvm.Cond.fieldLink "ThirdAfter" (201 : Nat) "ThirdAfter" "bodies" "[LThirdAfter$Latch;") ∈ lw_all := lw_g (lw_at lw_m3 173 rfl) rfl
theorem q752 : (Jvm.Cond.fieldLink "ThirdAfter" (428 : Nat) "ThirdAfter" "bodyMany" "I") ∈ lw_all := lw_g (lw_at lw_m3 174 rfl) rfl
theorem q753 : (Jvm.Cond.fieldLink "ThirdAfter" (32 : Nat) "ThirdAfter" "shelves" "[LThirdAfter$Held;") ∈ lw_all := lw_g (lw_at lw_m3 175 rfl) rfl
theorem q754 : (Jvm.Cond.laysFinal "ThirdAfter" "ThirdAfter" "buyers" "[LThirdAfter$Buyer;") ∈ lw_all := lw_g (lw_at lw_m3 176 rfl) rfl
theorem q755 : (Jvm.Cond.soleField "ThirdAfter" "buyers") ∈ lw_all := lw_g (lw_at lw_m3 177 rfl) rfl
theorem q756 : (Jvm.Cond.lays "ThirdAfter" "ThirdAfter" "many" "I") ∈ lw_all := lw_g (lw_at lw_m3 178 rfl) rfl
theorem q757 : (Jvm.Cond.soleField "ThirdAfter" "many") ∈ lw_all := lw_g (lw_at lw_m3 179 rfl) rfl
theorem q758 : (Jvm.Cond.lays "ThirdAfter" "ThirdAfter" "third" "I") ∈ lw_all := lw_g (lw_at lw_m3 180 rfl) rfl
theorem q759 : (Jvm.Cond.soleField "ThirdAfter" "third") ∈ lw_all := lw_g (lw_at lw_m3 181 rfl) rfl
theorem q760 : (Jvm.Cond.lays "ThirdAfter" "ThirdAfter" "dogs" "I") ∈ lw_all := lw_g (lw_at lw_m3 182 rfl) rfl
theorem q761 : (Jvm.Cond.soleField "ThirdAfter" "dogs") ∈ lw_all := lw_g (lw_at lw_m3 183 rfl) rfl
theorem q762 : (Jvm.Cond.lays "ThirdAfter" "ThirdAfter" "day" "I") ∈ lw_all := lw_g (lw_at lw_m3 184 rfl) rfl
theorem q763 : (Jvm.Cond.soleField "ThirdAfter" "day") ∈ lw_all := lw_g (lw_at lw_m3 185 rfl) rfl
theorem q764 : (Jvm.Cond.laysFinal "ThirdAfter" "ThirdAfter" "changes" "[LThirdAfter$Change;") ∈ lw_all := lw_g (lw_at lw_m3 186 rfl) rfl
theorem q765 : (Jvm.Cond.soleField "ThirdAfter" "changes") ∈ lw_all := lw_g (lw_at lw_m3 187 rfl) rfl
theorem q766 : (Jvm.Cond.lays "ThirdAfter" "ThirdAfter" "doneMany" "I") ∈ lw_all := lw_g (lw_at lw_m3 188 rfl) rfl
theorem q767 : (Jvm.Cond.soleField "ThirdAfter" "doneMany") ∈ lw_all := lw_g (lw_at lw_m3 189 rfl) rfl
theorem q768 : (Jvm.Cond.lays "ThirdAfter" "ThirdAfter" "undoneMany" "I") ∈ lw_all := lw_g (lw_at lw_m3 190 rfl) rfl
theorem q769 : (Jvm.Cond.soleField "ThirdAfter" "undoneMany") ∈ lw_all := lw_g (lw_at lw_m3 191 rfl) rfl
theorem q770 : (Jvm.Cond.laysFinal "ThirdAfter" "ThirdAfter" "tape" "[B") ∈ lw_all := lw_g (lw_at lw_m3 192 rfl) rfl
theorem q771 : (Jvm.Cond.soleField "ThirdAfter" "tape") ∈ lw_all := lw_g (lw_at lw_m3 193 rfl) rfl
theorem q772 : (Jvm.Cond.lays "ThirdAfter" "ThirdAfter" "taped" "I") ∈ lw_all := lw_g (lw_at lw_m3 194 rfl) rfl
theorem q773 : (Jvm.Cond.soleField "ThirdAfter" "taped") ∈ lw_all := lw_g (lw_at lw_m3 195 rfl) rfl
theorem q774 : (Jvm.Cond.lays "ThirdAfter" "ThirdAfter" "law" "LThirdAfter$Line;") ∈ lw_all := lw_g (lw_at lw_m3 196 rfl) rfl
theorem q775 : (Jvm.Cond.soleField "ThirdAfter" "law") ∈ lw_all := lw_g (lw_at lw_m3 197 rfl) rfl
theorem q776 : (Jvm.Cond.laysFinal "ThirdAfter" "ThirdAfter" "facts" "LThirdAfter$Facts;") ∈ lw_all := lw_g (lw_at lw_m3 198 rfl) rfl
theorem q777 : (Jvm.Cond.soleField "ThirdAfter" "facts") ∈ lw_all := lw_g (lw_at lw_m3 199 rfl) rfl
theorem q778 : (Jvm.Cond.laysFinal "ThirdAfter" "ThirdAfter" "now" "LThirdAfter$Market;") ∈ lw_all := lw_g (lw_at lw_m3 200 rfl) rfl
theorem q779 : (Jvm.Cond.soleField "ThirdAfter" "now") ∈ lw_all := lw_g (lw_at lw_m3 201 rfl) rfl
theorem q780 : (Jvm.Cond.laysFinal "ThirdAfter" "ThirdAfter" "thought" "[LThirdAfter$Market;") ∈ lw_all := lw_g (lw_at lw_m3 202 rfl) rfl
theorem q781 : (Jvm.Cond.soleField "ThirdAfter" "thought") ∈ lw_all := lw_g (lw_at lw_m3 203 rfl) rfl
theorem q782 : (Jvm.Cond.laysFinal "ThirdAfter" "ThirdAfter" "paidTo" "[[I") ∈ lw_all := lw_g (lw_at lw_m3 204 rfl) rfl
theorem q783 : (Jvm.Cond.soleField "ThirdAfter" "paidTo") ∈ lw_all := lw_g (lw_at lw_m3 205 rfl) rfl
theorem q784 : (Jvm.Cond.lays "ThirdAfter" "ThirdAfter" "payer" "I") ∈ lw_all := lw_g (lw_at lw_m3 206 rfl) rfl
theorem q785 : (Jvm.Cond.soleField "ThirdAfter" "payer") ∈ lw_all := lw_g (lw_at lw_m3 207 rfl) rfl
theorem q786 : (Jvm.Cond.lays "ThirdAfter" "ThirdAfter" "paid" "I") ∈ lw_all := lw_g (lw_at lw_m3 208 rfl) rfl
theorem q787 : (Jvm.Cond.soleField "ThirdAfter" "paid") ∈ lw_all := lw_g (lw_at lw_m3 209 rfl) rfl
theorem q788 : (Jvm.Cond.lays "ThirdAfter" "ThirdAfter" "bought" "I") ∈ lw_all := lw_g (lw_at lw_m3 210 rfl) rfl
theorem q789 : (Jvm.Cond.soleField "ThirdAfter" "bought") ∈ lw_all := lw_g (lw_at lw_m3 211 rfl) rfl
theorem q790 : (Jvm.Cond.laysFinal "ThirdAfter" "ThirdAfter" "row" "[I") ∈ lw_all := lw_g (lw_at lw_m3 212 rfl) rfl
theorem q791 : (Jvm.Cond.soleField "ThirdAfter" "row") ∈ lw_all := lw_g (lw_at lw_m3 213 rfl) rfl
theorem q792 : (Jvm.Cond.lays "ThirdAfter" "ThirdAfter" "rowMany" "I") ∈ lw_all := lw_g (lw_at lw_m3 214 rfl) rfl
theorem q793 : (Jvm.Cond.soleField "ThirdAfter" "rowMany") ∈ lw_all := lw_g (lw_at lw_m3 215 rfl) rfl
theorem q794 : (Jvm.Cond.laysFinal "ThirdAfter" "ThirdAfter" "bestOrder" "[I") ∈ lw_all := lw_g (lw_at lw_m3 216 rfl) rfl
theorem q795 : (Jvm.Cond.soleField "ThirdAfter" "bestOrder") ∈ lw_all := lw_g (lw_at lw_m3 217 rfl) rfl
theorem q796 : (Jvm.Cond.lays "ThirdAfter" "ThirdAfter" "bestPurse" "I") ∈ lw_all := lw_g (lw_at lw_m3 218 rfl) rfl
theorem q797 : (Jvm.Cond.soleField "ThirdAfter" "bestPurse") ∈ lw_all := lw_g (lw_at lw_m3 219 rfl) rfl
theorem q798 : (Jvm.Cond.laysFinal "ThirdAfter" "ThirdAfter" "seen" "[I") ∈ lw_all := lw_g (lw_at lw_m3 220 rfl) rfl
theorem q799 : (Jvm.Cond.soleField "ThirdAfter" "seen") ∈ lw_all := lw_g (lw_at lw_m3 221 rfl) rfl
theorem q800 : (Jvm.Cond.lays "ThirdAfter" "ThirdAfter" "seenMany" "I") ∈ lw_all := lw_g (lw_at lw_m3 222 rfl) rfl
theorem q801 : (Jvm.Cond.soleField "ThirdAfter" "seenMany") ∈ lw_all := lw_g (lw_at lw_m3 223 rfl) rfl
theorem q802 : (Jvm.Cond.lays "ThirdAfter" "ThirdAfter" "oneOf" "I") ∈ lw_all := lw_g (lw_at lw_m3 224 rfl) rfl
theorem q803 : (Jvm.Cond.soleField "ThirdAfter" "oneOf") ∈ lw_all := lw_g (lw_at lw_m3 225 rfl) rfl
theorem q804 : (Jvm.Cond.lays "ThirdAfter" "ThirdAfter" "otherOf" "I") ∈ lw_all := lw_g (lw_at lw_m3 226 rfl) rfl
theorem q805 : (Jvm.Cond.soleField "ThirdAfter" "otherOf") ∈ lw_all := lw_g (lw_at lw_m3 227 rfl) rfl
theorem q806 : (Jvm.Cond.lays "ThirdAfter" "ThirdAfter" "ledComings" "I") ∈ lw_all := lw_g (lw_at lw_m3 228 rfl) rfl
theorem q807 : (Jvm.Cond.soleField "ThirdAfter" "ledComings") ∈ lw_all := lw_g (lw_at lw_m3 229 rfl) rfl
theorem q808 : (Jvm.Cond.lays "ThirdAfter" "ThirdAfter" "ledPaid" "I") ∈ lw_all := lw_g (lw_at lw_m3 230 rfl) rfl
theorem q809 : (Jvm.Cond.soleField "ThirdAfter" "ledPaid") ∈ lw_all := lw_g (lw_at lw_m3 231 rfl) rfl
theorem q810 : (Jvm.Cond.lays "ThirdAfter" "ThirdAfter" "ledLacking" "I") ∈ lw_all := lw_g (lw_at lw_m3 232 rfl) rfl
theorem q811 : (Jvm.Cond.soleField "ThirdAfter" "ledLacking") ∈ lw_all := lw_g (lw_at lw_m3 233 rfl) rfl
theorem q812 : (Jvm.Cond.lays "ThirdAfter" "ThirdAfter" "ledEvenings" "I") ∈ lw_all := lw_g (lw_at lw_m3 234 rfl) rfl
theorem q813 : (Jvm.Cond.soleField "ThirdAfter" "ledEvenings") ∈ lw_all := lw_g (lw_at lw_m3 235 rfl) rfl
theorem q814 : (Jvm.Cond.lays "ThirdAfter" "ThirdAfter" "ledGiven" "I") ∈ lw_all := lw_g (lw_at lw_m3 236 rfl) rfl
theorem q815 : (Jvm.Cond.soleField "ThirdAfter" "ledGiven") ∈ lw_all := lw_g (lw_at lw_m3 237 rfl) rfl
theorem q816 : (Jvm.Cond.lays "ThirdAfter" "ThirdAfter" "hasImage" "Z") ∈ lw_all := lw_g (lw_at lw_m3 238 rfl) rfl
theorem q817 : (Jvm.Cond.soleField "ThirdAfter" "hasImage") ∈ lw_all := lw_g (lw_at lw_m3 239 rfl) rfl
theorem q818 : (Jvm.Cond.laysFinal "ThirdAfter" "ThirdAfter" "kept" "LThirdAfter$Market;") ∈ lw_all := lw_g (lw_at lw_m4 0 rfl) rfl
theorem q819 : (Jvm.Cond.soleField "ThirdAfter" "kept") ∈ lw_all := lw_g (lw_at lw_m4 1 rfl) rfl
theorem q820 : (Jvm.Cond.lays "ThirdAfter" "ThirdAfter" "keptMany" "I") ∈ lw_all := lw_g (lw_at lw_m4 2 rfl) rfl
theorem q821 : (Jvm.Cond.soleField "ThirdAfter" "keptMany") ∈ lw_all := lw_g (lw_at lw_m4 3 rfl) rfl
theorem q822 : (Jvm.Cond.lays "ThirdAfter" "ThirdAfter" "keptComings" "I") ∈ lw_all := lw_g (lw_at lw_m4 4 rfl) rfl
theorem q823 : (Jvm.Cond.soleField "ThirdAfter" "keptComings") ∈ lw_all := lw_g (lw_at lw_m4 5 rfl) rfl
theorem q824 : (Jvm.Cond.lays "ThirdAfter" "ThirdAfter" "keptPaid" "I") ∈ lw_all := lw_g (lw_at lw_m4 6 rfl) rfl
theorem q825 : (Jvm.Cond.soleField "ThirdAfter" "keptPaid") ∈ lw_all := lw_g (lw_at lw_m4 7 rfl) rfl
theorem q826 : (Jvm.Cond.lays "ThirdAfter" "ThirdAfter" "keptLacking" "I") ∈ lw_all := lw_g (lw_at lw_m4 8 rfl) rfl
theorem q827 : (Jvm.Cond.soleField "ThirdAfter" "keptLacking") ∈ lw_all := lw_g (lw_at lw_m4 9 rfl) rfl
theorem q828 : (Jvm.Cond.lays "ThirdAfter" "ThirdAfter" "keptEvenings" "I") ∈ lw_all := lw_g (lw_at lw_m4 10 rfl) rfl
theorem q829 : (Jvm.Cond.soleField "ThirdAfter" "keptEvenings") ∈ lw_all := lw_g (lw_at lw_m4 11 rfl) rfl
theorem q830 : (Jvm.Cond.lays "ThirdAfter" "ThirdAfter" "keptGiven" "I") ∈ lw_all := lw_g (lw_at lw_m4 12 rfl) rfl
theorem q831 : (Jvm.Cond.soleField "ThirdAfter" "keptGiven") ∈ lw_all := lw_g (lw_at lw_m4 13 rfl) rfl
theorem q832 : (Jvm.Cond.lays "ThirdAfter" "ThirdAfter" "traces" "I") ∈ lw_all := lw_g (lw_at lw_m4 14 rfl) rfl
theorem q833 : (Jvm.Cond.soleField "ThirdAfter" "traces") ∈ lw_all := lw_g (lw_at lw_m4 15 rfl) rfl
theorem q834 : (Jvm.Cond.laysFinal "ThirdAfter" "ThirdAfter" "traced" "[B") ∈ lw_all := lw_g (lw_at lw_m4 16 rfl) rfl
theorem q835 : (Jvm.Cond.soleField "ThirdAfter" "traced") ∈ lw_all := lw_g (lw_at lw_m4 17 rfl) rfl
theorem q836 : (Jvm.Cond.laysFinal "ThirdAfter" "ThirdAfter" "bodies" "[LThirdAfter$Latch;") ∈ lw_all := lw_g (lw_at lw_m4 18 rfl) rfl
theorem q837 : (Jvm.Cond.soleField "ThirdAfter" "bodies") ∈ lw_all := lw_g (lw_at lw_m4 19 rfl) rfl
theorem q838 : (Jvm.Cond.lays "ThirdAfter" "ThirdAfter" "bodyMany" "I") ∈ lw_all := lw_g (lw_at lw_m4 20 rfl) rfl
theorem q839 : (Jvm.Cond.soleField "ThirdAfter" "bodyMany") ∈ lw_all := lw_g (lw_at lw_m4 21 rfl) rfl
theorem q840 : (Jvm.Cond.laysFinal "ThirdAfter" "ThirdAfter" "shelves" "[LThirdAfter$Held;") ∈ lw_all := lw_g (lw_at lw_m4 22 rfl) rfl
theorem q841 : (Jvm.Cond.soleField "ThirdAfter" "shelves") ∈ lw_all := lw_g (lw_at lw_m4 23 rfl) rfl
theorem q842 : (Jvm.Cond.superclass "ThirdAfter" "java/lang/Object") ∈ lw_all := lw_g (lw_at lw_m4 24 rfl) rfl
theorem q844 : (Jvm.Cond.instanceMethod ({ cls := "ThirdAfter", name := "book", desc := "(II)I" } : Jvm.MethodName)) ∈ lw_all := lw_g (lw_at lw_m4 26 rfl) rfl
theorem q845 : (Jvm.Cond.selects "ThirdAfter" ({ cls := "ThirdAfter", name := "book", desc := "(II)I" } : Jvm.MethodName) ({ cls := "ThirdAfter", name := "book", desc := "(II)I" } : Jvm.MethodName)) ∈ lw_all := lw_g (lw_at lw_m4 27 rfl) rfl
theorem q846 : (Jvm.Cond.code ({ cls := "ThirdAfter", name := "book", desc := "(II)I" } : Jvm.MethodName) prog_1_method_26_code (3 : Nat) (Option.some Jvm.ClassFile.FieldType.int)) ∈ lw_all := lw_g (lw_at lw_m4 28 rfl) rfl
theorem q848 : (Jvm.Cond.instanceMethod ({ cls := "ThirdAfter", name := "market", desc := "(III)I" } : Jvm.MethodName)) ∈ lw_all := lw_g (lw_at lw_m4 30 rfl) rfl
theorem q849 : (Jvm.Cond.selects "ThirdAfter" ({ cls := "ThirdAfter", name := "market", desc := "(III)I" } : Jvm.MethodName) ({ cls := "ThirdAfter", name := "market", desc := "(III)I" } : Jvm.MethodName)) ∈ lw_all := lw_g (lw_at lw_m4 31 rfl) rfl
theorem q850 : (Jvm.Cond.code ({ cls := "ThirdAfter", name := "market", desc := "(III)I" } : Jvm.MethodName) prog_1_method_31_code (6 : Nat) (Option.some Jvm.ClassFile.FieldType.int)) ∈ lw_all := lw_g (lw_at lw_m4 32 rfl) rfl
theorem q851 : (Jvm.Cond.methodLink "ThirdAfter" (298 : Nat) ({ cls := "ThirdAfter", name := "layRow", desc := "(I)I" } : Jvm.MethodName)) ∈ lw_all := lw_g (lw_at lw_m4 33 rfl) rfl
theorem q852 : (Jvm.Cond.privateMethod ({ cls := "ThirdAfter", name := "layRow", desc := "(I)I" } : Jvm.MethodName)) ∈ lw_tbl := lw_at lw_m4 34 rfl
theorem q853 : (Jvm.Cond.instanceMethod ({ cls := "ThirdAfter", name := "layRow", desc := "(I)I" } : Jvm.MethodName)) ∈ lw_all := lw_g (lw_at lw_m4 35 rfl) rfl
theorem q854 : (Jvm.Cond.codeWith ({ cls := "ThirdAfter", name := "layRow", desc := "(I)I" } : Jvm.MethodName) prog_1_method_27_code (4 : Nat) (Option.some Jvm.ClassFile.FieldType.int) [((5 : Nat), (72 : Nat), (75 : Nat), (45 : Nat)), ((5 : Nat), (72 : Nat), (79 : Nat), (47 : Nat))]) ∈ lw_all := lw_g (lw_at lw_m4 36 rfl) rfl
theorem q855 : (Jvm.Cond.classLink "ThirdAfter" (278 : Nat) "ThirdAfter$ByteRow") ∈ lw_all := lw_g (lw_at lw_m4 37 rfl) rfl
theorem q856 : (Jvm.Cond.methodLink "ThirdAfter" (280 : Nat) ({ cls := "ThirdAfter$ByteRow", name := "size", desc := "()I" } : Jvm.MethodName)) ∈ lw_all := lw_g (lw_at lw_m4 38 rfl) rfl
theorem q860 : (Jvm.Cond.methodLink "ThirdAfter" (283 : Nat) ({ cls := "ThirdAfter$ByteRow", name := "at", desc := "(I)J" } : Jvm.MethodName)) ∈ lw_all := lw_g (lw_at lw_m4 42 rfl) rfl
theorem q864 : (Jvm.Cond.methodLink "ThirdAfter" (302 : Nat) ({ cls := "ThirdAfter", name := "behindRow", desc := "()LThirdAfter$Market;" } : Jvm.MethodName)) ∈ lw_all := lw_g (lw_at lw_m4 46 rfl) rfl
theorem q865 : (Jvm.Cond.privateMethod ({ cls := "ThirdAfter", name := "behindRow", desc := "()LThirdAfter$Market;" } : Jvm.MethodName)) ∈ lw_tbl := lw_at lw_m4 47 rfl
theorem q866 : (Jvm.Cond.instanceMethod ({ cls := "ThirdAfter", name := "behindRow", desc := "()LThirdAfter$Market;" } : Jvm.MethodName)) ∈ lw_all := lw_g (lw_at lw_m4 48 rfl) rfl
theorem q867 : (Jvm.Cond.code ({ cls := "ThirdAfter", name := "behindRow", desc := "()LThirdAfter$Market;" } : Jvm.MethodName) prog_1_method_30_code (2 : Nat) (Option.some (Jvm.ClassFile.FieldType.object "ThirdAfter$Market"))) ∈ lw_all := lw_g (lw_at lw_m4 49 rfl) rfl
theorem q868 : (Jvm.Cond.methodLink "ThirdAfter" (288 : Nat) ({ cls := "ThirdAfter", name := "clearPaid", desc := "()V" } : Jvm.MethodName)) ∈ lw_all := lw_g (lw_at lw_m4 50 rfl) rfl
theorem q869 : (Jvm.Cond.privateMethod ({ cls := "ThirdAfter", name := "clearPaid", desc := "()V" } : Jvm.MethodName)) ∈ lw_tbl := lw_at lw_m4 51 rfl
theorem q870 : (Jvm.Cond.instanceMethod ({ cls := "ThirdAfter", name := "clearPaid", desc := "()V" } : Jvm.MethodName)) ∈ lw_all := lw_g (lw_at lw_m4 52 rfl) rfl
theorem q871 : (Jvm.Cond.code ({ cls := "ThirdAfter", name := "clearPaid", desc := "()V" } : Jvm.MethodName) prog_1_method_28_code (3 : Nat) (Option.none : Option Jvm.ClassFile.FieldType)) ∈ lw_all := lw_g (lw_at lw_m4 53 rfl) rfl
theorem q872 : (Jvm.Cond.methodLink "ThirdAfter" (291 : Nat) ({ cls := "ThirdAfter", name := "layNow", desc := "()LThirdAfter$Market;" } : Jvm.MethodName)) ∈ lw_all := lw_g (lw_at lw_m4 54 rfl) rfl
theorem q873 : (Jvm.Cond.privateMethod ({ cls := "ThirdAfter", name := "layNow", desc := "()LThirdAfter$Market;" } : Jvm.MethodName)) ∈ lw_tbl := lw_at lw_m4 55 rfl
theorem q874 : (Jvm.Cond.instanceMethod ({ cls := "ThirdAfter", name := "layNow", desc := "()LThirdAfter$Market;" } : Jvm.MethodName)) ∈ lw_all := lw_g (lw_at lw_m4 56 rfl) rfl
theorem q875 : (Jvm.Cond.code ({ cls := "ThirdAfter", name := "layNow", desc := "()LThirdAfter$Market;" } : Jvm.MethodName) prog_1_method_21_code (2 : Nat) (Option.some (Jvm.ClassFile.FieldType.object "ThirdAfter$Market"))) ∈ lw_all := lw_g (lw_at lw_m4 57 rfl) rfl
theorem q876 : (Jvm.Cond.methodLink "ThirdAfter" (216 : Nat) ({ cls := "ThirdAfter$Market", name := "likeThat", desc := "(LThirdAfter$Market;)V" } : Jvm.MethodName)) ∈ lw_all := lw_g (lw_at lw_m4 58 rfl) rfl
theorem q883 : (Jvm.Cond.methodLink "ThirdAfter" (295 : Nat) ({ cls := "ThirdAfter", name := "goRow", desc := "(LThirdAfter$Market;)V" } : Jvm.MethodName)) ∈ lw_all := lw_g (lw_at lw_m4 65 rfl) rfl
theorem q884 : (Jvm.Cond.privateMethod ({ cls := "ThirdAfter", name := "goRow", desc := "(LThirdAfter$Market;)V" } : Jvm.MethodName)) ∈ lw_tbl := lw_at lw_m4 66 rfl
theorem q885 : (Jvm.Cond.instanceMethod ({ cls := "ThirdAfter", name := "goRow", desc := "(LThirdAfter$Market;)V" } : Jvm.MethodName)) ∈ lw_all := lw_g (lw_at lw_m4 67 rfl) rfl
theorem q886 : (Jvm.Cond.code ({ cls := "ThirdAfter", name := "goRow", desc := "(LThirdAfter$Market;)V" } : Jvm.MethodName) prog_1_method_29_code (3 : Nat) (Option.none : Option Jvm.ClassFile.FieldType)) ∈ lw_all := lw_g (lw_at lw_m4 68 rfl) rfl
theorem q887 : (Jvm.Cond.methodLink "ThirdAfter" (284 : Nat) ({ cls := "ThirdAfter", name := "comesIn", desc := "(LThirdAfter$Market;I)V" } : Jvm.MethodName)) ∈ lw_all := lw_g (lw_at lw_m4 69 rfl) rfl
theorem q888 : (Jvm.Cond.privateMethod ({ cls := "ThirdAfter", name := "comesIn", desc := "(LThirdAfter$Market;I)V" } : Jvm.MethodName)) ∈ lw_tbl := lw_at lw_m4 70 rfl
theorem q889 : (Jvm.Cond.instanceMethod ({ cls := "ThirdAfter", name := "comesIn", desc := "(LThirdAfter$Market;I)V" } : Jvm.MethodName)) ∈ lw_all := lw_g (lw_at lw_m4 71 rfl) rfl
theorem q890 : (Jvm.Cond.code ({ cls := "ThirdAfter", name := "comesIn", desc := "(LThirdAfter$Market;I)V" } : Jvm.MethodName) prog_1_method_25_code (6 : Nat) (Option.none : Option Jvm.ClassFile.FieldType)) ∈ lw_all := lw_g (lw_at lw_m4 72 rfl) rfl
theorem q891 : (Jvm.Cond.methodLink "ThirdAfter" (249 : Nat) ({ cls := "ThirdAfter", name := "counts", desc := "(I)Z" } : Jvm.MethodName)) ∈ lw_all := lw_g (lw_at lw_m4 73 rfl) rfl
theorem q892 : (Jvm.Cond.privateMethod ({ cls := "ThirdAfter", name := "counts", desc := "(I)Z" } : Jvm.MethodName)) ∈ lw_tbl := lw_at lw_m4 74 rfl
theorem q893 : (Jvm.Cond.instanceMethod ({ cls := "ThirdAfter", name := "counts", desc := "(I)Z" } : Jvm.MethodName)) ∈ lw_all := lw_g (lw_at lw_m4 75 rfl) rfl
theorem q894 : (Jvm.Cond.code ({ cls := "ThirdAfter", name := "counts", desc := "(I)Z" } : Jvm.MethodName) prog_1_method_23_code (2 : Nat) (Option.some Jvm.ClassFile.FieldType.boolean)) ∈ lw_all := lw_g (lw_at lw_m4 76 rfl) rfl
theorem q895 : (Jvm.Cond.methodLink "ThirdAfter" (261 : Nat) ({ cls := "ThirdAfter$Market", name := "takeOldest", desc := "()V" } : Jvm.MethodName)) ∈ lw_all := lw_g (lw_at lw_m4 77 rfl) rfl
theorem q899 : (Jvm.Cond.methodLink "ThirdAfter" (264 : Nat) ({ cls := "ThirdAfter", name := "pays", desc := "(LThirdAfter$Market;III)V" } : Jvm.MethodName)) ∈ lw_all := lw_g (lw_at lw_m4 81 rfl) rfl
theorem q900 : (Jvm.Cond.privateMethod ({ cls := "ThirdAfter", name := "pays", desc := "(LThirdAfter$Market;III)V" } : Jvm.MethodName)) ∈ lw_tbl := lw_at lw_m4 82 rfl
theorem q901 : (Jvm.Cond.instanceMethod ({ cls := "ThirdAfter", name := "pays", desc := "(LThirdAfter$Market;III)V" } : Jvm.MethodName)) ∈ lw_all := lw_g (lw_at lw_m4 83 rfl) rfl
theorem q902 : (Jvm.Cond.code ({ cls := "ThirdAfter", name := "pays", desc := "(LThirdAfter$Market;III)V" } : Jvm.MethodName) prog_1_method_24_code (6 : Nat) (Option.none : Option Jvm.ClassFile.FieldType)) ∈ lw_all := lw_g (lw_at lw_m4 84 rfl) rfl
theorem q903 : (Jvm.Cond.methodLink "ThirdAfter" (232 : Nat) ({ cls := "java/lang/Math", name := "min", desc := "(II)I" } : Jvm.MethodName)) ∈ lw_all := lw_g (lw_at lw_m4 85 rfl) rfl
theorem q904 : (Jvm.Cond.methodLink "ThirdAfter" (268 : Nat) ({ cls := "ThirdAfter", name := "buysFor", desc := "(LThirdAfter$Market;II)I" } : Jvm.MethodName)) ∈ lw_all := lw_g (lw_at lw_m4 86 rfl) rfl
theorem q905 : (Jvm.Cond.privateMethod ({ cls := "ThirdAfter", name := "buysFor", desc := "(LThirdAfter$Market;II)I" } : Jvm.MethodName)) ∈ lw_tbl := lw_at lw_m4 87 rfl
theorem q906 : (Jvm.Cond.instanceMethod ({ cls := "ThirdAfter", name := "buysFor", desc := "(LThirdAfter$Market;II)I" } : Jvm.MethodName)) ∈ lw_all := lw_g (lw_at lw_m4 88 rfl) rfl
theorem q907 : (Jvm.Cond.code ({ cls := "ThirdAfter", name := "buysFor", desc := "(LThirdAfter$Market;II)I" } : Jvm.MethodName) prog_1_method_22_code (5 : Nat) (Option.some Jvm.ClassFile.FieldType.int)) ∈ lw_all := lw_g (lw_at lw_m4 89 rfl) rfl
theorem q908 : (Jvm.Cond.methodLink "ThirdAfter" (229 : Nat) ({ cls := "ThirdAfter", name := "gives", desc := "()I" } : Jvm.MethodName)) ∈ lw_all := lw_g (lw_at lw_m4 90 rfl) rfl
theorem q909 : (Jvm.Cond.privateMethod ({ cls := "ThirdAfter", name := "gives", desc := "()I" } : Jvm.MethodName)) ∈ lw_tbl := lw_at lw_m4 91 rfl
theorem q910 : (Jvm.Cond.instanceMethod ({ cls := "ThirdAfter", name := "gives", desc := "()I" } : Jvm.MethodName)) ∈ lw_all := lw_g (lw_at lw_m4 92 rfl) rfl
theorem q911 : (Jvm.Cond.code ({ cls := "ThirdAfter", name := "gives", desc := "()I" } : Jvm.MethodName) prog_1_method_19_code (2 : Nat) (Option.some Jvm.ClassFile.FieldType.int)) ∈ lw_all := lw_g (lw_at lw_m4 93 rfl) rfl
theorem q912 : (Jvm.Cond.methodLink "ThirdAfter" (147 : Nat) ({ cls := "ThirdAfter$Node", name := "value", desc := "(LThirdAfter$Facts;)I" } : Jvm.MethodName)) ∈ lw_all := lw_g (lw_at lw_m4 94 rfl) rfl
theorem q936 : (Jvm.Cond.methodLink "ThirdAfter" (237 : Nat) ({ cls := "java/lang/Math", name := "max", desc := "(II)I" } : Jvm.MethodName)) ∈ lw_all := lw_g (lw_at lw_m4 118 rfl) rfl
theorem q937 : (Jvm.Cond.methodLink "ThirdAfter" (272 : Nat) ({ cls := "ThirdAfter$Market", name := "owe", desc := "(II)V" } : Jvm.MethodName)) ∈ lw_all := lw_g (lw_at lw_m4 119 rfl) rfl
theorem q942 : (Jvm.Cond.instanceMethod ({ cls := "ThirdAfter", name := "coming", desc := "(III)I" } : Jvm.MethodName)) ∈ lw_all := lw_g (lw_at lw_m4 124 rfl) rfl
theorem q943 : (Jvm.Cond.selects "ThirdAfter" ({ cls := "ThirdAfter", name := "coming", desc := "(III)I" } : Jvm.MethodName) ({ cls := "ThirdAfter", name := "coming", desc := "(III)I" } : Jvm.MethodName)) ∈ lw_all := lw_g (lw_at lw_m4 125 rfl) rfl
theorem q944 : (Jvm.Cond.code ({ cls := "ThirdAfter", name := "coming", desc := "(III)I" } : Jvm.MethodName) prog_1_method_32_code (5 : Nat) (Option.some Jvm.ClassFile.FieldType.int)) ∈ lw_all := lw_g (lw_at lw_m4 126 rfl) rfl
theorem q946 : (Jvm.Cond.instanceMethod ({ cls := "ThirdAfter", name := "later", desc := "(III)I" } : Jvm.MethodName)) ∈ lw_all := lw_g (lw_at lw_m4 128 rfl) rfl
theorem q947 : (Jvm.Cond.selects "ThirdAfter" ({ cls := "ThirdAfter", name := "later", desc := "(III)I" } : Jvm.MethodName) ({ cls := "ThirdAfter", name := "later", desc := "(III)I" } : Jvm.MethodName)) ∈ lw_all := lw_g (lw_at lw_m4 129 rfl) rfl
theorem q948 : (Jvm.Cond.code ({ cls := "ThirdAfter", name := "later", desc := "(III)I" } : Jvm.MethodName) prog_1_method_33_code (7 : Nat) (Option.some Jvm.ClassFile.FieldType.int)) ∈ lw_all := lw_g (lw_at lw_m4 130 rfl) rfl
theorem q949 : (Jvm.Cond.methodLink "ThirdAfter" (305 : Nat) ({ cls := "ThirdAfter$Market", name := "evening", desc := "()V" } : Jvm.MethodName)) ∈ lw_all := lw_g (lw_at lw_m4 131 rfl) rfl
theorem q954 : (Jvm.Cond.instanceMethod ({ cls := "ThirdAfter", name := "onceMore", desc := "(III)I" } : Jvm.MethodName)) ∈ lw_all := lw_g (lw_at lw_m4 136 rfl) rfl
theorem q955 : (Jvm.Cond.selects "ThirdAfter" ({ cls := "ThirdAfter", name := "onceMore", desc := "(III)I" } : Jvm.MethodName) ({ cls := "ThirdAfter", name := "onceMore", desc := "(III)I" } : Jvm.MethodName)) ∈ lw_all := lw_g (lw_at lw_m4 137 rfl) rfl
theorem q956 : (Jvm.Cond.code ({ cls := "ThirdAfter", name := "onceMore", desc := "(III)I" } : Jvm.MethodName) prog_1_method_37_code (9 : Nat) (Option.some Jvm.ClassFile.FieldType.int)) ∈ lw_all := lw_g (lw_at lw_m4 138 rfl) rfl
theorem q957 : (Jvm.Cond.methodLink "ThirdAfter" (315 : Nat) ({ cls := "ThirdAfter", name := "purseWith", desc := "(III)I" } : Jvm.MethodName)) ∈ lw_all := lw_g (lw_at lw_m4 139 rfl) rfl
theorem q958 : (Jvm.Cond.privateMethod ({ cls := "ThirdAfter", name := "purseWith", desc := "(III)I" } : Jvm.MethodName)) ∈ lw_tbl := lw_at lw_m4 140 rfl
theorem q959 : (Jvm.Cond.instanceMethod ({ cls := "ThirdAfter", name := "purseWith", desc := "(III)I" } : Jvm.MethodName)) ∈ lw_all := lw_g (lw_at lw_m4 141 rfl) rfl
theorem q960 : (Jvm.Cond.code ({ cls := "ThirdAfter", name := "purseWith", desc := "(III)I" } : Jvm.MethodName) prog_1_method_36_code (5 : Nat) (Option.some Jvm.ClassFile.FieldType.int)) ∈ lw_all := lw_g (lw_at lw_m4 142 rfl) rfl
theorem q961 : (Jvm.Cond.methodLink "ThirdAfter" (308 : Nat) ({ cls := "ThirdAfter", name := "putIn", desc := "(II)V" } : Jvm.MethodName)) ∈ lw_all := lw_g (lw_at lw_m4 143 rfl) rfl
theorem q962 : (Jvm.Cond.privateMethod ({ cls := "ThirdAfter", name := "putIn", desc := "(II)V" } : Jvm.MethodName)) ∈ lw_tbl := lw_at lw_m4 144 rfl
theorem q963 : (Jvm.Cond.instanceMethod ({ cls := "ThirdAfter", name := "putIn", desc := "(II)V" } : Jvm.MethodName)) ∈ lw_all := lw_g (lw_at lw_m4 145 rfl) rfl
theorem q964 : (Jvm.Cond.code ({ cls := "ThirdAfter", name := "putIn", desc := "(II)V" } : Jvm.MethodName) prog_1_method_34_code (4 : Nat) (Option.none : Option Jvm.ClassFile.FieldType)) ∈ lw_all := lw_g (lw_at lw_m4 146 rfl) rfl
theorem q965 : (Jvm.Cond.methodLink "ThirdAfter" (311 : Nat) ({ cls := "ThirdAfter", name := "takeOut", desc := "(I)V" } : Jvm.MethodName)) ∈ lw_all := lw_g (lw_at lw_m4 147 rfl) rfl
theorem q966 : (Jvm.Cond.privateMethod ({ cls := "ThirdAfter", name := "takeOut", desc := "(I)V" } : Jvm.MethodName)) ∈ lw_tbl := lw_at lw_m4 148 rfl
theorem q967 : (Jvm.Cond.instanceMethod ({ cls := "ThirdAfter", name := "takeOut", desc := "(I)V" } : Jvm.MethodName)) ∈ lw_all := lw_g (lw_at lw_m4 149 rfl) rfl
theorem q968 : (Jvm.Cond.code ({ cls := "ThirdAfter", name := "takeOut", desc := "(I)V" } : Jvm.MethodName) prog_1_method_35_code (3 : Nat) (Option.none : Option Jvm.ClassFile.FieldType)) ∈ lw_all := lw_g (lw_at lw_m4 150 rfl) rfl
theorem q970 : (Jvm.Cond.instanceMethod ({ cls := "ThirdAfter", name := "hired", desc := "(IIII)I" } : Jvm.MethodName)) ∈ lw_all := lw_g (lw_at lw_m4 152 rfl) rfl
theorem q971 : (Jvm.Cond.selects "ThirdAfter" ({ cls := "ThirdAfter", name := "hired", desc := "(IIII)I" } : Jvm.MethodName) ({ cls := "ThirdAfter", name := "hired", desc := "(IIII)I" } : Jvm.MethodName)) ∈ lw_all := lw_g (lw_at lw_m4 153 rfl) rfl
theorem q972 : (Jvm.Cond.code ({ cls := "ThirdAfter", name := "hired", desc := "(IIII)I" } : Jvm.MethodName) prog_1_method_38_code (10 : Nat) (Option.some Jvm.ClassFile.FieldType.int)) ∈ lw_all := lw_g (lw_at lw_m4 154 rfl) rfl
theorem q974 : (Jvm.Cond.instanceMethod ({ cls := "ThirdAfter", name := "latch", desc := "(III)I" } : Jvm.MethodName)) ∈ lw_all := lw_g (lw_at lw_m4 156 rfl) rfl
theorem q975 : (Jvm.Cond.selects "ThirdAfter" ({ cls := "ThirdAfter", name := "latch", desc := "(III)I" } : Jvm.MethodName) ({ cls := "ThirdAfter", name := "latch", desc := "(III)I" } : Jvm.MethodName)) ∈ lw_all := lw_g (lw_at lw_m4 157 rfl) rfl
theorem q976 : (Jvm.Cond.code ({ cls := "ThirdAfter", name := "latch", desc := "(III)I" } : Jvm.MethodName) prog_1_method_40_code (9 : Nat) (Option.some Jvm.ClassFile.FieldType.int)) ∈ lw_all := lw_g (lw_at lw_m4 158 rfl) rfl
theorem q977 : (Jvm.Cond.methodLink "ThirdAfter" (319 : Nat) ({ cls := "ThirdAfter", name := "change", desc := "(I)V" } : Jvm.MethodName)) ∈ lw_all := lw_g (lw_at lw_m4 159 rfl) rfl
theorem q978 : (Jvm.Cond.privateMethod ({ cls := "ThirdAfter", name := "change", desc := "(I)V" } : Jvm.MethodName)) ∈ lw_tbl := lw_at lw_m4 160 rfl
theorem q979 : (Jvm.Cond.instanceMethod ({ cls := "ThirdAfter", name := "change", desc := "(I)V" } : Jvm.MethodName)) ∈ lw_all := lw_g (lw_at lw_m4 161 rfl) rfl
theorem q980 : (Jvm.Cond.code ({ cls := "ThirdAfter", name := "change", desc := "(I)V" } : Jvm.MethodName) prog_1_method_39_code (3 : Nat) (Option.none : Option Jvm.ClassFile.FieldType)) ∈ lw_all := lw_g (lw_at lw_m4 162 rfl) rfl
theorem q982 : (Jvm.Cond.instanceMethod ({ cls := "ThirdAfter", name := "order", desc := "(III)I" } : Jvm.MethodName)) ∈ lw_all := lw_g (lw_at lw_m4 164 rfl) rfl
theorem q983 : (Jvm.Cond.selects "ThirdAfter" ({ cls := "ThirdAfter", name := "order", desc := "(III)I" } : Jvm.MethodName) ({ cls := "ThirdAfter", name := "order", desc := "(III)I" } : Jvm.MethodName)) ∈ lw_all := lw_g (lw_at lw_m4 165 rfl) rfl
theorem q984 : (Jvm.Cond.code ({ cls := "ThirdAfter", name := "order", desc := "(III)I" } : Jvm.MethodName) prog_1_method_42_code (5 : Nat) (Option.some Jvm.ClassFile.FieldType.int)) ∈ lw_all := lw_g (lw_at lw_m4 166 rfl) rfl
theorem q985 : (Jvm.Cond.methodLink "ThirdAfter" (331 : Nat) ({ cls := "java/lang/Integer", name := "bitCount", desc := "(I)I" } : Jvm.MethodName)) ∈ lw_all := lw_g (lw_at lw_m4 167 rfl) rfl
theorem q991 : (Jvm.Cond.methodLink "ThirdAfter" (328 : Nat) ({ cls := "ThirdAfter", name := "orderOn", desc := "(II)V" } : Jvm.MethodName)) ∈ lw_all := lw_g (lw_at lw_m4 173 rfl) rfl
theorem q992 : (Jvm.Cond.privateMethod ({ cls := "ThirdAfter", name := "orderOn", desc := "(II)V" } : Jvm.MethodName)) ∈ lw_tbl := lw_at lw_m4 174 rfl
theorem q993 : (Jvm.Cond.instanceMethod ({ cls := "ThirdAfter", name := "orderOn", desc := "(II)V" } : Jvm.MethodName)) ∈ lw_all := lw_g (lw_at lw_m4 175 rfl) rfl
theorem q994 : (Jvm.Cond.code ({ cls := "ThirdAfter", name := "orderOn", desc := "(II)V" } : Jvm.MethodName) prog_1_method_41_code (5 : Nat) (Option.none : Option Jvm.ClassFile.FieldType)) ∈ lw_all := lw_g (lw_at lw_m4 176 rfl) rfl
theorem q995 : (Jvm.Cond.methodLink "ThirdAfter" (325 : Nat) ({ cls := "ThirdAfter", name := "has", desc := "(II)Z" } : Jvm.MethodName)) ∈ lw_all := lw_g (lw_at lw_m4 177 rfl) rfl
theorem q996 : (Jvm.Cond.static ({ cls := "ThirdAfter", name := "has", desc := "(II)Z" } : Jvm.MethodName)) ∈ lw_all := lw_g (lw_at lw_m4 178 rfl) rfl
theorem q997 : (Jvm.Cond.code ({ cls := "ThirdAfter", name := "has", desc := "(II)Z" } : Jvm.MethodName) prog_1_method_2_code (2 : Nat) (Option.some Jvm.ClassFile.FieldType.boolean)) ∈ lw_all := lw_g (lw_at lw_m4 179 rfl) rfl
theorem q999 : (Jvm.Cond.instanceMethod ({ cls := "ThirdAfter", name := "flow", desc := "(II)I" } : Jvm.MethodName)) ∈ lw_all := lw_g (lw_at lw_m4 181 rfl) rfl
theorem q1000 : (Jvm.Cond.selects "ThirdAfter" ({ cls := "ThirdAfter", name := "flow", desc := "(II)I" } : Jvm.MethodName) ({ cls := "ThirdAfter", name := "flow", desc := "(II)I" } : Jvm.MethodName)) ∈ lw_all := lw_g (lw_at lw_m4 182 rfl) rfl
theorem q1001 : (Jvm.Cond.code ({ cls := "ThirdAfter", name := "flow", desc := "(II)I" } : Jvm.MethodName) prog_1_method_43_code (4 : Nat) (Option.some Jvm.ClassFile.FieldType.int)) ∈ lw_all := lw_g (lw_at lw_m4 183 rfl) rfl
theorem q1002 : (Jvm.Cond.methodLink "ThirdAfter" (336 : Nat) ({ cls := "ThirdAfter", name := "areTwo", desc := "(I)Z" } : Jvm.MethodName)) ∈ lw_all := lw_g (lw_at lw_m4 184 rfl) rfl
theorem q1003 : (Jvm.Cond.privateMethod ({ cls := "ThirdAfter", name := "areTwo", desc := "(I)Z" } : Jvm.MethodName)) ∈ lw_tbl := lw_at lw_m4 185 rfl
theorem q1004 : (Jvm.Cond.instanceMethod ({ cls := "ThirdAfter", name := "areTwo", desc := "(I)Z" } : Jvm.MethodName)) ∈ lw_all := lw_g (lw_at lw_m4 186 rfl) rfl
theorem q1005 : (Jvm.Cond.code ({ cls := "ThirdAfter", name := "areTwo", desc := "(I)Z" } : Jvm.MethodName) prog_1_method_4_code (2 : Nat) (Option.some Jvm.ClassFile.FieldType.boolean)) ∈ lw_all := lw_g (lw_at lw_m4 187 rfl) rfl
theorem q1007 : (Jvm.Cond.instanceMethod ({ cls := "ThirdAfter", name := "round", desc := "(II)I" } : Jvm.MethodName)) ∈ lw_all := lw_g (lw_at lw_m4 189 rfl) rfl
theorem q1008 : (Jvm.Cond.selects "ThirdAfter" ({ cls := "ThirdAfter", name := "round", desc := "(II)I" } : Jvm.MethodName) ({ cls := "ThirdAfter", name := "round", desc := "(II)I" } : Jvm.MethodName)) ∈ lw_all := lw_g (lw_at lw_m4 190 rfl) rfl
theorem q1009 : (Jvm.Cond.code ({ cls := "ThirdAfter", name := "round", desc := "(II)I" } : Jvm.MethodName) prog_1_method_47_code (5 : Nat) (Option.some Jvm.ClassFile.FieldType.int)) ∈ lw_all := lw_g (lw_at lw_m4 191 rfl) rfl
theorem q1010 : (Jvm.Cond.methodLink "ThirdAfter" (342 : Nat) ({ cls := "ThirdAfter", name := "smallestRing", desc := "()I" } : Jvm.MethodName)) ∈ lw_all := lw_g (lw_at lw_m4 192 rfl) rfl
theorem q1011 : (Jvm.Cond.privateMethod ({ cls := "ThirdAfter", name := "smallestRing", desc := "()I" } : Jvm.MethodName)) ∈ lw_tbl := lw_at lw_m4 193 rfl
theorem q1012 : (Jvm.Cond.instanceMethod ({ cls := "ThirdAfter", name := "smallestRing", desc := "()I" } : Jvm.MethodName)) ∈ lw_all := lw_g (lw_at lw_m4 194 rfl) rfl
theorem q1013 : (Jvm.Cond.code ({ cls := "ThirdAfter", name := "smallestRing", desc := "()I" } : Jvm.MethodName) prog_1_method_45_code (3 : Nat) (Option.some Jvm.ClassFile.FieldType.int)) ∈ lw_all := lw_g (lw_at lw_m4 195 rfl) rfl
theorem q1014 : (Jvm.Cond.methodLink "ThirdAfter" (339 : Nat) ({ cls := "ThirdAfter", name := "stepsTo", desc := "(II)I" } : Jvm.MethodName)) ∈ lw_all := lw_g (lw_at lw_m4 196 rfl) rfl
theorem q1015 : (Jvm.Cond.privateMethod ({ cls := "ThirdAfter", name := "stepsTo", desc := "(II)I" } : Jvm.MethodName)) ∈ lw_tbl := lw_at lw_m4 197 rfl
theorem q1016 : (Jvm.Cond.instanceMethod ({ cls := "ThirdAfter", name := "stepsTo", desc := "(II)I" } : Jvm.MethodName)) ∈ lw_all := lw_g (lw_at lw_m4 198 rfl) rfl
theorem q1017 : (Jvm.Cond.code ({ cls := "ThirdAfter", name := "stepsTo", desc := "(II)I" } : Jvm.MethodName) prog_1_method_44_code (8 : Nat) (Option.some Jvm.ClassFile.FieldType.int)) ∈ lw_all := lw_g (lw_at lw_m4 199 rfl) rfl
theorem q1018 : (Jvm.Cond.methodLink "ThirdAfter" (345 : Nat) ({ cls := "ThirdAfter", name := "gainsMost", desc := "(LThirdAfter$Market;)I" } : Jvm.MethodName)) ∈ lw_all := lw_g (lw_at lw_m4 200 rfl) rfl
theorem q1019 : (Jvm.Cond.privateMethod ({ cls := "ThirdAfter", name := "gainsMost", desc := "(LThirdAfter$Market;)I" } : Jvm.MethodName)) ∈ lw_tbl := lw_at lw_m4 201 rfl
theorem q1020 : (Jvm.Cond.instanceMethod ({ cls := "ThirdAfter", name := "gainsMost", desc := "(LThirdAfter$Market;)I" } : Jvm.MethodName)) ∈ lw_all := lw_g (lw_at lw_m4 202 rfl) rfl
theorem q1021 : (Jvm.Cond.code ({ cls := "ThirdAfter", name := "gainsMost", desc := "(LThirdAfter$Market;)I" } : Jvm.MethodName) prog_1_method_46_code (4 : Nat) (Option.some Jvm.ClassFile.FieldType.int)) ∈ lw_all := lw_g (lw_at lw_m4 203 rfl) rfl
theorem q1023 : (Jvm.Cond.instanceMethod ({ cls := "ThirdAfter", name := "judge", desc := "(I)I" } : Jvm.MethodName)) ∈ lw_all := lw_g (lw_at lw_m4 205 rfl) rfl
theorem q1024 : (Jvm.Cond.selects "ThirdAfter" ({ cls := "ThirdAfter", name := "judge", desc := "(I)I" } : Jvm.MethodName) ({ cls := "ThirdAfter", name := "judge", desc := "(I)I" } : Jvm.MethodName)) ∈ lw_all := lw_g (lw_at lw_m4 206 rfl) rfl
theorem q1025 : (Jvm.Cond.code ({ cls := "ThirdAfter", name := "judge", desc := "(I)I" } : Jvm.MethodName) prog_1_method_52_code (3 : Nat) (Option.some Jvm.ClassFile.FieldType.int)) ∈ lw_all := lw_g (lw_at lw_m4 207 rfl) rfl
theorem q1026 : (Jvm.Cond.methodLink "ThirdAfter" (355 : Nat) ({ cls := "ThirdAfter", name := "areShelves", desc := "(I)Z" } : Jvm.MethodName)) ∈ lw_all := lw_g (lw_at lw_m4 208 rfl) rfl
theorem q1027 : (Jvm.Cond.static ({ cls := "ThirdAfter", name := "areShelves", desc := "(I)Z" } : Jvm.MethodName)) ∈ lw_all := lw_g (lw_at lw_m4 209 rfl) rfl
theorem q1028 : (Jvm.Cond.code ({ cls := "ThirdAfter", name := "areShelves", desc := "(I)Z" } : Jvm.MethodName) prog_1_method_49_code (1 : Nat) (Option.some Jvm.ClassFile.FieldType.boolean)) ∈ lw_all := lw_g (lw_at lw_m4 210 rfl) rfl
theorem q1029 : (Jvm.Cond.methodLink "ThirdAfter" (358 : Nat) ({ cls := "ThirdAfter", name := "layBoth", desc := "(I)I" } : Jvm.MethodName)) ∈ lw_all := lw_g (lw_at lw_m4 211 rfl) rfl
theorem q1030 : (Jvm.Cond.privateMethod ({ cls := "ThirdAfter", name := "layBoth", desc := "(I)I" } : Jvm.MethodName)) ∈ lw_tbl := lw_at lw_m4 212 rfl
theorem q1031 : (Jvm.Cond.instanceMethod ({ cls := "ThirdAfter", name := "layBoth", desc := "(I)I" } : Jvm.MethodName)) ∈ lw_all := lw_g (lw_at lw_m4 213 rfl) rfl
theorem q1032 : (Jvm.Cond.code ({ cls := "ThirdAfter", name := "layBoth", desc := "(I)I" } : Jvm.MethodName) prog_1_method_50_code (3 : Nat) (Option.some Jvm.ClassFile.FieldType.int)) ∈ lw_all := lw_g (lw_at lw_m4 214 rfl) rfl
theorem q1033 : (Jvm.Cond.methodLink "ThirdAfter" (352 : Nat) ({ cls := "ThirdAfter", name := "laySeen", desc := "(I)I" } : Jvm.MethodName)) ∈ lw_all := lw_g (lw_at lw_m4 215 rfl) rfl
theorem q1034 : (Jvm.Cond.privateMethod ({ cls := "ThirdAfter", name := "laySeen", desc := "(I)I" } : Jvm.MethodName)) ∈ lw_tbl := lw_at lw_m4 216 rfl
theorem q1035 : (Jvm.Cond.instanceMethod ({ cls := "ThirdAfter", name := "laySeen", desc := "(I)I" } : Jvm.MethodName)) ∈ lw_all := lw_g (lw_at lw_m4 217 rfl) rfl
theorem q1036 : (Jvm.Cond.codeWith ({ cls := "ThirdAfter", name := "laySeen", desc := "(I)I" } : Jvm.MethodName) prog_1_method_48_code (4 : Nat) (Option.some Jvm.ClassFile.FieldType.int) [((5 : Nat), (53 : Nat), (56 : Nat), (45 : Nat)), ((5 : Nat), (53 : Nat), (60 : Nat), (47 : Nat))]) ∈ lw_all := lw_g (lw_at lw_m4 218 rfl) rfl
theorem q1037 : (Jvm.Cond.methodLink "ThirdAfter" (361 : Nat) ({ cls := "ThirdAfter", name := "wrongIn", desc := "(LThirdAfter$Market;)I" } : Jvm.MethodName)) ∈ lw_all := lw_g (lw_at lw_m4 219 rfl) rfl
theorem q1038 : (Jvm.Cond.privateMethod ({ cls := "ThirdAfter", name := "wrongIn", desc := "(LThirdAfter$Market;)I" } : Jvm.MethodName)) ∈ lw_tbl := lw_at lw_m4 220 rfl
theorem q1039 : (Jvm.Cond.instanceMethod ({ cls := "ThirdAfter", name := "wrongIn", desc := "(LThirdAfter$Market;)I" } : Jvm.MethodName)) ∈ lw_all := lw_g (lw_at lw_m4 221 rfl) rfl
theorem q1040 : (Jvm.Cond.code ({ cls := "ThirdAfter", name := "wrongIn", desc := "(LThirdAfter$Market;)I" } : Jvm.MethodName) prog_1_method_51_code (3 : Nat) (Option.some Jvm.ClassFile.FieldType.int)) ∈ lw_all := lw_g (lw_at lw_m4 222 rfl) rfl
theorem q1042 : (Jvm.Cond.instanceMethod ({ cls := "ThirdAfter", name := "fits", desc := "(III)I" } : Jvm.MethodName)) ∈ lw_all := lw_g (lw_at lw_m4 224 rfl) rfl
theorem q1043 : (Jvm.Cond.selects "ThirdAfter" ({ cls := "ThirdAfter", name := "fits", desc := "(III)I" } : Jvm.MethodName) ({ cls := "ThirdAfter", name := "fits", desc := "(III)I" } : Jvm.MethodName)) ∈ lw_all := lw_g (lw_at lw_m4 225 rfl) rfl
theorem q1044 : (Jvm.Cond.code ({ cls := "ThirdAfter", name := "fits", desc := "(III)I" } : Jvm.MethodName) prog_1_method_56_code (5 : Nat) (Option.some Jvm.ClassFile.FieldType.int)) ∈ lw_all := lw_g (lw_at lw_m4 226 rfl) rfl
theorem q1045 : (Jvm.Cond.methodLink "ThirdAfter" (364 : Nat) ({ cls := "ThirdAfter", name := "thirds", desc := "()I" } : Jvm.MethodName)) ∈ lw_all := lw_g (lw_at lw_m4 227 rfl) rfl
theorem q1046 : (Jvm.Cond.privateMethod ({ cls := "ThirdAfter", name := "thirds", desc := "()I" } : Jvm.MethodName)) ∈ lw_tbl := lw_at lw_m4 228 rfl
theorem q1047 : (Jvm.Cond.instanceMethod ({ cls := "ThirdAfter", name := "thirds", desc := "()I" } : Jvm.MethodName)) ∈ lw_all := lw_g (lw_at lw_m4 229 rfl) rfl
theorem q1048 : (Jvm.Cond.code ({ cls := "ThirdAfter", name := "thirds", desc := "()I" } : Jvm.MethodName) prog_1_method_53_code (4 : Nat) (Option.some Jvm.ClassFile.FieldType.int)) ∈ lw_all := lw_g (lw_at lw_m4 230 rfl) rfl
theorem q1049 : (Jvm.Cond.methodLink "ThirdAfter" (367 : Nat) ({ cls := "ThirdAfter", name := "wanted", desc := "(IZ)I" } : Jvm.MethodName)) ∈ lw_all := lw_g (lw_at lw_m4 231 rfl) rfl
theorem q1050 : (Jvm.Cond.privateMethod ({ cls := "ThirdAfter", name := "wanted", desc := "(IZ)I" } : Jvm.MethodName)) ∈ lw_tbl := lw_at lw_m4 232 rfl
theorem q1051 : (Jvm.Cond.instanceMethod ({ cls := "ThirdAfter", name := "wanted", desc := "(IZ)I" } : Jvm.MethodName)) ∈ lw_all := lw_g (lw_at lw_m4 233 rfl) rfl
theorem q1052 : (Jvm.Cond.code ({ cls := "ThirdAfter", name := "wanted", desc := "(IZ)I" } : Jvm.MethodName) prog_1_method_55_code (6 : Nat) (Option.some Jvm.ClassFile.FieldType.int)) ∈ lw_all := lw_g (lw_at lw_m4 234 rfl) rfl
theorem q1053 : (Jvm.Cond.methodLink "ThirdAfter" (371 : Nat) ({ cls := "ThirdAfter", name := "whose", desc := "(I)I" } : Jvm.MethodName)) ∈ lw_all := lw_g (lw_at lw_m4 235 rfl) rfl
theorem q1054 : (Jvm.Cond.privateMethod ({ cls := "ThirdAfter", name := "whose", desc := "(I)I" } : Jvm.MethodName)) ∈ lw_tbl := lw_at lw_m4 236 rfl
theorem q1055 : (Jvm.Cond.instanceMethod ({ cls := "ThirdAfter", name := "whose", desc := "(I)I" } : Jvm.MethodName)) ∈ lw_all := lw_g (lw_at lw_m4 237 rfl) rfl
theorem q1056 : (Jvm.Cond.code ({ cls := "ThirdAfter", name := "whose", desc := "(I)I" } : Jvm.MethodName) prog_1_method_54_code (5 : Nat) (Option.some Jvm.ClassFile.FieldType.int)) ∈ lw_all := lw_g (lw_at lw_m4 238 rfl) rfl
theorem q1058 : (Jvm.Cond.instanceMethod ({ cls := "ThirdAfter", name := "byTurns", desc := "(III)I" } : Jvm.MethodName)) ∈ lw_all := lw_g (lw_at lw_m5 0 rfl) rfl
theorem q1059 : (Jvm.Cond.selects "ThirdAfter" ({ cls := "ThirdAfter", name := "byTurns", desc := "(III)I" } : Jvm.MethodName) ({ cls := "ThirdAfter", name := "byTurns", desc := "(III)I" } : Jvm.MethodName)) ∈ lw_all := lw_g (lw_at lw_m5 1 rfl) rfl
theorem q1060 : (Jvm.Cond.code ({ cls := "ThirdAfter", name := "byTurns", desc := "(III)I" } : Jvm.MethodName) prog_1_method_58_code (5 : Nat) (Option.some Jvm.ClassFile.FieldType.int)) ∈ lw_all := lw_g (lw_at lw_m5 2 rfl) rfl
theorem q1061 : (Jvm.Cond.constant "ThirdAfter" (383 : Nat) (-2000000000 : Int32)) ∈ lw_all := lw_g (lw_at lw_m5 3 rfl) rfl
theorem q1062 : (Jvm.Cond.methodLink "ThirdAfter" (380 : Nat) ({ cls := "ThirdAfter", name := "bestOf", desc := "(II)I" } : Jvm.MethodName)) ∈ lw_all := lw_g (lw_at lw_m5 4 rfl) rfl
theorem q1063 : (Jvm.Cond.privateMethod ({ cls := "ThirdAfter", name := "bestOf", desc := "(II)I" } : Jvm.MethodName)) ∈ lw_tbl := lw_at lw_m5 5 rfl
theorem q1064 : (Jvm.Cond.instanceMethod ({ cls := "ThirdAfter", name := "bestOf", desc := "(II)I" } : Jvm.MethodName)) ∈ lw_all := lw_g (lw_at lw_m5 6 rfl) rfl
theorem q1065 : (Jvm.Cond.code ({ cls := "ThirdAfter", name := "bestOf", desc := "(II)I" } : Jvm.MethodName) prog_1_method_57_code (7 : Nat) (Option.some Jvm.ClassFile.FieldType.int)) ∈ lw_all := lw_g (lw_at lw_m5 7 rfl) rfl
theorem q1067 : (Jvm.Cond.instanceMethod ({ cls := "ThirdAfter", name := "drawn", desc := "(III)I" } : Jvm.MethodName)) ∈ lw_all := lw_g (lw_at lw_m5 9 rfl) rfl
theorem q1068 : (Jvm.Cond.selects "ThirdAfter" ({ cls := "ThirdAfter", name := "drawn", desc := "(III)I" } : Jvm.MethodName) ({ cls := "ThirdAfter", name := "drawn", desc := "(III)I" } : Jvm.MethodName)) ∈ lw_all := lw_g (lw_at lw_m5 10 rfl) rfl
theorem q1069 : (Jvm.Cond.code ({ cls := "ThirdAfter", name := "drawn", desc := "(III)I" } : Jvm.MethodName) prog_1_method_59_code (10 : Nat) (Option.some Jvm.ClassFile.FieldType.int)) ∈ lw_all := lw_g (lw_at lw_m5 11 rfl) rfl
theorem q1070 : (Jvm.Cond.constant "ThirdAfter" (384 : Nat) (1103515245 : Int32)) ∈ lw_all := lw_g (lw_at lw_m5 12 rfl) rfl
theorem q1072 : (Jvm.Cond.instanceMethod ({ cls := "ThirdAfter", name := "comes", desc := "(I)I" } : Jvm.MethodName)) ∈ lw_all := lw_g (lw_at lw_m5 14 rfl) rfl
theorem q1073 : (Jvm.Cond.selects "ThirdAfter" ({ cls := "ThirdAfter", name := "comes", desc := "(I)I" } : Jvm.MethodName) ({ cls := "ThirdAfter", name := "comes", desc := "(I)I" } : Jvm.MethodName)) ∈ lw_all := lw_g (lw_at lw_m5 15 rfl) rfl
theorem q1074 : (Jvm.Cond.code ({ cls := "ThirdAfter", name := "comes", desc := "(I)I" } : Jvm.MethodName) prog_1_method_60_code (4 : Nat) (Option.some Jvm.ClassFile.FieldType.int)) ∈ lw_all := lw_g (lw_at lw_m5 16 rfl) rfl
theorem q1076 : (Jvm.Cond.instanceMethod ({ cls := "ThirdAfter", name := "evening", desc := "()I" } : Jvm.MethodName)) ∈ lw_all := lw_g (lw_at lw_m5 18 rfl) rfl
theorem q1077 : (Jvm.Cond.selects "ThirdAfter" ({ cls := "ThirdAfter", name := "evening", desc := "()I" } : Jvm.MethodName) ({ cls := "ThirdAfter", name := "evening", desc := "()I" } : Jvm.MethodName)) ∈ lw_all := lw_g (lw_at lw_m5 19 rfl) rfl
theorem q1078 : (Jvm.Cond.code ({ cls := "ThirdAfter", name := "evening", desc := "()I" } : Jvm.MethodName) prog_1_method_61_code (1 : Nat) (Option.some Jvm.ClassFile.FieldType.int)) ∈ lw_all := lw_g (lw_at lw_m5 20 rfl) rfl
theorem q1080 : (Jvm.Cond.instanceMethod ({ cls := "ThirdAfter", name := "gives", desc := "(III)I" } : Jvm.MethodName)) ∈ lw_all := lw_g (lw_at lw_m5 22 rfl) rfl
theorem q1081 : (Jvm.Cond.selects "ThirdAfter" ({ cls := "ThirdAfter", name := "gives", desc := "(III)I" } : Jvm.MethodName) ({ cls := "ThirdAfter", name := "gives", desc := "(III)I" } : Jvm.MethodName)) ∈ lw_all := lw_g (lw_at lw_m5 23 rfl) rfl
theorem q1082 : (Jvm.Cond.code ({ cls := "ThirdAfter", name := "gives", desc := "(III)I" } : Jvm.MethodName) prog_1_method_62_code (6 : Nat) (Option.some Jvm.ClassFile.FieldType.int)) ∈ lw_all := lw_g (lw_at lw_m5 24 rfl) rfl
theorem q1084 : (Jvm.Cond.instanceMethod ({ cls := "ThirdAfter", name := "led", desc := "(I)I" } : Jvm.MethodName)) ∈ lw_all := lw_g (lw_at lw_m5 26 rfl) rfl
theorem q1085 : (Jvm.Cond.selects "ThirdAfter" ({ cls := "ThirdAfter", name := "led", desc := "(I)I" } : Jvm.MethodName) ({ cls := "ThirdAfter", name := "led", desc := "(I)I" } : Jvm.MethodName)) ∈ lw_all := lw_g (lw_at lw_m5 27 rfl) rfl
theorem q1086 : (Jvm.Cond.code ({ cls := "ThirdAfter", name := "led", desc := "(I)I" } : Jvm.MethodName) prog_1_method_63_code (2 : Nat) (Option.some Jvm.ClassFile.FieldType.int)) ∈ lw_all := lw_g (lw_at lw_m5 28 rfl) rfl
theorem q1088 : (Jvm.Cond.instanceMethod ({ cls := "ThirdAfter", name := "image", desc := "()I" } : Jvm.MethodName)) ∈ lw_all := lw_g (lw_at lw_m5 30 rfl) rfl
theorem q1089 : (Jvm.Cond.selects "ThirdAfter" ({ cls := "ThirdAfter", name := "image", desc := "()I" } : Jvm.MethodName) ({ cls := "ThirdAfter", name := "image", desc := "()I" } : Jvm.MethodName)) ∈ lw_all := lw_g (lw_at lw_m5 31 rfl) rfl
theorem q1090 : (Jvm.Cond.code ({ cls := "ThirdAfter", name := "image", desc := "()I" } : Jvm.MethodName) prog_1_method_64_code (1 : Nat) (Option.some Jvm.ClassFile.FieldType.int)) ∈ lw_all := lw_g (lw_at lw_m5 32 rfl) rfl
theorem q1092 : (Jvm.Cond.instanceMethod ({ cls := "ThirdAfter", name := "back", desc := "()I" } : Jvm.MethodName)) ∈ lw_all := lw_g (lw_at lw_m5 34 rfl) rfl
theorem q1093 : (Jvm.Cond.selects "ThirdAfter" ({ cls := "ThirdAfter", name := "back", desc := "()I" } : Jvm.MethodName) ({ cls := "ThirdAfter", name := "back", desc := "()I" } : Jvm.MethodName)) ∈ lw_all := lw_g (lw_at lw_m5 35 rfl) rfl
theorem q1094 : (Jvm.Cond.code ({ cls := "ThirdAfter", name := "back", desc := "()I" } : Jvm.MethodName) prog_1_method_65_code (2 : Nat) (Option.some Jvm.ClassFile.FieldType.int)) ∈ lw_all := lw_g (lw_at lw_m5 36 rfl) rfl
theorem q1095 : (Jvm.Cond.methodLink "ThirdAfter" (422 : Nat) ({ cls := "java/lang/System", name := "arraycopy", desc := "(Ljava/lang/Object;ILjava/lang/Object;II)V" } : Jvm.MethodName)) ∈ lw_all := lw_g (lw_at lw_m5 37 rfl) rfl
theorem q1097 : (Jvm.Cond.instanceMethod ({ cls := "ThirdAfter", name := "body", desc := "(I)I" } : Jvm.MethodName)) ∈ lw_all := lw_g (lw_at lw_m5 39 rfl) rfl
theorem q1098 : (Jvm.Cond.selects "ThirdAfter" ({ cls := "ThirdAfter", name := "body", desc := "(I)I" } : Jvm.MethodName) ({ cls := "ThirdAfter", name := "body", desc := "(I)I" } : Jvm.MethodName)) ∈ lw_all := lw_g (lw_at lw_m5 40 rfl) rfl
theorem q1099 : (Jvm.Cond.code ({ cls := "ThirdAfter", name := "body", desc := "(I)I" } : Jvm.MethodName) prog_1_method_68_code (2 : Nat) (Option.some Jvm.ClassFile.FieldType.int)) ∈ lw_all := lw_g (lw_at lw_m5 41 rfl) rfl
theorem q1100 : (Jvm.Cond.methodLink "ThirdAfter" (455 : Nat) ({ cls := "ThirdAfter", name := "made", desc := "(I)LThirdAfter$Latch;" } : Jvm.MethodName)) ∈ lw_all := lw_g (lw_at lw_m5 42 rfl) rfl
theorem q1101 : (Jvm.Cond.privateMethod ({ cls := "ThirdAfter", name := "made", desc := "(I)LThirdAfter$Latch;" } : Jvm.MethodName)) ∈ lw_tbl := lw_at lw_m5 43 rfl
theorem q1102 : (Jvm.Cond.instanceMethod ({ cls := "ThirdAfter", name := "made", desc := "(I)LThirdAfter$Latch;" } : Jvm.MethodName)) ∈ lw_all := lw_g (lw_at lw_m5 44 rfl) rfl
theorem q1103 : (Jvm.Cond.code ({ cls := "ThirdAfter", name := "made", desc := "(I)LThirdAfter$Latch;" } : Jvm.MethodName) prog_1_method_67_code (2 : Nat) (Option.some (Jvm.ClassFile.FieldType.object "ThirdAfter$Latch"))) ∈ lw_all := lw_g (lw_at lw_m5 45 rfl) rfl
theorem q1104 : (Jvm.Cond.classLink "ThirdAfter" (431 : Nat) "ThirdAfter$Baker") ∈ lw_all := lw_g (lw_at lw_m5 46 rfl) rfl
theorem q1106 : (Jvm.Cond.methodLink "ThirdAfter" (433 : Nat) ({ cls := "ThirdAfter$Baker", name := "<init>", desc := "(LThirdAfter;I)V" } : Jvm.MethodName)) ∈ lw_all := lw_g (lw_at lw_m5 48 rfl) rfl
theorem q1126 : (Jvm.Cond.classLink "ThirdAfter" (436 : Nat) "ThirdAfter$Priest") ∈ lw_all := lw_g (lw_at lw_m5 68 rfl) rfl
theorem q1128 : (Jvm.Cond.methodLink "ThirdAfter" (438 : Nat) ({ cls := "ThirdAfter$Priest", name := "<init>", desc := "(LThirdAfter;I)V" } : Jvm.MethodName)) ∈ lw_all := lw_g (lw_at lw_m5 70 rfl) rfl
theorem q1138 : (Jvm.Cond.classLink "ThirdAfter" (439 : Nat) "ThirdAfter$Cow") ∈ lw_all := lw_g (lw_at lw_m5 80 rfl) rfl
theorem q1140 : (Jvm.Cond.methodLink "ThirdAfter" (441 : Nat) ({ cls := "ThirdAfter$Cow", name := "<init>", desc := "(LThirdAfter;I)V" } : Jvm.MethodName)) ∈ lw_all := lw_g (lw_at lw_m5 82 rfl) rfl
theorem q1151 : (Jvm.Cond.classLink "ThirdAfter" (442 : Nat) "ThirdAfter$Rent") ∈ lw_all := lw_g (lw_at lw_m5 93 rfl) rfl
theorem q1153 : (Jvm.Cond.methodLink "ThirdAfter" (444 : Nat) ({ cls := "ThirdAfter$Rent", name := "<init>", desc := "(LThirdAfter;I)V" } : Jvm.MethodName)) ∈ lw_all := lw_g (lw_at lw_m5 95 rfl) rfl
theorem q1164 : (Jvm.Cond.classLink "ThirdAfter" (445 : Nat) "ThirdAfter$Dusk") ∈ lw_all := lw_g (lw_at lw_m5 106 rfl) rfl
theorem q1166 : (Jvm.Cond.methodLink "ThirdAfter" (447 : Nat) ({ cls := "ThirdAfter$Dusk", name := "<init>", desc := "(LThirdAfter;I)V" } : Jvm.MethodName)) ∈ lw_all := lw_g (lw_at lw_m5 108 rfl) rfl
theorem q1178 : (Jvm.Cond.classLink "ThirdAfter" (448 : Nat) "ThirdAfter$Hound") ∈ lw_all := lw_g (lw_at lw_m5 120 rfl) rfl
theorem q1180 : (Jvm.Cond.methodLink "ThirdAfter" (450 : Nat) ({ cls := "ThirdAfter$Hound", name := "<init>", desc := "(LThirdAfter;I)V" } : Jvm.MethodName)) ∈ lw_all := lw_g (lw_at lw_m5 122 rfl) rfl
theorem q1190 : (Jvm.Cond.classLink "ThirdAfter" (451 : Nat) "ThirdAfter$Purse") ∈ lw_all := lw_g (lw_at lw_m5 132 rfl) rfl
theorem q1192 : (Jvm.Cond.methodLink "ThirdAfter" (453 : Nat) ({ cls := "ThirdAfter$Purse", name := "<init>", desc := "(LThirdAfter;I)V" } : Jvm.MethodName)) ∈ lw_all := lw_g (lw_at lw_m5 134 rfl) rfl
theorem q1205 : (Jvm.Cond.methodLink "ThirdAfter" (454 : Nat) ({ cls := "ThirdAfter$Latch", name := "<init>", desc := "(LThirdAfter;I)V" } : Jvm.MethodName)) ∈ lw_all := lw_g (lw_at lw_m5 147 rfl) rfl
theorem q1210 : (Jvm.Cond.instanceMethod ({ cls := "ThirdAfter", name := "act", desc := "(III)I" } : Jvm.MethodName)) ∈ lw_all := lw_g (lw_at lw_m5 152 rfl) rfl
theorem q1211 : (Jvm.Cond.selects "ThirdAfter" ({ cls := "ThirdAfter", name := "act", desc := "(III)I" } : Jvm.MethodName) ({ cls := "ThirdAfter", name := "act", desc := "(III)I" } : Jvm.MethodName)) ∈ lw_all := lw_g (lw_at lw_m5 153 rfl) rfl
theorem q1212 : (Jvm.Cond.code ({ cls := "ThirdAfter", name := "act", desc := "(III)I" } : Jvm.MethodName) prog_1_method_70_code (6 : Nat) (Option.some Jvm.ClassFile.FieldType.int)) ∈ lw_all := lw_g (lw_at lw_m5 154 rfl) rfl
theorem q1213 : (Jvm.Cond.methodLink "ThirdAfter" (462 : Nat) ({ cls := "ThirdAfter", name := "isBody", desc := "(I)Z" } : Jvm.MethodName)) ∈ lw_all := lw_g (lw_at lw_m5 155 rfl) rfl
theorem q1214 : (Jvm.Cond.privateMethod ({ cls := "ThirdAfter", name := "isBody", desc := "(I)Z" } : Jvm.MethodName)) ∈ lw_tbl := lw_at lw_m5 156 rfl
theorem q1215 : (Jvm.Cond.instanceMethod ({ cls := "ThirdAfter", name := "isBody", desc := "(I)Z" } : Jvm.MethodName)) ∈ lw_all := lw_g (lw_at lw_m5 157 rfl) rfl
theorem q1216 : (Jvm.Cond.code ({ cls := "ThirdAfter", name := "isBody", desc := "(I)Z" } : Jvm.MethodName) prog_1_method_66_code (2 : Nat) (Option.some Jvm.ClassFile.FieldType.boolean)) ∈ lw_all := lw_g (lw_at lw_m5 158 rfl) rfl
theorem q1217 : (Jvm.Cond.interfaceEntry "ThirdAfter" (465 : Nat)) ∈ lw_tbl := lw_at lw_m5 159 rfl
theorem q1218 : (Jvm.Cond.methodLink "ThirdAfter" (465 : Nat) ({ cls := "ThirdAfter$Comes", name := "comesBy", desc := "(I)I" } : Jvm.MethodName)) ∈ lw_all := lw_g (lw_at lw_m5 160 rfl) rfl
theorem q1305 : (Jvm.Cond.interfaceEntry "ThirdAfter" (470 : Nat)) ∈ lw_tbl := lw_at lw_m6 7 rfl
theorem q1306 : (Jvm.Cond.methodLink "ThirdAfter" (470 : Nat) ({ cls := "ThirdAfter$Tells", name := "tells", desc := "(I)I" } : Jvm.MethodName)) ∈ lw_all := lw_g (lw_at lw_m6 8 rfl) rfl
theorem q1448 : (Jvm.Cond.methodLink "ThirdAfter" (475 : Nat) ({ cls := "ThirdAfter$Latch", name := "owes", desc := "(I)I" } : Jvm.MethodName)) ∈ lw_all := lw_g (lw_at lw_m6 150 rfl) rfl
theorem q1449 : (Jvm.Cond.methodLink "ThirdAfter" (477 : Nat) ({ cls := "ThirdAfter$Latch", name := "paysOut", desc := "(I)I" } : Jvm.MethodName)) ∈ lw_all := lw_g (lw_at lw_m6 151 rfl) rfl
theorem q1451 : (Jvm.Cond.instanceMethod ({ cls := "ThirdAfter", name := "trace", desc := "(I)I" } : Jvm.MethodName)) ∈ lw_all := lw_g (lw_at lw_m6 153 rfl) rfl
theorem q1452 : (Jvm.Cond.selects "ThirdAfter" ({ cls := "ThirdAfter", name := "trace", desc := "(I)I" } : Jvm.MethodName) ({ cls := "ThirdAfter", name := "trace", desc := "(I)I" } : Jvm.MethodName)) ∈ lw_all := lw_g (lw_at lw_m6 154 rfl) rfl
theorem q1453 : (Jvm.Cond.code ({ cls := "ThirdAfter", name := "trace", desc := "(I)I" } : Jvm.MethodName) prog_1_method_71_code (2 : Nat) (Option.some Jvm.ClassFile.FieldType.int)) ∈ lw_all := lw_g (lw_at lw_m6 155 rfl) rfl
theorem q1455 : (Jvm.Cond.instanceMethod ({ cls := "ThirdAfter", name := "keep", desc := "(II)I" } : Jvm.MethodName)) ∈ lw_all := lw_g (lw_at lw_m6 157 rfl) rfl
theorem q1456 : (Jvm.Cond.selects "ThirdAfter" ({ cls := "ThirdAfter", name := "keep", desc := "(II)I" } : Jvm.MethodName) ({ cls := "ThirdAfter", name := "keep", desc := "(II)I" } : Jvm.MethodName)) ∈ lw_all := lw_g (lw_at lw_m6 158 rfl) rfl
theorem q1457 : (Jvm.Cond.code ({ cls := "ThirdAfter", name := "keep", desc := "(II)I" } : Jvm.MethodName) prog_1_method_72_code (3 : Nat) (Option.some Jvm.ClassFile.FieldType.int)) ∈ lw_all := lw_g (lw_at lw_m6 159 rfl) rfl
theorem q1459 : (Jvm.Cond.instanceMethod ({ cls := "ThirdAfter", name := "row", desc := "(III)I" } : Jvm.MethodName)) ∈ lw_all := lw_g (lw_at lw_m6 161 rfl) rfl
theorem q1460 : (Jvm.Cond.selects "ThirdAfter" ({ cls := "ThirdAfter", name := "row", desc := "(III)I" } : Jvm.MethodName) ({ cls := "ThirdAfter", name := "row", desc := "(III)I" } : Jvm.MethodName)) ∈ lw_all := lw_g (lw_at lw_m6 162 rfl) rfl
theorem q1461 : (Jvm.Cond.codeWith ({ cls := "ThirdAfter", name := "row", desc := "(III)I" } : Jvm.MethodName) prog_1_method_74_code (5 : Nat) (Option.some Jvm.ClassFile.FieldType.int) [((24 : Nat), (35 : Nat), (38 : Nat), (496 : Nat))]) ∈ lw_all := lw_g (lw_at lw_m6 163 rfl) rfl
theorem q1462 : (Jvm.Cond.classLink "ThirdAfter" (496 : Nat) "java/lang/NegativeArraySizeException") ∈ lw_all := lw_g (lw_at lw_m6 164 rfl) rfl
theorem q1476 : (Jvm.Cond.methodLink "ThirdAfter" (492 : Nat) ({ cls := "ThirdAfter", name := "newRow", desc := "(II)LThirdAfter$Row;" } : Jvm.MethodName)) ∈ lw_all := lw_g (lw_at lw_m6 178 rfl) rfl
theorem q1477 : (Jvm.Cond.static ({ cls := "ThirdAfter", name := "newRow", desc := "(II)LThirdAfter$Row;" } : Jvm.MethodName)) ∈ lw_all := lw_g (lw_at lw_m6 179 rfl) rfl
theorem q1478 : (Jvm.Cond.code ({ cls := "ThirdAfter", name := "newRow", desc := "(II)LThirdAfter$Row;" } : Jvm.MethodName) prog_1_method_73_code (2 : Nat) (Option.some (Jvm.ClassFile.FieldType.object "ThirdAfter$Row"))) ∈ lw_all := lw_g (lw_at lw_m6 180 rfl) rfl
theorem q1480 : (Jvm.Cond.methodLink "ThirdAfter" (480 : Nat) ({ cls := "ThirdAfter$ByteRow", name := "<init>", desc := "(I)V" } : Jvm.MethodName)) ∈ lw_all := lw_g (lw_at lw_m6 182 rfl) rfl
theorem q1492 : (Jvm.Cond.methodLink "ThirdAfter" (482 : Nat) ({ cls := "ThirdAfter$ShortRow", name := "<init>", desc := "(I)V" } : Jvm.MethodName)) ∈ lw_all := lw_g (lw_at lw_m6 194 rfl) rfl
theorem q1501 : (Jvm.Cond.classLink "ThirdAfter" (483 : Nat) "ThirdAfter$IntRow") ∈ lw_all := lw_g (lw_at lw_m6 203 rfl) rfl
theorem q1503 : (Jvm.Cond.methodLink "ThirdAfter" (485 : Nat) ({ cls := "ThirdAfter$IntRow", name := "<init>", desc := "(I)V" } : Jvm.MethodName)) ∈ lw_all := lw_g (lw_at lw_m6 205 rfl) rfl
theorem q1511 : (Jvm.Cond.classLink "ThirdAfter" (486 : Nat) "ThirdAfter$LongRow") ∈ lw_all := lw_g (lw_at lw_m6 213 rfl) rfl
theorem q1513 : (Jvm.Cond.methodLink "ThirdAfter" (488 : Nat) ({ cls := "ThirdAfter$LongRow", name := "<init>", desc := "(I)V" } : Jvm.MethodName)) ∈ lw_all := lw_g (lw_at lw_m6 215 rfl) rfl
theorem q1522 : (Jvm.Cond.classLink "ThirdAfter" (489 : Nat) "ThirdAfter$BooleanRow") ∈ lw_all := lw_g (lw_at lw_m6 224 rfl) rfl
theorem q1524 : (Jvm.Cond.methodLink "ThirdAfter" (491 : Nat) ({ cls := "ThirdAfter$BooleanRow", name := "<init>", desc := "(I)V" } : Jvm.MethodName)) ∈ lw_all := lw_g (lw_at lw_m6 226 rfl) rfl
theorem q1534 : (Jvm.Cond.instanceMethod ({ cls := "ThirdAfter", name := "put", desc := "(IIJ)I" } : Jvm.MethodName)) ∈ lw_all := lw_g (lw_at lw_m6 236 rfl) rfl
theorem q1535 : (Jvm.Cond.selects "ThirdAfter" ({ cls := "ThirdAfter", name := "put", desc := "(IIJ)I" } : Jvm.MethodName) ({ cls := "ThirdAfter", name := "put", desc := "(IIJ)I" } : Jvm.MethodName)) ∈ lw_all := lw_g (lw_at lw_m6 237 rfl) rfl
theorem q1536 : (Jvm.Cond.codeWith ({ cls := "ThirdAfter", name := "put", desc := "(IIJ)I" } : Jvm.MethodName) prog_1_method_75_code (6 : Nat) (Option.some Jvm.ClassFile.FieldType.int) [((9 : Nat), (31 : Nat), (32 : Nat), (47 : Nat)), ((9 : Nat), (31 : Nat), (37 : Nat), (45 : Nat)), ((9 : Nat), (31 : Nat), (42 : Nat), (49 : Nat))]) ∈ lw_all := lw_g (lw_at lw_m6 238 rfl) rfl
theorem q1537 : (Jvm.Cond.classLink "ThirdAfter" (498 : Nat) "ThirdAfter$Row") ∈ lw_all := lw_g (lw_at lw_m6 239 rfl) rfl
theorem q1538 : (Jvm.Cond.methodLink "ThirdAfter" (500 : Nat) ({ cls := "ThirdAfter$Row", name := "put", desc := "(IJ)Z" } : Jvm.MethodName)) ∈ lw_all := lw_g (lw_at lw_m7 0 rfl) rfl
theorem q1557 : (Jvm.Cond.instanceMethod ({ cls := "ThirdAfter", name := "element", desc := "(II)J" } : Jvm.MethodName)) ∈ lw_all := lw_g (lw_at lw_m7 19 rfl) rfl
theorem q1558 : (Jvm.Cond.selects "ThirdAfter" ({ cls := "ThirdAfter", name := "element", desc := "(II)J" } : Jvm.MethodName) ({ cls := "ThirdAfter", name := "element", desc := "(II)J" } : Jvm.MethodName)) ∈ lw_all := lw_g (lw_at lw_m7 20 rfl) rfl
theorem q1559 : (Jvm.Cond.codeWith ({ cls := "ThirdAfter", name := "element", desc := "(II)J" } : Jvm.MethodName) prog_1_method_76_code (4 : Nat) (Option.some Jvm.ClassFile.FieldType.long) [((11 : Nat), (24 : Nat), (25 : Nat), (47 : Nat)), ((11 : Nat), (24 : Nat), (30 : Nat), (45 : Nat)), ((11 : Nat), (24 : Nat), (35 : Nat), (49 : Nat))]) ∈ lw_all := lw_g (lw_at lw_m7 21 rfl) rfl
theorem q1560 : (Jvm.Cond.constantLong "ThirdAfter" (506 : Nat) (-9223372036854775808 : Int64)) ∈ lw_all := lw_g (lw_at lw_m7 22 rfl) rfl
theorem q1561 : (Jvm.Cond.methodLink "ThirdAfter" (508 : Nat) ({ cls := "ThirdAfter$Row", name := "at", desc := "(I)J" } : Jvm.MethodName)) ∈ lw_all := lw_g (lw_at lw_m7 23 rfl) rfl
theorem q1576 : (Jvm.Cond.instanceMethod ({ cls := "ThirdAfter", name := "shift", desc := "(IIIII)I" } : Jvm.MethodName)) ∈ lw_all := lw_g (lw_at lw_m7 38 rfl) rfl
theorem q1577 : (Jvm.Cond.selects "ThirdAfter" ({ cls := "ThirdAfter", name := "shift", desc := "(IIIII)I" } : Jvm.MethodName) ({ cls := "ThirdAfter", name := "shift", desc := "(IIIII)I" } : Jvm.MethodName)) ∈ lw_all := lw_g (lw_at lw_m7 39 rfl) rfl
theorem q1578 : (Jvm.Cond.codeWith ({ cls := "ThirdAfter", name := "shift", desc := "(IIIII)I" } : Jvm.MethodName) prog_1_method_77_code (7 : Nat) (Option.some Jvm.ClassFile.FieldType.int) [((37 : Nat), (63 : Nat), (66 : Nat), (45 : Nat)), ((37 : Nat), (63 : Nat), (71 : Nat), (49 : Nat))]) ∈ lw_all := lw_g (lw_at lw_m7 40 rfl) rfl
theorem q1579 : (Jvm.Cond.methodLink "ThirdAfter" (509 : Nat) ({ cls := "ThirdAfter$Row", name := "copy", desc := "(ILThirdAfter$Row;II)V" } : Jvm.MethodName)) ∈ lw_all := lw_g (lw_at lw_m7 41 rfl) rfl
theorem q1608 : (Jvm.Cond.instanceMethod ({ cls := "ThirdAfter", name := "taken", desc := "(II)I" } : Jvm.MethodName)) ∈ lw_all := lw_g (lw_at lw_m7 70 rfl) rfl
theorem q1609 : (Jvm.Cond.selects "ThirdAfter" ({ cls := "ThirdAfter", name := "taken", desc := "(II)I" } : Jvm.MethodName) ({ cls := "ThirdAfter", name := "taken", desc := "(II)I" } : Jvm.MethodName)) ∈ lw_all := lw_g (lw_at lw_m7 71 rfl) rfl
theorem q1610 : (Jvm.Cond.codeWith ({ cls := "ThirdAfter", name := "taken", desc := "(II)I" } : Jvm.MethodName) prog_1_method_78_code (4 : Nat) (Option.some Jvm.ClassFile.FieldType.int) [((19 : Nat), (46 : Nat), (47 : Nat), (47 : Nat)), ((19 : Nat), (46 : Nat), (51 : Nat), (45 : Nat))]) ∈ lw_all := lw_g (lw_at lw_m7 72 rfl) rfl
theorem q1611 : (Jvm.Cond.methodLink "ThirdAfter" (513 : Nat) ({ cls := "ThirdAfter$Latch", name := "isUnder", desc := "(I)Z" } : Jvm.MethodName)) ∈ lw_all := lw_g (lw_at lw_m7 73 rfl) rfl
theorem q1644 : (Jvm.Cond.methodLink "ThirdAfter" (516 : Nat) ({ cls := "ThirdAfter$Latch", name := "kind", desc := "()I" } : Jvm.MethodName)) ∈ lw_all := lw_g (lw_at lw_m7 106 rfl) rfl
theorem q1671 : (Jvm.Cond.instanceMethod ({ cls := "ThirdAfter", name := "count", desc := "(I)I" } : Jvm.MethodName)) ∈ lw_all := lw_g (lw_at lw_m7 133 rfl) rfl
theorem q1672 : (Jvm.Cond.selects "ThirdAfter" ({ cls := "ThirdAfter", name := "count", desc := "(I)I" } : Jvm.MethodName) ({ cls := "ThirdAfter", name := "count", desc := "(I)I" } : Jvm.MethodName)) ∈ lw_all := lw_g (lw_at lw_m7 134 rfl) rfl
theorem q1673 : (Jvm.Cond.code ({ cls := "ThirdAfter", name := "count", desc := "(I)I" } : Jvm.MethodName) prog_1_method_79_code (2 : Nat) (Option.some Jvm.ClassFile.FieldType.int)) ∈ lw_all := lw_g (lw_at lw_m7 135 rfl) rfl
theorem in_X0 : ∀ w ∈ wsX00, w ∈ lw_all := lw_in wsX00 [754, 756, 758, 760, 762, 764, 766, 768, 770, 772, 774, 776, 778, 780, 782, 784, 786, 788, 790, 792, 794, 796, 798, 800, 802, 804, 806, 808, 810, 812, 814, 816, 818, 820, 822, 824, 826, 828, 830, 832, 834, 836, 838, 840] (by decide +kernel) (by decide +kernel)
/-! ThirdAfter$Facts -/
def RX1 : String := "ThirdAfter$Facts"
def TX1 : u_T := fun k => match k with
  | _ => ("ThirdAfter$Facts", "named", "[I", true)
def tyX1 : Nat → FieldType := fun k => match k with
  | _ => .array .int
abbrev wsX10 : List Cond := u_ws RX1 TX1 1
theorem nmX1 : ∀ a, a < 1 → ∀ b, b < 1 → a ≠ b → (TX1 a).2.1 ≠ (TX1 b).2.1 := by decide +kernel
theorem tyX1_ok : ∀ k, k < 1 → parseFieldDescriptor (TX1 k).2.2.1 = some (tyX1 k) := by decide +kernel
abbrev cX1_init : ByteArray := prog_11_method_1_code
def yX1_init : MethodName := ⟨RX1, "<init>", "()V"⟩
theorem q100 : (Jvm.Cond.initialized "ThirdAfter$Facts") ∈ lw_all := lw_g (lw_at lw_m1 2 rfl) rfl
theorem q640 : (Jvm.Cond.instantiable "ThirdAfter$Facts" (1 : Nat)) ∈ lw_all := lw_g (lw_at lw_m3 62 rfl) rfl
theorem q642 : (Jvm.Cond.instanceMethod ({ cls := "ThirdAfter$Facts", name := "<init>", desc := "()V" } : Jvm.MethodName)) ∈ lw_all := lw_g (lw_at lw_m3 64 rfl) rfl
theorem q643 : (Jvm.Cond.code ({ cls := "ThirdAfter$Facts", name := "<init>", desc := "()V" } : Jvm.MethodName) prog_11_method_1_code (1 : Nat) (Option.none : Option Jvm.ClassFile.FieldType)) ∈ lw_all := lw_g (lw_at lw_m3 65 rfl) rfl
theorem q644 : (Jvm.Cond.methodLink "ThirdAfter$Facts" (1 : Nat) ({ cls := "java/lang/Object", name := "<init>", desc := "()V" } : Jvm.MethodName)) ∈ lw_all := lw_g (lw_at lw_m3 66 rfl) rfl
theorem q645 : (Jvm.Cond.fieldLink "ThirdAfter$Facts" (7 : Nat) "ThirdAfter$Facts" "named" "[I") ∈ lw_all := lw_g (lw_at lw_m3 67 rfl) rfl
theorem q648 : (Jvm.Cond.laysFinal "ThirdAfter$Facts" "ThirdAfter$Facts" "named" "[I") ∈ lw_all := lw_g (lw_at lw_m3 70 rfl) rfl
theorem q649 : (Jvm.Cond.soleField "ThirdAfter$Facts" "named") ∈ lw_all := lw_g (lw_at lw_m3 71 rfl) rfl
theorem q650 : (Jvm.Cond.superclass "ThirdAfter$Facts" "java/lang/Object") ∈ lw_all := lw_g (lw_at lw_m3 72 rfl) rfl
theorem in_X1 : ∀ w ∈ wsX10, w ∈ lw_all := lw_in wsX10 [648] (by decide +kernel) (by decide +kernel)
/-! ThirdAfter$Market -/
def RX2 : String := "ThirdAfter$Market"
def TX2 : u_T := fun k => match k with
  | 0 => ("ThirdAfter$Market", "purse", "[I", true)
  | 1 => ("ThirdAfter$Market", "wants", "[I", true)
  | 2 => ("ThirdAfter$Market", "often", "[I", true)
  | 3 => ("ThirdAfter$Market", "owes", "[I", true)
  | 4 => ("ThirdAfter$Market", "debt", "[I", true)
  | 5 => ("ThirdAfter$Market", "open", "I", false)
  | 6 => ("ThirdAfter$Market", "came", "I", false)
  | 7 => ("ThirdAfter$Market", "third", "I", false)
  | 8 => ("ThirdAfter$Market", "day", "I", false)
  | _ => ("ThirdAfter$Market", "lacking", "I", false)
def tyX2 : Nat → FieldType := fun k => match k with
  | 0 => .array .int
  | 1 => .array .int
  | 2 => .array .int
  | 3 => .array .int
  | 4 => .array .int
  | 5 => .int
  | 6 => .int
  | 7 => .int
  | 8 => .int
  | _ => .int
abbrev wsX20 : List Cond := u_ws RX2 TX2 10
theorem nmX2 : ∀ a, a < 10 → ∀ b, b < 10 → a ≠ b → (TX2 a).2.1 ≠ (TX2 b).2.1 := by decide +kernel
theorem tyX2_ok : ∀ k, k < 10 → parseFieldDescriptor (TX2 k).2.2.1 = some (tyX2 k) := by decide +kernel
abbrev cX2_init : ByteArray := prog_19_method_1_code
def yX2_init : MethodName := ⟨RX2, "<init>", "()V"⟩
abbrev cX2_likeThat : ByteArray := prog_19_method_2_code
def yX2_likeThat : MethodName := ⟨RX2, "likeThat", "(LThirdAfter$Market;)V"⟩
abbrev cX2_takeOldest : ByteArray := prog_19_method_3_code
def yX2_takeOldest : MethodName := ⟨RX2, "takeOldest", "()V"⟩
abbrev cX2_owe : ByteArray := prog_19_method_4_code
def yX2_owe : MethodName := ⟨RX2, "owe", "(II)V"⟩
abbrev cX2_evening : ByteArray := prog_19_method_5_code
def yX2_evening : MethodName := ⟨RX2, "evening", "()V"⟩
theorem q101 : (Jvm.Cond.initialized "ThirdAfter$Market") ∈ lw_all := lw_g (lw_at lw_m1 3 rfl) rfl
theorem q653 : (Jvm.Cond.instantiable "ThirdAfter$Market" (10 : Nat)) ∈ lw_all := lw_g (lw_at lw_m3 75 rfl) rfl
theorem q655 : (Jvm.Cond.instanceMethod ({ cls := "ThirdAfter$Market", name := "<init>", desc := "()V" } : Jvm.MethodName)) ∈ lw_all := lw_g (lw_at lw_m3 77 rfl) rfl
theorem q656 : (Jvm.Cond.code ({ cls := "ThirdAfter$Market", name := "<init>", desc := "()V" } : Jvm.MethodName) prog_19_method_1_code (1 : Nat) (Option.none : Option Jvm.ClassFile.FieldType)) ∈ lw_all := lw_g (lw_at lw_m3 78 rfl) rfl
theorem q657 : (Jvm.Cond.methodLink "ThirdAfter$Market" (3 : Nat) ({ cls := "java/lang/Object", name := "<init>", desc := "()V" } : Jvm.MethodName)) ∈ lw_all := lw_g (lw_at lw_m3 79 rfl) rfl
theorem q658 : (Jvm.Cond.fieldLink "ThirdAfter$Market" (9 : Nat) "ThirdAfter$Market" "purse" "[I") ∈ lw_all := lw_g (lw_at lw_m3 80 rfl) rfl
theorem q660 : (Jvm.Cond.fieldLink "ThirdAfter$Market" (15 : Nat) "ThirdAfter$Market" "wants" "[I") ∈ lw_all := lw_g (lw_at lw_m3 82 rfl) rfl
theorem q662 : (Jvm.Cond.fieldLink "ThirdAfter$Market" (18 : Nat) "ThirdAfter$Market" "often" "[I") ∈ lw_all := lw_g (lw_at lw_m3 84 rfl) rfl
theorem q664 : (Jvm.Cond.fieldLink "ThirdAfter$Market" (21 : Nat) "ThirdAfter$Market" "owes" "[I") ∈ lw_all := lw_g (lw_at lw_m3 86 rfl) rfl
theorem q666 : (Jvm.Cond.fieldLink "ThirdAfter$Market" (24 : Nat) "ThirdAfter$Market" "debt" "[I") ∈ lw_all := lw_g (lw_at lw_m3 88 rfl) rfl
theorem q668 : (Jvm.Cond.fieldLink "ThirdAfter$Market" (33 : Nat) "ThirdAfter$Market" "open" "I") ∈ lw_all := lw_g (lw_at lw_m3 90 rfl) rfl
theorem q670 : (Jvm.Cond.fieldLink "ThirdAfter$Market" (37 : Nat) "ThirdAfter$Market" "came" "I") ∈ lw_all := lw_g (lw_at lw_m3 92 rfl) rfl
theorem q672 : (Jvm.Cond.fieldLink "ThirdAfter$Market" (40 : Nat) "ThirdAfter$Market" "third" "I") ∈ lw_all := lw_g (lw_at lw_m3 94 rfl) rfl
theorem q674 : (Jvm.Cond.fieldLink "ThirdAfter$Market" (43 : Nat) "ThirdAfter$Market" "day" "I") ∈ lw_all := lw_g (lw_at lw_m3 96 rfl) rfl
theorem q676 : (Jvm.Cond.fieldLink "ThirdAfter$Market" (46 : Nat) "ThirdAfter$Market" "lacking" "I") ∈ lw_all := lw_g (lw_at lw_m3 98 rfl) rfl
theorem q678 : (Jvm.Cond.laysFinal "ThirdAfter$Market" "ThirdAfter$Market" "purse" "[I") ∈ lw_all := lw_g (lw_at lw_m3 100 rfl) rfl
theorem q679 : (Jvm.Cond.soleField "ThirdAfter$Market" "purse") ∈ lw_all := lw_g (lw_at lw_m3 101 rfl) rfl
theorem q680 : (Jvm.Cond.laysFinal "ThirdAfter$Market" "ThirdAfter$Market" "wants" "[I") ∈ lw_all := lw_g (lw_at lw_m3 102 rfl) rfl
theorem q681 : (Jvm.Cond.soleField "ThirdAfter$Market" "wants") ∈ lw_all := lw_g (lw_at lw_m3 103 rfl) rfl
theorem q682 : (Jvm.Cond.laysFinal "ThirdAfter$Market" "ThirdAfter$Market" "often" "[I") ∈ lw_all := lw_g (lw_at lw_m3 104 rfl) rfl
theorem q683 : (Jvm.Cond.soleField "ThirdAfter$Market" "often") ∈ lw_all := lw_g (lw_at lw_m3 105 rfl) rfl
theorem q684 : (Jvm.Cond.laysFinal "ThirdAfter$Market" "ThirdAfter$Market" "owes" "[I") ∈ lw_all := lw_g (lw_at lw_m3 106 rfl) rfl
theorem q685 : (Jvm.Cond.soleField "ThirdAfter$Market" "owes") ∈ lw_all := lw_g (lw_at lw_m3 107 rfl) rfl
theorem q686 : (Jvm.Cond.laysFinal "ThirdAfter$Market" "ThirdAfter$Market" "debt" "[I") ∈ lw_all := lw_g (lw_at lw_m3 108 rfl) rfl
theorem q687 : (Jvm.Cond.soleField "ThirdAfter$Market" "debt") ∈ lw_all := lw_g (lw_at lw_m3 109 rfl) rfl
theorem q688 : (Jvm.Cond.lays "ThirdAfter$Market" "ThirdAfter$Market" "open" "I") ∈ lw_all := lw_g (lw_at lw_m3 110 rfl) rfl
theorem q689 : (Jvm.Cond.soleField "ThirdAfter$Market" "open") ∈ lw_all := lw_g (lw_at lw_m3 111 rfl) rfl
theorem q690 : (Jvm.Cond.lays "ThirdAfter$Market" "ThirdAfter$Market" "came" "I") ∈ lw_all := lw_g (lw_at lw_m3 112 rfl) rfl
theorem q691 : (Jvm.Cond.soleField "ThirdAfter$Market" "came") ∈ lw_all := lw_g (lw_at lw_m3 113 rfl) rfl
theorem q692 : (Jvm.Cond.lays "ThirdAfter$Market" "ThirdAfter$Market" "third" "I") ∈ lw_all := lw_g (lw_at lw_m3 114 rfl) rfl
theorem q693 : (Jvm.Cond.soleField "ThirdAfter$Market" "third") ∈ lw_all := lw_g (lw_at lw_m3 115 rfl) rfl
theorem q694 : (Jvm.Cond.lays "ThirdAfter$Market" "ThirdAfter$Market" "day" "I") ∈ lw_all := lw_g (lw_at lw_m3 116 rfl) rfl
theorem q695 : (Jvm.Cond.soleField "ThirdAfter$Market" "day") ∈ lw_all := lw_g (lw_at lw_m3 117 rfl) rfl
theorem q696 : (Jvm.Cond.lays "ThirdAfter$Market" "ThirdAfter$Market" "lacking" "I") ∈ lw_all := lw_g (lw_at lw_m3 118 rfl) rfl
theorem q697 : (Jvm.Cond.soleField "ThirdAfter$Market" "lacking") ∈ lw_all := lw_g (lw_at lw_m3 119 rfl) rfl
theorem q698 : (Jvm.Cond.superclass "ThirdAfter$Market" "java/lang/Object") ∈ lw_all := lw_g (lw_at lw_m3 120 rfl) rfl
theorem q877 : (Jvm.Cond.instanceMethod ({ cls := "ThirdAfter$Market", name := "likeThat", desc := "(LThirdAfter$Market;)V" } : Jvm.MethodName)) ∈ lw_all := lw_g (lw_at lw_m4 59 rfl) rfl
theorem q878 : (Jvm.Cond.selects "ThirdAfter$Market" ({ cls := "ThirdAfter$Market", name := "likeThat", desc := "(LThirdAfter$Market;)V" } : Jvm.MethodName) ({ cls := "ThirdAfter$Market", name := "likeThat", desc := "(LThirdAfter$Market;)V" } : Jvm.MethodName)) ∈ lw_all := lw_g (lw_at lw_m4 60 rfl) rfl
theorem q879 : (Jvm.Cond.code ({ cls := "ThirdAfter$Market", name := "likeThat", desc := "(LThirdAfter$Market;)V" } : Jvm.MethodName) prog_19_method_2_code (2 : Nat) (Option.none : Option Jvm.ClassFile.FieldType)) ∈ lw_all := lw_g (lw_at lw_m4 61 rfl) rfl
theorem q880 : (Jvm.Cond.methodLink "ThirdAfter$Market" (27 : Nat) ({ cls := "java/lang/System", name := "arraycopy", desc := "(Ljava/lang/Object;ILjava/lang/Object;II)V" } : Jvm.MethodName)) ∈ lw_all := lw_g (lw_at lw_m4 62 rfl) rfl
theorem q896 : (Jvm.Cond.instanceMethod ({ cls := "ThirdAfter$Market", name := "takeOldest", desc := "()V" } : Jvm.MethodName)) ∈ lw_all := lw_g (lw_at lw_m4 78 rfl) rfl
theorem q897 : (Jvm.Cond.selects "ThirdAfter$Market" ({ cls := "ThirdAfter$Market", name := "takeOldest", desc := "()V" } : Jvm.MethodName) ({ cls := "ThirdAfter$Market", name := "takeOldest", desc := "()V" } : Jvm.MethodName)) ∈ lw_all := lw_g (lw_at lw_m4 79 rfl) rfl
theorem q898 : (Jvm.Cond.code ({ cls := "ThirdAfter$Market", name := "takeOldest", desc := "()V" } : Jvm.MethodName) prog_19_method_3_code (2 : Nat) (Option.none : Option Jvm.ClassFile.FieldType)) ∈ lw_all := lw_g (lw_at lw_m4 80 rfl) rfl
theorem q938 : (Jvm.Cond.instanceMethod ({ cls := "ThirdAfter$Market", name := "owe", desc := "(II)V" } : Jvm.MethodName)) ∈ lw_all := lw_g (lw_at lw_m4 120 rfl) rfl
theorem q939 : (Jvm.Cond.selects "ThirdAfter$Market" ({ cls := "ThirdAfter$Market", name := "owe", desc := "(II)V" } : Jvm.MethodName) ({ cls := "ThirdAfter$Market", name := "owe", desc := "(II)V" } : Jvm.MethodName)) ∈ lw_all := lw_g (lw_at lw_m4 121 rfl) rfl
theorem q940 : (Jvm.Cond.code ({ cls := "ThirdAfter$Market", name := "owe", desc := "(II)V" } : Jvm.MethodName) prog_19_method_4_code (3 : Nat) (Option.none : Option Jvm.ClassFile.FieldType)) ∈ lw_all := lw_g (lw_at lw_m4 122 rfl) rfl
theorem q950 : (Jvm.Cond.instanceMethod ({ cls := "ThirdAfter$Market", name := "evening", desc := "()V" } : Jvm.MethodName)) ∈ lw_all := lw_g (lw_at lw_m4 132 rfl) rfl
theorem q951 : (Jvm.Cond.selects "ThirdAfter$Market" ({ cls := "ThirdAfter$Market", name := "evening", desc := "()V" } : Jvm.MethodName) ({ cls := "ThirdAfter$Market", name := "evening", desc := "()V" } : Jvm.MethodName)) ∈ lw_all := lw_g (lw_at lw_m4 133 rfl) rfl
theorem q952 : (Jvm.Cond.code ({ cls := "ThirdAfter$Market", name := "evening", desc := "()V" } : Jvm.MethodName) prog_19_method_5_code (2 : Nat) (Option.none : Option Jvm.ClassFile.FieldType)) ∈ lw_all := lw_g (lw_at lw_m4 134 rfl) rfl
theorem in_X2 : ∀ w ∈ wsX20, w ∈ lw_all := lw_in wsX20 [678, 680, 682, 684, 686, 688, 690, 692, 694, 696] (by decide +kernel) (by decide +kernel)
/-! ThirdAfterModel -/
def RX3 : String := "ThirdAfterModel"
def TX3 : u_T := fun k => match k with
  | 0 => ("ThirdAfterModel", "buyers", "I", false)
  | 1 => ("ThirdAfterModel", "ways", "[I", true)
  | 2 => ("ThirdAfterModel", "third", "I", false)
  | 3 => ("ThirdAfterModel", "dogs", "I", false)
  | 4 => ("ThirdAfterModel", "now", "[I", true)
  | 5 => ("ThirdAfterModel", "taped", "I", false)
  | 6 => ("ThirdAfterModel", "tape", "[I", true)
  | 7 => ("ThirdAfterModel", "isTold", "Z", false)
  | 8 => ("ThirdAfterModel", "lines", "I", false)
  | 9 => ("ThirdAfterModel", "asks", "[I", true)
  | 10 => ("ThirdAfterModel", "says", "[I", true)
  | 11 => ("ThirdAfterModel", "ends", "[I", true)
  | 12 => ("ThirdAfterModel", "code", "[I", true)
  | 13 => ("ThirdAfterModel", "at", "I", false)
  | 14 => ("ThirdAfterModel", "open", "I", false)
  | 15 => ("ThirdAfterModel", "coded", "I", false)
  | 16 => ("ThirdAfterModel", "newLines", "I", false)
  | 17 => ("ThirdAfterModel", "newAsks", "[I", true)
  | 18 => ("ThirdAfterModel", "newSays", "[I", true)
  | 19 => ("ThirdAfterModel", "newEnds", "[I", true)
  | 20 => ("ThirdAfterModel", "newCode", "[I", true)
  | 21 => ("ThirdAfterModel", "stack", "[I", true)
  | 22 => ("ThirdAfterModel", "names", "[I", true)
  | 23 => ("ThirdAfterModel", "led", "[I", true)
  | 24 => ("ThirdAfterModel", "imaged", "Z", false)
  | 25 => ("ThirdAfterModel", "oldBuyers", "I", false)
  | 26 => ("ThirdAfterModel", "old", "[I", true)
  | 27 => ("ThirdAfterModel", "oldLed", "[I", true)
  | 28 => ("ThirdAfterModel", "changes", "I", false)
  | 29 => ("ThirdAfterModel", "done", "I", false)
  | 30 => ("ThirdAfterModel", "changed", "[I", true)
  | 31 => ("ThirdAfterModel", "bodies", "I", false)
  | 32 => ("ThirdAfterModel", "bodyKind", "[I", true)
  | 33 => ("ThirdAfterModel", "traced", "I", false)
  | 34 => ("ThirdAfterModel", "traces", "[I", true)
  | 35 => ("ThirdAfterModel", "holding", "[I", true)
  | 36 => ("ThirdAfterModel", "rowLength", "[I", true)
  | 37 => ("ThirdAfterModel", "rowOf", "[J", true)
  | 38 => ("ThirdAfterModel", "was", "[I", true)
  | 39 => ("ThirdAfterModel", "turned", "[I", true)
  | 40 => ("ThirdAfterModel", "payer", "I", false)
  | 41 => ("ThirdAfterModel", "paid", "I", false)
  | 42 => ("ThirdAfterModel", "bought", "I", false)
  | 43 => ("ThirdAfterModel", "lacking", "I", false)
  | 44 => ("ThirdAfterModel", "flows", "[I", true)
  | 45 => ("ThirdAfterModel", "comings", "I", false)
  | 46 => ("ThirdAfterModel", "row", "[I", true)
  | 47 => ("ThirdAfterModel", "payers", "[I", true)
  | 48 => ("ThirdAfterModel", "paids", "[I", true)
  | 49 => ("ThirdAfterModel", "boughts", "[I", true)
  | 50 => ("ThirdAfterModel", "tried", "[I", true)
  | 51 => ("ThirdAfterModel", "ordered", "[I", true)
  | 52 => ("ThirdAfterModel", "best", "I", false)
  | _ => ("ThirdAfterModel", "steps", "[I", true)
def tyX3 : Nat → FieldType := fun k => match k with
  | 0 => .int
  | 1 => .array .int
  | 2 => .int
  | 3 => .int
  | 4 => .array .int
  | 5 => .int
  | 6 => .array .int
  | 7 => .boolean
  | 8 => .int
  | 9 => .array .int
  | 10 => .array .int
  | 11 => .array .int
  | 12 => .array .int
  | 13 => .int
  | 14 => .int
  | 15 => .int
  | 16 => .int
  | 17 => .array .int
  | 18 => .array .int
  | 19 => .array .int
  | 20 => .array .int
  | 21 => .array .int
  | 22 => .array .int
  | 23 => .array .int
  | 24 => .boolean
  | 25 => .int
  | 26 => .array .int
  | 27 => .array .int
  | 28 => .int
  | 29 => .int
  | 30 => .array .int
  | 31 => .int
  | 32 => .array .int
  | 33 => .int
  | 34 => .array .int
  | 35 => .array .int
  | 36 => .array .int
  | 37 => .array .long
  | 38 => .array .int
  | 39 => .array .int
  | 40 => .int
  | 41 => .int
  | 42 => .int
  | 43 => .int
  | 44 => .array .int
  | 45 => .int
  | 46 => .array .int
  | 47 => .array .int
  | 48 => .array .int
  | 49 => .array .int
  | 50 => .array .int
  | 51 => .array .int
  | 52 => .int
  | _ => .array .int
abbrev wsX30 : List Cond := u_ws RX3 TX3 54
set_option maxRecDepth 100000 in
theorem nmX3 : ∀ a, a < 54 → ∀ b, b < 54 → a ≠ b → (TX3 a).2.1 ≠ (TX3 b).2.1 := by decide +kernel
set_option maxRecDepth 100000 in
theorem tyX3_ok : ∀ k, k < 54 → parseFieldDescriptor (TX3 k).2.2.1 = some (tyX3 k) := by decide +kernel
abbrev cX3_init : ByteArray := prog_32_method_1_code
def yX3_init : MethodName := ⟨RX3, "<init>", "()V"⟩
abbrev cX3_buyer : ByteArray := prog_32_method_6_code
def yX3_buyer : MethodName := ⟨RX3, "buyer", "(II)I"⟩
abbrev cX3_within : ByteArray := prog_32_method_2_code
def yX3_within : MethodName := ⟨RX3, "within", "(III)Z"⟩
abbrev cX3_newBuyer : ByteArray := prog_32_method_5_code
def yX3_newBuyer : MethodName := ⟨RX3, "newBuyer", "(III)I"⟩
abbrev cX3_buyers : ByteArray := prog_32_method_7_code
def yX3_buyers : MethodName := ⟨RX3, "buyers", "(III)I"⟩
abbrev cX3_isShelf : ByteArray := prog_32_method_4_code
def yX3_isShelf : MethodName := ⟨RX3, "isShelf", "(I)Z"⟩
abbrev cX3_toldAt : ByteArray := prog_32_method_8_code
def yX3_toldAt : MethodName := ⟨RX3, "toldAt", "(II)I"⟩
abbrev cX3_mend : ByteArray := prog_32_method_13_code
def yX3_mend : MethodName := ⟨RX3, "mend", "(III)I"⟩
abbrev cX3_isOf : ByteArray := prog_32_method_9_code
def yX3_isOf : MethodName := ⟨RX3, "isOf", "(II)Z"⟩
abbrev cX3_isBuyer : ByteArray := prog_32_method_3_code
def yX3_isBuyer : MethodName := ⟨RX3, "isBuyer", "(I)Z"⟩
abbrev cX3_isFit : ByteArray := prog_32_method_10_code
def yX3_isFit : MethodName := ⟨RX3, "isFit", "(II)Z"⟩
abbrev cX3_get : ByteArray := prog_32_method_11_code
def yX3_get : MethodName := ⟨RX3, "get", "(II)I"⟩
abbrev cX3_becomes : ByteArray := prog_32_method_12_code
def yX3_becomes : MethodName := ⟨RX3, "becomes", "(III)V"⟩
abbrev cX3_of : ByteArray := prog_32_method_14_code
def yX3_of : MethodName := ⟨RX3, "of", "(II)I"⟩
abbrev cX3_undo : ByteArray := prog_32_method_15_code
def yX3_undo : MethodName := ⟨RX3, "undo", "()I"⟩
abbrev cX3_redo : ByteArray := prog_32_method_16_code
def yX3_redo : MethodName := ⟨RX3, "redo", "()I"⟩
abbrev cX3_feed : ByteArray := prog_32_method_17_code
def yX3_feed : MethodName := ⟨RX3, "feed", "(I)I"⟩
abbrev cX3_law : ByteArray := prog_32_method_30_code
def yX3_law : MethodName := ⟨RX3, "law", "()I"⟩
abbrev cX3_isLine : ByteArray := prog_32_method_29_code
def yX3_isLine : MethodName := ⟨RX3, "isLine", "()Z"⟩
abbrev cX3_isE : ByteArray := prog_32_method_28_code
def yX3_isE : MethodName := ⟨RX3, "isE", "()Z"⟩
abbrev cX3_isA : ByteArray := prog_32_method_27_code
def yX3_isA : MethodName := ⟨RX3, "isA", "()Z"⟩
abbrev cX3_isB : ByteArray := prog_32_method_26_code
def yX3_isB : MethodName := ⟨RX3, "isB", "()Z"⟩
abbrev cX3_isS : ByteArray := prog_32_method_25_code
def yX3_isS : MethodName := ⟨RX3, "isS", "()Z"⟩
abbrev cX3_isP : ByteArray := prog_32_method_24_code
def yX3_isP : MethodName := ⟨RX3, "isP", "()Z"⟩
abbrev cX3_isO : ByteArray := prog_32_method_23_code
def yX3_isO : MethodName := ⟨RX3, "isO", "()Z"⟩
abbrev cX3_isDigit : ByteArray := prog_32_method_21_code
def yX3_isDigit : MethodName := ⟨RX3, "isDigit", "()Z"⟩
abbrev cX3_sign : ByteArray := prog_32_method_18_code
def yX3_sign : MethodName := ⟨RX3, "sign", "()I"⟩
abbrev cX3_codes : ByteArray := prog_32_method_20_code
def yX3_codes : MethodName := ⟨RX3, "codes", "(I)Z"⟩
abbrev cX3_nameOf : ByteArray := prog_32_method_22_code
def yX3_nameOf : MethodName := ⟨RX3, "nameOf", "(I)I"⟩
abbrev cX3_is : ByteArray := prog_32_method_19_code
def yX3_is : MethodName := ⟨RX3, "is", "(I)Z"⟩
abbrev cX3_book : ByteArray := prog_32_method_35_code
def yX3_book : MethodName := ⟨RX3, "book", "(II)I"⟩
abbrev cX3_market : ByteArray := prog_32_method_46_code
def yX3_market : MethodName := ⟨RX3, "market", "(III)I"⟩
abbrev cX3_noBytes : ByteArray := prog_32_method_44_code
def yX3_noBytes : MethodName := ⟨RX3, "noBytes", "(I)I"⟩
abbrev cX3_reads : ByteArray := prog_32_method_45_code
def yX3_reads : MethodName := ⟨RX3, "reads", "(I)V"⟩
abbrev cX3_begins : ByteArray := prog_32_method_42_code
def yX3_begins : MethodName := ⟨RX3, "begins", "()V"⟩
abbrev cX3_keeps : ByteArray := prog_32_method_39_code
def yX3_keeps : MethodName := ⟨RX3, "keeps", "([II)V"⟩
abbrev cX3_goes : ByteArray := prog_32_method_41_code
def yX3_goes : MethodName := ⟨RX3, "goes", "()V"⟩
abbrev cX3_goesIn : ByteArray := prog_32_method_37_code
def yX3_goesIn : MethodName := ⟨RX3, "goesIn", "(I)Z"⟩
abbrev cX3_pays : ByteArray := prog_32_method_36_code
def yX3_pays : MethodName := ⟨RX3, "pays", "(I)V"⟩
abbrev cX3_buysFor : ByteArray := prog_32_method_34_code
def yX3_buysFor : MethodName := ⟨RX3, "buysFor", "(II)I"⟩
abbrev cX3_byLaw : ByteArray := prog_32_method_33_code
def yX3_byLaw : MethodName := ⟨RX3, "byLaw", "(I)I"⟩
abbrev cX3_worked : ByteArray := prog_32_method_32_code
def yX3_worked : MethodName := ⟨RX3, "worked", "(II)I"⟩
abbrev cX3_both : ByteArray := prog_32_method_31_code
def yX3_both : MethodName := ⟨RX3, "both", "(III)I"⟩
abbrev cX3_laysBack : ByteArray := prog_32_method_40_code
def yX3_laysBack : MethodName := ⟨RX3, "laysBack", "([II)V"⟩
abbrev cX3_coming : ByteArray := prog_32_method_47_code
def yX3_coming : MethodName := ⟨RX3, "coming", "(III)I"⟩
abbrev cX3_later : ByteArray := prog_32_method_48_code
def yX3_later : MethodName := ⟨RX3, "later", "(III)I"⟩
abbrev cX3_ends : ByteArray := prog_32_method_38_code
def yX3_ends : MethodName := ⟨RX3, "ends", "()V"⟩
abbrev cX3_onceMore : ByteArray := prog_32_method_51_code
def yX3_onceMore : MethodName := ⟨RX3, "onceMore", "(III)I"⟩
abbrev cX3_puts : ByteArray := prog_32_method_49_code
def yX3_puts : MethodName := ⟨RX3, "puts", "(II)V"⟩
abbrev cX3_purseBehind : ByteArray := prog_32_method_43_code
def yX3_purseBehind : MethodName := ⟨RX3, "purseBehind", "(I)I"⟩
abbrev cX3_takes : ByteArray := prog_32_method_50_code
def yX3_takes : MethodName := ⟨RX3, "takes", "(I)V"⟩
abbrev cX3_hired : ByteArray := prog_32_method_52_code
def yX3_hired : MethodName := ⟨RX3, "hired", "(IIII)I"⟩
abbrev cX3_latch : ByteArray := prog_32_method_54_code
def yX3_latch : MethodName := ⟨RX3, "latch", "(III)I"⟩
abbrev cX3_swaps : ByteArray := prog_32_method_53_code
def yX3_swaps : MethodName := ⟨RX3, "swaps", "(I)V"⟩
abbrev cX3_order : ByteArray := prog_32_method_56_code
def yX3_order : MethodName := ⟨RX3, "order", "(III)I"⟩
abbrev cX3_orders : ByteArray := prog_32_method_55_code
def yX3_orders : MethodName := ⟨RX3, "orders", "(III)V"⟩
abbrev cX3_flow : ByteArray := prog_32_method_58_code
def yX3_flow : MethodName := ⟨RX3, "flow", "(II)I"⟩
abbrev cX3_isPair : ByteArray := prog_32_method_57_code
def yX3_isPair : MethodName := ⟨RX3, "isPair", "(I)Z"⟩
abbrev cX3_round : ByteArray := prog_32_method_60_code
def yX3_round : MethodName := ⟨RX3, "round", "(II)I"⟩
abbrev cX3_ring : ByteArray := prog_32_method_59_code
def yX3_ring : MethodName := ⟨RX3, "ring", "()I"⟩
abbrev cX3_judge : ByteArray := prog_32_method_64_code
def yX3_judge : MethodName := ⟨RX3, "judge", "(I)I"⟩
abbrev cX3_areShelves : ByteArray := prog_32_method_61_code
def yX3_areShelves : MethodName := ⟨RX3, "areShelves", "(I)Z"⟩
abbrev cX3_noRows : ByteArray := prog_32_method_62_code
def yX3_noRows : MethodName := ⟨RX3, "noRows", "(I)I"⟩
abbrev cX3_unlike : ByteArray := prog_32_method_63_code
def yX3_unlike : MethodName := ⟨RX3, "unlike", "(I)I"⟩
abbrev cX3_fits : ByteArray := prog_32_method_68_code
def yX3_fits : MethodName := ⟨RX3, "fits", "(III)I"⟩
abbrev cX3_thirds : ByteArray := prog_32_method_65_code
def yX3_thirds : MethodName := ⟨RX3, "thirds", "(I)I"⟩
abbrev cX3_whose : ByteArray := prog_32_method_66_code
def yX3_whose : MethodName := ⟨RX3, "whose", "(II)I"⟩
abbrev cX3_wanted : ByteArray := prog_32_method_67_code
def yX3_wanted : MethodName := ⟨RX3, "wanted", "(IIZ)I"⟩
abbrev cX3_byTurns : ByteArray := prog_32_method_71_code
def yX3_byTurns : MethodName := ⟨RX3, "byTurns", "(III)I"⟩
abbrev cX3_turnFrom : ByteArray := prog_32_method_70_code
def yX3_turnFrom : MethodName := ⟨RX3, "turnFrom", "(IIII)I"⟩
abbrev cX3_comesAt : ByteArray := prog_32_method_69_code
def yX3_comesAt : MethodName := ⟨RX3, "comesAt", "(IIII)I"⟩
abbrev cX3_drawn : ByteArray := prog_32_method_72_code
def yX3_drawn : MethodName := ⟨RX3, "drawn", "(III)I"⟩
abbrev cX3_comes : ByteArray := prog_32_method_73_code
def yX3_comes : MethodName := ⟨RX3, "comes", "(I)I"⟩
abbrev cX3_evening : ByteArray := prog_32_method_74_code
def yX3_evening : MethodName := ⟨RX3, "evening", "()I"⟩
abbrev cX3_gives : ByteArray := prog_32_method_75_code
def yX3_gives : MethodName := ⟨RX3, "gives", "(III)I"⟩
abbrev cX3_led : ByteArray := prog_32_method_76_code
def yX3_led : MethodName := ⟨RX3, "led", "(I)I"⟩
abbrev cX3_image : ByteArray := prog_32_method_77_code
def yX3_image : MethodName := ⟨RX3, "image", "()I"⟩
abbrev cX3_back : ByteArray := prog_32_method_78_code
def yX3_back : MethodName := ⟨RX3, "back", "()I"⟩
abbrev cX3_body : ByteArray := prog_32_method_85_code
def yX3_body : MethodName := ⟨RX3, "body", "(I)I"⟩
abbrev cX3_act : ByteArray := prog_32_method_86_code
def yX3_act : MethodName := ⟨RX3, "act", "(III)I"⟩
abbrev cX3_comesBy : ByteArray := prog_32_method_81_code
def yX3_comesBy : MethodName := ⟨RX3, "comesBy", "(III)I"⟩
abbrev cX3_ran : ByteArray := prog_32_method_80_code
def yX3_ran : MethodName := ⟨RX3, "ran", "(I)V"⟩
abbrev cX3_above : ByteArray := prog_32_method_79_code
def yX3_above : MethodName := ⟨RX3, "above", "(I)I"⟩
abbrev cX3_owesBy : ByteArray := prog_32_method_82_code
def yX3_owesBy : MethodName := ⟨RX3, "owesBy", "(III)I"⟩
abbrev cX3_paysBy : ByteArray := prog_32_method_83_code
def yX3_paysBy : MethodName := ⟨RX3, "paysBy", "(III)I"⟩
abbrev cX3_tells : ByteArray := prog_32_method_84_code
def yX3_tells : MethodName := ⟨RX3, "tells", "(III)I"⟩
abbrev cX3_trace : ByteArray := prog_32_method_87_code
def yX3_trace : MethodName := ⟨RX3, "trace", "(I)I"⟩
abbrev cX3_keep : ByteArray := prog_32_method_88_code
def yX3_keep : MethodName := ⟨RX3, "keep", "(II)I"⟩
abbrev cX3_row : ByteArray := prog_32_method_89_code
def yX3_row : MethodName := ⟨RX3, "row", "(III)I"⟩
abbrev cX3_put : ByteArray := prog_32_method_92_code
def yX3_put : MethodName := ⟨RX3, "put", "(IIJ)I"⟩
abbrev cX3_isRow : ByteArray := prog_32_method_90_code
def yX3_isRow : MethodName := ⟨RX3, "isRow", "(I)Z"⟩
abbrev cX3_kept : ByteArray := prog_32_method_91_code
def yX3_kept : MethodName := ⟨RX3, "kept", "(IJ)J"⟩
abbrev cX3_element : ByteArray := prog_32_method_93_code
def yX3_element : MethodName := ⟨RX3, "element", "(II)J"⟩
abbrev cX3_shift : ByteArray := prog_32_method_94_code
def yX3_shift : MethodName := ⟨RX3, "shift", "(IIIII)I"⟩
abbrev cX3_taken : ByteArray := prog_32_method_95_code
def yX3_taken : MethodName := ⟨RX3, "taken", "(II)I"⟩
abbrev cX3_count : ByteArray := prog_32_method_96_code
def yX3_count : MethodName := ⟨RX3, "count", "(I)I"⟩
theorem q102 : (Jvm.Cond.initialized "ThirdAfterModel") ∈ lw_all := lw_g (lw_at lw_m1 4 rfl) rfl
theorem q1675 : (Jvm.Cond.instantiable "ThirdAfterModel" (54 : Nat)) ∈ lw_all := lw_g (lw_at lw_m7 137 rfl) rfl
theorem q1677 : (Jvm.Cond.instanceMethod ({ cls := "ThirdAfterModel", name := "<init>", desc := "()V" } : Jvm.MethodName)) ∈ lw_all := lw_g (lw_at lw_m7 139 rfl) rfl
theorem q1678 : (Jvm.Cond.code ({ cls := "ThirdAfterModel", name := "<init>", desc := "()V" } : Jvm.MethodName) prog_32_method_1_code (2 : Nat) (Option.none : Option Jvm.ClassFile.FieldType)) ∈ lw_all := lw_g (lw_at lw_m7 140 rfl) rfl
theorem q1679 : (Jvm.Cond.methodLink "ThirdAfterModel" (3 : Nat) ({ cls := "java/lang/Object", name := "<init>", desc := "()V" } : Jvm.MethodName)) ∈ lw_all := lw_g (lw_at lw_m7 141 rfl) rfl
theorem q1680 : (Jvm.Cond.fieldLink "ThirdAfterModel" (116 : Nat) "ThirdAfterModel" "buyers" "I") ∈ lw_all := lw_g (lw_at lw_m7 142 rfl) rfl
theorem q1681 : (Jvm.Cond.fieldLink "ThirdAfterModel" (9 : Nat) "ThirdAfterModel" "ways" "[I") ∈ lw_all := lw_g (lw_at lw_m7 143 rfl) rfl
theorem q1682 : (Jvm.Cond.fieldLink "ThirdAfterModel" (15 : Nat) "ThirdAfterModel" "third" "I") ∈ lw_all := lw_g (lw_at lw_m7 144 rfl) rfl
theorem q1683 : (Jvm.Cond.fieldLink "ThirdAfterModel" (19 : Nat) "ThirdAfterModel" "dogs" "I") ∈ lw_all := lw_g (lw_at lw_m7 145 rfl) rfl
theorem q1684 : (Jvm.Cond.fieldLink "ThirdAfterModel" (22 : Nat) "ThirdAfterModel" "now" "[I") ∈ lw_all := lw_g (lw_at lw_m7 146 rfl) rfl
theorem q1685 : (Jvm.Cond.fieldLink "ThirdAfterModel" (160 : Nat) "ThirdAfterModel" "taped" "I") ∈ lw_all := lw_g (lw_at lw_m7 147 rfl) rfl
theorem q1686 : (Jvm.Cond.fieldLink "ThirdAfterModel" (25 : Nat) "ThirdAfterModel" "tape" "[I") ∈ lw_all := lw_g (lw_at lw_m7 148 rfl) rfl
theorem q1687 : (Jvm.Cond.fieldLink "ThirdAfterModel" (214 : Nat) "ThirdAfterModel" "isTold" "Z") ∈ lw_all := lw_g (lw_at lw_m7 149 rfl) rfl
theorem q1688 : (Jvm.Cond.fieldLink "ThirdAfterModel" (218 : Nat) "ThirdAfterModel" "lines" "I") ∈ lw_all := lw_g (lw_at lw_m7 150 rfl) rfl
theorem q1689 : (Jvm.Cond.fieldLink "ThirdAfterModel" (28 : Nat) "ThirdAfterModel" "asks" "[I") ∈ lw_all := lw_g (lw_at lw_m7 151 rfl) rfl
theorem q1690 : (Jvm.Cond.fieldLink "ThirdAfterModel" (31 : Nat) "ThirdAfterModel" "says" "[I") ∈ lw_all := lw_g (lw_at lw_m7 152 rfl) rfl
theorem q1691 : (Jvm.Cond.fieldLink "ThirdAfterModel" (34 : Nat) "ThirdAfterModel" "ends" "[I") ∈ lw_all := lw_g (lw_at lw_m7 153 rfl) rfl
theorem q1692 : (Jvm.Cond.fieldLink "ThirdAfterModel" (37 : Nat) "ThirdAfterModel" "code" "[I") ∈ lw_all := lw_g (lw_at lw_m7 154 rfl) rfl
theorem q1693 : (Jvm.Cond.fieldLink "ThirdAfterModel" (163 : Nat) "ThirdAfterModel" "at" "I") ∈ lw_all := lw_g (lw_at lw_m7 155 rfl) rfl
theorem q1694 : (Jvm.Cond.fieldLink "ThirdAfterModel" (184 : Nat) "ThirdAfterModel" "open" "I") ∈ lw_all := lw_g (lw_at lw_m7 156 rfl) rfl
theorem q1695 : (Jvm.Cond.fieldLink "ThirdAfterModel" (170 : Nat) "ThirdAfterModel" "coded" "I") ∈ lw_all := lw_g (lw_at lw_m7 157 rfl) rfl
theorem q1696 : (Jvm.Cond.fieldLink "ThirdAfterModel" (208 : Nat) "ThirdAfterModel" "newLines" "I") ∈ lw_all := lw_g (lw_at lw_m7 158 rfl) rfl
theorem q1697 : (Jvm.Cond.fieldLink "ThirdAfterModel" (40 : Nat) "ThirdAfterModel" "newAsks" "[I") ∈ lw_all := lw_g (lw_at lw_m7 159 rfl) rfl
theorem q1698 : (Jvm.Cond.fieldLink "ThirdAfterModel" (43 : Nat) "ThirdAfterModel" "newSays" "[I") ∈ lw_all := lw_g (lw_at lw_m7 160 rfl) rfl
theorem q1699 : (Jvm.Cond.fieldLink "ThirdAfterModel" (46 : Nat) "ThirdAfterModel" "newEnds" "[I") ∈ lw_all := lw_g (lw_at lw_m7 161 rfl) rfl
theorem q1700 : (Jvm.Cond.fieldLink "ThirdAfterModel" (49 : Nat) "ThirdAfterModel" "newCode" "[I") ∈ lw_all := lw_g (lw_at lw_m7 162 rfl) rfl
theorem q1701 : (Jvm.Cond.fieldLink "ThirdAfterModel" (52 : Nat) "ThirdAfterModel" "stack" "[I") ∈ lw_all := lw_g (lw_at lw_m7 163 rfl) rfl
theorem q1702 : (Jvm.Cond.fieldLink "ThirdAfterModel" (55 : Nat) "ThirdAfterModel" "names" "[I") ∈ lw_all := lw_g (lw_at lw_m7 164 rfl) rfl
theorem q1703 : (Jvm.Cond.fieldLink "ThirdAfterModel" (58 : Nat) "ThirdAfterModel" "led" "[I") ∈ lw_all := lw_g (lw_at lw_m7 165 rfl) rfl
theorem q1704 : (Jvm.Cond.fieldLink "ThirdAfterModel" (342 : Nat) "ThirdAfterModel" "imaged" "Z") ∈ lw_all := lw_g (lw_at lw_m7 166 rfl) rfl
theorem q1705 : (Jvm.Cond.fieldLink "ThirdAfterModel" (345 : Nat) "ThirdAfterModel" "oldBuyers" "I") ∈ lw_all := lw_g (lw_at lw_m7 167 rfl) rfl
theorem q1706 : (Jvm.Cond.fieldLink "ThirdAfterModel" (61 : Nat) "ThirdAfterModel" "old" "[I") ∈ lw_all := lw_g (lw_at lw_m7 168 rfl) rfl
theorem q1707 : (Jvm.Cond.fieldLink "ThirdAfterModel" (64 : Nat) "ThirdAfterModel" "oldLed" "[I") ∈ lw_all := lw_g (lw_at lw_m7 169 rfl) rfl
theorem q1708 : (Jvm.Cond.fieldLink "ThirdAfterModel" (157 : Nat) "ThirdAfterModel" "changes" "I") ∈ lw_all := lw_g (lw_at lw_m7 170 rfl) rfl
theorem q1709 : (Jvm.Cond.fieldLink "ThirdAfterModel" (154 : Nat) "ThirdAfterModel" "done" "I") ∈ lw_all := lw_g (lw_at lw_m7 171 rfl) rfl
theorem q1710 : (Jvm.Cond.fieldLink "ThirdAfterModel" (67 : Nat) "ThirdAfterModel" "changed" "[I") ∈ lw_all := lw_g (lw_at lw_m7 172 rfl) rfl
theorem q1711 : (Jvm.Cond.fieldLink "ThirdAfterModel" (369 : Nat) "ThirdAfterModel" "bodies" "I") ∈ lw_all := lw_g (lw_at lw_m7 173 rfl) rfl
theorem q1712 : (Jvm.Cond.fieldLink "ThirdAfterModel" (70 : Nat) "ThirdAfterModel" "bodyKind" "[I") ∈ lw_all := lw_g (lw_at lw_m7 174 rfl) rfl
theorem q1713 : (Jvm.Cond.fieldLink "ThirdAfterModel" (348 : Nat) "ThirdAfterModel" "traced" "I") ∈ lw_all := lw_g (lw_at lw_m7 175 rfl) rfl
theorem q1714 : (Jvm.Cond.fieldLink "ThirdAfterModel" (73 : Nat) "ThirdAfterModel" "traces" "[I") ∈ lw_all := lw_g (lw_at lw_m7 176 rfl) rfl
theorem q1715 : (Jvm.Cond.fieldLink "ThirdAfterModel" (76 : Nat) "ThirdAfterModel" "holding" "[I") ∈ lw_all := lw_g (lw_at lw_m7 177 rfl) rfl
theorem q1716 : (Jvm.Cond.fieldLink "ThirdAfterModel" (79 : Nat) "ThirdAfterModel" "rowLength" "[I") ∈ lw_all := lw_g (lw_at lw_m7 178 rfl) rfl
theorem q1717 : (Jvm.Cond.fieldLink "ThirdAfterModel" (82 : Nat) "ThirdAfterModel" "rowOf" "[J") ∈ lw_all := lw_g (lw_at lw_m7 179 rfl) rfl
theorem q1718 : (Jvm.Cond.fieldLink "ThirdAfterModel" (86 : Nat) "ThirdAfterModel" "was" "[I") ∈ lw_all := lw_g (lw_at lw_m7 180 rfl) rfl
theorem q1719 : (Jvm.Cond.fieldLink "ThirdAfterModel" (89 : Nat) "ThirdAfterModel" "turned" "[I") ∈ lw_all := lw_g (lw_at lw_m7 181 rfl) rfl
theorem q1720 : (Jvm.Cond.fieldLink "ThirdAfterModel" (238 : Nat) "ThirdAfterModel" "payer" "I") ∈ lw_all := lw_g (lw_at lw_m7 182 rfl) rfl
theorem q1721 : (Jvm.Cond.fieldLink "ThirdAfterModel" (244 : Nat) "ThirdAfterModel" "paid" "I") ∈ lw_all := lw_g (lw_at lw_m7 183 rfl) rfl
theorem q1722 : (Jvm.Cond.fieldLink "ThirdAfterModel" (247 : Nat) "ThirdAfterModel" "bought" "I") ∈ lw_all := lw_g (lw_at lw_m7 184 rfl) rfl
theorem q1723 : (Jvm.Cond.fieldLink "ThirdAfterModel" (241 : Nat) "ThirdAfterModel" "lacking" "I") ∈ lw_all := lw_g (lw_at lw_m7 185 rfl) rfl
theorem q1724 : (Jvm.Cond.fieldLink "ThirdAfterModel" (92 : Nat) "ThirdAfterModel" "flows" "[I") ∈ lw_all := lw_g (lw_at lw_m7 186 rfl) rfl
theorem q1725 : (Jvm.Cond.fieldLink "ThirdAfterModel" (257 : Nat) "ThirdAfterModel" "comings" "I") ∈ lw_all := lw_g (lw_at lw_m7 187 rfl) rfl
theorem q1726 : (Jvm.Cond.fieldLink "ThirdAfterModel" (95 : Nat) "ThirdAfterModel" "row" "[I") ∈ lw_all := lw_g (lw_at lw_m7 188 rfl) rfl
theorem q1727 : (Jvm.Cond.fieldLink "ThirdAfterModel" (98 : Nat) "ThirdAfterModel" "payers" "[I") ∈ lw_all := lw_g (lw_at lw_m7 189 rfl) rfl
theorem q1728 : (Jvm.Cond.fieldLink "ThirdAfterModel" (101 : Nat) "ThirdAfterModel" "paids" "[I") ∈ lw_all := lw_g (lw_at lw_m7 190 rfl) rfl
theorem q1729 : (Jvm.Cond.fieldLink "ThirdAfterModel" (104 : Nat) "ThirdAfterModel" "boughts" "[I") ∈ lw_all := lw_g (lw_at lw_m7 191 rfl) rfl
theorem q1730 : (Jvm.Cond.fieldLink "ThirdAfterModel" (107 : Nat) "ThirdAfterModel" "tried" "[I") ∈ lw_all := lw_g (lw_at lw_m7 192 rfl) rfl
theorem q1731 : (Jvm.Cond.fieldLink "ThirdAfterModel" (110 : Nat) "ThirdAfterModel" "ordered" "[I") ∈ lw_all := lw_g (lw_at lw_m7 193 rfl) rfl
theorem q1732 : (Jvm.Cond.fieldLink "ThirdAfterModel" (297 : Nat) "ThirdAfterModel" "best" "I") ∈ lw_all := lw_g (lw_at lw_m7 194 rfl) rfl
theorem q1733 : (Jvm.Cond.fieldLink "ThirdAfterModel" (113 : Nat) "ThirdAfterModel" "steps" "[I") ∈ lw_all := lw_g (lw_at lw_m7 195 rfl) rfl
theorem q1734 : (Jvm.Cond.lays "ThirdAfterModel" "ThirdAfterModel" "buyers" "I") ∈ lw_all := lw_g (lw_at lw_m7 196 rfl) rfl
theorem q1735 : (Jvm.Cond.soleField "ThirdAfterModel" "buyers") ∈ lw_all := lw_g (lw_at lw_m7 197 rfl) rfl
theorem q1736 : (Jvm.Cond.laysFinal "ThirdAfterModel" "ThirdAfterModel" "ways" "[I") ∈ lw_all := lw_g (lw_at lw_m7 198 rfl) rfl
theorem q1737 : (Jvm.Cond.soleField "ThirdAfterModel" "ways") ∈ lw_all := lw_g (lw_at lw_m7 199 rfl) rfl
theorem q1738 : (Jvm.Cond.lays "ThirdAfterModel" "ThirdAfterModel" "third" "I") ∈ lw_all := lw_g (lw_at lw_m7 200 rfl) rfl
theorem q1739 : (Jvm.Cond.soleField "ThirdAfterModel" "third") ∈ lw_all := lw_g (lw_at lw_m7 201 rfl) rfl
theorem q1740 : (Jvm.Cond.lays "ThirdAfterModel" "ThirdAfterModel" "dogs" "I") ∈ lw_all := lw_g (lw_at lw_m7 202 rfl) rfl
theorem q1741 : (Jvm.Cond.soleField "ThirdAfterModel" "dogs") ∈ lw_all := lw_g (lw_at lw_m7 203 rfl) rfl
theorem q1742 : (Jvm.Cond.laysFinal "ThirdAfterModel" "ThirdAfterModel" "now" "[I") ∈ lw_all := lw_g (lw_at lw_m7 204 rfl) rfl
theorem q1743 : (Jvm.Cond.soleField "ThirdAfterModel" "now") ∈ lw_all := lw_g (lw_at lw_m7 205 rfl) rfl
theorem q1744 : (Jvm.Cond.lays "ThirdAfterModel" "ThirdAfterModel" "taped" "I") ∈ lw_all := lw_g (lw_at lw_m7 206 rfl) rfl
theorem q1745 : (Jvm.Cond.soleField "ThirdAfterModel" "taped") ∈ lw_all := lw_g (lw_at lw_m7 207 rfl) rfl
theorem q1746 : (Jvm.Cond.laysFinal "ThirdAfterModel" "ThirdAfterModel" "tape" "[I") ∈ lw_all := lw_g (lw_at lw_m7 208 rfl) rfl
theorem q1747 : (Jvm.Cond.soleField "ThirdAfterModel" "tape") ∈ lw_all := lw_g (lw_at lw_m7 209 rfl) rfl
theorem q1748 : (Jvm.Cond.lays "ThirdAfterModel" "ThirdAfterModel" "isTold" "Z") ∈ lw_all := lw_g (lw_at lw_m7 210 rfl) rfl
theorem q1749 : (Jvm.Cond.soleField "ThirdAfterModel" "isTold") ∈ lw_all := lw_g (lw_at lw_m7 211 rfl) rfl
theorem q1750 : (Jvm.Cond.lays "ThirdAfterModel" "ThirdAfterModel" "lines" "I") ∈ lw_all := lw_g (lw_at lw_m7 212 rfl) rfl
theorem q1751 : (Jvm.Cond.soleField "ThirdAfterModel" "lines") ∈ lw_all := lw_g (lw_at lw_m7 213 rfl) rfl
theorem q1752 : (Jvm.Cond.laysFinal "ThirdAfterModel" "ThirdAfterModel" "asks" "[I") ∈ lw_all := lw_g (lw_at lw_m7 214 rfl) rfl
theorem q1753 : (Jvm.Cond.soleField "ThirdAfterModel" "asks") ∈ lw_all := lw_g (lw_at lw_m7 215 rfl) rfl
theorem q1754 : (Jvm.Cond.laysFinal "ThirdAfterModel" "ThirdAfterModel" "says" "[I") ∈ lw_all := lw_g (lw_at lw_m7 216 rfl) rfl
theorem q1755 : (Jvm.Cond.soleField "ThirdAfterModel" "says") ∈ lw_all := lw_g (lw_at lw_m7 217 rfl) rfl
theorem q1756 : (Jvm.Cond.laysFinal "ThirdAfterModel" "ThirdAfterModel" "ends" "[I") ∈ lw_all := lw_g (lw_at lw_m7 218 rfl) rfl
theorem q1757 : (Jvm.Cond.soleField "ThirdAfterModel" "ends") ∈ lw_all := lw_g (lw_at lw_m7 219 rfl) rfl
theorem q1758 : (Jvm.Cond.laysFinal "ThirdAfterModel" "ThirdAfterModel" "code" "[I") ∈ lw_all := lw_g (lw_at lw_m7 220 rfl) rfl
theorem q1759 : (Jvm.Cond.soleField "ThirdAfterModel" "code") ∈ lw_all := lw_g (lw_at lw_m7 221 rfl) rfl
theorem q1760 : (Jvm.Cond.lays "ThirdAfterModel" "ThirdAfterModel" "at" "I") ∈ lw_all := lw_g (lw_at lw_m7 222 rfl) rfl
theorem q1761 : (Jvm.Cond.soleField "ThirdAfterModel" "at") ∈ lw_all := lw_g (lw_at lw_m7 223 rfl) rfl
theorem q1762 : (Jvm.Cond.lays "ThirdAfterModel" "ThirdAfterModel" "open" "I") ∈ lw_all := lw_g (lw_at lw_m7 224 rfl) rfl
theorem q1763 : (Jvm.Cond.soleField "ThirdAfterModel" "open") ∈ lw_all := lw_g (lw_at lw_m7 225 rfl) rfl
theorem q1764 : (Jvm.Cond.lays "ThirdAfterModel" "ThirdAfterModel" "coded" "I") ∈ lw_all := lw_g (lw_at lw_m7 226 rfl) rfl
theorem q1765 : (Jvm.Cond.soleField "ThirdAfterModel" "coded") ∈ lw_all := lw_g (lw_at lw_m7 227 rfl) rfl
theorem q1766 : (Jvm.Cond.lays "ThirdAfterModel" "ThirdAfterModel" "newLines" "I") ∈ lw_all := lw_g (lw_at lw_m7 228 rfl) rfl
theorem q1767 : (Jvm.Cond.soleField "ThirdAfterModel" "newLines") ∈ lw_all := lw_g (lw_at lw_m7 229 rfl) rfl
theorem q1768 : (Jvm.Cond.laysFinal "ThirdAfterModel" "ThirdAfterModel" "newAsks" "[I") ∈ lw_all := lw_g (lw_at lw_m7 230 rfl) rfl
theorem q1769 : (Jvm.Cond.soleField "ThirdAfterModel" "newAsks") ∈ lw_all := lw_g (lw_at lw_m7 231 rfl) rfl
theorem q1770 : (Jvm.Cond.laysFinal "ThirdAfterModel" "ThirdAfterModel" "newSays" "[I") ∈ lw_all := lw_g (lw_at lw_m7 232 rfl) rfl
theorem q1771 : (Jvm.Cond.soleField "ThirdAfterModel" "newSays") ∈ lw_all := lw_g (lw_at lw_m7 233 rfl) rfl
theorem q1772 : (Jvm.Cond.laysFinal "ThirdAfterModel" "ThirdAfterModel" "newEnds" "[I") ∈ lw_all := lw_g (lw_at lw_m7 234 rfl) rfl
theorem q1773 : (Jvm.Cond.soleField "ThirdAfterModel" "newEnds") ∈ lw_all := lw_g (lw_at lw_m7 235 rfl) rfl
theorem q1774 : (Jvm.Cond.laysFinal "ThirdAfterModel" "ThirdAfterModel" "newCode" "[I") ∈ lw_all := lw_g (lw_at lw_m7 236 rfl) rfl
theorem q1775 : (Jvm.Cond.soleField "ThirdAfterModel" "newCode") ∈ lw_all := lw_g (lw_at lw_m7 237 rfl) rfl
theorem q1776 : (Jvm.Cond.laysFinal "ThirdAfterModel" "ThirdAfterModel" "stack" "[I") ∈ lw_all := lw_g (lw_at lw_m7 238 rfl) rfl
theorem q1777 : (Jvm.Cond.soleField "ThirdAfterModel" "stack") ∈ lw_all := lw_g (lw_at lw_m7 239 rfl) rfl
theorem q1778 : (Jvm.Cond.laysFinal "ThirdAfterModel" "ThirdAfterModel" "names" "[I") ∈ lw_all := lw_g (lw_at lw_m8 0 rfl) rfl
theorem q1779 : (Jvm.Cond.soleField "ThirdAfterModel" "names") ∈ lw_all := lw_g (lw_at lw_m8 1 rfl) rfl
theorem q1780 : (Jvm.Cond.laysFinal "ThirdAfterModel" "ThirdAfterModel" "led" "[I") ∈ lw_all := lw_g (lw_at lw_m8 2 rfl) rfl
theorem q1781 : (Jvm.Cond.soleField "ThirdAfterModel" "led") ∈ lw_all := lw_g (lw_at lw_m8 3 rfl) rfl
theorem q1782 : (Jvm.Cond.lays "ThirdAfterModel" "ThirdAfterModel" "imaged" "Z") ∈ lw_all := lw_g (lw_at lw_m8 4 rfl) rfl
theorem q1783 : (Jvm.Cond.soleField "ThirdAfterModel" "imaged") ∈ lw_all := lw_g (lw_at lw_m8 5 rfl) rfl
theorem q1784 : (Jvm.Cond.lays "ThirdAfterModel" "ThirdAfterModel" "oldBuyers" "I") ∈ lw_all := lw_g (lw_at lw_m8 6 rfl) rfl
theorem q1785 : (Jvm.Cond.soleField "ThirdAfterModel" "oldBuyers") ∈ lw_all := lw_g (lw_at lw_m8 7 rfl) rfl
theorem q1786 : (Jvm.Cond.laysFinal "ThirdAfterModel" "ThirdAfterModel" "old" "[I") ∈ lw_all := lw_g (lw_at lw_m8 8 rfl) rfl
theorem q1787 : (Jvm.Cond.soleField "ThirdAfterModel" "old") ∈ lw_all := lw_g (lw_at lw_m8 9 rfl) rfl
theorem q1788 : (Jvm.Cond.laysFinal "ThirdAfterModel" "ThirdAfterModel" "oldLed" "[I") ∈ lw_all := lw_g (lw_at lw_m8 10 rfl) rfl
theorem q1789 : (Jvm.Cond.soleField "ThirdAfterModel" "oldLed") ∈ lw_all := lw_g (lw_at lw_m8 11 rfl) rfl
theorem q1790 : (Jvm.Cond.lays "ThirdAfterModel" "ThirdAfterModel" "changes" "I") ∈ lw_all := lw_g (lw_at lw_m8 12 rfl) rfl
theorem q1791 : (Jvm.Cond.soleField "ThirdAfterModel" "changes") ∈ lw_all := lw_g (lw_at lw_m8 13 rfl) rfl
theorem q1792 : (Jvm.Cond.lays "ThirdAfterModel" "ThirdAfterModel" "done" "I") ∈ lw_all := lw_g (lw_at lw_m8 14 rfl) rfl
theorem q1793 : (Jvm.Cond.soleField "ThirdAfterModel" "done") ∈ lw_all := lw_g (lw_at lw_m8 15 rfl) rfl
theorem q1794 : (Jvm.Cond.laysFinal "ThirdAfterModel" "ThirdAfterModel" "changed" "[I") ∈ lw_all := lw_g (lw_at lw_m8 16 rfl) rfl
theorem q1795 : (Jvm.Cond.soleField "ThirdAfterModel" "changed") ∈ lw_all := lw_g (lw_at lw_m8 17 rfl) rfl
theorem q1796 : (Jvm.Cond.lays "ThirdAfterModel" "ThirdAfterModel" "bodies" "I") ∈ lw_all := lw_g (lw_at lw_m8 18 rfl) rfl
theorem q1797 : (Jvm.Cond.soleField "ThirdAfterModel" "bodies") ∈ lw_all := lw_g (lw_at lw_m8 19 rfl) rfl
theorem q1798 : (Jvm.Cond.laysFinal "ThirdAfterModel" "ThirdAfterModel" "bodyKind" "[I") ∈ lw_all := lw_g (lw_at lw_m8 20 rfl) rfl
theorem q1799 : (Jvm.Cond.soleField "ThirdAfterModel" "bodyKind") ∈ lw_all := lw_g (lw_at lw_m8 21 rfl) rfl
theorem q1800 : (Jvm.Cond.lays "ThirdAfterModel" "ThirdAfterModel" "traced" "I") ∈ lw_all := lw_g (lw_at lw_m8 22 rfl) rfl
theorem q1801 : (Jvm.Cond.soleField "ThirdAfterModel" "traced") ∈ lw_all := lw_g (lw_at lw_m8 23 rfl) rfl
theorem q1802 : (Jvm.Cond.laysFinal "ThirdAfterModel" "ThirdAfterModel" "traces" "[I") ∈ lw_all := lw_g (lw_at lw_m8 24 rfl) rfl
theorem q1803 : (Jvm.Cond.soleField "ThirdAfterModel" "traces") ∈ lw_all := lw_g (lw_at lw_m8 25 rfl) rfl
theorem q1804 : (Jvm.Cond.laysFinal "ThirdAfterModel" "ThirdAfterModel" "holding" "[I") ∈ lw_all := lw_g (lw_at lw_m8 26 rfl) rfl
theorem q1805 : (Jvm.Cond.soleField "ThirdAfterModel" "holding") ∈ lw_all := lw_g (lw_at lw_m8 27 rfl) rfl
theorem q1806 : (Jvm.Cond.laysFinal "ThirdAfterModel" "ThirdAfterModel" "rowLength" "[I") ∈ lw_all := lw_g (lw_at lw_m8 28 rfl) rfl
theorem q1807 : (Jvm.Cond.soleField "ThirdAfterModel" "rowLength") ∈ lw_all := lw_g (lw_at lw_m8 29 rfl) rfl
theorem q1808 : (Jvm.Cond.laysFinal "ThirdAfterModel" "ThirdAfterModel" "rowOf" "[J") ∈ lw_all := lw_g (lw_at lw_m8 30 rfl) rfl
theorem q1809 : (Jvm.Cond.soleField "ThirdAfterModel" "rowOf") ∈ lw_all := lw_g (lw_at lw_m8 31 rfl) rfl
theorem q1810 : (Jvm.Cond.laysFinal "ThirdAfterModel" "ThirdAfterModel" "was" "[I") ∈ lw_all := lw_g (lw_at lw_m8 32 rfl) rfl
theorem q1811 : (Jvm.Cond.soleField "ThirdAfterModel" "was") ∈ lw_all := lw_g (lw_at lw_m8 33 rfl) rfl
theorem q1812 : (Jvm.Cond.laysFinal "ThirdAfterModel" "ThirdAfterModel" "turned" "[I") ∈ lw_all := lw_g (lw_at lw_m8 34 rfl) rfl
theorem q1813 : (Jvm.Cond.soleField "ThirdAfterModel" "turned") ∈ lw_all := lw_g (lw_at lw_m8 35 rfl) rfl
theorem q1814 : (Jvm.Cond.lays "ThirdAfterModel" "ThirdAfterModel" "payer" "I") ∈ lw_all := lw_g (lw_at lw_m8 36 rfl) rfl
theorem q1815 : (Jvm.Cond.soleField "ThirdAfterModel" "payer") ∈ lw_all := lw_g (lw_at lw_m8 37 rfl) rfl
theorem q1816 : (Jvm.Cond.lays "ThirdAfterModel" "ThirdAfterModel" "paid" "I") ∈ lw_all := lw_g (lw_at lw_m8 38 rfl) rfl
theorem q1817 : (Jvm.Cond.soleField "ThirdAfterModel" "paid") ∈ lw_all := lw_g (lw_at lw_m8 39 rfl) rfl
theorem q1818 : (Jvm.Cond.lays "ThirdAfterModel" "ThirdAfterModel" "bought" "I") ∈ lw_all := lw_g (lw_at lw_m8 40 rfl) rfl
theorem q1819 : (Jvm.Cond.soleField "ThirdAfterModel" "bought") ∈ lw_all := lw_g (lw_at lw_m8 41 rfl) rfl
theorem q1820 : (Jvm.Cond.lays "ThirdAfterModel" "ThirdAfterModel" "lacking" "I") ∈ lw_all := lw_g (lw_at lw_m8 42 rfl) rfl
theorem q1821 : (Jvm.Cond.soleField "ThirdAfterModel" "lacking") ∈ lw_all := lw_g (lw_at lw_m8 43 rfl) rfl
theorem q1822 : (Jvm.Cond.laysFinal "ThirdAfterModel" "ThirdAfterModel" "flows" "[I") ∈ lw_all := lw_g (lw_at lw_m8 44 rfl) rfl
theorem q1823 : (Jvm.Cond.soleField "ThirdAfterModel" "flows") ∈ lw_all := lw_g (lw_at lw_m8 45 rfl) rfl
theorem q1824 : (Jvm.Cond.lays "ThirdAfterModel" "ThirdAfterModel" "comings" "I") ∈ lw_all := lw_g (lw_at lw_m8 46 rfl) rfl
theorem q1825 : (Jvm.Cond.soleField "ThirdAfterModel" "comings") ∈ lw_all := lw_g (lw_at lw_m8 47 rfl) rfl
theorem q1826 : (Jvm.Cond.laysFinal "ThirdAfterModel" "ThirdAfterModel" "row" "[I") ∈ lw_all := lw_g (lw_at lw_m8 48 rfl) rfl
theorem q1827 : (Jvm.Cond.soleField "ThirdAfterModel" "row") ∈ lw_all := lw_g (lw_at lw_m8 49 rfl) rfl
theorem q1828 : (Jvm.Cond.laysFinal "ThirdAfterModel" "ThirdAfterModel" "payers" "[I") ∈ lw_all := lw_g (lw_at lw_m8 50 rfl) rfl
theorem q1829 : (Jvm.Cond.soleField "ThirdAfterModel" "payers") ∈ lw_all := lw_g (lw_at lw_m8 51 rfl) rfl
theorem q1830 : (Jvm.Cond.laysFinal "ThirdAfterModel" "ThirdAfterModel" "paids" "[I") ∈ lw_all := lw_g (lw_at lw_m8 52 rfl) rfl
theorem q1831 : (Jvm.Cond.soleField "ThirdAfterModel" "paids") ∈ lw_all := lw_g (lw_at lw_m8 53 rfl) rfl
theorem q1832 : (Jvm.Cond.laysFinal "ThirdAfterModel" "ThirdAfterModel" "boughts" "[I") ∈ lw_all := lw_g (lw_at lw_m8 54 rfl) rfl
theorem q1833 : (Jvm.Cond.soleField "ThirdAfterModel" "boughts") ∈ lw_all := lw_g (lw_at lw_m8 55 rfl) rfl
theorem q1834 : (Jvm.Cond.laysFinal "ThirdAfterModel" "ThirdAfterModel" "tried" "[I") ∈ lw_all := lw_g (lw_at lw_m8 56 rfl) rfl
theorem q1835 : (Jvm.Cond.soleField "ThirdAfterModel" "tried") ∈ lw_all := lw_g (lw_at lw_m8 57 rfl) rfl
theorem q1836 : (Jvm.Cond.laysFinal "ThirdAfterModel" "ThirdAfterModel" "ordered" "[I") ∈ lw_all := lw_g (lw_at lw_m8 58 rfl) rfl
theorem q1837 : (Jvm.Cond.soleField "ThirdAfterModel" "ordered") ∈ lw_all := lw_g (lw_at lw_m8 59 rfl) rfl
theorem q1838 : (Jvm.Cond.lays "ThirdAfterModel" "ThirdAfterModel" "best" "I") ∈ lw_all := lw_g (lw_at lw_m8 60 rfl) rfl
theorem q1839 : (Jvm.Cond.soleField "ThirdAfterModel" "best") ∈ lw_all := lw_g (lw_at lw_m8 61 rfl) rfl
theorem q1840 : (Jvm.Cond.laysFinal "ThirdAfterModel" "ThirdAfterModel" "steps" "[I") ∈ lw_all := lw_g (lw_at lw_m8 62 rfl) rfl
theorem q1841 : (Jvm.Cond.soleField "ThirdAfterModel" "steps") ∈ lw_all := lw_g (lw_at lw_m8 63 rfl) rfl
theorem q1842 : (Jvm.Cond.superclass "ThirdAfterModel" "java/lang/Object") ∈ lw_all := lw_g (lw_at lw_m8 64 rfl) rfl
theorem q1844 : (Jvm.Cond.instanceMethod ({ cls := "ThirdAfterModel", name := "buyer", desc := "(II)I" } : Jvm.MethodName)) ∈ lw_all := lw_g (lw_at lw_m8 66 rfl) rfl
theorem q1845 : (Jvm.Cond.selects "ThirdAfterModel" ({ cls := "ThirdAfterModel", name := "buyer", desc := "(II)I" } : Jvm.MethodName) ({ cls := "ThirdAfterModel", name := "buyer", desc := "(II)I" } : Jvm.MethodName)) ∈ lw_all := lw_g (lw_at lw_m8 67 rfl) rfl
theorem q1846 : (Jvm.Cond.code ({ cls := "ThirdAfterModel", name := "buyer", desc := "(II)I" } : Jvm.MethodName) prog_32_method_6_code (3 : Nat) (Option.some Jvm.ClassFile.FieldType.int)) ∈ lw_all := lw_g (lw_at lw_m8 68 rfl) rfl
theorem q1847 : (Jvm.Cond.methodLink "ThirdAfterModel" (119 : Nat) ({ cls := "ThirdAfterModel", name := "within", desc := "(III)Z" } : Jvm.MethodName)) ∈ lw_all := lw_g (lw_at lw_m8 69 rfl) rfl
theorem q1848 : (Jvm.Cond.static ({ cls := "ThirdAfterModel", name := "within", desc := "(III)Z" } : Jvm.MethodName)) ∈ lw_all := lw_g (lw_at lw_m8 70 rfl) rfl
theorem q1849 : (Jvm.Cond.code ({ cls := "ThirdAfterModel", name := "within", desc := "(III)Z" } : Jvm.MethodName) prog_32_method_2_code (3 : Nat) (Option.some Jvm.ClassFile.FieldType.boolean)) ∈ lw_all := lw_g (lw_at lw_m8 71 rfl) rfl
theorem q1850 : (Jvm.Cond.methodLink "ThirdAfterModel" (123 : Nat) ({ cls := "ThirdAfterModel", name := "newBuyer", desc := "(III)I" } : Jvm.MethodName)) ∈ lw_all := lw_g (lw_at lw_m8 72 rfl) rfl
theorem q1851 : (Jvm.Cond.privateMethod ({ cls := "ThirdAfterModel", name := "newBuyer", desc := "(III)I" } : Jvm.MethodName)) ∈ lw_tbl := lw_at lw_m8 73 rfl
theorem q1852 : (Jvm.Cond.instanceMethod ({ cls := "ThirdAfterModel", name := "newBuyer", desc := "(III)I" } : Jvm.MethodName)) ∈ lw_all := lw_g (lw_at lw_m8 74 rfl) rfl
theorem q1853 : (Jvm.Cond.code ({ cls := "ThirdAfterModel", name := "newBuyer", desc := "(III)I" } : Jvm.MethodName) prog_32_method_5_code (4 : Nat) (Option.some Jvm.ClassFile.FieldType.int)) ∈ lw_all := lw_g (lw_at lw_m8 75 rfl) rfl
theorem q1855 : (Jvm.Cond.instanceMethod ({ cls := "ThirdAfterModel", name := "buyers", desc := "(III)I" } : Jvm.MethodName)) ∈ lw_all := lw_g (lw_at lw_m8 77 rfl) rfl
theorem q1856 : (Jvm.Cond.selects "ThirdAfterModel" ({ cls := "ThirdAfterModel", name := "buyers", desc := "(III)I" } : Jvm.MethodName) ({ cls := "ThirdAfterModel", name := "buyers", desc := "(III)I" } : Jvm.MethodName)) ∈ lw_all := lw_g (lw_at lw_m8 78 rfl) rfl
theorem q1857 : (Jvm.Cond.code ({ cls := "ThirdAfterModel", name := "buyers", desc := "(III)I" } : Jvm.MethodName) prog_32_method_7_code (9 : Nat) (Option.some Jvm.ClassFile.FieldType.int)) ∈ lw_all := lw_g (lw_at lw_m8 79 rfl) rfl
theorem q1858 : (Jvm.Cond.methodLink "ThirdAfterModel" (127 : Nat) ({ cls := "ThirdAfterModel", name := "isShelf", desc := "(I)Z" } : Jvm.MethodName)) ∈ lw_all := lw_g (lw_at lw_m8 80 rfl) rfl
theorem q1859 : (Jvm.Cond.static ({ cls := "ThirdAfterModel", name := "isShelf", desc := "(I)Z" } : Jvm.MethodName)) ∈ lw_all := lw_g (lw_at lw_m8 81 rfl) rfl
theorem q1860 : (Jvm.Cond.code ({ cls := "ThirdAfterModel", name := "isShelf", desc := "(I)Z" } : Jvm.MethodName) prog_32_method_4_code (1 : Nat) (Option.some Jvm.ClassFile.FieldType.boolean)) ∈ lw_all := lw_g (lw_at lw_m8 82 rfl) rfl
theorem q1861 : (Jvm.Cond.constantLong "ThirdAfterModel" (131 : Nat) (3 : Int64)) ∈ lw_all := lw_g (lw_at lw_m8 83 rfl) rfl
theorem q1862 : (Jvm.Cond.methodLink "ThirdAfterModel" (133 : Nat) ({ cls := "ThirdAfterModel", name := "toldAt", desc := "(II)I" } : Jvm.MethodName)) ∈ lw_all := lw_g (lw_at lw_m8 84 rfl) rfl
theorem q1863 : (Jvm.Cond.privateMethod ({ cls := "ThirdAfterModel", name := "toldAt", desc := "(II)I" } : Jvm.MethodName)) ∈ lw_tbl := lw_at lw_m8 85 rfl
theorem q1864 : (Jvm.Cond.instanceMethod ({ cls := "ThirdAfterModel", name := "toldAt", desc := "(II)I" } : Jvm.MethodName)) ∈ lw_all := lw_g (lw_at lw_m8 86 rfl) rfl
theorem q1865 : (Jvm.Cond.code ({ cls := "ThirdAfterModel", name := "toldAt", desc := "(II)I" } : Jvm.MethodName) prog_32_method_8_code (3 : Nat) (Option.some Jvm.ClassFile.FieldType.int)) ∈ lw_all := lw_g (lw_at lw_m8 87 rfl) rfl
theorem q1867 : (Jvm.Cond.instanceMethod ({ cls := "ThirdAfterModel", name := "mend", desc := "(III)I" } : Jvm.MethodName)) ∈ lw_all := lw_g (lw_at lw_m8 89 rfl) rfl
theorem q1868 : (Jvm.Cond.selects "ThirdAfterModel" ({ cls := "ThirdAfterModel", name := "mend", desc := "(III)I" } : Jvm.MethodName) ({ cls := "ThirdAfterModel", name := "mend", desc := "(III)I" } : Jvm.MethodName)) ∈ lw_all := lw_g (lw_at lw_m8 90 rfl) rfl
theorem q1869 : (Jvm.Cond.code ({ cls := "ThirdAfterModel", name := "mend", desc := "(III)I" } : Jvm.MethodName) prog_32_method_13_code (6 : Nat) (Option.some Jvm.ClassFile.FieldType.int)) ∈ lw_all := lw_g (lw_at lw_m8 91 rfl) rfl
theorem q1870 : (Jvm.Cond.methodLink "ThirdAfterModel" (140 : Nat) ({ cls := "ThirdAfterModel", name := "isOf", desc := "(II)Z" } : Jvm.MethodName)) ∈ lw_all := lw_g (lw_at lw_m8 92 rfl) rfl
theorem q1871 : (Jvm.Cond.privateMethod ({ cls := "ThirdAfterModel", name := "isOf", desc := "(II)Z" } : Jvm.MethodName)) ∈ lw_tbl := lw_at lw_m8 93 rfl
theorem q1872 : (Jvm.Cond.instanceMethod ({ cls := "ThirdAfterModel", name := "isOf", desc := "(II)Z" } : Jvm.MethodName)) ∈ lw_all := lw_g (lw_at lw_m8 94 rfl) rfl
theorem q1873 : (Jvm.Cond.code ({ cls := "ThirdAfterModel", name := "isOf", desc := "(II)Z" } : Jvm.MethodName) prog_32_method_9_code (3 : Nat) (Option.some Jvm.ClassFile.FieldType.boolean)) ∈ lw_all := lw_g (lw_at lw_m8 95 rfl) rfl
theorem q1874 : (Jvm.Cond.methodLink "ThirdAfterModel" (137 : Nat) ({ cls := "ThirdAfterModel", name := "isBuyer", desc := "(I)Z" } : Jvm.MethodName)) ∈ lw_all := lw_g (lw_at lw_m8 96 rfl) rfl
theorem q1875 : (Jvm.Cond.privateMethod ({ cls := "ThirdAfterModel", name := "isBuyer", desc := "(I)Z" } : Jvm.MethodName)) ∈ lw_tbl := lw_at lw_m8 97 rfl
theorem q1876 : (Jvm.Cond.instanceMethod ({ cls := "ThirdAfterModel", name := "isBuyer", desc := "(I)Z" } : Jvm.MethodName)) ∈ lw_all := lw_g (lw_at lw_m8 98 rfl) rfl
theorem q1877 : (Jvm.Cond.code ({ cls := "ThirdAfterModel", name := "isBuyer", desc := "(I)Z" } : Jvm.MethodName) prog_32_method_3_code (2 : Nat) (Option.some Jvm.ClassFile.FieldType.boolean)) ∈ lw_all := lw_g (lw_at lw_m8 99 rfl) rfl
theorem q1878 : (Jvm.Cond.methodLink "ThirdAfterModel" (144 : Nat) ({ cls := "ThirdAfterModel", name := "isFit", desc := "(II)Z" } : Jvm.MethodName)) ∈ lw_all := lw_g (lw_at lw_m8 100 rfl) rfl
theorem q1879 : (Jvm.Cond.static ({ cls := "ThirdAfterModel", name := "isFit", desc := "(II)Z" } : Jvm.MethodName)) ∈ lw_all := lw_g (lw_at lw_m8 101 rfl) rfl
theorem q1880 : (Jvm.Cond.code ({ cls := "ThirdAfterModel", name := "isFit", desc := "(II)Z" } : Jvm.MethodName) prog_32_method_10_code (2 : Nat) (Option.some Jvm.ClassFile.FieldType.boolean)) ∈ lw_all := lw_g (lw_at lw_m8 102 rfl) rfl
theorem q1881 : (Jvm.Cond.methodLink "ThirdAfterModel" (147 : Nat) ({ cls := "ThirdAfterModel", name := "get", desc := "(II)I" } : Jvm.MethodName)) ∈ lw_all := lw_g (lw_at lw_m8 103 rfl) rfl
theorem q1882 : (Jvm.Cond.privateMethod ({ cls := "ThirdAfterModel", name := "get", desc := "(II)I" } : Jvm.MethodName)) ∈ lw_tbl := lw_at lw_m8 104 rfl
theorem q1883 : (Jvm.Cond.instanceMethod ({ cls := "ThirdAfterModel", name := "get", desc := "(II)I" } : Jvm.MethodName)) ∈ lw_all := lw_g (lw_at lw_m8 105 rfl) rfl
theorem q1884 : (Jvm.Cond.code ({ cls := "ThirdAfterModel", name := "get", desc := "(II)I" } : Jvm.MethodName) prog_32_method_11_code (3 : Nat) (Option.some Jvm.ClassFile.FieldType.int)) ∈ lw_all := lw_g (lw_at lw_m8 106 rfl) rfl
theorem q1885 : (Jvm.Cond.methodLink "ThirdAfterModel" (150 : Nat) ({ cls := "ThirdAfterModel", name := "becomes", desc := "(III)V" } : Jvm.MethodName)) ∈ lw_all := lw_g (lw_at lw_m8 107 rfl) rfl
theorem q1886 : (Jvm.Cond.privateMethod ({ cls := "ThirdAfterModel", name := "becomes", desc := "(III)V" } : Jvm.MethodName)) ∈ lw_tbl := lw_at lw_m8 108 rfl
theorem q1887 : (Jvm.Cond.instanceMethod ({ cls := "ThirdAfterModel", name := "becomes", desc := "(III)V" } : Jvm.MethodName)) ∈ lw_all := lw_g (lw_at lw_m8 109 rfl) rfl
theorem q1888 : (Jvm.Cond.code ({ cls := "ThirdAfterModel", name := "becomes", desc := "(III)V" } : Jvm.MethodName) prog_32_method_12_code (4 : Nat) (Option.none : Option Jvm.ClassFile.FieldType)) ∈ lw_all := lw_g (lw_at lw_m8 110 rfl) rfl
theorem q1890 : (Jvm.Cond.instanceMethod ({ cls := "ThirdAfterModel", name := "of", desc := "(II)I" } : Jvm.MethodName)) ∈ lw_all := lw_g (lw_at lw_m8 112 rfl) rfl
theorem q1891 : (Jvm.Cond.selects "ThirdAfterModel" ({ cls := "ThirdAfterModel", name := "of", desc := "(II)I" } : Jvm.MethodName) ({ cls := "ThirdAfterModel", name := "of", desc := "(II)I" } : Jvm.MethodName)) ∈ lw_all := lw_g (lw_at lw_m8 113 rfl) rfl
theorem q1892 : (Jvm.Cond.code ({ cls := "ThirdAfterModel", name := "of", desc := "(II)I" } : Jvm.MethodName) prog_32_method_14_code (3 : Nat) (Option.some Jvm.ClassFile.FieldType.int)) ∈ lw_all := lw_g (lw_at lw_m8 114 rfl) rfl
theorem q1894 : (Jvm.Cond.instanceMethod ({ cls := "ThirdAfterModel", name := "undo", desc := "()I" } : Jvm.MethodName)) ∈ lw_all := lw_g (lw_at lw_m8 116 rfl) rfl
theorem q1895 : (Jvm.Cond.selects "ThirdAfterModel" ({ cls := "ThirdAfterModel", name := "undo", desc := "()I" } : Jvm.MethodName) ({ cls := "ThirdAfterModel", name := "undo", desc := "()I" } : Jvm.MethodName)) ∈ lw_all := lw_g (lw_at lw_m8 117 rfl) rfl
theorem q1896 : (Jvm.Cond.code ({ cls := "ThirdAfterModel", name := "undo", desc := "()I" } : Jvm.MethodName) prog_32_method_15_code (1 : Nat) (Option.some Jvm.ClassFile.FieldType.int)) ∈ lw_all := lw_g (lw_at lw_m8 118 rfl) rfl
theorem q1898 : (Jvm.Cond.instanceMethod ({ cls := "ThirdAfterModel", name := "redo", desc := "()I" } : Jvm.MethodName)) ∈ lw_all := lw_g (lw_at lw_m8 120 rfl) rfl
theorem q1899 : (Jvm.Cond.selects "ThirdAfterModel" ({ cls := "ThirdAfterModel", name := "redo", desc := "()I" } : Jvm.MethodName) ({ cls := "ThirdAfterModel", name := "redo", desc := "()I" } : Jvm.MethodName)) ∈ lw_all := lw_g (lw_at lw_m8 121 rfl) rfl
theorem q1900 : (Jvm.Cond.code ({ cls := "ThirdAfterModel", name := "redo", desc := "()I" } : Jvm.MethodName) prog_32_method_16_code (1 : Nat) (Option.some Jvm.ClassFile.FieldType.int)) ∈ lw_all := lw_g (lw_at lw_m8 122 rfl) rfl
theorem q1902 : (Jvm.Cond.instanceMethod ({ cls := "ThirdAfterModel", name := "feed", desc := "(I)I" } : Jvm.MethodName)) ∈ lw_all := lw_g (lw_at lw_m8 124 rfl) rfl
theorem q1903 : (Jvm.Cond.selects "ThirdAfterModel" ({ cls := "ThirdAfterModel", name := "feed", desc := "(I)I" } : Jvm.MethodName) ({ cls := "ThirdAfterModel", name := "feed", desc := "(I)I" } : Jvm.MethodName)) ∈ lw_all := lw_g (lw_at lw_m8 125 rfl) rfl
theorem q1904 : (Jvm.Cond.code ({ cls := "ThirdAfterModel", name := "feed", desc := "(I)I" } : Jvm.MethodName) prog_32_method_17_code (2 : Nat) (Option.some Jvm.ClassFile.FieldType.int)) ∈ lw_all := lw_g (lw_at lw_m8 126 rfl) rfl
theorem q1906 : (Jvm.Cond.instanceMethod ({ cls := "ThirdAfterModel", name := "law", desc := "()I" } : Jvm.MethodName)) ∈ lw_all := lw_g (lw_at lw_m8 128 rfl) rfl
theorem q1907 : (Jvm.Cond.selects "ThirdAfterModel" ({ cls := "ThirdAfterModel", name := "law", desc := "()I" } : Jvm.MethodName) ({ cls := "ThirdAfterModel", name := "law", desc := "()I" } : Jvm.MethodName)) ∈ lw_all := lw_g (lw_at lw_m8 129 rfl) rfl
theorem q1908 : (Jvm.Cond.code ({ cls := "ThirdAfterModel", name := "law", desc := "()I" } : Jvm.MethodName) prog_32_method_30_code (4 : Nat) (Option.some Jvm.ClassFile.FieldType.int)) ∈ lw_all := lw_g (lw_at lw_m8 130 rfl) rfl
theorem q1909 : (Jvm.Cond.methodLink "ThirdAfterModel" (211 : Nat) ({ cls := "ThirdAfterModel", name := "isLine", desc := "()Z" } : Jvm.MethodName)) ∈ lw_all := lw_g (lw_at lw_m8 131 rfl) rfl
theorem q1910 : (Jvm.Cond.privateMethod ({ cls := "ThirdAfterModel", name := "isLine", desc := "()Z" } : Jvm.MethodName)) ∈ lw_tbl := lw_at lw_m8 132 rfl
theorem q1911 : (Jvm.Cond.instanceMethod ({ cls := "ThirdAfterModel", name := "isLine", desc := "()Z" } : Jvm.MethodName)) ∈ lw_all := lw_g (lw_at lw_m8 133 rfl) rfl
theorem q1912 : (Jvm.Cond.code ({ cls := "ThirdAfterModel", name := "isLine", desc := "()Z" } : Jvm.MethodName) prog_32_method_29_code (1 : Nat) (Option.some Jvm.ClassFile.FieldType.boolean)) ∈ lw_all := lw_g (lw_at lw_m8 134 rfl) rfl
theorem q1913 : (Jvm.Cond.methodLink "ThirdAfterModel" (193 : Nat) ({ cls := "ThirdAfterModel", name := "isE", desc := "()Z" } : Jvm.MethodName)) ∈ lw_all := lw_g (lw_at lw_m8 135 rfl) rfl
theorem q1914 : (Jvm.Cond.privateMethod ({ cls := "ThirdAfterModel", name := "isE", desc := "()Z" } : Jvm.MethodName)) ∈ lw_tbl := lw_at lw_m8 136 rfl
theorem q1915 : (Jvm.Cond.instanceMethod ({ cls := "ThirdAfterModel", name := "isE", desc := "()Z" } : Jvm.MethodName)) ∈ lw_all := lw_g (lw_at lw_m8 137 rfl) rfl
theorem q1916 : (Jvm.Cond.code ({ cls := "ThirdAfterModel", name := "isE", desc := "()Z" } : Jvm.MethodName) prog_32_method_28_code (1 : Nat) (Option.some Jvm.ClassFile.FieldType.boolean)) ∈ lw_all := lw_g (lw_at lw_m8 138 rfl) rfl
theorem q1917 : (Jvm.Cond.methodLink "ThirdAfterModel" (205 : Nat) ({ cls := "ThirdAfterModel", name := "isA", desc := "()Z" } : Jvm.MethodName)) ∈ lw_all := lw_g (lw_at lw_m8 139 rfl) rfl
theorem q1918 : (Jvm.Cond.privateMethod ({ cls := "ThirdAfterModel", name := "isA", desc := "()Z" } : Jvm.MethodName)) ∈ lw_tbl := lw_at lw_m8 140 rfl
theorem q1919 : (Jvm.Cond.instanceMethod ({ cls := "ThirdAfterModel", name := "isA", desc := "()Z" } : Jvm.MethodName)) ∈ lw_all := lw_g (lw_at lw_m8 141 rfl) rfl
theorem q1920 : (Jvm.Cond.code ({ cls := "ThirdAfterModel", name := "isA", desc := "()Z" } : Jvm.MethodName) prog_32_method_27_code (1 : Nat) (Option.some Jvm.ClassFile.FieldType.boolean)) ∈ lw_all := lw_g (lw_at lw_m8 142 rfl) rfl
theorem q1921 : (Jvm.Cond.methodLink "ThirdAfterModel" (202 : Nat) ({ cls := "ThirdAfterModel", name := "isB", desc := "()Z" } : Jvm.MethodName)) ∈ lw_all := lw_g (lw_at lw_m8 143 rfl) rfl
theorem q1922 : (Jvm.Cond.privateMethod ({ cls := "ThirdAfterModel", name := "isB", desc := "()Z" } : Jvm.MethodName)) ∈ lw_tbl := lw_at lw_m8 144 rfl
theorem q1923 : (Jvm.Cond.instanceMethod ({ cls := "ThirdAfterModel", name := "isB", desc := "()Z" } : Jvm.MethodName)) ∈ lw_all := lw_g (lw_at lw_m8 145 rfl) rfl
theorem q1924 : (Jvm.Cond.code ({ cls := "ThirdAfterModel", name := "isB", desc := "()Z" } : Jvm.MethodName) prog_32_method_26_code (2 : Nat) (Option.some Jvm.ClassFile.FieldType.boolean)) ∈ lw_all := lw_g (lw_at lw_m8 146 rfl) rfl
theorem q1925 : (Jvm.Cond.methodLink "ThirdAfterModel" (199 : Nat) ({ cls := "ThirdAfterModel", name := "isS", desc := "()Z" } : Jvm.MethodName)) ∈ lw_all := lw_g (lw_at lw_m8 147 rfl) rfl
theorem q1926 : (Jvm.Cond.privateMethod ({ cls := "ThirdAfterModel", name := "isS", desc := "()Z" } : Jvm.MethodName)) ∈ lw_tbl := lw_at lw_m8 148 rfl
theorem q1927 : (Jvm.Cond.instanceMethod ({ cls := "ThirdAfterModel", name := "isS", desc := "()Z" } : Jvm.MethodName)) ∈ lw_all := lw_g (lw_at lw_m8 149 rfl) rfl
theorem q1928 : (Jvm.Cond.code ({ cls := "ThirdAfterModel", name := "isS", desc := "()Z" } : Jvm.MethodName) prog_32_method_25_code (2 : Nat) (Option.some Jvm.ClassFile.FieldType.boolean)) ∈ lw_all := lw_g (lw_at lw_m8 150 rfl) rfl
theorem q1929 : (Jvm.Cond.methodLink "ThirdAfterModel" (196 : Nat) ({ cls := "ThirdAfterModel", name := "isP", desc := "()Z" } : Jvm.MethodName)) ∈ lw_all := lw_g (lw_at lw_m8 151 rfl) rfl
theorem q1930 : (Jvm.Cond.privateMethod ({ cls := "ThirdAfterModel", name := "isP", desc := "()Z" } : Jvm.MethodName)) ∈ lw_tbl := lw_at lw_m8 152 rfl
theorem q1931 : (Jvm.Cond.instanceMethod ({ cls := "ThirdAfterModel", name := "isP", desc := "()Z" } : Jvm.MethodName)) ∈ lw_all := lw_g (lw_at lw_m8 153 rfl) rfl
theorem q1932 : (Jvm.Cond.code ({ cls := "ThirdAfterModel", name := "isP", desc := "()Z" } : Jvm.MethodName) prog_32_method_24_code (2 : Nat) (Option.some Jvm.ClassFile.FieldType.boolean)) ∈ lw_all := lw_g (lw_at lw_m8 154 rfl) rfl
theorem q1933 : (Jvm.Cond.methodLink "ThirdAfterModel" (190 : Nat) ({ cls := "ThirdAfterModel", name := "isO", desc := "()Z" } : Jvm.MethodName)) ∈ lw_all := lw_g (lw_at lw_m8 155 rfl) rfl
theorem q1934 : (Jvm.Cond.privateMethod ({ cls := "ThirdAfterModel", name := "isO", desc := "()Z" } : Jvm.MethodName)) ∈ lw_tbl := lw_at lw_m8 156 rfl
theorem q1935 : (Jvm.Cond.instanceMethod ({ cls := "ThirdAfterModel", name := "isO", desc := "()Z" } : Jvm.MethodName)) ∈ lw_all := lw_g (lw_at lw_m8 157 rfl) rfl
theorem q1936 : (Jvm.Cond.code ({ cls := "ThirdAfterModel", name := "isO", desc := "()Z" } : Jvm.MethodName) prog_32_method_23_code (3 : Nat) (Option.some Jvm.ClassFile.FieldType.boolean)) ∈ lw_all := lw_g (lw_at lw_m8 158 rfl) rfl
theorem q1937 : (Jvm.Cond.methodLink "ThirdAfterModel" (173 : Nat) ({ cls := "ThirdAfterModel", name := "isDigit", desc := "()Z" } : Jvm.MethodName)) ∈ lw_all := lw_g (lw_at lw_m8 159 rfl) rfl
theorem q1938 : (Jvm.Cond.privateMethod ({ cls := "ThirdAfterModel", name := "isDigit", desc := "()Z" } : Jvm.MethodName)) ∈ lw_tbl := lw_at lw_m8 160 rfl
theorem q1939 : (Jvm.Cond.instanceMethod ({ cls := "ThirdAfterModel", name := "isDigit", desc := "()Z" } : Jvm.MethodName)) ∈ lw_all := lw_g (lw_at lw_m8 161 rfl) rfl
theorem q1940 : (Jvm.Cond.code ({ cls := "ThirdAfterModel", name := "isDigit", desc := "()Z" } : Jvm.MethodName) prog_32_method_21_code (1 : Nat) (Option.some Jvm.ClassFile.FieldType.boolean)) ∈ lw_all := lw_g (lw_at lw_m8 162 rfl) rfl
theorem q1941 : (Jvm.Cond.methodLink "ThirdAfterModel" (166 : Nat) ({ cls := "ThirdAfterModel", name := "sign", desc := "()I" } : Jvm.MethodName)) ∈ lw_all := lw_g (lw_at lw_m8 163 rfl) rfl
theorem q1942 : (Jvm.Cond.privateMethod ({ cls := "ThirdAfterModel", name := "sign", desc := "()I" } : Jvm.MethodName)) ∈ lw_tbl := lw_at lw_m8 164 rfl
theorem q1943 : (Jvm.Cond.instanceMethod ({ cls := "ThirdAfterModel", name := "sign", desc := "()I" } : Jvm.MethodName)) ∈ lw_all := lw_g (lw_at lw_m8 165 rfl) rfl
theorem q1944 : (Jvm.Cond.code ({ cls := "ThirdAfterModel", name := "sign", desc := "()I" } : Jvm.MethodName) prog_32_method_18_code (1 : Nat) (Option.some Jvm.ClassFile.FieldType.int)) ∈ lw_all := lw_g (lw_at lw_m8 166 rfl) rfl
theorem q1945 : (Jvm.Cond.methodLink "ThirdAfterModel" (177 : Nat) ({ cls := "ThirdAfterModel", name := "codes", desc := "(I)Z" } : Jvm.MethodName)) ∈ lw_all := lw_g (lw_at lw_m8 167 rfl) rfl
theorem q1946 : (Jvm.Cond.privateMethod ({ cls := "ThirdAfterModel", name := "codes", desc := "(I)Z" } : Jvm.MethodName)) ∈ lw_tbl := lw_at lw_m8 168 rfl
theorem q1947 : (Jvm.Cond.instanceMethod ({ cls := "ThirdAfterModel", name := "codes", desc := "(I)Z" } : Jvm.MethodName)) ∈ lw_all := lw_g (lw_at lw_m8 169 rfl) rfl
theorem q1948 : (Jvm.Cond.code ({ cls := "ThirdAfterModel", name := "codes", desc := "(I)Z" } : Jvm.MethodName) prog_32_method_20_code (2 : Nat) (Option.some Jvm.ClassFile.FieldType.boolean)) ∈ lw_all := lw_g (lw_at lw_m8 170 rfl) rfl
theorem q1949 : (Jvm.Cond.methodLink "ThirdAfterModel" (180 : Nat) ({ cls := "ThirdAfterModel", name := "nameOf", desc := "(I)I" } : Jvm.MethodName)) ∈ lw_all := lw_g (lw_at lw_m8 171 rfl) rfl
theorem q1950 : (Jvm.Cond.static ({ cls := "ThirdAfterModel", name := "nameOf", desc := "(I)I" } : Jvm.MethodName)) ∈ lw_all := lw_g (lw_at lw_m8 172 rfl) rfl
theorem q1951 : (Jvm.Cond.code ({ cls := "ThirdAfterModel", name := "nameOf", desc := "(I)I" } : Jvm.MethodName) prog_32_method_22_code (1 : Nat) (Option.some Jvm.ClassFile.FieldType.int)) ∈ lw_all := lw_g (lw_at lw_m8 173 rfl) rfl
theorem q1952 : (Jvm.Cond.methodLink "ThirdAfterModel" (187 : Nat) ({ cls := "ThirdAfterModel", name := "is", desc := "(I)Z" } : Jvm.MethodName)) ∈ lw_all := lw_g (lw_at lw_m8 174 rfl) rfl
theorem q1953 : (Jvm.Cond.privateMethod ({ cls := "ThirdAfterModel", name := "is", desc := "(I)Z" } : Jvm.MethodName)) ∈ lw_tbl := lw_at lw_m8 175 rfl
theorem q1954 : (Jvm.Cond.instanceMethod ({ cls := "ThirdAfterModel", name := "is", desc := "(I)Z" } : Jvm.MethodName)) ∈ lw_all := lw_g (lw_at lw_m8 176 rfl) rfl
theorem q1955 : (Jvm.Cond.code ({ cls := "ThirdAfterModel", name := "is", desc := "(I)Z" } : Jvm.MethodName) prog_32_method_19_code (2 : Nat) (Option.some Jvm.ClassFile.FieldType.boolean)) ∈ lw_all := lw_g (lw_at lw_m8 177 rfl) rfl
theorem q1957 : (Jvm.Cond.instanceMethod ({ cls := "ThirdAfterModel", name := "book", desc := "(II)I" } : Jvm.MethodName)) ∈ lw_all := lw_g (lw_at lw_m8 179 rfl) rfl
theorem q1958 : (Jvm.Cond.selects "ThirdAfterModel" ({ cls := "ThirdAfterModel", name := "book", desc := "(II)I" } : Jvm.MethodName) ({ cls := "ThirdAfterModel", name := "book", desc := "(II)I" } : Jvm.MethodName)) ∈ lw_all := lw_g (lw_at lw_m8 180 rfl) rfl
theorem q1959 : (Jvm.Cond.code ({ cls := "ThirdAfterModel", name := "book", desc := "(II)I" } : Jvm.MethodName) prog_32_method_35_code (3 : Nat) (Option.some Jvm.ClassFile.FieldType.int)) ∈ lw_all := lw_g (lw_at lw_m8 181 rfl) rfl
theorem q1961 : (Jvm.Cond.instanceMethod ({ cls := "ThirdAfterModel", name := "market", desc := "(III)I" } : Jvm.MethodName)) ∈ lw_all := lw_g (lw_at lw_m8 183 rfl) rfl
theorem q1962 : (Jvm.Cond.selects "ThirdAfterModel" ({ cls := "ThirdAfterModel", name := "market", desc := "(III)I" } : Jvm.MethodName) ({ cls := "ThirdAfterModel", name := "market", desc := "(III)I" } : Jvm.MethodName)) ∈ lw_all := lw_g (lw_at lw_m8 184 rfl) rfl
theorem q1963 : (Jvm.Cond.code ({ cls := "ThirdAfterModel", name := "market", desc := "(III)I" } : Jvm.MethodName) prog_32_method_46_code (6 : Nat) (Option.some Jvm.ClassFile.FieldType.int)) ∈ lw_all := lw_g (lw_at lw_m8 185 rfl) rfl
theorem q1964 : (Jvm.Cond.methodLink "ThirdAfterModel" (276 : Nat) ({ cls := "ThirdAfterModel", name := "noBytes", desc := "(I)I" } : Jvm.MethodName)) ∈ lw_all := lw_g (lw_at lw_m8 186 rfl) rfl
theorem q1965 : (Jvm.Cond.privateMethod ({ cls := "ThirdAfterModel", name := "noBytes", desc := "(I)I" } : Jvm.MethodName)) ∈ lw_tbl := lw_at lw_m8 187 rfl
theorem q1966 : (Jvm.Cond.instanceMethod ({ cls := "ThirdAfterModel", name := "noBytes", desc := "(I)I" } : Jvm.MethodName)) ∈ lw_all := lw_g (lw_at lw_m8 188 rfl) rfl
theorem q1967 : (Jvm.Cond.code ({ cls := "ThirdAfterModel", name := "noBytes", desc := "(I)I" } : Jvm.MethodName) prog_32_method_44_code (2 : Nat) (Option.some Jvm.ClassFile.FieldType.int)) ∈ lw_all := lw_g (lw_at lw_m8 189 rfl) rfl
theorem q1968 : (Jvm.Cond.methodLink "ThirdAfterModel" (279 : Nat) ({ cls := "ThirdAfterModel", name := "reads", desc := "(I)V" } : Jvm.MethodName)) ∈ lw_all := lw_g (lw_at lw_m8 190 rfl) rfl
theorem q1969 : (Jvm.Cond.privateMethod ({ cls := "ThirdAfterModel", name := "reads", desc := "(I)V" } : Jvm.MethodName)) ∈ lw_tbl := lw_at lw_m8 191 rfl
theorem q1970 : (Jvm.Cond.instanceMethod ({ cls := "ThirdAfterModel", name := "reads", desc := "(I)V" } : Jvm.MethodName)) ∈ lw_all := lw_g (lw_at lw_m8 192 rfl) rfl
theorem q1971 : (Jvm.Cond.code ({ cls := "ThirdAfterModel", name := "reads", desc := "(I)V" } : Jvm.MethodName) prog_32_method_45_code (2 : Nat) (Option.none : Option Jvm.ClassFile.FieldType)) ∈ lw_all := lw_g (lw_at lw_m8 193 rfl) rfl
theorem q1972 : (Jvm.Cond.methodLink "ThirdAfterModel" (267 : Nat) ({ cls := "ThirdAfterModel", name := "begins", desc := "()V" } : Jvm.MethodName)) ∈ lw_all := lw_g (lw_at lw_m8 194 rfl) rfl
theorem q1973 : (Jvm.Cond.privateMethod ({ cls := "ThirdAfterModel", name := "begins", desc := "()V" } : Jvm.MethodName)) ∈ lw_tbl := lw_at lw_m8 195 rfl
theorem q1974 : (Jvm.Cond.instanceMethod ({ cls := "ThirdAfterModel", name := "begins", desc := "()V" } : Jvm.MethodName)) ∈ lw_all := lw_g (lw_at lw_m8 196 rfl) rfl
theorem q1975 : (Jvm.Cond.code ({ cls := "ThirdAfterModel", name := "begins", desc := "()V" } : Jvm.MethodName) prog_32_method_42_code (2 : Nat) (Option.none : Option Jvm.ClassFile.FieldType)) ∈ lw_all := lw_g (lw_at lw_m8 197 rfl) rfl
theorem q1976 : (Jvm.Cond.methodLink "ThirdAfterModel" (263 : Nat) ({ cls := "ThirdAfterModel", name := "keeps", desc := "([II)V" } : Jvm.MethodName)) ∈ lw_all := lw_g (lw_at lw_m8 198 rfl) rfl
theorem q1977 : (Jvm.Cond.privateMethod ({ cls := "ThirdAfterModel", name := "keeps", desc := "([II)V" } : Jvm.MethodName)) ∈ lw_tbl := lw_at lw_m8 199 rfl
theorem q1978 : (Jvm.Cond.instanceMethod ({ cls := "ThirdAfterModel", name := "keeps", desc := "([II)V" } : Jvm.MethodName)) ∈ lw_all := lw_g (lw_at lw_m8 200 rfl) rfl
theorem q1979 : (Jvm.Cond.code ({ cls := "ThirdAfterModel", name := "keeps", desc := "([II)V" } : Jvm.MethodName) prog_32_method_39_code (4 : Nat) (Option.none : Option Jvm.ClassFile.FieldType)) ∈ lw_all := lw_g (lw_at lw_m8 201 rfl) rfl
theorem q1980 : (Jvm.Cond.methodLink "ThirdAfterModel" (270 : Nat) ({ cls := "ThirdAfterModel", name := "goes", desc := "()V" } : Jvm.MethodName)) ∈ lw_all := lw_g (lw_at lw_m8 202 rfl) rfl
theorem q1981 : (Jvm.Cond.privateMethod ({ cls := "ThirdAfterModel", name := "goes", desc := "()V" } : Jvm.MethodName)) ∈ lw_tbl := lw_at lw_m8 203 rfl
theorem q1982 : (Jvm.Cond.instanceMethod ({ cls := "ThirdAfterModel", name := "goes", desc := "()V" } : Jvm.MethodName)) ∈ lw_all := lw_g (lw_at lw_m8 204 rfl) rfl
theorem q1983 : (Jvm.Cond.code ({ cls := "ThirdAfterModel", name := "goes", desc := "()V" } : Jvm.MethodName) prog_32_method_41_code (2 : Nat) (Option.none : Option Jvm.ClassFile.FieldType)) ∈ lw_all := lw_g (lw_at lw_m8 205 rfl) rfl
theorem q1984 : (Jvm.Cond.methodLink "ThirdAfterModel" (260 : Nat) ({ cls := "ThirdAfterModel", name := "goesIn", desc := "(I)Z" } : Jvm.MethodName)) ∈ lw_all := lw_g (lw_at lw_m8 206 rfl) rfl
theorem q1985 : (Jvm.Cond.privateMethod ({ cls := "ThirdAfterModel", name := "goesIn", desc := "(I)Z" } : Jvm.MethodName)) ∈ lw_tbl := lw_at lw_m8 207 rfl
theorem q1986 : (Jvm.Cond.instanceMethod ({ cls := "ThirdAfterModel", name := "goesIn", desc := "(I)Z" } : Jvm.MethodName)) ∈ lw_all := lw_g (lw_at lw_m8 208 rfl) rfl
theorem q1987 : (Jvm.Cond.code ({ cls := "ThirdAfterModel", name := "goesIn", desc := "(I)Z" } : Jvm.MethodName) prog_32_method_37_code (3 : Nat) (Option.some Jvm.ClassFile.FieldType.boolean)) ∈ lw_all := lw_g (lw_at lw_m8 209 rfl) rfl
theorem q1988 : (Jvm.Cond.methodLink "ThirdAfterModel" (250 : Nat) ({ cls := "ThirdAfterModel", name := "pays", desc := "(I)V" } : Jvm.MethodName)) ∈ lw_all := lw_g (lw_at lw_m8 210 rfl) rfl
theorem q1989 : (Jvm.Cond.privateMethod ({ cls := "ThirdAfterModel", name := "pays", desc := "(I)V" } : Jvm.MethodName)) ∈ lw_tbl := lw_at lw_m8 211 rfl
theorem q1990 : (Jvm.Cond.instanceMethod ({ cls := "ThirdAfterModel", name := "pays", desc := "(I)V" } : Jvm.MethodName)) ∈ lw_all := lw_g (lw_at lw_m8 212 rfl) rfl
theorem q1991 : (Jvm.Cond.code ({ cls := "ThirdAfterModel", name := "pays", desc := "(I)V" } : Jvm.MethodName) prog_32_method_36_code (5 : Nat) (Option.none : Option Jvm.ClassFile.FieldType)) ∈ lw_all := lw_g (lw_at lw_m8 213 rfl) rfl
theorem q1992 : (Jvm.Cond.methodLink "ThirdAfterModel" (230 : Nat) ({ cls := "java/lang/Math", name := "min", desc := "(II)I" } : Jvm.MethodName)) ∈ lw_all := lw_g (lw_at lw_m8 214 rfl) rfl
theorem q1993 : (Jvm.Cond.methodLink "ThirdAfterModel" (254 : Nat) ({ cls := "ThirdAfterModel", name := "buysFor", desc := "(II)I" } : Jvm.MethodName)) ∈ lw_all := lw_g (lw_at lw_m8 215 rfl) rfl
theorem q1994 : (Jvm.Cond.privateMethod ({ cls := "ThirdAfterModel", name := "buysFor", desc := "(II)I" } : Jvm.MethodName)) ∈ lw_tbl := lw_at lw_m8 216 rfl
theorem q1995 : (Jvm.Cond.instanceMethod ({ cls := "ThirdAfterModel", name := "buysFor", desc := "(II)I" } : Jvm.MethodName)) ∈ lw_all := lw_g (lw_at lw_m8 217 rfl) rfl
theorem q1996 : (Jvm.Cond.code ({ cls := "ThirdAfterModel", name := "buysFor", desc := "(II)I" } : Jvm.MethodName) prog_32_method_34_code (4 : Nat) (Option.some Jvm.ClassFile.FieldType.int)) ∈ lw_all := lw_g (lw_at lw_m8 218 rfl) rfl
theorem q1997 : (Jvm.Cond.methodLink "ThirdAfterModel" (227 : Nat) ({ cls := "ThirdAfterModel", name := "byLaw", desc := "(I)I" } : Jvm.MethodName)) ∈ lw_all := lw_g (lw_at lw_m8 219 rfl) rfl
theorem q1998 : (Jvm.Cond.privateMethod ({ cls := "ThirdAfterModel", name := "byLaw", desc := "(I)I" } : Jvm.MethodName)) ∈ lw_tbl := lw_at lw_m8 220 rfl
theorem q1999 : (Jvm.Cond.instanceMethod ({ cls := "ThirdAfterModel", name := "byLaw", desc := "(I)I" } : Jvm.MethodName)) ∈ lw_all := lw_g (lw_at lw_m8 221 rfl) rfl
theorem q2000 : (Jvm.Cond.code ({ cls := "ThirdAfterModel", name := "byLaw", desc := "(I)I" } : Jvm.MethodName) prog_32_method_33_code (3 : Nat) (Option.some Jvm.ClassFile.FieldType.int)) ∈ lw_all := lw_g (lw_at lw_m8 222 rfl) rfl
theorem q2001 : (Jvm.Cond.methodLink "ThirdAfterModel" (224 : Nat) ({ cls := "ThirdAfterModel", name := "worked", desc := "(II)I" } : Jvm.MethodName)) ∈ lw_all := lw_g (lw_at lw_m8 223 rfl) rfl
theorem q2002 : (Jvm.Cond.privateMethod ({ cls := "ThirdAfterModel", name := "worked", desc := "(II)I" } : Jvm.MethodName)) ∈ lw_tbl := lw_at lw_m8 224 rfl
theorem q2003 : (Jvm.Cond.instanceMethod ({ cls := "ThirdAfterModel", name := "worked", desc := "(II)I" } : Jvm.MethodName)) ∈ lw_all := lw_g (lw_at lw_m8 225 rfl) rfl
theorem q2004 : (Jvm.Cond.code ({ cls := "ThirdAfterModel", name := "worked", desc := "(II)I" } : Jvm.MethodName) prog_32_method_32_code (6 : Nat) (Option.some Jvm.ClassFile.FieldType.int)) ∈ lw_all := lw_g (lw_at lw_m8 226 rfl) rfl
theorem q2005 : (Jvm.Cond.methodLink "ThirdAfterModel" (221 : Nat) ({ cls := "ThirdAfterModel", name := "both", desc := "(III)I" } : Jvm.MethodName)) ∈ lw_all := lw_g (lw_at lw_m8 227 rfl) rfl
theorem q2006 : (Jvm.Cond.static ({ cls := "ThirdAfterModel", name := "both", desc := "(III)I" } : Jvm.MethodName)) ∈ lw_all := lw_g (lw_at lw_m8 228 rfl) rfl
theorem q2007 : (Jvm.Cond.code ({ cls := "ThirdAfterModel", name := "both", desc := "(III)I" } : Jvm.MethodName) prog_32_method_31_code (3 : Nat) (Option.some Jvm.ClassFile.FieldType.int)) ∈ lw_all := lw_g (lw_at lw_m8 229 rfl) rfl
theorem q2008 : (Jvm.Cond.methodLink "ThirdAfterModel" (235 : Nat) ({ cls := "java/lang/Math", name := "max", desc := "(II)I" } : Jvm.MethodName)) ∈ lw_all := lw_g (lw_at lw_m8 230 rfl) rfl
theorem q2009 : (Jvm.Cond.methodLink "ThirdAfterModel" (273 : Nat) ({ cls := "ThirdAfterModel", name := "laysBack", desc := "([II)V" } : Jvm.MethodName)) ∈ lw_all := lw_g (lw_at lw_m8 231 rfl) rfl
theorem q2010 : (Jvm.Cond.privateMethod ({ cls := "ThirdAfterModel", name := "laysBack", desc := "([II)V" } : Jvm.MethodName)) ∈ lw_tbl := lw_at lw_m8 232 rfl
theorem q2011 : (Jvm.Cond.instanceMethod ({ cls := "ThirdAfterModel", name := "laysBack", desc := "([II)V" } : Jvm.MethodName)) ∈ lw_all := lw_g (lw_at lw_m8 233 rfl) rfl
theorem q2012 : (Jvm.Cond.code ({ cls := "ThirdAfterModel", name := "laysBack", desc := "([II)V" } : Jvm.MethodName) prog_32_method_40_code (4 : Nat) (Option.none : Option Jvm.ClassFile.FieldType)) ∈ lw_all := lw_g (lw_at lw_m8 234 rfl) rfl
theorem q2014 : (Jvm.Cond.instanceMethod ({ cls := "ThirdAfterModel", name := "coming", desc := "(III)I" } : Jvm.MethodName)) ∈ lw_all := lw_g (lw_at lw_m8 236 rfl) rfl
theorem q2015 : (Jvm.Cond.selects "ThirdAfterModel" ({ cls := "ThirdAfterModel", name := "coming", desc := "(III)I" } : Jvm.MethodName) ({ cls := "ThirdAfterModel", name := "coming", desc := "(III)I" } : Jvm.MethodName)) ∈ lw_all := lw_g (lw_at lw_m8 237 rfl) rfl
theorem q2016 : (Jvm.Cond.code ({ cls := "ThirdAfterModel", name := "coming", desc := "(III)I" } : Jvm.MethodName) prog_32_method_47_code (5 : Nat) (Option.some Jvm.ClassFile.FieldType.int)) ∈ lw_all := lw_g (lw_at lw_m8 238 rfl) rfl
theorem q2018 : (Jvm.Cond.instanceMethod ({ cls := "ThirdAfterModel", name := "later", desc := "(III)I" } : Jvm.MethodName)) ∈ lw_all := lw_g (lw_at lw_m9 0 rfl) rfl
theorem q2019 : (Jvm.Cond.selects "ThirdAfterModel" ({ cls := "ThirdAfterModel", name := "later", desc := "(III)I" } : Jvm.MethodName) ({ cls := "ThirdAfterModel", name := "later", desc := "(III)I" } : Jvm.MethodName)) ∈ lw_all := lw_g (lw_at lw_m9 1 rfl) rfl
theorem q2020 : (Jvm.Cond.code ({ cls := "ThirdAfterModel", name := "later", desc := "(III)I" } : Jvm.MethodName) prog_32_method_48_code (6 : Nat) (Option.some Jvm.ClassFile.FieldType.int)) ∈ lw_all := lw_g (lw_at lw_m9 2 rfl) rfl
theorem q2021 : (Jvm.Cond.methodLink "ThirdAfterModel" (282 : Nat) ({ cls := "ThirdAfterModel", name := "ends", desc := "()V" } : Jvm.MethodName)) ∈ lw_all := lw_g (lw_at lw_m9 3 rfl) rfl
theorem q2022 : (Jvm.Cond.privateMethod ({ cls := "ThirdAfterModel", name := "ends", desc := "()V" } : Jvm.MethodName)) ∈ lw_tbl := lw_at lw_m9 4 rfl
theorem q2023 : (Jvm.Cond.instanceMethod ({ cls := "ThirdAfterModel", name := "ends", desc := "()V" } : Jvm.MethodName)) ∈ lw_all := lw_g (lw_at lw_m9 5 rfl) rfl
theorem q2024 : (Jvm.Cond.code ({ cls := "ThirdAfterModel", name := "ends", desc := "()V" } : Jvm.MethodName) prog_32_method_38_code (2 : Nat) (Option.none : Option Jvm.ClassFile.FieldType)) ∈ lw_all := lw_g (lw_at lw_m9 6 rfl) rfl
theorem q2026 : (Jvm.Cond.instanceMethod ({ cls := "ThirdAfterModel", name := "onceMore", desc := "(III)I" } : Jvm.MethodName)) ∈ lw_all := lw_g (lw_at lw_m9 8 rfl) rfl
theorem q2027 : (Jvm.Cond.selects "ThirdAfterModel" ({ cls := "ThirdAfterModel", name := "onceMore", desc := "(III)I" } : Jvm.MethodName) ({ cls := "ThirdAfterModel", name := "onceMore", desc := "(III)I" } : Jvm.MethodName)) ∈ lw_all := lw_g (lw_at lw_m9 9 rfl) rfl
theorem q2028 : (Jvm.Cond.code ({ cls := "ThirdAfterModel", name := "onceMore", desc := "(III)I" } : Jvm.MethodName) prog_32_method_51_code (10 : Nat) (Option.some Jvm.ClassFile.FieldType.int)) ∈ lw_all := lw_g (lw_at lw_m9 10 rfl) rfl
theorem q2029 : (Jvm.Cond.methodLink "ThirdAfterModel" (284 : Nat) ({ cls := "ThirdAfterModel", name := "puts", desc := "(II)V" } : Jvm.MethodName)) ∈ lw_all := lw_g (lw_at lw_m9 11 rfl) rfl
theorem q2030 : (Jvm.Cond.privateMethod ({ cls := "ThirdAfterModel", name := "puts", desc := "(II)V" } : Jvm.MethodName)) ∈ lw_tbl := lw_at lw_m9 12 rfl
theorem q2031 : (Jvm.Cond.instanceMethod ({ cls := "ThirdAfterModel", name := "puts", desc := "(II)V" } : Jvm.MethodName)) ∈ lw_all := lw_g (lw_at lw_m9 13 rfl) rfl
theorem q2032 : (Jvm.Cond.code ({ cls := "ThirdAfterModel", name := "puts", desc := "(II)V" } : Jvm.MethodName) prog_32_method_49_code (4 : Nat) (Option.none : Option Jvm.ClassFile.FieldType)) ∈ lw_all := lw_g (lw_at lw_m9 14 rfl) rfl
theorem q2033 : (Jvm.Cond.methodLink "ThirdAfterModel" (288 : Nat) ({ cls := "ThirdAfterModel", name := "purseBehind", desc := "(I)I" } : Jvm.MethodName)) ∈ lw_all := lw_g (lw_at lw_m9 15 rfl) rfl
theorem q2034 : (Jvm.Cond.privateMethod ({ cls := "ThirdAfterModel", name := "purseBehind", desc := "(I)I" } : Jvm.MethodName)) ∈ lw_tbl := lw_at lw_m9 16 rfl
theorem q2035 : (Jvm.Cond.instanceMethod ({ cls := "ThirdAfterModel", name := "purseBehind", desc := "(I)I" } : Jvm.MethodName)) ∈ lw_all := lw_g (lw_at lw_m9 17 rfl) rfl
theorem q2036 : (Jvm.Cond.code ({ cls := "ThirdAfterModel", name := "purseBehind", desc := "(I)I" } : Jvm.MethodName) prog_32_method_43_code (3 : Nat) (Option.some Jvm.ClassFile.FieldType.int)) ∈ lw_all := lw_g (lw_at lw_m9 18 rfl) rfl
theorem q2037 : (Jvm.Cond.methodLink "ThirdAfterModel" (291 : Nat) ({ cls := "ThirdAfterModel", name := "takes", desc := "(I)V" } : Jvm.MethodName)) ∈ lw_all := lw_g (lw_at lw_m9 19 rfl) rfl
theorem q2038 : (Jvm.Cond.privateMethod ({ cls := "ThirdAfterModel", name := "takes", desc := "(I)V" } : Jvm.MethodName)) ∈ lw_tbl := lw_at lw_m9 20 rfl
theorem q2039 : (Jvm.Cond.instanceMethod ({ cls := "ThirdAfterModel", name := "takes", desc := "(I)V" } : Jvm.MethodName)) ∈ lw_all := lw_g (lw_at lw_m9 21 rfl) rfl
theorem q2040 : (Jvm.Cond.code ({ cls := "ThirdAfterModel", name := "takes", desc := "(I)V" } : Jvm.MethodName) prog_32_method_50_code (3 : Nat) (Option.none : Option Jvm.ClassFile.FieldType)) ∈ lw_all := lw_g (lw_at lw_m9 22 rfl) rfl
theorem q2042 : (Jvm.Cond.instanceMethod ({ cls := "ThirdAfterModel", name := "hired", desc := "(IIII)I" } : Jvm.MethodName)) ∈ lw_all := lw_g (lw_at lw_m9 24 rfl) rfl
theorem q2043 : (Jvm.Cond.selects "ThirdAfterModel" ({ cls := "ThirdAfterModel", name := "hired", desc := "(IIII)I" } : Jvm.MethodName) ({ cls := "ThirdAfterModel", name := "hired", desc := "(IIII)I" } : Jvm.MethodName)) ∈ lw_all := lw_g (lw_at lw_m9 25 rfl) rfl
theorem q2044 : (Jvm.Cond.code ({ cls := "ThirdAfterModel", name := "hired", desc := "(IIII)I" } : Jvm.MethodName) prog_32_method_52_code (10 : Nat) (Option.some Jvm.ClassFile.FieldType.int)) ∈ lw_all := lw_g (lw_at lw_m9 26 rfl) rfl
theorem q2046 : (Jvm.Cond.instanceMethod ({ cls := "ThirdAfterModel", name := "latch", desc := "(III)I" } : Jvm.MethodName)) ∈ lw_all := lw_g (lw_at lw_m9 28 rfl) rfl
theorem q2047 : (Jvm.Cond.selects "ThirdAfterModel" ({ cls := "ThirdAfterModel", name := "latch", desc := "(III)I" } : Jvm.MethodName) ({ cls := "ThirdAfterModel", name := "latch", desc := "(III)I" } : Jvm.MethodName)) ∈ lw_all := lw_g (lw_at lw_m9 29 rfl) rfl
theorem q2048 : (Jvm.Cond.code ({ cls := "ThirdAfterModel", name := "latch", desc := "(III)I" } : Jvm.MethodName) prog_32_method_54_code (9 : Nat) (Option.some Jvm.ClassFile.FieldType.int)) ∈ lw_all := lw_g (lw_at lw_m9 30 rfl) rfl
theorem q2049 : (Jvm.Cond.methodLink "ThirdAfterModel" (294 : Nat) ({ cls := "ThirdAfterModel", name := "swaps", desc := "(I)V" } : Jvm.MethodName)) ∈ lw_all := lw_g (lw_at lw_m9 31 rfl) rfl
theorem q2050 : (Jvm.Cond.privateMethod ({ cls := "ThirdAfterModel", name := "swaps", desc := "(I)V" } : Jvm.MethodName)) ∈ lw_tbl := lw_at lw_m9 32 rfl
theorem q2051 : (Jvm.Cond.instanceMethod ({ cls := "ThirdAfterModel", name := "swaps", desc := "(I)V" } : Jvm.MethodName)) ∈ lw_all := lw_g (lw_at lw_m9 33 rfl) rfl
theorem q2052 : (Jvm.Cond.code ({ cls := "ThirdAfterModel", name := "swaps", desc := "(I)V" } : Jvm.MethodName) prog_32_method_53_code (3 : Nat) (Option.none : Option Jvm.ClassFile.FieldType)) ∈ lw_all := lw_g (lw_at lw_m9 34 rfl) rfl
theorem q2054 : (Jvm.Cond.instanceMethod ({ cls := "ThirdAfterModel", name := "order", desc := "(III)I" } : Jvm.MethodName)) ∈ lw_all := lw_g (lw_at lw_m9 36 rfl) rfl
theorem q2055 : (Jvm.Cond.selects "ThirdAfterModel" ({ cls := "ThirdAfterModel", name := "order", desc := "(III)I" } : Jvm.MethodName) ({ cls := "ThirdAfterModel", name := "order", desc := "(III)I" } : Jvm.MethodName)) ∈ lw_all := lw_g (lw_at lw_m9 37 rfl) rfl
theorem q2056 : (Jvm.Cond.code ({ cls := "ThirdAfterModel", name := "order", desc := "(III)I" } : Jvm.MethodName) prog_32_method_56_code (4 : Nat) (Option.some Jvm.ClassFile.FieldType.int)) ∈ lw_all := lw_g (lw_at lw_m9 38 rfl) rfl
theorem q2057 : (Jvm.Cond.methodLink "ThirdAfterModel" (303 : Nat) ({ cls := "java/lang/Integer", name := "bitCount", desc := "(I)I" } : Jvm.MethodName)) ∈ lw_all := lw_g (lw_at lw_m9 39 rfl) rfl
theorem q2058 : (Jvm.Cond.methodLink "ThirdAfterModel" (300 : Nat) ({ cls := "ThirdAfterModel", name := "orders", desc := "(III)V" } : Jvm.MethodName)) ∈ lw_all := lw_g (lw_at lw_m9 40 rfl) rfl
theorem q2059 : (Jvm.Cond.privateMethod ({ cls := "ThirdAfterModel", name := "orders", desc := "(III)V" } : Jvm.MethodName)) ∈ lw_tbl := lw_at lw_m9 41 rfl
theorem q2060 : (Jvm.Cond.instanceMethod ({ cls := "ThirdAfterModel", name := "orders", desc := "(III)V" } : Jvm.MethodName)) ∈ lw_all := lw_g (lw_at lw_m9 42 rfl) rfl
theorem q2061 : (Jvm.Cond.code ({ cls := "ThirdAfterModel", name := "orders", desc := "(III)V" } : Jvm.MethodName) prog_32_method_55_code (6 : Nat) (Option.none : Option Jvm.ClassFile.FieldType)) ∈ lw_all := lw_g (lw_at lw_m9 43 rfl) rfl
theorem q2063 : (Jvm.Cond.instanceMethod ({ cls := "ThirdAfterModel", name := "flow", desc := "(II)I" } : Jvm.MethodName)) ∈ lw_all := lw_g (lw_at lw_m9 45 rfl) rfl
theorem q2064 : (Jvm.Cond.selects "ThirdAfterModel" ({ cls := "ThirdAfterModel", name := "flow", desc := "(II)I" } : Jvm.MethodName) ({ cls := "ThirdAfterModel", name := "flow", desc := "(II)I" } : Jvm.MethodName)) ∈ lw_all := lw_g (lw_at lw_m9 46 rfl) rfl
theorem q2065 : (Jvm.Cond.code ({ cls := "ThirdAfterModel", name := "flow", desc := "(II)I" } : Jvm.MethodName) prog_32_method_58_code (4 : Nat) (Option.some Jvm.ClassFile.FieldType.int)) ∈ lw_all := lw_g (lw_at lw_m9 47 rfl) rfl
theorem q2066 : (Jvm.Cond.methodLink "ThirdAfterModel" (308 : Nat) ({ cls := "ThirdAfterModel", name := "isPair", desc := "(I)Z" } : Jvm.MethodName)) ∈ lw_all := lw_g (lw_at lw_m9 48 rfl) rfl
theorem q2067 : (Jvm.Cond.privateMethod ({ cls := "ThirdAfterModel", name := "isPair", desc := "(I)Z" } : Jvm.MethodName)) ∈ lw_tbl := lw_at lw_m9 49 rfl
theorem q2068 : (Jvm.Cond.instanceMethod ({ cls := "ThirdAfterModel", name := "isPair", desc := "(I)Z" } : Jvm.MethodName)) ∈ lw_all := lw_g (lw_at lw_m9 50 rfl) rfl
theorem q2069 : (Jvm.Cond.code ({ cls := "ThirdAfterModel", name := "isPair", desc := "(I)Z" } : Jvm.MethodName) prog_32_method_57_code (2 : Nat) (Option.some Jvm.ClassFile.FieldType.boolean)) ∈ lw_all := lw_g (lw_at lw_m9 51 rfl) rfl
theorem q2071 : (Jvm.Cond.instanceMethod ({ cls := "ThirdAfterModel", name := "round", desc := "(II)I" } : Jvm.MethodName)) ∈ lw_all := lw_g (lw_at lw_m9 53 rfl) rfl
theorem q2072 : (Jvm.Cond.selects "ThirdAfterModel" ({ cls := "ThirdAfterModel", name := "round", desc := "(II)I" } : Jvm.MethodName) ({ cls := "ThirdAfterModel", name := "round", desc := "(II)I" } : Jvm.MethodName)) ∈ lw_all := lw_g (lw_at lw_m9 54 rfl) rfl
theorem q2073 : (Jvm.Cond.code ({ cls := "ThirdAfterModel", name := "round", desc := "(II)I" } : Jvm.MethodName) prog_32_method_60_code (6 : Nat) (Option.some Jvm.ClassFile.FieldType.int)) ∈ lw_all := lw_g (lw_at lw_m9 55 rfl) rfl
theorem q2074 : (Jvm.Cond.methodLink "ThirdAfterModel" (311 : Nat) ({ cls := "ThirdAfterModel", name := "ring", desc := "()I" } : Jvm.MethodName)) ∈ lw_all := lw_g (lw_at lw_m9 56 rfl) rfl
theorem q2075 : (Jvm.Cond.privateMethod ({ cls := "ThirdAfterModel", name := "ring", desc := "()I" } : Jvm.MethodName)) ∈ lw_tbl := lw_at lw_m9 57 rfl
theorem q2076 : (Jvm.Cond.instanceMethod ({ cls := "ThirdAfterModel", name := "ring", desc := "()I" } : Jvm.MethodName)) ∈ lw_all := lw_g (lw_at lw_m9 58 rfl) rfl
theorem q2077 : (Jvm.Cond.code ({ cls := "ThirdAfterModel", name := "ring", desc := "()I" } : Jvm.MethodName) prog_32_method_59_code (3 : Nat) (Option.some Jvm.ClassFile.FieldType.int)) ∈ lw_all := lw_g (lw_at lw_m9 59 rfl) rfl
theorem q2079 : (Jvm.Cond.instanceMethod ({ cls := "ThirdAfterModel", name := "judge", desc := "(I)I" } : Jvm.MethodName)) ∈ lw_all := lw_g (lw_at lw_m9 61 rfl) rfl
theorem q2080 : (Jvm.Cond.selects "ThirdAfterModel" ({ cls := "ThirdAfterModel", name := "judge", desc := "(I)I" } : Jvm.MethodName) ({ cls := "ThirdAfterModel", name := "judge", desc := "(I)I" } : Jvm.MethodName)) ∈ lw_all := lw_g (lw_at lw_m9 62 rfl) rfl
theorem q2081 : (Jvm.Cond.code ({ cls := "ThirdAfterModel", name := "judge", desc := "(I)I" } : Jvm.MethodName) prog_32_method_64_code (3 : Nat) (Option.some Jvm.ClassFile.FieldType.int)) ∈ lw_all := lw_g (lw_at lw_m9 63 rfl) rfl
theorem q2082 : (Jvm.Cond.methodLink "ThirdAfterModel" (314 : Nat) ({ cls := "ThirdAfterModel", name := "areShelves", desc := "(I)Z" } : Jvm.MethodName)) ∈ lw_all := lw_g (lw_at lw_m9 64 rfl) rfl
theorem q2083 : (Jvm.Cond.privateMethod ({ cls := "ThirdAfterModel", name := "areShelves", desc := "(I)Z" } : Jvm.MethodName)) ∈ lw_tbl := lw_at lw_m9 65 rfl
theorem q2084 : (Jvm.Cond.instanceMethod ({ cls := "ThirdAfterModel", name := "areShelves", desc := "(I)Z" } : Jvm.MethodName)) ∈ lw_all := lw_g (lw_at lw_m9 66 rfl) rfl
theorem q2085 : (Jvm.Cond.code ({ cls := "ThirdAfterModel", name := "areShelves", desc := "(I)Z" } : Jvm.MethodName) prog_32_method_61_code (2 : Nat) (Option.some Jvm.ClassFile.FieldType.boolean)) ∈ lw_all := lw_g (lw_at lw_m9 67 rfl) rfl
theorem q2086 : (Jvm.Cond.methodLink "ThirdAfterModel" (317 : Nat) ({ cls := "ThirdAfterModel", name := "noRows", desc := "(I)I" } : Jvm.MethodName)) ∈ lw_all := lw_g (lw_at lw_m9 68 rfl) rfl
theorem q2087 : (Jvm.Cond.privateMethod ({ cls := "ThirdAfterModel", name := "noRows", desc := "(I)I" } : Jvm.MethodName)) ∈ lw_tbl := lw_at lw_m9 69 rfl
theorem q2088 : (Jvm.Cond.instanceMethod ({ cls := "ThirdAfterModel", name := "noRows", desc := "(I)I" } : Jvm.MethodName)) ∈ lw_all := lw_g (lw_at lw_m9 70 rfl) rfl
theorem q2089 : (Jvm.Cond.code ({ cls := "ThirdAfterModel", name := "noRows", desc := "(I)I" } : Jvm.MethodName) prog_32_method_62_code (3 : Nat) (Option.some Jvm.ClassFile.FieldType.int)) ∈ lw_all := lw_g (lw_at lw_m9 71 rfl) rfl
theorem q2090 : (Jvm.Cond.methodLink "ThirdAfterModel" (320 : Nat) ({ cls := "ThirdAfterModel", name := "unlike", desc := "(I)I" } : Jvm.MethodName)) ∈ lw_all := lw_g (lw_at lw_m9 72 rfl) rfl
theorem q2091 : (Jvm.Cond.privateMethod ({ cls := "ThirdAfterModel", name := "unlike", desc := "(I)I" } : Jvm.MethodName)) ∈ lw_tbl := lw_at lw_m9 73 rfl
theorem q2092 : (Jvm.Cond.instanceMethod ({ cls := "ThirdAfterModel", name := "unlike", desc := "(I)I" } : Jvm.MethodName)) ∈ lw_all := lw_g (lw_at lw_m9 74 rfl) rfl
theorem q2093 : (Jvm.Cond.code ({ cls := "ThirdAfterModel", name := "unlike", desc := "(I)I" } : Jvm.MethodName) prog_32_method_63_code (3 : Nat) (Option.some Jvm.ClassFile.FieldType.int)) ∈ lw_all := lw_g (lw_at lw_m9 75 rfl) rfl
theorem q2095 : (Jvm.Cond.instanceMethod ({ cls := "ThirdAfterModel", name := "fits", desc := "(III)I" } : Jvm.MethodName)) ∈ lw_all := lw_g (lw_at lw_m9 77 rfl) rfl
theorem q2096 : (Jvm.Cond.selects "ThirdAfterModel" ({ cls := "ThirdAfterModel", name := "fits", desc := "(III)I" } : Jvm.MethodName) ({ cls := "ThirdAfterModel", name := "fits", desc := "(III)I" } : Jvm.MethodName)) ∈ lw_all := lw_g (lw_at lw_m9 78 rfl) rfl
theorem q2097 : (Jvm.Cond.code ({ cls := "ThirdAfterModel", name := "fits", desc := "(III)I" } : Jvm.MethodName) prog_32_method_68_code (5 : Nat) (Option.some Jvm.ClassFile.FieldType.int)) ∈ lw_all := lw_g (lw_at lw_m9 79 rfl) rfl
theorem q2098 : (Jvm.Cond.methodLink "ThirdAfterModel" (323 : Nat) ({ cls := "ThirdAfterModel", name := "thirds", desc := "(I)I" } : Jvm.MethodName)) ∈ lw_all := lw_g (lw_at lw_m9 80 rfl) rfl
theorem q2099 : (Jvm.Cond.privateMethod ({ cls := "ThirdAfterModel", name := "thirds", desc := "(I)I" } : Jvm.MethodName)) ∈ lw_tbl := lw_at lw_m9 81 rfl
theorem q2100 : (Jvm.Cond.instanceMethod ({ cls := "ThirdAfterModel", name := "thirds", desc := "(I)I" } : Jvm.MethodName)) ∈ lw_all := lw_g (lw_at lw_m9 82 rfl) rfl
theorem q2101 : (Jvm.Cond.code ({ cls := "ThirdAfterModel", name := "thirds", desc := "(I)I" } : Jvm.MethodName) prog_32_method_65_code (5 : Nat) (Option.some Jvm.ClassFile.FieldType.int)) ∈ lw_all := lw_g (lw_at lw_m9 83 rfl) rfl
theorem q2102 : (Jvm.Cond.methodLink "ThirdAfterModel" (326 : Nat) ({ cls := "ThirdAfterModel", name := "whose", desc := "(II)I" } : Jvm.MethodName)) ∈ lw_all := lw_g (lw_at lw_m9 84 rfl) rfl
theorem q2103 : (Jvm.Cond.privateMethod ({ cls := "ThirdAfterModel", name := "whose", desc := "(II)I" } : Jvm.MethodName)) ∈ lw_tbl := lw_at lw_m9 85 rfl
theorem q2104 : (Jvm.Cond.instanceMethod ({ cls := "ThirdAfterModel", name := "whose", desc := "(II)I" } : Jvm.MethodName)) ∈ lw_all := lw_g (lw_at lw_m9 86 rfl) rfl
theorem q2105 : (Jvm.Cond.code ({ cls := "ThirdAfterModel", name := "whose", desc := "(II)I" } : Jvm.MethodName) prog_32_method_66_code (6 : Nat) (Option.some Jvm.ClassFile.FieldType.int)) ∈ lw_all := lw_g (lw_at lw_m9 87 rfl) rfl
theorem q2106 : (Jvm.Cond.methodLink "ThirdAfterModel" (329 : Nat) ({ cls := "ThirdAfterModel", name := "wanted", desc := "(IIZ)I" } : Jvm.MethodName)) ∈ lw_all := lw_g (lw_at lw_m9 88 rfl) rfl
theorem q2107 : (Jvm.Cond.privateMethod ({ cls := "ThirdAfterModel", name := "wanted", desc := "(IIZ)I" } : Jvm.MethodName)) ∈ lw_tbl := lw_at lw_m9 89 rfl
theorem q2108 : (Jvm.Cond.instanceMethod ({ cls := "ThirdAfterModel", name := "wanted", desc := "(IIZ)I" } : Jvm.MethodName)) ∈ lw_all := lw_g (lw_at lw_m9 90 rfl) rfl
theorem q2109 : (Jvm.Cond.code ({ cls := "ThirdAfterModel", name := "wanted", desc := "(IIZ)I" } : Jvm.MethodName) prog_32_method_67_code (8 : Nat) (Option.some Jvm.ClassFile.FieldType.int)) ∈ lw_all := lw_g (lw_at lw_m9 91 rfl) rfl
theorem q2111 : (Jvm.Cond.instanceMethod ({ cls := "ThirdAfterModel", name := "byTurns", desc := "(III)I" } : Jvm.MethodName)) ∈ lw_all := lw_g (lw_at lw_m9 93 rfl) rfl
theorem q2112 : (Jvm.Cond.selects "ThirdAfterModel" ({ cls := "ThirdAfterModel", name := "byTurns", desc := "(III)I" } : Jvm.MethodName) ({ cls := "ThirdAfterModel", name := "byTurns", desc := "(III)I" } : Jvm.MethodName)) ∈ lw_all := lw_g (lw_at lw_m9 94 rfl) rfl
theorem q2113 : (Jvm.Cond.code ({ cls := "ThirdAfterModel", name := "byTurns", desc := "(III)I" } : Jvm.MethodName) prog_32_method_71_code (6 : Nat) (Option.some Jvm.ClassFile.FieldType.int)) ∈ lw_all := lw_g (lw_at lw_m9 95 rfl) rfl
theorem q2114 : (Jvm.Cond.constant "ThirdAfterModel" (340 : Nat) (-2000000000 : Int32)) ∈ lw_all := lw_g (lw_at lw_m9 96 rfl) rfl
theorem q2115 : (Jvm.Cond.methodLink "ThirdAfterModel" (333 : Nat) ({ cls := "ThirdAfterModel", name := "turnFrom", desc := "(IIII)I" } : Jvm.MethodName)) ∈ lw_all := lw_g (lw_at lw_m9 97 rfl) rfl
theorem q2116 : (Jvm.Cond.privateMethod ({ cls := "ThirdAfterModel", name := "turnFrom", desc := "(IIII)I" } : Jvm.MethodName)) ∈ lw_tbl := lw_at lw_m9 98 rfl
theorem q2117 : (Jvm.Cond.instanceMethod ({ cls := "ThirdAfterModel", name := "turnFrom", desc := "(IIII)I" } : Jvm.MethodName)) ∈ lw_all := lw_g (lw_at lw_m9 99 rfl) rfl
theorem q2118 : (Jvm.Cond.code ({ cls := "ThirdAfterModel", name := "turnFrom", desc := "(IIII)I" } : Jvm.MethodName) prog_32_method_70_code (7 : Nat) (Option.some Jvm.ClassFile.FieldType.int)) ∈ lw_all := lw_g (lw_at lw_m9 100 rfl) rfl
theorem q2119 : (Jvm.Cond.methodLink "ThirdAfterModel" (337 : Nat) ({ cls := "ThirdAfterModel", name := "comesAt", desc := "(IIII)I" } : Jvm.MethodName)) ∈ lw_all := lw_g (lw_at lw_m9 101 rfl) rfl
theorem q2120 : (Jvm.Cond.privateMethod ({ cls := "ThirdAfterModel", name := "comesAt", desc := "(IIII)I" } : Jvm.MethodName)) ∈ lw_tbl := lw_at lw_m9 102 rfl
theorem q2121 : (Jvm.Cond.instanceMethod ({ cls := "ThirdAfterModel", name := "comesAt", desc := "(IIII)I" } : Jvm.MethodName)) ∈ lw_all := lw_g (lw_at lw_m9 103 rfl) rfl
theorem q2122 : (Jvm.Cond.code ({ cls := "ThirdAfterModel", name := "comesAt", desc := "(IIII)I" } : Jvm.MethodName) prog_32_method_69_code (6 : Nat) (Option.some Jvm.ClassFile.FieldType.int)) ∈ lw_all := lw_g (lw_at lw_m9 104 rfl) rfl
theorem q2124 : (Jvm.Cond.instanceMethod ({ cls := "ThirdAfterModel", name := "drawn", desc := "(III)I" } : Jvm.MethodName)) ∈ lw_all := lw_g (lw_at lw_m9 106 rfl) rfl
theorem q2125 : (Jvm.Cond.selects "ThirdAfterModel" ({ cls := "ThirdAfterModel", name := "drawn", desc := "(III)I" } : Jvm.MethodName) ({ cls := "ThirdAfterModel", name := "drawn", desc := "(III)I" } : Jvm.MethodName)) ∈ lw_all := lw_g (lw_at lw_m9 107 rfl) rfl
theorem q2126 : (Jvm.Cond.code ({ cls := "ThirdAfterModel", name := "drawn", desc := "(III)I" } : Jvm.MethodName) prog_32_method_72_code (8 : Nat) (Option.some Jvm.ClassFile.FieldType.int)) ∈ lw_all := lw_g (lw_at lw_m9 108 rfl) rfl
theorem q2127 : (Jvm.Cond.constant "ThirdAfterModel" (341 : Nat) (1103515245 : Int32)) ∈ lw_all := lw_g (lw_at lw_m9 109 rfl) rfl
theorem q2129 : (Jvm.Cond.instanceMethod ({ cls := "ThirdAfterModel", name := "comes", desc := "(I)I" } : Jvm.MethodName)) ∈ lw_all := lw_g (lw_at lw_m9 111 rfl) rfl
theorem q2130 : (Jvm.Cond.selects "ThirdAfterModel" ({ cls := "ThirdAfterModel", name := "comes", desc := "(I)I" } : Jvm.MethodName) ({ cls := "ThirdAfterModel", name := "comes", desc := "(I)I" } : Jvm.MethodName)) ∈ lw_all := lw_g (lw_at lw_m9 112 rfl) rfl
theorem q2131 : (Jvm.Cond.code ({ cls := "ThirdAfterModel", name := "comes", desc := "(I)I" } : Jvm.MethodName) prog_32_method_73_code (2 : Nat) (Option.some Jvm.ClassFile.FieldType.int)) ∈ lw_all := lw_g (lw_at lw_m9 113 rfl) rfl
theorem q2133 : (Jvm.Cond.instanceMethod ({ cls := "ThirdAfterModel", name := "evening", desc := "()I" } : Jvm.MethodName)) ∈ lw_all := lw_g (lw_at lw_m9 115 rfl) rfl
theorem q2134 : (Jvm.Cond.selects "ThirdAfterModel" ({ cls := "ThirdAfterModel", name := "evening", desc := "()I" } : Jvm.MethodName) ({ cls := "ThirdAfterModel", name := "evening", desc := "()I" } : Jvm.MethodName)) ∈ lw_all := lw_g (lw_at lw_m9 116 rfl) rfl
theorem q2135 : (Jvm.Cond.code ({ cls := "ThirdAfterModel", name := "evening", desc := "()I" } : Jvm.MethodName) prog_32_method_74_code (1 : Nat) (Option.some Jvm.ClassFile.FieldType.int)) ∈ lw_all := lw_g (lw_at lw_m9 117 rfl) rfl
theorem q2137 : (Jvm.Cond.instanceMethod ({ cls := "ThirdAfterModel", name := "gives", desc := "(III)I" } : Jvm.MethodName)) ∈ lw_all := lw_g (lw_at lw_m9 119 rfl) rfl
theorem q2138 : (Jvm.Cond.selects "ThirdAfterModel" ({ cls := "ThirdAfterModel", name := "gives", desc := "(III)I" } : Jvm.MethodName) ({ cls := "ThirdAfterModel", name := "gives", desc := "(III)I" } : Jvm.MethodName)) ∈ lw_all := lw_g (lw_at lw_m9 120 rfl) rfl
theorem q2139 : (Jvm.Cond.code ({ cls := "ThirdAfterModel", name := "gives", desc := "(III)I" } : Jvm.MethodName) prog_32_method_75_code (4 : Nat) (Option.some Jvm.ClassFile.FieldType.int)) ∈ lw_all := lw_g (lw_at lw_m9 121 rfl) rfl
theorem q2141 : (Jvm.Cond.instanceMethod ({ cls := "ThirdAfterModel", name := "led", desc := "(I)I" } : Jvm.MethodName)) ∈ lw_all := lw_g (lw_at lw_m9 123 rfl) rfl
theorem q2142 : (Jvm.Cond.selects "ThirdAfterModel" ({ cls := "ThirdAfterModel", name := "led", desc := "(I)I" } : Jvm.MethodName) ({ cls := "ThirdAfterModel", name := "led", desc := "(I)I" } : Jvm.MethodName)) ∈ lw_all := lw_g (lw_at lw_m9 124 rfl) rfl
theorem q2143 : (Jvm.Cond.code ({ cls := "ThirdAfterModel", name := "led", desc := "(I)I" } : Jvm.MethodName) prog_32_method_76_code (2 : Nat) (Option.some Jvm.ClassFile.FieldType.int)) ∈ lw_all := lw_g (lw_at lw_m9 125 rfl) rfl
theorem q2145 : (Jvm.Cond.instanceMethod ({ cls := "ThirdAfterModel", name := "image", desc := "()I" } : Jvm.MethodName)) ∈ lw_all := lw_g (lw_at lw_m9 127 rfl) rfl
theorem q2146 : (Jvm.Cond.selects "ThirdAfterModel" ({ cls := "ThirdAfterModel", name := "image", desc := "()I" } : Jvm.MethodName) ({ cls := "ThirdAfterModel", name := "image", desc := "()I" } : Jvm.MethodName)) ∈ lw_all := lw_g (lw_at lw_m9 128 rfl) rfl
theorem q2147 : (Jvm.Cond.code ({ cls := "ThirdAfterModel", name := "image", desc := "()I" } : Jvm.MethodName) prog_32_method_77_code (2 : Nat) (Option.some Jvm.ClassFile.FieldType.int)) ∈ lw_all := lw_g (lw_at lw_m9 129 rfl) rfl
theorem q2149 : (Jvm.Cond.instanceMethod ({ cls := "ThirdAfterModel", name := "back", desc := "()I" } : Jvm.MethodName)) ∈ lw_all := lw_g (lw_at lw_m9 131 rfl) rfl
theorem q2150 : (Jvm.Cond.selects "ThirdAfterModel" ({ cls := "ThirdAfterModel", name := "back", desc := "()I" } : Jvm.MethodName) ({ cls := "ThirdAfterModel", name := "back", desc := "()I" } : Jvm.MethodName)) ∈ lw_all := lw_g (lw_at lw_m9 132 rfl) rfl
theorem q2151 : (Jvm.Cond.code ({ cls := "ThirdAfterModel", name := "back", desc := "()I" } : Jvm.MethodName) prog_32_method_78_code (3 : Nat) (Option.some Jvm.ClassFile.FieldType.int)) ∈ lw_all := lw_g (lw_at lw_m9 133 rfl) rfl
theorem q2153 : (Jvm.Cond.instanceMethod ({ cls := "ThirdAfterModel", name := "body", desc := "(I)I" } : Jvm.MethodName)) ∈ lw_all := lw_g (lw_at lw_m9 135 rfl) rfl
theorem q2154 : (Jvm.Cond.selects "ThirdAfterModel" ({ cls := "ThirdAfterModel", name := "body", desc := "(I)I" } : Jvm.MethodName) ({ cls := "ThirdAfterModel", name := "body", desc := "(I)I" } : Jvm.MethodName)) ∈ lw_all := lw_g (lw_at lw_m9 136 rfl) rfl
theorem q2155 : (Jvm.Cond.code ({ cls := "ThirdAfterModel", name := "body", desc := "(I)I" } : Jvm.MethodName) prog_32_method_85_code (2 : Nat) (Option.some Jvm.ClassFile.FieldType.int)) ∈ lw_all := lw_g (lw_at lw_m9 137 rfl) rfl
theorem q2157 : (Jvm.Cond.instanceMethod ({ cls := "ThirdAfterModel", name := "act", desc := "(III)I" } : Jvm.MethodName)) ∈ lw_all := lw_g (lw_at lw_m9 139 rfl) rfl
theorem q2158 : (Jvm.Cond.selects "ThirdAfterModel" ({ cls := "ThirdAfterModel", name := "act", desc := "(III)I" } : Jvm.MethodName) ({ cls := "ThirdAfterModel", name := "act", desc := "(III)I" } : Jvm.MethodName)) ∈ lw_all := lw_g (lw_at lw_m9 140 rfl) rfl
theorem q2159 : (Jvm.Cond.code ({ cls := "ThirdAfterModel", name := "act", desc := "(III)I" } : Jvm.MethodName) prog_32_method_86_code (5 : Nat) (Option.some Jvm.ClassFile.FieldType.int)) ∈ lw_all := lw_g (lw_at lw_m9 141 rfl) rfl
theorem q2160 : (Jvm.Cond.methodLink "ThirdAfterModel" (354 : Nat) ({ cls := "ThirdAfterModel", name := "comesBy", desc := "(III)I" } : Jvm.MethodName)) ∈ lw_all := lw_g (lw_at lw_m9 142 rfl) rfl
theorem q2161 : (Jvm.Cond.privateMethod ({ cls := "ThirdAfterModel", name := "comesBy", desc := "(III)I" } : Jvm.MethodName)) ∈ lw_tbl := lw_at lw_m9 143 rfl
theorem q2162 : (Jvm.Cond.instanceMethod ({ cls := "ThirdAfterModel", name := "comesBy", desc := "(III)I" } : Jvm.MethodName)) ∈ lw_all := lw_g (lw_at lw_m9 144 rfl) rfl
theorem q2163 : (Jvm.Cond.code ({ cls := "ThirdAfterModel", name := "comesBy", desc := "(III)I" } : Jvm.MethodName) prog_32_method_81_code (4 : Nat) (Option.some Jvm.ClassFile.FieldType.int)) ∈ lw_all := lw_g (lw_at lw_m9 145 rfl) rfl
theorem q2164 : (Jvm.Cond.methodLink "ThirdAfterModel" (351 : Nat) ({ cls := "ThirdAfterModel", name := "ran", desc := "(I)V" } : Jvm.MethodName)) ∈ lw_all := lw_g (lw_at lw_m9 146 rfl) rfl
theorem q2165 : (Jvm.Cond.privateMethod ({ cls := "ThirdAfterModel", name := "ran", desc := "(I)V" } : Jvm.MethodName)) ∈ lw_tbl := lw_at lw_m9 147 rfl
theorem q2166 : (Jvm.Cond.instanceMethod ({ cls := "ThirdAfterModel", name := "ran", desc := "(I)V" } : Jvm.MethodName)) ∈ lw_all := lw_g (lw_at lw_m9 148 rfl) rfl
theorem q2167 : (Jvm.Cond.code ({ cls := "ThirdAfterModel", name := "ran", desc := "(I)V" } : Jvm.MethodName) prog_32_method_80_code (2 : Nat) (Option.none : Option Jvm.ClassFile.FieldType)) ∈ lw_all := lw_g (lw_at lw_m9 149 rfl) rfl
theorem q2168 : (Jvm.Cond.methodLink "ThirdAfterModel" (357 : Nat) ({ cls := "ThirdAfterModel", name := "above", desc := "(I)I" } : Jvm.MethodName)) ∈ lw_all := lw_g (lw_at lw_m9 150 rfl) rfl
theorem q2169 : (Jvm.Cond.static ({ cls := "ThirdAfterModel", name := "above", desc := "(I)I" } : Jvm.MethodName)) ∈ lw_all := lw_g (lw_at lw_m9 151 rfl) rfl
theorem q2170 : (Jvm.Cond.code ({ cls := "ThirdAfterModel", name := "above", desc := "(I)I" } : Jvm.MethodName) prog_32_method_79_code (1 : Nat) (Option.some Jvm.ClassFile.FieldType.int)) ∈ lw_all := lw_g (lw_at lw_m9 152 rfl) rfl
theorem q2171 : (Jvm.Cond.methodLink "ThirdAfterModel" (360 : Nat) ({ cls := "ThirdAfterModel", name := "owesBy", desc := "(III)I" } : Jvm.MethodName)) ∈ lw_all := lw_g (lw_at lw_m9 153 rfl) rfl
theorem q2172 : (Jvm.Cond.privateMethod ({ cls := "ThirdAfterModel", name := "owesBy", desc := "(III)I" } : Jvm.MethodName)) ∈ lw_tbl := lw_at lw_m9 154 rfl
theorem q2173 : (Jvm.Cond.instanceMethod ({ cls := "ThirdAfterModel", name := "owesBy", desc := "(III)I" } : Jvm.MethodName)) ∈ lw_all := lw_g (lw_at lw_m9 155 rfl) rfl
theorem q2174 : (Jvm.Cond.code ({ cls := "ThirdAfterModel", name := "owesBy", desc := "(III)I" } : Jvm.MethodName) prog_32_method_82_code (5 : Nat) (Option.some Jvm.ClassFile.FieldType.int)) ∈ lw_all := lw_g (lw_at lw_m9 156 rfl) rfl
theorem q2175 : (Jvm.Cond.methodLink "ThirdAfterModel" (363 : Nat) ({ cls := "ThirdAfterModel", name := "paysBy", desc := "(III)I" } : Jvm.MethodName)) ∈ lw_all := lw_g (lw_at lw_m9 157 rfl) rfl
theorem q2176 : (Jvm.Cond.privateMethod ({ cls := "ThirdAfterModel", name := "paysBy", desc := "(III)I" } : Jvm.MethodName)) ∈ lw_tbl := lw_at lw_m9 158 rfl
theorem q2177 : (Jvm.Cond.instanceMethod ({ cls := "ThirdAfterModel", name := "paysBy", desc := "(III)I" } : Jvm.MethodName)) ∈ lw_all := lw_g (lw_at lw_m9 159 rfl) rfl
theorem q2178 : (Jvm.Cond.code ({ cls := "ThirdAfterModel", name := "paysBy", desc := "(III)I" } : Jvm.MethodName) prog_32_method_83_code (5 : Nat) (Option.some Jvm.ClassFile.FieldType.int)) ∈ lw_all := lw_g (lw_at lw_m9 160 rfl) rfl
theorem q2179 : (Jvm.Cond.methodLink "ThirdAfterModel" (366 : Nat) ({ cls := "ThirdAfterModel", name := "tells", desc := "(III)I" } : Jvm.MethodName)) ∈ lw_all := lw_g (lw_at lw_m9 161 rfl) rfl
theorem q2180 : (Jvm.Cond.privateMethod ({ cls := "ThirdAfterModel", name := "tells", desc := "(III)I" } : Jvm.MethodName)) ∈ lw_tbl := lw_at lw_m9 162 rfl
theorem q2181 : (Jvm.Cond.instanceMethod ({ cls := "ThirdAfterModel", name := "tells", desc := "(III)I" } : Jvm.MethodName)) ∈ lw_all := lw_g (lw_at lw_m9 163 rfl) rfl
theorem q2182 : (Jvm.Cond.code ({ cls := "ThirdAfterModel", name := "tells", desc := "(III)I" } : Jvm.MethodName) prog_32_method_84_code (5 : Nat) (Option.some Jvm.ClassFile.FieldType.int)) ∈ lw_all := lw_g (lw_at lw_m9 164 rfl) rfl
theorem q2184 : (Jvm.Cond.instanceMethod ({ cls := "ThirdAfterModel", name := "trace", desc := "(I)I" } : Jvm.MethodName)) ∈ lw_all := lw_g (lw_at lw_m9 166 rfl) rfl
theorem q2185 : (Jvm.Cond.selects "ThirdAfterModel" ({ cls := "ThirdAfterModel", name := "trace", desc := "(I)I" } : Jvm.MethodName) ({ cls := "ThirdAfterModel", name := "trace", desc := "(I)I" } : Jvm.MethodName)) ∈ lw_all := lw_g (lw_at lw_m9 167 rfl) rfl
theorem q2186 : (Jvm.Cond.code ({ cls := "ThirdAfterModel", name := "trace", desc := "(I)I" } : Jvm.MethodName) prog_32_method_87_code (2 : Nat) (Option.some Jvm.ClassFile.FieldType.int)) ∈ lw_all := lw_g (lw_at lw_m9 168 rfl) rfl
theorem q2188 : (Jvm.Cond.instanceMethod ({ cls := "ThirdAfterModel", name := "keep", desc := "(II)I" } : Jvm.MethodName)) ∈ lw_all := lw_g (lw_at lw_m9 170 rfl) rfl
theorem q2189 : (Jvm.Cond.selects "ThirdAfterModel" ({ cls := "ThirdAfterModel", name := "keep", desc := "(II)I" } : Jvm.MethodName) ({ cls := "ThirdAfterModel", name := "keep", desc := "(II)I" } : Jvm.MethodName)) ∈ lw_all := lw_g (lw_at lw_m9 171 rfl) rfl
theorem q2190 : (Jvm.Cond.code ({ cls := "ThirdAfterModel", name := "keep", desc := "(II)I" } : Jvm.MethodName) prog_32_method_88_code (3 : Nat) (Option.some Jvm.ClassFile.FieldType.int)) ∈ lw_all := lw_g (lw_at lw_m9 172 rfl) rfl
theorem q2192 : (Jvm.Cond.instanceMethod ({ cls := "ThirdAfterModel", name := "row", desc := "(III)I" } : Jvm.MethodName)) ∈ lw_all := lw_g (lw_at lw_m9 174 rfl) rfl
theorem q2193 : (Jvm.Cond.selects "ThirdAfterModel" ({ cls := "ThirdAfterModel", name := "row", desc := "(III)I" } : Jvm.MethodName) ({ cls := "ThirdAfterModel", name := "row", desc := "(III)I" } : Jvm.MethodName)) ∈ lw_all := lw_g (lw_at lw_m9 175 rfl) rfl
theorem q2194 : (Jvm.Cond.code ({ cls := "ThirdAfterModel", name := "row", desc := "(III)I" } : Jvm.MethodName) prog_32_method_89_code (5 : Nat) (Option.some Jvm.ClassFile.FieldType.int)) ∈ lw_all := lw_g (lw_at lw_m9 176 rfl) rfl
theorem q2196 : (Jvm.Cond.instanceMethod ({ cls := "ThirdAfterModel", name := "put", desc := "(IIJ)I" } : Jvm.MethodName)) ∈ lw_all := lw_g (lw_at lw_m9 178 rfl) rfl
theorem q2197 : (Jvm.Cond.selects "ThirdAfterModel" ({ cls := "ThirdAfterModel", name := "put", desc := "(IIJ)I" } : Jvm.MethodName) ({ cls := "ThirdAfterModel", name := "put", desc := "(IIJ)I" } : Jvm.MethodName)) ∈ lw_all := lw_g (lw_at lw_m9 179 rfl) rfl
theorem q2198 : (Jvm.Cond.code ({ cls := "ThirdAfterModel", name := "put", desc := "(IIJ)I" } : Jvm.MethodName) prog_32_method_92_code (5 : Nat) (Option.some Jvm.ClassFile.FieldType.int)) ∈ lw_all := lw_g (lw_at lw_m9 180 rfl) rfl
theorem q2199 : (Jvm.Cond.methodLink "ThirdAfterModel" (372 : Nat) ({ cls := "ThirdAfterModel", name := "isRow", desc := "(I)Z" } : Jvm.MethodName)) ∈ lw_all := lw_g (lw_at lw_m9 181 rfl) rfl
theorem q2200 : (Jvm.Cond.privateMethod ({ cls := "ThirdAfterModel", name := "isRow", desc := "(I)Z" } : Jvm.MethodName)) ∈ lw_tbl := lw_at lw_m9 182 rfl
theorem q2201 : (Jvm.Cond.instanceMethod ({ cls := "ThirdAfterModel", name := "isRow", desc := "(I)Z" } : Jvm.MethodName)) ∈ lw_all := lw_g (lw_at lw_m9 183 rfl) rfl
theorem q2202 : (Jvm.Cond.code ({ cls := "ThirdAfterModel", name := "isRow", desc := "(I)Z" } : Jvm.MethodName) prog_32_method_90_code (2 : Nat) (Option.some Jvm.ClassFile.FieldType.boolean)) ∈ lw_all := lw_g (lw_at lw_m9 184 rfl) rfl
theorem q2203 : (Jvm.Cond.methodLink "ThirdAfterModel" (375 : Nat) ({ cls := "ThirdAfterModel", name := "kept", desc := "(IJ)J" } : Jvm.MethodName)) ∈ lw_all := lw_g (lw_at lw_m9 185 rfl) rfl
theorem q2204 : (Jvm.Cond.static ({ cls := "ThirdAfterModel", name := "kept", desc := "(IJ)J" } : Jvm.MethodName)) ∈ lw_all := lw_g (lw_at lw_m9 186 rfl) rfl
theorem q2205 : (Jvm.Cond.code ({ cls := "ThirdAfterModel", name := "kept", desc := "(IJ)J" } : Jvm.MethodName) prog_32_method_91_code (3 : Nat) (Option.some Jvm.ClassFile.FieldType.long)) ∈ lw_all := lw_g (lw_at lw_m9 187 rfl) rfl
theorem q2207 : (Jvm.Cond.instanceMethod ({ cls := "ThirdAfterModel", name := "element", desc := "(II)J" } : Jvm.MethodName)) ∈ lw_all := lw_g (lw_at lw_m9 189 rfl) rfl
theorem q2208 : (Jvm.Cond.selects "ThirdAfterModel" ({ cls := "ThirdAfterModel", name := "element", desc := "(II)J" } : Jvm.MethodName) ({ cls := "ThirdAfterModel", name := "element", desc := "(II)J" } : Jvm.MethodName)) ∈ lw_all := lw_g (lw_at lw_m9 190 rfl) rfl
theorem q2209 : (Jvm.Cond.code ({ cls := "ThirdAfterModel", name := "element", desc := "(II)J" } : Jvm.MethodName) prog_32_method_93_code (3 : Nat) (Option.some Jvm.ClassFile.FieldType.long)) ∈ lw_all := lw_g (lw_at lw_m9 191 rfl) rfl
theorem q2210 : (Jvm.Cond.constantLong "ThirdAfterModel" (379 : Nat) (-9223372036854775808 : Int64)) ∈ lw_all := lw_g (lw_at lw_m9 192 rfl) rfl
theorem q2212 : (Jvm.Cond.instanceMethod ({ cls := "ThirdAfterModel", name := "shift", desc := "(IIIII)I" } : Jvm.MethodName)) ∈ lw_all := lw_g (lw_at lw_m9 194 rfl) rfl
theorem q2213 : (Jvm.Cond.selects "ThirdAfterModel" ({ cls := "ThirdAfterModel", name := "shift", desc := "(IIIII)I" } : Jvm.MethodName) ({ cls := "ThirdAfterModel", name := "shift", desc := "(IIIII)I" } : Jvm.MethodName)) ∈ lw_all := lw_g (lw_at lw_m9 195 rfl) rfl
theorem q2214 : (Jvm.Cond.code ({ cls := "ThirdAfterModel", name := "shift", desc := "(IIIII)I" } : Jvm.MethodName) prog_32_method_94_code (7 : Nat) (Option.some Jvm.ClassFile.FieldType.int)) ∈ lw_all := lw_g (lw_at lw_m9 196 rfl) rfl
theorem q2216 : (Jvm.Cond.instanceMethod ({ cls := "ThirdAfterModel", name := "taken", desc := "(II)I" } : Jvm.MethodName)) ∈ lw_all := lw_g (lw_at lw_m9 198 rfl) rfl
theorem q2217 : (Jvm.Cond.selects "ThirdAfterModel" ({ cls := "ThirdAfterModel", name := "taken", desc := "(II)I" } : Jvm.MethodName) ({ cls := "ThirdAfterModel", name := "taken", desc := "(II)I" } : Jvm.MethodName)) ∈ lw_all := lw_g (lw_at lw_m9 199 rfl) rfl
theorem q2218 : (Jvm.Cond.code ({ cls := "ThirdAfterModel", name := "taken", desc := "(II)I" } : Jvm.MethodName) prog_32_method_95_code (5 : Nat) (Option.some Jvm.ClassFile.FieldType.int)) ∈ lw_all := lw_g (lw_at lw_m9 200 rfl) rfl
theorem q2220 : (Jvm.Cond.instanceMethod ({ cls := "ThirdAfterModel", name := "count", desc := "(I)I" } : Jvm.MethodName)) ∈ lw_all := lw_g (lw_at lw_m9 202 rfl) rfl
theorem q2221 : (Jvm.Cond.selects "ThirdAfterModel" ({ cls := "ThirdAfterModel", name := "count", desc := "(I)I" } : Jvm.MethodName) ({ cls := "ThirdAfterModel", name := "count", desc := "(I)I" } : Jvm.MethodName)) ∈ lw_all := lw_g (lw_at lw_m9 203 rfl) rfl
theorem q2222 : (Jvm.Cond.code ({ cls := "ThirdAfterModel", name := "count", desc := "(I)I" } : Jvm.MethodName) prog_32_method_96_code (2 : Nat) (Option.some Jvm.ClassFile.FieldType.int)) ∈ lw_all := lw_g (lw_at lw_m9 204 rfl) rfl
theorem in_X3 : ∀ w ∈ wsX30, w ∈ lw_all := lw_in wsX30 [1734, 1736, 1738, 1740, 1742, 1744, 1746, 1748, 1750, 1752, 1754, 1756, 1758, 1760, 1762, 1764, 1766, 1768, 1770, 1772, 1774, 1776, 1778, 1780, 1782, 1784, 1786, 1788, 1790, 1792, 1794, 1796, 1798, 1800, 1802, 1804, 1806, 1808, 1810, 1812, 1814, 1816, 1818, 1820, 1822, 1824, 1826, 1828, 1830, 1832, 1834, 1836, 1838, 1840] (by decide +kernel) (by decide +kernel)
/-! ThirdAfter$Buyer -/
def RX4 : String := "ThirdAfter$Buyer"
def TX4 : u_T := fun k => match k with
  | 0 => ("ThirdAfter$Buyer", "purse", "I", false)
  | 1 => ("ThirdAfter$Buyer", "wants", "I", false)
  | 2 => ("ThirdAfter$Buyer", "haste", "I", false)
  | _ => ("ThirdAfter$Buyer", "dog", "I", false)
def tyX4 : Nat → FieldType := fun k => match k with
  | 0 => .int
  | 1 => .int
  | 2 => .int
  | _ => .int
abbrev wsX40 : List Cond := u_ws RX4 TX4 4
theorem nmX4 : ∀ a, a < 4 → ∀ b, b < 4 → a ≠ b → (TX4 a).2.1 ≠ (TX4 b).2.1 := by decide +kernel
theorem tyX4_ok : ∀ k, k < 4 → parseFieldDescriptor (TX4 k).2.2.1 = some (tyX4 k) := by decide +kernel
abbrev cX4_init : ByteArray := prog_4_method_1_code
def yX4_init : MethodName := ⟨RX4, "<init>", "(II)V"⟩
theorem q103 : (Jvm.Cond.initialized "ThirdAfter$Buyer") ∈ lw_all := lw_g (lw_at lw_m1 5 rfl) rfl
theorem q157 : (Jvm.Cond.instantiable "ThirdAfter$Buyer" (4 : Nat)) ∈ lw_all := lw_g (lw_at lw_m1 59 rfl) rfl
theorem q159 : (Jvm.Cond.instanceMethod ({ cls := "ThirdAfter$Buyer", name := "<init>", desc := "(II)V" } : Jvm.MethodName)) ∈ lw_all := lw_g (lw_at lw_m1 61 rfl) rfl
theorem q160 : (Jvm.Cond.code ({ cls := "ThirdAfter$Buyer", name := "<init>", desc := "(II)V" } : Jvm.MethodName) prog_4_method_1_code (3 : Nat) (Option.none : Option Jvm.ClassFile.FieldType)) ∈ lw_all := lw_g (lw_at lw_m1 62 rfl) rfl
theorem q161 : (Jvm.Cond.methodLink "ThirdAfter$Buyer" (1 : Nat) ({ cls := "java/lang/Object", name := "<init>", desc := "()V" } : Jvm.MethodName)) ∈ lw_all := lw_g (lw_at lw_m1 63 rfl) rfl
theorem q164 : (Jvm.Cond.fieldLink "ThirdAfter$Buyer" (7 : Nat) "ThirdAfter$Buyer" "purse" "I") ∈ lw_all := lw_g (lw_at lw_m1 66 rfl) rfl
theorem q166 : (Jvm.Cond.fieldLink "ThirdAfter$Buyer" (13 : Nat) "ThirdAfter$Buyer" "wants" "I") ∈ lw_all := lw_g (lw_at lw_m1 68 rfl) rfl
theorem q168 : (Jvm.Cond.fieldLink "ThirdAfter$Buyer" (16 : Nat) "ThirdAfter$Buyer" "haste" "I") ∈ lw_all := lw_g (lw_at lw_m1 70 rfl) rfl
theorem q171 : (Jvm.Cond.lays "ThirdAfter$Buyer" "ThirdAfter$Buyer" "purse" "I") ∈ lw_all := lw_g (lw_at lw_m1 73 rfl) rfl
theorem q172 : (Jvm.Cond.soleField "ThirdAfter$Buyer" "purse") ∈ lw_all := lw_g (lw_at lw_m1 74 rfl) rfl
theorem q173 : (Jvm.Cond.lays "ThirdAfter$Buyer" "ThirdAfter$Buyer" "wants" "I") ∈ lw_all := lw_g (lw_at lw_m1 75 rfl) rfl
theorem q174 : (Jvm.Cond.soleField "ThirdAfter$Buyer" "wants") ∈ lw_all := lw_g (lw_at lw_m1 76 rfl) rfl
theorem q175 : (Jvm.Cond.lays "ThirdAfter$Buyer" "ThirdAfter$Buyer" "haste" "I") ∈ lw_all := lw_g (lw_at lw_m1 77 rfl) rfl
theorem q176 : (Jvm.Cond.soleField "ThirdAfter$Buyer" "haste") ∈ lw_all := lw_g (lw_at lw_m1 78 rfl) rfl
theorem q177 : (Jvm.Cond.lays "ThirdAfter$Buyer" "ThirdAfter$Buyer" "dog" "I") ∈ lw_all := lw_g (lw_at lw_m1 79 rfl) rfl
theorem q178 : (Jvm.Cond.soleField "ThirdAfter$Buyer" "dog") ∈ lw_all := lw_g (lw_at lw_m1 80 rfl) rfl
theorem q179 : (Jvm.Cond.superclass "ThirdAfter$Buyer" "java/lang/Object") ∈ lw_all := lw_g (lw_at lw_m1 81 rfl) rfl
theorem in_X4 : ∀ w ∈ wsX40, w ∈ lw_all := lw_in wsX40 [171, 173, 175, 177] (by decide +kernel) (by decide +kernel)
/-! ThirdAfter$Change -/
def RX5 : String := "ThirdAfter$Change"
def TX5 : u_T := fun k => match k with
  | 0 => ("ThirdAfter$Change", "of", "I", true)
  | 1 => ("ThirdAfter$Change", "at", "I", true)
  | 2 => ("ThirdAfter$Change", "before", "I", true)
  | _ => ("ThirdAfter$Change", "behind", "I", true)
def tyX5 : Nat → FieldType := fun k => match k with
  | 0 => .int
  | 1 => .int
  | 2 => .int
  | _ => .int
abbrev wsX50 : List Cond := u_ws RX5 TX5 4
theorem nmX5 : ∀ a, a < 4 → ∀ b, b < 4 → a ≠ b → (TX5 a).2.1 ≠ (TX5 b).2.1 := by decide +kernel
theorem tyX5_ok : ∀ k, k < 4 → parseFieldDescriptor (TX5 k).2.2.1 = some (tyX5 k) := by decide +kernel
abbrev cX5_init : ByteArray := prog_6_method_1_code
def yX5_init : MethodName := ⟨RX5, "<init>", "(IIII)V"⟩
theorem q112 : (Jvm.Cond.initialized "ThirdAfter$Change") ∈ lw_all := lw_g (lw_at lw_m1 14 rfl) rfl
theorem q357 : (Jvm.Cond.instantiable "ThirdAfter$Change" (4 : Nat)) ∈ lw_all := lw_g (lw_at lw_m2 19 rfl) rfl
theorem q359 : (Jvm.Cond.instanceMethod ({ cls := "ThirdAfter$Change", name := "<init>", desc := "(IIII)V" } : Jvm.MethodName)) ∈ lw_all := lw_g (lw_at lw_m2 21 rfl) rfl
theorem q360 : (Jvm.Cond.code ({ cls := "ThirdAfter$Change", name := "<init>", desc := "(IIII)V" } : Jvm.MethodName) prog_6_method_1_code (5 : Nat) (Option.none : Option Jvm.ClassFile.FieldType)) ∈ lw_all := lw_g (lw_at lw_m2 22 rfl) rfl
theorem q361 : (Jvm.Cond.methodLink "ThirdAfter$Change" (1 : Nat) ({ cls := "java/lang/Object", name := "<init>", desc := "()V" } : Jvm.MethodName)) ∈ lw_all := lw_g (lw_at lw_m2 23 rfl) rfl
theorem q362 : (Jvm.Cond.fieldLink "ThirdAfter$Change" (7 : Nat) "ThirdAfter$Change" "of" "I") ∈ lw_all := lw_g (lw_at lw_m2 24 rfl) rfl
theorem q364 : (Jvm.Cond.fieldLink "ThirdAfter$Change" (13 : Nat) "ThirdAfter$Change" "at" "I") ∈ lw_all := lw_g (lw_at lw_m2 26 rfl) rfl
theorem q366 : (Jvm.Cond.fieldLink "ThirdAfter$Change" (16 : Nat) "ThirdAfter$Change" "before" "I") ∈ lw_all := lw_g (lw_at lw_m2 28 rfl) rfl
theorem q368 : (Jvm.Cond.fieldLink "ThirdAfter$Change" (19 : Nat) "ThirdAfter$Change" "behind" "I") ∈ lw_all := lw_g (lw_at lw_m2 30 rfl) rfl
theorem q370 : (Jvm.Cond.laysFinal "ThirdAfter$Change" "ThirdAfter$Change" "of" "I") ∈ lw_all := lw_g (lw_at lw_m2 32 rfl) rfl
theorem q371 : (Jvm.Cond.soleField "ThirdAfter$Change" "of") ∈ lw_all := lw_g (lw_at lw_m2 33 rfl) rfl
theorem q372 : (Jvm.Cond.laysFinal "ThirdAfter$Change" "ThirdAfter$Change" "at" "I") ∈ lw_all := lw_g (lw_at lw_m2 34 rfl) rfl
theorem q373 : (Jvm.Cond.soleField "ThirdAfter$Change" "at") ∈ lw_all := lw_g (lw_at lw_m2 35 rfl) rfl
theorem q374 : (Jvm.Cond.laysFinal "ThirdAfter$Change" "ThirdAfter$Change" "before" "I") ∈ lw_all := lw_g (lw_at lw_m2 36 rfl) rfl
theorem q375 : (Jvm.Cond.soleField "ThirdAfter$Change" "before") ∈ lw_all := lw_g (lw_at lw_m2 37 rfl) rfl
theorem q376 : (Jvm.Cond.laysFinal "ThirdAfter$Change" "ThirdAfter$Change" "behind" "I") ∈ lw_all := lw_g (lw_at lw_m2 38 rfl) rfl
theorem q377 : (Jvm.Cond.soleField "ThirdAfter$Change" "behind") ∈ lw_all := lw_g (lw_at lw_m2 39 rfl) rfl
theorem q378 : (Jvm.Cond.superclass "ThirdAfter$Change" "java/lang/Object") ∈ lw_all := lw_g (lw_at lw_m2 40 rfl) rfl
theorem in_X5 : ∀ w ∈ wsX50, w ∈ lw_all := lw_in wsX50 [370, 372, 374, 376] (by decide +kernel) (by decide +kernel)
/-! ThirdAfter$Reader -/
def RX6 : String := "ThirdAfter$Reader"
def TX6 : u_T := fun k => match k with
  | 0 => ("ThirdAfter$Reader", "at", "I", false)
  | 1 => ("ThirdAfter$Reader", "fault", "I", false)
  | 2 => ("ThirdAfter$Reader", "open", "I", false)
  | _ => ("ThirdAfter$Reader", "this$0", "LThirdAfter;", true)
def tyX6 : Nat → FieldType := fun k => match k with
  | 0 => .int
  | 1 => .int
  | 2 => .int
  | _ => .object "ThirdAfter"
abbrev wsX60 : List Cond := u_ws RX6 TX6 4
theorem nmX6 : ∀ a, a < 4 → ∀ b, b < 4 → a ≠ b → (TX6 a).2.1 ≠ (TX6 b).2.1 := by decide +kernel
theorem tyX6_ok : ∀ k, k < 4 → parseFieldDescriptor (TX6 k).2.2.1 = some (tyX6 k) := by decide +kernel
abbrev cX6_init : ByteArray := prog_25_method_1_code
def yX6_init : MethodName := ⟨RX6, "<init>", "(LThirdAfter;)V"⟩
abbrev cX6_lines : ByteArray := prog_25_method_5_code
def yX6_lines : MethodName := ⟨RX6, "lines", "()LThirdAfter$Line;"⟩
abbrev cX6_line : ByteArray := prog_25_method_6_code
def yX6_line : MethodName := ⟨RX6, "line", "()LThirdAfter$Line;"⟩
abbrev cX6_either : ByteArray := prog_25_method_8_code
def yX6_either : MethodName := ⟨RX6, "either", "()LThirdAfter$Node;"⟩
abbrev cX6_all : ByteArray := prog_25_method_9_code
def yX6_all : MethodName := ⟨RX6, "all", "()LThirdAfter$Node;"⟩
abbrev cX6_compared : ByteArray := prog_25_method_10_code
def yX6_compared : MethodName := ⟨RX6, "compared", "()LThirdAfter$Node;"⟩
abbrev cX6_sum : ByteArray := prog_25_method_11_code
def yX6_sum : MethodName := ⟨RX6, "sum", "()LThirdAfter$Node;"⟩
abbrev cX6_product : ByteArray := prog_25_method_12_code
def yX6_product : MethodName := ⟨RX6, "product", "()LThirdAfter$Node;"⟩
abbrev cX6_operand : ByteArray := prog_25_method_14_code
def yX6_operand : MethodName := ⟨RX6, "operand", "()LThirdAfter$Node;"⟩
abbrev cX6_here : ByteArray := prog_25_method_2_code
def yX6_here : MethodName := ⟨RX6, "here", "()I"⟩
abbrev cX6_isOne : ByteArray := prog_25_method_3_code
def yX6_isOne : MethodName := ⟨RX6, "isOne", "(Ljava/lang/String;)Z"⟩
abbrev cX6_opens : ByteArray := prog_25_method_13_code
def yX6_opens : MethodName := ⟨RX6, "opens", "()Z"⟩
abbrev cX6_wrong : ByteArray := prog_25_method_4_code
def yX6_wrong : MethodName := ⟨RX6, "wrong", "()LThirdAfter$Node;"⟩
abbrev cX6_joined : ByteArray := prog_25_method_7_code
def yX6_joined : MethodName := ⟨RX6, "joined", "(ILThirdAfter$Node;LThirdAfter$Node;)LThirdAfter$Node;"⟩
theorem q113 : (Jvm.Cond.initialized "ThirdAfter$Reader") ∈ lw_all := lw_g (lw_at lw_m1 15 rfl) rfl
theorem q392 : (Jvm.Cond.instantiable "ThirdAfter$Reader" (4 : Nat)) ∈ lw_all := lw_g (lw_at lw_m2 54 rfl) rfl
theorem q394 : (Jvm.Cond.instanceMethod ({ cls := "ThirdAfter$Reader", name := "<init>", desc := "(LThirdAfter;)V" } : Jvm.MethodName)) ∈ lw_all := lw_g (lw_at lw_m2 56 rfl) rfl
theorem q395 : (Jvm.Cond.code ({ cls := "ThirdAfter$Reader", name := "<init>", desc := "(LThirdAfter;)V" } : Jvm.MethodName) prog_25_method_1_code (2 : Nat) (Option.none : Option Jvm.ClassFile.FieldType)) ∈ lw_all := lw_g (lw_at lw_m2 57 rfl) rfl
theorem q396 : (Jvm.Cond.methodLink "ThirdAfter$Reader" (9 : Nat) ({ cls := "java/lang/Object", name := "<init>", desc := "()V" } : Jvm.MethodName)) ∈ lw_all := lw_g (lw_at lw_m2 58 rfl) rfl
theorem q397 : (Jvm.Cond.fieldLink "ThirdAfter$Reader" (19 : Nat) "ThirdAfter$Reader" "at" "I") ∈ lw_all := lw_g (lw_at lw_m2 59 rfl) rfl
theorem q398 : (Jvm.Cond.fieldLink "ThirdAfter$Reader" (15 : Nat) "ThirdAfter$Reader" "fault" "I") ∈ lw_all := lw_g (lw_at lw_m2 60 rfl) rfl
theorem q400 : (Jvm.Cond.fieldLink "ThirdAfter$Reader" (95 : Nat) "ThirdAfter$Reader" "open" "I") ∈ lw_all := lw_g (lw_at lw_m2 62 rfl) rfl
theorem q401 : (Jvm.Cond.fieldLink "ThirdAfter$Reader" (3 : Nat) "ThirdAfter$Reader" "this$0" "LThirdAfter;") ∈ lw_all := lw_g (lw_at lw_m2 63 rfl) rfl
theorem q402 : (Jvm.Cond.lays "ThirdAfter$Reader" "ThirdAfter$Reader" "at" "I") ∈ lw_all := lw_g (lw_at lw_m2 64 rfl) rfl
theorem q403 : (Jvm.Cond.soleField "ThirdAfter$Reader" "at") ∈ lw_all := lw_g (lw_at lw_m2 65 rfl) rfl
theorem q404 : (Jvm.Cond.lays "ThirdAfter$Reader" "ThirdAfter$Reader" "fault" "I") ∈ lw_all := lw_g (lw_at lw_m2 66 rfl) rfl
theorem q405 : (Jvm.Cond.soleField "ThirdAfter$Reader" "fault") ∈ lw_all := lw_g (lw_at lw_m2 67 rfl) rfl
theorem q406 : (Jvm.Cond.lays "ThirdAfter$Reader" "ThirdAfter$Reader" "open" "I") ∈ lw_all := lw_g (lw_at lw_m2 68 rfl) rfl
theorem q407 : (Jvm.Cond.soleField "ThirdAfter$Reader" "open") ∈ lw_all := lw_g (lw_at lw_m2 69 rfl) rfl
theorem q408 : (Jvm.Cond.laysFinal "ThirdAfter$Reader" "ThirdAfter$Reader" "this$0" "LThirdAfter;") ∈ lw_all := lw_g (lw_at lw_m2 70 rfl) rfl
theorem q409 : (Jvm.Cond.soleField "ThirdAfter$Reader" "this$0") ∈ lw_all := lw_g (lw_at lw_m2 71 rfl) rfl
theorem q410 : (Jvm.Cond.superclass "ThirdAfter$Reader" "java/lang/Object") ∈ lw_all := lw_g (lw_at lw_m2 72 rfl) rfl
theorem q412 : (Jvm.Cond.instanceMethod ({ cls := "ThirdAfter$Reader", name := "lines", desc := "()LThirdAfter$Line;" } : Jvm.MethodName)) ∈ lw_all := lw_g (lw_at lw_m2 74 rfl) rfl
theorem q413 : (Jvm.Cond.selects "ThirdAfter$Reader" ({ cls := "ThirdAfter$Reader", name := "lines", desc := "()LThirdAfter$Line;" } : Jvm.MethodName) ({ cls := "ThirdAfter$Reader", name := "lines", desc := "()LThirdAfter$Line;" } : Jvm.MethodName)) ∈ lw_all := lw_g (lw_at lw_m2 75 rfl) rfl
theorem q414 : (Jvm.Cond.code ({ cls := "ThirdAfter$Reader", name := "lines", desc := "()LThirdAfter$Line;" } : Jvm.MethodName) prog_25_method_5_code (3 : Nat) (Option.some (Jvm.ClassFile.FieldType.object "ThirdAfter$Line"))) ∈ lw_all := lw_g (lw_at lw_m2 76 rfl) rfl
theorem q415 : (Jvm.Cond.methodLink "ThirdAfter$Reader" (39 : Nat) ({ cls := "ThirdAfter$Reader", name := "line", desc := "()LThirdAfter$Line;" } : Jvm.MethodName)) ∈ lw_all := lw_g (lw_at lw_m2 77 rfl) rfl
theorem q416 : (Jvm.Cond.privateMethod ({ cls := "ThirdAfter$Reader", name := "line", desc := "()LThirdAfter$Line;" } : Jvm.MethodName)) ∈ lw_tbl := lw_at lw_m2 78 rfl
theorem q417 : (Jvm.Cond.instanceMethod ({ cls := "ThirdAfter$Reader", name := "line", desc := "()LThirdAfter$Line;" } : Jvm.MethodName)) ∈ lw_all := lw_g (lw_at lw_m2 79 rfl) rfl
theorem q418 : (Jvm.Cond.code ({ cls := "ThirdAfter$Reader", name := "line", desc := "()LThirdAfter$Line;" } : Jvm.MethodName) prog_25_method_6_code (2 : Nat) (Option.some (Jvm.ClassFile.FieldType.object "ThirdAfter$Line"))) ∈ lw_all := lw_g (lw_at lw_m2 80 rfl) rfl
theorem q419 : (Jvm.Cond.classLink "ThirdAfter$Reader" (44 : Nat) "ThirdAfter$Line") ∈ lw_all := lw_g (lw_at lw_m2 81 rfl) rfl
theorem q421 : (Jvm.Cond.methodLinkNest "ThirdAfter$Reader" (49 : Nat) ({ cls := "ThirdAfter$Line", name := "<init>", desc := "()V" } : Jvm.MethodName) "ThirdAfter") ∈ lw_tbl := lw_at lw_m2 83 rfl
theorem q425 : (Jvm.Cond.fieldLinkNest "ThirdAfter$Reader" (58 : Nat) "ThirdAfter$Line" "test" "LThirdAfter$Node;" "ThirdAfter") ∈ lw_tbl := lw_at lw_m2 87 rfl
theorem q427 : (Jvm.Cond.fieldLinkNest "ThirdAfter$Reader" (54 : Nat) "ThirdAfter$Line" "gives" "LThirdAfter$Node;" "ThirdAfter") ∈ lw_tbl := lw_at lw_m2 89 rfl
theorem q429 : (Jvm.Cond.fieldLinkNest "ThirdAfter$Reader" (43 : Nat) "ThirdAfter$Line" "next" "LThirdAfter$Line;" "ThirdAfter") ∈ lw_tbl := lw_at lw_m2 91 rfl
theorem q438 : (Jvm.Cond.methodLink "ThirdAfter$Reader" (50 : Nat) ({ cls := "ThirdAfter$Reader", name := "either", desc := "()LThirdAfter$Node;" } : Jvm.MethodName)) ∈ lw_all := lw_g (lw_at lw_m2 100 rfl) rfl
theorem q439 : (Jvm.Cond.privateMethod ({ cls := "ThirdAfter$Reader", name := "either", desc := "()LThirdAfter$Node;" } : Jvm.MethodName)) ∈ lw_tbl := lw_at lw_m2 101 rfl
theorem q440 : (Jvm.Cond.instanceMethod ({ cls := "ThirdAfter$Reader", name := "either", desc := "()LThirdAfter$Node;" } : Jvm.MethodName)) ∈ lw_all := lw_g (lw_at lw_m2 102 rfl) rfl
theorem q441 : (Jvm.Cond.code ({ cls := "ThirdAfter$Reader", name := "either", desc := "()LThirdAfter$Node;" } : Jvm.MethodName) prog_25_method_8_code (2 : Nat) (Option.some (Jvm.ClassFile.FieldType.object "ThirdAfter$Node"))) ∈ lw_all := lw_g (lw_at lw_m2 103 rfl) rfl
theorem q442 : (Jvm.Cond.methodLink "ThirdAfter$Reader" (66 : Nat) ({ cls := "ThirdAfter$Reader", name := "all", desc := "()LThirdAfter$Node;" } : Jvm.MethodName)) ∈ lw_all := lw_g (lw_at lw_m2 104 rfl) rfl
theorem q443 : (Jvm.Cond.privateMethod ({ cls := "ThirdAfter$Reader", name := "all", desc := "()LThirdAfter$Node;" } : Jvm.MethodName)) ∈ lw_tbl := lw_at lw_m2 105 rfl
theorem q444 : (Jvm.Cond.instanceMethod ({ cls := "ThirdAfter$Reader", name := "all", desc := "()LThirdAfter$Node;" } : Jvm.MethodName)) ∈ lw_all := lw_g (lw_at lw_m2 106 rfl) rfl
theorem q445 : (Jvm.Cond.code ({ cls := "ThirdAfter$Reader", name := "all", desc := "()LThirdAfter$Node;" } : Jvm.MethodName) prog_25_method_9_code (2 : Nat) (Option.some (Jvm.ClassFile.FieldType.object "ThirdAfter$Node"))) ∈ lw_all := lw_g (lw_at lw_m2 107 rfl) rfl
theorem q446 : (Jvm.Cond.methodLink "ThirdAfter$Reader" (73 : Nat) ({ cls := "ThirdAfter$Reader", name := "compared", desc := "()LThirdAfter$Node;" } : Jvm.MethodName)) ∈ lw_all := lw_g (lw_at lw_m2 108 rfl) rfl
theorem q447 : (Jvm.Cond.privateMethod ({ cls := "ThirdAfter$Reader", name := "compared", desc := "()LThirdAfter$Node;" } : Jvm.MethodName)) ∈ lw_tbl := lw_at lw_m2 109 rfl
theorem q448 : (Jvm.Cond.instanceMethod ({ cls := "ThirdAfter$Reader", name := "compared", desc := "()LThirdAfter$Node;" } : Jvm.MethodName)) ∈ lw_all := lw_g (lw_at lw_m2 110 rfl) rfl
theorem q449 : (Jvm.Cond.code ({ cls := "ThirdAfter$Reader", name := "compared", desc := "()LThirdAfter$Node;" } : Jvm.MethodName) prog_25_method_10_code (3 : Nat) (Option.some (Jvm.ClassFile.FieldType.object "ThirdAfter$Node"))) ∈ lw_all := lw_g (lw_at lw_m2 111 rfl) rfl
theorem q450 : (Jvm.Cond.methodLink "ThirdAfter$Reader" (76 : Nat) ({ cls := "ThirdAfter$Reader", name := "sum", desc := "()LThirdAfter$Node;" } : Jvm.MethodName)) ∈ lw_all := lw_g (lw_at lw_m2 112 rfl) rfl
theorem q451 : (Jvm.Cond.privateMethod ({ cls := "ThirdAfter$Reader", name := "sum", desc := "()LThirdAfter$Node;" } : Jvm.MethodName)) ∈ lw_tbl := lw_at lw_m2 113 rfl
theorem q452 : (Jvm.Cond.instanceMethod ({ cls := "ThirdAfter$Reader", name := "sum", desc := "()LThirdAfter$Node;" } : Jvm.MethodName)) ∈ lw_all := lw_g (lw_at lw_m2 114 rfl) rfl
theorem q453 : (Jvm.Cond.code ({ cls := "ThirdAfter$Reader", name := "sum", desc := "()LThirdAfter$Node;" } : Jvm.MethodName) prog_25_method_11_code (3 : Nat) (Option.some (Jvm.ClassFile.FieldType.object "ThirdAfter$Node"))) ∈ lw_all := lw_g (lw_at lw_m2 115 rfl) rfl
theorem q454 : (Jvm.Cond.methodLink "ThirdAfter$Reader" (85 : Nat) ({ cls := "ThirdAfter$Reader", name := "product", desc := "()LThirdAfter$Node;" } : Jvm.MethodName)) ∈ lw_all := lw_g (lw_at lw_m2 116 rfl) rfl
theorem q455 : (Jvm.Cond.privateMethod ({ cls := "ThirdAfter$Reader", name := "product", desc := "()LThirdAfter$Node;" } : Jvm.MethodName)) ∈ lw_tbl := lw_at lw_m2 117 rfl
theorem q456 : (Jvm.Cond.instanceMethod ({ cls := "ThirdAfter$Reader", name := "product", desc := "()LThirdAfter$Node;" } : Jvm.MethodName)) ∈ lw_all := lw_g (lw_at lw_m2 118 rfl) rfl
theorem q457 : (Jvm.Cond.code ({ cls := "ThirdAfter$Reader", name := "product", desc := "()LThirdAfter$Node;" } : Jvm.MethodName) prog_25_method_12_code (3 : Nat) (Option.some (Jvm.ClassFile.FieldType.object "ThirdAfter$Node"))) ∈ lw_all := lw_g (lw_at lw_m2 119 rfl) rfl
theorem q458 : (Jvm.Cond.methodLink "ThirdAfter$Reader" (90 : Nat) ({ cls := "ThirdAfter$Reader", name := "operand", desc := "()LThirdAfter$Node;" } : Jvm.MethodName)) ∈ lw_all := lw_g (lw_at lw_m2 120 rfl) rfl
theorem q459 : (Jvm.Cond.privateMethod ({ cls := "ThirdAfter$Reader", name := "operand", desc := "()LThirdAfter$Node;" } : Jvm.MethodName)) ∈ lw_tbl := lw_at lw_m2 121 rfl
theorem q460 : (Jvm.Cond.instanceMethod ({ cls := "ThirdAfter$Reader", name := "operand", desc := "()LThirdAfter$Node;" } : Jvm.MethodName)) ∈ lw_all := lw_g (lw_at lw_m2 122 rfl) rfl
theorem q461 : (Jvm.Cond.code ({ cls := "ThirdAfter$Reader", name := "operand", desc := "()LThirdAfter$Node;" } : Jvm.MethodName) prog_25_method_14_code (4 : Nat) (Option.some (Jvm.ClassFile.FieldType.object "ThirdAfter$Node"))) ∈ lw_all := lw_g (lw_at lw_m2 123 rfl) rfl
theorem q462 : (Jvm.Cond.methodLink "ThirdAfter$Reader" (29 : Nat) ({ cls := "ThirdAfter$Reader", name := "here", desc := "()I" } : Jvm.MethodName)) ∈ lw_all := lw_g (lw_at lw_m2 124 rfl) rfl
theorem q463 : (Jvm.Cond.privateMethod ({ cls := "ThirdAfter$Reader", name := "here", desc := "()I" } : Jvm.MethodName)) ∈ lw_tbl := lw_at lw_m2 125 rfl
theorem q464 : (Jvm.Cond.instanceMethod ({ cls := "ThirdAfter$Reader", name := "here", desc := "()I" } : Jvm.MethodName)) ∈ lw_all := lw_g (lw_at lw_m2 126 rfl) rfl
theorem q465 : (Jvm.Cond.code ({ cls := "ThirdAfter$Reader", name := "here", desc := "()I" } : Jvm.MethodName) prog_25_method_2_code (1 : Nat) (Option.some Jvm.ClassFile.FieldType.int)) ∈ lw_all := lw_g (lw_at lw_m2 127 rfl) rfl
theorem q466 : (Jvm.Cond.stringRef "ThirdAfter$Reader" (98 : Nat) "wphnod") ∈ lw_tbl := lw_at lw_m2 128 rfl
theorem q467 : (Jvm.Cond.methodLink "ThirdAfter$Reader" (81 : Nat) ({ cls := "ThirdAfter$Reader", name := "isOne", desc := "(Ljava/lang/String;)Z" } : Jvm.MethodName)) ∈ lw_all := lw_g (lw_at lw_m2 129 rfl) rfl
theorem q468 : (Jvm.Cond.privateMethod ({ cls := "ThirdAfter$Reader", name := "isOne", desc := "(Ljava/lang/String;)Z" } : Jvm.MethodName)) ∈ lw_tbl := lw_at lw_m2 130 rfl
theorem q469 : (Jvm.Cond.instanceMethod ({ cls := "ThirdAfter$Reader", name := "isOne", desc := "(Ljava/lang/String;)Z" } : Jvm.MethodName)) ∈ lw_all := lw_g (lw_at lw_m2 131 rfl) rfl
theorem q470 : (Jvm.Cond.code ({ cls := "ThirdAfter$Reader", name := "isOne", desc := "(Ljava/lang/String;)Z" } : Jvm.MethodName) prog_25_method_3_code (2 : Nat) (Option.some Jvm.ClassFile.FieldType.boolean)) ∈ lw_all := lw_g (lw_at lw_m2 132 rfl) rfl
theorem q471 : (Jvm.Cond.methodLink "ThirdAfter$Reader" (33 : Nat) ({ cls := "java/lang/String", name := "indexOf", desc := "(I)I" } : Jvm.MethodName)) ∈ lw_all := lw_g (lw_at lw_m2 133 rfl) rfl
theorem q557 : (Jvm.Cond.classLink "ThirdAfter$Reader" (100 : Nat) "ThirdAfter$Name") ∈ lw_all := lw_g (lw_at lw_m2 219 rfl) rfl
theorem q559 : (Jvm.Cond.methodLink "ThirdAfter$Reader" (102 : Nat) ({ cls := "ThirdAfter$Name", name := "<init>", desc := "(I)V" } : Jvm.MethodName)) ∈ lw_all := lw_g (lw_at lw_m2 221 rfl) rfl
theorem q570 : (Jvm.Cond.methodLink "ThirdAfter$Reader" (105 : Nat) ({ cls := "ThirdAfter$Reader", name := "opens", desc := "()Z" } : Jvm.MethodName)) ∈ lw_all := lw_g (lw_at lw_m2 232 rfl) rfl
theorem q571 : (Jvm.Cond.privateMethod ({ cls := "ThirdAfter$Reader", name := "opens", desc := "()Z" } : Jvm.MethodName)) ∈ lw_tbl := lw_at lw_m2 233 rfl
theorem q572 : (Jvm.Cond.instanceMethod ({ cls := "ThirdAfter$Reader", name := "opens", desc := "()Z" } : Jvm.MethodName)) ∈ lw_all := lw_g (lw_at lw_m2 234 rfl) rfl
theorem q573 : (Jvm.Cond.code ({ cls := "ThirdAfter$Reader", name := "opens", desc := "()Z" } : Jvm.MethodName) prog_25_method_13_code (1 : Nat) (Option.some Jvm.ClassFile.FieldType.boolean)) ∈ lw_all := lw_g (lw_at lw_m2 235 rfl) rfl
theorem q574 : (Jvm.Cond.methodLink "ThirdAfter$Reader" (109 : Nat) ({ cls := "ThirdAfter$Reader", name := "wrong", desc := "()LThirdAfter$Node;" } : Jvm.MethodName)) ∈ lw_all := lw_g (lw_at lw_m2 236 rfl) rfl
theorem q575 : (Jvm.Cond.privateMethod ({ cls := "ThirdAfter$Reader", name := "wrong", desc := "()LThirdAfter$Node;" } : Jvm.MethodName)) ∈ lw_tbl := lw_at lw_m2 237 rfl
theorem q576 : (Jvm.Cond.instanceMethod ({ cls := "ThirdAfter$Reader", name := "wrong", desc := "()LThirdAfter$Node;" } : Jvm.MethodName)) ∈ lw_all := lw_g (lw_at lw_m2 238 rfl) rfl
theorem q577 : (Jvm.Cond.code ({ cls := "ThirdAfter$Reader", name := "wrong", desc := "()LThirdAfter$Node;" } : Jvm.MethodName) prog_25_method_4_code (1 : Nat) (Option.some (Jvm.ClassFile.FieldType.object "ThirdAfter$Node"))) ∈ lw_all := lw_g (lw_at lw_m2 239 rfl) rfl
theorem q578 : (Jvm.Cond.classLink "ThirdAfter$Reader" (112 : Nat) "ThirdAfter$Denied") ∈ lw_all := lw_g (lw_at lw_m3 0 rfl) rfl
theorem q580 : (Jvm.Cond.methodLink "ThirdAfter$Reader" (114 : Nat) ({ cls := "ThirdAfter$Denied", name := "<init>", desc := "(LThirdAfter$Node;)V" } : Jvm.MethodName)) ∈ lw_all := lw_g (lw_at lw_m3 2 rfl) rfl
theorem q588 : (Jvm.Cond.classLink "ThirdAfter$Reader" (117 : Nat) "ThirdAfter$Turned") ∈ lw_all := lw_g (lw_at lw_m3 10 rfl) rfl
theorem q590 : (Jvm.Cond.methodLink "ThirdAfter$Reader" (119 : Nat) ({ cls := "ThirdAfter$Turned", name := "<init>", desc := "(LThirdAfter$Node;)V" } : Jvm.MethodName)) ∈ lw_all := lw_g (lw_at lw_m3 12 rfl) rfl
theorem q598 : (Jvm.Cond.methodLinkNest "ThirdAfter$Reader" (120 : Nat) ({ cls := "ThirdAfter", name := "in", desc := "(III)Z" } : Jvm.MethodName) "ThirdAfter") ∈ lw_tbl := lw_at lw_m3 20 rfl
theorem q599 : (Jvm.Cond.classLink "ThirdAfter$Reader" (124 : Nat) "ThirdAfter$Leaf") ∈ lw_all := lw_g (lw_at lw_m3 21 rfl) rfl
theorem q601 : (Jvm.Cond.methodLink "ThirdAfter$Reader" (126 : Nat) ({ cls := "ThirdAfter$Leaf", name := "<init>", desc := "(I)V" } : Jvm.MethodName)) ∈ lw_all := lw_g (lw_at lw_m3 23 rfl) rfl
theorem q609 : (Jvm.Cond.stringRef "ThirdAfter$Reader" (93 : Nat) "*/%") ∈ lw_tbl := lw_at lw_m3 31 rfl
theorem q610 : (Jvm.Cond.methodLink "ThirdAfter$Reader" (69 : Nat) ({ cls := "ThirdAfter$Reader", name := "joined", desc := "(ILThirdAfter$Node;LThirdAfter$Node;)LThirdAfter$Node;" } : Jvm.MethodName)) ∈ lw_all := lw_g (lw_at lw_m3 32 rfl) rfl
theorem q611 : (Jvm.Cond.privateMethod ({ cls := "ThirdAfter$Reader", name := "joined", desc := "(ILThirdAfter$Node;LThirdAfter$Node;)LThirdAfter$Node;" } : Jvm.MethodName)) ∈ lw_tbl := lw_at lw_m3 33 rfl
theorem q612 : (Jvm.Cond.instanceMethod ({ cls := "ThirdAfter$Reader", name := "joined", desc := "(ILThirdAfter$Node;LThirdAfter$Node;)LThirdAfter$Node;" } : Jvm.MethodName)) ∈ lw_all := lw_g (lw_at lw_m3 34 rfl) rfl
theorem q613 : (Jvm.Cond.code ({ cls := "ThirdAfter$Reader", name := "joined", desc := "(ILThirdAfter$Node;LThirdAfter$Node;)LThirdAfter$Node;" } : Jvm.MethodName) prog_25_method_7_code (4 : Nat) (Option.some (Jvm.ClassFile.FieldType.object "ThirdAfter$Node"))) ∈ lw_all := lw_g (lw_at lw_m3 35 rfl) rfl
theorem q614 : (Jvm.Cond.classLink "ThirdAfter$Reader" (61 : Nat) "ThirdAfter$Pair") ∈ lw_all := lw_g (lw_at lw_m3 36 rfl) rfl
theorem q616 : (Jvm.Cond.methodLink "ThirdAfter$Reader" (63 : Nat) ({ cls := "ThirdAfter$Pair", name := "<init>", desc := "(ILThirdAfter$Node;LThirdAfter$Node;)V" } : Jvm.MethodName)) ∈ lw_all := lw_g (lw_at lw_m3 38 rfl) rfl
theorem q630 : (Jvm.Cond.stringRef "ThirdAfter$Reader" (88 : Nat) "+-") ∈ lw_tbl := lw_at lw_m3 52 rfl
theorem q631 : (Jvm.Cond.stringRef "ThirdAfter$Reader" (79 : Nat) "<=>") ∈ lw_tbl := lw_at lw_m3 53 rfl
theorem q714 : (Jvm.Cond.fieldLinkNest "ThirdAfter$Reader" (25 : Nat) "ThirdAfter" "tape" "[B" "ThirdAfter") ∈ lw_tbl := lw_at lw_m3 136 rfl
theorem q716 : (Jvm.Cond.fieldLinkNest "ThirdAfter$Reader" (22 : Nat) "ThirdAfter" "taped" "I" "ThirdAfter") ∈ lw_tbl := lw_at lw_m3 138 rfl
theorem in_X6 : ∀ w ∈ wsX60, w ∈ lw_all := lw_in wsX60 [402, 404, 406, 408] (by decide +kernel) (by decide +kernel)
/-! ThirdAfter$Line -/
def RX7 : String := "ThirdAfter$Line"
def TX7 : u_T := fun k => match k with
  | 0 => ("ThirdAfter$Line", "test", "LThirdAfter$Node;", false)
  | 1 => ("ThirdAfter$Line", "gives", "LThirdAfter$Node;", false)
  | _ => ("ThirdAfter$Line", "next", "LThirdAfter$Line;", false)
def tyX7 : Nat → FieldType := fun k => match k with
  | 0 => .object "ThirdAfter$Node"
  | 1 => .object "ThirdAfter$Node"
  | _ => .object "ThirdAfter$Line"
abbrev wsX70 : List Cond := u_ws RX7 TX7 3
theorem nmX7 : ∀ a, a < 3 → ∀ b, b < 3 → a ≠ b → (TX7 a).2.1 ≠ (TX7 b).2.1 := by decide +kernel
theorem tyX7_ok : ∀ k, k < 3 → parseFieldDescriptor (TX7 k).2.2.1 = some (tyX7 k) := by decide +kernel
abbrev cX7_init : ByteArray := prog_17_method_1_code
def yX7_init : MethodName := ⟨RX7, "<init>", "()V"⟩
theorem q114 : (Jvm.Cond.initialized "ThirdAfter$Line") ∈ lw_all := lw_g (lw_at lw_m1 16 rfl) rfl
theorem q420 : (Jvm.Cond.instantiable "ThirdAfter$Line" (3 : Nat)) ∈ lw_all := lw_g (lw_at lw_m2 82 rfl) rfl
theorem q422 : (Jvm.Cond.instanceMethod ({ cls := "ThirdAfter$Line", name := "<init>", desc := "()V" } : Jvm.MethodName)) ∈ lw_all := lw_g (lw_at lw_m2 84 rfl) rfl
theorem q423 : (Jvm.Cond.code ({ cls := "ThirdAfter$Line", name := "<init>", desc := "()V" } : Jvm.MethodName) prog_17_method_1_code (1 : Nat) (Option.none : Option Jvm.ClassFile.FieldType)) ∈ lw_all := lw_g (lw_at lw_m2 85 rfl) rfl
theorem q424 : (Jvm.Cond.methodLink "ThirdAfter$Line" (1 : Nat) ({ cls := "java/lang/Object", name := "<init>", desc := "()V" } : Jvm.MethodName)) ∈ lw_all := lw_g (lw_at lw_m2 86 rfl) rfl
theorem q431 : (Jvm.Cond.lays "ThirdAfter$Line" "ThirdAfter$Line" "test" "LThirdAfter$Node;") ∈ lw_all := lw_g (lw_at lw_m2 93 rfl) rfl
theorem q432 : (Jvm.Cond.soleField "ThirdAfter$Line" "test") ∈ lw_all := lw_g (lw_at lw_m2 94 rfl) rfl
theorem q433 : (Jvm.Cond.lays "ThirdAfter$Line" "ThirdAfter$Line" "gives" "LThirdAfter$Node;") ∈ lw_all := lw_g (lw_at lw_m2 95 rfl) rfl
theorem q434 : (Jvm.Cond.soleField "ThirdAfter$Line" "gives") ∈ lw_all := lw_g (lw_at lw_m2 96 rfl) rfl
theorem q435 : (Jvm.Cond.lays "ThirdAfter$Line" "ThirdAfter$Line" "next" "LThirdAfter$Line;") ∈ lw_all := lw_g (lw_at lw_m2 97 rfl) rfl
theorem q436 : (Jvm.Cond.soleField "ThirdAfter$Line" "next") ∈ lw_all := lw_g (lw_at lw_m2 98 rfl) rfl
theorem q437 : (Jvm.Cond.superclass "ThirdAfter$Line" "java/lang/Object") ∈ lw_all := lw_g (lw_at lw_m2 99 rfl) rfl
theorem in_X7 : ∀ w ∈ wsX70, w ∈ lw_all := lw_in wsX70 [431, 433, 435] (by decide +kernel) (by decide +kernel)
/-! ThirdAfter$Node -/
def RX8 : String := "ThirdAfter$Node"
abbrev cX8_init : ByteArray := prog_21_method_1_code
def yX8_init : MethodName := ⟨RX8, "<init>", "()V"⟩
theorem q120 : (Jvm.Cond.initialized "ThirdAfter$Node") ∈ lw_all := lw_g (lw_at lw_m1 22 rfl) rfl
theorem q563 : (Jvm.Cond.instanceMethod ({ cls := "ThirdAfter$Node", name := "<init>", desc := "()V" } : Jvm.MethodName)) ∈ lw_all := lw_g (lw_at lw_m2 225 rfl) rfl
theorem q564 : (Jvm.Cond.code ({ cls := "ThirdAfter$Node", name := "<init>", desc := "()V" } : Jvm.MethodName) prog_21_method_1_code (1 : Nat) (Option.none : Option Jvm.ClassFile.FieldType)) ∈ lw_all := lw_g (lw_at lw_m2 226 rfl) rfl
theorem q565 : (Jvm.Cond.methodLink "ThirdAfter$Node" (1 : Nat) ({ cls := "java/lang/Object", name := "<init>", desc := "()V" } : Jvm.MethodName)) ∈ lw_all := lw_g (lw_at lw_m2 227 rfl) rfl
theorem q913 : (Jvm.Cond.declares ({ cls := "ThirdAfter$Node", name := "value", desc := "(LThirdAfter$Facts;)I" } : Jvm.MethodName)) ∈ lw_tbl := lw_at lw_m4 95 rfl
theorem q914 : (Jvm.Cond.sameMethod "ThirdAfter$Node" "ThirdAfter$Node" "value" "(LThirdAfter$Facts;)I") ∈ lw_all := lw_g (lw_at lw_m4 96 rfl) rfl
/-! ThirdAfter$Name -/
def RX9 : String := "ThirdAfter$Name"
def TX9 : u_T := fun k => match k with
  | _ => ("ThirdAfter$Name", "letter", "I", true)
def tyX9 : Nat → FieldType := fun k => match k with
  | _ => .int
abbrev wsX90 : List Cond := u_ws RX9 TX9 1
theorem nmX9 : ∀ a, a < 1 → ∀ b, b < 1 → a ≠ b → (TX9 a).2.1 ≠ (TX9 b).2.1 := by decide +kernel
theorem tyX9_ok : ∀ k, k < 1 → parseFieldDescriptor (TX9 k).2.2.1 = some (tyX9 k) := by decide +kernel
abbrev cX9_init : ByteArray := prog_20_method_1_code
def yX9_init : MethodName := ⟨RX9, "<init>", "(I)V"⟩
abbrev cX9_value : ByteArray := prog_20_method_2_code
def yX9_value : MethodName := ⟨RX9, "value", "(LThirdAfter$Facts;)I"⟩
theorem q121 : (Jvm.Cond.initialized "ThirdAfter$Name") ∈ lw_all := lw_g (lw_at lw_m1 23 rfl) rfl
theorem q558 : (Jvm.Cond.instantiable "ThirdAfter$Name" (1 : Nat)) ∈ lw_all := lw_g (lw_at lw_m2 220 rfl) rfl
theorem q560 : (Jvm.Cond.instanceMethod ({ cls := "ThirdAfter$Name", name := "<init>", desc := "(I)V" } : Jvm.MethodName)) ∈ lw_all := lw_g (lw_at lw_m2 222 rfl) rfl
theorem q561 : (Jvm.Cond.code ({ cls := "ThirdAfter$Name", name := "<init>", desc := "(I)V" } : Jvm.MethodName) prog_20_method_1_code (2 : Nat) (Option.none : Option Jvm.ClassFile.FieldType)) ∈ lw_all := lw_g (lw_at lw_m2 223 rfl) rfl
theorem q562 : (Jvm.Cond.methodLinkNest "ThirdAfter$Name" (1 : Nat) ({ cls := "ThirdAfter$Node", name := "<init>", desc := "()V" } : Jvm.MethodName) "ThirdAfter") ∈ lw_tbl := lw_at lw_m2 224 rfl
theorem q566 : (Jvm.Cond.fieldLink "ThirdAfter$Name" (7 : Nat) "ThirdAfter$Name" "letter" "I") ∈ lw_all := lw_g (lw_at lw_m2 228 rfl) rfl
theorem q567 : (Jvm.Cond.laysFinal "ThirdAfter$Name" "ThirdAfter$Name" "letter" "I") ∈ lw_all := lw_g (lw_at lw_m2 229 rfl) rfl
theorem q568 : (Jvm.Cond.soleField "ThirdAfter$Name" "letter") ∈ lw_all := lw_g (lw_at lw_m2 230 rfl) rfl
theorem q569 : (Jvm.Cond.superclass "ThirdAfter$Name" "ThirdAfter$Node") ∈ lw_all := lw_g (lw_at lw_m2 231 rfl) rfl
theorem q646 : (Jvm.Cond.fieldLinkNest "ThirdAfter$Name" (13 : Nat) "ThirdAfter$Facts" "named" "[I" "ThirdAfter") ∈ lw_tbl := lw_at lw_m3 68 rfl
theorem q921 : (Jvm.Cond.instanceMethod ({ cls := "ThirdAfter$Name", name := "value", desc := "(LThirdAfter$Facts;)I" } : Jvm.MethodName)) ∈ lw_all := lw_g (lw_at lw_m4 103 rfl) rfl
theorem q922 : (Jvm.Cond.code ({ cls := "ThirdAfter$Name", name := "value", desc := "(LThirdAfter$Facts;)I" } : Jvm.MethodName) prog_20_method_2_code (2 : Nat) (Option.some Jvm.ClassFile.FieldType.int)) ∈ lw_all := lw_g (lw_at lw_m4 104 rfl) rfl
theorem q933 : (Jvm.Cond.selects "ThirdAfter$Name" ({ cls := "ThirdAfter$Node", name := "value", desc := "(LThirdAfter$Facts;)I" } : Jvm.MethodName) ({ cls := "ThirdAfter$Name", name := "value", desc := "(LThirdAfter$Facts;)I" } : Jvm.MethodName)) ∈ lw_all := lw_g (lw_at lw_m4 115 rfl) rfl
theorem in_X9 : ∀ w ∈ wsX90, w ∈ lw_all := lw_in wsX90 [567] (by decide +kernel) (by decide +kernel)
/-! ThirdAfter$Denied -/
def RX10 : String := "ThirdAfter$Denied"
def TX10 : u_T := fun k => match k with
  | _ => ("ThirdAfter$Denied", "of", "LThirdAfter$Node;", true)
def tyX10 : Nat → FieldType := fun k => match k with
  | _ => .object "ThirdAfter$Node"
abbrev wsX100 : List Cond := u_ws RX10 TX10 1
theorem nmX10 : ∀ a, a < 1 → ∀ b, b < 1 → a ≠ b → (TX10 a).2.1 ≠ (TX10 b).2.1 := by decide +kernel
theorem tyX10_ok : ∀ k, k < 1 → parseFieldDescriptor (TX10 k).2.2.1 = some (tyX10 k) := by decide +kernel
abbrev cX10_init : ByteArray := prog_9_method_1_code
def yX10_init : MethodName := ⟨RX10, "<init>", "(LThirdAfter$Node;)V"⟩
abbrev cX10_value : ByteArray := prog_9_method_2_code
def yX10_value : MethodName := ⟨RX10, "value", "(LThirdAfter$Facts;)I"⟩
theorem q122 : (Jvm.Cond.initialized "ThirdAfter$Denied") ∈ lw_all := lw_g (lw_at lw_m1 24 rfl) rfl
theorem q579 : (Jvm.Cond.instantiable "ThirdAfter$Denied" (1 : Nat)) ∈ lw_all := lw_g (lw_at lw_m3 1 rfl) rfl
theorem q581 : (Jvm.Cond.instanceMethod ({ cls := "ThirdAfter$Denied", name := "<init>", desc := "(LThirdAfter$Node;)V" } : Jvm.MethodName)) ∈ lw_all := lw_g (lw_at lw_m3 3 rfl) rfl
theorem q582 : (Jvm.Cond.code ({ cls := "ThirdAfter$Denied", name := "<init>", desc := "(LThirdAfter$Node;)V" } : Jvm.MethodName) prog_9_method_1_code (2 : Nat) (Option.none : Option Jvm.ClassFile.FieldType)) ∈ lw_all := lw_g (lw_at lw_m3 4 rfl) rfl
theorem q583 : (Jvm.Cond.methodLinkNest "ThirdAfter$Denied" (1 : Nat) ({ cls := "ThirdAfter$Node", name := "<init>", desc := "()V" } : Jvm.MethodName) "ThirdAfter") ∈ lw_tbl := lw_at lw_m3 5 rfl
theorem q584 : (Jvm.Cond.fieldLink "ThirdAfter$Denied" (7 : Nat) "ThirdAfter$Denied" "of" "LThirdAfter$Node;") ∈ lw_all := lw_g (lw_at lw_m3 6 rfl) rfl
theorem q585 : (Jvm.Cond.laysFinal "ThirdAfter$Denied" "ThirdAfter$Denied" "of" "LThirdAfter$Node;") ∈ lw_all := lw_g (lw_at lw_m3 7 rfl) rfl
theorem q586 : (Jvm.Cond.soleField "ThirdAfter$Denied" "of") ∈ lw_all := lw_g (lw_at lw_m3 8 rfl) rfl
theorem q587 : (Jvm.Cond.superclass "ThirdAfter$Denied" "ThirdAfter$Node") ∈ lw_all := lw_g (lw_at lw_m3 9 rfl) rfl
theorem q915 : (Jvm.Cond.selects "ThirdAfter$Denied" ({ cls := "ThirdAfter$Node", name := "value", desc := "(LThirdAfter$Facts;)I" } : Jvm.MethodName) ({ cls := "ThirdAfter$Denied", name := "value", desc := "(LThirdAfter$Facts;)I" } : Jvm.MethodName)) ∈ lw_all := lw_g (lw_at lw_m4 97 rfl) rfl
theorem q916 : (Jvm.Cond.instanceMethod ({ cls := "ThirdAfter$Denied", name := "value", desc := "(LThirdAfter$Facts;)I" } : Jvm.MethodName)) ∈ lw_all := lw_g (lw_at lw_m4 98 rfl) rfl
theorem q917 : (Jvm.Cond.code ({ cls := "ThirdAfter$Denied", name := "value", desc := "(LThirdAfter$Facts;)I" } : Jvm.MethodName) prog_9_method_2_code (2 : Nat) (Option.some Jvm.ClassFile.FieldType.int)) ∈ lw_all := lw_g (lw_at lw_m4 99 rfl) rfl
theorem q918 : (Jvm.Cond.methodLink "ThirdAfter$Denied" (13 : Nat) ({ cls := "ThirdAfter$Node", name := "value", desc := "(LThirdAfter$Facts;)I" } : Jvm.MethodName)) ∈ lw_all := lw_g (lw_at lw_m4 100 rfl) rfl
theorem in_X10 : ∀ w ∈ wsX100, w ∈ lw_all := lw_in wsX100 [585] (by decide +kernel) (by decide +kernel)
/-! ThirdAfter$Turned -/
def RX11 : String := "ThirdAfter$Turned"
def TX11 : u_T := fun k => match k with
  | _ => ("ThirdAfter$Turned", "of", "LThirdAfter$Node;", true)
def tyX11 : Nat → FieldType := fun k => match k with
  | _ => .object "ThirdAfter$Node"
abbrev wsX110 : List Cond := u_ws RX11 TX11 1
theorem nmX11 : ∀ a, a < 1 → ∀ b, b < 1 → a ≠ b → (TX11 a).2.1 ≠ (TX11 b).2.1 := by decide +kernel
theorem tyX11_ok : ∀ k, k < 1 → parseFieldDescriptor (TX11 k).2.2.1 = some (tyX11 k) := by decide +kernel
abbrev cX11_init : ByteArray := prog_30_method_1_code
def yX11_init : MethodName := ⟨RX11, "<init>", "(LThirdAfter$Node;)V"⟩
abbrev cX11_value : ByteArray := prog_30_method_2_code
def yX11_value : MethodName := ⟨RX11, "value", "(LThirdAfter$Facts;)I"⟩
theorem q123 : (Jvm.Cond.initialized "ThirdAfter$Turned") ∈ lw_all := lw_g (lw_at lw_m1 25 rfl) rfl
theorem q589 : (Jvm.Cond.instantiable "ThirdAfter$Turned" (1 : Nat)) ∈ lw_all := lw_g (lw_at lw_m3 11 rfl) rfl
theorem q591 : (Jvm.Cond.instanceMethod ({ cls := "ThirdAfter$Turned", name := "<init>", desc := "(LThirdAfter$Node;)V" } : Jvm.MethodName)) ∈ lw_all := lw_g (lw_at lw_m3 13 rfl) rfl
theorem q592 : (Jvm.Cond.code ({ cls := "ThirdAfter$Turned", name := "<init>", desc := "(LThirdAfter$Node;)V" } : Jvm.MethodName) prog_30_method_1_code (2 : Nat) (Option.none : Option Jvm.ClassFile.FieldType)) ∈ lw_all := lw_g (lw_at lw_m3 14 rfl) rfl
theorem q593 : (Jvm.Cond.methodLinkNest "ThirdAfter$Turned" (1 : Nat) ({ cls := "ThirdAfter$Node", name := "<init>", desc := "()V" } : Jvm.MethodName) "ThirdAfter") ∈ lw_tbl := lw_at lw_m3 15 rfl
theorem q594 : (Jvm.Cond.fieldLink "ThirdAfter$Turned" (7 : Nat) "ThirdAfter$Turned" "of" "LThirdAfter$Node;") ∈ lw_all := lw_g (lw_at lw_m3 16 rfl) rfl
theorem q595 : (Jvm.Cond.laysFinal "ThirdAfter$Turned" "ThirdAfter$Turned" "of" "LThirdAfter$Node;") ∈ lw_all := lw_g (lw_at lw_m3 17 rfl) rfl
theorem q596 : (Jvm.Cond.soleField "ThirdAfter$Turned" "of") ∈ lw_all := lw_g (lw_at lw_m3 18 rfl) rfl
theorem q597 : (Jvm.Cond.superclass "ThirdAfter$Turned" "ThirdAfter$Node") ∈ lw_all := lw_g (lw_at lw_m3 19 rfl) rfl
theorem q926 : (Jvm.Cond.instanceMethod ({ cls := "ThirdAfter$Turned", name := "value", desc := "(LThirdAfter$Facts;)I" } : Jvm.MethodName)) ∈ lw_all := lw_g (lw_at lw_m4 108 rfl) rfl
theorem q927 : (Jvm.Cond.code ({ cls := "ThirdAfter$Turned", name := "value", desc := "(LThirdAfter$Facts;)I" } : Jvm.MethodName) prog_30_method_2_code (2 : Nat) (Option.some Jvm.ClassFile.FieldType.int)) ∈ lw_all := lw_g (lw_at lw_m4 109 rfl) rfl
theorem q928 : (Jvm.Cond.methodLink "ThirdAfter$Turned" (13 : Nat) ({ cls := "ThirdAfter$Node", name := "value", desc := "(LThirdAfter$Facts;)I" } : Jvm.MethodName)) ∈ lw_all := lw_g (lw_at lw_m4 110 rfl) rfl
theorem q935 : (Jvm.Cond.selects "ThirdAfter$Turned" ({ cls := "ThirdAfter$Node", name := "value", desc := "(LThirdAfter$Facts;)I" } : Jvm.MethodName) ({ cls := "ThirdAfter$Turned", name := "value", desc := "(LThirdAfter$Facts;)I" } : Jvm.MethodName)) ∈ lw_all := lw_g (lw_at lw_m4 117 rfl) rfl
theorem in_X11 : ∀ w ∈ wsX110, w ∈ lw_all := lw_in wsX110 [595] (by decide +kernel) (by decide +kernel)
/-! ThirdAfter$Leaf -/
def RX12 : String := "ThirdAfter$Leaf"
def TX12 : u_T := fun k => match k with
  | _ => ("ThirdAfter$Leaf", "number", "I", true)
def tyX12 : Nat → FieldType := fun k => match k with
  | _ => .int
abbrev wsX120 : List Cond := u_ws RX12 TX12 1
theorem nmX12 : ∀ a, a < 1 → ∀ b, b < 1 → a ≠ b → (TX12 a).2.1 ≠ (TX12 b).2.1 := by decide +kernel
theorem tyX12_ok : ∀ k, k < 1 → parseFieldDescriptor (TX12 k).2.2.1 = some (tyX12 k) := by decide +kernel
abbrev cX12_init : ByteArray := prog_16_method_1_code
def yX12_init : MethodName := ⟨RX12, "<init>", "(I)V"⟩
abbrev cX12_value : ByteArray := prog_16_method_2_code
def yX12_value : MethodName := ⟨RX12, "value", "(LThirdAfter$Facts;)I"⟩
theorem q124 : (Jvm.Cond.initialized "ThirdAfter$Leaf") ∈ lw_all := lw_g (lw_at lw_m1 26 rfl) rfl
theorem q600 : (Jvm.Cond.instantiable "ThirdAfter$Leaf" (1 : Nat)) ∈ lw_all := lw_g (lw_at lw_m3 22 rfl) rfl
theorem q602 : (Jvm.Cond.instanceMethod ({ cls := "ThirdAfter$Leaf", name := "<init>", desc := "(I)V" } : Jvm.MethodName)) ∈ lw_all := lw_g (lw_at lw_m3 24 rfl) rfl
theorem q603 : (Jvm.Cond.code ({ cls := "ThirdAfter$Leaf", name := "<init>", desc := "(I)V" } : Jvm.MethodName) prog_16_method_1_code (2 : Nat) (Option.none : Option Jvm.ClassFile.FieldType)) ∈ lw_all := lw_g (lw_at lw_m3 25 rfl) rfl
theorem q604 : (Jvm.Cond.methodLinkNest "ThirdAfter$Leaf" (1 : Nat) ({ cls := "ThirdAfter$Node", name := "<init>", desc := "()V" } : Jvm.MethodName) "ThirdAfter") ∈ lw_tbl := lw_at lw_m3 26 rfl
theorem q605 : (Jvm.Cond.fieldLink "ThirdAfter$Leaf" (7 : Nat) "ThirdAfter$Leaf" "number" "I") ∈ lw_all := lw_g (lw_at lw_m3 27 rfl) rfl
theorem q606 : (Jvm.Cond.laysFinal "ThirdAfter$Leaf" "ThirdAfter$Leaf" "number" "I") ∈ lw_all := lw_g (lw_at lw_m3 28 rfl) rfl
theorem q607 : (Jvm.Cond.soleField "ThirdAfter$Leaf" "number") ∈ lw_all := lw_g (lw_at lw_m3 29 rfl) rfl
theorem q608 : (Jvm.Cond.superclass "ThirdAfter$Leaf" "ThirdAfter$Node") ∈ lw_all := lw_g (lw_at lw_m3 30 rfl) rfl
theorem q919 : (Jvm.Cond.instanceMethod ({ cls := "ThirdAfter$Leaf", name := "value", desc := "(LThirdAfter$Facts;)I" } : Jvm.MethodName)) ∈ lw_all := lw_g (lw_at lw_m4 101 rfl) rfl
theorem q920 : (Jvm.Cond.code ({ cls := "ThirdAfter$Leaf", name := "value", desc := "(LThirdAfter$Facts;)I" } : Jvm.MethodName) prog_16_method_2_code (2 : Nat) (Option.some Jvm.ClassFile.FieldType.int)) ∈ lw_all := lw_g (lw_at lw_m4 102 rfl) rfl
theorem q932 : (Jvm.Cond.selects "ThirdAfter$Leaf" ({ cls := "ThirdAfter$Node", name := "value", desc := "(LThirdAfter$Facts;)I" } : Jvm.MethodName) ({ cls := "ThirdAfter$Leaf", name := "value", desc := "(LThirdAfter$Facts;)I" } : Jvm.MethodName)) ∈ lw_all := lw_g (lw_at lw_m4 114 rfl) rfl
theorem in_X12 : ∀ w ∈ wsX120, w ∈ lw_all := lw_in wsX120 [606] (by decide +kernel) (by decide +kernel)
/-! ThirdAfter$Pair -/
def RX13 : String := "ThirdAfter$Pair"
def TX13 : u_T := fun k => match k with
  | 0 => ("ThirdAfter$Pair", "sign", "I", true)
  | 1 => ("ThirdAfter$Pair", "left", "LThirdAfter$Node;", true)
  | _ => ("ThirdAfter$Pair", "right", "LThirdAfter$Node;", true)
def tyX13 : Nat → FieldType := fun k => match k with
  | 0 => .int
  | 1 => .object "ThirdAfter$Node"
  | _ => .object "ThirdAfter$Node"
abbrev wsX130 : List Cond := u_ws RX13 TX13 3
theorem nmX13 : ∀ a, a < 3 → ∀ b, b < 3 → a ≠ b → (TX13 a).2.1 ≠ (TX13 b).2.1 := by decide +kernel
theorem tyX13_ok : ∀ k, k < 3 → parseFieldDescriptor (TX13 k).2.2.1 = some (tyX13 k) := by decide +kernel
abbrev cX13_init : ByteArray := prog_22_method_1_code
def yX13_init : MethodName := ⟨RX13, "<init>", "(ILThirdAfter$Node;LThirdAfter$Node;)V"⟩
abbrev cX13_value : ByteArray := prog_22_method_3_code
def yX13_value : MethodName := ⟨RX13, "value", "(LThirdAfter$Facts;)I"⟩
abbrev cX13_is : ByteArray := prog_22_method_2_code
def yX13_is : MethodName := ⟨RX13, "is", "(Z)I"⟩
theorem q125 : (Jvm.Cond.initialized "ThirdAfter$Pair") ∈ lw_all := lw_g (lw_at lw_m1 27 rfl) rfl
theorem q615 : (Jvm.Cond.instantiable "ThirdAfter$Pair" (3 : Nat)) ∈ lw_all := lw_g (lw_at lw_m3 37 rfl) rfl
theorem q617 : (Jvm.Cond.instanceMethod ({ cls := "ThirdAfter$Pair", name := "<init>", desc := "(ILThirdAfter$Node;LThirdAfter$Node;)V" } : Jvm.MethodName)) ∈ lw_all := lw_g (lw_at lw_m3 39 rfl) rfl
theorem q618 : (Jvm.Cond.code ({ cls := "ThirdAfter$Pair", name := "<init>", desc := "(ILThirdAfter$Node;LThirdAfter$Node;)V" } : Jvm.MethodName) prog_22_method_1_code (4 : Nat) (Option.none : Option Jvm.ClassFile.FieldType)) ∈ lw_all := lw_g (lw_at lw_m3 40 rfl) rfl
theorem q619 : (Jvm.Cond.methodLinkNest "ThirdAfter$Pair" (1 : Nat) ({ cls := "ThirdAfter$Node", name := "<init>", desc := "()V" } : Jvm.MethodName) "ThirdAfter") ∈ lw_tbl := lw_at lw_m3 41 rfl
theorem q620 : (Jvm.Cond.fieldLink "ThirdAfter$Pair" (7 : Nat) "ThirdAfter$Pair" "sign" "I") ∈ lw_all := lw_g (lw_at lw_m3 42 rfl) rfl
theorem q621 : (Jvm.Cond.fieldLink "ThirdAfter$Pair" (13 : Nat) "ThirdAfter$Pair" "left" "LThirdAfter$Node;") ∈ lw_all := lw_g (lw_at lw_m3 43 rfl) rfl
theorem q622 : (Jvm.Cond.fieldLink "ThirdAfter$Pair" (17 : Nat) "ThirdAfter$Pair" "right" "LThirdAfter$Node;") ∈ lw_all := lw_g (lw_at lw_m3 44 rfl) rfl
theorem q623 : (Jvm.Cond.laysFinal "ThirdAfter$Pair" "ThirdAfter$Pair" "sign" "I") ∈ lw_all := lw_g (lw_at lw_m3 45 rfl) rfl
theorem q624 : (Jvm.Cond.soleField "ThirdAfter$Pair" "sign") ∈ lw_all := lw_g (lw_at lw_m3 46 rfl) rfl
theorem q625 : (Jvm.Cond.laysFinal "ThirdAfter$Pair" "ThirdAfter$Pair" "left" "LThirdAfter$Node;") ∈ lw_all := lw_g (lw_at lw_m3 47 rfl) rfl
theorem q626 : (Jvm.Cond.soleField "ThirdAfter$Pair" "left") ∈ lw_all := lw_g (lw_at lw_m3 48 rfl) rfl
theorem q627 : (Jvm.Cond.laysFinal "ThirdAfter$Pair" "ThirdAfter$Pair" "right" "LThirdAfter$Node;") ∈ lw_all := lw_g (lw_at lw_m3 49 rfl) rfl
theorem q628 : (Jvm.Cond.soleField "ThirdAfter$Pair" "right") ∈ lw_all := lw_g (lw_at lw_m3 50 rfl) rfl
theorem q629 : (Jvm.Cond.superclass "ThirdAfter$Pair" "ThirdAfter$Node") ∈ lw_all := lw_g (lw_at lw_m3 51 rfl) rfl
theorem q923 : (Jvm.Cond.instanceMethod ({ cls := "ThirdAfter$Pair", name := "value", desc := "(LThirdAfter$Facts;)I" } : Jvm.MethodName)) ∈ lw_all := lw_g (lw_at lw_m4 105 rfl) rfl
theorem q924 : (Jvm.Cond.code ({ cls := "ThirdAfter$Pair", name := "value", desc := "(LThirdAfter$Facts;)I" } : Jvm.MethodName) prog_22_method_3_code (4 : Nat) (Option.some Jvm.ClassFile.FieldType.int)) ∈ lw_all := lw_g (lw_at lw_m4 106 rfl) rfl
theorem q925 : (Jvm.Cond.methodLink "ThirdAfter$Pair" (20 : Nat) ({ cls := "ThirdAfter$Node", name := "value", desc := "(LThirdAfter$Facts;)I" } : Jvm.MethodName)) ∈ lw_all := lw_g (lw_at lw_m4 107 rfl) rfl
theorem q929 : (Jvm.Cond.methodLink "ThirdAfter$Pair" (24 : Nat) ({ cls := "ThirdAfter$Pair", name := "is", desc := "(Z)I" } : Jvm.MethodName)) ∈ lw_all := lw_g (lw_at lw_m4 111 rfl) rfl
theorem q930 : (Jvm.Cond.static ({ cls := "ThirdAfter$Pair", name := "is", desc := "(Z)I" } : Jvm.MethodName)) ∈ lw_all := lw_g (lw_at lw_m4 112 rfl) rfl
theorem q931 : (Jvm.Cond.code ({ cls := "ThirdAfter$Pair", name := "is", desc := "(Z)I" } : Jvm.MethodName) prog_22_method_2_code (1 : Nat) (Option.some Jvm.ClassFile.FieldType.int)) ∈ lw_all := lw_g (lw_at lw_m4 113 rfl) rfl
theorem q934 : (Jvm.Cond.selects "ThirdAfter$Pair" ({ cls := "ThirdAfter$Node", name := "value", desc := "(LThirdAfter$Facts;)I" } : Jvm.MethodName) ({ cls := "ThirdAfter$Pair", name := "value", desc := "(LThirdAfter$Facts;)I" } : Jvm.MethodName)) ∈ lw_all := lw_g (lw_at lw_m4 116 rfl) rfl
theorem in_X13 : ∀ w ∈ wsX130, w ∈ lw_all := lw_in wsX130 [623, 625, 627] (by decide +kernel) (by decide +kernel)
/-! ThirdAfter$Held -/
def RX14 : String := "ThirdAfter$Held"
abbrev cX14_init : ByteArray := prog_12_method_1_code
def yX14_init : MethodName := ⟨RX14, "<init>", "()V"⟩
theorem q128 : (Jvm.Cond.initialized "ThirdAfter$Held") ∈ lw_all := lw_g (lw_at lw_m1 30 rfl) rfl
theorem q1113 : (Jvm.Cond.instanceMethod ({ cls := "ThirdAfter$Held", name := "<init>", desc := "()V" } : Jvm.MethodName)) ∈ lw_all := lw_g (lw_at lw_m5 55 rfl) rfl
theorem q1114 : (Jvm.Cond.code ({ cls := "ThirdAfter$Held", name := "<init>", desc := "()V" } : Jvm.MethodName) prog_12_method_1_code (1 : Nat) (Option.none : Option Jvm.ClassFile.FieldType)) ∈ lw_all := lw_g (lw_at lw_m5 56 rfl) rfl
theorem q1115 : (Jvm.Cond.methodLink "ThirdAfter$Held" (1 : Nat) ({ cls := "java/lang/Object", name := "<init>", desc := "()V" } : Jvm.MethodName)) ∈ lw_all := lw_g (lw_at lw_m5 57 rfl) rfl
/-! ThirdAfter$Latch -/
def RX15 : String := "ThirdAfter$Latch"
def TX15 : u_T := fun k => match k with
  | 0 => ("ThirdAfter$Latch", "number", "I", true)
  | _ => ("ThirdAfter$Latch", "this$0", "LThirdAfter;", true)
def tyX15 : Nat → FieldType := fun k => match k with
  | 0 => .int
  | _ => .object "ThirdAfter"
abbrev wsX150 : List Cond := u_ws RX15 TX15 2
theorem nmX15 : ∀ a, a < 2 → ∀ b, b < 2 → a ≠ b → (TX15 a).2.1 ≠ (TX15 b).2.1 := by decide +kernel
theorem tyX15_ok : ∀ k, k < 2 → parseFieldDescriptor (TX15 k).2.2.1 = some (tyX15 k) := by decide +kernel
abbrev cX15_init : ByteArray := prog_15_method_1_code
def yX15_init : MethodName := ⟨RX15, "<init>", "(LThirdAfter;I)V"⟩
abbrev cX15_began : ByteArray := prog_15_method_6_code
def yX15_began : MethodName := ⟨RX15, "began", "(I)V"⟩
abbrev cX15_number : ByteArray := prog_15_method_5_code
def yX15_number : MethodName := ⟨RX15, "number", "()I"⟩
abbrev cX15_owes : ByteArray := prog_15_method_7_code
def yX15_owes : MethodName := ⟨RX15, "owes", "(I)I"⟩
abbrev cX15_paysOut : ByteArray := prog_15_method_8_code
def yX15_paysOut : MethodName := ⟨RX15, "paysOut", "(I)I"⟩
abbrev cX15_isUnder : ByteArray := prog_15_method_4_code
def yX15_isUnder : MethodName := ⟨RX15, "isUnder", "(I)Z"⟩
abbrev cX15_kind : ByteArray := prog_15_method_3_code
def yX15_kind : MethodName := ⟨RX15, "kind", "()I"⟩
theorem q129 : (Jvm.Cond.initialized "ThirdAfter$Latch") ∈ lw_all := lw_g (lw_at lw_m1 31 rfl) rfl
theorem q747 : (Jvm.Cond.fieldLinkNest "ThirdAfter$Latch" (19 : Nat) "ThirdAfter" "traces" "I" "ThirdAfter") ∈ lw_tbl := lw_at lw_m3 169 rfl
theorem q749 : (Jvm.Cond.fieldLinkNest "ThirdAfter$Latch" (22 : Nat) "ThirdAfter" "traced" "[B" "ThirdAfter") ∈ lw_tbl := lw_at lw_m3 171 rfl
theorem q1110 : (Jvm.Cond.instanceMethod ({ cls := "ThirdAfter$Latch", name := "<init>", desc := "(LThirdAfter;I)V" } : Jvm.MethodName)) ∈ lw_all := lw_g (lw_at lw_m5 52 rfl) rfl
theorem q1111 : (Jvm.Cond.code ({ cls := "ThirdAfter$Latch", name := "<init>", desc := "(LThirdAfter;I)V" } : Jvm.MethodName) prog_15_method_1_code (3 : Nat) (Option.none : Option Jvm.ClassFile.FieldType)) ∈ lw_all := lw_g (lw_at lw_m5 53 rfl) rfl
theorem q1112 : (Jvm.Cond.methodLinkNest "ThirdAfter$Latch" (9 : Nat) ({ cls := "ThirdAfter$Held", name := "<init>", desc := "()V" } : Jvm.MethodName) "ThirdAfter") ∈ lw_tbl := lw_at lw_m5 54 rfl
theorem q1117 : (Jvm.Cond.fieldLink "ThirdAfter$Latch" (15 : Nat) "ThirdAfter$Latch" "number" "I") ∈ lw_all := lw_g (lw_at lw_m5 59 rfl) rfl
theorem q1118 : (Jvm.Cond.fieldLink "ThirdAfter$Latch" (3 : Nat) "ThirdAfter$Latch" "this$0" "LThirdAfter;") ∈ lw_all := lw_g (lw_at lw_m5 60 rfl) rfl
theorem q1122 : (Jvm.Cond.soleField "ThirdAfter$Latch" "number") ∈ lw_all := lw_g (lw_at lw_m5 64 rfl) rfl
theorem q1124 : (Jvm.Cond.soleField "ThirdAfter$Latch" "this$0") ∈ lw_all := lw_g (lw_at lw_m5 66 rfl) rfl
theorem q1204 : (Jvm.Cond.instantiable "ThirdAfter$Latch" (2 : Nat)) ∈ lw_all := lw_g (lw_at lw_m5 146 rfl) rfl
theorem q1206 : (Jvm.Cond.laysFinal "ThirdAfter$Latch" "ThirdAfter$Latch" "number" "I") ∈ lw_all := lw_g (lw_at lw_m5 148 rfl) rfl
theorem q1207 : (Jvm.Cond.laysFinal "ThirdAfter$Latch" "ThirdAfter$Latch" "this$0" "LThirdAfter;") ∈ lw_all := lw_g (lw_at lw_m5 149 rfl) rfl
theorem q1208 : (Jvm.Cond.superclass "ThirdAfter$Latch" "ThirdAfter$Held") ∈ lw_all := lw_g (lw_at lw_m5 150 rfl) rfl
theorem q1229 : (Jvm.Cond.declares ({ cls := "ThirdAfter$Latch", name := "began", desc := "(I)V" } : Jvm.MethodName)) ∈ lw_tbl := lw_at lw_m5 171 rfl
theorem q1233 : (Jvm.Cond.instanceMethod ({ cls := "ThirdAfter$Latch", name := "began", desc := "(I)V" } : Jvm.MethodName)) ∈ lw_all := lw_g (lw_at lw_m5 175 rfl) rfl
theorem q1234 : (Jvm.Cond.code ({ cls := "ThirdAfter$Latch", name := "began", desc := "(I)V" } : Jvm.MethodName) prog_15_method_6_code (2 : Nat) (Option.none : Option Jvm.ClassFile.FieldType)) ∈ lw_all := lw_g (lw_at lw_m5 176 rfl) rfl
theorem q1243 : (Jvm.Cond.publicMethod ({ cls := "ThirdAfter$Latch", name := "began", desc := "(I)V" } : Jvm.MethodName)) ∈ lw_tbl := lw_at lw_m5 185 rfl
theorem q1253 : (Jvm.Cond.castable "ThirdAfter$Latch" "ThirdAfter$Comes") ∈ lw_tbl := lw_at lw_m5 195 rfl
theorem q1254 : (Jvm.Cond.selects "ThirdAfter$Latch" ({ cls := "ThirdAfter$Comes", name := "began", desc := "(I)V" } : Jvm.MethodName) ({ cls := "ThirdAfter$Latch", name := "began", desc := "(I)V" } : Jvm.MethodName)) ∈ lw_all := lw_g (lw_at lw_m5 196 rfl) rfl
theorem q1255 : (Jvm.Cond.unhidden "ThirdAfter$Latch" "began" "(I)V") ∈ lw_tbl := lw_at lw_m5 197 rfl
theorem q1271 : (Jvm.Cond.instanceMethod ({ cls := "ThirdAfter$Latch", name := "number", desc := "()I" } : Jvm.MethodName)) ∈ lw_all := lw_g (lw_at lw_m5 213 rfl) rfl
theorem q1272 : (Jvm.Cond.publicMethod ({ cls := "ThirdAfter$Latch", name := "number", desc := "()I" } : Jvm.MethodName)) ∈ lw_tbl := lw_at lw_m5 214 rfl
theorem q1273 : (Jvm.Cond.code ({ cls := "ThirdAfter$Latch", name := "number", desc := "()I" } : Jvm.MethodName) prog_15_method_5_code (1 : Nat) (Option.some Jvm.ClassFile.FieldType.int)) ∈ lw_all := lw_g (lw_at lw_m5 215 rfl) rfl
theorem q1280 : (Jvm.Cond.selects "ThirdAfter$Latch" ({ cls := "ThirdAfter$Comes", name := "number", desc := "()I" } : Jvm.MethodName) ({ cls := "ThirdAfter$Latch", name := "number", desc := "()I" } : Jvm.MethodName)) ∈ lw_all := lw_g (lw_at lw_m5 222 rfl) rfl
theorem q1281 : (Jvm.Cond.unhidden "ThirdAfter$Latch" "number" "()I") ∈ lw_tbl := lw_at lw_m5 223 rfl
theorem q1299 : (Jvm.Cond.unhidden "ThirdAfter$Latch" "comesBy" "(I)I") ∈ lw_tbl := lw_at lw_m6 1 rfl
theorem q1325 : (Jvm.Cond.castable "ThirdAfter$Latch" "ThirdAfter$Tells") ∈ lw_tbl := lw_at lw_m6 27 rfl
theorem q1326 : (Jvm.Cond.selects "ThirdAfter$Latch" ({ cls := "ThirdAfter$Tells", name := "began", desc := "(I)V" } : Jvm.MethodName) ({ cls := "ThirdAfter$Latch", name := "began", desc := "(I)V" } : Jvm.MethodName)) ∈ lw_all := lw_g (lw_at lw_m6 28 rfl) rfl
theorem q1339 : (Jvm.Cond.instanceMethod ({ cls := "ThirdAfter$Latch", name := "owes", desc := "(I)I" } : Jvm.MethodName)) ∈ lw_all := lw_g (lw_at lw_m6 41 rfl) rfl
theorem q1340 : (Jvm.Cond.publicMethod ({ cls := "ThirdAfter$Latch", name := "owes", desc := "(I)I" } : Jvm.MethodName)) ∈ lw_tbl := lw_at lw_m6 42 rfl
theorem q1341 : (Jvm.Cond.code ({ cls := "ThirdAfter$Latch", name := "owes", desc := "(I)I" } : Jvm.MethodName) prog_15_method_7_code (2 : Nat) (Option.some Jvm.ClassFile.FieldType.int)) ∈ lw_all := lw_g (lw_at lw_m6 43 rfl) rfl
theorem q1342 : (Jvm.Cond.methodLink "ThirdAfter$Latch" (26 : Nat) ({ cls := "ThirdAfter$Latch", name := "began", desc := "(I)V" } : Jvm.MethodName)) ∈ lw_all := lw_g (lw_at lw_m6 44 rfl) rfl
theorem q1365 : (Jvm.Cond.selects "ThirdAfter$Latch" ({ cls := "ThirdAfter$Tells", name := "owes", desc := "(I)I" } : Jvm.MethodName) ({ cls := "ThirdAfter$Latch", name := "owes", desc := "(I)I" } : Jvm.MethodName)) ∈ lw_all := lw_g (lw_at lw_m6 67 rfl) rfl
theorem q1366 : (Jvm.Cond.unhidden "ThirdAfter$Latch" "owes" "(I)I") ∈ lw_tbl := lw_at lw_m6 68 rfl
theorem q1380 : (Jvm.Cond.declares ({ cls := "ThirdAfter$Latch", name := "owes", desc := "(I)I" } : Jvm.MethodName)) ∈ lw_tbl := lw_at lw_m6 82 rfl
theorem q1393 : (Jvm.Cond.declares ({ cls := "ThirdAfter$Latch", name := "paysOut", desc := "(I)I" } : Jvm.MethodName)) ∈ lw_tbl := lw_at lw_m6 95 rfl
theorem q1394 : (Jvm.Cond.instanceMethod ({ cls := "ThirdAfter$Latch", name := "paysOut", desc := "(I)I" } : Jvm.MethodName)) ∈ lw_all := lw_g (lw_at lw_m6 96 rfl) rfl
theorem q1395 : (Jvm.Cond.code ({ cls := "ThirdAfter$Latch", name := "paysOut", desc := "(I)I" } : Jvm.MethodName) prog_15_method_8_code (2 : Nat) (Option.some Jvm.ClassFile.FieldType.int)) ∈ lw_all := lw_g (lw_at lw_m6 97 rfl) rfl
theorem q1409 : (Jvm.Cond.publicMethod ({ cls := "ThirdAfter$Latch", name := "paysOut", desc := "(I)I" } : Jvm.MethodName)) ∈ lw_tbl := lw_at lw_m6 111 rfl
theorem q1421 : (Jvm.Cond.selects "ThirdAfter$Latch" ({ cls := "ThirdAfter$Tells", name := "paysOut", desc := "(I)I" } : Jvm.MethodName) ({ cls := "ThirdAfter$Latch", name := "paysOut", desc := "(I)I" } : Jvm.MethodName)) ∈ lw_all := lw_g (lw_at lw_m6 123 rfl) rfl
theorem q1422 : (Jvm.Cond.unhidden "ThirdAfter$Latch" "paysOut" "(I)I") ∈ lw_tbl := lw_at lw_m6 124 rfl
theorem q1440 : (Jvm.Cond.unhidden "ThirdAfter$Latch" "tells" "(I)I") ∈ lw_tbl := lw_at lw_m6 142 rfl
theorem q1612 : (Jvm.Cond.instanceMethod ({ cls := "ThirdAfter$Latch", name := "isUnder", desc := "(I)Z" } : Jvm.MethodName)) ∈ lw_all := lw_g (lw_at lw_m7 74 rfl) rfl
theorem q1613 : (Jvm.Cond.selects "ThirdAfter$Latch" ({ cls := "ThirdAfter$Latch", name := "isUnder", desc := "(I)Z" } : Jvm.MethodName) ({ cls := "ThirdAfter$Latch", name := "isUnder", desc := "(I)Z" } : Jvm.MethodName)) ∈ lw_all := lw_g (lw_at lw_m7 75 rfl) rfl
theorem q1614 : (Jvm.Cond.sameMethod "ThirdAfter$Latch" "ThirdAfter$Latch" "isUnder" "(I)Z") ∈ lw_all := lw_g (lw_at lw_m7 76 rfl) rfl
theorem q1619 : (Jvm.Cond.code ({ cls := "ThirdAfter$Latch", name := "isUnder", desc := "(I)Z" } : Jvm.MethodName) prog_15_method_4_code (2 : Nat) (Option.some Jvm.ClassFile.FieldType.boolean)) ∈ lw_all := lw_g (lw_at lw_m7 81 rfl) rfl
theorem q1645 : (Jvm.Cond.instanceMethod ({ cls := "ThirdAfter$Latch", name := "kind", desc := "()I" } : Jvm.MethodName)) ∈ lw_all := lw_g (lw_at lw_m7 107 rfl) rfl
theorem q1646 : (Jvm.Cond.selects "ThirdAfter$Latch" ({ cls := "ThirdAfter$Latch", name := "kind", desc := "()I" } : Jvm.MethodName) ({ cls := "ThirdAfter$Latch", name := "kind", desc := "()I" } : Jvm.MethodName)) ∈ lw_all := lw_g (lw_at lw_m7 108 rfl) rfl
theorem q1647 : (Jvm.Cond.sameMethod "ThirdAfter$Latch" "ThirdAfter$Latch" "kind" "()I") ∈ lw_all := lw_g (lw_at lw_m7 109 rfl) rfl
theorem q1669 : (Jvm.Cond.code ({ cls := "ThirdAfter$Latch", name := "kind", desc := "()I" } : Jvm.MethodName) prog_15_method_3_code (1 : Nat) (Option.some Jvm.ClassFile.FieldType.int)) ∈ lw_all := lw_g (lw_at lw_m7 131 rfl) rfl
theorem q2225 : (Jvm.Cond.sameMethod "ThirdAfter$Latch" "ThirdAfter$Latch" "began" "(I)V") ∈ lw_all := lw_g (lw_at lw_m9 207 rfl) rfl
theorem q2230 : (Jvm.Cond.selects "ThirdAfter$Latch" ({ cls := "ThirdAfter$Latch", name := "began", desc := "(I)V" } : Jvm.MethodName) ({ cls := "ThirdAfter$Latch", name := "began", desc := "(I)V" } : Jvm.MethodName)) ∈ lw_all := lw_g (lw_at lw_m9 212 rfl) rfl
theorem q2235 : (Jvm.Cond.sameMethod "ThirdAfter$Latch" "ThirdAfter$Latch" "owes" "(I)I") ∈ lw_all := lw_g (lw_at lw_m9 217 rfl) rfl
theorem q2240 : (Jvm.Cond.selects "ThirdAfter$Latch" ({ cls := "ThirdAfter$Latch", name := "owes", desc := "(I)I" } : Jvm.MethodName) ({ cls := "ThirdAfter$Latch", name := "owes", desc := "(I)I" } : Jvm.MethodName)) ∈ lw_all := lw_g (lw_at lw_m9 222 rfl) rfl
theorem q2244 : (Jvm.Cond.sameMethod "ThirdAfter$Latch" "ThirdAfter$Latch" "paysOut" "(I)I") ∈ lw_all := lw_g (lw_at lw_m9 226 rfl) rfl
theorem q2249 : (Jvm.Cond.selects "ThirdAfter$Latch" ({ cls := "ThirdAfter$Latch", name := "paysOut", desc := "(I)I" } : Jvm.MethodName) ({ cls := "ThirdAfter$Latch", name := "paysOut", desc := "(I)I" } : Jvm.MethodName)) ∈ lw_all := lw_g (lw_at lw_m9 231 rfl) rfl
theorem q2279 : (Jvm.Cond.castable "ThirdAfter$Latch" "ThirdAfter$Held") ∈ lw_tbl := lw_at lw_m10 21 rfl
theorem in_X15 : ∀ w ∈ wsX150, w ∈ lw_all := lw_in wsX150 [1206, 1207] (by decide +kernel) (by decide +kernel)
/-! ThirdAfter$Baker -/
def RX16 : String := "ThirdAfter$Baker"
def TX16 : u_T := fun k => match k with
  | 0 => ("ThirdAfter$Latch", "number", "I", true)
  | 1 => ("ThirdAfter$Latch", "this$0", "LThirdAfter;", true)
  | _ => ("ThirdAfter$Baker", "this$0", "LThirdAfter;", true)
def tyX16 : Nat → FieldType := fun k => match k with
  | 0 => .int
  | 1 => .object "ThirdAfter"
  | _ => .object "ThirdAfter"
abbrev wsX160 : List Cond := u_ws RX16 TX16 3
-- two fields of one name: no nmX16
theorem tyX16_ok : ∀ k, k < 3 → parseFieldDescriptor (TX16 k).2.2.1 = some (tyX16 k) := by decide +kernel
abbrev cX16_init : ByteArray := prog_2_method_1_code
def yX16_init : MethodName := ⟨RX16, "<init>", "(LThirdAfter;I)V"⟩
abbrev cX16_comesBy : ByteArray := prog_2_method_4_code
def yX16_comesBy : MethodName := ⟨RX16, "comesBy", "(I)I"⟩
abbrev cX16_isUnder : ByteArray := prog_2_method_3_code
def yX16_isUnder : MethodName := ⟨RX16, "isUnder", "(I)Z"⟩
abbrev cX16_kind : ByteArray := prog_2_method_2_code
def yX16_kind : MethodName := ⟨RX16, "kind", "()I"⟩
theorem q130 : (Jvm.Cond.initialized "ThirdAfter$Baker") ∈ lw_all := lw_g (lw_at lw_m1 32 rfl) rfl
theorem q1105 : (Jvm.Cond.instantiable "ThirdAfter$Baker" (3 : Nat)) ∈ lw_all := lw_g (lw_at lw_m5 47 rfl) rfl
theorem q1107 : (Jvm.Cond.instanceMethod ({ cls := "ThirdAfter$Baker", name := "<init>", desc := "(LThirdAfter;I)V" } : Jvm.MethodName)) ∈ lw_all := lw_g (lw_at lw_m5 49 rfl) rfl
theorem q1108 : (Jvm.Cond.code ({ cls := "ThirdAfter$Baker", name := "<init>", desc := "(LThirdAfter;I)V" } : Jvm.MethodName) prog_2_method_1_code (3 : Nat) (Option.none : Option Jvm.ClassFile.FieldType)) ∈ lw_all := lw_g (lw_at lw_m5 50 rfl) rfl
theorem q1109 : (Jvm.Cond.methodLink "ThirdAfter$Baker" (7 : Nat) ({ cls := "ThirdAfter$Latch", name := "<init>", desc := "(LThirdAfter;I)V" } : Jvm.MethodName)) ∈ lw_all := lw_g (lw_at lw_m5 51 rfl) rfl
theorem q1116 : (Jvm.Cond.fieldLink "ThirdAfter$Baker" (1 : Nat) "ThirdAfter$Baker" "this$0" "LThirdAfter;") ∈ lw_all := lw_g (lw_at lw_m5 58 rfl) rfl
theorem q1119 : (Jvm.Cond.laysFinal "ThirdAfter$Baker" "ThirdAfter$Baker" "this$0" "LThirdAfter;") ∈ lw_all := lw_g (lw_at lw_m5 61 rfl) rfl
theorem q1120 : (Jvm.Cond.soleField "ThirdAfter$Baker" "this$0") ∈ lw_all := lw_g (lw_at lw_m5 62 rfl) rfl
theorem q1121 : (Jvm.Cond.laysFinal "ThirdAfter$Baker" "ThirdAfter$Latch" "number" "I") ∈ lw_all := lw_g (lw_at lw_m5 63 rfl) rfl
theorem q1123 : (Jvm.Cond.laysFinal "ThirdAfter$Baker" "ThirdAfter$Latch" "this$0" "LThirdAfter;") ∈ lw_all := lw_g (lw_at lw_m5 65 rfl) rfl
theorem q1125 : (Jvm.Cond.superclass "ThirdAfter$Baker" "ThirdAfter$Latch") ∈ lw_all := lw_g (lw_at lw_m5 67 rfl) rfl
theorem q1221 : (Jvm.Cond.castable "ThirdAfter$Baker" "ThirdAfter$Comes") ∈ lw_tbl := lw_at lw_m5 163 rfl
theorem q1222 : (Jvm.Cond.selects "ThirdAfter$Baker" ({ cls := "ThirdAfter$Comes", name := "comesBy", desc := "(I)I" } : Jvm.MethodName) ({ cls := "ThirdAfter$Baker", name := "comesBy", desc := "(I)I" } : Jvm.MethodName)) ∈ lw_all := lw_g (lw_at lw_m5 164 rfl) rfl
theorem q1223 : (Jvm.Cond.unhidden "ThirdAfter$Baker" "comesBy" "(I)I") ∈ lw_tbl := lw_at lw_m5 165 rfl
theorem q1224 : (Jvm.Cond.instanceMethod ({ cls := "ThirdAfter$Baker", name := "comesBy", desc := "(I)I" } : Jvm.MethodName)) ∈ lw_all := lw_g (lw_at lw_m5 166 rfl) rfl
theorem q1225 : (Jvm.Cond.publicMethod ({ cls := "ThirdAfter$Baker", name := "comesBy", desc := "(I)I" } : Jvm.MethodName)) ∈ lw_tbl := lw_at lw_m5 167 rfl
theorem q1226 : (Jvm.Cond.code ({ cls := "ThirdAfter$Baker", name := "comesBy", desc := "(I)I" } : Jvm.MethodName) prog_2_method_4_code (2 : Nat) (Option.some Jvm.ClassFile.FieldType.int)) ∈ lw_all := lw_g (lw_at lw_m5 168 rfl) rfl
theorem q1227 : (Jvm.Cond.methodLink "ThirdAfter$Baker" (17 : Nat) ({ cls := "ThirdAfter$Baker", name := "began", desc := "(I)V" } : Jvm.MethodName)) ∈ lw_all := lw_g (lw_at lw_m5 169 rfl) rfl
theorem q1228 : (Jvm.Cond.sameMethod "ThirdAfter$Baker" "ThirdAfter$Latch" "began" "(I)V") ∈ lw_all := lw_g (lw_at lw_m5 170 rfl) rfl
theorem q1230 : (Jvm.Cond.selects "ThirdAfter$Baker" ({ cls := "ThirdAfter$Baker", name := "began", desc := "(I)V" } : Jvm.MethodName) ({ cls := "ThirdAfter$Latch", name := "began", desc := "(I)V" } : Jvm.MethodName)) ∈ lw_all := lw_g (lw_at lw_m5 172 rfl) rfl
theorem q1241 : (Jvm.Cond.selects "ThirdAfter$Baker" ({ cls := "ThirdAfter$Comes", name := "began", desc := "(I)V" } : Jvm.MethodName) ({ cls := "ThirdAfter$Latch", name := "began", desc := "(I)V" } : Jvm.MethodName)) ∈ lw_all := lw_g (lw_at lw_m5 183 rfl) rfl
theorem q1242 : (Jvm.Cond.unhidden "ThirdAfter$Baker" "began" "(I)V") ∈ lw_tbl := lw_at lw_m5 184 rfl
theorem q1269 : (Jvm.Cond.selects "ThirdAfter$Baker" ({ cls := "ThirdAfter$Comes", name := "number", desc := "()I" } : Jvm.MethodName) ({ cls := "ThirdAfter$Latch", name := "number", desc := "()I" } : Jvm.MethodName)) ∈ lw_all := lw_g (lw_at lw_m5 211 rfl) rfl
theorem q1270 : (Jvm.Cond.unhidden "ThirdAfter$Baker" "number" "()I") ∈ lw_tbl := lw_at lw_m5 212 rfl
theorem q1309 : (Jvm.Cond.castable "ThirdAfter$Baker" "ThirdAfter$Tells") ∈ lw_tbl := lw_at lw_m6 11 rfl
theorem q1310 : (Jvm.Cond.unhidden "ThirdAfter$Baker" "tells" "(I)I") ∈ lw_tbl := lw_at lw_m6 12 rfl
theorem q1318 : (Jvm.Cond.selects "ThirdAfter$Baker" ({ cls := "ThirdAfter$Tells", name := "began", desc := "(I)V" } : Jvm.MethodName) ({ cls := "ThirdAfter$Latch", name := "began", desc := "(I)V" } : Jvm.MethodName)) ∈ lw_all := lw_g (lw_at lw_m6 20 rfl) rfl
theorem q1337 : (Jvm.Cond.selects "ThirdAfter$Baker" ({ cls := "ThirdAfter$Tells", name := "owes", desc := "(I)I" } : Jvm.MethodName) ({ cls := "ThirdAfter$Latch", name := "owes", desc := "(I)I" } : Jvm.MethodName)) ∈ lw_all := lw_g (lw_at lw_m6 39 rfl) rfl
theorem q1338 : (Jvm.Cond.unhidden "ThirdAfter$Baker" "owes" "(I)I") ∈ lw_tbl := lw_at lw_m6 40 rfl
theorem q1392 : (Jvm.Cond.sameMethod "ThirdAfter$Baker" "ThirdAfter$Latch" "paysOut" "(I)I") ∈ lw_all := lw_g (lw_at lw_m6 94 rfl) rfl
theorem q1398 : (Jvm.Cond.declares ({ cls := "ThirdAfter$Baker", name := "comesBy", desc := "(I)I" } : Jvm.MethodName)) ∈ lw_tbl := lw_at lw_m6 100 rfl
theorem q1407 : (Jvm.Cond.selects "ThirdAfter$Baker" ({ cls := "ThirdAfter$Tells", name := "paysOut", desc := "(I)I" } : Jvm.MethodName) ({ cls := "ThirdAfter$Latch", name := "paysOut", desc := "(I)I" } : Jvm.MethodName)) ∈ lw_all := lw_g (lw_at lw_m6 109 rfl) rfl
theorem q1408 : (Jvm.Cond.unhidden "ThirdAfter$Baker" "paysOut" "(I)I") ∈ lw_tbl := lw_at lw_m6 110 rfl
theorem q1615 : (Jvm.Cond.selects "ThirdAfter$Baker" ({ cls := "ThirdAfter$Latch", name := "isUnder", desc := "(I)Z" } : Jvm.MethodName) ({ cls := "ThirdAfter$Baker", name := "isUnder", desc := "(I)Z" } : Jvm.MethodName)) ∈ lw_all := lw_g (lw_at lw_m7 77 rfl) rfl
theorem q1616 : (Jvm.Cond.instanceMethod ({ cls := "ThirdAfter$Baker", name := "isUnder", desc := "(I)Z" } : Jvm.MethodName)) ∈ lw_all := lw_g (lw_at lw_m7 78 rfl) rfl
theorem q1617 : (Jvm.Cond.code ({ cls := "ThirdAfter$Baker", name := "isUnder", desc := "(I)Z" } : Jvm.MethodName) prog_2_method_3_code (2 : Nat) (Option.some Jvm.ClassFile.FieldType.boolean)) ∈ lw_all := lw_g (lw_at lw_m7 79 rfl) rfl
theorem q1618 : (Jvm.Cond.methodLink "ThirdAfter$Baker" (13 : Nat) ({ cls := "ThirdAfter$Latch", name := "isUnder", desc := "(I)Z" } : Jvm.MethodName)) ∈ lw_all := lw_g (lw_at lw_m7 80 rfl) rfl
theorem q1648 : (Jvm.Cond.selects "ThirdAfter$Baker" ({ cls := "ThirdAfter$Latch", name := "kind", desc := "()I" } : Jvm.MethodName) ({ cls := "ThirdAfter$Baker", name := "kind", desc := "()I" } : Jvm.MethodName)) ∈ lw_all := lw_g (lw_at lw_m7 110 rfl) rfl
theorem q1649 : (Jvm.Cond.instanceMethod ({ cls := "ThirdAfter$Baker", name := "kind", desc := "()I" } : Jvm.MethodName)) ∈ lw_all := lw_g (lw_at lw_m7 111 rfl) rfl
theorem q1650 : (Jvm.Cond.code ({ cls := "ThirdAfter$Baker", name := "kind", desc := "()I" } : Jvm.MethodName) prog_2_method_2_code (1 : Nat) (Option.some Jvm.ClassFile.FieldType.int)) ∈ lw_all := lw_g (lw_at lw_m7 112 rfl) rfl
theorem q2226 : (Jvm.Cond.selects "ThirdAfter$Baker" ({ cls := "ThirdAfter$Latch", name := "began", desc := "(I)V" } : Jvm.MethodName) ({ cls := "ThirdAfter$Latch", name := "began", desc := "(I)V" } : Jvm.MethodName)) ∈ lw_all := lw_g (lw_at lw_m9 208 rfl) rfl
theorem q2236 : (Jvm.Cond.selects "ThirdAfter$Baker" ({ cls := "ThirdAfter$Latch", name := "owes", desc := "(I)I" } : Jvm.MethodName) ({ cls := "ThirdAfter$Latch", name := "owes", desc := "(I)I" } : Jvm.MethodName)) ∈ lw_all := lw_g (lw_at lw_m9 218 rfl) rfl
theorem q2245 : (Jvm.Cond.selects "ThirdAfter$Baker" ({ cls := "ThirdAfter$Latch", name := "paysOut", desc := "(I)I" } : Jvm.MethodName) ({ cls := "ThirdAfter$Latch", name := "paysOut", desc := "(I)I" } : Jvm.MethodName)) ∈ lw_all := lw_g (lw_at lw_m9 227 rfl) rfl
theorem q2256 : (Jvm.Cond.sameMethod "ThirdAfter$Baker" "ThirdAfter$Baker" "isUnder" "(I)Z") ∈ lw_all := lw_g (lw_at lw_m9 238 rfl) rfl
theorem q2265 : (Jvm.Cond.castable "ThirdAfter$Baker" "ThirdAfter$Latch") ∈ lw_tbl := lw_at lw_m10 7 rfl
theorem q2272 : (Jvm.Cond.castable "ThirdAfter$Baker" "ThirdAfter$Held") ∈ lw_tbl := lw_at lw_m10 14 rfl
theorem in_X16 : ∀ w ∈ wsX160, w ∈ lw_all := lw_in wsX160 [1121, 1123, 1119] (by decide +kernel) (by decide +kernel)
/-! ThirdAfter$Priest -/
def RX17 : String := "ThirdAfter$Priest"
def TX17 : u_T := fun k => match k with
  | 0 => ("ThirdAfter$Latch", "number", "I", true)
  | 1 => ("ThirdAfter$Latch", "this$0", "LThirdAfter;", true)
  | _ => ("ThirdAfter$Priest", "this$0", "LThirdAfter;", true)
def tyX17 : Nat → FieldType := fun k => match k with
  | 0 => .int
  | 1 => .object "ThirdAfter"
  | _ => .object "ThirdAfter"
abbrev wsX170 : List Cond := u_ws RX17 TX17 3
-- two fields of one name: no nmX17
theorem tyX17_ok : ∀ k, k < 3 → parseFieldDescriptor (TX17 k).2.2.1 = some (tyX17 k) := by decide +kernel
abbrev cX17_init : ByteArray := prog_23_method_1_code
def yX17_init : MethodName := ⟨RX17, "<init>", "(LThirdAfter;I)V"⟩
abbrev cX17_owes : ByteArray := prog_23_method_4_code
def yX17_owes : MethodName := ⟨RX17, "owes", "(I)I"⟩
abbrev cX17_isUnder : ByteArray := prog_23_method_3_code
def yX17_isUnder : MethodName := ⟨RX17, "isUnder", "(I)Z"⟩
abbrev cX17_kind : ByteArray := prog_23_method_2_code
def yX17_kind : MethodName := ⟨RX17, "kind", "()I"⟩
theorem q131 : (Jvm.Cond.initialized "ThirdAfter$Priest") ∈ lw_all := lw_g (lw_at lw_m1 33 rfl) rfl
theorem q1127 : (Jvm.Cond.instantiable "ThirdAfter$Priest" (3 : Nat)) ∈ lw_all := lw_g (lw_at lw_m5 69 rfl) rfl
theorem q1129 : (Jvm.Cond.instanceMethod ({ cls := "ThirdAfter$Priest", name := "<init>", desc := "(LThirdAfter;I)V" } : Jvm.MethodName)) ∈ lw_all := lw_g (lw_at lw_m5 71 rfl) rfl
theorem q1130 : (Jvm.Cond.code ({ cls := "ThirdAfter$Priest", name := "<init>", desc := "(LThirdAfter;I)V" } : Jvm.MethodName) prog_23_method_1_code (3 : Nat) (Option.none : Option Jvm.ClassFile.FieldType)) ∈ lw_all := lw_g (lw_at lw_m5 72 rfl) rfl
theorem q1131 : (Jvm.Cond.methodLink "ThirdAfter$Priest" (7 : Nat) ({ cls := "ThirdAfter$Latch", name := "<init>", desc := "(LThirdAfter;I)V" } : Jvm.MethodName)) ∈ lw_all := lw_g (lw_at lw_m5 73 rfl) rfl
theorem q1132 : (Jvm.Cond.fieldLink "ThirdAfter$Priest" (1 : Nat) "ThirdAfter$Priest" "this$0" "LThirdAfter;") ∈ lw_all := lw_g (lw_at lw_m5 74 rfl) rfl
theorem q1133 : (Jvm.Cond.laysFinal "ThirdAfter$Priest" "ThirdAfter$Priest" "this$0" "LThirdAfter;") ∈ lw_all := lw_g (lw_at lw_m5 75 rfl) rfl
theorem q1134 : (Jvm.Cond.soleField "ThirdAfter$Priest" "this$0") ∈ lw_all := lw_g (lw_at lw_m5 76 rfl) rfl
theorem q1135 : (Jvm.Cond.laysFinal "ThirdAfter$Priest" "ThirdAfter$Latch" "number" "I") ∈ lw_all := lw_g (lw_at lw_m5 77 rfl) rfl
theorem q1136 : (Jvm.Cond.laysFinal "ThirdAfter$Priest" "ThirdAfter$Latch" "this$0" "LThirdAfter;") ∈ lw_all := lw_g (lw_at lw_m5 78 rfl) rfl
theorem q1137 : (Jvm.Cond.superclass "ThirdAfter$Priest" "ThirdAfter$Latch") ∈ lw_all := lw_g (lw_at lw_m5 79 rfl) rfl
theorem q1256 : (Jvm.Cond.castable "ThirdAfter$Priest" "ThirdAfter$Comes") ∈ lw_tbl := lw_at lw_m5 198 rfl
theorem q1257 : (Jvm.Cond.selects "ThirdAfter$Priest" ({ cls := "ThirdAfter$Comes", name := "began", desc := "(I)V" } : Jvm.MethodName) ({ cls := "ThirdAfter$Latch", name := "began", desc := "(I)V" } : Jvm.MethodName)) ∈ lw_all := lw_g (lw_at lw_m5 199 rfl) rfl
theorem q1258 : (Jvm.Cond.unhidden "ThirdAfter$Priest" "began" "(I)V") ∈ lw_tbl := lw_at lw_m5 200 rfl
theorem q1282 : (Jvm.Cond.selects "ThirdAfter$Priest" ({ cls := "ThirdAfter$Comes", name := "number", desc := "()I" } : Jvm.MethodName) ({ cls := "ThirdAfter$Latch", name := "number", desc := "()I" } : Jvm.MethodName)) ∈ lw_all := lw_g (lw_at lw_m5 224 rfl) rfl
theorem q1283 : (Jvm.Cond.unhidden "ThirdAfter$Priest" "number" "()I") ∈ lw_tbl := lw_at lw_m5 225 rfl
theorem q1300 : (Jvm.Cond.unhidden "ThirdAfter$Priest" "comesBy" "(I)I") ∈ lw_tbl := lw_at lw_m6 2 rfl
theorem q1327 : (Jvm.Cond.castable "ThirdAfter$Priest" "ThirdAfter$Tells") ∈ lw_tbl := lw_at lw_m6 29 rfl
theorem q1328 : (Jvm.Cond.selects "ThirdAfter$Priest" ({ cls := "ThirdAfter$Tells", name := "began", desc := "(I)V" } : Jvm.MethodName) ({ cls := "ThirdAfter$Latch", name := "began", desc := "(I)V" } : Jvm.MethodName)) ∈ lw_all := lw_g (lw_at lw_m6 30 rfl) rfl
theorem q1353 : (Jvm.Cond.instanceMethod ({ cls := "ThirdAfter$Priest", name := "owes", desc := "(I)I" } : Jvm.MethodName)) ∈ lw_all := lw_g (lw_at lw_m6 55 rfl) rfl
theorem q1354 : (Jvm.Cond.code ({ cls := "ThirdAfter$Priest", name := "owes", desc := "(I)I" } : Jvm.MethodName) prog_23_method_4_code (2 : Nat) (Option.some Jvm.ClassFile.FieldType.int)) ∈ lw_all := lw_g (lw_at lw_m6 56 rfl) rfl
theorem q1355 : (Jvm.Cond.methodLink "ThirdAfter$Priest" (17 : Nat) ({ cls := "ThirdAfter$Priest", name := "began", desc := "(I)V" } : Jvm.MethodName)) ∈ lw_all := lw_g (lw_at lw_m6 57 rfl) rfl
theorem q1356 : (Jvm.Cond.sameMethod "ThirdAfter$Priest" "ThirdAfter$Latch" "began" "(I)V") ∈ lw_all := lw_g (lw_at lw_m6 58 rfl) rfl
theorem q1359 : (Jvm.Cond.selects "ThirdAfter$Priest" ({ cls := "ThirdAfter$Priest", name := "began", desc := "(I)V" } : Jvm.MethodName) ({ cls := "ThirdAfter$Latch", name := "began", desc := "(I)V" } : Jvm.MethodName)) ∈ lw_all := lw_g (lw_at lw_m6 61 rfl) rfl
theorem q1360 : (Jvm.Cond.methodLink "ThirdAfter$Priest" (21 : Nat) ({ cls := "ThirdAfter$Latch", name := "owes", desc := "(I)I" } : Jvm.MethodName)) ∈ lw_all := lw_g (lw_at lw_m6 62 rfl) rfl
theorem q1367 : (Jvm.Cond.selects "ThirdAfter$Priest" ({ cls := "ThirdAfter$Tells", name := "owes", desc := "(I)I" } : Jvm.MethodName) ({ cls := "ThirdAfter$Priest", name := "owes", desc := "(I)I" } : Jvm.MethodName)) ∈ lw_all := lw_g (lw_at lw_m6 69 rfl) rfl
theorem q1368 : (Jvm.Cond.unhidden "ThirdAfter$Priest" "owes" "(I)I") ∈ lw_tbl := lw_at lw_m6 70 rfl
theorem q1369 : (Jvm.Cond.publicMethod ({ cls := "ThirdAfter$Priest", name := "owes", desc := "(I)I" } : Jvm.MethodName)) ∈ lw_tbl := lw_at lw_m6 71 rfl
theorem q1416 : (Jvm.Cond.sameMethod "ThirdAfter$Priest" "ThirdAfter$Latch" "paysOut" "(I)I") ∈ lw_all := lw_g (lw_at lw_m6 118 rfl) rfl
theorem q1423 : (Jvm.Cond.selects "ThirdAfter$Priest" ({ cls := "ThirdAfter$Tells", name := "paysOut", desc := "(I)I" } : Jvm.MethodName) ({ cls := "ThirdAfter$Latch", name := "paysOut", desc := "(I)I" } : Jvm.MethodName)) ∈ lw_all := lw_g (lw_at lw_m6 125 rfl) rfl
theorem q1424 : (Jvm.Cond.unhidden "ThirdAfter$Priest" "paysOut" "(I)I") ∈ lw_tbl := lw_at lw_m6 126 rfl
theorem q1441 : (Jvm.Cond.unhidden "ThirdAfter$Priest" "tells" "(I)I") ∈ lw_tbl := lw_at lw_m6 143 rfl
theorem q1624 : (Jvm.Cond.instanceMethod ({ cls := "ThirdAfter$Priest", name := "isUnder", desc := "(I)Z" } : Jvm.MethodName)) ∈ lw_all := lw_g (lw_at lw_m7 86 rfl) rfl
theorem q1625 : (Jvm.Cond.code ({ cls := "ThirdAfter$Priest", name := "isUnder", desc := "(I)Z" } : Jvm.MethodName) prog_23_method_3_code (2 : Nat) (Option.some Jvm.ClassFile.FieldType.boolean)) ∈ lw_all := lw_g (lw_at lw_m7 87 rfl) rfl
theorem q1626 : (Jvm.Cond.methodLink "ThirdAfter$Priest" (13 : Nat) ({ cls := "ThirdAfter$Latch", name := "isUnder", desc := "(I)Z" } : Jvm.MethodName)) ∈ lw_all := lw_g (lw_at lw_m7 88 rfl) rfl
theorem q1635 : (Jvm.Cond.selects "ThirdAfter$Priest" ({ cls := "ThirdAfter$Latch", name := "isUnder", desc := "(I)Z" } : Jvm.MethodName) ({ cls := "ThirdAfter$Priest", name := "isUnder", desc := "(I)Z" } : Jvm.MethodName)) ∈ lw_all := lw_g (lw_at lw_m7 97 rfl) rfl
theorem q1660 : (Jvm.Cond.selects "ThirdAfter$Priest" ({ cls := "ThirdAfter$Latch", name := "kind", desc := "()I" } : Jvm.MethodName) ({ cls := "ThirdAfter$Priest", name := "kind", desc := "()I" } : Jvm.MethodName)) ∈ lw_all := lw_g (lw_at lw_m7 122 rfl) rfl
theorem q1661 : (Jvm.Cond.instanceMethod ({ cls := "ThirdAfter$Priest", name := "kind", desc := "()I" } : Jvm.MethodName)) ∈ lw_all := lw_g (lw_at lw_m7 123 rfl) rfl
theorem q1662 : (Jvm.Cond.code ({ cls := "ThirdAfter$Priest", name := "kind", desc := "()I" } : Jvm.MethodName) prog_23_method_2_code (1 : Nat) (Option.some Jvm.ClassFile.FieldType.int)) ∈ lw_all := lw_g (lw_at lw_m7 124 rfl) rfl
theorem q2231 : (Jvm.Cond.selects "ThirdAfter$Priest" ({ cls := "ThirdAfter$Latch", name := "began", desc := "(I)V" } : Jvm.MethodName) ({ cls := "ThirdAfter$Latch", name := "began", desc := "(I)V" } : Jvm.MethodName)) ∈ lw_all := lw_g (lw_at lw_m9 213 rfl) rfl
theorem q2234 : (Jvm.Cond.sameMethod "ThirdAfter$Priest" "ThirdAfter$Priest" "owes" "(I)I") ∈ lw_all := lw_g (lw_at lw_m9 216 rfl) rfl
theorem q2241 : (Jvm.Cond.selects "ThirdAfter$Priest" ({ cls := "ThirdAfter$Latch", name := "owes", desc := "(I)I" } : Jvm.MethodName) ({ cls := "ThirdAfter$Priest", name := "owes", desc := "(I)I" } : Jvm.MethodName)) ∈ lw_all := lw_g (lw_at lw_m9 223 rfl) rfl
theorem q2250 : (Jvm.Cond.selects "ThirdAfter$Priest" ({ cls := "ThirdAfter$Latch", name := "paysOut", desc := "(I)I" } : Jvm.MethodName) ({ cls := "ThirdAfter$Latch", name := "paysOut", desc := "(I)I" } : Jvm.MethodName)) ∈ lw_all := lw_g (lw_at lw_m9 232 rfl) rfl
theorem q2253 : (Jvm.Cond.sameMethod "ThirdAfter$Priest" "ThirdAfter$Priest" "isUnder" "(I)Z") ∈ lw_all := lw_g (lw_at lw_m9 235 rfl) rfl
theorem q2269 : (Jvm.Cond.castable "ThirdAfter$Priest" "ThirdAfter$Latch") ∈ lw_tbl := lw_at lw_m10 11 rfl
theorem q2273 : (Jvm.Cond.castable "ThirdAfter$Priest" "ThirdAfter$Held") ∈ lw_tbl := lw_at lw_m10 15 rfl
theorem in_X17 : ∀ w ∈ wsX170, w ∈ lw_all := lw_in wsX170 [1135, 1136, 1133] (by decide +kernel) (by decide +kernel)
/-! ThirdAfter$Cow -/
def RX18 : String := "ThirdAfter$Cow"
def TX18 : u_T := fun k => match k with
  | 0 => ("ThirdAfter$Latch", "number", "I", true)
  | 1 => ("ThirdAfter$Latch", "this$0", "LThirdAfter;", true)
  | 2 => ("ThirdAfter$Priest", "this$0", "LThirdAfter;", true)
  | _ => ("ThirdAfter$Cow", "this$0", "LThirdAfter;", true)
def tyX18 : Nat → FieldType := fun k => match k with
  | 0 => .int
  | 1 => .object "ThirdAfter"
  | 2 => .object "ThirdAfter"
  | _ => .object "ThirdAfter"
abbrev wsX180 : List Cond := u_ws RX18 TX18 4
-- two fields of one name: no nmX18
theorem tyX18_ok : ∀ k, k < 4 → parseFieldDescriptor (TX18 k).2.2.1 = some (tyX18 k) := by decide +kernel
abbrev cX18_init : ByteArray := prog_8_method_1_code
def yX18_init : MethodName := ⟨RX18, "<init>", "(LThirdAfter;I)V"⟩
abbrev cX18_owes : ByteArray := prog_8_method_5_code
def yX18_owes : MethodName := ⟨RX18, "owes", "(I)I"⟩
abbrev cX18_paysOut : ByteArray := prog_8_method_4_code
def yX18_paysOut : MethodName := ⟨RX18, "paysOut", "(I)I"⟩
abbrev cX18_isUnder : ByteArray := prog_8_method_3_code
def yX18_isUnder : MethodName := ⟨RX18, "isUnder", "(I)Z"⟩
abbrev cX18_kind : ByteArray := prog_8_method_2_code
def yX18_kind : MethodName := ⟨RX18, "kind", "()I"⟩
theorem q132 : (Jvm.Cond.initialized "ThirdAfter$Cow") ∈ lw_all := lw_g (lw_at lw_m1 34 rfl) rfl
theorem q1139 : (Jvm.Cond.instantiable "ThirdAfter$Cow" (4 : Nat)) ∈ lw_all := lw_g (lw_at lw_m5 81 rfl) rfl
theorem q1141 : (Jvm.Cond.instanceMethod ({ cls := "ThirdAfter$Cow", name := "<init>", desc := "(LThirdAfter;I)V" } : Jvm.MethodName)) ∈ lw_all := lw_g (lw_at lw_m5 83 rfl) rfl
theorem q1142 : (Jvm.Cond.code ({ cls := "ThirdAfter$Cow", name := "<init>", desc := "(LThirdAfter;I)V" } : Jvm.MethodName) prog_8_method_1_code (3 : Nat) (Option.none : Option Jvm.ClassFile.FieldType)) ∈ lw_all := lw_g (lw_at lw_m5 84 rfl) rfl
theorem q1143 : (Jvm.Cond.methodLink "ThirdAfter$Cow" (7 : Nat) ({ cls := "ThirdAfter$Priest", name := "<init>", desc := "(LThirdAfter;I)V" } : Jvm.MethodName)) ∈ lw_all := lw_g (lw_at lw_m5 85 rfl) rfl
theorem q1144 : (Jvm.Cond.fieldLink "ThirdAfter$Cow" (1 : Nat) "ThirdAfter$Cow" "this$0" "LThirdAfter;") ∈ lw_all := lw_g (lw_at lw_m5 86 rfl) rfl
theorem q1145 : (Jvm.Cond.laysFinal "ThirdAfter$Cow" "ThirdAfter$Cow" "this$0" "LThirdAfter;") ∈ lw_all := lw_g (lw_at lw_m5 87 rfl) rfl
theorem q1146 : (Jvm.Cond.soleField "ThirdAfter$Cow" "this$0") ∈ lw_all := lw_g (lw_at lw_m5 88 rfl) rfl
theorem q1147 : (Jvm.Cond.laysFinal "ThirdAfter$Cow" "ThirdAfter$Priest" "this$0" "LThirdAfter;") ∈ lw_all := lw_g (lw_at lw_m5 89 rfl) rfl
theorem q1148 : (Jvm.Cond.laysFinal "ThirdAfter$Cow" "ThirdAfter$Latch" "number" "I") ∈ lw_all := lw_g (lw_at lw_m5 90 rfl) rfl
theorem q1149 : (Jvm.Cond.laysFinal "ThirdAfter$Cow" "ThirdAfter$Latch" "this$0" "LThirdAfter;") ∈ lw_all := lw_g (lw_at lw_m5 91 rfl) rfl
theorem q1150 : (Jvm.Cond.superclass "ThirdAfter$Cow" "ThirdAfter$Priest") ∈ lw_all := lw_g (lw_at lw_m5 92 rfl) rfl
theorem q1244 : (Jvm.Cond.castable "ThirdAfter$Cow" "ThirdAfter$Comes") ∈ lw_tbl := lw_at lw_m5 186 rfl
theorem q1245 : (Jvm.Cond.selects "ThirdAfter$Cow" ({ cls := "ThirdAfter$Comes", name := "began", desc := "(I)V" } : Jvm.MethodName) ({ cls := "ThirdAfter$Latch", name := "began", desc := "(I)V" } : Jvm.MethodName)) ∈ lw_all := lw_g (lw_at lw_m5 187 rfl) rfl
theorem q1246 : (Jvm.Cond.unhidden "ThirdAfter$Cow" "began" "(I)V") ∈ lw_tbl := lw_at lw_m5 188 rfl
theorem q1274 : (Jvm.Cond.selects "ThirdAfter$Cow" ({ cls := "ThirdAfter$Comes", name := "number", desc := "()I" } : Jvm.MethodName) ({ cls := "ThirdAfter$Latch", name := "number", desc := "()I" } : Jvm.MethodName)) ∈ lw_all := lw_g (lw_at lw_m5 216 rfl) rfl
theorem q1275 : (Jvm.Cond.unhidden "ThirdAfter$Cow" "number" "()I") ∈ lw_tbl := lw_at lw_m5 217 rfl
theorem q1288 : (Jvm.Cond.unhidden "ThirdAfter$Cow" "comesBy" "(I)I") ∈ lw_tbl := lw_at lw_m5 230 rfl
theorem q1319 : (Jvm.Cond.castable "ThirdAfter$Cow" "ThirdAfter$Tells") ∈ lw_tbl := lw_at lw_m6 21 rfl
theorem q1320 : (Jvm.Cond.selects "ThirdAfter$Cow" ({ cls := "ThirdAfter$Tells", name := "began", desc := "(I)V" } : Jvm.MethodName) ({ cls := "ThirdAfter$Latch", name := "began", desc := "(I)V" } : Jvm.MethodName)) ∈ lw_all := lw_g (lw_at lw_m6 22 rfl) rfl
theorem q1343 : (Jvm.Cond.selects "ThirdAfter$Cow" ({ cls := "ThirdAfter$Tells", name := "owes", desc := "(I)I" } : Jvm.MethodName) ({ cls := "ThirdAfter$Cow", name := "owes", desc := "(I)I" } : Jvm.MethodName)) ∈ lw_all := lw_g (lw_at lw_m6 45 rfl) rfl
theorem q1344 : (Jvm.Cond.unhidden "ThirdAfter$Cow" "owes" "(I)I") ∈ lw_tbl := lw_at lw_m6 46 rfl
theorem q1345 : (Jvm.Cond.instanceMethod ({ cls := "ThirdAfter$Cow", name := "owes", desc := "(I)I" } : Jvm.MethodName)) ∈ lw_all := lw_g (lw_at lw_m6 47 rfl) rfl
theorem q1346 : (Jvm.Cond.publicMethod ({ cls := "ThirdAfter$Cow", name := "owes", desc := "(I)I" } : Jvm.MethodName)) ∈ lw_tbl := lw_at lw_m6 48 rfl
theorem q1347 : (Jvm.Cond.code ({ cls := "ThirdAfter$Cow", name := "owes", desc := "(I)I" } : Jvm.MethodName) prog_8_method_5_code (2 : Nat) (Option.some Jvm.ClassFile.FieldType.int)) ∈ lw_all := lw_g (lw_at lw_m6 49 rfl) rfl
theorem q1348 : (Jvm.Cond.methodLink "ThirdAfter$Cow" (17 : Nat) ({ cls := "ThirdAfter$Cow", name := "began", desc := "(I)V" } : Jvm.MethodName)) ∈ lw_all := lw_g (lw_at lw_m6 50 rfl) rfl
theorem q1349 : (Jvm.Cond.sameMethod "ThirdAfter$Cow" "ThirdAfter$Latch" "began" "(I)V") ∈ lw_all := lw_g (lw_at lw_m6 51 rfl) rfl
theorem q1350 : (Jvm.Cond.selects "ThirdAfter$Cow" ({ cls := "ThirdAfter$Cow", name := "began", desc := "(I)V" } : Jvm.MethodName) ({ cls := "ThirdAfter$Latch", name := "began", desc := "(I)V" } : Jvm.MethodName)) ∈ lw_all := lw_g (lw_at lw_m6 52 rfl) rfl
theorem q1352 : (Jvm.Cond.methodLink "ThirdAfter$Cow" (25 : Nat) ({ cls := "ThirdAfter$Priest", name := "owes", desc := "(I)I" } : Jvm.MethodName)) ∈ lw_all := lw_g (lw_at lw_m6 54 rfl) rfl
theorem q1357 : (Jvm.Cond.selects "ThirdAfter$Cow" ({ cls := "ThirdAfter$Priest", name := "began", desc := "(I)V" } : Jvm.MethodName) ({ cls := "ThirdAfter$Latch", name := "began", desc := "(I)V" } : Jvm.MethodName)) ∈ lw_all := lw_g (lw_at lw_m6 59 rfl) rfl
theorem q1410 : (Jvm.Cond.selects "ThirdAfter$Cow" ({ cls := "ThirdAfter$Tells", name := "paysOut", desc := "(I)I" } : Jvm.MethodName) ({ cls := "ThirdAfter$Cow", name := "paysOut", desc := "(I)I" } : Jvm.MethodName)) ∈ lw_all := lw_g (lw_at lw_m6 112 rfl) rfl
theorem q1411 : (Jvm.Cond.unhidden "ThirdAfter$Cow" "paysOut" "(I)I") ∈ lw_tbl := lw_at lw_m6 113 rfl
theorem q1412 : (Jvm.Cond.instanceMethod ({ cls := "ThirdAfter$Cow", name := "paysOut", desc := "(I)I" } : Jvm.MethodName)) ∈ lw_all := lw_g (lw_at lw_m6 114 rfl) rfl
theorem q1413 : (Jvm.Cond.publicMethod ({ cls := "ThirdAfter$Cow", name := "paysOut", desc := "(I)I" } : Jvm.MethodName)) ∈ lw_tbl := lw_at lw_m6 115 rfl
theorem q1414 : (Jvm.Cond.code ({ cls := "ThirdAfter$Cow", name := "paysOut", desc := "(I)I" } : Jvm.MethodName) prog_8_method_4_code (2 : Nat) (Option.some Jvm.ClassFile.FieldType.int)) ∈ lw_all := lw_g (lw_at lw_m6 116 rfl) rfl
theorem q1415 : (Jvm.Cond.methodLink "ThirdAfter$Cow" (21 : Nat) ({ cls := "ThirdAfter$Priest", name := "paysOut", desc := "(I)I" } : Jvm.MethodName)) ∈ lw_all := lw_g (lw_at lw_m6 117 rfl) rfl
theorem q1430 : (Jvm.Cond.unhidden "ThirdAfter$Cow" "tells" "(I)I") ∈ lw_tbl := lw_at lw_m6 132 rfl
theorem q1620 : (Jvm.Cond.selects "ThirdAfter$Cow" ({ cls := "ThirdAfter$Latch", name := "isUnder", desc := "(I)Z" } : Jvm.MethodName) ({ cls := "ThirdAfter$Cow", name := "isUnder", desc := "(I)Z" } : Jvm.MethodName)) ∈ lw_all := lw_g (lw_at lw_m7 82 rfl) rfl
theorem q1621 : (Jvm.Cond.instanceMethod ({ cls := "ThirdAfter$Cow", name := "isUnder", desc := "(I)Z" } : Jvm.MethodName)) ∈ lw_all := lw_g (lw_at lw_m7 83 rfl) rfl
theorem q1622 : (Jvm.Cond.code ({ cls := "ThirdAfter$Cow", name := "isUnder", desc := "(I)Z" } : Jvm.MethodName) prog_8_method_3_code (2 : Nat) (Option.some Jvm.ClassFile.FieldType.boolean)) ∈ lw_all := lw_g (lw_at lw_m7 84 rfl) rfl
theorem q1623 : (Jvm.Cond.methodLink "ThirdAfter$Cow" (13 : Nat) ({ cls := "ThirdAfter$Priest", name := "isUnder", desc := "(I)Z" } : Jvm.MethodName)) ∈ lw_all := lw_g (lw_at lw_m7 85 rfl) rfl
theorem q1651 : (Jvm.Cond.selects "ThirdAfter$Cow" ({ cls := "ThirdAfter$Latch", name := "kind", desc := "()I" } : Jvm.MethodName) ({ cls := "ThirdAfter$Cow", name := "kind", desc := "()I" } : Jvm.MethodName)) ∈ lw_all := lw_g (lw_at lw_m7 113 rfl) rfl
theorem q1652 : (Jvm.Cond.instanceMethod ({ cls := "ThirdAfter$Cow", name := "kind", desc := "()I" } : Jvm.MethodName)) ∈ lw_all := lw_g (lw_at lw_m7 114 rfl) rfl
theorem q1653 : (Jvm.Cond.code ({ cls := "ThirdAfter$Cow", name := "kind", desc := "()I" } : Jvm.MethodName) prog_8_method_2_code (1 : Nat) (Option.some Jvm.ClassFile.FieldType.int)) ∈ lw_all := lw_g (lw_at lw_m7 115 rfl) rfl
theorem q2227 : (Jvm.Cond.selects "ThirdAfter$Cow" ({ cls := "ThirdAfter$Latch", name := "began", desc := "(I)V" } : Jvm.MethodName) ({ cls := "ThirdAfter$Latch", name := "began", desc := "(I)V" } : Jvm.MethodName)) ∈ lw_all := lw_g (lw_at lw_m9 209 rfl) rfl
theorem q2237 : (Jvm.Cond.selects "ThirdAfter$Cow" ({ cls := "ThirdAfter$Latch", name := "owes", desc := "(I)I" } : Jvm.MethodName) ({ cls := "ThirdAfter$Cow", name := "owes", desc := "(I)I" } : Jvm.MethodName)) ∈ lw_all := lw_g (lw_at lw_m9 219 rfl) rfl
theorem q2246 : (Jvm.Cond.selects "ThirdAfter$Cow" ({ cls := "ThirdAfter$Latch", name := "paysOut", desc := "(I)I" } : Jvm.MethodName) ({ cls := "ThirdAfter$Cow", name := "paysOut", desc := "(I)I" } : Jvm.MethodName)) ∈ lw_all := lw_g (lw_at lw_m9 228 rfl) rfl
theorem q2254 : (Jvm.Cond.sameMethod "ThirdAfter$Cow" "ThirdAfter$Cow" "isUnder" "(I)Z") ∈ lw_all := lw_g (lw_at lw_m9 236 rfl) rfl
theorem q2266 : (Jvm.Cond.castable "ThirdAfter$Cow" "ThirdAfter$Latch") ∈ lw_tbl := lw_at lw_m10 8 rfl
theorem q2274 : (Jvm.Cond.castable "ThirdAfter$Cow" "ThirdAfter$Held") ∈ lw_tbl := lw_at lw_m10 16 rfl
theorem in_X18 : ∀ w ∈ wsX180, w ∈ lw_all := lw_in wsX180 [1148, 1149, 1147, 1145] (by decide +kernel) (by decide +kernel)
/-! ThirdAfter$Rent -/
def RX19 : String := "ThirdAfter$Rent"
def TX19 : u_T := fun k => match k with
  | 0 => ("ThirdAfter$Latch", "number", "I", true)
  | 1 => ("ThirdAfter$Latch", "this$0", "LThirdAfter;", true)
  | 2 => ("ThirdAfter$Baker", "this$0", "LThirdAfter;", true)
  | _ => ("ThirdAfter$Rent", "this$0", "LThirdAfter;", true)
def tyX19 : Nat → FieldType := fun k => match k with
  | 0 => .int
  | 1 => .object "ThirdAfter"
  | 2 => .object "ThirdAfter"
  | _ => .object "ThirdAfter"
abbrev wsX190 : List Cond := u_ws RX19 TX19 4
-- two fields of one name: no nmX19
theorem tyX19_ok : ∀ k, k < 4 → parseFieldDescriptor (TX19 k).2.2.1 = some (tyX19 k) := by decide +kernel
abbrev cX19_init : ByteArray := prog_26_method_1_code
def yX19_init : MethodName := ⟨RX19, "<init>", "(LThirdAfter;I)V"⟩
abbrev cX19_paysOut : ByteArray := prog_26_method_4_code
def yX19_paysOut : MethodName := ⟨RX19, "paysOut", "(I)I"⟩
abbrev cX19_isUnder : ByteArray := prog_26_method_3_code
def yX19_isUnder : MethodName := ⟨RX19, "isUnder", "(I)Z"⟩
abbrev cX19_kind : ByteArray := prog_26_method_2_code
def yX19_kind : MethodName := ⟨RX19, "kind", "()I"⟩
theorem q133 : (Jvm.Cond.initialized "ThirdAfter$Rent") ∈ lw_all := lw_g (lw_at lw_m1 35 rfl) rfl
theorem q1152 : (Jvm.Cond.instantiable "ThirdAfter$Rent" (4 : Nat)) ∈ lw_all := lw_g (lw_at lw_m5 94 rfl) rfl
theorem q1154 : (Jvm.Cond.instanceMethod ({ cls := "ThirdAfter$Rent", name := "<init>", desc := "(LThirdAfter;I)V" } : Jvm.MethodName)) ∈ lw_all := lw_g (lw_at lw_m5 96 rfl) rfl
theorem q1155 : (Jvm.Cond.code ({ cls := "ThirdAfter$Rent", name := "<init>", desc := "(LThirdAfter;I)V" } : Jvm.MethodName) prog_26_method_1_code (3 : Nat) (Option.none : Option Jvm.ClassFile.FieldType)) ∈ lw_all := lw_g (lw_at lw_m5 97 rfl) rfl
theorem q1156 : (Jvm.Cond.methodLink "ThirdAfter$Rent" (7 : Nat) ({ cls := "ThirdAfter$Baker", name := "<init>", desc := "(LThirdAfter;I)V" } : Jvm.MethodName)) ∈ lw_all := lw_g (lw_at lw_m5 98 rfl) rfl
theorem q1157 : (Jvm.Cond.fieldLink "ThirdAfter$Rent" (1 : Nat) "ThirdAfter$Rent" "this$0" "LThirdAfter;") ∈ lw_all := lw_g (lw_at lw_m5 99 rfl) rfl
theorem q1158 : (Jvm.Cond.laysFinal "ThirdAfter$Rent" "ThirdAfter$Rent" "this$0" "LThirdAfter;") ∈ lw_all := lw_g (lw_at lw_m5 100 rfl) rfl
theorem q1159 : (Jvm.Cond.soleField "ThirdAfter$Rent" "this$0") ∈ lw_all := lw_g (lw_at lw_m5 101 rfl) rfl
theorem q1160 : (Jvm.Cond.laysFinal "ThirdAfter$Rent" "ThirdAfter$Baker" "this$0" "LThirdAfter;") ∈ lw_all := lw_g (lw_at lw_m5 102 rfl) rfl
theorem q1161 : (Jvm.Cond.laysFinal "ThirdAfter$Rent" "ThirdAfter$Latch" "number" "I") ∈ lw_all := lw_g (lw_at lw_m5 103 rfl) rfl
theorem q1162 : (Jvm.Cond.laysFinal "ThirdAfter$Rent" "ThirdAfter$Latch" "this$0" "LThirdAfter;") ∈ lw_all := lw_g (lw_at lw_m5 104 rfl) rfl
theorem q1163 : (Jvm.Cond.superclass "ThirdAfter$Rent" "ThirdAfter$Baker") ∈ lw_all := lw_g (lw_at lw_m5 105 rfl) rfl
theorem q1232 : (Jvm.Cond.selects "ThirdAfter$Rent" ({ cls := "ThirdAfter$Baker", name := "began", desc := "(I)V" } : Jvm.MethodName) ({ cls := "ThirdAfter$Latch", name := "began", desc := "(I)V" } : Jvm.MethodName)) ∈ lw_all := lw_g (lw_at lw_m5 174 rfl) rfl
theorem q1262 : (Jvm.Cond.castable "ThirdAfter$Rent" "ThirdAfter$Comes") ∈ lw_tbl := lw_at lw_m5 204 rfl
theorem q1263 : (Jvm.Cond.selects "ThirdAfter$Rent" ({ cls := "ThirdAfter$Comes", name := "began", desc := "(I)V" } : Jvm.MethodName) ({ cls := "ThirdAfter$Latch", name := "began", desc := "(I)V" } : Jvm.MethodName)) ∈ lw_all := lw_g (lw_at lw_m5 205 rfl) rfl
theorem q1264 : (Jvm.Cond.unhidden "ThirdAfter$Rent" "began" "(I)V") ∈ lw_tbl := lw_at lw_m5 206 rfl
theorem q1286 : (Jvm.Cond.selects "ThirdAfter$Rent" ({ cls := "ThirdAfter$Comes", name := "number", desc := "()I" } : Jvm.MethodName) ({ cls := "ThirdAfter$Latch", name := "number", desc := "()I" } : Jvm.MethodName)) ∈ lw_all := lw_g (lw_at lw_m5 228 rfl) rfl
theorem q1287 : (Jvm.Cond.unhidden "ThirdAfter$Rent" "number" "()I") ∈ lw_tbl := lw_at lw_m5 229 rfl
theorem q1303 : (Jvm.Cond.selects "ThirdAfter$Rent" ({ cls := "ThirdAfter$Comes", name := "comesBy", desc := "(I)I" } : Jvm.MethodName) ({ cls := "ThirdAfter$Baker", name := "comesBy", desc := "(I)I" } : Jvm.MethodName)) ∈ lw_all := lw_g (lw_at lw_m6 5 rfl) rfl
theorem q1304 : (Jvm.Cond.unhidden "ThirdAfter$Rent" "comesBy" "(I)I") ∈ lw_tbl := lw_at lw_m6 6 rfl
theorem q1331 : (Jvm.Cond.castable "ThirdAfter$Rent" "ThirdAfter$Tells") ∈ lw_tbl := lw_at lw_m6 33 rfl
theorem q1332 : (Jvm.Cond.selects "ThirdAfter$Rent" ({ cls := "ThirdAfter$Tells", name := "began", desc := "(I)V" } : Jvm.MethodName) ({ cls := "ThirdAfter$Latch", name := "began", desc := "(I)V" } : Jvm.MethodName)) ∈ lw_all := lw_g (lw_at lw_m6 34 rfl) rfl
theorem q1379 : (Jvm.Cond.sameMethod "ThirdAfter$Rent" "ThirdAfter$Latch" "owes" "(I)I") ∈ lw_all := lw_g (lw_at lw_m6 81 rfl) rfl
theorem q1383 : (Jvm.Cond.declares ({ cls := "ThirdAfter$Rent", name := "paysOut", desc := "(I)I" } : Jvm.MethodName)) ∈ lw_tbl := lw_at lw_m6 85 rfl
theorem q1385 : (Jvm.Cond.instanceMethod ({ cls := "ThirdAfter$Rent", name := "paysOut", desc := "(I)I" } : Jvm.MethodName)) ∈ lw_all := lw_g (lw_at lw_m6 87 rfl) rfl
theorem q1386 : (Jvm.Cond.code ({ cls := "ThirdAfter$Rent", name := "paysOut", desc := "(I)I" } : Jvm.MethodName) prog_26_method_4_code (3 : Nat) (Option.some Jvm.ClassFile.FieldType.int)) ∈ lw_all := lw_g (lw_at lw_m6 88 rfl) rfl
theorem q1387 : (Jvm.Cond.methodLink "ThirdAfter$Rent" (17 : Nat) ({ cls := "ThirdAfter$Rent", name := "began", desc := "(I)V" } : Jvm.MethodName)) ∈ lw_all := lw_g (lw_at lw_m6 89 rfl) rfl
theorem q1388 : (Jvm.Cond.sameMethod "ThirdAfter$Rent" "ThirdAfter$Latch" "began" "(I)V") ∈ lw_all := lw_g (lw_at lw_m6 90 rfl) rfl
theorem q1390 : (Jvm.Cond.selects "ThirdAfter$Rent" ({ cls := "ThirdAfter$Rent", name := "began", desc := "(I)V" } : Jvm.MethodName) ({ cls := "ThirdAfter$Latch", name := "began", desc := "(I)V" } : Jvm.MethodName)) ∈ lw_all := lw_g (lw_at lw_m6 92 rfl) rfl
theorem q1391 : (Jvm.Cond.methodLink "ThirdAfter$Rent" (21 : Nat) ({ cls := "ThirdAfter$Baker", name := "paysOut", desc := "(I)I" } : Jvm.MethodName)) ∈ lw_all := lw_g (lw_at lw_m6 93 rfl) rfl
theorem q1396 : (Jvm.Cond.methodLink "ThirdAfter$Rent" (25 : Nat) ({ cls := "ThirdAfter$Rent", name := "comesBy", desc := "(I)I" } : Jvm.MethodName)) ∈ lw_all := lw_g (lw_at lw_m6 98 rfl) rfl
theorem q1397 : (Jvm.Cond.sameMethod "ThirdAfter$Rent" "ThirdAfter$Baker" "comesBy" "(I)I") ∈ lw_all := lw_g (lw_at lw_m6 99 rfl) rfl
theorem q1400 : (Jvm.Cond.selects "ThirdAfter$Rent" ({ cls := "ThirdAfter$Rent", name := "comesBy", desc := "(I)I" } : Jvm.MethodName) ({ cls := "ThirdAfter$Baker", name := "comesBy", desc := "(I)I" } : Jvm.MethodName)) ∈ lw_all := lw_g (lw_at lw_m6 102 rfl) rfl
theorem q1401 : (Jvm.Cond.selects "ThirdAfter$Rent" ({ cls := "ThirdAfter$Tells", name := "owes", desc := "(I)I" } : Jvm.MethodName) ({ cls := "ThirdAfter$Latch", name := "owes", desc := "(I)I" } : Jvm.MethodName)) ∈ lw_all := lw_g (lw_at lw_m6 103 rfl) rfl
theorem q1402 : (Jvm.Cond.unhidden "ThirdAfter$Rent" "owes" "(I)I") ∈ lw_tbl := lw_at lw_m6 104 rfl
theorem q1427 : (Jvm.Cond.publicMethod ({ cls := "ThirdAfter$Rent", name := "paysOut", desc := "(I)I" } : Jvm.MethodName)) ∈ lw_tbl := lw_at lw_m6 129 rfl
theorem q1428 : (Jvm.Cond.selects "ThirdAfter$Rent" ({ cls := "ThirdAfter$Tells", name := "paysOut", desc := "(I)I" } : Jvm.MethodName) ({ cls := "ThirdAfter$Rent", name := "paysOut", desc := "(I)I" } : Jvm.MethodName)) ∈ lw_all := lw_g (lw_at lw_m6 130 rfl) rfl
theorem q1429 : (Jvm.Cond.unhidden "ThirdAfter$Rent" "paysOut" "(I)I") ∈ lw_tbl := lw_at lw_m6 131 rfl
theorem q1447 : (Jvm.Cond.unhidden "ThirdAfter$Rent" "tells" "(I)I") ∈ lw_tbl := lw_at lw_m6 149 rfl
theorem q1640 : (Jvm.Cond.instanceMethod ({ cls := "ThirdAfter$Rent", name := "isUnder", desc := "(I)Z" } : Jvm.MethodName)) ∈ lw_all := lw_g (lw_at lw_m7 102 rfl) rfl
theorem q1641 : (Jvm.Cond.code ({ cls := "ThirdAfter$Rent", name := "isUnder", desc := "(I)Z" } : Jvm.MethodName) prog_26_method_3_code (2 : Nat) (Option.some Jvm.ClassFile.FieldType.boolean)) ∈ lw_all := lw_g (lw_at lw_m7 103 rfl) rfl
theorem q1642 : (Jvm.Cond.methodLink "ThirdAfter$Rent" (13 : Nat) ({ cls := "ThirdAfter$Baker", name := "isUnder", desc := "(I)Z" } : Jvm.MethodName)) ∈ lw_all := lw_g (lw_at lw_m7 104 rfl) rfl
theorem q1643 : (Jvm.Cond.selects "ThirdAfter$Rent" ({ cls := "ThirdAfter$Latch", name := "isUnder", desc := "(I)Z" } : Jvm.MethodName) ({ cls := "ThirdAfter$Rent", name := "isUnder", desc := "(I)Z" } : Jvm.MethodName)) ∈ lw_all := lw_g (lw_at lw_m7 105 rfl) rfl
theorem q1666 : (Jvm.Cond.selects "ThirdAfter$Rent" ({ cls := "ThirdAfter$Latch", name := "kind", desc := "()I" } : Jvm.MethodName) ({ cls := "ThirdAfter$Rent", name := "kind", desc := "()I" } : Jvm.MethodName)) ∈ lw_all := lw_g (lw_at lw_m7 128 rfl) rfl
theorem q1667 : (Jvm.Cond.instanceMethod ({ cls := "ThirdAfter$Rent", name := "kind", desc := "()I" } : Jvm.MethodName)) ∈ lw_all := lw_g (lw_at lw_m7 129 rfl) rfl
theorem q1668 : (Jvm.Cond.code ({ cls := "ThirdAfter$Rent", name := "kind", desc := "()I" } : Jvm.MethodName) prog_26_method_2_code (1 : Nat) (Option.some Jvm.ClassFile.FieldType.int)) ∈ lw_all := lw_g (lw_at lw_m7 130 rfl) rfl
theorem q2233 : (Jvm.Cond.selects "ThirdAfter$Rent" ({ cls := "ThirdAfter$Latch", name := "began", desc := "(I)V" } : Jvm.MethodName) ({ cls := "ThirdAfter$Latch", name := "began", desc := "(I)V" } : Jvm.MethodName)) ∈ lw_all := lw_g (lw_at lw_m9 215 rfl) rfl
theorem q2243 : (Jvm.Cond.selects "ThirdAfter$Rent" ({ cls := "ThirdAfter$Latch", name := "owes", desc := "(I)I" } : Jvm.MethodName) ({ cls := "ThirdAfter$Latch", name := "owes", desc := "(I)I" } : Jvm.MethodName)) ∈ lw_all := lw_g (lw_at lw_m9 225 rfl) rfl
theorem q2252 : (Jvm.Cond.selects "ThirdAfter$Rent" ({ cls := "ThirdAfter$Latch", name := "paysOut", desc := "(I)I" } : Jvm.MethodName) ({ cls := "ThirdAfter$Rent", name := "paysOut", desc := "(I)I" } : Jvm.MethodName)) ∈ lw_all := lw_g (lw_at lw_m9 234 rfl) rfl
theorem q2255 : (Jvm.Cond.sameMethod "ThirdAfter$Rent" "ThirdAfter$Rent" "isUnder" "(I)Z") ∈ lw_all := lw_g (lw_at lw_m9 237 rfl) rfl
theorem q2271 : (Jvm.Cond.castable "ThirdAfter$Rent" "ThirdAfter$Latch") ∈ lw_tbl := lw_at lw_m10 13 rfl
theorem q2275 : (Jvm.Cond.castable "ThirdAfter$Rent" "ThirdAfter$Held") ∈ lw_tbl := lw_at lw_m10 17 rfl
theorem in_X19 : ∀ w ∈ wsX190, w ∈ lw_all := lw_in wsX190 [1161, 1162, 1160, 1158] (by decide +kernel) (by decide +kernel)
/-! ThirdAfter$Dusk -/
def RX20 : String := "ThirdAfter$Dusk"
def TX20 : u_T := fun k => match k with
  | 0 => ("ThirdAfter$Latch", "number", "I", true)
  | 1 => ("ThirdAfter$Latch", "this$0", "LThirdAfter;", true)
  | 2 => ("ThirdAfter$Priest", "this$0", "LThirdAfter;", true)
  | 3 => ("ThirdAfter$Cow", "this$0", "LThirdAfter;", true)
  | _ => ("ThirdAfter$Dusk", "this$0", "LThirdAfter;", true)
def tyX20 : Nat → FieldType := fun k => match k with
  | 0 => .int
  | 1 => .object "ThirdAfter"
  | 2 => .object "ThirdAfter"
  | 3 => .object "ThirdAfter"
  | _ => .object "ThirdAfter"
abbrev wsX200 : List Cond := u_ws RX20 TX20 5
-- two fields of one name: no nmX20
theorem tyX20_ok : ∀ k, k < 5 → parseFieldDescriptor (TX20 k).2.2.1 = some (tyX20 k) := by decide +kernel
abbrev cX20_init : ByteArray := prog_10_method_1_code
def yX20_init : MethodName := ⟨RX20, "<init>", "(LThirdAfter;I)V"⟩
abbrev cX20_tells : ByteArray := prog_10_method_4_code
def yX20_tells : MethodName := ⟨RX20, "tells", "(I)I"⟩
abbrev cX20_isUnder : ByteArray := prog_10_method_3_code
def yX20_isUnder : MethodName := ⟨RX20, "isUnder", "(I)Z"⟩
abbrev cX20_kind : ByteArray := prog_10_method_2_code
def yX20_kind : MethodName := ⟨RX20, "kind", "()I"⟩
theorem q134 : (Jvm.Cond.initialized "ThirdAfter$Dusk") ∈ lw_all := lw_g (lw_at lw_m1 36 rfl) rfl
theorem q1165 : (Jvm.Cond.instantiable "ThirdAfter$Dusk" (5 : Nat)) ∈ lw_all := lw_g (lw_at lw_m5 107 rfl) rfl
theorem q1167 : (Jvm.Cond.instanceMethod ({ cls := "ThirdAfter$Dusk", name := "<init>", desc := "(LThirdAfter;I)V" } : Jvm.MethodName)) ∈ lw_all := lw_g (lw_at lw_m5 109 rfl) rfl
theorem q1168 : (Jvm.Cond.code ({ cls := "ThirdAfter$Dusk", name := "<init>", desc := "(LThirdAfter;I)V" } : Jvm.MethodName) prog_10_method_1_code (3 : Nat) (Option.none : Option Jvm.ClassFile.FieldType)) ∈ lw_all := lw_g (lw_at lw_m5 110 rfl) rfl
theorem q1169 : (Jvm.Cond.methodLink "ThirdAfter$Dusk" (7 : Nat) ({ cls := "ThirdAfter$Cow", name := "<init>", desc := "(LThirdAfter;I)V" } : Jvm.MethodName)) ∈ lw_all := lw_g (lw_at lw_m5 111 rfl) rfl
theorem q1170 : (Jvm.Cond.fieldLink "ThirdAfter$Dusk" (1 : Nat) "ThirdAfter$Dusk" "this$0" "LThirdAfter;") ∈ lw_all := lw_g (lw_at lw_m5 112 rfl) rfl
theorem q1171 : (Jvm.Cond.laysFinal "ThirdAfter$Dusk" "ThirdAfter$Dusk" "this$0" "LThirdAfter;") ∈ lw_all := lw_g (lw_at lw_m5 113 rfl) rfl
theorem q1172 : (Jvm.Cond.soleField "ThirdAfter$Dusk" "this$0") ∈ lw_all := lw_g (lw_at lw_m5 114 rfl) rfl
theorem q1173 : (Jvm.Cond.laysFinal "ThirdAfter$Dusk" "ThirdAfter$Cow" "this$0" "LThirdAfter;") ∈ lw_all := lw_g (lw_at lw_m5 115 rfl) rfl
theorem q1174 : (Jvm.Cond.laysFinal "ThirdAfter$Dusk" "ThirdAfter$Priest" "this$0" "LThirdAfter;") ∈ lw_all := lw_g (lw_at lw_m5 116 rfl) rfl
theorem q1175 : (Jvm.Cond.laysFinal "ThirdAfter$Dusk" "ThirdAfter$Latch" "number" "I") ∈ lw_all := lw_g (lw_at lw_m5 117 rfl) rfl
theorem q1176 : (Jvm.Cond.laysFinal "ThirdAfter$Dusk" "ThirdAfter$Latch" "this$0" "LThirdAfter;") ∈ lw_all := lw_g (lw_at lw_m5 118 rfl) rfl
theorem q1177 : (Jvm.Cond.superclass "ThirdAfter$Dusk" "ThirdAfter$Cow") ∈ lw_all := lw_g (lw_at lw_m5 119 rfl) rfl
theorem q1247 : (Jvm.Cond.castable "ThirdAfter$Dusk" "ThirdAfter$Comes") ∈ lw_tbl := lw_at lw_m5 189 rfl
theorem q1248 : (Jvm.Cond.selects "ThirdAfter$Dusk" ({ cls := "ThirdAfter$Comes", name := "began", desc := "(I)V" } : Jvm.MethodName) ({ cls := "ThirdAfter$Latch", name := "began", desc := "(I)V" } : Jvm.MethodName)) ∈ lw_all := lw_g (lw_at lw_m5 190 rfl) rfl
theorem q1249 : (Jvm.Cond.unhidden "ThirdAfter$Dusk" "began" "(I)V") ∈ lw_tbl := lw_at lw_m5 191 rfl
theorem q1276 : (Jvm.Cond.selects "ThirdAfter$Dusk" ({ cls := "ThirdAfter$Comes", name := "number", desc := "()I" } : Jvm.MethodName) ({ cls := "ThirdAfter$Latch", name := "number", desc := "()I" } : Jvm.MethodName)) ∈ lw_all := lw_g (lw_at lw_m5 218 rfl) rfl
theorem q1277 : (Jvm.Cond.unhidden "ThirdAfter$Dusk" "number" "()I") ∈ lw_tbl := lw_at lw_m5 219 rfl
theorem q1290 : (Jvm.Cond.unhidden "ThirdAfter$Dusk" "comesBy" "(I)I") ∈ lw_tbl := lw_at lw_m5 232 rfl
theorem q1321 : (Jvm.Cond.castable "ThirdAfter$Dusk" "ThirdAfter$Tells") ∈ lw_tbl := lw_at lw_m6 23 rfl
theorem q1322 : (Jvm.Cond.selects "ThirdAfter$Dusk" ({ cls := "ThirdAfter$Tells", name := "began", desc := "(I)V" } : Jvm.MethodName) ({ cls := "ThirdAfter$Latch", name := "began", desc := "(I)V" } : Jvm.MethodName)) ∈ lw_all := lw_g (lw_at lw_m6 24 rfl) rfl
theorem q1351 : (Jvm.Cond.selects "ThirdAfter$Dusk" ({ cls := "ThirdAfter$Cow", name := "began", desc := "(I)V" } : Jvm.MethodName) ({ cls := "ThirdAfter$Latch", name := "began", desc := "(I)V" } : Jvm.MethodName)) ∈ lw_all := lw_g (lw_at lw_m6 53 rfl) rfl
theorem q1358 : (Jvm.Cond.selects "ThirdAfter$Dusk" ({ cls := "ThirdAfter$Priest", name := "began", desc := "(I)V" } : Jvm.MethodName) ({ cls := "ThirdAfter$Latch", name := "began", desc := "(I)V" } : Jvm.MethodName)) ∈ lw_all := lw_g (lw_at lw_m6 60 rfl) rfl
theorem q1361 : (Jvm.Cond.selects "ThirdAfter$Dusk" ({ cls := "ThirdAfter$Tells", name := "owes", desc := "(I)I" } : Jvm.MethodName) ({ cls := "ThirdAfter$Cow", name := "owes", desc := "(I)I" } : Jvm.MethodName)) ∈ lw_all := lw_g (lw_at lw_m6 63 rfl) rfl
theorem q1362 : (Jvm.Cond.unhidden "ThirdAfter$Dusk" "owes" "(I)I") ∈ lw_tbl := lw_at lw_m6 64 rfl
theorem q1417 : (Jvm.Cond.selects "ThirdAfter$Dusk" ({ cls := "ThirdAfter$Tells", name := "paysOut", desc := "(I)I" } : Jvm.MethodName) ({ cls := "ThirdAfter$Cow", name := "paysOut", desc := "(I)I" } : Jvm.MethodName)) ∈ lw_all := lw_g (lw_at lw_m6 119 rfl) rfl
theorem q1418 : (Jvm.Cond.unhidden "ThirdAfter$Dusk" "paysOut" "(I)I") ∈ lw_tbl := lw_at lw_m6 120 rfl
theorem q1431 : (Jvm.Cond.selects "ThirdAfter$Dusk" ({ cls := "ThirdAfter$Tells", name := "tells", desc := "(I)I" } : Jvm.MethodName) ({ cls := "ThirdAfter$Dusk", name := "tells", desc := "(I)I" } : Jvm.MethodName)) ∈ lw_all := lw_g (lw_at lw_m6 133 rfl) rfl
theorem q1432 : (Jvm.Cond.unhidden "ThirdAfter$Dusk" "tells" "(I)I") ∈ lw_tbl := lw_at lw_m6 134 rfl
theorem q1433 : (Jvm.Cond.instanceMethod ({ cls := "ThirdAfter$Dusk", name := "tells", desc := "(I)I" } : Jvm.MethodName)) ∈ lw_all := lw_g (lw_at lw_m6 135 rfl) rfl
theorem q1434 : (Jvm.Cond.publicMethod ({ cls := "ThirdAfter$Dusk", name := "tells", desc := "(I)I" } : Jvm.MethodName)) ∈ lw_tbl := lw_at lw_m6 136 rfl
theorem q1435 : (Jvm.Cond.code ({ cls := "ThirdAfter$Dusk", name := "tells", desc := "(I)I" } : Jvm.MethodName) prog_10_method_4_code (2 : Nat) (Option.some Jvm.ClassFile.FieldType.int)) ∈ lw_all := lw_g (lw_at lw_m6 137 rfl) rfl
theorem q1436 : (Jvm.Cond.methodLink "ThirdAfter$Dusk" (17 : Nat) ({ cls := "ThirdAfter$Dusk", name := "began", desc := "(I)V" } : Jvm.MethodName)) ∈ lw_all := lw_g (lw_at lw_m6 138 rfl) rfl
theorem q1437 : (Jvm.Cond.sameMethod "ThirdAfter$Dusk" "ThirdAfter$Latch" "began" "(I)V") ∈ lw_all := lw_g (lw_at lw_m6 139 rfl) rfl
theorem q1438 : (Jvm.Cond.selects "ThirdAfter$Dusk" ({ cls := "ThirdAfter$Dusk", name := "began", desc := "(I)V" } : Jvm.MethodName) ({ cls := "ThirdAfter$Latch", name := "began", desc := "(I)V" } : Jvm.MethodName)) ∈ lw_all := lw_g (lw_at lw_m6 140 rfl) rfl
theorem q1627 : (Jvm.Cond.selects "ThirdAfter$Dusk" ({ cls := "ThirdAfter$Latch", name := "isUnder", desc := "(I)Z" } : Jvm.MethodName) ({ cls := "ThirdAfter$Dusk", name := "isUnder", desc := "(I)Z" } : Jvm.MethodName)) ∈ lw_all := lw_g (lw_at lw_m7 89 rfl) rfl
theorem q1628 : (Jvm.Cond.instanceMethod ({ cls := "ThirdAfter$Dusk", name := "isUnder", desc := "(I)Z" } : Jvm.MethodName)) ∈ lw_all := lw_g (lw_at lw_m7 90 rfl) rfl
theorem q1629 : (Jvm.Cond.code ({ cls := "ThirdAfter$Dusk", name := "isUnder", desc := "(I)Z" } : Jvm.MethodName) prog_10_method_3_code (2 : Nat) (Option.some Jvm.ClassFile.FieldType.boolean)) ∈ lw_all := lw_g (lw_at lw_m7 91 rfl) rfl
theorem q1630 : (Jvm.Cond.methodLink "ThirdAfter$Dusk" (13 : Nat) ({ cls := "ThirdAfter$Cow", name := "isUnder", desc := "(I)Z" } : Jvm.MethodName)) ∈ lw_all := lw_g (lw_at lw_m7 92 rfl) rfl
theorem q1654 : (Jvm.Cond.selects "ThirdAfter$Dusk" ({ cls := "ThirdAfter$Latch", name := "kind", desc := "()I" } : Jvm.MethodName) ({ cls := "ThirdAfter$Dusk", name := "kind", desc := "()I" } : Jvm.MethodName)) ∈ lw_all := lw_g (lw_at lw_m7 116 rfl) rfl
theorem q1655 : (Jvm.Cond.instanceMethod ({ cls := "ThirdAfter$Dusk", name := "kind", desc := "()I" } : Jvm.MethodName)) ∈ lw_all := lw_g (lw_at lw_m7 117 rfl) rfl
theorem q1656 : (Jvm.Cond.code ({ cls := "ThirdAfter$Dusk", name := "kind", desc := "()I" } : Jvm.MethodName) prog_10_method_2_code (1 : Nat) (Option.some Jvm.ClassFile.FieldType.int)) ∈ lw_all := lw_g (lw_at lw_m7 118 rfl) rfl
theorem q2228 : (Jvm.Cond.selects "ThirdAfter$Dusk" ({ cls := "ThirdAfter$Latch", name := "began", desc := "(I)V" } : Jvm.MethodName) ({ cls := "ThirdAfter$Latch", name := "began", desc := "(I)V" } : Jvm.MethodName)) ∈ lw_all := lw_g (lw_at lw_m9 210 rfl) rfl
theorem q2238 : (Jvm.Cond.selects "ThirdAfter$Dusk" ({ cls := "ThirdAfter$Latch", name := "owes", desc := "(I)I" } : Jvm.MethodName) ({ cls := "ThirdAfter$Cow", name := "owes", desc := "(I)I" } : Jvm.MethodName)) ∈ lw_all := lw_g (lw_at lw_m9 220 rfl) rfl
theorem q2247 : (Jvm.Cond.selects "ThirdAfter$Dusk" ({ cls := "ThirdAfter$Latch", name := "paysOut", desc := "(I)I" } : Jvm.MethodName) ({ cls := "ThirdAfter$Cow", name := "paysOut", desc := "(I)I" } : Jvm.MethodName)) ∈ lw_all := lw_g (lw_at lw_m9 229 rfl) rfl
theorem q2267 : (Jvm.Cond.castable "ThirdAfter$Dusk" "ThirdAfter$Latch") ∈ lw_tbl := lw_at lw_m10 9 rfl
theorem q2276 : (Jvm.Cond.castable "ThirdAfter$Dusk" "ThirdAfter$Held") ∈ lw_tbl := lw_at lw_m10 18 rfl
theorem in_X20 : ∀ w ∈ wsX200, w ∈ lw_all := lw_in wsX200 [1175, 1176, 1174, 1173, 1171] (by decide +kernel) (by decide +kernel)
/-! ThirdAfter$Hound -/
def RX21 : String := "ThirdAfter$Hound"
def TX21 : u_T := fun k => match k with
  | 0 => ("ThirdAfter$Latch", "number", "I", true)
  | 1 => ("ThirdAfter$Latch", "this$0", "LThirdAfter;", true)
  | _ => ("ThirdAfter$Hound", "this$0", "LThirdAfter;", true)
def tyX21 : Nat → FieldType := fun k => match k with
  | 0 => .int
  | 1 => .object "ThirdAfter"
  | _ => .object "ThirdAfter"
abbrev wsX210 : List Cond := u_ws RX21 TX21 3
-- two fields of one name: no nmX21
theorem tyX21_ok : ∀ k, k < 3 → parseFieldDescriptor (TX21 k).2.2.1 = some (tyX21 k) := by decide +kernel
abbrev cX21_init : ByteArray := prog_13_method_1_code
def yX21_init : MethodName := ⟨RX21, "<init>", "(LThirdAfter;I)V"⟩
abbrev cX21_comesBy : ByteArray := prog_13_method_4_code
def yX21_comesBy : MethodName := ⟨RX21, "comesBy", "(I)I"⟩
abbrev cX21_isUnder : ByteArray := prog_13_method_3_code
def yX21_isUnder : MethodName := ⟨RX21, "isUnder", "(I)Z"⟩
abbrev cX21_kind : ByteArray := prog_13_method_2_code
def yX21_kind : MethodName := ⟨RX21, "kind", "()I"⟩
theorem q135 : (Jvm.Cond.initialized "ThirdAfter$Hound") ∈ lw_all := lw_g (lw_at lw_m1 37 rfl) rfl
theorem q1179 : (Jvm.Cond.instantiable "ThirdAfter$Hound" (3 : Nat)) ∈ lw_all := lw_g (lw_at lw_m5 121 rfl) rfl
theorem q1181 : (Jvm.Cond.instanceMethod ({ cls := "ThirdAfter$Hound", name := "<init>", desc := "(LThirdAfter;I)V" } : Jvm.MethodName)) ∈ lw_all := lw_g (lw_at lw_m5 123 rfl) rfl
theorem q1182 : (Jvm.Cond.code ({ cls := "ThirdAfter$Hound", name := "<init>", desc := "(LThirdAfter;I)V" } : Jvm.MethodName) prog_13_method_1_code (3 : Nat) (Option.none : Option Jvm.ClassFile.FieldType)) ∈ lw_all := lw_g (lw_at lw_m5 124 rfl) rfl
theorem q1183 : (Jvm.Cond.methodLink "ThirdAfter$Hound" (7 : Nat) ({ cls := "ThirdAfter$Latch", name := "<init>", desc := "(LThirdAfter;I)V" } : Jvm.MethodName)) ∈ lw_all := lw_g (lw_at lw_m5 125 rfl) rfl
theorem q1184 : (Jvm.Cond.fieldLink "ThirdAfter$Hound" (1 : Nat) "ThirdAfter$Hound" "this$0" "LThirdAfter;") ∈ lw_all := lw_g (lw_at lw_m5 126 rfl) rfl
theorem q1185 : (Jvm.Cond.laysFinal "ThirdAfter$Hound" "ThirdAfter$Hound" "this$0" "LThirdAfter;") ∈ lw_all := lw_g (lw_at lw_m5 127 rfl) rfl
theorem q1186 : (Jvm.Cond.soleField "ThirdAfter$Hound" "this$0") ∈ lw_all := lw_g (lw_at lw_m5 128 rfl) rfl
theorem q1187 : (Jvm.Cond.laysFinal "ThirdAfter$Hound" "ThirdAfter$Latch" "number" "I") ∈ lw_all := lw_g (lw_at lw_m5 129 rfl) rfl
theorem q1188 : (Jvm.Cond.laysFinal "ThirdAfter$Hound" "ThirdAfter$Latch" "this$0" "LThirdAfter;") ∈ lw_all := lw_g (lw_at lw_m5 130 rfl) rfl
theorem q1189 : (Jvm.Cond.superclass "ThirdAfter$Hound" "ThirdAfter$Latch") ∈ lw_all := lw_g (lw_at lw_m5 131 rfl) rfl
theorem q1250 : (Jvm.Cond.castable "ThirdAfter$Hound" "ThirdAfter$Comes") ∈ lw_tbl := lw_at lw_m5 192 rfl
theorem q1251 : (Jvm.Cond.selects "ThirdAfter$Hound" ({ cls := "ThirdAfter$Comes", name := "began", desc := "(I)V" } : Jvm.MethodName) ({ cls := "ThirdAfter$Latch", name := "began", desc := "(I)V" } : Jvm.MethodName)) ∈ lw_all := lw_g (lw_at lw_m5 193 rfl) rfl
theorem q1252 : (Jvm.Cond.unhidden "ThirdAfter$Hound" "began" "(I)V") ∈ lw_tbl := lw_at lw_m5 194 rfl
theorem q1278 : (Jvm.Cond.selects "ThirdAfter$Hound" ({ cls := "ThirdAfter$Comes", name := "number", desc := "()I" } : Jvm.MethodName) ({ cls := "ThirdAfter$Latch", name := "number", desc := "()I" } : Jvm.MethodName)) ∈ lw_all := lw_g (lw_at lw_m5 220 rfl) rfl
theorem q1279 : (Jvm.Cond.unhidden "ThirdAfter$Hound" "number" "()I") ∈ lw_tbl := lw_at lw_m5 221 rfl
theorem q1291 : (Jvm.Cond.selects "ThirdAfter$Hound" ({ cls := "ThirdAfter$Comes", name := "comesBy", desc := "(I)I" } : Jvm.MethodName) ({ cls := "ThirdAfter$Hound", name := "comesBy", desc := "(I)I" } : Jvm.MethodName)) ∈ lw_all := lw_g (lw_at lw_m5 233 rfl) rfl
theorem q1292 : (Jvm.Cond.unhidden "ThirdAfter$Hound" "comesBy" "(I)I") ∈ lw_tbl := lw_at lw_m5 234 rfl
theorem q1293 : (Jvm.Cond.instanceMethod ({ cls := "ThirdAfter$Hound", name := "comesBy", desc := "(I)I" } : Jvm.MethodName)) ∈ lw_all := lw_g (lw_at lw_m5 235 rfl) rfl
theorem q1294 : (Jvm.Cond.publicMethod ({ cls := "ThirdAfter$Hound", name := "comesBy", desc := "(I)I" } : Jvm.MethodName)) ∈ lw_tbl := lw_at lw_m5 236 rfl
theorem q1295 : (Jvm.Cond.code ({ cls := "ThirdAfter$Hound", name := "comesBy", desc := "(I)I" } : Jvm.MethodName) prog_13_method_4_code (2 : Nat) (Option.some Jvm.ClassFile.FieldType.int)) ∈ lw_all := lw_g (lw_at lw_m5 237 rfl) rfl
theorem q1296 : (Jvm.Cond.methodLink "ThirdAfter$Hound" (17 : Nat) ({ cls := "ThirdAfter$Hound", name := "began", desc := "(I)V" } : Jvm.MethodName)) ∈ lw_all := lw_g (lw_at lw_m5 238 rfl) rfl
theorem q1297 : (Jvm.Cond.sameMethod "ThirdAfter$Hound" "ThirdAfter$Latch" "began" "(I)V") ∈ lw_all := lw_g (lw_at lw_m5 239 rfl) rfl
theorem q1298 : (Jvm.Cond.selects "ThirdAfter$Hound" ({ cls := "ThirdAfter$Hound", name := "began", desc := "(I)V" } : Jvm.MethodName) ({ cls := "ThirdAfter$Latch", name := "began", desc := "(I)V" } : Jvm.MethodName)) ∈ lw_all := lw_g (lw_at lw_m6 0 rfl) rfl
theorem q1323 : (Jvm.Cond.castable "ThirdAfter$Hound" "ThirdAfter$Tells") ∈ lw_tbl := lw_at lw_m6 25 rfl
theorem q1324 : (Jvm.Cond.selects "ThirdAfter$Hound" ({ cls := "ThirdAfter$Tells", name := "began", desc := "(I)V" } : Jvm.MethodName) ({ cls := "ThirdAfter$Latch", name := "began", desc := "(I)V" } : Jvm.MethodName)) ∈ lw_all := lw_g (lw_at lw_m6 26 rfl) rfl
theorem q1363 : (Jvm.Cond.selects "ThirdAfter$Hound" ({ cls := "ThirdAfter$Tells", name := "owes", desc := "(I)I" } : Jvm.MethodName) ({ cls := "ThirdAfter$Latch", name := "owes", desc := "(I)I" } : Jvm.MethodName)) ∈ lw_all := lw_g (lw_at lw_m6 65 rfl) rfl
theorem q1364 : (Jvm.Cond.unhidden "ThirdAfter$Hound" "owes" "(I)I") ∈ lw_tbl := lw_at lw_m6 66 rfl
theorem q1419 : (Jvm.Cond.selects "ThirdAfter$Hound" ({ cls := "ThirdAfter$Tells", name := "paysOut", desc := "(I)I" } : Jvm.MethodName) ({ cls := "ThirdAfter$Latch", name := "paysOut", desc := "(I)I" } : Jvm.MethodName)) ∈ lw_all := lw_g (lw_at lw_m6 121 rfl) rfl
theorem q1420 : (Jvm.Cond.unhidden "ThirdAfter$Hound" "paysOut" "(I)I") ∈ lw_tbl := lw_at lw_m6 122 rfl
theorem q1439 : (Jvm.Cond.unhidden "ThirdAfter$Hound" "tells" "(I)I") ∈ lw_tbl := lw_at lw_m6 141 rfl
theorem q1631 : (Jvm.Cond.selects "ThirdAfter$Hound" ({ cls := "ThirdAfter$Latch", name := "isUnder", desc := "(I)Z" } : Jvm.MethodName) ({ cls := "ThirdAfter$Hound", name := "isUnder", desc := "(I)Z" } : Jvm.MethodName)) ∈ lw_all := lw_g (lw_at lw_m7 93 rfl) rfl
theorem q1632 : (Jvm.Cond.instanceMethod ({ cls := "ThirdAfter$Hound", name := "isUnder", desc := "(I)Z" } : Jvm.MethodName)) ∈ lw_all := lw_g (lw_at lw_m7 94 rfl) rfl
theorem q1633 : (Jvm.Cond.code ({ cls := "ThirdAfter$Hound", name := "isUnder", desc := "(I)Z" } : Jvm.MethodName) prog_13_method_3_code (2 : Nat) (Option.some Jvm.ClassFile.FieldType.boolean)) ∈ lw_all := lw_g (lw_at lw_m7 95 rfl) rfl
theorem q1634 : (Jvm.Cond.methodLink "ThirdAfter$Hound" (13 : Nat) ({ cls := "ThirdAfter$Latch", name := "isUnder", desc := "(I)Z" } : Jvm.MethodName)) ∈ lw_all := lw_g (lw_at lw_m7 96 rfl) rfl
theorem q1657 : (Jvm.Cond.selects "ThirdAfter$Hound" ({ cls := "ThirdAfter$Latch", name := "kind", desc := "()I" } : Jvm.MethodName) ({ cls := "ThirdAfter$Hound", name := "kind", desc := "()I" } : Jvm.MethodName)) ∈ lw_all := lw_g (lw_at lw_m7 119 rfl) rfl
theorem q1658 : (Jvm.Cond.instanceMethod ({ cls := "ThirdAfter$Hound", name := "kind", desc := "()I" } : Jvm.MethodName)) ∈ lw_all := lw_g (lw_at lw_m7 120 rfl) rfl
theorem q1659 : (Jvm.Cond.code ({ cls := "ThirdAfter$Hound", name := "kind", desc := "()I" } : Jvm.MethodName) prog_13_method_2_code (1 : Nat) (Option.some Jvm.ClassFile.FieldType.int)) ∈ lw_all := lw_g (lw_at lw_m7 121 rfl) rfl
theorem q2229 : (Jvm.Cond.selects "ThirdAfter$Hound" ({ cls := "ThirdAfter$Latch", name := "began", desc := "(I)V" } : Jvm.MethodName) ({ cls := "ThirdAfter$Latch", name := "began", desc := "(I)V" } : Jvm.MethodName)) ∈ lw_all := lw_g (lw_at lw_m9 211 rfl) rfl
theorem q2239 : (Jvm.Cond.selects "ThirdAfter$Hound" ({ cls := "ThirdAfter$Latch", name := "owes", desc := "(I)I" } : Jvm.MethodName) ({ cls := "ThirdAfter$Latch", name := "owes", desc := "(I)I" } : Jvm.MethodName)) ∈ lw_all := lw_g (lw_at lw_m9 221 rfl) rfl
theorem q2248 : (Jvm.Cond.selects "ThirdAfter$Hound" ({ cls := "ThirdAfter$Latch", name := "paysOut", desc := "(I)I" } : Jvm.MethodName) ({ cls := "ThirdAfter$Latch", name := "paysOut", desc := "(I)I" } : Jvm.MethodName)) ∈ lw_all := lw_g (lw_at lw_m9 230 rfl) rfl
theorem q2268 : (Jvm.Cond.castable "ThirdAfter$Hound" "ThirdAfter$Latch") ∈ lw_tbl := lw_at lw_m10 10 rfl
theorem q2277 : (Jvm.Cond.castable "ThirdAfter$Hound" "ThirdAfter$Held") ∈ lw_tbl := lw_at lw_m10 19 rfl
theorem in_X21 : ∀ w ∈ wsX210, w ∈ lw_all := lw_in wsX210 [1187, 1188, 1185] (by decide +kernel) (by decide +kernel)
/-! ThirdAfter$Purse -/
def RX22 : String := "ThirdAfter$Purse"
def TX22 : u_T := fun k => match k with
  | 0 => ("ThirdAfter$Latch", "number", "I", true)
  | 1 => ("ThirdAfter$Latch", "this$0", "LThirdAfter;", true)
  | 2 => ("ThirdAfter$Baker", "this$0", "LThirdAfter;", true)
  | 3 => ("ThirdAfter$Rent", "this$0", "LThirdAfter;", true)
  | _ => ("ThirdAfter$Purse", "this$0", "LThirdAfter;", true)
def tyX22 : Nat → FieldType := fun k => match k with
  | 0 => .int
  | 1 => .object "ThirdAfter"
  | 2 => .object "ThirdAfter"
  | 3 => .object "ThirdAfter"
  | _ => .object "ThirdAfter"
abbrev wsX220 : List Cond := u_ws RX22 TX22 5
-- two fields of one name: no nmX22
theorem tyX22_ok : ∀ k, k < 5 → parseFieldDescriptor (TX22 k).2.2.1 = some (tyX22 k) := by decide +kernel
abbrev cX22_init : ByteArray := prog_24_method_1_code
def yX22_init : MethodName := ⟨RX22, "<init>", "(LThirdAfter;I)V"⟩
abbrev cX22_owes : ByteArray := prog_24_method_4_code
def yX22_owes : MethodName := ⟨RX22, "owes", "(I)I"⟩
abbrev cX22_tells : ByteArray := prog_24_method_5_code
def yX22_tells : MethodName := ⟨RX22, "tells", "(I)I"⟩
abbrev cX22_isUnder : ByteArray := prog_24_method_3_code
def yX22_isUnder : MethodName := ⟨RX22, "isUnder", "(I)Z"⟩
abbrev cX22_kind : ByteArray := prog_24_method_2_code
def yX22_kind : MethodName := ⟨RX22, "kind", "()I"⟩
theorem q136 : (Jvm.Cond.initialized "ThirdAfter$Purse") ∈ lw_all := lw_g (lw_at lw_m1 38 rfl) rfl
theorem q1191 : (Jvm.Cond.instantiable "ThirdAfter$Purse" (5 : Nat)) ∈ lw_all := lw_g (lw_at lw_m5 133 rfl) rfl
theorem q1193 : (Jvm.Cond.instanceMethod ({ cls := "ThirdAfter$Purse", name := "<init>", desc := "(LThirdAfter;I)V" } : Jvm.MethodName)) ∈ lw_all := lw_g (lw_at lw_m5 135 rfl) rfl
theorem q1194 : (Jvm.Cond.code ({ cls := "ThirdAfter$Purse", name := "<init>", desc := "(LThirdAfter;I)V" } : Jvm.MethodName) prog_24_method_1_code (3 : Nat) (Option.none : Option Jvm.ClassFile.FieldType)) ∈ lw_all := lw_g (lw_at lw_m5 136 rfl) rfl
theorem q1195 : (Jvm.Cond.methodLink "ThirdAfter$Purse" (7 : Nat) ({ cls := "ThirdAfter$Rent", name := "<init>", desc := "(LThirdAfter;I)V" } : Jvm.MethodName)) ∈ lw_all := lw_g (lw_at lw_m5 137 rfl) rfl
theorem q1196 : (Jvm.Cond.fieldLink "ThirdAfter$Purse" (1 : Nat) "ThirdAfter$Purse" "this$0" "LThirdAfter;") ∈ lw_all := lw_g (lw_at lw_m5 138 rfl) rfl
theorem q1197 : (Jvm.Cond.laysFinal "ThirdAfter$Purse" "ThirdAfter$Purse" "this$0" "LThirdAfter;") ∈ lw_all := lw_g (lw_at lw_m5 139 rfl) rfl
theorem q1198 : (Jvm.Cond.soleField "ThirdAfter$Purse" "this$0") ∈ lw_all := lw_g (lw_at lw_m5 140 rfl) rfl
theorem q1199 : (Jvm.Cond.laysFinal "ThirdAfter$Purse" "ThirdAfter$Rent" "this$0" "LThirdAfter;") ∈ lw_all := lw_g (lw_at lw_m5 141 rfl) rfl
theorem q1200 : (Jvm.Cond.laysFinal "ThirdAfter$Purse" "ThirdAfter$Baker" "this$0" "LThirdAfter;") ∈ lw_all := lw_g (lw_at lw_m5 142 rfl) rfl
theorem q1201 : (Jvm.Cond.laysFinal "ThirdAfter$Purse" "ThirdAfter$Latch" "number" "I") ∈ lw_all := lw_g (lw_at lw_m5 143 rfl) rfl
theorem q1202 : (Jvm.Cond.laysFinal "ThirdAfter$Purse" "ThirdAfter$Latch" "this$0" "LThirdAfter;") ∈ lw_all := lw_g (lw_at lw_m5 144 rfl) rfl
theorem q1203 : (Jvm.Cond.superclass "ThirdAfter$Purse" "ThirdAfter$Rent") ∈ lw_all := lw_g (lw_at lw_m5 145 rfl) rfl
theorem q1231 : (Jvm.Cond.selects "ThirdAfter$Purse" ({ cls := "ThirdAfter$Baker", name := "began", desc := "(I)V" } : Jvm.MethodName) ({ cls := "ThirdAfter$Latch", name := "began", desc := "(I)V" } : Jvm.MethodName)) ∈ lw_all := lw_g (lw_at lw_m5 173 rfl) rfl
theorem q1259 : (Jvm.Cond.castable "ThirdAfter$Purse" "ThirdAfter$Comes") ∈ lw_tbl := lw_at lw_m5 201 rfl
theorem q1260 : (Jvm.Cond.selects "ThirdAfter$Purse" ({ cls := "ThirdAfter$Comes", name := "began", desc := "(I)V" } : Jvm.MethodName) ({ cls := "ThirdAfter$Latch", name := "began", desc := "(I)V" } : Jvm.MethodName)) ∈ lw_all := lw_g (lw_at lw_m5 202 rfl) rfl
theorem q1261 : (Jvm.Cond.unhidden "ThirdAfter$Purse" "began" "(I)V") ∈ lw_tbl := lw_at lw_m5 203 rfl
theorem q1284 : (Jvm.Cond.selects "ThirdAfter$Purse" ({ cls := "ThirdAfter$Comes", name := "number", desc := "()I" } : Jvm.MethodName) ({ cls := "ThirdAfter$Latch", name := "number", desc := "()I" } : Jvm.MethodName)) ∈ lw_all := lw_g (lw_at lw_m5 226 rfl) rfl
theorem q1285 : (Jvm.Cond.unhidden "ThirdAfter$Purse" "number" "()I") ∈ lw_tbl := lw_at lw_m5 227 rfl
theorem q1301 : (Jvm.Cond.selects "ThirdAfter$Purse" ({ cls := "ThirdAfter$Comes", name := "comesBy", desc := "(I)I" } : Jvm.MethodName) ({ cls := "ThirdAfter$Baker", name := "comesBy", desc := "(I)I" } : Jvm.MethodName)) ∈ lw_all := lw_g (lw_at lw_m6 3 rfl) rfl
theorem q1302 : (Jvm.Cond.unhidden "ThirdAfter$Purse" "comesBy" "(I)I") ∈ lw_tbl := lw_at lw_m6 4 rfl
theorem q1329 : (Jvm.Cond.castable "ThirdAfter$Purse" "ThirdAfter$Tells") ∈ lw_tbl := lw_at lw_m6 31 rfl
theorem q1330 : (Jvm.Cond.selects "ThirdAfter$Purse" ({ cls := "ThirdAfter$Tells", name := "began", desc := "(I)V" } : Jvm.MethodName) ({ cls := "ThirdAfter$Latch", name := "began", desc := "(I)V" } : Jvm.MethodName)) ∈ lw_all := lw_g (lw_at lw_m6 32 rfl) rfl
theorem q1370 : (Jvm.Cond.selects "ThirdAfter$Purse" ({ cls := "ThirdAfter$Tells", name := "owes", desc := "(I)I" } : Jvm.MethodName) ({ cls := "ThirdAfter$Purse", name := "owes", desc := "(I)I" } : Jvm.MethodName)) ∈ lw_all := lw_g (lw_at lw_m6 72 rfl) rfl
theorem q1371 : (Jvm.Cond.unhidden "ThirdAfter$Purse" "owes" "(I)I") ∈ lw_tbl := lw_at lw_m6 73 rfl
theorem q1372 : (Jvm.Cond.instanceMethod ({ cls := "ThirdAfter$Purse", name := "owes", desc := "(I)I" } : Jvm.MethodName)) ∈ lw_all := lw_g (lw_at lw_m6 74 rfl) rfl
theorem q1373 : (Jvm.Cond.publicMethod ({ cls := "ThirdAfter$Purse", name := "owes", desc := "(I)I" } : Jvm.MethodName)) ∈ lw_tbl := lw_at lw_m6 75 rfl
theorem q1374 : (Jvm.Cond.code ({ cls := "ThirdAfter$Purse", name := "owes", desc := "(I)I" } : Jvm.MethodName) prog_24_method_4_code (3 : Nat) (Option.some Jvm.ClassFile.FieldType.int)) ∈ lw_all := lw_g (lw_at lw_m6 76 rfl) rfl
theorem q1375 : (Jvm.Cond.methodLink "ThirdAfter$Purse" (17 : Nat) ({ cls := "ThirdAfter$Purse", name := "began", desc := "(I)V" } : Jvm.MethodName)) ∈ lw_all := lw_g (lw_at lw_m6 77 rfl) rfl
theorem q1376 : (Jvm.Cond.sameMethod "ThirdAfter$Purse" "ThirdAfter$Latch" "began" "(I)V") ∈ lw_all := lw_g (lw_at lw_m6 78 rfl) rfl
theorem q1377 : (Jvm.Cond.selects "ThirdAfter$Purse" ({ cls := "ThirdAfter$Purse", name := "began", desc := "(I)V" } : Jvm.MethodName) ({ cls := "ThirdAfter$Latch", name := "began", desc := "(I)V" } : Jvm.MethodName)) ∈ lw_all := lw_g (lw_at lw_m6 79 rfl) rfl
theorem q1378 : (Jvm.Cond.methodLink "ThirdAfter$Purse" (21 : Nat) ({ cls := "ThirdAfter$Rent", name := "owes", desc := "(I)I" } : Jvm.MethodName)) ∈ lw_all := lw_g (lw_at lw_m6 80 rfl) rfl
theorem q1381 : (Jvm.Cond.methodLink "ThirdAfter$Purse" (25 : Nat) ({ cls := "ThirdAfter$Purse", name := "paysOut", desc := "(I)I" } : Jvm.MethodName)) ∈ lw_all := lw_g (lw_at lw_m6 83 rfl) rfl
theorem q1382 : (Jvm.Cond.sameMethod "ThirdAfter$Purse" "ThirdAfter$Rent" "paysOut" "(I)I") ∈ lw_all := lw_g (lw_at lw_m6 84 rfl) rfl
theorem q1384 : (Jvm.Cond.selects "ThirdAfter$Purse" ({ cls := "ThirdAfter$Purse", name := "paysOut", desc := "(I)I" } : Jvm.MethodName) ({ cls := "ThirdAfter$Rent", name := "paysOut", desc := "(I)I" } : Jvm.MethodName)) ∈ lw_all := lw_g (lw_at lw_m6 86 rfl) rfl
theorem q1389 : (Jvm.Cond.selects "ThirdAfter$Purse" ({ cls := "ThirdAfter$Rent", name := "began", desc := "(I)V" } : Jvm.MethodName) ({ cls := "ThirdAfter$Latch", name := "began", desc := "(I)V" } : Jvm.MethodName)) ∈ lw_all := lw_g (lw_at lw_m6 91 rfl) rfl
theorem q1399 : (Jvm.Cond.selects "ThirdAfter$Purse" ({ cls := "ThirdAfter$Rent", name := "comesBy", desc := "(I)I" } : Jvm.MethodName) ({ cls := "ThirdAfter$Baker", name := "comesBy", desc := "(I)I" } : Jvm.MethodName)) ∈ lw_all := lw_g (lw_at lw_m6 101 rfl) rfl
theorem q1425 : (Jvm.Cond.selects "ThirdAfter$Purse" ({ cls := "ThirdAfter$Tells", name := "paysOut", desc := "(I)I" } : Jvm.MethodName) ({ cls := "ThirdAfter$Rent", name := "paysOut", desc := "(I)I" } : Jvm.MethodName)) ∈ lw_all := lw_g (lw_at lw_m6 127 rfl) rfl
theorem q1426 : (Jvm.Cond.unhidden "ThirdAfter$Purse" "paysOut" "(I)I") ∈ lw_tbl := lw_at lw_m6 128 rfl
theorem q1442 : (Jvm.Cond.selects "ThirdAfter$Purse" ({ cls := "ThirdAfter$Tells", name := "tells", desc := "(I)I" } : Jvm.MethodName) ({ cls := "ThirdAfter$Purse", name := "tells", desc := "(I)I" } : Jvm.MethodName)) ∈ lw_all := lw_g (lw_at lw_m6 144 rfl) rfl
theorem q1443 : (Jvm.Cond.unhidden "ThirdAfter$Purse" "tells" "(I)I") ∈ lw_tbl := lw_at lw_m6 145 rfl
theorem q1444 : (Jvm.Cond.instanceMethod ({ cls := "ThirdAfter$Purse", name := "tells", desc := "(I)I" } : Jvm.MethodName)) ∈ lw_all := lw_g (lw_at lw_m6 146 rfl) rfl
theorem q1445 : (Jvm.Cond.publicMethod ({ cls := "ThirdAfter$Purse", name := "tells", desc := "(I)I" } : Jvm.MethodName)) ∈ lw_tbl := lw_at lw_m6 147 rfl
theorem q1446 : (Jvm.Cond.code ({ cls := "ThirdAfter$Purse", name := "tells", desc := "(I)I" } : Jvm.MethodName) prog_24_method_5_code (2 : Nat) (Option.some Jvm.ClassFile.FieldType.int)) ∈ lw_all := lw_g (lw_at lw_m6 148 rfl) rfl
theorem q1636 : (Jvm.Cond.selects "ThirdAfter$Purse" ({ cls := "ThirdAfter$Latch", name := "isUnder", desc := "(I)Z" } : Jvm.MethodName) ({ cls := "ThirdAfter$Purse", name := "isUnder", desc := "(I)Z" } : Jvm.MethodName)) ∈ lw_all := lw_g (lw_at lw_m7 98 rfl) rfl
theorem q1637 : (Jvm.Cond.instanceMethod ({ cls := "ThirdAfter$Purse", name := "isUnder", desc := "(I)Z" } : Jvm.MethodName)) ∈ lw_all := lw_g (lw_at lw_m7 99 rfl) rfl
theorem q1638 : (Jvm.Cond.code ({ cls := "ThirdAfter$Purse", name := "isUnder", desc := "(I)Z" } : Jvm.MethodName) prog_24_method_3_code (2 : Nat) (Option.some Jvm.ClassFile.FieldType.boolean)) ∈ lw_all := lw_g (lw_at lw_m7 100 rfl) rfl
theorem q1639 : (Jvm.Cond.methodLink "ThirdAfter$Purse" (13 : Nat) ({ cls := "ThirdAfter$Rent", name := "isUnder", desc := "(I)Z" } : Jvm.MethodName)) ∈ lw_all := lw_g (lw_at lw_m7 101 rfl) rfl
theorem q1663 : (Jvm.Cond.selects "ThirdAfter$Purse" ({ cls := "ThirdAfter$Latch", name := "kind", desc := "()I" } : Jvm.MethodName) ({ cls := "ThirdAfter$Purse", name := "kind", desc := "()I" } : Jvm.MethodName)) ∈ lw_all := lw_g (lw_at lw_m7 125 rfl) rfl
theorem q1664 : (Jvm.Cond.instanceMethod ({ cls := "ThirdAfter$Purse", name := "kind", desc := "()I" } : Jvm.MethodName)) ∈ lw_all := lw_g (lw_at lw_m7 126 rfl) rfl
theorem q1665 : (Jvm.Cond.code ({ cls := "ThirdAfter$Purse", name := "kind", desc := "()I" } : Jvm.MethodName) prog_24_method_2_code (1 : Nat) (Option.some Jvm.ClassFile.FieldType.int)) ∈ lw_all := lw_g (lw_at lw_m7 127 rfl) rfl
theorem q2232 : (Jvm.Cond.selects "ThirdAfter$Purse" ({ cls := "ThirdAfter$Latch", name := "began", desc := "(I)V" } : Jvm.MethodName) ({ cls := "ThirdAfter$Latch", name := "began", desc := "(I)V" } : Jvm.MethodName)) ∈ lw_all := lw_g (lw_at lw_m9 214 rfl) rfl
theorem q2242 : (Jvm.Cond.selects "ThirdAfter$Purse" ({ cls := "ThirdAfter$Latch", name := "owes", desc := "(I)I" } : Jvm.MethodName) ({ cls := "ThirdAfter$Purse", name := "owes", desc := "(I)I" } : Jvm.MethodName)) ∈ lw_all := lw_g (lw_at lw_m9 224 rfl) rfl
theorem q2251 : (Jvm.Cond.selects "ThirdAfter$Purse" ({ cls := "ThirdAfter$Latch", name := "paysOut", desc := "(I)I" } : Jvm.MethodName) ({ cls := "ThirdAfter$Rent", name := "paysOut", desc := "(I)I" } : Jvm.MethodName)) ∈ lw_all := lw_g (lw_at lw_m9 233 rfl) rfl
theorem q2270 : (Jvm.Cond.castable "ThirdAfter$Purse" "ThirdAfter$Latch") ∈ lw_tbl := lw_at lw_m10 12 rfl
theorem q2278 : (Jvm.Cond.castable "ThirdAfter$Purse" "ThirdAfter$Held") ∈ lw_tbl := lw_at lw_m10 20 rfl
theorem in_X22 : ∀ w ∈ wsX220, w ∈ lw_all := lw_in wsX220 [1201, 1202, 1200, 1199, 1197] (by decide +kernel) (by decide +kernel)
/-! ThirdAfter$Row -/
def RX23 : String := "ThirdAfter$Row"
abbrev cX23_init : ByteArray := prog_27_method_1_code
def yX23_init : MethodName := ⟨RX23, "<init>", "()V"⟩
theorem q138 : (Jvm.Cond.initialized "ThirdAfter$Row") ∈ lw_all := lw_g (lw_at lw_m1 40 rfl) rfl
theorem q1484 : (Jvm.Cond.instanceMethod ({ cls := "ThirdAfter$Row", name := "<init>", desc := "()V" } : Jvm.MethodName)) ∈ lw_all := lw_g (lw_at lw_m6 186 rfl) rfl
theorem q1485 : (Jvm.Cond.code ({ cls := "ThirdAfter$Row", name := "<init>", desc := "()V" } : Jvm.MethodName) prog_27_method_1_code (1 : Nat) (Option.none : Option Jvm.ClassFile.FieldType)) ∈ lw_all := lw_g (lw_at lw_m6 187 rfl) rfl
theorem q1486 : (Jvm.Cond.methodLinkNest "ThirdAfter$Row" (1 : Nat) ({ cls := "ThirdAfter$Held", name := "<init>", desc := "()V" } : Jvm.MethodName) "ThirdAfter") ∈ lw_tbl := lw_at lw_m6 188 rfl
theorem q1539 : (Jvm.Cond.declares ({ cls := "ThirdAfter$Row", name := "put", desc := "(IJ)Z" } : Jvm.MethodName)) ∈ lw_tbl := lw_at lw_m7 1 rfl
theorem q1540 : (Jvm.Cond.sameMethod "ThirdAfter$Row" "ThirdAfter$Row" "put" "(IJ)Z") ∈ lw_all := lw_g (lw_at lw_m7 2 rfl) rfl
theorem q1562 : (Jvm.Cond.declares ({ cls := "ThirdAfter$Row", name := "at", desc := "(I)J" } : Jvm.MethodName)) ∈ lw_tbl := lw_at lw_m7 24 rfl
theorem q1563 : (Jvm.Cond.sameMethod "ThirdAfter$Row" "ThirdAfter$Row" "at" "(I)J") ∈ lw_all := lw_g (lw_at lw_m7 25 rfl) rfl
theorem q1580 : (Jvm.Cond.declares ({ cls := "ThirdAfter$Row", name := "copy", desc := "(ILThirdAfter$Row;II)V" } : Jvm.MethodName)) ∈ lw_tbl := lw_at lw_m7 42 rfl
theorem q1581 : (Jvm.Cond.sameMethod "ThirdAfter$Row" "ThirdAfter$Row" "copy" "(ILThirdAfter$Row;II)V") ∈ lw_all := lw_g (lw_at lw_m7 43 rfl) rfl
/-! ThirdAfter$ByteRow -/
def RX24 : String := "ThirdAfter$ByteRow"
def TX24 : u_T := fun k => match k with
  | _ => ("ThirdAfter$ByteRow", "items", "[B", true)
def tyX24 : Nat → FieldType := fun k => match k with
  | _ => .array .byte
abbrev wsX240 : List Cond := u_ws RX24 TX24 1
theorem nmX24 : ∀ a, a < 1 → ∀ b, b < 1 → a ≠ b → (TX24 a).2.1 ≠ (TX24 b).2.1 := by decide +kernel
theorem tyX24_ok : ∀ k, k < 1 → parseFieldDescriptor (TX24 k).2.2.1 = some (tyX24 k) := by decide +kernel
abbrev cX24_size : ByteArray := prog_5_method_3_code
def yX24_size : MethodName := ⟨RX24, "size", "()I"⟩
abbrev cX24_at : ByteArray := prog_5_method_4_code
def yX24_at : MethodName := ⟨RX24, "at", "(I)J"⟩
abbrev cX24_init : ByteArray := prog_5_method_1_code
def yX24_init : MethodName := ⟨RX24, "<init>", "(I)V"⟩
abbrev cX24_put : ByteArray := prog_5_method_5_code
def yX24_put : MethodName := ⟨RX24, "put", "(IJ)Z"⟩
abbrev cX24_copy : ByteArray := prog_5_method_6_code
def yX24_copy : MethodName := ⟨RX24, "copy", "(ILThirdAfter$Row;II)V"⟩
theorem q139 : (Jvm.Cond.initialized "ThirdAfter$ByteRow") ∈ lw_all := lw_g (lw_at lw_m1 41 rfl) rfl
theorem q857 : (Jvm.Cond.instanceMethod ({ cls := "ThirdAfter$ByteRow", name := "size", desc := "()I" } : Jvm.MethodName)) ∈ lw_all := lw_g (lw_at lw_m4 39 rfl) rfl
theorem q858 : (Jvm.Cond.selects "ThirdAfter$ByteRow" ({ cls := "ThirdAfter$ByteRow", name := "size", desc := "()I" } : Jvm.MethodName) ({ cls := "ThirdAfter$ByteRow", name := "size", desc := "()I" } : Jvm.MethodName)) ∈ lw_all := lw_g (lw_at lw_m4 40 rfl) rfl
theorem q859 : (Jvm.Cond.code ({ cls := "ThirdAfter$ByteRow", name := "size", desc := "()I" } : Jvm.MethodName) prog_5_method_3_code (1 : Nat) (Option.some Jvm.ClassFile.FieldType.int)) ∈ lw_all := lw_g (lw_at lw_m4 41 rfl) rfl
theorem q861 : (Jvm.Cond.instanceMethod ({ cls := "ThirdAfter$ByteRow", name := "at", desc := "(I)J" } : Jvm.MethodName)) ∈ lw_all := lw_g (lw_at lw_m4 43 rfl) rfl
theorem q862 : (Jvm.Cond.selects "ThirdAfter$ByteRow" ({ cls := "ThirdAfter$ByteRow", name := "at", desc := "(I)J" } : Jvm.MethodName) ({ cls := "ThirdAfter$ByteRow", name := "at", desc := "(I)J" } : Jvm.MethodName)) ∈ lw_all := lw_g (lw_at lw_m4 44 rfl) rfl
theorem q863 : (Jvm.Cond.code ({ cls := "ThirdAfter$ByteRow", name := "at", desc := "(I)J" } : Jvm.MethodName) prog_5_method_4_code (2 : Nat) (Option.some Jvm.ClassFile.FieldType.long)) ∈ lw_all := lw_g (lw_at lw_m4 45 rfl) rfl
theorem q1479 : (Jvm.Cond.instantiable "ThirdAfter$ByteRow" (1 : Nat)) ∈ lw_all := lw_g (lw_at lw_m6 181 rfl) rfl
theorem q1481 : (Jvm.Cond.instanceMethod ({ cls := "ThirdAfter$ByteRow", name := "<init>", desc := "(I)V" } : Jvm.MethodName)) ∈ lw_all := lw_g (lw_at lw_m6 183 rfl) rfl
theorem q1482 : (Jvm.Cond.code ({ cls := "ThirdAfter$ByteRow", name := "<init>", desc := "(I)V" } : Jvm.MethodName) prog_5_method_1_code (2 : Nat) (Option.none : Option Jvm.ClassFile.FieldType)) ∈ lw_all := lw_g (lw_at lw_m6 184 rfl) rfl
theorem q1483 : (Jvm.Cond.methodLinkNest "ThirdAfter$ByteRow" (1 : Nat) ({ cls := "ThirdAfter$Row", name := "<init>", desc := "()V" } : Jvm.MethodName) "ThirdAfter") ∈ lw_tbl := lw_at lw_m6 185 rfl
theorem q1487 : (Jvm.Cond.fieldLink "ThirdAfter$ByteRow" (7 : Nat) "ThirdAfter$ByteRow" "items" "[B") ∈ lw_all := lw_g (lw_at lw_m6 189 rfl) rfl
theorem q1488 : (Jvm.Cond.laysFinal "ThirdAfter$ByteRow" "ThirdAfter$ByteRow" "items" "[B") ∈ lw_all := lw_g (lw_at lw_m6 190 rfl) rfl
theorem q1489 : (Jvm.Cond.soleField "ThirdAfter$ByteRow" "items") ∈ lw_all := lw_g (lw_at lw_m6 191 rfl) rfl
theorem q1490 : (Jvm.Cond.superclass "ThirdAfter$ByteRow" "ThirdAfter$Row") ∈ lw_all := lw_g (lw_at lw_m6 192 rfl) rfl
theorem q1544 : (Jvm.Cond.selects "ThirdAfter$ByteRow" ({ cls := "ThirdAfter$Row", name := "put", desc := "(IJ)Z" } : Jvm.MethodName) ({ cls := "ThirdAfter$ByteRow", name := "put", desc := "(IJ)Z" } : Jvm.MethodName)) ∈ lw_all := lw_g (lw_at lw_m7 6 rfl) rfl
theorem q1545 : (Jvm.Cond.instanceMethod ({ cls := "ThirdAfter$ByteRow", name := "put", desc := "(IJ)Z" } : Jvm.MethodName)) ∈ lw_all := lw_g (lw_at lw_m7 7 rfl) rfl
theorem q1546 : (Jvm.Cond.code ({ cls := "ThirdAfter$ByteRow", name := "put", desc := "(IJ)Z" } : Jvm.MethodName) prog_5_method_5_code (4 : Nat) (Option.some Jvm.ClassFile.FieldType.boolean)) ∈ lw_all := lw_g (lw_at lw_m7 8 rfl) rfl
theorem q1567 : (Jvm.Cond.selects "ThirdAfter$ByteRow" ({ cls := "ThirdAfter$Row", name := "at", desc := "(I)J" } : Jvm.MethodName) ({ cls := "ThirdAfter$ByteRow", name := "at", desc := "(I)J" } : Jvm.MethodName)) ∈ lw_all := lw_g (lw_at lw_m7 29 rfl) rfl
theorem q1587 : (Jvm.Cond.selects "ThirdAfter$ByteRow" ({ cls := "ThirdAfter$Row", name := "copy", desc := "(ILThirdAfter$Row;II)V" } : Jvm.MethodName) ({ cls := "ThirdAfter$ByteRow", name := "copy", desc := "(ILThirdAfter$Row;II)V" } : Jvm.MethodName)) ∈ lw_all := lw_g (lw_at lw_m7 49 rfl) rfl
theorem q1588 : (Jvm.Cond.instanceMethod ({ cls := "ThirdAfter$ByteRow", name := "copy", desc := "(ILThirdAfter$Row;II)V" } : Jvm.MethodName)) ∈ lw_all := lw_g (lw_at lw_m7 50 rfl) rfl
theorem q1589 : (Jvm.Cond.code ({ cls := "ThirdAfter$ByteRow", name := "copy", desc := "(ILThirdAfter$Row;II)V" } : Jvm.MethodName) prog_5_method_6_code (5 : Nat) (Option.none : Option Jvm.ClassFile.FieldType)) ∈ lw_all := lw_g (lw_at lw_m7 51 rfl) rfl
theorem q1590 : (Jvm.Cond.classLink "ThirdAfter$ByteRow" (8 : Nat) "ThirdAfter$ByteRow") ∈ lw_all := lw_g (lw_at lw_m7 52 rfl) rfl
theorem q1591 : (Jvm.Cond.methodLink "ThirdAfter$ByteRow" (13 : Nat) ({ cls := "java/lang/System", name := "arraycopy", desc := "(Ljava/lang/Object;ILjava/lang/Object;II)V" } : Jvm.MethodName)) ∈ lw_all := lw_g (lw_at lw_m7 53 rfl) rfl
theorem q2261 : (Jvm.Cond.castable "ThirdAfter$ByteRow" "ThirdAfter$Row") ∈ lw_tbl := lw_at lw_m10 3 rfl
theorem q2280 : (Jvm.Cond.castable "ThirdAfter$ByteRow" "ThirdAfter$Held") ∈ lw_tbl := lw_at lw_m10 22 rfl
theorem in_X24 : ∀ w ∈ wsX240, w ∈ lw_all := lw_in wsX240 [1488] (by decide +kernel) (by decide +kernel)
/-! ThirdAfter$ShortRow -/
def RX25 : String := "ThirdAfter$ShortRow"
def TX25 : u_T := fun k => match k with
  | _ => ("ThirdAfter$ShortRow", "items", "[S", true)
def tyX25 : Nat → FieldType := fun k => match k with
  | _ => .array .short
abbrev wsX250 : List Cond := u_ws RX25 TX25 1
theorem nmX25 : ∀ a, a < 1 → ∀ b, b < 1 → a ≠ b → (TX25 a).2.1 ≠ (TX25 b).2.1 := by decide +kernel
theorem tyX25_ok : ∀ k, k < 1 → parseFieldDescriptor (TX25 k).2.2.1 = some (tyX25 k) := by decide +kernel
abbrev cX25_at : ByteArray := prog_28_method_4_code
def yX25_at : MethodName := ⟨RX25, "at", "(I)J"⟩
abbrev cX25_init : ByteArray := prog_28_method_1_code
def yX25_init : MethodName := ⟨RX25, "<init>", "(I)V"⟩
abbrev cX25_put : ByteArray := prog_28_method_5_code
def yX25_put : MethodName := ⟨RX25, "put", "(IJ)Z"⟩
abbrev cX25_copy : ByteArray := prog_28_method_6_code
def yX25_copy : MethodName := ⟨RX25, "copy", "(ILThirdAfter$Row;II)V"⟩
theorem q140 : (Jvm.Cond.initialized "ThirdAfter$ShortRow") ∈ lw_all := lw_g (lw_at lw_m1 42 rfl) rfl
theorem q318 : (Jvm.Cond.instanceMethod ({ cls := "ThirdAfter$ShortRow", name := "at", desc := "(I)J" } : Jvm.MethodName)) ∈ lw_all := lw_g (lw_at lw_m1 220 rfl) rfl
theorem q319 : (Jvm.Cond.selects "ThirdAfter$ShortRow" ({ cls := "ThirdAfter$ShortRow", name := "at", desc := "(I)J" } : Jvm.MethodName) ({ cls := "ThirdAfter$ShortRow", name := "at", desc := "(I)J" } : Jvm.MethodName)) ∈ lw_all := lw_g (lw_at lw_m1 221 rfl) rfl
theorem q320 : (Jvm.Cond.code ({ cls := "ThirdAfter$ShortRow", name := "at", desc := "(I)J" } : Jvm.MethodName) prog_28_method_4_code (2 : Nat) (Option.some Jvm.ClassFile.FieldType.long)) ∈ lw_all := lw_g (lw_at lw_m1 222 rfl) rfl
theorem q1491 : (Jvm.Cond.instantiable "ThirdAfter$ShortRow" (1 : Nat)) ∈ lw_all := lw_g (lw_at lw_m6 193 rfl) rfl
theorem q1493 : (Jvm.Cond.instanceMethod ({ cls := "ThirdAfter$ShortRow", name := "<init>", desc := "(I)V" } : Jvm.MethodName)) ∈ lw_all := lw_g (lw_at lw_m6 195 rfl) rfl
theorem q1494 : (Jvm.Cond.code ({ cls := "ThirdAfter$ShortRow", name := "<init>", desc := "(I)V" } : Jvm.MethodName) prog_28_method_1_code (2 : Nat) (Option.none : Option Jvm.ClassFile.FieldType)) ∈ lw_all := lw_g (lw_at lw_m6 196 rfl) rfl
theorem q1495 : (Jvm.Cond.methodLinkNest "ThirdAfter$ShortRow" (1 : Nat) ({ cls := "ThirdAfter$Row", name := "<init>", desc := "()V" } : Jvm.MethodName) "ThirdAfter") ∈ lw_tbl := lw_at lw_m6 197 rfl
theorem q1496 : (Jvm.Cond.fieldLink "ThirdAfter$ShortRow" (7 : Nat) "ThirdAfter$ShortRow" "items" "[S") ∈ lw_all := lw_g (lw_at lw_m6 198 rfl) rfl
theorem q1497 : (Jvm.Cond.laysFinal "ThirdAfter$ShortRow" "ThirdAfter$ShortRow" "items" "[S") ∈ lw_all := lw_g (lw_at lw_m6 199 rfl) rfl
theorem q1498 : (Jvm.Cond.soleField "ThirdAfter$ShortRow" "items") ∈ lw_all := lw_g (lw_at lw_m6 200 rfl) rfl
theorem q1499 : (Jvm.Cond.superclass "ThirdAfter$ShortRow" "ThirdAfter$Row") ∈ lw_all := lw_g (lw_at lw_m6 201 rfl) rfl
theorem q1553 : (Jvm.Cond.selects "ThirdAfter$ShortRow" ({ cls := "ThirdAfter$Row", name := "put", desc := "(IJ)Z" } : Jvm.MethodName) ({ cls := "ThirdAfter$ShortRow", name := "put", desc := "(IJ)Z" } : Jvm.MethodName)) ∈ lw_all := lw_g (lw_at lw_m7 15 rfl) rfl
theorem q1554 : (Jvm.Cond.instanceMethod ({ cls := "ThirdAfter$ShortRow", name := "put", desc := "(IJ)Z" } : Jvm.MethodName)) ∈ lw_all := lw_g (lw_at lw_m7 16 rfl) rfl
theorem q1555 : (Jvm.Cond.code ({ cls := "ThirdAfter$ShortRow", name := "put", desc := "(IJ)Z" } : Jvm.MethodName) prog_28_method_5_code (4 : Nat) (Option.some Jvm.ClassFile.FieldType.boolean)) ∈ lw_all := lw_g (lw_at lw_m7 17 rfl) rfl
theorem q1574 : (Jvm.Cond.selects "ThirdAfter$ShortRow" ({ cls := "ThirdAfter$Row", name := "at", desc := "(I)J" } : Jvm.MethodName) ({ cls := "ThirdAfter$ShortRow", name := "at", desc := "(I)J" } : Jvm.MethodName)) ∈ lw_all := lw_g (lw_at lw_m7 36 rfl) rfl
theorem q1602 : (Jvm.Cond.selects "ThirdAfter$ShortRow" ({ cls := "ThirdAfter$Row", name := "copy", desc := "(ILThirdAfter$Row;II)V" } : Jvm.MethodName) ({ cls := "ThirdAfter$ShortRow", name := "copy", desc := "(ILThirdAfter$Row;II)V" } : Jvm.MethodName)) ∈ lw_all := lw_g (lw_at lw_m7 64 rfl) rfl
theorem q1603 : (Jvm.Cond.instanceMethod ({ cls := "ThirdAfter$ShortRow", name := "copy", desc := "(ILThirdAfter$Row;II)V" } : Jvm.MethodName)) ∈ lw_all := lw_g (lw_at lw_m7 65 rfl) rfl
theorem q1604 : (Jvm.Cond.code ({ cls := "ThirdAfter$ShortRow", name := "copy", desc := "(ILThirdAfter$Row;II)V" } : Jvm.MethodName) prog_28_method_6_code (5 : Nat) (Option.none : Option Jvm.ClassFile.FieldType)) ∈ lw_all := lw_g (lw_at lw_m7 66 rfl) rfl
theorem q1605 : (Jvm.Cond.classLink "ThirdAfter$ShortRow" (8 : Nat) "ThirdAfter$ShortRow") ∈ lw_all := lw_g (lw_at lw_m7 67 rfl) rfl
theorem q1606 : (Jvm.Cond.methodLink "ThirdAfter$ShortRow" (13 : Nat) ({ cls := "java/lang/System", name := "arraycopy", desc := "(Ljava/lang/Object;ILjava/lang/Object;II)V" } : Jvm.MethodName)) ∈ lw_all := lw_g (lw_at lw_m7 68 rfl) rfl
theorem q2264 : (Jvm.Cond.castable "ThirdAfter$ShortRow" "ThirdAfter$Row") ∈ lw_tbl := lw_at lw_m10 6 rfl
theorem q2281 : (Jvm.Cond.castable "ThirdAfter$ShortRow" "ThirdAfter$Held") ∈ lw_tbl := lw_at lw_m10 23 rfl
theorem in_X25 : ∀ w ∈ wsX250, w ∈ lw_all := lw_in wsX250 [1497] (by decide +kernel) (by decide +kernel)
/-! ThirdAfter$IntRow -/
def RX26 : String := "ThirdAfter$IntRow"
def TX26 : u_T := fun k => match k with
  | _ => ("ThirdAfter$IntRow", "items", "[I", true)
def tyX26 : Nat → FieldType := fun k => match k with
  | _ => .array .int
abbrev wsX260 : List Cond := u_ws RX26 TX26 1
theorem nmX26 : ∀ a, a < 1 → ∀ b, b < 1 → a ≠ b → (TX26 a).2.1 ≠ (TX26 b).2.1 := by decide +kernel
theorem tyX26_ok : ∀ k, k < 1 → parseFieldDescriptor (TX26 k).2.2.1 = some (tyX26 k) := by decide +kernel
abbrev cX26_init : ByteArray := prog_14_method_1_code
def yX26_init : MethodName := ⟨RX26, "<init>", "(I)V"⟩
abbrev cX26_put : ByteArray := prog_14_method_5_code
def yX26_put : MethodName := ⟨RX26, "put", "(IJ)Z"⟩
abbrev cX26_at : ByteArray := prog_14_method_4_code
def yX26_at : MethodName := ⟨RX26, "at", "(I)J"⟩
abbrev cX26_copy : ByteArray := prog_14_method_6_code
def yX26_copy : MethodName := ⟨RX26, "copy", "(ILThirdAfter$Row;II)V"⟩
theorem q141 : (Jvm.Cond.initialized "ThirdAfter$IntRow") ∈ lw_all := lw_g (lw_at lw_m1 43 rfl) rfl
theorem q1502 : (Jvm.Cond.instantiable "ThirdAfter$IntRow" (1 : Nat)) ∈ lw_all := lw_g (lw_at lw_m6 204 rfl) rfl
theorem q1504 : (Jvm.Cond.instanceMethod ({ cls := "ThirdAfter$IntRow", name := "<init>", desc := "(I)V" } : Jvm.MethodName)) ∈ lw_all := lw_g (lw_at lw_m6 206 rfl) rfl
theorem q1505 : (Jvm.Cond.code ({ cls := "ThirdAfter$IntRow", name := "<init>", desc := "(I)V" } : Jvm.MethodName) prog_14_method_1_code (2 : Nat) (Option.none : Option Jvm.ClassFile.FieldType)) ∈ lw_all := lw_g (lw_at lw_m6 207 rfl) rfl
theorem q1506 : (Jvm.Cond.methodLinkNest "ThirdAfter$IntRow" (1 : Nat) ({ cls := "ThirdAfter$Row", name := "<init>", desc := "()V" } : Jvm.MethodName) "ThirdAfter") ∈ lw_tbl := lw_at lw_m6 208 rfl
theorem q1507 : (Jvm.Cond.fieldLink "ThirdAfter$IntRow" (7 : Nat) "ThirdAfter$IntRow" "items" "[I") ∈ lw_all := lw_g (lw_at lw_m6 209 rfl) rfl
theorem q1508 : (Jvm.Cond.laysFinal "ThirdAfter$IntRow" "ThirdAfter$IntRow" "items" "[I") ∈ lw_all := lw_g (lw_at lw_m6 210 rfl) rfl
theorem q1509 : (Jvm.Cond.soleField "ThirdAfter$IntRow" "items") ∈ lw_all := lw_g (lw_at lw_m6 211 rfl) rfl
theorem q1510 : (Jvm.Cond.superclass "ThirdAfter$IntRow" "ThirdAfter$Row") ∈ lw_all := lw_g (lw_at lw_m6 212 rfl) rfl
theorem q1547 : (Jvm.Cond.selects "ThirdAfter$IntRow" ({ cls := "ThirdAfter$Row", name := "put", desc := "(IJ)Z" } : Jvm.MethodName) ({ cls := "ThirdAfter$IntRow", name := "put", desc := "(IJ)Z" } : Jvm.MethodName)) ∈ lw_all := lw_g (lw_at lw_m7 9 rfl) rfl
theorem q1548 : (Jvm.Cond.instanceMethod ({ cls := "ThirdAfter$IntRow", name := "put", desc := "(IJ)Z" } : Jvm.MethodName)) ∈ lw_all := lw_g (lw_at lw_m7 10 rfl) rfl
theorem q1549 : (Jvm.Cond.code ({ cls := "ThirdAfter$IntRow", name := "put", desc := "(IJ)Z" } : Jvm.MethodName) prog_14_method_5_code (4 : Nat) (Option.some Jvm.ClassFile.FieldType.boolean)) ∈ lw_all := lw_g (lw_at lw_m7 11 rfl) rfl
theorem q1568 : (Jvm.Cond.selects "ThirdAfter$IntRow" ({ cls := "ThirdAfter$Row", name := "at", desc := "(I)J" } : Jvm.MethodName) ({ cls := "ThirdAfter$IntRow", name := "at", desc := "(I)J" } : Jvm.MethodName)) ∈ lw_all := lw_g (lw_at lw_m7 30 rfl) rfl
theorem q1569 : (Jvm.Cond.instanceMethod ({ cls := "ThirdAfter$IntRow", name := "at", desc := "(I)J" } : Jvm.MethodName)) ∈ lw_all := lw_g (lw_at lw_m7 31 rfl) rfl
theorem q1570 : (Jvm.Cond.code ({ cls := "ThirdAfter$IntRow", name := "at", desc := "(I)J" } : Jvm.MethodName) prog_14_method_4_code (2 : Nat) (Option.some Jvm.ClassFile.FieldType.long)) ∈ lw_all := lw_g (lw_at lw_m7 32 rfl) rfl
theorem q1592 : (Jvm.Cond.selects "ThirdAfter$IntRow" ({ cls := "ThirdAfter$Row", name := "copy", desc := "(ILThirdAfter$Row;II)V" } : Jvm.MethodName) ({ cls := "ThirdAfter$IntRow", name := "copy", desc := "(ILThirdAfter$Row;II)V" } : Jvm.MethodName)) ∈ lw_all := lw_g (lw_at lw_m7 54 rfl) rfl
theorem q1593 : (Jvm.Cond.instanceMethod ({ cls := "ThirdAfter$IntRow", name := "copy", desc := "(ILThirdAfter$Row;II)V" } : Jvm.MethodName)) ∈ lw_all := lw_g (lw_at lw_m7 55 rfl) rfl
theorem q1594 : (Jvm.Cond.code ({ cls := "ThirdAfter$IntRow", name := "copy", desc := "(ILThirdAfter$Row;II)V" } : Jvm.MethodName) prog_14_method_6_code (5 : Nat) (Option.none : Option Jvm.ClassFile.FieldType)) ∈ lw_all := lw_g (lw_at lw_m7 56 rfl) rfl
theorem q1595 : (Jvm.Cond.classLink "ThirdAfter$IntRow" (8 : Nat) "ThirdAfter$IntRow") ∈ lw_all := lw_g (lw_at lw_m7 57 rfl) rfl
theorem q1596 : (Jvm.Cond.methodLink "ThirdAfter$IntRow" (13 : Nat) ({ cls := "java/lang/System", name := "arraycopy", desc := "(Ljava/lang/Object;ILjava/lang/Object;II)V" } : Jvm.MethodName)) ∈ lw_all := lw_g (lw_at lw_m7 58 rfl) rfl
theorem q2262 : (Jvm.Cond.castable "ThirdAfter$IntRow" "ThirdAfter$Row") ∈ lw_tbl := lw_at lw_m10 4 rfl
theorem q2282 : (Jvm.Cond.castable "ThirdAfter$IntRow" "ThirdAfter$Held") ∈ lw_tbl := lw_at lw_m10 24 rfl
theorem in_X26 : ∀ w ∈ wsX260, w ∈ lw_all := lw_in wsX260 [1508] (by decide +kernel) (by decide +kernel)
/-! ThirdAfter$LongRow -/
def RX27 : String := "ThirdAfter$LongRow"
def TX27 : u_T := fun k => match k with
  | _ => ("ThirdAfter$LongRow", "items", "[J", true)
def tyX27 : Nat → FieldType := fun k => match k with
  | _ => .array .long
abbrev wsX270 : List Cond := u_ws RX27 TX27 1
theorem nmX27 : ∀ a, a < 1 → ∀ b, b < 1 → a ≠ b → (TX27 a).2.1 ≠ (TX27 b).2.1 := by decide +kernel
theorem tyX27_ok : ∀ k, k < 1 → parseFieldDescriptor (TX27 k).2.2.1 = some (tyX27 k) := by decide +kernel
abbrev cX27_init : ByteArray := prog_18_method_1_code
def yX27_init : MethodName := ⟨RX27, "<init>", "(I)V"⟩
abbrev cX27_put : ByteArray := prog_18_method_5_code
def yX27_put : MethodName := ⟨RX27, "put", "(IJ)Z"⟩
abbrev cX27_at : ByteArray := prog_18_method_4_code
def yX27_at : MethodName := ⟨RX27, "at", "(I)J"⟩
abbrev cX27_copy : ByteArray := prog_18_method_6_code
def yX27_copy : MethodName := ⟨RX27, "copy", "(ILThirdAfter$Row;II)V"⟩
theorem q142 : (Jvm.Cond.initialized "ThirdAfter$LongRow") ∈ lw_all := lw_g (lw_at lw_m1 44 rfl) rfl
theorem q1512 : (Jvm.Cond.instantiable "ThirdAfter$LongRow" (1 : Nat)) ∈ lw_all := lw_g (lw_at lw_m6 214 rfl) rfl
theorem q1514 : (Jvm.Cond.instanceMethod ({ cls := "ThirdAfter$LongRow", name := "<init>", desc := "(I)V" } : Jvm.MethodName)) ∈ lw_all := lw_g (lw_at lw_m6 216 rfl) rfl
theorem q1515 : (Jvm.Cond.code ({ cls := "ThirdAfter$LongRow", name := "<init>", desc := "(I)V" } : Jvm.MethodName) prog_18_method_1_code (2 : Nat) (Option.none : Option Jvm.ClassFile.FieldType)) ∈ lw_all := lw_g (lw_at lw_m6 217 rfl) rfl
theorem q1516 : (Jvm.Cond.methodLinkNest "ThirdAfter$LongRow" (1 : Nat) ({ cls := "ThirdAfter$Row", name := "<init>", desc := "()V" } : Jvm.MethodName) "ThirdAfter") ∈ lw_tbl := lw_at lw_m6 218 rfl
theorem q1517 : (Jvm.Cond.fieldLink "ThirdAfter$LongRow" (7 : Nat) "ThirdAfter$LongRow" "items" "[J") ∈ lw_all := lw_g (lw_at lw_m6 219 rfl) rfl
theorem q1518 : (Jvm.Cond.laysFinal "ThirdAfter$LongRow" "ThirdAfter$LongRow" "items" "[J") ∈ lw_all := lw_g (lw_at lw_m6 220 rfl) rfl
theorem q1519 : (Jvm.Cond.soleField "ThirdAfter$LongRow" "items") ∈ lw_all := lw_g (lw_at lw_m6 221 rfl) rfl
theorem q1520 : (Jvm.Cond.superclass "ThirdAfter$LongRow" "ThirdAfter$Row") ∈ lw_all := lw_g (lw_at lw_m6 222 rfl) rfl
theorem q1550 : (Jvm.Cond.selects "ThirdAfter$LongRow" ({ cls := "ThirdAfter$Row", name := "put", desc := "(IJ)Z" } : Jvm.MethodName) ({ cls := "ThirdAfter$LongRow", name := "put", desc := "(IJ)Z" } : Jvm.MethodName)) ∈ lw_all := lw_g (lw_at lw_m7 12 rfl) rfl
theorem q1551 : (Jvm.Cond.instanceMethod ({ cls := "ThirdAfter$LongRow", name := "put", desc := "(IJ)Z" } : Jvm.MethodName)) ∈ lw_all := lw_g (lw_at lw_m7 13 rfl) rfl
theorem q1552 : (Jvm.Cond.code ({ cls := "ThirdAfter$LongRow", name := "put", desc := "(IJ)Z" } : Jvm.MethodName) prog_18_method_5_code (4 : Nat) (Option.some Jvm.ClassFile.FieldType.boolean)) ∈ lw_all := lw_g (lw_at lw_m7 14 rfl) rfl
theorem q1571 : (Jvm.Cond.selects "ThirdAfter$LongRow" ({ cls := "ThirdAfter$Row", name := "at", desc := "(I)J" } : Jvm.MethodName) ({ cls := "ThirdAfter$LongRow", name := "at", desc := "(I)J" } : Jvm.MethodName)) ∈ lw_all := lw_g (lw_at lw_m7 33 rfl) rfl
theorem q1572 : (Jvm.Cond.instanceMethod ({ cls := "ThirdAfter$LongRow", name := "at", desc := "(I)J" } : Jvm.MethodName)) ∈ lw_all := lw_g (lw_at lw_m7 34 rfl) rfl
theorem q1573 : (Jvm.Cond.code ({ cls := "ThirdAfter$LongRow", name := "at", desc := "(I)J" } : Jvm.MethodName) prog_18_method_4_code (2 : Nat) (Option.some Jvm.ClassFile.FieldType.long)) ∈ lw_all := lw_g (lw_at lw_m7 35 rfl) rfl
theorem q1597 : (Jvm.Cond.selects "ThirdAfter$LongRow" ({ cls := "ThirdAfter$Row", name := "copy", desc := "(ILThirdAfter$Row;II)V" } : Jvm.MethodName) ({ cls := "ThirdAfter$LongRow", name := "copy", desc := "(ILThirdAfter$Row;II)V" } : Jvm.MethodName)) ∈ lw_all := lw_g (lw_at lw_m7 59 rfl) rfl
theorem q1598 : (Jvm.Cond.instanceMethod ({ cls := "ThirdAfter$LongRow", name := "copy", desc := "(ILThirdAfter$Row;II)V" } : Jvm.MethodName)) ∈ lw_all := lw_g (lw_at lw_m7 60 rfl) rfl
theorem q1599 : (Jvm.Cond.code ({ cls := "ThirdAfter$LongRow", name := "copy", desc := "(ILThirdAfter$Row;II)V" } : Jvm.MethodName) prog_18_method_6_code (5 : Nat) (Option.none : Option Jvm.ClassFile.FieldType)) ∈ lw_all := lw_g (lw_at lw_m7 61 rfl) rfl
theorem q1600 : (Jvm.Cond.classLink "ThirdAfter$LongRow" (8 : Nat) "ThirdAfter$LongRow") ∈ lw_all := lw_g (lw_at lw_m7 62 rfl) rfl
theorem q1601 : (Jvm.Cond.methodLink "ThirdAfter$LongRow" (13 : Nat) ({ cls := "java/lang/System", name := "arraycopy", desc := "(Ljava/lang/Object;ILjava/lang/Object;II)V" } : Jvm.MethodName)) ∈ lw_all := lw_g (lw_at lw_m7 63 rfl) rfl
theorem q2263 : (Jvm.Cond.castable "ThirdAfter$LongRow" "ThirdAfter$Row") ∈ lw_tbl := lw_at lw_m10 5 rfl
theorem q2283 : (Jvm.Cond.castable "ThirdAfter$LongRow" "ThirdAfter$Held") ∈ lw_tbl := lw_at lw_m10 25 rfl
theorem in_X27 : ∀ w ∈ wsX270, w ∈ lw_all := lw_in wsX270 [1518] (by decide +kernel) (by decide +kernel)
/-! ThirdAfter$BooleanRow -/
def RX28 : String := "ThirdAfter$BooleanRow"
def TX28 : u_T := fun k => match k with
  | _ => ("ThirdAfter$BooleanRow", "items", "[Z", true)
def tyX28 : Nat → FieldType := fun k => match k with
  | _ => .array .boolean
abbrev wsX280 : List Cond := u_ws RX28 TX28 1
theorem nmX28 : ∀ a, a < 1 → ∀ b, b < 1 → a ≠ b → (TX28 a).2.1 ≠ (TX28 b).2.1 := by decide +kernel
theorem tyX28_ok : ∀ k, k < 1 → parseFieldDescriptor (TX28 k).2.2.1 = some (tyX28 k) := by decide +kernel
abbrev cX28_init : ByteArray := prog_3_method_1_code
def yX28_init : MethodName := ⟨RX28, "<init>", "(I)V"⟩
abbrev cX28_put : ByteArray := prog_3_method_5_code
def yX28_put : MethodName := ⟨RX28, "put", "(IJ)Z"⟩
abbrev cX28_at : ByteArray := prog_3_method_4_code
def yX28_at : MethodName := ⟨RX28, "at", "(I)J"⟩
abbrev cX28_copy : ByteArray := prog_3_method_6_code
def yX28_copy : MethodName := ⟨RX28, "copy", "(ILThirdAfter$Row;II)V"⟩
theorem q143 : (Jvm.Cond.initialized "ThirdAfter$BooleanRow") ∈ lw_all := lw_g (lw_at lw_m1 45 rfl) rfl
theorem q1523 : (Jvm.Cond.instantiable "ThirdAfter$BooleanRow" (1 : Nat)) ∈ lw_all := lw_g (lw_at lw_m6 225 rfl) rfl
theorem q1525 : (Jvm.Cond.instanceMethod ({ cls := "ThirdAfter$BooleanRow", name := "<init>", desc := "(I)V" } : Jvm.MethodName)) ∈ lw_all := lw_g (lw_at lw_m6 227 rfl) rfl
theorem q1526 : (Jvm.Cond.code ({ cls := "ThirdAfter$BooleanRow", name := "<init>", desc := "(I)V" } : Jvm.MethodName) prog_3_method_1_code (2 : Nat) (Option.none : Option Jvm.ClassFile.FieldType)) ∈ lw_all := lw_g (lw_at lw_m6 228 rfl) rfl
theorem q1527 : (Jvm.Cond.methodLinkNest "ThirdAfter$BooleanRow" (1 : Nat) ({ cls := "ThirdAfter$Row", name := "<init>", desc := "()V" } : Jvm.MethodName) "ThirdAfter") ∈ lw_tbl := lw_at lw_m6 229 rfl
theorem q1528 : (Jvm.Cond.fieldLink "ThirdAfter$BooleanRow" (7 : Nat) "ThirdAfter$BooleanRow" "items" "[Z") ∈ lw_all := lw_g (lw_at lw_m6 230 rfl) rfl
theorem q1529 : (Jvm.Cond.laysFinal "ThirdAfter$BooleanRow" "ThirdAfter$BooleanRow" "items" "[Z") ∈ lw_all := lw_g (lw_at lw_m6 231 rfl) rfl
theorem q1530 : (Jvm.Cond.soleField "ThirdAfter$BooleanRow" "items") ∈ lw_all := lw_g (lw_at lw_m6 232 rfl) rfl
theorem q1531 : (Jvm.Cond.superclass "ThirdAfter$BooleanRow" "ThirdAfter$Row") ∈ lw_all := lw_g (lw_at lw_m6 233 rfl) rfl
theorem q1541 : (Jvm.Cond.selects "ThirdAfter$BooleanRow" ({ cls := "ThirdAfter$Row", name := "put", desc := "(IJ)Z" } : Jvm.MethodName) ({ cls := "ThirdAfter$BooleanRow", name := "put", desc := "(IJ)Z" } : Jvm.MethodName)) ∈ lw_all := lw_g (lw_at lw_m7 3 rfl) rfl
theorem q1542 : (Jvm.Cond.instanceMethod ({ cls := "ThirdAfter$BooleanRow", name := "put", desc := "(IJ)Z" } : Jvm.MethodName)) ∈ lw_all := lw_g (lw_at lw_m7 4 rfl) rfl
theorem q1543 : (Jvm.Cond.code ({ cls := "ThirdAfter$BooleanRow", name := "put", desc := "(IJ)Z" } : Jvm.MethodName) prog_3_method_5_code (4 : Nat) (Option.some Jvm.ClassFile.FieldType.boolean)) ∈ lw_all := lw_g (lw_at lw_m7 5 rfl) rfl
theorem q1564 : (Jvm.Cond.selects "ThirdAfter$BooleanRow" ({ cls := "ThirdAfter$Row", name := "at", desc := "(I)J" } : Jvm.MethodName) ({ cls := "ThirdAfter$BooleanRow", name := "at", desc := "(I)J" } : Jvm.MethodName)) ∈ lw_all := lw_g (lw_at lw_m7 26 rfl) rfl
theorem q1565 : (Jvm.Cond.instanceMethod ({ cls := "ThirdAfter$BooleanRow", name := "at", desc := "(I)J" } : Jvm.MethodName)) ∈ lw_all := lw_g (lw_at lw_m7 27 rfl) rfl
theorem q1566 : (Jvm.Cond.code ({ cls := "ThirdAfter$BooleanRow", name := "at", desc := "(I)J" } : Jvm.MethodName) prog_3_method_4_code (2 : Nat) (Option.some Jvm.ClassFile.FieldType.long)) ∈ lw_all := lw_g (lw_at lw_m7 28 rfl) rfl
theorem q1582 : (Jvm.Cond.selects "ThirdAfter$BooleanRow" ({ cls := "ThirdAfter$Row", name := "copy", desc := "(ILThirdAfter$Row;II)V" } : Jvm.MethodName) ({ cls := "ThirdAfter$BooleanRow", name := "copy", desc := "(ILThirdAfter$Row;II)V" } : Jvm.MethodName)) ∈ lw_all := lw_g (lw_at lw_m7 44 rfl) rfl
theorem q1583 : (Jvm.Cond.instanceMethod ({ cls := "ThirdAfter$BooleanRow", name := "copy", desc := "(ILThirdAfter$Row;II)V" } : Jvm.MethodName)) ∈ lw_all := lw_g (lw_at lw_m7 45 rfl) rfl
theorem q1584 : (Jvm.Cond.code ({ cls := "ThirdAfter$BooleanRow", name := "copy", desc := "(ILThirdAfter$Row;II)V" } : Jvm.MethodName) prog_3_method_6_code (5 : Nat) (Option.none : Option Jvm.ClassFile.FieldType)) ∈ lw_all := lw_g (lw_at lw_m7 46 rfl) rfl
theorem q1585 : (Jvm.Cond.classLink "ThirdAfter$BooleanRow" (8 : Nat) "ThirdAfter$BooleanRow") ∈ lw_all := lw_g (lw_at lw_m7 47 rfl) rfl
theorem q1586 : (Jvm.Cond.methodLink "ThirdAfter$BooleanRow" (13 : Nat) ({ cls := "java/lang/System", name := "arraycopy", desc := "(Ljava/lang/Object;ILjava/lang/Object;II)V" } : Jvm.MethodName)) ∈ lw_all := lw_g (lw_at lw_m7 48 rfl) rfl
theorem q2260 : (Jvm.Cond.castable "ThirdAfter$BooleanRow" "ThirdAfter$Row") ∈ lw_tbl := lw_at lw_m10 2 rfl
theorem q2284 : (Jvm.Cond.castable "ThirdAfter$BooleanRow" "ThirdAfter$Held") ∈ lw_tbl := lw_at lw_m10 26 rfl
theorem in_X28 : ∀ w ∈ wsX280, w ∈ lw_all := lw_in wsX280 [1529] (by decide +kernel) (by decide +kernel)
/-! ThirdAfter$Comes -/
def RX29 : String := "ThirdAfter$Comes"
abbrev cX29_comesBy : ByteArray := prog_7_method_3_code
def yX29_comesBy : MethodName := ⟨RX29, "comesBy", "(I)I"⟩
theorem q1219 : (Jvm.Cond.interfaceMethod "ThirdAfter$Comes" "ThirdAfter$Comes" "comesBy" "(I)I") ∈ lw_tbl := lw_at lw_m5 161 rfl
theorem q1220 : (Jvm.Cond.declares ({ cls := "ThirdAfter$Comes", name := "comesBy", desc := "(I)I" } : Jvm.MethodName)) ∈ lw_tbl := lw_at lw_m5 162 rfl
theorem q1235 : (Jvm.Cond.instanceMethod ({ cls := "ThirdAfter$Comes", name := "comesBy", desc := "(I)I" } : Jvm.MethodName)) ∈ lw_all := lw_g (lw_at lw_m5 177 rfl) rfl
theorem q1236 : (Jvm.Cond.code ({ cls := "ThirdAfter$Comes", name := "comesBy", desc := "(I)I" } : Jvm.MethodName) prog_7_method_3_code (2 : Nat) (Option.some Jvm.ClassFile.FieldType.int)) ∈ lw_all := lw_g (lw_at lw_m5 178 rfl) rfl
theorem q1237 : (Jvm.Cond.interfaceEntry "ThirdAfter$Comes" (1 : Nat)) ∈ lw_tbl := lw_at lw_m5 179 rfl
theorem q1238 : (Jvm.Cond.methodLink "ThirdAfter$Comes" (1 : Nat) ({ cls := "ThirdAfter$Comes", name := "began", desc := "(I)V" } : Jvm.MethodName)) ∈ lw_all := lw_g (lw_at lw_m5 180 rfl) rfl
theorem q1239 : (Jvm.Cond.interfaceMethod "ThirdAfter$Comes" "ThirdAfter$Comes" "began" "(I)V") ∈ lw_tbl := lw_at lw_m5 181 rfl
theorem q1240 : (Jvm.Cond.declares ({ cls := "ThirdAfter$Comes", name := "began", desc := "(I)V" } : Jvm.MethodName)) ∈ lw_tbl := lw_at lw_m5 182 rfl
theorem q1265 : (Jvm.Cond.interfaceEntry "ThirdAfter$Comes" (7 : Nat)) ∈ lw_tbl := lw_at lw_m5 207 rfl
theorem q1266 : (Jvm.Cond.methodLink "ThirdAfter$Comes" (7 : Nat) ({ cls := "ThirdAfter$Comes", name := "number", desc := "()I" } : Jvm.MethodName)) ∈ lw_all := lw_g (lw_at lw_m5 208 rfl) rfl
theorem q1267 : (Jvm.Cond.interfaceMethod "ThirdAfter$Comes" "ThirdAfter$Comes" "number" "()I") ∈ lw_tbl := lw_at lw_m5 209 rfl
theorem q1268 : (Jvm.Cond.declares ({ cls := "ThirdAfter$Comes", name := "number", desc := "()I" } : Jvm.MethodName)) ∈ lw_tbl := lw_at lw_m5 210 rfl
theorem q1289 : (Jvm.Cond.publicMethod ({ cls := "ThirdAfter$Comes", name := "comesBy", desc := "(I)I" } : Jvm.MethodName)) ∈ lw_tbl := lw_at lw_m5 231 rfl
theorem q2257 : (Jvm.Cond.initialized "ThirdAfter$Comes") ∈ lw_all := lw_g (lw_at lw_m9 239 rfl) rfl
/-! ThirdAfter$Tells -/
def RX30 : String := "ThirdAfter$Tells"
abbrev cX30_tells : ByteArray := prog_29_method_4_code
def yX30_tells : MethodName := ⟨RX30, "tells", "(I)I"⟩
theorem q1307 : (Jvm.Cond.interfaceMethod "ThirdAfter$Tells" "ThirdAfter$Tells" "tells" "(I)I") ∈ lw_tbl := lw_at lw_m6 9 rfl
theorem q1308 : (Jvm.Cond.declares ({ cls := "ThirdAfter$Tells", name := "tells", desc := "(I)I" } : Jvm.MethodName)) ∈ lw_tbl := lw_at lw_m6 10 rfl
theorem q1311 : (Jvm.Cond.instanceMethod ({ cls := "ThirdAfter$Tells", name := "tells", desc := "(I)I" } : Jvm.MethodName)) ∈ lw_all := lw_g (lw_at lw_m6 13 rfl) rfl
theorem q1312 : (Jvm.Cond.publicMethod ({ cls := "ThirdAfter$Tells", name := "tells", desc := "(I)I" } : Jvm.MethodName)) ∈ lw_tbl := lw_at lw_m6 14 rfl
theorem q1313 : (Jvm.Cond.code ({ cls := "ThirdAfter$Tells", name := "tells", desc := "(I)I" } : Jvm.MethodName) prog_29_method_4_code (3 : Nat) (Option.some Jvm.ClassFile.FieldType.int)) ∈ lw_all := lw_g (lw_at lw_m6 15 rfl) rfl
theorem q1314 : (Jvm.Cond.interfaceEntry "ThirdAfter$Tells" (1 : Nat)) ∈ lw_tbl := lw_at lw_m6 16 rfl
theorem q1315 : (Jvm.Cond.methodLink "ThirdAfter$Tells" (1 : Nat) ({ cls := "ThirdAfter$Tells", name := "began", desc := "(I)V" } : Jvm.MethodName)) ∈ lw_all := lw_g (lw_at lw_m6 17 rfl) rfl
theorem q1316 : (Jvm.Cond.interfaceMethod "ThirdAfter$Tells" "ThirdAfter$Tells" "began" "(I)V") ∈ lw_tbl := lw_at lw_m6 18 rfl
theorem q1317 : (Jvm.Cond.declares ({ cls := "ThirdAfter$Tells", name := "began", desc := "(I)V" } : Jvm.MethodName)) ∈ lw_tbl := lw_at lw_m6 19 rfl
theorem q1333 : (Jvm.Cond.interfaceEntry "ThirdAfter$Tells" (7 : Nat)) ∈ lw_tbl := lw_at lw_m6 35 rfl
theorem q1334 : (Jvm.Cond.methodLink "ThirdAfter$Tells" (7 : Nat) ({ cls := "ThirdAfter$Tells", name := "owes", desc := "(I)I" } : Jvm.MethodName)) ∈ lw_all := lw_g (lw_at lw_m6 36 rfl) rfl
theorem q1335 : (Jvm.Cond.interfaceMethod "ThirdAfter$Tells" "ThirdAfter$Tells" "owes" "(I)I") ∈ lw_tbl := lw_at lw_m6 37 rfl
theorem q1336 : (Jvm.Cond.declares ({ cls := "ThirdAfter$Tells", name := "owes", desc := "(I)I" } : Jvm.MethodName)) ∈ lw_tbl := lw_at lw_m6 38 rfl
theorem q1403 : (Jvm.Cond.interfaceEntry "ThirdAfter$Tells" (11 : Nat)) ∈ lw_tbl := lw_at lw_m6 105 rfl
theorem q1404 : (Jvm.Cond.methodLink "ThirdAfter$Tells" (11 : Nat) ({ cls := "ThirdAfter$Tells", name := "paysOut", desc := "(I)I" } : Jvm.MethodName)) ∈ lw_all := lw_g (lw_at lw_m6 106 rfl) rfl
theorem q1405 : (Jvm.Cond.interfaceMethod "ThirdAfter$Tells" "ThirdAfter$Tells" "paysOut" "(I)I") ∈ lw_tbl := lw_at lw_m6 107 rfl
theorem q1406 : (Jvm.Cond.declares ({ cls := "ThirdAfter$Tells", name := "paysOut", desc := "(I)I" } : Jvm.MethodName)) ∈ lw_tbl := lw_at lw_m6 108 rfl
theorem q2258 : (Jvm.Cond.initialized "ThirdAfter$Tells") ∈ lw_all := lw_g (lw_at lw_m10 0 rfl) rfl
/-! java/lang/Throwable -/
def RJ0 : String := "java/lang/Throwable"
def TJ0 : u_T := fun k => match k with
  | 0 => ("java/lang/Throwable", "cause", "Ljava/lang/Throwable;", false)
  | 1 => ("java/lang/Throwable", "stackTrace", "[Ljava/lang/StackTraceElement;", false)
  | 2 => ("java/lang/Throwable", "suppressedExceptions", "Ljava/util/List;", false)
  | 3 => ("java/lang/Throwable", "detailMessage", "Ljava/lang/String;", false)
  | _ => ("java/lang/Throwable", "backtrace", "Ljava/lang/Object;", false)
def tyJ0 : Nat → FieldType := fun k => match k with
  | 0 => .object "java/lang/Throwable"
  | 1 => .array (.object "java/lang/StackTraceElement")
  | 2 => .object "java/util/List"
  | 3 => .object "java/lang/String"
  | _ => .object "java/lang/Object"
abbrev wsJ00 : List Cond := u_ws RJ0 TJ0 5
theorem nmJ0 : ∀ a, a < 5 → ∀ b, b < 5 → a ≠ b → (TJ0 a).2.1 ≠ (TJ0 b).2.1 := by decide +kernel
theorem tyJ0_ok : ∀ k, k < 5 → parseFieldDescriptor (TJ0 k).2.2.1 = some (tyJ0 k) := by decide +kernel
abbrev cJ0_init : ByteArray := prog_47_method_2_code
def yJ0_init : MethodName := ⟨RJ0, "<init>", "(Ljava/lang/String;)V"⟩
abbrev cJ0_init_2 : ByteArray := prog_47_method_1_code
def yJ0_init_2 : MethodName := ⟨RJ0, "<init>", "()V"⟩
theorem q104 : (Jvm.Cond.initialized "java/lang/Throwable") ∈ lw_all := lw_g (lw_at lw_m1 6 rfl) rfl
theorem q195 : (Jvm.Cond.instanceMethod ({ cls := "java/lang/Throwable", name := "<init>", desc := "(Ljava/lang/String;)V" } : Jvm.MethodName)) ∈ lw_all := lw_g (lw_at lw_m1 97 rfl) rfl
theorem q196 : (Jvm.Cond.code ({ cls := "java/lang/Throwable", name := "<init>", desc := "(Ljava/lang/String;)V" } : Jvm.MethodName) prog_47_method_2_code (2 : Nat) (Option.none : Option Jvm.ClassFile.FieldType)) ∈ lw_all := lw_g (lw_at lw_m1 98 rfl) rfl
theorem q197 : (Jvm.Cond.methodLink "java/lang/Throwable" (1 : Nat) ({ cls := "java/lang/Object", name := "<init>", desc := "()V" } : Jvm.MethodName)) ∈ lw_all := lw_g (lw_at lw_m1 99 rfl) rfl
theorem q198 : (Jvm.Cond.fieldLink "java/lang/Throwable" (13 : Nat) "java/lang/Throwable" "UNASSIGNED_STACK" "[Ljava/lang/StackTraceElement;") ∈ lw_all := lw_g (lw_at lw_m1 100 rfl) rfl
theorem q199 : (Jvm.Cond.laysStatic "java/lang/Throwable" "UNASSIGNED_STACK" "[Ljava/lang/StackTraceElement;") ∈ lw_tbl := lw_at lw_m1 101 rfl
theorem q200 : (Jvm.Cond.fieldLink "java/lang/Throwable" (20 : Nat) "java/lang/Throwable" "SUPPRESSED_SENTINEL" "Ljava/util/List;") ∈ lw_all := lw_g (lw_at lw_m1 102 rfl) rfl
theorem q201 : (Jvm.Cond.laysStatic "java/lang/Throwable" "SUPPRESSED_SENTINEL" "Ljava/util/List;") ∈ lw_tbl := lw_at lw_m1 103 rfl
theorem q202 : (Jvm.Cond.methodLink "java/lang/Throwable" (27 : Nat) ({ cls := "java/lang/Throwable", name := "fillInStackTrace", desc := "()Ljava/lang/Throwable;" } : Jvm.MethodName)) ∈ lw_all := lw_g (lw_at lw_m1 104 rfl) rfl
theorem q203 : (Jvm.Cond.instanceMethod ({ cls := "java/lang/Throwable", name := "fillInStackTrace", desc := "()Ljava/lang/Throwable;" } : Jvm.MethodName)) ∈ lw_all := lw_g (lw_at lw_m1 105 rfl) rfl
theorem q204 : (Jvm.Cond.sameMethod "java/lang/Throwable" "java/lang/Throwable" "fillInStackTrace" "()Ljava/lang/Throwable;") ∈ lw_all := lw_g (lw_at lw_m1 106 rfl) rfl
theorem q218 : (Jvm.Cond.declares ({ cls := "java/lang/Throwable", name := "fillInStackTrace", desc := "()Ljava/lang/Throwable;" } : Jvm.MethodName)) ∈ lw_tbl := lw_at lw_m1 120 rfl
theorem q222 : (Jvm.Cond.codeSync ({ cls := "java/lang/Throwable", name := "fillInStackTrace", desc := "()Ljava/lang/Throwable;" } : Jvm.MethodName) prog_47_method_18_code (1 : Nat) (Option.some (Jvm.ClassFile.FieldType.object "java/lang/Throwable"))) ∈ lw_all := lw_g (lw_at lw_m1 124 rfl) rfl
theorem q223 : (Jvm.Cond.methodLink "java/lang/Throwable" (202 : Nat) ({ cls := "java/lang/Throwable", name := "fillInStackTrace", desc := "(I)Ljava/lang/Throwable;" } : Jvm.MethodName)) ∈ lw_all := lw_g (lw_at lw_m1 125 rfl) rfl
theorem q224 : (Jvm.Cond.privateMethod ({ cls := "java/lang/Throwable", name := "fillInStackTrace", desc := "(I)Ljava/lang/Throwable;" } : Jvm.MethodName)) ∈ lw_tbl := lw_at lw_m1 126 rfl
theorem q225 : (Jvm.Cond.instanceMethod ({ cls := "java/lang/Throwable", name := "fillInStackTrace", desc := "(I)Ljava/lang/Throwable;" } : Jvm.MethodName)) ∈ lw_all := lw_g (lw_at lw_m1 127 rfl) rfl
theorem q226 : (Jvm.Cond.instantiable "java/lang/Throwable" (6 : Nat)) ∈ lw_all := lw_g (lw_at lw_m1 128 rfl) rfl
theorem q227 : (Jvm.Cond.native ({ cls := "java/lang/Throwable", name := "fillInStackTrace", desc := "(I)Ljava/lang/Throwable;" } : Jvm.MethodName)) ∈ lw_all := lw_g (lw_at lw_m1 129 rfl) rfl
theorem q228 : (Jvm.Cond.fieldLink "java/lang/Throwable" (198 : Nat) "java/lang/Throwable" "backtrace" "Ljava/lang/Object;") ∈ lw_all := lw_g (lw_at lw_m1 130 rfl) rfl
theorem q229 : (Jvm.Cond.fieldLink "java/lang/Throwable" (31 : Nat) "java/lang/Throwable" "detailMessage" "Ljava/lang/String;") ∈ lw_all := lw_g (lw_at lw_m1 131 rfl) rfl
theorem q230 : (Jvm.Cond.fieldLink "java/lang/Throwable" (7 : Nat) "java/lang/Throwable" "cause" "Ljava/lang/Throwable;") ∈ lw_all := lw_g (lw_at lw_m1 132 rfl) rfl
theorem q231 : (Jvm.Cond.fieldLink "java/lang/Throwable" (17 : Nat) "java/lang/Throwable" "stackTrace" "[Ljava/lang/StackTraceElement;") ∈ lw_all := lw_g (lw_at lw_m1 133 rfl) rfl
theorem q232 : (Jvm.Cond.fieldLink "java/lang/Throwable" (24 : Nat) "java/lang/Throwable" "suppressedExceptions" "Ljava/util/List;") ∈ lw_all := lw_g (lw_at lw_m1 134 rfl) rfl
theorem q234 : (Jvm.Cond.soleField "java/lang/Throwable" "backtrace") ∈ lw_all := lw_g (lw_at lw_m1 136 rfl) rfl
theorem q236 : (Jvm.Cond.soleField "java/lang/Throwable" "detailMessage") ∈ lw_all := lw_g (lw_at lw_m1 138 rfl) rfl
theorem q238 : (Jvm.Cond.soleField "java/lang/Throwable" "cause") ∈ lw_all := lw_g (lw_at lw_m1 140 rfl) rfl
theorem q240 : (Jvm.Cond.soleField "java/lang/Throwable" "stackTrace") ∈ lw_all := lw_g (lw_at lw_m1 142 rfl) rfl
theorem q242 : (Jvm.Cond.soleField "java/lang/Throwable" "depth") ∈ lw_all := lw_g (lw_at lw_m1 144 rfl) rfl
theorem q244 : (Jvm.Cond.soleField "java/lang/Throwable" "suppressedExceptions") ∈ lw_all := lw_g (lw_at lw_m1 146 rfl) rfl
theorem q251 : (Jvm.Cond.declares ({ cls := "java/lang/Throwable", name := "<init>", desc := "()V" } : Jvm.MethodName)) ∈ lw_tbl := lw_at lw_m1 153 rfl
theorem q252 : (Jvm.Cond.declares ({ cls := "java/lang/Throwable", name := "<init>", desc := "(Ljava/lang/String;)V" } : Jvm.MethodName)) ∈ lw_tbl := lw_at lw_m1 154 rfl
theorem q254 : (Jvm.Cond.lays "java/lang/Throwable" "java/lang/Throwable" "cause" "Ljava/lang/Throwable;") ∈ lw_all := lw_g (lw_at lw_m1 156 rfl) rfl
theorem q255 : (Jvm.Cond.lays "java/lang/Throwable" "java/lang/Throwable" "stackTrace" "[Ljava/lang/StackTraceElement;") ∈ lw_all := lw_g (lw_at lw_m1 157 rfl) rfl
theorem q256 : (Jvm.Cond.lays "java/lang/Throwable" "java/lang/Throwable" "suppressedExceptions" "Ljava/util/List;") ∈ lw_all := lw_g (lw_at lw_m1 158 rfl) rfl
theorem q257 : (Jvm.Cond.lays "java/lang/Throwable" "java/lang/Throwable" "detailMessage" "Ljava/lang/String;") ∈ lw_all := lw_g (lw_at lw_m1 159 rfl) rfl
theorem q258 : (Jvm.Cond.lays "java/lang/Throwable" "java/lang/Throwable" "backtrace" "Ljava/lang/Object;") ∈ lw_all := lw_g (lw_at lw_m1 160 rfl) rfl
theorem q259 : (Jvm.Cond.fieldLink "java/lang/Throwable" (198 : Nat) "java/lang/Throwable" "backtrace" "Ljava/lang/Object;") ∈ lw_all := lw_g (lw_at lw_m1 161 rfl) rfl
theorem q260 : (Jvm.Cond.superclass "java/lang/Throwable" "java/lang/Object") ∈ lw_all := lw_g (lw_at lw_m1 162 rfl) rfl
theorem q261 : (Jvm.Cond.instanceMethod ({ cls := "java/lang/Throwable", name := "<init>", desc := "()V" } : Jvm.MethodName)) ∈ lw_all := lw_g (lw_at lw_m1 163 rfl) rfl
theorem q262 : (Jvm.Cond.code ({ cls := "java/lang/Throwable", name := "<init>", desc := "()V" } : Jvm.MethodName) prog_47_method_1_code (1 : Nat) (Option.none : Option Jvm.ClassFile.FieldType)) ∈ lw_all := lw_g (lw_at lw_m1 164 rfl) rfl
theorem q2224 : (Jvm.Cond.sameMethod "java/lang/Throwable" "java/lang/Throwable" "fillInStackTrace" "(I)Ljava/lang/Throwable;") ∈ lw_all := lw_g (lw_at lw_m9 206 rfl) rfl
theorem in_J0 : ∀ w ∈ wsJ00, w ∈ lw_all := lw_in wsJ00 [254, 255, 256, 257, 258] (by decide +kernel) (by decide +kernel)
/-! java/lang/Exception -/
def RJ1 : String := "java/lang/Exception"
abbrev cJ1_init : ByteArray := prog_36_method_2_code
def yJ1_init : MethodName := ⟨RJ1, "<init>", "(Ljava/lang/String;)V"⟩
abbrev cJ1_init_2 : ByteArray := prog_36_method_1_code
def yJ1_init_2 : MethodName := ⟨RJ1, "<init>", "()V"⟩
theorem q105 : (Jvm.Cond.initialized "java/lang/Exception") ∈ lw_all := lw_g (lw_at lw_m1 7 rfl) rfl
theorem q192 : (Jvm.Cond.instanceMethod ({ cls := "java/lang/Exception", name := "<init>", desc := "(Ljava/lang/String;)V" } : Jvm.MethodName)) ∈ lw_all := lw_g (lw_at lw_m1 94 rfl) rfl
theorem q193 : (Jvm.Cond.code ({ cls := "java/lang/Exception", name := "<init>", desc := "(Ljava/lang/String;)V" } : Jvm.MethodName) prog_36_method_2_code (2 : Nat) (Option.none : Option Jvm.ClassFile.FieldType)) ∈ lw_all := lw_g (lw_at lw_m1 95 rfl) rfl
theorem q194 : (Jvm.Cond.methodLink "java/lang/Exception" (7 : Nat) ({ cls := "java/lang/Throwable", name := "<init>", desc := "(Ljava/lang/String;)V" } : Jvm.MethodName)) ∈ lw_all := lw_g (lw_at lw_m1 96 rfl) rfl
theorem q221 : (Jvm.Cond.superclass "java/lang/Exception" "java/lang/Throwable") ∈ lw_all := lw_g (lw_at lw_m1 123 rfl) rfl
theorem q249 : (Jvm.Cond.declares ({ cls := "java/lang/Exception", name := "<init>", desc := "()V" } : Jvm.MethodName)) ∈ lw_tbl := lw_at lw_m1 151 rfl
theorem q250 : (Jvm.Cond.declares ({ cls := "java/lang/Exception", name := "<init>", desc := "(Ljava/lang/String;)V" } : Jvm.MethodName)) ∈ lw_tbl := lw_at lw_m1 152 rfl
theorem q276 : (Jvm.Cond.instanceMethod ({ cls := "java/lang/Exception", name := "<init>", desc := "()V" } : Jvm.MethodName)) ∈ lw_all := lw_g (lw_at lw_m1 178 rfl) rfl
theorem q277 : (Jvm.Cond.code ({ cls := "java/lang/Exception", name := "<init>", desc := "()V" } : Jvm.MethodName) prog_36_method_1_code (1 : Nat) (Option.none : Option Jvm.ClassFile.FieldType)) ∈ lw_all := lw_g (lw_at lw_m1 179 rfl) rfl
theorem q278 : (Jvm.Cond.methodLink "java/lang/Exception" (1 : Nat) ({ cls := "java/lang/Throwable", name := "<init>", desc := "()V" } : Jvm.MethodName)) ∈ lw_all := lw_g (lw_at lw_m1 180 rfl) rfl
/-! java/lang/RuntimeException -/
def RJ2 : String := "java/lang/RuntimeException"
abbrev cJ2_init : ByteArray := prog_42_method_2_code
def yJ2_init : MethodName := ⟨RJ2, "<init>", "(Ljava/lang/String;)V"⟩
abbrev cJ2_init_2 : ByteArray := prog_42_method_1_code
def yJ2_init_2 : MethodName := ⟨RJ2, "<init>", "()V"⟩
theorem q106 : (Jvm.Cond.initialized "java/lang/RuntimeException") ∈ lw_all := lw_g (lw_at lw_m1 8 rfl) rfl
theorem q189 : (Jvm.Cond.instanceMethod ({ cls := "java/lang/RuntimeException", name := "<init>", desc := "(Ljava/lang/String;)V" } : Jvm.MethodName)) ∈ lw_all := lw_g (lw_at lw_m1 91 rfl) rfl
theorem q190 : (Jvm.Cond.code ({ cls := "java/lang/RuntimeException", name := "<init>", desc := "(Ljava/lang/String;)V" } : Jvm.MethodName) prog_42_method_2_code (2 : Nat) (Option.none : Option Jvm.ClassFile.FieldType)) ∈ lw_all := lw_g (lw_at lw_m1 92 rfl) rfl
theorem q191 : (Jvm.Cond.methodLink "java/lang/RuntimeException" (7 : Nat) ({ cls := "java/lang/Exception", name := "<init>", desc := "(Ljava/lang/String;)V" } : Jvm.MethodName)) ∈ lw_all := lw_g (lw_at lw_m1 93 rfl) rfl
theorem q217 : (Jvm.Cond.sameMethod "java/lang/RuntimeException" "java/lang/Throwable" "fillInStackTrace" "()Ljava/lang/Throwable;") ∈ lw_all := lw_g (lw_at lw_m1 119 rfl) rfl
theorem q220 : (Jvm.Cond.superclass "java/lang/RuntimeException" "java/lang/Exception") ∈ lw_all := lw_g (lw_at lw_m1 122 rfl) rfl
theorem q247 : (Jvm.Cond.declares ({ cls := "java/lang/RuntimeException", name := "<init>", desc := "()V" } : Jvm.MethodName)) ∈ lw_tbl := lw_at lw_m1 149 rfl
theorem q248 : (Jvm.Cond.declares ({ cls := "java/lang/RuntimeException", name := "<init>", desc := "(Ljava/lang/String;)V" } : Jvm.MethodName)) ∈ lw_tbl := lw_at lw_m1 150 rfl
theorem q273 : (Jvm.Cond.instanceMethod ({ cls := "java/lang/RuntimeException", name := "<init>", desc := "()V" } : Jvm.MethodName)) ∈ lw_all := lw_g (lw_at lw_m1 175 rfl) rfl
theorem q274 : (Jvm.Cond.code ({ cls := "java/lang/RuntimeException", name := "<init>", desc := "()V" } : Jvm.MethodName) prog_42_method_1_code (1 : Nat) (Option.none : Option Jvm.ClassFile.FieldType)) ∈ lw_all := lw_g (lw_at lw_m1 176 rfl) rfl
theorem q275 : (Jvm.Cond.methodLink "java/lang/RuntimeException" (1 : Nat) ({ cls := "java/lang/Exception", name := "<init>", desc := "()V" } : Jvm.MethodName)) ∈ lw_all := lw_g (lw_at lw_m1 177 rfl) rfl
theorem q293 : (Jvm.Cond.castable "java/lang/RuntimeException" "java/lang/Throwable") ∈ lw_tbl := lw_at lw_m1 195 rfl
/-! java/lang/ClassCastException -/
def RJ3 : String := "java/lang/ClassCastException"
def TJ3 : u_T := fun k => match k with
  | 0 => ("java/lang/Throwable", "backtrace", "Ljava/lang/Object;", false)
  | 1 => ("java/lang/Throwable", "detailMessage", "Ljava/lang/String;", false)
  | 2 => ("java/lang/Throwable", "cause", "Ljava/lang/Throwable;", false)
  | 3 => ("java/lang/Throwable", "stackTrace", "[Ljava/lang/StackTraceElement;", false)
  | 4 => ("java/lang/Throwable", "depth", "I", false)
  | _ => ("java/lang/Throwable", "suppressedExceptions", "Ljava/util/List;", false)
def tyJ3 : Nat → FieldType := fun k => match k with
  | 0 => .object "java/lang/Object"
  | 1 => .object "java/lang/String"
  | 2 => .object "java/lang/Throwable"
  | 3 => .array (.object "java/lang/StackTraceElement")
  | 4 => .int
  | _ => .object "java/util/List"
abbrev wsJ30 : List Cond := u_ws RJ3 TJ3 6
theorem nmJ3 : ∀ a, a < 6 → ∀ b, b < 6 → a ≠ b → (TJ3 a).2.1 ≠ (TJ3 b).2.1 := by decide +kernel
theorem tyJ3_ok : ∀ k, k < 6 → parseFieldDescriptor (TJ3 k).2.2.1 = some (tyJ3 k) := by decide +kernel
abbrev cJ3_init : ByteArray := prog_35_method_2_code
def yJ3_init : MethodName := ⟨RJ3, "<init>", "(Ljava/lang/String;)V"⟩
theorem q107 : (Jvm.Cond.initialized "java/lang/ClassCastException") ∈ lw_all := lw_g (lw_at lw_m1 9 rfl) rfl
theorem q185 : (Jvm.Cond.instantiable "java/lang/ClassCastException" (6 : Nat)) ∈ lw_all := lw_g (lw_at lw_m1 87 rfl) rfl
theorem q186 : (Jvm.Cond.instanceMethod ({ cls := "java/lang/ClassCastException", name := "<init>", desc := "(Ljava/lang/String;)V" } : Jvm.MethodName)) ∈ lw_all := lw_g (lw_at lw_m1 88 rfl) rfl
theorem q187 : (Jvm.Cond.code ({ cls := "java/lang/ClassCastException", name := "<init>", desc := "(Ljava/lang/String;)V" } : Jvm.MethodName) prog_35_method_2_code (2 : Nat) (Option.none : Option Jvm.ClassFile.FieldType)) ∈ lw_all := lw_g (lw_at lw_m1 89 rfl) rfl
theorem q188 : (Jvm.Cond.methodLink "java/lang/ClassCastException" (7 : Nat) ({ cls := "java/lang/RuntimeException", name := "<init>", desc := "(Ljava/lang/String;)V" } : Jvm.MethodName)) ∈ lw_all := lw_g (lw_at lw_m1 90 rfl) rfl
theorem q206 : (Jvm.Cond.selects "java/lang/ClassCastException" ({ cls := "java/lang/Throwable", name := "fillInStackTrace", desc := "()Ljava/lang/Throwable;" } : Jvm.MethodName) ({ cls := "java/lang/Throwable", name := "fillInStackTrace", desc := "()Ljava/lang/Throwable;" } : Jvm.MethodName)) ∈ lw_all := lw_g (lw_at lw_m1 108 rfl) rfl
theorem q233 : (Jvm.Cond.lays "java/lang/ClassCastException" "java/lang/Throwable" "backtrace" "Ljava/lang/Object;") ∈ lw_all := lw_g (lw_at lw_m1 135 rfl) rfl
theorem q235 : (Jvm.Cond.lays "java/lang/ClassCastException" "java/lang/Throwable" "detailMessage" "Ljava/lang/String;") ∈ lw_all := lw_g (lw_at lw_m1 137 rfl) rfl
theorem q237 : (Jvm.Cond.lays "java/lang/ClassCastException" "java/lang/Throwable" "cause" "Ljava/lang/Throwable;") ∈ lw_all := lw_g (lw_at lw_m1 139 rfl) rfl
theorem q239 : (Jvm.Cond.lays "java/lang/ClassCastException" "java/lang/Throwable" "stackTrace" "[Ljava/lang/StackTraceElement;") ∈ lw_all := lw_g (lw_at lw_m1 141 rfl) rfl
theorem q241 : (Jvm.Cond.lays "java/lang/ClassCastException" "java/lang/Throwable" "depth" "I") ∈ lw_all := lw_g (lw_at lw_m1 143 rfl) rfl
theorem q243 : (Jvm.Cond.lays "java/lang/ClassCastException" "java/lang/Throwable" "suppressedExceptions" "Ljava/util/List;") ∈ lw_all := lw_g (lw_at lw_m1 145 rfl) rfl
theorem q245 : (Jvm.Cond.superclass "java/lang/ClassCastException" "java/lang/RuntimeException") ∈ lw_all := lw_g (lw_at lw_m1 147 rfl) rfl
theorem q246 : (Jvm.Cond.castable "java/lang/ClassCastException" "java/lang/ClassCastException") ∈ lw_tbl := lw_at lw_m1 148 rfl
theorem q253 : (Jvm.Cond.selects "java/lang/ClassCastException" ({ cls := "java/lang/Throwable", name := "fillInStackTrace", desc := "(I)Ljava/lang/Throwable;" } : Jvm.MethodName) ({ cls := "java/lang/Throwable", name := "fillInStackTrace", desc := "(I)Ljava/lang/Throwable;" } : Jvm.MethodName)) ∈ lw_all := lw_g (lw_at lw_m1 155 rfl) rfl
theorem in_J3 : ∀ w ∈ wsJ30, w ∈ lw_all := lw_in wsJ30 [233, 235, 237, 239, 241, 243] (by decide +kernel) (by decide +kernel)
/-! java/lang/String -/
def RJ4 : String := "java/lang/String"
def TJ4 : u_T := fun k => match k with
  | 0 => ("java/lang/String", "value", "[B", true)
  | _ => ("java/lang/String", "coder", "B", true)
def tyJ4 : Nat → FieldType := fun k => match k with
  | 0 => .array .byte
  | _ => .byte
abbrev wsJ40 : List Cond := u_ws RJ4 TJ4 2
theorem nmJ4 : ∀ a, a < 2 → ∀ b, b < 2 → a ≠ b → (TJ4 a).2.1 ≠ (TJ4 b).2.1 := by decide +kernel
theorem tyJ4_ok : ∀ k, k < 2 → parseFieldDescriptor (TJ4 k).2.2.1 = some (tyJ4 k) := by decide +kernel
abbrev cJ4_indexOf : ByteArray := prog_43_method_79_code
def yJ4_indexOf : MethodName := ⟨RJ4, "indexOf", "(I)I"⟩
abbrev cJ4_indexOf_2 : ByteArray := prog_43_method_80_code
def yJ4_indexOf_2 : MethodName := ⟨RJ4, "indexOf", "(II)I"⟩
abbrev cJ4_isLatin1 : ByteArray := prog_43_method_154_code
def yJ4_isLatin1 : MethodName := ⟨RJ4, "isLatin1", "()Z"⟩
abbrev cJ4_length : ByteArray := prog_43_method_54_code
def yJ4_length : MethodName := ⟨RJ4, "length", "()I"⟩
abbrev cJ4_coder : ByteArray := prog_43_method_152_code
def yJ4_coder : MethodName := ⟨RJ4, "coder", "()B"⟩
abbrev cJ4_checkBoundsBeginEnd : ByteArray := prog_43_method_158_code
def yJ4_checkBoundsBeginEnd : MethodName := ⟨RJ4, "checkBoundsBeginEnd", "(III)V"⟩
theorem q108 : (Jvm.Cond.initialized "java/lang/String") ∈ lw_all := lw_g (lw_at lw_m1 10 rfl) rfl
theorem q263 : (Jvm.Cond.instantiable "java/lang/String" (4 : Nat)) ∈ lw_all := lw_g (lw_at lw_m1 165 rfl) rfl
theorem q265 : (Jvm.Cond.laysFinal "java/lang/String" "java/lang/String" "value" "[B") ∈ lw_all := lw_g (lw_at lw_m1 167 rfl) rfl
theorem q266 : (Jvm.Cond.soleField "java/lang/String" "value") ∈ lw_all := lw_g (lw_at lw_m1 168 rfl) rfl
theorem q267 : (Jvm.Cond.laysFinal "java/lang/String" "java/lang/String" "coder" "B") ∈ lw_all := lw_g (lw_at lw_m1 169 rfl) rfl
theorem q268 : (Jvm.Cond.soleField "java/lang/String" "coder") ∈ lw_all := lw_g (lw_at lw_m1 170 rfl) rfl
theorem q472 : (Jvm.Cond.instanceMethod ({ cls := "java/lang/String", name := "indexOf", desc := "(I)I" } : Jvm.MethodName)) ∈ lw_all := lw_g (lw_at lw_m2 134 rfl) rfl
theorem q473 : (Jvm.Cond.selects "java/lang/String" ({ cls := "java/lang/String", name := "indexOf", desc := "(I)I" } : Jvm.MethodName) ({ cls := "java/lang/String", name := "indexOf", desc := "(I)I" } : Jvm.MethodName)) ∈ lw_all := lw_g (lw_at lw_m2 135 rfl) rfl
theorem q474 : (Jvm.Cond.code ({ cls := "java/lang/String", name := "indexOf", desc := "(I)I" } : Jvm.MethodName) prog_43_method_79_code (2 : Nat) (Option.some Jvm.ClassFile.FieldType.int)) ∈ lw_all := lw_g (lw_at lw_m2 136 rfl) rfl
theorem q475 : (Jvm.Cond.methodLink "java/lang/String" (633 : Nat) ({ cls := "java/lang/String", name := "indexOf", desc := "(II)I" } : Jvm.MethodName)) ∈ lw_all := lw_g (lw_at lw_m2 137 rfl) rfl
theorem q476 : (Jvm.Cond.instanceMethod ({ cls := "java/lang/String", name := "indexOf", desc := "(II)I" } : Jvm.MethodName)) ∈ lw_all := lw_g (lw_at lw_m2 138 rfl) rfl
theorem q477 : (Jvm.Cond.selects "java/lang/String" ({ cls := "java/lang/String", name := "indexOf", desc := "(II)I" } : Jvm.MethodName) ({ cls := "java/lang/String", name := "indexOf", desc := "(II)I" } : Jvm.MethodName)) ∈ lw_all := lw_g (lw_at lw_m2 139 rfl) rfl
theorem q478 : (Jvm.Cond.code ({ cls := "java/lang/String", name := "indexOf", desc := "(II)I" } : Jvm.MethodName) prog_43_method_80_code (3 : Nat) (Option.some Jvm.ClassFile.FieldType.int)) ∈ lw_all := lw_g (lw_at lw_m2 140 rfl) rfl
theorem q479 : (Jvm.Cond.methodLink "java/lang/String" (492 : Nat) ({ cls := "java/lang/String", name := "isLatin1", desc := "()Z" } : Jvm.MethodName)) ∈ lw_all := lw_g (lw_at lw_m2 141 rfl) rfl
theorem q480 : (Jvm.Cond.instanceMethod ({ cls := "java/lang/String", name := "isLatin1", desc := "()Z" } : Jvm.MethodName)) ∈ lw_all := lw_g (lw_at lw_m2 142 rfl) rfl
theorem q481 : (Jvm.Cond.selects "java/lang/String" ({ cls := "java/lang/String", name := "isLatin1", desc := "()Z" } : Jvm.MethodName) ({ cls := "java/lang/String", name := "isLatin1", desc := "()Z" } : Jvm.MethodName)) ∈ lw_all := lw_g (lw_at lw_m2 143 rfl) rfl
theorem q482 : (Jvm.Cond.code ({ cls := "java/lang/String", name := "isLatin1", desc := "()Z" } : Jvm.MethodName) prog_43_method_154_code (1 : Nat) (Option.some Jvm.ClassFile.FieldType.boolean)) ∈ lw_all := lw_g (lw_at lw_m2 144 rfl) rfl
theorem q483 : (Jvm.Cond.fieldLink "java/lang/String" (38 : Nat) "java/lang/String" "COMPACT_STRINGS" "Z") ∈ lw_all := lw_g (lw_at lw_m2 145 rfl) rfl
theorem q484 : (Jvm.Cond.laysStatic "java/lang/String" "COMPACT_STRINGS" "Z") ∈ lw_tbl := lw_at lw_m2 146 rfl
theorem q485 : (Jvm.Cond.methodLink "java/lang/String" (505 : Nat) ({ cls := "java/lang/String", name := "length", desc := "()I" } : Jvm.MethodName)) ∈ lw_all := lw_g (lw_at lw_m2 147 rfl) rfl
theorem q486 : (Jvm.Cond.instanceMethod ({ cls := "java/lang/String", name := "length", desc := "()I" } : Jvm.MethodName)) ∈ lw_all := lw_g (lw_at lw_m2 148 rfl) rfl
theorem q487 : (Jvm.Cond.selects "java/lang/String" ({ cls := "java/lang/String", name := "length", desc := "()I" } : Jvm.MethodName) ({ cls := "java/lang/String", name := "length", desc := "()I" } : Jvm.MethodName)) ∈ lw_all := lw_g (lw_at lw_m2 149 rfl) rfl
theorem q488 : (Jvm.Cond.code ({ cls := "java/lang/String", name := "length", desc := "()I" } : Jvm.MethodName) prog_43_method_54_code (1 : Nat) (Option.some Jvm.ClassFile.FieldType.int)) ∈ lw_all := lw_g (lw_at lw_m2 150 rfl) rfl
theorem q489 : (Jvm.Cond.methodLink "java/lang/String" (335 : Nat) ({ cls := "java/lang/String", name := "coder", desc := "()B" } : Jvm.MethodName)) ∈ lw_all := lw_g (lw_at lw_m2 151 rfl) rfl
theorem q490 : (Jvm.Cond.instanceMethod ({ cls := "java/lang/String", name := "coder", desc := "()B" } : Jvm.MethodName)) ∈ lw_all := lw_g (lw_at lw_m2 152 rfl) rfl
theorem q491 : (Jvm.Cond.selects "java/lang/String" ({ cls := "java/lang/String", name := "coder", desc := "()B" } : Jvm.MethodName) ({ cls := "java/lang/String", name := "coder", desc := "()B" } : Jvm.MethodName)) ∈ lw_all := lw_g (lw_at lw_m2 153 rfl) rfl
theorem q492 : (Jvm.Cond.code ({ cls := "java/lang/String", name := "coder", desc := "()B" } : Jvm.MethodName) prog_43_method_152_code (1 : Nat) (Option.some Jvm.ClassFile.FieldType.byte)) ∈ lw_all := lw_g (lw_at lw_m2 154 rfl) rfl
theorem q493 : (Jvm.Cond.methodLink "java/lang/String" (637 : Nat) ({ cls := "java/lang/StringLatin1", name := "indexOf", desc := "([BIII)I" } : Jvm.MethodName)) ∈ lw_all := lw_g (lw_at lw_m2 155 rfl) rfl
theorem q508 : (Jvm.Cond.methodLink "java/lang/String" (640 : Nat) ({ cls := "java/lang/StringUTF16", name := "indexOf", desc := "([BIII)I" } : Jvm.MethodName)) ∈ lw_all := lw_g (lw_at lw_m2 170 rfl) rfl
theorem q524 : (Jvm.Cond.static ({ cls := "java/lang/String", name := "checkBoundsBeginEnd", desc := "(III)V" } : Jvm.MethodName)) ∈ lw_all := lw_g (lw_at lw_m2 186 rfl) rfl
theorem q525 : (Jvm.Cond.code ({ cls := "java/lang/String", name := "checkBoundsBeginEnd", desc := "(III)V" } : Jvm.MethodName) prog_43_method_158_code (3 : Nat) (Option.none : Option Jvm.ClassFile.FieldType)) ∈ lw_all := lw_g (lw_at lw_m2 187 rfl) rfl
theorem q526 : (Jvm.Cond.fieldLink "java/lang/String" (1053 : Nat) "jdk/internal/util/Preconditions" "SIOOBE_FORMATTER" "Ljava/util/function/BiFunction;") ∈ lw_all := lw_g (lw_at lw_m2 188 rfl) rfl
theorem q528 : (Jvm.Cond.methodLink "java/lang/String" (1062 : Nat) ({ cls := "jdk/internal/util/Preconditions", name := "checkFromToIndex", desc := "(IIILjava/util/function/BiFunction;)I" } : Jvm.MethodName)) ∈ lw_all := lw_g (lw_at lw_m2 190 rfl) rfl
theorem q2285 : (Jvm.Cond.fieldLink "java/lang/String" (15 : Nat) "java/lang/String" "coder" "B") ∈ lw_all := lw_g (lw_at lw_m10 27 rfl) rfl
theorem q2286 : (Jvm.Cond.fieldLink "java/lang/String" (9 : Nat) "java/lang/String" "value" "[B") ∈ lw_all := lw_g (lw_at lw_m10 28 rfl) rfl
theorem in_J4 : ∀ w ∈ wsJ40, w ∈ lw_all := lw_in wsJ40 [265, 267] (by decide +kernel) (by decide +kernel)
/-! java/lang/NullPointerException -/
def RJ5 : String := "java/lang/NullPointerException"
def TJ5 : u_T := fun k => match k with
  | 0 => ("java/lang/Throwable", "backtrace", "Ljava/lang/Object;", false)
  | 1 => ("java/lang/Throwable", "detailMessage", "Ljava/lang/String;", false)
  | 2 => ("java/lang/Throwable", "cause", "Ljava/lang/Throwable;", false)
  | 3 => ("java/lang/Throwable", "stackTrace", "[Ljava/lang/StackTraceElement;", false)
  | 4 => ("java/lang/Throwable", "depth", "I", false)
  | 5 => ("java/lang/Throwable", "suppressedExceptions", "Ljava/util/List;", false)
  | 6 => ("java/lang/NullPointerException", "extendedMessageState", "I", false)
  | _ => ("java/lang/NullPointerException", "extendedMessage", "Ljava/lang/String;", false)
def tyJ5 : Nat → FieldType := fun k => match k with
  | 0 => .object "java/lang/Object"
  | 1 => .object "java/lang/String"
  | 2 => .object "java/lang/Throwable"
  | 3 => .array (.object "java/lang/StackTraceElement")
  | 4 => .int
  | 5 => .object "java/util/List"
  | 6 => .int
  | _ => .object "java/lang/String"
abbrev wsJ50 : List Cond := u_ws RJ5 TJ5 8
theorem nmJ5 : ∀ a, a < 8 → ∀ b, b < 8 → a ≠ b → (TJ5 a).2.1 ≠ (TJ5 b).2.1 := by decide +kernel
theorem tyJ5_ok : ∀ k, k < 8 → parseFieldDescriptor (TJ5 k).2.2.1 = some (tyJ5 k) := by decide +kernel
abbrev cJ5_init : ByteArray := prog_41_method_1_code
def yJ5_init : MethodName := ⟨RJ5, "<init>", "()V"⟩
theorem q109 : (Jvm.Cond.initialized "java/lang/NullPointerException") ∈ lw_all := lw_g (lw_at lw_m1 11 rfl) rfl
theorem q208 : (Jvm.Cond.selects "java/lang/NullPointerException" ({ cls := "java/lang/Throwable", name := "fillInStackTrace", desc := "()Ljava/lang/Throwable;" } : Jvm.MethodName) ({ cls := "java/lang/NullPointerException", name := "fillInStackTrace", desc := "()Ljava/lang/Throwable;" } : Jvm.MethodName)) ∈ lw_all := lw_g (lw_at lw_m1 110 rfl) rfl
theorem q209 : (Jvm.Cond.instanceMethod ({ cls := "java/lang/NullPointerException", name := "fillInStackTrace", desc := "()Ljava/lang/Throwable;" } : Jvm.MethodName)) ∈ lw_all := lw_g (lw_at lw_m1 111 rfl) rfl
theorem q210 : (Jvm.Cond.codeSync ({ cls := "java/lang/NullPointerException", name := "fillInStackTrace", desc := "()Ljava/lang/Throwable;" } : Jvm.MethodName) prog_41_method_3_code (1 : Nat) (Option.some (Jvm.ClassFile.FieldType.object "java/lang/Throwable"))) ∈ lw_all := lw_g (lw_at lw_m1 112 rfl) rfl
theorem q211 : (Jvm.Cond.methodLink "java/lang/NullPointerException" (16 : Nat) ({ cls := "java/lang/NullPointerException", name := "getExtendedNPEMessage", desc := "()Ljava/lang/String;" } : Jvm.MethodName)) ∈ lw_all := lw_g (lw_at lw_m1 113 rfl) rfl
theorem q212 : (Jvm.Cond.privateMethod ({ cls := "java/lang/NullPointerException", name := "getExtendedNPEMessage", desc := "()Ljava/lang/String;" } : Jvm.MethodName)) ∈ lw_tbl := lw_at lw_m1 114 rfl
theorem q213 : (Jvm.Cond.instanceMethod ({ cls := "java/lang/NullPointerException", name := "getExtendedNPEMessage", desc := "()Ljava/lang/String;" } : Jvm.MethodName)) ∈ lw_all := lw_g (lw_at lw_m1 115 rfl) rfl
theorem q214 : (Jvm.Cond.instantiable "java/lang/NullPointerException" (8 : Nat)) ∈ lw_all := lw_g (lw_at lw_m1 116 rfl) rfl
theorem q215 : (Jvm.Cond.native ({ cls := "java/lang/NullPointerException", name := "getExtendedNPEMessage", desc := "()Ljava/lang/String;" } : Jvm.MethodName)) ∈ lw_all := lw_g (lw_at lw_m1 117 rfl) rfl
theorem q216 : (Jvm.Cond.methodLink "java/lang/NullPointerException" (24 : Nat) ({ cls := "java/lang/RuntimeException", name := "fillInStackTrace", desc := "()Ljava/lang/Throwable;" } : Jvm.MethodName)) ∈ lw_all := lw_g (lw_at lw_m1 118 rfl) rfl
theorem q219 : (Jvm.Cond.superclass "java/lang/NullPointerException" "java/lang/RuntimeException") ∈ lw_all := lw_g (lw_at lw_m1 121 rfl) rfl
theorem q270 : (Jvm.Cond.instanceMethod ({ cls := "java/lang/NullPointerException", name := "<init>", desc := "()V" } : Jvm.MethodName)) ∈ lw_all := lw_g (lw_at lw_m1 172 rfl) rfl
theorem q271 : (Jvm.Cond.code ({ cls := "java/lang/NullPointerException", name := "<init>", desc := "()V" } : Jvm.MethodName) prog_41_method_1_code (1 : Nat) (Option.none : Option Jvm.ClassFile.FieldType)) ∈ lw_all := lw_g (lw_at lw_m1 173 rfl) rfl
theorem q272 : (Jvm.Cond.methodLink "java/lang/NullPointerException" (1 : Nat) ({ cls := "java/lang/RuntimeException", name := "<init>", desc := "()V" } : Jvm.MethodName)) ∈ lw_all := lw_g (lw_at lw_m1 174 rfl) rfl
theorem q279 : (Jvm.Cond.fieldLink "java/lang/NullPointerException" (10 : Nat) "java/lang/NullPointerException" "extendedMessageState" "I") ∈ lw_all := lw_g (lw_at lw_m1 181 rfl) rfl
theorem q280 : (Jvm.Cond.fieldLink "java/lang/NullPointerException" (20 : Nat) "java/lang/NullPointerException" "extendedMessage" "Ljava/lang/String;") ∈ lw_all := lw_g (lw_at lw_m1 182 rfl) rfl
theorem q281 : (Jvm.Cond.lays "java/lang/NullPointerException" "java/lang/NullPointerException" "extendedMessageState" "I") ∈ lw_all := lw_g (lw_at lw_m1 183 rfl) rfl
theorem q282 : (Jvm.Cond.soleField "java/lang/NullPointerException" "extendedMessageState") ∈ lw_all := lw_g (lw_at lw_m1 184 rfl) rfl
theorem q283 : (Jvm.Cond.lays "java/lang/NullPointerException" "java/lang/NullPointerException" "extendedMessage" "Ljava/lang/String;") ∈ lw_all := lw_g (lw_at lw_m1 185 rfl) rfl
theorem q284 : (Jvm.Cond.soleField "java/lang/NullPointerException" "extendedMessage") ∈ lw_all := lw_g (lw_at lw_m1 186 rfl) rfl
theorem q285 : (Jvm.Cond.lays "java/lang/NullPointerException" "java/lang/Throwable" "backtrace" "Ljava/lang/Object;") ∈ lw_all := lw_g (lw_at lw_m1 187 rfl) rfl
theorem q286 : (Jvm.Cond.lays "java/lang/NullPointerException" "java/lang/Throwable" "detailMessage" "Ljava/lang/String;") ∈ lw_all := lw_g (lw_at lw_m1 188 rfl) rfl
theorem q287 : (Jvm.Cond.lays "java/lang/NullPointerException" "java/lang/Throwable" "cause" "Ljava/lang/Throwable;") ∈ lw_all := lw_g (lw_at lw_m1 189 rfl) rfl
theorem q288 : (Jvm.Cond.lays "java/lang/NullPointerException" "java/lang/Throwable" "stackTrace" "[Ljava/lang/StackTraceElement;") ∈ lw_all := lw_g (lw_at lw_m1 190 rfl) rfl
theorem q289 : (Jvm.Cond.lays "java/lang/NullPointerException" "java/lang/Throwable" "depth" "I") ∈ lw_all := lw_g (lw_at lw_m1 191 rfl) rfl
theorem q290 : (Jvm.Cond.lays "java/lang/NullPointerException" "java/lang/Throwable" "suppressedExceptions" "Ljava/util/List;") ∈ lw_all := lw_g (lw_at lw_m1 192 rfl) rfl
theorem q291 : (Jvm.Cond.castable "java/lang/NullPointerException" "java/lang/NullPointerException") ∈ lw_tbl := lw_at lw_m1 193 rfl
theorem q292 : (Jvm.Cond.selects "java/lang/NullPointerException" ({ cls := "java/lang/Throwable", name := "fillInStackTrace", desc := "(I)Ljava/lang/Throwable;" } : Jvm.MethodName) ({ cls := "java/lang/Throwable", name := "fillInStackTrace", desc := "(I)Ljava/lang/Throwable;" } : Jvm.MethodName)) ∈ lw_all := lw_g (lw_at lw_m1 194 rfl) rfl
theorem in_J5 : ∀ w ∈ wsJ50, w ∈ lw_all := lw_in wsJ50 [285, 286, 287, 288, 289, 290, 281, 283] (by decide +kernel) (by decide +kernel)
/-! java/lang/IndexOutOfBoundsException -/
def RJ6 : String := "java/lang/IndexOutOfBoundsException"
abbrev cJ6_init : ByteArray := prog_37_method_2_code
def yJ6_init : MethodName := ⟨RJ6, "<init>", "(Ljava/lang/String;)V"⟩
theorem q110 : (Jvm.Cond.initialized "java/lang/IndexOutOfBoundsException") ∈ lw_all := lw_g (lw_at lw_m1 12 rfl) rfl
theorem q299 : (Jvm.Cond.instanceMethod ({ cls := "java/lang/IndexOutOfBoundsException", name := "<init>", desc := "(Ljava/lang/String;)V" } : Jvm.MethodName)) ∈ lw_all := lw_g (lw_at lw_m1 201 rfl) rfl
theorem q300 : (Jvm.Cond.code ({ cls := "java/lang/IndexOutOfBoundsException", name := "<init>", desc := "(Ljava/lang/String;)V" } : Jvm.MethodName) prog_37_method_2_code (2 : Nat) (Option.none : Option Jvm.ClassFile.FieldType)) ∈ lw_all := lw_g (lw_at lw_m1 202 rfl) rfl
theorem q301 : (Jvm.Cond.methodLink "java/lang/IndexOutOfBoundsException" (7 : Nat) ({ cls := "java/lang/RuntimeException", name := "<init>", desc := "(Ljava/lang/String;)V" } : Jvm.MethodName)) ∈ lw_all := lw_g (lw_at lw_m1 203 rfl) rfl
theorem q310 : (Jvm.Cond.declares ({ cls := "java/lang/IndexOutOfBoundsException", name := "<init>", desc := "()V" } : Jvm.MethodName)) ∈ lw_tbl := lw_at lw_m1 212 rfl
theorem q311 : (Jvm.Cond.declares ({ cls := "java/lang/IndexOutOfBoundsException", name := "<init>", desc := "(Ljava/lang/String;)V" } : Jvm.MethodName)) ∈ lw_tbl := lw_at lw_m1 213 rfl
/-! java/lang/ArrayIndexOutOfBoundsException -/
def RJ7 : String := "java/lang/ArrayIndexOutOfBoundsException"
def TJ7 : u_T := fun k => match k with
  | 0 => ("java/lang/Throwable", "backtrace", "Ljava/lang/Object;", false)
  | 1 => ("java/lang/Throwable", "detailMessage", "Ljava/lang/String;", false)
  | 2 => ("java/lang/Throwable", "cause", "Ljava/lang/Throwable;", false)
  | 3 => ("java/lang/Throwable", "stackTrace", "[Ljava/lang/StackTraceElement;", false)
  | 4 => ("java/lang/Throwable", "depth", "I", false)
  | _ => ("java/lang/Throwable", "suppressedExceptions", "Ljava/util/List;", false)
def tyJ7 : Nat → FieldType := fun k => match k with
  | 0 => .object "java/lang/Object"
  | 1 => .object "java/lang/String"
  | 2 => .object "java/lang/Throwable"
  | 3 => .array (.object "java/lang/StackTraceElement")
  | 4 => .int
  | _ => .object "java/util/List"
abbrev wsJ70 : List Cond := u_ws RJ7 TJ7 6
theorem nmJ7 : ∀ a, a < 6 → ∀ b, b < 6 → a ≠ b → (TJ7 a).2.1 ≠ (TJ7 b).2.1 := by decide +kernel
theorem tyJ7_ok : ∀ k, k < 6 → parseFieldDescriptor (TJ7 k).2.2.1 = some (tyJ7 k) := by decide +kernel
abbrev cJ7_init : ByteArray := prog_33_method_2_code
def yJ7_init : MethodName := ⟨RJ7, "<init>", "(Ljava/lang/String;)V"⟩
theorem q111 : (Jvm.Cond.initialized "java/lang/ArrayIndexOutOfBoundsException") ∈ lw_all := lw_g (lw_at lw_m1 13 rfl) rfl
theorem q205 : (Jvm.Cond.selects "java/lang/ArrayIndexOutOfBoundsException" ({ cls := "java/lang/Throwable", name := "fillInStackTrace", desc := "()Ljava/lang/Throwable;" } : Jvm.MethodName) ({ cls := "java/lang/Throwable", name := "fillInStackTrace", desc := "()Ljava/lang/Throwable;" } : Jvm.MethodName)) ∈ lw_all := lw_g (lw_at lw_m1 107 rfl) rfl
theorem q295 : (Jvm.Cond.instantiable "java/lang/ArrayIndexOutOfBoundsException" (6 : Nat)) ∈ lw_all := lw_g (lw_at lw_m1 197 rfl) rfl
theorem q296 : (Jvm.Cond.instanceMethod ({ cls := "java/lang/ArrayIndexOutOfBoundsException", name := "<init>", desc := "(Ljava/lang/String;)V" } : Jvm.MethodName)) ∈ lw_all := lw_g (lw_at lw_m1 198 rfl) rfl
theorem q297 : (Jvm.Cond.code ({ cls := "java/lang/ArrayIndexOutOfBoundsException", name := "<init>", desc := "(Ljava/lang/String;)V" } : Jvm.MethodName) prog_33_method_2_code (2 : Nat) (Option.none : Option Jvm.ClassFile.FieldType)) ∈ lw_all := lw_g (lw_at lw_m1 199 rfl) rfl
theorem q298 : (Jvm.Cond.methodLink "java/lang/ArrayIndexOutOfBoundsException" (7 : Nat) ({ cls := "java/lang/IndexOutOfBoundsException", name := "<init>", desc := "(Ljava/lang/String;)V" } : Jvm.MethodName)) ∈ lw_all := lw_g (lw_at lw_m1 200 rfl) rfl
theorem q302 : (Jvm.Cond.lays "java/lang/ArrayIndexOutOfBoundsException" "java/lang/Throwable" "backtrace" "Ljava/lang/Object;") ∈ lw_all := lw_g (lw_at lw_m1 204 rfl) rfl
theorem q303 : (Jvm.Cond.lays "java/lang/ArrayIndexOutOfBoundsException" "java/lang/Throwable" "detailMessage" "Ljava/lang/String;") ∈ lw_all := lw_g (lw_at lw_m1 205 rfl) rfl
theorem q304 : (Jvm.Cond.lays "java/lang/ArrayIndexOutOfBoundsException" "java/lang/Throwable" "cause" "Ljava/lang/Throwable;") ∈ lw_all := lw_g (lw_at lw_m1 206 rfl) rfl
theorem q305 : (Jvm.Cond.lays "java/lang/ArrayIndexOutOfBoundsException" "java/lang/Throwable" "stackTrace" "[Ljava/lang/StackTraceElement;") ∈ lw_all := lw_g (lw_at lw_m1 207 rfl) rfl
theorem q306 : (Jvm.Cond.lays "java/lang/ArrayIndexOutOfBoundsException" "java/lang/Throwable" "depth" "I") ∈ lw_all := lw_g (lw_at lw_m1 208 rfl) rfl
theorem q307 : (Jvm.Cond.lays "java/lang/ArrayIndexOutOfBoundsException" "java/lang/Throwable" "suppressedExceptions" "Ljava/util/List;") ∈ lw_all := lw_g (lw_at lw_m1 209 rfl) rfl
theorem q308 : (Jvm.Cond.superclass "java/lang/ArrayIndexOutOfBoundsException" "java/lang/IndexOutOfBoundsException") ∈ lw_all := lw_g (lw_at lw_m1 210 rfl) rfl
theorem q309 : (Jvm.Cond.castable "java/lang/ArrayIndexOutOfBoundsException" "java/lang/ArrayIndexOutOfBoundsException") ∈ lw_tbl := lw_at lw_m1 211 rfl
theorem q312 : (Jvm.Cond.selects "java/lang/ArrayIndexOutOfBoundsException" ({ cls := "java/lang/Throwable", name := "fillInStackTrace", desc := "(I)Ljava/lang/Throwable;" } : Jvm.MethodName) ({ cls := "java/lang/Throwable", name := "fillInStackTrace", desc := "(I)Ljava/lang/Throwable;" } : Jvm.MethodName)) ∈ lw_all := lw_g (lw_at lw_m1 214 rfl) rfl
theorem q2259 : (Jvm.Cond.castable "java/lang/ArrayIndexOutOfBoundsException" "java/lang/IndexOutOfBoundsException") ∈ lw_tbl := lw_at lw_m10 1 rfl
theorem in_J7 : ∀ w ∈ wsJ70, w ∈ lw_all := lw_in wsJ70 [302, 303, 304, 305, 306, 307] (by decide +kernel) (by decide +kernel)
/-! java/lang/StringLatin1 -/
def RJ8 : String := "java/lang/StringLatin1"
abbrev cJ8_indexOf : ByteArray := prog_44_method_22_code
def yJ8_indexOf : MethodName := ⟨RJ8, "indexOf", "([BIII)I"⟩
abbrev cJ8_canEncode : ByteArray := prog_44_method_4_code
def yJ8_canEncode : MethodName := ⟨RJ8, "canEncode", "(I)Z"⟩
abbrev cJ8_indexOfChar : ByteArray := prog_44_method_23_code
def yJ8_indexOfChar : MethodName := ⟨RJ8, "indexOfChar", "([BIII)I"⟩
theorem q115 : (Jvm.Cond.initialized "java/lang/StringLatin1") ∈ lw_all := lw_g (lw_at lw_m1 17 rfl) rfl
theorem q494 : (Jvm.Cond.static ({ cls := "java/lang/StringLatin1", name := "indexOf", desc := "([BIII)I" } : Jvm.MethodName)) ∈ lw_all := lw_g (lw_at lw_m2 156 rfl) rfl
theorem q495 : (Jvm.Cond.code ({ cls := "java/lang/StringLatin1", name := "indexOf", desc := "([BIII)I" } : Jvm.MethodName) prog_44_method_22_code (4 : Nat) (Option.some Jvm.ClassFile.FieldType.int)) ∈ lw_all := lw_g (lw_at lw_m2 157 rfl) rfl
theorem q496 : (Jvm.Cond.methodLink "java/lang/StringLatin1" (88 : Nat) ({ cls := "java/lang/StringLatin1", name := "canEncode", desc := "(I)Z" } : Jvm.MethodName)) ∈ lw_all := lw_g (lw_at lw_m2 158 rfl) rfl
theorem q497 : (Jvm.Cond.static ({ cls := "java/lang/StringLatin1", name := "canEncode", desc := "(I)Z" } : Jvm.MethodName)) ∈ lw_all := lw_g (lw_at lw_m2 159 rfl) rfl
theorem q498 : (Jvm.Cond.code ({ cls := "java/lang/StringLatin1", name := "canEncode", desc := "(I)Z" } : Jvm.MethodName) prog_44_method_4_code (1 : Nat) (Option.some Jvm.ClassFile.FieldType.boolean)) ∈ lw_all := lw_g (lw_at lw_m2 160 rfl) rfl
theorem q499 : (Jvm.Cond.methodLink "java/lang/StringLatin1" (92 : Nat) ({ cls := "java/lang/Math", name := "max", desc := "(II)I" } : Jvm.MethodName)) ∈ lw_all := lw_g (lw_at lw_m2 161 rfl) rfl
theorem q502 : (Jvm.Cond.methodLink "java/lang/StringLatin1" (38 : Nat) ({ cls := "java/lang/Math", name := "min", desc := "(II)I" } : Jvm.MethodName)) ∈ lw_all := lw_g (lw_at lw_m2 164 rfl) rfl
theorem q505 : (Jvm.Cond.methodLink "java/lang/StringLatin1" (95 : Nat) ({ cls := "java/lang/StringLatin1", name := "indexOfChar", desc := "([BIII)I" } : Jvm.MethodName)) ∈ lw_all := lw_g (lw_at lw_m2 167 rfl) rfl
theorem q506 : (Jvm.Cond.static ({ cls := "java/lang/StringLatin1", name := "indexOfChar", desc := "([BIII)I" } : Jvm.MethodName)) ∈ lw_all := lw_g (lw_at lw_m2 168 rfl) rfl
theorem q507 : (Jvm.Cond.code ({ cls := "java/lang/StringLatin1", name := "indexOfChar", desc := "([BIII)I" } : Jvm.MethodName) prog_44_method_23_code (6 : Nat) (Option.some Jvm.ClassFile.FieldType.int)) ∈ lw_all := lw_g (lw_at lw_m2 169 rfl) rfl
/-! java/lang/Math -/
def RJ9 : String := "java/lang/Math"
abbrev cJ9_max : ByteArray := prog_39_method_65_code
def yJ9_max : MethodName := ⟨RJ9, "max", "(II)I"⟩
abbrev cJ9_min : ByteArray := prog_39_method_69_code
def yJ9_min : MethodName := ⟨RJ9, "min", "(II)I"⟩
theorem q116 : (Jvm.Cond.initialized "java/lang/Math") ∈ lw_all := lw_g (lw_at lw_m1 18 rfl) rfl
theorem q500 : (Jvm.Cond.static ({ cls := "java/lang/Math", name := "max", desc := "(II)I" } : Jvm.MethodName)) ∈ lw_all := lw_g (lw_at lw_m2 162 rfl) rfl
theorem q501 : (Jvm.Cond.code ({ cls := "java/lang/Math", name := "max", desc := "(II)I" } : Jvm.MethodName) prog_39_method_65_code (2 : Nat) (Option.some Jvm.ClassFile.FieldType.int)) ∈ lw_all := lw_g (lw_at lw_m2 163 rfl) rfl
theorem q503 : (Jvm.Cond.static ({ cls := "java/lang/Math", name := "min", desc := "(II)I" } : Jvm.MethodName)) ∈ lw_all := lw_g (lw_at lw_m2 165 rfl) rfl
theorem q504 : (Jvm.Cond.code ({ cls := "java/lang/Math", name := "min", desc := "(II)I" } : Jvm.MethodName) prog_39_method_69_code (2 : Nat) (Option.some Jvm.ClassFile.FieldType.int)) ∈ lw_all := lw_g (lw_at lw_m2 166 rfl) rfl
/-! java/lang/StringUTF16 -/
def RJ10 : String := "java/lang/StringUTF16"
abbrev cJ10_indexOf : ByteArray := prog_45_method_40_code
def yJ10_indexOf : MethodName := ⟨RJ10, "indexOf", "([BIII)I"⟩
abbrev cJ10_indexOfChar : ByteArray := prog_45_method_47_code
def yJ10_indexOfChar : MethodName := ⟨RJ10, "indexOfChar", "([BIII)I"⟩
abbrev cJ10_checkBoundsBeginEnd : ByteArray := prog_45_method_93_code
def yJ10_checkBoundsBeginEnd : MethodName := ⟨RJ10, "checkBoundsBeginEnd", "(II[B)V"⟩
abbrev cJ10_length : ByteArray := prog_45_method_6_code
def yJ10_length : MethodName := ⟨RJ10, "length", "([B)I"⟩
abbrev cJ10_indexOfCharUnsafe : ByteArray := prog_45_method_48_code
def yJ10_indexOfCharUnsafe : MethodName := ⟨RJ10, "indexOfCharUnsafe", "([BIII)I"⟩
abbrev cJ10_getChar : ByteArray := prog_45_method_5_code
def yJ10_getChar : MethodName := ⟨RJ10, "getChar", "([BI)C"⟩
abbrev cJ10_indexOfSupplementary : ByteArray := prog_45_method_49_code
def yJ10_indexOfSupplementary : MethodName := ⟨RJ10, "indexOfSupplementary", "([BIII)I"⟩
theorem q117 : (Jvm.Cond.initialized "java/lang/StringUTF16") ∈ lw_all := lw_g (lw_at lw_m1 19 rfl) rfl
theorem q509 : (Jvm.Cond.static ({ cls := "java/lang/StringUTF16", name := "indexOf", desc := "([BIII)I" } : Jvm.MethodName)) ∈ lw_all := lw_g (lw_at lw_m2 171 rfl) rfl
theorem q510 : (Jvm.Cond.code ({ cls := "java/lang/StringUTF16", name := "indexOf", desc := "([BIII)I" } : Jvm.MethodName) prog_45_method_40_code (4 : Nat) (Option.some Jvm.ClassFile.FieldType.int)) ∈ lw_all := lw_g (lw_at lw_m2 172 rfl) rfl
theorem q511 : (Jvm.Cond.methodLink "java/lang/StringUTF16" (224 : Nat) ({ cls := "java/lang/Math", name := "max", desc := "(II)I" } : Jvm.MethodName)) ∈ lw_all := lw_g (lw_at lw_m2 173 rfl) rfl
theorem q512 : (Jvm.Cond.methodLink "java/lang/StringUTF16" (183 : Nat) ({ cls := "java/lang/Math", name := "min", desc := "(II)I" } : Jvm.MethodName)) ∈ lw_all := lw_g (lw_at lw_m2 174 rfl) rfl
theorem q513 : (Jvm.Cond.constant "java/lang/StringUTF16" (227 : Nat) (65536 : Int32)) ∈ lw_all := lw_g (lw_at lw_m2 175 rfl) rfl
theorem q514 : (Jvm.Cond.methodLink "java/lang/StringUTF16" (228 : Nat) ({ cls := "java/lang/StringUTF16", name := "indexOfChar", desc := "([BIII)I" } : Jvm.MethodName)) ∈ lw_all := lw_g (lw_at lw_m2 176 rfl) rfl
theorem q515 : (Jvm.Cond.static ({ cls := "java/lang/StringUTF16", name := "indexOfChar", desc := "([BIII)I" } : Jvm.MethodName)) ∈ lw_all := lw_g (lw_at lw_m2 177 rfl) rfl
theorem q516 : (Jvm.Cond.code ({ cls := "java/lang/StringUTF16", name := "indexOfChar", desc := "([BIII)I" } : Jvm.MethodName) prog_45_method_47_code (4 : Nat) (Option.some Jvm.ClassFile.FieldType.int)) ∈ lw_all := lw_g (lw_at lw_m2 178 rfl) rfl
theorem q517 : (Jvm.Cond.methodLink "java/lang/StringUTF16" (96 : Nat) ({ cls := "java/lang/StringUTF16", name := "checkBoundsBeginEnd", desc := "(II[B)V" } : Jvm.MethodName)) ∈ lw_all := lw_g (lw_at lw_m2 179 rfl) rfl
theorem q518 : (Jvm.Cond.static ({ cls := "java/lang/StringUTF16", name := "checkBoundsBeginEnd", desc := "(II[B)V" } : Jvm.MethodName)) ∈ lw_all := lw_g (lw_at lw_m2 180 rfl) rfl
theorem q519 : (Jvm.Cond.code ({ cls := "java/lang/StringUTF16", name := "checkBoundsBeginEnd", desc := "(II[B)V" } : Jvm.MethodName) prog_45_method_93_code (3 : Nat) (Option.none : Option Jvm.ClassFile.FieldType)) ∈ lw_all := lw_g (lw_at lw_m2 181 rfl) rfl
theorem q520 : (Jvm.Cond.methodLink "java/lang/StringUTF16" (48 : Nat) ({ cls := "java/lang/StringUTF16", name := "length", desc := "([B)I" } : Jvm.MethodName)) ∈ lw_all := lw_g (lw_at lw_m2 182 rfl) rfl
theorem q521 : (Jvm.Cond.static ({ cls := "java/lang/StringUTF16", name := "length", desc := "([B)I" } : Jvm.MethodName)) ∈ lw_all := lw_g (lw_at lw_m2 183 rfl) rfl
theorem q522 : (Jvm.Cond.code ({ cls := "java/lang/StringUTF16", name := "length", desc := "([B)I" } : Jvm.MethodName) prog_45_method_6_code (1 : Nat) (Option.some Jvm.ClassFile.FieldType.int)) ∈ lw_all := lw_g (lw_at lw_m2 184 rfl) rfl
theorem q523 : (Jvm.Cond.methodLink "java/lang/StringUTF16" (241 : Nat) ({ cls := "java/lang/String", name := "checkBoundsBeginEnd", desc := "(III)V" } : Jvm.MethodName)) ∈ lw_all := lw_g (lw_at lw_m2 185 rfl) rfl
theorem q531 : (Jvm.Cond.methodLink "java/lang/StringUTF16" (244 : Nat) ({ cls := "java/lang/StringUTF16", name := "indexOfCharUnsafe", desc := "([BIII)I" } : Jvm.MethodName)) ∈ lw_all := lw_g (lw_at lw_m2 193 rfl) rfl
theorem q532 : (Jvm.Cond.static ({ cls := "java/lang/StringUTF16", name := "indexOfCharUnsafe", desc := "([BIII)I" } : Jvm.MethodName)) ∈ lw_all := lw_g (lw_at lw_m2 194 rfl) rfl
theorem q533 : (Jvm.Cond.code ({ cls := "java/lang/StringUTF16", name := "indexOfCharUnsafe", desc := "([BIII)I" } : Jvm.MethodName) prog_45_method_48_code (5 : Nat) (Option.some Jvm.ClassFile.FieldType.int)) ∈ lw_all := lw_g (lw_at lw_m2 195 rfl) rfl
theorem q534 : (Jvm.Cond.methodLink "java/lang/StringUTF16" (71 : Nat) ({ cls := "java/lang/StringUTF16", name := "getChar", desc := "([BI)C" } : Jvm.MethodName)) ∈ lw_all := lw_g (lw_at lw_m2 196 rfl) rfl
theorem q535 : (Jvm.Cond.static ({ cls := "java/lang/StringUTF16", name := "getChar", desc := "([BI)C" } : Jvm.MethodName)) ∈ lw_all := lw_g (lw_at lw_m2 197 rfl) rfl
theorem q536 : (Jvm.Cond.code ({ cls := "java/lang/StringUTF16", name := "getChar", desc := "([BI)C" } : Jvm.MethodName) prog_45_method_5_code (2 : Nat) (Option.some Jvm.ClassFile.FieldType.char)) ∈ lw_all := lw_g (lw_at lw_m2 198 rfl) rfl
theorem q537 : (Jvm.Cond.fieldLink "java/lang/StringUTF16" (44 : Nat) "java/lang/StringUTF16" "$assertionsDisabled" "Z") ∈ lw_all := lw_g (lw_at lw_m2 199 rfl) rfl
theorem q538 : (Jvm.Cond.laysStatic "java/lang/StringUTF16" "$assertionsDisabled" "Z") ∈ lw_tbl := lw_at lw_m2 200 rfl
theorem q539 : (Jvm.Cond.fieldLink "java/lang/StringUTF16" (59 : Nat) "java/lang/StringUTF16" "HI_BYTE_SHIFT" "I") ∈ lw_all := lw_g (lw_at lw_m2 201 rfl) rfl
theorem q540 : (Jvm.Cond.laysStatic "java/lang/StringUTF16" "HI_BYTE_SHIFT" "I") ∈ lw_tbl := lw_at lw_m2 202 rfl
theorem q541 : (Jvm.Cond.fieldLink "java/lang/StringUTF16" (63 : Nat) "java/lang/StringUTF16" "LO_BYTE_SHIFT" "I") ∈ lw_all := lw_g (lw_at lw_m2 203 rfl) rfl
theorem q542 : (Jvm.Cond.laysStatic "java/lang/StringUTF16" "LO_BYTE_SHIFT" "I") ∈ lw_tbl := lw_at lw_m2 204 rfl
theorem q543 : (Jvm.Cond.methodLink "java/lang/StringUTF16" (232 : Nat) ({ cls := "java/lang/StringUTF16", name := "indexOfSupplementary", desc := "([BIII)I" } : Jvm.MethodName)) ∈ lw_all := lw_g (lw_at lw_m2 205 rfl) rfl
theorem q544 : (Jvm.Cond.static ({ cls := "java/lang/StringUTF16", name := "indexOfSupplementary", desc := "([BIII)I" } : Jvm.MethodName)) ∈ lw_all := lw_g (lw_at lw_m2 206 rfl) rfl
theorem q545 : (Jvm.Cond.code ({ cls := "java/lang/StringUTF16", name := "indexOfSupplementary", desc := "([BIII)I" } : Jvm.MethodName) prog_45_method_49_code (7 : Nat) (Option.some Jvm.ClassFile.FieldType.int)) ∈ lw_all := lw_g (lw_at lw_m2 207 rfl) rfl
theorem q546 : (Jvm.Cond.methodLink "java/lang/StringUTF16" (164 : Nat) ({ cls := "java/lang/Character", name := "isValidCodePoint", desc := "(I)Z" } : Jvm.MethodName)) ∈ lw_all := lw_g (lw_at lw_m2 208 rfl) rfl
theorem q549 : (Jvm.Cond.methodLink "java/lang/StringUTF16" (157 : Nat) ({ cls := "java/lang/Character", name := "highSurrogate", desc := "(I)C" } : Jvm.MethodName)) ∈ lw_all := lw_g (lw_at lw_m2 211 rfl) rfl
theorem q553 : (Jvm.Cond.methodLink "java/lang/StringUTF16" (161 : Nat) ({ cls := "java/lang/Character", name := "lowSurrogate", desc := "(I)C" } : Jvm.MethodName)) ∈ lw_all := lw_g (lw_at lw_m2 215 rfl) rfl
/-! jdk/internal/util/Preconditions -/
def RJ11 : String := "jdk/internal/util/Preconditions"
abbrev cJ11_checkFromToIndex : ByteArray := prog_48_method_12_code
def yJ11_checkFromToIndex : MethodName := ⟨RJ11, "checkFromToIndex", "(IIILjava/util/function/BiFunction;)I"⟩
theorem q118 : (Jvm.Cond.initialized "jdk/internal/util/Preconditions") ∈ lw_all := lw_g (lw_at lw_m1 20 rfl) rfl
theorem q527 : (Jvm.Cond.laysStatic "jdk/internal/util/Preconditions" "SIOOBE_FORMATTER" "Ljava/util/function/BiFunction;") ∈ lw_tbl := lw_at lw_m2 189 rfl
theorem q529 : (Jvm.Cond.static ({ cls := "jdk/internal/util/Preconditions", name := "checkFromToIndex", desc := "(IIILjava/util/function/BiFunction;)I" } : Jvm.MethodName)) ∈ lw_all := lw_g (lw_at lw_m2 191 rfl) rfl
theorem q530 : (Jvm.Cond.code ({ cls := "jdk/internal/util/Preconditions", name := "checkFromToIndex", desc := "(IIILjava/util/function/BiFunction;)I" } : Jvm.MethodName) prog_48_method_12_code (4 : Nat) (Option.some Jvm.ClassFile.FieldType.int)) ∈ lw_all := lw_g (lw_at lw_m2 192 rfl) rfl
/-! java/lang/Character -/
def RJ12 : String := "java/lang/Character"
abbrev cJ12_isValidCodePoint : ByteArray := prog_34_method_11_code
def yJ12_isValidCodePoint : MethodName := ⟨RJ12, "isValidCodePoint", "(I)Z"⟩
abbrev cJ12_highSurrogate : ByteArray := prog_34_method_28_code
def yJ12_highSurrogate : MethodName := ⟨RJ12, "highSurrogate", "(I)C"⟩
abbrev cJ12_lowSurrogate : ByteArray := prog_34_method_29_code
def yJ12_lowSurrogate : MethodName := ⟨RJ12, "lowSurrogate", "(I)C"⟩
theorem q119 : (Jvm.Cond.initialized "java/lang/Character") ∈ lw_all := lw_g (lw_at lw_m1 21 rfl) rfl
theorem q547 : (Jvm.Cond.static ({ cls := "java/lang/Character", name := "isValidCodePoint", desc := "(I)Z" } : Jvm.MethodName)) ∈ lw_all := lw_g (lw_at lw_m2 209 rfl) rfl
theorem q548 : (Jvm.Cond.code ({ cls := "java/lang/Character", name := "isValidCodePoint", desc := "(I)Z" } : Jvm.MethodName) prog_34_method_11_code (2 : Nat) (Option.some Jvm.ClassFile.FieldType.boolean)) ∈ lw_all := lw_g (lw_at lw_m2 210 rfl) rfl
theorem q550 : (Jvm.Cond.static ({ cls := "java/lang/Character", name := "highSurrogate", desc := "(I)C" } : Jvm.MethodName)) ∈ lw_all := lw_g (lw_at lw_m2 212 rfl) rfl
theorem q551 : (Jvm.Cond.code ({ cls := "java/lang/Character", name := "highSurrogate", desc := "(I)C" } : Jvm.MethodName) prog_34_method_28_code (1 : Nat) (Option.some Jvm.ClassFile.FieldType.char)) ∈ lw_all := lw_g (lw_at lw_m2 213 rfl) rfl
theorem q552 : (Jvm.Cond.constant "java/lang/Character" (110 : Nat) (55232 : Int32)) ∈ lw_all := lw_g (lw_at lw_m2 214 rfl) rfl
theorem q554 : (Jvm.Cond.static ({ cls := "java/lang/Character", name := "lowSurrogate", desc := "(I)C" } : Jvm.MethodName)) ∈ lw_all := lw_g (lw_at lw_m2 216 rfl) rfl
theorem q555 : (Jvm.Cond.code ({ cls := "java/lang/Character", name := "lowSurrogate", desc := "(I)C" } : Jvm.MethodName) prog_34_method_29_code (1 : Nat) (Option.some Jvm.ClassFile.FieldType.char)) ∈ lw_all := lw_g (lw_at lw_m2 217 rfl) rfl
theorem q556 : (Jvm.Cond.constant "java/lang/Character" (76 : Nat) (56320 : Int32)) ∈ lw_all := lw_g (lw_at lw_m2 218 rfl) rfl
/-! java/lang/Integer -/
def RJ13 : String := "java/lang/Integer"
abbrev cJ13_bitCount : ByteArray := prog_38_method_49_code
def yJ13_bitCount : MethodName := ⟨RJ13, "bitCount", "(I)I"⟩
theorem q127 : (Jvm.Cond.initialized "java/lang/Integer") ∈ lw_all := lw_g (lw_at lw_m1 29 rfl) rfl
theorem q986 : (Jvm.Cond.static ({ cls := "java/lang/Integer", name := "bitCount", desc := "(I)I" } : Jvm.MethodName)) ∈ lw_all := lw_g (lw_at lw_m4 168 rfl) rfl
theorem q987 : (Jvm.Cond.code ({ cls := "java/lang/Integer", name := "bitCount", desc := "(I)I" } : Jvm.MethodName) prog_38_method_49_code (1 : Nat) (Option.some Jvm.ClassFile.FieldType.int)) ∈ lw_all := lw_g (lw_at lw_m4 169 rfl) rfl
theorem q988 : (Jvm.Cond.constant "java/lang/Integer" (265 : Nat) (1431655765 : Int32)) ∈ lw_all := lw_g (lw_at lw_m4 170 rfl) rfl
theorem q989 : (Jvm.Cond.constant "java/lang/Integer" (266 : Nat) (858993459 : Int32)) ∈ lw_all := lw_g (lw_at lw_m4 171 rfl) rfl
theorem q990 : (Jvm.Cond.constant "java/lang/Integer" (267 : Nat) (252645135 : Int32)) ∈ lw_all := lw_g (lw_at lw_m4 172 rfl) rfl
/-! java/lang/NegativeArraySizeException -/
def RJ14 : String := "java/lang/NegativeArraySizeException"
def TJ14 : u_T := fun k => match k with
  | 0 => ("java/lang/Throwable", "backtrace", "Ljava/lang/Object;", false)
  | 1 => ("java/lang/Throwable", "detailMessage", "Ljava/lang/String;", false)
  | 2 => ("java/lang/Throwable", "cause", "Ljava/lang/Throwable;", false)
  | 3 => ("java/lang/Throwable", "stackTrace", "[Ljava/lang/StackTraceElement;", false)
  | 4 => ("java/lang/Throwable", "depth", "I", false)
  | _ => ("java/lang/Throwable", "suppressedExceptions", "Ljava/util/List;", false)
def tyJ14 : Nat → FieldType := fun k => match k with
  | 0 => .object "java/lang/Object"
  | 1 => .object "java/lang/String"
  | 2 => .object "java/lang/Throwable"
  | 3 => .array (.object "java/lang/StackTraceElement")
  | 4 => .int
  | _ => .object "java/util/List"
abbrev wsJ140 : List Cond := u_ws RJ14 TJ14 6
theorem nmJ14 : ∀ a, a < 6 → ∀ b, b < 6 → a ≠ b → (TJ14 a).2.1 ≠ (TJ14 b).2.1 := by decide +kernel
theorem tyJ14_ok : ∀ k, k < 6 → parseFieldDescriptor (TJ14 k).2.2.1 = some (tyJ14 k) := by decide +kernel
abbrev cJ14_init : ByteArray := prog_40_method_2_code
def yJ14_init : MethodName := ⟨RJ14, "<init>", "(Ljava/lang/String;)V"⟩
theorem q137 : (Jvm.Cond.initialized "java/lang/NegativeArraySizeException") ∈ lw_all := lw_g (lw_at lw_m1 39 rfl) rfl
theorem q207 : (Jvm.Cond.selects "java/lang/NegativeArraySizeException" ({ cls := "java/lang/Throwable", name := "fillInStackTrace", desc := "()Ljava/lang/Throwable;" } : Jvm.MethodName) ({ cls := "java/lang/Throwable", name := "fillInStackTrace", desc := "()Ljava/lang/Throwable;" } : Jvm.MethodName)) ∈ lw_all := lw_g (lw_at lw_m1 109 rfl) rfl
theorem q1463 : (Jvm.Cond.instantiable "java/lang/NegativeArraySizeException" (6 : Nat)) ∈ lw_all := lw_g (lw_at lw_m6 165 rfl) rfl
theorem q1464 : (Jvm.Cond.instanceMethod ({ cls := "java/lang/NegativeArraySizeException", name := "<init>", desc := "(Ljava/lang/String;)V" } : Jvm.MethodName)) ∈ lw_all := lw_g (lw_at lw_m6 166 rfl) rfl
theorem q1465 : (Jvm.Cond.code ({ cls := "java/lang/NegativeArraySizeException", name := "<init>", desc := "(Ljava/lang/String;)V" } : Jvm.MethodName) prog_40_method_2_code (2 : Nat) (Option.none : Option Jvm.ClassFile.FieldType)) ∈ lw_all := lw_g (lw_at lw_m6 167 rfl) rfl
theorem q1466 : (Jvm.Cond.methodLink "java/lang/NegativeArraySizeException" (7 : Nat) ({ cls := "java/lang/RuntimeException", name := "<init>", desc := "(Ljava/lang/String;)V" } : Jvm.MethodName)) ∈ lw_all := lw_g (lw_at lw_m6 168 rfl) rfl
theorem q1467 : (Jvm.Cond.lays "java/lang/NegativeArraySizeException" "java/lang/Throwable" "backtrace" "Ljava/lang/Object;") ∈ lw_all := lw_g (lw_at lw_m6 169 rfl) rfl
theorem q1468 : (Jvm.Cond.lays "java/lang/NegativeArraySizeException" "java/lang/Throwable" "detailMessage" "Ljava/lang/String;") ∈ lw_all := lw_g (lw_at lw_m6 170 rfl) rfl
theorem q1469 : (Jvm.Cond.lays "java/lang/NegativeArraySizeException" "java/lang/Throwable" "cause" "Ljava/lang/Throwable;") ∈ lw_all := lw_g (lw_at lw_m6 171 rfl) rfl
theorem q1470 : (Jvm.Cond.lays "java/lang/NegativeArraySizeException" "java/lang/Throwable" "stackTrace" "[Ljava/lang/StackTraceElement;") ∈ lw_all := lw_g (lw_at lw_m6 172 rfl) rfl
theorem q1471 : (Jvm.Cond.lays "java/lang/NegativeArraySizeException" "java/lang/Throwable" "depth" "I") ∈ lw_all := lw_g (lw_at lw_m6 173 rfl) rfl
theorem q1472 : (Jvm.Cond.lays "java/lang/NegativeArraySizeException" "java/lang/Throwable" "suppressedExceptions" "Ljava/util/List;") ∈ lw_all := lw_g (lw_at lw_m6 174 rfl) rfl
theorem q1473 : (Jvm.Cond.superclass "java/lang/NegativeArraySizeException" "java/lang/RuntimeException") ∈ lw_all := lw_g (lw_at lw_m6 175 rfl) rfl
theorem q1474 : (Jvm.Cond.castable "java/lang/NegativeArraySizeException" "java/lang/NegativeArraySizeException") ∈ lw_tbl := lw_at lw_m6 176 rfl
theorem q1475 : (Jvm.Cond.selects "java/lang/NegativeArraySizeException" ({ cls := "java/lang/Throwable", name := "fillInStackTrace", desc := "(I)Ljava/lang/Throwable;" } : Jvm.MethodName) ({ cls := "java/lang/Throwable", name := "fillInStackTrace", desc := "(I)Ljava/lang/Throwable;" } : Jvm.MethodName)) ∈ lw_all := lw_g (lw_at lw_m6 177 rfl) rfl
theorem in_J14 : ∀ w ∈ wsJ140, w ∈ lw_all := lw_in wsJ140 [1467, 1468, 1469, 1470, 1471, 1472] (by decide +kernel) (by decide +kernel)
/-! java/lang/Object -/
def RJ15 : String := "java/lang/Object"
abbrev cJ15_init : ByteArray := object_method_1_code
def yJ15_init : MethodName := ⟨RJ15, "<init>", "()V"⟩
theorem q162 : (Jvm.Cond.instanceMethod ({ cls := "java/lang/Object", name := "<init>", desc := "()V" } : Jvm.MethodName)) ∈ lw_all := lw_g (lw_at lw_m1 64 rfl) rfl
theorem q163 : (Jvm.Cond.code ({ cls := "java/lang/Object", name := "<init>", desc := "()V" } : Jvm.MethodName) object_method_1_code (1 : Nat) (Option.none : Option Jvm.ClassFile.FieldType)) ∈ lw_all := lw_g (lw_at lw_m1 65 rfl) rfl
/-! the law's own entry -/
abbrev cL_law : ByteArray := code
theorem q98 : (Jvm.Cond.initialized "ThirdAfterLaw") ∈ lw_all := lw_g (lw_at lw_m1 0 rfl) rfl
theorem q144 : (Jvm.Cond.methodLink "ThirdAfterLaw" (13 : Nat) ({ cls := "ThirdAfter", name := "buyer", desc := "(II)I" } : Jvm.MethodName)) ∈ lw_all := lw_g (lw_at lw_m1 46 rfl) rfl
theorem q180 : (Jvm.Cond.methodLink "ThirdAfterLaw" (18 : Nat) ({ cls := "ThirdAfter", name := "buyers", desc := "(III)I" } : Jvm.MethodName)) ∈ lw_all := lw_g (lw_at lw_m1 82 rfl) rfl
theorem q321 : (Jvm.Cond.methodLink "ThirdAfterLaw" (122 : Nat) ({ cls := "ThirdAfter", name := "undo", desc := "()I" } : Jvm.MethodName)) ∈ lw_all := lw_g (lw_at lw_m1 223 rfl) rfl
theorem q329 : (Jvm.Cond.methodLink "ThirdAfterLaw" (126 : Nat) ({ cls := "ThirdAfter", name := "redo", desc := "()I" } : Jvm.MethodName)) ∈ lw_all := lw_g (lw_at lw_m1 231 rfl) rfl
theorem q333 : (Jvm.Cond.methodLink "ThirdAfterLaw" (23 : Nat) ({ cls := "ThirdAfter", name := "mend", desc := "(III)I" } : Jvm.MethodName)) ∈ lw_all := lw_g (lw_at lw_m1 235 rfl) rfl
theorem q379 : (Jvm.Cond.methodLink "ThirdAfterLaw" (27 : Nat) ({ cls := "ThirdAfter", name := "of", desc := "(II)I" } : Jvm.MethodName)) ∈ lw_all := lw_g (lw_at lw_m2 41 rfl) rfl
theorem q383 : (Jvm.Cond.methodLink "ThirdAfterLaw" (31 : Nat) ({ cls := "ThirdAfter", name := "feed", desc := "(I)I" } : Jvm.MethodName)) ∈ lw_all := lw_g (lw_at lw_m2 45 rfl) rfl
theorem q387 : (Jvm.Cond.methodLink "ThirdAfterLaw" (36 : Nat) ({ cls := "ThirdAfter", name := "law", desc := "()I" } : Jvm.MethodName)) ∈ lw_all := lw_g (lw_at lw_m2 49 rfl) rfl
theorem q632 : (Jvm.Cond.classLink "ThirdAfterLaw" (7 : Nat) "ThirdAfter") ∈ lw_all := lw_g (lw_at lw_m3 54 rfl) rfl
theorem q633 : (Jvm.Cond.methodLink "ThirdAfterLaw" (9 : Nat) ({ cls := "ThirdAfter", name := "<init>", desc := "()V" } : Jvm.MethodName)) ∈ lw_all := lw_g (lw_at lw_m3 55 rfl) rfl
theorem q843 : (Jvm.Cond.methodLink "ThirdAfterLaw" (41 : Nat) ({ cls := "ThirdAfter", name := "book", desc := "(II)I" } : Jvm.MethodName)) ∈ lw_all := lw_g (lw_at lw_m4 25 rfl) rfl
theorem q847 : (Jvm.Cond.methodLink "ThirdAfterLaw" (45 : Nat) ({ cls := "ThirdAfter", name := "market", desc := "(III)I" } : Jvm.MethodName)) ∈ lw_all := lw_g (lw_at lw_m4 29 rfl) rfl
theorem q941 : (Jvm.Cond.methodLink "ThirdAfterLaw" (49 : Nat) ({ cls := "ThirdAfter", name := "coming", desc := "(III)I" } : Jvm.MethodName)) ∈ lw_all := lw_g (lw_at lw_m4 123 rfl) rfl
theorem q945 : (Jvm.Cond.methodLink "ThirdAfterLaw" (53 : Nat) ({ cls := "ThirdAfter", name := "later", desc := "(III)I" } : Jvm.MethodName)) ∈ lw_all := lw_g (lw_at lw_m4 127 rfl) rfl
theorem q953 : (Jvm.Cond.methodLink "ThirdAfterLaw" (57 : Nat) ({ cls := "ThirdAfter", name := "onceMore", desc := "(III)I" } : Jvm.MethodName)) ∈ lw_all := lw_g (lw_at lw_m4 135 rfl) rfl
theorem q969 : (Jvm.Cond.methodLink "ThirdAfterLaw" (61 : Nat) ({ cls := "ThirdAfter", name := "hired", desc := "(IIII)I" } : Jvm.MethodName)) ∈ lw_all := lw_g (lw_at lw_m4 151 rfl) rfl
theorem q973 : (Jvm.Cond.methodLink "ThirdAfterLaw" (66 : Nat) ({ cls := "ThirdAfter", name := "latch", desc := "(III)I" } : Jvm.MethodName)) ∈ lw_all := lw_g (lw_at lw_m4 155 rfl) rfl
theorem q981 : (Jvm.Cond.methodLink "ThirdAfterLaw" (70 : Nat) ({ cls := "ThirdAfter", name := "order", desc := "(III)I" } : Jvm.MethodName)) ∈ lw_all := lw_g (lw_at lw_m4 163 rfl) rfl
theorem q998 : (Jvm.Cond.methodLink "ThirdAfterLaw" (74 : Nat) ({ cls := "ThirdAfter", name := "flow", desc := "(II)I" } : Jvm.MethodName)) ∈ lw_all := lw_g (lw_at lw_m4 180 rfl) rfl
theorem q1006 : (Jvm.Cond.methodLink "ThirdAfterLaw" (78 : Nat) ({ cls := "ThirdAfter", name := "round", desc := "(II)I" } : Jvm.MethodName)) ∈ lw_all := lw_g (lw_at lw_m4 188 rfl) rfl
theorem q1022 : (Jvm.Cond.methodLink "ThirdAfterLaw" (82 : Nat) ({ cls := "ThirdAfter", name := "judge", desc := "(I)I" } : Jvm.MethodName)) ∈ lw_all := lw_g (lw_at lw_m4 204 rfl) rfl
theorem q1041 : (Jvm.Cond.methodLink "ThirdAfterLaw" (86 : Nat) ({ cls := "ThirdAfter", name := "fits", desc := "(III)I" } : Jvm.MethodName)) ∈ lw_all := lw_g (lw_at lw_m4 223 rfl) rfl
theorem q1057 : (Jvm.Cond.methodLink "ThirdAfterLaw" (90 : Nat) ({ cls := "ThirdAfter", name := "byTurns", desc := "(III)I" } : Jvm.MethodName)) ∈ lw_all := lw_g (lw_at lw_m4 239 rfl) rfl
theorem q1066 : (Jvm.Cond.methodLink "ThirdAfterLaw" (94 : Nat) ({ cls := "ThirdAfter", name := "drawn", desc := "(III)I" } : Jvm.MethodName)) ∈ lw_all := lw_g (lw_at lw_m5 8 rfl) rfl
theorem q1071 : (Jvm.Cond.methodLink "ThirdAfterLaw" (98 : Nat) ({ cls := "ThirdAfter", name := "comes", desc := "(I)I" } : Jvm.MethodName)) ∈ lw_all := lw_g (lw_at lw_m5 13 rfl) rfl
theorem q1075 : (Jvm.Cond.methodLink "ThirdAfterLaw" (102 : Nat) ({ cls := "ThirdAfter", name := "evening", desc := "()I" } : Jvm.MethodName)) ∈ lw_all := lw_g (lw_at lw_m5 17 rfl) rfl
theorem q1079 : (Jvm.Cond.methodLink "ThirdAfterLaw" (106 : Nat) ({ cls := "ThirdAfter", name := "gives", desc := "(III)I" } : Jvm.MethodName)) ∈ lw_all := lw_g (lw_at lw_m5 21 rfl) rfl
theorem q1083 : (Jvm.Cond.methodLink "ThirdAfterLaw" (110 : Nat) ({ cls := "ThirdAfter", name := "led", desc := "(I)I" } : Jvm.MethodName)) ∈ lw_all := lw_g (lw_at lw_m5 25 rfl) rfl
theorem q1087 : (Jvm.Cond.methodLink "ThirdAfterLaw" (114 : Nat) ({ cls := "ThirdAfter", name := "image", desc := "()I" } : Jvm.MethodName)) ∈ lw_all := lw_g (lw_at lw_m5 29 rfl) rfl
theorem q1091 : (Jvm.Cond.methodLink "ThirdAfterLaw" (118 : Nat) ({ cls := "ThirdAfter", name := "back", desc := "()I" } : Jvm.MethodName)) ∈ lw_all := lw_g (lw_at lw_m5 33 rfl) rfl
theorem q1096 : (Jvm.Cond.methodLink "ThirdAfterLaw" (130 : Nat) ({ cls := "ThirdAfter", name := "body", desc := "(I)I" } : Jvm.MethodName)) ∈ lw_all := lw_g (lw_at lw_m5 38 rfl) rfl
theorem q1209 : (Jvm.Cond.methodLink "ThirdAfterLaw" (134 : Nat) ({ cls := "ThirdAfter", name := "act", desc := "(III)I" } : Jvm.MethodName)) ∈ lw_all := lw_g (lw_at lw_m5 151 rfl) rfl
theorem q1450 : (Jvm.Cond.methodLink "ThirdAfterLaw" (138 : Nat) ({ cls := "ThirdAfter", name := "trace", desc := "(I)I" } : Jvm.MethodName)) ∈ lw_all := lw_g (lw_at lw_m6 152 rfl) rfl
theorem q1454 : (Jvm.Cond.methodLink "ThirdAfterLaw" (142 : Nat) ({ cls := "ThirdAfter", name := "keep", desc := "(II)I" } : Jvm.MethodName)) ∈ lw_all := lw_g (lw_at lw_m6 156 rfl) rfl
theorem q1458 : (Jvm.Cond.methodLink "ThirdAfterLaw" (146 : Nat) ({ cls := "ThirdAfter", name := "row", desc := "(III)I" } : Jvm.MethodName)) ∈ lw_all := lw_g (lw_at lw_m6 160 rfl) rfl
theorem q1533 : (Jvm.Cond.methodLink "ThirdAfterLaw" (152 : Nat) ({ cls := "ThirdAfter", name := "put", desc := "(IIJ)I" } : Jvm.MethodName)) ∈ lw_all := lw_g (lw_at lw_m6 235 rfl) rfl
theorem q1556 : (Jvm.Cond.methodLink "ThirdAfterLaw" (157 : Nat) ({ cls := "ThirdAfter", name := "element", desc := "(II)J" } : Jvm.MethodName)) ∈ lw_all := lw_g (lw_at lw_m7 18 rfl) rfl
theorem q1575 : (Jvm.Cond.methodLink "ThirdAfterLaw" (162 : Nat) ({ cls := "ThirdAfter", name := "shift", desc := "(IIIII)I" } : Jvm.MethodName)) ∈ lw_all := lw_g (lw_at lw_m7 37 rfl) rfl
theorem q1607 : (Jvm.Cond.methodLink "ThirdAfterLaw" (167 : Nat) ({ cls := "ThirdAfter", name := "taken", desc := "(II)I" } : Jvm.MethodName)) ∈ lw_all := lw_g (lw_at lw_m7 69 rfl) rfl
theorem q1670 : (Jvm.Cond.methodLink "ThirdAfterLaw" (171 : Nat) ({ cls := "ThirdAfter", name := "count", desc := "(I)I" } : Jvm.MethodName)) ∈ lw_all := lw_g (lw_at lw_m7 132 rfl) rfl
theorem q1674 : (Jvm.Cond.classLink "ThirdAfterLaw" (10 : Nat) "ThirdAfterModel") ∈ lw_all := lw_g (lw_at lw_m7 136 rfl) rfl
theorem q1676 : (Jvm.Cond.methodLink "ThirdAfterLaw" (12 : Nat) ({ cls := "ThirdAfterModel", name := "<init>", desc := "()V" } : Jvm.MethodName)) ∈ lw_all := lw_g (lw_at lw_m7 138 rfl) rfl
theorem q1843 : (Jvm.Cond.methodLink "ThirdAfterLaw" (17 : Nat) ({ cls := "ThirdAfterModel", name := "buyer", desc := "(II)I" } : Jvm.MethodName)) ∈ lw_all := lw_g (lw_at lw_m8 65 rfl) rfl
theorem q1854 : (Jvm.Cond.methodLink "ThirdAfterLaw" (22 : Nat) ({ cls := "ThirdAfterModel", name := "buyers", desc := "(III)I" } : Jvm.MethodName)) ∈ lw_all := lw_g (lw_at lw_m8 76 rfl) rfl
theorem q1866 : (Jvm.Cond.methodLink "ThirdAfterLaw" (26 : Nat) ({ cls := "ThirdAfterModel", name := "mend", desc := "(III)I" } : Jvm.MethodName)) ∈ lw_all := lw_g (lw_at lw_m8 88 rfl) rfl
theorem q1889 : (Jvm.Cond.methodLink "ThirdAfterLaw" (30 : Nat) ({ cls := "ThirdAfterModel", name := "of", desc := "(II)I" } : Jvm.MethodName)) ∈ lw_all := lw_g (lw_at lw_m8 111 rfl) rfl
theorem q1893 : (Jvm.Cond.methodLink "ThirdAfterLaw" (125 : Nat) ({ cls := "ThirdAfterModel", name := "undo", desc := "()I" } : Jvm.MethodName)) ∈ lw_all := lw_g (lw_at lw_m8 115 rfl) rfl
theorem q1897 : (Jvm.Cond.methodLink "ThirdAfterLaw" (129 : Nat) ({ cls := "ThirdAfterModel", name := "redo", desc := "()I" } : Jvm.MethodName)) ∈ lw_all := lw_g (lw_at lw_m8 119 rfl) rfl
theorem q1901 : (Jvm.Cond.methodLink "ThirdAfterLaw" (35 : Nat) ({ cls := "ThirdAfterModel", name := "feed", desc := "(I)I" } : Jvm.MethodName)) ∈ lw_all := lw_g (lw_at lw_m8 123 rfl) rfl
theorem q1905 : (Jvm.Cond.methodLink "ThirdAfterLaw" (40 : Nat) ({ cls := "ThirdAfterModel", name := "law", desc := "()I" } : Jvm.MethodName)) ∈ lw_all := lw_g (lw_at lw_m8 127 rfl) rfl
theorem q1956 : (Jvm.Cond.methodLink "ThirdAfterLaw" (44 : Nat) ({ cls := "ThirdAfterModel", name := "book", desc := "(II)I" } : Jvm.MethodName)) ∈ lw_all := lw_g (lw_at lw_m8 178 rfl) rfl
theorem q1960 : (Jvm.Cond.methodLink "ThirdAfterLaw" (48 : Nat) ({ cls := "ThirdAfterModel", name := "market", desc := "(III)I" } : Jvm.MethodName)) ∈ lw_all := lw_g (lw_at lw_m8 182 rfl) rfl
theorem q2013 : (Jvm.Cond.methodLink "ThirdAfterLaw" (52 : Nat) ({ cls := "ThirdAfterModel", name := "coming", desc := "(III)I" } : Jvm.MethodName)) ∈ lw_all := lw_g (lw_at lw_m8 235 rfl) rfl
theorem q2017 : (Jvm.Cond.methodLink "ThirdAfterLaw" (56 : Nat) ({ cls := "ThirdAfterModel", name := "later", desc := "(III)I" } : Jvm.MethodName)) ∈ lw_all := lw_g (lw_at lw_m8 239 rfl) rfl
theorem q2025 : (Jvm.Cond.methodLink "ThirdAfterLaw" (60 : Nat) ({ cls := "ThirdAfterModel", name := "onceMore", desc := "(III)I" } : Jvm.MethodName)) ∈ lw_all := lw_g (lw_at lw_m9 7 rfl) rfl
theorem q2041 : (Jvm.Cond.methodLink "ThirdAfterLaw" (65 : Nat) ({ cls := "ThirdAfterModel", name := "hired", desc := "(IIII)I" } : Jvm.MethodName)) ∈ lw_all := lw_g (lw_at lw_m9 23 rfl) rfl
theorem q2045 : (Jvm.Cond.methodLink "ThirdAfterLaw" (69 : Nat) ({ cls := "ThirdAfterModel", name := "latch", desc := "(III)I" } : Jvm.MethodName)) ∈ lw_all := lw_g (lw_at lw_m9 27 rfl) rfl
theorem q2053 : (Jvm.Cond.methodLink "ThirdAfterLaw" (73 : Nat) ({ cls := "ThirdAfterModel", name := "order", desc := "(III)I" } : Jvm.MethodName)) ∈ lw_all := lw_g (lw_at lw_m9 35 rfl) rfl
theorem q2062 : (Jvm.Cond.methodLink "ThirdAfterLaw" (77 : Nat) ({ cls := "ThirdAfterModel", name := "flow", desc := "(II)I" } : Jvm.MethodName)) ∈ lw_all := lw_g (lw_at lw_m9 44 rfl) rfl
theorem q2070 : (Jvm.Cond.methodLink "ThirdAfterLaw" (81 : Nat) ({ cls := "ThirdAfterModel", name := "round", desc := "(II)I" } : Jvm.MethodName)) ∈ lw_all := lw_g (lw_at lw_m9 52 rfl) rfl
theorem q2078 : (Jvm.Cond.methodLink "ThirdAfterLaw" (85 : Nat) ({ cls := "ThirdAfterModel", name := "judge", desc := "(I)I" } : Jvm.MethodName)) ∈ lw_all := lw_g (lw_at lw_m9 60 rfl) rfl
theorem q2094 : (Jvm.Cond.methodLink "ThirdAfterLaw" (89 : Nat) ({ cls := "ThirdAfterModel", name := "fits", desc := "(III)I" } : Jvm.MethodName)) ∈ lw_all := lw_g (lw_at lw_m9 76 rfl) rfl
theorem q2110 : (Jvm.Cond.methodLink "ThirdAfterLaw" (93 : Nat) ({ cls := "ThirdAfterModel", name := "byTurns", desc := "(III)I" } : Jvm.MethodName)) ∈ lw_all := lw_g (lw_at lw_m9 92 rfl) rfl
theorem q2123 : (Jvm.Cond.methodLink "ThirdAfterLaw" (97 : Nat) ({ cls := "ThirdAfterModel", name := "drawn", desc := "(III)I" } : Jvm.MethodName)) ∈ lw_all := lw_g (lw_at lw_m9 105 rfl) rfl
theorem q2128 : (Jvm.Cond.methodLink "ThirdAfterLaw" (101 : Nat) ({ cls := "ThirdAfterModel", name := "comes", desc := "(I)I" } : Jvm.MethodName)) ∈ lw_all := lw_g (lw_at lw_m9 110 rfl) rfl
theorem q2132 : (Jvm.Cond.methodLink "ThirdAfterLaw" (105 : Nat) ({ cls := "ThirdAfterModel", name := "evening", desc := "()I" } : Jvm.MethodName)) ∈ lw_all := lw_g (lw_at lw_m9 114 rfl) rfl
theorem q2136 : (Jvm.Cond.methodLink "ThirdAfterLaw" (109 : Nat) ({ cls := "ThirdAfterModel", name := "gives", desc := "(III)I" } : Jvm.MethodName)) ∈ lw_all := lw_g (lw_at lw_m9 118 rfl) rfl
theorem q2140 : (Jvm.Cond.methodLink "ThirdAfterLaw" (113 : Nat) ({ cls := "ThirdAfterModel", name := "led", desc := "(I)I" } : Jvm.MethodName)) ∈ lw_all := lw_g (lw_at lw_m9 122 rfl) rfl
theorem q2144 : (Jvm.Cond.methodLink "ThirdAfterLaw" (117 : Nat) ({ cls := "ThirdAfterModel", name := "image", desc := "()I" } : Jvm.MethodName)) ∈ lw_all := lw_g (lw_at lw_m9 126 rfl) rfl
theorem q2148 : (Jvm.Cond.methodLink "ThirdAfterLaw" (121 : Nat) ({ cls := "ThirdAfterModel", name := "back", desc := "()I" } : Jvm.MethodName)) ∈ lw_all := lw_g (lw_at lw_m9 130 rfl) rfl
theorem q2152 : (Jvm.Cond.methodLink "ThirdAfterLaw" (133 : Nat) ({ cls := "ThirdAfterModel", name := "body", desc := "(I)I" } : Jvm.MethodName)) ∈ lw_all := lw_g (lw_at lw_m9 134 rfl) rfl
theorem q2156 : (Jvm.Cond.methodLink "ThirdAfterLaw" (137 : Nat) ({ cls := "ThirdAfterModel", name := "act", desc := "(III)I" } : Jvm.MethodName)) ∈ lw_all := lw_g (lw_at lw_m9 138 rfl) rfl
theorem q2183 : (Jvm.Cond.methodLink "ThirdAfterLaw" (141 : Nat) ({ cls := "ThirdAfterModel", name := "trace", desc := "(I)I" } : Jvm.MethodName)) ∈ lw_all := lw_g (lw_at lw_m9 165 rfl) rfl
theorem q2187 : (Jvm.Cond.methodLink "ThirdAfterLaw" (145 : Nat) ({ cls := "ThirdAfterModel", name := "keep", desc := "(II)I" } : Jvm.MethodName)) ∈ lw_all := lw_g (lw_at lw_m9 169 rfl) rfl
theorem q2191 : (Jvm.Cond.methodLink "ThirdAfterLaw" (149 : Nat) ({ cls := "ThirdAfterModel", name := "row", desc := "(III)I" } : Jvm.MethodName)) ∈ lw_all := lw_g (lw_at lw_m9 173 rfl) rfl
theorem q2195 : (Jvm.Cond.methodLink "ThirdAfterLaw" (156 : Nat) ({ cls := "ThirdAfterModel", name := "put", desc := "(IIJ)I" } : Jvm.MethodName)) ∈ lw_all := lw_g (lw_at lw_m9 177 rfl) rfl
theorem q2206 : (Jvm.Cond.methodLink "ThirdAfterLaw" (161 : Nat) ({ cls := "ThirdAfterModel", name := "element", desc := "(II)J" } : Jvm.MethodName)) ∈ lw_all := lw_g (lw_at lw_m9 188 rfl) rfl
theorem q2211 : (Jvm.Cond.methodLink "ThirdAfterLaw" (166 : Nat) ({ cls := "ThirdAfterModel", name := "shift", desc := "(IIIII)I" } : Jvm.MethodName)) ∈ lw_all := lw_g (lw_at lw_m9 193 rfl) rfl
theorem q2215 : (Jvm.Cond.methodLink "ThirdAfterLaw" (170 : Nat) ({ cls := "ThirdAfterModel", name := "taken", desc := "(II)I" } : Jvm.MethodName)) ∈ lw_all := lw_g (lw_at lw_m9 197 rfl) rfl
theorem q2219 : (Jvm.Cond.methodLink "ThirdAfterLaw" (174 : Nat) ({ cls := "ThirdAfterModel", name := "count", desc := "(I)I" } : Jvm.MethodName)) ∈ lw_all := lw_g (lw_at lw_m9 201 rfl) rfl
theorem q2223 : (Jvm.Cond.constantLong "ThirdAfterLaw" (150 : Nat) (4294967295 : Int64)) ∈ lw_all := lw_g (lw_at lw_m9 205 rfl) rfl
theorem q126 : (Jvm.Cond.initialized "java/lang/System") ∈ lw_all := lw_g (lw_at lw_m1 28 rfl) rfl
theorem q881 : (Jvm.Cond.static ({ cls := "java/lang/System", name := "arraycopy", desc := "(Ljava/lang/Object;ILjava/lang/Object;II)V" } : Jvm.MethodName)) ∈ lw_all := lw_g (lw_at lw_m4 63 rfl) rfl
theorem q882 : (Jvm.Cond.native ({ cls := "java/lang/System", name := "arraycopy", desc := "(Ljava/lang/Object;ILjava/lang/Object;II)V" } : Jvm.MethodName)) ∈ lw_all := lw_g (lw_at lw_m4 64 rfl) rfl
theorem q264 : (Jvm.Cond.arrayClass Jvm.ClassFile.FieldType.byte) ∈ lw_all := lw_g (lw_at lw_m1 166 rfl) rfl
theorem q637 : (Jvm.Cond.arrayOver (Jvm.ClassFile.FieldType.object "ThirdAfter$Buyer")) ∈ lw_tbl := lw_at lw_m3 59 rfl
theorem q638 : (Jvm.Cond.arrayOver (Jvm.ClassFile.FieldType.object "ThirdAfter$Change")) ∈ lw_tbl := lw_at lw_m3 60 rfl
theorem q651 : (Jvm.Cond.arrayClass Jvm.ClassFile.FieldType.int) ∈ lw_all := lw_g (lw_at lw_m3 73 rfl) rfl
theorem q699 : (Jvm.Cond.arrayOver (Jvm.ClassFile.FieldType.object "ThirdAfter$Market")) ∈ lw_tbl := lw_at lw_m3 121 rfl
theorem q701 : (Jvm.Cond.arrayOver (Jvm.ClassFile.FieldType.array Jvm.ClassFile.FieldType.int)) ∈ lw_tbl := lw_at lw_m3 123 rfl
theorem q703 : (Jvm.Cond.arrayOver (Jvm.ClassFile.FieldType.object "ThirdAfter$Latch")) ∈ lw_tbl := lw_at lw_m3 125 rfl
theorem q705 : (Jvm.Cond.arrayOver (Jvm.ClassFile.FieldType.object "ThirdAfter$Held")) ∈ lw_tbl := lw_at lw_m3 127 rfl
theorem q1500 : (Jvm.Cond.arrayClass Jvm.ClassFile.FieldType.short) ∈ lw_all := lw_g (lw_at lw_m6 202 rfl) rfl
theorem q1521 : (Jvm.Cond.arrayClass Jvm.ClassFile.FieldType.long) ∈ lw_all := lw_g (lw_at lw_m6 223 rfl) rfl
theorem q1532 : (Jvm.Cond.arrayClass Jvm.ClassFile.FieldType.boolean) ∈ lw_all := lw_g (lw_at lw_m6 234 rfl) rfl
