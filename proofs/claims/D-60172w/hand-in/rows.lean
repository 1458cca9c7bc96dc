section
def lw_okq (q : MethodName × Nat) : Prop := (q.1.cls ≠ "java/lang/invoke/MethodHandle" ∧ q.1.cls ≠ "java/lang/invoke/VarHandle") ∧ Cond.instantiable q.1.cls q.2 ∈ tables_1 ∧ Cond.privateMethod q.1 ∈ tables_1 ∧ Cond.instanceMethod q.1 ∈ tables_1
theorem lw_p0 : lw_okq (⟨"MapCountsModel", "reckon", "()V"⟩, 5) := ⟨⟨by decide +kernel, by decide +kernel⟩, List.mem_of_getElem? (i := 76) (by decide +kernel), List.mem_of_getElem? (i := 109) (by decide +kernel), List.mem_of_getElem? (i := 110) (by decide +kernel)⟩
def lw_privs_1 : List (MethodName × Nat) := [(⟨"MapCountsModel", "reckon", "()V"⟩, 5)]
theorem lw_r1 : ∀ q ∈ lw_privs_1, lw_okq q := List.forall_mem_cons.mpr ⟨lw_p0, fun _ h => absurd h List.not_mem_nil⟩
def lw_privs : List (MethodName × Nat) := lw_privs_1
def lw_tbl : List Cond := k2_sels lw_privs ++ tables_1
theorem lw_privs_ok : ∀ q ∈ lw_privs, lw_okq q := lw_r1
def R_law : String := "MapCountsLaw"
def R_MC : String := "MapCounts"
def F_MC : u_T := fun k => match k with
  | 0 => ("MapCounts", "things", "I", false)
  | _ => ("MapCounts", "boxes", "I", false)
def t_MC : Nat → FieldType := fun k => match k with
  | 0 => .int
  | _ => .int
abbrev w_MC : List Cond := u_ws R_MC F_MC 2
def R_MM : String := "MapCountsModel"
def F_MM : u_T := fun k => match k with
  | 0 => ("MapCountsModel", "n", "I", false)
  | 1 => ("MapCountsModel", "m", "I", false)
  | 2 => ("MapCountsModel", "known", "Z", false)
  | 3 => ("MapCountsModel", "c", "[J", true)
  | _ => ("MapCountsModel", "f", "[I", true)
def t_MM : Nat → FieldType := fun k => match k with
  | 0 => .int
  | 1 => .int
  | 2 => .boolean
  | 3 => .array .long
  | _ => .array .int
abbrev w_MM : List Cond := u_ws R_MM F_MM 5
abbrev classes : List vw_C := [(R_MC, F_MC, 2), (R_MM, F_MM, 5)]
theorem n_MC : ∀ a, a < 2 → ∀ b, b < 2 → a ≠ b → (F_MC a).2.1 ≠ (F_MC b).2.1 := by decide +kernel
theorem t_MC_ok : ∀ k, k < 2 → parseFieldDescriptor (F_MC k).2.2.1 = some (t_MC k) := by decide +kernel
theorem n_MM : ∀ a, a < 5 → ∀ b, b < 5 → a ≠ b → (F_MM a).2.1 ≠ (F_MM b).2.1 := by decide +kernel
theorem t_MM_ok : ∀ k, k < 5 → parseFieldDescriptor (F_MM k).2.2.1 = some (t_MM k) := by decide +kernel
theorem i_MC : ∀ w ∈ w_MC, w ∈ lw_tbl := by decide +kernel
theorem i_MM : ∀ w ∈ w_MM, w ∈ lw_tbl := by decide +kernel
abbrev b_MC_init : ByteArray := prog_1_method_1_code
def y_MC_init : MethodName := ⟨R_MC, "<init>", "()V"⟩
abbrev b_MC_load : ByteArray := prog_1_method_2_code
def y_MC_load : MethodName := ⟨R_MC, "load", "(II)V"⟩
abbrev b_MC_power : ByteArray := prog_1_method_3_code
def y_MC_power : MethodName := ⟨R_MC, "power", "(II)J"⟩
abbrev b_MC_falling : ByteArray := prog_1_method_4_code
def y_MC_falling : MethodName := ⟨R_MC, "falling", "(II)J"⟩
abbrev b_MC_chosen : ByteArray := prog_1_method_5_code
def y_MC_chosen : MethodName := ⟨R_MC, "chosen", "(II)J"⟩
abbrev b_MC_onto : ByteArray := prog_1_method_6_code
def y_MC_onto : MethodName := ⟨R_MC, "onto", "(II)J"⟩
abbrev b_MC_all : ByteArray := prog_1_method_7_code
def y_MC_all : MethodName := ⟨R_MC, "all", "()J"⟩
abbrev b_MC_single : ByteArray := prog_1_method_8_code
def y_MC_single : MethodName := ⟨R_MC, "single", "()J"⟩
abbrev b_MC_full : ByteArray := prog_1_method_9_code
def y_MC_full : MethodName := ⟨R_MC, "full", "()J"⟩
abbrev b_MC_alike : ByteArray := prog_1_method_10_code
def y_MC_alike : MethodName := ⟨R_MC, "alike", "()J"⟩
abbrev b_MC_alikeFull : ByteArray := prog_1_method_11_code
def y_MC_alikeFull : MethodName := ⟨R_MC, "alikeFull", "()J"⟩
abbrev b_MC_unmarked : ByteArray := prog_1_method_12_code
def y_MC_unmarked : MethodName := ⟨R_MC, "unmarked", "()J"⟩
abbrev b_MC_unmarkedFull : ByteArray := prog_1_method_13_code
def y_MC_unmarkedFull : MethodName := ⟨R_MC, "unmarkedFull", "()J"⟩
abbrev b_MC_strange : ByteArray := prog_1_method_14_code
def y_MC_strange : MethodName := ⟨R_MC, "strange", "()J"⟩
abbrev b_MC_away : ByteArray := prog_1_method_15_code
def y_MC_away : MethodName := ⟨R_MC, "away", "()J"⟩
abbrev b_MC_choices : ByteArray := prog_1_method_16_code
def y_MC_choices : MethodName := ⟨R_MC, "choices", "()J"⟩
abbrev b_MM_init : ByteArray := prog_3_method_1_code
def y_MM_init : MethodName := ⟨R_MM, "<init>", "()V"⟩
abbrev b_MM_load : ByteArray := prog_3_method_2_code
def y_MM_load : MethodName := ⟨R_MM, "load", "(II)V"⟩
abbrev b_MM_reckon : ByteArray := prog_3_method_3_code
def y_MM_reckon : MethodName := ⟨R_MM, "reckon", "()V"⟩
abbrev b_MM_all : ByteArray := prog_3_method_4_code
def y_MM_all : MethodName := ⟨R_MM, "all", "()J"⟩
abbrev b_MM_single : ByteArray := prog_3_method_5_code
def y_MM_single : MethodName := ⟨R_MM, "single", "()J"⟩
abbrev b_MM_full : ByteArray := prog_3_method_6_code
def y_MM_full : MethodName := ⟨R_MM, "full", "()J"⟩
abbrev b_MM_alike : ByteArray := prog_3_method_7_code
def y_MM_alike : MethodName := ⟨R_MM, "alike", "()J"⟩
abbrev b_MM_alikeFull : ByteArray := prog_3_method_8_code
def y_MM_alikeFull : MethodName := ⟨R_MM, "alikeFull", "()J"⟩
abbrev b_MM_unmarked : ByteArray := prog_3_method_9_code
def y_MM_unmarked : MethodName := ⟨R_MM, "unmarked", "()J"⟩
abbrev b_MM_unmarkedFull : ByteArray := prog_3_method_10_code
def y_MM_unmarkedFull : MethodName := ⟨R_MM, "unmarkedFull", "()J"⟩
abbrev b_MM_strange : ByteArray := prog_3_method_11_code
def y_MM_strange : MethodName := ⟨R_MM, "strange", "()J"⟩
abbrev b_MM_away : ByteArray := prog_3_method_12_code
def y_MM_away : MethodName := ⟨R_MM, "away", "()J"⟩
abbrev b_MM_choices : ByteArray := prog_3_method_13_code
def y_MM_choices : MethodName := ⟨R_MM, "choices", "()J"⟩
def w_MC_init : List Cond := .code y_MC_init b_MC_init 1 none :: ([.methodLink R_MC 1 objectInit, .instanceMethod objectInit, .code objectInit ⟨#[0xb1]⟩ 1 none, .fieldLink R_MC 7 "MapCounts" "things" "I", .fieldLink R_MC 13 "MapCounts" "boxes" "I"] ++ w_MC)
def w_MC_load : List Cond := .code y_MC_load b_MC_load 3 none :: ([.constant R_MC 16 2147483647, .fieldLink R_MC 7 "MapCounts" "things" "I", .fieldLink R_MC 13 "MapCounts" "boxes" "I"] ++ w_MC)
def w_MC_power : List Cond := .code y_MC_power b_MC_power 5 (some .long) :: ([])
def w_MC_falling : List Cond := .code y_MC_falling b_MC_falling 5 (some .long) :: ([])
def w_MC_chosen : List Cond := .code y_MC_chosen b_MC_chosen 2 (some .long) :: ([.methodLink R_MC 17 y_MC_falling, .static y_MC_falling, .initialized R_MC, .code y_MC_falling b_MC_falling 5 (some .long)])
def w_MC_onto : List Cond := .code y_MC_onto b_MC_onto 7 (some .long) :: ([.methodLink R_MC 21 y_MC_chosen, .static y_MC_chosen, .initialized R_MC, .code y_MC_chosen b_MC_chosen 2 (some .long), .methodLink R_MC 17 y_MC_falling, .static y_MC_falling, .code y_MC_falling b_MC_falling 5 (some .long), .methodLink R_MC 24 y_MC_power, .static y_MC_power, .code y_MC_power b_MC_power 5 (some .long)])
def w_MC_all : List Cond := .code y_MC_all b_MC_all 1 (some .long) :: ([.fieldLink R_MC 13 "MapCounts" "boxes" "I", .fieldLink R_MC 7 "MapCounts" "things" "I", .methodLink R_MC 24 y_MC_power, .static y_MC_power, .initialized R_MC, .code y_MC_power b_MC_power 5 (some .long)] ++ w_MC)
def w_MC_single : List Cond := .code y_MC_single b_MC_single 1 (some .long) :: ([.fieldLink R_MC 13 "MapCounts" "boxes" "I", .fieldLink R_MC 7 "MapCounts" "things" "I", .methodLink R_MC 17 y_MC_falling, .static y_MC_falling, .initialized R_MC, .code y_MC_falling b_MC_falling 5 (some .long)] ++ w_MC)
def w_MC_full : List Cond := .code y_MC_full b_MC_full 1 (some .long) :: ([.fieldLink R_MC 7 "MapCounts" "things" "I", .fieldLink R_MC 13 "MapCounts" "boxes" "I", .methodLink R_MC 27 y_MC_onto, .static y_MC_onto, .initialized R_MC, .code y_MC_onto b_MC_onto 7 (some .long), .methodLink R_MC 21 y_MC_chosen, .static y_MC_chosen, .code y_MC_chosen b_MC_chosen 2 (some .long), .methodLink R_MC 17 y_MC_falling, .static y_MC_falling, .code y_MC_falling b_MC_falling 5 (some .long), .methodLink R_MC 24 y_MC_power, .static y_MC_power, .code y_MC_power b_MC_power 5 (some .long)] ++ w_MC)
def w_MC_alike : List Cond := .code y_MC_alike b_MC_alike 1 (some .long) :: ([.fieldLink R_MC 7 "MapCounts" "things" "I", .fieldLink R_MC 13 "MapCounts" "boxes" "I", .methodLink R_MC 21 y_MC_chosen, .static y_MC_chosen, .initialized R_MC, .code y_MC_chosen b_MC_chosen 2 (some .long), .methodLink R_MC 17 y_MC_falling, .static y_MC_falling, .code y_MC_falling b_MC_falling 5 (some .long)] ++ w_MC)
def w_MC_alikeFull : List Cond := .code y_MC_alikeFull b_MC_alikeFull 1 (some .long) :: ([.fieldLink R_MC 7 "MapCounts" "things" "I", .fieldLink R_MC 13 "MapCounts" "boxes" "I", .methodLink R_MC 21 y_MC_chosen, .static y_MC_chosen, .initialized R_MC, .code y_MC_chosen b_MC_chosen 2 (some .long), .methodLink R_MC 17 y_MC_falling, .static y_MC_falling, .code y_MC_falling b_MC_falling 5 (some .long)] ++ w_MC)
def w_MC_unmarked : List Cond := .code y_MC_unmarked b_MC_unmarked 4 (some .long) :: ([.fieldLink R_MC 13 "MapCounts" "boxes" "I", .fieldLink R_MC 7 "MapCounts" "things" "I", .methodLink R_MC 27 y_MC_onto, .static y_MC_onto, .initialized R_MC, .code y_MC_onto b_MC_onto 7 (some .long), .methodLink R_MC 21 y_MC_chosen, .static y_MC_chosen, .code y_MC_chosen b_MC_chosen 2 (some .long), .methodLink R_MC 17 y_MC_falling, .static y_MC_falling, .code y_MC_falling b_MC_falling 5 (some .long), .methodLink R_MC 24 y_MC_power, .static y_MC_power, .code y_MC_power b_MC_power 5 (some .long)] ++ w_MC)
def w_MC_unmarkedFull : List Cond := .code y_MC_unmarkedFull b_MC_unmarkedFull 1 (some .long) :: ([.fieldLink R_MC 7 "MapCounts" "things" "I", .fieldLink R_MC 13 "MapCounts" "boxes" "I", .methodLink R_MC 27 y_MC_onto, .static y_MC_onto, .initialized R_MC, .code y_MC_onto b_MC_onto 7 (some .long), .methodLink R_MC 21 y_MC_chosen, .static y_MC_chosen, .code y_MC_chosen b_MC_chosen 2 (some .long), .methodLink R_MC 17 y_MC_falling, .static y_MC_falling, .code y_MC_falling b_MC_falling 5 (some .long), .methodLink R_MC 24 y_MC_power, .static y_MC_power, .code y_MC_power b_MC_power 5 (some .long)] ++ w_MC)
def w_MC_strange : List Cond := .code y_MC_strange b_MC_strange 2 (some .long) :: ([.fieldLink R_MC 7 "MapCounts" "things" "I", .fieldLink R_MC 13 "MapCounts" "boxes" "I", .methodLink R_MC 24 y_MC_power, .static y_MC_power, .initialized R_MC, .code y_MC_power b_MC_power 5 (some .long)] ++ w_MC)
def w_MC_away : List Cond := .code y_MC_away b_MC_away 6 (some .long) :: ([.fieldLink R_MC 7 "MapCounts" "things" "I", .fieldLink R_MC 13 "MapCounts" "boxes" "I", .methodLink R_MC 21 y_MC_chosen, .static y_MC_chosen, .initialized R_MC, .code y_MC_chosen b_MC_chosen 2 (some .long), .methodLink R_MC 17 y_MC_falling, .static y_MC_falling, .code y_MC_falling b_MC_falling 5 (some .long)] ++ w_MC)
def w_MC_choices : List Cond := .code y_MC_choices b_MC_choices 1 (some .long) :: ([.fieldLink R_MC 13 "MapCounts" "boxes" "I", .fieldLink R_MC 7 "MapCounts" "things" "I", .methodLink R_MC 21 y_MC_chosen, .static y_MC_chosen, .initialized R_MC, .code y_MC_chosen b_MC_chosen 2 (some .long), .methodLink R_MC 17 y_MC_falling, .static y_MC_falling, .code y_MC_falling b_MC_falling 5 (some .long)] ++ w_MC)
def w_MM_init : List Cond := .code y_MM_init b_MM_init 1 none :: ([.methodLink R_MM 1 objectInit, .instanceMethod objectInit, .code objectInit ⟨#[0xb1]⟩ 1 none, .fieldLink R_MM 7 "MapCountsModel" "n" "I", .fieldLink R_MM 13 "MapCountsModel" "m" "I", .arrayClass .long, .fieldLink R_MM 16 "MapCountsModel" "c" "[J", .arrayClass .int, .fieldLink R_MM 20 "MapCountsModel" "f" "[I"] ++ w_MM)
def w_MM_load : List Cond := .code y_MM_load b_MM_load 3 none :: ([.constant R_MM 24 2147483647, .fieldLink R_MM 7 "MapCountsModel" "n" "I", .fieldLink R_MM 13 "MapCountsModel" "m" "I", .fieldLink R_MM 25 "MapCountsModel" "known" "Z"] ++ w_MM)
def w_MM_reckon : List Cond := .code y_MM_reckon b_MM_reckon 11 none :: ([.fieldLink R_MM 25 "MapCountsModel" "known" "Z", .fieldLink R_MM 16 "MapCountsModel" "c" "[J", .fieldLink R_MM 7 "MapCountsModel" "n" "I", .fieldLink R_MM 13 "MapCountsModel" "m" "I", .fieldLink R_MM 20 "MapCountsModel" "f" "[I"] ++ w_MM)
def w_MM_all : List Cond := .code y_MM_all b_MM_all 1 (some .long) :: ([.methodLink R_MM 29 y_MM_reckon, .instanceMethod y_MM_reckon, .selects R_MM y_MM_reckon y_MM_reckon, .initialized R_MM, .code y_MM_reckon b_MM_reckon 11 none, .fieldLink R_MM 25 "MapCountsModel" "known" "Z", .fieldLink R_MM 16 "MapCountsModel" "c" "[J", .fieldLink R_MM 7 "MapCountsModel" "n" "I", .fieldLink R_MM 13 "MapCountsModel" "m" "I", .fieldLink R_MM 20 "MapCountsModel" "f" "[I"] ++ w_MM)
def w_MM_single : List Cond := .code y_MM_single b_MM_single 1 (some .long) :: ([.methodLink R_MM 29 y_MM_reckon, .instanceMethod y_MM_reckon, .selects R_MM y_MM_reckon y_MM_reckon, .initialized R_MM, .code y_MM_reckon b_MM_reckon 11 none, .fieldLink R_MM 25 "MapCountsModel" "known" "Z", .fieldLink R_MM 16 "MapCountsModel" "c" "[J", .fieldLink R_MM 7 "MapCountsModel" "n" "I", .fieldLink R_MM 13 "MapCountsModel" "m" "I", .fieldLink R_MM 20 "MapCountsModel" "f" "[I"] ++ w_MM)
def w_MM_full : List Cond := .code y_MM_full b_MM_full 1 (some .long) :: ([.methodLink R_MM 29 y_MM_reckon, .instanceMethod y_MM_reckon, .selects R_MM y_MM_reckon y_MM_reckon, .initialized R_MM, .code y_MM_reckon b_MM_reckon 11 none, .fieldLink R_MM 25 "MapCountsModel" "known" "Z", .fieldLink R_MM 16 "MapCountsModel" "c" "[J", .fieldLink R_MM 7 "MapCountsModel" "n" "I", .fieldLink R_MM 13 "MapCountsModel" "m" "I", .fieldLink R_MM 20 "MapCountsModel" "f" "[I"] ++ w_MM)
def w_MM_alike : List Cond := .code y_MM_alike b_MM_alike 1 (some .long) :: ([.methodLink R_MM 29 y_MM_reckon, .instanceMethod y_MM_reckon, .selects R_MM y_MM_reckon y_MM_reckon, .initialized R_MM, .code y_MM_reckon b_MM_reckon 11 none, .fieldLink R_MM 25 "MapCountsModel" "known" "Z", .fieldLink R_MM 16 "MapCountsModel" "c" "[J", .fieldLink R_MM 7 "MapCountsModel" "n" "I", .fieldLink R_MM 13 "MapCountsModel" "m" "I", .fieldLink R_MM 20 "MapCountsModel" "f" "[I"] ++ w_MM)
def w_MM_alikeFull : List Cond := .code y_MM_alikeFull b_MM_alikeFull 1 (some .long) :: ([.methodLink R_MM 29 y_MM_reckon, .instanceMethod y_MM_reckon, .selects R_MM y_MM_reckon y_MM_reckon, .initialized R_MM, .code y_MM_reckon b_MM_reckon 11 none, .fieldLink R_MM 25 "MapCountsModel" "known" "Z", .fieldLink R_MM 16 "MapCountsModel" "c" "[J", .fieldLink R_MM 7 "MapCountsModel" "n" "I", .fieldLink R_MM 13 "MapCountsModel" "m" "I", .fieldLink R_MM 20 "MapCountsModel" "f" "[I"] ++ w_MM)
def w_MM_unmarked : List Cond := .code y_MM_unmarked b_MM_unmarked 1 (some .long) :: ([.methodLink R_MM 29 y_MM_reckon, .instanceMethod y_MM_reckon, .selects R_MM y_MM_reckon y_MM_reckon, .initialized R_MM, .code y_MM_reckon b_MM_reckon 11 none, .fieldLink R_MM 25 "MapCountsModel" "known" "Z", .fieldLink R_MM 16 "MapCountsModel" "c" "[J", .fieldLink R_MM 7 "MapCountsModel" "n" "I", .fieldLink R_MM 13 "MapCountsModel" "m" "I", .fieldLink R_MM 20 "MapCountsModel" "f" "[I"] ++ w_MM)
def w_MM_unmarkedFull : List Cond := .code y_MM_unmarkedFull b_MM_unmarkedFull 1 (some .long) :: ([.methodLink R_MM 29 y_MM_reckon, .instanceMethod y_MM_reckon, .selects R_MM y_MM_reckon y_MM_reckon, .initialized R_MM, .code y_MM_reckon b_MM_reckon 11 none, .fieldLink R_MM 25 "MapCountsModel" "known" "Z", .fieldLink R_MM 16 "MapCountsModel" "c" "[J", .fieldLink R_MM 7 "MapCountsModel" "n" "I", .fieldLink R_MM 13 "MapCountsModel" "m" "I", .fieldLink R_MM 20 "MapCountsModel" "f" "[I"] ++ w_MM)
def w_MM_strange : List Cond := .code y_MM_strange b_MM_strange 1 (some .long) :: ([.methodLink R_MM 29 y_MM_reckon, .instanceMethod y_MM_reckon, .selects R_MM y_MM_reckon y_MM_reckon, .initialized R_MM, .code y_MM_reckon b_MM_reckon 11 none, .fieldLink R_MM 25 "MapCountsModel" "known" "Z", .fieldLink R_MM 16 "MapCountsModel" "c" "[J", .fieldLink R_MM 7 "MapCountsModel" "n" "I", .fieldLink R_MM 13 "MapCountsModel" "m" "I", .fieldLink R_MM 20 "MapCountsModel" "f" "[I"] ++ w_MM)
def w_MM_away : List Cond := .code y_MM_away b_MM_away 1 (some .long) :: ([.methodLink R_MM 29 y_MM_reckon, .instanceMethod y_MM_reckon, .selects R_MM y_MM_reckon y_MM_reckon, .initialized R_MM, .code y_MM_reckon b_MM_reckon 11 none, .fieldLink R_MM 25 "MapCountsModel" "known" "Z", .fieldLink R_MM 16 "MapCountsModel" "c" "[J", .fieldLink R_MM 7 "MapCountsModel" "n" "I", .fieldLink R_MM 13 "MapCountsModel" "m" "I", .fieldLink R_MM 20 "MapCountsModel" "f" "[I"] ++ w_MM)
def w_MM_choices : List Cond := .code y_MM_choices b_MM_choices 1 (some .long) :: ([.methodLink R_MM 29 y_MM_reckon, .instanceMethod y_MM_reckon, .selects R_MM y_MM_reckon y_MM_reckon, .initialized R_MM, .code y_MM_reckon b_MM_reckon 11 none, .fieldLink R_MM 25 "MapCountsModel" "known" "Z", .fieldLink R_MM 16 "MapCountsModel" "c" "[J", .fieldLink R_MM 7 "MapCountsModel" "n" "I", .fieldLink R_MM 13 "MapCountsModel" "m" "I", .fieldLink R_MM 20 "MapCountsModel" "f" "[I"] ++ w_MM)
theorem i_MC_init : ∀ w ∈ w_MC, w ∈ w_MC_init := by decide +kernel
theorem m_MC_init_7 : Cond.fieldLink R_MC 7 "MapCounts" "things" "I" ∈ w_MC_init := by decide +kernel
theorem m_MC_init_13 : Cond.fieldLink R_MC 13 "MapCounts" "boxes" "I" ∈ w_MC_init := by decide +kernel
theorem i_MC_load : ∀ w ∈ w_MC, w ∈ w_MC_load := by decide +kernel
theorem m_MC_load_7 : Cond.fieldLink R_MC 7 "MapCounts" "things" "I" ∈ w_MC_load := by decide +kernel
theorem m_MC_load_13 : Cond.fieldLink R_MC 13 "MapCounts" "boxes" "I" ∈ w_MC_load := by decide +kernel
theorem i_MC_all : ∀ w ∈ w_MC, w ∈ w_MC_all := by decide +kernel
theorem m_MC_all_13 : Cond.fieldLink R_MC 13 "MapCounts" "boxes" "I" ∈ w_MC_all := by decide +kernel
theorem m_MC_all_7 : Cond.fieldLink R_MC 7 "MapCounts" "things" "I" ∈ w_MC_all := by decide +kernel
theorem i_MC_single : ∀ w ∈ w_MC, w ∈ w_MC_single := by decide +kernel
theorem m_MC_single_13 : Cond.fieldLink R_MC 13 "MapCounts" "boxes" "I" ∈ w_MC_single := by decide +kernel
theorem m_MC_single_7 : Cond.fieldLink R_MC 7 "MapCounts" "things" "I" ∈ w_MC_single := by decide +kernel
theorem i_MC_full : ∀ w ∈ w_MC, w ∈ w_MC_full := by decide +kernel
theorem m_MC_full_7 : Cond.fieldLink R_MC 7 "MapCounts" "things" "I" ∈ w_MC_full := by decide +kernel
theorem m_MC_full_13 : Cond.fieldLink R_MC 13 "MapCounts" "boxes" "I" ∈ w_MC_full := by decide +kernel
theorem i_MC_alike : ∀ w ∈ w_MC, w ∈ w_MC_alike := by decide +kernel
theorem m_MC_alike_7 : Cond.fieldLink R_MC 7 "MapCounts" "things" "I" ∈ w_MC_alike := by decide +kernel
theorem m_MC_alike_13 : Cond.fieldLink R_MC 13 "MapCounts" "boxes" "I" ∈ w_MC_alike := by decide +kernel
theorem i_MC_alikeFull : ∀ w ∈ w_MC, w ∈ w_MC_alikeFull := by decide +kernel
theorem m_MC_alikeFull_7 : Cond.fieldLink R_MC 7 "MapCounts" "things" "I" ∈ w_MC_alikeFull := by decide +kernel
theorem m_MC_alikeFull_13 : Cond.fieldLink R_MC 13 "MapCounts" "boxes" "I" ∈ w_MC_alikeFull := by decide +kernel
theorem i_MC_unmarked : ∀ w ∈ w_MC, w ∈ w_MC_unmarked := by decide +kernel
theorem m_MC_unmarked_13 : Cond.fieldLink R_MC 13 "MapCounts" "boxes" "I" ∈ w_MC_unmarked := by decide +kernel
theorem m_MC_unmarked_7 : Cond.fieldLink R_MC 7 "MapCounts" "things" "I" ∈ w_MC_unmarked := by decide +kernel
theorem i_MC_unmarkedFull : ∀ w ∈ w_MC, w ∈ w_MC_unmarkedFull := by decide +kernel
theorem m_MC_unmarkedFull_7 : Cond.fieldLink R_MC 7 "MapCounts" "things" "I" ∈ w_MC_unmarkedFull := by decide +kernel
theorem m_MC_unmarkedFull_13 : Cond.fieldLink R_MC 13 "MapCounts" "boxes" "I" ∈ w_MC_unmarkedFull := by decide +kernel
theorem i_MC_strange : ∀ w ∈ w_MC, w ∈ w_MC_strange := by decide +kernel
theorem m_MC_strange_7 : Cond.fieldLink R_MC 7 "MapCounts" "things" "I" ∈ w_MC_strange := by decide +kernel
theorem m_MC_strange_13 : Cond.fieldLink R_MC 13 "MapCounts" "boxes" "I" ∈ w_MC_strange := by decide +kernel
theorem i_MC_away : ∀ w ∈ w_MC, w ∈ w_MC_away := by decide +kernel
theorem m_MC_away_7 : Cond.fieldLink R_MC 7 "MapCounts" "things" "I" ∈ w_MC_away := by decide +kernel
theorem m_MC_away_13 : Cond.fieldLink R_MC 13 "MapCounts" "boxes" "I" ∈ w_MC_away := by decide +kernel
theorem i_MC_choices : ∀ w ∈ w_MC, w ∈ w_MC_choices := by decide +kernel
theorem m_MC_choices_13 : Cond.fieldLink R_MC 13 "MapCounts" "boxes" "I" ∈ w_MC_choices := by decide +kernel
theorem m_MC_choices_7 : Cond.fieldLink R_MC 7 "MapCounts" "things" "I" ∈ w_MC_choices := by decide +kernel
theorem i_MM_init : ∀ w ∈ w_MM, w ∈ w_MM_init := by decide +kernel
theorem m_MM_init_7 : Cond.fieldLink R_MM 7 "MapCountsModel" "n" "I" ∈ w_MM_init := by decide +kernel
theorem m_MM_init_13 : Cond.fieldLink R_MM 13 "MapCountsModel" "m" "I" ∈ w_MM_init := by decide +kernel
theorem m_MM_init_16 : Cond.fieldLink R_MM 16 "MapCountsModel" "c" "[J" ∈ w_MM_init := by decide +kernel
theorem m_MM_init_20 : Cond.fieldLink R_MM 20 "MapCountsModel" "f" "[I" ∈ w_MM_init := by decide +kernel
theorem i_MM_load : ∀ w ∈ w_MM, w ∈ w_MM_load := by decide +kernel
theorem m_MM_load_7 : Cond.fieldLink R_MM 7 "MapCountsModel" "n" "I" ∈ w_MM_load := by decide +kernel
theorem m_MM_load_13 : Cond.fieldLink R_MM 13 "MapCountsModel" "m" "I" ∈ w_MM_load := by decide +kernel
theorem m_MM_load_25 : Cond.fieldLink R_MM 25 "MapCountsModel" "known" "Z" ∈ w_MM_load := by decide +kernel
theorem i_MM_reckon : ∀ w ∈ w_MM, w ∈ w_MM_reckon := by decide +kernel
theorem m_MM_reckon_25 : Cond.fieldLink R_MM 25 "MapCountsModel" "known" "Z" ∈ w_MM_reckon := by decide +kernel
theorem m_MM_reckon_16 : Cond.fieldLink R_MM 16 "MapCountsModel" "c" "[J" ∈ w_MM_reckon := by decide +kernel
theorem m_MM_reckon_7 : Cond.fieldLink R_MM 7 "MapCountsModel" "n" "I" ∈ w_MM_reckon := by decide +kernel
theorem m_MM_reckon_13 : Cond.fieldLink R_MM 13 "MapCountsModel" "m" "I" ∈ w_MM_reckon := by decide +kernel
theorem m_MM_reckon_20 : Cond.fieldLink R_MM 20 "MapCountsModel" "f" "[I" ∈ w_MM_reckon := by decide +kernel
theorem i_MM_all : ∀ w ∈ w_MM, w ∈ w_MM_all := by decide +kernel
theorem m_MM_all_16 : Cond.fieldLink R_MM 16 "MapCountsModel" "c" "[J" ∈ w_MM_all := by decide +kernel
theorem i_MM_single : ∀ w ∈ w_MM, w ∈ w_MM_single := by decide +kernel
theorem m_MM_single_16 : Cond.fieldLink R_MM 16 "MapCountsModel" "c" "[J" ∈ w_MM_single := by decide +kernel
theorem i_MM_full : ∀ w ∈ w_MM, w ∈ w_MM_full := by decide +kernel
theorem m_MM_full_16 : Cond.fieldLink R_MM 16 "MapCountsModel" "c" "[J" ∈ w_MM_full := by decide +kernel
theorem i_MM_alike : ∀ w ∈ w_MM, w ∈ w_MM_alike := by decide +kernel
theorem m_MM_alike_16 : Cond.fieldLink R_MM 16 "MapCountsModel" "c" "[J" ∈ w_MM_alike := by decide +kernel
theorem i_MM_alikeFull : ∀ w ∈ w_MM, w ∈ w_MM_alikeFull := by decide +kernel
theorem m_MM_alikeFull_16 : Cond.fieldLink R_MM 16 "MapCountsModel" "c" "[J" ∈ w_MM_alikeFull := by decide +kernel
theorem i_MM_unmarked : ∀ w ∈ w_MM, w ∈ w_MM_unmarked := by decide +kernel
theorem m_MM_unmarked_16 : Cond.fieldLink R_MM 16 "MapCountsModel" "c" "[J" ∈ w_MM_unmarked := by decide +kernel
theorem i_MM_unmarkedFull : ∀ w ∈ w_MM, w ∈ w_MM_unmarkedFull := by decide +kernel
theorem m_MM_unmarkedFull_16 : Cond.fieldLink R_MM 16 "MapCountsModel" "c" "[J" ∈ w_MM_unmarkedFull := by decide +kernel
theorem i_MM_strange : ∀ w ∈ w_MM, w ∈ w_MM_strange := by decide +kernel
theorem m_MM_strange_16 : Cond.fieldLink R_MM 16 "MapCountsModel" "c" "[J" ∈ w_MM_strange := by decide +kernel
theorem i_MM_away : ∀ w ∈ w_MM, w ∈ w_MM_away := by decide +kernel
theorem m_MM_away_16 : Cond.fieldLink R_MM 16 "MapCountsModel" "c" "[J" ∈ w_MM_away := by decide +kernel
theorem i_MM_choices : ∀ w ∈ w_MM, w ∈ w_MM_choices := by decide +kernel
theorem m_MM_choices_16 : Cond.fieldLink R_MM 16 "MapCountsModel" "c" "[J" ∈ w_MM_choices := by decide +kernel
set_option maxRecDepth 20000 in
theorem g_MC_chosen_MC_falling : GoodIn w_MC_chosen (wsS R_MC 17 y_MC_falling w_MC_falling) := goodIn_p _ [4] rfl (by decide +kernel)
set_option maxRecDepth 20000 in
theorem g_MC_onto_MC_chosen : GoodIn w_MC_onto (wsS R_MC 21 y_MC_chosen w_MC_chosen) := goodIn_p _ [4, 7] rfl (by decide +kernel)
set_option maxRecDepth 20000 in
theorem g_MC_onto_MC_power : GoodIn w_MC_onto (wsS R_MC 24 y_MC_power w_MC_power) := goodIn_p _ [10] rfl (by decide +kernel)
set_option maxRecDepth 20000 in
theorem g_MC_all_MC_power : GoodIn w_MC_all (wsS R_MC 24 y_MC_power w_MC_power) := goodIn_p _ [6] rfl (by decide +kernel)
set_option maxRecDepth 20000 in
theorem g_MC_single_MC_falling : GoodIn w_MC_single (wsS R_MC 17 y_MC_falling w_MC_falling) := goodIn_p _ [6] rfl (by decide +kernel)
set_option maxRecDepth 20000 in
theorem g_MC_full_MC_onto : GoodIn w_MC_full (wsS R_MC 27 y_MC_onto w_MC_onto) := goodIn_p _ [6, 9, 12, 15] rfl (by decide +kernel)
set_option maxRecDepth 20000 in
theorem g_MC_alike_MC_chosen : GoodIn w_MC_alike (wsS R_MC 21 y_MC_chosen w_MC_chosen) := goodIn_p _ [6, 9] rfl (by decide +kernel)
set_option maxRecDepth 20000 in
theorem g_MC_alikeFull_MC_chosen : GoodIn w_MC_alikeFull (wsS R_MC 21 y_MC_chosen w_MC_chosen) := goodIn_p _ [6, 9] rfl (by decide +kernel)
set_option maxRecDepth 20000 in
theorem g_MC_unmarked_MC_onto : GoodIn w_MC_unmarked (wsS R_MC 27 y_MC_onto w_MC_onto) := goodIn_p _ [6, 9, 12, 15] rfl (by decide +kernel)
set_option maxRecDepth 20000 in
theorem g_MC_unmarked_MC_falling : GoodIn w_MC_unmarked (wsS R_MC 17 y_MC_falling w_MC_falling) := goodIn_p _ [12] rfl (by decide +kernel)
set_option maxRecDepth 20000 in
theorem g_MC_unmarkedFull_MC_onto : GoodIn w_MC_unmarkedFull (wsS R_MC 27 y_MC_onto w_MC_onto) := goodIn_p _ [6, 9, 12, 15] rfl (by decide +kernel)
set_option maxRecDepth 20000 in
theorem g_MC_unmarkedFull_MC_falling : GoodIn w_MC_unmarkedFull (wsS R_MC 17 y_MC_falling w_MC_falling) := goodIn_p _ [12] rfl (by decide +kernel)
set_option maxRecDepth 20000 in
theorem g_MC_strange_MC_power : GoodIn w_MC_strange (wsS R_MC 24 y_MC_power w_MC_power) := goodIn_p _ [6] rfl (by decide +kernel)
set_option maxRecDepth 20000 in
theorem g_MC_away_MC_chosen : GoodIn w_MC_away (wsS R_MC 21 y_MC_chosen w_MC_chosen) := goodIn_p _ [6, 9] rfl (by decide +kernel)
set_option maxRecDepth 20000 in
theorem g_MC_away_MC_falling : GoodIn w_MC_away (wsS R_MC 17 y_MC_falling w_MC_falling) := goodIn_p _ [9] rfl (by decide +kernel)
set_option maxRecDepth 20000 in
theorem g_MC_choices_MC_chosen : GoodIn w_MC_choices (wsS R_MC 21 y_MC_chosen w_MC_chosen) := goodIn_p _ [6, 9] rfl (by decide +kernel)
set_option maxRecDepth 20000 in
theorem g_MM_all_MM_reckon : GoodIn w_MM_all (wsV R_MM 29 R_MM y_MM_reckon w_MM_reckon) := goodIn_p _ [5] rfl (by decide +kernel)
set_option maxRecDepth 20000 in
theorem g_MM_single_MM_reckon : GoodIn w_MM_single (wsV R_MM 29 R_MM y_MM_reckon w_MM_reckon) := goodIn_p _ [5] rfl (by decide +kernel)
set_option maxRecDepth 20000 in
theorem g_MM_full_MM_reckon : GoodIn w_MM_full (wsV R_MM 29 R_MM y_MM_reckon w_MM_reckon) := goodIn_p _ [5] rfl (by decide +kernel)
set_option maxRecDepth 20000 in
theorem g_MM_alike_MM_reckon : GoodIn w_MM_alike (wsV R_MM 29 R_MM y_MM_reckon w_MM_reckon) := goodIn_p _ [5] rfl (by decide +kernel)
set_option maxRecDepth 20000 in
theorem g_MM_alikeFull_MM_reckon : GoodIn w_MM_alikeFull (wsV R_MM 29 R_MM y_MM_reckon w_MM_reckon) := goodIn_p _ [5] rfl (by decide +kernel)
set_option maxRecDepth 20000 in
theorem g_MM_unmarked_MM_reckon : GoodIn w_MM_unmarked (wsV R_MM 29 R_MM y_MM_reckon w_MM_reckon) := goodIn_p _ [5] rfl (by decide +kernel)
set_option maxRecDepth 20000 in
theorem g_MM_unmarkedFull_MM_reckon : GoodIn w_MM_unmarkedFull (wsV R_MM 29 R_MM y_MM_reckon w_MM_reckon) := goodIn_p _ [5] rfl (by decide +kernel)
set_option maxRecDepth 20000 in
theorem g_MM_strange_MM_reckon : GoodIn w_MM_strange (wsV R_MM 29 R_MM y_MM_reckon w_MM_reckon) := goodIn_p _ [5] rfl (by decide +kernel)
set_option maxRecDepth 20000 in
theorem g_MM_away_MM_reckon : GoodIn w_MM_away (wsV R_MM 29 R_MM y_MM_reckon w_MM_reckon) := goodIn_p _ [5] rfl (by decide +kernel)
set_option maxRecDepth 20000 in
theorem g_MM_choices_MM_reckon : GoodIn w_MM_choices (wsV R_MM 29 R_MM y_MM_reckon w_MM_reckon) := goodIn_p _ [5] rfl (by decide +kernel)
end
section
set_option maxRecDepth 20000 in
theorem g_law_MC_init : GoodIn lw_tbl (w_MC_init) := goodIn_p _ [8, 11] rfl (by decide +kernel)
set_option maxRecDepth 20000 in
theorem g_law_MM_init : GoodIn lw_tbl (w_MM_init) := goodIn_p _ [80, 11] rfl (by decide +kernel)
set_option maxRecDepth 20000 in
theorem g_law_MC_load : GoodIn lw_tbl (wsV R_law 13 R_MC y_MC_load w_MC_load) := goodIn_p _ [22] rfl (by decide +kernel)
set_option maxRecDepth 20000 in
theorem g_law_MM_load : GoodIn lw_tbl (wsV R_law 17 R_MM y_MM_load w_MM_load) := goodIn_p _ [103] rfl (by decide +kernel)
set_option maxRecDepth 20000 in
theorem g_law_MC_all : GoodIn lw_tbl (wsV R_law 18 R_MC y_MC_all w_MC_all) := goodIn_p _ [27, 30] rfl (by decide +kernel)
set_option maxRecDepth 20000 in
theorem g_law_MM_all : GoodIn lw_tbl (wsV R_law 22 R_MM y_MM_all w_MM_all) := goodIn_p _ [108, 112] rfl (by decide +kernel)
set_option maxRecDepth 20000 in
theorem g_law_MC_single : GoodIn lw_tbl (wsV R_law 23 R_MC y_MC_single w_MC_single) := goodIn_p _ [34, 37] rfl (by decide +kernel)
set_option maxRecDepth 20000 in
theorem g_law_MM_single : GoodIn lw_tbl (wsV R_law 26 R_MM y_MM_single w_MM_single) := goodIn_p _ [116, 112] rfl (by decide +kernel)
set_option maxRecDepth 20000 in
theorem g_law_MC_full : GoodIn lw_tbl (wsV R_law 27 R_MC y_MC_full w_MC_full) := goodIn_p _ [41, 44, 47, 37, 30] rfl (by decide +kernel)
set_option maxRecDepth 20000 in
theorem g_law_MM_full : GoodIn lw_tbl (wsV R_law 30 R_MM y_MM_full w_MM_full) := goodIn_p _ [120, 112] rfl (by decide +kernel)
set_option maxRecDepth 20000 in
theorem g_law_MC_alike : GoodIn lw_tbl (wsV R_law 31 R_MC y_MC_alike w_MC_alike) := goodIn_p _ [51, 47, 37] rfl (by decide +kernel)
set_option maxRecDepth 20000 in
theorem g_law_MM_alike : GoodIn lw_tbl (wsV R_law 34 R_MM y_MM_alike w_MM_alike) := goodIn_p _ [124, 112] rfl (by decide +kernel)
set_option maxRecDepth 20000 in
theorem g_law_MC_alikeFull : GoodIn lw_tbl (wsV R_law 35 R_MC y_MC_alikeFull w_MC_alikeFull) := goodIn_p _ [55, 47, 37] rfl (by decide +kernel)
set_option maxRecDepth 20000 in
theorem g_law_MM_alikeFull : GoodIn lw_tbl (wsV R_law 38 R_MM y_MM_alikeFull w_MM_alikeFull) := goodIn_p _ [128, 112] rfl (by decide +kernel)
set_option maxRecDepth 20000 in
theorem g_law_MC_unmarked : GoodIn lw_tbl (wsV R_law 39 R_MC y_MC_unmarked w_MC_unmarked) := goodIn_p _ [59, 44, 47, 37, 30] rfl (by decide +kernel)
set_option maxRecDepth 20000 in
theorem g_law_MM_unmarked : GoodIn lw_tbl (wsV R_law 42 R_MM y_MM_unmarked w_MM_unmarked) := goodIn_p _ [132, 112] rfl (by decide +kernel)
set_option maxRecDepth 20000 in
theorem g_law_MC_unmarkedFull : GoodIn lw_tbl (wsV R_law 43 R_MC y_MC_unmarkedFull w_MC_unmarkedFull) := goodIn_p _ [63, 44, 47, 37, 30] rfl (by decide +kernel)
set_option maxRecDepth 20000 in
theorem g_law_MM_unmarkedFull : GoodIn lw_tbl (wsV R_law 46 R_MM y_MM_unmarkedFull w_MM_unmarkedFull) := goodIn_p _ [136, 112] rfl (by decide +kernel)
set_option maxRecDepth 20000 in
theorem g_law_MC_strange : GoodIn lw_tbl (wsV R_law 47 R_MC y_MC_strange w_MC_strange) := goodIn_p _ [67, 30] rfl (by decide +kernel)
set_option maxRecDepth 20000 in
theorem g_law_MM_strange : GoodIn lw_tbl (wsV R_law 50 R_MM y_MM_strange w_MM_strange) := goodIn_p _ [140, 112] rfl (by decide +kernel)
set_option maxRecDepth 20000 in
theorem g_law_MC_away : GoodIn lw_tbl (wsV R_law 51 R_MC y_MC_away w_MC_away) := goodIn_p _ [71, 47, 37] rfl (by decide +kernel)
set_option maxRecDepth 20000 in
theorem g_law_MM_away : GoodIn lw_tbl (wsV R_law 54 R_MM y_MM_away w_MM_away) := goodIn_p _ [144, 112] rfl (by decide +kernel)
set_option maxRecDepth 20000 in
theorem g_law_MC_choices : GoodIn lw_tbl (wsV R_law 55 R_MC y_MC_choices w_MC_choices) := goodIn_p _ [75, 47, 37] rfl (by decide +kernel)
set_option maxRecDepth 20000 in
theorem g_law_MM_choices : GoodIn lw_tbl (wsV R_law 58 R_MM y_MM_choices w_MM_choices) := goodIn_p _ [148, 112] rfl (by decide +kernel)
end
section
theorem d_MC_init_0 : decode b_MC_init 0 = .ok (.aload_n 0, 1) := by decide +kernel
theorem d_MC_init_1 : decode b_MC_init 1 = .ok (.invokespecial 1, 3) := by decide +kernel
theorem d_MC_init_4 : decode b_MC_init 4 = .ok (.aload_n 0, 1) := by decide +kernel
theorem d_MC_init_5 : decode b_MC_init 5 = .ok (.iconst 4, 1) := by decide +kernel
theorem d_MC_init_6 : decode b_MC_init 6 = .ok (.putfield 7, 3) := by decide +kernel
theorem d_MC_init_9 : decode b_MC_init 9 = .ok (.aload_n 0, 1) := by decide +kernel
theorem d_MC_init_10 : decode b_MC_init 10 = .ok (.iconst 3, 1) := by decide +kernel
theorem d_MC_init_11 : decode b_MC_init 11 = .ok (.putfield 13, 3) := by decide +kernel
theorem d_MC_init_14 : decode b_MC_init 14 = .ok (.return_, 1) := by decide +kernel
theorem d_MC_load_0 : decode b_MC_load 0 = .ok (.aload_n 0, 1) := by decide +kernel
theorem d_MC_load_1 : decode b_MC_load 1 = .ok (.iload_n 1, 1) := by decide +kernel
theorem d_MC_load_2 : decode b_MC_load 2 = .ok (.ldc 16, 2) := by decide +kernel
theorem d_MC_load_4 : decode b_MC_load 4 = .ok (.iand, 1) := by decide +kernel
theorem d_MC_load_5 : decode b_MC_load 5 = .ok (.bipush 7, 2) := by decide +kernel
theorem d_MC_load_7 : decode b_MC_load 7 = .ok (.irem, 1) := by decide +kernel
theorem d_MC_load_8 : decode b_MC_load 8 = .ok (.putfield 7, 3) := by decide +kernel
theorem d_MC_load_11 : decode b_MC_load 11 = .ok (.aload_n 0, 1) := by decide +kernel
theorem d_MC_load_12 : decode b_MC_load 12 = .ok (.iload_n 2, 1) := by decide +kernel
theorem d_MC_load_13 : decode b_MC_load 13 = .ok (.ldc 16, 2) := by decide +kernel
theorem d_MC_load_15 : decode b_MC_load 15 = .ok (.iand, 1) := by decide +kernel
theorem d_MC_load_16 : decode b_MC_load 16 = .ok (.bipush 6, 2) := by decide +kernel
theorem d_MC_load_18 : decode b_MC_load 18 = .ok (.irem, 1) := by decide +kernel
theorem d_MC_load_19 : decode b_MC_load 19 = .ok (.putfield 13, 3) := by decide +kernel
theorem d_MC_load_22 : decode b_MC_load 22 = .ok (.return_, 1) := by decide +kernel
theorem d_MC_power_0 : decode b_MC_power 0 = .ok (.lconst 1, 1) := by decide +kernel
theorem d_MC_power_1 : decode b_MC_power 1 = .ok (.lstore_n 2, 1) := by decide +kernel
theorem d_MC_power_2 : decode b_MC_power 2 = .ok (.iconst 0, 1) := by decide +kernel
theorem d_MC_power_3 : decode b_MC_power 3 = .ok (.istore 4, 2) := by decide +kernel
theorem d_MC_power_5 : decode b_MC_power 5 = .ok (.iload 4, 2) := by decide +kernel
theorem d_MC_power_7 : decode b_MC_power 7 = .ok (.iload_n 1, 1) := by decide +kernel
theorem d_MC_power_8 : decode b_MC_power 8 = .ok (.if_icmp .ge 14, 3) := by decide +kernel
theorem d_MC_power_11 : decode b_MC_power 11 = .ok (.lload_n 2, 1) := by decide +kernel
theorem d_MC_power_12 : decode b_MC_power 12 = .ok (.iload_n 0, 1) := by decide +kernel
theorem d_MC_power_13 : decode b_MC_power 13 = .ok (.i2l, 1) := by decide +kernel
theorem d_MC_power_14 : decode b_MC_power 14 = .ok (.lmul, 1) := by decide +kernel
theorem d_MC_power_15 : decode b_MC_power 15 = .ok (.lstore_n 2, 1) := by decide +kernel
theorem d_MC_power_16 : decode b_MC_power 16 = .ok (.iinc 4 1, 3) := by decide +kernel
theorem d_MC_power_19 : decode b_MC_power 19 = .ok (.goto (-14), 3) := by decide +kernel
theorem d_MC_power_22 : decode b_MC_power 22 = .ok (.lload_n 2, 1) := by decide +kernel
theorem d_MC_power_23 : decode b_MC_power 23 = .ok (.lreturn, 1) := by decide +kernel
theorem d_MC_falling_0 : decode b_MC_falling 0 = .ok (.lconst 1, 1) := by decide +kernel
theorem d_MC_falling_1 : decode b_MC_falling 1 = .ok (.lstore_n 2, 1) := by decide +kernel
theorem d_MC_falling_2 : decode b_MC_falling 2 = .ok (.iconst 0, 1) := by decide +kernel
theorem d_MC_falling_3 : decode b_MC_falling 3 = .ok (.istore 4, 2) := by decide +kernel
theorem d_MC_falling_5 : decode b_MC_falling 5 = .ok (.iload 4, 2) := by decide +kernel
theorem d_MC_falling_7 : decode b_MC_falling 7 = .ok (.iload_n 1, 1) := by decide +kernel
theorem d_MC_falling_8 : decode b_MC_falling 8 = .ok (.if_icmp .ge 28, 3) := by decide +kernel
theorem d_MC_falling_11 : decode b_MC_falling 11 = .ok (.lload_n 2, 1) := by decide +kernel
theorem d_MC_falling_12 : decode b_MC_falling 12 = .ok (.iload_n 0, 1) := by decide +kernel
theorem d_MC_falling_13 : decode b_MC_falling 13 = .ok (.iload 4, 2) := by decide +kernel
theorem d_MC_falling_15 : decode b_MC_falling 15 = .ok (.isub, 1) := by decide +kernel
theorem d_MC_falling_16 : decode b_MC_falling 16 = .ok (.ifCond .le 11, 3) := by decide +kernel
theorem d_MC_falling_19 : decode b_MC_falling 19 = .ok (.iload_n 0, 1) := by decide +kernel
theorem d_MC_falling_20 : decode b_MC_falling 20 = .ok (.iload 4, 2) := by decide +kernel
theorem d_MC_falling_22 : decode b_MC_falling 22 = .ok (.isub, 1) := by decide +kernel
theorem d_MC_falling_23 : decode b_MC_falling 23 = .ok (.i2l, 1) := by decide +kernel
theorem d_MC_falling_24 : decode b_MC_falling 24 = .ok (.goto 4, 3) := by decide +kernel
theorem d_MC_falling_27 : decode b_MC_falling 27 = .ok (.lconst 0, 1) := by decide +kernel
theorem d_MC_falling_28 : decode b_MC_falling 28 = .ok (.lmul, 1) := by decide +kernel
theorem d_MC_falling_29 : decode b_MC_falling 29 = .ok (.lstore_n 2, 1) := by decide +kernel
theorem d_MC_falling_30 : decode b_MC_falling 30 = .ok (.iinc 4 1, 3) := by decide +kernel
theorem d_MC_falling_33 : decode b_MC_falling 33 = .ok (.goto (-28), 3) := by decide +kernel
theorem d_MC_falling_36 : decode b_MC_falling 36 = .ok (.lload_n 2, 1) := by decide +kernel
theorem d_MC_falling_37 : decode b_MC_falling 37 = .ok (.lreturn, 1) := by decide +kernel
theorem d_MC_chosen_0 : decode b_MC_chosen 0 = .ok (.iload_n 1, 1) := by decide +kernel
theorem d_MC_chosen_1 : decode b_MC_chosen 1 = .ok (.ifCond .ge 7, 3) := by decide +kernel
theorem d_MC_chosen_4 : decode b_MC_chosen 4 = .ok (.lconst 0, 1) := by decide +kernel
theorem d_MC_chosen_5 : decode b_MC_chosen 5 = .ok (.goto 14, 3) := by decide +kernel
theorem d_MC_chosen_8 : decode b_MC_chosen 8 = .ok (.iload_n 0, 1) := by decide +kernel
theorem d_MC_chosen_9 : decode b_MC_chosen 9 = .ok (.iload_n 1, 1) := by decide +kernel
theorem d_MC_chosen_10 : decode b_MC_chosen 10 = .ok (.invokestatic 17, 3) := by decide +kernel
theorem d_MC_chosen_13 : decode b_MC_chosen 13 = .ok (.iload_n 1, 1) := by decide +kernel
theorem d_MC_chosen_14 : decode b_MC_chosen 14 = .ok (.iload_n 1, 1) := by decide +kernel
theorem d_MC_chosen_15 : decode b_MC_chosen 15 = .ok (.invokestatic 17, 3) := by decide +kernel
theorem d_MC_chosen_18 : decode b_MC_chosen 18 = .ok (.ldiv, 1) := by decide +kernel
theorem d_MC_chosen_19 : decode b_MC_chosen 19 = .ok (.lreturn, 1) := by decide +kernel
theorem d_MC_onto_0 : decode b_MC_onto 0 = .ok (.lconst 0, 1) := by decide +kernel
theorem d_MC_onto_1 : decode b_MC_onto 1 = .ok (.lstore_n 2, 1) := by decide +kernel
theorem d_MC_onto_2 : decode b_MC_onto 2 = .ok (.iconst 0, 1) := by decide +kernel
theorem d_MC_onto_3 : decode b_MC_onto 3 = .ok (.istore 4, 2) := by decide +kernel
theorem d_MC_onto_5 : decode b_MC_onto 5 = .ok (.iload 4, 2) := by decide +kernel
theorem d_MC_onto_7 : decode b_MC_onto 7 = .ok (.iload_n 1, 1) := by decide +kernel
theorem d_MC_onto_8 : decode b_MC_onto 8 = .ok (.if_icmp .gt 44, 3) := by decide +kernel
theorem d_MC_onto_11 : decode b_MC_onto 11 = .ok (.iload_n 1, 1) := by decide +kernel
theorem d_MC_onto_12 : decode b_MC_onto 12 = .ok (.iload 4, 2) := by decide +kernel
theorem d_MC_onto_14 : decode b_MC_onto 14 = .ok (.invokestatic 21, 3) := by decide +kernel
theorem d_MC_onto_17 : decode b_MC_onto 17 = .ok (.iload_n 1, 1) := by decide +kernel
theorem d_MC_onto_18 : decode b_MC_onto 18 = .ok (.iload 4, 2) := by decide +kernel
theorem d_MC_onto_20 : decode b_MC_onto 20 = .ok (.isub, 1) := by decide +kernel
theorem d_MC_onto_21 : decode b_MC_onto 21 = .ok (.iload_n 0, 1) := by decide +kernel
theorem d_MC_onto_22 : decode b_MC_onto 22 = .ok (.invokestatic 24, 3) := by decide +kernel
theorem d_MC_onto_25 : decode b_MC_onto 25 = .ok (.lmul, 1) := by decide +kernel
theorem d_MC_onto_26 : decode b_MC_onto 26 = .ok (.lstore 5, 2) := by decide +kernel
theorem d_MC_onto_28 : decode b_MC_onto 28 = .ok (.lload_n 2, 1) := by decide +kernel
theorem d_MC_onto_29 : decode b_MC_onto 29 = .ok (.iload 4, 2) := by decide +kernel
theorem d_MC_onto_31 : decode b_MC_onto 31 = .ok (.iconst 1, 1) := by decide +kernel
theorem d_MC_onto_32 : decode b_MC_onto 32 = .ok (.iand, 1) := by decide +kernel
theorem d_MC_onto_33 : decode b_MC_onto 33 = .ok (.ifCond .ne 8, 3) := by decide +kernel
theorem d_MC_onto_36 : decode b_MC_onto 36 = .ok (.lload 5, 2) := by decide +kernel
theorem d_MC_onto_38 : decode b_MC_onto 38 = .ok (.goto 6, 3) := by decide +kernel
theorem d_MC_onto_41 : decode b_MC_onto 41 = .ok (.lload 5, 2) := by decide +kernel
theorem d_MC_onto_43 : decode b_MC_onto 43 = .ok (.lneg, 1) := by decide +kernel
theorem d_MC_onto_44 : decode b_MC_onto 44 = .ok (.ladd, 1) := by decide +kernel
theorem d_MC_onto_45 : decode b_MC_onto 45 = .ok (.lstore_n 2, 1) := by decide +kernel
theorem d_MC_onto_46 : decode b_MC_onto 46 = .ok (.iinc 4 1, 3) := by decide +kernel
theorem d_MC_onto_49 : decode b_MC_onto 49 = .ok (.goto (-44), 3) := by decide +kernel
theorem d_MC_onto_52 : decode b_MC_onto 52 = .ok (.lload_n 2, 1) := by decide +kernel
theorem d_MC_onto_53 : decode b_MC_onto 53 = .ok (.lreturn, 1) := by decide +kernel
theorem d_MC_all_0 : decode b_MC_all 0 = .ok (.aload_n 0, 1) := by decide +kernel
theorem d_MC_all_1 : decode b_MC_all 1 = .ok (.getfield 13, 3) := by decide +kernel
theorem d_MC_all_4 : decode b_MC_all 4 = .ok (.aload_n 0, 1) := by decide +kernel
theorem d_MC_all_5 : decode b_MC_all 5 = .ok (.getfield 7, 3) := by decide +kernel
theorem d_MC_all_8 : decode b_MC_all 8 = .ok (.invokestatic 24, 3) := by decide +kernel
theorem d_MC_all_11 : decode b_MC_all 11 = .ok (.lreturn, 1) := by decide +kernel
theorem d_MC_single_0 : decode b_MC_single 0 = .ok (.aload_n 0, 1) := by decide +kernel
theorem d_MC_single_1 : decode b_MC_single 1 = .ok (.getfield 13, 3) := by decide +kernel
theorem d_MC_single_4 : decode b_MC_single 4 = .ok (.aload_n 0, 1) := by decide +kernel
theorem d_MC_single_5 : decode b_MC_single 5 = .ok (.getfield 7, 3) := by decide +kernel
theorem d_MC_single_8 : decode b_MC_single 8 = .ok (.invokestatic 17, 3) := by decide +kernel
theorem d_MC_single_11 : decode b_MC_single 11 = .ok (.lreturn, 1) := by decide +kernel
theorem d_MC_full_0 : decode b_MC_full 0 = .ok (.aload_n 0, 1) := by decide +kernel
theorem d_MC_full_1 : decode b_MC_full 1 = .ok (.getfield 7, 3) := by decide +kernel
theorem d_MC_full_4 : decode b_MC_full 4 = .ok (.aload_n 0, 1) := by decide +kernel
theorem d_MC_full_5 : decode b_MC_full 5 = .ok (.getfield 13, 3) := by decide +kernel
theorem d_MC_full_8 : decode b_MC_full 8 = .ok (.invokestatic 27, 3) := by decide +kernel
theorem d_MC_full_11 : decode b_MC_full 11 = .ok (.lreturn, 1) := by decide +kernel
theorem d_MC_alike_0 : decode b_MC_alike 0 = .ok (.aload_n 0, 1) := by decide +kernel
theorem d_MC_alike_1 : decode b_MC_alike 1 = .ok (.getfield 7, 3) := by decide +kernel
theorem d_MC_alike_4 : decode b_MC_alike 4 = .ok (.ifCond .ne 7, 3) := by decide +kernel
theorem d_MC_alike_7 : decode b_MC_alike 7 = .ok (.lconst 1, 1) := by decide +kernel
theorem d_MC_alike_8 : decode b_MC_alike 8 = .ok (.goto 32, 3) := by decide +kernel
theorem d_MC_alike_11 : decode b_MC_alike 11 = .ok (.aload_n 0, 1) := by decide +kernel
theorem d_MC_alike_12 : decode b_MC_alike 12 = .ok (.getfield 13, 3) := by decide +kernel
theorem d_MC_alike_15 : decode b_MC_alike 15 = .ok (.ifCond .ne 7, 3) := by decide +kernel
theorem d_MC_alike_18 : decode b_MC_alike 18 = .ok (.lconst 0, 1) := by decide +kernel
theorem d_MC_alike_19 : decode b_MC_alike 19 = .ok (.goto 21, 3) := by decide +kernel
theorem d_MC_alike_22 : decode b_MC_alike 22 = .ok (.aload_n 0, 1) := by decide +kernel
theorem d_MC_alike_23 : decode b_MC_alike 23 = .ok (.getfield 7, 3) := by decide +kernel
theorem d_MC_alike_26 : decode b_MC_alike 26 = .ok (.aload_n 0, 1) := by decide +kernel
theorem d_MC_alike_27 : decode b_MC_alike 27 = .ok (.getfield 13, 3) := by decide +kernel
theorem d_MC_alike_30 : decode b_MC_alike 30 = .ok (.iadd, 1) := by decide +kernel
theorem d_MC_alike_31 : decode b_MC_alike 31 = .ok (.iconst 1, 1) := by decide +kernel
theorem d_MC_alike_32 : decode b_MC_alike 32 = .ok (.isub, 1) := by decide +kernel
theorem d_MC_alike_33 : decode b_MC_alike 33 = .ok (.aload_n 0, 1) := by decide +kernel
theorem d_MC_alike_34 : decode b_MC_alike 34 = .ok (.getfield 7, 3) := by decide +kernel
theorem d_MC_alike_37 : decode b_MC_alike 37 = .ok (.invokestatic 21, 3) := by decide +kernel
theorem d_MC_alike_40 : decode b_MC_alike 40 = .ok (.lreturn, 1) := by decide +kernel
theorem d_MC_alikeFull_0 : decode b_MC_alikeFull 0 = .ok (.aload_n 0, 1) := by decide +kernel
theorem d_MC_alikeFull_1 : decode b_MC_alikeFull 1 = .ok (.getfield 7, 3) := by decide +kernel
theorem d_MC_alikeFull_4 : decode b_MC_alikeFull 4 = .ok (.ifCond .ne 16, 3) := by decide +kernel
theorem d_MC_alikeFull_7 : decode b_MC_alikeFull 7 = .ok (.aload_n 0, 1) := by decide +kernel
theorem d_MC_alikeFull_8 : decode b_MC_alikeFull 8 = .ok (.getfield 13, 3) := by decide +kernel
theorem d_MC_alikeFull_11 : decode b_MC_alikeFull 11 = .ok (.ifCond .ne 7, 3) := by decide +kernel
theorem d_MC_alikeFull_14 : decode b_MC_alikeFull 14 = .ok (.lconst 1, 1) := by decide +kernel
theorem d_MC_alikeFull_15 : decode b_MC_alikeFull 15 = .ok (.goto 4, 3) := by decide +kernel
theorem d_MC_alikeFull_18 : decode b_MC_alikeFull 18 = .ok (.lconst 0, 1) := by decide +kernel
theorem d_MC_alikeFull_19 : decode b_MC_alikeFull 19 = .ok (.lreturn, 1) := by decide +kernel
theorem d_MC_alikeFull_20 : decode b_MC_alikeFull 20 = .ok (.aload_n 0, 1) := by decide +kernel
theorem d_MC_alikeFull_21 : decode b_MC_alikeFull 21 = .ok (.getfield 7, 3) := by decide +kernel
theorem d_MC_alikeFull_24 : decode b_MC_alikeFull 24 = .ok (.iconst 1, 1) := by decide +kernel
theorem d_MC_alikeFull_25 : decode b_MC_alikeFull 25 = .ok (.isub, 1) := by decide +kernel
theorem d_MC_alikeFull_26 : decode b_MC_alikeFull 26 = .ok (.aload_n 0, 1) := by decide +kernel
theorem d_MC_alikeFull_27 : decode b_MC_alikeFull 27 = .ok (.getfield 13, 3) := by decide +kernel
theorem d_MC_alikeFull_30 : decode b_MC_alikeFull 30 = .ok (.iconst 1, 1) := by decide +kernel
theorem d_MC_alikeFull_31 : decode b_MC_alikeFull 31 = .ok (.isub, 1) := by decide +kernel
theorem d_MC_alikeFull_32 : decode b_MC_alikeFull 32 = .ok (.invokestatic 21, 3) := by decide +kernel
theorem d_MC_alikeFull_35 : decode b_MC_alikeFull 35 = .ok (.lreturn, 1) := by decide +kernel
theorem d_MC_unmarked_0 : decode b_MC_unmarked 0 = .ok (.lconst 0, 1) := by decide +kernel
theorem d_MC_unmarked_1 : decode b_MC_unmarked 1 = .ok (.lstore_n 1, 1) := by decide +kernel
theorem d_MC_unmarked_2 : decode b_MC_unmarked 2 = .ok (.iconst 0, 1) := by decide +kernel
theorem d_MC_unmarked_3 : decode b_MC_unmarked 3 = .ok (.istore_n 3, 1) := by decide +kernel
theorem d_MC_unmarked_4 : decode b_MC_unmarked 4 = .ok (.iload_n 3, 1) := by decide +kernel
theorem d_MC_unmarked_5 : decode b_MC_unmarked 5 = .ok (.aload_n 0, 1) := by decide +kernel
theorem d_MC_unmarked_6 : decode b_MC_unmarked 6 = .ok (.getfield 13, 3) := by decide +kernel
theorem d_MC_unmarked_9 : decode b_MC_unmarked 9 = .ok (.if_icmp .gt 26, 3) := by decide +kernel
theorem d_MC_unmarked_12 : decode b_MC_unmarked 12 = .ok (.lload_n 1, 1) := by decide +kernel
theorem d_MC_unmarked_13 : decode b_MC_unmarked 13 = .ok (.aload_n 0, 1) := by decide +kernel
theorem d_MC_unmarked_14 : decode b_MC_unmarked 14 = .ok (.getfield 7, 3) := by decide +kernel
theorem d_MC_unmarked_17 : decode b_MC_unmarked 17 = .ok (.iload_n 3, 1) := by decide +kernel
theorem d_MC_unmarked_18 : decode b_MC_unmarked 18 = .ok (.invokestatic 27, 3) := by decide +kernel
end
section
theorem d_MC_unmarked_21 : decode b_MC_unmarked 21 = .ok (.iload_n 3, 1) := by decide +kernel
theorem d_MC_unmarked_22 : decode b_MC_unmarked 22 = .ok (.iload_n 3, 1) := by decide +kernel
theorem d_MC_unmarked_23 : decode b_MC_unmarked 23 = .ok (.invokestatic 17, 3) := by decide +kernel
theorem d_MC_unmarked_26 : decode b_MC_unmarked 26 = .ok (.ldiv, 1) := by decide +kernel
theorem d_MC_unmarked_27 : decode b_MC_unmarked 27 = .ok (.ladd, 1) := by decide +kernel
theorem d_MC_unmarked_28 : decode b_MC_unmarked 28 = .ok (.lstore_n 1, 1) := by decide +kernel
theorem d_MC_unmarked_29 : decode b_MC_unmarked 29 = .ok (.iinc 3 1, 3) := by decide +kernel
theorem d_MC_unmarked_32 : decode b_MC_unmarked 32 = .ok (.goto (-28), 3) := by decide +kernel
theorem d_MC_unmarked_35 : decode b_MC_unmarked 35 = .ok (.lload_n 1, 1) := by decide +kernel
theorem d_MC_unmarked_36 : decode b_MC_unmarked 36 = .ok (.lreturn, 1) := by decide +kernel
theorem d_MC_unmarkedFull_0 : decode b_MC_unmarkedFull 0 = .ok (.aload_n 0, 1) := by decide +kernel
theorem d_MC_unmarkedFull_1 : decode b_MC_unmarkedFull 1 = .ok (.getfield 7, 3) := by decide +kernel
theorem d_MC_unmarkedFull_4 : decode b_MC_unmarkedFull 4 = .ok (.aload_n 0, 1) := by decide +kernel
theorem d_MC_unmarkedFull_5 : decode b_MC_unmarkedFull 5 = .ok (.getfield 13, 3) := by decide +kernel
theorem d_MC_unmarkedFull_8 : decode b_MC_unmarkedFull 8 = .ok (.invokestatic 27, 3) := by decide +kernel
theorem d_MC_unmarkedFull_11 : decode b_MC_unmarkedFull 11 = .ok (.aload_n 0, 1) := by decide +kernel
theorem d_MC_unmarkedFull_12 : decode b_MC_unmarkedFull 12 = .ok (.getfield 13, 3) := by decide +kernel
theorem d_MC_unmarkedFull_15 : decode b_MC_unmarkedFull 15 = .ok (.aload_n 0, 1) := by decide +kernel
theorem d_MC_unmarkedFull_16 : decode b_MC_unmarkedFull 16 = .ok (.getfield 13, 3) := by decide +kernel
theorem d_MC_unmarkedFull_19 : decode b_MC_unmarkedFull 19 = .ok (.invokestatic 17, 3) := by decide +kernel
theorem d_MC_unmarkedFull_22 : decode b_MC_unmarkedFull 22 = .ok (.ldiv, 1) := by decide +kernel
theorem d_MC_unmarkedFull_23 : decode b_MC_unmarkedFull 23 = .ok (.lreturn, 1) := by decide +kernel
theorem d_MC_strange_0 : decode b_MC_strange 0 = .ok (.aload_n 0, 1) := by decide +kernel
theorem d_MC_strange_1 : decode b_MC_strange 1 = .ok (.getfield 7, 3) := by decide +kernel
theorem d_MC_strange_4 : decode b_MC_strange 4 = .ok (.aload_n 0, 1) := by decide +kernel
theorem d_MC_strange_5 : decode b_MC_strange 5 = .ok (.getfield 13, 3) := by decide +kernel
theorem d_MC_strange_8 : decode b_MC_strange 8 = .ok (.if_icmp .ge 10, 3) := by decide +kernel
theorem d_MC_strange_11 : decode b_MC_strange 11 = .ok (.aload_n 0, 1) := by decide +kernel
theorem d_MC_strange_12 : decode b_MC_strange 12 = .ok (.getfield 7, 3) := by decide +kernel
theorem d_MC_strange_15 : decode b_MC_strange 15 = .ok (.goto 7, 3) := by decide +kernel
theorem d_MC_strange_18 : decode b_MC_strange 18 = .ok (.aload_n 0, 1) := by decide +kernel
theorem d_MC_strange_19 : decode b_MC_strange 19 = .ok (.getfield 13, 3) := by decide +kernel
theorem d_MC_strange_22 : decode b_MC_strange 22 = .ok (.istore_n 1, 1) := by decide +kernel
theorem d_MC_strange_23 : decode b_MC_strange 23 = .ok (.aload_n 0, 1) := by decide +kernel
theorem d_MC_strange_24 : decode b_MC_strange 24 = .ok (.getfield 13, 3) := by decide +kernel
theorem d_MC_strange_27 : decode b_MC_strange 27 = .ok (.iconst 1, 1) := by decide +kernel
theorem d_MC_strange_28 : decode b_MC_strange 28 = .ok (.isub, 1) := by decide +kernel
theorem d_MC_strange_29 : decode b_MC_strange 29 = .ok (.iload_n 1, 1) := by decide +kernel
theorem d_MC_strange_30 : decode b_MC_strange 30 = .ok (.invokestatic 24, 3) := by decide +kernel
theorem d_MC_strange_33 : decode b_MC_strange 33 = .ok (.aload_n 0, 1) := by decide +kernel
theorem d_MC_strange_34 : decode b_MC_strange 34 = .ok (.getfield 13, 3) := by decide +kernel
theorem d_MC_strange_37 : decode b_MC_strange 37 = .ok (.aload_n 0, 1) := by decide +kernel
theorem d_MC_strange_38 : decode b_MC_strange 38 = .ok (.getfield 7, 3) := by decide +kernel
theorem d_MC_strange_41 : decode b_MC_strange 41 = .ok (.iload_n 1, 1) := by decide +kernel
theorem d_MC_strange_42 : decode b_MC_strange 42 = .ok (.isub, 1) := by decide +kernel
theorem d_MC_strange_43 : decode b_MC_strange 43 = .ok (.invokestatic 24, 3) := by decide +kernel
theorem d_MC_strange_46 : decode b_MC_strange 46 = .ok (.lmul, 1) := by decide +kernel
theorem d_MC_strange_47 : decode b_MC_strange 47 = .ok (.lreturn, 1) := by decide +kernel
theorem d_MC_away_0 : decode b_MC_away 0 = .ok (.aload_n 0, 1) := by decide +kernel
theorem d_MC_away_1 : decode b_MC_away 1 = .ok (.getfield 7, 3) := by decide +kernel
theorem d_MC_away_4 : decode b_MC_away 4 = .ok (.aload_n 0, 1) := by decide +kernel
theorem d_MC_away_5 : decode b_MC_away 5 = .ok (.getfield 13, 3) := by decide +kernel
theorem d_MC_away_8 : decode b_MC_away 8 = .ok (.if_icmp .eq 5, 3) := by decide +kernel
theorem d_MC_away_11 : decode b_MC_away 11 = .ok (.lconst 0, 1) := by decide +kernel
theorem d_MC_away_12 : decode b_MC_away 12 = .ok (.lreturn, 1) := by decide +kernel
theorem d_MC_away_13 : decode b_MC_away 13 = .ok (.lconst 0, 1) := by decide +kernel
theorem d_MC_away_14 : decode b_MC_away 14 = .ok (.lstore_n 1, 1) := by decide +kernel
theorem d_MC_away_15 : decode b_MC_away 15 = .ok (.iconst 0, 1) := by decide +kernel
theorem d_MC_away_16 : decode b_MC_away 16 = .ok (.istore_n 3, 1) := by decide +kernel
theorem d_MC_away_17 : decode b_MC_away 17 = .ok (.iload_n 3, 1) := by decide +kernel
theorem d_MC_away_18 : decode b_MC_away 18 = .ok (.aload_n 0, 1) := by decide +kernel
theorem d_MC_away_19 : decode b_MC_away 19 = .ok (.getfield 13, 3) := by decide +kernel
theorem d_MC_away_22 : decode b_MC_away 22 = .ok (.if_icmp .gt 52, 3) := by decide +kernel
theorem d_MC_away_25 : decode b_MC_away 25 = .ok (.aload_n 0, 1) := by decide +kernel
theorem d_MC_away_26 : decode b_MC_away 26 = .ok (.getfield 13, 3) := by decide +kernel
theorem d_MC_away_29 : decode b_MC_away 29 = .ok (.iload_n 3, 1) := by decide +kernel
theorem d_MC_away_30 : decode b_MC_away 30 = .ok (.invokestatic 21, 3) := by decide +kernel
theorem d_MC_away_33 : decode b_MC_away 33 = .ok (.aload_n 0, 1) := by decide +kernel
theorem d_MC_away_34 : decode b_MC_away 34 = .ok (.getfield 13, 3) := by decide +kernel
theorem d_MC_away_37 : decode b_MC_away 37 = .ok (.iload_n 3, 1) := by decide +kernel
theorem d_MC_away_38 : decode b_MC_away 38 = .ok (.isub, 1) := by decide +kernel
theorem d_MC_away_39 : decode b_MC_away 39 = .ok (.aload_n 0, 1) := by decide +kernel
theorem d_MC_away_40 : decode b_MC_away 40 = .ok (.getfield 13, 3) := by decide +kernel
theorem d_MC_away_43 : decode b_MC_away 43 = .ok (.iload_n 3, 1) := by decide +kernel
theorem d_MC_away_44 : decode b_MC_away 44 = .ok (.isub, 1) := by decide +kernel
theorem d_MC_away_45 : decode b_MC_away 45 = .ok (.invokestatic 17, 3) := by decide +kernel
theorem d_MC_away_48 : decode b_MC_away 48 = .ok (.lmul, 1) := by decide +kernel
theorem d_MC_away_49 : decode b_MC_away 49 = .ok (.lstore 4, 2) := by decide +kernel
theorem d_MC_away_51 : decode b_MC_away 51 = .ok (.lload_n 1, 1) := by decide +kernel
theorem d_MC_away_52 : decode b_MC_away 52 = .ok (.iload_n 3, 1) := by decide +kernel
theorem d_MC_away_53 : decode b_MC_away 53 = .ok (.iconst 1, 1) := by decide +kernel
theorem d_MC_away_54 : decode b_MC_away 54 = .ok (.iand, 1) := by decide +kernel
theorem d_MC_away_55 : decode b_MC_away 55 = .ok (.ifCond .ne 8, 3) := by decide +kernel
theorem d_MC_away_58 : decode b_MC_away 58 = .ok (.lload 4, 2) := by decide +kernel
theorem d_MC_away_60 : decode b_MC_away 60 = .ok (.goto 6, 3) := by decide +kernel
theorem d_MC_away_63 : decode b_MC_away 63 = .ok (.lload 4, 2) := by decide +kernel
theorem d_MC_away_65 : decode b_MC_away 65 = .ok (.lneg, 1) := by decide +kernel
theorem d_MC_away_66 : decode b_MC_away 66 = .ok (.ladd, 1) := by decide +kernel
theorem d_MC_away_67 : decode b_MC_away 67 = .ok (.lstore_n 1, 1) := by decide +kernel
theorem d_MC_away_68 : decode b_MC_away 68 = .ok (.iinc 3 1, 3) := by decide +kernel
theorem d_MC_away_71 : decode b_MC_away 71 = .ok (.goto (-54), 3) := by decide +kernel
theorem d_MC_away_74 : decode b_MC_away 74 = .ok (.lload_n 1, 1) := by decide +kernel
theorem d_MC_away_75 : decode b_MC_away 75 = .ok (.lreturn, 1) := by decide +kernel
theorem d_MC_choices_0 : decode b_MC_choices 0 = .ok (.aload_n 0, 1) := by decide +kernel
theorem d_MC_choices_1 : decode b_MC_choices 1 = .ok (.getfield 13, 3) := by decide +kernel
theorem d_MC_choices_4 : decode b_MC_choices 4 = .ok (.aload_n 0, 1) := by decide +kernel
theorem d_MC_choices_5 : decode b_MC_choices 5 = .ok (.getfield 7, 3) := by decide +kernel
theorem d_MC_choices_8 : decode b_MC_choices 8 = .ok (.invokestatic 21, 3) := by decide +kernel
theorem d_MC_choices_11 : decode b_MC_choices 11 = .ok (.lreturn, 1) := by decide +kernel
theorem d_MM_init_0 : decode b_MM_init 0 = .ok (.aload_n 0, 1) := by decide +kernel
theorem d_MM_init_1 : decode b_MM_init 1 = .ok (.invokespecial 1, 3) := by decide +kernel
theorem d_MM_init_4 : decode b_MM_init 4 = .ok (.aload_n 0, 1) := by decide +kernel
theorem d_MM_init_5 : decode b_MM_init 5 = .ok (.iconst 4, 1) := by decide +kernel
theorem d_MM_init_6 : decode b_MM_init 6 = .ok (.putfield 7, 3) := by decide +kernel
theorem d_MM_init_9 : decode b_MM_init 9 = .ok (.aload_n 0, 1) := by decide +kernel
theorem d_MM_init_10 : decode b_MM_init 10 = .ok (.iconst 3, 1) := by decide +kernel
theorem d_MM_init_11 : decode b_MM_init 11 = .ok (.putfield 13, 3) := by decide +kernel
theorem d_MM_init_14 : decode b_MM_init 14 = .ok (.aload_n 0, 1) := by decide +kernel
theorem d_MM_init_15 : decode b_MM_init 15 = .ok (.bipush 16, 2) := by decide +kernel
theorem d_MM_init_17 : decode b_MM_init 17 = .ok (.newarray .long, 2) := by decide +kernel
theorem d_MM_init_19 : decode b_MM_init 19 = .ok (.putfield 16, 3) := by decide +kernel
theorem d_MM_init_22 : decode b_MM_init 22 = .ok (.aload_n 0, 1) := by decide +kernel
theorem d_MM_init_23 : decode b_MM_init 23 = .ok (.bipush 8, 2) := by decide +kernel
theorem d_MM_init_25 : decode b_MM_init 25 = .ok (.newarray .int, 2) := by decide +kernel
theorem d_MM_init_27 : decode b_MM_init 27 = .ok (.putfield 20, 3) := by decide +kernel
theorem d_MM_init_30 : decode b_MM_init 30 = .ok (.return_, 1) := by decide +kernel
theorem d_MM_load_0 : decode b_MM_load 0 = .ok (.aload_n 0, 1) := by decide +kernel
theorem d_MM_load_1 : decode b_MM_load 1 = .ok (.iload_n 1, 1) := by decide +kernel
theorem d_MM_load_2 : decode b_MM_load 2 = .ok (.ldc 24, 2) := by decide +kernel
theorem d_MM_load_4 : decode b_MM_load 4 = .ok (.iand, 1) := by decide +kernel
theorem d_MM_load_5 : decode b_MM_load 5 = .ok (.bipush 7, 2) := by decide +kernel
theorem d_MM_load_7 : decode b_MM_load 7 = .ok (.irem, 1) := by decide +kernel
theorem d_MM_load_8 : decode b_MM_load 8 = .ok (.putfield 7, 3) := by decide +kernel
theorem d_MM_load_11 : decode b_MM_load 11 = .ok (.aload_n 0, 1) := by decide +kernel
theorem d_MM_load_12 : decode b_MM_load 12 = .ok (.iload_n 2, 1) := by decide +kernel
theorem d_MM_load_13 : decode b_MM_load 13 = .ok (.ldc 24, 2) := by decide +kernel
theorem d_MM_load_15 : decode b_MM_load 15 = .ok (.iand, 1) := by decide +kernel
theorem d_MM_load_16 : decode b_MM_load 16 = .ok (.bipush 6, 2) := by decide +kernel
theorem d_MM_load_18 : decode b_MM_load 18 = .ok (.irem, 1) := by decide +kernel
theorem d_MM_load_19 : decode b_MM_load 19 = .ok (.putfield 13, 3) := by decide +kernel
theorem d_MM_load_22 : decode b_MM_load 22 = .ok (.aload_n 0, 1) := by decide +kernel
theorem d_MM_load_23 : decode b_MM_load 23 = .ok (.iconst 0, 1) := by decide +kernel
theorem d_MM_load_24 : decode b_MM_load 24 = .ok (.putfield 25, 3) := by decide +kernel
theorem d_MM_load_27 : decode b_MM_load 27 = .ok (.return_, 1) := by decide +kernel
theorem d_MM_all_0 : decode b_MM_all 0 = .ok (.aload_n 0, 1) := by decide +kernel
theorem d_MM_all_1 : decode b_MM_all 1 = .ok (.invokevirtual 29, 3) := by decide +kernel
theorem d_MM_all_4 : decode b_MM_all 4 = .ok (.aload_n 0, 1) := by decide +kernel
theorem d_MM_all_5 : decode b_MM_all 5 = .ok (.getfield 16, 3) := by decide +kernel
theorem d_MM_all_8 : decode b_MM_all 8 = .ok (.iconst 0, 1) := by decide +kernel
theorem d_MM_all_9 : decode b_MM_all 9 = .ok (.laload, 1) := by decide +kernel
theorem d_MM_all_10 : decode b_MM_all 10 = .ok (.lreturn, 1) := by decide +kernel
theorem d_MM_single_0 : decode b_MM_single 0 = .ok (.aload_n 0, 1) := by decide +kernel
theorem d_MM_single_1 : decode b_MM_single 1 = .ok (.invokevirtual 29, 3) := by decide +kernel
theorem d_MM_single_4 : decode b_MM_single 4 = .ok (.aload_n 0, 1) := by decide +kernel
theorem d_MM_single_5 : decode b_MM_single 5 = .ok (.getfield 16, 3) := by decide +kernel
theorem d_MM_single_8 : decode b_MM_single 8 = .ok (.iconst 1, 1) := by decide +kernel
theorem d_MM_single_9 : decode b_MM_single 9 = .ok (.laload, 1) := by decide +kernel
theorem d_MM_single_10 : decode b_MM_single 10 = .ok (.lreturn, 1) := by decide +kernel
theorem d_MM_full_0 : decode b_MM_full 0 = .ok (.aload_n 0, 1) := by decide +kernel
theorem d_MM_full_1 : decode b_MM_full 1 = .ok (.invokevirtual 29, 3) := by decide +kernel
theorem d_MM_full_4 : decode b_MM_full 4 = .ok (.aload_n 0, 1) := by decide +kernel
theorem d_MM_full_5 : decode b_MM_full 5 = .ok (.getfield 16, 3) := by decide +kernel
theorem d_MM_full_8 : decode b_MM_full 8 = .ok (.iconst 2, 1) := by decide +kernel
theorem d_MM_full_9 : decode b_MM_full 9 = .ok (.laload, 1) := by decide +kernel
theorem d_MM_full_10 : decode b_MM_full 10 = .ok (.lreturn, 1) := by decide +kernel
theorem d_MM_alike_0 : decode b_MM_alike 0 = .ok (.aload_n 0, 1) := by decide +kernel
theorem d_MM_alike_1 : decode b_MM_alike 1 = .ok (.invokevirtual 29, 3) := by decide +kernel
theorem d_MM_alike_4 : decode b_MM_alike 4 = .ok (.aload_n 0, 1) := by decide +kernel
theorem d_MM_alike_5 : decode b_MM_alike 5 = .ok (.getfield 16, 3) := by decide +kernel
theorem d_MM_alike_8 : decode b_MM_alike 8 = .ok (.iconst 3, 1) := by decide +kernel
theorem d_MM_alike_9 : decode b_MM_alike 9 = .ok (.laload, 1) := by decide +kernel
theorem d_MM_alike_10 : decode b_MM_alike 10 = .ok (.lreturn, 1) := by decide +kernel
theorem d_MM_alikeFull_0 : decode b_MM_alikeFull 0 = .ok (.aload_n 0, 1) := by decide +kernel
theorem d_MM_alikeFull_1 : decode b_MM_alikeFull 1 = .ok (.invokevirtual 29, 3) := by decide +kernel
theorem d_MM_alikeFull_4 : decode b_MM_alikeFull 4 = .ok (.aload_n 0, 1) := by decide +kernel
theorem d_MM_alikeFull_5 : decode b_MM_alikeFull 5 = .ok (.getfield 16, 3) := by decide +kernel
theorem d_MM_alikeFull_8 : decode b_MM_alikeFull 8 = .ok (.iconst 4, 1) := by decide +kernel
theorem d_MM_alikeFull_9 : decode b_MM_alikeFull 9 = .ok (.laload, 1) := by decide +kernel
theorem d_MM_alikeFull_10 : decode b_MM_alikeFull 10 = .ok (.lreturn, 1) := by decide +kernel
theorem d_MM_unmarked_0 : decode b_MM_unmarked 0 = .ok (.aload_n 0, 1) := by decide +kernel
theorem d_MM_unmarked_1 : decode b_MM_unmarked 1 = .ok (.invokevirtual 29, 3) := by decide +kernel
theorem d_MM_unmarked_4 : decode b_MM_unmarked 4 = .ok (.aload_n 0, 1) := by decide +kernel
theorem d_MM_unmarked_5 : decode b_MM_unmarked 5 = .ok (.getfield 16, 3) := by decide +kernel
theorem d_MM_unmarked_8 : decode b_MM_unmarked 8 = .ok (.iconst 5, 1) := by decide +kernel
theorem d_MM_unmarked_9 : decode b_MM_unmarked 9 = .ok (.laload, 1) := by decide +kernel
theorem d_MM_unmarked_10 : decode b_MM_unmarked 10 = .ok (.lreturn, 1) := by decide +kernel
theorem d_MM_unmarkedFull_0 : decode b_MM_unmarkedFull 0 = .ok (.aload_n 0, 1) := by decide +kernel
theorem d_MM_unmarkedFull_1 : decode b_MM_unmarkedFull 1 = .ok (.invokevirtual 29, 3) := by decide +kernel
theorem d_MM_unmarkedFull_4 : decode b_MM_unmarkedFull 4 = .ok (.aload_n 0, 1) := by decide +kernel
theorem d_MM_unmarkedFull_5 : decode b_MM_unmarkedFull 5 = .ok (.getfield 16, 3) := by decide +kernel
end
section
theorem d_MM_unmarkedFull_8 : decode b_MM_unmarkedFull 8 = .ok (.bipush 6, 2) := by decide +kernel
theorem d_MM_unmarkedFull_10 : decode b_MM_unmarkedFull 10 = .ok (.laload, 1) := by decide +kernel
theorem d_MM_unmarkedFull_11 : decode b_MM_unmarkedFull 11 = .ok (.lreturn, 1) := by decide +kernel
theorem d_MM_strange_0 : decode b_MM_strange 0 = .ok (.aload_n 0, 1) := by decide +kernel
theorem d_MM_strange_1 : decode b_MM_strange 1 = .ok (.invokevirtual 29, 3) := by decide +kernel
theorem d_MM_strange_4 : decode b_MM_strange 4 = .ok (.aload_n 0, 1) := by decide +kernel
theorem d_MM_strange_5 : decode b_MM_strange 5 = .ok (.getfield 16, 3) := by decide +kernel
theorem d_MM_strange_8 : decode b_MM_strange 8 = .ok (.bipush 7, 2) := by decide +kernel
theorem d_MM_strange_10 : decode b_MM_strange 10 = .ok (.laload, 1) := by decide +kernel
theorem d_MM_strange_11 : decode b_MM_strange 11 = .ok (.lreturn, 1) := by decide +kernel
theorem d_MM_away_0 : decode b_MM_away 0 = .ok (.aload_n 0, 1) := by decide +kernel
theorem d_MM_away_1 : decode b_MM_away 1 = .ok (.invokevirtual 29, 3) := by decide +kernel
theorem d_MM_away_4 : decode b_MM_away 4 = .ok (.aload_n 0, 1) := by decide +kernel
theorem d_MM_away_5 : decode b_MM_away 5 = .ok (.getfield 16, 3) := by decide +kernel
theorem d_MM_away_8 : decode b_MM_away 8 = .ok (.bipush 8, 2) := by decide +kernel
theorem d_MM_away_10 : decode b_MM_away 10 = .ok (.laload, 1) := by decide +kernel
theorem d_MM_away_11 : decode b_MM_away 11 = .ok (.lreturn, 1) := by decide +kernel
theorem d_MM_choices_0 : decode b_MM_choices 0 = .ok (.aload_n 0, 1) := by decide +kernel
theorem d_MM_choices_1 : decode b_MM_choices 1 = .ok (.invokevirtual 29, 3) := by decide +kernel
theorem d_MM_choices_4 : decode b_MM_choices 4 = .ok (.aload_n 0, 1) := by decide +kernel
theorem d_MM_choices_5 : decode b_MM_choices 5 = .ok (.getfield 16, 3) := by decide +kernel
theorem d_MM_choices_8 : decode b_MM_choices 8 = .ok (.bipush 9, 2) := by decide +kernel
theorem d_MM_choices_10 : decode b_MM_choices 10 = .ok (.laload, 1) := by decide +kernel
theorem d_MM_choices_11 : decode b_MM_choices 11 = .ok (.lreturn, 1) := by decide +kernel
theorem d_law_0 : decode code 0 = .ok (.new 7, 3) := by decide +kernel
theorem d_law_3 : decode code 3 = .ok (.dup, 1) := by decide +kernel
theorem d_law_4 : decode code 4 = .ok (.invokespecial 9, 3) := by decide +kernel
theorem d_law_7 : decode code 7 = .ok (.astore_n 1, 1) := by decide +kernel
theorem d_law_8 : decode code 8 = .ok (.new 10, 3) := by decide +kernel
theorem d_law_11 : decode code 11 = .ok (.dup, 1) := by decide +kernel
theorem d_law_12 : decode code 12 = .ok (.invokespecial 12, 3) := by decide +kernel
theorem d_law_15 : decode code 15 = .ok (.astore_n 2, 1) := by decide +kernel
theorem d_law_16 : decode code 16 = .ok (.iconst 0, 1) := by decide +kernel
theorem d_law_17 : decode code 17 = .ok (.istore_n 3, 1) := by decide +kernel
theorem d_law_18 : decode code 18 = .ok (.iload_n 3, 1) := by decide +kernel
theorem d_law_19 : decode code 19 = .ok (.aload_n 0, 1) := by decide +kernel
theorem d_law_20 : decode code 20 = .ok (.arraylength, 1) := by decide +kernel
theorem d_law_21 : decode code 21 = .ok (.iconst 3, 1) := by decide +kernel
theorem d_law_22 : decode code 22 = .ok (.isub, 1) := by decide +kernel
theorem d_law_23 : decode code 23 = .ok (.if_icmp .gt 246, 3) := by decide +kernel
theorem d_law_26 : decode code 26 = .ok (.aload_n 0, 1) := by decide +kernel
theorem d_law_27 : decode code 27 = .ok (.iload_n 3, 1) := by decide +kernel
theorem d_law_28 : decode code 28 = .ok (.iaload, 1) := by decide +kernel
theorem d_law_29 : decode code 29 = .ok (.bipush 15, 2) := by decide +kernel
theorem d_law_31 : decode code 31 = .ok (.iand, 1) := by decide +kernel
theorem d_law_32 : decode code 32 = .ok (.tableswitch 231 0 10 #[60, 91, 105, 119, 133, 147, 161, 175, 189, 203, 217], 60) := by decide +kernel
theorem d_law_92 : decode code 92 = .ok (.aload_n 1, 1) := by decide +kernel
theorem d_law_93 : decode code 93 = .ok (.aload_n 0, 1) := by decide +kernel
theorem d_law_94 : decode code 94 = .ok (.iload_n 3, 1) := by decide +kernel
theorem d_law_95 : decode code 95 = .ok (.iconst 1, 1) := by decide +kernel
theorem d_law_96 : decode code 96 = .ok (.iadd, 1) := by decide +kernel
theorem d_law_97 : decode code 97 = .ok (.iaload, 1) := by decide +kernel
theorem d_law_98 : decode code 98 = .ok (.aload_n 0, 1) := by decide +kernel
theorem d_law_99 : decode code 99 = .ok (.iload_n 3, 1) := by decide +kernel
theorem d_law_100 : decode code 100 = .ok (.iconst 2, 1) := by decide +kernel
theorem d_law_101 : decode code 101 = .ok (.iadd, 1) := by decide +kernel
theorem d_law_102 : decode code 102 = .ok (.iaload, 1) := by decide +kernel
theorem d_law_103 : decode code 103 = .ok (.invokevirtual 13, 3) := by decide +kernel
theorem d_law_106 : decode code 106 = .ok (.aload_n 2, 1) := by decide +kernel
theorem d_law_107 : decode code 107 = .ok (.aload_n 0, 1) := by decide +kernel
theorem d_law_108 : decode code 108 = .ok (.iload_n 3, 1) := by decide +kernel
theorem d_law_109 : decode code 109 = .ok (.iconst 1, 1) := by decide +kernel
theorem d_law_110 : decode code 110 = .ok (.iadd, 1) := by decide +kernel
theorem d_law_111 : decode code 111 = .ok (.iaload, 1) := by decide +kernel
theorem d_law_112 : decode code 112 = .ok (.aload_n 0, 1) := by decide +kernel
theorem d_law_113 : decode code 113 = .ok (.iload_n 3, 1) := by decide +kernel
theorem d_law_114 : decode code 114 = .ok (.iconst 2, 1) := by decide +kernel
theorem d_law_115 : decode code 115 = .ok (.iadd, 1) := by decide +kernel
theorem d_law_116 : decode code 116 = .ok (.iaload, 1) := by decide +kernel
theorem d_law_117 : decode code 117 = .ok (.invokevirtual 17, 3) := by decide +kernel
theorem d_law_120 : decode code 120 = .ok (.goto 143, 3) := by decide +kernel
theorem d_law_123 : decode code 123 = .ok (.aload_n 1, 1) := by decide +kernel
theorem d_law_124 : decode code 124 = .ok (.invokevirtual 18, 3) := by decide +kernel
theorem d_law_127 : decode code 127 = .ok (.aload_n 2, 1) := by decide +kernel
theorem d_law_128 : decode code 128 = .ok (.invokevirtual 22, 3) := by decide +kernel
theorem d_law_131 : decode code 131 = .ok (.lcmp, 1) := by decide +kernel
theorem d_law_132 : decode code 132 = .ok (.ifCond .eq 131, 3) := by decide +kernel
theorem d_law_135 : decode code 135 = .ok (.iconst 0, 1) := by decide +kernel
theorem d_law_136 : decode code 136 = .ok (.ireturn, 1) := by decide +kernel
theorem d_law_137 : decode code 137 = .ok (.aload_n 1, 1) := by decide +kernel
theorem d_law_138 : decode code 138 = .ok (.invokevirtual 23, 3) := by decide +kernel
theorem d_law_141 : decode code 141 = .ok (.aload_n 2, 1) := by decide +kernel
theorem d_law_142 : decode code 142 = .ok (.invokevirtual 26, 3) := by decide +kernel
theorem d_law_145 : decode code 145 = .ok (.lcmp, 1) := by decide +kernel
theorem d_law_146 : decode code 146 = .ok (.ifCond .eq 117, 3) := by decide +kernel
theorem d_law_149 : decode code 149 = .ok (.iconst 0, 1) := by decide +kernel
theorem d_law_150 : decode code 150 = .ok (.ireturn, 1) := by decide +kernel
theorem d_law_151 : decode code 151 = .ok (.aload_n 1, 1) := by decide +kernel
theorem d_law_152 : decode code 152 = .ok (.invokevirtual 27, 3) := by decide +kernel
theorem d_law_155 : decode code 155 = .ok (.aload_n 2, 1) := by decide +kernel
theorem d_law_156 : decode code 156 = .ok (.invokevirtual 30, 3) := by decide +kernel
theorem d_law_159 : decode code 159 = .ok (.lcmp, 1) := by decide +kernel
theorem d_law_160 : decode code 160 = .ok (.ifCond .eq 103, 3) := by decide +kernel
theorem d_law_163 : decode code 163 = .ok (.iconst 0, 1) := by decide +kernel
theorem d_law_164 : decode code 164 = .ok (.ireturn, 1) := by decide +kernel
theorem d_law_165 : decode code 165 = .ok (.aload_n 1, 1) := by decide +kernel
theorem d_law_166 : decode code 166 = .ok (.invokevirtual 31, 3) := by decide +kernel
theorem d_law_169 : decode code 169 = .ok (.aload_n 2, 1) := by decide +kernel
theorem d_law_170 : decode code 170 = .ok (.invokevirtual 34, 3) := by decide +kernel
theorem d_law_173 : decode code 173 = .ok (.lcmp, 1) := by decide +kernel
theorem d_law_174 : decode code 174 = .ok (.ifCond .eq 89, 3) := by decide +kernel
theorem d_law_177 : decode code 177 = .ok (.iconst 0, 1) := by decide +kernel
theorem d_law_178 : decode code 178 = .ok (.ireturn, 1) := by decide +kernel
theorem d_law_179 : decode code 179 = .ok (.aload_n 1, 1) := by decide +kernel
theorem d_law_180 : decode code 180 = .ok (.invokevirtual 35, 3) := by decide +kernel
theorem d_law_183 : decode code 183 = .ok (.aload_n 2, 1) := by decide +kernel
theorem d_law_184 : decode code 184 = .ok (.invokevirtual 38, 3) := by decide +kernel
theorem d_law_187 : decode code 187 = .ok (.lcmp, 1) := by decide +kernel
theorem d_law_188 : decode code 188 = .ok (.ifCond .eq 75, 3) := by decide +kernel
theorem d_law_191 : decode code 191 = .ok (.iconst 0, 1) := by decide +kernel
theorem d_law_192 : decode code 192 = .ok (.ireturn, 1) := by decide +kernel
theorem d_law_193 : decode code 193 = .ok (.aload_n 1, 1) := by decide +kernel
theorem d_law_194 : decode code 194 = .ok (.invokevirtual 39, 3) := by decide +kernel
theorem d_law_197 : decode code 197 = .ok (.aload_n 2, 1) := by decide +kernel
theorem d_law_198 : decode code 198 = .ok (.invokevirtual 42, 3) := by decide +kernel
theorem d_law_201 : decode code 201 = .ok (.lcmp, 1) := by decide +kernel
theorem d_law_202 : decode code 202 = .ok (.ifCond .eq 61, 3) := by decide +kernel
theorem d_law_205 : decode code 205 = .ok (.iconst 0, 1) := by decide +kernel
theorem d_law_206 : decode code 206 = .ok (.ireturn, 1) := by decide +kernel
theorem d_law_207 : decode code 207 = .ok (.aload_n 1, 1) := by decide +kernel
theorem d_law_208 : decode code 208 = .ok (.invokevirtual 43, 3) := by decide +kernel
theorem d_law_211 : decode code 211 = .ok (.aload_n 2, 1) := by decide +kernel
theorem d_law_212 : decode code 212 = .ok (.invokevirtual 46, 3) := by decide +kernel
theorem d_law_215 : decode code 215 = .ok (.lcmp, 1) := by decide +kernel
theorem d_law_216 : decode code 216 = .ok (.ifCond .eq 47, 3) := by decide +kernel
theorem d_law_219 : decode code 219 = .ok (.iconst 0, 1) := by decide +kernel
theorem d_law_220 : decode code 220 = .ok (.ireturn, 1) := by decide +kernel
theorem d_law_221 : decode code 221 = .ok (.aload_n 1, 1) := by decide +kernel
theorem d_law_222 : decode code 222 = .ok (.invokevirtual 47, 3) := by decide +kernel
theorem d_law_225 : decode code 225 = .ok (.aload_n 2, 1) := by decide +kernel
theorem d_law_226 : decode code 226 = .ok (.invokevirtual 50, 3) := by decide +kernel
theorem d_law_229 : decode code 229 = .ok (.lcmp, 1) := by decide +kernel
theorem d_law_230 : decode code 230 = .ok (.ifCond .eq 33, 3) := by decide +kernel
theorem d_law_233 : decode code 233 = .ok (.iconst 0, 1) := by decide +kernel
theorem d_law_234 : decode code 234 = .ok (.ireturn, 1) := by decide +kernel
theorem d_law_235 : decode code 235 = .ok (.aload_n 1, 1) := by decide +kernel
theorem d_law_236 : decode code 236 = .ok (.invokevirtual 51, 3) := by decide +kernel
theorem d_law_239 : decode code 239 = .ok (.aload_n 2, 1) := by decide +kernel
theorem d_law_240 : decode code 240 = .ok (.invokevirtual 54, 3) := by decide +kernel
theorem d_law_243 : decode code 243 = .ok (.lcmp, 1) := by decide +kernel
theorem d_law_244 : decode code 244 = .ok (.ifCond .eq 19, 3) := by decide +kernel
theorem d_law_247 : decode code 247 = .ok (.iconst 0, 1) := by decide +kernel
theorem d_law_248 : decode code 248 = .ok (.ireturn, 1) := by decide +kernel
theorem d_law_249 : decode code 249 = .ok (.aload_n 1, 1) := by decide +kernel
theorem d_law_250 : decode code 250 = .ok (.invokevirtual 55, 3) := by decide +kernel
theorem d_law_253 : decode code 253 = .ok (.aload_n 2, 1) := by decide +kernel
theorem d_law_254 : decode code 254 = .ok (.invokevirtual 58, 3) := by decide +kernel
theorem d_law_257 : decode code 257 = .ok (.lcmp, 1) := by decide +kernel
theorem d_law_258 : decode code 258 = .ok (.ifCond .eq 5, 3) := by decide +kernel
theorem d_law_261 : decode code 261 = .ok (.iconst 0, 1) := by decide +kernel
theorem d_law_262 : decode code 262 = .ok (.ireturn, 1) := by decide +kernel
theorem d_law_263 : decode code 263 = .ok (.iinc 3 3, 3) := by decide +kernel
theorem d_law_266 : decode code 266 = .ok (.goto (-248), 3) := by decide +kernel
theorem d_law_269 : decode code 269 = .ok (.iconst 1, 1) := by decide +kernel
theorem d_law_270 : decode code 270 = .ok (.ireturn, 1) := by decide +kernel
end
section
theorem d_MM_reckon_0 : decode b_MM_reckon 0 = .ok (.aload_n 0, 1) := by decide +kernel
theorem d_MM_reckon_1 : decode b_MM_reckon 1 = .ok (.getfield 25, 3) := by decide +kernel
theorem d_MM_reckon_4 : decode b_MM_reckon 4 = .ok (.ifCond .eq 4, 3) := by decide +kernel
theorem d_MM_reckon_7 : decode b_MM_reckon 7 = .ok (.return_, 1) := by decide +kernel
theorem d_MM_reckon_8 : decode b_MM_reckon 8 = .ok (.aload_n 0, 1) := by decide +kernel
theorem d_MM_reckon_9 : decode b_MM_reckon 9 = .ok (.iconst 1, 1) := by decide +kernel
theorem d_MM_reckon_10 : decode b_MM_reckon 10 = .ok (.putfield 25, 3) := by decide +kernel
theorem d_MM_reckon_13 : decode b_MM_reckon 13 = .ok (.iconst 0, 1) := by decide +kernel
theorem d_MM_reckon_14 : decode b_MM_reckon 14 = .ok (.istore_n 1, 1) := by decide +kernel
theorem d_MM_reckon_15 : decode b_MM_reckon 15 = .ok (.iload_n 1, 1) := by decide +kernel
theorem d_MM_reckon_16 : decode b_MM_reckon 16 = .ok (.bipush 16, 2) := by decide +kernel
theorem d_MM_reckon_18 : decode b_MM_reckon 18 = .ok (.if_icmp .ge 16, 3) := by decide +kernel
theorem d_MM_reckon_21 : decode b_MM_reckon 21 = .ok (.aload_n 0, 1) := by decide +kernel
theorem d_MM_reckon_22 : decode b_MM_reckon 22 = .ok (.getfield 16, 3) := by decide +kernel
theorem d_MM_reckon_25 : decode b_MM_reckon 25 = .ok (.iload_n 1, 1) := by decide +kernel
theorem d_MM_reckon_26 : decode b_MM_reckon 26 = .ok (.lconst 0, 1) := by decide +kernel
theorem d_MM_reckon_27 : decode b_MM_reckon 27 = .ok (.lastore, 1) := by decide +kernel
theorem d_MM_reckon_28 : decode b_MM_reckon 28 = .ok (.iinc 1 1, 3) := by decide +kernel
theorem d_MM_reckon_31 : decode b_MM_reckon 31 = .ok (.goto (-16), 3) := by decide +kernel
theorem d_MM_reckon_34 : decode b_MM_reckon 34 = .ok (.iconst 1, 1) := by decide +kernel
theorem d_MM_reckon_35 : decode b_MM_reckon 35 = .ok (.istore_n 1, 1) := by decide +kernel
theorem d_MM_reckon_36 : decode b_MM_reckon 36 = .ok (.iconst 0, 1) := by decide +kernel
theorem d_MM_reckon_37 : decode b_MM_reckon 37 = .ok (.istore_n 2, 1) := by decide +kernel
theorem d_MM_reckon_38 : decode b_MM_reckon 38 = .ok (.iload_n 2, 1) := by decide +kernel
theorem d_MM_reckon_39 : decode b_MM_reckon 39 = .ok (.aload_n 0, 1) := by decide +kernel
theorem d_MM_reckon_40 : decode b_MM_reckon 40 = .ok (.getfield 7, 3) := by decide +kernel
theorem d_MM_reckon_43 : decode b_MM_reckon 43 = .ok (.if_icmp .ge 16, 3) := by decide +kernel
theorem d_MM_reckon_46 : decode b_MM_reckon 46 = .ok (.iload_n 1, 1) := by decide +kernel
theorem d_MM_reckon_47 : decode b_MM_reckon 47 = .ok (.aload_n 0, 1) := by decide +kernel
theorem d_MM_reckon_48 : decode b_MM_reckon 48 = .ok (.getfield 13, 3) := by decide +kernel
theorem d_MM_reckon_51 : decode b_MM_reckon 51 = .ok (.imul, 1) := by decide +kernel
theorem d_MM_reckon_52 : decode b_MM_reckon 52 = .ok (.istore_n 1, 1) := by decide +kernel
theorem d_MM_reckon_53 : decode b_MM_reckon 53 = .ok (.iinc 2 1, 3) := by decide +kernel
theorem d_MM_reckon_56 : decode b_MM_reckon 56 = .ok (.goto (-18), 3) := by decide +kernel
theorem d_MM_reckon_59 : decode b_MM_reckon 59 = .ok (.iconst 0, 1) := by decide +kernel
theorem d_MM_reckon_60 : decode b_MM_reckon 60 = .ok (.istore_n 2, 1) := by decide +kernel
theorem d_MM_reckon_61 : decode b_MM_reckon 61 = .ok (.iload_n 2, 1) := by decide +kernel
theorem d_MM_reckon_62 : decode b_MM_reckon 62 = .ok (.iload_n 1, 1) := by decide +kernel
theorem d_MM_reckon_63 : decode b_MM_reckon 63 = .ok (.if_icmp .ge 418, 3) := by decide +kernel
theorem d_MM_reckon_66 : decode b_MM_reckon 66 = .ok (.iload_n 2, 1) := by decide +kernel
theorem d_MM_reckon_67 : decode b_MM_reckon 67 = .ok (.istore_n 3, 1) := by decide +kernel
theorem d_MM_reckon_68 : decode b_MM_reckon 68 = .ok (.iconst 0, 1) := by decide +kernel
theorem d_MM_reckon_69 : decode b_MM_reckon 69 = .ok (.istore 4, 2) := by decide +kernel
theorem d_MM_reckon_71 : decode b_MM_reckon 71 = .ok (.iconst 0, 1) := by decide +kernel
theorem d_MM_reckon_72 : decode b_MM_reckon 72 = .ok (.istore 5, 2) := by decide +kernel
theorem d_MM_reckon_74 : decode b_MM_reckon 74 = .ok (.iconst 0, 1) := by decide +kernel
theorem d_MM_reckon_75 : decode b_MM_reckon 75 = .ok (.istore 6, 2) := by decide +kernel
theorem d_MM_reckon_77 : decode b_MM_reckon 77 = .ok (.iconst 0, 1) := by decide +kernel
theorem d_MM_reckon_78 : decode b_MM_reckon 78 = .ok (.istore 7, 2) := by decide +kernel
theorem d_MM_reckon_80 : decode b_MM_reckon 80 = .ok (.iconst 1, 1) := by decide +kernel
theorem d_MM_reckon_81 : decode b_MM_reckon 81 = .ok (.istore 8, 2) := by decide +kernel
theorem d_MM_reckon_83 : decode b_MM_reckon 83 = .ok (.iconst 1, 1) := by decide +kernel
theorem d_MM_reckon_84 : decode b_MM_reckon 84 = .ok (.istore 9, 2) := by decide +kernel
theorem d_MM_reckon_86 : decode b_MM_reckon 86 = .ok (.iconst 0, 1) := by decide +kernel
theorem d_MM_reckon_87 : decode b_MM_reckon 87 = .ok (.istore 10, 2) := by decide +kernel
theorem d_MM_reckon_89 : decode b_MM_reckon 89 = .ok (.iload 10, 2) := by decide +kernel
theorem d_MM_reckon_91 : decode b_MM_reckon 91 = .ok (.aload_n 0, 1) := by decide +kernel
theorem d_MM_reckon_92 : decode b_MM_reckon 92 = .ok (.getfield 7, 3) := by decide +kernel
theorem d_MM_reckon_95 : decode b_MM_reckon 95 = .ok (.if_icmp .ge 151, 3) := by decide +kernel
theorem d_MM_reckon_98 : decode b_MM_reckon 98 = .ok (.aload_n 0, 1) := by decide +kernel
theorem d_MM_reckon_99 : decode b_MM_reckon 99 = .ok (.getfield 20, 3) := by decide +kernel
theorem d_MM_reckon_102 : decode b_MM_reckon 102 = .ok (.iload 10, 2) := by decide +kernel
theorem d_MM_reckon_104 : decode b_MM_reckon 104 = .ok (.iload_n 3, 1) := by decide +kernel
theorem d_MM_reckon_105 : decode b_MM_reckon 105 = .ok (.aload_n 0, 1) := by decide +kernel
theorem d_MM_reckon_106 : decode b_MM_reckon 106 = .ok (.getfield 13, 3) := by decide +kernel
theorem d_MM_reckon_109 : decode b_MM_reckon 109 = .ok (.irem, 1) := by decide +kernel
theorem d_MM_reckon_110 : decode b_MM_reckon 110 = .ok (.iastore, 1) := by decide +kernel
theorem d_MM_reckon_111 : decode b_MM_reckon 111 = .ok (.iload_n 3, 1) := by decide +kernel
theorem d_MM_reckon_112 : decode b_MM_reckon 112 = .ok (.aload_n 0, 1) := by decide +kernel
theorem d_MM_reckon_113 : decode b_MM_reckon 113 = .ok (.getfield 13, 3) := by decide +kernel
theorem d_MM_reckon_116 : decode b_MM_reckon 116 = .ok (.idiv, 1) := by decide +kernel
theorem d_MM_reckon_117 : decode b_MM_reckon 117 = .ok (.istore_n 3, 1) := by decide +kernel
theorem d_MM_reckon_118 : decode b_MM_reckon 118 = .ok (.iload 4, 2) := by decide +kernel
theorem d_MM_reckon_120 : decode b_MM_reckon 120 = .ok (.aload_n 0, 1) := by decide +kernel
theorem d_MM_reckon_121 : decode b_MM_reckon 121 = .ok (.getfield 20, 3) := by decide +kernel
theorem d_MM_reckon_124 : decode b_MM_reckon 124 = .ok (.iload 10, 2) := by decide +kernel
theorem d_MM_reckon_126 : decode b_MM_reckon 126 = .ok (.iaload, 1) := by decide +kernel
theorem d_MM_reckon_127 : decode b_MM_reckon 127 = .ok (.ishr, 1) := by decide +kernel
theorem d_MM_reckon_128 : decode b_MM_reckon 128 = .ok (.iconst 1, 1) := by decide +kernel
theorem d_MM_reckon_129 : decode b_MM_reckon 129 = .ok (.iand, 1) := by decide +kernel
theorem d_MM_reckon_130 : decode b_MM_reckon 130 = .ok (.ifCond .eq 12, 3) := by decide +kernel
theorem d_MM_reckon_133 : decode b_MM_reckon 133 = .ok (.iload 5, 2) := by decide +kernel
theorem d_MM_reckon_135 : decode b_MM_reckon 135 = .ok (.iconst 1, 1) := by decide +kernel
theorem d_MM_reckon_136 : decode b_MM_reckon 136 = .ok (.iadd, 1) := by decide +kernel
theorem d_MM_reckon_137 : decode b_MM_reckon 137 = .ok (.istore 5, 2) := by decide +kernel
theorem d_MM_reckon_139 : decode b_MM_reckon 139 = .ok (.goto 33, 3) := by decide +kernel
theorem d_MM_reckon_142 : decode b_MM_reckon 142 = .ok (.iload 9, 2) := by decide +kernel
theorem d_MM_reckon_144 : decode b_MM_reckon 144 = .ok (.ifCond .eq 19, 3) := by decide +kernel
theorem d_MM_reckon_147 : decode b_MM_reckon 147 = .ok (.aload_n 0, 1) := by decide +kernel
theorem d_MM_reckon_148 : decode b_MM_reckon 148 = .ok (.getfield 20, 3) := by decide +kernel
theorem d_MM_reckon_151 : decode b_MM_reckon 151 = .ok (.iload 10, 2) := by decide +kernel
theorem d_MM_reckon_153 : decode b_MM_reckon 153 = .ok (.iaload, 1) := by decide +kernel
theorem d_MM_reckon_154 : decode b_MM_reckon 154 = .ok (.iload 6, 2) := by decide +kernel
theorem d_MM_reckon_156 : decode b_MM_reckon 156 = .ok (.if_icmp .ne 7, 3) := by decide +kernel
theorem d_MM_reckon_159 : decode b_MM_reckon 159 = .ok (.iconst 1, 1) := by decide +kernel
theorem d_MM_reckon_160 : decode b_MM_reckon 160 = .ok (.goto 4, 3) := by decide +kernel
theorem d_MM_reckon_163 : decode b_MM_reckon 163 = .ok (.iconst 0, 1) := by decide +kernel
theorem d_MM_reckon_164 : decode b_MM_reckon 164 = .ok (.istore 9, 2) := by decide +kernel
theorem d_MM_reckon_166 : decode b_MM_reckon 166 = .ok (.iload 6, 2) := by decide +kernel
theorem d_MM_reckon_168 : decode b_MM_reckon 168 = .ok (.iconst 1, 1) := by decide +kernel
end
section
theorem d_MM_reckon_169 : decode b_MM_reckon 169 = .ok (.iadd, 1) := by decide +kernel
theorem d_MM_reckon_170 : decode b_MM_reckon 170 = .ok (.istore 6, 2) := by decide +kernel
theorem d_MM_reckon_172 : decode b_MM_reckon 172 = .ok (.iload 4, 2) := by decide +kernel
theorem d_MM_reckon_174 : decode b_MM_reckon 174 = .ok (.iconst 1, 1) := by decide +kernel
theorem d_MM_reckon_175 : decode b_MM_reckon 175 = .ok (.aload_n 0, 1) := by decide +kernel
theorem d_MM_reckon_176 : decode b_MM_reckon 176 = .ok (.getfield 20, 3) := by decide +kernel
theorem d_MM_reckon_179 : decode b_MM_reckon 179 = .ok (.iload 10, 2) := by decide +kernel
theorem d_MM_reckon_181 : decode b_MM_reckon 181 = .ok (.iaload, 1) := by decide +kernel
theorem d_MM_reckon_182 : decode b_MM_reckon 182 = .ok (.ishl, 1) := by decide +kernel
theorem d_MM_reckon_183 : decode b_MM_reckon 183 = .ok (.ior, 1) := by decide +kernel
theorem d_MM_reckon_184 : decode b_MM_reckon 184 = .ok (.istore 4, 2) := by decide +kernel
theorem d_MM_reckon_186 : decode b_MM_reckon 186 = .ok (.iload 8, 2) := by decide +kernel
theorem d_MM_reckon_188 : decode b_MM_reckon 188 = .ok (.ifCond .eq 31, 3) := by decide +kernel
theorem d_MM_reckon_191 : decode b_MM_reckon 191 = .ok (.iload 10, 2) := by decide +kernel
theorem d_MM_reckon_193 : decode b_MM_reckon 193 = .ok (.ifCond .eq 22, 3) := by decide +kernel
theorem d_MM_reckon_196 : decode b_MM_reckon 196 = .ok (.aload_n 0, 1) := by decide +kernel
theorem d_MM_reckon_197 : decode b_MM_reckon 197 = .ok (.getfield 20, 3) := by decide +kernel
theorem d_MM_reckon_200 : decode b_MM_reckon 200 = .ok (.iload 10, 2) := by decide +kernel
theorem d_MM_reckon_202 : decode b_MM_reckon 202 = .ok (.iaload, 1) := by decide +kernel
theorem d_MM_reckon_203 : decode b_MM_reckon 203 = .ok (.aload_n 0, 1) := by decide +kernel
theorem d_MM_reckon_204 : decode b_MM_reckon 204 = .ok (.getfield 20, 3) := by decide +kernel
theorem d_MM_reckon_207 : decode b_MM_reckon 207 = .ok (.iload 10, 2) := by decide +kernel
theorem d_MM_reckon_209 : decode b_MM_reckon 209 = .ok (.iconst 1, 1) := by decide +kernel
theorem d_MM_reckon_210 : decode b_MM_reckon 210 = .ok (.isub, 1) := by decide +kernel
theorem d_MM_reckon_211 : decode b_MM_reckon 211 = .ok (.iaload, 1) := by decide +kernel
theorem d_MM_reckon_212 : decode b_MM_reckon 212 = .ok (.if_icmp .lt 7, 3) := by decide +kernel
theorem d_MM_reckon_215 : decode b_MM_reckon 215 = .ok (.iconst 1, 1) := by decide +kernel
theorem d_MM_reckon_216 : decode b_MM_reckon 216 = .ok (.goto 4, 3) := by decide +kernel
theorem d_MM_reckon_219 : decode b_MM_reckon 219 = .ok (.iconst 0, 1) := by decide +kernel
theorem d_MM_reckon_220 : decode b_MM_reckon 220 = .ok (.istore 8, 2) := by decide +kernel
theorem d_MM_reckon_222 : decode b_MM_reckon 222 = .ok (.aload_n 0, 1) := by decide +kernel
theorem d_MM_reckon_223 : decode b_MM_reckon 223 = .ok (.getfield 20, 3) := by decide +kernel
theorem d_MM_reckon_226 : decode b_MM_reckon 226 = .ok (.iload 10, 2) := by decide +kernel
theorem d_MM_reckon_228 : decode b_MM_reckon 228 = .ok (.iaload, 1) := by decide +kernel
theorem d_MM_reckon_229 : decode b_MM_reckon 229 = .ok (.iload 10, 2) := by decide +kernel
theorem d_MM_reckon_231 : decode b_MM_reckon 231 = .ok (.if_icmp .ne 9, 3) := by decide +kernel
theorem d_MM_reckon_234 : decode b_MM_reckon 234 = .ok (.iload 7, 2) := by decide +kernel
theorem d_MM_reckon_236 : decode b_MM_reckon 236 = .ok (.iconst 1, 1) := by decide +kernel
theorem d_MM_reckon_237 : decode b_MM_reckon 237 = .ok (.iadd, 1) := by decide +kernel
theorem d_MM_reckon_238 : decode b_MM_reckon 238 = .ok (.istore 7, 2) := by decide +kernel
theorem d_MM_reckon_240 : decode b_MM_reckon 240 = .ok (.iinc 10 1, 3) := by decide +kernel
theorem d_MM_reckon_243 : decode b_MM_reckon 243 = .ok (.goto (-154), 3) := by decide +kernel
theorem d_MM_reckon_246 : decode b_MM_reckon 246 = .ok (.iload 4, 2) := by decide +kernel
theorem d_MM_reckon_248 : decode b_MM_reckon 248 = .ok (.iconst 1, 1) := by decide +kernel
theorem d_MM_reckon_249 : decode b_MM_reckon 249 = .ok (.aload_n 0, 1) := by decide +kernel
theorem d_MM_reckon_250 : decode b_MM_reckon 250 = .ok (.getfield 13, 3) := by decide +kernel
theorem d_MM_reckon_253 : decode b_MM_reckon 253 = .ok (.ishl, 1) := by decide +kernel
theorem d_MM_reckon_254 : decode b_MM_reckon 254 = .ok (.iconst 1, 1) := by decide +kernel
theorem d_MM_reckon_255 : decode b_MM_reckon 255 = .ok (.isub, 1) := by decide +kernel
theorem d_MM_reckon_256 : decode b_MM_reckon 256 = .ok (.if_icmp .ne 7, 3) := by decide +kernel
theorem d_MM_reckon_259 : decode b_MM_reckon 259 = .ok (.iconst 1, 1) := by decide +kernel
theorem d_MM_reckon_260 : decode b_MM_reckon 260 = .ok (.goto 4, 3) := by decide +kernel
theorem d_MM_reckon_263 : decode b_MM_reckon 263 = .ok (.iconst 0, 1) := by decide +kernel
theorem d_MM_reckon_264 : decode b_MM_reckon 264 = .ok (.istore 10, 2) := by decide +kernel
theorem d_MM_reckon_266 : decode b_MM_reckon 266 = .ok (.aload_n 0, 1) := by decide +kernel
theorem d_MM_reckon_267 : decode b_MM_reckon 267 = .ok (.getfield 16, 3) := by decide +kernel
theorem d_MM_reckon_270 : decode b_MM_reckon 270 = .ok (.iconst 0, 1) := by decide +kernel
theorem d_MM_reckon_271 : decode b_MM_reckon 271 = .ok (.aload_n 0, 1) := by decide +kernel
theorem d_MM_reckon_272 : decode b_MM_reckon 272 = .ok (.getfield 16, 3) := by decide +kernel
theorem d_MM_reckon_275 : decode b_MM_reckon 275 = .ok (.iconst 0, 1) := by decide +kernel
theorem d_MM_reckon_276 : decode b_MM_reckon 276 = .ok (.laload, 1) := by decide +kernel
theorem d_MM_reckon_277 : decode b_MM_reckon 277 = .ok (.lconst 1, 1) := by decide +kernel
theorem d_MM_reckon_278 : decode b_MM_reckon 278 = .ok (.ladd, 1) := by decide +kernel
theorem d_MM_reckon_279 : decode b_MM_reckon 279 = .ok (.lastore, 1) := by decide +kernel
theorem d_MM_reckon_280 : decode b_MM_reckon 280 = .ok (.iload 5, 2) := by decide +kernel
theorem d_MM_reckon_282 : decode b_MM_reckon 282 = .ok (.ifCond .ne 17, 3) := by decide +kernel
theorem d_MM_reckon_285 : decode b_MM_reckon 285 = .ok (.aload_n 0, 1) := by decide +kernel
theorem d_MM_reckon_286 : decode b_MM_reckon 286 = .ok (.getfield 16, 3) := by decide +kernel
theorem d_MM_reckon_289 : decode b_MM_reckon 289 = .ok (.iconst 1, 1) := by decide +kernel
theorem d_MM_reckon_290 : decode b_MM_reckon 290 = .ok (.aload_n 0, 1) := by decide +kernel
theorem d_MM_reckon_291 : decode b_MM_reckon 291 = .ok (.getfield 16, 3) := by decide +kernel
theorem d_MM_reckon_294 : decode b_MM_reckon 294 = .ok (.iconst 1, 1) := by decide +kernel
theorem d_MM_reckon_295 : decode b_MM_reckon 295 = .ok (.laload, 1) := by decide +kernel
theorem d_MM_reckon_296 : decode b_MM_reckon 296 = .ok (.lconst 1, 1) := by decide +kernel
theorem d_MM_reckon_297 : decode b_MM_reckon 297 = .ok (.ladd, 1) := by decide +kernel
theorem d_MM_reckon_298 : decode b_MM_reckon 298 = .ok (.lastore, 1) := by decide +kernel
theorem d_MM_reckon_299 : decode b_MM_reckon 299 = .ok (.iload 10, 2) := by decide +kernel
theorem d_MM_reckon_301 : decode b_MM_reckon 301 = .ok (.ifCond .eq 17, 3) := by decide +kernel
theorem d_MM_reckon_304 : decode b_MM_reckon 304 = .ok (.aload_n 0, 1) := by decide +kernel
theorem d_MM_reckon_305 : decode b_MM_reckon 305 = .ok (.getfield 16, 3) := by decide +kernel
theorem d_MM_reckon_308 : decode b_MM_reckon 308 = .ok (.iconst 2, 1) := by decide +kernel
theorem d_MM_reckon_309 : decode b_MM_reckon 309 = .ok (.aload_n 0, 1) := by decide +kernel
theorem d_MM_reckon_310 : decode b_MM_reckon 310 = .ok (.getfield 16, 3) := by decide +kernel
theorem d_MM_reckon_313 : decode b_MM_reckon 313 = .ok (.iconst 2, 1) := by decide +kernel
theorem d_MM_reckon_314 : decode b_MM_reckon 314 = .ok (.laload, 1) := by decide +kernel
theorem d_MM_reckon_315 : decode b_MM_reckon 315 = .ok (.lconst 1, 1) := by decide +kernel
theorem d_MM_reckon_316 : decode b_MM_reckon 316 = .ok (.ladd, 1) := by decide +kernel
theorem d_MM_reckon_317 : decode b_MM_reckon 317 = .ok (.lastore, 1) := by decide +kernel
theorem d_MM_reckon_318 : decode b_MM_reckon 318 = .ok (.iload 8, 2) := by decide +kernel
theorem d_MM_reckon_320 : decode b_MM_reckon 320 = .ok (.ifCond .eq 36, 3) := by decide +kernel
theorem d_MM_reckon_323 : decode b_MM_reckon 323 = .ok (.aload_n 0, 1) := by decide +kernel
theorem d_MM_reckon_324 : decode b_MM_reckon 324 = .ok (.getfield 16, 3) := by decide +kernel
theorem d_MM_reckon_327 : decode b_MM_reckon 327 = .ok (.iconst 3, 1) := by decide +kernel
theorem d_MM_reckon_328 : decode b_MM_reckon 328 = .ok (.aload_n 0, 1) := by decide +kernel
theorem d_MM_reckon_329 : decode b_MM_reckon 329 = .ok (.getfield 16, 3) := by decide +kernel
theorem d_MM_reckon_332 : decode b_MM_reckon 332 = .ok (.iconst 3, 1) := by decide +kernel
theorem d_MM_reckon_333 : decode b_MM_reckon 333 = .ok (.laload, 1) := by decide +kernel
theorem d_MM_reckon_334 : decode b_MM_reckon 334 = .ok (.lconst 1, 1) := by decide +kernel
theorem d_MM_reckon_335 : decode b_MM_reckon 335 = .ok (.ladd, 1) := by decide +kernel
theorem d_MM_reckon_336 : decode b_MM_reckon 336 = .ok (.lastore, 1) := by decide +kernel
end
section
theorem d_MM_reckon_337 : decode b_MM_reckon 337 = .ok (.iload 10, 2) := by decide +kernel
theorem d_MM_reckon_339 : decode b_MM_reckon 339 = .ok (.ifCond .eq 17, 3) := by decide +kernel
theorem d_MM_reckon_342 : decode b_MM_reckon 342 = .ok (.aload_n 0, 1) := by decide +kernel
theorem d_MM_reckon_343 : decode b_MM_reckon 343 = .ok (.getfield 16, 3) := by decide +kernel
theorem d_MM_reckon_346 : decode b_MM_reckon 346 = .ok (.iconst 4, 1) := by decide +kernel
theorem d_MM_reckon_347 : decode b_MM_reckon 347 = .ok (.aload_n 0, 1) := by decide +kernel
theorem d_MM_reckon_348 : decode b_MM_reckon 348 = .ok (.getfield 16, 3) := by decide +kernel
theorem d_MM_reckon_351 : decode b_MM_reckon 351 = .ok (.iconst 4, 1) := by decide +kernel
theorem d_MM_reckon_352 : decode b_MM_reckon 352 = .ok (.laload, 1) := by decide +kernel
theorem d_MM_reckon_353 : decode b_MM_reckon 353 = .ok (.lconst 1, 1) := by decide +kernel
theorem d_MM_reckon_354 : decode b_MM_reckon 354 = .ok (.ladd, 1) := by decide +kernel
theorem d_MM_reckon_355 : decode b_MM_reckon 355 = .ok (.lastore, 1) := by decide +kernel
theorem d_MM_reckon_356 : decode b_MM_reckon 356 = .ok (.iload 9, 2) := by decide +kernel
theorem d_MM_reckon_358 : decode b_MM_reckon 358 = .ok (.ifCond .eq 38, 3) := by decide +kernel
theorem d_MM_reckon_361 : decode b_MM_reckon 361 = .ok (.aload_n 0, 1) := by decide +kernel
theorem d_MM_reckon_362 : decode b_MM_reckon 362 = .ok (.getfield 16, 3) := by decide +kernel
theorem d_MM_reckon_365 : decode b_MM_reckon 365 = .ok (.iconst 5, 1) := by decide +kernel
theorem d_MM_reckon_366 : decode b_MM_reckon 366 = .ok (.aload_n 0, 1) := by decide +kernel
theorem d_MM_reckon_367 : decode b_MM_reckon 367 = .ok (.getfield 16, 3) := by decide +kernel
theorem d_MM_reckon_370 : decode b_MM_reckon 370 = .ok (.iconst 5, 1) := by decide +kernel
theorem d_MM_reckon_371 : decode b_MM_reckon 371 = .ok (.laload, 1) := by decide +kernel
theorem d_MM_reckon_372 : decode b_MM_reckon 372 = .ok (.lconst 1, 1) := by decide +kernel
theorem d_MM_reckon_373 : decode b_MM_reckon 373 = .ok (.ladd, 1) := by decide +kernel
theorem d_MM_reckon_374 : decode b_MM_reckon 374 = .ok (.lastore, 1) := by decide +kernel
theorem d_MM_reckon_375 : decode b_MM_reckon 375 = .ok (.iload 10, 2) := by decide +kernel
theorem d_MM_reckon_377 : decode b_MM_reckon 377 = .ok (.ifCond .eq 19, 3) := by decide +kernel
theorem d_MM_reckon_380 : decode b_MM_reckon 380 = .ok (.aload_n 0, 1) := by decide +kernel
theorem d_MM_reckon_381 : decode b_MM_reckon 381 = .ok (.getfield 16, 3) := by decide +kernel
theorem d_MM_reckon_384 : decode b_MM_reckon 384 = .ok (.bipush 6, 2) := by decide +kernel
theorem d_MM_reckon_386 : decode b_MM_reckon 386 = .ok (.aload_n 0, 1) := by decide +kernel
theorem d_MM_reckon_387 : decode b_MM_reckon 387 = .ok (.getfield 16, 3) := by decide +kernel
theorem d_MM_reckon_390 : decode b_MM_reckon 390 = .ok (.bipush 6, 2) := by decide +kernel
theorem d_MM_reckon_392 : decode b_MM_reckon 392 = .ok (.laload, 1) := by decide +kernel
theorem d_MM_reckon_393 : decode b_MM_reckon 393 = .ok (.lconst 1, 1) := by decide +kernel
theorem d_MM_reckon_394 : decode b_MM_reckon 394 = .ok (.ladd, 1) := by decide +kernel
theorem d_MM_reckon_395 : decode b_MM_reckon 395 = .ok (.lastore, 1) := by decide +kernel
theorem d_MM_reckon_396 : decode b_MM_reckon 396 = .ok (.iload 7, 2) := by decide +kernel
theorem d_MM_reckon_398 : decode b_MM_reckon 398 = .ok (.ifCond .ne 51, 3) := by decide +kernel
theorem d_MM_reckon_401 : decode b_MM_reckon 401 = .ok (.aload_n 0, 1) := by decide +kernel
theorem d_MM_reckon_402 : decode b_MM_reckon 402 = .ok (.getfield 16, 3) := by decide +kernel
theorem d_MM_reckon_405 : decode b_MM_reckon 405 = .ok (.bipush 7, 2) := by decide +kernel
theorem d_MM_reckon_407 : decode b_MM_reckon 407 = .ok (.aload_n 0, 1) := by decide +kernel
theorem d_MM_reckon_408 : decode b_MM_reckon 408 = .ok (.getfield 16, 3) := by decide +kernel
theorem d_MM_reckon_411 : decode b_MM_reckon 411 = .ok (.bipush 7, 2) := by decide +kernel
theorem d_MM_reckon_413 : decode b_MM_reckon 413 = .ok (.laload, 1) := by decide +kernel
theorem d_MM_reckon_414 : decode b_MM_reckon 414 = .ok (.lconst 1, 1) := by decide +kernel
theorem d_MM_reckon_415 : decode b_MM_reckon 415 = .ok (.ladd, 1) := by decide +kernel
theorem d_MM_reckon_416 : decode b_MM_reckon 416 = .ok (.lastore, 1) := by decide +kernel
theorem d_MM_reckon_417 : decode b_MM_reckon 417 = .ok (.iload 5, 2) := by decide +kernel
theorem d_MM_reckon_419 : decode b_MM_reckon 419 = .ok (.ifCond .ne 30, 3) := by decide +kernel
theorem d_MM_reckon_422 : decode b_MM_reckon 422 = .ok (.aload_n 0, 1) := by decide +kernel
theorem d_MM_reckon_423 : decode b_MM_reckon 423 = .ok (.getfield 7, 3) := by decide +kernel
theorem d_MM_reckon_426 : decode b_MM_reckon 426 = .ok (.aload_n 0, 1) := by decide +kernel
theorem d_MM_reckon_427 : decode b_MM_reckon 427 = .ok (.getfield 13, 3) := by decide +kernel
theorem d_MM_reckon_430 : decode b_MM_reckon 430 = .ok (.if_icmp .ne 19, 3) := by decide +kernel
theorem d_MM_reckon_433 : decode b_MM_reckon 433 = .ok (.aload_n 0, 1) := by decide +kernel
theorem d_MM_reckon_434 : decode b_MM_reckon 434 = .ok (.getfield 16, 3) := by decide +kernel
theorem d_MM_reckon_437 : decode b_MM_reckon 437 = .ok (.bipush 8, 2) := by decide +kernel
theorem d_MM_reckon_439 : decode b_MM_reckon 439 = .ok (.aload_n 0, 1) := by decide +kernel
theorem d_MM_reckon_440 : decode b_MM_reckon 440 = .ok (.getfield 16, 3) := by decide +kernel
theorem d_MM_reckon_443 : decode b_MM_reckon 443 = .ok (.bipush 8, 2) := by decide +kernel
theorem d_MM_reckon_445 : decode b_MM_reckon 445 = .ok (.laload, 1) := by decide +kernel
theorem d_MM_reckon_446 : decode b_MM_reckon 446 = .ok (.lconst 1, 1) := by decide +kernel
theorem d_MM_reckon_447 : decode b_MM_reckon 447 = .ok (.ladd, 1) := by decide +kernel
theorem d_MM_reckon_448 : decode b_MM_reckon 448 = .ok (.lastore, 1) := by decide +kernel
theorem d_MM_reckon_449 : decode b_MM_reckon 449 = .ok (.iload 5, 2) := by decide +kernel
theorem d_MM_reckon_451 : decode b_MM_reckon 451 = .ok (.ifCond .ne 24, 3) := by decide +kernel
theorem d_MM_reckon_454 : decode b_MM_reckon 454 = .ok (.iload 8, 2) := by decide +kernel
theorem d_MM_reckon_456 : decode b_MM_reckon 456 = .ok (.ifCond .eq 19, 3) := by decide +kernel
theorem d_MM_reckon_459 : decode b_MM_reckon 459 = .ok (.aload_n 0, 1) := by decide +kernel
theorem d_MM_reckon_460 : decode b_MM_reckon 460 = .ok (.getfield 16, 3) := by decide +kernel
theorem d_MM_reckon_463 : decode b_MM_reckon 463 = .ok (.bipush 9, 2) := by decide +kernel
theorem d_MM_reckon_465 : decode b_MM_reckon 465 = .ok (.aload_n 0, 1) := by decide +kernel
theorem d_MM_reckon_466 : decode b_MM_reckon 466 = .ok (.getfield 16, 3) := by decide +kernel
theorem d_MM_reckon_469 : decode b_MM_reckon 469 = .ok (.bipush 9, 2) := by decide +kernel
theorem d_MM_reckon_471 : decode b_MM_reckon 471 = .ok (.laload, 1) := by decide +kernel
theorem d_MM_reckon_472 : decode b_MM_reckon 472 = .ok (.lconst 1, 1) := by decide +kernel
theorem d_MM_reckon_473 : decode b_MM_reckon 473 = .ok (.ladd, 1) := by decide +kernel
theorem d_MM_reckon_474 : decode b_MM_reckon 474 = .ok (.lastore, 1) := by decide +kernel
theorem d_MM_reckon_475 : decode b_MM_reckon 475 = .ok (.iinc 2 1, 3) := by decide +kernel
theorem d_MM_reckon_478 : decode b_MM_reckon 478 = .ok (.goto (-417), 3) := by decide +kernel
theorem d_MM_reckon_481 : decode b_MM_reckon 481 = .ok (.return_, 1) := by decide +kernel
end
section
/-! what the class computes -/
def f_pow (a : Int64) : Nat → Int64
  | 0 => 1
  | k + 1 => f_pow a k * a
def f_fal (a : Int32) : Nat → Int64
  | 0 => 1
  | k + 1 => f_fal a k * (if a - nI k ≤ 0 then 0 else (a - nI k).toInt64)
def f_cho (a b : Int32) : Int64 := if 0 ≤ b then f_fal a b.toNatClampNeg / f_fal b b.toNatClampNeg else 0
def f_sg (k : Nat) (x : Int64) : Int64 := if nI k &&& 1 = 0 then x else -x
def f_ont (N M : Nat) : Nat → Int64
  | 0 => 0
  | k + 1 => f_ont N M k + f_sg k (f_cho (nI M) (nI k) * f_pow (nI (M - k)).toInt64 N)
def f_unm (N : Nat) : Nat → Int64
  | 0 => 0
  | k + 1 => f_unm N k + f_ont N k (k + 1) / f_fal (nI k) k
def f_awy (M : Nat) : Nat → Int64
  | 0 => 0
  | k + 1 => f_awy M k + f_sg k (f_cho (nI M) (nI k) * f_fal (nI (M - k)) (M - k))
def f_own (N M : Nat) : Nat := if N < M then N else M
def q_all (N M : Nat) : Int64 := f_pow (nI M).toInt64 N
def q_single (N M : Nat) : Int64 := f_fal (nI M) N
def q_full (N M : Nat) : Int64 := f_ont N M (M + 1)
def q_alike (N M : Nat) : Int64 := if N = 0 then 1 else if M = 0 then 0 else f_cho (nI N + nI M - 1) (nI N)
def q_alikeFull (N M : Nat) : Int64 := if N = 0 then (if M = 0 then 1 else 0) else f_cho (nI N - 1) (nI M - 1)
def q_unmarked (N M : Nat) : Int64 := f_unm N (M + 1)
def q_unmarkedFull (N M : Nat) : Int64 := f_ont N M (M + 1) / f_fal (nI M) M
def q_strange (N M : Nat) : Int64 := f_pow (nI M - 1).toInt64 (f_own N M) * f_pow (nI M).toInt64 (N - f_own N M)
def q_away (N M : Nat) : Int64 := if N = M then f_awy M (M + 1) else 0
def q_choices (N M : Nat) : Int64 := f_cho (nI M) (nI N)
theorem f_fal_ne : ∀ k, k < 13 → ¬ f_fal (nI k) k = 0 := by decide +kernel
def ld7 (x : Int32) : Nat := x.toBitVec.toNat % 2 ^ 31 % 7
def ld6 (x : Int32) : Nat := x.toBitVec.toNat % 2 ^ 31 % 6
theorem ld7_lt (x : Int32) : ld7 x < 7 := Nat.mod_lt _ (by decide)
theorem ld6_lt (x : Int32) : ld6 x < 6 := Nat.mod_lt _ (by decide)
theorem ld7_eq (x : Int32) : (x &&& 2147483647) - (x &&& 2147483647) / 7 * 7 = nI (ld7 x) := by
  rw [pk_and x (m := 2147483647) 31 (by decide)]
  exact pk_rem (d := 7) (Nat.mod_lt _ (by decide)) (by decide) (by decide)
theorem ld6_eq (x : Int32) : (x &&& 2147483647) - (x &&& 2147483647) / 6 * 6 = nI (ld6 x) := by
  rw [pk_and x (m := 2147483647) 31 (by decide)]
  exact pk_rem (d := 6) (Nat.mod_lt _ (by decide)) (by decide) (by decide)
/-! what the reference computes: used, twice, next, fix, the last digit, grow, first -/
abbrev sq_S : Type := Nat × Nat × Nat × Nat × Nat × Bool × Bool
def sq_0 : sq_S := (0, 0, 0, 0, 0, true, true)
def sq_b (u d : Nat) : Bool := Nat.beq (Nat.land (Nat.shiftRight u d) 1) 1
def sq_step (i d : Nat) : sq_S → sq_S
  | (u, t, nx, fx, pv, g, fr) => (Nat.lor u (Nat.pow 2 d), bif sq_b u d then Nat.succ t else t, bif sq_b u d then nx else Nat.succ nx, bif Nat.beq d i then Nat.succ fx else fx, d, g && (Nat.beq i 0 || Nat.ble pv d), bif sq_b u d then fr else fr && Nat.beq d nx)
def sq_run (M : Nat) : Nat → Nat → Nat → sq_S → sq_S
  | 0, _, _, st => st
  | k + 1, i, x, st => sq_run M k (i + 1) (x / M) (sq_step i (x % M) st)
def sq_bit (N M j : Nat) : sq_S → Bool
  | (u, t, _, fx, _, g, fr) => match j with
    | 0 => true
    | 1 => Nat.beq t 0
    | 2 => Nat.beq u (Nat.sub (Nat.pow 2 M) 1)
    | 3 => g
    | 4 => g && Nat.beq u (Nat.sub (Nat.pow 2 M) 1)
    | 5 => fr
    | 6 => fr && Nat.beq u (Nat.sub (Nat.pow 2 M) 1)
    | 7 => Nat.beq fx 0
    | 8 => Nat.beq fx 0 && (Nat.beq t 0 && Nat.beq N M)
    | _ => Nat.beq t 0 && g
def sq_n (N M j : Nat) (st : sq_S) : Nat := bif sq_bit N M j st then 1 else 0
def sq_sum (f : Nat → Nat) : Nat → Nat
  | 0 => 0
  | n + 1 => sq_sum f n + f n
def sq_cnt (N M j T : Nat) : Nat := sq_sum (fun x => sq_n N M j (sq_run M N 0 x sq_0)) T
def sq_dfs (M : Nat) (P : sq_S → Nat) : Nat → Nat → sq_S → Nat
  | 0, _, st => P st
  | k + 1, i, st => sq_sum (fun d => sq_dfs M P k (i + 1) (sq_step i d st)) M
theorem sq_sum_congr {f g : Nat → Nat} : ∀ {n : Nat}, (∀ x, x < n → f x = g x) → sq_sum f n = sq_sum g n
  | 0, _ => rfl
  | n + 1, h => by
    show sq_sum f n + f n = sq_sum g n + g n
    rw [sq_sum_congr (n := n) (fun x hx => h x (Nat.lt_succ_of_lt hx)), h n (Nat.lt_succ_self n)]
theorem sq_sum_add (f : Nat → Nat) (a : Nat) : ∀ b, sq_sum f (a + b) = sq_sum f a + sq_sum (fun d => f (a + d)) b
  | 0 => rfl
  | b + 1 => by
    show sq_sum f (a + b) + f (a + b) = sq_sum f a + (sq_sum (fun d => f (a + d)) b + f (a + b))
    rw [sq_sum_add f a b, Nat.add_assoc]
theorem sq_sum_two (f g : Nat → Nat) : ∀ n, sq_sum (fun x => f x + g x) n = sq_sum f n + sq_sum g n
  | 0 => rfl
  | n + 1 => by
    show sq_sum (fun x => f x + g x) n + (f n + g n) = (sq_sum f n + f n) + (sq_sum g n + g n)
    rw [sq_sum_two f g n]; omega
theorem sq_sum_mul (f : Nat → Nat) (c : Nat) : ∀ n, sq_sum (fun x => c * f x) n = c * sq_sum f n
  | 0 => rfl
  | n + 1 => by
    show sq_sum (fun x => c * f x) n + c * f n = c * (sq_sum f n + f n)
    rw [sq_sum_mul f c n, Nat.mul_add]
theorem sq_sum_le (f : Nat → Nat) (h : ∀ x, f x ≤ 1) : ∀ n, sq_sum f n ≤ n
  | 0 => Nat.le_refl 0
  | n + 1 => Nat.add_le_add (sq_sum_le f h n) (h n)
theorem sq_sum_split (M : Nat) (G : Nat → Nat → Nat) : ∀ K, sq_sum (fun x => G (x % M) (x / M)) (K * M) = sq_sum (fun d => sq_sum (fun y => G d y) K) M
  | 0 => by
    rw [Nat.zero_mul]
    have h : ∀ n, 0 = sq_sum (fun _ => 0) n := fun n => by
      induction n with
      | zero => rfl
      | succ n ih => exact ih
    exact h M
  | K + 1 => by
    rw [Nat.succ_mul, sq_sum_add, sq_sum_split M G K, ← sq_sum_two]
    refine sq_sum_congr (fun d hd => ?_)
    show sq_sum (fun y => G d y) K + G ((K * M + d) % M) ((K * M + d) / M) = sq_sum (fun y => G d y) K + G d K
    have h0 : 0 < M := Nat.lt_of_le_of_lt (Nat.zero_le d) hd
    rw [Nat.mul_comm K M, Nat.mul_add_mod, Nat.mod_eq_of_lt hd, Nat.mul_add_div h0, Nat.div_eq_of_lt hd, Nat.add_zero]
theorem sq_dfs_eq (M : Nat) (P : sq_S → Nat) : ∀ (k i : Nat) (st : sq_S), sq_sum (fun x => P (sq_run M k i x st)) (M ^ k) = sq_dfs M P k i st
  | 0, i, st => by
    show 0 + P st = P st
    exact Nat.zero_add _
  | k + 1, i, st => by
    show sq_sum (fun x => P (sq_run M k (i + 1) (x / M) (sq_step i (x % M) st))) (M ^ k * M) = sq_sum (fun d => sq_dfs M P k (i + 1) (sq_step i d st)) M
    rw [sq_sum_split M (fun d y => P (sq_run M k (i + 1) y (sq_step i d st))) (M ^ k)]
    exact sq_sum_congr (fun d _ => sq_dfs_eq M P k (i + 1) (sq_step i d st))
theorem sq_dfs_pack (M : Nat) (a b : sq_S → Nat) : ∀ (k i : Nat) (st : sq_S), sq_dfs M (fun s => a s + 65536 * b s) k i st = sq_dfs M a k i st + 65536 * sq_dfs M b k i st
  | 0, _, _ => rfl
  | k + 1, i, st => by
    show sq_sum (fun d => sq_dfs M (fun s => a s + 65536 * b s) k (i + 1) (sq_step i d st)) M = sq_sum (fun d => sq_dfs M a k (i + 1) (sq_step i d st)) M + 65536 * sq_sum (fun d => sq_dfs M b k (i + 1) (sq_step i d st)) M
    rw [← sq_sum_mul, ← sq_sum_two]
    exact sq_sum_congr (fun d _ => sq_dfs_pack M a b k (i + 1) (sq_step i d st))
def sq_pkj (N M : Nat) : Nat → Nat → sq_S → Nat
  | 0, j => sq_n N M j
  | r + 1, j => fun st => sq_n N M j st + 65536 * sq_pkj N M r (j + 1) st
def sq_dig : Nat → Nat → Nat
  | 0, T => T % 65536
  | j + 1, T => sq_dig j (T / 65536)
theorem sq_n_le (N M j : Nat) (st : sq_S) : sq_n N M j st ≤ 1 := by
  unfold sq_n
  cases sq_bit N M j st
  · exact Nat.zero_le 1
  · exact Nat.le_refl 1
theorem sq_dfs_lt (N M j : Nat) (h : M ^ N < 65536) : sq_dfs M (sq_n N M j) N 0 sq_0 < 65536 := by
  rw [← sq_dfs_eq]
  exact Nat.lt_of_le_of_lt (sq_sum_le _ (fun x => sq_n_le N M j _) _) h
theorem sq_dig_dfs (N M : Nat) (h : M ^ N < 65536) : ∀ (r j i : Nat), i ≤ r → sq_dig i (sq_dfs M (sq_pkj N M r j) N 0 sq_0) = sq_dfs M (sq_n N M (j + i)) N 0 sq_0
  | 0, j, i, hi => by
    obtain rfl : i = 0 := by omega
    show sq_dfs M (sq_n N M j) N 0 sq_0 % 65536 = _
    exact Nat.mod_eq_of_lt (sq_dfs_lt N M j h)
  | r + 1, j, i, hi => by
    have e : sq_dfs M (sq_pkj N M (r + 1) j) N 0 sq_0 = sq_dfs M (sq_n N M j) N 0 sq_0 + 65536 * sq_dfs M (sq_pkj N M r (j + 1)) N 0 sq_0 := sq_dfs_pack M (sq_n N M j) (sq_pkj N M r (j + 1)) N 0 sq_0
    have hl := sq_dfs_lt N M j h
    rw [e]
    cases i with
    | zero =>
      show (_ + _) % 65536 = _
      rw [Nat.add_mul_mod_self_left]
      exact Nat.mod_eq_of_lt hl
    | succ i =>
      show sq_dig i ((_ + _) / 65536) = _
      rw [Nat.add_mul_div_left _ _ (by decide), Nat.div_eq_of_lt hl, Nat.zero_add, sq_dig_dfs N M h r (j + 1) i (by omega)]
      rw [show j + 1 + i = j + (i + 1) by omega]
end
section
def sq_tab : List (List Nat) := [[22301085486089920167905467806764065303363585, 22300745203722920001279471721074961986682881, 22300745203722920001279471721074961986682881, 22300745203722920001279471721074961986682881, 22300745203722920001279471721074961986682881, 22300745203722920001279471721074961986682881], [0, 22300745198530702370907176803626137205932033, 44601490402253543142815189994004798469439490, 66902235605976463142885735895465131281416195, 89202980809699383142956281796925464093392900, 111503726013422303143026827698385796905369605], [0, 79229371458530977775699886081, 22301085486089920169114393626941648726523908, 66902235616361056861164316972985178044891145, 133804471237914410578445609934708644116168720, 223007452068382981154332276426422939328708633], [0, 79229371458530977775699886081, 10384831406392938223146363084865544, 22301425804802919120948427862076784340500507, 89202980934314507752627848164619492322181184, 223007452317613230367630780060360150192226429], [0, 79229371458530977775699886081, 20769742040948372263041829663932432, 124615599990735965489816782009008209, 22303808160409036375324346570238282226467072, 111503727321881111510728351580971553808450161], [0, 79229371458530977775699886081, 41539563310059221895807214135803936, 373847354568136515153211431478886643, 1682304974508564584890342758342984704, 22315722939587206864618273737112347236371509], [0, 79229371458530977775699886081, 83079205848280902714312434393284672, 1121543252125638186021279741106979545, 6729221878717769346516493813984268288, 26584561104364958279896198046654938377]]
def sq_t (N M : Nat) : Nat := (sq_tab.getD N []).getD M 0
theorem sq_pow_lt : ∀ N, N < 7 → ∀ M, M < 6 → M ^ N < 65536 := by decide +kernel
def sq_f (e : Nat) (f : Nat → Nat) : Nat := match e with
  | 0 => f 0
  | n + 1 => f (Nat.succ n)
def sq_g (b : Bool) (f : Bool → Nat) : Nat := match b with
  | true => f true
  | false => f false
theorem sq_f_eq (e : Nat) (f : Nat → Nat) : sq_f e f = f e := by cases e <;> rfl
theorem sq_g_eq (b : Bool) (f : Bool → Nat) : sq_g b f = f b := by cases b <;> rfl
def sq_fr (P : sq_S → Nat) : sq_S → Nat
  | (u, t, nx, fx, pv, g, fr) => sq_f u (fun u => sq_f t (fun t => sq_f nx (fun nx => sq_f fx (fun fx => sq_f pv (fun pv => sq_g g (fun g => sq_g fr (fun fr => P (u, t, nx, fx, pv, g, fr))))))))
theorem sq_fr_eq (P : sq_S → Nat) (st : sq_S) : sq_fr P st = P st := by
  obtain ⟨u, t, nx, fx, pv, g, fr⟩ := st
  simp only [sq_fr, sq_f_eq, sq_g_eq]
def sq_dfc (M : Nat) (P : sq_S → Nat) : Nat → Nat → sq_S → Nat
  | 0, _, st => P st
  | k + 1, i, st => sq_sum (fun d => sq_fr (fun st' => sq_dfc M P k (i + 1) st') (sq_step i d st)) M
theorem sq_dfc_eq (M : Nat) (P : sq_S → Nat) : ∀ (k i : Nat) (st : sq_S), sq_dfc M P k i st = sq_dfs M P k i st
  | 0, _, _ => rfl
  | k + 1, i, st => by
    show sq_sum (fun d => sq_fr (fun st' => sq_dfc M P k (i + 1) st') (sq_step i d st)) M = sq_sum (fun d => sq_dfs M P k (i + 1) (sq_step i d st)) M
    refine sq_sum_congr (fun d _ => ?_)
    rw [sq_fr_eq]
    exact sq_dfc_eq M P k (i + 1) (sq_step i d st)
theorem sq_run_0 : ∀ M, M < 6 → sq_dfc M (sq_pkj 0 M 9 0) 0 0 sq_0 = sq_t 0 M := by decide +kernel
theorem sq_run_1 : ∀ M, M < 6 → sq_dfc M (sq_pkj 1 M 9 0) 1 0 sq_0 = sq_t 1 M := by decide +kernel
theorem sq_run_2 : ∀ M, M < 6 → sq_dfc M (sq_pkj 2 M 9 0) 2 0 sq_0 = sq_t 2 M := by decide +kernel
theorem sq_run_3 : ∀ M, M < 6 → sq_dfc M (sq_pkj 3 M 9 0) 3 0 sq_0 = sq_t 3 M := by decide +kernel
theorem sq_run_4 : ∀ M, M < 6 → sq_dfc M (sq_pkj 4 M 9 0) 4 0 sq_0 = sq_t 4 M := by decide +kernel
theorem sq_run_5 : ∀ M, M < 6 → sq_dfc M (sq_pkj 5 M 9 0) 5 0 sq_0 = sq_t 5 M := by decide +kernel
theorem sq_run_6 : ∀ M, M < 6 → sq_dfc M (sq_pkj 6 M 9 0) 6 0 sq_0 = sq_t 6 M := by decide +kernel
theorem sq_run_ok (N : Nat) (hN : N < 7) (M : Nat) (hM : M < 6) : sq_dfs M (sq_pkj N M 9 0) N 0 sq_0 = sq_t N M := by
  rw [← sq_dfc_eq]
  rcases (show N = 0 ∨ N = 1 ∨ N = 2 ∨ N = 3 ∨ N = 4 ∨ N = 5 ∨ N = 6 by omega) with rfl | rfl | rfl | rfl | rfl | rfl | rfl
  · exact sq_run_0 M hM
  · exact sq_run_1 M hM
  · exact sq_run_2 M hM
  · exact sq_run_3 M hM
  · exact sq_run_4 M hM
  · exact sq_run_5 M hM
  · exact sq_run_6 M hM
theorem sq_cnt_t {N M j : Nat} (hN : N < 7) (hM : M < 6) (hj : j < 10) : sq_cnt N M j (M ^ N) = sq_dig j (sq_t N M) := by
  have h := sq_dig_dfs N M (sq_pow_lt N hN M hM) 9 0 j (by omega)
  rw [sq_run_ok N hN M hM, Nat.zero_add] at h
  rw [h]
  exact sq_dfs_eq M (sq_n N M j) N 0 sq_0
theorem q_all_t : ∀ N, N < 7 → ∀ M, M < 6 → q_all N M = lN (sq_dig 0 (sq_t N M)) := by decide +kernel
theorem q_all_ok {N M : Nat} (hN : N < 7) (hM : M < 6) : q_all N M = lN (sq_cnt N M 0 (M ^ N)) := by rw [sq_cnt_t hN hM (by decide)]; exact q_all_t N hN M hM
theorem q_single_t : ∀ N, N < 7 → ∀ M, M < 6 → q_single N M = lN (sq_dig 1 (sq_t N M)) := by decide +kernel
theorem q_single_ok {N M : Nat} (hN : N < 7) (hM : M < 6) : q_single N M = lN (sq_cnt N M 1 (M ^ N)) := by rw [sq_cnt_t hN hM (by decide)]; exact q_single_t N hN M hM
theorem q_full_t : ∀ N, N < 7 → ∀ M, M < 6 → q_full N M = lN (sq_dig 2 (sq_t N M)) := by decide +kernel
theorem q_full_ok {N M : Nat} (hN : N < 7) (hM : M < 6) : q_full N M = lN (sq_cnt N M 2 (M ^ N)) := by rw [sq_cnt_t hN hM (by decide)]; exact q_full_t N hN M hM
theorem q_alike_t : ∀ N, N < 7 → ∀ M, M < 6 → q_alike N M = lN (sq_dig 3 (sq_t N M)) := by decide +kernel
theorem q_alike_ok {N M : Nat} (hN : N < 7) (hM : M < 6) : q_alike N M = lN (sq_cnt N M 3 (M ^ N)) := by rw [sq_cnt_t hN hM (by decide)]; exact q_alike_t N hN M hM
theorem q_alikeFull_t : ∀ N, N < 7 → ∀ M, M < 6 → q_alikeFull N M = lN (sq_dig 4 (sq_t N M)) := by decide +kernel
theorem q_alikeFull_ok {N M : Nat} (hN : N < 7) (hM : M < 6) : q_alikeFull N M = lN (sq_cnt N M 4 (M ^ N)) := by rw [sq_cnt_t hN hM (by decide)]; exact q_alikeFull_t N hN M hM
theorem q_unmarked_t : ∀ N, N < 7 → ∀ M, M < 6 → q_unmarked N M = lN (sq_dig 5 (sq_t N M)) := by decide +kernel
theorem q_unmarked_ok {N M : Nat} (hN : N < 7) (hM : M < 6) : q_unmarked N M = lN (sq_cnt N M 5 (M ^ N)) := by rw [sq_cnt_t hN hM (by decide)]; exact q_unmarked_t N hN M hM
theorem q_unmarkedFull_t : ∀ N, N < 7 → ∀ M, M < 6 → q_unmarkedFull N M = lN (sq_dig 6 (sq_t N M)) := by decide +kernel
theorem q_unmarkedFull_ok {N M : Nat} (hN : N < 7) (hM : M < 6) : q_unmarkedFull N M = lN (sq_cnt N M 6 (M ^ N)) := by rw [sq_cnt_t hN hM (by decide)]; exact q_unmarkedFull_t N hN M hM
theorem q_strange_t : ∀ N, N < 7 → ∀ M, M < 6 → q_strange N M = lN (sq_dig 7 (sq_t N M)) := by decide +kernel
theorem q_strange_ok {N M : Nat} (hN : N < 7) (hM : M < 6) : q_strange N M = lN (sq_cnt N M 7 (M ^ N)) := by rw [sq_cnt_t hN hM (by decide)]; exact q_strange_t N hN M hM
theorem q_away_t : ∀ N, N < 7 → ∀ M, M < 6 → q_away N M = lN (sq_dig 8 (sq_t N M)) := by decide +kernel
theorem q_away_ok {N M : Nat} (hN : N < 7) (hM : M < 6) : q_away N M = lN (sq_cnt N M 8 (M ^ N)) := by rw [sq_cnt_t hN hM (by decide)]; exact q_away_t N hN M hM
theorem q_choices_t : ∀ N, N < 7 → ∀ M, M < 6 → q_choices N M = lN (sq_dig 9 (sq_t N M)) := by decide +kernel
theorem q_choices_ok {N M : Nat} (hN : N < 7) (hM : M < 6) : q_choices N M = lN (sq_cnt N M 9 (M ^ N)) := by rw [sq_cnt_t hN hM (by decide)]; exact q_choices_t N hN M hM
end
section
section MCH
variable {p : Program} {l : Launch} {e : Env} {R : Room} {s : State} {m : MethodId} {args : Array Value} {below : List Frame} {meth : Method} {c : Code} {H : Heap} {locs : List Loc} {cells slots : Nat} {Q : State → Prop} {ls : Array Slot} {pc : Nat} {rest : List Value}
theorem lw_ti {x y : Int32} (h : x = y) (k : W p l e R s m args below meth c H locs cells slots Q (F0 m pc ls (.int y :: rest))) : W p l e R s m args below meth c H locs cells slots Q (F0 m pc ls (.int x :: rest)) := by subst h; exact k
theorem lw_tl {x y : Int64} (h : x = y) (k : W p l e R s m args below meth c H locs cells slots Q (F0 m pc ls (.long y :: rest))) : W p l e R s m args below meth c H locs cells slots Q (F0 m pc ls (.long x :: rest)) := by subst h; exact k
theorem ii_1 (j : Nat) : nI j + Int32.ofInt 1 = nI (j + 1) := nI_1 j
theorem ii_3 (j : Nat) : nI j + Int32.ofInt 3 = nI (j + 3) := nI_add j 3
theorem mc_keep {D : va_G} {cl : List vw_C} {ws : va_W} {H H1 : Heap} (hP : va_P D cl ws H) (hk : ∀ q : Nat, q < H.size → H1[q]? = H[q]?) : va_P D cl ws H1 := fun k q h => (hP k q h).kept (hk q.1 (hP k q h).lt)
theorem mc_free {A0 : Nat → Prop} {H0 H : Heap} {locs : List Loc} (hS : va_S A0 H0 H locs) (hA : ∀ q, H0.size ≤ q → A0 q) : ∀ q, va_A [] H.size q → A0 q := fun q h => by
  rcases h with ⟨k, e, h⟩ | h
  · simp at h
  · exact hA q (Nat.le_trans hS.1 h)
theorem mc_callS {A0 : Nat → Prop} {H0 : Heap} {cc bytes : ByteArray} {nL maxL index : Nat} {Ts ws : List Cond} {own : String} {y : MethodName} {rm : Room} {a b : Int32} {v : Int64}
    (S : CallFix p m c cc nL s args Ts own) (hM : ∀ sz : Nat, Met l y ws rm (va_Pc [.int a, .int b] (fun U => U.heap.size = sz)) (va_Ql (fun (r : Int64) (_ : Unit) => r = v) (fun _ _ => True) (va_A [] sz)) 0 0 (va_A [] sz))
    (cw : CallB R s args own index y bytes maxL (some .long) ws rm 0 0 2 ∧ (Cond.static y).before args s = true) (hS : va_S A0 H0 H locs) (hA : ∀ q, H0.size ≤ q → A0 q) (hsize : ls.size = nL) (hroom : (rest.map fun v => v.category).sum ≤ 8)
    (hdg : decode cc pc = .ok (.invokestatic index, 3)) (hf : cells ≤ R.cells ∧ slots ≤ R.slots)
    (kk : ∀ (H1 : Heap) (locs1 : List Loc), (∀ q : Nat, q < H.size → H1[q]? = H[q]?) → va_S A0 H0 H1 locs1 → W p l e R s m args below meth c H1 locs1 cells slots Q (F0 m (pc + 3) ls (.long v :: rest))) :
    W p l e R s m args below meth c H locs cells slots Q (F0 m pc ls (.int b :: .int a :: rest)) := by
  have hFc := mc_free hS hA
  refine va_calll (va_runS (As := [.int a, .int b]) (rest := rest) S (hM H.size) cw ⟨fun a U g mk q => q, fun U hU hW => ⟨rfl, congrArg Array.size hU⟩⟩ rfl rfl hsize rfl (lv_room hroom) hdg hf) hS (fun q _ h => hFc q h) hFc (fun r u t H1 locs1 ht hvm hw hB hz1 hk1 hS1 => ?_)
  subst hw
  refine kk H1 locs1 (fun q hq => hk1 q hq (fun h => ?_)) hS1
  rcases h with ⟨k, e, h⟩ | h
  · simp at h
  · omega
end MCH
section Lpow
variable {p : Program} {l : Launch} {e : Env} {R : Room} {s : State} {m : MethodId} {args : Array Value} {below : List Frame} {meth : Method} {c : Code} {H : Heap} {locs : List Loc} {cells slots : Nat} {Q : State → Prop}
set_option maxHeartbeats 4000000 in
set_option maxRecDepth 100000 in
theorem lp_MC_power (hx : p.tables.exec = Jvm.exec) (hb : c.code = b_MC_power) (a : Int32) (k : Nat) (hk : k < 2 ^ 31)
    (kx : ∀ ls : Array Slot, lv_has ls 5 [(2, .long (f_pow a.toInt64 k))] → W p l e R s m args below meth c H locs cells slots Q (F0 m 22 ls [])) :
    ∀ (n j : Nat), j + n = k → ∀ ls : Array Slot, lv_has ls 5 [(0, .int a), (1, .int (nI k)), (2, .long (f_pow a.toInt64 j)), (4, .int (nI j))] → W p l e R s m args below meth c H locs cells slots Q (F0 m 5 ls []) := by
  intro n
  induction n with
  | zero =>
    intro j hj ls hl
    obtain rfl : j = k := by omega
    refine lv_iload hx hb d_MC_power_5 (lv_at hl 3 rfl) ?_
    refine lv_iload_n hx hb d_MC_power_7 rfl (lv_at hl 1 rfl) ?_
    refine lv_icmp_ge (tgt := 22) hx hb d_MC_power_8 (by decide) (fun h => ?_) (fun h => ?_)
    · exact kx ls (lv_sub hl [2] rfl)
    · exact absurd (nI_le (Nat.le_refl _) hk) h
  | succ n ih =>
    intro j hj ls hl
    refine lv_iload hx hb d_MC_power_5 (lv_at hl 3 rfl) ?_
    refine lv_iload_n hx hb d_MC_power_7 rfl (lv_at hl 1 rfl) ?_
    refine lv_icmp_ge (tgt := 22) hx hb d_MC_power_8 (by decide) (fun h => ?_) (fun h => ?_)
    · exact absurd h (nI_ge (by omega) hk)
    · refine lv_lload_n hx hb d_MC_power_11 rfl (lv_at hl 2 rfl) ?_
      refine lv_iload_n hx hb d_MC_power_12 rfl (lv_at hl 0 rfl) ?_
      refine lv_i2l hx hb d_MC_power_13 rfl ?_
      refine lv_lmul hx hb d_MC_power_14 ?_
      refine lw_tl (y := f_pow a.toInt64 (j + 1)) (rfl) ?_
      refine lv_lstore_n (lv' := [(2, .long (f_pow a.toInt64 (j + 1))), (0, .int a), (1, .int (nI k)), (4, .int (nI j))]) hx hb d_MC_power_15 rfl hl (by decide) rfl (fun ls hl => ?_)
      refine lv_iinc (v := nI (j + 1)) (lv' := [(4, .int (nI (j + 1))), (2, .long (f_pow a.toInt64 (j + 1))), (0, .int a), (1, .int (nI k))]) hx hb d_MC_power_16 hl (k := 3) rfl (ii_1 j) (by decide) rfl (fun ls hl => ?_)
      refine lv_goto (tgt := 5) hx hb d_MC_power_19 (by decide) ?_
      exact ih (j + 1) (by omega) ls (lv_sub hl [2, 3, 1, 0] rfl)
end Lpow
set_option maxHeartbeats 4000000 in
set_option maxRecDepth 100000 in
theorem c_MC_power (l : Launch) (sz : Nat) (a : Int32) (k : Nat) (hk : k < 2 ^ 31) : Met l y_MC_power w_MC_power ({ frames := 0, cells := 0, slots := 0, locals := 0 }) (va_Pc [.int a, .int (nI k)] (fun U => U.heap.size = sz)) (va_Ql (fun (r : Int64) (_ : Unit) => r = f_pow a.toInt64 k) (fun _ _ => True) (va_A [] sz)) 0 0 (va_A [] sz) := by
  refine Met.ofW (cc := b_MC_power) (maxL := 5) (ret := (some .long)) (by decide) rfl ?_
  intro p e s m args below meth c s₁ B hml hv
  obtain ⟨rfl, hsz⟩ := hv
  have hx := B.exec
  have hb := B.bytes
  have hr := B.returns
  have hts := atoms_spec (ws := w_MC_power) B.pre
  have hown : s.vm.findClass R_MC = some m.cls := findClass_of_methodNamed B.named
  have hlocks := B.notSynchronized
  subst hsz
  have hS : va_S (va_A [] s.heap.size) s.heap s.heap [] := va_S.rf
  have hA : ∀ q : Nat, s.heap.size ≤ q → va_A [] s.heap.size q := fun q h => Or.inr h
  have hl := lv_entry ([.int a, .int (nI k)]) (n := 5) (Nat.le_of_ble_eq_true rfl)
  rw [lg_entry_eq]
  generalize (lg_sl ([.int a, .int (nI k)]) ++ List.replicate (5 - (lg_sl ([.int a, .int (nI k)])).length) Slot.unset).toArray = ls at hl ⊢
  have hl : lv_has ls 5 [(0, .int a), (1, .int (nI k))] := hl
  refine lv_lconst (v := 1) hx hb d_MC_power_0 (by decide) ?_
  refine lv_lstore_n (lv' := [(2, .long 1), (0, .int a), (1, .int (nI k))]) hx hb d_MC_power_1 rfl hl (by decide) rfl (fun ls hl => ?_)
  refine lv_iconst (v := 0) hx hb d_MC_power_2 (by decide) ?_
  refine lv_istore (lv' := [(4, .int 0), (2, .long 1), (0, .int a), (1, .int (nI k))]) hx hb d_MC_power_3 hl (by decide) rfl (fun ls hl => ?_)
  refine lp_MC_power hx hb a k hk (fun ls hl => ?_) k 0 (by omega) ls (lv_sub hl [2, 3, 1, 0] rfl)
  refine lv_lload_n hx hb d_MC_power_22 rfl (lv_at hl 0 rfl) ?_
  exact W.lret (v := f_pow a.toInt64 k) hx hb hr (fun t ht hW => ⟨⟨f_pow a.toInt64 k, (), rfl, rfl, trivial⟩, hS.F ht⟩) hS.2.2 d_MC_power_23
section Lfal
variable {p : Program} {l : Launch} {e : Env} {R : Room} {s : State} {m : MethodId} {args : Array Value} {below : List Frame} {meth : Method} {c : Code} {H : Heap} {locs : List Loc} {cells slots : Nat} {Q : State → Prop}
set_option maxHeartbeats 4000000 in
set_option maxRecDepth 100000 in
theorem lp_MC_falling (hx : p.tables.exec = Jvm.exec) (hb : c.code = b_MC_falling) (a : Int32) (k : Nat) (hk : k < 2 ^ 31)
    (kx : ∀ ls : Array Slot, lv_has ls 5 [(2, .long (f_fal a k))] → W p l e R s m args below meth c H locs cells slots Q (F0 m 36 ls [])) :
    ∀ (n j : Nat), j + n = k → ∀ ls : Array Slot, lv_has ls 5 [(0, .int a), (1, .int (nI k)), (2, .long (f_fal a j)), (4, .int (nI j))] → W p l e R s m args below meth c H locs cells slots Q (F0 m 5 ls []) := by
  intro n
  induction n with
  | zero =>
    intro j hj ls hl
    obtain rfl : j = k := by omega
    refine lv_iload hx hb d_MC_falling_5 (lv_at hl 3 rfl) ?_
    refine lv_iload_n hx hb d_MC_falling_7 rfl (lv_at hl 1 rfl) ?_
    refine lv_icmp_ge (tgt := 36) hx hb d_MC_falling_8 (by decide) (fun h => ?_) (fun h => ?_)
    · exact kx ls (lv_sub hl [2] rfl)
    · exact absurd (nI_le (Nat.le_refl _) hk) h
  | succ n ih =>
    intro j hj ls hl
    refine lv_iload hx hb d_MC_falling_5 (lv_at hl 3 rfl) ?_
    refine lv_iload_n hx hb d_MC_falling_7 rfl (lv_at hl 1 rfl) ?_
    refine lv_icmp_ge (tgt := 36) hx hb d_MC_falling_8 (by decide) (fun h => ?_) (fun h => ?_)
    · exact absurd h (nI_ge (by omega) hk)
    · refine lv_lload_n hx hb d_MC_falling_11 rfl (lv_at hl 2 rfl) ?_
      refine lv_iload_n hx hb d_MC_falling_12 rfl (lv_at hl 0 rfl) ?_
      refine lv_iload hx hb d_MC_falling_13 (lv_at hl 3 rfl) ?_
      refine lv_isub hx hb d_MC_falling_15 ?_
      refine lv_if_le (tgt := 27) hx hb d_MC_falling_16 (by decide) (fun h2 => ?_) (fun h2 => ?_)
      · refine lv_lconst (v := 0) hx hb d_MC_falling_27 (by decide) ?_
        refine lv_lmul hx hb d_MC_falling_28 ?_
        refine lw_tl (y := f_fal a (j + 1)) (by rw [f_fal, if_pos h2]) ?_
        refine lv_lstore_n (lv' := [(2, .long (f_fal a (j + 1))), (0, .int a), (1, .int (nI k)), (4, .int (nI j))]) hx hb d_MC_falling_29 rfl hl (by decide) rfl (fun ls hl => ?_)
        refine lv_iinc (v := nI (j + 1)) (lv' := [(4, .int (nI (j + 1))), (2, .long (f_fal a (j + 1))), (0, .int a), (1, .int (nI k))]) hx hb d_MC_falling_30 hl (k := 3) rfl (ii_1 j) (by decide) rfl (fun ls hl => ?_)
        refine lv_goto (tgt := 5) hx hb d_MC_falling_33 (by decide) ?_
        exact ih (j + 1) (by omega) ls (lv_sub hl [2, 3, 1, 0] rfl)
      · refine lv_iload_n hx hb d_MC_falling_19 rfl (lv_at hl 0 rfl) ?_
        refine lv_iload hx hb d_MC_falling_20 (lv_at hl 3 rfl) ?_
        refine lv_isub hx hb d_MC_falling_22 ?_
        refine lv_i2l hx hb d_MC_falling_23 rfl ?_
        refine lv_goto (tgt := 28) hx hb d_MC_falling_24 (by decide) ?_
        refine lv_lmul hx hb d_MC_falling_28 ?_
        refine lw_tl (y := f_fal a (j + 1)) (by rw [f_fal, if_neg h2]) ?_
        refine lv_lstore_n (lv' := [(2, .long (f_fal a (j + 1))), (0, .int a), (1, .int (nI k)), (4, .int (nI j))]) hx hb d_MC_falling_29 rfl hl (by decide) rfl (fun ls hl => ?_)
        refine lv_iinc (v := nI (j + 1)) (lv' := [(4, .int (nI (j + 1))), (2, .long (f_fal a (j + 1))), (0, .int a), (1, .int (nI k))]) hx hb d_MC_falling_30 hl (k := 3) rfl (ii_1 j) (by decide) rfl (fun ls hl => ?_)
        refine lv_goto (tgt := 5) hx hb d_MC_falling_33 (by decide) ?_
        exact ih (j + 1) (by omega) ls (lv_sub hl [2, 3, 1, 0] rfl)
end Lfal
set_option maxHeartbeats 4000000 in
set_option maxRecDepth 100000 in
theorem c_MC_falling (l : Launch) (sz : Nat) (a : Int32) (k : Nat) (hk : k < 2 ^ 31) : Met l y_MC_falling w_MC_falling ({ frames := 0, cells := 0, slots := 0, locals := 0 }) (va_Pc [.int a, .int (nI k)] (fun U => U.heap.size = sz)) (va_Ql (fun (r : Int64) (_ : Unit) => r = f_fal a k) (fun _ _ => True) (va_A [] sz)) 0 0 (va_A [] sz) := by
  refine Met.ofW (cc := b_MC_falling) (maxL := 5) (ret := (some .long)) (by decide) rfl ?_
  intro p e s m args below meth c s₁ B hml hv
  obtain ⟨rfl, hsz⟩ := hv
  have hx := B.exec
  have hb := B.bytes
  have hr := B.returns
  have hts := atoms_spec (ws := w_MC_falling) B.pre
  have hown : s.vm.findClass R_MC = some m.cls := findClass_of_methodNamed B.named
  have hlocks := B.notSynchronized
  subst hsz
  have hS : va_S (va_A [] s.heap.size) s.heap s.heap [] := va_S.rf
  have hA : ∀ q : Nat, s.heap.size ≤ q → va_A [] s.heap.size q := fun q h => Or.inr h
  have hl := lv_entry ([.int a, .int (nI k)]) (n := 5) (Nat.le_of_ble_eq_true rfl)
  rw [lg_entry_eq]
  generalize (lg_sl ([.int a, .int (nI k)]) ++ List.replicate (5 - (lg_sl ([.int a, .int (nI k)])).length) Slot.unset).toArray = ls at hl ⊢
  have hl : lv_has ls 5 [(0, .int a), (1, .int (nI k))] := hl
  refine lv_lconst (v := 1) hx hb d_MC_falling_0 (by decide) ?_
  refine lv_lstore_n (lv' := [(2, .long 1), (0, .int a), (1, .int (nI k))]) hx hb d_MC_falling_1 rfl hl (by decide) rfl (fun ls hl => ?_)
  refine lv_iconst (v := 0) hx hb d_MC_falling_2 (by decide) ?_
  refine lv_istore (lv' := [(4, .int 0), (2, .long 1), (0, .int a), (1, .int (nI k))]) hx hb d_MC_falling_3 hl (by decide) rfl (fun ls hl => ?_)
  refine lp_MC_falling hx hb a k hk (fun ls hl => ?_) k 0 (by omega) ls (lv_sub hl [2, 3, 1, 0] rfl)
  refine lv_lload_n hx hb d_MC_falling_36 rfl (lv_at hl 0 rfl) ?_
  exact W.lret (v := f_fal a k) hx hb hr (fun t ht hW => ⟨⟨f_fal a k, (), rfl, rfl, trivial⟩, hS.F ht⟩) hS.2.2 d_MC_falling_37
set_option maxHeartbeats 4000000 in
set_option maxRecDepth 100000 in
theorem c_MC_chosen (l : Launch) (sz : Nat) (a b : Int32) (hb0 : b < 0 ∨ ∃ k : Nat, k < 13 ∧ b = nI k) : Met l y_MC_chosen w_MC_chosen ({ frames := 1, cells := 0, slots := 0, locals := 24 }) (va_Pc [.int a, .int b] (fun U => U.heap.size = sz)) (va_Ql (fun (r : Int64) (_ : Unit) => r = f_cho a b) (fun _ _ => True) (va_A [] sz)) 0 0 (va_A [] sz) := by
  refine Met.ofW (cc := b_MC_chosen) (maxL := 2) (ret := (some .long)) (by decide) rfl ?_
  intro p e s m args below meth c s₁ B hml hv
  obtain ⟨rfl, hsz⟩ := hv
  have hx := B.exec
  have hb := B.bytes
  have hr := B.returns
  have hts := atoms_spec (ws := w_MC_chosen) B.pre
  have hown : s.vm.findClass R_MC = some m.cls := findClass_of_methodNamed B.named
  have hlocks := B.notSynchronized
  subst hsz
  have hS : va_S (va_A [] s.heap.size) s.heap s.heap [] := va_S.rf
  have hA : ∀ q : Nat, s.heap.size ≤ q → va_A [] s.heap.size q := fun q h => Or.inr h
  have hl := lv_entry ([.int a, .int b]) (n := 2) (Nat.le_of_ble_eq_true rfl)
  rw [lg_entry_eq]
  generalize (lg_sl ([.int a, .int b]) ++ List.replicate (2 - (lg_sl ([.int a, .int b])).length) Slot.unset).toArray = ls at hl ⊢
  have hl : lv_has ls 2 [(0, .int a), (1, .int b)] := hl
  refine lv_iload_n hx hb d_MC_chosen_0 rfl (lv_at hl 1 rfl) ?_
  refine lv_if_ge (tgt := 8) hx hb d_MC_chosen_1 (by decide) (fun h => ?_) (fun h => ?_)
  · obtain ⟨k, hk, rfl⟩ : ∃ k : Nat, k < 13 ∧ b = nI k := by
      rcases hb0 with h0 | h0
      · exact absurd h0 (Int32.not_lt.mpr h)
      · exact h0
    refine lv_iload_n hx hb d_MC_chosen_8 rfl (lv_at hl 0 rfl) ?_
    refine lv_iload_n hx hb d_MC_chosen_9 rfl (lv_at hl 1 rfl) ?_
    refine mc_callS ⟨hx, hb, hml, hown, hts⟩ (fun sz => c_MC_falling l sz a k (by omega)) (cwS 2 hts g_MC_chosen_MC_falling rfl rfl rfl (by decide +kernel) ⟨Nat.le_of_ble_eq_true rfl, Nat.le_of_ble_eq_true rfl⟩) hS hA hl.1 (Nat.le_of_ble_eq_true rfl) d_MC_chosen_10 ⟨Nat.zero_le _, Nat.zero_le _⟩ (fun H locs hk1 hS => ?_)
    refine lv_iload_n hx hb d_MC_chosen_13 rfl (lv_at hl 1 rfl) ?_
    refine lv_iload_n hx hb d_MC_chosen_14 rfl (lv_at hl 1 rfl) ?_
    refine mc_callS ⟨hx, hb, hml, hown, hts⟩ (fun sz => c_MC_falling l sz (nI k) k (by omega)) (cwS 2 hts g_MC_chosen_MC_falling rfl rfl rfl (by decide +kernel) ⟨Nat.le_of_ble_eq_true rfl, Nat.le_of_ble_eq_true rfl⟩) hS hA hl.1 (Nat.le_of_ble_eq_true rfl) d_MC_chosen_15 ⟨Nat.zero_le _, Nat.zero_le _⟩ (fun H locs hk1 hS => ?_)
    refine lv_ldiv hx hb d_MC_chosen_18 (f_fal_ne k hk) ?_
    exact W.lret (v := f_fal a k / f_fal (nI k) k) hx hb hr (fun t ht hW => ⟨⟨f_fal a k / f_fal (nI k) k, (), rfl, by rw [f_cho, if_pos h, nI_clamp (by omega)], trivial⟩, hS.F ht⟩) hS.2.2 d_MC_chosen_19
  · refine lv_lconst (v := 0) hx hb d_MC_chosen_4 (by decide) ?_
    refine lv_goto (tgt := 19) hx hb d_MC_chosen_5 (by decide) ?_
    exact W.lret (v := 0) hx hb hr (fun t ht hW => ⟨⟨0, (), rfl, by rw [f_cho, if_neg h], trivial⟩, hS.F ht⟩) hS.2.2 d_MC_chosen_19
section LONT
variable {p : Program} {l : Launch} {e : Env} {R : Room} {s : State} {m : MethodId} {args : Array Value} {below : List Frame} {meth : Method} {c : Code} {H : Heap} {locs : List Loc} {cells slots : Nat} {Q : State → Prop}
set_option maxHeartbeats 4000000 in
set_option maxRecDepth 100000 in
theorem lp_MC_onto {A0 : Nat → Prop} {H0 : Heap} (hx : p.tables.exec = Jvm.exec) (hb : c.code = b_MC_onto) (hml : c.maxLocals = 7) (hown : s.vm.findClass R_MC = some m.cls) (hts : ∀ w ∈ w_MC_onto, w.before args s = true) (hR : 2 ≤ R.frames ∧ 45 ≤ R.locals) (hA : ∀ q, H0.size ≤ q → A0 q) (N M : Nat) (hN : N < 2 ^ 31) (hM : M < 13)
    (kx : ∀ (H : Heap) (locs : List Loc) (ls : Array Slot), va_S A0 H0 H locs → lv_has ls 7 [(2, .long (f_ont N M (M + 1)))] → W p l e R s m args below meth c H locs 0 0 Q (F0 m 52 ls [])) :
    ∀ (n j : Nat), j + n = M + 1 → ∀ (H : Heap) (locs : List Loc) (ls : Array Slot), va_S A0 H0 H locs → lv_has ls 7 [(0, .int (nI N)), (1, .int (nI M)), (2, .long (f_ont N M j)), (4, .int (nI j))] → W p l e R s m args below meth c H locs 0 0 Q (F0 m 5 ls []) := by
  intro n
  induction n with
  | zero =>
    intro j hj H locs ls hS hl
    obtain rfl : j = M + 1 := by omega
    refine lv_iload hx hb d_MC_onto_5 (lv_at hl 3 rfl) ?_
    refine lv_iload_n hx hb d_MC_onto_7 rfl (lv_at hl 1 rfl) ?_
    refine lv_icmp_gt (tgt := 52) hx hb d_MC_onto_8 (by decide) (fun h => ?_) (fun h => ?_)
    · exact kx H locs ls hS (lv_sub hl [2] rfl)
    · exact absurd (nI_lt (Nat.lt_succ_self _) (by omega)) h
  | succ n ih =>
    intro j hj H locs ls hS hl
    refine lv_iload hx hb d_MC_onto_5 (lv_at hl 3 rfl) ?_
    refine lv_iload_n hx hb d_MC_onto_7 rfl (lv_at hl 1 rfl) ?_
    refine lv_icmp_gt (tgt := 52) hx hb d_MC_onto_8 (by decide) (fun h => ?_) (fun h => ?_)
    · exact absurd h (nI_nlt (by omega) (by omega))
    · refine lv_iload_n hx hb d_MC_onto_11 rfl (lv_at hl 1 rfl) ?_
      refine lv_iload hx hb d_MC_onto_12 (lv_at hl 3 rfl) ?_
      refine mc_callS ⟨hx, hb, hml, hown, hts⟩ (fun sz => c_MC_chosen l sz (nI M) (nI j) (Or.inr ⟨j, by omega, rfl⟩)) (cwS 2 hts g_MC_onto_MC_chosen rfl rfl rfl (by decide +kernel) ⟨Nat.le_trans (Nat.le_of_ble_eq_true rfl) hR.1, Nat.le_trans (Nat.le_of_ble_eq_true rfl) hR.2⟩) hS hA hl.1 (Nat.le_of_ble_eq_true rfl) d_MC_onto_14 ⟨Nat.zero_le _, Nat.zero_le _⟩ (fun H locs hk1 hS => ?_)
      refine lv_iload_n hx hb d_MC_onto_17 rfl (lv_at hl 1 rfl) ?_
      refine lv_iload hx hb d_MC_onto_18 (lv_at hl 3 rfl) ?_
      refine lv_isub hx hb d_MC_onto_20 ?_
      refine lw_ti (y := nI (M - j)) (pk_sub (by omega)) ?_
      refine lv_iload_n hx hb d_MC_onto_21 rfl (lv_at hl 0 rfl) ?_
      refine mc_callS ⟨hx, hb, hml, hown, hts⟩ (fun sz => c_MC_power l sz (nI (M - j)) N hN) (cwS 2 hts g_MC_onto_MC_power rfl rfl rfl (by decide +kernel) ⟨Nat.le_trans (Nat.le_of_ble_eq_true rfl) hR.1, Nat.le_trans (Nat.le_of_ble_eq_true rfl) hR.2⟩) hS hA hl.1 (Nat.le_of_ble_eq_true rfl) d_MC_onto_22 ⟨Nat.zero_le _, Nat.zero_le _⟩ (fun H locs hk1 hS => ?_)
      refine lv_lmul hx hb d_MC_onto_25 ?_
      refine lv_lstore (lv' := [(5, .long ((f_cho (nI M) (nI j)) * (f_pow (nI (M - j)).toInt64 N))), (0, .int (nI N)), (1, .int (nI M)), (2, .long (f_ont N M j)), (4, .int (nI j))]) hx hb d_MC_onto_26 hl (by decide) rfl (fun ls hl => ?_)
      refine lv_lload_n hx hb d_MC_onto_28 rfl (lv_at hl 3 rfl) ?_
      refine lv_iload hx hb d_MC_onto_29 (lv_at hl 4 rfl) ?_
      refine lv_iconst (v := 1) hx hb d_MC_onto_31 (by decide) ?_
      refine lv_iand hx hb d_MC_onto_32 ?_
      refine lv_if_ne (tgt := 41) hx hb d_MC_onto_33 (by decide) (fun h2 => ?_) (fun h2 => ?_)
      · refine lv_lload hx hb d_MC_onto_41 (lv_at hl 0 rfl) ?_
        refine lv_lneg hx hb d_MC_onto_43 ?_
        refine lv_ladd hx hb d_MC_onto_44 ?_
        refine lw_tl (y := f_ont N M (j + 1)) (by rw [f_ont, f_sg, if_neg h2]) ?_
        refine lv_lstore_n (lv' := [(2, .long (f_ont N M (j + 1))), (5, .long ((f_cho (nI M) (nI j)) * (f_pow (nI (M - j)).toInt64 N))), (0, .int (nI N)), (1, .int (nI M)), (4, .int (nI j))]) hx hb d_MC_onto_45 rfl hl (by decide) rfl (fun ls hl => ?_)
        refine lv_iinc (v := nI (j + 1)) (lv' := [(4, .int (nI (j + 1))), (2, .long (f_ont N M (j + 1))), (5, .long ((f_cho (nI M) (nI j)) * (f_pow (nI (M - j)).toInt64 N))), (0, .int (nI N)), (1, .int (nI M))]) hx hb d_MC_onto_46 hl (k := 4) rfl (ii_1 j) (by decide) rfl (fun ls hl => ?_)
        refine lv_goto (tgt := 5) hx hb d_MC_onto_49 (by decide) ?_
        exact ih (j + 1) (by omega) H locs ls hS (lv_sub hl [3, 4, 1, 0] rfl)
      · refine lv_lload hx hb d_MC_onto_36 (lv_at hl 0 rfl) ?_
        refine lv_goto (tgt := 44) hx hb d_MC_onto_38 (by decide) ?_
        refine lv_ladd hx hb d_MC_onto_44 ?_
        refine lw_tl (y := f_ont N M (j + 1)) (by rw [f_ont, f_sg, if_pos h2]) ?_
        refine lv_lstore_n (lv' := [(2, .long (f_ont N M (j + 1))), (5, .long ((f_cho (nI M) (nI j)) * (f_pow (nI (M - j)).toInt64 N))), (0, .int (nI N)), (1, .int (nI M)), (4, .int (nI j))]) hx hb d_MC_onto_45 rfl hl (by decide) rfl (fun ls hl => ?_)
        refine lv_iinc (v := nI (j + 1)) (lv' := [(4, .int (nI (j + 1))), (2, .long (f_ont N M (j + 1))), (5, .long ((f_cho (nI M) (nI j)) * (f_pow (nI (M - j)).toInt64 N))), (0, .int (nI N)), (1, .int (nI M))]) hx hb d_MC_onto_46 hl (k := 4) rfl (ii_1 j) (by decide) rfl (fun ls hl => ?_)
        refine lv_goto (tgt := 5) hx hb d_MC_onto_49 (by decide) ?_
        exact ih (j + 1) (by omega) H locs ls hS (lv_sub hl [3, 4, 1, 0] rfl)
end LONT
set_option maxHeartbeats 4000000 in
set_option maxRecDepth 100000 in
theorem c_MC_onto (l : Launch) (sz : Nat) (N M : Nat) (hN : N < 2 ^ 31) (hM : M < 13) : Met l y_MC_onto w_MC_onto ({ frames := 2, cells := 0, slots := 0, locals := 45 }) (va_Pc [.int (nI N), .int (nI M)] (fun U => U.heap.size = sz)) (va_Ql (fun (r : Int64) (_ : Unit) => r = f_ont N M (M + 1)) (fun _ _ => True) (va_A [] sz)) 0 0 (va_A [] sz) := by
  refine Met.ofW (cc := b_MC_onto) (maxL := 7) (ret := (some .long)) (by decide) rfl ?_
  intro p e s m args below meth c s₁ B hml hv
  obtain ⟨rfl, hsz⟩ := hv
  have hx := B.exec
  have hb := B.bytes
  have hr := B.returns
  have hts := atoms_spec (ws := w_MC_onto) B.pre
  have hown : s.vm.findClass R_MC = some m.cls := findClass_of_methodNamed B.named
  have hlocks := B.notSynchronized
  subst hsz
  have hS : va_S (va_A [] s.heap.size) s.heap s.heap [] := va_S.rf
  have hA : ∀ q : Nat, s.heap.size ≤ q → va_A [] s.heap.size q := fun q h => Or.inr h
  have hl := lv_entry ([.int (nI N), .int (nI M)]) (n := 7) (Nat.le_of_ble_eq_true rfl)
  rw [lg_entry_eq]
  generalize (lg_sl ([.int (nI N), .int (nI M)]) ++ List.replicate (7 - (lg_sl ([.int (nI N), .int (nI M)])).length) Slot.unset).toArray = ls at hl ⊢
  have hl : lv_has ls 7 [(0, .int (nI N)), (1, .int (nI M))] := hl
  refine lv_lconst (v := 0) hx hb d_MC_onto_0 (by decide) ?_
  refine lv_lstore_n (lv' := [(2, .long 0), (0, .int (nI N)), (1, .int (nI M))]) hx hb d_MC_onto_1 rfl hl (by decide) rfl (fun ls hl => ?_)
  refine lv_iconst (v := 0) hx hb d_MC_onto_2 (by decide) ?_
  refine lv_istore (lv' := [(4, .int 0), (2, .long 0), (0, .int (nI N)), (1, .int (nI M))]) hx hb d_MC_onto_3 hl (by decide) rfl (fun ls hl => ?_)
  refine lp_MC_onto hx hb hml hown hts ⟨Nat.le_of_ble_eq_true rfl, Nat.le_of_ble_eq_true rfl⟩ hA N M hN hM (fun H locs ls hS hl => ?_) (M + 1) 0 (by omega) s.heap [] ls hS (lv_sub hl [2, 3, 1, 0] rfl)
  refine lv_lload_n hx hb d_MC_onto_52 rfl (lv_at hl 0 rfl) ?_
  exact W.lret (v := f_ont N M (M + 1)) hx hb hr (fun t ht hW => ⟨⟨f_ont N M (M + 1), (), rfl, rfl, trivial⟩, hS.F ht⟩) hS.2.2 d_MC_onto_53
end
section
abbrev mc_w (h0 : Nat) (a b : Int32) : va_W := [(h0, .inr (0, [.int a, .int b]))]
abbrev at_MC (dC : Nat → ClassId) (dI : Nat → Nat → Nat) (A : Nat → Prop) (h0 : Nat) (a b : Int32) (t : State) : Prop := va_P (dC, dI) classes (mc_w h0 a b) t.heap ∧ va_K (dC, dI) classes [] t ∧ va_D A (mc_w h0 a b)
abbrev pc_MC (dC : Nat → ClassId) (dI : Nat → Nat → Nat) (h0 sz : Nat) (a b : Int32) (U : State) : Prop := U.heap.size = sz ∧ va_P (dC, dI) classes (mc_w h0 a b) U.heap ∧ va_K (dC, dI) classes [] U ∧ va_D (fun _ => True) (mc_w h0 a b)
theorem nz {N : Nat} (hN : N < 2 ^ 31) : nI N = 0 ↔ N = 0 := by
  rw [← nI_0]
  exact nI_eq hN (by decide)
theorem mb {M : Nat} (hM : M < 6) : nI M - 1 < 0 ∨ ∃ k : Nat, k < 13 ∧ nI M - 1 = nI k := by
  cases M with
  | zero => exact Or.inl (by decide)
  | succ M => exact Or.inr ⟨M, by omega, nI_pred M⟩
theorem f_own_le (N M : Nat) : f_own N M ≤ N := by
  unfold f_own
  split <;> omega
set_option maxHeartbeats 4000000 in
set_option maxRecDepth 100000 in
theorem c_MC_all (l : Launch) (dC : Nat → ClassId) (dI : Nat → Nat → Nat) (h0 sz : Nat) (N M : Nat) (hN : N < 7) (hM : M < 6) : Met l y_MC_all w_MC_all ({ frames := 1, cells := 0, slots := 0, locals := 24 }) (va_Pc [.ref h0] (pc_MC dC dI h0 sz (nI N) (nI M))) (va_Ql (fun (r : Int64) (_ : Unit) => r = q_all N M) (fun _ => at_MC dC dI (va_A (mc_w h0 (nI N) (nI M)) sz) h0 (nI N) (nI M)) (va_A (mc_w h0 (nI N) (nI M)) sz)) 0 0 (va_A (mc_w h0 (nI N) (nI M)) sz) := by
  refine Met.ofW (cc := b_MC_all) (maxL := 1) (ret := (some .long)) (by decide) rfl ?_
  intro p e s m args below meth c s₁ B hml hv
  obtain ⟨rfl, hsz, hP, hK, hD0⟩ := hv
  have hx := B.exec
  have hb := B.bytes
  have hr := B.returns
  have hts := atoms_spec (ws := w_MC_all) B.pre
  have hown : s.vm.findClass R_MC = some m.cls := findClass_of_methodNamed B.named
  have hlocks := B.notSynchronized
  subst hsz
  have hD := hD0.self (sz := s.heap.size)
  generalize hAe : va_A (mc_w h0 (nI N) (nI M)) s.heap.size = A at hD ⊢
  have hA : ∀ q : Nat, s.heap.size ≤ q → A q := fun q h => by rw [← hAe]; exact Or.inr h
  have hS : va_S A s.heap s.heap [] := va_S.rf
  have hP : va_P (dC, dI) classes (mc_w h0 (nI N) (nI M)) s.heap := hP
  have hl := lv_entry ([.ref h0]) (n := 1) (Nat.le_of_ble_eq_true rfl)
  rw [lg_entry_eq]
  generalize (lg_sl ([.ref h0]) ++ List.replicate (1 - (lg_sl ([.ref h0])).length) Slot.unset).toArray = ls at hl ⊢
  have hl : lv_has ls 1 [(0, .ref h0)] := hl
  refine lv_aload_n hx hb d_MC_all_0 rfl (lv_at hl 0 rfl) ?_
  refine va_get (D := (dC, dI)) (ci := 0) (v := .int (nI M)) (C := R_MC) (T := F_MC) (N := 2) hx hb hts i_MC_all hown hK hP 0 rfl rfl 1 (by decide) (hts _ m_MC_all_13) (fun _ h9 => h9) rfl d_MC_all_1 ?_
  refine lv_aload_n hx hb d_MC_all_4 rfl (lv_at hl 0 rfl) ?_
  refine va_get (D := (dC, dI)) (ci := 0) (v := .int (nI N)) (C := R_MC) (T := F_MC) (N := 2) hx hb hts i_MC_all hown hK hP 0 rfl rfl 0 (by decide) (hts _ m_MC_all_7) (fun _ h9 => h9) rfl d_MC_all_5 ?_
  refine mc_callS ⟨hx, hb, hml, hown, hts⟩ (fun sz => c_MC_power l sz (nI M) N (by omega)) (cwS 2 hts g_MC_all_MC_power rfl rfl rfl (by decide +kernel) ⟨Nat.le_of_ble_eq_true rfl, Nat.le_of_ble_eq_true rfl⟩) hS hA hl.1 (Nat.le_of_ble_eq_true rfl) d_MC_all_8 ⟨Nat.zero_le _, Nat.zero_le _⟩ (fun H locs hk1 hS => ?_)
  have hP := mc_keep hP hk1
  exact W.lret (v := (f_pow (nI M).toInt64 N)) hx hb hr (fun t ht hW => ⟨⟨(f_pow (nI M).toInt64 N), (), rfl, rfl, by rw [ht]; exact hP, va_K.moved hW.alike hK, hD⟩, hS.F ht⟩) hS.2.2 d_MC_all_11
set_option maxHeartbeats 4000000 in
set_option maxRecDepth 100000 in
theorem c_MC_single (l : Launch) (dC : Nat → ClassId) (dI : Nat → Nat → Nat) (h0 sz : Nat) (N M : Nat) (hN : N < 7) (hM : M < 6) : Met l y_MC_single w_MC_single ({ frames := 1, cells := 0, slots := 0, locals := 24 }) (va_Pc [.ref h0] (pc_MC dC dI h0 sz (nI N) (nI M))) (va_Ql (fun (r : Int64) (_ : Unit) => r = q_single N M) (fun _ => at_MC dC dI (va_A (mc_w h0 (nI N) (nI M)) sz) h0 (nI N) (nI M)) (va_A (mc_w h0 (nI N) (nI M)) sz)) 0 0 (va_A (mc_w h0 (nI N) (nI M)) sz) := by
  refine Met.ofW (cc := b_MC_single) (maxL := 1) (ret := (some .long)) (by decide) rfl ?_
  intro p e s m args below meth c s₁ B hml hv
  obtain ⟨rfl, hsz, hP, hK, hD0⟩ := hv
  have hx := B.exec
  have hb := B.bytes
  have hr := B.returns
  have hts := atoms_spec (ws := w_MC_single) B.pre
  have hown : s.vm.findClass R_MC = some m.cls := findClass_of_methodNamed B.named
  have hlocks := B.notSynchronized
  subst hsz
  have hD := hD0.self (sz := s.heap.size)
  generalize hAe : va_A (mc_w h0 (nI N) (nI M)) s.heap.size = A at hD ⊢
  have hA : ∀ q : Nat, s.heap.size ≤ q → A q := fun q h => by rw [← hAe]; exact Or.inr h
  have hS : va_S A s.heap s.heap [] := va_S.rf
  have hP : va_P (dC, dI) classes (mc_w h0 (nI N) (nI M)) s.heap := hP
  have hl := lv_entry ([.ref h0]) (n := 1) (Nat.le_of_ble_eq_true rfl)
  rw [lg_entry_eq]
  generalize (lg_sl ([.ref h0]) ++ List.replicate (1 - (lg_sl ([.ref h0])).length) Slot.unset).toArray = ls at hl ⊢
  have hl : lv_has ls 1 [(0, .ref h0)] := hl
  refine lv_aload_n hx hb d_MC_single_0 rfl (lv_at hl 0 rfl) ?_
  refine va_get (D := (dC, dI)) (ci := 0) (v := .int (nI M)) (C := R_MC) (T := F_MC) (N := 2) hx hb hts i_MC_single hown hK hP 0 rfl rfl 1 (by decide) (hts _ m_MC_single_13) (fun _ h9 => h9) rfl d_MC_single_1 ?_
  refine lv_aload_n hx hb d_MC_single_4 rfl (lv_at hl 0 rfl) ?_
  refine va_get (D := (dC, dI)) (ci := 0) (v := .int (nI N)) (C := R_MC) (T := F_MC) (N := 2) hx hb hts i_MC_single hown hK hP 0 rfl rfl 0 (by decide) (hts _ m_MC_single_7) (fun _ h9 => h9) rfl d_MC_single_5 ?_
  refine mc_callS ⟨hx, hb, hml, hown, hts⟩ (fun sz => c_MC_falling l sz (nI M) N (by omega)) (cwS 2 hts g_MC_single_MC_falling rfl rfl rfl (by decide +kernel) ⟨Nat.le_of_ble_eq_true rfl, Nat.le_of_ble_eq_true rfl⟩) hS hA hl.1 (Nat.le_of_ble_eq_true rfl) d_MC_single_8 ⟨Nat.zero_le _, Nat.zero_le _⟩ (fun H locs hk1 hS => ?_)
  have hP := mc_keep hP hk1
  exact W.lret (v := (f_fal (nI M) N)) hx hb hr (fun t ht hW => ⟨⟨(f_fal (nI M) N), (), rfl, rfl, by rw [ht]; exact hP, va_K.moved hW.alike hK, hD⟩, hS.F ht⟩) hS.2.2 d_MC_single_11
set_option maxHeartbeats 4000000 in
set_option maxRecDepth 100000 in
theorem c_MC_full (l : Launch) (dC : Nat → ClassId) (dI : Nat → Nat → Nat) (h0 sz : Nat) (N M : Nat) (hN : N < 7) (hM : M < 6) : Met l y_MC_full w_MC_full ({ frames := 3, cells := 0, slots := 0, locals := 71 }) (va_Pc [.ref h0] (pc_MC dC dI h0 sz (nI N) (nI M))) (va_Ql (fun (r : Int64) (_ : Unit) => r = q_full N M) (fun _ => at_MC dC dI (va_A (mc_w h0 (nI N) (nI M)) sz) h0 (nI N) (nI M)) (va_A (mc_w h0 (nI N) (nI M)) sz)) 0 0 (va_A (mc_w h0 (nI N) (nI M)) sz) := by
  refine Met.ofW (cc := b_MC_full) (maxL := 1) (ret := (some .long)) (by decide) rfl ?_
  intro p e s m args below meth c s₁ B hml hv
  obtain ⟨rfl, hsz, hP, hK, hD0⟩ := hv
  have hx := B.exec
  have hb := B.bytes
  have hr := B.returns
  have hts := atoms_spec (ws := w_MC_full) B.pre
  have hown : s.vm.findClass R_MC = some m.cls := findClass_of_methodNamed B.named
  have hlocks := B.notSynchronized
  subst hsz
  have hD := hD0.self (sz := s.heap.size)
  generalize hAe : va_A (mc_w h0 (nI N) (nI M)) s.heap.size = A at hD ⊢
  have hA : ∀ q : Nat, s.heap.size ≤ q → A q := fun q h => by rw [← hAe]; exact Or.inr h
  have hS : va_S A s.heap s.heap [] := va_S.rf
  have hP : va_P (dC, dI) classes (mc_w h0 (nI N) (nI M)) s.heap := hP
  have hl := lv_entry ([.ref h0]) (n := 1) (Nat.le_of_ble_eq_true rfl)
  rw [lg_entry_eq]
  generalize (lg_sl ([.ref h0]) ++ List.replicate (1 - (lg_sl ([.ref h0])).length) Slot.unset).toArray = ls at hl ⊢
  have hl : lv_has ls 1 [(0, .ref h0)] := hl
  refine lv_aload_n hx hb d_MC_full_0 rfl (lv_at hl 0 rfl) ?_
  refine va_get (D := (dC, dI)) (ci := 0) (v := .int (nI N)) (C := R_MC) (T := F_MC) (N := 2) hx hb hts i_MC_full hown hK hP 0 rfl rfl 0 (by decide) (hts _ m_MC_full_7) (fun _ h9 => h9) rfl d_MC_full_1 ?_
  refine lv_aload_n hx hb d_MC_full_4 rfl (lv_at hl 0 rfl) ?_
  refine va_get (D := (dC, dI)) (ci := 0) (v := .int (nI M)) (C := R_MC) (T := F_MC) (N := 2) hx hb hts i_MC_full hown hK hP 0 rfl rfl 1 (by decide) (hts _ m_MC_full_13) (fun _ h9 => h9) rfl d_MC_full_5 ?_
  refine mc_callS ⟨hx, hb, hml, hown, hts⟩ (fun sz => c_MC_onto l sz N M (by omega) (by omega)) (cwS 2 hts g_MC_full_MC_onto rfl rfl rfl (by decide +kernel) ⟨Nat.le_of_ble_eq_true rfl, Nat.le_of_ble_eq_true rfl⟩) hS hA hl.1 (Nat.le_of_ble_eq_true rfl) d_MC_full_8 ⟨Nat.zero_le _, Nat.zero_le _⟩ (fun H locs hk1 hS => ?_)
  have hP := mc_keep hP hk1
  exact W.lret (v := (f_ont N M (M + 1))) hx hb hr (fun t ht hW => ⟨⟨(f_ont N M (M + 1)), (), rfl, rfl, by rw [ht]; exact hP, va_K.moved hW.alike hK, hD⟩, hS.F ht⟩) hS.2.2 d_MC_full_11
set_option maxHeartbeats 4000000 in
set_option maxRecDepth 100000 in
theorem c_MC_choices (l : Launch) (dC : Nat → ClassId) (dI : Nat → Nat → Nat) (h0 sz : Nat) (N M : Nat) (hN : N < 7) (hM : M < 6) : Met l y_MC_choices w_MC_choices ({ frames := 2, cells := 0, slots := 0, locals := 45 }) (va_Pc [.ref h0] (pc_MC dC dI h0 sz (nI N) (nI M))) (va_Ql (fun (r : Int64) (_ : Unit) => r = q_choices N M) (fun _ => at_MC dC dI (va_A (mc_w h0 (nI N) (nI M)) sz) h0 (nI N) (nI M)) (va_A (mc_w h0 (nI N) (nI M)) sz)) 0 0 (va_A (mc_w h0 (nI N) (nI M)) sz) := by
  refine Met.ofW (cc := b_MC_choices) (maxL := 1) (ret := (some .long)) (by decide) rfl ?_
  intro p e s m args below meth c s₁ B hml hv
  obtain ⟨rfl, hsz, hP, hK, hD0⟩ := hv
  have hx := B.exec
  have hb := B.bytes
  have hr := B.returns
  have hts := atoms_spec (ws := w_MC_choices) B.pre
  have hown : s.vm.findClass R_MC = some m.cls := findClass_of_methodNamed B.named
  have hlocks := B.notSynchronized
  subst hsz
  have hD := hD0.self (sz := s.heap.size)
  generalize hAe : va_A (mc_w h0 (nI N) (nI M)) s.heap.size = A at hD ⊢
  have hA : ∀ q : Nat, s.heap.size ≤ q → A q := fun q h => by rw [← hAe]; exact Or.inr h
  have hS : va_S A s.heap s.heap [] := va_S.rf
  have hP : va_P (dC, dI) classes (mc_w h0 (nI N) (nI M)) s.heap := hP
  have hl := lv_entry ([.ref h0]) (n := 1) (Nat.le_of_ble_eq_true rfl)
  rw [lg_entry_eq]
  generalize (lg_sl ([.ref h0]) ++ List.replicate (1 - (lg_sl ([.ref h0])).length) Slot.unset).toArray = ls at hl ⊢
  have hl : lv_has ls 1 [(0, .ref h0)] := hl
  refine lv_aload_n hx hb d_MC_choices_0 rfl (lv_at hl 0 rfl) ?_
  refine va_get (D := (dC, dI)) (ci := 0) (v := .int (nI M)) (C := R_MC) (T := F_MC) (N := 2) hx hb hts i_MC_choices hown hK hP 0 rfl rfl 1 (by decide) (hts _ m_MC_choices_13) (fun _ h9 => h9) rfl d_MC_choices_1 ?_
  refine lv_aload_n hx hb d_MC_choices_4 rfl (lv_at hl 0 rfl) ?_
  refine va_get (D := (dC, dI)) (ci := 0) (v := .int (nI N)) (C := R_MC) (T := F_MC) (N := 2) hx hb hts i_MC_choices hown hK hP 0 rfl rfl 0 (by decide) (hts _ m_MC_choices_7) (fun _ h9 => h9) rfl d_MC_choices_5 ?_
  refine mc_callS ⟨hx, hb, hml, hown, hts⟩ (fun sz => c_MC_chosen l sz (nI M) (nI N) (Or.inr ⟨N, by omega, rfl⟩)) (cwS 2 hts g_MC_choices_MC_chosen rfl rfl rfl (by decide +kernel) ⟨Nat.le_of_ble_eq_true rfl, Nat.le_of_ble_eq_true rfl⟩) hS hA hl.1 (Nat.le_of_ble_eq_true rfl) d_MC_choices_8 ⟨Nat.zero_le _, Nat.zero_le _⟩ (fun H locs hk1 hS => ?_)
  have hP := mc_keep hP hk1
  exact W.lret (v := (f_cho (nI M) (nI N))) hx hb hr (fun t ht hW => ⟨⟨(f_cho (nI M) (nI N)), (), rfl, rfl, by rw [ht]; exact hP, va_K.moved hW.alike hK, hD⟩, hS.F ht⟩) hS.2.2 d_MC_choices_11
set_option maxHeartbeats 4000000 in
set_option maxRecDepth 100000 in
theorem c_MC_alike (l : Launch) (dC : Nat → ClassId) (dI : Nat → Nat → Nat) (h0 sz : Nat) (N M : Nat) (hN : N < 7) (hM : M < 6) : Met l y_MC_alike w_MC_alike ({ frames := 2, cells := 0, slots := 0, locals := 45 }) (va_Pc [.ref h0] (pc_MC dC dI h0 sz (nI N) (nI M))) (va_Ql (fun (r : Int64) (_ : Unit) => r = q_alike N M) (fun _ => at_MC dC dI (va_A (mc_w h0 (nI N) (nI M)) sz) h0 (nI N) (nI M)) (va_A (mc_w h0 (nI N) (nI M)) sz)) 0 0 (va_A (mc_w h0 (nI N) (nI M)) sz) := by
  refine Met.ofW (cc := b_MC_alike) (maxL := 1) (ret := (some .long)) (by decide) rfl ?_
  intro p e s m args below meth c s₁ B hml hv
  obtain ⟨rfl, hsz, hP, hK, hD0⟩ := hv
  have hx := B.exec
  have hb := B.bytes
  have hr := B.returns
  have hts := atoms_spec (ws := w_MC_alike) B.pre
  have hown : s.vm.findClass R_MC = some m.cls := findClass_of_methodNamed B.named
  have hlocks := B.notSynchronized
  subst hsz
  have hD := hD0.self (sz := s.heap.size)
  generalize hAe : va_A (mc_w h0 (nI N) (nI M)) s.heap.size = A at hD ⊢
  have hA : ∀ q : Nat, s.heap.size ≤ q → A q := fun q h => by rw [← hAe]; exact Or.inr h
  have hS : va_S A s.heap s.heap [] := va_S.rf
  have hP : va_P (dC, dI) classes (mc_w h0 (nI N) (nI M)) s.heap := hP
  have hl := lv_entry ([.ref h0]) (n := 1) (Nat.le_of_ble_eq_true rfl)
  rw [lg_entry_eq]
  generalize (lg_sl ([.ref h0]) ++ List.replicate (1 - (lg_sl ([.ref h0])).length) Slot.unset).toArray = ls at hl ⊢
  have hl : lv_has ls 1 [(0, .ref h0)] := hl
  refine lv_aload_n hx hb d_MC_alike_0 rfl (lv_at hl 0 rfl) ?_
  refine va_get (D := (dC, dI)) (ci := 0) (v := .int (nI N)) (C := R_MC) (T := F_MC) (N := 2) hx hb hts i_MC_alike hown hK hP 0 rfl rfl 0 (by decide) (hts _ m_MC_alike_7) (fun _ h9 => h9) rfl d_MC_alike_1 ?_
  refine lv_if_ne (tgt := 11) hx hb d_MC_alike_4 (by decide) (fun h => ?_) (fun h => ?_)
  · refine lv_aload_n hx hb d_MC_alike_11 rfl (lv_at hl 0 rfl) ?_
    refine va_get (D := (dC, dI)) (ci := 0) (v := .int (nI M)) (C := R_MC) (T := F_MC) (N := 2) hx hb hts i_MC_alike hown hK hP 0 rfl rfl 1 (by decide) (hts _ m_MC_alike_13) (fun _ h9 => h9) rfl d_MC_alike_12 ?_
    refine lv_if_ne (tgt := 22) hx hb d_MC_alike_15 (by decide) (fun h2 => ?_) (fun h2 => ?_)
    · refine lv_aload_n hx hb d_MC_alike_22 rfl (lv_at hl 0 rfl) ?_
      refine va_get (D := (dC, dI)) (ci := 0) (v := .int (nI N)) (C := R_MC) (T := F_MC) (N := 2) hx hb hts i_MC_alike hown hK hP 0 rfl rfl 0 (by decide) (hts _ m_MC_alike_7) (fun _ h9 => h9) rfl d_MC_alike_23 ?_
      refine lv_aload_n hx hb d_MC_alike_26 rfl (lv_at hl 0 rfl) ?_
      refine va_get (D := (dC, dI)) (ci := 0) (v := .int (nI M)) (C := R_MC) (T := F_MC) (N := 2) hx hb hts i_MC_alike hown hK hP 0 rfl rfl 1 (by decide) (hts _ m_MC_alike_13) (fun _ h9 => h9) rfl d_MC_alike_27 ?_
      refine lv_iadd hx hb d_MC_alike_30 ?_
      refine lv_iconst (v := 1) hx hb d_MC_alike_31 (by decide) ?_
      refine lv_isub hx hb d_MC_alike_32 ?_
      refine lv_aload_n hx hb d_MC_alike_33 rfl (lv_at hl 0 rfl) ?_
      refine va_get (D := (dC, dI)) (ci := 0) (v := .int (nI N)) (C := R_MC) (T := F_MC) (N := 2) hx hb hts i_MC_alike hown hK hP 0 rfl rfl 0 (by decide) (hts _ m_MC_alike_7) (fun _ h9 => h9) rfl d_MC_alike_34 ?_
      refine mc_callS ⟨hx, hb, hml, hown, hts⟩ (fun sz => c_MC_chosen l sz (nI N + nI M - 1) (nI N) (Or.inr ⟨N, by omega, rfl⟩)) (cwS 2 hts g_MC_alike_MC_chosen rfl rfl rfl (by decide +kernel) ⟨Nat.le_of_ble_eq_true rfl, Nat.le_of_ble_eq_true rfl⟩) hS hA hl.1 (Nat.le_of_ble_eq_true rfl) d_MC_alike_37 ⟨Nat.zero_le _, Nat.zero_le _⟩ (fun H locs hk1 hS => ?_)
      have hP := mc_keep hP hk1
      exact W.lret (v := (f_cho (nI N + nI M - 1) (nI N))) hx hb hr (fun t ht hW => ⟨⟨(f_cho (nI N + nI M - 1) (nI N)), (), rfl, by rw [q_alike, if_neg (fun q => h ((nz (by omega)).mpr q)), if_neg (fun q => h2 ((nz (by omega)).mpr q))], by rw [ht]; exact hP, va_K.moved hW.alike hK, hD⟩, hS.F ht⟩) hS.2.2 d_MC_alike_40
    · refine lv_lconst (v := 0) hx hb d_MC_alike_18 (by decide) ?_
      refine lv_goto (tgt := 40) hx hb d_MC_alike_19 (by decide) ?_
      exact W.lret (v := 0) hx hb hr (fun t ht hW => ⟨⟨0, (), rfl, by rw [q_alike, if_neg (fun q => h ((nz (by omega)).mpr q)), if_pos ((nz (by omega)).mp h2)], by rw [ht]; exact hP, va_K.moved hW.alike hK, hD⟩, hS.F ht⟩) hS.2.2 d_MC_alike_40
  · refine lv_lconst (v := 1) hx hb d_MC_alike_7 (by decide) ?_
    refine lv_goto (tgt := 40) hx hb d_MC_alike_8 (by decide) ?_
    exact W.lret (v := 1) hx hb hr (fun t ht hW => ⟨⟨1, (), rfl, by rw [q_alike, if_pos ((nz (by omega)).mp h)], by rw [ht]; exact hP, va_K.moved hW.alike hK, hD⟩, hS.F ht⟩) hS.2.2 d_MC_alike_40
set_option maxHeartbeats 4000000 in
set_option maxRecDepth 100000 in
theorem c_MC_alikeFull (l : Launch) (dC : Nat → ClassId) (dI : Nat → Nat → Nat) (h0 sz : Nat) (N M : Nat) (hN : N < 7) (hM : M < 6) : Met l y_MC_alikeFull w_MC_alikeFull ({ frames := 2, cells := 0, slots := 0, locals := 45 }) (va_Pc [.ref h0] (pc_MC dC dI h0 sz (nI N) (nI M))) (va_Ql (fun (r : Int64) (_ : Unit) => r = q_alikeFull N M) (fun _ => at_MC dC dI (va_A (mc_w h0 (nI N) (nI M)) sz) h0 (nI N) (nI M)) (va_A (mc_w h0 (nI N) (nI M)) sz)) 0 0 (va_A (mc_w h0 (nI N) (nI M)) sz) := by
  refine Met.ofW (cc := b_MC_alikeFull) (maxL := 1) (ret := (some .long)) (by decide) rfl ?_
  intro p e s m args below meth c s₁ B hml hv
  obtain ⟨rfl, hsz, hP, hK, hD0⟩ := hv
  have hx := B.exec
  have hb := B.bytes
  have hr := B.returns
  have hts := atoms_spec (ws := w_MC_alikeFull) B.pre
  have hown : s.vm.findClass R_MC = some m.cls := findClass_of_methodNamed B.named
  have hlocks := B.notSynchronized
  subst hsz
  have hD := hD0.self (sz := s.heap.size)
  generalize hAe : va_A (mc_w h0 (nI N) (nI M)) s.heap.size = A at hD ⊢
  have hA : ∀ q : Nat, s.heap.size ≤ q → A q := fun q h => by rw [← hAe]; exact Or.inr h
  have hS : va_S A s.heap s.heap [] := va_S.rf
  have hP : va_P (dC, dI) classes (mc_w h0 (nI N) (nI M)) s.heap := hP
  have hl := lv_entry ([.ref h0]) (n := 1) (Nat.le_of_ble_eq_true rfl)
  rw [lg_entry_eq]
  generalize (lg_sl ([.ref h0]) ++ List.replicate (1 - (lg_sl ([.ref h0])).length) Slot.unset).toArray = ls at hl ⊢
  have hl : lv_has ls 1 [(0, .ref h0)] := hl
  refine lv_aload_n hx hb d_MC_alikeFull_0 rfl (lv_at hl 0 rfl) ?_
  refine va_get (D := (dC, dI)) (ci := 0) (v := .int (nI N)) (C := R_MC) (T := F_MC) (N := 2) hx hb hts i_MC_alikeFull hown hK hP 0 rfl rfl 0 (by decide) (hts _ m_MC_alikeFull_7) (fun _ h9 => h9) rfl d_MC_alikeFull_1 ?_
  refine lv_if_ne (tgt := 20) hx hb d_MC_alikeFull_4 (by decide) (fun h => ?_) (fun h => ?_)
  · refine lv_aload_n hx hb d_MC_alikeFull_20 rfl (lv_at hl 0 rfl) ?_
    refine va_get (D := (dC, dI)) (ci := 0) (v := .int (nI N)) (C := R_MC) (T := F_MC) (N := 2) hx hb hts i_MC_alikeFull hown hK hP 0 rfl rfl 0 (by decide) (hts _ m_MC_alikeFull_7) (fun _ h9 => h9) rfl d_MC_alikeFull_21 ?_
    refine lv_iconst (v := 1) hx hb d_MC_alikeFull_24 (by decide) ?_
    refine lv_isub hx hb d_MC_alikeFull_25 ?_
    refine lv_aload_n hx hb d_MC_alikeFull_26 rfl (lv_at hl 0 rfl) ?_
    refine va_get (D := (dC, dI)) (ci := 0) (v := .int (nI M)) (C := R_MC) (T := F_MC) (N := 2) hx hb hts i_MC_alikeFull hown hK hP 0 rfl rfl 1 (by decide) (hts _ m_MC_alikeFull_13) (fun _ h9 => h9) rfl d_MC_alikeFull_27 ?_
    refine lv_iconst (v := 1) hx hb d_MC_alikeFull_30 (by decide) ?_
    refine lv_isub hx hb d_MC_alikeFull_31 ?_
    refine mc_callS ⟨hx, hb, hml, hown, hts⟩ (fun sz => c_MC_chosen l sz (nI N - 1) (nI M - 1) (mb hM)) (cwS 2 hts g_MC_alikeFull_MC_chosen rfl rfl rfl (by decide +kernel) ⟨Nat.le_of_ble_eq_true rfl, Nat.le_of_ble_eq_true rfl⟩) hS hA hl.1 (Nat.le_of_ble_eq_true rfl) d_MC_alikeFull_32 ⟨Nat.zero_le _, Nat.zero_le _⟩ (fun H locs hk1 hS => ?_)
    have hP := mc_keep hP hk1
    exact W.lret (v := (f_cho (nI N - 1) (nI M - 1))) hx hb hr (fun t ht hW => ⟨⟨(f_cho (nI N - 1) (nI M - 1)), (), rfl, by rw [q_alikeFull, if_neg (fun q => h ((nz (by omega)).mpr q))], by rw [ht]; exact hP, va_K.moved hW.alike hK, hD⟩, hS.F ht⟩) hS.2.2 d_MC_alikeFull_35
  · refine lv_aload_n hx hb d_MC_alikeFull_7 rfl (lv_at hl 0 rfl) ?_
    refine va_get (D := (dC, dI)) (ci := 0) (v := .int (nI M)) (C := R_MC) (T := F_MC) (N := 2) hx hb hts i_MC_alikeFull hown hK hP 0 rfl rfl 1 (by decide) (hts _ m_MC_alikeFull_13) (fun _ h9 => h9) rfl d_MC_alikeFull_8 ?_
    refine lv_if_ne (tgt := 18) hx hb d_MC_alikeFull_11 (by decide) (fun h2 => ?_) (fun h2 => ?_)
    · refine lv_lconst (v := 0) hx hb d_MC_alikeFull_18 (by decide) ?_
      exact W.lret (v := 0) hx hb hr (fun t ht hW => ⟨⟨0, (), rfl, by rw [q_alikeFull, if_pos ((nz (by omega)).mp h), if_neg (fun q => h2 ((nz (by omega)).mpr q))], by rw [ht]; exact hP, va_K.moved hW.alike hK, hD⟩, hS.F ht⟩) hS.2.2 d_MC_alikeFull_19
    · refine lv_lconst (v := 1) hx hb d_MC_alikeFull_14 (by decide) ?_
      refine lv_goto (tgt := 19) hx hb d_MC_alikeFull_15 (by decide) ?_
      exact W.lret (v := 1) hx hb hr (fun t ht hW => ⟨⟨1, (), rfl, by rw [q_alikeFull, if_pos ((nz (by omega)).mp h), if_pos ((nz (by omega)).mp h2)], by rw [ht]; exact hP, va_K.moved hW.alike hK, hD⟩, hS.F ht⟩) hS.2.2 d_MC_alikeFull_19
set_option maxHeartbeats 4000000 in
set_option maxRecDepth 100000 in
theorem c_MC_unmarkedFull (l : Launch) (dC : Nat → ClassId) (dI : Nat → Nat → Nat) (h0 sz : Nat) (N M : Nat) (hN : N < 7) (hM : M < 6) : Met l y_MC_unmarkedFull w_MC_unmarkedFull ({ frames := 3, cells := 0, slots := 0, locals := 71 }) (va_Pc [.ref h0] (pc_MC dC dI h0 sz (nI N) (nI M))) (va_Ql (fun (r : Int64) (_ : Unit) => r = q_unmarkedFull N M) (fun _ => at_MC dC dI (va_A (mc_w h0 (nI N) (nI M)) sz) h0 (nI N) (nI M)) (va_A (mc_w h0 (nI N) (nI M)) sz)) 0 0 (va_A (mc_w h0 (nI N) (nI M)) sz) := by
  refine Met.ofW (cc := b_MC_unmarkedFull) (maxL := 1) (ret := (some .long)) (by decide) rfl ?_
  intro p e s m args below meth c s₁ B hml hv
  obtain ⟨rfl, hsz, hP, hK, hD0⟩ := hv
  have hx := B.exec
  have hb := B.bytes
  have hr := B.returns
  have hts := atoms_spec (ws := w_MC_unmarkedFull) B.pre
  have hown : s.vm.findClass R_MC = some m.cls := findClass_of_methodNamed B.named
  have hlocks := B.notSynchronized
  subst hsz
  have hD := hD0.self (sz := s.heap.size)
  generalize hAe : va_A (mc_w h0 (nI N) (nI M)) s.heap.size = A at hD ⊢
  have hA : ∀ q : Nat, s.heap.size ≤ q → A q := fun q h => by rw [← hAe]; exact Or.inr h
  have hS : va_S A s.heap s.heap [] := va_S.rf
  have hP : va_P (dC, dI) classes (mc_w h0 (nI N) (nI M)) s.heap := hP
  have hl := lv_entry ([.ref h0]) (n := 1) (Nat.le_of_ble_eq_true rfl)
  rw [lg_entry_eq]
  generalize (lg_sl ([.ref h0]) ++ List.replicate (1 - (lg_sl ([.ref h0])).length) Slot.unset).toArray = ls at hl ⊢
  have hl : lv_has ls 1 [(0, .ref h0)] := hl
  refine lv_aload_n hx hb d_MC_unmarkedFull_0 rfl (lv_at hl 0 rfl) ?_
  refine va_get (D := (dC, dI)) (ci := 0) (v := .int (nI N)) (C := R_MC) (T := F_MC) (N := 2) hx hb hts i_MC_unmarkedFull hown hK hP 0 rfl rfl 0 (by decide) (hts _ m_MC_unmarkedFull_7) (fun _ h9 => h9) rfl d_MC_unmarkedFull_1 ?_
  refine lv_aload_n hx hb d_MC_unmarkedFull_4 rfl (lv_at hl 0 rfl) ?_
  refine va_get (D := (dC, dI)) (ci := 0) (v := .int (nI M)) (C := R_MC) (T := F_MC) (N := 2) hx hb hts i_MC_unmarkedFull hown hK hP 0 rfl rfl 1 (by decide) (hts _ m_MC_unmarkedFull_13) (fun _ h9 => h9) rfl d_MC_unmarkedFull_5 ?_
  refine mc_callS ⟨hx, hb, hml, hown, hts⟩ (fun sz => c_MC_onto l sz N M (by omega) (by omega)) (cwS 2 hts g_MC_unmarkedFull_MC_onto rfl rfl rfl (by decide +kernel) ⟨Nat.le_of_ble_eq_true rfl, Nat.le_of_ble_eq_true rfl⟩) hS hA hl.1 (Nat.le_of_ble_eq_true rfl) d_MC_unmarkedFull_8 ⟨Nat.zero_le _, Nat.zero_le _⟩ (fun H locs hk1 hS => ?_)
  have hP := mc_keep hP hk1
  refine lv_aload_n hx hb d_MC_unmarkedFull_11 rfl (lv_at hl 0 rfl) ?_
  refine va_get (D := (dC, dI)) (ci := 0) (v := .int (nI M)) (C := R_MC) (T := F_MC) (N := 2) hx hb hts i_MC_unmarkedFull hown hK hP 0 rfl rfl 1 (by decide) (hts _ m_MC_unmarkedFull_13) (fun _ h9 => h9) rfl d_MC_unmarkedFull_12 ?_
  refine lv_aload_n hx hb d_MC_unmarkedFull_15 rfl (lv_at hl 0 rfl) ?_
  refine va_get (D := (dC, dI)) (ci := 0) (v := .int (nI M)) (C := R_MC) (T := F_MC) (N := 2) hx hb hts i_MC_unmarkedFull hown hK hP 0 rfl rfl 1 (by decide) (hts _ m_MC_unmarkedFull_13) (fun _ h9 => h9) rfl d_MC_unmarkedFull_16 ?_
  refine mc_callS ⟨hx, hb, hml, hown, hts⟩ (fun sz => c_MC_falling l sz (nI M) M (by omega)) (cwS 2 hts g_MC_unmarkedFull_MC_falling rfl rfl rfl (by decide +kernel) ⟨Nat.le_of_ble_eq_true rfl, Nat.le_of_ble_eq_true rfl⟩) hS hA hl.1 (Nat.le_of_ble_eq_true rfl) d_MC_unmarkedFull_19 ⟨Nat.zero_le _, Nat.zero_le _⟩ (fun H locs hk1 hS => ?_)
  have hP := mc_keep hP hk1
  refine lv_ldiv hx hb d_MC_unmarkedFull_22 (f_fal_ne M (by omega)) ?_
  exact W.lret (v := (f_ont N M (M + 1) / f_fal (nI M) M)) hx hb hr (fun t ht hW => ⟨⟨(f_ont N M (M + 1) / f_fal (nI M) M), (), rfl, rfl, by rw [ht]; exact hP, va_K.moved hW.alike hK, hD⟩, hS.F ht⟩) hS.2.2 d_MC_unmarkedFull_23
set_option maxHeartbeats 4000000 in
set_option maxRecDepth 100000 in
theorem c_MC_strange (l : Launch) (dC : Nat → ClassId) (dI : Nat → Nat → Nat) (h0 sz : Nat) (N M : Nat) (hN : N < 7) (hM : M < 6) : Met l y_MC_strange w_MC_strange ({ frames := 1, cells := 0, slots := 0, locals := 24 }) (va_Pc [.ref h0] (pc_MC dC dI h0 sz (nI N) (nI M))) (va_Ql (fun (r : Int64) (_ : Unit) => r = q_strange N M) (fun _ => at_MC dC dI (va_A (mc_w h0 (nI N) (nI M)) sz) h0 (nI N) (nI M)) (va_A (mc_w h0 (nI N) (nI M)) sz)) 0 0 (va_A (mc_w h0 (nI N) (nI M)) sz) := by
  refine Met.ofW (cc := b_MC_strange) (maxL := 2) (ret := (some .long)) (by decide) rfl ?_
  intro p e s m args below meth c s₁ B hml hv
  obtain ⟨rfl, hsz, hP, hK, hD0⟩ := hv
  have hx := B.exec
  have hb := B.bytes
  have hr := B.returns
  have hts := atoms_spec (ws := w_MC_strange) B.pre
  have hown : s.vm.findClass R_MC = some m.cls := findClass_of_methodNamed B.named
  have hlocks := B.notSynchronized
  subst hsz
  have hD := hD0.self (sz := s.heap.size)
  generalize hAe : va_A (mc_w h0 (nI N) (nI M)) s.heap.size = A at hD ⊢
  have hA : ∀ q : Nat, s.heap.size ≤ q → A q := fun q h => by rw [← hAe]; exact Or.inr h
  have hS : va_S A s.heap s.heap [] := va_S.rf
  have hP : va_P (dC, dI) classes (mc_w h0 (nI N) (nI M)) s.heap := hP
  have hl := lv_entry ([.ref h0]) (n := 2) (Nat.le_of_ble_eq_true rfl)
  rw [lg_entry_eq]
  generalize (lg_sl ([.ref h0]) ++ List.replicate (2 - (lg_sl ([.ref h0])).length) Slot.unset).toArray = ls at hl ⊢
  have hl : lv_has ls 2 [(0, .ref h0)] := hl
  refine lv_aload_n hx hb d_MC_strange_0 rfl (lv_at hl 0 rfl) ?_
  refine va_get (D := (dC, dI)) (ci := 0) (v := .int (nI N)) (C := R_MC) (T := F_MC) (N := 2) hx hb hts i_MC_strange hown hK hP 0 rfl rfl 0 (by decide) (hts _ m_MC_strange_7) (fun _ h9 => h9) rfl d_MC_strange_1 ?_
  refine lv_aload_n hx hb d_MC_strange_4 rfl (lv_at hl 0 rfl) ?_
  refine va_get (D := (dC, dI)) (ci := 0) (v := .int (nI M)) (C := R_MC) (T := F_MC) (N := 2) hx hb hts i_MC_strange hown hK hP 0 rfl rfl 1 (by decide) (hts _ m_MC_strange_13) (fun _ h9 => h9) rfl d_MC_strange_5 ?_
  refine lv_icmp_ge (tgt := 18) hx hb d_MC_strange_8 (by decide) (fun h => ?_) (fun h => ?_)
  · refine lv_aload_n hx hb d_MC_strange_18 rfl (lv_at hl 0 rfl) ?_
    refine va_get (D := (dC, dI)) (ci := 0) (v := .int (nI M)) (C := R_MC) (T := F_MC) (N := 2) hx hb hts i_MC_strange hown hK hP 0 rfl rfl 1 (by decide) (hts _ m_MC_strange_13) (fun _ h9 => h9) rfl d_MC_strange_19 ?_
    refine lw_ti (y := nI (f_own N M)) (by rw [f_own, if_neg (fun q => nI_ge q (by omega) h)]) ?_
    have hw := f_own_le N M
    refine lv_istore_n (lv' := [(1, .int (nI (f_own N M))), (0, .ref h0)]) hx hb d_MC_strange_22 rfl hl (by decide) rfl (fun ls hl => ?_)
    refine lv_aload_n hx hb d_MC_strange_23 rfl (lv_at hl 1 rfl) ?_
    refine va_get (D := (dC, dI)) (ci := 0) (v := .int (nI M)) (C := R_MC) (T := F_MC) (N := 2) hx hb hts i_MC_strange hown hK hP 0 rfl rfl 1 (by decide) (hts _ m_MC_strange_13) (fun _ h9 => h9) rfl d_MC_strange_24 ?_
    refine lv_iconst (v := 1) hx hb d_MC_strange_27 (by decide) ?_
    refine lv_isub hx hb d_MC_strange_28 ?_
    refine lv_iload_n hx hb d_MC_strange_29 rfl (lv_at hl 0 rfl) ?_
    refine mc_callS ⟨hx, hb, hml, hown, hts⟩ (fun sz => c_MC_power l sz (nI M - 1) (f_own N M) (by omega)) (cwS 2 hts g_MC_strange_MC_power rfl rfl rfl (by decide +kernel) ⟨Nat.le_of_ble_eq_true rfl, Nat.le_of_ble_eq_true rfl⟩) hS hA hl.1 (Nat.le_of_ble_eq_true rfl) d_MC_strange_30 ⟨Nat.zero_le _, Nat.zero_le _⟩ (fun H locs hk1 hS => ?_)
    have hP := mc_keep hP hk1
    refine lv_aload_n hx hb d_MC_strange_33 rfl (lv_at hl 1 rfl) ?_
    refine va_get (D := (dC, dI)) (ci := 0) (v := .int (nI M)) (C := R_MC) (T := F_MC) (N := 2) hx hb hts i_MC_strange hown hK hP 0 rfl rfl 1 (by decide) (hts _ m_MC_strange_13) (fun _ h9 => h9) rfl d_MC_strange_34 ?_
    refine lv_aload_n hx hb d_MC_strange_37 rfl (lv_at hl 1 rfl) ?_
    refine va_get (D := (dC, dI)) (ci := 0) (v := .int (nI N)) (C := R_MC) (T := F_MC) (N := 2) hx hb hts i_MC_strange hown hK hP 0 rfl rfl 0 (by decide) (hts _ m_MC_strange_7) (fun _ h9 => h9) rfl d_MC_strange_38 ?_
    refine lv_iload_n hx hb d_MC_strange_41 rfl (lv_at hl 0 rfl) ?_
    refine lv_isub hx hb d_MC_strange_42 ?_
    refine lw_ti (y := nI (N - f_own N M)) (pk_sub hw) ?_
    refine mc_callS ⟨hx, hb, hml, hown, hts⟩ (fun sz => c_MC_power l sz (nI M) (N - f_own N M) (by omega)) (cwS 2 hts g_MC_strange_MC_power rfl rfl rfl (by decide +kernel) ⟨Nat.le_of_ble_eq_true rfl, Nat.le_of_ble_eq_true rfl⟩) hS hA hl.1 (Nat.le_of_ble_eq_true rfl) d_MC_strange_43 ⟨Nat.zero_le _, Nat.zero_le _⟩ (fun H locs hk1 hS => ?_)
    have hP := mc_keep hP hk1
    refine lv_lmul hx hb d_MC_strange_46 ?_
    exact W.lret (v := ((f_pow (nI M - 1).toInt64 (f_own N M)) * (f_pow (nI M).toInt64 (N - f_own N M)))) hx hb hr (fun t ht hW => ⟨⟨((f_pow (nI M - 1).toInt64 (f_own N M)) * (f_pow (nI M).toInt64 (N - f_own N M))), (), rfl, rfl, by rw [ht]; exact hP, va_K.moved hW.alike hK, hD⟩, hS.F ht⟩) hS.2.2 d_MC_strange_47
  · refine lv_aload_n hx hb d_MC_strange_11 rfl (lv_at hl 0 rfl) ?_
    refine va_get (D := (dC, dI)) (ci := 0) (v := .int (nI N)) (C := R_MC) (T := F_MC) (N := 2) hx hb hts i_MC_strange hown hK hP 0 rfl rfl 0 (by decide) (hts _ m_MC_strange_7) (fun _ h9 => h9) rfl d_MC_strange_12 ?_
    refine lv_goto (tgt := 22) hx hb d_MC_strange_15 (by decide) ?_
    refine lw_ti (y := nI (f_own N M)) (by rw [f_own, if_pos (Nat.lt_of_not_le (fun q => h (nI_le q (by omega))))]) ?_
    have hw := f_own_le N M
    refine lv_istore_n (lv' := [(1, .int (nI (f_own N M))), (0, .ref h0)]) hx hb d_MC_strange_22 rfl hl (by decide) rfl (fun ls hl => ?_)
    refine lv_aload_n hx hb d_MC_strange_23 rfl (lv_at hl 1 rfl) ?_
    refine va_get (D := (dC, dI)) (ci := 0) (v := .int (nI M)) (C := R_MC) (T := F_MC) (N := 2) hx hb hts i_MC_strange hown hK hP 0 rfl rfl 1 (by decide) (hts _ m_MC_strange_13) (fun _ h9 => h9) rfl d_MC_strange_24 ?_
    refine lv_iconst (v := 1) hx hb d_MC_strange_27 (by decide) ?_
    refine lv_isub hx hb d_MC_strange_28 ?_
    refine lv_iload_n hx hb d_MC_strange_29 rfl (lv_at hl 0 rfl) ?_
    refine mc_callS ⟨hx, hb, hml, hown, hts⟩ (fun sz => c_MC_power l sz (nI M - 1) (f_own N M) (by omega)) (cwS 2 hts g_MC_strange_MC_power rfl rfl rfl (by decide +kernel) ⟨Nat.le_of_ble_eq_true rfl, Nat.le_of_ble_eq_true rfl⟩) hS hA hl.1 (Nat.le_of_ble_eq_true rfl) d_MC_strange_30 ⟨Nat.zero_le _, Nat.zero_le _⟩ (fun H locs hk1 hS => ?_)
    have hP := mc_keep hP hk1
    refine lv_aload_n hx hb d_MC_strange_33 rfl (lv_at hl 1 rfl) ?_
    refine va_get (D := (dC, dI)) (ci := 0) (v := .int (nI M)) (C := R_MC) (T := F_MC) (N := 2) hx hb hts i_MC_strange hown hK hP 0 rfl rfl 1 (by decide) (hts _ m_MC_strange_13) (fun _ h9 => h9) rfl d_MC_strange_34 ?_
    refine lv_aload_n hx hb d_MC_strange_37 rfl (lv_at hl 1 rfl) ?_
    refine va_get (D := (dC, dI)) (ci := 0) (v := .int (nI N)) (C := R_MC) (T := F_MC) (N := 2) hx hb hts i_MC_strange hown hK hP 0 rfl rfl 0 (by decide) (hts _ m_MC_strange_7) (fun _ h9 => h9) rfl d_MC_strange_38 ?_
    refine lv_iload_n hx hb d_MC_strange_41 rfl (lv_at hl 0 rfl) ?_
    refine lv_isub hx hb d_MC_strange_42 ?_
    refine lw_ti (y := nI (N - f_own N M)) (pk_sub hw) ?_
    refine mc_callS ⟨hx, hb, hml, hown, hts⟩ (fun sz => c_MC_power l sz (nI M) (N - f_own N M) (by omega)) (cwS 2 hts g_MC_strange_MC_power rfl rfl rfl (by decide +kernel) ⟨Nat.le_of_ble_eq_true rfl, Nat.le_of_ble_eq_true rfl⟩) hS hA hl.1 (Nat.le_of_ble_eq_true rfl) d_MC_strange_43 ⟨Nat.zero_le _, Nat.zero_le _⟩ (fun H locs hk1 hS => ?_)
    have hP := mc_keep hP hk1
    refine lv_lmul hx hb d_MC_strange_46 ?_
    exact W.lret (v := ((f_pow (nI M - 1).toInt64 (f_own N M)) * (f_pow (nI M).toInt64 (N - f_own N M)))) hx hb hr (fun t ht hW => ⟨⟨((f_pow (nI M - 1).toInt64 (f_own N M)) * (f_pow (nI M).toInt64 (N - f_own N M))), (), rfl, rfl, by rw [ht]; exact hP, va_K.moved hW.alike hK, hD⟩, hS.F ht⟩) hS.2.2 d_MC_strange_47
section L_MC_unmarked
variable {p : Program} {l : Launch} {e : Env} {R : Room} {s : State} {m : MethodId} {args : Array Value} {below : List Frame} {meth : Method} {c : Code} {H : Heap} {locs : List Loc} {cells slots : Nat} {Q : State → Prop}
set_option maxHeartbeats 4000000 in
set_option maxRecDepth 100000 in
theorem lp_MC_unmarked {dC : Nat → ClassId} {dI : Nat → Nat → Nat} {h0 : Nat} {A0 : Nat → Prop} {H0 : Heap} (hx : p.tables.exec = Jvm.exec) (hb : c.code = b_MC_unmarked) (hml : c.maxLocals = 4) (hown : s.vm.findClass R_MC = some m.cls) (hts : ∀ w ∈ w_MC_unmarked, w.before args s = true) (hK : va_K (dC, dI) classes [] s) (hR : 3 ≤ R.frames ∧ 71 ≤ R.locals) (hA : ∀ q, H0.size ≤ q → A0 q) (N M : Nat) (hN : N < 7) (hM : M < 6)
    (kx : ∀ (H : Heap) (locs : List Loc) (ls : Array Slot), va_P (dC, dI) classes (mc_w h0 (nI N) (nI M)) H → va_S A0 H0 H locs → lv_has ls 4 [(1, .long (f_unm N (M + 1)))] → W p l e R s m args below meth c H locs 0 0 Q (F0 m 35 ls [])) :
    ∀ (n j : Nat), j + n = M + 1 → ∀ (H : Heap) (locs : List Loc) (ls : Array Slot), va_P (dC, dI) classes (mc_w h0 (nI N) (nI M)) H → va_S A0 H0 H locs → lv_has ls 4 [(0, .ref h0), (1, .long (f_unm N j)), (3, .int (nI j))] → W p l e R s m args below meth c H locs 0 0 Q (F0 m 4 ls []) := by
  intro n
  induction n with
  | zero =>
    intro j hj H locs ls hP hS hl
    obtain rfl : j = M + 1 := by omega
    refine lv_iload_n hx hb d_MC_unmarked_4 rfl (lv_at hl 2 rfl) ?_
    refine lv_aload_n hx hb d_MC_unmarked_5 rfl (lv_at hl 0 rfl) ?_
    refine va_get (D := (dC, dI)) (ci := 0) (v := .int (nI M)) (C := R_MC) (T := F_MC) (N := 2) hx hb hts i_MC_unmarked hown hK hP 0 rfl rfl 1 (by decide) (hts _ m_MC_unmarked_13) (fun _ h9 => h9) rfl d_MC_unmarked_6 ?_
    refine lv_icmp_gt (tgt := 35) hx hb d_MC_unmarked_9 (by decide) (fun h => ?_) (fun h => ?_)
    · exact kx H locs ls hP hS (lv_sub hl [1] rfl)
    · exact absurd (nI_lt (Nat.lt_succ_self _) (by omega)) h
  | succ n ih =>
    intro j hj H locs ls hP hS hl
    refine lv_iload_n hx hb d_MC_unmarked_4 rfl (lv_at hl 2 rfl) ?_
    refine lv_aload_n hx hb d_MC_unmarked_5 rfl (lv_at hl 0 rfl) ?_
    refine va_get (D := (dC, dI)) (ci := 0) (v := .int (nI M)) (C := R_MC) (T := F_MC) (N := 2) hx hb hts i_MC_unmarked hown hK hP 0 rfl rfl 1 (by decide) (hts _ m_MC_unmarked_13) (fun _ h9 => h9) rfl d_MC_unmarked_6 ?_
    refine lv_icmp_gt (tgt := 35) hx hb d_MC_unmarked_9 (by decide) (fun h => ?_) (fun h => ?_)
    · exact absurd h (nI_nlt (by omega) (by omega))
    · refine lv_lload_n hx hb d_MC_unmarked_12 rfl (lv_at hl 1 rfl) ?_
      refine lv_aload_n hx hb d_MC_unmarked_13 rfl (lv_at hl 0 rfl) ?_
      refine va_get (D := (dC, dI)) (ci := 0) (v := .int (nI N)) (C := R_MC) (T := F_MC) (N := 2) hx hb hts i_MC_unmarked hown hK hP 0 rfl rfl 0 (by decide) (hts _ m_MC_unmarked_7) (fun _ h9 => h9) rfl d_MC_unmarked_14 ?_
      refine lv_iload_n hx hb d_MC_unmarked_17 rfl (lv_at hl 2 rfl) ?_
      refine mc_callS ⟨hx, hb, hml, hown, hts⟩ (fun sz => c_MC_onto l sz N j (by omega) (by omega)) (cwS 2 hts g_MC_unmarked_MC_onto rfl rfl rfl (by decide +kernel) ⟨Nat.le_trans (Nat.le_of_ble_eq_true rfl) hR.1, Nat.le_trans (Nat.le_of_ble_eq_true rfl) hR.2⟩) hS hA hl.1 (Nat.le_of_ble_eq_true rfl) d_MC_unmarked_18 ⟨Nat.zero_le _, Nat.zero_le _⟩ (fun H locs hk1 hS => ?_)
      have hP := mc_keep hP hk1
      refine lv_iload_n hx hb d_MC_unmarked_21 rfl (lv_at hl 2 rfl) ?_
      refine lv_iload_n hx hb d_MC_unmarked_22 rfl (lv_at hl 2 rfl) ?_
      refine mc_callS ⟨hx, hb, hml, hown, hts⟩ (fun sz => c_MC_falling l sz (nI j) j (by omega)) (cwS 2 hts g_MC_unmarked_MC_falling rfl rfl rfl (by decide +kernel) ⟨Nat.le_trans (Nat.le_of_ble_eq_true rfl) hR.1, Nat.le_trans (Nat.le_of_ble_eq_true rfl) hR.2⟩) hS hA hl.1 (Nat.le_of_ble_eq_true rfl) d_MC_unmarked_23 ⟨Nat.zero_le _, Nat.zero_le _⟩ (fun H locs hk1 hS => ?_)
      have hP := mc_keep hP hk1
      refine lv_ldiv hx hb d_MC_unmarked_26 (f_fal_ne j (by omega)) ?_
      refine lv_ladd hx hb d_MC_unmarked_27 ?_
      refine lw_tl (y := f_unm N (j + 1)) (rfl) ?_
      refine lv_lstore_n (lv' := [(1, .long (f_unm N (j + 1))), (0, .ref h0), (3, .int (nI j))]) hx hb d_MC_unmarked_28 rfl hl (by decide) rfl (fun ls hl => ?_)
      refine lv_iinc (v := nI (j + 1)) (lv' := [(3, .int (nI (j + 1))), (1, .long (f_unm N (j + 1))), (0, .ref h0)]) hx hb d_MC_unmarked_29 hl (k := 2) rfl (ii_1 j) (by decide) rfl (fun ls hl => ?_)
      refine lv_goto (tgt := 4) hx hb d_MC_unmarked_32 (by decide) ?_
      exact ih (j + 1) (by omega) H locs ls hP hS (lv_sub hl [2, 1, 0] rfl)
end L_MC_unmarked
set_option maxHeartbeats 4000000 in
set_option maxRecDepth 100000 in
theorem c_MC_unmarked (l : Launch) (dC : Nat → ClassId) (dI : Nat → Nat → Nat) (h0 sz : Nat) (N M : Nat) (hN : N < 7) (hM : M < 6) : Met l y_MC_unmarked w_MC_unmarked ({ frames := 3, cells := 0, slots := 0, locals := 71 }) (va_Pc [.ref h0] (pc_MC dC dI h0 sz (nI N) (nI M))) (va_Ql (fun (r : Int64) (_ : Unit) => r = q_unmarked N M) (fun _ => at_MC dC dI (va_A (mc_w h0 (nI N) (nI M)) sz) h0 (nI N) (nI M)) (va_A (mc_w h0 (nI N) (nI M)) sz)) 0 0 (va_A (mc_w h0 (nI N) (nI M)) sz) := by
  refine Met.ofW (cc := b_MC_unmarked) (maxL := 4) (ret := (some .long)) (by decide) rfl ?_
  intro p e s m args below meth c s₁ B hml hv
  obtain ⟨rfl, hsz, hP, hK, hD0⟩ := hv
  have hx := B.exec
  have hb := B.bytes
  have hr := B.returns
  have hts := atoms_spec (ws := w_MC_unmarked) B.pre
  have hown : s.vm.findClass R_MC = some m.cls := findClass_of_methodNamed B.named
  have hlocks := B.notSynchronized
  subst hsz
  have hD := hD0.self (sz := s.heap.size)
  generalize hAe : va_A (mc_w h0 (nI N) (nI M)) s.heap.size = A at hD ⊢
  have hA : ∀ q : Nat, s.heap.size ≤ q → A q := fun q h => by rw [← hAe]; exact Or.inr h
  have hS : va_S A s.heap s.heap [] := va_S.rf
  have hP : va_P (dC, dI) classes (mc_w h0 (nI N) (nI M)) s.heap := hP
  have hl := lv_entry ([.ref h0]) (n := 4) (Nat.le_of_ble_eq_true rfl)
  rw [lg_entry_eq]
  generalize (lg_sl ([.ref h0]) ++ List.replicate (4 - (lg_sl ([.ref h0])).length) Slot.unset).toArray = ls at hl ⊢
  have hl : lv_has ls 4 [(0, .ref h0)] := hl
  refine lv_lconst (v := 0) hx hb d_MC_unmarked_0 (by decide) ?_
  refine lv_lstore_n (lv' := [(1, .long 0), (0, .ref h0)]) hx hb d_MC_unmarked_1 rfl hl (by decide) rfl (fun ls hl => ?_)
  refine lv_iconst (v := 0) hx hb d_MC_unmarked_2 (by decide) ?_
  refine lv_istore_n (lv' := [(3, .int 0), (1, .long 0), (0, .ref h0)]) hx hb d_MC_unmarked_3 rfl hl (by decide) rfl (fun ls hl => ?_)
  refine lp_MC_unmarked hx hb hml hown hts hK ⟨Nat.le_of_ble_eq_true rfl, Nat.le_of_ble_eq_true rfl⟩ hA N M hN hM (fun H locs ls hP hS hl => ?_) (M + 1) 0 (by omega) s.heap [] ls hP hS (lv_sub hl [2, 1, 0] rfl)
  refine lv_lload_n hx hb d_MC_unmarked_35 rfl (lv_at hl 0 rfl) ?_
  exact W.lret (v := (f_unm N (M + 1))) hx hb hr (fun t ht hW => ⟨⟨(f_unm N (M + 1)), (), rfl, rfl, by rw [ht]; exact hP, va_K.moved hW.alike hK, hD⟩, hS.F ht⟩) hS.2.2 d_MC_unmarked_36
section L_MC_away
variable {p : Program} {l : Launch} {e : Env} {R : Room} {s : State} {m : MethodId} {args : Array Value} {below : List Frame} {meth : Method} {c : Code} {H : Heap} {locs : List Loc} {cells slots : Nat} {Q : State → Prop}
set_option maxHeartbeats 4000000 in
set_option maxRecDepth 100000 in
theorem lp_MC_away {dC : Nat → ClassId} {dI : Nat → Nat → Nat} {h0 : Nat} {A0 : Nat → Prop} {H0 : Heap} (hx : p.tables.exec = Jvm.exec) (hb : c.code = b_MC_away) (hml : c.maxLocals = 6) (hown : s.vm.findClass R_MC = some m.cls) (hts : ∀ w ∈ w_MC_away, w.before args s = true) (hK : va_K (dC, dI) classes [] s) (hR : 2 ≤ R.frames ∧ 45 ≤ R.locals) (hA : ∀ q, H0.size ≤ q → A0 q) (N M : Nat) (hN : N < 7) (hM : M < 6)
    (kx : ∀ (H : Heap) (locs : List Loc) (ls : Array Slot), va_P (dC, dI) classes (mc_w h0 (nI N) (nI M)) H → va_S A0 H0 H locs → lv_has ls 6 [(1, .long (f_awy M (M + 1)))] → W p l e R s m args below meth c H locs 0 0 Q (F0 m 74 ls [])) :
    ∀ (n j : Nat), j + n = M + 1 → ∀ (H : Heap) (locs : List Loc) (ls : Array Slot), va_P (dC, dI) classes (mc_w h0 (nI N) (nI M)) H → va_S A0 H0 H locs → lv_has ls 6 [(0, .ref h0), (1, .long (f_awy M j)), (3, .int (nI j))] → W p l e R s m args below meth c H locs 0 0 Q (F0 m 17 ls []) := by
  intro n
  induction n with
  | zero =>
    intro j hj H locs ls hP hS hl
    obtain rfl : j = M + 1 := by omega
    refine lv_iload_n hx hb d_MC_away_17 rfl (lv_at hl 2 rfl) ?_
    refine lv_aload_n hx hb d_MC_away_18 rfl (lv_at hl 0 rfl) ?_
    refine va_get (D := (dC, dI)) (ci := 0) (v := .int (nI M)) (C := R_MC) (T := F_MC) (N := 2) hx hb hts i_MC_away hown hK hP 0 rfl rfl 1 (by decide) (hts _ m_MC_away_13) (fun _ h9 => h9) rfl d_MC_away_19 ?_
    refine lv_icmp_gt (tgt := 74) hx hb d_MC_away_22 (by decide) (fun h => ?_) (fun h => ?_)
    · exact kx H locs ls hP hS (lv_sub hl [1] rfl)
    · exact absurd (nI_lt (Nat.lt_succ_self _) (by omega)) h
  | succ n ih =>
    intro j hj H locs ls hP hS hl
    refine lv_iload_n hx hb d_MC_away_17 rfl (lv_at hl 2 rfl) ?_
    refine lv_aload_n hx hb d_MC_away_18 rfl (lv_at hl 0 rfl) ?_
    refine va_get (D := (dC, dI)) (ci := 0) (v := .int (nI M)) (C := R_MC) (T := F_MC) (N := 2) hx hb hts i_MC_away hown hK hP 0 rfl rfl 1 (by decide) (hts _ m_MC_away_13) (fun _ h9 => h9) rfl d_MC_away_19 ?_
    refine lv_icmp_gt (tgt := 74) hx hb d_MC_away_22 (by decide) (fun h => ?_) (fun h => ?_)
    · exact absurd h (nI_nlt (by omega) (by omega))
    · refine lv_aload_n hx hb d_MC_away_25 rfl (lv_at hl 0 rfl) ?_
      refine va_get (D := (dC, dI)) (ci := 0) (v := .int (nI M)) (C := R_MC) (T := F_MC) (N := 2) hx hb hts i_MC_away hown hK hP 0 rfl rfl 1 (by decide) (hts _ m_MC_away_13) (fun _ h9 => h9) rfl d_MC_away_26 ?_
      refine lv_iload_n hx hb d_MC_away_29 rfl (lv_at hl 2 rfl) ?_
      refine mc_callS ⟨hx, hb, hml, hown, hts⟩ (fun sz => c_MC_chosen l sz (nI M) (nI j) (Or.inr ⟨j, by omega, rfl⟩)) (cwS 2 hts g_MC_away_MC_chosen rfl rfl rfl (by decide +kernel) ⟨Nat.le_trans (Nat.le_of_ble_eq_true rfl) hR.1, Nat.le_trans (Nat.le_of_ble_eq_true rfl) hR.2⟩) hS hA hl.1 (Nat.le_of_ble_eq_true rfl) d_MC_away_30 ⟨Nat.zero_le _, Nat.zero_le _⟩ (fun H locs hk1 hS => ?_)
      have hP := mc_keep hP hk1
      refine lv_aload_n hx hb d_MC_away_33 rfl (lv_at hl 0 rfl) ?_
      refine va_get (D := (dC, dI)) (ci := 0) (v := .int (nI M)) (C := R_MC) (T := F_MC) (N := 2) hx hb hts i_MC_away hown hK hP 0 rfl rfl 1 (by decide) (hts _ m_MC_away_13) (fun _ h9 => h9) rfl d_MC_away_34 ?_
      refine lv_iload_n hx hb d_MC_away_37 rfl (lv_at hl 2 rfl) ?_
      refine lv_isub hx hb d_MC_away_38 ?_
      refine lw_ti (y := nI (M - j)) (pk_sub (by omega)) ?_
      refine lv_aload_n hx hb d_MC_away_39 rfl (lv_at hl 0 rfl) ?_
      refine va_get (D := (dC, dI)) (ci := 0) (v := .int (nI M)) (C := R_MC) (T := F_MC) (N := 2) hx hb hts i_MC_away hown hK hP 0 rfl rfl 1 (by decide) (hts _ m_MC_away_13) (fun _ h9 => h9) rfl d_MC_away_40 ?_
      refine lv_iload_n hx hb d_MC_away_43 rfl (lv_at hl 2 rfl) ?_
      refine lv_isub hx hb d_MC_away_44 ?_
      refine lw_ti (y := nI (M - j)) (pk_sub (by omega)) ?_
      refine mc_callS ⟨hx, hb, hml, hown, hts⟩ (fun sz => c_MC_falling l sz (nI (M - j)) (M - j) (by omega)) (cwS 2 hts g_MC_away_MC_falling rfl rfl rfl (by decide +kernel) ⟨Nat.le_trans (Nat.le_of_ble_eq_true rfl) hR.1, Nat.le_trans (Nat.le_of_ble_eq_true rfl) hR.2⟩) hS hA hl.1 (Nat.le_of_ble_eq_true rfl) d_MC_away_45 ⟨Nat.zero_le _, Nat.zero_le _⟩ (fun H locs hk1 hS => ?_)
      have hP := mc_keep hP hk1
      refine lv_lmul hx hb d_MC_away_48 ?_
      refine lv_lstore (lv' := [(4, .long ((f_cho (nI M) (nI j)) * (f_fal (nI (M - j)) (M - j)))), (0, .ref h0), (1, .long (f_awy M j)), (3, .int (nI j))]) hx hb d_MC_away_49 hl (by decide) rfl (fun ls hl => ?_)
      refine lv_lload_n hx hb d_MC_away_51 rfl (lv_at hl 2 rfl) ?_
      refine lv_iload_n hx hb d_MC_away_52 rfl (lv_at hl 3 rfl) ?_
      refine lv_iconst (v := 1) hx hb d_MC_away_53 (by decide) ?_
      refine lv_iand hx hb d_MC_away_54 ?_
      refine lv_if_ne (tgt := 63) hx hb d_MC_away_55 (by decide) (fun h2 => ?_) (fun h2 => ?_)
      · refine lv_lload hx hb d_MC_away_63 (lv_at hl 0 rfl) ?_
        refine lv_lneg hx hb d_MC_away_65 ?_
        refine lv_ladd hx hb d_MC_away_66 ?_
        refine lw_tl (y := f_awy M (j + 1)) (by rw [f_awy, f_sg, if_neg h2]) ?_
        refine lv_lstore_n (lv' := [(1, .long (f_awy M (j + 1))), (4, .long ((f_cho (nI M) (nI j)) * (f_fal (nI (M - j)) (M - j)))), (0, .ref h0), (3, .int (nI j))]) hx hb d_MC_away_67 rfl hl (by decide) rfl (fun ls hl => ?_)
        refine lv_iinc (v := nI (j + 1)) (lv' := [(3, .int (nI (j + 1))), (1, .long (f_awy M (j + 1))), (4, .long ((f_cho (nI M) (nI j)) * (f_fal (nI (M - j)) (M - j)))), (0, .ref h0)]) hx hb d_MC_away_68 hl (k := 3) rfl (ii_1 j) (by decide) rfl (fun ls hl => ?_)
        refine lv_goto (tgt := 17) hx hb d_MC_away_71 (by decide) ?_
        exact ih (j + 1) (by omega) H locs ls hP hS (lv_sub hl [3, 1, 0] rfl)
      · refine lv_lload hx hb d_MC_away_58 (lv_at hl 0 rfl) ?_
        refine lv_goto (tgt := 66) hx hb d_MC_away_60 (by decide) ?_
        refine lv_ladd hx hb d_MC_away_66 ?_
        refine lw_tl (y := f_awy M (j + 1)) (by rw [f_awy, f_sg, if_pos h2]) ?_
        refine lv_lstore_n (lv' := [(1, .long (f_awy M (j + 1))), (4, .long ((f_cho (nI M) (nI j)) * (f_fal (nI (M - j)) (M - j)))), (0, .ref h0), (3, .int (nI j))]) hx hb d_MC_away_67 rfl hl (by decide) rfl (fun ls hl => ?_)
        refine lv_iinc (v := nI (j + 1)) (lv' := [(3, .int (nI (j + 1))), (1, .long (f_awy M (j + 1))), (4, .long ((f_cho (nI M) (nI j)) * (f_fal (nI (M - j)) (M - j)))), (0, .ref h0)]) hx hb d_MC_away_68 hl (k := 3) rfl (ii_1 j) (by decide) rfl (fun ls hl => ?_)
        refine lv_goto (tgt := 17) hx hb d_MC_away_71 (by decide) ?_
        exact ih (j + 1) (by omega) H locs ls hP hS (lv_sub hl [3, 1, 0] rfl)
end L_MC_away
set_option maxHeartbeats 4000000 in
set_option maxRecDepth 100000 in
theorem c_MC_away (l : Launch) (dC : Nat → ClassId) (dI : Nat → Nat → Nat) (h0 sz : Nat) (N M : Nat) (hN : N < 7) (hM : M < 6) : Met l y_MC_away w_MC_away ({ frames := 2, cells := 0, slots := 0, locals := 45 }) (va_Pc [.ref h0] (pc_MC dC dI h0 sz (nI N) (nI M))) (va_Ql (fun (r : Int64) (_ : Unit) => r = q_away N M) (fun _ => at_MC dC dI (va_A (mc_w h0 (nI N) (nI M)) sz) h0 (nI N) (nI M)) (va_A (mc_w h0 (nI N) (nI M)) sz)) 0 0 (va_A (mc_w h0 (nI N) (nI M)) sz) := by
  refine Met.ofW (cc := b_MC_away) (maxL := 6) (ret := (some .long)) (by decide) rfl ?_
  intro p e s m args below meth c s₁ B hml hv
  obtain ⟨rfl, hsz, hP, hK, hD0⟩ := hv
  have hx := B.exec
  have hb := B.bytes
  have hr := B.returns
  have hts := atoms_spec (ws := w_MC_away) B.pre
  have hown : s.vm.findClass R_MC = some m.cls := findClass_of_methodNamed B.named
  have hlocks := B.notSynchronized
  subst hsz
  have hD := hD0.self (sz := s.heap.size)
  generalize hAe : va_A (mc_w h0 (nI N) (nI M)) s.heap.size = A at hD ⊢
  have hA : ∀ q : Nat, s.heap.size ≤ q → A q := fun q h => by rw [← hAe]; exact Or.inr h
  have hS : va_S A s.heap s.heap [] := va_S.rf
  have hP : va_P (dC, dI) classes (mc_w h0 (nI N) (nI M)) s.heap := hP
  have hl := lv_entry ([.ref h0]) (n := 6) (Nat.le_of_ble_eq_true rfl)
  rw [lg_entry_eq]
  generalize (lg_sl ([.ref h0]) ++ List.replicate (6 - (lg_sl ([.ref h0])).length) Slot.unset).toArray = ls at hl ⊢
  have hl : lv_has ls 6 [(0, .ref h0)] := hl
  refine lv_aload_n hx hb d_MC_away_0 rfl (lv_at hl 0 rfl) ?_
  refine va_get (D := (dC, dI)) (ci := 0) (v := .int (nI N)) (C := R_MC) (T := F_MC) (N := 2) hx hb hts i_MC_away hown hK hP 0 rfl rfl 0 (by decide) (hts _ m_MC_away_7) (fun _ h9 => h9) rfl d_MC_away_1 ?_
  refine lv_aload_n hx hb d_MC_away_4 rfl (lv_at hl 0 rfl) ?_
  refine va_get (D := (dC, dI)) (ci := 0) (v := .int (nI M)) (C := R_MC) (T := F_MC) (N := 2) hx hb hts i_MC_away hown hK hP 0 rfl rfl 1 (by decide) (hts _ m_MC_away_13) (fun _ h9 => h9) rfl d_MC_away_5 ?_
  refine lv_icmp_eq (tgt := 13) hx hb d_MC_away_8 (by decide) (fun h => ?_) (fun h => ?_)
  · refine lv_lconst (v := 0) hx hb d_MC_away_13 (by decide) ?_
    refine lv_lstore_n (lv' := [(1, .long 0), (0, .ref h0)]) hx hb d_MC_away_14 rfl hl (by decide) rfl (fun ls hl => ?_)
    refine lv_iconst (v := 0) hx hb d_MC_away_15 (by decide) ?_
    refine lv_istore_n (lv' := [(3, .int 0), (1, .long 0), (0, .ref h0)]) hx hb d_MC_away_16 rfl hl (by decide) rfl (fun ls hl => ?_)
    refine lp_MC_away hx hb hml hown hts hK ⟨Nat.le_of_ble_eq_true rfl, Nat.le_of_ble_eq_true rfl⟩ hA N M hN hM (fun H locs ls hP hS hl => ?_) (M + 1) 0 (by omega) s.heap [] ls hP hS (lv_sub hl [2, 1, 0] rfl)
    refine lv_lload_n hx hb d_MC_away_74 rfl (lv_at hl 0 rfl) ?_
    exact W.lret (v := (f_awy M (M + 1))) hx hb hr (fun t ht hW => ⟨⟨(f_awy M (M + 1)), (), rfl, by rw [q_away, if_pos ((nI_eq (by omega) (by omega)).mp h)], by rw [ht]; exact hP, va_K.moved hW.alike hK, hD⟩, hS.F ht⟩) hS.2.2 d_MC_away_75
  · refine lv_lconst (v := 0) hx hb d_MC_away_11 (by decide) ?_
    exact W.lret (v := 0) hx hb hr (fun t ht hW => ⟨⟨0, (), rfl, by rw [q_away, if_neg (fun q => h (congrArg nI q))], by rw [ht]; exact hP, va_K.moved hW.alike hK, hD⟩, hS.F ht⟩) hS.2.2 d_MC_away_12
set_option maxHeartbeats 4000000 in
set_option maxRecDepth 100000 in
theorem c_MC_load (l : Launch) (dC : Nat → ClassId) (dI : Nat → Nat → Nat) (h0 sz : Nat) (a b x y : Int32) : Met l y_MC_load w_MC_load ({ frames := 0, cells := 0, slots := 0, locals := 0 }) (va_Pc [.ref h0, .int x, .int y] (pc_MC dC dI h0 sz a b)) (va_Qv (fun (_ : Unit) => True) (fun _ => at_MC dC dI (va_A (mc_w h0 a b) sz) h0 (nI (ld7 x)) (nI (ld6 y))) (va_A (mc_w h0 a b) sz)) 0 0 (va_A (mc_w h0 a b) sz) := by
  refine Met.ofW (cc := b_MC_load) (maxL := 3) (ret := none) (by decide) rfl ?_
  intro p e s m args below meth c s₁ B hml hv
  obtain ⟨rfl, hsz, hP, hK, hD0⟩ := hv
  have hx := B.exec
  have hb := B.bytes
  have hr := B.returns
  have hts := atoms_spec (ws := w_MC_load) B.pre
  have hown : s.vm.findClass R_MC = some m.cls := findClass_of_methodNamed B.named
  have hlocks := B.notSynchronized
  subst hsz
  have hD := hD0.self (sz := s.heap.size)
  generalize hAe : va_A (mc_w h0 a b) s.heap.size = A at hD ⊢
  have hA : ∀ q : Nat, s.heap.size ≤ q → A q := fun q h => by rw [← hAe]; exact Or.inr h
  have hS : va_S A s.heap s.heap [] := va_S.rf
  have hP : va_P (dC, dI) classes (mc_w h0 a b) s.heap := hP
  have hl := lv_entry ([.ref h0, .int x, .int y]) (n := 3) (Nat.le_of_ble_eq_true rfl)
  rw [lg_entry_eq]
  generalize (lg_sl ([.ref h0, .int x, .int y]) ++ List.replicate (3 - (lg_sl ([.ref h0, .int x, .int y])).length) Slot.unset).toArray = ls at hl ⊢
  have hl : lv_has ls 3 [(0, .ref h0), (1, .int x), (2, .int y)] := hl
  refine lv_aload_n hx hb d_MC_load_0 rfl (lv_at hl 0 rfl) ?_
  refine lv_iload_n hx hb d_MC_load_1 rfl (lv_at hl 1 rfl) ?_
  refine lv_ldc hx hb hown (hts (.constant R_MC 16 2147483647) (by decide +kernel)) d_MC_load_2 ?_
  refine lv_iand hx hb d_MC_load_4 ?_
  refine lv_bipush (v := 7) hx hb d_MC_load_5 (by decide) ?_
  refine lv_irem hx hb d_MC_load_7 (by decide) ?_
  refine lw_ti (y := nI (ld7 x)) (ld7_eq x) ?_
  refine va_put (D := (dC, dI)) (ci := 0) (v := .int (nI (ld7 x))) (ty := .int) (C := R_MC) (T := F_MC) (N := 2) hx hb hts i_MC_load t_MC t_MC_ok n_MC hown hK hP hD hS 0 rfl rfl 0 (by decide) (hts _ m_MC_load_7) (fun _ h9 => h9) rfl (by decide +kernel) rfl rfl (Nat.le_of_ble_eq_true rfl) d_MC_load_8 (fun H locs hP hD hS => ?_)
  have hP : va_P (dC, dI) classes (mc_w h0 (nI (ld7 x)) b) H := hP
  have hD : va_D A (mc_w h0 (nI (ld7 x)) b) := hD
  refine lv_aload_n hx hb d_MC_load_11 rfl (lv_at hl 0 rfl) ?_
  refine lv_iload_n hx hb d_MC_load_12 rfl (lv_at hl 2 rfl) ?_
  refine lv_ldc hx hb hown (hts (.constant R_MC 16 2147483647) (by decide +kernel)) d_MC_load_13 ?_
  refine lv_iand hx hb d_MC_load_15 ?_
  refine lv_bipush (v := 6) hx hb d_MC_load_16 (by decide) ?_
  refine lv_irem hx hb d_MC_load_18 (by decide) ?_
  refine lw_ti (y := nI (ld6 y)) (ld6_eq y) ?_
  refine va_put (D := (dC, dI)) (ci := 0) (v := .int (nI (ld6 y))) (ty := .int) (C := R_MC) (T := F_MC) (N := 2) hx hb hts i_MC_load t_MC t_MC_ok n_MC hown hK hP hD hS 0 rfl rfl 1 (by decide) (hts _ m_MC_load_13) (fun _ h9 => h9) rfl (by decide +kernel) rfl rfl (Nat.le_of_ble_eq_true rfl) d_MC_load_19 (fun H locs hP hD hS => ?_)
  have hP : va_P (dC, dI) classes (mc_w h0 (nI (ld7 x)) (nI (ld6 y))) H := hP
  have hD : va_D A (mc_w h0 (nI (ld7 x)) (nI (ld6 y))) := hD
  exact W.vret hx hb hr (fun t ht hW => ⟨⟨(), rfl, trivial, by rw [ht]; exact hP, va_K.moved hW.alike hK, hD⟩, hS.F ht⟩) hS.2.2 d_MC_load_22
set_option maxHeartbeats 4000000 in
set_option maxRecDepth 100000 in
theorem c_MC_init (l : Launch) (dC : Nat → ClassId) (dI : Nat → Nat → Nat) (h0 sz : Nat) (a b : Int32) : Met l y_MC_init w_MC_init ({ frames := 1, cells := 0, slots := 0, locals := 12 }) (va_Pc [.ref h0] (pc_MC dC dI h0 sz a b)) (va_Qv (fun (_ : Unit) => True) (fun _ => at_MC dC dI (va_A (mc_w h0 a b) sz) h0 (nI 4) (nI 3)) (va_A (mc_w h0 a b) sz)) 0 0 (va_A (mc_w h0 a b) sz) := by
  refine Met.ofW (cc := b_MC_init) (maxL := 1) (ret := none) (by decide) rfl ?_
  intro p e s m args below meth c s₁ B hml hv
  obtain ⟨rfl, hsz, hP, hK, hD0⟩ := hv
  have hx := B.exec
  have hb := B.bytes
  have hr := B.returns
  have hts := atoms_spec (ws := w_MC_init) B.pre
  have hown : s.vm.findClass R_MC = some m.cls := findClass_of_methodNamed B.named
  have hlocks := B.notSynchronized
  have hin : meth.name = "<init>" := (name_of_methodNamed B.named B.method).1
  subst hsz
  have hD := hD0.self (sz := s.heap.size)
  generalize hAe : va_A (mc_w h0 a b) s.heap.size = A at hD ⊢
  have hA : ∀ q : Nat, s.heap.size ≤ q → A q := fun q h => by rw [← hAe]; exact Or.inr h
  have hS : va_S A s.heap s.heap [] := va_S.rf
  have hP : va_P (dC, dI) classes (mc_w h0 a b) s.heap := hP
  have hl := lv_entry ([.ref h0]) (n := 1) (Nat.le_of_ble_eq_true rfl)
  rw [lg_entry_eq]
  generalize (lg_sl ([.ref h0]) ++ List.replicate (1 - (lg_sl ([.ref h0])).length) Slot.unset).toArray = ls at hl ⊢
  have hl : lv_has ls 1 [(0, .ref h0)] := hl
  refine lv_aload_n hx hb d_MC_init_0 rfl (lv_at hl 0 rfl) ?_
  refine W.objInit hx hb hown (hts (.methodLink R_MC 1 objectInit) (by decide +kernel)) (hts (.instanceMethod objectInit) (by decide +kernel)) (hts _ (List.mem_cons_of_mem _ (List.mem_append_left _ (List.mem_of_getElem? (i := 2) rfl)))) rfl (by rw [hml]; exact hl.1) rfl d_MC_init_1 (Nat.le_of_ble_eq_true rfl) (Nat.le_of_ble_eq_true rfl) ?_
  refine W.eq (g2 := F0 m 4 ls []) rfl ?_
  refine lv_aload_n hx hb d_MC_init_4 rfl (lv_at hl 0 rfl) ?_
  refine lv_iconst (v := nI 4) hx hb d_MC_init_5 (by decide) ?_
  refine va_put (D := (dC, dI)) (ci := 0) (v := .int (nI 4)) (ty := .int) (C := R_MC) (T := F_MC) (N := 2) hx hb hts i_MC_init t_MC t_MC_ok n_MC hown hK hP hD hS 0 rfl rfl 0 (by decide) (hts _ m_MC_init_7) (fun _ h9 => h9) rfl (by decide +kernel) rfl rfl (Nat.le_of_ble_eq_true rfl) d_MC_init_6 (fun H locs hP hD hS => ?_)
  have hP : va_P (dC, dI) classes (mc_w h0 (nI 4) b) H := hP
  have hD : va_D A (mc_w h0 (nI 4) b) := hD
  refine lv_aload_n hx hb d_MC_init_9 rfl (lv_at hl 0 rfl) ?_
  refine lv_iconst (v := nI 3) hx hb d_MC_init_10 (by decide) ?_
  refine va_put (D := (dC, dI)) (ci := 0) (v := .int (nI 3)) (ty := .int) (C := R_MC) (T := F_MC) (N := 2) hx hb hts i_MC_init t_MC t_MC_ok n_MC hown hK hP hD hS 0 rfl rfl 1 (by decide) (hts _ m_MC_init_13) (fun _ h9 => h9) rfl (by decide +kernel) rfl rfl (Nat.le_of_ble_eq_true rfl) d_MC_init_11 (fun H locs hP hD hS => ?_)
  have hP : va_P (dC, dI) classes (mc_w h0 (nI 4) (nI 3)) H := hP
  have hD : va_D A (mc_w h0 (nI 4) (nI 3)) := hD
  exact W.vret hx hb hr (fun t ht hW => ⟨⟨(), rfl, trivial, by rw [ht]; exact hP, va_K.moved hW.alike hK, hD⟩, hS.F ht⟩) hS.2.2 d_MC_init_14
end
section
abbrev mm_w (h0 hc hf : Nat) (cJ cI : ClassId) (n b kn : Int32) (cf : Nat → Int64) (ff : Nat → Int32) : va_W := [(h0, .inr (1, [.int n, .int b, .int kn, .ref hc, .ref hf])), (hc, .inl (cJ, 16, .inr (.inl cf))), (hf, .inl (cI, 8, .inl ff))]
def rk_C (p : Program) (s : State) (m : MethodId) (args : Array Value) (c : Code) (dC : Nat → ClassId) (dI : Nat → Nat → Nat) (cJ cI : ClassId) : Prop := p.tables.exec = Jvm.exec ∧ c.code = b_MM_reckon ∧ s.vm.findClass R_MM = some m.cls ∧ (∀ w ∈ w_MM_reckon, w.before args s = true) ∧ va_K (dC, dI) classes [(cJ, .long), (cI, .int)] s
def rk_W (dC : Nat → ClassId) (dI : Nat → Nat → Nat) (A : Nat → Prop) (H0 : Heap) (h0 hc hf : Nat) (cJ cI : ClassId) (n b kn : Int32) (cf : Nat → Int64) (ff : Nat → Int32) (H : Heap) (locs : List Loc) : Prop := va_P (dC, dI) classes (mm_w h0 hc hf cJ cI n b kn cf ff) H ∧ va_D A (mm_w h0 hc hf cJ cI n b kn cf ff) ∧ va_S A H0 H locs
def bI : Bool → Int32
  | true => 1
  | false => 0
theorem bI_0 {b : Bool} : bI b = 0 ↔ b = false := by cases b <;> decide
theorem rk_sh1 : ∀ u, u < 32 → ∀ d, d < 5 → ((nI u >>> (nI d &&& 31)) &&& 1 = 0 ↔ sq_b u d = false) := by decide +kernel
theorem rk_sh2 : ∀ u, u < 32 → ∀ d, d < 5 → nI u ||| ((1 : Int32) <<< (nI d &&& 31)) = nI (Nat.lor u (Nat.pow 2 d)) := by decide +kernel
theorem rk_sh2b : ∀ u, u < 32 → ∀ d, d < 5 → Nat.lor u (Nat.pow 2 d) < 32 := by decide +kernel
theorem rk_sh3 : ∀ M, M < 6 → ((1 : Int32) <<< (nI M &&& 31)) - 1 = nI (Nat.sub (Nat.pow 2 M) 1) := by decide +kernel
theorem rk_sh3b : ∀ M, M < 6 → Nat.sub (Nat.pow 2 M) 1 < 2 ^ 31 := by decide +kernel
def sq_ok (i : Nat) (st : sq_S) : Prop := st.1 < 32 ∧ st.2.1 ≤ i ∧ st.2.2.1 ≤ i ∧ st.2.2.2.1 ≤ i ∧ st.2.2.2.2.1 < 5
theorem sq_ok_0 : sq_ok 0 sq_0 := ⟨by decide, by decide, by decide, by decide, by decide⟩
theorem sq_ok_step {i d : Nat} {st : sq_S} (hd : d < 5) (h : sq_ok i st) : sq_ok (i + 1) (sq_step i d st) := by
  obtain ⟨u, t, nx, fx, pv, g, fr⟩ := st
  obtain ⟨h1, h2, h3, h4, h5⟩ := h
  dsimp only at h1 h2 h3 h4 h5
  refine ⟨rk_sh2b u h1 d hd, ?_, ?_, ?_, hd⟩
  · show (bif sq_b u d then Nat.succ t else t) ≤ i + 1
    cases sq_b u d
    · exact Nat.le_succ_of_le h2
    · exact Nat.succ_le_succ h2
  · show (bif sq_b u d then nx else Nat.succ nx) ≤ i + 1
    cases sq_b u d
    · exact Nat.succ_le_succ h3
    · exact Nat.le_succ_of_le h3
  · show (bif Nat.beq d i then Nat.succ fx else fx) ≤ i + 1
    cases Nat.beq d i
    · exact Nat.le_succ_of_le h4
    · exact Nat.succ_le_succ h4
theorem sq_ok_run {M : Nat} (hM : M < 6) : ∀ (k i x : Nat) (st : sq_S), (0 < k → 0 < M) → sq_ok i st → sq_ok (i + k) (sq_run M k i x st)
  | 0, _, _, _, _, h => h
  | k + 1, i, x, st, h0, h => by
    have hm := h0 (Nat.succ_pos k)
    have hd : x % M < 5 := Nat.lt_of_lt_of_le (Nat.mod_lt x hm) (by omega)
    have h2 := sq_ok_run hM k (i + 1) (x / M) (sq_step i (x % M) st) (fun _ => hm) (sq_ok_step hd h)
    rw [show i + (k + 1) = i + 1 + k by omega]
    exact h2
section RK1
variable {p : Program} {l : Launch} {e : Env} {R : Room} {s : State} {m : MethodId} {args : Array Value} {below : List Frame} {meth : Method} {c : Code} {Q : State → Prop} {dC : Nat → ClassId} {dI : Nat → Nat → Nat} {A : Nat → Prop} {H0 : Heap} {h0 hc hf : Nat} {cJ cI : ClassId} {N M : Nat} {kn : Int32} {cf : Nat → Int64} {ff : Nat → Int32} {H : Heap} {locs : List Loc} {ls : Array Slot} {pc : Nat} {rest : List Value}
theorem rk_gn (C0 : rk_C p s m args c dC dI cJ cI) (hW : rk_W dC dI A H0 h0 hc hf cJ cI (nI N) (nI M) kn cf ff H locs) (hdg : decode b_MM_reckon pc = .ok (.getfield 7, 3)) (kk : W p l e R s m args below meth c H locs 0 0 Q (F0 m (pc + 3) ls (.int (nI N) :: rest))) : W p l e R s m args below meth c H locs 0 0 Q (F0 m pc ls (.ref h0 :: rest)) := by
  obtain ⟨hx, hb, hown, hts, hK⟩ := C0
  obtain ⟨hP, hD, hS⟩ := hW
  exact va_get (D := (dC, dI)) (ci := 1) (v := .int (nI N)) (C := R_MM) (T := F_MM) (N := 5) hx hb hts i_MM_reckon hown hK hP 0 rfl rfl 0 (by decide) (hts _ m_MM_reckon_7) (fun _ h9 => h9) rfl hdg kk
theorem rk_gm (C0 : rk_C p s m args c dC dI cJ cI) (hW : rk_W dC dI A H0 h0 hc hf cJ cI (nI N) (nI M) kn cf ff H locs) (hdg : decode b_MM_reckon pc = .ok (.getfield 13, 3)) (kk : W p l e R s m args below meth c H locs 0 0 Q (F0 m (pc + 3) ls (.int (nI M) :: rest))) : W p l e R s m args below meth c H locs 0 0 Q (F0 m pc ls (.ref h0 :: rest)) := by
  obtain ⟨hx, hb, hown, hts, hK⟩ := C0
  obtain ⟨hP, hD, hS⟩ := hW
  exact va_get (D := (dC, dI)) (ci := 1) (v := .int (nI M)) (C := R_MM) (T := F_MM) (N := 5) hx hb hts i_MM_reckon hown hK hP 0 rfl rfl 1 (by decide) (hts _ m_MM_reckon_13) (fun _ h9 => h9) rfl hdg kk
theorem rk_gk (C0 : rk_C p s m args c dC dI cJ cI) (hW : rk_W dC dI A H0 h0 hc hf cJ cI (nI N) (nI M) kn cf ff H locs) (hdg : decode b_MM_reckon pc = .ok (.getfield 25, 3)) (kk : W p l e R s m args below meth c H locs 0 0 Q (F0 m (pc + 3) ls (.int kn :: rest))) : W p l e R s m args below meth c H locs 0 0 Q (F0 m pc ls (.ref h0 :: rest)) := by
  obtain ⟨hx, hb, hown, hts, hK⟩ := C0
  obtain ⟨hP, hD, hS⟩ := hW
  exact va_get (D := (dC, dI)) (ci := 1) (v := .int kn) (C := R_MM) (T := F_MM) (N := 5) hx hb hts i_MM_reckon hown hK hP 0 rfl rfl 2 (by decide) (hts _ m_MM_reckon_25) (fun _ h9 => h9) rfl hdg kk
theorem rk_gc (C0 : rk_C p s m args c dC dI cJ cI) (hW : rk_W dC dI A H0 h0 hc hf cJ cI (nI N) (nI M) kn cf ff H locs) (hdg : decode b_MM_reckon pc = .ok (.getfield 16, 3)) (kk : W p l e R s m args below meth c H locs 0 0 Q (F0 m (pc + 3) ls (.ref hc :: rest))) : W p l e R s m args below meth c H locs 0 0 Q (F0 m pc ls (.ref h0 :: rest)) := by
  obtain ⟨hx, hb, hown, hts, hK⟩ := C0
  obtain ⟨hP, hD, hS⟩ := hW
  exact va_get (D := (dC, dI)) (ci := 1) (v := .ref hc) (C := R_MM) (T := F_MM) (N := 5) hx hb hts i_MM_reckon hown hK hP 0 rfl rfl 3 (by decide) (hts _ m_MM_reckon_16) (fun _ h9 => h9) rfl hdg kk
theorem rk_gf (C0 : rk_C p s m args c dC dI cJ cI) (hW : rk_W dC dI A H0 h0 hc hf cJ cI (nI N) (nI M) kn cf ff H locs) (hdg : decode b_MM_reckon pc = .ok (.getfield 20, 3)) (kk : W p l e R s m args below meth c H locs 0 0 Q (F0 m (pc + 3) ls (.ref hf :: rest))) : W p l e R s m args below meth c H locs 0 0 Q (F0 m pc ls (.ref h0 :: rest)) := by
  obtain ⟨hx, hb, hown, hts, hK⟩ := C0
  obtain ⟨hP, hD, hS⟩ := hW
  exact va_get (D := (dC, dI)) (ci := 1) (v := .ref hf) (C := R_MM) (T := F_MM) (N := 5) hx hb hts i_MM_reckon hown hK hP 0 rfl rfl 4 (by decide) (hts _ m_MM_reckon_20) (fun _ h9 => h9) rfl hdg kk
theorem rk_ldf (C0 : rk_C p s m args c dC dI cJ cI) (hW : rk_W dC dI A H0 h0 hc hf cJ cI (nI N) (nI M) kn cf ff H locs) {i : Nat} (hi : i < 8) (h0l : ls[0]? = some (.val (.ref h0))) (hil : ls[10]? = some (.val (.int (nI i)))) (d0 : decode b_MM_reckon pc = .ok (.aload_n 0, 1)) (d1 : decode b_MM_reckon (pc + 1) = .ok (.getfield 20, 3)) (d2 : decode b_MM_reckon (pc + 4) = .ok (.iload 10, 2)) (d3 : decode b_MM_reckon (pc + 6) = .ok (.iaload, 1)) (kk : W p l e R s m args below meth c H locs 0 0 Q (F0 m (pc + 7) ls (.int (ff i) :: rest))) : W p l e R s m args below meth c H locs 0 0 Q (F0 m pc ls rest) := by
  have hx := C0.1
  have hb := C0.2.1
  refine lv_aload_n hx hb d0 rfl h0l ?_
  refine rk_gf C0 hW d1 ?_
  refine lv_iload hx hb d2 hil ?_
  refine va_iald hx hb C0.2.2.2.2 hW.1 2 1 rfl rfl (vp_in_nI hi (by decide)) d3 ?_
  rw [nI_clamp (Nat.lt_trans hi (by decide))]
  exact kk
theorem rk_inc (C0 : rk_C p s m args c dC dI cJ cI) (hW : rk_W dC dI A H0 h0 hc hf cJ cI (nI N) (nI M) kn cf ff H locs) (h0l : ls[0]? = some (.val (.ref h0))) {j : Nat} (hj : j < 16) {v : Int} (hv : Int32.ofInt v = nI j) (d0 : decode b_MM_reckon pc = .ok (.aload_n 0, 1)) (d1 : decode b_MM_reckon (pc + 1) = .ok (.getfield 16, 3)) (d2 : decode b_MM_reckon (pc + 4) = .ok (.iconst v, 1)) (d3 : decode b_MM_reckon (pc + 5) = .ok (.aload_n 0, 1)) (d4 : decode b_MM_reckon (pc + 6) = .ok (.getfield 16, 3)) (d5 : decode b_MM_reckon (pc + 9) = .ok (.iconst v, 1)) (d6 : decode b_MM_reckon (pc + 10) = .ok (.laload, 1)) (d7 : decode b_MM_reckon (pc + 11) = .ok (.lconst 1, 1)) (d8 : decode b_MM_reckon (pc + 12) = .ok (.ladd, 1)) (d9 : decode b_MM_reckon (pc + 13) = .ok (.lastore, 1)) (kk : ∀ (H : Heap) (locs : List Loc), rk_W dC dI A H0 h0 hc hf cJ cI (nI N) (nI M) kn (vp_updL cf j (cf j + 1)) ff H locs → W p l e R s m args below meth c H locs 0 0 Q (F0 m (pc + 14) ls [])) : W p l e R s m args below meth c H locs 0 0 Q (F0 m pc ls []) := by
  have hx := C0.1
  have hb := C0.2.1
  have e : (nI j).toNatClampNeg = j := nI_clamp (Nat.lt_trans hj (by decide))
  refine lv_aload_n hx hb d0 rfl h0l ?_
  refine rk_gc C0 hW d1 ?_
  refine lv_iconst hx hb d2 hv ?_
  refine lv_aload_n hx hb d3 rfl h0l ?_
  refine rk_gc C0 hW d4 ?_
  refine lv_iconst hx hb d5 hv ?_
  refine va_lald hx hb C0.2.2.2.2 hW.1 1 0 rfl rfl (vp_in_nI hj (by decide)) d6 ?_
  refine lv_lconst (v := 1) hx hb d7 (by decide) ?_
  refine lv_ladd hx hb d8 ?_
  refine va_last hx hb C0.2.2.2.2 hW.1 hW.2.1 hW.2.2 1 0 rfl rfl (vp_in_nI hj (by decide)) d9 (fun H locs hP hD hS => ?_)
  rw [e] at hP hD
  exact kk H locs ⟨hP, hD, hS⟩
theorem rk_inb (C0 : rk_C p s m args c dC dI cJ cI) (hW : rk_W dC dI A H0 h0 hc hf cJ cI (nI N) (nI M) kn cf ff H locs) (h0l : ls[0]? = some (.val (.ref h0))) {j : Nat} (hj : j < 16) {v : Int} (hv : (Int8.ofInt v).toInt32 = nI j) (d0 : decode b_MM_reckon pc = .ok (.aload_n 0, 1)) (d1 : decode b_MM_reckon (pc + 1) = .ok (.getfield 16, 3)) (d2 : decode b_MM_reckon (pc + 4) = .ok (.bipush v, 2)) (d3 : decode b_MM_reckon (pc + 6) = .ok (.aload_n 0, 1)) (d4 : decode b_MM_reckon (pc + 7) = .ok (.getfield 16, 3)) (d5 : decode b_MM_reckon (pc + 10) = .ok (.bipush v, 2)) (d6 : decode b_MM_reckon (pc + 12) = .ok (.laload, 1)) (d7 : decode b_MM_reckon (pc + 13) = .ok (.lconst 1, 1)) (d8 : decode b_MM_reckon (pc + 14) = .ok (.ladd, 1)) (d9 : decode b_MM_reckon (pc + 15) = .ok (.lastore, 1)) (kk : ∀ (H : Heap) (locs : List Loc), rk_W dC dI A H0 h0 hc hf cJ cI (nI N) (nI M) kn (vp_updL cf j (cf j + 1)) ff H locs → W p l e R s m args below meth c H locs 0 0 Q (F0 m (pc + 16) ls [])) : W p l e R s m args below meth c H locs 0 0 Q (F0 m pc ls []) := by
  have hx := C0.1
  have hb := C0.2.1
  have e : (nI j).toNatClampNeg = j := nI_clamp (Nat.lt_trans hj (by decide))
  refine lv_aload_n hx hb d0 rfl h0l ?_
  refine rk_gc C0 hW d1 ?_
  refine lv_bipush hx hb d2 hv ?_
  refine lv_aload_n hx hb d3 rfl h0l ?_
  refine rk_gc C0 hW d4 ?_
  refine lv_bipush hx hb d5 hv ?_
  refine va_lald hx hb C0.2.2.2.2 hW.1 1 0 rfl rfl (vp_in_nI hj (by decide)) d6 ?_
  refine lv_lconst (v := 1) hx hb d7 (by decide) ?_
  refine lv_ladd hx hb d8 ?_
  refine va_last hx hb C0.2.2.2.2 hW.1 hW.2.1 hW.2.2 1 0 rfl rfl (vp_in_nI hj (by decide)) d9 (fun H locs hP hD hS => ?_)
  rw [e] at hP hD
  exact kk H locs ⟨hP, hD, hS⟩
end RK1
end
section
theorem beq_ff {a b : Nat} (h : a ≠ b) : Nat.beq a b = false := by
  cases hz : Nat.beq a b
  · rfl
  · exact absurd (Nat.eq_of_beq_eq_true hz) h
section RK2
variable {p : Program} {l : Launch} {e : Env} {R : Room} {s : State} {m : MethodId} {args : Array Value} {below : List Frame} {meth : Method} {c : Code} {Q : State → Prop} {dC : Nat → ClassId} {dI : Nat → Nat → Nat} {A : Nat → Prop} {H0 : Heap} {h0 hc hf : Nat} {cJ cI : ClassId} {N M : Nat} {kn : Int32} {cf : Nat → Int64} {ff : Nat → Int32} {H : Heap} {locs : List Loc} {ls : Array Slot} {pc : Nat} {rest : List Value}
set_option maxHeartbeats 4000000 in
set_option maxRecDepth 100000 in
theorem rk_B2 {a1 a2 a3 a7 a8 : Int32} {u i : Nat} {t nx d : Nat} {fr : Bool} (C0 : rk_C p s m args c dC dI cJ cI) (hW : rk_W dC dI A H0 h0 hc hf cJ cI (nI N) (nI M) kn cf ff H locs) (hi : i < 8) (hd : d < 5) (hu : u < 32) (hnx : nx < 2 ^ 31) (hfi : ff i = nI d)
    (kk : ∀ ls : Array Slot, lv_has ls 11 [(0, .ref h0), (1, .int a1), (2, .int a2), (3, .int a3), (4, .int (nI u)), (5, .int (nI (bif sq_b u d then Nat.succ t else t))), (6, .int (nI (bif sq_b u d then nx else Nat.succ nx))), (7, .int a7), (8, .int a8), (9, .int (bI (bif sq_b u d then fr else fr && Nat.beq d nx))), (10, .int (nI i))] → W p l e R s m args below meth c H locs 0 0 Q (F0 m 172 ls [])) :
    ∀ ls : Array Slot, lv_has ls 11 [(0, .ref h0), (1, .int a1), (2, .int a2), (3, .int a3), (4, .int (nI u)), (5, .int (nI t)), (6, .int (nI nx)), (7, .int a7), (8, .int a8), (9, .int (bI fr)), (10, .int (nI i))] → W p l e R s m args below meth c H locs 0 0 Q (F0 m 118 ls []) := by
  intro ls hl
  have hx := C0.1
  have hb := C0.2.1
  refine lv_iload hx hb d_MM_reckon_118 (lv_at hl 4 rfl) ?_
  refine rk_ldf C0 hW hi (lv_at hl 0 rfl) (lv_at hl 10 rfl) d_MM_reckon_120 d_MM_reckon_121 d_MM_reckon_124 d_MM_reckon_126 ?_
  refine lw_ti (y := nI d) (hfi) ?_
  refine lv_ishr hx hb d_MM_reckon_127 ?_
  refine lv_iconst (v := 1) hx hb d_MM_reckon_128 (by decide) ?_
  refine lv_iand hx hb d_MM_reckon_129 ?_
  refine lv_if_eq (tgt := 142) hx hb d_MM_reckon_130 (by decide) (fun h => ?_) (fun h => ?_)
  · have hq : sq_b u d = false := (rk_sh1 u hu d hd).mp h
    have j1 : W p l e R s m args below meth c H locs 0 0 Q (F0 m 164 ls [.int (bI (fr && Nat.beq d nx))]) := by
      refine lv_istore (lv' := [(9, .int (bI (fr && Nat.beq d nx))), (0, .ref h0), (1, .int a1), (2, .int a2), (3, .int a3), (4, .int (nI u)), (5, .int (nI t)), (6, .int (nI nx)), (7, .int a7), (8, .int a8), (10, .int (nI i))]) hx hb d_MM_reckon_164 hl (by decide) rfl (fun ls hl => ?_)
      refine lv_iload hx hb d_MM_reckon_166 (lv_at hl 7 rfl) ?_
      refine lv_iconst (v := 1) hx hb d_MM_reckon_168 (by decide) ?_
      refine lv_iadd hx hb d_MM_reckon_169 ?_
      refine lw_ti (y := nI (Nat.succ nx)) (nI_1 nx) ?_
      refine lv_istore (lv' := [(6, .int (nI (Nat.succ nx))), (9, .int (bI (fr && Nat.beq d nx))), (0, .ref h0), (1, .int a1), (2, .int a2), (3, .int a3), (4, .int (nI u)), (5, .int (nI t)), (7, .int a7), (8, .int a8), (10, .int (nI i))]) hx hb d_MM_reckon_170 hl (by decide) rfl (fun ls hl => ?_)
      refine kk ls ?_
      rw [hq]
      exact lv_sub hl [2, 3, 4, 5, 6, 7, 0, 8, 9, 1, 10] rfl
    refine lv_iload hx hb d_MM_reckon_142 (lv_at hl 9 rfl) ?_
    refine lv_if_eq (tgt := 163) hx hb d_MM_reckon_144 (by decide) (fun h2 => ?_) (fun h2 => ?_)
    · refine lv_iconst (v := 0) hx hb d_MM_reckon_163 (by decide) ?_
      refine lw_ti (y := bI (fr && Nat.beq d nx)) (by rw [bI_0.mp h2]; rfl) ?_
      exact j1
    · have hf1 : fr = true := by
        cases fr
        · exact absurd rfl h2
        · rfl
      refine rk_ldf C0 hW hi (lv_at hl 0 rfl) (lv_at hl 10 rfl) d_MM_reckon_147 d_MM_reckon_148 d_MM_reckon_151 d_MM_reckon_153 ?_
      refine lw_ti (y := nI d) (hfi) ?_
      refine lv_iload hx hb d_MM_reckon_154 (lv_at hl 6 rfl) ?_
      refine lv_icmp_ne (tgt := 163) hx hb d_MM_reckon_156 (by decide) (fun h3 => ?_) (fun h3 => ?_)
      · refine lv_iconst (v := 0) hx hb d_MM_reckon_163 (by decide) ?_
        refine lw_ti (y := bI (fr && Nat.beq d nx)) (by rw [beq_ff (fun z => h3 (congrArg nI z)), Bool.and_false]; rfl) ?_
        exact j1
      · refine lv_iconst (v := 1) hx hb d_MM_reckon_159 (by decide) ?_
        refine lv_goto (tgt := 164) hx hb d_MM_reckon_160 (by decide) ?_
        refine lw_ti (y := bI (fr && Nat.beq d nx)) (by rw [hf1, (nI_eq (by omega) hnx).mp h3, Nat.beq_refl]; rfl) ?_
        exact j1
  · have hq : sq_b u d = true := by
      cases hz : sq_b u d
      · exact absurd ((rk_sh1 u hu d hd).mpr hz) h
      · rfl
    refine lv_iload hx hb d_MM_reckon_133 (lv_at hl 5 rfl) ?_
    refine lv_iconst (v := 1) hx hb d_MM_reckon_135 (by decide) ?_
    refine lv_iadd hx hb d_MM_reckon_136 ?_
    refine lw_ti (y := nI (Nat.succ t)) (nI_1 t) ?_
    refine lv_istore (lv' := [(5, .int (nI (Nat.succ t))), (0, .ref h0), (1, .int a1), (2, .int a2), (3, .int a3), (4, .int (nI u)), (6, .int (nI nx)), (7, .int a7), (8, .int a8), (9, .int (bI fr)), (10, .int (nI i))]) hx hb d_MM_reckon_137 hl (by decide) rfl (fun ls hl => ?_)
    refine lv_goto (tgt := 172) hx hb d_MM_reckon_139 (by decide) ?_
    refine kk ls ?_
    rw [hq]
    exact lv_sub hl [1, 2, 3, 4, 5, 0, 6, 7, 8, 9, 10] rfl
set_option maxHeartbeats 4000000 in
set_option maxRecDepth 100000 in
theorem rk_B3 {a1 a2 a3 a5 a6 a7 a8 a9 : Int32} {u i : Nat} {d : Nat} (C0 : rk_C p s m args c dC dI cJ cI) (hW : rk_W dC dI A H0 h0 hc hf cJ cI (nI N) (nI M) kn cf ff H locs) (hi : i < 8) (hd : d < 5) (hu : u < 32) (hfi : ff i = nI d)
    (kk : ∀ ls : Array Slot, lv_has ls 11 [(0, .ref h0), (1, .int a1), (2, .int a2), (3, .int a3), (4, .int (nI (Nat.lor u (Nat.pow 2 d)))), (5, .int a5), (6, .int a6), (7, .int a7), (8, .int a8), (9, .int a9), (10, .int (nI i))] → W p l e R s m args below meth c H locs 0 0 Q (F0 m 186 ls [])) :
    ∀ ls : Array Slot, lv_has ls 11 [(0, .ref h0), (1, .int a1), (2, .int a2), (3, .int a3), (4, .int (nI u)), (5, .int a5), (6, .int a6), (7, .int a7), (8, .int a8), (9, .int a9), (10, .int (nI i))] → W p l e R s m args below meth c H locs 0 0 Q (F0 m 172 ls []) := by
  intro ls hl
  have hx := C0.1
  have hb := C0.2.1
  refine lv_iload hx hb d_MM_reckon_172 (lv_at hl 4 rfl) ?_
  refine lv_iconst (v := 1) hx hb d_MM_reckon_174 (by decide) ?_
  refine rk_ldf C0 hW hi (lv_at hl 0 rfl) (lv_at hl 10 rfl) d_MM_reckon_175 d_MM_reckon_176 d_MM_reckon_179 d_MM_reckon_181 ?_
  refine lw_ti (y := nI d) (hfi) ?_
  refine lv_ishl hx hb d_MM_reckon_182 ?_
  refine lv_ior hx hb d_MM_reckon_183 ?_
  refine lw_ti (y := nI (Nat.lor u (Nat.pow 2 d))) (rk_sh2 u hu d hd) ?_
  refine lv_istore (lv' := [(4, .int (nI (Nat.lor u (Nat.pow 2 d)))), (0, .ref h0), (1, .int a1), (2, .int a2), (3, .int a3), (5, .int a5), (6, .int a6), (7, .int a7), (8, .int a8), (9, .int a9), (10, .int (nI i))]) hx hb d_MM_reckon_184 hl (by decide) rfl (fun ls hl => ?_)
  exact kk ls (lv_sub hl [1, 2, 3, 4, 0, 5, 6, 7, 8, 9, 10] rfl)
set_option maxHeartbeats 4000000 in
set_option maxRecDepth 100000 in
theorem rk_B4 {a1 a2 a3 a4 a5 a6 a7 a9 : Int32} {i : Nat} {pv d : Nat} {g : Bool} (C0 : rk_C p s m args c dC dI cJ cI) (hW : rk_W dC dI A H0 h0 hc hf cJ cI (nI N) (nI M) kn cf ff H locs) (hi : i < 8) (hd : d < 5) (hpv : pv < 5) (hfi : ff i = nI d) (hfp : 0 < i → ff (i - 1) = nI pv)
    (kk : ∀ ls : Array Slot, lv_has ls 11 [(0, .ref h0), (1, .int a1), (2, .int a2), (3, .int a3), (4, .int a4), (5, .int a5), (6, .int a6), (7, .int a7), (8, .int (bI (g && (Nat.beq i 0 || Nat.ble pv d)))), (9, .int a9), (10, .int (nI i))] → W p l e R s m args below meth c H locs 0 0 Q (F0 m 222 ls [])) :
    ∀ ls : Array Slot, lv_has ls 11 [(0, .ref h0), (1, .int a1), (2, .int a2), (3, .int a3), (4, .int a4), (5, .int a5), (6, .int a6), (7, .int a7), (8, .int (bI g)), (9, .int a9), (10, .int (nI i))] → W p l e R s m args below meth c H locs 0 0 Q (F0 m 186 ls []) := by
  intro ls hl
  have hx := C0.1
  have hb := C0.2.1
  have j1 : W p l e R s m args below meth c H locs 0 0 Q (F0 m 220 ls [.int (bI (g && (Nat.beq i 0 || Nat.ble pv d)))]) := by
    refine lv_istore (lv' := [(8, .int (bI (g && (Nat.beq i 0 || Nat.ble pv d)))), (0, .ref h0), (1, .int a1), (2, .int a2), (3, .int a3), (4, .int a4), (5, .int a5), (6, .int a6), (7, .int a7), (9, .int a9), (10, .int (nI i))]) hx hb d_MM_reckon_220 hl (by decide) rfl (fun ls hl => ?_)
    exact kk ls (lv_sub hl [1, 2, 3, 4, 5, 6, 7, 8, 0, 9, 10] rfl)
  refine lv_iload hx hb d_MM_reckon_186 (lv_at hl 8 rfl) ?_
  refine lv_if_eq (tgt := 219) hx hb d_MM_reckon_188 (by decide) (fun h => ?_) (fun h => ?_)
  · refine lv_iconst (v := 0) hx hb d_MM_reckon_219 (by decide) ?_
    refine lw_ti (y := bI (g && (Nat.beq i 0 || Nat.ble pv d))) (by rw [bI_0.mp h]; rfl) ?_
    exact j1
  · have hg : g = true := by
      cases g
      · exact absurd rfl h
      · rfl
    refine lv_iload hx hb d_MM_reckon_191 (lv_at hl 10 rfl) ?_
    refine lv_if_eq (tgt := 215) hx hb d_MM_reckon_193 (by decide) (fun h2 => ?_) (fun h2 => ?_)
    · refine lv_iconst (v := 1) hx hb d_MM_reckon_215 (by decide) ?_
      refine lv_goto (tgt := 220) hx hb d_MM_reckon_216 (by decide) ?_
      refine lw_ti (y := bI (g && (Nat.beq i 0 || Nat.ble pv d))) (by rw [hg, (nz (by omega)).mp h2]; rfl) ?_
      exact j1
    · have hi0 : 0 < i := Nat.pos_of_ne_zero (fun z => h2 ((nz (by omega)).mpr z))
      refine rk_ldf C0 hW hi (lv_at hl 0 rfl) (lv_at hl 10 rfl) d_MM_reckon_196 d_MM_reckon_197 d_MM_reckon_200 d_MM_reckon_202 ?_
      refine lw_ti (y := nI d) (hfi) ?_
      refine lv_aload_n hx hb d_MM_reckon_203 rfl (lv_at hl 0 rfl) ?_
      refine rk_gf C0 hW d_MM_reckon_204 ?_
      refine lv_iload hx hb d_MM_reckon_207 (lv_at hl 10 rfl) ?_
      refine lv_iconst (v := 1) hx hb d_MM_reckon_209 (by decide) ?_
      refine lv_isub hx hb d_MM_reckon_210 ?_
      refine lw_ti (y := nI (i - 1)) (pk_sub (a := i) (b := 1) hi0) ?_
      refine va_iald hx hb C0.2.2.2.2 hW.1 2 1 rfl rfl (vp_in_nI (n := i - 1) (by omega) (by decide)) d_MM_reckon_211 ?_
      refine lw_ti (y := nI pv) (by rw [nI_clamp (by omega)]; exact hfp hi0) ?_
      refine lv_icmp_lt (tgt := 219) hx hb d_MM_reckon_212 (by decide) (fun h3 => ?_) (fun h3 => ?_)
      · refine lv_iconst (v := 0) hx hb d_MM_reckon_219 (by decide) ?_
        refine lw_ti (y := bI (g && (Nat.beq i 0 || Nat.ble pv d))) (by rw [show Nat.ble pv d = false from by cases hz : Nat.ble pv d <;> first | rfl | exact absurd h3 (nI_nlt (Nat.le_of_ble_eq_true hz) (by omega)), show Nat.beq i 0 = false from beq_ff (by omega), Bool.or_false, Bool.and_false]; rfl) ?_
        exact j1
      · refine lv_iconst (v := 1) hx hb d_MM_reckon_215 (by decide) ?_
        refine lv_goto (tgt := 220) hx hb d_MM_reckon_216 (by decide) ?_
        refine lw_ti (y := bI (g && (Nat.beq i 0 || Nat.ble pv d))) (by rw [hg, Nat.ble_eq_true_of_le (Nat.le_of_not_lt (fun z => h3 (nI_lt z (by omega)))), Bool.or_true]; rfl) ?_
        exact j1
set_option maxHeartbeats 4000000 in
set_option maxRecDepth 100000 in
theorem rk_B5 {a1 a2 a3 a4 a5 a6 a8 a9 : Int32} {i : Nat} {fx d : Nat} (C0 : rk_C p s m args c dC dI cJ cI) (hW : rk_W dC dI A H0 h0 hc hf cJ cI (nI N) (nI M) kn cf ff H locs) (hi : i < 8) (hd : d < 5) (hfi : ff i = nI d)
    (kk : ∀ ls : Array Slot, lv_has ls 11 [(0, .ref h0), (1, .int a1), (2, .int a2), (3, .int a3), (4, .int a4), (5, .int a5), (6, .int a6), (7, .int (nI (bif Nat.beq d i then Nat.succ fx else fx))), (8, .int a8), (9, .int a9), (10, .int (nI i))] → W p l e R s m args below meth c H locs 0 0 Q (F0 m 240 ls [])) :
    ∀ ls : Array Slot, lv_has ls 11 [(0, .ref h0), (1, .int a1), (2, .int a2), (3, .int a3), (4, .int a4), (5, .int a5), (6, .int a6), (7, .int (nI fx)), (8, .int a8), (9, .int a9), (10, .int (nI i))] → W p l e R s m args below meth c H locs 0 0 Q (F0 m 222 ls []) := by
  intro ls hl
  have hx := C0.1
  have hb := C0.2.1
  refine rk_ldf C0 hW hi (lv_at hl 0 rfl) (lv_at hl 10 rfl) d_MM_reckon_222 d_MM_reckon_223 d_MM_reckon_226 d_MM_reckon_228 ?_
  refine lw_ti (y := nI d) (hfi) ?_
  refine lv_iload hx hb d_MM_reckon_229 (lv_at hl 10 rfl) ?_
  refine lv_icmp_ne (tgt := 240) hx hb d_MM_reckon_231 (by decide) (fun h => ?_) (fun h => ?_)
  · refine kk ls ?_
    rw [beq_ff (fun z => h (congrArg nI z))]
    exact hl
  · refine lv_iload hx hb d_MM_reckon_234 (lv_at hl 7 rfl) ?_
    refine lv_iconst (v := 1) hx hb d_MM_reckon_236 (by decide) ?_
    refine lv_iadd hx hb d_MM_reckon_237 ?_
    refine lw_ti (y := nI (Nat.succ fx)) (nI_1 fx) ?_
    refine lv_istore (lv' := [(7, .int (nI (Nat.succ fx))), (0, .ref h0), (1, .int a1), (2, .int a2), (3, .int a3), (4, .int a4), (5, .int a5), (6, .int a6), (8, .int a8), (9, .int a9), (10, .int (nI i))]) hx hb d_MM_reckon_238 hl (by decide) rfl (fun ls hl => ?_)
    refine kk ls ?_
    rw [(nI_eq (by omega) (by omega)).mp h, Nat.beq_refl]
    exact lv_sub hl [1, 2, 3, 4, 5, 6, 7, 0, 8, 9, 10] rfl
abbrev rk_L (h0 : Nat) (a1 a2 : Int32) (x : Nat) (st : sq_S) (i : Nat) : List (Nat × Value) := [(0, .ref h0), (1, .int a1), (2, .int a2), (3, .int (nI x)), (4, .int (nI st.1)), (5, .int (nI st.2.1)), (6, .int (nI st.2.2.1)), (7, .int (nI st.2.2.2.1)), (8, .int (bI st.2.2.2.2.2.1)), (9, .int (bI st.2.2.2.2.2.2)), (10, .int (nI i))]
set_option maxHeartbeats 4000000 in
set_option maxRecDepth 100000 in
theorem rk_step {a1 a2 : Int32} {i x : Nat} {st : sq_S} (C0 : rk_C p s m args c dC dI cJ cI) (hM0 : 0 < M) (hM : M < 6) (hi : i < 8) (hx31 : x < 2 ^ 31) (hok : sq_ok i st) (hfp : 0 < i → ff (i - 1) = nI st.2.2.2.2.1)
    (kk : ∀ (H : Heap) (locs : List Loc) (ls : Array Slot), rk_W dC dI A H0 h0 hc hf cJ cI (nI N) (nI M) kn cf (upd ff i (nI (x % M))) H locs → lv_has ls 11 (rk_L h0 a1 a2 (x / M) (sq_step i (x % M) st) (i + 1)) → W p l e R s m args below meth c H locs 0 0 Q (F0 m 89 ls [])) :
    ∀ (H : Heap) (locs : List Loc) (ls : Array Slot), rk_W dC dI A H0 h0 hc hf cJ cI (nI N) (nI M) kn cf ff H locs → lv_has ls 11 (rk_L h0 a1 a2 x st i) → W p l e R s m args below meth c H locs 0 0 Q (F0 m 98 ls []) := by
  intro H locs ls hW hl
  have hx := C0.1
  have hb := C0.2.1
  obtain ⟨u, t, nx, fx, pv, g, fr⟩ := st
  obtain ⟨hu, ht, hnx, hfx, hpv⟩ := hok
  dsimp only at hu ht hnx hfx hpv hfp
  have hd : x % M < 5 := Nat.lt_of_lt_of_le (Nat.mod_lt x hM0) (by omega)
  have hMn : ¬ nI M = 0 := nI_ne0 hM0 (by omega)
  have hl : lv_has ls 11 [(0, .ref h0), (1, .int a1), (2, .int a2), (3, .int (nI x)), (4, .int (nI u)), (5, .int (nI t)), (6, .int (nI nx)), (7, .int (nI fx)), (8, .int (bI g)), (9, .int (bI fr)), (10, .int (nI i))] := hl
  refine lv_aload_n hx hb d_MM_reckon_98 rfl (lv_at hl 0 rfl) ?_
  refine rk_gf C0 hW d_MM_reckon_99 ?_
  refine lv_iload hx hb d_MM_reckon_102 (lv_at hl 10 rfl) ?_
  refine lv_iload_n hx hb d_MM_reckon_104 rfl (lv_at hl 3 rfl) ?_
  refine lv_aload_n hx hb d_MM_reckon_105 rfl (lv_at hl 0 rfl) ?_
  refine rk_gm C0 hW d_MM_reckon_106 ?_
  refine lv_irem hx hb d_MM_reckon_109 hMn ?_
  refine lw_ti (y := nI (x % M)) (pk_rem hx31 hM0 (by omega)) ?_
  refine va_iast hx hb C0.2.2.2.2 hW.1 hW.2.1 hW.2.2 2 1 rfl rfl (vp_in_nI hi (by decide)) d_MM_reckon_110 (fun H locs hP hD hS => ?_)
  rw [nI_clamp (Nat.lt_trans hi (by decide))] at hP hD
  have hW : rk_W dC dI A H0 h0 hc hf cJ cI (nI N) (nI M) kn cf (upd ff i (nI (x % M))) H locs := ⟨hP, hD, hS⟩
  have hfi : upd ff i (nI (x % M)) i = nI (x % M) := pk_us
  have hfp2 : 0 < i → upd ff i (nI (x % M)) (i - 1) = nI pv := fun h => by rw [pk_un (by omega)]; exact hfp h
  refine lv_iload_n hx hb d_MM_reckon_111 rfl (lv_at hl 3 rfl) ?_
  refine lv_aload_n hx hb d_MM_reckon_112 rfl (lv_at hl 0 rfl) ?_
  refine rk_gm C0 hW d_MM_reckon_113 ?_
  refine lv_idiv hx hb d_MM_reckon_116 hMn ?_
  refine lw_ti (y := nI (x / M)) (pk_div hx31 hM0 (by omega)) ?_
  refine lv_istore_n (lv' := [(3, .int (nI (x / M))), (0, .ref h0), (1, .int a1), (2, .int a2), (4, .int (nI u)), (5, .int (nI t)), (6, .int (nI nx)), (7, .int (nI fx)), (8, .int (bI g)), (9, .int (bI fr)), (10, .int (nI i))]) hx hb d_MM_reckon_117 rfl hl (by decide) rfl (fun ls hl => ?_)
  refine rk_B2 (t := t) (nx := nx) (fr := fr) C0 hW hi hd hu (by omega) hfi (fun ls hl => ?_) ls (lv_sub hl [1, 2, 3, 0, 4, 5, 6, 7, 8, 9, 10] rfl)
  refine rk_B3 C0 hW hi hd hu hfi (fun ls hl => ?_) ls hl
  refine rk_B4 (g := g) C0 hW hi hd hpv hfi hfp2 (fun ls hl => ?_) ls hl
  refine rk_B5 (fx := fx) C0 hW hi hd hfi (fun ls hl => ?_) ls hl
  refine lv_iinc (v := nI (i + 1)) (lv' := [(10, .int (nI (i + 1))), (0, .ref h0), (1, .int a1), (2, .int a2), (3, .int (nI (x / M))), (4, .int (nI (Nat.lor u (Nat.pow 2 (x % M))))), (5, .int (nI (bif sq_b u (x % M) then Nat.succ t else t))), (6, .int (nI (bif sq_b u (x % M) then nx else Nat.succ nx))), (7, .int (nI (bif Nat.beq (x % M) i then Nat.succ fx else fx))), (8, .int (bI (g && (Nat.beq i 0 || Nat.ble pv (x % M))))), (9, .int (bI (bif sq_b u (x % M) then fr else fr && Nat.beq (x % M) nx)))]) hx hb d_MM_reckon_240 hl (k := 10) rfl (ii_1 i) (by decide) rfl (fun ls hl => ?_)
  refine lv_goto (tgt := 89) hx hb d_MM_reckon_243 (by decide) ?_
  exact kk H locs ls hW (lv_sub hl [1, 2, 3, 4, 5, 6, 7, 8, 9, 10, 0] rfl)
set_option maxHeartbeats 4000000 in
set_option maxRecDepth 100000 in
theorem rk_inner {a1 a2 : Int32} (C0 : rk_C p s m args c dC dI cJ cI) (hN : N < 7) (hM : M < 6) : ∀ (k i x : Nat) (st : sq_S) (ff : Nat → Int32), i + k = N → (0 < k → 0 < M) → x < 2 ^ 31 → sq_ok i st → (0 < i → ff (i - 1) = nI st.2.2.2.2.1) →
    (∀ (H : Heap) (locs : List Loc) (ls : Array Slot) (ff : Nat → Int32) (x1 : Nat), rk_W dC dI A H0 h0 hc hf cJ cI (nI N) (nI M) kn cf ff H locs → lv_has ls 11 (rk_L h0 a1 a2 x1 (sq_run M k i x st) N) → W p l e R s m args below meth c H locs 0 0 Q (F0 m 246 ls [])) →
    ∀ (H : Heap) (locs : List Loc) (ls : Array Slot), rk_W dC dI A H0 h0 hc hf cJ cI (nI N) (nI M) kn cf ff H locs → lv_has ls 11 (rk_L h0 a1 a2 x st i) → W p l e R s m args below meth c H locs 0 0 Q (F0 m 89 ls []) := by
  have hx := C0.1
  have hb := C0.2.1
  intro k
  induction k with
  | zero =>
    intro i x st ff hik _ hx31 hok hfp kx H locs ls hW hl
    obtain rfl : i = N := by omega
    refine lv_iload hx hb d_MM_reckon_89 (lv_at hl 10 rfl) ?_
    refine lv_aload_n hx hb d_MM_reckon_91 rfl (lv_at hl 0 rfl) ?_
    refine rk_gn C0 hW d_MM_reckon_92 ?_
    refine lv_icmp_ge (tgt := 246) hx hb d_MM_reckon_95 (by decide) (fun h => ?_) (fun h => ?_)
    · exact kx H locs ls ff x hW hl
    · exact absurd (nI_le (Nat.le_refl _) (by omega)) h
  | succ k ih =>
    intro i x st ff hik hm hx31 hok hfp kx H locs ls hW hl
    have hM0 := hm (Nat.succ_pos k)
    have hd : x % M < 5 := Nat.lt_of_lt_of_le (Nat.mod_lt x hM0) (by omega)
    refine lv_iload hx hb d_MM_reckon_89 (lv_at hl 10 rfl) ?_
    refine lv_aload_n hx hb d_MM_reckon_91 rfl (lv_at hl 0 rfl) ?_
    refine rk_gn C0 hW d_MM_reckon_92 ?_
    refine lv_icmp_ge (tgt := 246) hx hb d_MM_reckon_95 (by decide) (fun h => ?_) (fun h => ?_)
    · exact absurd h (nI_ge (by omega) (by omega))
    · refine rk_step C0 hM0 hM (by omega) hx31 hok hfp (fun H locs ls hW hl => ?_) H locs ls hW hl
      exact ih (i + 1) (x / M) (sq_step i (x % M) st) _ (by omega) (fun _ => hM0) (Nat.lt_of_le_of_lt (Nat.div_le_self x M) hx31) (sq_ok_step hd hok) (fun _ => by rw [Nat.add_sub_cancel]; obtain ⟨u, t, nx, fx, pv, g, fr⟩ := st; exact pk_us) kx H locs ls hW hl
end RK2
end
section
def up (b : Bool) (j : Nat) (cf : Nat → Int64) : Nat → Int64 := bif b then vp_updL cf j (cf j + 1) else cf
theorem up_t {b : Bool} (h : b = true) (j : Nat) (cf : Nat → Int64) : vp_updL cf j (cf j + 1) = up b j cf := by subst h; rfl
theorem up_f {b : Bool} (h : b = false) (j : Nat) (cf : Nat → Int64) : cf = up b j cf := by subst h; rfl
theorem up_ne {b : Bool} {j k : Nat} {cf : Nat → Int64} (h : k ≠ j) : up b j cf k = cf k := by
  cases b
  · rfl
  · exact pk_uLn h
theorem up_eq {b : Bool} {j : Nat} {cf : Nat → Int64} : up b j cf j = cf j + lN (bif b then 1 else 0) := by
  cases b
  · exact (Int64.add_zero _).symm
  · exact pk_uLs
theorem bI_t {b : Bool} (h : ¬ bI b = 0) : b = true := by
  cases b
  · exact absurd rfl h
  · rfl
section RK3
variable {p : Program} {l : Launch} {e : Env} {R : Room} {s : State} {m : MethodId} {args : Array Value} {below : List Frame} {meth : Method} {c : Code} {Q : State → Prop} {dC : Nat → ClassId} {dI : Nat → Nat → Nat} {A : Nat → Prop} {H0 : Heap} {h0 hc hf : Nat} {cJ cI : ClassId} {N M : Nat} {kn : Int32} {cf : Nat → Int64} {ff : Nat → Int32} {H : Heap} {locs : List Loc} {ls : Array Slot} {pc : Nat} {rest : List Value}
def rk_K (p : Program) (l : Launch) (e : Env) (R : Room) (s : State) (m : MethodId) (args : Array Value) (below : List Frame) (meth : Method) (c : Code) (Q : State → Prop) (dC : Nat → ClassId) (dI : Nat → Nat → Nat) (A : Nat → Prop) (H0 : Heap) (h0 hc hf : Nat) (cJ cI : ClassId) (N M : Nat) (kn : Int32) (ff : Nat → Int32) (pc : Nat) (ls : Array Slot) (cf : Nat → Int64) : Prop := ∀ (H : Heap) (locs : List Loc), rk_W dC dI A H0 h0 hc hf cJ cI (nI N) (nI M) kn cf ff H locs → W p l e R s m args below meth c H locs 0 0 Q (F0 m pc ls [])
set_option maxHeartbeats 4000000 in
set_option maxRecDepth 100000 in
theorem rk_b0 {a1 a2 : Int32} {t fx : Nat} {g fr fu : Bool} (C0 : rk_C p s m args c dC dI cJ cI) (hl : lv_has ls 11 [(0, .ref h0), (1, .int a1), (2, .int a2), (5, .int (nI t)), (7, .int (nI fx)), (8, .int (bI g)), (9, .int (bI fr)), (10, .int (bI fu))])  (kk : rk_K p l e R s m args below meth c Q dC dI A H0 h0 hc hf cJ cI N M kn ff 280 ls (up true 0 cf)) : rk_K p l e R s m args below meth c Q dC dI A H0 h0 hc hf cJ cI N M kn ff 266 ls cf := by
  intro H locs hW
  have hx := C0.1
  have hb := C0.2.1
  refine rk_inc C0 hW (lv_at hl 0 rfl) (j := 0) (by decide) (by decide) d_MM_reckon_266 d_MM_reckon_267 d_MM_reckon_270 d_MM_reckon_271 d_MM_reckon_272 d_MM_reckon_275 d_MM_reckon_276 d_MM_reckon_277 d_MM_reckon_278 d_MM_reckon_279 (fun H locs hW => ?_)
  exact kk H locs hW
set_option maxHeartbeats 4000000 in
set_option maxRecDepth 100000 in
theorem rk_b1 {a1 a2 : Int32} {t fx : Nat} {g fr fu : Bool} (C0 : rk_C p s m args c dC dI cJ cI) (hl : lv_has ls 11 [(0, .ref h0), (1, .int a1), (2, .int a2), (5, .int (nI t)), (7, .int (nI fx)), (8, .int (bI g)), (9, .int (bI fr)), (10, .int (bI fu))]) (ht : t < 2 ^ 31) (kk : rk_K p l e R s m args below meth c Q dC dI A H0 h0 hc hf cJ cI N M kn ff 299 ls (up (Nat.beq t 0) 1 cf)) : rk_K p l e R s m args below meth c Q dC dI A H0 h0 hc hf cJ cI N M kn ff 280 ls cf := by
  intro H locs hW
  have hx := C0.1
  have hb := C0.2.1
  refine lv_iload hx hb d_MM_reckon_280 (lv_at hl 3 rfl) ?_
  refine lv_if_ne (tgt := 299) hx hb d_MM_reckon_282 (by decide) (fun h => ?_) (fun h => ?_)
  · rw [up_f (b := Nat.beq t 0) (beq_ff (fun z => h ((nz ht).mpr z))) 1 cf] at hW
    exact kk H locs hW
  · refine rk_inc C0 hW (lv_at hl 0 rfl) (j := 1) (by decide) (by decide) d_MM_reckon_285 d_MM_reckon_286 d_MM_reckon_289 d_MM_reckon_290 d_MM_reckon_291 d_MM_reckon_294 d_MM_reckon_295 d_MM_reckon_296 d_MM_reckon_297 d_MM_reckon_298 (fun H locs hW => ?_)
    rw [up_t (b := Nat.beq t 0) (by rw [(nz ht).mp h]; rfl) 1 cf] at hW
    exact kk H locs hW
set_option maxHeartbeats 4000000 in
set_option maxRecDepth 100000 in
theorem rk_b2 {a1 a2 : Int32} {t fx : Nat} {g fr fu : Bool} (C0 : rk_C p s m args c dC dI cJ cI) (hl : lv_has ls 11 [(0, .ref h0), (1, .int a1), (2, .int a2), (5, .int (nI t)), (7, .int (nI fx)), (8, .int (bI g)), (9, .int (bI fr)), (10, .int (bI fu))])  (kk : rk_K p l e R s m args below meth c Q dC dI A H0 h0 hc hf cJ cI N M kn ff 318 ls (up fu 2 cf)) : rk_K p l e R s m args below meth c Q dC dI A H0 h0 hc hf cJ cI N M kn ff 299 ls cf := by
  intro H locs hW
  have hx := C0.1
  have hb := C0.2.1
  refine lv_iload hx hb d_MM_reckon_299 (lv_at hl 7 rfl) ?_
  refine lv_if_eq (tgt := 318) hx hb d_MM_reckon_301 (by decide) (fun h => ?_) (fun h => ?_)
  · rw [up_f (b := fu) (bI_0.mp h) 2 cf] at hW
    exact kk H locs hW
  · refine rk_inc C0 hW (lv_at hl 0 rfl) (j := 2) (by decide) (by decide) d_MM_reckon_304 d_MM_reckon_305 d_MM_reckon_308 d_MM_reckon_309 d_MM_reckon_310 d_MM_reckon_313 d_MM_reckon_314 d_MM_reckon_315 d_MM_reckon_316 d_MM_reckon_317 (fun H locs hW => ?_)
    rw [up_t (b := fu) (bI_t h) 2 cf] at hW
    exact kk H locs hW
set_option maxHeartbeats 4000000 in
set_option maxRecDepth 100000 in
theorem rk_b3 {a1 a2 : Int32} {t fx : Nat} {g fr fu : Bool} (C0 : rk_C p s m args c dC dI cJ cI) (hl : lv_has ls 11 [(0, .ref h0), (1, .int a1), (2, .int a2), (5, .int (nI t)), (7, .int (nI fx)), (8, .int (bI g)), (9, .int (bI fr)), (10, .int (bI fu))])  (kk : rk_K p l e R s m args below meth c Q dC dI A H0 h0 hc hf cJ cI N M kn ff 356 ls (up (g && fu) 4 (up g 3 cf))) : rk_K p l e R s m args below meth c Q dC dI A H0 h0 hc hf cJ cI N M kn ff 318 ls cf := by
  intro H locs hW
  have hx := C0.1
  have hb := C0.2.1
  refine lv_iload hx hb d_MM_reckon_318 (lv_at hl 5 rfl) ?_
  refine lv_if_eq (tgt := 356) hx hb d_MM_reckon_320 (by decide) (fun h => ?_) (fun h => ?_)
  · rw [up_f (b := g) (bI_0.mp h) 3 cf, up_f (b := g && fu) (by rw [bI_0.mp h]; rfl) 4 (up g 3 cf)] at hW
    exact kk H locs hW
  · refine rk_inc C0 hW (lv_at hl 0 rfl) (j := 3) (by decide) (by decide) d_MM_reckon_323 d_MM_reckon_324 d_MM_reckon_327 d_MM_reckon_328 d_MM_reckon_329 d_MM_reckon_332 d_MM_reckon_333 d_MM_reckon_334 d_MM_reckon_335 d_MM_reckon_336 (fun H locs hW => ?_)
    rw [up_t (b := g) (bI_t h) 3 cf] at hW
    refine lv_iload hx hb d_MM_reckon_337 (lv_at hl 7 rfl) ?_
    refine lv_if_eq (tgt := 356) hx hb d_MM_reckon_339 (by decide) (fun h2 => ?_) (fun h2 => ?_)
    · rw [up_f (b := g && fu) (by rw [bI_0.mp h2, Bool.and_false]) 4 (up g 3 cf)] at hW
      exact kk H locs hW
    · refine rk_inc C0 hW (lv_at hl 0 rfl) (j := 4) (by decide) (by decide) d_MM_reckon_342 d_MM_reckon_343 d_MM_reckon_346 d_MM_reckon_347 d_MM_reckon_348 d_MM_reckon_351 d_MM_reckon_352 d_MM_reckon_353 d_MM_reckon_354 d_MM_reckon_355 (fun H locs hW => ?_)
      rw [up_t (b := g && fu) (by rw [bI_t h, bI_t h2]; rfl) 4 (up g 3 cf)] at hW
      exact kk H locs hW
set_option maxHeartbeats 4000000 in
set_option maxRecDepth 100000 in
theorem rk_b5 {a1 a2 : Int32} {t fx : Nat} {g fr fu : Bool} (C0 : rk_C p s m args c dC dI cJ cI) (hl : lv_has ls 11 [(0, .ref h0), (1, .int a1), (2, .int a2), (5, .int (nI t)), (7, .int (nI fx)), (8, .int (bI g)), (9, .int (bI fr)), (10, .int (bI fu))])  (kk : rk_K p l e R s m args below meth c Q dC dI A H0 h0 hc hf cJ cI N M kn ff 396 ls (up (fr && fu) 6 (up fr 5 cf))) : rk_K p l e R s m args below meth c Q dC dI A H0 h0 hc hf cJ cI N M kn ff 356 ls cf := by
  intro H locs hW
  have hx := C0.1
  have hb := C0.2.1
  refine lv_iload hx hb d_MM_reckon_356 (lv_at hl 6 rfl) ?_
  refine lv_if_eq (tgt := 396) hx hb d_MM_reckon_358 (by decide) (fun h => ?_) (fun h => ?_)
  · rw [up_f (b := fr) (bI_0.mp h) 5 cf, up_f (b := fr && fu) (by rw [bI_0.mp h]; rfl) 6 (up fr 5 cf)] at hW
    exact kk H locs hW
  · refine rk_inc C0 hW (lv_at hl 0 rfl) (j := 5) (by decide) (by decide) d_MM_reckon_361 d_MM_reckon_362 d_MM_reckon_365 d_MM_reckon_366 d_MM_reckon_367 d_MM_reckon_370 d_MM_reckon_371 d_MM_reckon_372 d_MM_reckon_373 d_MM_reckon_374 (fun H locs hW => ?_)
    rw [up_t (b := fr) (bI_t h) 5 cf] at hW
    refine lv_iload hx hb d_MM_reckon_375 (lv_at hl 7 rfl) ?_
    refine lv_if_eq (tgt := 396) hx hb d_MM_reckon_377 (by decide) (fun h2 => ?_) (fun h2 => ?_)
    · rw [up_f (b := fr && fu) (by rw [bI_0.mp h2, Bool.and_false]) 6 (up fr 5 cf)] at hW
      exact kk H locs hW
    · refine rk_inb C0 hW (lv_at hl 0 rfl) (j := 6) (by decide) (by decide) d_MM_reckon_380 d_MM_reckon_381 d_MM_reckon_384 d_MM_reckon_386 d_MM_reckon_387 d_MM_reckon_390 d_MM_reckon_392 d_MM_reckon_393 d_MM_reckon_394 d_MM_reckon_395 (fun H locs hW => ?_)
      rw [up_t (b := fr && fu) (by rw [bI_t h, bI_t h2]; rfl) 6 (up fr 5 cf)] at hW
      exact kk H locs hW
set_option maxHeartbeats 4000000 in
set_option maxRecDepth 100000 in
theorem rk_b7 {a1 a2 : Int32} {t fx : Nat} {g fr fu : Bool} (C0 : rk_C p s m args c dC dI cJ cI) (hl : lv_has ls 11 [(0, .ref h0), (1, .int a1), (2, .int a2), (5, .int (nI t)), (7, .int (nI fx)), (8, .int (bI g)), (9, .int (bI fr)), (10, .int (bI fu))]) (ht : t < 2 ^ 31) (hfx : fx < 2 ^ 31) (hN : N < 7) (hM : M < 6) (kk : rk_K p l e R s m args below meth c Q dC dI A H0 h0 hc hf cJ cI N M kn ff 449 ls (up (Nat.beq fx 0 && (Nat.beq t 0 && Nat.beq N M)) 8 (up (Nat.beq fx 0) 7 cf))) : rk_K p l e R s m args below meth c Q dC dI A H0 h0 hc hf cJ cI N M kn ff 396 ls cf := by
  intro H locs hW
  have hx := C0.1
  have hb := C0.2.1
  refine lv_iload hx hb d_MM_reckon_396 (lv_at hl 4 rfl) ?_
  refine lv_if_ne (tgt := 449) hx hb d_MM_reckon_398 (by decide) (fun h => ?_) (fun h => ?_)
  · rw [up_f (b := Nat.beq fx 0) (beq_ff (fun z => h ((nz hfx).mpr z))) 7 cf, up_f (b := Nat.beq fx 0 && (Nat.beq t 0 && Nat.beq N M)) (by rw [beq_ff (fun z => h ((nz hfx).mpr z))]; rfl) 8 (up (Nat.beq fx 0) 7 cf)] at hW
    exact kk H locs hW
  · refine rk_inb C0 hW (lv_at hl 0 rfl) (j := 7) (by decide) (by decide) d_MM_reckon_401 d_MM_reckon_402 d_MM_reckon_405 d_MM_reckon_407 d_MM_reckon_408 d_MM_reckon_411 d_MM_reckon_413 d_MM_reckon_414 d_MM_reckon_415 d_MM_reckon_416 (fun H locs hW => ?_)
    rw [up_t (b := Nat.beq fx 0) (by rw [(nz hfx).mp h]; rfl) 7 cf] at hW
    refine lv_iload hx hb d_MM_reckon_417 (lv_at hl 3 rfl) ?_
    refine lv_if_ne (tgt := 449) hx hb d_MM_reckon_419 (by decide) (fun h2 => ?_) (fun h2 => ?_)
    · rw [up_f (b := Nat.beq fx 0 && (Nat.beq t 0 && Nat.beq N M)) (by rw [beq_ff (a := t) (fun z => h2 ((nz ht).mpr z)), Bool.false_and, Bool.and_false]) 8 (up (Nat.beq fx 0) 7 cf)] at hW
      exact kk H locs hW
    · refine lv_aload_n hx hb d_MM_reckon_422 rfl (lv_at hl 0 rfl) ?_
      refine rk_gn C0 hW d_MM_reckon_423 ?_
      refine lv_aload_n hx hb d_MM_reckon_426 rfl (lv_at hl 0 rfl) ?_
      refine rk_gm C0 hW d_MM_reckon_427 ?_
      refine lv_icmp_ne (tgt := 449) hx hb d_MM_reckon_430 (by decide) (fun h3 => ?_) (fun h3 => ?_)
      · rw [up_f (b := Nat.beq fx 0 && (Nat.beq t 0 && Nat.beq N M)) (by rw [beq_ff (a := N) (fun z => h3 (congrArg nI z)), Bool.and_false, Bool.and_false]) 8 (up (Nat.beq fx 0) 7 cf)] at hW
        exact kk H locs hW
      · refine rk_inb C0 hW (lv_at hl 0 rfl) (j := 8) (by decide) (by decide) d_MM_reckon_433 d_MM_reckon_434 d_MM_reckon_437 d_MM_reckon_439 d_MM_reckon_440 d_MM_reckon_443 d_MM_reckon_445 d_MM_reckon_446 d_MM_reckon_447 d_MM_reckon_448 (fun H locs hW => ?_)
        rw [up_t (b := Nat.beq fx 0 && (Nat.beq t 0 && Nat.beq N M)) (by rw [(nz hfx).mp h, (nz ht).mp h2, (nI_eq (by omega) (by omega)).mp h3, Nat.beq_refl M]; rfl) 8 (up (Nat.beq fx 0) 7 cf)] at hW
        exact kk H locs hW
set_option maxHeartbeats 4000000 in
set_option maxRecDepth 100000 in
theorem rk_b9 {a1 a2 : Int32} {t fx : Nat} {g fr fu : Bool} (C0 : rk_C p s m args c dC dI cJ cI) (hl : lv_has ls 11 [(0, .ref h0), (1, .int a1), (2, .int a2), (5, .int (nI t)), (7, .int (nI fx)), (8, .int (bI g)), (9, .int (bI fr)), (10, .int (bI fu))]) (ht : t < 2 ^ 31) (kk : rk_K p l e R s m args below meth c Q dC dI A H0 h0 hc hf cJ cI N M kn ff 475 ls (up (Nat.beq t 0 && g) 9 cf)) : rk_K p l e R s m args below meth c Q dC dI A H0 h0 hc hf cJ cI N M kn ff 449 ls cf := by
  intro H locs hW
  have hx := C0.1
  have hb := C0.2.1
  refine lv_iload hx hb d_MM_reckon_449 (lv_at hl 3 rfl) ?_
  refine lv_if_ne (tgt := 475) hx hb d_MM_reckon_451 (by decide) (fun h => ?_) (fun h => ?_)
  · rw [up_f (b := Nat.beq t 0 && g) (by rw [beq_ff (a := t) (fun z => h ((nz ht).mpr z))]; rfl) 9 cf] at hW
    exact kk H locs hW
  · refine lv_iload hx hb d_MM_reckon_454 (lv_at hl 5 rfl) ?_
    refine lv_if_eq (tgt := 475) hx hb d_MM_reckon_456 (by decide) (fun h2 => ?_) (fun h2 => ?_)
    · rw [up_f (b := Nat.beq t 0 && g) (by rw [bI_0.mp h2, Bool.and_false]) 9 cf] at hW
      exact kk H locs hW
    · refine rk_inb C0 hW (lv_at hl 0 rfl) (j := 9) (by decide) (by decide) d_MM_reckon_459 d_MM_reckon_460 d_MM_reckon_463 d_MM_reckon_465 d_MM_reckon_466 d_MM_reckon_469 d_MM_reckon_471 d_MM_reckon_472 d_MM_reckon_473 d_MM_reckon_474 (fun H locs hW => ?_)
      rw [up_t (b := Nat.beq t 0 && g) (by rw [(nz ht).mp h, bI_t h2]; rfl) 9 cf] at hW
      exact kk H locs hW
set_option maxHeartbeats 4000000 in
set_option maxRecDepth 100000 in
theorem up_all (N M u t nx fx pv : Nat) (g fr : Bool) (cf : Nat → Int64) : ∀ j, j < 10 → (up (Nat.beq t 0 && g) 9 (up (Nat.beq fx 0 && (Nat.beq t 0 && Nat.beq N M)) 8 (up (Nat.beq fx 0) 7 (up (fr && Nat.beq u (Nat.sub (Nat.pow 2 M) 1)) 6 (up fr 5 (up (g && Nat.beq u (Nat.sub (Nat.pow 2 M) 1)) 4 (up g 3 (up (Nat.beq u (Nat.sub (Nat.pow 2 M) 1)) 2 (up (Nat.beq t 0) 1 (up true 0 cf)))))))))) j = cf j + lN (sq_n N M j (u, t, nx, fx, pv, g, fr)) := by
  intro j hj
  rcases (show j = 0 ∨ j = 1 ∨ j = 2 ∨ j = 3 ∨ j = 4 ∨ j = 5 ∨ j = 6 ∨ j = 7 ∨ j = 8 ∨ j = 9 by omega) with rfl | rfl | rfl | rfl | rfl | rfl | rfl | rfl | rfl | rfl
  · rw [up_ne (by decide), up_ne (by decide), up_ne (by decide), up_ne (by decide), up_ne (by decide), up_ne (by decide), up_ne (by decide), up_ne (by decide), up_ne (by decide), up_eq]; rfl
  · rw [up_ne (by decide), up_ne (by decide), up_ne (by decide), up_ne (by decide), up_ne (by decide), up_ne (by decide), up_ne (by decide), up_ne (by decide), up_eq, up_ne (by decide)]; rfl
  · rw [up_ne (by decide), up_ne (by decide), up_ne (by decide), up_ne (by decide), up_ne (by decide), up_ne (by decide), up_ne (by decide), up_eq, up_ne (by decide), up_ne (by decide)]; rfl
  · rw [up_ne (by decide), up_ne (by decide), up_ne (by decide), up_ne (by decide), up_ne (by decide), up_ne (by decide), up_eq, up_ne (by decide), up_ne (by decide), up_ne (by decide)]; rfl
  · rw [up_ne (by decide), up_ne (by decide), up_ne (by decide), up_ne (by decide), up_ne (by decide), up_eq, up_ne (by decide), up_ne (by decide), up_ne (by decide), up_ne (by decide)]; rfl
  · rw [up_ne (by decide), up_ne (by decide), up_ne (by decide), up_ne (by decide), up_eq, up_ne (by decide), up_ne (by decide), up_ne (by decide), up_ne (by decide), up_ne (by decide)]; rfl
  · rw [up_ne (by decide), up_ne (by decide), up_ne (by decide), up_eq, up_ne (by decide), up_ne (by decide), up_ne (by decide), up_ne (by decide), up_ne (by decide), up_ne (by decide)]; rfl
  · rw [up_ne (by decide), up_ne (by decide), up_eq, up_ne (by decide), up_ne (by decide), up_ne (by decide), up_ne (by decide), up_ne (by decide), up_ne (by decide), up_ne (by decide)]; rfl
  · rw [up_ne (by decide), up_eq, up_ne (by decide), up_ne (by decide), up_ne (by decide), up_ne (by decide), up_ne (by decide), up_ne (by decide), up_ne (by decide), up_ne (by decide)]; rfl
  · rw [up_eq, up_ne (by decide), up_ne (by decide), up_ne (by decide), up_ne (by decide), up_ne (by decide), up_ne (by decide), up_ne (by decide), up_ne (by decide), up_ne (by decide)]; rfl
set_option maxHeartbeats 4000000 in
set_option maxRecDepth 100000 in
theorem rk_tail {a1 a2 : Int32} {x : Nat} {st : sq_S} (C0 : rk_C p s m args c dC dI cJ cI) (hN : N < 7) (hM : M < 6) (hok : sq_ok N st)
    (kk : ∀ (H : Heap) (locs : List Loc) (ls : Array Slot) (cf1 : Nat → Int64), (∀ j, j < 10 → cf1 j = cf j + lN (sq_n N M j st)) → rk_W dC dI A H0 h0 hc hf cJ cI (nI N) (nI M) kn cf1 ff H locs → lv_has ls 11 [(0, .ref h0), (1, .int a1), (2, .int a2)] → W p l e R s m args below meth c H locs 0 0 Q (F0 m 475 ls [])) :
    ∀ (H : Heap) (locs : List Loc) (ls : Array Slot), rk_W dC dI A H0 h0 hc hf cJ cI (nI N) (nI M) kn cf ff H locs → lv_has ls 11 (rk_L h0 a1 a2 x st N) → W p l e R s m args below meth c H locs 0 0 Q (F0 m 246 ls []) := by
  intro H locs ls hW hl
  have hx := C0.1
  have hb := C0.2.1
  obtain ⟨u, t, nx, fx, pv, g, fr⟩ := st
  obtain ⟨hu, ht, hnx, hfx, hpv⟩ := hok
  dsimp only at hu ht hnx hfx hpv
  have hl : lv_has ls 11 [(0, .ref h0), (1, .int a1), (2, .int a2), (4, .int (nI u)), (5, .int (nI t)), (7, .int (nI fx)), (8, .int (bI g)), (9, .int (bI fr))] := lv_sub hl [0, 1, 2, 4, 5, 7, 8, 9] rfl
  have j1 : W p l e R s m args below meth c H locs 0 0 Q (F0 m 264 ls [.int (bI (Nat.beq u (Nat.sub (Nat.pow 2 M) 1)))]) := by
    refine lv_istore (lv' := [(10, .int (bI (Nat.beq u (Nat.sub (Nat.pow 2 M) 1)))), (0, .ref h0), (1, .int a1), (2, .int a2), (4, .int (nI u)), (5, .int (nI t)), (7, .int (nI fx)), (8, .int (bI g)), (9, .int (bI fr))]) hx hb d_MM_reckon_264 hl (by decide) rfl (fun ls hl => ?_)
    have hl : lv_has ls 11 [(0, .ref h0), (1, .int a1), (2, .int a2), (5, .int (nI t)), (7, .int (nI fx)), (8, .int (bI g)), (9, .int (bI fr)), (10, .int (bI (Nat.beq u (Nat.sub (Nat.pow 2 M) 1))))] := lv_sub hl [1, 2, 3, 5, 6, 7, 8, 0] rfl
    refine rk_b0 C0 hl ?_ H locs hW
    refine rk_b1 C0 hl (by omega) ?_
    refine rk_b2 C0 hl ?_
    refine rk_b3 C0 hl ?_
    refine rk_b5 C0 hl ?_
    refine rk_b7 C0 hl (by omega) (by omega) hN hM ?_
    refine rk_b9 C0 hl (by omega) ?_
    intro H locs hW
    exact kk H locs ls _ (up_all N M u t nx fx pv g fr cf) hW (lv_sub hl [0, 1, 2] rfl)
  refine lv_iload hx hb d_MM_reckon_246 (lv_at hl 3 rfl) ?_
  refine lv_iconst (v := 1) hx hb d_MM_reckon_248 (by decide) ?_
  refine lv_aload_n hx hb d_MM_reckon_249 rfl (lv_at hl 0 rfl) ?_
  refine rk_gm C0 hW d_MM_reckon_250 ?_
  refine lv_ishl hx hb d_MM_reckon_253 ?_
  refine lv_iconst (v := 1) hx hb d_MM_reckon_254 (by decide) ?_
  refine lv_isub hx hb d_MM_reckon_255 ?_
  refine lw_ti (y := nI (Nat.sub (Nat.pow 2 M) 1)) (rk_sh3 M hM) ?_
  refine lv_icmp_ne (tgt := 263) hx hb d_MM_reckon_256 (by decide) (fun h => ?_) (fun h => ?_)
  · refine lv_iconst (v := 0) hx hb d_MM_reckon_263 (by decide) ?_
    refine lw_ti (y := bI (Nat.beq u (Nat.sub (Nat.pow 2 M) 1))) (by rw [beq_ff (fun z => h (congrArg nI z))]; rfl) ?_
    exact j1
  · refine lv_iconst (v := 1) hx hb d_MM_reckon_259 (by decide) ?_
    refine lv_goto (tgt := 264) hx hb d_MM_reckon_260 (by decide) ?_
    refine lw_ti (y := bI (Nat.beq u (Nat.sub (Nat.pow 2 M) 1))) (by rw [(nI_eq (by omega) (rk_sh3b M hM)).mp h, Nat.beq_refl]; rfl) ?_
    exact j1
end RK3
end
section
abbrev at_MM (dC : Nat → ClassId) (dI : Nat → Nat → Nat) (A : Nat → Prop) (h0 hc hf : Nat) (cJ cI : ClassId) (n b kn : Int32) (cf : Nat → Int64) (ff : Nat → Int32) (t : State) : Prop := va_P (dC, dI) classes (mm_w h0 hc hf cJ cI n b kn cf ff) t.heap ∧ va_K (dC, dI) classes [(cJ, .long), (cI, .int)] t ∧ va_D A (mm_w h0 hc hf cJ cI n b kn cf ff)
abbrev pc_MM (dC : Nat → ClassId) (dI : Nat → Nat → Nat) (h0 hc hf sz : Nat) (cJ cI : ClassId) (n b kn : Int32) (cf : Nat → Int64) (ff : Nat → Int32) (U : State) : Prop := U.heap.size = sz ∧ va_P (dC, dI) classes (mm_w h0 hc hf cJ cI n b kn cf ff) U.heap ∧ va_K (dC, dI) classes [(cJ, .long), (cI, .int)] U ∧ va_D (fun _ => True) (mm_w h0 hc hf cJ cI n b kn cf ff)
def gd (N M : Nat) (cf : Nat → Int64) : Prop := ∀ j, j < 10 → cf j = lN (sq_cnt N M j (M ^ N))
theorem pos_of_lt_pow {M N T : Nat} (h : T < M ^ N) : 0 < N → 0 < M := by
  intro hN
  rcases Nat.eq_zero_or_pos M with hz | hz
  · subst hz
    rw [Nat.zero_pow hN] at h
    exact absurd h (Nat.not_lt_zero T)
  · exact hz
section RK4
variable {p : Program} {l : Launch} {e : Env} {R : Room} {s : State} {m : MethodId} {args : Array Value} {below : List Frame} {meth : Method} {c : Code} {Q : State → Prop} {dC : Nat → ClassId} {dI : Nat → Nat → Nat} {A : Nat → Prop} {H0 : Heap} {h0 hc hf : Nat} {cJ cI : ClassId} {N M : Nat} {kn : Int32} {cf : Nat → Int64} {ff : Nat → Int32} {H : Heap} {locs : List Loc} {ls : Array Slot} {pc : Nat} {rest : List Value}
set_option maxHeartbeats 4000000 in
set_option maxRecDepth 100000 in
theorem rk_outer (C0 : rk_C p s m args c dC dI cJ cI) (hN : N < 7) (hM : M < 6)
    (kx : ∀ (H : Heap) (locs : List Loc) (ls : Array Slot) (cf : Nat → Int64) (ff : Nat → Int32), gd N M cf → rk_W dC dI A H0 h0 hc hf cJ cI (nI N) (nI M) kn cf ff H locs → W p l e R s m args below meth c H locs 0 0 Q (F0 m 481 ls [])) :
    ∀ (n T : Nat), T + n = M ^ N → ∀ (cf : Nat → Int64) (ff : Nat → Int32), (∀ j, j < 10 → cf j = lN (sq_cnt N M j T)) → ∀ (H : Heap) (locs : List Loc) (ls : Array Slot), rk_W dC dI A H0 h0 hc hf cJ cI (nI N) (nI M) kn cf ff H locs → lv_has ls 11 [(0, .ref h0), (1, .int (nI (M ^ N))), (2, .int (nI T))] → W p l e R s m args below meth c H locs 0 0 Q (F0 m 61 ls []) := by
  have hx := C0.1
  have hb := C0.2.1
  have hpw := sq_pow_lt N hN M hM
  intro n
  induction n with
  | zero =>
    intro T hT cf ff hcf H locs ls hW hl
    obtain rfl : T = M ^ N := by omega
    refine lv_iload_n hx hb d_MM_reckon_61 rfl (lv_at hl 2 rfl) ?_
    refine lv_iload_n hx hb d_MM_reckon_62 rfl (lv_at hl 1 rfl) ?_
    refine lv_icmp_ge (tgt := 481) hx hb d_MM_reckon_63 (by decide) (fun h => ?_) (fun h => ?_)
    · exact kx H locs ls cf ff hcf hW
    · exact absurd (nI_le (Nat.le_refl _) (by omega)) h
  | succ n ih =>
    intro T hT cf ff hcf H locs ls hW hl
    have hTl : T < M ^ N := by omega
    have hm := pos_of_lt_pow hTl
    refine lv_iload_n hx hb d_MM_reckon_61 rfl (lv_at hl 2 rfl) ?_
    refine lv_iload_n hx hb d_MM_reckon_62 rfl (lv_at hl 1 rfl) ?_
    refine lv_icmp_ge (tgt := 481) hx hb d_MM_reckon_63 (by decide) (fun h => ?_) (fun h => ?_)
    · exact absurd h (nI_ge (by omega) (by omega))
    · refine lv_iload_n hx hb d_MM_reckon_66 rfl (lv_at hl 2 rfl) ?_
      refine lv_istore_n (lv' := [(3, .int (nI T)), (0, .ref h0), (1, .int (nI (M ^ N))), (2, .int (nI T))]) hx hb d_MM_reckon_67 rfl hl (by decide) rfl (fun ls hl => ?_)
      refine lv_iconst (v := 0) hx hb d_MM_reckon_68 (by decide) ?_
      refine lv_istore (lv' := [(4, .int 0), (3, .int (nI T)), (0, .ref h0), (1, .int (nI (M ^ N))), (2, .int (nI T))]) hx hb d_MM_reckon_69 hl (by decide) rfl (fun ls hl => ?_)
      refine lv_iconst (v := 0) hx hb d_MM_reckon_71 (by decide) ?_
      refine lv_istore (lv' := [(5, .int 0), (4, .int 0), (3, .int (nI T)), (0, .ref h0), (1, .int (nI (M ^ N))), (2, .int (nI T))]) hx hb d_MM_reckon_72 hl (by decide) rfl (fun ls hl => ?_)
      refine lv_iconst (v := 0) hx hb d_MM_reckon_74 (by decide) ?_
      refine lv_istore (lv' := [(6, .int 0), (5, .int 0), (4, .int 0), (3, .int (nI T)), (0, .ref h0), (1, .int (nI (M ^ N))), (2, .int (nI T))]) hx hb d_MM_reckon_75 hl (by decide) rfl (fun ls hl => ?_)
      refine lv_iconst (v := 0) hx hb d_MM_reckon_77 (by decide) ?_
      refine lv_istore (lv' := [(7, .int 0), (6, .int 0), (5, .int 0), (4, .int 0), (3, .int (nI T)), (0, .ref h0), (1, .int (nI (M ^ N))), (2, .int (nI T))]) hx hb d_MM_reckon_78 hl (by decide) rfl (fun ls hl => ?_)
      refine lv_iconst (v := 1) hx hb d_MM_reckon_80 (by decide) ?_
      refine lv_istore (lv' := [(8, .int 1), (7, .int 0), (6, .int 0), (5, .int 0), (4, .int 0), (3, .int (nI T)), (0, .ref h0), (1, .int (nI (M ^ N))), (2, .int (nI T))]) hx hb d_MM_reckon_81 hl (by decide) rfl (fun ls hl => ?_)
      refine lv_iconst (v := 1) hx hb d_MM_reckon_83 (by decide) ?_
      refine lv_istore (lv' := [(9, .int 1), (8, .int 1), (7, .int 0), (6, .int 0), (5, .int 0), (4, .int 0), (3, .int (nI T)), (0, .ref h0), (1, .int (nI (M ^ N))), (2, .int (nI T))]) hx hb d_MM_reckon_84 hl (by decide) rfl (fun ls hl => ?_)
      refine lv_iconst (v := 0) hx hb d_MM_reckon_86 (by decide) ?_
      refine lv_istore (lv' := [(10, .int 0), (9, .int 1), (8, .int 1), (7, .int 0), (6, .int 0), (5, .int 0), (4, .int 0), (3, .int (nI T)), (0, .ref h0), (1, .int (nI (M ^ N))), (2, .int (nI T))]) hx hb d_MM_reckon_87 hl (by decide) rfl (fun ls hl => ?_)
      have hl : lv_has ls 11 (rk_L h0 (nI (M ^ N)) (nI T) T sq_0 0) := lv_sub hl [8, 9, 10, 7, 6, 5, 4, 3, 2, 1, 0] rfl
      refine rk_inner C0 hN hM N 0 T sq_0 ff (by omega) hm (by omega) sq_ok_0 (fun h => absurd h (by decide)) (fun H locs ls ff x1 hW hl => ?_) H locs ls hW hl
      have hk := sq_ok_run hM N 0 T sq_0 hm sq_ok_0
      rw [Nat.zero_add] at hk
      refine rk_tail C0 hN hM hk (fun H locs ls cf1 hc1 hW hl => ?_) H locs ls hW hl
      refine lv_iinc (v := nI (T + 1)) (lv' := [(2, .int (nI (T + 1))), (0, .ref h0), (1, .int (nI (M ^ N)))]) hx hb d_MM_reckon_475 hl (k := 2) rfl (ii_1 T) (by decide) rfl (fun ls hl => ?_)
      refine lv_goto (tgt := 61) hx hb d_MM_reckon_478 (by decide) ?_
      refine ih (T + 1) (by omega) cf1 ff (fun j hj => ?_) H locs ls hW (lv_sub hl [1, 2, 0] rfl)
      rw [hc1 j hj, hcf j hj, lN_add]
      rfl
set_option maxHeartbeats 4000000 in
set_option maxRecDepth 100000 in
theorem rk_pow (C0 : rk_C p s m args c dC dI cJ cI) (hN : N < 7) (hM : M < 6) (hW : rk_W dC dI A H0 h0 hc hf cJ cI (nI N) (nI M) kn cf ff H locs)
    (kx : ∀ ls : Array Slot, lv_has ls 11 [(0, .ref h0), (1, .int (nI (M ^ N)))] → W p l e R s m args below meth c H locs 0 0 Q (F0 m 59 ls [])) :
    ∀ (n j : Nat), j + n = N → ∀ ls : Array Slot, lv_has ls 11 [(0, .ref h0), (1, .int (nI (M ^ j))), (2, .int (nI j))] → W p l e R s m args below meth c H locs 0 0 Q (F0 m 38 ls []) := by
  have hx := C0.1
  have hb := C0.2.1
  intro n
  induction n with
  | zero =>
    intro j hj ls hl
    obtain rfl : j = N := by omega
    refine lv_iload_n hx hb d_MM_reckon_38 rfl (lv_at hl 2 rfl) ?_
    refine lv_aload_n hx hb d_MM_reckon_39 rfl (lv_at hl 0 rfl) ?_
    refine rk_gn C0 hW d_MM_reckon_40 ?_
    refine lv_icmp_ge (tgt := 59) hx hb d_MM_reckon_43 (by decide) (fun h => ?_) (fun h => ?_)
    · exact kx ls (lv_sub hl [0, 1] rfl)
    · exact absurd (nI_le (Nat.le_refl _) (by omega)) h
  | succ n ih =>
    intro j hj ls hl
    refine lv_iload_n hx hb d_MM_reckon_38 rfl (lv_at hl 2 rfl) ?_
    refine lv_aload_n hx hb d_MM_reckon_39 rfl (lv_at hl 0 rfl) ?_
    refine rk_gn C0 hW d_MM_reckon_40 ?_
    refine lv_icmp_ge (tgt := 59) hx hb d_MM_reckon_43 (by decide) (fun h => ?_) (fun h => ?_)
    · exact absurd h (nI_ge (by omega) (by omega))
    · refine lv_iload_n hx hb d_MM_reckon_46 rfl (lv_at hl 1 rfl) ?_
      refine lv_aload_n hx hb d_MM_reckon_47 rfl (lv_at hl 0 rfl) ?_
      refine rk_gm C0 hW d_MM_reckon_48 ?_
      refine lv_imul hx hb d_MM_reckon_51 ?_
      refine lw_ti (y := nI (M ^ (j + 1))) (pk_mul _ _) ?_
      refine lv_istore_n (lv' := [(1, .int (nI (M ^ (j + 1)))), (0, .ref h0), (2, .int (nI j))]) hx hb d_MM_reckon_52 rfl hl (by decide) rfl (fun ls hl => ?_)
      refine lv_iinc (v := nI (j + 1)) (lv' := [(2, .int (nI (j + 1))), (1, .int (nI (M ^ (j + 1)))), (0, .ref h0)]) hx hb d_MM_reckon_53 hl (k := 2) rfl (ii_1 j) (by decide) rfl (fun ls hl => ?_)
      refine lv_goto (tgt := 38) hx hb d_MM_reckon_56 (by decide) ?_
      exact ih (j + 1) (by omega) ls (lv_sub hl [2, 1, 0] rfl)
set_option maxHeartbeats 4000000 in
set_option maxRecDepth 100000 in
theorem rk_zero (C0 : rk_C p s m args c dC dI cJ cI)
    (kx : ∀ (H : Heap) (locs : List Loc) (ls : Array Slot) (cf : Nat → Int64), (∀ j, j < 16 → cf j = 0) → rk_W dC dI A H0 h0 hc hf cJ cI (nI N) (nI M) kn cf ff H locs → lv_has ls 11 [(0, .ref h0)] → W p l e R s m args below meth c H locs 0 0 Q (F0 m 34 ls [])) :
    ∀ (n i : Nat), i + n = 16 → ∀ cf : Nat → Int64, (∀ j, j < i → cf j = 0) → ∀ (H : Heap) (locs : List Loc) (ls : Array Slot), rk_W dC dI A H0 h0 hc hf cJ cI (nI N) (nI M) kn cf ff H locs → lv_has ls 11 [(0, .ref h0), (1, .int (nI i))] → W p l e R s m args below meth c H locs 0 0 Q (F0 m 15 ls []) := by
  have hx := C0.1
  have hb := C0.2.1
  intro n
  induction n with
  | zero =>
    intro i hi cf hcf H locs ls hW hl
    obtain rfl : i = 16 := by omega
    refine lv_iload_n hx hb d_MM_reckon_15 rfl (lv_at hl 1 rfl) ?_
    refine lv_bipush (v := nI 16) hx hb d_MM_reckon_16 (by decide) ?_
    refine lv_icmp_ge (tgt := 34) hx hb d_MM_reckon_18 (by decide) (fun h => ?_) (fun h => ?_)
    · exact kx H locs ls cf hcf hW (lv_sub hl [0] rfl)
    · exact absurd (nI_le (Nat.le_refl _) (by decide)) h
  | succ n ih =>
    intro i hi cf hcf H locs ls hW hl
    refine lv_iload_n hx hb d_MM_reckon_15 rfl (lv_at hl 1 rfl) ?_
    refine lv_bipush (v := nI 16) hx hb d_MM_reckon_16 (by decide) ?_
    refine lv_icmp_ge (tgt := 34) hx hb d_MM_reckon_18 (by decide) (fun h => ?_) (fun h => ?_)
    · exact absurd h (nI_ge (by omega) (by decide))
    · refine lv_aload_n hx hb d_MM_reckon_21 rfl (lv_at hl 0 rfl) ?_
      refine rk_gc C0 hW d_MM_reckon_22 ?_
      refine lv_iload_n hx hb d_MM_reckon_25 rfl (lv_at hl 1 rfl) ?_
      refine lv_lconst (v := 0) hx hb d_MM_reckon_26 (by decide) ?_
      refine va_last hx hb C0.2.2.2.2 hW.1 hW.2.1 hW.2.2 1 0 rfl rfl (vp_in_nI (n := i) (by omega) (by decide)) d_MM_reckon_27 (fun H locs hP hD hS => ?_)
      rw [nI_clamp (by omega)] at hP hD
      have hW : rk_W dC dI A H0 h0 hc hf cJ cI (nI N) (nI M) kn (vp_updL cf i 0) ff H locs := ⟨hP, hD, hS⟩
      refine lv_iinc (v := nI (i + 1)) (lv' := [(1, .int (nI (i + 1))), (0, .ref h0)]) hx hb d_MM_reckon_28 hl (k := 1) rfl (ii_1 i) (by decide) rfl (fun ls hl => ?_)
      refine lv_goto (tgt := 15) hx hb d_MM_reckon_31 (by decide) ?_
      refine ih (i + 1) (by omega) (vp_updL cf i 0) (fun j hj => ?_) H locs ls hW (lv_sub hl [1, 0] rfl)
      rcases Nat.lt_succ_iff_lt_or_eq.mp hj with q | q
      · rw [pk_uLn (by omega)]; exact hcf j q
      · subst q; exact pk_uLs
end RK4
set_option maxHeartbeats 4000000 in
set_option maxRecDepth 100000 in
theorem c_MM_reckon (l : Launch) (dC : Nat → ClassId) (dI : Nat → Nat → Nat) (h0 hc hf sz : Nat) (cJ cI : ClassId) (N M : Nat) (hN : N < 7) (hM : M < 6) (kn : Int32) (cf : Nat → Int64) (ff : Nat → Int32) (hgd : ¬ kn = 0 → gd N M cf) : Met l y_MM_reckon w_MM_reckon ({ frames := 0, cells := 0, slots := 0, locals := 0 }) (va_Pc [.ref h0] (pc_MM dC dI h0 hc hf sz cJ cI (nI N) (nI M) kn cf ff)) (va_Qv (fun (u : Int32 × (Nat → Int64) × (Nat → Int32)) => gd N M u.2.1) (fun u => at_MM dC dI (va_A (mm_w h0 hc hf cJ cI (nI N) (nI M) kn cf ff) sz) h0 hc hf cJ cI (nI N) (nI M) u.1 u.2.1 u.2.2) (va_A (mm_w h0 hc hf cJ cI (nI N) (nI M) kn cf ff) sz)) 0 0 (va_A (mm_w h0 hc hf cJ cI (nI N) (nI M) kn cf ff) sz) := by
  refine Met.ofW (cc := b_MM_reckon) (maxL := 11) (ret := none) (by decide) rfl ?_
  intro p e s m args below meth c s₁ B hml hv
  obtain ⟨rfl, hsz, hP, hK, hD0⟩ := hv
  have hx := B.exec
  have hb := B.bytes
  have hr := B.returns
  have hts := atoms_spec (ws := w_MM_reckon) B.pre
  have hown : s.vm.findClass R_MM = some m.cls := findClass_of_methodNamed B.named
  have hlocks := B.notSynchronized
  subst hsz
  have hD := hD0.self (sz := s.heap.size)
  generalize hAe : va_A (mm_w h0 hc hf cJ cI (nI N) (nI M) kn cf ff) s.heap.size = A at hD ⊢
  have hA : ∀ q : Nat, s.heap.size ≤ q → A q := fun q h => by rw [← hAe]; exact Or.inr h
  have hS : va_S A s.heap s.heap [] := va_S.rf
  have hP : va_P (dC, dI) classes (mm_w h0 hc hf cJ cI (nI N) (nI M) kn cf ff) s.heap := hP
  have hl := lv_entry ([.ref h0]) (n := 11) (Nat.le_of_ble_eq_true rfl)
  rw [lg_entry_eq]
  generalize (lg_sl ([.ref h0]) ++ List.replicate (11 - (lg_sl ([.ref h0])).length) Slot.unset).toArray = ls at hl ⊢
  have hl : lv_has ls 11 [(0, .ref h0)] := hl
  have C0 : rk_C p s m #[Value.ref h0] c dC dI cJ cI := ⟨hx, hb, hown, hts, hK⟩
  have hW : rk_W dC dI A s.heap h0 hc hf cJ cI (nI N) (nI M) kn cf ff s.heap [] := ⟨hP, hD, hS⟩
  refine lv_aload_n hx hb d_MM_reckon_0 rfl (lv_at hl 0 rfl) ?_
  refine rk_gk C0 hW d_MM_reckon_1 ?_
  refine lv_if_eq (tgt := 8) hx hb d_MM_reckon_4 (by decide) (fun h => ?_) (fun h => ?_)
  · refine lv_aload_n hx hb d_MM_reckon_8 rfl (lv_at hl 0 rfl) ?_
    refine lv_iconst (v := 1) hx hb d_MM_reckon_9 (by decide) ?_
    refine va_put (D := (dC, dI)) (ci := 1) (v := .int 1) (ty := .boolean) (C := R_MM) (T := F_MM) (N := 5) hx hb hts i_MM_reckon t_MM t_MM_ok n_MM hown hK hP hD hS 0 rfl rfl 2 (by decide) (hts _ m_MM_reckon_25) (fun _ h9 => h9) rfl (by decide +kernel) rfl rfl (Nat.le_of_ble_eq_true rfl) d_MM_reckon_10 (fun H locs hP hD hS => ?_)
    have hW : rk_W dC dI A s.heap h0 hc hf cJ cI (nI N) (nI M) 1 cf ff H locs := ⟨hP, hD, hS⟩
    refine lv_iconst (v := 0) hx hb d_MM_reckon_13 (by decide) ?_
    refine lv_istore_n (lv' := [(1, .int 0), (0, .ref h0)]) hx hb d_MM_reckon_14 rfl hl (by decide) rfl (fun ls hl => ?_)
    refine rk_zero C0 (fun H locs ls cf hz hW hl => ?_) 16 0 (by omega) cf (fun j hj => absurd hj (Nat.not_lt_zero j)) H locs ls hW (lv_sub hl [1, 0] rfl)
    refine lv_iconst (v := 1) hx hb d_MM_reckon_34 (by decide) ?_
    refine lv_istore_n (lv' := [(1, .int 1), (0, .ref h0)]) hx hb d_MM_reckon_35 rfl hl (by decide) rfl (fun ls hl => ?_)
    refine lv_iconst (v := 0) hx hb d_MM_reckon_36 (by decide) ?_
    refine lv_istore_n (lv' := [(2, .int 0), (1, .int 1), (0, .ref h0)]) hx hb d_MM_reckon_37 rfl hl (by decide) rfl (fun ls hl => ?_)
    refine rk_pow C0 hN hM hW (fun ls hl => ?_) N 0 (by omega) ls (lv_sub hl [2, 1, 0] rfl)
    refine lv_iconst (v := 0) hx hb d_MM_reckon_59 (by decide) ?_
    refine lv_istore_n (lv' := [(2, .int 0), (0, .ref h0), (1, .int (nI (M ^ N)))]) hx hb d_MM_reckon_60 rfl hl (by decide) rfl (fun ls hl => ?_)
    refine rk_outer C0 hN hM (fun H locs ls cf ff hg hW => ?_) (M ^ N) 0 (by omega) cf ff (fun j hj => hz j (by omega)) H locs ls hW (lv_sub hl [1, 2, 0] rfl)
    exact W.vret hx hb hr (fun t ht hz => ⟨⟨(1, cf, ff), rfl, hg, by rw [ht]; exact hW.1, va_K.moved hz.alike hK, hW.2.1⟩, hW.2.2.F ht⟩) hW.2.2.2.2 d_MM_reckon_481
  · exact W.vret hx hb hr (fun t ht hz => ⟨⟨(kn, cf, ff), rfl, hgd h, by rw [ht]; exact hW.1, va_K.moved hz.alike hK, hW.2.1⟩, hW.2.2.F ht⟩) hW.2.2.2.2 d_MM_reckon_7
end
section
set_option maxHeartbeats 4000000 in
set_option maxRecDepth 100000 in
theorem c_MM_all (l : Launch) (dC : Nat → ClassId) (dI : Nat → Nat → Nat) (h0 hc hf sz : Nat) (cJ cI : ClassId) (N M : Nat) (hN : N < 7) (hM : M < 6) (kn : Int32) (cf : Nat → Int64) (ff : Nat → Int32) (hgd : ¬ kn = 0 → gd N M cf) : Met l y_MM_all w_MM_all ({ frames := 1, cells := 0, slots := 0, locals := 30 }) (va_Pc [.ref h0] (pc_MM dC dI h0 hc hf sz cJ cI (nI N) (nI M) kn cf ff)) (va_Ql (fun (r : Int64) (u : Int32 × (Nat → Int64) × (Nat → Int32)) => r = lN (sq_cnt N M 0 (M ^ N)) ∧ gd N M u.2.1) (fun u => at_MM dC dI (va_A (mm_w h0 hc hf cJ cI (nI N) (nI M) kn cf ff) sz) h0 hc hf cJ cI (nI N) (nI M) u.1 u.2.1 u.2.2) (va_A (mm_w h0 hc hf cJ cI (nI N) (nI M) kn cf ff) sz)) 0 0 (va_A (mm_w h0 hc hf cJ cI (nI N) (nI M) kn cf ff) sz) := by
  refine Met.ofW (cc := b_MM_all) (maxL := 1) (ret := (some .long)) (by decide) rfl ?_
  intro p e s m args below meth c s₁ B hml hv
  obtain ⟨rfl, hsz, hP, hK, hD0⟩ := hv
  have hx := B.exec
  have hb := B.bytes
  have hr := B.returns
  have hts := atoms_spec (ws := w_MM_all) B.pre
  have hown : s.vm.findClass R_MM = some m.cls := findClass_of_methodNamed B.named
  have hlocks := B.notSynchronized
  subst hsz
  have hD := hD0.self (sz := s.heap.size)
  generalize hAe : va_A (mm_w h0 hc hf cJ cI (nI N) (nI M) kn cf ff) s.heap.size = A at hD ⊢
  have hA : ∀ q : Nat, s.heap.size ≤ q → A q := fun q h => by rw [← hAe]; exact Or.inr h
  have hS : va_S A s.heap s.heap [] := va_S.rf
  have hP : va_P (dC, dI) classes (mm_w h0 hc hf cJ cI (nI N) (nI M) kn cf ff) s.heap := hP
  have hl := lv_entry ([.ref h0]) (n := 1) (Nat.le_of_ble_eq_true rfl)
  rw [lg_entry_eq]
  generalize (lg_sl ([.ref h0]) ++ List.replicate (1 - (lg_sl ([.ref h0])).length) Slot.unset).toArray = ls at hl ⊢
  have hl : lv_has ls 1 [(0, .ref h0)] := hl
  refine lv_aload_n hx hb d_MM_all_0 rfl (lv_at hl 0 rfl) ?_
  have hFc := va_free (wc := (mm_w h0 hc hf cJ cI (nI N) (nI M) kn cf ff)) hD hS hA [0, 1, 2] rfl
  refine va_callv (va_runV (As := []) (rest := []) ⟨hx, hb, hml, hown, hts⟩ (c_MM_reckon l dC dI h0 hc hf s.heap.size cJ cI N M hN hM kn cf ff hgd) (cwV 0 hts g_MM_all_MM_reckon rfl rfl rfl (by decide +kernel) ⟨Nat.le_of_ble_eq_true rfl, Nat.le_of_ble_eq_true rfl⟩) ⟨fun a U g mk q => by obtain ⟨q0, q1, qP, qK, qD⟩ := q; exact ⟨q0, q1, qP, va_K.moved (u := U) (U := U.calling g mk a) (Vm.Alike.refl U.vm) qK, qD⟩, va_recv hK hP (ci := 1) (q0 := 0) rfl rfl, fun U hU hW => ⟨rfl, congrArg Array.size hU, by rw [hU]; exact hP, va_K.moved hW.alike hK, hD.weaken (fun _ _ _ _ => trivial)⟩⟩ rfl rfl hl.1 rfl (lv_room (Nat.le_of_ble_eq_true rfl)) d_MM_all_1 ⟨Nat.zero_le _, Nat.zero_le _⟩) hS (fun q _ h => hFc q h) hFc (fun u t H1 locs ht hvm hw hB hz1 hk1 hS => ?_)
  obtain ⟨kn1, cf1, ff1⟩ := u
  obtain ⟨hP1, hK1, hD1⟩ := hB
  rw [ht] at hP1
  dsimp only at hw
  obtain ⟨hP, hD⟩ := va_join (wr := []) (w1 := mm_w h0 hc hf cJ cI (nI N) (nI M) kn1 cf1 ff1) hP hD [0, 1, 2] [] rfl rfl (by decide) (by decide) hk1 hFc hP1 hD1
  have hP : va_P (dC, dI) classes (mm_w h0 hc hf cJ cI (nI N) (nI M) kn1 cf1 ff1) H1 := hP
  have hD : va_D A (mm_w h0 hc hf cJ cI (nI N) (nI M) kn1 cf1 ff1) := hD
  refine lv_aload_n hx hb d_MM_all_4 rfl (lv_at hl 0 rfl) ?_
  refine va_get (D := (dC, dI)) (ci := 1) (v := .ref hc) (C := R_MM) (T := F_MM) (N := 5) hx hb hts i_MM_all hown hK hP 0 rfl rfl 3 (by decide) (hts _ m_MM_all_16) (fun _ h9 => h9) rfl d_MM_all_5 ?_
  refine lv_iconst (v := nI 0) hx hb d_MM_all_8 (by decide) ?_
  refine va_lald hx hb hK hP 1 0 rfl rfl (vp_in_nI (n := 0) (by decide) (by decide)) d_MM_all_9 ?_
  refine lw_tl (y := lN (sq_cnt N M 0 (M ^ N))) (by rw [nI_clamp (by decide)]; exact hw 0 (by decide)) ?_
  exact W.lret (v := lN (sq_cnt N M 0 (M ^ N))) hx hb hr (fun t ht hW => ⟨⟨lN (sq_cnt N M 0 (M ^ N)), (kn1, cf1, ff1), rfl, ⟨rfl, hw⟩, by rw [ht]; exact hP, va_K.moved hW.alike hK, hD⟩, hS.F ht⟩) hS.2.2 d_MM_all_10
set_option maxHeartbeats 4000000 in
set_option maxRecDepth 100000 in
theorem c_MM_single (l : Launch) (dC : Nat → ClassId) (dI : Nat → Nat → Nat) (h0 hc hf sz : Nat) (cJ cI : ClassId) (N M : Nat) (hN : N < 7) (hM : M < 6) (kn : Int32) (cf : Nat → Int64) (ff : Nat → Int32) (hgd : ¬ kn = 0 → gd N M cf) : Met l y_MM_single w_MM_single ({ frames := 1, cells := 0, slots := 0, locals := 30 }) (va_Pc [.ref h0] (pc_MM dC dI h0 hc hf sz cJ cI (nI N) (nI M) kn cf ff)) (va_Ql (fun (r : Int64) (u : Int32 × (Nat → Int64) × (Nat → Int32)) => r = lN (sq_cnt N M 1 (M ^ N)) ∧ gd N M u.2.1) (fun u => at_MM dC dI (va_A (mm_w h0 hc hf cJ cI (nI N) (nI M) kn cf ff) sz) h0 hc hf cJ cI (nI N) (nI M) u.1 u.2.1 u.2.2) (va_A (mm_w h0 hc hf cJ cI (nI N) (nI M) kn cf ff) sz)) 0 0 (va_A (mm_w h0 hc hf cJ cI (nI N) (nI M) kn cf ff) sz) := by
  refine Met.ofW (cc := b_MM_single) (maxL := 1) (ret := (some .long)) (by decide) rfl ?_
  intro p e s m args below meth c s₁ B hml hv
  obtain ⟨rfl, hsz, hP, hK, hD0⟩ := hv
  have hx := B.exec
  have hb := B.bytes
  have hr := B.returns
  have hts := atoms_spec (ws := w_MM_single) B.pre
  have hown : s.vm.findClass R_MM = some m.cls := findClass_of_methodNamed B.named
  have hlocks := B.notSynchronized
  subst hsz
  have hD := hD0.self (sz := s.heap.size)
  generalize hAe : va_A (mm_w h0 hc hf cJ cI (nI N) (nI M) kn cf ff) s.heap.size = A at hD ⊢
  have hA : ∀ q : Nat, s.heap.size ≤ q → A q := fun q h => by rw [← hAe]; exact Or.inr h
  have hS : va_S A s.heap s.heap [] := va_S.rf
  have hP : va_P (dC, dI) classes (mm_w h0 hc hf cJ cI (nI N) (nI M) kn cf ff) s.heap := hP
  have hl := lv_entry ([.ref h0]) (n := 1) (Nat.le_of_ble_eq_true rfl)
  rw [lg_entry_eq]
  generalize (lg_sl ([.ref h0]) ++ List.replicate (1 - (lg_sl ([.ref h0])).length) Slot.unset).toArray = ls at hl ⊢
  have hl : lv_has ls 1 [(0, .ref h0)] := hl
  refine lv_aload_n hx hb d_MM_single_0 rfl (lv_at hl 0 rfl) ?_
  have hFc := va_free (wc := (mm_w h0 hc hf cJ cI (nI N) (nI M) kn cf ff)) hD hS hA [0, 1, 2] rfl
  refine va_callv (va_runV (As := []) (rest := []) ⟨hx, hb, hml, hown, hts⟩ (c_MM_reckon l dC dI h0 hc hf s.heap.size cJ cI N M hN hM kn cf ff hgd) (cwV 0 hts g_MM_single_MM_reckon rfl rfl rfl (by decide +kernel) ⟨Nat.le_of_ble_eq_true rfl, Nat.le_of_ble_eq_true rfl⟩) ⟨fun a U g mk q => by obtain ⟨q0, q1, qP, qK, qD⟩ := q; exact ⟨q0, q1, qP, va_K.moved (u := U) (U := U.calling g mk a) (Vm.Alike.refl U.vm) qK, qD⟩, va_recv hK hP (ci := 1) (q0 := 0) rfl rfl, fun U hU hW => ⟨rfl, congrArg Array.size hU, by rw [hU]; exact hP, va_K.moved hW.alike hK, hD.weaken (fun _ _ _ _ => trivial)⟩⟩ rfl rfl hl.1 rfl (lv_room (Nat.le_of_ble_eq_true rfl)) d_MM_single_1 ⟨Nat.zero_le _, Nat.zero_le _⟩) hS (fun q _ h => hFc q h) hFc (fun u t H1 locs ht hvm hw hB hz1 hk1 hS => ?_)
  obtain ⟨kn1, cf1, ff1⟩ := u
  obtain ⟨hP1, hK1, hD1⟩ := hB
  rw [ht] at hP1
  dsimp only at hw
  obtain ⟨hP, hD⟩ := va_join (wr := []) (w1 := mm_w h0 hc hf cJ cI (nI N) (nI M) kn1 cf1 ff1) hP hD [0, 1, 2] [] rfl rfl (by decide) (by decide) hk1 hFc hP1 hD1
  have hP : va_P (dC, dI) classes (mm_w h0 hc hf cJ cI (nI N) (nI M) kn1 cf1 ff1) H1 := hP
  have hD : va_D A (mm_w h0 hc hf cJ cI (nI N) (nI M) kn1 cf1 ff1) := hD
  refine lv_aload_n hx hb d_MM_single_4 rfl (lv_at hl 0 rfl) ?_
  refine va_get (D := (dC, dI)) (ci := 1) (v := .ref hc) (C := R_MM) (T := F_MM) (N := 5) hx hb hts i_MM_single hown hK hP 0 rfl rfl 3 (by decide) (hts _ m_MM_single_16) (fun _ h9 => h9) rfl d_MM_single_5 ?_
  refine lv_iconst (v := nI 1) hx hb d_MM_single_8 (by decide) ?_
  refine va_lald hx hb hK hP 1 0 rfl rfl (vp_in_nI (n := 1) (by decide) (by decide)) d_MM_single_9 ?_
  refine lw_tl (y := lN (sq_cnt N M 1 (M ^ N))) (by rw [nI_clamp (by decide)]; exact hw 1 (by decide)) ?_
  exact W.lret (v := lN (sq_cnt N M 1 (M ^ N))) hx hb hr (fun t ht hW => ⟨⟨lN (sq_cnt N M 1 (M ^ N)), (kn1, cf1, ff1), rfl, ⟨rfl, hw⟩, by rw [ht]; exact hP, va_K.moved hW.alike hK, hD⟩, hS.F ht⟩) hS.2.2 d_MM_single_10
set_option maxHeartbeats 4000000 in
set_option maxRecDepth 100000 in
theorem c_MM_full (l : Launch) (dC : Nat → ClassId) (dI : Nat → Nat → Nat) (h0 hc hf sz : Nat) (cJ cI : ClassId) (N M : Nat) (hN : N < 7) (hM : M < 6) (kn : Int32) (cf : Nat → Int64) (ff : Nat → Int32) (hgd : ¬ kn = 0 → gd N M cf) : Met l y_MM_full w_MM_full ({ frames := 1, cells := 0, slots := 0, locals := 30 }) (va_Pc [.ref h0] (pc_MM dC dI h0 hc hf sz cJ cI (nI N) (nI M) kn cf ff)) (va_Ql (fun (r : Int64) (u : Int32 × (Nat → Int64) × (Nat → Int32)) => r = lN (sq_cnt N M 2 (M ^ N)) ∧ gd N M u.2.1) (fun u => at_MM dC dI (va_A (mm_w h0 hc hf cJ cI (nI N) (nI M) kn cf ff) sz) h0 hc hf cJ cI (nI N) (nI M) u.1 u.2.1 u.2.2) (va_A (mm_w h0 hc hf cJ cI (nI N) (nI M) kn cf ff) sz)) 0 0 (va_A (mm_w h0 hc hf cJ cI (nI N) (nI M) kn cf ff) sz) := by
  refine Met.ofW (cc := b_MM_full) (maxL := 1) (ret := (some .long)) (by decide) rfl ?_
  intro p e s m args below meth c s₁ B hml hv
  obtain ⟨rfl, hsz, hP, hK, hD0⟩ := hv
  have hx := B.exec
  have hb := B.bytes
  have hr := B.returns
  have hts := atoms_spec (ws := w_MM_full) B.pre
  have hown : s.vm.findClass R_MM = some m.cls := findClass_of_methodNamed B.named
  have hlocks := B.notSynchronized
  subst hsz
  have hD := hD0.self (sz := s.heap.size)
  generalize hAe : va_A (mm_w h0 hc hf cJ cI (nI N) (nI M) kn cf ff) s.heap.size = A at hD ⊢
  have hA : ∀ q : Nat, s.heap.size ≤ q → A q := fun q h => by rw [← hAe]; exact Or.inr h
  have hS : va_S A s.heap s.heap [] := va_S.rf
  have hP : va_P (dC, dI) classes (mm_w h0 hc hf cJ cI (nI N) (nI M) kn cf ff) s.heap := hP
  have hl := lv_entry ([.ref h0]) (n := 1) (Nat.le_of_ble_eq_true rfl)
  rw [lg_entry_eq]
  generalize (lg_sl ([.ref h0]) ++ List.replicate (1 - (lg_sl ([.ref h0])).length) Slot.unset).toArray = ls at hl ⊢
  have hl : lv_has ls 1 [(0, .ref h0)] := hl
  refine lv_aload_n hx hb d_MM_full_0 rfl (lv_at hl 0 rfl) ?_
  have hFc := va_free (wc := (mm_w h0 hc hf cJ cI (nI N) (nI M) kn cf ff)) hD hS hA [0, 1, 2] rfl
  refine va_callv (va_runV (As := []) (rest := []) ⟨hx, hb, hml, hown, hts⟩ (c_MM_reckon l dC dI h0 hc hf s.heap.size cJ cI N M hN hM kn cf ff hgd) (cwV 0 hts g_MM_full_MM_reckon rfl rfl rfl (by decide +kernel) ⟨Nat.le_of_ble_eq_true rfl, Nat.le_of_ble_eq_true rfl⟩) ⟨fun a U g mk q => by obtain ⟨q0, q1, qP, qK, qD⟩ := q; exact ⟨q0, q1, qP, va_K.moved (u := U) (U := U.calling g mk a) (Vm.Alike.refl U.vm) qK, qD⟩, va_recv hK hP (ci := 1) (q0 := 0) rfl rfl, fun U hU hW => ⟨rfl, congrArg Array.size hU, by rw [hU]; exact hP, va_K.moved hW.alike hK, hD.weaken (fun _ _ _ _ => trivial)⟩⟩ rfl rfl hl.1 rfl (lv_room (Nat.le_of_ble_eq_true rfl)) d_MM_full_1 ⟨Nat.zero_le _, Nat.zero_le _⟩) hS (fun q _ h => hFc q h) hFc (fun u t H1 locs ht hvm hw hB hz1 hk1 hS => ?_)
  obtain ⟨kn1, cf1, ff1⟩ := u
  obtain ⟨hP1, hK1, hD1⟩ := hB
  rw [ht] at hP1
  dsimp only at hw
  obtain ⟨hP, hD⟩ := va_join (wr := []) (w1 := mm_w h0 hc hf cJ cI (nI N) (nI M) kn1 cf1 ff1) hP hD [0, 1, 2] [] rfl rfl (by decide) (by decide) hk1 hFc hP1 hD1
  have hP : va_P (dC, dI) classes (mm_w h0 hc hf cJ cI (nI N) (nI M) kn1 cf1 ff1) H1 := hP
  have hD : va_D A (mm_w h0 hc hf cJ cI (nI N) (nI M) kn1 cf1 ff1) := hD
  refine lv_aload_n hx hb d_MM_full_4 rfl (lv_at hl 0 rfl) ?_
  refine va_get (D := (dC, dI)) (ci := 1) (v := .ref hc) (C := R_MM) (T := F_MM) (N := 5) hx hb hts i_MM_full hown hK hP 0 rfl rfl 3 (by decide) (hts _ m_MM_full_16) (fun _ h9 => h9) rfl d_MM_full_5 ?_
  refine lv_iconst (v := nI 2) hx hb d_MM_full_8 (by decide) ?_
  refine va_lald hx hb hK hP 1 0 rfl rfl (vp_in_nI (n := 2) (by decide) (by decide)) d_MM_full_9 ?_
  refine lw_tl (y := lN (sq_cnt N M 2 (M ^ N))) (by rw [nI_clamp (by decide)]; exact hw 2 (by decide)) ?_
  exact W.lret (v := lN (sq_cnt N M 2 (M ^ N))) hx hb hr (fun t ht hW => ⟨⟨lN (sq_cnt N M 2 (M ^ N)), (kn1, cf1, ff1), rfl, ⟨rfl, hw⟩, by rw [ht]; exact hP, va_K.moved hW.alike hK, hD⟩, hS.F ht⟩) hS.2.2 d_MM_full_10
set_option maxHeartbeats 4000000 in
set_option maxRecDepth 100000 in
theorem c_MM_alike (l : Launch) (dC : Nat → ClassId) (dI : Nat → Nat → Nat) (h0 hc hf sz : Nat) (cJ cI : ClassId) (N M : Nat) (hN : N < 7) (hM : M < 6) (kn : Int32) (cf : Nat → Int64) (ff : Nat → Int32) (hgd : ¬ kn = 0 → gd N M cf) : Met l y_MM_alike w_MM_alike ({ frames := 1, cells := 0, slots := 0, locals := 30 }) (va_Pc [.ref h0] (pc_MM dC dI h0 hc hf sz cJ cI (nI N) (nI M) kn cf ff)) (va_Ql (fun (r : Int64) (u : Int32 × (Nat → Int64) × (Nat → Int32)) => r = lN (sq_cnt N M 3 (M ^ N)) ∧ gd N M u.2.1) (fun u => at_MM dC dI (va_A (mm_w h0 hc hf cJ cI (nI N) (nI M) kn cf ff) sz) h0 hc hf cJ cI (nI N) (nI M) u.1 u.2.1 u.2.2) (va_A (mm_w h0 hc hf cJ cI (nI N) (nI M) kn cf ff) sz)) 0 0 (va_A (mm_w h0 hc hf cJ cI (nI N) (nI M) kn cf ff) sz) := by
  refine Met.ofW (cc := b_MM_alike) (maxL := 1) (ret := (some .long)) (by decide) rfl ?_
  intro p e s m args below meth c s₁ B hml hv
  obtain ⟨rfl, hsz, hP, hK, hD0⟩ := hv
  have hx := B.exec
  have hb := B.bytes
  have hr := B.returns
  have hts := atoms_spec (ws := w_MM_alike) B.pre
  have hown : s.vm.findClass R_MM = some m.cls := findClass_of_methodNamed B.named
  have hlocks := B.notSynchronized
  subst hsz
  have hD := hD0.self (sz := s.heap.size)
  generalize hAe : va_A (mm_w h0 hc hf cJ cI (nI N) (nI M) kn cf ff) s.heap.size = A at hD ⊢
  have hA : ∀ q : Nat, s.heap.size ≤ q → A q := fun q h => by rw [← hAe]; exact Or.inr h
  have hS : va_S A s.heap s.heap [] := va_S.rf
  have hP : va_P (dC, dI) classes (mm_w h0 hc hf cJ cI (nI N) (nI M) kn cf ff) s.heap := hP
  have hl := lv_entry ([.ref h0]) (n := 1) (Nat.le_of_ble_eq_true rfl)
  rw [lg_entry_eq]
  generalize (lg_sl ([.ref h0]) ++ List.replicate (1 - (lg_sl ([.ref h0])).length) Slot.unset).toArray = ls at hl ⊢
  have hl : lv_has ls 1 [(0, .ref h0)] := hl
  refine lv_aload_n hx hb d_MM_alike_0 rfl (lv_at hl 0 rfl) ?_
  have hFc := va_free (wc := (mm_w h0 hc hf cJ cI (nI N) (nI M) kn cf ff)) hD hS hA [0, 1, 2] rfl
  refine va_callv (va_runV (As := []) (rest := []) ⟨hx, hb, hml, hown, hts⟩ (c_MM_reckon l dC dI h0 hc hf s.heap.size cJ cI N M hN hM kn cf ff hgd) (cwV 0 hts g_MM_alike_MM_reckon rfl rfl rfl (by decide +kernel) ⟨Nat.le_of_ble_eq_true rfl, Nat.le_of_ble_eq_true rfl⟩) ⟨fun a U g mk q => by obtain ⟨q0, q1, qP, qK, qD⟩ := q; exact ⟨q0, q1, qP, va_K.moved (u := U) (U := U.calling g mk a) (Vm.Alike.refl U.vm) qK, qD⟩, va_recv hK hP (ci := 1) (q0 := 0) rfl rfl, fun U hU hW => ⟨rfl, congrArg Array.size hU, by rw [hU]; exact hP, va_K.moved hW.alike hK, hD.weaken (fun _ _ _ _ => trivial)⟩⟩ rfl rfl hl.1 rfl (lv_room (Nat.le_of_ble_eq_true rfl)) d_MM_alike_1 ⟨Nat.zero_le _, Nat.zero_le _⟩) hS (fun q _ h => hFc q h) hFc (fun u t H1 locs ht hvm hw hB hz1 hk1 hS => ?_)
  obtain ⟨kn1, cf1, ff1⟩ := u
  obtain ⟨hP1, hK1, hD1⟩ := hB
  rw [ht] at hP1
  dsimp only at hw
  obtain ⟨hP, hD⟩ := va_join (wr := []) (w1 := mm_w h0 hc hf cJ cI (nI N) (nI M) kn1 cf1 ff1) hP hD [0, 1, 2] [] rfl rfl (by decide) (by decide) hk1 hFc hP1 hD1
  have hP : va_P (dC, dI) classes (mm_w h0 hc hf cJ cI (nI N) (nI M) kn1 cf1 ff1) H1 := hP
  have hD : va_D A (mm_w h0 hc hf cJ cI (nI N) (nI M) kn1 cf1 ff1) := hD
  refine lv_aload_n hx hb d_MM_alike_4 rfl (lv_at hl 0 rfl) ?_
  refine va_get (D := (dC, dI)) (ci := 1) (v := .ref hc) (C := R_MM) (T := F_MM) (N := 5) hx hb hts i_MM_alike hown hK hP 0 rfl rfl 3 (by decide) (hts _ m_MM_alike_16) (fun _ h9 => h9) rfl d_MM_alike_5 ?_
  refine lv_iconst (v := nI 3) hx hb d_MM_alike_8 (by decide) ?_
  refine va_lald hx hb hK hP 1 0 rfl rfl (vp_in_nI (n := 3) (by decide) (by decide)) d_MM_alike_9 ?_
  refine lw_tl (y := lN (sq_cnt N M 3 (M ^ N))) (by rw [nI_clamp (by decide)]; exact hw 3 (by decide)) ?_
  exact W.lret (v := lN (sq_cnt N M 3 (M ^ N))) hx hb hr (fun t ht hW => ⟨⟨lN (sq_cnt N M 3 (M ^ N)), (kn1, cf1, ff1), rfl, ⟨rfl, hw⟩, by rw [ht]; exact hP, va_K.moved hW.alike hK, hD⟩, hS.F ht⟩) hS.2.2 d_MM_alike_10
set_option maxHeartbeats 4000000 in
set_option maxRecDepth 100000 in
theorem c_MM_alikeFull (l : Launch) (dC : Nat → ClassId) (dI : Nat → Nat → Nat) (h0 hc hf sz : Nat) (cJ cI : ClassId) (N M : Nat) (hN : N < 7) (hM : M < 6) (kn : Int32) (cf : Nat → Int64) (ff : Nat → Int32) (hgd : ¬ kn = 0 → gd N M cf) : Met l y_MM_alikeFull w_MM_alikeFull ({ frames := 1, cells := 0, slots := 0, locals := 30 }) (va_Pc [.ref h0] (pc_MM dC dI h0 hc hf sz cJ cI (nI N) (nI M) kn cf ff)) (va_Ql (fun (r : Int64) (u : Int32 × (Nat → Int64) × (Nat → Int32)) => r = lN (sq_cnt N M 4 (M ^ N)) ∧ gd N M u.2.1) (fun u => at_MM dC dI (va_A (mm_w h0 hc hf cJ cI (nI N) (nI M) kn cf ff) sz) h0 hc hf cJ cI (nI N) (nI M) u.1 u.2.1 u.2.2) (va_A (mm_w h0 hc hf cJ cI (nI N) (nI M) kn cf ff) sz)) 0 0 (va_A (mm_w h0 hc hf cJ cI (nI N) (nI M) kn cf ff) sz) := by
  refine Met.ofW (cc := b_MM_alikeFull) (maxL := 1) (ret := (some .long)) (by decide) rfl ?_
  intro p e s m args below meth c s₁ B hml hv
  obtain ⟨rfl, hsz, hP, hK, hD0⟩ := hv
  have hx := B.exec
  have hb := B.bytes
  have hr := B.returns
  have hts := atoms_spec (ws := w_MM_alikeFull) B.pre
  have hown : s.vm.findClass R_MM = some m.cls := findClass_of_methodNamed B.named
  have hlocks := B.notSynchronized
  subst hsz
  have hD := hD0.self (sz := s.heap.size)
  generalize hAe : va_A (mm_w h0 hc hf cJ cI (nI N) (nI M) kn cf ff) s.heap.size = A at hD ⊢
  have hA : ∀ q : Nat, s.heap.size ≤ q → A q := fun q h => by rw [← hAe]; exact Or.inr h
  have hS : va_S A s.heap s.heap [] := va_S.rf
  have hP : va_P (dC, dI) classes (mm_w h0 hc hf cJ cI (nI N) (nI M) kn cf ff) s.heap := hP
  have hl := lv_entry ([.ref h0]) (n := 1) (Nat.le_of_ble_eq_true rfl)
  rw [lg_entry_eq]
  generalize (lg_sl ([.ref h0]) ++ List.replicate (1 - (lg_sl ([.ref h0])).length) Slot.unset).toArray = ls at hl ⊢
  have hl : lv_has ls 1 [(0, .ref h0)] := hl
  refine lv_aload_n hx hb d_MM_alikeFull_0 rfl (lv_at hl 0 rfl) ?_
  have hFc := va_free (wc := (mm_w h0 hc hf cJ cI (nI N) (nI M) kn cf ff)) hD hS hA [0, 1, 2] rfl
  refine va_callv (va_runV (As := []) (rest := []) ⟨hx, hb, hml, hown, hts⟩ (c_MM_reckon l dC dI h0 hc hf s.heap.size cJ cI N M hN hM kn cf ff hgd) (cwV 0 hts g_MM_alikeFull_MM_reckon rfl rfl rfl (by decide +kernel) ⟨Nat.le_of_ble_eq_true rfl, Nat.le_of_ble_eq_true rfl⟩) ⟨fun a U g mk q => by obtain ⟨q0, q1, qP, qK, qD⟩ := q; exact ⟨q0, q1, qP, va_K.moved (u := U) (U := U.calling g mk a) (Vm.Alike.refl U.vm) qK, qD⟩, va_recv hK hP (ci := 1) (q0 := 0) rfl rfl, fun U hU hW => ⟨rfl, congrArg Array.size hU, by rw [hU]; exact hP, va_K.moved hW.alike hK, hD.weaken (fun _ _ _ _ => trivial)⟩⟩ rfl rfl hl.1 rfl (lv_room (Nat.le_of_ble_eq_true rfl)) d_MM_alikeFull_1 ⟨Nat.zero_le _, Nat.zero_le _⟩) hS (fun q _ h => hFc q h) hFc (fun u t H1 locs ht hvm hw hB hz1 hk1 hS => ?_)
  obtain ⟨kn1, cf1, ff1⟩ := u
  obtain ⟨hP1, hK1, hD1⟩ := hB
  rw [ht] at hP1
  dsimp only at hw
  obtain ⟨hP, hD⟩ := va_join (wr := []) (w1 := mm_w h0 hc hf cJ cI (nI N) (nI M) kn1 cf1 ff1) hP hD [0, 1, 2] [] rfl rfl (by decide) (by decide) hk1 hFc hP1 hD1
  have hP : va_P (dC, dI) classes (mm_w h0 hc hf cJ cI (nI N) (nI M) kn1 cf1 ff1) H1 := hP
  have hD : va_D A (mm_w h0 hc hf cJ cI (nI N) (nI M) kn1 cf1 ff1) := hD
  refine lv_aload_n hx hb d_MM_alikeFull_4 rfl (lv_at hl 0 rfl) ?_
  refine va_get (D := (dC, dI)) (ci := 1) (v := .ref hc) (C := R_MM) (T := F_MM) (N := 5) hx hb hts i_MM_alikeFull hown hK hP 0 rfl rfl 3 (by decide) (hts _ m_MM_alikeFull_16) (fun _ h9 => h9) rfl d_MM_alikeFull_5 ?_
  refine lv_iconst (v := nI 4) hx hb d_MM_alikeFull_8 (by decide) ?_
  refine va_lald hx hb hK hP 1 0 rfl rfl (vp_in_nI (n := 4) (by decide) (by decide)) d_MM_alikeFull_9 ?_
  refine lw_tl (y := lN (sq_cnt N M 4 (M ^ N))) (by rw [nI_clamp (by decide)]; exact hw 4 (by decide)) ?_
  exact W.lret (v := lN (sq_cnt N M 4 (M ^ N))) hx hb hr (fun t ht hW => ⟨⟨lN (sq_cnt N M 4 (M ^ N)), (kn1, cf1, ff1), rfl, ⟨rfl, hw⟩, by rw [ht]; exact hP, va_K.moved hW.alike hK, hD⟩, hS.F ht⟩) hS.2.2 d_MM_alikeFull_10
set_option maxHeartbeats 4000000 in
set_option maxRecDepth 100000 in
theorem c_MM_unmarked (l : Launch) (dC : Nat → ClassId) (dI : Nat → Nat → Nat) (h0 hc hf sz : Nat) (cJ cI : ClassId) (N M : Nat) (hN : N < 7) (hM : M < 6) (kn : Int32) (cf : Nat → Int64) (ff : Nat → Int32) (hgd : ¬ kn = 0 → gd N M cf) : Met l y_MM_unmarked w_MM_unmarked ({ frames := 1, cells := 0, slots := 0, locals := 30 }) (va_Pc [.ref h0] (pc_MM dC dI h0 hc hf sz cJ cI (nI N) (nI M) kn cf ff)) (va_Ql (fun (r : Int64) (u : Int32 × (Nat → Int64) × (Nat → Int32)) => r = lN (sq_cnt N M 5 (M ^ N)) ∧ gd N M u.2.1) (fun u => at_MM dC dI (va_A (mm_w h0 hc hf cJ cI (nI N) (nI M) kn cf ff) sz) h0 hc hf cJ cI (nI N) (nI M) u.1 u.2.1 u.2.2) (va_A (mm_w h0 hc hf cJ cI (nI N) (nI M) kn cf ff) sz)) 0 0 (va_A (mm_w h0 hc hf cJ cI (nI N) (nI M) kn cf ff) sz) := by
  refine Met.ofW (cc := b_MM_unmarked) (maxL := 1) (ret := (some .long)) (by decide) rfl ?_
  intro p e s m args below meth c s₁ B hml hv
  obtain ⟨rfl, hsz, hP, hK, hD0⟩ := hv
  have hx := B.exec
  have hb := B.bytes
  have hr := B.returns
  have hts := atoms_spec (ws := w_MM_unmarked) B.pre
  have hown : s.vm.findClass R_MM = some m.cls := findClass_of_methodNamed B.named
  have hlocks := B.notSynchronized
  subst hsz
  have hD := hD0.self (sz := s.heap.size)
  generalize hAe : va_A (mm_w h0 hc hf cJ cI (nI N) (nI M) kn cf ff) s.heap.size = A at hD ⊢
  have hA : ∀ q : Nat, s.heap.size ≤ q → A q := fun q h => by rw [← hAe]; exact Or.inr h
  have hS : va_S A s.heap s.heap [] := va_S.rf
  have hP : va_P (dC, dI) classes (mm_w h0 hc hf cJ cI (nI N) (nI M) kn cf ff) s.heap := hP
  have hl := lv_entry ([.ref h0]) (n := 1) (Nat.le_of_ble_eq_true rfl)
  rw [lg_entry_eq]
  generalize (lg_sl ([.ref h0]) ++ List.replicate (1 - (lg_sl ([.ref h0])).length) Slot.unset).toArray = ls at hl ⊢
  have hl : lv_has ls 1 [(0, .ref h0)] := hl
  refine lv_aload_n hx hb d_MM_unmarked_0 rfl (lv_at hl 0 rfl) ?_
  have hFc := va_free (wc := (mm_w h0 hc hf cJ cI (nI N) (nI M) kn cf ff)) hD hS hA [0, 1, 2] rfl
  refine va_callv (va_runV (As := []) (rest := []) ⟨hx, hb, hml, hown, hts⟩ (c_MM_reckon l dC dI h0 hc hf s.heap.size cJ cI N M hN hM kn cf ff hgd) (cwV 0 hts g_MM_unmarked_MM_reckon rfl rfl rfl (by decide +kernel) ⟨Nat.le_of_ble_eq_true rfl, Nat.le_of_ble_eq_true rfl⟩) ⟨fun a U g mk q => by obtain ⟨q0, q1, qP, qK, qD⟩ := q; exact ⟨q0, q1, qP, va_K.moved (u := U) (U := U.calling g mk a) (Vm.Alike.refl U.vm) qK, qD⟩, va_recv hK hP (ci := 1) (q0 := 0) rfl rfl, fun U hU hW => ⟨rfl, congrArg Array.size hU, by rw [hU]; exact hP, va_K.moved hW.alike hK, hD.weaken (fun _ _ _ _ => trivial)⟩⟩ rfl rfl hl.1 rfl (lv_room (Nat.le_of_ble_eq_true rfl)) d_MM_unmarked_1 ⟨Nat.zero_le _, Nat.zero_le _⟩) hS (fun q _ h => hFc q h) hFc (fun u t H1 locs ht hvm hw hB hz1 hk1 hS => ?_)
  obtain ⟨kn1, cf1, ff1⟩ := u
  obtain ⟨hP1, hK1, hD1⟩ := hB
  rw [ht] at hP1
  dsimp only at hw
  obtain ⟨hP, hD⟩ := va_join (wr := []) (w1 := mm_w h0 hc hf cJ cI (nI N) (nI M) kn1 cf1 ff1) hP hD [0, 1, 2] [] rfl rfl (by decide) (by decide) hk1 hFc hP1 hD1
  have hP : va_P (dC, dI) classes (mm_w h0 hc hf cJ cI (nI N) (nI M) kn1 cf1 ff1) H1 := hP
  have hD : va_D A (mm_w h0 hc hf cJ cI (nI N) (nI M) kn1 cf1 ff1) := hD
  refine lv_aload_n hx hb d_MM_unmarked_4 rfl (lv_at hl 0 rfl) ?_
  refine va_get (D := (dC, dI)) (ci := 1) (v := .ref hc) (C := R_MM) (T := F_MM) (N := 5) hx hb hts i_MM_unmarked hown hK hP 0 rfl rfl 3 (by decide) (hts _ m_MM_unmarked_16) (fun _ h9 => h9) rfl d_MM_unmarked_5 ?_
  refine lv_iconst (v := nI 5) hx hb d_MM_unmarked_8 (by decide) ?_
  refine va_lald hx hb hK hP 1 0 rfl rfl (vp_in_nI (n := 5) (by decide) (by decide)) d_MM_unmarked_9 ?_
  refine lw_tl (y := lN (sq_cnt N M 5 (M ^ N))) (by rw [nI_clamp (by decide)]; exact hw 5 (by decide)) ?_
  exact W.lret (v := lN (sq_cnt N M 5 (M ^ N))) hx hb hr (fun t ht hW => ⟨⟨lN (sq_cnt N M 5 (M ^ N)), (kn1, cf1, ff1), rfl, ⟨rfl, hw⟩, by rw [ht]; exact hP, va_K.moved hW.alike hK, hD⟩, hS.F ht⟩) hS.2.2 d_MM_unmarked_10
set_option maxHeartbeats 4000000 in
set_option maxRecDepth 100000 in
theorem c_MM_unmarkedFull (l : Launch) (dC : Nat → ClassId) (dI : Nat → Nat → Nat) (h0 hc hf sz : Nat) (cJ cI : ClassId) (N M : Nat) (hN : N < 7) (hM : M < 6) (kn : Int32) (cf : Nat → Int64) (ff : Nat → Int32) (hgd : ¬ kn = 0 → gd N M cf) : Met l y_MM_unmarkedFull w_MM_unmarkedFull ({ frames := 1, cells := 0, slots := 0, locals := 30 }) (va_Pc [.ref h0] (pc_MM dC dI h0 hc hf sz cJ cI (nI N) (nI M) kn cf ff)) (va_Ql (fun (r : Int64) (u : Int32 × (Nat → Int64) × (Nat → Int32)) => r = lN (sq_cnt N M 6 (M ^ N)) ∧ gd N M u.2.1) (fun u => at_MM dC dI (va_A (mm_w h0 hc hf cJ cI (nI N) (nI M) kn cf ff) sz) h0 hc hf cJ cI (nI N) (nI M) u.1 u.2.1 u.2.2) (va_A (mm_w h0 hc hf cJ cI (nI N) (nI M) kn cf ff) sz)) 0 0 (va_A (mm_w h0 hc hf cJ cI (nI N) (nI M) kn cf ff) sz) := by
  refine Met.ofW (cc := b_MM_unmarkedFull) (maxL := 1) (ret := (some .long)) (by decide) rfl ?_
  intro p e s m args below meth c s₁ B hml hv
  obtain ⟨rfl, hsz, hP, hK, hD0⟩ := hv
  have hx := B.exec
  have hb := B.bytes
  have hr := B.returns
  have hts := atoms_spec (ws := w_MM_unmarkedFull) B.pre
  have hown : s.vm.findClass R_MM = some m.cls := findClass_of_methodNamed B.named
  have hlocks := B.notSynchronized
  subst hsz
  have hD := hD0.self (sz := s.heap.size)
  generalize hAe : va_A (mm_w h0 hc hf cJ cI (nI N) (nI M) kn cf ff) s.heap.size = A at hD ⊢
  have hA : ∀ q : Nat, s.heap.size ≤ q → A q := fun q h => by rw [← hAe]; exact Or.inr h
  have hS : va_S A s.heap s.heap [] := va_S.rf
  have hP : va_P (dC, dI) classes (mm_w h0 hc hf cJ cI (nI N) (nI M) kn cf ff) s.heap := hP
  have hl := lv_entry ([.ref h0]) (n := 1) (Nat.le_of_ble_eq_true rfl)
  rw [lg_entry_eq]
  generalize (lg_sl ([.ref h0]) ++ List.replicate (1 - (lg_sl ([.ref h0])).length) Slot.unset).toArray = ls at hl ⊢
  have hl : lv_has ls 1 [(0, .ref h0)] := hl
  refine lv_aload_n hx hb d_MM_unmarkedFull_0 rfl (lv_at hl 0 rfl) ?_
  have hFc := va_free (wc := (mm_w h0 hc hf cJ cI (nI N) (nI M) kn cf ff)) hD hS hA [0, 1, 2] rfl
  refine va_callv (va_runV (As := []) (rest := []) ⟨hx, hb, hml, hown, hts⟩ (c_MM_reckon l dC dI h0 hc hf s.heap.size cJ cI N M hN hM kn cf ff hgd) (cwV 0 hts g_MM_unmarkedFull_MM_reckon rfl rfl rfl (by decide +kernel) ⟨Nat.le_of_ble_eq_true rfl, Nat.le_of_ble_eq_true rfl⟩) ⟨fun a U g mk q => by obtain ⟨q0, q1, qP, qK, qD⟩ := q; exact ⟨q0, q1, qP, va_K.moved (u := U) (U := U.calling g mk a) (Vm.Alike.refl U.vm) qK, qD⟩, va_recv hK hP (ci := 1) (q0 := 0) rfl rfl, fun U hU hW => ⟨rfl, congrArg Array.size hU, by rw [hU]; exact hP, va_K.moved hW.alike hK, hD.weaken (fun _ _ _ _ => trivial)⟩⟩ rfl rfl hl.1 rfl (lv_room (Nat.le_of_ble_eq_true rfl)) d_MM_unmarkedFull_1 ⟨Nat.zero_le _, Nat.zero_le _⟩) hS (fun q _ h => hFc q h) hFc (fun u t H1 locs ht hvm hw hB hz1 hk1 hS => ?_)
  obtain ⟨kn1, cf1, ff1⟩ := u
  obtain ⟨hP1, hK1, hD1⟩ := hB
  rw [ht] at hP1
  dsimp only at hw
  obtain ⟨hP, hD⟩ := va_join (wr := []) (w1 := mm_w h0 hc hf cJ cI (nI N) (nI M) kn1 cf1 ff1) hP hD [0, 1, 2] [] rfl rfl (by decide) (by decide) hk1 hFc hP1 hD1
  have hP : va_P (dC, dI) classes (mm_w h0 hc hf cJ cI (nI N) (nI M) kn1 cf1 ff1) H1 := hP
  have hD : va_D A (mm_w h0 hc hf cJ cI (nI N) (nI M) kn1 cf1 ff1) := hD
  refine lv_aload_n hx hb d_MM_unmarkedFull_4 rfl (lv_at hl 0 rfl) ?_
  refine va_get (D := (dC, dI)) (ci := 1) (v := .ref hc) (C := R_MM) (T := F_MM) (N := 5) hx hb hts i_MM_unmarkedFull hown hK hP 0 rfl rfl 3 (by decide) (hts _ m_MM_unmarkedFull_16) (fun _ h9 => h9) rfl d_MM_unmarkedFull_5 ?_
  refine lv_bipush (v := nI 6) hx hb d_MM_unmarkedFull_8 (by decide) ?_
  refine va_lald hx hb hK hP 1 0 rfl rfl (vp_in_nI (n := 6) (by decide) (by decide)) d_MM_unmarkedFull_10 ?_
  refine lw_tl (y := lN (sq_cnt N M 6 (M ^ N))) (by rw [nI_clamp (by decide)]; exact hw 6 (by decide)) ?_
  exact W.lret (v := lN (sq_cnt N M 6 (M ^ N))) hx hb hr (fun t ht hW => ⟨⟨lN (sq_cnt N M 6 (M ^ N)), (kn1, cf1, ff1), rfl, ⟨rfl, hw⟩, by rw [ht]; exact hP, va_K.moved hW.alike hK, hD⟩, hS.F ht⟩) hS.2.2 d_MM_unmarkedFull_11
set_option maxHeartbeats 4000000 in
set_option maxRecDepth 100000 in
theorem c_MM_strange (l : Launch) (dC : Nat → ClassId) (dI : Nat → Nat → Nat) (h0 hc hf sz : Nat) (cJ cI : ClassId) (N M : Nat) (hN : N < 7) (hM : M < 6) (kn : Int32) (cf : Nat → Int64) (ff : Nat → Int32) (hgd : ¬ kn = 0 → gd N M cf) : Met l y_MM_strange w_MM_strange ({ frames := 1, cells := 0, slots := 0, locals := 30 }) (va_Pc [.ref h0] (pc_MM dC dI h0 hc hf sz cJ cI (nI N) (nI M) kn cf ff)) (va_Ql (fun (r : Int64) (u : Int32 × (Nat → Int64) × (Nat → Int32)) => r = lN (sq_cnt N M 7 (M ^ N)) ∧ gd N M u.2.1) (fun u => at_MM dC dI (va_A (mm_w h0 hc hf cJ cI (nI N) (nI M) kn cf ff) sz) h0 hc hf cJ cI (nI N) (nI M) u.1 u.2.1 u.2.2) (va_A (mm_w h0 hc hf cJ cI (nI N) (nI M) kn cf ff) sz)) 0 0 (va_A (mm_w h0 hc hf cJ cI (nI N) (nI M) kn cf ff) sz) := by
  refine Met.ofW (cc := b_MM_strange) (maxL := 1) (ret := (some .long)) (by decide) rfl ?_
  intro p e s m args below meth c s₁ B hml hv
  obtain ⟨rfl, hsz, hP, hK, hD0⟩ := hv
  have hx := B.exec
  have hb := B.bytes
  have hr := B.returns
  have hts := atoms_spec (ws := w_MM_strange) B.pre
  have hown : s.vm.findClass R_MM = some m.cls := findClass_of_methodNamed B.named
  have hlocks := B.notSynchronized
  subst hsz
  have hD := hD0.self (sz := s.heap.size)
  generalize hAe : va_A (mm_w h0 hc hf cJ cI (nI N) (nI M) kn cf ff) s.heap.size = A at hD ⊢
  have hA : ∀ q : Nat, s.heap.size ≤ q → A q := fun q h => by rw [← hAe]; exact Or.inr h
  have hS : va_S A s.heap s.heap [] := va_S.rf
  have hP : va_P (dC, dI) classes (mm_w h0 hc hf cJ cI (nI N) (nI M) kn cf ff) s.heap := hP
  have hl := lv_entry ([.ref h0]) (n := 1) (Nat.le_of_ble_eq_true rfl)
  rw [lg_entry_eq]
  generalize (lg_sl ([.ref h0]) ++ List.replicate (1 - (lg_sl ([.ref h0])).length) Slot.unset).toArray = ls at hl ⊢
  have hl : lv_has ls 1 [(0, .ref h0)] := hl
  refine lv_aload_n hx hb d_MM_strange_0 rfl (lv_at hl 0 rfl) ?_
  have hFc := va_free (wc := (mm_w h0 hc hf cJ cI (nI N) (nI M) kn cf ff)) hD hS hA [0, 1, 2] rfl
  refine va_callv (va_runV (As := []) (rest := []) ⟨hx, hb, hml, hown, hts⟩ (c_MM_reckon l dC dI h0 hc hf s.heap.size cJ cI N M hN hM kn cf ff hgd) (cwV 0 hts g_MM_strange_MM_reckon rfl rfl rfl (by decide +kernel) ⟨Nat.le_of_ble_eq_true rfl, Nat.le_of_ble_eq_true rfl⟩) ⟨fun a U g mk q => by obtain ⟨q0, q1, qP, qK, qD⟩ := q; exact ⟨q0, q1, qP, va_K.moved (u := U) (U := U.calling g mk a) (Vm.Alike.refl U.vm) qK, qD⟩, va_recv hK hP (ci := 1) (q0 := 0) rfl rfl, fun U hU hW => ⟨rfl, congrArg Array.size hU, by rw [hU]; exact hP, va_K.moved hW.alike hK, hD.weaken (fun _ _ _ _ => trivial)⟩⟩ rfl rfl hl.1 rfl (lv_room (Nat.le_of_ble_eq_true rfl)) d_MM_strange_1 ⟨Nat.zero_le _, Nat.zero_le _⟩) hS (fun q _ h => hFc q h) hFc (fun u t H1 locs ht hvm hw hB hz1 hk1 hS => ?_)
  obtain ⟨kn1, cf1, ff1⟩ := u
  obtain ⟨hP1, hK1, hD1⟩ := hB
  rw [ht] at hP1
  dsimp only at hw
  obtain ⟨hP, hD⟩ := va_join (wr := []) (w1 := mm_w h0 hc hf cJ cI (nI N) (nI M) kn1 cf1 ff1) hP hD [0, 1, 2] [] rfl rfl (by decide) (by decide) hk1 hFc hP1 hD1
  have hP : va_P (dC, dI) classes (mm_w h0 hc hf cJ cI (nI N) (nI M) kn1 cf1 ff1) H1 := hP
  have hD : va_D A (mm_w h0 hc hf cJ cI (nI N) (nI M) kn1 cf1 ff1) := hD
  refine lv_aload_n hx hb d_MM_strange_4 rfl (lv_at hl 0 rfl) ?_
  refine va_get (D := (dC, dI)) (ci := 1) (v := .ref hc) (C := R_MM) (T := F_MM) (N := 5) hx hb hts i_MM_strange hown hK hP 0 rfl rfl 3 (by decide) (hts _ m_MM_strange_16) (fun _ h9 => h9) rfl d_MM_strange_5 ?_
  refine lv_bipush (v := nI 7) hx hb d_MM_strange_8 (by decide) ?_
  refine va_lald hx hb hK hP 1 0 rfl rfl (vp_in_nI (n := 7) (by decide) (by decide)) d_MM_strange_10 ?_
  refine lw_tl (y := lN (sq_cnt N M 7 (M ^ N))) (by rw [nI_clamp (by decide)]; exact hw 7 (by decide)) ?_
  exact W.lret (v := lN (sq_cnt N M 7 (M ^ N))) hx hb hr (fun t ht hW => ⟨⟨lN (sq_cnt N M 7 (M ^ N)), (kn1, cf1, ff1), rfl, ⟨rfl, hw⟩, by rw [ht]; exact hP, va_K.moved hW.alike hK, hD⟩, hS.F ht⟩) hS.2.2 d_MM_strange_11
set_option maxHeartbeats 4000000 in
set_option maxRecDepth 100000 in
theorem c_MM_away (l : Launch) (dC : Nat → ClassId) (dI : Nat → Nat → Nat) (h0 hc hf sz : Nat) (cJ cI : ClassId) (N M : Nat) (hN : N < 7) (hM : M < 6) (kn : Int32) (cf : Nat → Int64) (ff : Nat → Int32) (hgd : ¬ kn = 0 → gd N M cf) : Met l y_MM_away w_MM_away ({ frames := 1, cells := 0, slots := 0, locals := 30 }) (va_Pc [.ref h0] (pc_MM dC dI h0 hc hf sz cJ cI (nI N) (nI M) kn cf ff)) (va_Ql (fun (r : Int64) (u : Int32 × (Nat → Int64) × (Nat → Int32)) => r = lN (sq_cnt N M 8 (M ^ N)) ∧ gd N M u.2.1) (fun u => at_MM dC dI (va_A (mm_w h0 hc hf cJ cI (nI N) (nI M) kn cf ff) sz) h0 hc hf cJ cI (nI N) (nI M) u.1 u.2.1 u.2.2) (va_A (mm_w h0 hc hf cJ cI (nI N) (nI M) kn cf ff) sz)) 0 0 (va_A (mm_w h0 hc hf cJ cI (nI N) (nI M) kn cf ff) sz) := by
  refine Met.ofW (cc := b_MM_away) (maxL := 1) (ret := (some .long)) (by decide) rfl ?_
  intro p e s m args below meth c s₁ B hml hv
  obtain ⟨rfl, hsz, hP, hK, hD0⟩ := hv
  have hx := B.exec
  have hb := B.bytes
  have hr := B.returns
  have hts := atoms_spec (ws := w_MM_away) B.pre
  have hown : s.vm.findClass R_MM = some m.cls := findClass_of_methodNamed B.named
  have hlocks := B.notSynchronized
  subst hsz
  have hD := hD0.self (sz := s.heap.size)
  generalize hAe : va_A (mm_w h0 hc hf cJ cI (nI N) (nI M) kn cf ff) s.heap.size = A at hD ⊢
  have hA : ∀ q : Nat, s.heap.size ≤ q → A q := fun q h => by rw [← hAe]; exact Or.inr h
  have hS : va_S A s.heap s.heap [] := va_S.rf
  have hP : va_P (dC, dI) classes (mm_w h0 hc hf cJ cI (nI N) (nI M) kn cf ff) s.heap := hP
  have hl := lv_entry ([.ref h0]) (n := 1) (Nat.le_of_ble_eq_true rfl)
  rw [lg_entry_eq]
  generalize (lg_sl ([.ref h0]) ++ List.replicate (1 - (lg_sl ([.ref h0])).length) Slot.unset).toArray = ls at hl ⊢
  have hl : lv_has ls 1 [(0, .ref h0)] := hl
  refine lv_aload_n hx hb d_MM_away_0 rfl (lv_at hl 0 rfl) ?_
  have hFc := va_free (wc := (mm_w h0 hc hf cJ cI (nI N) (nI M) kn cf ff)) hD hS hA [0, 1, 2] rfl
  refine va_callv (va_runV (As := []) (rest := []) ⟨hx, hb, hml, hown, hts⟩ (c_MM_reckon l dC dI h0 hc hf s.heap.size cJ cI N M hN hM kn cf ff hgd) (cwV 0 hts g_MM_away_MM_reckon rfl rfl rfl (by decide +kernel) ⟨Nat.le_of_ble_eq_true rfl, Nat.le_of_ble_eq_true rfl⟩) ⟨fun a U g mk q => by obtain ⟨q0, q1, qP, qK, qD⟩ := q; exact ⟨q0, q1, qP, va_K.moved (u := U) (U := U.calling g mk a) (Vm.Alike.refl U.vm) qK, qD⟩, va_recv hK hP (ci := 1) (q0 := 0) rfl rfl, fun U hU hW => ⟨rfl, congrArg Array.size hU, by rw [hU]; exact hP, va_K.moved hW.alike hK, hD.weaken (fun _ _ _ _ => trivial)⟩⟩ rfl rfl hl.1 rfl (lv_room (Nat.le_of_ble_eq_true rfl)) d_MM_away_1 ⟨Nat.zero_le _, Nat.zero_le _⟩) hS (fun q _ h => hFc q h) hFc (fun u t H1 locs ht hvm hw hB hz1 hk1 hS => ?_)
  obtain ⟨kn1, cf1, ff1⟩ := u
  obtain ⟨hP1, hK1, hD1⟩ := hB
  rw [ht] at hP1
  dsimp only at hw
  obtain ⟨hP, hD⟩ := va_join (wr := []) (w1 := mm_w h0 hc hf cJ cI (nI N) (nI M) kn1 cf1 ff1) hP hD [0, 1, 2] [] rfl rfl (by decide) (by decide) hk1 hFc hP1 hD1
  have hP : va_P (dC, dI) classes (mm_w h0 hc hf cJ cI (nI N) (nI M) kn1 cf1 ff1) H1 := hP
  have hD : va_D A (mm_w h0 hc hf cJ cI (nI N) (nI M) kn1 cf1 ff1) := hD
  refine lv_aload_n hx hb d_MM_away_4 rfl (lv_at hl 0 rfl) ?_
  refine va_get (D := (dC, dI)) (ci := 1) (v := .ref hc) (C := R_MM) (T := F_MM) (N := 5) hx hb hts i_MM_away hown hK hP 0 rfl rfl 3 (by decide) (hts _ m_MM_away_16) (fun _ h9 => h9) rfl d_MM_away_5 ?_
  refine lv_bipush (v := nI 8) hx hb d_MM_away_8 (by decide) ?_
  refine va_lald hx hb hK hP 1 0 rfl rfl (vp_in_nI (n := 8) (by decide) (by decide)) d_MM_away_10 ?_
  refine lw_tl (y := lN (sq_cnt N M 8 (M ^ N))) (by rw [nI_clamp (by decide)]; exact hw 8 (by decide)) ?_
  exact W.lret (v := lN (sq_cnt N M 8 (M ^ N))) hx hb hr (fun t ht hW => ⟨⟨lN (sq_cnt N M 8 (M ^ N)), (kn1, cf1, ff1), rfl, ⟨rfl, hw⟩, by rw [ht]; exact hP, va_K.moved hW.alike hK, hD⟩, hS.F ht⟩) hS.2.2 d_MM_away_11
set_option maxHeartbeats 4000000 in
set_option maxRecDepth 100000 in
theorem c_MM_choices (l : Launch) (dC : Nat → ClassId) (dI : Nat → Nat → Nat) (h0 hc hf sz : Nat) (cJ cI : ClassId) (N M : Nat) (hN : N < 7) (hM : M < 6) (kn : Int32) (cf : Nat → Int64) (ff : Nat → Int32) (hgd : ¬ kn = 0 → gd N M cf) : Met l y_MM_choices w_MM_choices ({ frames := 1, cells := 0, slots := 0, locals := 30 }) (va_Pc [.ref h0] (pc_MM dC dI h0 hc hf sz cJ cI (nI N) (nI M) kn cf ff)) (va_Ql (fun (r : Int64) (u : Int32 × (Nat → Int64) × (Nat → Int32)) => r = lN (sq_cnt N M 9 (M ^ N)) ∧ gd N M u.2.1) (fun u => at_MM dC dI (va_A (mm_w h0 hc hf cJ cI (nI N) (nI M) kn cf ff) sz) h0 hc hf cJ cI (nI N) (nI M) u.1 u.2.1 u.2.2) (va_A (mm_w h0 hc hf cJ cI (nI N) (nI M) kn cf ff) sz)) 0 0 (va_A (mm_w h0 hc hf cJ cI (nI N) (nI M) kn cf ff) sz) := by
  refine Met.ofW (cc := b_MM_choices) (maxL := 1) (ret := (some .long)) (by decide) rfl ?_
  intro p e s m args below meth c s₁ B hml hv
  obtain ⟨rfl, hsz, hP, hK, hD0⟩ := hv
  have hx := B.exec
  have hb := B.bytes
  have hr := B.returns
  have hts := atoms_spec (ws := w_MM_choices) B.pre
  have hown : s.vm.findClass R_MM = some m.cls := findClass_of_methodNamed B.named
  have hlocks := B.notSynchronized
  subst hsz
  have hD := hD0.self (sz := s.heap.size)
  generalize hAe : va_A (mm_w h0 hc hf cJ cI (nI N) (nI M) kn cf ff) s.heap.size = A at hD ⊢
  have hA : ∀ q : Nat, s.heap.size ≤ q → A q := fun q h => by rw [← hAe]; exact Or.inr h
  have hS : va_S A s.heap s.heap [] := va_S.rf
  have hP : va_P (dC, dI) classes (mm_w h0 hc hf cJ cI (nI N) (nI M) kn cf ff) s.heap := hP
  have hl := lv_entry ([.ref h0]) (n := 1) (Nat.le_of_ble_eq_true rfl)
  rw [lg_entry_eq]
  generalize (lg_sl ([.ref h0]) ++ List.replicate (1 - (lg_sl ([.ref h0])).length) Slot.unset).toArray = ls at hl ⊢
  have hl : lv_has ls 1 [(0, .ref h0)] := hl
  refine lv_aload_n hx hb d_MM_choices_0 rfl (lv_at hl 0 rfl) ?_
  have hFc := va_free (wc := (mm_w h0 hc hf cJ cI (nI N) (nI M) kn cf ff)) hD hS hA [0, 1, 2] rfl
  refine va_callv (va_runV (As := []) (rest := []) ⟨hx, hb, hml, hown, hts⟩ (c_MM_reckon l dC dI h0 hc hf s.heap.size cJ cI N M hN hM kn cf ff hgd) (cwV 0 hts g_MM_choices_MM_reckon rfl rfl rfl (by decide +kernel) ⟨Nat.le_of_ble_eq_true rfl, Nat.le_of_ble_eq_true rfl⟩) ⟨fun a U g mk q => by obtain ⟨q0, q1, qP, qK, qD⟩ := q; exact ⟨q0, q1, qP, va_K.moved (u := U) (U := U.calling g mk a) (Vm.Alike.refl U.vm) qK, qD⟩, va_recv hK hP (ci := 1) (q0 := 0) rfl rfl, fun U hU hW => ⟨rfl, congrArg Array.size hU, by rw [hU]; exact hP, va_K.moved hW.alike hK, hD.weaken (fun _ _ _ _ => trivial)⟩⟩ rfl rfl hl.1 rfl (lv_room (Nat.le_of_ble_eq_true rfl)) d_MM_choices_1 ⟨Nat.zero_le _, Nat.zero_le _⟩) hS (fun q _ h => hFc q h) hFc (fun u t H1 locs ht hvm hw hB hz1 hk1 hS => ?_)
  obtain ⟨kn1, cf1, ff1⟩ := u
  obtain ⟨hP1, hK1, hD1⟩ := hB
  rw [ht] at hP1
  dsimp only at hw
  obtain ⟨hP, hD⟩ := va_join (wr := []) (w1 := mm_w h0 hc hf cJ cI (nI N) (nI M) kn1 cf1 ff1) hP hD [0, 1, 2] [] rfl rfl (by decide) (by decide) hk1 hFc hP1 hD1
  have hP : va_P (dC, dI) classes (mm_w h0 hc hf cJ cI (nI N) (nI M) kn1 cf1 ff1) H1 := hP
  have hD : va_D A (mm_w h0 hc hf cJ cI (nI N) (nI M) kn1 cf1 ff1) := hD
  refine lv_aload_n hx hb d_MM_choices_4 rfl (lv_at hl 0 rfl) ?_
  refine va_get (D := (dC, dI)) (ci := 1) (v := .ref hc) (C := R_MM) (T := F_MM) (N := 5) hx hb hts i_MM_choices hown hK hP 0 rfl rfl 3 (by decide) (hts _ m_MM_choices_16) (fun _ h9 => h9) rfl d_MM_choices_5 ?_
  refine lv_bipush (v := nI 9) hx hb d_MM_choices_8 (by decide) ?_
  refine va_lald hx hb hK hP 1 0 rfl rfl (vp_in_nI (n := 9) (by decide) (by decide)) d_MM_choices_10 ?_
  refine lw_tl (y := lN (sq_cnt N M 9 (M ^ N))) (by rw [nI_clamp (by decide)]; exact hw 9 (by decide)) ?_
  exact W.lret (v := lN (sq_cnt N M 9 (M ^ N))) hx hb hr (fun t ht hW => ⟨⟨lN (sq_cnt N M 9 (M ^ N)), (kn1, cf1, ff1), rfl, ⟨rfl, hw⟩, by rw [ht]; exact hP, va_K.moved hW.alike hK, hD⟩, hS.F ht⟩) hS.2.2 d_MM_choices_11
set_option maxHeartbeats 4000000 in
set_option maxRecDepth 100000 in
theorem c_MM_load (l : Launch) (dC : Nat → ClassId) (dI : Nat → Nat → Nat) (h0 hc hf sz : Nat) (cJ cI : ClassId) (a b kn x y : Int32) (cf : Nat → Int64) (ff : Nat → Int32) : Met l y_MM_load w_MM_load ({ frames := 0, cells := 0, slots := 0, locals := 0 }) (va_Pc [.ref h0, .int x, .int y] (pc_MM dC dI h0 hc hf sz cJ cI a b kn cf ff)) (va_Qv (fun (_ : Unit) => True) (fun _ => at_MM dC dI (va_A (mm_w h0 hc hf cJ cI a b kn cf ff) sz) h0 hc hf cJ cI (nI (ld7 x)) (nI (ld6 y)) 0 cf ff) (va_A (mm_w h0 hc hf cJ cI a b kn cf ff) sz)) 0 0 (va_A (mm_w h0 hc hf cJ cI a b kn cf ff) sz) := by
  refine Met.ofW (cc := b_MM_load) (maxL := 3) (ret := none) (by decide) rfl ?_
  intro p e s m args below meth c s₁ B hml hv
  obtain ⟨rfl, hsz, hP, hK, hD0⟩ := hv
  have hx := B.exec
  have hb := B.bytes
  have hr := B.returns
  have hts := atoms_spec (ws := w_MM_load) B.pre
  have hown : s.vm.findClass R_MM = some m.cls := findClass_of_methodNamed B.named
  have hlocks := B.notSynchronized
  subst hsz
  have hD := hD0.self (sz := s.heap.size)
  generalize hAe : va_A (mm_w h0 hc hf cJ cI a b kn cf ff) s.heap.size = A at hD ⊢
  have hA : ∀ q : Nat, s.heap.size ≤ q → A q := fun q h => by rw [← hAe]; exact Or.inr h
  have hS : va_S A s.heap s.heap [] := va_S.rf
  have hP : va_P (dC, dI) classes (mm_w h0 hc hf cJ cI a b kn cf ff) s.heap := hP
  have hl := lv_entry ([.ref h0, .int x, .int y]) (n := 3) (Nat.le_of_ble_eq_true rfl)
  rw [lg_entry_eq]
  generalize (lg_sl ([.ref h0, .int x, .int y]) ++ List.replicate (3 - (lg_sl ([.ref h0, .int x, .int y])).length) Slot.unset).toArray = ls at hl ⊢
  have hl : lv_has ls 3 [(0, .ref h0), (1, .int x), (2, .int y)] := hl
  refine lv_aload_n hx hb d_MM_load_0 rfl (lv_at hl 0 rfl) ?_
  refine lv_iload_n hx hb d_MM_load_1 rfl (lv_at hl 1 rfl) ?_
  refine lv_ldc hx hb hown (hts (.constant R_MM 24 2147483647) (by decide +kernel)) d_MM_load_2 ?_
  refine lv_iand hx hb d_MM_load_4 ?_
  refine lv_bipush (v := 7) hx hb d_MM_load_5 (by decide) ?_
  refine lv_irem hx hb d_MM_load_7 (by decide) ?_
  refine lw_ti (y := nI (ld7 x)) (ld7_eq x) ?_
  refine va_put (D := (dC, dI)) (ci := 1) (v := .int (nI (ld7 x))) (ty := .int) (C := R_MM) (T := F_MM) (N := 5) hx hb hts i_MM_load t_MM t_MM_ok n_MM hown hK hP hD hS 0 rfl rfl 0 (by decide) (hts _ m_MM_load_7) (fun _ h9 => h9) rfl (by decide +kernel) rfl rfl (Nat.le_of_ble_eq_true rfl) d_MM_load_8 (fun H locs hP hD hS => ?_)
  have hP : va_P (dC, dI) classes (mm_w h0 hc hf cJ cI (nI (ld7 x)) b kn cf ff) H := hP
  have hD : va_D A (mm_w h0 hc hf cJ cI (nI (ld7 x)) b kn cf ff) := hD
  refine lv_aload_n hx hb d_MM_load_11 rfl (lv_at hl 0 rfl) ?_
  refine lv_iload_n hx hb d_MM_load_12 rfl (lv_at hl 2 rfl) ?_
  refine lv_ldc hx hb hown (hts (.constant R_MM 24 2147483647) (by decide +kernel)) d_MM_load_13 ?_
  refine lv_iand hx hb d_MM_load_15 ?_
  refine lv_bipush (v := 6) hx hb d_MM_load_16 (by decide) ?_
  refine lv_irem hx hb d_MM_load_18 (by decide) ?_
  refine lw_ti (y := nI (ld6 y)) (ld6_eq y) ?_
  refine va_put (D := (dC, dI)) (ci := 1) (v := .int (nI (ld6 y))) (ty := .int) (C := R_MM) (T := F_MM) (N := 5) hx hb hts i_MM_load t_MM t_MM_ok n_MM hown hK hP hD hS 0 rfl rfl 1 (by decide) (hts _ m_MM_load_13) (fun _ h9 => h9) rfl (by decide +kernel) rfl rfl (Nat.le_of_ble_eq_true rfl) d_MM_load_19 (fun H locs hP hD hS => ?_)
  have hP : va_P (dC, dI) classes (mm_w h0 hc hf cJ cI (nI (ld7 x)) (nI (ld6 y)) kn cf ff) H := hP
  have hD : va_D A (mm_w h0 hc hf cJ cI (nI (ld7 x)) (nI (ld6 y)) kn cf ff) := hD
  refine lv_aload_n hx hb d_MM_load_22 rfl (lv_at hl 0 rfl) ?_
  refine lv_iconst (v := 0) hx hb d_MM_load_23 (by decide) ?_
  refine va_put (D := (dC, dI)) (ci := 1) (v := .int 0) (ty := .boolean) (C := R_MM) (T := F_MM) (N := 5) hx hb hts i_MM_load t_MM t_MM_ok n_MM hown hK hP hD hS 0 rfl rfl 2 (by decide) (hts _ m_MM_load_25) (fun _ h9 => h9) rfl (by decide +kernel) rfl rfl (Nat.le_of_ble_eq_true rfl) d_MM_load_24 (fun H locs hP hD hS => ?_)
  have hP : va_P (dC, dI) classes (mm_w h0 hc hf cJ cI (nI (ld7 x)) (nI (ld6 y)) 0 cf ff) H := hP
  have hD : va_D A (mm_w h0 hc hf cJ cI (nI (ld7 x)) (nI (ld6 y)) 0 cf ff) := hD
  exact W.vret hx hb hr (fun t ht hW => ⟨⟨(), rfl, trivial, by rw [ht]; exact hP, va_K.moved hW.alike hK, hD⟩, hS.F ht⟩) hS.2.2 d_MM_load_27
end
section
set_option maxHeartbeats 4000000 in
set_option maxRecDepth 100000 in
theorem c_MM_init (l : Launch) (dC : Nat → ClassId) (dI : Nat → Nat → Nat) (h0 sz : Nat) (a b kn : Int32) : Met l y_MM_init w_MM_init ({ frames := 1, cells := 2, slots := 24, locals := 12 }) (va_Pc [.ref h0] (fun U => U.heap.size = sz ∧ va_P (dC, dI) classes [(h0, .inr (1, [.int a, .int b, .int kn, .null, .null]))] U.heap ∧ va_K (dC, dI) classes [] U ∧ va_D (fun _ => True) [(h0, .inr (1, [.int a, .int b, .int kn, .null, .null]))])) (va_Qv (fun (_ : Nat × Nat × ClassId × ClassId) => True) (fun u => at_MM dC dI (va_A [(h0, .inr (1, [.int a, .int b, .int kn, .null, .null]))] sz) h0 u.1 u.2.1 u.2.2.1 u.2.2.2 (nI 4) (nI 3) kn (fun _ => 0) (fun _ => 0)) (va_A [(h0, .inr (1, [.int a, .int b, .int kn, .null, .null]))] sz)) 2 24 (va_A [(h0, .inr (1, [.int a, .int b, .int kn, .null, .null]))] sz) := by
  refine Met.ofW (cc := b_MM_init) (maxL := 1) (ret := none) (by decide) rfl ?_
  intro p e s m args below meth c s₁ B hml hv
  obtain ⟨rfl, hsz, hP, hK, hD0⟩ := hv
  have hx := B.exec
  have hb := B.bytes
  have hr := B.returns
  have hts := atoms_spec (ws := w_MM_init) B.pre
  have hown : s.vm.findClass R_MM = some m.cls := findClass_of_methodNamed B.named
  have hlocks := B.notSynchronized
  subst hsz
  have hD := hD0.self (sz := s.heap.size)
  generalize hAe : va_A [(h0, .inr (1, [.int a, .int b, .int kn, .null, .null]))] s.heap.size = A at hD ⊢
  have hA : ∀ q : Nat, s.heap.size ≤ q → A q := fun q h => by rw [← hAe]; exact Or.inr h
  have hS : va_S A s.heap s.heap [] := va_S.rf
  have hP : va_P (dC, dI) classes [(h0, .inr (1, [.int a, .int b, .int kn, .null, .null]))] s.heap := hP
  have hl := lv_entry ([.ref h0]) (n := 1) (Nat.le_of_ble_eq_true rfl)
  rw [lg_entry_eq]
  generalize (lg_sl ([.ref h0]) ++ List.replicate (1 - (lg_sl ([.ref h0])).length) Slot.unset).toArray = ls at hl ⊢
  have hl : lv_has ls 1 [(0, .ref h0)] := hl
  have hin : meth.name = "<init>" := (name_of_methodNamed B.named B.method).1
  refine lv_aload_n hx hb d_MM_init_0 rfl (lv_at hl 0 rfl) ?_
  refine W.objInit hx hb hown (hts (.methodLink R_MM 1 objectInit) (by decide +kernel)) (hts (.instanceMethod objectInit) (by decide +kernel)) (hts _ (List.mem_cons_of_mem _ (List.mem_append_left _ (List.mem_of_getElem? (i := 2) rfl)))) rfl (by rw [hml]; exact hl.1) rfl d_MM_init_1 (Nat.le_of_ble_eq_true rfl) (Nat.le_of_ble_eq_true rfl) ?_
  refine W.eq (g2 := F0 m 4 ls []) rfl ?_
  refine lv_aload_n hx hb d_MM_init_4 rfl (lv_at hl 0 rfl) ?_
  refine lv_iconst (v := nI 4) hx hb d_MM_init_5 (by decide) ?_
  refine va_put (D := (dC, dI)) (ci := 1) (v := .int (nI 4)) (ty := .int) (C := R_MM) (T := F_MM) (N := 5) hx hb hts i_MM_init t_MM t_MM_ok n_MM hown hK hP hD hS 0 rfl rfl 0 (by decide) (hts _ m_MM_init_7) (fun _ h9 => h9) rfl (by decide +kernel) rfl rfl (Nat.le_of_ble_eq_true rfl) d_MM_init_6 (fun H locs hP hD hS => ?_)
  have hP : va_P (dC, dI) classes [(h0, .inr (1, [.int (nI 4), .int b, .int kn, .null, .null]))] H := hP
  have hD : va_D A [(h0, .inr (1, [.int (nI 4), .int b, .int kn, .null, .null]))] := hD
  refine lv_aload_n hx hb d_MM_init_9 rfl (lv_at hl 0 rfl) ?_
  refine lv_iconst (v := nI 3) hx hb d_MM_init_10 (by decide) ?_
  refine va_put (D := (dC, dI)) (ci := 1) (v := .int (nI 3)) (ty := .int) (C := R_MM) (T := F_MM) (N := 5) hx hb hts i_MM_init t_MM t_MM_ok n_MM hown hK hP hD hS 0 rfl rfl 1 (by decide) (hts _ m_MM_init_13) (fun _ h9 => h9) rfl (by decide +kernel) rfl rfl (Nat.le_of_ble_eq_true rfl) d_MM_init_11 (fun H locs hP hD hS => ?_)
  have hP : va_P (dC, dI) classes [(h0, .inr (1, [.int (nI 4), .int (nI 3), .int kn, .null, .null]))] H := hP
  have hD : va_D A [(h0, .inr (1, [.int (nI 4), .int (nI 3), .int kn, .null, .null]))] := hD
  refine lv_aload_n hx hb d_MM_init_14 rfl (lv_at hl 0 rfl) ?_
  refine lv_bipush (v := 16) hx hb d_MM_init_15 (by decide) ?_
  refine va_newa (atype := .long) (a0 := (16, .inr (.inl (fun _ => 0)))) (N' := 16) hx hb (hts (.arrayClass .long) (by decide +kernel)) (ty := .long) rfl hK hP hD hS hA (fun _ => rfl) (by decide +kernel) (by decide +kernel) (by decide +kernel) (Nat.le_of_ble_eq_true rfl) (Nat.le_of_ble_eq_true rfl) d_MM_init_17 (fun qc cJ H hK hP hD hS => ?_)
  have hP : va_P (dC, dI) classes [(h0, .inr (1, [.int (nI 4), .int (nI 3), .int kn, .null, .null])), (qc, .inl (cJ, 16, .inr (.inl (fun _ => 0))))] H := hP
  have hD : va_D A [(h0, .inr (1, [.int (nI 4), .int (nI 3), .int kn, .null, .null])), (qc, .inl (cJ, 16, .inr (.inl (fun _ => 0))))] := hD
  have hK : va_K (dC, dI) classes [(cJ, .long)] s := hK
  refine va_putF (D := (dC, dI)) (ci := 1) (v := .ref qc) (ty := .array .long) (C := R_MM) (T := F_MM) (N := 5) hx hb hts i_MM_init t_MM t_MM_ok n_MM hown hK hP hD hS 0 rfl rfl 3 (by decide) (hts _ m_MM_init_16) (fun _ h9 => h9) rfl hin rfl (by decide +kernel) rfl rfl (Nat.le_of_ble_eq_true rfl) d_MM_init_19 (fun H locs hP hD hS => ?_)
  have hP : va_P (dC, dI) classes [(h0, .inr (1, [.int (nI 4), .int (nI 3), .int kn, .ref qc, .null])), (qc, .inl (cJ, 16, .inr (.inl (fun _ => 0))))] H := hP
  have hD : va_D A [(h0, .inr (1, [.int (nI 4), .int (nI 3), .int kn, .ref qc, .null])), (qc, .inl (cJ, 16, .inr (.inl (fun _ => 0))))] := hD
  refine lv_aload_n hx hb d_MM_init_22 rfl (lv_at hl 0 rfl) ?_
  refine lv_bipush (v := 8) hx hb d_MM_init_23 (by decide) ?_
  refine va_newa (atype := .int) (a0 := (8, .inl (fun _ => 0))) (N' := 8) hx hb (hts (.arrayClass .int) (by decide +kernel)) (ty := .int) rfl hK hP hD hS hA (fun _ => rfl) (by decide +kernel) (by decide +kernel) (by decide +kernel) (Nat.le_of_ble_eq_true rfl) (Nat.le_of_ble_eq_true rfl) d_MM_init_25 (fun qf cI H hK hP hD hS => ?_)
  have hP : va_P (dC, dI) classes [(h0, .inr (1, [.int (nI 4), .int (nI 3), .int kn, .ref qc, .null])), (qc, .inl (cJ, 16, .inr (.inl (fun _ => 0)))), (qf, .inl (cI, 8, .inl (fun _ => 0)))] H := hP
  have hD : va_D A [(h0, .inr (1, [.int (nI 4), .int (nI 3), .int kn, .ref qc, .null])), (qc, .inl (cJ, 16, .inr (.inl (fun _ => 0)))), (qf, .inl (cI, 8, .inl (fun _ => 0)))] := hD
  have hK : va_K (dC, dI) classes [(cJ, .long), (cI, .int)] s := hK
  refine va_putF (D := (dC, dI)) (ci := 1) (v := .ref qf) (ty := .array .int) (C := R_MM) (T := F_MM) (N := 5) hx hb hts i_MM_init t_MM t_MM_ok n_MM hown hK hP hD hS 0 rfl rfl 4 (by decide) (hts _ m_MM_init_20) (fun _ h9 => h9) rfl hin rfl (by decide +kernel) rfl rfl (Nat.le_of_ble_eq_true rfl) d_MM_init_27 (fun H locs hP hD hS => ?_)
  have hP : va_P (dC, dI) classes [(h0, .inr (1, [.int (nI 4), .int (nI 3), .int kn, .ref qc, .ref qf])), (qc, .inl (cJ, 16, .inr (.inl (fun _ => 0)))), (qf, .inl (cI, 8, .inl (fun _ => 0)))] H := hP
  have hD : va_D A [(h0, .inr (1, [.int (nI 4), .int (nI 3), .int kn, .ref qc, .ref qf])), (qc, .inl (cJ, 16, .inr (.inl (fun _ => 0)))), (qf, .inl (cI, 8, .inl (fun _ => 0)))] := hD
  refine W.widen (k := 2) (n := 24) (Nat.le_of_ble_eq_true rfl) (Nat.le_of_ble_eq_true rfl) ?_
  exact W.vret hx hb hr (fun t ht hW => ⟨⟨(qc, qf, cJ, cI), rfl, trivial, by rw [ht]; exact hP, va_K.moved hW.alike hK, hD⟩, hS.F ht⟩) hS.2.2 d_MM_init_30
end
section
def lw_P (b : Addr) (xs : List Int32) (args : Array Value) (s : State) : Prop := args = #[.ref b] ∧ s.IntsAt b xs ∧ xs.length ≤ 1536 ∧ (Jvm.Cond.and given_1 narrow_1).before args s = true
def lw_Q (_ : Array Value) (s : State) (o : Outcome) (t : State) : Prop := o = .returned (some (.int 1)) ∧ Framed s o t [] 4 31
def lw_Z (below : List Frame) (a : Array Value) (s : State) : State → Prop := fun t => ∃ o, t.status = .running ∧ Ended t below o ∧ lw_Q a s o t
theorem lw_ret {p : Program} {l : Launch} {e : Env} {s : State} {m : MethodId} {below : List Frame} {meth : Method} {c : Code} {b : Nat} (hx : p.tables.exec = Jvm.exec) (hb : c.code = code) (hr : meth.sig.returnType = ret) (hlocks : meth.locks = false) {pc : Nat} {H : Heap} {ls : Array Slot} (hdg : decode code pc = .ok (.ireturn, 1)) : W p l e room_1 s m #[Value.ref b] below meth c H [] 4 31 (lw_Z below #[Value.ref b] s) (F0 m pc ls [.int 1]) := by
  intro T hT X
  obtain ⟨fs, hret, hrun, hended, hW, hframe⟩ := X.leave (v := some (.int 1)) (hlocks := hlocks) (fun h => by rw [hr] at h; cases h)
  have hmeth' : T.vm.method? m = some meth := X.method'
  refine ⟨T.setFrames fs, ?_, .returned (some (.int 1)), hrun, hended, rfl, ⟨_, rfl⟩, hW, hframe⟩
  jvm_step X.here [X.here.top, hx, hb, hdg, hmeth', hr, ret, narrow_b1]
  (try refine ⟨rfl, ?_⟩); (try refine ⟨rfl, ?_⟩)
  first | (intro acts; rw [hret _ acts rfl rfl rfl]) | rw [hret _ _ rfl rfl rfl]
  exact Steps.refl _
def lw_At (p : Program) (s : State) (m : MethodId) (meth : Method) (c : Code) (b L : Nat) (xs : Nat → Int32) : Prop :=
  p.tables.exec = Jvm.exec ∧ c.code = code ∧ meth.sig.returnType = ret ∧ c.maxLocals = 4 ∧ s.vm.findClass R_law = some m.cls ∧ (∀ w ∈ lw_tbl, w.before #[Value.ref b] s = true) ∧ va_X b L xs s s.heap ∧ b < s.heap.size ∧ meth.locks = false ∧ (Jvm.Cond.and given_1 narrow_1).before #[Value.ref b] s = true
abbrev lw4 (q0 q1 qc qf : Nat) (cJ cI : ClassId) (n b kn : Int32) (cf : Nat → Int64) (ff : Nat → Int32) : va_W := [(q0, .inr (0, [.int n, .int b])), (q1, .inr (1, [.int n, .int b, .int kn, .ref qc, .ref qf])), (qc, .inl (cJ, 16, .inr (.inl cf))), (qf, .inl (cI, 8, .inl ff))]
def lw_W (s : State) (dC : Nat → ClassId) (dI : Nat → Nat → Nat) (q0 q1 qc qf : Nat) (cJ cI : ClassId) (n b kn : Int32) (cf : Nat → Int64) (ff : Nat → Int32) (H : Heap) (locs : List Loc) : Prop := va_P (dC, dI) classes (lw4 q0 q1 qc qf cJ cI n b kn cf ff) H ∧ va_D (fun q : Nat => s.heap.size ≤ q) (lw4 q0 q1 qc qf cJ cI n b kn cf ff) ∧ va_S (fun q : Nat => s.heap.size ≤ q) s.heap H locs
theorem lw_cmp {i L : Nat} (hi : i < 2 ^ 30) (hL : L < 2 ^ 30) : (nI L - 3 < nI i) ↔ L < i + 3 := by
  rw [Int32.lt_iff_toInt_lt, show (3 : Int32) = nI 3 from rfl, pk_sub_toInt hL (by decide), nI_toInt (by omega)]
  omega
section LAW1
variable {p : Program} {l : Launch} {e : Env} {s : State} {m : MethodId} {below : List Frame} {meth : Method} {c : Code} {Q : State → Prop} {dC : Nat → ClassId} {dI : Nat → Nat → Nat} {q0 q1 qc qf : Nat} {cJ cI : ClassId} {N M : Nat} {kn : Int32} {cf : Nat → Int64} {ff : Nat → Int32} {H : Heap} {locs : List Loc} {ls : Array Slot} {pc b L : Nat} {xs : Nat → Int32} {rest : List Value}
set_option maxHeartbeats 4000000 in
set_option maxRecDepth 100000 in
theorem law_c1 {y : MethodName} {ws : List Cond} {rm : Room} {bytes : ByteArray} {index maxL : Nat} {v : Int64} (C0 : lw_At p s m meth c b L xs) (hK : va_K (dC, dI) classes [(cJ, .long), (cI, .int)] s) (hW : lw_W s dC dI q0 q1 qc qf cJ cI (nI N) (nI M) kn cf ff H locs) (hsize : ls.size = 4)
    (hM : ∀ sz : Nat, Met l y ws rm (va_Pc [.ref q0] (pc_MC dC dI q0 sz (nI N) (nI M))) (va_Ql (fun (r : Int64) (_ : Unit) => r = v) (fun _ => at_MC dC dI (va_A (mc_w q0 (nI N) (nI M)) sz) q0 (nI N) (nI M)) (va_A (mc_w q0 (nI N) (nI M)) sz)) 0 0 (va_A (mc_w q0 (nI N) (nI M)) sz))
    (cw : CallW room_1 s #[Value.ref b] R_law R_MC index y bytes maxL (some .long) ws rm 0 0 0) (hroom : (rest.map fun v => v.category).sum ≤ 8) (hdg : decode code pc = .ok (.invokevirtual index, 3))
    (kk : ∀ (H : Heap) (locs : List Loc), lw_W s dC dI q0 q1 qc qf cJ cI (nI N) (nI M) kn cf ff H locs → W p l e room_1 s m #[Value.ref b] below meth c H locs 4 31 Q (F0 m (pc + 3) ls (.long v :: rest))) : W p l e room_1 s m #[Value.ref b] below meth c H locs 4 31 Q (F0 m pc ls (.ref q0 :: rest)) := by
  obtain ⟨hx, hb, hr, hml, hown, hts, hX, hbl, hlocks, hgv⟩ := C0
  obtain ⟨hP, hD, hS⟩ := hW
  have hA : ∀ q : Nat, s.heap.size ≤ q → (fun q : Nat => s.heap.size ≤ q) q := fun _ h => h
  have hPc := hP.sub (ws' := (mc_w q0 (nI N) (nI M))) [0] rfl
  have hDc := hD.sub (ws' := (mc_w q0 (nI N) (nI M))) [0] (by decide) rfl
  have hKc := hK.sub (tys' := []) [] rfl
  have hFc := va_free (wc := (mc_w q0 (nI N) (nI M))) hD hS hA [0] rfl
  refine va_calll (va_runV (As := []) (rest := rest) ⟨hx, hb, hml, hown, hts⟩ (hM H.size) cw ⟨fun a U g mk q => by obtain ⟨q0, q1, qP, qK, qD⟩ := q; exact ⟨q0, q1, qP, va_K.moved (u := U) (U := U.calling g mk a) (Vm.Alike.refl U.vm) qK, qD⟩, va_recv hKc hPc (ci := 0) (q0 := 0) rfl rfl, fun U hU hW => ⟨rfl, congrArg Array.size hU, by rw [hU]; exact hPc, va_K.moved hW.alike hKc, hDc.weaken (fun _ _ _ _ => trivial)⟩⟩ rfl rfl hsize rfl (lv_room hroom) hdg ⟨Nat.le_of_ble_eq_true rfl, Nat.le_of_ble_eq_true rfl⟩) hS (fun q _ h => hFc q h) hFc (fun r u t H1 locs ht hvm hw hB hz1 hk1 hS => ?_)
  obtain ⟨hP1, hK1, hD1⟩ := hB
  rw [ht] at hP1
  subst hw
  obtain ⟨hP, hD⟩ := va_join (wr := (mm_w q1 qc qf cJ cI (nI N) (nI M) kn cf ff)) (w1 := (mc_w q0 (nI N) (nI M))) hP hD [0] [1, 2, 3] rfl rfl (by decide) (by decide) hk1 hFc hP1 hD1
  exact kk H1 locs ⟨hP.sub [3, 0, 1, 2] rfl, hD.sub [3, 0, 1, 2] (by decide) rfl, hS⟩
set_option maxHeartbeats 4000000 in
set_option maxRecDepth 100000 in
theorem law_c2 {y : MethodName} {ws : List Cond} {rm : Room} {bytes : ByteArray} {index maxL : Nat} {v : Int64} (C0 : lw_At p s m meth c b L xs) (hK : va_K (dC, dI) classes [(cJ, .long), (cI, .int)] s) (hW : lw_W s dC dI q0 q1 qc qf cJ cI (nI N) (nI M) kn cf ff H locs) (hsize : ls.size = 4)
    (hM : ∀ sz : Nat, Met l y ws rm (va_Pc [.ref q1] (pc_MM dC dI q1 qc qf sz cJ cI (nI N) (nI M) kn cf ff)) (va_Ql (fun (r : Int64) (u : Int32 × (Nat → Int64) × (Nat → Int32)) => r = v ∧ gd N M u.2.1) (fun u => at_MM dC dI (va_A (mm_w q1 qc qf cJ cI (nI N) (nI M) kn cf ff) sz) q1 qc qf cJ cI (nI N) (nI M) u.1 u.2.1 u.2.2) (va_A (mm_w q1 qc qf cJ cI (nI N) (nI M) kn cf ff) sz)) 0 0 (va_A (mm_w q1 qc qf cJ cI (nI N) (nI M) kn cf ff) sz))
    (cw : CallW room_1 s #[Value.ref b] R_law R_MM index y bytes maxL (some .long) ws rm 0 0 0) (hroom : (rest.map fun v => v.category).sum ≤ 8) (hdg : decode code pc = .ok (.invokevirtual index, 3))
    (kk : ∀ (H : Heap) (locs : List Loc) (kn : Int32) (cf : Nat → Int64) (ff : Nat → Int32), gd N M cf → lw_W s dC dI q0 q1 qc qf cJ cI (nI N) (nI M) kn cf ff H locs → W p l e room_1 s m #[Value.ref b] below meth c H locs 4 31 Q (F0 m (pc + 3) ls (.long v :: rest))) : W p l e room_1 s m #[Value.ref b] below meth c H locs 4 31 Q (F0 m pc ls (.ref q1 :: rest)) := by
  obtain ⟨hx, hb, hr, hml, hown, hts, hX, hbl, hlocks, hgv⟩ := C0
  obtain ⟨hP, hD, hS⟩ := hW
  have hA : ∀ q : Nat, s.heap.size ≤ q → (fun q : Nat => s.heap.size ≤ q) q := fun _ h => h
  have hPc := hP.sub (ws' := (mm_w q1 qc qf cJ cI (nI N) (nI M) kn cf ff)) [1, 2, 3] rfl
  have hDc := hD.sub (ws' := (mm_w q1 qc qf cJ cI (nI N) (nI M) kn cf ff)) [1, 2, 3] (by decide) rfl
  have hFc := va_free (wc := (mm_w q1 qc qf cJ cI (nI N) (nI M) kn cf ff)) hD hS hA [1, 2, 3] rfl
  refine va_calll (va_runV (As := []) (rest := rest) ⟨hx, hb, hml, hown, hts⟩ (hM H.size) cw ⟨fun a U g mk q => by obtain ⟨q0, q1, qP, qK, qD⟩ := q; exact ⟨q0, q1, qP, va_K.moved (u := U) (U := U.calling g mk a) (Vm.Alike.refl U.vm) qK, qD⟩, va_recv hK hPc (ci := 1) (q0 := 0) rfl rfl, fun U hU hW => ⟨rfl, congrArg Array.size hU, by rw [hU]; exact hPc, va_K.moved hW.alike hK, hDc.weaken (fun _ _ _ _ => trivial)⟩⟩ rfl rfl hsize rfl (lv_room hroom) hdg ⟨Nat.le_of_ble_eq_true rfl, Nat.le_of_ble_eq_true rfl⟩) hS (fun q _ h => hFc q h) hFc (fun r u t H1 locs ht hvm hw hB hz1 hk1 hS => ?_)
  obtain ⟨kn1, cf1, ff1⟩ := u
  obtain ⟨hP1, hK1, hD1⟩ := hB
  rw [ht] at hP1
  obtain ⟨hw, hg⟩ := hw
  subst hw
  obtain ⟨hP, hD⟩ := va_join (wr := (mc_w q0 (nI N) (nI M))) (w1 := mm_w q1 qc qf cJ cI (nI N) (nI M) kn1 cf1 ff1) hP hD [1, 2, 3] [0] rfl rfl (by decide) (by decide) hk1 hFc hP1 hD1
  exact kk H1 locs kn1 cf1 ff1 hg ⟨hP, hD, hS⟩
set_option maxHeartbeats 4000000 in
set_option maxRecDepth 100000 in
theorem law_l1 {a1 a2 : Int32} {x y : Int32} (C0 : lw_At p s m meth c b L xs) (hK : va_K (dC, dI) classes [(cJ, .long), (cI, .int)] s) (hW : lw_W s dC dI q0 q1 qc qf cJ cI a1 a2 kn cf ff H locs) (hsize : ls.size = 4) (hroom : (rest.map fun v => v.category).sum ≤ 8) (hdg : decode code pc = .ok (.invokevirtual 13, 3))
    (kk : ∀ (H : Heap) (locs : List Loc), va_P (dC, dI) classes (mm_w q1 qc qf cJ cI a1 a2 kn cf ff ++ mc_w q0 (nI (ld7 x)) (nI (ld6 y))) H → va_D (fun q : Nat => s.heap.size ≤ q) (mm_w q1 qc qf cJ cI a1 a2 kn cf ff ++ mc_w q0 (nI (ld7 x)) (nI (ld6 y))) → va_S (fun q : Nat => s.heap.size ≤ q) s.heap H locs → W p l e room_1 s m #[Value.ref b] below meth c H locs 4 31 Q (F0 m (pc + 3) ls rest)) : W p l e room_1 s m #[Value.ref b] below meth c H locs 4 31 Q (F0 m pc ls (.int y :: .int x :: .ref q0 :: rest)) := by
  obtain ⟨hx, hb, hr, hml, hown, hts, hX, hbl, hlocks, hgv⟩ := C0
  obtain ⟨hP, hD, hS⟩ := hW
  have hA : ∀ q : Nat, s.heap.size ≤ q → (fun q : Nat => s.heap.size ≤ q) q := fun _ h => h
  have hPc := hP.sub (ws' := mc_w q0 a1 a2) [0] rfl
  have hDc := hD.sub (ws' := mc_w q0 a1 a2) [0] (by decide) rfl
  have hKc := hK.sub (tys' := []) [] rfl
  have hFc := va_free (wc := mc_w q0 a1 a2) hD hS hA [0] rfl
  refine va_callv (va_runV (As := [.int x, .int y]) (rest := rest) ⟨hx, hb, hml, hown, hts⟩ (c_MC_load l dC dI q0 H.size a1 a2 x y) (cwV 2 hts g_law_MC_load rfl rfl rfl (by decide +kernel) ⟨Nat.le_of_ble_eq_true rfl, Nat.le_of_ble_eq_true rfl⟩) ⟨fun a U g mk q => by obtain ⟨q0, q1, qP, qK, qD⟩ := q; exact ⟨q0, q1, qP, va_K.moved (u := U) (U := U.calling g mk a) (Vm.Alike.refl U.vm) qK, qD⟩, va_recv hKc hPc (ci := 0) (q0 := 0) rfl rfl, fun U hU hW => ⟨rfl, congrArg Array.size hU, by rw [hU]; exact hPc, va_K.moved hW.alike hKc, hDc.weaken (fun _ _ _ _ => trivial)⟩⟩ rfl rfl hsize rfl (lv_room hroom) hdg ⟨Nat.le_of_ble_eq_true rfl, Nat.le_of_ble_eq_true rfl⟩) hS (fun q _ h => hFc q h) hFc (fun u t H1 locs ht hvm hw hB hz1 hk1 hS => ?_)
  obtain ⟨hP1, hK1, hD1⟩ := hB
  rw [ht] at hP1
  obtain ⟨hP, hD⟩ := va_join (wr := mm_w q1 qc qf cJ cI a1 a2 kn cf ff) (w1 := mc_w q0 (nI (ld7 x)) (nI (ld6 y))) hP hD [0] [1, 2, 3] rfl rfl (by decide) (by decide) hk1 hFc hP1 hD1
  exact kk H1 locs hP hD hS
set_option maxHeartbeats 4000000 in
set_option maxRecDepth 100000 in
theorem law_l2 {a1 a2 : Int32} {x y : Int32} (C0 : lw_At p s m meth c b L xs) (hK : va_K (dC, dI) classes [(cJ, .long), (cI, .int)] s) (hP : va_P (dC, dI) classes (mm_w q1 qc qf cJ cI a1 a2 kn cf ff ++ mc_w q0 (nI (ld7 x)) (nI (ld6 y))) H) (hD : va_D (fun q : Nat => s.heap.size ≤ q) (mm_w q1 qc qf cJ cI a1 a2 kn cf ff ++ mc_w q0 (nI (ld7 x)) (nI (ld6 y)))) (hS : va_S (fun q : Nat => s.heap.size ≤ q) s.heap H locs) (hsize : ls.size = 4) (hroom : (rest.map fun v => v.category).sum ≤ 8) (hdg : decode code pc = .ok (.invokevirtual 17, 3))
    (kk : ∀ (H : Heap) (locs : List Loc), lw_W s dC dI q0 q1 qc qf cJ cI (nI (ld7 x)) (nI (ld6 y)) 0 cf ff H locs → W p l e room_1 s m #[Value.ref b] below meth c H locs 4 31 Q (F0 m (pc + 3) ls rest)) : W p l e room_1 s m #[Value.ref b] below meth c H locs 4 31 Q (F0 m pc ls (.int y :: .int x :: .ref q1 :: rest)) := by
  obtain ⟨hx, hb, hr, hml, hown, hts, hX, hbl, hlocks, hgv⟩ := C0
  have hA : ∀ q : Nat, s.heap.size ≤ q → (fun q : Nat => s.heap.size ≤ q) q := fun _ h => h
  have hPc := hP.sub (ws' := mm_w q1 qc qf cJ cI a1 a2 kn cf ff) [0, 1, 2] rfl
  have hDc := hD.sub (ws' := mm_w q1 qc qf cJ cI a1 a2 kn cf ff) [0, 1, 2] (by decide) rfl
  have hFc := va_free (wc := mm_w q1 qc qf cJ cI a1 a2 kn cf ff) hD hS hA [0, 1, 2] rfl
  refine va_callv (va_runV (As := [.int x, .int y]) (rest := rest) ⟨hx, hb, hml, hown, hts⟩ (c_MM_load l dC dI q1 qc qf H.size cJ cI a1 a2 kn x y cf ff) (cwV 2 hts g_law_MM_load rfl rfl rfl (by decide +kernel) ⟨Nat.le_of_ble_eq_true rfl, Nat.le_of_ble_eq_true rfl⟩) ⟨fun a U g mk q => by obtain ⟨q0, q1, qP, qK, qD⟩ := q; exact ⟨q0, q1, qP, va_K.moved (u := U) (U := U.calling g mk a) (Vm.Alike.refl U.vm) qK, qD⟩, va_recv hK hPc (ci := 1) (q0 := 0) rfl rfl, fun U hU hW => ⟨rfl, congrArg Array.size hU, by rw [hU]; exact hPc, va_K.moved hW.alike hK, hDc.weaken (fun _ _ _ _ => trivial)⟩⟩ rfl rfl hsize rfl (lv_room hroom) hdg ⟨Nat.le_of_ble_eq_true rfl, Nat.le_of_ble_eq_true rfl⟩) hS (fun q _ h => hFc q h) hFc (fun u t H1 locs ht hvm hw hB hz1 hk1 hS => ?_)
  obtain ⟨hP1, hK1, hD1⟩ := hB
  rw [ht] at hP1
  obtain ⟨hP, hD⟩ := va_join (wr := mc_w q0 (nI (ld7 x)) (nI (ld6 y))) (w1 := mm_w q1 qc qf cJ cI (nI (ld7 x)) (nI (ld6 y)) 0 cf ff) hP hD [0, 1, 2] [3] rfl rfl (by decide) (by decide) hk1 hFc hP1 hD1
  exact kk H1 locs ⟨hP, hD, hS⟩
set_option maxHeartbeats 4000000 in
set_option maxRecDepth 100000 in
theorem law_q0 {i : Nat} (C0 : lw_At p s m meth c b L xs) (hK : va_K (dC, dI) classes [(cJ, .long), (cI, .int)] s) (hN : N < 7) (hM : M < 6) (hgd : ¬ kn = 0 → gd N M cf) (hW : lw_W s dC dI q0 q1 qc qf cJ cI (nI N) (nI M) kn cf ff H locs) (hl : lv_has ls 4 [(0, .ref b), (1, .ref q0), (2, .ref q1), (3, .int (nI i))])
    (kk : ∀ (H : Heap) (locs : List Loc) (kn : Int32) (cf : Nat → Int64) (ff : Nat → Int32), gd N M cf → lw_W s dC dI q0 q1 qc qf cJ cI (nI N) (nI M) kn cf ff H locs → W p l e room_1 s m #[Value.ref b] below meth c H locs 4 31 Q (F0 m 263 ls [])) : W p l e room_1 s m #[Value.ref b] below meth c H locs 4 31 Q (F0 m 123 ls []) := by
  have C1 := C0
  obtain ⟨hx, hb, hr, hml, hown, hts, hX, hbl, hlocks, hgv⟩ := C0
  refine lv_aload_n hx hb d_law_123 rfl (lv_at hl 1 rfl) ?_
  refine law_c1 C1 hK hW hl.1 (fun sz => c_MC_all l dC dI q0 sz N M hN hM) (cwV 0 hts g_law_MC_all rfl rfl rfl (by decide +kernel) ⟨Nat.le_of_ble_eq_true rfl, Nat.le_of_ble_eq_true rfl⟩) (Nat.le_of_ble_eq_true rfl) d_law_124 (fun H locs hW => ?_)
  refine lv_aload_n hx hb d_law_127 rfl (lv_at hl 2 rfl) ?_
  refine law_c2 C1 hK hW hl.1 (fun sz => c_MM_all l dC dI q1 qc qf sz cJ cI N M hN hM kn cf ff hgd) (cwV 0 hts g_law_MM_all rfl rfl rfl (by decide +kernel) ⟨Nat.le_of_ble_eq_true rfl, Nat.le_of_ble_eq_true rfl⟩) (Nat.le_of_ble_eq_true rfl) d_law_128 (fun H locs kn cf ff hg hW => ?_)
  refine W.lcmp hx hb d_law_131 ?_
  refine lv_if_eq (tgt := 263) hx hb d_law_132 (by decide) (fun h => ?_) (fun h => ?_)
  · exact kk H locs kn cf ff hg hW
  · exact absurd ((lg_cmp_eq _ _).mpr (q_all_ok hN hM)) h
set_option maxHeartbeats 4000000 in
set_option maxRecDepth 100000 in
theorem law_q1 {i : Nat} (C0 : lw_At p s m meth c b L xs) (hK : va_K (dC, dI) classes [(cJ, .long), (cI, .int)] s) (hN : N < 7) (hM : M < 6) (hgd : ¬ kn = 0 → gd N M cf) (hW : lw_W s dC dI q0 q1 qc qf cJ cI (nI N) (nI M) kn cf ff H locs) (hl : lv_has ls 4 [(0, .ref b), (1, .ref q0), (2, .ref q1), (3, .int (nI i))])
    (kk : ∀ (H : Heap) (locs : List Loc) (kn : Int32) (cf : Nat → Int64) (ff : Nat → Int32), gd N M cf → lw_W s dC dI q0 q1 qc qf cJ cI (nI N) (nI M) kn cf ff H locs → W p l e room_1 s m #[Value.ref b] below meth c H locs 4 31 Q (F0 m 263 ls [])) : W p l e room_1 s m #[Value.ref b] below meth c H locs 4 31 Q (F0 m 137 ls []) := by
  have C1 := C0
  obtain ⟨hx, hb, hr, hml, hown, hts, hX, hbl, hlocks, hgv⟩ := C0
  refine lv_aload_n hx hb d_law_137 rfl (lv_at hl 1 rfl) ?_
  refine law_c1 C1 hK hW hl.1 (fun sz => c_MC_single l dC dI q0 sz N M hN hM) (cwV 0 hts g_law_MC_single rfl rfl rfl (by decide +kernel) ⟨Nat.le_of_ble_eq_true rfl, Nat.le_of_ble_eq_true rfl⟩) (Nat.le_of_ble_eq_true rfl) d_law_138 (fun H locs hW => ?_)
  refine lv_aload_n hx hb d_law_141 rfl (lv_at hl 2 rfl) ?_
  refine law_c2 C1 hK hW hl.1 (fun sz => c_MM_single l dC dI q1 qc qf sz cJ cI N M hN hM kn cf ff hgd) (cwV 0 hts g_law_MM_single rfl rfl rfl (by decide +kernel) ⟨Nat.le_of_ble_eq_true rfl, Nat.le_of_ble_eq_true rfl⟩) (Nat.le_of_ble_eq_true rfl) d_law_142 (fun H locs kn cf ff hg hW => ?_)
  refine W.lcmp hx hb d_law_145 ?_
  refine lv_if_eq (tgt := 263) hx hb d_law_146 (by decide) (fun h => ?_) (fun h => ?_)
  · exact kk H locs kn cf ff hg hW
  · exact absurd ((lg_cmp_eq _ _).mpr (q_single_ok hN hM)) h
set_option maxHeartbeats 4000000 in
set_option maxRecDepth 100000 in
theorem law_q2 {i : Nat} (C0 : lw_At p s m meth c b L xs) (hK : va_K (dC, dI) classes [(cJ, .long), (cI, .int)] s) (hN : N < 7) (hM : M < 6) (hgd : ¬ kn = 0 → gd N M cf) (hW : lw_W s dC dI q0 q1 qc qf cJ cI (nI N) (nI M) kn cf ff H locs) (hl : lv_has ls 4 [(0, .ref b), (1, .ref q0), (2, .ref q1), (3, .int (nI i))])
    (kk : ∀ (H : Heap) (locs : List Loc) (kn : Int32) (cf : Nat → Int64) (ff : Nat → Int32), gd N M cf → lw_W s dC dI q0 q1 qc qf cJ cI (nI N) (nI M) kn cf ff H locs → W p l e room_1 s m #[Value.ref b] below meth c H locs 4 31 Q (F0 m 263 ls [])) : W p l e room_1 s m #[Value.ref b] below meth c H locs 4 31 Q (F0 m 151 ls []) := by
  have C1 := C0
  obtain ⟨hx, hb, hr, hml, hown, hts, hX, hbl, hlocks, hgv⟩ := C0
  refine lv_aload_n hx hb d_law_151 rfl (lv_at hl 1 rfl) ?_
  refine law_c1 C1 hK hW hl.1 (fun sz => c_MC_full l dC dI q0 sz N M hN hM) (cwV 0 hts g_law_MC_full rfl rfl rfl (by decide +kernel) ⟨Nat.le_of_ble_eq_true rfl, Nat.le_of_ble_eq_true rfl⟩) (Nat.le_of_ble_eq_true rfl) d_law_152 (fun H locs hW => ?_)
  refine lv_aload_n hx hb d_law_155 rfl (lv_at hl 2 rfl) ?_
  refine law_c2 C1 hK hW hl.1 (fun sz => c_MM_full l dC dI q1 qc qf sz cJ cI N M hN hM kn cf ff hgd) (cwV 0 hts g_law_MM_full rfl rfl rfl (by decide +kernel) ⟨Nat.le_of_ble_eq_true rfl, Nat.le_of_ble_eq_true rfl⟩) (Nat.le_of_ble_eq_true rfl) d_law_156 (fun H locs kn cf ff hg hW => ?_)
  refine W.lcmp hx hb d_law_159 ?_
  refine lv_if_eq (tgt := 263) hx hb d_law_160 (by decide) (fun h => ?_) (fun h => ?_)
  · exact kk H locs kn cf ff hg hW
  · exact absurd ((lg_cmp_eq _ _).mpr (q_full_ok hN hM)) h
set_option maxHeartbeats 4000000 in
set_option maxRecDepth 100000 in
theorem law_q3 {i : Nat} (C0 : lw_At p s m meth c b L xs) (hK : va_K (dC, dI) classes [(cJ, .long), (cI, .int)] s) (hN : N < 7) (hM : M < 6) (hgd : ¬ kn = 0 → gd N M cf) (hW : lw_W s dC dI q0 q1 qc qf cJ cI (nI N) (nI M) kn cf ff H locs) (hl : lv_has ls 4 [(0, .ref b), (1, .ref q0), (2, .ref q1), (3, .int (nI i))])
    (kk : ∀ (H : Heap) (locs : List Loc) (kn : Int32) (cf : Nat → Int64) (ff : Nat → Int32), gd N M cf → lw_W s dC dI q0 q1 qc qf cJ cI (nI N) (nI M) kn cf ff H locs → W p l e room_1 s m #[Value.ref b] below meth c H locs 4 31 Q (F0 m 263 ls [])) : W p l e room_1 s m #[Value.ref b] below meth c H locs 4 31 Q (F0 m 165 ls []) := by
  have C1 := C0
  obtain ⟨hx, hb, hr, hml, hown, hts, hX, hbl, hlocks, hgv⟩ := C0
  refine lv_aload_n hx hb d_law_165 rfl (lv_at hl 1 rfl) ?_
  refine law_c1 C1 hK hW hl.1 (fun sz => c_MC_alike l dC dI q0 sz N M hN hM) (cwV 0 hts g_law_MC_alike rfl rfl rfl (by decide +kernel) ⟨Nat.le_of_ble_eq_true rfl, Nat.le_of_ble_eq_true rfl⟩) (Nat.le_of_ble_eq_true rfl) d_law_166 (fun H locs hW => ?_)
  refine lv_aload_n hx hb d_law_169 rfl (lv_at hl 2 rfl) ?_
  refine law_c2 C1 hK hW hl.1 (fun sz => c_MM_alike l dC dI q1 qc qf sz cJ cI N M hN hM kn cf ff hgd) (cwV 0 hts g_law_MM_alike rfl rfl rfl (by decide +kernel) ⟨Nat.le_of_ble_eq_true rfl, Nat.le_of_ble_eq_true rfl⟩) (Nat.le_of_ble_eq_true rfl) d_law_170 (fun H locs kn cf ff hg hW => ?_)
  refine W.lcmp hx hb d_law_173 ?_
  refine lv_if_eq (tgt := 263) hx hb d_law_174 (by decide) (fun h => ?_) (fun h => ?_)
  · exact kk H locs kn cf ff hg hW
  · exact absurd ((lg_cmp_eq _ _).mpr (q_alike_ok hN hM)) h
set_option maxHeartbeats 4000000 in
set_option maxRecDepth 100000 in
theorem law_q4 {i : Nat} (C0 : lw_At p s m meth c b L xs) (hK : va_K (dC, dI) classes [(cJ, .long), (cI, .int)] s) (hN : N < 7) (hM : M < 6) (hgd : ¬ kn = 0 → gd N M cf) (hW : lw_W s dC dI q0 q1 qc qf cJ cI (nI N) (nI M) kn cf ff H locs) (hl : lv_has ls 4 [(0, .ref b), (1, .ref q0), (2, .ref q1), (3, .int (nI i))])
    (kk : ∀ (H : Heap) (locs : List Loc) (kn : Int32) (cf : Nat → Int64) (ff : Nat → Int32), gd N M cf → lw_W s dC dI q0 q1 qc qf cJ cI (nI N) (nI M) kn cf ff H locs → W p l e room_1 s m #[Value.ref b] below meth c H locs 4 31 Q (F0 m 263 ls [])) : W p l e room_1 s m #[Value.ref b] below meth c H locs 4 31 Q (F0 m 179 ls []) := by
  have C1 := C0
  obtain ⟨hx, hb, hr, hml, hown, hts, hX, hbl, hlocks, hgv⟩ := C0
  refine lv_aload_n hx hb d_law_179 rfl (lv_at hl 1 rfl) ?_
  refine law_c1 C1 hK hW hl.1 (fun sz => c_MC_alikeFull l dC dI q0 sz N M hN hM) (cwV 0 hts g_law_MC_alikeFull rfl rfl rfl (by decide +kernel) ⟨Nat.le_of_ble_eq_true rfl, Nat.le_of_ble_eq_true rfl⟩) (Nat.le_of_ble_eq_true rfl) d_law_180 (fun H locs hW => ?_)
  refine lv_aload_n hx hb d_law_183 rfl (lv_at hl 2 rfl) ?_
  refine law_c2 C1 hK hW hl.1 (fun sz => c_MM_alikeFull l dC dI q1 qc qf sz cJ cI N M hN hM kn cf ff hgd) (cwV 0 hts g_law_MM_alikeFull rfl rfl rfl (by decide +kernel) ⟨Nat.le_of_ble_eq_true rfl, Nat.le_of_ble_eq_true rfl⟩) (Nat.le_of_ble_eq_true rfl) d_law_184 (fun H locs kn cf ff hg hW => ?_)
  refine W.lcmp hx hb d_law_187 ?_
  refine lv_if_eq (tgt := 263) hx hb d_law_188 (by decide) (fun h => ?_) (fun h => ?_)
  · exact kk H locs kn cf ff hg hW
  · exact absurd ((lg_cmp_eq _ _).mpr (q_alikeFull_ok hN hM)) h
set_option maxHeartbeats 4000000 in
set_option maxRecDepth 100000 in
theorem law_q5 {i : Nat} (C0 : lw_At p s m meth c b L xs) (hK : va_K (dC, dI) classes [(cJ, .long), (cI, .int)] s) (hN : N < 7) (hM : M < 6) (hgd : ¬ kn = 0 → gd N M cf) (hW : lw_W s dC dI q0 q1 qc qf cJ cI (nI N) (nI M) kn cf ff H locs) (hl : lv_has ls 4 [(0, .ref b), (1, .ref q0), (2, .ref q1), (3, .int (nI i))])
    (kk : ∀ (H : Heap) (locs : List Loc) (kn : Int32) (cf : Nat → Int64) (ff : Nat → Int32), gd N M cf → lw_W s dC dI q0 q1 qc qf cJ cI (nI N) (nI M) kn cf ff H locs → W p l e room_1 s m #[Value.ref b] below meth c H locs 4 31 Q (F0 m 263 ls [])) : W p l e room_1 s m #[Value.ref b] below meth c H locs 4 31 Q (F0 m 193 ls []) := by
  have C1 := C0
  obtain ⟨hx, hb, hr, hml, hown, hts, hX, hbl, hlocks, hgv⟩ := C0
  refine lv_aload_n hx hb d_law_193 rfl (lv_at hl 1 rfl) ?_
  refine law_c1 C1 hK hW hl.1 (fun sz => c_MC_unmarked l dC dI q0 sz N M hN hM) (cwV 0 hts g_law_MC_unmarked rfl rfl rfl (by decide +kernel) ⟨Nat.le_of_ble_eq_true rfl, Nat.le_of_ble_eq_true rfl⟩) (Nat.le_of_ble_eq_true rfl) d_law_194 (fun H locs hW => ?_)
  refine lv_aload_n hx hb d_law_197 rfl (lv_at hl 2 rfl) ?_
  refine law_c2 C1 hK hW hl.1 (fun sz => c_MM_unmarked l dC dI q1 qc qf sz cJ cI N M hN hM kn cf ff hgd) (cwV 0 hts g_law_MM_unmarked rfl rfl rfl (by decide +kernel) ⟨Nat.le_of_ble_eq_true rfl, Nat.le_of_ble_eq_true rfl⟩) (Nat.le_of_ble_eq_true rfl) d_law_198 (fun H locs kn cf ff hg hW => ?_)
  refine W.lcmp hx hb d_law_201 ?_
  refine lv_if_eq (tgt := 263) hx hb d_law_202 (by decide) (fun h => ?_) (fun h => ?_)
  · exact kk H locs kn cf ff hg hW
  · exact absurd ((lg_cmp_eq _ _).mpr (q_unmarked_ok hN hM)) h
set_option maxHeartbeats 4000000 in
set_option maxRecDepth 100000 in
theorem law_q6 {i : Nat} (C0 : lw_At p s m meth c b L xs) (hK : va_K (dC, dI) classes [(cJ, .long), (cI, .int)] s) (hN : N < 7) (hM : M < 6) (hgd : ¬ kn = 0 → gd N M cf) (hW : lw_W s dC dI q0 q1 qc qf cJ cI (nI N) (nI M) kn cf ff H locs) (hl : lv_has ls 4 [(0, .ref b), (1, .ref q0), (2, .ref q1), (3, .int (nI i))])
    (kk : ∀ (H : Heap) (locs : List Loc) (kn : Int32) (cf : Nat → Int64) (ff : Nat → Int32), gd N M cf → lw_W s dC dI q0 q1 qc qf cJ cI (nI N) (nI M) kn cf ff H locs → W p l e room_1 s m #[Value.ref b] below meth c H locs 4 31 Q (F0 m 263 ls [])) : W p l e room_1 s m #[Value.ref b] below meth c H locs 4 31 Q (F0 m 207 ls []) := by
  have C1 := C0
  obtain ⟨hx, hb, hr, hml, hown, hts, hX, hbl, hlocks, hgv⟩ := C0
  refine lv_aload_n hx hb d_law_207 rfl (lv_at hl 1 rfl) ?_
  refine law_c1 C1 hK hW hl.1 (fun sz => c_MC_unmarkedFull l dC dI q0 sz N M hN hM) (cwV 0 hts g_law_MC_unmarkedFull rfl rfl rfl (by decide +kernel) ⟨Nat.le_of_ble_eq_true rfl, Nat.le_of_ble_eq_true rfl⟩) (Nat.le_of_ble_eq_true rfl) d_law_208 (fun H locs hW => ?_)
  refine lv_aload_n hx hb d_law_211 rfl (lv_at hl 2 rfl) ?_
  refine law_c2 C1 hK hW hl.1 (fun sz => c_MM_unmarkedFull l dC dI q1 qc qf sz cJ cI N M hN hM kn cf ff hgd) (cwV 0 hts g_law_MM_unmarkedFull rfl rfl rfl (by decide +kernel) ⟨Nat.le_of_ble_eq_true rfl, Nat.le_of_ble_eq_true rfl⟩) (Nat.le_of_ble_eq_true rfl) d_law_212 (fun H locs kn cf ff hg hW => ?_)
  refine W.lcmp hx hb d_law_215 ?_
  refine lv_if_eq (tgt := 263) hx hb d_law_216 (by decide) (fun h => ?_) (fun h => ?_)
  · exact kk H locs kn cf ff hg hW
  · exact absurd ((lg_cmp_eq _ _).mpr (q_unmarkedFull_ok hN hM)) h
set_option maxHeartbeats 4000000 in
set_option maxRecDepth 100000 in
theorem law_q7 {i : Nat} (C0 : lw_At p s m meth c b L xs) (hK : va_K (dC, dI) classes [(cJ, .long), (cI, .int)] s) (hN : N < 7) (hM : M < 6) (hgd : ¬ kn = 0 → gd N M cf) (hW : lw_W s dC dI q0 q1 qc qf cJ cI (nI N) (nI M) kn cf ff H locs) (hl : lv_has ls 4 [(0, .ref b), (1, .ref q0), (2, .ref q1), (3, .int (nI i))])
    (kk : ∀ (H : Heap) (locs : List Loc) (kn : Int32) (cf : Nat → Int64) (ff : Nat → Int32), gd N M cf → lw_W s dC dI q0 q1 qc qf cJ cI (nI N) (nI M) kn cf ff H locs → W p l e room_1 s m #[Value.ref b] below meth c H locs 4 31 Q (F0 m 263 ls [])) : W p l e room_1 s m #[Value.ref b] below meth c H locs 4 31 Q (F0 m 221 ls []) := by
  have C1 := C0
  obtain ⟨hx, hb, hr, hml, hown, hts, hX, hbl, hlocks, hgv⟩ := C0
  refine lv_aload_n hx hb d_law_221 rfl (lv_at hl 1 rfl) ?_
  refine law_c1 C1 hK hW hl.1 (fun sz => c_MC_strange l dC dI q0 sz N M hN hM) (cwV 0 hts g_law_MC_strange rfl rfl rfl (by decide +kernel) ⟨Nat.le_of_ble_eq_true rfl, Nat.le_of_ble_eq_true rfl⟩) (Nat.le_of_ble_eq_true rfl) d_law_222 (fun H locs hW => ?_)
  refine lv_aload_n hx hb d_law_225 rfl (lv_at hl 2 rfl) ?_
  refine law_c2 C1 hK hW hl.1 (fun sz => c_MM_strange l dC dI q1 qc qf sz cJ cI N M hN hM kn cf ff hgd) (cwV 0 hts g_law_MM_strange rfl rfl rfl (by decide +kernel) ⟨Nat.le_of_ble_eq_true rfl, Nat.le_of_ble_eq_true rfl⟩) (Nat.le_of_ble_eq_true rfl) d_law_226 (fun H locs kn cf ff hg hW => ?_)
  refine W.lcmp hx hb d_law_229 ?_
  refine lv_if_eq (tgt := 263) hx hb d_law_230 (by decide) (fun h => ?_) (fun h => ?_)
  · exact kk H locs kn cf ff hg hW
  · exact absurd ((lg_cmp_eq _ _).mpr (q_strange_ok hN hM)) h
set_option maxHeartbeats 4000000 in
set_option maxRecDepth 100000 in
theorem law_q8 {i : Nat} (C0 : lw_At p s m meth c b L xs) (hK : va_K (dC, dI) classes [(cJ, .long), (cI, .int)] s) (hN : N < 7) (hM : M < 6) (hgd : ¬ kn = 0 → gd N M cf) (hW : lw_W s dC dI q0 q1 qc qf cJ cI (nI N) (nI M) kn cf ff H locs) (hl : lv_has ls 4 [(0, .ref b), (1, .ref q0), (2, .ref q1), (3, .int (nI i))])
    (kk : ∀ (H : Heap) (locs : List Loc) (kn : Int32) (cf : Nat → Int64) (ff : Nat → Int32), gd N M cf → lw_W s dC dI q0 q1 qc qf cJ cI (nI N) (nI M) kn cf ff H locs → W p l e room_1 s m #[Value.ref b] below meth c H locs 4 31 Q (F0 m 263 ls [])) : W p l e room_1 s m #[Value.ref b] below meth c H locs 4 31 Q (F0 m 235 ls []) := by
  have C1 := C0
  obtain ⟨hx, hb, hr, hml, hown, hts, hX, hbl, hlocks, hgv⟩ := C0
  refine lv_aload_n hx hb d_law_235 rfl (lv_at hl 1 rfl) ?_
  refine law_c1 C1 hK hW hl.1 (fun sz => c_MC_away l dC dI q0 sz N M hN hM) (cwV 0 hts g_law_MC_away rfl rfl rfl (by decide +kernel) ⟨Nat.le_of_ble_eq_true rfl, Nat.le_of_ble_eq_true rfl⟩) (Nat.le_of_ble_eq_true rfl) d_law_236 (fun H locs hW => ?_)
  refine lv_aload_n hx hb d_law_239 rfl (lv_at hl 2 rfl) ?_
  refine law_c2 C1 hK hW hl.1 (fun sz => c_MM_away l dC dI q1 qc qf sz cJ cI N M hN hM kn cf ff hgd) (cwV 0 hts g_law_MM_away rfl rfl rfl (by decide +kernel) ⟨Nat.le_of_ble_eq_true rfl, Nat.le_of_ble_eq_true rfl⟩) (Nat.le_of_ble_eq_true rfl) d_law_240 (fun H locs kn cf ff hg hW => ?_)
  refine W.lcmp hx hb d_law_243 ?_
  refine lv_if_eq (tgt := 263) hx hb d_law_244 (by decide) (fun h => ?_) (fun h => ?_)
  · exact kk H locs kn cf ff hg hW
  · exact absurd ((lg_cmp_eq _ _).mpr (q_away_ok hN hM)) h
set_option maxHeartbeats 4000000 in
set_option maxRecDepth 100000 in
theorem law_q9 {i : Nat} (C0 : lw_At p s m meth c b L xs) (hK : va_K (dC, dI) classes [(cJ, .long), (cI, .int)] s) (hN : N < 7) (hM : M < 6) (hgd : ¬ kn = 0 → gd N M cf) (hW : lw_W s dC dI q0 q1 qc qf cJ cI (nI N) (nI M) kn cf ff H locs) (hl : lv_has ls 4 [(0, .ref b), (1, .ref q0), (2, .ref q1), (3, .int (nI i))])
    (kk : ∀ (H : Heap) (locs : List Loc) (kn : Int32) (cf : Nat → Int64) (ff : Nat → Int32), gd N M cf → lw_W s dC dI q0 q1 qc qf cJ cI (nI N) (nI M) kn cf ff H locs → W p l e room_1 s m #[Value.ref b] below meth c H locs 4 31 Q (F0 m 263 ls [])) : W p l e room_1 s m #[Value.ref b] below meth c H locs 4 31 Q (F0 m 249 ls []) := by
  have C1 := C0
  obtain ⟨hx, hb, hr, hml, hown, hts, hX, hbl, hlocks, hgv⟩ := C0
  refine lv_aload_n hx hb d_law_249 rfl (lv_at hl 1 rfl) ?_
  refine law_c1 C1 hK hW hl.1 (fun sz => c_MC_choices l dC dI q0 sz N M hN hM) (cwV 0 hts g_law_MC_choices rfl rfl rfl (by decide +kernel) ⟨Nat.le_of_ble_eq_true rfl, Nat.le_of_ble_eq_true rfl⟩) (Nat.le_of_ble_eq_true rfl) d_law_250 (fun H locs hW => ?_)
  refine lv_aload_n hx hb d_law_253 rfl (lv_at hl 2 rfl) ?_
  refine law_c2 C1 hK hW hl.1 (fun sz => c_MM_choices l dC dI q1 qc qf sz cJ cI N M hN hM kn cf ff hgd) (cwV 0 hts g_law_MM_choices rfl rfl rfl (by decide +kernel) ⟨Nat.le_of_ble_eq_true rfl, Nat.le_of_ble_eq_true rfl⟩) (Nat.le_of_ble_eq_true rfl) d_law_254 (fun H locs kn cf ff hg hW => ?_)
  refine W.lcmp hx hb d_law_257 ?_
  refine lv_if_eq (tgt := 263) hx hb d_law_258 (by decide) (fun h => ?_) (fun h => ?_)
  · exact kk H locs kn cf ff hg hW
  · exact absurd ((lg_cmp_eq _ _).mpr (q_choices_ok hN hM)) h
end LAW1
end
section
set_option maxHeartbeats 4000000 in
set_option maxRecDepth 100000 in
theorem law_loop {p : Program} {l : Launch} {e : Env} {s : State} {m : MethodId} {below : List Frame} {meth : Method} {c : Code} {dC : Nat → ClassId} {dI : Nat → Nat → Nat} {b L : Nat} {xs : Nat → Int32} {q0 q1 qc qf : Nat} {cJ cI : ClassId} (hL : L ≤ 1536) (C0 : lw_At p s m meth c b L xs) (hK : va_K (dC, dI) classes [(cJ, .long), (cI, .int)] s) :
    ∀ (n i N M : Nat) (kn : Int32) (cf : Nat → Int64) (ff : Nat → Int32), L ≤ i + n → i ≤ L + 2 → N < 7 → M < 6 → (¬ kn = 0 → gd N M cf) → ∀ (H : Heap) (locs : List Loc) (ls : Array Slot), lw_W s dC dI q0 q1 qc qf cJ cI (nI N) (nI M) kn cf ff H locs → lv_has ls 4 [(0, .ref b), (1, .ref q0), (2, .ref q1), (3, .int (nI i))] → W p l e room_1 s m #[Value.ref b] below meth c H locs 4 31 (lw_Z below #[Value.ref b] s) (F0 m 18 ls []) := by
  have C1 := C0
  obtain ⟨hx, hb, hr, hml, hown, hts, hX, hbl, hlocks, hgv⟩ := C0
  have hbA : ¬ (fun q : Nat => s.heap.size ≤ q) b := Nat.not_le.mpr hbl
  intro n
  induction n with
  | zero =>
    intro i N M kn cf ff hin hiL hN hM hgd H locs ls hW hl
    refine lv_iload_n hx hb d_law_18 rfl (lv_at hl 3 rfl) ?_
    refine lv_aload_n hx hb d_law_19 rfl (lv_at hl 0 rfl) ?_
    refine va_slen hx hb hX hbl hbA hW.2.2 d_law_20 ?_
    refine lv_iconst (v := 3) hx hb d_law_21 (by decide) ?_
    refine lv_isub hx hb d_law_22 ?_
    refine lv_icmp_gt (tgt := 269) hx hb d_law_23 (by decide) (fun h => ?_) (fun h => ?_)
    · refine lv_iconst (v := 1) hx hb d_law_269 (by decide) ?_
      refine va_forget (fun q hq => hW.2.2.2.2 q hq) ?_
      exact lw_ret hx hb hr hlocks d_law_270
    · exact absurd ((lw_cmp (by omega) (by omega)).mpr (by omega)) h
  | succ n ih =>
    intro i N M kn cf ff hin hiL hN hM hgd H locs ls hW hl
    have fin : ∀ (N M : Nat), N < 7 → M < 6 → ∀ (H : Heap) (locs : List Loc) (kn : Int32) (cf : Nat → Int64) (ff : Nat → Int32), i + 3 ≤ L → (¬ kn = 0 → gd N M cf) → lw_W s dC dI q0 q1 qc qf cJ cI (nI N) (nI M) kn cf ff H locs → W p l e room_1 s m #[Value.ref b] below meth c H locs 4 31 (lw_Z below #[Value.ref b] s) (F0 m 263 ls []) := by
      intro N M hN hM H locs kn cf ff hi3 hgd hW
      refine lv_iinc (v := nI (i + 3)) (lv' := [(3, .int (nI (i + 3))), (0, .ref b), (1, .ref q0), (2, .ref q1)]) hx hb d_law_263 hl (k := 3) rfl (ii_3 i) (by decide) rfl (fun ls hl => ?_)
      refine lv_goto (tgt := 18) hx hb d_law_266 (by decide) ?_
      exact ih (i + 3) N M kn cf ff (by omega) (by omega) hN hM hgd H locs ls hW (lv_sub hl [1, 2, 3, 0] rfl)
    refine lv_iload_n hx hb d_law_18 rfl (lv_at hl 3 rfl) ?_
    refine lv_aload_n hx hb d_law_19 rfl (lv_at hl 0 rfl) ?_
    refine va_slen hx hb hX hbl hbA hW.2.2 d_law_20 ?_
    refine lv_iconst (v := 3) hx hb d_law_21 (by decide) ?_
    refine lv_isub hx hb d_law_22 ?_
    refine lv_icmp_gt (tgt := 269) hx hb d_law_23 (by decide) (fun h => ?_) (fun h => ?_)
    · refine lv_iconst (v := 1) hx hb d_law_269 (by decide) ?_
      refine va_forget (fun q hq => hW.2.2.2.2 q hq) ?_
      exact lw_ret hx hb hr hlocks d_law_270
    · have hi3 : i + 3 ≤ L := Nat.le_of_not_lt (fun z => h ((lw_cmp (by omega) (by omega)).mpr z))
      have h_0 : vp_in (nI i) L := vp_in_nI (by omega) (by omega)
      refine lv_aload_n hx hb d_law_26 rfl (lv_at hl 0 rfl) ?_
      refine lv_iload_n hx hb d_law_27 rfl (lv_at hl 3 rfl) ?_
      refine va_sld hx hb hX hbl hbA hW.2.2 h_0 d_law_28 ?_
      refine lv_bipush (v := 15) hx hb d_law_29 (by decide) ?_
      refine lv_iand hx hb d_law_31 ?_
      obtain ⟨k, hk, ek⟩ := pk_andE (xs (nI i).toNatClampNeg) (m := 15) 4 (by decide)
      refine lw_ti ek ?_
      rcases (show k = 0 ∨ k = 1 ∨ k = 2 ∨ k = 3 ∨ k = 4 ∨ k = 5 ∨ k = 6 ∨ k = 7 ∨ k = 8 ∨ k = 9 ∨ k = 10 ∨ 11 ≤ k by omega) with rfl | rfl | rfl | rfl | rfl | rfl | rfl | rfl | rfl | rfl | rfl | hk11
      · refine lv_tableIn (off := 60) (tgt := 92) hx hb d_law_32 (by decide) (by decide) (by decide) (by decide) ?_
        have h_1 : vp_in (nI (i + 1)) L := vp_in_nI (by omega) (by omega)
        have h_2 : vp_in (nI (i + 2)) L := vp_in_nI (by omega) (by omega)
        refine lv_aload_n hx hb d_law_92 rfl (lv_at hl 1 rfl) ?_
        refine lv_aload_n hx hb d_law_93 rfl (lv_at hl 0 rfl) ?_
        refine lv_iload_n hx hb d_law_94 rfl (lv_at hl 3 rfl) ?_
        refine lv_iconst (v := nI 1) hx hb d_law_95 (by decide) ?_
        refine lv_iadd hx hb d_law_96 ?_
        refine lw_ti (y := nI (i + 1)) (nI_add i 1) ?_
        refine va_sld hx hb hX hbl hbA hW.2.2 h_1 d_law_97 ?_
        refine lv_aload_n hx hb d_law_98 rfl (lv_at hl 0 rfl) ?_
        refine lv_iload_n hx hb d_law_99 rfl (lv_at hl 3 rfl) ?_
        refine lv_iconst (v := nI 2) hx hb d_law_100 (by decide) ?_
        refine lv_iadd hx hb d_law_101 ?_
        refine lw_ti (y := nI (i + 2)) (nI_add i 2) ?_
        refine va_sld hx hb hX hbl hbA hW.2.2 h_2 d_law_102 ?_
        refine law_l1 C1 hK hW hl.1 (Nat.le_of_ble_eq_true rfl) d_law_103 (fun H locs hP hD hS => ?_)
        refine lv_aload_n hx hb d_law_106 rfl (lv_at hl 2 rfl) ?_
        refine lv_aload_n hx hb d_law_107 rfl (lv_at hl 0 rfl) ?_
        refine lv_iload_n hx hb d_law_108 rfl (lv_at hl 3 rfl) ?_
        refine lv_iconst (v := nI 1) hx hb d_law_109 (by decide) ?_
        refine lv_iadd hx hb d_law_110 ?_
        refine lw_ti (y := nI (i + 1)) (nI_add i 1) ?_
        refine va_sld hx hb hX hbl hbA hS h_1 d_law_111 ?_
        refine lv_aload_n hx hb d_law_112 rfl (lv_at hl 0 rfl) ?_
        refine lv_iload_n hx hb d_law_113 rfl (lv_at hl 3 rfl) ?_
        refine lv_iconst (v := nI 2) hx hb d_law_114 (by decide) ?_
        refine lv_iadd hx hb d_law_115 ?_
        refine lw_ti (y := nI (i + 2)) (nI_add i 2) ?_
        refine va_sld hx hb hX hbl hbA hS h_2 d_law_116 ?_
        refine law_l2 C1 hK hP hD hS hl.1 (Nat.le_of_ble_eq_true rfl) d_law_117 (fun H locs hW => ?_)
        refine lv_goto (tgt := 263) hx hb d_law_120 (by decide) ?_
        exact fin _ _ (ld7_lt _) (ld6_lt _) H locs 0 cf ff hi3 (fun z => absurd rfl z) hW
      · refine lv_tableIn (off := 91) (tgt := 123) hx hb d_law_32 (by decide) (by decide) (by decide) (by decide) ?_
        exact law_q0 C1 hK hN hM hgd hW hl (fun H locs kn cf ff hg hW => fin N M hN hM H locs kn cf ff hi3 (fun _ => hg) hW)
      · refine lv_tableIn (off := 105) (tgt := 137) hx hb d_law_32 (by decide) (by decide) (by decide) (by decide) ?_
        exact law_q1 C1 hK hN hM hgd hW hl (fun H locs kn cf ff hg hW => fin N M hN hM H locs kn cf ff hi3 (fun _ => hg) hW)
      · refine lv_tableIn (off := 119) (tgt := 151) hx hb d_law_32 (by decide) (by decide) (by decide) (by decide) ?_
        exact law_q2 C1 hK hN hM hgd hW hl (fun H locs kn cf ff hg hW => fin N M hN hM H locs kn cf ff hi3 (fun _ => hg) hW)
      · refine lv_tableIn (off := 133) (tgt := 165) hx hb d_law_32 (by decide) (by decide) (by decide) (by decide) ?_
        exact law_q3 C1 hK hN hM hgd hW hl (fun H locs kn cf ff hg hW => fin N M hN hM H locs kn cf ff hi3 (fun _ => hg) hW)
      · refine lv_tableIn (off := 147) (tgt := 179) hx hb d_law_32 (by decide) (by decide) (by decide) (by decide) ?_
        exact law_q4 C1 hK hN hM hgd hW hl (fun H locs kn cf ff hg hW => fin N M hN hM H locs kn cf ff hi3 (fun _ => hg) hW)
      · refine lv_tableIn (off := 161) (tgt := 193) hx hb d_law_32 (by decide) (by decide) (by decide) (by decide) ?_
        exact law_q5 C1 hK hN hM hgd hW hl (fun H locs kn cf ff hg hW => fin N M hN hM H locs kn cf ff hi3 (fun _ => hg) hW)
      · refine lv_tableIn (off := 175) (tgt := 207) hx hb d_law_32 (by decide) (by decide) (by decide) (by decide) ?_
        exact law_q6 C1 hK hN hM hgd hW hl (fun H locs kn cf ff hg hW => fin N M hN hM H locs kn cf ff hi3 (fun _ => hg) hW)
      · refine lv_tableIn (off := 189) (tgt := 221) hx hb d_law_32 (by decide) (by decide) (by decide) (by decide) ?_
        exact law_q7 C1 hK hN hM hgd hW hl (fun H locs kn cf ff hg hW => fin N M hN hM H locs kn cf ff hi3 (fun _ => hg) hW)
      · refine lv_tableIn (off := 203) (tgt := 235) hx hb d_law_32 (by decide) (by decide) (by decide) (by decide) ?_
        exact law_q8 C1 hK hN hM hgd hW hl (fun H locs kn cf ff hg hW => fin N M hN hM H locs kn cf ff hi3 (fun _ => hg) hW)
      · refine lv_tableIn (off := 217) (tgt := 249) hx hb d_law_32 (by decide) (by decide) (by decide) (by decide) ?_
        exact law_q9 C1 hK hN hM hgd hW hl (fun H locs kn cf ff hg hW => fin N M hN hM H locs kn cf ff hi3 (fun _ => hg) hW)
      · refine lv_tableOut (tgt := 263) hx hb d_law_32 (Or.inr (by rw [nI_toInt (by omega)]; omega)) (by decide) ?_
        exact fin N M hN hM H locs kn cf ff hi3 hgd hW
set_option maxHeartbeats 4000000 in
set_option maxRecDepth 100000 in
theorem whole_start {p : Program} {e : Env} {s : State} {m : MethodId} {below : List Frame} {meth : Method} {c : Code} (l : Launch) {b L : Nat} {xs : Nat → Int32} (hL : L ≤ 1536) (C0 : lw_At p s m meth c b L xs) : W p l e room_1 s m #[Value.ref b] below meth c s.heap [] 0 0 (lw_Z below #[Value.ref b] s) (entryFrame m ([Value.ref b] : List Value).toArray 4) := by
  have C1 := C0
  obtain ⟨hx, hb, hr, hml, hown, hts, hX, hbl, hlocks, hgv⟩ := C0
  have hA : ∀ q : Nat, s.heap.size ≤ q → (fun q : Nat => s.heap.size ≤ q) q := fun _ h => h
  obtain ⟨c0, iS0, hKn0⟩ := u_known (C := R_MC) (T := F_MC) (N := 2) (n := 2) hts i_MC (hts (.instantiable R_MC 2) (by decide +kernel))
  obtain ⟨c1, iS1, hKn1⟩ := u_known (C := R_MM) (T := F_MM) (N := 5) (n := 5) hts i_MM (hts (.instantiable R_MM 5) (by decide +kernel))
  obtain ⟨dC, dI, hKc⟩ : ∃ (dC : Nat → ClassId) (dI : Nat → Nat → Nat), ∀ (k : Nat) (q : vw_C), classes[k]? = some q → u_Kn s q.1 q.2.1 q.2.2 (dC k) (dI k) := by
    refine ⟨fun k => if k = 0 then c0 else c1, fun k => if k = 0 then iS0 else iS1, ?_⟩
    intro k q hq
    match k, hq with
    | 0, hq => cases hq; exact hKn0
    | 1, hq => cases hq; exact hKn1
    | k + 2, hq => simp [classes] at hq
  have hS : va_S (fun q : Nat => s.heap.size ≤ q) s.heap s.heap [] := va_S.rf
  have hK : va_K (dC, dI) classes [] s := ⟨hKc, fun k q h => by simp at h⟩
  have hP : va_P (dC, dI) classes [] s.heap := fun k q h => by simp at h
  have hD : va_D (fun q : Nat => s.heap.size ≤ q) [] := ⟨fun i j p q h => by simp at h, fun k q h => by simp at h⟩
  have hl := lv_entry ([.ref b]) (n := 4) (Nat.le_of_ble_eq_true rfl)
  rw [lg_entry_eq]
  generalize (lg_sl ([.ref b]) ++ List.replicate (4 - (lg_sl ([.ref b])).length) Slot.unset).toArray = ls at hl ⊢
  have hl : lv_has ls 4 [(0, .ref b)] := hl
  refine va_new (ci := 0) (fs := [.int 0, .int 0]) (C := R_MC) (T := F_MC) (N := 2) hx hb hts i_MC t_MC t_MC_ok hown (hts (.classLink R_law 7 R_MC) (by decide +kernel)) (hts (.instantiable R_MC 2) (by decide +kernel)) (hts (.initialized R_MC) (by decide +kernel)) hK hP hD hS hA rfl (fun j hj => by rcases (show j = 0 ∨ j = 1 by omega) with rfl | rfl <;> rfl) (Nat.le_of_ble_eq_true rfl) (Nat.le_of_ble_eq_true rfl) d_law_0 (fun q0 H hP hD hS => ?_)
  have hP : va_P (dC, dI) classes (mc_w q0 0 0) H := hP
  have hD : va_D (fun q : Nat => s.heap.size ≤ q) (mc_w q0 0 0) := hD
  refine W.widen (k := 1) (n := 2) (by omega) (by omega) ?_
  refine lv_dup hx hb d_law_3 rfl ?_
  have hFc := va_free (wc := mc_w q0 0 0) hD hS hA [0] rfl
  refine va_callv (va_runI (As := []) (rest := [.ref q0]) ⟨hx, hb, hml, hown, hts⟩ (c_MC_init l dC dI q0 H.size 0 0) (cwI 0 hts g_law_MC_init rfl rfl rfl (hts (.initialized R_MC) (by decide +kernel)) (hts (.methodLink R_law 9 y_MC_init) (by decide +kernel)) (hts (.instanceMethod y_MC_init) (by decide +kernel)) rfl (by decide +kernel) ⟨Nat.le_of_ble_eq_true rfl, Nat.le_of_ble_eq_true rfl⟩) ⟨fun a U g mk q => by obtain ⟨q0, q1, qP, qK, qD⟩ := q; exact ⟨q0, q1, qP, va_K.moved (u := U) (U := U.calling g mk a) (Vm.Alike.refl U.vm) qK, qD⟩, fun U hU hW => ⟨rfl, congrArg Array.size hU, by rw [hU]; exact hP, va_K.moved hW.alike hK, hD.weaken (fun _ _ _ _ => trivial)⟩⟩ rfl rfl hl.1 rfl (lv_room (Nat.le_of_ble_eq_true rfl)) d_law_4 ⟨Nat.le_of_ble_eq_true rfl, Nat.le_of_ble_eq_true rfl⟩) hS (fun q _ h => hFc q h) hFc (fun u t H1 locs ht hvm hw hB hz1 hk1 hS => ?_)
  obtain ⟨hP1, hK1, hD1⟩ := hB
  rw [ht] at hP1
  obtain ⟨hP, hD⟩ := va_join (wr := []) (w1 := mc_w q0 (nI 4) (nI 3)) hP hD [0] [] rfl rfl (by decide) (by decide) hk1 hFc hP1 hD1
  have hP : va_P (dC, dI) classes (mc_w q0 (nI 4) (nI 3)) H1 := hP
  have hD : va_D (fun q : Nat => s.heap.size ≤ q) (mc_w q0 (nI 4) (nI 3)) := hD
  refine W.widen (k := 1) (n := 2) (by omega) (by omega) ?_
  refine lv_astore_n (lv' := [(1, .ref q0), (0, .ref b)]) hx hb d_law_7 rfl hl (by decide) rfl (fun ls hl => ?_)
  refine va_new (ci := 1) (fs := [.int 0, .int 0, .int 0, .null, .null]) (C := R_MM) (T := F_MM) (N := 5) hx hb hts i_MM t_MM t_MM_ok hown (hts (.classLink R_law 10 R_MM) (by decide +kernel)) (hts (.instantiable R_MM 5) (by decide +kernel)) (hts (.initialized R_MM) (by decide +kernel)) hK hP hD hS hA rfl (fun j hj => by rcases (show j = 0 ∨ j = 1 ∨ j = 2 ∨ j = 3 ∨ j = 4 by omega) with rfl | rfl | rfl | rfl | rfl <;> rfl) (Nat.le_of_ble_eq_true rfl) (Nat.le_of_ble_eq_true rfl) d_law_8 (fun q1 H hP hD hS => ?_)
  have hP : va_P (dC, dI) classes [(q0, .inr (0, [.int (nI 4), .int (nI 3)])), (q1, .inr (1, [.int 0, .int 0, .int 0, .null, .null]))] H := hP
  have hD : va_D (fun q : Nat => s.heap.size ≤ q) [(q0, .inr (0, [.int (nI 4), .int (nI 3)])), (q1, .inr (1, [.int 0, .int 0, .int 0, .null, .null]))] := hD
  refine W.widen (k := 2) (n := 7) (by omega) (by omega) ?_
  refine lv_dup hx hb d_law_11 rfl ?_
  have hPc := hP.sub (ws' := [(q1, .inr (1, [.int 0, .int 0, .int 0, .null, .null]))]) [1] rfl
  have hDc := hD.sub (ws' := [(q1, .inr (1, [.int 0, .int 0, .int 0, .null, .null]))]) [1] (by decide) rfl
  have hFc := va_free (wc := [(q1, .inr (1, [.int 0, .int 0, .int 0, .null, .null]))]) hD hS hA [1] rfl
  refine va_callv (va_runI (As := []) (rest := [.ref q1]) ⟨hx, hb, hml, hown, hts⟩ (c_MM_init l dC dI q1 H.size 0 0 0) (cwI 0 hts g_law_MM_init rfl rfl rfl (hts (.initialized R_MM) (by decide +kernel)) (hts (.methodLink R_law 12 y_MM_init) (by decide +kernel)) (hts (.instanceMethod y_MM_init) (by decide +kernel)) rfl (by decide +kernel) ⟨Nat.le_of_ble_eq_true rfl, Nat.le_of_ble_eq_true rfl⟩) ⟨fun a U g mk q => by obtain ⟨q0, q1, qP, qK, qD⟩ := q; exact ⟨q0, q1, qP, va_K.moved (u := U) (U := U.calling g mk a) (Vm.Alike.refl U.vm) qK, qD⟩, fun U hU hW => ⟨rfl, congrArg Array.size hU, by rw [hU]; exact hPc, va_K.moved hW.alike hK, hDc.weaken (fun _ _ _ _ => trivial)⟩⟩ rfl rfl hl.1 rfl (lv_room (Nat.le_of_ble_eq_true rfl)) d_law_12 ⟨Nat.le_of_ble_eq_true rfl, Nat.le_of_ble_eq_true rfl⟩) hS (fun q _ h => hFc q h) hFc (fun u t H1 locs ht hvm hw hB hz1 hk1 hS => ?_)
  obtain ⟨qc, qf, cJ, cI⟩ := u
  obtain ⟨hP1, hK1, hD1⟩ := hB
  rw [ht] at hP1
  have hK1 := va_K.moved hvm.symm hK1
  obtain ⟨hP, hD⟩ := va_join (wr := mc_w q0 (nI 4) (nI 3)) (w1 := mm_w q1 qc qf cJ cI (nI 4) (nI 3) 0 (fun _ => 0) (fun _ => 0)) hP hD [1] [0] rfl rfl (by decide) (by decide) hk1 hFc hP1 hD1
  refine W.widen (k := 4) (n := 31) (by omega) (by omega) ?_
  refine lv_astore_n (lv' := [(2, .ref q1), (1, .ref q0), (0, .ref b)]) hx hb d_law_15 rfl hl (by decide) rfl (fun ls hl => ?_)
  refine lv_iconst (v := nI 0) hx hb d_law_16 (by decide) ?_
  refine lv_istore_n (lv' := [(3, .int (nI 0)), (2, .ref q1), (1, .ref q0), (0, .ref b)]) hx hb d_law_17 rfl hl (by decide) rfl (fun ls hl => ?_)
  exact law_loop hL C1 hK1 L 0 4 3 0 (fun _ => 0) (fun _ => 0) (by omega) (by omega) (by decide) (by decide) (fun z => absurd rfl z) H1 locs ls ⟨hP, hD, hS⟩ (lv_sub hl [3, 2, 1, 0] rfl)
end
section
set_option maxHeartbeats 4000000 in
theorem lw_walk (l : Launch) (b : Addr) (xs : List Int32) : MetFree l x (headSpec (Jvm.Cond.code x code maxLocals ret :: tables_1) room_1) (lw_P b xs) (fun _ _ _ _ _ => True) lw_Q := by
  refine MetFree.of_bodyS (code := code) (maxLocals := maxLocals) (ret := ret) (by decide) ?_ ?_
  · intro args s m h hn
    obtain ⟨meth, c, h1, h2, h3, h4, h5, h6, -, -⟩ := Cond.code_spec hn (atoms_spec (ws := Jvm.Cond.code x code maxLocals ret :: tables_1) h _ List.mem_cons_self)
    exact ⟨meth, c, h1, h2, h3, h4, h5, h6⟩
  · intro p e s m args below meth c s₁ B hml0 hP _
    obtain ⟨rfl, hx, hbd, hgv⟩ := hP
    obtain ⟨scr, harrAt, hlist, hof, hsmall⟩ := hx
    obtain ⟨hcb, hkn, -, -⟩ := State.arrayAt?_spec harrAt
    have hown : s.vm.findClass R_law = some m.cls := findClass_of_methodNamed B.named
    have hts0 : ∀ c ∈ (Jvm.Cond.code x code maxLocals ret :: tables_1), c.before #[Value.ref b] s = true := atoms_spec (ws := Jvm.Cond.code x code maxLocals ret :: tables_1) B.pre
    have hts : ∀ w ∈ lw_tbl, w.before #[Value.ref b] s = true := k2_hts_sels lw_privs (fun w hw => hts0 w (List.mem_cons_of_mem _ hw)) lw_privs_ok
    have hml : c.maxLocals = 4 := B.maxLocals_eq (hts0 _ List.mem_cons_self)
    have X₀ : Stand p l e room_1 s m #[Value.ref b] below meth c s₁ [] 0 0 := Stand.of_body B
    have hh0 : s₁.heap = s.heap := by rw [B.state]; rfl
    have hsz : scr.slots.size = xs.length := by rw [← Array.length_toList, hlist, List.length_map]
    have hval : ∀ j : Nat, j < xs.length → scr.slots[j]? = some (.int (xs.getD j 0)) := fun j hj => by
      rw [← Array.getElem?_toList, hlist]
      simp [hj]
    have hbl : b < s.heap.size := (Array.getElem?_eq_some_iff.mp hcb).1
    have hX : va_X b xs.length (fun j => xs.getD j 0) s s.heap := ⟨scr, hcb, hof, hkn, hsz, hval⟩
    have K : W p l e room_1 s m #[Value.ref b] below meth c s₁.heap [] 0 0 (lw_Z below #[Value.ref b] s) (entryFrame m ([Value.ref b] : List Value).toArray 4) := by
      rw [hh0]
      exact whole_start l hbd ⟨B.exec, B.bytes, B.returns, hml, hown, hts, hX, hbl, B.notSynchronized, hgv⟩
    obtain ⟨t, a1, o, b1, b2, b3⟩ := K s₁ rfl X₀
    exact ⟨t, o, a1, b1, b2, b3⟩
theorem lw_pre_spec {args : Array Value} {s : State} (h : (Jvm.Cond.and given_1 narrow_1).before args s = true) (hr : rest_1_c.before args s = true) : ∃ (b : Addr) (xs : List Int32), lw_P b xs args s := by
  have hs := flat_of_before _ h
  have hq := flat_of_before _ hr
  have hc : (Cond.count 1).before args s = true := hs _ (by decide +kernel)
  have harr : (Cond.arrayOf (.arg 0) .int).before args s = true := hs _ (by decide +kernel)
  have hle : (Cond.le (.length (.arg 0)) (.int 1536)).before args s = true := hs _ (by decide +kernel)
  have hlen : (Cond.isInt (.length (.arg 0))).before args s = true := hq _ (by decide +kernel)
  have hall : (Cond.all (.arg 0) (.isInt (.elem (.arg 0) (.index 0)))).before args s = true := hq _ (by decide +kernel)
  obtain ⟨b, xs, hb, hx⟩ := State.ints_of_pre rfl harr hlen hall
  have hsm : xs.length < 2 ^ 31 := hx.choose_spec.2.2.2
  have hev : (Term.length (.arg 0)).eval args s none [] s = some (.int xs.length.toInt32) := hx.length_eval hb
  have hv := Cond.le_ints hev (show (Term.int 1536).eval args s none [] s = some (.int 1536) from rfl)
  have hd : xs.length.toInt32 ≤ 1536 := by
    simpa [Cond.before, Cond.holds, hv] using hle
  have hN : xs.length ≤ 1536 := (Int32.ofNat_le_ofNat hsm (by decide)).mp (show Int32.ofNat xs.length ≤ Int32.ofNat 1536 from hd)
  exact ⟨b, xs, Cond.one_arg hc (show args[0]? = some (.ref b) from hb), hx, hN, h⟩
theorem lw_comes (l : Launch) : Comes l x (Jvm.Cond.code x code maxLocals ret :: tables_1) room_1 (fun tb e args s => Calls_1 tb e args s ∧ rest_1 tb e args s ∧ Pre_1 tb e args s)
    (fun _ _ args s o t => lw_Q args s o t) := by
  intro p e ha hc hk s m args below hf hfit hheap happ hpre
  obtain ⟨b, xs, hP⟩ := lw_pre_spec hpre.2.2 hpre.2.1
  obtain ⟨k, o, h1, h2, h3, hQ⟩ := lw_walk l b xs p e ha hc hk s m args below hf ((Spec.applies_iff_loose hf).mp happ).1 hP trivial
  exact ⟨k, o, h1, h2, h3, hQ⟩
theorem lw_frame {s t : State} {o : Outcome} {args : Array Value} (h : Framed s o t [] 4 31) :
    Framed s o t (fieldLocs frame_1_writes args s ++ arrayLocs frame_1_arrays args s ++ staticLocs frame_1_statics s) 4 31 := h
theorem lw_limb (L : Cond) (hL : ∀ (args : Array Value) (s t : State), L.after args s (.returned (some (.int 1))) t = true) :
    ArmFor flags0 classFile x code maxLocals ret World_1 tables_1 room_1 Calls_1 rest_1 Pre_1
      (fun tb e a s o t => postC L tb e a s o t ∧ Framed s o t (fieldLocs frame_1_writes a s ++ arrayLocs frame_1_arrays a s ++ staticLocs frame_1_statics s) 4 31) := by
  intro l _ _ _ p e ha hc hk s m args below hf hfit hheap happ hpre
  obtain ⟨k, o, h1, h2, h3, rfl, hF⟩ := lw_comes l p e ha hc hk s m args below hf hfit hheap happ hpre
  exact ⟨k, _, h1, h2, h3, hL args s _, lw_frame hF⟩
theorem i_vc : Claimed_1_1 ∧ Claimed_1_2 := ⟨lw_limb limb_1_1 (fun args s t => by simp [limb_1_1, Cond.after, Cond.holds, Cond.value]), lw_limb limb_1_2 (fun args s t => Cond.after_iff.mpr (by
  first | (rw [show limb_1_2 = Cond.eq .result (.int 1) from rfl, Cond.eq_ints (x := 1) (y := 1) rfl rfl]; simp; done) | (simp [limb_1_2, Cond.value, Term.eval]; done)))⟩
end
