section
-- PART A of the skeleton (starting text): the tables' words
/-- a private method of a class that the tables say can be made, by its rows of tables_1 -/
def lw_okq (q : MethodName × Nat) : Prop := (q.1.cls ≠ "java/lang/invoke/MethodHandle" ∧ q.1.cls ≠ "java/lang/invoke/VarHandle") ∧ Cond.instantiable q.1.cls q.2 ∈ tables_1 ∧ Cond.privateMethod q.1 ∈ tables_1 ∧ Cond.instanceMethod q.1 ∈ tables_1
theorem lw_p0 : lw_okq (⟨"WildCards", "isFit", "(II)Z"⟩, 7) := ⟨⟨by decide +kernel, by decide +kernel⟩, List.mem_of_getElem? (i := 7) (by decide +kernel), List.mem_of_getElem? (i := 77) (by decide +kernel), List.mem_of_getElem? (i := 78) (by decide +kernel)⟩
theorem lw_p1 : lw_okq (⟨"WildCards$Patterns", "at", "(I)I"⟩, 3) := ⟨⟨by decide +kernel, by decide +kernel⟩, List.mem_of_getElem? (i := 15) (by decide +kernel), List.mem_of_getElem? (i := 85) (by decide +kernel), List.mem_of_getElem? (i := 86) (by decide +kernel)⟩
theorem lw_p2 : lw_okq (⟨"WildCards$Patterns", "takes", "(II)Z"⟩, 3) := ⟨⟨by decide +kernel, by decide +kernel⟩, List.mem_of_getElem? (i := 15) (by decide +kernel), List.mem_of_getElem? (i := 89) (by decide +kernel), List.mem_of_getElem? (i := 90) (by decide +kernel)⟩
theorem lw_p3 : lw_okq (⟨"WildCards$Patterns", "plain", "(I)I"⟩, 3) := ⟨⟨by decide +kernel, by decide +kernel⟩, List.mem_of_getElem? (i := 15) (by decide +kernel), List.mem_of_getElem? (i := 93) (by decide +kernel), List.mem_of_getElem? (i := 94) (by decide +kernel)⟩
theorem lw_p4 : lw_okq (⟨"WildCards$Patterns", "next", "(I)I"⟩, 3) := ⟨⟨by decide +kernel, by decide +kernel⟩, List.mem_of_getElem? (i := 15) (by decide +kernel), List.mem_of_getElem? (i := 97) (by decide +kernel), List.mem_of_getElem? (i := 98) (by decide +kernel)⟩
theorem lw_p5 : lw_okq (⟨"WildCards$Patterns", "behind", "(I)I"⟩, 3) := ⟨⟨by decide +kernel, by decide +kernel⟩, List.mem_of_getElem? (i := 15) (by decide +kernel), List.mem_of_getElem? (i := 104) (by decide +kernel), List.mem_of_getElem? (i := 105) (by decide +kernel)⟩
theorem lw_p6 : lw_okq (⟨"WildCardsModel", "put", "(I)V"⟩, 9) := ⟨⟨by decide +kernel, by decide +kernel⟩, List.mem_of_getElem? (i := 116) (by decide +kernel), List.mem_of_getElem? (i := 156) (by decide +kernel), List.mem_of_getElem? (i := 157) (by decide +kernel)⟩
theorem lw_p7 : lw_okq (⟨"WildCardsModel", "reckon", "(II)V"⟩, 9) := ⟨⟨by decide +kernel, by decide +kernel⟩, List.mem_of_getElem? (i := 116) (by decide +kernel), List.mem_of_getElem? (i := 176) (by decide +kernel), List.mem_of_getElem? (i := 177) (by decide +kernel)⟩
theorem lw_p8 : lw_okq (⟨"WildCardsModel", "suits", "(II)Z"⟩, 9) := ⟨⟨by decide +kernel, by decide +kernel⟩, List.mem_of_getElem? (i := 116) (by decide +kernel), List.mem_of_getElem? (i := 180) (by decide +kernel), List.mem_of_getElem? (i := 181) (by decide +kernel)⟩
theorem lw_p9 : lw_okq (⟨"WildCardsModel", "isOne", "(II)Z"⟩, 9) := ⟨⟨by decide +kernel, by decide +kernel⟩, List.mem_of_getElem? (i := 116) (by decide +kernel), List.mem_of_getElem? (i := 184) (by decide +kernel), List.mem_of_getElem? (i := 185) (by decide +kernel)⟩
theorem lw_p10 : lw_okq (⟨"WildCardsModel", "tells", "(I)I"⟩, 9) := ⟨⟨by decide +kernel, by decide +kernel⟩, List.mem_of_getElem? (i := 116) (by decide +kernel), List.mem_of_getElem? (i := 188) (by decide +kernel), List.mem_of_getElem? (i := 189) (by decide +kernel)⟩
def lw_privs_1 : List (MethodName × Nat) := [(⟨"WildCards", "isFit", "(II)Z"⟩, 7), (⟨"WildCards$Patterns", "at", "(I)I"⟩, 3), (⟨"WildCards$Patterns", "takes", "(II)Z"⟩, 3), (⟨"WildCards$Patterns", "plain", "(I)I"⟩, 3), (⟨"WildCards$Patterns", "next", "(I)I"⟩, 3), (⟨"WildCards$Patterns", "behind", "(I)I"⟩, 3), (⟨"WildCardsModel", "put", "(I)V"⟩, 9), (⟨"WildCardsModel", "reckon", "(II)V"⟩, 9), (⟨"WildCardsModel", "suits", "(II)Z"⟩, 9), (⟨"WildCardsModel", "isOne", "(II)Z"⟩, 9), (⟨"WildCardsModel", "tells", "(I)I"⟩, 9)]
theorem lw_r1 : ∀ q ∈ lw_privs_1, lw_okq q := List.forall_mem_cons.mpr ⟨lw_p0, List.forall_mem_cons.mpr ⟨lw_p1, List.forall_mem_cons.mpr ⟨lw_p2, List.forall_mem_cons.mpr ⟨lw_p3, List.forall_mem_cons.mpr ⟨lw_p4, List.forall_mem_cons.mpr ⟨lw_p5, List.forall_mem_cons.mpr ⟨lw_p6, List.forall_mem_cons.mpr ⟨lw_p7, List.forall_mem_cons.mpr ⟨lw_p8, List.forall_mem_cons.mpr ⟨lw_p9, List.forall_mem_cons.mpr ⟨lw_p10, fun _ h => absurd h List.not_mem_nil⟩⟩⟩⟩⟩⟩⟩⟩⟩⟩⟩
def lw_privs : List (MethodName × Nat) := lw_privs_1
def lw_tbl : List Cond := k2_sels lw_privs ++ tables_1
theorem lw_privs_ok : ∀ q ∈ lw_privs, lw_okq q := lw_r1
-- the words that stay good through calls
def gw : List Cond := lw_tbl.filter goodWord
theorem gw_at {w : Cond} (h : w ∈ lw_tbl) (g : goodWord w = true) : w ∈ gw := List.mem_filter.mpr ⟨h, g⟩
theorem gw_tb {w : Cond} (h : w ∈ tables_1) (g : goodWord w = true) : w ∈ gw := gw_at (List.mem_append_right _ h) g
theorem gw_sel {w : Cond} (h : w ∈ k2_sels lw_privs) (g : goodWord w = true) : w ∈ gw := gw_at (List.mem_append_left _ h) g
theorem gw_good {y : MethodName} {b : ByteArray} {n : Nat} {ret : Option FieldType} (h : Cond.code y b n ret ∈ gw) : GoodIn gw (Cond.code y b n ret :: gw) := fun w hw => by
  have h1 : w ∈ gw := by
    rcases List.mem_cons.mp hw with e | e
    · rw [e]; exact h
    · exact e
  exact ⟨h1, good_of_word (List.mem_filter.mp h1).2⟩
theorem gw_goodV {own C : String} {idx : Nat} {y : MethodName} {b : ByteArray} {n : Nat} {ret : Option FieldType} (h : Cond.code y b n ret ∈ gw) (h1 : Cond.methodLink own idx y ∈ gw) (h2 : Cond.instanceMethod y ∈ gw) (h3 : Cond.selects C y y ∈ gw) (h4 : Cond.initialized C ∈ gw) : GoodIn gw (wsV own idx C y (Cond.code y b n ret :: gw)) := fun w hw => by
  have hm : w ∈ gw := by
    rcases List.mem_append.mp hw with e | e
    · simp only [List.mem_cons, List.not_mem_nil, or_false] at e
      rcases e with rfl | rfl | rfl | rfl
      · exact h1
      · exact h2
      · exact h3
      · exact h4
    · rcases List.mem_cons.mp e with e | e
      · rw [e]; exact h
      · exact e
  exact ⟨hm, good_of_word (List.mem_filter.mp hm).2⟩
abbrev R_Wc : String := "WildCards"
abbrev R_Mo : String := "WildCardsModel"
abbrev R_Pt : String := "WildCards$Patterns"
abbrev R_law : String := "WildCardsLaw"
def F_Pt : u_T := fun k => match k with
  | 0 => ("WildCards$Patterns", "row", "[B", false)
  | 1 => ("WildCards$Patterns", "from", "I", false)
  | _ => ("WildCards$Patterns", "many", "I", false)
def t_Pt : Nat → FieldType := fun k => match k with
  | 0 => .array .byte
  | 1 => .int
  | _ => .int
theorem n_Pt : ∀ a, a < 3 → ∀ b, b < 3 → a ≠ b → (F_Pt a).2.1 ≠ (F_Pt b).2.1 := by decide +kernel
theorem t_Pt_ok : ∀ k, k < 3 → parseFieldDescriptor (F_Pt k).2.2.1 = some (t_Pt k) := by decide +kernel
def F_Wc : u_T := fun k => match k with
  | 0 => ("WildCards", "tape", "[B", true)
  | 1 => ("WildCards", "length", "I", false)
  | 2 => ("WildCards", "pattern", "[B", true)
  | 3 => ("WildCards", "word", "[B", true)
  | 4 => ("WildCards", "patternSize", "I", false)
  | 5 => ("WildCards", "wordSize", "I", false)
  | _ => ("WildCards", "patterns", "LWildCards$Patterns;", true)
def t_Wc : Nat → FieldType := fun k => match k with
  | 0 => .array .byte
  | 1 => .int
  | 2 => .array .byte
  | 3 => .array .byte
  | 4 => .int
  | 5 => .int
  | _ => .object "WildCards$Patterns"
theorem n_Wc : ∀ a, a < 7 → ∀ b, b < 7 → a ≠ b → (F_Wc a).2.1 ≠ (F_Wc b).2.1 := by decide +kernel
theorem t_Wc_ok : ∀ k, k < 7 → parseFieldDescriptor (F_Wc k).2.2.1 = some (t_Wc k) := by decide +kernel
def F_Mo : u_T := fun k => match k with
  | 0 => ("WildCardsModel", "tape", "[I", true)
  | 1 => ("WildCardsModel", "pattern", "[I", true)
  | 2 => ("WildCardsModel", "word", "[I", true)
  | 3 => ("WildCardsModel", "typed", "I", false)
  | 4 => ("WildCardsModel", "size", "I", false)
  | 5 => ("WildCardsModel", "length", "I", false)
  | 6 => ("WildCardsModel", "end", "I", false)
  | 7 => ("WildCardsModel", "told", "I", false)
  | _ => ("WildCardsModel", "fit", "[Z", true)
def t_Mo : Nat → FieldType := fun k => match k with
  | 0 => .array .int
  | 1 => .array .int
  | 2 => .array .int
  | 3 => .int
  | 4 => .int
  | 5 => .int
  | 6 => .int
  | 7 => .int
  | _ => .array .boolean
theorem n_Mo : ∀ a, a < 9 → ∀ b, b < 9 → a ≠ b → (F_Mo a).2.1 ≠ (F_Mo b).2.1 := by decide +kernel
theorem t_Mo_ok : ∀ k, k < 9 → parseFieldDescriptor (F_Mo k).2.2.1 = some (t_Mo k) := by decide +kernel
abbrev classes : List vw_C := [(R_Pt, F_Pt, 3), (R_Wc, F_Wc, 7), (R_Mo, F_Mo, 9)]
abbrev b_Wc_init : ByteArray := prog_1_method_1_code
abbrev y_Wc_init : MethodName := ⟨R_Wc, "<init>", "()V"⟩
abbrev w_Wc_init : List Cond := .code y_Wc_init b_Wc_init 1 none :: gw
abbrev b_Pt_init : ByteArray := prog_2_method_1_code
abbrev y_Pt_init : MethodName := ⟨R_Pt, "<init>", "()V"⟩
abbrev w_Pt_init : List Cond := .code y_Pt_init b_Pt_init 1 none :: gw
abbrev b_Wc_feed : ByteArray := prog_1_method_2_code
abbrev y_Wc_feed : MethodName := ⟨R_Wc, "feed", "(IIIII)Z"⟩
abbrev w_Wc_feed : List Cond := .code y_Wc_feed b_Wc_feed 8 (some .boolean) :: gw
abbrev b_Wc_end : ByteArray := prog_1_method_3_code
abbrev y_Wc_end : MethodName := ⟨R_Wc, "end", "(I)Z"⟩
abbrev w_Wc_end : List Cond := .code y_Wc_end b_Wc_end 2 (some .boolean) :: gw
abbrev b_Wc_pattern : ByteArray := prog_1_method_4_code
abbrev y_Wc_pattern : MethodName := ⟨R_Wc, "pattern", "()I"⟩
abbrev w_Wc_pattern : List Cond := .code y_Wc_pattern b_Wc_pattern 1 (some .int) :: gw
abbrev b_Wc_word : ByteArray := prog_1_method_5_code
abbrev y_Wc_word : MethodName := ⟨R_Wc, "word", "()I"⟩
abbrev w_Wc_word : List Cond := .code y_Wc_word b_Wc_word 1 (some .int) :: gw
abbrev b_Wc_fits : ByteArray := prog_1_method_7_code
abbrev y_Wc_fits : MethodName := ⟨R_Wc, "fits", "()Z"⟩
abbrev w_Wc_fits : List Cond := .code y_Wc_fits b_Wc_fits 1 (some .boolean) :: gw
abbrev b_Wc_isFit : ByteArray := prog_1_method_6_code
abbrev y_Wc_isFit : MethodName := ⟨R_Wc, "isFit", "(II)Z"⟩
abbrev w_Wc_isFit : List Cond := .code y_Wc_isFit b_Wc_isFit 3 (some .boolean) :: gw
abbrev b_Pt_fits : ByteArray := prog_2_method_3_code
abbrev y_Pt_fits : MethodName := ⟨R_Pt, "fits", "([BII[BII)Z"⟩
abbrev w_Pt_fits : List Cond := .code y_Pt_fits b_Pt_fits 11 (some .boolean) :: gw
abbrev b_Pt_at : ByteArray := prog_2_method_2_code
abbrev y_Pt_at : MethodName := ⟨R_Pt, "at", "(I)I"⟩
abbrev w_Pt_at : List Cond := .code y_Pt_at b_Pt_at 2 (some .int) :: gw
abbrev b_Pt_takes : ByteArray := prog_2_method_7_code
abbrev y_Pt_takes : MethodName := ⟨R_Pt, "takes", "(II)Z"⟩
abbrev w_Pt_takes : List Cond := .code y_Pt_takes b_Pt_takes 10 (some .boolean) :: gw
abbrev b_Pt_plain : ByteArray := prog_2_method_6_code
abbrev y_Pt_plain : MethodName := ⟨R_Pt, "plain", "(I)I"⟩
abbrev w_Pt_plain : List Cond := .code y_Pt_plain b_Pt_plain 2 (some .int) :: gw
abbrev b_Pt_next : ByteArray := prog_2_method_5_code
abbrev y_Pt_next : MethodName := ⟨R_Pt, "next", "(I)I"⟩
abbrev w_Pt_next : List Cond := .code y_Pt_next b_Pt_next 2 (some .int) :: gw
abbrev b_Pt_behind : ByteArray := prog_2_method_4_code
abbrev y_Pt_behind : MethodName := ⟨R_Pt, "behind", "(I)I"⟩
abbrev w_Pt_behind : List Cond := .code y_Pt_behind b_Pt_behind 3 (some .int) :: gw
abbrev b_Wc_fitsPart : ByteArray := prog_1_method_8_code
abbrev y_Wc_fitsPart : MethodName := ⟨R_Wc, "fitsPart", "(II)Z"⟩
abbrev w_Wc_fitsPart : List Cond := .code y_Wc_fitsPart b_Wc_fitsPart 3 (some .boolean) :: gw
abbrev b_Wc_beginnings : ByteArray := prog_1_method_9_code
abbrev y_Wc_beginnings : MethodName := ⟨R_Wc, "beginnings", "()I"⟩
abbrev w_Wc_beginnings : List Cond := .code y_Wc_beginnings b_Wc_beginnings 3 (some .int) :: gw
abbrev b_Mo_init : ByteArray := prog_4_method_1_code
abbrev y_Mo_init : MethodName := ⟨R_Mo, "<init>", "()V"⟩
abbrev w_Mo_init : List Cond := .code y_Mo_init b_Mo_init 1 none :: gw
abbrev b_Mo_feed : ByteArray := prog_4_method_3_code
abbrev y_Mo_feed : MethodName := ⟨R_Mo, "feed", "(IIIII)Z"⟩
abbrev w_Mo_feed : List Cond := .code y_Mo_feed b_Mo_feed 6 (some .boolean) :: gw
abbrev b_Mo_put : ByteArray := prog_4_method_2_code
abbrev y_Mo_put : MethodName := ⟨R_Mo, "put", "(I)V"⟩
abbrev w_Mo_put : List Cond := .code y_Mo_put b_Mo_put 3 none :: gw
abbrev b_Mo_end : ByteArray := prog_4_method_4_code
abbrev y_Mo_end : MethodName := ⟨R_Mo, "end", "(I)Z"⟩
abbrev w_Mo_end : List Cond := .code y_Mo_end b_Mo_end 2 (some .boolean) :: gw
abbrev b_Mo_pattern : ByteArray := prog_4_method_5_code
abbrev y_Mo_pattern : MethodName := ⟨R_Mo, "pattern", "()I"⟩
abbrev w_Mo_pattern : List Cond := .code y_Mo_pattern b_Mo_pattern 2 (some .int) :: gw
abbrev b_Mo_word : ByteArray := prog_4_method_6_code
abbrev y_Mo_word : MethodName := ⟨R_Mo, "word", "()I"⟩
abbrev w_Mo_word : List Cond := .code y_Mo_word b_Mo_word 2 (some .int) :: gw
abbrev b_Mo_fits : ByteArray := prog_4_method_11_code
abbrev y_Mo_fits : MethodName := ⟨R_Mo, "fits", "()Z"⟩
abbrev w_Mo_fits : List Cond := .code y_Mo_fits b_Mo_fits 1 (some .boolean) :: gw
abbrev b_Mo_reckon : ByteArray := prog_4_method_10_code
abbrev y_Mo_reckon : MethodName := ⟨R_Mo, "reckon", "(II)V"⟩
abbrev w_Mo_reckon : List Cond := .code y_Mo_reckon b_Mo_reckon 5 none :: gw
abbrev b_Mo_suits : ByteArray := prog_4_method_9_code
abbrev y_Mo_suits : MethodName := ⟨R_Mo, "suits", "(II)Z"⟩
abbrev w_Mo_suits : List Cond := .code y_Mo_suits b_Mo_suits 3 (some .boolean) :: gw
abbrev b_Mo_isOne : ByteArray := prog_4_method_8_code
abbrev y_Mo_isOne : MethodName := ⟨R_Mo, "isOne", "(II)Z"⟩
abbrev w_Mo_isOne : List Cond := .code y_Mo_isOne b_Mo_isOne 8 (some .boolean) :: gw
abbrev b_Mo_tells : ByteArray := prog_4_method_7_code
abbrev y_Mo_tells : MethodName := ⟨R_Mo, "tells", "(I)I"⟩
abbrev w_Mo_tells : List Cond := .code y_Mo_tells b_Mo_tells 2 (some .int) :: gw
abbrev b_Mo_fitsPart : ByteArray := prog_4_method_12_code
abbrev y_Mo_fitsPart : MethodName := ⟨R_Mo, "fitsPart", "(II)Z"⟩
abbrev w_Mo_fitsPart : List Cond := .code y_Mo_fitsPart b_Mo_fitsPart 3 (some .boolean) :: gw
abbrev b_Mo_beginnings : ByteArray := prog_4_method_13_code
abbrev y_Mo_beginnings : MethodName := ⟨R_Mo, "beginnings", "()I"⟩
abbrev w_Mo_beginnings : List Cond := .code y_Mo_beginnings b_Mo_beginnings 3 (some .int) :: gw
theorem k_ini_law : (Cond.initialized R_law) ∈ gw := gw_tb (List.mem_of_getElem? (i := 0) rfl) rfl
theorem k_ini_Wc : (Cond.initialized R_Wc) ∈ gw := gw_tb (List.mem_of_getElem? (i := 1) rfl) rfl
theorem k_ini_Pt : (Cond.initialized R_Pt) ∈ gw := gw_tb (List.mem_of_getElem? (i := 2) rfl) rfl
theorem k_ini_Mo : (Cond.initialized R_Mo) ∈ gw := gw_tb (List.mem_of_getElem? (i := 3) rfl) rfl
theorem k_ini_System : (Cond.initialized "java/lang/System") ∈ gw := gw_tb (List.mem_of_getElem? (i := 4) rfl) rfl
theorem k_ini_Math : (Cond.initialized "java/lang/Math") ∈ gw := gw_tb (List.mem_of_getElem? (i := 5) rfl) rfl
theorem k_cl_law_7 : (Cond.classLink R_law 7 R_Wc) ∈ gw := gw_tb (List.mem_of_getElem? (i := 6) rfl) rfl
theorem k_inst_Wc : (Cond.instantiable R_Wc 7) ∈ gw := gw_tb (List.mem_of_getElem? (i := 7) rfl) rfl
theorem k_ml_law_9 : (Cond.methodLink R_law 9 y_Wc_init) ∈ gw := gw_tb (List.mem_of_getElem? (i := 8) rfl) rfl
theorem k_im_Wc_init : (Cond.instanceMethod y_Wc_init) ∈ gw := gw_tb (List.mem_of_getElem? (i := 9) rfl) rfl
theorem k_code_Wc_init : (Cond.code y_Wc_init b_Wc_init 1 none) ∈ gw := gw_tb (List.mem_of_getElem? (i := 10) rfl) rfl
theorem k_ml_Wc_1 : (Cond.methodLink R_Wc 1 objectInit) ∈ gw := gw_tb (List.mem_of_getElem? (i := 11) rfl) rfl
theorem k_im_obj : (Cond.instanceMethod objectInit) ∈ gw := gw_tb (List.mem_of_getElem? (i := 12) rfl) rfl
theorem k_code_obj : (Cond.code objectInit ⟨#[0xb1]⟩ 1 none) ∈ gw := gw_tb (List.mem_of_getElem? (i := 13) rfl) rfl
theorem k_cl_Wc_19 : (Cond.classLink R_Wc 19 R_Pt) ∈ gw := gw_tb (List.mem_of_getElem? (i := 14) rfl) rfl
theorem k_inst_Pt : (Cond.instantiable R_Pt 3) ∈ gw := gw_tb (List.mem_of_getElem? (i := 15) rfl) rfl
theorem k_nest : Cond.methodLinkNest R_Wc 21 y_Pt_init R_Wc ∈ lw_tbl := List.mem_append_right _ (List.mem_of_getElem? (i := 16) rfl)
theorem k_im_Pt_init : (Cond.instanceMethod y_Pt_init) ∈ gw := gw_tb (List.mem_of_getElem? (i := 17) rfl) rfl
theorem k_code_Pt_init : (Cond.code y_Pt_init b_Pt_init 1 none) ∈ gw := gw_tb (List.mem_of_getElem? (i := 18) rfl) rfl
theorem k_ml_Pt_3 : (Cond.methodLink R_Pt 3 objectInit) ∈ gw := gw_tb (List.mem_of_getElem? (i := 19) rfl) rfl
theorem k_fl_Pt_15 : (Cond.fieldLink R_Pt 15 R_Pt "row" "[B") ∈ gw := gw_tb (List.mem_of_getElem? (i := 20) rfl) rfl
theorem k_fl_Pt_19 : (Cond.fieldLink R_Pt 19 R_Pt "from" "I") ∈ gw := gw_tb (List.mem_of_getElem? (i := 21) rfl) rfl
theorem k_fl_Pt_9 : (Cond.fieldLink R_Pt 9 R_Pt "many" "I") ∈ gw := gw_tb (List.mem_of_getElem? (i := 22) rfl) rfl
theorem k_arr_byte : (Cond.arrayClass .byte) ∈ gw := gw_tb (List.mem_of_getElem? (i := 30) rfl) rfl
theorem k_fl_Wc_9 : (Cond.fieldLink R_Wc 9 R_Wc "tape" "[B") ∈ gw := gw_tb (List.mem_of_getElem? (i := 31) rfl) rfl
theorem k_fl_Wc_26 : (Cond.fieldLink R_Wc 26 R_Wc "length" "I") ∈ gw := gw_tb (List.mem_of_getElem? (i := 32) rfl) rfl
theorem k_fl_Wc_13 : (Cond.fieldLink R_Wc 13 R_Wc "pattern" "[B") ∈ gw := gw_tb (List.mem_of_getElem? (i := 33) rfl) rfl
theorem k_fl_Wc_16 : (Cond.fieldLink R_Wc 16 R_Wc "word" "[B") ∈ gw := gw_tb (List.mem_of_getElem? (i := 34) rfl) rfl
theorem k_fl_Wc_30 : (Cond.fieldLink R_Wc 30 R_Wc "patternSize" "I") ∈ gw := gw_tb (List.mem_of_getElem? (i := 35) rfl) rfl
theorem k_fl_Wc_39 : (Cond.fieldLink R_Wc 39 R_Wc "wordSize" "I") ∈ gw := gw_tb (List.mem_of_getElem? (i := 36) rfl) rfl
theorem k_fl_Wc_22 : (Cond.fieldLink R_Wc 22 R_Wc "patterns" "LWildCards$Patterns;") ∈ gw := gw_tb (List.mem_of_getElem? (i := 37) rfl) rfl
theorem k_ml_law_13 : (Cond.methodLink R_law 13 y_Wc_feed) ∈ gw := gw_tb (List.mem_of_getElem? (i := 53) rfl) rfl
theorem k_im_Wc_feed : (Cond.instanceMethod y_Wc_feed) ∈ gw := gw_tb (List.mem_of_getElem? (i := 54) rfl) rfl
theorem k_sel_Wc_feed : (Cond.selects R_Wc y_Wc_feed y_Wc_feed) ∈ gw := gw_tb (List.mem_of_getElem? (i := 55) rfl) rfl
theorem k_code_Wc_feed : (Cond.code y_Wc_feed b_Wc_feed 8 (some .boolean)) ∈ gw := gw_tb (List.mem_of_getElem? (i := 56) rfl) rfl
theorem k_ml_law_18 : (Cond.methodLink R_law 18 y_Wc_end) ∈ gw := gw_tb (List.mem_of_getElem? (i := 57) rfl) rfl
theorem k_im_Wc_end : (Cond.instanceMethod y_Wc_end) ∈ gw := gw_tb (List.mem_of_getElem? (i := 58) rfl) rfl
theorem k_sel_Wc_end : (Cond.selects R_Wc y_Wc_end y_Wc_end) ∈ gw := gw_tb (List.mem_of_getElem? (i := 59) rfl) rfl
theorem k_code_Wc_end : (Cond.code y_Wc_end b_Wc_end 2 (some .boolean)) ∈ gw := gw_tb (List.mem_of_getElem? (i := 60) rfl) rfl
theorem k_ml_law_23 : (Cond.methodLink R_law 23 y_Wc_pattern) ∈ gw := gw_tb (List.mem_of_getElem? (i := 61) rfl) rfl
theorem k_im_Wc_pattern : (Cond.instanceMethod y_Wc_pattern) ∈ gw := gw_tb (List.mem_of_getElem? (i := 62) rfl) rfl
theorem k_sel_Wc_pattern : (Cond.selects R_Wc y_Wc_pattern y_Wc_pattern) ∈ gw := gw_tb (List.mem_of_getElem? (i := 63) rfl) rfl
theorem k_code_Wc_pattern : (Cond.code y_Wc_pattern b_Wc_pattern 1 (some .int)) ∈ gw := gw_tb (List.mem_of_getElem? (i := 64) rfl) rfl
theorem k_ml_Wc_33 : (Cond.methodLink R_Wc 33 arraycopyName) ∈ gw := gw_tb (List.mem_of_getElem? (i := 65) rfl) rfl
theorem k_st_acp : (Cond.static arraycopyName) ∈ gw := gw_tb (List.mem_of_getElem? (i := 66) rfl) rfl
theorem k_nat_acp : (Cond.native arraycopyName) ∈ gw := gw_tb (List.mem_of_getElem? (i := 67) rfl) rfl
theorem k_ml_law_28 : (Cond.methodLink R_law 28 y_Wc_word) ∈ gw := gw_tb (List.mem_of_getElem? (i := 68) rfl) rfl
theorem k_im_Wc_word : (Cond.instanceMethod y_Wc_word) ∈ gw := gw_tb (List.mem_of_getElem? (i := 69) rfl) rfl
theorem k_sel_Wc_word : (Cond.selects R_Wc y_Wc_word y_Wc_word) ∈ gw := gw_tb (List.mem_of_getElem? (i := 70) rfl) rfl
theorem k_code_Wc_word : (Cond.code y_Wc_word b_Wc_word 1 (some .int)) ∈ gw := gw_tb (List.mem_of_getElem? (i := 71) rfl) rfl
theorem k_ml_law_32 : (Cond.methodLink R_law 32 y_Wc_fits) ∈ gw := gw_tb (List.mem_of_getElem? (i := 72) rfl) rfl
theorem k_im_Wc_fits : (Cond.instanceMethod y_Wc_fits) ∈ gw := gw_tb (List.mem_of_getElem? (i := 73) rfl) rfl
theorem k_sel_Wc_fits : (Cond.selects R_Wc y_Wc_fits y_Wc_fits) ∈ gw := gw_tb (List.mem_of_getElem? (i := 74) rfl) rfl
theorem k_code_Wc_fits : (Cond.code y_Wc_fits b_Wc_fits 1 (some .boolean)) ∈ gw := gw_tb (List.mem_of_getElem? (i := 75) rfl) rfl
theorem k_ml_Wc_46 : (Cond.methodLink R_Wc 46 y_Wc_isFit) ∈ gw := gw_tb (List.mem_of_getElem? (i := 76) rfl) rfl
theorem k_im_Wc_isFit : (Cond.instanceMethod y_Wc_isFit) ∈ gw := gw_tb (List.mem_of_getElem? (i := 78) rfl) rfl
theorem k_code_Wc_isFit : (Cond.code y_Wc_isFit b_Wc_isFit 3 (some .boolean)) ∈ gw := gw_tb (List.mem_of_getElem? (i := 79) rfl) rfl
theorem k_ml_Wc_42 : (Cond.methodLink R_Wc 42 y_Pt_fits) ∈ gw := gw_tb (List.mem_of_getElem? (i := 80) rfl) rfl
theorem k_im_Pt_fits : (Cond.instanceMethod y_Pt_fits) ∈ gw := gw_tb (List.mem_of_getElem? (i := 81) rfl) rfl
theorem k_sel_Pt_fits : (Cond.selects R_Pt y_Pt_fits y_Pt_fits) ∈ gw := gw_tb (List.mem_of_getElem? (i := 82) rfl) rfl
theorem k_code_Pt_fits : (Cond.code y_Pt_fits b_Pt_fits 11 (some .boolean)) ∈ gw := gw_tb (List.mem_of_getElem? (i := 83) rfl) rfl
theorem k_ml_Pt_22 : (Cond.methodLink R_Pt 22 y_Pt_at) ∈ gw := gw_tb (List.mem_of_getElem? (i := 84) rfl) rfl
theorem k_im_Pt_at : (Cond.instanceMethod y_Pt_at) ∈ gw := gw_tb (List.mem_of_getElem? (i := 86) rfl) rfl
theorem k_code_Pt_at : (Cond.code y_Pt_at b_Pt_at 2 (some .int)) ∈ gw := gw_tb (List.mem_of_getElem? (i := 87) rfl) rfl
theorem k_ml_Pt_26 : (Cond.methodLink R_Pt 26 y_Pt_takes) ∈ gw := gw_tb (List.mem_of_getElem? (i := 88) rfl) rfl
theorem k_im_Pt_takes : (Cond.instanceMethod y_Pt_takes) ∈ gw := gw_tb (List.mem_of_getElem? (i := 90) rfl) rfl
theorem k_code_Pt_takes : (Cond.code y_Pt_takes b_Pt_takes 10 (some .boolean)) ∈ gw := gw_tb (List.mem_of_getElem? (i := 91) rfl) rfl
theorem k_ml_Pt_42 : (Cond.methodLink R_Pt 42 y_Pt_plain) ∈ gw := gw_tb (List.mem_of_getElem? (i := 92) rfl) rfl
theorem k_im_Pt_plain : (Cond.instanceMethod y_Pt_plain) ∈ gw := gw_tb (List.mem_of_getElem? (i := 94) rfl) rfl
theorem k_code_Pt_plain : (Cond.code y_Pt_plain b_Pt_plain 2 (some .int)) ∈ gw := gw_tb (List.mem_of_getElem? (i := 95) rfl) rfl
theorem k_ml_Pt_39 : (Cond.methodLink R_Pt 39 y_Pt_next) ∈ gw := gw_tb (List.mem_of_getElem? (i := 96) rfl) rfl
theorem k_im_Pt_next : (Cond.instanceMethod y_Pt_next) ∈ gw := gw_tb (List.mem_of_getElem? (i := 98) rfl) rfl
theorem k_code_Pt_next : (Cond.code y_Pt_next b_Pt_next 2 (some .int)) ∈ gw := gw_tb (List.mem_of_getElem? (i := 99) rfl) rfl
theorem k_ml_Pt_33 : (Cond.methodLink R_Pt 33 Lib.Math.min.name) ∈ gw := gw_tb (List.mem_of_getElem? (i := 100) rfl) rfl
theorem k_st_min : (Cond.static Lib.Math.min.name) ∈ gw := gw_tb (List.mem_of_getElem? (i := 101) rfl) rfl
theorem k_code_min : (Cond.code Lib.Math.min.name Lib.Math.min.code 2 (some .int)) ∈ gw := gw_tb (List.mem_of_getElem? (i := 102) rfl) rfl
theorem k_ml_Pt_30 : (Cond.methodLink R_Pt 30 y_Pt_behind) ∈ gw := gw_tb (List.mem_of_getElem? (i := 103) rfl) rfl
theorem k_im_Pt_behind : (Cond.instanceMethod y_Pt_behind) ∈ gw := gw_tb (List.mem_of_getElem? (i := 105) rfl) rfl
theorem k_code_Pt_behind : (Cond.code y_Pt_behind b_Pt_behind 3 (some .int)) ∈ gw := gw_tb (List.mem_of_getElem? (i := 106) rfl) rfl
theorem k_ml_law_37 : (Cond.methodLink R_law 37 y_Wc_fitsPart) ∈ gw := gw_tb (List.mem_of_getElem? (i := 107) rfl) rfl
theorem k_im_Wc_fitsPart : (Cond.instanceMethod y_Wc_fitsPart) ∈ gw := gw_tb (List.mem_of_getElem? (i := 108) rfl) rfl
theorem k_sel_Wc_fitsPart : (Cond.selects R_Wc y_Wc_fitsPart y_Wc_fitsPart) ∈ gw := gw_tb (List.mem_of_getElem? (i := 109) rfl) rfl
theorem k_code_Wc_fitsPart : (Cond.code y_Wc_fitsPart b_Wc_fitsPart 3 (some .boolean)) ∈ gw := gw_tb (List.mem_of_getElem? (i := 110) rfl) rfl
theorem k_ml_law_42 : (Cond.methodLink R_law 42 y_Wc_beginnings) ∈ gw := gw_tb (List.mem_of_getElem? (i := 111) rfl) rfl
theorem k_im_Wc_beginnings : (Cond.instanceMethod y_Wc_beginnings) ∈ gw := gw_tb (List.mem_of_getElem? (i := 112) rfl) rfl
theorem k_sel_Wc_beginnings : (Cond.selects R_Wc y_Wc_beginnings y_Wc_beginnings) ∈ gw := gw_tb (List.mem_of_getElem? (i := 113) rfl) rfl
theorem k_code_Wc_beginnings : (Cond.code y_Wc_beginnings b_Wc_beginnings 3 (some .int)) ∈ gw := gw_tb (List.mem_of_getElem? (i := 114) rfl) rfl
theorem k_cl_law_10 : (Cond.classLink R_law 10 R_Mo) ∈ gw := gw_tb (List.mem_of_getElem? (i := 115) rfl) rfl
theorem k_inst_Mo : (Cond.instantiable R_Mo 9) ∈ gw := gw_tb (List.mem_of_getElem? (i := 116) rfl) rfl
theorem k_ml_law_12 : (Cond.methodLink R_law 12 y_Mo_init) ∈ gw := gw_tb (List.mem_of_getElem? (i := 117) rfl) rfl
theorem k_im_Mo_init : (Cond.instanceMethod y_Mo_init) ∈ gw := gw_tb (List.mem_of_getElem? (i := 118) rfl) rfl
theorem k_code_Mo_init : (Cond.code y_Mo_init b_Mo_init 1 none) ∈ gw := gw_tb (List.mem_of_getElem? (i := 119) rfl) rfl
theorem k_ml_Mo_1 : (Cond.methodLink R_Mo 1 objectInit) ∈ gw := gw_tb (List.mem_of_getElem? (i := 120) rfl) rfl
theorem k_fl_Mo_7 : (Cond.fieldLink R_Mo 7 R_Mo "tape" "[I") ∈ gw := gw_tb (List.mem_of_getElem? (i := 121) rfl) rfl
theorem k_fl_Mo_13 : (Cond.fieldLink R_Mo 13 R_Mo "pattern" "[I") ∈ gw := gw_tb (List.mem_of_getElem? (i := 122) rfl) rfl
theorem k_fl_Mo_16 : (Cond.fieldLink R_Mo 16 R_Mo "word" "[I") ∈ gw := gw_tb (List.mem_of_getElem? (i := 123) rfl) rfl
theorem k_fl_Mo_23 : (Cond.fieldLink R_Mo 23 R_Mo "typed" "I") ∈ gw := gw_tb (List.mem_of_getElem? (i := 124) rfl) rfl
theorem k_fl_Mo_31 : (Cond.fieldLink R_Mo 31 R_Mo "size" "I") ∈ gw := gw_tb (List.mem_of_getElem? (i := 125) rfl) rfl
theorem k_fl_Mo_34 : (Cond.fieldLink R_Mo 34 R_Mo "length" "I") ∈ gw := gw_tb (List.mem_of_getElem? (i := 126) rfl) rfl
theorem k_fl_Mo_44 : (Cond.fieldLink R_Mo 44 R_Mo "end" "I") ∈ gw := gw_tb (List.mem_of_getElem? (i := 127) rfl) rfl
theorem k_fl_Mo_37 : (Cond.fieldLink R_Mo 37 R_Mo "told" "I") ∈ gw := gw_tb (List.mem_of_getElem? (i := 128) rfl) rfl
theorem k_fl_Mo_19 : (Cond.fieldLink R_Mo 19 R_Mo "fit" "[Z") ∈ gw := gw_tb (List.mem_of_getElem? (i := 129) rfl) rfl
theorem k_arr_int : (Cond.arrayClass .int) ∈ gw := gw_tb (List.mem_of_getElem? (i := 149) rfl) rfl
theorem k_arr_boolean : (Cond.arrayClass .boolean) ∈ gw := gw_tb (List.mem_of_getElem? (i := 150) rfl) rfl
theorem k_ml_law_17 : (Cond.methodLink R_law 17 y_Mo_feed) ∈ gw := gw_tb (List.mem_of_getElem? (i := 151) rfl) rfl
theorem k_im_Mo_feed : (Cond.instanceMethod y_Mo_feed) ∈ gw := gw_tb (List.mem_of_getElem? (i := 152) rfl) rfl
theorem k_sel_Mo_feed : (Cond.selects R_Mo y_Mo_feed y_Mo_feed) ∈ gw := gw_tb (List.mem_of_getElem? (i := 153) rfl) rfl
theorem k_code_Mo_feed : (Cond.code y_Mo_feed b_Mo_feed 6 (some .boolean)) ∈ gw := gw_tb (List.mem_of_getElem? (i := 154) rfl) rfl
theorem k_ml_Mo_27 : (Cond.methodLink R_Mo 27 y_Mo_put) ∈ gw := gw_tb (List.mem_of_getElem? (i := 155) rfl) rfl
theorem k_im_Mo_put : (Cond.instanceMethod y_Mo_put) ∈ gw := gw_tb (List.mem_of_getElem? (i := 157) rfl) rfl
theorem k_code_Mo_put : (Cond.code y_Mo_put b_Mo_put 3 none) ∈ gw := gw_tb (List.mem_of_getElem? (i := 158) rfl) rfl
theorem k_ml_law_22 : (Cond.methodLink R_law 22 y_Mo_end) ∈ gw := gw_tb (List.mem_of_getElem? (i := 159) rfl) rfl
theorem k_im_Mo_end : (Cond.instanceMethod y_Mo_end) ∈ gw := gw_tb (List.mem_of_getElem? (i := 160) rfl) rfl
theorem k_sel_Mo_end : (Cond.selects R_Mo y_Mo_end y_Mo_end) ∈ gw := gw_tb (List.mem_of_getElem? (i := 161) rfl) rfl
theorem k_code_Mo_end : (Cond.code y_Mo_end b_Mo_end 2 (some .boolean)) ∈ gw := gw_tb (List.mem_of_getElem? (i := 162) rfl) rfl
theorem k_ml_law_27 : (Cond.methodLink R_law 27 y_Mo_pattern) ∈ gw := gw_tb (List.mem_of_getElem? (i := 163) rfl) rfl
theorem k_im_Mo_pattern : (Cond.instanceMethod y_Mo_pattern) ∈ gw := gw_tb (List.mem_of_getElem? (i := 164) rfl) rfl
theorem k_sel_Mo_pattern : (Cond.selects R_Mo y_Mo_pattern y_Mo_pattern) ∈ gw := gw_tb (List.mem_of_getElem? (i := 165) rfl) rfl
theorem k_code_Mo_pattern : (Cond.code y_Mo_pattern b_Mo_pattern 2 (some .int)) ∈ gw := gw_tb (List.mem_of_getElem? (i := 166) rfl) rfl
theorem k_ml_law_31 : (Cond.methodLink R_law 31 y_Mo_word) ∈ gw := gw_tb (List.mem_of_getElem? (i := 167) rfl) rfl
theorem k_im_Mo_word : (Cond.instanceMethod y_Mo_word) ∈ gw := gw_tb (List.mem_of_getElem? (i := 168) rfl) rfl
theorem k_sel_Mo_word : (Cond.selects R_Mo y_Mo_word y_Mo_word) ∈ gw := gw_tb (List.mem_of_getElem? (i := 169) rfl) rfl
theorem k_code_Mo_word : (Cond.code y_Mo_word b_Mo_word 2 (some .int)) ∈ gw := gw_tb (List.mem_of_getElem? (i := 170) rfl) rfl
theorem k_ml_law_36 : (Cond.methodLink R_law 36 y_Mo_fits) ∈ gw := gw_tb (List.mem_of_getElem? (i := 171) rfl) rfl
theorem k_im_Mo_fits : (Cond.instanceMethod y_Mo_fits) ∈ gw := gw_tb (List.mem_of_getElem? (i := 172) rfl) rfl
theorem k_sel_Mo_fits : (Cond.selects R_Mo y_Mo_fits y_Mo_fits) ∈ gw := gw_tb (List.mem_of_getElem? (i := 173) rfl) rfl
theorem k_code_Mo_fits : (Cond.code y_Mo_fits b_Mo_fits 1 (some .boolean)) ∈ gw := gw_tb (List.mem_of_getElem? (i := 174) rfl) rfl
theorem k_ml_Mo_54 : (Cond.methodLink R_Mo 54 y_Mo_reckon) ∈ gw := gw_tb (List.mem_of_getElem? (i := 175) rfl) rfl
theorem k_im_Mo_reckon : (Cond.instanceMethod y_Mo_reckon) ∈ gw := gw_tb (List.mem_of_getElem? (i := 177) rfl) rfl
theorem k_code_Mo_reckon : (Cond.code y_Mo_reckon b_Mo_reckon 5 none) ∈ gw := gw_tb (List.mem_of_getElem? (i := 178) rfl) rfl
theorem k_ml_Mo_51 : (Cond.methodLink R_Mo 51 y_Mo_suits) ∈ gw := gw_tb (List.mem_of_getElem? (i := 179) rfl) rfl
theorem k_im_Mo_suits : (Cond.instanceMethod y_Mo_suits) ∈ gw := gw_tb (List.mem_of_getElem? (i := 181) rfl) rfl
theorem k_code_Mo_suits : (Cond.code y_Mo_suits b_Mo_suits 3 (some .boolean)) ∈ gw := gw_tb (List.mem_of_getElem? (i := 182) rfl) rfl
theorem k_ml_Mo_47 : (Cond.methodLink R_Mo 47 y_Mo_isOne) ∈ gw := gw_tb (List.mem_of_getElem? (i := 183) rfl) rfl
theorem k_im_Mo_isOne : (Cond.instanceMethod y_Mo_isOne) ∈ gw := gw_tb (List.mem_of_getElem? (i := 185) rfl) rfl
theorem k_code_Mo_isOne : (Cond.code y_Mo_isOne b_Mo_isOne 8 (some .boolean)) ∈ gw := gw_tb (List.mem_of_getElem? (i := 186) rfl) rfl
theorem k_ml_Mo_40 : (Cond.methodLink R_Mo 40 y_Mo_tells) ∈ gw := gw_tb (List.mem_of_getElem? (i := 187) rfl) rfl
theorem k_im_Mo_tells : (Cond.instanceMethod y_Mo_tells) ∈ gw := gw_tb (List.mem_of_getElem? (i := 189) rfl) rfl
theorem k_code_Mo_tells : (Cond.code y_Mo_tells b_Mo_tells 2 (some .int)) ∈ gw := gw_tb (List.mem_of_getElem? (i := 190) rfl) rfl
theorem k_ml_law_41 : (Cond.methodLink R_law 41 y_Mo_fitsPart) ∈ gw := gw_tb (List.mem_of_getElem? (i := 191) rfl) rfl
theorem k_im_Mo_fitsPart : (Cond.instanceMethod y_Mo_fitsPart) ∈ gw := gw_tb (List.mem_of_getElem? (i := 192) rfl) rfl
theorem k_sel_Mo_fitsPart : (Cond.selects R_Mo y_Mo_fitsPart y_Mo_fitsPart) ∈ gw := gw_tb (List.mem_of_getElem? (i := 193) rfl) rfl
theorem k_code_Mo_fitsPart : (Cond.code y_Mo_fitsPart b_Mo_fitsPart 3 (some .boolean)) ∈ gw := gw_tb (List.mem_of_getElem? (i := 194) rfl) rfl
theorem k_ml_law_45 : (Cond.methodLink R_law 45 y_Mo_beginnings) ∈ gw := gw_tb (List.mem_of_getElem? (i := 195) rfl) rfl
theorem k_im_Mo_beginnings : (Cond.instanceMethod y_Mo_beginnings) ∈ gw := gw_tb (List.mem_of_getElem? (i := 196) rfl) rfl
theorem k_sel_Mo_beginnings : (Cond.selects R_Mo y_Mo_beginnings y_Mo_beginnings) ∈ gw := gw_tb (List.mem_of_getElem? (i := 197) rfl) rfl
theorem k_code_Mo_beginnings : (Cond.code y_Mo_beginnings b_Mo_beginnings 3 (some .int)) ∈ gw := gw_tb (List.mem_of_getElem? (i := 198) rfl) rfl
theorem k_sel_Wc_isFit : (Cond.selects R_Wc y_Wc_isFit y_Wc_isFit) ∈ gw := gw_sel (List.mem_of_getElem? (i := 0) rfl) rfl
theorem k_sel_Pt_at : (Cond.selects R_Pt y_Pt_at y_Pt_at) ∈ gw := gw_sel (List.mem_of_getElem? (i := 1) rfl) rfl
theorem k_sel_Pt_takes : (Cond.selects R_Pt y_Pt_takes y_Pt_takes) ∈ gw := gw_sel (List.mem_of_getElem? (i := 2) rfl) rfl
theorem k_sel_Pt_plain : (Cond.selects R_Pt y_Pt_plain y_Pt_plain) ∈ gw := gw_sel (List.mem_of_getElem? (i := 3) rfl) rfl
theorem k_sel_Pt_next : (Cond.selects R_Pt y_Pt_next y_Pt_next) ∈ gw := gw_sel (List.mem_of_getElem? (i := 4) rfl) rfl
theorem k_sel_Pt_behind : (Cond.selects R_Pt y_Pt_behind y_Pt_behind) ∈ gw := gw_sel (List.mem_of_getElem? (i := 5) rfl) rfl
theorem k_sel_Mo_put : (Cond.selects R_Mo y_Mo_put y_Mo_put) ∈ gw := gw_sel (List.mem_of_getElem? (i := 6) rfl) rfl
theorem k_sel_Mo_reckon : (Cond.selects R_Mo y_Mo_reckon y_Mo_reckon) ∈ gw := gw_sel (List.mem_of_getElem? (i := 7) rfl) rfl
theorem k_sel_Mo_suits : (Cond.selects R_Mo y_Mo_suits y_Mo_suits) ∈ gw := gw_sel (List.mem_of_getElem? (i := 8) rfl) rfl
theorem k_sel_Mo_isOne : (Cond.selects R_Mo y_Mo_isOne y_Mo_isOne) ∈ gw := gw_sel (List.mem_of_getElem? (i := 9) rfl) rfl
theorem k_sel_Mo_tells : (Cond.selects R_Mo y_Mo_tells y_Mo_tells) ∈ gw := gw_sel (List.mem_of_getElem? (i := 10) rfl) rfl
theorem i_Pt : ∀ w ∈ u_ws R_Pt F_Pt 3, w ∈ gw := by
  intro w hw
  obtain ⟨j, hj, rfl⟩ := List.mem_map.mp hw
  have hj := List.mem_range.mp hj
  rcases (show j = 0 ∨ j = 1 ∨ j = 2 by omega) with rfl | rfl | rfl
  · exact gw_tb (List.mem_of_getElem? (i := 23) rfl) rfl
  · exact gw_tb (List.mem_of_getElem? (i := 25) rfl) rfl
  · exact gw_tb (List.mem_of_getElem? (i := 27) rfl) rfl
theorem i_Wc : ∀ w ∈ u_ws R_Wc F_Wc 7, w ∈ gw := by
  intro w hw
  obtain ⟨j, hj, rfl⟩ := List.mem_map.mp hw
  have hj := List.mem_range.mp hj
  rcases (show j = 0 ∨ j = 1 ∨ j = 2 ∨ j = 3 ∨ j = 4 ∨ j = 5 ∨ j = 6 by omega) with rfl | rfl | rfl | rfl | rfl | rfl | rfl
  · exact gw_tb (List.mem_of_getElem? (i := 38) rfl) rfl
  · exact gw_tb (List.mem_of_getElem? (i := 40) rfl) rfl
  · exact gw_tb (List.mem_of_getElem? (i := 42) rfl) rfl
  · exact gw_tb (List.mem_of_getElem? (i := 44) rfl) rfl
  · exact gw_tb (List.mem_of_getElem? (i := 46) rfl) rfl
  · exact gw_tb (List.mem_of_getElem? (i := 48) rfl) rfl
  · exact gw_tb (List.mem_of_getElem? (i := 50) rfl) rfl
theorem i_Mo : ∀ w ∈ u_ws R_Mo F_Mo 9, w ∈ gw := by
  intro w hw
  obtain ⟨j, hj, rfl⟩ := List.mem_map.mp hw
  have hj := List.mem_range.mp hj
  rcases (show j = 0 ∨ j = 1 ∨ j = 2 ∨ j = 3 ∨ j = 4 ∨ j = 5 ∨ j = 6 ∨ j = 7 ∨ j = 8 by omega) with rfl | rfl | rfl | rfl | rfl | rfl | rfl | rfl | rfl
  · exact gw_tb (List.mem_of_getElem? (i := 130) rfl) rfl
  · exact gw_tb (List.mem_of_getElem? (i := 132) rfl) rfl
  · exact gw_tb (List.mem_of_getElem? (i := 134) rfl) rfl
  · exact gw_tb (List.mem_of_getElem? (i := 136) rfl) rfl
  · exact gw_tb (List.mem_of_getElem? (i := 138) rfl) rfl
  · exact gw_tb (List.mem_of_getElem? (i := 140) rfl) rfl
  · exact gw_tb (List.mem_of_getElem? (i := 142) rfl) rfl
  · exact gw_tb (List.mem_of_getElem? (i := 144) rfl) rfl
  · exact gw_tb (List.mem_of_getElem? (i := 146) rfl) rfl
theorem g_law_13 : GoodIn gw (wsV R_law 13 R_Wc y_Wc_feed w_Wc_feed) := gw_goodV k_code_Wc_feed k_ml_law_13 k_im_Wc_feed k_sel_Wc_feed k_ini_Wc
theorem g_law_18 : GoodIn gw (wsV R_law 18 R_Wc y_Wc_end w_Wc_end) := gw_goodV k_code_Wc_end k_ml_law_18 k_im_Wc_end k_sel_Wc_end k_ini_Wc
theorem g_law_23 : GoodIn gw (wsV R_law 23 R_Wc y_Wc_pattern w_Wc_pattern) := gw_goodV k_code_Wc_pattern k_ml_law_23 k_im_Wc_pattern k_sel_Wc_pattern k_ini_Wc
theorem g_law_28 : GoodIn gw (wsV R_law 28 R_Wc y_Wc_word w_Wc_word) := gw_goodV k_code_Wc_word k_ml_law_28 k_im_Wc_word k_sel_Wc_word k_ini_Wc
theorem g_law_32 : GoodIn gw (wsV R_law 32 R_Wc y_Wc_fits w_Wc_fits) := gw_goodV k_code_Wc_fits k_ml_law_32 k_im_Wc_fits k_sel_Wc_fits k_ini_Wc
theorem g_Wc_46 : GoodIn gw (wsV R_Wc 46 R_Wc y_Wc_isFit w_Wc_isFit) := gw_goodV k_code_Wc_isFit k_ml_Wc_46 k_im_Wc_isFit k_sel_Wc_isFit k_ini_Wc
theorem g_Wc_42 : GoodIn gw (wsV R_Wc 42 R_Pt y_Pt_fits w_Pt_fits) := gw_goodV k_code_Pt_fits k_ml_Wc_42 k_im_Pt_fits k_sel_Pt_fits k_ini_Pt
theorem g_Pt_22 : GoodIn gw (wsV R_Pt 22 R_Pt y_Pt_at w_Pt_at) := gw_goodV k_code_Pt_at k_ml_Pt_22 k_im_Pt_at k_sel_Pt_at k_ini_Pt
theorem g_Pt_26 : GoodIn gw (wsV R_Pt 26 R_Pt y_Pt_takes w_Pt_takes) := gw_goodV k_code_Pt_takes k_ml_Pt_26 k_im_Pt_takes k_sel_Pt_takes k_ini_Pt
theorem g_Pt_42 : GoodIn gw (wsV R_Pt 42 R_Pt y_Pt_plain w_Pt_plain) := gw_goodV k_code_Pt_plain k_ml_Pt_42 k_im_Pt_plain k_sel_Pt_plain k_ini_Pt
theorem g_Pt_39 : GoodIn gw (wsV R_Pt 39 R_Pt y_Pt_next w_Pt_next) := gw_goodV k_code_Pt_next k_ml_Pt_39 k_im_Pt_next k_sel_Pt_next k_ini_Pt
theorem g_Pt_30 : GoodIn gw (wsV R_Pt 30 R_Pt y_Pt_behind w_Pt_behind) := gw_goodV k_code_Pt_behind k_ml_Pt_30 k_im_Pt_behind k_sel_Pt_behind k_ini_Pt
theorem g_law_37 : GoodIn gw (wsV R_law 37 R_Wc y_Wc_fitsPart w_Wc_fitsPart) := gw_goodV k_code_Wc_fitsPart k_ml_law_37 k_im_Wc_fitsPart k_sel_Wc_fitsPart k_ini_Wc
theorem g_law_42 : GoodIn gw (wsV R_law 42 R_Wc y_Wc_beginnings w_Wc_beginnings) := gw_goodV k_code_Wc_beginnings k_ml_law_42 k_im_Wc_beginnings k_sel_Wc_beginnings k_ini_Wc
theorem g_law_17 : GoodIn gw (wsV R_law 17 R_Mo y_Mo_feed w_Mo_feed) := gw_goodV k_code_Mo_feed k_ml_law_17 k_im_Mo_feed k_sel_Mo_feed k_ini_Mo
theorem g_Mo_27 : GoodIn gw (wsV R_Mo 27 R_Mo y_Mo_put w_Mo_put) := gw_goodV k_code_Mo_put k_ml_Mo_27 k_im_Mo_put k_sel_Mo_put k_ini_Mo
theorem g_law_22 : GoodIn gw (wsV R_law 22 R_Mo y_Mo_end w_Mo_end) := gw_goodV k_code_Mo_end k_ml_law_22 k_im_Mo_end k_sel_Mo_end k_ini_Mo
theorem g_law_27 : GoodIn gw (wsV R_law 27 R_Mo y_Mo_pattern w_Mo_pattern) := gw_goodV k_code_Mo_pattern k_ml_law_27 k_im_Mo_pattern k_sel_Mo_pattern k_ini_Mo
theorem g_law_31 : GoodIn gw (wsV R_law 31 R_Mo y_Mo_word w_Mo_word) := gw_goodV k_code_Mo_word k_ml_law_31 k_im_Mo_word k_sel_Mo_word k_ini_Mo
theorem g_law_36 : GoodIn gw (wsV R_law 36 R_Mo y_Mo_fits w_Mo_fits) := gw_goodV k_code_Mo_fits k_ml_law_36 k_im_Mo_fits k_sel_Mo_fits k_ini_Mo
theorem g_Mo_54 : GoodIn gw (wsV R_Mo 54 R_Mo y_Mo_reckon w_Mo_reckon) := gw_goodV k_code_Mo_reckon k_ml_Mo_54 k_im_Mo_reckon k_sel_Mo_reckon k_ini_Mo
theorem g_Mo_51 : GoodIn gw (wsV R_Mo 51 R_Mo y_Mo_suits w_Mo_suits) := gw_goodV k_code_Mo_suits k_ml_Mo_51 k_im_Mo_suits k_sel_Mo_suits k_ini_Mo
theorem g_Mo_47 : GoodIn gw (wsV R_Mo 47 R_Mo y_Mo_isOne w_Mo_isOne) := gw_goodV k_code_Mo_isOne k_ml_Mo_47 k_im_Mo_isOne k_sel_Mo_isOne k_ini_Mo
theorem g_Mo_40 : GoodIn gw (wsV R_Mo 40 R_Mo y_Mo_tells w_Mo_tells) := gw_goodV k_code_Mo_tells k_ml_Mo_40 k_im_Mo_tells k_sel_Mo_tells k_ini_Mo
theorem g_law_41 : GoodIn gw (wsV R_law 41 R_Mo y_Mo_fitsPart w_Mo_fitsPart) := gw_goodV k_code_Mo_fitsPart k_ml_law_41 k_im_Mo_fitsPart k_sel_Mo_fitsPart k_ini_Mo
theorem g_law_45 : GoodIn gw (wsV R_law 45 R_Mo y_Mo_beginnings w_Mo_beginnings) := gw_goodV k_code_Mo_beginnings k_ml_law_45 k_im_Mo_beginnings k_sel_Mo_beginnings k_ini_Mo
end
section
theorem d_Wc_init_0 : decode b_Wc_init 0 = .ok (.aload_n 0, 1) := by decide +kernel
theorem d_Wc_init_1 : decode b_Wc_init 1 = .ok (.invokespecial 1, 3) := by decide +kernel
theorem d_Wc_init_4 : decode b_Wc_init 4 = .ok (.aload_n 0, 1) := by decide +kernel
theorem d_Wc_init_5 : decode b_Wc_init 5 = .ok (.sipush 400, 3) := by decide +kernel
theorem d_Wc_init_8 : decode b_Wc_init 8 = .ok (.newarray .byte, 2) := by decide +kernel
theorem d_Wc_init_10 : decode b_Wc_init 10 = .ok (.putfield 9, 3) := by decide +kernel
theorem d_Wc_init_13 : decode b_Wc_init 13 = .ok (.aload_n 0, 1) := by decide +kernel
theorem d_Wc_init_14 : decode b_Wc_init 14 = .ok (.sipush 400, 3) := by decide +kernel
theorem d_Wc_init_17 : decode b_Wc_init 17 = .ok (.newarray .byte, 2) := by decide +kernel
theorem d_Wc_init_19 : decode b_Wc_init 19 = .ok (.putfield 13, 3) := by decide +kernel
theorem d_Wc_init_22 : decode b_Wc_init 22 = .ok (.aload_n 0, 1) := by decide +kernel
theorem d_Wc_init_23 : decode b_Wc_init 23 = .ok (.sipush 400, 3) := by decide +kernel
theorem d_Wc_init_26 : decode b_Wc_init 26 = .ok (.newarray .byte, 2) := by decide +kernel
theorem d_Wc_init_28 : decode b_Wc_init 28 = .ok (.putfield 16, 3) := by decide +kernel
theorem d_Wc_init_31 : decode b_Wc_init 31 = .ok (.aload_n 0, 1) := by decide +kernel
theorem d_Wc_init_32 : decode b_Wc_init 32 = .ok (.new 19, 3) := by decide +kernel
theorem d_Wc_init_35 : decode b_Wc_init 35 = .ok (.dup, 1) := by decide +kernel
theorem d_Wc_init_36 : decode b_Wc_init 36 = .ok (.invokespecial 21, 3) := by decide +kernel
theorem d_Wc_init_39 : decode b_Wc_init 39 = .ok (.putfield 22, 3) := by decide +kernel
theorem d_Wc_init_42 : decode b_Wc_init 42 = .ok (.return_, 1) := by decide +kernel
theorem d_Wc_feed_0 : decode b_Wc_feed 0 = .ok (.aload_n 0, 1) := by decide +kernel
theorem d_Wc_feed_1 : decode b_Wc_feed 1 = .ok (.getfield 26, 3) := by decide +kernel
theorem d_Wc_feed_4 : decode b_Wc_feed 4 = .ok (.bipush 20, 2) := by decide +kernel
theorem d_Wc_feed_6 : decode b_Wc_feed 6 = .ok (.iadd, 1) := by decide +kernel
theorem d_Wc_feed_7 : decode b_Wc_feed 7 = .ok (.sipush 400, 3) := by decide +kernel
theorem d_Wc_feed_10 : decode b_Wc_feed 10 = .ok (.if_icmp .le 5, 3) := by decide +kernel
theorem d_Wc_feed_13 : decode b_Wc_feed 13 = .ok (.iconst 0, 1) := by decide +kernel
theorem d_Wc_feed_14 : decode b_Wc_feed 14 = .ok (.ireturn, 1) := by decide +kernel
theorem d_Wc_feed_15 : decode b_Wc_feed 15 = .ok (.iconst 0, 1) := by decide +kernel
theorem d_Wc_feed_16 : decode b_Wc_feed 16 = .ok (.istore 6, 2) := by decide +kernel
theorem d_Wc_feed_18 : decode b_Wc_feed 18 = .ok (.iload 6, 2) := by decide +kernel
theorem d_Wc_feed_20 : decode b_Wc_feed 20 = .ok (.bipush 20, 2) := by decide +kernel
theorem d_Wc_feed_22 : decode b_Wc_feed 22 = .ok (.if_icmp .ge 90, 3) := by decide +kernel
theorem d_Wc_feed_25 : decode b_Wc_feed 25 = .ok (.iload 6, 2) := by decide +kernel
theorem d_Wc_feed_27 : decode b_Wc_feed 27 = .ok (.iconst 4, 1) := by decide +kernel
theorem d_Wc_feed_28 : decode b_Wc_feed 28 = .ok (.if_icmp .ge 7, 3) := by decide +kernel
theorem d_Wc_feed_31 : decode b_Wc_feed 31 = .ok (.iload_n 1, 1) := by decide +kernel
theorem d_Wc_feed_32 : decode b_Wc_feed 32 = .ok (.goto 39, 3) := by decide +kernel
theorem d_Wc_feed_35 : decode b_Wc_feed 35 = .ok (.iload 6, 2) := by decide +kernel
theorem d_Wc_feed_37 : decode b_Wc_feed 37 = .ok (.bipush 8, 2) := by decide +kernel
theorem d_Wc_feed_39 : decode b_Wc_feed 39 = .ok (.if_icmp .ge 7, 3) := by decide +kernel
theorem d_Wc_feed_42 : decode b_Wc_feed 42 = .ok (.iload_n 2, 1) := by decide +kernel
theorem d_Wc_feed_43 : decode b_Wc_feed 43 = .ok (.goto 28, 3) := by decide +kernel
theorem d_Wc_feed_46 : decode b_Wc_feed 46 = .ok (.iload 6, 2) := by decide +kernel
theorem d_Wc_feed_48 : decode b_Wc_feed 48 = .ok (.bipush 12, 2) := by decide +kernel
theorem d_Wc_feed_50 : decode b_Wc_feed 50 = .ok (.if_icmp .ge 7, 3) := by decide +kernel
theorem d_Wc_feed_53 : decode b_Wc_feed 53 = .ok (.iload_n 3, 1) := by decide +kernel
theorem d_Wc_feed_54 : decode b_Wc_feed 54 = .ok (.goto 17, 3) := by decide +kernel
theorem d_Wc_feed_57 : decode b_Wc_feed 57 = .ok (.iload 6, 2) := by decide +kernel
theorem d_Wc_feed_59 : decode b_Wc_feed 59 = .ok (.bipush 16, 2) := by decide +kernel
theorem d_Wc_feed_61 : decode b_Wc_feed 61 = .ok (.if_icmp .ge 8, 3) := by decide +kernel
theorem d_Wc_feed_64 : decode b_Wc_feed 64 = .ok (.iload 4, 2) := by decide +kernel
theorem d_Wc_feed_66 : decode b_Wc_feed 66 = .ok (.goto 5, 3) := by decide +kernel
theorem d_Wc_feed_69 : decode b_Wc_feed 69 = .ok (.iload 5, 2) := by decide +kernel
theorem d_Wc_feed_71 : decode b_Wc_feed 71 = .ok (.istore 7, 2) := by decide +kernel
theorem d_Wc_feed_73 : decode b_Wc_feed 73 = .ok (.aload_n 0, 1) := by decide +kernel
theorem d_Wc_feed_74 : decode b_Wc_feed 74 = .ok (.getfield 9, 3) := by decide +kernel
theorem d_Wc_feed_77 : decode b_Wc_feed 77 = .ok (.aload_n 0, 1) := by decide +kernel
theorem d_Wc_feed_78 : decode b_Wc_feed 78 = .ok (.getfield 26, 3) := by decide +kernel
theorem d_Wc_feed_81 : decode b_Wc_feed 81 = .ok (.iload 7, 2) := by decide +kernel
theorem d_Wc_feed_83 : decode b_Wc_feed 83 = .ok (.bipush 24, 2) := by decide +kernel
theorem d_Wc_feed_85 : decode b_Wc_feed 85 = .ok (.bipush 8, 2) := by decide +kernel
theorem d_Wc_feed_87 : decode b_Wc_feed 87 = .ok (.iload 6, 2) := by decide +kernel
theorem d_Wc_feed_89 : decode b_Wc_feed 89 = .ok (.iconst 4, 1) := by decide +kernel
theorem d_Wc_feed_90 : decode b_Wc_feed 90 = .ok (.irem, 1) := by decide +kernel
theorem d_Wc_feed_91 : decode b_Wc_feed 91 = .ok (.imul, 1) := by decide +kernel
theorem d_Wc_feed_92 : decode b_Wc_feed 92 = .ok (.isub, 1) := by decide +kernel
theorem d_Wc_feed_93 : decode b_Wc_feed 93 = .ok (.ishr, 1) := by decide +kernel
theorem d_Wc_feed_94 : decode b_Wc_feed 94 = .ok (.i2b, 1) := by decide +kernel
theorem d_Wc_feed_95 : decode b_Wc_feed 95 = .ok (.bastore, 1) := by decide +kernel
theorem d_Wc_feed_96 : decode b_Wc_feed 96 = .ok (.aload_n 0, 1) := by decide +kernel
theorem d_Wc_feed_97 : decode b_Wc_feed 97 = .ok (.dup, 1) := by decide +kernel
theorem d_Wc_feed_98 : decode b_Wc_feed 98 = .ok (.getfield 26, 3) := by decide +kernel
theorem d_Wc_feed_101 : decode b_Wc_feed 101 = .ok (.iconst 1, 1) := by decide +kernel
theorem d_Wc_feed_102 : decode b_Wc_feed 102 = .ok (.iadd, 1) := by decide +kernel
theorem d_Wc_feed_103 : decode b_Wc_feed 103 = .ok (.putfield 26, 3) := by decide +kernel
theorem d_Wc_feed_106 : decode b_Wc_feed 106 = .ok (.iinc 6 1, 3) := by decide +kernel
theorem d_Wc_feed_109 : decode b_Wc_feed 109 = .ok (.goto (-91), 3) := by decide +kernel
theorem d_Wc_feed_112 : decode b_Wc_feed 112 = .ok (.iconst 1, 1) := by decide +kernel
theorem d_Wc_feed_113 : decode b_Wc_feed 113 = .ok (.ireturn, 1) := by decide +kernel
theorem d_Wc_end_0 : decode b_Wc_end 0 = .ok (.iload_n 1, 1) := by decide +kernel
theorem d_Wc_end_1 : decode b_Wc_end 1 = .ok (.ifCond .lt 11, 3) := by decide +kernel
theorem d_Wc_end_4 : decode b_Wc_end 4 = .ok (.iload_n 1, 1) := by decide +kernel
theorem d_Wc_end_5 : decode b_Wc_end 5 = .ok (.aload_n 0, 1) := by decide +kernel
theorem d_Wc_end_6 : decode b_Wc_end 6 = .ok (.getfield 26, 3) := by decide +kernel
theorem d_Wc_end_9 : decode b_Wc_end 9 = .ok (.if_icmp .le 5, 3) := by decide +kernel
theorem d_Wc_end_12 : decode b_Wc_end 12 = .ok (.iconst 0, 1) := by decide +kernel
theorem d_Wc_end_13 : decode b_Wc_end 13 = .ok (.ireturn, 1) := by decide +kernel
theorem d_Wc_end_14 : decode b_Wc_end 14 = .ok (.aload_n 0, 1) := by decide +kernel
theorem d_Wc_end_15 : decode b_Wc_end 15 = .ok (.iload_n 1, 1) := by decide +kernel
theorem d_Wc_end_16 : decode b_Wc_end 16 = .ok (.putfield 26, 3) := by decide +kernel
theorem d_Wc_end_19 : decode b_Wc_end 19 = .ok (.iconst 1, 1) := by decide +kernel
theorem d_Wc_end_20 : decode b_Wc_end 20 = .ok (.ireturn, 1) := by decide +kernel
theorem d_Wc_pattern_0 : decode b_Wc_pattern 0 = .ok (.aload_n 0, 1) := by decide +kernel
theorem d_Wc_pattern_1 : decode b_Wc_pattern 1 = .ok (.aload_n 0, 1) := by decide +kernel
theorem d_Wc_pattern_2 : decode b_Wc_pattern 2 = .ok (.getfield 26, 3) := by decide +kernel
theorem d_Wc_pattern_5 : decode b_Wc_pattern 5 = .ok (.putfield 30, 3) := by decide +kernel
theorem d_Wc_pattern_8 : decode b_Wc_pattern 8 = .ok (.aload_n 0, 1) := by decide +kernel
theorem d_Wc_pattern_9 : decode b_Wc_pattern 9 = .ok (.getfield 9, 3) := by decide +kernel
theorem d_Wc_pattern_12 : decode b_Wc_pattern 12 = .ok (.iconst 0, 1) := by decide +kernel
theorem d_Wc_pattern_13 : decode b_Wc_pattern 13 = .ok (.aload_n 0, 1) := by decide +kernel
theorem d_Wc_pattern_14 : decode b_Wc_pattern 14 = .ok (.getfield 13, 3) := by decide +kernel
theorem d_Wc_pattern_17 : decode b_Wc_pattern 17 = .ok (.iconst 0, 1) := by decide +kernel
theorem d_Wc_pattern_18 : decode b_Wc_pattern 18 = .ok (.aload_n 0, 1) := by decide +kernel
theorem d_Wc_pattern_19 : decode b_Wc_pattern 19 = .ok (.getfield 26, 3) := by decide +kernel
theorem d_Wc_pattern_22 : decode b_Wc_pattern 22 = .ok (.invokestatic 33, 3) := by decide +kernel
theorem d_Wc_pattern_25 : decode b_Wc_pattern 25 = .ok (.aload_n 0, 1) := by decide +kernel
theorem d_Wc_pattern_26 : decode b_Wc_pattern 26 = .ok (.iconst 0, 1) := by decide +kernel
theorem d_Wc_pattern_27 : decode b_Wc_pattern 27 = .ok (.putfield 26, 3) := by decide +kernel
theorem d_Wc_pattern_30 : decode b_Wc_pattern 30 = .ok (.aload_n 0, 1) := by decide +kernel
theorem d_Wc_pattern_31 : decode b_Wc_pattern 31 = .ok (.getfield 30, 3) := by decide +kernel
theorem d_Wc_pattern_34 : decode b_Wc_pattern 34 = .ok (.ireturn, 1) := by decide +kernel
theorem d_Wc_word_0 : decode b_Wc_word 0 = .ok (.aload_n 0, 1) := by decide +kernel
theorem d_Wc_word_1 : decode b_Wc_word 1 = .ok (.aload_n 0, 1) := by decide +kernel
theorem d_Wc_word_2 : decode b_Wc_word 2 = .ok (.getfield 26, 3) := by decide +kernel
theorem d_Wc_word_5 : decode b_Wc_word 5 = .ok (.putfield 39, 3) := by decide +kernel
theorem d_Wc_word_8 : decode b_Wc_word 8 = .ok (.aload_n 0, 1) := by decide +kernel
theorem d_Wc_word_9 : decode b_Wc_word 9 = .ok (.getfield 9, 3) := by decide +kernel
theorem d_Wc_word_12 : decode b_Wc_word 12 = .ok (.iconst 0, 1) := by decide +kernel
theorem d_Wc_word_13 : decode b_Wc_word 13 = .ok (.aload_n 0, 1) := by decide +kernel
theorem d_Wc_word_14 : decode b_Wc_word 14 = .ok (.getfield 16, 3) := by decide +kernel
theorem d_Wc_word_17 : decode b_Wc_word 17 = .ok (.iconst 0, 1) := by decide +kernel
theorem d_Wc_word_18 : decode b_Wc_word 18 = .ok (.aload_n 0, 1) := by decide +kernel
theorem d_Wc_word_19 : decode b_Wc_word 19 = .ok (.getfield 26, 3) := by decide +kernel
theorem d_Wc_word_22 : decode b_Wc_word 22 = .ok (.invokestatic 33, 3) := by decide +kernel
theorem d_Wc_word_25 : decode b_Wc_word 25 = .ok (.aload_n 0, 1) := by decide +kernel
theorem d_Wc_word_26 : decode b_Wc_word 26 = .ok (.iconst 0, 1) := by decide +kernel
theorem d_Wc_word_27 : decode b_Wc_word 27 = .ok (.putfield 26, 3) := by decide +kernel
theorem d_Wc_word_30 : decode b_Wc_word 30 = .ok (.aload_n 0, 1) := by decide +kernel
theorem d_Wc_word_31 : decode b_Wc_word 31 = .ok (.getfield 39, 3) := by decide +kernel
theorem d_Wc_word_34 : decode b_Wc_word 34 = .ok (.ireturn, 1) := by decide +kernel
theorem d_Wc_isFit_0 : decode b_Wc_isFit 0 = .ok (.aload_n 0, 1) := by decide +kernel
theorem d_Wc_isFit_1 : decode b_Wc_isFit 1 = .ok (.getfield 22, 3) := by decide +kernel
theorem d_Wc_isFit_4 : decode b_Wc_isFit 4 = .ok (.aload_n 0, 1) := by decide +kernel
theorem d_Wc_isFit_5 : decode b_Wc_isFit 5 = .ok (.getfield 13, 3) := by decide +kernel
theorem d_Wc_isFit_8 : decode b_Wc_isFit 8 = .ok (.iconst 0, 1) := by decide +kernel
theorem d_Wc_isFit_9 : decode b_Wc_isFit 9 = .ok (.aload_n 0, 1) := by decide +kernel
theorem d_Wc_isFit_10 : decode b_Wc_isFit 10 = .ok (.getfield 30, 3) := by decide +kernel
theorem d_Wc_isFit_13 : decode b_Wc_isFit 13 = .ok (.aload_n 0, 1) := by decide +kernel
theorem d_Wc_isFit_14 : decode b_Wc_isFit 14 = .ok (.getfield 16, 3) := by decide +kernel
theorem d_Wc_isFit_17 : decode b_Wc_isFit 17 = .ok (.iload_n 1, 1) := by decide +kernel
theorem d_Wc_isFit_18 : decode b_Wc_isFit 18 = .ok (.iload_n 2, 1) := by decide +kernel
theorem d_Wc_isFit_19 : decode b_Wc_isFit 19 = .ok (.invokevirtual 42, 3) := by decide +kernel
theorem d_Wc_isFit_22 : decode b_Wc_isFit 22 = .ok (.ireturn, 1) := by decide +kernel
theorem d_Wc_fits_0 : decode b_Wc_fits 0 = .ok (.aload_n 0, 1) := by decide +kernel
theorem d_Wc_fits_1 : decode b_Wc_fits 1 = .ok (.iconst 0, 1) := by decide +kernel
theorem d_Wc_fits_2 : decode b_Wc_fits 2 = .ok (.aload_n 0, 1) := by decide +kernel
theorem d_Wc_fits_3 : decode b_Wc_fits 3 = .ok (.getfield 39, 3) := by decide +kernel
theorem d_Wc_fits_6 : decode b_Wc_fits 6 = .ok (.invokevirtual 46, 3) := by decide +kernel
theorem d_Wc_fits_9 : decode b_Wc_fits 9 = .ok (.ireturn, 1) := by decide +kernel
theorem d_Wc_fitsPart_0 : decode b_Wc_fitsPart 0 = .ok (.iload_n 1, 1) := by decide +kernel
theorem d_Wc_fitsPart_1 : decode b_Wc_fitsPart 1 = .ok (.ifCond .lt 38, 3) := by decide +kernel
theorem d_Wc_fitsPart_4 : decode b_Wc_fitsPart 4 = .ok (.iload_n 2, 1) := by decide +kernel
theorem d_Wc_fitsPart_5 : decode b_Wc_fitsPart 5 = .ok (.ifCond .lt 34, 3) := by decide +kernel
theorem d_Wc_fitsPart_8 : decode b_Wc_fitsPart 8 = .ok (.iload_n 2, 1) := by decide +kernel
theorem d_Wc_fitsPart_9 : decode b_Wc_fitsPart 9 = .ok (.aload_n 0, 1) := by decide +kernel
theorem d_Wc_fitsPart_10 : decode b_Wc_fitsPart 10 = .ok (.getfield 39, 3) := by decide +kernel
theorem d_Wc_fitsPart_13 : decode b_Wc_fitsPart 13 = .ok (.if_icmp .gt 26, 3) := by decide +kernel
theorem d_Wc_fitsPart_16 : decode b_Wc_fitsPart 16 = .ok (.iload_n 1, 1) := by decide +kernel
theorem d_Wc_fitsPart_17 : decode b_Wc_fitsPart 17 = .ok (.aload_n 0, 1) := by decide +kernel
theorem d_Wc_fitsPart_18 : decode b_Wc_fitsPart 18 = .ok (.getfield 39, 3) := by decide +kernel
theorem d_Wc_fitsPart_21 : decode b_Wc_fitsPart 21 = .ok (.iload_n 2, 1) := by decide +kernel
theorem d_Wc_fitsPart_22 : decode b_Wc_fitsPart 22 = .ok (.isub, 1) := by decide +kernel
theorem d_Wc_fitsPart_23 : decode b_Wc_fitsPart 23 = .ok (.if_icmp .gt 16, 3) := by decide +kernel
theorem d_Wc_fitsPart_26 : decode b_Wc_fitsPart 26 = .ok (.aload_n 0, 1) := by decide +kernel
theorem d_Wc_fitsPart_27 : decode b_Wc_fitsPart 27 = .ok (.iload_n 1, 1) := by decide +kernel
theorem d_Wc_fitsPart_28 : decode b_Wc_fitsPart 28 = .ok (.iload_n 2, 1) := by decide +kernel
theorem d_Wc_fitsPart_29 : decode b_Wc_fitsPart 29 = .ok (.invokevirtual 46, 3) := by decide +kernel
theorem d_Wc_fitsPart_32 : decode b_Wc_fitsPart 32 = .ok (.ifCond .eq 7, 3) := by decide +kernel
theorem d_Wc_fitsPart_35 : decode b_Wc_fitsPart 35 = .ok (.iconst 1, 1) := by decide +kernel
theorem d_Wc_fitsPart_36 : decode b_Wc_fitsPart 36 = .ok (.goto 4, 3) := by decide +kernel
theorem d_Wc_fitsPart_39 : decode b_Wc_fitsPart 39 = .ok (.iconst 0, 1) := by decide +kernel
theorem d_Wc_fitsPart_40 : decode b_Wc_fitsPart 40 = .ok (.ireturn, 1) := by decide +kernel
theorem d_Wc_beginnings_0 : decode b_Wc_beginnings 0 = .ok (.iconst 0, 1) := by decide +kernel
theorem d_Wc_beginnings_1 : decode b_Wc_beginnings 1 = .ok (.istore_n 1, 1) := by decide +kernel
theorem d_Wc_beginnings_2 : decode b_Wc_beginnings 2 = .ok (.iconst 0, 1) := by decide +kernel
theorem d_Wc_beginnings_3 : decode b_Wc_beginnings 3 = .ok (.istore_n 2, 1) := by decide +kernel
theorem d_Wc_beginnings_4 : decode b_Wc_beginnings 4 = .ok (.iload_n 2, 1) := by decide +kernel
theorem d_Wc_beginnings_5 : decode b_Wc_beginnings 5 = .ok (.aload_n 0, 1) := by decide +kernel
theorem d_Wc_beginnings_6 : decode b_Wc_beginnings 6 = .ok (.getfield 39, 3) := by decide +kernel
theorem d_Wc_beginnings_9 : decode b_Wc_beginnings 9 = .ok (.if_icmp .gt 26, 3) := by decide +kernel
theorem d_Wc_beginnings_12 : decode b_Wc_beginnings 12 = .ok (.iload_n 1, 1) := by decide +kernel
theorem d_Wc_beginnings_13 : decode b_Wc_beginnings 13 = .ok (.aload_n 0, 1) := by decide +kernel
theorem d_Wc_beginnings_14 : decode b_Wc_beginnings 14 = .ok (.iconst 0, 1) := by decide +kernel
theorem d_Wc_beginnings_15 : decode b_Wc_beginnings 15 = .ok (.iload_n 2, 1) := by decide +kernel
theorem d_Wc_beginnings_16 : decode b_Wc_beginnings 16 = .ok (.invokevirtual 46, 3) := by decide +kernel
theorem d_Wc_beginnings_19 : decode b_Wc_beginnings 19 = .ok (.ifCond .eq 7, 3) := by decide +kernel
theorem d_Wc_beginnings_22 : decode b_Wc_beginnings 22 = .ok (.iconst 1, 1) := by decide +kernel
theorem d_Wc_beginnings_23 : decode b_Wc_beginnings 23 = .ok (.goto 4, 3) := by decide +kernel
theorem d_Wc_beginnings_26 : decode b_Wc_beginnings 26 = .ok (.iconst 0, 1) := by decide +kernel
theorem d_Wc_beginnings_27 : decode b_Wc_beginnings 27 = .ok (.iadd, 1) := by decide +kernel
theorem d_Wc_beginnings_28 : decode b_Wc_beginnings 28 = .ok (.istore_n 1, 1) := by decide +kernel
theorem d_Wc_beginnings_29 : decode b_Wc_beginnings 29 = .ok (.iinc 2 1, 3) := by decide +kernel
theorem d_Wc_beginnings_32 : decode b_Wc_beginnings 32 = .ok (.goto (-28), 3) := by decide +kernel
theorem d_Wc_beginnings_35 : decode b_Wc_beginnings 35 = .ok (.iload_n 1, 1) := by decide +kernel
theorem d_Wc_beginnings_36 : decode b_Wc_beginnings 36 = .ok (.ireturn, 1) := by decide +kernel
theorem d_Pt_init_0 : decode b_Pt_init 0 = .ok (.aload_n 0, 1) := by decide +kernel
theorem d_Pt_init_1 : decode b_Pt_init 1 = .ok (.invokespecial 3, 3) := by decide +kernel
theorem d_Pt_init_4 : decode b_Pt_init 4 = .ok (.return_, 1) := by decide +kernel
theorem d_Pt_at_0 : decode b_Pt_at 0 = .ok (.iload_n 1, 1) := by decide +kernel
theorem d_Pt_at_1 : decode b_Pt_at 1 = .ok (.aload_n 0, 1) := by decide +kernel
theorem d_Pt_at_2 : decode b_Pt_at 2 = .ok (.getfield 9, 3) := by decide +kernel
theorem d_Pt_at_5 : decode b_Pt_at 5 = .ok (.if_icmp .ge 21, 3) := by decide +kernel
theorem d_Pt_at_8 : decode b_Pt_at 8 = .ok (.aload_n 0, 1) := by decide +kernel
theorem d_Pt_at_9 : decode b_Pt_at 9 = .ok (.getfield 15, 3) := by decide +kernel
theorem d_Pt_at_12 : decode b_Pt_at 12 = .ok (.aload_n 0, 1) := by decide +kernel
theorem d_Pt_at_13 : decode b_Pt_at 13 = .ok (.getfield 19, 3) := by decide +kernel
theorem d_Pt_at_16 : decode b_Pt_at 16 = .ok (.iload_n 1, 1) := by decide +kernel
theorem d_Pt_at_17 : decode b_Pt_at 17 = .ok (.iadd, 1) := by decide +kernel
theorem d_Pt_at_18 : decode b_Pt_at 18 = .ok (.baload, 1) := by decide +kernel
theorem d_Pt_at_19 : decode b_Pt_at 19 = .ok (.sipush 255, 3) := by decide +kernel
theorem d_Pt_at_22 : decode b_Pt_at 22 = .ok (.iand, 1) := by decide +kernel
theorem d_Pt_at_23 : decode b_Pt_at 23 = .ok (.goto 4, 3) := by decide +kernel
theorem d_Pt_at_26 : decode b_Pt_at 26 = .ok (.iconst (-1), 1) := by decide +kernel
theorem d_Pt_at_27 : decode b_Pt_at 27 = .ok (.ireturn, 1) := by decide +kernel
theorem d_Pt_fits_0 : decode b_Pt_fits 0 = .ok (.aload_n 0, 1) := by decide +kernel
theorem d_Pt_fits_1 : decode b_Pt_fits 1 = .ok (.aload_n 1, 1) := by decide +kernel
theorem d_Pt_fits_2 : decode b_Pt_fits 2 = .ok (.putfield 15, 3) := by decide +kernel
theorem d_Pt_fits_5 : decode b_Pt_fits 5 = .ok (.aload_n 0, 1) := by decide +kernel
theorem d_Pt_fits_6 : decode b_Pt_fits 6 = .ok (.iload_n 2, 1) := by decide +kernel
theorem d_Pt_fits_7 : decode b_Pt_fits 7 = .ok (.putfield 19, 3) := by decide +kernel
theorem d_Pt_fits_10 : decode b_Pt_fits 10 = .ok (.aload_n 0, 1) := by decide +kernel
theorem d_Pt_fits_11 : decode b_Pt_fits 11 = .ok (.iload_n 3, 1) := by decide +kernel
theorem d_Pt_fits_12 : decode b_Pt_fits 12 = .ok (.putfield 9, 3) := by decide +kernel
theorem d_Pt_fits_15 : decode b_Pt_fits 15 = .ok (.iconst 0, 1) := by decide +kernel
theorem d_Pt_fits_16 : decode b_Pt_fits 16 = .ok (.istore 7, 2) := by decide +kernel
theorem d_Pt_fits_18 : decode b_Pt_fits 18 = .ok (.iconst 0, 1) := by decide +kernel
theorem d_Pt_fits_19 : decode b_Pt_fits 19 = .ok (.istore 8, 2) := by decide +kernel
theorem d_Pt_fits_21 : decode b_Pt_fits 21 = .ok (.iconst (-1), 1) := by decide +kernel
theorem d_Pt_fits_22 : decode b_Pt_fits 22 = .ok (.istore 9, 2) := by decide +kernel
theorem d_Pt_fits_24 : decode b_Pt_fits 24 = .ok (.iconst 0, 1) := by decide +kernel
theorem d_Pt_fits_25 : decode b_Pt_fits 25 = .ok (.istore 10, 2) := by decide +kernel
theorem d_Pt_fits_27 : decode b_Pt_fits 27 = .ok (.aload_n 0, 1) := by decide +kernel
theorem d_Pt_fits_28 : decode b_Pt_fits 28 = .ok (.iload 7, 2) := by decide +kernel
theorem d_Pt_fits_30 : decode b_Pt_fits 30 = .ok (.invokevirtual 22, 3) := by decide +kernel
theorem d_Pt_fits_33 : decode b_Pt_fits 33 = .ok (.bipush 42, 2) := by decide +kernel
theorem d_Pt_fits_35 : decode b_Pt_fits 35 = .ok (.if_icmp .ne 17, 3) := by decide +kernel
theorem d_Pt_fits_38 : decode b_Pt_fits 38 = .ok (.iload 7, 2) := by decide +kernel
theorem d_Pt_fits_40 : decode b_Pt_fits 40 = .ok (.istore 9, 2) := by decide +kernel
theorem d_Pt_fits_42 : decode b_Pt_fits 42 = .ok (.iload 8, 2) := by decide +kernel
theorem d_Pt_fits_44 : decode b_Pt_fits 44 = .ok (.istore 10, 2) := by decide +kernel
theorem d_Pt_fits_46 : decode b_Pt_fits 46 = .ok (.iinc 7 1, 3) := by decide +kernel
theorem d_Pt_fits_49 : decode b_Pt_fits 49 = .ok (.goto (-22), 3) := by decide +kernel
theorem d_Pt_fits_52 : decode b_Pt_fits 52 = .ok (.iload 8, 2) := by decide +kernel
theorem d_Pt_fits_54 : decode b_Pt_fits 54 = .ok (.iload 6, 2) := by decide +kernel
theorem d_Pt_fits_56 : decode b_Pt_fits 56 = .ok (.if_icmp .ge 47, 3) := by decide +kernel
theorem d_Pt_fits_59 : decode b_Pt_fits 59 = .ok (.iload 7, 2) := by decide +kernel
theorem d_Pt_fits_61 : decode b_Pt_fits 61 = .ok (.aload_n 0, 1) := by decide +kernel
theorem d_Pt_fits_62 : decode b_Pt_fits 62 = .ok (.getfield 9, 3) := by decide +kernel
theorem d_Pt_fits_65 : decode b_Pt_fits 65 = .ok (.if_icmp .ge 38, 3) := by decide +kernel
theorem d_Pt_fits_68 : decode b_Pt_fits 68 = .ok (.aload_n 0, 1) := by decide +kernel
theorem d_Pt_fits_69 : decode b_Pt_fits 69 = .ok (.iload 7, 2) := by decide +kernel
theorem d_Pt_fits_71 : decode b_Pt_fits 71 = .ok (.aload 4, 2) := by decide +kernel
theorem d_Pt_fits_73 : decode b_Pt_fits 73 = .ok (.iload 5, 2) := by decide +kernel
theorem d_Pt_fits_75 : decode b_Pt_fits 75 = .ok (.iload 8, 2) := by decide +kernel
theorem d_Pt_fits_77 : decode b_Pt_fits 77 = .ok (.iadd, 1) := by decide +kernel
theorem d_Pt_fits_78 : decode b_Pt_fits 78 = .ok (.baload, 1) := by decide +kernel
theorem d_Pt_fits_79 : decode b_Pt_fits 79 = .ok (.sipush 255, 3) := by decide +kernel
theorem d_Pt_fits_82 : decode b_Pt_fits 82 = .ok (.iand, 1) := by decide +kernel
theorem d_Pt_fits_83 : decode b_Pt_fits 83 = .ok (.invokevirtual 26, 3) := by decide +kernel
theorem d_Pt_fits_86 : decode b_Pt_fits 86 = .ok (.ifCond .eq 17, 3) := by decide +kernel
theorem d_Pt_fits_89 : decode b_Pt_fits 89 = .ok (.aload_n 0, 1) := by decide +kernel
theorem d_Pt_fits_90 : decode b_Pt_fits 90 = .ok (.iload 7, 2) := by decide +kernel
theorem d_Pt_fits_92 : decode b_Pt_fits 92 = .ok (.invokevirtual 30, 3) := by decide +kernel
theorem d_Pt_fits_95 : decode b_Pt_fits 95 = .ok (.istore 7, 2) := by decide +kernel
theorem d_Pt_fits_97 : decode b_Pt_fits 97 = .ok (.iinc 8 1, 3) := by decide +kernel
theorem d_Pt_fits_100 : decode b_Pt_fits 100 = .ok (.goto (-73), 3) := by decide +kernel
theorem d_Pt_fits_103 : decode b_Pt_fits 103 = .ok (.iload 8, 2) := by decide +kernel
theorem d_Pt_fits_105 : decode b_Pt_fits 105 = .ok (.iload 6, 2) := by decide +kernel
theorem d_Pt_fits_107 : decode b_Pt_fits 107 = .ok (.if_icmp .ne 14, 3) := by decide +kernel
theorem d_Pt_fits_110 : decode b_Pt_fits 110 = .ok (.iload 7, 2) := by decide +kernel
theorem d_Pt_fits_112 : decode b_Pt_fits 112 = .ok (.aload_n 0, 1) := by decide +kernel
theorem d_Pt_fits_113 : decode b_Pt_fits 113 = .ok (.getfield 9, 3) := by decide +kernel
theorem d_Pt_fits_116 : decode b_Pt_fits 116 = .ok (.if_icmp .ne 5, 3) := by decide +kernel
theorem d_Pt_fits_119 : decode b_Pt_fits 119 = .ok (.iconst 1, 1) := by decide +kernel
theorem d_Pt_fits_120 : decode b_Pt_fits 120 = .ok (.ireturn, 1) := by decide +kernel
theorem d_Pt_fits_121 : decode b_Pt_fits 121 = .ok (.iload 9, 2) := by decide +kernel
theorem d_Pt_fits_123 : decode b_Pt_fits 123 = .ok (.ifCond .lt 26, 3) := by decide +kernel
theorem d_Pt_fits_126 : decode b_Pt_fits 126 = .ok (.iload 10, 2) := by decide +kernel
theorem d_Pt_fits_128 : decode b_Pt_fits 128 = .ok (.iload 6, 2) := by decide +kernel
theorem d_Pt_fits_130 : decode b_Pt_fits 130 = .ok (.if_icmp .ge 19, 3) := by decide +kernel
theorem d_Pt_fits_133 : decode b_Pt_fits 133 = .ok (.iinc 10 1, 3) := by decide +kernel
theorem d_Pt_fits_136 : decode b_Pt_fits 136 = .ok (.iload 10, 2) := by decide +kernel
theorem d_Pt_fits_138 : decode b_Pt_fits 138 = .ok (.istore 8, 2) := by decide +kernel
theorem d_Pt_fits_140 : decode b_Pt_fits 140 = .ok (.iload 9, 2) := by decide +kernel
theorem d_Pt_fits_142 : decode b_Pt_fits 142 = .ok (.iconst 1, 1) := by decide +kernel
theorem d_Pt_fits_143 : decode b_Pt_fits 143 = .ok (.iadd, 1) := by decide +kernel
theorem d_Pt_fits_144 : decode b_Pt_fits 144 = .ok (.istore 7, 2) := by decide +kernel
theorem d_Pt_fits_146 : decode b_Pt_fits 146 = .ok (.goto (-119), 3) := by decide +kernel
theorem d_Pt_fits_149 : decode b_Pt_fits 149 = .ok (.iconst 0, 1) := by decide +kernel
theorem d_Pt_fits_150 : decode b_Pt_fits 150 = .ok (.ireturn, 1) := by decide +kernel
theorem d_Pt_behind_0 : decode b_Pt_behind 0 = .ok (.aload_n 0, 1) := by decide +kernel
theorem d_Pt_behind_1 : decode b_Pt_behind 1 = .ok (.iload_n 1, 1) := by decide +kernel
theorem d_Pt_behind_2 : decode b_Pt_behind 2 = .ok (.invokevirtual 22, 3) := by decide +kernel
theorem d_Pt_behind_5 : decode b_Pt_behind 5 = .ok (.bipush 92, 2) := by decide +kernel
theorem d_Pt_behind_7 : decode b_Pt_behind 7 = .ok (.if_icmp .ne 14, 3) := by decide +kernel
theorem d_Pt_behind_10 : decode b_Pt_behind 10 = .ok (.iload_n 1, 1) := by decide +kernel
theorem d_Pt_behind_11 : decode b_Pt_behind 11 = .ok (.iconst 2, 1) := by decide +kernel
theorem d_Pt_behind_12 : decode b_Pt_behind 12 = .ok (.iadd, 1) := by decide +kernel
theorem d_Pt_behind_13 : decode b_Pt_behind 13 = .ok (.aload_n 0, 1) := by decide +kernel
theorem d_Pt_behind_14 : decode b_Pt_behind 14 = .ok (.getfield 9, 3) := by decide +kernel
theorem d_Pt_behind_17 : decode b_Pt_behind 17 = .ok (.invokestatic 33, 3) := by decide +kernel
theorem d_Pt_behind_20 : decode b_Pt_behind 20 = .ok (.ireturn, 1) := by decide +kernel
theorem d_Pt_behind_21 : decode b_Pt_behind 21 = .ok (.aload_n 0, 1) := by decide +kernel
theorem d_Pt_behind_22 : decode b_Pt_behind 22 = .ok (.iload_n 1, 1) := by decide +kernel
theorem d_Pt_behind_23 : decode b_Pt_behind 23 = .ok (.invokevirtual 22, 3) := by decide +kernel
theorem d_Pt_behind_26 : decode b_Pt_behind 26 = .ok (.bipush 91, 2) := by decide +kernel
theorem d_Pt_behind_28 : decode b_Pt_behind 28 = .ok (.if_icmp .eq 7, 3) := by decide +kernel
theorem d_Pt_behind_31 : decode b_Pt_behind 31 = .ok (.iload_n 1, 1) := by decide +kernel
theorem d_Pt_behind_32 : decode b_Pt_behind 32 = .ok (.iconst 1, 1) := by decide +kernel
theorem d_Pt_behind_33 : decode b_Pt_behind 33 = .ok (.iadd, 1) := by decide +kernel
theorem d_Pt_behind_34 : decode b_Pt_behind 34 = .ok (.ireturn, 1) := by decide +kernel
theorem d_Pt_behind_35 : decode b_Pt_behind 35 = .ok (.aload_n 0, 1) := by decide +kernel
theorem d_Pt_behind_36 : decode b_Pt_behind 36 = .ok (.iload_n 1, 1) := by decide +kernel
theorem d_Pt_behind_37 : decode b_Pt_behind 37 = .ok (.iconst 1, 1) := by decide +kernel
theorem d_Pt_behind_38 : decode b_Pt_behind 38 = .ok (.iadd, 1) := by decide +kernel
theorem d_Pt_behind_39 : decode b_Pt_behind 39 = .ok (.invokevirtual 22, 3) := by decide +kernel
theorem d_Pt_behind_42 : decode b_Pt_behind 42 = .ok (.bipush 94, 2) := by decide +kernel
theorem d_Pt_behind_44 : decode b_Pt_behind 44 = .ok (.if_icmp .ne 9, 3) := by decide +kernel
theorem d_Pt_behind_47 : decode b_Pt_behind 47 = .ok (.iload_n 1, 1) := by decide +kernel
theorem d_Pt_behind_48 : decode b_Pt_behind 48 = .ok (.iconst 2, 1) := by decide +kernel
theorem d_Pt_behind_49 : decode b_Pt_behind 49 = .ok (.iadd, 1) := by decide +kernel
theorem d_Pt_behind_50 : decode b_Pt_behind 50 = .ok (.goto 6, 3) := by decide +kernel
theorem d_Pt_behind_53 : decode b_Pt_behind 53 = .ok (.iload_n 1, 1) := by decide +kernel
theorem d_Pt_behind_54 : decode b_Pt_behind 54 = .ok (.iconst 1, 1) := by decide +kernel
theorem d_Pt_behind_55 : decode b_Pt_behind 55 = .ok (.iadd, 1) := by decide +kernel
theorem d_Pt_behind_56 : decode b_Pt_behind 56 = .ok (.istore_n 2, 1) := by decide +kernel
theorem d_Pt_behind_57 : decode b_Pt_behind 57 = .ok (.iload_n 2, 1) := by decide +kernel
theorem d_Pt_behind_58 : decode b_Pt_behind 58 = .ok (.aload_n 0, 1) := by decide +kernel
theorem d_Pt_behind_59 : decode b_Pt_behind 59 = .ok (.getfield 9, 3) := by decide +kernel
theorem d_Pt_behind_62 : decode b_Pt_behind 62 = .ok (.if_icmp .ge 22, 3) := by decide +kernel
theorem d_Pt_behind_65 : decode b_Pt_behind 65 = .ok (.aload_n 0, 1) := by decide +kernel
theorem d_Pt_behind_66 : decode b_Pt_behind 66 = .ok (.iload_n 2, 1) := by decide +kernel
theorem d_Pt_behind_67 : decode b_Pt_behind 67 = .ok (.invokevirtual 22, 3) := by decide +kernel
theorem d_Pt_behind_70 : decode b_Pt_behind 70 = .ok (.bipush 93, 2) := by decide +kernel
theorem d_Pt_behind_72 : decode b_Pt_behind 72 = .ok (.if_icmp .eq 12, 3) := by decide +kernel
theorem d_Pt_behind_75 : decode b_Pt_behind 75 = .ok (.aload_n 0, 1) := by decide +kernel
theorem d_Pt_behind_76 : decode b_Pt_behind 76 = .ok (.iload_n 2, 1) := by decide +kernel
theorem d_Pt_behind_77 : decode b_Pt_behind 77 = .ok (.invokevirtual 39, 3) := by decide +kernel
theorem d_Pt_behind_80 : decode b_Pt_behind 80 = .ok (.istore_n 2, 1) := by decide +kernel
theorem d_Pt_behind_81 : decode b_Pt_behind 81 = .ok (.goto (-24), 3) := by decide +kernel
theorem d_Pt_behind_84 : decode b_Pt_behind 84 = .ok (.iload_n 2, 1) := by decide +kernel
theorem d_Pt_behind_85 : decode b_Pt_behind 85 = .ok (.iconst 1, 1) := by decide +kernel
theorem d_Pt_behind_86 : decode b_Pt_behind 86 = .ok (.iadd, 1) := by decide +kernel
theorem d_Pt_behind_87 : decode b_Pt_behind 87 = .ok (.aload_n 0, 1) := by decide +kernel
theorem d_Pt_behind_88 : decode b_Pt_behind 88 = .ok (.getfield 9, 3) := by decide +kernel
theorem d_Pt_behind_91 : decode b_Pt_behind 91 = .ok (.invokestatic 33, 3) := by decide +kernel
theorem d_Pt_behind_94 : decode b_Pt_behind 94 = .ok (.ireturn, 1) := by decide +kernel
theorem d_Pt_next_0 : decode b_Pt_next 0 = .ok (.aload_n 0, 1) := by decide +kernel
theorem d_Pt_next_1 : decode b_Pt_next 1 = .ok (.iload_n 1, 1) := by decide +kernel
theorem d_Pt_next_2 : decode b_Pt_next 2 = .ok (.invokevirtual 22, 3) := by decide +kernel
theorem d_Pt_next_5 : decode b_Pt_next 5 = .ok (.bipush 92, 2) := by decide +kernel
theorem d_Pt_next_7 : decode b_Pt_next 7 = .ok (.if_icmp .ne 16, 3) := by decide +kernel
theorem d_Pt_next_10 : decode b_Pt_next 10 = .ok (.iload_n 1, 1) := by decide +kernel
theorem d_Pt_next_11 : decode b_Pt_next 11 = .ok (.iconst 2, 1) := by decide +kernel
theorem d_Pt_next_12 : decode b_Pt_next 12 = .ok (.iadd, 1) := by decide +kernel
theorem d_Pt_next_13 : decode b_Pt_next 13 = .ok (.aload_n 0, 1) := by decide +kernel
theorem d_Pt_next_14 : decode b_Pt_next 14 = .ok (.getfield 9, 3) := by decide +kernel
theorem d_Pt_next_17 : decode b_Pt_next 17 = .ok (.invokestatic 33, 3) := by decide +kernel
theorem d_Pt_next_20 : decode b_Pt_next 20 = .ok (.goto 6, 3) := by decide +kernel
theorem d_Pt_next_23 : decode b_Pt_next 23 = .ok (.iload_n 1, 1) := by decide +kernel
theorem d_Pt_next_24 : decode b_Pt_next 24 = .ok (.iconst 1, 1) := by decide +kernel
theorem d_Pt_next_25 : decode b_Pt_next 25 = .ok (.iadd, 1) := by decide +kernel
theorem d_Pt_next_26 : decode b_Pt_next 26 = .ok (.ireturn, 1) := by decide +kernel
theorem d_Pt_plain_0 : decode b_Pt_plain 0 = .ok (.aload_n 0, 1) := by decide +kernel
theorem d_Pt_plain_1 : decode b_Pt_plain 1 = .ok (.iload_n 1, 1) := by decide +kernel
theorem d_Pt_plain_2 : decode b_Pt_plain 2 = .ok (.invokevirtual 22, 3) := by decide +kernel
theorem d_Pt_plain_5 : decode b_Pt_plain 5 = .ok (.bipush 92, 2) := by decide +kernel
theorem d_Pt_plain_7 : decode b_Pt_plain 7 = .ok (.if_icmp .ne 23, 3) := by decide +kernel
theorem d_Pt_plain_10 : decode b_Pt_plain 10 = .ok (.iload_n 1, 1) := by decide +kernel
theorem d_Pt_plain_11 : decode b_Pt_plain 11 = .ok (.iconst 1, 1) := by decide +kernel
theorem d_Pt_plain_12 : decode b_Pt_plain 12 = .ok (.iadd, 1) := by decide +kernel
theorem d_Pt_plain_13 : decode b_Pt_plain 13 = .ok (.aload_n 0, 1) := by decide +kernel
theorem d_Pt_plain_14 : decode b_Pt_plain 14 = .ok (.getfield 9, 3) := by decide +kernel
theorem d_Pt_plain_17 : decode b_Pt_plain 17 = .ok (.if_icmp .ge 13, 3) := by decide +kernel
theorem d_Pt_plain_20 : decode b_Pt_plain 20 = .ok (.aload_n 0, 1) := by decide +kernel
theorem d_Pt_plain_21 : decode b_Pt_plain 21 = .ok (.iload_n 1, 1) := by decide +kernel
theorem d_Pt_plain_22 : decode b_Pt_plain 22 = .ok (.iconst 1, 1) := by decide +kernel
theorem d_Pt_plain_23 : decode b_Pt_plain 23 = .ok (.iadd, 1) := by decide +kernel
theorem d_Pt_plain_24 : decode b_Pt_plain 24 = .ok (.invokevirtual 22, 3) := by decide +kernel
theorem d_Pt_plain_27 : decode b_Pt_plain 27 = .ok (.goto 8, 3) := by decide +kernel
theorem d_Pt_plain_30 : decode b_Pt_plain 30 = .ok (.aload_n 0, 1) := by decide +kernel
theorem d_Pt_plain_31 : decode b_Pt_plain 31 = .ok (.iload_n 1, 1) := by decide +kernel
theorem d_Pt_plain_32 : decode b_Pt_plain 32 = .ok (.invokevirtual 22, 3) := by decide +kernel
theorem d_Pt_plain_35 : decode b_Pt_plain 35 = .ok (.ireturn, 1) := by decide +kernel
theorem d_Pt_takes_0 : decode b_Pt_takes 0 = .ok (.aload_n 0, 1) := by decide +kernel
theorem d_Pt_takes_1 : decode b_Pt_takes 1 = .ok (.iload_n 1, 1) := by decide +kernel
theorem d_Pt_takes_2 : decode b_Pt_takes 2 = .ok (.invokevirtual 22, 3) := by decide +kernel
theorem d_Pt_takes_5 : decode b_Pt_takes 5 = .ok (.istore_n 3, 1) := by decide +kernel
theorem d_Pt_takes_6 : decode b_Pt_takes 6 = .ok (.iload_n 3, 1) := by decide +kernel
theorem d_Pt_takes_7 : decode b_Pt_takes 7 = .ok (.bipush 63, 2) := by decide +kernel
theorem d_Pt_takes_9 : decode b_Pt_takes 9 = .ok (.if_icmp .ne 5, 3) := by decide +kernel
theorem d_Pt_takes_12 : decode b_Pt_takes 12 = .ok (.iconst 1, 1) := by decide +kernel
theorem d_Pt_takes_13 : decode b_Pt_takes 13 = .ok (.ireturn, 1) := by decide +kernel
theorem d_Pt_takes_14 : decode b_Pt_takes 14 = .ok (.iload_n 3, 1) := by decide +kernel
theorem d_Pt_takes_15 : decode b_Pt_takes 15 = .ok (.bipush 92, 2) := by decide +kernel
theorem d_Pt_takes_17 : decode b_Pt_takes 17 = .ok (.if_icmp .ne 18, 3) := by decide +kernel
theorem d_Pt_takes_20 : decode b_Pt_takes 20 = .ok (.aload_n 0, 1) := by decide +kernel
theorem d_Pt_takes_21 : decode b_Pt_takes 21 = .ok (.iload_n 1, 1) := by decide +kernel
theorem d_Pt_takes_22 : decode b_Pt_takes 22 = .ok (.invokevirtual 42, 3) := by decide +kernel
theorem d_Pt_takes_25 : decode b_Pt_takes 25 = .ok (.iload_n 2, 1) := by decide +kernel
theorem d_Pt_takes_26 : decode b_Pt_takes 26 = .ok (.if_icmp .ne 7, 3) := by decide +kernel
theorem d_Pt_takes_29 : decode b_Pt_takes 29 = .ok (.iconst 1, 1) := by decide +kernel
theorem d_Pt_takes_30 : decode b_Pt_takes 30 = .ok (.goto 4, 3) := by decide +kernel
theorem d_Pt_takes_33 : decode b_Pt_takes 33 = .ok (.iconst 0, 1) := by decide +kernel
theorem d_Pt_takes_34 : decode b_Pt_takes 34 = .ok (.ireturn, 1) := by decide +kernel
theorem d_Pt_takes_35 : decode b_Pt_takes 35 = .ok (.iload_n 3, 1) := by decide +kernel
theorem d_Pt_takes_36 : decode b_Pt_takes 36 = .ok (.bipush 91, 2) := by decide +kernel
theorem d_Pt_takes_38 : decode b_Pt_takes 38 = .ok (.if_icmp .eq 14, 3) := by decide +kernel
theorem d_Pt_takes_41 : decode b_Pt_takes 41 = .ok (.iload_n 3, 1) := by decide +kernel
theorem d_Pt_takes_42 : decode b_Pt_takes 42 = .ok (.iload_n 2, 1) := by decide +kernel
theorem d_Pt_takes_43 : decode b_Pt_takes 43 = .ok (.if_icmp .ne 7, 3) := by decide +kernel
theorem d_Pt_takes_46 : decode b_Pt_takes 46 = .ok (.iconst 1, 1) := by decide +kernel
theorem d_Pt_takes_47 : decode b_Pt_takes 47 = .ok (.goto 4, 3) := by decide +kernel
theorem d_Pt_takes_50 : decode b_Pt_takes 50 = .ok (.iconst 0, 1) := by decide +kernel
theorem d_Pt_takes_51 : decode b_Pt_takes 51 = .ok (.ireturn, 1) := by decide +kernel
theorem d_Pt_takes_52 : decode b_Pt_takes 52 = .ok (.aload_n 0, 1) := by decide +kernel
theorem d_Pt_takes_53 : decode b_Pt_takes 53 = .ok (.iload_n 1, 1) := by decide +kernel
theorem d_Pt_takes_54 : decode b_Pt_takes 54 = .ok (.iconst 1, 1) := by decide +kernel
theorem d_Pt_takes_55 : decode b_Pt_takes 55 = .ok (.iadd, 1) := by decide +kernel
theorem d_Pt_takes_56 : decode b_Pt_takes 56 = .ok (.invokevirtual 22, 3) := by decide +kernel
theorem d_Pt_takes_59 : decode b_Pt_takes 59 = .ok (.bipush 94, 2) := by decide +kernel
theorem d_Pt_takes_61 : decode b_Pt_takes 61 = .ok (.if_icmp .ne 7, 3) := by decide +kernel
theorem d_Pt_takes_64 : decode b_Pt_takes 64 = .ok (.iconst 1, 1) := by decide +kernel
theorem d_Pt_takes_65 : decode b_Pt_takes 65 = .ok (.goto 4, 3) := by decide +kernel
theorem d_Pt_takes_68 : decode b_Pt_takes 68 = .ok (.iconst 0, 1) := by decide +kernel
theorem d_Pt_takes_69 : decode b_Pt_takes 69 = .ok (.istore 4, 2) := by decide +kernel
theorem d_Pt_takes_71 : decode b_Pt_takes 71 = .ok (.iload 4, 2) := by decide +kernel
theorem d_Pt_takes_73 : decode b_Pt_takes 73 = .ok (.ifCond .eq 9, 3) := by decide +kernel
theorem d_Pt_takes_76 : decode b_Pt_takes 76 = .ok (.iload_n 1, 1) := by decide +kernel
theorem d_Pt_takes_77 : decode b_Pt_takes 77 = .ok (.iconst 2, 1) := by decide +kernel
theorem d_Pt_takes_78 : decode b_Pt_takes 78 = .ok (.iadd, 1) := by decide +kernel
theorem d_Pt_takes_79 : decode b_Pt_takes 79 = .ok (.goto 6, 3) := by decide +kernel
theorem d_Pt_takes_82 : decode b_Pt_takes 82 = .ok (.iload_n 1, 1) := by decide +kernel
theorem d_Pt_takes_83 : decode b_Pt_takes 83 = .ok (.iconst 1, 1) := by decide +kernel
theorem d_Pt_takes_84 : decode b_Pt_takes 84 = .ok (.iadd, 1) := by decide +kernel
theorem d_Pt_takes_85 : decode b_Pt_takes 85 = .ok (.istore 5, 2) := by decide +kernel
theorem d_Pt_takes_87 : decode b_Pt_takes 87 = .ok (.iconst 0, 1) := by decide +kernel
theorem d_Pt_takes_88 : decode b_Pt_takes 88 = .ok (.istore 6, 2) := by decide +kernel
theorem d_Pt_takes_90 : decode b_Pt_takes 90 = .ok (.iload 5, 2) := by decide +kernel
theorem d_Pt_takes_92 : decode b_Pt_takes 92 = .ok (.aload_n 0, 1) := by decide +kernel
theorem d_Pt_takes_93 : decode b_Pt_takes 93 = .ok (.getfield 9, 3) := by decide +kernel
theorem d_Pt_takes_96 : decode b_Pt_takes 96 = .ok (.if_icmp .ge 120, 3) := by decide +kernel
theorem d_Pt_takes_99 : decode b_Pt_takes 99 = .ok (.aload_n 0, 1) := by decide +kernel
theorem d_Pt_takes_100 : decode b_Pt_takes 100 = .ok (.iload 5, 2) := by decide +kernel
theorem d_Pt_takes_102 : decode b_Pt_takes 102 = .ok (.invokevirtual 22, 3) := by decide +kernel
theorem d_Pt_takes_105 : decode b_Pt_takes 105 = .ok (.bipush 93, 2) := by decide +kernel
theorem d_Pt_takes_107 : decode b_Pt_takes 107 = .ok (.if_icmp .eq 109, 3) := by decide +kernel
theorem d_Pt_takes_110 : decode b_Pt_takes 110 = .ok (.aload_n 0, 1) := by decide +kernel
theorem d_Pt_takes_111 : decode b_Pt_takes 111 = .ok (.iload 5, 2) := by decide +kernel
theorem d_Pt_takes_113 : decode b_Pt_takes 113 = .ok (.invokevirtual 42, 3) := by decide +kernel
theorem d_Pt_takes_116 : decode b_Pt_takes 116 = .ok (.istore 7, 2) := by decide +kernel
theorem d_Pt_takes_118 : decode b_Pt_takes 118 = .ok (.iload 7, 2) := by decide +kernel
theorem d_Pt_takes_120 : decode b_Pt_takes 120 = .ok (.istore 8, 2) := by decide +kernel
theorem d_Pt_takes_122 : decode b_Pt_takes 122 = .ok (.aload_n 0, 1) := by decide +kernel
theorem d_Pt_takes_123 : decode b_Pt_takes 123 = .ok (.iload 5, 2) := by decide +kernel
theorem d_Pt_takes_125 : decode b_Pt_takes 125 = .ok (.invokevirtual 39, 3) := by decide +kernel
theorem d_Pt_takes_128 : decode b_Pt_takes 128 = .ok (.istore 9, 2) := by decide +kernel
theorem d_Pt_takes_130 : decode b_Pt_takes 130 = .ok (.aload_n 0, 1) := by decide +kernel
theorem d_Pt_takes_131 : decode b_Pt_takes 131 = .ok (.iload 9, 2) := by decide +kernel
theorem d_Pt_takes_133 : decode b_Pt_takes 133 = .ok (.invokevirtual 22, 3) := by decide +kernel
theorem d_Pt_takes_136 : decode b_Pt_takes 136 = .ok (.bipush 45, 2) := by decide +kernel
theorem d_Pt_takes_138 : decode b_Pt_takes 138 = .ok (.if_icmp .ne 47, 3) := by decide +kernel
theorem d_Pt_takes_141 : decode b_Pt_takes 141 = .ok (.aload_n 0, 1) := by decide +kernel
theorem d_Pt_takes_142 : decode b_Pt_takes 142 = .ok (.iload 9, 2) := by decide +kernel
theorem d_Pt_takes_144 : decode b_Pt_takes 144 = .ok (.iconst 1, 1) := by decide +kernel
theorem d_Pt_takes_145 : decode b_Pt_takes 145 = .ok (.iadd, 1) := by decide +kernel
theorem d_Pt_takes_146 : decode b_Pt_takes 146 = .ok (.invokevirtual 22, 3) := by decide +kernel
theorem d_Pt_takes_149 : decode b_Pt_takes 149 = .ok (.ifCond .lt 36, 3) := by decide +kernel
theorem d_Pt_takes_152 : decode b_Pt_takes 152 = .ok (.aload_n 0, 1) := by decide +kernel
theorem d_Pt_takes_153 : decode b_Pt_takes 153 = .ok (.iload 9, 2) := by decide +kernel
theorem d_Pt_takes_155 : decode b_Pt_takes 155 = .ok (.iconst 1, 1) := by decide +kernel
theorem d_Pt_takes_156 : decode b_Pt_takes 156 = .ok (.iadd, 1) := by decide +kernel
theorem d_Pt_takes_157 : decode b_Pt_takes 157 = .ok (.invokevirtual 22, 3) := by decide +kernel
theorem d_Pt_takes_160 : decode b_Pt_takes 160 = .ok (.bipush 93, 2) := by decide +kernel
theorem d_Pt_takes_162 : decode b_Pt_takes 162 = .ok (.if_icmp .eq 23, 3) := by decide +kernel
theorem d_Pt_takes_165 : decode b_Pt_takes 165 = .ok (.aload_n 0, 1) := by decide +kernel
theorem d_Pt_takes_166 : decode b_Pt_takes 166 = .ok (.iload 9, 2) := by decide +kernel
theorem d_Pt_takes_168 : decode b_Pt_takes 168 = .ok (.iconst 1, 1) := by decide +kernel
theorem d_Pt_takes_169 : decode b_Pt_takes 169 = .ok (.iadd, 1) := by decide +kernel
theorem d_Pt_takes_170 : decode b_Pt_takes 170 = .ok (.invokevirtual 42, 3) := by decide +kernel
theorem d_Pt_takes_173 : decode b_Pt_takes 173 = .ok (.istore 8, 2) := by decide +kernel
theorem d_Pt_takes_175 : decode b_Pt_takes 175 = .ok (.aload_n 0, 1) := by decide +kernel
theorem d_Pt_takes_176 : decode b_Pt_takes 176 = .ok (.iload 9, 2) := by decide +kernel
theorem d_Pt_takes_178 : decode b_Pt_takes 178 = .ok (.iconst 1, 1) := by decide +kernel
theorem d_Pt_takes_179 : decode b_Pt_takes 179 = .ok (.iadd, 1) := by decide +kernel
theorem d_Pt_takes_180 : decode b_Pt_takes 180 = .ok (.invokevirtual 39, 3) := by decide +kernel
theorem d_Pt_takes_183 : decode b_Pt_takes 183 = .ok (.istore 9, 2) := by decide +kernel
theorem d_Pt_takes_185 : decode b_Pt_takes 185 = .ok (.iload 6, 2) := by decide +kernel
theorem d_Pt_takes_187 : decode b_Pt_takes 187 = .ok (.ifCond .ne 15, 3) := by decide +kernel
theorem d_Pt_takes_190 : decode b_Pt_takes 190 = .ok (.iload 7, 2) := by decide +kernel
theorem d_Pt_takes_192 : decode b_Pt_takes 192 = .ok (.iload_n 2, 1) := by decide +kernel
theorem d_Pt_takes_193 : decode b_Pt_takes 193 = .ok (.if_icmp .gt 13, 3) := by decide +kernel
theorem d_Pt_takes_196 : decode b_Pt_takes 196 = .ok (.iload_n 2, 1) := by decide +kernel
theorem d_Pt_takes_197 : decode b_Pt_takes 197 = .ok (.iload 8, 2) := by decide +kernel
theorem d_Pt_takes_199 : decode b_Pt_takes 199 = .ok (.if_icmp .gt 7, 3) := by decide +kernel
theorem d_Pt_takes_202 : decode b_Pt_takes 202 = .ok (.iconst 1, 1) := by decide +kernel
theorem d_Pt_takes_203 : decode b_Pt_takes 203 = .ok (.goto 4, 3) := by decide +kernel
theorem d_Pt_takes_206 : decode b_Pt_takes 206 = .ok (.iconst 0, 1) := by decide +kernel
theorem d_Pt_takes_207 : decode b_Pt_takes 207 = .ok (.istore 6, 2) := by decide +kernel
theorem d_Pt_takes_209 : decode b_Pt_takes 209 = .ok (.iload 9, 2) := by decide +kernel
theorem d_Pt_takes_211 : decode b_Pt_takes 211 = .ok (.istore 5, 2) := by decide +kernel
theorem d_Pt_takes_213 : decode b_Pt_takes 213 = .ok (.goto (-123), 3) := by decide +kernel
theorem d_Pt_takes_216 : decode b_Pt_takes 216 = .ok (.iload 6, 2) := by decide +kernel
theorem d_Pt_takes_218 : decode b_Pt_takes 218 = .ok (.iload 4, 2) := by decide +kernel
theorem d_Pt_takes_220 : decode b_Pt_takes 220 = .ok (.if_icmp .eq 7, 3) := by decide +kernel
theorem d_Pt_takes_223 : decode b_Pt_takes 223 = .ok (.iconst 1, 1) := by decide +kernel
theorem d_Pt_takes_224 : decode b_Pt_takes 224 = .ok (.goto 4, 3) := by decide +kernel
theorem d_Pt_takes_227 : decode b_Pt_takes 227 = .ok (.iconst 0, 1) := by decide +kernel
theorem d_Pt_takes_228 : decode b_Pt_takes 228 = .ok (.ireturn, 1) := by decide +kernel
end
section
theorem d_Mo_init_0 : decode b_Mo_init 0 = .ok (.aload_n 0, 1) := by decide +kernel
theorem d_Mo_init_1 : decode b_Mo_init 1 = .ok (.invokespecial 1, 3) := by decide +kernel
theorem d_Mo_init_4 : decode b_Mo_init 4 = .ok (.aload_n 0, 1) := by decide +kernel
theorem d_Mo_init_5 : decode b_Mo_init 5 = .ok (.sipush 400, 3) := by decide +kernel
theorem d_Mo_init_8 : decode b_Mo_init 8 = .ok (.newarray .int, 2) := by decide +kernel
theorem d_Mo_init_10 : decode b_Mo_init 10 = .ok (.putfield 7, 3) := by decide +kernel
theorem d_Mo_init_13 : decode b_Mo_init 13 = .ok (.aload_n 0, 1) := by decide +kernel
theorem d_Mo_init_14 : decode b_Mo_init 14 = .ok (.sipush 400, 3) := by decide +kernel
theorem d_Mo_init_17 : decode b_Mo_init 17 = .ok (.newarray .int, 2) := by decide +kernel
theorem d_Mo_init_19 : decode b_Mo_init 19 = .ok (.putfield 13, 3) := by decide +kernel
theorem d_Mo_init_22 : decode b_Mo_init 22 = .ok (.aload_n 0, 1) := by decide +kernel
theorem d_Mo_init_23 : decode b_Mo_init 23 = .ok (.sipush 400, 3) := by decide +kernel
theorem d_Mo_init_26 : decode b_Mo_init 26 = .ok (.newarray .int, 2) := by decide +kernel
theorem d_Mo_init_28 : decode b_Mo_init 28 = .ok (.putfield 16, 3) := by decide +kernel
theorem d_Mo_init_31 : decode b_Mo_init 31 = .ok (.aload_n 0, 1) := by decide +kernel
theorem d_Mo_init_32 : decode b_Mo_init 32 = .ok (.sipush 401, 3) := by decide +kernel
theorem d_Mo_init_35 : decode b_Mo_init 35 = .ok (.newarray .boolean, 2) := by decide +kernel
theorem d_Mo_init_37 : decode b_Mo_init 37 = .ok (.putfield 19, 3) := by decide +kernel
theorem d_Mo_init_40 : decode b_Mo_init 40 = .ok (.return_, 1) := by decide +kernel
theorem d_Mo_put_0 : decode b_Mo_put 0 = .ok (.bipush 24, 2) := by decide +kernel
theorem d_Mo_put_2 : decode b_Mo_put 2 = .ok (.istore_n 2, 1) := by decide +kernel
theorem d_Mo_put_3 : decode b_Mo_put 3 = .ok (.iload_n 2, 1) := by decide +kernel
theorem d_Mo_put_4 : decode b_Mo_put 4 = .ok (.ifCond .lt 35, 3) := by decide +kernel
theorem d_Mo_put_7 : decode b_Mo_put 7 = .ok (.aload_n 0, 1) := by decide +kernel
theorem d_Mo_put_8 : decode b_Mo_put 8 = .ok (.getfield 7, 3) := by decide +kernel
theorem d_Mo_put_11 : decode b_Mo_put 11 = .ok (.aload_n 0, 1) := by decide +kernel
theorem d_Mo_put_12 : decode b_Mo_put 12 = .ok (.getfield 23, 3) := by decide +kernel
theorem d_Mo_put_15 : decode b_Mo_put 15 = .ok (.iload_n 1, 1) := by decide +kernel
theorem d_Mo_put_16 : decode b_Mo_put 16 = .ok (.iload_n 2, 1) := by decide +kernel
theorem d_Mo_put_17 : decode b_Mo_put 17 = .ok (.ishr, 1) := by decide +kernel
theorem d_Mo_put_18 : decode b_Mo_put 18 = .ok (.sipush 255, 3) := by decide +kernel
theorem d_Mo_put_21 : decode b_Mo_put 21 = .ok (.iand, 1) := by decide +kernel
theorem d_Mo_put_22 : decode b_Mo_put 22 = .ok (.iastore, 1) := by decide +kernel
theorem d_Mo_put_23 : decode b_Mo_put 23 = .ok (.aload_n 0, 1) := by decide +kernel
theorem d_Mo_put_24 : decode b_Mo_put 24 = .ok (.dup, 1) := by decide +kernel
theorem d_Mo_put_25 : decode b_Mo_put 25 = .ok (.getfield 23, 3) := by decide +kernel
theorem d_Mo_put_28 : decode b_Mo_put 28 = .ok (.iconst 1, 1) := by decide +kernel
theorem d_Mo_put_29 : decode b_Mo_put 29 = .ok (.iadd, 1) := by decide +kernel
theorem d_Mo_put_30 : decode b_Mo_put 30 = .ok (.putfield 23, 3) := by decide +kernel
theorem d_Mo_put_33 : decode b_Mo_put 33 = .ok (.iinc 2 (-8), 3) := by decide +kernel
theorem d_Mo_put_36 : decode b_Mo_put 36 = .ok (.goto (-33), 3) := by decide +kernel
theorem d_Mo_put_39 : decode b_Mo_put 39 = .ok (.return_, 1) := by decide +kernel
theorem d_Mo_feed_0 : decode b_Mo_feed 0 = .ok (.aload_n 0, 1) := by decide +kernel
theorem d_Mo_feed_1 : decode b_Mo_feed 1 = .ok (.getfield 23, 3) := by decide +kernel
theorem d_Mo_feed_4 : decode b_Mo_feed 4 = .ok (.bipush 20, 2) := by decide +kernel
theorem d_Mo_feed_6 : decode b_Mo_feed 6 = .ok (.iadd, 1) := by decide +kernel
theorem d_Mo_feed_7 : decode b_Mo_feed 7 = .ok (.sipush 400, 3) := by decide +kernel
theorem d_Mo_feed_10 : decode b_Mo_feed 10 = .ok (.if_icmp .le 5, 3) := by decide +kernel
theorem d_Mo_feed_13 : decode b_Mo_feed 13 = .ok (.iconst 0, 1) := by decide +kernel
theorem d_Mo_feed_14 : decode b_Mo_feed 14 = .ok (.ireturn, 1) := by decide +kernel
theorem d_Mo_feed_15 : decode b_Mo_feed 15 = .ok (.aload_n 0, 1) := by decide +kernel
theorem d_Mo_feed_16 : decode b_Mo_feed 16 = .ok (.iload_n 1, 1) := by decide +kernel
theorem d_Mo_feed_17 : decode b_Mo_feed 17 = .ok (.invokevirtual 27, 3) := by decide +kernel
theorem d_Mo_feed_20 : decode b_Mo_feed 20 = .ok (.aload_n 0, 1) := by decide +kernel
theorem d_Mo_feed_21 : decode b_Mo_feed 21 = .ok (.iload_n 2, 1) := by decide +kernel
theorem d_Mo_feed_22 : decode b_Mo_feed 22 = .ok (.invokevirtual 27, 3) := by decide +kernel
theorem d_Mo_feed_25 : decode b_Mo_feed 25 = .ok (.aload_n 0, 1) := by decide +kernel
theorem d_Mo_feed_26 : decode b_Mo_feed 26 = .ok (.iload_n 3, 1) := by decide +kernel
theorem d_Mo_feed_27 : decode b_Mo_feed 27 = .ok (.invokevirtual 27, 3) := by decide +kernel
theorem d_Mo_feed_30 : decode b_Mo_feed 30 = .ok (.aload_n 0, 1) := by decide +kernel
theorem d_Mo_feed_31 : decode b_Mo_feed 31 = .ok (.iload 4, 2) := by decide +kernel
theorem d_Mo_feed_33 : decode b_Mo_feed 33 = .ok (.invokevirtual 27, 3) := by decide +kernel
theorem d_Mo_feed_36 : decode b_Mo_feed 36 = .ok (.aload_n 0, 1) := by decide +kernel
theorem d_Mo_feed_37 : decode b_Mo_feed 37 = .ok (.iload 5, 2) := by decide +kernel
theorem d_Mo_feed_39 : decode b_Mo_feed 39 = .ok (.invokevirtual 27, 3) := by decide +kernel
theorem d_Mo_feed_42 : decode b_Mo_feed 42 = .ok (.iconst 1, 1) := by decide +kernel
theorem d_Mo_feed_43 : decode b_Mo_feed 43 = .ok (.ireturn, 1) := by decide +kernel
theorem d_Mo_end_0 : decode b_Mo_end 0 = .ok (.iload_n 1, 1) := by decide +kernel
theorem d_Mo_end_1 : decode b_Mo_end 1 = .ok (.ifCond .lt 11, 3) := by decide +kernel
theorem d_Mo_end_4 : decode b_Mo_end 4 = .ok (.iload_n 1, 1) := by decide +kernel
theorem d_Mo_end_5 : decode b_Mo_end 5 = .ok (.aload_n 0, 1) := by decide +kernel
theorem d_Mo_end_6 : decode b_Mo_end 6 = .ok (.getfield 23, 3) := by decide +kernel
theorem d_Mo_end_9 : decode b_Mo_end 9 = .ok (.if_icmp .le 5, 3) := by decide +kernel
theorem d_Mo_end_12 : decode b_Mo_end 12 = .ok (.iconst 0, 1) := by decide +kernel
theorem d_Mo_end_13 : decode b_Mo_end 13 = .ok (.ireturn, 1) := by decide +kernel
theorem d_Mo_end_14 : decode b_Mo_end 14 = .ok (.aload_n 0, 1) := by decide +kernel
theorem d_Mo_end_15 : decode b_Mo_end 15 = .ok (.iload_n 1, 1) := by decide +kernel
theorem d_Mo_end_16 : decode b_Mo_end 16 = .ok (.putfield 23, 3) := by decide +kernel
theorem d_Mo_end_19 : decode b_Mo_end 19 = .ok (.iconst 1, 1) := by decide +kernel
theorem d_Mo_end_20 : decode b_Mo_end 20 = .ok (.ireturn, 1) := by decide +kernel
theorem d_Mo_pattern_0 : decode b_Mo_pattern 0 = .ok (.aload_n 0, 1) := by decide +kernel
theorem d_Mo_pattern_1 : decode b_Mo_pattern 1 = .ok (.aload_n 0, 1) := by decide +kernel
theorem d_Mo_pattern_2 : decode b_Mo_pattern 2 = .ok (.getfield 23, 3) := by decide +kernel
theorem d_Mo_pattern_5 : decode b_Mo_pattern 5 = .ok (.putfield 31, 3) := by decide +kernel
theorem d_Mo_pattern_8 : decode b_Mo_pattern 8 = .ok (.iconst 0, 1) := by decide +kernel
theorem d_Mo_pattern_9 : decode b_Mo_pattern 9 = .ok (.istore_n 1, 1) := by decide +kernel
theorem d_Mo_pattern_10 : decode b_Mo_pattern 10 = .ok (.iload_n 1, 1) := by decide +kernel
theorem d_Mo_pattern_11 : decode b_Mo_pattern 11 = .ok (.aload_n 0, 1) := by decide +kernel
theorem d_Mo_pattern_12 : decode b_Mo_pattern 12 = .ok (.getfield 31, 3) := by decide +kernel
theorem d_Mo_pattern_15 : decode b_Mo_pattern 15 = .ok (.if_icmp .ge 21, 3) := by decide +kernel
theorem d_Mo_pattern_18 : decode b_Mo_pattern 18 = .ok (.aload_n 0, 1) := by decide +kernel
theorem d_Mo_pattern_19 : decode b_Mo_pattern 19 = .ok (.getfield 13, 3) := by decide +kernel
theorem d_Mo_pattern_22 : decode b_Mo_pattern 22 = .ok (.iload_n 1, 1) := by decide +kernel
theorem d_Mo_pattern_23 : decode b_Mo_pattern 23 = .ok (.aload_n 0, 1) := by decide +kernel
theorem d_Mo_pattern_24 : decode b_Mo_pattern 24 = .ok (.getfield 7, 3) := by decide +kernel
theorem d_Mo_pattern_27 : decode b_Mo_pattern 27 = .ok (.iload_n 1, 1) := by decide +kernel
theorem d_Mo_pattern_28 : decode b_Mo_pattern 28 = .ok (.iaload, 1) := by decide +kernel
theorem d_Mo_pattern_29 : decode b_Mo_pattern 29 = .ok (.iastore, 1) := by decide +kernel
theorem d_Mo_pattern_30 : decode b_Mo_pattern 30 = .ok (.iinc 1 1, 3) := by decide +kernel
theorem d_Mo_pattern_33 : decode b_Mo_pattern 33 = .ok (.goto (-23), 3) := by decide +kernel
theorem d_Mo_pattern_36 : decode b_Mo_pattern 36 = .ok (.aload_n 0, 1) := by decide +kernel
theorem d_Mo_pattern_37 : decode b_Mo_pattern 37 = .ok (.iconst 0, 1) := by decide +kernel
theorem d_Mo_pattern_38 : decode b_Mo_pattern 38 = .ok (.putfield 23, 3) := by decide +kernel
theorem d_Mo_pattern_41 : decode b_Mo_pattern 41 = .ok (.aload_n 0, 1) := by decide +kernel
theorem d_Mo_pattern_42 : decode b_Mo_pattern 42 = .ok (.getfield 31, 3) := by decide +kernel
theorem d_Mo_pattern_45 : decode b_Mo_pattern 45 = .ok (.ireturn, 1) := by decide +kernel
theorem d_Mo_word_0 : decode b_Mo_word 0 = .ok (.aload_n 0, 1) := by decide +kernel
theorem d_Mo_word_1 : decode b_Mo_word 1 = .ok (.aload_n 0, 1) := by decide +kernel
theorem d_Mo_word_2 : decode b_Mo_word 2 = .ok (.getfield 23, 3) := by decide +kernel
theorem d_Mo_word_5 : decode b_Mo_word 5 = .ok (.putfield 34, 3) := by decide +kernel
theorem d_Mo_word_8 : decode b_Mo_word 8 = .ok (.iconst 0, 1) := by decide +kernel
theorem d_Mo_word_9 : decode b_Mo_word 9 = .ok (.istore_n 1, 1) := by decide +kernel
theorem d_Mo_word_10 : decode b_Mo_word 10 = .ok (.iload_n 1, 1) := by decide +kernel
theorem d_Mo_word_11 : decode b_Mo_word 11 = .ok (.aload_n 0, 1) := by decide +kernel
theorem d_Mo_word_12 : decode b_Mo_word 12 = .ok (.getfield 34, 3) := by decide +kernel
theorem d_Mo_word_15 : decode b_Mo_word 15 = .ok (.if_icmp .ge 21, 3) := by decide +kernel
theorem d_Mo_word_18 : decode b_Mo_word 18 = .ok (.aload_n 0, 1) := by decide +kernel
theorem d_Mo_word_19 : decode b_Mo_word 19 = .ok (.getfield 16, 3) := by decide +kernel
theorem d_Mo_word_22 : decode b_Mo_word 22 = .ok (.iload_n 1, 1) := by decide +kernel
theorem d_Mo_word_23 : decode b_Mo_word 23 = .ok (.aload_n 0, 1) := by decide +kernel
theorem d_Mo_word_24 : decode b_Mo_word 24 = .ok (.getfield 7, 3) := by decide +kernel
theorem d_Mo_word_27 : decode b_Mo_word 27 = .ok (.iload_n 1, 1) := by decide +kernel
theorem d_Mo_word_28 : decode b_Mo_word 28 = .ok (.iaload, 1) := by decide +kernel
theorem d_Mo_word_29 : decode b_Mo_word 29 = .ok (.iastore, 1) := by decide +kernel
theorem d_Mo_word_30 : decode b_Mo_word 30 = .ok (.iinc 1 1, 3) := by decide +kernel
theorem d_Mo_word_33 : decode b_Mo_word 33 = .ok (.goto (-23), 3) := by decide +kernel
theorem d_Mo_word_36 : decode b_Mo_word 36 = .ok (.aload_n 0, 1) := by decide +kernel
theorem d_Mo_word_37 : decode b_Mo_word 37 = .ok (.iconst 0, 1) := by decide +kernel
theorem d_Mo_word_38 : decode b_Mo_word 38 = .ok (.putfield 23, 3) := by decide +kernel
theorem d_Mo_word_41 : decode b_Mo_word 41 = .ok (.aload_n 0, 1) := by decide +kernel
theorem d_Mo_word_42 : decode b_Mo_word 42 = .ok (.getfield 34, 3) := by decide +kernel
theorem d_Mo_word_45 : decode b_Mo_word 45 = .ok (.ireturn, 1) := by decide +kernel
theorem d_Mo_tells_0 : decode b_Mo_tells 0 = .ok (.aload_n 0, 1) := by decide +kernel
theorem d_Mo_tells_1 : decode b_Mo_tells 1 = .ok (.getfield 13, 3) := by decide +kernel
theorem d_Mo_tells_4 : decode b_Mo_tells 4 = .ok (.iload_n 1, 1) := by decide +kernel
theorem d_Mo_tells_5 : decode b_Mo_tells 5 = .ok (.iaload, 1) := by decide +kernel
theorem d_Mo_tells_6 : decode b_Mo_tells 6 = .ok (.bipush 92, 2) := by decide +kernel
theorem d_Mo_tells_8 : decode b_Mo_tells 8 = .ok (.if_icmp .ne 29, 3) := by decide +kernel
theorem d_Mo_tells_11 : decode b_Mo_tells 11 = .ok (.iload_n 1, 1) := by decide +kernel
theorem d_Mo_tells_12 : decode b_Mo_tells 12 = .ok (.iconst 1, 1) := by decide +kernel
theorem d_Mo_tells_13 : decode b_Mo_tells 13 = .ok (.iadd, 1) := by decide +kernel
theorem d_Mo_tells_14 : decode b_Mo_tells 14 = .ok (.aload_n 0, 1) := by decide +kernel
theorem d_Mo_tells_15 : decode b_Mo_tells 15 = .ok (.getfield 31, 3) := by decide +kernel
theorem d_Mo_tells_18 : decode b_Mo_tells 18 = .ok (.if_icmp .ge 19, 3) := by decide +kernel
theorem d_Mo_tells_21 : decode b_Mo_tells 21 = .ok (.aload_n 0, 1) := by decide +kernel
theorem d_Mo_tells_22 : decode b_Mo_tells 22 = .ok (.aload_n 0, 1) := by decide +kernel
theorem d_Mo_tells_23 : decode b_Mo_tells 23 = .ok (.getfield 13, 3) := by decide +kernel
theorem d_Mo_tells_26 : decode b_Mo_tells 26 = .ok (.iload_n 1, 1) := by decide +kernel
theorem d_Mo_tells_27 : decode b_Mo_tells 27 = .ok (.iconst 1, 1) := by decide +kernel
theorem d_Mo_tells_28 : decode b_Mo_tells 28 = .ok (.iadd, 1) := by decide +kernel
theorem d_Mo_tells_29 : decode b_Mo_tells 29 = .ok (.iaload, 1) := by decide +kernel
theorem d_Mo_tells_30 : decode b_Mo_tells 30 = .ok (.putfield 37, 3) := by decide +kernel
theorem d_Mo_tells_33 : decode b_Mo_tells 33 = .ok (.iload_n 1, 1) := by decide +kernel
theorem d_Mo_tells_34 : decode b_Mo_tells 34 = .ok (.iconst 2, 1) := by decide +kernel
theorem d_Mo_tells_35 : decode b_Mo_tells 35 = .ok (.iadd, 1) := by decide +kernel
theorem d_Mo_tells_36 : decode b_Mo_tells 36 = .ok (.ireturn, 1) := by decide +kernel
theorem d_Mo_tells_37 : decode b_Mo_tells 37 = .ok (.aload_n 0, 1) := by decide +kernel
theorem d_Mo_tells_38 : decode b_Mo_tells 38 = .ok (.aload_n 0, 1) := by decide +kernel
theorem d_Mo_tells_39 : decode b_Mo_tells 39 = .ok (.getfield 13, 3) := by decide +kernel
theorem d_Mo_tells_42 : decode b_Mo_tells 42 = .ok (.iload_n 1, 1) := by decide +kernel
theorem d_Mo_tells_43 : decode b_Mo_tells 43 = .ok (.iaload, 1) := by decide +kernel
theorem d_Mo_tells_44 : decode b_Mo_tells 44 = .ok (.putfield 37, 3) := by decide +kernel
theorem d_Mo_tells_47 : decode b_Mo_tells 47 = .ok (.iload_n 1, 1) := by decide +kernel
theorem d_Mo_tells_48 : decode b_Mo_tells 48 = .ok (.iconst 1, 1) := by decide +kernel
theorem d_Mo_tells_49 : decode b_Mo_tells 49 = .ok (.iadd, 1) := by decide +kernel
theorem d_Mo_tells_50 : decode b_Mo_tells 50 = .ok (.ireturn, 1) := by decide +kernel
theorem d_Mo_isOne_0 : decode b_Mo_isOne 0 = .ok (.iload_n 1, 1) := by decide +kernel
theorem d_Mo_isOne_1 : decode b_Mo_isOne 1 = .ok (.iconst 1, 1) := by decide +kernel
theorem d_Mo_isOne_2 : decode b_Mo_isOne 2 = .ok (.iadd, 1) := by decide +kernel
theorem d_Mo_isOne_3 : decode b_Mo_isOne 3 = .ok (.istore_n 3, 1) := by decide +kernel
theorem d_Mo_isOne_4 : decode b_Mo_isOne 4 = .ok (.iload_n 3, 1) := by decide +kernel
theorem d_Mo_isOne_5 : decode b_Mo_isOne 5 = .ok (.aload_n 0, 1) := by decide +kernel
theorem d_Mo_isOne_6 : decode b_Mo_isOne 6 = .ok (.getfield 31, 3) := by decide +kernel
theorem d_Mo_isOne_9 : decode b_Mo_isOne 9 = .ok (.if_icmp .ge 18, 3) := by decide +kernel
theorem d_Mo_isOne_12 : decode b_Mo_isOne 12 = .ok (.aload_n 0, 1) := by decide +kernel
theorem d_Mo_isOne_13 : decode b_Mo_isOne 13 = .ok (.getfield 13, 3) := by decide +kernel
theorem d_Mo_isOne_16 : decode b_Mo_isOne 16 = .ok (.iload_n 3, 1) := by decide +kernel
theorem d_Mo_isOne_17 : decode b_Mo_isOne 17 = .ok (.iaload, 1) := by decide +kernel
theorem d_Mo_isOne_18 : decode b_Mo_isOne 18 = .ok (.bipush 94, 2) := by decide +kernel
theorem d_Mo_isOne_20 : decode b_Mo_isOne 20 = .ok (.if_icmp .ne 7, 3) := by decide +kernel
theorem d_Mo_isOne_23 : decode b_Mo_isOne 23 = .ok (.iconst 1, 1) := by decide +kernel
theorem d_Mo_isOne_24 : decode b_Mo_isOne 24 = .ok (.goto 4, 3) := by decide +kernel
theorem d_Mo_isOne_27 : decode b_Mo_isOne 27 = .ok (.iconst 0, 1) := by decide +kernel
theorem d_Mo_isOne_28 : decode b_Mo_isOne 28 = .ok (.istore 4, 2) := by decide +kernel
theorem d_Mo_isOne_30 : decode b_Mo_isOne 30 = .ok (.iload_n 3, 1) := by decide +kernel
theorem d_Mo_isOne_31 : decode b_Mo_isOne 31 = .ok (.iload 4, 2) := by decide +kernel
theorem d_Mo_isOne_33 : decode b_Mo_isOne 33 = .ok (.ifCond .eq 7, 3) := by decide +kernel
theorem d_Mo_isOne_36 : decode b_Mo_isOne 36 = .ok (.iconst 1, 1) := by decide +kernel
theorem d_Mo_isOne_37 : decode b_Mo_isOne 37 = .ok (.goto 4, 3) := by decide +kernel
theorem d_Mo_isOne_40 : decode b_Mo_isOne 40 = .ok (.iconst 0, 1) := by decide +kernel
theorem d_Mo_isOne_41 : decode b_Mo_isOne 41 = .ok (.iadd, 1) := by decide +kernel
theorem d_Mo_isOne_42 : decode b_Mo_isOne 42 = .ok (.istore_n 3, 1) := by decide +kernel
theorem d_Mo_isOne_43 : decode b_Mo_isOne 43 = .ok (.iconst 0, 1) := by decide +kernel
theorem d_Mo_isOne_44 : decode b_Mo_isOne 44 = .ok (.istore 5, 2) := by decide +kernel
theorem d_Mo_isOne_46 : decode b_Mo_isOne 46 = .ok (.iload_n 3, 1) := by decide +kernel
theorem d_Mo_isOne_47 : decode b_Mo_isOne 47 = .ok (.aload_n 0, 1) := by decide +kernel
theorem d_Mo_isOne_48 : decode b_Mo_isOne 48 = .ok (.getfield 31, 3) := by decide +kernel
theorem d_Mo_isOne_51 : decode b_Mo_isOne 51 = .ok (.if_icmp .ge 105, 3) := by decide +kernel
theorem d_Mo_isOne_54 : decode b_Mo_isOne 54 = .ok (.aload_n 0, 1) := by decide +kernel
theorem d_Mo_isOne_55 : decode b_Mo_isOne 55 = .ok (.getfield 13, 3) := by decide +kernel
theorem d_Mo_isOne_58 : decode b_Mo_isOne 58 = .ok (.iload_n 3, 1) := by decide +kernel
theorem d_Mo_isOne_59 : decode b_Mo_isOne 59 = .ok (.iaload, 1) := by decide +kernel
theorem d_Mo_isOne_60 : decode b_Mo_isOne 60 = .ok (.bipush 93, 2) := by decide +kernel
theorem d_Mo_isOne_62 : decode b_Mo_isOne 62 = .ok (.if_icmp .eq 94, 3) := by decide +kernel
theorem d_Mo_isOne_65 : decode b_Mo_isOne 65 = .ok (.aload_n 0, 1) := by decide +kernel
theorem d_Mo_isOne_66 : decode b_Mo_isOne 66 = .ok (.iload_n 3, 1) := by decide +kernel
theorem d_Mo_isOne_67 : decode b_Mo_isOne 67 = .ok (.invokevirtual 40, 3) := by decide +kernel
theorem d_Mo_isOne_70 : decode b_Mo_isOne 70 = .ok (.istore_n 3, 1) := by decide +kernel
theorem d_Mo_isOne_71 : decode b_Mo_isOne 71 = .ok (.aload_n 0, 1) := by decide +kernel
theorem d_Mo_isOne_72 : decode b_Mo_isOne 72 = .ok (.getfield 37, 3) := by decide +kernel
theorem d_Mo_isOne_75 : decode b_Mo_isOne 75 = .ok (.istore 6, 2) := by decide +kernel
theorem d_Mo_isOne_77 : decode b_Mo_isOne 77 = .ok (.iload 6, 2) := by decide +kernel
theorem d_Mo_isOne_79 : decode b_Mo_isOne 79 = .ok (.istore 7, 2) := by decide +kernel
theorem d_Mo_isOne_81 : decode b_Mo_isOne 81 = .ok (.iload_n 3, 1) := by decide +kernel
theorem d_Mo_isOne_82 : decode b_Mo_isOne 82 = .ok (.iconst 1, 1) := by decide +kernel
theorem d_Mo_isOne_83 : decode b_Mo_isOne 83 = .ok (.iadd, 1) := by decide +kernel
theorem d_Mo_isOne_84 : decode b_Mo_isOne 84 = .ok (.aload_n 0, 1) := by decide +kernel
theorem d_Mo_isOne_85 : decode b_Mo_isOne 85 = .ok (.getfield 31, 3) := by decide +kernel
theorem d_Mo_isOne_88 : decode b_Mo_isOne 88 = .ok (.if_icmp .ge 41, 3) := by decide +kernel
theorem d_Mo_isOne_91 : decode b_Mo_isOne 91 = .ok (.aload_n 0, 1) := by decide +kernel
theorem d_Mo_isOne_92 : decode b_Mo_isOne 92 = .ok (.getfield 13, 3) := by decide +kernel
theorem d_Mo_isOne_95 : decode b_Mo_isOne 95 = .ok (.iload_n 3, 1) := by decide +kernel
theorem d_Mo_isOne_96 : decode b_Mo_isOne 96 = .ok (.iaload, 1) := by decide +kernel
theorem d_Mo_isOne_97 : decode b_Mo_isOne 97 = .ok (.bipush 45, 2) := by decide +kernel
theorem d_Mo_isOne_99 : decode b_Mo_isOne 99 = .ok (.if_icmp .ne 30, 3) := by decide +kernel
theorem d_Mo_isOne_102 : decode b_Mo_isOne 102 = .ok (.aload_n 0, 1) := by decide +kernel
theorem d_Mo_isOne_103 : decode b_Mo_isOne 103 = .ok (.getfield 13, 3) := by decide +kernel
theorem d_Mo_isOne_106 : decode b_Mo_isOne 106 = .ok (.iload_n 3, 1) := by decide +kernel
theorem d_Mo_isOne_107 : decode b_Mo_isOne 107 = .ok (.iconst 1, 1) := by decide +kernel
theorem d_Mo_isOne_108 : decode b_Mo_isOne 108 = .ok (.iadd, 1) := by decide +kernel
theorem d_Mo_isOne_109 : decode b_Mo_isOne 109 = .ok (.iaload, 1) := by decide +kernel
theorem d_Mo_isOne_110 : decode b_Mo_isOne 110 = .ok (.bipush 93, 2) := by decide +kernel
theorem d_Mo_isOne_112 : decode b_Mo_isOne 112 = .ok (.if_icmp .eq 17, 3) := by decide +kernel
theorem d_Mo_isOne_115 : decode b_Mo_isOne 115 = .ok (.aload_n 0, 1) := by decide +kernel
theorem d_Mo_isOne_116 : decode b_Mo_isOne 116 = .ok (.iload_n 3, 1) := by decide +kernel
theorem d_Mo_isOne_117 : decode b_Mo_isOne 117 = .ok (.iconst 1, 1) := by decide +kernel
theorem d_Mo_isOne_118 : decode b_Mo_isOne 118 = .ok (.iadd, 1) := by decide +kernel
theorem d_Mo_isOne_119 : decode b_Mo_isOne 119 = .ok (.invokevirtual 40, 3) := by decide +kernel
theorem d_Mo_isOne_122 : decode b_Mo_isOne 122 = .ok (.istore_n 3, 1) := by decide +kernel
theorem d_Mo_isOne_123 : decode b_Mo_isOne 123 = .ok (.aload_n 0, 1) := by decide +kernel
theorem d_Mo_isOne_124 : decode b_Mo_isOne 124 = .ok (.getfield 37, 3) := by decide +kernel
theorem d_Mo_isOne_127 : decode b_Mo_isOne 127 = .ok (.istore 7, 2) := by decide +kernel
theorem d_Mo_isOne_129 : decode b_Mo_isOne 129 = .ok (.iload 5, 2) := by decide +kernel
theorem d_Mo_isOne_131 : decode b_Mo_isOne 131 = .ok (.ifCond .ne 15, 3) := by decide +kernel
theorem d_Mo_isOne_134 : decode b_Mo_isOne 134 = .ok (.iload_n 2, 1) := by decide +kernel
theorem d_Mo_isOne_135 : decode b_Mo_isOne 135 = .ok (.iload 6, 2) := by decide +kernel
theorem d_Mo_isOne_137 : decode b_Mo_isOne 137 = .ok (.if_icmp .lt 13, 3) := by decide +kernel
theorem d_Mo_isOne_140 : decode b_Mo_isOne 140 = .ok (.iload_n 2, 1) := by decide +kernel
theorem d_Mo_isOne_141 : decode b_Mo_isOne 141 = .ok (.iload 7, 2) := by decide +kernel
theorem d_Mo_isOne_143 : decode b_Mo_isOne 143 = .ok (.if_icmp .gt 7, 3) := by decide +kernel
theorem d_Mo_isOne_146 : decode b_Mo_isOne 146 = .ok (.iconst 1, 1) := by decide +kernel
theorem d_Mo_isOne_147 : decode b_Mo_isOne 147 = .ok (.goto 4, 3) := by decide +kernel
theorem d_Mo_isOne_150 : decode b_Mo_isOne 150 = .ok (.iconst 0, 1) := by decide +kernel
theorem d_Mo_isOne_151 : decode b_Mo_isOne 151 = .ok (.istore 5, 2) := by decide +kernel
theorem d_Mo_isOne_153 : decode b_Mo_isOne 153 = .ok (.goto (-107), 3) := by decide +kernel
theorem d_Mo_isOne_156 : decode b_Mo_isOne 156 = .ok (.aload_n 0, 1) := by decide +kernel
theorem d_Mo_isOne_157 : decode b_Mo_isOne 157 = .ok (.iload_n 3, 1) := by decide +kernel
theorem d_Mo_isOne_158 : decode b_Mo_isOne 158 = .ok (.aload_n 0, 1) := by decide +kernel
theorem d_Mo_isOne_159 : decode b_Mo_isOne 159 = .ok (.getfield 31, 3) := by decide +kernel
theorem d_Mo_isOne_162 : decode b_Mo_isOne 162 = .ok (.if_icmp .ge 9, 3) := by decide +kernel
theorem d_Mo_isOne_165 : decode b_Mo_isOne 165 = .ok (.iload_n 3, 1) := by decide +kernel
theorem d_Mo_isOne_166 : decode b_Mo_isOne 166 = .ok (.iconst 1, 1) := by decide +kernel
theorem d_Mo_isOne_167 : decode b_Mo_isOne 167 = .ok (.iadd, 1) := by decide +kernel
theorem d_Mo_isOne_168 : decode b_Mo_isOne 168 = .ok (.goto 4, 3) := by decide +kernel
theorem d_Mo_isOne_171 : decode b_Mo_isOne 171 = .ok (.iload_n 3, 1) := by decide +kernel
theorem d_Mo_isOne_172 : decode b_Mo_isOne 172 = .ok (.putfield 44, 3) := by decide +kernel
theorem d_Mo_isOne_175 : decode b_Mo_isOne 175 = .ok (.iload 5, 2) := by decide +kernel
theorem d_Mo_isOne_177 : decode b_Mo_isOne 177 = .ok (.iload 4, 2) := by decide +kernel
theorem d_Mo_isOne_179 : decode b_Mo_isOne 179 = .ok (.if_icmp .eq 7, 3) := by decide +kernel
theorem d_Mo_isOne_182 : decode b_Mo_isOne 182 = .ok (.iconst 1, 1) := by decide +kernel
theorem d_Mo_isOne_183 : decode b_Mo_isOne 183 = .ok (.goto 4, 3) := by decide +kernel
theorem d_Mo_isOne_186 : decode b_Mo_isOne 186 = .ok (.iconst 0, 1) := by decide +kernel
theorem d_Mo_isOne_187 : decode b_Mo_isOne 187 = .ok (.ireturn, 1) := by decide +kernel
theorem d_Mo_suits_0 : decode b_Mo_suits 0 = .ok (.aload_n 0, 1) := by decide +kernel
theorem d_Mo_suits_1 : decode b_Mo_suits 1 = .ok (.getfield 13, 3) := by decide +kernel
theorem d_Mo_suits_4 : decode b_Mo_suits 4 = .ok (.iload_n 1, 1) := by decide +kernel
theorem d_Mo_suits_5 : decode b_Mo_suits 5 = .ok (.iaload, 1) := by decide +kernel
theorem d_Mo_suits_6 : decode b_Mo_suits 6 = .ok (.bipush 91, 2) := by decide +kernel
theorem d_Mo_suits_8 : decode b_Mo_suits 8 = .ok (.if_icmp .ne 10, 3) := by decide +kernel
theorem d_Mo_suits_11 : decode b_Mo_suits 11 = .ok (.aload_n 0, 1) := by decide +kernel
theorem d_Mo_suits_12 : decode b_Mo_suits 12 = .ok (.iload_n 1, 1) := by decide +kernel
theorem d_Mo_suits_13 : decode b_Mo_suits 13 = .ok (.iload_n 2, 1) := by decide +kernel
theorem d_Mo_suits_14 : decode b_Mo_suits 14 = .ok (.invokevirtual 47, 3) := by decide +kernel
theorem d_Mo_suits_17 : decode b_Mo_suits 17 = .ok (.ireturn, 1) := by decide +kernel
theorem d_Mo_suits_18 : decode b_Mo_suits 18 = .ok (.aload_n 0, 1) := by decide +kernel
theorem d_Mo_suits_19 : decode b_Mo_suits 19 = .ok (.getfield 13, 3) := by decide +kernel
theorem d_Mo_suits_22 : decode b_Mo_suits 22 = .ok (.iload_n 1, 1) := by decide +kernel
theorem d_Mo_suits_23 : decode b_Mo_suits 23 = .ok (.iaload, 1) := by decide +kernel
theorem d_Mo_suits_24 : decode b_Mo_suits 24 = .ok (.bipush 63, 2) := by decide +kernel
theorem d_Mo_suits_26 : decode b_Mo_suits 26 = .ok (.if_icmp .ne 12, 3) := by decide +kernel
theorem d_Mo_suits_29 : decode b_Mo_suits 29 = .ok (.aload_n 0, 1) := by decide +kernel
theorem d_Mo_suits_30 : decode b_Mo_suits 30 = .ok (.iload_n 1, 1) := by decide +kernel
theorem d_Mo_suits_31 : decode b_Mo_suits 31 = .ok (.iconst 1, 1) := by decide +kernel
theorem d_Mo_suits_32 : decode b_Mo_suits 32 = .ok (.iadd, 1) := by decide +kernel
theorem d_Mo_suits_33 : decode b_Mo_suits 33 = .ok (.putfield 44, 3) := by decide +kernel
theorem d_Mo_suits_36 : decode b_Mo_suits 36 = .ok (.iconst 1, 1) := by decide +kernel
theorem d_Mo_suits_37 : decode b_Mo_suits 37 = .ok (.ireturn, 1) := by decide +kernel
theorem d_Mo_suits_38 : decode b_Mo_suits 38 = .ok (.aload_n 0, 1) := by decide +kernel
theorem d_Mo_suits_39 : decode b_Mo_suits 39 = .ok (.aload_n 0, 1) := by decide +kernel
theorem d_Mo_suits_40 : decode b_Mo_suits 40 = .ok (.iload_n 1, 1) := by decide +kernel
theorem d_Mo_suits_41 : decode b_Mo_suits 41 = .ok (.invokevirtual 40, 3) := by decide +kernel
theorem d_Mo_suits_44 : decode b_Mo_suits 44 = .ok (.putfield 44, 3) := by decide +kernel
theorem d_Mo_suits_47 : decode b_Mo_suits 47 = .ok (.aload_n 0, 1) := by decide +kernel
theorem d_Mo_suits_48 : decode b_Mo_suits 48 = .ok (.getfield 37, 3) := by decide +kernel
theorem d_Mo_suits_51 : decode b_Mo_suits 51 = .ok (.iload_n 2, 1) := by decide +kernel
theorem d_Mo_suits_52 : decode b_Mo_suits 52 = .ok (.if_icmp .ne 7, 3) := by decide +kernel
theorem d_Mo_suits_55 : decode b_Mo_suits 55 = .ok (.iconst 1, 1) := by decide +kernel
theorem d_Mo_suits_56 : decode b_Mo_suits 56 = .ok (.goto 4, 3) := by decide +kernel
theorem d_Mo_suits_59 : decode b_Mo_suits 59 = .ok (.iconst 0, 1) := by decide +kernel
theorem d_Mo_suits_60 : decode b_Mo_suits 60 = .ok (.ireturn, 1) := by decide +kernel
theorem d_Mo_reckon_0 : decode b_Mo_reckon 0 = .ok (.aload_n 0, 1) := by decide +kernel
theorem d_Mo_reckon_1 : decode b_Mo_reckon 1 = .ok (.getfield 19, 3) := by decide +kernel
theorem d_Mo_reckon_4 : decode b_Mo_reckon 4 = .ok (.iconst 0, 1) := by decide +kernel
theorem d_Mo_reckon_5 : decode b_Mo_reckon 5 = .ok (.iconst 1, 1) := by decide +kernel
theorem d_Mo_reckon_6 : decode b_Mo_reckon 6 = .ok (.bastore, 1) := by decide +kernel
theorem d_Mo_reckon_7 : decode b_Mo_reckon 7 = .ok (.iconst 1, 1) := by decide +kernel
theorem d_Mo_reckon_8 : decode b_Mo_reckon 8 = .ok (.istore_n 3, 1) := by decide +kernel
theorem d_Mo_reckon_9 : decode b_Mo_reckon 9 = .ok (.iload_n 3, 1) := by decide +kernel
theorem d_Mo_reckon_10 : decode b_Mo_reckon 10 = .ok (.iload_n 2, 1) := by decide +kernel
theorem d_Mo_reckon_11 : decode b_Mo_reckon 11 = .ok (.if_icmp .gt 16, 3) := by decide +kernel
theorem d_Mo_reckon_14 : decode b_Mo_reckon 14 = .ok (.aload_n 0, 1) := by decide +kernel
theorem d_Mo_reckon_15 : decode b_Mo_reckon 15 = .ok (.getfield 19, 3) := by decide +kernel
theorem d_Mo_reckon_18 : decode b_Mo_reckon 18 = .ok (.iload_n 3, 1) := by decide +kernel
theorem d_Mo_reckon_19 : decode b_Mo_reckon 19 = .ok (.iconst 0, 1) := by decide +kernel
theorem d_Mo_reckon_20 : decode b_Mo_reckon 20 = .ok (.bastore, 1) := by decide +kernel
theorem d_Mo_reckon_21 : decode b_Mo_reckon 21 = .ok (.iinc 3 1, 3) := by decide +kernel
theorem d_Mo_reckon_24 : decode b_Mo_reckon 24 = .ok (.goto (-15), 3) := by decide +kernel
theorem d_Mo_reckon_27 : decode b_Mo_reckon 27 = .ok (.iconst 0, 1) := by decide +kernel
theorem d_Mo_reckon_28 : decode b_Mo_reckon 28 = .ok (.istore_n 3, 1) := by decide +kernel
theorem d_Mo_reckon_29 : decode b_Mo_reckon 29 = .ok (.iload_n 3, 1) := by decide +kernel
theorem d_Mo_reckon_30 : decode b_Mo_reckon 30 = .ok (.aload_n 0, 1) := by decide +kernel
theorem d_Mo_reckon_31 : decode b_Mo_reckon 31 = .ok (.getfield 31, 3) := by decide +kernel
theorem d_Mo_reckon_34 : decode b_Mo_reckon 34 = .ok (.if_icmp .ge 148, 3) := by decide +kernel
theorem d_Mo_reckon_37 : decode b_Mo_reckon 37 = .ok (.aload_n 0, 1) := by decide +kernel
theorem d_Mo_reckon_38 : decode b_Mo_reckon 38 = .ok (.getfield 13, 3) := by decide +kernel
theorem d_Mo_reckon_41 : decode b_Mo_reckon 41 = .ok (.iload_n 3, 1) := by decide +kernel
theorem d_Mo_reckon_42 : decode b_Mo_reckon 42 = .ok (.iaload, 1) := by decide +kernel
theorem d_Mo_reckon_43 : decode b_Mo_reckon 43 = .ok (.bipush 42, 2) := by decide +kernel
theorem d_Mo_reckon_45 : decode b_Mo_reckon 45 = .ok (.if_icmp .ne 58, 3) := by decide +kernel
theorem d_Mo_reckon_48 : decode b_Mo_reckon 48 = .ok (.iconst 1, 1) := by decide +kernel
theorem d_Mo_reckon_49 : decode b_Mo_reckon 49 = .ok (.istore 4, 2) := by decide +kernel
theorem d_Mo_reckon_51 : decode b_Mo_reckon 51 = .ok (.iload 4, 2) := by decide +kernel
theorem d_Mo_reckon_53 : decode b_Mo_reckon 53 = .ok (.iload_n 2, 1) := by decide +kernel
theorem d_Mo_reckon_54 : decode b_Mo_reckon 54 = .ok (.if_icmp .gt 43, 3) := by decide +kernel
theorem d_Mo_reckon_57 : decode b_Mo_reckon 57 = .ok (.aload_n 0, 1) := by decide +kernel
theorem d_Mo_reckon_58 : decode b_Mo_reckon 58 = .ok (.getfield 19, 3) := by decide +kernel
theorem d_Mo_reckon_61 : decode b_Mo_reckon 61 = .ok (.iload 4, 2) := by decide +kernel
theorem d_Mo_reckon_63 : decode b_Mo_reckon 63 = .ok (.aload_n 0, 1) := by decide +kernel
theorem d_Mo_reckon_64 : decode b_Mo_reckon 64 = .ok (.getfield 19, 3) := by decide +kernel
theorem d_Mo_reckon_67 : decode b_Mo_reckon 67 = .ok (.iload 4, 2) := by decide +kernel
theorem d_Mo_reckon_69 : decode b_Mo_reckon 69 = .ok (.baload, 1) := by decide +kernel
theorem d_Mo_reckon_70 : decode b_Mo_reckon 70 = .ok (.ifCond .ne 15, 3) := by decide +kernel
theorem d_Mo_reckon_73 : decode b_Mo_reckon 73 = .ok (.aload_n 0, 1) := by decide +kernel
theorem d_Mo_reckon_74 : decode b_Mo_reckon 74 = .ok (.getfield 19, 3) := by decide +kernel
theorem d_Mo_reckon_77 : decode b_Mo_reckon 77 = .ok (.iload 4, 2) := by decide +kernel
theorem d_Mo_reckon_79 : decode b_Mo_reckon 79 = .ok (.iconst 1, 1) := by decide +kernel
theorem d_Mo_reckon_80 : decode b_Mo_reckon 80 = .ok (.isub, 1) := by decide +kernel
theorem d_Mo_reckon_81 : decode b_Mo_reckon 81 = .ok (.baload, 1) := by decide +kernel
theorem d_Mo_reckon_82 : decode b_Mo_reckon 82 = .ok (.ifCond .eq 7, 3) := by decide +kernel
theorem d_Mo_reckon_85 : decode b_Mo_reckon 85 = .ok (.iconst 1, 1) := by decide +kernel
theorem d_Mo_reckon_86 : decode b_Mo_reckon 86 = .ok (.goto 4, 3) := by decide +kernel
theorem d_Mo_reckon_89 : decode b_Mo_reckon 89 = .ok (.iconst 0, 1) := by decide +kernel
theorem d_Mo_reckon_90 : decode b_Mo_reckon 90 = .ok (.bastore, 1) := by decide +kernel
theorem d_Mo_reckon_91 : decode b_Mo_reckon 91 = .ok (.iinc 4 1, 3) := by decide +kernel
theorem d_Mo_reckon_94 : decode b_Mo_reckon 94 = .ok (.goto (-43), 3) := by decide +kernel
theorem d_Mo_reckon_97 : decode b_Mo_reckon 97 = .ok (.iinc 3 1, 3) := by decide +kernel
theorem d_Mo_reckon_100 : decode b_Mo_reckon 100 = .ok (.goto (-71), 3) := by decide +kernel
theorem d_Mo_reckon_103 : decode b_Mo_reckon 103 = .ok (.iload_n 2, 1) := by decide +kernel
theorem d_Mo_reckon_104 : decode b_Mo_reckon 104 = .ok (.istore 4, 2) := by decide +kernel
theorem d_Mo_reckon_106 : decode b_Mo_reckon 106 = .ok (.iload 4, 2) := by decide +kernel
theorem d_Mo_reckon_108 : decode b_Mo_reckon 108 = .ok (.ifCond .le 52, 3) := by decide +kernel
theorem d_Mo_reckon_111 : decode b_Mo_reckon 111 = .ok (.aload_n 0, 1) := by decide +kernel
theorem d_Mo_reckon_112 : decode b_Mo_reckon 112 = .ok (.getfield 19, 3) := by decide +kernel
theorem d_Mo_reckon_115 : decode b_Mo_reckon 115 = .ok (.iload 4, 2) := by decide +kernel
theorem d_Mo_reckon_117 : decode b_Mo_reckon 117 = .ok (.aload_n 0, 1) := by decide +kernel
theorem d_Mo_reckon_118 : decode b_Mo_reckon 118 = .ok (.getfield 19, 3) := by decide +kernel
theorem d_Mo_reckon_121 : decode b_Mo_reckon 121 = .ok (.iload 4, 2) := by decide +kernel
theorem d_Mo_reckon_123 : decode b_Mo_reckon 123 = .ok (.iconst 1, 1) := by decide +kernel
theorem d_Mo_reckon_124 : decode b_Mo_reckon 124 = .ok (.isub, 1) := by decide +kernel
theorem d_Mo_reckon_125 : decode b_Mo_reckon 125 = .ok (.baload, 1) := by decide +kernel
theorem d_Mo_reckon_126 : decode b_Mo_reckon 126 = .ok (.ifCond .eq 26, 3) := by decide +kernel
theorem d_Mo_reckon_129 : decode b_Mo_reckon 129 = .ok (.aload_n 0, 1) := by decide +kernel
theorem d_Mo_reckon_130 : decode b_Mo_reckon 130 = .ok (.iload_n 3, 1) := by decide +kernel
theorem d_Mo_reckon_131 : decode b_Mo_reckon 131 = .ok (.aload_n 0, 1) := by decide +kernel
theorem d_Mo_reckon_132 : decode b_Mo_reckon 132 = .ok (.getfield 16, 3) := by decide +kernel
theorem d_Mo_reckon_135 : decode b_Mo_reckon 135 = .ok (.iload_n 1, 1) := by decide +kernel
theorem d_Mo_reckon_136 : decode b_Mo_reckon 136 = .ok (.iload 4, 2) := by decide +kernel
theorem d_Mo_reckon_138 : decode b_Mo_reckon 138 = .ok (.iadd, 1) := by decide +kernel
theorem d_Mo_reckon_139 : decode b_Mo_reckon 139 = .ok (.iconst 1, 1) := by decide +kernel
theorem d_Mo_reckon_140 : decode b_Mo_reckon 140 = .ok (.isub, 1) := by decide +kernel
theorem d_Mo_reckon_141 : decode b_Mo_reckon 141 = .ok (.iaload, 1) := by decide +kernel
theorem d_Mo_reckon_142 : decode b_Mo_reckon 142 = .ok (.invokevirtual 51, 3) := by decide +kernel
theorem d_Mo_reckon_145 : decode b_Mo_reckon 145 = .ok (.ifCond .eq 7, 3) := by decide +kernel
theorem d_Mo_reckon_148 : decode b_Mo_reckon 148 = .ok (.iconst 1, 1) := by decide +kernel
theorem d_Mo_reckon_149 : decode b_Mo_reckon 149 = .ok (.goto 4, 3) := by decide +kernel
theorem d_Mo_reckon_152 : decode b_Mo_reckon 152 = .ok (.iconst 0, 1) := by decide +kernel
theorem d_Mo_reckon_153 : decode b_Mo_reckon 153 = .ok (.bastore, 1) := by decide +kernel
theorem d_Mo_reckon_154 : decode b_Mo_reckon 154 = .ok (.iinc 4 (-1), 3) := by decide +kernel
theorem d_Mo_reckon_157 : decode b_Mo_reckon 157 = .ok (.goto (-51), 3) := by decide +kernel
theorem d_Mo_reckon_160 : decode b_Mo_reckon 160 = .ok (.aload_n 0, 1) := by decide +kernel
theorem d_Mo_reckon_161 : decode b_Mo_reckon 161 = .ok (.getfield 19, 3) := by decide +kernel
theorem d_Mo_reckon_164 : decode b_Mo_reckon 164 = .ok (.iconst 0, 1) := by decide +kernel
theorem d_Mo_reckon_165 : decode b_Mo_reckon 165 = .ok (.iconst 0, 1) := by decide +kernel
theorem d_Mo_reckon_166 : decode b_Mo_reckon 166 = .ok (.bastore, 1) := by decide +kernel
theorem d_Mo_reckon_167 : decode b_Mo_reckon 167 = .ok (.aload_n 0, 1) := by decide +kernel
theorem d_Mo_reckon_168 : decode b_Mo_reckon 168 = .ok (.iload_n 3, 1) := by decide +kernel
theorem d_Mo_reckon_169 : decode b_Mo_reckon 169 = .ok (.iconst 0, 1) := by decide +kernel
theorem d_Mo_reckon_170 : decode b_Mo_reckon 170 = .ok (.invokevirtual 51, 3) := by decide +kernel
theorem d_Mo_reckon_173 : decode b_Mo_reckon 173 = .ok (.pop, 1) := by decide +kernel
theorem d_Mo_reckon_174 : decode b_Mo_reckon 174 = .ok (.aload_n 0, 1) := by decide +kernel
theorem d_Mo_reckon_175 : decode b_Mo_reckon 175 = .ok (.getfield 44, 3) := by decide +kernel
theorem d_Mo_reckon_178 : decode b_Mo_reckon 178 = .ok (.istore_n 3, 1) := by decide +kernel
theorem d_Mo_reckon_179 : decode b_Mo_reckon 179 = .ok (.goto (-150), 3) := by decide +kernel
theorem d_Mo_reckon_182 : decode b_Mo_reckon 182 = .ok (.return_, 1) := by decide +kernel
theorem d_Mo_fits_0 : decode b_Mo_fits 0 = .ok (.aload_n 0, 1) := by decide +kernel
theorem d_Mo_fits_1 : decode b_Mo_fits 1 = .ok (.iconst 0, 1) := by decide +kernel
theorem d_Mo_fits_2 : decode b_Mo_fits 2 = .ok (.aload_n 0, 1) := by decide +kernel
theorem d_Mo_fits_3 : decode b_Mo_fits 3 = .ok (.getfield 34, 3) := by decide +kernel
theorem d_Mo_fits_6 : decode b_Mo_fits 6 = .ok (.invokevirtual 54, 3) := by decide +kernel
theorem d_Mo_fits_9 : decode b_Mo_fits 9 = .ok (.aload_n 0, 1) := by decide +kernel
theorem d_Mo_fits_10 : decode b_Mo_fits 10 = .ok (.getfield 19, 3) := by decide +kernel
theorem d_Mo_fits_13 : decode b_Mo_fits 13 = .ok (.aload_n 0, 1) := by decide +kernel
theorem d_Mo_fits_14 : decode b_Mo_fits 14 = .ok (.getfield 34, 3) := by decide +kernel
theorem d_Mo_fits_17 : decode b_Mo_fits 17 = .ok (.baload, 1) := by decide +kernel
theorem d_Mo_fits_18 : decode b_Mo_fits 18 = .ok (.ireturn, 1) := by decide +kernel
theorem d_Mo_fitsPart_0 : decode b_Mo_fitsPart 0 = .ok (.iload_n 1, 1) := by decide +kernel
theorem d_Mo_fitsPart_1 : decode b_Mo_fitsPart 1 = .ok (.ifCond .lt 25, 3) := by decide +kernel
theorem d_Mo_fitsPart_4 : decode b_Mo_fitsPart 4 = .ok (.iload_n 2, 1) := by decide +kernel
theorem d_Mo_fitsPart_5 : decode b_Mo_fitsPart 5 = .ok (.ifCond .lt 21, 3) := by decide +kernel
theorem d_Mo_fitsPart_8 : decode b_Mo_fitsPart 8 = .ok (.iload_n 1, 1) := by decide +kernel
theorem d_Mo_fitsPart_9 : decode b_Mo_fitsPart 9 = .ok (.aload_n 0, 1) := by decide +kernel
theorem d_Mo_fitsPart_10 : decode b_Mo_fitsPart 10 = .ok (.getfield 34, 3) := by decide +kernel
theorem d_Mo_fitsPart_13 : decode b_Mo_fitsPart 13 = .ok (.if_icmp .gt 13, 3) := by decide +kernel
theorem d_Mo_fitsPart_16 : decode b_Mo_fitsPart 16 = .ok (.iload_n 2, 1) := by decide +kernel
theorem d_Mo_fitsPart_17 : decode b_Mo_fitsPart 17 = .ok (.aload_n 0, 1) := by decide +kernel
theorem d_Mo_fitsPart_18 : decode b_Mo_fitsPart 18 = .ok (.getfield 34, 3) := by decide +kernel
theorem d_Mo_fitsPart_21 : decode b_Mo_fitsPart 21 = .ok (.iload_n 1, 1) := by decide +kernel
theorem d_Mo_fitsPart_22 : decode b_Mo_fitsPart 22 = .ok (.isub, 1) := by decide +kernel
theorem d_Mo_fitsPart_23 : decode b_Mo_fitsPart 23 = .ok (.if_icmp .le 5, 3) := by decide +kernel
theorem d_Mo_fitsPart_26 : decode b_Mo_fitsPart 26 = .ok (.iconst 0, 1) := by decide +kernel
theorem d_Mo_fitsPart_27 : decode b_Mo_fitsPart 27 = .ok (.ireturn, 1) := by decide +kernel
theorem d_Mo_fitsPart_28 : decode b_Mo_fitsPart 28 = .ok (.aload_n 0, 1) := by decide +kernel
theorem d_Mo_fitsPart_29 : decode b_Mo_fitsPart 29 = .ok (.iload_n 1, 1) := by decide +kernel
theorem d_Mo_fitsPart_30 : decode b_Mo_fitsPart 30 = .ok (.iload_n 2, 1) := by decide +kernel
theorem d_Mo_fitsPart_31 : decode b_Mo_fitsPart 31 = .ok (.invokevirtual 54, 3) := by decide +kernel
theorem d_Mo_fitsPart_34 : decode b_Mo_fitsPart 34 = .ok (.aload_n 0, 1) := by decide +kernel
theorem d_Mo_fitsPart_35 : decode b_Mo_fitsPart 35 = .ok (.getfield 19, 3) := by decide +kernel
theorem d_Mo_fitsPart_38 : decode b_Mo_fitsPart 38 = .ok (.iload_n 2, 1) := by decide +kernel
theorem d_Mo_fitsPart_39 : decode b_Mo_fitsPart 39 = .ok (.baload, 1) := by decide +kernel
theorem d_Mo_fitsPart_40 : decode b_Mo_fitsPart 40 = .ok (.ireturn, 1) := by decide +kernel
theorem d_Mo_beginnings_0 : decode b_Mo_beginnings 0 = .ok (.aload_n 0, 1) := by decide +kernel
theorem d_Mo_beginnings_1 : decode b_Mo_beginnings 1 = .ok (.iconst 0, 1) := by decide +kernel
theorem d_Mo_beginnings_2 : decode b_Mo_beginnings 2 = .ok (.aload_n 0, 1) := by decide +kernel
theorem d_Mo_beginnings_3 : decode b_Mo_beginnings 3 = .ok (.getfield 34, 3) := by decide +kernel
theorem d_Mo_beginnings_6 : decode b_Mo_beginnings 6 = .ok (.invokevirtual 54, 3) := by decide +kernel
theorem d_Mo_beginnings_9 : decode b_Mo_beginnings 9 = .ok (.iconst 0, 1) := by decide +kernel
theorem d_Mo_beginnings_10 : decode b_Mo_beginnings 10 = .ok (.istore_n 1, 1) := by decide +kernel
theorem d_Mo_beginnings_11 : decode b_Mo_beginnings 11 = .ok (.iconst 0, 1) := by decide +kernel
theorem d_Mo_beginnings_12 : decode b_Mo_beginnings 12 = .ok (.istore_n 2, 1) := by decide +kernel
theorem d_Mo_beginnings_13 : decode b_Mo_beginnings 13 = .ok (.iload_n 2, 1) := by decide +kernel
theorem d_Mo_beginnings_14 : decode b_Mo_beginnings 14 = .ok (.aload_n 0, 1) := by decide +kernel
theorem d_Mo_beginnings_15 : decode b_Mo_beginnings 15 = .ok (.getfield 34, 3) := by decide +kernel
theorem d_Mo_beginnings_18 : decode b_Mo_beginnings 18 = .ok (.if_icmp .gt 26, 3) := by decide +kernel
theorem d_Mo_beginnings_21 : decode b_Mo_beginnings 21 = .ok (.iload_n 1, 1) := by decide +kernel
theorem d_Mo_beginnings_22 : decode b_Mo_beginnings 22 = .ok (.aload_n 0, 1) := by decide +kernel
theorem d_Mo_beginnings_23 : decode b_Mo_beginnings 23 = .ok (.getfield 19, 3) := by decide +kernel
theorem d_Mo_beginnings_26 : decode b_Mo_beginnings 26 = .ok (.iload_n 2, 1) := by decide +kernel
theorem d_Mo_beginnings_27 : decode b_Mo_beginnings 27 = .ok (.baload, 1) := by decide +kernel
theorem d_Mo_beginnings_28 : decode b_Mo_beginnings 28 = .ok (.ifCond .eq 7, 3) := by decide +kernel
theorem d_Mo_beginnings_31 : decode b_Mo_beginnings 31 = .ok (.iconst 1, 1) := by decide +kernel
theorem d_Mo_beginnings_32 : decode b_Mo_beginnings 32 = .ok (.goto 4, 3) := by decide +kernel
theorem d_Mo_beginnings_35 : decode b_Mo_beginnings 35 = .ok (.iconst 0, 1) := by decide +kernel
theorem d_Mo_beginnings_36 : decode b_Mo_beginnings 36 = .ok (.iadd, 1) := by decide +kernel
theorem d_Mo_beginnings_37 : decode b_Mo_beginnings 37 = .ok (.istore_n 1, 1) := by decide +kernel
theorem d_Mo_beginnings_38 : decode b_Mo_beginnings 38 = .ok (.iinc 2 1, 3) := by decide +kernel
theorem d_Mo_beginnings_41 : decode b_Mo_beginnings 41 = .ok (.goto (-28), 3) := by decide +kernel
theorem d_Mo_beginnings_44 : decode b_Mo_beginnings 44 = .ok (.iload_n 1, 1) := by decide +kernel
theorem d_Mo_beginnings_45 : decode b_Mo_beginnings 45 = .ok (.ireturn, 1) := by decide +kernel
end
section
theorem d_law_0 : decode code 0 = .ok (.new 7, 3) := by decide +kernel
theorem d_law_3 : decode code 3 = .ok (.dup, 1) := by decide +kernel
theorem d_law_4 : decode code 4 = .ok (.invokespecial 9, 3) := by decide +kernel
theorem d_law_7 : decode code 7 = .ok (.astore_n 1, 1) := by decide +kernel
theorem d_law_8 : decode code 8 = .ok (.new 10, 3) := by decide +kernel
theorem d_law_11 : decode code 11 = .ok (.dup, 1) := by decide +kernel
theorem d_law_12 : decode code 12 = .ok (.invokespecial 12, 3) := by decide +kernel
theorem d_law_15 : decode code 15 = .ok (.astore_n 2, 1) := by decide +kernel
theorem d_law_16 : decode code 16 = .ok (.iconst 0, 1) := by decide +kernel
theorem d_law_17 : decode code 17 = .ok (.istore_n 3, 1) := by decide +kernel
theorem d_law_18 : decode code 18 = .ok (.iload_n 3, 1) := by decide +kernel
theorem d_law_19 : decode code 19 = .ok (.aload_n 0, 1) := by decide +kernel
theorem d_law_20 : decode code 20 = .ok (.arraylength, 1) := by decide +kernel
theorem d_law_21 : decode code 21 = .ok (.bipush 6, 2) := by decide +kernel
theorem d_law_23 : decode code 23 = .ok (.isub, 1) := by decide +kernel
theorem d_law_24 : decode code 24 = .ok (.if_icmp .gt 229, 3) := by decide +kernel
theorem d_law_27 : decode code 27 = .ok (.aload_n 0, 1) := by decide +kernel
theorem d_law_28 : decode code 28 = .ok (.iload_n 3, 1) := by decide +kernel
theorem d_law_29 : decode code 29 = .ok (.iaload, 1) := by decide +kernel
theorem d_law_30 : decode code 30 = .ok (.bipush 7, 2) := by decide +kernel
theorem d_law_32 : decode code 32 = .ok (.iand, 1) := by decide +kernel
theorem d_law_33 : decode code 33 = .ok (.tableswitch 214 0 6 #[43, 106, 129, 142, 155, 168, 201], 43) := by decide +kernel
theorem d_law_76 : decode code 76 = .ok (.aload_n 1, 1) := by decide +kernel
theorem d_law_77 : decode code 77 = .ok (.aload_n 0, 1) := by decide +kernel
theorem d_law_78 : decode code 78 = .ok (.iload_n 3, 1) := by decide +kernel
theorem d_law_79 : decode code 79 = .ok (.iconst 1, 1) := by decide +kernel
theorem d_law_80 : decode code 80 = .ok (.iadd, 1) := by decide +kernel
theorem d_law_81 : decode code 81 = .ok (.iaload, 1) := by decide +kernel
theorem d_law_82 : decode code 82 = .ok (.aload_n 0, 1) := by decide +kernel
theorem d_law_83 : decode code 83 = .ok (.iload_n 3, 1) := by decide +kernel
theorem d_law_84 : decode code 84 = .ok (.iconst 2, 1) := by decide +kernel
theorem d_law_85 : decode code 85 = .ok (.iadd, 1) := by decide +kernel
theorem d_law_86 : decode code 86 = .ok (.iaload, 1) := by decide +kernel
theorem d_law_87 : decode code 87 = .ok (.aload_n 0, 1) := by decide +kernel
theorem d_law_88 : decode code 88 = .ok (.iload_n 3, 1) := by decide +kernel
theorem d_law_89 : decode code 89 = .ok (.iconst 3, 1) := by decide +kernel
theorem d_law_90 : decode code 90 = .ok (.iadd, 1) := by decide +kernel
theorem d_law_91 : decode code 91 = .ok (.iaload, 1) := by decide +kernel
theorem d_law_92 : decode code 92 = .ok (.aload_n 0, 1) := by decide +kernel
theorem d_law_93 : decode code 93 = .ok (.iload_n 3, 1) := by decide +kernel
theorem d_law_94 : decode code 94 = .ok (.iconst 4, 1) := by decide +kernel
theorem d_law_95 : decode code 95 = .ok (.iadd, 1) := by decide +kernel
theorem d_law_96 : decode code 96 = .ok (.iaload, 1) := by decide +kernel
theorem d_law_97 : decode code 97 = .ok (.aload_n 0, 1) := by decide +kernel
theorem d_law_98 : decode code 98 = .ok (.iload_n 3, 1) := by decide +kernel
theorem d_law_99 : decode code 99 = .ok (.iconst 5, 1) := by decide +kernel
theorem d_law_100 : decode code 100 = .ok (.iadd, 1) := by decide +kernel
theorem d_law_101 : decode code 101 = .ok (.iaload, 1) := by decide +kernel
theorem d_law_102 : decode code 102 = .ok (.invokevirtual 13, 3) := by decide +kernel
theorem d_law_105 : decode code 105 = .ok (.aload_n 2, 1) := by decide +kernel
theorem d_law_106 : decode code 106 = .ok (.aload_n 0, 1) := by decide +kernel
theorem d_law_107 : decode code 107 = .ok (.iload_n 3, 1) := by decide +kernel
theorem d_law_108 : decode code 108 = .ok (.iconst 1, 1) := by decide +kernel
theorem d_law_109 : decode code 109 = .ok (.iadd, 1) := by decide +kernel
theorem d_law_110 : decode code 110 = .ok (.iaload, 1) := by decide +kernel
theorem d_law_111 : decode code 111 = .ok (.aload_n 0, 1) := by decide +kernel
theorem d_law_112 : decode code 112 = .ok (.iload_n 3, 1) := by decide +kernel
theorem d_law_113 : decode code 113 = .ok (.iconst 2, 1) := by decide +kernel
theorem d_law_114 : decode code 114 = .ok (.iadd, 1) := by decide +kernel
theorem d_law_115 : decode code 115 = .ok (.iaload, 1) := by decide +kernel
theorem d_law_116 : decode code 116 = .ok (.aload_n 0, 1) := by decide +kernel
theorem d_law_117 : decode code 117 = .ok (.iload_n 3, 1) := by decide +kernel
theorem d_law_118 : decode code 118 = .ok (.iconst 3, 1) := by decide +kernel
theorem d_law_119 : decode code 119 = .ok (.iadd, 1) := by decide +kernel
theorem d_law_120 : decode code 120 = .ok (.iaload, 1) := by decide +kernel
theorem d_law_121 : decode code 121 = .ok (.aload_n 0, 1) := by decide +kernel
theorem d_law_122 : decode code 122 = .ok (.iload_n 3, 1) := by decide +kernel
theorem d_law_123 : decode code 123 = .ok (.iconst 4, 1) := by decide +kernel
theorem d_law_124 : decode code 124 = .ok (.iadd, 1) := by decide +kernel
theorem d_law_125 : decode code 125 = .ok (.iaload, 1) := by decide +kernel
theorem d_law_126 : decode code 126 = .ok (.aload_n 0, 1) := by decide +kernel
theorem d_law_127 : decode code 127 = .ok (.iload_n 3, 1) := by decide +kernel
theorem d_law_128 : decode code 128 = .ok (.iconst 5, 1) := by decide +kernel
theorem d_law_129 : decode code 129 = .ok (.iadd, 1) := by decide +kernel
theorem d_law_130 : decode code 130 = .ok (.iaload, 1) := by decide +kernel
theorem d_law_131 : decode code 131 = .ok (.invokevirtual 17, 3) := by decide +kernel
theorem d_law_134 : decode code 134 = .ok (.if_icmp .eq 113, 3) := by decide +kernel
theorem d_law_137 : decode code 137 = .ok (.iconst 0, 1) := by decide +kernel
theorem d_law_138 : decode code 138 = .ok (.ireturn, 1) := by decide +kernel
theorem d_law_139 : decode code 139 = .ok (.aload_n 1, 1) := by decide +kernel
theorem d_law_140 : decode code 140 = .ok (.aload_n 0, 1) := by decide +kernel
theorem d_law_141 : decode code 141 = .ok (.iload_n 3, 1) := by decide +kernel
theorem d_law_142 : decode code 142 = .ok (.iconst 1, 1) := by decide +kernel
theorem d_law_143 : decode code 143 = .ok (.iadd, 1) := by decide +kernel
theorem d_law_144 : decode code 144 = .ok (.iaload, 1) := by decide +kernel
theorem d_law_145 : decode code 145 = .ok (.invokevirtual 18, 3) := by decide +kernel
theorem d_law_148 : decode code 148 = .ok (.aload_n 2, 1) := by decide +kernel
theorem d_law_149 : decode code 149 = .ok (.aload_n 0, 1) := by decide +kernel
theorem d_law_150 : decode code 150 = .ok (.iload_n 3, 1) := by decide +kernel
theorem d_law_151 : decode code 151 = .ok (.iconst 1, 1) := by decide +kernel
theorem d_law_152 : decode code 152 = .ok (.iadd, 1) := by decide +kernel
theorem d_law_153 : decode code 153 = .ok (.iaload, 1) := by decide +kernel
theorem d_law_154 : decode code 154 = .ok (.invokevirtual 22, 3) := by decide +kernel
theorem d_law_157 : decode code 157 = .ok (.if_icmp .eq 90, 3) := by decide +kernel
theorem d_law_160 : decode code 160 = .ok (.iconst 0, 1) := by decide +kernel
theorem d_law_161 : decode code 161 = .ok (.ireturn, 1) := by decide +kernel
theorem d_law_162 : decode code 162 = .ok (.aload_n 1, 1) := by decide +kernel
theorem d_law_163 : decode code 163 = .ok (.invokevirtual 23, 3) := by decide +kernel
theorem d_law_166 : decode code 166 = .ok (.aload_n 2, 1) := by decide +kernel
theorem d_law_167 : decode code 167 = .ok (.invokevirtual 27, 3) := by decide +kernel
theorem d_law_170 : decode code 170 = .ok (.if_icmp .eq 77, 3) := by decide +kernel
theorem d_law_173 : decode code 173 = .ok (.iconst 0, 1) := by decide +kernel
theorem d_law_174 : decode code 174 = .ok (.ireturn, 1) := by decide +kernel
theorem d_law_175 : decode code 175 = .ok (.aload_n 1, 1) := by decide +kernel
theorem d_law_176 : decode code 176 = .ok (.invokevirtual 28, 3) := by decide +kernel
theorem d_law_179 : decode code 179 = .ok (.aload_n 2, 1) := by decide +kernel
theorem d_law_180 : decode code 180 = .ok (.invokevirtual 31, 3) := by decide +kernel
theorem d_law_183 : decode code 183 = .ok (.if_icmp .eq 64, 3) := by decide +kernel
theorem d_law_186 : decode code 186 = .ok (.iconst 0, 1) := by decide +kernel
theorem d_law_187 : decode code 187 = .ok (.ireturn, 1) := by decide +kernel
theorem d_law_188 : decode code 188 = .ok (.aload_n 1, 1) := by decide +kernel
theorem d_law_189 : decode code 189 = .ok (.invokevirtual 32, 3) := by decide +kernel
theorem d_law_192 : decode code 192 = .ok (.aload_n 2, 1) := by decide +kernel
theorem d_law_193 : decode code 193 = .ok (.invokevirtual 36, 3) := by decide +kernel
theorem d_law_196 : decode code 196 = .ok (.if_icmp .eq 51, 3) := by decide +kernel
theorem d_law_199 : decode code 199 = .ok (.iconst 0, 1) := by decide +kernel
theorem d_law_200 : decode code 200 = .ok (.ireturn, 1) := by decide +kernel
theorem d_law_201 : decode code 201 = .ok (.aload_n 1, 1) := by decide +kernel
theorem d_law_202 : decode code 202 = .ok (.aload_n 0, 1) := by decide +kernel
theorem d_law_203 : decode code 203 = .ok (.iload_n 3, 1) := by decide +kernel
theorem d_law_204 : decode code 204 = .ok (.iconst 1, 1) := by decide +kernel
theorem d_law_205 : decode code 205 = .ok (.iadd, 1) := by decide +kernel
theorem d_law_206 : decode code 206 = .ok (.iaload, 1) := by decide +kernel
theorem d_law_207 : decode code 207 = .ok (.aload_n 0, 1) := by decide +kernel
theorem d_law_208 : decode code 208 = .ok (.iload_n 3, 1) := by decide +kernel
theorem d_law_209 : decode code 209 = .ok (.iconst 2, 1) := by decide +kernel
theorem d_law_210 : decode code 210 = .ok (.iadd, 1) := by decide +kernel
theorem d_law_211 : decode code 211 = .ok (.iaload, 1) := by decide +kernel
theorem d_law_212 : decode code 212 = .ok (.invokevirtual 37, 3) := by decide +kernel
theorem d_law_215 : decode code 215 = .ok (.aload_n 2, 1) := by decide +kernel
theorem d_law_216 : decode code 216 = .ok (.aload_n 0, 1) := by decide +kernel
theorem d_law_217 : decode code 217 = .ok (.iload_n 3, 1) := by decide +kernel
theorem d_law_218 : decode code 218 = .ok (.iconst 1, 1) := by decide +kernel
theorem d_law_219 : decode code 219 = .ok (.iadd, 1) := by decide +kernel
theorem d_law_220 : decode code 220 = .ok (.iaload, 1) := by decide +kernel
theorem d_law_221 : decode code 221 = .ok (.aload_n 0, 1) := by decide +kernel
theorem d_law_222 : decode code 222 = .ok (.iload_n 3, 1) := by decide +kernel
theorem d_law_223 : decode code 223 = .ok (.iconst 2, 1) := by decide +kernel
theorem d_law_224 : decode code 224 = .ok (.iadd, 1) := by decide +kernel
theorem d_law_225 : decode code 225 = .ok (.iaload, 1) := by decide +kernel
theorem d_law_226 : decode code 226 = .ok (.invokevirtual 41, 3) := by decide +kernel
theorem d_law_229 : decode code 229 = .ok (.if_icmp .eq 18, 3) := by decide +kernel
theorem d_law_232 : decode code 232 = .ok (.iconst 0, 1) := by decide +kernel
theorem d_law_233 : decode code 233 = .ok (.ireturn, 1) := by decide +kernel
theorem d_law_234 : decode code 234 = .ok (.aload_n 1, 1) := by decide +kernel
theorem d_law_235 : decode code 235 = .ok (.invokevirtual 42, 3) := by decide +kernel
theorem d_law_238 : decode code 238 = .ok (.aload_n 2, 1) := by decide +kernel
theorem d_law_239 : decode code 239 = .ok (.invokevirtual 45, 3) := by decide +kernel
theorem d_law_242 : decode code 242 = .ok (.if_icmp .eq 5, 3) := by decide +kernel
theorem d_law_245 : decode code 245 = .ok (.iconst 0, 1) := by decide +kernel
theorem d_law_246 : decode code 246 = .ok (.ireturn, 1) := by decide +kernel
theorem d_law_247 : decode code 247 = .ok (.iinc 3 6, 3) := by decide +kernel
theorem d_law_250 : decode code 250 = .ok (.goto (-232), 3) := by decide +kernel
theorem d_law_253 : decode code 253 = .ok (.iconst 1, 1) := by decide +kernel
theorem d_law_254 : decode code 254 = .ok (.ireturn, 1) := by decide +kernel
end
section
-- PURE: a pattern of n bytes P; its things, one behind the other; what fits
def b8 (k : Nat) : Int32 := (nI k).toInt8.toInt32
def bF (T : Nat → Nat) : Nat → Int32 := fun k => b8 (T k)
def nF (T : Nat → Nat) : Nat → Int32 := fun k => nI (T k)
def bI (x : Bool) : Int32 := nI (cond x 1 0)
def upN (T : Nat → Nat) (k v : Nat) : Nat → Nat := fun j => if j = k then v else T j
noncomputable def wq_d (a : Prop) : Bool := @decide a (Classical.propDecidable a)
theorem wq_d_iff {a : Prop} : wq_d a = true ↔ a := by
  unfold wq_d
  exact @decide_eq_true_iff a (Classical.propDecidable a)
theorem wq_d_not {a : Prop} (h : ¬ a) : wq_d a = false := by
  cases hx : wq_d a with
  | false => rfl
  | true => exact absurd (wq_d_iff.mp hx) h
theorem wq_d_pos {a : Prop} (h : a) : wq_d a = true := wq_d_iff.mpr h
theorem wq_d_eq {a b : Prop} (h : a ↔ b) : wq_d a = wq_d b := by rw [propext h]
theorem b8_and {k : Nat} (h : k < 256) : b8 k &&& nI 255 = nI k := sc_k8 k h
theorem bF_at {T : Nat → Nat} {e q : Nat} (h : e < 2 ^ 31) (he : e = q) : bF T (nI e).toNatClampNeg = b8 (T q) := by
  rw [nI_clamp h, he]; rfl
theorem nF_at {T : Nat → Nat} {e q : Nat} (h : e < 2 ^ 31) (he : e = q) : nF T (nI e).toNatClampNeg = nI (T q) := by
  rw [nI_clamp h, he]; rfl
theorem bF_up {T : Nat → Nat} {e q v : Nat} {x : Int32} (h : e < 2 ^ 31) (he : e = q) (hx : x = b8 v) : upd (bF T) (nI e).toNatClampNeg x = bF (upN T q v) := by
  rw [nI_clamp h, he, hx]
  funext j
  by_cases hj : j = q
  · simp [upd, bF, upN, hj]
  · simp [upd, bF, upN, hj]
theorem nF_up {T : Nat → Nat} {e q v : Nat} {x : Int32} (h : e < 2 ^ 31) (he : e = q) (hx : x = nI v) : upd (nF T) (nI e).toNatClampNeg x = nF (upN T q v) := by
  rw [nI_clamp h, he, hx]
  funext j
  by_cases hj : j = q
  · simp [upd, nF, upN, hj]
  · simp [upd, nF, upN, hj]
theorem b8_of (x : Int32) : x.toInt8.toInt32 = b8 (x.toBitVec.toNat % 256) := by
  unfold b8
  congr 1
  apply Int8.toBitVec_inj.mp
  rw [Int32.toBitVec_toInt8, Int32.toBitVec_toInt8, BitVec.signExtend_eq_setWidth_of_le _ (by decide), BitVec.signExtend_eq_setWidth_of_le _ (by decide)]
  apply BitVec.eq_of_toNat_eq
  rw [BitVec.toNat_setWidth, BitVec.toNat_setWidth, pk_tn (by omega)]
  omega
theorem b8_b8 (k : Nat) : (b8 k).toInt8.toInt32 = b8 k := by
  unfold b8
  simp
theorem n255 (x : Int32) : x &&& nI 255 = nI (x.toBitVec.toNat % 256) := pk_and x 8 (by decide +kernel)
theorem ts_b {x : Bool} (h : ¬ x = false) : x = true := by cases x <;> simp_all
theorem bI_0 {x : Bool} : bI x = 0 ↔ x = false := by cases x <;> decide +kernel
theorem bI_inj {x y : Bool} : bI x = bI y ↔ x = y := by cases x <;> cases y <;> decide +kernel
theorem bI_nar (x : Bool) : narrow .boolean (.int (bI x)) = .int (bI x) := by cases x <;> rfl
theorem bI_vp (x : Bool) : vp_nar .boolean (bI x) = bI x := by cases x <;> rfl
def wq_nx (P : Nat → Nat) (n q : Nat) : Nat := if P q = 92 ∧ q + 1 < n then q + 2 else q + 1
def wq_pl (P : Nat → Nat) (n q : Nat) : Nat := if P q = 92 ∧ q + 1 < n then P (q + 1) else P q
def wq_q1 (P : Nat → Nat) (n q : Nat) : Nat := if wq_nx P n q + 1 < n ∧ P (wq_nx P n q) = 45 ∧ P (wq_nx P n q + 1) ≠ 93 then wq_nx P n (wq_nx P n q + 1) else wq_nx P n q
def wq_hi (P : Nat → Nat) (n q : Nat) : Nat := if wq_nx P n q + 1 < n ∧ P (wq_nx P n q) = 45 ∧ P (wq_nx P n q + 1) ≠ 93 then wq_pl P n (wq_nx P n q + 1) else wq_pl P n q
def wq_ok (P : Nat → Nat) (n q b : Nat) : Bool := decide (wq_pl P n q ≤ b ∧ b ≤ wq_hi P n q)
theorem wq_nx_gt (P : Nat → Nat) (n q : Nat) : q < wq_nx P n q := by unfold wq_nx; split <;> omega
theorem wq_nx_le {P : Nat → Nat} {n q : Nat} (h : q < n) : wq_nx P n q ≤ n := by unfold wq_nx; split <;> omega
theorem wq_q1_gt (P : Nat → Nat) (n q : Nat) : q < wq_q1 P n q := by
  have h1 := wq_nx_gt P n q
  have h2 := wq_nx_gt P n (wq_nx P n q + 1)
  unfold wq_q1; split <;> omega
theorem wq_q1_le {P : Nat → Nat} {n q : Nat} (h : q < n) : wq_q1 P n q ≤ n := by
  unfold wq_q1
  split
  · next hc => exact wq_nx_le hc.1
  · exact wq_nx_le h
theorem wq_pl_lt {P : Nat → Nat} (hP : ∀ k, P k < 256) (n q : Nat) : wq_pl P n q < 256 := by
  unfold wq_pl; split
  · exact hP _
  · exact hP _
theorem wq_hi_lt {P : Nat → Nat} (hP : ∀ k, P k < 256) (n q : Nat) : wq_hi P n q < 256 := by
  unfold wq_hi; split
  · exact wq_pl_lt hP _ _
  · exact wq_pl_lt hP _ _
/-- whether a byte is one of those in brackets, from a place on -/
def wq_B (P : Nat → Nat) (n b q : Nat) (is : Bool) : Bool := if h : q < n ∧ P q ≠ 93 then wq_B P n b (wq_q1 P n q) (is || wq_ok P n q b) else is
termination_by n - q
decreasing_by (have := wq_q1_gt P n q; omega)
/-- where the brackets are over, range by range -/
def wq_E (P : Nat → Nat) (n q : Nat) : Nat := if h : q < n ∧ P q ≠ 93 then wq_E P n (wq_q1 P n q) else q
termination_by n - q
decreasing_by (have := wq_q1_gt P n q; omega)
/-- the same, byte by byte -/
def wq_sk (P : Nat → Nat) (n q : Nat) : Nat := if h : q < n ∧ P q ≠ 93 then wq_sk P n (wq_nx P n q) else q
termination_by n - q
decreasing_by (have := wq_nx_gt P n q; omega)
theorem wq_B_go {P : Nat → Nat} {n b q : Nat} {is : Bool} (h1 : q < n) (h2 : P q ≠ 93) : wq_B P n b q is = wq_B P n b (wq_q1 P n q) (is || wq_ok P n q b) := by
  rw [wq_B, dif_pos ⟨h1, h2⟩]
theorem wq_B_end {P : Nat → Nat} {n b q : Nat} {is : Bool} (h : ¬ (q < n ∧ P q ≠ 93)) : wq_B P n b q is = is := by
  rw [wq_B, dif_neg h]
theorem wq_E_go {P : Nat → Nat} {n q : Nat} (h1 : q < n) (h2 : P q ≠ 93) : wq_E P n q = wq_E P n (wq_q1 P n q) := by
  rw [wq_E, dif_pos ⟨h1, h2⟩]
theorem wq_E_end {P : Nat → Nat} {n q : Nat} (h : ¬ (q < n ∧ P q ≠ 93)) : wq_E P n q = q := by
  rw [wq_E, dif_neg h]
theorem wq_sk_go {P : Nat → Nat} {n q : Nat} (h1 : q < n) (h2 : P q ≠ 93) : wq_sk P n q = wq_sk P n (wq_nx P n q) := by
  rw [wq_sk, dif_pos ⟨h1, h2⟩]
theorem wq_sk_end {P : Nat → Nat} {n q : Nat} (h : ¬ (q < n ∧ P q ≠ 93)) : wq_sk P n q = q := by
  rw [wq_sk, dif_neg h]
theorem wq_sk_in (P : Nat → Nat) (n : Nat) : ∀ k q, n - q ≤ k → q ≤ n → q ≤ wq_sk P n q ∧ wq_sk P n q ≤ n := by
  intro k
  induction k with
  | zero => intro q h1 h2; rw [wq_sk_end (by omega)]; omega
  | succ k ih =>
    intro q h1 h2
    by_cases h : q < n ∧ P q ≠ 93
    · rw [wq_sk_go h.1 h.2]
      have h3 := wq_nx_gt P n q
      have h4 := wq_nx_le (P := P) h.1
      have h5 := ih (wq_nx P n q) (by omega) h4
      omega
    · rw [wq_sk_end h]; omega
theorem wq_E_sk (P : Nat → Nat) (n : Nat) : ∀ k q, n - q ≤ k → wq_E P n q = wq_sk P n q := by
  intro k
  induction k with
  | zero => intro q h1; rw [wq_sk_end (by omega), wq_E_end (by omega)]
  | succ k ih =>
    intro q h1
    by_cases h : q < n ∧ P q ≠ 93
    · have h3 := wq_q1_gt P n q
      rw [wq_E_go h.1 h.2, ih _ (by omega), wq_sk_go h.1 h.2]
      unfold wq_q1
      split
      · next hc =>
        obtain ⟨c1, c2, c3⟩ := hc
        rw [wq_sk_go (q := wq_nx P n q) (by omega) (by rw [c2]; decide)]
        have e : wq_nx P n (wq_nx P n q) = wq_nx P n q + 1 := by
          rw [wq_nx, if_neg (fun z => by rw [c2] at z; exact absurd z.1 (by decide))]
        rw [e, wq_sk_go (q := wq_nx P n q + 1) c1 c3]
      · rfl
    · rw [wq_sk_end h, wq_E_end h]
def wq_q0 (P : Nat → Nat) (n p : Nat) : Nat := if p + 1 < n ∧ P (p + 1) = 94 then p + 2 else p + 1
def wq_ng (P : Nat → Nat) (n p : Nat) : Bool := decide (p + 1 < n ∧ P (p + 1) = 94)
theorem wq_q0_in {P : Nat → Nat} {n p : Nat} (h : p < n) : p < wq_q0 P n p ∧ wq_q0 P n p ≤ n := by unfold wq_q0; split <;> omega
/-- whether the thing at a place takes a byte -/
def wq_tk (P : Nat → Nat) (n p b : Nat) : Bool := if P p = 91 then (wq_B P n b (wq_q0 P n p) false != wq_ng P n p) else if P p = 63 then true else decide (wq_pl P n p = b)
/-- the place behind the thing at a place -/
def wq_be (P : Nat → Nat) (n p : Nat) : Nat := if P p = 91 then min (wq_sk P n (wq_q0 P n p) + 1) n else wq_nx P n p
theorem wq_be_in {P : Nat → Nat} {n p : Nat} (h : p < n) : p < wq_be P n p ∧ wq_be P n p ≤ n := by
  have h1 := wq_nx_gt P n p
  have h2 := wq_nx_le (P := P) h
  have h3 := wq_q0_in (P := P) h
  have h4 := wq_sk_in P n (n - wq_q0 P n p) (wq_q0 P n p) (Nat.le_refl _) h3.2
  unfold wq_be
  split <;> omega
/-- the things from p on fit the word's bytes w from i up to m -/
def wq_M (P : Nat → Nat) (n : Nat) (w : Nat → Nat) (m p i : Nat) : Prop := if h : p < n then (if P p = 42 then ∃ j, i ≤ j ∧ j ≤ m ∧ wq_M P n w m (p + 1) j else i < m ∧ wq_tk P n p (w i) = true ∧ wq_M P n w m (wq_be P n p) (i + 1)) else i = m
termination_by n - p
decreasing_by
  · omega
  · have := wq_be_in (P := P) h; omega
theorem wq_M_star {P : Nat → Nat} {n : Nat} {w : Nat → Nat} {m p i : Nat} (h : p < n) (h2 : P p = 42) : wq_M P n w m p i ↔ ∃ j, i ≤ j ∧ j ≤ m ∧ wq_M P n w m (p + 1) j := by
  rw [wq_M, dif_pos h, if_pos h2]
theorem wq_M_item {P : Nat → Nat} {n : Nat} {w : Nat → Nat} {m p i : Nat} (h : p < n) (h2 : P p ≠ 42) : wq_M P n w m p i ↔ i < m ∧ wq_tk P n p (w i) = true ∧ wq_M P n w m (wq_be P n p) (i + 1) := by
  rw [wq_M, dif_pos h, if_neg h2]
theorem wq_M_end {P : Nat → Nat} {n : Nat} {w : Nat → Nat} {m p i : Nat} (h : ¬ p < n) : wq_M P n w m p i ↔ i = m := by
  rw [wq_M, dif_neg h]
-- THE LATEST STAR: p, i where it stands; g = the place behind the latest star (0: none yet); t what it takes
def wq_J (P : Nat → Nat) (n : Nat) (w : Nat → Nat) (m p i g t : Nat) : Prop :=
  (wq_M P n w m 0 0 ↔ wq_M P n w m p i ∨ (0 < g ∧ ∃ k, t < k ∧ k ≤ m ∧ wq_M P n w m g k)) ∧ (0 < g → ∀ k, t < k → k ≤ m → wq_M P n w m g k → ∃ j, i ≤ j ∧ wq_M P n w m p j) ∧ p ≤ n ∧ i ≤ m ∧ t ≤ i ∧ g ≤ p
theorem wq_J_0 (P : Nat → Nat) (n : Nat) (w : Nat → Nat) (m : Nat) : wq_J P n w m 0 0 0 0 :=
  ⟨⟨Or.inl, fun h => h.elim id (fun z => absurd z.1 (Nat.lt_irrefl 0))⟩, fun h => absurd h (Nat.lt_irrefl 0), Nat.zero_le _, Nat.zero_le _, Nat.le_refl _, Nat.le_refl _⟩
theorem wq_J_star {P : Nat → Nat} {n : Nat} {w : Nat → Nat} {m p i g t : Nat} (h : wq_J P n w m p i g t) (h1 : p < n) (h2 : P p = 42) : wq_J P n w m (p + 1) i (p + 1) i := by
  obtain ⟨a1, a2, a3, a4, a5, a6⟩ := h
  refine ⟨?_, fun _ k k1 k2 k3 => ⟨k, by omega, k3⟩, by omega, a4, Nat.le_refl _, Nat.le_refl _⟩
  rw [a1, wq_M_star h1 h2]
  constructor
  · intro h
    have h3 : ∃ j, i ≤ j ∧ j ≤ m ∧ wq_M P n w m (p + 1) j := by
      rcases h with h | ⟨h3, k, k1, k2, k3⟩
      · exact h
      · obtain ⟨j, j1, j2⟩ := a2 h3 k k1 k2 k3
        obtain ⟨z, z1, z2, z3⟩ := (wq_M_star h1 h2).mp j2
        exact ⟨z, by omega, z2, z3⟩
    obtain ⟨j, j1, j2, j3⟩ := h3
    by_cases e : j = i
    · rw [e] at j3; exact Or.inl j3
    · exact Or.inr ⟨by omega, j, by omega, j2, j3⟩
  · intro h
    rcases h with h | ⟨h3, k, k1, k2, k3⟩
    · exact Or.inl ⟨i, Nat.le_refl _, a4, h⟩
    · exact Or.inl ⟨k, by omega, k2, k3⟩
theorem wq_J_item {P : Nat → Nat} {n : Nat} {w : Nat → Nat} {m p i g t : Nat} (h : wq_J P n w m p i g t) (h1 : p < n) (h2 : P p ≠ 42) (h3 : i < m) (h4 : wq_tk P n p (w i) = true) : wq_J P n w m (wq_be P n p) (i + 1) g t := by
  obtain ⟨a1, a2, a3, a4, a5, a6⟩ := h
  have hb := wq_be_in (P := P) h1
  refine ⟨?_, fun g0 k k1 k2 k3 => ?_, hb.2, by omega, by omega, by omega⟩
  · rw [a1, wq_M_item h1 h2]
    constructor
    · intro h
      rcases h with h | h
      · exact Or.inl h.2.2
      · exact Or.inr h
    · intro h
      rcases h with h | h
      · exact Or.inl ⟨h3, h4, h⟩
      · exact Or.inr h
  · obtain ⟨j, j1, j2⟩ := a2 g0 k k1 k2 k3
    have z := (wq_M_item h1 h2).mp j2
    exact ⟨j + 1, by omega, z.2.2⟩
theorem wq_J_true {P : Nat → Nat} {n : Nat} {w : Nat → Nat} {m p i g t : Nat} (h : wq_J P n w m p i g t) (h1 : i = m) (h2 : p = n) : wq_M P n w m 0 0 :=
  h.1.mpr (Or.inl ((wq_M_end (by omega)).mpr h1))
/-- what stands there takes no more -/
theorem wq_M_no {P : Nat → Nat} {n : Nat} {w : Nat → Nat} {m p i : Nat} (hp : p ≤ n) (h1 : ¬ (p < n ∧ P p = 42)) (h2 : ¬ (i < m ∧ p < n ∧ wq_tk P n p (w i) = true)) (h3 : ¬ (i = m ∧ p = n)) : ¬ wq_M P n w m p i := by
  intro h
  by_cases hn : p < n
  · have z := (wq_M_item hn (fun e => h1 ⟨hn, e⟩)).mp h
    exact h2 ⟨z.1, hn, z.2.1⟩
  · exact h3 ⟨(wq_M_end hn).mp h, by omega⟩
theorem wq_J_back {P : Nat → Nat} {n : Nat} {w : Nat → Nat} {m p i g t : Nat} (h : wq_J P n w m p i g t) (h1 : ¬ (p < n ∧ P p = 42)) (h2 : ¬ (i < m ∧ p < n ∧ wq_tk P n p (w i) = true)) (h3 : ¬ (i = m ∧ p = n)) (h4 : 0 < g) (h5 : t < m) : wq_J P n w m g (t + 1) g (t + 1) := by
  obtain ⟨a1, a2, a3, a4, a5, a6⟩ := h
  have hno := wq_M_no a3 h1 h2 h3
  refine ⟨?_, fun _ k k1 k2 k3 => ⟨k, by omega, k3⟩, by omega, by omega, Nat.le_refl _, Nat.le_refl _⟩
  rw [a1]
  constructor
  · intro h
    rcases h with h | ⟨_, k, k1, k2, k3⟩
    · exact absurd h hno
    · by_cases e : k = t + 1
      · rw [e] at k3; exact Or.inl k3
      · exact Or.inr ⟨h4, k, by omega, k2, k3⟩
  · intro h
    rcases h with h | ⟨_, k, k1, k2, k3⟩
    · exact Or.inr ⟨h4, t + 1, by omega, by omega, h⟩
    · exact Or.inr ⟨h4, k, by omega, k2, k3⟩
theorem wq_J_false {P : Nat → Nat} {n : Nat} {w : Nat → Nat} {m p i g t : Nat} (h : wq_J P n w m p i g t) (h1 : ¬ (p < n ∧ P p = 42)) (h2 : ¬ (i < m ∧ p < n ∧ wq_tk P n p (w i) = true)) (h3 : ¬ (i = m ∧ p = n)) (h4 : ¬ (0 < g ∧ t < m)) : ¬ wq_M P n w m 0 0 := by
  obtain ⟨a1, a2, a3, a4, a5, a6⟩ := h
  have hno := wq_M_no a3 h1 h2 h3
  rw [a1]
  intro h
  rcases h with h | ⟨hg, k, k1, k2, k3⟩
  · exact hno h
  · exact h4 ⟨hg, by omega⟩
-- THING BY THING: z j = 1: the things ahead of 'at' fit the word's first j bytes
def wq_I (P : Nat → Nat) (n : Nat) (w : Nat → Nat) (N : Nat) (z : Nat → Bool) (a : Nat) : Prop := ∀ m, m ≤ N → (wq_M P n w m 0 0 ↔ ∃ j, j ≤ m ∧ z j = true ∧ wq_M P n w m a j)
theorem wq_I_0 {P : Nat → Nat} {n : Nat} {w : Nat → Nat} {N : Nat} {z : Nat → Bool} (h0 : z 0 = true) (h : ∀ j, 1 ≤ j → j ≤ N → z j = false) : wq_I P n w N z 0 := by
  intro m hm
  constructor
  · intro k; exact ⟨0, Nat.zero_le _, h0, k⟩
  · intro ⟨j, j1, j2, j3⟩
    by_cases e : j = 0
    · rw [e] at j3; exact j3
    · rw [h j (by omega) (by omega)] at j2; cases j2
theorem wq_I_star {P : Nat → Nat} {n : Nat} {w : Nat → Nat} {N : Nat} {z z' : Nat → Bool} {a : Nat} (h : wq_I P n w N z a) (h1 : a < n) (h2 : P a = 42) (hz : ∀ j, j ≤ N → (z' j = true ↔ ∃ k, k ≤ j ∧ z k = true)) : wq_I P n w N z' (a + 1) := by
  intro m hm
  rw [h m hm]
  constructor
  · intro ⟨j, j1, j2, j3⟩
    obtain ⟨k, k1, k2, k3⟩ := (wq_M_star h1 h2).mp j3
    exact ⟨k, k2, (hz k (by omega)).mpr ⟨j, k1, j2⟩, k3⟩
  · intro ⟨j, j1, j2, j3⟩
    obtain ⟨k, k1, k2⟩ := (hz j (by omega)).mp j2
    exact ⟨k, by omega, k2, (wq_M_star h1 h2).mpr ⟨j, k1, j1, j3⟩⟩
theorem wq_I_item {P : Nat → Nat} {n : Nat} {w : Nat → Nat} {N : Nat} {z z' : Nat → Bool} {a : Nat} (h : wq_I P n w N z a) (h1 : a < n) (h2 : P a ≠ 42) (h0 : z' 0 = false) (hz : ∀ j, j < N → z' (j + 1) = (z j && wq_tk P n a (w j))) : wq_I P n w N z' (wq_be P n a) := by
  intro m hm
  rw [h m hm]
  constructor
  · intro ⟨j, j1, j2, j3⟩
    obtain ⟨k1, k2, k3⟩ := (wq_M_item h1 h2).mp j3
    exact ⟨j + 1, by omega, by rw [hz j (by omega), j2, k2]; rfl, k3⟩
  · intro ⟨j, j1, j2, j3⟩
    cases j with
    | zero => rw [h0] at j2; cases j2
    | succ j =>
      rw [hz j (by omega), Bool.and_eq_true] at j2
      exact ⟨j, by omega, j2.1, (wq_M_item h1 h2).mpr ⟨by omega, j2.2, j3⟩⟩
theorem wq_I_end {P : Nat → Nat} {n : Nat} {w : Nat → Nat} {N : Nat} {z : Nat → Bool} {a : Nat} (h : wq_I P n w N z a) (h1 : ¬ a < n) {m : Nat} (hm : m ≤ N) : z m = wq_d (wq_M P n w m 0 0) := by
  have h2 : wq_M P n w m 0 0 ↔ z m = true := by
    rw [h m hm]
    constructor
    · intro ⟨j, j1, j2, j3⟩
      rw [(wq_M_end h1).mp j3] at j2
      exact j2
    · intro k; exact ⟨m, Nat.le_refl _, k, (wq_M_end h1).mpr rfl⟩
  cases hz : z m with
  | true => rw [wq_d_pos (h2.mpr hz)]
  | false => rw [wq_d_not (fun k => by rw [h2.mp k] at hz; cases hz)]
-- what at(q) answers
def atv (P : Nat → Nat) (n q : Nat) : Int32 := if q < n then nI (P q) else -1
theorem atv_in {P : Nat → Nat} {n q : Nat} (h : q < n) : atv P n q = nI (P q) := if_pos h
theorem atv_out {P : Nat → Nat} {n q : Nat} (h : ¬ q < n) : atv P n q = -1 := if_neg h
theorem m1_ne {k : Nat} (h : k < 256) : ¬ (-1 : Int32) = nI k := by
  intro e
  have h1 := congrArg Int32.toInt e
  rw [nI_toInt (by omega)] at h1
  have h2 : (-1 : Int32).toInt = -1 := by decide +kernel
  omega
theorem atv_eq {P : Nat → Nat} {n q k : Nat} (hP : ∀ k, P k < 256) (hk : k < 256) : atv P n q = nI k ↔ q < n ∧ P q = k := by
  by_cases h : q < n
  · rw [atv_in h, nI_eq (by have := hP q; omega) (by omega)]
    exact ⟨fun e => ⟨h, e⟩, fun e => e.2⟩
  · rw [atv_out h]
    exact ⟨fun e => absurd e (m1_ne hk), fun e => absurd e.1 h⟩
theorem atv_neg {P : Nat → Nat} {n q : Nat} (hP : ∀ k, P k < 256) : atv P n q < 0 ↔ ¬ q < n := by
  by_cases h : q < n
  · rw [atv_in h]
    exact ⟨fun e => absurd e (nI_pos (by have := hP q; omega)), fun e => absurd h e⟩
  · rw [atv_out h]
    exact ⟨fun _ => h, fun _ => by decide +kernel⟩
theorem min_nx {P : Nat → Nat} {n q : Nat} (h : q < n) (hn : n ≤ 400) (h2 : P q = 92) : (if nI n < nI (q + 2) then nI n else nI (q + 2)) = nI (wq_nx P n q) := by
  unfold wq_nx
  by_cases c : n < q + 2
  · rw [if_pos ((nI_ltI (by omega) (by omega)).mpr c), if_neg (by omega)]
    congr 1; omega
  · rw [if_neg (fun z => c ((nI_ltI (by omega) (by omega)).mp z)), if_pos ⟨h2, by omega⟩]
theorem min_n {n k : Nat} (h1 : n < 2 ^ 31) (h2 : k < 2 ^ 31) : (if nI n < nI k then nI n else nI k) = nI (min k n) := by
  by_cases c : n < k
  · rw [if_pos ((nI_ltI (by omega) (by omega)).mpr c)]; congr 1; omega
  · rw [if_neg (fun z => c ((nI_ltI (by omega) (by omega)).mp z))]; congr 1; omega
-- the tape: a byte of an int; four bytes; twenty
def byt (x : Int32) (s : Nat) : Nat := (x >>> (nI s &&& 31)).toBitVec.toNat % 256
theorem byt_lt (x : Int32) (s : Nat) : byt x s < 256 := Nat.mod_lt _ (by decide)
def pu4 (T : Nat → Nat) (n : Nat) (x : Int32) : Nat → Nat := upN (upN (upN (upN T n (byt x 24)) (n + 1) (byt x 16)) (n + 2) (byt x 8)) (n + 3) (byt x 0)
def pu20 (T : Nat → Nat) (n : Nat) (a b c d e : Int32) : Nat → Nat := pu4 (pu4 (pu4 (pu4 (pu4 T n a) (n + 4) b) (n + 8) c) (n + 12) d) (n + 16) e
theorem upN_lt {T : Nat → Nat} {k v : Nat} (h : ∀ j, T j < 256) (hv : v < 256) : ∀ j, upN T k v j < 256 := by
  intro j
  unfold upN
  split
  · exact hv
  · exact h j
theorem pu4_lt {T : Nat → Nat} {n : Nat} {x : Int32} (h : ∀ j, T j < 256) : ∀ j, pu4 T n x j < 256 := upN_lt (upN_lt (upN_lt (upN_lt h (byt_lt _ _)) (byt_lt _ _)) (byt_lt _ _)) (byt_lt _ _)
theorem pu20_lt {T : Nat → Nat} {n : Nat} {a b c d e : Int32} (h : ∀ j, T j < 256) : ∀ j, pu20 T n a b c d e j < 256 := pu4_lt (pu4_lt (pu4_lt (pu4_lt (pu4_lt h))))
def vk5 (a b c d e : Int32) (k : Nat) : Int32 := if k < 4 then a else if k < 8 then b else if k < 12 then c else if k < 16 then d else e
def puK (T : Nat → Nat) (n : Nat) (a b c d e : Int32) : Nat → (Nat → Nat)
  | 0 => T
  | k + 1 => upN (puK T n a b c d e k) (n + k) (byt (vk5 a b c d e k) (24 - 8 * (k % 4)))
theorem puK_20 (T : Nat → Nat) (n : Nat) (a b c d e : Int32) : puK T n a b c d e 20 = pu20 T n a b c d e := rfl
/-- the first n places of another -/
def cpN (T P : Nat → Nat) (n : Nat) : Nat → Nat := fun j => if j < n then T j else P j
theorem cpN_lt {T P : Nat → Nat} {n : Nat} (hT : ∀ j, T j < 256) (hP : ∀ j, P j < 256) : ∀ j, cpN T P n j < 256 := by
  intro j
  unfold cpN
  split
  · exact hT j
  · exact hP j
theorem bF_cp (T P : Nat → Nat) (n : Nat) : va_cpy (bF T) (bF P) 0 0 n = bF (cpN T P n) := by
  funext j
  by_cases h : j < n
  · simp [va_cpy, bF, cpN, h]
  · simp [va_cpy, bF, cpN, h]
theorem cpN_0 (T P : Nat → Nat) : cpN T P 0 = P := by
  funext j
  simp [cpN]
theorem cpN_up (T P : Nat → Nat) (k : Nat) : upN (cpN T P k) k (T k) = cpN T P (k + 1) := by
  funext j
  unfold upN cpN
  by_cases h : j = k
  · rw [if_pos h, if_pos (by omega), h]
  · rw [if_neg h]
    by_cases h2 : j < k
    · rw [if_pos h2, if_pos (by omega)]
    · rw [if_neg h2, if_neg (by omega)]
end
section
-- WRAPPERS over the kit's rows
abbrev TY (cB cI cZ : ClassId) : List (ClassId × FieldType) := [(cB, .byte), (cI, .int), (cZ, .boolean)]
/-- a start that only reads -/
def Pr (D : va_G) (cB cI cZ : ClassId) (av : List Value) (ws : va_W) : Array Value → State → Prop := va_Pc av (fun U => va_P D classes ws U.heap ∧ va_K D classes (TY cB cI cZ) U)
theorem Pr_blind {D : va_G} {cB cI cZ : ClassId} {av : List Value} {ws : va_W} : FrameBlind (Pr D cB cI cZ av ws) := fun a U g mk q => by
  obtain ⟨q0, qP, qK⟩ := q
  exact ⟨q0, qP, va_K.moved (u := U) (U := U.calling g mk a) (Vm.Alike.refl U.vm) qK⟩
/-- a start that may write its world -/
def Pm (D : va_G) (cB cI cZ : ClassId) (sz : Nat) (av : List Value) (ws : va_W) : Array Value → State → Prop := va_Pc av (fun U => U.heap.size = sz ∧ va_P D classes ws U.heap ∧ va_K D classes (TY cB cI cZ) U ∧ va_D (fun _ => True) ws)
theorem Pm_blind {D : va_G} {cB cI cZ : ClassId} {sz : Nat} {av : List Value} {ws : va_W} : FrameBlind (Pm D cB cI cZ sz av ws) := fun a U g mk q => by
  obtain ⟨q0, q1, qP, qK, qD⟩ := q
  exact ⟨q0, q1, qP, va_K.moved (u := U) (U := U.calling g mk a) (Vm.Alike.refl U.vm) qK, qD⟩
/-- its end: an int (nothing) and the new world, at the same addresses -/
def Qm (D : va_G) (post : Int32 → va_W → Prop) (ws : va_W) (sz : Nat) : Array Value → State → Outcome → State → Prop := va_Qi post (fun u t => va_P D classes u t.heap) (va_A ws sz)
def Qn (D : va_G) (post : va_W → Prop) (ws : va_W) (sz : Nat) : Array Value → State → Outcome → State → Prop := va_Qv post (fun u t => va_P D classes u t.heap) (va_A ws sz)
theorem D_same {A : Nat → Prop} {ws ws' : va_W} (h : va_D A ws) (e : ws'.map (·.1) = ws.map (·.1)) : va_D A ws' := by
  have key : ∀ (i : Nat) (x : Nat × va_E), ws'[i]? = some x → ∃ z, ws[i]? = some z ∧ z.1 = x.1 := by
    intro i x hx
    have h1 : (ws'.map (·.1))[i]? = some x.1 := by rw [List.getElem?_map, hx]; rfl
    rw [e, List.getElem?_map] at h1
    cases hz : ws[i]? with
    | none => rw [hz] at h1; cases h1
    | some z => rw [hz] at h1; exact ⟨z, rfl, Option.some.inj h1⟩
  refine ⟨fun i j x y hx hy hxy => ?_, fun k x hx => ?_⟩
  · obtain ⟨z1, a1, b1⟩ := key i x hx
    obtain ⟨z2, a2, b2⟩ := key j y hy
    exact h.1 i j z1 z2 a1 a2 (by rw [b1, b2]; exact hxy)
  · obtain ⟨z, a1, b1⟩ := key k x hx
    rw [← b1]
    exact h.2 k z a1
section WR
variable {p : Program} {l : Launch} {e : Env} {R : Room} {s : State} {m : MethodId} {args : Array Value} {below : List Frame} {meth : Method} {c : Code} {H : Heap} {locs : List Loc} {cells slots : Nat} {Q : State → Prop}
variable {y : MethodName} {bytes cc : ByteArray} {maxL nL n index ci q0 pc : Nat} {ret : Option FieldType} {ws : List Cond} {rm : Room} {own C : String} {b : Nat} {As rest st : List Value} {ls : Array Slot} {D : va_G} {cB cI cZ : ClassId} {wk wc wr : va_W} {q : vw_C} {fs : List Value} {A0 : Nat → Prop} {H0 : Heap}
theorem wr_cv {x z : Int32} (h : x = z) (k : W p l e R s m args below meth c H locs cells slots Q (F0 m pc ls (.int z :: rest))) : W p l e R s m args below meth c H locs cells slots Q (F0 m pc ls (.int x :: rest)) := by
  subst h; exact k
theorem wr_rd {r : Int32} (S : CallFix p m c cc nL s args gw own) (hM : Met l y ws rm (Pr D cB cI cZ (.ref b :: As) wc) (QcRead r) 0 0 (fun _ => False)) (cw : CallW R s args own C index y bytes maxL ret ws rm 0 0 n)
    (hK : va_K D classes (TY cB cI cZ) s) (hP : va_P D classes wc H) (hc : classes[ci]? = some q) (hq : q.1 = C) (he : wc[q0]? = some (b, .inr (ci, fs))) (hn : As.length = n) (hsz : ls.size = nL) (hst : st = As.reverse ++ .ref b :: rest) (hW : 2 * (F0 m pc ls st).monitorRoom + (rest.map fun v => v.category).sum ≤ 8) (hdg : decode cc pc = .ok (.invokevirtual index, 3)) (hf : cells ≤ R.cells ∧ slots ≤ R.slots)
    (kk : W p l e R s m args below meth c H locs cells slots Q (F0 m (pc + 3) ls (.int r :: rest))) : W p l e R s m args below meth c H locs cells slots Q (F0 m pc ls st) := by
  subst hq
  exact W.callR (W.runV (g := F0 m pc ls st) S hM cw ⟨Pr_blind, va_recv hK hP hc he, fun U hU hW => ⟨rfl, by rw [hU]; exact hP, va_K.moved hW.alike hK⟩⟩ rfl hn hsz hst hW hdg hf) kk
theorem wr_ci {post : Int32 → va_W → Prop} (S : CallFix p m c cc nL s args gw own) (hM : Met l y ws rm (Pm D cB cI cZ H.size (.ref b :: As) wc) (Qm D post wc H.size) 0 0 (va_A wc H.size)) (cw : CallW R s args own C index y bytes maxL ret ws rm 0 0 n)
    (hK : va_K D classes (TY cB cI cZ) s) (hP : va_P D classes wk H) (hD : va_D A0 wk) (hS : va_S A0 H0 H locs) (hA : ∀ q, H0.size ≤ q → A0 q) (isC isR : List Nat) (hC : isC.map (fun i => wk[i]?) = wc.map some) (hC2 : isC.filterMap (fun i => wk[i]?) = wc) (hnC : va_nd isC = true) (hR : isR.map (fun i => wk[i]?) = wr.map some) (hnR : va_nd isR = true) (hdis : ∀ i ∈ isR, i ∉ isC)
    (hc : classes[ci]? = some q) (hq : q.1 = C) (he : wc[q0]? = some (b, .inr (ci, fs))) (hn : As.length = n) (hsz : ls.size = nL) (hst : st = As.reverse ++ .ref b :: rest) (hW : 2 * (F0 m pc ls st).monitorRoom + (rest.map fun v => v.category).sum ≤ 8) (hdg : decode cc pc = .ok (.invokevirtual index, 3)) (hf : cells ≤ R.cells ∧ slots ≤ R.slots)
    (kk : ∀ (r : Int32) (u : va_W) (H1 : Heap) (locs1 : List Loc), post r u → (u.map (·.1) = wc.map (·.1) → va_P D classes (wr ++ u) H1 ∧ va_D A0 (wr ++ u)) → va_S A0 H0 H1 locs1 → W p l e R s m args below meth c H1 locs1 cells slots Q (F0 m (pc + 3) ls (.int r :: rest))) : W p l e R s m args below meth c H locs cells slots Q (F0 m pc ls st) := by
  subst hq
  have hPc := hP.sub (ws' := wc) isC hC2
  have hDc := hD.sub (ws' := wc) isC hnC hC
  have hFc := va_free (wc := wc) hD hS hA isC hC
  refine va_calli (va_runV (g := F0 m pc ls st) S hM cw ⟨Pm_blind, va_recv hK hPc hc he, fun U hU hW => ⟨rfl, by rw [hU], by rw [hU]; exact hPc, va_K.moved hW.alike hK, hDc.weaken (fun _ _ _ _ => trivial)⟩⟩ rfl hn hsz hst hW hdg hf) hS (fun q _ h => hFc q h) hFc (fun r u t H1 locs1 ht hvm hw hB hz1 hk1 hS1 => ?_)
  refine kk r u H1 locs1 hw (fun e1 => ?_) hS1
  rw [ht] at hB
  exact va_join hP hD isC isR hC hR hnR hdis hk1 hFc hB (D_same hDc.self e1)
theorem wr_cn {post : va_W → Prop} (S : CallFix p m c cc nL s args gw own) (hM : Met l y ws rm (Pm D cB cI cZ H.size (.ref b :: As) wc) (Qn D post wc H.size) 0 0 (va_A wc H.size)) (cw : CallW R s args own C index y bytes maxL ret ws rm 0 0 n)
    (hK : va_K D classes (TY cB cI cZ) s) (hP : va_P D classes wk H) (hD : va_D A0 wk) (hS : va_S A0 H0 H locs) (hA : ∀ q, H0.size ≤ q → A0 q) (isC isR : List Nat) (hC : isC.map (fun i => wk[i]?) = wc.map some) (hC2 : isC.filterMap (fun i => wk[i]?) = wc) (hnC : va_nd isC = true) (hR : isR.map (fun i => wk[i]?) = wr.map some) (hnR : va_nd isR = true) (hdis : ∀ i ∈ isR, i ∉ isC)
    (hc : classes[ci]? = some q) (hq : q.1 = C) (he : wc[q0]? = some (b, .inr (ci, fs))) (hn : As.length = n) (hsz : ls.size = nL) (hst : st = As.reverse ++ .ref b :: rest) (hW : 2 * (F0 m pc ls st).monitorRoom + (rest.map fun v => v.category).sum ≤ 8) (hdg : decode cc pc = .ok (.invokevirtual index, 3)) (hf : cells ≤ R.cells ∧ slots ≤ R.slots)
    (kk : ∀ (u : va_W) (H1 : Heap) (locs1 : List Loc), post u → (u.map (·.1) = wc.map (·.1) → va_P D classes (wr ++ u) H1 ∧ va_D A0 (wr ++ u)) → va_S A0 H0 H1 locs1 → W p l e R s m args below meth c H1 locs1 cells slots Q (F0 m (pc + 3) ls rest)) : W p l e R s m args below meth c H locs cells slots Q (F0 m pc ls st) := by
  subst hq
  have hPc := hP.sub (ws' := wc) isC hC2
  have hDc := hD.sub (ws' := wc) isC hnC hC
  have hFc := va_free (wc := wc) hD hS hA isC hC
  refine va_callv (va_runV (g := F0 m pc ls st) S hM cw ⟨Pm_blind, va_recv hK hPc hc he, fun U hU hW => ⟨rfl, by rw [hU], by rw [hU]; exact hPc, va_K.moved hW.alike hK, hDc.weaken (fun _ _ _ _ => trivial)⟩⟩ rfl hn hsz hst hW hdg hf) hS (fun q _ h => hFc q h) hFc (fun u t H1 locs1 ht hvm hw hB hz1 hk1 hS1 => ?_)
  refine kk u H1 locs1 hw (fun e1 => ?_) hS1
  rw [ht] at hB
  exact va_join hP hD isC isR hC hR hnR hdis hk1 hFc hB (D_same hDc.self e1)
end WR
-- THE WORLDS
/-- a Patterns at work on a pattern (it reads) -/
abbrev wP (h hp : Nat) (cB : ClassId) (P : Nat → Nat) (n : Nat) : va_W := [(h, .inr (0, [.ref hp, .int (nI 0), .int (nI n)])), (hp, .inl (cB, 400, .inl (bF P)))]
/-- a Patterns, with the pattern and the word -/
abbrev wF (h hp hw : Nat) (cB : ClassId) (P V : Nat → Nat) (rv fv mv : Value) : va_W := [(h, .inr (0, [rv, fv, mv])), (hp, .inl (cB, 400, .inl (bF P))), (hw, .inl (cB, 400, .inl (bF V)))]
/-- a WildCards: tape T (n), pattern P (pn), word V (vn), and its Patterns -/
abbrev wC (h ht hp hw hq : Nat) (cB : ClassId) (T : Nat → Nat) (n : Nat) (P : Nat → Nat) (pn : Nat) (V : Nat → Nat) (vn : Nat) (rv fv mv : Value) : va_W := [(h, .inr (1, [.ref ht, .int (nI n), .ref hp, .ref hw, .int (nI pn), .int (nI vn), .ref hq])), (ht, .inl (cB, 400, .inl (bF T))), (hp, .inl (cB, 400, .inl (bF P))), (hw, .inl (cB, 400, .inl (bF V))), (hq, .inr (0, [rv, fv, mv]))]
/-- a WildCardsModel: the same, and end, told, fit -/
abbrev wM (h ht hp hw hz : Nat) (cI cZ : ClassId) (T : Nat → Nat) (n : Nat) (P : Nat → Nat) (pn : Nat) (V : Nat → Nat) (vn : Nat) (en td : Int32) (z : Nat → Int32) : va_W := [(h, .inr (2, [.ref ht, .ref hp, .ref hw, .int (nI n), .int (nI pn), .int (nI vn), .int en, .int td, .ref hz])), (ht, .inl (cI, 400, .inl (nF T))), (hp, .inl (cI, 400, .inl (nF P))), (hw, .inl (cI, 400, .inl (nF V))), (hz, .inl (cZ, 401, .inl z))]
end
section
abbrev rm_Pt_at : Room := { frames := 0, cells := 0, slots := 0, locals := 0 }
abbrev rm_Pt_next : Room := { frames := 1, cells := 0, slots := 0, locals := 21 }
abbrev rm_Pt_plain : Room := { frames := 1, cells := 0, slots := 0, locals := 21 }
abbrev rm_Pt_behind : Room := { frames := 2, cells := 0, slots := 0, locals := 42 }
abbrev rm_Pt_takes : Room := { frames := 2, cells := 0, slots := 0, locals := 42 }
abbrev rm_Pt_fits : Room := { frames := 3, cells := 0, slots := 0, locals := 71 }
theorem sv_neg {g : Nat} (h : g < 2 ^ 31) : nI g - 1 < 0 ↔ g = 0 := by
  cases g with
  | zero => exact ⟨fun _ => rfl, fun _ => by decide +kernel⟩
  | succ k => rw [nI_pred]; exact ⟨fun z => absurd z (nI_pos (by omega)), fun z => by omega⟩
theorem sv_add (g : Nat) : nI g - 1 + nI 1 = nI g := by
  cases g with
  | zero => decide +kernel
  | succ k => rw [nI_pred]; exact nI_add k 1
set_option maxHeartbeats 4000000 in
set_option maxRecDepth 100000 in
theorem c_Pt_at (l : Launch) (D : va_G) (cB cI cZ : ClassId) (h hp : Nat) (P : Nat → Nat) (hP8 : ∀ k, P k < 256) (n : Nat) (hn : n ≤ 400) (a : Nat) (ha : a ≤ 1000) : Met l y_Pt_at w_Pt_at rm_Pt_at (Pr D cB cI cZ [.ref h, .int (nI a)] (wP h hp cB P n)) (QcRead (atv P n a)) 0 0 (fun _ => False) := by
  refine Met.ofW (cc := b_Pt_at) (maxL := 2) (ret := (some .int)) (by decide) rfl ?_
  intro p e s m args below meth c s₁ B hml hv
  obtain ⟨rfl, hP, hK⟩ := hv
  have hx := B.exec
  have hb := B.bytes
  have hr := B.returns
  have hts0 := atoms_spec (ws := w_Pt_at) B.pre
  have hts : ∀ w ∈ gw, w.before _ s = true := fun w hw => hts0 w (List.mem_cons_of_mem _ hw)
  have hown : s.vm.findClass R_Pt = some m.cls := findClass_of_methodNamed B.named
  have hlocks := B.notSynchronized
  have S : CallFix p m c b_Pt_at 2 s _ gw R_Pt := ⟨hx, hb, hml, hown, hts⟩
  have hl := lv_entry ([.ref h, .int (nI a)]) (n := 2) (Nat.le_of_ble_eq_true rfl)
  rw [lg_entry_eq]
  generalize (lg_sl ([.ref h, .int (nI a)]) ++ List.replicate (2 - (lg_sl ([.ref h, .int (nI a)])).length) Slot.unset).toArray = ls at hl ⊢
  have hl : lv_has ls 2 [(0, .ref h), (1, .int (nI a))] := hl
  show W p l e rm_Pt_at s m _ below meth c s.heap [] 0 0 _ (F0 m 0 ls [])
  refine lv_iload_n hx hb d_Pt_at_0 rfl (lv_at hl 1 rfl) ?_
  refine lv_aload_n hx hb d_Pt_at_1 rfl (lv_at hl 0 rfl) ?_
  refine va_get (D := D) (ci := 0) (v := .int (nI n)) (C := R_Pt) (T := F_Pt) (N := 3) hx hb hts i_Pt hown hK hP 0 rfl rfl 2 (by decide) (hts _ k_fl_Pt_9) (fun _ h9 => h9) rfl d_Pt_at_2 ?_
  refine lv_icmp_ge (tgt := 26) hx hb d_Pt_at_5 (by decide) (fun c1 => ?_) (fun c1 => ?_)
  · have c1 : n ≤ a := (nI_leI (by omega) (by omega)).mp c1
    refine lv_iconst (v := (-1)) hx hb d_Pt_at_26 (by decide +kernel) ?_
    refine wr_cv (z := atv P n a) ((atv_out (by omega)).symm) ?_
    exact W.iret hx hb hr (fun t ht _ => ⟨rfl, ht⟩) (fun _ h9 => absurd h9 List.not_mem_nil) d_Pt_at_27
  · have c1 : ¬ n ≤ a := fun hz => c1 ((nI_leI (by omega) (by omega)).mpr hz)
    refine lv_aload_n hx hb d_Pt_at_8 rfl (lv_at hl 0 rfl) ?_
    refine va_get (D := D) (ci := 0) (v := .ref hp) (C := R_Pt) (T := F_Pt) (N := 3) hx hb hts i_Pt hown hK hP 0 rfl rfl 0 (by decide) (hts _ k_fl_Pt_15) (fun _ h9 => h9) rfl d_Pt_at_9 ?_
    refine lv_aload_n hx hb d_Pt_at_12 rfl (lv_at hl 0 rfl) ?_
    refine va_get (D := D) (ci := 0) (v := .int (nI 0)) (C := R_Pt) (T := F_Pt) (N := 3) hx hb hts i_Pt hown hK hP 0 rfl rfl 1 (by decide) (hts _ k_fl_Pt_19) (fun _ h9 => h9) rfl d_Pt_at_13 ?_
    refine lv_iload_n hx hb d_Pt_at_16 rfl (lv_at hl 1 rfl) ?_
    refine lv_iadd hx hb d_Pt_at_17 ?_
    refine wr_cv (z := (nI (0 + a))) (nI_add 0 a) ?_
    refine va_bald hx hb hK hP 1 0 rfl rfl (vp_in_nI (by omega) (by omega)) d_Pt_at_18 ?_
    refine wr_cv (z := (b8 (P a))) (bF_at (by omega) (by omega)) ?_
    refine lv_sipush (v := (nI 255)) hx hb d_Pt_at_19 (by decide +kernel) ?_
    refine lv_iand hx hb d_Pt_at_22 ?_
    refine wr_cv (z := (nI (P a))) (b8_and (hP8 _)) ?_
    refine lv_goto (tgt := 27) hx hb d_Pt_at_23 (by decide) ?_
    refine wr_cv (z := atv P n a) ((atv_in (by omega)).symm) ?_
    exact W.iret hx hb hr (fun t ht _ => ⟨rfl, ht⟩) (fun _ h9 => absurd h9 List.not_mem_nil) d_Pt_at_27
set_option maxHeartbeats 4000000 in
set_option maxRecDepth 100000 in
theorem c_Pt_next (l : Launch) (D : va_G) (cB cI cZ : ClassId) (h hp : Nat) (P : Nat → Nat) (hP8 : ∀ k, P k < 256) (n : Nat) (hn : n ≤ 400) (a : Nat) (ha : a < n) : Met l y_Pt_next w_Pt_next rm_Pt_next (Pr D cB cI cZ [.ref h, .int (nI a)] (wP h hp cB P n)) (QcRead (nI (wq_nx P n a))) 0 0 (fun _ => False) := by
  refine Met.ofW (cc := b_Pt_next) (maxL := 2) (ret := (some .int)) (by decide) rfl ?_
  intro p e s m args below meth c s₁ B hml hv
  obtain ⟨rfl, hP, hK⟩ := hv
  have hx := B.exec
  have hb := B.bytes
  have hr := B.returns
  have hts0 := atoms_spec (ws := w_Pt_next) B.pre
  have hts : ∀ w ∈ gw, w.before _ s = true := fun w hw => hts0 w (List.mem_cons_of_mem _ hw)
  have hown : s.vm.findClass R_Pt = some m.cls := findClass_of_methodNamed B.named
  have hlocks := B.notSynchronized
  have S : CallFix p m c b_Pt_next 2 s _ gw R_Pt := ⟨hx, hb, hml, hown, hts⟩
  have hl := lv_entry ([.ref h, .int (nI a)]) (n := 2) (Nat.le_of_ble_eq_true rfl)
  rw [lg_entry_eq]
  generalize (lg_sl ([.ref h, .int (nI a)]) ++ List.replicate (2 - (lg_sl ([.ref h, .int (nI a)])).length) Slot.unset).toArray = ls at hl ⊢
  have hl : lv_has ls 2 [(0, .ref h), (1, .int (nI a))] := hl
  show W p l e rm_Pt_next s m _ below meth c s.heap [] 0 0 _ (F0 m 0 ls [])
  refine lv_aload_n hx hb d_Pt_next_0 rfl (lv_at hl 0 rfl) ?_
  refine lv_iload_n hx hb d_Pt_next_1 rfl (lv_at hl 1 rfl) ?_
  refine wr_rd (As := [.int (nI a)]) (rest := []) S (c_Pt_at l D cB cI cZ h hp P hP8 n hn a (by omega)) (cwV 1 hts g_Pt_22 rfl rfl rfl (by decide +kernel) ⟨Nat.le_of_ble_eq_true rfl, Nat.le_of_ble_eq_true rfl⟩) hK hP (ci := 0) (q0 := 0) rfl rfl rfl rfl hl.1 rfl (lv_room (Nat.le_of_ble_eq_true rfl)) d_Pt_next_2 ⟨Nat.zero_le _, Nat.zero_le _⟩ ?_
  refine lv_bipush (v := (nI 92)) hx hb d_Pt_next_5 (by decide +kernel) ?_
  refine lv_icmp_ne (tgt := 23) hx hb d_Pt_next_7 (by decide) (fun c7 => ?_) (fun c7 => ?_)
  · have c7 : ¬ (a < n ∧ P a = 92) := fun hz => c7 ((atv_eq hP8 (by decide)).mpr hz)
    refine lv_iload_n hx hb d_Pt_next_23 rfl (lv_at hl 1 rfl) ?_
    refine lv_iconst (v := (nI 1)) hx hb d_Pt_next_24 (by decide +kernel) ?_
    refine lv_iadd hx hb d_Pt_next_25 ?_
    refine wr_cv (z := (nI (a + 1))) (nI_add a 1) ?_
    refine wr_cv (z := nI (wq_nx P n a)) (by rw [wq_nx, if_neg (fun z => c7 ⟨ha, z.1⟩)]) ?_
    exact W.iret hx hb hr (fun t ht _ => ⟨rfl, ht⟩) (fun _ h9 => absurd h9 List.not_mem_nil) d_Pt_next_26
  · have c7 : (a < n ∧ P a = 92) := (atv_eq hP8 (by decide)).mp c7
    refine lv_iload_n hx hb d_Pt_next_10 rfl (lv_at hl 1 rfl) ?_
    refine lv_iconst (v := (nI 2)) hx hb d_Pt_next_11 (by decide +kernel) ?_
    refine lv_iadd hx hb d_Pt_next_12 ?_
    refine wr_cv (z := (nI (a + 2))) (nI_add a 2) ?_
    refine lv_aload_n hx hb d_Pt_next_13 rfl (lv_at hl 0 rfl) ?_
    refine va_get (D := D) (ci := 0) (v := .int (nI n)) (C := R_Pt) (T := F_Pt) (N := 3) hx hb hts i_Pt hown hK hP 0 rfl rfl 2 (by decide) (hts _ k_fl_Pt_9) (fun _ h9 => h9) rfl d_Pt_next_14 ?_
    refine va_mmin hx hb (hml.trans hl.1.symm) hown (hts _ k_ml_Pt_33) (hts _ k_st_min) (hts _ k_ini_Math) (hts _ k_code_min) (Nat.le_of_ble_eq_true rfl) (Nat.le_of_ble_eq_true rfl) (Nat.zero_le _) (Nat.zero_le _) d_Pt_next_17 ?_
    refine wr_cv (z := (nI (wq_nx P n a))) (min_nx ha hn c7.2) ?_
    refine lv_goto (tgt := 26) hx hb d_Pt_next_20 (by decide) ?_
    exact W.iret hx hb hr (fun t ht _ => ⟨rfl, ht⟩) (fun _ h9 => absurd h9 List.not_mem_nil) d_Pt_next_26
set_option maxHeartbeats 4000000 in
set_option maxRecDepth 100000 in
theorem c_Pt_plain (l : Launch) (D : va_G) (cB cI cZ : ClassId) (h hp : Nat) (P : Nat → Nat) (hP8 : ∀ k, P k < 256) (n : Nat) (hn : n ≤ 400) (a : Nat) (ha : a < n) : Met l y_Pt_plain w_Pt_plain rm_Pt_plain (Pr D cB cI cZ [.ref h, .int (nI a)] (wP h hp cB P n)) (QcRead (nI (wq_pl P n a))) 0 0 (fun _ => False) := by
  refine Met.ofW (cc := b_Pt_plain) (maxL := 2) (ret := (some .int)) (by decide) rfl ?_
  intro p e s m args below meth c s₁ B hml hv
  obtain ⟨rfl, hP, hK⟩ := hv
  have hx := B.exec
  have hb := B.bytes
  have hr := B.returns
  have hts0 := atoms_spec (ws := w_Pt_plain) B.pre
  have hts : ∀ w ∈ gw, w.before _ s = true := fun w hw => hts0 w (List.mem_cons_of_mem _ hw)
  have hown : s.vm.findClass R_Pt = some m.cls := findClass_of_methodNamed B.named
  have hlocks := B.notSynchronized
  have S : CallFix p m c b_Pt_plain 2 s _ gw R_Pt := ⟨hx, hb, hml, hown, hts⟩
  have hl := lv_entry ([.ref h, .int (nI a)]) (n := 2) (Nat.le_of_ble_eq_true rfl)
  rw [lg_entry_eq]
  generalize (lg_sl ([.ref h, .int (nI a)]) ++ List.replicate (2 - (lg_sl ([.ref h, .int (nI a)])).length) Slot.unset).toArray = ls at hl ⊢
  have hl : lv_has ls 2 [(0, .ref h), (1, .int (nI a))] := hl
  show W p l e rm_Pt_plain s m _ below meth c s.heap [] 0 0 _ (F0 m 0 ls [])
  refine lv_aload_n hx hb d_Pt_plain_0 rfl (lv_at hl 0 rfl) ?_
  refine lv_iload_n hx hb d_Pt_plain_1 rfl (lv_at hl 1 rfl) ?_
  refine wr_rd (As := [.int (nI a)]) (rest := []) S (c_Pt_at l D cB cI cZ h hp P hP8 n hn a (by omega)) (cwV 1 hts g_Pt_22 rfl rfl rfl (by decide +kernel) ⟨Nat.le_of_ble_eq_true rfl, Nat.le_of_ble_eq_true rfl⟩) hK hP (ci := 0) (q0 := 0) rfl rfl rfl rfl hl.1 rfl (lv_room (Nat.le_of_ble_eq_true rfl)) d_Pt_plain_2 ⟨Nat.zero_le _, Nat.zero_le _⟩ ?_
  refine lv_bipush (v := (nI 92)) hx hb d_Pt_plain_5 (by decide +kernel) ?_
  refine lv_icmp_ne (tgt := 30) hx hb d_Pt_plain_7 (by decide) (fun c7 => ?_) (fun c7 => ?_)
  · have c7 : ¬ (a < n ∧ P a = 92) := fun hz => c7 ((atv_eq hP8 (by decide)).mpr hz)
    refine lv_aload_n hx hb d_Pt_plain_30 rfl (lv_at hl 0 rfl) ?_
    refine lv_iload_n hx hb d_Pt_plain_31 rfl (lv_at hl 1 rfl) ?_
    refine wr_rd (As := [.int (nI a)]) (rest := []) S (c_Pt_at l D cB cI cZ h hp P hP8 n hn a (by omega)) (cwV 1 hts g_Pt_22 rfl rfl rfl (by decide +kernel) ⟨Nat.le_of_ble_eq_true rfl, Nat.le_of_ble_eq_true rfl⟩) hK hP (ci := 0) (q0 := 0) rfl rfl rfl rfl hl.1 rfl (lv_room (Nat.le_of_ble_eq_true rfl)) d_Pt_plain_32 ⟨Nat.zero_le _, Nat.zero_le _⟩ ?_
    refine wr_cv (z := nI (wq_pl P n a)) (by first | rw [atv_in ha, wq_pl, if_neg (fun z => c7 ⟨ha, z.1⟩)] | rw [atv_in ha, wq_pl, if_neg (fun z => absurd z.2 (by omega))]) ?_
    exact W.iret hx hb hr (fun t ht _ => ⟨rfl, ht⟩) (fun _ h9 => absurd h9 List.not_mem_nil) d_Pt_plain_35
  · have c7 : (a < n ∧ P a = 92) := (atv_eq hP8 (by decide)).mp c7
    refine lv_iload_n hx hb d_Pt_plain_10 rfl (lv_at hl 1 rfl) ?_
    refine lv_iconst (v := (nI 1)) hx hb d_Pt_plain_11 (by decide +kernel) ?_
    refine lv_iadd hx hb d_Pt_plain_12 ?_
    refine wr_cv (z := (nI (a + 1))) (nI_add a 1) ?_
    refine lv_aload_n hx hb d_Pt_plain_13 rfl (lv_at hl 0 rfl) ?_
    refine va_get (D := D) (ci := 0) (v := .int (nI n)) (C := R_Pt) (T := F_Pt) (N := 3) hx hb hts i_Pt hown hK hP 0 rfl rfl 2 (by decide) (hts _ k_fl_Pt_9) (fun _ h9 => h9) rfl d_Pt_plain_14 ?_
    refine lv_icmp_ge (tgt := 30) hx hb d_Pt_plain_17 (by decide) (fun c2 => ?_) (fun c2 => ?_)
    · have c2 : n ≤ (a + 1) := (nI_leI (by omega) (by omega)).mp c2
      refine lv_aload_n hx hb d_Pt_plain_30 rfl (lv_at hl 0 rfl) ?_
      refine lv_iload_n hx hb d_Pt_plain_31 rfl (lv_at hl 1 rfl) ?_
      refine wr_rd (As := [.int (nI a)]) (rest := []) S (c_Pt_at l D cB cI cZ h hp P hP8 n hn a (by omega)) (cwV 1 hts g_Pt_22 rfl rfl rfl (by decide +kernel) ⟨Nat.le_of_ble_eq_true rfl, Nat.le_of_ble_eq_true rfl⟩) hK hP (ci := 0) (q0 := 0) rfl rfl rfl rfl hl.1 rfl (lv_room (Nat.le_of_ble_eq_true rfl)) d_Pt_plain_32 ⟨Nat.zero_le _, Nat.zero_le _⟩ ?_
      refine wr_cv (z := nI (wq_pl P n a)) (by first | rw [atv_in ha, wq_pl, if_neg (fun z => c7 ⟨ha, z.1⟩)] | rw [atv_in ha, wq_pl, if_neg (fun z => absurd z.2 (by omega))]) ?_
      exact W.iret hx hb hr (fun t ht _ => ⟨rfl, ht⟩) (fun _ h9 => absurd h9 List.not_mem_nil) d_Pt_plain_35
    · have c2 : ¬ n ≤ (a + 1) := fun hz => c2 ((nI_leI (by omega) (by omega)).mpr hz)
      refine lv_aload_n hx hb d_Pt_plain_20 rfl (lv_at hl 0 rfl) ?_
      refine lv_iload_n hx hb d_Pt_plain_21 rfl (lv_at hl 1 rfl) ?_
      refine lv_iconst (v := (nI 1)) hx hb d_Pt_plain_22 (by decide +kernel) ?_
      refine lv_iadd hx hb d_Pt_plain_23 ?_
      refine wr_cv (z := (nI (a + 1))) (nI_add a 1) ?_
      refine wr_rd (As := [.int (nI (a + 1))]) (rest := []) S (c_Pt_at l D cB cI cZ h hp P hP8 n hn (a + 1) (by omega)) (cwV 1 hts g_Pt_22 rfl rfl rfl (by decide +kernel) ⟨Nat.le_of_ble_eq_true rfl, Nat.le_of_ble_eq_true rfl⟩) hK hP (ci := 0) (q0 := 0) rfl rfl rfl rfl hl.1 rfl (lv_room (Nat.le_of_ble_eq_true rfl)) d_Pt_plain_24 ⟨Nat.zero_le _, Nat.zero_le _⟩ ?_
      refine lv_goto (tgt := 35) hx hb d_Pt_plain_27 (by decide) ?_
      refine wr_cv (z := nI (wq_pl P n a)) (by rw [atv_in (by omega), wq_pl, if_pos ⟨c7.2, by omega⟩]) ?_
      exact W.iret hx hb hr (fun t ht _ => ⟨rfl, ht⟩) (fun _ h9 => absurd h9 List.not_mem_nil) d_Pt_plain_35
set_option maxHeartbeats 4000000 in
set_option maxRecDepth 100000 in
theorem lp_behind {p : Program} {l : Launch} {e : Env} {s : State} {m : MethodId} {args : Array Value} {below : List Frame} {meth : Method} {c : Code} {H : Heap} {locs : List Loc} {Q : State → Prop} {D : va_G} {cB cI cZ : ClassId} {h hp : Nat} {P : Nat → Nat} (hP8 : ∀ k, P k < 256) {n : Nat} (hn : n ≤ 400) {r : Nat} (S : CallFix p m c b_Pt_behind 3 s args gw R_Pt) (hK : va_K D classes (TY cB cI cZ) s) (hP : va_P D classes (wP h hp cB P n) H) (kk : ∀ ls, lv_has ls 3 [(2, .int (nI r)), (0, .ref h)] → W p l e rm_Pt_behind s m args below meth c H locs 0 0 Q (F0 m 84 ls [])) : ∀ (k a : Nat), n - a < k → a ≤ n → wq_sk P n a = r → ∀ ls, lv_has ls 3 [(2, .int (nI a)), (0, .ref h)] → W p l e rm_Pt_behind s m args below meth c H locs 0 0 Q (F0 m 57 ls []) := by
  obtain ⟨hx, hb, hml, hown, hts⟩ := id S
  intro k
  induction k with
  | zero => intro a h0; exact absurd h0 (Nat.not_lt_zero _)
  | succ k ih =>
    intro a h0 h1 hr ls hl
    refine lv_iload_n hx hb d_Pt_behind_57 rfl (lv_at hl 0 rfl) ?_
    refine lv_aload_n hx hb d_Pt_behind_58 rfl (lv_at hl 1 rfl) ?_
    refine va_get (D := D) (ci := 0) (v := .int (nI n)) (C := R_Pt) (T := F_Pt) (N := 3) hx hb hts i_Pt hown hK hP 0 rfl rfl 2 (by decide) (hts _ k_fl_Pt_9) (fun _ h9 => h9) rfl d_Pt_behind_59 ?_
    refine lv_icmp_ge (tgt := 84) hx hb d_Pt_behind_62 (by decide) (fun c62 => ?_) (fun c62 => ?_)
    · have c62 : n ≤ a := (nI_leI (by omega) (by omega)).mp c62
      rw [wq_sk_end (by omega)] at hr
      subst hr
      exact kk ls (lv_sub hl [0, 1] rfl)
    · have c62 : ¬ n ≤ a := fun hz => c62 ((nI_leI (by omega) (by omega)).mpr hz)
      refine lv_aload_n hx hb d_Pt_behind_65 rfl (lv_at hl 1 rfl) ?_
      refine lv_iload_n hx hb d_Pt_behind_66 rfl (lv_at hl 0 rfl) ?_
      refine wr_rd (As := [.int (nI a)]) (rest := []) S (c_Pt_at l D cB cI cZ h hp P hP8 n hn a (by omega)) (cwV 1 hts g_Pt_22 rfl rfl rfl (by decide +kernel) ⟨Nat.le_of_ble_eq_true rfl, Nat.le_of_ble_eq_true rfl⟩) hK hP (ci := 0) (q0 := 0) rfl rfl rfl rfl hl.1 rfl (lv_room (Nat.le_of_ble_eq_true rfl)) d_Pt_behind_67 ⟨Nat.zero_le _, Nat.zero_le _⟩ ?_
      refine lv_bipush (v := (nI 93)) hx hb d_Pt_behind_70 (by decide +kernel) ?_
      refine lv_icmp_eq (tgt := 84) hx hb d_Pt_behind_72 (by decide) (fun c72 => ?_) (fun c72 => ?_)
      · have c72 : (a < n ∧ P a = 93) := (atv_eq hP8 (by decide)).mp c72
        rw [wq_sk_end (fun z => z.2 c72.2)] at hr
        subst hr
        exact kk ls (lv_sub hl [0, 1] rfl)
      · have c72 : ¬ (a < n ∧ P a = 93) := fun hz => c72 ((atv_eq hP8 (by decide)).mpr hz)
        refine lv_aload_n hx hb d_Pt_behind_75 rfl (lv_at hl 1 rfl) ?_
        refine lv_iload_n hx hb d_Pt_behind_76 rfl (lv_at hl 0 rfl) ?_
        refine wr_rd (As := [.int (nI a)]) (rest := []) S (c_Pt_next l D cB cI cZ h hp P hP8 n hn a (by omega)) (cwV 1 hts g_Pt_39 rfl rfl rfl (by decide +kernel) ⟨Nat.le_of_ble_eq_true rfl, Nat.le_of_ble_eq_true rfl⟩) hK hP (ci := 0) (q0 := 0) rfl rfl rfl rfl hl.1 rfl (lv_room (Nat.le_of_ble_eq_true rfl)) d_Pt_behind_77 ⟨Nat.zero_le _, Nat.zero_le _⟩ ?_
        have f3 := wq_nx_le (P := P) (n := n) (q := a) (by omega)
        have f4 := wq_nx_gt P n a
        refine lv_istore_n (lv' := [(2, .int (nI (wq_nx P n a))), (0, .ref h)]) hx hb d_Pt_behind_80 rfl hl (by decide) rfl (fun ls hl => ?_)
        refine lv_goto (tgt := 57) hx hb d_Pt_behind_81 (by decide) ?_
        exact ih (wq_nx P n a) (by omega) (by omega) (by rw [← hr, wq_sk_go (q := a) (by omega) (fun z => c72 ⟨by omega, z⟩)]) ls (lv_sub hl [0, 1] rfl)
set_option maxHeartbeats 4000000 in
set_option maxRecDepth 100000 in
theorem c_Pt_behind (l : Launch) (D : va_G) (cB cI cZ : ClassId) (h hp : Nat) (P : Nat → Nat) (hP8 : ∀ k, P k < 256) (n : Nat) (hn : n ≤ 400) (a : Nat) (ha : a < n) : Met l y_Pt_behind w_Pt_behind rm_Pt_behind (Pr D cB cI cZ [.ref h, .int (nI a)] (wP h hp cB P n)) (QcRead (nI (wq_be P n a))) 0 0 (fun _ => False) := by
  refine Met.ofW (cc := b_Pt_behind) (maxL := 3) (ret := (some .int)) (by decide) rfl ?_
  intro p e s m args below meth c s₁ B hml hv
  obtain ⟨rfl, hP, hK⟩ := hv
  have hx := B.exec
  have hb := B.bytes
  have hr := B.returns
  have hts0 := atoms_spec (ws := w_Pt_behind) B.pre
  have hts : ∀ w ∈ gw, w.before _ s = true := fun w hw => hts0 w (List.mem_cons_of_mem _ hw)
  have hown : s.vm.findClass R_Pt = some m.cls := findClass_of_methodNamed B.named
  have hlocks := B.notSynchronized
  have S : CallFix p m c b_Pt_behind 3 s _ gw R_Pt := ⟨hx, hb, hml, hown, hts⟩
  have hl := lv_entry ([.ref h, .int (nI a)]) (n := 3) (Nat.le_of_ble_eq_true rfl)
  rw [lg_entry_eq]
  generalize (lg_sl ([.ref h, .int (nI a)]) ++ List.replicate (3 - (lg_sl ([.ref h, .int (nI a)])).length) Slot.unset).toArray = ls at hl ⊢
  have hl : lv_has ls 3 [(0, .ref h), (1, .int (nI a))] := hl
  show W p l e rm_Pt_behind s m _ below meth c s.heap [] 0 0 _ (F0 m 0 ls [])
  refine lv_aload_n hx hb d_Pt_behind_0 rfl (lv_at hl 0 rfl) ?_
  refine lv_iload_n hx hb d_Pt_behind_1 rfl (lv_at hl 1 rfl) ?_
  refine wr_rd (As := [.int (nI a)]) (rest := []) S (c_Pt_at l D cB cI cZ h hp P hP8 n hn a (by omega)) (cwV 1 hts g_Pt_22 rfl rfl rfl (by decide +kernel) ⟨Nat.le_of_ble_eq_true rfl, Nat.le_of_ble_eq_true rfl⟩) hK hP (ci := 0) (q0 := 0) rfl rfl rfl rfl hl.1 rfl (lv_room (Nat.le_of_ble_eq_true rfl)) d_Pt_behind_2 ⟨Nat.zero_le _, Nat.zero_le _⟩ ?_
  refine lv_bipush (v := (nI 92)) hx hb d_Pt_behind_5 (by decide +kernel) ?_
  refine lv_icmp_ne (tgt := 21) hx hb d_Pt_behind_7 (by decide) (fun c7 => ?_) (fun c7 => ?_)
  · have c7 : ¬ (a < n ∧ P a = 92) := fun hz => c7 ((atv_eq hP8 (by decide)).mpr hz)
    refine lv_aload_n hx hb d_Pt_behind_21 rfl (lv_at hl 0 rfl) ?_
    refine lv_iload_n hx hb d_Pt_behind_22 rfl (lv_at hl 1 rfl) ?_
    refine wr_rd (As := [.int (nI a)]) (rest := []) S (c_Pt_at l D cB cI cZ h hp P hP8 n hn a (by omega)) (cwV 1 hts g_Pt_22 rfl rfl rfl (by decide +kernel) ⟨Nat.le_of_ble_eq_true rfl, Nat.le_of_ble_eq_true rfl⟩) hK hP (ci := 0) (q0 := 0) rfl rfl rfl rfl hl.1 rfl (lv_room (Nat.le_of_ble_eq_true rfl)) d_Pt_behind_23 ⟨Nat.zero_le _, Nat.zero_le _⟩ ?_
    refine lv_bipush (v := (nI 91)) hx hb d_Pt_behind_26 (by decide +kernel) ?_
    refine lv_icmp_eq (tgt := 35) hx hb d_Pt_behind_28 (by decide) (fun c28 => ?_) (fun c28 => ?_)
    · have c28 : (a < n ∧ P a = 91) := (atv_eq hP8 (by decide)).mp c28
      refine lv_aload_n hx hb d_Pt_behind_35 rfl (lv_at hl 0 rfl) ?_
      refine lv_iload_n hx hb d_Pt_behind_36 rfl (lv_at hl 1 rfl) ?_
      refine lv_iconst (v := (nI 1)) hx hb d_Pt_behind_37 (by decide +kernel) ?_
      refine lv_iadd hx hb d_Pt_behind_38 ?_
      refine wr_cv (z := (nI (a + 1))) (nI_add a 1) ?_
      refine wr_rd (As := [.int (nI (a + 1))]) (rest := []) S (c_Pt_at l D cB cI cZ h hp P hP8 n hn (a + 1) (by omega)) (cwV 1 hts g_Pt_22 rfl rfl rfl (by decide +kernel) ⟨Nat.le_of_ble_eq_true rfl, Nat.le_of_ble_eq_true rfl⟩) hK hP (ci := 0) (q0 := 0) rfl rfl rfl rfl hl.1 rfl (lv_room (Nat.le_of_ble_eq_true rfl)) d_Pt_behind_39 ⟨Nat.zero_le _, Nat.zero_le _⟩ ?_
      refine lv_bipush (v := (nI 94)) hx hb d_Pt_behind_42 (by decide +kernel) ?_
      refine lv_icmp_ne (tgt := 53) hx hb d_Pt_behind_44 (by decide) (fun c44 => ?_) (fun c44 => ?_)
      · have c44 : ¬ ((a + 1) < n ∧ P (a + 1) = 94) := fun hz => c44 ((atv_eq hP8 (by decide)).mpr hz)
        refine lv_iload_n hx hb d_Pt_behind_53 rfl (lv_at hl 1 rfl) ?_
        refine lv_iconst (v := (nI 1)) hx hb d_Pt_behind_54 (by decide +kernel) ?_
        refine lv_iadd hx hb d_Pt_behind_55 ?_
        refine wr_cv (z := (nI (a + 1))) (nI_add a 1) ?_
        refine wr_cv (z := (nI (wq_q0 P n a))) (by rw [wq_q0, if_neg c44]) ?_
        refine lv_istore_n (lv' := [(2, .int (nI (wq_q0 P n a))), (0, .ref h), (1, .int (nI a))]) hx hb d_Pt_behind_56 rfl hl (by decide) rfl (fun ls hl => ?_)
        have hq0 := wq_q0_in (P := P) ha
        have hsk := wq_sk_in P n (n - wq_q0 P n a) (wq_q0 P n a) (Nat.le_refl _) hq0.2
        refine lp_behind hP8 hn S hK hP (r := wq_sk P n (wq_q0 P n a)) (fun ls hl => ?_) (n + 1) (wq_q0 P n a) (by omega) hq0.2 rfl ls (lv_sub hl [0, 1] rfl)
        refine lv_iload_n hx hb d_Pt_behind_84 rfl (lv_at hl 0 rfl) ?_
        refine lv_iconst (v := (nI 1)) hx hb d_Pt_behind_85 (by decide +kernel) ?_
        refine lv_iadd hx hb d_Pt_behind_86 ?_
        refine wr_cv (z := (nI (wq_sk P n (wq_q0 P n a) + 1))) (nI_add (wq_sk P n (wq_q0 P n a)) 1) ?_
        refine lv_aload_n hx hb d_Pt_behind_87 rfl (lv_at hl 1 rfl) ?_
        refine va_get (D := D) (ci := 0) (v := .int (nI n)) (C := R_Pt) (T := F_Pt) (N := 3) hx hb hts i_Pt hown hK hP 0 rfl rfl 2 (by decide) (hts _ k_fl_Pt_9) (fun _ h9 => h9) rfl d_Pt_behind_88 ?_
        refine va_mmin hx hb (hml.trans hl.1.symm) hown (hts _ k_ml_Pt_33) (hts _ k_st_min) (hts _ k_ini_Math) (hts _ k_code_min) (Nat.le_of_ble_eq_true rfl) (Nat.le_of_ble_eq_true rfl) (Nat.zero_le _) (Nat.zero_le _) d_Pt_behind_91 ?_
        refine wr_cv (z := (nI (min (wq_sk P n (wq_q0 P n a) + 1) n))) (min_n (by omega) (by omega)) ?_
        refine wr_cv (z := nI (wq_be P n a)) (by rw [wq_be, if_pos c28.2]) ?_
        exact W.iret hx hb hr (fun t ht _ => ⟨rfl, ht⟩) (fun _ h9 => absurd h9 List.not_mem_nil) d_Pt_behind_94
      · have c44 : ((a + 1) < n ∧ P (a + 1) = 94) := (atv_eq hP8 (by decide)).mp c44
        refine lv_iload_n hx hb d_Pt_behind_47 rfl (lv_at hl 1 rfl) ?_
        refine lv_iconst (v := (nI 2)) hx hb d_Pt_behind_48 (by decide +kernel) ?_
        refine lv_iadd hx hb d_Pt_behind_49 ?_
        refine wr_cv (z := (nI (a + 2))) (nI_add a 2) ?_
        refine lv_goto (tgt := 56) hx hb d_Pt_behind_50 (by decide) ?_
        refine wr_cv (z := (nI (wq_q0 P n a))) (by rw [wq_q0, if_pos c44]) ?_
        refine lv_istore_n (lv' := [(2, .int (nI (wq_q0 P n a))), (0, .ref h), (1, .int (nI a))]) hx hb d_Pt_behind_56 rfl hl (by decide) rfl (fun ls hl => ?_)
        have hq0 := wq_q0_in (P := P) ha
        have hsk := wq_sk_in P n (n - wq_q0 P n a) (wq_q0 P n a) (Nat.le_refl _) hq0.2
        refine lp_behind hP8 hn S hK hP (r := wq_sk P n (wq_q0 P n a)) (fun ls hl => ?_) (n + 1) (wq_q0 P n a) (by omega) hq0.2 rfl ls (lv_sub hl [0, 1] rfl)
        refine lv_iload_n hx hb d_Pt_behind_84 rfl (lv_at hl 0 rfl) ?_
        refine lv_iconst (v := (nI 1)) hx hb d_Pt_behind_85 (by decide +kernel) ?_
        refine lv_iadd hx hb d_Pt_behind_86 ?_
        refine wr_cv (z := (nI (wq_sk P n (wq_q0 P n a) + 1))) (nI_add (wq_sk P n (wq_q0 P n a)) 1) ?_
        refine lv_aload_n hx hb d_Pt_behind_87 rfl (lv_at hl 1 rfl) ?_
        refine va_get (D := D) (ci := 0) (v := .int (nI n)) (C := R_Pt) (T := F_Pt) (N := 3) hx hb hts i_Pt hown hK hP 0 rfl rfl 2 (by decide) (hts _ k_fl_Pt_9) (fun _ h9 => h9) rfl d_Pt_behind_88 ?_
        refine va_mmin hx hb (hml.trans hl.1.symm) hown (hts _ k_ml_Pt_33) (hts _ k_st_min) (hts _ k_ini_Math) (hts _ k_code_min) (Nat.le_of_ble_eq_true rfl) (Nat.le_of_ble_eq_true rfl) (Nat.zero_le _) (Nat.zero_le _) d_Pt_behind_91 ?_
        refine wr_cv (z := (nI (min (wq_sk P n (wq_q0 P n a) + 1) n))) (min_n (by omega) (by omega)) ?_
        refine wr_cv (z := nI (wq_be P n a)) (by rw [wq_be, if_pos c28.2]) ?_
        exact W.iret hx hb hr (fun t ht _ => ⟨rfl, ht⟩) (fun _ h9 => absurd h9 List.not_mem_nil) d_Pt_behind_94
    · have c28 : ¬ (a < n ∧ P a = 91) := fun hz => c28 ((atv_eq hP8 (by decide)).mpr hz)
      refine lv_iload_n hx hb d_Pt_behind_31 rfl (lv_at hl 1 rfl) ?_
      refine lv_iconst (v := (nI 1)) hx hb d_Pt_behind_32 (by decide +kernel) ?_
      refine lv_iadd hx hb d_Pt_behind_33 ?_
      refine wr_cv (z := (nI (a + 1))) (nI_add a 1) ?_
      refine wr_cv (z := nI (wq_be P n a)) (by rw [wq_be, if_neg (fun z => c28 ⟨ha, z⟩), wq_nx, if_neg (fun z => c7 ⟨ha, z.1⟩)]) ?_
      exact W.iret hx hb hr (fun t ht _ => ⟨rfl, ht⟩) (fun _ h9 => absurd h9 List.not_mem_nil) d_Pt_behind_34
  · have c7 : (a < n ∧ P a = 92) := (atv_eq hP8 (by decide)).mp c7
    refine lv_iload_n hx hb d_Pt_behind_10 rfl (lv_at hl 1 rfl) ?_
    refine lv_iconst (v := (nI 2)) hx hb d_Pt_behind_11 (by decide +kernel) ?_
    refine lv_iadd hx hb d_Pt_behind_12 ?_
    refine wr_cv (z := (nI (a + 2))) (nI_add a 2) ?_
    refine lv_aload_n hx hb d_Pt_behind_13 rfl (lv_at hl 0 rfl) ?_
    refine va_get (D := D) (ci := 0) (v := .int (nI n)) (C := R_Pt) (T := F_Pt) (N := 3) hx hb hts i_Pt hown hK hP 0 rfl rfl 2 (by decide) (hts _ k_fl_Pt_9) (fun _ h9 => h9) rfl d_Pt_behind_14 ?_
    refine va_mmin hx hb (hml.trans hl.1.symm) hown (hts _ k_ml_Pt_33) (hts _ k_st_min) (hts _ k_ini_Math) (hts _ k_code_min) (Nat.le_of_ble_eq_true rfl) (Nat.le_of_ble_eq_true rfl) (Nat.zero_le _) (Nat.zero_le _) d_Pt_behind_17 ?_
    refine wr_cv (z := (nI (wq_nx P n a))) (min_nx ha hn c7.2) ?_
    refine wr_cv (z := nI (wq_be P n a)) (by rw [wq_be, if_neg (by rw [c7.2]; decide)]) ?_
    exact W.iret hx hb hr (fun t ht _ => ⟨rfl, ht⟩) (fun _ h9 => absurd h9 List.not_mem_nil) d_Pt_behind_20
set_option maxHeartbeats 4000000 in
set_option maxRecDepth 100000 in
theorem lp_takes {p : Program} {l : Launch} {e : Env} {s : State} {m : MethodId} {args : Array Value} {below : List Frame} {meth : Method} {c : Code} {H : Heap} {locs : List Loc} {Q : State → Prop} {D : va_G} {cB cI cZ : ClassId} {h hp : Nat} {P : Nat → Nat} (hP8 : ∀ k, P k < 256) {n : Nat} (hn : n ≤ 400) {b : Nat} (hbb : b < 256) {ng r : Bool} (S : CallFix p m c b_Pt_takes 10 s args gw R_Pt) (hK : va_K D classes (TY cB cI cZ) s) (hP : va_P D classes (wP h hp cB P n) H) (kk : ∀ ls, lv_has ls 10 [(4, .int (bI ng)), (6, .int (bI r))] → W p l e rm_Pt_takes s m args below meth c H locs 0 0 Q (F0 m 216 ls [])) : ∀ (k a : Nat) (is : Bool), n - a < k → a ≤ n → wq_B P n b a is = r → ∀ ls, lv_has ls 10 [(0, .ref h), (2, .int (nI b)), (4, .int (bI ng)), (5, .int (nI a)), (6, .int (bI is))] → W p l e rm_Pt_takes s m args below meth c H locs 0 0 Q (F0 m 90 ls []) := by
  obtain ⟨hx, hb, hml, hown, hts⟩ := id S
  intro k
  induction k with
  | zero => intro a is h0; exact absurd h0 (Nat.not_lt_zero _)
  | succ k ih =>
    intro a is h0 h1 hr ls hl
    refine lv_iload hx hb d_Pt_takes_90 (lv_at hl 3 rfl) ?_
    refine lv_aload_n hx hb d_Pt_takes_92 rfl (lv_at hl 0 rfl) ?_
    refine va_get (D := D) (ci := 0) (v := .int (nI n)) (C := R_Pt) (T := F_Pt) (N := 3) hx hb hts i_Pt hown hK hP 0 rfl rfl 2 (by decide) (hts _ k_fl_Pt_9) (fun _ h9 => h9) rfl d_Pt_takes_93 ?_
    refine lv_icmp_ge (tgt := 216) hx hb d_Pt_takes_96 (by decide) (fun c96 => ?_) (fun c96 => ?_)
    · have c96 : n ≤ a := (nI_leI (by omega) (by omega)).mp c96
      rw [wq_B_end (by omega)] at hr
      subst hr
      exact kk ls (lv_sub hl [2, 4] rfl)
    · have c96 : ¬ n ≤ a := fun hz => c96 ((nI_leI (by omega) (by omega)).mpr hz)
      refine lv_aload_n hx hb d_Pt_takes_99 rfl (lv_at hl 0 rfl) ?_
      refine lv_iload hx hb d_Pt_takes_100 (lv_at hl 3 rfl) ?_
      refine wr_rd (As := [.int (nI a)]) (rest := []) S (c_Pt_at l D cB cI cZ h hp P hP8 n hn a (by omega)) (cwV 1 hts g_Pt_22 rfl rfl rfl (by decide +kernel) ⟨Nat.le_of_ble_eq_true rfl, Nat.le_of_ble_eq_true rfl⟩) hK hP (ci := 0) (q0 := 0) rfl rfl rfl rfl hl.1 rfl (lv_room (Nat.le_of_ble_eq_true rfl)) d_Pt_takes_102 ⟨Nat.zero_le _, Nat.zero_le _⟩ ?_
      refine lv_bipush (v := (nI 93)) hx hb d_Pt_takes_105 (by decide +kernel) ?_
      refine lv_icmp_eq (tgt := 216) hx hb d_Pt_takes_107 (by decide) (fun c107 => ?_) (fun c107 => ?_)
      · have c107 : (a < n ∧ P a = 93) := (atv_eq hP8 (by decide)).mp c107
        rw [wq_B_end (fun z => z.2 c107.2)] at hr
        subst hr
        exact kk ls (lv_sub hl [2, 4] rfl)
      · have c107 : ¬ (a < n ∧ P a = 93) := fun hz => c107 ((atv_eq hP8 (by decide)).mpr hz)
        have hq1 := wq_q1_gt P n a
        have hq2 := wq_q1_le (P := P) (n := n) (q := a) (by omega)
        have hh := wq_hi_lt hP8 n a
        have hp1 := wq_pl_lt hP8 n a
        have J207 : ∀ (x : Int32) (ls : Array Slot), x = bI (is || wq_ok P n a b) → lv_has ls 10 [(0, .ref h), (2, .int (nI b)), (4, .int (bI ng)), (6, .int (bI is)), (7, .int (nI (wq_pl P n a))), (8, .int (nI (wq_hi P n a))), (9, .int (nI (wq_q1 P n a)))] → W p l e rm_Pt_takes s m args below meth c H locs 0 0 Q (F0 m 207 ls [.int x]) := by
          intro x ls ex hl
          subst ex
          refine lv_istore (lv' := [(6, .int (bI (is || wq_ok P n a b))), (0, .ref h), (2, .int (nI b)), (4, .int (bI ng)), (7, .int (nI (wq_pl P n a))), (8, .int (nI (wq_hi P n a))), (9, .int (nI (wq_q1 P n a)))]) hx hb d_Pt_takes_207 hl (by decide) rfl (fun ls hl => ?_)
          refine lv_iload hx hb d_Pt_takes_209 (lv_at hl 6 rfl) ?_
          refine lv_istore (lv' := [(5, .int (nI (wq_q1 P n a))), (6, .int (bI (is || wq_ok P n a b))), (0, .ref h), (2, .int (nI b)), (4, .int (bI ng)), (7, .int (nI (wq_pl P n a))), (8, .int (nI (wq_hi P n a))), (9, .int (nI (wq_q1 P n a)))]) hx hb d_Pt_takes_211 hl (by decide) rfl (fun ls hl => ?_)
          refine lv_goto (tgt := 90) hx hb d_Pt_takes_213 (by decide) ?_
          exact ih (wq_q1 P n a) _ (by omega) hq2 (by rw [← hr, wq_B_go (q := a) (by omega) (fun z => c107 ⟨by omega, z⟩)]) ls (lv_sub hl [2, 3, 4, 0, 1] rfl)
        have J185 : ∀ (y1 y2 : Nat) (ls : Array Slot), y1 = wq_hi P n a → y2 = wq_q1 P n a → lv_has ls 10 [(0, .ref h), (2, .int (nI b)), (4, .int (bI ng)), (6, .int (bI is)), (7, .int (nI (wq_pl P n a))), (8, .int (nI y1)), (9, .int (nI y2))] → W p l e rm_Pt_takes s m args below meth c H locs 0 0 Q (F0 m 185 ls []) := by
          intro y1 y2 ls e1 e2 hl
          subst e1
          subst e2
          refine lv_iload hx hb d_Pt_takes_185 (lv_at hl 3 rfl) ?_
          refine lv_if_ne (tgt := 202) hx hb d_Pt_takes_187 (by decide) (fun c187 => ?_) (fun c187 => ?_)
          · have c187 : is = true := ts_b (fun hz => c187 (bI_0.mpr hz))
            refine lv_iconst (v := (nI 1)) hx hb d_Pt_takes_202 (by decide +kernel) ?_
            refine lv_goto (tgt := 207) hx hb d_Pt_takes_203 (by decide) ?_
            exact J207 _ ls (by first | (rw [c187]; rfl) | (rw [c187, wq_ok, decide_eq_true (And.intro (by omega) (by omega))]; rfl)) (lv_sub hl [0, 1, 2, 3, 4, 5, 6] rfl)
          · have c187 : is = false := bI_0.mp c187
            refine lv_iload hx hb d_Pt_takes_190 (lv_at hl 4 rfl) ?_
            refine lv_iload_n hx hb d_Pt_takes_192 rfl (lv_at hl 1 rfl) ?_
            refine lv_icmp_gt (tgt := 206) hx hb d_Pt_takes_193 (by decide) (fun c5 => ?_) (fun c5 => ?_)
            · have c5 : b < (wq_pl P n a) := (nI_ltI (by omega) (by omega)).mp c5
              refine lv_iconst (v := (nI 0)) hx hb d_Pt_takes_206 (by decide +kernel) ?_
              exact J207 _ ls (by rw [c187, wq_ok, decide_eq_false (fun z => by omega)]; rfl) (lv_sub hl [0, 1, 2, 3, 4, 5, 6] rfl)
            · have c5 : ¬ b < (wq_pl P n a) := fun hz => c5 ((nI_ltI (by omega) (by omega)).mpr hz)
              refine lv_iload_n hx hb d_Pt_takes_196 rfl (lv_at hl 1 rfl) ?_
              refine lv_iload hx hb d_Pt_takes_197 (lv_at hl 5 rfl) ?_
              refine lv_icmp_gt (tgt := 206) hx hb d_Pt_takes_199 (by decide) (fun c6 => ?_) (fun c6 => ?_)
              · have c6 : (wq_hi P n a) < b := (nI_ltI (by omega) (by omega)).mp c6
                refine lv_iconst (v := (nI 0)) hx hb d_Pt_takes_206 (by decide +kernel) ?_
                exact J207 _ ls (by rw [c187, wq_ok, decide_eq_false (fun z => by omega)]; rfl) (lv_sub hl [0, 1, 2, 3, 4, 5, 6] rfl)
              · have c6 : ¬ (wq_hi P n a) < b := fun hz => c6 ((nI_ltI (by omega) (by omega)).mpr hz)
                refine lv_iconst (v := (nI 1)) hx hb d_Pt_takes_202 (by decide +kernel) ?_
                refine lv_goto (tgt := 207) hx hb d_Pt_takes_203 (by decide) ?_
                exact J207 _ ls (by first | (rw [c187]; rfl) | (rw [c187, wq_ok, decide_eq_true (And.intro (by omega) (by omega))]; rfl)) (lv_sub hl [0, 1, 2, 3, 4, 5, 6] rfl)
        refine lv_aload_n hx hb d_Pt_takes_110 rfl (lv_at hl 0 rfl) ?_
        refine lv_iload hx hb d_Pt_takes_111 (lv_at hl 3 rfl) ?_
        refine wr_rd (As := [.int (nI a)]) (rest := []) S (c_Pt_plain l D cB cI cZ h hp P hP8 n hn a (by omega)) (cwV 1 hts g_Pt_42 rfl rfl rfl (by decide +kernel) ⟨Nat.le_of_ble_eq_true rfl, Nat.le_of_ble_eq_true rfl⟩) hK hP (ci := 0) (q0 := 0) rfl rfl rfl rfl hl.1 rfl (lv_room (Nat.le_of_ble_eq_true rfl)) d_Pt_takes_113 ⟨Nat.zero_le _, Nat.zero_le _⟩ ?_
        have f7 := wq_pl_lt hP8 n a
        refine lv_istore (lv' := [(7, .int (nI (wq_pl P n a))), (0, .ref h), (2, .int (nI b)), (4, .int (bI ng)), (5, .int (nI a)), (6, .int (bI is))]) hx hb d_Pt_takes_116 hl (by decide) rfl (fun ls hl => ?_)
        refine lv_iload hx hb d_Pt_takes_118 (lv_at hl 0 rfl) ?_
        refine lv_istore (lv' := [(8, .int (nI (wq_pl P n a))), (7, .int (nI (wq_pl P n a))), (0, .ref h), (2, .int (nI b)), (4, .int (bI ng)), (5, .int (nI a)), (6, .int (bI is))]) hx hb d_Pt_takes_120 hl (by decide) rfl (fun ls hl => ?_)
        refine lv_aload_n hx hb d_Pt_takes_122 rfl (lv_at hl 2 rfl) ?_
        refine lv_iload hx hb d_Pt_takes_123 (lv_at hl 5 rfl) ?_
        refine wr_rd (As := [.int (nI a)]) (rest := []) S (c_Pt_next l D cB cI cZ h hp P hP8 n hn a (by omega)) (cwV 1 hts g_Pt_39 rfl rfl rfl (by decide +kernel) ⟨Nat.le_of_ble_eq_true rfl, Nat.le_of_ble_eq_true rfl⟩) hK hP (ci := 0) (q0 := 0) rfl rfl rfl rfl hl.1 rfl (lv_room (Nat.le_of_ble_eq_true rfl)) d_Pt_takes_125 ⟨Nat.zero_le _, Nat.zero_le _⟩ ?_
        have f8 := wq_nx_le (P := P) (n := n) (q := a) (by omega)
        have f9 := wq_nx_gt P n a
        refine lv_istore (lv' := [(9, .int (nI (wq_nx P n a))), (8, .int (nI (wq_pl P n a))), (7, .int (nI (wq_pl P n a))), (0, .ref h), (2, .int (nI b)), (4, .int (bI ng)), (5, .int (nI a)), (6, .int (bI is))]) hx hb d_Pt_takes_128 hl (by decide) rfl (fun ls hl => ?_)
        refine lv_aload_n hx hb d_Pt_takes_130 rfl (lv_at hl 3 rfl) ?_
        refine lv_iload hx hb d_Pt_takes_131 (lv_at hl 0 rfl) ?_
        refine wr_rd (As := [.int (nI (wq_nx P n a))]) (rest := []) S (c_Pt_at l D cB cI cZ h hp P hP8 n hn (wq_nx P n a) (by omega)) (cwV 1 hts g_Pt_22 rfl rfl rfl (by decide +kernel) ⟨Nat.le_of_ble_eq_true rfl, Nat.le_of_ble_eq_true rfl⟩) hK hP (ci := 0) (q0 := 0) rfl rfl rfl rfl hl.1 rfl (lv_room (Nat.le_of_ble_eq_true rfl)) d_Pt_takes_133 ⟨Nat.zero_le _, Nat.zero_le _⟩ ?_
        refine lv_bipush (v := (nI 45)) hx hb d_Pt_takes_136 (by decide +kernel) ?_
        refine lv_icmp_ne (tgt := 185) hx hb d_Pt_takes_138 (by decide) (fun c138 => ?_) (fun c138 => ?_)
        · have c138 : ¬ ((wq_nx P n a) < n ∧ P (wq_nx P n a) = 45) := fun hz => c138 ((atv_eq hP8 (by decide)).mpr hz)
          exact J185 _ _ ls (by rw [wq_hi, if_neg (by first | exact fun z => c138 ⟨by omega, z.2.1⟩ | exact fun z => absurd z.1 c149 | exact fun z => z.2.2 c162.2)]) (by rw [wq_q1, if_neg (by first | exact fun z => c138 ⟨by omega, z.2.1⟩ | exact fun z => absurd z.1 c149 | exact fun z => z.2.2 c162.2)]) (lv_sub hl [3, 4, 5, 7, 2, 1, 0] rfl)
        · have c138 : ((wq_nx P n a) < n ∧ P (wq_nx P n a) = 45) := (atv_eq hP8 (by decide)).mp c138
          refine lv_aload_n hx hb d_Pt_takes_141 rfl (lv_at hl 3 rfl) ?_
          refine lv_iload hx hb d_Pt_takes_142 (lv_at hl 0 rfl) ?_
          refine lv_iconst (v := (nI 1)) hx hb d_Pt_takes_144 (by decide +kernel) ?_
          refine lv_iadd hx hb d_Pt_takes_145 ?_
          refine wr_cv (z := (nI (wq_nx P n a + 1))) (nI_add (wq_nx P n a) 1) ?_
          refine wr_rd (As := [.int (nI (wq_nx P n a + 1))]) (rest := []) S (c_Pt_at l D cB cI cZ h hp P hP8 n hn (wq_nx P n a + 1) (by omega)) (cwV 1 hts g_Pt_22 rfl rfl rfl (by decide +kernel) ⟨Nat.le_of_ble_eq_true rfl, Nat.le_of_ble_eq_true rfl⟩) hK hP (ci := 0) (q0 := 0) rfl rfl rfl rfl hl.1 rfl (lv_room (Nat.le_of_ble_eq_true rfl)) d_Pt_takes_146 ⟨Nat.zero_le _, Nat.zero_le _⟩ ?_
          refine lv_if_lt (tgt := 185) hx hb d_Pt_takes_149 (by decide) (fun c149 => ?_) (fun c149 => ?_)
          · have c149 : ¬ (wq_nx P n a + 1) < n := (atv_neg hP8).mp c149
            exact J185 _ _ ls (by rw [wq_hi, if_neg (by first | exact fun z => c138 ⟨by omega, z.2.1⟩ | exact fun z => absurd z.1 c149 | exact fun z => z.2.2 c162.2)]) (by rw [wq_q1, if_neg (by first | exact fun z => c138 ⟨by omega, z.2.1⟩ | exact fun z => absurd z.1 c149 | exact fun z => z.2.2 c162.2)]) (lv_sub hl [3, 4, 5, 7, 2, 1, 0] rfl)
          · have c149 : (wq_nx P n a + 1) < n := Classical.byContradiction (fun hz => c149 ((atv_neg hP8).mpr hz))
            refine lv_aload_n hx hb d_Pt_takes_152 rfl (lv_at hl 3 rfl) ?_
            refine lv_iload hx hb d_Pt_takes_153 (lv_at hl 0 rfl) ?_
            refine lv_iconst (v := (nI 1)) hx hb d_Pt_takes_155 (by decide +kernel) ?_
            refine lv_iadd hx hb d_Pt_takes_156 ?_
            refine wr_cv (z := (nI (wq_nx P n a + 1))) (nI_add (wq_nx P n a) 1) ?_
            refine wr_rd (As := [.int (nI (wq_nx P n a + 1))]) (rest := []) S (c_Pt_at l D cB cI cZ h hp P hP8 n hn (wq_nx P n a + 1) (by omega)) (cwV 1 hts g_Pt_22 rfl rfl rfl (by decide +kernel) ⟨Nat.le_of_ble_eq_true rfl, Nat.le_of_ble_eq_true rfl⟩) hK hP (ci := 0) (q0 := 0) rfl rfl rfl rfl hl.1 rfl (lv_room (Nat.le_of_ble_eq_true rfl)) d_Pt_takes_157 ⟨Nat.zero_le _, Nat.zero_le _⟩ ?_
            refine lv_bipush (v := (nI 93)) hx hb d_Pt_takes_160 (by decide +kernel) ?_
            refine lv_icmp_eq (tgt := 185) hx hb d_Pt_takes_162 (by decide) (fun c162 => ?_) (fun c162 => ?_)
            · have c162 : ((wq_nx P n a + 1) < n ∧ P (wq_nx P n a + 1) = 93) := (atv_eq hP8 (by decide)).mp c162
              exact J185 _ _ ls (by rw [wq_hi, if_neg (by first | exact fun z => c138 ⟨by omega, z.2.1⟩ | exact fun z => absurd z.1 c149 | exact fun z => z.2.2 c162.2)]) (by rw [wq_q1, if_neg (by first | exact fun z => c138 ⟨by omega, z.2.1⟩ | exact fun z => absurd z.1 c149 | exact fun z => z.2.2 c162.2)]) (lv_sub hl [3, 4, 5, 7, 2, 1, 0] rfl)
            · have c162 : ¬ ((wq_nx P n a + 1) < n ∧ P (wq_nx P n a + 1) = 93) := fun hz => c162 ((atv_eq hP8 (by decide)).mpr hz)
              refine lv_aload_n hx hb d_Pt_takes_165 rfl (lv_at hl 3 rfl) ?_
              refine lv_iload hx hb d_Pt_takes_166 (lv_at hl 0 rfl) ?_
              refine lv_iconst (v := (nI 1)) hx hb d_Pt_takes_168 (by decide +kernel) ?_
              refine lv_iadd hx hb d_Pt_takes_169 ?_
              refine wr_cv (z := (nI (wq_nx P n a + 1))) (nI_add (wq_nx P n a) 1) ?_
              refine wr_rd (As := [.int (nI (wq_nx P n a + 1))]) (rest := []) S (c_Pt_plain l D cB cI cZ h hp P hP8 n hn (wq_nx P n a + 1) (by omega)) (cwV 1 hts g_Pt_42 rfl rfl rfl (by decide +kernel) ⟨Nat.le_of_ble_eq_true rfl, Nat.le_of_ble_eq_true rfl⟩) hK hP (ci := 0) (q0 := 0) rfl rfl rfl rfl hl.1 rfl (lv_room (Nat.le_of_ble_eq_true rfl)) d_Pt_takes_170 ⟨Nat.zero_le _, Nat.zero_le _⟩ ?_
              have f10 := wq_pl_lt hP8 n (wq_nx P n a + 1)
              refine lv_istore (lv' := [(8, .int (nI (wq_pl P n (wq_nx P n a + 1)))), (9, .int (nI (wq_nx P n a))), (7, .int (nI (wq_pl P n a))), (0, .ref h), (2, .int (nI b)), (4, .int (bI ng)), (5, .int (nI a)), (6, .int (bI is))]) hx hb d_Pt_takes_173 hl (by decide) rfl (fun ls hl => ?_)
              refine lv_aload_n hx hb d_Pt_takes_175 rfl (lv_at hl 3 rfl) ?_
              refine lv_iload hx hb d_Pt_takes_176 (lv_at hl 1 rfl) ?_
              refine lv_iconst (v := (nI 1)) hx hb d_Pt_takes_178 (by decide +kernel) ?_
              refine lv_iadd hx hb d_Pt_takes_179 ?_
              refine wr_cv (z := (nI (wq_nx P n a + 1))) (nI_add (wq_nx P n a) 1) ?_
              refine wr_rd (As := [.int (nI (wq_nx P n a + 1))]) (rest := []) S (c_Pt_next l D cB cI cZ h hp P hP8 n hn (wq_nx P n a + 1) (by omega)) (cwV 1 hts g_Pt_39 rfl rfl rfl (by decide +kernel) ⟨Nat.le_of_ble_eq_true rfl, Nat.le_of_ble_eq_true rfl⟩) hK hP (ci := 0) (q0 := 0) rfl rfl rfl rfl hl.1 rfl (lv_room (Nat.le_of_ble_eq_true rfl)) d_Pt_takes_180 ⟨Nat.zero_le _, Nat.zero_le _⟩ ?_
              have f11 := wq_nx_le (P := P) (n := n) (q := wq_nx P n a + 1) (by omega)
              have f12 := wq_nx_gt P n (wq_nx P n a + 1)
              refine lv_istore (lv' := [(9, .int (nI (wq_nx P n (wq_nx P n a + 1)))), (8, .int (nI (wq_pl P n (wq_nx P n a + 1)))), (7, .int (nI (wq_pl P n a))), (0, .ref h), (2, .int (nI b)), (4, .int (bI ng)), (5, .int (nI a)), (6, .int (bI is))]) hx hb d_Pt_takes_183 hl (by decide) rfl (fun ls hl => ?_)
              exact J185 _ _ ls (by rw [wq_hi, if_pos ⟨c149, c138.2, fun z => c162 ⟨c149, z⟩⟩]) (by rw [wq_q1, if_pos ⟨c149, c138.2, fun z => c162 ⟨c149, z⟩⟩]) (lv_sub hl [3, 4, 5, 7, 2, 1, 0] rfl)
set_option maxHeartbeats 4000000 in
set_option maxRecDepth 100000 in
theorem c_Pt_takes (l : Launch) (D : va_G) (cB cI cZ : ClassId) (h hp : Nat) (P : Nat → Nat) (hP8 : ∀ k, P k < 256) (n : Nat) (hn : n ≤ 400) (a b : Nat) (ha : a < n) (hbb : b < 256) : Met l y_Pt_takes w_Pt_takes rm_Pt_takes (Pr D cB cI cZ [.ref h, .int (nI a), .int (nI b)] (wP h hp cB P n)) (QcRead (bI (wq_tk P n a b))) 0 0 (fun _ => False) := by
  refine Met.ofW (cc := b_Pt_takes) (maxL := 10) (ret := (some .boolean)) (by decide) rfl ?_
  intro p e s m args below meth c s₁ B hml hv
  obtain ⟨rfl, hP, hK⟩ := hv
  have hx := B.exec
  have hb := B.bytes
  have hr := B.returns
  have hts0 := atoms_spec (ws := w_Pt_takes) B.pre
  have hts : ∀ w ∈ gw, w.before _ s = true := fun w hw => hts0 w (List.mem_cons_of_mem _ hw)
  have hown : s.vm.findClass R_Pt = some m.cls := findClass_of_methodNamed B.named
  have hlocks := B.notSynchronized
  have S : CallFix p m c b_Pt_takes 10 s _ gw R_Pt := ⟨hx, hb, hml, hown, hts⟩
  have hl := lv_entry ([.ref h, .int (nI a), .int (nI b)]) (n := 10) (Nat.le_of_ble_eq_true rfl)
  rw [lg_entry_eq]
  generalize (lg_sl ([.ref h, .int (nI a), .int (nI b)]) ++ List.replicate (10 - (lg_sl ([.ref h, .int (nI a), .int (nI b)])).length) Slot.unset).toArray = ls at hl ⊢
  have hl : lv_has ls 10 [(0, .ref h), (1, .int (nI a)), (2, .int (nI b))] := hl
  show W p l e rm_Pt_takes s m _ below meth c s.heap [] 0 0 _ (F0 m 0 ls [])
  have hpl := wq_pl_lt hP8 n a
  refine lv_aload_n hx hb d_Pt_takes_0 rfl (lv_at hl 0 rfl) ?_
  refine lv_iload_n hx hb d_Pt_takes_1 rfl (lv_at hl 1 rfl) ?_
  refine wr_rd (As := [.int (nI a)]) (rest := []) S (c_Pt_at l D cB cI cZ h hp P hP8 n hn a (by omega)) (cwV 1 hts g_Pt_22 rfl rfl rfl (by decide +kernel) ⟨Nat.le_of_ble_eq_true rfl, Nat.le_of_ble_eq_true rfl⟩) hK hP (ci := 0) (q0 := 0) rfl rfl rfl rfl hl.1 rfl (lv_room (Nat.le_of_ble_eq_true rfl)) d_Pt_takes_2 ⟨Nat.zero_le _, Nat.zero_le _⟩ ?_
  refine lv_istore_n (lv' := [(3, .int (atv P n a)), (0, .ref h), (1, .int (nI a)), (2, .int (nI b))]) hx hb d_Pt_takes_5 rfl hl (by decide) rfl (fun ls hl => ?_)
  refine lv_iload_n hx hb d_Pt_takes_6 rfl (lv_at hl 0 rfl) ?_
  refine lv_bipush (v := (nI 63)) hx hb d_Pt_takes_7 (by decide +kernel) ?_
  refine lv_icmp_ne (tgt := 14) hx hb d_Pt_takes_9 (by decide) (fun c9 => ?_) (fun c9 => ?_)
  · have c9 : ¬ (a < n ∧ P a = 63) := fun hz => c9 ((atv_eq hP8 (by decide)).mpr hz)
    refine lv_iload_n hx hb d_Pt_takes_14 rfl (lv_at hl 0 rfl) ?_
    refine lv_bipush (v := (nI 92)) hx hb d_Pt_takes_15 (by decide +kernel) ?_
    refine lv_icmp_ne (tgt := 35) hx hb d_Pt_takes_17 (by decide) (fun c17 => ?_) (fun c17 => ?_)
    · have c17 : ¬ (a < n ∧ P a = 92) := fun hz => c17 ((atv_eq hP8 (by decide)).mpr hz)
      refine lv_iload_n hx hb d_Pt_takes_35 rfl (lv_at hl 0 rfl) ?_
      refine lv_bipush (v := (nI 91)) hx hb d_Pt_takes_36 (by decide +kernel) ?_
      refine lv_icmp_eq (tgt := 52) hx hb d_Pt_takes_38 (by decide) (fun c38 => ?_) (fun c38 => ?_)
      · have c38 : (a < n ∧ P a = 91) := (atv_eq hP8 (by decide)).mp c38
        refine lv_aload_n hx hb d_Pt_takes_52 rfl (lv_at hl 1 rfl) ?_
        refine lv_iload_n hx hb d_Pt_takes_53 rfl (lv_at hl 2 rfl) ?_
        refine lv_iconst (v := (nI 1)) hx hb d_Pt_takes_54 (by decide +kernel) ?_
        refine lv_iadd hx hb d_Pt_takes_55 ?_
        refine wr_cv (z := (nI (a + 1))) (nI_add a 1) ?_
        refine wr_rd (As := [.int (nI (a + 1))]) (rest := []) S (c_Pt_at l D cB cI cZ h hp P hP8 n hn (a + 1) (by omega)) (cwV 1 hts g_Pt_22 rfl rfl rfl (by decide +kernel) ⟨Nat.le_of_ble_eq_true rfl, Nat.le_of_ble_eq_true rfl⟩) hK hP (ci := 0) (q0 := 0) rfl rfl rfl rfl hl.1 rfl (lv_room (Nat.le_of_ble_eq_true rfl)) d_Pt_takes_56 ⟨Nat.zero_le _, Nat.zero_le _⟩ ?_
        refine lv_bipush (v := (nI 94)) hx hb d_Pt_takes_59 (by decide +kernel) ?_
        refine lv_icmp_ne (tgt := 68) hx hb d_Pt_takes_61 (by decide) (fun c61 => ?_) (fun c61 => ?_)
        · have c61 : ¬ ((a + 1) < n ∧ P (a + 1) = 94) := fun hz => c61 ((atv_eq hP8 (by decide)).mpr hz)
          refine lv_iconst (v := (nI 0)) hx hb d_Pt_takes_68 (by decide +kernel) ?_
          refine wr_cv (z := (bI (wq_ng P n a))) (by rw [wq_ng, decide_eq_false c61]; rfl) ?_
          refine lv_istore (lv' := [(4, .int (bI (wq_ng P n a))), (3, .int (atv P n a)), (0, .ref h), (1, .int (nI a)), (2, .int (nI b))]) hx hb d_Pt_takes_69 hl (by decide) rfl (fun ls hl => ?_)
          refine lv_iload hx hb d_Pt_takes_71 (lv_at hl 0 rfl) ?_
          refine lv_if_eq (tgt := 82) hx hb d_Pt_takes_73 (by decide) (fun c73 => ?_) (fun c73 => ?_)
          · have c73 : (wq_ng P n a) = false := bI_0.mp c73
            refine lv_iload_n hx hb d_Pt_takes_82 rfl (lv_at hl 3 rfl) ?_
            refine lv_iconst (v := (nI 1)) hx hb d_Pt_takes_83 (by decide +kernel) ?_
            refine lv_iadd hx hb d_Pt_takes_84 ?_
            refine wr_cv (z := (nI (a + 1))) (nI_add a 1) ?_
            refine wr_cv (z := (nI (wq_q0 P n a))) (by rw [wq_q0, if_neg (of_decide_eq_false c73)]) ?_
            refine lv_istore (lv' := [(5, .int (nI (wq_q0 P n a))), (4, .int (bI (wq_ng P n a))), (3, .int (atv P n a)), (0, .ref h), (1, .int (nI a)), (2, .int (nI b))]) hx hb d_Pt_takes_85 hl (by decide) rfl (fun ls hl => ?_)
            refine lv_iconst (v := (nI 0)) hx hb d_Pt_takes_87 (by decide +kernel) ?_
            refine wr_cv (z := (bI false)) rfl ?_
            refine lv_istore (lv' := [(6, .int (bI false)), (5, .int (nI (wq_q0 P n a))), (4, .int (bI (wq_ng P n a))), (3, .int (atv P n a)), (0, .ref h), (1, .int (nI a)), (2, .int (nI b))]) hx hb d_Pt_takes_88 hl (by decide) rfl (fun ls hl => ?_)
            have hq0 := wq_q0_in (P := P) ha
            refine lp_takes hP8 hn hbb S hK hP (r := wq_B P n b (wq_q0 P n a) false) (fun ls hl => ?_) (n + 1) (wq_q0 P n a) false (by omega) hq0.2 rfl ls (lv_sub hl [4, 6, 2, 1, 0] rfl)
            refine lv_iload hx hb d_Pt_takes_216 (lv_at hl 1 rfl) ?_
            refine lv_iload hx hb d_Pt_takes_218 (lv_at hl 0 rfl) ?_
            refine lv_icmp_eq (tgt := 227) hx hb d_Pt_takes_220 (by decide) (fun c220 => ?_) (fun c220 => ?_)
            · have c220 : (wq_B P n b (wq_q0 P n a) false) = (wq_ng P n a) := bI_inj.mp c220
              refine lv_iconst (v := (nI 0)) hx hb d_Pt_takes_227 (by decide +kernel) ?_
              refine wr_cv (z := bI (wq_tk P n a b)) (by rw [wq_tk, if_pos c38.2, c220, bne_self_eq_false]; rfl) ?_
              exact W.zret hx hb hr (bI_nar _) (fun t ht _ => ⟨rfl, ht⟩) (fun _ h9 => absurd h9 List.not_mem_nil) d_Pt_takes_228
            · have c220 : ¬ (wq_B P n b (wq_q0 P n a) false) = (wq_ng P n a) := fun hz => c220 (bI_inj.mpr hz)
              refine lv_iconst (v := (nI 1)) hx hb d_Pt_takes_223 (by decide +kernel) ?_
              refine lv_goto (tgt := 228) hx hb d_Pt_takes_224 (by decide) ?_
              refine wr_cv (z := bI (wq_tk P n a b)) (by rw [wq_tk, if_pos c38.2, bne_iff_ne.mpr c220]; rfl) ?_
              exact W.zret hx hb hr (bI_nar _) (fun t ht _ => ⟨rfl, ht⟩) (fun _ h9 => absurd h9 List.not_mem_nil) d_Pt_takes_228
          · have c73 : (wq_ng P n a) = true := ts_b (fun hz => c73 (bI_0.mpr hz))
            refine lv_iload_n hx hb d_Pt_takes_76 rfl (lv_at hl 3 rfl) ?_
            refine lv_iconst (v := (nI 2)) hx hb d_Pt_takes_77 (by decide +kernel) ?_
            refine lv_iadd hx hb d_Pt_takes_78 ?_
            refine wr_cv (z := (nI (a + 2))) (nI_add a 2) ?_
            refine lv_goto (tgt := 85) hx hb d_Pt_takes_79 (by decide) ?_
            refine wr_cv (z := (nI (wq_q0 P n a))) (by rw [wq_q0, if_pos (of_decide_eq_true c73)]) ?_
            refine lv_istore (lv' := [(5, .int (nI (wq_q0 P n a))), (4, .int (bI (wq_ng P n a))), (3, .int (atv P n a)), (0, .ref h), (1, .int (nI a)), (2, .int (nI b))]) hx hb d_Pt_takes_85 hl (by decide) rfl (fun ls hl => ?_)
            refine lv_iconst (v := (nI 0)) hx hb d_Pt_takes_87 (by decide +kernel) ?_
            refine wr_cv (z := (bI false)) rfl ?_
            refine lv_istore (lv' := [(6, .int (bI false)), (5, .int (nI (wq_q0 P n a))), (4, .int (bI (wq_ng P n a))), (3, .int (atv P n a)), (0, .ref h), (1, .int (nI a)), (2, .int (nI b))]) hx hb d_Pt_takes_88 hl (by decide) rfl (fun ls hl => ?_)
            have hq0 := wq_q0_in (P := P) ha
            refine lp_takes hP8 hn hbb S hK hP (r := wq_B P n b (wq_q0 P n a) false) (fun ls hl => ?_) (n + 1) (wq_q0 P n a) false (by omega) hq0.2 rfl ls (lv_sub hl [4, 6, 2, 1, 0] rfl)
            refine lv_iload hx hb d_Pt_takes_216 (lv_at hl 1 rfl) ?_
            refine lv_iload hx hb d_Pt_takes_218 (lv_at hl 0 rfl) ?_
            refine lv_icmp_eq (tgt := 227) hx hb d_Pt_takes_220 (by decide) (fun c220 => ?_) (fun c220 => ?_)
            · have c220 : (wq_B P n b (wq_q0 P n a) false) = (wq_ng P n a) := bI_inj.mp c220
              refine lv_iconst (v := (nI 0)) hx hb d_Pt_takes_227 (by decide +kernel) ?_
              refine wr_cv (z := bI (wq_tk P n a b)) (by rw [wq_tk, if_pos c38.2, c220, bne_self_eq_false]; rfl) ?_
              exact W.zret hx hb hr (bI_nar _) (fun t ht _ => ⟨rfl, ht⟩) (fun _ h9 => absurd h9 List.not_mem_nil) d_Pt_takes_228
            · have c220 : ¬ (wq_B P n b (wq_q0 P n a) false) = (wq_ng P n a) := fun hz => c220 (bI_inj.mpr hz)
              refine lv_iconst (v := (nI 1)) hx hb d_Pt_takes_223 (by decide +kernel) ?_
              refine lv_goto (tgt := 228) hx hb d_Pt_takes_224 (by decide) ?_
              refine wr_cv (z := bI (wq_tk P n a b)) (by rw [wq_tk, if_pos c38.2, bne_iff_ne.mpr c220]; rfl) ?_
              exact W.zret hx hb hr (bI_nar _) (fun t ht _ => ⟨rfl, ht⟩) (fun _ h9 => absurd h9 List.not_mem_nil) d_Pt_takes_228
        · have c61 : ((a + 1) < n ∧ P (a + 1) = 94) := (atv_eq hP8 (by decide)).mp c61
          refine lv_iconst (v := (nI 1)) hx hb d_Pt_takes_64 (by decide +kernel) ?_
          refine lv_goto (tgt := 69) hx hb d_Pt_takes_65 (by decide) ?_
          refine wr_cv (z := (bI (wq_ng P n a))) (by rw [wq_ng, decide_eq_true c61]; rfl) ?_
          refine lv_istore (lv' := [(4, .int (bI (wq_ng P n a))), (3, .int (atv P n a)), (0, .ref h), (1, .int (nI a)), (2, .int (nI b))]) hx hb d_Pt_takes_69 hl (by decide) rfl (fun ls hl => ?_)
          refine lv_iload hx hb d_Pt_takes_71 (lv_at hl 0 rfl) ?_
          refine lv_if_eq (tgt := 82) hx hb d_Pt_takes_73 (by decide) (fun c73 => ?_) (fun c73 => ?_)
          · have c73 : (wq_ng P n a) = false := bI_0.mp c73
            refine lv_iload_n hx hb d_Pt_takes_82 rfl (lv_at hl 3 rfl) ?_
            refine lv_iconst (v := (nI 1)) hx hb d_Pt_takes_83 (by decide +kernel) ?_
            refine lv_iadd hx hb d_Pt_takes_84 ?_
            refine wr_cv (z := (nI (a + 1))) (nI_add a 1) ?_
            refine wr_cv (z := (nI (wq_q0 P n a))) (by rw [wq_q0, if_neg (of_decide_eq_false c73)]) ?_
            refine lv_istore (lv' := [(5, .int (nI (wq_q0 P n a))), (4, .int (bI (wq_ng P n a))), (3, .int (atv P n a)), (0, .ref h), (1, .int (nI a)), (2, .int (nI b))]) hx hb d_Pt_takes_85 hl (by decide) rfl (fun ls hl => ?_)
            refine lv_iconst (v := (nI 0)) hx hb d_Pt_takes_87 (by decide +kernel) ?_
            refine wr_cv (z := (bI false)) rfl ?_
            refine lv_istore (lv' := [(6, .int (bI false)), (5, .int (nI (wq_q0 P n a))), (4, .int (bI (wq_ng P n a))), (3, .int (atv P n a)), (0, .ref h), (1, .int (nI a)), (2, .int (nI b))]) hx hb d_Pt_takes_88 hl (by decide) rfl (fun ls hl => ?_)
            have hq0 := wq_q0_in (P := P) ha
            refine lp_takes hP8 hn hbb S hK hP (r := wq_B P n b (wq_q0 P n a) false) (fun ls hl => ?_) (n + 1) (wq_q0 P n a) false (by omega) hq0.2 rfl ls (lv_sub hl [4, 6, 2, 1, 0] rfl)
            refine lv_iload hx hb d_Pt_takes_216 (lv_at hl 1 rfl) ?_
            refine lv_iload hx hb d_Pt_takes_218 (lv_at hl 0 rfl) ?_
            refine lv_icmp_eq (tgt := 227) hx hb d_Pt_takes_220 (by decide) (fun c220 => ?_) (fun c220 => ?_)
            · have c220 : (wq_B P n b (wq_q0 P n a) false) = (wq_ng P n a) := bI_inj.mp c220
              refine lv_iconst (v := (nI 0)) hx hb d_Pt_takes_227 (by decide +kernel) ?_
              refine wr_cv (z := bI (wq_tk P n a b)) (by rw [wq_tk, if_pos c38.2, c220, bne_self_eq_false]; rfl) ?_
              exact W.zret hx hb hr (bI_nar _) (fun t ht _ => ⟨rfl, ht⟩) (fun _ h9 => absurd h9 List.not_mem_nil) d_Pt_takes_228
            · have c220 : ¬ (wq_B P n b (wq_q0 P n a) false) = (wq_ng P n a) := fun hz => c220 (bI_inj.mpr hz)
              refine lv_iconst (v := (nI 1)) hx hb d_Pt_takes_223 (by decide +kernel) ?_
              refine lv_goto (tgt := 228) hx hb d_Pt_takes_224 (by decide) ?_
              refine wr_cv (z := bI (wq_tk P n a b)) (by rw [wq_tk, if_pos c38.2, bne_iff_ne.mpr c220]; rfl) ?_
              exact W.zret hx hb hr (bI_nar _) (fun t ht _ => ⟨rfl, ht⟩) (fun _ h9 => absurd h9 List.not_mem_nil) d_Pt_takes_228
          · have c73 : (wq_ng P n a) = true := ts_b (fun hz => c73 (bI_0.mpr hz))
            refine lv_iload_n hx hb d_Pt_takes_76 rfl (lv_at hl 3 rfl) ?_
            refine lv_iconst (v := (nI 2)) hx hb d_Pt_takes_77 (by decide +kernel) ?_
            refine lv_iadd hx hb d_Pt_takes_78 ?_
            refine wr_cv (z := (nI (a + 2))) (nI_add a 2) ?_
            refine lv_goto (tgt := 85) hx hb d_Pt_takes_79 (by decide) ?_
            refine wr_cv (z := (nI (wq_q0 P n a))) (by rw [wq_q0, if_pos (of_decide_eq_true c73)]) ?_
            refine lv_istore (lv' := [(5, .int (nI (wq_q0 P n a))), (4, .int (bI (wq_ng P n a))), (3, .int (atv P n a)), (0, .ref h), (1, .int (nI a)), (2, .int (nI b))]) hx hb d_Pt_takes_85 hl (by decide) rfl (fun ls hl => ?_)
            refine lv_iconst (v := (nI 0)) hx hb d_Pt_takes_87 (by decide +kernel) ?_
            refine wr_cv (z := (bI false)) rfl ?_
            refine lv_istore (lv' := [(6, .int (bI false)), (5, .int (nI (wq_q0 P n a))), (4, .int (bI (wq_ng P n a))), (3, .int (atv P n a)), (0, .ref h), (1, .int (nI a)), (2, .int (nI b))]) hx hb d_Pt_takes_88 hl (by decide) rfl (fun ls hl => ?_)
            have hq0 := wq_q0_in (P := P) ha
            refine lp_takes hP8 hn hbb S hK hP (r := wq_B P n b (wq_q0 P n a) false) (fun ls hl => ?_) (n + 1) (wq_q0 P n a) false (by omega) hq0.2 rfl ls (lv_sub hl [4, 6, 2, 1, 0] rfl)
            refine lv_iload hx hb d_Pt_takes_216 (lv_at hl 1 rfl) ?_
            refine lv_iload hx hb d_Pt_takes_218 (lv_at hl 0 rfl) ?_
            refine lv_icmp_eq (tgt := 227) hx hb d_Pt_takes_220 (by decide) (fun c220 => ?_) (fun c220 => ?_)
            · have c220 : (wq_B P n b (wq_q0 P n a) false) = (wq_ng P n a) := bI_inj.mp c220
              refine lv_iconst (v := (nI 0)) hx hb d_Pt_takes_227 (by decide +kernel) ?_
              refine wr_cv (z := bI (wq_tk P n a b)) (by rw [wq_tk, if_pos c38.2, c220, bne_self_eq_false]; rfl) ?_
              exact W.zret hx hb hr (bI_nar _) (fun t ht _ => ⟨rfl, ht⟩) (fun _ h9 => absurd h9 List.not_mem_nil) d_Pt_takes_228
            · have c220 : ¬ (wq_B P n b (wq_q0 P n a) false) = (wq_ng P n a) := fun hz => c220 (bI_inj.mpr hz)
              refine lv_iconst (v := (nI 1)) hx hb d_Pt_takes_223 (by decide +kernel) ?_
              refine lv_goto (tgt := 228) hx hb d_Pt_takes_224 (by decide) ?_
              refine wr_cv (z := bI (wq_tk P n a b)) (by rw [wq_tk, if_pos c38.2, bne_iff_ne.mpr c220]; rfl) ?_
              exact W.zret hx hb hr (bI_nar _) (fun t ht _ => ⟨rfl, ht⟩) (fun _ h9 => absurd h9 List.not_mem_nil) d_Pt_takes_228
      · have c38 : ¬ (a < n ∧ P a = 91) := fun hz => c38 ((atv_eq hP8 (by decide)).mpr hz)
        refine lv_iload_n hx hb d_Pt_takes_41 rfl (lv_at hl 0 rfl) ?_
        refine lv_iload_n hx hb d_Pt_takes_42 rfl (lv_at hl 3 rfl) ?_
        refine lv_icmp_ne (tgt := 50) hx hb d_Pt_takes_43 (by decide) (fun c43 => ?_) (fun c43 => ?_)
        · have c43 : ¬ (a < n ∧ P a = b) := fun hz => c43 ((atv_eq hP8 hbb).mpr hz)
          refine lv_iconst (v := (nI 0)) hx hb d_Pt_takes_50 (by decide +kernel) ?_
          refine wr_cv (z := bI (wq_tk P n a b)) (by rw [wq_tk, if_neg (fun z => c38 ⟨ha, z⟩), if_neg (fun z => c9 ⟨ha, z⟩), wq_pl, if_neg (fun z => c17 ⟨ha, z.1⟩), decide_eq_false (fun z => c43 ⟨ha, z⟩)]; rfl) ?_
          exact W.zret hx hb hr (bI_nar _) (fun t ht _ => ⟨rfl, ht⟩) (fun _ h9 => absurd h9 List.not_mem_nil) d_Pt_takes_51
        · have c43 : (a < n ∧ P a = b) := (atv_eq hP8 hbb).mp c43
          refine lv_iconst (v := (nI 1)) hx hb d_Pt_takes_46 (by decide +kernel) ?_
          refine lv_goto (tgt := 51) hx hb d_Pt_takes_47 (by decide) ?_
          refine wr_cv (z := bI (wq_tk P n a b)) (by rw [wq_tk, if_neg (fun z => c38 ⟨ha, z⟩), if_neg (fun z => c9 ⟨ha, z⟩), wq_pl, if_neg (fun z => c17 ⟨ha, z.1⟩), decide_eq_true c43.2]; rfl) ?_
          exact W.zret hx hb hr (bI_nar _) (fun t ht _ => ⟨rfl, ht⟩) (fun _ h9 => absurd h9 List.not_mem_nil) d_Pt_takes_51
    · have c17 : (a < n ∧ P a = 92) := (atv_eq hP8 (by decide)).mp c17
      refine lv_aload_n hx hb d_Pt_takes_20 rfl (lv_at hl 1 rfl) ?_
      refine lv_iload_n hx hb d_Pt_takes_21 rfl (lv_at hl 2 rfl) ?_
      refine wr_rd (As := [.int (nI a)]) (rest := []) S (c_Pt_plain l D cB cI cZ h hp P hP8 n hn a (by omega)) (cwV 1 hts g_Pt_42 rfl rfl rfl (by decide +kernel) ⟨Nat.le_of_ble_eq_true rfl, Nat.le_of_ble_eq_true rfl⟩) hK hP (ci := 0) (q0 := 0) rfl rfl rfl rfl hl.1 rfl (lv_room (Nat.le_of_ble_eq_true rfl)) d_Pt_takes_22 ⟨Nat.zero_le _, Nat.zero_le _⟩ ?_
      have f13 := wq_pl_lt hP8 n a
      refine lv_iload_n hx hb d_Pt_takes_25 rfl (lv_at hl 3 rfl) ?_
      refine lv_icmp_ne (tgt := 33) hx hb d_Pt_takes_26 (by decide) (fun c26 => ?_) (fun c26 => ?_)
      · have c26 : ¬ (wq_pl P n a) = b := fun hz => c26 ((nI_eq (by omega) (by omega)).mpr hz)
        refine lv_iconst (v := (nI 0)) hx hb d_Pt_takes_33 (by decide +kernel) ?_
        refine wr_cv (z := bI (wq_tk P n a b)) (by rw [wq_tk, if_neg (by rw [c17.2]; decide), if_neg (by rw [c17.2]; decide), decide_eq_false c26]; rfl) ?_
        exact W.zret hx hb hr (bI_nar _) (fun t ht _ => ⟨rfl, ht⟩) (fun _ h9 => absurd h9 List.not_mem_nil) d_Pt_takes_34
      · have c26 : (wq_pl P n a) = b := (nI_eq (by omega) (by omega)).mp c26
        refine lv_iconst (v := (nI 1)) hx hb d_Pt_takes_29 (by decide +kernel) ?_
        refine lv_goto (tgt := 34) hx hb d_Pt_takes_30 (by decide) ?_
        refine wr_cv (z := bI (wq_tk P n a b)) (by rw [wq_tk, if_neg (by rw [c17.2]; decide), if_neg (by rw [c17.2]; decide), decide_eq_true c26]; rfl) ?_
        exact W.zret hx hb hr (bI_nar _) (fun t ht _ => ⟨rfl, ht⟩) (fun _ h9 => absurd h9 List.not_mem_nil) d_Pt_takes_34
  · have c9 : (a < n ∧ P a = 63) := (atv_eq hP8 (by decide)).mp c9
    refine lv_iconst (v := (nI 1)) hx hb d_Pt_takes_12 (by decide +kernel) ?_
    refine wr_cv (z := bI (wq_tk P n a b)) (by rw [wq_tk, if_neg (by rw [c9.2]; decide), if_pos c9.2]; rfl) ?_
    exact W.zret hx hb hr (bI_nar _) (fun t ht _ => ⟨rfl, ht⟩) (fun _ h9 => absurd h9 List.not_mem_nil) d_Pt_takes_13
end
section
abbrev rm_Wc_isFit : Room := { frames := 4, cells := 0, slots := 0, locals := 101 }
abbrev rm_Wc_fits : Room := { frames := 5, cells := 0, slots := 0, locals := 123 }
abbrev rm_Wc_fitsPart : Room := { frames := 5, cells := 0, slots := 0, locals := 123 }
abbrev rm_Wc_beginnings : Room := { frames := 5, cells := 0, slots := 0, locals := 123 }
abbrev rm_Wc_feed : Room := { frames := 0, cells := 0, slots := 0, locals := 0 }
abbrev rm_Wc_end : Room := { frames := 0, cells := 0, slots := 0, locals := 0 }
abbrev rm_Wc_pattern : Room := { frames := 1, cells := 0, slots := 0, locals := 18 }
abbrev rm_Wc_word : Room := { frames := 1, cells := 0, slots := 0, locals := 18 }
set_option maxHeartbeats 4000000 in
set_option maxRecDepth 100000 in
theorem lp_fits {p : Program} {l : Launch} {e : Env} {s : State} {m : MethodId} {args : Array Value} {below : List Frame} {meth : Method} {c : Code} {H : Heap} {locs : List Loc} {Q : State → Prop} {D : va_G} {cB cI cZ : ClassId} {h hp hw : Nat} {P : Nat → Nat} (hP8 : ∀ k, P k < 256) {n : Nat} (hn : n ≤ 400) {V : Nat → Nat} (hV8 : ∀ k, V k < 256) {f mm : Nat} (hfm : f + mm ≤ 400) (S : CallFix p m c b_Pt_fits 11 s args gw R_Pt) (hK : va_K D classes (TY cB cI cZ) s) (hP : va_P D classes (wF h hp hw cB P V (.ref hp) (.int (nI 0)) (.int (nI n))) H) (kT : ∀ ls, wq_M P n (fun i => V (f + i)) mm 0 0 → W p l e rm_Pt_fits s m args below meth c H locs 0 0 Q (F0 m 120 ls [.int (nI 1)])) (kF : ∀ ls, ¬ wq_M P n (fun i => V (f + i)) mm 0 0 → W p l e rm_Pt_fits s m args below meth c H locs 0 0 Q (F0 m 150 ls [.int (nI 0)])) : ∀ (X Y a i g t : Nat), (n - g) + (mm - t) < X → n - a < Y → wq_J P n (fun i => V (f + i)) mm a i g t → ∀ ls, lv_has ls 11 [(0, .ref h), (4, .ref hw), (5, .int (nI f)), (6, .int (nI mm)), (7, .int (nI a)), (8, .int (nI i)), (9, .int (nI g - 1)), (10, .int (nI t))] → W p l e rm_Pt_fits s m args below meth c H locs 0 0 Q (F0 m 27 ls []) := by
  obtain ⟨hx, hb, hml, hown, hts⟩ := id S
  intro X
  induction X with
  | zero => intro Y a i g t h0; exact absurd h0 (Nat.not_lt_zero _)
  | succ X ihX =>
    intro Y
    induction Y with
    | zero => intro a i g t _ h0; exact absurd h0 (Nat.not_lt_zero _)
    | succ Y ihY =>
      intro a i g t h0 h1 hJ ls hl
      obtain ⟨hJ1, hJ2, hJ3, hJ4, hJ5, hJ6⟩ := id hJ
      refine lv_aload_n hx hb d_Pt_fits_27 rfl (lv_at hl 0 rfl) ?_
      refine lv_iload hx hb d_Pt_fits_28 (lv_at hl 4 rfl) ?_
      refine wr_rd (As := [.int (nI a)]) (rest := []) S (c_Pt_at l D cB cI cZ h hp P hP8 n hn a (by omega)) (cwV 1 hts g_Pt_22 rfl rfl rfl (by decide +kernel) ⟨Nat.le_of_ble_eq_true rfl, Nat.le_of_ble_eq_true rfl⟩) hK (hP.sub (ws' := wP h hp cB P n) [0, 1] rfl) (ci := 0) (q0 := 0) rfl rfl rfl rfl hl.1 rfl (lv_room (Nat.le_of_ble_eq_true rfl)) d_Pt_fits_30 ⟨Nat.zero_le _, Nat.zero_le _⟩ ?_
      refine lv_bipush (v := (nI 42)) hx hb d_Pt_fits_33 (by decide +kernel) ?_
      refine lv_icmp_ne (tgt := 52) hx hb d_Pt_fits_35 (by decide) (fun c35 => ?_) (fun c35 => ?_)
      · have c35 : ¬ (a < n ∧ P a = 42) := fun hz => c35 ((atv_eq hP8 (by decide)).mpr hz)
        have J121 : ¬ (i < mm ∧ a < n ∧ wq_tk P n a (V (f + i)) = true) → ¬ (i = mm ∧ a = n) → W p l e rm_Pt_fits s m args below meth c H locs 0 0 Q (F0 m 121 ls []) := by
          intro h2 h3
          refine lv_iload hx hb d_Pt_fits_121 (lv_at hl 6 rfl) ?_
          refine lv_if_lt (tgt := 149) hx hb d_Pt_fits_123 (by decide) (fun c123 => ?_) (fun c123 => ?_)
          · have c123 : g = 0 := (sv_neg (by omega)).mp c123
            refine lv_iconst (v := (nI 0)) hx hb d_Pt_fits_149 (by decide +kernel) ?_
            exact kF ls (wq_J_false hJ c35 h2 h3 (by omega))
          · have c123 : ¬ g = 0 := fun z => c123 ((sv_neg (by omega)).mpr z)
            refine lv_iload hx hb d_Pt_fits_126 (lv_at hl 7 rfl) ?_
            refine lv_iload hx hb d_Pt_fits_128 (lv_at hl 3 rfl) ?_
            refine lv_icmp_ge (tgt := 149) hx hb d_Pt_fits_130 (by decide) (fun c1 => ?_) (fun c1 => ?_)
            · have c1 : mm ≤ t := (nI_leI (by omega) (by omega)).mp c1
              refine lv_iconst (v := (nI 0)) hx hb d_Pt_fits_149 (by decide +kernel) ?_
              exact kF ls (wq_J_false hJ c35 h2 h3 (by omega))
            · have c1 : ¬ mm ≤ t := fun hz => c1 ((nI_leI (by omega) (by omega)).mpr hz)
              refine lv_iinc (v := (nI (t + 1))) (lv' := [(10, .int (nI (t + 1))), (0, .ref h), (4, .ref hw), (5, .int (nI f)), (6, .int (nI mm)), (7, .int (nI a)), (8, .int (nI i)), (9, .int (nI g - 1))]) hx hb d_Pt_fits_133 hl (k := 7) rfl (nI_add t 1) (by decide) rfl (fun ls hl => ?_)
              refine lv_iload hx hb d_Pt_fits_136 (lv_at hl 0 rfl) ?_
              refine lv_istore (lv' := [(8, .int (nI (t + 1))), (10, .int (nI (t + 1))), (0, .ref h), (4, .ref hw), (5, .int (nI f)), (6, .int (nI mm)), (7, .int (nI a)), (9, .int (nI g - 1))]) hx hb d_Pt_fits_138 hl (by decide) rfl (fun ls hl => ?_)
              refine lv_iload hx hb d_Pt_fits_140 (lv_at hl 7 rfl) ?_
              refine lv_iconst (v := (nI 1)) hx hb d_Pt_fits_142 (by decide +kernel) ?_
              refine lv_iadd hx hb d_Pt_fits_143 ?_
              refine wr_cv (z := (nI g)) (sv_add g) ?_
              refine lv_istore (lv' := [(7, .int (nI g)), (8, .int (nI (t + 1))), (10, .int (nI (t + 1))), (0, .ref h), (4, .ref hw), (5, .int (nI f)), (6, .int (nI mm)), (9, .int (nI g - 1))]) hx hb d_Pt_fits_144 hl (by decide) rfl (fun ls hl => ?_)
              refine lv_goto (tgt := 27) hx hb d_Pt_fits_146 (by decide) ?_
              exact ihX (n + 1) g (t + 1) g (t + 1) (by omega) (by omega) (wq_J_back hJ c35 h2 h3 (by omega) (by omega)) ls (lv_sub hl [3, 4, 5, 6, 0, 1, 7, 2] rfl)
        have J103 : ¬ (i < mm ∧ a < n ∧ wq_tk P n a (V (f + i)) = true) → W p l e rm_Pt_fits s m args below meth c H locs 0 0 Q (F0 m 103 ls []) := by
          intro h2
          refine lv_iload hx hb d_Pt_fits_103 (lv_at hl 5 rfl) ?_
          refine lv_iload hx hb d_Pt_fits_105 (lv_at hl 3 rfl) ?_
          refine lv_icmp_ne (tgt := 121) hx hb d_Pt_fits_107 (by decide) (fun c2 => ?_) (fun c2 => ?_)
          · have c2 : ¬ i = mm := fun hz => c2 ((nI_eq (by omega) (by omega)).mpr hz)
            exact J121 h2 (fun z => by omega)
          · have c2 : i = mm := (nI_eq (by omega) (by omega)).mp c2
            refine lv_iload hx hb d_Pt_fits_110 (lv_at hl 4 rfl) ?_
            refine lv_aload_n hx hb d_Pt_fits_112 rfl (lv_at hl 0 rfl) ?_
            refine va_get (D := D) (ci := 0) (v := .int (nI n)) (C := R_Pt) (T := F_Pt) (N := 3) hx hb hts i_Pt hown hK hP 0 rfl rfl 2 (by decide) (hts _ k_fl_Pt_9) (fun _ h9 => h9) rfl d_Pt_fits_113 ?_
            refine lv_icmp_ne (tgt := 121) hx hb d_Pt_fits_116 (by decide) (fun c3 => ?_) (fun c3 => ?_)
            · have c3 : ¬ a = n := fun hz => c3 ((nI_eq (by omega) (by omega)).mpr hz)
              exact J121 h2 (fun z => by omega)
            · have c3 : a = n := (nI_eq (by omega) (by omega)).mp c3
              refine lv_iconst (v := (nI 1)) hx hb d_Pt_fits_119 (by decide +kernel) ?_
              exact kT ls (wq_J_true hJ (by omega) (by omega))
        refine lv_iload hx hb d_Pt_fits_52 (lv_at hl 5 rfl) ?_
        refine lv_iload hx hb d_Pt_fits_54 (lv_at hl 3 rfl) ?_
        refine lv_icmp_ge (tgt := 103) hx hb d_Pt_fits_56 (by decide) (fun c4 => ?_) (fun c4 => ?_)
        · have c4 : mm ≤ i := (nI_leI (by omega) (by omega)).mp c4
          exact J103 (by first | (intro z; omega) | (intro z; exact absurd z.2.2 (by rw [c86]; decide)))
        · have c4 : ¬ mm ≤ i := fun hz => c4 ((nI_leI (by omega) (by omega)).mpr hz)
          refine lv_iload hx hb d_Pt_fits_59 (lv_at hl 4 rfl) ?_
          refine lv_aload_n hx hb d_Pt_fits_61 rfl (lv_at hl 0 rfl) ?_
          refine va_get (D := D) (ci := 0) (v := .int (nI n)) (C := R_Pt) (T := F_Pt) (N := 3) hx hb hts i_Pt hown hK hP 0 rfl rfl 2 (by decide) (hts _ k_fl_Pt_9) (fun _ h9 => h9) rfl d_Pt_fits_62 ?_
          refine lv_icmp_ge (tgt := 103) hx hb d_Pt_fits_65 (by decide) (fun c5 => ?_) (fun c5 => ?_)
          · have c5 : n ≤ a := (nI_leI (by omega) (by omega)).mp c5
            exact J103 (by first | (intro z; omega) | (intro z; exact absurd z.2.2 (by rw [c86]; decide)))
          · have c5 : ¬ n ≤ a := fun hz => c5 ((nI_leI (by omega) (by omega)).mpr hz)
            refine lv_aload_n hx hb d_Pt_fits_68 rfl (lv_at hl 0 rfl) ?_
            refine lv_iload hx hb d_Pt_fits_69 (lv_at hl 4 rfl) ?_
            refine lv_aload hx hb d_Pt_fits_71 (lv_at hl 1 rfl) ?_
            refine lv_iload hx hb d_Pt_fits_73 (lv_at hl 2 rfl) ?_
            refine lv_iload hx hb d_Pt_fits_75 (lv_at hl 5 rfl) ?_
            refine lv_iadd hx hb d_Pt_fits_77 ?_
            refine wr_cv (z := (nI (f + i))) (nI_add f i) ?_
            refine va_bald hx hb hK hP 2 0 rfl rfl (vp_in_nI (by omega) (by omega)) d_Pt_fits_78 ?_
            refine wr_cv (z := (b8 (V (f + i)))) (bF_at (by omega) (by omega)) ?_
            refine lv_sipush (v := (nI 255)) hx hb d_Pt_fits_79 (by decide +kernel) ?_
            refine lv_iand hx hb d_Pt_fits_82 ?_
            refine wr_cv (z := (nI (V (f + i)))) (b8_and (hV8 _)) ?_
            refine wr_rd (As := [.int (nI a), .int (nI (V (f + i)))]) (rest := []) S (c_Pt_takes l D cB cI cZ h hp P hP8 n hn a (V (f + i)) (by omega) (hV8 _)) (cwV 2 hts g_Pt_26 rfl rfl rfl (by decide +kernel) ⟨Nat.le_of_ble_eq_true rfl, Nat.le_of_ble_eq_true rfl⟩) hK (hP.sub (ws' := wP h hp cB P n) [0, 1] rfl) (ci := 0) (q0 := 0) rfl rfl rfl rfl hl.1 rfl (lv_room (Nat.le_of_ble_eq_true rfl)) d_Pt_fits_83 ⟨Nat.zero_le _, Nat.zero_le _⟩ ?_
            refine lv_if_eq (tgt := 103) hx hb d_Pt_fits_86 (by decide) (fun c86 => ?_) (fun c86 => ?_)
            · have c86 : (wq_tk P n a (V (f + i))) = false := bI_0.mp c86
              exact J103 (by first | (intro z; omega) | (intro z; exact absurd z.2.2 (by rw [c86]; decide)))
            · have c86 : (wq_tk P n a (V (f + i))) = true := ts_b (fun hz => c86 (bI_0.mpr hz))
              refine lv_aload_n hx hb d_Pt_fits_89 rfl (lv_at hl 0 rfl) ?_
              refine lv_iload hx hb d_Pt_fits_90 (lv_at hl 4 rfl) ?_
              refine wr_rd (As := [.int (nI a)]) (rest := []) S (c_Pt_behind l D cB cI cZ h hp P hP8 n hn a (by omega)) (cwV 1 hts g_Pt_30 rfl rfl rfl (by decide +kernel) ⟨Nat.le_of_ble_eq_true rfl, Nat.le_of_ble_eq_true rfl⟩) hK (hP.sub (ws' := wP h hp cB P n) [0, 1] rfl) (ci := 0) (q0 := 0) rfl rfl rfl rfl hl.1 rfl (lv_room (Nat.le_of_ble_eq_true rfl)) d_Pt_fits_92 ⟨Nat.zero_le _, Nat.zero_le _⟩ ?_
              refine lv_istore (lv' := [(7, .int (nI (wq_be P n a))), (0, .ref h), (4, .ref hw), (5, .int (nI f)), (6, .int (nI mm)), (8, .int (nI i)), (9, .int (nI g - 1)), (10, .int (nI t))]) hx hb d_Pt_fits_95 hl (by decide) rfl (fun ls hl => ?_)
              refine lv_iinc (v := (nI (i + 1))) (lv' := [(8, .int (nI (i + 1))), (7, .int (nI (wq_be P n a))), (0, .ref h), (4, .ref hw), (5, .int (nI f)), (6, .int (nI mm)), (9, .int (nI g - 1)), (10, .int (nI t))]) hx hb d_Pt_fits_97 hl (k := 5) rfl (nI_add i 1) (by decide) rfl (fun ls hl => ?_)
              refine lv_goto (tgt := 27) hx hb d_Pt_fits_100 (by decide) ?_
              have hbe := wq_be_in (P := P) (n := n) (p := a) (by omega)
              exact ihY (wq_be P n a) (i + 1) g t h0 (by omega) (wq_J_item hJ (by omega) (fun z => c35 ⟨by omega, z⟩) (by omega) c86) ls (lv_sub hl [2, 3, 4, 5, 1, 0, 6, 7] rfl)
      · have c35 : (a < n ∧ P a = 42) := (atv_eq hP8 (by decide)).mp c35
        refine lv_iload hx hb d_Pt_fits_38 (lv_at hl 4 rfl) ?_
        refine wr_cv (z := (nI (a + 1) - 1)) ((nI_pred a).symm) ?_
        refine lv_istore (lv' := [(9, .int (nI (a + 1) - 1)), (0, .ref h), (4, .ref hw), (5, .int (nI f)), (6, .int (nI mm)), (7, .int (nI a)), (8, .int (nI i)), (10, .int (nI t))]) hx hb d_Pt_fits_40 hl (by decide) rfl (fun ls hl => ?_)
        refine lv_iload hx hb d_Pt_fits_42 (lv_at hl 6 rfl) ?_
        refine lv_istore (lv' := [(10, .int (nI i)), (9, .int (nI (a + 1) - 1)), (0, .ref h), (4, .ref hw), (5, .int (nI f)), (6, .int (nI mm)), (7, .int (nI a)), (8, .int (nI i))]) hx hb d_Pt_fits_44 hl (by decide) rfl (fun ls hl => ?_)
        refine lv_iinc (v := (nI (a + 1))) (lv' := [(7, .int (nI (a + 1))), (10, .int (nI i)), (9, .int (nI (a + 1) - 1)), (0, .ref h), (4, .ref hw), (5, .int (nI f)), (6, .int (nI mm)), (8, .int (nI i))]) hx hb d_Pt_fits_46 hl (k := 6) rfl (nI_add a 1) (by decide) rfl (fun ls hl => ?_)
        refine lv_goto (tgt := 27) hx hb d_Pt_fits_49 (by decide) ?_
        exact ihX (n + 1) (a + 1) i (a + 1) i (by omega) (by omega) (wq_J_star hJ c35.1 c35.2) ls (lv_sub hl [3, 4, 5, 6, 0, 7, 2, 1] rfl)
noncomputable def wq_fb (P : Nat → Nat) (n : Nat) (V : Nat → Nat) (f mm : Nat) : Bool := wq_d (wq_M P n (fun i => V (f + i)) mm 0 0)
set_option maxHeartbeats 4000000 in
set_option maxRecDepth 100000 in
theorem c_Pt_fits (l : Launch) (D : va_G) (cB cI cZ : ClassId) (h hp hw : Nat) (P : Nat → Nat) (hP8 : ∀ k, P k < 256) (n : Nat) (hn : n ≤ 400) (V : Nat → Nat) (hV8 : ∀ k, V k < 256) (f mm : Nat) (hfm : f + mm ≤ 400) (rv fv mv : Value) (sz : Nat) : Met l y_Pt_fits w_Pt_fits rm_Pt_fits (Pm D cB cI cZ sz [.ref h, .ref hp, .int (nI 0), .int (nI n), .ref hw, .int (nI f), .int (nI mm)] (wF h hp hw cB P V rv fv mv)) (Qm D (fun r u => r = bI (wq_fb P n V f mm) ∧ u = wF h hp hw cB P V (.ref hp) (.int (nI 0)) (.int (nI n))) (wF h hp hw cB P V rv fv mv) sz) 0 0 (va_A (wF h hp hw cB P V rv fv mv) sz) := by
  refine Met.ofW (cc := b_Pt_fits) (maxL := 11) (ret := (some .boolean)) (by decide) rfl ?_
  intro p e s m args below meth c s₁ B hml hv
  obtain ⟨rfl, hsz, hP, hK, hD0⟩ := hv
  have hx := B.exec
  have hb := B.bytes
  have hr := B.returns
  have hts0 := atoms_spec (ws := w_Pt_fits) B.pre
  have hts : ∀ w ∈ gw, w.before _ s = true := fun w hw => hts0 w (List.mem_cons_of_mem _ hw)
  have hown : s.vm.findClass R_Pt = some m.cls := findClass_of_methodNamed B.named
  have hlocks := B.notSynchronized
  have S : CallFix p m c b_Pt_fits 11 s _ gw R_Pt := ⟨hx, hb, hml, hown, hts⟩
  subst hsz
  have hD := hD0.self (sz := s.heap.size)
  have hA : ∀ q : Nat, s.heap.size ≤ q → va_A (wF h hp hw cB P V rv fv mv) s.heap.size q := fun q h => Or.inr h
  have hS : va_S (va_A (wF h hp hw cB P V rv fv mv) s.heap.size) s.heap s.heap [] := va_S.rf
  have hl := lv_entry ([.ref h, .ref hp, .int (nI 0), .int (nI n), .ref hw, .int (nI f), .int (nI mm)]) (n := 11) (Nat.le_of_ble_eq_true rfl)
  rw [lg_entry_eq]
  generalize (lg_sl ([.ref h, .ref hp, .int (nI 0), .int (nI n), .ref hw, .int (nI f), .int (nI mm)]) ++ List.replicate (11 - (lg_sl ([.ref h, .ref hp, .int (nI 0), .int (nI n), .ref hw, .int (nI f), .int (nI mm)])).length) Slot.unset).toArray = ls at hl ⊢
  have hl : lv_has ls 11 [(0, .ref h), (1, .ref hp), (2, .int (nI 0)), (3, .int (nI n)), (4, .ref hw), (5, .int (nI f)), (6, .int (nI mm))] := hl
  show W p l e rm_Pt_fits s m _ below meth c s.heap [] 0 0 _ (F0 m 0 ls [])
  refine lv_aload_n hx hb d_Pt_fits_0 rfl (lv_at hl 0 rfl) ?_
  refine lv_aload_n hx hb d_Pt_fits_1 rfl (lv_at hl 1 rfl) ?_
  refine va_put (D := D) (ci := 0) (v := .ref hp) (ty := .array .byte) (C := R_Pt) (T := F_Pt) (N := 3) hx hb hts i_Pt t_Pt t_Pt_ok n_Pt hown hK hP hD hS 0 rfl rfl 0 (by decide) (hts _ k_fl_Pt_15) (fun _ h9 => h9) rfl (by decide +kernel) rfl rfl (Nat.le_of_ble_eq_true rfl) d_Pt_fits_2 (fun H locs hP hD hS => ?_)
  have hP : va_P D classes (wF h hp hw cB P V (.ref hp) fv mv) H := hP
  have hD : va_D _ (wF h hp hw cB P V (.ref hp) fv mv) := hD
  refine lv_aload_n hx hb d_Pt_fits_5 rfl (lv_at hl 0 rfl) ?_
  refine lv_iload_n hx hb d_Pt_fits_6 rfl (lv_at hl 2 rfl) ?_
  refine va_put (D := D) (ci := 0) (v := .int (nI 0)) (ty := .int) (C := R_Pt) (T := F_Pt) (N := 3) hx hb hts i_Pt t_Pt t_Pt_ok n_Pt hown hK hP hD hS 0 rfl rfl 1 (by decide) (hts _ k_fl_Pt_19) (fun _ h9 => h9) rfl (by decide +kernel) rfl rfl (Nat.le_of_ble_eq_true rfl) d_Pt_fits_7 (fun H locs hP hD hS => ?_)
  have hP : va_P D classes (wF h hp hw cB P V (.ref hp) (.int (nI 0)) mv) H := hP
  have hD : va_D _ (wF h hp hw cB P V (.ref hp) (.int (nI 0)) mv) := hD
  refine lv_aload_n hx hb d_Pt_fits_10 rfl (lv_at hl 0 rfl) ?_
  refine lv_iload_n hx hb d_Pt_fits_11 rfl (lv_at hl 3 rfl) ?_
  refine va_put (D := D) (ci := 0) (v := .int (nI n)) (ty := .int) (C := R_Pt) (T := F_Pt) (N := 3) hx hb hts i_Pt t_Pt t_Pt_ok n_Pt hown hK hP hD hS 0 rfl rfl 2 (by decide) (hts _ k_fl_Pt_9) (fun _ h9 => h9) rfl (by decide +kernel) rfl rfl (Nat.le_of_ble_eq_true rfl) d_Pt_fits_12 (fun H locs hP hD hS => ?_)
  have hP : va_P D classes (wF h hp hw cB P V (.ref hp) (.int (nI 0)) (.int (nI n))) H := hP
  have hD : va_D _ (wF h hp hw cB P V (.ref hp) (.int (nI 0)) (.int (nI n))) := hD
  refine lv_iconst (v := (nI 0)) hx hb d_Pt_fits_15 (by decide +kernel) ?_
  refine lv_istore (lv' := [(7, .int (nI 0)), (0, .ref h), (1, .ref hp), (2, .int (nI 0)), (3, .int (nI n)), (4, .ref hw), (5, .int (nI f)), (6, .int (nI mm))]) hx hb d_Pt_fits_16 hl (by decide) rfl (fun ls hl => ?_)
  refine lv_iconst (v := (nI 0)) hx hb d_Pt_fits_18 (by decide +kernel) ?_
  refine lv_istore (lv' := [(8, .int (nI 0)), (7, .int (nI 0)), (0, .ref h), (1, .ref hp), (2, .int (nI 0)), (3, .int (nI n)), (4, .ref hw), (5, .int (nI f)), (6, .int (nI mm))]) hx hb d_Pt_fits_19 hl (by decide) rfl (fun ls hl => ?_)
  refine lv_iconst (v := (-1)) hx hb d_Pt_fits_21 (by decide +kernel) ?_
  refine wr_cv (z := (nI 0 - 1)) (by decide +kernel) ?_
  refine lv_istore (lv' := [(9, .int (nI 0 - 1)), (8, .int (nI 0)), (7, .int (nI 0)), (0, .ref h), (1, .ref hp), (2, .int (nI 0)), (3, .int (nI n)), (4, .ref hw), (5, .int (nI f)), (6, .int (nI mm))]) hx hb d_Pt_fits_22 hl (by decide) rfl (fun ls hl => ?_)
  refine lv_iconst (v := (nI 0)) hx hb d_Pt_fits_24 (by decide +kernel) ?_
  refine lv_istore (lv' := [(10, .int (nI 0)), (9, .int (nI 0 - 1)), (8, .int (nI 0)), (7, .int (nI 0)), (0, .ref h), (1, .ref hp), (2, .int (nI 0)), (3, .int (nI n)), (4, .ref hw), (5, .int (nI f)), (6, .int (nI mm))]) hx hb d_Pt_fits_25 hl (by decide) rfl (fun ls hl => ?_)
  refine lp_fits hP8 hn hV8 hfm S hK hP (fun ls hM => ?_) (fun ls hM => ?_) (n + mm + 1) (n + 1) 0 0 0 0 (by omega) (by omega) (wq_J_0 P n _ mm) ls (lv_sub hl [4, 8, 9, 10, 3, 2, 1, 0] rfl)
  · refine wr_cv (z := bI (wq_fb P n V f mm)) (by rw [wq_fb, wq_d_pos hM]; rfl) ?_
    exact W.zret hx hb hr (bI_nar _) (fun t ht9 _ => ⟨⟨_, _, rfl, ⟨rfl, rfl⟩, by show va_P D classes _ t.heap; rw [ht9]; exact hP⟩, hS.F ht9⟩) hS.2.2 d_Pt_fits_120
  · refine wr_cv (z := bI (wq_fb P n V f mm)) (by rw [wq_fb, wq_d_not hM]; rfl) ?_
    exact W.zret hx hb hr (bI_nar _) (fun t ht9 _ => ⟨⟨_, _, rfl, ⟨rfl, rfl⟩, by show va_P D classes _ t.heap; rw [ht9]; exact hP⟩, hS.F ht9⟩) hS.2.2 d_Pt_fits_150
set_option maxHeartbeats 4000000 in
set_option maxRecDepth 100000 in
theorem c_Wc_isFit (l : Launch) (D : va_G) (cB cI cZ : ClassId) (h ht hp hw hq : Nat) (T : Nat → Nat) (hT8 : ∀ k, T k < 256) (n : Nat) (hn : n ≤ 400) (P : Nat → Nat) (hP8 : ∀ k, P k < 256) (pn : Nat) (hpn : pn ≤ 400) (V : Nat → Nat) (hV8 : ∀ k, V k < 256) (vn : Nat) (hvn : vn ≤ 400) (f k : Nat) (hfk : f + k ≤ 400) (rv fv mv : Value) (sz : Nat) : Met l y_Wc_isFit w_Wc_isFit rm_Wc_isFit (Pm D cB cI cZ sz [.ref h, .int (nI f), .int (nI k)] (wC h ht hp hw hq cB T n P pn V vn rv fv mv)) (Qm D (fun r u => r = (bI (wq_fb P pn V f k)) ∧ ∃ rv fv mv, u = wC h ht hp hw hq cB T n P pn V vn rv fv mv) (wC h ht hp hw hq cB T n P pn V vn rv fv mv) sz) 0 0 (va_A (wC h ht hp hw hq cB T n P pn V vn rv fv mv) sz) := by
  refine Met.ofW (cc := b_Wc_isFit) (maxL := 3) (ret := (some .boolean)) (by decide) rfl ?_
  intro p e s m args below meth c s₁ B hml hv
  obtain ⟨rfl, hsz, hP, hK, hD0⟩ := hv
  have hx := B.exec
  have hb := B.bytes
  have hr := B.returns
  have hts0 := atoms_spec (ws := w_Wc_isFit) B.pre
  have hts : ∀ w ∈ gw, w.before _ s = true := fun w hw => hts0 w (List.mem_cons_of_mem _ hw)
  have hown : s.vm.findClass R_Wc = some m.cls := findClass_of_methodNamed B.named
  have hlocks := B.notSynchronized
  have S : CallFix p m c b_Wc_isFit 3 s _ gw R_Wc := ⟨hx, hb, hml, hown, hts⟩
  subst hsz
  have hD := hD0.self (sz := s.heap.size)
  have hA : ∀ q : Nat, s.heap.size ≤ q → va_A (wC h ht hp hw hq cB T n P pn V vn rv fv mv) s.heap.size q := fun q h => Or.inr h
  have hS : va_S (va_A (wC h ht hp hw hq cB T n P pn V vn rv fv mv) s.heap.size) s.heap s.heap [] := va_S.rf
  have hl := lv_entry ([.ref h, .int (nI f), .int (nI k)]) (n := 3) (Nat.le_of_ble_eq_true rfl)
  rw [lg_entry_eq]
  generalize (lg_sl ([.ref h, .int (nI f), .int (nI k)]) ++ List.replicate (3 - (lg_sl ([.ref h, .int (nI f), .int (nI k)])).length) Slot.unset).toArray = ls at hl ⊢
  have hl : lv_has ls 3 [(0, .ref h), (1, .int (nI f)), (2, .int (nI k))] := hl
  show W p l e rm_Wc_isFit s m _ below meth c s.heap [] 0 0 _ (F0 m 0 ls [])
  refine lv_aload_n hx hb d_Wc_isFit_0 rfl (lv_at hl 0 rfl) ?_
  refine va_get (D := D) (ci := 1) (v := .ref hq) (C := R_Wc) (T := F_Wc) (N := 7) hx hb hts i_Wc hown hK hP 0 rfl rfl 6 (by decide) (hts _ k_fl_Wc_22) (fun _ h9 => h9) rfl d_Wc_isFit_1 ?_
  refine lv_aload_n hx hb d_Wc_isFit_4 rfl (lv_at hl 0 rfl) ?_
  refine va_get (D := D) (ci := 1) (v := .ref hp) (C := R_Wc) (T := F_Wc) (N := 7) hx hb hts i_Wc hown hK hP 0 rfl rfl 2 (by decide) (hts _ k_fl_Wc_13) (fun _ h9 => h9) rfl d_Wc_isFit_5 ?_
  refine lv_iconst (v := (nI 0)) hx hb d_Wc_isFit_8 (by decide +kernel) ?_
  refine lv_aload_n hx hb d_Wc_isFit_9 rfl (lv_at hl 0 rfl) ?_
  refine va_get (D := D) (ci := 1) (v := .int (nI pn)) (C := R_Wc) (T := F_Wc) (N := 7) hx hb hts i_Wc hown hK hP 0 rfl rfl 4 (by decide) (hts _ k_fl_Wc_30) (fun _ h9 => h9) rfl d_Wc_isFit_10 ?_
  refine lv_aload_n hx hb d_Wc_isFit_13 rfl (lv_at hl 0 rfl) ?_
  refine va_get (D := D) (ci := 1) (v := .ref hw) (C := R_Wc) (T := F_Wc) (N := 7) hx hb hts i_Wc hown hK hP 0 rfl rfl 3 (by decide) (hts _ k_fl_Wc_16) (fun _ h9 => h9) rfl d_Wc_isFit_14 ?_
  refine lv_iload_n hx hb d_Wc_isFit_17 rfl (lv_at hl 1 rfl) ?_
  refine lv_iload_n hx hb d_Wc_isFit_18 rfl (lv_at hl 2 rfl) ?_
  refine wr_ci (As := [.ref hp, .int (nI 0), .int (nI pn), .ref hw, .int (nI f), .int (nI k)]) (rest := []) (wr := List.take 2 (wC h ht hp hw hq cB T n P pn V vn rv fv mv)) (wc := wF hq hp hw cB P V rv fv mv) S (c_Pt_fits l D cB cI cZ hq hp hw P hP8 pn hpn V hV8 f k hfk rv fv mv s.heap.size) (cwV 6 hts g_Wc_42 rfl rfl rfl (by decide +kernel) ⟨Nat.le_of_ble_eq_true rfl, Nat.le_of_ble_eq_true rfl⟩) hK hP hD hS hA [4, 2, 3] [0, 1] rfl rfl (by decide) rfl (by decide) (by decide) (ci := 0) (q0 := 0) rfl rfl rfl rfl hl.1 rfl (lv_room (Nat.le_of_ble_eq_true rfl)) d_Wc_isFit_19 ⟨Nat.zero_le _, Nat.zero_le _⟩ (fun r9 u9 H locs hpo hj hS => ?_)
  obtain ⟨e1, e2⟩ := hpo
  subst e1
  subst e2
  obtain ⟨hP, hD⟩ := hj rfl
  have hP : va_P D classes (wC h ht hp hw hq cB T n P pn V vn (.ref hp) (.int (nI 0)) (.int (nI pn))) H := hP.sub [0, 1, 3, 4, 2] rfl
  have hD : va_D _ (wC h ht hp hw hq cB T n P pn V vn (.ref hp) (.int (nI 0)) (.int (nI pn))) := hD.sub [0, 1, 3, 4, 2] (by decide) rfl
  exact W.zret hx hb hr (bI_nar _) (fun t ht9 _ => ⟨⟨_, _, rfl, ⟨rfl, _, _, _, rfl⟩, by show va_P D classes _ t.heap; rw [ht9]; exact hP⟩, hS.F ht9⟩) hS.2.2 d_Wc_isFit_22
set_option maxHeartbeats 4000000 in
set_option maxRecDepth 100000 in
theorem c_Wc_fits (l : Launch) (D : va_G) (cB cI cZ : ClassId) (h ht hp hw hq : Nat) (T : Nat → Nat) (hT8 : ∀ k, T k < 256) (n : Nat) (hn : n ≤ 400) (P : Nat → Nat) (hP8 : ∀ k, P k < 256) (pn : Nat) (hpn : pn ≤ 400) (V : Nat → Nat) (hV8 : ∀ k, V k < 256) (vn : Nat) (hvn : vn ≤ 400)  (rv fv mv : Value) (sz : Nat) : Met l y_Wc_fits w_Wc_fits rm_Wc_fits (Pm D cB cI cZ sz [.ref h] (wC h ht hp hw hq cB T n P pn V vn rv fv mv)) (Qm D (fun r u => r = (bI (wq_fb P pn V 0 vn)) ∧ ∃ rv fv mv, u = wC h ht hp hw hq cB T n P pn V vn rv fv mv) (wC h ht hp hw hq cB T n P pn V vn rv fv mv) sz) 0 0 (va_A (wC h ht hp hw hq cB T n P pn V vn rv fv mv) sz) := by
  refine Met.ofW (cc := b_Wc_fits) (maxL := 1) (ret := (some .boolean)) (by decide) rfl ?_
  intro p e s m args below meth c s₁ B hml hv
  obtain ⟨rfl, hsz, hP, hK, hD0⟩ := hv
  have hx := B.exec
  have hb := B.bytes
  have hr := B.returns
  have hts0 := atoms_spec (ws := w_Wc_fits) B.pre
  have hts : ∀ w ∈ gw, w.before _ s = true := fun w hw => hts0 w (List.mem_cons_of_mem _ hw)
  have hown : s.vm.findClass R_Wc = some m.cls := findClass_of_methodNamed B.named
  have hlocks := B.notSynchronized
  have S : CallFix p m c b_Wc_fits 1 s _ gw R_Wc := ⟨hx, hb, hml, hown, hts⟩
  subst hsz
  have hD := hD0.self (sz := s.heap.size)
  have hA : ∀ q : Nat, s.heap.size ≤ q → va_A (wC h ht hp hw hq cB T n P pn V vn rv fv mv) s.heap.size q := fun q h => Or.inr h
  have hS : va_S (va_A (wC h ht hp hw hq cB T n P pn V vn rv fv mv) s.heap.size) s.heap s.heap [] := va_S.rf
  have hl := lv_entry ([.ref h]) (n := 1) (Nat.le_of_ble_eq_true rfl)
  rw [lg_entry_eq]
  generalize (lg_sl ([.ref h]) ++ List.replicate (1 - (lg_sl ([.ref h])).length) Slot.unset).toArray = ls at hl ⊢
  have hl : lv_has ls 1 [(0, .ref h)] := hl
  show W p l e rm_Wc_fits s m _ below meth c s.heap [] 0 0 _ (F0 m 0 ls [])
  refine lv_aload_n hx hb d_Wc_fits_0 rfl (lv_at hl 0 rfl) ?_
  refine lv_iconst (v := (nI 0)) hx hb d_Wc_fits_1 (by decide +kernel) ?_
  refine lv_aload_n hx hb d_Wc_fits_2 rfl (lv_at hl 0 rfl) ?_
  refine va_get (D := D) (ci := 1) (v := .int (nI vn)) (C := R_Wc) (T := F_Wc) (N := 7) hx hb hts i_Wc hown hK hP 0 rfl rfl 5 (by decide) (hts _ k_fl_Wc_39) (fun _ h9 => h9) rfl d_Wc_fits_3 ?_
  refine wr_ci (As := [.int (nI 0), .int (nI vn)]) (rest := []) (wr := []) (wc := wC h ht hp hw hq cB T n P pn V vn rv fv mv) S (c_Wc_isFit l D cB cI cZ h ht hp hw hq T hT8 n hn P hP8 pn hpn V hV8 vn hvn 0 vn (by omega) rv fv mv s.heap.size) (cwV 2 hts g_Wc_46 rfl rfl rfl (by decide +kernel) ⟨Nat.le_of_ble_eq_true rfl, Nat.le_of_ble_eq_true rfl⟩) hK hP hD hS hA [0, 1, 2, 3, 4] [] rfl rfl (by decide) rfl (by decide) (by decide) (ci := 1) (q0 := 0) rfl rfl rfl rfl hl.1 rfl (lv_room (Nat.le_of_ble_eq_true rfl)) d_Wc_fits_6 ⟨Nat.zero_le _, Nat.zero_le _⟩ (fun r9 u9 H locs hpo hj hS => ?_)
  obtain ⟨e1, rv, fv, mv, e2⟩ := hpo
  subst e1
  subst e2
  obtain ⟨hP, hD⟩ := hj rfl
  have hP : va_P D classes (wC h ht hp hw hq cB T n P pn V vn rv fv mv) H := hP
  have hD : va_D _ (wC h ht hp hw hq cB T n P pn V vn rv fv mv) := hD
  exact W.zret hx hb hr (bI_nar _) (fun t ht9 _ => ⟨⟨_, _, rfl, ⟨rfl, _, _, _, rfl⟩, by show va_P D classes _ t.heap; rw [ht9]; exact hP⟩, hS.F ht9⟩) hS.2.2 d_Wc_fits_9
noncomputable def wq_fp (P : Nat → Nat) (pn : Nat) (V : Nat → Nat) (vn : Nat) (x1 x2 : Int32) : Bool := if x1 < 0 ∨ x2 < 0 ∨ vn < x1.toNatClampNeg + x2.toNatClampNeg then false else wq_fb P pn V x1.toNatClampNeg x2.toNatClampNeg
theorem wq_fp_1 {P : Nat → Nat} {pn : Nat} {V : Nat → Nat} {vn : Nat} {x1 x2 : Int32} (h : x1 < 0) : wq_fp P pn V vn x1 x2 = false := if_pos (Or.inl h)
theorem wq_fp_2 {P : Nat → Nat} {pn : Nat} {V : Nat → Nat} {vn : Nat} {x1 x2 : Int32} (h : x2 < 0) : wq_fp P pn V vn x1 x2 = false := if_pos (Or.inr (Or.inl h))
theorem wq_fp_3 {P : Nat → Nat} {pn : Nat} {V : Nat → Nat} {vn f k : Nat} (hf : f < 2 ^ 31) (hk : k < 2 ^ 31) (h : vn < f + k) : wq_fp P pn V vn (nI f) (nI k) = false := if_pos (Or.inr (Or.inr (by rw [nI_clamp hf, nI_clamp hk]; exact h)))
theorem wq_fp_4 {P : Nat → Nat} {pn : Nat} {V : Nat → Nat} {vn f k : Nat} (hf : f < 2 ^ 31) (hk : k < 2 ^ 31) (h : ¬ vn < f + k) : wq_fp P pn V vn (nI f) (nI k) = wq_fb P pn V f k := by
  unfold wq_fp
  rw [nI_clamp hf, nI_clamp hk, if_neg]
  intro z
  rcases z with z | z | z
  · exact nI_pos hf z
  · exact nI_pos hk z
  · exact h z
def smI (F : Nat → Int32) : Nat → Int32
  | 0 => nI 0
  | k + 1 => smI F k + F k
def ed_no (n : Nat) (x : Int32) : Prop := x < 0 ∨ n < x.toNatClampNeg
noncomputable def ed_b (n : Nat) (x : Int32) : Bool := !(wq_d (ed_no n x))
noncomputable def ed_n (n : Nat) (x : Int32) : Nat := if wq_d (ed_no n x) = true then n else x.toNatClampNeg
theorem ed_1 {n : Nat} {x : Int32} (h : ed_no n x) : ed_b n x = false ∧ ed_n n x = n := by
  unfold ed_b ed_n
  rw [wq_d_pos h]
  exact ⟨rfl, rfl⟩
theorem ed_2 {n j : Nat} (hj : j ≤ n) (hn : n ≤ 400) : ed_b n (nI j) = true ∧ ed_n n (nI j) = j := by
  have h : ¬ ed_no n (nI j) := by
    intro z
    rcases z with z | z
    · exact nI_pos (by omega) z
    · rw [nI_clamp (by omega)] at z; omega
  unfold ed_b ed_n
  rw [wq_d_not h, if_neg (by decide), nI_clamp (by omega)]
  exact ⟨rfl, rfl⟩
theorem ed_3 {n : Nat} {x : Int32} (hn : n ≤ 400) (h0 : ¬ x < 0) (h : ¬ x ≤ nI n) : ed_no n x := by
  obtain ⟨j, hj, rfl⟩ := nI_of h0
  refine Or.inr ?_
  rw [nI_clamp hj]
  exact Nat.lt_of_not_le fun z => h (nI_le z (by omega))
theorem ed_n_le {n : Nat} {x : Int32} (hn : n ≤ 400) : ed_n n x ≤ 400 := by
  unfold ed_n
  split
  · exact hn
  · next h =>
    have h1 : ¬ ed_no n x := fun z => h (wq_d_pos z)
    have h2 : ¬ n < x.toNatClampNeg := fun z => h1 (Or.inr z)
    omega
theorem cp_0 (T P : Nat → Nat) {n : Nat} (hn : n ≤ 400) : va_cpy (bF T) (bF P) (nI 0).toNatClampNeg (nI 0).toNatClampNeg (nI n).toNatClampNeg = bF (cpN T P n) := by
  rw [nI_clamp (n := 0) (by omega), nI_clamp (n := n) (by omega)]
  exact bF_cp T P n
def fd_n (n : Nat) : Nat := if n + 20 ≤ 400 then n + 20 else n
def fd_T (T : Nat → Nat) (n : Nat) (x1 x2 x3 x4 x5 : Int32) : Nat → Nat := if n + 20 ≤ 400 then pu20 T n x1 x2 x3 x4 x5 else T
theorem fd_n_le {n : Nat} (hn : n ≤ 400) : fd_n n ≤ 400 := by unfold fd_n; split <;> omega
theorem fd_T_lt {T : Nat → Nat} {n : Nat} {x1 x2 x3 x4 x5 : Int32} (h : ∀ j, T j < 256) : ∀ j, fd_T T n x1 x2 x3 x4 x5 j < 256 := by
  unfold fd_T
  split
  · exact pu20_lt h
  · exact h
set_option maxHeartbeats 4000000 in
set_option maxRecDepth 100000 in
theorem c_Wc_fitsPart (l : Launch) (D : va_G) (cB cI cZ : ClassId) (h ht hp hw hq : Nat) (T : Nat → Nat) (hT8 : ∀ k, T k < 256) (n : Nat) (hn : n ≤ 400) (P : Nat → Nat) (hP8 : ∀ k, P k < 256) (pn : Nat) (hpn : pn ≤ 400) (V : Nat → Nat) (hV8 : ∀ k, V k < 256) (vn : Nat) (hvn : vn ≤ 400) (x1 x2 : Int32) (rv fv mv : Value) (sz : Nat) : Met l y_Wc_fitsPart w_Wc_fitsPart rm_Wc_fitsPart (Pm D cB cI cZ sz [.ref h, .int x1, .int x2] (wC h ht hp hw hq cB T n P pn V vn rv fv mv)) (Qm D (fun r u => r = (bI (wq_fp P pn V vn x1 x2)) ∧ ∃ rv fv mv, u = wC h ht hp hw hq cB T n P pn V vn rv fv mv) (wC h ht hp hw hq cB T n P pn V vn rv fv mv) sz) 0 0 (va_A (wC h ht hp hw hq cB T n P pn V vn rv fv mv) sz) := by
  refine Met.ofW (cc := b_Wc_fitsPart) (maxL := 3) (ret := (some .boolean)) (by decide) rfl ?_
  intro p e s m args below meth c s₁ B hml hv
  obtain ⟨rfl, hsz, hP, hK, hD0⟩ := hv
  have hx := B.exec
  have hb := B.bytes
  have hr := B.returns
  have hts0 := atoms_spec (ws := w_Wc_fitsPart) B.pre
  have hts : ∀ w ∈ gw, w.before _ s = true := fun w hw => hts0 w (List.mem_cons_of_mem _ hw)
  have hown : s.vm.findClass R_Wc = some m.cls := findClass_of_methodNamed B.named
  have hlocks := B.notSynchronized
  have S : CallFix p m c b_Wc_fitsPart 3 s _ gw R_Wc := ⟨hx, hb, hml, hown, hts⟩
  subst hsz
  have hD := hD0.self (sz := s.heap.size)
  have hA : ∀ q : Nat, s.heap.size ≤ q → va_A (wC h ht hp hw hq cB T n P pn V vn rv fv mv) s.heap.size q := fun q h => Or.inr h
  have hS : va_S (va_A (wC h ht hp hw hq cB T n P pn V vn rv fv mv) s.heap.size) s.heap s.heap [] := va_S.rf
  have hl := lv_entry ([.ref h, .int x1, .int x2]) (n := 3) (Nat.le_of_ble_eq_true rfl)
  rw [lg_entry_eq]
  generalize (lg_sl ([.ref h, .int x1, .int x2]) ++ List.replicate (3 - (lg_sl ([.ref h, .int x1, .int x2])).length) Slot.unset).toArray = ls at hl ⊢
  have hl : lv_has ls 3 [(0, .ref h), (1, .int x1), (2, .int x2)] := hl
  show W p l e rm_Wc_fitsPart s m _ below meth c s.heap [] 0 0 _ (F0 m 0 ls [])
  refine lv_iload_n hx hb d_Wc_fitsPart_0 rfl (lv_at hl 1 rfl) ?_
  refine lv_if_lt (tgt := 39) hx hb d_Wc_fitsPart_1 (by decide) (fun c1 => ?_) (fun c1 => ?_)
  · refine lv_iconst (v := (nI 0)) hx hb d_Wc_fitsPart_39 (by decide +kernel) ?_
    refine wr_cv (z := bI (wq_fp P pn V vn x1 x2)) (by rw [wq_fp_1 c1]; rfl) ?_
    exact W.zret hx hb hr (bI_nar _) (fun t ht9 _ => ⟨⟨_, _, rfl, ⟨rfl, _, _, _, rfl⟩, by show va_P D classes _ t.heap; rw [ht9]; exact hP⟩, hS.F ht9⟩) hS.2.2 d_Wc_fitsPart_40
  · obtain ⟨f, hf, rfl⟩ := nI_of c1
    refine lv_iload_n hx hb d_Wc_fitsPart_4 rfl (lv_at hl 2 rfl) ?_
    refine lv_if_lt (tgt := 39) hx hb d_Wc_fitsPart_5 (by decide) (fun c5 => ?_) (fun c5 => ?_)
    · refine lv_iconst (v := (nI 0)) hx hb d_Wc_fitsPart_39 (by decide +kernel) ?_
      refine wr_cv (z := bI (wq_fp P pn V vn (nI f) x2)) (by rw [wq_fp_2 c5]; rfl) ?_
      exact W.zret hx hb hr (bI_nar _) (fun t ht9 _ => ⟨⟨_, _, rfl, ⟨rfl, _, _, _, rfl⟩, by show va_P D classes _ t.heap; rw [ht9]; exact hP⟩, hS.F ht9⟩) hS.2.2 d_Wc_fitsPart_40
    · obtain ⟨k, hk, rfl⟩ := nI_of c5
      refine lv_iload_n hx hb d_Wc_fitsPart_8 rfl (lv_at hl 2 rfl) ?_
      refine lv_aload_n hx hb d_Wc_fitsPart_9 rfl (lv_at hl 0 rfl) ?_
      refine va_get (D := D) (ci := 1) (v := .int (nI vn)) (C := R_Wc) (T := F_Wc) (N := 7) hx hb hts i_Wc hown hK hP 0 rfl rfl 5 (by decide) (hts _ k_fl_Wc_39) (fun _ h9 => h9) rfl d_Wc_fitsPart_10 ?_
      refine lv_icmp_gt (tgt := 39) hx hb d_Wc_fitsPart_13 (by decide) (fun c13 => ?_) (fun c13 => ?_)
      · have c13 : vn < k := (nI_ltI (by omega) (by omega)).mp c13
        refine lv_iconst (v := (nI 0)) hx hb d_Wc_fitsPart_39 (by decide +kernel) ?_
        refine wr_cv (z := bI (wq_fp P pn V vn (nI f) (nI k))) (by rw [wq_fp_3 hf hk (by omega)]; rfl) ?_
        exact W.zret hx hb hr (bI_nar _) (fun t ht9 _ => ⟨⟨_, _, rfl, ⟨rfl, _, _, _, rfl⟩, by show va_P D classes _ t.heap; rw [ht9]; exact hP⟩, hS.F ht9⟩) hS.2.2 d_Wc_fitsPart_40
      · have c13 : ¬ vn < k := fun hz => c13 ((nI_ltI (by omega) (by omega)).mpr hz)
        refine lv_iload_n hx hb d_Wc_fitsPart_16 rfl (lv_at hl 1 rfl) ?_
        refine lv_aload_n hx hb d_Wc_fitsPart_17 rfl (lv_at hl 0 rfl) ?_
        refine va_get (D := D) (ci := 1) (v := .int (nI vn)) (C := R_Wc) (T := F_Wc) (N := 7) hx hb hts i_Wc hown hK hP 0 rfl rfl 5 (by decide) (hts _ k_fl_Wc_39) (fun _ h9 => h9) rfl d_Wc_fitsPart_18 ?_
        refine lv_iload_n hx hb d_Wc_fitsPart_21 rfl (lv_at hl 2 rfl) ?_
        refine lv_isub hx hb d_Wc_fitsPart_22 ?_
        refine wr_cv (z := (nI (vn - k))) (pk_sub (by omega)) ?_
        refine lv_icmp_gt (tgt := 39) hx hb d_Wc_fitsPart_23 (by decide) (fun c23 => ?_) (fun c23 => ?_)
        · have c23 : (vn - k) < f := (nI_ltI (by omega) (by omega)).mp c23
          refine lv_iconst (v := (nI 0)) hx hb d_Wc_fitsPart_39 (by decide +kernel) ?_
          refine wr_cv (z := bI (wq_fp P pn V vn (nI f) (nI k))) (by rw [wq_fp_3 hf hk (by omega)]; rfl) ?_
          exact W.zret hx hb hr (bI_nar _) (fun t ht9 _ => ⟨⟨_, _, rfl, ⟨rfl, _, _, _, rfl⟩, by show va_P D classes _ t.heap; rw [ht9]; exact hP⟩, hS.F ht9⟩) hS.2.2 d_Wc_fitsPart_40
        · have c23 : ¬ (vn - k) < f := fun hz => c23 ((nI_ltI (by omega) (by omega)).mpr hz)
          refine lv_aload_n hx hb d_Wc_fitsPart_26 rfl (lv_at hl 0 rfl) ?_
          refine lv_iload_n hx hb d_Wc_fitsPart_27 rfl (lv_at hl 1 rfl) ?_
          refine lv_iload_n hx hb d_Wc_fitsPart_28 rfl (lv_at hl 2 rfl) ?_
          refine wr_ci (As := [.int (nI f), .int (nI k)]) (rest := []) (wr := []) (wc := wC h ht hp hw hq cB T n P pn V vn rv fv mv) S (c_Wc_isFit l D cB cI cZ h ht hp hw hq T hT8 n hn P hP8 pn hpn V hV8 vn hvn f k (by omega) rv fv mv s.heap.size) (cwV 2 hts g_Wc_46 rfl rfl rfl (by decide +kernel) ⟨Nat.le_of_ble_eq_true rfl, Nat.le_of_ble_eq_true rfl⟩) hK hP hD hS hA [0, 1, 2, 3, 4] [] rfl rfl (by decide) rfl (by decide) (by decide) (ci := 1) (q0 := 0) rfl rfl rfl rfl hl.1 rfl (lv_room (Nat.le_of_ble_eq_true rfl)) d_Wc_fitsPart_29 ⟨Nat.zero_le _, Nat.zero_le _⟩ (fun r9 u9 H locs hpo hj hS => ?_)
          obtain ⟨e1, rv, fv, mv, e2⟩ := hpo
          subst e1
          subst e2
          obtain ⟨hP, hD⟩ := hj rfl
          have hP : va_P D classes (wC h ht hp hw hq cB T n P pn V vn rv fv mv) H := hP
          have hD : va_D _ (wC h ht hp hw hq cB T n P pn V vn rv fv mv) := hD
          refine lv_if_eq (tgt := 39) hx hb d_Wc_fitsPart_32 (by decide) (fun c32 => ?_) (fun c32 => ?_)
          · have c32 : (wq_fb P pn V f k) = false := bI_0.mp c32
            refine lv_iconst (v := (nI 0)) hx hb d_Wc_fitsPart_39 (by decide +kernel) ?_
            refine wr_cv (z := bI (wq_fp P pn V vn (nI f) (nI k))) (by rw [wq_fp_4 hf hk (by omega), c32]; rfl) ?_
            exact W.zret hx hb hr (bI_nar _) (fun t ht9 _ => ⟨⟨_, _, rfl, ⟨rfl, _, _, _, rfl⟩, by show va_P D classes _ t.heap; rw [ht9]; exact hP⟩, hS.F ht9⟩) hS.2.2 d_Wc_fitsPart_40
          · have c32 : (wq_fb P pn V f k) = true := ts_b (fun hz => c32 (bI_0.mpr hz))
            refine lv_iconst (v := (nI 1)) hx hb d_Wc_fitsPart_35 (by decide +kernel) ?_
            refine lv_goto (tgt := 40) hx hb d_Wc_fitsPart_36 (by decide) ?_
            refine wr_cv (z := bI (wq_fp P pn V vn (nI f) (nI k))) (by rw [wq_fp_4 hf hk (by omega), c32]; rfl) ?_
            exact W.zret hx hb hr (bI_nar _) (fun t ht9 _ => ⟨⟨_, _, rfl, ⟨rfl, _, _, _, rfl⟩, by show va_P D classes _ t.heap; rw [ht9]; exact hP⟩, hS.F ht9⟩) hS.2.2 d_Wc_fitsPart_40
set_option maxHeartbeats 4000000 in
set_option maxRecDepth 100000 in
theorem lp_Wc_beg {p : Program} {l : Launch} {e : Env} {s : State} {m : MethodId} {args : Array Value} {below : List Frame} {meth : Method} {c : Code} {Q : State → Prop} {D : va_G} {cB cI cZ : ClassId} {A : Nat → Prop} {H0 : Heap} (hA : ∀ q, H0.size ≤ q → A q) {h ht hp hw hq : Nat} {T : Nat → Nat} (hT8 : ∀ k, T k < 256) {n : Nat} (hn : n ≤ 400) {P : Nat → Nat} (hP8 : ∀ k, P k < 256) {pn : Nat} (hpn : pn ≤ 400) {V : Nat → Nat} (hV8 : ∀ k, V k < 256) {vn : Nat} (hvn : vn ≤ 400) (S : CallFix p m c b_Wc_beginnings 3 s args gw R_Wc) (hK : va_K D classes (TY cB cI cZ) s) (kk : ∀ (rv fv mv : Value) (H : Heap) (locs : List Loc) (ls : Array Slot), va_P D classes (wC h ht hp hw hq cB T n P pn V vn rv fv mv) H → va_D A (wC h ht hp hw hq cB T n P pn V vn rv fv mv) → va_S A H0 H locs → lv_has ls 3 [(1, .int (smI (fun k => bI (wq_fb P pn V 0 k)) (vn + 1)))] → W p l e rm_Wc_beginnings s m args below meth c H locs 0 0 Q (F0 m 35 ls [])) : ∀ (j k : Nat), vn + 1 - k < j → k ≤ vn + 1 → ∀ (rv fv mv : Value) (H : Heap) (locs : List Loc) (ls : Array Slot), va_P D classes (wC h ht hp hw hq cB T n P pn V vn rv fv mv) H → va_D A (wC h ht hp hw hq cB T n P pn V vn rv fv mv) → va_S A H0 H locs → lv_has ls 3 [(0, .ref h), (1, .int (smI (fun k => bI (wq_fb P pn V 0 k)) k)), (2, .int (nI k))] → W p l e rm_Wc_beginnings s m args below meth c H locs 0 0 Q (F0 m 4 ls []) := by
  obtain ⟨hx, hb, hml, hown, hts⟩ := id S
  intro j
  induction j with
  | zero => intro k h0; exact absurd h0 (Nat.not_lt_zero _)
  | succ j ih =>
    intro k h0 h1 rv fv mv H locs ls hP hD hS hl
    refine lv_iload_n hx hb d_Wc_beginnings_4 rfl (lv_at hl 2 rfl) ?_
    refine lv_aload_n hx hb d_Wc_beginnings_5 rfl (lv_at hl 0 rfl) ?_
    refine va_get (D := D) (ci := 1) (v := .int (nI vn)) (C := R_Wc) (T := F_Wc) (N := 7) hx hb hts i_Wc hown hK hP 0 rfl rfl 5 (by decide) (hts _ k_fl_Wc_39) (fun _ h9 => h9) rfl d_Wc_beginnings_6 ?_
    refine lv_icmp_gt (tgt := 35) hx hb d_Wc_beginnings_9 (by decide) (fun c9 => ?_) (fun c9 => ?_)
    · have c9 : vn < k := (nI_ltI (by omega) (by omega)).mp c9
      obtain rfl : k = vn + 1 := by omega
      exact kk rv fv mv H locs ls hP hD hS (lv_sub hl [1] rfl)
    · have c9 : ¬ vn < k := fun hz => c9 ((nI_ltI (by omega) (by omega)).mpr hz)
      refine lv_iload_n hx hb d_Wc_beginnings_12 rfl (lv_at hl 1 rfl) ?_
      refine lv_aload_n hx hb d_Wc_beginnings_13 rfl (lv_at hl 0 rfl) ?_
      refine lv_iconst (v := (nI 0)) hx hb d_Wc_beginnings_14 (by decide +kernel) ?_
      refine lv_iload_n hx hb d_Wc_beginnings_15 rfl (lv_at hl 2 rfl) ?_
      refine wr_ci (As := [.int (nI 0), .int (nI k)]) (rest := [.int (smI (fun k => bI (wq_fb P pn V 0 k)) k)]) (wr := []) (wc := wC h ht hp hw hq cB T n P pn V vn rv fv mv) S (c_Wc_isFit l D cB cI cZ h ht hp hw hq T hT8 n hn P hP8 pn hpn V hV8 vn hvn 0 k (by omega) rv fv mv H.size) (cwV 2 hts g_Wc_46 rfl rfl rfl (by decide +kernel) ⟨Nat.le_of_ble_eq_true rfl, Nat.le_of_ble_eq_true rfl⟩) hK hP hD hS hA [0, 1, 2, 3, 4] [] rfl rfl (by decide) rfl (by decide) (by decide) (ci := 1) (q0 := 0) rfl rfl rfl rfl hl.1 rfl (lv_room (Nat.le_of_ble_eq_true rfl)) d_Wc_beginnings_16 ⟨Nat.zero_le _, Nat.zero_le _⟩ (fun r9 u9 H locs hpo hj hS => ?_)
      obtain ⟨e1, rv, fv, mv, e2⟩ := hpo
      subst e1
      subst e2
      obtain ⟨hP, hD⟩ := hj rfl
      have hP : va_P D classes (wC h ht hp hw hq cB T n P pn V vn rv fv mv) H := hP
      have hD : va_D _ (wC h ht hp hw hq cB T n P pn V vn rv fv mv) := hD
      refine lv_if_eq (tgt := 26) hx hb d_Wc_beginnings_19 (by decide) (fun c19 => ?_) (fun c19 => ?_)
      · have c19 : (wq_fb P pn V 0 k) = false := bI_0.mp c19
        refine lv_iconst (v := (nI 0)) hx hb d_Wc_beginnings_26 (by decide +kernel) ?_
        refine lv_iadd hx hb d_Wc_beginnings_27 ?_
        refine wr_cv (z := (smI (fun k => bI (wq_fb P pn V 0 k)) (k + 1))) (congrArg (smI (fun k => bI (wq_fb P pn V 0 k)) k + ·) (show (nI 0) = bI (wq_fb P pn V 0 k) from by rw [c19]; rfl)) ?_
        refine lv_istore_n (lv' := [(1, .int (smI (fun k => bI (wq_fb P pn V 0 k)) (k + 1))), (0, .ref h), (2, .int (nI k))]) hx hb d_Wc_beginnings_28 rfl hl (by decide) rfl (fun ls hl => ?_)
        refine lv_iinc (v := (nI (k + 1))) (lv' := [(2, .int (nI (k + 1))), (1, .int (smI (fun k => bI (wq_fb P pn V 0 k)) (k + 1))), (0, .ref h)]) hx hb d_Wc_beginnings_29 hl (k := 2) rfl (nI_add k 1) (by decide) rfl (fun ls hl => ?_)
        refine lv_goto (tgt := 4) hx hb d_Wc_beginnings_32 (by decide) ?_
        exact ih (k + 1) (by omega) (by omega) rv fv mv H locs ls hP hD hS (lv_sub hl [2, 1, 0] rfl)
      · have c19 : (wq_fb P pn V 0 k) = true := ts_b (fun hz => c19 (bI_0.mpr hz))
        refine lv_iconst (v := (nI 1)) hx hb d_Wc_beginnings_22 (by decide +kernel) ?_
        refine lv_goto (tgt := 27) hx hb d_Wc_beginnings_23 (by decide) ?_
        refine lv_iadd hx hb d_Wc_beginnings_27 ?_
        refine wr_cv (z := (smI (fun k => bI (wq_fb P pn V 0 k)) (k + 1))) (congrArg (smI (fun k => bI (wq_fb P pn V 0 k)) k + ·) (show (nI 1) = bI (wq_fb P pn V 0 k) from by rw [c19]; rfl)) ?_
        refine lv_istore_n (lv' := [(1, .int (smI (fun k => bI (wq_fb P pn V 0 k)) (k + 1))), (0, .ref h), (2, .int (nI k))]) hx hb d_Wc_beginnings_28 rfl hl (by decide) rfl (fun ls hl => ?_)
        refine lv_iinc (v := (nI (k + 1))) (lv' := [(2, .int (nI (k + 1))), (1, .int (smI (fun k => bI (wq_fb P pn V 0 k)) (k + 1))), (0, .ref h)]) hx hb d_Wc_beginnings_29 hl (k := 2) rfl (nI_add k 1) (by decide) rfl (fun ls hl => ?_)
        refine lv_goto (tgt := 4) hx hb d_Wc_beginnings_32 (by decide) ?_
        exact ih (k + 1) (by omega) (by omega) rv fv mv H locs ls hP hD hS (lv_sub hl [2, 1, 0] rfl)
set_option maxHeartbeats 4000000 in
set_option maxRecDepth 100000 in
theorem c_Wc_beginnings (l : Launch) (D : va_G) (cB cI cZ : ClassId) (h ht hp hw hq : Nat) (T : Nat → Nat) (hT8 : ∀ k, T k < 256) (n : Nat) (hn : n ≤ 400) (P : Nat → Nat) (hP8 : ∀ k, P k < 256) (pn : Nat) (hpn : pn ≤ 400) (V : Nat → Nat) (hV8 : ∀ k, V k < 256) (vn : Nat) (hvn : vn ≤ 400)  (rv fv mv : Value) (sz : Nat) : Met l y_Wc_beginnings w_Wc_beginnings rm_Wc_beginnings (Pm D cB cI cZ sz [.ref h] (wC h ht hp hw hq cB T n P pn V vn rv fv mv)) (Qm D (fun r u => r = (smI (fun k => bI (wq_fb P pn V 0 k)) (vn + 1)) ∧ ∃ rv fv mv, u = wC h ht hp hw hq cB T n P pn V vn rv fv mv) (wC h ht hp hw hq cB T n P pn V vn rv fv mv) sz) 0 0 (va_A (wC h ht hp hw hq cB T n P pn V vn rv fv mv) sz) := by
  refine Met.ofW (cc := b_Wc_beginnings) (maxL := 3) (ret := (some .int)) (by decide) rfl ?_
  intro p e s m args below meth c s₁ B hml hv
  obtain ⟨rfl, hsz, hP, hK, hD0⟩ := hv
  have hx := B.exec
  have hb := B.bytes
  have hr := B.returns
  have hts0 := atoms_spec (ws := w_Wc_beginnings) B.pre
  have hts : ∀ w ∈ gw, w.before _ s = true := fun w hw => hts0 w (List.mem_cons_of_mem _ hw)
  have hown : s.vm.findClass R_Wc = some m.cls := findClass_of_methodNamed B.named
  have hlocks := B.notSynchronized
  have S : CallFix p m c b_Wc_beginnings 3 s _ gw R_Wc := ⟨hx, hb, hml, hown, hts⟩
  subst hsz
  have hD := hD0.self (sz := s.heap.size)
  have hA : ∀ q : Nat, s.heap.size ≤ q → va_A (wC h ht hp hw hq cB T n P pn V vn rv fv mv) s.heap.size q := fun q h => Or.inr h
  have hS : va_S (va_A (wC h ht hp hw hq cB T n P pn V vn rv fv mv) s.heap.size) s.heap s.heap [] := va_S.rf
  have hl := lv_entry ([.ref h]) (n := 3) (Nat.le_of_ble_eq_true rfl)
  rw [lg_entry_eq]
  generalize (lg_sl ([.ref h]) ++ List.replicate (3 - (lg_sl ([.ref h])).length) Slot.unset).toArray = ls at hl ⊢
  have hl : lv_has ls 3 [(0, .ref h)] := hl
  show W p l e rm_Wc_beginnings s m _ below meth c s.heap [] 0 0 _ (F0 m 0 ls [])
  refine lv_iconst (v := (nI 0)) hx hb d_Wc_beginnings_0 (by decide +kernel) ?_
  refine wr_cv (z := (smI (fun k => bI (wq_fb P pn V 0 k)) 0)) rfl ?_
  refine lv_istore_n (lv' := [(1, .int (smI (fun k => bI (wq_fb P pn V 0 k)) 0)), (0, .ref h)]) hx hb d_Wc_beginnings_1 rfl hl (by decide) rfl (fun ls hl => ?_)
  refine lv_iconst (v := (nI 0)) hx hb d_Wc_beginnings_2 (by decide +kernel) ?_
  refine lv_istore_n (lv' := [(2, .int (nI 0)), (1, .int (smI (fun k => bI (wq_fb P pn V 0 k)) 0)), (0, .ref h)]) hx hb d_Wc_beginnings_3 rfl hl (by decide) rfl (fun ls hl => ?_)
  refine lp_Wc_beg hA hT8 hn hP8 hpn hV8 hvn S hK (fun rv fv mv H locs ls hP hD hS hl => ?_) (vn + 2) 0 (by omega) (by omega) rv fv mv s.heap [] ls hP hD hS (lv_sub hl [2, 1, 0] rfl)
  refine lv_iload_n hx hb d_Wc_beginnings_35 rfl (lv_at hl 0 rfl) ?_
  exact W.iret hx hb hr (fun t ht9 _ => ⟨⟨_, _, rfl, ⟨rfl, _, _, _, rfl⟩, by show va_P D classes _ t.heap; rw [ht9]; exact hP⟩, hS.F ht9⟩) hS.2.2 d_Wc_beginnings_36
set_option maxHeartbeats 4000000 in
set_option maxRecDepth 100000 in
theorem c_Wc_end (l : Launch) (D : va_G) (cB cI cZ : ClassId) (h ht hp hw hq : Nat) (T : Nat → Nat) (hT8 : ∀ k, T k < 256) (n : Nat) (hn : n ≤ 400) (P : Nat → Nat) (hP8 : ∀ k, P k < 256) (pn : Nat) (hpn : pn ≤ 400) (V : Nat → Nat) (hV8 : ∀ k, V k < 256) (vn : Nat) (hvn : vn ≤ 400) (x : Int32) (rv fv mv : Value) (sz : Nat) : Met l y_Wc_end w_Wc_end rm_Wc_end (Pm D cB cI cZ sz [.ref h, .int x] (wC h ht hp hw hq cB T n P pn V vn rv fv mv)) (Qm D (fun r u => r = (bI (ed_b n x)) ∧ ∃ rv fv mv, u = wC h ht hp hw hq cB T (ed_n n x) P pn V vn rv fv mv) (wC h ht hp hw hq cB T n P pn V vn rv fv mv) sz) 0 0 (va_A (wC h ht hp hw hq cB T n P pn V vn rv fv mv) sz) := by
  refine Met.ofW (cc := b_Wc_end) (maxL := 2) (ret := (some .boolean)) (by decide) rfl ?_
  intro p e s m args below meth c s₁ B hml hv
  obtain ⟨rfl, hsz, hP, hK, hD0⟩ := hv
  have hx := B.exec
  have hb := B.bytes
  have hr := B.returns
  have hts0 := atoms_spec (ws := w_Wc_end) B.pre
  have hts : ∀ w ∈ gw, w.before _ s = true := fun w hw => hts0 w (List.mem_cons_of_mem _ hw)
  have hown : s.vm.findClass R_Wc = some m.cls := findClass_of_methodNamed B.named
  have hlocks := B.notSynchronized
  have S : CallFix p m c b_Wc_end 2 s _ gw R_Wc := ⟨hx, hb, hml, hown, hts⟩
  subst hsz
  have hD := hD0.self (sz := s.heap.size)
  have hA : ∀ q : Nat, s.heap.size ≤ q → va_A (wC h ht hp hw hq cB T n P pn V vn rv fv mv) s.heap.size q := fun q h => Or.inr h
  have hS : va_S (va_A (wC h ht hp hw hq cB T n P pn V vn rv fv mv) s.heap.size) s.heap s.heap [] := va_S.rf
  have hl := lv_entry ([.ref h, .int x]) (n := 2) (Nat.le_of_ble_eq_true rfl)
  rw [lg_entry_eq]
  generalize (lg_sl ([.ref h, .int x]) ++ List.replicate (2 - (lg_sl ([.ref h, .int x])).length) Slot.unset).toArray = ls at hl ⊢
  have hl : lv_has ls 2 [(0, .ref h), (1, .int x)] := hl
  show W p l e rm_Wc_end s m _ below meth c s.heap [] 0 0 _ (F0 m 0 ls [])
  refine lv_iload_n hx hb d_Wc_end_0 rfl (lv_at hl 1 rfl) ?_
  refine lv_if_lt (tgt := 12) hx hb d_Wc_end_1 (by decide) (fun c1 => ?_) (fun c1 => ?_)
  · refine lv_iconst (v := (nI 0)) hx hb d_Wc_end_12 (by decide +kernel) ?_
    refine wr_cv (z := bI (ed_b n x)) (by rw [(ed_1 (Or.inl c1)).1]; rfl) ?_
    exact W.zret hx hb hr (bI_nar _) (fun t ht9 _ => ⟨⟨_, _, rfl, ⟨rfl, _, _, _, by rw [(ed_1 (Or.inl c1)).2]⟩, by show va_P D classes _ t.heap; rw [ht9]; exact hP⟩, hS.F ht9⟩) hS.2.2 d_Wc_end_13
  · refine lv_iload_n hx hb d_Wc_end_4 rfl (lv_at hl 1 rfl) ?_
    refine lv_aload_n hx hb d_Wc_end_5 rfl (lv_at hl 0 rfl) ?_
    refine va_get (D := D) (ci := 1) (v := .int (nI n)) (C := R_Wc) (T := F_Wc) (N := 7) hx hb hts i_Wc hown hK hP 0 rfl rfl 1 (by decide) (hts _ k_fl_Wc_26) (fun _ h9 => h9) rfl d_Wc_end_6 ?_
    refine lv_icmp_le (tgt := 14) hx hb d_Wc_end_9 (by decide) (fun c9 => ?_) (fun c9 => ?_)
    · obtain ⟨j, hj, rfl⟩ := nI_of2 (nI_toInt (by omega)) c1 c9
      refine lv_aload_n hx hb d_Wc_end_14 rfl (lv_at hl 0 rfl) ?_
      refine lv_iload_n hx hb d_Wc_end_15 rfl (lv_at hl 1 rfl) ?_
      refine va_put (D := D) (ci := 1) (v := .int (nI j)) (ty := .int) (C := R_Wc) (T := F_Wc) (N := 7) hx hb hts i_Wc t_Wc t_Wc_ok n_Wc hown hK hP hD hS 0 rfl rfl 1 (by decide) (hts _ k_fl_Wc_26) (fun _ h9 => h9) rfl (by decide +kernel) rfl rfl (Nat.le_of_ble_eq_true rfl) d_Wc_end_16 (fun H locs hP hD hS => ?_)
      have hP : va_P D classes (wC h ht hp hw hq cB T j P pn V vn rv fv mv) H := hP
      have hD : va_D _ (wC h ht hp hw hq cB T j P pn V vn rv fv mv) := hD
      refine lv_iconst (v := (nI 1)) hx hb d_Wc_end_19 (by decide +kernel) ?_
      refine wr_cv (z := bI (ed_b n (nI j))) (by rw [(ed_2 hj hn).1]; rfl) ?_
      exact W.zret hx hb hr (bI_nar _) (fun t ht9 _ => ⟨⟨_, _, rfl, ⟨rfl, _, _, _, by rw [(ed_2 hj hn).2]⟩, by show va_P D classes _ t.heap; rw [ht9]; exact hP⟩, hS.F ht9⟩) hS.2.2 d_Wc_end_20
    · refine lv_iconst (v := (nI 0)) hx hb d_Wc_end_12 (by decide +kernel) ?_
      refine wr_cv (z := bI (ed_b n x)) (by rw [(ed_1 (ed_3 hn c1 c9)).1]; rfl) ?_
      exact W.zret hx hb hr (bI_nar _) (fun t ht9 _ => ⟨⟨_, _, rfl, ⟨rfl, _, _, _, by rw [(ed_1 (ed_3 hn c1 c9)).2]⟩, by show va_P D classes _ t.heap; rw [ht9]; exact hP⟩, hS.F ht9⟩) hS.2.2 d_Wc_end_13
set_option maxHeartbeats 4000000 in
set_option maxRecDepth 100000 in
theorem c_Wc_pattern (l : Launch) (D : va_G) (cB cI cZ : ClassId) (h ht hp hw hq : Nat) (T : Nat → Nat) (hT8 : ∀ k, T k < 256) (n : Nat) (hn : n ≤ 400) (P : Nat → Nat) (hP8 : ∀ k, P k < 256) (pn : Nat) (hpn : pn ≤ 400) (V : Nat → Nat) (hV8 : ∀ k, V k < 256) (vn : Nat) (hvn : vn ≤ 400)  (rv fv mv : Value) (sz : Nat) : Met l y_Wc_pattern w_Wc_pattern rm_Wc_pattern (Pm D cB cI cZ sz [.ref h] (wC h ht hp hw hq cB T n P pn V vn rv fv mv)) (Qm D (fun r u => r = (nI n) ∧ ∃ rv fv mv, u = wC h ht hp hw hq cB T 0 (cpN T P n) n V vn rv fv mv) (wC h ht hp hw hq cB T n P pn V vn rv fv mv) sz) 0 0 (va_A (wC h ht hp hw hq cB T n P pn V vn rv fv mv) sz) := by
  refine Met.ofW (cc := b_Wc_pattern) (maxL := 1) (ret := (some .int)) (by decide) rfl ?_
  intro p e s m args below meth c s₁ B hml hv
  obtain ⟨rfl, hsz, hP, hK, hD0⟩ := hv
  have hx := B.exec
  have hb := B.bytes
  have hr := B.returns
  have hts0 := atoms_spec (ws := w_Wc_pattern) B.pre
  have hts : ∀ w ∈ gw, w.before _ s = true := fun w hw => hts0 w (List.mem_cons_of_mem _ hw)
  have hown : s.vm.findClass R_Wc = some m.cls := findClass_of_methodNamed B.named
  have hlocks := B.notSynchronized
  have S : CallFix p m c b_Wc_pattern 1 s _ gw R_Wc := ⟨hx, hb, hml, hown, hts⟩
  subst hsz
  have hD := hD0.self (sz := s.heap.size)
  have hA : ∀ q : Nat, s.heap.size ≤ q → va_A (wC h ht hp hw hq cB T n P pn V vn rv fv mv) s.heap.size q := fun q h => Or.inr h
  have hS : va_S (va_A (wC h ht hp hw hq cB T n P pn V vn rv fv mv) s.heap.size) s.heap s.heap [] := va_S.rf
  have hl := lv_entry ([.ref h]) (n := 1) (Nat.le_of_ble_eq_true rfl)
  rw [lg_entry_eq]
  generalize (lg_sl ([.ref h]) ++ List.replicate (1 - (lg_sl ([.ref h])).length) Slot.unset).toArray = ls at hl ⊢
  have hl : lv_has ls 1 [(0, .ref h)] := hl
  show W p l e rm_Wc_pattern s m _ below meth c s.heap [] 0 0 _ (F0 m 0 ls [])
  refine lv_aload_n hx hb d_Wc_pattern_0 rfl (lv_at hl 0 rfl) ?_
  refine lv_aload_n hx hb d_Wc_pattern_1 rfl (lv_at hl 0 rfl) ?_
  refine va_get (D := D) (ci := 1) (v := .int (nI n)) (C := R_Wc) (T := F_Wc) (N := 7) hx hb hts i_Wc hown hK hP 0 rfl rfl 1 (by decide) (hts _ k_fl_Wc_26) (fun _ h9 => h9) rfl d_Wc_pattern_2 ?_
  refine va_put (D := D) (ci := 1) (v := .int (nI n)) (ty := .int) (C := R_Wc) (T := F_Wc) (N := 7) hx hb hts i_Wc t_Wc t_Wc_ok n_Wc hown hK hP hD hS 0 rfl rfl 4 (by decide) (hts _ k_fl_Wc_30) (fun _ h9 => h9) rfl (by decide +kernel) rfl rfl (Nat.le_of_ble_eq_true rfl) d_Wc_pattern_5 (fun H locs hP hD hS => ?_)
  have hP : va_P D classes (wC h ht hp hw hq cB T n P n V vn rv fv mv) H := hP
  have hD : va_D _ (wC h ht hp hw hq cB T n P n V vn rv fv mv) := hD
  refine lv_aload_n hx hb d_Wc_pattern_8 rfl (lv_at hl 0 rfl) ?_
  refine va_get (D := D) (ci := 1) (v := .ref ht) (C := R_Wc) (T := F_Wc) (N := 7) hx hb hts i_Wc hown hK hP 0 rfl rfl 0 (by decide) (hts _ k_fl_Wc_9) (fun _ h9 => h9) rfl d_Wc_pattern_9 ?_
  refine lv_iconst (v := (nI 0)) hx hb d_Wc_pattern_12 (by decide +kernel) ?_
  refine lv_aload_n hx hb d_Wc_pattern_13 rfl (lv_at hl 0 rfl) ?_
  refine va_get (D := D) (ci := 1) (v := .ref hp) (C := R_Wc) (T := F_Wc) (N := 7) hx hb hts i_Wc hown hK hP 0 rfl rfl 2 (by decide) (hts _ k_fl_Wc_13) (fun _ h9 => h9) rfl d_Wc_pattern_14 ?_
  refine lv_iconst (v := (nI 0)) hx hb d_Wc_pattern_17 (by decide +kernel) ?_
  refine lv_aload_n hx hb d_Wc_pattern_18 rfl (lv_at hl 0 rfl) ?_
  refine va_get (D := D) (ci := 1) (v := .int (nI n)) (C := R_Wc) (T := F_Wc) (N := 7) hx hb hts i_Wc hown hK hP 0 rfl rfl 1 (by decide) (hts _ k_fl_Wc_26) (fun _ h9 => h9) rfl d_Wc_pattern_19 ?_
  refine va_copyi (ty := .byte) hx hb (hml.trans hl.1.symm) hown (hts _ k_ml_Wc_33) (hts _ k_nat_acp) (hts _ k_st_acp) (hts _ k_ini_System) hK hP hD hS 1 2 0 0 rfl rfl rfl rfl rfl (nI_pos (by omega)) (nI_pos (by omega)) (nI_pos (by omega)) (by rw [nI_clamp (by omega), nI_clamp (by omega)]; omega) (by rw [nI_clamp (by omega), nI_clamp (by omega)]; omega) (fun _ _ => pk_fb _) (Nat.le_of_ble_eq_true rfl) (Nat.le_of_ble_eq_true rfl) d_Wc_pattern_22 (fun H locs hP hD hS => ?_)
  rw [cp_0 T P hn] at hP hD
  have hP : va_P D classes (wC h ht hp hw hq cB T n (cpN T P n) n V vn rv fv mv) H := hP
  have hD : va_D _ (wC h ht hp hw hq cB T n (cpN T P n) n V vn rv fv mv) := hD
  refine lv_aload_n hx hb d_Wc_pattern_25 rfl (lv_at hl 0 rfl) ?_
  refine lv_iconst (v := (nI 0)) hx hb d_Wc_pattern_26 (by decide +kernel) ?_
  refine va_put (D := D) (ci := 1) (v := .int (nI 0)) (ty := .int) (C := R_Wc) (T := F_Wc) (N := 7) hx hb hts i_Wc t_Wc t_Wc_ok n_Wc hown hK hP hD hS 0 rfl rfl 1 (by decide) (hts _ k_fl_Wc_26) (fun _ h9 => h9) rfl (by decide +kernel) rfl rfl (Nat.le_of_ble_eq_true rfl) d_Wc_pattern_27 (fun H locs hP hD hS => ?_)
  have hP : va_P D classes (wC h ht hp hw hq cB T 0 (cpN T P n) n V vn rv fv mv) H := hP
  have hD : va_D _ (wC h ht hp hw hq cB T 0 (cpN T P n) n V vn rv fv mv) := hD
  refine lv_aload_n hx hb d_Wc_pattern_30 rfl (lv_at hl 0 rfl) ?_
  refine va_get (D := D) (ci := 1) (v := .int (nI n)) (C := R_Wc) (T := F_Wc) (N := 7) hx hb hts i_Wc hown hK hP 0 rfl rfl 4 (by decide) (hts _ k_fl_Wc_30) (fun _ h9 => h9) rfl d_Wc_pattern_31 ?_
  exact W.iret hx hb hr (fun t ht9 _ => ⟨⟨_, _, rfl, ⟨rfl, _, _, _, rfl⟩, by show va_P D classes _ t.heap; rw [ht9]; exact hP⟩, hS.F ht9⟩) hS.2.2 d_Wc_pattern_34
set_option maxHeartbeats 4000000 in
set_option maxRecDepth 100000 in
theorem c_Wc_word (l : Launch) (D : va_G) (cB cI cZ : ClassId) (h ht hp hw hq : Nat) (T : Nat → Nat) (hT8 : ∀ k, T k < 256) (n : Nat) (hn : n ≤ 400) (P : Nat → Nat) (hP8 : ∀ k, P k < 256) (pn : Nat) (hpn : pn ≤ 400) (V : Nat → Nat) (hV8 : ∀ k, V k < 256) (vn : Nat) (hvn : vn ≤ 400)  (rv fv mv : Value) (sz : Nat) : Met l y_Wc_word w_Wc_word rm_Wc_word (Pm D cB cI cZ sz [.ref h] (wC h ht hp hw hq cB T n P pn V vn rv fv mv)) (Qm D (fun r u => r = (nI n) ∧ ∃ rv fv mv, u = wC h ht hp hw hq cB T 0 P pn (cpN T V n) n rv fv mv) (wC h ht hp hw hq cB T n P pn V vn rv fv mv) sz) 0 0 (va_A (wC h ht hp hw hq cB T n P pn V vn rv fv mv) sz) := by
  refine Met.ofW (cc := b_Wc_word) (maxL := 1) (ret := (some .int)) (by decide) rfl ?_
  intro p e s m args below meth c s₁ B hml hv
  obtain ⟨rfl, hsz, hP, hK, hD0⟩ := hv
  have hx := B.exec
  have hb := B.bytes
  have hr := B.returns
  have hts0 := atoms_spec (ws := w_Wc_word) B.pre
  have hts : ∀ w ∈ gw, w.before _ s = true := fun w hw => hts0 w (List.mem_cons_of_mem _ hw)
  have hown : s.vm.findClass R_Wc = some m.cls := findClass_of_methodNamed B.named
  have hlocks := B.notSynchronized
  have S : CallFix p m c b_Wc_word 1 s _ gw R_Wc := ⟨hx, hb, hml, hown, hts⟩
  subst hsz
  have hD := hD0.self (sz := s.heap.size)
  have hA : ∀ q : Nat, s.heap.size ≤ q → va_A (wC h ht hp hw hq cB T n P pn V vn rv fv mv) s.heap.size q := fun q h => Or.inr h
  have hS : va_S (va_A (wC h ht hp hw hq cB T n P pn V vn rv fv mv) s.heap.size) s.heap s.heap [] := va_S.rf
  have hl := lv_entry ([.ref h]) (n := 1) (Nat.le_of_ble_eq_true rfl)
  rw [lg_entry_eq]
  generalize (lg_sl ([.ref h]) ++ List.replicate (1 - (lg_sl ([.ref h])).length) Slot.unset).toArray = ls at hl ⊢
  have hl : lv_has ls 1 [(0, .ref h)] := hl
  show W p l e rm_Wc_word s m _ below meth c s.heap [] 0 0 _ (F0 m 0 ls [])
  refine lv_aload_n hx hb d_Wc_word_0 rfl (lv_at hl 0 rfl) ?_
  refine lv_aload_n hx hb d_Wc_word_1 rfl (lv_at hl 0 rfl) ?_
  refine va_get (D := D) (ci := 1) (v := .int (nI n)) (C := R_Wc) (T := F_Wc) (N := 7) hx hb hts i_Wc hown hK hP 0 rfl rfl 1 (by decide) (hts _ k_fl_Wc_26) (fun _ h9 => h9) rfl d_Wc_word_2 ?_
  refine va_put (D := D) (ci := 1) (v := .int (nI n)) (ty := .int) (C := R_Wc) (T := F_Wc) (N := 7) hx hb hts i_Wc t_Wc t_Wc_ok n_Wc hown hK hP hD hS 0 rfl rfl 5 (by decide) (hts _ k_fl_Wc_39) (fun _ h9 => h9) rfl (by decide +kernel) rfl rfl (Nat.le_of_ble_eq_true rfl) d_Wc_word_5 (fun H locs hP hD hS => ?_)
  have hP : va_P D classes (wC h ht hp hw hq cB T n P pn V n rv fv mv) H := hP
  have hD : va_D _ (wC h ht hp hw hq cB T n P pn V n rv fv mv) := hD
  refine lv_aload_n hx hb d_Wc_word_8 rfl (lv_at hl 0 rfl) ?_
  refine va_get (D := D) (ci := 1) (v := .ref ht) (C := R_Wc) (T := F_Wc) (N := 7) hx hb hts i_Wc hown hK hP 0 rfl rfl 0 (by decide) (hts _ k_fl_Wc_9) (fun _ h9 => h9) rfl d_Wc_word_9 ?_
  refine lv_iconst (v := (nI 0)) hx hb d_Wc_word_12 (by decide +kernel) ?_
  refine lv_aload_n hx hb d_Wc_word_13 rfl (lv_at hl 0 rfl) ?_
  refine va_get (D := D) (ci := 1) (v := .ref hw) (C := R_Wc) (T := F_Wc) (N := 7) hx hb hts i_Wc hown hK hP 0 rfl rfl 3 (by decide) (hts _ k_fl_Wc_16) (fun _ h9 => h9) rfl d_Wc_word_14 ?_
  refine lv_iconst (v := (nI 0)) hx hb d_Wc_word_17 (by decide +kernel) ?_
  refine lv_aload_n hx hb d_Wc_word_18 rfl (lv_at hl 0 rfl) ?_
  refine va_get (D := D) (ci := 1) (v := .int (nI n)) (C := R_Wc) (T := F_Wc) (N := 7) hx hb hts i_Wc hown hK hP 0 rfl rfl 1 (by decide) (hts _ k_fl_Wc_26) (fun _ h9 => h9) rfl d_Wc_word_19 ?_
  refine va_copyi (ty := .byte) hx hb (hml.trans hl.1.symm) hown (hts _ k_ml_Wc_33) (hts _ k_nat_acp) (hts _ k_st_acp) (hts _ k_ini_System) hK hP hD hS 1 3 0 0 rfl rfl rfl rfl rfl (nI_pos (by omega)) (nI_pos (by omega)) (nI_pos (by omega)) (by rw [nI_clamp (by omega), nI_clamp (by omega)]; omega) (by rw [nI_clamp (by omega), nI_clamp (by omega)]; omega) (fun _ _ => pk_fb _) (Nat.le_of_ble_eq_true rfl) (Nat.le_of_ble_eq_true rfl) d_Wc_word_22 (fun H locs hP hD hS => ?_)
  rw [cp_0 T V hn] at hP hD
  have hP : va_P D classes (wC h ht hp hw hq cB T n P pn (cpN T V n) n rv fv mv) H := hP
  have hD : va_D _ (wC h ht hp hw hq cB T n P pn (cpN T V n) n rv fv mv) := hD
  refine lv_aload_n hx hb d_Wc_word_25 rfl (lv_at hl 0 rfl) ?_
  refine lv_iconst (v := (nI 0)) hx hb d_Wc_word_26 (by decide +kernel) ?_
  refine va_put (D := D) (ci := 1) (v := .int (nI 0)) (ty := .int) (C := R_Wc) (T := F_Wc) (N := 7) hx hb hts i_Wc t_Wc t_Wc_ok n_Wc hown hK hP hD hS 0 rfl rfl 1 (by decide) (hts _ k_fl_Wc_26) (fun _ h9 => h9) rfl (by decide +kernel) rfl rfl (Nat.le_of_ble_eq_true rfl) d_Wc_word_27 (fun H locs hP hD hS => ?_)
  have hP : va_P D classes (wC h ht hp hw hq cB T 0 P pn (cpN T V n) n rv fv mv) H := hP
  have hD : va_D _ (wC h ht hp hw hq cB T 0 P pn (cpN T V n) n rv fv mv) := hD
  refine lv_aload_n hx hb d_Wc_word_30 rfl (lv_at hl 0 rfl) ?_
  refine va_get (D := D) (ci := 1) (v := .int (nI n)) (C := R_Wc) (T := F_Wc) (N := 7) hx hb hts i_Wc hown hK hP 0 rfl rfl 5 (by decide) (hts _ k_fl_Wc_39) (fun _ h9 => h9) rfl d_Wc_word_31 ?_
  exact W.iret hx hb hr (fun t ht9 _ => ⟨⟨_, _, rfl, ⟨rfl, _, _, _, rfl⟩, by show va_P D classes _ t.heap; rw [ht9]; exact hP⟩, hS.F ht9⟩) hS.2.2 d_Wc_word_34
set_option maxHeartbeats 4000000 in
set_option maxRecDepth 100000 in
theorem lp_Wc_feed {p : Program} {l : Launch} {e : Env} {s : State} {m : MethodId} {args : Array Value} {below : List Frame} {meth : Method} {c : Code} {Q : State → Prop} {D : va_G} {cB cI cZ : ClassId} {A : Nat → Prop} {H0 : Heap} (hA : ∀ q, H0.size ≤ q → A q) {h ht hp hw hq : Nat} {T : Nat → Nat} (hT8 : ∀ k, T k < 256) {n : Nat} (hn : n ≤ 400) {P : Nat → Nat} (hP8 : ∀ k, P k < 256) {pn : Nat} (hpn : pn ≤ 400) {V : Nat → Nat} (hV8 : ∀ k, V k < 256) {vn : Nat} (hvn : vn ≤ 400) {x1 x2 x3 x4 x5 : Int32} {rv fv mv : Value} (h20 : n + 20 ≤ 400) (S : CallFix p m c b_Wc_feed 8 s args gw R_Wc) (hK : va_K D classes (TY cB cI cZ) s) (kk : ∀ (H : Heap) (locs : List Loc) (ls : Array Slot), va_P D classes (wC h ht hp hw hq cB (pu20 T n x1 x2 x3 x4 x5) (n + 20) P pn V vn rv fv mv) H → va_D A (wC h ht hp hw hq cB (pu20 T n x1 x2 x3 x4 x5) (n + 20) P pn V vn rv fv mv) → va_S A H0 H locs → W p l e rm_Wc_feed s m args below meth c H locs 0 0 Q (F0 m 112 ls [])) : ∀ (j k : Nat), 20 - k < j → k ≤ 20 → ∀ (H : Heap) (locs : List Loc) (ls : Array Slot), va_P D classes (wC h ht hp hw hq cB (puK T n x1 x2 x3 x4 x5 k) (n + k) P pn V vn rv fv mv) H → va_D A (wC h ht hp hw hq cB (puK T n x1 x2 x3 x4 x5 k) (n + k) P pn V vn rv fv mv) → va_S A H0 H locs → lv_has ls 8 [(0, .ref h), (1, .int x1), (2, .int x2), (3, .int x3), (4, .int x4), (5, .int x5), (6, .int (nI k))] → W p l e rm_Wc_feed s m args below meth c H locs 0 0 Q (F0 m 18 ls []) := by
  obtain ⟨hx, hb, hml, hown, hts⟩ := id S
  intro j
  induction j with
  | zero => intro k h0; exact absurd h0 (Nat.not_lt_zero _)
  | succ j ih =>
    intro k h0 h1 H locs ls hP hD hS hl
    refine lv_iload hx hb d_Wc_feed_18 (lv_at hl 6 rfl) ?_
    refine lv_bipush (v := (nI 20)) hx hb d_Wc_feed_20 (by decide +kernel) ?_
    refine lv_icmp_ge (tgt := 112) hx hb d_Wc_feed_22 (by decide) (fun c22 => ?_) (fun c22 => ?_)
    · have c22 : 20 ≤ k := (nI_leI (by omega) (by omega)).mp c22
      obtain rfl : k = 20 := by omega
      exact kk H locs ls hP hD hS
    · have c22 : ¬ 20 ≤ k := fun hz => c22 ((nI_leI (by omega) (by omega)).mpr hz)
      have J71 : ∀ (x : Int32), x = vk5 x1 x2 x3 x4 x5 k → W p l e rm_Wc_feed s m args below meth c H locs 0 0 Q (F0 m 71 ls [.int x]) := by
        intro x ex
        subst ex
        refine lv_istore (lv' := [(7, .int (vk5 x1 x2 x3 x4 x5 k)), (0, .ref h), (1, .int x1), (2, .int x2), (3, .int x3), (4, .int x4), (5, .int x5), (6, .int (nI k))]) hx hb d_Wc_feed_71 hl (by decide) rfl (fun ls hl => ?_)
        refine lv_aload_n hx hb d_Wc_feed_73 rfl (lv_at hl 1 rfl) ?_
        refine va_get (D := D) (ci := 1) (v := .ref ht) (C := R_Wc) (T := F_Wc) (N := 7) hx hb hts i_Wc hown hK hP 0 rfl rfl 0 (by decide) (hts _ k_fl_Wc_9) (fun _ h9 => h9) rfl d_Wc_feed_74 ?_
        refine lv_aload_n hx hb d_Wc_feed_77 rfl (lv_at hl 1 rfl) ?_
        refine va_get (D := D) (ci := 1) (v := .int (nI (n + k))) (C := R_Wc) (T := F_Wc) (N := 7) hx hb hts i_Wc hown hK hP 0 rfl rfl 1 (by decide) (hts _ k_fl_Wc_26) (fun _ h9 => h9) rfl d_Wc_feed_78 ?_
        refine lv_iload hx hb d_Wc_feed_81 (lv_at hl 0 rfl) ?_
        refine lv_bipush (v := (nI 24)) hx hb d_Wc_feed_83 (by decide +kernel) ?_
        refine lv_bipush (v := (nI 8)) hx hb d_Wc_feed_85 (by decide +kernel) ?_
        refine lv_iload hx hb d_Wc_feed_87 (lv_at hl 7 rfl) ?_
        refine lv_iconst (v := (nI 4)) hx hb d_Wc_feed_89 (by decide +kernel) ?_
        refine lv_irem hx hb d_Wc_feed_90 (by decide +kernel) ?_
        refine wr_cv (z := (nI (k % 4))) (pk_rem (by omega) (by omega) (by omega)) ?_
        refine lv_imul hx hb d_Wc_feed_91 ?_
        refine wr_cv (z := (nI (8 * (k % 4)))) (pk_mul 8 (k % 4)) ?_
        refine lv_isub hx hb d_Wc_feed_92 ?_
        refine wr_cv (z := (nI (24 - (8 * (k % 4))))) (pk_sub (by omega)) ?_
        refine lv_ishr hx hb d_Wc_feed_93 ?_
        refine lv_i2b hx hb d_Wc_feed_94 rfl ?_
        refine va_bast hx hb hK hP hD hS 1 0 rfl rfl (vp_in_nI (by omega) (by omega)) d_Wc_feed_95 (fun H locs hP hD hS => ?_)
        rw [bF_up (q := n + k) (v := byt (vk5 x1 x2 x3 x4 x5 k) (24 - 8 * (k % 4))) (by omega) rfl ((pk_vb _).trans (b8_of _))] at hP hD
        have hP : va_P D classes (wC h ht hp hw hq cB (upN (puK T n x1 x2 x3 x4 x5 k) (n + k) (byt (vk5 x1 x2 x3 x4 x5 k) (24 - 8 * (k % 4)))) (n + k) P pn V vn rv fv mv) H := hP
        have hD : va_D _ (wC h ht hp hw hq cB (upN (puK T n x1 x2 x3 x4 x5 k) (n + k) (byt (vk5 x1 x2 x3 x4 x5 k) (24 - 8 * (k % 4)))) (n + k) P pn V vn rv fv mv) := hD
        refine lv_aload_n hx hb d_Wc_feed_96 rfl (lv_at hl 1 rfl) ?_
        refine lv_dup hx hb d_Wc_feed_97 rfl ?_
        refine va_get (D := D) (ci := 1) (v := .int (nI (n + k))) (C := R_Wc) (T := F_Wc) (N := 7) hx hb hts i_Wc hown hK hP 0 rfl rfl 1 (by decide) (hts _ k_fl_Wc_26) (fun _ h9 => h9) rfl d_Wc_feed_98 ?_
        refine lv_iconst (v := (nI 1)) hx hb d_Wc_feed_101 (by decide +kernel) ?_
        refine lv_iadd hx hb d_Wc_feed_102 ?_
        refine wr_cv (z := (nI (n + k + 1))) (nI_add (n + k) 1) ?_
        refine va_put (D := D) (ci := 1) (v := .int (nI (n + k + 1))) (ty := .int) (C := R_Wc) (T := F_Wc) (N := 7) hx hb hts i_Wc t_Wc t_Wc_ok n_Wc hown hK hP hD hS 0 rfl rfl 1 (by decide) (hts _ k_fl_Wc_26) (fun _ h9 => h9) rfl (by decide +kernel) rfl rfl (Nat.le_of_ble_eq_true rfl) d_Wc_feed_103 (fun H locs hP hD hS => ?_)
        have hP : va_P D classes (wC h ht hp hw hq cB (upN (puK T n x1 x2 x3 x4 x5 k) (n + k) (byt (vk5 x1 x2 x3 x4 x5 k) (24 - 8 * (k % 4)))) (n + k + 1) P pn V vn rv fv mv) H := hP
        have hD : va_D _ (wC h ht hp hw hq cB (upN (puK T n x1 x2 x3 x4 x5 k) (n + k) (byt (vk5 x1 x2 x3 x4 x5 k) (24 - 8 * (k % 4)))) (n + k + 1) P pn V vn rv fv mv) := hD
        refine lv_iinc (v := (nI (k + 1))) (lv' := [(6, .int (nI (k + 1))), (7, .int (vk5 x1 x2 x3 x4 x5 k)), (0, .ref h), (1, .int x1), (2, .int x2), (3, .int x3), (4, .int x4), (5, .int x5)]) hx hb d_Wc_feed_106 hl (k := 7) rfl (nI_add k 1) (by decide) rfl (fun ls hl => ?_)
        refine lv_goto (tgt := 18) hx hb d_Wc_feed_109 (by decide) ?_
        exact ih (k + 1) (by omega) (by omega) H locs ls hP hD hS (lv_sub hl [2, 3, 4, 5, 6, 7, 0] rfl)
      refine lv_iload hx hb d_Wc_feed_25 (lv_at hl 6 rfl) ?_
      refine lv_iconst (v := (nI 4)) hx hb d_Wc_feed_27 (by decide +kernel) ?_
      refine lv_icmp_ge (tgt := 35) hx hb d_Wc_feed_28 (by decide) (fun c6 => ?_) (fun c6 => ?_)
      · have c6 : 4 ≤ k := (nI_leI (by omega) (by omega)).mp c6
        refine lv_iload hx hb d_Wc_feed_35 (lv_at hl 6 rfl) ?_
        refine lv_bipush (v := (nI 8)) hx hb d_Wc_feed_37 (by decide +kernel) ?_
        refine lv_icmp_ge (tgt := 46) hx hb d_Wc_feed_39 (by decide) (fun c7 => ?_) (fun c7 => ?_)
        · have c7 : 8 ≤ k := (nI_leI (by omega) (by omega)).mp c7
          refine lv_iload hx hb d_Wc_feed_46 (lv_at hl 6 rfl) ?_
          refine lv_bipush (v := (nI 12)) hx hb d_Wc_feed_48 (by decide +kernel) ?_
          refine lv_icmp_ge (tgt := 57) hx hb d_Wc_feed_50 (by decide) (fun c8 => ?_) (fun c8 => ?_)
          · have c8 : 12 ≤ k := (nI_leI (by omega) (by omega)).mp c8
            refine lv_iload hx hb d_Wc_feed_57 (lv_at hl 6 rfl) ?_
            refine lv_bipush (v := (nI 16)) hx hb d_Wc_feed_59 (by decide +kernel) ?_
            refine lv_icmp_ge (tgt := 69) hx hb d_Wc_feed_61 (by decide) (fun c9 => ?_) (fun c9 => ?_)
            · have c9 : 16 ≤ k := (nI_leI (by omega) (by omega)).mp c9
              refine lv_iload hx hb d_Wc_feed_69 (lv_at hl 5 rfl) ?_
              exact J71 _ (by rw [vk5, if_neg (by omega), if_neg (by omega), if_neg (by omega), if_neg (by omega)])
            · have c9 : ¬ 16 ≤ k := fun hz => c9 ((nI_leI (by omega) (by omega)).mpr hz)
              refine lv_iload hx hb d_Wc_feed_64 (lv_at hl 4 rfl) ?_
              refine lv_goto (tgt := 71) hx hb d_Wc_feed_66 (by decide) ?_
              exact J71 _ (by rw [vk5, if_neg (by omega), if_neg (by omega), if_neg (by omega), if_pos (by omega)])
          · have c8 : ¬ 12 ≤ k := fun hz => c8 ((nI_leI (by omega) (by omega)).mpr hz)
            refine lv_iload_n hx hb d_Wc_feed_53 rfl (lv_at hl 3 rfl) ?_
            refine lv_goto (tgt := 71) hx hb d_Wc_feed_54 (by decide) ?_
            exact J71 _ (by rw [vk5, if_neg (by omega), if_neg (by omega), if_pos (by omega)])
        · have c7 : ¬ 8 ≤ k := fun hz => c7 ((nI_leI (by omega) (by omega)).mpr hz)
          refine lv_iload_n hx hb d_Wc_feed_42 rfl (lv_at hl 2 rfl) ?_
          refine lv_goto (tgt := 71) hx hb d_Wc_feed_43 (by decide) ?_
          exact J71 _ (by rw [vk5, if_neg (by omega), if_pos (by omega)])
      · have c6 : ¬ 4 ≤ k := fun hz => c6 ((nI_leI (by omega) (by omega)).mpr hz)
        refine lv_iload_n hx hb d_Wc_feed_31 rfl (lv_at hl 1 rfl) ?_
        refine lv_goto (tgt := 71) hx hb d_Wc_feed_32 (by decide) ?_
        exact J71 _ (by rw [vk5, if_pos (by omega)])
set_option maxHeartbeats 4000000 in
set_option maxRecDepth 100000 in
theorem c_Wc_feed (l : Launch) (D : va_G) (cB cI cZ : ClassId) (h ht hp hw hq : Nat) (T : Nat → Nat) (hT8 : ∀ k, T k < 256) (n : Nat) (hn : n ≤ 400) (P : Nat → Nat) (hP8 : ∀ k, P k < 256) (pn : Nat) (hpn : pn ≤ 400) (V : Nat → Nat) (hV8 : ∀ k, V k < 256) (vn : Nat) (hvn : vn ≤ 400) (x1 x2 x3 x4 x5 : Int32) (rv fv mv : Value) (sz : Nat) : Met l y_Wc_feed w_Wc_feed rm_Wc_feed (Pm D cB cI cZ sz [.ref h, .int x1, .int x2, .int x3, .int x4, .int x5] (wC h ht hp hw hq cB T n P pn V vn rv fv mv)) (Qm D (fun r u => r = (bI (decide (n + 20 ≤ 400))) ∧ ∃ rv fv mv, u = wC h ht hp hw hq cB (fd_T T n x1 x2 x3 x4 x5) (fd_n n) P pn V vn rv fv mv) (wC h ht hp hw hq cB T n P pn V vn rv fv mv) sz) 0 0 (va_A (wC h ht hp hw hq cB T n P pn V vn rv fv mv) sz) := by
  refine Met.ofW (cc := b_Wc_feed) (maxL := 8) (ret := (some .boolean)) (by decide) rfl ?_
  intro p e s m args below meth c s₁ B hml hv
  obtain ⟨rfl, hsz, hP, hK, hD0⟩ := hv
  have hx := B.exec
  have hb := B.bytes
  have hr := B.returns
  have hts0 := atoms_spec (ws := w_Wc_feed) B.pre
  have hts : ∀ w ∈ gw, w.before _ s = true := fun w hw => hts0 w (List.mem_cons_of_mem _ hw)
  have hown : s.vm.findClass R_Wc = some m.cls := findClass_of_methodNamed B.named
  have hlocks := B.notSynchronized
  have S : CallFix p m c b_Wc_feed 8 s _ gw R_Wc := ⟨hx, hb, hml, hown, hts⟩
  subst hsz
  have hD := hD0.self (sz := s.heap.size)
  have hA : ∀ q : Nat, s.heap.size ≤ q → va_A (wC h ht hp hw hq cB T n P pn V vn rv fv mv) s.heap.size q := fun q h => Or.inr h
  have hS : va_S (va_A (wC h ht hp hw hq cB T n P pn V vn rv fv mv) s.heap.size) s.heap s.heap [] := va_S.rf
  have hl := lv_entry ([.ref h, .int x1, .int x2, .int x3, .int x4, .int x5]) (n := 8) (Nat.le_of_ble_eq_true rfl)
  rw [lg_entry_eq]
  generalize (lg_sl ([.ref h, .int x1, .int x2, .int x3, .int x4, .int x5]) ++ List.replicate (8 - (lg_sl ([.ref h, .int x1, .int x2, .int x3, .int x4, .int x5])).length) Slot.unset).toArray = ls at hl ⊢
  have hl : lv_has ls 8 [(0, .ref h), (1, .int x1), (2, .int x2), (3, .int x3), (4, .int x4), (5, .int x5)] := hl
  show W p l e rm_Wc_feed s m _ below meth c s.heap [] 0 0 _ (F0 m 0 ls [])
  refine lv_aload_n hx hb d_Wc_feed_0 rfl (lv_at hl 0 rfl) ?_
  refine va_get (D := D) (ci := 1) (v := .int (nI n)) (C := R_Wc) (T := F_Wc) (N := 7) hx hb hts i_Wc hown hK hP 0 rfl rfl 1 (by decide) (hts _ k_fl_Wc_26) (fun _ h9 => h9) rfl d_Wc_feed_1 ?_
  refine lv_bipush (v := (nI 20)) hx hb d_Wc_feed_4 (by decide +kernel) ?_
  refine lv_iadd hx hb d_Wc_feed_6 ?_
  refine wr_cv (z := (nI (n + 20))) (nI_add n 20) ?_
  refine lv_sipush (v := (nI 400)) hx hb d_Wc_feed_7 (by decide +kernel) ?_
  refine lv_icmp_le (tgt := 15) hx hb d_Wc_feed_10 (by decide) (fun c10 => ?_) (fun c10 => ?_)
  · have c10 : (n + 20) ≤ 400 := (nI_leI (by omega) (by omega)).mp c10
    refine lv_iconst (v := (nI 0)) hx hb d_Wc_feed_15 (by decide +kernel) ?_
    refine lv_istore (lv' := [(6, .int (nI 0)), (0, .ref h), (1, .int x1), (2, .int x2), (3, .int x3), (4, .int x4), (5, .int x5)]) hx hb d_Wc_feed_16 hl (by decide) rfl (fun ls hl => ?_)
    refine lp_Wc_feed hA hT8 hn hP8 hpn hV8 hvn c10 S hK (fun H locs ls hP hD hS => ?_) 21 0 (by omega) (by omega) s.heap [] ls hP hD hS (lv_sub hl [1, 2, 3, 4, 5, 6, 0] rfl)
    refine lv_iconst (v := (nI 1)) hx hb d_Wc_feed_112 (by decide +kernel) ?_
    refine wr_cv (z := bI (decide (n + 20 ≤ 400))) (by rw [decide_eq_true c10]; rfl) ?_
    exact W.zret hx hb hr (bI_nar _) (fun t ht9 _ => ⟨⟨_, _, rfl, ⟨rfl, _, _, _, by rw [fd_T, fd_n, if_pos c10, if_pos c10]⟩, by show va_P D classes _ t.heap; rw [ht9]; exact hP⟩, hS.F ht9⟩) hS.2.2 d_Wc_feed_113
  · have c10 : ¬ (n + 20) ≤ 400 := fun hz => c10 ((nI_leI (by omega) (by omega)).mpr hz)
    refine lv_iconst (v := (nI 0)) hx hb d_Wc_feed_13 (by decide +kernel) ?_
    refine wr_cv (z := bI (decide (n + 20 ≤ 400))) (by rw [decide_eq_false c10]; rfl) ?_
    exact W.zret hx hb hr (bI_nar _) (fun t ht9 _ => ⟨⟨_, _, rfl, ⟨rfl, _, _, _, by rw [fd_T, fd_n, if_neg c10, if_neg c10]⟩, by show va_P D classes _ t.heap; rw [ht9]; exact hP⟩, hS.F ht9⟩) hS.2.2 d_Wc_feed_14
end
section
abbrev rm_Mo_put : Room := { frames := 0, cells := 0, slots := 0, locals := 0 }
abbrev rm_Mo_feed : Room := { frames := 1, cells := 0, slots := 0, locals := 22 }
abbrev rm_Mo_end : Room := { frames := 0, cells := 0, slots := 0, locals := 0 }
abbrev rm_Mo_pattern : Room := { frames := 0, cells := 0, slots := 0, locals := 0 }
abbrev rm_Mo_word : Room := { frames := 0, cells := 0, slots := 0, locals := 0 }
abbrev rm_Mo_tells : Room := { frames := 0, cells := 0, slots := 0, locals := 0 }
abbrev rm_Mo_isOne : Room := { frames := 1, cells := 0, slots := 0, locals := 21 }
abbrev rm_Mo_suits : Room := { frames := 2, cells := 0, slots := 0, locals := 48 }
abbrev rm_Mo_reckon : Room := { frames := 3, cells := 0, slots := 0, locals := 70 }
abbrev rm_Mo_fits : Room := { frames := 4, cells := 0, slots := 0, locals := 94 }
abbrev rm_Mo_fitsPart : Room := { frames := 4, cells := 0, slots := 0, locals := 94 }
abbrev rm_Mo_beginnings : Room := { frames := 4, cells := 0, slots := 0, locals := 94 }
set_option maxHeartbeats 4000000 in
set_option maxRecDepth 100000 in
theorem c_Mo_put (l : Launch) (D : va_G) (cB cI cZ : ClassId) (h ht hp hw hz : Nat) (T : Nat → Nat) (hT8 : ∀ k, T k < 256) (n : Nat) (hn : n ≤ 400) (P : Nat → Nat) (hP8 : ∀ k, P k < 256) (pn : Nat) (hpn : pn ≤ 400) (V : Nat → Nat) (hV8 : ∀ k, V k < 256) (vn : Nat) (hvn : vn ≤ 400) (x : Int32) (h4 : n + 4 ≤ 400) (en td : Int32) (z : Nat → Int32) (sz : Nat) : Met l y_Mo_put w_Mo_put rm_Mo_put (Pm D cB cI cZ sz [.ref h, .int x] (wM h ht hp hw hz cI cZ T n P pn V vn en td z)) (Qn D (fun u => u = wM h ht hp hw hz cI cZ (pu4 T n x) (n + 4) P pn V vn en td z) (wM h ht hp hw hz cI cZ T n P pn V vn en td z) sz) 0 0 (va_A (wM h ht hp hw hz cI cZ T n P pn V vn en td z) sz) := by
  refine Met.ofW (cc := b_Mo_put) (maxL := 3) (ret := none) (by decide) rfl ?_
  intro p e s m args below meth c s₁ B hml hv
  obtain ⟨rfl, hsz, hP, hK, hD0⟩ := hv
  have hx := B.exec
  have hb := B.bytes
  have hr := B.returns
  have hts0 := atoms_spec (ws := w_Mo_put) B.pre
  have hts : ∀ w ∈ gw, w.before _ s = true := fun w hw => hts0 w (List.mem_cons_of_mem _ hw)
  have hown : s.vm.findClass R_Mo = some m.cls := findClass_of_methodNamed B.named
  have hlocks := B.notSynchronized
  have S : CallFix p m c b_Mo_put 3 s _ gw R_Mo := ⟨hx, hb, hml, hown, hts⟩
  subst hsz
  have hD := hD0.self (sz := s.heap.size)
  have hA : ∀ q : Nat, s.heap.size ≤ q → va_A (wM h ht hp hw hz cI cZ T n P pn V vn en td z) s.heap.size q := fun q h => Or.inr h
  have hS : va_S (va_A (wM h ht hp hw hz cI cZ T n P pn V vn en td z) s.heap.size) s.heap s.heap [] := va_S.rf
  have hl := lv_entry ([.ref h, .int x]) (n := 3) (Nat.le_of_ble_eq_true rfl)
  rw [lg_entry_eq]
  generalize (lg_sl ([.ref h, .int x]) ++ List.replicate (3 - (lg_sl ([.ref h, .int x])).length) Slot.unset).toArray = ls at hl ⊢
  have hl : lv_has ls 3 [(0, .ref h), (1, .int x)] := hl
  show W p l e rm_Mo_put s m _ below meth c s.heap [] 0 0 _ (F0 m 0 ls [])
  refine lv_bipush (v := (nI 24)) hx hb d_Mo_put_0 (by decide +kernel) ?_
  refine lv_istore_n (lv' := [(2, .int (nI 24)), (0, .ref h), (1, .int x)]) hx hb d_Mo_put_2 rfl hl (by decide) rfl (fun ls hl => ?_)
  refine lv_iload_n hx hb d_Mo_put_3 rfl (lv_at hl 0 rfl) ?_
  refine lv_if_lt (tgt := 39) hx hb d_Mo_put_4 (by decide) (fun c4 => ?_) (fun c4 => ?_)
  · exact absurd c4 (nI_pos (by omega))
  · refine lv_aload_n hx hb d_Mo_put_7 rfl (lv_at hl 1 rfl) ?_
    refine va_get (D := D) (ci := 2) (v := .ref ht) (C := R_Mo) (T := F_Mo) (N := 9) hx hb hts i_Mo hown hK hP 0 rfl rfl 0 (by decide) (hts _ k_fl_Mo_7) (fun _ h9 => h9) rfl d_Mo_put_8 ?_
    refine lv_aload_n hx hb d_Mo_put_11 rfl (lv_at hl 1 rfl) ?_
    refine va_get (D := D) (ci := 2) (v := .int (nI n)) (C := R_Mo) (T := F_Mo) (N := 9) hx hb hts i_Mo hown hK hP 0 rfl rfl 3 (by decide) (hts _ k_fl_Mo_23) (fun _ h9 => h9) rfl d_Mo_put_12 ?_
    refine lv_iload_n hx hb d_Mo_put_15 rfl (lv_at hl 2 rfl) ?_
    refine lv_iload_n hx hb d_Mo_put_16 rfl (lv_at hl 0 rfl) ?_
    refine lv_ishr hx hb d_Mo_put_17 ?_
    refine lv_sipush (v := (nI 255)) hx hb d_Mo_put_18 (by decide +kernel) ?_
    refine lv_iand hx hb d_Mo_put_21 ?_
    refine wr_cv (z := (nI (byt x 24))) (n255 _) ?_
    refine va_iast hx hb hK hP hD hS 1 1 rfl rfl (vp_in_nI (by omega) (by omega)) d_Mo_put_22 (fun H locs hP hD hS => ?_)
    rw [nF_up (q := n) (v := byt x 24) (by omega) rfl rfl] at hP hD
    have hP : va_P D classes (wM h ht hp hw hz cI cZ (upN T n (byt x 24)) n P pn V vn en td z) H := hP
    have hD : va_D _ (wM h ht hp hw hz cI cZ (upN T n (byt x 24)) n P pn V vn en td z) := hD
    refine lv_aload_n hx hb d_Mo_put_23 rfl (lv_at hl 1 rfl) ?_
    refine lv_dup hx hb d_Mo_put_24 rfl ?_
    refine va_get (D := D) (ci := 2) (v := .int (nI n)) (C := R_Mo) (T := F_Mo) (N := 9) hx hb hts i_Mo hown hK hP 0 rfl rfl 3 (by decide) (hts _ k_fl_Mo_23) (fun _ h9 => h9) rfl d_Mo_put_25 ?_
    refine lv_iconst (v := (nI 1)) hx hb d_Mo_put_28 (by decide +kernel) ?_
    refine lv_iadd hx hb d_Mo_put_29 ?_
    refine wr_cv (z := (nI (n + 1))) (nI_add n 1) ?_
    refine va_put (D := D) (ci := 2) (v := .int (nI (n + 1))) (ty := .int) (C := R_Mo) (T := F_Mo) (N := 9) hx hb hts i_Mo t_Mo t_Mo_ok n_Mo hown hK hP hD hS 0 rfl rfl 3 (by decide) (hts _ k_fl_Mo_23) (fun _ h9 => h9) rfl (by decide +kernel) rfl rfl (Nat.le_of_ble_eq_true rfl) d_Mo_put_30 (fun H locs hP hD hS => ?_)
    have hP : va_P D classes (wM h ht hp hw hz cI cZ (upN T n (byt x 24)) (n + 1) P pn V vn en td z) H := hP
    have hD : va_D _ (wM h ht hp hw hz cI cZ (upN T n (byt x 24)) (n + 1) P pn V vn en td z) := hD
    refine lv_iinc (v := (nI 16)) (lv' := [(2, .int (nI 16)), (0, .ref h), (1, .int x)]) hx hb d_Mo_put_33 hl (k := 0) rfl (by decide +kernel) (by decide) rfl (fun ls hl => ?_)
    refine lv_goto (tgt := 3) hx hb d_Mo_put_36 (by decide) ?_
    refine lv_iload_n hx hb d_Mo_put_3 rfl (lv_at hl 0 rfl) ?_
    refine lv_if_lt (tgt := 39) hx hb d_Mo_put_4 (by decide) (fun c4 => ?_) (fun c4 => ?_)
    · exact absurd c4 (nI_pos (by omega))
    · refine lv_aload_n hx hb d_Mo_put_7 rfl (lv_at hl 1 rfl) ?_
      refine va_get (D := D) (ci := 2) (v := .ref ht) (C := R_Mo) (T := F_Mo) (N := 9) hx hb hts i_Mo hown hK hP 0 rfl rfl 0 (by decide) (hts _ k_fl_Mo_7) (fun _ h9 => h9) rfl d_Mo_put_8 ?_
      refine lv_aload_n hx hb d_Mo_put_11 rfl (lv_at hl 1 rfl) ?_
      refine va_get (D := D) (ci := 2) (v := .int (nI (n + 1))) (C := R_Mo) (T := F_Mo) (N := 9) hx hb hts i_Mo hown hK hP 0 rfl rfl 3 (by decide) (hts _ k_fl_Mo_23) (fun _ h9 => h9) rfl d_Mo_put_12 ?_
      refine lv_iload_n hx hb d_Mo_put_15 rfl (lv_at hl 2 rfl) ?_
      refine lv_iload_n hx hb d_Mo_put_16 rfl (lv_at hl 0 rfl) ?_
      refine lv_ishr hx hb d_Mo_put_17 ?_
      refine lv_sipush (v := (nI 255)) hx hb d_Mo_put_18 (by decide +kernel) ?_
      refine lv_iand hx hb d_Mo_put_21 ?_
      refine wr_cv (z := (nI (byt x 16))) (n255 _) ?_
      refine va_iast hx hb hK hP hD hS 1 1 rfl rfl (vp_in_nI (by omega) (by omega)) d_Mo_put_22 (fun H locs hP hD hS => ?_)
      rw [nF_up (q := n + 1) (v := byt x 16) (by omega) rfl rfl] at hP hD
      have hP : va_P D classes (wM h ht hp hw hz cI cZ (upN (upN T n (byt x 24)) (n + 1) (byt x 16)) (n + 1) P pn V vn en td z) H := hP
      have hD : va_D _ (wM h ht hp hw hz cI cZ (upN (upN T n (byt x 24)) (n + 1) (byt x 16)) (n + 1) P pn V vn en td z) := hD
      refine lv_aload_n hx hb d_Mo_put_23 rfl (lv_at hl 1 rfl) ?_
      refine lv_dup hx hb d_Mo_put_24 rfl ?_
      refine va_get (D := D) (ci := 2) (v := .int (nI (n + 1))) (C := R_Mo) (T := F_Mo) (N := 9) hx hb hts i_Mo hown hK hP 0 rfl rfl 3 (by decide) (hts _ k_fl_Mo_23) (fun _ h9 => h9) rfl d_Mo_put_25 ?_
      refine lv_iconst (v := (nI 1)) hx hb d_Mo_put_28 (by decide +kernel) ?_
      refine lv_iadd hx hb d_Mo_put_29 ?_
      refine wr_cv (z := (nI (n + 1 + 1))) (nI_add (n + 1) 1) ?_
      refine va_put (D := D) (ci := 2) (v := .int (nI (n + 1 + 1))) (ty := .int) (C := R_Mo) (T := F_Mo) (N := 9) hx hb hts i_Mo t_Mo t_Mo_ok n_Mo hown hK hP hD hS 0 rfl rfl 3 (by decide) (hts _ k_fl_Mo_23) (fun _ h9 => h9) rfl (by decide +kernel) rfl rfl (Nat.le_of_ble_eq_true rfl) d_Mo_put_30 (fun H locs hP hD hS => ?_)
      have hP : va_P D classes (wM h ht hp hw hz cI cZ (upN (upN T n (byt x 24)) (n + 1) (byt x 16)) (n + 1 + 1) P pn V vn en td z) H := hP
      have hD : va_D _ (wM h ht hp hw hz cI cZ (upN (upN T n (byt x 24)) (n + 1) (byt x 16)) (n + 1 + 1) P pn V vn en td z) := hD
      refine lv_iinc (v := (nI 8)) (lv' := [(2, .int (nI 8)), (0, .ref h), (1, .int x)]) hx hb d_Mo_put_33 hl (k := 0) rfl (by decide +kernel) (by decide) rfl (fun ls hl => ?_)
      refine lv_goto (tgt := 3) hx hb d_Mo_put_36 (by decide) ?_
      refine lv_iload_n hx hb d_Mo_put_3 rfl (lv_at hl 0 rfl) ?_
      refine lv_if_lt (tgt := 39) hx hb d_Mo_put_4 (by decide) (fun c4 => ?_) (fun c4 => ?_)
      · exact absurd c4 (nI_pos (by omega))
      · refine lv_aload_n hx hb d_Mo_put_7 rfl (lv_at hl 1 rfl) ?_
        refine va_get (D := D) (ci := 2) (v := .ref ht) (C := R_Mo) (T := F_Mo) (N := 9) hx hb hts i_Mo hown hK hP 0 rfl rfl 0 (by decide) (hts _ k_fl_Mo_7) (fun _ h9 => h9) rfl d_Mo_put_8 ?_
        refine lv_aload_n hx hb d_Mo_put_11 rfl (lv_at hl 1 rfl) ?_
        refine va_get (D := D) (ci := 2) (v := .int (nI (n + 1 + 1))) (C := R_Mo) (T := F_Mo) (N := 9) hx hb hts i_Mo hown hK hP 0 rfl rfl 3 (by decide) (hts _ k_fl_Mo_23) (fun _ h9 => h9) rfl d_Mo_put_12 ?_
        refine lv_iload_n hx hb d_Mo_put_15 rfl (lv_at hl 2 rfl) ?_
        refine lv_iload_n hx hb d_Mo_put_16 rfl (lv_at hl 0 rfl) ?_
        refine lv_ishr hx hb d_Mo_put_17 ?_
        refine lv_sipush (v := (nI 255)) hx hb d_Mo_put_18 (by decide +kernel) ?_
        refine lv_iand hx hb d_Mo_put_21 ?_
        refine wr_cv (z := (nI (byt x 8))) (n255 _) ?_
        refine va_iast hx hb hK hP hD hS 1 1 rfl rfl (vp_in_nI (by omega) (by omega)) d_Mo_put_22 (fun H locs hP hD hS => ?_)
        rw [nF_up (q := n + 1 + 1) (v := byt x 8) (by omega) rfl rfl] at hP hD
        have hP : va_P D classes (wM h ht hp hw hz cI cZ (upN (upN (upN T n (byt x 24)) (n + 1) (byt x 16)) (n + 1 + 1) (byt x 8)) (n + 1 + 1) P pn V vn en td z) H := hP
        have hD : va_D _ (wM h ht hp hw hz cI cZ (upN (upN (upN T n (byt x 24)) (n + 1) (byt x 16)) (n + 1 + 1) (byt x 8)) (n + 1 + 1) P pn V vn en td z) := hD
        refine lv_aload_n hx hb d_Mo_put_23 rfl (lv_at hl 1 rfl) ?_
        refine lv_dup hx hb d_Mo_put_24 rfl ?_
        refine va_get (D := D) (ci := 2) (v := .int (nI (n + 1 + 1))) (C := R_Mo) (T := F_Mo) (N := 9) hx hb hts i_Mo hown hK hP 0 rfl rfl 3 (by decide) (hts _ k_fl_Mo_23) (fun _ h9 => h9) rfl d_Mo_put_25 ?_
        refine lv_iconst (v := (nI 1)) hx hb d_Mo_put_28 (by decide +kernel) ?_
        refine lv_iadd hx hb d_Mo_put_29 ?_
        refine wr_cv (z := (nI (n + 1 + 1 + 1))) (nI_add (n + 1 + 1) 1) ?_
        refine va_put (D := D) (ci := 2) (v := .int (nI (n + 1 + 1 + 1))) (ty := .int) (C := R_Mo) (T := F_Mo) (N := 9) hx hb hts i_Mo t_Mo t_Mo_ok n_Mo hown hK hP hD hS 0 rfl rfl 3 (by decide) (hts _ k_fl_Mo_23) (fun _ h9 => h9) rfl (by decide +kernel) rfl rfl (Nat.le_of_ble_eq_true rfl) d_Mo_put_30 (fun H locs hP hD hS => ?_)
        have hP : va_P D classes (wM h ht hp hw hz cI cZ (upN (upN (upN T n (byt x 24)) (n + 1) (byt x 16)) (n + 1 + 1) (byt x 8)) (n + 1 + 1 + 1) P pn V vn en td z) H := hP
        have hD : va_D _ (wM h ht hp hw hz cI cZ (upN (upN (upN T n (byt x 24)) (n + 1) (byt x 16)) (n + 1 + 1) (byt x 8)) (n + 1 + 1 + 1) P pn V vn en td z) := hD
        refine lv_iinc (v := (nI 0)) (lv' := [(2, .int (nI 0)), (0, .ref h), (1, .int x)]) hx hb d_Mo_put_33 hl (k := 0) rfl (by decide +kernel) (by decide) rfl (fun ls hl => ?_)
        refine lv_goto (tgt := 3) hx hb d_Mo_put_36 (by decide) ?_
        refine lv_iload_n hx hb d_Mo_put_3 rfl (lv_at hl 0 rfl) ?_
        refine lv_if_lt (tgt := 39) hx hb d_Mo_put_4 (by decide) (fun c4 => ?_) (fun c4 => ?_)
        · exact absurd c4 (nI_pos (by omega))
        · refine lv_aload_n hx hb d_Mo_put_7 rfl (lv_at hl 1 rfl) ?_
          refine va_get (D := D) (ci := 2) (v := .ref ht) (C := R_Mo) (T := F_Mo) (N := 9) hx hb hts i_Mo hown hK hP 0 rfl rfl 0 (by decide) (hts _ k_fl_Mo_7) (fun _ h9 => h9) rfl d_Mo_put_8 ?_
          refine lv_aload_n hx hb d_Mo_put_11 rfl (lv_at hl 1 rfl) ?_
          refine va_get (D := D) (ci := 2) (v := .int (nI (n + 1 + 1 + 1))) (C := R_Mo) (T := F_Mo) (N := 9) hx hb hts i_Mo hown hK hP 0 rfl rfl 3 (by decide) (hts _ k_fl_Mo_23) (fun _ h9 => h9) rfl d_Mo_put_12 ?_
          refine lv_iload_n hx hb d_Mo_put_15 rfl (lv_at hl 2 rfl) ?_
          refine lv_iload_n hx hb d_Mo_put_16 rfl (lv_at hl 0 rfl) ?_
          refine lv_ishr hx hb d_Mo_put_17 ?_
          refine lv_sipush (v := (nI 255)) hx hb d_Mo_put_18 (by decide +kernel) ?_
          refine lv_iand hx hb d_Mo_put_21 ?_
          refine wr_cv (z := (nI (byt x 0))) (n255 _) ?_
          refine va_iast hx hb hK hP hD hS 1 1 rfl rfl (vp_in_nI (by omega) (by omega)) d_Mo_put_22 (fun H locs hP hD hS => ?_)
          rw [nF_up (q := n + 1 + 1 + 1) (v := byt x 0) (by omega) rfl rfl] at hP hD
          have hP : va_P D classes (wM h ht hp hw hz cI cZ (upN (upN (upN (upN T n (byt x 24)) (n + 1) (byt x 16)) (n + 1 + 1) (byt x 8)) (n + 1 + 1 + 1) (byt x 0)) (n + 1 + 1 + 1) P pn V vn en td z) H := hP
          have hD : va_D _ (wM h ht hp hw hz cI cZ (upN (upN (upN (upN T n (byt x 24)) (n + 1) (byt x 16)) (n + 1 + 1) (byt x 8)) (n + 1 + 1 + 1) (byt x 0)) (n + 1 + 1 + 1) P pn V vn en td z) := hD
          refine lv_aload_n hx hb d_Mo_put_23 rfl (lv_at hl 1 rfl) ?_
          refine lv_dup hx hb d_Mo_put_24 rfl ?_
          refine va_get (D := D) (ci := 2) (v := .int (nI (n + 1 + 1 + 1))) (C := R_Mo) (T := F_Mo) (N := 9) hx hb hts i_Mo hown hK hP 0 rfl rfl 3 (by decide) (hts _ k_fl_Mo_23) (fun _ h9 => h9) rfl d_Mo_put_25 ?_
          refine lv_iconst (v := (nI 1)) hx hb d_Mo_put_28 (by decide +kernel) ?_
          refine lv_iadd hx hb d_Mo_put_29 ?_
          refine wr_cv (z := (nI (n + 1 + 1 + 1 + 1))) (nI_add (n + 1 + 1 + 1) 1) ?_
          refine va_put (D := D) (ci := 2) (v := .int (nI (n + 1 + 1 + 1 + 1))) (ty := .int) (C := R_Mo) (T := F_Mo) (N := 9) hx hb hts i_Mo t_Mo t_Mo_ok n_Mo hown hK hP hD hS 0 rfl rfl 3 (by decide) (hts _ k_fl_Mo_23) (fun _ h9 => h9) rfl (by decide +kernel) rfl rfl (Nat.le_of_ble_eq_true rfl) d_Mo_put_30 (fun H locs hP hD hS => ?_)
          have hP : va_P D classes (wM h ht hp hw hz cI cZ (upN (upN (upN (upN T n (byt x 24)) (n + 1) (byt x 16)) (n + 1 + 1) (byt x 8)) (n + 1 + 1 + 1) (byt x 0)) (n + 1 + 1 + 1 + 1) P pn V vn en td z) H := hP
          have hD : va_D _ (wM h ht hp hw hz cI cZ (upN (upN (upN (upN T n (byt x 24)) (n + 1) (byt x 16)) (n + 1 + 1) (byt x 8)) (n + 1 + 1 + 1) (byt x 0)) (n + 1 + 1 + 1 + 1) P pn V vn en td z) := hD
          refine lv_iinc (v := (-8)) (lv' := [(2, .int (-8)), (0, .ref h), (1, .int x)]) hx hb d_Mo_put_33 hl (k := 0) rfl (by decide +kernel) (by decide) rfl (fun ls hl => ?_)
          refine lv_goto (tgt := 3) hx hb d_Mo_put_36 (by decide) ?_
          refine lv_iload_n hx hb d_Mo_put_3 rfl (lv_at hl 0 rfl) ?_
          refine lv_if_lt (tgt := 39) hx hb d_Mo_put_4 (by decide) (fun c4 => ?_) (fun c4 => ?_)
          · exact W.vret hx hb hr (fun t ht9 _ => ⟨⟨_, rfl, rfl, by show va_P D classes _ t.heap; rw [ht9]; exact hP⟩, hS.F ht9⟩) hS.2.2 d_Mo_put_39
          · exact absurd (by decide +kernel) c4
set_option maxHeartbeats 4000000 in
set_option maxRecDepth 100000 in
theorem c_Mo_feed (l : Launch) (D : va_G) (cB cI cZ : ClassId) (h ht hp hw hz : Nat) (T : Nat → Nat) (hT8 : ∀ k, T k < 256) (n : Nat) (hn : n ≤ 400) (P : Nat → Nat) (hP8 : ∀ k, P k < 256) (pn : Nat) (hpn : pn ≤ 400) (V : Nat → Nat) (hV8 : ∀ k, V k < 256) (vn : Nat) (hvn : vn ≤ 400) (x1 x2 x3 x4 x5 : Int32) (en td : Int32) (z : Nat → Int32) (sz : Nat) : Met l y_Mo_feed w_Mo_feed rm_Mo_feed (Pm D cB cI cZ sz [.ref h, .int x1, .int x2, .int x3, .int x4, .int x5] (wM h ht hp hw hz cI cZ T n P pn V vn en td z)) (Qm D (fun r u => r = bI (decide (n + 20 ≤ 400)) ∧ ∃ en td z, u = wM h ht hp hw hz cI cZ (fd_T T n x1 x2 x3 x4 x5) (fd_n n) P pn V vn en td z) (wM h ht hp hw hz cI cZ T n P pn V vn en td z) sz) 0 0 (va_A (wM h ht hp hw hz cI cZ T n P pn V vn en td z) sz) := by
  refine Met.ofW (cc := b_Mo_feed) (maxL := 6) (ret := (some .boolean)) (by decide) rfl ?_
  intro p e s m args below meth c s₁ B hml hv
  obtain ⟨rfl, hsz, hP, hK, hD0⟩ := hv
  have hx := B.exec
  have hb := B.bytes
  have hr := B.returns
  have hts0 := atoms_spec (ws := w_Mo_feed) B.pre
  have hts : ∀ w ∈ gw, w.before _ s = true := fun w hw => hts0 w (List.mem_cons_of_mem _ hw)
  have hown : s.vm.findClass R_Mo = some m.cls := findClass_of_methodNamed B.named
  have hlocks := B.notSynchronized
  have S : CallFix p m c b_Mo_feed 6 s _ gw R_Mo := ⟨hx, hb, hml, hown, hts⟩
  subst hsz
  have hD := hD0.self (sz := s.heap.size)
  have hA : ∀ q : Nat, s.heap.size ≤ q → va_A (wM h ht hp hw hz cI cZ T n P pn V vn en td z) s.heap.size q := fun q h => Or.inr h
  have hS : va_S (va_A (wM h ht hp hw hz cI cZ T n P pn V vn en td z) s.heap.size) s.heap s.heap [] := va_S.rf
  have hl := lv_entry ([.ref h, .int x1, .int x2, .int x3, .int x4, .int x5]) (n := 6) (Nat.le_of_ble_eq_true rfl)
  rw [lg_entry_eq]
  generalize (lg_sl ([.ref h, .int x1, .int x2, .int x3, .int x4, .int x5]) ++ List.replicate (6 - (lg_sl ([.ref h, .int x1, .int x2, .int x3, .int x4, .int x5])).length) Slot.unset).toArray = ls at hl ⊢
  have hl : lv_has ls 6 [(0, .ref h), (1, .int x1), (2, .int x2), (3, .int x3), (4, .int x4), (5, .int x5)] := hl
  show W p l e rm_Mo_feed s m _ below meth c s.heap [] 0 0 _ (F0 m 0 ls [])
  refine lv_aload_n hx hb d_Mo_feed_0 rfl (lv_at hl 0 rfl) ?_
  refine va_get (D := D) (ci := 2) (v := .int (nI n)) (C := R_Mo) (T := F_Mo) (N := 9) hx hb hts i_Mo hown hK hP 0 rfl rfl 3 (by decide) (hts _ k_fl_Mo_23) (fun _ h9 => h9) rfl d_Mo_feed_1 ?_
  refine lv_bipush (v := (nI 20)) hx hb d_Mo_feed_4 (by decide +kernel) ?_
  refine lv_iadd hx hb d_Mo_feed_6 ?_
  refine wr_cv (z := (nI (n + 20))) (nI_add n 20) ?_
  refine lv_sipush (v := (nI 400)) hx hb d_Mo_feed_7 (by decide +kernel) ?_
  refine lv_icmp_le (tgt := 15) hx hb d_Mo_feed_10 (by decide) (fun c10 => ?_) (fun c10 => ?_)
  · have c10 : (n + 20) ≤ 400 := (nI_leI (by omega) (by omega)).mp c10
    refine lv_aload_n hx hb d_Mo_feed_15 rfl (lv_at hl 0 rfl) ?_
    refine lv_iload_n hx hb d_Mo_feed_16 rfl (lv_at hl 1 rfl) ?_
    refine wr_cn (As := [.int x1]) (rest := []) (wr := []) (wc := wM h ht hp hw hz cI cZ T n P pn V vn en td z) S (c_Mo_put l D cB cI cZ h ht hp hw hz T hT8 n (by omega) P hP8 pn hpn V hV8 vn hvn x1 (by omega) en td z s.heap.size) (cwV 1 hts g_Mo_27 rfl rfl rfl (by decide +kernel) ⟨Nat.le_of_ble_eq_true rfl, Nat.le_of_ble_eq_true rfl⟩) hK hP hD hS hA [0, 1, 2, 3, 4] [] rfl rfl (by decide) rfl (by decide) (by decide) (ci := 2) (q0 := 0) rfl rfl rfl rfl hl.1 rfl (lv_room (Nat.le_of_ble_eq_true rfl)) d_Mo_feed_17 ⟨Nat.zero_le _, Nat.zero_le _⟩ (fun u9 H locs hpo hj hS => ?_)
    subst hpo
    obtain ⟨hP, hD⟩ := hj rfl
    have hP : va_P D classes (wM h ht hp hw hz cI cZ (pu4 T n x1) (n + 4) P pn V vn en td z) H := hP
    have hD : va_D _ (wM h ht hp hw hz cI cZ (pu4 T n x1) (n + 4) P pn V vn en td z) := hD
    refine lv_aload_n hx hb d_Mo_feed_20 rfl (lv_at hl 0 rfl) ?_
    refine lv_iload_n hx hb d_Mo_feed_21 rfl (lv_at hl 2 rfl) ?_
    refine wr_cn (As := [.int x2]) (rest := []) (wr := []) (wc := wM h ht hp hw hz cI cZ (pu4 T n x1) (n + 4) P pn V vn en td z) S (c_Mo_put l D cB cI cZ h ht hp hw hz (pu4 T n x1) (pu4_lt hT8) (n + 4) (by omega) P hP8 pn hpn V hV8 vn hvn x2 (by omega) en td z H.size) (cwV 1 hts g_Mo_27 rfl rfl rfl (by decide +kernel) ⟨Nat.le_of_ble_eq_true rfl, Nat.le_of_ble_eq_true rfl⟩) hK hP hD hS hA [0, 1, 2, 3, 4] [] rfl rfl (by decide) rfl (by decide) (by decide) (ci := 2) (q0 := 0) rfl rfl rfl rfl hl.1 rfl (lv_room (Nat.le_of_ble_eq_true rfl)) d_Mo_feed_22 ⟨Nat.zero_le _, Nat.zero_le _⟩ (fun u9 H locs hpo hj hS => ?_)
    subst hpo
    obtain ⟨hP, hD⟩ := hj rfl
    have hP : va_P D classes (wM h ht hp hw hz cI cZ (pu4 (pu4 T n x1) (n + 4) x2) (n + 8) P pn V vn en td z) H := hP
    have hD : va_D _ (wM h ht hp hw hz cI cZ (pu4 (pu4 T n x1) (n + 4) x2) (n + 8) P pn V vn en td z) := hD
    refine lv_aload_n hx hb d_Mo_feed_25 rfl (lv_at hl 0 rfl) ?_
    refine lv_iload_n hx hb d_Mo_feed_26 rfl (lv_at hl 3 rfl) ?_
    refine wr_cn (As := [.int x3]) (rest := []) (wr := []) (wc := wM h ht hp hw hz cI cZ (pu4 (pu4 T n x1) (n + 4) x2) (n + 8) P pn V vn en td z) S (c_Mo_put l D cB cI cZ h ht hp hw hz (pu4 (pu4 T n x1) (n + 4) x2) (pu4_lt (pu4_lt hT8)) (n + 8) (by omega) P hP8 pn hpn V hV8 vn hvn x3 (by omega) en td z H.size) (cwV 1 hts g_Mo_27 rfl rfl rfl (by decide +kernel) ⟨Nat.le_of_ble_eq_true rfl, Nat.le_of_ble_eq_true rfl⟩) hK hP hD hS hA [0, 1, 2, 3, 4] [] rfl rfl (by decide) rfl (by decide) (by decide) (ci := 2) (q0 := 0) rfl rfl rfl rfl hl.1 rfl (lv_room (Nat.le_of_ble_eq_true rfl)) d_Mo_feed_27 ⟨Nat.zero_le _, Nat.zero_le _⟩ (fun u9 H locs hpo hj hS => ?_)
    subst hpo
    obtain ⟨hP, hD⟩ := hj rfl
    have hP : va_P D classes (wM h ht hp hw hz cI cZ (pu4 (pu4 (pu4 T n x1) (n + 4) x2) (n + 8) x3) (n + 12) P pn V vn en td z) H := hP
    have hD : va_D _ (wM h ht hp hw hz cI cZ (pu4 (pu4 (pu4 T n x1) (n + 4) x2) (n + 8) x3) (n + 12) P pn V vn en td z) := hD
    refine lv_aload_n hx hb d_Mo_feed_30 rfl (lv_at hl 0 rfl) ?_
    refine lv_iload hx hb d_Mo_feed_31 (lv_at hl 4 rfl) ?_
    refine wr_cn (As := [.int x4]) (rest := []) (wr := []) (wc := wM h ht hp hw hz cI cZ (pu4 (pu4 (pu4 T n x1) (n + 4) x2) (n + 8) x3) (n + 12) P pn V vn en td z) S (c_Mo_put l D cB cI cZ h ht hp hw hz (pu4 (pu4 (pu4 T n x1) (n + 4) x2) (n + 8) x3) (pu4_lt (pu4_lt (pu4_lt hT8))) (n + 12) (by omega) P hP8 pn hpn V hV8 vn hvn x4 (by omega) en td z H.size) (cwV 1 hts g_Mo_27 rfl rfl rfl (by decide +kernel) ⟨Nat.le_of_ble_eq_true rfl, Nat.le_of_ble_eq_true rfl⟩) hK hP hD hS hA [0, 1, 2, 3, 4] [] rfl rfl (by decide) rfl (by decide) (by decide) (ci := 2) (q0 := 0) rfl rfl rfl rfl hl.1 rfl (lv_room (Nat.le_of_ble_eq_true rfl)) d_Mo_feed_33 ⟨Nat.zero_le _, Nat.zero_le _⟩ (fun u9 H locs hpo hj hS => ?_)
    subst hpo
    obtain ⟨hP, hD⟩ := hj rfl
    have hP : va_P D classes (wM h ht hp hw hz cI cZ (pu4 (pu4 (pu4 (pu4 T n x1) (n + 4) x2) (n + 8) x3) (n + 12) x4) (n + 16) P pn V vn en td z) H := hP
    have hD : va_D _ (wM h ht hp hw hz cI cZ (pu4 (pu4 (pu4 (pu4 T n x1) (n + 4) x2) (n + 8) x3) (n + 12) x4) (n + 16) P pn V vn en td z) := hD
    refine lv_aload_n hx hb d_Mo_feed_36 rfl (lv_at hl 0 rfl) ?_
    refine lv_iload hx hb d_Mo_feed_37 (lv_at hl 5 rfl) ?_
    refine wr_cn (As := [.int x5]) (rest := []) (wr := []) (wc := wM h ht hp hw hz cI cZ (pu4 (pu4 (pu4 (pu4 T n x1) (n + 4) x2) (n + 8) x3) (n + 12) x4) (n + 16) P pn V vn en td z) S (c_Mo_put l D cB cI cZ h ht hp hw hz (pu4 (pu4 (pu4 (pu4 T n x1) (n + 4) x2) (n + 8) x3) (n + 12) x4) (pu4_lt (pu4_lt (pu4_lt (pu4_lt hT8)))) (n + 16) (by omega) P hP8 pn hpn V hV8 vn hvn x5 (by omega) en td z H.size) (cwV 1 hts g_Mo_27 rfl rfl rfl (by decide +kernel) ⟨Nat.le_of_ble_eq_true rfl, Nat.le_of_ble_eq_true rfl⟩) hK hP hD hS hA [0, 1, 2, 3, 4] [] rfl rfl (by decide) rfl (by decide) (by decide) (ci := 2) (q0 := 0) rfl rfl rfl rfl hl.1 rfl (lv_room (Nat.le_of_ble_eq_true rfl)) d_Mo_feed_39 ⟨Nat.zero_le _, Nat.zero_le _⟩ (fun u9 H locs hpo hj hS => ?_)
    subst hpo
    obtain ⟨hP, hD⟩ := hj rfl
    have hP : va_P D classes (wM h ht hp hw hz cI cZ (pu4 (pu4 (pu4 (pu4 (pu4 T n x1) (n + 4) x2) (n + 8) x3) (n + 12) x4) (n + 16) x5) (n + 20) P pn V vn en td z) H := hP
    have hD : va_D _ (wM h ht hp hw hz cI cZ (pu4 (pu4 (pu4 (pu4 (pu4 T n x1) (n + 4) x2) (n + 8) x3) (n + 12) x4) (n + 16) x5) (n + 20) P pn V vn en td z) := hD
    refine lv_iconst (v := (nI 1)) hx hb d_Mo_feed_42 (by decide +kernel) ?_
    refine wr_cv (z := bI (decide (n + 20 ≤ 400))) (by rw [decide_eq_true c10]; rfl) ?_
    exact W.zret hx hb hr (bI_nar _) (fun t ht9 _ => ⟨⟨_, _, rfl, ⟨rfl, en, td, z, by rw [fd_T, fd_n, if_pos c10, if_pos c10]⟩, by show va_P D classes _ t.heap; rw [ht9]; exact hP⟩, hS.F ht9⟩) hS.2.2 d_Mo_feed_43
  · have c10 : ¬ (n + 20) ≤ 400 := fun hz => c10 ((nI_leI (by omega) (by omega)).mpr hz)
    refine lv_iconst (v := (nI 0)) hx hb d_Mo_feed_13 (by decide +kernel) ?_
    refine wr_cv (z := bI (decide (n + 20 ≤ 400))) (by rw [decide_eq_false c10]; rfl) ?_
    exact W.zret hx hb hr (bI_nar _) (fun t ht9 _ => ⟨⟨_, _, rfl, ⟨rfl, _, _, _, by rw [fd_T, fd_n, if_neg c10, if_neg c10]⟩, by show va_P D classes _ t.heap; rw [ht9]; exact hP⟩, hS.F ht9⟩) hS.2.2 d_Mo_feed_14
set_option maxHeartbeats 4000000 in
set_option maxRecDepth 100000 in
theorem c_Mo_end (l : Launch) (D : va_G) (cB cI cZ : ClassId) (h ht hp hw hz : Nat) (T : Nat → Nat) (hT8 : ∀ k, T k < 256) (n : Nat) (hn : n ≤ 400) (P : Nat → Nat) (hP8 : ∀ k, P k < 256) (pn : Nat) (hpn : pn ≤ 400) (V : Nat → Nat) (hV8 : ∀ k, V k < 256) (vn : Nat) (hvn : vn ≤ 400) (x : Int32) (en td : Int32) (z : Nat → Int32) (sz : Nat) : Met l y_Mo_end w_Mo_end rm_Mo_end (Pm D cB cI cZ sz [.ref h, .int x] (wM h ht hp hw hz cI cZ T n P pn V vn en td z)) (Qm D (fun r u => r = bI (ed_b n x) ∧ ∃ en td z, u = wM h ht hp hw hz cI cZ T (ed_n n x) P pn V vn en td z) (wM h ht hp hw hz cI cZ T n P pn V vn en td z) sz) 0 0 (va_A (wM h ht hp hw hz cI cZ T n P pn V vn en td z) sz) := by
  refine Met.ofW (cc := b_Mo_end) (maxL := 2) (ret := (some .boolean)) (by decide) rfl ?_
  intro p e s m args below meth c s₁ B hml hv
  obtain ⟨rfl, hsz, hP, hK, hD0⟩ := hv
  have hx := B.exec
  have hb := B.bytes
  have hr := B.returns
  have hts0 := atoms_spec (ws := w_Mo_end) B.pre
  have hts : ∀ w ∈ gw, w.before _ s = true := fun w hw => hts0 w (List.mem_cons_of_mem _ hw)
  have hown : s.vm.findClass R_Mo = some m.cls := findClass_of_methodNamed B.named
  have hlocks := B.notSynchronized
  have S : CallFix p m c b_Mo_end 2 s _ gw R_Mo := ⟨hx, hb, hml, hown, hts⟩
  subst hsz
  have hD := hD0.self (sz := s.heap.size)
  have hA : ∀ q : Nat, s.heap.size ≤ q → va_A (wM h ht hp hw hz cI cZ T n P pn V vn en td z) s.heap.size q := fun q h => Or.inr h
  have hS : va_S (va_A (wM h ht hp hw hz cI cZ T n P pn V vn en td z) s.heap.size) s.heap s.heap [] := va_S.rf
  have hl := lv_entry ([.ref h, .int x]) (n := 2) (Nat.le_of_ble_eq_true rfl)
  rw [lg_entry_eq]
  generalize (lg_sl ([.ref h, .int x]) ++ List.replicate (2 - (lg_sl ([.ref h, .int x])).length) Slot.unset).toArray = ls at hl ⊢
  have hl : lv_has ls 2 [(0, .ref h), (1, .int x)] := hl
  show W p l e rm_Mo_end s m _ below meth c s.heap [] 0 0 _ (F0 m 0 ls [])
  refine lv_iload_n hx hb d_Mo_end_0 rfl (lv_at hl 1 rfl) ?_
  refine lv_if_lt (tgt := 12) hx hb d_Mo_end_1 (by decide) (fun c1 => ?_) (fun c1 => ?_)
  · refine lv_iconst (v := (nI 0)) hx hb d_Mo_end_12 (by decide +kernel) ?_
    refine wr_cv (z := bI (ed_b n x)) (by rw [(ed_1 (Or.inl c1)).1]; rfl) ?_
    exact W.zret hx hb hr (bI_nar _) (fun t ht9 _ => ⟨⟨_, _, rfl, ⟨rfl, _, _, _, by rw [(ed_1 (Or.inl c1)).2]⟩, by show va_P D classes _ t.heap; rw [ht9]; exact hP⟩, hS.F ht9⟩) hS.2.2 d_Mo_end_13
  · refine lv_iload_n hx hb d_Mo_end_4 rfl (lv_at hl 1 rfl) ?_
    refine lv_aload_n hx hb d_Mo_end_5 rfl (lv_at hl 0 rfl) ?_
    refine va_get (D := D) (ci := 2) (v := .int (nI n)) (C := R_Mo) (T := F_Mo) (N := 9) hx hb hts i_Mo hown hK hP 0 rfl rfl 3 (by decide) (hts _ k_fl_Mo_23) (fun _ h9 => h9) rfl d_Mo_end_6 ?_
    refine lv_icmp_le (tgt := 14) hx hb d_Mo_end_9 (by decide) (fun c9 => ?_) (fun c9 => ?_)
    · obtain ⟨j, hj, rfl⟩ := nI_of2 (nI_toInt (by omega)) c1 c9
      refine lv_aload_n hx hb d_Mo_end_14 rfl (lv_at hl 0 rfl) ?_
      refine lv_iload_n hx hb d_Mo_end_15 rfl (lv_at hl 1 rfl) ?_
      refine va_put (D := D) (ci := 2) (v := .int (nI j)) (ty := .int) (C := R_Mo) (T := F_Mo) (N := 9) hx hb hts i_Mo t_Mo t_Mo_ok n_Mo hown hK hP hD hS 0 rfl rfl 3 (by decide) (hts _ k_fl_Mo_23) (fun _ h9 => h9) rfl (by decide +kernel) rfl rfl (Nat.le_of_ble_eq_true rfl) d_Mo_end_16 (fun H locs hP hD hS => ?_)
      have hP : va_P D classes (wM h ht hp hw hz cI cZ T j P pn V vn en td z) H := hP
      have hD : va_D _ (wM h ht hp hw hz cI cZ T j P pn V vn en td z) := hD
      refine lv_iconst (v := (nI 1)) hx hb d_Mo_end_19 (by decide +kernel) ?_
      refine wr_cv (z := bI (ed_b n (nI j))) (by rw [(ed_2 hj hn).1]; rfl) ?_
      exact W.zret hx hb hr (bI_nar _) (fun t ht9 _ => ⟨⟨_, _, rfl, ⟨rfl, _, _, _, by rw [(ed_2 hj hn).2]⟩, by show va_P D classes _ t.heap; rw [ht9]; exact hP⟩, hS.F ht9⟩) hS.2.2 d_Mo_end_20
    · refine lv_iconst (v := (nI 0)) hx hb d_Mo_end_12 (by decide +kernel) ?_
      refine wr_cv (z := bI (ed_b n x)) (by rw [(ed_1 (ed_3 hn c1 c9)).1]; rfl) ?_
      exact W.zret hx hb hr (bI_nar _) (fun t ht9 _ => ⟨⟨_, _, rfl, ⟨rfl, _, _, _, by rw [(ed_1 (ed_3 hn c1 c9)).2]⟩, by show va_P D classes _ t.heap; rw [ht9]; exact hP⟩, hS.F ht9⟩) hS.2.2 d_Mo_end_13
set_option maxHeartbeats 4000000 in
set_option maxRecDepth 100000 in
theorem lp_Mo_pattern {p : Program} {l : Launch} {e : Env} {s : State} {m : MethodId} {args : Array Value} {below : List Frame} {meth : Method} {c : Code} {Q : State → Prop} {D : va_G} {cB cI cZ : ClassId} {A : Nat → Prop} {H0 : Heap} (hA : ∀ q, H0.size ≤ q → A q) {h ht hp hw hz : Nat} {T : Nat → Nat} (hT8 : ∀ k, T k < 256) {n : Nat} (hn : n ≤ 400) {P : Nat → Nat} (hP8 : ∀ k, P k < 256) {pn : Nat} (hpn : pn ≤ 400) {V : Nat → Nat} (hV8 : ∀ k, V k < 256) {vn : Nat} (hvn : vn ≤ 400) {en td : Int32} {z : Nat → Int32} (S : CallFix p m c b_Mo_pattern 2 s args gw R_Mo) (hK : va_K D classes (TY cB cI cZ) s) (kk : ∀ (H : Heap) (locs : List Loc) (ls : Array Slot), va_P D classes (wM h ht hp hw hz cI cZ T n (cpN T P n) n V vn en td z) H → va_D A (wM h ht hp hw hz cI cZ T n (cpN T P n) n V vn en td z) → va_S A H0 H locs → lv_has ls 2 [(0, .ref h)] → W p l e rm_Mo_pattern s m args below meth c H locs 0 0 Q (F0 m 36 ls [])) : ∀ (j k : Nat), n - k < j → k ≤ n → ∀ (H : Heap) (locs : List Loc) (ls : Array Slot), va_P D classes (wM h ht hp hw hz cI cZ T n (cpN T P k) n V vn en td z) H → va_D A (wM h ht hp hw hz cI cZ T n (cpN T P k) n V vn en td z) → va_S A H0 H locs → lv_has ls 2 [(0, .ref h), (1, .int (nI k))] → W p l e rm_Mo_pattern s m args below meth c H locs 0 0 Q (F0 m 10 ls []) := by
  obtain ⟨hx, hb, hml, hown, hts⟩ := id S
  intro j
  induction j with
  | zero => intro k h0; exact absurd h0 (Nat.not_lt_zero _)
  | succ j ih =>
    intro k h0 h1 H locs ls hP hD hS hl
    refine lv_iload_n hx hb d_Mo_pattern_10 rfl (lv_at hl 1 rfl) ?_
    refine lv_aload_n hx hb d_Mo_pattern_11 rfl (lv_at hl 0 rfl) ?_
    refine va_get (D := D) (ci := 2) (v := .int (nI n)) (C := R_Mo) (T := F_Mo) (N := 9) hx hb hts i_Mo hown hK hP 0 rfl rfl 4 (by decide) (hts _ k_fl_Mo_31) (fun _ h9 => h9) rfl d_Mo_pattern_12 ?_
    refine lv_icmp_ge (tgt := 36) hx hb d_Mo_pattern_15 (by decide) (fun c15 => ?_) (fun c15 => ?_)
    · have c15 : n ≤ k := (nI_leI (by omega) (by omega)).mp c15
      obtain rfl : k = n := by omega
      exact kk H locs ls hP hD hS (lv_sub hl [0] rfl)
    · have c15 : ¬ n ≤ k := fun hz => c15 ((nI_leI (by omega) (by omega)).mpr hz)
      refine lv_aload_n hx hb d_Mo_pattern_18 rfl (lv_at hl 0 rfl) ?_
      refine va_get (D := D) (ci := 2) (v := .ref hp) (C := R_Mo) (T := F_Mo) (N := 9) hx hb hts i_Mo hown hK hP 0 rfl rfl 1 (by decide) (hts _ k_fl_Mo_13) (fun _ h9 => h9) rfl d_Mo_pattern_19 ?_
      refine lv_iload_n hx hb d_Mo_pattern_22 rfl (lv_at hl 1 rfl) ?_
      refine lv_aload_n hx hb d_Mo_pattern_23 rfl (lv_at hl 0 rfl) ?_
      refine va_get (D := D) (ci := 2) (v := .ref ht) (C := R_Mo) (T := F_Mo) (N := 9) hx hb hts i_Mo hown hK hP 0 rfl rfl 0 (by decide) (hts _ k_fl_Mo_7) (fun _ h9 => h9) rfl d_Mo_pattern_24 ?_
      refine lv_iload_n hx hb d_Mo_pattern_27 rfl (lv_at hl 1 rfl) ?_
      refine va_iald hx hb hK hP 1 1 rfl rfl (vp_in_nI (by omega) (by omega)) d_Mo_pattern_28 ?_
      refine wr_cv (z := (nI (T k))) (nF_at (by omega) (by omega)) ?_
      have f1 := hT8 k
      refine va_iast hx hb hK hP hD hS 2 1 rfl rfl (vp_in_nI (by omega) (by omega)) d_Mo_pattern_29 (fun H locs hP hD hS => ?_)
      rw [nF_up (q := k) (v := T k) (by omega) rfl rfl, cpN_up] at hP hD
      have hP : va_P D classes (wM h ht hp hw hz cI cZ T n (cpN T P (k + 1)) n V vn en td z) H := hP
      have hD : va_D _ (wM h ht hp hw hz cI cZ T n (cpN T P (k + 1)) n V vn en td z) := hD
      refine lv_iinc (v := (nI (k + 1))) (lv' := [(1, .int (nI (k + 1))), (0, .ref h)]) hx hb d_Mo_pattern_30 hl (k := 1) rfl (nI_add k 1) (by decide) rfl (fun ls hl => ?_)
      refine lv_goto (tgt := 10) hx hb d_Mo_pattern_33 (by decide) ?_
      exact ih (k + 1) (by omega) (by omega) H locs ls hP hD hS (lv_sub hl [1, 0] rfl)
set_option maxHeartbeats 4000000 in
set_option maxRecDepth 100000 in
theorem c_Mo_pattern (l : Launch) (D : va_G) (cB cI cZ : ClassId) (h ht hp hw hz : Nat) (T : Nat → Nat) (hT8 : ∀ k, T k < 256) (n : Nat) (hn : n ≤ 400) (P : Nat → Nat) (hP8 : ∀ k, P k < 256) (pn : Nat) (hpn : pn ≤ 400) (V : Nat → Nat) (hV8 : ∀ k, V k < 256) (vn : Nat) (hvn : vn ≤ 400)  (en td : Int32) (z : Nat → Int32) (sz : Nat) : Met l y_Mo_pattern w_Mo_pattern rm_Mo_pattern (Pm D cB cI cZ sz [.ref h] (wM h ht hp hw hz cI cZ T n P pn V vn en td z)) (Qm D (fun r u => r = nI n ∧ ∃ en td z, u = wM h ht hp hw hz cI cZ T 0 (cpN T P n) n V vn en td z) (wM h ht hp hw hz cI cZ T n P pn V vn en td z) sz) 0 0 (va_A (wM h ht hp hw hz cI cZ T n P pn V vn en td z) sz) := by
  refine Met.ofW (cc := b_Mo_pattern) (maxL := 2) (ret := (some .int)) (by decide) rfl ?_
  intro p e s m args below meth c s₁ B hml hv
  obtain ⟨rfl, hsz, hP, hK, hD0⟩ := hv
  have hx := B.exec
  have hb := B.bytes
  have hr := B.returns
  have hts0 := atoms_spec (ws := w_Mo_pattern) B.pre
  have hts : ∀ w ∈ gw, w.before _ s = true := fun w hw => hts0 w (List.mem_cons_of_mem _ hw)
  have hown : s.vm.findClass R_Mo = some m.cls := findClass_of_methodNamed B.named
  have hlocks := B.notSynchronized
  have S : CallFix p m c b_Mo_pattern 2 s _ gw R_Mo := ⟨hx, hb, hml, hown, hts⟩
  subst hsz
  have hD := hD0.self (sz := s.heap.size)
  have hA : ∀ q : Nat, s.heap.size ≤ q → va_A (wM h ht hp hw hz cI cZ T n P pn V vn en td z) s.heap.size q := fun q h => Or.inr h
  have hS : va_S (va_A (wM h ht hp hw hz cI cZ T n P pn V vn en td z) s.heap.size) s.heap s.heap [] := va_S.rf
  have hl := lv_entry ([.ref h]) (n := 2) (Nat.le_of_ble_eq_true rfl)
  rw [lg_entry_eq]
  generalize (lg_sl ([.ref h]) ++ List.replicate (2 - (lg_sl ([.ref h])).length) Slot.unset).toArray = ls at hl ⊢
  have hl : lv_has ls 2 [(0, .ref h)] := hl
  show W p l e rm_Mo_pattern s m _ below meth c s.heap [] 0 0 _ (F0 m 0 ls [])
  refine lv_aload_n hx hb d_Mo_pattern_0 rfl (lv_at hl 0 rfl) ?_
  refine lv_aload_n hx hb d_Mo_pattern_1 rfl (lv_at hl 0 rfl) ?_
  refine va_get (D := D) (ci := 2) (v := .int (nI n)) (C := R_Mo) (T := F_Mo) (N := 9) hx hb hts i_Mo hown hK hP 0 rfl rfl 3 (by decide) (hts _ k_fl_Mo_23) (fun _ h9 => h9) rfl d_Mo_pattern_2 ?_
  refine va_put (D := D) (ci := 2) (v := .int (nI n)) (ty := .int) (C := R_Mo) (T := F_Mo) (N := 9) hx hb hts i_Mo t_Mo t_Mo_ok n_Mo hown hK hP hD hS 0 rfl rfl 4 (by decide) (hts _ k_fl_Mo_31) (fun _ h9 => h9) rfl (by decide +kernel) rfl rfl (Nat.le_of_ble_eq_true rfl) d_Mo_pattern_5 (fun H locs hP hD hS => ?_)
  have hP : va_P D classes (wM h ht hp hw hz cI cZ T n P n V vn en td z) H := hP
  have hD : va_D _ (wM h ht hp hw hz cI cZ T n P n V vn en td z) := hD
  refine lv_iconst (v := (nI 0)) hx hb d_Mo_pattern_8 (by decide +kernel) ?_
  refine lv_istore_n (lv' := [(1, .int (nI 0)), (0, .ref h)]) hx hb d_Mo_pattern_9 rfl hl (by decide) rfl (fun ls hl => ?_)
  have e0 : cpN T P 0 = P := cpN_0 T P
  refine lp_Mo_pattern hA hT8 hn hP8 hpn hV8 hvn S hK (fun H locs ls hP hD hS hl => ?_) (n + 1) 0 (by omega) (by omega) H _ ls (by rw [e0]; exact hP) (by rw [e0]; exact hD) hS (lv_sub hl [1, 0] rfl)
  refine lv_aload_n hx hb d_Mo_pattern_36 rfl (lv_at hl 0 rfl) ?_
  refine lv_iconst (v := (nI 0)) hx hb d_Mo_pattern_37 (by decide +kernel) ?_
  refine va_put (D := D) (ci := 2) (v := .int (nI 0)) (ty := .int) (C := R_Mo) (T := F_Mo) (N := 9) hx hb hts i_Mo t_Mo t_Mo_ok n_Mo hown hK hP hD hS 0 rfl rfl 3 (by decide) (hts _ k_fl_Mo_23) (fun _ h9 => h9) rfl (by decide +kernel) rfl rfl (Nat.le_of_ble_eq_true rfl) d_Mo_pattern_38 (fun H locs hP hD hS => ?_)
  have hP : va_P D classes (wM h ht hp hw hz cI cZ T 0 (cpN T P n) n V vn en td z) H := hP
  have hD : va_D _ (wM h ht hp hw hz cI cZ T 0 (cpN T P n) n V vn en td z) := hD
  refine lv_aload_n hx hb d_Mo_pattern_41 rfl (lv_at hl 0 rfl) ?_
  refine va_get (D := D) (ci := 2) (v := .int (nI n)) (C := R_Mo) (T := F_Mo) (N := 9) hx hb hts i_Mo hown hK hP 0 rfl rfl 4 (by decide) (hts _ k_fl_Mo_31) (fun _ h9 => h9) rfl d_Mo_pattern_42 ?_
  exact W.iret hx hb hr (fun t ht9 _ => ⟨⟨_, _, rfl, ⟨rfl, _, _, _, rfl⟩, by show va_P D classes _ t.heap; rw [ht9]; exact hP⟩, hS.F ht9⟩) hS.2.2 d_Mo_pattern_45
set_option maxHeartbeats 4000000 in
set_option maxRecDepth 100000 in
theorem lp_Mo_word {p : Program} {l : Launch} {e : Env} {s : State} {m : MethodId} {args : Array Value} {below : List Frame} {meth : Method} {c : Code} {Q : State → Prop} {D : va_G} {cB cI cZ : ClassId} {A : Nat → Prop} {H0 : Heap} (hA : ∀ q, H0.size ≤ q → A q) {h ht hp hw hz : Nat} {T : Nat → Nat} (hT8 : ∀ k, T k < 256) {n : Nat} (hn : n ≤ 400) {P : Nat → Nat} (hP8 : ∀ k, P k < 256) {pn : Nat} (hpn : pn ≤ 400) {V : Nat → Nat} (hV8 : ∀ k, V k < 256) {vn : Nat} (hvn : vn ≤ 400) {en td : Int32} {z : Nat → Int32} (S : CallFix p m c b_Mo_word 2 s args gw R_Mo) (hK : va_K D classes (TY cB cI cZ) s) (kk : ∀ (H : Heap) (locs : List Loc) (ls : Array Slot), va_P D classes (wM h ht hp hw hz cI cZ T n P pn (cpN T V n) n en td z) H → va_D A (wM h ht hp hw hz cI cZ T n P pn (cpN T V n) n en td z) → va_S A H0 H locs → lv_has ls 2 [(0, .ref h)] → W p l e rm_Mo_word s m args below meth c H locs 0 0 Q (F0 m 36 ls [])) : ∀ (j k : Nat), n - k < j → k ≤ n → ∀ (H : Heap) (locs : List Loc) (ls : Array Slot), va_P D classes (wM h ht hp hw hz cI cZ T n P pn (cpN T V k) n en td z) H → va_D A (wM h ht hp hw hz cI cZ T n P pn (cpN T V k) n en td z) → va_S A H0 H locs → lv_has ls 2 [(0, .ref h), (1, .int (nI k))] → W p l e rm_Mo_word s m args below meth c H locs 0 0 Q (F0 m 10 ls []) := by
  obtain ⟨hx, hb, hml, hown, hts⟩ := id S
  intro j
  induction j with
  | zero => intro k h0; exact absurd h0 (Nat.not_lt_zero _)
  | succ j ih =>
    intro k h0 h1 H locs ls hP hD hS hl
    refine lv_iload_n hx hb d_Mo_word_10 rfl (lv_at hl 1 rfl) ?_
    refine lv_aload_n hx hb d_Mo_word_11 rfl (lv_at hl 0 rfl) ?_
    refine va_get (D := D) (ci := 2) (v := .int (nI n)) (C := R_Mo) (T := F_Mo) (N := 9) hx hb hts i_Mo hown hK hP 0 rfl rfl 5 (by decide) (hts _ k_fl_Mo_34) (fun _ h9 => h9) rfl d_Mo_word_12 ?_
    refine lv_icmp_ge (tgt := 36) hx hb d_Mo_word_15 (by decide) (fun c15 => ?_) (fun c15 => ?_)
    · have c15 : n ≤ k := (nI_leI (by omega) (by omega)).mp c15
      obtain rfl : k = n := by omega
      exact kk H locs ls hP hD hS (lv_sub hl [0] rfl)
    · have c15 : ¬ n ≤ k := fun hz => c15 ((nI_leI (by omega) (by omega)).mpr hz)
      refine lv_aload_n hx hb d_Mo_word_18 rfl (lv_at hl 0 rfl) ?_
      refine va_get (D := D) (ci := 2) (v := .ref hw) (C := R_Mo) (T := F_Mo) (N := 9) hx hb hts i_Mo hown hK hP 0 rfl rfl 2 (by decide) (hts _ k_fl_Mo_16) (fun _ h9 => h9) rfl d_Mo_word_19 ?_
      refine lv_iload_n hx hb d_Mo_word_22 rfl (lv_at hl 1 rfl) ?_
      refine lv_aload_n hx hb d_Mo_word_23 rfl (lv_at hl 0 rfl) ?_
      refine va_get (D := D) (ci := 2) (v := .ref ht) (C := R_Mo) (T := F_Mo) (N := 9) hx hb hts i_Mo hown hK hP 0 rfl rfl 0 (by decide) (hts _ k_fl_Mo_7) (fun _ h9 => h9) rfl d_Mo_word_24 ?_
      refine lv_iload_n hx hb d_Mo_word_27 rfl (lv_at hl 1 rfl) ?_
      refine va_iald hx hb hK hP 1 1 rfl rfl (vp_in_nI (by omega) (by omega)) d_Mo_word_28 ?_
      refine wr_cv (z := (nI (T k))) (nF_at (by omega) (by omega)) ?_
      have f2 := hT8 k
      refine va_iast hx hb hK hP hD hS 3 1 rfl rfl (vp_in_nI (by omega) (by omega)) d_Mo_word_29 (fun H locs hP hD hS => ?_)
      rw [nF_up (q := k) (v := T k) (by omega) rfl rfl, cpN_up] at hP hD
      have hP : va_P D classes (wM h ht hp hw hz cI cZ T n P pn (cpN T V (k + 1)) n en td z) H := hP
      have hD : va_D _ (wM h ht hp hw hz cI cZ T n P pn (cpN T V (k + 1)) n en td z) := hD
      refine lv_iinc (v := (nI (k + 1))) (lv' := [(1, .int (nI (k + 1))), (0, .ref h)]) hx hb d_Mo_word_30 hl (k := 1) rfl (nI_add k 1) (by decide) rfl (fun ls hl => ?_)
      refine lv_goto (tgt := 10) hx hb d_Mo_word_33 (by decide) ?_
      exact ih (k + 1) (by omega) (by omega) H locs ls hP hD hS (lv_sub hl [1, 0] rfl)
set_option maxHeartbeats 4000000 in
set_option maxRecDepth 100000 in
theorem c_Mo_word (l : Launch) (D : va_G) (cB cI cZ : ClassId) (h ht hp hw hz : Nat) (T : Nat → Nat) (hT8 : ∀ k, T k < 256) (n : Nat) (hn : n ≤ 400) (P : Nat → Nat) (hP8 : ∀ k, P k < 256) (pn : Nat) (hpn : pn ≤ 400) (V : Nat → Nat) (hV8 : ∀ k, V k < 256) (vn : Nat) (hvn : vn ≤ 400)  (en td : Int32) (z : Nat → Int32) (sz : Nat) : Met l y_Mo_word w_Mo_word rm_Mo_word (Pm D cB cI cZ sz [.ref h] (wM h ht hp hw hz cI cZ T n P pn V vn en td z)) (Qm D (fun r u => r = nI n ∧ ∃ en td z, u = wM h ht hp hw hz cI cZ T 0 P pn (cpN T V n) n en td z) (wM h ht hp hw hz cI cZ T n P pn V vn en td z) sz) 0 0 (va_A (wM h ht hp hw hz cI cZ T n P pn V vn en td z) sz) := by
  refine Met.ofW (cc := b_Mo_word) (maxL := 2) (ret := (some .int)) (by decide) rfl ?_
  intro p e s m args below meth c s₁ B hml hv
  obtain ⟨rfl, hsz, hP, hK, hD0⟩ := hv
  have hx := B.exec
  have hb := B.bytes
  have hr := B.returns
  have hts0 := atoms_spec (ws := w_Mo_word) B.pre
  have hts : ∀ w ∈ gw, w.before _ s = true := fun w hw => hts0 w (List.mem_cons_of_mem _ hw)
  have hown : s.vm.findClass R_Mo = some m.cls := findClass_of_methodNamed B.named
  have hlocks := B.notSynchronized
  have S : CallFix p m c b_Mo_word 2 s _ gw R_Mo := ⟨hx, hb, hml, hown, hts⟩
  subst hsz
  have hD := hD0.self (sz := s.heap.size)
  have hA : ∀ q : Nat, s.heap.size ≤ q → va_A (wM h ht hp hw hz cI cZ T n P pn V vn en td z) s.heap.size q := fun q h => Or.inr h
  have hS : va_S (va_A (wM h ht hp hw hz cI cZ T n P pn V vn en td z) s.heap.size) s.heap s.heap [] := va_S.rf
  have hl := lv_entry ([.ref h]) (n := 2) (Nat.le_of_ble_eq_true rfl)
  rw [lg_entry_eq]
  generalize (lg_sl ([.ref h]) ++ List.replicate (2 - (lg_sl ([.ref h])).length) Slot.unset).toArray = ls at hl ⊢
  have hl : lv_has ls 2 [(0, .ref h)] := hl
  show W p l e rm_Mo_word s m _ below meth c s.heap [] 0 0 _ (F0 m 0 ls [])
  refine lv_aload_n hx hb d_Mo_word_0 rfl (lv_at hl 0 rfl) ?_
  refine lv_aload_n hx hb d_Mo_word_1 rfl (lv_at hl 0 rfl) ?_
  refine va_get (D := D) (ci := 2) (v := .int (nI n)) (C := R_Mo) (T := F_Mo) (N := 9) hx hb hts i_Mo hown hK hP 0 rfl rfl 3 (by decide) (hts _ k_fl_Mo_23) (fun _ h9 => h9) rfl d_Mo_word_2 ?_
  refine va_put (D := D) (ci := 2) (v := .int (nI n)) (ty := .int) (C := R_Mo) (T := F_Mo) (N := 9) hx hb hts i_Mo t_Mo t_Mo_ok n_Mo hown hK hP hD hS 0 rfl rfl 5 (by decide) (hts _ k_fl_Mo_34) (fun _ h9 => h9) rfl (by decide +kernel) rfl rfl (Nat.le_of_ble_eq_true rfl) d_Mo_word_5 (fun H locs hP hD hS => ?_)
  have hP : va_P D classes (wM h ht hp hw hz cI cZ T n P pn V n en td z) H := hP
  have hD : va_D _ (wM h ht hp hw hz cI cZ T n P pn V n en td z) := hD
  refine lv_iconst (v := (nI 0)) hx hb d_Mo_word_8 (by decide +kernel) ?_
  refine lv_istore_n (lv' := [(1, .int (nI 0)), (0, .ref h)]) hx hb d_Mo_word_9 rfl hl (by decide) rfl (fun ls hl => ?_)
  have e0 : cpN T V 0 = V := cpN_0 T V
  refine lp_Mo_word hA hT8 hn hP8 hpn hV8 hvn S hK (fun H locs ls hP hD hS hl => ?_) (n + 1) 0 (by omega) (by omega) H _ ls (by rw [e0]; exact hP) (by rw [e0]; exact hD) hS (lv_sub hl [1, 0] rfl)
  refine lv_aload_n hx hb d_Mo_word_36 rfl (lv_at hl 0 rfl) ?_
  refine lv_iconst (v := (nI 0)) hx hb d_Mo_word_37 (by decide +kernel) ?_
  refine va_put (D := D) (ci := 2) (v := .int (nI 0)) (ty := .int) (C := R_Mo) (T := F_Mo) (N := 9) hx hb hts i_Mo t_Mo t_Mo_ok n_Mo hown hK hP hD hS 0 rfl rfl 3 (by decide) (hts _ k_fl_Mo_23) (fun _ h9 => h9) rfl (by decide +kernel) rfl rfl (Nat.le_of_ble_eq_true rfl) d_Mo_word_38 (fun H locs hP hD hS => ?_)
  have hP : va_P D classes (wM h ht hp hw hz cI cZ T 0 P pn (cpN T V n) n en td z) H := hP
  have hD : va_D _ (wM h ht hp hw hz cI cZ T 0 P pn (cpN T V n) n en td z) := hD
  refine lv_aload_n hx hb d_Mo_word_41 rfl (lv_at hl 0 rfl) ?_
  refine va_get (D := D) (ci := 2) (v := .int (nI n)) (C := R_Mo) (T := F_Mo) (N := 9) hx hb hts i_Mo hown hK hP 0 rfl rfl 5 (by decide) (hts _ k_fl_Mo_34) (fun _ h9 => h9) rfl d_Mo_word_42 ?_
  exact W.iret hx hb hr (fun t ht9 _ => ⟨⟨_, _, rfl, ⟨rfl, _, _, _, rfl⟩, by show va_P D classes _ t.heap; rw [ht9]; exact hP⟩, hS.F ht9⟩) hS.2.2 d_Mo_word_45
set_option maxHeartbeats 4000000 in
set_option maxRecDepth 100000 in
theorem c_Mo_tells (l : Launch) (D : va_G) (cB cI cZ : ClassId) (h ht hp hw hz : Nat) (T : Nat → Nat) (hT8 : ∀ k, T k < 256) (n : Nat) (hn : n ≤ 400) (P : Nat → Nat) (hP8 : ∀ k, P k < 256) (pn : Nat) (hpn : pn ≤ 400) (V : Nat → Nat) (hV8 : ∀ k, V k < 256) (vn : Nat) (hvn : vn ≤ 400) (a : Nat) (ha : a < pn) (en td : Int32) (z : Nat → Int32) (sz : Nat) : Met l y_Mo_tells w_Mo_tells rm_Mo_tells (Pm D cB cI cZ sz [.ref h, .int (nI a)] (wM h ht hp hw hz cI cZ T n P pn V vn en td z)) (Qm D (fun r u => r = nI (wq_nx P pn a) ∧ u = wM h ht hp hw hz cI cZ T n P pn V vn en (nI (wq_pl P pn a)) z) (wM h ht hp hw hz cI cZ T n P pn V vn en td z) sz) 0 0 (va_A (wM h ht hp hw hz cI cZ T n P pn V vn en td z) sz) := by
  refine Met.ofW (cc := b_Mo_tells) (maxL := 2) (ret := (some .int)) (by decide) rfl ?_
  intro p e s m args below meth c s₁ B hml hv
  obtain ⟨rfl, hsz, hP, hK, hD0⟩ := hv
  have hx := B.exec
  have hb := B.bytes
  have hr := B.returns
  have hts0 := atoms_spec (ws := w_Mo_tells) B.pre
  have hts : ∀ w ∈ gw, w.before _ s = true := fun w hw => hts0 w (List.mem_cons_of_mem _ hw)
  have hown : s.vm.findClass R_Mo = some m.cls := findClass_of_methodNamed B.named
  have hlocks := B.notSynchronized
  have S : CallFix p m c b_Mo_tells 2 s _ gw R_Mo := ⟨hx, hb, hml, hown, hts⟩
  subst hsz
  have hD := hD0.self (sz := s.heap.size)
  have hA : ∀ q : Nat, s.heap.size ≤ q → va_A (wM h ht hp hw hz cI cZ T n P pn V vn en td z) s.heap.size q := fun q h => Or.inr h
  have hS : va_S (va_A (wM h ht hp hw hz cI cZ T n P pn V vn en td z) s.heap.size) s.heap s.heap [] := va_S.rf
  have hl := lv_entry ([.ref h, .int (nI a)]) (n := 2) (Nat.le_of_ble_eq_true rfl)
  rw [lg_entry_eq]
  generalize (lg_sl ([.ref h, .int (nI a)]) ++ List.replicate (2 - (lg_sl ([.ref h, .int (nI a)])).length) Slot.unset).toArray = ls at hl ⊢
  have hl : lv_has ls 2 [(0, .ref h), (1, .int (nI a))] := hl
  show W p l e rm_Mo_tells s m _ below meth c s.heap [] 0 0 _ (F0 m 0 ls [])
  refine lv_aload_n hx hb d_Mo_tells_0 rfl (lv_at hl 0 rfl) ?_
  refine va_get (D := D) (ci := 2) (v := .ref hp) (C := R_Mo) (T := F_Mo) (N := 9) hx hb hts i_Mo hown hK hP 0 rfl rfl 1 (by decide) (hts _ k_fl_Mo_13) (fun _ h9 => h9) rfl d_Mo_tells_1 ?_
  refine lv_iload_n hx hb d_Mo_tells_4 rfl (lv_at hl 1 rfl) ?_
  refine va_iald hx hb hK hP 2 1 rfl rfl (vp_in_nI (by omega) (by omega)) d_Mo_tells_5 ?_
  refine wr_cv (z := (nI (P a))) (nF_at (by omega) (by omega)) ?_
  have f3 := hP8 a
  refine lv_bipush (v := (nI 92)) hx hb d_Mo_tells_6 (by decide +kernel) ?_
  refine lv_icmp_ne (tgt := 37) hx hb d_Mo_tells_8 (by decide) (fun c8 => ?_) (fun c8 => ?_)
  · have c8 : ¬ (P a) = 92 := fun hz => c8 ((nI_eq (by omega) (by omega)).mpr hz)
    refine lv_aload_n hx hb d_Mo_tells_37 rfl (lv_at hl 0 rfl) ?_
    refine lv_aload_n hx hb d_Mo_tells_38 rfl (lv_at hl 0 rfl) ?_
    refine va_get (D := D) (ci := 2) (v := .ref hp) (C := R_Mo) (T := F_Mo) (N := 9) hx hb hts i_Mo hown hK hP 0 rfl rfl 1 (by decide) (hts _ k_fl_Mo_13) (fun _ h9 => h9) rfl d_Mo_tells_39 ?_
    refine lv_iload_n hx hb d_Mo_tells_42 rfl (lv_at hl 1 rfl) ?_
    refine va_iald hx hb hK hP 2 1 rfl rfl (vp_in_nI (by omega) (by omega)) d_Mo_tells_43 ?_
    refine wr_cv (z := (nI (P a))) (nF_at (by omega) (by omega)) ?_
    have f4 := hP8 a
    refine va_put (D := D) (ci := 2) (v := .int (nI (P a))) (ty := .int) (C := R_Mo) (T := F_Mo) (N := 9) hx hb hts i_Mo t_Mo t_Mo_ok n_Mo hown hK hP hD hS 0 rfl rfl 7 (by decide) (hts _ k_fl_Mo_37) (fun _ h9 => h9) rfl (by decide +kernel) rfl rfl (Nat.le_of_ble_eq_true rfl) d_Mo_tells_44 (fun H locs hP hD hS => ?_)
    have hP : va_P D classes (wM h ht hp hw hz cI cZ T n P pn V vn en (nI (P a)) z) H := hP
    have hD : va_D _ (wM h ht hp hw hz cI cZ T n P pn V vn en (nI (P a)) z) := hD
    refine lv_iload_n hx hb d_Mo_tells_47 rfl (lv_at hl 1 rfl) ?_
    refine lv_iconst (v := (nI 1)) hx hb d_Mo_tells_48 (by decide +kernel) ?_
    refine lv_iadd hx hb d_Mo_tells_49 ?_
    refine wr_cv (z := (nI (a + 1))) (nI_add a 1) ?_
    refine wr_cv (z := nI (wq_nx P pn a)) (by rw [wq_nx, if_neg (fun z => c8 z.1)]) ?_
    exact W.iret hx hb hr (fun t ht9 _ => ⟨⟨_, _, rfl, ⟨rfl, by rw [wq_pl, if_neg (fun z => c8 z.1)]⟩, by show va_P D classes _ t.heap; rw [ht9]; exact hP⟩, hS.F ht9⟩) hS.2.2 d_Mo_tells_50
  · have c8 : (P a) = 92 := (nI_eq (by omega) (by omega)).mp c8
    refine lv_iload_n hx hb d_Mo_tells_11 rfl (lv_at hl 1 rfl) ?_
    refine lv_iconst (v := (nI 1)) hx hb d_Mo_tells_12 (by decide +kernel) ?_
    refine lv_iadd hx hb d_Mo_tells_13 ?_
    refine wr_cv (z := (nI (a + 1))) (nI_add a 1) ?_
    refine lv_aload_n hx hb d_Mo_tells_14 rfl (lv_at hl 0 rfl) ?_
    refine va_get (D := D) (ci := 2) (v := .int (nI pn)) (C := R_Mo) (T := F_Mo) (N := 9) hx hb hts i_Mo hown hK hP 0 rfl rfl 4 (by decide) (hts _ k_fl_Mo_31) (fun _ h9 => h9) rfl d_Mo_tells_15 ?_
    refine lv_icmp_ge (tgt := 37) hx hb d_Mo_tells_18 (by decide) (fun c18 => ?_) (fun c18 => ?_)
    · have c18 : pn ≤ (a + 1) := (nI_leI (by omega) (by omega)).mp c18
      refine lv_aload_n hx hb d_Mo_tells_37 rfl (lv_at hl 0 rfl) ?_
      refine lv_aload_n hx hb d_Mo_tells_38 rfl (lv_at hl 0 rfl) ?_
      refine va_get (D := D) (ci := 2) (v := .ref hp) (C := R_Mo) (T := F_Mo) (N := 9) hx hb hts i_Mo hown hK hP 0 rfl rfl 1 (by decide) (hts _ k_fl_Mo_13) (fun _ h9 => h9) rfl d_Mo_tells_39 ?_
      refine lv_iload_n hx hb d_Mo_tells_42 rfl (lv_at hl 1 rfl) ?_
      refine va_iald hx hb hK hP 2 1 rfl rfl (vp_in_nI (by omega) (by omega)) d_Mo_tells_43 ?_
      refine wr_cv (z := (nI (P a))) (nF_at (by omega) (by omega)) ?_
      have f5 := hP8 a
      refine va_put (D := D) (ci := 2) (v := .int (nI (P a))) (ty := .int) (C := R_Mo) (T := F_Mo) (N := 9) hx hb hts i_Mo t_Mo t_Mo_ok n_Mo hown hK hP hD hS 0 rfl rfl 7 (by decide) (hts _ k_fl_Mo_37) (fun _ h9 => h9) rfl (by decide +kernel) rfl rfl (Nat.le_of_ble_eq_true rfl) d_Mo_tells_44 (fun H locs hP hD hS => ?_)
      have hP : va_P D classes (wM h ht hp hw hz cI cZ T n P pn V vn en (nI (P a)) z) H := hP
      have hD : va_D _ (wM h ht hp hw hz cI cZ T n P pn V vn en (nI (P a)) z) := hD
      refine lv_iload_n hx hb d_Mo_tells_47 rfl (lv_at hl 1 rfl) ?_
      refine lv_iconst (v := (nI 1)) hx hb d_Mo_tells_48 (by decide +kernel) ?_
      refine lv_iadd hx hb d_Mo_tells_49 ?_
      refine wr_cv (z := (nI (a + 1))) (nI_add a 1) ?_
      refine wr_cv (z := nI (wq_nx P pn a)) (by rw [wq_nx, if_neg (fun z => absurd z.2 (by omega))]) ?_
      exact W.iret hx hb hr (fun t ht9 _ => ⟨⟨_, _, rfl, ⟨rfl, by rw [wq_pl, if_neg (fun z => absurd z.2 (by omega))]⟩, by show va_P D classes _ t.heap; rw [ht9]; exact hP⟩, hS.F ht9⟩) hS.2.2 d_Mo_tells_50
    · have c18 : ¬ pn ≤ (a + 1) := fun hz => c18 ((nI_leI (by omega) (by omega)).mpr hz)
      refine lv_aload_n hx hb d_Mo_tells_21 rfl (lv_at hl 0 rfl) ?_
      refine lv_aload_n hx hb d_Mo_tells_22 rfl (lv_at hl 0 rfl) ?_
      refine va_get (D := D) (ci := 2) (v := .ref hp) (C := R_Mo) (T := F_Mo) (N := 9) hx hb hts i_Mo hown hK hP 0 rfl rfl 1 (by decide) (hts _ k_fl_Mo_13) (fun _ h9 => h9) rfl d_Mo_tells_23 ?_
      refine lv_iload_n hx hb d_Mo_tells_26 rfl (lv_at hl 1 rfl) ?_
      refine lv_iconst (v := (nI 1)) hx hb d_Mo_tells_27 (by decide +kernel) ?_
      refine lv_iadd hx hb d_Mo_tells_28 ?_
      refine wr_cv (z := (nI (a + 1))) (nI_add a 1) ?_
      refine va_iald hx hb hK hP 2 1 rfl rfl (vp_in_nI (by omega) (by omega)) d_Mo_tells_29 ?_
      refine wr_cv (z := (nI (P (a + 1)))) (nF_at (by omega) (by omega)) ?_
      have f6 := hP8 (a + 1)
      refine va_put (D := D) (ci := 2) (v := .int (nI (P (a + 1)))) (ty := .int) (C := R_Mo) (T := F_Mo) (N := 9) hx hb hts i_Mo t_Mo t_Mo_ok n_Mo hown hK hP hD hS 0 rfl rfl 7 (by decide) (hts _ k_fl_Mo_37) (fun _ h9 => h9) rfl (by decide +kernel) rfl rfl (Nat.le_of_ble_eq_true rfl) d_Mo_tells_30 (fun H locs hP hD hS => ?_)
      have hP : va_P D classes (wM h ht hp hw hz cI cZ T n P pn V vn en (nI (P (a + 1))) z) H := hP
      have hD : va_D _ (wM h ht hp hw hz cI cZ T n P pn V vn en (nI (P (a + 1))) z) := hD
      refine lv_iload_n hx hb d_Mo_tells_33 rfl (lv_at hl 1 rfl) ?_
      refine lv_iconst (v := (nI 2)) hx hb d_Mo_tells_34 (by decide +kernel) ?_
      refine lv_iadd hx hb d_Mo_tells_35 ?_
      refine wr_cv (z := (nI (a + 2))) (nI_add a 2) ?_
      refine wr_cv (z := nI (wq_nx P pn a)) (by rw [wq_nx, if_pos ⟨c8, by omega⟩]) ?_
      exact W.iret hx hb hr (fun t ht9 _ => ⟨⟨_, _, rfl, ⟨rfl, by rw [wq_pl, if_pos ⟨c8, by omega⟩]⟩, by show va_P D classes _ t.heap; rw [ht9]; exact hP⟩, hS.F ht9⟩) hS.2.2 d_Mo_tells_36
set_option maxHeartbeats 4000000 in
set_option maxRecDepth 100000 in
theorem lp_isOne {p : Program} {l : Launch} {e : Env} {s : State} {m : MethodId} {args : Array Value} {below : List Frame} {meth : Method} {c : Code} {Q : State → Prop} {D : va_G} {cB cI cZ : ClassId} {A : Nat → Prop} {H0 : Heap} (hA : ∀ q, H0.size ≤ q → A q) {h ht hp hw hz : Nat} {T : Nat → Nat} (hT8 : ∀ k, T k < 256) {n : Nat} (hn : n ≤ 400) {P : Nat → Nat} (hP8 : ∀ k, P k < 256) {pn : Nat} (hpn : pn ≤ 400) {V : Nat → Nat} (hV8 : ∀ k, V k < 256) {vn : Nat} (hvn : vn ≤ 400) {en : Int32} {z : Nat → Int32} {b : Nat} (hbb : b < 256) {ng r : Bool} {q9 : Nat} (S : CallFix p m c b_Mo_isOne 8 s args gw R_Mo) (hK : va_K D classes (TY cB cI cZ) s) (kk : ∀ (td : Int32) (H : Heap) (locs : List Loc) (ls : Array Slot), va_P D classes (wM h ht hp hw hz cI cZ T n P pn V vn en td z) H → va_D A (wM h ht hp hw hz cI cZ T n P pn V vn en td z) → va_S A H0 H locs → lv_has ls 8 [(0, .ref h), (3, .int (nI q9)), (4, .int (bI ng)), (5, .int (bI r))] → W p l e rm_Mo_isOne s m args below meth c H locs 0 0 Q (F0 m 156 ls [])) : ∀ (j a : Nat) (is : Bool), pn - a < j → a ≤ pn → wq_B P pn b a is = r → wq_E P pn a = q9 → ∀ (td : Int32) (H : Heap) (locs : List Loc) (ls : Array Slot), va_P D classes (wM h ht hp hw hz cI cZ T n P pn V vn en td z) H → va_D A (wM h ht hp hw hz cI cZ T n P pn V vn en td z) → va_S A H0 H locs → lv_has ls 8 [(0, .ref h), (2, .int (nI b)), (4, .int (bI ng)), (3, .int (nI a)), (5, .int (bI is))] → W p l e rm_Mo_isOne s m args below meth c H locs 0 0 Q (F0 m 46 ls []) := by
  obtain ⟨hx, hb, hml, hown, hts⟩ := id S
  intro j
  induction j with
  | zero => intro a is h0; exact absurd h0 (Nat.not_lt_zero _)
  | succ j ih =>
    intro a is h0 h1 hr hq td H locs ls hP hD hS hl
    refine lv_iload_n hx hb d_Mo_isOne_46 rfl (lv_at hl 3 rfl) ?_
    refine lv_aload_n hx hb d_Mo_isOne_47 rfl (lv_at hl 0 rfl) ?_
    refine va_get (D := D) (ci := 2) (v := .int (nI pn)) (C := R_Mo) (T := F_Mo) (N := 9) hx hb hts i_Mo hown hK hP 0 rfl rfl 4 (by decide) (hts _ k_fl_Mo_31) (fun _ h9 => h9) rfl d_Mo_isOne_48 ?_
    refine lv_icmp_ge (tgt := 156) hx hb d_Mo_isOne_51 (by decide) (fun c51 => ?_) (fun c51 => ?_)
    · have c51 : pn ≤ a := (nI_leI (by omega) (by omega)).mp c51
      rw [wq_B_end (by omega)] at hr
      subst hr
      rw [wq_E_end (by omega)] at hq
      subst hq
      exact kk td H locs ls hP hD hS (lv_sub hl [0, 3, 2, 4] rfl)
    · have c51 : ¬ pn ≤ a := fun hz => c51 ((nI_leI (by omega) (by omega)).mpr hz)
      refine lv_aload_n hx hb d_Mo_isOne_54 rfl (lv_at hl 0 rfl) ?_
      refine va_get (D := D) (ci := 2) (v := .ref hp) (C := R_Mo) (T := F_Mo) (N := 9) hx hb hts i_Mo hown hK hP 0 rfl rfl 1 (by decide) (hts _ k_fl_Mo_13) (fun _ h9 => h9) rfl d_Mo_isOne_55 ?_
      refine lv_iload_n hx hb d_Mo_isOne_58 rfl (lv_at hl 3 rfl) ?_
      refine va_iald hx hb hK hP 2 1 rfl rfl (vp_in_nI (by omega) (by omega)) d_Mo_isOne_59 ?_
      refine wr_cv (z := (nI (P a))) (nF_at (by omega) (by omega)) ?_
      have f7 := hP8 a
      refine lv_bipush (v := (nI 93)) hx hb d_Mo_isOne_60 (by decide +kernel) ?_
      refine lv_icmp_eq (tgt := 156) hx hb d_Mo_isOne_62 (by decide) (fun c62 => ?_) (fun c62 => ?_)
      · have c62 : (P a) = 93 := (nI_eq (by omega) (by omega)).mp c62
        rw [wq_B_end (fun z => z.2 c62)] at hr
        subst hr
        rw [wq_E_end (fun z => z.2 c62)] at hq
        subst hq
        exact kk td H locs ls hP hD hS (lv_sub hl [0, 3, 2, 4] rfl)
      · have c62 : ¬ (P a) = 93 := fun hz => c62 ((nI_eq (by omega) (by omega)).mpr hz)
        have hq1 := wq_q1_gt P pn a
        have hq2 := wq_q1_le (P := P) (n := pn) (q := a) (by omega)
        have hh := wq_hi_lt hP8 pn a
        have hp1 := wq_pl_lt hP8 pn a
        have J151 : ∀ (x td : Int32) (H : Heap) (locs : List Loc) (ls : Array Slot), x = bI (is || wq_ok P pn a b) → va_P D classes (wM h ht hp hw hz cI cZ T n P pn V vn en td z) H → va_D A (wM h ht hp hw hz cI cZ T n P pn V vn en td z) → va_S A H0 H locs → lv_has ls 8 [(0, .ref h), (2, .int (nI b)), (4, .int (bI ng)), (5, .int (bI is)), (6, .int (nI (wq_pl P pn a))), (7, .int (nI (wq_hi P pn a))), (3, .int (nI (wq_q1 P pn a)))] → W p l e rm_Mo_isOne s m args below meth c H locs 0 0 Q (F0 m 151 ls [.int x]) := by
          intro x td H locs ls ex hP hD hS hl
          subst ex
          refine lv_istore (lv' := [(5, .int (bI (is || wq_ok P pn a b))), (0, .ref h), (2, .int (nI b)), (4, .int (bI ng)), (6, .int (nI (wq_pl P pn a))), (7, .int (nI (wq_hi P pn a))), (3, .int (nI (wq_q1 P pn a)))]) hx hb d_Mo_isOne_151 hl (by decide) rfl (fun ls hl => ?_)
          refine lv_goto (tgt := 46) hx hb d_Mo_isOne_153 (by decide) ?_
          exact ih (wq_q1 P pn a) _ (by omega) hq2 (by rw [← hr, wq_B_go (q := a) (by omega) c62]) (by rw [← hq, wq_E_go (q := a) (by omega) c62]) td H locs ls hP hD hS (lv_sub hl [1, 2, 3, 6, 0] rfl)
        have J129 : ∀ (y1 y2 : Nat) (td : Int32) (H : Heap) (locs : List Loc) (ls : Array Slot), y1 = wq_hi P pn a → y2 = wq_q1 P pn a → va_P D classes (wM h ht hp hw hz cI cZ T n P pn V vn en td z) H → va_D A (wM h ht hp hw hz cI cZ T n P pn V vn en td z) → va_S A H0 H locs → lv_has ls 8 [(0, .ref h), (2, .int (nI b)), (4, .int (bI ng)), (5, .int (bI is)), (6, .int (nI (wq_pl P pn a))), (7, .int (nI y1)), (3, .int (nI y2))] → W p l e rm_Mo_isOne s m args below meth c H locs 0 0 Q (F0 m 129 ls []) := by
          intro y1 y2 td H locs ls e1 e2 hP hD hS hl
          subst e1
          subst e2
          refine lv_iload hx hb d_Mo_isOne_129 (lv_at hl 3 rfl) ?_
          refine lv_if_ne (tgt := 146) hx hb d_Mo_isOne_131 (by decide) (fun c131 => ?_) (fun c131 => ?_)
          · have c131 : is = true := ts_b (fun hz => c131 (bI_0.mpr hz))
            refine lv_iconst (v := (nI 1)) hx hb d_Mo_isOne_146 (by decide +kernel) ?_
            refine lv_goto (tgt := 151) hx hb d_Mo_isOne_147 (by decide) ?_
            exact J151 _ td H locs ls (by first | (rw [c131]; rfl) | (rw [c131, wq_ok, decide_eq_true (And.intro (by omega) (by omega))]; rfl)) hP hD hS (lv_sub hl [0, 1, 2, 3, 4, 5, 6] rfl)
          · have c131 : is = false := bI_0.mp c131
            refine lv_iload_n hx hb d_Mo_isOne_134 rfl (lv_at hl 1 rfl) ?_
            refine lv_iload hx hb d_Mo_isOne_135 (lv_at hl 4 rfl) ?_
            refine lv_icmp_lt (tgt := 150) hx hb d_Mo_isOne_137 (by decide) (fun c8 => ?_) (fun c8 => ?_)
            · have c8 : b < (wq_pl P pn a) := (nI_ltI (by omega) (by omega)).mp c8
              refine lv_iconst (v := (nI 0)) hx hb d_Mo_isOne_150 (by decide +kernel) ?_
              exact J151 _ td H locs ls (by rw [c131, wq_ok, decide_eq_false (fun z => by omega)]; rfl) hP hD hS (lv_sub hl [0, 1, 2, 3, 4, 5, 6] rfl)
            · have c8 : ¬ b < (wq_pl P pn a) := fun hz => c8 ((nI_ltI (by omega) (by omega)).mpr hz)
              refine lv_iload_n hx hb d_Mo_isOne_140 rfl (lv_at hl 1 rfl) ?_
              refine lv_iload hx hb d_Mo_isOne_141 (lv_at hl 5 rfl) ?_
              refine lv_icmp_gt (tgt := 150) hx hb d_Mo_isOne_143 (by decide) (fun c9 => ?_) (fun c9 => ?_)
              · have c9 : (wq_hi P pn a) < b := (nI_ltI (by omega) (by omega)).mp c9
                refine lv_iconst (v := (nI 0)) hx hb d_Mo_isOne_150 (by decide +kernel) ?_
                exact J151 _ td H locs ls (by rw [c131, wq_ok, decide_eq_false (fun z => by omega)]; rfl) hP hD hS (lv_sub hl [0, 1, 2, 3, 4, 5, 6] rfl)
              · have c9 : ¬ (wq_hi P pn a) < b := fun hz => c9 ((nI_ltI (by omega) (by omega)).mpr hz)
                refine lv_iconst (v := (nI 1)) hx hb d_Mo_isOne_146 (by decide +kernel) ?_
                refine lv_goto (tgt := 151) hx hb d_Mo_isOne_147 (by decide) ?_
                exact J151 _ td H locs ls (by first | (rw [c131]; rfl) | (rw [c131, wq_ok, decide_eq_true (And.intro (by omega) (by omega))]; rfl)) hP hD hS (lv_sub hl [0, 1, 2, 3, 4, 5, 6] rfl)
        refine lv_aload_n hx hb d_Mo_isOne_65 rfl (lv_at hl 0 rfl) ?_
        refine lv_iload_n hx hb d_Mo_isOne_66 rfl (lv_at hl 3 rfl) ?_
        refine wr_ci (As := [.int (nI a)]) (rest := []) (wr := []) (wc := wM h ht hp hw hz cI cZ T n P pn V vn en td z) S (c_Mo_tells l D cB cI cZ h ht hp hw hz T hT8 n hn P hP8 pn hpn V hV8 vn hvn a (by omega) en td z H.size) (cwV 1 hts g_Mo_40 rfl rfl rfl (by decide +kernel) ⟨Nat.le_of_ble_eq_true rfl, Nat.le_of_ble_eq_true rfl⟩) hK hP hD hS hA [0, 1, 2, 3, 4] [] rfl rfl (by decide) rfl (by decide) (by decide) (ci := 2) (q0 := 0) rfl rfl rfl rfl hl.1 rfl (lv_room (Nat.le_of_ble_eq_true rfl)) d_Mo_isOne_67 ⟨Nat.zero_le _, Nat.zero_le _⟩ (fun r9 u9 H locs hpo hj hS => ?_)
        obtain ⟨e1, e2⟩ := hpo
        subst e1
        subst e2
        obtain ⟨hP, hD⟩ := hj rfl
        have hP : va_P D classes (wM h ht hp hw hz cI cZ T n P pn V vn en (nI (wq_pl P pn a)) z) H := hP
        have hD : va_D _ (wM h ht hp hw hz cI cZ T n P pn V vn en (nI (wq_pl P pn a)) z) := hD
        have f10 := wq_nx_le (P := P) (n := pn) (q := a) (by omega)
        have f11 := wq_nx_gt P pn a
        have f12 := wq_pl_lt hP8 pn a
        refine lv_istore_n (lv' := [(3, .int (nI (wq_nx P pn a))), (0, .ref h), (2, .int (nI b)), (4, .int (bI ng)), (5, .int (bI is))]) hx hb d_Mo_isOne_70 rfl hl (by decide) rfl (fun ls hl => ?_)
        refine lv_aload_n hx hb d_Mo_isOne_71 rfl (lv_at hl 1 rfl) ?_
        refine va_get (D := D) (ci := 2) (v := .int (nI (wq_pl P pn a))) (C := R_Mo) (T := F_Mo) (N := 9) hx hb hts i_Mo hown hK hP 0 rfl rfl 7 (by decide) (hts _ k_fl_Mo_37) (fun _ h9 => h9) rfl d_Mo_isOne_72 ?_
        refine lv_istore (lv' := [(6, .int (nI (wq_pl P pn a))), (3, .int (nI (wq_nx P pn a))), (0, .ref h), (2, .int (nI b)), (4, .int (bI ng)), (5, .int (bI is))]) hx hb d_Mo_isOne_75 hl (by decide) rfl (fun ls hl => ?_)
        refine lv_iload hx hb d_Mo_isOne_77 (lv_at hl 0 rfl) ?_
        refine lv_istore (lv' := [(7, .int (nI (wq_pl P pn a))), (6, .int (nI (wq_pl P pn a))), (3, .int (nI (wq_nx P pn a))), (0, .ref h), (2, .int (nI b)), (4, .int (bI ng)), (5, .int (bI is))]) hx hb d_Mo_isOne_79 hl (by decide) rfl (fun ls hl => ?_)
        refine lv_iload_n hx hb d_Mo_isOne_81 rfl (lv_at hl 2 rfl) ?_
        refine lv_iconst (v := (nI 1)) hx hb d_Mo_isOne_82 (by decide +kernel) ?_
        refine lv_iadd hx hb d_Mo_isOne_83 ?_
        refine wr_cv (z := (nI (wq_nx P pn a + 1))) (nI_add (wq_nx P pn a) 1) ?_
        refine lv_aload_n hx hb d_Mo_isOne_84 rfl (lv_at hl 3 rfl) ?_
        refine va_get (D := D) (ci := 2) (v := .int (nI pn)) (C := R_Mo) (T := F_Mo) (N := 9) hx hb hts i_Mo hown hK hP 0 rfl rfl 4 (by decide) (hts _ k_fl_Mo_31) (fun _ h9 => h9) rfl d_Mo_isOne_85 ?_
        refine lv_icmp_ge (tgt := 129) hx hb d_Mo_isOne_88 (by decide) (fun c88 => ?_) (fun c88 => ?_)
        · have c88 : pn ≤ (wq_nx P pn a + 1) := (nI_leI (by omega) (by omega)).mp c88
          exact J129 _ _ _ H _ ls (by rw [wq_hi, if_neg (by first | exact fun z => absurd z.1 (by omega) | exact fun z => c99 z.2.1 | exact fun z => z.2.2 c112)]) (by rw [wq_q1, if_neg (by first | exact fun z => absurd z.1 (by omega) | exact fun z => c99 z.2.1 | exact fun z => z.2.2 c112)]) hP hD hS (lv_sub hl [3, 4, 5, 6, 1, 0, 2] rfl)
        · have c88 : ¬ pn ≤ (wq_nx P pn a + 1) := fun hz => c88 ((nI_leI (by omega) (by omega)).mpr hz)
          refine lv_aload_n hx hb d_Mo_isOne_91 rfl (lv_at hl 3 rfl) ?_
          refine va_get (D := D) (ci := 2) (v := .ref hp) (C := R_Mo) (T := F_Mo) (N := 9) hx hb hts i_Mo hown hK hP 0 rfl rfl 1 (by decide) (hts _ k_fl_Mo_13) (fun _ h9 => h9) rfl d_Mo_isOne_92 ?_
          refine lv_iload_n hx hb d_Mo_isOne_95 rfl (lv_at hl 2 rfl) ?_
          refine va_iald hx hb hK hP 2 1 rfl rfl (vp_in_nI (by omega) (by omega)) d_Mo_isOne_96 ?_
          refine wr_cv (z := (nI (P (wq_nx P pn a)))) (nF_at (by omega) (by omega)) ?_
          have f13 := hP8 (wq_nx P pn a)
          refine lv_bipush (v := (nI 45)) hx hb d_Mo_isOne_97 (by decide +kernel) ?_
          refine lv_icmp_ne (tgt := 129) hx hb d_Mo_isOne_99 (by decide) (fun c99 => ?_) (fun c99 => ?_)
          · have c99 : ¬ (P (wq_nx P pn a)) = 45 := fun hz => c99 ((nI_eq (by omega) (by omega)).mpr hz)
            exact J129 _ _ _ H _ ls (by rw [wq_hi, if_neg (by first | exact fun z => absurd z.1 (by omega) | exact fun z => c99 z.2.1 | exact fun z => z.2.2 c112)]) (by rw [wq_q1, if_neg (by first | exact fun z => absurd z.1 (by omega) | exact fun z => c99 z.2.1 | exact fun z => z.2.2 c112)]) hP hD hS (lv_sub hl [3, 4, 5, 6, 1, 0, 2] rfl)
          · have c99 : (P (wq_nx P pn a)) = 45 := (nI_eq (by omega) (by omega)).mp c99
            refine lv_aload_n hx hb d_Mo_isOne_102 rfl (lv_at hl 3 rfl) ?_
            refine va_get (D := D) (ci := 2) (v := .ref hp) (C := R_Mo) (T := F_Mo) (N := 9) hx hb hts i_Mo hown hK hP 0 rfl rfl 1 (by decide) (hts _ k_fl_Mo_13) (fun _ h9 => h9) rfl d_Mo_isOne_103 ?_
            refine lv_iload_n hx hb d_Mo_isOne_106 rfl (lv_at hl 2 rfl) ?_
            refine lv_iconst (v := (nI 1)) hx hb d_Mo_isOne_107 (by decide +kernel) ?_
            refine lv_iadd hx hb d_Mo_isOne_108 ?_
            refine wr_cv (z := (nI (wq_nx P pn a + 1))) (nI_add (wq_nx P pn a) 1) ?_
            refine va_iald hx hb hK hP 2 1 rfl rfl (vp_in_nI (by omega) (by omega)) d_Mo_isOne_109 ?_
            refine wr_cv (z := (nI (P (wq_nx P pn a + 1)))) (nF_at (by omega) (by omega)) ?_
            have f14 := hP8 (wq_nx P pn a + 1)
            refine lv_bipush (v := (nI 93)) hx hb d_Mo_isOne_110 (by decide +kernel) ?_
            refine lv_icmp_eq (tgt := 129) hx hb d_Mo_isOne_112 (by decide) (fun c112 => ?_) (fun c112 => ?_)
            · have c112 : (P (wq_nx P pn a + 1)) = 93 := (nI_eq (by omega) (by omega)).mp c112
              exact J129 _ _ _ H _ ls (by rw [wq_hi, if_neg (by first | exact fun z => absurd z.1 (by omega) | exact fun z => c99 z.2.1 | exact fun z => z.2.2 c112)]) (by rw [wq_q1, if_neg (by first | exact fun z => absurd z.1 (by omega) | exact fun z => c99 z.2.1 | exact fun z => z.2.2 c112)]) hP hD hS (lv_sub hl [3, 4, 5, 6, 1, 0, 2] rfl)
            · have c112 : ¬ (P (wq_nx P pn a + 1)) = 93 := fun hz => c112 ((nI_eq (by omega) (by omega)).mpr hz)
              refine lv_aload_n hx hb d_Mo_isOne_115 rfl (lv_at hl 3 rfl) ?_
              refine lv_iload_n hx hb d_Mo_isOne_116 rfl (lv_at hl 2 rfl) ?_
              refine lv_iconst (v := (nI 1)) hx hb d_Mo_isOne_117 (by decide +kernel) ?_
              refine lv_iadd hx hb d_Mo_isOne_118 ?_
              refine wr_cv (z := (nI (wq_nx P pn a + 1))) (nI_add (wq_nx P pn a) 1) ?_
              refine wr_ci (As := [.int (nI (wq_nx P pn a + 1))]) (rest := []) (wr := []) (wc := wM h ht hp hw hz cI cZ T n P pn V vn en (nI (wq_pl P pn a)) z) S (c_Mo_tells l D cB cI cZ h ht hp hw hz T hT8 n hn P hP8 pn hpn V hV8 vn hvn (wq_nx P pn a + 1) (by omega) en (nI (wq_pl P pn a)) z H.size) (cwV 1 hts g_Mo_40 rfl rfl rfl (by decide +kernel) ⟨Nat.le_of_ble_eq_true rfl, Nat.le_of_ble_eq_true rfl⟩) hK hP hD hS hA [0, 1, 2, 3, 4] [] rfl rfl (by decide) rfl (by decide) (by decide) (ci := 2) (q0 := 0) rfl rfl rfl rfl hl.1 rfl (lv_room (Nat.le_of_ble_eq_true rfl)) d_Mo_isOne_119 ⟨Nat.zero_le _, Nat.zero_le _⟩ (fun r9 u9 H locs hpo hj hS => ?_)
              obtain ⟨e1, e2⟩ := hpo
              subst e1
              subst e2
              obtain ⟨hP, hD⟩ := hj rfl
              have hP : va_P D classes (wM h ht hp hw hz cI cZ T n P pn V vn en (nI (wq_pl P pn (wq_nx P pn a + 1))) z) H := hP
              have hD : va_D _ (wM h ht hp hw hz cI cZ T n P pn V vn en (nI (wq_pl P pn (wq_nx P pn a + 1))) z) := hD
              have f15 := wq_nx_le (P := P) (n := pn) (q := wq_nx P pn a + 1) (by omega)
              have f16 := wq_nx_gt P pn (wq_nx P pn a + 1)
              have f17 := wq_pl_lt hP8 pn (wq_nx P pn a + 1)
              refine lv_istore_n (lv' := [(3, .int (nI (wq_nx P pn (wq_nx P pn a + 1)))), (7, .int (nI (wq_pl P pn a))), (6, .int (nI (wq_pl P pn a))), (0, .ref h), (2, .int (nI b)), (4, .int (bI ng)), (5, .int (bI is))]) hx hb d_Mo_isOne_122 rfl hl (by decide) rfl (fun ls hl => ?_)
              refine lv_aload_n hx hb d_Mo_isOne_123 rfl (lv_at hl 3 rfl) ?_
              refine va_get (D := D) (ci := 2) (v := .int (nI (wq_pl P pn (wq_nx P pn a + 1)))) (C := R_Mo) (T := F_Mo) (N := 9) hx hb hts i_Mo hown hK hP 0 rfl rfl 7 (by decide) (hts _ k_fl_Mo_37) (fun _ h9 => h9) rfl d_Mo_isOne_124 ?_
              refine lv_istore (lv' := [(7, .int (nI (wq_pl P pn (wq_nx P pn a + 1)))), (3, .int (nI (wq_nx P pn (wq_nx P pn a + 1)))), (6, .int (nI (wq_pl P pn a))), (0, .ref h), (2, .int (nI b)), (4, .int (bI ng)), (5, .int (bI is))]) hx hb d_Mo_isOne_127 hl (by decide) rfl (fun ls hl => ?_)
              exact J129 _ _ _ H _ ls (by rw [wq_hi, if_pos ⟨by omega, c99, c112⟩]) (by rw [wq_q1, if_pos ⟨by omega, c99, c112⟩]) hP hD hS (lv_sub hl [3, 4, 5, 6, 2, 0, 1] rfl)
set_option maxHeartbeats 4000000 in
set_option maxRecDepth 100000 in
theorem c_Mo_isOne (l : Launch) (D : va_G) (cB cI cZ : ClassId) (h ht hp hw hz : Nat) (T : Nat → Nat) (hT8 : ∀ k, T k < 256) (n : Nat) (hn : n ≤ 400) (P : Nat → Nat) (hP8 : ∀ k, P k < 256) (pn : Nat) (hpn : pn ≤ 400) (V : Nat → Nat) (hV8 : ∀ k, V k < 256) (vn : Nat) (hvn : vn ≤ 400) (a b : Nat) (ha : a < pn) (hbb : b < 256) (h91 : P a = 91) (en td : Int32) (z : Nat → Int32) (sz : Nat) : Met l y_Mo_isOne w_Mo_isOne rm_Mo_isOne (Pm D cB cI cZ sz [.ref h, .int (nI a), .int (nI b)] (wM h ht hp hw hz cI cZ T n P pn V vn en td z)) (Qm D (fun r u => r = bI (wq_tk P pn a b) ∧ ∃ td, u = wM h ht hp hw hz cI cZ T n P pn V vn (nI (wq_be P pn a)) td z) (wM h ht hp hw hz cI cZ T n P pn V vn en td z) sz) 0 0 (va_A (wM h ht hp hw hz cI cZ T n P pn V vn en td z) sz) := by
  refine Met.ofW (cc := b_Mo_isOne) (maxL := 8) (ret := (some .boolean)) (by decide) rfl ?_
  intro p e s m args below meth c s₁ B hml hv
  obtain ⟨rfl, hsz, hP, hK, hD0⟩ := hv
  have hx := B.exec
  have hb := B.bytes
  have hr := B.returns
  have hts0 := atoms_spec (ws := w_Mo_isOne) B.pre
  have hts : ∀ w ∈ gw, w.before _ s = true := fun w hw => hts0 w (List.mem_cons_of_mem _ hw)
  have hown : s.vm.findClass R_Mo = some m.cls := findClass_of_methodNamed B.named
  have hlocks := B.notSynchronized
  have S : CallFix p m c b_Mo_isOne 8 s _ gw R_Mo := ⟨hx, hb, hml, hown, hts⟩
  subst hsz
  have hD := hD0.self (sz := s.heap.size)
  have hA : ∀ q : Nat, s.heap.size ≤ q → va_A (wM h ht hp hw hz cI cZ T n P pn V vn en td z) s.heap.size q := fun q h => Or.inr h
  have hS : va_S (va_A (wM h ht hp hw hz cI cZ T n P pn V vn en td z) s.heap.size) s.heap s.heap [] := va_S.rf
  have hl := lv_entry ([.ref h, .int (nI a), .int (nI b)]) (n := 8) (Nat.le_of_ble_eq_true rfl)
  rw [lg_entry_eq]
  generalize (lg_sl ([.ref h, .int (nI a), .int (nI b)]) ++ List.replicate (8 - (lg_sl ([.ref h, .int (nI a), .int (nI b)])).length) Slot.unset).toArray = ls at hl ⊢
  have hl : lv_has ls 8 [(0, .ref h), (1, .int (nI a)), (2, .int (nI b))] := hl
  show W p l e rm_Mo_isOne s m _ below meth c s.heap [] 0 0 _ (F0 m 0 ls [])
  refine lv_iload_n hx hb d_Mo_isOne_0 rfl (lv_at hl 1 rfl) ?_
  refine lv_iconst (v := (nI 1)) hx hb d_Mo_isOne_1 (by decide +kernel) ?_
  refine lv_iadd hx hb d_Mo_isOne_2 ?_
  refine wr_cv (z := (nI (a + 1))) (nI_add a 1) ?_
  refine lv_istore_n (lv' := [(3, .int (nI (a + 1))), (0, .ref h), (1, .int (nI a)), (2, .int (nI b))]) hx hb d_Mo_isOne_3 rfl hl (by decide) rfl (fun ls hl => ?_)
  refine lv_iload_n hx hb d_Mo_isOne_4 rfl (lv_at hl 0 rfl) ?_
  refine lv_aload_n hx hb d_Mo_isOne_5 rfl (lv_at hl 1 rfl) ?_
  refine va_get (D := D) (ci := 2) (v := .int (nI pn)) (C := R_Mo) (T := F_Mo) (N := 9) hx hb hts i_Mo hown hK hP 0 rfl rfl 4 (by decide) (hts _ k_fl_Mo_31) (fun _ h9 => h9) rfl d_Mo_isOne_6 ?_
  refine lv_icmp_ge (tgt := 27) hx hb d_Mo_isOne_9 (by decide) (fun c9 => ?_) (fun c9 => ?_)
  · have c9 : pn ≤ (a + 1) := (nI_leI (by omega) (by omega)).mp c9
    refine lv_iconst (v := (nI 0)) hx hb d_Mo_isOne_27 (by decide +kernel) ?_
    refine wr_cv (z := (bI (wq_ng P pn a))) (by rw [wq_ng, decide_eq_false (fun z => absurd z.1 (by omega))]; rfl) ?_
    refine lv_istore (lv' := [(4, .int (bI (wq_ng P pn a))), (3, .int (nI (a + 1))), (0, .ref h), (1, .int (nI a)), (2, .int (nI b))]) hx hb d_Mo_isOne_28 hl (by decide) rfl (fun ls hl => ?_)
    refine lv_iload_n hx hb d_Mo_isOne_30 rfl (lv_at hl 1 rfl) ?_
    refine lv_iload hx hb d_Mo_isOne_31 (lv_at hl 0 rfl) ?_
    refine lv_if_eq (tgt := 40) hx hb d_Mo_isOne_33 (by decide) (fun c33 => ?_) (fun c33 => ?_)
    · have c33 : (wq_ng P pn a) = false := bI_0.mp c33
      refine lv_iconst (v := (nI 0)) hx hb d_Mo_isOne_40 (by decide +kernel) ?_
      refine lv_iadd hx hb d_Mo_isOne_41 ?_
      refine wr_cv (z := (nI (a + 1 + 0))) (nI_add (a + 1) 0) ?_
      refine wr_cv (z := (nI (wq_q0 P pn a))) (congrArg nI (by have z : wq_q0 P pn a = a + 1 := if_neg (of_decide_eq_false c33); omega)) ?_
      refine lv_istore_n (lv' := [(3, .int (nI (wq_q0 P pn a))), (4, .int (bI (wq_ng P pn a))), (0, .ref h), (1, .int (nI a)), (2, .int (nI b))]) hx hb d_Mo_isOne_42 rfl hl (by decide) rfl (fun ls hl => ?_)
      refine lv_iconst (v := (nI 0)) hx hb d_Mo_isOne_43 (by decide +kernel) ?_
      refine wr_cv (z := (bI false)) rfl ?_
      refine lv_istore (lv' := [(5, .int (bI false)), (3, .int (nI (wq_q0 P pn a))), (4, .int (bI (wq_ng P pn a))), (0, .ref h), (1, .int (nI a)), (2, .int (nI b))]) hx hb d_Mo_isOne_44 hl (by decide) rfl (fun ls hl => ?_)
      have hq0 := wq_q0_in (P := P) ha
      have hsk := wq_sk_in P pn (pn - wq_q0 P pn a) (wq_q0 P pn a) (Nat.le_refl _) hq0.2
      have hEs := wq_E_sk P pn (pn - wq_q0 P pn a) (wq_q0 P pn a) (Nat.le_refl _)
      have hbe : wq_be P pn a = min (wq_sk P pn (wq_q0 P pn a) + 1) pn := if_pos h91
      refine lp_isOne hA hT8 hn hP8 hpn hV8 hvn hbb S hK (r := wq_B P pn b (wq_q0 P pn a) false) (q9 := wq_sk P pn (wq_q0 P pn a)) (fun td H locs ls hP hD hS hl => ?_) (pn + 1) (wq_q0 P pn a) false (by omega) hq0.2 rfl hEs td s.heap [] ls hP hD hS (lv_sub hl [3, 5, 2, 1, 0] rfl)
      refine lv_aload_n hx hb d_Mo_isOne_156 rfl (lv_at hl 0 rfl) ?_
      refine lv_iload_n hx hb d_Mo_isOne_157 rfl (lv_at hl 1 rfl) ?_
      refine lv_aload_n hx hb d_Mo_isOne_158 rfl (lv_at hl 0 rfl) ?_
      refine va_get (D := D) (ci := 2) (v := .int (nI pn)) (C := R_Mo) (T := F_Mo) (N := 9) hx hb hts i_Mo hown hK hP 0 rfl rfl 4 (by decide) (hts _ k_fl_Mo_31) (fun _ h9 => h9) rfl d_Mo_isOne_159 ?_
      refine lv_icmp_ge (tgt := 171) hx hb d_Mo_isOne_162 (by decide) (fun c18 => ?_) (fun c18 => ?_)
      · have c18 : pn ≤ (wq_sk P pn (wq_q0 P pn a)) := (nI_leI (by omega) (by omega)).mp c18
        refine lv_iload_n hx hb d_Mo_isOne_171 rfl (lv_at hl 1 rfl) ?_
        refine wr_cv (z := (nI (wq_be P pn a))) (congrArg nI (by omega)) ?_
        refine va_put (D := D) (ci := 2) (v := .int (nI (wq_be P pn a))) (ty := .int) (C := R_Mo) (T := F_Mo) (N := 9) hx hb hts i_Mo t_Mo t_Mo_ok n_Mo hown hK hP hD hS 0 rfl rfl 6 (by decide) (hts _ k_fl_Mo_44) (fun _ h9 => h9) rfl (by decide +kernel) rfl rfl (Nat.le_of_ble_eq_true rfl) d_Mo_isOne_172 (fun H locs hP hD hS => ?_)
        have hP : va_P D classes (wM h ht hp hw hz cI cZ T n P pn V vn (nI (wq_be P pn a)) td z) H := hP
        have hD : va_D _ (wM h ht hp hw hz cI cZ T n P pn V vn (nI (wq_be P pn a)) td z) := hD
        refine lv_iload hx hb d_Mo_isOne_175 (lv_at hl 3 rfl) ?_
        refine lv_iload hx hb d_Mo_isOne_177 (lv_at hl 2 rfl) ?_
        refine lv_icmp_eq (tgt := 186) hx hb d_Mo_isOne_179 (by decide) (fun c179 => ?_) (fun c179 => ?_)
        · have c179 : (wq_B P pn b (wq_q0 P pn a) false) = (wq_ng P pn a) := bI_inj.mp c179
          refine lv_iconst (v := (nI 0)) hx hb d_Mo_isOne_186 (by decide +kernel) ?_
          refine wr_cv (z := bI (wq_tk P pn a b)) (by rw [wq_tk, if_pos h91, c179, bne_self_eq_false]; rfl) ?_
          exact W.zret hx hb hr (bI_nar _) (fun t ht9 _ => ⟨⟨_, _, rfl, ⟨rfl, _, rfl⟩, by show va_P D classes _ t.heap; rw [ht9]; exact hP⟩, hS.F ht9⟩) hS.2.2 d_Mo_isOne_187
        · have c179 : ¬ (wq_B P pn b (wq_q0 P pn a) false) = (wq_ng P pn a) := fun hz => c179 (bI_inj.mpr hz)
          refine lv_iconst (v := (nI 1)) hx hb d_Mo_isOne_182 (by decide +kernel) ?_
          refine lv_goto (tgt := 187) hx hb d_Mo_isOne_183 (by decide) ?_
          refine wr_cv (z := bI (wq_tk P pn a b)) (by rw [wq_tk, if_pos h91, bne_iff_ne.mpr c179]; rfl) ?_
          exact W.zret hx hb hr (bI_nar _) (fun t ht9 _ => ⟨⟨_, _, rfl, ⟨rfl, _, rfl⟩, by show va_P D classes _ t.heap; rw [ht9]; exact hP⟩, hS.F ht9⟩) hS.2.2 d_Mo_isOne_187
      · have c18 : ¬ pn ≤ (wq_sk P pn (wq_q0 P pn a)) := fun hz => c18 ((nI_leI (by omega) (by omega)).mpr hz)
        refine lv_iload_n hx hb d_Mo_isOne_165 rfl (lv_at hl 1 rfl) ?_
        refine lv_iconst (v := (nI 1)) hx hb d_Mo_isOne_166 (by decide +kernel) ?_
        refine lv_iadd hx hb d_Mo_isOne_167 ?_
        refine wr_cv (z := (nI (wq_sk P pn (wq_q0 P pn a) + 1))) (nI_add (wq_sk P pn (wq_q0 P pn a)) 1) ?_
        refine lv_goto (tgt := 172) hx hb d_Mo_isOne_168 (by decide) ?_
        refine wr_cv (z := (nI (wq_be P pn a))) (congrArg nI (by omega)) ?_
        refine va_put (D := D) (ci := 2) (v := .int (nI (wq_be P pn a))) (ty := .int) (C := R_Mo) (T := F_Mo) (N := 9) hx hb hts i_Mo t_Mo t_Mo_ok n_Mo hown hK hP hD hS 0 rfl rfl 6 (by decide) (hts _ k_fl_Mo_44) (fun _ h9 => h9) rfl (by decide +kernel) rfl rfl (Nat.le_of_ble_eq_true rfl) d_Mo_isOne_172 (fun H locs hP hD hS => ?_)
        have hP : va_P D classes (wM h ht hp hw hz cI cZ T n P pn V vn (nI (wq_be P pn a)) td z) H := hP
        have hD : va_D _ (wM h ht hp hw hz cI cZ T n P pn V vn (nI (wq_be P pn a)) td z) := hD
        refine lv_iload hx hb d_Mo_isOne_175 (lv_at hl 3 rfl) ?_
        refine lv_iload hx hb d_Mo_isOne_177 (lv_at hl 2 rfl) ?_
        refine lv_icmp_eq (tgt := 186) hx hb d_Mo_isOne_179 (by decide) (fun c179 => ?_) (fun c179 => ?_)
        · have c179 : (wq_B P pn b (wq_q0 P pn a) false) = (wq_ng P pn a) := bI_inj.mp c179
          refine lv_iconst (v := (nI 0)) hx hb d_Mo_isOne_186 (by decide +kernel) ?_
          refine wr_cv (z := bI (wq_tk P pn a b)) (by rw [wq_tk, if_pos h91, c179, bne_self_eq_false]; rfl) ?_
          exact W.zret hx hb hr (bI_nar _) (fun t ht9 _ => ⟨⟨_, _, rfl, ⟨rfl, _, rfl⟩, by show va_P D classes _ t.heap; rw [ht9]; exact hP⟩, hS.F ht9⟩) hS.2.2 d_Mo_isOne_187
        · have c179 : ¬ (wq_B P pn b (wq_q0 P pn a) false) = (wq_ng P pn a) := fun hz => c179 (bI_inj.mpr hz)
          refine lv_iconst (v := (nI 1)) hx hb d_Mo_isOne_182 (by decide +kernel) ?_
          refine lv_goto (tgt := 187) hx hb d_Mo_isOne_183 (by decide) ?_
          refine wr_cv (z := bI (wq_tk P pn a b)) (by rw [wq_tk, if_pos h91, bne_iff_ne.mpr c179]; rfl) ?_
          exact W.zret hx hb hr (bI_nar _) (fun t ht9 _ => ⟨⟨_, _, rfl, ⟨rfl, _, rfl⟩, by show va_P D classes _ t.heap; rw [ht9]; exact hP⟩, hS.F ht9⟩) hS.2.2 d_Mo_isOne_187
    · have c33 : (wq_ng P pn a) = true := ts_b (fun hz => c33 (bI_0.mpr hz))
      refine lv_iconst (v := (nI 1)) hx hb d_Mo_isOne_36 (by decide +kernel) ?_
      refine lv_goto (tgt := 41) hx hb d_Mo_isOne_37 (by decide) ?_
      refine lv_iadd hx hb d_Mo_isOne_41 ?_
      refine wr_cv (z := (nI (a + 1 + 1))) (nI_add (a + 1) 1) ?_
      refine wr_cv (z := (nI (wq_q0 P pn a))) (congrArg nI (by have z : wq_q0 P pn a = a + 2 := if_pos (of_decide_eq_true c33); omega)) ?_
      refine lv_istore_n (lv' := [(3, .int (nI (wq_q0 P pn a))), (4, .int (bI (wq_ng P pn a))), (0, .ref h), (1, .int (nI a)), (2, .int (nI b))]) hx hb d_Mo_isOne_42 rfl hl (by decide) rfl (fun ls hl => ?_)
      refine lv_iconst (v := (nI 0)) hx hb d_Mo_isOne_43 (by decide +kernel) ?_
      refine wr_cv (z := (bI false)) rfl ?_
      refine lv_istore (lv' := [(5, .int (bI false)), (3, .int (nI (wq_q0 P pn a))), (4, .int (bI (wq_ng P pn a))), (0, .ref h), (1, .int (nI a)), (2, .int (nI b))]) hx hb d_Mo_isOne_44 hl (by decide) rfl (fun ls hl => ?_)
      have hq0 := wq_q0_in (P := P) ha
      have hsk := wq_sk_in P pn (pn - wq_q0 P pn a) (wq_q0 P pn a) (Nat.le_refl _) hq0.2
      have hEs := wq_E_sk P pn (pn - wq_q0 P pn a) (wq_q0 P pn a) (Nat.le_refl _)
      have hbe : wq_be P pn a = min (wq_sk P pn (wq_q0 P pn a) + 1) pn := if_pos h91
      refine lp_isOne hA hT8 hn hP8 hpn hV8 hvn hbb S hK (r := wq_B P pn b (wq_q0 P pn a) false) (q9 := wq_sk P pn (wq_q0 P pn a)) (fun td H locs ls hP hD hS hl => ?_) (pn + 1) (wq_q0 P pn a) false (by omega) hq0.2 rfl hEs td s.heap [] ls hP hD hS (lv_sub hl [3, 5, 2, 1, 0] rfl)
      refine lv_aload_n hx hb d_Mo_isOne_156 rfl (lv_at hl 0 rfl) ?_
      refine lv_iload_n hx hb d_Mo_isOne_157 rfl (lv_at hl 1 rfl) ?_
      refine lv_aload_n hx hb d_Mo_isOne_158 rfl (lv_at hl 0 rfl) ?_
      refine va_get (D := D) (ci := 2) (v := .int (nI pn)) (C := R_Mo) (T := F_Mo) (N := 9) hx hb hts i_Mo hown hK hP 0 rfl rfl 4 (by decide) (hts _ k_fl_Mo_31) (fun _ h9 => h9) rfl d_Mo_isOne_159 ?_
      refine lv_icmp_ge (tgt := 171) hx hb d_Mo_isOne_162 (by decide) (fun c19 => ?_) (fun c19 => ?_)
      · have c19 : pn ≤ (wq_sk P pn (wq_q0 P pn a)) := (nI_leI (by omega) (by omega)).mp c19
        refine lv_iload_n hx hb d_Mo_isOne_171 rfl (lv_at hl 1 rfl) ?_
        refine wr_cv (z := (nI (wq_be P pn a))) (congrArg nI (by omega)) ?_
        refine va_put (D := D) (ci := 2) (v := .int (nI (wq_be P pn a))) (ty := .int) (C := R_Mo) (T := F_Mo) (N := 9) hx hb hts i_Mo t_Mo t_Mo_ok n_Mo hown hK hP hD hS 0 rfl rfl 6 (by decide) (hts _ k_fl_Mo_44) (fun _ h9 => h9) rfl (by decide +kernel) rfl rfl (Nat.le_of_ble_eq_true rfl) d_Mo_isOne_172 (fun H locs hP hD hS => ?_)
        have hP : va_P D classes (wM h ht hp hw hz cI cZ T n P pn V vn (nI (wq_be P pn a)) td z) H := hP
        have hD : va_D _ (wM h ht hp hw hz cI cZ T n P pn V vn (nI (wq_be P pn a)) td z) := hD
        refine lv_iload hx hb d_Mo_isOne_175 (lv_at hl 3 rfl) ?_
        refine lv_iload hx hb d_Mo_isOne_177 (lv_at hl 2 rfl) ?_
        refine lv_icmp_eq (tgt := 186) hx hb d_Mo_isOne_179 (by decide) (fun c179 => ?_) (fun c179 => ?_)
        · have c179 : (wq_B P pn b (wq_q0 P pn a) false) = (wq_ng P pn a) := bI_inj.mp c179
          refine lv_iconst (v := (nI 0)) hx hb d_Mo_isOne_186 (by decide +kernel) ?_
          refine wr_cv (z := bI (wq_tk P pn a b)) (by rw [wq_tk, if_pos h91, c179, bne_self_eq_false]; rfl) ?_
          exact W.zret hx hb hr (bI_nar _) (fun t ht9 _ => ⟨⟨_, _, rfl, ⟨rfl, _, rfl⟩, by show va_P D classes _ t.heap; rw [ht9]; exact hP⟩, hS.F ht9⟩) hS.2.2 d_Mo_isOne_187
        · have c179 : ¬ (wq_B P pn b (wq_q0 P pn a) false) = (wq_ng P pn a) := fun hz => c179 (bI_inj.mpr hz)
          refine lv_iconst (v := (nI 1)) hx hb d_Mo_isOne_182 (by decide +kernel) ?_
          refine lv_goto (tgt := 187) hx hb d_Mo_isOne_183 (by decide) ?_
          refine wr_cv (z := bI (wq_tk P pn a b)) (by rw [wq_tk, if_pos h91, bne_iff_ne.mpr c179]; rfl) ?_
          exact W.zret hx hb hr (bI_nar _) (fun t ht9 _ => ⟨⟨_, _, rfl, ⟨rfl, _, rfl⟩, by show va_P D classes _ t.heap; rw [ht9]; exact hP⟩, hS.F ht9⟩) hS.2.2 d_Mo_isOne_187
      · have c19 : ¬ pn ≤ (wq_sk P pn (wq_q0 P pn a)) := fun hz => c19 ((nI_leI (by omega) (by omega)).mpr hz)
        refine lv_iload_n hx hb d_Mo_isOne_165 rfl (lv_at hl 1 rfl) ?_
        refine lv_iconst (v := (nI 1)) hx hb d_Mo_isOne_166 (by decide +kernel) ?_
        refine lv_iadd hx hb d_Mo_isOne_167 ?_
        refine wr_cv (z := (nI (wq_sk P pn (wq_q0 P pn a) + 1))) (nI_add (wq_sk P pn (wq_q0 P pn a)) 1) ?_
        refine lv_goto (tgt := 172) hx hb d_Mo_isOne_168 (by decide) ?_
        refine wr_cv (z := (nI (wq_be P pn a))) (congrArg nI (by omega)) ?_
        refine va_put (D := D) (ci := 2) (v := .int (nI (wq_be P pn a))) (ty := .int) (C := R_Mo) (T := F_Mo) (N := 9) hx hb hts i_Mo t_Mo t_Mo_ok n_Mo hown hK hP hD hS 0 rfl rfl 6 (by decide) (hts _ k_fl_Mo_44) (fun _ h9 => h9) rfl (by decide +kernel) rfl rfl (Nat.le_of_ble_eq_true rfl) d_Mo_isOne_172 (fun H locs hP hD hS => ?_)
        have hP : va_P D classes (wM h ht hp hw hz cI cZ T n P pn V vn (nI (wq_be P pn a)) td z) H := hP
        have hD : va_D _ (wM h ht hp hw hz cI cZ T n P pn V vn (nI (wq_be P pn a)) td z) := hD
        refine lv_iload hx hb d_Mo_isOne_175 (lv_at hl 3 rfl) ?_
        refine lv_iload hx hb d_Mo_isOne_177 (lv_at hl 2 rfl) ?_
        refine lv_icmp_eq (tgt := 186) hx hb d_Mo_isOne_179 (by decide) (fun c179 => ?_) (fun c179 => ?_)
        · have c179 : (wq_B P pn b (wq_q0 P pn a) false) = (wq_ng P pn a) := bI_inj.mp c179
          refine lv_iconst (v := (nI 0)) hx hb d_Mo_isOne_186 (by decide +kernel) ?_
          refine wr_cv (z := bI (wq_tk P pn a b)) (by rw [wq_tk, if_pos h91, c179, bne_self_eq_false]; rfl) ?_
          exact W.zret hx hb hr (bI_nar _) (fun t ht9 _ => ⟨⟨_, _, rfl, ⟨rfl, _, rfl⟩, by show va_P D classes _ t.heap; rw [ht9]; exact hP⟩, hS.F ht9⟩) hS.2.2 d_Mo_isOne_187
        · have c179 : ¬ (wq_B P pn b (wq_q0 P pn a) false) = (wq_ng P pn a) := fun hz => c179 (bI_inj.mpr hz)
          refine lv_iconst (v := (nI 1)) hx hb d_Mo_isOne_182 (by decide +kernel) ?_
          refine lv_goto (tgt := 187) hx hb d_Mo_isOne_183 (by decide) ?_
          refine wr_cv (z := bI (wq_tk P pn a b)) (by rw [wq_tk, if_pos h91, bne_iff_ne.mpr c179]; rfl) ?_
          exact W.zret hx hb hr (bI_nar _) (fun t ht9 _ => ⟨⟨_, _, rfl, ⟨rfl, _, rfl⟩, by show va_P D classes _ t.heap; rw [ht9]; exact hP⟩, hS.F ht9⟩) hS.2.2 d_Mo_isOne_187
  · have c9 : ¬ pn ≤ (a + 1) := fun hz => c9 ((nI_leI (by omega) (by omega)).mpr hz)
    refine lv_aload_n hx hb d_Mo_isOne_12 rfl (lv_at hl 1 rfl) ?_
    refine va_get (D := D) (ci := 2) (v := .ref hp) (C := R_Mo) (T := F_Mo) (N := 9) hx hb hts i_Mo hown hK hP 0 rfl rfl 1 (by decide) (hts _ k_fl_Mo_13) (fun _ h9 => h9) rfl d_Mo_isOne_13 ?_
    refine lv_iload_n hx hb d_Mo_isOne_16 rfl (lv_at hl 0 rfl) ?_
    refine va_iald hx hb hK hP 2 1 rfl rfl (vp_in_nI (by omega) (by omega)) d_Mo_isOne_17 ?_
    refine wr_cv (z := (nI (P (a + 1)))) (nF_at (by omega) (by omega)) ?_
    have f20 := hP8 (a + 1)
    refine lv_bipush (v := (nI 94)) hx hb d_Mo_isOne_18 (by decide +kernel) ?_
    refine lv_icmp_ne (tgt := 27) hx hb d_Mo_isOne_20 (by decide) (fun c20 => ?_) (fun c20 => ?_)
    · have c20 : ¬ (P (a + 1)) = 94 := fun hz => c20 ((nI_eq (by omega) (by omega)).mpr hz)
      refine lv_iconst (v := (nI 0)) hx hb d_Mo_isOne_27 (by decide +kernel) ?_
      refine wr_cv (z := (bI (wq_ng P pn a))) (by rw [wq_ng, decide_eq_false (fun z => c20 z.2)]; rfl) ?_
      refine lv_istore (lv' := [(4, .int (bI (wq_ng P pn a))), (3, .int (nI (a + 1))), (0, .ref h), (1, .int (nI a)), (2, .int (nI b))]) hx hb d_Mo_isOne_28 hl (by decide) rfl (fun ls hl => ?_)
      refine lv_iload_n hx hb d_Mo_isOne_30 rfl (lv_at hl 1 rfl) ?_
      refine lv_iload hx hb d_Mo_isOne_31 (lv_at hl 0 rfl) ?_
      refine lv_if_eq (tgt := 40) hx hb d_Mo_isOne_33 (by decide) (fun c33 => ?_) (fun c33 => ?_)
      · have c33 : (wq_ng P pn a) = false := bI_0.mp c33
        refine lv_iconst (v := (nI 0)) hx hb d_Mo_isOne_40 (by decide +kernel) ?_
        refine lv_iadd hx hb d_Mo_isOne_41 ?_
        refine wr_cv (z := (nI (a + 1 + 0))) (nI_add (a + 1) 0) ?_
        refine wr_cv (z := (nI (wq_q0 P pn a))) (congrArg nI (by have z : wq_q0 P pn a = a + 1 := if_neg (of_decide_eq_false c33); omega)) ?_
        refine lv_istore_n (lv' := [(3, .int (nI (wq_q0 P pn a))), (4, .int (bI (wq_ng P pn a))), (0, .ref h), (1, .int (nI a)), (2, .int (nI b))]) hx hb d_Mo_isOne_42 rfl hl (by decide) rfl (fun ls hl => ?_)
        refine lv_iconst (v := (nI 0)) hx hb d_Mo_isOne_43 (by decide +kernel) ?_
        refine wr_cv (z := (bI false)) rfl ?_
        refine lv_istore (lv' := [(5, .int (bI false)), (3, .int (nI (wq_q0 P pn a))), (4, .int (bI (wq_ng P pn a))), (0, .ref h), (1, .int (nI a)), (2, .int (nI b))]) hx hb d_Mo_isOne_44 hl (by decide) rfl (fun ls hl => ?_)
        have hq0 := wq_q0_in (P := P) ha
        have hsk := wq_sk_in P pn (pn - wq_q0 P pn a) (wq_q0 P pn a) (Nat.le_refl _) hq0.2
        have hEs := wq_E_sk P pn (pn - wq_q0 P pn a) (wq_q0 P pn a) (Nat.le_refl _)
        have hbe : wq_be P pn a = min (wq_sk P pn (wq_q0 P pn a) + 1) pn := if_pos h91
        refine lp_isOne hA hT8 hn hP8 hpn hV8 hvn hbb S hK (r := wq_B P pn b (wq_q0 P pn a) false) (q9 := wq_sk P pn (wq_q0 P pn a)) (fun td H locs ls hP hD hS hl => ?_) (pn + 1) (wq_q0 P pn a) false (by omega) hq0.2 rfl hEs td s.heap [] ls hP hD hS (lv_sub hl [3, 5, 2, 1, 0] rfl)
        refine lv_aload_n hx hb d_Mo_isOne_156 rfl (lv_at hl 0 rfl) ?_
        refine lv_iload_n hx hb d_Mo_isOne_157 rfl (lv_at hl 1 rfl) ?_
        refine lv_aload_n hx hb d_Mo_isOne_158 rfl (lv_at hl 0 rfl) ?_
        refine va_get (D := D) (ci := 2) (v := .int (nI pn)) (C := R_Mo) (T := F_Mo) (N := 9) hx hb hts i_Mo hown hK hP 0 rfl rfl 4 (by decide) (hts _ k_fl_Mo_31) (fun _ h9 => h9) rfl d_Mo_isOne_159 ?_
        refine lv_icmp_ge (tgt := 171) hx hb d_Mo_isOne_162 (by decide) (fun c21 => ?_) (fun c21 => ?_)
        · have c21 : pn ≤ (wq_sk P pn (wq_q0 P pn a)) := (nI_leI (by omega) (by omega)).mp c21
          refine lv_iload_n hx hb d_Mo_isOne_171 rfl (lv_at hl 1 rfl) ?_
          refine wr_cv (z := (nI (wq_be P pn a))) (congrArg nI (by omega)) ?_
          refine va_put (D := D) (ci := 2) (v := .int (nI (wq_be P pn a))) (ty := .int) (C := R_Mo) (T := F_Mo) (N := 9) hx hb hts i_Mo t_Mo t_Mo_ok n_Mo hown hK hP hD hS 0 rfl rfl 6 (by decide) (hts _ k_fl_Mo_44) (fun _ h9 => h9) rfl (by decide +kernel) rfl rfl (Nat.le_of_ble_eq_true rfl) d_Mo_isOne_172 (fun H locs hP hD hS => ?_)
          have hP : va_P D classes (wM h ht hp hw hz cI cZ T n P pn V vn (nI (wq_be P pn a)) td z) H := hP
          have hD : va_D _ (wM h ht hp hw hz cI cZ T n P pn V vn (nI (wq_be P pn a)) td z) := hD
          refine lv_iload hx hb d_Mo_isOne_175 (lv_at hl 3 rfl) ?_
          refine lv_iload hx hb d_Mo_isOne_177 (lv_at hl 2 rfl) ?_
          refine lv_icmp_eq (tgt := 186) hx hb d_Mo_isOne_179 (by decide) (fun c179 => ?_) (fun c179 => ?_)
          · have c179 : (wq_B P pn b (wq_q0 P pn a) false) = (wq_ng P pn a) := bI_inj.mp c179
            refine lv_iconst (v := (nI 0)) hx hb d_Mo_isOne_186 (by decide +kernel) ?_
            refine wr_cv (z := bI (wq_tk P pn a b)) (by rw [wq_tk, if_pos h91, c179, bne_self_eq_false]; rfl) ?_
            exact W.zret hx hb hr (bI_nar _) (fun t ht9 _ => ⟨⟨_, _, rfl, ⟨rfl, _, rfl⟩, by show va_P D classes _ t.heap; rw [ht9]; exact hP⟩, hS.F ht9⟩) hS.2.2 d_Mo_isOne_187
          · have c179 : ¬ (wq_B P pn b (wq_q0 P pn a) false) = (wq_ng P pn a) := fun hz => c179 (bI_inj.mpr hz)
            refine lv_iconst (v := (nI 1)) hx hb d_Mo_isOne_182 (by decide +kernel) ?_
            refine lv_goto (tgt := 187) hx hb d_Mo_isOne_183 (by decide) ?_
            refine wr_cv (z := bI (wq_tk P pn a b)) (by rw [wq_tk, if_pos h91, bne_iff_ne.mpr c179]; rfl) ?_
            exact W.zret hx hb hr (bI_nar _) (fun t ht9 _ => ⟨⟨_, _, rfl, ⟨rfl, _, rfl⟩, by show va_P D classes _ t.heap; rw [ht9]; exact hP⟩, hS.F ht9⟩) hS.2.2 d_Mo_isOne_187
        · have c21 : ¬ pn ≤ (wq_sk P pn (wq_q0 P pn a)) := fun hz => c21 ((nI_leI (by omega) (by omega)).mpr hz)
          refine lv_iload_n hx hb d_Mo_isOne_165 rfl (lv_at hl 1 rfl) ?_
          refine lv_iconst (v := (nI 1)) hx hb d_Mo_isOne_166 (by decide +kernel) ?_
          refine lv_iadd hx hb d_Mo_isOne_167 ?_
          refine wr_cv (z := (nI (wq_sk P pn (wq_q0 P pn a) + 1))) (nI_add (wq_sk P pn (wq_q0 P pn a)) 1) ?_
          refine lv_goto (tgt := 172) hx hb d_Mo_isOne_168 (by decide) ?_
          refine wr_cv (z := (nI (wq_be P pn a))) (congrArg nI (by omega)) ?_
          refine va_put (D := D) (ci := 2) (v := .int (nI (wq_be P pn a))) (ty := .int) (C := R_Mo) (T := F_Mo) (N := 9) hx hb hts i_Mo t_Mo t_Mo_ok n_Mo hown hK hP hD hS 0 rfl rfl 6 (by decide) (hts _ k_fl_Mo_44) (fun _ h9 => h9) rfl (by decide +kernel) rfl rfl (Nat.le_of_ble_eq_true rfl) d_Mo_isOne_172 (fun H locs hP hD hS => ?_)
          have hP : va_P D classes (wM h ht hp hw hz cI cZ T n P pn V vn (nI (wq_be P pn a)) td z) H := hP
          have hD : va_D _ (wM h ht hp hw hz cI cZ T n P pn V vn (nI (wq_be P pn a)) td z) := hD
          refine lv_iload hx hb d_Mo_isOne_175 (lv_at hl 3 rfl) ?_
          refine lv_iload hx hb d_Mo_isOne_177 (lv_at hl 2 rfl) ?_
          refine lv_icmp_eq (tgt := 186) hx hb d_Mo_isOne_179 (by decide) (fun c179 => ?_) (fun c179 => ?_)
          · have c179 : (wq_B P pn b (wq_q0 P pn a) false) = (wq_ng P pn a) := bI_inj.mp c179
            refine lv_iconst (v := (nI 0)) hx hb d_Mo_isOne_186 (by decide +kernel) ?_
            refine wr_cv (z := bI (wq_tk P pn a b)) (by rw [wq_tk, if_pos h91, c179, bne_self_eq_false]; rfl) ?_
            exact W.zret hx hb hr (bI_nar _) (fun t ht9 _ => ⟨⟨_, _, rfl, ⟨rfl, _, rfl⟩, by show va_P D classes _ t.heap; rw [ht9]; exact hP⟩, hS.F ht9⟩) hS.2.2 d_Mo_isOne_187
          · have c179 : ¬ (wq_B P pn b (wq_q0 P pn a) false) = (wq_ng P pn a) := fun hz => c179 (bI_inj.mpr hz)
            refine lv_iconst (v := (nI 1)) hx hb d_Mo_isOne_182 (by decide +kernel) ?_
            refine lv_goto (tgt := 187) hx hb d_Mo_isOne_183 (by decide) ?_
            refine wr_cv (z := bI (wq_tk P pn a b)) (by rw [wq_tk, if_pos h91, bne_iff_ne.mpr c179]; rfl) ?_
            exact W.zret hx hb hr (bI_nar _) (fun t ht9 _ => ⟨⟨_, _, rfl, ⟨rfl, _, rfl⟩, by show va_P D classes _ t.heap; rw [ht9]; exact hP⟩, hS.F ht9⟩) hS.2.2 d_Mo_isOne_187
      · have c33 : (wq_ng P pn a) = true := ts_b (fun hz => c33 (bI_0.mpr hz))
        refine lv_iconst (v := (nI 1)) hx hb d_Mo_isOne_36 (by decide +kernel) ?_
        refine lv_goto (tgt := 41) hx hb d_Mo_isOne_37 (by decide) ?_
        refine lv_iadd hx hb d_Mo_isOne_41 ?_
        refine wr_cv (z := (nI (a + 1 + 1))) (nI_add (a + 1) 1) ?_
        refine wr_cv (z := (nI (wq_q0 P pn a))) (congrArg nI (by have z : wq_q0 P pn a = a + 2 := if_pos (of_decide_eq_true c33); omega)) ?_
        refine lv_istore_n (lv' := [(3, .int (nI (wq_q0 P pn a))), (4, .int (bI (wq_ng P pn a))), (0, .ref h), (1, .int (nI a)), (2, .int (nI b))]) hx hb d_Mo_isOne_42 rfl hl (by decide) rfl (fun ls hl => ?_)
        refine lv_iconst (v := (nI 0)) hx hb d_Mo_isOne_43 (by decide +kernel) ?_
        refine wr_cv (z := (bI false)) rfl ?_
        refine lv_istore (lv' := [(5, .int (bI false)), (3, .int (nI (wq_q0 P pn a))), (4, .int (bI (wq_ng P pn a))), (0, .ref h), (1, .int (nI a)), (2, .int (nI b))]) hx hb d_Mo_isOne_44 hl (by decide) rfl (fun ls hl => ?_)
        have hq0 := wq_q0_in (P := P) ha
        have hsk := wq_sk_in P pn (pn - wq_q0 P pn a) (wq_q0 P pn a) (Nat.le_refl _) hq0.2
        have hEs := wq_E_sk P pn (pn - wq_q0 P pn a) (wq_q0 P pn a) (Nat.le_refl _)
        have hbe : wq_be P pn a = min (wq_sk P pn (wq_q0 P pn a) + 1) pn := if_pos h91
        refine lp_isOne hA hT8 hn hP8 hpn hV8 hvn hbb S hK (r := wq_B P pn b (wq_q0 P pn a) false) (q9 := wq_sk P pn (wq_q0 P pn a)) (fun td H locs ls hP hD hS hl => ?_) (pn + 1) (wq_q0 P pn a) false (by omega) hq0.2 rfl hEs td s.heap [] ls hP hD hS (lv_sub hl [3, 5, 2, 1, 0] rfl)
        refine lv_aload_n hx hb d_Mo_isOne_156 rfl (lv_at hl 0 rfl) ?_
        refine lv_iload_n hx hb d_Mo_isOne_157 rfl (lv_at hl 1 rfl) ?_
        refine lv_aload_n hx hb d_Mo_isOne_158 rfl (lv_at hl 0 rfl) ?_
        refine va_get (D := D) (ci := 2) (v := .int (nI pn)) (C := R_Mo) (T := F_Mo) (N := 9) hx hb hts i_Mo hown hK hP 0 rfl rfl 4 (by decide) (hts _ k_fl_Mo_31) (fun _ h9 => h9) rfl d_Mo_isOne_159 ?_
        refine lv_icmp_ge (tgt := 171) hx hb d_Mo_isOne_162 (by decide) (fun c22 => ?_) (fun c22 => ?_)
        · have c22 : pn ≤ (wq_sk P pn (wq_q0 P pn a)) := (nI_leI (by omega) (by omega)).mp c22
          refine lv_iload_n hx hb d_Mo_isOne_171 rfl (lv_at hl 1 rfl) ?_
          refine wr_cv (z := (nI (wq_be P pn a))) (congrArg nI (by omega)) ?_
          refine va_put (D := D) (ci := 2) (v := .int (nI (wq_be P pn a))) (ty := .int) (C := R_Mo) (T := F_Mo) (N := 9) hx hb hts i_Mo t_Mo t_Mo_ok n_Mo hown hK hP hD hS 0 rfl rfl 6 (by decide) (hts _ k_fl_Mo_44) (fun _ h9 => h9) rfl (by decide +kernel) rfl rfl (Nat.le_of_ble_eq_true rfl) d_Mo_isOne_172 (fun H locs hP hD hS => ?_)
          have hP : va_P D classes (wM h ht hp hw hz cI cZ T n P pn V vn (nI (wq_be P pn a)) td z) H := hP
          have hD : va_D _ (wM h ht hp hw hz cI cZ T n P pn V vn (nI (wq_be P pn a)) td z) := hD
          refine lv_iload hx hb d_Mo_isOne_175 (lv_at hl 3 rfl) ?_
          refine lv_iload hx hb d_Mo_isOne_177 (lv_at hl 2 rfl) ?_
          refine lv_icmp_eq (tgt := 186) hx hb d_Mo_isOne_179 (by decide) (fun c179 => ?_) (fun c179 => ?_)
          · have c179 : (wq_B P pn b (wq_q0 P pn a) false) = (wq_ng P pn a) := bI_inj.mp c179
            refine lv_iconst (v := (nI 0)) hx hb d_Mo_isOne_186 (by decide +kernel) ?_
            refine wr_cv (z := bI (wq_tk P pn a b)) (by rw [wq_tk, if_pos h91, c179, bne_self_eq_false]; rfl) ?_
            exact W.zret hx hb hr (bI_nar _) (fun t ht9 _ => ⟨⟨_, _, rfl, ⟨rfl, _, rfl⟩, by show va_P D classes _ t.heap; rw [ht9]; exact hP⟩, hS.F ht9⟩) hS.2.2 d_Mo_isOne_187
          · have c179 : ¬ (wq_B P pn b (wq_q0 P pn a) false) = (wq_ng P pn a) := fun hz => c179 (bI_inj.mpr hz)
            refine lv_iconst (v := (nI 1)) hx hb d_Mo_isOne_182 (by decide +kernel) ?_
            refine lv_goto (tgt := 187) hx hb d_Mo_isOne_183 (by decide) ?_
            refine wr_cv (z := bI (wq_tk P pn a b)) (by rw [wq_tk, if_pos h91, bne_iff_ne.mpr c179]; rfl) ?_
            exact W.zret hx hb hr (bI_nar _) (fun t ht9 _ => ⟨⟨_, _, rfl, ⟨rfl, _, rfl⟩, by show va_P D classes _ t.heap; rw [ht9]; exact hP⟩, hS.F ht9⟩) hS.2.2 d_Mo_isOne_187
        · have c22 : ¬ pn ≤ (wq_sk P pn (wq_q0 P pn a)) := fun hz => c22 ((nI_leI (by omega) (by omega)).mpr hz)
          refine lv_iload_n hx hb d_Mo_isOne_165 rfl (lv_at hl 1 rfl) ?_
          refine lv_iconst (v := (nI 1)) hx hb d_Mo_isOne_166 (by decide +kernel) ?_
          refine lv_iadd hx hb d_Mo_isOne_167 ?_
          refine wr_cv (z := (nI (wq_sk P pn (wq_q0 P pn a) + 1))) (nI_add (wq_sk P pn (wq_q0 P pn a)) 1) ?_
          refine lv_goto (tgt := 172) hx hb d_Mo_isOne_168 (by decide) ?_
          refine wr_cv (z := (nI (wq_be P pn a))) (congrArg nI (by omega)) ?_
          refine va_put (D := D) (ci := 2) (v := .int (nI (wq_be P pn a))) (ty := .int) (C := R_Mo) (T := F_Mo) (N := 9) hx hb hts i_Mo t_Mo t_Mo_ok n_Mo hown hK hP hD hS 0 rfl rfl 6 (by decide) (hts _ k_fl_Mo_44) (fun _ h9 => h9) rfl (by decide +kernel) rfl rfl (Nat.le_of_ble_eq_true rfl) d_Mo_isOne_172 (fun H locs hP hD hS => ?_)
          have hP : va_P D classes (wM h ht hp hw hz cI cZ T n P pn V vn (nI (wq_be P pn a)) td z) H := hP
          have hD : va_D _ (wM h ht hp hw hz cI cZ T n P pn V vn (nI (wq_be P pn a)) td z) := hD
          refine lv_iload hx hb d_Mo_isOne_175 (lv_at hl 3 rfl) ?_
          refine lv_iload hx hb d_Mo_isOne_177 (lv_at hl 2 rfl) ?_
          refine lv_icmp_eq (tgt := 186) hx hb d_Mo_isOne_179 (by decide) (fun c179 => ?_) (fun c179 => ?_)
          · have c179 : (wq_B P pn b (wq_q0 P pn a) false) = (wq_ng P pn a) := bI_inj.mp c179
            refine lv_iconst (v := (nI 0)) hx hb d_Mo_isOne_186 (by decide +kernel) ?_
            refine wr_cv (z := bI (wq_tk P pn a b)) (by rw [wq_tk, if_pos h91, c179, bne_self_eq_false]; rfl) ?_
            exact W.zret hx hb hr (bI_nar _) (fun t ht9 _ => ⟨⟨_, _, rfl, ⟨rfl, _, rfl⟩, by show va_P D classes _ t.heap; rw [ht9]; exact hP⟩, hS.F ht9⟩) hS.2.2 d_Mo_isOne_187
          · have c179 : ¬ (wq_B P pn b (wq_q0 P pn a) false) = (wq_ng P pn a) := fun hz => c179 (bI_inj.mpr hz)
            refine lv_iconst (v := (nI 1)) hx hb d_Mo_isOne_182 (by decide +kernel) ?_
            refine lv_goto (tgt := 187) hx hb d_Mo_isOne_183 (by decide) ?_
            refine wr_cv (z := bI (wq_tk P pn a b)) (by rw [wq_tk, if_pos h91, bne_iff_ne.mpr c179]; rfl) ?_
            exact W.zret hx hb hr (bI_nar _) (fun t ht9 _ => ⟨⟨_, _, rfl, ⟨rfl, _, rfl⟩, by show va_P D classes _ t.heap; rw [ht9]; exact hP⟩, hS.F ht9⟩) hS.2.2 d_Mo_isOne_187
    · have c20 : (P (a + 1)) = 94 := (nI_eq (by omega) (by omega)).mp c20
      refine lv_iconst (v := (nI 1)) hx hb d_Mo_isOne_23 (by decide +kernel) ?_
      refine lv_goto (tgt := 28) hx hb d_Mo_isOne_24 (by decide) ?_
      refine wr_cv (z := (bI (wq_ng P pn a))) (by rw [wq_ng, decide_eq_true ⟨by omega, c20⟩]; rfl) ?_
      refine lv_istore (lv' := [(4, .int (bI (wq_ng P pn a))), (3, .int (nI (a + 1))), (0, .ref h), (1, .int (nI a)), (2, .int (nI b))]) hx hb d_Mo_isOne_28 hl (by decide) rfl (fun ls hl => ?_)
      refine lv_iload_n hx hb d_Mo_isOne_30 rfl (lv_at hl 1 rfl) ?_
      refine lv_iload hx hb d_Mo_isOne_31 (lv_at hl 0 rfl) ?_
      refine lv_if_eq (tgt := 40) hx hb d_Mo_isOne_33 (by decide) (fun c33 => ?_) (fun c33 => ?_)
      · have c33 : (wq_ng P pn a) = false := bI_0.mp c33
        refine lv_iconst (v := (nI 0)) hx hb d_Mo_isOne_40 (by decide +kernel) ?_
        refine lv_iadd hx hb d_Mo_isOne_41 ?_
        refine wr_cv (z := (nI (a + 1 + 0))) (nI_add (a + 1) 0) ?_
        refine wr_cv (z := (nI (wq_q0 P pn a))) (congrArg nI (by have z : wq_q0 P pn a = a + 1 := if_neg (of_decide_eq_false c33); omega)) ?_
        refine lv_istore_n (lv' := [(3, .int (nI (wq_q0 P pn a))), (4, .int (bI (wq_ng P pn a))), (0, .ref h), (1, .int (nI a)), (2, .int (nI b))]) hx hb d_Mo_isOne_42 rfl hl (by decide) rfl (fun ls hl => ?_)
        refine lv_iconst (v := (nI 0)) hx hb d_Mo_isOne_43 (by decide +kernel) ?_
        refine wr_cv (z := (bI false)) rfl ?_
        refine lv_istore (lv' := [(5, .int (bI false)), (3, .int (nI (wq_q0 P pn a))), (4, .int (bI (wq_ng P pn a))), (0, .ref h), (1, .int (nI a)), (2, .int (nI b))]) hx hb d_Mo_isOne_44 hl (by decide) rfl (fun ls hl => ?_)
        have hq0 := wq_q0_in (P := P) ha
        have hsk := wq_sk_in P pn (pn - wq_q0 P pn a) (wq_q0 P pn a) (Nat.le_refl _) hq0.2
        have hEs := wq_E_sk P pn (pn - wq_q0 P pn a) (wq_q0 P pn a) (Nat.le_refl _)
        have hbe : wq_be P pn a = min (wq_sk P pn (wq_q0 P pn a) + 1) pn := if_pos h91
        refine lp_isOne hA hT8 hn hP8 hpn hV8 hvn hbb S hK (r := wq_B P pn b (wq_q0 P pn a) false) (q9 := wq_sk P pn (wq_q0 P pn a)) (fun td H locs ls hP hD hS hl => ?_) (pn + 1) (wq_q0 P pn a) false (by omega) hq0.2 rfl hEs td s.heap [] ls hP hD hS (lv_sub hl [3, 5, 2, 1, 0] rfl)
        refine lv_aload_n hx hb d_Mo_isOne_156 rfl (lv_at hl 0 rfl) ?_
        refine lv_iload_n hx hb d_Mo_isOne_157 rfl (lv_at hl 1 rfl) ?_
        refine lv_aload_n hx hb d_Mo_isOne_158 rfl (lv_at hl 0 rfl) ?_
        refine va_get (D := D) (ci := 2) (v := .int (nI pn)) (C := R_Mo) (T := F_Mo) (N := 9) hx hb hts i_Mo hown hK hP 0 rfl rfl 4 (by decide) (hts _ k_fl_Mo_31) (fun _ h9 => h9) rfl d_Mo_isOne_159 ?_
        refine lv_icmp_ge (tgt := 171) hx hb d_Mo_isOne_162 (by decide) (fun c23 => ?_) (fun c23 => ?_)
        · have c23 : pn ≤ (wq_sk P pn (wq_q0 P pn a)) := (nI_leI (by omega) (by omega)).mp c23
          refine lv_iload_n hx hb d_Mo_isOne_171 rfl (lv_at hl 1 rfl) ?_
          refine wr_cv (z := (nI (wq_be P pn a))) (congrArg nI (by omega)) ?_
          refine va_put (D := D) (ci := 2) (v := .int (nI (wq_be P pn a))) (ty := .int) (C := R_Mo) (T := F_Mo) (N := 9) hx hb hts i_Mo t_Mo t_Mo_ok n_Mo hown hK hP hD hS 0 rfl rfl 6 (by decide) (hts _ k_fl_Mo_44) (fun _ h9 => h9) rfl (by decide +kernel) rfl rfl (Nat.le_of_ble_eq_true rfl) d_Mo_isOne_172 (fun H locs hP hD hS => ?_)
          have hP : va_P D classes (wM h ht hp hw hz cI cZ T n P pn V vn (nI (wq_be P pn a)) td z) H := hP
          have hD : va_D _ (wM h ht hp hw hz cI cZ T n P pn V vn (nI (wq_be P pn a)) td z) := hD
          refine lv_iload hx hb d_Mo_isOne_175 (lv_at hl 3 rfl) ?_
          refine lv_iload hx hb d_Mo_isOne_177 (lv_at hl 2 rfl) ?_
          refine lv_icmp_eq (tgt := 186) hx hb d_Mo_isOne_179 (by decide) (fun c179 => ?_) (fun c179 => ?_)
          · have c179 : (wq_B P pn b (wq_q0 P pn a) false) = (wq_ng P pn a) := bI_inj.mp c179
            refine lv_iconst (v := (nI 0)) hx hb d_Mo_isOne_186 (by decide +kernel) ?_
            refine wr_cv (z := bI (wq_tk P pn a b)) (by rw [wq_tk, if_pos h91, c179, bne_self_eq_false]; rfl) ?_
            exact W.zret hx hb hr (bI_nar _) (fun t ht9 _ => ⟨⟨_, _, rfl, ⟨rfl, _, rfl⟩, by show va_P D classes _ t.heap; rw [ht9]; exact hP⟩, hS.F ht9⟩) hS.2.2 d_Mo_isOne_187
          · have c179 : ¬ (wq_B P pn b (wq_q0 P pn a) false) = (wq_ng P pn a) := fun hz => c179 (bI_inj.mpr hz)
            refine lv_iconst (v := (nI 1)) hx hb d_Mo_isOne_182 (by decide +kernel) ?_
            refine lv_goto (tgt := 187) hx hb d_Mo_isOne_183 (by decide) ?_
            refine wr_cv (z := bI (wq_tk P pn a b)) (by rw [wq_tk, if_pos h91, bne_iff_ne.mpr c179]; rfl) ?_
            exact W.zret hx hb hr (bI_nar _) (fun t ht9 _ => ⟨⟨_, _, rfl, ⟨rfl, _, rfl⟩, by show va_P D classes _ t.heap; rw [ht9]; exact hP⟩, hS.F ht9⟩) hS.2.2 d_Mo_isOne_187
        · have c23 : ¬ pn ≤ (wq_sk P pn (wq_q0 P pn a)) := fun hz => c23 ((nI_leI (by omega) (by omega)).mpr hz)
          refine lv_iload_n hx hb d_Mo_isOne_165 rfl (lv_at hl 1 rfl) ?_
          refine lv_iconst (v := (nI 1)) hx hb d_Mo_isOne_166 (by decide +kernel) ?_
          refine lv_iadd hx hb d_Mo_isOne_167 ?_
          refine wr_cv (z := (nI (wq_sk P pn (wq_q0 P pn a) + 1))) (nI_add (wq_sk P pn (wq_q0 P pn a)) 1) ?_
          refine lv_goto (tgt := 172) hx hb d_Mo_isOne_168 (by decide) ?_
          refine wr_cv (z := (nI (wq_be P pn a))) (congrArg nI (by omega)) ?_
          refine va_put (D := D) (ci := 2) (v := .int (nI (wq_be P pn a))) (ty := .int) (C := R_Mo) (T := F_Mo) (N := 9) hx hb hts i_Mo t_Mo t_Mo_ok n_Mo hown hK hP hD hS 0 rfl rfl 6 (by decide) (hts _ k_fl_Mo_44) (fun _ h9 => h9) rfl (by decide +kernel) rfl rfl (Nat.le_of_ble_eq_true rfl) d_Mo_isOne_172 (fun H locs hP hD hS => ?_)
          have hP : va_P D classes (wM h ht hp hw hz cI cZ T n P pn V vn (nI (wq_be P pn a)) td z) H := hP
          have hD : va_D _ (wM h ht hp hw hz cI cZ T n P pn V vn (nI (wq_be P pn a)) td z) := hD
          refine lv_iload hx hb d_Mo_isOne_175 (lv_at hl 3 rfl) ?_
          refine lv_iload hx hb d_Mo_isOne_177 (lv_at hl 2 rfl) ?_
          refine lv_icmp_eq (tgt := 186) hx hb d_Mo_isOne_179 (by decide) (fun c179 => ?_) (fun c179 => ?_)
          · have c179 : (wq_B P pn b (wq_q0 P pn a) false) = (wq_ng P pn a) := bI_inj.mp c179
            refine lv_iconst (v := (nI 0)) hx hb d_Mo_isOne_186 (by decide +kernel) ?_
            refine wr_cv (z := bI (wq_tk P pn a b)) (by rw [wq_tk, if_pos h91, c179, bne_self_eq_false]; rfl) ?_
            exact W.zret hx hb hr (bI_nar _) (fun t ht9 _ => ⟨⟨_, _, rfl, ⟨rfl, _, rfl⟩, by show va_P D classes _ t.heap; rw [ht9]; exact hP⟩, hS.F ht9⟩) hS.2.2 d_Mo_isOne_187
          · have c179 : ¬ (wq_B P pn b (wq_q0 P pn a) false) = (wq_ng P pn a) := fun hz => c179 (bI_inj.mpr hz)
            refine lv_iconst (v := (nI 1)) hx hb d_Mo_isOne_182 (by decide +kernel) ?_
            refine lv_goto (tgt := 187) hx hb d_Mo_isOne_183 (by decide) ?_
            refine wr_cv (z := bI (wq_tk P pn a b)) (by rw [wq_tk, if_pos h91, bne_iff_ne.mpr c179]; rfl) ?_
            exact W.zret hx hb hr (bI_nar _) (fun t ht9 _ => ⟨⟨_, _, rfl, ⟨rfl, _, rfl⟩, by show va_P D classes _ t.heap; rw [ht9]; exact hP⟩, hS.F ht9⟩) hS.2.2 d_Mo_isOne_187
      · have c33 : (wq_ng P pn a) = true := ts_b (fun hz => c33 (bI_0.mpr hz))
        refine lv_iconst (v := (nI 1)) hx hb d_Mo_isOne_36 (by decide +kernel) ?_
        refine lv_goto (tgt := 41) hx hb d_Mo_isOne_37 (by decide) ?_
        refine lv_iadd hx hb d_Mo_isOne_41 ?_
        refine wr_cv (z := (nI (a + 1 + 1))) (nI_add (a + 1) 1) ?_
        refine wr_cv (z := (nI (wq_q0 P pn a))) (congrArg nI (by have z : wq_q0 P pn a = a + 2 := if_pos (of_decide_eq_true c33); omega)) ?_
        refine lv_istore_n (lv' := [(3, .int (nI (wq_q0 P pn a))), (4, .int (bI (wq_ng P pn a))), (0, .ref h), (1, .int (nI a)), (2, .int (nI b))]) hx hb d_Mo_isOne_42 rfl hl (by decide) rfl (fun ls hl => ?_)
        refine lv_iconst (v := (nI 0)) hx hb d_Mo_isOne_43 (by decide +kernel) ?_
        refine wr_cv (z := (bI false)) rfl ?_
        refine lv_istore (lv' := [(5, .int (bI false)), (3, .int (nI (wq_q0 P pn a))), (4, .int (bI (wq_ng P pn a))), (0, .ref h), (1, .int (nI a)), (2, .int (nI b))]) hx hb d_Mo_isOne_44 hl (by decide) rfl (fun ls hl => ?_)
        have hq0 := wq_q0_in (P := P) ha
        have hsk := wq_sk_in P pn (pn - wq_q0 P pn a) (wq_q0 P pn a) (Nat.le_refl _) hq0.2
        have hEs := wq_E_sk P pn (pn - wq_q0 P pn a) (wq_q0 P pn a) (Nat.le_refl _)
        have hbe : wq_be P pn a = min (wq_sk P pn (wq_q0 P pn a) + 1) pn := if_pos h91
        refine lp_isOne hA hT8 hn hP8 hpn hV8 hvn hbb S hK (r := wq_B P pn b (wq_q0 P pn a) false) (q9 := wq_sk P pn (wq_q0 P pn a)) (fun td H locs ls hP hD hS hl => ?_) (pn + 1) (wq_q0 P pn a) false (by omega) hq0.2 rfl hEs td s.heap [] ls hP hD hS (lv_sub hl [3, 5, 2, 1, 0] rfl)
        refine lv_aload_n hx hb d_Mo_isOne_156 rfl (lv_at hl 0 rfl) ?_
        refine lv_iload_n hx hb d_Mo_isOne_157 rfl (lv_at hl 1 rfl) ?_
        refine lv_aload_n hx hb d_Mo_isOne_158 rfl (lv_at hl 0 rfl) ?_
        refine va_get (D := D) (ci := 2) (v := .int (nI pn)) (C := R_Mo) (T := F_Mo) (N := 9) hx hb hts i_Mo hown hK hP 0 rfl rfl 4 (by decide) (hts _ k_fl_Mo_31) (fun _ h9 => h9) rfl d_Mo_isOne_159 ?_
        refine lv_icmp_ge (tgt := 171) hx hb d_Mo_isOne_162 (by decide) (fun c24 => ?_) (fun c24 => ?_)
        · have c24 : pn ≤ (wq_sk P pn (wq_q0 P pn a)) := (nI_leI (by omega) (by omega)).mp c24
          refine lv_iload_n hx hb d_Mo_isOne_171 rfl (lv_at hl 1 rfl) ?_
          refine wr_cv (z := (nI (wq_be P pn a))) (congrArg nI (by omega)) ?_
          refine va_put (D := D) (ci := 2) (v := .int (nI (wq_be P pn a))) (ty := .int) (C := R_Mo) (T := F_Mo) (N := 9) hx hb hts i_Mo t_Mo t_Mo_ok n_Mo hown hK hP hD hS 0 rfl rfl 6 (by decide) (hts _ k_fl_Mo_44) (fun _ h9 => h9) rfl (by decide +kernel) rfl rfl (Nat.le_of_ble_eq_true rfl) d_Mo_isOne_172 (fun H locs hP hD hS => ?_)
          have hP : va_P D classes (wM h ht hp hw hz cI cZ T n P pn V vn (nI (wq_be P pn a)) td z) H := hP
          have hD : va_D _ (wM h ht hp hw hz cI cZ T n P pn V vn (nI (wq_be P pn a)) td z) := hD
          refine lv_iload hx hb d_Mo_isOne_175 (lv_at hl 3 rfl) ?_
          refine lv_iload hx hb d_Mo_isOne_177 (lv_at hl 2 rfl) ?_
          refine lv_icmp_eq (tgt := 186) hx hb d_Mo_isOne_179 (by decide) (fun c179 => ?_) (fun c179 => ?_)
          · have c179 : (wq_B P pn b (wq_q0 P pn a) false) = (wq_ng P pn a) := bI_inj.mp c179
            refine lv_iconst (v := (nI 0)) hx hb d_Mo_isOne_186 (by decide +kernel) ?_
            refine wr_cv (z := bI (wq_tk P pn a b)) (by rw [wq_tk, if_pos h91, c179, bne_self_eq_false]; rfl) ?_
            exact W.zret hx hb hr (bI_nar _) (fun t ht9 _ => ⟨⟨_, _, rfl, ⟨rfl, _, rfl⟩, by show va_P D classes _ t.heap; rw [ht9]; exact hP⟩, hS.F ht9⟩) hS.2.2 d_Mo_isOne_187
          · have c179 : ¬ (wq_B P pn b (wq_q0 P pn a) false) = (wq_ng P pn a) := fun hz => c179 (bI_inj.mpr hz)
            refine lv_iconst (v := (nI 1)) hx hb d_Mo_isOne_182 (by decide +kernel) ?_
            refine lv_goto (tgt := 187) hx hb d_Mo_isOne_183 (by decide) ?_
            refine wr_cv (z := bI (wq_tk P pn a b)) (by rw [wq_tk, if_pos h91, bne_iff_ne.mpr c179]; rfl) ?_
            exact W.zret hx hb hr (bI_nar _) (fun t ht9 _ => ⟨⟨_, _, rfl, ⟨rfl, _, rfl⟩, by show va_P D classes _ t.heap; rw [ht9]; exact hP⟩, hS.F ht9⟩) hS.2.2 d_Mo_isOne_187
        · have c24 : ¬ pn ≤ (wq_sk P pn (wq_q0 P pn a)) := fun hz => c24 ((nI_leI (by omega) (by omega)).mpr hz)
          refine lv_iload_n hx hb d_Mo_isOne_165 rfl (lv_at hl 1 rfl) ?_
          refine lv_iconst (v := (nI 1)) hx hb d_Mo_isOne_166 (by decide +kernel) ?_
          refine lv_iadd hx hb d_Mo_isOne_167 ?_
          refine wr_cv (z := (nI (wq_sk P pn (wq_q0 P pn a) + 1))) (nI_add (wq_sk P pn (wq_q0 P pn a)) 1) ?_
          refine lv_goto (tgt := 172) hx hb d_Mo_isOne_168 (by decide) ?_
          refine wr_cv (z := (nI (wq_be P pn a))) (congrArg nI (by omega)) ?_
          refine va_put (D := D) (ci := 2) (v := .int (nI (wq_be P pn a))) (ty := .int) (C := R_Mo) (T := F_Mo) (N := 9) hx hb hts i_Mo t_Mo t_Mo_ok n_Mo hown hK hP hD hS 0 rfl rfl 6 (by decide) (hts _ k_fl_Mo_44) (fun _ h9 => h9) rfl (by decide +kernel) rfl rfl (Nat.le_of_ble_eq_true rfl) d_Mo_isOne_172 (fun H locs hP hD hS => ?_)
          have hP : va_P D classes (wM h ht hp hw hz cI cZ T n P pn V vn (nI (wq_be P pn a)) td z) H := hP
          have hD : va_D _ (wM h ht hp hw hz cI cZ T n P pn V vn (nI (wq_be P pn a)) td z) := hD
          refine lv_iload hx hb d_Mo_isOne_175 (lv_at hl 3 rfl) ?_
          refine lv_iload hx hb d_Mo_isOne_177 (lv_at hl 2 rfl) ?_
          refine lv_icmp_eq (tgt := 186) hx hb d_Mo_isOne_179 (by decide) (fun c179 => ?_) (fun c179 => ?_)
          · have c179 : (wq_B P pn b (wq_q0 P pn a) false) = (wq_ng P pn a) := bI_inj.mp c179
            refine lv_iconst (v := (nI 0)) hx hb d_Mo_isOne_186 (by decide +kernel) ?_
            refine wr_cv (z := bI (wq_tk P pn a b)) (by rw [wq_tk, if_pos h91, c179, bne_self_eq_false]; rfl) ?_
            exact W.zret hx hb hr (bI_nar _) (fun t ht9 _ => ⟨⟨_, _, rfl, ⟨rfl, _, rfl⟩, by show va_P D classes _ t.heap; rw [ht9]; exact hP⟩, hS.F ht9⟩) hS.2.2 d_Mo_isOne_187
          · have c179 : ¬ (wq_B P pn b (wq_q0 P pn a) false) = (wq_ng P pn a) := fun hz => c179 (bI_inj.mpr hz)
            refine lv_iconst (v := (nI 1)) hx hb d_Mo_isOne_182 (by decide +kernel) ?_
            refine lv_goto (tgt := 187) hx hb d_Mo_isOne_183 (by decide) ?_
            refine wr_cv (z := bI (wq_tk P pn a b)) (by rw [wq_tk, if_pos h91, bne_iff_ne.mpr c179]; rfl) ?_
            exact W.zret hx hb hr (bI_nar _) (fun t ht9 _ => ⟨⟨_, _, rfl, ⟨rfl, _, rfl⟩, by show va_P D classes _ t.heap; rw [ht9]; exact hP⟩, hS.F ht9⟩) hS.2.2 d_Mo_isOne_187
set_option maxHeartbeats 4000000 in
set_option maxRecDepth 100000 in
theorem c_Mo_suits (l : Launch) (D : va_G) (cB cI cZ : ClassId) (h ht hp hw hz : Nat) (T : Nat → Nat) (hT8 : ∀ k, T k < 256) (n : Nat) (hn : n ≤ 400) (P : Nat → Nat) (hP8 : ∀ k, P k < 256) (pn : Nat) (hpn : pn ≤ 400) (V : Nat → Nat) (hV8 : ∀ k, V k < 256) (vn : Nat) (hvn : vn ≤ 400) (a b : Nat) (ha : a < pn) (hbb : b < 256) (en td : Int32) (z : Nat → Int32) (sz : Nat) : Met l y_Mo_suits w_Mo_suits rm_Mo_suits (Pm D cB cI cZ sz [.ref h, .int (nI a), .int (nI b)] (wM h ht hp hw hz cI cZ T n P pn V vn en td z)) (Qm D (fun r u => r = bI (wq_tk P pn a b) ∧ ∃ td, u = wM h ht hp hw hz cI cZ T n P pn V vn (nI (wq_be P pn a)) td z) (wM h ht hp hw hz cI cZ T n P pn V vn en td z) sz) 0 0 (va_A (wM h ht hp hw hz cI cZ T n P pn V vn en td z) sz) := by
  refine Met.ofW (cc := b_Mo_suits) (maxL := 3) (ret := (some .boolean)) (by decide) rfl ?_
  intro p e s m args below meth c s₁ B hml hv
  obtain ⟨rfl, hsz, hP, hK, hD0⟩ := hv
  have hx := B.exec
  have hb := B.bytes
  have hr := B.returns
  have hts0 := atoms_spec (ws := w_Mo_suits) B.pre
  have hts : ∀ w ∈ gw, w.before _ s = true := fun w hw => hts0 w (List.mem_cons_of_mem _ hw)
  have hown : s.vm.findClass R_Mo = some m.cls := findClass_of_methodNamed B.named
  have hlocks := B.notSynchronized
  have S : CallFix p m c b_Mo_suits 3 s _ gw R_Mo := ⟨hx, hb, hml, hown, hts⟩
  subst hsz
  have hD := hD0.self (sz := s.heap.size)
  have hA : ∀ q : Nat, s.heap.size ≤ q → va_A (wM h ht hp hw hz cI cZ T n P pn V vn en td z) s.heap.size q := fun q h => Or.inr h
  have hS : va_S (va_A (wM h ht hp hw hz cI cZ T n P pn V vn en td z) s.heap.size) s.heap s.heap [] := va_S.rf
  have hl := lv_entry ([.ref h, .int (nI a), .int (nI b)]) (n := 3) (Nat.le_of_ble_eq_true rfl)
  rw [lg_entry_eq]
  generalize (lg_sl ([.ref h, .int (nI a), .int (nI b)]) ++ List.replicate (3 - (lg_sl ([.ref h, .int (nI a), .int (nI b)])).length) Slot.unset).toArray = ls at hl ⊢
  have hl : lv_has ls 3 [(0, .ref h), (1, .int (nI a)), (2, .int (nI b))] := hl
  show W p l e rm_Mo_suits s m _ below meth c s.heap [] 0 0 _ (F0 m 0 ls [])
  refine lv_aload_n hx hb d_Mo_suits_0 rfl (lv_at hl 0 rfl) ?_
  refine va_get (D := D) (ci := 2) (v := .ref hp) (C := R_Mo) (T := F_Mo) (N := 9) hx hb hts i_Mo hown hK hP 0 rfl rfl 1 (by decide) (hts _ k_fl_Mo_13) (fun _ h9 => h9) rfl d_Mo_suits_1 ?_
  refine lv_iload_n hx hb d_Mo_suits_4 rfl (lv_at hl 1 rfl) ?_
  refine va_iald hx hb hK hP 2 1 rfl rfl (vp_in_nI (by omega) (by omega)) d_Mo_suits_5 ?_
  refine wr_cv (z := (nI (P a))) (nF_at (by omega) (by omega)) ?_
  have f25 := hP8 a
  refine lv_bipush (v := (nI 91)) hx hb d_Mo_suits_6 (by decide +kernel) ?_
  refine lv_icmp_ne (tgt := 18) hx hb d_Mo_suits_8 (by decide) (fun c8 => ?_) (fun c8 => ?_)
  · have c8 : ¬ (P a) = 91 := fun hz => c8 ((nI_eq (by omega) (by omega)).mpr hz)
    refine lv_aload_n hx hb d_Mo_suits_18 rfl (lv_at hl 0 rfl) ?_
    refine va_get (D := D) (ci := 2) (v := .ref hp) (C := R_Mo) (T := F_Mo) (N := 9) hx hb hts i_Mo hown hK hP 0 rfl rfl 1 (by decide) (hts _ k_fl_Mo_13) (fun _ h9 => h9) rfl d_Mo_suits_19 ?_
    refine lv_iload_n hx hb d_Mo_suits_22 rfl (lv_at hl 1 rfl) ?_
    refine va_iald hx hb hK hP 2 1 rfl rfl (vp_in_nI (by omega) (by omega)) d_Mo_suits_23 ?_
    refine wr_cv (z := (nI (P a))) (nF_at (by omega) (by omega)) ?_
    have f26 := hP8 a
    refine lv_bipush (v := (nI 63)) hx hb d_Mo_suits_24 (by decide +kernel) ?_
    refine lv_icmp_ne (tgt := 38) hx hb d_Mo_suits_26 (by decide) (fun c26 => ?_) (fun c26 => ?_)
    · have c26 : ¬ (P a) = 63 := fun hz => c26 ((nI_eq (by omega) (by omega)).mpr hz)
      refine lv_aload_n hx hb d_Mo_suits_38 rfl (lv_at hl 0 rfl) ?_
      refine lv_aload_n hx hb d_Mo_suits_39 rfl (lv_at hl 0 rfl) ?_
      refine lv_iload_n hx hb d_Mo_suits_40 rfl (lv_at hl 1 rfl) ?_
      refine wr_ci (As := [.int (nI a)]) (rest := [.ref h]) (wr := []) (wc := wM h ht hp hw hz cI cZ T n P pn V vn en td z) S (c_Mo_tells l D cB cI cZ h ht hp hw hz T hT8 n hn P hP8 pn hpn V hV8 vn hvn a (by omega) en td z s.heap.size) (cwV 1 hts g_Mo_40 rfl rfl rfl (by decide +kernel) ⟨Nat.le_of_ble_eq_true rfl, Nat.le_of_ble_eq_true rfl⟩) hK hP hD hS hA [0, 1, 2, 3, 4] [] rfl rfl (by decide) rfl (by decide) (by decide) (ci := 2) (q0 := 0) rfl rfl rfl rfl hl.1 rfl (lv_room (Nat.le_of_ble_eq_true rfl)) d_Mo_suits_41 ⟨Nat.zero_le _, Nat.zero_le _⟩ (fun r9 u9 H locs hpo hj hS => ?_)
      obtain ⟨e1, e2⟩ := hpo
      subst e1
      subst e2
      obtain ⟨hP, hD⟩ := hj rfl
      have hP : va_P D classes (wM h ht hp hw hz cI cZ T n P pn V vn en (nI (wq_pl P pn a)) z) H := hP
      have hD : va_D _ (wM h ht hp hw hz cI cZ T n P pn V vn en (nI (wq_pl P pn a)) z) := hD
      have f27 := wq_nx_le (P := P) (n := pn) (q := a) (by omega)
      have f28 := wq_nx_gt P pn a
      have f29 := wq_pl_lt hP8 pn a
      refine va_put (D := D) (ci := 2) (v := .int (nI (wq_nx P pn a))) (ty := .int) (C := R_Mo) (T := F_Mo) (N := 9) hx hb hts i_Mo t_Mo t_Mo_ok n_Mo hown hK hP hD hS 0 rfl rfl 6 (by decide) (hts _ k_fl_Mo_44) (fun _ h9 => h9) rfl (by decide +kernel) rfl rfl (Nat.le_of_ble_eq_true rfl) d_Mo_suits_44 (fun H locs hP hD hS => ?_)
      have hP : va_P D classes (wM h ht hp hw hz cI cZ T n P pn V vn (nI (wq_nx P pn a)) (nI (wq_pl P pn a)) z) H := hP
      have hD : va_D _ (wM h ht hp hw hz cI cZ T n P pn V vn (nI (wq_nx P pn a)) (nI (wq_pl P pn a)) z) := hD
      refine lv_aload_n hx hb d_Mo_suits_47 rfl (lv_at hl 0 rfl) ?_
      refine va_get (D := D) (ci := 2) (v := .int (nI (wq_pl P pn a))) (C := R_Mo) (T := F_Mo) (N := 9) hx hb hts i_Mo hown hK hP 0 rfl rfl 7 (by decide) (hts _ k_fl_Mo_37) (fun _ h9 => h9) rfl d_Mo_suits_48 ?_
      refine lv_iload_n hx hb d_Mo_suits_51 rfl (lv_at hl 2 rfl) ?_
      refine lv_icmp_ne (tgt := 59) hx hb d_Mo_suits_52 (by decide) (fun c52 => ?_) (fun c52 => ?_)
      · have c52 : ¬ (wq_pl P pn a) = b := fun hz => c52 ((nI_eq (by omega) (by omega)).mpr hz)
        refine lv_iconst (v := (nI 0)) hx hb d_Mo_suits_59 (by decide +kernel) ?_
        refine wr_cv (z := bI (wq_tk P pn a b)) (by rw [wq_tk, if_neg c8, if_neg c26, decide_eq_false c52]; rfl) ?_
        exact W.zret hx hb hr (bI_nar _) (fun t ht9 _ => ⟨⟨_, _, rfl, ⟨rfl, _, by rw [wq_be, if_neg c8]⟩, by show va_P D classes _ t.heap; rw [ht9]; exact hP⟩, hS.F ht9⟩) hS.2.2 d_Mo_suits_60
      · have c52 : (wq_pl P pn a) = b := (nI_eq (by omega) (by omega)).mp c52
        refine lv_iconst (v := (nI 1)) hx hb d_Mo_suits_55 (by decide +kernel) ?_
        refine lv_goto (tgt := 60) hx hb d_Mo_suits_56 (by decide) ?_
        refine wr_cv (z := bI (wq_tk P pn a b)) (by rw [wq_tk, if_neg c8, if_neg c26, decide_eq_true c52]; rfl) ?_
        exact W.zret hx hb hr (bI_nar _) (fun t ht9 _ => ⟨⟨_, _, rfl, ⟨rfl, _, by rw [wq_be, if_neg c8]⟩, by show va_P D classes _ t.heap; rw [ht9]; exact hP⟩, hS.F ht9⟩) hS.2.2 d_Mo_suits_60
    · have c26 : (P a) = 63 := (nI_eq (by omega) (by omega)).mp c26
      refine lv_aload_n hx hb d_Mo_suits_29 rfl (lv_at hl 0 rfl) ?_
      refine lv_iload_n hx hb d_Mo_suits_30 rfl (lv_at hl 1 rfl) ?_
      refine lv_iconst (v := (nI 1)) hx hb d_Mo_suits_31 (by decide +kernel) ?_
      refine lv_iadd hx hb d_Mo_suits_32 ?_
      refine wr_cv (z := (nI (a + 1))) (nI_add a 1) ?_
      refine va_put (D := D) (ci := 2) (v := .int (nI (a + 1))) (ty := .int) (C := R_Mo) (T := F_Mo) (N := 9) hx hb hts i_Mo t_Mo t_Mo_ok n_Mo hown hK hP hD hS 0 rfl rfl 6 (by decide) (hts _ k_fl_Mo_44) (fun _ h9 => h9) rfl (by decide +kernel) rfl rfl (Nat.le_of_ble_eq_true rfl) d_Mo_suits_33 (fun H locs hP hD hS => ?_)
      have hP : va_P D classes (wM h ht hp hw hz cI cZ T n P pn V vn (nI (a + 1)) td z) H := hP
      have hD : va_D _ (wM h ht hp hw hz cI cZ T n P pn V vn (nI (a + 1)) td z) := hD
      refine lv_iconst (v := (nI 1)) hx hb d_Mo_suits_36 (by decide +kernel) ?_
      refine wr_cv (z := bI (wq_tk P pn a b)) (by rw [wq_tk, if_neg c8, if_pos c26]; rfl) ?_
      exact W.zret hx hb hr (bI_nar _) (fun t ht9 _ => ⟨⟨_, _, rfl, ⟨rfl, _, by rw [wq_be, if_neg c8, wq_nx, if_neg (fun z => absurd (c26.symm.trans z.1) (by decide))]⟩, by show va_P D classes _ t.heap; rw [ht9]; exact hP⟩, hS.F ht9⟩) hS.2.2 d_Mo_suits_37
  · have c8 : (P a) = 91 := (nI_eq (by omega) (by omega)).mp c8
    refine lv_aload_n hx hb d_Mo_suits_11 rfl (lv_at hl 0 rfl) ?_
    refine lv_iload_n hx hb d_Mo_suits_12 rfl (lv_at hl 1 rfl) ?_
    refine lv_iload_n hx hb d_Mo_suits_13 rfl (lv_at hl 2 rfl) ?_
    refine wr_ci (As := [.int (nI a), .int (nI b)]) (rest := []) (wr := []) (wc := wM h ht hp hw hz cI cZ T n P pn V vn en td z) S (c_Mo_isOne l D cB cI cZ h ht hp hw hz T hT8 n hn P hP8 pn hpn V hV8 vn hvn a b ha hbb c8 en td z s.heap.size) (cwV 2 hts g_Mo_47 rfl rfl rfl (by decide +kernel) ⟨Nat.le_of_ble_eq_true rfl, Nat.le_of_ble_eq_true rfl⟩) hK hP hD hS hA [0, 1, 2, 3, 4] [] rfl rfl (by decide) rfl (by decide) (by decide) (ci := 2) (q0 := 0) rfl rfl rfl rfl hl.1 rfl (lv_room (Nat.le_of_ble_eq_true rfl)) d_Mo_suits_14 ⟨Nat.zero_le _, Nat.zero_le _⟩ (fun r9 u9 H locs hpo hj hS => ?_)
    obtain ⟨e1, td, e2⟩ := hpo
    subst e1
    subst e2
    obtain ⟨hP, hD⟩ := hj rfl
    have hP : va_P D classes (wM h ht hp hw hz cI cZ T n P pn V vn (nI (wq_be P pn a)) td z) H := hP
    have hD : va_D _ (wM h ht hp hw hz cI cZ T n P pn V vn (nI (wq_be P pn a)) td z) := hD
    exact W.zret hx hb hr (bI_nar _) (fun t ht9 _ => ⟨⟨_, _, rfl, ⟨rfl, _, rfl⟩, by show va_P D classes _ t.heap; rw [ht9]; exact hP⟩, hS.F ht9⟩) hS.2.2 d_Mo_suits_17
end
section
/-- true at some place up to there -/
def wq_os (y : Nat → Bool) : Nat → Bool
  | 0 => y 0
  | i + 1 => y (i + 1) || wq_os y i
theorem wq_os_iff (y : Nat → Bool) : ∀ j, wq_os y j = true ↔ ∃ k, k ≤ j ∧ y k = true := by
  intro j
  induction j with
  | zero => exact ⟨fun h => ⟨0, Nat.le_refl _, h⟩, fun ⟨k, k1, k2⟩ => by rw [show k = 0 by omega] at k2; exact k2⟩
  | succ j ih =>
    constructor
    · intro h
      rcases (Bool.or_eq_true _ _).mp h with h | h
      · exact ⟨j + 1, Nat.le_refl _, h⟩
      · obtain ⟨k, k1, k2⟩ := ih.mp h
        exact ⟨k, by omega, k2⟩
    · intro ⟨k, k1, k2⟩
      refine (Bool.or_eq_true _ _).mpr ?_
      by_cases e : k = j + 1
      · rw [e] at k2; exact Or.inl k2
      · exact Or.inr (ih.mpr ⟨k, by omega, k2⟩)
theorem wq_os_at (y : Nat → Bool) {j : Nat} (h : 0 < j) : wq_os y j = (y j || wq_os y (j - 1)) := by
  cases j with
  | zero => omega
  | succ j => rfl
/-- behind a thing -/
def wq_it (y t : Nat → Bool) : Nat → Bool
  | 0 => false
  | i + 1 => y i && t i
theorem le0 {j : Nat} (h : j < 2 ^ 31) : nI j ≤ 0 ↔ j = 0 := by
  constructor
  · intro c
    exact Classical.byContradiction fun z => nI_nle (by omega) h c
  · intro c; rw [c]; decide +kernel
set_option maxHeartbeats 4000000 in
set_option maxRecDepth 100000 in
theorem lp_r1 {p : Program} {l : Launch} {e : Env} {s : State} {m : MethodId} {args : Array Value} {below : List Frame} {meth : Method} {c : Code} {Q : State → Prop} {D : va_G} {cB cI cZ : ClassId} {A : Nat → Prop} {H0 : Heap} (hA : ∀ q, H0.size ≤ q → A q) {h ht hp hw hz : Nat} {T : Nat → Nat} (hT8 : ∀ k, T k < 256) {n : Nat} (hn : n ≤ 400) {P : Nat → Nat} (hP8 : ∀ k, P k < 256) {pn : Nat} (hpn : pn ≤ 400) {V : Nat → Nat} (hV8 : ∀ k, V k < 256) {vn : Nat} (hvn : vn ≤ 400) {en td : Int32} {f k : Nat} (hfk : f + k ≤ 400) (S : CallFix p m c b_Mo_reckon 5 s args gw R_Mo) (hK : va_K D classes (TY cB cI cZ) s) (kk : ∀ (z : Nat → Int32) (H : Heap) (locs : List Loc) (ls : Array Slot), z 0 = bI true → (∀ i, 1 ≤ i → i ≤ k → z i = bI false) → va_P D classes (wM h ht hp hw hz cI cZ T n P pn V vn en td z) H → va_D A (wM h ht hp hw hz cI cZ T n P pn V vn en td z) → va_S A H0 H locs → lv_has ls 5 [(0, .ref h), (1, .int (nI f)), (2, .int (nI k))] → W p l e rm_Mo_reckon s m args below meth c H locs 0 0 Q (F0 m 27 ls [])) : ∀ (j q : Nat), k + 1 - q < j → 1 ≤ q → q ≤ k + 1 → ∀ (z : Nat → Int32) (H : Heap) (locs : List Loc) (ls : Array Slot), z 0 = bI true → (∀ i, 1 ≤ i → i < q → z i = bI false) → va_P D classes (wM h ht hp hw hz cI cZ T n P pn V vn en td z) H → va_D A (wM h ht hp hw hz cI cZ T n P pn V vn en td z) → va_S A H0 H locs → lv_has ls 5 [(0, .ref h), (1, .int (nI f)), (2, .int (nI k)), (3, .int (nI q))] → W p l e rm_Mo_reckon s m args below meth c H locs 0 0 Q (F0 m 9 ls []) := by
  obtain ⟨hx, hb, hml, hown, hts⟩ := id S
  intro j
  induction j with
  | zero => intro q h0; exact absurd h0 (Nat.not_lt_zero _)
  | succ j ih =>
    intro q h0 h1 h2 z H locs ls hz0 hz1 hP hD hS hl
    refine lv_iload_n hx hb d_Mo_reckon_9 rfl (lv_at hl 3 rfl) ?_
    refine lv_iload_n hx hb d_Mo_reckon_10 rfl (lv_at hl 2 rfl) ?_
    refine lv_icmp_gt (tgt := 27) hx hb d_Mo_reckon_11 (by decide) (fun c11 => ?_) (fun c11 => ?_)
    · have c11 : k < q := (nI_ltI (by omega) (by omega)).mp c11
      exact kk z H locs ls hz0 (fun i i1 i2 => hz1 i i1 (by omega)) hP hD hS (lv_sub hl [0, 1, 2] rfl)
    · have c11 : ¬ k < q := fun hz => c11 ((nI_ltI (by omega) (by omega)).mpr hz)
      refine lv_aload_n hx hb d_Mo_reckon_14 rfl (lv_at hl 0 rfl) ?_
      refine va_get (D := D) (ci := 2) (v := .ref hz) (C := R_Mo) (T := F_Mo) (N := 9) hx hb hts i_Mo hown hK hP 0 rfl rfl 8 (by decide) (hts _ k_fl_Mo_19) (fun _ h9 => h9) rfl d_Mo_reckon_15 ?_
      refine lv_iload_n hx hb d_Mo_reckon_18 rfl (lv_at hl 3 rfl) ?_
      refine lv_iconst (v := (nI 0)) hx hb d_Mo_reckon_19 (by decide +kernel) ?_
      refine wr_cv (z := (bI false)) rfl ?_
      refine va_zast hx hb hK hP hD hS 4 2 rfl rfl (vp_in_nI (by omega) (by omega)) d_Mo_reckon_20 (fun H locs hP hD hS => ?_)
      rw [nI_clamp (n := q) (by omega), bI_vp] at hP hD
      have hP : va_P D classes (wM h ht hp hw hz cI cZ T n P pn V vn en td (upd z q (bI false))) H := hP
      have hD : va_D _ (wM h ht hp hw hz cI cZ T n P pn V vn en td (upd z q (bI false))) := hD
      refine lv_iinc (v := (nI (q + 1))) (lv' := [(3, .int (nI (q + 1))), (0, .ref h), (1, .int (nI f)), (2, .int (nI k))]) hx hb d_Mo_reckon_21 hl (k := 3) rfl (nI_add q 1) (by decide) rfl (fun ls hl => ?_)
      refine lv_goto (tgt := 9) hx hb d_Mo_reckon_24 (by decide) ?_
      exact ih (q + 1) (by omega) (by omega) (by omega) _ H locs ls (by rw [pk_un (by omega)]; exact hz0) (fun i i1 i2 => by
        by_cases e : i = q
        · rw [e, pk_us]
        · rw [pk_un e]; exact hz1 i i1 (by omega)) hP hD hS (lv_sub hl [1, 2, 3, 0] rfl)
set_option maxHeartbeats 4000000 in
set_option maxRecDepth 100000 in
theorem lp_r3 {p : Program} {l : Launch} {e : Env} {s : State} {m : MethodId} {args : Array Value} {below : List Frame} {meth : Method} {c : Code} {Q : State → Prop} {D : va_G} {cB cI cZ : ClassId} {A : Nat → Prop} {H0 : Heap} (hA : ∀ q, H0.size ≤ q → A q) {h ht hp hw hz : Nat} {T : Nat → Nat} (hT8 : ∀ k, T k < 256) {n : Nat} (hn : n ≤ 400) {P : Nat → Nat} (hP8 : ∀ k, P k < 256) {pn : Nat} (hpn : pn ≤ 400) {V : Nat → Nat} (hV8 : ∀ k, V k < 256) {vn : Nat} (hvn : vn ≤ 400) {en td : Int32} {a : Nat} {y : Nat → Bool} {f k : Nat} (hfk : f + k ≤ 400) (S : CallFix p m c b_Mo_reckon 5 s args gw R_Mo) (hK : va_K D classes (TY cB cI cZ) s) (kk : ∀ (z : Nat → Int32) (H : Heap) (locs : List Loc) (ls : Array Slot), (∀ i, i ≤ k → z i = bI (wq_os y i)) → va_P D classes (wM h ht hp hw hz cI cZ T n P pn V vn en td z) H → va_D A (wM h ht hp hw hz cI cZ T n P pn V vn en td z) → va_S A H0 H locs → lv_has ls 5 [(0, .ref h), (1, .int (nI f)), (2, .int (nI k)), (3, .int (nI a))] → W p l e rm_Mo_reckon s m args below meth c H locs 0 0 Q (F0 m 97 ls [])) : ∀ (j q : Nat), k + 1 - q < j → 1 ≤ q → q ≤ k + 1 → ∀ (z : Nat → Int32) (H : Heap) (locs : List Loc) (ls : Array Slot), (∀ i, i < q → z i = bI (wq_os y i)) → (∀ i, q ≤ i → i ≤ k → z i = bI (y i)) → va_P D classes (wM h ht hp hw hz cI cZ T n P pn V vn en td z) H → va_D A (wM h ht hp hw hz cI cZ T n P pn V vn en td z) → va_S A H0 H locs → lv_has ls 5 [(0, .ref h), (1, .int (nI f)), (2, .int (nI k)), (3, .int (nI a)), (4, .int (nI q))] → W p l e rm_Mo_reckon s m args below meth c H locs 0 0 Q (F0 m 51 ls []) := by
  obtain ⟨hx, hb, hml, hown, hts⟩ := id S
  intro j
  induction j with
  | zero => intro q h0; exact absurd h0 (Nat.not_lt_zero _)
  | succ j ih =>
    intro q h0 h1 h2 z H locs ls hz1 hz2 hP hD hS hl
    refine lv_iload hx hb d_Mo_reckon_51 (lv_at hl 4 rfl) ?_
    refine lv_iload_n hx hb d_Mo_reckon_53 rfl (lv_at hl 2 rfl) ?_
    refine lv_icmp_gt (tgt := 97) hx hb d_Mo_reckon_54 (by decide) (fun c54 => ?_) (fun c54 => ?_)
    · have c54 : k < q := (nI_ltI (by omega) (by omega)).mp c54
      exact kk z H locs ls (fun i i1 => hz1 i (by omega)) hP hD hS (lv_sub hl [0, 1, 2, 3] rfl)
    · have c54 : ¬ k < q := fun hz => c54 ((nI_ltI (by omega) (by omega)).mpr hz)
      refine lv_aload_n hx hb d_Mo_reckon_57 rfl (lv_at hl 0 rfl) ?_
      refine va_get (D := D) (ci := 2) (v := .ref hz) (C := R_Mo) (T := F_Mo) (N := 9) hx hb hts i_Mo hown hK hP 0 rfl rfl 8 (by decide) (hts _ k_fl_Mo_19) (fun _ h9 => h9) rfl d_Mo_reckon_58 ?_
      refine lv_iload hx hb d_Mo_reckon_61 (lv_at hl 4 rfl) ?_
      refine lv_aload_n hx hb d_Mo_reckon_63 rfl (lv_at hl 0 rfl) ?_
      refine va_get (D := D) (ci := 2) (v := .ref hz) (C := R_Mo) (T := F_Mo) (N := 9) hx hb hts i_Mo hown hK hP 0 rfl rfl 8 (by decide) (hts _ k_fl_Mo_19) (fun _ h9 => h9) rfl d_Mo_reckon_64 ?_
      refine lv_iload hx hb d_Mo_reckon_67 (lv_at hl 4 rfl) ?_
      refine va_zald hx hb hK hP 4 2 rfl rfl (vp_in_nI (by omega) (by omega)) d_Mo_reckon_69 ?_
      refine wr_cv (z := (z q)) (congrArg _ ((nI_clamp (by omega)).trans (by omega))) ?_
      refine wr_cv (z := (bI (y q))) (hz2 q (Nat.le_refl _) (by omega)) ?_
      refine lv_if_ne (tgt := 85) hx hb d_Mo_reckon_70 (by decide) (fun c70 => ?_) (fun c70 => ?_)
      · have c70 : (y q) = true := ts_b (fun hz => c70 (bI_0.mpr hz))
        refine lv_iconst (v := (nI 1)) hx hb d_Mo_reckon_85 (by decide +kernel) ?_
        refine lv_goto (tgt := 90) hx hb d_Mo_reckon_86 (by decide) ?_
        refine wr_cv (z := (bI (wq_os y q))) (by rw [wq_os_at y (by omega), c70]; rfl) ?_
        refine va_zast hx hb hK hP hD hS 4 2 rfl rfl (vp_in_nI (by omega) (by omega)) d_Mo_reckon_90 (fun H locs hP hD hS => ?_)
        rw [nI_clamp (n := q) (by omega), bI_vp] at hP hD
        have hP : va_P D classes (wM h ht hp hw hz cI cZ T n P pn V vn en td (upd z q (bI (wq_os y q)))) H := hP
        have hD : va_D _ (wM h ht hp hw hz cI cZ T n P pn V vn en td (upd z q (bI (wq_os y q)))) := hD
        refine lv_iinc (v := (nI (q + 1))) (lv' := [(4, .int (nI (q + 1))), (0, .ref h), (1, .int (nI f)), (2, .int (nI k)), (3, .int (nI a))]) hx hb d_Mo_reckon_91 hl (k := 4) rfl (nI_add q 1) (by decide) rfl (fun ls hl => ?_)
        refine lv_goto (tgt := 51) hx hb d_Mo_reckon_94 (by decide) ?_
        exact ih (q + 1) (by omega) (by omega) (by omega) _ H locs ls (fun i i1 => by
          by_cases e : i = q
          · rw [e, pk_us]
          · rw [pk_un e]; exact hz1 i (by omega)) (fun i i1 i2 => by rw [pk_un (by omega)]; exact hz2 i (by omega) i2) hP hD hS (lv_sub hl [1, 2, 3, 4, 0] rfl)
      · have c70 : (y q) = false := bI_0.mp c70
        refine lv_aload_n hx hb d_Mo_reckon_73 rfl (lv_at hl 0 rfl) ?_
        refine va_get (D := D) (ci := 2) (v := .ref hz) (C := R_Mo) (T := F_Mo) (N := 9) hx hb hts i_Mo hown hK hP 0 rfl rfl 8 (by decide) (hts _ k_fl_Mo_19) (fun _ h9 => h9) rfl d_Mo_reckon_74 ?_
        refine lv_iload hx hb d_Mo_reckon_77 (lv_at hl 4 rfl) ?_
        refine lv_iconst (v := (nI 1)) hx hb d_Mo_reckon_79 (by decide +kernel) ?_
        refine lv_isub hx hb d_Mo_reckon_80 ?_
        refine wr_cv (z := (nI (q - 1))) (pk_sub (by omega)) ?_
        refine va_zald hx hb hK hP 4 2 rfl rfl (vp_in_nI (by omega) (by omega)) d_Mo_reckon_81 ?_
        refine wr_cv (z := (z (q - 1))) (congrArg _ ((nI_clamp (by omega)).trans (by omega))) ?_
        refine wr_cv (z := (bI (wq_os y (q - 1)))) (hz1 (q - 1) (by omega)) ?_
        refine lv_if_eq (tgt := 89) hx hb d_Mo_reckon_82 (by decide) (fun c82 => ?_) (fun c82 => ?_)
        · have c82 : (wq_os y (q - 1)) = false := bI_0.mp c82
          refine lv_iconst (v := (nI 0)) hx hb d_Mo_reckon_89 (by decide +kernel) ?_
          refine wr_cv (z := (bI (wq_os y q))) (by rw [wq_os_at y (by omega), c70, c82]; rfl) ?_
          refine va_zast hx hb hK hP hD hS 4 2 rfl rfl (vp_in_nI (by omega) (by omega)) d_Mo_reckon_90 (fun H locs hP hD hS => ?_)
          rw [nI_clamp (n := q) (by omega), bI_vp] at hP hD
          have hP : va_P D classes (wM h ht hp hw hz cI cZ T n P pn V vn en td (upd z q (bI (wq_os y q)))) H := hP
          have hD : va_D _ (wM h ht hp hw hz cI cZ T n P pn V vn en td (upd z q (bI (wq_os y q)))) := hD
          refine lv_iinc (v := (nI (q + 1))) (lv' := [(4, .int (nI (q + 1))), (0, .ref h), (1, .int (nI f)), (2, .int (nI k)), (3, .int (nI a))]) hx hb d_Mo_reckon_91 hl (k := 4) rfl (nI_add q 1) (by decide) rfl (fun ls hl => ?_)
          refine lv_goto (tgt := 51) hx hb d_Mo_reckon_94 (by decide) ?_
          exact ih (q + 1) (by omega) (by omega) (by omega) _ H locs ls (fun i i1 => by
            by_cases e : i = q
            · rw [e, pk_us]
            · rw [pk_un e]; exact hz1 i (by omega)) (fun i i1 i2 => by rw [pk_un (by omega)]; exact hz2 i (by omega) i2) hP hD hS (lv_sub hl [1, 2, 3, 4, 0] rfl)
        · have c82 : (wq_os y (q - 1)) = true := ts_b (fun hz => c82 (bI_0.mpr hz))
          refine lv_iconst (v := (nI 1)) hx hb d_Mo_reckon_85 (by decide +kernel) ?_
          refine lv_goto (tgt := 90) hx hb d_Mo_reckon_86 (by decide) ?_
          refine wr_cv (z := (bI (wq_os y q))) (by rw [wq_os_at y (by omega), c70, c82]; rfl) ?_
          refine va_zast hx hb hK hP hD hS 4 2 rfl rfl (vp_in_nI (by omega) (by omega)) d_Mo_reckon_90 (fun H locs hP hD hS => ?_)
          rw [nI_clamp (n := q) (by omega), bI_vp] at hP hD
          have hP : va_P D classes (wM h ht hp hw hz cI cZ T n P pn V vn en td (upd z q (bI (wq_os y q)))) H := hP
          have hD : va_D _ (wM h ht hp hw hz cI cZ T n P pn V vn en td (upd z q (bI (wq_os y q)))) := hD
          refine lv_iinc (v := (nI (q + 1))) (lv' := [(4, .int (nI (q + 1))), (0, .ref h), (1, .int (nI f)), (2, .int (nI k)), (3, .int (nI a))]) hx hb d_Mo_reckon_91 hl (k := 4) rfl (nI_add q 1) (by decide) rfl (fun ls hl => ?_)
          refine lv_goto (tgt := 51) hx hb d_Mo_reckon_94 (by decide) ?_
          exact ih (q + 1) (by omega) (by omega) (by omega) _ H locs ls (fun i i1 => by
            by_cases e : i = q
            · rw [e, pk_us]
            · rw [pk_un e]; exact hz1 i (by omega)) (fun i i1 i2 => by rw [pk_un (by omega)]; exact hz2 i (by omega) i2) hP hD hS (lv_sub hl [1, 2, 3, 4, 0] rfl)
set_option maxHeartbeats 4000000 in
set_option maxRecDepth 100000 in
theorem lp_r4 {p : Program} {l : Launch} {e : Env} {s : State} {m : MethodId} {args : Array Value} {below : List Frame} {meth : Method} {c : Code} {Q : State → Prop} {D : va_G} {cB cI cZ : ClassId} {A : Nat → Prop} {H0 : Heap} (hA : ∀ q, H0.size ≤ q → A q) {h ht hp hw hz : Nat} {T : Nat → Nat} (hT8 : ∀ k, T k < 256) {n : Nat} (hn : n ≤ 400) {P : Nat → Nat} (hP8 : ∀ k, P k < 256) {pn : Nat} (hpn : pn ≤ 400) {V : Nat → Nat} (hV8 : ∀ k, V k < 256) {vn : Nat} (hvn : vn ≤ 400) {a : Nat} (ha : a < pn) {y : Nat → Bool} {f k : Nat} (hfk : f + k ≤ 400) (S : CallFix p m c b_Mo_reckon 5 s args gw R_Mo) (hK : va_K D classes (TY cB cI cZ) s) (kk : ∀ (en td : Int32) (z : Nat → Int32) (H : Heap) (locs : List Loc) (ls : Array Slot), (∀ i, i < k → z (i + 1) = bI (y i && wq_tk P pn a (V (f + i)))) → va_P D classes (wM h ht hp hw hz cI cZ T n P pn V vn en td z) H → va_D A (wM h ht hp hw hz cI cZ T n P pn V vn en td z) → va_S A H0 H locs → lv_has ls 5 [(0, .ref h), (1, .int (nI f)), (2, .int (nI k)), (3, .int (nI a))] → W p l e rm_Mo_reckon s m args below meth c H locs 0 0 Q (F0 m 160 ls [])) : ∀ (j q : Nat), q < j → q ≤ k → ∀ (en td : Int32) (z : Nat → Int32) (H : Heap) (locs : List Loc) (ls : Array Slot), (∀ i, i ≤ q → z i = bI (y i)) → (∀ i, q ≤ i → i < k → z (i + 1) = bI (y i && wq_tk P pn a (V (f + i)))) → va_P D classes (wM h ht hp hw hz cI cZ T n P pn V vn en td z) H → va_D A (wM h ht hp hw hz cI cZ T n P pn V vn en td z) → va_S A H0 H locs → lv_has ls 5 [(0, .ref h), (1, .int (nI f)), (2, .int (nI k)), (3, .int (nI a)), (4, .int (nI q))] → W p l e rm_Mo_reckon s m args below meth c H locs 0 0 Q (F0 m 106 ls []) := by
  obtain ⟨hx, hb, hml, hown, hts⟩ := id S
  intro j
  induction j with
  | zero => intro q h0; exact absurd h0 (Nat.not_lt_zero _)
  | succ j ih =>
    intro q h0 h1 en td z H locs ls hz1 hz2 hP hD hS hl
    refine lv_iload hx hb d_Mo_reckon_106 (lv_at hl 4 rfl) ?_
    refine lv_if_le (tgt := 160) hx hb d_Mo_reckon_108 (by decide) (fun c108 => ?_) (fun c108 => ?_)
    · have c108 : q = 0 := (le0 (by omega)).mp c108
      exact kk en td z H locs ls (fun i i1 => hz2 i (by omega) i1) hP hD hS (lv_sub hl [0, 1, 2, 3] rfl)
    · have c108 : ¬ q = 0 := fun z => c108 ((le0 (by omega)).mpr z)
      refine lv_aload_n hx hb d_Mo_reckon_111 rfl (lv_at hl 0 rfl) ?_
      refine va_get (D := D) (ci := 2) (v := .ref hz) (C := R_Mo) (T := F_Mo) (N := 9) hx hb hts i_Mo hown hK hP 0 rfl rfl 8 (by decide) (hts _ k_fl_Mo_19) (fun _ h9 => h9) rfl d_Mo_reckon_112 ?_
      refine lv_iload hx hb d_Mo_reckon_115 (lv_at hl 4 rfl) ?_
      refine lv_aload_n hx hb d_Mo_reckon_117 rfl (lv_at hl 0 rfl) ?_
      refine va_get (D := D) (ci := 2) (v := .ref hz) (C := R_Mo) (T := F_Mo) (N := 9) hx hb hts i_Mo hown hK hP 0 rfl rfl 8 (by decide) (hts _ k_fl_Mo_19) (fun _ h9 => h9) rfl d_Mo_reckon_118 ?_
      refine lv_iload hx hb d_Mo_reckon_121 (lv_at hl 4 rfl) ?_
      refine lv_iconst (v := (nI 1)) hx hb d_Mo_reckon_123 (by decide +kernel) ?_
      refine lv_isub hx hb d_Mo_reckon_124 ?_
      refine wr_cv (z := (nI (q - 1))) (pk_sub (by omega)) ?_
      refine va_zald hx hb hK hP 4 2 rfl rfl (vp_in_nI (by omega) (by omega)) d_Mo_reckon_125 ?_
      refine wr_cv (z := (z (q - 1))) (congrArg _ ((nI_clamp (by omega)).trans (by omega))) ?_
      refine wr_cv (z := (bI (y (q - 1)))) (hz1 (q - 1) (by omega)) ?_
      refine lv_if_eq (tgt := 152) hx hb d_Mo_reckon_126 (by decide) (fun c126 => ?_) (fun c126 => ?_)
      · have c126 : (y (q - 1)) = false := bI_0.mp c126
        refine lv_iconst (v := (nI 0)) hx hb d_Mo_reckon_152 (by decide +kernel) ?_
        refine wr_cv (z := (bI (y (q - 1) && wq_tk P pn a (V (f + (q - 1)))))) (by rw [c126]; rfl) ?_
        refine va_zast hx hb hK hP hD hS 4 2 rfl rfl (vp_in_nI (by omega) (by omega)) d_Mo_reckon_153 (fun H locs hP hD hS => ?_)
        rw [nI_clamp (n := q) (by omega), bI_vp] at hP hD
        have hP : va_P D classes (wM h ht hp hw hz cI cZ T n P pn V vn en td (upd z q (bI (y (q - 1) && wq_tk P pn a (V (f + (q - 1))))))) H := hP
        have hD : va_D _ (wM h ht hp hw hz cI cZ T n P pn V vn en td (upd z q (bI (y (q - 1) && wq_tk P pn a (V (f + (q - 1))))))) := hD
        refine lv_iinc (v := (nI (q - 1))) (lv' := [(4, .int (nI (q - 1))), (0, .ref h), (1, .int (nI f)), (2, .int (nI k)), (3, .int (nI a))]) hx hb d_Mo_reckon_154 hl (k := 4) rfl (sb_m1 (by omega)) (by decide) rfl (fun ls hl => ?_)
        refine lv_goto (tgt := 106) hx hb d_Mo_reckon_157 (by decide) ?_
        exact ih (q - 1) (by omega) (by omega) _ _ _ H locs ls (fun i i1 => by rw [pk_un (by omega)]; exact hz1 i (by omega)) (fun i i1 i2 => by
          by_cases e : i = q - 1
          · rw [e, show q - 1 + 1 = q by omega, pk_us]
          · rw [pk_un (by omega)]; exact hz2 i (by omega) i2) hP hD hS (lv_sub hl [1, 2, 3, 4, 0] rfl)
      · have c126 : (y (q - 1)) = true := ts_b (fun hz => c126 (bI_0.mpr hz))
        refine lv_aload_n hx hb d_Mo_reckon_129 rfl (lv_at hl 0 rfl) ?_
        refine lv_iload_n hx hb d_Mo_reckon_130 rfl (lv_at hl 3 rfl) ?_
        refine lv_aload_n hx hb d_Mo_reckon_131 rfl (lv_at hl 0 rfl) ?_
        refine va_get (D := D) (ci := 2) (v := .ref hw) (C := R_Mo) (T := F_Mo) (N := 9) hx hb hts i_Mo hown hK hP 0 rfl rfl 2 (by decide) (hts _ k_fl_Mo_16) (fun _ h9 => h9) rfl d_Mo_reckon_132 ?_
        refine lv_iload_n hx hb d_Mo_reckon_135 rfl (lv_at hl 1 rfl) ?_
        refine lv_iload hx hb d_Mo_reckon_136 (lv_at hl 4 rfl) ?_
        refine lv_iadd hx hb d_Mo_reckon_138 ?_
        refine wr_cv (z := (nI (f + q))) (nI_add f q) ?_
        refine lv_iconst (v := (nI 1)) hx hb d_Mo_reckon_139 (by decide +kernel) ?_
        refine lv_isub hx hb d_Mo_reckon_140 ?_
        refine wr_cv (z := (nI ((f + q) - 1))) (pk_sub (by omega)) ?_
        refine va_iald hx hb hK hP 3 1 rfl rfl (vp_in_nI (by omega) (by omega)) d_Mo_reckon_141 ?_
        refine wr_cv (z := (nI (V (f + (q - 1))))) (nF_at (by omega) (by omega)) ?_
        have f1 := hV8 (f + (q - 1))
        refine wr_ci (As := [.int (nI a), .int (nI (V (f + (q - 1))))]) (rest := [.int (nI q), .ref hz]) (wr := []) (wc := wM h ht hp hw hz cI cZ T n P pn V vn en td z) S (c_Mo_suits l D cB cI cZ h ht hp hw hz T hT8 n hn P hP8 pn hpn V hV8 vn hvn a (V (f + (q - 1))) ha (hV8 _) en td z H.size) (cwV 2 hts g_Mo_51 rfl rfl rfl (by decide +kernel) ⟨Nat.le_of_ble_eq_true rfl, Nat.le_of_ble_eq_true rfl⟩) hK hP hD hS hA [0, 1, 2, 3, 4] [] rfl rfl (by decide) rfl (by decide) (by decide) (ci := 2) (q0 := 0) rfl rfl rfl rfl hl.1 rfl (lv_room (Nat.le_of_ble_eq_true rfl)) d_Mo_reckon_142 ⟨Nat.zero_le _, Nat.zero_le _⟩ (fun r9 u9 H locs hpo hj hS => ?_)
        obtain ⟨e1, td, e2⟩ := hpo
        subst e1
        subst e2
        obtain ⟨hP, hD⟩ := hj rfl
        have hP : va_P D classes (wM h ht hp hw hz cI cZ T n P pn V vn (nI (wq_be P pn a)) td z) H := hP
        have hD : va_D _ (wM h ht hp hw hz cI cZ T n P pn V vn (nI (wq_be P pn a)) td z) := hD
        refine lv_if_eq (tgt := 152) hx hb d_Mo_reckon_145 (by decide) (fun c145 => ?_) (fun c145 => ?_)
        · have c145 : (wq_tk P pn a (V (f + (q - 1)))) = false := bI_0.mp c145
          refine lv_iconst (v := (nI 0)) hx hb d_Mo_reckon_152 (by decide +kernel) ?_
          refine wr_cv (z := (bI (y (q - 1) && wq_tk P pn a (V (f + (q - 1)))))) (by rw [c126, c145]; rfl) ?_
          refine va_zast hx hb hK hP hD hS 4 2 rfl rfl (vp_in_nI (by omega) (by omega)) d_Mo_reckon_153 (fun H locs hP hD hS => ?_)
          rw [nI_clamp (n := q) (by omega), bI_vp] at hP hD
          have hP : va_P D classes (wM h ht hp hw hz cI cZ T n P pn V vn (nI (wq_be P pn a)) td (upd z q (bI (y (q - 1) && wq_tk P pn a (V (f + (q - 1))))))) H := hP
          have hD : va_D _ (wM h ht hp hw hz cI cZ T n P pn V vn (nI (wq_be P pn a)) td (upd z q (bI (y (q - 1) && wq_tk P pn a (V (f + (q - 1))))))) := hD
          refine lv_iinc (v := (nI (q - 1))) (lv' := [(4, .int (nI (q - 1))), (0, .ref h), (1, .int (nI f)), (2, .int (nI k)), (3, .int (nI a))]) hx hb d_Mo_reckon_154 hl (k := 4) rfl (sb_m1 (by omega)) (by decide) rfl (fun ls hl => ?_)
          refine lv_goto (tgt := 106) hx hb d_Mo_reckon_157 (by decide) ?_
          exact ih (q - 1) (by omega) (by omega) _ _ _ H locs ls (fun i i1 => by rw [pk_un (by omega)]; exact hz1 i (by omega)) (fun i i1 i2 => by
            by_cases e : i = q - 1
            · rw [e, show q - 1 + 1 = q by omega, pk_us]
            · rw [pk_un (by omega)]; exact hz2 i (by omega) i2) hP hD hS (lv_sub hl [1, 2, 3, 4, 0] rfl)
        · have c145 : (wq_tk P pn a (V (f + (q - 1)))) = true := ts_b (fun hz => c145 (bI_0.mpr hz))
          refine lv_iconst (v := (nI 1)) hx hb d_Mo_reckon_148 (by decide +kernel) ?_
          refine lv_goto (tgt := 153) hx hb d_Mo_reckon_149 (by decide) ?_
          refine wr_cv (z := (bI (y (q - 1) && wq_tk P pn a (V (f + (q - 1)))))) (by rw [c126, c145]; rfl) ?_
          refine va_zast hx hb hK hP hD hS 4 2 rfl rfl (vp_in_nI (by omega) (by omega)) d_Mo_reckon_153 (fun H locs hP hD hS => ?_)
          rw [nI_clamp (n := q) (by omega), bI_vp] at hP hD
          have hP : va_P D classes (wM h ht hp hw hz cI cZ T n P pn V vn (nI (wq_be P pn a)) td (upd z q (bI (y (q - 1) && wq_tk P pn a (V (f + (q - 1))))))) H := hP
          have hD : va_D _ (wM h ht hp hw hz cI cZ T n P pn V vn (nI (wq_be P pn a)) td (upd z q (bI (y (q - 1) && wq_tk P pn a (V (f + (q - 1))))))) := hD
          refine lv_iinc (v := (nI (q - 1))) (lv' := [(4, .int (nI (q - 1))), (0, .ref h), (1, .int (nI f)), (2, .int (nI k)), (3, .int (nI a))]) hx hb d_Mo_reckon_154 hl (k := 4) rfl (sb_m1 (by omega)) (by decide) rfl (fun ls hl => ?_)
          refine lv_goto (tgt := 106) hx hb d_Mo_reckon_157 (by decide) ?_
          exact ih (q - 1) (by omega) (by omega) _ _ _ H locs ls (fun i i1 => by rw [pk_un (by omega)]; exact hz1 i (by omega)) (fun i i1 i2 => by
            by_cases e : i = q - 1
            · rw [e, show q - 1 + 1 = q by omega, pk_us]
            · rw [pk_un (by omega)]; exact hz2 i (by omega) i2) hP hD hS (lv_sub hl [1, 2, 3, 4, 0] rfl)
set_option maxHeartbeats 4000000 in
set_option maxRecDepth 100000 in
theorem lp_r2 {p : Program} {l : Launch} {e : Env} {s : State} {m : MethodId} {args : Array Value} {below : List Frame} {meth : Method} {c : Code} {Q : State → Prop} {D : va_G} {cB cI cZ : ClassId} {A : Nat → Prop} {H0 : Heap} (hA : ∀ q, H0.size ≤ q → A q) {h ht hp hw hz : Nat} {T : Nat → Nat} (hT8 : ∀ k, T k < 256) {n : Nat} (hn : n ≤ 400) {P : Nat → Nat} (hP8 : ∀ k, P k < 256) {pn : Nat} (hpn : pn ≤ 400) {V : Nat → Nat} (hV8 : ∀ k, V k < 256) {vn : Nat} (hvn : vn ≤ 400) {f k : Nat} (hfk : f + k ≤ 400) (S : CallFix p m c b_Mo_reckon 5 s args gw R_Mo) (hK : va_K D classes (TY cB cI cZ) s) (kk : ∀ (en td : Int32) (z : Nat → Int32) (H : Heap) (locs : List Loc) (ls : Array Slot), (∀ j, j ≤ k → z j = bI (wq_fb P pn V f j)) → va_P D classes (wM h ht hp hw hz cI cZ T n P pn V vn en td z) H → va_D A (wM h ht hp hw hz cI cZ T n P pn V vn en td z) → va_S A H0 H locs → W p l e rm_Mo_reckon s m args below meth c H locs 0 0 Q (F0 m 182 ls [])) : ∀ (j a : Nat), pn - a < j → a ≤ pn → ∀ (y : Nat → Bool) (en td : Int32) (z : Nat → Int32) (H : Heap) (locs : List Loc) (ls : Array Slot), (∀ i, i ≤ k → z i = bI (y i)) → wq_I P pn (fun i => V (f + i)) k y a → va_P D classes (wM h ht hp hw hz cI cZ T n P pn V vn en td z) H → va_D A (wM h ht hp hw hz cI cZ T n P pn V vn en td z) → va_S A H0 H locs → lv_has ls 5 [(0, .ref h), (1, .int (nI f)), (2, .int (nI k)), (3, .int (nI a))] → W p l e rm_Mo_reckon s m args below meth c H locs 0 0 Q (F0 m 29 ls []) := by
  obtain ⟨hx, hb, hml, hown, hts⟩ := id S
  intro j
  induction j with
  | zero => intro a h0; exact absurd h0 (Nat.not_lt_zero _)
  | succ j ih =>
    intro a h0 h1 y en td z H locs ls hy hI hP hD hS hl
    refine lv_iload_n hx hb d_Mo_reckon_29 rfl (lv_at hl 3 rfl) ?_
    refine lv_aload_n hx hb d_Mo_reckon_30 rfl (lv_at hl 0 rfl) ?_
    refine va_get (D := D) (ci := 2) (v := .int (nI pn)) (C := R_Mo) (T := F_Mo) (N := 9) hx hb hts i_Mo hown hK hP 0 rfl rfl 4 (by decide) (hts _ k_fl_Mo_31) (fun _ h9 => h9) rfl d_Mo_reckon_31 ?_
    refine lv_icmp_ge (tgt := 182) hx hb d_Mo_reckon_34 (by decide) (fun c34 => ?_) (fun c34 => ?_)
    · have c34 : pn ≤ a := (nI_leI (by omega) (by omega)).mp c34
      exact kk en td z H locs ls (fun j j1 => by rw [hy j j1, wq_I_end hI (by omega) j1]; rfl) hP hD hS
    · have c34 : ¬ pn ≤ a := fun hz => c34 ((nI_leI (by omega) (by omega)).mpr hz)
      have ha : a < pn := by omega
      refine lv_aload_n hx hb d_Mo_reckon_37 rfl (lv_at hl 0 rfl) ?_
      refine va_get (D := D) (ci := 2) (v := .ref hp) (C := R_Mo) (T := F_Mo) (N := 9) hx hb hts i_Mo hown hK hP 0 rfl rfl 1 (by decide) (hts _ k_fl_Mo_13) (fun _ h9 => h9) rfl d_Mo_reckon_38 ?_
      refine lv_iload_n hx hb d_Mo_reckon_41 rfl (lv_at hl 3 rfl) ?_
      refine va_iald hx hb hK hP 2 1 rfl rfl (vp_in_nI (by omega) (by omega)) d_Mo_reckon_42 ?_
      refine wr_cv (z := (nI (P a))) (nF_at (by omega) (by omega)) ?_
      have f2 := hP8 a
      refine lv_bipush (v := (nI 42)) hx hb d_Mo_reckon_43 (by decide +kernel) ?_
      refine lv_icmp_ne (tgt := 103) hx hb d_Mo_reckon_45 (by decide) (fun c45 => ?_) (fun c45 => ?_)
      · have c45 : ¬ (P a) = 42 := fun hz => c45 ((nI_eq (by omega) (by omega)).mpr hz)
        refine lv_iload_n hx hb d_Mo_reckon_103 rfl (lv_at hl 2 rfl) ?_
        refine lv_istore (lv' := [(4, .int (nI k)), (0, .ref h), (1, .int (nI f)), (2, .int (nI k)), (3, .int (nI a))]) hx hb d_Mo_reckon_104 hl (by decide) rfl (fun ls hl => ?_)
        refine lp_r4 hA hT8 hn hP8 hpn hV8 hvn ha hfk S hK (y := y) (fun en td z H locs ls hz9 hP hD hS hl => ?_) (k + 1) k (by omega) (by omega) en td z H locs ls (fun i i1 => hy i i1) (fun i i1 i2 => by omega) hP hD hS (lv_sub hl [1, 2, 3, 4, 0] rfl)
        refine lv_aload_n hx hb d_Mo_reckon_160 rfl (lv_at hl 0 rfl) ?_
        refine va_get (D := D) (ci := 2) (v := .ref hz) (C := R_Mo) (T := F_Mo) (N := 9) hx hb hts i_Mo hown hK hP 0 rfl rfl 8 (by decide) (hts _ k_fl_Mo_19) (fun _ h9 => h9) rfl d_Mo_reckon_161 ?_
        refine lv_iconst (v := (nI 0)) hx hb d_Mo_reckon_164 (by decide +kernel) ?_
        refine lv_iconst (v := (nI 0)) hx hb d_Mo_reckon_165 (by decide +kernel) ?_
        refine wr_cv (z := (bI false)) rfl ?_
        refine va_zast hx hb hK hP hD hS 4 2 rfl rfl (vp_in_nI (by omega) (by omega)) d_Mo_reckon_166 (fun H locs hP hD hS => ?_)
        rw [nI_clamp (n := 0) (by omega), bI_vp] at hP hD
        have hP : va_P D classes (wM h ht hp hw hz cI cZ T n P pn V vn en td (upd z 0 (bI false))) H := hP
        have hD : va_D _ (wM h ht hp hw hz cI cZ T n P pn V vn en td (upd z 0 (bI false))) := hD
        refine lv_aload_n hx hb d_Mo_reckon_167 rfl (lv_at hl 0 rfl) ?_
        refine lv_iload_n hx hb d_Mo_reckon_168 rfl (lv_at hl 3 rfl) ?_
        refine lv_iconst (v := (nI 0)) hx hb d_Mo_reckon_169 (by decide +kernel) ?_
        refine wr_ci (As := [.int (nI a), .int (nI 0)]) (rest := []) (wr := []) (wc := wM h ht hp hw hz cI cZ T n P pn V vn en td (upd z 0 (bI false))) S (c_Mo_suits l D cB cI cZ h ht hp hw hz T hT8 n hn P hP8 pn hpn V hV8 vn hvn a 0 ha (by decide) en td (upd z 0 (bI false)) H.size) (cwV 2 hts g_Mo_51 rfl rfl rfl (by decide +kernel) ⟨Nat.le_of_ble_eq_true rfl, Nat.le_of_ble_eq_true rfl⟩) hK hP hD hS hA [0, 1, 2, 3, 4] [] rfl rfl (by decide) rfl (by decide) (by decide) (ci := 2) (q0 := 0) rfl rfl rfl rfl hl.1 rfl (lv_room (Nat.le_of_ble_eq_true rfl)) d_Mo_reckon_170 ⟨Nat.zero_le _, Nat.zero_le _⟩ (fun r9 u9 H locs hpo hj hS => ?_)
        obtain ⟨e1, td, e2⟩ := hpo
        subst e1
        subst e2
        obtain ⟨hP, hD⟩ := hj rfl
        have hP : va_P D classes (wM h ht hp hw hz cI cZ T n P pn V vn (nI (wq_be P pn a)) td (upd z 0 (bI false))) H := hP
        have hD : va_D _ (wM h ht hp hw hz cI cZ T n P pn V vn (nI (wq_be P pn a)) td (upd z 0 (bI false))) := hD
        refine lv_pop hx hb d_Mo_reckon_173 rfl ?_
        refine lv_aload_n hx hb d_Mo_reckon_174 rfl (lv_at hl 0 rfl) ?_
        refine va_get (D := D) (ci := 2) (v := .int (nI (wq_be P pn a))) (C := R_Mo) (T := F_Mo) (N := 9) hx hb hts i_Mo hown hK hP 0 rfl rfl 6 (by decide) (hts _ k_fl_Mo_44) (fun _ h9 => h9) rfl d_Mo_reckon_175 ?_
        refine lv_istore_n (lv' := [(3, .int (nI (wq_be P pn a))), (0, .ref h), (1, .int (nI f)), (2, .int (nI k))]) hx hb d_Mo_reckon_178 rfl hl (by decide) rfl (fun ls hl => ?_)
        refine lv_goto (tgt := 29) hx hb d_Mo_reckon_179 (by decide) ?_
        have hbe := wq_be_in (P := P) ha
        exact ih (wq_be P pn a) (by omega) (by omega) (wq_it y (fun i => wq_tk P pn a (V (f + i)))) _ _ _ H locs ls (fun i i1 => by
          cases i with
          | zero => exact pk_us
          | succ i => rw [pk_un (by omega)]; exact hz9 i (by omega)) (wq_I_item hI ha c45 rfl (fun _ _ => rfl)) hP hD hS (lv_sub hl [1, 2, 3, 0] rfl)
      · have c45 : (P a) = 42 := (nI_eq (by omega) (by omega)).mp c45
        refine lv_iconst (v := (nI 1)) hx hb d_Mo_reckon_48 (by decide +kernel) ?_
        refine lv_istore (lv' := [(4, .int (nI 1)), (0, .ref h), (1, .int (nI f)), (2, .int (nI k)), (3, .int (nI a))]) hx hb d_Mo_reckon_49 hl (by decide) rfl (fun ls hl => ?_)
        refine lp_r3 hA hT8 hn hP8 hpn hV8 hvn hfk S hK (y := y) (a := a) (fun z H locs ls hz9 hP hD hS hl => ?_) (k + 1) 1 (by omega) (by omega) (by omega) z H locs ls (fun i i1 => by rw [show i = 0 by omega]; exact hy 0 (by omega)) (fun i i1 i2 => hy i i2) hP hD hS (lv_sub hl [1, 2, 3, 4, 0] rfl)
        refine lv_iinc (v := (nI (a + 1))) (lv' := [(3, .int (nI (a + 1))), (0, .ref h), (1, .int (nI f)), (2, .int (nI k))]) hx hb d_Mo_reckon_97 hl (k := 3) rfl (nI_add a 1) (by decide) rfl (fun ls hl => ?_)
        refine lv_goto (tgt := 29) hx hb d_Mo_reckon_100 (by decide) ?_
        exact ih (a + 1) (by omega) (by omega) (wq_os y) _ _ _ H locs ls hz9 (wq_I_star hI ha c45 (fun j _ => wq_os_iff y j)) hP hD hS (lv_sub hl [1, 2, 3, 0] rfl)
set_option maxHeartbeats 4000000 in
set_option maxRecDepth 100000 in
theorem c_Mo_reckon (l : Launch) (D : va_G) (cB cI cZ : ClassId) (h ht hp hw hz : Nat) (T : Nat → Nat) (hT8 : ∀ k, T k < 256) (n : Nat) (hn : n ≤ 400) (P : Nat → Nat) (hP8 : ∀ k, P k < 256) (pn : Nat) (hpn : pn ≤ 400) (V : Nat → Nat) (hV8 : ∀ k, V k < 256) (vn : Nat) (hvn : vn ≤ 400) (f k : Nat) (hfk : f + k ≤ 400) (en td : Int32) (z : Nat → Int32) (sz : Nat) : Met l y_Mo_reckon w_Mo_reckon rm_Mo_reckon (Pm D cB cI cZ sz [.ref h, .int (nI f), .int (nI k)] (wM h ht hp hw hz cI cZ T n P pn V vn en td z)) (Qn D (fun u => ∃ en td z, (∀ j, j ≤ k → z j = bI (wq_fb P pn V f j)) ∧ u = wM h ht hp hw hz cI cZ T n P pn V vn en td z) (wM h ht hp hw hz cI cZ T n P pn V vn en td z) sz) 0 0 (va_A (wM h ht hp hw hz cI cZ T n P pn V vn en td z) sz) := by
  refine Met.ofW (cc := b_Mo_reckon) (maxL := 5) (ret := none) (by decide) rfl ?_
  intro p e s m args below meth c s₁ B hml hv
  obtain ⟨rfl, hsz, hP, hK, hD0⟩ := hv
  have hx := B.exec
  have hb := B.bytes
  have hr := B.returns
  have hts0 := atoms_spec (ws := w_Mo_reckon) B.pre
  have hts : ∀ w ∈ gw, w.before _ s = true := fun w hw => hts0 w (List.mem_cons_of_mem _ hw)
  have hown : s.vm.findClass R_Mo = some m.cls := findClass_of_methodNamed B.named
  have hlocks := B.notSynchronized
  have S : CallFix p m c b_Mo_reckon 5 s _ gw R_Mo := ⟨hx, hb, hml, hown, hts⟩
  subst hsz
  have hD := hD0.self (sz := s.heap.size)
  have hA : ∀ q : Nat, s.heap.size ≤ q → va_A (wM h ht hp hw hz cI cZ T n P pn V vn en td z) s.heap.size q := fun q h => Or.inr h
  have hS : va_S (va_A (wM h ht hp hw hz cI cZ T n P pn V vn en td z) s.heap.size) s.heap s.heap [] := va_S.rf
  have hl := lv_entry ([.ref h, .int (nI f), .int (nI k)]) (n := 5) (Nat.le_of_ble_eq_true rfl)
  rw [lg_entry_eq]
  generalize (lg_sl ([.ref h, .int (nI f), .int (nI k)]) ++ List.replicate (5 - (lg_sl ([.ref h, .int (nI f), .int (nI k)])).length) Slot.unset).toArray = ls at hl ⊢
  have hl : lv_has ls 5 [(0, .ref h), (1, .int (nI f)), (2, .int (nI k))] := hl
  show W p l e rm_Mo_reckon s m _ below meth c s.heap [] 0 0 _ (F0 m 0 ls [])
  refine lv_aload_n hx hb d_Mo_reckon_0 rfl (lv_at hl 0 rfl) ?_
  refine va_get (D := D) (ci := 2) (v := .ref hz) (C := R_Mo) (T := F_Mo) (N := 9) hx hb hts i_Mo hown hK hP 0 rfl rfl 8 (by decide) (hts _ k_fl_Mo_19) (fun _ h9 => h9) rfl d_Mo_reckon_1 ?_
  refine lv_iconst (v := (nI 0)) hx hb d_Mo_reckon_4 (by decide +kernel) ?_
  refine lv_iconst (v := (nI 1)) hx hb d_Mo_reckon_5 (by decide +kernel) ?_
  refine wr_cv (z := (bI true)) rfl ?_
  refine va_zast hx hb hK hP hD hS 4 2 rfl rfl (vp_in_nI (by omega) (by omega)) d_Mo_reckon_6 (fun H locs hP hD hS => ?_)
  rw [nI_clamp (n := 0) (by omega), bI_vp] at hP hD
  have hP : va_P D classes (wM h ht hp hw hz cI cZ T n P pn V vn en td (upd z 0 (bI true))) H := hP
  have hD : va_D _ (wM h ht hp hw hz cI cZ T n P pn V vn en td (upd z 0 (bI true))) := hD
  refine lv_iconst (v := (nI 1)) hx hb d_Mo_reckon_7 (by decide +kernel) ?_
  refine lv_istore_n (lv' := [(3, .int (nI 1)), (0, .ref h), (1, .int (nI f)), (2, .int (nI k))]) hx hb d_Mo_reckon_8 rfl hl (by decide) rfl (fun ls hl => ?_)
  refine lp_r1 hA hT8 hn hP8 hpn hV8 hvn hfk S hK (fun z H locs ls hz0 hz1 hP hD hS hl => ?_) (k + 1) 1 (by omega) (by omega) (by omega) _ H locs ls pk_us (fun i i1 i2 => by omega) hP hD hS (lv_sub hl [1, 2, 3, 0] rfl)
  refine lv_iconst (v := (nI 0)) hx hb d_Mo_reckon_27 (by decide +kernel) ?_
  refine lv_istore_n (lv' := [(3, .int (nI 0)), (0, .ref h), (1, .int (nI f)), (2, .int (nI k))]) hx hb d_Mo_reckon_28 rfl hl (by decide) rfl (fun ls hl => ?_)
  refine lp_r2 hA hT8 hn hP8 hpn hV8 hvn hfk S hK (fun en td z H locs ls hy hP hD hS => ?_) (pn + 1) 0 (by omega) (by omega) (fun i => decide (i = 0)) en td z H locs ls (fun i i1 => by
      by_cases e : i = 0
      · rw [e]; exact hz0
      · rw [hz1 i (by omega) i1, decide_eq_false e]) (wq_I_0 (decide_eq_true rfl) (fun i i1 _ => decide_eq_false (by omega))) hP hD hS (lv_sub hl [1, 2, 3, 0] rfl)
  exact W.vret hx hb hr (fun t ht9 _ => ⟨⟨_, rfl, ⟨_, _, _, hy, rfl⟩, by show va_P D classes _ t.heap; rw [ht9]; exact hP⟩, hS.F ht9⟩) hS.2.2 d_Mo_reckon_182
set_option maxHeartbeats 4000000 in
set_option maxRecDepth 100000 in
theorem c_Mo_fits (l : Launch) (D : va_G) (cB cI cZ : ClassId) (h ht hp hw hz : Nat) (T : Nat → Nat) (hT8 : ∀ k, T k < 256) (n : Nat) (hn : n ≤ 400) (P : Nat → Nat) (hP8 : ∀ k, P k < 256) (pn : Nat) (hpn : pn ≤ 400) (V : Nat → Nat) (hV8 : ∀ k, V k < 256) (vn : Nat) (hvn : vn ≤ 400)  (en td : Int32) (z : Nat → Int32) (sz : Nat) : Met l y_Mo_fits w_Mo_fits rm_Mo_fits (Pm D cB cI cZ sz [.ref h] (wM h ht hp hw hz cI cZ T n P pn V vn en td z)) (Qm D (fun r u => r = (bI (wq_fb P pn V 0 vn)) ∧ ∃ en td z, u = wM h ht hp hw hz cI cZ T n P pn V vn en td z) (wM h ht hp hw hz cI cZ T n P pn V vn en td z) sz) 0 0 (va_A (wM h ht hp hw hz cI cZ T n P pn V vn en td z) sz) := by
  refine Met.ofW (cc := b_Mo_fits) (maxL := 1) (ret := (some .boolean)) (by decide) rfl ?_
  intro p e s m args below meth c s₁ B hml hv
  obtain ⟨rfl, hsz, hP, hK, hD0⟩ := hv
  have hx := B.exec
  have hb := B.bytes
  have hr := B.returns
  have hts0 := atoms_spec (ws := w_Mo_fits) B.pre
  have hts : ∀ w ∈ gw, w.before _ s = true := fun w hw => hts0 w (List.mem_cons_of_mem _ hw)
  have hown : s.vm.findClass R_Mo = some m.cls := findClass_of_methodNamed B.named
  have hlocks := B.notSynchronized
  have S : CallFix p m c b_Mo_fits 1 s _ gw R_Mo := ⟨hx, hb, hml, hown, hts⟩
  subst hsz
  have hD := hD0.self (sz := s.heap.size)
  have hA : ∀ q : Nat, s.heap.size ≤ q → va_A (wM h ht hp hw hz cI cZ T n P pn V vn en td z) s.heap.size q := fun q h => Or.inr h
  have hS : va_S (va_A (wM h ht hp hw hz cI cZ T n P pn V vn en td z) s.heap.size) s.heap s.heap [] := va_S.rf
  have hl := lv_entry ([.ref h]) (n := 1) (Nat.le_of_ble_eq_true rfl)
  rw [lg_entry_eq]
  generalize (lg_sl ([.ref h]) ++ List.replicate (1 - (lg_sl ([.ref h])).length) Slot.unset).toArray = ls at hl ⊢
  have hl : lv_has ls 1 [(0, .ref h)] := hl
  show W p l e rm_Mo_fits s m _ below meth c s.heap [] 0 0 _ (F0 m 0 ls [])
  refine lv_aload_n hx hb d_Mo_fits_0 rfl (lv_at hl 0 rfl) ?_
  refine lv_iconst (v := (nI 0)) hx hb d_Mo_fits_1 (by decide +kernel) ?_
  refine lv_aload_n hx hb d_Mo_fits_2 rfl (lv_at hl 0 rfl) ?_
  refine va_get (D := D) (ci := 2) (v := .int (nI vn)) (C := R_Mo) (T := F_Mo) (N := 9) hx hb hts i_Mo hown hK hP 0 rfl rfl 5 (by decide) (hts _ k_fl_Mo_34) (fun _ h9 => h9) rfl d_Mo_fits_3 ?_
  refine wr_cn (As := [.int (nI 0), .int (nI vn)]) (rest := []) (wr := []) (wc := wM h ht hp hw hz cI cZ T n P pn V vn en td z) S (c_Mo_reckon l D cB cI cZ h ht hp hw hz T hT8 n hn P hP8 pn hpn V hV8 vn hvn 0 vn (by omega) en td z s.heap.size) (cwV 2 hts g_Mo_54 rfl rfl rfl (by decide +kernel) ⟨Nat.le_of_ble_eq_true rfl, Nat.le_of_ble_eq_true rfl⟩) hK hP hD hS hA [0, 1, 2, 3, 4] [] rfl rfl (by decide) rfl (by decide) (by decide) (ci := 2) (q0 := 0) rfl rfl rfl rfl hl.1 rfl (lv_room (Nat.le_of_ble_eq_true rfl)) d_Mo_fits_6 ⟨Nat.zero_le _, Nat.zero_le _⟩ (fun u9 H locs hpo hj hS => ?_)
  obtain ⟨en, td, z, hz8, e2⟩ := hpo
  subst e2
  obtain ⟨hP, hD⟩ := hj rfl
  have hP : va_P D classes (wM h ht hp hw hz cI cZ T n P pn V vn en td z) H := hP
  have hD : va_D _ (wM h ht hp hw hz cI cZ T n P pn V vn en td z) := hD
  refine lv_aload_n hx hb d_Mo_fits_9 rfl (lv_at hl 0 rfl) ?_
  refine va_get (D := D) (ci := 2) (v := .ref hz) (C := R_Mo) (T := F_Mo) (N := 9) hx hb hts i_Mo hown hK hP 0 rfl rfl 8 (by decide) (hts _ k_fl_Mo_19) (fun _ h9 => h9) rfl d_Mo_fits_10 ?_
  refine lv_aload_n hx hb d_Mo_fits_13 rfl (lv_at hl 0 rfl) ?_
  refine va_get (D := D) (ci := 2) (v := .int (nI vn)) (C := R_Mo) (T := F_Mo) (N := 9) hx hb hts i_Mo hown hK hP 0 rfl rfl 5 (by decide) (hts _ k_fl_Mo_34) (fun _ h9 => h9) rfl d_Mo_fits_14 ?_
  refine va_zald hx hb hK hP 4 2 rfl rfl (vp_in_nI (by omega) (by omega)) d_Mo_fits_17 ?_
  refine wr_cv (z := (z vn)) (congrArg _ ((nI_clamp (by omega)).trans (by omega))) ?_
  refine wr_cv (z := (bI (wq_fb P pn V 0 vn))) (hz8 vn (Nat.le_refl _)) ?_
  exact W.zret hx hb hr (bI_nar _) (fun t ht9 _ => ⟨⟨_, _, rfl, ⟨rfl, _, _, _, rfl⟩, by show va_P D classes _ t.heap; rw [ht9]; exact hP⟩, hS.F ht9⟩) hS.2.2 d_Mo_fits_18
set_option maxHeartbeats 4000000 in
set_option maxRecDepth 100000 in
theorem c_Mo_fitsPart (l : Launch) (D : va_G) (cB cI cZ : ClassId) (h ht hp hw hz : Nat) (T : Nat → Nat) (hT8 : ∀ k, T k < 256) (n : Nat) (hn : n ≤ 400) (P : Nat → Nat) (hP8 : ∀ k, P k < 256) (pn : Nat) (hpn : pn ≤ 400) (V : Nat → Nat) (hV8 : ∀ k, V k < 256) (vn : Nat) (hvn : vn ≤ 400) (x1 x2 : Int32) (en td : Int32) (z : Nat → Int32) (sz : Nat) : Met l y_Mo_fitsPart w_Mo_fitsPart rm_Mo_fitsPart (Pm D cB cI cZ sz [.ref h, .int x1, .int x2] (wM h ht hp hw hz cI cZ T n P pn V vn en td z)) (Qm D (fun r u => r = (bI (wq_fp P pn V vn x1 x2)) ∧ ∃ en td z, u = wM h ht hp hw hz cI cZ T n P pn V vn en td z) (wM h ht hp hw hz cI cZ T n P pn V vn en td z) sz) 0 0 (va_A (wM h ht hp hw hz cI cZ T n P pn V vn en td z) sz) := by
  refine Met.ofW (cc := b_Mo_fitsPart) (maxL := 3) (ret := (some .boolean)) (by decide) rfl ?_
  intro p e s m args below meth c s₁ B hml hv
  obtain ⟨rfl, hsz, hP, hK, hD0⟩ := hv
  have hx := B.exec
  have hb := B.bytes
  have hr := B.returns
  have hts0 := atoms_spec (ws := w_Mo_fitsPart) B.pre
  have hts : ∀ w ∈ gw, w.before _ s = true := fun w hw => hts0 w (List.mem_cons_of_mem _ hw)
  have hown : s.vm.findClass R_Mo = some m.cls := findClass_of_methodNamed B.named
  have hlocks := B.notSynchronized
  have S : CallFix p m c b_Mo_fitsPart 3 s _ gw R_Mo := ⟨hx, hb, hml, hown, hts⟩
  subst hsz
  have hD := hD0.self (sz := s.heap.size)
  have hA : ∀ q : Nat, s.heap.size ≤ q → va_A (wM h ht hp hw hz cI cZ T n P pn V vn en td z) s.heap.size q := fun q h => Or.inr h
  have hS : va_S (va_A (wM h ht hp hw hz cI cZ T n P pn V vn en td z) s.heap.size) s.heap s.heap [] := va_S.rf
  have hl := lv_entry ([.ref h, .int x1, .int x2]) (n := 3) (Nat.le_of_ble_eq_true rfl)
  rw [lg_entry_eq]
  generalize (lg_sl ([.ref h, .int x1, .int x2]) ++ List.replicate (3 - (lg_sl ([.ref h, .int x1, .int x2])).length) Slot.unset).toArray = ls at hl ⊢
  have hl : lv_has ls 3 [(0, .ref h), (1, .int x1), (2, .int x2)] := hl
  show W p l e rm_Mo_fitsPart s m _ below meth c s.heap [] 0 0 _ (F0 m 0 ls [])
  refine lv_iload_n hx hb d_Mo_fitsPart_0 rfl (lv_at hl 1 rfl) ?_
  refine lv_if_lt (tgt := 26) hx hb d_Mo_fitsPart_1 (by decide) (fun c1 => ?_) (fun c1 => ?_)
  · refine lv_iconst (v := (nI 0)) hx hb d_Mo_fitsPart_26 (by decide +kernel) ?_
    refine wr_cv (z := bI (wq_fp P pn V vn x1 x2)) (by rw [wq_fp_1 c1]; rfl) ?_
    exact W.zret hx hb hr (bI_nar _) (fun t ht9 _ => ⟨⟨_, _, rfl, ⟨rfl, _, _, _, rfl⟩, by show va_P D classes _ t.heap; rw [ht9]; exact hP⟩, hS.F ht9⟩) hS.2.2 d_Mo_fitsPart_27
  · obtain ⟨f, hf, rfl⟩ := nI_of c1
    refine lv_iload_n hx hb d_Mo_fitsPart_4 rfl (lv_at hl 2 rfl) ?_
    refine lv_if_lt (tgt := 26) hx hb d_Mo_fitsPart_5 (by decide) (fun c5 => ?_) (fun c5 => ?_)
    · refine lv_iconst (v := (nI 0)) hx hb d_Mo_fitsPart_26 (by decide +kernel) ?_
      refine wr_cv (z := bI (wq_fp P pn V vn (nI f) x2)) (by rw [wq_fp_2 c5]; rfl) ?_
      exact W.zret hx hb hr (bI_nar _) (fun t ht9 _ => ⟨⟨_, _, rfl, ⟨rfl, _, _, _, rfl⟩, by show va_P D classes _ t.heap; rw [ht9]; exact hP⟩, hS.F ht9⟩) hS.2.2 d_Mo_fitsPart_27
    · obtain ⟨k, hk, rfl⟩ := nI_of c5
      refine lv_iload_n hx hb d_Mo_fitsPart_8 rfl (lv_at hl 1 rfl) ?_
      refine lv_aload_n hx hb d_Mo_fitsPart_9 rfl (lv_at hl 0 rfl) ?_
      refine va_get (D := D) (ci := 2) (v := .int (nI vn)) (C := R_Mo) (T := F_Mo) (N := 9) hx hb hts i_Mo hown hK hP 0 rfl rfl 5 (by decide) (hts _ k_fl_Mo_34) (fun _ h9 => h9) rfl d_Mo_fitsPart_10 ?_
      refine lv_icmp_gt (tgt := 26) hx hb d_Mo_fitsPart_13 (by decide) (fun c13 => ?_) (fun c13 => ?_)
      · have c13 : vn < f := (nI_ltI (by omega) (by omega)).mp c13
        refine lv_iconst (v := (nI 0)) hx hb d_Mo_fitsPart_26 (by decide +kernel) ?_
        refine wr_cv (z := bI (wq_fp P pn V vn (nI f) (nI k))) (by rw [wq_fp_3 hf hk (by omega)]; rfl) ?_
        exact W.zret hx hb hr (bI_nar _) (fun t ht9 _ => ⟨⟨_, _, rfl, ⟨rfl, _, _, _, rfl⟩, by show va_P D classes _ t.heap; rw [ht9]; exact hP⟩, hS.F ht9⟩) hS.2.2 d_Mo_fitsPart_27
      · have c13 : ¬ vn < f := fun hz => c13 ((nI_ltI (by omega) (by omega)).mpr hz)
        refine lv_iload_n hx hb d_Mo_fitsPart_16 rfl (lv_at hl 2 rfl) ?_
        refine lv_aload_n hx hb d_Mo_fitsPart_17 rfl (lv_at hl 0 rfl) ?_
        refine va_get (D := D) (ci := 2) (v := .int (nI vn)) (C := R_Mo) (T := F_Mo) (N := 9) hx hb hts i_Mo hown hK hP 0 rfl rfl 5 (by decide) (hts _ k_fl_Mo_34) (fun _ h9 => h9) rfl d_Mo_fitsPart_18 ?_
        refine lv_iload_n hx hb d_Mo_fitsPart_21 rfl (lv_at hl 1 rfl) ?_
        refine lv_isub hx hb d_Mo_fitsPart_22 ?_
        refine wr_cv (z := (nI (vn - f))) (pk_sub (by omega)) ?_
        refine lv_icmp_le (tgt := 28) hx hb d_Mo_fitsPart_23 (by decide) (fun c23 => ?_) (fun c23 => ?_)
        · have c23 : k ≤ (vn - f) := (nI_leI (by omega) (by omega)).mp c23
          refine lv_aload_n hx hb d_Mo_fitsPart_28 rfl (lv_at hl 0 rfl) ?_
          refine lv_iload_n hx hb d_Mo_fitsPart_29 rfl (lv_at hl 1 rfl) ?_
          refine lv_iload_n hx hb d_Mo_fitsPart_30 rfl (lv_at hl 2 rfl) ?_
          refine wr_cn (As := [.int (nI f), .int (nI k)]) (rest := []) (wr := []) (wc := wM h ht hp hw hz cI cZ T n P pn V vn en td z) S (c_Mo_reckon l D cB cI cZ h ht hp hw hz T hT8 n hn P hP8 pn hpn V hV8 vn hvn f k (by omega) en td z s.heap.size) (cwV 2 hts g_Mo_54 rfl rfl rfl (by decide +kernel) ⟨Nat.le_of_ble_eq_true rfl, Nat.le_of_ble_eq_true rfl⟩) hK hP hD hS hA [0, 1, 2, 3, 4] [] rfl rfl (by decide) rfl (by decide) (by decide) (ci := 2) (q0 := 0) rfl rfl rfl rfl hl.1 rfl (lv_room (Nat.le_of_ble_eq_true rfl)) d_Mo_fitsPart_31 ⟨Nat.zero_le _, Nat.zero_le _⟩ (fun u9 H locs hpo hj hS => ?_)
          obtain ⟨en, td, z, hz8, e2⟩ := hpo
          subst e2
          obtain ⟨hP, hD⟩ := hj rfl
          have hP : va_P D classes (wM h ht hp hw hz cI cZ T n P pn V vn en td z) H := hP
          have hD : va_D _ (wM h ht hp hw hz cI cZ T n P pn V vn en td z) := hD
          refine lv_aload_n hx hb d_Mo_fitsPart_34 rfl (lv_at hl 0 rfl) ?_
          refine va_get (D := D) (ci := 2) (v := .ref hz) (C := R_Mo) (T := F_Mo) (N := 9) hx hb hts i_Mo hown hK hP 0 rfl rfl 8 (by decide) (hts _ k_fl_Mo_19) (fun _ h9 => h9) rfl d_Mo_fitsPart_35 ?_
          refine lv_iload_n hx hb d_Mo_fitsPart_38 rfl (lv_at hl 2 rfl) ?_
          refine va_zald hx hb hK hP 4 2 rfl rfl (vp_in_nI (by omega) (by omega)) d_Mo_fitsPart_39 ?_
          refine wr_cv (z := (z k)) (congrArg _ ((nI_clamp (by omega)).trans (by omega))) ?_
          refine wr_cv (z := (bI (wq_fb P pn V f k))) (hz8 k (Nat.le_refl _)) ?_
          refine wr_cv (z := bI (wq_fp P pn V vn (nI f) (nI k))) (by rw [wq_fp_4 hf hk (by omega)]) ?_
          exact W.zret hx hb hr (bI_nar _) (fun t ht9 _ => ⟨⟨_, _, rfl, ⟨rfl, _, _, _, rfl⟩, by show va_P D classes _ t.heap; rw [ht9]; exact hP⟩, hS.F ht9⟩) hS.2.2 d_Mo_fitsPart_40
        · have c23 : ¬ k ≤ (vn - f) := fun hz => c23 ((nI_leI (by omega) (by omega)).mpr hz)
          refine lv_iconst (v := (nI 0)) hx hb d_Mo_fitsPart_26 (by decide +kernel) ?_
          refine wr_cv (z := bI (wq_fp P pn V vn (nI f) (nI k))) (by rw [wq_fp_3 hf hk (by omega)]; rfl) ?_
          exact W.zret hx hb hr (bI_nar _) (fun t ht9 _ => ⟨⟨_, _, rfl, ⟨rfl, _, _, _, rfl⟩, by show va_P D classes _ t.heap; rw [ht9]; exact hP⟩, hS.F ht9⟩) hS.2.2 d_Mo_fitsPart_27
set_option maxHeartbeats 4000000 in
set_option maxRecDepth 100000 in
theorem lp_Mo_beg {p : Program} {l : Launch} {e : Env} {s : State} {m : MethodId} {args : Array Value} {below : List Frame} {meth : Method} {c : Code} {H : Heap} {locs : List Loc} {Q : State → Prop} {D : va_G} {cB cI cZ : ClassId} {h ht hp hw hz : Nat} {T : Nat → Nat} (hT8 : ∀ k, T k < 256) {n : Nat} (hn : n ≤ 400) {P : Nat → Nat} (hP8 : ∀ k, P k < 256) {pn : Nat} (hpn : pn ≤ 400) {V : Nat → Nat} (hV8 : ∀ k, V k < 256) {vn : Nat} (hvn : vn ≤ 400) {en td : Int32} {z : Nat → Int32} (hz8 : ∀ j, j ≤ vn → z j = bI (wq_fb P pn V 0 j)) (S : CallFix p m c b_Mo_beginnings 3 s args gw R_Mo) (hK : va_K D classes (TY cB cI cZ) s) (hP : va_P D classes (wM h ht hp hw hz cI cZ T n P pn V vn en td z) H) (kk : ∀ ls, lv_has ls 3 [(1, .int (smI (fun k => bI (wq_fb P pn V 0 k)) (vn + 1)))] → W p l e rm_Mo_beginnings s m args below meth c H locs 0 0 Q (F0 m 44 ls [])) : ∀ (j k : Nat), vn + 1 - k < j → k ≤ vn + 1 → ∀ ls, lv_has ls 3 [(0, .ref h), (1, .int (smI (fun k => bI (wq_fb P pn V 0 k)) k)), (2, .int (nI k))] → W p l e rm_Mo_beginnings s m args below meth c H locs 0 0 Q (F0 m 13 ls []) := by
  obtain ⟨hx, hb, hml, hown, hts⟩ := id S
  intro j
  induction j with
  | zero => intro k h0; exact absurd h0 (Nat.not_lt_zero _)
  | succ j ih =>
    intro k h0 h1 ls hl
    refine lv_iload_n hx hb d_Mo_beginnings_13 rfl (lv_at hl 2 rfl) ?_
    refine lv_aload_n hx hb d_Mo_beginnings_14 rfl (lv_at hl 0 rfl) ?_
    refine va_get (D := D) (ci := 2) (v := .int (nI vn)) (C := R_Mo) (T := F_Mo) (N := 9) hx hb hts i_Mo hown hK hP 0 rfl rfl 5 (by decide) (hts _ k_fl_Mo_34) (fun _ h9 => h9) rfl d_Mo_beginnings_15 ?_
    refine lv_icmp_gt (tgt := 44) hx hb d_Mo_beginnings_18 (by decide) (fun c18 => ?_) (fun c18 => ?_)
    · have c18 : vn < k := (nI_ltI (by omega) (by omega)).mp c18
      obtain rfl : k = vn + 1 := by omega
      exact kk ls (lv_sub hl [1] rfl)
    · have c18 : ¬ vn < k := fun hz => c18 ((nI_ltI (by omega) (by omega)).mpr hz)
      refine lv_iload_n hx hb d_Mo_beginnings_21 rfl (lv_at hl 1 rfl) ?_
      refine lv_aload_n hx hb d_Mo_beginnings_22 rfl (lv_at hl 0 rfl) ?_
      refine va_get (D := D) (ci := 2) (v := .ref hz) (C := R_Mo) (T := F_Mo) (N := 9) hx hb hts i_Mo hown hK hP 0 rfl rfl 8 (by decide) (hts _ k_fl_Mo_19) (fun _ h9 => h9) rfl d_Mo_beginnings_23 ?_
      refine lv_iload_n hx hb d_Mo_beginnings_26 rfl (lv_at hl 2 rfl) ?_
      refine va_zald hx hb hK hP 4 2 rfl rfl (vp_in_nI (by omega) (by omega)) d_Mo_beginnings_27 ?_
      refine wr_cv (z := (z k)) (congrArg _ ((nI_clamp (by omega)).trans (by omega))) ?_
      refine wr_cv (z := (bI (wq_fb P pn V 0 k))) (hz8 k (by omega)) ?_
      refine lv_if_eq (tgt := 35) hx hb d_Mo_beginnings_28 (by decide) (fun c28 => ?_) (fun c28 => ?_)
      · have c28 : (wq_fb P pn V 0 k) = false := bI_0.mp c28
        refine lv_iconst (v := (nI 0)) hx hb d_Mo_beginnings_35 (by decide +kernel) ?_
        refine lv_iadd hx hb d_Mo_beginnings_36 ?_
        refine wr_cv (z := (smI (fun k => bI (wq_fb P pn V 0 k)) (k + 1))) (congrArg (smI (fun k => bI (wq_fb P pn V 0 k)) k + ·) (show (nI 0) = bI (wq_fb P pn V 0 k) from by rw [c28]; rfl)) ?_
        refine lv_istore_n (lv' := [(1, .int (smI (fun k => bI (wq_fb P pn V 0 k)) (k + 1))), (0, .ref h), (2, .int (nI k))]) hx hb d_Mo_beginnings_37 rfl hl (by decide) rfl (fun ls hl => ?_)
        refine lv_iinc (v := (nI (k + 1))) (lv' := [(2, .int (nI (k + 1))), (1, .int (smI (fun k => bI (wq_fb P pn V 0 k)) (k + 1))), (0, .ref h)]) hx hb d_Mo_beginnings_38 hl (k := 2) rfl (nI_add k 1) (by decide) rfl (fun ls hl => ?_)
        refine lv_goto (tgt := 13) hx hb d_Mo_beginnings_41 (by decide) ?_
        exact ih (k + 1) (by omega) (by omega) ls (lv_sub hl [2, 1, 0] rfl)
      · have c28 : (wq_fb P pn V 0 k) = true := ts_b (fun hz => c28 (bI_0.mpr hz))
        refine lv_iconst (v := (nI 1)) hx hb d_Mo_beginnings_31 (by decide +kernel) ?_
        refine lv_goto (tgt := 36) hx hb d_Mo_beginnings_32 (by decide) ?_
        refine lv_iadd hx hb d_Mo_beginnings_36 ?_
        refine wr_cv (z := (smI (fun k => bI (wq_fb P pn V 0 k)) (k + 1))) (congrArg (smI (fun k => bI (wq_fb P pn V 0 k)) k + ·) (show (nI 1) = bI (wq_fb P pn V 0 k) from by rw [c28]; rfl)) ?_
        refine lv_istore_n (lv' := [(1, .int (smI (fun k => bI (wq_fb P pn V 0 k)) (k + 1))), (0, .ref h), (2, .int (nI k))]) hx hb d_Mo_beginnings_37 rfl hl (by decide) rfl (fun ls hl => ?_)
        refine lv_iinc (v := (nI (k + 1))) (lv' := [(2, .int (nI (k + 1))), (1, .int (smI (fun k => bI (wq_fb P pn V 0 k)) (k + 1))), (0, .ref h)]) hx hb d_Mo_beginnings_38 hl (k := 2) rfl (nI_add k 1) (by decide) rfl (fun ls hl => ?_)
        refine lv_goto (tgt := 13) hx hb d_Mo_beginnings_41 (by decide) ?_
        exact ih (k + 1) (by omega) (by omega) ls (lv_sub hl [2, 1, 0] rfl)
set_option maxHeartbeats 4000000 in
set_option maxRecDepth 100000 in
theorem c_Mo_beginnings (l : Launch) (D : va_G) (cB cI cZ : ClassId) (h ht hp hw hz : Nat) (T : Nat → Nat) (hT8 : ∀ k, T k < 256) (n : Nat) (hn : n ≤ 400) (P : Nat → Nat) (hP8 : ∀ k, P k < 256) (pn : Nat) (hpn : pn ≤ 400) (V : Nat → Nat) (hV8 : ∀ k, V k < 256) (vn : Nat) (hvn : vn ≤ 400)  (en td : Int32) (z : Nat → Int32) (sz : Nat) : Met l y_Mo_beginnings w_Mo_beginnings rm_Mo_beginnings (Pm D cB cI cZ sz [.ref h] (wM h ht hp hw hz cI cZ T n P pn V vn en td z)) (Qm D (fun r u => r = (smI (fun k => bI (wq_fb P pn V 0 k)) (vn + 1)) ∧ ∃ en td z, u = wM h ht hp hw hz cI cZ T n P pn V vn en td z) (wM h ht hp hw hz cI cZ T n P pn V vn en td z) sz) 0 0 (va_A (wM h ht hp hw hz cI cZ T n P pn V vn en td z) sz) := by
  refine Met.ofW (cc := b_Mo_beginnings) (maxL := 3) (ret := (some .int)) (by decide) rfl ?_
  intro p e s m args below meth c s₁ B hml hv
  obtain ⟨rfl, hsz, hP, hK, hD0⟩ := hv
  have hx := B.exec
  have hb := B.bytes
  have hr := B.returns
  have hts0 := atoms_spec (ws := w_Mo_beginnings) B.pre
  have hts : ∀ w ∈ gw, w.before _ s = true := fun w hw => hts0 w (List.mem_cons_of_mem _ hw)
  have hown : s.vm.findClass R_Mo = some m.cls := findClass_of_methodNamed B.named
  have hlocks := B.notSynchronized
  have S : CallFix p m c b_Mo_beginnings 3 s _ gw R_Mo := ⟨hx, hb, hml, hown, hts⟩
  subst hsz
  have hD := hD0.self (sz := s.heap.size)
  have hA : ∀ q : Nat, s.heap.size ≤ q → va_A (wM h ht hp hw hz cI cZ T n P pn V vn en td z) s.heap.size q := fun q h => Or.inr h
  have hS : va_S (va_A (wM h ht hp hw hz cI cZ T n P pn V vn en td z) s.heap.size) s.heap s.heap [] := va_S.rf
  have hl := lv_entry ([.ref h]) (n := 3) (Nat.le_of_ble_eq_true rfl)
  rw [lg_entry_eq]
  generalize (lg_sl ([.ref h]) ++ List.replicate (3 - (lg_sl ([.ref h])).length) Slot.unset).toArray = ls at hl ⊢
  have hl : lv_has ls 3 [(0, .ref h)] := hl
  show W p l e rm_Mo_beginnings s m _ below meth c s.heap [] 0 0 _ (F0 m 0 ls [])
  refine lv_aload_n hx hb d_Mo_beginnings_0 rfl (lv_at hl 0 rfl) ?_
  refine lv_iconst (v := (nI 0)) hx hb d_Mo_beginnings_1 (by decide +kernel) ?_
  refine lv_aload_n hx hb d_Mo_beginnings_2 rfl (lv_at hl 0 rfl) ?_
  refine va_get (D := D) (ci := 2) (v := .int (nI vn)) (C := R_Mo) (T := F_Mo) (N := 9) hx hb hts i_Mo hown hK hP 0 rfl rfl 5 (by decide) (hts _ k_fl_Mo_34) (fun _ h9 => h9) rfl d_Mo_beginnings_3 ?_
  refine wr_cn (As := [.int (nI 0), .int (nI vn)]) (rest := []) (wr := []) (wc := wM h ht hp hw hz cI cZ T n P pn V vn en td z) S (c_Mo_reckon l D cB cI cZ h ht hp hw hz T hT8 n hn P hP8 pn hpn V hV8 vn hvn 0 vn (by omega) en td z s.heap.size) (cwV 2 hts g_Mo_54 rfl rfl rfl (by decide +kernel) ⟨Nat.le_of_ble_eq_true rfl, Nat.le_of_ble_eq_true rfl⟩) hK hP hD hS hA [0, 1, 2, 3, 4] [] rfl rfl (by decide) rfl (by decide) (by decide) (ci := 2) (q0 := 0) rfl rfl rfl rfl hl.1 rfl (lv_room (Nat.le_of_ble_eq_true rfl)) d_Mo_beginnings_6 ⟨Nat.zero_le _, Nat.zero_le _⟩ (fun u9 H locs hpo hj hS => ?_)
  obtain ⟨en, td, z, hz8, e2⟩ := hpo
  subst e2
  obtain ⟨hP, hD⟩ := hj rfl
  have hP : va_P D classes (wM h ht hp hw hz cI cZ T n P pn V vn en td z) H := hP
  have hD : va_D _ (wM h ht hp hw hz cI cZ T n P pn V vn en td z) := hD
  refine lv_iconst (v := (nI 0)) hx hb d_Mo_beginnings_9 (by decide +kernel) ?_
  refine wr_cv (z := (smI (fun k => bI (wq_fb P pn V 0 k)) 0)) rfl ?_
  refine lv_istore_n (lv' := [(1, .int (smI (fun k => bI (wq_fb P pn V 0 k)) 0)), (0, .ref h)]) hx hb d_Mo_beginnings_10 rfl hl (by decide) rfl (fun ls hl => ?_)
  refine lv_iconst (v := (nI 0)) hx hb d_Mo_beginnings_11 (by decide +kernel) ?_
  refine lv_istore_n (lv' := [(2, .int (nI 0)), (1, .int (smI (fun k => bI (wq_fb P pn V 0 k)) 0)), (0, .ref h)]) hx hb d_Mo_beginnings_12 rfl hl (by decide) rfl (fun ls hl => ?_)
  refine lp_Mo_beg hT8 hn hP8 hpn hV8 hvn hz8 S hK hP (fun ls hl => ?_) (vn + 2) 0 (by omega) (by omega) ls (lv_sub hl [2, 1, 0] rfl)
  refine lv_iload_n hx hb d_Mo_beginnings_44 rfl (lv_at hl 0 rfl) ?_
  exact W.iret hx hb hr (fun t ht9 _ => ⟨⟨_, _, rfl, ⟨rfl, _, _, _, rfl⟩, by show va_P D classes _ t.heap; rw [ht9]; exact hP⟩, hS.F ht9⟩) hS.2.2 d_Mo_beginnings_45
end
section
abbrev rm_Pt_init : Room := { frames := 1, cells := 0, slots := 0, locals := 12 }
abbrev rm_Wc_init : Room := { frames := 2, cells := 4, slots := 1203, locals := 32 }
abbrev rm_Mo_init : Room := { frames := 1, cells := 4, slots := 1601, locals := 12 }
/-- nothing comes back, nothing changes -/
def Q0 : Array Value → State → Outcome → State → Prop := fun _ st o t => o = .returned none ∧ t.heap = st.heap
theorem wr_i0 {p : Program} {l : Launch} {e : Env} {R : Room} {s : State} {m : MethodId} {args : Array Value} {below : List Frame} {meth : Method} {c : Code} {H : Heap} {locs : List Loc} {cells slots : Nat} {Q : State → Prop} {pc : Nat} {ls : Array Slot} {st rest : List Value} {a : Array Value} (hr : va_Run p l e R s m args below meth c H locs cells slots 0 0 (F0 m pc ls st) rest (Q0 a) (fun _ => False)) (kk : W p l e R s m args below meth c H locs cells slots Q (F0 m (pc + 3) ls rest)) : W p l e R s m args below meth c H locs cells slots Q (F0 m pc ls st) := by
  intro T hT X
  obtain ⟨v, st₀, t, T', L, h0, X', hL, e1, e2, ⟨hv, hh⟩, st⟩ := hr T hT X
  cases hv
  obtain ⟨t2, a1, b1⟩ := kk T' (by rw [e1, hh, h0]) (Stand.forget X' (fun q h => (hL q h).elim))
  exact ⟨t2, st t2 a1, b1⟩
set_option maxHeartbeats 4000000 in
set_option maxRecDepth 100000 in
theorem c_Pt_init (l : Launch) (h : Nat) : Met l y_Pt_init w_Pt_init rm_Pt_init (va_Pc [.ref h] (fun _ => True)) Q0 0 0 (fun _ => False) := by
  refine Met.ofW (cc := b_Pt_init) (maxL := 1) (ret := none) (by decide) rfl ?_
  intro p e s m args below meth c s₁ B hml hv
  obtain ⟨rfl, -⟩ := hv
  have hx := B.exec
  have hb := B.bytes
  have hr := B.returns
  have hts0 := atoms_spec (ws := w_Pt_init) B.pre
  have hts : ∀ w ∈ gw, w.before _ s = true := fun w hw => hts0 w (List.mem_cons_of_mem _ hw)
  have hown : s.vm.findClass R_Pt = some m.cls := findClass_of_methodNamed B.named
  have hlocks := B.notSynchronized
  have hin : meth.name = "<init>" := (name_of_methodNamed B.named B.method).1
  have S : CallFix p m c b_Pt_init 1 s _ gw R_Pt := ⟨hx, hb, hml, hown, hts⟩
  have hl := lv_entry ([.ref h]) (n := 1) (Nat.le_of_ble_eq_true rfl)
  rw [lg_entry_eq]
  generalize (lg_sl ([.ref h]) ++ List.replicate (1 - (lg_sl ([.ref h])).length) Slot.unset).toArray = ls at hl ⊢
  have hl : lv_has ls 1 [(0, .ref h)] := hl
  show W p l e rm_Pt_init s m _ below meth c s.heap [] 0 0 _ (F0 m 0 ls [])
  refine lv_aload_n hx hb d_Pt_init_0 rfl (lv_at hl 0 rfl) ?_
  refine W.objInit hx hb hown (hts _ k_ml_Pt_3) (hts _ k_im_obj) (hts _ k_code_obj) rfl (by rw [hml]; exact hl.1) rfl d_Pt_init_1 (Nat.le_of_ble_eq_true rfl) (Nat.le_of_ble_eq_true rfl) ?_
  refine W.eq (g2 := F0 m 4 ls []) rfl ?_
  exact W.vret hx hb hr (fun t ht _ => ⟨rfl, ht⟩) (fun _ h9 => absurd h9 List.not_mem_nil) d_Pt_init_4
abbrev wc_in (h : Nat) : va_W := [(h, .inr (1, [.null, .int (nI 0), .null, .null, .int (nI 0), .int (nI 0), .null]))]
def Pc_Wc (D : va_G) (h sz : Nat) : Array Value → State → Prop := va_Pc [.ref h] (fun U => U.heap.size = sz ∧ va_P D classes (wc_in h) U.heap ∧ va_K D classes [] U ∧ va_D (fun _ => True) (wc_in h) ∧ va_Nw (.methodLinkNest R_Wc 21 y_Pt_init R_Wc) U)
theorem Pc_Wc_blind {D : va_G} {h sz : Nat} : FrameBlind (Pc_Wc D h sz) := fun a U g mk q => by
  obtain ⟨q0, q1, qP, qK, qD, qN⟩ := q
  exact ⟨q0, q1, qP, va_K.moved (u := U) (U := U.calling g mk a) (Vm.Alike.refl U.vm) qK, qD, va_Nw.same rfl (rfl : U.vm = (U.calling g mk a).vm) qN⟩
def B_Wc (D : va_G) (h sz : Nat) (_ : Unit) (t : State) : Prop := ∃ (ht hp hw hq : Nat) (cB : ClassId), va_P D classes (wC h ht hp hw hq cB (fun _ => 0) 0 (fun _ => 0) 0 (fun _ => 0) 0 .null (.int (nI 0)) (.int (nI 0))) t.heap ∧ va_K D classes [(cB, .byte)] t ∧ va_D (va_A (wc_in h) sz) (wC h ht hp hw hq cB (fun _ => 0) 0 (fun _ => 0) 0 (fun _ => 0) 0 .null (.int (nI 0)) (.int (nI 0)))
set_option maxHeartbeats 4000000 in
set_option maxRecDepth 100000 in
theorem c_Wc_init (l : Launch) (D : va_G) (h sz : Nat) : Met l y_Wc_init w_Wc_init rm_Wc_init (Pc_Wc D h sz) (va_Qv (fun _ => True) (B_Wc D h sz) (va_A (wc_in h) sz)) 4 1203 (va_A (wc_in h) sz) := by
  refine Met.ofW (cc := b_Wc_init) (maxL := 1) (ret := none) (by decide) rfl ?_
  intro p e s m args below meth c s₁ B hml hv
  obtain ⟨rfl, hsz, hP, hK, hD0, hNest⟩ := hv
  have hx := B.exec
  have hb := B.bytes
  have hr := B.returns
  have hts0 := atoms_spec (ws := w_Wc_init) B.pre
  have hts : ∀ w ∈ gw, w.before _ s = true := fun w hw => hts0 w (List.mem_cons_of_mem _ hw)
  have hown : s.vm.findClass R_Wc = some m.cls := findClass_of_methodNamed B.named
  have hlocks := B.notSynchronized
  have hin : meth.name = "<init>" := (name_of_methodNamed B.named B.method).1
  have S : CallFix p m c b_Wc_init 1 s _ gw R_Wc := ⟨hx, hb, hml, hown, hts⟩
  subst hsz
  have hD := hD0.self (sz := s.heap.size)
  have hA : ∀ q : Nat, s.heap.size ≤ q → va_A (wc_in h) s.heap.size q := fun q h => Or.inr h
  have hS : va_S (va_A (wc_in h) s.heap.size) s.heap s.heap [] := va_S.rf
  have hl := lv_entry ([.ref h]) (n := 1) (Nat.le_of_ble_eq_true rfl)
  rw [lg_entry_eq]
  generalize (lg_sl ([.ref h]) ++ List.replicate (1 - (lg_sl ([.ref h])).length) Slot.unset).toArray = ls at hl ⊢
  have hl : lv_has ls 1 [(0, .ref h)] := hl
  show W p l e rm_Wc_init s m _ below meth c s.heap [] 0 0 _ (F0 m 0 ls [])
  refine lv_aload_n hx hb d_Wc_init_0 rfl (lv_at hl 0 rfl) ?_
  refine W.objInit hx hb hown (hts _ k_ml_Wc_1) (hts _ k_im_obj) (hts _ k_code_obj) rfl (by rw [hml]; exact hl.1) rfl d_Wc_init_1 (Nat.le_of_ble_eq_true rfl) (Nat.le_of_ble_eq_true rfl) ?_
  refine W.eq (g2 := F0 m 4 ls []) rfl ?_
  refine lv_aload_n hx hb d_Wc_init_4 rfl (lv_at hl 0 rfl) ?_
  refine lv_sipush (v := nI 400) hx hb d_Wc_init_5 (by decide +kernel) ?_
  refine va_newa (a0 := (400, .inl (bF (fun _ => 0)))) (atype := .byte) (ty := .byte) hx hb (hts _ k_arr_byte) rfl hK hP hD hS hA (fun _ => rfl) (nI_pos (by decide)) (nI_clamp (by decide)) (Nat.le_of_ble_eq_true rfl) (Nat.le_of_ble_eq_true rfl) (Nat.le_of_ble_eq_true rfl) d_Wc_init_8 (fun q1 c1 H hK hP hD hS => ?_)
  refine va_putF (D := D) (ci := 1) (v := .ref q1) (ty := .array .byte) (C := R_Wc) (T := F_Wc) (N := 7) hx hb hts i_Wc t_Wc t_Wc_ok n_Wc hown hK hP hD hS 0 rfl rfl 0 (by decide) (hts _ k_fl_Wc_9) (fun _ h9 => h9) rfl hin rfl (by decide +kernel) rfl rfl (Nat.le_of_ble_eq_true rfl) d_Wc_init_10 (fun H locs hP hD hS => ?_)
  have hP : va_P D classes [(h, .inr (1, [.ref q1, .int (nI 0), .null, .null, .int (nI 0), .int (nI 0), .null])), (q1, .inl (c1, 400, .inl (bF (fun _ => 0))))] H := hP
  have hD : va_D _ [(h, .inr (1, [.ref q1, .int (nI 0), .null, .null, .int (nI 0), .int (nI 0), .null])), (q1, .inl (c1, 400, .inl (bF (fun _ => 0))))] := hD
  refine lv_aload_n hx hb d_Wc_init_13 rfl (lv_at hl 0 rfl) ?_
  refine lv_sipush (v := nI 400) hx hb d_Wc_init_14 (by decide +kernel) ?_
  refine va_newa (a0 := (400, .inl (bF (fun _ => 0)))) (atype := .byte) (ty := .byte) hx hb (hts _ k_arr_byte) rfl hK hP hD hS hA (fun _ => rfl) (nI_pos (by decide)) (nI_clamp (by decide)) (Nat.le_of_ble_eq_true rfl) (Nat.le_of_ble_eq_true rfl) (Nat.le_of_ble_eq_true rfl) d_Wc_init_17 (fun q2 c2 H hK hP hD hS => ?_)
  refine va_putF (D := D) (ci := 1) (v := .ref q2) (ty := .array .byte) (C := R_Wc) (T := F_Wc) (N := 7) hx hb hts i_Wc t_Wc t_Wc_ok n_Wc hown hK hP hD hS 0 rfl rfl 2 (by decide) (hts _ k_fl_Wc_13) (fun _ h9 => h9) rfl hin rfl (by decide +kernel) rfl rfl (Nat.le_of_ble_eq_true rfl) d_Wc_init_19 (fun H locs hP hD hS => ?_)
  have hP : va_P D classes [(h, .inr (1, [.ref q1, .int (nI 0), .ref q2, .null, .int (nI 0), .int (nI 0), .null])), (q1, .inl (c1, 400, .inl (bF (fun _ => 0)))), (q2, .inl (c2, 400, .inl (bF (fun _ => 0))))] H := hP
  have hD : va_D _ [(h, .inr (1, [.ref q1, .int (nI 0), .ref q2, .null, .int (nI 0), .int (nI 0), .null])), (q1, .inl (c1, 400, .inl (bF (fun _ => 0)))), (q2, .inl (c2, 400, .inl (bF (fun _ => 0))))] := hD
  refine lv_aload_n hx hb d_Wc_init_22 rfl (lv_at hl 0 rfl) ?_
  refine lv_sipush (v := nI 400) hx hb d_Wc_init_23 (by decide +kernel) ?_
  refine va_newa (a0 := (400, .inl (bF (fun _ => 0)))) (atype := .byte) (ty := .byte) hx hb (hts _ k_arr_byte) rfl hK hP hD hS hA (fun _ => rfl) (nI_pos (by decide)) (nI_clamp (by decide)) (Nat.le_of_ble_eq_true rfl) (Nat.le_of_ble_eq_true rfl) (Nat.le_of_ble_eq_true rfl) d_Wc_init_26 (fun q3 c3 H hK hP hD hS => ?_)
  refine va_putF (D := D) (ci := 1) (v := .ref q3) (ty := .array .byte) (C := R_Wc) (T := F_Wc) (N := 7) hx hb hts i_Wc t_Wc t_Wc_ok n_Wc hown hK hP hD hS 0 rfl rfl 3 (by decide) (hts _ k_fl_Wc_16) (fun _ h9 => h9) rfl hin rfl (by decide +kernel) rfl rfl (Nat.le_of_ble_eq_true rfl) d_Wc_init_28 (fun H locs hP hD hS => ?_)
  have hP : va_P D classes [(h, .inr (1, [.ref q1, .int (nI 0), .ref q2, .ref q3, .int (nI 0), .int (nI 0), .null])), (q1, .inl (c1, 400, .inl (bF (fun _ => 0)))), (q2, .inl (c2, 400, .inl (bF (fun _ => 0)))), (q3, .inl (c3, 400, .inl (bF (fun _ => 0))))] H := hP
  have hD : va_D _ [(h, .inr (1, [.ref q1, .int (nI 0), .ref q2, .ref q3, .int (nI 0), .int (nI 0), .null])), (q1, .inl (c1, 400, .inl (bF (fun _ => 0)))), (q2, .inl (c2, 400, .inl (bF (fun _ => 0)))), (q3, .inl (c3, 400, .inl (bF (fun _ => 0))))] := hD
  have r1 : s.vm.findClass ("[" ++ FieldType.byte.toString) = some c1 := (hK.2 0 _ rfl).2
  have r2 : s.vm.findClass ("[" ++ FieldType.byte.toString) = some c2 := (hK.2 1 _ rfl).2
  have r3 : s.vm.findClass ("[" ++ FieldType.byte.toString) = some c3 := (hK.2 2 _ rfl).2
  obtain rfl : c1 = c2 := Option.some.inj (r1.symm.trans r2)
  obtain rfl : c1 = c3 := Option.some.inj (r1.symm.trans r3)
  have hK := hK.sub (tys' := [(c1, .byte)]) [0] rfl
  refine lv_aload_n hx hb d_Wc_init_31 rfl (lv_at hl 0 rfl) ?_
  refine va_new (ci := 0) (fs := [.null, .int (nI 0), .int (nI 0)]) (C := R_Pt) (T := F_Pt) (N := 3) hx hb hts i_Pt t_Pt t_Pt_ok hown (hts _ k_cl_Wc_19) (hts _ k_inst_Pt) (hts _ k_ini_Pt) hK hP hD hS hA rfl (fun j hj => by rcases (show j = 0 ∨ j = 1 ∨ j = 2 by omega) with rfl | rfl | rfl <;> rfl) (Nat.le_of_ble_eq_true rfl) (Nat.le_of_ble_eq_true rfl) d_Wc_init_32 (fun q4 H hP hD hS => ?_)
  refine lv_dup hx hb d_Wc_init_35 rfl ?_
  refine wr_i0 (va_runIN (As := []) (rest := [.ref q4, .ref h]) S (c_Pt_init l q4) ⟨va_cnB 0 hts (gw_good k_code_Pt_init) rfl rfl rfl hNest (hts _ k_ini_Pt) (by decide +kernel) ⟨Nat.le_of_ble_eq_true rfl, Nat.le_of_ble_eq_true rfl⟩, rfl, hts _ k_im_Pt_init⟩ ⟨fun a U g mk q => q, fun U hU hW => ⟨rfl, trivial⟩⟩ rfl rfl hl.1 rfl (lv_room (Nat.le_of_ble_eq_true rfl)) d_Wc_init_36 ⟨Nat.le_of_ble_eq_true rfl, Nat.le_of_ble_eq_true rfl⟩) ?_
  refine va_putF (D := D) (ci := 1) (v := .ref q4) (ty := .object "WildCards$Patterns") (C := R_Wc) (T := F_Wc) (N := 7) hx hb hts i_Wc t_Wc t_Wc_ok n_Wc hown hK hP hD hS 0 rfl rfl 6 (by decide) (hts _ k_fl_Wc_22) (fun _ h9 => h9) rfl hin rfl (by decide +kernel) rfl rfl (Nat.le_of_ble_eq_true rfl) d_Wc_init_39 (fun H locs hP hD hS => ?_)
  have hP : va_P D classes (wC h q1 q2 q3 q4 c1 (fun _ => 0) 0 (fun _ => 0) 0 (fun _ => 0) 0 .null (.int (nI 0)) (.int (nI 0))) H := hP
  have hD : va_D _ (wC h q1 q2 q3 q4 c1 (fun _ => 0) 0 (fun _ => 0) 0 (fun _ => 0) 0 .null (.int (nI 0)) (.int (nI 0))) := hD
  refine W.widen (k := 4) (n := 1203) (by decide) (by decide) ?_
  exact W.vret hx hb hr (fun t ht9 hW => ⟨⟨(), rfl, trivial, q1, q2, q3, q4, c1, by rw [ht9]; exact hP, va_K.moved hW.alike hK, hD⟩, hS.F ht9⟩) hS.2.2 d_Wc_init_42
abbrev wm_in (h : Nat) : va_W := [(h, .inr (2, [.null, .null, .null, .int (nI 0), .int (nI 0), .int (nI 0), .int (nI 0), .int (nI 0), .null]))]
def Pc_Mo (D : va_G) (h sz : Nat) : Array Value → State → Prop := va_Pc [.ref h] (fun U => U.heap.size = sz ∧ va_P D classes (wm_in h) U.heap ∧ va_K D classes [] U ∧ va_D (fun _ => True) (wm_in h))
theorem Pc_Mo_blind {D : va_G} {h sz : Nat} : FrameBlind (Pc_Mo D h sz) := fun a U g mk q => by
  obtain ⟨q0, q1, qP, qK, qD⟩ := q
  exact ⟨q0, q1, qP, va_K.moved (u := U) (U := U.calling g mk a) (Vm.Alike.refl U.vm) qK, qD⟩
def B_Mo (D : va_G) (h sz : Nat) (_ : Unit) (t : State) : Prop := ∃ (ht hp hw hz : Nat) (cI cZ : ClassId), va_P D classes (wM h ht hp hw hz cI cZ (fun _ => 0) 0 (fun _ => 0) 0 (fun _ => 0) 0 (nI 0) (nI 0) (fun _ => nI 0)) t.heap ∧ va_K D classes [(cI, .int), (cZ, .boolean)] t ∧ va_D (va_A (wm_in h) sz) (wM h ht hp hw hz cI cZ (fun _ => 0) 0 (fun _ => 0) 0 (fun _ => 0) 0 (nI 0) (nI 0) (fun _ => nI 0))
set_option maxHeartbeats 4000000 in
set_option maxRecDepth 100000 in
theorem c_Mo_init (l : Launch) (D : va_G) (h sz : Nat) : Met l y_Mo_init w_Mo_init rm_Mo_init (Pc_Mo D h sz) (va_Qv (fun _ => True) (B_Mo D h sz) (va_A (wm_in h) sz)) 4 1601 (va_A (wm_in h) sz) := by
  refine Met.ofW (cc := b_Mo_init) (maxL := 1) (ret := none) (by decide) rfl ?_
  intro p e s m args below meth c s₁ B hml hv
  obtain ⟨rfl, hsz, hP, hK, hD0⟩ := hv
  have hx := B.exec
  have hb := B.bytes
  have hr := B.returns
  have hts0 := atoms_spec (ws := w_Mo_init) B.pre
  have hts : ∀ w ∈ gw, w.before _ s = true := fun w hw => hts0 w (List.mem_cons_of_mem _ hw)
  have hown : s.vm.findClass R_Mo = some m.cls := findClass_of_methodNamed B.named
  have hlocks := B.notSynchronized
  have hin : meth.name = "<init>" := (name_of_methodNamed B.named B.method).1
  have S : CallFix p m c b_Mo_init 1 s _ gw R_Mo := ⟨hx, hb, hml, hown, hts⟩
  subst hsz
  have hD := hD0.self (sz := s.heap.size)
  have hA : ∀ q : Nat, s.heap.size ≤ q → va_A (wm_in h) s.heap.size q := fun q h => Or.inr h
  have hS : va_S (va_A (wm_in h) s.heap.size) s.heap s.heap [] := va_S.rf
  have hl := lv_entry ([.ref h]) (n := 1) (Nat.le_of_ble_eq_true rfl)
  rw [lg_entry_eq]
  generalize (lg_sl ([.ref h]) ++ List.replicate (1 - (lg_sl ([.ref h])).length) Slot.unset).toArray = ls at hl ⊢
  have hl : lv_has ls 1 [(0, .ref h)] := hl
  show W p l e rm_Mo_init s m _ below meth c s.heap [] 0 0 _ (F0 m 0 ls [])
  refine lv_aload_n hx hb d_Mo_init_0 rfl (lv_at hl 0 rfl) ?_
  refine W.objInit hx hb hown (hts _ k_ml_Mo_1) (hts _ k_im_obj) (hts _ k_code_obj) rfl (by rw [hml]; exact hl.1) rfl d_Mo_init_1 (Nat.le_of_ble_eq_true rfl) (Nat.le_of_ble_eq_true rfl) ?_
  refine W.eq (g2 := F0 m 4 ls []) rfl ?_
  refine lv_aload_n hx hb d_Mo_init_4 rfl (lv_at hl 0 rfl) ?_
  refine lv_sipush (v := nI 400) hx hb d_Mo_init_5 (by decide +kernel) ?_
  refine va_newa (a0 := (400, .inl (nF (fun _ => 0)))) (atype := .int) (ty := .int) hx hb (hts _ k_arr_int) rfl hK hP hD hS hA (fun _ => rfl) (nI_pos (by decide)) (nI_clamp (by decide)) (Nat.le_of_ble_eq_true rfl) (Nat.le_of_ble_eq_true rfl) (Nat.le_of_ble_eq_true rfl) d_Mo_init_8 (fun q1 c1 H hK hP hD hS => ?_)
  refine va_putF (D := D) (ci := 2) (v := .ref q1) (ty := .array .int) (C := R_Mo) (T := F_Mo) (N := 9) hx hb hts i_Mo t_Mo t_Mo_ok n_Mo hown hK hP hD hS 0 rfl rfl 0 (by decide) (hts _ k_fl_Mo_7) (fun _ h9 => h9) rfl hin rfl (by decide +kernel) rfl rfl (Nat.le_of_ble_eq_true rfl) d_Mo_init_10 (fun H locs hP hD hS => ?_)
  have hP : va_P D classes [(h, .inr (2, [.ref q1, .null, .null, .int (nI 0), .int (nI 0), .int (nI 0), .int (nI 0), .int (nI 0), .null])), (q1, .inl (c1, 400, .inl (nF (fun _ => 0))))] H := hP
  have hD : va_D _ [(h, .inr (2, [.ref q1, .null, .null, .int (nI 0), .int (nI 0), .int (nI 0), .int (nI 0), .int (nI 0), .null])), (q1, .inl (c1, 400, .inl (nF (fun _ => 0))))] := hD
  refine lv_aload_n hx hb d_Mo_init_13 rfl (lv_at hl 0 rfl) ?_
  refine lv_sipush (v := nI 400) hx hb d_Mo_init_14 (by decide +kernel) ?_
  refine va_newa (a0 := (400, .inl (nF (fun _ => 0)))) (atype := .int) (ty := .int) hx hb (hts _ k_arr_int) rfl hK hP hD hS hA (fun _ => rfl) (nI_pos (by decide)) (nI_clamp (by decide)) (Nat.le_of_ble_eq_true rfl) (Nat.le_of_ble_eq_true rfl) (Nat.le_of_ble_eq_true rfl) d_Mo_init_17 (fun q2 c2 H hK hP hD hS => ?_)
  refine va_putF (D := D) (ci := 2) (v := .ref q2) (ty := .array .int) (C := R_Mo) (T := F_Mo) (N := 9) hx hb hts i_Mo t_Mo t_Mo_ok n_Mo hown hK hP hD hS 0 rfl rfl 1 (by decide) (hts _ k_fl_Mo_13) (fun _ h9 => h9) rfl hin rfl (by decide +kernel) rfl rfl (Nat.le_of_ble_eq_true rfl) d_Mo_init_19 (fun H locs hP hD hS => ?_)
  have hP : va_P D classes [(h, .inr (2, [.ref q1, .ref q2, .null, .int (nI 0), .int (nI 0), .int (nI 0), .int (nI 0), .int (nI 0), .null])), (q1, .inl (c1, 400, .inl (nF (fun _ => 0)))), (q2, .inl (c2, 400, .inl (nF (fun _ => 0))))] H := hP
  have hD : va_D _ [(h, .inr (2, [.ref q1, .ref q2, .null, .int (nI 0), .int (nI 0), .int (nI 0), .int (nI 0), .int (nI 0), .null])), (q1, .inl (c1, 400, .inl (nF (fun _ => 0)))), (q2, .inl (c2, 400, .inl (nF (fun _ => 0))))] := hD
  refine lv_aload_n hx hb d_Mo_init_22 rfl (lv_at hl 0 rfl) ?_
  refine lv_sipush (v := nI 400) hx hb d_Mo_init_23 (by decide +kernel) ?_
  refine va_newa (a0 := (400, .inl (nF (fun _ => 0)))) (atype := .int) (ty := .int) hx hb (hts _ k_arr_int) rfl hK hP hD hS hA (fun _ => rfl) (nI_pos (by decide)) (nI_clamp (by decide)) (Nat.le_of_ble_eq_true rfl) (Nat.le_of_ble_eq_true rfl) (Nat.le_of_ble_eq_true rfl) d_Mo_init_26 (fun q3 c3 H hK hP hD hS => ?_)
  refine va_putF (D := D) (ci := 2) (v := .ref q3) (ty := .array .int) (C := R_Mo) (T := F_Mo) (N := 9) hx hb hts i_Mo t_Mo t_Mo_ok n_Mo hown hK hP hD hS 0 rfl rfl 2 (by decide) (hts _ k_fl_Mo_16) (fun _ h9 => h9) rfl hin rfl (by decide +kernel) rfl rfl (Nat.le_of_ble_eq_true rfl) d_Mo_init_28 (fun H locs hP hD hS => ?_)
  have hP : va_P D classes [(h, .inr (2, [.ref q1, .ref q2, .ref q3, .int (nI 0), .int (nI 0), .int (nI 0), .int (nI 0), .int (nI 0), .null])), (q1, .inl (c1, 400, .inl (nF (fun _ => 0)))), (q2, .inl (c2, 400, .inl (nF (fun _ => 0)))), (q3, .inl (c3, 400, .inl (nF (fun _ => 0))))] H := hP
  have hD : va_D _ [(h, .inr (2, [.ref q1, .ref q2, .ref q3, .int (nI 0), .int (nI 0), .int (nI 0), .int (nI 0), .int (nI 0), .null])), (q1, .inl (c1, 400, .inl (nF (fun _ => 0)))), (q2, .inl (c2, 400, .inl (nF (fun _ => 0)))), (q3, .inl (c3, 400, .inl (nF (fun _ => 0))))] := hD
  have r1 : s.vm.findClass ("[" ++ FieldType.int.toString) = some c1 := (hK.2 0 _ rfl).2
  have r2 : s.vm.findClass ("[" ++ FieldType.int.toString) = some c2 := (hK.2 1 _ rfl).2
  have r3 : s.vm.findClass ("[" ++ FieldType.int.toString) = some c3 := (hK.2 2 _ rfl).2
  obtain rfl : c1 = c2 := Option.some.inj (r1.symm.trans r2)
  obtain rfl : c1 = c3 := Option.some.inj (r1.symm.trans r3)
  have hK := hK.sub (tys' := [(c1, .int)]) [0] rfl
  refine lv_aload_n hx hb d_Mo_init_31 rfl (lv_at hl 0 rfl) ?_
  refine lv_sipush (v := nI 401) hx hb d_Mo_init_32 (by decide +kernel) ?_
  refine va_newa (a0 := (401, .inl (fun _ => nI 0))) (atype := .boolean) (ty := .boolean) hx hb (hts _ k_arr_boolean) rfl hK hP hD hS hA (fun _ => rfl) (nI_pos (by decide)) (nI_clamp (by decide)) (Nat.le_of_ble_eq_true rfl) (Nat.le_of_ble_eq_true rfl) (Nat.le_of_ble_eq_true rfl) d_Mo_init_35 (fun q4 c4 H hK hP hD hS => ?_)
  refine va_putF (D := D) (ci := 2) (v := .ref q4) (ty := .array .boolean) (C := R_Mo) (T := F_Mo) (N := 9) hx hb hts i_Mo t_Mo t_Mo_ok n_Mo hown hK hP hD hS 0 rfl rfl 8 (by decide) (hts _ k_fl_Mo_19) (fun _ h9 => h9) rfl hin rfl (by decide +kernel) rfl rfl (Nat.le_of_ble_eq_true rfl) d_Mo_init_37 (fun H locs hP hD hS => ?_)
  have hP : va_P D classes (wM h q1 q2 q3 q4 c1 c4 (fun _ => 0) 0 (fun _ => 0) 0 (fun _ => 0) 0 (nI 0) (nI 0) (fun _ => nI 0)) H := hP
  have hD : va_D _ (wM h q1 q2 q3 q4 c1 c4 (fun _ => 0) 0 (fun _ => 0) 0 (fun _ => 0) 0 (nI 0) (nI 0) (fun _ => nI 0)) := hD
  refine W.widen (k := 4) (n := 1601) (by decide) (by decide) ?_
  exact W.vret hx hb hr (fun t ht9 hW => ⟨⟨(), rfl, trivial, q1, q2, q3, q4, c1, c4, by rw [ht9]; exact hP, va_K.moved hW.alike hK, hD⟩, hS.F ht9⟩) hS.2.2 d_Mo_init_40
end
section
-- the skeleton's front (starting text)
def lw_P (b : Addr) (xs : List Int32) (args : Array Value) (s : State) : Prop := args = #[.ref b] ∧ s.IntsAt b xs ∧ xs.length ≤ 3072 ∧ (Jvm.Cond.and given_1 narrow_1).before args s = true
def lw_Q (_ : Array Value) (s : State) (o : Outcome) (t : State) : Prop := o = .returned (some (.int 1)) ∧ Framed s o t [] 10 2820
def lw_Z (below : List Frame) (a : Array Value) (s : State) : State → Prop := fun t => ∃ o, t.status = .running ∧ Ended t below o ∧ lw_Q a s o t
/-- the law's own end, with 1 on the stack, nothing written that was there before, its room as the claim has it -/
theorem lw_ret {p : Program} {l : Launch} {e : Env} {s : State} {m : MethodId} {below : List Frame} {meth : Method} {c : Code} {b : Nat} (hx : p.tables.exec = Jvm.exec) (hb : c.code = code) (hr : meth.sig.returnType = ret) (hlocks : meth.locks = false) {pc : Nat} {H : Heap} {ls : Array Slot} (hdg : decode code pc = .ok (.ireturn, 1)) : W p l e room_1 s m #[Value.ref b] below meth c H [] 10 2820 (lw_Z below #[Value.ref b] s) (F0 m pc ls [.int 1]) := by
  intro T hT X
  obtain ⟨fs, hret, hrun, hended, hW, hframe⟩ := X.leave (v := some (.int 1)) (hlocks := hlocks) (fun h => by rw [hr] at h; cases h)
  have hmeth' : T.vm.method? m = some meth := X.method'
  refine ⟨T.setFrames fs, ?_, .returned (some (.int 1)), hrun, hended, rfl, ⟨_, rfl⟩, hW, hframe⟩
  jvm_step X.here [X.here.top, hx, hb, hdg, hmeth', hr, ret, narrow_b1]
  (try refine ⟨rfl, ?_⟩); (try refine ⟨rfl, ?_⟩)
  first | (intro acts; rw [hret _ acts rfl rfl rfl]) | rw [hret _ _ rfl rfl rfl]
  exact Steps.refl _
/-- what holds at the law's entry: the machine, the code, the tables' words (any of lw_tbl by 'hts w (by decide +kernel)'), the script of L ints xs at the cell b, what the Statement gives of the start (any of its parts by flat_of_before) -/
def lw_At (p : Program) (s : State) (m : MethodId) (meth : Method) (c : Code) (b L : Nat) (xs : Nat → Int32) : Prop :=
  p.tables.exec = Jvm.exec ∧ c.code = code ∧ meth.sig.returnType = ret ∧ c.maxLocals = 4 ∧ s.vm.findClass R_law = some m.cls ∧ (∀ w ∈ lw_tbl, w.before #[Value.ref b] s = true) ∧ va_X b L xs s s.heap ∧ b < s.heap.size ∧ meth.locks = false ∧ (Jvm.Cond.and given_1 narrow_1).before #[Value.ref b] s = true
theorem law_c {L i : Nat} (hL : L ≤ 3072) (hi : i ≤ 4000) : nI L - nI 6 < nI i ↔ L < i + 6 := by
  rw [Int32.lt_iff_toInt_lt, pk_sub_toInt (by omega) (by omega), nI_toInt (by omega)]
  omega
set_option maxHeartbeats 4000000 in
set_option maxRecDepth 100000 in
/-- THE LAW'S LOOP: both sides hold one state -/
theorem law_loop {p : Program} {l : Launch} {e : Env} {s : State} {m : MethodId} {below : List Frame} {meth : Method} {c : Code} {D : va_G} {cB cI cZ : ClassId} {b L : Nat} {xs : Nat → Int32} (hL : L ≤ 3072) (C0 : lw_At p s m meth c b L xs) (hK : va_K D classes (TY cB cI cZ) s) {h ht hp hw hq o ot op ow oz : Nat} : ∀ (j i : Nat), L + 7 - i < j → i ≤ L + 6 → ∀ (T : Nat → Nat) (n : Nat) (P : Nat → Nat) (pn : Nat) (V : Nat → Nat) (vn : Nat), (∀ k, T k < 256) → n ≤ 400 → (∀ k, P k < 256) → pn ≤ 400 → (∀ k, V k < 256) → vn ≤ 400 → ∀ (rv fv mv : Value) (en td : Int32) (z : Nat → Int32) (H : Heap) (locs : List Loc) (ls : Array Slot), va_P D classes (wC h ht hp hw hq cB T n P pn V vn rv fv mv ++ wM o ot op ow oz cI cZ T n P pn V vn en td z) H → va_D (fun q : Nat => s.heap.size ≤ q) (wC h ht hp hw hq cB T n P pn V vn rv fv mv ++ wM o ot op ow oz cI cZ T n P pn V vn en td z) → va_S (fun q : Nat => s.heap.size ≤ q) s.heap H locs → lv_has ls 4 [(0, .ref b), (1, .ref h), (2, .ref o), (3, .int (nI i))] → W p l e room_1 s m #[Value.ref b] below meth c H locs 10 2820 (lw_Z below #[Value.ref b] s) (F0 m 18 ls []) := by
  obtain ⟨hx, hb, hr, hml, hown, htl, hX, hbl, hlocks, hgv⟩ := id C0
  have hts : ∀ w ∈ gw, w.before #[Value.ref b] s = true := fun w h9 => htl w (List.mem_filter.mp h9).1
  have S : CallFix p m c code 4 s #[Value.ref b] gw R_law := ⟨hx, hb, hml, hown, hts⟩
  have hA : ∀ q : Nat, s.heap.size ≤ q → (fun q : Nat => s.heap.size ≤ q) q := fun _ h9 => h9
  have hbA : ¬ (fun q : Nat => s.heap.size ≤ q) b := Nat.not_le.mpr hbl
  intro j
  induction j with
  | zero => intro i h0; exact absurd h0 (Nat.not_lt_zero _)
  | succ j ih =>
    intro i h0 h1 T n P pn V vn hT8 hn hP8 hpn hV8 hvn rv fv mv en td z H locs ls hP hD hS hl
    refine lv_iload_n hx hb d_law_18 rfl (lv_at hl 3 rfl) ?_
    refine lv_aload_n hx hb d_law_19 rfl (lv_at hl 0 rfl) ?_
    refine va_slen hx hb hX hbl hbA hS d_law_20 ?_
    refine wr_cv (z := (nI L)) rfl ?_
    refine lv_bipush (v := (nI 6)) hx hb d_law_21 (by decide +kernel) ?_
    refine lv_isub hx hb d_law_23 ?_
    refine wr_cv (z := (nI L - nI 6)) rfl ?_
    refine lv_icmp_gt (tgt := 253) hx hb d_law_24 (by decide) (fun c24 => ?_) (fun c24 => ?_)
    · have c24 : L < i + 6 := (law_c hL (by omega)).mp c24
      refine lv_iconst (v := (nI 1)) hx hb d_law_253 (by decide +kernel) ?_
      refine va_forget (fun q h9 => hS.2.2 q h9) ?_
      exact lw_ret hx hb hr hlocks d_law_254
    · have c24 : ¬ L < i + 6 := fun z9 => c24 ((law_c hL (by omega)).mpr z9)
      refine lv_aload_n hx hb d_law_27 rfl (lv_at hl 0 rfl) ?_
      refine lv_iload_n hx hb d_law_28 rfl (lv_at hl 3 rfl) ?_
      refine va_sld hx hb hX hbl hbA hS (vp_in_nI (by omega) (by omega)) d_law_29 ?_
      refine wr_cv (z := (xs i)) (congrArg xs (nI_clamp (by omega))) ?_
      refine lv_bipush (v := (nI 7)) hx hb d_law_30 (by decide +kernel) ?_
      refine lv_iand hx hb d_law_32 ?_
      obtain ⟨w9, hw9, ew9⟩ := pk_andE (xs i) (m := nI 7) 3 (by decide +kernel)
      refine wr_cv ew9 ?_
      rcases (show w9 = 0 ∨ w9 = 1 ∨ w9 = 2 ∨ w9 = 3 ∨ w9 = 4 ∨ w9 = 5 ∨ w9 = 6 ∨ w9 = 7 by omega) with rfl | rfl | rfl | rfl | rfl | rfl | rfl | rfl
      · refine lv_tableIn (tgt := 76) (off := 43) hx hb d_law_33 (by decide +kernel) (by decide +kernel) (by decide +kernel) (by decide) ?_
        refine lv_aload_n hx hb d_law_76 rfl (lv_at hl 1 rfl) ?_
        refine lv_aload_n hx hb d_law_77 rfl (lv_at hl 0 rfl) ?_
        refine lv_iload_n hx hb d_law_78 rfl (lv_at hl 3 rfl) ?_
        refine lv_iconst (v := (nI 1)) hx hb d_law_79 (by decide +kernel) ?_
        refine lv_iadd hx hb d_law_80 ?_
        refine wr_cv (z := (nI (i + 1))) (nI_add i 1) ?_
        refine va_sld hx hb hX hbl hbA hS (vp_in_nI (by omega) (by omega)) d_law_81 ?_
        refine wr_cv (z := (xs (i + 1))) (congrArg xs (nI_clamp (by omega))) ?_
        refine lv_aload_n hx hb d_law_82 rfl (lv_at hl 0 rfl) ?_
        refine lv_iload_n hx hb d_law_83 rfl (lv_at hl 3 rfl) ?_
        refine lv_iconst (v := (nI 2)) hx hb d_law_84 (by decide +kernel) ?_
        refine lv_iadd hx hb d_law_85 ?_
        refine wr_cv (z := (nI (i + 2))) (nI_add i 2) ?_
        refine va_sld hx hb hX hbl hbA hS (vp_in_nI (by omega) (by omega)) d_law_86 ?_
        refine wr_cv (z := (xs (i + 2))) (congrArg xs (nI_clamp (by omega))) ?_
        refine lv_aload_n hx hb d_law_87 rfl (lv_at hl 0 rfl) ?_
        refine lv_iload_n hx hb d_law_88 rfl (lv_at hl 3 rfl) ?_
        refine lv_iconst (v := (nI 3)) hx hb d_law_89 (by decide +kernel) ?_
        refine lv_iadd hx hb d_law_90 ?_
        refine wr_cv (z := (nI (i + 3))) (nI_add i 3) ?_
        refine va_sld hx hb hX hbl hbA hS (vp_in_nI (by omega) (by omega)) d_law_91 ?_
        refine wr_cv (z := (xs (i + 3))) (congrArg xs (nI_clamp (by omega))) ?_
        refine lv_aload_n hx hb d_law_92 rfl (lv_at hl 0 rfl) ?_
        refine lv_iload_n hx hb d_law_93 rfl (lv_at hl 3 rfl) ?_
        refine lv_iconst (v := (nI 4)) hx hb d_law_94 (by decide +kernel) ?_
        refine lv_iadd hx hb d_law_95 ?_
        refine wr_cv (z := (nI (i + 4))) (nI_add i 4) ?_
        refine va_sld hx hb hX hbl hbA hS (vp_in_nI (by omega) (by omega)) d_law_96 ?_
        refine wr_cv (z := (xs (i + 4))) (congrArg xs (nI_clamp (by omega))) ?_
        refine lv_aload_n hx hb d_law_97 rfl (lv_at hl 0 rfl) ?_
        refine lv_iload_n hx hb d_law_98 rfl (lv_at hl 3 rfl) ?_
        refine lv_iconst (v := (nI 5)) hx hb d_law_99 (by decide +kernel) ?_
        refine lv_iadd hx hb d_law_100 ?_
        refine wr_cv (z := (nI (i + 5))) (nI_add i 5) ?_
        refine va_sld hx hb hX hbl hbA hS (vp_in_nI (by omega) (by omega)) d_law_101 ?_
        refine wr_cv (z := (xs (i + 5))) (congrArg xs (nI_clamp (by omega))) ?_
        refine wr_ci (As := [.int (xs (i + 1)), .int (xs (i + 2)), .int (xs (i + 3)), .int (xs (i + 4)), .int (xs (i + 5))]) (rest := []) (wr := wM o ot op ow oz cI cZ T n P pn V vn en td z) (wc := wC h ht hp hw hq cB T n P pn V vn rv fv mv) S (c_Wc_feed l D cB cI cZ h ht hp hw hq T hT8 n hn P hP8 pn hpn V hV8 vn hvn (xs (i + 1)) (xs (i + 2)) (xs (i + 3)) (xs (i + 4)) (xs (i + 5)) rv fv mv H.size) (cwV 5 hts g_law_13 rfl rfl rfl (by decide +kernel) ⟨Nat.le_of_ble_eq_true rfl, Nat.le_of_ble_eq_true rfl⟩) hK hP hD hS hA [0, 1, 2, 3, 4] [5, 6, 7, 8, 9] rfl rfl (by decide) rfl (by decide) (by decide) (ci := 1) (q0 := 0) rfl rfl rfl rfl hl.1 rfl (lv_room (Nat.le_of_ble_eq_true rfl)) d_law_102 ⟨Nat.le_refl _, Nat.le_refl _⟩ (fun r9 u9 H locs hpo hj hS => ?_)
        obtain ⟨e1, rv, fv, mv, e2⟩ := hpo
        subst e1
        subst e2
        obtain ⟨hP, hD⟩ := hj rfl
        have hP : va_P D classes (wC h ht hp hw hq cB (fd_T T n (xs (i + 1)) (xs (i + 2)) (xs (i + 3)) (xs (i + 4)) (xs (i + 5))) (fd_n n) P pn V vn rv fv mv ++ wM o ot op ow oz cI cZ T n P pn V vn en td z) H := hP.sub [5, 6, 7, 8, 9, 0, 1, 2, 3, 4] rfl
        have hD : va_D _ (wC h ht hp hw hq cB (fd_T T n (xs (i + 1)) (xs (i + 2)) (xs (i + 3)) (xs (i + 4)) (xs (i + 5))) (fd_n n) P pn V vn rv fv mv ++ wM o ot op ow oz cI cZ T n P pn V vn en td z) := hD.sub [5, 6, 7, 8, 9, 0, 1, 2, 3, 4] (by decide) rfl
        refine lv_aload_n hx hb d_law_105 rfl (lv_at hl 2 rfl) ?_
        refine lv_aload_n hx hb d_law_106 rfl (lv_at hl 0 rfl) ?_
        refine lv_iload_n hx hb d_law_107 rfl (lv_at hl 3 rfl) ?_
        refine lv_iconst (v := (nI 1)) hx hb d_law_108 (by decide +kernel) ?_
        refine lv_iadd hx hb d_law_109 ?_
        refine wr_cv (z := (nI (i + 1))) (nI_add i 1) ?_
        refine va_sld hx hb hX hbl hbA hS (vp_in_nI (by omega) (by omega)) d_law_110 ?_
        refine wr_cv (z := (xs (i + 1))) (congrArg xs (nI_clamp (by omega))) ?_
        refine lv_aload_n hx hb d_law_111 rfl (lv_at hl 0 rfl) ?_
        refine lv_iload_n hx hb d_law_112 rfl (lv_at hl 3 rfl) ?_
        refine lv_iconst (v := (nI 2)) hx hb d_law_113 (by decide +kernel) ?_
        refine lv_iadd hx hb d_law_114 ?_
        refine wr_cv (z := (nI (i + 2))) (nI_add i 2) ?_
        refine va_sld hx hb hX hbl hbA hS (vp_in_nI (by omega) (by omega)) d_law_115 ?_
        refine wr_cv (z := (xs (i + 2))) (congrArg xs (nI_clamp (by omega))) ?_
        refine lv_aload_n hx hb d_law_116 rfl (lv_at hl 0 rfl) ?_
        refine lv_iload_n hx hb d_law_117 rfl (lv_at hl 3 rfl) ?_
        refine lv_iconst (v := (nI 3)) hx hb d_law_118 (by decide +kernel) ?_
        refine lv_iadd hx hb d_law_119 ?_
        refine wr_cv (z := (nI (i + 3))) (nI_add i 3) ?_
        refine va_sld hx hb hX hbl hbA hS (vp_in_nI (by omega) (by omega)) d_law_120 ?_
        refine wr_cv (z := (xs (i + 3))) (congrArg xs (nI_clamp (by omega))) ?_
        refine lv_aload_n hx hb d_law_121 rfl (lv_at hl 0 rfl) ?_
        refine lv_iload_n hx hb d_law_122 rfl (lv_at hl 3 rfl) ?_
        refine lv_iconst (v := (nI 4)) hx hb d_law_123 (by decide +kernel) ?_
        refine lv_iadd hx hb d_law_124 ?_
        refine wr_cv (z := (nI (i + 4))) (nI_add i 4) ?_
        refine va_sld hx hb hX hbl hbA hS (vp_in_nI (by omega) (by omega)) d_law_125 ?_
        refine wr_cv (z := (xs (i + 4))) (congrArg xs (nI_clamp (by omega))) ?_
        refine lv_aload_n hx hb d_law_126 rfl (lv_at hl 0 rfl) ?_
        refine lv_iload_n hx hb d_law_127 rfl (lv_at hl 3 rfl) ?_
        refine lv_iconst (v := (nI 5)) hx hb d_law_128 (by decide +kernel) ?_
        refine lv_iadd hx hb d_law_129 ?_
        refine wr_cv (z := (nI (i + 5))) (nI_add i 5) ?_
        refine va_sld hx hb hX hbl hbA hS (vp_in_nI (by omega) (by omega)) d_law_130 ?_
        refine wr_cv (z := (xs (i + 5))) (congrArg xs (nI_clamp (by omega))) ?_
        refine wr_ci (As := [.int (xs (i + 1)), .int (xs (i + 2)), .int (xs (i + 3)), .int (xs (i + 4)), .int (xs (i + 5))]) (rest := [.int (bI (decide (n + 20 ≤ 400)))]) (wr := wC h ht hp hw hq cB (fd_T T n (xs (i + 1)) (xs (i + 2)) (xs (i + 3)) (xs (i + 4)) (xs (i + 5))) (fd_n n) P pn V vn rv fv mv) (wc := wM o ot op ow oz cI cZ T n P pn V vn en td z) S (c_Mo_feed l D cB cI cZ o ot op ow oz T hT8 n hn P hP8 pn hpn V hV8 vn hvn (xs (i + 1)) (xs (i + 2)) (xs (i + 3)) (xs (i + 4)) (xs (i + 5)) en td z H.size) (cwV 5 hts g_law_17 rfl rfl rfl (by decide +kernel) ⟨Nat.le_of_ble_eq_true rfl, Nat.le_of_ble_eq_true rfl⟩) hK hP hD hS hA [5, 6, 7, 8, 9] [0, 1, 2, 3, 4] rfl rfl (by decide) rfl (by decide) (by decide) (ci := 2) (q0 := 0) rfl rfl rfl rfl hl.1 rfl (lv_room (Nat.le_of_ble_eq_true rfl)) d_law_131 ⟨Nat.le_refl _, Nat.le_refl _⟩ (fun r9 u9 H locs hpo hj hS => ?_)
        obtain ⟨e1, en, td, z, e2⟩ := hpo
        subst e1
        subst e2
        obtain ⟨hP, hD⟩ := hj rfl
        have hP : va_P D classes (wC h ht hp hw hq cB (fd_T T n (xs (i + 1)) (xs (i + 2)) (xs (i + 3)) (xs (i + 4)) (xs (i + 5))) (fd_n n) P pn V vn rv fv mv ++ wM o ot op ow oz cI cZ (fd_T T n (xs (i + 1)) (xs (i + 2)) (xs (i + 3)) (xs (i + 4)) (xs (i + 5))) (fd_n n) P pn V vn en td z) H := hP
        have hD : va_D _ (wC h ht hp hw hq cB (fd_T T n (xs (i + 1)) (xs (i + 2)) (xs (i + 3)) (xs (i + 4)) (xs (i + 5))) (fd_n n) P pn V vn rv fv mv ++ wM o ot op ow oz cI cZ (fd_T T n (xs (i + 1)) (xs (i + 2)) (xs (i + 3)) (xs (i + 4)) (xs (i + 5))) (fd_n n) P pn V vn en td z) := hD
        refine lv_icmp_eq (tgt := 247) hx hb d_law_134 (by decide) (fun c9 => ?_) (fun c9 => ?_)
        · refine lv_iinc (v := (nI (i + 6))) (lv' := [(3, .int (nI (i + 6))), (0, .ref b), (1, .ref h), (2, .ref o)]) hx hb d_law_247 hl (k := 3) rfl (nI_add i 6) (by decide) rfl (fun ls hl => ?_)
          refine lv_goto (tgt := 18) hx hb d_law_250 (by decide) ?_
          exact ih (i + 6) (by omega) (by omega) (fd_T T n (xs (i + 1)) (xs (i + 2)) (xs (i + 3)) (xs (i + 4)) (xs (i + 5))) (fd_n n) P pn V vn (fd_T_lt hT8) (fd_n_le hn) hP8 hpn hV8 hvn rv fv mv en td z H locs ls hP hD hS (lv_sub hl [1, 2, 3, 0] rfl)
        · exact absurd rfl c9
      · refine lv_tableIn (tgt := 139) (off := 106) hx hb d_law_33 (by decide +kernel) (by decide +kernel) (by decide +kernel) (by decide) ?_
        refine lv_aload_n hx hb d_law_139 rfl (lv_at hl 1 rfl) ?_
        refine lv_aload_n hx hb d_law_140 rfl (lv_at hl 0 rfl) ?_
        refine lv_iload_n hx hb d_law_141 rfl (lv_at hl 3 rfl) ?_
        refine lv_iconst (v := (nI 1)) hx hb d_law_142 (by decide +kernel) ?_
        refine lv_iadd hx hb d_law_143 ?_
        refine wr_cv (z := (nI (i + 1))) (nI_add i 1) ?_
        refine va_sld hx hb hX hbl hbA hS (vp_in_nI (by omega) (by omega)) d_law_144 ?_
        refine wr_cv (z := (xs (i + 1))) (congrArg xs (nI_clamp (by omega))) ?_
        refine wr_ci (As := [.int (xs (i + 1))]) (rest := []) (wr := wM o ot op ow oz cI cZ T n P pn V vn en td z) (wc := wC h ht hp hw hq cB T n P pn V vn rv fv mv) S (c_Wc_end l D cB cI cZ h ht hp hw hq T hT8 n hn P hP8 pn hpn V hV8 vn hvn (xs (i + 1)) rv fv mv H.size) (cwV 1 hts g_law_18 rfl rfl rfl (by decide +kernel) ⟨Nat.le_of_ble_eq_true rfl, Nat.le_of_ble_eq_true rfl⟩) hK hP hD hS hA [0, 1, 2, 3, 4] [5, 6, 7, 8, 9] rfl rfl (by decide) rfl (by decide) (by decide) (ci := 1) (q0 := 0) rfl rfl rfl rfl hl.1 rfl (lv_room (Nat.le_of_ble_eq_true rfl)) d_law_145 ⟨Nat.le_refl _, Nat.le_refl _⟩ (fun r9 u9 H locs hpo hj hS => ?_)
        obtain ⟨e1, rv, fv, mv, e2⟩ := hpo
        subst e1
        subst e2
        obtain ⟨hP, hD⟩ := hj rfl
        have hP : va_P D classes (wC h ht hp hw hq cB T (ed_n n (xs (i + 1))) P pn V vn rv fv mv ++ wM o ot op ow oz cI cZ T n P pn V vn en td z) H := hP.sub [5, 6, 7, 8, 9, 0, 1, 2, 3, 4] rfl
        have hD : va_D _ (wC h ht hp hw hq cB T (ed_n n (xs (i + 1))) P pn V vn rv fv mv ++ wM o ot op ow oz cI cZ T n P pn V vn en td z) := hD.sub [5, 6, 7, 8, 9, 0, 1, 2, 3, 4] (by decide) rfl
        refine lv_aload_n hx hb d_law_148 rfl (lv_at hl 2 rfl) ?_
        refine lv_aload_n hx hb d_law_149 rfl (lv_at hl 0 rfl) ?_
        refine lv_iload_n hx hb d_law_150 rfl (lv_at hl 3 rfl) ?_
        refine lv_iconst (v := (nI 1)) hx hb d_law_151 (by decide +kernel) ?_
        refine lv_iadd hx hb d_law_152 ?_
        refine wr_cv (z := (nI (i + 1))) (nI_add i 1) ?_
        refine va_sld hx hb hX hbl hbA hS (vp_in_nI (by omega) (by omega)) d_law_153 ?_
        refine wr_cv (z := (xs (i + 1))) (congrArg xs (nI_clamp (by omega))) ?_
        refine wr_ci (As := [.int (xs (i + 1))]) (rest := [.int (bI (ed_b n (xs (i + 1))))]) (wr := wC h ht hp hw hq cB T (ed_n n (xs (i + 1))) P pn V vn rv fv mv) (wc := wM o ot op ow oz cI cZ T n P pn V vn en td z) S (c_Mo_end l D cB cI cZ o ot op ow oz T hT8 n hn P hP8 pn hpn V hV8 vn hvn (xs (i + 1)) en td z H.size) (cwV 1 hts g_law_22 rfl rfl rfl (by decide +kernel) ⟨Nat.le_of_ble_eq_true rfl, Nat.le_of_ble_eq_true rfl⟩) hK hP hD hS hA [5, 6, 7, 8, 9] [0, 1, 2, 3, 4] rfl rfl (by decide) rfl (by decide) (by decide) (ci := 2) (q0 := 0) rfl rfl rfl rfl hl.1 rfl (lv_room (Nat.le_of_ble_eq_true rfl)) d_law_154 ⟨Nat.le_refl _, Nat.le_refl _⟩ (fun r9 u9 H locs hpo hj hS => ?_)
        obtain ⟨e1, en, td, z, e2⟩ := hpo
        subst e1
        subst e2
        obtain ⟨hP, hD⟩ := hj rfl
        have hP : va_P D classes (wC h ht hp hw hq cB T (ed_n n (xs (i + 1))) P pn V vn rv fv mv ++ wM o ot op ow oz cI cZ T (ed_n n (xs (i + 1))) P pn V vn en td z) H := hP
        have hD : va_D _ (wC h ht hp hw hq cB T (ed_n n (xs (i + 1))) P pn V vn rv fv mv ++ wM o ot op ow oz cI cZ T (ed_n n (xs (i + 1))) P pn V vn en td z) := hD
        refine lv_icmp_eq (tgt := 247) hx hb d_law_157 (by decide) (fun c9 => ?_) (fun c9 => ?_)
        · refine lv_iinc (v := (nI (i + 6))) (lv' := [(3, .int (nI (i + 6))), (0, .ref b), (1, .ref h), (2, .ref o)]) hx hb d_law_247 hl (k := 3) rfl (nI_add i 6) (by decide) rfl (fun ls hl => ?_)
          refine lv_goto (tgt := 18) hx hb d_law_250 (by decide) ?_
          exact ih (i + 6) (by omega) (by omega) T (ed_n n (xs (i + 1))) P pn V vn hT8 (ed_n_le hn) hP8 hpn hV8 hvn rv fv mv en td z H locs ls hP hD hS (lv_sub hl [1, 2, 3, 0] rfl)
        · exact absurd rfl c9
      · refine lv_tableIn (tgt := 162) (off := 129) hx hb d_law_33 (by decide +kernel) (by decide +kernel) (by decide +kernel) (by decide) ?_
        refine lv_aload_n hx hb d_law_162 rfl (lv_at hl 1 rfl) ?_
        refine wr_ci (As := []) (rest := []) (wr := wM o ot op ow oz cI cZ T n P pn V vn en td z) (wc := wC h ht hp hw hq cB T n P pn V vn rv fv mv) S (c_Wc_pattern l D cB cI cZ h ht hp hw hq T hT8 n hn P hP8 pn hpn V hV8 vn hvn  rv fv mv H.size) (cwV 0 hts g_law_23 rfl rfl rfl (by decide +kernel) ⟨Nat.le_of_ble_eq_true rfl, Nat.le_of_ble_eq_true rfl⟩) hK hP hD hS hA [0, 1, 2, 3, 4] [5, 6, 7, 8, 9] rfl rfl (by decide) rfl (by decide) (by decide) (ci := 1) (q0 := 0) rfl rfl rfl rfl hl.1 rfl (lv_room (Nat.le_of_ble_eq_true rfl)) d_law_163 ⟨Nat.le_refl _, Nat.le_refl _⟩ (fun r9 u9 H locs hpo hj hS => ?_)
        obtain ⟨e1, rv, fv, mv, e2⟩ := hpo
        subst e1
        subst e2
        obtain ⟨hP, hD⟩ := hj rfl
        have hP : va_P D classes (wC h ht hp hw hq cB T 0 (cpN T P n) n V vn rv fv mv ++ wM o ot op ow oz cI cZ T n P pn V vn en td z) H := hP.sub [5, 6, 7, 8, 9, 0, 1, 2, 3, 4] rfl
        have hD : va_D _ (wC h ht hp hw hq cB T 0 (cpN T P n) n V vn rv fv mv ++ wM o ot op ow oz cI cZ T n P pn V vn en td z) := hD.sub [5, 6, 7, 8, 9, 0, 1, 2, 3, 4] (by decide) rfl
        refine lv_aload_n hx hb d_law_166 rfl (lv_at hl 2 rfl) ?_
        refine wr_ci (As := []) (rest := [.int (nI n)]) (wr := wC h ht hp hw hq cB T 0 (cpN T P n) n V vn rv fv mv) (wc := wM o ot op ow oz cI cZ T n P pn V vn en td z) S (c_Mo_pattern l D cB cI cZ o ot op ow oz T hT8 n hn P hP8 pn hpn V hV8 vn hvn  en td z H.size) (cwV 0 hts g_law_27 rfl rfl rfl (by decide +kernel) ⟨Nat.le_of_ble_eq_true rfl, Nat.le_of_ble_eq_true rfl⟩) hK hP hD hS hA [5, 6, 7, 8, 9] [0, 1, 2, 3, 4] rfl rfl (by decide) rfl (by decide) (by decide) (ci := 2) (q0 := 0) rfl rfl rfl rfl hl.1 rfl (lv_room (Nat.le_of_ble_eq_true rfl)) d_law_167 ⟨Nat.le_refl _, Nat.le_refl _⟩ (fun r9 u9 H locs hpo hj hS => ?_)
        obtain ⟨e1, en, td, z, e2⟩ := hpo
        subst e1
        subst e2
        obtain ⟨hP, hD⟩ := hj rfl
        have hP : va_P D classes (wC h ht hp hw hq cB T 0 (cpN T P n) n V vn rv fv mv ++ wM o ot op ow oz cI cZ T 0 (cpN T P n) n V vn en td z) H := hP
        have hD : va_D _ (wC h ht hp hw hq cB T 0 (cpN T P n) n V vn rv fv mv ++ wM o ot op ow oz cI cZ T 0 (cpN T P n) n V vn en td z) := hD
        refine lv_icmp_eq (tgt := 247) hx hb d_law_170 (by decide) (fun c9 => ?_) (fun c9 => ?_)
        · refine lv_iinc (v := (nI (i + 6))) (lv' := [(3, .int (nI (i + 6))), (0, .ref b), (1, .ref h), (2, .ref o)]) hx hb d_law_247 hl (k := 3) rfl (nI_add i 6) (by decide) rfl (fun ls hl => ?_)
          refine lv_goto (tgt := 18) hx hb d_law_250 (by decide) ?_
          exact ih (i + 6) (by omega) (by omega) T 0 (cpN T P n) n V vn hT8 (Nat.zero_le _) (cpN_lt hT8 hP8) hn hV8 hvn rv fv mv en td z H locs ls hP hD hS (lv_sub hl [1, 2, 3, 0] rfl)
        · exact absurd rfl c9
      · refine lv_tableIn (tgt := 175) (off := 142) hx hb d_law_33 (by decide +kernel) (by decide +kernel) (by decide +kernel) (by decide) ?_
        refine lv_aload_n hx hb d_law_175 rfl (lv_at hl 1 rfl) ?_
        refine wr_ci (As := []) (rest := []) (wr := wM o ot op ow oz cI cZ T n P pn V vn en td z) (wc := wC h ht hp hw hq cB T n P pn V vn rv fv mv) S (c_Wc_word l D cB cI cZ h ht hp hw hq T hT8 n hn P hP8 pn hpn V hV8 vn hvn  rv fv mv H.size) (cwV 0 hts g_law_28 rfl rfl rfl (by decide +kernel) ⟨Nat.le_of_ble_eq_true rfl, Nat.le_of_ble_eq_true rfl⟩) hK hP hD hS hA [0, 1, 2, 3, 4] [5, 6, 7, 8, 9] rfl rfl (by decide) rfl (by decide) (by decide) (ci := 1) (q0 := 0) rfl rfl rfl rfl hl.1 rfl (lv_room (Nat.le_of_ble_eq_true rfl)) d_law_176 ⟨Nat.le_refl _, Nat.le_refl _⟩ (fun r9 u9 H locs hpo hj hS => ?_)
        obtain ⟨e1, rv, fv, mv, e2⟩ := hpo
        subst e1
        subst e2
        obtain ⟨hP, hD⟩ := hj rfl
        have hP : va_P D classes (wC h ht hp hw hq cB T 0 P pn (cpN T V n) n rv fv mv ++ wM o ot op ow oz cI cZ T n P pn V vn en td z) H := hP.sub [5, 6, 7, 8, 9, 0, 1, 2, 3, 4] rfl
        have hD : va_D _ (wC h ht hp hw hq cB T 0 P pn (cpN T V n) n rv fv mv ++ wM o ot op ow oz cI cZ T n P pn V vn en td z) := hD.sub [5, 6, 7, 8, 9, 0, 1, 2, 3, 4] (by decide) rfl
        refine lv_aload_n hx hb d_law_179 rfl (lv_at hl 2 rfl) ?_
        refine wr_ci (As := []) (rest := [.int (nI n)]) (wr := wC h ht hp hw hq cB T 0 P pn (cpN T V n) n rv fv mv) (wc := wM o ot op ow oz cI cZ T n P pn V vn en td z) S (c_Mo_word l D cB cI cZ o ot op ow oz T hT8 n hn P hP8 pn hpn V hV8 vn hvn  en td z H.size) (cwV 0 hts g_law_31 rfl rfl rfl (by decide +kernel) ⟨Nat.le_of_ble_eq_true rfl, Nat.le_of_ble_eq_true rfl⟩) hK hP hD hS hA [5, 6, 7, 8, 9] [0, 1, 2, 3, 4] rfl rfl (by decide) rfl (by decide) (by decide) (ci := 2) (q0 := 0) rfl rfl rfl rfl hl.1 rfl (lv_room (Nat.le_of_ble_eq_true rfl)) d_law_180 ⟨Nat.le_refl _, Nat.le_refl _⟩ (fun r9 u9 H locs hpo hj hS => ?_)
        obtain ⟨e1, en, td, z, e2⟩ := hpo
        subst e1
        subst e2
        obtain ⟨hP, hD⟩ := hj rfl
        have hP : va_P D classes (wC h ht hp hw hq cB T 0 P pn (cpN T V n) n rv fv mv ++ wM o ot op ow oz cI cZ T 0 P pn (cpN T V n) n en td z) H := hP
        have hD : va_D _ (wC h ht hp hw hq cB T 0 P pn (cpN T V n) n rv fv mv ++ wM o ot op ow oz cI cZ T 0 P pn (cpN T V n) n en td z) := hD
        refine lv_icmp_eq (tgt := 247) hx hb d_law_183 (by decide) (fun c9 => ?_) (fun c9 => ?_)
        · refine lv_iinc (v := (nI (i + 6))) (lv' := [(3, .int (nI (i + 6))), (0, .ref b), (1, .ref h), (2, .ref o)]) hx hb d_law_247 hl (k := 3) rfl (nI_add i 6) (by decide) rfl (fun ls hl => ?_)
          refine lv_goto (tgt := 18) hx hb d_law_250 (by decide) ?_
          exact ih (i + 6) (by omega) (by omega) T 0 P pn (cpN T V n) n hT8 (Nat.zero_le _) hP8 hpn (cpN_lt hT8 hV8) hn rv fv mv en td z H locs ls hP hD hS (lv_sub hl [1, 2, 3, 0] rfl)
        · exact absurd rfl c9
      · refine lv_tableIn (tgt := 188) (off := 155) hx hb d_law_33 (by decide +kernel) (by decide +kernel) (by decide +kernel) (by decide) ?_
        refine lv_aload_n hx hb d_law_188 rfl (lv_at hl 1 rfl) ?_
        refine wr_ci (As := []) (rest := []) (wr := wM o ot op ow oz cI cZ T n P pn V vn en td z) (wc := wC h ht hp hw hq cB T n P pn V vn rv fv mv) S (c_Wc_fits l D cB cI cZ h ht hp hw hq T hT8 n hn P hP8 pn hpn V hV8 vn hvn  rv fv mv H.size) (cwV 0 hts g_law_32 rfl rfl rfl (by decide +kernel) ⟨Nat.le_of_ble_eq_true rfl, Nat.le_of_ble_eq_true rfl⟩) hK hP hD hS hA [0, 1, 2, 3, 4] [5, 6, 7, 8, 9] rfl rfl (by decide) rfl (by decide) (by decide) (ci := 1) (q0 := 0) rfl rfl rfl rfl hl.1 rfl (lv_room (Nat.le_of_ble_eq_true rfl)) d_law_189 ⟨Nat.le_refl _, Nat.le_refl _⟩ (fun r9 u9 H locs hpo hj hS => ?_)
        obtain ⟨e1, rv, fv, mv, e2⟩ := hpo
        subst e1
        subst e2
        obtain ⟨hP, hD⟩ := hj rfl
        have hP : va_P D classes (wC h ht hp hw hq cB T n P pn V vn rv fv mv ++ wM o ot op ow oz cI cZ T n P pn V vn en td z) H := hP.sub [5, 6, 7, 8, 9, 0, 1, 2, 3, 4] rfl
        have hD : va_D _ (wC h ht hp hw hq cB T n P pn V vn rv fv mv ++ wM o ot op ow oz cI cZ T n P pn V vn en td z) := hD.sub [5, 6, 7, 8, 9, 0, 1, 2, 3, 4] (by decide) rfl
        refine lv_aload_n hx hb d_law_192 rfl (lv_at hl 2 rfl) ?_
        refine wr_ci (As := []) (rest := [.int (bI (wq_fb P pn V 0 vn))]) (wr := wC h ht hp hw hq cB T n P pn V vn rv fv mv) (wc := wM o ot op ow oz cI cZ T n P pn V vn en td z) S (c_Mo_fits l D cB cI cZ o ot op ow oz T hT8 n hn P hP8 pn hpn V hV8 vn hvn  en td z H.size) (cwV 0 hts g_law_36 rfl rfl rfl (by decide +kernel) ⟨Nat.le_of_ble_eq_true rfl, Nat.le_of_ble_eq_true rfl⟩) hK hP hD hS hA [5, 6, 7, 8, 9] [0, 1, 2, 3, 4] rfl rfl (by decide) rfl (by decide) (by decide) (ci := 2) (q0 := 0) rfl rfl rfl rfl hl.1 rfl (lv_room (Nat.le_of_ble_eq_true rfl)) d_law_193 ⟨Nat.le_refl _, Nat.le_refl _⟩ (fun r9 u9 H locs hpo hj hS => ?_)
        obtain ⟨e1, en, td, z, e2⟩ := hpo
        subst e1
        subst e2
        obtain ⟨hP, hD⟩ := hj rfl
        have hP : va_P D classes (wC h ht hp hw hq cB T n P pn V vn rv fv mv ++ wM o ot op ow oz cI cZ T n P pn V vn en td z) H := hP
        have hD : va_D _ (wC h ht hp hw hq cB T n P pn V vn rv fv mv ++ wM o ot op ow oz cI cZ T n P pn V vn en td z) := hD
        refine lv_icmp_eq (tgt := 247) hx hb d_law_196 (by decide) (fun c9 => ?_) (fun c9 => ?_)
        · refine lv_iinc (v := (nI (i + 6))) (lv' := [(3, .int (nI (i + 6))), (0, .ref b), (1, .ref h), (2, .ref o)]) hx hb d_law_247 hl (k := 3) rfl (nI_add i 6) (by decide) rfl (fun ls hl => ?_)
          refine lv_goto (tgt := 18) hx hb d_law_250 (by decide) ?_
          exact ih (i + 6) (by omega) (by omega) T n P pn V vn hT8 hn hP8 hpn hV8 hvn rv fv mv en td z H locs ls hP hD hS (lv_sub hl [1, 2, 3, 0] rfl)
        · exact absurd rfl c9
      · refine lv_tableIn (tgt := 201) (off := 168) hx hb d_law_33 (by decide +kernel) (by decide +kernel) (by decide +kernel) (by decide) ?_
        refine lv_aload_n hx hb d_law_201 rfl (lv_at hl 1 rfl) ?_
        refine lv_aload_n hx hb d_law_202 rfl (lv_at hl 0 rfl) ?_
        refine lv_iload_n hx hb d_law_203 rfl (lv_at hl 3 rfl) ?_
        refine lv_iconst (v := (nI 1)) hx hb d_law_204 (by decide +kernel) ?_
        refine lv_iadd hx hb d_law_205 ?_
        refine wr_cv (z := (nI (i + 1))) (nI_add i 1) ?_
        refine va_sld hx hb hX hbl hbA hS (vp_in_nI (by omega) (by omega)) d_law_206 ?_
        refine wr_cv (z := (xs (i + 1))) (congrArg xs (nI_clamp (by omega))) ?_
        refine lv_aload_n hx hb d_law_207 rfl (lv_at hl 0 rfl) ?_
        refine lv_iload_n hx hb d_law_208 rfl (lv_at hl 3 rfl) ?_
        refine lv_iconst (v := (nI 2)) hx hb d_law_209 (by decide +kernel) ?_
        refine lv_iadd hx hb d_law_210 ?_
        refine wr_cv (z := (nI (i + 2))) (nI_add i 2) ?_
        refine va_sld hx hb hX hbl hbA hS (vp_in_nI (by omega) (by omega)) d_law_211 ?_
        refine wr_cv (z := (xs (i + 2))) (congrArg xs (nI_clamp (by omega))) ?_
        refine wr_ci (As := [.int (xs (i + 1)), .int (xs (i + 2))]) (rest := []) (wr := wM o ot op ow oz cI cZ T n P pn V vn en td z) (wc := wC h ht hp hw hq cB T n P pn V vn rv fv mv) S (c_Wc_fitsPart l D cB cI cZ h ht hp hw hq T hT8 n hn P hP8 pn hpn V hV8 vn hvn (xs (i + 1)) (xs (i + 2)) rv fv mv H.size) (cwV 2 hts g_law_37 rfl rfl rfl (by decide +kernel) ⟨Nat.le_of_ble_eq_true rfl, Nat.le_of_ble_eq_true rfl⟩) hK hP hD hS hA [0, 1, 2, 3, 4] [5, 6, 7, 8, 9] rfl rfl (by decide) rfl (by decide) (by decide) (ci := 1) (q0 := 0) rfl rfl rfl rfl hl.1 rfl (lv_room (Nat.le_of_ble_eq_true rfl)) d_law_212 ⟨Nat.le_refl _, Nat.le_refl _⟩ (fun r9 u9 H locs hpo hj hS => ?_)
        obtain ⟨e1, rv, fv, mv, e2⟩ := hpo
        subst e1
        subst e2
        obtain ⟨hP, hD⟩ := hj rfl
        have hP : va_P D classes (wC h ht hp hw hq cB T n P pn V vn rv fv mv ++ wM o ot op ow oz cI cZ T n P pn V vn en td z) H := hP.sub [5, 6, 7, 8, 9, 0, 1, 2, 3, 4] rfl
        have hD : va_D _ (wC h ht hp hw hq cB T n P pn V vn rv fv mv ++ wM o ot op ow oz cI cZ T n P pn V vn en td z) := hD.sub [5, 6, 7, 8, 9, 0, 1, 2, 3, 4] (by decide) rfl
        refine lv_aload_n hx hb d_law_215 rfl (lv_at hl 2 rfl) ?_
        refine lv_aload_n hx hb d_law_216 rfl (lv_at hl 0 rfl) ?_
        refine lv_iload_n hx hb d_law_217 rfl (lv_at hl 3 rfl) ?_
        refine lv_iconst (v := (nI 1)) hx hb d_law_218 (by decide +kernel) ?_
        refine lv_iadd hx hb d_law_219 ?_
        refine wr_cv (z := (nI (i + 1))) (nI_add i 1) ?_
        refine va_sld hx hb hX hbl hbA hS (vp_in_nI (by omega) (by omega)) d_law_220 ?_
        refine wr_cv (z := (xs (i + 1))) (congrArg xs (nI_clamp (by omega))) ?_
        refine lv_aload_n hx hb d_law_221 rfl (lv_at hl 0 rfl) ?_
        refine lv_iload_n hx hb d_law_222 rfl (lv_at hl 3 rfl) ?_
        refine lv_iconst (v := (nI 2)) hx hb d_law_223 (by decide +kernel) ?_
        refine lv_iadd hx hb d_law_224 ?_
        refine wr_cv (z := (nI (i + 2))) (nI_add i 2) ?_
        refine va_sld hx hb hX hbl hbA hS (vp_in_nI (by omega) (by omega)) d_law_225 ?_
        refine wr_cv (z := (xs (i + 2))) (congrArg xs (nI_clamp (by omega))) ?_
        refine wr_ci (As := [.int (xs (i + 1)), .int (xs (i + 2))]) (rest := [.int (bI (wq_fp P pn V vn (xs (i + 1)) (xs (i + 2))))]) (wr := wC h ht hp hw hq cB T n P pn V vn rv fv mv) (wc := wM o ot op ow oz cI cZ T n P pn V vn en td z) S (c_Mo_fitsPart l D cB cI cZ o ot op ow oz T hT8 n hn P hP8 pn hpn V hV8 vn hvn (xs (i + 1)) (xs (i + 2)) en td z H.size) (cwV 2 hts g_law_41 rfl rfl rfl (by decide +kernel) ⟨Nat.le_of_ble_eq_true rfl, Nat.le_of_ble_eq_true rfl⟩) hK hP hD hS hA [5, 6, 7, 8, 9] [0, 1, 2, 3, 4] rfl rfl (by decide) rfl (by decide) (by decide) (ci := 2) (q0 := 0) rfl rfl rfl rfl hl.1 rfl (lv_room (Nat.le_of_ble_eq_true rfl)) d_law_226 ⟨Nat.le_refl _, Nat.le_refl _⟩ (fun r9 u9 H locs hpo hj hS => ?_)
        obtain ⟨e1, en, td, z, e2⟩ := hpo
        subst e1
        subst e2
        obtain ⟨hP, hD⟩ := hj rfl
        have hP : va_P D classes (wC h ht hp hw hq cB T n P pn V vn rv fv mv ++ wM o ot op ow oz cI cZ T n P pn V vn en td z) H := hP
        have hD : va_D _ (wC h ht hp hw hq cB T n P pn V vn rv fv mv ++ wM o ot op ow oz cI cZ T n P pn V vn en td z) := hD
        refine lv_icmp_eq (tgt := 247) hx hb d_law_229 (by decide) (fun c9 => ?_) (fun c9 => ?_)
        · refine lv_iinc (v := (nI (i + 6))) (lv' := [(3, .int (nI (i + 6))), (0, .ref b), (1, .ref h), (2, .ref o)]) hx hb d_law_247 hl (k := 3) rfl (nI_add i 6) (by decide) rfl (fun ls hl => ?_)
          refine lv_goto (tgt := 18) hx hb d_law_250 (by decide) ?_
          exact ih (i + 6) (by omega) (by omega) T n P pn V vn hT8 hn hP8 hpn hV8 hvn rv fv mv en td z H locs ls hP hD hS (lv_sub hl [1, 2, 3, 0] rfl)
        · exact absurd rfl c9
      · refine lv_tableIn (tgt := 234) (off := 201) hx hb d_law_33 (by decide +kernel) (by decide +kernel) (by decide +kernel) (by decide) ?_
        refine lv_aload_n hx hb d_law_234 rfl (lv_at hl 1 rfl) ?_
        refine wr_ci (As := []) (rest := []) (wr := wM o ot op ow oz cI cZ T n P pn V vn en td z) (wc := wC h ht hp hw hq cB T n P pn V vn rv fv mv) S (c_Wc_beginnings l D cB cI cZ h ht hp hw hq T hT8 n hn P hP8 pn hpn V hV8 vn hvn  rv fv mv H.size) (cwV 0 hts g_law_42 rfl rfl rfl (by decide +kernel) ⟨Nat.le_of_ble_eq_true rfl, Nat.le_of_ble_eq_true rfl⟩) hK hP hD hS hA [0, 1, 2, 3, 4] [5, 6, 7, 8, 9] rfl rfl (by decide) rfl (by decide) (by decide) (ci := 1) (q0 := 0) rfl rfl rfl rfl hl.1 rfl (lv_room (Nat.le_of_ble_eq_true rfl)) d_law_235 ⟨Nat.le_refl _, Nat.le_refl _⟩ (fun r9 u9 H locs hpo hj hS => ?_)
        obtain ⟨e1, rv, fv, mv, e2⟩ := hpo
        subst e1
        subst e2
        obtain ⟨hP, hD⟩ := hj rfl
        have hP : va_P D classes (wC h ht hp hw hq cB T n P pn V vn rv fv mv ++ wM o ot op ow oz cI cZ T n P pn V vn en td z) H := hP.sub [5, 6, 7, 8, 9, 0, 1, 2, 3, 4] rfl
        have hD : va_D _ (wC h ht hp hw hq cB T n P pn V vn rv fv mv ++ wM o ot op ow oz cI cZ T n P pn V vn en td z) := hD.sub [5, 6, 7, 8, 9, 0, 1, 2, 3, 4] (by decide) rfl
        refine lv_aload_n hx hb d_law_238 rfl (lv_at hl 2 rfl) ?_
        refine wr_ci (As := []) (rest := [.int (smI (fun k => bI (wq_fb P pn V 0 k)) (vn + 1))]) (wr := wC h ht hp hw hq cB T n P pn V vn rv fv mv) (wc := wM o ot op ow oz cI cZ T n P pn V vn en td z) S (c_Mo_beginnings l D cB cI cZ o ot op ow oz T hT8 n hn P hP8 pn hpn V hV8 vn hvn  en td z H.size) (cwV 0 hts g_law_45 rfl rfl rfl (by decide +kernel) ⟨Nat.le_of_ble_eq_true rfl, Nat.le_of_ble_eq_true rfl⟩) hK hP hD hS hA [5, 6, 7, 8, 9] [0, 1, 2, 3, 4] rfl rfl (by decide) rfl (by decide) (by decide) (ci := 2) (q0 := 0) rfl rfl rfl rfl hl.1 rfl (lv_room (Nat.le_of_ble_eq_true rfl)) d_law_239 ⟨Nat.le_refl _, Nat.le_refl _⟩ (fun r9 u9 H locs hpo hj hS => ?_)
        obtain ⟨e1, en, td, z, e2⟩ := hpo
        subst e1
        subst e2
        obtain ⟨hP, hD⟩ := hj rfl
        have hP : va_P D classes (wC h ht hp hw hq cB T n P pn V vn rv fv mv ++ wM o ot op ow oz cI cZ T n P pn V vn en td z) H := hP
        have hD : va_D _ (wC h ht hp hw hq cB T n P pn V vn rv fv mv ++ wM o ot op ow oz cI cZ T n P pn V vn en td z) := hD
        refine lv_icmp_eq (tgt := 247) hx hb d_law_242 (by decide) (fun c9 => ?_) (fun c9 => ?_)
        · refine lv_iinc (v := (nI (i + 6))) (lv' := [(3, .int (nI (i + 6))), (0, .ref b), (1, .ref h), (2, .ref o)]) hx hb d_law_247 hl (k := 3) rfl (nI_add i 6) (by decide) rfl (fun ls hl => ?_)
          refine lv_goto (tgt := 18) hx hb d_law_250 (by decide) ?_
          exact ih (i + 6) (by omega) (by omega) T n P pn V vn hT8 hn hP8 hpn hV8 hvn rv fv mv en td z H locs ls hP hD hS (lv_sub hl [1, 2, 3, 0] rfl)
        · exact absurd rfl c9
      · refine lv_tableOut (tgt := 247) hx hb d_law_33 (by decide +kernel) (by decide) ?_
        refine lv_iinc (v := (nI (i + 6))) (lv' := [(3, .int (nI (i + 6))), (0, .ref b), (1, .ref h), (2, .ref o)]) hx hb d_law_247 hl (k := 3) rfl (nI_add i 6) (by decide) rfl (fun ls hl => ?_)
        refine lv_goto (tgt := 18) hx hb d_law_250 (by decide) ?_
        exact ih (i + 6) (by omega) (by omega) T n P pn V vn hT8 hn hP8 hpn hV8 hvn rv fv mv en td z H locs ls hP hD hS (lv_sub hl [1, 2, 3, 0] rfl)
set_option maxHeartbeats 4000000 in
set_option maxRecDepth 100000 in
/-- THE LAW, from its entry -/
theorem whole_start {p : Program} {e : Env} {s : State} {m : MethodId} {below : List Frame} {meth : Method} {c : Code} (l : Launch) {b L : Nat} {xs : Nat → Int32} (hL : L ≤ 3072) (C0 : lw_At p s m meth c b L xs) : W p l e room_1 s m #[Value.ref b] below meth c s.heap [] 0 0 (lw_Z below #[Value.ref b] s) (entryFrame m ([Value.ref b] : List Value).toArray 4) := by
  obtain ⟨hx, hb, hr, hml, hown, htl, hX, hbl, hlocks, hgv⟩ := id C0
  have hts : ∀ w ∈ gw, w.before #[Value.ref b] s = true := fun w h9 => htl w (List.mem_filter.mp h9).1
  have S : CallFix p m c code 4 s #[Value.ref b] gw R_law := ⟨hx, hb, hml, hown, hts⟩
  have hNest : va_Nw (.methodLinkNest R_Wc 21 y_Pt_init R_Wc) s := va_Nw.of rfl (htl _ k_nest)
  have hA : ∀ q : Nat, s.heap.size ≤ q → (fun q : Nat => s.heap.size ≤ q) q := fun _ h9 => h9
  obtain ⟨c0, iS0, hKn0⟩ := u_known (C := R_Pt) (T := F_Pt) (N := 3) (n := 3) hts i_Pt (hts _ k_inst_Pt)
  obtain ⟨c1, iS1, hKn1⟩ := u_known (C := R_Wc) (T := F_Wc) (N := 7) (n := 7) hts i_Wc (hts _ k_inst_Wc)
  obtain ⟨c2, iS2, hKn2⟩ := u_known (C := R_Mo) (T := F_Mo) (N := 9) (n := 9) hts i_Mo (hts _ k_inst_Mo)
  obtain ⟨D, hKd⟩ : ∃ D : va_G, ∀ (k : Nat) (q : vw_C), classes[k]? = some q → u_Kn s q.1 q.2.1 q.2.2 (D.1 k) (D.2 k) := by
    refine ⟨(fun k => if k = 0 then c0 else if k = 1 then c1 else c2, fun k => if k = 0 then iS0 else if k = 1 then iS1 else iS2), ?_⟩
    intro k q hq
    match k, hq with
    | 0, hq => cases hq; exact hKn0
    | 1, hq => cases hq; exact hKn1
    | 2, hq => cases hq; exact hKn2
    | k + 3, hq => simp [classes] at hq
  have hS : va_S (fun q : Nat => s.heap.size ≤ q) s.heap s.heap [] := va_S.rf
  have hK : va_K D classes [] s := ⟨hKd, fun k q h9 => by simp at h9⟩
  have hP : va_P D classes [] s.heap := fun k q h9 => by simp at h9
  have hD : va_D (fun q : Nat => s.heap.size ≤ q) [] := ⟨fun i j p q h9 => by simp at h9, fun k q h9 => by simp at h9⟩
  have hl := lv_entry ([.ref b]) (n := 4) (Nat.le_of_ble_eq_true rfl)
  rw [lg_entry_eq]
  generalize (lg_sl ([.ref b]) ++ List.replicate (4 - (lg_sl ([.ref b])).length) Slot.unset).toArray = ls at hl ⊢
  have hl : lv_has ls 4 [(0, .ref b)] := hl
  refine va_new (ci := 1) (fs := [.null, .int (nI 0), .null, .null, .int (nI 0), .int (nI 0), .null]) (C := R_Wc) (T := F_Wc) (N := 7) hx hb hts i_Wc t_Wc t_Wc_ok hown (hts _ k_cl_law_7) (hts _ k_inst_Wc) (hts _ k_ini_Wc) hK hP hD hS hA rfl (fun j hj => by rcases (show j = 0 ∨ j = 1 ∨ j = 2 ∨ j = 3 ∨ j = 4 ∨ j = 5 ∨ j = 6 by omega) with rfl | rfl | rfl | rfl | rfl | rfl | rfl <;> rfl) (Nat.le_of_ble_eq_true rfl) (Nat.le_of_ble_eq_true rfl) d_law_0 (fun h H hP hD hS => ?_)
  have hP : va_P D classes (wc_in h) H := hP
  have hD : va_D (fun q : Nat => s.heap.size ≤ q) (wc_in h) := hD
  refine W.widen (k := 1) (n := 7) (by decide) (by decide) ?_
  refine lv_dup hx hb d_law_3 rfl ?_
  have hFc := va_free (wc := wc_in h) hD hS hA [0] rfl
  refine va_callv (va_runI (As := []) (rest := [.ref h]) S (c_Wc_init l D h H.size) (cwI 0 hts (gw_good k_code_Wc_init) rfl rfl rfl (hts _ k_ini_Wc) (hts _ k_ml_law_9) (hts _ k_im_Wc_init) rfl (by decide +kernel) ⟨Nat.le_of_ble_eq_true rfl, Nat.le_of_ble_eq_true rfl⟩) ⟨Pc_Wc_blind, fun U hU hW => ⟨rfl, by rw [hU], by rw [hU]; exact hP, va_K.moved hW.alike hK, hD.weaken (fun _ _ _ _ => trivial), va_Nw.warmM hW hNest⟩⟩ rfl rfl hl.1 rfl (lv_room (Nat.le_of_ble_eq_true rfl)) d_law_4 ⟨Nat.le_of_ble_eq_true rfl, Nat.le_of_ble_eq_true rfl⟩) hS (fun q _ h9 => hFc q h9) hFc (fun u t H1 locs ht9 hvm hw9 hB hz1 hk1 hS => ?_)
  obtain ⟨ht, hp, hw, hq, cB, hP1, hK1, hD1⟩ := hB
  rw [ht9] at hP1
  have hKb := va_K.moved hvm.symm hK1
  obtain ⟨hP, hD⟩ := va_join (wr := []) (w1 := wC h ht hp hw hq cB (fun _ => 0) 0 (fun _ => 0) 0 (fun _ => 0) 0 .null (.int (nI 0)) (.int (nI 0))) hP hD [0] [] rfl rfl (by decide) (by decide) hk1 hFc hP1 hD1
  generalize H1 = H at hP hS ⊢
  have hP : va_P D classes (wC h ht hp hw hq cB (fun _ => 0) 0 (fun _ => 0) 0 (fun _ => 0) 0 .null (.int (nI 0)) (.int (nI 0))) H := hP
  have hD : va_D (fun q : Nat => s.heap.size ≤ q) (wC h ht hp hw hq cB (fun _ => 0) 0 (fun _ => 0) 0 (fun _ => 0) 0 .null (.int (nI 0)) (.int (nI 0))) := hD
  refine W.widen (k := 5) (n := 1210) (by decide) (by decide) ?_
  refine lv_astore_n (lv' := [(1, .ref h), (0, .ref b)]) hx hb d_law_7 rfl hl (by decide) rfl (fun ls hl => ?_)
  refine va_new (ci := 2) (fs := [.null, .null, .null, .int (nI 0), .int (nI 0), .int (nI 0), .int (nI 0), .int (nI 0), .null]) (C := R_Mo) (T := F_Mo) (N := 9) hx hb hts i_Mo t_Mo t_Mo_ok hown (hts _ k_cl_law_10) (hts _ k_inst_Mo) (hts _ k_ini_Mo) hK hP hD hS hA rfl (fun j hj => by rcases (show j = 0 ∨ j = 1 ∨ j = 2 ∨ j = 3 ∨ j = 4 ∨ j = 5 ∨ j = 6 ∨ j = 7 ∨ j = 8 by omega) with rfl | rfl | rfl | rfl | rfl | rfl | rfl | rfl | rfl <;> rfl) (Nat.le_of_ble_eq_true rfl) (Nat.le_of_ble_eq_true rfl) d_law_8 (fun o H hP hD hS => ?_)
  have hP : va_P D classes (wC h ht hp hw hq cB (fun _ => 0) 0 (fun _ => 0) 0 (fun _ => 0) 0 .null (.int (nI 0)) (.int (nI 0)) ++ wm_in o) H := hP
  have hD : va_D (fun q : Nat => s.heap.size ≤ q) (wC h ht hp hw hq cB (fun _ => 0) 0 (fun _ => 0) 0 (fun _ => 0) 0 .null (.int (nI 0)) (.int (nI 0)) ++ wm_in o) := hD
  refine W.widen (k := 6) (n := 1219) (by decide) (by decide) ?_
  refine lv_dup hx hb d_law_11 rfl ?_
  have hPc := hP.sub (ws' := wm_in o) [5] rfl
  have hDc := hD.sub (ws' := wm_in o) [5] (by decide) rfl
  have hFc := va_free (wc := wm_in o) hD hS hA [5] rfl
  refine va_callv (va_runI (As := []) (rest := [.ref o]) S (c_Mo_init l D o H.size) (cwI 0 hts (gw_good k_code_Mo_init) rfl rfl rfl (hts _ k_ini_Mo) (hts _ k_ml_law_12) (hts _ k_im_Mo_init) rfl (by decide +kernel) ⟨Nat.le_of_ble_eq_true rfl, Nat.le_of_ble_eq_true rfl⟩) ⟨Pc_Mo_blind, fun U hU hW => ⟨rfl, by rw [hU], by rw [hU]; exact hPc, va_K.moved hW.alike hK, hDc.weaken (fun _ _ _ _ => trivial)⟩⟩ rfl rfl hl.1 rfl (lv_room (Nat.le_of_ble_eq_true rfl)) d_law_12 ⟨Nat.le_of_ble_eq_true rfl, Nat.le_of_ble_eq_true rfl⟩) hS (fun q _ h9 => hFc q h9) hFc (fun u t H1 locs ht9 hvm hw9 hB hz1 hk1 hS => ?_)
  obtain ⟨ot, op, ow, oz, cI, cZ, hP1, hK1, hD1⟩ := hB
  rw [ht9] at hP1
  have hKm := va_K.moved hvm.symm hK1
  obtain ⟨hP, hD⟩ := va_join (wr := wC h ht hp hw hq cB (fun _ => 0) 0 (fun _ => 0) 0 (fun _ => 0) 0 .null (.int (nI 0)) (.int (nI 0))) (w1 := wM o ot op ow oz cI cZ (fun _ => 0) 0 (fun _ => 0) 0 (fun _ => 0) 0 (nI 0) (nI 0) (fun _ => nI 0)) hP hD [5] [0, 1, 2, 3, 4] rfl rfl (by decide) (by decide) hk1 hFc hP1 hD1
  generalize H1 = H at hP hS ⊢
  have hK : va_K D classes (TY cB cI cZ) s := hKb.app hKm
  refine W.widen (k := 10) (n := 2820) (by decide) (by decide) ?_
  refine lv_astore_n (lv' := [(2, .ref o), (1, .ref h), (0, .ref b)]) hx hb d_law_15 rfl hl (by decide) rfl (fun ls hl => ?_)
  refine lv_iconst (v := nI 0) hx hb d_law_16 (by decide +kernel) ?_
  refine lv_istore_n (lv' := [(3, .int (nI 0)), (2, .ref o), (1, .ref h), (0, .ref b)]) hx hb d_law_17 rfl hl (by decide) rfl (fun ls hl => ?_)
  exact law_loop hL C0 hK (L + 8) 0 (by omega) (by omega) _ 0 _ 0 _ 0 (fun _ => by decide) (by decide) (fun _ => by decide) (by decide) (fun _ => by decide) (by decide) _ _ _ _ _ _ H locs ls hP hD hS (lv_sub hl [3, 2, 1, 0] rfl)
end
section
-- the skeleton's end (starting text)
set_option maxHeartbeats 4000000 in
theorem lw_walk (l : Launch) (b : Addr) (xs : List Int32) : MetFree l x (headSpec (Jvm.Cond.code x code maxLocals ret :: tables_1) room_1) (lw_P b xs) (fun _ _ _ _ _ => True) lw_Q := by
  refine MetFree.of_bodyS (code := code) (maxLocals := maxLocals) (ret := ret) (by decide) ?_ ?_
  · intro args s m h hn
    obtain ⟨meth, c, h1, h2, h3, h4, h5, h6, -, -⟩ := Cond.code_spec hn (atoms_spec (ws := Jvm.Cond.code x code maxLocals ret :: tables_1) h _ List.mem_cons_self)
    exact ⟨meth, c, h1, h2, h3, h4, h5, h6⟩
  · intro p e s m args below meth c s₁ B hml0 hP _
    obtain ⟨rfl, hx, hbd, hgv⟩ := hP
    obtain ⟨scr, harrAt, hlist, hof, hsmall⟩ := hx
    obtain ⟨hcb, hkn, -, -⟩ := State.arrayAt?_spec harrAt
    have hown : s.vm.findClass R_law = some m.cls := findClass_of_methodNamed B.named
    have hts0 : ∀ c ∈ (Jvm.Cond.code x code maxLocals ret :: tables_1), c.before #[Value.ref b] s = true := atoms_spec (ws := Jvm.Cond.code x code maxLocals ret :: tables_1) B.pre
    have hts : ∀ w ∈ lw_tbl, w.before #[Value.ref b] s = true := k2_hts_sels lw_privs (fun w hw => hts0 w (List.mem_cons_of_mem _ hw)) lw_privs_ok
    have hml : c.maxLocals = 4 := B.maxLocals_eq (hts0 _ List.mem_cons_self)
    have X₀ : Stand p l e room_1 s m #[Value.ref b] below meth c s₁ [] 0 0 := Stand.of_body B
    have hh0 : s₁.heap = s.heap := by rw [B.state]; rfl
    have hsz : scr.slots.size = xs.length := by rw [← Array.length_toList, hlist, List.length_map]
    have hval : ∀ j : Nat, j < xs.length → scr.slots[j]? = some (.int (xs.getD j 0)) := fun j hj => by
      rw [← Array.getElem?_toList, hlist]
      simp [hj]
    have hbl : b < s.heap.size := (Array.getElem?_eq_some_iff.mp hcb).1
    have hX : va_X b xs.length (fun j => xs.getD j 0) s s.heap := ⟨scr, hcb, hof, hkn, hsz, hval⟩
    have K : W p l e room_1 s m #[Value.ref b] below meth c s₁.heap [] 0 0 (lw_Z below #[Value.ref b] s) (entryFrame m ([Value.ref b] : List Value).toArray 4) := by
      rw [hh0]
      exact whole_start l hbd ⟨B.exec, B.bytes, B.returns, hml, hown, hts, hX, hbl, B.notSynchronized, hgv⟩
    obtain ⟨t, a1, o, b1, b2, b3⟩ := K s₁ rfl X₀
    exact ⟨t, o, a1, b1, b2, b3⟩
theorem lw_pre_spec {args : Array Value} {s : State} (h : (Jvm.Cond.and given_1 narrow_1).before args s = true) (hr : rest_1_c.before args s = true) : ∃ (b : Addr) (xs : List Int32), lw_P b xs args s := by
  have hs := flat_of_before _ h
  have hq := flat_of_before _ hr
  have hc : (Cond.count 1).before args s = true := hs _ (by decide +kernel)
  have harr : (Cond.arrayOf (.arg 0) .int).before args s = true := hs _ (by decide +kernel)
  have hle : (Cond.le (.length (.arg 0)) (.int 3072)).before args s = true := hs _ (by decide +kernel)
  have hlen : (Cond.isInt (.length (.arg 0))).before args s = true := hq _ (by decide +kernel)
  have hall : (Cond.all (.arg 0) (.isInt (.elem (.arg 0) (.index 0)))).before args s = true := hq _ (by decide +kernel)
  obtain ⟨b, xs, hb, hx⟩ := State.ints_of_pre rfl harr hlen hall
  have hsm : xs.length < 2 ^ 31 := hx.choose_spec.2.2.2
  have hev : (Term.length (.arg 0)).eval args s none [] s = some (.int xs.length.toInt32) := hx.length_eval hb
  have hv := Cond.le_ints hev (show (Term.int 3072).eval args s none [] s = some (.int 3072) from rfl)
  have hd : xs.length.toInt32 ≤ 3072 := by
    simpa [Cond.before, Cond.holds, hv] using hle
  have hN : xs.length ≤ 3072 := (Int32.ofNat_le_ofNat hsm (by decide)).mp (show Int32.ofNat xs.length ≤ Int32.ofNat 3072 from hd)
  exact ⟨b, xs, Cond.one_arg hc (show args[0]? = some (.ref b) from hb), hx, hN, h⟩
theorem lw_comes (l : Launch) : Comes l x (Jvm.Cond.code x code maxLocals ret :: tables_1) room_1 (fun tb e args s => Calls_1 tb e args s ∧ rest_1 tb e args s ∧ Pre_1 tb e args s)
    (fun _ _ args s o t => lw_Q args s o t) := by
  intro p e ha hc hk s m args below hf hfit hheap happ hpre
  obtain ⟨b, xs, hP⟩ := lw_pre_spec hpre.2.2 hpre.2.1
  obtain ⟨k, o, h1, h2, h3, hQ⟩ := lw_walk l b xs p e ha hc hk s m args below hf ((Spec.applies_iff_loose hf).mp happ).1 hP trivial
  exact ⟨k, o, h1, h2, h3, hQ⟩
theorem lw_frame {s t : State} {o : Outcome} {args : Array Value} (h : Framed s o t [] 10 2820) :
    Framed s o t (fieldLocs frame_1_writes args s ++ arrayLocs frame_1_arrays args s ++ staticLocs frame_1_statics s) 10 2820 := h
theorem lw_limb (L : Cond) (hL : ∀ (args : Array Value) (s t : State), L.after args s (.returned (some (.int 1))) t = true) :
    ArmFor flags0 classFile x code maxLocals ret World_1 tables_1 room_1 Calls_1 rest_1 Pre_1
      (fun tb e a s o t => postC L tb e a s o t ∧ Framed s o t (fieldLocs frame_1_writes a s ++ arrayLocs frame_1_arrays a s ++ staticLocs frame_1_statics s) 10 2820) := by
  intro l _ _ _ p e ha hc hk s m args below hf hfit hheap happ hpre
  obtain ⟨k, o, h1, h2, h3, rfl, hF⟩ := lw_comes l p e ha hc hk s m args below hf hfit hheap happ hpre
  exact ⟨k, _, h1, h2, h3, hL args s _, lw_frame hF⟩
theorem i_vc : Claimed_1_1 ∧ Claimed_1_2 := ⟨lw_limb limb_1_1 (fun args s t => by simp [limb_1_1, Cond.after, Cond.holds, Cond.value]), lw_limb limb_1_2 (fun args s t => Cond.after_iff.mpr (by
  first | (rw [show limb_1_2 = Cond.eq .result (.int 1) from rfl, Cond.eq_ints (x := 1) (y := 1) rfl rfl]; simp; done) | (simp [limb_1_2, Cond.value, Term.eval]; done)))⟩
end
